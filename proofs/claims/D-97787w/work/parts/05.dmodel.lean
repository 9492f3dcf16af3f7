set_option maxRecDepth 100000
def dkwX6_init_8 : List UInt8 := [132, 1, 1, 167, 255, 241, 42, 5, 181, 0, 73, 177]
abbrev dktX6_init_8 : List UInt8 := dkwX6_init_8 ++ []
def dkwX6_init_7 : List UInt8 := [42, 16, 41, 188, 10, 181, 0, 70, 3, 60, 27, 7, 162, 0, 16, 42, 180, 0, 7, 27, 2, 79]
abbrev dktX6_init_7 : List UInt8 := dkwX6_init_7 ++ dktX6_init_8
def dkwX6_init_6 : List UInt8 := [42, 16, 12, 188, 10, 181, 0, 61, 42, 16, 12, 188, 10, 181, 0, 64, 42, 16, 80, 188, 10, 181, 0, 67]
abbrev dktX6_init_6 : List UInt8 := dkwX6_init_6 ++ dktX6_init_7
def dkwX6_init_5 : List UInt8 := [42, 16, 6, 188, 10, 181, 0, 52, 42, 16, 6, 188, 10, 181, 0, 55, 42, 16, 12, 188, 10, 181, 0, 58]
abbrev dktX6_init_5 : List UInt8 := dkwX6_init_5 ++ dktX6_init_6
def dkwX6_init_4 : List UInt8 := [16, 7, 188, 10, 181, 0, 43, 42, 17, 0, 240, 188, 10, 181, 0, 46, 42, 16, 6, 188, 10, 181, 0, 49]
abbrev dktX6_init_4 : List UInt8 := dkwX6_init_4 ++ dktX6_init_5
def dkwX6_init_3 : List UInt8 := [188, 10, 181, 0, 34, 42, 16, 48, 188, 10, 181, 0, 37, 42, 17, 1, 24, 188, 10, 181, 0, 40, 42]
abbrev dktX6_init_3 : List UInt8 := dkwX6_init_3 ++ dktX6_init_4
def dkwX6_init_2 : List UInt8 := [181, 0, 25, 42, 17, 0, 240, 188, 10, 181, 0, 28, 42, 16, 6, 188, 10, 181, 0, 31, 42, 16, 18]
abbrev dktX6_init_2 : List UInt8 := dkwX6_init_2 ++ dktX6_init_3
def dkwX6_init_1 : List UInt8 := [181, 0, 16, 42, 16, 60, 188, 10, 181, 0, 19, 42, 16, 120, 188, 10, 181, 0, 22, 42, 5, 188, 10]
abbrev dktX6_init_1 : List UInt8 := dkwX6_init_1 ++ dktX6_init_2
def dkwX6_init_0 : List UInt8 := [42, 183, 0, 1, 42, 7, 188, 10, 181, 0, 7, 42, 7, 188, 10, 181, 0, 13, 42, 17, 0, 240, 188, 10]
abbrev dktX6_init_0 : List UInt8 := dkwX6_init_0 ++ dktX6_init_1
theorem dksX6_init_0 : cX6_init.data.toList.drop 0 = dktX6_init_0 := by decide +kernel
theorem dksX6_init_1 : cX6_init.data.toList.drop 24 = dktX6_init_1 := dk_seg dksX6_init_0 24 rfl rfl
theorem dksX6_init_2 : cX6_init.data.toList.drop 47 = dktX6_init_2 := dk_seg dksX6_init_1 23 rfl rfl
theorem dksX6_init_3 : cX6_init.data.toList.drop 70 = dktX6_init_3 := dk_seg dksX6_init_2 23 rfl rfl
theorem dksX6_init_4 : cX6_init.data.toList.drop 93 = dktX6_init_4 := dk_seg dksX6_init_3 23 rfl rfl
theorem dksX6_init_5 : cX6_init.data.toList.drop 117 = dktX6_init_5 := dk_seg dksX6_init_4 24 rfl rfl
theorem dksX6_init_6 : cX6_init.data.toList.drop 141 = dktX6_init_6 := dk_seg dksX6_init_5 24 rfl rfl
theorem dksX6_init_7 : cX6_init.data.toList.drop 165 = dktX6_init_7 := dk_seg dksX6_init_6 24 rfl rfl
theorem dksX6_init_8 : cX6_init.data.toList.drop 187 = dktX6_init_8 := dk_seg dksX6_init_7 22 rfl rfl
theorem dX6_init_0 : decode cX6_init 0 = .ok (.aload_n 0, 1) := dk_42 (dk_at dksX6_init_0 0 rfl rfl)
theorem dX6_init_1 : decode cX6_init 1 = .ok (.invokespecial 1, 3) := dk_183 0 1 (dk_at dksX6_init_0 1 rfl rfl)
theorem dX6_init_4 : decode cX6_init 4 = .ok (.aload_n 0, 1) := dk_42 (dk_at dksX6_init_0 4 rfl rfl)
theorem dX6_init_5 : decode cX6_init 5 = .ok (.iconst 4, 1) := dk_7 (dk_at dksX6_init_0 5 rfl rfl)
theorem dX6_init_6 : decode cX6_init 6 = .ok (.newarray .int, 2) := dk_188_10 (dk_at dksX6_init_0 6 rfl rfl)
theorem dX6_init_8 : decode cX6_init 8 = .ok (.putfield 7, 3) := dk_181 0 7 (dk_at dksX6_init_0 8 rfl rfl)
theorem dX6_init_11 : decode cX6_init 11 = .ok (.aload_n 0, 1) := dk_42 (dk_at dksX6_init_0 11 rfl rfl)
theorem dX6_init_12 : decode cX6_init 12 = .ok (.iconst 4, 1) := dk_7 (dk_at dksX6_init_0 12 rfl rfl)
theorem dX6_init_13 : decode cX6_init 13 = .ok (.newarray .int, 2) := dk_188_10 (dk_at dksX6_init_0 13 rfl rfl)
theorem dX6_init_15 : decode cX6_init 15 = .ok (.putfield 13, 3) := dk_181 0 13 (dk_at dksX6_init_0 15 rfl rfl)
theorem dX6_init_18 : decode cX6_init 18 = .ok (.aload_n 0, 1) := dk_42 (dk_at dksX6_init_0 18 rfl rfl)
theorem dX6_init_19 : decode cX6_init 19 = .ok (.sipush 240, 3) := dk_17 0 240 (dk_at dksX6_init_0 19 rfl rfl)
theorem dX6_init_22 : decode cX6_init 22 = .ok (.newarray .int, 2) := dk_188_10 (dk_at dksX6_init_0 22 rfl rfl)
theorem dX6_init_24 : decode cX6_init 24 = .ok (.putfield 16, 3) := dk_181 0 16 (dk_at dksX6_init_1 0 rfl rfl)
theorem dX6_init_27 : decode cX6_init 27 = .ok (.aload_n 0, 1) := dk_42 (dk_at dksX6_init_1 3 rfl rfl)
theorem dX6_init_28 : decode cX6_init 28 = .ok (.bipush 60, 2) := dk_16 60 (dk_at dksX6_init_1 4 rfl rfl)
theorem dX6_init_30 : decode cX6_init 30 = .ok (.newarray .int, 2) := dk_188_10 (dk_at dksX6_init_1 6 rfl rfl)
theorem dX6_init_32 : decode cX6_init 32 = .ok (.putfield 19, 3) := dk_181 0 19 (dk_at dksX6_init_1 8 rfl rfl)
theorem dX6_init_35 : decode cX6_init 35 = .ok (.aload_n 0, 1) := dk_42 (dk_at dksX6_init_1 11 rfl rfl)
theorem dX6_init_36 : decode cX6_init 36 = .ok (.bipush 120, 2) := dk_16 120 (dk_at dksX6_init_1 12 rfl rfl)
theorem dX6_init_38 : decode cX6_init 38 = .ok (.newarray .int, 2) := dk_188_10 (dk_at dksX6_init_1 14 rfl rfl)
theorem dX6_init_40 : decode cX6_init 40 = .ok (.putfield 22, 3) := dk_181 0 22 (dk_at dksX6_init_1 16 rfl rfl)
theorem dX6_init_43 : decode cX6_init 43 = .ok (.aload_n 0, 1) := dk_42 (dk_at dksX6_init_1 19 rfl rfl)
theorem dX6_init_44 : decode cX6_init 44 = .ok (.iconst 2, 1) := dk_5 (dk_at dksX6_init_1 20 rfl rfl)
theorem dX6_init_45 : decode cX6_init 45 = .ok (.newarray .int, 2) := dk_188_10 (dk_at dksX6_init_1 21 rfl rfl)
theorem dX6_init_47 : decode cX6_init 47 = .ok (.putfield 25, 3) := dk_181 0 25 (dk_at dksX6_init_2 0 rfl rfl)
theorem dX6_init_50 : decode cX6_init 50 = .ok (.aload_n 0, 1) := dk_42 (dk_at dksX6_init_2 3 rfl rfl)
theorem dX6_init_51 : decode cX6_init 51 = .ok (.sipush 240, 3) := dk_17 0 240 (dk_at dksX6_init_2 4 rfl rfl)
theorem dX6_init_54 : decode cX6_init 54 = .ok (.newarray .int, 2) := dk_188_10 (dk_at dksX6_init_2 7 rfl rfl)
theorem dX6_init_56 : decode cX6_init 56 = .ok (.putfield 28, 3) := dk_181 0 28 (dk_at dksX6_init_2 9 rfl rfl)
theorem dX6_init_59 : decode cX6_init 59 = .ok (.aload_n 0, 1) := dk_42 (dk_at dksX6_init_2 12 rfl rfl)
theorem dX6_init_60 : decode cX6_init 60 = .ok (.bipush 6, 2) := dk_16 6 (dk_at dksX6_init_2 13 rfl rfl)
theorem dX6_init_62 : decode cX6_init 62 = .ok (.newarray .int, 2) := dk_188_10 (dk_at dksX6_init_2 15 rfl rfl)
theorem dX6_init_64 : decode cX6_init 64 = .ok (.putfield 31, 3) := dk_181 0 31 (dk_at dksX6_init_2 17 rfl rfl)
theorem dX6_init_67 : decode cX6_init 67 = .ok (.aload_n 0, 1) := dk_42 (dk_at dksX6_init_2 20 rfl rfl)
theorem dX6_init_68 : decode cX6_init 68 = .ok (.bipush 18, 2) := dk_16 18 (dk_at dksX6_init_2 21 rfl rfl)
theorem dX6_init_70 : decode cX6_init 70 = .ok (.newarray .int, 2) := dk_188_10 (dk_at dksX6_init_3 0 rfl rfl)
theorem dX6_init_72 : decode cX6_init 72 = .ok (.putfield 34, 3) := dk_181 0 34 (dk_at dksX6_init_3 2 rfl rfl)
theorem dX6_init_75 : decode cX6_init 75 = .ok (.aload_n 0, 1) := dk_42 (dk_at dksX6_init_3 5 rfl rfl)
theorem dX6_init_76 : decode cX6_init 76 = .ok (.bipush 48, 2) := dk_16 48 (dk_at dksX6_init_3 6 rfl rfl)
theorem dX6_init_78 : decode cX6_init 78 = .ok (.newarray .int, 2) := dk_188_10 (dk_at dksX6_init_3 8 rfl rfl)
theorem dX6_init_80 : decode cX6_init 80 = .ok (.putfield 37, 3) := dk_181 0 37 (dk_at dksX6_init_3 10 rfl rfl)
theorem dX6_init_83 : decode cX6_init 83 = .ok (.aload_n 0, 1) := dk_42 (dk_at dksX6_init_3 13 rfl rfl)
theorem dX6_init_84 : decode cX6_init 84 = .ok (.sipush 280, 3) := dk_17 1 24 (dk_at dksX6_init_3 14 rfl rfl)
theorem dX6_init_87 : decode cX6_init 87 = .ok (.newarray .int, 2) := dk_188_10 (dk_at dksX6_init_3 17 rfl rfl)
theorem dX6_init_89 : decode cX6_init 89 = .ok (.putfield 40, 3) := dk_181 0 40 (dk_at dksX6_init_3 19 rfl rfl)
theorem dX6_init_92 : decode cX6_init 92 = .ok (.aload_n 0, 1) := dk_42 (dk_at dksX6_init_3 22 rfl rfl)
theorem dX6_init_93 : decode cX6_init 93 = .ok (.bipush 7, 2) := dk_16 7 (dk_at dksX6_init_4 0 rfl rfl)
theorem dX6_init_95 : decode cX6_init 95 = .ok (.newarray .int, 2) := dk_188_10 (dk_at dksX6_init_4 2 rfl rfl)
theorem dX6_init_97 : decode cX6_init 97 = .ok (.putfield 43, 3) := dk_181 0 43 (dk_at dksX6_init_4 4 rfl rfl)
theorem dX6_init_100 : decode cX6_init 100 = .ok (.aload_n 0, 1) := dk_42 (dk_at dksX6_init_4 7 rfl rfl)
theorem dX6_init_101 : decode cX6_init 101 = .ok (.sipush 240, 3) := dk_17 0 240 (dk_at dksX6_init_4 8 rfl rfl)
theorem dX6_init_104 : decode cX6_init 104 = .ok (.newarray .int, 2) := dk_188_10 (dk_at dksX6_init_4 11 rfl rfl)
theorem dX6_init_106 : decode cX6_init 106 = .ok (.putfield 46, 3) := dk_181 0 46 (dk_at dksX6_init_4 13 rfl rfl)
theorem dX6_init_109 : decode cX6_init 109 = .ok (.aload_n 0, 1) := dk_42 (dk_at dksX6_init_4 16 rfl rfl)
theorem dX6_init_110 : decode cX6_init 110 = .ok (.bipush 6, 2) := dk_16 6 (dk_at dksX6_init_4 17 rfl rfl)
theorem dX6_init_112 : decode cX6_init 112 = .ok (.newarray .int, 2) := dk_188_10 (dk_at dksX6_init_4 19 rfl rfl)
theorem dX6_init_114 : decode cX6_init 114 = .ok (.putfield 49, 3) := dk_181 0 49 (dk_at dksX6_init_4 21 rfl rfl)
theorem dX6_init_117 : decode cX6_init 117 = .ok (.aload_n 0, 1) := dk_42 (dk_at dksX6_init_5 0 rfl rfl)
theorem dX6_init_118 : decode cX6_init 118 = .ok (.bipush 6, 2) := dk_16 6 (dk_at dksX6_init_5 1 rfl rfl)
theorem dX6_init_120 : decode cX6_init 120 = .ok (.newarray .int, 2) := dk_188_10 (dk_at dksX6_init_5 3 rfl rfl)
theorem dX6_init_122 : decode cX6_init 122 = .ok (.putfield 52, 3) := dk_181 0 52 (dk_at dksX6_init_5 5 rfl rfl)
theorem dX6_init_125 : decode cX6_init 125 = .ok (.aload_n 0, 1) := dk_42 (dk_at dksX6_init_5 8 rfl rfl)
theorem dX6_init_126 : decode cX6_init 126 = .ok (.bipush 6, 2) := dk_16 6 (dk_at dksX6_init_5 9 rfl rfl)
theorem dX6_init_128 : decode cX6_init 128 = .ok (.newarray .int, 2) := dk_188_10 (dk_at dksX6_init_5 11 rfl rfl)
theorem dX6_init_130 : decode cX6_init 130 = .ok (.putfield 55, 3) := dk_181 0 55 (dk_at dksX6_init_5 13 rfl rfl)
theorem dX6_init_133 : decode cX6_init 133 = .ok (.aload_n 0, 1) := dk_42 (dk_at dksX6_init_5 16 rfl rfl)
theorem dX6_init_134 : decode cX6_init 134 = .ok (.bipush 12, 2) := dk_16 12 (dk_at dksX6_init_5 17 rfl rfl)
theorem dX6_init_136 : decode cX6_init 136 = .ok (.newarray .int, 2) := dk_188_10 (dk_at dksX6_init_5 19 rfl rfl)
theorem dX6_init_138 : decode cX6_init 138 = .ok (.putfield 58, 3) := dk_181 0 58 (dk_at dksX6_init_5 21 rfl rfl)
theorem dX6_init_141 : decode cX6_init 141 = .ok (.aload_n 0, 1) := dk_42 (dk_at dksX6_init_6 0 rfl rfl)
theorem dX6_init_142 : decode cX6_init 142 = .ok (.bipush 12, 2) := dk_16 12 (dk_at dksX6_init_6 1 rfl rfl)
theorem dX6_init_144 : decode cX6_init 144 = .ok (.newarray .int, 2) := dk_188_10 (dk_at dksX6_init_6 3 rfl rfl)
theorem dX6_init_146 : decode cX6_init 146 = .ok (.putfield 61, 3) := dk_181 0 61 (dk_at dksX6_init_6 5 rfl rfl)
theorem dX6_init_149 : decode cX6_init 149 = .ok (.aload_n 0, 1) := dk_42 (dk_at dksX6_init_6 8 rfl rfl)
theorem dX6_init_150 : decode cX6_init 150 = .ok (.bipush 12, 2) := dk_16 12 (dk_at dksX6_init_6 9 rfl rfl)
theorem dX6_init_152 : decode cX6_init 152 = .ok (.newarray .int, 2) := dk_188_10 (dk_at dksX6_init_6 11 rfl rfl)
theorem dX6_init_154 : decode cX6_init 154 = .ok (.putfield 64, 3) := dk_181 0 64 (dk_at dksX6_init_6 13 rfl rfl)
theorem dX6_init_157 : decode cX6_init 157 = .ok (.aload_n 0, 1) := dk_42 (dk_at dksX6_init_6 16 rfl rfl)
theorem dX6_init_158 : decode cX6_init 158 = .ok (.bipush 80, 2) := dk_16 80 (dk_at dksX6_init_6 17 rfl rfl)
theorem dX6_init_160 : decode cX6_init 160 = .ok (.newarray .int, 2) := dk_188_10 (dk_at dksX6_init_6 19 rfl rfl)
theorem dX6_init_162 : decode cX6_init 162 = .ok (.putfield 67, 3) := dk_181 0 67 (dk_at dksX6_init_6 21 rfl rfl)
theorem dX6_init_165 : decode cX6_init 165 = .ok (.aload_n 0, 1) := dk_42 (dk_at dksX6_init_7 0 rfl rfl)
theorem dX6_init_166 : decode cX6_init 166 = .ok (.bipush 41, 2) := dk_16 41 (dk_at dksX6_init_7 1 rfl rfl)
theorem dX6_init_168 : decode cX6_init 168 = .ok (.newarray .int, 2) := dk_188_10 (dk_at dksX6_init_7 3 rfl rfl)
theorem dX6_init_170 : decode cX6_init 170 = .ok (.putfield 70, 3) := dk_181 0 70 (dk_at dksX6_init_7 5 rfl rfl)
theorem dX6_init_173 : decode cX6_init 173 = .ok (.iconst 0, 1) := dk_3 (dk_at dksX6_init_7 8 rfl rfl)
theorem dX6_init_174 : decode cX6_init 174 = .ok (.istore_n 1, 1) := dk_60 (dk_at dksX6_init_7 9 rfl rfl)
theorem dX6_init_175 : decode cX6_init 175 = .ok (.iload_n 1, 1) := dk_27 (dk_at dksX6_init_7 10 rfl rfl)
theorem dX6_init_176 : decode cX6_init 176 = .ok (.iconst 4, 1) := dk_7 (dk_at dksX6_init_7 11 rfl rfl)
theorem dX6_init_177 : decode cX6_init 177 = .ok (.if_icmp .ge 16, 3) := dk_162 0 16 (dk_at dksX6_init_7 12 rfl rfl)
theorem dX6_init_180 : decode cX6_init 180 = .ok (.aload_n 0, 1) := dk_42 (dk_at dksX6_init_7 15 rfl rfl)
theorem dX6_init_181 : decode cX6_init 181 = .ok (.getfield 7, 3) := dk_180 0 7 (dk_at dksX6_init_7 16 rfl rfl)
theorem dX6_init_184 : decode cX6_init 184 = .ok (.iload_n 1, 1) := dk_27 (dk_at dksX6_init_7 19 rfl rfl)
theorem dX6_init_185 : decode cX6_init 185 = .ok (.iconst (-1), 1) := dk_2 (dk_at dksX6_init_7 20 rfl rfl)
theorem dX6_init_186 : decode cX6_init 186 = .ok (.iastore, 1) := dk_79 (dk_at dksX6_init_7 21 rfl rfl)
theorem dX6_init_187 : decode cX6_init 187 = .ok (.iinc 1 1, 3) := dk_132 1 1 (dk_at dksX6_init_8 0 rfl rfl)
theorem dX6_init_190 : decode cX6_init 190 = .ok (.goto (-15), 3) := dk_167 255 241 (dk_at dksX6_init_8 3 rfl rfl)
theorem dX6_init_193 : decode cX6_init 193 = .ok (.aload_n 0, 1) := dk_42 (dk_at dksX6_init_8 6 rfl rfl)
theorem dX6_init_194 : decode cX6_init 194 = .ok (.iconst 2, 1) := dk_5 (dk_at dksX6_init_8 7 rfl rfl)
theorem dX6_init_195 : decode cX6_init 195 = .ok (.putfield 73, 3) := dk_181 0 73 (dk_at dksX6_init_8 8 rfl rfl)
theorem dX6_init_198 : decode cX6_init 198 = .ok (.return_, 1) := dk_177 (dk_at dksX6_init_8 11 rfl rfl)
def dkwX6_sheet_3 : List UInt8 := [21, 4, 96, 3, 79, 132, 4, 1, 167, 255, 234, 29, 172]
abbrev dktX6_sheet_3 : List UInt8 := dkwX6_sheet_3 ++ []
def dkwX6_sheet_2 : List UInt8 := [180, 0, 13, 27, 29, 79, 3, 54, 4, 21, 4, 29, 162, 0, 22, 42, 180, 0, 16, 16, 60, 27, 104]
abbrev dktX6_sheet_2 : List UInt8 := dkwX6_sheet_2 ++ dktX6_sheet_3
def dkwX6_sheet_1 : List UInt8 := [164, 0, 6, 16, 254, 172, 29, 156, 0, 9, 42, 8, 182, 0, 94, 172, 42, 180, 0, 7, 27, 28, 79, 42]
abbrev dktX6_sheet_1 : List UInt8 := dkwX6_sheet_1 ++ dktX6_sheet_2
def dkwX6_sheet_0 : List UInt8 := [27, 184, 0, 88, 153, 0, 21, 28, 133, 9, 20, 0, 92, 184, 0, 79, 153, 0, 9, 29, 16, 60]
abbrev dktX6_sheet_0 : List UInt8 := dkwX6_sheet_0 ++ dktX6_sheet_1
theorem dksX6_sheet_0 : cX6_sheet.data.toList.drop 0 = dktX6_sheet_0 := by decide +kernel
theorem dksX6_sheet_1 : cX6_sheet.data.toList.drop 22 = dktX6_sheet_1 := dk_seg dksX6_sheet_0 22 rfl rfl
theorem dksX6_sheet_2 : cX6_sheet.data.toList.drop 46 = dktX6_sheet_2 := dk_seg dksX6_sheet_1 24 rfl rfl
theorem dksX6_sheet_3 : cX6_sheet.data.toList.drop 69 = dktX6_sheet_3 := dk_seg dksX6_sheet_2 23 rfl rfl
theorem dX6_sheet_0 : decode cX6_sheet 0 = .ok (.iload_n 1, 1) := dk_27 (dk_at dksX6_sheet_0 0 rfl rfl)
theorem dX6_sheet_1 : decode cX6_sheet 1 = .ok (.invokestatic 88, 3) := dk_184 0 88 (dk_at dksX6_sheet_0 1 rfl rfl)
theorem dX6_sheet_4 : decode cX6_sheet 4 = .ok (.ifCond .eq 21, 3) := dk_153 0 21 (dk_at dksX6_sheet_0 4 rfl rfl)
theorem dX6_sheet_7 : decode cX6_sheet 7 = .ok (.iload_n 2, 1) := dk_28 (dk_at dksX6_sheet_0 7 rfl rfl)
theorem dX6_sheet_8 : decode cX6_sheet 8 = .ok (.i2l, 1) := dk_133 (dk_at dksX6_sheet_0 8 rfl rfl)
theorem dX6_sheet_9 : decode cX6_sheet 9 = .ok (.lconst 0, 1) := dk_9 (dk_at dksX6_sheet_0 9 rfl rfl)
theorem dX6_sheet_10 : decode cX6_sheet 10 = .ok (.ldc2_w 92, 3) := dk_20 0 92 (dk_at dksX6_sheet_0 10 rfl rfl)
theorem dX6_sheet_13 : decode cX6_sheet 13 = .ok (.invokestatic 79, 3) := dk_184 0 79 (dk_at dksX6_sheet_0 13 rfl rfl)
theorem dX6_sheet_16 : decode cX6_sheet 16 = .ok (.ifCond .eq 9, 3) := dk_153 0 9 (dk_at dksX6_sheet_0 16 rfl rfl)
theorem dX6_sheet_19 : decode cX6_sheet 19 = .ok (.iload_n 3, 1) := dk_29 (dk_at dksX6_sheet_0 19 rfl rfl)
theorem dX6_sheet_20 : decode cX6_sheet 20 = .ok (.bipush 60, 2) := dk_16 60 (dk_at dksX6_sheet_0 20 rfl rfl)
theorem dX6_sheet_22 : decode cX6_sheet 22 = .ok (.if_icmp .le 6, 3) := dk_164 0 6 (dk_at dksX6_sheet_1 0 rfl rfl)
theorem dX6_sheet_25 : decode cX6_sheet 25 = .ok (.bipush (-2), 2) := dk_16 254 (dk_at dksX6_sheet_1 3 rfl rfl)
theorem dX6_sheet_27 : decode cX6_sheet 27 = .ok (.ireturn, 1) := dk_172 (dk_at dksX6_sheet_1 5 rfl rfl)
theorem dX6_sheet_28 : decode cX6_sheet 28 = .ok (.iload_n 3, 1) := dk_29 (dk_at dksX6_sheet_1 6 rfl rfl)
theorem dX6_sheet_29 : decode cX6_sheet 29 = .ok (.ifCond .ge 9, 3) := dk_156 0 9 (dk_at dksX6_sheet_1 7 rfl rfl)
theorem dX6_sheet_32 : decode cX6_sheet 32 = .ok (.aload_n 0, 1) := dk_42 (dk_at dksX6_sheet_1 10 rfl rfl)
theorem dX6_sheet_33 : decode cX6_sheet 33 = .ok (.iconst 5, 1) := dk_8 (dk_at dksX6_sheet_1 11 rfl rfl)
theorem dX6_sheet_34 : decode cX6_sheet 34 = .ok (.invokevirtual 94, 3) := dk_182 0 94 (dk_at dksX6_sheet_1 12 rfl rfl)
theorem dX6_sheet_37 : decode cX6_sheet 37 = .ok (.ireturn, 1) := dk_172 (dk_at dksX6_sheet_1 15 rfl rfl)
theorem dX6_sheet_38 : decode cX6_sheet 38 = .ok (.aload_n 0, 1) := dk_42 (dk_at dksX6_sheet_1 16 rfl rfl)
theorem dX6_sheet_39 : decode cX6_sheet 39 = .ok (.getfield 7, 3) := dk_180 0 7 (dk_at dksX6_sheet_1 17 rfl rfl)
theorem dX6_sheet_42 : decode cX6_sheet 42 = .ok (.iload_n 1, 1) := dk_27 (dk_at dksX6_sheet_1 20 rfl rfl)
theorem dX6_sheet_43 : decode cX6_sheet 43 = .ok (.iload_n 2, 1) := dk_28 (dk_at dksX6_sheet_1 21 rfl rfl)
theorem dX6_sheet_44 : decode cX6_sheet 44 = .ok (.iastore, 1) := dk_79 (dk_at dksX6_sheet_1 22 rfl rfl)
theorem dX6_sheet_45 : decode cX6_sheet 45 = .ok (.aload_n 0, 1) := dk_42 (dk_at dksX6_sheet_1 23 rfl rfl)
theorem dX6_sheet_46 : decode cX6_sheet 46 = .ok (.getfield 13, 3) := dk_180 0 13 (dk_at dksX6_sheet_2 0 rfl rfl)
theorem dX6_sheet_49 : decode cX6_sheet 49 = .ok (.iload_n 1, 1) := dk_27 (dk_at dksX6_sheet_2 3 rfl rfl)
theorem dX6_sheet_50 : decode cX6_sheet 50 = .ok (.iload_n 3, 1) := dk_29 (dk_at dksX6_sheet_2 4 rfl rfl)
theorem dX6_sheet_51 : decode cX6_sheet 51 = .ok (.iastore, 1) := dk_79 (dk_at dksX6_sheet_2 5 rfl rfl)
theorem dX6_sheet_52 : decode cX6_sheet 52 = .ok (.iconst 0, 1) := dk_3 (dk_at dksX6_sheet_2 6 rfl rfl)
theorem dX6_sheet_53 : decode cX6_sheet 53 = .ok (.istore 4, 2) := dk_54 4 (dk_at dksX6_sheet_2 7 rfl rfl)
theorem dX6_sheet_55 : decode cX6_sheet 55 = .ok (.iload 4, 2) := dk_21 4 (dk_at dksX6_sheet_2 9 rfl rfl)
theorem dX6_sheet_57 : decode cX6_sheet 57 = .ok (.iload_n 3, 1) := dk_29 (dk_at dksX6_sheet_2 11 rfl rfl)
theorem dX6_sheet_58 : decode cX6_sheet 58 = .ok (.if_icmp .ge 22, 3) := dk_162 0 22 (dk_at dksX6_sheet_2 12 rfl rfl)
theorem dX6_sheet_61 : decode cX6_sheet 61 = .ok (.aload_n 0, 1) := dk_42 (dk_at dksX6_sheet_2 15 rfl rfl)
theorem dX6_sheet_62 : decode cX6_sheet 62 = .ok (.getfield 16, 3) := dk_180 0 16 (dk_at dksX6_sheet_2 16 rfl rfl)
theorem dX6_sheet_65 : decode cX6_sheet 65 = .ok (.bipush 60, 2) := dk_16 60 (dk_at dksX6_sheet_2 19 rfl rfl)
theorem dX6_sheet_67 : decode cX6_sheet 67 = .ok (.iload_n 1, 1) := dk_27 (dk_at dksX6_sheet_2 21 rfl rfl)
theorem dX6_sheet_68 : decode cX6_sheet 68 = .ok (.imul, 1) := dk_104 (dk_at dksX6_sheet_2 22 rfl rfl)
theorem dX6_sheet_69 : decode cX6_sheet 69 = .ok (.iload 4, 2) := dk_21 4 (dk_at dksX6_sheet_3 0 rfl rfl)
theorem dX6_sheet_71 : decode cX6_sheet 71 = .ok (.iadd, 1) := dk_96 (dk_at dksX6_sheet_3 2 rfl rfl)
theorem dX6_sheet_72 : decode cX6_sheet 72 = .ok (.iconst 0, 1) := dk_3 (dk_at dksX6_sheet_3 3 rfl rfl)
theorem dX6_sheet_73 : decode cX6_sheet 73 = .ok (.iastore, 1) := dk_79 (dk_at dksX6_sheet_3 4 rfl rfl)
theorem dX6_sheet_74 : decode cX6_sheet 74 = .ok (.iinc 4 1, 3) := dk_132 4 1 (dk_at dksX6_sheet_3 5 rfl rfl)
theorem dX6_sheet_77 : decode cX6_sheet 77 = .ok (.goto (-22), 3) := dk_167 255 234 (dk_at dksX6_sheet_3 8 rfl rfl)
theorem dX6_sheet_80 : decode cX6_sheet 80 = .ok (.iload_n 3, 1) := dk_29 (dk_at dksX6_sheet_3 11 rfl rfl)
theorem dX6_sheet_81 : decode cX6_sheet 81 = .ok (.ireturn, 1) := dk_172 (dk_at dksX6_sheet_3 12 rfl rfl)
def dkwX6_isSheet_0 : List UInt8 := [26, 133, 9, 20, 0, 86, 184, 0, 79, 172]
abbrev dktX6_isSheet_0 : List UInt8 := dkwX6_isSheet_0 ++ []
theorem dksX6_isSheet_0 : cX6_isSheet.data.toList.drop 0 = dktX6_isSheet_0 := by decide +kernel
theorem dX6_isSheet_0 : decode cX6_isSheet 0 = .ok (.iload_n 0, 1) := dk_26 (dk_at dksX6_isSheet_0 0 rfl rfl)
theorem dX6_isSheet_1 : decode cX6_isSheet 1 = .ok (.i2l, 1) := dk_133 (dk_at dksX6_isSheet_0 1 rfl rfl)
theorem dX6_isSheet_2 : decode cX6_isSheet 2 = .ok (.lconst 0, 1) := dk_9 (dk_at dksX6_isSheet_0 2 rfl rfl)
theorem dX6_isSheet_3 : decode cX6_isSheet 3 = .ok (.ldc2_w 86, 3) := dk_20 0 86 (dk_at dksX6_isSheet_0 3 rfl rfl)
theorem dX6_isSheet_6 : decode cX6_isSheet 6 = .ok (.invokestatic 79, 3) := dk_184 0 79 (dk_at dksX6_isSheet_0 6 rfl rfl)
theorem dX6_isSheet_9 : decode cX6_isSheet 9 = .ok (.ireturn, 1) := dk_172 (dk_at dksX6_isSheet_0 9 rfl rfl)
def dkwX6_in_0 : List UInt8 := [30, 32, 148, 155, 0, 14, 30, 22, 4, 148, 157, 0, 7, 4, 167, 0, 4, 3, 172]
abbrev dktX6_in_0 : List UInt8 := dkwX6_in_0 ++ []
theorem dksX6_in_0 : cX6_in.data.toList.drop 0 = dktX6_in_0 := by decide +kernel
theorem dX6_in_0 : decode cX6_in 0 = .ok (.lload_n 0, 1) := dk_30 (dk_at dksX6_in_0 0 rfl rfl)
theorem dX6_in_1 : decode cX6_in 1 = .ok (.lload_n 2, 1) := dk_32 (dk_at dksX6_in_0 1 rfl rfl)
theorem dX6_in_2 : decode cX6_in 2 = .ok (.lcmp, 1) := dk_148 (dk_at dksX6_in_0 2 rfl rfl)
theorem dX6_in_3 : decode cX6_in 3 = .ok (.ifCond .lt 14, 3) := dk_155 0 14 (dk_at dksX6_in_0 3 rfl rfl)
theorem dX6_in_6 : decode cX6_in 6 = .ok (.lload_n 0, 1) := dk_30 (dk_at dksX6_in_0 6 rfl rfl)
theorem dX6_in_7 : decode cX6_in 7 = .ok (.lload 4, 2) := dk_22 4 (dk_at dksX6_in_0 7 rfl rfl)
theorem dX6_in_9 : decode cX6_in 9 = .ok (.lcmp, 1) := dk_148 (dk_at dksX6_in_0 9 rfl rfl)
theorem dX6_in_10 : decode cX6_in 10 = .ok (.ifCond .gt 7, 3) := dk_157 0 7 (dk_at dksX6_in_0 10 rfl rfl)
theorem dX6_in_13 : decode cX6_in 13 = .ok (.iconst 1, 1) := dk_4 (dk_at dksX6_in_0 13 rfl rfl)
theorem dX6_in_14 : decode cX6_in 14 = .ok (.goto 4, 3) := dk_167 0 4 (dk_at dksX6_in_0 14 rfl rfl)
theorem dX6_in_17 : decode cX6_in 17 = .ok (.iconst 0, 1) := dk_3 (dk_at dksX6_in_0 17 rfl rfl)
theorem dX6_in_18 : decode cX6_in 18 = .ok (.ireturn, 1) := dk_172 (dk_at dksX6_in_0 18 rfl rfl)
def dkwX6_finds_0 : List UInt8 := [42, 27, 181, 0, 83, 16, 246, 27, 100, 172]
abbrev dktX6_finds_0 : List UInt8 := dkwX6_finds_0 ++ []
theorem dksX6_finds_0 : cX6_finds.data.toList.drop 0 = dktX6_finds_0 := by decide +kernel
theorem dX6_finds_0 : decode cX6_finds 0 = .ok (.aload_n 0, 1) := dk_42 (dk_at dksX6_finds_0 0 rfl rfl)
theorem dX6_finds_1 : decode cX6_finds 1 = .ok (.iload_n 1, 1) := dk_27 (dk_at dksX6_finds_0 1 rfl rfl)
theorem dX6_finds_2 : decode cX6_finds 2 = .ok (.putfield 83, 3) := dk_181 0 83 (dk_at dksX6_finds_0 2 rfl rfl)
theorem dX6_finds_5 : decode cX6_finds 5 = .ok (.bipush (-10), 2) := dk_16 246 (dk_at dksX6_finds_0 5 rfl rfl)
theorem dX6_finds_7 : decode cX6_finds 7 = .ok (.iload_n 1, 1) := dk_27 (dk_at dksX6_finds_0 7 rfl rfl)
theorem dX6_finds_8 : decode cX6_finds 8 = .ok (.isub, 1) := dk_100 (dk_at dksX6_finds_0 8 rfl rfl)
theorem dX6_finds_9 : decode cX6_finds 9 = .ok (.ireturn, 1) := dk_172 (dk_at dksX6_finds_0 9 rfl rfl)
def dkwX6_lose_1 : List UInt8 := [172, 42, 180, 0, 7, 27, 2, 79, 42, 180, 0, 13, 27, 46, 172]
abbrev dktX6_lose_1 : List UInt8 := dkwX6_lose_1 ++ []
def dkwX6_lose_0 : List UInt8 := [27, 184, 0, 88, 154, 0, 6, 16, 254, 172, 42, 180, 0, 7, 27, 46, 156, 0, 9, 42, 4, 182, 0, 94]
abbrev dktX6_lose_0 : List UInt8 := dkwX6_lose_0 ++ dktX6_lose_1
theorem dksX6_lose_0 : cX6_lose.data.toList.drop 0 = dktX6_lose_0 := by decide +kernel
theorem dksX6_lose_1 : cX6_lose.data.toList.drop 24 = dktX6_lose_1 := dk_seg dksX6_lose_0 24 rfl rfl
theorem dX6_lose_0 : decode cX6_lose 0 = .ok (.iload_n 1, 1) := dk_27 (dk_at dksX6_lose_0 0 rfl rfl)
theorem dX6_lose_1 : decode cX6_lose 1 = .ok (.invokestatic 88, 3) := dk_184 0 88 (dk_at dksX6_lose_0 1 rfl rfl)
theorem dX6_lose_4 : decode cX6_lose 4 = .ok (.ifCond .ne 6, 3) := dk_154 0 6 (dk_at dksX6_lose_0 4 rfl rfl)
theorem dX6_lose_7 : decode cX6_lose 7 = .ok (.bipush (-2), 2) := dk_16 254 (dk_at dksX6_lose_0 7 rfl rfl)
theorem dX6_lose_9 : decode cX6_lose 9 = .ok (.ireturn, 1) := dk_172 (dk_at dksX6_lose_0 9 rfl rfl)
theorem dX6_lose_10 : decode cX6_lose 10 = .ok (.aload_n 0, 1) := dk_42 (dk_at dksX6_lose_0 10 rfl rfl)
theorem dX6_lose_11 : decode cX6_lose 11 = .ok (.getfield 7, 3) := dk_180 0 7 (dk_at dksX6_lose_0 11 rfl rfl)
theorem dX6_lose_14 : decode cX6_lose 14 = .ok (.iload_n 1, 1) := dk_27 (dk_at dksX6_lose_0 14 rfl rfl)
theorem dX6_lose_15 : decode cX6_lose 15 = .ok (.iaload, 1) := dk_46 (dk_at dksX6_lose_0 15 rfl rfl)
theorem dX6_lose_16 : decode cX6_lose 16 = .ok (.ifCond .ge 9, 3) := dk_156 0 9 (dk_at dksX6_lose_0 16 rfl rfl)
theorem dX6_lose_19 : decode cX6_lose 19 = .ok (.aload_n 0, 1) := dk_42 (dk_at dksX6_lose_0 19 rfl rfl)
theorem dX6_lose_20 : decode cX6_lose 20 = .ok (.iconst 1, 1) := dk_4 (dk_at dksX6_lose_0 20 rfl rfl)
theorem dX6_lose_21 : decode cX6_lose 21 = .ok (.invokevirtual 94, 3) := dk_182 0 94 (dk_at dksX6_lose_0 21 rfl rfl)
theorem dX6_lose_24 : decode cX6_lose 24 = .ok (.ireturn, 1) := dk_172 (dk_at dksX6_lose_1 0 rfl rfl)
theorem dX6_lose_25 : decode cX6_lose 25 = .ok (.aload_n 0, 1) := dk_42 (dk_at dksX6_lose_1 1 rfl rfl)
theorem dX6_lose_26 : decode cX6_lose 26 = .ok (.getfield 7, 3) := dk_180 0 7 (dk_at dksX6_lose_1 2 rfl rfl)
theorem dX6_lose_29 : decode cX6_lose 29 = .ok (.iload_n 1, 1) := dk_27 (dk_at dksX6_lose_1 5 rfl rfl)
theorem dX6_lose_30 : decode cX6_lose 30 = .ok (.iconst (-1), 1) := dk_2 (dk_at dksX6_lose_1 6 rfl rfl)
theorem dX6_lose_31 : decode cX6_lose 31 = .ok (.iastore, 1) := dk_79 (dk_at dksX6_lose_1 7 rfl rfl)
theorem dX6_lose_32 : decode cX6_lose 32 = .ok (.aload_n 0, 1) := dk_42 (dk_at dksX6_lose_1 8 rfl rfl)
theorem dX6_lose_33 : decode cX6_lose 33 = .ok (.getfield 13, 3) := dk_180 0 13 (dk_at dksX6_lose_1 9 rfl rfl)
theorem dX6_lose_36 : decode cX6_lose 36 = .ok (.iload_n 1, 1) := dk_27 (dk_at dksX6_lose_1 12 rfl rfl)
theorem dX6_lose_37 : decode cX6_lose 37 = .ok (.iaload, 1) := dk_46 (dk_at dksX6_lose_1 13 rfl rfl)
theorem dX6_lose_38 : decode cX6_lose 38 = .ok (.ireturn, 1) := dk_172 (dk_at dksX6_lose_1 14 rfl rfl)
def dkwX6_lay_2 : List UInt8 := [96, 28, 21, 4, 184, 0, 102, 79, 4, 172]
abbrev dktX6_lay_2 : List UInt8 := dkwX6_lay_2 ++ []
def dkwX6_lay_1 : List UInt8 := [28, 29, 182, 0, 98, 54, 5, 21, 5, 153, 0, 6, 21, 5, 172, 42, 180, 0, 16, 16, 60, 27, 104, 29]
abbrev dktX6_lay_1 : List UInt8 := dkwX6_lay_1 ++ dktX6_lay_2
def dkwX6_lay_0 : List UInt8 := [27, 184, 0, 88, 153, 0, 15, 28, 133, 9, 20, 0, 92, 184, 0, 79, 154, 0, 6, 16, 254, 172, 42, 27]
abbrev dktX6_lay_0 : List UInt8 := dkwX6_lay_0 ++ dktX6_lay_1
theorem dksX6_lay_0 : cX6_lay.data.toList.drop 0 = dktX6_lay_0 := by decide +kernel
theorem dksX6_lay_1 : cX6_lay.data.toList.drop 24 = dktX6_lay_1 := dk_seg dksX6_lay_0 24 rfl rfl
theorem dksX6_lay_2 : cX6_lay.data.toList.drop 48 = dktX6_lay_2 := dk_seg dksX6_lay_1 24 rfl rfl
theorem dX6_lay_0 : decode cX6_lay 0 = .ok (.iload_n 1, 1) := dk_27 (dk_at dksX6_lay_0 0 rfl rfl)
theorem dX6_lay_1 : decode cX6_lay 1 = .ok (.invokestatic 88, 3) := dk_184 0 88 (dk_at dksX6_lay_0 1 rfl rfl)
theorem dX6_lay_4 : decode cX6_lay 4 = .ok (.ifCond .eq 15, 3) := dk_153 0 15 (dk_at dksX6_lay_0 4 rfl rfl)
theorem dX6_lay_7 : decode cX6_lay 7 = .ok (.iload_n 2, 1) := dk_28 (dk_at dksX6_lay_0 7 rfl rfl)
theorem dX6_lay_8 : decode cX6_lay 8 = .ok (.i2l, 1) := dk_133 (dk_at dksX6_lay_0 8 rfl rfl)
theorem dX6_lay_9 : decode cX6_lay 9 = .ok (.lconst 0, 1) := dk_9 (dk_at dksX6_lay_0 9 rfl rfl)
theorem dX6_lay_10 : decode cX6_lay 10 = .ok (.ldc2_w 92, 3) := dk_20 0 92 (dk_at dksX6_lay_0 10 rfl rfl)
theorem dX6_lay_13 : decode cX6_lay 13 = .ok (.invokestatic 79, 3) := dk_184 0 79 (dk_at dksX6_lay_0 13 rfl rfl)
theorem dX6_lay_16 : decode cX6_lay 16 = .ok (.ifCond .ne 6, 3) := dk_154 0 6 (dk_at dksX6_lay_0 16 rfl rfl)
theorem dX6_lay_19 : decode cX6_lay 19 = .ok (.bipush (-2), 2) := dk_16 254 (dk_at dksX6_lay_0 19 rfl rfl)
theorem dX6_lay_21 : decode cX6_lay 21 = .ok (.ireturn, 1) := dk_172 (dk_at dksX6_lay_0 21 rfl rfl)
theorem dX6_lay_22 : decode cX6_lay 22 = .ok (.aload_n 0, 1) := dk_42 (dk_at dksX6_lay_0 22 rfl rfl)
theorem dX6_lay_23 : decode cX6_lay 23 = .ok (.iload_n 1, 1) := dk_27 (dk_at dksX6_lay_0 23 rfl rfl)
theorem dX6_lay_24 : decode cX6_lay 24 = .ok (.iload_n 2, 1) := dk_28 (dk_at dksX6_lay_1 0 rfl rfl)
theorem dX6_lay_25 : decode cX6_lay 25 = .ok (.iload_n 3, 1) := dk_29 (dk_at dksX6_lay_1 1 rfl rfl)
theorem dX6_lay_26 : decode cX6_lay 26 = .ok (.invokevirtual 98, 3) := dk_182 0 98 (dk_at dksX6_lay_1 2 rfl rfl)
theorem dX6_lay_29 : decode cX6_lay 29 = .ok (.istore 5, 2) := dk_54 5 (dk_at dksX6_lay_1 5 rfl rfl)
theorem dX6_lay_31 : decode cX6_lay 31 = .ok (.iload 5, 2) := dk_21 5 (dk_at dksX6_lay_1 7 rfl rfl)
theorem dX6_lay_33 : decode cX6_lay 33 = .ok (.ifCond .eq 6, 3) := dk_153 0 6 (dk_at dksX6_lay_1 9 rfl rfl)
theorem dX6_lay_36 : decode cX6_lay 36 = .ok (.iload 5, 2) := dk_21 5 (dk_at dksX6_lay_1 12 rfl rfl)
theorem dX6_lay_38 : decode cX6_lay 38 = .ok (.ireturn, 1) := dk_172 (dk_at dksX6_lay_1 14 rfl rfl)
theorem dX6_lay_39 : decode cX6_lay 39 = .ok (.aload_n 0, 1) := dk_42 (dk_at dksX6_lay_1 15 rfl rfl)
theorem dX6_lay_40 : decode cX6_lay 40 = .ok (.getfield 16, 3) := dk_180 0 16 (dk_at dksX6_lay_1 16 rfl rfl)
theorem dX6_lay_43 : decode cX6_lay 43 = .ok (.bipush 60, 2) := dk_16 60 (dk_at dksX6_lay_1 19 rfl rfl)
theorem dX6_lay_45 : decode cX6_lay 45 = .ok (.iload_n 1, 1) := dk_27 (dk_at dksX6_lay_1 21 rfl rfl)
theorem dX6_lay_46 : decode cX6_lay 46 = .ok (.imul, 1) := dk_104 (dk_at dksX6_lay_1 22 rfl rfl)
theorem dX6_lay_47 : decode cX6_lay 47 = .ok (.iload_n 3, 1) := dk_29 (dk_at dksX6_lay_1 23 rfl rfl)
theorem dX6_lay_48 : decode cX6_lay 48 = .ok (.iadd, 1) := dk_96 (dk_at dksX6_lay_2 0 rfl rfl)
theorem dX6_lay_49 : decode cX6_lay 49 = .ok (.iload_n 2, 1) := dk_28 (dk_at dksX6_lay_2 1 rfl rfl)
theorem dX6_lay_50 : decode cX6_lay 50 = .ok (.iload 4, 2) := dk_21 4 (dk_at dksX6_lay_2 2 rfl rfl)
theorem dX6_lay_52 : decode cX6_lay 52 = .ok (.invokestatic 102, 3) := dk_184 0 102 (dk_at dksX6_lay_2 4 rfl rfl)
theorem dX6_lay_55 : decode cX6_lay 55 = .ok (.iastore, 1) := dk_79 (dk_at dksX6_lay_2 7 rfl rfl)
theorem dX6_lay_56 : decode cX6_lay 56 = .ok (.iconst 1, 1) := dk_4 (dk_at dksX6_lay_2 8 rfl rfl)
theorem dX6_lay_57 : decode cX6_lay 57 = .ok (.ireturn, 1) := dk_172 (dk_at dksX6_lay_2 9 rfl rfl)
def dkwX6_lacks_2 : List UInt8 := [153, 0, 7, 3, 167, 0, 8, 42, 5, 182, 0, 94, 172]
abbrev dktX6_lacks_2 : List UInt8 := dkwX6_lacks_2 ++ []
def dkwX6_lacks_1 : List UInt8 := [159, 0, 9, 42, 6, 182, 0, 94, 172, 29, 133, 9, 42, 180, 0, 13, 27, 46, 4, 100, 133, 184, 0, 79]
abbrev dktX6_lacks_1 : List UInt8 := dkwX6_lacks_1 ++ dktX6_lacks_2
def dkwX6_lacks_0 : List UInt8 := [42, 180, 0, 7, 27, 46, 156, 0, 9, 42, 4, 182, 0, 94, 172, 42, 180, 0, 7, 27, 46, 28]
abbrev dktX6_lacks_0 : List UInt8 := dkwX6_lacks_0 ++ dktX6_lacks_1
theorem dksX6_lacks_0 : cX6_lacks.data.toList.drop 0 = dktX6_lacks_0 := by decide +kernel
theorem dksX6_lacks_1 : cX6_lacks.data.toList.drop 22 = dktX6_lacks_1 := dk_seg dksX6_lacks_0 22 rfl rfl
theorem dksX6_lacks_2 : cX6_lacks.data.toList.drop 46 = dktX6_lacks_2 := dk_seg dksX6_lacks_1 24 rfl rfl
theorem dX6_lacks_0 : decode cX6_lacks 0 = .ok (.aload_n 0, 1) := dk_42 (dk_at dksX6_lacks_0 0 rfl rfl)
theorem dX6_lacks_1 : decode cX6_lacks 1 = .ok (.getfield 7, 3) := dk_180 0 7 (dk_at dksX6_lacks_0 1 rfl rfl)
theorem dX6_lacks_4 : decode cX6_lacks 4 = .ok (.iload_n 1, 1) := dk_27 (dk_at dksX6_lacks_0 4 rfl rfl)
theorem dX6_lacks_5 : decode cX6_lacks 5 = .ok (.iaload, 1) := dk_46 (dk_at dksX6_lacks_0 5 rfl rfl)
theorem dX6_lacks_6 : decode cX6_lacks 6 = .ok (.ifCond .ge 9, 3) := dk_156 0 9 (dk_at dksX6_lacks_0 6 rfl rfl)
theorem dX6_lacks_9 : decode cX6_lacks 9 = .ok (.aload_n 0, 1) := dk_42 (dk_at dksX6_lacks_0 9 rfl rfl)
theorem dX6_lacks_10 : decode cX6_lacks 10 = .ok (.iconst 1, 1) := dk_4 (dk_at dksX6_lacks_0 10 rfl rfl)
theorem dX6_lacks_11 : decode cX6_lacks 11 = .ok (.invokevirtual 94, 3) := dk_182 0 94 (dk_at dksX6_lacks_0 11 rfl rfl)
theorem dX6_lacks_14 : decode cX6_lacks 14 = .ok (.ireturn, 1) := dk_172 (dk_at dksX6_lacks_0 14 rfl rfl)
theorem dX6_lacks_15 : decode cX6_lacks 15 = .ok (.aload_n 0, 1) := dk_42 (dk_at dksX6_lacks_0 15 rfl rfl)
theorem dX6_lacks_16 : decode cX6_lacks 16 = .ok (.getfield 7, 3) := dk_180 0 7 (dk_at dksX6_lacks_0 16 rfl rfl)
theorem dX6_lacks_19 : decode cX6_lacks 19 = .ok (.iload_n 1, 1) := dk_27 (dk_at dksX6_lacks_0 19 rfl rfl)
theorem dX6_lacks_20 : decode cX6_lacks 20 = .ok (.iaload, 1) := dk_46 (dk_at dksX6_lacks_0 20 rfl rfl)
theorem dX6_lacks_21 : decode cX6_lacks 21 = .ok (.iload_n 2, 1) := dk_28 (dk_at dksX6_lacks_0 21 rfl rfl)
theorem dX6_lacks_22 : decode cX6_lacks 22 = .ok (.if_icmp .eq 9, 3) := dk_159 0 9 (dk_at dksX6_lacks_1 0 rfl rfl)
theorem dX6_lacks_25 : decode cX6_lacks 25 = .ok (.aload_n 0, 1) := dk_42 (dk_at dksX6_lacks_1 3 rfl rfl)
theorem dX6_lacks_26 : decode cX6_lacks 26 = .ok (.iconst 3, 1) := dk_6 (dk_at dksX6_lacks_1 4 rfl rfl)
theorem dX6_lacks_27 : decode cX6_lacks 27 = .ok (.invokevirtual 94, 3) := dk_182 0 94 (dk_at dksX6_lacks_1 5 rfl rfl)
theorem dX6_lacks_30 : decode cX6_lacks 30 = .ok (.ireturn, 1) := dk_172 (dk_at dksX6_lacks_1 8 rfl rfl)
theorem dX6_lacks_31 : decode cX6_lacks 31 = .ok (.iload_n 3, 1) := dk_29 (dk_at dksX6_lacks_1 9 rfl rfl)
theorem dX6_lacks_32 : decode cX6_lacks 32 = .ok (.i2l, 1) := dk_133 (dk_at dksX6_lacks_1 10 rfl rfl)
theorem dX6_lacks_33 : decode cX6_lacks 33 = .ok (.lconst 0, 1) := dk_9 (dk_at dksX6_lacks_1 11 rfl rfl)
theorem dX6_lacks_34 : decode cX6_lacks 34 = .ok (.aload_n 0, 1) := dk_42 (dk_at dksX6_lacks_1 12 rfl rfl)
theorem dX6_lacks_35 : decode cX6_lacks 35 = .ok (.getfield 13, 3) := dk_180 0 13 (dk_at dksX6_lacks_1 13 rfl rfl)
theorem dX6_lacks_38 : decode cX6_lacks 38 = .ok (.iload_n 1, 1) := dk_27 (dk_at dksX6_lacks_1 16 rfl rfl)
theorem dX6_lacks_39 : decode cX6_lacks 39 = .ok (.iaload, 1) := dk_46 (dk_at dksX6_lacks_1 17 rfl rfl)
theorem dX6_lacks_40 : decode cX6_lacks 40 = .ok (.iconst 1, 1) := dk_4 (dk_at dksX6_lacks_1 18 rfl rfl)
theorem dX6_lacks_41 : decode cX6_lacks 41 = .ok (.isub, 1) := dk_100 (dk_at dksX6_lacks_1 19 rfl rfl)
theorem dX6_lacks_42 : decode cX6_lacks 42 = .ok (.i2l, 1) := dk_133 (dk_at dksX6_lacks_1 20 rfl rfl)
theorem dX6_lacks_43 : decode cX6_lacks 43 = .ok (.invokestatic 79, 3) := dk_184 0 79 (dk_at dksX6_lacks_1 21 rfl rfl)
theorem dX6_lacks_46 : decode cX6_lacks 46 = .ok (.ifCond .eq 7, 3) := dk_153 0 7 (dk_at dksX6_lacks_2 0 rfl rfl)
theorem dX6_lacks_49 : decode cX6_lacks 49 = .ok (.iconst 0, 1) := dk_3 (dk_at dksX6_lacks_2 3 rfl rfl)
theorem dX6_lacks_50 : decode cX6_lacks 50 = .ok (.goto 8, 3) := dk_167 0 8 (dk_at dksX6_lacks_2 4 rfl rfl)
theorem dX6_lacks_53 : decode cX6_lacks 53 = .ok (.aload_n 0, 1) := dk_42 (dk_at dksX6_lacks_2 7 rfl rfl)
theorem dX6_lacks_54 : decode cX6_lacks 54 = .ok (.iconst 2, 1) := dk_5 (dk_at dksX6_lacks_2 8 rfl rfl)
theorem dX6_lacks_55 : decode cX6_lacks 55 = .ok (.invokevirtual 94, 3) := dk_182 0 94 (dk_at dksX6_lacks_2 9 rfl rfl)
theorem dX6_lacks_58 : decode cX6_lacks 58 = .ok (.ireturn, 1) := dk_172 (dk_at dksX6_lacks_2 12 rfl rfl)
def dkwX6_cut_0 : List UInt8 := [26, 154, 0, 8, 27, 145, 167, 0, 14, 26, 4, 160, 0, 8, 27, 147, 167, 0, 4, 27, 172]
abbrev dktX6_cut_0 : List UInt8 := dkwX6_cut_0 ++ []
theorem dksX6_cut_0 : cX6_cut.data.toList.drop 0 = dktX6_cut_0 := by decide +kernel
theorem dX6_cut_0 : decode cX6_cut 0 = .ok (.iload_n 0, 1) := dk_26 (dk_at dksX6_cut_0 0 rfl rfl)
theorem dX6_cut_1 : decode cX6_cut 1 = .ok (.ifCond .ne 8, 3) := dk_154 0 8 (dk_at dksX6_cut_0 1 rfl rfl)
theorem dX6_cut_4 : decode cX6_cut 4 = .ok (.iload_n 1, 1) := dk_27 (dk_at dksX6_cut_0 4 rfl rfl)
theorem dX6_cut_5 : decode cX6_cut 5 = .ok (.i2b, 1) := dk_145 (dk_at dksX6_cut_0 5 rfl rfl)
theorem dX6_cut_6 : decode cX6_cut 6 = .ok (.goto 14, 3) := dk_167 0 14 (dk_at dksX6_cut_0 6 rfl rfl)
theorem dX6_cut_9 : decode cX6_cut 9 = .ok (.iload_n 0, 1) := dk_26 (dk_at dksX6_cut_0 9 rfl rfl)
theorem dX6_cut_10 : decode cX6_cut 10 = .ok (.iconst 1, 1) := dk_4 (dk_at dksX6_cut_0 10 rfl rfl)
theorem dX6_cut_11 : decode cX6_cut 11 = .ok (.if_icmp .ne 8, 3) := dk_160 0 8 (dk_at dksX6_cut_0 11 rfl rfl)
theorem dX6_cut_14 : decode cX6_cut 14 = .ok (.iload_n 1, 1) := dk_27 (dk_at dksX6_cut_0 14 rfl rfl)
theorem dX6_cut_15 : decode cX6_cut 15 = .ok (.i2s, 1) := dk_147 (dk_at dksX6_cut_0 15 rfl rfl)
theorem dX6_cut_16 : decode cX6_cut 16 = .ok (.goto 4, 3) := dk_167 0 4 (dk_at dksX6_cut_0 16 rfl rfl)
theorem dX6_cut_19 : decode cX6_cut 19 = .ok (.iload_n 1, 1) := dk_27 (dk_at dksX6_cut_0 19 rfl rfl)
theorem dX6_cut_20 : decode cX6_cut 20 = .ok (.ireturn, 1) := dk_172 (dk_at dksX6_cut_0 20 rfl rfl)
def dkwX6_get_1 : List UInt8 := [182, 0, 98, 153, 0, 6, 18, 106, 172, 42, 180, 0, 16, 16, 60, 27, 104, 29, 96, 46, 172]
abbrev dktX6_get_1 : List UInt8 := dkwX6_get_1 ++ []
def dkwX6_get_0 : List UInt8 := [27, 184, 0, 88, 153, 0, 25, 28, 133, 9, 20, 0, 92, 184, 0, 79, 153, 0, 13, 42, 27, 28, 29]
abbrev dktX6_get_0 : List UInt8 := dkwX6_get_0 ++ dktX6_get_1
theorem dksX6_get_0 : cX6_get.data.toList.drop 0 = dktX6_get_0 := by decide +kernel
theorem dksX6_get_1 : cX6_get.data.toList.drop 23 = dktX6_get_1 := dk_seg dksX6_get_0 23 rfl rfl
theorem dX6_get_0 : decode cX6_get 0 = .ok (.iload_n 1, 1) := dk_27 (dk_at dksX6_get_0 0 rfl rfl)
theorem dX6_get_1 : decode cX6_get 1 = .ok (.invokestatic 88, 3) := dk_184 0 88 (dk_at dksX6_get_0 1 rfl rfl)
theorem dX6_get_4 : decode cX6_get 4 = .ok (.ifCond .eq 25, 3) := dk_153 0 25 (dk_at dksX6_get_0 4 rfl rfl)
theorem dX6_get_7 : decode cX6_get 7 = .ok (.iload_n 2, 1) := dk_28 (dk_at dksX6_get_0 7 rfl rfl)
theorem dX6_get_8 : decode cX6_get 8 = .ok (.i2l, 1) := dk_133 (dk_at dksX6_get_0 8 rfl rfl)
theorem dX6_get_9 : decode cX6_get 9 = .ok (.lconst 0, 1) := dk_9 (dk_at dksX6_get_0 9 rfl rfl)
theorem dX6_get_10 : decode cX6_get 10 = .ok (.ldc2_w 92, 3) := dk_20 0 92 (dk_at dksX6_get_0 10 rfl rfl)
theorem dX6_get_13 : decode cX6_get 13 = .ok (.invokestatic 79, 3) := dk_184 0 79 (dk_at dksX6_get_0 13 rfl rfl)
theorem dX6_get_16 : decode cX6_get 16 = .ok (.ifCond .eq 13, 3) := dk_153 0 13 (dk_at dksX6_get_0 16 rfl rfl)
theorem dX6_get_19 : decode cX6_get 19 = .ok (.aload_n 0, 1) := dk_42 (dk_at dksX6_get_0 19 rfl rfl)
theorem dX6_get_20 : decode cX6_get 20 = .ok (.iload_n 1, 1) := dk_27 (dk_at dksX6_get_0 20 rfl rfl)
theorem dX6_get_21 : decode cX6_get 21 = .ok (.iload_n 2, 1) := dk_28 (dk_at dksX6_get_0 21 rfl rfl)
theorem dX6_get_22 : decode cX6_get 22 = .ok (.iload_n 3, 1) := dk_29 (dk_at dksX6_get_0 22 rfl rfl)
theorem dX6_get_23 : decode cX6_get 23 = .ok (.invokevirtual 98, 3) := dk_182 0 98 (dk_at dksX6_get_1 0 rfl rfl)
theorem dX6_get_26 : decode cX6_get 26 = .ok (.ifCond .eq 6, 3) := dk_153 0 6 (dk_at dksX6_get_1 3 rfl rfl)
theorem dX6_get_29 : decode cX6_get 29 = .ok (.ldc 106, 2) := dk_18 106 (dk_at dksX6_get_1 6 rfl rfl)
theorem dX6_get_31 : decode cX6_get 31 = .ok (.ireturn, 1) := dk_172 (dk_at dksX6_get_1 8 rfl rfl)
theorem dX6_get_32 : decode cX6_get 32 = .ok (.aload_n 0, 1) := dk_42 (dk_at dksX6_get_1 9 rfl rfl)
theorem dX6_get_33 : decode cX6_get 33 = .ok (.getfield 16, 3) := dk_180 0 16 (dk_at dksX6_get_1 10 rfl rfl)
theorem dX6_get_36 : decode cX6_get 36 = .ok (.bipush 60, 2) := dk_16 60 (dk_at dksX6_get_1 13 rfl rfl)
theorem dX6_get_38 : decode cX6_get 38 = .ok (.iload_n 1, 1) := dk_27 (dk_at dksX6_get_1 15 rfl rfl)
theorem dX6_get_39 : decode cX6_get 39 = .ok (.imul, 1) := dk_104 (dk_at dksX6_get_1 16 rfl rfl)
theorem dX6_get_40 : decode cX6_get 40 = .ok (.iload_n 3, 1) := dk_29 (dk_at dksX6_get_1 17 rfl rfl)
theorem dX6_get_41 : decode cX6_get 41 = .ok (.iadd, 1) := dk_96 (dk_at dksX6_get_1 18 rfl rfl)
theorem dX6_get_42 : decode cX6_get 42 = .ok (.iaload, 1) := dk_46 (dk_at dksX6_get_1 19 rfl rfl)
theorem dX6_get_43 : decode cX6_get 43 = .ok (.ireturn, 1) := dk_172 (dk_at dksX6_get_1 20 rfl rfl)
def dkwX6_copy_8 : List UInt8 := [167, 255, 224, 4, 172]
abbrev dktX6_copy_8 : List UInt8 := dkwX6_copy_8 ++ []
def dkwX6_copy_7 : List UInt8 := [180, 0, 16, 16, 60, 29, 104, 21, 4, 96, 21, 6, 96, 42, 180, 0, 19, 21, 6, 46, 79, 132, 6, 1]
abbrev dktX6_copy_7 : List UInt8 := dkwX6_copy_7 ++ dktX6_copy_8
def dkwX6_copy_6 : List UInt8 := [96, 21, 6, 96, 46, 79, 132, 6, 1, 167, 255, 225, 3, 54, 6, 21, 6, 21, 5, 162, 0, 31, 42]
abbrev dktX6_copy_6 : List UInt8 := dkwX6_copy_6 ++ dktX6_copy_7
def dkwX6_copy_5 : List UInt8 := [54, 6, 21, 6, 21, 5, 162, 0, 30, 42, 180, 0, 19, 21, 6, 42, 180, 0, 16, 16, 60, 27, 104, 28]
abbrev dktX6_copy_5 : List UInt8 := dkwX6_copy_5 ++ dktX6_copy_6
def dkwX6_copy_4 : List UInt8 := [133, 21, 5, 133, 97, 42, 180, 0, 13, 29, 46, 133, 148, 158, 0, 9, 42, 5, 182, 0, 94, 172, 3]
abbrev dktX6_copy_4 : List UInt8 := dkwX6_copy_4 ++ dktX6_copy_5
def dkwX6_copy_3 : List UInt8 := [21, 5, 155, 0, 38, 28, 133, 21, 5, 133, 97, 42, 180, 0, 13, 27, 46, 133, 148, 157, 0, 21, 21, 4]
abbrev dktX6_copy_3 : List UInt8 := dkwX6_copy_3 ++ dktX6_copy_4
def dkwX6_copy_2 : List UInt8 := [42, 180, 0, 7, 29, 46, 159, 0, 9, 42, 7, 182, 0, 94, 172, 28, 155, 0, 48, 21, 4, 155, 0, 43]
abbrev dktX6_copy_2 : List UInt8 := dkwX6_copy_2 ++ dktX6_copy_3
def dkwX6_copy_1 : List UInt8 := [155, 0, 12, 42, 180, 0, 7, 29, 46, 156, 0, 9, 42, 4, 182, 0, 94, 172, 42, 180, 0, 7, 27, 46]
abbrev dktX6_copy_1 : List UInt8 := dkwX6_copy_1 ++ dktX6_copy_2
def dkwX6_copy_0 : List UInt8 := [27, 184, 0, 88, 153, 0, 10, 29, 184, 0, 88, 154, 0, 6, 16, 254, 172, 42, 180, 0, 7, 27, 46]
abbrev dktX6_copy_0 : List UInt8 := dkwX6_copy_0 ++ dktX6_copy_1
theorem dksX6_copy_0 : cX6_copy.data.toList.drop 0 = dktX6_copy_0 := by decide +kernel
theorem dksX6_copy_1 : cX6_copy.data.toList.drop 23 = dktX6_copy_1 := dk_seg dksX6_copy_0 23 rfl rfl
theorem dksX6_copy_2 : cX6_copy.data.toList.drop 47 = dktX6_copy_2 := dk_seg dksX6_copy_1 24 rfl rfl
theorem dksX6_copy_3 : cX6_copy.data.toList.drop 71 = dktX6_copy_3 := dk_seg dksX6_copy_2 24 rfl rfl
theorem dksX6_copy_4 : cX6_copy.data.toList.drop 95 = dktX6_copy_4 := dk_seg dksX6_copy_3 24 rfl rfl
theorem dksX6_copy_5 : cX6_copy.data.toList.drop 118 = dktX6_copy_5 := dk_seg dksX6_copy_4 23 rfl rfl
theorem dksX6_copy_6 : cX6_copy.data.toList.drop 142 = dktX6_copy_6 := dk_seg dksX6_copy_5 24 rfl rfl
theorem dksX6_copy_7 : cX6_copy.data.toList.drop 165 = dktX6_copy_7 := dk_seg dksX6_copy_6 23 rfl rfl
theorem dksX6_copy_8 : cX6_copy.data.toList.drop 189 = dktX6_copy_8 := dk_seg dksX6_copy_7 24 rfl rfl
theorem dX6_copy_0 : decode cX6_copy 0 = .ok (.iload_n 1, 1) := dk_27 (dk_at dksX6_copy_0 0 rfl rfl)
theorem dX6_copy_1 : decode cX6_copy 1 = .ok (.invokestatic 88, 3) := dk_184 0 88 (dk_at dksX6_copy_0 1 rfl rfl)
theorem dX6_copy_4 : decode cX6_copy 4 = .ok (.ifCond .eq 10, 3) := dk_153 0 10 (dk_at dksX6_copy_0 4 rfl rfl)
theorem dX6_copy_7 : decode cX6_copy 7 = .ok (.iload_n 3, 1) := dk_29 (dk_at dksX6_copy_0 7 rfl rfl)
theorem dX6_copy_8 : decode cX6_copy 8 = .ok (.invokestatic 88, 3) := dk_184 0 88 (dk_at dksX6_copy_0 8 rfl rfl)
theorem dX6_copy_11 : decode cX6_copy 11 = .ok (.ifCond .ne 6, 3) := dk_154 0 6 (dk_at dksX6_copy_0 11 rfl rfl)
theorem dX6_copy_14 : decode cX6_copy 14 = .ok (.bipush (-2), 2) := dk_16 254 (dk_at dksX6_copy_0 14 rfl rfl)
theorem dX6_copy_16 : decode cX6_copy 16 = .ok (.ireturn, 1) := dk_172 (dk_at dksX6_copy_0 16 rfl rfl)
theorem dX6_copy_17 : decode cX6_copy 17 = .ok (.aload_n 0, 1) := dk_42 (dk_at dksX6_copy_0 17 rfl rfl)
theorem dX6_copy_18 : decode cX6_copy 18 = .ok (.getfield 7, 3) := dk_180 0 7 (dk_at dksX6_copy_0 18 rfl rfl)
theorem dX6_copy_21 : decode cX6_copy 21 = .ok (.iload_n 1, 1) := dk_27 (dk_at dksX6_copy_0 21 rfl rfl)
theorem dX6_copy_22 : decode cX6_copy 22 = .ok (.iaload, 1) := dk_46 (dk_at dksX6_copy_0 22 rfl rfl)
theorem dX6_copy_23 : decode cX6_copy 23 = .ok (.ifCond .lt 12, 3) := dk_155 0 12 (dk_at dksX6_copy_1 0 rfl rfl)
theorem dX6_copy_26 : decode cX6_copy 26 = .ok (.aload_n 0, 1) := dk_42 (dk_at dksX6_copy_1 3 rfl rfl)
theorem dX6_copy_27 : decode cX6_copy 27 = .ok (.getfield 7, 3) := dk_180 0 7 (dk_at dksX6_copy_1 4 rfl rfl)
theorem dX6_copy_30 : decode cX6_copy 30 = .ok (.iload_n 3, 1) := dk_29 (dk_at dksX6_copy_1 7 rfl rfl)
theorem dX6_copy_31 : decode cX6_copy 31 = .ok (.iaload, 1) := dk_46 (dk_at dksX6_copy_1 8 rfl rfl)
theorem dX6_copy_32 : decode cX6_copy 32 = .ok (.ifCond .ge 9, 3) := dk_156 0 9 (dk_at dksX6_copy_1 9 rfl rfl)
theorem dX6_copy_35 : decode cX6_copy 35 = .ok (.aload_n 0, 1) := dk_42 (dk_at dksX6_copy_1 12 rfl rfl)
theorem dX6_copy_36 : decode cX6_copy 36 = .ok (.iconst 1, 1) := dk_4 (dk_at dksX6_copy_1 13 rfl rfl)
theorem dX6_copy_37 : decode cX6_copy 37 = .ok (.invokevirtual 94, 3) := dk_182 0 94 (dk_at dksX6_copy_1 14 rfl rfl)
theorem dX6_copy_40 : decode cX6_copy 40 = .ok (.ireturn, 1) := dk_172 (dk_at dksX6_copy_1 17 rfl rfl)
theorem dX6_copy_41 : decode cX6_copy 41 = .ok (.aload_n 0, 1) := dk_42 (dk_at dksX6_copy_1 18 rfl rfl)
theorem dX6_copy_42 : decode cX6_copy 42 = .ok (.getfield 7, 3) := dk_180 0 7 (dk_at dksX6_copy_1 19 rfl rfl)
theorem dX6_copy_45 : decode cX6_copy 45 = .ok (.iload_n 1, 1) := dk_27 (dk_at dksX6_copy_1 22 rfl rfl)
theorem dX6_copy_46 : decode cX6_copy 46 = .ok (.iaload, 1) := dk_46 (dk_at dksX6_copy_1 23 rfl rfl)
theorem dX6_copy_47 : decode cX6_copy 47 = .ok (.aload_n 0, 1) := dk_42 (dk_at dksX6_copy_2 0 rfl rfl)
theorem dX6_copy_48 : decode cX6_copy 48 = .ok (.getfield 7, 3) := dk_180 0 7 (dk_at dksX6_copy_2 1 rfl rfl)
theorem dX6_copy_51 : decode cX6_copy 51 = .ok (.iload_n 3, 1) := dk_29 (dk_at dksX6_copy_2 4 rfl rfl)
theorem dX6_copy_52 : decode cX6_copy 52 = .ok (.iaload, 1) := dk_46 (dk_at dksX6_copy_2 5 rfl rfl)
theorem dX6_copy_53 : decode cX6_copy 53 = .ok (.if_icmp .eq 9, 3) := dk_159 0 9 (dk_at dksX6_copy_2 6 rfl rfl)
theorem dX6_copy_56 : decode cX6_copy 56 = .ok (.aload_n 0, 1) := dk_42 (dk_at dksX6_copy_2 9 rfl rfl)
theorem dX6_copy_57 : decode cX6_copy 57 = .ok (.iconst 4, 1) := dk_7 (dk_at dksX6_copy_2 10 rfl rfl)
theorem dX6_copy_58 : decode cX6_copy 58 = .ok (.invokevirtual 94, 3) := dk_182 0 94 (dk_at dksX6_copy_2 11 rfl rfl)
theorem dX6_copy_61 : decode cX6_copy 61 = .ok (.ireturn, 1) := dk_172 (dk_at dksX6_copy_2 14 rfl rfl)
theorem dX6_copy_62 : decode cX6_copy 62 = .ok (.iload_n 2, 1) := dk_28 (dk_at dksX6_copy_2 15 rfl rfl)
theorem dX6_copy_63 : decode cX6_copy 63 = .ok (.ifCond .lt 48, 3) := dk_155 0 48 (dk_at dksX6_copy_2 16 rfl rfl)
theorem dX6_copy_66 : decode cX6_copy 66 = .ok (.iload 4, 2) := dk_21 4 (dk_at dksX6_copy_2 19 rfl rfl)
theorem dX6_copy_68 : decode cX6_copy 68 = .ok (.ifCond .lt 43, 3) := dk_155 0 43 (dk_at dksX6_copy_2 21 rfl rfl)
theorem dX6_copy_71 : decode cX6_copy 71 = .ok (.iload 5, 2) := dk_21 5 (dk_at dksX6_copy_3 0 rfl rfl)
theorem dX6_copy_73 : decode cX6_copy 73 = .ok (.ifCond .lt 38, 3) := dk_155 0 38 (dk_at dksX6_copy_3 2 rfl rfl)
theorem dX6_copy_76 : decode cX6_copy 76 = .ok (.iload_n 2, 1) := dk_28 (dk_at dksX6_copy_3 5 rfl rfl)
theorem dX6_copy_77 : decode cX6_copy 77 = .ok (.i2l, 1) := dk_133 (dk_at dksX6_copy_3 6 rfl rfl)
theorem dX6_copy_78 : decode cX6_copy 78 = .ok (.iload 5, 2) := dk_21 5 (dk_at dksX6_copy_3 7 rfl rfl)
theorem dX6_copy_80 : decode cX6_copy 80 = .ok (.i2l, 1) := dk_133 (dk_at dksX6_copy_3 9 rfl rfl)
theorem dX6_copy_81 : decode cX6_copy 81 = .ok (.ladd, 1) := dk_97 (dk_at dksX6_copy_3 10 rfl rfl)
theorem dX6_copy_82 : decode cX6_copy 82 = .ok (.aload_n 0, 1) := dk_42 (dk_at dksX6_copy_3 11 rfl rfl)
theorem dX6_copy_83 : decode cX6_copy 83 = .ok (.getfield 13, 3) := dk_180 0 13 (dk_at dksX6_copy_3 12 rfl rfl)
theorem dX6_copy_86 : decode cX6_copy 86 = .ok (.iload_n 1, 1) := dk_27 (dk_at dksX6_copy_3 15 rfl rfl)
theorem dX6_copy_87 : decode cX6_copy 87 = .ok (.iaload, 1) := dk_46 (dk_at dksX6_copy_3 16 rfl rfl)
theorem dX6_copy_88 : decode cX6_copy 88 = .ok (.i2l, 1) := dk_133 (dk_at dksX6_copy_3 17 rfl rfl)
theorem dX6_copy_89 : decode cX6_copy 89 = .ok (.lcmp, 1) := dk_148 (dk_at dksX6_copy_3 18 rfl rfl)
theorem dX6_copy_90 : decode cX6_copy 90 = .ok (.ifCond .gt 21, 3) := dk_157 0 21 (dk_at dksX6_copy_3 19 rfl rfl)
theorem dX6_copy_93 : decode cX6_copy 93 = .ok (.iload 4, 2) := dk_21 4 (dk_at dksX6_copy_3 22 rfl rfl)
theorem dX6_copy_95 : decode cX6_copy 95 = .ok (.i2l, 1) := dk_133 (dk_at dksX6_copy_4 0 rfl rfl)
theorem dX6_copy_96 : decode cX6_copy 96 = .ok (.iload 5, 2) := dk_21 5 (dk_at dksX6_copy_4 1 rfl rfl)
theorem dX6_copy_98 : decode cX6_copy 98 = .ok (.i2l, 1) := dk_133 (dk_at dksX6_copy_4 3 rfl rfl)
theorem dX6_copy_99 : decode cX6_copy 99 = .ok (.ladd, 1) := dk_97 (dk_at dksX6_copy_4 4 rfl rfl)
theorem dX6_copy_100 : decode cX6_copy 100 = .ok (.aload_n 0, 1) := dk_42 (dk_at dksX6_copy_4 5 rfl rfl)
theorem dX6_copy_101 : decode cX6_copy 101 = .ok (.getfield 13, 3) := dk_180 0 13 (dk_at dksX6_copy_4 6 rfl rfl)
theorem dX6_copy_104 : decode cX6_copy 104 = .ok (.iload_n 3, 1) := dk_29 (dk_at dksX6_copy_4 9 rfl rfl)
theorem dX6_copy_105 : decode cX6_copy 105 = .ok (.iaload, 1) := dk_46 (dk_at dksX6_copy_4 10 rfl rfl)
theorem dX6_copy_106 : decode cX6_copy 106 = .ok (.i2l, 1) := dk_133 (dk_at dksX6_copy_4 11 rfl rfl)
theorem dX6_copy_107 : decode cX6_copy 107 = .ok (.lcmp, 1) := dk_148 (dk_at dksX6_copy_4 12 rfl rfl)
theorem dX6_copy_108 : decode cX6_copy 108 = .ok (.ifCond .le 9, 3) := dk_158 0 9 (dk_at dksX6_copy_4 13 rfl rfl)
theorem dX6_copy_111 : decode cX6_copy 111 = .ok (.aload_n 0, 1) := dk_42 (dk_at dksX6_copy_4 16 rfl rfl)
theorem dX6_copy_112 : decode cX6_copy 112 = .ok (.iconst 2, 1) := dk_5 (dk_at dksX6_copy_4 17 rfl rfl)
theorem dX6_copy_113 : decode cX6_copy 113 = .ok (.invokevirtual 94, 3) := dk_182 0 94 (dk_at dksX6_copy_4 18 rfl rfl)
theorem dX6_copy_116 : decode cX6_copy 116 = .ok (.ireturn, 1) := dk_172 (dk_at dksX6_copy_4 21 rfl rfl)
theorem dX6_copy_117 : decode cX6_copy 117 = .ok (.iconst 0, 1) := dk_3 (dk_at dksX6_copy_4 22 rfl rfl)
theorem dX6_copy_118 : decode cX6_copy 118 = .ok (.istore 6, 2) := dk_54 6 (dk_at dksX6_copy_5 0 rfl rfl)
theorem dX6_copy_120 : decode cX6_copy 120 = .ok (.iload 6, 2) := dk_21 6 (dk_at dksX6_copy_5 2 rfl rfl)
theorem dX6_copy_122 : decode cX6_copy 122 = .ok (.iload 5, 2) := dk_21 5 (dk_at dksX6_copy_5 4 rfl rfl)
theorem dX6_copy_124 : decode cX6_copy 124 = .ok (.if_icmp .ge 30, 3) := dk_162 0 30 (dk_at dksX6_copy_5 6 rfl rfl)
theorem dX6_copy_127 : decode cX6_copy 127 = .ok (.aload_n 0, 1) := dk_42 (dk_at dksX6_copy_5 9 rfl rfl)
theorem dX6_copy_128 : decode cX6_copy 128 = .ok (.getfield 19, 3) := dk_180 0 19 (dk_at dksX6_copy_5 10 rfl rfl)
theorem dX6_copy_131 : decode cX6_copy 131 = .ok (.iload 6, 2) := dk_21 6 (dk_at dksX6_copy_5 13 rfl rfl)
theorem dX6_copy_133 : decode cX6_copy 133 = .ok (.aload_n 0, 1) := dk_42 (dk_at dksX6_copy_5 15 rfl rfl)
theorem dX6_copy_134 : decode cX6_copy 134 = .ok (.getfield 16, 3) := dk_180 0 16 (dk_at dksX6_copy_5 16 rfl rfl)
theorem dX6_copy_137 : decode cX6_copy 137 = .ok (.bipush 60, 2) := dk_16 60 (dk_at dksX6_copy_5 19 rfl rfl)
theorem dX6_copy_139 : decode cX6_copy 139 = .ok (.iload_n 1, 1) := dk_27 (dk_at dksX6_copy_5 21 rfl rfl)
theorem dX6_copy_140 : decode cX6_copy 140 = .ok (.imul, 1) := dk_104 (dk_at dksX6_copy_5 22 rfl rfl)
theorem dX6_copy_141 : decode cX6_copy 141 = .ok (.iload_n 2, 1) := dk_28 (dk_at dksX6_copy_5 23 rfl rfl)
theorem dX6_copy_142 : decode cX6_copy 142 = .ok (.iadd, 1) := dk_96 (dk_at dksX6_copy_6 0 rfl rfl)
theorem dX6_copy_143 : decode cX6_copy 143 = .ok (.iload 6, 2) := dk_21 6 (dk_at dksX6_copy_6 1 rfl rfl)
theorem dX6_copy_145 : decode cX6_copy 145 = .ok (.iadd, 1) := dk_96 (dk_at dksX6_copy_6 3 rfl rfl)
theorem dX6_copy_146 : decode cX6_copy 146 = .ok (.iaload, 1) := dk_46 (dk_at dksX6_copy_6 4 rfl rfl)
theorem dX6_copy_147 : decode cX6_copy 147 = .ok (.iastore, 1) := dk_79 (dk_at dksX6_copy_6 5 rfl rfl)
theorem dX6_copy_148 : decode cX6_copy 148 = .ok (.iinc 6 1, 3) := dk_132 6 1 (dk_at dksX6_copy_6 6 rfl rfl)
theorem dX6_copy_151 : decode cX6_copy 151 = .ok (.goto (-31), 3) := dk_167 255 225 (dk_at dksX6_copy_6 9 rfl rfl)
theorem dX6_copy_154 : decode cX6_copy 154 = .ok (.iconst 0, 1) := dk_3 (dk_at dksX6_copy_6 12 rfl rfl)
theorem dX6_copy_155 : decode cX6_copy 155 = .ok (.istore 6, 2) := dk_54 6 (dk_at dksX6_copy_6 13 rfl rfl)
theorem dX6_copy_157 : decode cX6_copy 157 = .ok (.iload 6, 2) := dk_21 6 (dk_at dksX6_copy_6 15 rfl rfl)
theorem dX6_copy_159 : decode cX6_copy 159 = .ok (.iload 5, 2) := dk_21 5 (dk_at dksX6_copy_6 17 rfl rfl)
theorem dX6_copy_161 : decode cX6_copy 161 = .ok (.if_icmp .ge 31, 3) := dk_162 0 31 (dk_at dksX6_copy_6 19 rfl rfl)
theorem dX6_copy_164 : decode cX6_copy 164 = .ok (.aload_n 0, 1) := dk_42 (dk_at dksX6_copy_6 22 rfl rfl)
theorem dX6_copy_165 : decode cX6_copy 165 = .ok (.getfield 16, 3) := dk_180 0 16 (dk_at dksX6_copy_7 0 rfl rfl)
theorem dX6_copy_168 : decode cX6_copy 168 = .ok (.bipush 60, 2) := dk_16 60 (dk_at dksX6_copy_7 3 rfl rfl)
theorem dX6_copy_170 : decode cX6_copy 170 = .ok (.iload_n 3, 1) := dk_29 (dk_at dksX6_copy_7 5 rfl rfl)
theorem dX6_copy_171 : decode cX6_copy 171 = .ok (.imul, 1) := dk_104 (dk_at dksX6_copy_7 6 rfl rfl)
theorem dX6_copy_172 : decode cX6_copy 172 = .ok (.iload 4, 2) := dk_21 4 (dk_at dksX6_copy_7 7 rfl rfl)
theorem dX6_copy_174 : decode cX6_copy 174 = .ok (.iadd, 1) := dk_96 (dk_at dksX6_copy_7 9 rfl rfl)
theorem dX6_copy_175 : decode cX6_copy 175 = .ok (.iload 6, 2) := dk_21 6 (dk_at dksX6_copy_7 10 rfl rfl)
theorem dX6_copy_177 : decode cX6_copy 177 = .ok (.iadd, 1) := dk_96 (dk_at dksX6_copy_7 12 rfl rfl)
theorem dX6_copy_178 : decode cX6_copy 178 = .ok (.aload_n 0, 1) := dk_42 (dk_at dksX6_copy_7 13 rfl rfl)
theorem dX6_copy_179 : decode cX6_copy 179 = .ok (.getfield 19, 3) := dk_180 0 19 (dk_at dksX6_copy_7 14 rfl rfl)
theorem dX6_copy_182 : decode cX6_copy 182 = .ok (.iload 6, 2) := dk_21 6 (dk_at dksX6_copy_7 17 rfl rfl)
theorem dX6_copy_184 : decode cX6_copy 184 = .ok (.iaload, 1) := dk_46 (dk_at dksX6_copy_7 19 rfl rfl)
theorem dX6_copy_185 : decode cX6_copy 185 = .ok (.iastore, 1) := dk_79 (dk_at dksX6_copy_7 20 rfl rfl)
theorem dX6_copy_186 : decode cX6_copy 186 = .ok (.iinc 6 1, 3) := dk_132 6 1 (dk_at dksX6_copy_7 21 rfl rfl)
theorem dX6_copy_189 : decode cX6_copy 189 = .ok (.goto (-32), 3) := dk_167 255 224 (dk_at dksX6_copy_8 0 rfl rfl)
theorem dX6_copy_192 : decode cX6_copy 192 = .ok (.iconst 1, 1) := dk_4 (dk_at dksX6_copy_8 3 rfl rfl)
theorem dX6_copy_193 : decode cX6_copy 193 = .ok (.ireturn, 1) := dk_172 (dk_at dksX6_copy_8 4 rfl rfl)
def dkwX6_type_3 : List UInt8 := [96, 79, 42, 180, 0, 25, 27, 46, 172]
abbrev dktX6_type_3 : List UInt8 := dkwX6_type_3 ++ []
def dkwX6_type_2 : List UInt8 := [180, 0, 22, 16, 60, 27, 104, 42, 180, 0, 25, 27, 46, 96, 28, 79, 42, 180, 0, 25, 27, 92, 46, 4]
abbrev dktX6_type_2 : List UInt8 := dkwX6_type_2 ++ dktX6_type_3
def dkwX6_type_1 : List UInt8 := [180, 0, 25, 27, 46, 27, 154, 0, 8, 16, 59, 167, 0, 5, 16, 23, 160, 0, 6, 16, 252, 172, 42]
abbrev dktX6_type_1 : List UInt8 := dkwX6_type_1 ++ dktX6_type_2
def dkwX6_type_0 : List UInt8 := [27, 184, 0, 107, 153, 0, 15, 28, 133, 9, 20, 0, 110, 184, 0, 79, 154, 0, 6, 16, 254, 172, 42]
abbrev dktX6_type_0 : List UInt8 := dkwX6_type_0 ++ dktX6_type_1
theorem dksX6_type_0 : cX6_type.data.toList.drop 0 = dktX6_type_0 := by decide +kernel
theorem dksX6_type_1 : cX6_type.data.toList.drop 23 = dktX6_type_1 := dk_seg dksX6_type_0 23 rfl rfl
theorem dksX6_type_2 : cX6_type.data.toList.drop 46 = dktX6_type_2 := dk_seg dksX6_type_1 23 rfl rfl
theorem dksX6_type_3 : cX6_type.data.toList.drop 70 = dktX6_type_3 := dk_seg dksX6_type_2 24 rfl rfl
theorem dX6_type_0 : decode cX6_type 0 = .ok (.iload_n 1, 1) := dk_27 (dk_at dksX6_type_0 0 rfl rfl)
theorem dX6_type_1 : decode cX6_type 1 = .ok (.invokestatic 107, 3) := dk_184 0 107 (dk_at dksX6_type_0 1 rfl rfl)
theorem dX6_type_4 : decode cX6_type 4 = .ok (.ifCond .eq 15, 3) := dk_153 0 15 (dk_at dksX6_type_0 4 rfl rfl)
theorem dX6_type_7 : decode cX6_type 7 = .ok (.iload_n 2, 1) := dk_28 (dk_at dksX6_type_0 7 rfl rfl)
theorem dX6_type_8 : decode cX6_type 8 = .ok (.i2l, 1) := dk_133 (dk_at dksX6_type_0 8 rfl rfl)
theorem dX6_type_9 : decode cX6_type 9 = .ok (.lconst 0, 1) := dk_9 (dk_at dksX6_type_0 9 rfl rfl)
theorem dX6_type_10 : decode cX6_type 10 = .ok (.ldc2_w 110, 3) := dk_20 0 110 (dk_at dksX6_type_0 10 rfl rfl)
theorem dX6_type_13 : decode cX6_type 13 = .ok (.invokestatic 79, 3) := dk_184 0 79 (dk_at dksX6_type_0 13 rfl rfl)
theorem dX6_type_16 : decode cX6_type 16 = .ok (.ifCond .ne 6, 3) := dk_154 0 6 (dk_at dksX6_type_0 16 rfl rfl)
theorem dX6_type_19 : decode cX6_type 19 = .ok (.bipush (-2), 2) := dk_16 254 (dk_at dksX6_type_0 19 rfl rfl)
theorem dX6_type_21 : decode cX6_type 21 = .ok (.ireturn, 1) := dk_172 (dk_at dksX6_type_0 21 rfl rfl)
theorem dX6_type_22 : decode cX6_type 22 = .ok (.aload_n 0, 1) := dk_42 (dk_at dksX6_type_0 22 rfl rfl)
theorem dX6_type_23 : decode cX6_type 23 = .ok (.getfield 25, 3) := dk_180 0 25 (dk_at dksX6_type_1 0 rfl rfl)
theorem dX6_type_26 : decode cX6_type 26 = .ok (.iload_n 1, 1) := dk_27 (dk_at dksX6_type_1 3 rfl rfl)
theorem dX6_type_27 : decode cX6_type 27 = .ok (.iaload, 1) := dk_46 (dk_at dksX6_type_1 4 rfl rfl)
theorem dX6_type_28 : decode cX6_type 28 = .ok (.iload_n 1, 1) := dk_27 (dk_at dksX6_type_1 5 rfl rfl)
theorem dX6_type_29 : decode cX6_type 29 = .ok (.ifCond .ne 8, 3) := dk_154 0 8 (dk_at dksX6_type_1 6 rfl rfl)
theorem dX6_type_32 : decode cX6_type 32 = .ok (.bipush 59, 2) := dk_16 59 (dk_at dksX6_type_1 9 rfl rfl)
theorem dX6_type_34 : decode cX6_type 34 = .ok (.goto 5, 3) := dk_167 0 5 (dk_at dksX6_type_1 11 rfl rfl)
theorem dX6_type_37 : decode cX6_type 37 = .ok (.bipush 23, 2) := dk_16 23 (dk_at dksX6_type_1 14 rfl rfl)
theorem dX6_type_39 : decode cX6_type 39 = .ok (.if_icmp .ne 6, 3) := dk_160 0 6 (dk_at dksX6_type_1 16 rfl rfl)
theorem dX6_type_42 : decode cX6_type 42 = .ok (.bipush (-4), 2) := dk_16 252 (dk_at dksX6_type_1 19 rfl rfl)
theorem dX6_type_44 : decode cX6_type 44 = .ok (.ireturn, 1) := dk_172 (dk_at dksX6_type_1 21 rfl rfl)
theorem dX6_type_45 : decode cX6_type 45 = .ok (.aload_n 0, 1) := dk_42 (dk_at dksX6_type_1 22 rfl rfl)
theorem dX6_type_46 : decode cX6_type 46 = .ok (.getfield 22, 3) := dk_180 0 22 (dk_at dksX6_type_2 0 rfl rfl)
theorem dX6_type_49 : decode cX6_type 49 = .ok (.bipush 60, 2) := dk_16 60 (dk_at dksX6_type_2 3 rfl rfl)
theorem dX6_type_51 : decode cX6_type 51 = .ok (.iload_n 1, 1) := dk_27 (dk_at dksX6_type_2 5 rfl rfl)
theorem dX6_type_52 : decode cX6_type 52 = .ok (.imul, 1) := dk_104 (dk_at dksX6_type_2 6 rfl rfl)
theorem dX6_type_53 : decode cX6_type 53 = .ok (.aload_n 0, 1) := dk_42 (dk_at dksX6_type_2 7 rfl rfl)
theorem dX6_type_54 : decode cX6_type 54 = .ok (.getfield 25, 3) := dk_180 0 25 (dk_at dksX6_type_2 8 rfl rfl)
theorem dX6_type_57 : decode cX6_type 57 = .ok (.iload_n 1, 1) := dk_27 (dk_at dksX6_type_2 11 rfl rfl)
theorem dX6_type_58 : decode cX6_type 58 = .ok (.iaload, 1) := dk_46 (dk_at dksX6_type_2 12 rfl rfl)
theorem dX6_type_59 : decode cX6_type 59 = .ok (.iadd, 1) := dk_96 (dk_at dksX6_type_2 13 rfl rfl)
theorem dX6_type_60 : decode cX6_type 60 = .ok (.iload_n 2, 1) := dk_28 (dk_at dksX6_type_2 14 rfl rfl)
theorem dX6_type_61 : decode cX6_type 61 = .ok (.iastore, 1) := dk_79 (dk_at dksX6_type_2 15 rfl rfl)
theorem dX6_type_62 : decode cX6_type 62 = .ok (.aload_n 0, 1) := dk_42 (dk_at dksX6_type_2 16 rfl rfl)
theorem dX6_type_63 : decode cX6_type 63 = .ok (.getfield 25, 3) := dk_180 0 25 (dk_at dksX6_type_2 17 rfl rfl)
theorem dX6_type_66 : decode cX6_type 66 = .ok (.iload_n 1, 1) := dk_27 (dk_at dksX6_type_2 20 rfl rfl)
theorem dX6_type_67 : decode cX6_type 67 = .ok (.dup2, 1) := dk_92 (dk_at dksX6_type_2 21 rfl rfl)
theorem dX6_type_68 : decode cX6_type 68 = .ok (.iaload, 1) := dk_46 (dk_at dksX6_type_2 22 rfl rfl)
theorem dX6_type_69 : decode cX6_type 69 = .ok (.iconst 1, 1) := dk_4 (dk_at dksX6_type_2 23 rfl rfl)
theorem dX6_type_70 : decode cX6_type 70 = .ok (.iadd, 1) := dk_96 (dk_at dksX6_type_3 0 rfl rfl)
theorem dX6_type_71 : decode cX6_type 71 = .ok (.iastore, 1) := dk_79 (dk_at dksX6_type_3 1 rfl rfl)
theorem dX6_type_72 : decode cX6_type 72 = .ok (.aload_n 0, 1) := dk_42 (dk_at dksX6_type_3 2 rfl rfl)
theorem dX6_type_73 : decode cX6_type 73 = .ok (.getfield 25, 3) := dk_180 0 25 (dk_at dksX6_type_3 3 rfl rfl)
theorem dX6_type_76 : decode cX6_type 76 = .ok (.iload_n 1, 1) := dk_27 (dk_at dksX6_type_3 6 rfl rfl)
theorem dX6_type_77 : decode cX6_type 77 = .ok (.iaload, 1) := dk_46 (dk_at dksX6_type_3 7 rfl rfl)
theorem dX6_type_78 : decode cX6_type 78 = .ok (.ireturn, 1) := dk_172 (dk_at dksX6_type_3 8 rfl rfl)
def dkwX6_isTwo_0 : List UInt8 := [26, 133, 9, 10, 184, 0, 79, 172]
abbrev dktX6_isTwo_0 : List UInt8 := dkwX6_isTwo_0 ++ []
theorem dksX6_isTwo_0 : cX6_isTwo.data.toList.drop 0 = dktX6_isTwo_0 := by decide +kernel
theorem dX6_isTwo_0 : decode cX6_isTwo 0 = .ok (.iload_n 0, 1) := dk_26 (dk_at dksX6_isTwo_0 0 rfl rfl)
theorem dX6_isTwo_1 : decode cX6_isTwo 1 = .ok (.i2l, 1) := dk_133 (dk_at dksX6_isTwo_0 1 rfl rfl)
theorem dX6_isTwo_2 : decode cX6_isTwo 2 = .ok (.lconst 0, 1) := dk_9 (dk_at dksX6_isTwo_0 2 rfl rfl)
theorem dX6_isTwo_3 : decode cX6_isTwo 3 = .ok (.lconst 1, 1) := dk_10 (dk_at dksX6_isTwo_0 3 rfl rfl)
theorem dX6_isTwo_4 : decode cX6_isTwo 4 = .ok (.invokestatic 79, 3) := dk_184 0 79 (dk_at dksX6_isTwo_0 4 rfl rfl)
theorem dX6_isTwo_7 : decode cX6_isTwo 7 = .ok (.ireturn, 1) := dk_172 (dk_at dksX6_isTwo_0 7 rfl rfl)
def dkwX6_wipe_1 : List UInt8 := [28, 172]
abbrev dktX6_wipe_1 : List UInt8 := dkwX6_wipe_1 ++ []
def dkwX6_wipe_0 : List UInt8 := [27, 184, 0, 107, 154, 0, 6, 16, 254, 172, 42, 180, 0, 25, 27, 46, 61, 42, 180, 0, 25, 27, 3, 79]
abbrev dktX6_wipe_0 : List UInt8 := dkwX6_wipe_0 ++ dktX6_wipe_1
theorem dksX6_wipe_0 : cX6_wipe.data.toList.drop 0 = dktX6_wipe_0 := by decide +kernel
theorem dksX6_wipe_1 : cX6_wipe.data.toList.drop 24 = dktX6_wipe_1 := dk_seg dksX6_wipe_0 24 rfl rfl
theorem dX6_wipe_0 : decode cX6_wipe 0 = .ok (.iload_n 1, 1) := dk_27 (dk_at dksX6_wipe_0 0 rfl rfl)
theorem dX6_wipe_1 : decode cX6_wipe 1 = .ok (.invokestatic 107, 3) := dk_184 0 107 (dk_at dksX6_wipe_0 1 rfl rfl)
theorem dX6_wipe_4 : decode cX6_wipe 4 = .ok (.ifCond .ne 6, 3) := dk_154 0 6 (dk_at dksX6_wipe_0 4 rfl rfl)
theorem dX6_wipe_7 : decode cX6_wipe 7 = .ok (.bipush (-2), 2) := dk_16 254 (dk_at dksX6_wipe_0 7 rfl rfl)
theorem dX6_wipe_9 : decode cX6_wipe 9 = .ok (.ireturn, 1) := dk_172 (dk_at dksX6_wipe_0 9 rfl rfl)
theorem dX6_wipe_10 : decode cX6_wipe 10 = .ok (.aload_n 0, 1) := dk_42 (dk_at dksX6_wipe_0 10 rfl rfl)
theorem dX6_wipe_11 : decode cX6_wipe 11 = .ok (.getfield 25, 3) := dk_180 0 25 (dk_at dksX6_wipe_0 11 rfl rfl)
theorem dX6_wipe_14 : decode cX6_wipe 14 = .ok (.iload_n 1, 1) := dk_27 (dk_at dksX6_wipe_0 14 rfl rfl)
theorem dX6_wipe_15 : decode cX6_wipe 15 = .ok (.iaload, 1) := dk_46 (dk_at dksX6_wipe_0 15 rfl rfl)
theorem dX6_wipe_16 : decode cX6_wipe 16 = .ok (.istore_n 2, 1) := dk_61 (dk_at dksX6_wipe_0 16 rfl rfl)
theorem dX6_wipe_17 : decode cX6_wipe 17 = .ok (.aload_n 0, 1) := dk_42 (dk_at dksX6_wipe_0 17 rfl rfl)
theorem dX6_wipe_18 : decode cX6_wipe 18 = .ok (.getfield 25, 3) := dk_180 0 25 (dk_at dksX6_wipe_0 18 rfl rfl)
theorem dX6_wipe_21 : decode cX6_wipe 21 = .ok (.iload_n 1, 1) := dk_27 (dk_at dksX6_wipe_0 21 rfl rfl)
theorem dX6_wipe_22 : decode cX6_wipe 22 = .ok (.iconst 0, 1) := dk_3 (dk_at dksX6_wipe_0 22 rfl rfl)
theorem dX6_wipe_23 : decode cX6_wipe 23 = .ok (.iastore, 1) := dk_79 (dk_at dksX6_wipe_0 23 rfl rfl)
theorem dX6_wipe_24 : decode cX6_wipe 24 = .ok (.iload_n 2, 1) := dk_28 (dk_at dksX6_wipe_1 0 rfl rfl)
theorem dX6_wipe_25 : decode cX6_wipe 25 = .ok (.ireturn, 1) := dk_172 (dk_at dksX6_wipe_1 1 rfl rfl)
def dkwX6_undo_1 : List UInt8 := [180, 0, 25, 27, 92, 46, 4, 100, 79, 42, 180, 0, 25, 27, 46, 172]
abbrev dktX6_undo_1 : List UInt8 := dkwX6_undo_1 ++ []
def dkwX6_undo_0 : List UInt8 := [27, 184, 0, 107, 154, 0, 6, 16, 254, 172, 42, 180, 0, 25, 27, 46, 154, 0, 6, 16, 253, 172, 42]
abbrev dktX6_undo_0 : List UInt8 := dkwX6_undo_0 ++ dktX6_undo_1
theorem dksX6_undo_0 : cX6_undo.data.toList.drop 0 = dktX6_undo_0 := by decide +kernel
theorem dksX6_undo_1 : cX6_undo.data.toList.drop 23 = dktX6_undo_1 := dk_seg dksX6_undo_0 23 rfl rfl
theorem dX6_undo_0 : decode cX6_undo 0 = .ok (.iload_n 1, 1) := dk_27 (dk_at dksX6_undo_0 0 rfl rfl)
theorem dX6_undo_1 : decode cX6_undo 1 = .ok (.invokestatic 107, 3) := dk_184 0 107 (dk_at dksX6_undo_0 1 rfl rfl)
theorem dX6_undo_4 : decode cX6_undo 4 = .ok (.ifCond .ne 6, 3) := dk_154 0 6 (dk_at dksX6_undo_0 4 rfl rfl)
theorem dX6_undo_7 : decode cX6_undo 7 = .ok (.bipush (-2), 2) := dk_16 254 (dk_at dksX6_undo_0 7 rfl rfl)
theorem dX6_undo_9 : decode cX6_undo 9 = .ok (.ireturn, 1) := dk_172 (dk_at dksX6_undo_0 9 rfl rfl)
theorem dX6_undo_10 : decode cX6_undo 10 = .ok (.aload_n 0, 1) := dk_42 (dk_at dksX6_undo_0 10 rfl rfl)
theorem dX6_undo_11 : decode cX6_undo 11 = .ok (.getfield 25, 3) := dk_180 0 25 (dk_at dksX6_undo_0 11 rfl rfl)
theorem dX6_undo_14 : decode cX6_undo 14 = .ok (.iload_n 1, 1) := dk_27 (dk_at dksX6_undo_0 14 rfl rfl)
theorem dX6_undo_15 : decode cX6_undo 15 = .ok (.iaload, 1) := dk_46 (dk_at dksX6_undo_0 15 rfl rfl)
theorem dX6_undo_16 : decode cX6_undo 16 = .ok (.ifCond .ne 6, 3) := dk_154 0 6 (dk_at dksX6_undo_0 16 rfl rfl)
theorem dX6_undo_19 : decode cX6_undo 19 = .ok (.bipush (-3), 2) := dk_16 253 (dk_at dksX6_undo_0 19 rfl rfl)
theorem dX6_undo_21 : decode cX6_undo 21 = .ok (.ireturn, 1) := dk_172 (dk_at dksX6_undo_0 21 rfl rfl)
theorem dX6_undo_22 : decode cX6_undo 22 = .ok (.aload_n 0, 1) := dk_42 (dk_at dksX6_undo_0 22 rfl rfl)
theorem dX6_undo_23 : decode cX6_undo 23 = .ok (.getfield 25, 3) := dk_180 0 25 (dk_at dksX6_undo_1 0 rfl rfl)
theorem dX6_undo_26 : decode cX6_undo 26 = .ok (.iload_n 1, 1) := dk_27 (dk_at dksX6_undo_1 3 rfl rfl)
theorem dX6_undo_27 : decode cX6_undo 27 = .ok (.dup2, 1) := dk_92 (dk_at dksX6_undo_1 4 rfl rfl)
theorem dX6_undo_28 : decode cX6_undo 28 = .ok (.iaload, 1) := dk_46 (dk_at dksX6_undo_1 5 rfl rfl)
theorem dX6_undo_29 : decode cX6_undo 29 = .ok (.iconst 1, 1) := dk_4 (dk_at dksX6_undo_1 6 rfl rfl)
theorem dX6_undo_30 : decode cX6_undo 30 = .ok (.isub, 1) := dk_100 (dk_at dksX6_undo_1 7 rfl rfl)
theorem dX6_undo_31 : decode cX6_undo 31 = .ok (.iastore, 1) := dk_79 (dk_at dksX6_undo_1 8 rfl rfl)
theorem dX6_undo_32 : decode cX6_undo 32 = .ok (.aload_n 0, 1) := dk_42 (dk_at dksX6_undo_1 9 rfl rfl)
theorem dX6_undo_33 : decode cX6_undo 33 = .ok (.getfield 25, 3) := dk_180 0 25 (dk_at dksX6_undo_1 10 rfl rfl)
theorem dX6_undo_36 : decode cX6_undo 36 = .ok (.iload_n 1, 1) := dk_27 (dk_at dksX6_undo_1 13 rfl rfl)
theorem dX6_undo_37 : decode cX6_undo 37 = .ok (.iaload, 1) := dk_46 (dk_at dksX6_undo_1 14 rfl rfl)
theorem dX6_undo_38 : decode cX6_undo 38 = .ok (.ireturn, 1) := dk_172 (dk_at dksX6_undo_1 15 rfl rfl)
def dkwX6_fault_1 : List UInt8 := [182, 0, 132, 172]
abbrev dktX6_fault_1 : List UInt8 := dkwX6_fault_1 ++ []
def dkwX6_fault_0 : List UInt8 := [27, 184, 0, 107, 154, 0, 8, 16, 254, 167, 0, 18, 27, 154, 0, 10, 42, 182, 0, 128, 167, 0, 7, 42]
abbrev dktX6_fault_0 : List UInt8 := dkwX6_fault_0 ++ dktX6_fault_1
theorem dksX6_fault_0 : cX6_fault.data.toList.drop 0 = dktX6_fault_0 := by decide +kernel
theorem dksX6_fault_1 : cX6_fault.data.toList.drop 24 = dktX6_fault_1 := dk_seg dksX6_fault_0 24 rfl rfl
theorem dX6_fault_0 : decode cX6_fault 0 = .ok (.iload_n 1, 1) := dk_27 (dk_at dksX6_fault_0 0 rfl rfl)
theorem dX6_fault_1 : decode cX6_fault 1 = .ok (.invokestatic 107, 3) := dk_184 0 107 (dk_at dksX6_fault_0 1 rfl rfl)
theorem dX6_fault_4 : decode cX6_fault 4 = .ok (.ifCond .ne 8, 3) := dk_154 0 8 (dk_at dksX6_fault_0 4 rfl rfl)
theorem dX6_fault_7 : decode cX6_fault 7 = .ok (.bipush (-2), 2) := dk_16 254 (dk_at dksX6_fault_0 7 rfl rfl)
theorem dX6_fault_9 : decode cX6_fault 9 = .ok (.goto 18, 3) := dk_167 0 18 (dk_at dksX6_fault_0 9 rfl rfl)
theorem dX6_fault_12 : decode cX6_fault 12 = .ok (.iload_n 1, 1) := dk_27 (dk_at dksX6_fault_0 12 rfl rfl)
theorem dX6_fault_13 : decode cX6_fault 13 = .ok (.ifCond .ne 10, 3) := dk_154 0 10 (dk_at dksX6_fault_0 13 rfl rfl)
theorem dX6_fault_16 : decode cX6_fault 16 = .ok (.aload_n 0, 1) := dk_42 (dk_at dksX6_fault_0 16 rfl rfl)
theorem dX6_fault_17 : decode cX6_fault 17 = .ok (.invokevirtual 128, 3) := dk_182 0 128 (dk_at dksX6_fault_0 17 rfl rfl)
theorem dX6_fault_20 : decode cX6_fault 20 = .ok (.goto 7, 3) := dk_167 0 7 (dk_at dksX6_fault_0 20 rfl rfl)
theorem dX6_fault_23 : decode cX6_fault 23 = .ok (.aload_n 0, 1) := dk_42 (dk_at dksX6_fault_0 23 rfl rfl)
theorem dX6_fault_24 : decode cX6_fault 24 = .ok (.invokevirtual 132, 3) := dk_182 0 132 (dk_at dksX6_fault_1 0 rfl rfl)
theorem dX6_fault_27 : decode cX6_fault 27 = .ok (.ireturn, 1) := dk_172 (dk_at dksX6_fault_1 3 rfl rfl)
def dkwX6_readsTunes_7 : List UInt8 := [180, 0, 112, 27, 79, 42, 89, 180, 0, 112, 4, 96, 181, 0, 112, 2, 172]
abbrev dktX6_readsTunes_7 : List UInt8 := dkwX6_readsTunes_7 ++ []
def dkwX6_readsTunes_6 : List UInt8 := [154, 0, 7, 2, 167, 0, 13, 42, 42, 180, 0, 25, 3, 46, 182, 0, 115, 172, 42, 180, 0, 31, 42]
abbrev dktX6_readsTunes_6 : List UInt8 := dkwX6_readsTunes_6 ++ dktX6_readsTunes_7
def dkwX6_readsTunes_5 : List UInt8 := [16, 97, 100, 79, 132, 1, 1, 132, 2, 1, 167, 255, 139, 27, 154, 0, 27, 42, 180, 0, 25, 3, 46]
abbrev dktX6_readsTunes_5 : List UInt8 := dkwX6_readsTunes_5 ++ dktX6_readsTunes_6
def dkwX6_readsTunes_4 : List UInt8 := [160, 0, 9, 42, 28, 182, 0, 115, 172, 42, 180, 0, 28, 16, 40, 42, 180, 0, 112, 104, 27, 96, 29]
abbrev dktX6_readsTunes_4 : List UInt8 := dkwX6_readsTunes_4 ++ dktX6_readsTunes_5
def dkwX6_readsTunes_3 : List UInt8 := [20, 0, 118, 20, 0, 120, 184, 0, 79, 153, 0, 18, 27, 16, 12, 159, 0, 12, 42, 180, 0, 112, 16, 6]
abbrev dktX6_readsTunes_3 : List UInt8 := dkwX6_readsTunes_3 ++ dktX6_readsTunes_4
def dkwX6_readsTunes_2 : List UInt8 := [180, 0, 112, 27, 79, 42, 89, 180, 0, 112, 4, 96, 181, 0, 112, 3, 60, 167, 0, 59, 29, 133]
abbrev dktX6_readsTunes_2 : List UInt8 := dkwX6_readsTunes_2 ++ dktX6_readsTunes_3
def dkwX6_readsTunes_1 : List UInt8 := [46, 62, 29, 16, 59, 160, 0, 38, 27, 154, 0, 9, 42, 28, 182, 0, 115, 172, 42, 180, 0, 31, 42]
abbrev dktX6_readsTunes_1 : List UInt8 := dkwX6_readsTunes_1 ++ dktX6_readsTunes_2
def dkwX6_readsTunes_0 : List UInt8 := [42, 3, 181, 0, 112, 3, 60, 3, 61, 28, 42, 180, 0, 25, 3, 46, 162, 0, 113, 42, 180, 0, 22, 28]
abbrev dktX6_readsTunes_0 : List UInt8 := dkwX6_readsTunes_0 ++ dktX6_readsTunes_1
theorem dksX6_readsTunes_0 : cX6_readsTunes.data.toList.drop 0 = dktX6_readsTunes_0 := by decide +kernel
theorem dksX6_readsTunes_1 : cX6_readsTunes.data.toList.drop 24 = dktX6_readsTunes_1 := dk_seg dksX6_readsTunes_0 24 rfl rfl
theorem dksX6_readsTunes_2 : cX6_readsTunes.data.toList.drop 47 = dktX6_readsTunes_2 := dk_seg dksX6_readsTunes_1 23 rfl rfl
theorem dksX6_readsTunes_3 : cX6_readsTunes.data.toList.drop 69 = dktX6_readsTunes_3 := dk_seg dksX6_readsTunes_2 22 rfl rfl
theorem dksX6_readsTunes_4 : cX6_readsTunes.data.toList.drop 93 = dktX6_readsTunes_4 := dk_seg dksX6_readsTunes_3 24 rfl rfl
theorem dksX6_readsTunes_5 : cX6_readsTunes.data.toList.drop 116 = dktX6_readsTunes_5 := dk_seg dksX6_readsTunes_4 23 rfl rfl
theorem dksX6_readsTunes_6 : cX6_readsTunes.data.toList.drop 139 = dktX6_readsTunes_6 := dk_seg dksX6_readsTunes_5 23 rfl rfl
theorem dksX6_readsTunes_7 : cX6_readsTunes.data.toList.drop 162 = dktX6_readsTunes_7 := dk_seg dksX6_readsTunes_6 23 rfl rfl
theorem dX6_readsTunes_0 : decode cX6_readsTunes 0 = .ok (.aload_n 0, 1) := dk_42 (dk_at dksX6_readsTunes_0 0 rfl rfl)
theorem dX6_readsTunes_1 : decode cX6_readsTunes 1 = .ok (.iconst 0, 1) := dk_3 (dk_at dksX6_readsTunes_0 1 rfl rfl)
theorem dX6_readsTunes_2 : decode cX6_readsTunes 2 = .ok (.putfield 112, 3) := dk_181 0 112 (dk_at dksX6_readsTunes_0 2 rfl rfl)
theorem dX6_readsTunes_5 : decode cX6_readsTunes 5 = .ok (.iconst 0, 1) := dk_3 (dk_at dksX6_readsTunes_0 5 rfl rfl)
theorem dX6_readsTunes_6 : decode cX6_readsTunes 6 = .ok (.istore_n 1, 1) := dk_60 (dk_at dksX6_readsTunes_0 6 rfl rfl)
theorem dX6_readsTunes_7 : decode cX6_readsTunes 7 = .ok (.iconst 0, 1) := dk_3 (dk_at dksX6_readsTunes_0 7 rfl rfl)
theorem dX6_readsTunes_8 : decode cX6_readsTunes 8 = .ok (.istore_n 2, 1) := dk_61 (dk_at dksX6_readsTunes_0 8 rfl rfl)
theorem dX6_readsTunes_9 : decode cX6_readsTunes 9 = .ok (.iload_n 2, 1) := dk_28 (dk_at dksX6_readsTunes_0 9 rfl rfl)
theorem dX6_readsTunes_10 : decode cX6_readsTunes 10 = .ok (.aload_n 0, 1) := dk_42 (dk_at dksX6_readsTunes_0 10 rfl rfl)
theorem dX6_readsTunes_11 : decode cX6_readsTunes 11 = .ok (.getfield 25, 3) := dk_180 0 25 (dk_at dksX6_readsTunes_0 11 rfl rfl)
theorem dX6_readsTunes_14 : decode cX6_readsTunes 14 = .ok (.iconst 0, 1) := dk_3 (dk_at dksX6_readsTunes_0 14 rfl rfl)
theorem dX6_readsTunes_15 : decode cX6_readsTunes 15 = .ok (.iaload, 1) := dk_46 (dk_at dksX6_readsTunes_0 15 rfl rfl)
theorem dX6_readsTunes_16 : decode cX6_readsTunes 16 = .ok (.if_icmp .ge 113, 3) := dk_162 0 113 (dk_at dksX6_readsTunes_0 16 rfl rfl)
theorem dX6_readsTunes_19 : decode cX6_readsTunes 19 = .ok (.aload_n 0, 1) := dk_42 (dk_at dksX6_readsTunes_0 19 rfl rfl)
theorem dX6_readsTunes_20 : decode cX6_readsTunes 20 = .ok (.getfield 22, 3) := dk_180 0 22 (dk_at dksX6_readsTunes_0 20 rfl rfl)
theorem dX6_readsTunes_23 : decode cX6_readsTunes 23 = .ok (.iload_n 2, 1) := dk_28 (dk_at dksX6_readsTunes_0 23 rfl rfl)
theorem dX6_readsTunes_24 : decode cX6_readsTunes 24 = .ok (.iaload, 1) := dk_46 (dk_at dksX6_readsTunes_1 0 rfl rfl)
theorem dX6_readsTunes_25 : decode cX6_readsTunes 25 = .ok (.istore_n 3, 1) := dk_62 (dk_at dksX6_readsTunes_1 1 rfl rfl)
theorem dX6_readsTunes_26 : decode cX6_readsTunes 26 = .ok (.iload_n 3, 1) := dk_29 (dk_at dksX6_readsTunes_1 2 rfl rfl)
theorem dX6_readsTunes_27 : decode cX6_readsTunes 27 = .ok (.bipush 59, 2) := dk_16 59 (dk_at dksX6_readsTunes_1 3 rfl rfl)
theorem dX6_readsTunes_29 : decode cX6_readsTunes 29 = .ok (.if_icmp .ne 38, 3) := dk_160 0 38 (dk_at dksX6_readsTunes_1 5 rfl rfl)
theorem dX6_readsTunes_32 : decode cX6_readsTunes 32 = .ok (.iload_n 1, 1) := dk_27 (dk_at dksX6_readsTunes_1 8 rfl rfl)
theorem dX6_readsTunes_33 : decode cX6_readsTunes 33 = .ok (.ifCond .ne 9, 3) := dk_154 0 9 (dk_at dksX6_readsTunes_1 9 rfl rfl)
theorem dX6_readsTunes_36 : decode cX6_readsTunes 36 = .ok (.aload_n 0, 1) := dk_42 (dk_at dksX6_readsTunes_1 12 rfl rfl)
theorem dX6_readsTunes_37 : decode cX6_readsTunes 37 = .ok (.iload_n 2, 1) := dk_28 (dk_at dksX6_readsTunes_1 13 rfl rfl)
theorem dX6_readsTunes_38 : decode cX6_readsTunes 38 = .ok (.invokevirtual 115, 3) := dk_182 0 115 (dk_at dksX6_readsTunes_1 14 rfl rfl)
theorem dX6_readsTunes_41 : decode cX6_readsTunes 41 = .ok (.ireturn, 1) := dk_172 (dk_at dksX6_readsTunes_1 17 rfl rfl)
theorem dX6_readsTunes_42 : decode cX6_readsTunes 42 = .ok (.aload_n 0, 1) := dk_42 (dk_at dksX6_readsTunes_1 18 rfl rfl)
theorem dX6_readsTunes_43 : decode cX6_readsTunes 43 = .ok (.getfield 31, 3) := dk_180 0 31 (dk_at dksX6_readsTunes_1 19 rfl rfl)
theorem dX6_readsTunes_46 : decode cX6_readsTunes 46 = .ok (.aload_n 0, 1) := dk_42 (dk_at dksX6_readsTunes_1 22 rfl rfl)
theorem dX6_readsTunes_47 : decode cX6_readsTunes 47 = .ok (.getfield 112, 3) := dk_180 0 112 (dk_at dksX6_readsTunes_2 0 rfl rfl)
theorem dX6_readsTunes_50 : decode cX6_readsTunes 50 = .ok (.iload_n 1, 1) := dk_27 (dk_at dksX6_readsTunes_2 3 rfl rfl)
theorem dX6_readsTunes_51 : decode cX6_readsTunes 51 = .ok (.iastore, 1) := dk_79 (dk_at dksX6_readsTunes_2 4 rfl rfl)
theorem dX6_readsTunes_52 : decode cX6_readsTunes 52 = .ok (.aload_n 0, 1) := dk_42 (dk_at dksX6_readsTunes_2 5 rfl rfl)
theorem dX6_readsTunes_53 : decode cX6_readsTunes 53 = .ok (.dup, 1) := dk_89 (dk_at dksX6_readsTunes_2 6 rfl rfl)
theorem dX6_readsTunes_54 : decode cX6_readsTunes 54 = .ok (.getfield 112, 3) := dk_180 0 112 (dk_at dksX6_readsTunes_2 7 rfl rfl)
theorem dX6_readsTunes_57 : decode cX6_readsTunes 57 = .ok (.iconst 1, 1) := dk_4 (dk_at dksX6_readsTunes_2 10 rfl rfl)
theorem dX6_readsTunes_58 : decode cX6_readsTunes 58 = .ok (.iadd, 1) := dk_96 (dk_at dksX6_readsTunes_2 11 rfl rfl)
theorem dX6_readsTunes_59 : decode cX6_readsTunes 59 = .ok (.putfield 112, 3) := dk_181 0 112 (dk_at dksX6_readsTunes_2 12 rfl rfl)
theorem dX6_readsTunes_62 : decode cX6_readsTunes 62 = .ok (.iconst 0, 1) := dk_3 (dk_at dksX6_readsTunes_2 15 rfl rfl)
theorem dX6_readsTunes_63 : decode cX6_readsTunes 63 = .ok (.istore_n 1, 1) := dk_60 (dk_at dksX6_readsTunes_2 16 rfl rfl)
theorem dX6_readsTunes_64 : decode cX6_readsTunes 64 = .ok (.goto 59, 3) := dk_167 0 59 (dk_at dksX6_readsTunes_2 17 rfl rfl)
theorem dX6_readsTunes_67 : decode cX6_readsTunes 67 = .ok (.iload_n 3, 1) := dk_29 (dk_at dksX6_readsTunes_2 20 rfl rfl)
theorem dX6_readsTunes_68 : decode cX6_readsTunes 68 = .ok (.i2l, 1) := dk_133 (dk_at dksX6_readsTunes_2 21 rfl rfl)
theorem dX6_readsTunes_69 : decode cX6_readsTunes 69 = .ok (.ldc2_w 118, 3) := dk_20 0 118 (dk_at dksX6_readsTunes_3 0 rfl rfl)
theorem dX6_readsTunes_72 : decode cX6_readsTunes 72 = .ok (.ldc2_w 120, 3) := dk_20 0 120 (dk_at dksX6_readsTunes_3 3 rfl rfl)
theorem dX6_readsTunes_75 : decode cX6_readsTunes 75 = .ok (.invokestatic 79, 3) := dk_184 0 79 (dk_at dksX6_readsTunes_3 6 rfl rfl)
theorem dX6_readsTunes_78 : decode cX6_readsTunes 78 = .ok (.ifCond .eq 18, 3) := dk_153 0 18 (dk_at dksX6_readsTunes_3 9 rfl rfl)
theorem dX6_readsTunes_81 : decode cX6_readsTunes 81 = .ok (.iload_n 1, 1) := dk_27 (dk_at dksX6_readsTunes_3 12 rfl rfl)
theorem dX6_readsTunes_82 : decode cX6_readsTunes 82 = .ok (.bipush 12, 2) := dk_16 12 (dk_at dksX6_readsTunes_3 13 rfl rfl)
theorem dX6_readsTunes_84 : decode cX6_readsTunes 84 = .ok (.if_icmp .eq 12, 3) := dk_159 0 12 (dk_at dksX6_readsTunes_3 15 rfl rfl)
theorem dX6_readsTunes_87 : decode cX6_readsTunes 87 = .ok (.aload_n 0, 1) := dk_42 (dk_at dksX6_readsTunes_3 18 rfl rfl)
theorem dX6_readsTunes_88 : decode cX6_readsTunes 88 = .ok (.getfield 112, 3) := dk_180 0 112 (dk_at dksX6_readsTunes_3 19 rfl rfl)
theorem dX6_readsTunes_91 : decode cX6_readsTunes 91 = .ok (.bipush 6, 2) := dk_16 6 (dk_at dksX6_readsTunes_3 22 rfl rfl)
theorem dX6_readsTunes_93 : decode cX6_readsTunes 93 = .ok (.if_icmp .ne 9, 3) := dk_160 0 9 (dk_at dksX6_readsTunes_4 0 rfl rfl)
theorem dX6_readsTunes_96 : decode cX6_readsTunes 96 = .ok (.aload_n 0, 1) := dk_42 (dk_at dksX6_readsTunes_4 3 rfl rfl)
theorem dX6_readsTunes_97 : decode cX6_readsTunes 97 = .ok (.iload_n 2, 1) := dk_28 (dk_at dksX6_readsTunes_4 4 rfl rfl)
theorem dX6_readsTunes_98 : decode cX6_readsTunes 98 = .ok (.invokevirtual 115, 3) := dk_182 0 115 (dk_at dksX6_readsTunes_4 5 rfl rfl)
theorem dX6_readsTunes_101 : decode cX6_readsTunes 101 = .ok (.ireturn, 1) := dk_172 (dk_at dksX6_readsTunes_4 8 rfl rfl)
theorem dX6_readsTunes_102 : decode cX6_readsTunes 102 = .ok (.aload_n 0, 1) := dk_42 (dk_at dksX6_readsTunes_4 9 rfl rfl)
theorem dX6_readsTunes_103 : decode cX6_readsTunes 103 = .ok (.getfield 28, 3) := dk_180 0 28 (dk_at dksX6_readsTunes_4 10 rfl rfl)
theorem dX6_readsTunes_106 : decode cX6_readsTunes 106 = .ok (.bipush 40, 2) := dk_16 40 (dk_at dksX6_readsTunes_4 13 rfl rfl)
theorem dX6_readsTunes_108 : decode cX6_readsTunes 108 = .ok (.aload_n 0, 1) := dk_42 (dk_at dksX6_readsTunes_4 15 rfl rfl)
theorem dX6_readsTunes_109 : decode cX6_readsTunes 109 = .ok (.getfield 112, 3) := dk_180 0 112 (dk_at dksX6_readsTunes_4 16 rfl rfl)
theorem dX6_readsTunes_112 : decode cX6_readsTunes 112 = .ok (.imul, 1) := dk_104 (dk_at dksX6_readsTunes_4 19 rfl rfl)
theorem dX6_readsTunes_113 : decode cX6_readsTunes 113 = .ok (.iload_n 1, 1) := dk_27 (dk_at dksX6_readsTunes_4 20 rfl rfl)
theorem dX6_readsTunes_114 : decode cX6_readsTunes 114 = .ok (.iadd, 1) := dk_96 (dk_at dksX6_readsTunes_4 21 rfl rfl)
theorem dX6_readsTunes_115 : decode cX6_readsTunes 115 = .ok (.iload_n 3, 1) := dk_29 (dk_at dksX6_readsTunes_4 22 rfl rfl)
theorem dX6_readsTunes_116 : decode cX6_readsTunes 116 = .ok (.bipush 97, 2) := dk_16 97 (dk_at dksX6_readsTunes_5 0 rfl rfl)
theorem dX6_readsTunes_118 : decode cX6_readsTunes 118 = .ok (.isub, 1) := dk_100 (dk_at dksX6_readsTunes_5 2 rfl rfl)
theorem dX6_readsTunes_119 : decode cX6_readsTunes 119 = .ok (.iastore, 1) := dk_79 (dk_at dksX6_readsTunes_5 3 rfl rfl)
theorem dX6_readsTunes_120 : decode cX6_readsTunes 120 = .ok (.iinc 1 1, 3) := dk_132 1 1 (dk_at dksX6_readsTunes_5 4 rfl rfl)
theorem dX6_readsTunes_123 : decode cX6_readsTunes 123 = .ok (.iinc 2 1, 3) := dk_132 2 1 (dk_at dksX6_readsTunes_5 7 rfl rfl)
theorem dX6_readsTunes_126 : decode cX6_readsTunes 126 = .ok (.goto (-117), 3) := dk_167 255 139 (dk_at dksX6_readsTunes_5 10 rfl rfl)
theorem dX6_readsTunes_129 : decode cX6_readsTunes 129 = .ok (.iload_n 1, 1) := dk_27 (dk_at dksX6_readsTunes_5 13 rfl rfl)
theorem dX6_readsTunes_130 : decode cX6_readsTunes 130 = .ok (.ifCond .ne 27, 3) := dk_154 0 27 (dk_at dksX6_readsTunes_5 14 rfl rfl)
theorem dX6_readsTunes_133 : decode cX6_readsTunes 133 = .ok (.aload_n 0, 1) := dk_42 (dk_at dksX6_readsTunes_5 17 rfl rfl)
theorem dX6_readsTunes_134 : decode cX6_readsTunes 134 = .ok (.getfield 25, 3) := dk_180 0 25 (dk_at dksX6_readsTunes_5 18 rfl rfl)
theorem dX6_readsTunes_137 : decode cX6_readsTunes 137 = .ok (.iconst 0, 1) := dk_3 (dk_at dksX6_readsTunes_5 21 rfl rfl)
theorem dX6_readsTunes_138 : decode cX6_readsTunes 138 = .ok (.iaload, 1) := dk_46 (dk_at dksX6_readsTunes_5 22 rfl rfl)
theorem dX6_readsTunes_139 : decode cX6_readsTunes 139 = .ok (.ifCond .ne 7, 3) := dk_154 0 7 (dk_at dksX6_readsTunes_6 0 rfl rfl)
theorem dX6_readsTunes_142 : decode cX6_readsTunes 142 = .ok (.iconst (-1), 1) := dk_2 (dk_at dksX6_readsTunes_6 3 rfl rfl)
theorem dX6_readsTunes_143 : decode cX6_readsTunes 143 = .ok (.goto 13, 3) := dk_167 0 13 (dk_at dksX6_readsTunes_6 4 rfl rfl)
theorem dX6_readsTunes_146 : decode cX6_readsTunes 146 = .ok (.aload_n 0, 1) := dk_42 (dk_at dksX6_readsTunes_6 7 rfl rfl)
theorem dX6_readsTunes_147 : decode cX6_readsTunes 147 = .ok (.aload_n 0, 1) := dk_42 (dk_at dksX6_readsTunes_6 8 rfl rfl)
theorem dX6_readsTunes_148 : decode cX6_readsTunes 148 = .ok (.getfield 25, 3) := dk_180 0 25 (dk_at dksX6_readsTunes_6 9 rfl rfl)
theorem dX6_readsTunes_151 : decode cX6_readsTunes 151 = .ok (.iconst 0, 1) := dk_3 (dk_at dksX6_readsTunes_6 12 rfl rfl)
theorem dX6_readsTunes_152 : decode cX6_readsTunes 152 = .ok (.iaload, 1) := dk_46 (dk_at dksX6_readsTunes_6 13 rfl rfl)
theorem dX6_readsTunes_153 : decode cX6_readsTunes 153 = .ok (.invokevirtual 115, 3) := dk_182 0 115 (dk_at dksX6_readsTunes_6 14 rfl rfl)
theorem dX6_readsTunes_156 : decode cX6_readsTunes 156 = .ok (.ireturn, 1) := dk_172 (dk_at dksX6_readsTunes_6 17 rfl rfl)
theorem dX6_readsTunes_157 : decode cX6_readsTunes 157 = .ok (.aload_n 0, 1) := dk_42 (dk_at dksX6_readsTunes_6 18 rfl rfl)
theorem dX6_readsTunes_158 : decode cX6_readsTunes 158 = .ok (.getfield 31, 3) := dk_180 0 31 (dk_at dksX6_readsTunes_6 19 rfl rfl)
theorem dX6_readsTunes_161 : decode cX6_readsTunes 161 = .ok (.aload_n 0, 1) := dk_42 (dk_at dksX6_readsTunes_6 22 rfl rfl)
theorem dX6_readsTunes_162 : decode cX6_readsTunes 162 = .ok (.getfield 112, 3) := dk_180 0 112 (dk_at dksX6_readsTunes_7 0 rfl rfl)
theorem dX6_readsTunes_165 : decode cX6_readsTunes 165 = .ok (.iload_n 1, 1) := dk_27 (dk_at dksX6_readsTunes_7 3 rfl rfl)
theorem dX6_readsTunes_166 : decode cX6_readsTunes 166 = .ok (.iastore, 1) := dk_79 (dk_at dksX6_readsTunes_7 4 rfl rfl)
theorem dX6_readsTunes_167 : decode cX6_readsTunes 167 = .ok (.aload_n 0, 1) := dk_42 (dk_at dksX6_readsTunes_7 5 rfl rfl)
theorem dX6_readsTunes_168 : decode cX6_readsTunes 168 = .ok (.dup, 1) := dk_89 (dk_at dksX6_readsTunes_7 6 rfl rfl)
theorem dX6_readsTunes_169 : decode cX6_readsTunes 169 = .ok (.getfield 112, 3) := dk_180 0 112 (dk_at dksX6_readsTunes_7 7 rfl rfl)
theorem dX6_readsTunes_172 : decode cX6_readsTunes 172 = .ok (.iconst 1, 1) := dk_4 (dk_at dksX6_readsTunes_7 10 rfl rfl)
theorem dX6_readsTunes_173 : decode cX6_readsTunes 173 = .ok (.iadd, 1) := dk_96 (dk_at dksX6_readsTunes_7 11 rfl rfl)
theorem dX6_readsTunes_174 : decode cX6_readsTunes 174 = .ok (.putfield 112, 3) := dk_181 0 112 (dk_at dksX6_readsTunes_7 12 rfl rfl)
theorem dX6_readsTunes_177 : decode cX6_readsTunes 177 = .ok (.iconst (-1), 1) := dk_2 (dk_at dksX6_readsTunes_7 15 rfl rfl)
theorem dX6_readsTunes_178 : decode cX6_readsTunes 178 = .ok (.ireturn, 1) := dk_172 (dk_at dksX6_readsTunes_7 16 rfl rfl)
def dkwX6_tunesFault_0 : List UInt8 := [42, 3, 181, 0, 112, 27, 172]
abbrev dktX6_tunesFault_0 : List UInt8 := dkwX6_tunesFault_0 ++ []
theorem dksX6_tunesFault_0 : cX6_tunesFault.data.toList.drop 0 = dktX6_tunesFault_0 := by decide +kernel
theorem dX6_tunesFault_0 : decode cX6_tunesFault 0 = .ok (.aload_n 0, 1) := dk_42 (dk_at dksX6_tunesFault_0 0 rfl rfl)
theorem dX6_tunesFault_1 : decode cX6_tunesFault 1 = .ok (.iconst 0, 1) := dk_3 (dk_at dksX6_tunesFault_0 1 rfl rfl)
theorem dX6_tunesFault_2 : decode cX6_tunesFault 2 = .ok (.putfield 112, 3) := dk_181 0 112 (dk_at dksX6_tunesFault_0 2 rfl rfl)
theorem dX6_tunesFault_5 : decode cX6_tunesFault 5 = .ok (.iload_n 1, 1) := dk_27 (dk_at dksX6_tunesFault_0 5 rfl rfl)
theorem dX6_tunesFault_6 : decode cX6_tunesFault 6 = .ok (.ireturn, 1) := dk_172 (dk_at dksX6_tunesFault_0 6 rfl rfl)
def dkwX6_readsBorrowers_7 : List UInt8 := [159, 0, 14, 27, 158, 0, 10, 42, 3, 181, 0, 122, 27, 172, 2, 172]
abbrev dktX6_readsBorrowers_7 : List UInt8 := dkwX6_readsBorrowers_7 ++ []
def dkwX6_readsBorrowers_6 : List UInt8 := [160, 0, 7, 4, 167, 0, 4, 3, 96, 181, 0, 122, 132, 2, 1, 167, 255, 116, 27, 7, 112, 6]
abbrev dktX6_readsBorrowers_6 : List UInt8 := dkwX6_readsBorrowers_6 ++ dktX6_readsBorrowers_7
def dkwX6_readsBorrowers_5 : List UInt8 := [180, 0, 34, 6, 28, 7, 108, 104, 21, 4, 96, 21, 5, 79, 42, 89, 180, 0, 122, 21, 4, 5]
abbrev dktX6_readsBorrowers_5 : List UInt8 := dkwX6_readsBorrowers_5 ++ dktX6_readsBorrowers_6
def dkwX6_readsBorrowers_4 : List UInt8 := [2, 159, 0, 9, 28, 16, 24, 160, 0, 10, 42, 3, 181, 0, 122, 28, 172, 21, 4, 6, 162, 0, 18, 42]
abbrev dktX6_readsBorrowers_4 : List UInt8 := dkwX6_readsBorrowers_4 ++ dktX6_readsBorrowers_5
def dkwX6_readsBorrowers_3 : List UInt8 := [20, 0, 118, 20, 0, 120, 184, 0, 79, 153, 0, 10, 29, 16, 97, 100, 167, 0, 4, 2, 54, 5, 21, 5]
abbrev dktX6_readsBorrowers_3 : List UInt8 := dkwX6_readsBorrowers_3 ++ dktX6_readsBorrowers_4
def dkwX6_readsBorrowers_2 : List UInt8 := [167, 0, 42, 2, 167, 0, 38, 21, 4, 4, 160, 0, 10, 29, 184, 0, 125, 167, 0, 25, 29, 133]
abbrev dktX6_readsBorrowers_2 : List UInt8 := dkwX6_readsBorrowers_2 ++ dktX6_readsBorrowers_3
def dkwX6_readsBorrowers_1 : List UInt8 := [16, 60, 28, 96, 46, 62, 28, 7, 112, 54, 4, 21, 4, 6, 160, 0, 17, 29, 16, 59, 160, 0, 7, 3]
abbrev dktX6_readsBorrowers_1 : List UInt8 := dkwX6_readsBorrowers_1 ++ dktX6_readsBorrowers_2
def dkwX6_readsBorrowers_0 : List UInt8 := [42, 3, 181, 0, 122, 42, 180, 0, 25, 4, 46, 60, 3, 61, 28, 27, 162, 0, 141, 42, 180, 0, 22]
abbrev dktX6_readsBorrowers_0 : List UInt8 := dkwX6_readsBorrowers_0 ++ dktX6_readsBorrowers_1
theorem dksX6_readsBorrowers_0 : cX6_readsBorrowers.data.toList.drop 0 = dktX6_readsBorrowers_0 := by decide +kernel
theorem dksX6_readsBorrowers_1 : cX6_readsBorrowers.data.toList.drop 23 = dktX6_readsBorrowers_1 := dk_seg dksX6_readsBorrowers_0 23 rfl rfl
theorem dksX6_readsBorrowers_2 : cX6_readsBorrowers.data.toList.drop 47 = dktX6_readsBorrowers_2 := dk_seg dksX6_readsBorrowers_1 24 rfl rfl
theorem dksX6_readsBorrowers_3 : cX6_readsBorrowers.data.toList.drop 69 = dktX6_readsBorrowers_3 := dk_seg dksX6_readsBorrowers_2 22 rfl rfl
theorem dksX6_readsBorrowers_4 : cX6_readsBorrowers.data.toList.drop 93 = dktX6_readsBorrowers_4 := dk_seg dksX6_readsBorrowers_3 24 rfl rfl
theorem dksX6_readsBorrowers_5 : cX6_readsBorrowers.data.toList.drop 117 = dktX6_readsBorrowers_5 := dk_seg dksX6_readsBorrowers_4 24 rfl rfl
theorem dksX6_readsBorrowers_6 : cX6_readsBorrowers.data.toList.drop 139 = dktX6_readsBorrowers_6 := dk_seg dksX6_readsBorrowers_5 22 rfl rfl
theorem dksX6_readsBorrowers_7 : cX6_readsBorrowers.data.toList.drop 161 = dktX6_readsBorrowers_7 := dk_seg dksX6_readsBorrowers_6 22 rfl rfl
theorem dX6_readsBorrowers_0 : decode cX6_readsBorrowers 0 = .ok (.aload_n 0, 1) := dk_42 (dk_at dksX6_readsBorrowers_0 0 rfl rfl)
theorem dX6_readsBorrowers_1 : decode cX6_readsBorrowers 1 = .ok (.iconst 0, 1) := dk_3 (dk_at dksX6_readsBorrowers_0 1 rfl rfl)
theorem dX6_readsBorrowers_2 : decode cX6_readsBorrowers 2 = .ok (.putfield 122, 3) := dk_181 0 122 (dk_at dksX6_readsBorrowers_0 2 rfl rfl)
theorem dX6_readsBorrowers_5 : decode cX6_readsBorrowers 5 = .ok (.aload_n 0, 1) := dk_42 (dk_at dksX6_readsBorrowers_0 5 rfl rfl)
theorem dX6_readsBorrowers_6 : decode cX6_readsBorrowers 6 = .ok (.getfield 25, 3) := dk_180 0 25 (dk_at dksX6_readsBorrowers_0 6 rfl rfl)
theorem dX6_readsBorrowers_9 : decode cX6_readsBorrowers 9 = .ok (.iconst 1, 1) := dk_4 (dk_at dksX6_readsBorrowers_0 9 rfl rfl)
theorem dX6_readsBorrowers_10 : decode cX6_readsBorrowers 10 = .ok (.iaload, 1) := dk_46 (dk_at dksX6_readsBorrowers_0 10 rfl rfl)
theorem dX6_readsBorrowers_11 : decode cX6_readsBorrowers 11 = .ok (.istore_n 1, 1) := dk_60 (dk_at dksX6_readsBorrowers_0 11 rfl rfl)
theorem dX6_readsBorrowers_12 : decode cX6_readsBorrowers 12 = .ok (.iconst 0, 1) := dk_3 (dk_at dksX6_readsBorrowers_0 12 rfl rfl)
theorem dX6_readsBorrowers_13 : decode cX6_readsBorrowers 13 = .ok (.istore_n 2, 1) := dk_61 (dk_at dksX6_readsBorrowers_0 13 rfl rfl)
theorem dX6_readsBorrowers_14 : decode cX6_readsBorrowers 14 = .ok (.iload_n 2, 1) := dk_28 (dk_at dksX6_readsBorrowers_0 14 rfl rfl)
theorem dX6_readsBorrowers_15 : decode cX6_readsBorrowers 15 = .ok (.iload_n 1, 1) := dk_27 (dk_at dksX6_readsBorrowers_0 15 rfl rfl)
theorem dX6_readsBorrowers_16 : decode cX6_readsBorrowers 16 = .ok (.if_icmp .ge 141, 3) := dk_162 0 141 (dk_at dksX6_readsBorrowers_0 16 rfl rfl)
theorem dX6_readsBorrowers_19 : decode cX6_readsBorrowers 19 = .ok (.aload_n 0, 1) := dk_42 (dk_at dksX6_readsBorrowers_0 19 rfl rfl)
theorem dX6_readsBorrowers_20 : decode cX6_readsBorrowers 20 = .ok (.getfield 22, 3) := dk_180 0 22 (dk_at dksX6_readsBorrowers_0 20 rfl rfl)
theorem dX6_readsBorrowers_23 : decode cX6_readsBorrowers 23 = .ok (.bipush 60, 2) := dk_16 60 (dk_at dksX6_readsBorrowers_1 0 rfl rfl)
theorem dX6_readsBorrowers_25 : decode cX6_readsBorrowers 25 = .ok (.iload_n 2, 1) := dk_28 (dk_at dksX6_readsBorrowers_1 2 rfl rfl)
theorem dX6_readsBorrowers_26 : decode cX6_readsBorrowers 26 = .ok (.iadd, 1) := dk_96 (dk_at dksX6_readsBorrowers_1 3 rfl rfl)
theorem dX6_readsBorrowers_27 : decode cX6_readsBorrowers 27 = .ok (.iaload, 1) := dk_46 (dk_at dksX6_readsBorrowers_1 4 rfl rfl)
theorem dX6_readsBorrowers_28 : decode cX6_readsBorrowers 28 = .ok (.istore_n 3, 1) := dk_62 (dk_at dksX6_readsBorrowers_1 5 rfl rfl)
theorem dX6_readsBorrowers_29 : decode cX6_readsBorrowers 29 = .ok (.iload_n 2, 1) := dk_28 (dk_at dksX6_readsBorrowers_1 6 rfl rfl)
theorem dX6_readsBorrowers_30 : decode cX6_readsBorrowers 30 = .ok (.iconst 4, 1) := dk_7 (dk_at dksX6_readsBorrowers_1 7 rfl rfl)
theorem dX6_readsBorrowers_31 : decode cX6_readsBorrowers 31 = .ok (.irem, 1) := dk_112 (dk_at dksX6_readsBorrowers_1 8 rfl rfl)
theorem dX6_readsBorrowers_32 : decode cX6_readsBorrowers 32 = .ok (.istore 4, 2) := dk_54 4 (dk_at dksX6_readsBorrowers_1 9 rfl rfl)
theorem dX6_readsBorrowers_34 : decode cX6_readsBorrowers 34 = .ok (.iload 4, 2) := dk_21 4 (dk_at dksX6_readsBorrowers_1 11 rfl rfl)
theorem dX6_readsBorrowers_36 : decode cX6_readsBorrowers 36 = .ok (.iconst 3, 1) := dk_6 (dk_at dksX6_readsBorrowers_1 13 rfl rfl)
theorem dX6_readsBorrowers_37 : decode cX6_readsBorrowers 37 = .ok (.if_icmp .ne 17, 3) := dk_160 0 17 (dk_at dksX6_readsBorrowers_1 14 rfl rfl)
theorem dX6_readsBorrowers_40 : decode cX6_readsBorrowers 40 = .ok (.iload_n 3, 1) := dk_29 (dk_at dksX6_readsBorrowers_1 17 rfl rfl)
theorem dX6_readsBorrowers_41 : decode cX6_readsBorrowers 41 = .ok (.bipush 59, 2) := dk_16 59 (dk_at dksX6_readsBorrowers_1 18 rfl rfl)
theorem dX6_readsBorrowers_43 : decode cX6_readsBorrowers 43 = .ok (.if_icmp .ne 7, 3) := dk_160 0 7 (dk_at dksX6_readsBorrowers_1 20 rfl rfl)
theorem dX6_readsBorrowers_46 : decode cX6_readsBorrowers 46 = .ok (.iconst 0, 1) := dk_3 (dk_at dksX6_readsBorrowers_1 23 rfl rfl)
theorem dX6_readsBorrowers_47 : decode cX6_readsBorrowers 47 = .ok (.goto 42, 3) := dk_167 0 42 (dk_at dksX6_readsBorrowers_2 0 rfl rfl)
theorem dX6_readsBorrowers_50 : decode cX6_readsBorrowers 50 = .ok (.iconst (-1), 1) := dk_2 (dk_at dksX6_readsBorrowers_2 3 rfl rfl)
theorem dX6_readsBorrowers_51 : decode cX6_readsBorrowers 51 = .ok (.goto 38, 3) := dk_167 0 38 (dk_at dksX6_readsBorrowers_2 4 rfl rfl)
theorem dX6_readsBorrowers_54 : decode cX6_readsBorrowers 54 = .ok (.iload 4, 2) := dk_21 4 (dk_at dksX6_readsBorrowers_2 7 rfl rfl)
theorem dX6_readsBorrowers_56 : decode cX6_readsBorrowers 56 = .ok (.iconst 1, 1) := dk_4 (dk_at dksX6_readsBorrowers_2 9 rfl rfl)
theorem dX6_readsBorrowers_57 : decode cX6_readsBorrowers 57 = .ok (.if_icmp .ne 10, 3) := dk_160 0 10 (dk_at dksX6_readsBorrowers_2 10 rfl rfl)
theorem dX6_readsBorrowers_60 : decode cX6_readsBorrowers 60 = .ok (.iload_n 3, 1) := dk_29 (dk_at dksX6_readsBorrowers_2 13 rfl rfl)
theorem dX6_readsBorrowers_61 : decode cX6_readsBorrowers 61 = .ok (.invokestatic 125, 3) := dk_184 0 125 (dk_at dksX6_readsBorrowers_2 14 rfl rfl)
theorem dX6_readsBorrowers_64 : decode cX6_readsBorrowers 64 = .ok (.goto 25, 3) := dk_167 0 25 (dk_at dksX6_readsBorrowers_2 17 rfl rfl)
theorem dX6_readsBorrowers_67 : decode cX6_readsBorrowers 67 = .ok (.iload_n 3, 1) := dk_29 (dk_at dksX6_readsBorrowers_2 20 rfl rfl)
theorem dX6_readsBorrowers_68 : decode cX6_readsBorrowers 68 = .ok (.i2l, 1) := dk_133 (dk_at dksX6_readsBorrowers_2 21 rfl rfl)
theorem dX6_readsBorrowers_69 : decode cX6_readsBorrowers 69 = .ok (.ldc2_w 118, 3) := dk_20 0 118 (dk_at dksX6_readsBorrowers_3 0 rfl rfl)
theorem dX6_readsBorrowers_72 : decode cX6_readsBorrowers 72 = .ok (.ldc2_w 120, 3) := dk_20 0 120 (dk_at dksX6_readsBorrowers_3 3 rfl rfl)
theorem dX6_readsBorrowers_75 : decode cX6_readsBorrowers 75 = .ok (.invokestatic 79, 3) := dk_184 0 79 (dk_at dksX6_readsBorrowers_3 6 rfl rfl)
theorem dX6_readsBorrowers_78 : decode cX6_readsBorrowers 78 = .ok (.ifCond .eq 10, 3) := dk_153 0 10 (dk_at dksX6_readsBorrowers_3 9 rfl rfl)
theorem dX6_readsBorrowers_81 : decode cX6_readsBorrowers 81 = .ok (.iload_n 3, 1) := dk_29 (dk_at dksX6_readsBorrowers_3 12 rfl rfl)
theorem dX6_readsBorrowers_82 : decode cX6_readsBorrowers 82 = .ok (.bipush 97, 2) := dk_16 97 (dk_at dksX6_readsBorrowers_3 13 rfl rfl)
theorem dX6_readsBorrowers_84 : decode cX6_readsBorrowers 84 = .ok (.isub, 1) := dk_100 (dk_at dksX6_readsBorrowers_3 15 rfl rfl)
theorem dX6_readsBorrowers_85 : decode cX6_readsBorrowers 85 = .ok (.goto 4, 3) := dk_167 0 4 (dk_at dksX6_readsBorrowers_3 16 rfl rfl)
theorem dX6_readsBorrowers_88 : decode cX6_readsBorrowers 88 = .ok (.iconst (-1), 1) := dk_2 (dk_at dksX6_readsBorrowers_3 19 rfl rfl)
theorem dX6_readsBorrowers_89 : decode cX6_readsBorrowers 89 = .ok (.istore 5, 2) := dk_54 5 (dk_at dksX6_readsBorrowers_3 20 rfl rfl)
theorem dX6_readsBorrowers_91 : decode cX6_readsBorrowers 91 = .ok (.iload 5, 2) := dk_21 5 (dk_at dksX6_readsBorrowers_3 22 rfl rfl)
theorem dX6_readsBorrowers_93 : decode cX6_readsBorrowers 93 = .ok (.iconst (-1), 1) := dk_2 (dk_at dksX6_readsBorrowers_4 0 rfl rfl)
theorem dX6_readsBorrowers_94 : decode cX6_readsBorrowers 94 = .ok (.if_icmp .eq 9, 3) := dk_159 0 9 (dk_at dksX6_readsBorrowers_4 1 rfl rfl)
theorem dX6_readsBorrowers_97 : decode cX6_readsBorrowers 97 = .ok (.iload_n 2, 1) := dk_28 (dk_at dksX6_readsBorrowers_4 4 rfl rfl)
theorem dX6_readsBorrowers_98 : decode cX6_readsBorrowers 98 = .ok (.bipush 24, 2) := dk_16 24 (dk_at dksX6_readsBorrowers_4 5 rfl rfl)
theorem dX6_readsBorrowers_100 : decode cX6_readsBorrowers 100 = .ok (.if_icmp .ne 10, 3) := dk_160 0 10 (dk_at dksX6_readsBorrowers_4 7 rfl rfl)
theorem dX6_readsBorrowers_103 : decode cX6_readsBorrowers 103 = .ok (.aload_n 0, 1) := dk_42 (dk_at dksX6_readsBorrowers_4 10 rfl rfl)
theorem dX6_readsBorrowers_104 : decode cX6_readsBorrowers 104 = .ok (.iconst 0, 1) := dk_3 (dk_at dksX6_readsBorrowers_4 11 rfl rfl)
theorem dX6_readsBorrowers_105 : decode cX6_readsBorrowers 105 = .ok (.putfield 122, 3) := dk_181 0 122 (dk_at dksX6_readsBorrowers_4 12 rfl rfl)
theorem dX6_readsBorrowers_108 : decode cX6_readsBorrowers 108 = .ok (.iload_n 2, 1) := dk_28 (dk_at dksX6_readsBorrowers_4 15 rfl rfl)
theorem dX6_readsBorrowers_109 : decode cX6_readsBorrowers 109 = .ok (.ireturn, 1) := dk_172 (dk_at dksX6_readsBorrowers_4 16 rfl rfl)
theorem dX6_readsBorrowers_110 : decode cX6_readsBorrowers 110 = .ok (.iload 4, 2) := dk_21 4 (dk_at dksX6_readsBorrowers_4 17 rfl rfl)
theorem dX6_readsBorrowers_112 : decode cX6_readsBorrowers 112 = .ok (.iconst 3, 1) := dk_6 (dk_at dksX6_readsBorrowers_4 19 rfl rfl)
theorem dX6_readsBorrowers_113 : decode cX6_readsBorrowers 113 = .ok (.if_icmp .ge 18, 3) := dk_162 0 18 (dk_at dksX6_readsBorrowers_4 20 rfl rfl)
theorem dX6_readsBorrowers_116 : decode cX6_readsBorrowers 116 = .ok (.aload_n 0, 1) := dk_42 (dk_at dksX6_readsBorrowers_4 23 rfl rfl)
theorem dX6_readsBorrowers_117 : decode cX6_readsBorrowers 117 = .ok (.getfield 34, 3) := dk_180 0 34 (dk_at dksX6_readsBorrowers_5 0 rfl rfl)
theorem dX6_readsBorrowers_120 : decode cX6_readsBorrowers 120 = .ok (.iconst 3, 1) := dk_6 (dk_at dksX6_readsBorrowers_5 3 rfl rfl)
theorem dX6_readsBorrowers_121 : decode cX6_readsBorrowers 121 = .ok (.iload_n 2, 1) := dk_28 (dk_at dksX6_readsBorrowers_5 4 rfl rfl)
theorem dX6_readsBorrowers_122 : decode cX6_readsBorrowers 122 = .ok (.iconst 4, 1) := dk_7 (dk_at dksX6_readsBorrowers_5 5 rfl rfl)
theorem dX6_readsBorrowers_123 : decode cX6_readsBorrowers 123 = .ok (.idiv, 1) := dk_108 (dk_at dksX6_readsBorrowers_5 6 rfl rfl)
theorem dX6_readsBorrowers_124 : decode cX6_readsBorrowers 124 = .ok (.imul, 1) := dk_104 (dk_at dksX6_readsBorrowers_5 7 rfl rfl)
theorem dX6_readsBorrowers_125 : decode cX6_readsBorrowers 125 = .ok (.iload 4, 2) := dk_21 4 (dk_at dksX6_readsBorrowers_5 8 rfl rfl)
theorem dX6_readsBorrowers_127 : decode cX6_readsBorrowers 127 = .ok (.iadd, 1) := dk_96 (dk_at dksX6_readsBorrowers_5 10 rfl rfl)
theorem dX6_readsBorrowers_128 : decode cX6_readsBorrowers 128 = .ok (.iload 5, 2) := dk_21 5 (dk_at dksX6_readsBorrowers_5 11 rfl rfl)
theorem dX6_readsBorrowers_130 : decode cX6_readsBorrowers 130 = .ok (.iastore, 1) := dk_79 (dk_at dksX6_readsBorrowers_5 13 rfl rfl)
theorem dX6_readsBorrowers_131 : decode cX6_readsBorrowers 131 = .ok (.aload_n 0, 1) := dk_42 (dk_at dksX6_readsBorrowers_5 14 rfl rfl)
theorem dX6_readsBorrowers_132 : decode cX6_readsBorrowers 132 = .ok (.dup, 1) := dk_89 (dk_at dksX6_readsBorrowers_5 15 rfl rfl)
theorem dX6_readsBorrowers_133 : decode cX6_readsBorrowers 133 = .ok (.getfield 122, 3) := dk_180 0 122 (dk_at dksX6_readsBorrowers_5 16 rfl rfl)
theorem dX6_readsBorrowers_136 : decode cX6_readsBorrowers 136 = .ok (.iload 4, 2) := dk_21 4 (dk_at dksX6_readsBorrowers_5 19 rfl rfl)
theorem dX6_readsBorrowers_138 : decode cX6_readsBorrowers 138 = .ok (.iconst 2, 1) := dk_5 (dk_at dksX6_readsBorrowers_5 21 rfl rfl)
theorem dX6_readsBorrowers_139 : decode cX6_readsBorrowers 139 = .ok (.if_icmp .ne 7, 3) := dk_160 0 7 (dk_at dksX6_readsBorrowers_6 0 rfl rfl)
theorem dX6_readsBorrowers_142 : decode cX6_readsBorrowers 142 = .ok (.iconst 1, 1) := dk_4 (dk_at dksX6_readsBorrowers_6 3 rfl rfl)
theorem dX6_readsBorrowers_143 : decode cX6_readsBorrowers 143 = .ok (.goto 4, 3) := dk_167 0 4 (dk_at dksX6_readsBorrowers_6 4 rfl rfl)
theorem dX6_readsBorrowers_146 : decode cX6_readsBorrowers 146 = .ok (.iconst 0, 1) := dk_3 (dk_at dksX6_readsBorrowers_6 7 rfl rfl)
theorem dX6_readsBorrowers_147 : decode cX6_readsBorrowers 147 = .ok (.iadd, 1) := dk_96 (dk_at dksX6_readsBorrowers_6 8 rfl rfl)
theorem dX6_readsBorrowers_148 : decode cX6_readsBorrowers 148 = .ok (.putfield 122, 3) := dk_181 0 122 (dk_at dksX6_readsBorrowers_6 9 rfl rfl)
theorem dX6_readsBorrowers_151 : decode cX6_readsBorrowers 151 = .ok (.iinc 2 1, 3) := dk_132 2 1 (dk_at dksX6_readsBorrowers_6 12 rfl rfl)
theorem dX6_readsBorrowers_154 : decode cX6_readsBorrowers 154 = .ok (.goto (-140), 3) := dk_167 255 116 (dk_at dksX6_readsBorrowers_6 15 rfl rfl)
theorem dX6_readsBorrowers_157 : decode cX6_readsBorrowers 157 = .ok (.iload_n 1, 1) := dk_27 (dk_at dksX6_readsBorrowers_6 18 rfl rfl)
theorem dX6_readsBorrowers_158 : decode cX6_readsBorrowers 158 = .ok (.iconst 4, 1) := dk_7 (dk_at dksX6_readsBorrowers_6 19 rfl rfl)
theorem dX6_readsBorrowers_159 : decode cX6_readsBorrowers 159 = .ok (.irem, 1) := dk_112 (dk_at dksX6_readsBorrowers_6 20 rfl rfl)
theorem dX6_readsBorrowers_160 : decode cX6_readsBorrowers 160 = .ok (.iconst 3, 1) := dk_6 (dk_at dksX6_readsBorrowers_6 21 rfl rfl)
theorem dX6_readsBorrowers_161 : decode cX6_readsBorrowers 161 = .ok (.if_icmp .eq 14, 3) := dk_159 0 14 (dk_at dksX6_readsBorrowers_7 0 rfl rfl)
theorem dX6_readsBorrowers_164 : decode cX6_readsBorrowers 164 = .ok (.iload_n 1, 1) := dk_27 (dk_at dksX6_readsBorrowers_7 3 rfl rfl)
theorem dX6_readsBorrowers_165 : decode cX6_readsBorrowers 165 = .ok (.ifCond .le 10, 3) := dk_158 0 10 (dk_at dksX6_readsBorrowers_7 4 rfl rfl)
theorem dX6_readsBorrowers_168 : decode cX6_readsBorrowers 168 = .ok (.aload_n 0, 1) := dk_42 (dk_at dksX6_readsBorrowers_7 7 rfl rfl)
theorem dX6_readsBorrowers_169 : decode cX6_readsBorrowers 169 = .ok (.iconst 0, 1) := dk_3 (dk_at dksX6_readsBorrowers_7 8 rfl rfl)
theorem dX6_readsBorrowers_170 : decode cX6_readsBorrowers 170 = .ok (.putfield 122, 3) := dk_181 0 122 (dk_at dksX6_readsBorrowers_7 9 rfl rfl)
theorem dX6_readsBorrowers_173 : decode cX6_readsBorrowers 173 = .ok (.iload_n 1, 1) := dk_27 (dk_at dksX6_readsBorrowers_7 12 rfl rfl)
theorem dX6_readsBorrowers_174 : decode cX6_readsBorrowers 174 = .ok (.ireturn, 1) := dk_172 (dk_at dksX6_readsBorrowers_7 13 rfl rfl)
theorem dX6_readsBorrowers_175 : decode cX6_readsBorrowers 175 = .ok (.iconst (-1), 1) := dk_2 (dk_at dksX6_readsBorrowers_7 14 rfl rfl)
theorem dX6_readsBorrowers_176 : decode cX6_readsBorrowers 176 = .ok (.ireturn, 1) := dk_172 (dk_at dksX6_readsBorrowers_7 15 rfl rfl)
def dkwX6_howOf_1 : List UInt8 := [160, 0, 7, 5, 167, 0, 4, 2, 172]
abbrev dktX6_howOf_1 : List UInt8 := dkwX6_howOf_1 ++ []
def dkwX6_howOf_0 : List UInt8 := [26, 16, 43, 160, 0, 7, 3, 167, 0, 24, 26, 16, 45, 160, 0, 7, 4, 167, 0, 14, 26, 16, 47]
abbrev dktX6_howOf_0 : List UInt8 := dkwX6_howOf_0 ++ dktX6_howOf_1
theorem dksX6_howOf_0 : cX6_howOf.data.toList.drop 0 = dktX6_howOf_0 := by decide +kernel
theorem dksX6_howOf_1 : cX6_howOf.data.toList.drop 23 = dktX6_howOf_1 := dk_seg dksX6_howOf_0 23 rfl rfl
theorem dX6_howOf_0 : decode cX6_howOf 0 = .ok (.iload_n 0, 1) := dk_26 (dk_at dksX6_howOf_0 0 rfl rfl)
theorem dX6_howOf_1 : decode cX6_howOf 1 = .ok (.bipush 43, 2) := dk_16 43 (dk_at dksX6_howOf_0 1 rfl rfl)
theorem dX6_howOf_3 : decode cX6_howOf 3 = .ok (.if_icmp .ne 7, 3) := dk_160 0 7 (dk_at dksX6_howOf_0 3 rfl rfl)
theorem dX6_howOf_6 : decode cX6_howOf 6 = .ok (.iconst 0, 1) := dk_3 (dk_at dksX6_howOf_0 6 rfl rfl)
theorem dX6_howOf_7 : decode cX6_howOf 7 = .ok (.goto 24, 3) := dk_167 0 24 (dk_at dksX6_howOf_0 7 rfl rfl)
theorem dX6_howOf_10 : decode cX6_howOf 10 = .ok (.iload_n 0, 1) := dk_26 (dk_at dksX6_howOf_0 10 rfl rfl)
theorem dX6_howOf_11 : decode cX6_howOf 11 = .ok (.bipush 45, 2) := dk_16 45 (dk_at dksX6_howOf_0 11 rfl rfl)
theorem dX6_howOf_13 : decode cX6_howOf 13 = .ok (.if_icmp .ne 7, 3) := dk_160 0 7 (dk_at dksX6_howOf_0 13 rfl rfl)
theorem dX6_howOf_16 : decode cX6_howOf 16 = .ok (.iconst 1, 1) := dk_4 (dk_at dksX6_howOf_0 16 rfl rfl)
theorem dX6_howOf_17 : decode cX6_howOf 17 = .ok (.goto 14, 3) := dk_167 0 14 (dk_at dksX6_howOf_0 17 rfl rfl)
theorem dX6_howOf_20 : decode cX6_howOf 20 = .ok (.iload_n 0, 1) := dk_26 (dk_at dksX6_howOf_0 20 rfl rfl)
theorem dX6_howOf_21 : decode cX6_howOf 21 = .ok (.bipush 47, 2) := dk_16 47 (dk_at dksX6_howOf_0 21 rfl rfl)
theorem dX6_howOf_23 : decode cX6_howOf 23 = .ok (.if_icmp .ne 7, 3) := dk_160 0 7 (dk_at dksX6_howOf_1 0 rfl rfl)
theorem dX6_howOf_26 : decode cX6_howOf 26 = .ok (.iconst 2, 1) := dk_5 (dk_at dksX6_howOf_1 3 rfl rfl)
theorem dX6_howOf_27 : decode cX6_howOf 27 = .ok (.goto 4, 3) := dk_167 0 4 (dk_at dksX6_howOf_1 4 rfl rfl)
theorem dX6_howOf_30 : decode cX6_howOf 30 = .ok (.iconst (-1), 1) := dk_2 (dk_at dksX6_howOf_1 7 rfl rfl)
theorem dX6_howOf_31 : decode cX6_howOf 31 = .ok (.ireturn, 1) := dk_172 (dk_at dksX6_howOf_1 8 rfl rfl)
def dkwX6_tune_2 : List UInt8 := [180, 0, 31, 27, 46, 162, 0, 17, 42, 180, 0, 28, 16, 40, 27, 104, 28, 96, 46, 167, 0, 4, 2, 172]
abbrev dktX6_tune_2 : List UInt8 := dkwX6_tune_2 ++ []
def dkwX6_tune_1 : List UInt8 := [154, 0, 8, 16, 254, 167, 0, 42, 28, 2, 160, 0, 12, 42, 180, 0, 31, 27, 46, 167, 0, 28, 28, 42]
abbrev dktX6_tune_1 : List UInt8 := dkwX6_tune_1 ++ dktX6_tune_2
def dkwX6_tune_0 : List UInt8 := [42, 182, 0, 137, 42, 27, 182, 0, 140, 153, 0, 17, 28, 133, 20, 0, 143, 20, 0, 145, 184, 0, 79]
abbrev dktX6_tune_0 : List UInt8 := dkwX6_tune_0 ++ dktX6_tune_1
theorem dksX6_tune_0 : cX6_tune.data.toList.drop 0 = dktX6_tune_0 := by decide +kernel
theorem dksX6_tune_1 : cX6_tune.data.toList.drop 23 = dktX6_tune_1 := dk_seg dksX6_tune_0 23 rfl rfl
theorem dksX6_tune_2 : cX6_tune.data.toList.drop 47 = dktX6_tune_2 := dk_seg dksX6_tune_1 24 rfl rfl
theorem dX6_tune_0 : decode cX6_tune 0 = .ok (.aload_n 0, 1) := dk_42 (dk_at dksX6_tune_0 0 rfl rfl)
theorem dX6_tune_1 : decode cX6_tune 1 = .ok (.invokevirtual 137, 3) := dk_182 0 137 (dk_at dksX6_tune_0 1 rfl rfl)
theorem dX6_tune_4 : decode cX6_tune 4 = .ok (.aload_n 0, 1) := dk_42 (dk_at dksX6_tune_0 4 rfl rfl)
theorem dX6_tune_5 : decode cX6_tune 5 = .ok (.iload_n 1, 1) := dk_27 (dk_at dksX6_tune_0 5 rfl rfl)
theorem dX6_tune_6 : decode cX6_tune 6 = .ok (.invokevirtual 140, 3) := dk_182 0 140 (dk_at dksX6_tune_0 6 rfl rfl)
theorem dX6_tune_9 : decode cX6_tune 9 = .ok (.ifCond .eq 17, 3) := dk_153 0 17 (dk_at dksX6_tune_0 9 rfl rfl)
theorem dX6_tune_12 : decode cX6_tune 12 = .ok (.iload_n 2, 1) := dk_28 (dk_at dksX6_tune_0 12 rfl rfl)
theorem dX6_tune_13 : decode cX6_tune 13 = .ok (.i2l, 1) := dk_133 (dk_at dksX6_tune_0 13 rfl rfl)
theorem dX6_tune_14 : decode cX6_tune 14 = .ok (.ldc2_w 143, 3) := dk_20 0 143 (dk_at dksX6_tune_0 14 rfl rfl)
theorem dX6_tune_17 : decode cX6_tune 17 = .ok (.ldc2_w 145, 3) := dk_20 0 145 (dk_at dksX6_tune_0 17 rfl rfl)
theorem dX6_tune_20 : decode cX6_tune 20 = .ok (.invokestatic 79, 3) := dk_184 0 79 (dk_at dksX6_tune_0 20 rfl rfl)
theorem dX6_tune_23 : decode cX6_tune 23 = .ok (.ifCond .ne 8, 3) := dk_154 0 8 (dk_at dksX6_tune_1 0 rfl rfl)
theorem dX6_tune_26 : decode cX6_tune 26 = .ok (.bipush (-2), 2) := dk_16 254 (dk_at dksX6_tune_1 3 rfl rfl)
theorem dX6_tune_28 : decode cX6_tune 28 = .ok (.goto 42, 3) := dk_167 0 42 (dk_at dksX6_tune_1 5 rfl rfl)
theorem dX6_tune_31 : decode cX6_tune 31 = .ok (.iload_n 2, 1) := dk_28 (dk_at dksX6_tune_1 8 rfl rfl)
theorem dX6_tune_32 : decode cX6_tune 32 = .ok (.iconst (-1), 1) := dk_2 (dk_at dksX6_tune_1 9 rfl rfl)
theorem dX6_tune_33 : decode cX6_tune 33 = .ok (.if_icmp .ne 12, 3) := dk_160 0 12 (dk_at dksX6_tune_1 10 rfl rfl)
theorem dX6_tune_36 : decode cX6_tune 36 = .ok (.aload_n 0, 1) := dk_42 (dk_at dksX6_tune_1 13 rfl rfl)
theorem dX6_tune_37 : decode cX6_tune 37 = .ok (.getfield 31, 3) := dk_180 0 31 (dk_at dksX6_tune_1 14 rfl rfl)
theorem dX6_tune_40 : decode cX6_tune 40 = .ok (.iload_n 1, 1) := dk_27 (dk_at dksX6_tune_1 17 rfl rfl)
theorem dX6_tune_41 : decode cX6_tune 41 = .ok (.iaload, 1) := dk_46 (dk_at dksX6_tune_1 18 rfl rfl)
theorem dX6_tune_42 : decode cX6_tune 42 = .ok (.goto 28, 3) := dk_167 0 28 (dk_at dksX6_tune_1 19 rfl rfl)
theorem dX6_tune_45 : decode cX6_tune 45 = .ok (.iload_n 2, 1) := dk_28 (dk_at dksX6_tune_1 22 rfl rfl)
theorem dX6_tune_46 : decode cX6_tune 46 = .ok (.aload_n 0, 1) := dk_42 (dk_at dksX6_tune_1 23 rfl rfl)
theorem dX6_tune_47 : decode cX6_tune 47 = .ok (.getfield 31, 3) := dk_180 0 31 (dk_at dksX6_tune_2 0 rfl rfl)
theorem dX6_tune_50 : decode cX6_tune 50 = .ok (.iload_n 1, 1) := dk_27 (dk_at dksX6_tune_2 3 rfl rfl)
theorem dX6_tune_51 : decode cX6_tune 51 = .ok (.iaload, 1) := dk_46 (dk_at dksX6_tune_2 4 rfl rfl)
theorem dX6_tune_52 : decode cX6_tune 52 = .ok (.if_icmp .ge 17, 3) := dk_162 0 17 (dk_at dksX6_tune_2 5 rfl rfl)
theorem dX6_tune_55 : decode cX6_tune 55 = .ok (.aload_n 0, 1) := dk_42 (dk_at dksX6_tune_2 8 rfl rfl)
theorem dX6_tune_56 : decode cX6_tune 56 = .ok (.getfield 28, 3) := dk_180 0 28 (dk_at dksX6_tune_2 9 rfl rfl)
theorem dX6_tune_59 : decode cX6_tune 59 = .ok (.bipush 40, 2) := dk_16 40 (dk_at dksX6_tune_2 12 rfl rfl)
theorem dX6_tune_61 : decode cX6_tune 61 = .ok (.iload_n 1, 1) := dk_27 (dk_at dksX6_tune_2 14 rfl rfl)
theorem dX6_tune_62 : decode cX6_tune 62 = .ok (.imul, 1) := dk_104 (dk_at dksX6_tune_2 15 rfl rfl)
theorem dX6_tune_63 : decode cX6_tune 63 = .ok (.iload_n 2, 1) := dk_28 (dk_at dksX6_tune_2 16 rfl rfl)
theorem dX6_tune_64 : decode cX6_tune 64 = .ok (.iadd, 1) := dk_96 (dk_at dksX6_tune_2 17 rfl rfl)
theorem dX6_tune_65 : decode cX6_tune 65 = .ok (.iaload, 1) := dk_46 (dk_at dksX6_tune_2 18 rfl rfl)
theorem dX6_tune_66 : decode cX6_tune 66 = .ok (.goto 4, 3) := dk_167 0 4 (dk_at dksX6_tune_2 19 rfl rfl)
theorem dX6_tune_69 : decode cX6_tune 69 = .ok (.iconst (-1), 1) := dk_2 (dk_at dksX6_tune_2 22 rfl rfl)
theorem dX6_tune_70 : decode cX6_tune 70 = .ok (.ireturn, 1) := dk_172 (dk_at dksX6_tune_2 23 rfl rfl)
def dkwX6_reads_0 : List UInt8 := [42, 182, 0, 128, 87, 42, 182, 0, 132, 87, 177]
abbrev dktX6_reads_0 : List UInt8 := dkwX6_reads_0 ++ []
theorem dksX6_reads_0 : cX6_reads.data.toList.drop 0 = dktX6_reads_0 := by decide +kernel
theorem dX6_reads_0 : decode cX6_reads 0 = .ok (.aload_n 0, 1) := dk_42 (dk_at dksX6_reads_0 0 rfl rfl)
theorem dX6_reads_1 : decode cX6_reads 1 = .ok (.invokevirtual 128, 3) := dk_182 0 128 (dk_at dksX6_reads_0 1 rfl rfl)
theorem dX6_reads_4 : decode cX6_reads 4 = .ok (.pop, 1) := dk_87 (dk_at dksX6_reads_0 4 rfl rfl)
theorem dX6_reads_5 : decode cX6_reads 5 = .ok (.aload_n 0, 1) := dk_42 (dk_at dksX6_reads_0 5 rfl rfl)
theorem dX6_reads_6 : decode cX6_reads 6 = .ok (.invokevirtual 132, 3) := dk_182 0 132 (dk_at dksX6_reads_0 6 rfl rfl)
theorem dX6_reads_9 : decode cX6_reads 9 = .ok (.pop, 1) := dk_87 (dk_at dksX6_reads_0 9 rfl rfl)
theorem dX6_reads_10 : decode cX6_reads 10 = .ok (.return_, 1) := dk_177 (dk_at dksX6_reads_0 10 rfl rfl)
def dkwX6_isTune_0 : List UInt8 := [27, 133, 9, 42, 180, 0, 112, 4, 100, 133, 184, 0, 79, 172]
abbrev dktX6_isTune_0 : List UInt8 := dkwX6_isTune_0 ++ []
theorem dksX6_isTune_0 : cX6_isTune.data.toList.drop 0 = dktX6_isTune_0 := by decide +kernel
theorem dX6_isTune_0 : decode cX6_isTune 0 = .ok (.iload_n 1, 1) := dk_27 (dk_at dksX6_isTune_0 0 rfl rfl)
theorem dX6_isTune_1 : decode cX6_isTune 1 = .ok (.i2l, 1) := dk_133 (dk_at dksX6_isTune_0 1 rfl rfl)
theorem dX6_isTune_2 : decode cX6_isTune 2 = .ok (.lconst 0, 1) := dk_9 (dk_at dksX6_isTune_0 2 rfl rfl)
theorem dX6_isTune_3 : decode cX6_isTune 3 = .ok (.aload_n 0, 1) := dk_42 (dk_at dksX6_isTune_0 3 rfl rfl)
theorem dX6_isTune_4 : decode cX6_isTune 4 = .ok (.getfield 112, 3) := dk_180 0 112 (dk_at dksX6_isTune_0 4 rfl rfl)
theorem dX6_isTune_7 : decode cX6_isTune 7 = .ok (.iconst 1, 1) := dk_4 (dk_at dksX6_isTune_0 7 rfl rfl)
theorem dX6_isTune_8 : decode cX6_isTune 8 = .ok (.isub, 1) := dk_100 (dk_at dksX6_isTune_0 8 rfl rfl)
theorem dX6_isTune_9 : decode cX6_isTune 9 = .ok (.i2l, 1) := dk_133 (dk_at dksX6_isTune_0 9 rfl rfl)
theorem dX6_isTune_10 : decode cX6_isTune 10 = .ok (.invokestatic 79, 3) := dk_184 0 79 (dk_at dksX6_isTune_0 10 rfl rfl)
theorem dX6_isTune_13 : decode cX6_isTune 13 = .ok (.ireturn, 1) := dk_172 (dk_at dksX6_isTune_0 13 rfl rfl)
def dkwX6_borrower_1 : List UInt8 := [42, 180, 0, 34, 6, 27, 104, 28, 96, 46, 167, 0, 5, 16, 254, 172]
abbrev dktX6_borrower_1 : List UInt8 := dkwX6_borrower_1 ++ []
def dkwX6_borrower_0 : List UInt8 := [42, 182, 0, 137, 42, 27, 182, 0, 147, 153, 0, 28, 28, 133, 9, 20, 0, 92, 184, 0, 79, 153, 0, 16]
abbrev dktX6_borrower_0 : List UInt8 := dkwX6_borrower_0 ++ dktX6_borrower_1
theorem dksX6_borrower_0 : cX6_borrower.data.toList.drop 0 = dktX6_borrower_0 := by decide +kernel
theorem dksX6_borrower_1 : cX6_borrower.data.toList.drop 24 = dktX6_borrower_1 := dk_seg dksX6_borrower_0 24 rfl rfl
theorem dX6_borrower_0 : decode cX6_borrower 0 = .ok (.aload_n 0, 1) := dk_42 (dk_at dksX6_borrower_0 0 rfl rfl)
theorem dX6_borrower_1 : decode cX6_borrower 1 = .ok (.invokevirtual 137, 3) := dk_182 0 137 (dk_at dksX6_borrower_0 1 rfl rfl)
theorem dX6_borrower_4 : decode cX6_borrower 4 = .ok (.aload_n 0, 1) := dk_42 (dk_at dksX6_borrower_0 4 rfl rfl)
theorem dX6_borrower_5 : decode cX6_borrower 5 = .ok (.iload_n 1, 1) := dk_27 (dk_at dksX6_borrower_0 5 rfl rfl)
theorem dX6_borrower_6 : decode cX6_borrower 6 = .ok (.invokevirtual 147, 3) := dk_182 0 147 (dk_at dksX6_borrower_0 6 rfl rfl)
theorem dX6_borrower_9 : decode cX6_borrower 9 = .ok (.ifCond .eq 28, 3) := dk_153 0 28 (dk_at dksX6_borrower_0 9 rfl rfl)
theorem dX6_borrower_12 : decode cX6_borrower 12 = .ok (.iload_n 2, 1) := dk_28 (dk_at dksX6_borrower_0 12 rfl rfl)
theorem dX6_borrower_13 : decode cX6_borrower 13 = .ok (.i2l, 1) := dk_133 (dk_at dksX6_borrower_0 13 rfl rfl)
theorem dX6_borrower_14 : decode cX6_borrower 14 = .ok (.lconst 0, 1) := dk_9 (dk_at dksX6_borrower_0 14 rfl rfl)
theorem dX6_borrower_15 : decode cX6_borrower 15 = .ok (.ldc2_w 92, 3) := dk_20 0 92 (dk_at dksX6_borrower_0 15 rfl rfl)
theorem dX6_borrower_18 : decode cX6_borrower 18 = .ok (.invokestatic 79, 3) := dk_184 0 79 (dk_at dksX6_borrower_0 18 rfl rfl)
theorem dX6_borrower_21 : decode cX6_borrower 21 = .ok (.ifCond .eq 16, 3) := dk_153 0 16 (dk_at dksX6_borrower_0 21 rfl rfl)
theorem dX6_borrower_24 : decode cX6_borrower 24 = .ok (.aload_n 0, 1) := dk_42 (dk_at dksX6_borrower_1 0 rfl rfl)
theorem dX6_borrower_25 : decode cX6_borrower 25 = .ok (.getfield 34, 3) := dk_180 0 34 (dk_at dksX6_borrower_1 1 rfl rfl)
theorem dX6_borrower_28 : decode cX6_borrower 28 = .ok (.iconst 3, 1) := dk_6 (dk_at dksX6_borrower_1 4 rfl rfl)
theorem dX6_borrower_29 : decode cX6_borrower 29 = .ok (.iload_n 1, 1) := dk_27 (dk_at dksX6_borrower_1 5 rfl rfl)
theorem dX6_borrower_30 : decode cX6_borrower 30 = .ok (.imul, 1) := dk_104 (dk_at dksX6_borrower_1 6 rfl rfl)
theorem dX6_borrower_31 : decode cX6_borrower 31 = .ok (.iload_n 2, 1) := dk_28 (dk_at dksX6_borrower_1 7 rfl rfl)
theorem dX6_borrower_32 : decode cX6_borrower 32 = .ok (.iadd, 1) := dk_96 (dk_at dksX6_borrower_1 8 rfl rfl)
theorem dX6_borrower_33 : decode cX6_borrower 33 = .ok (.iaload, 1) := dk_46 (dk_at dksX6_borrower_1 9 rfl rfl)
theorem dX6_borrower_34 : decode cX6_borrower 34 = .ok (.goto 5, 3) := dk_167 0 5 (dk_at dksX6_borrower_1 10 rfl rfl)
theorem dX6_borrower_37 : decode cX6_borrower 37 = .ok (.bipush (-2), 2) := dk_16 254 (dk_at dksX6_borrower_1 13 rfl rfl)
theorem dX6_borrower_39 : decode cX6_borrower 39 = .ok (.ireturn, 1) := dk_172 (dk_at dksX6_borrower_1 15 rfl rfl)
def dkwX6_isBorrower_0 : List UInt8 := [27, 133, 9, 42, 180, 0, 122, 4, 100, 133, 184, 0, 79, 172]
abbrev dktX6_isBorrower_0 : List UInt8 := dkwX6_isBorrower_0 ++ []
theorem dksX6_isBorrower_0 : cX6_isBorrower.data.toList.drop 0 = dktX6_isBorrower_0 := by decide +kernel
theorem dX6_isBorrower_0 : decode cX6_isBorrower 0 = .ok (.iload_n 1, 1) := dk_27 (dk_at dksX6_isBorrower_0 0 rfl rfl)
theorem dX6_isBorrower_1 : decode cX6_isBorrower 1 = .ok (.i2l, 1) := dk_133 (dk_at dksX6_isBorrower_0 1 rfl rfl)
theorem dX6_isBorrower_2 : decode cX6_isBorrower 2 = .ok (.lconst 0, 1) := dk_9 (dk_at dksX6_isBorrower_0 2 rfl rfl)
theorem dX6_isBorrower_3 : decode cX6_isBorrower 3 = .ok (.aload_n 0, 1) := dk_42 (dk_at dksX6_isBorrower_0 3 rfl rfl)
theorem dX6_isBorrower_4 : decode cX6_isBorrower 4 = .ok (.getfield 122, 3) := dk_180 0 122 (dk_at dksX6_isBorrower_0 4 rfl rfl)
theorem dX6_isBorrower_7 : decode cX6_isBorrower 7 = .ok (.iconst 1, 1) := dk_4 (dk_at dksX6_isBorrower_0 7 rfl rfl)
theorem dX6_isBorrower_8 : decode cX6_isBorrower 8 = .ok (.isub, 1) := dk_100 (dk_at dksX6_isBorrower_0 8 rfl rfl)
theorem dX6_isBorrower_9 : decode cX6_isBorrower 9 = .ok (.i2l, 1) := dk_133 (dk_at dksX6_isBorrower_0 9 rfl rfl)
theorem dX6_isBorrower_10 : decode cX6_isBorrower 10 = .ok (.invokestatic 79, 3) := dk_184 0 79 (dk_at dksX6_isBorrower_0 10 rfl rfl)
theorem dX6_isBorrower_13 : decode cX6_isBorrower 13 = .ok (.ireturn, 1) := dk_172 (dk_at dksX6_isBorrower_0 13 rfl rfl)
def dkwX6_loan_5 : List UInt8 := [180, 0, 157, 4, 96, 181, 0, 157, 42, 180, 0, 157, 172]
abbrev dktX6_loan_5 : List UInt8 := dkwX6_loan_5 ++ []
def dkwX6_loan_4 : List UInt8 := [104, 5, 96, 29, 79, 42, 180, 0, 37, 7, 42, 180, 0, 157, 104, 6, 96, 21, 4, 79, 42, 89]
abbrev dktX6_loan_4 : List UInt8 := dkwX6_loan_4 ++ dktX6_loan_5
def dkwX6_loan_3 : List UInt8 := [79, 42, 180, 0, 37, 7, 42, 180, 0, 157, 104, 4, 96, 28, 79, 42, 180, 0, 37, 7, 42, 180, 0, 157]
abbrev dktX6_loan_3 : List UInt8 := dkwX6_loan_3 ++ dktX6_loan_4
def dkwX6_loan_2 : List UInt8 := [172, 42, 180, 0, 157, 16, 12, 160, 0, 6, 16, 252, 172, 42, 180, 0, 37, 7, 42, 180, 0, 157, 104, 27]
abbrev dktX6_loan_2 : List UInt8 := dkwX6_loan_2 ++ dktX6_loan_3
def dkwX6_loan_1 : List UInt8 := [20, 0, 153, 184, 0, 79, 153, 0, 16, 21, 4, 133, 10, 20, 0, 155, 184, 0, 79, 154, 0, 6, 16, 254]
abbrev dktX6_loan_1 : List UInt8 := dkwX6_loan_1 ++ dktX6_loan_2
def dkwX6_loan_0 : List UInt8 := [27, 184, 0, 150, 153, 0, 40, 28, 133, 9, 20, 0, 153, 184, 0, 79, 153, 0, 28, 29, 133, 9]
abbrev dktX6_loan_0 : List UInt8 := dkwX6_loan_0 ++ dktX6_loan_1
theorem dksX6_loan_0 : cX6_loan.data.toList.drop 0 = dktX6_loan_0 := by decide +kernel
theorem dksX6_loan_1 : cX6_loan.data.toList.drop 22 = dktX6_loan_1 := dk_seg dksX6_loan_0 22 rfl rfl
theorem dksX6_loan_2 : cX6_loan.data.toList.drop 46 = dktX6_loan_2 := dk_seg dksX6_loan_1 24 rfl rfl
theorem dksX6_loan_3 : cX6_loan.data.toList.drop 70 = dktX6_loan_3 := dk_seg dksX6_loan_2 24 rfl rfl
theorem dksX6_loan_4 : cX6_loan.data.toList.drop 94 = dktX6_loan_4 := dk_seg dksX6_loan_3 24 rfl rfl
theorem dksX6_loan_5 : cX6_loan.data.toList.drop 116 = dktX6_loan_5 := dk_seg dksX6_loan_4 22 rfl rfl
theorem dX6_loan_0 : decode cX6_loan 0 = .ok (.iload_n 1, 1) := dk_27 (dk_at dksX6_loan_0 0 rfl rfl)
theorem dX6_loan_1 : decode cX6_loan 1 = .ok (.invokestatic 150, 3) := dk_184 0 150 (dk_at dksX6_loan_0 1 rfl rfl)
theorem dX6_loan_4 : decode cX6_loan 4 = .ok (.ifCond .eq 40, 3) := dk_153 0 40 (dk_at dksX6_loan_0 4 rfl rfl)
theorem dX6_loan_7 : decode cX6_loan 7 = .ok (.iload_n 2, 1) := dk_28 (dk_at dksX6_loan_0 7 rfl rfl)
theorem dX6_loan_8 : decode cX6_loan 8 = .ok (.i2l, 1) := dk_133 (dk_at dksX6_loan_0 8 rfl rfl)
theorem dX6_loan_9 : decode cX6_loan 9 = .ok (.lconst 0, 1) := dk_9 (dk_at dksX6_loan_0 9 rfl rfl)
theorem dX6_loan_10 : decode cX6_loan 10 = .ok (.ldc2_w 153, 3) := dk_20 0 153 (dk_at dksX6_loan_0 10 rfl rfl)
theorem dX6_loan_13 : decode cX6_loan 13 = .ok (.invokestatic 79, 3) := dk_184 0 79 (dk_at dksX6_loan_0 13 rfl rfl)
theorem dX6_loan_16 : decode cX6_loan 16 = .ok (.ifCond .eq 28, 3) := dk_153 0 28 (dk_at dksX6_loan_0 16 rfl rfl)
theorem dX6_loan_19 : decode cX6_loan 19 = .ok (.iload_n 3, 1) := dk_29 (dk_at dksX6_loan_0 19 rfl rfl)
theorem dX6_loan_20 : decode cX6_loan 20 = .ok (.i2l, 1) := dk_133 (dk_at dksX6_loan_0 20 rfl rfl)
theorem dX6_loan_21 : decode cX6_loan 21 = .ok (.lconst 0, 1) := dk_9 (dk_at dksX6_loan_0 21 rfl rfl)
theorem dX6_loan_22 : decode cX6_loan 22 = .ok (.ldc2_w 153, 3) := dk_20 0 153 (dk_at dksX6_loan_1 0 rfl rfl)
theorem dX6_loan_25 : decode cX6_loan 25 = .ok (.invokestatic 79, 3) := dk_184 0 79 (dk_at dksX6_loan_1 3 rfl rfl)
theorem dX6_loan_28 : decode cX6_loan 28 = .ok (.ifCond .eq 16, 3) := dk_153 0 16 (dk_at dksX6_loan_1 6 rfl rfl)
theorem dX6_loan_31 : decode cX6_loan 31 = .ok (.iload 4, 2) := dk_21 4 (dk_at dksX6_loan_1 9 rfl rfl)
theorem dX6_loan_33 : decode cX6_loan 33 = .ok (.i2l, 1) := dk_133 (dk_at dksX6_loan_1 11 rfl rfl)
theorem dX6_loan_34 : decode cX6_loan 34 = .ok (.lconst 1, 1) := dk_10 (dk_at dksX6_loan_1 12 rfl rfl)
theorem dX6_loan_35 : decode cX6_loan 35 = .ok (.ldc2_w 155, 3) := dk_20 0 155 (dk_at dksX6_loan_1 13 rfl rfl)
theorem dX6_loan_38 : decode cX6_loan 38 = .ok (.invokestatic 79, 3) := dk_184 0 79 (dk_at dksX6_loan_1 16 rfl rfl)
theorem dX6_loan_41 : decode cX6_loan 41 = .ok (.ifCond .ne 6, 3) := dk_154 0 6 (dk_at dksX6_loan_1 19 rfl rfl)
theorem dX6_loan_44 : decode cX6_loan 44 = .ok (.bipush (-2), 2) := dk_16 254 (dk_at dksX6_loan_1 22 rfl rfl)
theorem dX6_loan_46 : decode cX6_loan 46 = .ok (.ireturn, 1) := dk_172 (dk_at dksX6_loan_2 0 rfl rfl)
theorem dX6_loan_47 : decode cX6_loan 47 = .ok (.aload_n 0, 1) := dk_42 (dk_at dksX6_loan_2 1 rfl rfl)
theorem dX6_loan_48 : decode cX6_loan 48 = .ok (.getfield 157, 3) := dk_180 0 157 (dk_at dksX6_loan_2 2 rfl rfl)
theorem dX6_loan_51 : decode cX6_loan 51 = .ok (.bipush 12, 2) := dk_16 12 (dk_at dksX6_loan_2 5 rfl rfl)
theorem dX6_loan_53 : decode cX6_loan 53 = .ok (.if_icmp .ne 6, 3) := dk_160 0 6 (dk_at dksX6_loan_2 7 rfl rfl)
theorem dX6_loan_56 : decode cX6_loan 56 = .ok (.bipush (-4), 2) := dk_16 252 (dk_at dksX6_loan_2 10 rfl rfl)
theorem dX6_loan_58 : decode cX6_loan 58 = .ok (.ireturn, 1) := dk_172 (dk_at dksX6_loan_2 12 rfl rfl)
theorem dX6_loan_59 : decode cX6_loan 59 = .ok (.aload_n 0, 1) := dk_42 (dk_at dksX6_loan_2 13 rfl rfl)
theorem dX6_loan_60 : decode cX6_loan 60 = .ok (.getfield 37, 3) := dk_180 0 37 (dk_at dksX6_loan_2 14 rfl rfl)
theorem dX6_loan_63 : decode cX6_loan 63 = .ok (.iconst 4, 1) := dk_7 (dk_at dksX6_loan_2 17 rfl rfl)
theorem dX6_loan_64 : decode cX6_loan 64 = .ok (.aload_n 0, 1) := dk_42 (dk_at dksX6_loan_2 18 rfl rfl)
theorem dX6_loan_65 : decode cX6_loan 65 = .ok (.getfield 157, 3) := dk_180 0 157 (dk_at dksX6_loan_2 19 rfl rfl)
theorem dX6_loan_68 : decode cX6_loan 68 = .ok (.imul, 1) := dk_104 (dk_at dksX6_loan_2 22 rfl rfl)
theorem dX6_loan_69 : decode cX6_loan 69 = .ok (.iload_n 1, 1) := dk_27 (dk_at dksX6_loan_2 23 rfl rfl)
theorem dX6_loan_70 : decode cX6_loan 70 = .ok (.iastore, 1) := dk_79 (dk_at dksX6_loan_3 0 rfl rfl)
theorem dX6_loan_71 : decode cX6_loan 71 = .ok (.aload_n 0, 1) := dk_42 (dk_at dksX6_loan_3 1 rfl rfl)
theorem dX6_loan_72 : decode cX6_loan 72 = .ok (.getfield 37, 3) := dk_180 0 37 (dk_at dksX6_loan_3 2 rfl rfl)
theorem dX6_loan_75 : decode cX6_loan 75 = .ok (.iconst 4, 1) := dk_7 (dk_at dksX6_loan_3 5 rfl rfl)
theorem dX6_loan_76 : decode cX6_loan 76 = .ok (.aload_n 0, 1) := dk_42 (dk_at dksX6_loan_3 6 rfl rfl)
theorem dX6_loan_77 : decode cX6_loan 77 = .ok (.getfield 157, 3) := dk_180 0 157 (dk_at dksX6_loan_3 7 rfl rfl)
theorem dX6_loan_80 : decode cX6_loan 80 = .ok (.imul, 1) := dk_104 (dk_at dksX6_loan_3 10 rfl rfl)
theorem dX6_loan_81 : decode cX6_loan 81 = .ok (.iconst 1, 1) := dk_4 (dk_at dksX6_loan_3 11 rfl rfl)
theorem dX6_loan_82 : decode cX6_loan 82 = .ok (.iadd, 1) := dk_96 (dk_at dksX6_loan_3 12 rfl rfl)
theorem dX6_loan_83 : decode cX6_loan 83 = .ok (.iload_n 2, 1) := dk_28 (dk_at dksX6_loan_3 13 rfl rfl)
theorem dX6_loan_84 : decode cX6_loan 84 = .ok (.iastore, 1) := dk_79 (dk_at dksX6_loan_3 14 rfl rfl)
theorem dX6_loan_85 : decode cX6_loan 85 = .ok (.aload_n 0, 1) := dk_42 (dk_at dksX6_loan_3 15 rfl rfl)
theorem dX6_loan_86 : decode cX6_loan 86 = .ok (.getfield 37, 3) := dk_180 0 37 (dk_at dksX6_loan_3 16 rfl rfl)
theorem dX6_loan_89 : decode cX6_loan 89 = .ok (.iconst 4, 1) := dk_7 (dk_at dksX6_loan_3 19 rfl rfl)
theorem dX6_loan_90 : decode cX6_loan 90 = .ok (.aload_n 0, 1) := dk_42 (dk_at dksX6_loan_3 20 rfl rfl)
theorem dX6_loan_91 : decode cX6_loan 91 = .ok (.getfield 157, 3) := dk_180 0 157 (dk_at dksX6_loan_3 21 rfl rfl)
theorem dX6_loan_94 : decode cX6_loan 94 = .ok (.imul, 1) := dk_104 (dk_at dksX6_loan_4 0 rfl rfl)
theorem dX6_loan_95 : decode cX6_loan 95 = .ok (.iconst 2, 1) := dk_5 (dk_at dksX6_loan_4 1 rfl rfl)
theorem dX6_loan_96 : decode cX6_loan 96 = .ok (.iadd, 1) := dk_96 (dk_at dksX6_loan_4 2 rfl rfl)
theorem dX6_loan_97 : decode cX6_loan 97 = .ok (.iload_n 3, 1) := dk_29 (dk_at dksX6_loan_4 3 rfl rfl)
theorem dX6_loan_98 : decode cX6_loan 98 = .ok (.iastore, 1) := dk_79 (dk_at dksX6_loan_4 4 rfl rfl)
theorem dX6_loan_99 : decode cX6_loan 99 = .ok (.aload_n 0, 1) := dk_42 (dk_at dksX6_loan_4 5 rfl rfl)
theorem dX6_loan_100 : decode cX6_loan 100 = .ok (.getfield 37, 3) := dk_180 0 37 (dk_at dksX6_loan_4 6 rfl rfl)
theorem dX6_loan_103 : decode cX6_loan 103 = .ok (.iconst 4, 1) := dk_7 (dk_at dksX6_loan_4 9 rfl rfl)
theorem dX6_loan_104 : decode cX6_loan 104 = .ok (.aload_n 0, 1) := dk_42 (dk_at dksX6_loan_4 10 rfl rfl)
theorem dX6_loan_105 : decode cX6_loan 105 = .ok (.getfield 157, 3) := dk_180 0 157 (dk_at dksX6_loan_4 11 rfl rfl)
theorem dX6_loan_108 : decode cX6_loan 108 = .ok (.imul, 1) := dk_104 (dk_at dksX6_loan_4 14 rfl rfl)
theorem dX6_loan_109 : decode cX6_loan 109 = .ok (.iconst 3, 1) := dk_6 (dk_at dksX6_loan_4 15 rfl rfl)
theorem dX6_loan_110 : decode cX6_loan 110 = .ok (.iadd, 1) := dk_96 (dk_at dksX6_loan_4 16 rfl rfl)
theorem dX6_loan_111 : decode cX6_loan 111 = .ok (.iload 4, 2) := dk_21 4 (dk_at dksX6_loan_4 17 rfl rfl)
theorem dX6_loan_113 : decode cX6_loan 113 = .ok (.iastore, 1) := dk_79 (dk_at dksX6_loan_4 19 rfl rfl)
theorem dX6_loan_114 : decode cX6_loan 114 = .ok (.aload_n 0, 1) := dk_42 (dk_at dksX6_loan_4 20 rfl rfl)
theorem dX6_loan_115 : decode cX6_loan 115 = .ok (.dup, 1) := dk_89 (dk_at dksX6_loan_4 21 rfl rfl)
theorem dX6_loan_116 : decode cX6_loan 116 = .ok (.getfield 157, 3) := dk_180 0 157 (dk_at dksX6_loan_5 0 rfl rfl)
theorem dX6_loan_119 : decode cX6_loan 119 = .ok (.iconst 1, 1) := dk_4 (dk_at dksX6_loan_5 3 rfl rfl)
theorem dX6_loan_120 : decode cX6_loan 120 = .ok (.iadd, 1) := dk_96 (dk_at dksX6_loan_5 4 rfl rfl)
theorem dX6_loan_121 : decode cX6_loan 121 = .ok (.putfield 157, 3) := dk_181 0 157 (dk_at dksX6_loan_5 5 rfl rfl)
theorem dX6_loan_124 : decode cX6_loan 124 = .ok (.aload_n 0, 1) := dk_42 (dk_at dksX6_loan_5 8 rfl rfl)
theorem dX6_loan_125 : decode cX6_loan 125 = .ok (.getfield 157, 3) := dk_180 0 157 (dk_at dksX6_loan_5 9 rfl rfl)
theorem dX6_loan_128 : decode cX6_loan 128 = .ok (.ireturn, 1) := dk_172 (dk_at dksX6_loan_5 12 rfl rfl)
def dkwX6_isYear_0 : List UInt8 := [26, 133, 9, 20, 0, 135, 184, 0, 79, 172]
abbrev dktX6_isYear_0 : List UInt8 := dkwX6_isYear_0 ++ []
theorem dksX6_isYear_0 : cX6_isYear.data.toList.drop 0 = dktX6_isYear_0 := by decide +kernel
theorem dX6_isYear_0 : decode cX6_isYear 0 = .ok (.iload_n 0, 1) := dk_26 (dk_at dksX6_isYear_0 0 rfl rfl)
theorem dX6_isYear_1 : decode cX6_isYear 1 = .ok (.i2l, 1) := dk_133 (dk_at dksX6_isYear_0 1 rfl rfl)
theorem dX6_isYear_2 : decode cX6_isYear 2 = .ok (.lconst 0, 1) := dk_9 (dk_at dksX6_isYear_0 2 rfl rfl)
theorem dX6_isYear_3 : decode cX6_isYear 3 = .ok (.ldc2_w 135, 3) := dk_20 0 135 (dk_at dksX6_isYear_0 3 rfl rfl)
theorem dX6_isYear_6 : decode cX6_isYear 6 = .ok (.invokestatic 79, 3) := dk_184 0 79 (dk_at dksX6_isYear_0 6 rfl rfl)
theorem dX6_isYear_9 : decode cX6_isYear 9 = .ok (.ireturn, 1) := dk_172 (dk_at dksX6_isYear_0 9 rfl rfl)
def dkwX6_back_1 : List UInt8 := [172]
abbrev dktX6_back_1 : List UInt8 := dkwX6_back_1 ++ []
def dkwX6_back_0 : List UInt8 := [42, 180, 0, 157, 154, 0, 6, 16, 253, 172, 42, 89, 180, 0, 157, 4, 100, 181, 0, 157, 42, 180, 0, 157]
abbrev dktX6_back_0 : List UInt8 := dkwX6_back_0 ++ dktX6_back_1
theorem dksX6_back_0 : cX6_back.data.toList.drop 0 = dktX6_back_0 := by decide +kernel
theorem dksX6_back_1 : cX6_back.data.toList.drop 24 = dktX6_back_1 := dk_seg dksX6_back_0 24 rfl rfl
theorem dX6_back_0 : decode cX6_back 0 = .ok (.aload_n 0, 1) := dk_42 (dk_at dksX6_back_0 0 rfl rfl)
theorem dX6_back_1 : decode cX6_back 1 = .ok (.getfield 157, 3) := dk_180 0 157 (dk_at dksX6_back_0 1 rfl rfl)
theorem dX6_back_4 : decode cX6_back 4 = .ok (.ifCond .ne 6, 3) := dk_154 0 6 (dk_at dksX6_back_0 4 rfl rfl)
theorem dX6_back_7 : decode cX6_back 7 = .ok (.bipush (-3), 2) := dk_16 253 (dk_at dksX6_back_0 7 rfl rfl)
theorem dX6_back_9 : decode cX6_back 9 = .ok (.ireturn, 1) := dk_172 (dk_at dksX6_back_0 9 rfl rfl)
theorem dX6_back_10 : decode cX6_back 10 = .ok (.aload_n 0, 1) := dk_42 (dk_at dksX6_back_0 10 rfl rfl)
theorem dX6_back_11 : decode cX6_back 11 = .ok (.dup, 1) := dk_89 (dk_at dksX6_back_0 11 rfl rfl)
theorem dX6_back_12 : decode cX6_back 12 = .ok (.getfield 157, 3) := dk_180 0 157 (dk_at dksX6_back_0 12 rfl rfl)
theorem dX6_back_15 : decode cX6_back 15 = .ok (.iconst 1, 1) := dk_4 (dk_at dksX6_back_0 15 rfl rfl)
theorem dX6_back_16 : decode cX6_back 16 = .ok (.isub, 1) := dk_100 (dk_at dksX6_back_0 16 rfl rfl)
theorem dX6_back_17 : decode cX6_back 17 = .ok (.putfield 157, 3) := dk_181 0 157 (dk_at dksX6_back_0 17 rfl rfl)
theorem dX6_back_20 : decode cX6_back 20 = .ok (.aload_n 0, 1) := dk_42 (dk_at dksX6_back_0 20 rfl rfl)
theorem dX6_back_21 : decode cX6_back 21 = .ok (.getfield 157, 3) := dk_180 0 157 (dk_at dksX6_back_0 21 rfl rfl)
theorem dX6_back_24 : decode cX6_back 24 = .ok (.ireturn, 1) := dk_172 (dk_at dksX6_back_1 0 rfl rfl)
def dkwX6_read_5 : List UInt8 := [28, 172]
abbrev dktX6_read_5 : List UInt8 := dkwX6_read_5 ++ []
def dkwX6_read_4 : List UInt8 := [155, 0, 7, 4, 167, 0, 4, 3, 62, 28, 29, 153, 0, 7, 4, 167, 0, 4, 3, 96, 61, 167, 255, 169]
abbrev dktX6_read_4 : List UInt8 := dkwX6_read_4 ++ dktX6_read_5
def dkwX6_read_3 : List UInt8 := [4, 96, 46, 42, 180, 0, 16, 21, 4, 5, 96, 46, 42, 180, 0, 16, 21, 4, 6, 96, 46, 182, 0, 160]
abbrev dktX6_read_3 : List UInt8 := dkwX6_read_3 ++ dktX6_read_4
def dkwX6_read_2 : List UInt8 := [16, 60, 27, 104, 7, 28, 104, 96, 54, 4, 42, 42, 180, 0, 16, 21, 4, 46, 42, 180, 0, 16, 21, 4]
abbrev dktX6_read_2 : List UInt8 := dkwX6_read_2 ++ dktX6_read_3
def dkwX6_read_1 : List UInt8 := [172, 3, 61, 4, 62, 29, 153, 0, 89, 7, 28, 104, 7, 96, 42, 180, 0, 13, 27, 46, 163, 0, 75]
abbrev dktX6_read_1 : List UInt8 := dkwX6_read_1 ++ dktX6_read_2
def dkwX6_read_0 : List UInt8 := [27, 184, 0, 88, 154, 0, 6, 16, 254, 172, 42, 180, 0, 7, 27, 46, 156, 0, 9, 42, 4, 182, 0, 94]
abbrev dktX6_read_0 : List UInt8 := dkwX6_read_0 ++ dktX6_read_1
theorem dksX6_read_0 : cX6_read.data.toList.drop 0 = dktX6_read_0 := by decide +kernel
theorem dksX6_read_1 : cX6_read.data.toList.drop 24 = dktX6_read_1 := dk_seg dksX6_read_0 24 rfl rfl
theorem dksX6_read_2 : cX6_read.data.toList.drop 47 = dktX6_read_2 := dk_seg dksX6_read_1 23 rfl rfl
theorem dksX6_read_3 : cX6_read.data.toList.drop 71 = dktX6_read_3 := dk_seg dksX6_read_2 24 rfl rfl
theorem dksX6_read_4 : cX6_read.data.toList.drop 95 = dktX6_read_4 := dk_seg dksX6_read_3 24 rfl rfl
theorem dksX6_read_5 : cX6_read.data.toList.drop 119 = dktX6_read_5 := dk_seg dksX6_read_4 24 rfl rfl
theorem dX6_read_0 : decode cX6_read 0 = .ok (.iload_n 1, 1) := dk_27 (dk_at dksX6_read_0 0 rfl rfl)
theorem dX6_read_1 : decode cX6_read 1 = .ok (.invokestatic 88, 3) := dk_184 0 88 (dk_at dksX6_read_0 1 rfl rfl)
theorem dX6_read_4 : decode cX6_read 4 = .ok (.ifCond .ne 6, 3) := dk_154 0 6 (dk_at dksX6_read_0 4 rfl rfl)
theorem dX6_read_7 : decode cX6_read 7 = .ok (.bipush (-2), 2) := dk_16 254 (dk_at dksX6_read_0 7 rfl rfl)
theorem dX6_read_9 : decode cX6_read 9 = .ok (.ireturn, 1) := dk_172 (dk_at dksX6_read_0 9 rfl rfl)
theorem dX6_read_10 : decode cX6_read 10 = .ok (.aload_n 0, 1) := dk_42 (dk_at dksX6_read_0 10 rfl rfl)
theorem dX6_read_11 : decode cX6_read 11 = .ok (.getfield 7, 3) := dk_180 0 7 (dk_at dksX6_read_0 11 rfl rfl)
theorem dX6_read_14 : decode cX6_read 14 = .ok (.iload_n 1, 1) := dk_27 (dk_at dksX6_read_0 14 rfl rfl)
theorem dX6_read_15 : decode cX6_read 15 = .ok (.iaload, 1) := dk_46 (dk_at dksX6_read_0 15 rfl rfl)
theorem dX6_read_16 : decode cX6_read 16 = .ok (.ifCond .ge 9, 3) := dk_156 0 9 (dk_at dksX6_read_0 16 rfl rfl)
theorem dX6_read_19 : decode cX6_read 19 = .ok (.aload_n 0, 1) := dk_42 (dk_at dksX6_read_0 19 rfl rfl)
theorem dX6_read_20 : decode cX6_read 20 = .ok (.iconst 1, 1) := dk_4 (dk_at dksX6_read_0 20 rfl rfl)
theorem dX6_read_21 : decode cX6_read 21 = .ok (.invokevirtual 94, 3) := dk_182 0 94 (dk_at dksX6_read_0 21 rfl rfl)
theorem dX6_read_24 : decode cX6_read 24 = .ok (.ireturn, 1) := dk_172 (dk_at dksX6_read_1 0 rfl rfl)
theorem dX6_read_25 : decode cX6_read 25 = .ok (.iconst 0, 1) := dk_3 (dk_at dksX6_read_1 1 rfl rfl)
theorem dX6_read_26 : decode cX6_read 26 = .ok (.istore_n 2, 1) := dk_61 (dk_at dksX6_read_1 2 rfl rfl)
theorem dX6_read_27 : decode cX6_read 27 = .ok (.iconst 1, 1) := dk_4 (dk_at dksX6_read_1 3 rfl rfl)
theorem dX6_read_28 : decode cX6_read 28 = .ok (.istore_n 3, 1) := dk_62 (dk_at dksX6_read_1 4 rfl rfl)
theorem dX6_read_29 : decode cX6_read 29 = .ok (.iload_n 3, 1) := dk_29 (dk_at dksX6_read_1 5 rfl rfl)
theorem dX6_read_30 : decode cX6_read 30 = .ok (.ifCond .eq 89, 3) := dk_153 0 89 (dk_at dksX6_read_1 6 rfl rfl)
theorem dX6_read_33 : decode cX6_read 33 = .ok (.iconst 4, 1) := dk_7 (dk_at dksX6_read_1 9 rfl rfl)
theorem dX6_read_34 : decode cX6_read 34 = .ok (.iload_n 2, 1) := dk_28 (dk_at dksX6_read_1 10 rfl rfl)
theorem dX6_read_35 : decode cX6_read 35 = .ok (.imul, 1) := dk_104 (dk_at dksX6_read_1 11 rfl rfl)
theorem dX6_read_36 : decode cX6_read 36 = .ok (.iconst 4, 1) := dk_7 (dk_at dksX6_read_1 12 rfl rfl)
theorem dX6_read_37 : decode cX6_read 37 = .ok (.iadd, 1) := dk_96 (dk_at dksX6_read_1 13 rfl rfl)
theorem dX6_read_38 : decode cX6_read 38 = .ok (.aload_n 0, 1) := dk_42 (dk_at dksX6_read_1 14 rfl rfl)
theorem dX6_read_39 : decode cX6_read 39 = .ok (.getfield 13, 3) := dk_180 0 13 (dk_at dksX6_read_1 15 rfl rfl)
theorem dX6_read_42 : decode cX6_read 42 = .ok (.iload_n 1, 1) := dk_27 (dk_at dksX6_read_1 18 rfl rfl)
theorem dX6_read_43 : decode cX6_read 43 = .ok (.iaload, 1) := dk_46 (dk_at dksX6_read_1 19 rfl rfl)
theorem dX6_read_44 : decode cX6_read 44 = .ok (.if_icmp .gt 75, 3) := dk_163 0 75 (dk_at dksX6_read_1 20 rfl rfl)
theorem dX6_read_47 : decode cX6_read 47 = .ok (.bipush 60, 2) := dk_16 60 (dk_at dksX6_read_2 0 rfl rfl)
theorem dX6_read_49 : decode cX6_read 49 = .ok (.iload_n 1, 1) := dk_27 (dk_at dksX6_read_2 2 rfl rfl)
theorem dX6_read_50 : decode cX6_read 50 = .ok (.imul, 1) := dk_104 (dk_at dksX6_read_2 3 rfl rfl)
theorem dX6_read_51 : decode cX6_read 51 = .ok (.iconst 4, 1) := dk_7 (dk_at dksX6_read_2 4 rfl rfl)
theorem dX6_read_52 : decode cX6_read 52 = .ok (.iload_n 2, 1) := dk_28 (dk_at dksX6_read_2 5 rfl rfl)
theorem dX6_read_53 : decode cX6_read 53 = .ok (.imul, 1) := dk_104 (dk_at dksX6_read_2 6 rfl rfl)
theorem dX6_read_54 : decode cX6_read 54 = .ok (.iadd, 1) := dk_96 (dk_at dksX6_read_2 7 rfl rfl)
theorem dX6_read_55 : decode cX6_read 55 = .ok (.istore 4, 2) := dk_54 4 (dk_at dksX6_read_2 8 rfl rfl)
theorem dX6_read_57 : decode cX6_read 57 = .ok (.aload_n 0, 1) := dk_42 (dk_at dksX6_read_2 10 rfl rfl)
theorem dX6_read_58 : decode cX6_read 58 = .ok (.aload_n 0, 1) := dk_42 (dk_at dksX6_read_2 11 rfl rfl)
theorem dX6_read_59 : decode cX6_read 59 = .ok (.getfield 16, 3) := dk_180 0 16 (dk_at dksX6_read_2 12 rfl rfl)
theorem dX6_read_62 : decode cX6_read 62 = .ok (.iload 4, 2) := dk_21 4 (dk_at dksX6_read_2 15 rfl rfl)
theorem dX6_read_64 : decode cX6_read 64 = .ok (.iaload, 1) := dk_46 (dk_at dksX6_read_2 17 rfl rfl)
theorem dX6_read_65 : decode cX6_read 65 = .ok (.aload_n 0, 1) := dk_42 (dk_at dksX6_read_2 18 rfl rfl)
theorem dX6_read_66 : decode cX6_read 66 = .ok (.getfield 16, 3) := dk_180 0 16 (dk_at dksX6_read_2 19 rfl rfl)
theorem dX6_read_69 : decode cX6_read 69 = .ok (.iload 4, 2) := dk_21 4 (dk_at dksX6_read_2 22 rfl rfl)
theorem dX6_read_71 : decode cX6_read 71 = .ok (.iconst 1, 1) := dk_4 (dk_at dksX6_read_3 0 rfl rfl)
theorem dX6_read_72 : decode cX6_read 72 = .ok (.iadd, 1) := dk_96 (dk_at dksX6_read_3 1 rfl rfl)
theorem dX6_read_73 : decode cX6_read 73 = .ok (.iaload, 1) := dk_46 (dk_at dksX6_read_3 2 rfl rfl)
theorem dX6_read_74 : decode cX6_read 74 = .ok (.aload_n 0, 1) := dk_42 (dk_at dksX6_read_3 3 rfl rfl)
theorem dX6_read_75 : decode cX6_read 75 = .ok (.getfield 16, 3) := dk_180 0 16 (dk_at dksX6_read_3 4 rfl rfl)
theorem dX6_read_78 : decode cX6_read 78 = .ok (.iload 4, 2) := dk_21 4 (dk_at dksX6_read_3 7 rfl rfl)
theorem dX6_read_80 : decode cX6_read 80 = .ok (.iconst 2, 1) := dk_5 (dk_at dksX6_read_3 9 rfl rfl)
theorem dX6_read_81 : decode cX6_read 81 = .ok (.iadd, 1) := dk_96 (dk_at dksX6_read_3 10 rfl rfl)
theorem dX6_read_82 : decode cX6_read 82 = .ok (.iaload, 1) := dk_46 (dk_at dksX6_read_3 11 rfl rfl)
theorem dX6_read_83 : decode cX6_read 83 = .ok (.aload_n 0, 1) := dk_42 (dk_at dksX6_read_3 12 rfl rfl)
theorem dX6_read_84 : decode cX6_read 84 = .ok (.getfield 16, 3) := dk_180 0 16 (dk_at dksX6_read_3 13 rfl rfl)
theorem dX6_read_87 : decode cX6_read 87 = .ok (.iload 4, 2) := dk_21 4 (dk_at dksX6_read_3 16 rfl rfl)
theorem dX6_read_89 : decode cX6_read 89 = .ok (.iconst 3, 1) := dk_6 (dk_at dksX6_read_3 18 rfl rfl)
theorem dX6_read_90 : decode cX6_read 90 = .ok (.iadd, 1) := dk_96 (dk_at dksX6_read_3 19 rfl rfl)
theorem dX6_read_91 : decode cX6_read 91 = .ok (.iaload, 1) := dk_46 (dk_at dksX6_read_3 20 rfl rfl)
theorem dX6_read_92 : decode cX6_read 92 = .ok (.invokevirtual 160, 3) := dk_182 0 160 (dk_at dksX6_read_3 21 rfl rfl)
theorem dX6_read_95 : decode cX6_read 95 = .ok (.ifCond .lt 7, 3) := dk_155 0 7 (dk_at dksX6_read_4 0 rfl rfl)
theorem dX6_read_98 : decode cX6_read 98 = .ok (.iconst 1, 1) := dk_4 (dk_at dksX6_read_4 3 rfl rfl)
theorem dX6_read_99 : decode cX6_read 99 = .ok (.goto 4, 3) := dk_167 0 4 (dk_at dksX6_read_4 4 rfl rfl)
theorem dX6_read_102 : decode cX6_read 102 = .ok (.iconst 0, 1) := dk_3 (dk_at dksX6_read_4 7 rfl rfl)
theorem dX6_read_103 : decode cX6_read 103 = .ok (.istore_n 3, 1) := dk_62 (dk_at dksX6_read_4 8 rfl rfl)
theorem dX6_read_104 : decode cX6_read 104 = .ok (.iload_n 2, 1) := dk_28 (dk_at dksX6_read_4 9 rfl rfl)
theorem dX6_read_105 : decode cX6_read 105 = .ok (.iload_n 3, 1) := dk_29 (dk_at dksX6_read_4 10 rfl rfl)
theorem dX6_read_106 : decode cX6_read 106 = .ok (.ifCond .eq 7, 3) := dk_153 0 7 (dk_at dksX6_read_4 11 rfl rfl)
theorem dX6_read_109 : decode cX6_read 109 = .ok (.iconst 1, 1) := dk_4 (dk_at dksX6_read_4 14 rfl rfl)
theorem dX6_read_110 : decode cX6_read 110 = .ok (.goto 4, 3) := dk_167 0 4 (dk_at dksX6_read_4 15 rfl rfl)
theorem dX6_read_113 : decode cX6_read 113 = .ok (.iconst 0, 1) := dk_3 (dk_at dksX6_read_4 18 rfl rfl)
theorem dX6_read_114 : decode cX6_read 114 = .ok (.iadd, 1) := dk_96 (dk_at dksX6_read_4 19 rfl rfl)
theorem dX6_read_115 : decode cX6_read 115 = .ok (.istore_n 2, 1) := dk_61 (dk_at dksX6_read_4 20 rfl rfl)
theorem dX6_read_116 : decode cX6_read 116 = .ok (.goto (-87), 3) := dk_167 255 169 (dk_at dksX6_read_4 21 rfl rfl)
theorem dX6_read_119 : decode cX6_read 119 = .ok (.iload_n 2, 1) := dk_28 (dk_at dksX6_read_5 0 rfl rfl)
theorem dX6_read_120 : decode cX6_read 120 = .ok (.ireturn, 1) := dk_172 (dk_at dksX6_read_5 1 rfl rfl)
def dkwX6_ear_1 : List UInt8 := [181, 0, 73, 28, 172]
abbrev dktX6_ear_1 : List UInt8 := dkwX6_ear_1 ++ []
def dkwX6_ear_0 : List UInt8 := [27, 133, 9, 20, 0, 163, 184, 0, 79, 154, 0, 6, 16, 254, 172, 42, 180, 0, 73, 61, 42, 27]
abbrev dktX6_ear_0 : List UInt8 := dkwX6_ear_0 ++ dktX6_ear_1
theorem dksX6_ear_0 : cX6_ear.data.toList.drop 0 = dktX6_ear_0 := by decide +kernel
theorem dksX6_ear_1 : cX6_ear.data.toList.drop 22 = dktX6_ear_1 := dk_seg dksX6_ear_0 22 rfl rfl
theorem dX6_ear_0 : decode cX6_ear 0 = .ok (.iload_n 1, 1) := dk_27 (dk_at dksX6_ear_0 0 rfl rfl)
theorem dX6_ear_1 : decode cX6_ear 1 = .ok (.i2l, 1) := dk_133 (dk_at dksX6_ear_0 1 rfl rfl)
theorem dX6_ear_2 : decode cX6_ear 2 = .ok (.lconst 0, 1) := dk_9 (dk_at dksX6_ear_0 2 rfl rfl)
theorem dX6_ear_3 : decode cX6_ear 3 = .ok (.ldc2_w 163, 3) := dk_20 0 163 (dk_at dksX6_ear_0 3 rfl rfl)
theorem dX6_ear_6 : decode cX6_ear 6 = .ok (.invokestatic 79, 3) := dk_184 0 79 (dk_at dksX6_ear_0 6 rfl rfl)
theorem dX6_ear_9 : decode cX6_ear 9 = .ok (.ifCond .ne 6, 3) := dk_154 0 6 (dk_at dksX6_ear_0 9 rfl rfl)
theorem dX6_ear_12 : decode cX6_ear 12 = .ok (.bipush (-2), 2) := dk_16 254 (dk_at dksX6_ear_0 12 rfl rfl)
theorem dX6_ear_14 : decode cX6_ear 14 = .ok (.ireturn, 1) := dk_172 (dk_at dksX6_ear_0 14 rfl rfl)
theorem dX6_ear_15 : decode cX6_ear 15 = .ok (.aload_n 0, 1) := dk_42 (dk_at dksX6_ear_0 15 rfl rfl)
theorem dX6_ear_16 : decode cX6_ear 16 = .ok (.getfield 73, 3) := dk_180 0 73 (dk_at dksX6_ear_0 16 rfl rfl)
theorem dX6_ear_19 : decode cX6_ear 19 = .ok (.istore_n 2, 1) := dk_61 (dk_at dksX6_ear_0 19 rfl rfl)
theorem dX6_ear_20 : decode cX6_ear 20 = .ok (.aload_n 0, 1) := dk_42 (dk_at dksX6_ear_0 20 rfl rfl)
theorem dX6_ear_21 : decode cX6_ear 21 = .ok (.iload_n 1, 1) := dk_27 (dk_at dksX6_ear_0 21 rfl rfl)
theorem dX6_ear_22 : decode cX6_ear 22 = .ok (.putfield 73, 3) := dk_181 0 73 (dk_at dksX6_ear_1 0 rfl rfl)
theorem dX6_ear_25 : decode cX6_ear 25 = .ok (.iload_n 2, 1) := dk_28 (dk_at dksX6_ear_1 3 rfl rfl)
theorem dX6_ear_26 : decode cX6_ear 26 = .ok (.ireturn, 1) := dk_172 (dk_at dksX6_ear_1 4 rfl rfl)
def dkwX6_notes_1 : List UInt8 := [20, 0, 135, 184, 0, 79, 153, 0, 13, 42, 27, 28, 29, 182, 0, 198, 167, 0, 5, 16, 254, 172]
abbrev dktX6_notes_1 : List UInt8 := dkwX6_notes_1 ++ []
def dkwX6_notes_0 : List UInt8 := [42, 182, 0, 137, 27, 184, 0, 150, 153, 0, 35, 42, 28, 182, 0, 140, 153, 0, 27, 29, 133, 20, 0, 143]
abbrev dktX6_notes_0 : List UInt8 := dkwX6_notes_0 ++ dktX6_notes_1
theorem dksX6_notes_0 : cX6_notes.data.toList.drop 0 = dktX6_notes_0 := by decide +kernel
theorem dksX6_notes_1 : cX6_notes.data.toList.drop 24 = dktX6_notes_1 := dk_seg dksX6_notes_0 24 rfl rfl
theorem dX6_notes_0 : decode cX6_notes 0 = .ok (.aload_n 0, 1) := dk_42 (dk_at dksX6_notes_0 0 rfl rfl)
theorem dX6_notes_1 : decode cX6_notes 1 = .ok (.invokevirtual 137, 3) := dk_182 0 137 (dk_at dksX6_notes_0 1 rfl rfl)
theorem dX6_notes_4 : decode cX6_notes 4 = .ok (.iload_n 1, 1) := dk_27 (dk_at dksX6_notes_0 4 rfl rfl)
theorem dX6_notes_5 : decode cX6_notes 5 = .ok (.invokestatic 150, 3) := dk_184 0 150 (dk_at dksX6_notes_0 5 rfl rfl)
theorem dX6_notes_8 : decode cX6_notes 8 = .ok (.ifCond .eq 35, 3) := dk_153 0 35 (dk_at dksX6_notes_0 8 rfl rfl)
theorem dX6_notes_11 : decode cX6_notes 11 = .ok (.aload_n 0, 1) := dk_42 (dk_at dksX6_notes_0 11 rfl rfl)
theorem dX6_notes_12 : decode cX6_notes 12 = .ok (.iload_n 2, 1) := dk_28 (dk_at dksX6_notes_0 12 rfl rfl)
theorem dX6_notes_13 : decode cX6_notes 13 = .ok (.invokevirtual 140, 3) := dk_182 0 140 (dk_at dksX6_notes_0 13 rfl rfl)
theorem dX6_notes_16 : decode cX6_notes 16 = .ok (.ifCond .eq 27, 3) := dk_153 0 27 (dk_at dksX6_notes_0 16 rfl rfl)
theorem dX6_notes_19 : decode cX6_notes 19 = .ok (.iload_n 3, 1) := dk_29 (dk_at dksX6_notes_0 19 rfl rfl)
theorem dX6_notes_20 : decode cX6_notes 20 = .ok (.i2l, 1) := dk_133 (dk_at dksX6_notes_0 20 rfl rfl)
theorem dX6_notes_21 : decode cX6_notes 21 = .ok (.ldc2_w 143, 3) := dk_20 0 143 (dk_at dksX6_notes_0 21 rfl rfl)
theorem dX6_notes_24 : decode cX6_notes 24 = .ok (.ldc2_w 135, 3) := dk_20 0 135 (dk_at dksX6_notes_1 0 rfl rfl)
theorem dX6_notes_27 : decode cX6_notes 27 = .ok (.invokestatic 79, 3) := dk_184 0 79 (dk_at dksX6_notes_1 3 rfl rfl)
theorem dX6_notes_30 : decode cX6_notes 30 = .ok (.ifCond .eq 13, 3) := dk_153 0 13 (dk_at dksX6_notes_1 6 rfl rfl)
theorem dX6_notes_33 : decode cX6_notes 33 = .ok (.aload_n 0, 1) := dk_42 (dk_at dksX6_notes_1 9 rfl rfl)
theorem dX6_notes_34 : decode cX6_notes 34 = .ok (.iload_n 1, 1) := dk_27 (dk_at dksX6_notes_1 10 rfl rfl)
theorem dX6_notes_35 : decode cX6_notes 35 = .ok (.iload_n 2, 1) := dk_28 (dk_at dksX6_notes_1 11 rfl rfl)
theorem dX6_notes_36 : decode cX6_notes 36 = .ok (.iload_n 3, 1) := dk_29 (dk_at dksX6_notes_1 12 rfl rfl)
theorem dX6_notes_37 : decode cX6_notes 37 = .ok (.invokevirtual 198, 3) := dk_182 0 198 (dk_at dksX6_notes_1 13 rfl rfl)
theorem dX6_notes_40 : decode cX6_notes 40 = .ok (.goto 5, 3) := dk_167 0 5 (dk_at dksX6_notes_1 16 rfl rfl)
theorem dX6_notes_43 : decode cX6_notes 43 = .ok (.bipush (-2), 2) := dk_16 254 (dk_at dksX6_notes_1 19 rfl rfl)
theorem dX6_notes_45 : decode cX6_notes 45 = .ok (.ireturn, 1) := dk_172 (dk_at dksX6_notes_1 21 rfl rfl)
def dkwX6_notesOf_2 : List UInt8 := [172]
abbrev dktX6_notesOf_2 : List UInt8 := dkwX6_notesOf_2 ++ []
def dkwX6_notesOf_1 : List UInt8 := [42, 180, 0, 43, 28, 46, 162, 0, 17, 42, 180, 0, 40, 16, 40, 28, 104, 29, 96, 46, 167, 0, 4, 2]
abbrev dktX6_notesOf_1 : List UInt8 := dkwX6_notesOf_1 ++ dktX6_notesOf_2
def dkwX6_notesOf_0 : List UInt8 := [42, 27, 42, 180, 0, 73, 182, 0, 195, 29, 2, 160, 0, 12, 42, 180, 0, 43, 28, 46, 167, 0, 28, 29]
abbrev dktX6_notesOf_0 : List UInt8 := dkwX6_notesOf_0 ++ dktX6_notesOf_1
theorem dksX6_notesOf_0 : cX6_notesOf.data.toList.drop 0 = dktX6_notesOf_0 := by decide +kernel
theorem dksX6_notesOf_1 : cX6_notesOf.data.toList.drop 24 = dktX6_notesOf_1 := dk_seg dksX6_notesOf_0 24 rfl rfl
theorem dksX6_notesOf_2 : cX6_notesOf.data.toList.drop 48 = dktX6_notesOf_2 := dk_seg dksX6_notesOf_1 24 rfl rfl
theorem dX6_notesOf_0 : decode cX6_notesOf 0 = .ok (.aload_n 0, 1) := dk_42 (dk_at dksX6_notesOf_0 0 rfl rfl)
theorem dX6_notesOf_1 : decode cX6_notesOf 1 = .ok (.iload_n 1, 1) := dk_27 (dk_at dksX6_notesOf_0 1 rfl rfl)
theorem dX6_notesOf_2 : decode cX6_notesOf 2 = .ok (.aload_n 0, 1) := dk_42 (dk_at dksX6_notesOf_0 2 rfl rfl)
theorem dX6_notesOf_3 : decode cX6_notesOf 3 = .ok (.getfield 73, 3) := dk_180 0 73 (dk_at dksX6_notesOf_0 3 rfl rfl)
theorem dX6_notesOf_6 : decode cX6_notesOf 6 = .ok (.invokevirtual 195, 3) := dk_182 0 195 (dk_at dksX6_notesOf_0 6 rfl rfl)
theorem dX6_notesOf_9 : decode cX6_notesOf 9 = .ok (.iload_n 3, 1) := dk_29 (dk_at dksX6_notesOf_0 9 rfl rfl)
theorem dX6_notesOf_10 : decode cX6_notesOf 10 = .ok (.iconst (-1), 1) := dk_2 (dk_at dksX6_notesOf_0 10 rfl rfl)
theorem dX6_notesOf_11 : decode cX6_notesOf 11 = .ok (.if_icmp .ne 12, 3) := dk_160 0 12 (dk_at dksX6_notesOf_0 11 rfl rfl)
theorem dX6_notesOf_14 : decode cX6_notesOf 14 = .ok (.aload_n 0, 1) := dk_42 (dk_at dksX6_notesOf_0 14 rfl rfl)
theorem dX6_notesOf_15 : decode cX6_notesOf 15 = .ok (.getfield 43, 3) := dk_180 0 43 (dk_at dksX6_notesOf_0 15 rfl rfl)
theorem dX6_notesOf_18 : decode cX6_notesOf 18 = .ok (.iload_n 2, 1) := dk_28 (dk_at dksX6_notesOf_0 18 rfl rfl)
theorem dX6_notesOf_19 : decode cX6_notesOf 19 = .ok (.iaload, 1) := dk_46 (dk_at dksX6_notesOf_0 19 rfl rfl)
theorem dX6_notesOf_20 : decode cX6_notesOf 20 = .ok (.goto 28, 3) := dk_167 0 28 (dk_at dksX6_notesOf_0 20 rfl rfl)
theorem dX6_notesOf_23 : decode cX6_notesOf 23 = .ok (.iload_n 3, 1) := dk_29 (dk_at dksX6_notesOf_0 23 rfl rfl)
theorem dX6_notesOf_24 : decode cX6_notesOf 24 = .ok (.aload_n 0, 1) := dk_42 (dk_at dksX6_notesOf_1 0 rfl rfl)
theorem dX6_notesOf_25 : decode cX6_notesOf 25 = .ok (.getfield 43, 3) := dk_180 0 43 (dk_at dksX6_notesOf_1 1 rfl rfl)
theorem dX6_notesOf_28 : decode cX6_notesOf 28 = .ok (.iload_n 2, 1) := dk_28 (dk_at dksX6_notesOf_1 4 rfl rfl)
theorem dX6_notesOf_29 : decode cX6_notesOf 29 = .ok (.iaload, 1) := dk_46 (dk_at dksX6_notesOf_1 5 rfl rfl)
theorem dX6_notesOf_30 : decode cX6_notesOf 30 = .ok (.if_icmp .ge 17, 3) := dk_162 0 17 (dk_at dksX6_notesOf_1 6 rfl rfl)
theorem dX6_notesOf_33 : decode cX6_notesOf 33 = .ok (.aload_n 0, 1) := dk_42 (dk_at dksX6_notesOf_1 9 rfl rfl)
theorem dX6_notesOf_34 : decode cX6_notesOf 34 = .ok (.getfield 40, 3) := dk_180 0 40 (dk_at dksX6_notesOf_1 10 rfl rfl)
theorem dX6_notesOf_37 : decode cX6_notesOf 37 = .ok (.bipush 40, 2) := dk_16 40 (dk_at dksX6_notesOf_1 13 rfl rfl)
theorem dX6_notesOf_39 : decode cX6_notesOf 39 = .ok (.iload_n 2, 1) := dk_28 (dk_at dksX6_notesOf_1 15 rfl rfl)
theorem dX6_notesOf_40 : decode cX6_notesOf 40 = .ok (.imul, 1) := dk_104 (dk_at dksX6_notesOf_1 16 rfl rfl)
theorem dX6_notesOf_41 : decode cX6_notesOf 41 = .ok (.iload_n 3, 1) := dk_29 (dk_at dksX6_notesOf_1 17 rfl rfl)
theorem dX6_notesOf_42 : decode cX6_notesOf 42 = .ok (.iadd, 1) := dk_96 (dk_at dksX6_notesOf_1 18 rfl rfl)
theorem dX6_notesOf_43 : decode cX6_notesOf 43 = .ok (.iaload, 1) := dk_46 (dk_at dksX6_notesOf_1 19 rfl rfl)
theorem dX6_notesOf_44 : decode cX6_notesOf 44 = .ok (.goto 4, 3) := dk_167 0 4 (dk_at dksX6_notesOf_1 20 rfl rfl)
theorem dX6_notesOf_47 : decode cX6_notesOf 47 = .ok (.iconst (-1), 1) := dk_2 (dk_at dksX6_notesOf_1 23 rfl rfl)
theorem dX6_notesOf_48 : decode cX6_notesOf 48 = .ok (.ireturn, 1) := dk_172 (dk_at dksX6_notesOf_2 0 rfl rfl)
def dkwX6_lives_0 : List UInt8 := [42, 182, 0, 189, 3, 62, 29, 27, 163, 0, 15, 42, 29, 28, 182, 0, 192, 132, 3, 1, 167, 255, 242, 177]
abbrev dktX6_lives_0 : List UInt8 := dkwX6_lives_0 ++ []
theorem dksX6_lives_0 : cX6_lives.data.toList.drop 0 = dktX6_lives_0 := by decide +kernel
theorem dX6_lives_0 : decode cX6_lives 0 = .ok (.aload_n 0, 1) := dk_42 (dk_at dksX6_lives_0 0 rfl rfl)
theorem dX6_lives_1 : decode cX6_lives 1 = .ok (.invokevirtual 189, 3) := dk_182 0 189 (dk_at dksX6_lives_0 1 rfl rfl)
theorem dX6_lives_4 : decode cX6_lives 4 = .ok (.iconst 0, 1) := dk_3 (dk_at dksX6_lives_0 4 rfl rfl)
theorem dX6_lives_5 : decode cX6_lives 5 = .ok (.istore_n 3, 1) := dk_62 (dk_at dksX6_lives_0 5 rfl rfl)
theorem dX6_lives_6 : decode cX6_lives 6 = .ok (.iload_n 3, 1) := dk_29 (dk_at dksX6_lives_0 6 rfl rfl)
theorem dX6_lives_7 : decode cX6_lives 7 = .ok (.iload_n 1, 1) := dk_27 (dk_at dksX6_lives_0 7 rfl rfl)
theorem dX6_lives_8 : decode cX6_lives 8 = .ok (.if_icmp .gt 15, 3) := dk_163 0 15 (dk_at dksX6_lives_0 8 rfl rfl)
theorem dX6_lives_11 : decode cX6_lives 11 = .ok (.aload_n 0, 1) := dk_42 (dk_at dksX6_lives_0 11 rfl rfl)
theorem dX6_lives_12 : decode cX6_lives 12 = .ok (.iload_n 3, 1) := dk_29 (dk_at dksX6_lives_0 12 rfl rfl)
theorem dX6_lives_13 : decode cX6_lives 13 = .ok (.iload_n 2, 1) := dk_28 (dk_at dksX6_lives_0 13 rfl rfl)
theorem dX6_lives_14 : decode cX6_lives 14 = .ok (.invokevirtual 192, 3) := dk_182 0 192 (dk_at dksX6_lives_0 14 rfl rfl)
theorem dX6_lives_17 : decode cX6_lives 17 = .ok (.iinc 3 1, 3) := dk_132 3 1 (dk_at dksX6_lives_0 17 rfl rfl)
theorem dX6_lives_20 : decode cX6_lives 20 = .ok (.goto (-14), 3) := dk_167 255 242 (dk_at dksX6_lives_0 20 rfl rfl)
theorem dX6_lives_23 : decode cX6_lives 23 = .ok (.return_, 1) := dk_177 (dk_at dksX6_lives_0 23 rfl rfl)
def dkwX6_startsAll_2 : List UInt8 := [180, 0, 61, 27, 3, 79, 42, 180, 0, 64, 27, 3, 79, 132, 1, 1, 167, 255, 226, 177]
abbrev dktX6_startsAll_2 : List UInt8 := dkwX6_startsAll_2 ++ []
def dkwX6_startsAll_1 : List UInt8 := [132, 1, 1, 167, 255, 232, 3, 60, 27, 16, 12, 162, 0, 30, 42, 180, 0, 58, 27, 3, 79, 42]
abbrev dktX6_startsAll_1 : List UInt8 := dkwX6_startsAll_1 ++ dktX6_startsAll_2
def dkwX6_startsAll_0 : List UInt8 := [3, 60, 27, 42, 180, 0, 112, 162, 0, 22, 42, 27, 27, 182, 0, 171, 42, 180, 0, 52, 27, 2, 79]
abbrev dktX6_startsAll_0 : List UInt8 := dkwX6_startsAll_0 ++ dktX6_startsAll_1
theorem dksX6_startsAll_0 : cX6_startsAll.data.toList.drop 0 = dktX6_startsAll_0 := by decide +kernel
theorem dksX6_startsAll_1 : cX6_startsAll.data.toList.drop 23 = dktX6_startsAll_1 := dk_seg dksX6_startsAll_0 23 rfl rfl
theorem dksX6_startsAll_2 : cX6_startsAll.data.toList.drop 45 = dktX6_startsAll_2 := dk_seg dksX6_startsAll_1 22 rfl rfl
theorem dX6_startsAll_0 : decode cX6_startsAll 0 = .ok (.iconst 0, 1) := dk_3 (dk_at dksX6_startsAll_0 0 rfl rfl)
theorem dX6_startsAll_1 : decode cX6_startsAll 1 = .ok (.istore_n 1, 1) := dk_60 (dk_at dksX6_startsAll_0 1 rfl rfl)
theorem dX6_startsAll_2 : decode cX6_startsAll 2 = .ok (.iload_n 1, 1) := dk_27 (dk_at dksX6_startsAll_0 2 rfl rfl)
theorem dX6_startsAll_3 : decode cX6_startsAll 3 = .ok (.aload_n 0, 1) := dk_42 (dk_at dksX6_startsAll_0 3 rfl rfl)
theorem dX6_startsAll_4 : decode cX6_startsAll 4 = .ok (.getfield 112, 3) := dk_180 0 112 (dk_at dksX6_startsAll_0 4 rfl rfl)
theorem dX6_startsAll_7 : decode cX6_startsAll 7 = .ok (.if_icmp .ge 22, 3) := dk_162 0 22 (dk_at dksX6_startsAll_0 7 rfl rfl)
theorem dX6_startsAll_10 : decode cX6_startsAll 10 = .ok (.aload_n 0, 1) := dk_42 (dk_at dksX6_startsAll_0 10 rfl rfl)
theorem dX6_startsAll_11 : decode cX6_startsAll 11 = .ok (.iload_n 1, 1) := dk_27 (dk_at dksX6_startsAll_0 11 rfl rfl)
theorem dX6_startsAll_12 : decode cX6_startsAll 12 = .ok (.iload_n 1, 1) := dk_27 (dk_at dksX6_startsAll_0 12 rfl rfl)
theorem dX6_startsAll_13 : decode cX6_startsAll 13 = .ok (.invokevirtual 171, 3) := dk_182 0 171 (dk_at dksX6_startsAll_0 13 rfl rfl)
theorem dX6_startsAll_16 : decode cX6_startsAll 16 = .ok (.aload_n 0, 1) := dk_42 (dk_at dksX6_startsAll_0 16 rfl rfl)
theorem dX6_startsAll_17 : decode cX6_startsAll 17 = .ok (.getfield 52, 3) := dk_180 0 52 (dk_at dksX6_startsAll_0 17 rfl rfl)
theorem dX6_startsAll_20 : decode cX6_startsAll 20 = .ok (.iload_n 1, 1) := dk_27 (dk_at dksX6_startsAll_0 20 rfl rfl)
theorem dX6_startsAll_21 : decode cX6_startsAll 21 = .ok (.iconst (-1), 1) := dk_2 (dk_at dksX6_startsAll_0 21 rfl rfl)
theorem dX6_startsAll_22 : decode cX6_startsAll 22 = .ok (.iastore, 1) := dk_79 (dk_at dksX6_startsAll_0 22 rfl rfl)
theorem dX6_startsAll_23 : decode cX6_startsAll 23 = .ok (.iinc 1 1, 3) := dk_132 1 1 (dk_at dksX6_startsAll_1 0 rfl rfl)
theorem dX6_startsAll_26 : decode cX6_startsAll 26 = .ok (.goto (-24), 3) := dk_167 255 232 (dk_at dksX6_startsAll_1 3 rfl rfl)
theorem dX6_startsAll_29 : decode cX6_startsAll 29 = .ok (.iconst 0, 1) := dk_3 (dk_at dksX6_startsAll_1 6 rfl rfl)
theorem dX6_startsAll_30 : decode cX6_startsAll 30 = .ok (.istore_n 1, 1) := dk_60 (dk_at dksX6_startsAll_1 7 rfl rfl)
theorem dX6_startsAll_31 : decode cX6_startsAll 31 = .ok (.iload_n 1, 1) := dk_27 (dk_at dksX6_startsAll_1 8 rfl rfl)
theorem dX6_startsAll_32 : decode cX6_startsAll 32 = .ok (.bipush 12, 2) := dk_16 12 (dk_at dksX6_startsAll_1 9 rfl rfl)
theorem dX6_startsAll_34 : decode cX6_startsAll 34 = .ok (.if_icmp .ge 30, 3) := dk_162 0 30 (dk_at dksX6_startsAll_1 11 rfl rfl)
theorem dX6_startsAll_37 : decode cX6_startsAll 37 = .ok (.aload_n 0, 1) := dk_42 (dk_at dksX6_startsAll_1 14 rfl rfl)
theorem dX6_startsAll_38 : decode cX6_startsAll 38 = .ok (.getfield 58, 3) := dk_180 0 58 (dk_at dksX6_startsAll_1 15 rfl rfl)
theorem dX6_startsAll_41 : decode cX6_startsAll 41 = .ok (.iload_n 1, 1) := dk_27 (dk_at dksX6_startsAll_1 18 rfl rfl)
theorem dX6_startsAll_42 : decode cX6_startsAll 42 = .ok (.iconst 0, 1) := dk_3 (dk_at dksX6_startsAll_1 19 rfl rfl)
theorem dX6_startsAll_43 : decode cX6_startsAll 43 = .ok (.iastore, 1) := dk_79 (dk_at dksX6_startsAll_1 20 rfl rfl)
theorem dX6_startsAll_44 : decode cX6_startsAll 44 = .ok (.aload_n 0, 1) := dk_42 (dk_at dksX6_startsAll_1 21 rfl rfl)
theorem dX6_startsAll_45 : decode cX6_startsAll 45 = .ok (.getfield 61, 3) := dk_180 0 61 (dk_at dksX6_startsAll_2 0 rfl rfl)
theorem dX6_startsAll_48 : decode cX6_startsAll 48 = .ok (.iload_n 1, 1) := dk_27 (dk_at dksX6_startsAll_2 3 rfl rfl)
theorem dX6_startsAll_49 : decode cX6_startsAll 49 = .ok (.iconst 0, 1) := dk_3 (dk_at dksX6_startsAll_2 4 rfl rfl)
theorem dX6_startsAll_50 : decode cX6_startsAll 50 = .ok (.iastore, 1) := dk_79 (dk_at dksX6_startsAll_2 5 rfl rfl)
theorem dX6_startsAll_51 : decode cX6_startsAll 51 = .ok (.aload_n 0, 1) := dk_42 (dk_at dksX6_startsAll_2 6 rfl rfl)
theorem dX6_startsAll_52 : decode cX6_startsAll 52 = .ok (.getfield 64, 3) := dk_180 0 64 (dk_at dksX6_startsAll_2 7 rfl rfl)
theorem dX6_startsAll_55 : decode cX6_startsAll 55 = .ok (.iload_n 1, 1) := dk_27 (dk_at dksX6_startsAll_2 10 rfl rfl)
theorem dX6_startsAll_56 : decode cX6_startsAll 56 = .ok (.iconst 0, 1) := dk_3 (dk_at dksX6_startsAll_2 11 rfl rfl)
theorem dX6_startsAll_57 : decode cX6_startsAll 57 = .ok (.iastore, 1) := dk_79 (dk_at dksX6_startsAll_2 12 rfl rfl)
theorem dX6_startsAll_58 : decode cX6_startsAll 58 = .ok (.iinc 1 1, 3) := dk_132 1 1 (dk_at dksX6_startsAll_2 13 rfl rfl)
theorem dX6_startsAll_61 : decode cX6_startsAll 61 = .ok (.goto (-30), 3) := dk_167 255 226 (dk_at dksX6_startsAll_2 16 rfl rfl)
theorem dX6_startsAll_64 : decode cX6_startsAll 64 = .ok (.return_, 1) := dk_177 (dk_at dksX6_startsAll_2 19 rfl rfl)
def dkwX6_begins_2 : List UInt8 := [180, 0, 31, 27, 46, 79, 177]
abbrev dktX6_begins_2 : List UInt8 := dkwX6_begins_2 ++ []
def dkwX6_begins_1 : List UInt8 := [180, 0, 28, 16, 40, 27, 104, 29, 96, 46, 79, 132, 3, 1, 167, 255, 221, 42, 180, 0, 43, 28, 42]
abbrev dktX6_begins_1 : List UInt8 := dkwX6_begins_1 ++ dktX6_begins_2
def dkwX6_begins_0 : List UInt8 := [3, 62, 29, 42, 180, 0, 31, 27, 46, 162, 0, 31, 42, 180, 0, 40, 16, 40, 28, 104, 29, 96, 42]
abbrev dktX6_begins_0 : List UInt8 := dkwX6_begins_0 ++ dktX6_begins_1
theorem dksX6_begins_0 : cX6_begins.data.toList.drop 0 = dktX6_begins_0 := by decide +kernel
theorem dksX6_begins_1 : cX6_begins.data.toList.drop 23 = dktX6_begins_1 := dk_seg dksX6_begins_0 23 rfl rfl
theorem dksX6_begins_2 : cX6_begins.data.toList.drop 46 = dktX6_begins_2 := dk_seg dksX6_begins_1 23 rfl rfl
theorem dX6_begins_0 : decode cX6_begins 0 = .ok (.iconst 0, 1) := dk_3 (dk_at dksX6_begins_0 0 rfl rfl)
theorem dX6_begins_1 : decode cX6_begins 1 = .ok (.istore_n 3, 1) := dk_62 (dk_at dksX6_begins_0 1 rfl rfl)
theorem dX6_begins_2 : decode cX6_begins 2 = .ok (.iload_n 3, 1) := dk_29 (dk_at dksX6_begins_0 2 rfl rfl)
theorem dX6_begins_3 : decode cX6_begins 3 = .ok (.aload_n 0, 1) := dk_42 (dk_at dksX6_begins_0 3 rfl rfl)
theorem dX6_begins_4 : decode cX6_begins 4 = .ok (.getfield 31, 3) := dk_180 0 31 (dk_at dksX6_begins_0 4 rfl rfl)
theorem dX6_begins_7 : decode cX6_begins 7 = .ok (.iload_n 1, 1) := dk_27 (dk_at dksX6_begins_0 7 rfl rfl)
theorem dX6_begins_8 : decode cX6_begins 8 = .ok (.iaload, 1) := dk_46 (dk_at dksX6_begins_0 8 rfl rfl)
theorem dX6_begins_9 : decode cX6_begins 9 = .ok (.if_icmp .ge 31, 3) := dk_162 0 31 (dk_at dksX6_begins_0 9 rfl rfl)
theorem dX6_begins_12 : decode cX6_begins 12 = .ok (.aload_n 0, 1) := dk_42 (dk_at dksX6_begins_0 12 rfl rfl)
theorem dX6_begins_13 : decode cX6_begins 13 = .ok (.getfield 40, 3) := dk_180 0 40 (dk_at dksX6_begins_0 13 rfl rfl)
theorem dX6_begins_16 : decode cX6_begins 16 = .ok (.bipush 40, 2) := dk_16 40 (dk_at dksX6_begins_0 16 rfl rfl)
theorem dX6_begins_18 : decode cX6_begins 18 = .ok (.iload_n 2, 1) := dk_28 (dk_at dksX6_begins_0 18 rfl rfl)
theorem dX6_begins_19 : decode cX6_begins 19 = .ok (.imul, 1) := dk_104 (dk_at dksX6_begins_0 19 rfl rfl)
theorem dX6_begins_20 : decode cX6_begins 20 = .ok (.iload_n 3, 1) := dk_29 (dk_at dksX6_begins_0 20 rfl rfl)
theorem dX6_begins_21 : decode cX6_begins 21 = .ok (.iadd, 1) := dk_96 (dk_at dksX6_begins_0 21 rfl rfl)
theorem dX6_begins_22 : decode cX6_begins 22 = .ok (.aload_n 0, 1) := dk_42 (dk_at dksX6_begins_0 22 rfl rfl)
theorem dX6_begins_23 : decode cX6_begins 23 = .ok (.getfield 28, 3) := dk_180 0 28 (dk_at dksX6_begins_1 0 rfl rfl)
theorem dX6_begins_26 : decode cX6_begins 26 = .ok (.bipush 40, 2) := dk_16 40 (dk_at dksX6_begins_1 3 rfl rfl)
theorem dX6_begins_28 : decode cX6_begins 28 = .ok (.iload_n 1, 1) := dk_27 (dk_at dksX6_begins_1 5 rfl rfl)
theorem dX6_begins_29 : decode cX6_begins 29 = .ok (.imul, 1) := dk_104 (dk_at dksX6_begins_1 6 rfl rfl)
theorem dX6_begins_30 : decode cX6_begins 30 = .ok (.iload_n 3, 1) := dk_29 (dk_at dksX6_begins_1 7 rfl rfl)
theorem dX6_begins_31 : decode cX6_begins 31 = .ok (.iadd, 1) := dk_96 (dk_at dksX6_begins_1 8 rfl rfl)
theorem dX6_begins_32 : decode cX6_begins 32 = .ok (.iaload, 1) := dk_46 (dk_at dksX6_begins_1 9 rfl rfl)
theorem dX6_begins_33 : decode cX6_begins 33 = .ok (.iastore, 1) := dk_79 (dk_at dksX6_begins_1 10 rfl rfl)
theorem dX6_begins_34 : decode cX6_begins 34 = .ok (.iinc 3 1, 3) := dk_132 3 1 (dk_at dksX6_begins_1 11 rfl rfl)
theorem dX6_begins_37 : decode cX6_begins 37 = .ok (.goto (-35), 3) := dk_167 255 221 (dk_at dksX6_begins_1 14 rfl rfl)
theorem dX6_begins_40 : decode cX6_begins 40 = .ok (.aload_n 0, 1) := dk_42 (dk_at dksX6_begins_1 17 rfl rfl)
theorem dX6_begins_41 : decode cX6_begins 41 = .ok (.getfield 43, 3) := dk_180 0 43 (dk_at dksX6_begins_1 18 rfl rfl)
theorem dX6_begins_44 : decode cX6_begins 44 = .ok (.iload_n 2, 1) := dk_28 (dk_at dksX6_begins_1 21 rfl rfl)
theorem dX6_begins_45 : decode cX6_begins 45 = .ok (.aload_n 0, 1) := dk_42 (dk_at dksX6_begins_1 22 rfl rfl)
theorem dX6_begins_46 : decode cX6_begins 46 = .ok (.getfield 31, 3) := dk_180 0 31 (dk_at dksX6_begins_2 0 rfl rfl)
theorem dX6_begins_49 : decode cX6_begins 49 = .ok (.iload_n 1, 1) := dk_27 (dk_at dksX6_begins_2 3 rfl rfl)
theorem dX6_begins_50 : decode cX6_begins 50 = .ok (.iaload, 1) := dk_46 (dk_at dksX6_begins_2 4 rfl rfl)
theorem dX6_begins_51 : decode cX6_begins 51 = .ok (.iastore, 1) := dk_79 (dk_at dksX6_begins_2 5 rfl rfl)
theorem dX6_begins_52 : decode cX6_begins 52 = .ok (.return_, 1) := dk_177 (dk_at dksX6_begins_2 6 rfl rfl)
def dkwX6_goesOn_5 : List UInt8 := [96, 4, 100, 160, 0, 9, 42, 29, 28, 182, 0, 186, 132, 3, 1, 167, 255, 194, 177]
abbrev dktX6_goesOn_5 : List UInt8 := dkwX6_goesOn_5 ++ []
def dkwX6_goesOn_4 : List UInt8 := [159, 0, 36, 27, 42, 180, 0, 37, 7, 21, 4, 104, 46, 42, 180, 0, 37, 7, 21, 4, 104, 6, 96, 46]
abbrev dktX6_goesOn_4 : List UInt8 := dkwX6_goesOn_4 ++ dktX6_goesOn_5
def dkwX6_goesOn_3 : List UInt8 := [29, 42, 180, 0, 112, 162, 0, 60, 42, 180, 0, 55, 29, 46, 54, 4, 42, 180, 0, 52, 29, 46, 2]
abbrev dktX6_goesOn_3 : List UInt8 := dkwX6_goesOn_3 ++ dktX6_goesOn_4
def dkwX6_goesOn_2 : List UInt8 := [46, 2, 159, 0, 14, 42, 29, 42, 180, 0, 52, 29, 46, 182, 0, 183, 132, 3, 1, 167, 255, 224, 3, 62]
abbrev dktX6_goesOn_2 : List UInt8 := dkwX6_goesOn_2 ++ dktX6_goesOn_3
def dkwX6_goesOn_1 : List UInt8 := [182, 0, 179, 132, 3, 1, 167, 255, 228, 3, 62, 29, 42, 180, 0, 112, 162, 0, 30, 42, 180, 0, 52, 29]
abbrev dktX6_goesOn_1 : List UInt8 := dkwX6_goesOn_1 ++ dktX6_goesOn_2
def dkwX6_goesOn_0 : List UInt8 := [3, 62, 29, 42, 180, 0, 157, 162, 0, 26, 42, 180, 0, 37, 7, 29, 104, 46, 27, 160, 0, 8, 42, 29]
abbrev dktX6_goesOn_0 : List UInt8 := dkwX6_goesOn_0 ++ dktX6_goesOn_1
theorem dksX6_goesOn_0 : cX6_goesOn.data.toList.drop 0 = dktX6_goesOn_0 := by decide +kernel
theorem dksX6_goesOn_1 : cX6_goesOn.data.toList.drop 24 = dktX6_goesOn_1 := dk_seg dksX6_goesOn_0 24 rfl rfl
theorem dksX6_goesOn_2 : cX6_goesOn.data.toList.drop 48 = dktX6_goesOn_2 := dk_seg dksX6_goesOn_1 24 rfl rfl
theorem dksX6_goesOn_3 : cX6_goesOn.data.toList.drop 72 = dktX6_goesOn_3 := dk_seg dksX6_goesOn_2 24 rfl rfl
theorem dksX6_goesOn_4 : cX6_goesOn.data.toList.drop 95 = dktX6_goesOn_4 := dk_seg dksX6_goesOn_3 23 rfl rfl
theorem dksX6_goesOn_5 : cX6_goesOn.data.toList.drop 119 = dktX6_goesOn_5 := dk_seg dksX6_goesOn_4 24 rfl rfl
theorem dX6_goesOn_0 : decode cX6_goesOn 0 = .ok (.iconst 0, 1) := dk_3 (dk_at dksX6_goesOn_0 0 rfl rfl)
theorem dX6_goesOn_1 : decode cX6_goesOn 1 = .ok (.istore_n 3, 1) := dk_62 (dk_at dksX6_goesOn_0 1 rfl rfl)
theorem dX6_goesOn_2 : decode cX6_goesOn 2 = .ok (.iload_n 3, 1) := dk_29 (dk_at dksX6_goesOn_0 2 rfl rfl)
theorem dX6_goesOn_3 : decode cX6_goesOn 3 = .ok (.aload_n 0, 1) := dk_42 (dk_at dksX6_goesOn_0 3 rfl rfl)
theorem dX6_goesOn_4 : decode cX6_goesOn 4 = .ok (.getfield 157, 3) := dk_180 0 157 (dk_at dksX6_goesOn_0 4 rfl rfl)
theorem dX6_goesOn_7 : decode cX6_goesOn 7 = .ok (.if_icmp .ge 26, 3) := dk_162 0 26 (dk_at dksX6_goesOn_0 7 rfl rfl)
theorem dX6_goesOn_10 : decode cX6_goesOn 10 = .ok (.aload_n 0, 1) := dk_42 (dk_at dksX6_goesOn_0 10 rfl rfl)
theorem dX6_goesOn_11 : decode cX6_goesOn 11 = .ok (.getfield 37, 3) := dk_180 0 37 (dk_at dksX6_goesOn_0 11 rfl rfl)
theorem dX6_goesOn_14 : decode cX6_goesOn 14 = .ok (.iconst 4, 1) := dk_7 (dk_at dksX6_goesOn_0 14 rfl rfl)
theorem dX6_goesOn_15 : decode cX6_goesOn 15 = .ok (.iload_n 3, 1) := dk_29 (dk_at dksX6_goesOn_0 15 rfl rfl)
theorem dX6_goesOn_16 : decode cX6_goesOn 16 = .ok (.imul, 1) := dk_104 (dk_at dksX6_goesOn_0 16 rfl rfl)
theorem dX6_goesOn_17 : decode cX6_goesOn 17 = .ok (.iaload, 1) := dk_46 (dk_at dksX6_goesOn_0 17 rfl rfl)
theorem dX6_goesOn_18 : decode cX6_goesOn 18 = .ok (.iload_n 1, 1) := dk_27 (dk_at dksX6_goesOn_0 18 rfl rfl)
theorem dX6_goesOn_19 : decode cX6_goesOn 19 = .ok (.if_icmp .ne 8, 3) := dk_160 0 8 (dk_at dksX6_goesOn_0 19 rfl rfl)
theorem dX6_goesOn_22 : decode cX6_goesOn 22 = .ok (.aload_n 0, 1) := dk_42 (dk_at dksX6_goesOn_0 22 rfl rfl)
theorem dX6_goesOn_23 : decode cX6_goesOn 23 = .ok (.iload_n 3, 1) := dk_29 (dk_at dksX6_goesOn_0 23 rfl rfl)
theorem dX6_goesOn_24 : decode cX6_goesOn 24 = .ok (.invokevirtual 179, 3) := dk_182 0 179 (dk_at dksX6_goesOn_1 0 rfl rfl)
theorem dX6_goesOn_27 : decode cX6_goesOn 27 = .ok (.iinc 3 1, 3) := dk_132 3 1 (dk_at dksX6_goesOn_1 3 rfl rfl)
theorem dX6_goesOn_30 : decode cX6_goesOn 30 = .ok (.goto (-28), 3) := dk_167 255 228 (dk_at dksX6_goesOn_1 6 rfl rfl)
theorem dX6_goesOn_33 : decode cX6_goesOn 33 = .ok (.iconst 0, 1) := dk_3 (dk_at dksX6_goesOn_1 9 rfl rfl)
theorem dX6_goesOn_34 : decode cX6_goesOn 34 = .ok (.istore_n 3, 1) := dk_62 (dk_at dksX6_goesOn_1 10 rfl rfl)
theorem dX6_goesOn_35 : decode cX6_goesOn 35 = .ok (.iload_n 3, 1) := dk_29 (dk_at dksX6_goesOn_1 11 rfl rfl)
theorem dX6_goesOn_36 : decode cX6_goesOn 36 = .ok (.aload_n 0, 1) := dk_42 (dk_at dksX6_goesOn_1 12 rfl rfl)
theorem dX6_goesOn_37 : decode cX6_goesOn 37 = .ok (.getfield 112, 3) := dk_180 0 112 (dk_at dksX6_goesOn_1 13 rfl rfl)
theorem dX6_goesOn_40 : decode cX6_goesOn 40 = .ok (.if_icmp .ge 30, 3) := dk_162 0 30 (dk_at dksX6_goesOn_1 16 rfl rfl)
theorem dX6_goesOn_43 : decode cX6_goesOn 43 = .ok (.aload_n 0, 1) := dk_42 (dk_at dksX6_goesOn_1 19 rfl rfl)
theorem dX6_goesOn_44 : decode cX6_goesOn 44 = .ok (.getfield 52, 3) := dk_180 0 52 (dk_at dksX6_goesOn_1 20 rfl rfl)
theorem dX6_goesOn_47 : decode cX6_goesOn 47 = .ok (.iload_n 3, 1) := dk_29 (dk_at dksX6_goesOn_1 23 rfl rfl)
theorem dX6_goesOn_48 : decode cX6_goesOn 48 = .ok (.iaload, 1) := dk_46 (dk_at dksX6_goesOn_2 0 rfl rfl)
theorem dX6_goesOn_49 : decode cX6_goesOn 49 = .ok (.iconst (-1), 1) := dk_2 (dk_at dksX6_goesOn_2 1 rfl rfl)
theorem dX6_goesOn_50 : decode cX6_goesOn 50 = .ok (.if_icmp .eq 14, 3) := dk_159 0 14 (dk_at dksX6_goesOn_2 2 rfl rfl)
theorem dX6_goesOn_53 : decode cX6_goesOn 53 = .ok (.aload_n 0, 1) := dk_42 (dk_at dksX6_goesOn_2 5 rfl rfl)
theorem dX6_goesOn_54 : decode cX6_goesOn 54 = .ok (.iload_n 3, 1) := dk_29 (dk_at dksX6_goesOn_2 6 rfl rfl)
theorem dX6_goesOn_55 : decode cX6_goesOn 55 = .ok (.aload_n 0, 1) := dk_42 (dk_at dksX6_goesOn_2 7 rfl rfl)
theorem dX6_goesOn_56 : decode cX6_goesOn 56 = .ok (.getfield 52, 3) := dk_180 0 52 (dk_at dksX6_goesOn_2 8 rfl rfl)
theorem dX6_goesOn_59 : decode cX6_goesOn 59 = .ok (.iload_n 3, 1) := dk_29 (dk_at dksX6_goesOn_2 11 rfl rfl)
theorem dX6_goesOn_60 : decode cX6_goesOn 60 = .ok (.iaload, 1) := dk_46 (dk_at dksX6_goesOn_2 12 rfl rfl)
theorem dX6_goesOn_61 : decode cX6_goesOn 61 = .ok (.invokevirtual 183, 3) := dk_182 0 183 (dk_at dksX6_goesOn_2 13 rfl rfl)
theorem dX6_goesOn_64 : decode cX6_goesOn 64 = .ok (.iinc 3 1, 3) := dk_132 3 1 (dk_at dksX6_goesOn_2 16 rfl rfl)
theorem dX6_goesOn_67 : decode cX6_goesOn 67 = .ok (.goto (-32), 3) := dk_167 255 224 (dk_at dksX6_goesOn_2 19 rfl rfl)
theorem dX6_goesOn_70 : decode cX6_goesOn 70 = .ok (.iconst 0, 1) := dk_3 (dk_at dksX6_goesOn_2 22 rfl rfl)
theorem dX6_goesOn_71 : decode cX6_goesOn 71 = .ok (.istore_n 3, 1) := dk_62 (dk_at dksX6_goesOn_2 23 rfl rfl)
theorem dX6_goesOn_72 : decode cX6_goesOn 72 = .ok (.iload_n 3, 1) := dk_29 (dk_at dksX6_goesOn_3 0 rfl rfl)
theorem dX6_goesOn_73 : decode cX6_goesOn 73 = .ok (.aload_n 0, 1) := dk_42 (dk_at dksX6_goesOn_3 1 rfl rfl)
theorem dX6_goesOn_74 : decode cX6_goesOn 74 = .ok (.getfield 112, 3) := dk_180 0 112 (dk_at dksX6_goesOn_3 2 rfl rfl)
theorem dX6_goesOn_77 : decode cX6_goesOn 77 = .ok (.if_icmp .ge 60, 3) := dk_162 0 60 (dk_at dksX6_goesOn_3 5 rfl rfl)
theorem dX6_goesOn_80 : decode cX6_goesOn 80 = .ok (.aload_n 0, 1) := dk_42 (dk_at dksX6_goesOn_3 8 rfl rfl)
theorem dX6_goesOn_81 : decode cX6_goesOn 81 = .ok (.getfield 55, 3) := dk_180 0 55 (dk_at dksX6_goesOn_3 9 rfl rfl)
theorem dX6_goesOn_84 : decode cX6_goesOn 84 = .ok (.iload_n 3, 1) := dk_29 (dk_at dksX6_goesOn_3 12 rfl rfl)
theorem dX6_goesOn_85 : decode cX6_goesOn 85 = .ok (.iaload, 1) := dk_46 (dk_at dksX6_goesOn_3 13 rfl rfl)
theorem dX6_goesOn_86 : decode cX6_goesOn 86 = .ok (.istore 4, 2) := dk_54 4 (dk_at dksX6_goesOn_3 14 rfl rfl)
theorem dX6_goesOn_88 : decode cX6_goesOn 88 = .ok (.aload_n 0, 1) := dk_42 (dk_at dksX6_goesOn_3 16 rfl rfl)
theorem dX6_goesOn_89 : decode cX6_goesOn 89 = .ok (.getfield 52, 3) := dk_180 0 52 (dk_at dksX6_goesOn_3 17 rfl rfl)
theorem dX6_goesOn_92 : decode cX6_goesOn 92 = .ok (.iload_n 3, 1) := dk_29 (dk_at dksX6_goesOn_3 20 rfl rfl)
theorem dX6_goesOn_93 : decode cX6_goesOn 93 = .ok (.iaload, 1) := dk_46 (dk_at dksX6_goesOn_3 21 rfl rfl)
theorem dX6_goesOn_94 : decode cX6_goesOn 94 = .ok (.iconst (-1), 1) := dk_2 (dk_at dksX6_goesOn_3 22 rfl rfl)
theorem dX6_goesOn_95 : decode cX6_goesOn 95 = .ok (.if_icmp .eq 36, 3) := dk_159 0 36 (dk_at dksX6_goesOn_4 0 rfl rfl)
theorem dX6_goesOn_98 : decode cX6_goesOn 98 = .ok (.iload_n 1, 1) := dk_27 (dk_at dksX6_goesOn_4 3 rfl rfl)
theorem dX6_goesOn_99 : decode cX6_goesOn 99 = .ok (.aload_n 0, 1) := dk_42 (dk_at dksX6_goesOn_4 4 rfl rfl)
theorem dX6_goesOn_100 : decode cX6_goesOn 100 = .ok (.getfield 37, 3) := dk_180 0 37 (dk_at dksX6_goesOn_4 5 rfl rfl)
theorem dX6_goesOn_103 : decode cX6_goesOn 103 = .ok (.iconst 4, 1) := dk_7 (dk_at dksX6_goesOn_4 8 rfl rfl)
theorem dX6_goesOn_104 : decode cX6_goesOn 104 = .ok (.iload 4, 2) := dk_21 4 (dk_at dksX6_goesOn_4 9 rfl rfl)
theorem dX6_goesOn_106 : decode cX6_goesOn 106 = .ok (.imul, 1) := dk_104 (dk_at dksX6_goesOn_4 11 rfl rfl)
theorem dX6_goesOn_107 : decode cX6_goesOn 107 = .ok (.iaload, 1) := dk_46 (dk_at dksX6_goesOn_4 12 rfl rfl)
theorem dX6_goesOn_108 : decode cX6_goesOn 108 = .ok (.aload_n 0, 1) := dk_42 (dk_at dksX6_goesOn_4 13 rfl rfl)
theorem dX6_goesOn_109 : decode cX6_goesOn 109 = .ok (.getfield 37, 3) := dk_180 0 37 (dk_at dksX6_goesOn_4 14 rfl rfl)
theorem dX6_goesOn_112 : decode cX6_goesOn 112 = .ok (.iconst 4, 1) := dk_7 (dk_at dksX6_goesOn_4 17 rfl rfl)
theorem dX6_goesOn_113 : decode cX6_goesOn 113 = .ok (.iload 4, 2) := dk_21 4 (dk_at dksX6_goesOn_4 18 rfl rfl)
theorem dX6_goesOn_115 : decode cX6_goesOn 115 = .ok (.imul, 1) := dk_104 (dk_at dksX6_goesOn_4 20 rfl rfl)
theorem dX6_goesOn_116 : decode cX6_goesOn 116 = .ok (.iconst 3, 1) := dk_6 (dk_at dksX6_goesOn_4 21 rfl rfl)
theorem dX6_goesOn_117 : decode cX6_goesOn 117 = .ok (.iadd, 1) := dk_96 (dk_at dksX6_goesOn_4 22 rfl rfl)
theorem dX6_goesOn_118 : decode cX6_goesOn 118 = .ok (.iaload, 1) := dk_46 (dk_at dksX6_goesOn_4 23 rfl rfl)
theorem dX6_goesOn_119 : decode cX6_goesOn 119 = .ok (.iadd, 1) := dk_96 (dk_at dksX6_goesOn_5 0 rfl rfl)
theorem dX6_goesOn_120 : decode cX6_goesOn 120 = .ok (.iconst 1, 1) := dk_4 (dk_at dksX6_goesOn_5 1 rfl rfl)
theorem dX6_goesOn_121 : decode cX6_goesOn 121 = .ok (.isub, 1) := dk_100 (dk_at dksX6_goesOn_5 2 rfl rfl)
theorem dX6_goesOn_122 : decode cX6_goesOn 122 = .ok (.if_icmp .ne 9, 3) := dk_160 0 9 (dk_at dksX6_goesOn_5 3 rfl rfl)
theorem dX6_goesOn_125 : decode cX6_goesOn 125 = .ok (.aload_n 0, 1) := dk_42 (dk_at dksX6_goesOn_5 6 rfl rfl)
theorem dX6_goesOn_126 : decode cX6_goesOn 126 = .ok (.iload_n 3, 1) := dk_29 (dk_at dksX6_goesOn_5 7 rfl rfl)
theorem dX6_goesOn_127 : decode cX6_goesOn 127 = .ok (.iload_n 2, 1) := dk_28 (dk_at dksX6_goesOn_5 8 rfl rfl)
theorem dX6_goesOn_128 : decode cX6_goesOn 128 = .ok (.invokevirtual 186, 3) := dk_182 0 186 (dk_at dksX6_goesOn_5 9 rfl rfl)
theorem dX6_goesOn_131 : decode cX6_goesOn 131 = .ok (.iinc 3 1, 3) := dk_132 3 1 (dk_at dksX6_goesOn_5 12 rfl rfl)
theorem dX6_goesOn_134 : decode cX6_goesOn 134 = .ok (.goto (-62), 3) := dk_167 255 194 (dk_at dksX6_goesOn_5 15 rfl rfl)
theorem dX6_goesOn_137 : decode cX6_goesOn 137 = .ok (.return_, 1) := dk_177 (dk_at dksX6_goesOn_5 18 rfl rfl)
def dkwX6_lends_5 : List UInt8 := [180, 0, 49, 28, 42, 180, 0, 43, 28, 46, 79, 177]
abbrev dktX6_lends_5 : List UInt8 := dkwX6_lends_5 ++ []
def dkwX6_lends_4 : List UInt8 := [28, 104, 29, 96, 42, 180, 0, 40, 16, 40, 28, 104, 29, 96, 46, 79, 132, 3, 1, 167, 255, 221, 42]
abbrev dktX6_lends_4 : List UInt8 := dkwX6_lends_4 ++ dktX6_lends_5
def dkwX6_lends_3 : List UInt8 := [180, 0, 55, 28, 27, 79, 3, 62, 29, 42, 180, 0, 43, 28, 46, 162, 0, 31, 42, 180, 0, 46, 16, 40]
abbrev dktX6_lends_3 : List UInt8 := dkwX6_lends_3 ++ dktX6_lends_4
def dkwX6_lends_2 : List UInt8 := [180, 0, 58, 27, 4, 79, 42, 180, 0, 52, 28, 42, 180, 0, 37, 7, 27, 104, 5, 96, 46, 79, 42]
abbrev dktX6_lends_2 : List UInt8 := dkwX6_lends_2 ++ dktX6_lends_3
def dkwX6_lends_1 : List UInt8 := [7, 27, 104, 5, 96, 46, 182, 0, 147, 153, 0, 13, 42, 180, 0, 52, 28, 46, 2, 159, 0, 4, 177, 42]
abbrev dktX6_lends_1 : List UInt8 := dkwX6_lends_1 ++ dktX6_lends_2
def dkwX6_lends_0 : List UInt8 := [42, 180, 0, 37, 7, 27, 104, 4, 96, 46, 61, 42, 28, 182, 0, 140, 153, 0, 30, 42, 42, 180, 0, 37]
abbrev dktX6_lends_0 : List UInt8 := dkwX6_lends_0 ++ dktX6_lends_1
theorem dksX6_lends_0 : cX6_lends.data.toList.drop 0 = dktX6_lends_0 := by decide +kernel
theorem dksX6_lends_1 : cX6_lends.data.toList.drop 24 = dktX6_lends_1 := dk_seg dksX6_lends_0 24 rfl rfl
theorem dksX6_lends_2 : cX6_lends.data.toList.drop 48 = dktX6_lends_2 := dk_seg dksX6_lends_1 24 rfl rfl
theorem dksX6_lends_3 : cX6_lends.data.toList.drop 71 = dktX6_lends_3 := dk_seg dksX6_lends_2 23 rfl rfl
theorem dksX6_lends_4 : cX6_lends.data.toList.drop 95 = dktX6_lends_4 := dk_seg dksX6_lends_3 24 rfl rfl
theorem dksX6_lends_5 : cX6_lends.data.toList.drop 118 = dktX6_lends_5 := dk_seg dksX6_lends_4 23 rfl rfl
theorem dX6_lends_0 : decode cX6_lends 0 = .ok (.aload_n 0, 1) := dk_42 (dk_at dksX6_lends_0 0 rfl rfl)
theorem dX6_lends_1 : decode cX6_lends 1 = .ok (.getfield 37, 3) := dk_180 0 37 (dk_at dksX6_lends_0 1 rfl rfl)
theorem dX6_lends_4 : decode cX6_lends 4 = .ok (.iconst 4, 1) := dk_7 (dk_at dksX6_lends_0 4 rfl rfl)
theorem dX6_lends_5 : decode cX6_lends 5 = .ok (.iload_n 1, 1) := dk_27 (dk_at dksX6_lends_0 5 rfl rfl)
theorem dX6_lends_6 : decode cX6_lends 6 = .ok (.imul, 1) := dk_104 (dk_at dksX6_lends_0 6 rfl rfl)
theorem dX6_lends_7 : decode cX6_lends 7 = .ok (.iconst 1, 1) := dk_4 (dk_at dksX6_lends_0 7 rfl rfl)
theorem dX6_lends_8 : decode cX6_lends 8 = .ok (.iadd, 1) := dk_96 (dk_at dksX6_lends_0 8 rfl rfl)
theorem dX6_lends_9 : decode cX6_lends 9 = .ok (.iaload, 1) := dk_46 (dk_at dksX6_lends_0 9 rfl rfl)
theorem dX6_lends_10 : decode cX6_lends 10 = .ok (.istore_n 2, 1) := dk_61 (dk_at dksX6_lends_0 10 rfl rfl)
theorem dX6_lends_11 : decode cX6_lends 11 = .ok (.aload_n 0, 1) := dk_42 (dk_at dksX6_lends_0 11 rfl rfl)
theorem dX6_lends_12 : decode cX6_lends 12 = .ok (.iload_n 2, 1) := dk_28 (dk_at dksX6_lends_0 12 rfl rfl)
theorem dX6_lends_13 : decode cX6_lends 13 = .ok (.invokevirtual 140, 3) := dk_182 0 140 (dk_at dksX6_lends_0 13 rfl rfl)
theorem dX6_lends_16 : decode cX6_lends 16 = .ok (.ifCond .eq 30, 3) := dk_153 0 30 (dk_at dksX6_lends_0 16 rfl rfl)
theorem dX6_lends_19 : decode cX6_lends 19 = .ok (.aload_n 0, 1) := dk_42 (dk_at dksX6_lends_0 19 rfl rfl)
theorem dX6_lends_20 : decode cX6_lends 20 = .ok (.aload_n 0, 1) := dk_42 (dk_at dksX6_lends_0 20 rfl rfl)
theorem dX6_lends_21 : decode cX6_lends 21 = .ok (.getfield 37, 3) := dk_180 0 37 (dk_at dksX6_lends_0 21 rfl rfl)
theorem dX6_lends_24 : decode cX6_lends 24 = .ok (.iconst 4, 1) := dk_7 (dk_at dksX6_lends_1 0 rfl rfl)
theorem dX6_lends_25 : decode cX6_lends 25 = .ok (.iload_n 1, 1) := dk_27 (dk_at dksX6_lends_1 1 rfl rfl)
theorem dX6_lends_26 : decode cX6_lends 26 = .ok (.imul, 1) := dk_104 (dk_at dksX6_lends_1 2 rfl rfl)
theorem dX6_lends_27 : decode cX6_lends 27 = .ok (.iconst 2, 1) := dk_5 (dk_at dksX6_lends_1 3 rfl rfl)
theorem dX6_lends_28 : decode cX6_lends 28 = .ok (.iadd, 1) := dk_96 (dk_at dksX6_lends_1 4 rfl rfl)
theorem dX6_lends_29 : decode cX6_lends 29 = .ok (.iaload, 1) := dk_46 (dk_at dksX6_lends_1 5 rfl rfl)
theorem dX6_lends_30 : decode cX6_lends 30 = .ok (.invokevirtual 147, 3) := dk_182 0 147 (dk_at dksX6_lends_1 6 rfl rfl)
theorem dX6_lends_33 : decode cX6_lends 33 = .ok (.ifCond .eq 13, 3) := dk_153 0 13 (dk_at dksX6_lends_1 9 rfl rfl)
theorem dX6_lends_36 : decode cX6_lends 36 = .ok (.aload_n 0, 1) := dk_42 (dk_at dksX6_lends_1 12 rfl rfl)
theorem dX6_lends_37 : decode cX6_lends 37 = .ok (.getfield 52, 3) := dk_180 0 52 (dk_at dksX6_lends_1 13 rfl rfl)
theorem dX6_lends_40 : decode cX6_lends 40 = .ok (.iload_n 2, 1) := dk_28 (dk_at dksX6_lends_1 16 rfl rfl)
theorem dX6_lends_41 : decode cX6_lends 41 = .ok (.iaload, 1) := dk_46 (dk_at dksX6_lends_1 17 rfl rfl)
theorem dX6_lends_42 : decode cX6_lends 42 = .ok (.iconst (-1), 1) := dk_2 (dk_at dksX6_lends_1 18 rfl rfl)
theorem dX6_lends_43 : decode cX6_lends 43 = .ok (.if_icmp .eq 4, 3) := dk_159 0 4 (dk_at dksX6_lends_1 19 rfl rfl)
theorem dX6_lends_46 : decode cX6_lends 46 = .ok (.return_, 1) := dk_177 (dk_at dksX6_lends_1 22 rfl rfl)
theorem dX6_lends_47 : decode cX6_lends 47 = .ok (.aload_n 0, 1) := dk_42 (dk_at dksX6_lends_1 23 rfl rfl)
theorem dX6_lends_48 : decode cX6_lends 48 = .ok (.getfield 58, 3) := dk_180 0 58 (dk_at dksX6_lends_2 0 rfl rfl)
theorem dX6_lends_51 : decode cX6_lends 51 = .ok (.iload_n 1, 1) := dk_27 (dk_at dksX6_lends_2 3 rfl rfl)
theorem dX6_lends_52 : decode cX6_lends 52 = .ok (.iconst 1, 1) := dk_4 (dk_at dksX6_lends_2 4 rfl rfl)
theorem dX6_lends_53 : decode cX6_lends 53 = .ok (.iastore, 1) := dk_79 (dk_at dksX6_lends_2 5 rfl rfl)
theorem dX6_lends_54 : decode cX6_lends 54 = .ok (.aload_n 0, 1) := dk_42 (dk_at dksX6_lends_2 6 rfl rfl)
theorem dX6_lends_55 : decode cX6_lends 55 = .ok (.getfield 52, 3) := dk_180 0 52 (dk_at dksX6_lends_2 7 rfl rfl)
theorem dX6_lends_58 : decode cX6_lends 58 = .ok (.iload_n 2, 1) := dk_28 (dk_at dksX6_lends_2 10 rfl rfl)
theorem dX6_lends_59 : decode cX6_lends 59 = .ok (.aload_n 0, 1) := dk_42 (dk_at dksX6_lends_2 11 rfl rfl)
theorem dX6_lends_60 : decode cX6_lends 60 = .ok (.getfield 37, 3) := dk_180 0 37 (dk_at dksX6_lends_2 12 rfl rfl)
theorem dX6_lends_63 : decode cX6_lends 63 = .ok (.iconst 4, 1) := dk_7 (dk_at dksX6_lends_2 15 rfl rfl)
theorem dX6_lends_64 : decode cX6_lends 64 = .ok (.iload_n 1, 1) := dk_27 (dk_at dksX6_lends_2 16 rfl rfl)
theorem dX6_lends_65 : decode cX6_lends 65 = .ok (.imul, 1) := dk_104 (dk_at dksX6_lends_2 17 rfl rfl)
theorem dX6_lends_66 : decode cX6_lends 66 = .ok (.iconst 2, 1) := dk_5 (dk_at dksX6_lends_2 18 rfl rfl)
theorem dX6_lends_67 : decode cX6_lends 67 = .ok (.iadd, 1) := dk_96 (dk_at dksX6_lends_2 19 rfl rfl)
theorem dX6_lends_68 : decode cX6_lends 68 = .ok (.iaload, 1) := dk_46 (dk_at dksX6_lends_2 20 rfl rfl)
theorem dX6_lends_69 : decode cX6_lends 69 = .ok (.iastore, 1) := dk_79 (dk_at dksX6_lends_2 21 rfl rfl)
theorem dX6_lends_70 : decode cX6_lends 70 = .ok (.aload_n 0, 1) := dk_42 (dk_at dksX6_lends_2 22 rfl rfl)
theorem dX6_lends_71 : decode cX6_lends 71 = .ok (.getfield 55, 3) := dk_180 0 55 (dk_at dksX6_lends_3 0 rfl rfl)
theorem dX6_lends_74 : decode cX6_lends 74 = .ok (.iload_n 2, 1) := dk_28 (dk_at dksX6_lends_3 3 rfl rfl)
theorem dX6_lends_75 : decode cX6_lends 75 = .ok (.iload_n 1, 1) := dk_27 (dk_at dksX6_lends_3 4 rfl rfl)
theorem dX6_lends_76 : decode cX6_lends 76 = .ok (.iastore, 1) := dk_79 (dk_at dksX6_lends_3 5 rfl rfl)
theorem dX6_lends_77 : decode cX6_lends 77 = .ok (.iconst 0, 1) := dk_3 (dk_at dksX6_lends_3 6 rfl rfl)
theorem dX6_lends_78 : decode cX6_lends 78 = .ok (.istore_n 3, 1) := dk_62 (dk_at dksX6_lends_3 7 rfl rfl)
theorem dX6_lends_79 : decode cX6_lends 79 = .ok (.iload_n 3, 1) := dk_29 (dk_at dksX6_lends_3 8 rfl rfl)
theorem dX6_lends_80 : decode cX6_lends 80 = .ok (.aload_n 0, 1) := dk_42 (dk_at dksX6_lends_3 9 rfl rfl)
theorem dX6_lends_81 : decode cX6_lends 81 = .ok (.getfield 43, 3) := dk_180 0 43 (dk_at dksX6_lends_3 10 rfl rfl)
theorem dX6_lends_84 : decode cX6_lends 84 = .ok (.iload_n 2, 1) := dk_28 (dk_at dksX6_lends_3 13 rfl rfl)
theorem dX6_lends_85 : decode cX6_lends 85 = .ok (.iaload, 1) := dk_46 (dk_at dksX6_lends_3 14 rfl rfl)
theorem dX6_lends_86 : decode cX6_lends 86 = .ok (.if_icmp .ge 31, 3) := dk_162 0 31 (dk_at dksX6_lends_3 15 rfl rfl)
theorem dX6_lends_89 : decode cX6_lends 89 = .ok (.aload_n 0, 1) := dk_42 (dk_at dksX6_lends_3 18 rfl rfl)
theorem dX6_lends_90 : decode cX6_lends 90 = .ok (.getfield 46, 3) := dk_180 0 46 (dk_at dksX6_lends_3 19 rfl rfl)
theorem dX6_lends_93 : decode cX6_lends 93 = .ok (.bipush 40, 2) := dk_16 40 (dk_at dksX6_lends_3 22 rfl rfl)
theorem dX6_lends_95 : decode cX6_lends 95 = .ok (.iload_n 2, 1) := dk_28 (dk_at dksX6_lends_4 0 rfl rfl)
theorem dX6_lends_96 : decode cX6_lends 96 = .ok (.imul, 1) := dk_104 (dk_at dksX6_lends_4 1 rfl rfl)
theorem dX6_lends_97 : decode cX6_lends 97 = .ok (.iload_n 3, 1) := dk_29 (dk_at dksX6_lends_4 2 rfl rfl)
theorem dX6_lends_98 : decode cX6_lends 98 = .ok (.iadd, 1) := dk_96 (dk_at dksX6_lends_4 3 rfl rfl)
theorem dX6_lends_99 : decode cX6_lends 99 = .ok (.aload_n 0, 1) := dk_42 (dk_at dksX6_lends_4 4 rfl rfl)
theorem dX6_lends_100 : decode cX6_lends 100 = .ok (.getfield 40, 3) := dk_180 0 40 (dk_at dksX6_lends_4 5 rfl rfl)
theorem dX6_lends_103 : decode cX6_lends 103 = .ok (.bipush 40, 2) := dk_16 40 (dk_at dksX6_lends_4 8 rfl rfl)
theorem dX6_lends_105 : decode cX6_lends 105 = .ok (.iload_n 2, 1) := dk_28 (dk_at dksX6_lends_4 10 rfl rfl)
theorem dX6_lends_106 : decode cX6_lends 106 = .ok (.imul, 1) := dk_104 (dk_at dksX6_lends_4 11 rfl rfl)
theorem dX6_lends_107 : decode cX6_lends 107 = .ok (.iload_n 3, 1) := dk_29 (dk_at dksX6_lends_4 12 rfl rfl)
theorem dX6_lends_108 : decode cX6_lends 108 = .ok (.iadd, 1) := dk_96 (dk_at dksX6_lends_4 13 rfl rfl)
theorem dX6_lends_109 : decode cX6_lends 109 = .ok (.iaload, 1) := dk_46 (dk_at dksX6_lends_4 14 rfl rfl)
theorem dX6_lends_110 : decode cX6_lends 110 = .ok (.iastore, 1) := dk_79 (dk_at dksX6_lends_4 15 rfl rfl)
theorem dX6_lends_111 : decode cX6_lends 111 = .ok (.iinc 3 1, 3) := dk_132 3 1 (dk_at dksX6_lends_4 16 rfl rfl)
theorem dX6_lends_114 : decode cX6_lends 114 = .ok (.goto (-35), 3) := dk_167 255 221 (dk_at dksX6_lends_4 19 rfl rfl)
theorem dX6_lends_117 : decode cX6_lends 117 = .ok (.aload_n 0, 1) := dk_42 (dk_at dksX6_lends_4 22 rfl rfl)
theorem dX6_lends_118 : decode cX6_lends 118 = .ok (.getfield 49, 3) := dk_180 0 49 (dk_at dksX6_lends_5 0 rfl rfl)
theorem dX6_lends_121 : decode cX6_lends 121 = .ok (.iload_n 2, 1) := dk_28 (dk_at dksX6_lends_5 3 rfl rfl)
theorem dX6_lends_122 : decode cX6_lends 122 = .ok (.aload_n 0, 1) := dk_42 (dk_at dksX6_lends_5 4 rfl rfl)
theorem dX6_lends_123 : decode cX6_lends 123 = .ok (.getfield 43, 3) := dk_180 0 43 (dk_at dksX6_lends_5 5 rfl rfl)
theorem dX6_lends_126 : decode cX6_lends 126 = .ok (.iload_n 2, 1) := dk_28 (dk_at dksX6_lends_5 8 rfl rfl)
theorem dX6_lends_127 : decode cX6_lends 127 = .ok (.iaload, 1) := dk_46 (dk_at dksX6_lends_5 9 rfl rfl)
theorem dX6_lends_128 : decode cX6_lends 128 = .ok (.iastore, 1) := dk_79 (dk_at dksX6_lends_5 10 rfl rfl)
theorem dX6_lends_129 : decode cX6_lends 129 = .ok (.return_, 1) := dk_177 (dk_at dksX6_lends_5 11 rfl rfl)
def dkwX6_hummed_8 : List UInt8 := [132, 7, 1, 167, 255, 223, 177]
abbrev dktX6_hummed_8 : List UInt8 := dkwX6_hummed_8 ++ []
def dkwX6_hummed_7 : List UInt8 := [27, 46, 162, 0, 28, 42, 180, 0, 40, 16, 40, 27, 104, 21, 7, 96, 42, 180, 0, 67, 21, 7, 46, 79]
abbrev dktX6_hummed_7 : List UInt8 := dkwX6_hummed_7 ++ dktX6_hummed_8
def dkwX6_hummed_6 : List UInt8 := [167, 255, 155, 42, 180, 0, 43, 27, 29, 16, 40, 184, 0, 165, 79, 3, 54, 7, 21, 7, 42, 180, 0, 43]
abbrev dktX6_hummed_6 : List UInt8 := dkwX6_hummed_6 ++ dktX6_hummed_7
def dkwX6_hummed_5 : List UInt8 := [153, 0, 19, 21, 5, 154, 0, 14, 42, 180, 0, 67, 29, 21, 6, 79, 132, 3, 1, 132, 7, 1]
abbrev dktX6_hummed_5 : List UInt8 := dkwX6_hummed_5 ++ dktX6_hummed_6
def dkwX6_hummed_4 : List UInt8 := [21, 9, 153, 0, 14, 21, 5, 5, 160, 0, 8, 21, 6, 167, 0, 5, 21, 8, 79, 132, 3, 1, 21, 9]
abbrev dktX6_hummed_4 : List UInt8 := dkwX6_hummed_4 ++ dktX6_hummed_5
def dkwX6_hummed_3 : List UInt8 := [4, 167, 0, 4, 3, 54, 9, 21, 9, 153, 0, 9, 21, 5, 4, 159, 0, 30, 42, 180, 0, 67, 29]
abbrev dktX6_hummed_3 : List UInt8 := dkwX6_hummed_3 ++ dktX6_hummed_4
def dkwX6_hummed_2 : List UInt8 := [162, 0, 96, 42, 180, 0, 40, 16, 40, 27, 104, 21, 7, 96, 46, 54, 8, 21, 8, 21, 4, 160, 0, 7]
abbrev dktX6_hummed_2 : List UInt8 := dkwX6_hummed_2 ++ dktX6_hummed_3
def dkwX6_hummed_1 : List UInt8 := [42, 180, 0, 34, 6, 28, 104, 5, 96, 46, 54, 6, 3, 54, 7, 21, 7, 42, 180, 0, 43, 27, 46]
abbrev dktX6_hummed_1 : List UInt8 := dkwX6_hummed_1 ++ dktX6_hummed_2
def dkwX6_hummed_0 : List UInt8 := [3, 62, 42, 180, 0, 34, 6, 28, 104, 46, 54, 4, 42, 180, 0, 34, 6, 28, 104, 4, 96, 46, 54, 5]
abbrev dktX6_hummed_0 : List UInt8 := dkwX6_hummed_0 ++ dktX6_hummed_1
theorem dksX6_hummed_0 : cX6_hummed.data.toList.drop 0 = dktX6_hummed_0 := by decide +kernel
theorem dksX6_hummed_1 : cX6_hummed.data.toList.drop 24 = dktX6_hummed_1 := dk_seg dksX6_hummed_0 24 rfl rfl
theorem dksX6_hummed_2 : cX6_hummed.data.toList.drop 47 = dktX6_hummed_2 := dk_seg dksX6_hummed_1 23 rfl rfl
theorem dksX6_hummed_3 : cX6_hummed.data.toList.drop 71 = dktX6_hummed_3 := dk_seg dksX6_hummed_2 24 rfl rfl
theorem dksX6_hummed_4 : cX6_hummed.data.toList.drop 94 = dktX6_hummed_4 := dk_seg dksX6_hummed_3 23 rfl rfl
theorem dksX6_hummed_5 : cX6_hummed.data.toList.drop 118 = dktX6_hummed_5 := dk_seg dksX6_hummed_4 24 rfl rfl
theorem dksX6_hummed_6 : cX6_hummed.data.toList.drop 140 = dktX6_hummed_6 := dk_seg dksX6_hummed_5 22 rfl rfl
theorem dksX6_hummed_7 : cX6_hummed.data.toList.drop 164 = dktX6_hummed_7 := dk_seg dksX6_hummed_6 24 rfl rfl
theorem dksX6_hummed_8 : cX6_hummed.data.toList.drop 188 = dktX6_hummed_8 := dk_seg dksX6_hummed_7 24 rfl rfl
theorem dX6_hummed_0 : decode cX6_hummed 0 = .ok (.iconst 0, 1) := dk_3 (dk_at dksX6_hummed_0 0 rfl rfl)
theorem dX6_hummed_1 : decode cX6_hummed 1 = .ok (.istore_n 3, 1) := dk_62 (dk_at dksX6_hummed_0 1 rfl rfl)
theorem dX6_hummed_2 : decode cX6_hummed 2 = .ok (.aload_n 0, 1) := dk_42 (dk_at dksX6_hummed_0 2 rfl rfl)
theorem dX6_hummed_3 : decode cX6_hummed 3 = .ok (.getfield 34, 3) := dk_180 0 34 (dk_at dksX6_hummed_0 3 rfl rfl)
theorem dX6_hummed_6 : decode cX6_hummed 6 = .ok (.iconst 3, 1) := dk_6 (dk_at dksX6_hummed_0 6 rfl rfl)
theorem dX6_hummed_7 : decode cX6_hummed 7 = .ok (.iload_n 2, 1) := dk_28 (dk_at dksX6_hummed_0 7 rfl rfl)
theorem dX6_hummed_8 : decode cX6_hummed 8 = .ok (.imul, 1) := dk_104 (dk_at dksX6_hummed_0 8 rfl rfl)
theorem dX6_hummed_9 : decode cX6_hummed 9 = .ok (.iaload, 1) := dk_46 (dk_at dksX6_hummed_0 9 rfl rfl)
theorem dX6_hummed_10 : decode cX6_hummed 10 = .ok (.istore 4, 2) := dk_54 4 (dk_at dksX6_hummed_0 10 rfl rfl)
theorem dX6_hummed_12 : decode cX6_hummed 12 = .ok (.aload_n 0, 1) := dk_42 (dk_at dksX6_hummed_0 12 rfl rfl)
theorem dX6_hummed_13 : decode cX6_hummed 13 = .ok (.getfield 34, 3) := dk_180 0 34 (dk_at dksX6_hummed_0 13 rfl rfl)
theorem dX6_hummed_16 : decode cX6_hummed 16 = .ok (.iconst 3, 1) := dk_6 (dk_at dksX6_hummed_0 16 rfl rfl)
theorem dX6_hummed_17 : decode cX6_hummed 17 = .ok (.iload_n 2, 1) := dk_28 (dk_at dksX6_hummed_0 17 rfl rfl)
theorem dX6_hummed_18 : decode cX6_hummed 18 = .ok (.imul, 1) := dk_104 (dk_at dksX6_hummed_0 18 rfl rfl)
theorem dX6_hummed_19 : decode cX6_hummed 19 = .ok (.iconst 1, 1) := dk_4 (dk_at dksX6_hummed_0 19 rfl rfl)
theorem dX6_hummed_20 : decode cX6_hummed 20 = .ok (.iadd, 1) := dk_96 (dk_at dksX6_hummed_0 20 rfl rfl)
theorem dX6_hummed_21 : decode cX6_hummed 21 = .ok (.iaload, 1) := dk_46 (dk_at dksX6_hummed_0 21 rfl rfl)
theorem dX6_hummed_22 : decode cX6_hummed 22 = .ok (.istore 5, 2) := dk_54 5 (dk_at dksX6_hummed_0 22 rfl rfl)
theorem dX6_hummed_24 : decode cX6_hummed 24 = .ok (.aload_n 0, 1) := dk_42 (dk_at dksX6_hummed_1 0 rfl rfl)
theorem dX6_hummed_25 : decode cX6_hummed 25 = .ok (.getfield 34, 3) := dk_180 0 34 (dk_at dksX6_hummed_1 1 rfl rfl)
theorem dX6_hummed_28 : decode cX6_hummed 28 = .ok (.iconst 3, 1) := dk_6 (dk_at dksX6_hummed_1 4 rfl rfl)
theorem dX6_hummed_29 : decode cX6_hummed 29 = .ok (.iload_n 2, 1) := dk_28 (dk_at dksX6_hummed_1 5 rfl rfl)
theorem dX6_hummed_30 : decode cX6_hummed 30 = .ok (.imul, 1) := dk_104 (dk_at dksX6_hummed_1 6 rfl rfl)
theorem dX6_hummed_31 : decode cX6_hummed 31 = .ok (.iconst 2, 1) := dk_5 (dk_at dksX6_hummed_1 7 rfl rfl)
theorem dX6_hummed_32 : decode cX6_hummed 32 = .ok (.iadd, 1) := dk_96 (dk_at dksX6_hummed_1 8 rfl rfl)
theorem dX6_hummed_33 : decode cX6_hummed 33 = .ok (.iaload, 1) := dk_46 (dk_at dksX6_hummed_1 9 rfl rfl)
theorem dX6_hummed_34 : decode cX6_hummed 34 = .ok (.istore 6, 2) := dk_54 6 (dk_at dksX6_hummed_1 10 rfl rfl)
theorem dX6_hummed_36 : decode cX6_hummed 36 = .ok (.iconst 0, 1) := dk_3 (dk_at dksX6_hummed_1 12 rfl rfl)
theorem dX6_hummed_37 : decode cX6_hummed 37 = .ok (.istore 7, 2) := dk_54 7 (dk_at dksX6_hummed_1 13 rfl rfl)
theorem dX6_hummed_39 : decode cX6_hummed 39 = .ok (.iload 7, 2) := dk_21 7 (dk_at dksX6_hummed_1 15 rfl rfl)
theorem dX6_hummed_41 : decode cX6_hummed 41 = .ok (.aload_n 0, 1) := dk_42 (dk_at dksX6_hummed_1 17 rfl rfl)
theorem dX6_hummed_42 : decode cX6_hummed 42 = .ok (.getfield 43, 3) := dk_180 0 43 (dk_at dksX6_hummed_1 18 rfl rfl)
theorem dX6_hummed_45 : decode cX6_hummed 45 = .ok (.iload_n 1, 1) := dk_27 (dk_at dksX6_hummed_1 21 rfl rfl)
theorem dX6_hummed_46 : decode cX6_hummed 46 = .ok (.iaload, 1) := dk_46 (dk_at dksX6_hummed_1 22 rfl rfl)
theorem dX6_hummed_47 : decode cX6_hummed 47 = .ok (.if_icmp .ge 96, 3) := dk_162 0 96 (dk_at dksX6_hummed_2 0 rfl rfl)
theorem dX6_hummed_50 : decode cX6_hummed 50 = .ok (.aload_n 0, 1) := dk_42 (dk_at dksX6_hummed_2 3 rfl rfl)
theorem dX6_hummed_51 : decode cX6_hummed 51 = .ok (.getfield 40, 3) := dk_180 0 40 (dk_at dksX6_hummed_2 4 rfl rfl)
theorem dX6_hummed_54 : decode cX6_hummed 54 = .ok (.bipush 40, 2) := dk_16 40 (dk_at dksX6_hummed_2 7 rfl rfl)
theorem dX6_hummed_56 : decode cX6_hummed 56 = .ok (.iload_n 1, 1) := dk_27 (dk_at dksX6_hummed_2 9 rfl rfl)
theorem dX6_hummed_57 : decode cX6_hummed 57 = .ok (.imul, 1) := dk_104 (dk_at dksX6_hummed_2 10 rfl rfl)
theorem dX6_hummed_58 : decode cX6_hummed 58 = .ok (.iload 7, 2) := dk_21 7 (dk_at dksX6_hummed_2 11 rfl rfl)
theorem dX6_hummed_60 : decode cX6_hummed 60 = .ok (.iadd, 1) := dk_96 (dk_at dksX6_hummed_2 13 rfl rfl)
theorem dX6_hummed_61 : decode cX6_hummed 61 = .ok (.iaload, 1) := dk_46 (dk_at dksX6_hummed_2 14 rfl rfl)
theorem dX6_hummed_62 : decode cX6_hummed 62 = .ok (.istore 8, 2) := dk_54 8 (dk_at dksX6_hummed_2 15 rfl rfl)
theorem dX6_hummed_64 : decode cX6_hummed 64 = .ok (.iload 8, 2) := dk_21 8 (dk_at dksX6_hummed_2 17 rfl rfl)
theorem dX6_hummed_66 : decode cX6_hummed 66 = .ok (.iload 4, 2) := dk_21 4 (dk_at dksX6_hummed_2 19 rfl rfl)
theorem dX6_hummed_68 : decode cX6_hummed 68 = .ok (.if_icmp .ne 7, 3) := dk_160 0 7 (dk_at dksX6_hummed_2 21 rfl rfl)
theorem dX6_hummed_71 : decode cX6_hummed 71 = .ok (.iconst 1, 1) := dk_4 (dk_at dksX6_hummed_3 0 rfl rfl)
theorem dX6_hummed_72 : decode cX6_hummed 72 = .ok (.goto 4, 3) := dk_167 0 4 (dk_at dksX6_hummed_3 1 rfl rfl)
theorem dX6_hummed_75 : decode cX6_hummed 75 = .ok (.iconst 0, 1) := dk_3 (dk_at dksX6_hummed_3 4 rfl rfl)
theorem dX6_hummed_76 : decode cX6_hummed 76 = .ok (.istore 9, 2) := dk_54 9 (dk_at dksX6_hummed_3 5 rfl rfl)
theorem dX6_hummed_78 : decode cX6_hummed 78 = .ok (.iload 9, 2) := dk_21 9 (dk_at dksX6_hummed_3 7 rfl rfl)
theorem dX6_hummed_80 : decode cX6_hummed 80 = .ok (.ifCond .eq 9, 3) := dk_153 0 9 (dk_at dksX6_hummed_3 9 rfl rfl)
theorem dX6_hummed_83 : decode cX6_hummed 83 = .ok (.iload 5, 2) := dk_21 5 (dk_at dksX6_hummed_3 12 rfl rfl)
theorem dX6_hummed_85 : decode cX6_hummed 85 = .ok (.iconst 1, 1) := dk_4 (dk_at dksX6_hummed_3 14 rfl rfl)
theorem dX6_hummed_86 : decode cX6_hummed 86 = .ok (.if_icmp .eq 30, 3) := dk_159 0 30 (dk_at dksX6_hummed_3 15 rfl rfl)
theorem dX6_hummed_89 : decode cX6_hummed 89 = .ok (.aload_n 0, 1) := dk_42 (dk_at dksX6_hummed_3 18 rfl rfl)
theorem dX6_hummed_90 : decode cX6_hummed 90 = .ok (.getfield 67, 3) := dk_180 0 67 (dk_at dksX6_hummed_3 19 rfl rfl)
theorem dX6_hummed_93 : decode cX6_hummed 93 = .ok (.iload_n 3, 1) := dk_29 (dk_at dksX6_hummed_3 22 rfl rfl)
theorem dX6_hummed_94 : decode cX6_hummed 94 = .ok (.iload 9, 2) := dk_21 9 (dk_at dksX6_hummed_4 0 rfl rfl)
theorem dX6_hummed_96 : decode cX6_hummed 96 = .ok (.ifCond .eq 14, 3) := dk_153 0 14 (dk_at dksX6_hummed_4 2 rfl rfl)
theorem dX6_hummed_99 : decode cX6_hummed 99 = .ok (.iload 5, 2) := dk_21 5 (dk_at dksX6_hummed_4 5 rfl rfl)
theorem dX6_hummed_101 : decode cX6_hummed 101 = .ok (.iconst 2, 1) := dk_5 (dk_at dksX6_hummed_4 7 rfl rfl)
theorem dX6_hummed_102 : decode cX6_hummed 102 = .ok (.if_icmp .ne 8, 3) := dk_160 0 8 (dk_at dksX6_hummed_4 8 rfl rfl)
theorem dX6_hummed_105 : decode cX6_hummed 105 = .ok (.iload 6, 2) := dk_21 6 (dk_at dksX6_hummed_4 11 rfl rfl)
theorem dX6_hummed_107 : decode cX6_hummed 107 = .ok (.goto 5, 3) := dk_167 0 5 (dk_at dksX6_hummed_4 13 rfl rfl)
theorem dX6_hummed_110 : decode cX6_hummed 110 = .ok (.iload 8, 2) := dk_21 8 (dk_at dksX6_hummed_4 16 rfl rfl)
theorem dX6_hummed_112 : decode cX6_hummed 112 = .ok (.iastore, 1) := dk_79 (dk_at dksX6_hummed_4 18 rfl rfl)
theorem dX6_hummed_113 : decode cX6_hummed 113 = .ok (.iinc 3 1, 3) := dk_132 3 1 (dk_at dksX6_hummed_4 19 rfl rfl)
theorem dX6_hummed_116 : decode cX6_hummed 116 = .ok (.iload 9, 2) := dk_21 9 (dk_at dksX6_hummed_4 22 rfl rfl)
theorem dX6_hummed_118 : decode cX6_hummed 118 = .ok (.ifCond .eq 19, 3) := dk_153 0 19 (dk_at dksX6_hummed_5 0 rfl rfl)
theorem dX6_hummed_121 : decode cX6_hummed 121 = .ok (.iload 5, 2) := dk_21 5 (dk_at dksX6_hummed_5 3 rfl rfl)
theorem dX6_hummed_123 : decode cX6_hummed 123 = .ok (.ifCond .ne 14, 3) := dk_154 0 14 (dk_at dksX6_hummed_5 5 rfl rfl)
theorem dX6_hummed_126 : decode cX6_hummed 126 = .ok (.aload_n 0, 1) := dk_42 (dk_at dksX6_hummed_5 8 rfl rfl)
theorem dX6_hummed_127 : decode cX6_hummed 127 = .ok (.getfield 67, 3) := dk_180 0 67 (dk_at dksX6_hummed_5 9 rfl rfl)
theorem dX6_hummed_130 : decode cX6_hummed 130 = .ok (.iload_n 3, 1) := dk_29 (dk_at dksX6_hummed_5 12 rfl rfl)
theorem dX6_hummed_131 : decode cX6_hummed 131 = .ok (.iload 6, 2) := dk_21 6 (dk_at dksX6_hummed_5 13 rfl rfl)
theorem dX6_hummed_133 : decode cX6_hummed 133 = .ok (.iastore, 1) := dk_79 (dk_at dksX6_hummed_5 15 rfl rfl)
theorem dX6_hummed_134 : decode cX6_hummed 134 = .ok (.iinc 3 1, 3) := dk_132 3 1 (dk_at dksX6_hummed_5 16 rfl rfl)
theorem dX6_hummed_137 : decode cX6_hummed 137 = .ok (.iinc 7 1, 3) := dk_132 7 1 (dk_at dksX6_hummed_5 19 rfl rfl)
theorem dX6_hummed_140 : decode cX6_hummed 140 = .ok (.goto (-101), 3) := dk_167 255 155 (dk_at dksX6_hummed_6 0 rfl rfl)
theorem dX6_hummed_143 : decode cX6_hummed 143 = .ok (.aload_n 0, 1) := dk_42 (dk_at dksX6_hummed_6 3 rfl rfl)
theorem dX6_hummed_144 : decode cX6_hummed 144 = .ok (.getfield 43, 3) := dk_180 0 43 (dk_at dksX6_hummed_6 4 rfl rfl)
theorem dX6_hummed_147 : decode cX6_hummed 147 = .ok (.iload_n 1, 1) := dk_27 (dk_at dksX6_hummed_6 7 rfl rfl)
theorem dX6_hummed_148 : decode cX6_hummed 148 = .ok (.iload_n 3, 1) := dk_29 (dk_at dksX6_hummed_6 8 rfl rfl)
theorem dX6_hummed_149 : decode cX6_hummed 149 = .ok (.bipush 40, 2) := dk_16 40 (dk_at dksX6_hummed_6 9 rfl rfl)
theorem dX6_hummed_151 : decode cX6_hummed 151 = .ok (.invokestatic 165, 3) := dk_184 0 165 (dk_at dksX6_hummed_6 11 rfl rfl)
theorem dX6_hummed_154 : decode cX6_hummed 154 = .ok (.iastore, 1) := dk_79 (dk_at dksX6_hummed_6 14 rfl rfl)
theorem dX6_hummed_155 : decode cX6_hummed 155 = .ok (.iconst 0, 1) := dk_3 (dk_at dksX6_hummed_6 15 rfl rfl)
theorem dX6_hummed_156 : decode cX6_hummed 156 = .ok (.istore 7, 2) := dk_54 7 (dk_at dksX6_hummed_6 16 rfl rfl)
theorem dX6_hummed_158 : decode cX6_hummed 158 = .ok (.iload 7, 2) := dk_21 7 (dk_at dksX6_hummed_6 18 rfl rfl)
theorem dX6_hummed_160 : decode cX6_hummed 160 = .ok (.aload_n 0, 1) := dk_42 (dk_at dksX6_hummed_6 20 rfl rfl)
theorem dX6_hummed_161 : decode cX6_hummed 161 = .ok (.getfield 43, 3) := dk_180 0 43 (dk_at dksX6_hummed_6 21 rfl rfl)
theorem dX6_hummed_164 : decode cX6_hummed 164 = .ok (.iload_n 1, 1) := dk_27 (dk_at dksX6_hummed_7 0 rfl rfl)
theorem dX6_hummed_165 : decode cX6_hummed 165 = .ok (.iaload, 1) := dk_46 (dk_at dksX6_hummed_7 1 rfl rfl)
theorem dX6_hummed_166 : decode cX6_hummed 166 = .ok (.if_icmp .ge 28, 3) := dk_162 0 28 (dk_at dksX6_hummed_7 2 rfl rfl)
theorem dX6_hummed_169 : decode cX6_hummed 169 = .ok (.aload_n 0, 1) := dk_42 (dk_at dksX6_hummed_7 5 rfl rfl)
theorem dX6_hummed_170 : decode cX6_hummed 170 = .ok (.getfield 40, 3) := dk_180 0 40 (dk_at dksX6_hummed_7 6 rfl rfl)
theorem dX6_hummed_173 : decode cX6_hummed 173 = .ok (.bipush 40, 2) := dk_16 40 (dk_at dksX6_hummed_7 9 rfl rfl)
theorem dX6_hummed_175 : decode cX6_hummed 175 = .ok (.iload_n 1, 1) := dk_27 (dk_at dksX6_hummed_7 11 rfl rfl)
theorem dX6_hummed_176 : decode cX6_hummed 176 = .ok (.imul, 1) := dk_104 (dk_at dksX6_hummed_7 12 rfl rfl)
theorem dX6_hummed_177 : decode cX6_hummed 177 = .ok (.iload 7, 2) := dk_21 7 (dk_at dksX6_hummed_7 13 rfl rfl)
theorem dX6_hummed_179 : decode cX6_hummed 179 = .ok (.iadd, 1) := dk_96 (dk_at dksX6_hummed_7 15 rfl rfl)
theorem dX6_hummed_180 : decode cX6_hummed 180 = .ok (.aload_n 0, 1) := dk_42 (dk_at dksX6_hummed_7 16 rfl rfl)
theorem dX6_hummed_181 : decode cX6_hummed 181 = .ok (.getfield 67, 3) := dk_180 0 67 (dk_at dksX6_hummed_7 17 rfl rfl)
theorem dX6_hummed_184 : decode cX6_hummed 184 = .ok (.iload 7, 2) := dk_21 7 (dk_at dksX6_hummed_7 20 rfl rfl)
theorem dX6_hummed_186 : decode cX6_hummed 186 = .ok (.iaload, 1) := dk_46 (dk_at dksX6_hummed_7 22 rfl rfl)
theorem dX6_hummed_187 : decode cX6_hummed 187 = .ok (.iastore, 1) := dk_79 (dk_at dksX6_hummed_7 23 rfl rfl)
theorem dX6_hummed_188 : decode cX6_hummed 188 = .ok (.iinc 7 1, 3) := dk_132 7 1 (dk_at dksX6_hummed_8 0 rfl rfl)
theorem dX6_hummed_191 : decode cX6_hummed 191 = .ok (.goto (-33), 3) := dk_167 255 223 (dk_at dksX6_hummed_8 3 rfl rfl)
theorem dX6_hummed_194 : decode cX6_hummed 194 = .ok (.return_, 1) := dk_177 (dk_at dksX6_hummed_8 6 rfl rfl)
def dkwX6_lesser_0 : List UInt8 := [26, 27, 162, 0, 7, 26, 167, 0, 4, 27, 172]
abbrev dktX6_lesser_0 : List UInt8 := dkwX6_lesser_0 ++ []
theorem dksX6_lesser_0 : cX6_lesser.data.toList.drop 0 = dktX6_lesser_0 := by decide +kernel
theorem dX6_lesser_0 : decode cX6_lesser 0 = .ok (.iload_n 0, 1) := dk_26 (dk_at dksX6_lesser_0 0 rfl rfl)
theorem dX6_lesser_1 : decode cX6_lesser 1 = .ok (.iload_n 1, 1) := dk_27 (dk_at dksX6_lesser_0 1 rfl rfl)
theorem dX6_lesser_2 : decode cX6_lesser 2 = .ok (.if_icmp .ge 7, 3) := dk_162 0 7 (dk_at dksX6_lesser_0 2 rfl rfl)
theorem dX6_lesser_5 : decode cX6_lesser 5 = .ok (.iload_n 0, 1) := dk_26 (dk_at dksX6_lesser_0 5 rfl rfl)
theorem dX6_lesser_6 : decode cX6_lesser 6 = .ok (.goto 4, 3) := dk_167 0 4 (dk_at dksX6_lesser_0 6 rfl rfl)
theorem dX6_lesser_9 : decode cX6_lesser 9 = .ok (.iload_n 1, 1) := dk_27 (dk_at dksX6_lesser_0 9 rfl rfl)
theorem dX6_lesser_10 : decode cX6_lesser 10 = .ok (.ireturn, 1) := dk_172 (dk_at dksX6_lesser_0 10 rfl rfl)
def dkwX6_returns_6 : List UInt8 := [27, 46, 79, 177]
abbrev dktX6_returns_6 : List UInt8 := dkwX6_returns_6 ++ []
def dkwX6_returns_5 : List UInt8 := [16, 40, 27, 104, 21, 5, 96, 46, 79, 132, 5, 1, 167, 255, 218, 42, 180, 0, 43, 27, 42, 180, 0, 49]
abbrev dktX6_returns_5 : List UInt8 := dkwX6_returns_5 ++ dktX6_returns_6
def dkwX6_returns_4 : List UInt8 := [180, 0, 49, 27, 46, 162, 0, 33, 42, 180, 0, 40, 16, 40, 27, 104, 21, 5, 96, 42, 180, 0, 46]
abbrev dktX6_returns_4 : List UInt8 := dkwX6_returns_4 ++ dktX6_returns_5
def dkwX6_returns_3 : List UInt8 := [180, 0, 49, 27, 46, 184, 0, 165, 162, 0, 66, 42, 180, 0, 61, 29, 4, 79, 3, 54, 5, 21, 5, 42]
abbrev dktX6_returns_3 : List UInt8 := dkwX6_returns_3 ++ dktX6_returns_4
def dkwX6_returns_2 : List UInt8 := [42, 180, 0, 46, 16, 40, 27, 104, 42, 180, 0, 49, 27, 46, 182, 0, 175, 54, 4, 21, 4, 28, 42]
abbrev dktX6_returns_2 : List UInt8 := dkwX6_returns_2 ++ dktX6_returns_3
def dkwX6_returns_1 : List UInt8 := [46, 42, 180, 0, 49, 27, 46, 100, 79, 42, 42, 180, 0, 40, 16, 40, 27, 104, 42, 180, 0, 43, 27, 46]
abbrev dktX6_returns_1 : List UInt8 := dkwX6_returns_1 ++ dktX6_returns_2
def dkwX6_returns_0 : List UInt8 := [42, 180, 0, 55, 27, 46, 62, 42, 180, 0, 52, 27, 2, 79, 42, 180, 0, 64, 29, 42, 180, 0, 43, 27]
abbrev dktX6_returns_0 : List UInt8 := dkwX6_returns_0 ++ dktX6_returns_1
theorem dksX6_returns_0 : cX6_returns.data.toList.drop 0 = dktX6_returns_0 := by decide +kernel
theorem dksX6_returns_1 : cX6_returns.data.toList.drop 24 = dktX6_returns_1 := dk_seg dksX6_returns_0 24 rfl rfl
theorem dksX6_returns_2 : cX6_returns.data.toList.drop 48 = dktX6_returns_2 := dk_seg dksX6_returns_1 24 rfl rfl
theorem dksX6_returns_3 : cX6_returns.data.toList.drop 71 = dktX6_returns_3 := dk_seg dksX6_returns_2 23 rfl rfl
theorem dksX6_returns_4 : cX6_returns.data.toList.drop 95 = dktX6_returns_4 := dk_seg dksX6_returns_3 24 rfl rfl
theorem dksX6_returns_5 : cX6_returns.data.toList.drop 118 = dktX6_returns_5 := dk_seg dksX6_returns_4 23 rfl rfl
theorem dksX6_returns_6 : cX6_returns.data.toList.drop 142 = dktX6_returns_6 := dk_seg dksX6_returns_5 24 rfl rfl
theorem dX6_returns_0 : decode cX6_returns 0 = .ok (.aload_n 0, 1) := dk_42 (dk_at dksX6_returns_0 0 rfl rfl)
theorem dX6_returns_1 : decode cX6_returns 1 = .ok (.getfield 55, 3) := dk_180 0 55 (dk_at dksX6_returns_0 1 rfl rfl)
theorem dX6_returns_4 : decode cX6_returns 4 = .ok (.iload_n 1, 1) := dk_27 (dk_at dksX6_returns_0 4 rfl rfl)
theorem dX6_returns_5 : decode cX6_returns 5 = .ok (.iaload, 1) := dk_46 (dk_at dksX6_returns_0 5 rfl rfl)
theorem dX6_returns_6 : decode cX6_returns 6 = .ok (.istore_n 3, 1) := dk_62 (dk_at dksX6_returns_0 6 rfl rfl)
theorem dX6_returns_7 : decode cX6_returns 7 = .ok (.aload_n 0, 1) := dk_42 (dk_at dksX6_returns_0 7 rfl rfl)
theorem dX6_returns_8 : decode cX6_returns 8 = .ok (.getfield 52, 3) := dk_180 0 52 (dk_at dksX6_returns_0 8 rfl rfl)
theorem dX6_returns_11 : decode cX6_returns 11 = .ok (.iload_n 1, 1) := dk_27 (dk_at dksX6_returns_0 11 rfl rfl)
theorem dX6_returns_12 : decode cX6_returns 12 = .ok (.iconst (-1), 1) := dk_2 (dk_at dksX6_returns_0 12 rfl rfl)
theorem dX6_returns_13 : decode cX6_returns 13 = .ok (.iastore, 1) := dk_79 (dk_at dksX6_returns_0 13 rfl rfl)
theorem dX6_returns_14 : decode cX6_returns 14 = .ok (.aload_n 0, 1) := dk_42 (dk_at dksX6_returns_0 14 rfl rfl)
theorem dX6_returns_15 : decode cX6_returns 15 = .ok (.getfield 64, 3) := dk_180 0 64 (dk_at dksX6_returns_0 15 rfl rfl)
theorem dX6_returns_18 : decode cX6_returns 18 = .ok (.iload_n 3, 1) := dk_29 (dk_at dksX6_returns_0 18 rfl rfl)
theorem dX6_returns_19 : decode cX6_returns 19 = .ok (.aload_n 0, 1) := dk_42 (dk_at dksX6_returns_0 19 rfl rfl)
theorem dX6_returns_20 : decode cX6_returns 20 = .ok (.getfield 43, 3) := dk_180 0 43 (dk_at dksX6_returns_0 20 rfl rfl)
theorem dX6_returns_23 : decode cX6_returns 23 = .ok (.iload_n 1, 1) := dk_27 (dk_at dksX6_returns_0 23 rfl rfl)
theorem dX6_returns_24 : decode cX6_returns 24 = .ok (.iaload, 1) := dk_46 (dk_at dksX6_returns_1 0 rfl rfl)
theorem dX6_returns_25 : decode cX6_returns 25 = .ok (.aload_n 0, 1) := dk_42 (dk_at dksX6_returns_1 1 rfl rfl)
theorem dX6_returns_26 : decode cX6_returns 26 = .ok (.getfield 49, 3) := dk_180 0 49 (dk_at dksX6_returns_1 2 rfl rfl)
theorem dX6_returns_29 : decode cX6_returns 29 = .ok (.iload_n 1, 1) := dk_27 (dk_at dksX6_returns_1 5 rfl rfl)
theorem dX6_returns_30 : decode cX6_returns 30 = .ok (.iaload, 1) := dk_46 (dk_at dksX6_returns_1 6 rfl rfl)
theorem dX6_returns_31 : decode cX6_returns 31 = .ok (.isub, 1) := dk_100 (dk_at dksX6_returns_1 7 rfl rfl)
theorem dX6_returns_32 : decode cX6_returns 32 = .ok (.iastore, 1) := dk_79 (dk_at dksX6_returns_1 8 rfl rfl)
theorem dX6_returns_33 : decode cX6_returns 33 = .ok (.aload_n 0, 1) := dk_42 (dk_at dksX6_returns_1 9 rfl rfl)
theorem dX6_returns_34 : decode cX6_returns 34 = .ok (.aload_n 0, 1) := dk_42 (dk_at dksX6_returns_1 10 rfl rfl)
theorem dX6_returns_35 : decode cX6_returns 35 = .ok (.getfield 40, 3) := dk_180 0 40 (dk_at dksX6_returns_1 11 rfl rfl)
theorem dX6_returns_38 : decode cX6_returns 38 = .ok (.bipush 40, 2) := dk_16 40 (dk_at dksX6_returns_1 14 rfl rfl)
theorem dX6_returns_40 : decode cX6_returns 40 = .ok (.iload_n 1, 1) := dk_27 (dk_at dksX6_returns_1 16 rfl rfl)
theorem dX6_returns_41 : decode cX6_returns 41 = .ok (.imul, 1) := dk_104 (dk_at dksX6_returns_1 17 rfl rfl)
theorem dX6_returns_42 : decode cX6_returns 42 = .ok (.aload_n 0, 1) := dk_42 (dk_at dksX6_returns_1 18 rfl rfl)
theorem dX6_returns_43 : decode cX6_returns 43 = .ok (.getfield 43, 3) := dk_180 0 43 (dk_at dksX6_returns_1 19 rfl rfl)
theorem dX6_returns_46 : decode cX6_returns 46 = .ok (.iload_n 1, 1) := dk_27 (dk_at dksX6_returns_1 22 rfl rfl)
theorem dX6_returns_47 : decode cX6_returns 47 = .ok (.iaload, 1) := dk_46 (dk_at dksX6_returns_1 23 rfl rfl)
theorem dX6_returns_48 : decode cX6_returns 48 = .ok (.aload_n 0, 1) := dk_42 (dk_at dksX6_returns_2 0 rfl rfl)
theorem dX6_returns_49 : decode cX6_returns 49 = .ok (.getfield 46, 3) := dk_180 0 46 (dk_at dksX6_returns_2 1 rfl rfl)
theorem dX6_returns_52 : decode cX6_returns 52 = .ok (.bipush 40, 2) := dk_16 40 (dk_at dksX6_returns_2 4 rfl rfl)
theorem dX6_returns_54 : decode cX6_returns 54 = .ok (.iload_n 1, 1) := dk_27 (dk_at dksX6_returns_2 6 rfl rfl)
theorem dX6_returns_55 : decode cX6_returns 55 = .ok (.imul, 1) := dk_104 (dk_at dksX6_returns_2 7 rfl rfl)
theorem dX6_returns_56 : decode cX6_returns 56 = .ok (.aload_n 0, 1) := dk_42 (dk_at dksX6_returns_2 8 rfl rfl)
theorem dX6_returns_57 : decode cX6_returns 57 = .ok (.getfield 49, 3) := dk_180 0 49 (dk_at dksX6_returns_2 9 rfl rfl)
theorem dX6_returns_60 : decode cX6_returns 60 = .ok (.iload_n 1, 1) := dk_27 (dk_at dksX6_returns_2 12 rfl rfl)
theorem dX6_returns_61 : decode cX6_returns 61 = .ok (.iaload, 1) := dk_46 (dk_at dksX6_returns_2 13 rfl rfl)
theorem dX6_returns_62 : decode cX6_returns 62 = .ok (.invokevirtual 175, 3) := dk_182 0 175 (dk_at dksX6_returns_2 14 rfl rfl)
theorem dX6_returns_65 : decode cX6_returns 65 = .ok (.istore 4, 2) := dk_54 4 (dk_at dksX6_returns_2 17 rfl rfl)
theorem dX6_returns_67 : decode cX6_returns 67 = .ok (.iload 4, 2) := dk_21 4 (dk_at dksX6_returns_2 19 rfl rfl)
theorem dX6_returns_69 : decode cX6_returns 69 = .ok (.iload_n 2, 1) := dk_28 (dk_at dksX6_returns_2 21 rfl rfl)
theorem dX6_returns_70 : decode cX6_returns 70 = .ok (.aload_n 0, 1) := dk_42 (dk_at dksX6_returns_2 22 rfl rfl)
theorem dX6_returns_71 : decode cX6_returns 71 = .ok (.getfield 49, 3) := dk_180 0 49 (dk_at dksX6_returns_3 0 rfl rfl)
theorem dX6_returns_74 : decode cX6_returns 74 = .ok (.iload_n 1, 1) := dk_27 (dk_at dksX6_returns_3 3 rfl rfl)
theorem dX6_returns_75 : decode cX6_returns 75 = .ok (.iaload, 1) := dk_46 (dk_at dksX6_returns_3 4 rfl rfl)
theorem dX6_returns_76 : decode cX6_returns 76 = .ok (.invokestatic 165, 3) := dk_184 0 165 (dk_at dksX6_returns_3 5 rfl rfl)
theorem dX6_returns_79 : decode cX6_returns 79 = .ok (.if_icmp .ge 66, 3) := dk_162 0 66 (dk_at dksX6_returns_3 8 rfl rfl)
theorem dX6_returns_82 : decode cX6_returns 82 = .ok (.aload_n 0, 1) := dk_42 (dk_at dksX6_returns_3 11 rfl rfl)
theorem dX6_returns_83 : decode cX6_returns 83 = .ok (.getfield 61, 3) := dk_180 0 61 (dk_at dksX6_returns_3 12 rfl rfl)
theorem dX6_returns_86 : decode cX6_returns 86 = .ok (.iload_n 3, 1) := dk_29 (dk_at dksX6_returns_3 15 rfl rfl)
theorem dX6_returns_87 : decode cX6_returns 87 = .ok (.iconst 1, 1) := dk_4 (dk_at dksX6_returns_3 16 rfl rfl)
theorem dX6_returns_88 : decode cX6_returns 88 = .ok (.iastore, 1) := dk_79 (dk_at dksX6_returns_3 17 rfl rfl)
theorem dX6_returns_89 : decode cX6_returns 89 = .ok (.iconst 0, 1) := dk_3 (dk_at dksX6_returns_3 18 rfl rfl)
theorem dX6_returns_90 : decode cX6_returns 90 = .ok (.istore 5, 2) := dk_54 5 (dk_at dksX6_returns_3 19 rfl rfl)
theorem dX6_returns_92 : decode cX6_returns 92 = .ok (.iload 5, 2) := dk_21 5 (dk_at dksX6_returns_3 21 rfl rfl)
theorem dX6_returns_94 : decode cX6_returns 94 = .ok (.aload_n 0, 1) := dk_42 (dk_at dksX6_returns_3 23 rfl rfl)
theorem dX6_returns_95 : decode cX6_returns 95 = .ok (.getfield 49, 3) := dk_180 0 49 (dk_at dksX6_returns_4 0 rfl rfl)
theorem dX6_returns_98 : decode cX6_returns 98 = .ok (.iload_n 1, 1) := dk_27 (dk_at dksX6_returns_4 3 rfl rfl)
theorem dX6_returns_99 : decode cX6_returns 99 = .ok (.iaload, 1) := dk_46 (dk_at dksX6_returns_4 4 rfl rfl)
theorem dX6_returns_100 : decode cX6_returns 100 = .ok (.if_icmp .ge 33, 3) := dk_162 0 33 (dk_at dksX6_returns_4 5 rfl rfl)
theorem dX6_returns_103 : decode cX6_returns 103 = .ok (.aload_n 0, 1) := dk_42 (dk_at dksX6_returns_4 8 rfl rfl)
theorem dX6_returns_104 : decode cX6_returns 104 = .ok (.getfield 40, 3) := dk_180 0 40 (dk_at dksX6_returns_4 9 rfl rfl)
theorem dX6_returns_107 : decode cX6_returns 107 = .ok (.bipush 40, 2) := dk_16 40 (dk_at dksX6_returns_4 12 rfl rfl)
theorem dX6_returns_109 : decode cX6_returns 109 = .ok (.iload_n 1, 1) := dk_27 (dk_at dksX6_returns_4 14 rfl rfl)
theorem dX6_returns_110 : decode cX6_returns 110 = .ok (.imul, 1) := dk_104 (dk_at dksX6_returns_4 15 rfl rfl)
theorem dX6_returns_111 : decode cX6_returns 111 = .ok (.iload 5, 2) := dk_21 5 (dk_at dksX6_returns_4 16 rfl rfl)
theorem dX6_returns_113 : decode cX6_returns 113 = .ok (.iadd, 1) := dk_96 (dk_at dksX6_returns_4 18 rfl rfl)
theorem dX6_returns_114 : decode cX6_returns 114 = .ok (.aload_n 0, 1) := dk_42 (dk_at dksX6_returns_4 19 rfl rfl)
theorem dX6_returns_115 : decode cX6_returns 115 = .ok (.getfield 46, 3) := dk_180 0 46 (dk_at dksX6_returns_4 20 rfl rfl)
theorem dX6_returns_118 : decode cX6_returns 118 = .ok (.bipush 40, 2) := dk_16 40 (dk_at dksX6_returns_5 0 rfl rfl)
theorem dX6_returns_120 : decode cX6_returns 120 = .ok (.iload_n 1, 1) := dk_27 (dk_at dksX6_returns_5 2 rfl rfl)
theorem dX6_returns_121 : decode cX6_returns 121 = .ok (.imul, 1) := dk_104 (dk_at dksX6_returns_5 3 rfl rfl)
theorem dX6_returns_122 : decode cX6_returns 122 = .ok (.iload 5, 2) := dk_21 5 (dk_at dksX6_returns_5 4 rfl rfl)
theorem dX6_returns_124 : decode cX6_returns 124 = .ok (.iadd, 1) := dk_96 (dk_at dksX6_returns_5 6 rfl rfl)
theorem dX6_returns_125 : decode cX6_returns 125 = .ok (.iaload, 1) := dk_46 (dk_at dksX6_returns_5 7 rfl rfl)
theorem dX6_returns_126 : decode cX6_returns 126 = .ok (.iastore, 1) := dk_79 (dk_at dksX6_returns_5 8 rfl rfl)
theorem dX6_returns_127 : decode cX6_returns 127 = .ok (.iinc 5 1, 3) := dk_132 5 1 (dk_at dksX6_returns_5 9 rfl rfl)
theorem dX6_returns_130 : decode cX6_returns 130 = .ok (.goto (-38), 3) := dk_167 255 218 (dk_at dksX6_returns_5 12 rfl rfl)
theorem dX6_returns_133 : decode cX6_returns 133 = .ok (.aload_n 0, 1) := dk_42 (dk_at dksX6_returns_5 15 rfl rfl)
theorem dX6_returns_134 : decode cX6_returns 134 = .ok (.getfield 43, 3) := dk_180 0 43 (dk_at dksX6_returns_5 16 rfl rfl)
theorem dX6_returns_137 : decode cX6_returns 137 = .ok (.iload_n 1, 1) := dk_27 (dk_at dksX6_returns_5 19 rfl rfl)
theorem dX6_returns_138 : decode cX6_returns 138 = .ok (.aload_n 0, 1) := dk_42 (dk_at dksX6_returns_5 20 rfl rfl)
theorem dX6_returns_139 : decode cX6_returns 139 = .ok (.getfield 49, 3) := dk_180 0 49 (dk_at dksX6_returns_5 21 rfl rfl)
theorem dX6_returns_142 : decode cX6_returns 142 = .ok (.iload_n 1, 1) := dk_27 (dk_at dksX6_returns_6 0 rfl rfl)
theorem dX6_returns_143 : decode cX6_returns 143 = .ok (.iaload, 1) := dk_46 (dk_at dksX6_returns_6 1 rfl rfl)
theorem dX6_returns_144 : decode cX6_returns 144 = .ok (.iastore, 1) := dk_79 (dk_at dksX6_returns_6 2 rfl rfl)
theorem dX6_returns_145 : decode cX6_returns 145 = .ok (.return_, 1) := dk_177 (dk_at dksX6_returns_6 3 rfl rfl)
def dkwX6_commonOf_5 : List UInt8 := [132, 7, 1, 167, 255, 163, 42, 180, 0, 70, 21, 6, 46, 172]
abbrev dktX6_commonOf_5 : List UInt8 := dkwX6_commonOf_5 ++ []
def dkwX6_commonOf_4 : List UInt8 := [180, 0, 70, 21, 9, 4, 100, 46, 184, 0, 168, 79, 21, 10, 54, 8, 132, 9, 1, 167, 255, 181]
abbrev dktX6_commonOf_4 : List UInt8 := dkwX6_commonOf_4 ++ dktX6_commonOf_5
def dkwX6_commonOf_3 : List UInt8 := [21, 9, 96, 4, 100, 46, 160, 0, 10, 21, 8, 4, 96, 167, 0, 22, 42, 180, 0, 70, 21, 9, 46, 42]
abbrev dktX6_commonOf_3 : List UInt8 := dkwX6_commonOf_3 ++ dktX6_commonOf_4
def dkwX6_commonOf_2 : List UInt8 := [180, 0, 70, 21, 9, 46, 54, 10, 42, 180, 0, 70, 21, 9, 43, 28, 21, 7, 96, 46, 25, 4, 21, 5]
abbrev dktX6_commonOf_2 : List UInt8 := dkwX6_commonOf_2 ++ dktX6_commonOf_3
def dkwX6_commonOf_1 : List UInt8 := [3, 54, 7, 21, 7, 29, 162, 0, 93, 3, 54, 8, 4, 54, 9, 21, 9, 21, 6, 163, 0, 74, 42]
abbrev dktX6_commonOf_1 : List UInt8 := dkwX6_commonOf_1 ++ dktX6_commonOf_2
def dkwX6_commonOf_0 : List UInt8 := [3, 54, 7, 21, 7, 21, 6, 163, 0, 17, 42, 180, 0, 70, 21, 7, 3, 79, 132, 7, 1, 167, 255, 238]
abbrev dktX6_commonOf_0 : List UInt8 := dkwX6_commonOf_0 ++ dktX6_commonOf_1
theorem dksX6_commonOf_0 : cX6_commonOf.data.toList.drop 0 = dktX6_commonOf_0 := by decide +kernel
theorem dksX6_commonOf_1 : cX6_commonOf.data.toList.drop 24 = dktX6_commonOf_1 := dk_seg dksX6_commonOf_0 24 rfl rfl
theorem dksX6_commonOf_2 : cX6_commonOf.data.toList.drop 47 = dktX6_commonOf_2 := dk_seg dksX6_commonOf_1 23 rfl rfl
theorem dksX6_commonOf_3 : cX6_commonOf.data.toList.drop 71 = dktX6_commonOf_3 := dk_seg dksX6_commonOf_2 24 rfl rfl
theorem dksX6_commonOf_4 : cX6_commonOf.data.toList.drop 95 = dktX6_commonOf_4 := dk_seg dksX6_commonOf_3 24 rfl rfl
theorem dksX6_commonOf_5 : cX6_commonOf.data.toList.drop 117 = dktX6_commonOf_5 := dk_seg dksX6_commonOf_4 22 rfl rfl
theorem dX6_commonOf_0 : decode cX6_commonOf 0 = .ok (.iconst 0, 1) := dk_3 (dk_at dksX6_commonOf_0 0 rfl rfl)
theorem dX6_commonOf_1 : decode cX6_commonOf 1 = .ok (.istore 7, 2) := dk_54 7 (dk_at dksX6_commonOf_0 1 rfl rfl)
theorem dX6_commonOf_3 : decode cX6_commonOf 3 = .ok (.iload 7, 2) := dk_21 7 (dk_at dksX6_commonOf_0 3 rfl rfl)
theorem dX6_commonOf_5 : decode cX6_commonOf 5 = .ok (.iload 6, 2) := dk_21 6 (dk_at dksX6_commonOf_0 5 rfl rfl)
theorem dX6_commonOf_7 : decode cX6_commonOf 7 = .ok (.if_icmp .gt 17, 3) := dk_163 0 17 (dk_at dksX6_commonOf_0 7 rfl rfl)
theorem dX6_commonOf_10 : decode cX6_commonOf 10 = .ok (.aload_n 0, 1) := dk_42 (dk_at dksX6_commonOf_0 10 rfl rfl)
theorem dX6_commonOf_11 : decode cX6_commonOf 11 = .ok (.getfield 70, 3) := dk_180 0 70 (dk_at dksX6_commonOf_0 11 rfl rfl)
theorem dX6_commonOf_14 : decode cX6_commonOf 14 = .ok (.iload 7, 2) := dk_21 7 (dk_at dksX6_commonOf_0 14 rfl rfl)
theorem dX6_commonOf_16 : decode cX6_commonOf 16 = .ok (.iconst 0, 1) := dk_3 (dk_at dksX6_commonOf_0 16 rfl rfl)
theorem dX6_commonOf_17 : decode cX6_commonOf 17 = .ok (.iastore, 1) := dk_79 (dk_at dksX6_commonOf_0 17 rfl rfl)
theorem dX6_commonOf_18 : decode cX6_commonOf 18 = .ok (.iinc 7 1, 3) := dk_132 7 1 (dk_at dksX6_commonOf_0 18 rfl rfl)
theorem dX6_commonOf_21 : decode cX6_commonOf 21 = .ok (.goto (-18), 3) := dk_167 255 238 (dk_at dksX6_commonOf_0 21 rfl rfl)
theorem dX6_commonOf_24 : decode cX6_commonOf 24 = .ok (.iconst 0, 1) := dk_3 (dk_at dksX6_commonOf_1 0 rfl rfl)
theorem dX6_commonOf_25 : decode cX6_commonOf 25 = .ok (.istore 7, 2) := dk_54 7 (dk_at dksX6_commonOf_1 1 rfl rfl)
theorem dX6_commonOf_27 : decode cX6_commonOf 27 = .ok (.iload 7, 2) := dk_21 7 (dk_at dksX6_commonOf_1 3 rfl rfl)
theorem dX6_commonOf_29 : decode cX6_commonOf 29 = .ok (.iload_n 3, 1) := dk_29 (dk_at dksX6_commonOf_1 5 rfl rfl)
theorem dX6_commonOf_30 : decode cX6_commonOf 30 = .ok (.if_icmp .ge 93, 3) := dk_162 0 93 (dk_at dksX6_commonOf_1 6 rfl rfl)
theorem dX6_commonOf_33 : decode cX6_commonOf 33 = .ok (.iconst 0, 1) := dk_3 (dk_at dksX6_commonOf_1 9 rfl rfl)
theorem dX6_commonOf_34 : decode cX6_commonOf 34 = .ok (.istore 8, 2) := dk_54 8 (dk_at dksX6_commonOf_1 10 rfl rfl)
theorem dX6_commonOf_36 : decode cX6_commonOf 36 = .ok (.iconst 1, 1) := dk_4 (dk_at dksX6_commonOf_1 12 rfl rfl)
theorem dX6_commonOf_37 : decode cX6_commonOf 37 = .ok (.istore 9, 2) := dk_54 9 (dk_at dksX6_commonOf_1 13 rfl rfl)
theorem dX6_commonOf_39 : decode cX6_commonOf 39 = .ok (.iload 9, 2) := dk_21 9 (dk_at dksX6_commonOf_1 15 rfl rfl)
theorem dX6_commonOf_41 : decode cX6_commonOf 41 = .ok (.iload 6, 2) := dk_21 6 (dk_at dksX6_commonOf_1 17 rfl rfl)
theorem dX6_commonOf_43 : decode cX6_commonOf 43 = .ok (.if_icmp .gt 74, 3) := dk_163 0 74 (dk_at dksX6_commonOf_1 19 rfl rfl)
theorem dX6_commonOf_46 : decode cX6_commonOf 46 = .ok (.aload_n 0, 1) := dk_42 (dk_at dksX6_commonOf_1 22 rfl rfl)
theorem dX6_commonOf_47 : decode cX6_commonOf 47 = .ok (.getfield 70, 3) := dk_180 0 70 (dk_at dksX6_commonOf_2 0 rfl rfl)
theorem dX6_commonOf_50 : decode cX6_commonOf 50 = .ok (.iload 9, 2) := dk_21 9 (dk_at dksX6_commonOf_2 3 rfl rfl)
theorem dX6_commonOf_52 : decode cX6_commonOf 52 = .ok (.iaload, 1) := dk_46 (dk_at dksX6_commonOf_2 5 rfl rfl)
theorem dX6_commonOf_53 : decode cX6_commonOf 53 = .ok (.istore 10, 2) := dk_54 10 (dk_at dksX6_commonOf_2 6 rfl rfl)
theorem dX6_commonOf_55 : decode cX6_commonOf 55 = .ok (.aload_n 0, 1) := dk_42 (dk_at dksX6_commonOf_2 8 rfl rfl)
theorem dX6_commonOf_56 : decode cX6_commonOf 56 = .ok (.getfield 70, 3) := dk_180 0 70 (dk_at dksX6_commonOf_2 9 rfl rfl)
theorem dX6_commonOf_59 : decode cX6_commonOf 59 = .ok (.iload 9, 2) := dk_21 9 (dk_at dksX6_commonOf_2 12 rfl rfl)
theorem dX6_commonOf_61 : decode cX6_commonOf 61 = .ok (.aload_n 1, 1) := dk_43 (dk_at dksX6_commonOf_2 14 rfl rfl)
theorem dX6_commonOf_62 : decode cX6_commonOf 62 = .ok (.iload_n 2, 1) := dk_28 (dk_at dksX6_commonOf_2 15 rfl rfl)
theorem dX6_commonOf_63 : decode cX6_commonOf 63 = .ok (.iload 7, 2) := dk_21 7 (dk_at dksX6_commonOf_2 16 rfl rfl)
theorem dX6_commonOf_65 : decode cX6_commonOf 65 = .ok (.iadd, 1) := dk_96 (dk_at dksX6_commonOf_2 18 rfl rfl)
theorem dX6_commonOf_66 : decode cX6_commonOf 66 = .ok (.iaload, 1) := dk_46 (dk_at dksX6_commonOf_2 19 rfl rfl)
theorem dX6_commonOf_67 : decode cX6_commonOf 67 = .ok (.aload 4, 2) := dk_25 4 (dk_at dksX6_commonOf_2 20 rfl rfl)
theorem dX6_commonOf_69 : decode cX6_commonOf 69 = .ok (.iload 5, 2) := dk_21 5 (dk_at dksX6_commonOf_2 22 rfl rfl)
theorem dX6_commonOf_71 : decode cX6_commonOf 71 = .ok (.iload 9, 2) := dk_21 9 (dk_at dksX6_commonOf_3 0 rfl rfl)
theorem dX6_commonOf_73 : decode cX6_commonOf 73 = .ok (.iadd, 1) := dk_96 (dk_at dksX6_commonOf_3 2 rfl rfl)
theorem dX6_commonOf_74 : decode cX6_commonOf 74 = .ok (.iconst 1, 1) := dk_4 (dk_at dksX6_commonOf_3 3 rfl rfl)
theorem dX6_commonOf_75 : decode cX6_commonOf 75 = .ok (.isub, 1) := dk_100 (dk_at dksX6_commonOf_3 4 rfl rfl)
theorem dX6_commonOf_76 : decode cX6_commonOf 76 = .ok (.iaload, 1) := dk_46 (dk_at dksX6_commonOf_3 5 rfl rfl)
theorem dX6_commonOf_77 : decode cX6_commonOf 77 = .ok (.if_icmp .ne 10, 3) := dk_160 0 10 (dk_at dksX6_commonOf_3 6 rfl rfl)
theorem dX6_commonOf_80 : decode cX6_commonOf 80 = .ok (.iload 8, 2) := dk_21 8 (dk_at dksX6_commonOf_3 9 rfl rfl)
theorem dX6_commonOf_82 : decode cX6_commonOf 82 = .ok (.iconst 1, 1) := dk_4 (dk_at dksX6_commonOf_3 11 rfl rfl)
theorem dX6_commonOf_83 : decode cX6_commonOf 83 = .ok (.iadd, 1) := dk_96 (dk_at dksX6_commonOf_3 12 rfl rfl)
theorem dX6_commonOf_84 : decode cX6_commonOf 84 = .ok (.goto 22, 3) := dk_167 0 22 (dk_at dksX6_commonOf_3 13 rfl rfl)
theorem dX6_commonOf_87 : decode cX6_commonOf 87 = .ok (.aload_n 0, 1) := dk_42 (dk_at dksX6_commonOf_3 16 rfl rfl)
theorem dX6_commonOf_88 : decode cX6_commonOf 88 = .ok (.getfield 70, 3) := dk_180 0 70 (dk_at dksX6_commonOf_3 17 rfl rfl)
theorem dX6_commonOf_91 : decode cX6_commonOf 91 = .ok (.iload 9, 2) := dk_21 9 (dk_at dksX6_commonOf_3 20 rfl rfl)
theorem dX6_commonOf_93 : decode cX6_commonOf 93 = .ok (.iaload, 1) := dk_46 (dk_at dksX6_commonOf_3 22 rfl rfl)
theorem dX6_commonOf_94 : decode cX6_commonOf 94 = .ok (.aload_n 0, 1) := dk_42 (dk_at dksX6_commonOf_3 23 rfl rfl)
theorem dX6_commonOf_95 : decode cX6_commonOf 95 = .ok (.getfield 70, 3) := dk_180 0 70 (dk_at dksX6_commonOf_4 0 rfl rfl)
theorem dX6_commonOf_98 : decode cX6_commonOf 98 = .ok (.iload 9, 2) := dk_21 9 (dk_at dksX6_commonOf_4 3 rfl rfl)
theorem dX6_commonOf_100 : decode cX6_commonOf 100 = .ok (.iconst 1, 1) := dk_4 (dk_at dksX6_commonOf_4 5 rfl rfl)
theorem dX6_commonOf_101 : decode cX6_commonOf 101 = .ok (.isub, 1) := dk_100 (dk_at dksX6_commonOf_4 6 rfl rfl)
theorem dX6_commonOf_102 : decode cX6_commonOf 102 = .ok (.iaload, 1) := dk_46 (dk_at dksX6_commonOf_4 7 rfl rfl)
theorem dX6_commonOf_103 : decode cX6_commonOf 103 = .ok (.invokestatic 168, 3) := dk_184 0 168 (dk_at dksX6_commonOf_4 8 rfl rfl)
theorem dX6_commonOf_106 : decode cX6_commonOf 106 = .ok (.iastore, 1) := dk_79 (dk_at dksX6_commonOf_4 11 rfl rfl)
theorem dX6_commonOf_107 : decode cX6_commonOf 107 = .ok (.iload 10, 2) := dk_21 10 (dk_at dksX6_commonOf_4 12 rfl rfl)
theorem dX6_commonOf_109 : decode cX6_commonOf 109 = .ok (.istore 8, 2) := dk_54 8 (dk_at dksX6_commonOf_4 14 rfl rfl)
theorem dX6_commonOf_111 : decode cX6_commonOf 111 = .ok (.iinc 9 1, 3) := dk_132 9 1 (dk_at dksX6_commonOf_4 16 rfl rfl)
theorem dX6_commonOf_114 : decode cX6_commonOf 114 = .ok (.goto (-75), 3) := dk_167 255 181 (dk_at dksX6_commonOf_4 19 rfl rfl)
theorem dX6_commonOf_117 : decode cX6_commonOf 117 = .ok (.iinc 7 1, 3) := dk_132 7 1 (dk_at dksX6_commonOf_5 0 rfl rfl)
theorem dX6_commonOf_120 : decode cX6_commonOf 120 = .ok (.goto (-93), 3) := dk_167 255 163 (dk_at dksX6_commonOf_5 3 rfl rfl)
theorem dX6_commonOf_123 : decode cX6_commonOf 123 = .ok (.aload_n 0, 1) := dk_42 (dk_at dksX6_commonOf_5 6 rfl rfl)
theorem dX6_commonOf_124 : decode cX6_commonOf 124 = .ok (.getfield 70, 3) := dk_180 0 70 (dk_at dksX6_commonOf_5 7 rfl rfl)
theorem dX6_commonOf_127 : decode cX6_commonOf 127 = .ok (.iload 6, 2) := dk_21 6 (dk_at dksX6_commonOf_5 10 rfl rfl)
theorem dX6_commonOf_129 : decode cX6_commonOf 129 = .ok (.iaload, 1) := dk_46 (dk_at dksX6_commonOf_5 12 rfl rfl)
theorem dX6_commonOf_130 : decode cX6_commonOf 130 = .ok (.ireturn, 1) := dk_172 (dk_at dksX6_commonOf_5 13 rfl rfl)
def dkwX6_greater_0 : List UInt8 := [26, 27, 164, 0, 7, 26, 167, 0, 4, 27, 172]
abbrev dktX6_greater_0 : List UInt8 := dkwX6_greater_0 ++ []
theorem dksX6_greater_0 : cX6_greater.data.toList.drop 0 = dktX6_greater_0 := by decide +kernel
theorem dX6_greater_0 : decode cX6_greater 0 = .ok (.iload_n 0, 1) := dk_26 (dk_at dksX6_greater_0 0 rfl rfl)
theorem dX6_greater_1 : decode cX6_greater 1 = .ok (.iload_n 1, 1) := dk_27 (dk_at dksX6_greater_0 1 rfl rfl)
theorem dX6_greater_2 : decode cX6_greater 2 = .ok (.if_icmp .le 7, 3) := dk_164 0 7 (dk_at dksX6_greater_0 2 rfl rfl)
theorem dX6_greater_5 : decode cX6_greater 5 = .ok (.iload_n 0, 1) := dk_26 (dk_at dksX6_greater_0 5 rfl rfl)
theorem dX6_greater_6 : decode cX6_greater 6 = .ok (.goto 4, 3) := dk_167 0 4 (dk_at dksX6_greater_0 6 rfl rfl)
theorem dX6_greater_9 : decode cX6_greater 9 = .ok (.iload_n 1, 1) := dk_27 (dk_at dksX6_greater_0 9 rfl rfl)
theorem dX6_greater_10 : decode cX6_greater 10 = .ok (.ireturn, 1) := dk_172 (dk_at dksX6_greater_0 10 rfl rfl)
def dkwX6_has_1 : List UInt8 := [182, 0, 201, 167, 0, 5, 16, 254, 172]
abbrev dktX6_has_1 : List UInt8 := dkwX6_has_1 ++ []
def dkwX6_has_0 : List UInt8 := [42, 182, 0, 137, 27, 184, 0, 150, 153, 0, 20, 42, 28, 182, 0, 140, 153, 0, 12, 42, 27, 28]
abbrev dktX6_has_0 : List UInt8 := dkwX6_has_0 ++ dktX6_has_1
theorem dksX6_has_0 : cX6_has.data.toList.drop 0 = dktX6_has_0 := by decide +kernel
theorem dksX6_has_1 : cX6_has.data.toList.drop 22 = dktX6_has_1 := dk_seg dksX6_has_0 22 rfl rfl
theorem dX6_has_0 : decode cX6_has 0 = .ok (.aload_n 0, 1) := dk_42 (dk_at dksX6_has_0 0 rfl rfl)
theorem dX6_has_1 : decode cX6_has 1 = .ok (.invokevirtual 137, 3) := dk_182 0 137 (dk_at dksX6_has_0 1 rfl rfl)
theorem dX6_has_4 : decode cX6_has 4 = .ok (.iload_n 1, 1) := dk_27 (dk_at dksX6_has_0 4 rfl rfl)
theorem dX6_has_5 : decode cX6_has 5 = .ok (.invokestatic 150, 3) := dk_184 0 150 (dk_at dksX6_has_0 5 rfl rfl)
theorem dX6_has_8 : decode cX6_has 8 = .ok (.ifCond .eq 20, 3) := dk_153 0 20 (dk_at dksX6_has_0 8 rfl rfl)
theorem dX6_has_11 : decode cX6_has 11 = .ok (.aload_n 0, 1) := dk_42 (dk_at dksX6_has_0 11 rfl rfl)
theorem dX6_has_12 : decode cX6_has 12 = .ok (.iload_n 2, 1) := dk_28 (dk_at dksX6_has_0 12 rfl rfl)
theorem dX6_has_13 : decode cX6_has 13 = .ok (.invokevirtual 140, 3) := dk_182 0 140 (dk_at dksX6_has_0 13 rfl rfl)
theorem dX6_has_16 : decode cX6_has 16 = .ok (.ifCond .eq 12, 3) := dk_153 0 12 (dk_at dksX6_has_0 16 rfl rfl)
theorem dX6_has_19 : decode cX6_has 19 = .ok (.aload_n 0, 1) := dk_42 (dk_at dksX6_has_0 19 rfl rfl)
theorem dX6_has_20 : decode cX6_has 20 = .ok (.iload_n 1, 1) := dk_27 (dk_at dksX6_has_0 20 rfl rfl)
theorem dX6_has_21 : decode cX6_has 21 = .ok (.iload_n 2, 1) := dk_28 (dk_at dksX6_has_0 21 rfl rfl)
theorem dX6_has_22 : decode cX6_has 22 = .ok (.invokevirtual 201, 3) := dk_182 0 201 (dk_at dksX6_has_1 0 rfl rfl)
theorem dX6_has_25 : decode cX6_has 25 = .ok (.goto 5, 3) := dk_167 0 5 (dk_at dksX6_has_1 3 rfl rfl)
theorem dX6_has_28 : decode cX6_has 28 = .ok (.bipush (-2), 2) := dk_16 254 (dk_at dksX6_has_1 6 rfl rfl)
theorem dX6_has_30 : decode cX6_has 30 = .ok (.ireturn, 1) := dk_172 (dk_at dksX6_has_1 8 rfl rfl)
def dkwX6_hasOf_0 : List UInt8 := [42, 27, 42, 180, 0, 73, 182, 0, 195, 42, 180, 0, 52, 28, 46, 172]
abbrev dktX6_hasOf_0 : List UInt8 := dkwX6_hasOf_0 ++ []
theorem dksX6_hasOf_0 : cX6_hasOf.data.toList.drop 0 = dktX6_hasOf_0 := by decide +kernel
theorem dX6_hasOf_0 : decode cX6_hasOf 0 = .ok (.aload_n 0, 1) := dk_42 (dk_at dksX6_hasOf_0 0 rfl rfl)
theorem dX6_hasOf_1 : decode cX6_hasOf 1 = .ok (.iload_n 1, 1) := dk_27 (dk_at dksX6_hasOf_0 1 rfl rfl)
theorem dX6_hasOf_2 : decode cX6_hasOf 2 = .ok (.aload_n 0, 1) := dk_42 (dk_at dksX6_hasOf_0 2 rfl rfl)
theorem dX6_hasOf_3 : decode cX6_hasOf 3 = .ok (.getfield 73, 3) := dk_180 0 73 (dk_at dksX6_hasOf_0 3 rfl rfl)
theorem dX6_hasOf_6 : decode cX6_hasOf 6 = .ok (.invokevirtual 195, 3) := dk_182 0 195 (dk_at dksX6_hasOf_0 6 rfl rfl)
theorem dX6_hasOf_9 : decode cX6_hasOf 9 = .ok (.aload_n 0, 1) := dk_42 (dk_at dksX6_hasOf_0 9 rfl rfl)
theorem dX6_hasOf_10 : decode cX6_hasOf 10 = .ok (.getfield 52, 3) := dk_180 0 52 (dk_at dksX6_hasOf_0 10 rfl rfl)
theorem dX6_hasOf_13 : decode cX6_hasOf 13 = .ok (.iload_n 2, 1) := dk_28 (dk_at dksX6_hasOf_0 13 rfl rfl)
theorem dX6_hasOf_14 : decode cX6_hasOf 14 = .ok (.iaload, 1) := dk_46 (dk_at dksX6_hasOf_0 14 rfl rfl)
theorem dX6_hasOf_15 : decode cX6_hasOf 15 = .ok (.ireturn, 1) := dk_172 (dk_at dksX6_hasOf_0 15 rfl rfl)
def dkwX6_came_1 : List UInt8 := [20, 0, 92, 184, 0, 79, 153, 0, 12, 42, 27, 28, 182, 0, 204, 167, 0, 6, 17, 252, 22, 172]
abbrev dktX6_came_1 : List UInt8 := dkwX6_came_1 ++ []
def dkwX6_came_0 : List UInt8 := [42, 182, 0, 137, 27, 133, 9, 42, 180, 0, 157, 4, 100, 133, 184, 0, 79, 153, 0, 24, 28, 133, 9]
abbrev dktX6_came_0 : List UInt8 := dkwX6_came_0 ++ dktX6_came_1
theorem dksX6_came_0 : cX6_came.data.toList.drop 0 = dktX6_came_0 := by decide +kernel
theorem dksX6_came_1 : cX6_came.data.toList.drop 23 = dktX6_came_1 := dk_seg dksX6_came_0 23 rfl rfl
theorem dX6_came_0 : decode cX6_came 0 = .ok (.aload_n 0, 1) := dk_42 (dk_at dksX6_came_0 0 rfl rfl)
theorem dX6_came_1 : decode cX6_came 1 = .ok (.invokevirtual 137, 3) := dk_182 0 137 (dk_at dksX6_came_0 1 rfl rfl)
theorem dX6_came_4 : decode cX6_came 4 = .ok (.iload_n 1, 1) := dk_27 (dk_at dksX6_came_0 4 rfl rfl)
theorem dX6_came_5 : decode cX6_came 5 = .ok (.i2l, 1) := dk_133 (dk_at dksX6_came_0 5 rfl rfl)
theorem dX6_came_6 : decode cX6_came 6 = .ok (.lconst 0, 1) := dk_9 (dk_at dksX6_came_0 6 rfl rfl)
theorem dX6_came_7 : decode cX6_came 7 = .ok (.aload_n 0, 1) := dk_42 (dk_at dksX6_came_0 7 rfl rfl)
theorem dX6_came_8 : decode cX6_came 8 = .ok (.getfield 157, 3) := dk_180 0 157 (dk_at dksX6_came_0 8 rfl rfl)
theorem dX6_came_11 : decode cX6_came 11 = .ok (.iconst 1, 1) := dk_4 (dk_at dksX6_came_0 11 rfl rfl)
theorem dX6_came_12 : decode cX6_came 12 = .ok (.isub, 1) := dk_100 (dk_at dksX6_came_0 12 rfl rfl)
theorem dX6_came_13 : decode cX6_came 13 = .ok (.i2l, 1) := dk_133 (dk_at dksX6_came_0 13 rfl rfl)
theorem dX6_came_14 : decode cX6_came 14 = .ok (.invokestatic 79, 3) := dk_184 0 79 (dk_at dksX6_came_0 14 rfl rfl)
theorem dX6_came_17 : decode cX6_came 17 = .ok (.ifCond .eq 24, 3) := dk_153 0 24 (dk_at dksX6_came_0 17 rfl rfl)
theorem dX6_came_20 : decode cX6_came 20 = .ok (.iload_n 2, 1) := dk_28 (dk_at dksX6_came_0 20 rfl rfl)
theorem dX6_came_21 : decode cX6_came 21 = .ok (.i2l, 1) := dk_133 (dk_at dksX6_came_0 21 rfl rfl)
theorem dX6_came_22 : decode cX6_came 22 = .ok (.lconst 0, 1) := dk_9 (dk_at dksX6_came_0 22 rfl rfl)
theorem dX6_came_23 : decode cX6_came 23 = .ok (.ldc2_w 92, 3) := dk_20 0 92 (dk_at dksX6_came_1 0 rfl rfl)
theorem dX6_came_26 : decode cX6_came 26 = .ok (.invokestatic 79, 3) := dk_184 0 79 (dk_at dksX6_came_1 3 rfl rfl)
theorem dX6_came_29 : decode cX6_came 29 = .ok (.ifCond .eq 12, 3) := dk_153 0 12 (dk_at dksX6_came_1 6 rfl rfl)
theorem dX6_came_32 : decode cX6_came 32 = .ok (.aload_n 0, 1) := dk_42 (dk_at dksX6_came_1 9 rfl rfl)
theorem dX6_came_33 : decode cX6_came 33 = .ok (.iload_n 1, 1) := dk_27 (dk_at dksX6_came_1 10 rfl rfl)
theorem dX6_came_34 : decode cX6_came 34 = .ok (.iload_n 2, 1) := dk_28 (dk_at dksX6_came_1 11 rfl rfl)
theorem dX6_came_35 : decode cX6_came 35 = .ok (.invokevirtual 204, 3) := dk_182 0 204 (dk_at dksX6_came_1 12 rfl rfl)
theorem dX6_came_38 : decode cX6_came 38 = .ok (.goto 6, 3) := dk_167 0 6 (dk_at dksX6_came_1 15 rfl rfl)
theorem dX6_came_41 : decode cX6_came 41 = .ok (.sipush (-1002), 3) := dk_17 252 22 (dk_at dksX6_came_1 18 rfl rfl)
theorem dX6_came_44 : decode cX6_came 44 = .ok (.ireturn, 1) := dk_172 (dk_at dksX6_came_1 21 rfl rfl)
def dkwX6_cameOf_1 : List UInt8 := [4, 160, 0, 12, 42, 180, 0, 61, 27, 46, 167, 0, 9, 42, 180, 0, 64, 27, 46, 172]
abbrev dktX6_cameOf_1 : List UInt8 := dkwX6_cameOf_1 ++ []
def dkwX6_cameOf_0 : List UInt8 := [42, 16, 39, 42, 180, 0, 73, 182, 0, 195, 28, 154, 0, 12, 42, 180, 0, 58, 27, 46, 167, 0, 23, 28]
abbrev dktX6_cameOf_0 : List UInt8 := dkwX6_cameOf_0 ++ dktX6_cameOf_1
theorem dksX6_cameOf_0 : cX6_cameOf.data.toList.drop 0 = dktX6_cameOf_0 := by decide +kernel
theorem dksX6_cameOf_1 : cX6_cameOf.data.toList.drop 24 = dktX6_cameOf_1 := dk_seg dksX6_cameOf_0 24 rfl rfl
theorem dX6_cameOf_0 : decode cX6_cameOf 0 = .ok (.aload_n 0, 1) := dk_42 (dk_at dksX6_cameOf_0 0 rfl rfl)
theorem dX6_cameOf_1 : decode cX6_cameOf 1 = .ok (.bipush 39, 2) := dk_16 39 (dk_at dksX6_cameOf_0 1 rfl rfl)
theorem dX6_cameOf_3 : decode cX6_cameOf 3 = .ok (.aload_n 0, 1) := dk_42 (dk_at dksX6_cameOf_0 3 rfl rfl)
theorem dX6_cameOf_4 : decode cX6_cameOf 4 = .ok (.getfield 73, 3) := dk_180 0 73 (dk_at dksX6_cameOf_0 4 rfl rfl)
theorem dX6_cameOf_7 : decode cX6_cameOf 7 = .ok (.invokevirtual 195, 3) := dk_182 0 195 (dk_at dksX6_cameOf_0 7 rfl rfl)
theorem dX6_cameOf_10 : decode cX6_cameOf 10 = .ok (.iload_n 2, 1) := dk_28 (dk_at dksX6_cameOf_0 10 rfl rfl)
theorem dX6_cameOf_11 : decode cX6_cameOf 11 = .ok (.ifCond .ne 12, 3) := dk_154 0 12 (dk_at dksX6_cameOf_0 11 rfl rfl)
theorem dX6_cameOf_14 : decode cX6_cameOf 14 = .ok (.aload_n 0, 1) := dk_42 (dk_at dksX6_cameOf_0 14 rfl rfl)
theorem dX6_cameOf_15 : decode cX6_cameOf 15 = .ok (.getfield 58, 3) := dk_180 0 58 (dk_at dksX6_cameOf_0 15 rfl rfl)
theorem dX6_cameOf_18 : decode cX6_cameOf 18 = .ok (.iload_n 1, 1) := dk_27 (dk_at dksX6_cameOf_0 18 rfl rfl)
theorem dX6_cameOf_19 : decode cX6_cameOf 19 = .ok (.iaload, 1) := dk_46 (dk_at dksX6_cameOf_0 19 rfl rfl)
theorem dX6_cameOf_20 : decode cX6_cameOf 20 = .ok (.goto 23, 3) := dk_167 0 23 (dk_at dksX6_cameOf_0 20 rfl rfl)
theorem dX6_cameOf_23 : decode cX6_cameOf 23 = .ok (.iload_n 2, 1) := dk_28 (dk_at dksX6_cameOf_0 23 rfl rfl)
theorem dX6_cameOf_24 : decode cX6_cameOf 24 = .ok (.iconst 1, 1) := dk_4 (dk_at dksX6_cameOf_1 0 rfl rfl)
theorem dX6_cameOf_25 : decode cX6_cameOf 25 = .ok (.if_icmp .ne 12, 3) := dk_160 0 12 (dk_at dksX6_cameOf_1 1 rfl rfl)
theorem dX6_cameOf_28 : decode cX6_cameOf 28 = .ok (.aload_n 0, 1) := dk_42 (dk_at dksX6_cameOf_1 4 rfl rfl)
theorem dX6_cameOf_29 : decode cX6_cameOf 29 = .ok (.getfield 61, 3) := dk_180 0 61 (dk_at dksX6_cameOf_1 5 rfl rfl)
theorem dX6_cameOf_32 : decode cX6_cameOf 32 = .ok (.iload_n 1, 1) := dk_27 (dk_at dksX6_cameOf_1 8 rfl rfl)
theorem dX6_cameOf_33 : decode cX6_cameOf 33 = .ok (.iaload, 1) := dk_46 (dk_at dksX6_cameOf_1 9 rfl rfl)
theorem dX6_cameOf_34 : decode cX6_cameOf 34 = .ok (.goto 9, 3) := dk_167 0 9 (dk_at dksX6_cameOf_1 10 rfl rfl)
theorem dX6_cameOf_37 : decode cX6_cameOf 37 = .ok (.aload_n 0, 1) := dk_42 (dk_at dksX6_cameOf_1 13 rfl rfl)
theorem dX6_cameOf_38 : decode cX6_cameOf 38 = .ok (.getfield 64, 3) := dk_180 0 64 (dk_at dksX6_cameOf_1 14 rfl rfl)
theorem dX6_cameOf_41 : decode cX6_cameOf 41 = .ok (.iload_n 1, 1) := dk_27 (dk_at dksX6_cameOf_1 17 rfl rfl)
theorem dX6_cameOf_42 : decode cX6_cameOf 42 = .ok (.iaload, 1) := dk_46 (dk_at dksX6_cameOf_1 18 rfl rfl)
theorem dX6_cameOf_43 : decode cX6_cameOf 43 = .ok (.ireturn, 1) := dk_172 (dk_at dksX6_cameOf_1 19 rfl rfl)
def dkwX6_interest_1 : List UInt8 := [17, 252, 22, 172]
abbrev dktX6_interest_1 : List UInt8 := dkwX6_interest_1 ++ []
def dkwX6_interest_0 : List UInt8 := [42, 182, 0, 137, 27, 184, 0, 150, 153, 0, 15, 42, 27, 42, 180, 0, 73, 182, 0, 207, 167, 0, 6]
abbrev dktX6_interest_0 : List UInt8 := dkwX6_interest_0 ++ dktX6_interest_1
theorem dksX6_interest_0 : cX6_interest.data.toList.drop 0 = dktX6_interest_0 := by decide +kernel
theorem dksX6_interest_1 : cX6_interest.data.toList.drop 23 = dktX6_interest_1 := dk_seg dksX6_interest_0 23 rfl rfl
theorem dX6_interest_0 : decode cX6_interest 0 = .ok (.aload_n 0, 1) := dk_42 (dk_at dksX6_interest_0 0 rfl rfl)
theorem dX6_interest_1 : decode cX6_interest 1 = .ok (.invokevirtual 137, 3) := dk_182 0 137 (dk_at dksX6_interest_0 1 rfl rfl)
theorem dX6_interest_4 : decode cX6_interest 4 = .ok (.iload_n 1, 1) := dk_27 (dk_at dksX6_interest_0 4 rfl rfl)
theorem dX6_interest_5 : decode cX6_interest 5 = .ok (.invokestatic 150, 3) := dk_184 0 150 (dk_at dksX6_interest_0 5 rfl rfl)
theorem dX6_interest_8 : decode cX6_interest 8 = .ok (.ifCond .eq 15, 3) := dk_153 0 15 (dk_at dksX6_interest_0 8 rfl rfl)
theorem dX6_interest_11 : decode cX6_interest 11 = .ok (.aload_n 0, 1) := dk_42 (dk_at dksX6_interest_0 11 rfl rfl)
theorem dX6_interest_12 : decode cX6_interest 12 = .ok (.iload_n 1, 1) := dk_27 (dk_at dksX6_interest_0 12 rfl rfl)
theorem dX6_interest_13 : decode cX6_interest 13 = .ok (.aload_n 0, 1) := dk_42 (dk_at dksX6_interest_0 13 rfl rfl)
theorem dX6_interest_14 : decode cX6_interest 14 = .ok (.getfield 73, 3) := dk_180 0 73 (dk_at dksX6_interest_0 14 rfl rfl)
theorem dX6_interest_17 : decode cX6_interest 17 = .ok (.invokevirtual 207, 3) := dk_182 0 207 (dk_at dksX6_interest_0 17 rfl rfl)
theorem dX6_interest_20 : decode cX6_interest 20 = .ok (.goto 6, 3) := dk_167 0 6 (dk_at dksX6_interest_0 20 rfl rfl)
theorem dX6_interest_23 : decode cX6_interest 23 = .ok (.sipush (-1002), 3) := dk_17 252 22 (dk_at dksX6_interest_1 0 rfl rfl)
theorem dX6_interest_26 : decode cX6_interest 26 = .ok (.ireturn, 1) := dk_172 (dk_at dksX6_interest_1 3 rfl rfl)
def dkwX6_interestBy_1 : List UInt8 := [180, 0, 43, 21, 4, 46, 42, 180, 0, 31, 21, 4, 46, 100, 96, 62, 132, 4, 1, 167, 255, 226, 29, 172]
abbrev dktX6_interestBy_1 : List UInt8 := dkwX6_interestBy_1 ++ []
def dkwX6_interestBy_0 : List UInt8 := [42, 27, 28, 182, 0, 195, 3, 62, 3, 54, 4, 21, 4, 42, 180, 0, 112, 162, 0, 27, 29, 42]
abbrev dktX6_interestBy_0 : List UInt8 := dkwX6_interestBy_0 ++ dktX6_interestBy_1
theorem dksX6_interestBy_0 : cX6_interestBy.data.toList.drop 0 = dktX6_interestBy_0 := by decide +kernel
theorem dksX6_interestBy_1 : cX6_interestBy.data.toList.drop 22 = dktX6_interestBy_1 := dk_seg dksX6_interestBy_0 22 rfl rfl
theorem dX6_interestBy_0 : decode cX6_interestBy 0 = .ok (.aload_n 0, 1) := dk_42 (dk_at dksX6_interestBy_0 0 rfl rfl)
theorem dX6_interestBy_1 : decode cX6_interestBy 1 = .ok (.iload_n 1, 1) := dk_27 (dk_at dksX6_interestBy_0 1 rfl rfl)
theorem dX6_interestBy_2 : decode cX6_interestBy 2 = .ok (.iload_n 2, 1) := dk_28 (dk_at dksX6_interestBy_0 2 rfl rfl)
theorem dX6_interestBy_3 : decode cX6_interestBy 3 = .ok (.invokevirtual 195, 3) := dk_182 0 195 (dk_at dksX6_interestBy_0 3 rfl rfl)
theorem dX6_interestBy_6 : decode cX6_interestBy 6 = .ok (.iconst 0, 1) := dk_3 (dk_at dksX6_interestBy_0 6 rfl rfl)
theorem dX6_interestBy_7 : decode cX6_interestBy 7 = .ok (.istore_n 3, 1) := dk_62 (dk_at dksX6_interestBy_0 7 rfl rfl)
theorem dX6_interestBy_8 : decode cX6_interestBy 8 = .ok (.iconst 0, 1) := dk_3 (dk_at dksX6_interestBy_0 8 rfl rfl)
theorem dX6_interestBy_9 : decode cX6_interestBy 9 = .ok (.istore 4, 2) := dk_54 4 (dk_at dksX6_interestBy_0 9 rfl rfl)
theorem dX6_interestBy_11 : decode cX6_interestBy 11 = .ok (.iload 4, 2) := dk_21 4 (dk_at dksX6_interestBy_0 11 rfl rfl)
theorem dX6_interestBy_13 : decode cX6_interestBy 13 = .ok (.aload_n 0, 1) := dk_42 (dk_at dksX6_interestBy_0 13 rfl rfl)
theorem dX6_interestBy_14 : decode cX6_interestBy 14 = .ok (.getfield 112, 3) := dk_180 0 112 (dk_at dksX6_interestBy_0 14 rfl rfl)
theorem dX6_interestBy_17 : decode cX6_interestBy 17 = .ok (.if_icmp .ge 27, 3) := dk_162 0 27 (dk_at dksX6_interestBy_0 17 rfl rfl)
theorem dX6_interestBy_20 : decode cX6_interestBy 20 = .ok (.iload_n 3, 1) := dk_29 (dk_at dksX6_interestBy_0 20 rfl rfl)
theorem dX6_interestBy_21 : decode cX6_interestBy 21 = .ok (.aload_n 0, 1) := dk_42 (dk_at dksX6_interestBy_0 21 rfl rfl)
theorem dX6_interestBy_22 : decode cX6_interestBy 22 = .ok (.getfield 43, 3) := dk_180 0 43 (dk_at dksX6_interestBy_1 0 rfl rfl)
theorem dX6_interestBy_25 : decode cX6_interestBy 25 = .ok (.iload 4, 2) := dk_21 4 (dk_at dksX6_interestBy_1 3 rfl rfl)
theorem dX6_interestBy_27 : decode cX6_interestBy 27 = .ok (.iaload, 1) := dk_46 (dk_at dksX6_interestBy_1 5 rfl rfl)
theorem dX6_interestBy_28 : decode cX6_interestBy 28 = .ok (.aload_n 0, 1) := dk_42 (dk_at dksX6_interestBy_1 6 rfl rfl)
theorem dX6_interestBy_29 : decode cX6_interestBy 29 = .ok (.getfield 31, 3) := dk_180 0 31 (dk_at dksX6_interestBy_1 7 rfl rfl)
theorem dX6_interestBy_32 : decode cX6_interestBy 32 = .ok (.iload 4, 2) := dk_21 4 (dk_at dksX6_interestBy_1 10 rfl rfl)
theorem dX6_interestBy_34 : decode cX6_interestBy 34 = .ok (.iaload, 1) := dk_46 (dk_at dksX6_interestBy_1 12 rfl rfl)
theorem dX6_interestBy_35 : decode cX6_interestBy 35 = .ok (.isub, 1) := dk_100 (dk_at dksX6_interestBy_1 13 rfl rfl)
theorem dX6_interestBy_36 : decode cX6_interestBy 36 = .ok (.iadd, 1) := dk_96 (dk_at dksX6_interestBy_1 14 rfl rfl)
theorem dX6_interestBy_37 : decode cX6_interestBy 37 = .ok (.istore_n 3, 1) := dk_62 (dk_at dksX6_interestBy_1 15 rfl rfl)
theorem dX6_interestBy_38 : decode cX6_interestBy 38 = .ok (.iinc 4 1, 3) := dk_132 4 1 (dk_at dksX6_interestBy_1 16 rfl rfl)
theorem dX6_interestBy_41 : decode cX6_interestBy 41 = .ok (.goto (-30), 3) := dk_167 255 226 (dk_at dksX6_interestBy_1 19 rfl rfl)
theorem dX6_interestBy_44 : decode cX6_interestBy 44 = .ok (.iload_n 3, 1) := dk_29 (dk_at dksX6_interestBy_1 22 rfl rfl)
theorem dX6_interestBy_45 : decode cX6_interestBy 45 = .ok (.ireturn, 1) := dk_172 (dk_at dksX6_interestBy_1 23 rfl rfl)
def dkwX6_home_0 : List UInt8 := [42, 182, 0, 137, 27, 184, 0, 150, 153, 0, 11, 42, 27, 182, 0, 210, 167, 0, 5, 16, 254, 172]
abbrev dktX6_home_0 : List UInt8 := dkwX6_home_0 ++ []
theorem dksX6_home_0 : cX6_home.data.toList.drop 0 = dktX6_home_0 := by decide +kernel
theorem dX6_home_0 : decode cX6_home 0 = .ok (.aload_n 0, 1) := dk_42 (dk_at dksX6_home_0 0 rfl rfl)
theorem dX6_home_1 : decode cX6_home 1 = .ok (.invokevirtual 137, 3) := dk_182 0 137 (dk_at dksX6_home_0 1 rfl rfl)
theorem dX6_home_4 : decode cX6_home 4 = .ok (.iload_n 1, 1) := dk_27 (dk_at dksX6_home_0 4 rfl rfl)
theorem dX6_home_5 : decode cX6_home 5 = .ok (.invokestatic 150, 3) := dk_184 0 150 (dk_at dksX6_home_0 5 rfl rfl)
theorem dX6_home_8 : decode cX6_home 8 = .ok (.ifCond .eq 11, 3) := dk_153 0 11 (dk_at dksX6_home_0 8 rfl rfl)
theorem dX6_home_11 : decode cX6_home 11 = .ok (.aload_n 0, 1) := dk_42 (dk_at dksX6_home_0 11 rfl rfl)
theorem dX6_home_12 : decode cX6_home 12 = .ok (.iload_n 1, 1) := dk_27 (dk_at dksX6_home_0 12 rfl rfl)
theorem dX6_home_13 : decode cX6_home 13 = .ok (.invokevirtual 210, 3) := dk_182 0 210 (dk_at dksX6_home_0 13 rfl rfl)
theorem dX6_home_16 : decode cX6_home 16 = .ok (.goto 5, 3) := dk_167 0 5 (dk_at dksX6_home_0 16 rfl rfl)
theorem dX6_home_19 : decode cX6_home 19 = .ok (.bipush (-2), 2) := dk_16 254 (dk_at dksX6_home_0 19 rfl rfl)
theorem dX6_home_21 : decode cX6_home 21 = .ok (.ireturn, 1) := dk_172 (dk_at dksX6_home_0 21 rfl rfl)
def dkwX6_homeOf_3 : List UInt8 := [167, 255, 223, 29, 153, 0, 5, 28, 172, 132, 2, 1, 167, 255, 182, 2, 172]
abbrev dktX6_homeOf_3 : List UInt8 := dkwX6_homeOf_3 ++ []
def dkwX6_homeOf_2 : List UInt8 := [153, 0, 18, 42, 180, 0, 52, 21, 4, 46, 2, 160, 0, 7, 4, 167, 0, 4, 3, 62, 132, 4, 1]
abbrev dktX6_homeOf_2 : List UInt8 := dkwX6_homeOf_2 ++ dktX6_homeOf_3
def dkwX6_homeOf_1 : List UInt8 := [161, 0, 7, 4, 167, 0, 4, 3, 62, 3, 54, 4, 21, 4, 42, 180, 0, 112, 162, 0, 30, 29]
abbrev dktX6_homeOf_1 : List UInt8 := dkwX6_homeOf_1 ++ dktX6_homeOf_2
def dkwX6_homeOf_0 : List UInt8 := [42, 182, 0, 189, 3, 61, 28, 16, 40, 162, 0, 74, 42, 28, 42, 180, 0, 73, 182, 0, 192, 28, 27]
abbrev dktX6_homeOf_0 : List UInt8 := dkwX6_homeOf_0 ++ dktX6_homeOf_1
theorem dksX6_homeOf_0 : cX6_homeOf.data.toList.drop 0 = dktX6_homeOf_0 := by decide +kernel
theorem dksX6_homeOf_1 : cX6_homeOf.data.toList.drop 23 = dktX6_homeOf_1 := dk_seg dksX6_homeOf_0 23 rfl rfl
theorem dksX6_homeOf_2 : cX6_homeOf.data.toList.drop 45 = dktX6_homeOf_2 := dk_seg dksX6_homeOf_1 22 rfl rfl
theorem dksX6_homeOf_3 : cX6_homeOf.data.toList.drop 68 = dktX6_homeOf_3 := dk_seg dksX6_homeOf_2 23 rfl rfl
theorem dX6_homeOf_0 : decode cX6_homeOf 0 = .ok (.aload_n 0, 1) := dk_42 (dk_at dksX6_homeOf_0 0 rfl rfl)
theorem dX6_homeOf_1 : decode cX6_homeOf 1 = .ok (.invokevirtual 189, 3) := dk_182 0 189 (dk_at dksX6_homeOf_0 1 rfl rfl)
theorem dX6_homeOf_4 : decode cX6_homeOf 4 = .ok (.iconst 0, 1) := dk_3 (dk_at dksX6_homeOf_0 4 rfl rfl)
theorem dX6_homeOf_5 : decode cX6_homeOf 5 = .ok (.istore_n 2, 1) := dk_61 (dk_at dksX6_homeOf_0 5 rfl rfl)
theorem dX6_homeOf_6 : decode cX6_homeOf 6 = .ok (.iload_n 2, 1) := dk_28 (dk_at dksX6_homeOf_0 6 rfl rfl)
theorem dX6_homeOf_7 : decode cX6_homeOf 7 = .ok (.bipush 40, 2) := dk_16 40 (dk_at dksX6_homeOf_0 7 rfl rfl)
theorem dX6_homeOf_9 : decode cX6_homeOf 9 = .ok (.if_icmp .ge 74, 3) := dk_162 0 74 (dk_at dksX6_homeOf_0 9 rfl rfl)
theorem dX6_homeOf_12 : decode cX6_homeOf 12 = .ok (.aload_n 0, 1) := dk_42 (dk_at dksX6_homeOf_0 12 rfl rfl)
theorem dX6_homeOf_13 : decode cX6_homeOf 13 = .ok (.iload_n 2, 1) := dk_28 (dk_at dksX6_homeOf_0 13 rfl rfl)
theorem dX6_homeOf_14 : decode cX6_homeOf 14 = .ok (.aload_n 0, 1) := dk_42 (dk_at dksX6_homeOf_0 14 rfl rfl)
theorem dX6_homeOf_15 : decode cX6_homeOf 15 = .ok (.getfield 73, 3) := dk_180 0 73 (dk_at dksX6_homeOf_0 15 rfl rfl)
theorem dX6_homeOf_18 : decode cX6_homeOf 18 = .ok (.invokevirtual 192, 3) := dk_182 0 192 (dk_at dksX6_homeOf_0 18 rfl rfl)
theorem dX6_homeOf_21 : decode cX6_homeOf 21 = .ok (.iload_n 2, 1) := dk_28 (dk_at dksX6_homeOf_0 21 rfl rfl)
theorem dX6_homeOf_22 : decode cX6_homeOf 22 = .ok (.iload_n 1, 1) := dk_27 (dk_at dksX6_homeOf_0 22 rfl rfl)
theorem dX6_homeOf_23 : decode cX6_homeOf 23 = .ok (.if_icmp .lt 7, 3) := dk_161 0 7 (dk_at dksX6_homeOf_1 0 rfl rfl)
theorem dX6_homeOf_26 : decode cX6_homeOf 26 = .ok (.iconst 1, 1) := dk_4 (dk_at dksX6_homeOf_1 3 rfl rfl)
theorem dX6_homeOf_27 : decode cX6_homeOf 27 = .ok (.goto 4, 3) := dk_167 0 4 (dk_at dksX6_homeOf_1 4 rfl rfl)
theorem dX6_homeOf_30 : decode cX6_homeOf 30 = .ok (.iconst 0, 1) := dk_3 (dk_at dksX6_homeOf_1 7 rfl rfl)
theorem dX6_homeOf_31 : decode cX6_homeOf 31 = .ok (.istore_n 3, 1) := dk_62 (dk_at dksX6_homeOf_1 8 rfl rfl)
theorem dX6_homeOf_32 : decode cX6_homeOf 32 = .ok (.iconst 0, 1) := dk_3 (dk_at dksX6_homeOf_1 9 rfl rfl)
theorem dX6_homeOf_33 : decode cX6_homeOf 33 = .ok (.istore 4, 2) := dk_54 4 (dk_at dksX6_homeOf_1 10 rfl rfl)
theorem dX6_homeOf_35 : decode cX6_homeOf 35 = .ok (.iload 4, 2) := dk_21 4 (dk_at dksX6_homeOf_1 12 rfl rfl)
theorem dX6_homeOf_37 : decode cX6_homeOf 37 = .ok (.aload_n 0, 1) := dk_42 (dk_at dksX6_homeOf_1 14 rfl rfl)
theorem dX6_homeOf_38 : decode cX6_homeOf 38 = .ok (.getfield 112, 3) := dk_180 0 112 (dk_at dksX6_homeOf_1 15 rfl rfl)
theorem dX6_homeOf_41 : decode cX6_homeOf 41 = .ok (.if_icmp .ge 30, 3) := dk_162 0 30 (dk_at dksX6_homeOf_1 18 rfl rfl)
theorem dX6_homeOf_44 : decode cX6_homeOf 44 = .ok (.iload_n 3, 1) := dk_29 (dk_at dksX6_homeOf_1 21 rfl rfl)
theorem dX6_homeOf_45 : decode cX6_homeOf 45 = .ok (.ifCond .eq 18, 3) := dk_153 0 18 (dk_at dksX6_homeOf_2 0 rfl rfl)
theorem dX6_homeOf_48 : decode cX6_homeOf 48 = .ok (.aload_n 0, 1) := dk_42 (dk_at dksX6_homeOf_2 3 rfl rfl)
theorem dX6_homeOf_49 : decode cX6_homeOf 49 = .ok (.getfield 52, 3) := dk_180 0 52 (dk_at dksX6_homeOf_2 4 rfl rfl)
theorem dX6_homeOf_52 : decode cX6_homeOf 52 = .ok (.iload 4, 2) := dk_21 4 (dk_at dksX6_homeOf_2 7 rfl rfl)
theorem dX6_homeOf_54 : decode cX6_homeOf 54 = .ok (.iaload, 1) := dk_46 (dk_at dksX6_homeOf_2 9 rfl rfl)
theorem dX6_homeOf_55 : decode cX6_homeOf 55 = .ok (.iconst (-1), 1) := dk_2 (dk_at dksX6_homeOf_2 10 rfl rfl)
theorem dX6_homeOf_56 : decode cX6_homeOf 56 = .ok (.if_icmp .ne 7, 3) := dk_160 0 7 (dk_at dksX6_homeOf_2 11 rfl rfl)
theorem dX6_homeOf_59 : decode cX6_homeOf 59 = .ok (.iconst 1, 1) := dk_4 (dk_at dksX6_homeOf_2 14 rfl rfl)
theorem dX6_homeOf_60 : decode cX6_homeOf 60 = .ok (.goto 4, 3) := dk_167 0 4 (dk_at dksX6_homeOf_2 15 rfl rfl)
theorem dX6_homeOf_63 : decode cX6_homeOf 63 = .ok (.iconst 0, 1) := dk_3 (dk_at dksX6_homeOf_2 18 rfl rfl)
theorem dX6_homeOf_64 : decode cX6_homeOf 64 = .ok (.istore_n 3, 1) := dk_62 (dk_at dksX6_homeOf_2 19 rfl rfl)
theorem dX6_homeOf_65 : decode cX6_homeOf 65 = .ok (.iinc 4 1, 3) := dk_132 4 1 (dk_at dksX6_homeOf_2 20 rfl rfl)
theorem dX6_homeOf_68 : decode cX6_homeOf 68 = .ok (.goto (-33), 3) := dk_167 255 223 (dk_at dksX6_homeOf_3 0 rfl rfl)
theorem dX6_homeOf_71 : decode cX6_homeOf 71 = .ok (.iload_n 3, 1) := dk_29 (dk_at dksX6_homeOf_3 3 rfl rfl)
theorem dX6_homeOf_72 : decode cX6_homeOf 72 = .ok (.ifCond .eq 5, 3) := dk_153 0 5 (dk_at dksX6_homeOf_3 4 rfl rfl)
theorem dX6_homeOf_75 : decode cX6_homeOf 75 = .ok (.iload_n 2, 1) := dk_28 (dk_at dksX6_homeOf_3 7 rfl rfl)
theorem dX6_homeOf_76 : decode cX6_homeOf 76 = .ok (.ireturn, 1) := dk_172 (dk_at dksX6_homeOf_3 8 rfl rfl)
theorem dX6_homeOf_77 : decode cX6_homeOf 77 = .ok (.iinc 2 1, 3) := dk_132 2 1 (dk_at dksX6_homeOf_3 9 rfl rfl)
theorem dX6_homeOf_80 : decode cX6_homeOf 80 = .ok (.goto (-74), 3) := dk_167 255 182 (dk_at dksX6_homeOf_3 12 rfl rfl)
theorem dX6_homeOf_83 : decode cX6_homeOf 83 = .ok (.iconst (-1), 1) := dk_2 (dk_at dksX6_homeOf_3 15 rfl rfl)
theorem dX6_homeOf_84 : decode cX6_homeOf 84 = .ok (.ireturn, 1) := dk_172 (dk_at dksX6_homeOf_3 16 rfl rfl)
def dkwX6_lend_2 : List UInt8 := [16, 254, 172]
abbrev dktX6_lend_2 : List UInt8 := dkwX6_lend_2 ++ []
def dkwX6_lend_1 : List UInt8 := [29, 133, 20, 0, 143, 20, 0, 92, 184, 0, 79, 153, 0, 13, 42, 27, 28, 29, 182, 0, 228, 167, 0, 5]
abbrev dktX6_lend_1 : List UInt8 := dkwX6_lend_1 ++ dktX6_lend_2
def dkwX6_lend_0 : List UInt8 := [42, 182, 0, 137, 42, 27, 182, 0, 140, 153, 0, 39, 28, 133, 9, 20, 0, 226, 184, 0, 79, 153, 0, 27]
abbrev dktX6_lend_0 : List UInt8 := dkwX6_lend_0 ++ dktX6_lend_1
theorem dksX6_lend_0 : cX6_lend.data.toList.drop 0 = dktX6_lend_0 := by decide +kernel
theorem dksX6_lend_1 : cX6_lend.data.toList.drop 24 = dktX6_lend_1 := dk_seg dksX6_lend_0 24 rfl rfl
theorem dksX6_lend_2 : cX6_lend.data.toList.drop 48 = dktX6_lend_2 := dk_seg dksX6_lend_1 24 rfl rfl
theorem dX6_lend_0 : decode cX6_lend 0 = .ok (.aload_n 0, 1) := dk_42 (dk_at dksX6_lend_0 0 rfl rfl)
theorem dX6_lend_1 : decode cX6_lend 1 = .ok (.invokevirtual 137, 3) := dk_182 0 137 (dk_at dksX6_lend_0 1 rfl rfl)
theorem dX6_lend_4 : decode cX6_lend 4 = .ok (.aload_n 0, 1) := dk_42 (dk_at dksX6_lend_0 4 rfl rfl)
theorem dX6_lend_5 : decode cX6_lend 5 = .ok (.iload_n 1, 1) := dk_27 (dk_at dksX6_lend_0 5 rfl rfl)
theorem dX6_lend_6 : decode cX6_lend 6 = .ok (.invokevirtual 140, 3) := dk_182 0 140 (dk_at dksX6_lend_0 6 rfl rfl)
theorem dX6_lend_9 : decode cX6_lend 9 = .ok (.ifCond .eq 39, 3) := dk_153 0 39 (dk_at dksX6_lend_0 9 rfl rfl)
theorem dX6_lend_12 : decode cX6_lend 12 = .ok (.iload_n 2, 1) := dk_28 (dk_at dksX6_lend_0 12 rfl rfl)
theorem dX6_lend_13 : decode cX6_lend 13 = .ok (.i2l, 1) := dk_133 (dk_at dksX6_lend_0 13 rfl rfl)
theorem dX6_lend_14 : decode cX6_lend 14 = .ok (.lconst 0, 1) := dk_9 (dk_at dksX6_lend_0 14 rfl rfl)
theorem dX6_lend_15 : decode cX6_lend 15 = .ok (.ldc2_w 226, 3) := dk_20 0 226 (dk_at dksX6_lend_0 15 rfl rfl)
theorem dX6_lend_18 : decode cX6_lend 18 = .ok (.invokestatic 79, 3) := dk_184 0 79 (dk_at dksX6_lend_0 18 rfl rfl)
theorem dX6_lend_21 : decode cX6_lend 21 = .ok (.ifCond .eq 27, 3) := dk_153 0 27 (dk_at dksX6_lend_0 21 rfl rfl)
theorem dX6_lend_24 : decode cX6_lend 24 = .ok (.iload_n 3, 1) := dk_29 (dk_at dksX6_lend_1 0 rfl rfl)
theorem dX6_lend_25 : decode cX6_lend 25 = .ok (.i2l, 1) := dk_133 (dk_at dksX6_lend_1 1 rfl rfl)
theorem dX6_lend_26 : decode cX6_lend 26 = .ok (.ldc2_w 143, 3) := dk_20 0 143 (dk_at dksX6_lend_1 2 rfl rfl)
theorem dX6_lend_29 : decode cX6_lend 29 = .ok (.ldc2_w 92, 3) := dk_20 0 92 (dk_at dksX6_lend_1 5 rfl rfl)
theorem dX6_lend_32 : decode cX6_lend 32 = .ok (.invokestatic 79, 3) := dk_184 0 79 (dk_at dksX6_lend_1 8 rfl rfl)
theorem dX6_lend_35 : decode cX6_lend 35 = .ok (.ifCond .eq 13, 3) := dk_153 0 13 (dk_at dksX6_lend_1 11 rfl rfl)
theorem dX6_lend_38 : decode cX6_lend 38 = .ok (.aload_n 0, 1) := dk_42 (dk_at dksX6_lend_1 14 rfl rfl)
theorem dX6_lend_39 : decode cX6_lend 39 = .ok (.iload_n 1, 1) := dk_27 (dk_at dksX6_lend_1 15 rfl rfl)
theorem dX6_lend_40 : decode cX6_lend 40 = .ok (.iload_n 2, 1) := dk_28 (dk_at dksX6_lend_1 16 rfl rfl)
theorem dX6_lend_41 : decode cX6_lend 41 = .ok (.iload_n 3, 1) := dk_29 (dk_at dksX6_lend_1 17 rfl rfl)
theorem dX6_lend_42 : decode cX6_lend 42 = .ok (.invokevirtual 228, 3) := dk_182 0 228 (dk_at dksX6_lend_1 18 rfl rfl)
theorem dX6_lend_45 : decode cX6_lend 45 = .ok (.goto 5, 3) := dk_167 0 5 (dk_at dksX6_lend_1 21 rfl rfl)
theorem dX6_lend_48 : decode cX6_lend 48 = .ok (.bipush (-2), 2) := dk_16 254 (dk_at dksX6_lend_2 0 rfl rfl)
theorem dX6_lend_50 : decode cX6_lend 50 = .ok (.ireturn, 1) := dk_172 (dk_at dksX6_lend_2 2 rfl rfl)
def dkwX6_lendOf_3 : List UInt8 := [172, 132, 5, 1, 167, 255, 192, 132, 4, 1, 167, 255, 177, 2, 172]
abbrev dktX6_lendOf_3 : List UInt8 := dkwX6_lendOf_3 ++ []
def dkwX6_lendOf_2 : List UInt8 := [21, 4, 167, 0, 22, 29, 21, 4, 162, 0, 15, 42, 21, 5, 21, 4, 29, 182, 0, 213, 167, 0, 4, 2]
abbrev dktX6_lendOf_2 : List UInt8 := dkwX6_lendOf_2 ++ dktX6_lendOf_3
def dkwX6_lendOf_1 : List UInt8 := [27, 21, 5, 21, 4, 182, 0, 219, 28, 42, 182, 0, 223, 2, 130, 126, 154, 0, 33, 29, 2, 160, 0, 8]
abbrev dktX6_lendOf_1 : List UInt8 := dkwX6_lendOf_1 ++ dktX6_lendOf_2
def dkwX6_lendOf_0 : List UInt8 := [3, 54, 4, 21, 4, 7, 162, 0, 79, 3, 54, 5, 21, 5, 42, 21, 4, 182, 0, 216, 162, 0, 59, 42]
abbrev dktX6_lendOf_0 : List UInt8 := dkwX6_lendOf_0 ++ dktX6_lendOf_1
theorem dksX6_lendOf_0 : cX6_lendOf.data.toList.drop 0 = dktX6_lendOf_0 := by decide +kernel
theorem dksX6_lendOf_1 : cX6_lendOf.data.toList.drop 24 = dktX6_lendOf_1 := dk_seg dksX6_lendOf_0 24 rfl rfl
theorem dksX6_lendOf_2 : cX6_lendOf.data.toList.drop 48 = dktX6_lendOf_2 := dk_seg dksX6_lendOf_1 24 rfl rfl
theorem dksX6_lendOf_3 : cX6_lendOf.data.toList.drop 72 = dktX6_lendOf_3 := dk_seg dksX6_lendOf_2 24 rfl rfl
theorem dX6_lendOf_0 : decode cX6_lendOf 0 = .ok (.iconst 0, 1) := dk_3 (dk_at dksX6_lendOf_0 0 rfl rfl)
theorem dX6_lendOf_1 : decode cX6_lendOf 1 = .ok (.istore 4, 2) := dk_54 4 (dk_at dksX6_lendOf_0 1 rfl rfl)
theorem dX6_lendOf_3 : decode cX6_lendOf 3 = .ok (.iload 4, 2) := dk_21 4 (dk_at dksX6_lendOf_0 3 rfl rfl)
theorem dX6_lendOf_5 : decode cX6_lendOf 5 = .ok (.iconst 4, 1) := dk_7 (dk_at dksX6_lendOf_0 5 rfl rfl)
theorem dX6_lendOf_6 : decode cX6_lendOf 6 = .ok (.if_icmp .ge 79, 3) := dk_162 0 79 (dk_at dksX6_lendOf_0 6 rfl rfl)
theorem dX6_lendOf_9 : decode cX6_lendOf 9 = .ok (.iconst 0, 1) := dk_3 (dk_at dksX6_lendOf_0 9 rfl rfl)
theorem dX6_lendOf_10 : decode cX6_lendOf 10 = .ok (.istore 5, 2) := dk_54 5 (dk_at dksX6_lendOf_0 10 rfl rfl)
theorem dX6_lendOf_12 : decode cX6_lendOf 12 = .ok (.iload 5, 2) := dk_21 5 (dk_at dksX6_lendOf_0 12 rfl rfl)
theorem dX6_lendOf_14 : decode cX6_lendOf 14 = .ok (.aload_n 0, 1) := dk_42 (dk_at dksX6_lendOf_0 14 rfl rfl)
theorem dX6_lendOf_15 : decode cX6_lendOf 15 = .ok (.iload 4, 2) := dk_21 4 (dk_at dksX6_lendOf_0 15 rfl rfl)
theorem dX6_lendOf_17 : decode cX6_lendOf 17 = .ok (.invokevirtual 216, 3) := dk_182 0 216 (dk_at dksX6_lendOf_0 17 rfl rfl)
theorem dX6_lendOf_20 : decode cX6_lendOf 20 = .ok (.if_icmp .ge 59, 3) := dk_162 0 59 (dk_at dksX6_lendOf_0 20 rfl rfl)
theorem dX6_lendOf_23 : decode cX6_lendOf 23 = .ok (.aload_n 0, 1) := dk_42 (dk_at dksX6_lendOf_0 23 rfl rfl)
theorem dX6_lendOf_24 : decode cX6_lendOf 24 = .ok (.iload_n 1, 1) := dk_27 (dk_at dksX6_lendOf_1 0 rfl rfl)
theorem dX6_lendOf_25 : decode cX6_lendOf 25 = .ok (.iload 5, 2) := dk_21 5 (dk_at dksX6_lendOf_1 1 rfl rfl)
theorem dX6_lendOf_27 : decode cX6_lendOf 27 = .ok (.iload 4, 2) := dk_21 4 (dk_at dksX6_lendOf_1 3 rfl rfl)
theorem dX6_lendOf_29 : decode cX6_lendOf 29 = .ok (.invokevirtual 219, 3) := dk_182 0 219 (dk_at dksX6_lendOf_1 5 rfl rfl)
theorem dX6_lendOf_32 : decode cX6_lendOf 32 = .ok (.iload_n 2, 1) := dk_28 (dk_at dksX6_lendOf_1 8 rfl rfl)
theorem dX6_lendOf_33 : decode cX6_lendOf 33 = .ok (.aload_n 0, 1) := dk_42 (dk_at dksX6_lendOf_1 9 rfl rfl)
theorem dX6_lendOf_34 : decode cX6_lendOf 34 = .ok (.invokevirtual 223, 3) := dk_182 0 223 (dk_at dksX6_lendOf_1 10 rfl rfl)
theorem dX6_lendOf_37 : decode cX6_lendOf 37 = .ok (.iconst (-1), 1) := dk_2 (dk_at dksX6_lendOf_1 13 rfl rfl)
theorem dX6_lendOf_38 : decode cX6_lendOf 38 = .ok (.ixor, 1) := dk_130 (dk_at dksX6_lendOf_1 14 rfl rfl)
theorem dX6_lendOf_39 : decode cX6_lendOf 39 = .ok (.iand, 1) := dk_126 (dk_at dksX6_lendOf_1 15 rfl rfl)
theorem dX6_lendOf_40 : decode cX6_lendOf 40 = .ok (.ifCond .ne 33, 3) := dk_154 0 33 (dk_at dksX6_lendOf_1 16 rfl rfl)
theorem dX6_lendOf_43 : decode cX6_lendOf 43 = .ok (.iload_n 3, 1) := dk_29 (dk_at dksX6_lendOf_1 19 rfl rfl)
theorem dX6_lendOf_44 : decode cX6_lendOf 44 = .ok (.iconst (-1), 1) := dk_2 (dk_at dksX6_lendOf_1 20 rfl rfl)
theorem dX6_lendOf_45 : decode cX6_lendOf 45 = .ok (.if_icmp .ne 8, 3) := dk_160 0 8 (dk_at dksX6_lendOf_1 21 rfl rfl)
theorem dX6_lendOf_48 : decode cX6_lendOf 48 = .ok (.iload 4, 2) := dk_21 4 (dk_at dksX6_lendOf_2 0 rfl rfl)
theorem dX6_lendOf_50 : decode cX6_lendOf 50 = .ok (.goto 22, 3) := dk_167 0 22 (dk_at dksX6_lendOf_2 2 rfl rfl)
theorem dX6_lendOf_53 : decode cX6_lendOf 53 = .ok (.iload_n 3, 1) := dk_29 (dk_at dksX6_lendOf_2 5 rfl rfl)
theorem dX6_lendOf_54 : decode cX6_lendOf 54 = .ok (.iload 4, 2) := dk_21 4 (dk_at dksX6_lendOf_2 6 rfl rfl)
theorem dX6_lendOf_56 : decode cX6_lendOf 56 = .ok (.if_icmp .ge 15, 3) := dk_162 0 15 (dk_at dksX6_lendOf_2 8 rfl rfl)
theorem dX6_lendOf_59 : decode cX6_lendOf 59 = .ok (.aload_n 0, 1) := dk_42 (dk_at dksX6_lendOf_2 11 rfl rfl)
theorem dX6_lendOf_60 : decode cX6_lendOf 60 = .ok (.iload 5, 2) := dk_21 5 (dk_at dksX6_lendOf_2 12 rfl rfl)
theorem dX6_lendOf_62 : decode cX6_lendOf 62 = .ok (.iload 4, 2) := dk_21 4 (dk_at dksX6_lendOf_2 14 rfl rfl)
theorem dX6_lendOf_64 : decode cX6_lendOf 64 = .ok (.iload_n 3, 1) := dk_29 (dk_at dksX6_lendOf_2 16 rfl rfl)
theorem dX6_lendOf_65 : decode cX6_lendOf 65 = .ok (.invokevirtual 213, 3) := dk_182 0 213 (dk_at dksX6_lendOf_2 17 rfl rfl)
theorem dX6_lendOf_68 : decode cX6_lendOf 68 = .ok (.goto 4, 3) := dk_167 0 4 (dk_at dksX6_lendOf_2 20 rfl rfl)
theorem dX6_lendOf_71 : decode cX6_lendOf 71 = .ok (.iconst (-1), 1) := dk_2 (dk_at dksX6_lendOf_2 23 rfl rfl)
theorem dX6_lendOf_72 : decode cX6_lendOf 72 = .ok (.ireturn, 1) := dk_172 (dk_at dksX6_lendOf_3 0 rfl rfl)
theorem dX6_lendOf_73 : decode cX6_lendOf 73 = .ok (.iinc 5 1, 3) := dk_132 5 1 (dk_at dksX6_lendOf_3 1 rfl rfl)
theorem dX6_lendOf_76 : decode cX6_lendOf 76 = .ok (.goto (-64), 3) := dk_167 255 192 (dk_at dksX6_lendOf_3 4 rfl rfl)
theorem dX6_lendOf_79 : decode cX6_lendOf 79 = .ok (.iinc 4 1, 3) := dk_132 4 1 (dk_at dksX6_lendOf_3 7 rfl rfl)
theorem dX6_lendOf_82 : decode cX6_lendOf 82 = .ok (.goto (-79), 3) := dk_167 255 177 (dk_at dksX6_lendOf_3 10 rfl rfl)
theorem dX6_lendOf_85 : decode cX6_lendOf 85 = .ok (.iconst (-1), 1) := dk_2 (dk_at dksX6_lendOf_3 13 rfl rfl)
theorem dX6_lendOf_86 : decode cX6_lendOf 86 = .ok (.ireturn, 1) := dk_172 (dk_at dksX6_lendOf_3 14 rfl rfl)
def dkwX6_codes_0 : List UInt8 := [4, 61, 3, 62, 29, 27, 162, 0, 16, 28, 42, 180, 0, 122, 104, 61, 132, 3, 1, 167, 255, 241, 28, 172]
abbrev dktX6_codes_0 : List UInt8 := dkwX6_codes_0 ++ []
theorem dksX6_codes_0 : cX6_codes.data.toList.drop 0 = dktX6_codes_0 := by decide +kernel
theorem dX6_codes_0 : decode cX6_codes 0 = .ok (.iconst 1, 1) := dk_4 (dk_at dksX6_codes_0 0 rfl rfl)
theorem dX6_codes_1 : decode cX6_codes 1 = .ok (.istore_n 2, 1) := dk_61 (dk_at dksX6_codes_0 1 rfl rfl)
theorem dX6_codes_2 : decode cX6_codes 2 = .ok (.iconst 0, 1) := dk_3 (dk_at dksX6_codes_0 2 rfl rfl)
theorem dX6_codes_3 : decode cX6_codes 3 = .ok (.istore_n 3, 1) := dk_62 (dk_at dksX6_codes_0 3 rfl rfl)
theorem dX6_codes_4 : decode cX6_codes 4 = .ok (.iload_n 3, 1) := dk_29 (dk_at dksX6_codes_0 4 rfl rfl)
theorem dX6_codes_5 : decode cX6_codes 5 = .ok (.iload_n 1, 1) := dk_27 (dk_at dksX6_codes_0 5 rfl rfl)
theorem dX6_codes_6 : decode cX6_codes 6 = .ok (.if_icmp .ge 16, 3) := dk_162 0 16 (dk_at dksX6_codes_0 6 rfl rfl)
theorem dX6_codes_9 : decode cX6_codes 9 = .ok (.iload_n 2, 1) := dk_28 (dk_at dksX6_codes_0 9 rfl rfl)
theorem dX6_codes_10 : decode cX6_codes 10 = .ok (.aload_n 0, 1) := dk_42 (dk_at dksX6_codes_0 10 rfl rfl)
theorem dX6_codes_11 : decode cX6_codes 11 = .ok (.getfield 122, 3) := dk_180 0 122 (dk_at dksX6_codes_0 11 rfl rfl)
theorem dX6_codes_14 : decode cX6_codes 14 = .ok (.imul, 1) := dk_104 (dk_at dksX6_codes_0 14 rfl rfl)
theorem dX6_codes_15 : decode cX6_codes 15 = .ok (.istore_n 2, 1) := dk_61 (dk_at dksX6_codes_0 15 rfl rfl)
theorem dX6_codes_16 : decode cX6_codes 16 = .ok (.iinc 3 1, 3) := dk_132 3 1 (dk_at dksX6_codes_0 16 rfl rfl)
theorem dX6_codes_19 : decode cX6_codes 19 = .ok (.goto (-15), 3) := dk_167 255 241 (dk_at dksX6_codes_0 19 rfl rfl)
theorem dX6_codes_22 : decode cX6_codes 22 = .ok (.iload_n 2, 1) := dk_28 (dk_at dksX6_codes_0 22 rfl rfl)
theorem dX6_codes_23 : decode cX6_codes 23 = .ok (.ireturn, 1) := dk_172 (dk_at dksX6_codes_0 23 rfl rfl)
def dkwX6_turns_1 : List UInt8 := [182, 0, 213, 182, 0, 183, 132, 4, 1, 167, 255, 233, 177]
abbrev dktX6_turns_1 : List UInt8 := dkwX6_turns_1 ++ []
def dkwX6_turns_0 : List UInt8 := [42, 27, 16, 6, 182, 0, 171, 3, 54, 4, 21, 4, 29, 162, 0, 23, 42, 16, 6, 42, 28, 29, 21, 4]
abbrev dktX6_turns_0 : List UInt8 := dkwX6_turns_0 ++ dktX6_turns_1
theorem dksX6_turns_0 : cX6_turns.data.toList.drop 0 = dktX6_turns_0 := by decide +kernel
theorem dksX6_turns_1 : cX6_turns.data.toList.drop 24 = dktX6_turns_1 := dk_seg dksX6_turns_0 24 rfl rfl
theorem dX6_turns_0 : decode cX6_turns 0 = .ok (.aload_n 0, 1) := dk_42 (dk_at dksX6_turns_0 0 rfl rfl)
theorem dX6_turns_1 : decode cX6_turns 1 = .ok (.iload_n 1, 1) := dk_27 (dk_at dksX6_turns_0 1 rfl rfl)
theorem dX6_turns_2 : decode cX6_turns 2 = .ok (.bipush 6, 2) := dk_16 6 (dk_at dksX6_turns_0 2 rfl rfl)
theorem dX6_turns_4 : decode cX6_turns 4 = .ok (.invokevirtual 171, 3) := dk_182 0 171 (dk_at dksX6_turns_0 4 rfl rfl)
theorem dX6_turns_7 : decode cX6_turns 7 = .ok (.iconst 0, 1) := dk_3 (dk_at dksX6_turns_0 7 rfl rfl)
theorem dX6_turns_8 : decode cX6_turns 8 = .ok (.istore 4, 2) := dk_54 4 (dk_at dksX6_turns_0 8 rfl rfl)
theorem dX6_turns_10 : decode cX6_turns 10 = .ok (.iload 4, 2) := dk_21 4 (dk_at dksX6_turns_0 10 rfl rfl)
theorem dX6_turns_12 : decode cX6_turns 12 = .ok (.iload_n 3, 1) := dk_29 (dk_at dksX6_turns_0 12 rfl rfl)
theorem dX6_turns_13 : decode cX6_turns 13 = .ok (.if_icmp .ge 23, 3) := dk_162 0 23 (dk_at dksX6_turns_0 13 rfl rfl)
theorem dX6_turns_16 : decode cX6_turns 16 = .ok (.aload_n 0, 1) := dk_42 (dk_at dksX6_turns_0 16 rfl rfl)
theorem dX6_turns_17 : decode cX6_turns 17 = .ok (.bipush 6, 2) := dk_16 6 (dk_at dksX6_turns_0 17 rfl rfl)
theorem dX6_turns_19 : decode cX6_turns 19 = .ok (.aload_n 0, 1) := dk_42 (dk_at dksX6_turns_0 19 rfl rfl)
theorem dX6_turns_20 : decode cX6_turns 20 = .ok (.iload_n 2, 1) := dk_28 (dk_at dksX6_turns_0 20 rfl rfl)
theorem dX6_turns_21 : decode cX6_turns 21 = .ok (.iload_n 3, 1) := dk_29 (dk_at dksX6_turns_0 21 rfl rfl)
theorem dX6_turns_22 : decode cX6_turns 22 = .ok (.iload 4, 2) := dk_21 4 (dk_at dksX6_turns_0 22 rfl rfl)
theorem dX6_turns_24 : decode cX6_turns 24 = .ok (.invokevirtual 213, 3) := dk_182 0 213 (dk_at dksX6_turns_1 0 rfl rfl)
theorem dX6_turns_27 : decode cX6_turns 27 = .ok (.invokevirtual 183, 3) := dk_182 0 183 (dk_at dksX6_turns_1 3 rfl rfl)
theorem dX6_turns_30 : decode cX6_turns 30 = .ok (.iinc 4 1, 3) := dk_132 4 1 (dk_at dksX6_turns_1 6 rfl rfl)
theorem dX6_turns_33 : decode cX6_turns 33 = .ok (.goto (-23), 3) := dk_167 255 233 (dk_at dksX6_turns_1 9 rfl rfl)
theorem dX6_turns_36 : decode cX6_turns 36 = .ok (.return_, 1) := dk_177 (dk_at dksX6_turns_1 12 rfl rfl)
def dkwX6_figureOf_1 : List UInt8 := [132, 5, 255, 167, 255, 238, 21, 4, 42, 180, 0, 122, 112, 172]
abbrev dktX6_figureOf_1 : List UInt8 := dkwX6_figureOf_1 ++ []
def dkwX6_figureOf_0 : List UInt8 := [27, 54, 4, 28, 4, 100, 54, 5, 21, 5, 29, 164, 0, 18, 21, 4, 42, 180, 0, 122, 108, 54, 4]
abbrev dktX6_figureOf_0 : List UInt8 := dkwX6_figureOf_0 ++ dktX6_figureOf_1
theorem dksX6_figureOf_0 : cX6_figureOf.data.toList.drop 0 = dktX6_figureOf_0 := by decide +kernel
theorem dksX6_figureOf_1 : cX6_figureOf.data.toList.drop 23 = dktX6_figureOf_1 := dk_seg dksX6_figureOf_0 23 rfl rfl
theorem dX6_figureOf_0 : decode cX6_figureOf 0 = .ok (.iload_n 1, 1) := dk_27 (dk_at dksX6_figureOf_0 0 rfl rfl)
theorem dX6_figureOf_1 : decode cX6_figureOf 1 = .ok (.istore 4, 2) := dk_54 4 (dk_at dksX6_figureOf_0 1 rfl rfl)
theorem dX6_figureOf_3 : decode cX6_figureOf 3 = .ok (.iload_n 2, 1) := dk_28 (dk_at dksX6_figureOf_0 3 rfl rfl)
theorem dX6_figureOf_4 : decode cX6_figureOf 4 = .ok (.iconst 1, 1) := dk_4 (dk_at dksX6_figureOf_0 4 rfl rfl)
theorem dX6_figureOf_5 : decode cX6_figureOf 5 = .ok (.isub, 1) := dk_100 (dk_at dksX6_figureOf_0 5 rfl rfl)
theorem dX6_figureOf_6 : decode cX6_figureOf 6 = .ok (.istore 5, 2) := dk_54 5 (dk_at dksX6_figureOf_0 6 rfl rfl)
theorem dX6_figureOf_8 : decode cX6_figureOf 8 = .ok (.iload 5, 2) := dk_21 5 (dk_at dksX6_figureOf_0 8 rfl rfl)
theorem dX6_figureOf_10 : decode cX6_figureOf 10 = .ok (.iload_n 3, 1) := dk_29 (dk_at dksX6_figureOf_0 10 rfl rfl)
theorem dX6_figureOf_11 : decode cX6_figureOf 11 = .ok (.if_icmp .le 18, 3) := dk_164 0 18 (dk_at dksX6_figureOf_0 11 rfl rfl)
theorem dX6_figureOf_14 : decode cX6_figureOf 14 = .ok (.iload 4, 2) := dk_21 4 (dk_at dksX6_figureOf_0 14 rfl rfl)
theorem dX6_figureOf_16 : decode cX6_figureOf 16 = .ok (.aload_n 0, 1) := dk_42 (dk_at dksX6_figureOf_0 16 rfl rfl)
theorem dX6_figureOf_17 : decode cX6_figureOf 17 = .ok (.getfield 122, 3) := dk_180 0 122 (dk_at dksX6_figureOf_0 17 rfl rfl)
theorem dX6_figureOf_20 : decode cX6_figureOf 20 = .ok (.idiv, 1) := dk_108 (dk_at dksX6_figureOf_0 20 rfl rfl)
theorem dX6_figureOf_21 : decode cX6_figureOf 21 = .ok (.istore 4, 2) := dk_54 4 (dk_at dksX6_figureOf_0 21 rfl rfl)
theorem dX6_figureOf_23 : decode cX6_figureOf 23 = .ok (.iinc 5 (-1), 3) := dk_132 5 255 (dk_at dksX6_figureOf_1 0 rfl rfl)
theorem dX6_figureOf_26 : decode cX6_figureOf 26 = .ok (.goto (-18), 3) := dk_167 255 238 (dk_at dksX6_figureOf_1 3 rfl rfl)
theorem dX6_figureOf_29 : decode cX6_figureOf 29 = .ok (.iload 4, 2) := dk_21 4 (dk_at dksX6_figureOf_1 6 rfl rfl)
theorem dX6_figureOf_31 : decode cX6_figureOf 31 = .ok (.aload_n 0, 1) := dk_42 (dk_at dksX6_figureOf_1 8 rfl rfl)
theorem dX6_figureOf_32 : decode cX6_figureOf 32 = .ok (.getfield 122, 3) := dk_180 0 122 (dk_at dksX6_figureOf_1 9 rfl rfl)
theorem dX6_figureOf_35 : decode cX6_figureOf 35 = .ok (.irem, 1) := dk_112 (dk_at dksX6_figureOf_1 12 rfl rfl)
theorem dX6_figureOf_36 : decode cX6_figureOf 36 = .ok (.ireturn, 1) := dk_172 (dk_at dksX6_figureOf_1 13 rfl rfl)
def dkwX6_notesNow_1 : List UInt8 := [28, 96, 46, 120, 128, 60, 132, 2, 1, 167, 255, 227, 27, 172]
abbrev dktX6_notesNow_1 : List UInt8 := dkwX6_notesNow_1 ++ []
def dkwX6_notesNow_0 : List UInt8 := [3, 60, 3, 61, 28, 42, 180, 0, 43, 16, 6, 46, 162, 0, 24, 27, 4, 42, 180, 0, 40, 17, 0, 240]
abbrev dktX6_notesNow_0 : List UInt8 := dkwX6_notesNow_0 ++ dktX6_notesNow_1
theorem dksX6_notesNow_0 : cX6_notesNow.data.toList.drop 0 = dktX6_notesNow_0 := by decide +kernel
theorem dksX6_notesNow_1 : cX6_notesNow.data.toList.drop 24 = dktX6_notesNow_1 := dk_seg dksX6_notesNow_0 24 rfl rfl
theorem dX6_notesNow_0 : decode cX6_notesNow 0 = .ok (.iconst 0, 1) := dk_3 (dk_at dksX6_notesNow_0 0 rfl rfl)
theorem dX6_notesNow_1 : decode cX6_notesNow 1 = .ok (.istore_n 1, 1) := dk_60 (dk_at dksX6_notesNow_0 1 rfl rfl)
theorem dX6_notesNow_2 : decode cX6_notesNow 2 = .ok (.iconst 0, 1) := dk_3 (dk_at dksX6_notesNow_0 2 rfl rfl)
theorem dX6_notesNow_3 : decode cX6_notesNow 3 = .ok (.istore_n 2, 1) := dk_61 (dk_at dksX6_notesNow_0 3 rfl rfl)
theorem dX6_notesNow_4 : decode cX6_notesNow 4 = .ok (.iload_n 2, 1) := dk_28 (dk_at dksX6_notesNow_0 4 rfl rfl)
theorem dX6_notesNow_5 : decode cX6_notesNow 5 = .ok (.aload_n 0, 1) := dk_42 (dk_at dksX6_notesNow_0 5 rfl rfl)
theorem dX6_notesNow_6 : decode cX6_notesNow 6 = .ok (.getfield 43, 3) := dk_180 0 43 (dk_at dksX6_notesNow_0 6 rfl rfl)
theorem dX6_notesNow_9 : decode cX6_notesNow 9 = .ok (.bipush 6, 2) := dk_16 6 (dk_at dksX6_notesNow_0 9 rfl rfl)
theorem dX6_notesNow_11 : decode cX6_notesNow 11 = .ok (.iaload, 1) := dk_46 (dk_at dksX6_notesNow_0 11 rfl rfl)
theorem dX6_notesNow_12 : decode cX6_notesNow 12 = .ok (.if_icmp .ge 24, 3) := dk_162 0 24 (dk_at dksX6_notesNow_0 12 rfl rfl)
theorem dX6_notesNow_15 : decode cX6_notesNow 15 = .ok (.iload_n 1, 1) := dk_27 (dk_at dksX6_notesNow_0 15 rfl rfl)
theorem dX6_notesNow_16 : decode cX6_notesNow 16 = .ok (.iconst 1, 1) := dk_4 (dk_at dksX6_notesNow_0 16 rfl rfl)
theorem dX6_notesNow_17 : decode cX6_notesNow 17 = .ok (.aload_n 0, 1) := dk_42 (dk_at dksX6_notesNow_0 17 rfl rfl)
theorem dX6_notesNow_18 : decode cX6_notesNow 18 = .ok (.getfield 40, 3) := dk_180 0 40 (dk_at dksX6_notesNow_0 18 rfl rfl)
theorem dX6_notesNow_21 : decode cX6_notesNow 21 = .ok (.sipush 240, 3) := dk_17 0 240 (dk_at dksX6_notesNow_0 21 rfl rfl)
theorem dX6_notesNow_24 : decode cX6_notesNow 24 = .ok (.iload_n 2, 1) := dk_28 (dk_at dksX6_notesNow_1 0 rfl rfl)
theorem dX6_notesNow_25 : decode cX6_notesNow 25 = .ok (.iadd, 1) := dk_96 (dk_at dksX6_notesNow_1 1 rfl rfl)
theorem dX6_notesNow_26 : decode cX6_notesNow 26 = .ok (.iaload, 1) := dk_46 (dk_at dksX6_notesNow_1 2 rfl rfl)
theorem dX6_notesNow_27 : decode cX6_notesNow 27 = .ok (.ishl, 1) := dk_120 (dk_at dksX6_notesNow_1 3 rfl rfl)
theorem dX6_notesNow_28 : decode cX6_notesNow 28 = .ok (.ior, 1) := dk_128 (dk_at dksX6_notesNow_1 4 rfl rfl)
theorem dX6_notesNow_29 : decode cX6_notesNow 29 = .ok (.istore_n 1, 1) := dk_60 (dk_at dksX6_notesNow_1 5 rfl rfl)
theorem dX6_notesNow_30 : decode cX6_notesNow 30 = .ok (.iinc 2 1, 3) := dk_132 2 1 (dk_at dksX6_notesNow_1 6 rfl rfl)
theorem dX6_notesNow_33 : decode cX6_notesNow 33 = .ok (.goto (-29), 3) := dk_167 255 227 (dk_at dksX6_notesNow_1 9 rfl rfl)
theorem dX6_notesNow_36 : decode cX6_notesNow 36 = .ok (.iload_n 1, 1) := dk_27 (dk_at dksX6_notesNow_1 12 rfl rfl)
theorem dX6_notesNow_37 : decode cX6_notesNow 37 = .ok (.ireturn, 1) := dk_172 (dk_at dksX6_notesNow_1 13 rfl rfl)
def dkwX6_longest_2 : List UInt8 := [167, 0, 5, 16, 254, 172]
abbrev dktX6_longest_2 : List UInt8 := dkwX6_longest_2 ++ []
def dkwX6_longest_1 : List UInt8 := [29, 133, 20, 0, 143, 28, 4, 100, 133, 184, 0, 79, 153, 0, 13, 42, 27, 28, 29, 182, 0, 231]
abbrev dktX6_longest_1 : List UInt8 := dkwX6_longest_1 ++ dktX6_longest_2
def dkwX6_longest_0 : List UInt8 := [42, 182, 0, 137, 42, 27, 182, 0, 140, 153, 0, 40, 28, 133, 10, 20, 0, 86, 184, 0, 79, 153, 0, 28]
abbrev dktX6_longest_0 : List UInt8 := dkwX6_longest_0 ++ dktX6_longest_1
theorem dksX6_longest_0 : cX6_longest.data.toList.drop 0 = dktX6_longest_0 := by decide +kernel
theorem dksX6_longest_1 : cX6_longest.data.toList.drop 24 = dktX6_longest_1 := dk_seg dksX6_longest_0 24 rfl rfl
theorem dksX6_longest_2 : cX6_longest.data.toList.drop 46 = dktX6_longest_2 := dk_seg dksX6_longest_1 22 rfl rfl
theorem dX6_longest_0 : decode cX6_longest 0 = .ok (.aload_n 0, 1) := dk_42 (dk_at dksX6_longest_0 0 rfl rfl)
theorem dX6_longest_1 : decode cX6_longest 1 = .ok (.invokevirtual 137, 3) := dk_182 0 137 (dk_at dksX6_longest_0 1 rfl rfl)
theorem dX6_longest_4 : decode cX6_longest 4 = .ok (.aload_n 0, 1) := dk_42 (dk_at dksX6_longest_0 4 rfl rfl)
theorem dX6_longest_5 : decode cX6_longest 5 = .ok (.iload_n 1, 1) := dk_27 (dk_at dksX6_longest_0 5 rfl rfl)
theorem dX6_longest_6 : decode cX6_longest 6 = .ok (.invokevirtual 140, 3) := dk_182 0 140 (dk_at dksX6_longest_0 6 rfl rfl)
theorem dX6_longest_9 : decode cX6_longest 9 = .ok (.ifCond .eq 40, 3) := dk_153 0 40 (dk_at dksX6_longest_0 9 rfl rfl)
theorem dX6_longest_12 : decode cX6_longest 12 = .ok (.iload_n 2, 1) := dk_28 (dk_at dksX6_longest_0 12 rfl rfl)
theorem dX6_longest_13 : decode cX6_longest 13 = .ok (.i2l, 1) := dk_133 (dk_at dksX6_longest_0 13 rfl rfl)
theorem dX6_longest_14 : decode cX6_longest 14 = .ok (.lconst 1, 1) := dk_10 (dk_at dksX6_longest_0 14 rfl rfl)
theorem dX6_longest_15 : decode cX6_longest 15 = .ok (.ldc2_w 86, 3) := dk_20 0 86 (dk_at dksX6_longest_0 15 rfl rfl)
theorem dX6_longest_18 : decode cX6_longest 18 = .ok (.invokestatic 79, 3) := dk_184 0 79 (dk_at dksX6_longest_0 18 rfl rfl)
theorem dX6_longest_21 : decode cX6_longest 21 = .ok (.ifCond .eq 28, 3) := dk_153 0 28 (dk_at dksX6_longest_0 21 rfl rfl)
theorem dX6_longest_24 : decode cX6_longest 24 = .ok (.iload_n 3, 1) := dk_29 (dk_at dksX6_longest_1 0 rfl rfl)
theorem dX6_longest_25 : decode cX6_longest 25 = .ok (.i2l, 1) := dk_133 (dk_at dksX6_longest_1 1 rfl rfl)
theorem dX6_longest_26 : decode cX6_longest 26 = .ok (.ldc2_w 143, 3) := dk_20 0 143 (dk_at dksX6_longest_1 2 rfl rfl)
theorem dX6_longest_29 : decode cX6_longest 29 = .ok (.iload_n 2, 1) := dk_28 (dk_at dksX6_longest_1 5 rfl rfl)
theorem dX6_longest_30 : decode cX6_longest 30 = .ok (.iconst 1, 1) := dk_4 (dk_at dksX6_longest_1 6 rfl rfl)
theorem dX6_longest_31 : decode cX6_longest 31 = .ok (.isub, 1) := dk_100 (dk_at dksX6_longest_1 7 rfl rfl)
theorem dX6_longest_32 : decode cX6_longest 32 = .ok (.i2l, 1) := dk_133 (dk_at dksX6_longest_1 8 rfl rfl)
theorem dX6_longest_33 : decode cX6_longest 33 = .ok (.invokestatic 79, 3) := dk_184 0 79 (dk_at dksX6_longest_1 9 rfl rfl)
theorem dX6_longest_36 : decode cX6_longest 36 = .ok (.ifCond .eq 13, 3) := dk_153 0 13 (dk_at dksX6_longest_1 12 rfl rfl)
theorem dX6_longest_39 : decode cX6_longest 39 = .ok (.aload_n 0, 1) := dk_42 (dk_at dksX6_longest_1 15 rfl rfl)
theorem dX6_longest_40 : decode cX6_longest 40 = .ok (.iload_n 1, 1) := dk_27 (dk_at dksX6_longest_1 16 rfl rfl)
theorem dX6_longest_41 : decode cX6_longest 41 = .ok (.iload_n 2, 1) := dk_28 (dk_at dksX6_longest_1 17 rfl rfl)
theorem dX6_longest_42 : decode cX6_longest 42 = .ok (.iload_n 3, 1) := dk_29 (dk_at dksX6_longest_1 18 rfl rfl)
theorem dX6_longest_43 : decode cX6_longest 43 = .ok (.invokevirtual 231, 3) := dk_182 0 231 (dk_at dksX6_longest_1 19 rfl rfl)
theorem dX6_longest_46 : decode cX6_longest 46 = .ok (.goto 5, 3) := dk_167 0 5 (dk_at dksX6_longest_2 0 rfl rfl)
theorem dX6_longest_49 : decode cX6_longest 49 = .ok (.bipush (-2), 2) := dk_16 254 (dk_at dksX6_longest_2 3 rfl rfl)
theorem dX6_longest_51 : decode cX6_longest 51 = .ok (.ireturn, 1) := dk_172 (dk_at dksX6_longest_2 5 rfl rfl)
def dkwX6_longestOf_4 : List UInt8 := [182, 0, 213, 172]
abbrev dktX6_longestOf_4 : List UInt8 := dkwX6_longestOf_4 ++ []
def dkwX6_longestOf_3 : List UInt8 := [160, 0, 7, 2, 167, 0, 21, 29, 2, 160, 0, 8, 21, 5, 167, 0, 11, 42, 21, 4, 28, 29]
abbrev dktX6_longestOf_3 : List UInt8 := dkwX6_longestOf_3 ++ dktX6_longestOf_4
def dkwX6_longestOf_2 : List UInt8 := [42, 180, 0, 43, 16, 6, 46, 21, 5, 184, 0, 168, 54, 5, 132, 6, 1, 167, 255, 200, 21, 4, 2]
abbrev dktX6_longestOf_2 : List UInt8 := dkwX6_longestOf_2 ++ dktX6_longestOf_3
def dkwX6_longestOf_1 : List UInt8 := [182, 0, 219, 42, 180, 0, 43, 16, 6, 46, 21, 5, 164, 0, 8, 21, 6, 167, 0, 5, 21, 4, 54, 4]
abbrev dktX6_longestOf_1 : List UInt8 := dkwX6_longestOf_1 ++ dktX6_longestOf_2
def dkwX6_longestOf_0 : List UInt8 := [2, 54, 4, 2, 54, 5, 3, 54, 6, 21, 6, 42, 28, 182, 0, 216, 162, 0, 52, 42, 27, 21, 6, 28]
abbrev dktX6_longestOf_0 : List UInt8 := dkwX6_longestOf_0 ++ dktX6_longestOf_1
theorem dksX6_longestOf_0 : cX6_longestOf.data.toList.drop 0 = dktX6_longestOf_0 := by decide +kernel
theorem dksX6_longestOf_1 : cX6_longestOf.data.toList.drop 24 = dktX6_longestOf_1 := dk_seg dksX6_longestOf_0 24 rfl rfl
theorem dksX6_longestOf_2 : cX6_longestOf.data.toList.drop 48 = dktX6_longestOf_2 := dk_seg dksX6_longestOf_1 24 rfl rfl
theorem dksX6_longestOf_3 : cX6_longestOf.data.toList.drop 71 = dktX6_longestOf_3 := dk_seg dksX6_longestOf_2 23 rfl rfl
theorem dksX6_longestOf_4 : cX6_longestOf.data.toList.drop 93 = dktX6_longestOf_4 := dk_seg dksX6_longestOf_3 22 rfl rfl
theorem dX6_longestOf_0 : decode cX6_longestOf 0 = .ok (.iconst (-1), 1) := dk_2 (dk_at dksX6_longestOf_0 0 rfl rfl)
theorem dX6_longestOf_1 : decode cX6_longestOf 1 = .ok (.istore 4, 2) := dk_54 4 (dk_at dksX6_longestOf_0 1 rfl rfl)
theorem dX6_longestOf_3 : decode cX6_longestOf 3 = .ok (.iconst (-1), 1) := dk_2 (dk_at dksX6_longestOf_0 3 rfl rfl)
theorem dX6_longestOf_4 : decode cX6_longestOf 4 = .ok (.istore 5, 2) := dk_54 5 (dk_at dksX6_longestOf_0 4 rfl rfl)
theorem dX6_longestOf_6 : decode cX6_longestOf 6 = .ok (.iconst 0, 1) := dk_3 (dk_at dksX6_longestOf_0 6 rfl rfl)
theorem dX6_longestOf_7 : decode cX6_longestOf 7 = .ok (.istore 6, 2) := dk_54 6 (dk_at dksX6_longestOf_0 7 rfl rfl)
theorem dX6_longestOf_9 : decode cX6_longestOf 9 = .ok (.iload 6, 2) := dk_21 6 (dk_at dksX6_longestOf_0 9 rfl rfl)
theorem dX6_longestOf_11 : decode cX6_longestOf 11 = .ok (.aload_n 0, 1) := dk_42 (dk_at dksX6_longestOf_0 11 rfl rfl)
theorem dX6_longestOf_12 : decode cX6_longestOf 12 = .ok (.iload_n 2, 1) := dk_28 (dk_at dksX6_longestOf_0 12 rfl rfl)
theorem dX6_longestOf_13 : decode cX6_longestOf 13 = .ok (.invokevirtual 216, 3) := dk_182 0 216 (dk_at dksX6_longestOf_0 13 rfl rfl)
theorem dX6_longestOf_16 : decode cX6_longestOf 16 = .ok (.if_icmp .ge 52, 3) := dk_162 0 52 (dk_at dksX6_longestOf_0 16 rfl rfl)
theorem dX6_longestOf_19 : decode cX6_longestOf 19 = .ok (.aload_n 0, 1) := dk_42 (dk_at dksX6_longestOf_0 19 rfl rfl)
theorem dX6_longestOf_20 : decode cX6_longestOf 20 = .ok (.iload_n 1, 1) := dk_27 (dk_at dksX6_longestOf_0 20 rfl rfl)
theorem dX6_longestOf_21 : decode cX6_longestOf 21 = .ok (.iload 6, 2) := dk_21 6 (dk_at dksX6_longestOf_0 21 rfl rfl)
theorem dX6_longestOf_23 : decode cX6_longestOf 23 = .ok (.iload_n 2, 1) := dk_28 (dk_at dksX6_longestOf_0 23 rfl rfl)
theorem dX6_longestOf_24 : decode cX6_longestOf 24 = .ok (.invokevirtual 219, 3) := dk_182 0 219 (dk_at dksX6_longestOf_1 0 rfl rfl)
theorem dX6_longestOf_27 : decode cX6_longestOf 27 = .ok (.aload_n 0, 1) := dk_42 (dk_at dksX6_longestOf_1 3 rfl rfl)
theorem dX6_longestOf_28 : decode cX6_longestOf 28 = .ok (.getfield 43, 3) := dk_180 0 43 (dk_at dksX6_longestOf_1 4 rfl rfl)
theorem dX6_longestOf_31 : decode cX6_longestOf 31 = .ok (.bipush 6, 2) := dk_16 6 (dk_at dksX6_longestOf_1 7 rfl rfl)
theorem dX6_longestOf_33 : decode cX6_longestOf 33 = .ok (.iaload, 1) := dk_46 (dk_at dksX6_longestOf_1 9 rfl rfl)
theorem dX6_longestOf_34 : decode cX6_longestOf 34 = .ok (.iload 5, 2) := dk_21 5 (dk_at dksX6_longestOf_1 10 rfl rfl)
theorem dX6_longestOf_36 : decode cX6_longestOf 36 = .ok (.if_icmp .le 8, 3) := dk_164 0 8 (dk_at dksX6_longestOf_1 12 rfl rfl)
theorem dX6_longestOf_39 : decode cX6_longestOf 39 = .ok (.iload 6, 2) := dk_21 6 (dk_at dksX6_longestOf_1 15 rfl rfl)
theorem dX6_longestOf_41 : decode cX6_longestOf 41 = .ok (.goto 5, 3) := dk_167 0 5 (dk_at dksX6_longestOf_1 17 rfl rfl)
theorem dX6_longestOf_44 : decode cX6_longestOf 44 = .ok (.iload 4, 2) := dk_21 4 (dk_at dksX6_longestOf_1 20 rfl rfl)
theorem dX6_longestOf_46 : decode cX6_longestOf 46 = .ok (.istore 4, 2) := dk_54 4 (dk_at dksX6_longestOf_1 22 rfl rfl)
theorem dX6_longestOf_48 : decode cX6_longestOf 48 = .ok (.aload_n 0, 1) := dk_42 (dk_at dksX6_longestOf_2 0 rfl rfl)
theorem dX6_longestOf_49 : decode cX6_longestOf 49 = .ok (.getfield 43, 3) := dk_180 0 43 (dk_at dksX6_longestOf_2 1 rfl rfl)
theorem dX6_longestOf_52 : decode cX6_longestOf 52 = .ok (.bipush 6, 2) := dk_16 6 (dk_at dksX6_longestOf_2 4 rfl rfl)
theorem dX6_longestOf_54 : decode cX6_longestOf 54 = .ok (.iaload, 1) := dk_46 (dk_at dksX6_longestOf_2 6 rfl rfl)
theorem dX6_longestOf_55 : decode cX6_longestOf 55 = .ok (.iload 5, 2) := dk_21 5 (dk_at dksX6_longestOf_2 7 rfl rfl)
theorem dX6_longestOf_57 : decode cX6_longestOf 57 = .ok (.invokestatic 168, 3) := dk_184 0 168 (dk_at dksX6_longestOf_2 9 rfl rfl)
theorem dX6_longestOf_60 : decode cX6_longestOf 60 = .ok (.istore 5, 2) := dk_54 5 (dk_at dksX6_longestOf_2 12 rfl rfl)
theorem dX6_longestOf_62 : decode cX6_longestOf 62 = .ok (.iinc 6 1, 3) := dk_132 6 1 (dk_at dksX6_longestOf_2 14 rfl rfl)
theorem dX6_longestOf_65 : decode cX6_longestOf 65 = .ok (.goto (-56), 3) := dk_167 255 200 (dk_at dksX6_longestOf_2 17 rfl rfl)
theorem dX6_longestOf_68 : decode cX6_longestOf 68 = .ok (.iload 4, 2) := dk_21 4 (dk_at dksX6_longestOf_2 20 rfl rfl)
theorem dX6_longestOf_70 : decode cX6_longestOf 70 = .ok (.iconst (-1), 1) := dk_2 (dk_at dksX6_longestOf_2 22 rfl rfl)
theorem dX6_longestOf_71 : decode cX6_longestOf 71 = .ok (.if_icmp .ne 7, 3) := dk_160 0 7 (dk_at dksX6_longestOf_3 0 rfl rfl)
theorem dX6_longestOf_74 : decode cX6_longestOf 74 = .ok (.iconst (-1), 1) := dk_2 (dk_at dksX6_longestOf_3 3 rfl rfl)
theorem dX6_longestOf_75 : decode cX6_longestOf 75 = .ok (.goto 21, 3) := dk_167 0 21 (dk_at dksX6_longestOf_3 4 rfl rfl)
theorem dX6_longestOf_78 : decode cX6_longestOf 78 = .ok (.iload_n 3, 1) := dk_29 (dk_at dksX6_longestOf_3 7 rfl rfl)
theorem dX6_longestOf_79 : decode cX6_longestOf 79 = .ok (.iconst (-1), 1) := dk_2 (dk_at dksX6_longestOf_3 8 rfl rfl)
theorem dX6_longestOf_80 : decode cX6_longestOf 80 = .ok (.if_icmp .ne 8, 3) := dk_160 0 8 (dk_at dksX6_longestOf_3 9 rfl rfl)
theorem dX6_longestOf_83 : decode cX6_longestOf 83 = .ok (.iload 5, 2) := dk_21 5 (dk_at dksX6_longestOf_3 12 rfl rfl)
theorem dX6_longestOf_85 : decode cX6_longestOf 85 = .ok (.goto 11, 3) := dk_167 0 11 (dk_at dksX6_longestOf_3 14 rfl rfl)
theorem dX6_longestOf_88 : decode cX6_longestOf 88 = .ok (.aload_n 0, 1) := dk_42 (dk_at dksX6_longestOf_3 17 rfl rfl)
theorem dX6_longestOf_89 : decode cX6_longestOf 89 = .ok (.iload 4, 2) := dk_21 4 (dk_at dksX6_longestOf_3 18 rfl rfl)
theorem dX6_longestOf_91 : decode cX6_longestOf 91 = .ok (.iload_n 2, 1) := dk_28 (dk_at dksX6_longestOf_3 20 rfl rfl)
theorem dX6_longestOf_92 : decode cX6_longestOf 92 = .ok (.iload_n 3, 1) := dk_29 (dk_at dksX6_longestOf_3 21 rfl rfl)
theorem dX6_longestOf_93 : decode cX6_longestOf 93 = .ok (.invokevirtual 213, 3) := dk_182 0 213 (dk_at dksX6_longestOf_4 0 rfl rfl)
theorem dX6_longestOf_96 : decode cX6_longestOf 96 = .ok (.ireturn, 1) := dk_172 (dk_at dksX6_longestOf_4 3 rfl rfl)
def dkwX6_who_1 : List UInt8 := [153, 0, 13, 42, 27, 28, 29, 182, 0, 240, 167, 0, 5, 16, 254, 172]
abbrev dktX6_who_1 : List UInt8 := dkwX6_who_1 ++ []
def dkwX6_who_0 : List UInt8 := [42, 182, 0, 137, 42, 27, 182, 0, 140, 153, 0, 28, 42, 28, 182, 0, 140, 153, 0, 20, 29, 184, 0, 107]
abbrev dktX6_who_0 : List UInt8 := dkwX6_who_0 ++ dktX6_who_1
theorem dksX6_who_0 : cX6_who.data.toList.drop 0 = dktX6_who_0 := by decide +kernel
theorem dksX6_who_1 : cX6_who.data.toList.drop 24 = dktX6_who_1 := dk_seg dksX6_who_0 24 rfl rfl
theorem dX6_who_0 : decode cX6_who 0 = .ok (.aload_n 0, 1) := dk_42 (dk_at dksX6_who_0 0 rfl rfl)
theorem dX6_who_1 : decode cX6_who 1 = .ok (.invokevirtual 137, 3) := dk_182 0 137 (dk_at dksX6_who_0 1 rfl rfl)
theorem dX6_who_4 : decode cX6_who 4 = .ok (.aload_n 0, 1) := dk_42 (dk_at dksX6_who_0 4 rfl rfl)
theorem dX6_who_5 : decode cX6_who 5 = .ok (.iload_n 1, 1) := dk_27 (dk_at dksX6_who_0 5 rfl rfl)
theorem dX6_who_6 : decode cX6_who 6 = .ok (.invokevirtual 140, 3) := dk_182 0 140 (dk_at dksX6_who_0 6 rfl rfl)
theorem dX6_who_9 : decode cX6_who 9 = .ok (.ifCond .eq 28, 3) := dk_153 0 28 (dk_at dksX6_who_0 9 rfl rfl)
theorem dX6_who_12 : decode cX6_who 12 = .ok (.aload_n 0, 1) := dk_42 (dk_at dksX6_who_0 12 rfl rfl)
theorem dX6_who_13 : decode cX6_who 13 = .ok (.iload_n 2, 1) := dk_28 (dk_at dksX6_who_0 13 rfl rfl)
theorem dX6_who_14 : decode cX6_who 14 = .ok (.invokevirtual 140, 3) := dk_182 0 140 (dk_at dksX6_who_0 14 rfl rfl)
theorem dX6_who_17 : decode cX6_who 17 = .ok (.ifCond .eq 20, 3) := dk_153 0 20 (dk_at dksX6_who_0 17 rfl rfl)
theorem dX6_who_20 : decode cX6_who 20 = .ok (.iload_n 3, 1) := dk_29 (dk_at dksX6_who_0 20 rfl rfl)
theorem dX6_who_21 : decode cX6_who 21 = .ok (.invokestatic 107, 3) := dk_184 0 107 (dk_at dksX6_who_0 21 rfl rfl)
theorem dX6_who_24 : decode cX6_who 24 = .ok (.ifCond .eq 13, 3) := dk_153 0 13 (dk_at dksX6_who_1 0 rfl rfl)
theorem dX6_who_27 : decode cX6_who 27 = .ok (.aload_n 0, 1) := dk_42 (dk_at dksX6_who_1 3 rfl rfl)
theorem dX6_who_28 : decode cX6_who 28 = .ok (.iload_n 1, 1) := dk_27 (dk_at dksX6_who_1 4 rfl rfl)
theorem dX6_who_29 : decode cX6_who 29 = .ok (.iload_n 2, 1) := dk_28 (dk_at dksX6_who_1 5 rfl rfl)
theorem dX6_who_30 : decode cX6_who 30 = .ok (.iload_n 3, 1) := dk_29 (dk_at dksX6_who_1 6 rfl rfl)
theorem dX6_who_31 : decode cX6_who 31 = .ok (.invokevirtual 240, 3) := dk_182 0 240 (dk_at dksX6_who_1 7 rfl rfl)
theorem dX6_who_34 : decode cX6_who 34 = .ok (.goto 5, 3) := dk_167 0 5 (dk_at dksX6_who_1 10 rfl rfl)
theorem dX6_who_37 : decode cX6_who 37 = .ok (.bipush (-2), 2) := dk_16 254 (dk_at dksX6_who_1 13 rfl rfl)
theorem dX6_who_39 : decode cX6_who 39 = .ok (.ireturn, 1) := dk_172 (dk_at dksX6_who_1 15 rfl rfl)
def dkwX6_whoOf_3 : List UInt8 := [132, 7, 1, 167, 255, 202, 132, 6, 1, 167, 255, 187, 29, 154, 0, 8, 21, 4, 167, 0, 5, 21, 5, 172]
abbrev dktX6_whoOf_3 : List UInt8 := dkwX6_whoOf_3 ++ []
def dkwX6_whoOf_2 : List UInt8 := [21, 4, 154, 0, 14, 42, 21, 7, 21, 6, 182, 0, 237, 167, 0, 5, 21, 5, 54, 5, 132, 4, 1]
abbrev dktX6_whoOf_2 : List UInt8 := dkwX6_whoOf_2 ++ dktX6_whoOf_3
def dkwX6_whoOf_1 : List UInt8 := [182, 0, 216, 162, 0, 49, 42, 27, 21, 7, 21, 6, 182, 0, 219, 42, 28, 182, 0, 234, 153, 0, 26]
abbrev dktX6_whoOf_1 : List UInt8 := dkwX6_whoOf_1 ++ dktX6_whoOf_2
def dkwX6_whoOf_0 : List UInt8 := [3, 54, 4, 2, 54, 5, 3, 54, 6, 21, 6, 7, 162, 0, 69, 3, 54, 7, 21, 7, 42, 21, 6]
abbrev dktX6_whoOf_0 : List UInt8 := dkwX6_whoOf_0 ++ dktX6_whoOf_1
theorem dksX6_whoOf_0 : cX6_whoOf.data.toList.drop 0 = dktX6_whoOf_0 := by decide +kernel
theorem dksX6_whoOf_1 : cX6_whoOf.data.toList.drop 23 = dktX6_whoOf_1 := dk_seg dksX6_whoOf_0 23 rfl rfl
theorem dksX6_whoOf_2 : cX6_whoOf.data.toList.drop 46 = dktX6_whoOf_2 := dk_seg dksX6_whoOf_1 23 rfl rfl
theorem dksX6_whoOf_3 : cX6_whoOf.data.toList.drop 69 = dktX6_whoOf_3 := dk_seg dksX6_whoOf_2 23 rfl rfl
theorem dX6_whoOf_0 : decode cX6_whoOf 0 = .ok (.iconst 0, 1) := dk_3 (dk_at dksX6_whoOf_0 0 rfl rfl)
theorem dX6_whoOf_1 : decode cX6_whoOf 1 = .ok (.istore 4, 2) := dk_54 4 (dk_at dksX6_whoOf_0 1 rfl rfl)
theorem dX6_whoOf_3 : decode cX6_whoOf 3 = .ok (.iconst (-1), 1) := dk_2 (dk_at dksX6_whoOf_0 3 rfl rfl)
theorem dX6_whoOf_4 : decode cX6_whoOf 4 = .ok (.istore 5, 2) := dk_54 5 (dk_at dksX6_whoOf_0 4 rfl rfl)
theorem dX6_whoOf_6 : decode cX6_whoOf 6 = .ok (.iconst 0, 1) := dk_3 (dk_at dksX6_whoOf_0 6 rfl rfl)
theorem dX6_whoOf_7 : decode cX6_whoOf 7 = .ok (.istore 6, 2) := dk_54 6 (dk_at dksX6_whoOf_0 7 rfl rfl)
theorem dX6_whoOf_9 : decode cX6_whoOf 9 = .ok (.iload 6, 2) := dk_21 6 (dk_at dksX6_whoOf_0 9 rfl rfl)
theorem dX6_whoOf_11 : decode cX6_whoOf 11 = .ok (.iconst 4, 1) := dk_7 (dk_at dksX6_whoOf_0 11 rfl rfl)
theorem dX6_whoOf_12 : decode cX6_whoOf 12 = .ok (.if_icmp .ge 69, 3) := dk_162 0 69 (dk_at dksX6_whoOf_0 12 rfl rfl)
theorem dX6_whoOf_15 : decode cX6_whoOf 15 = .ok (.iconst 0, 1) := dk_3 (dk_at dksX6_whoOf_0 15 rfl rfl)
theorem dX6_whoOf_16 : decode cX6_whoOf 16 = .ok (.istore 7, 2) := dk_54 7 (dk_at dksX6_whoOf_0 16 rfl rfl)
theorem dX6_whoOf_18 : decode cX6_whoOf 18 = .ok (.iload 7, 2) := dk_21 7 (dk_at dksX6_whoOf_0 18 rfl rfl)
theorem dX6_whoOf_20 : decode cX6_whoOf 20 = .ok (.aload_n 0, 1) := dk_42 (dk_at dksX6_whoOf_0 20 rfl rfl)
theorem dX6_whoOf_21 : decode cX6_whoOf 21 = .ok (.iload 6, 2) := dk_21 6 (dk_at dksX6_whoOf_0 21 rfl rfl)
theorem dX6_whoOf_23 : decode cX6_whoOf 23 = .ok (.invokevirtual 216, 3) := dk_182 0 216 (dk_at dksX6_whoOf_1 0 rfl rfl)
theorem dX6_whoOf_26 : decode cX6_whoOf 26 = .ok (.if_icmp .ge 49, 3) := dk_162 0 49 (dk_at dksX6_whoOf_1 3 rfl rfl)
theorem dX6_whoOf_29 : decode cX6_whoOf 29 = .ok (.aload_n 0, 1) := dk_42 (dk_at dksX6_whoOf_1 6 rfl rfl)
theorem dX6_whoOf_30 : decode cX6_whoOf 30 = .ok (.iload_n 1, 1) := dk_27 (dk_at dksX6_whoOf_1 7 rfl rfl)
theorem dX6_whoOf_31 : decode cX6_whoOf 31 = .ok (.iload 7, 2) := dk_21 7 (dk_at dksX6_whoOf_1 8 rfl rfl)
theorem dX6_whoOf_33 : decode cX6_whoOf 33 = .ok (.iload 6, 2) := dk_21 6 (dk_at dksX6_whoOf_1 10 rfl rfl)
theorem dX6_whoOf_35 : decode cX6_whoOf 35 = .ok (.invokevirtual 219, 3) := dk_182 0 219 (dk_at dksX6_whoOf_1 12 rfl rfl)
theorem dX6_whoOf_38 : decode cX6_whoOf 38 = .ok (.aload_n 0, 1) := dk_42 (dk_at dksX6_whoOf_1 15 rfl rfl)
theorem dX6_whoOf_39 : decode cX6_whoOf 39 = .ok (.iload_n 2, 1) := dk_28 (dk_at dksX6_whoOf_1 16 rfl rfl)
theorem dX6_whoOf_40 : decode cX6_whoOf 40 = .ok (.invokevirtual 234, 3) := dk_182 0 234 (dk_at dksX6_whoOf_1 17 rfl rfl)
theorem dX6_whoOf_43 : decode cX6_whoOf 43 = .ok (.ifCond .eq 26, 3) := dk_153 0 26 (dk_at dksX6_whoOf_1 20 rfl rfl)
theorem dX6_whoOf_46 : decode cX6_whoOf 46 = .ok (.iload 4, 2) := dk_21 4 (dk_at dksX6_whoOf_2 0 rfl rfl)
theorem dX6_whoOf_48 : decode cX6_whoOf 48 = .ok (.ifCond .ne 14, 3) := dk_154 0 14 (dk_at dksX6_whoOf_2 2 rfl rfl)
theorem dX6_whoOf_51 : decode cX6_whoOf 51 = .ok (.aload_n 0, 1) := dk_42 (dk_at dksX6_whoOf_2 5 rfl rfl)
theorem dX6_whoOf_52 : decode cX6_whoOf 52 = .ok (.iload 7, 2) := dk_21 7 (dk_at dksX6_whoOf_2 6 rfl rfl)
theorem dX6_whoOf_54 : decode cX6_whoOf 54 = .ok (.iload 6, 2) := dk_21 6 (dk_at dksX6_whoOf_2 8 rfl rfl)
theorem dX6_whoOf_56 : decode cX6_whoOf 56 = .ok (.invokevirtual 237, 3) := dk_182 0 237 (dk_at dksX6_whoOf_2 10 rfl rfl)
theorem dX6_whoOf_59 : decode cX6_whoOf 59 = .ok (.goto 5, 3) := dk_167 0 5 (dk_at dksX6_whoOf_2 13 rfl rfl)
theorem dX6_whoOf_62 : decode cX6_whoOf 62 = .ok (.iload 5, 2) := dk_21 5 (dk_at dksX6_whoOf_2 16 rfl rfl)
theorem dX6_whoOf_64 : decode cX6_whoOf 64 = .ok (.istore 5, 2) := dk_54 5 (dk_at dksX6_whoOf_2 18 rfl rfl)
theorem dX6_whoOf_66 : decode cX6_whoOf 66 = .ok (.iinc 4 1, 3) := dk_132 4 1 (dk_at dksX6_whoOf_2 20 rfl rfl)
theorem dX6_whoOf_69 : decode cX6_whoOf 69 = .ok (.iinc 7 1, 3) := dk_132 7 1 (dk_at dksX6_whoOf_3 0 rfl rfl)
theorem dX6_whoOf_72 : decode cX6_whoOf 72 = .ok (.goto (-54), 3) := dk_167 255 202 (dk_at dksX6_whoOf_3 3 rfl rfl)
theorem dX6_whoOf_75 : decode cX6_whoOf 75 = .ok (.iinc 6 1, 3) := dk_132 6 1 (dk_at dksX6_whoOf_3 6 rfl rfl)
theorem dX6_whoOf_78 : decode cX6_whoOf 78 = .ok (.goto (-69), 3) := dk_167 255 187 (dk_at dksX6_whoOf_3 9 rfl rfl)
theorem dX6_whoOf_81 : decode cX6_whoOf 81 = .ok (.iload_n 3, 1) := dk_29 (dk_at dksX6_whoOf_3 12 rfl rfl)
theorem dX6_whoOf_82 : decode cX6_whoOf 82 = .ok (.ifCond .ne 8, 3) := dk_154 0 8 (dk_at dksX6_whoOf_3 13 rfl rfl)
theorem dX6_whoOf_85 : decode cX6_whoOf 85 = .ok (.iload 4, 2) := dk_21 4 (dk_at dksX6_whoOf_3 16 rfl rfl)
theorem dX6_whoOf_87 : decode cX6_whoOf 87 = .ok (.goto 5, 3) := dk_167 0 5 (dk_at dksX6_whoOf_3 18 rfl rfl)
theorem dX6_whoOf_90 : decode cX6_whoOf 90 = .ok (.iload 5, 2) := dk_21 5 (dk_at dksX6_whoOf_3 21 rfl rfl)
theorem dX6_whoOf_92 : decode cX6_whoOf 92 = .ok (.ireturn, 1) := dk_172 (dk_at dksX6_whoOf_3 23 rfl rfl)
def dkwX6_isNow_3 : List UInt8 := [167, 255, 209, 28, 172]
abbrev dktX6_isNow_3 : List UInt8 := dkwX6_isNow_3 ++ []
def dkwX6_isNow_2 : List UInt8 := [42, 180, 0, 28, 16, 40, 27, 104, 29, 96, 46, 160, 0, 7, 4, 167, 0, 4, 3, 61, 132, 3, 1]
abbrev dktX6_isNow_2 : List UInt8 := dkwX6_isNow_2 ++ dktX6_isNow_3
def dkwX6_isNow_1 : List UInt8 := [29, 42, 180, 0, 31, 27, 46, 162, 0, 43, 28, 153, 0, 39, 42, 180, 0, 40, 17, 0, 240, 29, 96, 46]
abbrev dktX6_isNow_1 : List UInt8 := dkwX6_isNow_1 ++ dktX6_isNow_2
def dkwX6_isNow_0 : List UInt8 := [42, 180, 0, 43, 16, 6, 46, 42, 180, 0, 31, 27, 46, 160, 0, 7, 4, 167, 0, 4, 3, 61, 3, 62]
abbrev dktX6_isNow_0 : List UInt8 := dkwX6_isNow_0 ++ dktX6_isNow_1
theorem dksX6_isNow_0 : cX6_isNow.data.toList.drop 0 = dktX6_isNow_0 := by decide +kernel
theorem dksX6_isNow_1 : cX6_isNow.data.toList.drop 24 = dktX6_isNow_1 := dk_seg dksX6_isNow_0 24 rfl rfl
theorem dksX6_isNow_2 : cX6_isNow.data.toList.drop 48 = dktX6_isNow_2 := dk_seg dksX6_isNow_1 24 rfl rfl
theorem dksX6_isNow_3 : cX6_isNow.data.toList.drop 71 = dktX6_isNow_3 := dk_seg dksX6_isNow_2 23 rfl rfl
theorem dX6_isNow_0 : decode cX6_isNow 0 = .ok (.aload_n 0, 1) := dk_42 (dk_at dksX6_isNow_0 0 rfl rfl)
theorem dX6_isNow_1 : decode cX6_isNow 1 = .ok (.getfield 43, 3) := dk_180 0 43 (dk_at dksX6_isNow_0 1 rfl rfl)
theorem dX6_isNow_4 : decode cX6_isNow 4 = .ok (.bipush 6, 2) := dk_16 6 (dk_at dksX6_isNow_0 4 rfl rfl)
theorem dX6_isNow_6 : decode cX6_isNow 6 = .ok (.iaload, 1) := dk_46 (dk_at dksX6_isNow_0 6 rfl rfl)
theorem dX6_isNow_7 : decode cX6_isNow 7 = .ok (.aload_n 0, 1) := dk_42 (dk_at dksX6_isNow_0 7 rfl rfl)
theorem dX6_isNow_8 : decode cX6_isNow 8 = .ok (.getfield 31, 3) := dk_180 0 31 (dk_at dksX6_isNow_0 8 rfl rfl)
theorem dX6_isNow_11 : decode cX6_isNow 11 = .ok (.iload_n 1, 1) := dk_27 (dk_at dksX6_isNow_0 11 rfl rfl)
theorem dX6_isNow_12 : decode cX6_isNow 12 = .ok (.iaload, 1) := dk_46 (dk_at dksX6_isNow_0 12 rfl rfl)
theorem dX6_isNow_13 : decode cX6_isNow 13 = .ok (.if_icmp .ne 7, 3) := dk_160 0 7 (dk_at dksX6_isNow_0 13 rfl rfl)
theorem dX6_isNow_16 : decode cX6_isNow 16 = .ok (.iconst 1, 1) := dk_4 (dk_at dksX6_isNow_0 16 rfl rfl)
theorem dX6_isNow_17 : decode cX6_isNow 17 = .ok (.goto 4, 3) := dk_167 0 4 (dk_at dksX6_isNow_0 17 rfl rfl)
theorem dX6_isNow_20 : decode cX6_isNow 20 = .ok (.iconst 0, 1) := dk_3 (dk_at dksX6_isNow_0 20 rfl rfl)
theorem dX6_isNow_21 : decode cX6_isNow 21 = .ok (.istore_n 2, 1) := dk_61 (dk_at dksX6_isNow_0 21 rfl rfl)
theorem dX6_isNow_22 : decode cX6_isNow 22 = .ok (.iconst 0, 1) := dk_3 (dk_at dksX6_isNow_0 22 rfl rfl)
theorem dX6_isNow_23 : decode cX6_isNow 23 = .ok (.istore_n 3, 1) := dk_62 (dk_at dksX6_isNow_0 23 rfl rfl)
theorem dX6_isNow_24 : decode cX6_isNow 24 = .ok (.iload_n 3, 1) := dk_29 (dk_at dksX6_isNow_1 0 rfl rfl)
theorem dX6_isNow_25 : decode cX6_isNow 25 = .ok (.aload_n 0, 1) := dk_42 (dk_at dksX6_isNow_1 1 rfl rfl)
theorem dX6_isNow_26 : decode cX6_isNow 26 = .ok (.getfield 31, 3) := dk_180 0 31 (dk_at dksX6_isNow_1 2 rfl rfl)
theorem dX6_isNow_29 : decode cX6_isNow 29 = .ok (.iload_n 1, 1) := dk_27 (dk_at dksX6_isNow_1 5 rfl rfl)
theorem dX6_isNow_30 : decode cX6_isNow 30 = .ok (.iaload, 1) := dk_46 (dk_at dksX6_isNow_1 6 rfl rfl)
theorem dX6_isNow_31 : decode cX6_isNow 31 = .ok (.if_icmp .ge 43, 3) := dk_162 0 43 (dk_at dksX6_isNow_1 7 rfl rfl)
theorem dX6_isNow_34 : decode cX6_isNow 34 = .ok (.iload_n 2, 1) := dk_28 (dk_at dksX6_isNow_1 10 rfl rfl)
theorem dX6_isNow_35 : decode cX6_isNow 35 = .ok (.ifCond .eq 39, 3) := dk_153 0 39 (dk_at dksX6_isNow_1 11 rfl rfl)
theorem dX6_isNow_38 : decode cX6_isNow 38 = .ok (.aload_n 0, 1) := dk_42 (dk_at dksX6_isNow_1 14 rfl rfl)
theorem dX6_isNow_39 : decode cX6_isNow 39 = .ok (.getfield 40, 3) := dk_180 0 40 (dk_at dksX6_isNow_1 15 rfl rfl)
theorem dX6_isNow_42 : decode cX6_isNow 42 = .ok (.sipush 240, 3) := dk_17 0 240 (dk_at dksX6_isNow_1 18 rfl rfl)
theorem dX6_isNow_45 : decode cX6_isNow 45 = .ok (.iload_n 3, 1) := dk_29 (dk_at dksX6_isNow_1 21 rfl rfl)
theorem dX6_isNow_46 : decode cX6_isNow 46 = .ok (.iadd, 1) := dk_96 (dk_at dksX6_isNow_1 22 rfl rfl)
theorem dX6_isNow_47 : decode cX6_isNow 47 = .ok (.iaload, 1) := dk_46 (dk_at dksX6_isNow_1 23 rfl rfl)
theorem dX6_isNow_48 : decode cX6_isNow 48 = .ok (.aload_n 0, 1) := dk_42 (dk_at dksX6_isNow_2 0 rfl rfl)
theorem dX6_isNow_49 : decode cX6_isNow 49 = .ok (.getfield 28, 3) := dk_180 0 28 (dk_at dksX6_isNow_2 1 rfl rfl)
theorem dX6_isNow_52 : decode cX6_isNow 52 = .ok (.bipush 40, 2) := dk_16 40 (dk_at dksX6_isNow_2 4 rfl rfl)
theorem dX6_isNow_54 : decode cX6_isNow 54 = .ok (.iload_n 1, 1) := dk_27 (dk_at dksX6_isNow_2 6 rfl rfl)
theorem dX6_isNow_55 : decode cX6_isNow 55 = .ok (.imul, 1) := dk_104 (dk_at dksX6_isNow_2 7 rfl rfl)
theorem dX6_isNow_56 : decode cX6_isNow 56 = .ok (.iload_n 3, 1) := dk_29 (dk_at dksX6_isNow_2 8 rfl rfl)
theorem dX6_isNow_57 : decode cX6_isNow 57 = .ok (.iadd, 1) := dk_96 (dk_at dksX6_isNow_2 9 rfl rfl)
theorem dX6_isNow_58 : decode cX6_isNow 58 = .ok (.iaload, 1) := dk_46 (dk_at dksX6_isNow_2 10 rfl rfl)
theorem dX6_isNow_59 : decode cX6_isNow 59 = .ok (.if_icmp .ne 7, 3) := dk_160 0 7 (dk_at dksX6_isNow_2 11 rfl rfl)
theorem dX6_isNow_62 : decode cX6_isNow 62 = .ok (.iconst 1, 1) := dk_4 (dk_at dksX6_isNow_2 14 rfl rfl)
theorem dX6_isNow_63 : decode cX6_isNow 63 = .ok (.goto 4, 3) := dk_167 0 4 (dk_at dksX6_isNow_2 15 rfl rfl)
theorem dX6_isNow_66 : decode cX6_isNow 66 = .ok (.iconst 0, 1) := dk_3 (dk_at dksX6_isNow_2 18 rfl rfl)
theorem dX6_isNow_67 : decode cX6_isNow 67 = .ok (.istore_n 2, 1) := dk_61 (dk_at dksX6_isNow_2 19 rfl rfl)
theorem dX6_isNow_68 : decode cX6_isNow 68 = .ok (.iinc 3 1, 3) := dk_132 3 1 (dk_at dksX6_isNow_2 20 rfl rfl)
theorem dX6_isNow_71 : decode cX6_isNow 71 = .ok (.goto (-47), 3) := dk_167 255 209 (dk_at dksX6_isNow_3 0 rfl rfl)
theorem dX6_isNow_74 : decode cX6_isNow 74 = .ok (.iload_n 2, 1) := dk_28 (dk_at dksX6_isNow_3 3 rfl rfl)
theorem dX6_isNow_75 : decode cX6_isNow 75 = .ok (.ireturn, 1) := dk_172 (dk_at dksX6_isNow_3 4 rfl rfl)
def dkwX6_rowOf_1 : List UInt8 := [4, 96, 62, 132, 4, 1, 167, 255, 231, 29, 172]
abbrev dktX6_rowOf_1 : List UInt8 := dkwX6_rowOf_1 ++ []
def dkwX6_rowOf_0 : List UInt8 := [3, 62, 3, 54, 4, 21, 4, 28, 162, 0, 25, 16, 7, 29, 104, 42, 27, 28, 21, 4, 182, 0, 213, 96]
abbrev dktX6_rowOf_0 : List UInt8 := dkwX6_rowOf_0 ++ dktX6_rowOf_1
theorem dksX6_rowOf_0 : cX6_rowOf.data.toList.drop 0 = dktX6_rowOf_0 := by decide +kernel
theorem dksX6_rowOf_1 : cX6_rowOf.data.toList.drop 24 = dktX6_rowOf_1 := dk_seg dksX6_rowOf_0 24 rfl rfl
theorem dX6_rowOf_0 : decode cX6_rowOf 0 = .ok (.iconst 0, 1) := dk_3 (dk_at dksX6_rowOf_0 0 rfl rfl)
theorem dX6_rowOf_1 : decode cX6_rowOf 1 = .ok (.istore_n 3, 1) := dk_62 (dk_at dksX6_rowOf_0 1 rfl rfl)
theorem dX6_rowOf_2 : decode cX6_rowOf 2 = .ok (.iconst 0, 1) := dk_3 (dk_at dksX6_rowOf_0 2 rfl rfl)
theorem dX6_rowOf_3 : decode cX6_rowOf 3 = .ok (.istore 4, 2) := dk_54 4 (dk_at dksX6_rowOf_0 3 rfl rfl)
theorem dX6_rowOf_5 : decode cX6_rowOf 5 = .ok (.iload 4, 2) := dk_21 4 (dk_at dksX6_rowOf_0 5 rfl rfl)
theorem dX6_rowOf_7 : decode cX6_rowOf 7 = .ok (.iload_n 2, 1) := dk_28 (dk_at dksX6_rowOf_0 7 rfl rfl)
theorem dX6_rowOf_8 : decode cX6_rowOf 8 = .ok (.if_icmp .ge 25, 3) := dk_162 0 25 (dk_at dksX6_rowOf_0 8 rfl rfl)
theorem dX6_rowOf_11 : decode cX6_rowOf 11 = .ok (.bipush 7, 2) := dk_16 7 (dk_at dksX6_rowOf_0 11 rfl rfl)
theorem dX6_rowOf_13 : decode cX6_rowOf 13 = .ok (.iload_n 3, 1) := dk_29 (dk_at dksX6_rowOf_0 13 rfl rfl)
theorem dX6_rowOf_14 : decode cX6_rowOf 14 = .ok (.imul, 1) := dk_104 (dk_at dksX6_rowOf_0 14 rfl rfl)
theorem dX6_rowOf_15 : decode cX6_rowOf 15 = .ok (.aload_n 0, 1) := dk_42 (dk_at dksX6_rowOf_0 15 rfl rfl)
theorem dX6_rowOf_16 : decode cX6_rowOf 16 = .ok (.iload_n 1, 1) := dk_27 (dk_at dksX6_rowOf_0 16 rfl rfl)
theorem dX6_rowOf_17 : decode cX6_rowOf 17 = .ok (.iload_n 2, 1) := dk_28 (dk_at dksX6_rowOf_0 17 rfl rfl)
theorem dX6_rowOf_18 : decode cX6_rowOf 18 = .ok (.iload 4, 2) := dk_21 4 (dk_at dksX6_rowOf_0 18 rfl rfl)
theorem dX6_rowOf_20 : decode cX6_rowOf 20 = .ok (.invokevirtual 213, 3) := dk_182 0 213 (dk_at dksX6_rowOf_0 20 rfl rfl)
theorem dX6_rowOf_23 : decode cX6_rowOf 23 = .ok (.iadd, 1) := dk_96 (dk_at dksX6_rowOf_0 23 rfl rfl)
theorem dX6_rowOf_24 : decode cX6_rowOf 24 = .ok (.iconst 1, 1) := dk_4 (dk_at dksX6_rowOf_1 0 rfl rfl)
theorem dX6_rowOf_25 : decode cX6_rowOf 25 = .ok (.iadd, 1) := dk_96 (dk_at dksX6_rowOf_1 1 rfl rfl)
theorem dX6_rowOf_26 : decode cX6_rowOf 26 = .ok (.istore_n 3, 1) := dk_62 (dk_at dksX6_rowOf_1 2 rfl rfl)
theorem dX6_rowOf_27 : decode cX6_rowOf 27 = .ok (.iinc 4 1, 3) := dk_132 4 1 (dk_at dksX6_rowOf_1 3 rfl rfl)
theorem dX6_rowOf_30 : decode cX6_rowOf 30 = .ok (.goto (-25), 3) := dk_167 255 231 (dk_at dksX6_rowOf_1 6 rfl rfl)
theorem dX6_rowOf_33 : decode cX6_rowOf 33 = .ok (.iload_n 3, 1) := dk_29 (dk_at dksX6_rowOf_1 9 rfl rfl)
theorem dX6_rowOf_34 : decode cX6_rowOf 34 = .ok (.ireturn, 1) := dk_172 (dk_at dksX6_rowOf_1 10 rfl rfl)
def dkwX6_common_1 : List UInt8 := [182, 0, 243, 167, 0, 5, 16, 254, 172]
abbrev dktX6_common_1 : List UInt8 := dkwX6_common_1 ++ []
def dkwX6_common_0 : List UInt8 := [42, 182, 0, 137, 42, 27, 182, 0, 140, 153, 0, 20, 42, 28, 182, 0, 140, 153, 0, 12, 42, 27, 28]
abbrev dktX6_common_0 : List UInt8 := dkwX6_common_0 ++ dktX6_common_1
theorem dksX6_common_0 : cX6_common.data.toList.drop 0 = dktX6_common_0 := by decide +kernel
theorem dksX6_common_1 : cX6_common.data.toList.drop 23 = dktX6_common_1 := dk_seg dksX6_common_0 23 rfl rfl
theorem dX6_common_0 : decode cX6_common 0 = .ok (.aload_n 0, 1) := dk_42 (dk_at dksX6_common_0 0 rfl rfl)
theorem dX6_common_1 : decode cX6_common 1 = .ok (.invokevirtual 137, 3) := dk_182 0 137 (dk_at dksX6_common_0 1 rfl rfl)
theorem dX6_common_4 : decode cX6_common 4 = .ok (.aload_n 0, 1) := dk_42 (dk_at dksX6_common_0 4 rfl rfl)
theorem dX6_common_5 : decode cX6_common 5 = .ok (.iload_n 1, 1) := dk_27 (dk_at dksX6_common_0 5 rfl rfl)
theorem dX6_common_6 : decode cX6_common 6 = .ok (.invokevirtual 140, 3) := dk_182 0 140 (dk_at dksX6_common_0 6 rfl rfl)
theorem dX6_common_9 : decode cX6_common 9 = .ok (.ifCond .eq 20, 3) := dk_153 0 20 (dk_at dksX6_common_0 9 rfl rfl)
theorem dX6_common_12 : decode cX6_common 12 = .ok (.aload_n 0, 1) := dk_42 (dk_at dksX6_common_0 12 rfl rfl)
theorem dX6_common_13 : decode cX6_common 13 = .ok (.iload_n 2, 1) := dk_28 (dk_at dksX6_common_0 13 rfl rfl)
theorem dX6_common_14 : decode cX6_common 14 = .ok (.invokevirtual 140, 3) := dk_182 0 140 (dk_at dksX6_common_0 14 rfl rfl)
theorem dX6_common_17 : decode cX6_common 17 = .ok (.ifCond .eq 12, 3) := dk_153 0 12 (dk_at dksX6_common_0 17 rfl rfl)
theorem dX6_common_20 : decode cX6_common 20 = .ok (.aload_n 0, 1) := dk_42 (dk_at dksX6_common_0 20 rfl rfl)
theorem dX6_common_21 : decode cX6_common 21 = .ok (.iload_n 1, 1) := dk_27 (dk_at dksX6_common_0 21 rfl rfl)
theorem dX6_common_22 : decode cX6_common 22 = .ok (.iload_n 2, 1) := dk_28 (dk_at dksX6_common_0 22 rfl rfl)
theorem dX6_common_23 : decode cX6_common 23 = .ok (.invokevirtual 243, 3) := dk_182 0 243 (dk_at dksX6_common_1 0 rfl rfl)
theorem dX6_common_26 : decode cX6_common 26 = .ok (.goto 5, 3) := dk_167 0 5 (dk_at dksX6_common_1 3 rfl rfl)
theorem dX6_common_29 : decode cX6_common 29 = .ok (.bipush (-2), 2) := dk_16 254 (dk_at dksX6_common_1 6 rfl rfl)
theorem dX6_common_31 : decode cX6_common 31 = .ok (.ireturn, 1) := dk_172 (dk_at dksX6_common_1 8 rfl rfl)
def dkwX6_commonBoth_1 : List UInt8 := [180, 0, 31, 28, 46, 182, 0, 175, 172]
abbrev dktX6_commonBoth_1 : List UInt8 := dkwX6_commonBoth_1 ++ []
def dkwX6_commonBoth_0 : List UInt8 := [42, 42, 180, 0, 28, 16, 40, 27, 104, 42, 180, 0, 31, 27, 46, 42, 180, 0, 28, 16, 40, 28, 104, 42]
abbrev dktX6_commonBoth_0 : List UInt8 := dkwX6_commonBoth_0 ++ dktX6_commonBoth_1
theorem dksX6_commonBoth_0 : cX6_commonBoth.data.toList.drop 0 = dktX6_commonBoth_0 := by decide +kernel
theorem dksX6_commonBoth_1 : cX6_commonBoth.data.toList.drop 24 = dktX6_commonBoth_1 := dk_seg dksX6_commonBoth_0 24 rfl rfl
theorem dX6_commonBoth_0 : decode cX6_commonBoth 0 = .ok (.aload_n 0, 1) := dk_42 (dk_at dksX6_commonBoth_0 0 rfl rfl)
theorem dX6_commonBoth_1 : decode cX6_commonBoth 1 = .ok (.aload_n 0, 1) := dk_42 (dk_at dksX6_commonBoth_0 1 rfl rfl)
theorem dX6_commonBoth_2 : decode cX6_commonBoth 2 = .ok (.getfield 28, 3) := dk_180 0 28 (dk_at dksX6_commonBoth_0 2 rfl rfl)
theorem dX6_commonBoth_5 : decode cX6_commonBoth 5 = .ok (.bipush 40, 2) := dk_16 40 (dk_at dksX6_commonBoth_0 5 rfl rfl)
theorem dX6_commonBoth_7 : decode cX6_commonBoth 7 = .ok (.iload_n 1, 1) := dk_27 (dk_at dksX6_commonBoth_0 7 rfl rfl)
theorem dX6_commonBoth_8 : decode cX6_commonBoth 8 = .ok (.imul, 1) := dk_104 (dk_at dksX6_commonBoth_0 8 rfl rfl)
theorem dX6_commonBoth_9 : decode cX6_commonBoth 9 = .ok (.aload_n 0, 1) := dk_42 (dk_at dksX6_commonBoth_0 9 rfl rfl)
theorem dX6_commonBoth_10 : decode cX6_commonBoth 10 = .ok (.getfield 31, 3) := dk_180 0 31 (dk_at dksX6_commonBoth_0 10 rfl rfl)
theorem dX6_commonBoth_13 : decode cX6_commonBoth 13 = .ok (.iload_n 1, 1) := dk_27 (dk_at dksX6_commonBoth_0 13 rfl rfl)
theorem dX6_commonBoth_14 : decode cX6_commonBoth 14 = .ok (.iaload, 1) := dk_46 (dk_at dksX6_commonBoth_0 14 rfl rfl)
theorem dX6_commonBoth_15 : decode cX6_commonBoth 15 = .ok (.aload_n 0, 1) := dk_42 (dk_at dksX6_commonBoth_0 15 rfl rfl)
theorem dX6_commonBoth_16 : decode cX6_commonBoth 16 = .ok (.getfield 28, 3) := dk_180 0 28 (dk_at dksX6_commonBoth_0 16 rfl rfl)
theorem dX6_commonBoth_19 : decode cX6_commonBoth 19 = .ok (.bipush 40, 2) := dk_16 40 (dk_at dksX6_commonBoth_0 19 rfl rfl)
theorem dX6_commonBoth_21 : decode cX6_commonBoth 21 = .ok (.iload_n 2, 1) := dk_28 (dk_at dksX6_commonBoth_0 21 rfl rfl)
theorem dX6_commonBoth_22 : decode cX6_commonBoth 22 = .ok (.imul, 1) := dk_104 (dk_at dksX6_commonBoth_0 22 rfl rfl)
theorem dX6_commonBoth_23 : decode cX6_commonBoth 23 = .ok (.aload_n 0, 1) := dk_42 (dk_at dksX6_commonBoth_0 23 rfl rfl)
theorem dX6_commonBoth_24 : decode cX6_commonBoth 24 = .ok (.getfield 31, 3) := dk_180 0 31 (dk_at dksX6_commonBoth_1 0 rfl rfl)
theorem dX6_commonBoth_27 : decode cX6_commonBoth 27 = .ok (.iload_n 2, 1) := dk_28 (dk_at dksX6_commonBoth_1 3 rfl rfl)
theorem dX6_commonBoth_28 : decode cX6_commonBoth 28 = .ok (.iaload, 1) := dk_46 (dk_at dksX6_commonBoth_1 4 rfl rfl)
theorem dX6_commonBoth_29 : decode cX6_commonBoth 29 = .ok (.invokevirtual 175, 3) := dk_182 0 175 (dk_at dksX6_commonBoth_1 5 rfl rfl)
theorem dX6_commonBoth_32 : decode cX6_commonBoth 32 = .ok (.ireturn, 1) := dk_172 (dk_at dksX6_commonBoth_1 8 rfl rfl)
def dkwX6_far_1 : List UInt8 := [182, 0, 246, 167, 0, 5, 16, 254, 172]
abbrev dktX6_far_1 : List UInt8 := dkwX6_far_1 ++ []
def dkwX6_far_0 : List UInt8 := [42, 182, 0, 137, 42, 27, 182, 0, 140, 153, 0, 20, 42, 28, 182, 0, 140, 153, 0, 12, 42, 27, 28]
abbrev dktX6_far_0 : List UInt8 := dkwX6_far_0 ++ dktX6_far_1
theorem dksX6_far_0 : cX6_far.data.toList.drop 0 = dktX6_far_0 := by decide +kernel
theorem dksX6_far_1 : cX6_far.data.toList.drop 23 = dktX6_far_1 := dk_seg dksX6_far_0 23 rfl rfl
theorem dX6_far_0 : decode cX6_far 0 = .ok (.aload_n 0, 1) := dk_42 (dk_at dksX6_far_0 0 rfl rfl)
theorem dX6_far_1 : decode cX6_far 1 = .ok (.invokevirtual 137, 3) := dk_182 0 137 (dk_at dksX6_far_0 1 rfl rfl)
theorem dX6_far_4 : decode cX6_far 4 = .ok (.aload_n 0, 1) := dk_42 (dk_at dksX6_far_0 4 rfl rfl)
theorem dX6_far_5 : decode cX6_far 5 = .ok (.iload_n 1, 1) := dk_27 (dk_at dksX6_far_0 5 rfl rfl)
theorem dX6_far_6 : decode cX6_far 6 = .ok (.invokevirtual 140, 3) := dk_182 0 140 (dk_at dksX6_far_0 6 rfl rfl)
theorem dX6_far_9 : decode cX6_far 9 = .ok (.ifCond .eq 20, 3) := dk_153 0 20 (dk_at dksX6_far_0 9 rfl rfl)
theorem dX6_far_12 : decode cX6_far 12 = .ok (.aload_n 0, 1) := dk_42 (dk_at dksX6_far_0 12 rfl rfl)
theorem dX6_far_13 : decode cX6_far 13 = .ok (.iload_n 2, 1) := dk_28 (dk_at dksX6_far_0 13 rfl rfl)
theorem dX6_far_14 : decode cX6_far 14 = .ok (.invokevirtual 140, 3) := dk_182 0 140 (dk_at dksX6_far_0 14 rfl rfl)
theorem dX6_far_17 : decode cX6_far 17 = .ok (.ifCond .eq 12, 3) := dk_153 0 12 (dk_at dksX6_far_0 17 rfl rfl)
theorem dX6_far_20 : decode cX6_far 20 = .ok (.aload_n 0, 1) := dk_42 (dk_at dksX6_far_0 20 rfl rfl)
theorem dX6_far_21 : decode cX6_far 21 = .ok (.iload_n 1, 1) := dk_27 (dk_at dksX6_far_0 21 rfl rfl)
theorem dX6_far_22 : decode cX6_far 22 = .ok (.iload_n 2, 1) := dk_28 (dk_at dksX6_far_0 22 rfl rfl)
theorem dX6_far_23 : decode cX6_far 23 = .ok (.invokevirtual 246, 3) := dk_182 0 246 (dk_at dksX6_far_1 0 rfl rfl)
theorem dX6_far_26 : decode cX6_far 26 = .ok (.goto 5, 3) := dk_167 0 5 (dk_at dksX6_far_1 3 rfl rfl)
theorem dX6_far_29 : decode cX6_far 29 = .ok (.bipush (-2), 2) := dk_16 254 (dk_at dksX6_far_1 6 rfl rfl)
theorem dX6_far_31 : decode cX6_far 31 = .ok (.ireturn, 1) := dk_172 (dk_at dksX6_far_1 8 rfl rfl)
def dkwX6_farOf_0 : List UInt8 := [42, 180, 0, 31, 27, 46, 42, 180, 0, 31, 28, 46, 96, 5, 42, 27, 28, 182, 0, 243, 104, 100, 172]
abbrev dktX6_farOf_0 : List UInt8 := dkwX6_farOf_0 ++ []
theorem dksX6_farOf_0 : cX6_farOf.data.toList.drop 0 = dktX6_farOf_0 := by decide +kernel
theorem dX6_farOf_0 : decode cX6_farOf 0 = .ok (.aload_n 0, 1) := dk_42 (dk_at dksX6_farOf_0 0 rfl rfl)
theorem dX6_farOf_1 : decode cX6_farOf 1 = .ok (.getfield 31, 3) := dk_180 0 31 (dk_at dksX6_farOf_0 1 rfl rfl)
theorem dX6_farOf_4 : decode cX6_farOf 4 = .ok (.iload_n 1, 1) := dk_27 (dk_at dksX6_farOf_0 4 rfl rfl)
theorem dX6_farOf_5 : decode cX6_farOf 5 = .ok (.iaload, 1) := dk_46 (dk_at dksX6_farOf_0 5 rfl rfl)
theorem dX6_farOf_6 : decode cX6_farOf 6 = .ok (.aload_n 0, 1) := dk_42 (dk_at dksX6_farOf_0 6 rfl rfl)
theorem dX6_farOf_7 : decode cX6_farOf 7 = .ok (.getfield 31, 3) := dk_180 0 31 (dk_at dksX6_farOf_0 7 rfl rfl)
theorem dX6_farOf_10 : decode cX6_farOf 10 = .ok (.iload_n 2, 1) := dk_28 (dk_at dksX6_farOf_0 10 rfl rfl)
theorem dX6_farOf_11 : decode cX6_farOf 11 = .ok (.iaload, 1) := dk_46 (dk_at dksX6_farOf_0 11 rfl rfl)
theorem dX6_farOf_12 : decode cX6_farOf 12 = .ok (.iadd, 1) := dk_96 (dk_at dksX6_farOf_0 12 rfl rfl)
theorem dX6_farOf_13 : decode cX6_farOf 13 = .ok (.iconst 2, 1) := dk_5 (dk_at dksX6_farOf_0 13 rfl rfl)
theorem dX6_farOf_14 : decode cX6_farOf 14 = .ok (.aload_n 0, 1) := dk_42 (dk_at dksX6_farOf_0 14 rfl rfl)
theorem dX6_farOf_15 : decode cX6_farOf 15 = .ok (.iload_n 1, 1) := dk_27 (dk_at dksX6_farOf_0 15 rfl rfl)
theorem dX6_farOf_16 : decode cX6_farOf 16 = .ok (.iload_n 2, 1) := dk_28 (dk_at dksX6_farOf_0 16 rfl rfl)
theorem dX6_farOf_17 : decode cX6_farOf 17 = .ok (.invokevirtual 243, 3) := dk_182 0 243 (dk_at dksX6_farOf_0 17 rfl rfl)
theorem dX6_farOf_20 : decode cX6_farOf 20 = .ok (.imul, 1) := dk_104 (dk_at dksX6_farOf_0 20 rfl rfl)
theorem dX6_farOf_21 : decode cX6_farOf 21 = .ok (.isub, 1) := dk_100 (dk_at dksX6_farOf_0 21 rfl rfl)
theorem dX6_farOf_22 : decode cX6_farOf 22 = .ok (.ireturn, 1) := dk_172 (dk_at dksX6_farOf_0 22 rfl rfl)
def dkwX6_nearest_0 : List UInt8 := [42, 182, 0, 137, 42, 27, 182, 0, 140, 153, 0, 11, 42, 27, 182, 0, 249, 167, 0, 5, 16, 254, 172]
abbrev dktX6_nearest_0 : List UInt8 := dkwX6_nearest_0 ++ []
theorem dksX6_nearest_0 : cX6_nearest.data.toList.drop 0 = dktX6_nearest_0 := by decide +kernel
theorem dX6_nearest_0 : decode cX6_nearest 0 = .ok (.aload_n 0, 1) := dk_42 (dk_at dksX6_nearest_0 0 rfl rfl)
theorem dX6_nearest_1 : decode cX6_nearest 1 = .ok (.invokevirtual 137, 3) := dk_182 0 137 (dk_at dksX6_nearest_0 1 rfl rfl)
theorem dX6_nearest_4 : decode cX6_nearest 4 = .ok (.aload_n 0, 1) := dk_42 (dk_at dksX6_nearest_0 4 rfl rfl)
theorem dX6_nearest_5 : decode cX6_nearest 5 = .ok (.iload_n 1, 1) := dk_27 (dk_at dksX6_nearest_0 5 rfl rfl)
theorem dX6_nearest_6 : decode cX6_nearest 6 = .ok (.invokevirtual 140, 3) := dk_182 0 140 (dk_at dksX6_nearest_0 6 rfl rfl)
theorem dX6_nearest_9 : decode cX6_nearest 9 = .ok (.ifCond .eq 11, 3) := dk_153 0 11 (dk_at dksX6_nearest_0 9 rfl rfl)
theorem dX6_nearest_12 : decode cX6_nearest 12 = .ok (.aload_n 0, 1) := dk_42 (dk_at dksX6_nearest_0 12 rfl rfl)
theorem dX6_nearest_13 : decode cX6_nearest 13 = .ok (.iload_n 1, 1) := dk_27 (dk_at dksX6_nearest_0 13 rfl rfl)
theorem dX6_nearest_14 : decode cX6_nearest 14 = .ok (.invokevirtual 249, 3) := dk_182 0 249 (dk_at dksX6_nearest_0 14 rfl rfl)
theorem dX6_nearest_17 : decode cX6_nearest 17 = .ok (.goto 5, 3) := dk_167 0 5 (dk_at dksX6_nearest_0 17 rfl rfl)
theorem dX6_nearest_20 : decode cX6_nearest 20 = .ok (.bipush (-2), 2) := dk_16 254 (dk_at dksX6_nearest_0 20 rfl rfl)
theorem dX6_nearest_22 : decode cX6_nearest 22 = .ok (.ireturn, 1) := dk_172 (dk_at dksX6_nearest_0 22 rfl rfl)
def dkwX6_nearestOf_2 : List UInt8 := [167, 255, 214, 28, 172]
abbrev dktX6_nearestOf_2 : List UInt8 := dkwX6_nearestOf_2 ++ []
def dkwX6_nearestOf_1 : List UInt8 := [29, 182, 0, 246, 42, 27, 28, 182, 0, 246, 162, 0, 7, 29, 167, 0, 4, 28, 61, 132, 3, 1]
abbrev dktX6_nearestOf_1 : List UInt8 := dkwX6_nearestOf_1 ++ dktX6_nearestOf_2
def dkwX6_nearestOf_0 : List UInt8 := [2, 61, 3, 62, 29, 42, 180, 0, 112, 162, 0, 40, 29, 27, 159, 0, 27, 28, 2, 159, 0, 18, 42, 27]
abbrev dktX6_nearestOf_0 : List UInt8 := dkwX6_nearestOf_0 ++ dktX6_nearestOf_1
theorem dksX6_nearestOf_0 : cX6_nearestOf.data.toList.drop 0 = dktX6_nearestOf_0 := by decide +kernel
theorem dksX6_nearestOf_1 : cX6_nearestOf.data.toList.drop 24 = dktX6_nearestOf_1 := dk_seg dksX6_nearestOf_0 24 rfl rfl
theorem dksX6_nearestOf_2 : cX6_nearestOf.data.toList.drop 46 = dktX6_nearestOf_2 := dk_seg dksX6_nearestOf_1 22 rfl rfl
theorem dX6_nearestOf_0 : decode cX6_nearestOf 0 = .ok (.iconst (-1), 1) := dk_2 (dk_at dksX6_nearestOf_0 0 rfl rfl)
theorem dX6_nearestOf_1 : decode cX6_nearestOf 1 = .ok (.istore_n 2, 1) := dk_61 (dk_at dksX6_nearestOf_0 1 rfl rfl)
theorem dX6_nearestOf_2 : decode cX6_nearestOf 2 = .ok (.iconst 0, 1) := dk_3 (dk_at dksX6_nearestOf_0 2 rfl rfl)
theorem dX6_nearestOf_3 : decode cX6_nearestOf 3 = .ok (.istore_n 3, 1) := dk_62 (dk_at dksX6_nearestOf_0 3 rfl rfl)
theorem dX6_nearestOf_4 : decode cX6_nearestOf 4 = .ok (.iload_n 3, 1) := dk_29 (dk_at dksX6_nearestOf_0 4 rfl rfl)
theorem dX6_nearestOf_5 : decode cX6_nearestOf 5 = .ok (.aload_n 0, 1) := dk_42 (dk_at dksX6_nearestOf_0 5 rfl rfl)
theorem dX6_nearestOf_6 : decode cX6_nearestOf 6 = .ok (.getfield 112, 3) := dk_180 0 112 (dk_at dksX6_nearestOf_0 6 rfl rfl)
theorem dX6_nearestOf_9 : decode cX6_nearestOf 9 = .ok (.if_icmp .ge 40, 3) := dk_162 0 40 (dk_at dksX6_nearestOf_0 9 rfl rfl)
theorem dX6_nearestOf_12 : decode cX6_nearestOf 12 = .ok (.iload_n 3, 1) := dk_29 (dk_at dksX6_nearestOf_0 12 rfl rfl)
theorem dX6_nearestOf_13 : decode cX6_nearestOf 13 = .ok (.iload_n 1, 1) := dk_27 (dk_at dksX6_nearestOf_0 13 rfl rfl)
theorem dX6_nearestOf_14 : decode cX6_nearestOf 14 = .ok (.if_icmp .eq 27, 3) := dk_159 0 27 (dk_at dksX6_nearestOf_0 14 rfl rfl)
theorem dX6_nearestOf_17 : decode cX6_nearestOf 17 = .ok (.iload_n 2, 1) := dk_28 (dk_at dksX6_nearestOf_0 17 rfl rfl)
theorem dX6_nearestOf_18 : decode cX6_nearestOf 18 = .ok (.iconst (-1), 1) := dk_2 (dk_at dksX6_nearestOf_0 18 rfl rfl)
theorem dX6_nearestOf_19 : decode cX6_nearestOf 19 = .ok (.if_icmp .eq 18, 3) := dk_159 0 18 (dk_at dksX6_nearestOf_0 19 rfl rfl)
theorem dX6_nearestOf_22 : decode cX6_nearestOf 22 = .ok (.aload_n 0, 1) := dk_42 (dk_at dksX6_nearestOf_0 22 rfl rfl)
theorem dX6_nearestOf_23 : decode cX6_nearestOf 23 = .ok (.iload_n 1, 1) := dk_27 (dk_at dksX6_nearestOf_0 23 rfl rfl)
theorem dX6_nearestOf_24 : decode cX6_nearestOf 24 = .ok (.iload_n 3, 1) := dk_29 (dk_at dksX6_nearestOf_1 0 rfl rfl)
theorem dX6_nearestOf_25 : decode cX6_nearestOf 25 = .ok (.invokevirtual 246, 3) := dk_182 0 246 (dk_at dksX6_nearestOf_1 1 rfl rfl)
theorem dX6_nearestOf_28 : decode cX6_nearestOf 28 = .ok (.aload_n 0, 1) := dk_42 (dk_at dksX6_nearestOf_1 4 rfl rfl)
theorem dX6_nearestOf_29 : decode cX6_nearestOf 29 = .ok (.iload_n 1, 1) := dk_27 (dk_at dksX6_nearestOf_1 5 rfl rfl)
theorem dX6_nearestOf_30 : decode cX6_nearestOf 30 = .ok (.iload_n 2, 1) := dk_28 (dk_at dksX6_nearestOf_1 6 rfl rfl)
theorem dX6_nearestOf_31 : decode cX6_nearestOf 31 = .ok (.invokevirtual 246, 3) := dk_182 0 246 (dk_at dksX6_nearestOf_1 7 rfl rfl)
theorem dX6_nearestOf_34 : decode cX6_nearestOf 34 = .ok (.if_icmp .ge 7, 3) := dk_162 0 7 (dk_at dksX6_nearestOf_1 10 rfl rfl)
theorem dX6_nearestOf_37 : decode cX6_nearestOf 37 = .ok (.iload_n 3, 1) := dk_29 (dk_at dksX6_nearestOf_1 13 rfl rfl)
theorem dX6_nearestOf_38 : decode cX6_nearestOf 38 = .ok (.goto 4, 3) := dk_167 0 4 (dk_at dksX6_nearestOf_1 14 rfl rfl)
theorem dX6_nearestOf_41 : decode cX6_nearestOf 41 = .ok (.iload_n 2, 1) := dk_28 (dk_at dksX6_nearestOf_1 17 rfl rfl)
theorem dX6_nearestOf_42 : decode cX6_nearestOf 42 = .ok (.istore_n 2, 1) := dk_61 (dk_at dksX6_nearestOf_1 18 rfl rfl)
theorem dX6_nearestOf_43 : decode cX6_nearestOf 43 = .ok (.iinc 3 1, 3) := dk_132 3 1 (dk_at dksX6_nearestOf_1 19 rfl rfl)
theorem dX6_nearestOf_46 : decode cX6_nearestOf 46 = .ok (.goto (-42), 3) := dk_167 255 214 (dk_at dksX6_nearestOf_2 0 rfl rfl)
theorem dX6_nearestOf_49 : decode cX6_nearestOf 49 = .ok (.iload_n 2, 1) := dk_28 (dk_at dksX6_nearestOf_2 3 rfl rfl)
theorem dX6_nearestOf_50 : decode cX6_nearestOf 50 = .ok (.ireturn, 1) := dk_172 (dk_at dksX6_nearestOf_2 4 rfl rfl)
def dkwX6_mothers_0 : List UInt8 := [42, 182, 0, 137, 42, 27, 182, 0, 140, 153, 0, 11, 42, 27, 182, 0, 252, 167, 0, 5, 16, 254, 172]
abbrev dktX6_mothers_0 : List UInt8 := dkwX6_mothers_0 ++ []
theorem dksX6_mothers_0 : cX6_mothers.data.toList.drop 0 = dktX6_mothers_0 := by decide +kernel
theorem dX6_mothers_0 : decode cX6_mothers 0 = .ok (.aload_n 0, 1) := dk_42 (dk_at dksX6_mothers_0 0 rfl rfl)
theorem dX6_mothers_1 : decode cX6_mothers 1 = .ok (.invokevirtual 137, 3) := dk_182 0 137 (dk_at dksX6_mothers_0 1 rfl rfl)
theorem dX6_mothers_4 : decode cX6_mothers 4 = .ok (.aload_n 0, 1) := dk_42 (dk_at dksX6_mothers_0 4 rfl rfl)
theorem dX6_mothers_5 : decode cX6_mothers 5 = .ok (.iload_n 1, 1) := dk_27 (dk_at dksX6_mothers_0 5 rfl rfl)
theorem dX6_mothers_6 : decode cX6_mothers 6 = .ok (.invokevirtual 140, 3) := dk_182 0 140 (dk_at dksX6_mothers_0 6 rfl rfl)
theorem dX6_mothers_9 : decode cX6_mothers 9 = .ok (.ifCond .eq 11, 3) := dk_153 0 11 (dk_at dksX6_mothers_0 9 rfl rfl)
theorem dX6_mothers_12 : decode cX6_mothers 12 = .ok (.aload_n 0, 1) := dk_42 (dk_at dksX6_mothers_0 12 rfl rfl)
theorem dX6_mothers_13 : decode cX6_mothers 13 = .ok (.iload_n 1, 1) := dk_27 (dk_at dksX6_mothers_0 13 rfl rfl)
theorem dX6_mothers_14 : decode cX6_mothers 14 = .ok (.invokevirtual 252, 3) := dk_182 0 252 (dk_at dksX6_mothers_0 14 rfl rfl)
theorem dX6_mothers_17 : decode cX6_mothers 17 = .ok (.goto 5, 3) := dk_167 0 5 (dk_at dksX6_mothers_0 17 rfl rfl)
theorem dX6_mothers_20 : decode cX6_mothers 20 = .ok (.bipush (-2), 2) := dk_16 254 (dk_at dksX6_mothers_0 20 rfl rfl)
theorem dX6_mothers_22 : decode cX6_mothers 22 = .ok (.ireturn, 1) := dk_172 (dk_at dksX6_mothers_0 22 rfl rfl)
def dkwX6_mothersOf_2 : List UInt8 := [28, 172]
abbrev dktX6_mothersOf_2 : List UInt8 := dkwX6_mothersOf_2 ++ []
def dkwX6_mothersOf_1 : List UInt8 := [42, 180, 0, 31, 29, 46, 160, 0, 9, 4, 29, 120, 167, 0, 4, 3, 128, 61, 132, 3, 1, 167, 255, 215]
abbrev dktX6_mothersOf_1 : List UInt8 := dkwX6_mothersOf_1 ++ dktX6_mothersOf_2
def dkwX6_mothersOf_0 : List UInt8 := [3, 61, 3, 62, 29, 42, 180, 0, 112, 162, 0, 39, 28, 29, 27, 159, 0, 24, 42, 29, 27, 182, 0, 243]
abbrev dktX6_mothersOf_0 : List UInt8 := dkwX6_mothersOf_0 ++ dktX6_mothersOf_1
theorem dksX6_mothersOf_0 : cX6_mothersOf.data.toList.drop 0 = dktX6_mothersOf_0 := by decide +kernel
theorem dksX6_mothersOf_1 : cX6_mothersOf.data.toList.drop 24 = dktX6_mothersOf_1 := dk_seg dksX6_mothersOf_0 24 rfl rfl
theorem dksX6_mothersOf_2 : cX6_mothersOf.data.toList.drop 48 = dktX6_mothersOf_2 := dk_seg dksX6_mothersOf_1 24 rfl rfl
theorem dX6_mothersOf_0 : decode cX6_mothersOf 0 = .ok (.iconst 0, 1) := dk_3 (dk_at dksX6_mothersOf_0 0 rfl rfl)
theorem dX6_mothersOf_1 : decode cX6_mothersOf 1 = .ok (.istore_n 2, 1) := dk_61 (dk_at dksX6_mothersOf_0 1 rfl rfl)
theorem dX6_mothersOf_2 : decode cX6_mothersOf 2 = .ok (.iconst 0, 1) := dk_3 (dk_at dksX6_mothersOf_0 2 rfl rfl)
theorem dX6_mothersOf_3 : decode cX6_mothersOf 3 = .ok (.istore_n 3, 1) := dk_62 (dk_at dksX6_mothersOf_0 3 rfl rfl)
theorem dX6_mothersOf_4 : decode cX6_mothersOf 4 = .ok (.iload_n 3, 1) := dk_29 (dk_at dksX6_mothersOf_0 4 rfl rfl)
theorem dX6_mothersOf_5 : decode cX6_mothersOf 5 = .ok (.aload_n 0, 1) := dk_42 (dk_at dksX6_mothersOf_0 5 rfl rfl)
theorem dX6_mothersOf_6 : decode cX6_mothersOf 6 = .ok (.getfield 112, 3) := dk_180 0 112 (dk_at dksX6_mothersOf_0 6 rfl rfl)
theorem dX6_mothersOf_9 : decode cX6_mothersOf 9 = .ok (.if_icmp .ge 39, 3) := dk_162 0 39 (dk_at dksX6_mothersOf_0 9 rfl rfl)
theorem dX6_mothersOf_12 : decode cX6_mothersOf 12 = .ok (.iload_n 2, 1) := dk_28 (dk_at dksX6_mothersOf_0 12 rfl rfl)
theorem dX6_mothersOf_13 : decode cX6_mothersOf 13 = .ok (.iload_n 3, 1) := dk_29 (dk_at dksX6_mothersOf_0 13 rfl rfl)
theorem dX6_mothersOf_14 : decode cX6_mothersOf 14 = .ok (.iload_n 1, 1) := dk_27 (dk_at dksX6_mothersOf_0 14 rfl rfl)
theorem dX6_mothersOf_15 : decode cX6_mothersOf 15 = .ok (.if_icmp .eq 24, 3) := dk_159 0 24 (dk_at dksX6_mothersOf_0 15 rfl rfl)
theorem dX6_mothersOf_18 : decode cX6_mothersOf 18 = .ok (.aload_n 0, 1) := dk_42 (dk_at dksX6_mothersOf_0 18 rfl rfl)
theorem dX6_mothersOf_19 : decode cX6_mothersOf 19 = .ok (.iload_n 3, 1) := dk_29 (dk_at dksX6_mothersOf_0 19 rfl rfl)
theorem dX6_mothersOf_20 : decode cX6_mothersOf 20 = .ok (.iload_n 1, 1) := dk_27 (dk_at dksX6_mothersOf_0 20 rfl rfl)
theorem dX6_mothersOf_21 : decode cX6_mothersOf 21 = .ok (.invokevirtual 243, 3) := dk_182 0 243 (dk_at dksX6_mothersOf_0 21 rfl rfl)
theorem dX6_mothersOf_24 : decode cX6_mothersOf 24 = .ok (.aload_n 0, 1) := dk_42 (dk_at dksX6_mothersOf_1 0 rfl rfl)
theorem dX6_mothersOf_25 : decode cX6_mothersOf 25 = .ok (.getfield 31, 3) := dk_180 0 31 (dk_at dksX6_mothersOf_1 1 rfl rfl)
theorem dX6_mothersOf_28 : decode cX6_mothersOf 28 = .ok (.iload_n 3, 1) := dk_29 (dk_at dksX6_mothersOf_1 4 rfl rfl)
theorem dX6_mothersOf_29 : decode cX6_mothersOf 29 = .ok (.iaload, 1) := dk_46 (dk_at dksX6_mothersOf_1 5 rfl rfl)
theorem dX6_mothersOf_30 : decode cX6_mothersOf 30 = .ok (.if_icmp .ne 9, 3) := dk_160 0 9 (dk_at dksX6_mothersOf_1 6 rfl rfl)
theorem dX6_mothersOf_33 : decode cX6_mothersOf 33 = .ok (.iconst 1, 1) := dk_4 (dk_at dksX6_mothersOf_1 9 rfl rfl)
theorem dX6_mothersOf_34 : decode cX6_mothersOf 34 = .ok (.iload_n 3, 1) := dk_29 (dk_at dksX6_mothersOf_1 10 rfl rfl)
theorem dX6_mothersOf_35 : decode cX6_mothersOf 35 = .ok (.ishl, 1) := dk_120 (dk_at dksX6_mothersOf_1 11 rfl rfl)
theorem dX6_mothersOf_36 : decode cX6_mothersOf 36 = .ok (.goto 4, 3) := dk_167 0 4 (dk_at dksX6_mothersOf_1 12 rfl rfl)
theorem dX6_mothersOf_39 : decode cX6_mothersOf 39 = .ok (.iconst 0, 1) := dk_3 (dk_at dksX6_mothersOf_1 15 rfl rfl)
theorem dX6_mothersOf_40 : decode cX6_mothersOf 40 = .ok (.ior, 1) := dk_128 (dk_at dksX6_mothersOf_1 16 rfl rfl)
theorem dX6_mothersOf_41 : decode cX6_mothersOf 41 = .ok (.istore_n 2, 1) := dk_61 (dk_at dksX6_mothersOf_1 17 rfl rfl)
theorem dX6_mothersOf_42 : decode cX6_mothersOf 42 = .ok (.iinc 3 1, 3) := dk_132 3 1 (dk_at dksX6_mothersOf_1 18 rfl rfl)
theorem dX6_mothersOf_45 : decode cX6_mothersOf 45 = .ok (.goto (-41), 3) := dk_167 255 215 (dk_at dksX6_mothersOf_1 21 rfl rfl)
theorem dX6_mothersOf_48 : decode cX6_mothersOf 48 = .ok (.iload_n 2, 1) := dk_28 (dk_at dksX6_mothersOf_2 0 rfl rfl)
theorem dX6_mothersOf_49 : decode cX6_mothersOf 49 = .ok (.ireturn, 1) := dk_172 (dk_at dksX6_mothersOf_2 1 rfl rfl)
def dkwX6_tells_1 : List UInt8 := [28, 184, 1, 12, 167, 0, 5, 16, 254, 172]
abbrev dktX6_tells_1 : List UInt8 := dkwX6_tells_1 ++ []
def dkwX6_tells_0 : List UInt8 := [42, 182, 0, 137, 42, 27, 182, 0, 140, 153, 0, 22, 28, 184, 0, 107, 153, 0, 15, 42, 27, 182, 1, 9]
abbrev dktX6_tells_0 : List UInt8 := dkwX6_tells_0 ++ dktX6_tells_1
theorem dksX6_tells_0 : cX6_tells.data.toList.drop 0 = dktX6_tells_0 := by decide +kernel
theorem dksX6_tells_1 : cX6_tells.data.toList.drop 24 = dktX6_tells_1 := dk_seg dksX6_tells_0 24 rfl rfl
theorem dX6_tells_0 : decode cX6_tells 0 = .ok (.aload_n 0, 1) := dk_42 (dk_at dksX6_tells_0 0 rfl rfl)
theorem dX6_tells_1 : decode cX6_tells 1 = .ok (.invokevirtual 137, 3) := dk_182 0 137 (dk_at dksX6_tells_0 1 rfl rfl)
theorem dX6_tells_4 : decode cX6_tells 4 = .ok (.aload_n 0, 1) := dk_42 (dk_at dksX6_tells_0 4 rfl rfl)
theorem dX6_tells_5 : decode cX6_tells 5 = .ok (.iload_n 1, 1) := dk_27 (dk_at dksX6_tells_0 5 rfl rfl)
theorem dX6_tells_6 : decode cX6_tells 6 = .ok (.invokevirtual 140, 3) := dk_182 0 140 (dk_at dksX6_tells_0 6 rfl rfl)
theorem dX6_tells_9 : decode cX6_tells 9 = .ok (.ifCond .eq 22, 3) := dk_153 0 22 (dk_at dksX6_tells_0 9 rfl rfl)
theorem dX6_tells_12 : decode cX6_tells 12 = .ok (.iload_n 2, 1) := dk_28 (dk_at dksX6_tells_0 12 rfl rfl)
theorem dX6_tells_13 : decode cX6_tells 13 = .ok (.invokestatic 107, 3) := dk_184 0 107 (dk_at dksX6_tells_0 13 rfl rfl)
theorem dX6_tells_16 : decode cX6_tells 16 = .ok (.ifCond .eq 15, 3) := dk_153 0 15 (dk_at dksX6_tells_0 16 rfl rfl)
theorem dX6_tells_19 : decode cX6_tells 19 = .ok (.aload_n 0, 1) := dk_42 (dk_at dksX6_tells_0 19 rfl rfl)
theorem dX6_tells_20 : decode cX6_tells 20 = .ok (.iload_n 1, 1) := dk_27 (dk_at dksX6_tells_0 20 rfl rfl)
theorem dX6_tells_21 : decode cX6_tells 21 = .ok (.invokevirtual 265, 3) := dk_182 1 9 (dk_at dksX6_tells_0 21 rfl rfl)
theorem dX6_tells_24 : decode cX6_tells 24 = .ok (.iload_n 2, 1) := dk_28 (dk_at dksX6_tells_1 0 rfl rfl)
theorem dX6_tells_25 : decode cX6_tells 25 = .ok (.invokestatic 268, 3) := dk_184 1 12 (dk_at dksX6_tells_1 1 rfl rfl)
theorem dX6_tells_28 : decode cX6_tells 28 = .ok (.goto 5, 3) := dk_167 0 5 (dk_at dksX6_tells_1 4 rfl rfl)
theorem dX6_tells_31 : decode cX6_tells 31 = .ok (.bipush (-2), 2) := dk_16 254 (dk_at dksX6_tells_1 7 rfl rfl)
theorem dX6_tells_33 : decode cX6_tells 33 = .ok (.ireturn, 1) := dk_172 (dk_at dksX6_tells_1 9 rfl rfl)
def dkwX6_tellsOf_6 : List UInt8 := [167, 255, 121, 28, 172]
abbrev dktX6_tellsOf_6 : List UInt8 := dkwX6_tellsOf_6 ++ []
def dkwX6_tellsOf_5 : List UInt8 := [54, 4, 132, 5, 1, 167, 255, 167, 21, 4, 153, 0, 7, 29, 167, 0, 4, 28, 61, 132, 3, 1]
abbrev dktX6_tellsOf_5 : List UInt8 := dkwX6_tellsOf_5 ++ dktX6_tellsOf_6
def dkwX6_tellsOf_4 : List UInt8 := [21, 7, 182, 1, 6, 159, 0, 7, 4, 167, 0, 4, 3, 54, 6, 132, 7, 1, 167, 255, 207, 21, 6]
abbrev dktX6_tellsOf_4 : List UInt8 := dkwX6_tellsOf_4 ++ dktX6_tellsOf_5
def dkwX6_tellsOf_3 : List UInt8 := [21, 6, 154, 0, 43, 29, 21, 7, 184, 1, 2, 153, 0, 25, 42, 21, 5, 21, 7, 182, 1, 6, 42, 27]
abbrev dktX6_tellsOf_3 : List UInt8 := dkwX6_tellsOf_3 ++ dktX6_tellsOf_4
def dkwX6_tellsOf_2 : List UInt8 := [21, 5, 27, 160, 0, 7, 4, 167, 0, 4, 3, 54, 6, 3, 54, 7, 21, 7, 16, 12, 162, 0, 48]
abbrev dktX6_tellsOf_2 : List UInt8 := dkwX6_tellsOf_2 ++ dktX6_tellsOf_3
def dkwX6_tellsOf_1 : List UInt8 := [162, 0, 112, 4, 54, 4, 3, 54, 5, 21, 5, 42, 180, 0, 112, 162, 0, 86, 21, 4, 153, 0, 81]
abbrev dktX6_tellsOf_1 : List UInt8 := dkwX6_tellsOf_1 ++ dktX6_tellsOf_2
def dkwX6_tellsOf_0 : List UInt8 := [2, 61, 3, 62, 29, 17, 16, 0, 162, 0, 134, 28, 2, 159, 0, 14, 29, 184, 0, 255, 28, 184, 0, 255]
abbrev dktX6_tellsOf_0 : List UInt8 := dkwX6_tellsOf_0 ++ dktX6_tellsOf_1
theorem dksX6_tellsOf_0 : cX6_tellsOf.data.toList.drop 0 = dktX6_tellsOf_0 := by decide +kernel
theorem dksX6_tellsOf_1 : cX6_tellsOf.data.toList.drop 24 = dktX6_tellsOf_1 := dk_seg dksX6_tellsOf_0 24 rfl rfl
theorem dksX6_tellsOf_2 : cX6_tellsOf.data.toList.drop 47 = dktX6_tellsOf_2 := dk_seg dksX6_tellsOf_1 23 rfl rfl
theorem dksX6_tellsOf_3 : cX6_tellsOf.data.toList.drop 70 = dktX6_tellsOf_3 := dk_seg dksX6_tellsOf_2 23 rfl rfl
theorem dksX6_tellsOf_4 : cX6_tellsOf.data.toList.drop 94 = dktX6_tellsOf_4 := dk_seg dksX6_tellsOf_3 24 rfl rfl
theorem dksX6_tellsOf_5 : cX6_tellsOf.data.toList.drop 117 = dktX6_tellsOf_5 := dk_seg dksX6_tellsOf_4 23 rfl rfl
theorem dksX6_tellsOf_6 : cX6_tellsOf.data.toList.drop 139 = dktX6_tellsOf_6 := dk_seg dksX6_tellsOf_5 22 rfl rfl
theorem dX6_tellsOf_0 : decode cX6_tellsOf 0 = .ok (.iconst (-1), 1) := dk_2 (dk_at dksX6_tellsOf_0 0 rfl rfl)
theorem dX6_tellsOf_1 : decode cX6_tellsOf 1 = .ok (.istore_n 2, 1) := dk_61 (dk_at dksX6_tellsOf_0 1 rfl rfl)
theorem dX6_tellsOf_2 : decode cX6_tellsOf 2 = .ok (.iconst 0, 1) := dk_3 (dk_at dksX6_tellsOf_0 2 rfl rfl)
theorem dX6_tellsOf_3 : decode cX6_tellsOf 3 = .ok (.istore_n 3, 1) := dk_62 (dk_at dksX6_tellsOf_0 3 rfl rfl)
theorem dX6_tellsOf_4 : decode cX6_tellsOf 4 = .ok (.iload_n 3, 1) := dk_29 (dk_at dksX6_tellsOf_0 4 rfl rfl)
theorem dX6_tellsOf_5 : decode cX6_tellsOf 5 = .ok (.sipush 4096, 3) := dk_17 16 0 (dk_at dksX6_tellsOf_0 5 rfl rfl)
theorem dX6_tellsOf_8 : decode cX6_tellsOf 8 = .ok (.if_icmp .ge 134, 3) := dk_162 0 134 (dk_at dksX6_tellsOf_0 8 rfl rfl)
theorem dX6_tellsOf_11 : decode cX6_tellsOf 11 = .ok (.iload_n 2, 1) := dk_28 (dk_at dksX6_tellsOf_0 11 rfl rfl)
theorem dX6_tellsOf_12 : decode cX6_tellsOf 12 = .ok (.iconst (-1), 1) := dk_2 (dk_at dksX6_tellsOf_0 12 rfl rfl)
theorem dX6_tellsOf_13 : decode cX6_tellsOf 13 = .ok (.if_icmp .eq 14, 3) := dk_159 0 14 (dk_at dksX6_tellsOf_0 13 rfl rfl)
theorem dX6_tellsOf_16 : decode cX6_tellsOf 16 = .ok (.iload_n 3, 1) := dk_29 (dk_at dksX6_tellsOf_0 16 rfl rfl)
theorem dX6_tellsOf_17 : decode cX6_tellsOf 17 = .ok (.invokestatic 255, 3) := dk_184 0 255 (dk_at dksX6_tellsOf_0 17 rfl rfl)
theorem dX6_tellsOf_20 : decode cX6_tellsOf 20 = .ok (.iload_n 2, 1) := dk_28 (dk_at dksX6_tellsOf_0 20 rfl rfl)
theorem dX6_tellsOf_21 : decode cX6_tellsOf 21 = .ok (.invokestatic 255, 3) := dk_184 0 255 (dk_at dksX6_tellsOf_0 21 rfl rfl)
theorem dX6_tellsOf_24 : decode cX6_tellsOf 24 = .ok (.if_icmp .ge 112, 3) := dk_162 0 112 (dk_at dksX6_tellsOf_1 0 rfl rfl)
theorem dX6_tellsOf_27 : decode cX6_tellsOf 27 = .ok (.iconst 1, 1) := dk_4 (dk_at dksX6_tellsOf_1 3 rfl rfl)
theorem dX6_tellsOf_28 : decode cX6_tellsOf 28 = .ok (.istore 4, 2) := dk_54 4 (dk_at dksX6_tellsOf_1 4 rfl rfl)
theorem dX6_tellsOf_30 : decode cX6_tellsOf 30 = .ok (.iconst 0, 1) := dk_3 (dk_at dksX6_tellsOf_1 6 rfl rfl)
theorem dX6_tellsOf_31 : decode cX6_tellsOf 31 = .ok (.istore 5, 2) := dk_54 5 (dk_at dksX6_tellsOf_1 7 rfl rfl)
theorem dX6_tellsOf_33 : decode cX6_tellsOf 33 = .ok (.iload 5, 2) := dk_21 5 (dk_at dksX6_tellsOf_1 9 rfl rfl)
theorem dX6_tellsOf_35 : decode cX6_tellsOf 35 = .ok (.aload_n 0, 1) := dk_42 (dk_at dksX6_tellsOf_1 11 rfl rfl)
theorem dX6_tellsOf_36 : decode cX6_tellsOf 36 = .ok (.getfield 112, 3) := dk_180 0 112 (dk_at dksX6_tellsOf_1 12 rfl rfl)
theorem dX6_tellsOf_39 : decode cX6_tellsOf 39 = .ok (.if_icmp .ge 86, 3) := dk_162 0 86 (dk_at dksX6_tellsOf_1 15 rfl rfl)
theorem dX6_tellsOf_42 : decode cX6_tellsOf 42 = .ok (.iload 4, 2) := dk_21 4 (dk_at dksX6_tellsOf_1 18 rfl rfl)
theorem dX6_tellsOf_44 : decode cX6_tellsOf 44 = .ok (.ifCond .eq 81, 3) := dk_153 0 81 (dk_at dksX6_tellsOf_1 20 rfl rfl)
theorem dX6_tellsOf_47 : decode cX6_tellsOf 47 = .ok (.iload 5, 2) := dk_21 5 (dk_at dksX6_tellsOf_2 0 rfl rfl)
theorem dX6_tellsOf_49 : decode cX6_tellsOf 49 = .ok (.iload_n 1, 1) := dk_27 (dk_at dksX6_tellsOf_2 2 rfl rfl)
theorem dX6_tellsOf_50 : decode cX6_tellsOf 50 = .ok (.if_icmp .ne 7, 3) := dk_160 0 7 (dk_at dksX6_tellsOf_2 3 rfl rfl)
theorem dX6_tellsOf_53 : decode cX6_tellsOf 53 = .ok (.iconst 1, 1) := dk_4 (dk_at dksX6_tellsOf_2 6 rfl rfl)
theorem dX6_tellsOf_54 : decode cX6_tellsOf 54 = .ok (.goto 4, 3) := dk_167 0 4 (dk_at dksX6_tellsOf_2 7 rfl rfl)
theorem dX6_tellsOf_57 : decode cX6_tellsOf 57 = .ok (.iconst 0, 1) := dk_3 (dk_at dksX6_tellsOf_2 10 rfl rfl)
theorem dX6_tellsOf_58 : decode cX6_tellsOf 58 = .ok (.istore 6, 2) := dk_54 6 (dk_at dksX6_tellsOf_2 11 rfl rfl)
theorem dX6_tellsOf_60 : decode cX6_tellsOf 60 = .ok (.iconst 0, 1) := dk_3 (dk_at dksX6_tellsOf_2 13 rfl rfl)
theorem dX6_tellsOf_61 : decode cX6_tellsOf 61 = .ok (.istore 7, 2) := dk_54 7 (dk_at dksX6_tellsOf_2 14 rfl rfl)
theorem dX6_tellsOf_63 : decode cX6_tellsOf 63 = .ok (.iload 7, 2) := dk_21 7 (dk_at dksX6_tellsOf_2 16 rfl rfl)
theorem dX6_tellsOf_65 : decode cX6_tellsOf 65 = .ok (.bipush 12, 2) := dk_16 12 (dk_at dksX6_tellsOf_2 18 rfl rfl)
theorem dX6_tellsOf_67 : decode cX6_tellsOf 67 = .ok (.if_icmp .ge 48, 3) := dk_162 0 48 (dk_at dksX6_tellsOf_2 20 rfl rfl)
theorem dX6_tellsOf_70 : decode cX6_tellsOf 70 = .ok (.iload 6, 2) := dk_21 6 (dk_at dksX6_tellsOf_3 0 rfl rfl)
theorem dX6_tellsOf_72 : decode cX6_tellsOf 72 = .ok (.ifCond .ne 43, 3) := dk_154 0 43 (dk_at dksX6_tellsOf_3 2 rfl rfl)
theorem dX6_tellsOf_75 : decode cX6_tellsOf 75 = .ok (.iload_n 3, 1) := dk_29 (dk_at dksX6_tellsOf_3 5 rfl rfl)
theorem dX6_tellsOf_76 : decode cX6_tellsOf 76 = .ok (.iload 7, 2) := dk_21 7 (dk_at dksX6_tellsOf_3 6 rfl rfl)
theorem dX6_tellsOf_78 : decode cX6_tellsOf 78 = .ok (.invokestatic 258, 3) := dk_184 1 2 (dk_at dksX6_tellsOf_3 8 rfl rfl)
theorem dX6_tellsOf_81 : decode cX6_tellsOf 81 = .ok (.ifCond .eq 25, 3) := dk_153 0 25 (dk_at dksX6_tellsOf_3 11 rfl rfl)
theorem dX6_tellsOf_84 : decode cX6_tellsOf 84 = .ok (.aload_n 0, 1) := dk_42 (dk_at dksX6_tellsOf_3 14 rfl rfl)
theorem dX6_tellsOf_85 : decode cX6_tellsOf 85 = .ok (.iload 5, 2) := dk_21 5 (dk_at dksX6_tellsOf_3 15 rfl rfl)
theorem dX6_tellsOf_87 : decode cX6_tellsOf 87 = .ok (.iload 7, 2) := dk_21 7 (dk_at dksX6_tellsOf_3 17 rfl rfl)
theorem dX6_tellsOf_89 : decode cX6_tellsOf 89 = .ok (.invokevirtual 262, 3) := dk_182 1 6 (dk_at dksX6_tellsOf_3 19 rfl rfl)
theorem dX6_tellsOf_92 : decode cX6_tellsOf 92 = .ok (.aload_n 0, 1) := dk_42 (dk_at dksX6_tellsOf_3 22 rfl rfl)
theorem dX6_tellsOf_93 : decode cX6_tellsOf 93 = .ok (.iload_n 1, 1) := dk_27 (dk_at dksX6_tellsOf_3 23 rfl rfl)
theorem dX6_tellsOf_94 : decode cX6_tellsOf 94 = .ok (.iload 7, 2) := dk_21 7 (dk_at dksX6_tellsOf_4 0 rfl rfl)
theorem dX6_tellsOf_96 : decode cX6_tellsOf 96 = .ok (.invokevirtual 262, 3) := dk_182 1 6 (dk_at dksX6_tellsOf_4 2 rfl rfl)
theorem dX6_tellsOf_99 : decode cX6_tellsOf 99 = .ok (.if_icmp .eq 7, 3) := dk_159 0 7 (dk_at dksX6_tellsOf_4 5 rfl rfl)
theorem dX6_tellsOf_102 : decode cX6_tellsOf 102 = .ok (.iconst 1, 1) := dk_4 (dk_at dksX6_tellsOf_4 8 rfl rfl)
theorem dX6_tellsOf_103 : decode cX6_tellsOf 103 = .ok (.goto 4, 3) := dk_167 0 4 (dk_at dksX6_tellsOf_4 9 rfl rfl)
theorem dX6_tellsOf_106 : decode cX6_tellsOf 106 = .ok (.iconst 0, 1) := dk_3 (dk_at dksX6_tellsOf_4 12 rfl rfl)
theorem dX6_tellsOf_107 : decode cX6_tellsOf 107 = .ok (.istore 6, 2) := dk_54 6 (dk_at dksX6_tellsOf_4 13 rfl rfl)
theorem dX6_tellsOf_109 : decode cX6_tellsOf 109 = .ok (.iinc 7 1, 3) := dk_132 7 1 (dk_at dksX6_tellsOf_4 15 rfl rfl)
theorem dX6_tellsOf_112 : decode cX6_tellsOf 112 = .ok (.goto (-49), 3) := dk_167 255 207 (dk_at dksX6_tellsOf_4 18 rfl rfl)
theorem dX6_tellsOf_115 : decode cX6_tellsOf 115 = .ok (.iload 6, 2) := dk_21 6 (dk_at dksX6_tellsOf_4 21 rfl rfl)
theorem dX6_tellsOf_117 : decode cX6_tellsOf 117 = .ok (.istore 4, 2) := dk_54 4 (dk_at dksX6_tellsOf_5 0 rfl rfl)
theorem dX6_tellsOf_119 : decode cX6_tellsOf 119 = .ok (.iinc 5 1, 3) := dk_132 5 1 (dk_at dksX6_tellsOf_5 2 rfl rfl)
theorem dX6_tellsOf_122 : decode cX6_tellsOf 122 = .ok (.goto (-89), 3) := dk_167 255 167 (dk_at dksX6_tellsOf_5 5 rfl rfl)
theorem dX6_tellsOf_125 : decode cX6_tellsOf 125 = .ok (.iload 4, 2) := dk_21 4 (dk_at dksX6_tellsOf_5 8 rfl rfl)
theorem dX6_tellsOf_127 : decode cX6_tellsOf 127 = .ok (.ifCond .eq 7, 3) := dk_153 0 7 (dk_at dksX6_tellsOf_5 10 rfl rfl)
theorem dX6_tellsOf_130 : decode cX6_tellsOf 130 = .ok (.iload_n 3, 1) := dk_29 (dk_at dksX6_tellsOf_5 13 rfl rfl)
theorem dX6_tellsOf_131 : decode cX6_tellsOf 131 = .ok (.goto 4, 3) := dk_167 0 4 (dk_at dksX6_tellsOf_5 14 rfl rfl)
theorem dX6_tellsOf_134 : decode cX6_tellsOf 134 = .ok (.iload_n 2, 1) := dk_28 (dk_at dksX6_tellsOf_5 17 rfl rfl)
theorem dX6_tellsOf_135 : decode cX6_tellsOf 135 = .ok (.istore_n 2, 1) := dk_61 (dk_at dksX6_tellsOf_5 18 rfl rfl)
theorem dX6_tellsOf_136 : decode cX6_tellsOf 136 = .ok (.iinc 3 1, 3) := dk_132 3 1 (dk_at dksX6_tellsOf_5 19 rfl rfl)
theorem dX6_tellsOf_139 : decode cX6_tellsOf 139 = .ok (.goto (-135), 3) := dk_167 255 121 (dk_at dksX6_tellsOf_6 0 rfl rfl)
theorem dX6_tellsOf_142 : decode cX6_tellsOf 142 = .ok (.iload_n 2, 1) := dk_28 (dk_at dksX6_tellsOf_6 3 rfl rfl)
theorem dX6_tellsOf_143 : decode cX6_tellsOf 143 = .ok (.ireturn, 1) := dk_172 (dk_at dksX6_tellsOf_6 4 rfl rfl)
def dkwX6_ones_0 : List UInt8 := [3, 60, 26, 61, 28, 153, 0, 15, 132, 1, 1, 28, 28, 4, 100, 126, 61, 167, 255, 243, 27, 172]
abbrev dktX6_ones_0 : List UInt8 := dkwX6_ones_0 ++ []
theorem dksX6_ones_0 : cX6_ones.data.toList.drop 0 = dktX6_ones_0 := by decide +kernel
theorem dX6_ones_0 : decode cX6_ones 0 = .ok (.iconst 0, 1) := dk_3 (dk_at dksX6_ones_0 0 rfl rfl)
theorem dX6_ones_1 : decode cX6_ones 1 = .ok (.istore_n 1, 1) := dk_60 (dk_at dksX6_ones_0 1 rfl rfl)
theorem dX6_ones_2 : decode cX6_ones 2 = .ok (.iload_n 0, 1) := dk_26 (dk_at dksX6_ones_0 2 rfl rfl)
theorem dX6_ones_3 : decode cX6_ones 3 = .ok (.istore_n 2, 1) := dk_61 (dk_at dksX6_ones_0 3 rfl rfl)
theorem dX6_ones_4 : decode cX6_ones 4 = .ok (.iload_n 2, 1) := dk_28 (dk_at dksX6_ones_0 4 rfl rfl)
theorem dX6_ones_5 : decode cX6_ones 5 = .ok (.ifCond .eq 15, 3) := dk_153 0 15 (dk_at dksX6_ones_0 5 rfl rfl)
theorem dX6_ones_8 : decode cX6_ones 8 = .ok (.iinc 1 1, 3) := dk_132 1 1 (dk_at dksX6_ones_0 8 rfl rfl)
theorem dX6_ones_11 : decode cX6_ones 11 = .ok (.iload_n 2, 1) := dk_28 (dk_at dksX6_ones_0 11 rfl rfl)
theorem dX6_ones_12 : decode cX6_ones 12 = .ok (.iload_n 2, 1) := dk_28 (dk_at dksX6_ones_0 12 rfl rfl)
theorem dX6_ones_13 : decode cX6_ones 13 = .ok (.iconst 1, 1) := dk_4 (dk_at dksX6_ones_0 13 rfl rfl)
theorem dX6_ones_14 : decode cX6_ones 14 = .ok (.isub, 1) := dk_100 (dk_at dksX6_ones_0 14 rfl rfl)
theorem dX6_ones_15 : decode cX6_ones 15 = .ok (.iand, 1) := dk_126 (dk_at dksX6_ones_0 15 rfl rfl)
theorem dX6_ones_16 : decode cX6_ones 16 = .ok (.istore_n 2, 1) := dk_61 (dk_at dksX6_ones_0 16 rfl rfl)
theorem dX6_ones_17 : decode cX6_ones 17 = .ok (.goto (-13), 3) := dk_167 255 243 (dk_at dksX6_ones_0 17 rfl rfl)
theorem dX6_ones_20 : decode cX6_ones 20 = .ok (.iload_n 1, 1) := dk_27 (dk_at dksX6_ones_0 20 rfl rfl)
theorem dX6_ones_21 : decode cX6_ones 21 = .ok (.ireturn, 1) := dk_172 (dk_at dksX6_ones_0 21 rfl rfl)
def dkwX6_isIn_0 : List UInt8 := [26, 27, 122, 4, 126, 4, 160, 0, 7, 4, 167, 0, 4, 3, 172]
abbrev dktX6_isIn_0 : List UInt8 := dkwX6_isIn_0 ++ []
theorem dksX6_isIn_0 : cX6_isIn.data.toList.drop 0 = dktX6_isIn_0 := by decide +kernel
theorem dX6_isIn_0 : decode cX6_isIn 0 = .ok (.iload_n 0, 1) := dk_26 (dk_at dksX6_isIn_0 0 rfl rfl)
theorem dX6_isIn_1 : decode cX6_isIn 1 = .ok (.iload_n 1, 1) := dk_27 (dk_at dksX6_isIn_0 1 rfl rfl)
theorem dX6_isIn_2 : decode cX6_isIn 2 = .ok (.ishr, 1) := dk_122 (dk_at dksX6_isIn_0 2 rfl rfl)
theorem dX6_isIn_3 : decode cX6_isIn 3 = .ok (.iconst 1, 1) := dk_4 (dk_at dksX6_isIn_0 3 rfl rfl)
theorem dX6_isIn_4 : decode cX6_isIn 4 = .ok (.iand, 1) := dk_126 (dk_at dksX6_isIn_0 4 rfl rfl)
theorem dX6_isIn_5 : decode cX6_isIn 5 = .ok (.iconst 1, 1) := dk_4 (dk_at dksX6_isIn_0 5 rfl rfl)
theorem dX6_isIn_6 : decode cX6_isIn 6 = .ok (.if_icmp .ne 7, 3) := dk_160 0 7 (dk_at dksX6_isIn_0 6 rfl rfl)
theorem dX6_isIn_9 : decode cX6_isIn 9 = .ok (.iconst 1, 1) := dk_4 (dk_at dksX6_isIn_0 9 rfl rfl)
theorem dX6_isIn_10 : decode cX6_isIn 10 = .ok (.goto 4, 3) := dk_167 0 4 (dk_at dksX6_isIn_0 10 rfl rfl)
theorem dX6_isIn_13 : decode cX6_isIn 13 = .ok (.iconst 0, 1) := dk_3 (dk_at dksX6_isIn_0 13 rfl rfl)
theorem dX6_isIn_14 : decode cX6_isIn 14 = .ok (.ireturn, 1) := dk_172 (dk_at dksX6_isIn_0 14 rfl rfl)
def dkwX6_noteAt_1 : List UInt8 := [2, 172]
abbrev dktX6_noteAt_1 : List UInt8 := dkwX6_noteAt_1 ++ []
def dkwX6_noteAt_0 : List UInt8 := [28, 42, 180, 0, 31, 27, 46, 162, 0, 17, 42, 180, 0, 28, 16, 40, 27, 104, 28, 96, 46, 167, 0, 4]
abbrev dktX6_noteAt_0 : List UInt8 := dkwX6_noteAt_0 ++ dktX6_noteAt_1
theorem dksX6_noteAt_0 : cX6_noteAt.data.toList.drop 0 = dktX6_noteAt_0 := by decide +kernel
theorem dksX6_noteAt_1 : cX6_noteAt.data.toList.drop 24 = dktX6_noteAt_1 := dk_seg dksX6_noteAt_0 24 rfl rfl
theorem dX6_noteAt_0 : decode cX6_noteAt 0 = .ok (.iload_n 2, 1) := dk_28 (dk_at dksX6_noteAt_0 0 rfl rfl)
theorem dX6_noteAt_1 : decode cX6_noteAt 1 = .ok (.aload_n 0, 1) := dk_42 (dk_at dksX6_noteAt_0 1 rfl rfl)
theorem dX6_noteAt_2 : decode cX6_noteAt 2 = .ok (.getfield 31, 3) := dk_180 0 31 (dk_at dksX6_noteAt_0 2 rfl rfl)
theorem dX6_noteAt_5 : decode cX6_noteAt 5 = .ok (.iload_n 1, 1) := dk_27 (dk_at dksX6_noteAt_0 5 rfl rfl)
theorem dX6_noteAt_6 : decode cX6_noteAt 6 = .ok (.iaload, 1) := dk_46 (dk_at dksX6_noteAt_0 6 rfl rfl)
theorem dX6_noteAt_7 : decode cX6_noteAt 7 = .ok (.if_icmp .ge 17, 3) := dk_162 0 17 (dk_at dksX6_noteAt_0 7 rfl rfl)
theorem dX6_noteAt_10 : decode cX6_noteAt 10 = .ok (.aload_n 0, 1) := dk_42 (dk_at dksX6_noteAt_0 10 rfl rfl)
theorem dX6_noteAt_11 : decode cX6_noteAt 11 = .ok (.getfield 28, 3) := dk_180 0 28 (dk_at dksX6_noteAt_0 11 rfl rfl)
theorem dX6_noteAt_14 : decode cX6_noteAt 14 = .ok (.bipush 40, 2) := dk_16 40 (dk_at dksX6_noteAt_0 14 rfl rfl)
theorem dX6_noteAt_16 : decode cX6_noteAt 16 = .ok (.iload_n 1, 1) := dk_27 (dk_at dksX6_noteAt_0 16 rfl rfl)
theorem dX6_noteAt_17 : decode cX6_noteAt 17 = .ok (.imul, 1) := dk_104 (dk_at dksX6_noteAt_0 17 rfl rfl)
theorem dX6_noteAt_18 : decode cX6_noteAt 18 = .ok (.iload_n 2, 1) := dk_28 (dk_at dksX6_noteAt_0 18 rfl rfl)
theorem dX6_noteAt_19 : decode cX6_noteAt 19 = .ok (.iadd, 1) := dk_96 (dk_at dksX6_noteAt_0 19 rfl rfl)
theorem dX6_noteAt_20 : decode cX6_noteAt 20 = .ok (.iaload, 1) := dk_46 (dk_at dksX6_noteAt_0 20 rfl rfl)
theorem dX6_noteAt_21 : decode cX6_noteAt 21 = .ok (.goto 4, 3) := dk_167 0 4 (dk_at dksX6_noteAt_0 21 rfl rfl)
theorem dX6_noteAt_24 : decode cX6_noteAt 24 = .ok (.iconst (-1), 1) := dk_2 (dk_at dksX6_noteAt_1 0 rfl rfl)
theorem dX6_noteAt_25 : decode cX6_noteAt 25 = .ok (.ireturn, 1) := dk_172 (dk_at dksX6_noteAt_1 1 rfl rfl)
def dkwX6_tellsBits_0 : List UInt8 := [26, 2, 159, 0, 8, 27, 4, 160, 0, 7, 26, 167, 0, 7, 26, 184, 0, 255, 172]
abbrev dktX6_tellsBits_0 : List UInt8 := dkwX6_tellsBits_0 ++ []
theorem dksX6_tellsBits_0 : cX6_tellsBits.data.toList.drop 0 = dktX6_tellsBits_0 := by decide +kernel
theorem dX6_tellsBits_0 : decode cX6_tellsBits 0 = .ok (.iload_n 0, 1) := dk_26 (dk_at dksX6_tellsBits_0 0 rfl rfl)
theorem dX6_tellsBits_1 : decode cX6_tellsBits 1 = .ok (.iconst (-1), 1) := dk_2 (dk_at dksX6_tellsBits_0 1 rfl rfl)
theorem dX6_tellsBits_2 : decode cX6_tellsBits 2 = .ok (.if_icmp .eq 8, 3) := dk_159 0 8 (dk_at dksX6_tellsBits_0 2 rfl rfl)
theorem dX6_tellsBits_5 : decode cX6_tellsBits 5 = .ok (.iload_n 1, 1) := dk_27 (dk_at dksX6_tellsBits_0 5 rfl rfl)
theorem dX6_tellsBits_6 : decode cX6_tellsBits 6 = .ok (.iconst 1, 1) := dk_4 (dk_at dksX6_tellsBits_0 6 rfl rfl)
theorem dX6_tellsBits_7 : decode cX6_tellsBits 7 = .ok (.if_icmp .ne 7, 3) := dk_160 0 7 (dk_at dksX6_tellsBits_0 7 rfl rfl)
theorem dX6_tellsBits_10 : decode cX6_tellsBits 10 = .ok (.iload_n 0, 1) := dk_26 (dk_at dksX6_tellsBits_0 10 rfl rfl)
theorem dX6_tellsBits_11 : decode cX6_tellsBits 11 = .ok (.goto 7, 3) := dk_167 0 7 (dk_at dksX6_tellsBits_0 11 rfl rfl)
theorem dX6_tellsBits_14 : decode cX6_tellsBits 14 = .ok (.iload_n 0, 1) := dk_26 (dk_at dksX6_tellsBits_0 14 rfl rfl)
theorem dX6_tellsBits_15 : decode cX6_tellsBits 15 = .ok (.invokestatic 255, 3) := dk_184 0 255 (dk_at dksX6_tellsBits_0 15 rfl rfl)
theorem dX6_tellsBits_18 : decode cX6_tellsBits 18 = .ok (.ireturn, 1) := dk_172 (dk_at dksX6_tellsBits_0 18 rfl rfl)
def dkwX6_loses_1 : List UInt8 := [17, 252, 22, 172]
abbrev dktX6_loses_1 : List UInt8 := dkwX6_loses_1 ++ []
def dkwX6_loses_0 : List UInt8 := [42, 182, 0, 137, 27, 133, 9, 20, 0, 163, 184, 0, 79, 153, 0, 11, 42, 27, 182, 1, 15, 167, 0, 6]
abbrev dktX6_loses_0 : List UInt8 := dkwX6_loses_0 ++ dktX6_loses_1
theorem dksX6_loses_0 : cX6_loses.data.toList.drop 0 = dktX6_loses_0 := by decide +kernel
theorem dksX6_loses_1 : cX6_loses.data.toList.drop 24 = dktX6_loses_1 := dk_seg dksX6_loses_0 24 rfl rfl
theorem dX6_loses_0 : decode cX6_loses 0 = .ok (.aload_n 0, 1) := dk_42 (dk_at dksX6_loses_0 0 rfl rfl)
theorem dX6_loses_1 : decode cX6_loses 1 = .ok (.invokevirtual 137, 3) := dk_182 0 137 (dk_at dksX6_loses_0 1 rfl rfl)
theorem dX6_loses_4 : decode cX6_loses 4 = .ok (.iload_n 1, 1) := dk_27 (dk_at dksX6_loses_0 4 rfl rfl)
theorem dX6_loses_5 : decode cX6_loses 5 = .ok (.i2l, 1) := dk_133 (dk_at dksX6_loses_0 5 rfl rfl)
theorem dX6_loses_6 : decode cX6_loses 6 = .ok (.lconst 0, 1) := dk_9 (dk_at dksX6_loses_0 6 rfl rfl)
theorem dX6_loses_7 : decode cX6_loses 7 = .ok (.ldc2_w 163, 3) := dk_20 0 163 (dk_at dksX6_loses_0 7 rfl rfl)
theorem dX6_loses_10 : decode cX6_loses 10 = .ok (.invokestatic 79, 3) := dk_184 0 79 (dk_at dksX6_loses_0 10 rfl rfl)
theorem dX6_loses_13 : decode cX6_loses 13 = .ok (.ifCond .eq 11, 3) := dk_153 0 11 (dk_at dksX6_loses_0 13 rfl rfl)
theorem dX6_loses_16 : decode cX6_loses 16 = .ok (.aload_n 0, 1) := dk_42 (dk_at dksX6_loses_0 16 rfl rfl)
theorem dX6_loses_17 : decode cX6_loses 17 = .ok (.iload_n 1, 1) := dk_27 (dk_at dksX6_loses_0 17 rfl rfl)
theorem dX6_loses_18 : decode cX6_loses 18 = .ok (.invokevirtual 271, 3) := dk_182 1 15 (dk_at dksX6_loses_0 18 rfl rfl)
theorem dX6_loses_21 : decode cX6_loses 21 = .ok (.goto 6, 3) := dk_167 0 6 (dk_at dksX6_loses_0 21 rfl rfl)
theorem dX6_loses_24 : decode cX6_loses 24 = .ok (.sipush (-1002), 3) := dk_17 252 22 (dk_at dksX6_loses_1 0 rfl rfl)
theorem dX6_loses_27 : decode cX6_loses 27 = .ok (.ireturn, 1) := dk_172 (dk_at dksX6_loses_1 3 rfl rfl)
def dkwX6_losesOf_0 : List UInt8 := [42, 16, 39, 3, 182, 0, 207, 42, 16, 39, 27, 182, 0, 207, 100, 172]
abbrev dktX6_losesOf_0 : List UInt8 := dkwX6_losesOf_0 ++ []
theorem dksX6_losesOf_0 : cX6_losesOf.data.toList.drop 0 = dktX6_losesOf_0 := by decide +kernel
theorem dX6_losesOf_0 : decode cX6_losesOf 0 = .ok (.aload_n 0, 1) := dk_42 (dk_at dksX6_losesOf_0 0 rfl rfl)
theorem dX6_losesOf_1 : decode cX6_losesOf 1 = .ok (.bipush 39, 2) := dk_16 39 (dk_at dksX6_losesOf_0 1 rfl rfl)
theorem dX6_losesOf_3 : decode cX6_losesOf 3 = .ok (.iconst 0, 1) := dk_3 (dk_at dksX6_losesOf_0 3 rfl rfl)
theorem dX6_losesOf_4 : decode cX6_losesOf 4 = .ok (.invokevirtual 207, 3) := dk_182 0 207 (dk_at dksX6_losesOf_0 4 rfl rfl)
theorem dX6_losesOf_7 : decode cX6_losesOf 7 = .ok (.aload_n 0, 1) := dk_42 (dk_at dksX6_losesOf_0 7 rfl rfl)
theorem dX6_losesOf_8 : decode cX6_losesOf 8 = .ok (.bipush 39, 2) := dk_16 39 (dk_at dksX6_losesOf_0 8 rfl rfl)
theorem dX6_losesOf_10 : decode cX6_losesOf 10 = .ok (.iload_n 1, 1) := dk_27 (dk_at dksX6_losesOf_0 10 rfl rfl)
theorem dX6_losesOf_11 : decode cX6_losesOf 11 = .ok (.invokevirtual 207, 3) := dk_182 0 207 (dk_at dksX6_losesOf_0 11 rfl rfl)
theorem dX6_losesOf_14 : decode cX6_losesOf 14 = .ok (.isub, 1) := dk_100 (dk_at dksX6_losesOf_0 14 rfl rfl)
theorem dX6_losesOf_15 : decode cX6_losesOf 15 = .ok (.ireturn, 1) := dk_172 (dk_at dksX6_losesOf_0 15 rfl rfl)
def dkwX6_best_1 : List UInt8 := [16, 254, 172]
abbrev dktX6_best_1 : List UInt8 := dkwX6_best_1 ++ []
def dkwX6_best_0 : List UInt8 := [42, 182, 0, 137, 27, 133, 9, 20, 1, 18, 184, 0, 79, 153, 0, 11, 42, 27, 182, 1, 20, 167, 0, 5]
abbrev dktX6_best_0 : List UInt8 := dkwX6_best_0 ++ dktX6_best_1
theorem dksX6_best_0 : cX6_best.data.toList.drop 0 = dktX6_best_0 := by decide +kernel
theorem dksX6_best_1 : cX6_best.data.toList.drop 24 = dktX6_best_1 := dk_seg dksX6_best_0 24 rfl rfl
theorem dX6_best_0 : decode cX6_best 0 = .ok (.aload_n 0, 1) := dk_42 (dk_at dksX6_best_0 0 rfl rfl)
theorem dX6_best_1 : decode cX6_best 1 = .ok (.invokevirtual 137, 3) := dk_182 0 137 (dk_at dksX6_best_0 1 rfl rfl)
theorem dX6_best_4 : decode cX6_best 4 = .ok (.iload_n 1, 1) := dk_27 (dk_at dksX6_best_0 4 rfl rfl)
theorem dX6_best_5 : decode cX6_best 5 = .ok (.i2l, 1) := dk_133 (dk_at dksX6_best_0 5 rfl rfl)
theorem dX6_best_6 : decode cX6_best 6 = .ok (.lconst 0, 1) := dk_9 (dk_at dksX6_best_0 6 rfl rfl)
theorem dX6_best_7 : decode cX6_best 7 = .ok (.ldc2_w 274, 3) := dk_20 1 18 (dk_at dksX6_best_0 7 rfl rfl)
theorem dX6_best_10 : decode cX6_best 10 = .ok (.invokestatic 79, 3) := dk_184 0 79 (dk_at dksX6_best_0 10 rfl rfl)
theorem dX6_best_13 : decode cX6_best 13 = .ok (.ifCond .eq 11, 3) := dk_153 0 11 (dk_at dksX6_best_0 13 rfl rfl)
theorem dX6_best_16 : decode cX6_best 16 = .ok (.aload_n 0, 1) := dk_42 (dk_at dksX6_best_0 16 rfl rfl)
theorem dX6_best_17 : decode cX6_best 17 = .ok (.iload_n 1, 1) := dk_27 (dk_at dksX6_best_0 17 rfl rfl)
theorem dX6_best_18 : decode cX6_best 18 = .ok (.invokevirtual 276, 3) := dk_182 1 20 (dk_at dksX6_best_0 18 rfl rfl)
theorem dX6_best_21 : decode cX6_best 21 = .ok (.goto 5, 3) := dk_167 0 5 (dk_at dksX6_best_0 21 rfl rfl)
theorem dX6_best_24 : decode cX6_best 24 = .ok (.bipush (-2), 2) := dk_16 254 (dk_at dksX6_best_1 0 rfl rfl)
theorem dX6_best_26 : decode cX6_best 26 = .ok (.ireturn, 1) := dk_172 (dk_at dksX6_best_1 2 rfl rfl)
def dkwX6_bestOf_1 : List UInt8 := [167, 255, 236, 2, 172]
abbrev dktX6_bestOf_1 : List UInt8 := dkwX6_bestOf_1 ++ []
def dkwX6_bestOf_0 : List UInt8 := [16, 12, 61, 28, 155, 0, 22, 42, 16, 39, 28, 182, 0, 207, 27, 161, 0, 5, 28, 172, 132, 2, 255]
abbrev dktX6_bestOf_0 : List UInt8 := dkwX6_bestOf_0 ++ dktX6_bestOf_1
theorem dksX6_bestOf_0 : cX6_bestOf.data.toList.drop 0 = dktX6_bestOf_0 := by decide +kernel
theorem dksX6_bestOf_1 : cX6_bestOf.data.toList.drop 23 = dktX6_bestOf_1 := dk_seg dksX6_bestOf_0 23 rfl rfl
theorem dX6_bestOf_0 : decode cX6_bestOf 0 = .ok (.bipush 12, 2) := dk_16 12 (dk_at dksX6_bestOf_0 0 rfl rfl)
theorem dX6_bestOf_2 : decode cX6_bestOf 2 = .ok (.istore_n 2, 1) := dk_61 (dk_at dksX6_bestOf_0 2 rfl rfl)
theorem dX6_bestOf_3 : decode cX6_bestOf 3 = .ok (.iload_n 2, 1) := dk_28 (dk_at dksX6_bestOf_0 3 rfl rfl)
theorem dX6_bestOf_4 : decode cX6_bestOf 4 = .ok (.ifCond .lt 22, 3) := dk_155 0 22 (dk_at dksX6_bestOf_0 4 rfl rfl)
theorem dX6_bestOf_7 : decode cX6_bestOf 7 = .ok (.aload_n 0, 1) := dk_42 (dk_at dksX6_bestOf_0 7 rfl rfl)
theorem dX6_bestOf_8 : decode cX6_bestOf 8 = .ok (.bipush 39, 2) := dk_16 39 (dk_at dksX6_bestOf_0 8 rfl rfl)
theorem dX6_bestOf_10 : decode cX6_bestOf 10 = .ok (.iload_n 2, 1) := dk_28 (dk_at dksX6_bestOf_0 10 rfl rfl)
theorem dX6_bestOf_11 : decode cX6_bestOf 11 = .ok (.invokevirtual 207, 3) := dk_182 0 207 (dk_at dksX6_bestOf_0 11 rfl rfl)
theorem dX6_bestOf_14 : decode cX6_bestOf 14 = .ok (.iload_n 1, 1) := dk_27 (dk_at dksX6_bestOf_0 14 rfl rfl)
theorem dX6_bestOf_15 : decode cX6_bestOf 15 = .ok (.if_icmp .lt 5, 3) := dk_161 0 5 (dk_at dksX6_bestOf_0 15 rfl rfl)
theorem dX6_bestOf_18 : decode cX6_bestOf 18 = .ok (.iload_n 2, 1) := dk_28 (dk_at dksX6_bestOf_0 18 rfl rfl)
theorem dX6_bestOf_19 : decode cX6_bestOf 19 = .ok (.ireturn, 1) := dk_172 (dk_at dksX6_bestOf_0 19 rfl rfl)
theorem dX6_bestOf_20 : decode cX6_bestOf 20 = .ok (.iinc 2 (-1), 3) := dk_132 2 255 (dk_at dksX6_bestOf_0 20 rfl rfl)
theorem dX6_bestOf_23 : decode cX6_bestOf 23 = .ok (.goto (-20), 3) := dk_167 255 236 (dk_at dksX6_bestOf_1 0 rfl rfl)
theorem dX6_bestOf_26 : decode cX6_bestOf 26 = .ok (.iconst (-1), 1) := dk_2 (dk_at dksX6_bestOf_1 3 rfl rfl)
theorem dX6_bestOf_27 : decode cX6_bestOf 27 = .ok (.ireturn, 1) := dk_172 (dk_at dksX6_bestOf_1 4 rfl rfl)
def dkwX6_hums_4 : List UInt8 := [16, 254, 184, 1, 35, 173]
abbrev dktX6_hums_4 : List UInt8 := dkwX6_hums_4 ++ []
def dkwX6_hums_3 : List UInt8 := [54, 7, 21, 7, 153, 0, 19, 42, 27, 28, 29, 21, 4, 21, 5, 21, 6, 182, 1, 31, 167, 0, 8]
abbrev dktX6_hums_3 : List UInt8 := dkwX6_hums_3 ++ dktX6_hums_4
def dkwX6_hums_2 : List UInt8 := [10, 20, 1, 29, 184, 0, 79, 153, 0, 15, 21, 6, 184, 0, 107, 153, 0, 7, 4, 167, 0, 4, 3]
abbrev dktX6_hums_2 : List UInt8 := dkwX6_hums_2 ++ dktX6_hums_3
def dkwX6_hums_1 : List UInt8 := [42, 29, 182, 0, 147, 153, 0, 41, 21, 4, 133, 10, 20, 0, 155, 184, 0, 79, 153, 0, 28, 21, 5, 133]
abbrev dktX6_hums_1 : List UInt8 := dkwX6_hums_1 ++ dktX6_hums_2
def dkwX6_hums_0 : List UInt8 := [42, 182, 0, 137, 27, 133, 9, 20, 1, 23, 184, 0, 79, 153, 0, 57, 42, 28, 182, 0, 140, 153, 0, 49]
abbrev dktX6_hums_0 : List UInt8 := dkwX6_hums_0 ++ dktX6_hums_1
theorem dksX6_hums_0 : cX6_hums.data.toList.drop 0 = dktX6_hums_0 := by decide +kernel
theorem dksX6_hums_1 : cX6_hums.data.toList.drop 24 = dktX6_hums_1 := dk_seg dksX6_hums_0 24 rfl rfl
theorem dksX6_hums_2 : cX6_hums.data.toList.drop 48 = dktX6_hums_2 := dk_seg dksX6_hums_1 24 rfl rfl
theorem dksX6_hums_3 : cX6_hums.data.toList.drop 71 = dktX6_hums_3 := dk_seg dksX6_hums_2 23 rfl rfl
theorem dksX6_hums_4 : cX6_hums.data.toList.drop 94 = dktX6_hums_4 := dk_seg dksX6_hums_3 23 rfl rfl
theorem dX6_hums_0 : decode cX6_hums 0 = .ok (.aload_n 0, 1) := dk_42 (dk_at dksX6_hums_0 0 rfl rfl)
theorem dX6_hums_1 : decode cX6_hums 1 = .ok (.invokevirtual 137, 3) := dk_182 0 137 (dk_at dksX6_hums_0 1 rfl rfl)
theorem dX6_hums_4 : decode cX6_hums 4 = .ok (.iload_n 1, 1) := dk_27 (dk_at dksX6_hums_0 4 rfl rfl)
theorem dX6_hums_5 : decode cX6_hums 5 = .ok (.i2l, 1) := dk_133 (dk_at dksX6_hums_0 5 rfl rfl)
theorem dX6_hums_6 : decode cX6_hums 6 = .ok (.lconst 0, 1) := dk_9 (dk_at dksX6_hums_0 6 rfl rfl)
theorem dX6_hums_7 : decode cX6_hums 7 = .ok (.ldc2_w 279, 3) := dk_20 1 23 (dk_at dksX6_hums_0 7 rfl rfl)
theorem dX6_hums_10 : decode cX6_hums 10 = .ok (.invokestatic 79, 3) := dk_184 0 79 (dk_at dksX6_hums_0 10 rfl rfl)
theorem dX6_hums_13 : decode cX6_hums 13 = .ok (.ifCond .eq 57, 3) := dk_153 0 57 (dk_at dksX6_hums_0 13 rfl rfl)
theorem dX6_hums_16 : decode cX6_hums 16 = .ok (.aload_n 0, 1) := dk_42 (dk_at dksX6_hums_0 16 rfl rfl)
theorem dX6_hums_17 : decode cX6_hums 17 = .ok (.iload_n 2, 1) := dk_28 (dk_at dksX6_hums_0 17 rfl rfl)
theorem dX6_hums_18 : decode cX6_hums 18 = .ok (.invokevirtual 140, 3) := dk_182 0 140 (dk_at dksX6_hums_0 18 rfl rfl)
theorem dX6_hums_21 : decode cX6_hums 21 = .ok (.ifCond .eq 49, 3) := dk_153 0 49 (dk_at dksX6_hums_0 21 rfl rfl)
theorem dX6_hums_24 : decode cX6_hums 24 = .ok (.aload_n 0, 1) := dk_42 (dk_at dksX6_hums_1 0 rfl rfl)
theorem dX6_hums_25 : decode cX6_hums 25 = .ok (.iload_n 3, 1) := dk_29 (dk_at dksX6_hums_1 1 rfl rfl)
theorem dX6_hums_26 : decode cX6_hums 26 = .ok (.invokevirtual 147, 3) := dk_182 0 147 (dk_at dksX6_hums_1 2 rfl rfl)
theorem dX6_hums_29 : decode cX6_hums 29 = .ok (.ifCond .eq 41, 3) := dk_153 0 41 (dk_at dksX6_hums_1 5 rfl rfl)
theorem dX6_hums_32 : decode cX6_hums 32 = .ok (.iload 4, 2) := dk_21 4 (dk_at dksX6_hums_1 8 rfl rfl)
theorem dX6_hums_34 : decode cX6_hums 34 = .ok (.i2l, 1) := dk_133 (dk_at dksX6_hums_1 10 rfl rfl)
theorem dX6_hums_35 : decode cX6_hums 35 = .ok (.lconst 1, 1) := dk_10 (dk_at dksX6_hums_1 11 rfl rfl)
theorem dX6_hums_36 : decode cX6_hums 36 = .ok (.ldc2_w 155, 3) := dk_20 0 155 (dk_at dksX6_hums_1 12 rfl rfl)
theorem dX6_hums_39 : decode cX6_hums 39 = .ok (.invokestatic 79, 3) := dk_184 0 79 (dk_at dksX6_hums_1 15 rfl rfl)
theorem dX6_hums_42 : decode cX6_hums 42 = .ok (.ifCond .eq 28, 3) := dk_153 0 28 (dk_at dksX6_hums_1 18 rfl rfl)
theorem dX6_hums_45 : decode cX6_hums 45 = .ok (.iload 5, 2) := dk_21 5 (dk_at dksX6_hums_1 21 rfl rfl)
theorem dX6_hums_47 : decode cX6_hums 47 = .ok (.i2l, 1) := dk_133 (dk_at dksX6_hums_1 23 rfl rfl)
theorem dX6_hums_48 : decode cX6_hums 48 = .ok (.lconst 1, 1) := dk_10 (dk_at dksX6_hums_2 0 rfl rfl)
theorem dX6_hums_49 : decode cX6_hums 49 = .ok (.ldc2_w 285, 3) := dk_20 1 29 (dk_at dksX6_hums_2 1 rfl rfl)
theorem dX6_hums_52 : decode cX6_hums 52 = .ok (.invokestatic 79, 3) := dk_184 0 79 (dk_at dksX6_hums_2 4 rfl rfl)
theorem dX6_hums_55 : decode cX6_hums 55 = .ok (.ifCond .eq 15, 3) := dk_153 0 15 (dk_at dksX6_hums_2 7 rfl rfl)
theorem dX6_hums_58 : decode cX6_hums 58 = .ok (.iload 6, 2) := dk_21 6 (dk_at dksX6_hums_2 10 rfl rfl)
theorem dX6_hums_60 : decode cX6_hums 60 = .ok (.invokestatic 107, 3) := dk_184 0 107 (dk_at dksX6_hums_2 12 rfl rfl)
theorem dX6_hums_63 : decode cX6_hums 63 = .ok (.ifCond .eq 7, 3) := dk_153 0 7 (dk_at dksX6_hums_2 15 rfl rfl)
theorem dX6_hums_66 : decode cX6_hums 66 = .ok (.iconst 1, 1) := dk_4 (dk_at dksX6_hums_2 18 rfl rfl)
theorem dX6_hums_67 : decode cX6_hums 67 = .ok (.goto 4, 3) := dk_167 0 4 (dk_at dksX6_hums_2 19 rfl rfl)
theorem dX6_hums_70 : decode cX6_hums 70 = .ok (.iconst 0, 1) := dk_3 (dk_at dksX6_hums_2 22 rfl rfl)
theorem dX6_hums_71 : decode cX6_hums 71 = .ok (.istore 7, 2) := dk_54 7 (dk_at dksX6_hums_3 0 rfl rfl)
theorem dX6_hums_73 : decode cX6_hums 73 = .ok (.iload 7, 2) := dk_21 7 (dk_at dksX6_hums_3 2 rfl rfl)
theorem dX6_hums_75 : decode cX6_hums 75 = .ok (.ifCond .eq 19, 3) := dk_153 0 19 (dk_at dksX6_hums_3 4 rfl rfl)
theorem dX6_hums_78 : decode cX6_hums 78 = .ok (.aload_n 0, 1) := dk_42 (dk_at dksX6_hums_3 7 rfl rfl)
theorem dX6_hums_79 : decode cX6_hums 79 = .ok (.iload_n 1, 1) := dk_27 (dk_at dksX6_hums_3 8 rfl rfl)
theorem dX6_hums_80 : decode cX6_hums 80 = .ok (.iload_n 2, 1) := dk_28 (dk_at dksX6_hums_3 9 rfl rfl)
theorem dX6_hums_81 : decode cX6_hums 81 = .ok (.iload_n 3, 1) := dk_29 (dk_at dksX6_hums_3 10 rfl rfl)
theorem dX6_hums_82 : decode cX6_hums 82 = .ok (.iload 4, 2) := dk_21 4 (dk_at dksX6_hums_3 11 rfl rfl)
theorem dX6_hums_84 : decode cX6_hums 84 = .ok (.iload 5, 2) := dk_21 5 (dk_at dksX6_hums_3 13 rfl rfl)
theorem dX6_hums_86 : decode cX6_hums 86 = .ok (.iload 6, 2) := dk_21 6 (dk_at dksX6_hums_3 15 rfl rfl)
theorem dX6_hums_88 : decode cX6_hums 88 = .ok (.invokevirtual 287, 3) := dk_182 1 31 (dk_at dksX6_hums_3 17 rfl rfl)
theorem dX6_hums_91 : decode cX6_hums 91 = .ok (.goto 8, 3) := dk_167 0 8 (dk_at dksX6_hums_3 20 rfl rfl)
theorem dX6_hums_94 : decode cX6_hums 94 = .ok (.bipush (-2), 2) := dk_16 254 (dk_at dksX6_hums_4 0 rfl rfl)
theorem dX6_hums_96 : decode cX6_hums 96 = .ok (.invokestatic 291, 3) := dk_184 1 35 (dk_at dksX6_hums_4 2 rfl rfl)
theorem dX6_hums_99 : decode cX6_hums 99 = .ok (.lreturn, 1) := dk_173 (dk_at dksX6_hums_4 5 rfl rfl)
def dkwX6_humsOf_6 : List UInt8 := [132, 13, 1, 167, 255, 157, 22, 7, 22, 9, 21, 6, 184, 1, 25, 173]
abbrev dktX6_humsOf_6 : List UInt8 := dkwX6_humsOf_6 ++ []
def dkwX6_humsOf_5 : List UInt8 := [21, 4, 21, 13, 100, 133, 105, 21, 13, 4, 96, 133, 109, 55, 11, 42, 16, 6, 29, 182, 0, 183]
abbrev dktX6_humsOf_5 : List UInt8 := dkwX6_humsOf_5 ++ dktX6_humsOf_6
def dkwX6_humsOf_4 : List UInt8 := [42, 180, 0, 43, 16, 6, 46, 21, 5, 161, 0, 8, 22, 14, 167, 0, 4, 9, 97, 55, 7, 22, 11]
abbrev dktX6_humsOf_4 : List UInt8 := dkwX6_humsOf_4 ++ dktX6_humsOf_5
def dkwX6_humsOf_3 : List UInt8 := [162, 0, 8, 27, 133, 167, 0, 8, 16, 16, 27, 100, 133, 105, 55, 14, 132, 16, 1, 167, 255, 224, 22, 7]
abbrev dktX6_humsOf_3 : List UInt8 := dkwX6_humsOf_3 ++ dktX6_humsOf_4
def dkwX6_humsOf_2 : List UInt8 := [163, 0, 98, 22, 11, 55, 14, 3, 54, 16, 21, 16, 21, 4, 162, 0, 31, 22, 14, 21, 16, 21, 13]
abbrev dktX6_humsOf_2 : List UInt8 := dkwX6_humsOf_2 ++ dktX6_humsOf_3
def dkwX6_humsOf_1 : List UInt8 := [132, 11, 1, 167, 255, 238, 10, 55, 11, 42, 28, 16, 6, 182, 0, 171, 3, 54, 13, 21, 13, 21, 4]
abbrev dktX6_humsOf_1 : List UInt8 := dkwX6_humsOf_1 ++ dktX6_humsOf_2
def dkwX6_humsOf_0 : List UInt8 := [9, 55, 7, 10, 55, 9, 3, 54, 11, 21, 11, 21, 4, 162, 0, 17, 22, 9, 20, 1, 23, 105, 55, 9]
abbrev dktX6_humsOf_0 : List UInt8 := dkwX6_humsOf_0 ++ dktX6_humsOf_1
theorem dksX6_humsOf_0 : cX6_humsOf.data.toList.drop 0 = dktX6_humsOf_0 := by decide +kernel
theorem dksX6_humsOf_1 : cX6_humsOf.data.toList.drop 24 = dktX6_humsOf_1 := dk_seg dksX6_humsOf_0 24 rfl rfl
theorem dksX6_humsOf_2 : cX6_humsOf.data.toList.drop 47 = dktX6_humsOf_2 := dk_seg dksX6_humsOf_1 23 rfl rfl
theorem dksX6_humsOf_3 : cX6_humsOf.data.toList.drop 70 = dktX6_humsOf_3 := dk_seg dksX6_humsOf_2 23 rfl rfl
theorem dksX6_humsOf_4 : cX6_humsOf.data.toList.drop 94 = dktX6_humsOf_4 := dk_seg dksX6_humsOf_3 24 rfl rfl
theorem dksX6_humsOf_5 : cX6_humsOf.data.toList.drop 117 = dktX6_humsOf_5 := dk_seg dksX6_humsOf_4 23 rfl rfl
theorem dksX6_humsOf_6 : cX6_humsOf.data.toList.drop 139 = dktX6_humsOf_6 := dk_seg dksX6_humsOf_5 22 rfl rfl
theorem dX6_humsOf_0 : decode cX6_humsOf 0 = .ok (.lconst 0, 1) := dk_9 (dk_at dksX6_humsOf_0 0 rfl rfl)
theorem dX6_humsOf_1 : decode cX6_humsOf 1 = .ok (.lstore 7, 2) := dk_55 7 (dk_at dksX6_humsOf_0 1 rfl rfl)
theorem dX6_humsOf_3 : decode cX6_humsOf 3 = .ok (.lconst 1, 1) := dk_10 (dk_at dksX6_humsOf_0 3 rfl rfl)
theorem dX6_humsOf_4 : decode cX6_humsOf 4 = .ok (.lstore 9, 2) := dk_55 9 (dk_at dksX6_humsOf_0 4 rfl rfl)
theorem dX6_humsOf_6 : decode cX6_humsOf 6 = .ok (.iconst 0, 1) := dk_3 (dk_at dksX6_humsOf_0 6 rfl rfl)
theorem dX6_humsOf_7 : decode cX6_humsOf 7 = .ok (.istore 11, 2) := dk_54 11 (dk_at dksX6_humsOf_0 7 rfl rfl)
theorem dX6_humsOf_9 : decode cX6_humsOf 9 = .ok (.iload 11, 2) := dk_21 11 (dk_at dksX6_humsOf_0 9 rfl rfl)
theorem dX6_humsOf_11 : decode cX6_humsOf 11 = .ok (.iload 4, 2) := dk_21 4 (dk_at dksX6_humsOf_0 11 rfl rfl)
theorem dX6_humsOf_13 : decode cX6_humsOf 13 = .ok (.if_icmp .ge 17, 3) := dk_162 0 17 (dk_at dksX6_humsOf_0 13 rfl rfl)
theorem dX6_humsOf_16 : decode cX6_humsOf 16 = .ok (.lload 9, 2) := dk_22 9 (dk_at dksX6_humsOf_0 16 rfl rfl)
theorem dX6_humsOf_18 : decode cX6_humsOf 18 = .ok (.ldc2_w 279, 3) := dk_20 1 23 (dk_at dksX6_humsOf_0 18 rfl rfl)
theorem dX6_humsOf_21 : decode cX6_humsOf 21 = .ok (.lmul, 1) := dk_105 (dk_at dksX6_humsOf_0 21 rfl rfl)
theorem dX6_humsOf_22 : decode cX6_humsOf 22 = .ok (.lstore 9, 2) := dk_55 9 (dk_at dksX6_humsOf_0 22 rfl rfl)
theorem dX6_humsOf_24 : decode cX6_humsOf 24 = .ok (.iinc 11 1, 3) := dk_132 11 1 (dk_at dksX6_humsOf_1 0 rfl rfl)
theorem dX6_humsOf_27 : decode cX6_humsOf 27 = .ok (.goto (-18), 3) := dk_167 255 238 (dk_at dksX6_humsOf_1 3 rfl rfl)
theorem dX6_humsOf_30 : decode cX6_humsOf 30 = .ok (.lconst 1, 1) := dk_10 (dk_at dksX6_humsOf_1 6 rfl rfl)
theorem dX6_humsOf_31 : decode cX6_humsOf 31 = .ok (.lstore 11, 2) := dk_55 11 (dk_at dksX6_humsOf_1 7 rfl rfl)
theorem dX6_humsOf_33 : decode cX6_humsOf 33 = .ok (.aload_n 0, 1) := dk_42 (dk_at dksX6_humsOf_1 9 rfl rfl)
theorem dX6_humsOf_34 : decode cX6_humsOf 34 = .ok (.iload_n 2, 1) := dk_28 (dk_at dksX6_humsOf_1 10 rfl rfl)
theorem dX6_humsOf_35 : decode cX6_humsOf 35 = .ok (.bipush 6, 2) := dk_16 6 (dk_at dksX6_humsOf_1 11 rfl rfl)
theorem dX6_humsOf_37 : decode cX6_humsOf 37 = .ok (.invokevirtual 171, 3) := dk_182 0 171 (dk_at dksX6_humsOf_1 13 rfl rfl)
theorem dX6_humsOf_40 : decode cX6_humsOf 40 = .ok (.iconst 0, 1) := dk_3 (dk_at dksX6_humsOf_1 16 rfl rfl)
theorem dX6_humsOf_41 : decode cX6_humsOf 41 = .ok (.istore 13, 2) := dk_54 13 (dk_at dksX6_humsOf_1 17 rfl rfl)
theorem dX6_humsOf_43 : decode cX6_humsOf 43 = .ok (.iload 13, 2) := dk_21 13 (dk_at dksX6_humsOf_1 19 rfl rfl)
theorem dX6_humsOf_45 : decode cX6_humsOf 45 = .ok (.iload 4, 2) := dk_21 4 (dk_at dksX6_humsOf_1 21 rfl rfl)
theorem dX6_humsOf_47 : decode cX6_humsOf 47 = .ok (.if_icmp .gt 98, 3) := dk_163 0 98 (dk_at dksX6_humsOf_2 0 rfl rfl)
theorem dX6_humsOf_50 : decode cX6_humsOf 50 = .ok (.lload 11, 2) := dk_22 11 (dk_at dksX6_humsOf_2 3 rfl rfl)
theorem dX6_humsOf_52 : decode cX6_humsOf 52 = .ok (.lstore 14, 2) := dk_55 14 (dk_at dksX6_humsOf_2 5 rfl rfl)
theorem dX6_humsOf_54 : decode cX6_humsOf 54 = .ok (.iconst 0, 1) := dk_3 (dk_at dksX6_humsOf_2 7 rfl rfl)
theorem dX6_humsOf_55 : decode cX6_humsOf 55 = .ok (.istore 16, 2) := dk_54 16 (dk_at dksX6_humsOf_2 8 rfl rfl)
theorem dX6_humsOf_57 : decode cX6_humsOf 57 = .ok (.iload 16, 2) := dk_21 16 (dk_at dksX6_humsOf_2 10 rfl rfl)
theorem dX6_humsOf_59 : decode cX6_humsOf 59 = .ok (.iload 4, 2) := dk_21 4 (dk_at dksX6_humsOf_2 12 rfl rfl)
theorem dX6_humsOf_61 : decode cX6_humsOf 61 = .ok (.if_icmp .ge 31, 3) := dk_162 0 31 (dk_at dksX6_humsOf_2 14 rfl rfl)
theorem dX6_humsOf_64 : decode cX6_humsOf 64 = .ok (.lload 14, 2) := dk_22 14 (dk_at dksX6_humsOf_2 17 rfl rfl)
theorem dX6_humsOf_66 : decode cX6_humsOf 66 = .ok (.iload 16, 2) := dk_21 16 (dk_at dksX6_humsOf_2 19 rfl rfl)
theorem dX6_humsOf_68 : decode cX6_humsOf 68 = .ok (.iload 13, 2) := dk_21 13 (dk_at dksX6_humsOf_2 21 rfl rfl)
theorem dX6_humsOf_70 : decode cX6_humsOf 70 = .ok (.if_icmp .ge 8, 3) := dk_162 0 8 (dk_at dksX6_humsOf_3 0 rfl rfl)
theorem dX6_humsOf_73 : decode cX6_humsOf 73 = .ok (.iload_n 1, 1) := dk_27 (dk_at dksX6_humsOf_3 3 rfl rfl)
theorem dX6_humsOf_74 : decode cX6_humsOf 74 = .ok (.i2l, 1) := dk_133 (dk_at dksX6_humsOf_3 4 rfl rfl)
theorem dX6_humsOf_75 : decode cX6_humsOf 75 = .ok (.goto 8, 3) := dk_167 0 8 (dk_at dksX6_humsOf_3 5 rfl rfl)
theorem dX6_humsOf_78 : decode cX6_humsOf 78 = .ok (.bipush 16, 2) := dk_16 16 (dk_at dksX6_humsOf_3 8 rfl rfl)
theorem dX6_humsOf_80 : decode cX6_humsOf 80 = .ok (.iload_n 1, 1) := dk_27 (dk_at dksX6_humsOf_3 10 rfl rfl)
theorem dX6_humsOf_81 : decode cX6_humsOf 81 = .ok (.isub, 1) := dk_100 (dk_at dksX6_humsOf_3 11 rfl rfl)
theorem dX6_humsOf_82 : decode cX6_humsOf 82 = .ok (.i2l, 1) := dk_133 (dk_at dksX6_humsOf_3 12 rfl rfl)
theorem dX6_humsOf_83 : decode cX6_humsOf 83 = .ok (.lmul, 1) := dk_105 (dk_at dksX6_humsOf_3 13 rfl rfl)
theorem dX6_humsOf_84 : decode cX6_humsOf 84 = .ok (.lstore 14, 2) := dk_55 14 (dk_at dksX6_humsOf_3 14 rfl rfl)
theorem dX6_humsOf_86 : decode cX6_humsOf 86 = .ok (.iinc 16 1, 3) := dk_132 16 1 (dk_at dksX6_humsOf_3 16 rfl rfl)
theorem dX6_humsOf_89 : decode cX6_humsOf 89 = .ok (.goto (-32), 3) := dk_167 255 224 (dk_at dksX6_humsOf_3 19 rfl rfl)
theorem dX6_humsOf_92 : decode cX6_humsOf 92 = .ok (.lload 7, 2) := dk_22 7 (dk_at dksX6_humsOf_3 22 rfl rfl)
theorem dX6_humsOf_94 : decode cX6_humsOf 94 = .ok (.aload_n 0, 1) := dk_42 (dk_at dksX6_humsOf_4 0 rfl rfl)
theorem dX6_humsOf_95 : decode cX6_humsOf 95 = .ok (.getfield 43, 3) := dk_180 0 43 (dk_at dksX6_humsOf_4 1 rfl rfl)
theorem dX6_humsOf_98 : decode cX6_humsOf 98 = .ok (.bipush 6, 2) := dk_16 6 (dk_at dksX6_humsOf_4 4 rfl rfl)
theorem dX6_humsOf_100 : decode cX6_humsOf 100 = .ok (.iaload, 1) := dk_46 (dk_at dksX6_humsOf_4 6 rfl rfl)
theorem dX6_humsOf_101 : decode cX6_humsOf 101 = .ok (.iload 5, 2) := dk_21 5 (dk_at dksX6_humsOf_4 7 rfl rfl)
theorem dX6_humsOf_103 : decode cX6_humsOf 103 = .ok (.if_icmp .lt 8, 3) := dk_161 0 8 (dk_at dksX6_humsOf_4 9 rfl rfl)
theorem dX6_humsOf_106 : decode cX6_humsOf 106 = .ok (.lload 14, 2) := dk_22 14 (dk_at dksX6_humsOf_4 12 rfl rfl)
theorem dX6_humsOf_108 : decode cX6_humsOf 108 = .ok (.goto 4, 3) := dk_167 0 4 (dk_at dksX6_humsOf_4 14 rfl rfl)
theorem dX6_humsOf_111 : decode cX6_humsOf 111 = .ok (.lconst 0, 1) := dk_9 (dk_at dksX6_humsOf_4 17 rfl rfl)
theorem dX6_humsOf_112 : decode cX6_humsOf 112 = .ok (.ladd, 1) := dk_97 (dk_at dksX6_humsOf_4 18 rfl rfl)
theorem dX6_humsOf_113 : decode cX6_humsOf 113 = .ok (.lstore 7, 2) := dk_55 7 (dk_at dksX6_humsOf_4 19 rfl rfl)
theorem dX6_humsOf_115 : decode cX6_humsOf 115 = .ok (.lload 11, 2) := dk_22 11 (dk_at dksX6_humsOf_4 21 rfl rfl)
theorem dX6_humsOf_117 : decode cX6_humsOf 117 = .ok (.iload 4, 2) := dk_21 4 (dk_at dksX6_humsOf_5 0 rfl rfl)
theorem dX6_humsOf_119 : decode cX6_humsOf 119 = .ok (.iload 13, 2) := dk_21 13 (dk_at dksX6_humsOf_5 2 rfl rfl)
theorem dX6_humsOf_121 : decode cX6_humsOf 121 = .ok (.isub, 1) := dk_100 (dk_at dksX6_humsOf_5 4 rfl rfl)
theorem dX6_humsOf_122 : decode cX6_humsOf 122 = .ok (.i2l, 1) := dk_133 (dk_at dksX6_humsOf_5 5 rfl rfl)
theorem dX6_humsOf_123 : decode cX6_humsOf 123 = .ok (.lmul, 1) := dk_105 (dk_at dksX6_humsOf_5 6 rfl rfl)
theorem dX6_humsOf_124 : decode cX6_humsOf 124 = .ok (.iload 13, 2) := dk_21 13 (dk_at dksX6_humsOf_5 7 rfl rfl)
theorem dX6_humsOf_126 : decode cX6_humsOf 126 = .ok (.iconst 1, 1) := dk_4 (dk_at dksX6_humsOf_5 9 rfl rfl)
theorem dX6_humsOf_127 : decode cX6_humsOf 127 = .ok (.iadd, 1) := dk_96 (dk_at dksX6_humsOf_5 10 rfl rfl)
theorem dX6_humsOf_128 : decode cX6_humsOf 128 = .ok (.i2l, 1) := dk_133 (dk_at dksX6_humsOf_5 11 rfl rfl)
theorem dX6_humsOf_129 : decode cX6_humsOf 129 = .ok (.ldiv, 1) := dk_109 (dk_at dksX6_humsOf_5 12 rfl rfl)
theorem dX6_humsOf_130 : decode cX6_humsOf 130 = .ok (.lstore 11, 2) := dk_55 11 (dk_at dksX6_humsOf_5 13 rfl rfl)
theorem dX6_humsOf_132 : decode cX6_humsOf 132 = .ok (.aload_n 0, 1) := dk_42 (dk_at dksX6_humsOf_5 15 rfl rfl)
theorem dX6_humsOf_133 : decode cX6_humsOf 133 = .ok (.bipush 6, 2) := dk_16 6 (dk_at dksX6_humsOf_5 16 rfl rfl)
theorem dX6_humsOf_135 : decode cX6_humsOf 135 = .ok (.iload_n 3, 1) := dk_29 (dk_at dksX6_humsOf_5 18 rfl rfl)
theorem dX6_humsOf_136 : decode cX6_humsOf 136 = .ok (.invokevirtual 183, 3) := dk_182 0 183 (dk_at dksX6_humsOf_5 19 rfl rfl)
theorem dX6_humsOf_139 : decode cX6_humsOf 139 = .ok (.iinc 13 1, 3) := dk_132 13 1 (dk_at dksX6_humsOf_6 0 rfl rfl)
theorem dX6_humsOf_142 : decode cX6_humsOf 142 = .ok (.goto (-99), 3) := dk_167 255 157 (dk_at dksX6_humsOf_6 3 rfl rfl)
theorem dX6_humsOf_145 : decode cX6_humsOf 145 = .ok (.lload 7, 2) := dk_22 7 (dk_at dksX6_humsOf_6 6 rfl rfl)
theorem dX6_humsOf_147 : decode cX6_humsOf 147 = .ok (.lload 9, 2) := dk_22 9 (dk_at dksX6_humsOf_6 8 rfl rfl)
theorem dX6_humsOf_149 : decode cX6_humsOf 149 = .ok (.iload 6, 2) := dk_21 6 (dk_at dksX6_humsOf_6 10 rfl rfl)
theorem dX6_humsOf_151 : decode cX6_humsOf 151 = .ok (.invokestatic 281, 3) := dk_184 1 25 (dk_at dksX6_humsOf_6 12 rfl rfl)
theorem dX6_humsOf_154 : decode cX6_humsOf 154 = .ok (.lreturn, 1) := dk_173 (dk_at dksX6_humsOf_6 15 rfl rfl)
def dkwX6_part_1 : List UInt8 := [22, 9, 55, 7, 167, 255, 234, 21, 4, 154, 0, 7, 30, 167, 0, 4, 32, 22, 5, 109, 173]
abbrev dktX6_part_1 : List UInt8 := dkwX6_part_1 ++ []
def dkwX6_part_0 : List UInt8 := [30, 55, 5, 32, 55, 7, 22, 7, 9, 148, 153, 0, 21, 22, 5, 22, 7, 113, 55, 9, 22, 7, 55, 5]
abbrev dktX6_part_0 : List UInt8 := dkwX6_part_0 ++ dktX6_part_1
theorem dksX6_part_0 : cX6_part.data.toList.drop 0 = dktX6_part_0 := by decide +kernel
theorem dksX6_part_1 : cX6_part.data.toList.drop 24 = dktX6_part_1 := dk_seg dksX6_part_0 24 rfl rfl
theorem dX6_part_0 : decode cX6_part 0 = .ok (.lload_n 0, 1) := dk_30 (dk_at dksX6_part_0 0 rfl rfl)
theorem dX6_part_1 : decode cX6_part 1 = .ok (.lstore 5, 2) := dk_55 5 (dk_at dksX6_part_0 1 rfl rfl)
theorem dX6_part_3 : decode cX6_part 3 = .ok (.lload_n 2, 1) := dk_32 (dk_at dksX6_part_0 3 rfl rfl)
theorem dX6_part_4 : decode cX6_part 4 = .ok (.lstore 7, 2) := dk_55 7 (dk_at dksX6_part_0 4 rfl rfl)
theorem dX6_part_6 : decode cX6_part 6 = .ok (.lload 7, 2) := dk_22 7 (dk_at dksX6_part_0 6 rfl rfl)
theorem dX6_part_8 : decode cX6_part 8 = .ok (.lconst 0, 1) := dk_9 (dk_at dksX6_part_0 8 rfl rfl)
theorem dX6_part_9 : decode cX6_part 9 = .ok (.lcmp, 1) := dk_148 (dk_at dksX6_part_0 9 rfl rfl)
theorem dX6_part_10 : decode cX6_part 10 = .ok (.ifCond .eq 21, 3) := dk_153 0 21 (dk_at dksX6_part_0 10 rfl rfl)
theorem dX6_part_13 : decode cX6_part 13 = .ok (.lload 5, 2) := dk_22 5 (dk_at dksX6_part_0 13 rfl rfl)
theorem dX6_part_15 : decode cX6_part 15 = .ok (.lload 7, 2) := dk_22 7 (dk_at dksX6_part_0 15 rfl rfl)
theorem dX6_part_17 : decode cX6_part 17 = .ok (.lrem, 1) := dk_113 (dk_at dksX6_part_0 17 rfl rfl)
theorem dX6_part_18 : decode cX6_part 18 = .ok (.lstore 9, 2) := dk_55 9 (dk_at dksX6_part_0 18 rfl rfl)
theorem dX6_part_20 : decode cX6_part 20 = .ok (.lload 7, 2) := dk_22 7 (dk_at dksX6_part_0 20 rfl rfl)
theorem dX6_part_22 : decode cX6_part 22 = .ok (.lstore 5, 2) := dk_55 5 (dk_at dksX6_part_0 22 rfl rfl)
theorem dX6_part_24 : decode cX6_part 24 = .ok (.lload 9, 2) := dk_22 9 (dk_at dksX6_part_1 0 rfl rfl)
theorem dX6_part_26 : decode cX6_part 26 = .ok (.lstore 7, 2) := dk_55 7 (dk_at dksX6_part_1 2 rfl rfl)
theorem dX6_part_28 : decode cX6_part 28 = .ok (.goto (-22), 3) := dk_167 255 234 (dk_at dksX6_part_1 4 rfl rfl)
theorem dX6_part_31 : decode cX6_part 31 = .ok (.iload 4, 2) := dk_21 4 (dk_at dksX6_part_1 7 rfl rfl)
theorem dX6_part_33 : decode cX6_part 33 = .ok (.ifCond .ne 7, 3) := dk_154 0 7 (dk_at dksX6_part_1 9 rfl rfl)
theorem dX6_part_36 : decode cX6_part 36 = .ok (.lload_n 0, 1) := dk_30 (dk_at dksX6_part_1 12 rfl rfl)
theorem dX6_part_37 : decode cX6_part 37 = .ok (.goto 4, 3) := dk_167 0 4 (dk_at dksX6_part_1 13 rfl rfl)
theorem dX6_part_40 : decode cX6_part 40 = .ok (.lload_n 2, 1) := dk_32 (dk_at dksX6_part_1 16 rfl rfl)
theorem dX6_part_41 : decode cX6_part 41 = .ok (.lload 5, 2) := dk_22 5 (dk_at dksX6_part_1 17 rfl rfl)
theorem dX6_part_43 : decode cX6_part 43 = .ok (.ldiv, 1) := dk_109 (dk_at dksX6_part_1 19 rfl rfl)
theorem dX6_part_44 : decode cX6_part 44 = .ok (.lreturn, 1) := dk_173 (dk_at dksX6_part_1 20 rfl rfl)
def dkwX6_no_0 : List UInt8 := [20, 0, 77, 26, 133, 101, 173]
abbrev dktX6_no_0 : List UInt8 := dkwX6_no_0 ++ []
theorem dksX6_no_0 : cX6_no.data.toList.drop 0 = dktX6_no_0 := by decide +kernel
theorem dX6_no_0 : decode cX6_no 0 = .ok (.ldc2_w 77, 3) := dk_20 0 77 (dk_at dksX6_no_0 0 rfl rfl)
theorem dX6_no_3 : decode cX6_no 3 = .ok (.iload_n 0, 1) := dk_26 (dk_at dksX6_no_0 3 rfl rfl)
theorem dX6_no_4 : decode cX6_no 4 = .ok (.i2l, 1) := dk_133 (dk_at dksX6_no_0 4 rfl rfl)
theorem dX6_no_5 : decode cX6_no 5 = .ok (.lsub, 1) := dk_101 (dk_at dksX6_no_0 5 rfl rfl)
theorem dX6_no_6 : decode cX6_no 6 = .ok (.lreturn, 1) := dk_173 (dk_at dksX6_no_0 6 rfl rfl)
def dkwX6_fair_1 : List UInt8 := [42, 27, 28, 29, 182, 1, 40, 167, 0, 5, 16, 254, 172]
abbrev dktX6_fair_1 : List UInt8 := dkwX6_fair_1 ++ []
def dkwX6_fair_0 : List UInt8 := [42, 182, 0, 137, 28, 133, 10, 20, 1, 29, 184, 0, 79, 153, 0, 21, 42, 29, 182, 0, 140, 153, 0, 13]
abbrev dktX6_fair_0 : List UInt8 := dkwX6_fair_0 ++ dktX6_fair_1
theorem dksX6_fair_0 : cX6_fair.data.toList.drop 0 = dktX6_fair_0 := by decide +kernel
theorem dksX6_fair_1 : cX6_fair.data.toList.drop 24 = dktX6_fair_1 := dk_seg dksX6_fair_0 24 rfl rfl
theorem dX6_fair_0 : decode cX6_fair 0 = .ok (.aload_n 0, 1) := dk_42 (dk_at dksX6_fair_0 0 rfl rfl)
theorem dX6_fair_1 : decode cX6_fair 1 = .ok (.invokevirtual 137, 3) := dk_182 0 137 (dk_at dksX6_fair_0 1 rfl rfl)
theorem dX6_fair_4 : decode cX6_fair 4 = .ok (.iload_n 2, 1) := dk_28 (dk_at dksX6_fair_0 4 rfl rfl)
theorem dX6_fair_5 : decode cX6_fair 5 = .ok (.i2l, 1) := dk_133 (dk_at dksX6_fair_0 5 rfl rfl)
theorem dX6_fair_6 : decode cX6_fair 6 = .ok (.lconst 1, 1) := dk_10 (dk_at dksX6_fair_0 6 rfl rfl)
theorem dX6_fair_7 : decode cX6_fair 7 = .ok (.ldc2_w 285, 3) := dk_20 1 29 (dk_at dksX6_fair_0 7 rfl rfl)
theorem dX6_fair_10 : decode cX6_fair 10 = .ok (.invokestatic 79, 3) := dk_184 0 79 (dk_at dksX6_fair_0 10 rfl rfl)
theorem dX6_fair_13 : decode cX6_fair 13 = .ok (.ifCond .eq 21, 3) := dk_153 0 21 (dk_at dksX6_fair_0 13 rfl rfl)
theorem dX6_fair_16 : decode cX6_fair 16 = .ok (.aload_n 0, 1) := dk_42 (dk_at dksX6_fair_0 16 rfl rfl)
theorem dX6_fair_17 : decode cX6_fair 17 = .ok (.iload_n 3, 1) := dk_29 (dk_at dksX6_fair_0 17 rfl rfl)
theorem dX6_fair_18 : decode cX6_fair 18 = .ok (.invokevirtual 140, 3) := dk_182 0 140 (dk_at dksX6_fair_0 18 rfl rfl)
theorem dX6_fair_21 : decode cX6_fair 21 = .ok (.ifCond .eq 13, 3) := dk_153 0 13 (dk_at dksX6_fair_0 21 rfl rfl)
theorem dX6_fair_24 : decode cX6_fair 24 = .ok (.aload_n 0, 1) := dk_42 (dk_at dksX6_fair_1 0 rfl rfl)
theorem dX6_fair_25 : decode cX6_fair 25 = .ok (.iload_n 1, 1) := dk_27 (dk_at dksX6_fair_1 1 rfl rfl)
theorem dX6_fair_26 : decode cX6_fair 26 = .ok (.iload_n 2, 1) := dk_28 (dk_at dksX6_fair_1 2 rfl rfl)
theorem dX6_fair_27 : decode cX6_fair 27 = .ok (.iload_n 3, 1) := dk_29 (dk_at dksX6_fair_1 3 rfl rfl)
theorem dX6_fair_28 : decode cX6_fair 28 = .ok (.invokevirtual 296, 3) := dk_182 1 40 (dk_at dksX6_fair_1 4 rfl rfl)
theorem dX6_fair_31 : decode cX6_fair 31 = .ok (.goto 5, 3) := dk_167 0 5 (dk_at dksX6_fair_1 7 rfl rfl)
theorem dX6_fair_34 : decode cX6_fair 34 = .ok (.bipush (-2), 2) := dk_16 254 (dk_at dksX6_fair_1 10 rfl rfl)
theorem dX6_fair_36 : decode cX6_fair 36 = .ok (.ireturn, 1) := dk_172 (dk_at dksX6_fair_1 12 rfl rfl)
def dkwX6_fairOf_3 : List UInt8 := [112, 182, 0, 183, 132, 5, 1, 167, 255, 188, 42, 180, 0, 43, 29, 46, 172]
abbrev dktX6_fairOf_3 : List UInt8 := dkwX6_fairOf_3 ++ []
def dkwX6_fairOf_2 : List UInt8 := [19, 1, 39, 21, 4, 104, 17, 48, 57, 96, 54, 4, 42, 21, 6, 21, 4, 16, 16, 124, 42, 180, 0, 122]
abbrev dktX6_fairOf_2 : List UInt8 := dkwX6_fairOf_2 ++ dktX6_fairOf_3
def dkwX6_fairOf_1 : List UInt8 := [19, 1, 39, 21, 4, 104, 17, 48, 57, 96, 54, 4, 21, 4, 16, 16, 124, 42, 180, 0, 112, 112, 54, 6]
abbrev dktX6_fairOf_1 : List UInt8 := dkwX6_fairOf_1 ++ dktX6_fairOf_2
def dkwX6_fairOf_0 : List UInt8 := [27, 54, 4, 42, 182, 0, 189, 3, 54, 5, 21, 5, 28, 162, 0, 68, 42, 180, 0, 122, 158, 0, 61]
abbrev dktX6_fairOf_0 : List UInt8 := dkwX6_fairOf_0 ++ dktX6_fairOf_1
theorem dksX6_fairOf_0 : cX6_fairOf.data.toList.drop 0 = dktX6_fairOf_0 := by decide +kernel
theorem dksX6_fairOf_1 : cX6_fairOf.data.toList.drop 23 = dktX6_fairOf_1 := dk_seg dksX6_fairOf_0 23 rfl rfl
theorem dksX6_fairOf_2 : cX6_fairOf.data.toList.drop 47 = dktX6_fairOf_2 := dk_seg dksX6_fairOf_1 24 rfl rfl
theorem dksX6_fairOf_3 : cX6_fairOf.data.toList.drop 71 = dktX6_fairOf_3 := dk_seg dksX6_fairOf_2 24 rfl rfl
theorem dX6_fairOf_0 : decode cX6_fairOf 0 = .ok (.iload_n 1, 1) := dk_27 (dk_at dksX6_fairOf_0 0 rfl rfl)
theorem dX6_fairOf_1 : decode cX6_fairOf 1 = .ok (.istore 4, 2) := dk_54 4 (dk_at dksX6_fairOf_0 1 rfl rfl)
theorem dX6_fairOf_3 : decode cX6_fairOf 3 = .ok (.aload_n 0, 1) := dk_42 (dk_at dksX6_fairOf_0 3 rfl rfl)
theorem dX6_fairOf_4 : decode cX6_fairOf 4 = .ok (.invokevirtual 189, 3) := dk_182 0 189 (dk_at dksX6_fairOf_0 4 rfl rfl)
theorem dX6_fairOf_7 : decode cX6_fairOf 7 = .ok (.iconst 0, 1) := dk_3 (dk_at dksX6_fairOf_0 7 rfl rfl)
theorem dX6_fairOf_8 : decode cX6_fairOf 8 = .ok (.istore 5, 2) := dk_54 5 (dk_at dksX6_fairOf_0 8 rfl rfl)
theorem dX6_fairOf_10 : decode cX6_fairOf 10 = .ok (.iload 5, 2) := dk_21 5 (dk_at dksX6_fairOf_0 10 rfl rfl)
theorem dX6_fairOf_12 : decode cX6_fairOf 12 = .ok (.iload_n 2, 1) := dk_28 (dk_at dksX6_fairOf_0 12 rfl rfl)
theorem dX6_fairOf_13 : decode cX6_fairOf 13 = .ok (.if_icmp .ge 68, 3) := dk_162 0 68 (dk_at dksX6_fairOf_0 13 rfl rfl)
theorem dX6_fairOf_16 : decode cX6_fairOf 16 = .ok (.aload_n 0, 1) := dk_42 (dk_at dksX6_fairOf_0 16 rfl rfl)
theorem dX6_fairOf_17 : decode cX6_fairOf 17 = .ok (.getfield 122, 3) := dk_180 0 122 (dk_at dksX6_fairOf_0 17 rfl rfl)
theorem dX6_fairOf_20 : decode cX6_fairOf 20 = .ok (.ifCond .le 61, 3) := dk_158 0 61 (dk_at dksX6_fairOf_0 20 rfl rfl)
theorem dX6_fairOf_23 : decode cX6_fairOf 23 = .ok (.ldc_w 295, 3) := dk_19 1 39 (dk_at dksX6_fairOf_1 0 rfl rfl)
theorem dX6_fairOf_26 : decode cX6_fairOf 26 = .ok (.iload 4, 2) := dk_21 4 (dk_at dksX6_fairOf_1 3 rfl rfl)
theorem dX6_fairOf_28 : decode cX6_fairOf 28 = .ok (.imul, 1) := dk_104 (dk_at dksX6_fairOf_1 5 rfl rfl)
theorem dX6_fairOf_29 : decode cX6_fairOf 29 = .ok (.sipush 12345, 3) := dk_17 48 57 (dk_at dksX6_fairOf_1 6 rfl rfl)
theorem dX6_fairOf_32 : decode cX6_fairOf 32 = .ok (.iadd, 1) := dk_96 (dk_at dksX6_fairOf_1 9 rfl rfl)
theorem dX6_fairOf_33 : decode cX6_fairOf 33 = .ok (.istore 4, 2) := dk_54 4 (dk_at dksX6_fairOf_1 10 rfl rfl)
theorem dX6_fairOf_35 : decode cX6_fairOf 35 = .ok (.iload 4, 2) := dk_21 4 (dk_at dksX6_fairOf_1 12 rfl rfl)
theorem dX6_fairOf_37 : decode cX6_fairOf 37 = .ok (.bipush 16, 2) := dk_16 16 (dk_at dksX6_fairOf_1 14 rfl rfl)
theorem dX6_fairOf_39 : decode cX6_fairOf 39 = .ok (.iushr, 1) := dk_124 (dk_at dksX6_fairOf_1 16 rfl rfl)
theorem dX6_fairOf_40 : decode cX6_fairOf 40 = .ok (.aload_n 0, 1) := dk_42 (dk_at dksX6_fairOf_1 17 rfl rfl)
theorem dX6_fairOf_41 : decode cX6_fairOf 41 = .ok (.getfield 112, 3) := dk_180 0 112 (dk_at dksX6_fairOf_1 18 rfl rfl)
theorem dX6_fairOf_44 : decode cX6_fairOf 44 = .ok (.irem, 1) := dk_112 (dk_at dksX6_fairOf_1 21 rfl rfl)
theorem dX6_fairOf_45 : decode cX6_fairOf 45 = .ok (.istore 6, 2) := dk_54 6 (dk_at dksX6_fairOf_1 22 rfl rfl)
theorem dX6_fairOf_47 : decode cX6_fairOf 47 = .ok (.ldc_w 295, 3) := dk_19 1 39 (dk_at dksX6_fairOf_2 0 rfl rfl)
theorem dX6_fairOf_50 : decode cX6_fairOf 50 = .ok (.iload 4, 2) := dk_21 4 (dk_at dksX6_fairOf_2 3 rfl rfl)
theorem dX6_fairOf_52 : decode cX6_fairOf 52 = .ok (.imul, 1) := dk_104 (dk_at dksX6_fairOf_2 5 rfl rfl)
theorem dX6_fairOf_53 : decode cX6_fairOf 53 = .ok (.sipush 12345, 3) := dk_17 48 57 (dk_at dksX6_fairOf_2 6 rfl rfl)
theorem dX6_fairOf_56 : decode cX6_fairOf 56 = .ok (.iadd, 1) := dk_96 (dk_at dksX6_fairOf_2 9 rfl rfl)
theorem dX6_fairOf_57 : decode cX6_fairOf 57 = .ok (.istore 4, 2) := dk_54 4 (dk_at dksX6_fairOf_2 10 rfl rfl)
theorem dX6_fairOf_59 : decode cX6_fairOf 59 = .ok (.aload_n 0, 1) := dk_42 (dk_at dksX6_fairOf_2 12 rfl rfl)
theorem dX6_fairOf_60 : decode cX6_fairOf 60 = .ok (.iload 6, 2) := dk_21 6 (dk_at dksX6_fairOf_2 13 rfl rfl)
theorem dX6_fairOf_62 : decode cX6_fairOf 62 = .ok (.iload 4, 2) := dk_21 4 (dk_at dksX6_fairOf_2 15 rfl rfl)
theorem dX6_fairOf_64 : decode cX6_fairOf 64 = .ok (.bipush 16, 2) := dk_16 16 (dk_at dksX6_fairOf_2 17 rfl rfl)
theorem dX6_fairOf_66 : decode cX6_fairOf 66 = .ok (.iushr, 1) := dk_124 (dk_at dksX6_fairOf_2 19 rfl rfl)
theorem dX6_fairOf_67 : decode cX6_fairOf 67 = .ok (.aload_n 0, 1) := dk_42 (dk_at dksX6_fairOf_2 20 rfl rfl)
theorem dX6_fairOf_68 : decode cX6_fairOf 68 = .ok (.getfield 122, 3) := dk_180 0 122 (dk_at dksX6_fairOf_2 21 rfl rfl)
theorem dX6_fairOf_71 : decode cX6_fairOf 71 = .ok (.irem, 1) := dk_112 (dk_at dksX6_fairOf_3 0 rfl rfl)
theorem dX6_fairOf_72 : decode cX6_fairOf 72 = .ok (.invokevirtual 183, 3) := dk_182 0 183 (dk_at dksX6_fairOf_3 1 rfl rfl)
theorem dX6_fairOf_75 : decode cX6_fairOf 75 = .ok (.iinc 5 1, 3) := dk_132 5 1 (dk_at dksX6_fairOf_3 4 rfl rfl)
theorem dX6_fairOf_78 : decode cX6_fairOf 78 = .ok (.goto (-68), 3) := dk_167 255 188 (dk_at dksX6_fairOf_3 7 rfl rfl)
theorem dX6_fairOf_81 : decode cX6_fairOf 81 = .ok (.aload_n 0, 1) := dk_42 (dk_at dksX6_fairOf_3 10 rfl rfl)
theorem dX6_fairOf_82 : decode cX6_fairOf 82 = .ok (.getfield 43, 3) := dk_180 0 43 (dk_at dksX6_fairOf_3 11 rfl rfl)
theorem dX6_fairOf_85 : decode cX6_fairOf 85 = .ok (.iload_n 3, 1) := dk_29 (dk_at dksX6_fairOf_3 14 rfl rfl)
theorem dX6_fairOf_86 : decode cX6_fairOf 86 = .ok (.iaload, 1) := dk_46 (dk_at dksX6_fairOf_3 15 rfl rfl)
theorem dX6_fairOf_87 : decode cX6_fairOf 87 = .ok (.ireturn, 1) := dk_172 (dk_at dksX6_fairOf_3 16 rfl rfl)
def dkwX6_write_5 : List UInt8 := [21, 4, 172]
abbrev dktX6_write_5 : List UInt8 := dkwX6_write_5 ++ []
def dkwX6_write_4 : List UInt8 := [29, 46, 42, 180, 0, 40, 16, 40, 28, 104, 21, 5, 96, 46, 184, 0, 102, 79, 132, 5, 1, 167, 255, 213]
abbrev dktX6_write_4 : List UInt8 := dkwX6_write_4 ++ dktX6_write_5
def dkwX6_write_3 : List UInt8 := [54, 5, 21, 5, 21, 4, 162, 0, 42, 42, 180, 0, 16, 16, 60, 29, 104, 21, 5, 96, 42, 180, 0, 7]
abbrev dktX6_write_3 : List UInt8 := dkwX6_write_3 ++ dktX6_write_4
def dkwX6_write_2 : List UInt8 := [180, 0, 73, 182, 0, 195, 42, 180, 0, 13, 29, 46, 42, 180, 0, 43, 28, 46, 184, 0, 165, 54, 4, 3]
abbrev dktX6_write_2 : List UInt8 := dkwX6_write_2 ++ dktX6_write_3
def dkwX6_write_1 : List UInt8 := [154, 0, 6, 16, 254, 172, 42, 180, 0, 7, 29, 46, 156, 0, 9, 42, 4, 182, 0, 94, 172, 42, 27, 42]
abbrev dktX6_write_1 : List UInt8 := dkwX6_write_1 ++ dktX6_write_2
def dkwX6_write_0 : List UInt8 := [42, 182, 0, 137, 27, 184, 0, 150, 153, 0, 18, 42, 28, 182, 0, 140, 153, 0, 10, 29, 184, 0, 88]
abbrev dktX6_write_0 : List UInt8 := dkwX6_write_0 ++ dktX6_write_1
theorem dksX6_write_0 : cX6_write.data.toList.drop 0 = dktX6_write_0 := by decide +kernel
theorem dksX6_write_1 : cX6_write.data.toList.drop 23 = dktX6_write_1 := dk_seg dksX6_write_0 23 rfl rfl
theorem dksX6_write_2 : cX6_write.data.toList.drop 47 = dktX6_write_2 := dk_seg dksX6_write_1 24 rfl rfl
theorem dksX6_write_3 : cX6_write.data.toList.drop 71 = dktX6_write_3 := dk_seg dksX6_write_2 24 rfl rfl
theorem dksX6_write_4 : cX6_write.data.toList.drop 95 = dktX6_write_4 := dk_seg dksX6_write_3 24 rfl rfl
theorem dksX6_write_5 : cX6_write.data.toList.drop 119 = dktX6_write_5 := dk_seg dksX6_write_4 24 rfl rfl
theorem dX6_write_0 : decode cX6_write 0 = .ok (.aload_n 0, 1) := dk_42 (dk_at dksX6_write_0 0 rfl rfl)
theorem dX6_write_1 : decode cX6_write 1 = .ok (.invokevirtual 137, 3) := dk_182 0 137 (dk_at dksX6_write_0 1 rfl rfl)
theorem dX6_write_4 : decode cX6_write 4 = .ok (.iload_n 1, 1) := dk_27 (dk_at dksX6_write_0 4 rfl rfl)
theorem dX6_write_5 : decode cX6_write 5 = .ok (.invokestatic 150, 3) := dk_184 0 150 (dk_at dksX6_write_0 5 rfl rfl)
theorem dX6_write_8 : decode cX6_write 8 = .ok (.ifCond .eq 18, 3) := dk_153 0 18 (dk_at dksX6_write_0 8 rfl rfl)
theorem dX6_write_11 : decode cX6_write 11 = .ok (.aload_n 0, 1) := dk_42 (dk_at dksX6_write_0 11 rfl rfl)
theorem dX6_write_12 : decode cX6_write 12 = .ok (.iload_n 2, 1) := dk_28 (dk_at dksX6_write_0 12 rfl rfl)
theorem dX6_write_13 : decode cX6_write 13 = .ok (.invokevirtual 140, 3) := dk_182 0 140 (dk_at dksX6_write_0 13 rfl rfl)
theorem dX6_write_16 : decode cX6_write 16 = .ok (.ifCond .eq 10, 3) := dk_153 0 10 (dk_at dksX6_write_0 16 rfl rfl)
theorem dX6_write_19 : decode cX6_write 19 = .ok (.iload_n 3, 1) := dk_29 (dk_at dksX6_write_0 19 rfl rfl)
theorem dX6_write_20 : decode cX6_write 20 = .ok (.invokestatic 88, 3) := dk_184 0 88 (dk_at dksX6_write_0 20 rfl rfl)
theorem dX6_write_23 : decode cX6_write 23 = .ok (.ifCond .ne 6, 3) := dk_154 0 6 (dk_at dksX6_write_1 0 rfl rfl)
theorem dX6_write_26 : decode cX6_write 26 = .ok (.bipush (-2), 2) := dk_16 254 (dk_at dksX6_write_1 3 rfl rfl)
theorem dX6_write_28 : decode cX6_write 28 = .ok (.ireturn, 1) := dk_172 (dk_at dksX6_write_1 5 rfl rfl)
theorem dX6_write_29 : decode cX6_write 29 = .ok (.aload_n 0, 1) := dk_42 (dk_at dksX6_write_1 6 rfl rfl)
theorem dX6_write_30 : decode cX6_write 30 = .ok (.getfield 7, 3) := dk_180 0 7 (dk_at dksX6_write_1 7 rfl rfl)
theorem dX6_write_33 : decode cX6_write 33 = .ok (.iload_n 3, 1) := dk_29 (dk_at dksX6_write_1 10 rfl rfl)
theorem dX6_write_34 : decode cX6_write 34 = .ok (.iaload, 1) := dk_46 (dk_at dksX6_write_1 11 rfl rfl)
theorem dX6_write_35 : decode cX6_write 35 = .ok (.ifCond .ge 9, 3) := dk_156 0 9 (dk_at dksX6_write_1 12 rfl rfl)
theorem dX6_write_38 : decode cX6_write 38 = .ok (.aload_n 0, 1) := dk_42 (dk_at dksX6_write_1 15 rfl rfl)
theorem dX6_write_39 : decode cX6_write 39 = .ok (.iconst 1, 1) := dk_4 (dk_at dksX6_write_1 16 rfl rfl)
theorem dX6_write_40 : decode cX6_write 40 = .ok (.invokevirtual 94, 3) := dk_182 0 94 (dk_at dksX6_write_1 17 rfl rfl)
theorem dX6_write_43 : decode cX6_write 43 = .ok (.ireturn, 1) := dk_172 (dk_at dksX6_write_1 20 rfl rfl)
theorem dX6_write_44 : decode cX6_write 44 = .ok (.aload_n 0, 1) := dk_42 (dk_at dksX6_write_1 21 rfl rfl)
theorem dX6_write_45 : decode cX6_write 45 = .ok (.iload_n 1, 1) := dk_27 (dk_at dksX6_write_1 22 rfl rfl)
theorem dX6_write_46 : decode cX6_write 46 = .ok (.aload_n 0, 1) := dk_42 (dk_at dksX6_write_1 23 rfl rfl)
theorem dX6_write_47 : decode cX6_write 47 = .ok (.getfield 73, 3) := dk_180 0 73 (dk_at dksX6_write_2 0 rfl rfl)
theorem dX6_write_50 : decode cX6_write 50 = .ok (.invokevirtual 195, 3) := dk_182 0 195 (dk_at dksX6_write_2 3 rfl rfl)
theorem dX6_write_53 : decode cX6_write 53 = .ok (.aload_n 0, 1) := dk_42 (dk_at dksX6_write_2 6 rfl rfl)
theorem dX6_write_54 : decode cX6_write 54 = .ok (.getfield 13, 3) := dk_180 0 13 (dk_at dksX6_write_2 7 rfl rfl)
theorem dX6_write_57 : decode cX6_write 57 = .ok (.iload_n 3, 1) := dk_29 (dk_at dksX6_write_2 10 rfl rfl)
theorem dX6_write_58 : decode cX6_write 58 = .ok (.iaload, 1) := dk_46 (dk_at dksX6_write_2 11 rfl rfl)
theorem dX6_write_59 : decode cX6_write 59 = .ok (.aload_n 0, 1) := dk_42 (dk_at dksX6_write_2 12 rfl rfl)
theorem dX6_write_60 : decode cX6_write 60 = .ok (.getfield 43, 3) := dk_180 0 43 (dk_at dksX6_write_2 13 rfl rfl)
theorem dX6_write_63 : decode cX6_write 63 = .ok (.iload_n 2, 1) := dk_28 (dk_at dksX6_write_2 16 rfl rfl)
theorem dX6_write_64 : decode cX6_write 64 = .ok (.iaload, 1) := dk_46 (dk_at dksX6_write_2 17 rfl rfl)
theorem dX6_write_65 : decode cX6_write 65 = .ok (.invokestatic 165, 3) := dk_184 0 165 (dk_at dksX6_write_2 18 rfl rfl)
theorem dX6_write_68 : decode cX6_write 68 = .ok (.istore 4, 2) := dk_54 4 (dk_at dksX6_write_2 21 rfl rfl)
theorem dX6_write_70 : decode cX6_write 70 = .ok (.iconst 0, 1) := dk_3 (dk_at dksX6_write_2 23 rfl rfl)
theorem dX6_write_71 : decode cX6_write 71 = .ok (.istore 5, 2) := dk_54 5 (dk_at dksX6_write_3 0 rfl rfl)
theorem dX6_write_73 : decode cX6_write 73 = .ok (.iload 5, 2) := dk_21 5 (dk_at dksX6_write_3 2 rfl rfl)
theorem dX6_write_75 : decode cX6_write 75 = .ok (.iload 4, 2) := dk_21 4 (dk_at dksX6_write_3 4 rfl rfl)
theorem dX6_write_77 : decode cX6_write 77 = .ok (.if_icmp .ge 42, 3) := dk_162 0 42 (dk_at dksX6_write_3 6 rfl rfl)
theorem dX6_write_80 : decode cX6_write 80 = .ok (.aload_n 0, 1) := dk_42 (dk_at dksX6_write_3 9 rfl rfl)
theorem dX6_write_81 : decode cX6_write 81 = .ok (.getfield 16, 3) := dk_180 0 16 (dk_at dksX6_write_3 10 rfl rfl)
theorem dX6_write_84 : decode cX6_write 84 = .ok (.bipush 60, 2) := dk_16 60 (dk_at dksX6_write_3 13 rfl rfl)
theorem dX6_write_86 : decode cX6_write 86 = .ok (.iload_n 3, 1) := dk_29 (dk_at dksX6_write_3 15 rfl rfl)
theorem dX6_write_87 : decode cX6_write 87 = .ok (.imul, 1) := dk_104 (dk_at dksX6_write_3 16 rfl rfl)
theorem dX6_write_88 : decode cX6_write 88 = .ok (.iload 5, 2) := dk_21 5 (dk_at dksX6_write_3 17 rfl rfl)
theorem dX6_write_90 : decode cX6_write 90 = .ok (.iadd, 1) := dk_96 (dk_at dksX6_write_3 19 rfl rfl)
theorem dX6_write_91 : decode cX6_write 91 = .ok (.aload_n 0, 1) := dk_42 (dk_at dksX6_write_3 20 rfl rfl)
theorem dX6_write_92 : decode cX6_write 92 = .ok (.getfield 7, 3) := dk_180 0 7 (dk_at dksX6_write_3 21 rfl rfl)
theorem dX6_write_95 : decode cX6_write 95 = .ok (.iload_n 3, 1) := dk_29 (dk_at dksX6_write_4 0 rfl rfl)
theorem dX6_write_96 : decode cX6_write 96 = .ok (.iaload, 1) := dk_46 (dk_at dksX6_write_4 1 rfl rfl)
theorem dX6_write_97 : decode cX6_write 97 = .ok (.aload_n 0, 1) := dk_42 (dk_at dksX6_write_4 2 rfl rfl)
theorem dX6_write_98 : decode cX6_write 98 = .ok (.getfield 40, 3) := dk_180 0 40 (dk_at dksX6_write_4 3 rfl rfl)
theorem dX6_write_101 : decode cX6_write 101 = .ok (.bipush 40, 2) := dk_16 40 (dk_at dksX6_write_4 6 rfl rfl)
theorem dX6_write_103 : decode cX6_write 103 = .ok (.iload_n 2, 1) := dk_28 (dk_at dksX6_write_4 8 rfl rfl)
theorem dX6_write_104 : decode cX6_write 104 = .ok (.imul, 1) := dk_104 (dk_at dksX6_write_4 9 rfl rfl)
theorem dX6_write_105 : decode cX6_write 105 = .ok (.iload 5, 2) := dk_21 5 (dk_at dksX6_write_4 10 rfl rfl)
theorem dX6_write_107 : decode cX6_write 107 = .ok (.iadd, 1) := dk_96 (dk_at dksX6_write_4 12 rfl rfl)
theorem dX6_write_108 : decode cX6_write 108 = .ok (.iaload, 1) := dk_46 (dk_at dksX6_write_4 13 rfl rfl)
theorem dX6_write_109 : decode cX6_write 109 = .ok (.invokestatic 102, 3) := dk_184 0 102 (dk_at dksX6_write_4 14 rfl rfl)
theorem dX6_write_112 : decode cX6_write 112 = .ok (.iastore, 1) := dk_79 (dk_at dksX6_write_4 17 rfl rfl)
theorem dX6_write_113 : decode cX6_write 113 = .ok (.iinc 5 1, 3) := dk_132 5 1 (dk_at dksX6_write_4 18 rfl rfl)
theorem dX6_write_116 : decode cX6_write 116 = .ok (.goto (-43), 3) := dk_167 255 213 (dk_at dksX6_write_4 21 rfl rfl)
theorem dX6_write_119 : decode cX6_write 119 = .ok (.iload 4, 2) := dk_21 4 (dk_at dksX6_write_5 0 rfl rfl)
theorem dX6_write_121 : decode cX6_write 121 = .ok (.ireturn, 1) := dk_172 (dk_at dksX6_write_5 2 rfl rfl)
def dkwX6_count_6 : List UInt8 := [180, 0, 83, 172, 16, 254, 172]
abbrev dktX6_count_6 : List UInt8 := dkwX6_count_6 ++ []
def dkwX6_count_5 : List UInt8 := [180, 0, 112, 162, 0, 18, 28, 42, 180, 0, 31, 29, 46, 96, 61, 132, 3, 1, 167, 255, 236, 28, 172, 42]
abbrev dktX6_count_5 : List UInt8 := dkwX6_count_5 ++ dktX6_count_6
def dkwX6_count_4 : List UInt8 := [180, 0, 58, 29, 46, 96, 61, 132, 3, 1, 167, 255, 236, 28, 172, 42, 180, 0, 73, 172, 3, 62, 29, 42]
abbrev dktX6_count_4 : List UInt8 := dkwX6_count_4 ++ dktX6_count_5
def dkwX6_count_3 : List UInt8 := [42, 16, 39, 42, 180, 0, 73, 182, 0, 195, 3, 62, 29, 42, 180, 0, 157, 162, 0, 18, 28, 42]
abbrev dktX6_count_3 : List UInt8 := dkwX6_count_3 ++ dktX6_count_4
def dkwX6_count_2 : List UInt8 := [42, 180, 0, 112, 172, 42, 180, 0, 122, 172, 42, 180, 0, 25, 27, 5, 100, 46, 172, 42, 180, 0, 157, 172]
abbrev dktX6_count_2 : List UInt8 := dkwX6_count_2 ++ dktX6_count_3
def dkwX6_count_1 : List UInt8 := [170, 0, 0, 0, 147, 0, 0, 0, 0, 0, 0, 0, 8, 0, 0, 0, 49, 0, 0, 0, 54, 0, 0, 0, 59, 0, 0, 0, 59, 0, 0, 0, 68, 0, 0, 0, 73, 0, 0, 0, 110, 0, 0, 0, 115, 0, 0, 0, 142]
abbrev dktX6_count_1 : List UInt8 := dkwX6_count_1 ++ dktX6_count_2
def dkwX6_count_0 : List UInt8 := [3, 61, 42, 182, 0, 137, 27]
abbrev dktX6_count_0 : List UInt8 := dkwX6_count_0 ++ dktX6_count_1
theorem dksX6_count_0 : cX6_count.data.toList.drop 0 = dktX6_count_0 := by decide +kernel
theorem dksX6_count_1 : cX6_count.data.toList.drop 7 = dktX6_count_1 := dk_seg dksX6_count_0 7 rfl rfl
theorem dksX6_count_2 : cX6_count.data.toList.drop 56 = dktX6_count_2 := dk_seg dksX6_count_1 49 rfl rfl
theorem dksX6_count_3 : cX6_count.data.toList.drop 80 = dktX6_count_3 := dk_seg dksX6_count_2 24 rfl rfl
theorem dksX6_count_4 : cX6_count.data.toList.drop 102 = dktX6_count_4 := dk_seg dksX6_count_3 22 rfl rfl
theorem dksX6_count_5 : cX6_count.data.toList.drop 126 = dktX6_count_5 := dk_seg dksX6_count_4 24 rfl rfl
theorem dksX6_count_6 : cX6_count.data.toList.drop 150 = dktX6_count_6 := dk_seg dksX6_count_5 24 rfl rfl
theorem dX6_count_0 : decode cX6_count 0 = .ok (.iconst 0, 1) := dk_3 (dk_at dksX6_count_0 0 rfl rfl)
theorem dX6_count_1 : decode cX6_count 1 = .ok (.istore_n 2, 1) := dk_61 (dk_at dksX6_count_0 1 rfl rfl)
theorem dX6_count_2 : decode cX6_count 2 = .ok (.aload_n 0, 1) := dk_42 (dk_at dksX6_count_0 2 rfl rfl)
theorem dX6_count_3 : decode cX6_count 3 = .ok (.invokevirtual 137, 3) := dk_182 0 137 (dk_at dksX6_count_0 3 rfl rfl)
theorem dX6_count_6 : decode cX6_count 6 = .ok (.iload_n 1, 1) := dk_27 (dk_at dksX6_count_0 6 rfl rfl)
theorem dX6_count_7 : decode cX6_count 7 = .ok (.tableswitch 147 0 8 #[49, 54, 59, 59, 68, 73, 110, 115, 142], 49) := by decide +kernel
theorem dX6_count_56 : decode cX6_count 56 = .ok (.aload_n 0, 1) := dk_42 (dk_at dksX6_count_2 0 rfl rfl)
theorem dX6_count_57 : decode cX6_count 57 = .ok (.getfield 112, 3) := dk_180 0 112 (dk_at dksX6_count_2 1 rfl rfl)
theorem dX6_count_60 : decode cX6_count 60 = .ok (.ireturn, 1) := dk_172 (dk_at dksX6_count_2 4 rfl rfl)
theorem dX6_count_61 : decode cX6_count 61 = .ok (.aload_n 0, 1) := dk_42 (dk_at dksX6_count_2 5 rfl rfl)
theorem dX6_count_62 : decode cX6_count 62 = .ok (.getfield 122, 3) := dk_180 0 122 (dk_at dksX6_count_2 6 rfl rfl)
theorem dX6_count_65 : decode cX6_count 65 = .ok (.ireturn, 1) := dk_172 (dk_at dksX6_count_2 9 rfl rfl)
theorem dX6_count_66 : decode cX6_count 66 = .ok (.aload_n 0, 1) := dk_42 (dk_at dksX6_count_2 10 rfl rfl)
theorem dX6_count_67 : decode cX6_count 67 = .ok (.getfield 25, 3) := dk_180 0 25 (dk_at dksX6_count_2 11 rfl rfl)
theorem dX6_count_70 : decode cX6_count 70 = .ok (.iload_n 1, 1) := dk_27 (dk_at dksX6_count_2 14 rfl rfl)
theorem dX6_count_71 : decode cX6_count 71 = .ok (.iconst 2, 1) := dk_5 (dk_at dksX6_count_2 15 rfl rfl)
theorem dX6_count_72 : decode cX6_count 72 = .ok (.isub, 1) := dk_100 (dk_at dksX6_count_2 16 rfl rfl)
theorem dX6_count_73 : decode cX6_count 73 = .ok (.iaload, 1) := dk_46 (dk_at dksX6_count_2 17 rfl rfl)
theorem dX6_count_74 : decode cX6_count 74 = .ok (.ireturn, 1) := dk_172 (dk_at dksX6_count_2 18 rfl rfl)
theorem dX6_count_75 : decode cX6_count 75 = .ok (.aload_n 0, 1) := dk_42 (dk_at dksX6_count_2 19 rfl rfl)
theorem dX6_count_76 : decode cX6_count 76 = .ok (.getfield 157, 3) := dk_180 0 157 (dk_at dksX6_count_2 20 rfl rfl)
theorem dX6_count_79 : decode cX6_count 79 = .ok (.ireturn, 1) := dk_172 (dk_at dksX6_count_2 23 rfl rfl)
theorem dX6_count_80 : decode cX6_count 80 = .ok (.aload_n 0, 1) := dk_42 (dk_at dksX6_count_3 0 rfl rfl)
theorem dX6_count_81 : decode cX6_count 81 = .ok (.bipush 39, 2) := dk_16 39 (dk_at dksX6_count_3 1 rfl rfl)
theorem dX6_count_83 : decode cX6_count 83 = .ok (.aload_n 0, 1) := dk_42 (dk_at dksX6_count_3 3 rfl rfl)
theorem dX6_count_84 : decode cX6_count 84 = .ok (.getfield 73, 3) := dk_180 0 73 (dk_at dksX6_count_3 4 rfl rfl)
theorem dX6_count_87 : decode cX6_count 87 = .ok (.invokevirtual 195, 3) := dk_182 0 195 (dk_at dksX6_count_3 7 rfl rfl)
theorem dX6_count_90 : decode cX6_count 90 = .ok (.iconst 0, 1) := dk_3 (dk_at dksX6_count_3 10 rfl rfl)
theorem dX6_count_91 : decode cX6_count 91 = .ok (.istore_n 3, 1) := dk_62 (dk_at dksX6_count_3 11 rfl rfl)
theorem dX6_count_92 : decode cX6_count 92 = .ok (.iload_n 3, 1) := dk_29 (dk_at dksX6_count_3 12 rfl rfl)
theorem dX6_count_93 : decode cX6_count 93 = .ok (.aload_n 0, 1) := dk_42 (dk_at dksX6_count_3 13 rfl rfl)
theorem dX6_count_94 : decode cX6_count 94 = .ok (.getfield 157, 3) := dk_180 0 157 (dk_at dksX6_count_3 14 rfl rfl)
theorem dX6_count_97 : decode cX6_count 97 = .ok (.if_icmp .ge 18, 3) := dk_162 0 18 (dk_at dksX6_count_3 17 rfl rfl)
theorem dX6_count_100 : decode cX6_count 100 = .ok (.iload_n 2, 1) := dk_28 (dk_at dksX6_count_3 20 rfl rfl)
theorem dX6_count_101 : decode cX6_count 101 = .ok (.aload_n 0, 1) := dk_42 (dk_at dksX6_count_3 21 rfl rfl)
theorem dX6_count_102 : decode cX6_count 102 = .ok (.getfield 58, 3) := dk_180 0 58 (dk_at dksX6_count_4 0 rfl rfl)
theorem dX6_count_105 : decode cX6_count 105 = .ok (.iload_n 3, 1) := dk_29 (dk_at dksX6_count_4 3 rfl rfl)
theorem dX6_count_106 : decode cX6_count 106 = .ok (.iaload, 1) := dk_46 (dk_at dksX6_count_4 4 rfl rfl)
theorem dX6_count_107 : decode cX6_count 107 = .ok (.iadd, 1) := dk_96 (dk_at dksX6_count_4 5 rfl rfl)
theorem dX6_count_108 : decode cX6_count 108 = .ok (.istore_n 2, 1) := dk_61 (dk_at dksX6_count_4 6 rfl rfl)
theorem dX6_count_109 : decode cX6_count 109 = .ok (.iinc 3 1, 3) := dk_132 3 1 (dk_at dksX6_count_4 7 rfl rfl)
theorem dX6_count_112 : decode cX6_count 112 = .ok (.goto (-20), 3) := dk_167 255 236 (dk_at dksX6_count_4 10 rfl rfl)
theorem dX6_count_115 : decode cX6_count 115 = .ok (.iload_n 2, 1) := dk_28 (dk_at dksX6_count_4 13 rfl rfl)
theorem dX6_count_116 : decode cX6_count 116 = .ok (.ireturn, 1) := dk_172 (dk_at dksX6_count_4 14 rfl rfl)
theorem dX6_count_117 : decode cX6_count 117 = .ok (.aload_n 0, 1) := dk_42 (dk_at dksX6_count_4 15 rfl rfl)
theorem dX6_count_118 : decode cX6_count 118 = .ok (.getfield 73, 3) := dk_180 0 73 (dk_at dksX6_count_4 16 rfl rfl)
theorem dX6_count_121 : decode cX6_count 121 = .ok (.ireturn, 1) := dk_172 (dk_at dksX6_count_4 19 rfl rfl)
theorem dX6_count_122 : decode cX6_count 122 = .ok (.iconst 0, 1) := dk_3 (dk_at dksX6_count_4 20 rfl rfl)
theorem dX6_count_123 : decode cX6_count 123 = .ok (.istore_n 3, 1) := dk_62 (dk_at dksX6_count_4 21 rfl rfl)
theorem dX6_count_124 : decode cX6_count 124 = .ok (.iload_n 3, 1) := dk_29 (dk_at dksX6_count_4 22 rfl rfl)
theorem dX6_count_125 : decode cX6_count 125 = .ok (.aload_n 0, 1) := dk_42 (dk_at dksX6_count_4 23 rfl rfl)
theorem dX6_count_126 : decode cX6_count 126 = .ok (.getfield 112, 3) := dk_180 0 112 (dk_at dksX6_count_5 0 rfl rfl)
theorem dX6_count_129 : decode cX6_count 129 = .ok (.if_icmp .ge 18, 3) := dk_162 0 18 (dk_at dksX6_count_5 3 rfl rfl)
theorem dX6_count_132 : decode cX6_count 132 = .ok (.iload_n 2, 1) := dk_28 (dk_at dksX6_count_5 6 rfl rfl)
theorem dX6_count_133 : decode cX6_count 133 = .ok (.aload_n 0, 1) := dk_42 (dk_at dksX6_count_5 7 rfl rfl)
theorem dX6_count_134 : decode cX6_count 134 = .ok (.getfield 31, 3) := dk_180 0 31 (dk_at dksX6_count_5 8 rfl rfl)
theorem dX6_count_137 : decode cX6_count 137 = .ok (.iload_n 3, 1) := dk_29 (dk_at dksX6_count_5 11 rfl rfl)
theorem dX6_count_138 : decode cX6_count 138 = .ok (.iaload, 1) := dk_46 (dk_at dksX6_count_5 12 rfl rfl)
theorem dX6_count_139 : decode cX6_count 139 = .ok (.iadd, 1) := dk_96 (dk_at dksX6_count_5 13 rfl rfl)
theorem dX6_count_140 : decode cX6_count 140 = .ok (.istore_n 2, 1) := dk_61 (dk_at dksX6_count_5 14 rfl rfl)
theorem dX6_count_141 : decode cX6_count 141 = .ok (.iinc 3 1, 3) := dk_132 3 1 (dk_at dksX6_count_5 15 rfl rfl)
theorem dX6_count_144 : decode cX6_count 144 = .ok (.goto (-20), 3) := dk_167 255 236 (dk_at dksX6_count_5 18 rfl rfl)
theorem dX6_count_147 : decode cX6_count 147 = .ok (.iload_n 2, 1) := dk_28 (dk_at dksX6_count_5 21 rfl rfl)
theorem dX6_count_148 : decode cX6_count 148 = .ok (.ireturn, 1) := dk_172 (dk_at dksX6_count_5 22 rfl rfl)
theorem dX6_count_149 : decode cX6_count 149 = .ok (.aload_n 0, 1) := dk_42 (dk_at dksX6_count_5 23 rfl rfl)
theorem dX6_count_150 : decode cX6_count 150 = .ok (.getfield 83, 3) := dk_180 0 83 (dk_at dksX6_count_6 0 rfl rfl)
theorem dX6_count_153 : decode cX6_count 153 = .ok (.ireturn, 1) := dk_172 (dk_at dksX6_count_6 3 rfl rfl)
theorem dX6_count_154 : decode cX6_count 154 = .ok (.bipush (-2), 2) := dk_16 254 (dk_at dksX6_count_6 4 rfl rfl)
theorem dX6_count_156 : decode cX6_count 156 = .ok (.ireturn, 1) := dk_172 (dk_at dksX6_count_6 6 rfl rfl)
def dkwX6_digest_11 : List UInt8 := [31, 105, 42, 4, 182, 1, 20, 133, 97, 173]
abbrev dktX6_digest_11 : List UInt8 := dkwX6_digest_11 ++ []
def dkwX6_digest_10 : List UInt8 := [6, 182, 0, 210, 133, 97, 64, 20, 1, 43, 31, 105, 42, 16, 9, 182, 1, 15, 133, 97, 64, 20, 1, 43]
abbrev dktX6_digest_10 : List UInt8 := dkwX6_digest_10 ++ dktX6_digest_11
def dkwX6_digest_9 : List UInt8 := [20, 1, 43, 31, 105, 42, 16, 39, 42, 180, 0, 73, 182, 0, 207, 133, 97, 64, 20, 1, 43, 31, 105, 42]
abbrev dktX6_digest_9 : List UInt8 := dkwX6_digest_9 ++ dktX6_digest_10
def dkwX6_digest_8 : List UInt8 := [182, 0, 207, 133, 97, 64, 20, 1, 43, 31, 105, 42, 16, 9, 42, 180, 0, 73, 182, 0, 207, 133, 97, 64]
abbrev dktX6_digest_8 : List UInt8 := dkwX6_digest_8 ++ dktX6_digest_9
def dkwX6_digest_7 : List UInt8 := [132, 4, 1, 167, 255, 232, 132, 3, 1, 167, 255, 215, 20, 1, 43, 31, 105, 42, 3, 42, 180, 0, 73]
abbrev dktX6_digest_7 : List UInt8 := dkwX6_digest_7 ++ dktX6_digest_8
def dkwX6_digest_6 : List UInt8 := [54, 4, 21, 4, 6, 162, 0, 24, 20, 1, 43, 31, 105, 42, 29, 21, 4, 182, 0, 204, 133, 97, 64]
abbrev dktX6_digest_6 : List UInt8 := dkwX6_digest_6 ++ dktX6_digest_7
def dkwX6_digest_5 : List UInt8 := [132, 4, 1, 167, 255, 228, 132, 3, 1, 167, 255, 211, 3, 62, 29, 42, 180, 0, 157, 162, 0, 39, 3]
abbrev dktX6_digest_5 : List UInt8 := dkwX6_digest_5 ++ dktX6_digest_6
def dkwX6_digest_4 : List UInt8 := [162, 0, 28, 20, 1, 43, 31, 105, 42, 180, 0, 34, 6, 29, 104, 21, 4, 96, 46, 133, 97, 64]
abbrev dktX6_digest_4 : List UInt8 := dkwX6_digest_4 ++ dktX6_digest_5
def dkwX6_digest_3 : List UInt8 := [132, 3, 1, 167, 255, 238, 3, 62, 29, 42, 180, 0, 122, 162, 0, 43, 3, 54, 4, 21, 4, 6]
abbrev dktX6_digest_3 : List UInt8 := dkwX6_digest_3 ++ dktX6_digest_4
def dkwX6_digest_2 : List UInt8 := [42, 182, 0, 132, 133, 97, 64, 3, 62, 29, 42, 180, 0, 112, 162, 0, 16, 42, 31, 29, 182, 1, 53, 64]
abbrev dktX6_digest_2 : List UInt8 := dkwX6_digest_2 ++ dktX6_digest_3
def dkwX6_digest_1 : List UInt8 := [64, 132, 3, 1, 167, 255, 234, 20, 1, 43, 31, 105, 42, 182, 0, 128, 133, 97, 64, 20, 1, 43, 31, 105]
abbrev dktX6_digest_1 : List UInt8 := dkwX6_digest_1 ++ dktX6_digest_2
def dkwX6_digest_0 : List UInt8 := [20, 1, 48, 64, 3, 62, 29, 16, 8, 162, 0, 22, 20, 1, 43, 31, 105, 42, 29, 182, 1, 50, 133, 97]
abbrev dktX6_digest_0 : List UInt8 := dkwX6_digest_0 ++ dktX6_digest_1
theorem dksX6_digest_0 : cX6_digest.data.toList.drop 0 = dktX6_digest_0 := by decide +kernel
theorem dksX6_digest_1 : cX6_digest.data.toList.drop 24 = dktX6_digest_1 := dk_seg dksX6_digest_0 24 rfl rfl
theorem dksX6_digest_2 : cX6_digest.data.toList.drop 48 = dktX6_digest_2 := dk_seg dksX6_digest_1 24 rfl rfl
theorem dksX6_digest_3 : cX6_digest.data.toList.drop 72 = dktX6_digest_3 := dk_seg dksX6_digest_2 24 rfl rfl
theorem dksX6_digest_4 : cX6_digest.data.toList.drop 94 = dktX6_digest_4 := dk_seg dksX6_digest_3 22 rfl rfl
theorem dksX6_digest_5 : cX6_digest.data.toList.drop 116 = dktX6_digest_5 := dk_seg dksX6_digest_4 22 rfl rfl
theorem dksX6_digest_6 : cX6_digest.data.toList.drop 139 = dktX6_digest_6 := dk_seg dksX6_digest_5 23 rfl rfl
theorem dksX6_digest_7 : cX6_digest.data.toList.drop 162 = dktX6_digest_7 := dk_seg dksX6_digest_6 23 rfl rfl
theorem dksX6_digest_8 : cX6_digest.data.toList.drop 185 = dktX6_digest_8 := dk_seg dksX6_digest_7 23 rfl rfl
theorem dksX6_digest_9 : cX6_digest.data.toList.drop 209 = dktX6_digest_9 := dk_seg dksX6_digest_8 24 rfl rfl
theorem dksX6_digest_10 : cX6_digest.data.toList.drop 233 = dktX6_digest_10 := dk_seg dksX6_digest_9 24 rfl rfl
theorem dksX6_digest_11 : cX6_digest.data.toList.drop 257 = dktX6_digest_11 := dk_seg dksX6_digest_10 24 rfl rfl
theorem dX6_digest_0 : decode cX6_digest 0 = .ok (.ldc2_w 304, 3) := dk_20 1 48 (dk_at dksX6_digest_0 0 rfl rfl)
theorem dX6_digest_3 : decode cX6_digest 3 = .ok (.lstore_n 1, 1) := dk_64 (dk_at dksX6_digest_0 3 rfl rfl)
theorem dX6_digest_4 : decode cX6_digest 4 = .ok (.iconst 0, 1) := dk_3 (dk_at dksX6_digest_0 4 rfl rfl)
theorem dX6_digest_5 : decode cX6_digest 5 = .ok (.istore_n 3, 1) := dk_62 (dk_at dksX6_digest_0 5 rfl rfl)
theorem dX6_digest_6 : decode cX6_digest 6 = .ok (.iload_n 3, 1) := dk_29 (dk_at dksX6_digest_0 6 rfl rfl)
theorem dX6_digest_7 : decode cX6_digest 7 = .ok (.bipush 8, 2) := dk_16 8 (dk_at dksX6_digest_0 7 rfl rfl)
theorem dX6_digest_9 : decode cX6_digest 9 = .ok (.if_icmp .ge 22, 3) := dk_162 0 22 (dk_at dksX6_digest_0 9 rfl rfl)
theorem dX6_digest_12 : decode cX6_digest 12 = .ok (.ldc2_w 299, 3) := dk_20 1 43 (dk_at dksX6_digest_0 12 rfl rfl)
theorem dX6_digest_15 : decode cX6_digest 15 = .ok (.lload_n 1, 1) := dk_31 (dk_at dksX6_digest_0 15 rfl rfl)
theorem dX6_digest_16 : decode cX6_digest 16 = .ok (.lmul, 1) := dk_105 (dk_at dksX6_digest_0 16 rfl rfl)
theorem dX6_digest_17 : decode cX6_digest 17 = .ok (.aload_n 0, 1) := dk_42 (dk_at dksX6_digest_0 17 rfl rfl)
theorem dX6_digest_18 : decode cX6_digest 18 = .ok (.iload_n 3, 1) := dk_29 (dk_at dksX6_digest_0 18 rfl rfl)
theorem dX6_digest_19 : decode cX6_digest 19 = .ok (.invokevirtual 306, 3) := dk_182 1 50 (dk_at dksX6_digest_0 19 rfl rfl)
theorem dX6_digest_22 : decode cX6_digest 22 = .ok (.i2l, 1) := dk_133 (dk_at dksX6_digest_0 22 rfl rfl)
theorem dX6_digest_23 : decode cX6_digest 23 = .ok (.ladd, 1) := dk_97 (dk_at dksX6_digest_0 23 rfl rfl)
theorem dX6_digest_24 : decode cX6_digest 24 = .ok (.lstore_n 1, 1) := dk_64 (dk_at dksX6_digest_1 0 rfl rfl)
theorem dX6_digest_25 : decode cX6_digest 25 = .ok (.iinc 3 1, 3) := dk_132 3 1 (dk_at dksX6_digest_1 1 rfl rfl)
theorem dX6_digest_28 : decode cX6_digest 28 = .ok (.goto (-22), 3) := dk_167 255 234 (dk_at dksX6_digest_1 4 rfl rfl)
theorem dX6_digest_31 : decode cX6_digest 31 = .ok (.ldc2_w 299, 3) := dk_20 1 43 (dk_at dksX6_digest_1 7 rfl rfl)
theorem dX6_digest_34 : decode cX6_digest 34 = .ok (.lload_n 1, 1) := dk_31 (dk_at dksX6_digest_1 10 rfl rfl)
theorem dX6_digest_35 : decode cX6_digest 35 = .ok (.lmul, 1) := dk_105 (dk_at dksX6_digest_1 11 rfl rfl)
theorem dX6_digest_36 : decode cX6_digest 36 = .ok (.aload_n 0, 1) := dk_42 (dk_at dksX6_digest_1 12 rfl rfl)
theorem dX6_digest_37 : decode cX6_digest 37 = .ok (.invokevirtual 128, 3) := dk_182 0 128 (dk_at dksX6_digest_1 13 rfl rfl)
theorem dX6_digest_40 : decode cX6_digest 40 = .ok (.i2l, 1) := dk_133 (dk_at dksX6_digest_1 16 rfl rfl)
theorem dX6_digest_41 : decode cX6_digest 41 = .ok (.ladd, 1) := dk_97 (dk_at dksX6_digest_1 17 rfl rfl)
theorem dX6_digest_42 : decode cX6_digest 42 = .ok (.lstore_n 1, 1) := dk_64 (dk_at dksX6_digest_1 18 rfl rfl)
theorem dX6_digest_43 : decode cX6_digest 43 = .ok (.ldc2_w 299, 3) := dk_20 1 43 (dk_at dksX6_digest_1 19 rfl rfl)
theorem dX6_digest_46 : decode cX6_digest 46 = .ok (.lload_n 1, 1) := dk_31 (dk_at dksX6_digest_1 22 rfl rfl)
theorem dX6_digest_47 : decode cX6_digest 47 = .ok (.lmul, 1) := dk_105 (dk_at dksX6_digest_1 23 rfl rfl)
theorem dX6_digest_48 : decode cX6_digest 48 = .ok (.aload_n 0, 1) := dk_42 (dk_at dksX6_digest_2 0 rfl rfl)
theorem dX6_digest_49 : decode cX6_digest 49 = .ok (.invokevirtual 132, 3) := dk_182 0 132 (dk_at dksX6_digest_2 1 rfl rfl)
theorem dX6_digest_52 : decode cX6_digest 52 = .ok (.i2l, 1) := dk_133 (dk_at dksX6_digest_2 4 rfl rfl)
theorem dX6_digest_53 : decode cX6_digest 53 = .ok (.ladd, 1) := dk_97 (dk_at dksX6_digest_2 5 rfl rfl)
theorem dX6_digest_54 : decode cX6_digest 54 = .ok (.lstore_n 1, 1) := dk_64 (dk_at dksX6_digest_2 6 rfl rfl)
theorem dX6_digest_55 : decode cX6_digest 55 = .ok (.iconst 0, 1) := dk_3 (dk_at dksX6_digest_2 7 rfl rfl)
theorem dX6_digest_56 : decode cX6_digest 56 = .ok (.istore_n 3, 1) := dk_62 (dk_at dksX6_digest_2 8 rfl rfl)
theorem dX6_digest_57 : decode cX6_digest 57 = .ok (.iload_n 3, 1) := dk_29 (dk_at dksX6_digest_2 9 rfl rfl)
theorem dX6_digest_58 : decode cX6_digest 58 = .ok (.aload_n 0, 1) := dk_42 (dk_at dksX6_digest_2 10 rfl rfl)
theorem dX6_digest_59 : decode cX6_digest 59 = .ok (.getfield 112, 3) := dk_180 0 112 (dk_at dksX6_digest_2 11 rfl rfl)
theorem dX6_digest_62 : decode cX6_digest 62 = .ok (.if_icmp .ge 16, 3) := dk_162 0 16 (dk_at dksX6_digest_2 14 rfl rfl)
theorem dX6_digest_65 : decode cX6_digest 65 = .ok (.aload_n 0, 1) := dk_42 (dk_at dksX6_digest_2 17 rfl rfl)
theorem dX6_digest_66 : decode cX6_digest 66 = .ok (.lload_n 1, 1) := dk_31 (dk_at dksX6_digest_2 18 rfl rfl)
theorem dX6_digest_67 : decode cX6_digest 67 = .ok (.iload_n 3, 1) := dk_29 (dk_at dksX6_digest_2 19 rfl rfl)
theorem dX6_digest_68 : decode cX6_digest 68 = .ok (.invokevirtual 309, 3) := dk_182 1 53 (dk_at dksX6_digest_2 20 rfl rfl)
theorem dX6_digest_71 : decode cX6_digest 71 = .ok (.lstore_n 1, 1) := dk_64 (dk_at dksX6_digest_2 23 rfl rfl)
theorem dX6_digest_72 : decode cX6_digest 72 = .ok (.iinc 3 1, 3) := dk_132 3 1 (dk_at dksX6_digest_3 0 rfl rfl)
theorem dX6_digest_75 : decode cX6_digest 75 = .ok (.goto (-18), 3) := dk_167 255 238 (dk_at dksX6_digest_3 3 rfl rfl)
theorem dX6_digest_78 : decode cX6_digest 78 = .ok (.iconst 0, 1) := dk_3 (dk_at dksX6_digest_3 6 rfl rfl)
theorem dX6_digest_79 : decode cX6_digest 79 = .ok (.istore_n 3, 1) := dk_62 (dk_at dksX6_digest_3 7 rfl rfl)
theorem dX6_digest_80 : decode cX6_digest 80 = .ok (.iload_n 3, 1) := dk_29 (dk_at dksX6_digest_3 8 rfl rfl)
theorem dX6_digest_81 : decode cX6_digest 81 = .ok (.aload_n 0, 1) := dk_42 (dk_at dksX6_digest_3 9 rfl rfl)
theorem dX6_digest_82 : decode cX6_digest 82 = .ok (.getfield 122, 3) := dk_180 0 122 (dk_at dksX6_digest_3 10 rfl rfl)
theorem dX6_digest_85 : decode cX6_digest 85 = .ok (.if_icmp .ge 43, 3) := dk_162 0 43 (dk_at dksX6_digest_3 13 rfl rfl)
theorem dX6_digest_88 : decode cX6_digest 88 = .ok (.iconst 0, 1) := dk_3 (dk_at dksX6_digest_3 16 rfl rfl)
theorem dX6_digest_89 : decode cX6_digest 89 = .ok (.istore 4, 2) := dk_54 4 (dk_at dksX6_digest_3 17 rfl rfl)
theorem dX6_digest_91 : decode cX6_digest 91 = .ok (.iload 4, 2) := dk_21 4 (dk_at dksX6_digest_3 19 rfl rfl)
theorem dX6_digest_93 : decode cX6_digest 93 = .ok (.iconst 3, 1) := dk_6 (dk_at dksX6_digest_3 21 rfl rfl)
theorem dX6_digest_94 : decode cX6_digest 94 = .ok (.if_icmp .ge 28, 3) := dk_162 0 28 (dk_at dksX6_digest_4 0 rfl rfl)
theorem dX6_digest_97 : decode cX6_digest 97 = .ok (.ldc2_w 299, 3) := dk_20 1 43 (dk_at dksX6_digest_4 3 rfl rfl)
theorem dX6_digest_100 : decode cX6_digest 100 = .ok (.lload_n 1, 1) := dk_31 (dk_at dksX6_digest_4 6 rfl rfl)
theorem dX6_digest_101 : decode cX6_digest 101 = .ok (.lmul, 1) := dk_105 (dk_at dksX6_digest_4 7 rfl rfl)
theorem dX6_digest_102 : decode cX6_digest 102 = .ok (.aload_n 0, 1) := dk_42 (dk_at dksX6_digest_4 8 rfl rfl)
theorem dX6_digest_103 : decode cX6_digest 103 = .ok (.getfield 34, 3) := dk_180 0 34 (dk_at dksX6_digest_4 9 rfl rfl)
theorem dX6_digest_106 : decode cX6_digest 106 = .ok (.iconst 3, 1) := dk_6 (dk_at dksX6_digest_4 12 rfl rfl)
theorem dX6_digest_107 : decode cX6_digest 107 = .ok (.iload_n 3, 1) := dk_29 (dk_at dksX6_digest_4 13 rfl rfl)
theorem dX6_digest_108 : decode cX6_digest 108 = .ok (.imul, 1) := dk_104 (dk_at dksX6_digest_4 14 rfl rfl)
theorem dX6_digest_109 : decode cX6_digest 109 = .ok (.iload 4, 2) := dk_21 4 (dk_at dksX6_digest_4 15 rfl rfl)
theorem dX6_digest_111 : decode cX6_digest 111 = .ok (.iadd, 1) := dk_96 (dk_at dksX6_digest_4 17 rfl rfl)
theorem dX6_digest_112 : decode cX6_digest 112 = .ok (.iaload, 1) := dk_46 (dk_at dksX6_digest_4 18 rfl rfl)
theorem dX6_digest_113 : decode cX6_digest 113 = .ok (.i2l, 1) := dk_133 (dk_at dksX6_digest_4 19 rfl rfl)
theorem dX6_digest_114 : decode cX6_digest 114 = .ok (.ladd, 1) := dk_97 (dk_at dksX6_digest_4 20 rfl rfl)
theorem dX6_digest_115 : decode cX6_digest 115 = .ok (.lstore_n 1, 1) := dk_64 (dk_at dksX6_digest_4 21 rfl rfl)
theorem dX6_digest_116 : decode cX6_digest 116 = .ok (.iinc 4 1, 3) := dk_132 4 1 (dk_at dksX6_digest_5 0 rfl rfl)
theorem dX6_digest_119 : decode cX6_digest 119 = .ok (.goto (-28), 3) := dk_167 255 228 (dk_at dksX6_digest_5 3 rfl rfl)
theorem dX6_digest_122 : decode cX6_digest 122 = .ok (.iinc 3 1, 3) := dk_132 3 1 (dk_at dksX6_digest_5 6 rfl rfl)
theorem dX6_digest_125 : decode cX6_digest 125 = .ok (.goto (-45), 3) := dk_167 255 211 (dk_at dksX6_digest_5 9 rfl rfl)
theorem dX6_digest_128 : decode cX6_digest 128 = .ok (.iconst 0, 1) := dk_3 (dk_at dksX6_digest_5 12 rfl rfl)
theorem dX6_digest_129 : decode cX6_digest 129 = .ok (.istore_n 3, 1) := dk_62 (dk_at dksX6_digest_5 13 rfl rfl)
theorem dX6_digest_130 : decode cX6_digest 130 = .ok (.iload_n 3, 1) := dk_29 (dk_at dksX6_digest_5 14 rfl rfl)
theorem dX6_digest_131 : decode cX6_digest 131 = .ok (.aload_n 0, 1) := dk_42 (dk_at dksX6_digest_5 15 rfl rfl)
theorem dX6_digest_132 : decode cX6_digest 132 = .ok (.getfield 157, 3) := dk_180 0 157 (dk_at dksX6_digest_5 16 rfl rfl)
theorem dX6_digest_135 : decode cX6_digest 135 = .ok (.if_icmp .ge 39, 3) := dk_162 0 39 (dk_at dksX6_digest_5 19 rfl rfl)
theorem dX6_digest_138 : decode cX6_digest 138 = .ok (.iconst 0, 1) := dk_3 (dk_at dksX6_digest_5 22 rfl rfl)
theorem dX6_digest_139 : decode cX6_digest 139 = .ok (.istore 4, 2) := dk_54 4 (dk_at dksX6_digest_6 0 rfl rfl)
theorem dX6_digest_141 : decode cX6_digest 141 = .ok (.iload 4, 2) := dk_21 4 (dk_at dksX6_digest_6 2 rfl rfl)
theorem dX6_digest_143 : decode cX6_digest 143 = .ok (.iconst 3, 1) := dk_6 (dk_at dksX6_digest_6 4 rfl rfl)
theorem dX6_digest_144 : decode cX6_digest 144 = .ok (.if_icmp .ge 24, 3) := dk_162 0 24 (dk_at dksX6_digest_6 5 rfl rfl)
theorem dX6_digest_147 : decode cX6_digest 147 = .ok (.ldc2_w 299, 3) := dk_20 1 43 (dk_at dksX6_digest_6 8 rfl rfl)
theorem dX6_digest_150 : decode cX6_digest 150 = .ok (.lload_n 1, 1) := dk_31 (dk_at dksX6_digest_6 11 rfl rfl)
theorem dX6_digest_151 : decode cX6_digest 151 = .ok (.lmul, 1) := dk_105 (dk_at dksX6_digest_6 12 rfl rfl)
theorem dX6_digest_152 : decode cX6_digest 152 = .ok (.aload_n 0, 1) := dk_42 (dk_at dksX6_digest_6 13 rfl rfl)
theorem dX6_digest_153 : decode cX6_digest 153 = .ok (.iload_n 3, 1) := dk_29 (dk_at dksX6_digest_6 14 rfl rfl)
theorem dX6_digest_154 : decode cX6_digest 154 = .ok (.iload 4, 2) := dk_21 4 (dk_at dksX6_digest_6 15 rfl rfl)
theorem dX6_digest_156 : decode cX6_digest 156 = .ok (.invokevirtual 204, 3) := dk_182 0 204 (dk_at dksX6_digest_6 17 rfl rfl)
theorem dX6_digest_159 : decode cX6_digest 159 = .ok (.i2l, 1) := dk_133 (dk_at dksX6_digest_6 20 rfl rfl)
theorem dX6_digest_160 : decode cX6_digest 160 = .ok (.ladd, 1) := dk_97 (dk_at dksX6_digest_6 21 rfl rfl)
theorem dX6_digest_161 : decode cX6_digest 161 = .ok (.lstore_n 1, 1) := dk_64 (dk_at dksX6_digest_6 22 rfl rfl)
theorem dX6_digest_162 : decode cX6_digest 162 = .ok (.iinc 4 1, 3) := dk_132 4 1 (dk_at dksX6_digest_7 0 rfl rfl)
theorem dX6_digest_165 : decode cX6_digest 165 = .ok (.goto (-24), 3) := dk_167 255 232 (dk_at dksX6_digest_7 3 rfl rfl)
theorem dX6_digest_168 : decode cX6_digest 168 = .ok (.iinc 3 1, 3) := dk_132 3 1 (dk_at dksX6_digest_7 6 rfl rfl)
theorem dX6_digest_171 : decode cX6_digest 171 = .ok (.goto (-41), 3) := dk_167 255 215 (dk_at dksX6_digest_7 9 rfl rfl)
theorem dX6_digest_174 : decode cX6_digest 174 = .ok (.ldc2_w 299, 3) := dk_20 1 43 (dk_at dksX6_digest_7 12 rfl rfl)
theorem dX6_digest_177 : decode cX6_digest 177 = .ok (.lload_n 1, 1) := dk_31 (dk_at dksX6_digest_7 15 rfl rfl)
theorem dX6_digest_178 : decode cX6_digest 178 = .ok (.lmul, 1) := dk_105 (dk_at dksX6_digest_7 16 rfl rfl)
theorem dX6_digest_179 : decode cX6_digest 179 = .ok (.aload_n 0, 1) := dk_42 (dk_at dksX6_digest_7 17 rfl rfl)
theorem dX6_digest_180 : decode cX6_digest 180 = .ok (.iconst 0, 1) := dk_3 (dk_at dksX6_digest_7 18 rfl rfl)
theorem dX6_digest_181 : decode cX6_digest 181 = .ok (.aload_n 0, 1) := dk_42 (dk_at dksX6_digest_7 19 rfl rfl)
theorem dX6_digest_182 : decode cX6_digest 182 = .ok (.getfield 73, 3) := dk_180 0 73 (dk_at dksX6_digest_7 20 rfl rfl)
theorem dX6_digest_185 : decode cX6_digest 185 = .ok (.invokevirtual 207, 3) := dk_182 0 207 (dk_at dksX6_digest_8 0 rfl rfl)
theorem dX6_digest_188 : decode cX6_digest 188 = .ok (.i2l, 1) := dk_133 (dk_at dksX6_digest_8 3 rfl rfl)
theorem dX6_digest_189 : decode cX6_digest 189 = .ok (.ladd, 1) := dk_97 (dk_at dksX6_digest_8 4 rfl rfl)
theorem dX6_digest_190 : decode cX6_digest 190 = .ok (.lstore_n 1, 1) := dk_64 (dk_at dksX6_digest_8 5 rfl rfl)
theorem dX6_digest_191 : decode cX6_digest 191 = .ok (.ldc2_w 299, 3) := dk_20 1 43 (dk_at dksX6_digest_8 6 rfl rfl)
theorem dX6_digest_194 : decode cX6_digest 194 = .ok (.lload_n 1, 1) := dk_31 (dk_at dksX6_digest_8 9 rfl rfl)
theorem dX6_digest_195 : decode cX6_digest 195 = .ok (.lmul, 1) := dk_105 (dk_at dksX6_digest_8 10 rfl rfl)
theorem dX6_digest_196 : decode cX6_digest 196 = .ok (.aload_n 0, 1) := dk_42 (dk_at dksX6_digest_8 11 rfl rfl)
theorem dX6_digest_197 : decode cX6_digest 197 = .ok (.bipush 9, 2) := dk_16 9 (dk_at dksX6_digest_8 12 rfl rfl)
theorem dX6_digest_199 : decode cX6_digest 199 = .ok (.aload_n 0, 1) := dk_42 (dk_at dksX6_digest_8 14 rfl rfl)
theorem dX6_digest_200 : decode cX6_digest 200 = .ok (.getfield 73, 3) := dk_180 0 73 (dk_at dksX6_digest_8 15 rfl rfl)
theorem dX6_digest_203 : decode cX6_digest 203 = .ok (.invokevirtual 207, 3) := dk_182 0 207 (dk_at dksX6_digest_8 18 rfl rfl)
theorem dX6_digest_206 : decode cX6_digest 206 = .ok (.i2l, 1) := dk_133 (dk_at dksX6_digest_8 21 rfl rfl)
theorem dX6_digest_207 : decode cX6_digest 207 = .ok (.ladd, 1) := dk_97 (dk_at dksX6_digest_8 22 rfl rfl)
theorem dX6_digest_208 : decode cX6_digest 208 = .ok (.lstore_n 1, 1) := dk_64 (dk_at dksX6_digest_8 23 rfl rfl)
theorem dX6_digest_209 : decode cX6_digest 209 = .ok (.ldc2_w 299, 3) := dk_20 1 43 (dk_at dksX6_digest_9 0 rfl rfl)
theorem dX6_digest_212 : decode cX6_digest 212 = .ok (.lload_n 1, 1) := dk_31 (dk_at dksX6_digest_9 3 rfl rfl)
theorem dX6_digest_213 : decode cX6_digest 213 = .ok (.lmul, 1) := dk_105 (dk_at dksX6_digest_9 4 rfl rfl)
theorem dX6_digest_214 : decode cX6_digest 214 = .ok (.aload_n 0, 1) := dk_42 (dk_at dksX6_digest_9 5 rfl rfl)
theorem dX6_digest_215 : decode cX6_digest 215 = .ok (.bipush 39, 2) := dk_16 39 (dk_at dksX6_digest_9 6 rfl rfl)
theorem dX6_digest_217 : decode cX6_digest 217 = .ok (.aload_n 0, 1) := dk_42 (dk_at dksX6_digest_9 8 rfl rfl)
theorem dX6_digest_218 : decode cX6_digest 218 = .ok (.getfield 73, 3) := dk_180 0 73 (dk_at dksX6_digest_9 9 rfl rfl)
theorem dX6_digest_221 : decode cX6_digest 221 = .ok (.invokevirtual 207, 3) := dk_182 0 207 (dk_at dksX6_digest_9 12 rfl rfl)
theorem dX6_digest_224 : decode cX6_digest 224 = .ok (.i2l, 1) := dk_133 (dk_at dksX6_digest_9 15 rfl rfl)
theorem dX6_digest_225 : decode cX6_digest 225 = .ok (.ladd, 1) := dk_97 (dk_at dksX6_digest_9 16 rfl rfl)
theorem dX6_digest_226 : decode cX6_digest 226 = .ok (.lstore_n 1, 1) := dk_64 (dk_at dksX6_digest_9 17 rfl rfl)
theorem dX6_digest_227 : decode cX6_digest 227 = .ok (.ldc2_w 299, 3) := dk_20 1 43 (dk_at dksX6_digest_9 18 rfl rfl)
theorem dX6_digest_230 : decode cX6_digest 230 = .ok (.lload_n 1, 1) := dk_31 (dk_at dksX6_digest_9 21 rfl rfl)
theorem dX6_digest_231 : decode cX6_digest 231 = .ok (.lmul, 1) := dk_105 (dk_at dksX6_digest_9 22 rfl rfl)
theorem dX6_digest_232 : decode cX6_digest 232 = .ok (.aload_n 0, 1) := dk_42 (dk_at dksX6_digest_9 23 rfl rfl)
theorem dX6_digest_233 : decode cX6_digest 233 = .ok (.iconst 3, 1) := dk_6 (dk_at dksX6_digest_10 0 rfl rfl)
theorem dX6_digest_234 : decode cX6_digest 234 = .ok (.invokevirtual 210, 3) := dk_182 0 210 (dk_at dksX6_digest_10 1 rfl rfl)
theorem dX6_digest_237 : decode cX6_digest 237 = .ok (.i2l, 1) := dk_133 (dk_at dksX6_digest_10 4 rfl rfl)
theorem dX6_digest_238 : decode cX6_digest 238 = .ok (.ladd, 1) := dk_97 (dk_at dksX6_digest_10 5 rfl rfl)
theorem dX6_digest_239 : decode cX6_digest 239 = .ok (.lstore_n 1, 1) := dk_64 (dk_at dksX6_digest_10 6 rfl rfl)
theorem dX6_digest_240 : decode cX6_digest 240 = .ok (.ldc2_w 299, 3) := dk_20 1 43 (dk_at dksX6_digest_10 7 rfl rfl)
theorem dX6_digest_243 : decode cX6_digest 243 = .ok (.lload_n 1, 1) := dk_31 (dk_at dksX6_digest_10 10 rfl rfl)
theorem dX6_digest_244 : decode cX6_digest 244 = .ok (.lmul, 1) := dk_105 (dk_at dksX6_digest_10 11 rfl rfl)
theorem dX6_digest_245 : decode cX6_digest 245 = .ok (.aload_n 0, 1) := dk_42 (dk_at dksX6_digest_10 12 rfl rfl)
theorem dX6_digest_246 : decode cX6_digest 246 = .ok (.bipush 9, 2) := dk_16 9 (dk_at dksX6_digest_10 13 rfl rfl)
theorem dX6_digest_248 : decode cX6_digest 248 = .ok (.invokevirtual 271, 3) := dk_182 1 15 (dk_at dksX6_digest_10 15 rfl rfl)
theorem dX6_digest_251 : decode cX6_digest 251 = .ok (.i2l, 1) := dk_133 (dk_at dksX6_digest_10 18 rfl rfl)
theorem dX6_digest_252 : decode cX6_digest 252 = .ok (.ladd, 1) := dk_97 (dk_at dksX6_digest_10 19 rfl rfl)
theorem dX6_digest_253 : decode cX6_digest 253 = .ok (.lstore_n 1, 1) := dk_64 (dk_at dksX6_digest_10 20 rfl rfl)
theorem dX6_digest_254 : decode cX6_digest 254 = .ok (.ldc2_w 299, 3) := dk_20 1 43 (dk_at dksX6_digest_10 21 rfl rfl)
theorem dX6_digest_257 : decode cX6_digest 257 = .ok (.lload_n 1, 1) := dk_31 (dk_at dksX6_digest_11 0 rfl rfl)
theorem dX6_digest_258 : decode cX6_digest 258 = .ok (.lmul, 1) := dk_105 (dk_at dksX6_digest_11 1 rfl rfl)
theorem dX6_digest_259 : decode cX6_digest 259 = .ok (.aload_n 0, 1) := dk_42 (dk_at dksX6_digest_11 2 rfl rfl)
theorem dX6_digest_260 : decode cX6_digest 260 = .ok (.iconst 1, 1) := dk_4 (dk_at dksX6_digest_11 3 rfl rfl)
theorem dX6_digest_261 : decode cX6_digest 261 = .ok (.invokevirtual 276, 3) := dk_182 1 20 (dk_at dksX6_digest_11 4 rfl rfl)
theorem dX6_digest_264 : decode cX6_digest 264 = .ok (.i2l, 1) := dk_133 (dk_at dksX6_digest_11 7 rfl rfl)
theorem dX6_digest_265 : decode cX6_digest 265 = .ok (.ladd, 1) := dk_97 (dk_at dksX6_digest_11 8 rfl rfl)
theorem dX6_digest_266 : decode cX6_digest 266 = .ok (.lreturn, 1) := dk_173 (dk_at dksX6_digest_11 9 rfl rfl)
def dkwX6_tellsTune_14 : List UInt8 := [173]
abbrev dktX6_tellsTune_14 : List UInt8 := dkwX6_tellsTune_14 ++ []
def dkwX6_tellsTune_13 : List UInt8 := [182, 1, 45, 97, 55, 4, 20, 1, 43, 22, 4, 105, 42, 8, 29, 3, 7, 16, 9, 4, 182, 1, 45, 97]
abbrev dktX6_tellsTune_13 : List UInt8 := dkwX6_tellsTune_13 ++ dktX6_tellsTune_14
def dkwX6_tellsTune_12 : List UInt8 := [29, 182, 1, 40, 133, 97, 55, 4, 20, 1, 43, 22, 4, 105, 42, 8, 29, 3, 7, 16, 9, 3]
abbrev dktX6_tellsTune_12 : List UInt8 := dkwX6_tellsTune_12 ++ dktX6_tellsTune_13
def dkwX6_tellsTune_11 : List UInt8 := [22, 4, 105, 21, 6, 4, 184, 1, 12, 133, 97, 55, 4, 20, 1, 43, 22, 4, 105, 42, 16, 7, 16, 9]
abbrev dktX6_tellsTune_11 : List UInt8 := dkwX6_tellsTune_11 ++ dktX6_tellsTune_12
def dkwX6_tellsTune_10 : List UInt8 := [182, 1, 9, 54, 6, 20, 1, 43, 22, 4, 105, 21, 6, 3, 184, 1, 12, 133, 97, 55, 4, 20, 1, 43]
abbrev dktX6_tellsTune_10 : List UInt8 := dkwX6_tellsTune_10 ++ dktX6_tellsTune_11
def dkwX6_tellsTune_9 : List UInt8 := [182, 0, 249, 133, 97, 55, 4, 20, 1, 43, 22, 4, 105, 42, 29, 182, 0, 252, 133, 97, 55, 4, 42, 29]
abbrev dktX6_tellsTune_9 : List UInt8 := dkwX6_tellsTune_9 ++ dktX6_tellsTune_10
def dkwX6_tellsTune_8 : List UInt8 := [20, 1, 43, 22, 4, 105, 42, 3, 29, 182, 0, 246, 133, 97, 55, 4, 20, 1, 43, 22, 4, 105, 42, 29]
abbrev dktX6_tellsTune_8 : List UInt8 := dkwX6_tellsTune_8 ++ dktX6_tellsTune_9
def dkwX6_tellsTune_7 : List UInt8 := [182, 0, 240, 133, 97, 55, 4, 20, 1, 43, 22, 4, 105, 42, 3, 29, 4, 182, 0, 240, 133, 97, 55, 4]
abbrev dktX6_tellsTune_7 : List UInt8 := dkwX6_tellsTune_7 ++ dktX6_tellsTune_8
def dkwX6_tellsTune_6 : List UInt8 := [105, 42, 29, 6, 3, 182, 0, 231, 133, 97, 55, 4, 20, 1, 43, 22, 4, 105, 42, 3, 29, 3]
abbrev dktX6_tellsTune_6 : List UInt8 := dkwX6_tellsTune_6 ++ dktX6_tellsTune_7
def dkwX6_tellsTune_5 : List UInt8 := [55, 4, 20, 1, 43, 22, 4, 105, 42, 29, 6, 2, 182, 0, 231, 133, 97, 55, 4, 20, 1, 43, 22, 4]
abbrev dktX6_tellsTune_5 : List UInt8 := dkwX6_tellsTune_5 ++ dktX6_tellsTune_6
def dkwX6_tellsTune_4 : List UInt8 := [182, 0, 228, 133, 97, 55, 4, 20, 1, 43, 22, 4, 105, 42, 29, 16, 9, 3, 182, 0, 228, 133, 97]
abbrev dktX6_tellsTune_4 : List UInt8 := dkwX6_tellsTune_4 ++ dktX6_tellsTune_5
def dkwX6_tellsTune_3 : List UInt8 := [105, 42, 8, 29, 182, 0, 201, 133, 97, 55, 4, 20, 1, 43, 22, 4, 105, 42, 29, 16, 9, 2]
abbrev dktX6_tellsTune_3 : List UInt8 := dkwX6_tellsTune_3 ++ dktX6_tellsTune_4
def dkwX6_tellsTune_2 : List UInt8 := [55, 4, 20, 1, 43, 22, 4, 105, 42, 8, 29, 5, 182, 0, 198, 133, 97, 55, 4, 20, 1, 43, 22, 4]
abbrev dktX6_tellsTune_2 : List UInt8 := dkwX6_tellsTune_2 ++ dktX6_tellsTune_3
def dkwX6_tellsTune_1 : List UInt8 := [2, 182, 0, 198, 133, 97, 55, 4, 20, 1, 43, 22, 4, 105, 42, 16, 39, 29, 2, 182, 0, 198, 133, 97]
abbrev dktX6_tellsTune_1 : List UInt8 := dkwX6_tellsTune_1 ++ dktX6_tellsTune_2
def dkwX6_tellsTune_0 : List UInt8 := [20, 1, 43, 31, 105, 42, 180, 0, 31, 29, 46, 133, 97, 55, 4, 20, 1, 43, 22, 4, 105, 42, 8, 29]
abbrev dktX6_tellsTune_0 : List UInt8 := dkwX6_tellsTune_0 ++ dktX6_tellsTune_1
theorem dksX6_tellsTune_0 : cX6_tellsTune.data.toList.drop 0 = dktX6_tellsTune_0 := by decide +kernel
theorem dksX6_tellsTune_1 : cX6_tellsTune.data.toList.drop 24 = dktX6_tellsTune_1 := dk_seg dksX6_tellsTune_0 24 rfl rfl
theorem dksX6_tellsTune_2 : cX6_tellsTune.data.toList.drop 48 = dktX6_tellsTune_2 := dk_seg dksX6_tellsTune_1 24 rfl rfl
theorem dksX6_tellsTune_3 : cX6_tellsTune.data.toList.drop 72 = dktX6_tellsTune_3 := dk_seg dksX6_tellsTune_2 24 rfl rfl
theorem dksX6_tellsTune_4 : cX6_tellsTune.data.toList.drop 94 = dktX6_tellsTune_4 := dk_seg dksX6_tellsTune_3 22 rfl rfl
theorem dksX6_tellsTune_5 : cX6_tellsTune.data.toList.drop 117 = dktX6_tellsTune_5 := dk_seg dksX6_tellsTune_4 23 rfl rfl
theorem dksX6_tellsTune_6 : cX6_tellsTune.data.toList.drop 141 = dktX6_tellsTune_6 := dk_seg dksX6_tellsTune_5 24 rfl rfl
theorem dksX6_tellsTune_7 : cX6_tellsTune.data.toList.drop 163 = dktX6_tellsTune_7 := dk_seg dksX6_tellsTune_6 22 rfl rfl
theorem dksX6_tellsTune_8 : cX6_tellsTune.data.toList.drop 187 = dktX6_tellsTune_8 := dk_seg dksX6_tellsTune_7 24 rfl rfl
theorem dksX6_tellsTune_9 : cX6_tellsTune.data.toList.drop 211 = dktX6_tellsTune_9 := dk_seg dksX6_tellsTune_8 24 rfl rfl
theorem dksX6_tellsTune_10 : cX6_tellsTune.data.toList.drop 235 = dktX6_tellsTune_10 := dk_seg dksX6_tellsTune_9 24 rfl rfl
theorem dksX6_tellsTune_11 : cX6_tellsTune.data.toList.drop 259 = dktX6_tellsTune_11 := dk_seg dksX6_tellsTune_10 24 rfl rfl
theorem dksX6_tellsTune_12 : cX6_tellsTune.data.toList.drop 283 = dktX6_tellsTune_12 := dk_seg dksX6_tellsTune_11 24 rfl rfl
theorem dksX6_tellsTune_13 : cX6_tellsTune.data.toList.drop 305 = dktX6_tellsTune_13 := dk_seg dksX6_tellsTune_12 22 rfl rfl
theorem dksX6_tellsTune_14 : cX6_tellsTune.data.toList.drop 329 = dktX6_tellsTune_14 := dk_seg dksX6_tellsTune_13 24 rfl rfl
theorem dX6_tellsTune_0 : decode cX6_tellsTune 0 = .ok (.ldc2_w 299, 3) := dk_20 1 43 (dk_at dksX6_tellsTune_0 0 rfl rfl)
theorem dX6_tellsTune_3 : decode cX6_tellsTune 3 = .ok (.lload_n 1, 1) := dk_31 (dk_at dksX6_tellsTune_0 3 rfl rfl)
theorem dX6_tellsTune_4 : decode cX6_tellsTune 4 = .ok (.lmul, 1) := dk_105 (dk_at dksX6_tellsTune_0 4 rfl rfl)
theorem dX6_tellsTune_5 : decode cX6_tellsTune 5 = .ok (.aload_n 0, 1) := dk_42 (dk_at dksX6_tellsTune_0 5 rfl rfl)
theorem dX6_tellsTune_6 : decode cX6_tellsTune 6 = .ok (.getfield 31, 3) := dk_180 0 31 (dk_at dksX6_tellsTune_0 6 rfl rfl)
theorem dX6_tellsTune_9 : decode cX6_tellsTune 9 = .ok (.iload_n 3, 1) := dk_29 (dk_at dksX6_tellsTune_0 9 rfl rfl)
theorem dX6_tellsTune_10 : decode cX6_tellsTune 10 = .ok (.iaload, 1) := dk_46 (dk_at dksX6_tellsTune_0 10 rfl rfl)
theorem dX6_tellsTune_11 : decode cX6_tellsTune 11 = .ok (.i2l, 1) := dk_133 (dk_at dksX6_tellsTune_0 11 rfl rfl)
theorem dX6_tellsTune_12 : decode cX6_tellsTune 12 = .ok (.ladd, 1) := dk_97 (dk_at dksX6_tellsTune_0 12 rfl rfl)
theorem dX6_tellsTune_13 : decode cX6_tellsTune 13 = .ok (.lstore 4, 2) := dk_55 4 (dk_at dksX6_tellsTune_0 13 rfl rfl)
theorem dX6_tellsTune_15 : decode cX6_tellsTune 15 = .ok (.ldc2_w 299, 3) := dk_20 1 43 (dk_at dksX6_tellsTune_0 15 rfl rfl)
theorem dX6_tellsTune_18 : decode cX6_tellsTune 18 = .ok (.lload 4, 2) := dk_22 4 (dk_at dksX6_tellsTune_0 18 rfl rfl)
theorem dX6_tellsTune_20 : decode cX6_tellsTune 20 = .ok (.lmul, 1) := dk_105 (dk_at dksX6_tellsTune_0 20 rfl rfl)
theorem dX6_tellsTune_21 : decode cX6_tellsTune 21 = .ok (.aload_n 0, 1) := dk_42 (dk_at dksX6_tellsTune_0 21 rfl rfl)
theorem dX6_tellsTune_22 : decode cX6_tellsTune 22 = .ok (.iconst 5, 1) := dk_8 (dk_at dksX6_tellsTune_0 22 rfl rfl)
theorem dX6_tellsTune_23 : decode cX6_tellsTune 23 = .ok (.iload_n 3, 1) := dk_29 (dk_at dksX6_tellsTune_0 23 rfl rfl)
theorem dX6_tellsTune_24 : decode cX6_tellsTune 24 = .ok (.iconst (-1), 1) := dk_2 (dk_at dksX6_tellsTune_1 0 rfl rfl)
theorem dX6_tellsTune_25 : decode cX6_tellsTune 25 = .ok (.invokevirtual 198, 3) := dk_182 0 198 (dk_at dksX6_tellsTune_1 1 rfl rfl)
theorem dX6_tellsTune_28 : decode cX6_tellsTune 28 = .ok (.i2l, 1) := dk_133 (dk_at dksX6_tellsTune_1 4 rfl rfl)
theorem dX6_tellsTune_29 : decode cX6_tellsTune 29 = .ok (.ladd, 1) := dk_97 (dk_at dksX6_tellsTune_1 5 rfl rfl)
theorem dX6_tellsTune_30 : decode cX6_tellsTune 30 = .ok (.lstore 4, 2) := dk_55 4 (dk_at dksX6_tellsTune_1 6 rfl rfl)
theorem dX6_tellsTune_32 : decode cX6_tellsTune 32 = .ok (.ldc2_w 299, 3) := dk_20 1 43 (dk_at dksX6_tellsTune_1 8 rfl rfl)
theorem dX6_tellsTune_35 : decode cX6_tellsTune 35 = .ok (.lload 4, 2) := dk_22 4 (dk_at dksX6_tellsTune_1 11 rfl rfl)
theorem dX6_tellsTune_37 : decode cX6_tellsTune 37 = .ok (.lmul, 1) := dk_105 (dk_at dksX6_tellsTune_1 13 rfl rfl)
theorem dX6_tellsTune_38 : decode cX6_tellsTune 38 = .ok (.aload_n 0, 1) := dk_42 (dk_at dksX6_tellsTune_1 14 rfl rfl)
theorem dX6_tellsTune_39 : decode cX6_tellsTune 39 = .ok (.bipush 39, 2) := dk_16 39 (dk_at dksX6_tellsTune_1 15 rfl rfl)
theorem dX6_tellsTune_41 : decode cX6_tellsTune 41 = .ok (.iload_n 3, 1) := dk_29 (dk_at dksX6_tellsTune_1 17 rfl rfl)
theorem dX6_tellsTune_42 : decode cX6_tellsTune 42 = .ok (.iconst (-1), 1) := dk_2 (dk_at dksX6_tellsTune_1 18 rfl rfl)
theorem dX6_tellsTune_43 : decode cX6_tellsTune 43 = .ok (.invokevirtual 198, 3) := dk_182 0 198 (dk_at dksX6_tellsTune_1 19 rfl rfl)
theorem dX6_tellsTune_46 : decode cX6_tellsTune 46 = .ok (.i2l, 1) := dk_133 (dk_at dksX6_tellsTune_1 22 rfl rfl)
theorem dX6_tellsTune_47 : decode cX6_tellsTune 47 = .ok (.ladd, 1) := dk_97 (dk_at dksX6_tellsTune_1 23 rfl rfl)
theorem dX6_tellsTune_48 : decode cX6_tellsTune 48 = .ok (.lstore 4, 2) := dk_55 4 (dk_at dksX6_tellsTune_2 0 rfl rfl)
theorem dX6_tellsTune_50 : decode cX6_tellsTune 50 = .ok (.ldc2_w 299, 3) := dk_20 1 43 (dk_at dksX6_tellsTune_2 2 rfl rfl)
theorem dX6_tellsTune_53 : decode cX6_tellsTune 53 = .ok (.lload 4, 2) := dk_22 4 (dk_at dksX6_tellsTune_2 5 rfl rfl)
theorem dX6_tellsTune_55 : decode cX6_tellsTune 55 = .ok (.lmul, 1) := dk_105 (dk_at dksX6_tellsTune_2 7 rfl rfl)
theorem dX6_tellsTune_56 : decode cX6_tellsTune 56 = .ok (.aload_n 0, 1) := dk_42 (dk_at dksX6_tellsTune_2 8 rfl rfl)
theorem dX6_tellsTune_57 : decode cX6_tellsTune 57 = .ok (.iconst 5, 1) := dk_8 (dk_at dksX6_tellsTune_2 9 rfl rfl)
theorem dX6_tellsTune_58 : decode cX6_tellsTune 58 = .ok (.iload_n 3, 1) := dk_29 (dk_at dksX6_tellsTune_2 10 rfl rfl)
theorem dX6_tellsTune_59 : decode cX6_tellsTune 59 = .ok (.iconst 2, 1) := dk_5 (dk_at dksX6_tellsTune_2 11 rfl rfl)
theorem dX6_tellsTune_60 : decode cX6_tellsTune 60 = .ok (.invokevirtual 198, 3) := dk_182 0 198 (dk_at dksX6_tellsTune_2 12 rfl rfl)
theorem dX6_tellsTune_63 : decode cX6_tellsTune 63 = .ok (.i2l, 1) := dk_133 (dk_at dksX6_tellsTune_2 15 rfl rfl)
theorem dX6_tellsTune_64 : decode cX6_tellsTune 64 = .ok (.ladd, 1) := dk_97 (dk_at dksX6_tellsTune_2 16 rfl rfl)
theorem dX6_tellsTune_65 : decode cX6_tellsTune 65 = .ok (.lstore 4, 2) := dk_55 4 (dk_at dksX6_tellsTune_2 17 rfl rfl)
theorem dX6_tellsTune_67 : decode cX6_tellsTune 67 = .ok (.ldc2_w 299, 3) := dk_20 1 43 (dk_at dksX6_tellsTune_2 19 rfl rfl)
theorem dX6_tellsTune_70 : decode cX6_tellsTune 70 = .ok (.lload 4, 2) := dk_22 4 (dk_at dksX6_tellsTune_2 22 rfl rfl)
theorem dX6_tellsTune_72 : decode cX6_tellsTune 72 = .ok (.lmul, 1) := dk_105 (dk_at dksX6_tellsTune_3 0 rfl rfl)
theorem dX6_tellsTune_73 : decode cX6_tellsTune 73 = .ok (.aload_n 0, 1) := dk_42 (dk_at dksX6_tellsTune_3 1 rfl rfl)
theorem dX6_tellsTune_74 : decode cX6_tellsTune 74 = .ok (.iconst 5, 1) := dk_8 (dk_at dksX6_tellsTune_3 2 rfl rfl)
theorem dX6_tellsTune_75 : decode cX6_tellsTune 75 = .ok (.iload_n 3, 1) := dk_29 (dk_at dksX6_tellsTune_3 3 rfl rfl)
theorem dX6_tellsTune_76 : decode cX6_tellsTune 76 = .ok (.invokevirtual 201, 3) := dk_182 0 201 (dk_at dksX6_tellsTune_3 4 rfl rfl)
theorem dX6_tellsTune_79 : decode cX6_tellsTune 79 = .ok (.i2l, 1) := dk_133 (dk_at dksX6_tellsTune_3 7 rfl rfl)
theorem dX6_tellsTune_80 : decode cX6_tellsTune 80 = .ok (.ladd, 1) := dk_97 (dk_at dksX6_tellsTune_3 8 rfl rfl)
theorem dX6_tellsTune_81 : decode cX6_tellsTune 81 = .ok (.lstore 4, 2) := dk_55 4 (dk_at dksX6_tellsTune_3 9 rfl rfl)
theorem dX6_tellsTune_83 : decode cX6_tellsTune 83 = .ok (.ldc2_w 299, 3) := dk_20 1 43 (dk_at dksX6_tellsTune_3 11 rfl rfl)
theorem dX6_tellsTune_86 : decode cX6_tellsTune 86 = .ok (.lload 4, 2) := dk_22 4 (dk_at dksX6_tellsTune_3 14 rfl rfl)
theorem dX6_tellsTune_88 : decode cX6_tellsTune 88 = .ok (.lmul, 1) := dk_105 (dk_at dksX6_tellsTune_3 16 rfl rfl)
theorem dX6_tellsTune_89 : decode cX6_tellsTune 89 = .ok (.aload_n 0, 1) := dk_42 (dk_at dksX6_tellsTune_3 17 rfl rfl)
theorem dX6_tellsTune_90 : decode cX6_tellsTune 90 = .ok (.iload_n 3, 1) := dk_29 (dk_at dksX6_tellsTune_3 18 rfl rfl)
theorem dX6_tellsTune_91 : decode cX6_tellsTune 91 = .ok (.bipush 9, 2) := dk_16 9 (dk_at dksX6_tellsTune_3 19 rfl rfl)
theorem dX6_tellsTune_93 : decode cX6_tellsTune 93 = .ok (.iconst (-1), 1) := dk_2 (dk_at dksX6_tellsTune_3 21 rfl rfl)
theorem dX6_tellsTune_94 : decode cX6_tellsTune 94 = .ok (.invokevirtual 228, 3) := dk_182 0 228 (dk_at dksX6_tellsTune_4 0 rfl rfl)
theorem dX6_tellsTune_97 : decode cX6_tellsTune 97 = .ok (.i2l, 1) := dk_133 (dk_at dksX6_tellsTune_4 3 rfl rfl)
theorem dX6_tellsTune_98 : decode cX6_tellsTune 98 = .ok (.ladd, 1) := dk_97 (dk_at dksX6_tellsTune_4 4 rfl rfl)
theorem dX6_tellsTune_99 : decode cX6_tellsTune 99 = .ok (.lstore 4, 2) := dk_55 4 (dk_at dksX6_tellsTune_4 5 rfl rfl)
theorem dX6_tellsTune_101 : decode cX6_tellsTune 101 = .ok (.ldc2_w 299, 3) := dk_20 1 43 (dk_at dksX6_tellsTune_4 7 rfl rfl)
theorem dX6_tellsTune_104 : decode cX6_tellsTune 104 = .ok (.lload 4, 2) := dk_22 4 (dk_at dksX6_tellsTune_4 10 rfl rfl)
theorem dX6_tellsTune_106 : decode cX6_tellsTune 106 = .ok (.lmul, 1) := dk_105 (dk_at dksX6_tellsTune_4 12 rfl rfl)
theorem dX6_tellsTune_107 : decode cX6_tellsTune 107 = .ok (.aload_n 0, 1) := dk_42 (dk_at dksX6_tellsTune_4 13 rfl rfl)
theorem dX6_tellsTune_108 : decode cX6_tellsTune 108 = .ok (.iload_n 3, 1) := dk_29 (dk_at dksX6_tellsTune_4 14 rfl rfl)
theorem dX6_tellsTune_109 : decode cX6_tellsTune 109 = .ok (.bipush 9, 2) := dk_16 9 (dk_at dksX6_tellsTune_4 15 rfl rfl)
theorem dX6_tellsTune_111 : decode cX6_tellsTune 111 = .ok (.iconst 0, 1) := dk_3 (dk_at dksX6_tellsTune_4 17 rfl rfl)
theorem dX6_tellsTune_112 : decode cX6_tellsTune 112 = .ok (.invokevirtual 228, 3) := dk_182 0 228 (dk_at dksX6_tellsTune_4 18 rfl rfl)
theorem dX6_tellsTune_115 : decode cX6_tellsTune 115 = .ok (.i2l, 1) := dk_133 (dk_at dksX6_tellsTune_4 21 rfl rfl)
theorem dX6_tellsTune_116 : decode cX6_tellsTune 116 = .ok (.ladd, 1) := dk_97 (dk_at dksX6_tellsTune_4 22 rfl rfl)
theorem dX6_tellsTune_117 : decode cX6_tellsTune 117 = .ok (.lstore 4, 2) := dk_55 4 (dk_at dksX6_tellsTune_5 0 rfl rfl)
theorem dX6_tellsTune_119 : decode cX6_tellsTune 119 = .ok (.ldc2_w 299, 3) := dk_20 1 43 (dk_at dksX6_tellsTune_5 2 rfl rfl)
theorem dX6_tellsTune_122 : decode cX6_tellsTune 122 = .ok (.lload 4, 2) := dk_22 4 (dk_at dksX6_tellsTune_5 5 rfl rfl)
theorem dX6_tellsTune_124 : decode cX6_tellsTune 124 = .ok (.lmul, 1) := dk_105 (dk_at dksX6_tellsTune_5 7 rfl rfl)
theorem dX6_tellsTune_125 : decode cX6_tellsTune 125 = .ok (.aload_n 0, 1) := dk_42 (dk_at dksX6_tellsTune_5 8 rfl rfl)
theorem dX6_tellsTune_126 : decode cX6_tellsTune 126 = .ok (.iload_n 3, 1) := dk_29 (dk_at dksX6_tellsTune_5 9 rfl rfl)
theorem dX6_tellsTune_127 : decode cX6_tellsTune 127 = .ok (.iconst 3, 1) := dk_6 (dk_at dksX6_tellsTune_5 10 rfl rfl)
theorem dX6_tellsTune_128 : decode cX6_tellsTune 128 = .ok (.iconst (-1), 1) := dk_2 (dk_at dksX6_tellsTune_5 11 rfl rfl)
theorem dX6_tellsTune_129 : decode cX6_tellsTune 129 = .ok (.invokevirtual 231, 3) := dk_182 0 231 (dk_at dksX6_tellsTune_5 12 rfl rfl)
theorem dX6_tellsTune_132 : decode cX6_tellsTune 132 = .ok (.i2l, 1) := dk_133 (dk_at dksX6_tellsTune_5 15 rfl rfl)
theorem dX6_tellsTune_133 : decode cX6_tellsTune 133 = .ok (.ladd, 1) := dk_97 (dk_at dksX6_tellsTune_5 16 rfl rfl)
theorem dX6_tellsTune_134 : decode cX6_tellsTune 134 = .ok (.lstore 4, 2) := dk_55 4 (dk_at dksX6_tellsTune_5 17 rfl rfl)
theorem dX6_tellsTune_136 : decode cX6_tellsTune 136 = .ok (.ldc2_w 299, 3) := dk_20 1 43 (dk_at dksX6_tellsTune_5 19 rfl rfl)
theorem dX6_tellsTune_139 : decode cX6_tellsTune 139 = .ok (.lload 4, 2) := dk_22 4 (dk_at dksX6_tellsTune_5 22 rfl rfl)
theorem dX6_tellsTune_141 : decode cX6_tellsTune 141 = .ok (.lmul, 1) := dk_105 (dk_at dksX6_tellsTune_6 0 rfl rfl)
theorem dX6_tellsTune_142 : decode cX6_tellsTune 142 = .ok (.aload_n 0, 1) := dk_42 (dk_at dksX6_tellsTune_6 1 rfl rfl)
theorem dX6_tellsTune_143 : decode cX6_tellsTune 143 = .ok (.iload_n 3, 1) := dk_29 (dk_at dksX6_tellsTune_6 2 rfl rfl)
theorem dX6_tellsTune_144 : decode cX6_tellsTune 144 = .ok (.iconst 3, 1) := dk_6 (dk_at dksX6_tellsTune_6 3 rfl rfl)
theorem dX6_tellsTune_145 : decode cX6_tellsTune 145 = .ok (.iconst 0, 1) := dk_3 (dk_at dksX6_tellsTune_6 4 rfl rfl)
theorem dX6_tellsTune_146 : decode cX6_tellsTune 146 = .ok (.invokevirtual 231, 3) := dk_182 0 231 (dk_at dksX6_tellsTune_6 5 rfl rfl)
theorem dX6_tellsTune_149 : decode cX6_tellsTune 149 = .ok (.i2l, 1) := dk_133 (dk_at dksX6_tellsTune_6 8 rfl rfl)
theorem dX6_tellsTune_150 : decode cX6_tellsTune 150 = .ok (.ladd, 1) := dk_97 (dk_at dksX6_tellsTune_6 9 rfl rfl)
theorem dX6_tellsTune_151 : decode cX6_tellsTune 151 = .ok (.lstore 4, 2) := dk_55 4 (dk_at dksX6_tellsTune_6 10 rfl rfl)
theorem dX6_tellsTune_153 : decode cX6_tellsTune 153 = .ok (.ldc2_w 299, 3) := dk_20 1 43 (dk_at dksX6_tellsTune_6 12 rfl rfl)
theorem dX6_tellsTune_156 : decode cX6_tellsTune 156 = .ok (.lload 4, 2) := dk_22 4 (dk_at dksX6_tellsTune_6 15 rfl rfl)
theorem dX6_tellsTune_158 : decode cX6_tellsTune 158 = .ok (.lmul, 1) := dk_105 (dk_at dksX6_tellsTune_6 17 rfl rfl)
theorem dX6_tellsTune_159 : decode cX6_tellsTune 159 = .ok (.aload_n 0, 1) := dk_42 (dk_at dksX6_tellsTune_6 18 rfl rfl)
theorem dX6_tellsTune_160 : decode cX6_tellsTune 160 = .ok (.iconst 0, 1) := dk_3 (dk_at dksX6_tellsTune_6 19 rfl rfl)
theorem dX6_tellsTune_161 : decode cX6_tellsTune 161 = .ok (.iload_n 3, 1) := dk_29 (dk_at dksX6_tellsTune_6 20 rfl rfl)
theorem dX6_tellsTune_162 : decode cX6_tellsTune 162 = .ok (.iconst 0, 1) := dk_3 (dk_at dksX6_tellsTune_6 21 rfl rfl)
theorem dX6_tellsTune_163 : decode cX6_tellsTune 163 = .ok (.invokevirtual 240, 3) := dk_182 0 240 (dk_at dksX6_tellsTune_7 0 rfl rfl)
theorem dX6_tellsTune_166 : decode cX6_tellsTune 166 = .ok (.i2l, 1) := dk_133 (dk_at dksX6_tellsTune_7 3 rfl rfl)
theorem dX6_tellsTune_167 : decode cX6_tellsTune 167 = .ok (.ladd, 1) := dk_97 (dk_at dksX6_tellsTune_7 4 rfl rfl)
theorem dX6_tellsTune_168 : decode cX6_tellsTune 168 = .ok (.lstore 4, 2) := dk_55 4 (dk_at dksX6_tellsTune_7 5 rfl rfl)
theorem dX6_tellsTune_170 : decode cX6_tellsTune 170 = .ok (.ldc2_w 299, 3) := dk_20 1 43 (dk_at dksX6_tellsTune_7 7 rfl rfl)
theorem dX6_tellsTune_173 : decode cX6_tellsTune 173 = .ok (.lload 4, 2) := dk_22 4 (dk_at dksX6_tellsTune_7 10 rfl rfl)
theorem dX6_tellsTune_175 : decode cX6_tellsTune 175 = .ok (.lmul, 1) := dk_105 (dk_at dksX6_tellsTune_7 12 rfl rfl)
theorem dX6_tellsTune_176 : decode cX6_tellsTune 176 = .ok (.aload_n 0, 1) := dk_42 (dk_at dksX6_tellsTune_7 13 rfl rfl)
theorem dX6_tellsTune_177 : decode cX6_tellsTune 177 = .ok (.iconst 0, 1) := dk_3 (dk_at dksX6_tellsTune_7 14 rfl rfl)
theorem dX6_tellsTune_178 : decode cX6_tellsTune 178 = .ok (.iload_n 3, 1) := dk_29 (dk_at dksX6_tellsTune_7 15 rfl rfl)
theorem dX6_tellsTune_179 : decode cX6_tellsTune 179 = .ok (.iconst 1, 1) := dk_4 (dk_at dksX6_tellsTune_7 16 rfl rfl)
theorem dX6_tellsTune_180 : decode cX6_tellsTune 180 = .ok (.invokevirtual 240, 3) := dk_182 0 240 (dk_at dksX6_tellsTune_7 17 rfl rfl)
theorem dX6_tellsTune_183 : decode cX6_tellsTune 183 = .ok (.i2l, 1) := dk_133 (dk_at dksX6_tellsTune_7 20 rfl rfl)
theorem dX6_tellsTune_184 : decode cX6_tellsTune 184 = .ok (.ladd, 1) := dk_97 (dk_at dksX6_tellsTune_7 21 rfl rfl)
theorem dX6_tellsTune_185 : decode cX6_tellsTune 185 = .ok (.lstore 4, 2) := dk_55 4 (dk_at dksX6_tellsTune_7 22 rfl rfl)
theorem dX6_tellsTune_187 : decode cX6_tellsTune 187 = .ok (.ldc2_w 299, 3) := dk_20 1 43 (dk_at dksX6_tellsTune_8 0 rfl rfl)
theorem dX6_tellsTune_190 : decode cX6_tellsTune 190 = .ok (.lload 4, 2) := dk_22 4 (dk_at dksX6_tellsTune_8 3 rfl rfl)
theorem dX6_tellsTune_192 : decode cX6_tellsTune 192 = .ok (.lmul, 1) := dk_105 (dk_at dksX6_tellsTune_8 5 rfl rfl)
theorem dX6_tellsTune_193 : decode cX6_tellsTune 193 = .ok (.aload_n 0, 1) := dk_42 (dk_at dksX6_tellsTune_8 6 rfl rfl)
theorem dX6_tellsTune_194 : decode cX6_tellsTune 194 = .ok (.iconst 0, 1) := dk_3 (dk_at dksX6_tellsTune_8 7 rfl rfl)
theorem dX6_tellsTune_195 : decode cX6_tellsTune 195 = .ok (.iload_n 3, 1) := dk_29 (dk_at dksX6_tellsTune_8 8 rfl rfl)
theorem dX6_tellsTune_196 : decode cX6_tellsTune 196 = .ok (.invokevirtual 246, 3) := dk_182 0 246 (dk_at dksX6_tellsTune_8 9 rfl rfl)
theorem dX6_tellsTune_199 : decode cX6_tellsTune 199 = .ok (.i2l, 1) := dk_133 (dk_at dksX6_tellsTune_8 12 rfl rfl)
theorem dX6_tellsTune_200 : decode cX6_tellsTune 200 = .ok (.ladd, 1) := dk_97 (dk_at dksX6_tellsTune_8 13 rfl rfl)
theorem dX6_tellsTune_201 : decode cX6_tellsTune 201 = .ok (.lstore 4, 2) := dk_55 4 (dk_at dksX6_tellsTune_8 14 rfl rfl)
theorem dX6_tellsTune_203 : decode cX6_tellsTune 203 = .ok (.ldc2_w 299, 3) := dk_20 1 43 (dk_at dksX6_tellsTune_8 16 rfl rfl)
theorem dX6_tellsTune_206 : decode cX6_tellsTune 206 = .ok (.lload 4, 2) := dk_22 4 (dk_at dksX6_tellsTune_8 19 rfl rfl)
theorem dX6_tellsTune_208 : decode cX6_tellsTune 208 = .ok (.lmul, 1) := dk_105 (dk_at dksX6_tellsTune_8 21 rfl rfl)
theorem dX6_tellsTune_209 : decode cX6_tellsTune 209 = .ok (.aload_n 0, 1) := dk_42 (dk_at dksX6_tellsTune_8 22 rfl rfl)
theorem dX6_tellsTune_210 : decode cX6_tellsTune 210 = .ok (.iload_n 3, 1) := dk_29 (dk_at dksX6_tellsTune_8 23 rfl rfl)
theorem dX6_tellsTune_211 : decode cX6_tellsTune 211 = .ok (.invokevirtual 249, 3) := dk_182 0 249 (dk_at dksX6_tellsTune_9 0 rfl rfl)
theorem dX6_tellsTune_214 : decode cX6_tellsTune 214 = .ok (.i2l, 1) := dk_133 (dk_at dksX6_tellsTune_9 3 rfl rfl)
theorem dX6_tellsTune_215 : decode cX6_tellsTune 215 = .ok (.ladd, 1) := dk_97 (dk_at dksX6_tellsTune_9 4 rfl rfl)
theorem dX6_tellsTune_216 : decode cX6_tellsTune 216 = .ok (.lstore 4, 2) := dk_55 4 (dk_at dksX6_tellsTune_9 5 rfl rfl)
theorem dX6_tellsTune_218 : decode cX6_tellsTune 218 = .ok (.ldc2_w 299, 3) := dk_20 1 43 (dk_at dksX6_tellsTune_9 7 rfl rfl)
theorem dX6_tellsTune_221 : decode cX6_tellsTune 221 = .ok (.lload 4, 2) := dk_22 4 (dk_at dksX6_tellsTune_9 10 rfl rfl)
theorem dX6_tellsTune_223 : decode cX6_tellsTune 223 = .ok (.lmul, 1) := dk_105 (dk_at dksX6_tellsTune_9 12 rfl rfl)
theorem dX6_tellsTune_224 : decode cX6_tellsTune 224 = .ok (.aload_n 0, 1) := dk_42 (dk_at dksX6_tellsTune_9 13 rfl rfl)
theorem dX6_tellsTune_225 : decode cX6_tellsTune 225 = .ok (.iload_n 3, 1) := dk_29 (dk_at dksX6_tellsTune_9 14 rfl rfl)
theorem dX6_tellsTune_226 : decode cX6_tellsTune 226 = .ok (.invokevirtual 252, 3) := dk_182 0 252 (dk_at dksX6_tellsTune_9 15 rfl rfl)
theorem dX6_tellsTune_229 : decode cX6_tellsTune 229 = .ok (.i2l, 1) := dk_133 (dk_at dksX6_tellsTune_9 18 rfl rfl)
theorem dX6_tellsTune_230 : decode cX6_tellsTune 230 = .ok (.ladd, 1) := dk_97 (dk_at dksX6_tellsTune_9 19 rfl rfl)
theorem dX6_tellsTune_231 : decode cX6_tellsTune 231 = .ok (.lstore 4, 2) := dk_55 4 (dk_at dksX6_tellsTune_9 20 rfl rfl)
theorem dX6_tellsTune_233 : decode cX6_tellsTune 233 = .ok (.aload_n 0, 1) := dk_42 (dk_at dksX6_tellsTune_9 22 rfl rfl)
theorem dX6_tellsTune_234 : decode cX6_tellsTune 234 = .ok (.iload_n 3, 1) := dk_29 (dk_at dksX6_tellsTune_9 23 rfl rfl)
theorem dX6_tellsTune_235 : decode cX6_tellsTune 235 = .ok (.invokevirtual 265, 3) := dk_182 1 9 (dk_at dksX6_tellsTune_10 0 rfl rfl)
theorem dX6_tellsTune_238 : decode cX6_tellsTune 238 = .ok (.istore 6, 2) := dk_54 6 (dk_at dksX6_tellsTune_10 3 rfl rfl)
theorem dX6_tellsTune_240 : decode cX6_tellsTune 240 = .ok (.ldc2_w 299, 3) := dk_20 1 43 (dk_at dksX6_tellsTune_10 5 rfl rfl)
theorem dX6_tellsTune_243 : decode cX6_tellsTune 243 = .ok (.lload 4, 2) := dk_22 4 (dk_at dksX6_tellsTune_10 8 rfl rfl)
theorem dX6_tellsTune_245 : decode cX6_tellsTune 245 = .ok (.lmul, 1) := dk_105 (dk_at dksX6_tellsTune_10 10 rfl rfl)
theorem dX6_tellsTune_246 : decode cX6_tellsTune 246 = .ok (.iload 6, 2) := dk_21 6 (dk_at dksX6_tellsTune_10 11 rfl rfl)
theorem dX6_tellsTune_248 : decode cX6_tellsTune 248 = .ok (.iconst 0, 1) := dk_3 (dk_at dksX6_tellsTune_10 13 rfl rfl)
theorem dX6_tellsTune_249 : decode cX6_tellsTune 249 = .ok (.invokestatic 268, 3) := dk_184 1 12 (dk_at dksX6_tellsTune_10 14 rfl rfl)
theorem dX6_tellsTune_252 : decode cX6_tellsTune 252 = .ok (.i2l, 1) := dk_133 (dk_at dksX6_tellsTune_10 17 rfl rfl)
theorem dX6_tellsTune_253 : decode cX6_tellsTune 253 = .ok (.ladd, 1) := dk_97 (dk_at dksX6_tellsTune_10 18 rfl rfl)
theorem dX6_tellsTune_254 : decode cX6_tellsTune 254 = .ok (.lstore 4, 2) := dk_55 4 (dk_at dksX6_tellsTune_10 19 rfl rfl)
theorem dX6_tellsTune_256 : decode cX6_tellsTune 256 = .ok (.ldc2_w 299, 3) := dk_20 1 43 (dk_at dksX6_tellsTune_10 21 rfl rfl)
theorem dX6_tellsTune_259 : decode cX6_tellsTune 259 = .ok (.lload 4, 2) := dk_22 4 (dk_at dksX6_tellsTune_11 0 rfl rfl)
theorem dX6_tellsTune_261 : decode cX6_tellsTune 261 = .ok (.lmul, 1) := dk_105 (dk_at dksX6_tellsTune_11 2 rfl rfl)
theorem dX6_tellsTune_262 : decode cX6_tellsTune 262 = .ok (.iload 6, 2) := dk_21 6 (dk_at dksX6_tellsTune_11 3 rfl rfl)
theorem dX6_tellsTune_264 : decode cX6_tellsTune 264 = .ok (.iconst 1, 1) := dk_4 (dk_at dksX6_tellsTune_11 5 rfl rfl)
theorem dX6_tellsTune_265 : decode cX6_tellsTune 265 = .ok (.invokestatic 268, 3) := dk_184 1 12 (dk_at dksX6_tellsTune_11 6 rfl rfl)
theorem dX6_tellsTune_268 : decode cX6_tellsTune 268 = .ok (.i2l, 1) := dk_133 (dk_at dksX6_tellsTune_11 9 rfl rfl)
theorem dX6_tellsTune_269 : decode cX6_tellsTune 269 = .ok (.ladd, 1) := dk_97 (dk_at dksX6_tellsTune_11 10 rfl rfl)
theorem dX6_tellsTune_270 : decode cX6_tellsTune 270 = .ok (.lstore 4, 2) := dk_55 4 (dk_at dksX6_tellsTune_11 11 rfl rfl)
theorem dX6_tellsTune_272 : decode cX6_tellsTune 272 = .ok (.ldc2_w 299, 3) := dk_20 1 43 (dk_at dksX6_tellsTune_11 13 rfl rfl)
theorem dX6_tellsTune_275 : decode cX6_tellsTune 275 = .ok (.lload 4, 2) := dk_22 4 (dk_at dksX6_tellsTune_11 16 rfl rfl)
theorem dX6_tellsTune_277 : decode cX6_tellsTune 277 = .ok (.lmul, 1) := dk_105 (dk_at dksX6_tellsTune_11 18 rfl rfl)
theorem dX6_tellsTune_278 : decode cX6_tellsTune 278 = .ok (.aload_n 0, 1) := dk_42 (dk_at dksX6_tellsTune_11 19 rfl rfl)
theorem dX6_tellsTune_279 : decode cX6_tellsTune 279 = .ok (.bipush 7, 2) := dk_16 7 (dk_at dksX6_tellsTune_11 20 rfl rfl)
theorem dX6_tellsTune_281 : decode cX6_tellsTune 281 = .ok (.bipush 9, 2) := dk_16 9 (dk_at dksX6_tellsTune_11 22 rfl rfl)
theorem dX6_tellsTune_283 : decode cX6_tellsTune 283 = .ok (.iload_n 3, 1) := dk_29 (dk_at dksX6_tellsTune_12 0 rfl rfl)
theorem dX6_tellsTune_284 : decode cX6_tellsTune 284 = .ok (.invokevirtual 296, 3) := dk_182 1 40 (dk_at dksX6_tellsTune_12 1 rfl rfl)
theorem dX6_tellsTune_287 : decode cX6_tellsTune 287 = .ok (.i2l, 1) := dk_133 (dk_at dksX6_tellsTune_12 4 rfl rfl)
theorem dX6_tellsTune_288 : decode cX6_tellsTune 288 = .ok (.ladd, 1) := dk_97 (dk_at dksX6_tellsTune_12 5 rfl rfl)
theorem dX6_tellsTune_289 : decode cX6_tellsTune 289 = .ok (.lstore 4, 2) := dk_55 4 (dk_at dksX6_tellsTune_12 6 rfl rfl)
theorem dX6_tellsTune_291 : decode cX6_tellsTune 291 = .ok (.ldc2_w 299, 3) := dk_20 1 43 (dk_at dksX6_tellsTune_12 8 rfl rfl)
theorem dX6_tellsTune_294 : decode cX6_tellsTune 294 = .ok (.lload 4, 2) := dk_22 4 (dk_at dksX6_tellsTune_12 11 rfl rfl)
theorem dX6_tellsTune_296 : decode cX6_tellsTune 296 = .ok (.lmul, 1) := dk_105 (dk_at dksX6_tellsTune_12 13 rfl rfl)
theorem dX6_tellsTune_297 : decode cX6_tellsTune 297 = .ok (.aload_n 0, 1) := dk_42 (dk_at dksX6_tellsTune_12 14 rfl rfl)
theorem dX6_tellsTune_298 : decode cX6_tellsTune 298 = .ok (.iconst 5, 1) := dk_8 (dk_at dksX6_tellsTune_12 15 rfl rfl)
theorem dX6_tellsTune_299 : decode cX6_tellsTune 299 = .ok (.iload_n 3, 1) := dk_29 (dk_at dksX6_tellsTune_12 16 rfl rfl)
theorem dX6_tellsTune_300 : decode cX6_tellsTune 300 = .ok (.iconst 0, 1) := dk_3 (dk_at dksX6_tellsTune_12 17 rfl rfl)
theorem dX6_tellsTune_301 : decode cX6_tellsTune 301 = .ok (.iconst 4, 1) := dk_7 (dk_at dksX6_tellsTune_12 18 rfl rfl)
theorem dX6_tellsTune_302 : decode cX6_tellsTune 302 = .ok (.bipush 9, 2) := dk_16 9 (dk_at dksX6_tellsTune_12 19 rfl rfl)
theorem dX6_tellsTune_304 : decode cX6_tellsTune 304 = .ok (.iconst 0, 1) := dk_3 (dk_at dksX6_tellsTune_12 21 rfl rfl)
theorem dX6_tellsTune_305 : decode cX6_tellsTune 305 = .ok (.invokevirtual 301, 3) := dk_182 1 45 (dk_at dksX6_tellsTune_13 0 rfl rfl)
theorem dX6_tellsTune_308 : decode cX6_tellsTune 308 = .ok (.ladd, 1) := dk_97 (dk_at dksX6_tellsTune_13 3 rfl rfl)
theorem dX6_tellsTune_309 : decode cX6_tellsTune 309 = .ok (.lstore 4, 2) := dk_55 4 (dk_at dksX6_tellsTune_13 4 rfl rfl)
theorem dX6_tellsTune_311 : decode cX6_tellsTune 311 = .ok (.ldc2_w 299, 3) := dk_20 1 43 (dk_at dksX6_tellsTune_13 6 rfl rfl)
theorem dX6_tellsTune_314 : decode cX6_tellsTune 314 = .ok (.lload 4, 2) := dk_22 4 (dk_at dksX6_tellsTune_13 9 rfl rfl)
theorem dX6_tellsTune_316 : decode cX6_tellsTune 316 = .ok (.lmul, 1) := dk_105 (dk_at dksX6_tellsTune_13 11 rfl rfl)
theorem dX6_tellsTune_317 : decode cX6_tellsTune 317 = .ok (.aload_n 0, 1) := dk_42 (dk_at dksX6_tellsTune_13 12 rfl rfl)
theorem dX6_tellsTune_318 : decode cX6_tellsTune 318 = .ok (.iconst 5, 1) := dk_8 (dk_at dksX6_tellsTune_13 13 rfl rfl)
theorem dX6_tellsTune_319 : decode cX6_tellsTune 319 = .ok (.iload_n 3, 1) := dk_29 (dk_at dksX6_tellsTune_13 14 rfl rfl)
theorem dX6_tellsTune_320 : decode cX6_tellsTune 320 = .ok (.iconst 0, 1) := dk_3 (dk_at dksX6_tellsTune_13 15 rfl rfl)
theorem dX6_tellsTune_321 : decode cX6_tellsTune 321 = .ok (.iconst 4, 1) := dk_7 (dk_at dksX6_tellsTune_13 16 rfl rfl)
theorem dX6_tellsTune_322 : decode cX6_tellsTune 322 = .ok (.bipush 9, 2) := dk_16 9 (dk_at dksX6_tellsTune_13 17 rfl rfl)
theorem dX6_tellsTune_324 : decode cX6_tellsTune 324 = .ok (.iconst 1, 1) := dk_4 (dk_at dksX6_tellsTune_13 19 rfl rfl)
theorem dX6_tellsTune_325 : decode cX6_tellsTune 325 = .ok (.invokevirtual 301, 3) := dk_182 1 45 (dk_at dksX6_tellsTune_13 20 rfl rfl)
theorem dX6_tellsTune_328 : decode cX6_tellsTune 328 = .ok (.ladd, 1) := dk_97 (dk_at dksX6_tellsTune_13 23 rfl rfl)
theorem dX6_tellsTune_329 : decode cX6_tellsTune 329 = .ok (.lreturn, 1) := dk_173 (dk_at dksX6_tellsTune_14 0 rfl rfl)
