set_option maxRecDepth 100000
def dkwX3_init_12 : List UInt8 := [162, 0, 16, 42, 180, 0, 76, 27, 2, 79, 132, 1, 1, 167, 255, 240, 177]
abbrev dktX3_init_12 : List UInt8 := dkwX3_init_12 ++ []
def dkwX3_init_11 : List UInt8 := [181, 0, 107, 42, 8, 188, 10, 181, 0, 110, 42, 16, 64, 188, 10, 181, 0, 113, 3, 60, 27, 16, 6]
abbrev dktX3_init_11 : List UInt8 := dkwX3_init_11 ++ dktX3_init_12
def dkwX3_init_10 : List UInt8 := [181, 0, 98, 42, 16, 21, 188, 10, 181, 0, 101, 42, 16, 21, 188, 10, 181, 0, 104, 42, 8, 188, 10]
abbrev dktX3_init_10 : List UInt8 := dkwX3_init_10 ++ dktX3_init_11
def dkwX3_init_9 : List UInt8 := [181, 0, 89, 42, 16, 64, 188, 10, 181, 0, 92, 42, 16, 21, 188, 10, 181, 0, 95, 42, 16, 21, 188, 10]
abbrev dktX3_init_9 : List UInt8 := dkwX3_init_9 ++ dktX3_init_10
def dkwX3_init_8 : List UInt8 := [17, 1, 104, 188, 11, 181, 0, 82, 42, 16, 31, 188, 10, 181, 0, 86, 42, 17, 0, 155, 188, 10]
abbrev dktX3_init_8 : List UInt8 := dkwX3_init_8 ++ dktX3_init_9
def dkwX3_init_7 : List UInt8 := [188, 10, 181, 0, 73, 42, 16, 6, 188, 10, 181, 0, 76, 42, 16, 6, 188, 10, 181, 0, 79, 42]
abbrev dktX3_init_7 : List UInt8 := dkwX3_init_7 ++ dktX3_init_8
def dkwX3_init_6 : List UInt8 := [181, 0, 64, 42, 17, 0, 160, 188, 10, 181, 0, 67, 42, 16, 50, 188, 10, 181, 0, 70, 42, 16, 24]
abbrev dktX3_init_6 : List UInt8 := dkwX3_init_6 ++ dktX3_init_7
def dkwX3_init_5 : List UInt8 := [181, 0, 55, 42, 8, 188, 10, 181, 0, 58, 42, 16, 31, 188, 10, 181, 0, 61, 42, 8, 188, 10]
abbrev dktX3_init_5 : List UInt8 := dkwX3_init_5 ++ dktX3_init_6
def dkwX3_init_4 : List UInt8 := [42, 17, 0, 200, 188, 10, 181, 0, 49, 42, 17, 0, 200, 188, 10, 181, 0, 52, 42, 16, 6, 188, 10]
abbrev dktX3_init_4 : List UInt8 := dkwX3_init_4 ++ dktX3_init_5
def dkwX3_init_3 : List UInt8 := [42, 16, 61, 188, 10, 181, 0, 40, 42, 16, 61, 188, 10, 181, 0, 43, 42, 16, 61, 188, 10, 181, 0, 46]
abbrev dktX3_init_3 : List UInt8 := dkwX3_init_3 ++ dktX3_init_4
def dkwX3_init_2 : List UInt8 := [16, 60, 188, 10, 181, 0, 31, 42, 16, 60, 188, 10, 181, 0, 34, 42, 17, 0, 200, 188, 10, 181, 0, 37]
abbrev dktX3_init_2 : List UInt8 := dkwX3_init_2 ++ dktX3_init_3
def dkwX3_init_1 : List UInt8 := [16, 31, 188, 10, 181, 0, 22, 42, 16, 120, 188, 10, 181, 0, 25, 42, 16, 60, 188, 10, 181, 0, 28, 42]
abbrev dktX3_init_1 : List UInt8 := dkwX3_init_1 ++ dktX3_init_2
def dkwX3_init_0 : List UInt8 := [42, 183, 0, 3, 42, 16, 24, 188, 10, 181, 0, 9, 42, 6, 181, 0, 15, 42, 4, 181, 0, 19, 42]
abbrev dktX3_init_0 : List UInt8 := dkwX3_init_0 ++ dktX3_init_1
theorem dksX3_init_0 : cX3_init.data.toList.drop 0 = dktX3_init_0 := by decide +kernel
theorem dksX3_init_1 : cX3_init.data.toList.drop 23 = dktX3_init_1 := dk_seg dksX3_init_0 23 rfl rfl
theorem dksX3_init_2 : cX3_init.data.toList.drop 47 = dktX3_init_2 := dk_seg dksX3_init_1 24 rfl rfl
theorem dksX3_init_3 : cX3_init.data.toList.drop 71 = dktX3_init_3 := dk_seg dksX3_init_2 24 rfl rfl
theorem dksX3_init_4 : cX3_init.data.toList.drop 95 = dktX3_init_4 := dk_seg dksX3_init_3 24 rfl rfl
theorem dksX3_init_5 : cX3_init.data.toList.drop 118 = dktX3_init_5 := dk_seg dksX3_init_4 23 rfl rfl
theorem dksX3_init_6 : cX3_init.data.toList.drop 140 = dktX3_init_6 := dk_seg dksX3_init_5 22 rfl rfl
theorem dksX3_init_7 : cX3_init.data.toList.drop 163 = dktX3_init_7 := dk_seg dksX3_init_6 23 rfl rfl
theorem dksX3_init_8 : cX3_init.data.toList.drop 185 = dktX3_init_8 := dk_seg dksX3_init_7 22 rfl rfl
theorem dksX3_init_9 : cX3_init.data.toList.drop 207 = dktX3_init_9 := dk_seg dksX3_init_8 22 rfl rfl
theorem dksX3_init_10 : cX3_init.data.toList.drop 231 = dktX3_init_10 := dk_seg dksX3_init_9 24 rfl rfl
theorem dksX3_init_11 : cX3_init.data.toList.drop 254 = dktX3_init_11 := dk_seg dksX3_init_10 23 rfl rfl
theorem dksX3_init_12 : cX3_init.data.toList.drop 277 = dktX3_init_12 := dk_seg dksX3_init_11 23 rfl rfl
theorem dX3_init_0 : decode cX3_init 0 = .ok (.aload_n 0, 1) := dk_42 (dk_at dksX3_init_0 0 rfl rfl)
theorem dX3_init_1 : decode cX3_init 1 = .ok (.invokespecial 3, 3) := dk_183 0 3 (dk_at dksX3_init_0 1 rfl rfl)
theorem dX3_init_4 : decode cX3_init 4 = .ok (.aload_n 0, 1) := dk_42 (dk_at dksX3_init_0 4 rfl rfl)
theorem dX3_init_5 : decode cX3_init 5 = .ok (.bipush 24, 2) := dk_16 24 (dk_at dksX3_init_0 5 rfl rfl)
theorem dX3_init_7 : decode cX3_init 7 = .ok (.newarray .int, 2) := dk_188_10 (dk_at dksX3_init_0 7 rfl rfl)
theorem dX3_init_9 : decode cX3_init 9 = .ok (.putfield 9, 3) := dk_181 0 9 (dk_at dksX3_init_0 9 rfl rfl)
theorem dX3_init_12 : decode cX3_init 12 = .ok (.aload_n 0, 1) := dk_42 (dk_at dksX3_init_0 12 rfl rfl)
theorem dX3_init_13 : decode cX3_init 13 = .ok (.iconst 3, 1) := dk_6 (dk_at dksX3_init_0 13 rfl rfl)
theorem dX3_init_14 : decode cX3_init 14 = .ok (.putfield 15, 3) := dk_181 0 15 (dk_at dksX3_init_0 14 rfl rfl)
theorem dX3_init_17 : decode cX3_init 17 = .ok (.aload_n 0, 1) := dk_42 (dk_at dksX3_init_0 17 rfl rfl)
theorem dX3_init_18 : decode cX3_init 18 = .ok (.iconst 1, 1) := dk_4 (dk_at dksX3_init_0 18 rfl rfl)
theorem dX3_init_19 : decode cX3_init 19 = .ok (.putfield 19, 3) := dk_181 0 19 (dk_at dksX3_init_0 19 rfl rfl)
theorem dX3_init_22 : decode cX3_init 22 = .ok (.aload_n 0, 1) := dk_42 (dk_at dksX3_init_0 22 rfl rfl)
theorem dX3_init_23 : decode cX3_init 23 = .ok (.bipush 31, 2) := dk_16 31 (dk_at dksX3_init_1 0 rfl rfl)
theorem dX3_init_25 : decode cX3_init 25 = .ok (.newarray .int, 2) := dk_188_10 (dk_at dksX3_init_1 2 rfl rfl)
theorem dX3_init_27 : decode cX3_init 27 = .ok (.putfield 22, 3) := dk_181 0 22 (dk_at dksX3_init_1 4 rfl rfl)
theorem dX3_init_30 : decode cX3_init 30 = .ok (.aload_n 0, 1) := dk_42 (dk_at dksX3_init_1 7 rfl rfl)
theorem dX3_init_31 : decode cX3_init 31 = .ok (.bipush 120, 2) := dk_16 120 (dk_at dksX3_init_1 8 rfl rfl)
theorem dX3_init_33 : decode cX3_init 33 = .ok (.newarray .int, 2) := dk_188_10 (dk_at dksX3_init_1 10 rfl rfl)
theorem dX3_init_35 : decode cX3_init 35 = .ok (.putfield 25, 3) := dk_181 0 25 (dk_at dksX3_init_1 12 rfl rfl)
theorem dX3_init_38 : decode cX3_init 38 = .ok (.aload_n 0, 1) := dk_42 (dk_at dksX3_init_1 15 rfl rfl)
theorem dX3_init_39 : decode cX3_init 39 = .ok (.bipush 60, 2) := dk_16 60 (dk_at dksX3_init_1 16 rfl rfl)
theorem dX3_init_41 : decode cX3_init 41 = .ok (.newarray .int, 2) := dk_188_10 (dk_at dksX3_init_1 18 rfl rfl)
theorem dX3_init_43 : decode cX3_init 43 = .ok (.putfield 28, 3) := dk_181 0 28 (dk_at dksX3_init_1 20 rfl rfl)
theorem dX3_init_46 : decode cX3_init 46 = .ok (.aload_n 0, 1) := dk_42 (dk_at dksX3_init_1 23 rfl rfl)
theorem dX3_init_47 : decode cX3_init 47 = .ok (.bipush 60, 2) := dk_16 60 (dk_at dksX3_init_2 0 rfl rfl)
theorem dX3_init_49 : decode cX3_init 49 = .ok (.newarray .int, 2) := dk_188_10 (dk_at dksX3_init_2 2 rfl rfl)
theorem dX3_init_51 : decode cX3_init 51 = .ok (.putfield 31, 3) := dk_181 0 31 (dk_at dksX3_init_2 4 rfl rfl)
theorem dX3_init_54 : decode cX3_init 54 = .ok (.aload_n 0, 1) := dk_42 (dk_at dksX3_init_2 7 rfl rfl)
theorem dX3_init_55 : decode cX3_init 55 = .ok (.bipush 60, 2) := dk_16 60 (dk_at dksX3_init_2 8 rfl rfl)
theorem dX3_init_57 : decode cX3_init 57 = .ok (.newarray .int, 2) := dk_188_10 (dk_at dksX3_init_2 10 rfl rfl)
theorem dX3_init_59 : decode cX3_init 59 = .ok (.putfield 34, 3) := dk_181 0 34 (dk_at dksX3_init_2 12 rfl rfl)
theorem dX3_init_62 : decode cX3_init 62 = .ok (.aload_n 0, 1) := dk_42 (dk_at dksX3_init_2 15 rfl rfl)
theorem dX3_init_63 : decode cX3_init 63 = .ok (.sipush 200, 3) := dk_17 0 200 (dk_at dksX3_init_2 16 rfl rfl)
theorem dX3_init_66 : decode cX3_init 66 = .ok (.newarray .int, 2) := dk_188_10 (dk_at dksX3_init_2 19 rfl rfl)
theorem dX3_init_68 : decode cX3_init 68 = .ok (.putfield 37, 3) := dk_181 0 37 (dk_at dksX3_init_2 21 rfl rfl)
theorem dX3_init_71 : decode cX3_init 71 = .ok (.aload_n 0, 1) := dk_42 (dk_at dksX3_init_3 0 rfl rfl)
theorem dX3_init_72 : decode cX3_init 72 = .ok (.bipush 61, 2) := dk_16 61 (dk_at dksX3_init_3 1 rfl rfl)
theorem dX3_init_74 : decode cX3_init 74 = .ok (.newarray .int, 2) := dk_188_10 (dk_at dksX3_init_3 3 rfl rfl)
theorem dX3_init_76 : decode cX3_init 76 = .ok (.putfield 40, 3) := dk_181 0 40 (dk_at dksX3_init_3 5 rfl rfl)
theorem dX3_init_79 : decode cX3_init 79 = .ok (.aload_n 0, 1) := dk_42 (dk_at dksX3_init_3 8 rfl rfl)
theorem dX3_init_80 : decode cX3_init 80 = .ok (.bipush 61, 2) := dk_16 61 (dk_at dksX3_init_3 9 rfl rfl)
theorem dX3_init_82 : decode cX3_init 82 = .ok (.newarray .int, 2) := dk_188_10 (dk_at dksX3_init_3 11 rfl rfl)
theorem dX3_init_84 : decode cX3_init 84 = .ok (.putfield 43, 3) := dk_181 0 43 (dk_at dksX3_init_3 13 rfl rfl)
theorem dX3_init_87 : decode cX3_init 87 = .ok (.aload_n 0, 1) := dk_42 (dk_at dksX3_init_3 16 rfl rfl)
theorem dX3_init_88 : decode cX3_init 88 = .ok (.bipush 61, 2) := dk_16 61 (dk_at dksX3_init_3 17 rfl rfl)
theorem dX3_init_90 : decode cX3_init 90 = .ok (.newarray .int, 2) := dk_188_10 (dk_at dksX3_init_3 19 rfl rfl)
theorem dX3_init_92 : decode cX3_init 92 = .ok (.putfield 46, 3) := dk_181 0 46 (dk_at dksX3_init_3 21 rfl rfl)
theorem dX3_init_95 : decode cX3_init 95 = .ok (.aload_n 0, 1) := dk_42 (dk_at dksX3_init_4 0 rfl rfl)
theorem dX3_init_96 : decode cX3_init 96 = .ok (.sipush 200, 3) := dk_17 0 200 (dk_at dksX3_init_4 1 rfl rfl)
theorem dX3_init_99 : decode cX3_init 99 = .ok (.newarray .int, 2) := dk_188_10 (dk_at dksX3_init_4 4 rfl rfl)
theorem dX3_init_101 : decode cX3_init 101 = .ok (.putfield 49, 3) := dk_181 0 49 (dk_at dksX3_init_4 6 rfl rfl)
theorem dX3_init_104 : decode cX3_init 104 = .ok (.aload_n 0, 1) := dk_42 (dk_at dksX3_init_4 9 rfl rfl)
theorem dX3_init_105 : decode cX3_init 105 = .ok (.sipush 200, 3) := dk_17 0 200 (dk_at dksX3_init_4 10 rfl rfl)
theorem dX3_init_108 : decode cX3_init 108 = .ok (.newarray .int, 2) := dk_188_10 (dk_at dksX3_init_4 13 rfl rfl)
theorem dX3_init_110 : decode cX3_init 110 = .ok (.putfield 52, 3) := dk_181 0 52 (dk_at dksX3_init_4 15 rfl rfl)
theorem dX3_init_113 : decode cX3_init 113 = .ok (.aload_n 0, 1) := dk_42 (dk_at dksX3_init_4 18 rfl rfl)
theorem dX3_init_114 : decode cX3_init 114 = .ok (.bipush 6, 2) := dk_16 6 (dk_at dksX3_init_4 19 rfl rfl)
theorem dX3_init_116 : decode cX3_init 116 = .ok (.newarray .int, 2) := dk_188_10 (dk_at dksX3_init_4 21 rfl rfl)
theorem dX3_init_118 : decode cX3_init 118 = .ok (.putfield 55, 3) := dk_181 0 55 (dk_at dksX3_init_5 0 rfl rfl)
theorem dX3_init_121 : decode cX3_init 121 = .ok (.aload_n 0, 1) := dk_42 (dk_at dksX3_init_5 3 rfl rfl)
theorem dX3_init_122 : decode cX3_init 122 = .ok (.iconst 5, 1) := dk_8 (dk_at dksX3_init_5 4 rfl rfl)
theorem dX3_init_123 : decode cX3_init 123 = .ok (.newarray .int, 2) := dk_188_10 (dk_at dksX3_init_5 5 rfl rfl)
theorem dX3_init_125 : decode cX3_init 125 = .ok (.putfield 58, 3) := dk_181 0 58 (dk_at dksX3_init_5 7 rfl rfl)
theorem dX3_init_128 : decode cX3_init 128 = .ok (.aload_n 0, 1) := dk_42 (dk_at dksX3_init_5 10 rfl rfl)
theorem dX3_init_129 : decode cX3_init 129 = .ok (.bipush 31, 2) := dk_16 31 (dk_at dksX3_init_5 11 rfl rfl)
theorem dX3_init_131 : decode cX3_init 131 = .ok (.newarray .int, 2) := dk_188_10 (dk_at dksX3_init_5 13 rfl rfl)
theorem dX3_init_133 : decode cX3_init 133 = .ok (.putfield 61, 3) := dk_181 0 61 (dk_at dksX3_init_5 15 rfl rfl)
theorem dX3_init_136 : decode cX3_init 136 = .ok (.aload_n 0, 1) := dk_42 (dk_at dksX3_init_5 18 rfl rfl)
theorem dX3_init_137 : decode cX3_init 137 = .ok (.iconst 5, 1) := dk_8 (dk_at dksX3_init_5 19 rfl rfl)
theorem dX3_init_138 : decode cX3_init 138 = .ok (.newarray .int, 2) := dk_188_10 (dk_at dksX3_init_5 20 rfl rfl)
theorem dX3_init_140 : decode cX3_init 140 = .ok (.putfield 64, 3) := dk_181 0 64 (dk_at dksX3_init_6 0 rfl rfl)
theorem dX3_init_143 : decode cX3_init 143 = .ok (.aload_n 0, 1) := dk_42 (dk_at dksX3_init_6 3 rfl rfl)
theorem dX3_init_144 : decode cX3_init 144 = .ok (.sipush 160, 3) := dk_17 0 160 (dk_at dksX3_init_6 4 rfl rfl)
theorem dX3_init_147 : decode cX3_init 147 = .ok (.newarray .int, 2) := dk_188_10 (dk_at dksX3_init_6 7 rfl rfl)
theorem dX3_init_149 : decode cX3_init 149 = .ok (.putfield 67, 3) := dk_181 0 67 (dk_at dksX3_init_6 9 rfl rfl)
theorem dX3_init_152 : decode cX3_init 152 = .ok (.aload_n 0, 1) := dk_42 (dk_at dksX3_init_6 12 rfl rfl)
theorem dX3_init_153 : decode cX3_init 153 = .ok (.bipush 50, 2) := dk_16 50 (dk_at dksX3_init_6 13 rfl rfl)
theorem dX3_init_155 : decode cX3_init 155 = .ok (.newarray .int, 2) := dk_188_10 (dk_at dksX3_init_6 15 rfl rfl)
theorem dX3_init_157 : decode cX3_init 157 = .ok (.putfield 70, 3) := dk_181 0 70 (dk_at dksX3_init_6 17 rfl rfl)
theorem dX3_init_160 : decode cX3_init 160 = .ok (.aload_n 0, 1) := dk_42 (dk_at dksX3_init_6 20 rfl rfl)
theorem dX3_init_161 : decode cX3_init 161 = .ok (.bipush 24, 2) := dk_16 24 (dk_at dksX3_init_6 21 rfl rfl)
theorem dX3_init_163 : decode cX3_init 163 = .ok (.newarray .int, 2) := dk_188_10 (dk_at dksX3_init_7 0 rfl rfl)
theorem dX3_init_165 : decode cX3_init 165 = .ok (.putfield 73, 3) := dk_181 0 73 (dk_at dksX3_init_7 2 rfl rfl)
theorem dX3_init_168 : decode cX3_init 168 = .ok (.aload_n 0, 1) := dk_42 (dk_at dksX3_init_7 5 rfl rfl)
theorem dX3_init_169 : decode cX3_init 169 = .ok (.bipush 6, 2) := dk_16 6 (dk_at dksX3_init_7 6 rfl rfl)
theorem dX3_init_171 : decode cX3_init 171 = .ok (.newarray .int, 2) := dk_188_10 (dk_at dksX3_init_7 8 rfl rfl)
theorem dX3_init_173 : decode cX3_init 173 = .ok (.putfield 76, 3) := dk_181 0 76 (dk_at dksX3_init_7 10 rfl rfl)
theorem dX3_init_176 : decode cX3_init 176 = .ok (.aload_n 0, 1) := dk_42 (dk_at dksX3_init_7 13 rfl rfl)
theorem dX3_init_177 : decode cX3_init 177 = .ok (.bipush 6, 2) := dk_16 6 (dk_at dksX3_init_7 14 rfl rfl)
theorem dX3_init_179 : decode cX3_init 179 = .ok (.newarray .int, 2) := dk_188_10 (dk_at dksX3_init_7 16 rfl rfl)
theorem dX3_init_181 : decode cX3_init 181 = .ok (.putfield 79, 3) := dk_181 0 79 (dk_at dksX3_init_7 18 rfl rfl)
theorem dX3_init_184 : decode cX3_init 184 = .ok (.aload_n 0, 1) := dk_42 (dk_at dksX3_init_7 21 rfl rfl)
theorem dX3_init_185 : decode cX3_init 185 = .ok (.sipush 360, 3) := dk_17 1 104 (dk_at dksX3_init_8 0 rfl rfl)
theorem dX3_init_188 : decode cX3_init 188 = .ok (.newarray .long, 2) := dk_188_11 (dk_at dksX3_init_8 3 rfl rfl)
theorem dX3_init_190 : decode cX3_init 190 = .ok (.putfield 82, 3) := dk_181 0 82 (dk_at dksX3_init_8 5 rfl rfl)
theorem dX3_init_193 : decode cX3_init 193 = .ok (.aload_n 0, 1) := dk_42 (dk_at dksX3_init_8 8 rfl rfl)
theorem dX3_init_194 : decode cX3_init 194 = .ok (.bipush 31, 2) := dk_16 31 (dk_at dksX3_init_8 9 rfl rfl)
theorem dX3_init_196 : decode cX3_init 196 = .ok (.newarray .int, 2) := dk_188_10 (dk_at dksX3_init_8 11 rfl rfl)
theorem dX3_init_198 : decode cX3_init 198 = .ok (.putfield 86, 3) := dk_181 0 86 (dk_at dksX3_init_8 13 rfl rfl)
theorem dX3_init_201 : decode cX3_init 201 = .ok (.aload_n 0, 1) := dk_42 (dk_at dksX3_init_8 16 rfl rfl)
theorem dX3_init_202 : decode cX3_init 202 = .ok (.sipush 155, 3) := dk_17 0 155 (dk_at dksX3_init_8 17 rfl rfl)
theorem dX3_init_205 : decode cX3_init 205 = .ok (.newarray .int, 2) := dk_188_10 (dk_at dksX3_init_8 20 rfl rfl)
theorem dX3_init_207 : decode cX3_init 207 = .ok (.putfield 89, 3) := dk_181 0 89 (dk_at dksX3_init_9 0 rfl rfl)
theorem dX3_init_210 : decode cX3_init 210 = .ok (.aload_n 0, 1) := dk_42 (dk_at dksX3_init_9 3 rfl rfl)
theorem dX3_init_211 : decode cX3_init 211 = .ok (.bipush 64, 2) := dk_16 64 (dk_at dksX3_init_9 4 rfl rfl)
theorem dX3_init_213 : decode cX3_init 213 = .ok (.newarray .int, 2) := dk_188_10 (dk_at dksX3_init_9 6 rfl rfl)
theorem dX3_init_215 : decode cX3_init 215 = .ok (.putfield 92, 3) := dk_181 0 92 (dk_at dksX3_init_9 8 rfl rfl)
theorem dX3_init_218 : decode cX3_init 218 = .ok (.aload_n 0, 1) := dk_42 (dk_at dksX3_init_9 11 rfl rfl)
theorem dX3_init_219 : decode cX3_init 219 = .ok (.bipush 21, 2) := dk_16 21 (dk_at dksX3_init_9 12 rfl rfl)
theorem dX3_init_221 : decode cX3_init 221 = .ok (.newarray .int, 2) := dk_188_10 (dk_at dksX3_init_9 14 rfl rfl)
theorem dX3_init_223 : decode cX3_init 223 = .ok (.putfield 95, 3) := dk_181 0 95 (dk_at dksX3_init_9 16 rfl rfl)
theorem dX3_init_226 : decode cX3_init 226 = .ok (.aload_n 0, 1) := dk_42 (dk_at dksX3_init_9 19 rfl rfl)
theorem dX3_init_227 : decode cX3_init 227 = .ok (.bipush 21, 2) := dk_16 21 (dk_at dksX3_init_9 20 rfl rfl)
theorem dX3_init_229 : decode cX3_init 229 = .ok (.newarray .int, 2) := dk_188_10 (dk_at dksX3_init_9 22 rfl rfl)
theorem dX3_init_231 : decode cX3_init 231 = .ok (.putfield 98, 3) := dk_181 0 98 (dk_at dksX3_init_10 0 rfl rfl)
theorem dX3_init_234 : decode cX3_init 234 = .ok (.aload_n 0, 1) := dk_42 (dk_at dksX3_init_10 3 rfl rfl)
theorem dX3_init_235 : decode cX3_init 235 = .ok (.bipush 21, 2) := dk_16 21 (dk_at dksX3_init_10 4 rfl rfl)
theorem dX3_init_237 : decode cX3_init 237 = .ok (.newarray .int, 2) := dk_188_10 (dk_at dksX3_init_10 6 rfl rfl)
theorem dX3_init_239 : decode cX3_init 239 = .ok (.putfield 101, 3) := dk_181 0 101 (dk_at dksX3_init_10 8 rfl rfl)
theorem dX3_init_242 : decode cX3_init 242 = .ok (.aload_n 0, 1) := dk_42 (dk_at dksX3_init_10 11 rfl rfl)
theorem dX3_init_243 : decode cX3_init 243 = .ok (.bipush 21, 2) := dk_16 21 (dk_at dksX3_init_10 12 rfl rfl)
theorem dX3_init_245 : decode cX3_init 245 = .ok (.newarray .int, 2) := dk_188_10 (dk_at dksX3_init_10 14 rfl rfl)
theorem dX3_init_247 : decode cX3_init 247 = .ok (.putfield 104, 3) := dk_181 0 104 (dk_at dksX3_init_10 16 rfl rfl)
theorem dX3_init_250 : decode cX3_init 250 = .ok (.aload_n 0, 1) := dk_42 (dk_at dksX3_init_10 19 rfl rfl)
theorem dX3_init_251 : decode cX3_init 251 = .ok (.iconst 5, 1) := dk_8 (dk_at dksX3_init_10 20 rfl rfl)
theorem dX3_init_252 : decode cX3_init 252 = .ok (.newarray .int, 2) := dk_188_10 (dk_at dksX3_init_10 21 rfl rfl)
theorem dX3_init_254 : decode cX3_init 254 = .ok (.putfield 107, 3) := dk_181 0 107 (dk_at dksX3_init_11 0 rfl rfl)
theorem dX3_init_257 : decode cX3_init 257 = .ok (.aload_n 0, 1) := dk_42 (dk_at dksX3_init_11 3 rfl rfl)
theorem dX3_init_258 : decode cX3_init 258 = .ok (.iconst 5, 1) := dk_8 (dk_at dksX3_init_11 4 rfl rfl)
theorem dX3_init_259 : decode cX3_init 259 = .ok (.newarray .int, 2) := dk_188_10 (dk_at dksX3_init_11 5 rfl rfl)
theorem dX3_init_261 : decode cX3_init 261 = .ok (.putfield 110, 3) := dk_181 0 110 (dk_at dksX3_init_11 7 rfl rfl)
theorem dX3_init_264 : decode cX3_init 264 = .ok (.aload_n 0, 1) := dk_42 (dk_at dksX3_init_11 10 rfl rfl)
theorem dX3_init_265 : decode cX3_init 265 = .ok (.bipush 64, 2) := dk_16 64 (dk_at dksX3_init_11 11 rfl rfl)
theorem dX3_init_267 : decode cX3_init 267 = .ok (.newarray .int, 2) := dk_188_10 (dk_at dksX3_init_11 13 rfl rfl)
theorem dX3_init_269 : decode cX3_init 269 = .ok (.putfield 113, 3) := dk_181 0 113 (dk_at dksX3_init_11 15 rfl rfl)
theorem dX3_init_272 : decode cX3_init 272 = .ok (.iconst 0, 1) := dk_3 (dk_at dksX3_init_11 18 rfl rfl)
theorem dX3_init_273 : decode cX3_init 273 = .ok (.istore_n 1, 1) := dk_60 (dk_at dksX3_init_11 19 rfl rfl)
theorem dX3_init_274 : decode cX3_init 274 = .ok (.iload_n 1, 1) := dk_27 (dk_at dksX3_init_11 20 rfl rfl)
theorem dX3_init_275 : decode cX3_init 275 = .ok (.bipush 6, 2) := dk_16 6 (dk_at dksX3_init_11 21 rfl rfl)
theorem dX3_init_277 : decode cX3_init 277 = .ok (.if_icmp .ge 16, 3) := dk_162 0 16 (dk_at dksX3_init_12 0 rfl rfl)
theorem dX3_init_280 : decode cX3_init 280 = .ok (.aload_n 0, 1) := dk_42 (dk_at dksX3_init_12 3 rfl rfl)
theorem dX3_init_281 : decode cX3_init 281 = .ok (.getfield 76, 3) := dk_180 0 76 (dk_at dksX3_init_12 4 rfl rfl)
theorem dX3_init_284 : decode cX3_init 284 = .ok (.iload_n 1, 1) := dk_27 (dk_at dksX3_init_12 7 rfl rfl)
theorem dX3_init_285 : decode cX3_init 285 = .ok (.iconst (-1), 1) := dk_2 (dk_at dksX3_init_12 8 rfl rfl)
theorem dX3_init_286 : decode cX3_init 286 = .ok (.iastore, 1) := dk_79 (dk_at dksX3_init_12 9 rfl rfl)
theorem dX3_init_287 : decode cX3_init 287 = .ok (.iinc 1 1, 3) := dk_132 1 1 (dk_at dksX3_init_12 10 rfl rfl)
theorem dX3_init_290 : decode cX3_init 290 = .ok (.goto (-16), 3) := dk_167 255 240 (dk_at dksX3_init_12 13 rfl rfl)
theorem dX3_init_293 : decode cX3_init 293 = .ok (.return_, 1) := dk_177 (dk_at dksX3_init_12 16 rfl rfl)
def dkwX3_buyer_1 : List UInt8 := [180, 0, 116, 16, 8, 160, 0, 8, 16, 253, 167, 0, 11, 42, 16, 100, 27, 28, 182, 0, 123, 172]
abbrev dktX3_buyer_1 : List UInt8 := dkwX3_buyer_1 ++ []
def dkwX3_buyer_0 : List UInt8 := [27, 3, 16, 9, 184, 0, 119, 153, 0, 13, 28, 3, 16, 9, 184, 0, 119, 154, 0, 5, 2, 172, 42]
abbrev dktX3_buyer_0 : List UInt8 := dkwX3_buyer_0 ++ dktX3_buyer_1
theorem dksX3_buyer_0 : cX3_buyer.data.toList.drop 0 = dktX3_buyer_0 := by decide +kernel
theorem dksX3_buyer_1 : cX3_buyer.data.toList.drop 23 = dktX3_buyer_1 := dk_seg dksX3_buyer_0 23 rfl rfl
theorem dX3_buyer_0 : decode cX3_buyer 0 = .ok (.iload_n 1, 1) := dk_27 (dk_at dksX3_buyer_0 0 rfl rfl)
theorem dX3_buyer_1 : decode cX3_buyer 1 = .ok (.iconst 0, 1) := dk_3 (dk_at dksX3_buyer_0 1 rfl rfl)
theorem dX3_buyer_2 : decode cX3_buyer 2 = .ok (.bipush 9, 2) := dk_16 9 (dk_at dksX3_buyer_0 2 rfl rfl)
theorem dX3_buyer_4 : decode cX3_buyer 4 = .ok (.invokestatic 119, 3) := dk_184 0 119 (dk_at dksX3_buyer_0 4 rfl rfl)
theorem dX3_buyer_7 : decode cX3_buyer 7 = .ok (.ifCond .eq 13, 3) := dk_153 0 13 (dk_at dksX3_buyer_0 7 rfl rfl)
theorem dX3_buyer_10 : decode cX3_buyer 10 = .ok (.iload_n 2, 1) := dk_28 (dk_at dksX3_buyer_0 10 rfl rfl)
theorem dX3_buyer_11 : decode cX3_buyer 11 = .ok (.iconst 0, 1) := dk_3 (dk_at dksX3_buyer_0 11 rfl rfl)
theorem dX3_buyer_12 : decode cX3_buyer 12 = .ok (.bipush 9, 2) := dk_16 9 (dk_at dksX3_buyer_0 12 rfl rfl)
theorem dX3_buyer_14 : decode cX3_buyer 14 = .ok (.invokestatic 119, 3) := dk_184 0 119 (dk_at dksX3_buyer_0 14 rfl rfl)
theorem dX3_buyer_17 : decode cX3_buyer 17 = .ok (.ifCond .ne 5, 3) := dk_154 0 5 (dk_at dksX3_buyer_0 17 rfl rfl)
theorem dX3_buyer_20 : decode cX3_buyer 20 = .ok (.iconst (-1), 1) := dk_2 (dk_at dksX3_buyer_0 20 rfl rfl)
theorem dX3_buyer_21 : decode cX3_buyer 21 = .ok (.ireturn, 1) := dk_172 (dk_at dksX3_buyer_0 21 rfl rfl)
theorem dX3_buyer_22 : decode cX3_buyer 22 = .ok (.aload_n 0, 1) := dk_42 (dk_at dksX3_buyer_0 22 rfl rfl)
theorem dX3_buyer_23 : decode cX3_buyer 23 = .ok (.getfield 116, 3) := dk_180 0 116 (dk_at dksX3_buyer_1 0 rfl rfl)
theorem dX3_buyer_26 : decode cX3_buyer 26 = .ok (.bipush 8, 2) := dk_16 8 (dk_at dksX3_buyer_1 3 rfl rfl)
theorem dX3_buyer_28 : decode cX3_buyer 28 = .ok (.if_icmp .ne 8, 3) := dk_160 0 8 (dk_at dksX3_buyer_1 5 rfl rfl)
theorem dX3_buyer_31 : decode cX3_buyer 31 = .ok (.bipush (-3), 2) := dk_16 253 (dk_at dksX3_buyer_1 8 rfl rfl)
theorem dX3_buyer_33 : decode cX3_buyer 33 = .ok (.goto 11, 3) := dk_167 0 11 (dk_at dksX3_buyer_1 10 rfl rfl)
theorem dX3_buyer_36 : decode cX3_buyer 36 = .ok (.aload_n 0, 1) := dk_42 (dk_at dksX3_buyer_1 13 rfl rfl)
theorem dX3_buyer_37 : decode cX3_buyer 37 = .ok (.bipush 100, 2) := dk_16 100 (dk_at dksX3_buyer_1 14 rfl rfl)
theorem dX3_buyer_39 : decode cX3_buyer 39 = .ok (.iload_n 1, 1) := dk_27 (dk_at dksX3_buyer_1 16 rfl rfl)
theorem dX3_buyer_40 : decode cX3_buyer 40 = .ok (.iload_n 2, 1) := dk_28 (dk_at dksX3_buyer_1 17 rfl rfl)
theorem dX3_buyer_41 : decode cX3_buyer 41 = .ok (.invokevirtual 123, 3) := dk_182 0 123 (dk_at dksX3_buyer_1 18 rfl rfl)
theorem dX3_buyer_44 : decode cX3_buyer 44 = .ok (.ireturn, 1) := dk_172 (dk_at dksX3_buyer_1 21 rfl rfl)
def dkwX3_within_0 : List UInt8 := [26, 27, 161, 0, 12, 26, 28, 163, 0, 7, 4, 167, 0, 4, 3, 172]
abbrev dktX3_within_0 : List UInt8 := dkwX3_within_0 ++ []
theorem dksX3_within_0 : cX3_within.data.toList.drop 0 = dktX3_within_0 := by decide +kernel
theorem dX3_within_0 : decode cX3_within 0 = .ok (.iload_n 0, 1) := dk_26 (dk_at dksX3_within_0 0 rfl rfl)
theorem dX3_within_1 : decode cX3_within 1 = .ok (.iload_n 1, 1) := dk_27 (dk_at dksX3_within_0 1 rfl rfl)
theorem dX3_within_2 : decode cX3_within 2 = .ok (.if_icmp .lt 12, 3) := dk_161 0 12 (dk_at dksX3_within_0 2 rfl rfl)
theorem dX3_within_5 : decode cX3_within 5 = .ok (.iload_n 0, 1) := dk_26 (dk_at dksX3_within_0 5 rfl rfl)
theorem dX3_within_6 : decode cX3_within 6 = .ok (.iload_n 2, 1) := dk_28 (dk_at dksX3_within_0 6 rfl rfl)
theorem dX3_within_7 : decode cX3_within 7 = .ok (.if_icmp .gt 7, 3) := dk_163 0 7 (dk_at dksX3_within_0 7 rfl rfl)
theorem dX3_within_10 : decode cX3_within 10 = .ok (.iconst 1, 1) := dk_4 (dk_at dksX3_within_0 10 rfl rfl)
theorem dX3_within_11 : decode cX3_within 11 = .ok (.goto 4, 3) := dk_167 0 4 (dk_at dksX3_within_0 11 rfl rfl)
theorem dX3_within_14 : decode cX3_within 14 = .ok (.iconst 0, 1) := dk_3 (dk_at dksX3_within_0 14 rfl rfl)
theorem dX3_within_15 : decode cX3_within 15 = .ok (.ireturn, 1) := dk_172 (dk_at dksX3_within_0 15 rfl rfl)
def dkwX3_newBuyer_1 : List UInt8 := [16, 8, 42, 180, 0, 116, 96, 29, 79, 42, 89, 180, 0, 116, 90, 4, 96, 181, 0, 116, 172]
abbrev dktX3_newBuyer_1 : List UInt8 := dkwX3_newBuyer_1 ++ []
def dkwX3_newBuyer_0 : List UInt8 := [42, 180, 0, 22, 42, 180, 0, 116, 27, 79, 42, 180, 0, 9, 42, 180, 0, 116, 28, 79, 42, 180, 0, 9]
abbrev dktX3_newBuyer_0 : List UInt8 := dkwX3_newBuyer_0 ++ dktX3_newBuyer_1
theorem dksX3_newBuyer_0 : cX3_newBuyer.data.toList.drop 0 = dktX3_newBuyer_0 := by decide +kernel
theorem dksX3_newBuyer_1 : cX3_newBuyer.data.toList.drop 24 = dktX3_newBuyer_1 := dk_seg dksX3_newBuyer_0 24 rfl rfl
theorem dX3_newBuyer_0 : decode cX3_newBuyer 0 = .ok (.aload_n 0, 1) := dk_42 (dk_at dksX3_newBuyer_0 0 rfl rfl)
theorem dX3_newBuyer_1 : decode cX3_newBuyer 1 = .ok (.getfield 22, 3) := dk_180 0 22 (dk_at dksX3_newBuyer_0 1 rfl rfl)
theorem dX3_newBuyer_4 : decode cX3_newBuyer 4 = .ok (.aload_n 0, 1) := dk_42 (dk_at dksX3_newBuyer_0 4 rfl rfl)
theorem dX3_newBuyer_5 : decode cX3_newBuyer 5 = .ok (.getfield 116, 3) := dk_180 0 116 (dk_at dksX3_newBuyer_0 5 rfl rfl)
theorem dX3_newBuyer_8 : decode cX3_newBuyer 8 = .ok (.iload_n 1, 1) := dk_27 (dk_at dksX3_newBuyer_0 8 rfl rfl)
theorem dX3_newBuyer_9 : decode cX3_newBuyer 9 = .ok (.iastore, 1) := dk_79 (dk_at dksX3_newBuyer_0 9 rfl rfl)
theorem dX3_newBuyer_10 : decode cX3_newBuyer 10 = .ok (.aload_n 0, 1) := dk_42 (dk_at dksX3_newBuyer_0 10 rfl rfl)
theorem dX3_newBuyer_11 : decode cX3_newBuyer 11 = .ok (.getfield 9, 3) := dk_180 0 9 (dk_at dksX3_newBuyer_0 11 rfl rfl)
theorem dX3_newBuyer_14 : decode cX3_newBuyer 14 = .ok (.aload_n 0, 1) := dk_42 (dk_at dksX3_newBuyer_0 14 rfl rfl)
theorem dX3_newBuyer_15 : decode cX3_newBuyer 15 = .ok (.getfield 116, 3) := dk_180 0 116 (dk_at dksX3_newBuyer_0 15 rfl rfl)
theorem dX3_newBuyer_18 : decode cX3_newBuyer 18 = .ok (.iload_n 2, 1) := dk_28 (dk_at dksX3_newBuyer_0 18 rfl rfl)
theorem dX3_newBuyer_19 : decode cX3_newBuyer 19 = .ok (.iastore, 1) := dk_79 (dk_at dksX3_newBuyer_0 19 rfl rfl)
theorem dX3_newBuyer_20 : decode cX3_newBuyer 20 = .ok (.aload_n 0, 1) := dk_42 (dk_at dksX3_newBuyer_0 20 rfl rfl)
theorem dX3_newBuyer_21 : decode cX3_newBuyer 21 = .ok (.getfield 9, 3) := dk_180 0 9 (dk_at dksX3_newBuyer_0 21 rfl rfl)
theorem dX3_newBuyer_24 : decode cX3_newBuyer 24 = .ok (.bipush 8, 2) := dk_16 8 (dk_at dksX3_newBuyer_1 0 rfl rfl)
theorem dX3_newBuyer_26 : decode cX3_newBuyer 26 = .ok (.aload_n 0, 1) := dk_42 (dk_at dksX3_newBuyer_1 2 rfl rfl)
theorem dX3_newBuyer_27 : decode cX3_newBuyer 27 = .ok (.getfield 116, 3) := dk_180 0 116 (dk_at dksX3_newBuyer_1 3 rfl rfl)
theorem dX3_newBuyer_30 : decode cX3_newBuyer 30 = .ok (.iadd, 1) := dk_96 (dk_at dksX3_newBuyer_1 6 rfl rfl)
theorem dX3_newBuyer_31 : decode cX3_newBuyer 31 = .ok (.iload_n 3, 1) := dk_29 (dk_at dksX3_newBuyer_1 7 rfl rfl)
theorem dX3_newBuyer_32 : decode cX3_newBuyer 32 = .ok (.iastore, 1) := dk_79 (dk_at dksX3_newBuyer_1 8 rfl rfl)
theorem dX3_newBuyer_33 : decode cX3_newBuyer 33 = .ok (.aload_n 0, 1) := dk_42 (dk_at dksX3_newBuyer_1 9 rfl rfl)
theorem dX3_newBuyer_34 : decode cX3_newBuyer 34 = .ok (.dup, 1) := dk_89 (dk_at dksX3_newBuyer_1 10 rfl rfl)
theorem dX3_newBuyer_35 : decode cX3_newBuyer 35 = .ok (.getfield 116, 3) := dk_180 0 116 (dk_at dksX3_newBuyer_1 11 rfl rfl)
theorem dX3_newBuyer_38 : decode cX3_newBuyer 38 = .ok (.dup_x1, 1) := dk_90 (dk_at dksX3_newBuyer_1 14 rfl rfl)
theorem dX3_newBuyer_39 : decode cX3_newBuyer 39 = .ok (.iconst 1, 1) := dk_4 (dk_at dksX3_newBuyer_1 15 rfl rfl)
theorem dX3_newBuyer_40 : decode cX3_newBuyer 40 = .ok (.iadd, 1) := dk_96 (dk_at dksX3_newBuyer_1 16 rfl rfl)
theorem dX3_newBuyer_41 : decode cX3_newBuyer 41 = .ok (.putfield 116, 3) := dk_181 0 116 (dk_at dksX3_newBuyer_1 17 rfl rfl)
theorem dX3_newBuyer_44 : decode cX3_newBuyer 44 = .ok (.ireturn, 1) := dk_172 (dk_at dksX3_newBuyer_1 20 rfl rfl)
def dkwX3_buyers_8 : List UInt8 := [182, 0, 123, 87, 132, 4, 1, 132, 5, 1, 167, 255, 105, 21, 4, 172]
abbrev dktX3_buyers_8 : List UInt8 := dkwX3_buyers_8 ++ []
def dkwX3_buyers_7 : List UInt8 := [21, 8, 182, 0, 133, 42, 27, 21, 8, 4, 96, 182, 0, 133, 42, 27, 21, 8, 5, 96, 182, 0, 133]
abbrev dktX3_buyers_7 : List UInt8 := dkwX3_buyers_7 ++ dktX3_buyers_8
def dkwX3_buyers_6 : List UInt8 := [42, 27, 21, 8, 5, 96, 182, 0, 133, 3, 16, 9, 184, 0, 119, 154, 0, 6, 21, 4, 172, 42, 42, 27]
abbrev dktX3_buyers_6 : List UInt8 := dkwX3_buyers_6 ++ dktX3_buyers_7
def dkwX3_buyers_5 : List UInt8 := [184, 0, 119, 153, 0, 39, 42, 27, 21, 8, 4, 96, 182, 0, 133, 3, 16, 9, 184, 0, 119, 153, 0, 21]
abbrev dktX3_buyers_5 : List UInt8 := dkwX3_buyers_5 ++ dktX3_buyers_6
def dkwX3_buyers_4 : List UInt8 := [16, 8, 160, 0, 6, 21, 4, 172, 22, 6, 136, 54, 8, 42, 27, 21, 8, 182, 0, 133, 3, 17, 3, 231]
abbrev dktX3_buyers_4 : List UInt8 := dkwX3_buyers_4 ++ dktX3_buyers_5
def dkwX3_buyers_3 : List UInt8 := [155, 0, 29, 22, 6, 20, 0, 131, 97, 42, 180, 0, 79, 27, 46, 133, 148, 157, 0, 12, 42, 180, 0, 116]
abbrev dktX3_buyers_3 : List UInt8 := dkwX3_buyers_3 ++ dktX3_buyers_4
def dkwX3_buyers_2 : List UInt8 := [54, 5, 21, 5, 29, 162, 0, 151, 28, 133, 20, 0, 131, 21, 5, 133, 105, 97, 55, 6, 22, 6, 9, 148]
abbrev dktX3_buyers_2 : List UInt8 := dkwX3_buyers_2 ++ dktX3_buyers_3
def dkwX3_buyers_1 : List UInt8 := [46, 2, 160, 0, 5, 3, 172, 42, 180, 0, 76, 27, 46, 4, 159, 0, 6, 16, 244, 172, 3, 54, 4, 3]
abbrev dktX3_buyers_1 : List UInt8 := dkwX3_buyers_1 ++ dktX3_buyers_2
def dkwX3_buyers_0 : List UInt8 := [27, 184, 0, 127, 153, 0, 13, 29, 4, 16, 8, 184, 0, 119, 154, 0, 5, 2, 172, 42, 180, 0, 76, 27]
abbrev dktX3_buyers_0 : List UInt8 := dkwX3_buyers_0 ++ dktX3_buyers_1
theorem dksX3_buyers_0 : cX3_buyers.data.toList.drop 0 = dktX3_buyers_0 := by decide +kernel
theorem dksX3_buyers_1 : cX3_buyers.data.toList.drop 24 = dktX3_buyers_1 := dk_seg dksX3_buyers_0 24 rfl rfl
theorem dksX3_buyers_2 : cX3_buyers.data.toList.drop 48 = dktX3_buyers_2 := dk_seg dksX3_buyers_1 24 rfl rfl
theorem dksX3_buyers_3 : cX3_buyers.data.toList.drop 72 = dktX3_buyers_3 := dk_seg dksX3_buyers_2 24 rfl rfl
theorem dksX3_buyers_4 : cX3_buyers.data.toList.drop 96 = dktX3_buyers_4 := dk_seg dksX3_buyers_3 24 rfl rfl
theorem dksX3_buyers_5 : cX3_buyers.data.toList.drop 120 = dktX3_buyers_5 := dk_seg dksX3_buyers_4 24 rfl rfl
theorem dksX3_buyers_6 : cX3_buyers.data.toList.drop 144 = dktX3_buyers_6 := dk_seg dksX3_buyers_5 24 rfl rfl
theorem dksX3_buyers_7 : cX3_buyers.data.toList.drop 168 = dktX3_buyers_7 := dk_seg dksX3_buyers_6 24 rfl rfl
theorem dksX3_buyers_8 : cX3_buyers.data.toList.drop 191 = dktX3_buyers_8 := dk_seg dksX3_buyers_7 23 rfl rfl
theorem dX3_buyers_0 : decode cX3_buyers 0 = .ok (.iload_n 1, 1) := dk_27 (dk_at dksX3_buyers_0 0 rfl rfl)
theorem dX3_buyers_1 : decode cX3_buyers 1 = .ok (.invokestatic 127, 3) := dk_184 0 127 (dk_at dksX3_buyers_0 1 rfl rfl)
theorem dX3_buyers_4 : decode cX3_buyers 4 = .ok (.ifCond .eq 13, 3) := dk_153 0 13 (dk_at dksX3_buyers_0 4 rfl rfl)
theorem dX3_buyers_7 : decode cX3_buyers 7 = .ok (.iload_n 3, 1) := dk_29 (dk_at dksX3_buyers_0 7 rfl rfl)
theorem dX3_buyers_8 : decode cX3_buyers 8 = .ok (.iconst 1, 1) := dk_4 (dk_at dksX3_buyers_0 8 rfl rfl)
theorem dX3_buyers_9 : decode cX3_buyers 9 = .ok (.bipush 8, 2) := dk_16 8 (dk_at dksX3_buyers_0 9 rfl rfl)
theorem dX3_buyers_11 : decode cX3_buyers 11 = .ok (.invokestatic 119, 3) := dk_184 0 119 (dk_at dksX3_buyers_0 11 rfl rfl)
theorem dX3_buyers_14 : decode cX3_buyers 14 = .ok (.ifCond .ne 5, 3) := dk_154 0 5 (dk_at dksX3_buyers_0 14 rfl rfl)
theorem dX3_buyers_17 : decode cX3_buyers 17 = .ok (.iconst (-1), 1) := dk_2 (dk_at dksX3_buyers_0 17 rfl rfl)
theorem dX3_buyers_18 : decode cX3_buyers 18 = .ok (.ireturn, 1) := dk_172 (dk_at dksX3_buyers_0 18 rfl rfl)
theorem dX3_buyers_19 : decode cX3_buyers 19 = .ok (.aload_n 0, 1) := dk_42 (dk_at dksX3_buyers_0 19 rfl rfl)
theorem dX3_buyers_20 : decode cX3_buyers 20 = .ok (.getfield 76, 3) := dk_180 0 76 (dk_at dksX3_buyers_0 20 rfl rfl)
theorem dX3_buyers_23 : decode cX3_buyers 23 = .ok (.iload_n 1, 1) := dk_27 (dk_at dksX3_buyers_0 23 rfl rfl)
theorem dX3_buyers_24 : decode cX3_buyers 24 = .ok (.iaload, 1) := dk_46 (dk_at dksX3_buyers_1 0 rfl rfl)
theorem dX3_buyers_25 : decode cX3_buyers 25 = .ok (.iconst (-1), 1) := dk_2 (dk_at dksX3_buyers_1 1 rfl rfl)
theorem dX3_buyers_26 : decode cX3_buyers 26 = .ok (.if_icmp .ne 5, 3) := dk_160 0 5 (dk_at dksX3_buyers_1 2 rfl rfl)
theorem dX3_buyers_29 : decode cX3_buyers 29 = .ok (.iconst 0, 1) := dk_3 (dk_at dksX3_buyers_1 5 rfl rfl)
theorem dX3_buyers_30 : decode cX3_buyers 30 = .ok (.ireturn, 1) := dk_172 (dk_at dksX3_buyers_1 6 rfl rfl)
theorem dX3_buyers_31 : decode cX3_buyers 31 = .ok (.aload_n 0, 1) := dk_42 (dk_at dksX3_buyers_1 7 rfl rfl)
theorem dX3_buyers_32 : decode cX3_buyers 32 = .ok (.getfield 76, 3) := dk_180 0 76 (dk_at dksX3_buyers_1 8 rfl rfl)
theorem dX3_buyers_35 : decode cX3_buyers 35 = .ok (.iload_n 1, 1) := dk_27 (dk_at dksX3_buyers_1 11 rfl rfl)
theorem dX3_buyers_36 : decode cX3_buyers 36 = .ok (.iaload, 1) := dk_46 (dk_at dksX3_buyers_1 12 rfl rfl)
theorem dX3_buyers_37 : decode cX3_buyers 37 = .ok (.iconst 1, 1) := dk_4 (dk_at dksX3_buyers_1 13 rfl rfl)
theorem dX3_buyers_38 : decode cX3_buyers 38 = .ok (.if_icmp .eq 6, 3) := dk_159 0 6 (dk_at dksX3_buyers_1 14 rfl rfl)
theorem dX3_buyers_41 : decode cX3_buyers 41 = .ok (.bipush (-12), 2) := dk_16 244 (dk_at dksX3_buyers_1 17 rfl rfl)
theorem dX3_buyers_43 : decode cX3_buyers 43 = .ok (.ireturn, 1) := dk_172 (dk_at dksX3_buyers_1 19 rfl rfl)
theorem dX3_buyers_44 : decode cX3_buyers 44 = .ok (.iconst 0, 1) := dk_3 (dk_at dksX3_buyers_1 20 rfl rfl)
theorem dX3_buyers_45 : decode cX3_buyers 45 = .ok (.istore 4, 2) := dk_54 4 (dk_at dksX3_buyers_1 21 rfl rfl)
theorem dX3_buyers_47 : decode cX3_buyers 47 = .ok (.iconst 0, 1) := dk_3 (dk_at dksX3_buyers_1 23 rfl rfl)
theorem dX3_buyers_48 : decode cX3_buyers 48 = .ok (.istore 5, 2) := dk_54 5 (dk_at dksX3_buyers_2 0 rfl rfl)
theorem dX3_buyers_50 : decode cX3_buyers 50 = .ok (.iload 5, 2) := dk_21 5 (dk_at dksX3_buyers_2 2 rfl rfl)
theorem dX3_buyers_52 : decode cX3_buyers 52 = .ok (.iload_n 3, 1) := dk_29 (dk_at dksX3_buyers_2 4 rfl rfl)
theorem dX3_buyers_53 : decode cX3_buyers 53 = .ok (.if_icmp .ge 151, 3) := dk_162 0 151 (dk_at dksX3_buyers_2 5 rfl rfl)
theorem dX3_buyers_56 : decode cX3_buyers 56 = .ok (.iload_n 2, 1) := dk_28 (dk_at dksX3_buyers_2 8 rfl rfl)
theorem dX3_buyers_57 : decode cX3_buyers 57 = .ok (.i2l, 1) := dk_133 (dk_at dksX3_buyers_2 9 rfl rfl)
theorem dX3_buyers_58 : decode cX3_buyers 58 = .ok (.ldc2_w 131, 3) := dk_20 0 131 (dk_at dksX3_buyers_2 10 rfl rfl)
theorem dX3_buyers_61 : decode cX3_buyers 61 = .ok (.iload 5, 2) := dk_21 5 (dk_at dksX3_buyers_2 13 rfl rfl)
theorem dX3_buyers_63 : decode cX3_buyers 63 = .ok (.i2l, 1) := dk_133 (dk_at dksX3_buyers_2 15 rfl rfl)
theorem dX3_buyers_64 : decode cX3_buyers 64 = .ok (.lmul, 1) := dk_105 (dk_at dksX3_buyers_2 16 rfl rfl)
theorem dX3_buyers_65 : decode cX3_buyers 65 = .ok (.ladd, 1) := dk_97 (dk_at dksX3_buyers_2 17 rfl rfl)
theorem dX3_buyers_66 : decode cX3_buyers 66 = .ok (.lstore 6, 2) := dk_55 6 (dk_at dksX3_buyers_2 18 rfl rfl)
theorem dX3_buyers_68 : decode cX3_buyers 68 = .ok (.lload 6, 2) := dk_22 6 (dk_at dksX3_buyers_2 20 rfl rfl)
theorem dX3_buyers_70 : decode cX3_buyers 70 = .ok (.lconst 0, 1) := dk_9 (dk_at dksX3_buyers_2 22 rfl rfl)
theorem dX3_buyers_71 : decode cX3_buyers 71 = .ok (.lcmp, 1) := dk_148 (dk_at dksX3_buyers_2 23 rfl rfl)
theorem dX3_buyers_72 : decode cX3_buyers 72 = .ok (.ifCond .lt 29, 3) := dk_155 0 29 (dk_at dksX3_buyers_3 0 rfl rfl)
theorem dX3_buyers_75 : decode cX3_buyers 75 = .ok (.lload 6, 2) := dk_22 6 (dk_at dksX3_buyers_3 3 rfl rfl)
theorem dX3_buyers_77 : decode cX3_buyers 77 = .ok (.ldc2_w 131, 3) := dk_20 0 131 (dk_at dksX3_buyers_3 5 rfl rfl)
theorem dX3_buyers_80 : decode cX3_buyers 80 = .ok (.ladd, 1) := dk_97 (dk_at dksX3_buyers_3 8 rfl rfl)
theorem dX3_buyers_81 : decode cX3_buyers 81 = .ok (.aload_n 0, 1) := dk_42 (dk_at dksX3_buyers_3 9 rfl rfl)
theorem dX3_buyers_82 : decode cX3_buyers 82 = .ok (.getfield 79, 3) := dk_180 0 79 (dk_at dksX3_buyers_3 10 rfl rfl)
theorem dX3_buyers_85 : decode cX3_buyers 85 = .ok (.iload_n 1, 1) := dk_27 (dk_at dksX3_buyers_3 13 rfl rfl)
theorem dX3_buyers_86 : decode cX3_buyers 86 = .ok (.iaload, 1) := dk_46 (dk_at dksX3_buyers_3 14 rfl rfl)
theorem dX3_buyers_87 : decode cX3_buyers 87 = .ok (.i2l, 1) := dk_133 (dk_at dksX3_buyers_3 15 rfl rfl)
theorem dX3_buyers_88 : decode cX3_buyers 88 = .ok (.lcmp, 1) := dk_148 (dk_at dksX3_buyers_3 16 rfl rfl)
theorem dX3_buyers_89 : decode cX3_buyers 89 = .ok (.ifCond .gt 12, 3) := dk_157 0 12 (dk_at dksX3_buyers_3 17 rfl rfl)
theorem dX3_buyers_92 : decode cX3_buyers 92 = .ok (.aload_n 0, 1) := dk_42 (dk_at dksX3_buyers_3 20 rfl rfl)
theorem dX3_buyers_93 : decode cX3_buyers 93 = .ok (.getfield 116, 3) := dk_180 0 116 (dk_at dksX3_buyers_3 21 rfl rfl)
theorem dX3_buyers_96 : decode cX3_buyers 96 = .ok (.bipush 8, 2) := dk_16 8 (dk_at dksX3_buyers_4 0 rfl rfl)
theorem dX3_buyers_98 : decode cX3_buyers 98 = .ok (.if_icmp .ne 6, 3) := dk_160 0 6 (dk_at dksX3_buyers_4 2 rfl rfl)
theorem dX3_buyers_101 : decode cX3_buyers 101 = .ok (.iload 4, 2) := dk_21 4 (dk_at dksX3_buyers_4 5 rfl rfl)
theorem dX3_buyers_103 : decode cX3_buyers 103 = .ok (.ireturn, 1) := dk_172 (dk_at dksX3_buyers_4 7 rfl rfl)
theorem dX3_buyers_104 : decode cX3_buyers 104 = .ok (.lload 6, 2) := dk_22 6 (dk_at dksX3_buyers_4 8 rfl rfl)
theorem dX3_buyers_106 : decode cX3_buyers 106 = .ok (.l2i, 1) := dk_136 (dk_at dksX3_buyers_4 10 rfl rfl)
theorem dX3_buyers_107 : decode cX3_buyers 107 = .ok (.istore 8, 2) := dk_54 8 (dk_at dksX3_buyers_4 11 rfl rfl)
theorem dX3_buyers_109 : decode cX3_buyers 109 = .ok (.aload_n 0, 1) := dk_42 (dk_at dksX3_buyers_4 13 rfl rfl)
theorem dX3_buyers_110 : decode cX3_buyers 110 = .ok (.iload_n 1, 1) := dk_27 (dk_at dksX3_buyers_4 14 rfl rfl)
theorem dX3_buyers_111 : decode cX3_buyers 111 = .ok (.iload 8, 2) := dk_21 8 (dk_at dksX3_buyers_4 15 rfl rfl)
theorem dX3_buyers_113 : decode cX3_buyers 113 = .ok (.invokevirtual 133, 3) := dk_182 0 133 (dk_at dksX3_buyers_4 17 rfl rfl)
theorem dX3_buyers_116 : decode cX3_buyers 116 = .ok (.iconst 0, 1) := dk_3 (dk_at dksX3_buyers_4 20 rfl rfl)
theorem dX3_buyers_117 : decode cX3_buyers 117 = .ok (.sipush 999, 3) := dk_17 3 231 (dk_at dksX3_buyers_4 21 rfl rfl)
theorem dX3_buyers_120 : decode cX3_buyers 120 = .ok (.invokestatic 119, 3) := dk_184 0 119 (dk_at dksX3_buyers_5 0 rfl rfl)
theorem dX3_buyers_123 : decode cX3_buyers 123 = .ok (.ifCond .eq 39, 3) := dk_153 0 39 (dk_at dksX3_buyers_5 3 rfl rfl)
theorem dX3_buyers_126 : decode cX3_buyers 126 = .ok (.aload_n 0, 1) := dk_42 (dk_at dksX3_buyers_5 6 rfl rfl)
theorem dX3_buyers_127 : decode cX3_buyers 127 = .ok (.iload_n 1, 1) := dk_27 (dk_at dksX3_buyers_5 7 rfl rfl)
theorem dX3_buyers_128 : decode cX3_buyers 128 = .ok (.iload 8, 2) := dk_21 8 (dk_at dksX3_buyers_5 8 rfl rfl)
theorem dX3_buyers_130 : decode cX3_buyers 130 = .ok (.iconst 1, 1) := dk_4 (dk_at dksX3_buyers_5 10 rfl rfl)
theorem dX3_buyers_131 : decode cX3_buyers 131 = .ok (.iadd, 1) := dk_96 (dk_at dksX3_buyers_5 11 rfl rfl)
theorem dX3_buyers_132 : decode cX3_buyers 132 = .ok (.invokevirtual 133, 3) := dk_182 0 133 (dk_at dksX3_buyers_5 12 rfl rfl)
theorem dX3_buyers_135 : decode cX3_buyers 135 = .ok (.iconst 0, 1) := dk_3 (dk_at dksX3_buyers_5 15 rfl rfl)
theorem dX3_buyers_136 : decode cX3_buyers 136 = .ok (.bipush 9, 2) := dk_16 9 (dk_at dksX3_buyers_5 16 rfl rfl)
theorem dX3_buyers_138 : decode cX3_buyers 138 = .ok (.invokestatic 119, 3) := dk_184 0 119 (dk_at dksX3_buyers_5 18 rfl rfl)
theorem dX3_buyers_141 : decode cX3_buyers 141 = .ok (.ifCond .eq 21, 3) := dk_153 0 21 (dk_at dksX3_buyers_5 21 rfl rfl)
theorem dX3_buyers_144 : decode cX3_buyers 144 = .ok (.aload_n 0, 1) := dk_42 (dk_at dksX3_buyers_6 0 rfl rfl)
theorem dX3_buyers_145 : decode cX3_buyers 145 = .ok (.iload_n 1, 1) := dk_27 (dk_at dksX3_buyers_6 1 rfl rfl)
theorem dX3_buyers_146 : decode cX3_buyers 146 = .ok (.iload 8, 2) := dk_21 8 (dk_at dksX3_buyers_6 2 rfl rfl)
theorem dX3_buyers_148 : decode cX3_buyers 148 = .ok (.iconst 2, 1) := dk_5 (dk_at dksX3_buyers_6 4 rfl rfl)
theorem dX3_buyers_149 : decode cX3_buyers 149 = .ok (.iadd, 1) := dk_96 (dk_at dksX3_buyers_6 5 rfl rfl)
theorem dX3_buyers_150 : decode cX3_buyers 150 = .ok (.invokevirtual 133, 3) := dk_182 0 133 (dk_at dksX3_buyers_6 6 rfl rfl)
theorem dX3_buyers_153 : decode cX3_buyers 153 = .ok (.iconst 0, 1) := dk_3 (dk_at dksX3_buyers_6 9 rfl rfl)
theorem dX3_buyers_154 : decode cX3_buyers 154 = .ok (.bipush 9, 2) := dk_16 9 (dk_at dksX3_buyers_6 10 rfl rfl)
theorem dX3_buyers_156 : decode cX3_buyers 156 = .ok (.invokestatic 119, 3) := dk_184 0 119 (dk_at dksX3_buyers_6 12 rfl rfl)
theorem dX3_buyers_159 : decode cX3_buyers 159 = .ok (.ifCond .ne 6, 3) := dk_154 0 6 (dk_at dksX3_buyers_6 15 rfl rfl)
theorem dX3_buyers_162 : decode cX3_buyers 162 = .ok (.iload 4, 2) := dk_21 4 (dk_at dksX3_buyers_6 18 rfl rfl)
theorem dX3_buyers_164 : decode cX3_buyers 164 = .ok (.ireturn, 1) := dk_172 (dk_at dksX3_buyers_6 20 rfl rfl)
theorem dX3_buyers_165 : decode cX3_buyers 165 = .ok (.aload_n 0, 1) := dk_42 (dk_at dksX3_buyers_6 21 rfl rfl)
theorem dX3_buyers_166 : decode cX3_buyers 166 = .ok (.aload_n 0, 1) := dk_42 (dk_at dksX3_buyers_6 22 rfl rfl)
theorem dX3_buyers_167 : decode cX3_buyers 167 = .ok (.iload_n 1, 1) := dk_27 (dk_at dksX3_buyers_6 23 rfl rfl)
theorem dX3_buyers_168 : decode cX3_buyers 168 = .ok (.iload 8, 2) := dk_21 8 (dk_at dksX3_buyers_7 0 rfl rfl)
theorem dX3_buyers_170 : decode cX3_buyers 170 = .ok (.invokevirtual 133, 3) := dk_182 0 133 (dk_at dksX3_buyers_7 2 rfl rfl)
theorem dX3_buyers_173 : decode cX3_buyers 173 = .ok (.aload_n 0, 1) := dk_42 (dk_at dksX3_buyers_7 5 rfl rfl)
theorem dX3_buyers_174 : decode cX3_buyers 174 = .ok (.iload_n 1, 1) := dk_27 (dk_at dksX3_buyers_7 6 rfl rfl)
theorem dX3_buyers_175 : decode cX3_buyers 175 = .ok (.iload 8, 2) := dk_21 8 (dk_at dksX3_buyers_7 7 rfl rfl)
theorem dX3_buyers_177 : decode cX3_buyers 177 = .ok (.iconst 1, 1) := dk_4 (dk_at dksX3_buyers_7 9 rfl rfl)
theorem dX3_buyers_178 : decode cX3_buyers 178 = .ok (.iadd, 1) := dk_96 (dk_at dksX3_buyers_7 10 rfl rfl)
theorem dX3_buyers_179 : decode cX3_buyers 179 = .ok (.invokevirtual 133, 3) := dk_182 0 133 (dk_at dksX3_buyers_7 11 rfl rfl)
theorem dX3_buyers_182 : decode cX3_buyers 182 = .ok (.aload_n 0, 1) := dk_42 (dk_at dksX3_buyers_7 14 rfl rfl)
theorem dX3_buyers_183 : decode cX3_buyers 183 = .ok (.iload_n 1, 1) := dk_27 (dk_at dksX3_buyers_7 15 rfl rfl)
theorem dX3_buyers_184 : decode cX3_buyers 184 = .ok (.iload 8, 2) := dk_21 8 (dk_at dksX3_buyers_7 16 rfl rfl)
theorem dX3_buyers_186 : decode cX3_buyers 186 = .ok (.iconst 2, 1) := dk_5 (dk_at dksX3_buyers_7 18 rfl rfl)
theorem dX3_buyers_187 : decode cX3_buyers 187 = .ok (.iadd, 1) := dk_96 (dk_at dksX3_buyers_7 19 rfl rfl)
theorem dX3_buyers_188 : decode cX3_buyers 188 = .ok (.invokevirtual 133, 3) := dk_182 0 133 (dk_at dksX3_buyers_7 20 rfl rfl)
theorem dX3_buyers_191 : decode cX3_buyers 191 = .ok (.invokevirtual 123, 3) := dk_182 0 123 (dk_at dksX3_buyers_8 0 rfl rfl)
theorem dX3_buyers_194 : decode cX3_buyers 194 = .ok (.pop, 1) := dk_87 (dk_at dksX3_buyers_8 3 rfl rfl)
theorem dX3_buyers_195 : decode cX3_buyers 195 = .ok (.iinc 4 1, 3) := dk_132 4 1 (dk_at dksX3_buyers_8 4 rfl rfl)
theorem dX3_buyers_198 : decode cX3_buyers 198 = .ok (.iinc 5 1, 3) := dk_132 5 1 (dk_at dksX3_buyers_8 7 rfl rfl)
theorem dX3_buyers_201 : decode cX3_buyers 201 = .ok (.goto (-151), 3) := dk_167 255 105 (dk_at dksX3_buyers_8 10 rfl rfl)
theorem dX3_buyers_204 : decode cX3_buyers 204 = .ok (.iload 4, 2) := dk_21 4 (dk_at dksX3_buyers_8 13 rfl rfl)
theorem dX3_buyers_206 : decode cX3_buyers 206 = .ok (.ireturn, 1) := dk_172 (dk_at dksX3_buyers_8 15 rfl rfl)
def dkwX3_isShelf_0 : List UInt8 := [26, 3, 8, 184, 0, 119, 172]
abbrev dktX3_isShelf_0 : List UInt8 := dkwX3_isShelf_0 ++ []
theorem dksX3_isShelf_0 : cX3_isShelf.data.toList.drop 0 = dktX3_isShelf_0 := by decide +kernel
theorem dX3_isShelf_0 : decode cX3_isShelf 0 = .ok (.iload_n 0, 1) := dk_26 (dk_at dksX3_isShelf_0 0 rfl rfl)
theorem dX3_isShelf_1 : decode cX3_isShelf 1 = .ok (.iconst 0, 1) := dk_3 (dk_at dksX3_isShelf_0 1 rfl rfl)
theorem dX3_isShelf_2 : decode cX3_isShelf 2 = .ok (.iconst 5, 1) := dk_8 (dk_at dksX3_isShelf_0 2 rfl rfl)
theorem dX3_isShelf_3 : decode cX3_isShelf 3 = .ok (.invokestatic 119, 3) := dk_184 0 119 (dk_at dksX3_isShelf_0 3 rfl rfl)
theorem dX3_isShelf_6 : decode cX3_isShelf 6 = .ok (.ireturn, 1) := dk_172 (dk_at dksX3_isShelf_0 6 rfl rfl)
def dkwX3_toldAt_0 : List UInt8 := [42, 180, 0, 82, 16, 60, 27, 104, 28, 96, 47, 136, 172]
abbrev dktX3_toldAt_0 : List UInt8 := dkwX3_toldAt_0 ++ []
theorem dksX3_toldAt_0 : cX3_toldAt.data.toList.drop 0 = dktX3_toldAt_0 := by decide +kernel
theorem dX3_toldAt_0 : decode cX3_toldAt 0 = .ok (.aload_n 0, 1) := dk_42 (dk_at dksX3_toldAt_0 0 rfl rfl)
theorem dX3_toldAt_1 : decode cX3_toldAt 1 = .ok (.getfield 82, 3) := dk_180 0 82 (dk_at dksX3_toldAt_0 1 rfl rfl)
theorem dX3_toldAt_4 : decode cX3_toldAt 4 = .ok (.bipush 60, 2) := dk_16 60 (dk_at dksX3_toldAt_0 4 rfl rfl)
theorem dX3_toldAt_6 : decode cX3_toldAt 6 = .ok (.iload_n 1, 1) := dk_27 (dk_at dksX3_toldAt_0 6 rfl rfl)
theorem dX3_toldAt_7 : decode cX3_toldAt 7 = .ok (.imul, 1) := dk_104 (dk_at dksX3_toldAt_0 7 rfl rfl)
theorem dX3_toldAt_8 : decode cX3_toldAt 8 = .ok (.iload_n 2, 1) := dk_28 (dk_at dksX3_toldAt_0 8 rfl rfl)
theorem dX3_toldAt_9 : decode cX3_toldAt 9 = .ok (.iadd, 1) := dk_96 (dk_at dksX3_toldAt_0 9 rfl rfl)
theorem dX3_toldAt_10 : decode cX3_toldAt 10 = .ok (.laload, 1) := dk_47 (dk_at dksX3_toldAt_0 10 rfl rfl)
theorem dX3_toldAt_11 : decode cX3_toldAt 11 = .ok (.l2i, 1) := dk_136 (dk_at dksX3_toldAt_0 11 rfl rfl)
theorem dX3_toldAt_12 : decode cX3_toldAt 12 = .ok (.ireturn, 1) := dk_172 (dk_at dksX3_toldAt_0 12 rfl rfl)
def dkwX3_mend_7 : List UInt8 := [42, 180, 0, 154, 181, 0, 157, 21, 4, 172]
abbrev dktX3_mend_7 : List UInt8 := dkwX3_mend_7 ++ []
def dkwX3_mend_6 : List UInt8 := [180, 0, 67, 7, 42, 180, 0, 154, 104, 6, 96, 29, 79, 42, 89, 180, 0, 154, 4, 96, 181, 0, 154, 42]
abbrev dktX3_mend_6 : List UInt8 := dkwX3_mend_6 ++ dktX3_mend_7
def dkwX3_mend_5 : List UInt8 := [180, 0, 154, 104, 4, 96, 28, 79, 42, 180, 0, 67, 7, 42, 180, 0, 154, 104, 5, 96, 21, 4, 79, 42]
abbrev dktX3_mend_5 : List UInt8 := dkwX3_mend_5 ++ dktX3_mend_6
def dkwX3_mend_4 : List UInt8 := [100, 181, 0, 154, 42, 180, 0, 67, 7, 42, 180, 0, 154, 104, 27, 79, 42, 180, 0, 67, 7, 42]
abbrev dktX3_mend_4 : List UInt8 := dkwX3_mend_4 ++ dktX3_mend_5
def dkwX3_mend_3 : List UInt8 := [21, 5, 42, 180, 0, 67, 21, 5, 7, 96, 46, 79, 132, 5, 1, 167, 255, 229, 42, 89, 180, 0, 154, 4]
abbrev dktX3_mend_3 : List UInt8 := dkwX3_mend_3 ++ dktX3_mend_4
def dkwX3_mend_2 : List UInt8 := [180, 0, 154, 16, 40, 160, 0, 46, 3, 54, 5, 21, 5, 17, 0, 156, 162, 0, 25, 42, 180, 0, 67]
abbrev dktX3_mend_2 : List UInt8 := dkwX3_mend_2 ++ dktX3_mend_3
def dkwX3_mend_1 : List UInt8 := [182, 0, 147, 54, 4, 21, 4, 29, 160, 0, 6, 21, 4, 172, 42, 27, 28, 29, 182, 0, 150, 42]
abbrev dktX3_mend_1 : List UInt8 := dkwX3_mend_1 ++ dktX3_mend_2
def dkwX3_mend_0 : List UInt8 := [42, 27, 28, 182, 0, 140, 153, 0, 11, 28, 29, 184, 0, 144, 154, 0, 5, 2, 172, 42, 27, 28]
abbrev dktX3_mend_0 : List UInt8 := dkwX3_mend_0 ++ dktX3_mend_1
theorem dksX3_mend_0 : cX3_mend.data.toList.drop 0 = dktX3_mend_0 := by decide +kernel
theorem dksX3_mend_1 : cX3_mend.data.toList.drop 22 = dktX3_mend_1 := dk_seg dksX3_mend_0 22 rfl rfl
theorem dksX3_mend_2 : cX3_mend.data.toList.drop 44 = dktX3_mend_2 := dk_seg dksX3_mend_1 22 rfl rfl
theorem dksX3_mend_3 : cX3_mend.data.toList.drop 67 = dktX3_mend_3 := dk_seg dksX3_mend_2 23 rfl rfl
theorem dksX3_mend_4 : cX3_mend.data.toList.drop 91 = dktX3_mend_4 := dk_seg dksX3_mend_3 24 rfl rfl
theorem dksX3_mend_5 : cX3_mend.data.toList.drop 113 = dktX3_mend_5 := dk_seg dksX3_mend_4 22 rfl rfl
theorem dksX3_mend_6 : cX3_mend.data.toList.drop 137 = dktX3_mend_6 := dk_seg dksX3_mend_5 24 rfl rfl
theorem dksX3_mend_7 : cX3_mend.data.toList.drop 161 = dktX3_mend_7 := dk_seg dksX3_mend_6 24 rfl rfl
theorem dX3_mend_0 : decode cX3_mend 0 = .ok (.aload_n 0, 1) := dk_42 (dk_at dksX3_mend_0 0 rfl rfl)
theorem dX3_mend_1 : decode cX3_mend 1 = .ok (.iload_n 1, 1) := dk_27 (dk_at dksX3_mend_0 1 rfl rfl)
theorem dX3_mend_2 : decode cX3_mend 2 = .ok (.iload_n 2, 1) := dk_28 (dk_at dksX3_mend_0 2 rfl rfl)
theorem dX3_mend_3 : decode cX3_mend 3 = .ok (.invokevirtual 140, 3) := dk_182 0 140 (dk_at dksX3_mend_0 3 rfl rfl)
theorem dX3_mend_6 : decode cX3_mend 6 = .ok (.ifCond .eq 11, 3) := dk_153 0 11 (dk_at dksX3_mend_0 6 rfl rfl)
theorem dX3_mend_9 : decode cX3_mend 9 = .ok (.iload_n 2, 1) := dk_28 (dk_at dksX3_mend_0 9 rfl rfl)
theorem dX3_mend_10 : decode cX3_mend 10 = .ok (.iload_n 3, 1) := dk_29 (dk_at dksX3_mend_0 10 rfl rfl)
theorem dX3_mend_11 : decode cX3_mend 11 = .ok (.invokestatic 144, 3) := dk_184 0 144 (dk_at dksX3_mend_0 11 rfl rfl)
theorem dX3_mend_14 : decode cX3_mend 14 = .ok (.ifCond .ne 5, 3) := dk_154 0 5 (dk_at dksX3_mend_0 14 rfl rfl)
theorem dX3_mend_17 : decode cX3_mend 17 = .ok (.iconst (-1), 1) := dk_2 (dk_at dksX3_mend_0 17 rfl rfl)
theorem dX3_mend_18 : decode cX3_mend 18 = .ok (.ireturn, 1) := dk_172 (dk_at dksX3_mend_0 18 rfl rfl)
theorem dX3_mend_19 : decode cX3_mend 19 = .ok (.aload_n 0, 1) := dk_42 (dk_at dksX3_mend_0 19 rfl rfl)
theorem dX3_mend_20 : decode cX3_mend 20 = .ok (.iload_n 1, 1) := dk_27 (dk_at dksX3_mend_0 20 rfl rfl)
theorem dX3_mend_21 : decode cX3_mend 21 = .ok (.iload_n 2, 1) := dk_28 (dk_at dksX3_mend_0 21 rfl rfl)
theorem dX3_mend_22 : decode cX3_mend 22 = .ok (.invokevirtual 147, 3) := dk_182 0 147 (dk_at dksX3_mend_1 0 rfl rfl)
theorem dX3_mend_25 : decode cX3_mend 25 = .ok (.istore 4, 2) := dk_54 4 (dk_at dksX3_mend_1 3 rfl rfl)
theorem dX3_mend_27 : decode cX3_mend 27 = .ok (.iload 4, 2) := dk_21 4 (dk_at dksX3_mend_1 5 rfl rfl)
theorem dX3_mend_29 : decode cX3_mend 29 = .ok (.iload_n 3, 1) := dk_29 (dk_at dksX3_mend_1 7 rfl rfl)
theorem dX3_mend_30 : decode cX3_mend 30 = .ok (.if_icmp .ne 6, 3) := dk_160 0 6 (dk_at dksX3_mend_1 8 rfl rfl)
theorem dX3_mend_33 : decode cX3_mend 33 = .ok (.iload 4, 2) := dk_21 4 (dk_at dksX3_mend_1 11 rfl rfl)
theorem dX3_mend_35 : decode cX3_mend 35 = .ok (.ireturn, 1) := dk_172 (dk_at dksX3_mend_1 13 rfl rfl)
theorem dX3_mend_36 : decode cX3_mend 36 = .ok (.aload_n 0, 1) := dk_42 (dk_at dksX3_mend_1 14 rfl rfl)
theorem dX3_mend_37 : decode cX3_mend 37 = .ok (.iload_n 1, 1) := dk_27 (dk_at dksX3_mend_1 15 rfl rfl)
theorem dX3_mend_38 : decode cX3_mend 38 = .ok (.iload_n 2, 1) := dk_28 (dk_at dksX3_mend_1 16 rfl rfl)
theorem dX3_mend_39 : decode cX3_mend 39 = .ok (.iload_n 3, 1) := dk_29 (dk_at dksX3_mend_1 17 rfl rfl)
theorem dX3_mend_40 : decode cX3_mend 40 = .ok (.invokevirtual 150, 3) := dk_182 0 150 (dk_at dksX3_mend_1 18 rfl rfl)
theorem dX3_mend_43 : decode cX3_mend 43 = .ok (.aload_n 0, 1) := dk_42 (dk_at dksX3_mend_1 21 rfl rfl)
theorem dX3_mend_44 : decode cX3_mend 44 = .ok (.getfield 154, 3) := dk_180 0 154 (dk_at dksX3_mend_2 0 rfl rfl)
theorem dX3_mend_47 : decode cX3_mend 47 = .ok (.bipush 40, 2) := dk_16 40 (dk_at dksX3_mend_2 3 rfl rfl)
theorem dX3_mend_49 : decode cX3_mend 49 = .ok (.if_icmp .ne 46, 3) := dk_160 0 46 (dk_at dksX3_mend_2 5 rfl rfl)
theorem dX3_mend_52 : decode cX3_mend 52 = .ok (.iconst 0, 1) := dk_3 (dk_at dksX3_mend_2 8 rfl rfl)
theorem dX3_mend_53 : decode cX3_mend 53 = .ok (.istore 5, 2) := dk_54 5 (dk_at dksX3_mend_2 9 rfl rfl)
theorem dX3_mend_55 : decode cX3_mend 55 = .ok (.iload 5, 2) := dk_21 5 (dk_at dksX3_mend_2 11 rfl rfl)
theorem dX3_mend_57 : decode cX3_mend 57 = .ok (.sipush 156, 3) := dk_17 0 156 (dk_at dksX3_mend_2 13 rfl rfl)
theorem dX3_mend_60 : decode cX3_mend 60 = .ok (.if_icmp .ge 25, 3) := dk_162 0 25 (dk_at dksX3_mend_2 16 rfl rfl)
theorem dX3_mend_63 : decode cX3_mend 63 = .ok (.aload_n 0, 1) := dk_42 (dk_at dksX3_mend_2 19 rfl rfl)
theorem dX3_mend_64 : decode cX3_mend 64 = .ok (.getfield 67, 3) := dk_180 0 67 (dk_at dksX3_mend_2 20 rfl rfl)
theorem dX3_mend_67 : decode cX3_mend 67 = .ok (.iload 5, 2) := dk_21 5 (dk_at dksX3_mend_3 0 rfl rfl)
theorem dX3_mend_69 : decode cX3_mend 69 = .ok (.aload_n 0, 1) := dk_42 (dk_at dksX3_mend_3 2 rfl rfl)
theorem dX3_mend_70 : decode cX3_mend 70 = .ok (.getfield 67, 3) := dk_180 0 67 (dk_at dksX3_mend_3 3 rfl rfl)
theorem dX3_mend_73 : decode cX3_mend 73 = .ok (.iload 5, 2) := dk_21 5 (dk_at dksX3_mend_3 6 rfl rfl)
theorem dX3_mend_75 : decode cX3_mend 75 = .ok (.iconst 4, 1) := dk_7 (dk_at dksX3_mend_3 8 rfl rfl)
theorem dX3_mend_76 : decode cX3_mend 76 = .ok (.iadd, 1) := dk_96 (dk_at dksX3_mend_3 9 rfl rfl)
theorem dX3_mend_77 : decode cX3_mend 77 = .ok (.iaload, 1) := dk_46 (dk_at dksX3_mend_3 10 rfl rfl)
theorem dX3_mend_78 : decode cX3_mend 78 = .ok (.iastore, 1) := dk_79 (dk_at dksX3_mend_3 11 rfl rfl)
theorem dX3_mend_79 : decode cX3_mend 79 = .ok (.iinc 5 1, 3) := dk_132 5 1 (dk_at dksX3_mend_3 12 rfl rfl)
theorem dX3_mend_82 : decode cX3_mend 82 = .ok (.goto (-27), 3) := dk_167 255 229 (dk_at dksX3_mend_3 15 rfl rfl)
theorem dX3_mend_85 : decode cX3_mend 85 = .ok (.aload_n 0, 1) := dk_42 (dk_at dksX3_mend_3 18 rfl rfl)
theorem dX3_mend_86 : decode cX3_mend 86 = .ok (.dup, 1) := dk_89 (dk_at dksX3_mend_3 19 rfl rfl)
theorem dX3_mend_87 : decode cX3_mend 87 = .ok (.getfield 154, 3) := dk_180 0 154 (dk_at dksX3_mend_3 20 rfl rfl)
theorem dX3_mend_90 : decode cX3_mend 90 = .ok (.iconst 1, 1) := dk_4 (dk_at dksX3_mend_3 23 rfl rfl)
theorem dX3_mend_91 : decode cX3_mend 91 = .ok (.isub, 1) := dk_100 (dk_at dksX3_mend_4 0 rfl rfl)
theorem dX3_mend_92 : decode cX3_mend 92 = .ok (.putfield 154, 3) := dk_181 0 154 (dk_at dksX3_mend_4 1 rfl rfl)
theorem dX3_mend_95 : decode cX3_mend 95 = .ok (.aload_n 0, 1) := dk_42 (dk_at dksX3_mend_4 4 rfl rfl)
theorem dX3_mend_96 : decode cX3_mend 96 = .ok (.getfield 67, 3) := dk_180 0 67 (dk_at dksX3_mend_4 5 rfl rfl)
theorem dX3_mend_99 : decode cX3_mend 99 = .ok (.iconst 4, 1) := dk_7 (dk_at dksX3_mend_4 8 rfl rfl)
theorem dX3_mend_100 : decode cX3_mend 100 = .ok (.aload_n 0, 1) := dk_42 (dk_at dksX3_mend_4 9 rfl rfl)
theorem dX3_mend_101 : decode cX3_mend 101 = .ok (.getfield 154, 3) := dk_180 0 154 (dk_at dksX3_mend_4 10 rfl rfl)
theorem dX3_mend_104 : decode cX3_mend 104 = .ok (.imul, 1) := dk_104 (dk_at dksX3_mend_4 13 rfl rfl)
theorem dX3_mend_105 : decode cX3_mend 105 = .ok (.iload_n 1, 1) := dk_27 (dk_at dksX3_mend_4 14 rfl rfl)
theorem dX3_mend_106 : decode cX3_mend 106 = .ok (.iastore, 1) := dk_79 (dk_at dksX3_mend_4 15 rfl rfl)
theorem dX3_mend_107 : decode cX3_mend 107 = .ok (.aload_n 0, 1) := dk_42 (dk_at dksX3_mend_4 16 rfl rfl)
theorem dX3_mend_108 : decode cX3_mend 108 = .ok (.getfield 67, 3) := dk_180 0 67 (dk_at dksX3_mend_4 17 rfl rfl)
theorem dX3_mend_111 : decode cX3_mend 111 = .ok (.iconst 4, 1) := dk_7 (dk_at dksX3_mend_4 20 rfl rfl)
theorem dX3_mend_112 : decode cX3_mend 112 = .ok (.aload_n 0, 1) := dk_42 (dk_at dksX3_mend_4 21 rfl rfl)
theorem dX3_mend_113 : decode cX3_mend 113 = .ok (.getfield 154, 3) := dk_180 0 154 (dk_at dksX3_mend_5 0 rfl rfl)
theorem dX3_mend_116 : decode cX3_mend 116 = .ok (.imul, 1) := dk_104 (dk_at dksX3_mend_5 3 rfl rfl)
theorem dX3_mend_117 : decode cX3_mend 117 = .ok (.iconst 1, 1) := dk_4 (dk_at dksX3_mend_5 4 rfl rfl)
theorem dX3_mend_118 : decode cX3_mend 118 = .ok (.iadd, 1) := dk_96 (dk_at dksX3_mend_5 5 rfl rfl)
theorem dX3_mend_119 : decode cX3_mend 119 = .ok (.iload_n 2, 1) := dk_28 (dk_at dksX3_mend_5 6 rfl rfl)
theorem dX3_mend_120 : decode cX3_mend 120 = .ok (.iastore, 1) := dk_79 (dk_at dksX3_mend_5 7 rfl rfl)
theorem dX3_mend_121 : decode cX3_mend 121 = .ok (.aload_n 0, 1) := dk_42 (dk_at dksX3_mend_5 8 rfl rfl)
theorem dX3_mend_122 : decode cX3_mend 122 = .ok (.getfield 67, 3) := dk_180 0 67 (dk_at dksX3_mend_5 9 rfl rfl)
theorem dX3_mend_125 : decode cX3_mend 125 = .ok (.iconst 4, 1) := dk_7 (dk_at dksX3_mend_5 12 rfl rfl)
theorem dX3_mend_126 : decode cX3_mend 126 = .ok (.aload_n 0, 1) := dk_42 (dk_at dksX3_mend_5 13 rfl rfl)
theorem dX3_mend_127 : decode cX3_mend 127 = .ok (.getfield 154, 3) := dk_180 0 154 (dk_at dksX3_mend_5 14 rfl rfl)
theorem dX3_mend_130 : decode cX3_mend 130 = .ok (.imul, 1) := dk_104 (dk_at dksX3_mend_5 17 rfl rfl)
theorem dX3_mend_131 : decode cX3_mend 131 = .ok (.iconst 2, 1) := dk_5 (dk_at dksX3_mend_5 18 rfl rfl)
theorem dX3_mend_132 : decode cX3_mend 132 = .ok (.iadd, 1) := dk_96 (dk_at dksX3_mend_5 19 rfl rfl)
theorem dX3_mend_133 : decode cX3_mend 133 = .ok (.iload 4, 2) := dk_21 4 (dk_at dksX3_mend_5 20 rfl rfl)
theorem dX3_mend_135 : decode cX3_mend 135 = .ok (.iastore, 1) := dk_79 (dk_at dksX3_mend_5 22 rfl rfl)
theorem dX3_mend_136 : decode cX3_mend 136 = .ok (.aload_n 0, 1) := dk_42 (dk_at dksX3_mend_5 23 rfl rfl)
theorem dX3_mend_137 : decode cX3_mend 137 = .ok (.getfield 67, 3) := dk_180 0 67 (dk_at dksX3_mend_6 0 rfl rfl)
theorem dX3_mend_140 : decode cX3_mend 140 = .ok (.iconst 4, 1) := dk_7 (dk_at dksX3_mend_6 3 rfl rfl)
theorem dX3_mend_141 : decode cX3_mend 141 = .ok (.aload_n 0, 1) := dk_42 (dk_at dksX3_mend_6 4 rfl rfl)
theorem dX3_mend_142 : decode cX3_mend 142 = .ok (.getfield 154, 3) := dk_180 0 154 (dk_at dksX3_mend_6 5 rfl rfl)
theorem dX3_mend_145 : decode cX3_mend 145 = .ok (.imul, 1) := dk_104 (dk_at dksX3_mend_6 8 rfl rfl)
theorem dX3_mend_146 : decode cX3_mend 146 = .ok (.iconst 3, 1) := dk_6 (dk_at dksX3_mend_6 9 rfl rfl)
theorem dX3_mend_147 : decode cX3_mend 147 = .ok (.iadd, 1) := dk_96 (dk_at dksX3_mend_6 10 rfl rfl)
theorem dX3_mend_148 : decode cX3_mend 148 = .ok (.iload_n 3, 1) := dk_29 (dk_at dksX3_mend_6 11 rfl rfl)
theorem dX3_mend_149 : decode cX3_mend 149 = .ok (.iastore, 1) := dk_79 (dk_at dksX3_mend_6 12 rfl rfl)
theorem dX3_mend_150 : decode cX3_mend 150 = .ok (.aload_n 0, 1) := dk_42 (dk_at dksX3_mend_6 13 rfl rfl)
theorem dX3_mend_151 : decode cX3_mend 151 = .ok (.dup, 1) := dk_89 (dk_at dksX3_mend_6 14 rfl rfl)
theorem dX3_mend_152 : decode cX3_mend 152 = .ok (.getfield 154, 3) := dk_180 0 154 (dk_at dksX3_mend_6 15 rfl rfl)
theorem dX3_mend_155 : decode cX3_mend 155 = .ok (.iconst 1, 1) := dk_4 (dk_at dksX3_mend_6 18 rfl rfl)
theorem dX3_mend_156 : decode cX3_mend 156 = .ok (.iadd, 1) := dk_96 (dk_at dksX3_mend_6 19 rfl rfl)
theorem dX3_mend_157 : decode cX3_mend 157 = .ok (.putfield 154, 3) := dk_181 0 154 (dk_at dksX3_mend_6 20 rfl rfl)
theorem dX3_mend_160 : decode cX3_mend 160 = .ok (.aload_n 0, 1) := dk_42 (dk_at dksX3_mend_6 23 rfl rfl)
theorem dX3_mend_161 : decode cX3_mend 161 = .ok (.aload_n 0, 1) := dk_42 (dk_at dksX3_mend_7 0 rfl rfl)
theorem dX3_mend_162 : decode cX3_mend 162 = .ok (.getfield 154, 3) := dk_180 0 154 (dk_at dksX3_mend_7 1 rfl rfl)
theorem dX3_mend_165 : decode cX3_mend 165 = .ok (.putfield 157, 3) := dk_181 0 157 (dk_at dksX3_mend_7 4 rfl rfl)
theorem dX3_mend_168 : decode cX3_mend 168 = .ok (.iload 4, 2) := dk_21 4 (dk_at dksX3_mend_7 7 rfl rfl)
theorem dX3_mend_170 : decode cX3_mend 170 = .ok (.ireturn, 1) := dk_172 (dk_at dksX3_mend_7 9 rfl rfl)
def dkwX3_isOf_1 : List UInt8 := [153, 0, 11, 27, 154, 0, 7, 4, 167, 0, 4, 3, 172]
abbrev dktX3_isOf_1 : List UInt8 := dkwX3_isOf_1 ++ []
def dkwX3_isOf_0 : List UInt8 := [28, 3, 6, 184, 0, 119, 153, 0, 11, 42, 27, 182, 0, 137, 167, 0, 22, 28, 7, 16, 6, 184, 0, 119]
abbrev dktX3_isOf_0 : List UInt8 := dkwX3_isOf_0 ++ dktX3_isOf_1
theorem dksX3_isOf_0 : cX3_isOf.data.toList.drop 0 = dktX3_isOf_0 := by decide +kernel
theorem dksX3_isOf_1 : cX3_isOf.data.toList.drop 24 = dktX3_isOf_1 := dk_seg dksX3_isOf_0 24 rfl rfl
theorem dX3_isOf_0 : decode cX3_isOf 0 = .ok (.iload_n 2, 1) := dk_28 (dk_at dksX3_isOf_0 0 rfl rfl)
theorem dX3_isOf_1 : decode cX3_isOf 1 = .ok (.iconst 0, 1) := dk_3 (dk_at dksX3_isOf_0 1 rfl rfl)
theorem dX3_isOf_2 : decode cX3_isOf 2 = .ok (.iconst 3, 1) := dk_6 (dk_at dksX3_isOf_0 2 rfl rfl)
theorem dX3_isOf_3 : decode cX3_isOf 3 = .ok (.invokestatic 119, 3) := dk_184 0 119 (dk_at dksX3_isOf_0 3 rfl rfl)
theorem dX3_isOf_6 : decode cX3_isOf 6 = .ok (.ifCond .eq 11, 3) := dk_153 0 11 (dk_at dksX3_isOf_0 6 rfl rfl)
theorem dX3_isOf_9 : decode cX3_isOf 9 = .ok (.aload_n 0, 1) := dk_42 (dk_at dksX3_isOf_0 9 rfl rfl)
theorem dX3_isOf_10 : decode cX3_isOf 10 = .ok (.iload_n 1, 1) := dk_27 (dk_at dksX3_isOf_0 10 rfl rfl)
theorem dX3_isOf_11 : decode cX3_isOf 11 = .ok (.invokevirtual 137, 3) := dk_182 0 137 (dk_at dksX3_isOf_0 11 rfl rfl)
theorem dX3_isOf_14 : decode cX3_isOf 14 = .ok (.goto 22, 3) := dk_167 0 22 (dk_at dksX3_isOf_0 14 rfl rfl)
theorem dX3_isOf_17 : decode cX3_isOf 17 = .ok (.iload_n 2, 1) := dk_28 (dk_at dksX3_isOf_0 17 rfl rfl)
theorem dX3_isOf_18 : decode cX3_isOf 18 = .ok (.iconst 4, 1) := dk_7 (dk_at dksX3_isOf_0 18 rfl rfl)
theorem dX3_isOf_19 : decode cX3_isOf 19 = .ok (.bipush 6, 2) := dk_16 6 (dk_at dksX3_isOf_0 19 rfl rfl)
theorem dX3_isOf_21 : decode cX3_isOf 21 = .ok (.invokestatic 119, 3) := dk_184 0 119 (dk_at dksX3_isOf_0 21 rfl rfl)
theorem dX3_isOf_24 : decode cX3_isOf 24 = .ok (.ifCond .eq 11, 3) := dk_153 0 11 (dk_at dksX3_isOf_1 0 rfl rfl)
theorem dX3_isOf_27 : decode cX3_isOf 27 = .ok (.iload_n 1, 1) := dk_27 (dk_at dksX3_isOf_1 3 rfl rfl)
theorem dX3_isOf_28 : decode cX3_isOf 28 = .ok (.ifCond .ne 7, 3) := dk_154 0 7 (dk_at dksX3_isOf_1 4 rfl rfl)
theorem dX3_isOf_31 : decode cX3_isOf 31 = .ok (.iconst 1, 1) := dk_4 (dk_at dksX3_isOf_1 7 rfl rfl)
theorem dX3_isOf_32 : decode cX3_isOf 32 = .ok (.goto 4, 3) := dk_167 0 4 (dk_at dksX3_isOf_1 8 rfl rfl)
theorem dX3_isOf_35 : decode cX3_isOf 35 = .ok (.iconst 0, 1) := dk_3 (dk_at dksX3_isOf_1 11 rfl rfl)
theorem dX3_isOf_36 : decode cX3_isOf 36 = .ok (.ireturn, 1) := dk_172 (dk_at dksX3_isOf_1 12 rfl rfl)
def dkwX3_isBuyer_0 : List UInt8 := [27, 3, 42, 180, 0, 116, 4, 100, 184, 0, 119, 172]
abbrev dktX3_isBuyer_0 : List UInt8 := dkwX3_isBuyer_0 ++ []
theorem dksX3_isBuyer_0 : cX3_isBuyer.data.toList.drop 0 = dktX3_isBuyer_0 := by decide +kernel
theorem dX3_isBuyer_0 : decode cX3_isBuyer 0 = .ok (.iload_n 1, 1) := dk_27 (dk_at dksX3_isBuyer_0 0 rfl rfl)
theorem dX3_isBuyer_1 : decode cX3_isBuyer 1 = .ok (.iconst 0, 1) := dk_3 (dk_at dksX3_isBuyer_0 1 rfl rfl)
theorem dX3_isBuyer_2 : decode cX3_isBuyer 2 = .ok (.aload_n 0, 1) := dk_42 (dk_at dksX3_isBuyer_0 2 rfl rfl)
theorem dX3_isBuyer_3 : decode cX3_isBuyer 3 = .ok (.getfield 116, 3) := dk_180 0 116 (dk_at dksX3_isBuyer_0 3 rfl rfl)
theorem dX3_isBuyer_6 : decode cX3_isBuyer 6 = .ok (.iconst 1, 1) := dk_4 (dk_at dksX3_isBuyer_0 6 rfl rfl)
theorem dX3_isBuyer_7 : decode cX3_isBuyer 7 = .ok (.isub, 1) := dk_100 (dk_at dksX3_isBuyer_0 7 rfl rfl)
theorem dX3_isBuyer_8 : decode cX3_isBuyer 8 = .ok (.invokestatic 119, 3) := dk_184 0 119 (dk_at dksX3_isBuyer_0 8 rfl rfl)
theorem dX3_isBuyer_11 : decode cX3_isBuyer 11 = .ok (.ireturn, 1) := dk_172 (dk_at dksX3_isBuyer_0 11 rfl rfl)
def dkwX3_isFit_3 : List UInt8 := [27, 3, 16, 99, 184, 0, 119, 172, 27, 3, 4, 184, 0, 119, 172]
abbrev dktX3_isFit_3 : List UInt8 := dkwX3_isFit_3 ++ []
def dkwX3_isFit_2 : List UInt8 := [27, 3, 17, 3, 231, 184, 0, 119, 172, 27, 3, 16, 9, 184, 0, 119, 172, 27, 4, 8, 184, 0, 119, 172]
abbrev dktX3_isFit_2 : List UInt8 := dkwX3_isFit_2 ++ dktX3_isFit_3
def dkwX3_isFit_1 : List UInt8 := [170, 0, 0, 0, 0, 0, 75, 0, 0, 0, 0, 0, 0, 0, 6, 0, 0, 0, 43, 0, 0, 0, 52, 0, 0, 0, 52, 0, 0, 0, 75, 0, 0, 0, 60, 0, 0, 0, 75, 0, 0, 0, 67]
abbrev dktX3_isFit_1 : List UInt8 := dkwX3_isFit_1 ++ dktX3_isFit_2
def dkwX3_isFit_0 : List UInt8 := [26]
abbrev dktX3_isFit_0 : List UInt8 := dkwX3_isFit_0 ++ dktX3_isFit_1
theorem dksX3_isFit_0 : cX3_isFit.data.toList.drop 0 = dktX3_isFit_0 := by decide +kernel
theorem dksX3_isFit_1 : cX3_isFit.data.toList.drop 1 = dktX3_isFit_1 := dk_seg dksX3_isFit_0 1 rfl rfl
theorem dksX3_isFit_2 : cX3_isFit.data.toList.drop 44 = dktX3_isFit_2 := dk_seg dksX3_isFit_1 43 rfl rfl
theorem dksX3_isFit_3 : cX3_isFit.data.toList.drop 68 = dktX3_isFit_3 := dk_seg dksX3_isFit_2 24 rfl rfl
theorem dX3_isFit_0 : decode cX3_isFit 0 = .ok (.iload_n 0, 1) := dk_26 (dk_at dksX3_isFit_0 0 rfl rfl)
theorem dX3_isFit_1 : decode cX3_isFit 1 = .ok (.tableswitch 75 0 6 #[43, 52, 52, 75, 60, 75, 67], 43) := by decide +kernel
theorem dX3_isFit_44 : decode cX3_isFit 44 = .ok (.iload_n 1, 1) := dk_27 (dk_at dksX3_isFit_2 0 rfl rfl)
theorem dX3_isFit_45 : decode cX3_isFit 45 = .ok (.iconst 0, 1) := dk_3 (dk_at dksX3_isFit_2 1 rfl rfl)
theorem dX3_isFit_46 : decode cX3_isFit 46 = .ok (.sipush 999, 3) := dk_17 3 231 (dk_at dksX3_isFit_2 2 rfl rfl)
theorem dX3_isFit_49 : decode cX3_isFit 49 = .ok (.invokestatic 119, 3) := dk_184 0 119 (dk_at dksX3_isFit_2 5 rfl rfl)
theorem dX3_isFit_52 : decode cX3_isFit 52 = .ok (.ireturn, 1) := dk_172 (dk_at dksX3_isFit_2 8 rfl rfl)
theorem dX3_isFit_53 : decode cX3_isFit 53 = .ok (.iload_n 1, 1) := dk_27 (dk_at dksX3_isFit_2 9 rfl rfl)
theorem dX3_isFit_54 : decode cX3_isFit 54 = .ok (.iconst 0, 1) := dk_3 (dk_at dksX3_isFit_2 10 rfl rfl)
theorem dX3_isFit_55 : decode cX3_isFit 55 = .ok (.bipush 9, 2) := dk_16 9 (dk_at dksX3_isFit_2 11 rfl rfl)
theorem dX3_isFit_57 : decode cX3_isFit 57 = .ok (.invokestatic 119, 3) := dk_184 0 119 (dk_at dksX3_isFit_2 13 rfl rfl)
theorem dX3_isFit_60 : decode cX3_isFit 60 = .ok (.ireturn, 1) := dk_172 (dk_at dksX3_isFit_2 16 rfl rfl)
theorem dX3_isFit_61 : decode cX3_isFit 61 = .ok (.iload_n 1, 1) := dk_27 (dk_at dksX3_isFit_2 17 rfl rfl)
theorem dX3_isFit_62 : decode cX3_isFit 62 = .ok (.iconst 1, 1) := dk_4 (dk_at dksX3_isFit_2 18 rfl rfl)
theorem dX3_isFit_63 : decode cX3_isFit 63 = .ok (.iconst 5, 1) := dk_8 (dk_at dksX3_isFit_2 19 rfl rfl)
theorem dX3_isFit_64 : decode cX3_isFit 64 = .ok (.invokestatic 119, 3) := dk_184 0 119 (dk_at dksX3_isFit_2 20 rfl rfl)
theorem dX3_isFit_67 : decode cX3_isFit 67 = .ok (.ireturn, 1) := dk_172 (dk_at dksX3_isFit_2 23 rfl rfl)
theorem dX3_isFit_68 : decode cX3_isFit 68 = .ok (.iload_n 1, 1) := dk_27 (dk_at dksX3_isFit_3 0 rfl rfl)
theorem dX3_isFit_69 : decode cX3_isFit 69 = .ok (.iconst 0, 1) := dk_3 (dk_at dksX3_isFit_3 1 rfl rfl)
theorem dX3_isFit_70 : decode cX3_isFit 70 = .ok (.bipush 99, 2) := dk_16 99 (dk_at dksX3_isFit_3 2 rfl rfl)
theorem dX3_isFit_72 : decode cX3_isFit 72 = .ok (.invokestatic 119, 3) := dk_184 0 119 (dk_at dksX3_isFit_3 4 rfl rfl)
theorem dX3_isFit_75 : decode cX3_isFit 75 = .ok (.ireturn, 1) := dk_172 (dk_at dksX3_isFit_3 7 rfl rfl)
theorem dX3_isFit_76 : decode cX3_isFit 76 = .ok (.iload_n 1, 1) := dk_27 (dk_at dksX3_isFit_3 8 rfl rfl)
theorem dX3_isFit_77 : decode cX3_isFit 77 = .ok (.iconst 0, 1) := dk_3 (dk_at dksX3_isFit_3 9 rfl rfl)
theorem dX3_isFit_78 : decode cX3_isFit 78 = .ok (.iconst 1, 1) := dk_4 (dk_at dksX3_isFit_3 10 rfl rfl)
theorem dX3_isFit_79 : decode cX3_isFit 79 = .ok (.invokestatic 119, 3) := dk_184 0 119 (dk_at dksX3_isFit_3 11 rfl rfl)
theorem dX3_isFit_82 : decode cX3_isFit 82 = .ok (.ireturn, 1) := dk_172 (dk_at dksX3_isFit_3 14 rfl rfl)
def dkwX3_get_3 : List UInt8 := [172, 42, 180, 0, 9, 16, 8, 28, 104, 16, 8, 100, 27, 96, 46, 172]
abbrev dktX3_get_3 : List UInt8 := dkwX3_get_3 ++ []
def dkwX3_get_2 : List UInt8 := [42, 180, 0, 22, 27, 46, 172, 42, 180, 0, 15, 172, 42, 180, 0, 19, 172, 42, 180, 0, 22, 16, 8, 46]
abbrev dktX3_get_2 : List UInt8 := dkwX3_get_2 ++ dktX3_get_3
def dkwX3_get_1 : List UInt8 := [170, 0, 0, 0, 0, 0, 68, 0, 0, 0, 0, 0, 0, 0, 6, 0, 0, 0, 43, 0, 0, 0, 68, 0, 0, 0, 68, 0, 0, 0, 68, 0, 0, 0, 50, 0, 0, 0, 55, 0, 0, 0, 60]
abbrev dktX3_get_1 : List UInt8 := dkwX3_get_1 ++ dktX3_get_2
def dkwX3_get_0 : List UInt8 := [28]
abbrev dktX3_get_0 : List UInt8 := dkwX3_get_0 ++ dktX3_get_1
theorem dksX3_get_0 : cX3_get.data.toList.drop 0 = dktX3_get_0 := by decide +kernel
theorem dksX3_get_1 : cX3_get.data.toList.drop 1 = dktX3_get_1 := dk_seg dksX3_get_0 1 rfl rfl
theorem dksX3_get_2 : cX3_get.data.toList.drop 44 = dktX3_get_2 := dk_seg dksX3_get_1 43 rfl rfl
theorem dksX3_get_3 : cX3_get.data.toList.drop 68 = dktX3_get_3 := dk_seg dksX3_get_2 24 rfl rfl
theorem dX3_get_0 : decode cX3_get 0 = .ok (.iload_n 2, 1) := dk_28 (dk_at dksX3_get_0 0 rfl rfl)
theorem dX3_get_1 : decode cX3_get 1 = .ok (.tableswitch 68 0 6 #[43, 68, 68, 68, 50, 55, 60], 43) := by decide +kernel
theorem dX3_get_44 : decode cX3_get 44 = .ok (.aload_n 0, 1) := dk_42 (dk_at dksX3_get_2 0 rfl rfl)
theorem dX3_get_45 : decode cX3_get 45 = .ok (.getfield 22, 3) := dk_180 0 22 (dk_at dksX3_get_2 1 rfl rfl)
theorem dX3_get_48 : decode cX3_get 48 = .ok (.iload_n 1, 1) := dk_27 (dk_at dksX3_get_2 4 rfl rfl)
theorem dX3_get_49 : decode cX3_get 49 = .ok (.iaload, 1) := dk_46 (dk_at dksX3_get_2 5 rfl rfl)
theorem dX3_get_50 : decode cX3_get 50 = .ok (.ireturn, 1) := dk_172 (dk_at dksX3_get_2 6 rfl rfl)
theorem dX3_get_51 : decode cX3_get 51 = .ok (.aload_n 0, 1) := dk_42 (dk_at dksX3_get_2 7 rfl rfl)
theorem dX3_get_52 : decode cX3_get 52 = .ok (.getfield 15, 3) := dk_180 0 15 (dk_at dksX3_get_2 8 rfl rfl)
theorem dX3_get_55 : decode cX3_get 55 = .ok (.ireturn, 1) := dk_172 (dk_at dksX3_get_2 11 rfl rfl)
theorem dX3_get_56 : decode cX3_get 56 = .ok (.aload_n 0, 1) := dk_42 (dk_at dksX3_get_2 12 rfl rfl)
theorem dX3_get_57 : decode cX3_get 57 = .ok (.getfield 19, 3) := dk_180 0 19 (dk_at dksX3_get_2 13 rfl rfl)
theorem dX3_get_60 : decode cX3_get 60 = .ok (.ireturn, 1) := dk_172 (dk_at dksX3_get_2 16 rfl rfl)
theorem dX3_get_61 : decode cX3_get 61 = .ok (.aload_n 0, 1) := dk_42 (dk_at dksX3_get_2 17 rfl rfl)
theorem dX3_get_62 : decode cX3_get 62 = .ok (.getfield 22, 3) := dk_180 0 22 (dk_at dksX3_get_2 18 rfl rfl)
theorem dX3_get_65 : decode cX3_get 65 = .ok (.bipush 8, 2) := dk_16 8 (dk_at dksX3_get_2 21 rfl rfl)
theorem dX3_get_67 : decode cX3_get 67 = .ok (.iaload, 1) := dk_46 (dk_at dksX3_get_2 23 rfl rfl)
theorem dX3_get_68 : decode cX3_get 68 = .ok (.ireturn, 1) := dk_172 (dk_at dksX3_get_3 0 rfl rfl)
theorem dX3_get_69 : decode cX3_get 69 = .ok (.aload_n 0, 1) := dk_42 (dk_at dksX3_get_3 1 rfl rfl)
theorem dX3_get_70 : decode cX3_get 70 = .ok (.getfield 9, 3) := dk_180 0 9 (dk_at dksX3_get_3 2 rfl rfl)
theorem dX3_get_73 : decode cX3_get 73 = .ok (.bipush 8, 2) := dk_16 8 (dk_at dksX3_get_3 5 rfl rfl)
theorem dX3_get_75 : decode cX3_get 75 = .ok (.iload_n 2, 1) := dk_28 (dk_at dksX3_get_3 7 rfl rfl)
theorem dX3_get_76 : decode cX3_get 76 = .ok (.imul, 1) := dk_104 (dk_at dksX3_get_3 8 rfl rfl)
theorem dX3_get_77 : decode cX3_get 77 = .ok (.bipush 8, 2) := dk_16 8 (dk_at dksX3_get_3 9 rfl rfl)
theorem dX3_get_79 : decode cX3_get 79 = .ok (.isub, 1) := dk_100 (dk_at dksX3_get_3 11 rfl rfl)
theorem dX3_get_80 : decode cX3_get 80 = .ok (.iload_n 1, 1) := dk_27 (dk_at dksX3_get_3 12 rfl rfl)
theorem dX3_get_81 : decode cX3_get 81 = .ok (.iadd, 1) := dk_96 (dk_at dksX3_get_3 13 rfl rfl)
theorem dX3_get_82 : decode cX3_get 82 = .ok (.iaload, 1) := dk_46 (dk_at dksX3_get_3 14 rfl rfl)
theorem dX3_get_83 : decode cX3_get 83 = .ok (.ireturn, 1) := dk_172 (dk_at dksX3_get_3 15 rfl rfl)
def dkwX3_becomes_4 : List UInt8 := [100, 27, 96, 29, 79, 177]
abbrev dktX3_becomes_4 : List UInt8 := dkwX3_becomes_4 ++ []
def dkwX3_becomes_3 : List UInt8 := [167, 0, 29, 42, 180, 0, 22, 16, 8, 29, 79, 167, 0, 18, 42, 180, 0, 9, 16, 8, 28, 104, 16, 8]
abbrev dktX3_becomes_3 : List UInt8 := dkwX3_becomes_3 ++ dktX3_becomes_4
def dkwX3_becomes_2 : List UInt8 := [42, 180, 0, 22, 27, 29, 79, 167, 0, 45, 42, 29, 181, 0, 15, 167, 0, 37, 42, 29, 181, 0, 19]
abbrev dktX3_becomes_2 : List UInt8 := dkwX3_becomes_2 ++ dktX3_becomes_3
def dkwX3_becomes_1 : List UInt8 := [170, 0, 0, 0, 0, 0, 80, 0, 0, 0, 0, 0, 0, 0, 6, 0, 0, 0, 43, 0, 0, 0, 80, 0, 0, 0, 80, 0, 0, 0, 80, 0, 0, 0, 53, 0, 0, 0, 61, 0, 0, 0, 69]
abbrev dktX3_becomes_1 : List UInt8 := dkwX3_becomes_1 ++ dktX3_becomes_2
def dkwX3_becomes_0 : List UInt8 := [28]
abbrev dktX3_becomes_0 : List UInt8 := dkwX3_becomes_0 ++ dktX3_becomes_1
theorem dksX3_becomes_0 : cX3_becomes.data.toList.drop 0 = dktX3_becomes_0 := by decide +kernel
theorem dksX3_becomes_1 : cX3_becomes.data.toList.drop 1 = dktX3_becomes_1 := dk_seg dksX3_becomes_0 1 rfl rfl
theorem dksX3_becomes_2 : cX3_becomes.data.toList.drop 44 = dktX3_becomes_2 := dk_seg dksX3_becomes_1 43 rfl rfl
theorem dksX3_becomes_3 : cX3_becomes.data.toList.drop 67 = dktX3_becomes_3 := dk_seg dksX3_becomes_2 23 rfl rfl
theorem dksX3_becomes_4 : cX3_becomes.data.toList.drop 91 = dktX3_becomes_4 := dk_seg dksX3_becomes_3 24 rfl rfl
theorem dX3_becomes_0 : decode cX3_becomes 0 = .ok (.iload_n 2, 1) := dk_28 (dk_at dksX3_becomes_0 0 rfl rfl)
theorem dX3_becomes_1 : decode cX3_becomes 1 = .ok (.tableswitch 80 0 6 #[43, 80, 80, 80, 53, 61, 69], 43) := by decide +kernel
theorem dX3_becomes_44 : decode cX3_becomes 44 = .ok (.aload_n 0, 1) := dk_42 (dk_at dksX3_becomes_2 0 rfl rfl)
theorem dX3_becomes_45 : decode cX3_becomes 45 = .ok (.getfield 22, 3) := dk_180 0 22 (dk_at dksX3_becomes_2 1 rfl rfl)
theorem dX3_becomes_48 : decode cX3_becomes 48 = .ok (.iload_n 1, 1) := dk_27 (dk_at dksX3_becomes_2 4 rfl rfl)
theorem dX3_becomes_49 : decode cX3_becomes 49 = .ok (.iload_n 3, 1) := dk_29 (dk_at dksX3_becomes_2 5 rfl rfl)
theorem dX3_becomes_50 : decode cX3_becomes 50 = .ok (.iastore, 1) := dk_79 (dk_at dksX3_becomes_2 6 rfl rfl)
theorem dX3_becomes_51 : decode cX3_becomes 51 = .ok (.goto 45, 3) := dk_167 0 45 (dk_at dksX3_becomes_2 7 rfl rfl)
theorem dX3_becomes_54 : decode cX3_becomes 54 = .ok (.aload_n 0, 1) := dk_42 (dk_at dksX3_becomes_2 10 rfl rfl)
theorem dX3_becomes_55 : decode cX3_becomes 55 = .ok (.iload_n 3, 1) := dk_29 (dk_at dksX3_becomes_2 11 rfl rfl)
theorem dX3_becomes_56 : decode cX3_becomes 56 = .ok (.putfield 15, 3) := dk_181 0 15 (dk_at dksX3_becomes_2 12 rfl rfl)
theorem dX3_becomes_59 : decode cX3_becomes 59 = .ok (.goto 37, 3) := dk_167 0 37 (dk_at dksX3_becomes_2 15 rfl rfl)
theorem dX3_becomes_62 : decode cX3_becomes 62 = .ok (.aload_n 0, 1) := dk_42 (dk_at dksX3_becomes_2 18 rfl rfl)
theorem dX3_becomes_63 : decode cX3_becomes 63 = .ok (.iload_n 3, 1) := dk_29 (dk_at dksX3_becomes_2 19 rfl rfl)
theorem dX3_becomes_64 : decode cX3_becomes 64 = .ok (.putfield 19, 3) := dk_181 0 19 (dk_at dksX3_becomes_2 20 rfl rfl)
theorem dX3_becomes_67 : decode cX3_becomes 67 = .ok (.goto 29, 3) := dk_167 0 29 (dk_at dksX3_becomes_3 0 rfl rfl)
theorem dX3_becomes_70 : decode cX3_becomes 70 = .ok (.aload_n 0, 1) := dk_42 (dk_at dksX3_becomes_3 3 rfl rfl)
theorem dX3_becomes_71 : decode cX3_becomes 71 = .ok (.getfield 22, 3) := dk_180 0 22 (dk_at dksX3_becomes_3 4 rfl rfl)
theorem dX3_becomes_74 : decode cX3_becomes 74 = .ok (.bipush 8, 2) := dk_16 8 (dk_at dksX3_becomes_3 7 rfl rfl)
theorem dX3_becomes_76 : decode cX3_becomes 76 = .ok (.iload_n 3, 1) := dk_29 (dk_at dksX3_becomes_3 9 rfl rfl)
theorem dX3_becomes_77 : decode cX3_becomes 77 = .ok (.iastore, 1) := dk_79 (dk_at dksX3_becomes_3 10 rfl rfl)
theorem dX3_becomes_78 : decode cX3_becomes 78 = .ok (.goto 18, 3) := dk_167 0 18 (dk_at dksX3_becomes_3 11 rfl rfl)
theorem dX3_becomes_81 : decode cX3_becomes 81 = .ok (.aload_n 0, 1) := dk_42 (dk_at dksX3_becomes_3 14 rfl rfl)
theorem dX3_becomes_82 : decode cX3_becomes 82 = .ok (.getfield 9, 3) := dk_180 0 9 (dk_at dksX3_becomes_3 15 rfl rfl)
theorem dX3_becomes_85 : decode cX3_becomes 85 = .ok (.bipush 8, 2) := dk_16 8 (dk_at dksX3_becomes_3 18 rfl rfl)
theorem dX3_becomes_87 : decode cX3_becomes 87 = .ok (.iload_n 2, 1) := dk_28 (dk_at dksX3_becomes_3 20 rfl rfl)
theorem dX3_becomes_88 : decode cX3_becomes 88 = .ok (.imul, 1) := dk_104 (dk_at dksX3_becomes_3 21 rfl rfl)
theorem dX3_becomes_89 : decode cX3_becomes 89 = .ok (.bipush 8, 2) := dk_16 8 (dk_at dksX3_becomes_3 22 rfl rfl)
theorem dX3_becomes_91 : decode cX3_becomes 91 = .ok (.isub, 1) := dk_100 (dk_at dksX3_becomes_4 0 rfl rfl)
theorem dX3_becomes_92 : decode cX3_becomes 92 = .ok (.iload_n 1, 1) := dk_27 (dk_at dksX3_becomes_4 1 rfl rfl)
theorem dX3_becomes_93 : decode cX3_becomes 93 = .ok (.iadd, 1) := dk_96 (dk_at dksX3_becomes_4 2 rfl rfl)
theorem dX3_becomes_94 : decode cX3_becomes 94 = .ok (.iload_n 3, 1) := dk_29 (dk_at dksX3_becomes_4 3 rfl rfl)
theorem dX3_becomes_95 : decode cX3_becomes 95 = .ok (.iastore, 1) := dk_79 (dk_at dksX3_becomes_4 4 rfl rfl)
theorem dX3_becomes_96 : decode cX3_becomes 96 = .ok (.return_, 1) := dk_177 (dk_at dksX3_becomes_4 5 rfl rfl)
def dkwX3_of_0 : List UInt8 := [42, 27, 28, 182, 0, 140, 153, 0, 12, 42, 27, 28, 182, 0, 147, 167, 0, 4, 2, 172]
abbrev dktX3_of_0 : List UInt8 := dkwX3_of_0 ++ []
theorem dksX3_of_0 : cX3_of.data.toList.drop 0 = dktX3_of_0 := by decide +kernel
theorem dX3_of_0 : decode cX3_of 0 = .ok (.aload_n 0, 1) := dk_42 (dk_at dksX3_of_0 0 rfl rfl)
theorem dX3_of_1 : decode cX3_of 1 = .ok (.iload_n 1, 1) := dk_27 (dk_at dksX3_of_0 1 rfl rfl)
theorem dX3_of_2 : decode cX3_of 2 = .ok (.iload_n 2, 1) := dk_28 (dk_at dksX3_of_0 2 rfl rfl)
theorem dX3_of_3 : decode cX3_of 3 = .ok (.invokevirtual 140, 3) := dk_182 0 140 (dk_at dksX3_of_0 3 rfl rfl)
theorem dX3_of_6 : decode cX3_of 6 = .ok (.ifCond .eq 12, 3) := dk_153 0 12 (dk_at dksX3_of_0 6 rfl rfl)
theorem dX3_of_9 : decode cX3_of 9 = .ok (.aload_n 0, 1) := dk_42 (dk_at dksX3_of_0 9 rfl rfl)
theorem dX3_of_10 : decode cX3_of 10 = .ok (.iload_n 1, 1) := dk_27 (dk_at dksX3_of_0 10 rfl rfl)
theorem dX3_of_11 : decode cX3_of 11 = .ok (.iload_n 2, 1) := dk_28 (dk_at dksX3_of_0 11 rfl rfl)
theorem dX3_of_12 : decode cX3_of 12 = .ok (.invokevirtual 147, 3) := dk_182 0 147 (dk_at dksX3_of_0 12 rfl rfl)
theorem dX3_of_15 : decode cX3_of 15 = .ok (.goto 4, 3) := dk_167 0 4 (dk_at dksX3_of_0 15 rfl rfl)
theorem dX3_of_18 : decode cX3_of 18 = .ok (.iconst (-1), 1) := dk_2 (dk_at dksX3_of_0 18 rfl rfl)
theorem dX3_of_19 : decode cX3_of 19 = .ok (.ireturn, 1) := dk_172 (dk_at dksX3_of_0 19 rfl rfl)
def dkwX3_undo_2 : List UInt8 := [180, 0, 67, 7, 42, 180, 0, 154, 104, 5, 96, 46, 182, 0, 150, 42, 180, 0, 154, 172]
abbrev dktX3_undo_2 : List UInt8 := dkwX3_undo_2 ++ []
def dkwX3_undo_1 : List UInt8 := [180, 0, 67, 7, 42, 180, 0, 154, 104, 46, 42, 180, 0, 67, 7, 42, 180, 0, 154, 104, 4, 96, 46, 42]
abbrev dktX3_undo_1 : List UInt8 := dkwX3_undo_1 ++ dktX3_undo_2
def dkwX3_undo_0 : List UInt8 := [42, 180, 0, 154, 154, 0, 6, 16, 251, 172, 42, 89, 180, 0, 154, 4, 100, 181, 0, 154, 42, 42]
abbrev dktX3_undo_0 : List UInt8 := dkwX3_undo_0 ++ dktX3_undo_1
theorem dksX3_undo_0 : cX3_undo.data.toList.drop 0 = dktX3_undo_0 := by decide +kernel
theorem dksX3_undo_1 : cX3_undo.data.toList.drop 22 = dktX3_undo_1 := dk_seg dksX3_undo_0 22 rfl rfl
theorem dksX3_undo_2 : cX3_undo.data.toList.drop 46 = dktX3_undo_2 := dk_seg dksX3_undo_1 24 rfl rfl
theorem dX3_undo_0 : decode cX3_undo 0 = .ok (.aload_n 0, 1) := dk_42 (dk_at dksX3_undo_0 0 rfl rfl)
theorem dX3_undo_1 : decode cX3_undo 1 = .ok (.getfield 154, 3) := dk_180 0 154 (dk_at dksX3_undo_0 1 rfl rfl)
theorem dX3_undo_4 : decode cX3_undo 4 = .ok (.ifCond .ne 6, 3) := dk_154 0 6 (dk_at dksX3_undo_0 4 rfl rfl)
theorem dX3_undo_7 : decode cX3_undo 7 = .ok (.bipush (-5), 2) := dk_16 251 (dk_at dksX3_undo_0 7 rfl rfl)
theorem dX3_undo_9 : decode cX3_undo 9 = .ok (.ireturn, 1) := dk_172 (dk_at dksX3_undo_0 9 rfl rfl)
theorem dX3_undo_10 : decode cX3_undo 10 = .ok (.aload_n 0, 1) := dk_42 (dk_at dksX3_undo_0 10 rfl rfl)
theorem dX3_undo_11 : decode cX3_undo 11 = .ok (.dup, 1) := dk_89 (dk_at dksX3_undo_0 11 rfl rfl)
theorem dX3_undo_12 : decode cX3_undo 12 = .ok (.getfield 154, 3) := dk_180 0 154 (dk_at dksX3_undo_0 12 rfl rfl)
theorem dX3_undo_15 : decode cX3_undo 15 = .ok (.iconst 1, 1) := dk_4 (dk_at dksX3_undo_0 15 rfl rfl)
theorem dX3_undo_16 : decode cX3_undo 16 = .ok (.isub, 1) := dk_100 (dk_at dksX3_undo_0 16 rfl rfl)
theorem dX3_undo_17 : decode cX3_undo 17 = .ok (.putfield 154, 3) := dk_181 0 154 (dk_at dksX3_undo_0 17 rfl rfl)
theorem dX3_undo_20 : decode cX3_undo 20 = .ok (.aload_n 0, 1) := dk_42 (dk_at dksX3_undo_0 20 rfl rfl)
theorem dX3_undo_21 : decode cX3_undo 21 = .ok (.aload_n 0, 1) := dk_42 (dk_at dksX3_undo_0 21 rfl rfl)
theorem dX3_undo_22 : decode cX3_undo 22 = .ok (.getfield 67, 3) := dk_180 0 67 (dk_at dksX3_undo_1 0 rfl rfl)
theorem dX3_undo_25 : decode cX3_undo 25 = .ok (.iconst 4, 1) := dk_7 (dk_at dksX3_undo_1 3 rfl rfl)
theorem dX3_undo_26 : decode cX3_undo 26 = .ok (.aload_n 0, 1) := dk_42 (dk_at dksX3_undo_1 4 rfl rfl)
theorem dX3_undo_27 : decode cX3_undo 27 = .ok (.getfield 154, 3) := dk_180 0 154 (dk_at dksX3_undo_1 5 rfl rfl)
theorem dX3_undo_30 : decode cX3_undo 30 = .ok (.imul, 1) := dk_104 (dk_at dksX3_undo_1 8 rfl rfl)
theorem dX3_undo_31 : decode cX3_undo 31 = .ok (.iaload, 1) := dk_46 (dk_at dksX3_undo_1 9 rfl rfl)
theorem dX3_undo_32 : decode cX3_undo 32 = .ok (.aload_n 0, 1) := dk_42 (dk_at dksX3_undo_1 10 rfl rfl)
theorem dX3_undo_33 : decode cX3_undo 33 = .ok (.getfield 67, 3) := dk_180 0 67 (dk_at dksX3_undo_1 11 rfl rfl)
theorem dX3_undo_36 : decode cX3_undo 36 = .ok (.iconst 4, 1) := dk_7 (dk_at dksX3_undo_1 14 rfl rfl)
theorem dX3_undo_37 : decode cX3_undo 37 = .ok (.aload_n 0, 1) := dk_42 (dk_at dksX3_undo_1 15 rfl rfl)
theorem dX3_undo_38 : decode cX3_undo 38 = .ok (.getfield 154, 3) := dk_180 0 154 (dk_at dksX3_undo_1 16 rfl rfl)
theorem dX3_undo_41 : decode cX3_undo 41 = .ok (.imul, 1) := dk_104 (dk_at dksX3_undo_1 19 rfl rfl)
theorem dX3_undo_42 : decode cX3_undo 42 = .ok (.iconst 1, 1) := dk_4 (dk_at dksX3_undo_1 20 rfl rfl)
theorem dX3_undo_43 : decode cX3_undo 43 = .ok (.iadd, 1) := dk_96 (dk_at dksX3_undo_1 21 rfl rfl)
theorem dX3_undo_44 : decode cX3_undo 44 = .ok (.iaload, 1) := dk_46 (dk_at dksX3_undo_1 22 rfl rfl)
theorem dX3_undo_45 : decode cX3_undo 45 = .ok (.aload_n 0, 1) := dk_42 (dk_at dksX3_undo_1 23 rfl rfl)
theorem dX3_undo_46 : decode cX3_undo 46 = .ok (.getfield 67, 3) := dk_180 0 67 (dk_at dksX3_undo_2 0 rfl rfl)
theorem dX3_undo_49 : decode cX3_undo 49 = .ok (.iconst 4, 1) := dk_7 (dk_at dksX3_undo_2 3 rfl rfl)
theorem dX3_undo_50 : decode cX3_undo 50 = .ok (.aload_n 0, 1) := dk_42 (dk_at dksX3_undo_2 4 rfl rfl)
theorem dX3_undo_51 : decode cX3_undo 51 = .ok (.getfield 154, 3) := dk_180 0 154 (dk_at dksX3_undo_2 5 rfl rfl)
theorem dX3_undo_54 : decode cX3_undo 54 = .ok (.imul, 1) := dk_104 (dk_at dksX3_undo_2 8 rfl rfl)
theorem dX3_undo_55 : decode cX3_undo 55 = .ok (.iconst 2, 1) := dk_5 (dk_at dksX3_undo_2 9 rfl rfl)
theorem dX3_undo_56 : decode cX3_undo 56 = .ok (.iadd, 1) := dk_96 (dk_at dksX3_undo_2 10 rfl rfl)
theorem dX3_undo_57 : decode cX3_undo 57 = .ok (.iaload, 1) := dk_46 (dk_at dksX3_undo_2 11 rfl rfl)
theorem dX3_undo_58 : decode cX3_undo 58 = .ok (.invokevirtual 150, 3) := dk_182 0 150 (dk_at dksX3_undo_2 12 rfl rfl)
theorem dX3_undo_61 : decode cX3_undo 61 = .ok (.aload_n 0, 1) := dk_42 (dk_at dksX3_undo_2 15 rfl rfl)
theorem dX3_undo_62 : decode cX3_undo 62 = .ok (.getfield 154, 3) := dk_180 0 154 (dk_at dksX3_undo_2 16 rfl rfl)
theorem dX3_undo_65 : decode cX3_undo 65 = .ok (.ireturn, 1) := dk_172 (dk_at dksX3_undo_2 19 rfl rfl)
def dkwX3_redo_3 : List UInt8 := [180, 0, 154, 100, 172]
abbrev dktX3_redo_3 : List UInt8 := dkwX3_redo_3 ++ []
def dkwX3_redo_2 : List UInt8 := [104, 6, 96, 46, 182, 0, 150, 42, 89, 180, 0, 154, 4, 96, 181, 0, 154, 42, 180, 0, 157, 42]
abbrev dktX3_redo_2 : List UInt8 := dkwX3_redo_2 ++ dktX3_redo_3
def dkwX3_redo_1 : List UInt8 := [104, 46, 42, 180, 0, 67, 7, 42, 180, 0, 154, 104, 4, 96, 46, 42, 180, 0, 67, 7, 42, 180, 0, 154]
abbrev dktX3_redo_1 : List UInt8 := dkwX3_redo_1 ++ dktX3_redo_2
def dkwX3_redo_0 : List UInt8 := [42, 180, 0, 154, 42, 180, 0, 157, 160, 0, 6, 16, 251, 172, 42, 42, 180, 0, 67, 7, 42, 180, 0, 154]
abbrev dktX3_redo_0 : List UInt8 := dkwX3_redo_0 ++ dktX3_redo_1
theorem dksX3_redo_0 : cX3_redo.data.toList.drop 0 = dktX3_redo_0 := by decide +kernel
theorem dksX3_redo_1 : cX3_redo.data.toList.drop 24 = dktX3_redo_1 := dk_seg dksX3_redo_0 24 rfl rfl
theorem dksX3_redo_2 : cX3_redo.data.toList.drop 48 = dktX3_redo_2 := dk_seg dksX3_redo_1 24 rfl rfl
theorem dksX3_redo_3 : cX3_redo.data.toList.drop 70 = dktX3_redo_3 := dk_seg dksX3_redo_2 22 rfl rfl
theorem dX3_redo_0 : decode cX3_redo 0 = .ok (.aload_n 0, 1) := dk_42 (dk_at dksX3_redo_0 0 rfl rfl)
theorem dX3_redo_1 : decode cX3_redo 1 = .ok (.getfield 154, 3) := dk_180 0 154 (dk_at dksX3_redo_0 1 rfl rfl)
theorem dX3_redo_4 : decode cX3_redo 4 = .ok (.aload_n 0, 1) := dk_42 (dk_at dksX3_redo_0 4 rfl rfl)
theorem dX3_redo_5 : decode cX3_redo 5 = .ok (.getfield 157, 3) := dk_180 0 157 (dk_at dksX3_redo_0 5 rfl rfl)
theorem dX3_redo_8 : decode cX3_redo 8 = .ok (.if_icmp .ne 6, 3) := dk_160 0 6 (dk_at dksX3_redo_0 8 rfl rfl)
theorem dX3_redo_11 : decode cX3_redo 11 = .ok (.bipush (-5), 2) := dk_16 251 (dk_at dksX3_redo_0 11 rfl rfl)
theorem dX3_redo_13 : decode cX3_redo 13 = .ok (.ireturn, 1) := dk_172 (dk_at dksX3_redo_0 13 rfl rfl)
theorem dX3_redo_14 : decode cX3_redo 14 = .ok (.aload_n 0, 1) := dk_42 (dk_at dksX3_redo_0 14 rfl rfl)
theorem dX3_redo_15 : decode cX3_redo 15 = .ok (.aload_n 0, 1) := dk_42 (dk_at dksX3_redo_0 15 rfl rfl)
theorem dX3_redo_16 : decode cX3_redo 16 = .ok (.getfield 67, 3) := dk_180 0 67 (dk_at dksX3_redo_0 16 rfl rfl)
theorem dX3_redo_19 : decode cX3_redo 19 = .ok (.iconst 4, 1) := dk_7 (dk_at dksX3_redo_0 19 rfl rfl)
theorem dX3_redo_20 : decode cX3_redo 20 = .ok (.aload_n 0, 1) := dk_42 (dk_at dksX3_redo_0 20 rfl rfl)
theorem dX3_redo_21 : decode cX3_redo 21 = .ok (.getfield 154, 3) := dk_180 0 154 (dk_at dksX3_redo_0 21 rfl rfl)
theorem dX3_redo_24 : decode cX3_redo 24 = .ok (.imul, 1) := dk_104 (dk_at dksX3_redo_1 0 rfl rfl)
theorem dX3_redo_25 : decode cX3_redo 25 = .ok (.iaload, 1) := dk_46 (dk_at dksX3_redo_1 1 rfl rfl)
theorem dX3_redo_26 : decode cX3_redo 26 = .ok (.aload_n 0, 1) := dk_42 (dk_at dksX3_redo_1 2 rfl rfl)
theorem dX3_redo_27 : decode cX3_redo 27 = .ok (.getfield 67, 3) := dk_180 0 67 (dk_at dksX3_redo_1 3 rfl rfl)
theorem dX3_redo_30 : decode cX3_redo 30 = .ok (.iconst 4, 1) := dk_7 (dk_at dksX3_redo_1 6 rfl rfl)
theorem dX3_redo_31 : decode cX3_redo 31 = .ok (.aload_n 0, 1) := dk_42 (dk_at dksX3_redo_1 7 rfl rfl)
theorem dX3_redo_32 : decode cX3_redo 32 = .ok (.getfield 154, 3) := dk_180 0 154 (dk_at dksX3_redo_1 8 rfl rfl)
theorem dX3_redo_35 : decode cX3_redo 35 = .ok (.imul, 1) := dk_104 (dk_at dksX3_redo_1 11 rfl rfl)
theorem dX3_redo_36 : decode cX3_redo 36 = .ok (.iconst 1, 1) := dk_4 (dk_at dksX3_redo_1 12 rfl rfl)
theorem dX3_redo_37 : decode cX3_redo 37 = .ok (.iadd, 1) := dk_96 (dk_at dksX3_redo_1 13 rfl rfl)
theorem dX3_redo_38 : decode cX3_redo 38 = .ok (.iaload, 1) := dk_46 (dk_at dksX3_redo_1 14 rfl rfl)
theorem dX3_redo_39 : decode cX3_redo 39 = .ok (.aload_n 0, 1) := dk_42 (dk_at dksX3_redo_1 15 rfl rfl)
theorem dX3_redo_40 : decode cX3_redo 40 = .ok (.getfield 67, 3) := dk_180 0 67 (dk_at dksX3_redo_1 16 rfl rfl)
theorem dX3_redo_43 : decode cX3_redo 43 = .ok (.iconst 4, 1) := dk_7 (dk_at dksX3_redo_1 19 rfl rfl)
theorem dX3_redo_44 : decode cX3_redo 44 = .ok (.aload_n 0, 1) := dk_42 (dk_at dksX3_redo_1 20 rfl rfl)
theorem dX3_redo_45 : decode cX3_redo 45 = .ok (.getfield 154, 3) := dk_180 0 154 (dk_at dksX3_redo_1 21 rfl rfl)
theorem dX3_redo_48 : decode cX3_redo 48 = .ok (.imul, 1) := dk_104 (dk_at dksX3_redo_2 0 rfl rfl)
theorem dX3_redo_49 : decode cX3_redo 49 = .ok (.iconst 3, 1) := dk_6 (dk_at dksX3_redo_2 1 rfl rfl)
theorem dX3_redo_50 : decode cX3_redo 50 = .ok (.iadd, 1) := dk_96 (dk_at dksX3_redo_2 2 rfl rfl)
theorem dX3_redo_51 : decode cX3_redo 51 = .ok (.iaload, 1) := dk_46 (dk_at dksX3_redo_2 3 rfl rfl)
theorem dX3_redo_52 : decode cX3_redo 52 = .ok (.invokevirtual 150, 3) := dk_182 0 150 (dk_at dksX3_redo_2 4 rfl rfl)
theorem dX3_redo_55 : decode cX3_redo 55 = .ok (.aload_n 0, 1) := dk_42 (dk_at dksX3_redo_2 7 rfl rfl)
theorem dX3_redo_56 : decode cX3_redo 56 = .ok (.dup, 1) := dk_89 (dk_at dksX3_redo_2 8 rfl rfl)
theorem dX3_redo_57 : decode cX3_redo 57 = .ok (.getfield 154, 3) := dk_180 0 154 (dk_at dksX3_redo_2 9 rfl rfl)
theorem dX3_redo_60 : decode cX3_redo 60 = .ok (.iconst 1, 1) := dk_4 (dk_at dksX3_redo_2 12 rfl rfl)
theorem dX3_redo_61 : decode cX3_redo 61 = .ok (.iadd, 1) := dk_96 (dk_at dksX3_redo_2 13 rfl rfl)
theorem dX3_redo_62 : decode cX3_redo 62 = .ok (.putfield 154, 3) := dk_181 0 154 (dk_at dksX3_redo_2 14 rfl rfl)
theorem dX3_redo_65 : decode cX3_redo 65 = .ok (.aload_n 0, 1) := dk_42 (dk_at dksX3_redo_2 17 rfl rfl)
theorem dX3_redo_66 : decode cX3_redo 66 = .ok (.getfield 157, 3) := dk_180 0 157 (dk_at dksX3_redo_2 18 rfl rfl)
theorem dX3_redo_69 : decode cX3_redo 69 = .ok (.aload_n 0, 1) := dk_42 (dk_at dksX3_redo_2 21 rfl rfl)
theorem dX3_redo_70 : decode cX3_redo 70 = .ok (.getfield 154, 3) := dk_180 0 154 (dk_at dksX3_redo_3 0 rfl rfl)
theorem dX3_redo_73 : decode cX3_redo 73 = .ok (.isub, 1) := dk_100 (dk_at dksX3_redo_3 3 rfl rfl)
theorem dX3_redo_74 : decode cX3_redo 74 = .ok (.ireturn, 1) := dk_172 (dk_at dksX3_redo_3 4 rfl rfl)
def dkwX3_feed_1 : List UInt8 := [172, 42, 180, 0, 25, 42, 89, 180, 0, 160, 90, 4, 96, 181, 0, 160, 27, 79, 42, 180, 0, 160, 172]
abbrev dktX3_feed_1 : List UInt8 := dkwX3_feed_1 ++ []
def dkwX3_feed_0 : List UInt8 := [27, 3, 17, 0, 255, 184, 0, 119, 154, 0, 5, 2, 172, 42, 180, 0, 160, 16, 120, 160, 0, 6, 16, 253]
abbrev dktX3_feed_0 : List UInt8 := dkwX3_feed_0 ++ dktX3_feed_1
theorem dksX3_feed_0 : cX3_feed.data.toList.drop 0 = dktX3_feed_0 := by decide +kernel
theorem dksX3_feed_1 : cX3_feed.data.toList.drop 24 = dktX3_feed_1 := dk_seg dksX3_feed_0 24 rfl rfl
theorem dX3_feed_0 : decode cX3_feed 0 = .ok (.iload_n 1, 1) := dk_27 (dk_at dksX3_feed_0 0 rfl rfl)
theorem dX3_feed_1 : decode cX3_feed 1 = .ok (.iconst 0, 1) := dk_3 (dk_at dksX3_feed_0 1 rfl rfl)
theorem dX3_feed_2 : decode cX3_feed 2 = .ok (.sipush 255, 3) := dk_17 0 255 (dk_at dksX3_feed_0 2 rfl rfl)
theorem dX3_feed_5 : decode cX3_feed 5 = .ok (.invokestatic 119, 3) := dk_184 0 119 (dk_at dksX3_feed_0 5 rfl rfl)
theorem dX3_feed_8 : decode cX3_feed 8 = .ok (.ifCond .ne 5, 3) := dk_154 0 5 (dk_at dksX3_feed_0 8 rfl rfl)
theorem dX3_feed_11 : decode cX3_feed 11 = .ok (.iconst (-1), 1) := dk_2 (dk_at dksX3_feed_0 11 rfl rfl)
theorem dX3_feed_12 : decode cX3_feed 12 = .ok (.ireturn, 1) := dk_172 (dk_at dksX3_feed_0 12 rfl rfl)
theorem dX3_feed_13 : decode cX3_feed 13 = .ok (.aload_n 0, 1) := dk_42 (dk_at dksX3_feed_0 13 rfl rfl)
theorem dX3_feed_14 : decode cX3_feed 14 = .ok (.getfield 160, 3) := dk_180 0 160 (dk_at dksX3_feed_0 14 rfl rfl)
theorem dX3_feed_17 : decode cX3_feed 17 = .ok (.bipush 120, 2) := dk_16 120 (dk_at dksX3_feed_0 17 rfl rfl)
theorem dX3_feed_19 : decode cX3_feed 19 = .ok (.if_icmp .ne 6, 3) := dk_160 0 6 (dk_at dksX3_feed_0 19 rfl rfl)
theorem dX3_feed_22 : decode cX3_feed 22 = .ok (.bipush (-3), 2) := dk_16 253 (dk_at dksX3_feed_0 22 rfl rfl)
theorem dX3_feed_24 : decode cX3_feed 24 = .ok (.ireturn, 1) := dk_172 (dk_at dksX3_feed_1 0 rfl rfl)
theorem dX3_feed_25 : decode cX3_feed 25 = .ok (.aload_n 0, 1) := dk_42 (dk_at dksX3_feed_1 1 rfl rfl)
theorem dX3_feed_26 : decode cX3_feed 26 = .ok (.getfield 25, 3) := dk_180 0 25 (dk_at dksX3_feed_1 2 rfl rfl)
theorem dX3_feed_29 : decode cX3_feed 29 = .ok (.aload_n 0, 1) := dk_42 (dk_at dksX3_feed_1 5 rfl rfl)
theorem dX3_feed_30 : decode cX3_feed 30 = .ok (.dup, 1) := dk_89 (dk_at dksX3_feed_1 6 rfl rfl)
theorem dX3_feed_31 : decode cX3_feed 31 = .ok (.getfield 160, 3) := dk_180 0 160 (dk_at dksX3_feed_1 7 rfl rfl)
theorem dX3_feed_34 : decode cX3_feed 34 = .ok (.dup_x1, 1) := dk_90 (dk_at dksX3_feed_1 10 rfl rfl)
theorem dX3_feed_35 : decode cX3_feed 35 = .ok (.iconst 1, 1) := dk_4 (dk_at dksX3_feed_1 11 rfl rfl)
theorem dX3_feed_36 : decode cX3_feed 36 = .ok (.iadd, 1) := dk_96 (dk_at dksX3_feed_1 12 rfl rfl)
theorem dX3_feed_37 : decode cX3_feed 37 = .ok (.putfield 160, 3) := dk_181 0 160 (dk_at dksX3_feed_1 13 rfl rfl)
theorem dX3_feed_40 : decode cX3_feed 40 = .ok (.iload_n 1, 1) := dk_27 (dk_at dksX3_feed_1 16 rfl rfl)
theorem dX3_feed_41 : decode cX3_feed 41 = .ok (.iastore, 1) := dk_79 (dk_at dksX3_feed_1 17 rfl rfl)
theorem dX3_feed_42 : decode cX3_feed 42 = .ok (.aload_n 0, 1) := dk_42 (dk_at dksX3_feed_1 18 rfl rfl)
theorem dX3_feed_43 : decode cX3_feed 43 = .ok (.getfield 160, 3) := dk_180 0 160 (dk_at dksX3_feed_1 19 rfl rfl)
theorem dX3_feed_46 : decode cX3_feed 46 = .ok (.ireturn, 1) := dk_172 (dk_at dksX3_feed_1 22 rfl rfl)
def dkwX3_law_7 : List UInt8 := [180, 0, 37, 29, 42, 180, 0, 49, 29, 46, 79, 132, 3, 1, 167, 255, 233, 4, 172]
abbrev dktX3_law_7 : List UInt8 := dkwX3_law_7 ++ []
def dkwX3_law_6 : List UInt8 := [180, 0, 46, 29, 46, 79, 132, 3, 1, 167, 255, 209, 3, 62, 29, 42, 180, 0, 170, 162, 0, 21, 42]
abbrev dktX3_law_6 : List UInt8 := dkwX3_law_6 ++ dktX3_law_7
def dkwX3_law_5 : List UInt8 := [180, 0, 40, 29, 46, 79, 42, 180, 0, 31, 29, 42, 180, 0, 43, 29, 46, 79, 42, 180, 0, 34, 29, 42]
abbrev dktX3_law_5 : List UInt8 := dkwX3_law_5 ++ dktX3_law_6
def dkwX3_law_4 : List UInt8 := [180, 0, 208, 181, 0, 218, 3, 62, 29, 42, 180, 0, 218, 162, 0, 45, 42, 180, 0, 28, 29, 42]
abbrev dktX3_law_4 : List UInt8 := dkwX3_law_4 ++ dktX3_law_5
def dkwX3_law_3 : List UInt8 := [181, 0, 160, 28, 154, 0, 11, 16, 156, 42, 180, 0, 163, 100, 172, 42, 4, 181, 0, 214, 42, 42]
abbrev dktX3_law_3 : List UInt8 := dkwX3_law_3 ++ dktX3_law_4
def dkwX3_law_2 : List UInt8 := [153, 0, 18, 42, 180, 0, 163, 42, 180, 0, 160, 160, 0, 7, 4, 167, 0, 4, 3, 61, 42, 3]
abbrev dktX3_law_2 : List UInt8 := dkwX3_law_2 ++ dktX3_law_3
def dkwX3_law_1 : List UInt8 := [60, 27, 153, 0, 20, 42, 16, 59, 182, 0, 187, 153, 0, 11, 42, 182, 0, 211, 60, 167, 255, 238, 27]
abbrev dktX3_law_1 : List UInt8 := dkwX3_law_1 ++ dktX3_law_2
def dkwX3_law_0 : List UInt8 := [42, 3, 181, 0, 163, 42, 3, 181, 0, 184, 42, 3, 181, 0, 170, 42, 3, 181, 0, 208, 42, 182, 0, 211]
abbrev dktX3_law_0 : List UInt8 := dkwX3_law_0 ++ dktX3_law_1
theorem dksX3_law_0 : cX3_law.data.toList.drop 0 = dktX3_law_0 := by decide +kernel
theorem dksX3_law_1 : cX3_law.data.toList.drop 24 = dktX3_law_1 := dk_seg dksX3_law_0 24 rfl rfl
theorem dksX3_law_2 : cX3_law.data.toList.drop 47 = dktX3_law_2 := dk_seg dksX3_law_1 23 rfl rfl
theorem dksX3_law_3 : cX3_law.data.toList.drop 69 = dktX3_law_3 := dk_seg dksX3_law_2 22 rfl rfl
theorem dksX3_law_4 : cX3_law.data.toList.drop 91 = dktX3_law_4 := dk_seg dksX3_law_3 22 rfl rfl
theorem dksX3_law_5 : cX3_law.data.toList.drop 113 = dktX3_law_5 := dk_seg dksX3_law_4 22 rfl rfl
theorem dksX3_law_6 : cX3_law.data.toList.drop 137 = dktX3_law_6 := dk_seg dksX3_law_5 24 rfl rfl
theorem dksX3_law_7 : cX3_law.data.toList.drop 160 = dktX3_law_7 := dk_seg dksX3_law_6 23 rfl rfl
theorem dX3_law_0 : decode cX3_law 0 = .ok (.aload_n 0, 1) := dk_42 (dk_at dksX3_law_0 0 rfl rfl)
theorem dX3_law_1 : decode cX3_law 1 = .ok (.iconst 0, 1) := dk_3 (dk_at dksX3_law_0 1 rfl rfl)
theorem dX3_law_2 : decode cX3_law 2 = .ok (.putfield 163, 3) := dk_181 0 163 (dk_at dksX3_law_0 2 rfl rfl)
theorem dX3_law_5 : decode cX3_law 5 = .ok (.aload_n 0, 1) := dk_42 (dk_at dksX3_law_0 5 rfl rfl)
theorem dX3_law_6 : decode cX3_law 6 = .ok (.iconst 0, 1) := dk_3 (dk_at dksX3_law_0 6 rfl rfl)
theorem dX3_law_7 : decode cX3_law 7 = .ok (.putfield 184, 3) := dk_181 0 184 (dk_at dksX3_law_0 7 rfl rfl)
theorem dX3_law_10 : decode cX3_law 10 = .ok (.aload_n 0, 1) := dk_42 (dk_at dksX3_law_0 10 rfl rfl)
theorem dX3_law_11 : decode cX3_law 11 = .ok (.iconst 0, 1) := dk_3 (dk_at dksX3_law_0 11 rfl rfl)
theorem dX3_law_12 : decode cX3_law 12 = .ok (.putfield 170, 3) := dk_181 0 170 (dk_at dksX3_law_0 12 rfl rfl)
theorem dX3_law_15 : decode cX3_law 15 = .ok (.aload_n 0, 1) := dk_42 (dk_at dksX3_law_0 15 rfl rfl)
theorem dX3_law_16 : decode cX3_law 16 = .ok (.iconst 0, 1) := dk_3 (dk_at dksX3_law_0 16 rfl rfl)
theorem dX3_law_17 : decode cX3_law 17 = .ok (.putfield 208, 3) := dk_181 0 208 (dk_at dksX3_law_0 17 rfl rfl)
theorem dX3_law_20 : decode cX3_law 20 = .ok (.aload_n 0, 1) := dk_42 (dk_at dksX3_law_0 20 rfl rfl)
theorem dX3_law_21 : decode cX3_law 21 = .ok (.invokevirtual 211, 3) := dk_182 0 211 (dk_at dksX3_law_0 21 rfl rfl)
theorem dX3_law_24 : decode cX3_law 24 = .ok (.istore_n 1, 1) := dk_60 (dk_at dksX3_law_1 0 rfl rfl)
theorem dX3_law_25 : decode cX3_law 25 = .ok (.iload_n 1, 1) := dk_27 (dk_at dksX3_law_1 1 rfl rfl)
theorem dX3_law_26 : decode cX3_law 26 = .ok (.ifCond .eq 20, 3) := dk_153 0 20 (dk_at dksX3_law_1 2 rfl rfl)
theorem dX3_law_29 : decode cX3_law 29 = .ok (.aload_n 0, 1) := dk_42 (dk_at dksX3_law_1 5 rfl rfl)
theorem dX3_law_30 : decode cX3_law 30 = .ok (.bipush 59, 2) := dk_16 59 (dk_at dksX3_law_1 6 rfl rfl)
theorem dX3_law_32 : decode cX3_law 32 = .ok (.invokevirtual 187, 3) := dk_182 0 187 (dk_at dksX3_law_1 8 rfl rfl)
theorem dX3_law_35 : decode cX3_law 35 = .ok (.ifCond .eq 11, 3) := dk_153 0 11 (dk_at dksX3_law_1 11 rfl rfl)
theorem dX3_law_38 : decode cX3_law 38 = .ok (.aload_n 0, 1) := dk_42 (dk_at dksX3_law_1 14 rfl rfl)
theorem dX3_law_39 : decode cX3_law 39 = .ok (.invokevirtual 211, 3) := dk_182 0 211 (dk_at dksX3_law_1 15 rfl rfl)
theorem dX3_law_42 : decode cX3_law 42 = .ok (.istore_n 1, 1) := dk_60 (dk_at dksX3_law_1 18 rfl rfl)
theorem dX3_law_43 : decode cX3_law 43 = .ok (.goto (-18), 3) := dk_167 255 238 (dk_at dksX3_law_1 19 rfl rfl)
theorem dX3_law_46 : decode cX3_law 46 = .ok (.iload_n 1, 1) := dk_27 (dk_at dksX3_law_1 22 rfl rfl)
theorem dX3_law_47 : decode cX3_law 47 = .ok (.ifCond .eq 18, 3) := dk_153 0 18 (dk_at dksX3_law_2 0 rfl rfl)
theorem dX3_law_50 : decode cX3_law 50 = .ok (.aload_n 0, 1) := dk_42 (dk_at dksX3_law_2 3 rfl rfl)
theorem dX3_law_51 : decode cX3_law 51 = .ok (.getfield 163, 3) := dk_180 0 163 (dk_at dksX3_law_2 4 rfl rfl)
theorem dX3_law_54 : decode cX3_law 54 = .ok (.aload_n 0, 1) := dk_42 (dk_at dksX3_law_2 7 rfl rfl)
theorem dX3_law_55 : decode cX3_law 55 = .ok (.getfield 160, 3) := dk_180 0 160 (dk_at dksX3_law_2 8 rfl rfl)
theorem dX3_law_58 : decode cX3_law 58 = .ok (.if_icmp .ne 7, 3) := dk_160 0 7 (dk_at dksX3_law_2 11 rfl rfl)
theorem dX3_law_61 : decode cX3_law 61 = .ok (.iconst 1, 1) := dk_4 (dk_at dksX3_law_2 14 rfl rfl)
theorem dX3_law_62 : decode cX3_law 62 = .ok (.goto 4, 3) := dk_167 0 4 (dk_at dksX3_law_2 15 rfl rfl)
theorem dX3_law_65 : decode cX3_law 65 = .ok (.iconst 0, 1) := dk_3 (dk_at dksX3_law_2 18 rfl rfl)
theorem dX3_law_66 : decode cX3_law 66 = .ok (.istore_n 2, 1) := dk_61 (dk_at dksX3_law_2 19 rfl rfl)
theorem dX3_law_67 : decode cX3_law 67 = .ok (.aload_n 0, 1) := dk_42 (dk_at dksX3_law_2 20 rfl rfl)
theorem dX3_law_68 : decode cX3_law 68 = .ok (.iconst 0, 1) := dk_3 (dk_at dksX3_law_2 21 rfl rfl)
theorem dX3_law_69 : decode cX3_law 69 = .ok (.putfield 160, 3) := dk_181 0 160 (dk_at dksX3_law_3 0 rfl rfl)
theorem dX3_law_72 : decode cX3_law 72 = .ok (.iload_n 2, 1) := dk_28 (dk_at dksX3_law_3 3 rfl rfl)
theorem dX3_law_73 : decode cX3_law 73 = .ok (.ifCond .ne 11, 3) := dk_154 0 11 (dk_at dksX3_law_3 4 rfl rfl)
theorem dX3_law_76 : decode cX3_law 76 = .ok (.bipush (-100), 2) := dk_16 156 (dk_at dksX3_law_3 7 rfl rfl)
theorem dX3_law_78 : decode cX3_law 78 = .ok (.aload_n 0, 1) := dk_42 (dk_at dksX3_law_3 9 rfl rfl)
theorem dX3_law_79 : decode cX3_law 79 = .ok (.getfield 163, 3) := dk_180 0 163 (dk_at dksX3_law_3 10 rfl rfl)
theorem dX3_law_82 : decode cX3_law 82 = .ok (.isub, 1) := dk_100 (dk_at dksX3_law_3 13 rfl rfl)
theorem dX3_law_83 : decode cX3_law 83 = .ok (.ireturn, 1) := dk_172 (dk_at dksX3_law_3 14 rfl rfl)
theorem dX3_law_84 : decode cX3_law 84 = .ok (.aload_n 0, 1) := dk_42 (dk_at dksX3_law_3 15 rfl rfl)
theorem dX3_law_85 : decode cX3_law 85 = .ok (.iconst 1, 1) := dk_4 (dk_at dksX3_law_3 16 rfl rfl)
theorem dX3_law_86 : decode cX3_law 86 = .ok (.putfield 214, 3) := dk_181 0 214 (dk_at dksX3_law_3 17 rfl rfl)
theorem dX3_law_89 : decode cX3_law 89 = .ok (.aload_n 0, 1) := dk_42 (dk_at dksX3_law_3 20 rfl rfl)
theorem dX3_law_90 : decode cX3_law 90 = .ok (.aload_n 0, 1) := dk_42 (dk_at dksX3_law_3 21 rfl rfl)
theorem dX3_law_91 : decode cX3_law 91 = .ok (.getfield 208, 3) := dk_180 0 208 (dk_at dksX3_law_4 0 rfl rfl)
theorem dX3_law_94 : decode cX3_law 94 = .ok (.putfield 218, 3) := dk_181 0 218 (dk_at dksX3_law_4 3 rfl rfl)
theorem dX3_law_97 : decode cX3_law 97 = .ok (.iconst 0, 1) := dk_3 (dk_at dksX3_law_4 6 rfl rfl)
theorem dX3_law_98 : decode cX3_law 98 = .ok (.istore_n 3, 1) := dk_62 (dk_at dksX3_law_4 7 rfl rfl)
theorem dX3_law_99 : decode cX3_law 99 = .ok (.iload_n 3, 1) := dk_29 (dk_at dksX3_law_4 8 rfl rfl)
theorem dX3_law_100 : decode cX3_law 100 = .ok (.aload_n 0, 1) := dk_42 (dk_at dksX3_law_4 9 rfl rfl)
theorem dX3_law_101 : decode cX3_law 101 = .ok (.getfield 218, 3) := dk_180 0 218 (dk_at dksX3_law_4 10 rfl rfl)
theorem dX3_law_104 : decode cX3_law 104 = .ok (.if_icmp .ge 45, 3) := dk_162 0 45 (dk_at dksX3_law_4 13 rfl rfl)
theorem dX3_law_107 : decode cX3_law 107 = .ok (.aload_n 0, 1) := dk_42 (dk_at dksX3_law_4 16 rfl rfl)
theorem dX3_law_108 : decode cX3_law 108 = .ok (.getfield 28, 3) := dk_180 0 28 (dk_at dksX3_law_4 17 rfl rfl)
theorem dX3_law_111 : decode cX3_law 111 = .ok (.iload_n 3, 1) := dk_29 (dk_at dksX3_law_4 20 rfl rfl)
theorem dX3_law_112 : decode cX3_law 112 = .ok (.aload_n 0, 1) := dk_42 (dk_at dksX3_law_4 21 rfl rfl)
theorem dX3_law_113 : decode cX3_law 113 = .ok (.getfield 40, 3) := dk_180 0 40 (dk_at dksX3_law_5 0 rfl rfl)
theorem dX3_law_116 : decode cX3_law 116 = .ok (.iload_n 3, 1) := dk_29 (dk_at dksX3_law_5 3 rfl rfl)
theorem dX3_law_117 : decode cX3_law 117 = .ok (.iaload, 1) := dk_46 (dk_at dksX3_law_5 4 rfl rfl)
theorem dX3_law_118 : decode cX3_law 118 = .ok (.iastore, 1) := dk_79 (dk_at dksX3_law_5 5 rfl rfl)
theorem dX3_law_119 : decode cX3_law 119 = .ok (.aload_n 0, 1) := dk_42 (dk_at dksX3_law_5 6 rfl rfl)
theorem dX3_law_120 : decode cX3_law 120 = .ok (.getfield 31, 3) := dk_180 0 31 (dk_at dksX3_law_5 7 rfl rfl)
theorem dX3_law_123 : decode cX3_law 123 = .ok (.iload_n 3, 1) := dk_29 (dk_at dksX3_law_5 10 rfl rfl)
theorem dX3_law_124 : decode cX3_law 124 = .ok (.aload_n 0, 1) := dk_42 (dk_at dksX3_law_5 11 rfl rfl)
theorem dX3_law_125 : decode cX3_law 125 = .ok (.getfield 43, 3) := dk_180 0 43 (dk_at dksX3_law_5 12 rfl rfl)
theorem dX3_law_128 : decode cX3_law 128 = .ok (.iload_n 3, 1) := dk_29 (dk_at dksX3_law_5 15 rfl rfl)
theorem dX3_law_129 : decode cX3_law 129 = .ok (.iaload, 1) := dk_46 (dk_at dksX3_law_5 16 rfl rfl)
theorem dX3_law_130 : decode cX3_law 130 = .ok (.iastore, 1) := dk_79 (dk_at dksX3_law_5 17 rfl rfl)
theorem dX3_law_131 : decode cX3_law 131 = .ok (.aload_n 0, 1) := dk_42 (dk_at dksX3_law_5 18 rfl rfl)
theorem dX3_law_132 : decode cX3_law 132 = .ok (.getfield 34, 3) := dk_180 0 34 (dk_at dksX3_law_5 19 rfl rfl)
theorem dX3_law_135 : decode cX3_law 135 = .ok (.iload_n 3, 1) := dk_29 (dk_at dksX3_law_5 22 rfl rfl)
theorem dX3_law_136 : decode cX3_law 136 = .ok (.aload_n 0, 1) := dk_42 (dk_at dksX3_law_5 23 rfl rfl)
theorem dX3_law_137 : decode cX3_law 137 = .ok (.getfield 46, 3) := dk_180 0 46 (dk_at dksX3_law_6 0 rfl rfl)
theorem dX3_law_140 : decode cX3_law 140 = .ok (.iload_n 3, 1) := dk_29 (dk_at dksX3_law_6 3 rfl rfl)
theorem dX3_law_141 : decode cX3_law 141 = .ok (.iaload, 1) := dk_46 (dk_at dksX3_law_6 4 rfl rfl)
theorem dX3_law_142 : decode cX3_law 142 = .ok (.iastore, 1) := dk_79 (dk_at dksX3_law_6 5 rfl rfl)
theorem dX3_law_143 : decode cX3_law 143 = .ok (.iinc 3 1, 3) := dk_132 3 1 (dk_at dksX3_law_6 6 rfl rfl)
theorem dX3_law_146 : decode cX3_law 146 = .ok (.goto (-47), 3) := dk_167 255 209 (dk_at dksX3_law_6 9 rfl rfl)
theorem dX3_law_149 : decode cX3_law 149 = .ok (.iconst 0, 1) := dk_3 (dk_at dksX3_law_6 12 rfl rfl)
theorem dX3_law_150 : decode cX3_law 150 = .ok (.istore_n 3, 1) := dk_62 (dk_at dksX3_law_6 13 rfl rfl)
theorem dX3_law_151 : decode cX3_law 151 = .ok (.iload_n 3, 1) := dk_29 (dk_at dksX3_law_6 14 rfl rfl)
theorem dX3_law_152 : decode cX3_law 152 = .ok (.aload_n 0, 1) := dk_42 (dk_at dksX3_law_6 15 rfl rfl)
theorem dX3_law_153 : decode cX3_law 153 = .ok (.getfield 170, 3) := dk_180 0 170 (dk_at dksX3_law_6 16 rfl rfl)
theorem dX3_law_156 : decode cX3_law 156 = .ok (.if_icmp .ge 21, 3) := dk_162 0 21 (dk_at dksX3_law_6 19 rfl rfl)
theorem dX3_law_159 : decode cX3_law 159 = .ok (.aload_n 0, 1) := dk_42 (dk_at dksX3_law_6 22 rfl rfl)
theorem dX3_law_160 : decode cX3_law 160 = .ok (.getfield 37, 3) := dk_180 0 37 (dk_at dksX3_law_7 0 rfl rfl)
theorem dX3_law_163 : decode cX3_law 163 = .ok (.iload_n 3, 1) := dk_29 (dk_at dksX3_law_7 3 rfl rfl)
theorem dX3_law_164 : decode cX3_law 164 = .ok (.aload_n 0, 1) := dk_42 (dk_at dksX3_law_7 4 rfl rfl)
theorem dX3_law_165 : decode cX3_law 165 = .ok (.getfield 49, 3) := dk_180 0 49 (dk_at dksX3_law_7 5 rfl rfl)
theorem dX3_law_168 : decode cX3_law 168 = .ok (.iload_n 3, 1) := dk_29 (dk_at dksX3_law_7 8 rfl rfl)
theorem dX3_law_169 : decode cX3_law 169 = .ok (.iaload, 1) := dk_46 (dk_at dksX3_law_7 9 rfl rfl)
theorem dX3_law_170 : decode cX3_law 170 = .ok (.iastore, 1) := dk_79 (dk_at dksX3_law_7 10 rfl rfl)
theorem dX3_law_171 : decode cX3_law 171 = .ok (.iinc 3 1, 3) := dk_132 3 1 (dk_at dksX3_law_7 11 rfl rfl)
theorem dX3_law_174 : decode cX3_law 174 = .ok (.goto (-23), 3) := dk_167 255 233 (dk_at dksX3_law_7 14 rfl rfl)
theorem dX3_law_177 : decode cX3_law 177 = .ok (.iconst 1, 1) := dk_4 (dk_at dksX3_law_7 17 rfl rfl)
theorem dX3_law_178 : decode cX3_law 178 = .ok (.ireturn, 1) := dk_172 (dk_at dksX3_law_7 18 rfl rfl)
def dkwX3_isLine_3 : List UInt8 := [172, 42, 180, 0, 46, 42, 89, 180, 0, 208, 90, 4, 96, 181, 0, 208, 42, 180, 0, 170, 79, 4, 172]
abbrev dktX3_isLine_3 : List UInt8 := dkwX3_isLine_3 ++ []
def dkwX3_isLine_2 : List UInt8 := [153, 0, 25, 42, 180, 0, 43, 42, 180, 0, 208, 42, 180, 0, 170, 79, 42, 182, 0, 193, 154, 0, 5, 3]
abbrev dktX3_isLine_2 : List UInt8 := dkwX3_isLine_2 ++ dktX3_isLine_3
def dkwX3_isLine_1 : List UInt8 := [180, 0, 43, 42, 180, 0, 208, 42, 180, 0, 40, 42, 180, 0, 208, 46, 79, 42, 16, 63, 182, 0, 187]
abbrev dktX3_isLine_1 : List UInt8 := dkwX3_isLine_1 ++ dktX3_isLine_2
def dkwX3_isLine_0 : List UInt8 := [42, 180, 0, 40, 42, 180, 0, 208, 42, 180, 0, 170, 79, 42, 182, 0, 193, 154, 0, 5, 3, 172, 42]
abbrev dktX3_isLine_0 : List UInt8 := dkwX3_isLine_0 ++ dktX3_isLine_1
theorem dksX3_isLine_0 : cX3_isLine.data.toList.drop 0 = dktX3_isLine_0 := by decide +kernel
theorem dksX3_isLine_1 : cX3_isLine.data.toList.drop 23 = dktX3_isLine_1 := dk_seg dksX3_isLine_0 23 rfl rfl
theorem dksX3_isLine_2 : cX3_isLine.data.toList.drop 46 = dktX3_isLine_2 := dk_seg dksX3_isLine_1 23 rfl rfl
theorem dksX3_isLine_3 : cX3_isLine.data.toList.drop 70 = dktX3_isLine_3 := dk_seg dksX3_isLine_2 24 rfl rfl
theorem dX3_isLine_0 : decode cX3_isLine 0 = .ok (.aload_n 0, 1) := dk_42 (dk_at dksX3_isLine_0 0 rfl rfl)
theorem dX3_isLine_1 : decode cX3_isLine 1 = .ok (.getfield 40, 3) := dk_180 0 40 (dk_at dksX3_isLine_0 1 rfl rfl)
theorem dX3_isLine_4 : decode cX3_isLine 4 = .ok (.aload_n 0, 1) := dk_42 (dk_at dksX3_isLine_0 4 rfl rfl)
theorem dX3_isLine_5 : decode cX3_isLine 5 = .ok (.getfield 208, 3) := dk_180 0 208 (dk_at dksX3_isLine_0 5 rfl rfl)
theorem dX3_isLine_8 : decode cX3_isLine 8 = .ok (.aload_n 0, 1) := dk_42 (dk_at dksX3_isLine_0 8 rfl rfl)
theorem dX3_isLine_9 : decode cX3_isLine 9 = .ok (.getfield 170, 3) := dk_180 0 170 (dk_at dksX3_isLine_0 9 rfl rfl)
theorem dX3_isLine_12 : decode cX3_isLine 12 = .ok (.iastore, 1) := dk_79 (dk_at dksX3_isLine_0 12 rfl rfl)
theorem dX3_isLine_13 : decode cX3_isLine 13 = .ok (.aload_n 0, 1) := dk_42 (dk_at dksX3_isLine_0 13 rfl rfl)
theorem dX3_isLine_14 : decode cX3_isLine 14 = .ok (.invokevirtual 193, 3) := dk_182 0 193 (dk_at dksX3_isLine_0 14 rfl rfl)
theorem dX3_isLine_17 : decode cX3_isLine 17 = .ok (.ifCond .ne 5, 3) := dk_154 0 5 (dk_at dksX3_isLine_0 17 rfl rfl)
theorem dX3_isLine_20 : decode cX3_isLine 20 = .ok (.iconst 0, 1) := dk_3 (dk_at dksX3_isLine_0 20 rfl rfl)
theorem dX3_isLine_21 : decode cX3_isLine 21 = .ok (.ireturn, 1) := dk_172 (dk_at dksX3_isLine_0 21 rfl rfl)
theorem dX3_isLine_22 : decode cX3_isLine 22 = .ok (.aload_n 0, 1) := dk_42 (dk_at dksX3_isLine_0 22 rfl rfl)
theorem dX3_isLine_23 : decode cX3_isLine 23 = .ok (.getfield 43, 3) := dk_180 0 43 (dk_at dksX3_isLine_1 0 rfl rfl)
theorem dX3_isLine_26 : decode cX3_isLine 26 = .ok (.aload_n 0, 1) := dk_42 (dk_at dksX3_isLine_1 3 rfl rfl)
theorem dX3_isLine_27 : decode cX3_isLine 27 = .ok (.getfield 208, 3) := dk_180 0 208 (dk_at dksX3_isLine_1 4 rfl rfl)
theorem dX3_isLine_30 : decode cX3_isLine 30 = .ok (.aload_n 0, 1) := dk_42 (dk_at dksX3_isLine_1 7 rfl rfl)
theorem dX3_isLine_31 : decode cX3_isLine 31 = .ok (.getfield 40, 3) := dk_180 0 40 (dk_at dksX3_isLine_1 8 rfl rfl)
theorem dX3_isLine_34 : decode cX3_isLine 34 = .ok (.aload_n 0, 1) := dk_42 (dk_at dksX3_isLine_1 11 rfl rfl)
theorem dX3_isLine_35 : decode cX3_isLine 35 = .ok (.getfield 208, 3) := dk_180 0 208 (dk_at dksX3_isLine_1 12 rfl rfl)
theorem dX3_isLine_38 : decode cX3_isLine 38 = .ok (.iaload, 1) := dk_46 (dk_at dksX3_isLine_1 15 rfl rfl)
theorem dX3_isLine_39 : decode cX3_isLine 39 = .ok (.iastore, 1) := dk_79 (dk_at dksX3_isLine_1 16 rfl rfl)
theorem dX3_isLine_40 : decode cX3_isLine 40 = .ok (.aload_n 0, 1) := dk_42 (dk_at dksX3_isLine_1 17 rfl rfl)
theorem dX3_isLine_41 : decode cX3_isLine 41 = .ok (.bipush 63, 2) := dk_16 63 (dk_at dksX3_isLine_1 18 rfl rfl)
theorem dX3_isLine_43 : decode cX3_isLine 43 = .ok (.invokevirtual 187, 3) := dk_182 0 187 (dk_at dksX3_isLine_1 20 rfl rfl)
theorem dX3_isLine_46 : decode cX3_isLine 46 = .ok (.ifCond .eq 25, 3) := dk_153 0 25 (dk_at dksX3_isLine_2 0 rfl rfl)
theorem dX3_isLine_49 : decode cX3_isLine 49 = .ok (.aload_n 0, 1) := dk_42 (dk_at dksX3_isLine_2 3 rfl rfl)
theorem dX3_isLine_50 : decode cX3_isLine 50 = .ok (.getfield 43, 3) := dk_180 0 43 (dk_at dksX3_isLine_2 4 rfl rfl)
theorem dX3_isLine_53 : decode cX3_isLine 53 = .ok (.aload_n 0, 1) := dk_42 (dk_at dksX3_isLine_2 7 rfl rfl)
theorem dX3_isLine_54 : decode cX3_isLine 54 = .ok (.getfield 208, 3) := dk_180 0 208 (dk_at dksX3_isLine_2 8 rfl rfl)
theorem dX3_isLine_57 : decode cX3_isLine 57 = .ok (.aload_n 0, 1) := dk_42 (dk_at dksX3_isLine_2 11 rfl rfl)
theorem dX3_isLine_58 : decode cX3_isLine 58 = .ok (.getfield 170, 3) := dk_180 0 170 (dk_at dksX3_isLine_2 12 rfl rfl)
theorem dX3_isLine_61 : decode cX3_isLine 61 = .ok (.iastore, 1) := dk_79 (dk_at dksX3_isLine_2 15 rfl rfl)
theorem dX3_isLine_62 : decode cX3_isLine 62 = .ok (.aload_n 0, 1) := dk_42 (dk_at dksX3_isLine_2 16 rfl rfl)
theorem dX3_isLine_63 : decode cX3_isLine 63 = .ok (.invokevirtual 193, 3) := dk_182 0 193 (dk_at dksX3_isLine_2 17 rfl rfl)
theorem dX3_isLine_66 : decode cX3_isLine 66 = .ok (.ifCond .ne 5, 3) := dk_154 0 5 (dk_at dksX3_isLine_2 20 rfl rfl)
theorem dX3_isLine_69 : decode cX3_isLine 69 = .ok (.iconst 0, 1) := dk_3 (dk_at dksX3_isLine_2 23 rfl rfl)
theorem dX3_isLine_70 : decode cX3_isLine 70 = .ok (.ireturn, 1) := dk_172 (dk_at dksX3_isLine_3 0 rfl rfl)
theorem dX3_isLine_71 : decode cX3_isLine 71 = .ok (.aload_n 0, 1) := dk_42 (dk_at dksX3_isLine_3 1 rfl rfl)
theorem dX3_isLine_72 : decode cX3_isLine 72 = .ok (.getfield 46, 3) := dk_180 0 46 (dk_at dksX3_isLine_3 2 rfl rfl)
theorem dX3_isLine_75 : decode cX3_isLine 75 = .ok (.aload_n 0, 1) := dk_42 (dk_at dksX3_isLine_3 5 rfl rfl)
theorem dX3_isLine_76 : decode cX3_isLine 76 = .ok (.dup, 1) := dk_89 (dk_at dksX3_isLine_3 6 rfl rfl)
theorem dX3_isLine_77 : decode cX3_isLine 77 = .ok (.getfield 208, 3) := dk_180 0 208 (dk_at dksX3_isLine_3 7 rfl rfl)
theorem dX3_isLine_80 : decode cX3_isLine 80 = .ok (.dup_x1, 1) := dk_90 (dk_at dksX3_isLine_3 10 rfl rfl)
theorem dX3_isLine_81 : decode cX3_isLine 81 = .ok (.iconst 1, 1) := dk_4 (dk_at dksX3_isLine_3 11 rfl rfl)
theorem dX3_isLine_82 : decode cX3_isLine 82 = .ok (.iadd, 1) := dk_96 (dk_at dksX3_isLine_3 12 rfl rfl)
theorem dX3_isLine_83 : decode cX3_isLine 83 = .ok (.putfield 208, 3) := dk_181 0 208 (dk_at dksX3_isLine_3 13 rfl rfl)
theorem dX3_isLine_86 : decode cX3_isLine 86 = .ok (.aload_n 0, 1) := dk_42 (dk_at dksX3_isLine_3 16 rfl rfl)
theorem dX3_isLine_87 : decode cX3_isLine 87 = .ok (.getfield 170, 3) := dk_180 0 170 (dk_at dksX3_isLine_3 17 rfl rfl)
theorem dX3_isLine_90 : decode cX3_isLine 90 = .ok (.iastore, 1) := dk_79 (dk_at dksX3_isLine_3 20 rfl rfl)
theorem dX3_isLine_91 : decode cX3_isLine 91 = .ok (.iconst 1, 1) := dk_4 (dk_at dksX3_isLine_3 21 rfl rfl)
theorem dX3_isLine_92 : decode cX3_isLine 92 = .ok (.ireturn, 1) := dk_172 (dk_at dksX3_isLine_3 22 rfl rfl)
def dkwX3_isE_1 : List UInt8 := [154, 0, 5, 3, 172, 42, 16, 6, 182, 0, 177, 87, 167, 255, 231, 4, 172]
abbrev dktX3_isE_1 : List UInt8 := dkwX3_isE_1 ++ []
def dkwX3_isE_0 : List UInt8 := [42, 182, 0, 205, 154, 0, 5, 3, 172, 42, 16, 124, 182, 0, 187, 153, 0, 22, 42, 182, 0, 205]
abbrev dktX3_isE_0 : List UInt8 := dkwX3_isE_0 ++ dktX3_isE_1
theorem dksX3_isE_0 : cX3_isE.data.toList.drop 0 = dktX3_isE_0 := by decide +kernel
theorem dksX3_isE_1 : cX3_isE.data.toList.drop 22 = dktX3_isE_1 := dk_seg dksX3_isE_0 22 rfl rfl
theorem dX3_isE_0 : decode cX3_isE 0 = .ok (.aload_n 0, 1) := dk_42 (dk_at dksX3_isE_0 0 rfl rfl)
theorem dX3_isE_1 : decode cX3_isE 1 = .ok (.invokevirtual 205, 3) := dk_182 0 205 (dk_at dksX3_isE_0 1 rfl rfl)
theorem dX3_isE_4 : decode cX3_isE 4 = .ok (.ifCond .ne 5, 3) := dk_154 0 5 (dk_at dksX3_isE_0 4 rfl rfl)
theorem dX3_isE_7 : decode cX3_isE 7 = .ok (.iconst 0, 1) := dk_3 (dk_at dksX3_isE_0 7 rfl rfl)
theorem dX3_isE_8 : decode cX3_isE 8 = .ok (.ireturn, 1) := dk_172 (dk_at dksX3_isE_0 8 rfl rfl)
theorem dX3_isE_9 : decode cX3_isE 9 = .ok (.aload_n 0, 1) := dk_42 (dk_at dksX3_isE_0 9 rfl rfl)
theorem dX3_isE_10 : decode cX3_isE 10 = .ok (.bipush 124, 2) := dk_16 124 (dk_at dksX3_isE_0 10 rfl rfl)
theorem dX3_isE_12 : decode cX3_isE 12 = .ok (.invokevirtual 187, 3) := dk_182 0 187 (dk_at dksX3_isE_0 12 rfl rfl)
theorem dX3_isE_15 : decode cX3_isE 15 = .ok (.ifCond .eq 22, 3) := dk_153 0 22 (dk_at dksX3_isE_0 15 rfl rfl)
theorem dX3_isE_18 : decode cX3_isE 18 = .ok (.aload_n 0, 1) := dk_42 (dk_at dksX3_isE_0 18 rfl rfl)
theorem dX3_isE_19 : decode cX3_isE 19 = .ok (.invokevirtual 205, 3) := dk_182 0 205 (dk_at dksX3_isE_0 19 rfl rfl)
theorem dX3_isE_22 : decode cX3_isE 22 = .ok (.ifCond .ne 5, 3) := dk_154 0 5 (dk_at dksX3_isE_1 0 rfl rfl)
theorem dX3_isE_25 : decode cX3_isE 25 = .ok (.iconst 0, 1) := dk_3 (dk_at dksX3_isE_1 3 rfl rfl)
theorem dX3_isE_26 : decode cX3_isE 26 = .ok (.ireturn, 1) := dk_172 (dk_at dksX3_isE_1 4 rfl rfl)
theorem dX3_isE_27 : decode cX3_isE 27 = .ok (.aload_n 0, 1) := dk_42 (dk_at dksX3_isE_1 5 rfl rfl)
theorem dX3_isE_28 : decode cX3_isE 28 = .ok (.bipush 6, 2) := dk_16 6 (dk_at dksX3_isE_1 6 rfl rfl)
theorem dX3_isE_30 : decode cX3_isE 30 = .ok (.invokevirtual 177, 3) := dk_182 0 177 (dk_at dksX3_isE_1 8 rfl rfl)
theorem dX3_isE_33 : decode cX3_isE 33 = .ok (.pop, 1) := dk_87 (dk_at dksX3_isE_1 11 rfl rfl)
theorem dX3_isE_34 : decode cX3_isE 34 = .ok (.goto (-25), 3) := dk_167 255 231 (dk_at dksX3_isE_1 12 rfl rfl)
theorem dX3_isE_37 : decode cX3_isE 37 = .ok (.iconst 1, 1) := dk_4 (dk_at dksX3_isE_1 15 rfl rfl)
theorem dX3_isE_38 : decode cX3_isE 38 = .ok (.ireturn, 1) := dk_172 (dk_at dksX3_isE_1 16 rfl rfl)
def dkwX3_isA_1 : List UInt8 := [154, 0, 5, 3, 172, 42, 16, 7, 182, 0, 177, 87, 167, 255, 231, 4, 172]
abbrev dktX3_isA_1 : List UInt8 := dkwX3_isA_1 ++ []
def dkwX3_isA_0 : List UInt8 := [42, 182, 0, 202, 154, 0, 5, 3, 172, 42, 16, 38, 182, 0, 187, 153, 0, 22, 42, 182, 0, 202]
abbrev dktX3_isA_0 : List UInt8 := dkwX3_isA_0 ++ dktX3_isA_1
theorem dksX3_isA_0 : cX3_isA.data.toList.drop 0 = dktX3_isA_0 := by decide +kernel
theorem dksX3_isA_1 : cX3_isA.data.toList.drop 22 = dktX3_isA_1 := dk_seg dksX3_isA_0 22 rfl rfl
theorem dX3_isA_0 : decode cX3_isA 0 = .ok (.aload_n 0, 1) := dk_42 (dk_at dksX3_isA_0 0 rfl rfl)
theorem dX3_isA_1 : decode cX3_isA 1 = .ok (.invokevirtual 202, 3) := dk_182 0 202 (dk_at dksX3_isA_0 1 rfl rfl)
theorem dX3_isA_4 : decode cX3_isA 4 = .ok (.ifCond .ne 5, 3) := dk_154 0 5 (dk_at dksX3_isA_0 4 rfl rfl)
theorem dX3_isA_7 : decode cX3_isA 7 = .ok (.iconst 0, 1) := dk_3 (dk_at dksX3_isA_0 7 rfl rfl)
theorem dX3_isA_8 : decode cX3_isA 8 = .ok (.ireturn, 1) := dk_172 (dk_at dksX3_isA_0 8 rfl rfl)
theorem dX3_isA_9 : decode cX3_isA 9 = .ok (.aload_n 0, 1) := dk_42 (dk_at dksX3_isA_0 9 rfl rfl)
theorem dX3_isA_10 : decode cX3_isA 10 = .ok (.bipush 38, 2) := dk_16 38 (dk_at dksX3_isA_0 10 rfl rfl)
theorem dX3_isA_12 : decode cX3_isA 12 = .ok (.invokevirtual 187, 3) := dk_182 0 187 (dk_at dksX3_isA_0 12 rfl rfl)
theorem dX3_isA_15 : decode cX3_isA 15 = .ok (.ifCond .eq 22, 3) := dk_153 0 22 (dk_at dksX3_isA_0 15 rfl rfl)
theorem dX3_isA_18 : decode cX3_isA 18 = .ok (.aload_n 0, 1) := dk_42 (dk_at dksX3_isA_0 18 rfl rfl)
theorem dX3_isA_19 : decode cX3_isA 19 = .ok (.invokevirtual 202, 3) := dk_182 0 202 (dk_at dksX3_isA_0 19 rfl rfl)
theorem dX3_isA_22 : decode cX3_isA 22 = .ok (.ifCond .ne 5, 3) := dk_154 0 5 (dk_at dksX3_isA_1 0 rfl rfl)
theorem dX3_isA_25 : decode cX3_isA 25 = .ok (.iconst 0, 1) := dk_3 (dk_at dksX3_isA_1 3 rfl rfl)
theorem dX3_isA_26 : decode cX3_isA 26 = .ok (.ireturn, 1) := dk_172 (dk_at dksX3_isA_1 4 rfl rfl)
theorem dX3_isA_27 : decode cX3_isA 27 = .ok (.aload_n 0, 1) := dk_42 (dk_at dksX3_isA_1 5 rfl rfl)
theorem dX3_isA_28 : decode cX3_isA 28 = .ok (.bipush 7, 2) := dk_16 7 (dk_at dksX3_isA_1 6 rfl rfl)
theorem dX3_isA_30 : decode cX3_isA 30 = .ok (.invokevirtual 177, 3) := dk_182 0 177 (dk_at dksX3_isA_1 8 rfl rfl)
theorem dX3_isA_33 : decode cX3_isA 33 = .ok (.pop, 1) := dk_87 (dk_at dksX3_isA_1 11 rfl rfl)
theorem dX3_isA_34 : decode cX3_isA 34 = .ok (.goto (-25), 3) := dk_167 255 231 (dk_at dksX3_isA_1 12 rfl rfl)
theorem dX3_isA_37 : decode cX3_isA 37 = .ok (.iconst 1, 1) := dk_4 (dk_at dksX3_isA_1 15 rfl rfl)
theorem dX3_isA_38 : decode cX3_isA 38 = .ok (.ireturn, 1) := dk_172 (dk_at dksX3_isA_1 16 rfl rfl)
def dkwX3_isB_3 : List UInt8 := [182, 0, 199, 153, 0, 15, 42, 27, 182, 0, 177, 153, 0, 7, 4, 167, 0, 4, 3, 172]
abbrev dktX3_isB_3 : List UInt8 := dkwX3_isB_3 ++ []
def dkwX3_isB_2 : List UInt8 := [167, 0, 4, 2, 60, 27, 156, 0, 5, 4, 172, 42, 89, 180, 0, 163, 4, 96, 181, 0, 163, 42]
abbrev dktX3_isB_2 : List UInt8 := dkwX3_isB_2 ++ dktX3_isB_3
def dkwX3_isB_1 : List UInt8 := [182, 0, 166, 16, 61, 160, 0, 8, 16, 9, 167, 0, 18, 42, 182, 0, 166, 16, 62, 160, 0, 8, 16, 10]
abbrev dktX3_isB_1 : List UInt8 := dkwX3_isB_1 ++ dktX3_isB_2
def dkwX3_isB_0 : List UInt8 := [42, 182, 0, 199, 154, 0, 5, 3, 172, 42, 182, 0, 166, 16, 60, 160, 0, 8, 16, 8, 167, 0, 32, 42]
abbrev dktX3_isB_0 : List UInt8 := dkwX3_isB_0 ++ dktX3_isB_1
theorem dksX3_isB_0 : cX3_isB.data.toList.drop 0 = dktX3_isB_0 := by decide +kernel
theorem dksX3_isB_1 : cX3_isB.data.toList.drop 24 = dktX3_isB_1 := dk_seg dksX3_isB_0 24 rfl rfl
theorem dksX3_isB_2 : cX3_isB.data.toList.drop 48 = dktX3_isB_2 := dk_seg dksX3_isB_1 24 rfl rfl
theorem dksX3_isB_3 : cX3_isB.data.toList.drop 70 = dktX3_isB_3 := dk_seg dksX3_isB_2 22 rfl rfl
theorem dX3_isB_0 : decode cX3_isB 0 = .ok (.aload_n 0, 1) := dk_42 (dk_at dksX3_isB_0 0 rfl rfl)
theorem dX3_isB_1 : decode cX3_isB 1 = .ok (.invokevirtual 199, 3) := dk_182 0 199 (dk_at dksX3_isB_0 1 rfl rfl)
theorem dX3_isB_4 : decode cX3_isB 4 = .ok (.ifCond .ne 5, 3) := dk_154 0 5 (dk_at dksX3_isB_0 4 rfl rfl)
theorem dX3_isB_7 : decode cX3_isB 7 = .ok (.iconst 0, 1) := dk_3 (dk_at dksX3_isB_0 7 rfl rfl)
theorem dX3_isB_8 : decode cX3_isB 8 = .ok (.ireturn, 1) := dk_172 (dk_at dksX3_isB_0 8 rfl rfl)
theorem dX3_isB_9 : decode cX3_isB 9 = .ok (.aload_n 0, 1) := dk_42 (dk_at dksX3_isB_0 9 rfl rfl)
theorem dX3_isB_10 : decode cX3_isB 10 = .ok (.invokevirtual 166, 3) := dk_182 0 166 (dk_at dksX3_isB_0 10 rfl rfl)
theorem dX3_isB_13 : decode cX3_isB 13 = .ok (.bipush 60, 2) := dk_16 60 (dk_at dksX3_isB_0 13 rfl rfl)
theorem dX3_isB_15 : decode cX3_isB 15 = .ok (.if_icmp .ne 8, 3) := dk_160 0 8 (dk_at dksX3_isB_0 15 rfl rfl)
theorem dX3_isB_18 : decode cX3_isB 18 = .ok (.bipush 8, 2) := dk_16 8 (dk_at dksX3_isB_0 18 rfl rfl)
theorem dX3_isB_20 : decode cX3_isB 20 = .ok (.goto 32, 3) := dk_167 0 32 (dk_at dksX3_isB_0 20 rfl rfl)
theorem dX3_isB_23 : decode cX3_isB 23 = .ok (.aload_n 0, 1) := dk_42 (dk_at dksX3_isB_0 23 rfl rfl)
theorem dX3_isB_24 : decode cX3_isB 24 = .ok (.invokevirtual 166, 3) := dk_182 0 166 (dk_at dksX3_isB_1 0 rfl rfl)
theorem dX3_isB_27 : decode cX3_isB 27 = .ok (.bipush 61, 2) := dk_16 61 (dk_at dksX3_isB_1 3 rfl rfl)
theorem dX3_isB_29 : decode cX3_isB 29 = .ok (.if_icmp .ne 8, 3) := dk_160 0 8 (dk_at dksX3_isB_1 5 rfl rfl)
theorem dX3_isB_32 : decode cX3_isB 32 = .ok (.bipush 9, 2) := dk_16 9 (dk_at dksX3_isB_1 8 rfl rfl)
theorem dX3_isB_34 : decode cX3_isB 34 = .ok (.goto 18, 3) := dk_167 0 18 (dk_at dksX3_isB_1 10 rfl rfl)
theorem dX3_isB_37 : decode cX3_isB 37 = .ok (.aload_n 0, 1) := dk_42 (dk_at dksX3_isB_1 13 rfl rfl)
theorem dX3_isB_38 : decode cX3_isB 38 = .ok (.invokevirtual 166, 3) := dk_182 0 166 (dk_at dksX3_isB_1 14 rfl rfl)
theorem dX3_isB_41 : decode cX3_isB 41 = .ok (.bipush 62, 2) := dk_16 62 (dk_at dksX3_isB_1 17 rfl rfl)
theorem dX3_isB_43 : decode cX3_isB 43 = .ok (.if_icmp .ne 8, 3) := dk_160 0 8 (dk_at dksX3_isB_1 19 rfl rfl)
theorem dX3_isB_46 : decode cX3_isB 46 = .ok (.bipush 10, 2) := dk_16 10 (dk_at dksX3_isB_1 22 rfl rfl)
theorem dX3_isB_48 : decode cX3_isB 48 = .ok (.goto 4, 3) := dk_167 0 4 (dk_at dksX3_isB_2 0 rfl rfl)
theorem dX3_isB_51 : decode cX3_isB 51 = .ok (.iconst (-1), 1) := dk_2 (dk_at dksX3_isB_2 3 rfl rfl)
theorem dX3_isB_52 : decode cX3_isB 52 = .ok (.istore_n 1, 1) := dk_60 (dk_at dksX3_isB_2 4 rfl rfl)
theorem dX3_isB_53 : decode cX3_isB 53 = .ok (.iload_n 1, 1) := dk_27 (dk_at dksX3_isB_2 5 rfl rfl)
theorem dX3_isB_54 : decode cX3_isB 54 = .ok (.ifCond .ge 5, 3) := dk_156 0 5 (dk_at dksX3_isB_2 6 rfl rfl)
theorem dX3_isB_57 : decode cX3_isB 57 = .ok (.iconst 1, 1) := dk_4 (dk_at dksX3_isB_2 9 rfl rfl)
theorem dX3_isB_58 : decode cX3_isB 58 = .ok (.ireturn, 1) := dk_172 (dk_at dksX3_isB_2 10 rfl rfl)
theorem dX3_isB_59 : decode cX3_isB 59 = .ok (.aload_n 0, 1) := dk_42 (dk_at dksX3_isB_2 11 rfl rfl)
theorem dX3_isB_60 : decode cX3_isB 60 = .ok (.dup, 1) := dk_89 (dk_at dksX3_isB_2 12 rfl rfl)
theorem dX3_isB_61 : decode cX3_isB 61 = .ok (.getfield 163, 3) := dk_180 0 163 (dk_at dksX3_isB_2 13 rfl rfl)
theorem dX3_isB_64 : decode cX3_isB 64 = .ok (.iconst 1, 1) := dk_4 (dk_at dksX3_isB_2 16 rfl rfl)
theorem dX3_isB_65 : decode cX3_isB 65 = .ok (.iadd, 1) := dk_96 (dk_at dksX3_isB_2 17 rfl rfl)
theorem dX3_isB_66 : decode cX3_isB 66 = .ok (.putfield 163, 3) := dk_181 0 163 (dk_at dksX3_isB_2 18 rfl rfl)
theorem dX3_isB_69 : decode cX3_isB 69 = .ok (.aload_n 0, 1) := dk_42 (dk_at dksX3_isB_2 21 rfl rfl)
theorem dX3_isB_70 : decode cX3_isB 70 = .ok (.invokevirtual 199, 3) := dk_182 0 199 (dk_at dksX3_isB_3 0 rfl rfl)
theorem dX3_isB_73 : decode cX3_isB 73 = .ok (.ifCond .eq 15, 3) := dk_153 0 15 (dk_at dksX3_isB_3 3 rfl rfl)
theorem dX3_isB_76 : decode cX3_isB 76 = .ok (.aload_n 0, 1) := dk_42 (dk_at dksX3_isB_3 6 rfl rfl)
theorem dX3_isB_77 : decode cX3_isB 77 = .ok (.iload_n 1, 1) := dk_27 (dk_at dksX3_isB_3 7 rfl rfl)
theorem dX3_isB_78 : decode cX3_isB 78 = .ok (.invokevirtual 177, 3) := dk_182 0 177 (dk_at dksX3_isB_3 8 rfl rfl)
theorem dX3_isB_81 : decode cX3_isB 81 = .ok (.ifCond .eq 7, 3) := dk_153 0 7 (dk_at dksX3_isB_3 11 rfl rfl)
theorem dX3_isB_84 : decode cX3_isB 84 = .ok (.iconst 1, 1) := dk_4 (dk_at dksX3_isB_3 14 rfl rfl)
theorem dX3_isB_85 : decode cX3_isB 85 = .ok (.goto 4, 3) := dk_167 0 4 (dk_at dksX3_isB_3 15 rfl rfl)
theorem dX3_isB_88 : decode cX3_isB 88 = .ok (.iconst 0, 1) := dk_3 (dk_at dksX3_isB_3 18 rfl rfl)
theorem dX3_isB_89 : decode cX3_isB 89 = .ok (.ireturn, 1) := dk_172 (dk_at dksX3_isB_3 19 rfl rfl)
def dkwX3_isS_3 : List UInt8 := [167, 255, 195]
abbrev dktX3_isS_3 : List UInt8 := dkwX3_isS_3 ++ []
def dkwX3_isS_2 : List UInt8 := [180, 0, 163, 4, 96, 181, 0, 163, 42, 182, 0, 196, 154, 0, 5, 3, 172, 42, 27, 182, 0, 177, 87]
abbrev dktX3_isS_2 : List UInt8 := dkwX3_isS_2 ++ dktX3_isS_3
def dkwX3_isS_1 : List UInt8 := [182, 0, 166, 16, 45, 160, 0, 8, 16, 12, 167, 0, 4, 2, 60, 27, 156, 0, 5, 4, 172, 42, 89]
abbrev dktX3_isS_1 : List UInt8 := dkwX3_isS_1 ++ dktX3_isS_2
def dkwX3_isS_0 : List UInt8 := [42, 182, 0, 196, 154, 0, 5, 3, 172, 42, 182, 0, 166, 16, 43, 160, 0, 8, 16, 11, 167, 0, 18, 42]
abbrev dktX3_isS_0 : List UInt8 := dkwX3_isS_0 ++ dktX3_isS_1
theorem dksX3_isS_0 : cX3_isS.data.toList.drop 0 = dktX3_isS_0 := by decide +kernel
theorem dksX3_isS_1 : cX3_isS.data.toList.drop 24 = dktX3_isS_1 := dk_seg dksX3_isS_0 24 rfl rfl
theorem dksX3_isS_2 : cX3_isS.data.toList.drop 47 = dktX3_isS_2 := dk_seg dksX3_isS_1 23 rfl rfl
theorem dksX3_isS_3 : cX3_isS.data.toList.drop 70 = dktX3_isS_3 := dk_seg dksX3_isS_2 23 rfl rfl
theorem dX3_isS_0 : decode cX3_isS 0 = .ok (.aload_n 0, 1) := dk_42 (dk_at dksX3_isS_0 0 rfl rfl)
theorem dX3_isS_1 : decode cX3_isS 1 = .ok (.invokevirtual 196, 3) := dk_182 0 196 (dk_at dksX3_isS_0 1 rfl rfl)
theorem dX3_isS_4 : decode cX3_isS 4 = .ok (.ifCond .ne 5, 3) := dk_154 0 5 (dk_at dksX3_isS_0 4 rfl rfl)
theorem dX3_isS_7 : decode cX3_isS 7 = .ok (.iconst 0, 1) := dk_3 (dk_at dksX3_isS_0 7 rfl rfl)
theorem dX3_isS_8 : decode cX3_isS 8 = .ok (.ireturn, 1) := dk_172 (dk_at dksX3_isS_0 8 rfl rfl)
theorem dX3_isS_9 : decode cX3_isS 9 = .ok (.aload_n 0, 1) := dk_42 (dk_at dksX3_isS_0 9 rfl rfl)
theorem dX3_isS_10 : decode cX3_isS 10 = .ok (.invokevirtual 166, 3) := dk_182 0 166 (dk_at dksX3_isS_0 10 rfl rfl)
theorem dX3_isS_13 : decode cX3_isS 13 = .ok (.bipush 43, 2) := dk_16 43 (dk_at dksX3_isS_0 13 rfl rfl)
theorem dX3_isS_15 : decode cX3_isS 15 = .ok (.if_icmp .ne 8, 3) := dk_160 0 8 (dk_at dksX3_isS_0 15 rfl rfl)
theorem dX3_isS_18 : decode cX3_isS 18 = .ok (.bipush 11, 2) := dk_16 11 (dk_at dksX3_isS_0 18 rfl rfl)
theorem dX3_isS_20 : decode cX3_isS 20 = .ok (.goto 18, 3) := dk_167 0 18 (dk_at dksX3_isS_0 20 rfl rfl)
theorem dX3_isS_23 : decode cX3_isS 23 = .ok (.aload_n 0, 1) := dk_42 (dk_at dksX3_isS_0 23 rfl rfl)
theorem dX3_isS_24 : decode cX3_isS 24 = .ok (.invokevirtual 166, 3) := dk_182 0 166 (dk_at dksX3_isS_1 0 rfl rfl)
theorem dX3_isS_27 : decode cX3_isS 27 = .ok (.bipush 45, 2) := dk_16 45 (dk_at dksX3_isS_1 3 rfl rfl)
theorem dX3_isS_29 : decode cX3_isS 29 = .ok (.if_icmp .ne 8, 3) := dk_160 0 8 (dk_at dksX3_isS_1 5 rfl rfl)
theorem dX3_isS_32 : decode cX3_isS 32 = .ok (.bipush 12, 2) := dk_16 12 (dk_at dksX3_isS_1 8 rfl rfl)
theorem dX3_isS_34 : decode cX3_isS 34 = .ok (.goto 4, 3) := dk_167 0 4 (dk_at dksX3_isS_1 10 rfl rfl)
theorem dX3_isS_37 : decode cX3_isS 37 = .ok (.iconst (-1), 1) := dk_2 (dk_at dksX3_isS_1 13 rfl rfl)
theorem dX3_isS_38 : decode cX3_isS 38 = .ok (.istore_n 1, 1) := dk_60 (dk_at dksX3_isS_1 14 rfl rfl)
theorem dX3_isS_39 : decode cX3_isS 39 = .ok (.iload_n 1, 1) := dk_27 (dk_at dksX3_isS_1 15 rfl rfl)
theorem dX3_isS_40 : decode cX3_isS 40 = .ok (.ifCond .ge 5, 3) := dk_156 0 5 (dk_at dksX3_isS_1 16 rfl rfl)
theorem dX3_isS_43 : decode cX3_isS 43 = .ok (.iconst 1, 1) := dk_4 (dk_at dksX3_isS_1 19 rfl rfl)
theorem dX3_isS_44 : decode cX3_isS 44 = .ok (.ireturn, 1) := dk_172 (dk_at dksX3_isS_1 20 rfl rfl)
theorem dX3_isS_45 : decode cX3_isS 45 = .ok (.aload_n 0, 1) := dk_42 (dk_at dksX3_isS_1 21 rfl rfl)
theorem dX3_isS_46 : decode cX3_isS 46 = .ok (.dup, 1) := dk_89 (dk_at dksX3_isS_1 22 rfl rfl)
theorem dX3_isS_47 : decode cX3_isS 47 = .ok (.getfield 163, 3) := dk_180 0 163 (dk_at dksX3_isS_2 0 rfl rfl)
theorem dX3_isS_50 : decode cX3_isS 50 = .ok (.iconst 1, 1) := dk_4 (dk_at dksX3_isS_2 3 rfl rfl)
theorem dX3_isS_51 : decode cX3_isS 51 = .ok (.iadd, 1) := dk_96 (dk_at dksX3_isS_2 4 rfl rfl)
theorem dX3_isS_52 : decode cX3_isS 52 = .ok (.putfield 163, 3) := dk_181 0 163 (dk_at dksX3_isS_2 5 rfl rfl)
theorem dX3_isS_55 : decode cX3_isS 55 = .ok (.aload_n 0, 1) := dk_42 (dk_at dksX3_isS_2 8 rfl rfl)
theorem dX3_isS_56 : decode cX3_isS 56 = .ok (.invokevirtual 196, 3) := dk_182 0 196 (dk_at dksX3_isS_2 9 rfl rfl)
theorem dX3_isS_59 : decode cX3_isS 59 = .ok (.ifCond .ne 5, 3) := dk_154 0 5 (dk_at dksX3_isS_2 12 rfl rfl)
theorem dX3_isS_62 : decode cX3_isS 62 = .ok (.iconst 0, 1) := dk_3 (dk_at dksX3_isS_2 15 rfl rfl)
theorem dX3_isS_63 : decode cX3_isS 63 = .ok (.ireturn, 1) := dk_172 (dk_at dksX3_isS_2 16 rfl rfl)
theorem dX3_isS_64 : decode cX3_isS 64 = .ok (.aload_n 0, 1) := dk_42 (dk_at dksX3_isS_2 17 rfl rfl)
theorem dX3_isS_65 : decode cX3_isS 65 = .ok (.iload_n 1, 1) := dk_27 (dk_at dksX3_isS_2 18 rfl rfl)
theorem dX3_isS_66 : decode cX3_isS 66 = .ok (.invokevirtual 177, 3) := dk_182 0 177 (dk_at dksX3_isS_2 19 rfl rfl)
theorem dX3_isS_69 : decode cX3_isS 69 = .ok (.pop, 1) := dk_87 (dk_at dksX3_isS_2 22 rfl rfl)
theorem dX3_isS_70 : decode cX3_isS 70 = .ok (.goto (-61), 3) := dk_167 255 195 (dk_at dksX3_isS_3 0 rfl rfl)
def dkwX3_isP_3 : List UInt8 := [182, 0, 190, 154, 0, 5, 3, 172, 42, 27, 182, 0, 177, 87, 167, 255, 181]
abbrev dktX3_isP_3 : List UInt8 := dkwX3_isP_3 ++ []
def dkwX3_isP_2 : List UInt8 := [167, 0, 4, 2, 60, 27, 156, 0, 5, 4, 172, 42, 89, 180, 0, 163, 4, 96, 181, 0, 163, 42]
abbrev dktX3_isP_2 : List UInt8 := dkwX3_isP_2 ++ dktX3_isP_3
def dkwX3_isP_1 : List UInt8 := [182, 0, 166, 16, 47, 160, 0, 8, 16, 14, 167, 0, 18, 42, 182, 0, 166, 16, 37, 160, 0, 8, 16, 15]
abbrev dktX3_isP_1 : List UInt8 := dkwX3_isP_1 ++ dktX3_isP_2
def dkwX3_isP_0 : List UInt8 := [42, 182, 0, 190, 154, 0, 5, 3, 172, 42, 182, 0, 166, 16, 42, 160, 0, 8, 16, 13, 167, 0, 32, 42]
abbrev dktX3_isP_0 : List UInt8 := dkwX3_isP_0 ++ dktX3_isP_1
theorem dksX3_isP_0 : cX3_isP.data.toList.drop 0 = dktX3_isP_0 := by decide +kernel
theorem dksX3_isP_1 : cX3_isP.data.toList.drop 24 = dktX3_isP_1 := dk_seg dksX3_isP_0 24 rfl rfl
theorem dksX3_isP_2 : cX3_isP.data.toList.drop 48 = dktX3_isP_2 := dk_seg dksX3_isP_1 24 rfl rfl
theorem dksX3_isP_3 : cX3_isP.data.toList.drop 70 = dktX3_isP_3 := dk_seg dksX3_isP_2 22 rfl rfl
theorem dX3_isP_0 : decode cX3_isP 0 = .ok (.aload_n 0, 1) := dk_42 (dk_at dksX3_isP_0 0 rfl rfl)
theorem dX3_isP_1 : decode cX3_isP 1 = .ok (.invokevirtual 190, 3) := dk_182 0 190 (dk_at dksX3_isP_0 1 rfl rfl)
theorem dX3_isP_4 : decode cX3_isP 4 = .ok (.ifCond .ne 5, 3) := dk_154 0 5 (dk_at dksX3_isP_0 4 rfl rfl)
theorem dX3_isP_7 : decode cX3_isP 7 = .ok (.iconst 0, 1) := dk_3 (dk_at dksX3_isP_0 7 rfl rfl)
theorem dX3_isP_8 : decode cX3_isP 8 = .ok (.ireturn, 1) := dk_172 (dk_at dksX3_isP_0 8 rfl rfl)
theorem dX3_isP_9 : decode cX3_isP 9 = .ok (.aload_n 0, 1) := dk_42 (dk_at dksX3_isP_0 9 rfl rfl)
theorem dX3_isP_10 : decode cX3_isP 10 = .ok (.invokevirtual 166, 3) := dk_182 0 166 (dk_at dksX3_isP_0 10 rfl rfl)
theorem dX3_isP_13 : decode cX3_isP 13 = .ok (.bipush 42, 2) := dk_16 42 (dk_at dksX3_isP_0 13 rfl rfl)
theorem dX3_isP_15 : decode cX3_isP 15 = .ok (.if_icmp .ne 8, 3) := dk_160 0 8 (dk_at dksX3_isP_0 15 rfl rfl)
theorem dX3_isP_18 : decode cX3_isP 18 = .ok (.bipush 13, 2) := dk_16 13 (dk_at dksX3_isP_0 18 rfl rfl)
theorem dX3_isP_20 : decode cX3_isP 20 = .ok (.goto 32, 3) := dk_167 0 32 (dk_at dksX3_isP_0 20 rfl rfl)
theorem dX3_isP_23 : decode cX3_isP 23 = .ok (.aload_n 0, 1) := dk_42 (dk_at dksX3_isP_0 23 rfl rfl)
theorem dX3_isP_24 : decode cX3_isP 24 = .ok (.invokevirtual 166, 3) := dk_182 0 166 (dk_at dksX3_isP_1 0 rfl rfl)
theorem dX3_isP_27 : decode cX3_isP 27 = .ok (.bipush 47, 2) := dk_16 47 (dk_at dksX3_isP_1 3 rfl rfl)
theorem dX3_isP_29 : decode cX3_isP 29 = .ok (.if_icmp .ne 8, 3) := dk_160 0 8 (dk_at dksX3_isP_1 5 rfl rfl)
theorem dX3_isP_32 : decode cX3_isP 32 = .ok (.bipush 14, 2) := dk_16 14 (dk_at dksX3_isP_1 8 rfl rfl)
theorem dX3_isP_34 : decode cX3_isP 34 = .ok (.goto 18, 3) := dk_167 0 18 (dk_at dksX3_isP_1 10 rfl rfl)
theorem dX3_isP_37 : decode cX3_isP 37 = .ok (.aload_n 0, 1) := dk_42 (dk_at dksX3_isP_1 13 rfl rfl)
theorem dX3_isP_38 : decode cX3_isP 38 = .ok (.invokevirtual 166, 3) := dk_182 0 166 (dk_at dksX3_isP_1 14 rfl rfl)
theorem dX3_isP_41 : decode cX3_isP 41 = .ok (.bipush 37, 2) := dk_16 37 (dk_at dksX3_isP_1 17 rfl rfl)
theorem dX3_isP_43 : decode cX3_isP 43 = .ok (.if_icmp .ne 8, 3) := dk_160 0 8 (dk_at dksX3_isP_1 19 rfl rfl)
theorem dX3_isP_46 : decode cX3_isP 46 = .ok (.bipush 15, 2) := dk_16 15 (dk_at dksX3_isP_1 22 rfl rfl)
theorem dX3_isP_48 : decode cX3_isP 48 = .ok (.goto 4, 3) := dk_167 0 4 (dk_at dksX3_isP_2 0 rfl rfl)
theorem dX3_isP_51 : decode cX3_isP 51 = .ok (.iconst (-1), 1) := dk_2 (dk_at dksX3_isP_2 3 rfl rfl)
theorem dX3_isP_52 : decode cX3_isP 52 = .ok (.istore_n 1, 1) := dk_60 (dk_at dksX3_isP_2 4 rfl rfl)
theorem dX3_isP_53 : decode cX3_isP 53 = .ok (.iload_n 1, 1) := dk_27 (dk_at dksX3_isP_2 5 rfl rfl)
theorem dX3_isP_54 : decode cX3_isP 54 = .ok (.ifCond .ge 5, 3) := dk_156 0 5 (dk_at dksX3_isP_2 6 rfl rfl)
theorem dX3_isP_57 : decode cX3_isP 57 = .ok (.iconst 1, 1) := dk_4 (dk_at dksX3_isP_2 9 rfl rfl)
theorem dX3_isP_58 : decode cX3_isP 58 = .ok (.ireturn, 1) := dk_172 (dk_at dksX3_isP_2 10 rfl rfl)
theorem dX3_isP_59 : decode cX3_isP 59 = .ok (.aload_n 0, 1) := dk_42 (dk_at dksX3_isP_2 11 rfl rfl)
theorem dX3_isP_60 : decode cX3_isP 60 = .ok (.dup, 1) := dk_89 (dk_at dksX3_isP_2 12 rfl rfl)
theorem dX3_isP_61 : decode cX3_isP 61 = .ok (.getfield 163, 3) := dk_180 0 163 (dk_at dksX3_isP_2 13 rfl rfl)
theorem dX3_isP_64 : decode cX3_isP 64 = .ok (.iconst 1, 1) := dk_4 (dk_at dksX3_isP_2 16 rfl rfl)
theorem dX3_isP_65 : decode cX3_isP 65 = .ok (.iadd, 1) := dk_96 (dk_at dksX3_isP_2 17 rfl rfl)
theorem dX3_isP_66 : decode cX3_isP 66 = .ok (.putfield 163, 3) := dk_181 0 163 (dk_at dksX3_isP_2 18 rfl rfl)
theorem dX3_isP_69 : decode cX3_isP 69 = .ok (.aload_n 0, 1) := dk_42 (dk_at dksX3_isP_2 21 rfl rfl)
theorem dX3_isP_70 : decode cX3_isP 70 = .ok (.invokevirtual 190, 3) := dk_182 0 190 (dk_at dksX3_isP_3 0 rfl rfl)
theorem dX3_isP_73 : decode cX3_isP 73 = .ok (.ifCond .ne 5, 3) := dk_154 0 5 (dk_at dksX3_isP_3 3 rfl rfl)
theorem dX3_isP_76 : decode cX3_isP 76 = .ok (.iconst 0, 1) := dk_3 (dk_at dksX3_isP_3 6 rfl rfl)
theorem dX3_isP_77 : decode cX3_isP 77 = .ok (.ireturn, 1) := dk_172 (dk_at dksX3_isP_3 7 rfl rfl)
theorem dX3_isP_78 : decode cX3_isP 78 = .ok (.aload_n 0, 1) := dk_42 (dk_at dksX3_isP_3 8 rfl rfl)
theorem dX3_isP_79 : decode cX3_isP 79 = .ok (.iload_n 1, 1) := dk_27 (dk_at dksX3_isP_3 9 rfl rfl)
theorem dX3_isP_80 : decode cX3_isP 80 = .ok (.invokevirtual 177, 3) := dk_182 0 177 (dk_at dksX3_isP_3 10 rfl rfl)
theorem dX3_isP_83 : decode cX3_isP 83 = .ok (.pop, 1) := dk_87 (dk_at dksX3_isP_3 13 rfl rfl)
theorem dX3_isP_84 : decode cX3_isP 84 = .ok (.goto (-75), 3) := dk_167 255 181 (dk_at dksX3_isP_3 14 rfl rfl)
def dkwX3_isO_9 : List UInt8 := [61, 42, 89, 180, 0, 184, 4, 100, 181, 0, 184, 28, 172]
abbrev dktX3_isO_9 : List UInt8 := dkwX3_isO_9 ++ []
def dkwX3_isO_8 : List UInt8 := [153, 0, 23, 42, 182, 0, 193, 153, 0, 16, 42, 16, 41, 182, 0, 187, 153, 0, 7, 4, 167, 0, 4, 3]
abbrev dktX3_isO_8 : List UInt8 := dkwX3_isO_8 ++ dktX3_isO_9
def dkwX3_isO_7 : List UInt8 := [42, 16, 17, 182, 0, 177, 153, 0, 7, 4, 167, 0, 4, 3, 61, 167, 0, 34, 42, 16, 40, 182, 0, 187]
abbrev dktX3_isO_7 : List UInt8 := dkwX3_isO_7 ++ dktX3_isO_8
def dkwX3_isO_6 : List UInt8 := [167, 0, 4, 3, 61, 167, 0, 68, 42, 16, 45, 182, 0, 187, 153, 0, 28, 42, 182, 0, 190, 153, 0, 16]
abbrev dktX3_isO_6 : List UInt8 := dkwX3_isO_6 ++ dktX3_isO_7
def dkwX3_isO_5 : List UInt8 := [182, 0, 187, 153, 0, 28, 42, 182, 0, 190, 153, 0, 16, 42, 16, 16, 182, 0, 177, 153, 0, 7, 4]
abbrev dktX3_isO_5 : List UInt8 := dkwX3_isO_5 ++ dktX3_isO_6
def dkwX3_isO_4 : List UInt8 := [42, 180, 0, 184, 16, 6, 160, 0, 5, 3, 172, 42, 89, 180, 0, 184, 4, 96, 181, 0, 184, 42, 16, 33]
abbrev dktX3_isO_4 : List UInt8 := dkwX3_isO_4 ++ dktX3_isO_5
def dkwX3_isO_3 : List UInt8 := [184, 0, 180, 60, 27, 155, 0, 19, 42, 89, 180, 0, 163, 4, 96, 181, 0, 163, 42, 27, 182, 0, 177, 172]
abbrev dktX3_isO_3 : List UInt8 := dkwX3_isO_3 ++ dktX3_isO_4
def dkwX3_isO_2 : List UInt8 := [96, 181, 0, 163, 132, 2, 1, 167, 255, 213, 42, 16, 18, 27, 96, 182, 0, 177, 172, 42, 182, 0, 166]
abbrev dktX3_isO_2 : List UInt8 := dkwX3_isO_2 ++ dktX3_isO_3
def dkwX3_isO_1 : List UInt8 := [16, 10, 27, 104, 42, 180, 0, 25, 42, 180, 0, 163, 46, 96, 16, 48, 100, 60, 42, 89, 180, 0, 163, 4]
abbrev dktX3_isO_1 : List UInt8 := dkwX3_isO_1 ++ dktX3_isO_2
def dkwX3_isO_0 : List UInt8 := [42, 182, 0, 173, 153, 0, 62, 3, 60, 3, 61, 28, 7, 162, 0, 44, 42, 182, 0, 173, 153, 0, 37]
abbrev dktX3_isO_0 : List UInt8 := dkwX3_isO_0 ++ dktX3_isO_1
theorem dksX3_isO_0 : cX3_isO.data.toList.drop 0 = dktX3_isO_0 := by decide +kernel
theorem dksX3_isO_1 : cX3_isO.data.toList.drop 23 = dktX3_isO_1 := dk_seg dksX3_isO_0 23 rfl rfl
theorem dksX3_isO_2 : cX3_isO.data.toList.drop 47 = dktX3_isO_2 := dk_seg dksX3_isO_1 24 rfl rfl
theorem dksX3_isO_3 : cX3_isO.data.toList.drop 70 = dktX3_isO_3 := dk_seg dksX3_isO_2 23 rfl rfl
theorem dksX3_isO_4 : cX3_isO.data.toList.drop 94 = dktX3_isO_4 := dk_seg dksX3_isO_3 24 rfl rfl
theorem dksX3_isO_5 : cX3_isO.data.toList.drop 118 = dktX3_isO_5 := dk_seg dksX3_isO_4 24 rfl rfl
theorem dksX3_isO_6 : cX3_isO.data.toList.drop 141 = dktX3_isO_6 := dk_seg dksX3_isO_5 23 rfl rfl
theorem dksX3_isO_7 : cX3_isO.data.toList.drop 165 = dktX3_isO_7 := dk_seg dksX3_isO_6 24 rfl rfl
theorem dksX3_isO_8 : cX3_isO.data.toList.drop 189 = dktX3_isO_8 := dk_seg dksX3_isO_7 24 rfl rfl
theorem dksX3_isO_9 : cX3_isO.data.toList.drop 213 = dktX3_isO_9 := dk_seg dksX3_isO_8 24 rfl rfl
theorem dX3_isO_0 : decode cX3_isO 0 = .ok (.aload_n 0, 1) := dk_42 (dk_at dksX3_isO_0 0 rfl rfl)
theorem dX3_isO_1 : decode cX3_isO 1 = .ok (.invokevirtual 173, 3) := dk_182 0 173 (dk_at dksX3_isO_0 1 rfl rfl)
theorem dX3_isO_4 : decode cX3_isO 4 = .ok (.ifCond .eq 62, 3) := dk_153 0 62 (dk_at dksX3_isO_0 4 rfl rfl)
theorem dX3_isO_7 : decode cX3_isO 7 = .ok (.iconst 0, 1) := dk_3 (dk_at dksX3_isO_0 7 rfl rfl)
theorem dX3_isO_8 : decode cX3_isO 8 = .ok (.istore_n 1, 1) := dk_60 (dk_at dksX3_isO_0 8 rfl rfl)
theorem dX3_isO_9 : decode cX3_isO 9 = .ok (.iconst 0, 1) := dk_3 (dk_at dksX3_isO_0 9 rfl rfl)
theorem dX3_isO_10 : decode cX3_isO 10 = .ok (.istore_n 2, 1) := dk_61 (dk_at dksX3_isO_0 10 rfl rfl)
theorem dX3_isO_11 : decode cX3_isO 11 = .ok (.iload_n 2, 1) := dk_28 (dk_at dksX3_isO_0 11 rfl rfl)
theorem dX3_isO_12 : decode cX3_isO 12 = .ok (.iconst 4, 1) := dk_7 (dk_at dksX3_isO_0 12 rfl rfl)
theorem dX3_isO_13 : decode cX3_isO 13 = .ok (.if_icmp .ge 44, 3) := dk_162 0 44 (dk_at dksX3_isO_0 13 rfl rfl)
theorem dX3_isO_16 : decode cX3_isO 16 = .ok (.aload_n 0, 1) := dk_42 (dk_at dksX3_isO_0 16 rfl rfl)
theorem dX3_isO_17 : decode cX3_isO 17 = .ok (.invokevirtual 173, 3) := dk_182 0 173 (dk_at dksX3_isO_0 17 rfl rfl)
theorem dX3_isO_20 : decode cX3_isO 20 = .ok (.ifCond .eq 37, 3) := dk_153 0 37 (dk_at dksX3_isO_0 20 rfl rfl)
theorem dX3_isO_23 : decode cX3_isO 23 = .ok (.bipush 10, 2) := dk_16 10 (dk_at dksX3_isO_1 0 rfl rfl)
theorem dX3_isO_25 : decode cX3_isO 25 = .ok (.iload_n 1, 1) := dk_27 (dk_at dksX3_isO_1 2 rfl rfl)
theorem dX3_isO_26 : decode cX3_isO 26 = .ok (.imul, 1) := dk_104 (dk_at dksX3_isO_1 3 rfl rfl)
theorem dX3_isO_27 : decode cX3_isO 27 = .ok (.aload_n 0, 1) := dk_42 (dk_at dksX3_isO_1 4 rfl rfl)
theorem dX3_isO_28 : decode cX3_isO 28 = .ok (.getfield 25, 3) := dk_180 0 25 (dk_at dksX3_isO_1 5 rfl rfl)
theorem dX3_isO_31 : decode cX3_isO 31 = .ok (.aload_n 0, 1) := dk_42 (dk_at dksX3_isO_1 8 rfl rfl)
theorem dX3_isO_32 : decode cX3_isO 32 = .ok (.getfield 163, 3) := dk_180 0 163 (dk_at dksX3_isO_1 9 rfl rfl)
theorem dX3_isO_35 : decode cX3_isO 35 = .ok (.iaload, 1) := dk_46 (dk_at dksX3_isO_1 12 rfl rfl)
theorem dX3_isO_36 : decode cX3_isO 36 = .ok (.iadd, 1) := dk_96 (dk_at dksX3_isO_1 13 rfl rfl)
theorem dX3_isO_37 : decode cX3_isO 37 = .ok (.bipush 48, 2) := dk_16 48 (dk_at dksX3_isO_1 14 rfl rfl)
theorem dX3_isO_39 : decode cX3_isO 39 = .ok (.isub, 1) := dk_100 (dk_at dksX3_isO_1 16 rfl rfl)
theorem dX3_isO_40 : decode cX3_isO 40 = .ok (.istore_n 1, 1) := dk_60 (dk_at dksX3_isO_1 17 rfl rfl)
theorem dX3_isO_41 : decode cX3_isO 41 = .ok (.aload_n 0, 1) := dk_42 (dk_at dksX3_isO_1 18 rfl rfl)
theorem dX3_isO_42 : decode cX3_isO 42 = .ok (.dup, 1) := dk_89 (dk_at dksX3_isO_1 19 rfl rfl)
theorem dX3_isO_43 : decode cX3_isO 43 = .ok (.getfield 163, 3) := dk_180 0 163 (dk_at dksX3_isO_1 20 rfl rfl)
theorem dX3_isO_46 : decode cX3_isO 46 = .ok (.iconst 1, 1) := dk_4 (dk_at dksX3_isO_1 23 rfl rfl)
theorem dX3_isO_47 : decode cX3_isO 47 = .ok (.iadd, 1) := dk_96 (dk_at dksX3_isO_2 0 rfl rfl)
theorem dX3_isO_48 : decode cX3_isO 48 = .ok (.putfield 163, 3) := dk_181 0 163 (dk_at dksX3_isO_2 1 rfl rfl)
theorem dX3_isO_51 : decode cX3_isO 51 = .ok (.iinc 2 1, 3) := dk_132 2 1 (dk_at dksX3_isO_2 4 rfl rfl)
theorem dX3_isO_54 : decode cX3_isO 54 = .ok (.goto (-43), 3) := dk_167 255 213 (dk_at dksX3_isO_2 7 rfl rfl)
theorem dX3_isO_57 : decode cX3_isO 57 = .ok (.aload_n 0, 1) := dk_42 (dk_at dksX3_isO_2 10 rfl rfl)
theorem dX3_isO_58 : decode cX3_isO 58 = .ok (.bipush 18, 2) := dk_16 18 (dk_at dksX3_isO_2 11 rfl rfl)
theorem dX3_isO_60 : decode cX3_isO 60 = .ok (.iload_n 1, 1) := dk_27 (dk_at dksX3_isO_2 13 rfl rfl)
theorem dX3_isO_61 : decode cX3_isO 61 = .ok (.iadd, 1) := dk_96 (dk_at dksX3_isO_2 14 rfl rfl)
theorem dX3_isO_62 : decode cX3_isO 62 = .ok (.invokevirtual 177, 3) := dk_182 0 177 (dk_at dksX3_isO_2 15 rfl rfl)
theorem dX3_isO_65 : decode cX3_isO 65 = .ok (.ireturn, 1) := dk_172 (dk_at dksX3_isO_2 18 rfl rfl)
theorem dX3_isO_66 : decode cX3_isO 66 = .ok (.aload_n 0, 1) := dk_42 (dk_at dksX3_isO_2 19 rfl rfl)
theorem dX3_isO_67 : decode cX3_isO 67 = .ok (.invokevirtual 166, 3) := dk_182 0 166 (dk_at dksX3_isO_2 20 rfl rfl)
theorem dX3_isO_70 : decode cX3_isO 70 = .ok (.invokestatic 180, 3) := dk_184 0 180 (dk_at dksX3_isO_3 0 rfl rfl)
theorem dX3_isO_73 : decode cX3_isO 73 = .ok (.istore_n 1, 1) := dk_60 (dk_at dksX3_isO_3 3 rfl rfl)
theorem dX3_isO_74 : decode cX3_isO 74 = .ok (.iload_n 1, 1) := dk_27 (dk_at dksX3_isO_3 4 rfl rfl)
theorem dX3_isO_75 : decode cX3_isO 75 = .ok (.ifCond .lt 19, 3) := dk_155 0 19 (dk_at dksX3_isO_3 5 rfl rfl)
theorem dX3_isO_78 : decode cX3_isO 78 = .ok (.aload_n 0, 1) := dk_42 (dk_at dksX3_isO_3 8 rfl rfl)
theorem dX3_isO_79 : decode cX3_isO 79 = .ok (.dup, 1) := dk_89 (dk_at dksX3_isO_3 9 rfl rfl)
theorem dX3_isO_80 : decode cX3_isO 80 = .ok (.getfield 163, 3) := dk_180 0 163 (dk_at dksX3_isO_3 10 rfl rfl)
theorem dX3_isO_83 : decode cX3_isO 83 = .ok (.iconst 1, 1) := dk_4 (dk_at dksX3_isO_3 13 rfl rfl)
theorem dX3_isO_84 : decode cX3_isO 84 = .ok (.iadd, 1) := dk_96 (dk_at dksX3_isO_3 14 rfl rfl)
theorem dX3_isO_85 : decode cX3_isO 85 = .ok (.putfield 163, 3) := dk_181 0 163 (dk_at dksX3_isO_3 15 rfl rfl)
theorem dX3_isO_88 : decode cX3_isO 88 = .ok (.aload_n 0, 1) := dk_42 (dk_at dksX3_isO_3 18 rfl rfl)
theorem dX3_isO_89 : decode cX3_isO 89 = .ok (.iload_n 1, 1) := dk_27 (dk_at dksX3_isO_3 19 rfl rfl)
theorem dX3_isO_90 : decode cX3_isO 90 = .ok (.invokevirtual 177, 3) := dk_182 0 177 (dk_at dksX3_isO_3 20 rfl rfl)
theorem dX3_isO_93 : decode cX3_isO 93 = .ok (.ireturn, 1) := dk_172 (dk_at dksX3_isO_3 23 rfl rfl)
theorem dX3_isO_94 : decode cX3_isO 94 = .ok (.aload_n 0, 1) := dk_42 (dk_at dksX3_isO_4 0 rfl rfl)
theorem dX3_isO_95 : decode cX3_isO 95 = .ok (.getfield 184, 3) := dk_180 0 184 (dk_at dksX3_isO_4 1 rfl rfl)
theorem dX3_isO_98 : decode cX3_isO 98 = .ok (.bipush 6, 2) := dk_16 6 (dk_at dksX3_isO_4 4 rfl rfl)
theorem dX3_isO_100 : decode cX3_isO 100 = .ok (.if_icmp .ne 5, 3) := dk_160 0 5 (dk_at dksX3_isO_4 6 rfl rfl)
theorem dX3_isO_103 : decode cX3_isO 103 = .ok (.iconst 0, 1) := dk_3 (dk_at dksX3_isO_4 9 rfl rfl)
theorem dX3_isO_104 : decode cX3_isO 104 = .ok (.ireturn, 1) := dk_172 (dk_at dksX3_isO_4 10 rfl rfl)
theorem dX3_isO_105 : decode cX3_isO 105 = .ok (.aload_n 0, 1) := dk_42 (dk_at dksX3_isO_4 11 rfl rfl)
theorem dX3_isO_106 : decode cX3_isO 106 = .ok (.dup, 1) := dk_89 (dk_at dksX3_isO_4 12 rfl rfl)
theorem dX3_isO_107 : decode cX3_isO 107 = .ok (.getfield 184, 3) := dk_180 0 184 (dk_at dksX3_isO_4 13 rfl rfl)
theorem dX3_isO_110 : decode cX3_isO 110 = .ok (.iconst 1, 1) := dk_4 (dk_at dksX3_isO_4 16 rfl rfl)
theorem dX3_isO_111 : decode cX3_isO 111 = .ok (.iadd, 1) := dk_96 (dk_at dksX3_isO_4 17 rfl rfl)
theorem dX3_isO_112 : decode cX3_isO 112 = .ok (.putfield 184, 3) := dk_181 0 184 (dk_at dksX3_isO_4 18 rfl rfl)
theorem dX3_isO_115 : decode cX3_isO 115 = .ok (.aload_n 0, 1) := dk_42 (dk_at dksX3_isO_4 21 rfl rfl)
theorem dX3_isO_116 : decode cX3_isO 116 = .ok (.bipush 33, 2) := dk_16 33 (dk_at dksX3_isO_4 22 rfl rfl)
theorem dX3_isO_118 : decode cX3_isO 118 = .ok (.invokevirtual 187, 3) := dk_182 0 187 (dk_at dksX3_isO_5 0 rfl rfl)
theorem dX3_isO_121 : decode cX3_isO 121 = .ok (.ifCond .eq 28, 3) := dk_153 0 28 (dk_at dksX3_isO_5 3 rfl rfl)
theorem dX3_isO_124 : decode cX3_isO 124 = .ok (.aload_n 0, 1) := dk_42 (dk_at dksX3_isO_5 6 rfl rfl)
theorem dX3_isO_125 : decode cX3_isO 125 = .ok (.invokevirtual 190, 3) := dk_182 0 190 (dk_at dksX3_isO_5 7 rfl rfl)
theorem dX3_isO_128 : decode cX3_isO 128 = .ok (.ifCond .eq 16, 3) := dk_153 0 16 (dk_at dksX3_isO_5 10 rfl rfl)
theorem dX3_isO_131 : decode cX3_isO 131 = .ok (.aload_n 0, 1) := dk_42 (dk_at dksX3_isO_5 13 rfl rfl)
theorem dX3_isO_132 : decode cX3_isO 132 = .ok (.bipush 16, 2) := dk_16 16 (dk_at dksX3_isO_5 14 rfl rfl)
theorem dX3_isO_134 : decode cX3_isO 134 = .ok (.invokevirtual 177, 3) := dk_182 0 177 (dk_at dksX3_isO_5 16 rfl rfl)
theorem dX3_isO_137 : decode cX3_isO 137 = .ok (.ifCond .eq 7, 3) := dk_153 0 7 (dk_at dksX3_isO_5 19 rfl rfl)
theorem dX3_isO_140 : decode cX3_isO 140 = .ok (.iconst 1, 1) := dk_4 (dk_at dksX3_isO_5 22 rfl rfl)
theorem dX3_isO_141 : decode cX3_isO 141 = .ok (.goto 4, 3) := dk_167 0 4 (dk_at dksX3_isO_6 0 rfl rfl)
theorem dX3_isO_144 : decode cX3_isO 144 = .ok (.iconst 0, 1) := dk_3 (dk_at dksX3_isO_6 3 rfl rfl)
theorem dX3_isO_145 : decode cX3_isO 145 = .ok (.istore_n 2, 1) := dk_61 (dk_at dksX3_isO_6 4 rfl rfl)
theorem dX3_isO_146 : decode cX3_isO 146 = .ok (.goto 68, 3) := dk_167 0 68 (dk_at dksX3_isO_6 5 rfl rfl)
theorem dX3_isO_149 : decode cX3_isO 149 = .ok (.aload_n 0, 1) := dk_42 (dk_at dksX3_isO_6 8 rfl rfl)
theorem dX3_isO_150 : decode cX3_isO 150 = .ok (.bipush 45, 2) := dk_16 45 (dk_at dksX3_isO_6 9 rfl rfl)
theorem dX3_isO_152 : decode cX3_isO 152 = .ok (.invokevirtual 187, 3) := dk_182 0 187 (dk_at dksX3_isO_6 11 rfl rfl)
theorem dX3_isO_155 : decode cX3_isO 155 = .ok (.ifCond .eq 28, 3) := dk_153 0 28 (dk_at dksX3_isO_6 14 rfl rfl)
theorem dX3_isO_158 : decode cX3_isO 158 = .ok (.aload_n 0, 1) := dk_42 (dk_at dksX3_isO_6 17 rfl rfl)
theorem dX3_isO_159 : decode cX3_isO 159 = .ok (.invokevirtual 190, 3) := dk_182 0 190 (dk_at dksX3_isO_6 18 rfl rfl)
theorem dX3_isO_162 : decode cX3_isO 162 = .ok (.ifCond .eq 16, 3) := dk_153 0 16 (dk_at dksX3_isO_6 21 rfl rfl)
theorem dX3_isO_165 : decode cX3_isO 165 = .ok (.aload_n 0, 1) := dk_42 (dk_at dksX3_isO_7 0 rfl rfl)
theorem dX3_isO_166 : decode cX3_isO 166 = .ok (.bipush 17, 2) := dk_16 17 (dk_at dksX3_isO_7 1 rfl rfl)
theorem dX3_isO_168 : decode cX3_isO 168 = .ok (.invokevirtual 177, 3) := dk_182 0 177 (dk_at dksX3_isO_7 3 rfl rfl)
theorem dX3_isO_171 : decode cX3_isO 171 = .ok (.ifCond .eq 7, 3) := dk_153 0 7 (dk_at dksX3_isO_7 6 rfl rfl)
theorem dX3_isO_174 : decode cX3_isO 174 = .ok (.iconst 1, 1) := dk_4 (dk_at dksX3_isO_7 9 rfl rfl)
theorem dX3_isO_175 : decode cX3_isO 175 = .ok (.goto 4, 3) := dk_167 0 4 (dk_at dksX3_isO_7 10 rfl rfl)
theorem dX3_isO_178 : decode cX3_isO 178 = .ok (.iconst 0, 1) := dk_3 (dk_at dksX3_isO_7 13 rfl rfl)
theorem dX3_isO_179 : decode cX3_isO 179 = .ok (.istore_n 2, 1) := dk_61 (dk_at dksX3_isO_7 14 rfl rfl)
theorem dX3_isO_180 : decode cX3_isO 180 = .ok (.goto 34, 3) := dk_167 0 34 (dk_at dksX3_isO_7 15 rfl rfl)
theorem dX3_isO_183 : decode cX3_isO 183 = .ok (.aload_n 0, 1) := dk_42 (dk_at dksX3_isO_7 18 rfl rfl)
theorem dX3_isO_184 : decode cX3_isO 184 = .ok (.bipush 40, 2) := dk_16 40 (dk_at dksX3_isO_7 19 rfl rfl)
theorem dX3_isO_186 : decode cX3_isO 186 = .ok (.invokevirtual 187, 3) := dk_182 0 187 (dk_at dksX3_isO_7 21 rfl rfl)
theorem dX3_isO_189 : decode cX3_isO 189 = .ok (.ifCond .eq 23, 3) := dk_153 0 23 (dk_at dksX3_isO_8 0 rfl rfl)
theorem dX3_isO_192 : decode cX3_isO 192 = .ok (.aload_n 0, 1) := dk_42 (dk_at dksX3_isO_8 3 rfl rfl)
theorem dX3_isO_193 : decode cX3_isO 193 = .ok (.invokevirtual 193, 3) := dk_182 0 193 (dk_at dksX3_isO_8 4 rfl rfl)
theorem dX3_isO_196 : decode cX3_isO 196 = .ok (.ifCond .eq 16, 3) := dk_153 0 16 (dk_at dksX3_isO_8 7 rfl rfl)
theorem dX3_isO_199 : decode cX3_isO 199 = .ok (.aload_n 0, 1) := dk_42 (dk_at dksX3_isO_8 10 rfl rfl)
theorem dX3_isO_200 : decode cX3_isO 200 = .ok (.bipush 41, 2) := dk_16 41 (dk_at dksX3_isO_8 11 rfl rfl)
theorem dX3_isO_202 : decode cX3_isO 202 = .ok (.invokevirtual 187, 3) := dk_182 0 187 (dk_at dksX3_isO_8 13 rfl rfl)
theorem dX3_isO_205 : decode cX3_isO 205 = .ok (.ifCond .eq 7, 3) := dk_153 0 7 (dk_at dksX3_isO_8 16 rfl rfl)
theorem dX3_isO_208 : decode cX3_isO 208 = .ok (.iconst 1, 1) := dk_4 (dk_at dksX3_isO_8 19 rfl rfl)
theorem dX3_isO_209 : decode cX3_isO 209 = .ok (.goto 4, 3) := dk_167 0 4 (dk_at dksX3_isO_8 20 rfl rfl)
theorem dX3_isO_212 : decode cX3_isO 212 = .ok (.iconst 0, 1) := dk_3 (dk_at dksX3_isO_8 23 rfl rfl)
theorem dX3_isO_213 : decode cX3_isO 213 = .ok (.istore_n 2, 1) := dk_61 (dk_at dksX3_isO_9 0 rfl rfl)
theorem dX3_isO_214 : decode cX3_isO 214 = .ok (.aload_n 0, 1) := dk_42 (dk_at dksX3_isO_9 1 rfl rfl)
theorem dX3_isO_215 : decode cX3_isO 215 = .ok (.dup, 1) := dk_89 (dk_at dksX3_isO_9 2 rfl rfl)
theorem dX3_isO_216 : decode cX3_isO 216 = .ok (.getfield 184, 3) := dk_180 0 184 (dk_at dksX3_isO_9 3 rfl rfl)
theorem dX3_isO_219 : decode cX3_isO 219 = .ok (.iconst 1, 1) := dk_4 (dk_at dksX3_isO_9 6 rfl rfl)
theorem dX3_isO_220 : decode cX3_isO 220 = .ok (.isub, 1) := dk_100 (dk_at dksX3_isO_9 7 rfl rfl)
theorem dX3_isO_221 : decode cX3_isO 221 = .ok (.putfield 184, 3) := dk_181 0 184 (dk_at dksX3_isO_9 8 rfl rfl)
theorem dX3_isO_224 : decode cX3_isO 224 = .ok (.iload_n 2, 1) := dk_28 (dk_at dksX3_isO_9 11 rfl rfl)
theorem dX3_isO_225 : decode cX3_isO 225 = .ok (.ireturn, 1) := dk_172 (dk_at dksX3_isO_9 12 rfl rfl)
def dkwX3_isDigit_0 : List UInt8 := [42, 182, 0, 166, 16, 48, 161, 0, 16, 42, 182, 0, 166, 16, 57, 163, 0, 7, 4, 167, 0, 4, 3, 172]
abbrev dktX3_isDigit_0 : List UInt8 := dkwX3_isDigit_0 ++ []
theorem dksX3_isDigit_0 : cX3_isDigit.data.toList.drop 0 = dktX3_isDigit_0 := by decide +kernel
theorem dX3_isDigit_0 : decode cX3_isDigit 0 = .ok (.aload_n 0, 1) := dk_42 (dk_at dksX3_isDigit_0 0 rfl rfl)
theorem dX3_isDigit_1 : decode cX3_isDigit 1 = .ok (.invokevirtual 166, 3) := dk_182 0 166 (dk_at dksX3_isDigit_0 1 rfl rfl)
theorem dX3_isDigit_4 : decode cX3_isDigit 4 = .ok (.bipush 48, 2) := dk_16 48 (dk_at dksX3_isDigit_0 4 rfl rfl)
theorem dX3_isDigit_6 : decode cX3_isDigit 6 = .ok (.if_icmp .lt 16, 3) := dk_161 0 16 (dk_at dksX3_isDigit_0 6 rfl rfl)
theorem dX3_isDigit_9 : decode cX3_isDigit 9 = .ok (.aload_n 0, 1) := dk_42 (dk_at dksX3_isDigit_0 9 rfl rfl)
theorem dX3_isDigit_10 : decode cX3_isDigit 10 = .ok (.invokevirtual 166, 3) := dk_182 0 166 (dk_at dksX3_isDigit_0 10 rfl rfl)
theorem dX3_isDigit_13 : decode cX3_isDigit 13 = .ok (.bipush 57, 2) := dk_16 57 (dk_at dksX3_isDigit_0 13 rfl rfl)
theorem dX3_isDigit_15 : decode cX3_isDigit 15 = .ok (.if_icmp .gt 7, 3) := dk_163 0 7 (dk_at dksX3_isDigit_0 15 rfl rfl)
theorem dX3_isDigit_18 : decode cX3_isDigit 18 = .ok (.iconst 1, 1) := dk_4 (dk_at dksX3_isDigit_0 18 rfl rfl)
theorem dX3_isDigit_19 : decode cX3_isDigit 19 = .ok (.goto 4, 3) := dk_167 0 4 (dk_at dksX3_isDigit_0 19 rfl rfl)
theorem dX3_isDigit_22 : decode cX3_isDigit 22 = .ok (.iconst 0, 1) := dk_3 (dk_at dksX3_isDigit_0 22 rfl rfl)
theorem dX3_isDigit_23 : decode cX3_isDigit 23 = .ok (.ireturn, 1) := dk_172 (dk_at dksX3_isDigit_0 23 rfl rfl)
def dkwX3_sign_1 : List UInt8 := [172]
abbrev dktX3_sign_1 : List UInt8 := dkwX3_sign_1 ++ []
def dkwX3_sign_0 : List UInt8 := [42, 180, 0, 163, 42, 180, 0, 160, 162, 0, 15, 42, 180, 0, 25, 42, 180, 0, 163, 46, 167, 0, 4, 2]
abbrev dktX3_sign_0 : List UInt8 := dkwX3_sign_0 ++ dktX3_sign_1
theorem dksX3_sign_0 : cX3_sign.data.toList.drop 0 = dktX3_sign_0 := by decide +kernel
theorem dksX3_sign_1 : cX3_sign.data.toList.drop 24 = dktX3_sign_1 := dk_seg dksX3_sign_0 24 rfl rfl
theorem dX3_sign_0 : decode cX3_sign 0 = .ok (.aload_n 0, 1) := dk_42 (dk_at dksX3_sign_0 0 rfl rfl)
theorem dX3_sign_1 : decode cX3_sign 1 = .ok (.getfield 163, 3) := dk_180 0 163 (dk_at dksX3_sign_0 1 rfl rfl)
theorem dX3_sign_4 : decode cX3_sign 4 = .ok (.aload_n 0, 1) := dk_42 (dk_at dksX3_sign_0 4 rfl rfl)
theorem dX3_sign_5 : decode cX3_sign 5 = .ok (.getfield 160, 3) := dk_180 0 160 (dk_at dksX3_sign_0 5 rfl rfl)
theorem dX3_sign_8 : decode cX3_sign 8 = .ok (.if_icmp .ge 15, 3) := dk_162 0 15 (dk_at dksX3_sign_0 8 rfl rfl)
theorem dX3_sign_11 : decode cX3_sign 11 = .ok (.aload_n 0, 1) := dk_42 (dk_at dksX3_sign_0 11 rfl rfl)
theorem dX3_sign_12 : decode cX3_sign 12 = .ok (.getfield 25, 3) := dk_180 0 25 (dk_at dksX3_sign_0 12 rfl rfl)
theorem dX3_sign_15 : decode cX3_sign 15 = .ok (.aload_n 0, 1) := dk_42 (dk_at dksX3_sign_0 15 rfl rfl)
theorem dX3_sign_16 : decode cX3_sign 16 = .ok (.getfield 163, 3) := dk_180 0 163 (dk_at dksX3_sign_0 16 rfl rfl)
theorem dX3_sign_19 : decode cX3_sign 19 = .ok (.iaload, 1) := dk_46 (dk_at dksX3_sign_0 19 rfl rfl)
theorem dX3_sign_20 : decode cX3_sign 20 = .ok (.goto 4, 3) := dk_167 0 4 (dk_at dksX3_sign_0 20 rfl rfl)
theorem dX3_sign_23 : decode cX3_sign 23 = .ok (.iconst (-1), 1) := dk_2 (dk_at dksX3_sign_0 23 rfl rfl)
theorem dX3_sign_24 : decode cX3_sign 24 = .ok (.ireturn, 1) := dk_172 (dk_at dksX3_sign_1 0 rfl rfl)
def dkwX3_codes_0 : List UInt8 := [42, 180, 0, 49, 42, 89, 180, 0, 170, 90, 4, 96, 181, 0, 170, 27, 79, 4, 172]
abbrev dktX3_codes_0 : List UInt8 := dkwX3_codes_0 ++ []
theorem dksX3_codes_0 : cX3_codes.data.toList.drop 0 = dktX3_codes_0 := by decide +kernel
theorem dX3_codes_0 : decode cX3_codes 0 = .ok (.aload_n 0, 1) := dk_42 (dk_at dksX3_codes_0 0 rfl rfl)
theorem dX3_codes_1 : decode cX3_codes 1 = .ok (.getfield 49, 3) := dk_180 0 49 (dk_at dksX3_codes_0 1 rfl rfl)
theorem dX3_codes_4 : decode cX3_codes 4 = .ok (.aload_n 0, 1) := dk_42 (dk_at dksX3_codes_0 4 rfl rfl)
theorem dX3_codes_5 : decode cX3_codes 5 = .ok (.dup, 1) := dk_89 (dk_at dksX3_codes_0 5 rfl rfl)
theorem dX3_codes_6 : decode cX3_codes 6 = .ok (.getfield 170, 3) := dk_180 0 170 (dk_at dksX3_codes_0 6 rfl rfl)
theorem dX3_codes_9 : decode cX3_codes 9 = .ok (.dup_x1, 1) := dk_90 (dk_at dksX3_codes_0 9 rfl rfl)
theorem dX3_codes_10 : decode cX3_codes 10 = .ok (.iconst 1, 1) := dk_4 (dk_at dksX3_codes_0 10 rfl rfl)
theorem dX3_codes_11 : decode cX3_codes 11 = .ok (.iadd, 1) := dk_96 (dk_at dksX3_codes_0 11 rfl rfl)
theorem dX3_codes_12 : decode cX3_codes 12 = .ok (.putfield 170, 3) := dk_181 0 170 (dk_at dksX3_codes_0 12 rfl rfl)
theorem dX3_codes_15 : decode cX3_codes 15 = .ok (.iload_n 1, 1) := dk_27 (dk_at dksX3_codes_0 15 rfl rfl)
theorem dX3_codes_16 : decode cX3_codes 16 = .ok (.iastore, 1) := dk_79 (dk_at dksX3_codes_0 16 rfl rfl)
theorem dX3_codes_17 : decode cX3_codes 17 = .ok (.iconst 1, 1) := dk_4 (dk_at dksX3_codes_0 17 rfl rfl)
theorem dX3_codes_18 : decode cX3_codes 18 = .ok (.ireturn, 1) := dk_172 (dk_at dksX3_codes_0 18 rfl rfl)
def dkwX3_nameOf_2 : List UInt8 := [3, 172, 4, 172, 5, 172, 6, 172, 7, 172, 8, 172, 2, 172]
abbrev dktX3_nameOf_2 : List UInt8 := dkwX3_nameOf_2 ++ []
def dkwX3_nameOf_1 : List UInt8 := [170, 0, 0, 0, 0, 0, 107, 0, 0, 0, 100, 0, 0, 0, 119, 0, 0, 0, 105, 0, 0, 0, 107, 0, 0, 0, 107, 0, 0, 0, 107, 0, 0, 0, 99, 0, 0, 0, 107, 0, 0, 0, 107, 0, 0, 0, 107, 0, 0, 0, 107, 0, 0, 0, 107, 0, 0, 0, 101, 0, 0, 0, 103, 0, 0, 0, 97, 0, 0, 0, 107, 0, 0, 0, 107, 0, 0, 0, 107, 0, 0, 0, 107, 0, 0, 0, 107, 0, 0, 0, 107, 0, 0, 0, 95]
abbrev dktX3_nameOf_1 : List UInt8 := dkwX3_nameOf_1 ++ dktX3_nameOf_2
def dkwX3_nameOf_0 : List UInt8 := [26]
abbrev dktX3_nameOf_0 : List UInt8 := dkwX3_nameOf_0 ++ dktX3_nameOf_1
theorem dksX3_nameOf_0 : cX3_nameOf.data.toList.drop 0 = dktX3_nameOf_0 := by decide +kernel
theorem dksX3_nameOf_1 : cX3_nameOf.data.toList.drop 1 = dktX3_nameOf_1 := dk_seg dksX3_nameOf_0 1 rfl rfl
theorem dksX3_nameOf_2 : cX3_nameOf.data.toList.drop 96 = dktX3_nameOf_2 := dk_seg dksX3_nameOf_1 95 rfl rfl
theorem dX3_nameOf_0 : decode cX3_nameOf 0 = .ok (.iload_n 0, 1) := dk_26 (dk_at dksX3_nameOf_0 0 rfl rfl)
theorem dX3_nameOf_1 : decode cX3_nameOf 1 = .ok (.tableswitch 107 100 119 #[105, 107, 107, 107, 99, 107, 107, 107, 107, 107, 101, 103, 97, 107, 107, 107, 107, 107, 107, 95], 95) := by decide +kernel
theorem dX3_nameOf_96 : decode cX3_nameOf 96 = .ok (.iconst 0, 1) := dk_3 (dk_at dksX3_nameOf_2 0 rfl rfl)
theorem dX3_nameOf_97 : decode cX3_nameOf 97 = .ok (.ireturn, 1) := dk_172 (dk_at dksX3_nameOf_2 1 rfl rfl)
theorem dX3_nameOf_98 : decode cX3_nameOf 98 = .ok (.iconst 1, 1) := dk_4 (dk_at dksX3_nameOf_2 2 rfl rfl)
theorem dX3_nameOf_99 : decode cX3_nameOf 99 = .ok (.ireturn, 1) := dk_172 (dk_at dksX3_nameOf_2 3 rfl rfl)
theorem dX3_nameOf_100 : decode cX3_nameOf 100 = .ok (.iconst 2, 1) := dk_5 (dk_at dksX3_nameOf_2 4 rfl rfl)
theorem dX3_nameOf_101 : decode cX3_nameOf 101 = .ok (.ireturn, 1) := dk_172 (dk_at dksX3_nameOf_2 5 rfl rfl)
theorem dX3_nameOf_102 : decode cX3_nameOf 102 = .ok (.iconst 3, 1) := dk_6 (dk_at dksX3_nameOf_2 6 rfl rfl)
theorem dX3_nameOf_103 : decode cX3_nameOf 103 = .ok (.ireturn, 1) := dk_172 (dk_at dksX3_nameOf_2 7 rfl rfl)
theorem dX3_nameOf_104 : decode cX3_nameOf 104 = .ok (.iconst 4, 1) := dk_7 (dk_at dksX3_nameOf_2 8 rfl rfl)
theorem dX3_nameOf_105 : decode cX3_nameOf 105 = .ok (.ireturn, 1) := dk_172 (dk_at dksX3_nameOf_2 9 rfl rfl)
theorem dX3_nameOf_106 : decode cX3_nameOf 106 = .ok (.iconst 5, 1) := dk_8 (dk_at dksX3_nameOf_2 10 rfl rfl)
theorem dX3_nameOf_107 : decode cX3_nameOf 107 = .ok (.ireturn, 1) := dk_172 (dk_at dksX3_nameOf_2 11 rfl rfl)
theorem dX3_nameOf_108 : decode cX3_nameOf 108 = .ok (.iconst (-1), 1) := dk_2 (dk_at dksX3_nameOf_2 12 rfl rfl)
theorem dX3_nameOf_109 : decode cX3_nameOf 109 = .ok (.ireturn, 1) := dk_172 (dk_at dksX3_nameOf_2 13 rfl rfl)
def dkwX3_is_0 : List UInt8 := [42, 182, 0, 166, 27, 159, 0, 5, 3, 172, 42, 89, 180, 0, 163, 4, 96, 181, 0, 163, 4, 172]
abbrev dktX3_is_0 : List UInt8 := dkwX3_is_0 ++ []
theorem dksX3_is_0 : cX3_is.data.toList.drop 0 = dktX3_is_0 := by decide +kernel
theorem dX3_is_0 : decode cX3_is 0 = .ok (.aload_n 0, 1) := dk_42 (dk_at dksX3_is_0 0 rfl rfl)
theorem dX3_is_1 : decode cX3_is 1 = .ok (.invokevirtual 166, 3) := dk_182 0 166 (dk_at dksX3_is_0 1 rfl rfl)
theorem dX3_is_4 : decode cX3_is 4 = .ok (.iload_n 1, 1) := dk_27 (dk_at dksX3_is_0 4 rfl rfl)
theorem dX3_is_5 : decode cX3_is 5 = .ok (.if_icmp .eq 5, 3) := dk_159 0 5 (dk_at dksX3_is_0 5 rfl rfl)
theorem dX3_is_8 : decode cX3_is 8 = .ok (.iconst 0, 1) := dk_3 (dk_at dksX3_is_0 8 rfl rfl)
theorem dX3_is_9 : decode cX3_is 9 = .ok (.ireturn, 1) := dk_172 (dk_at dksX3_is_0 9 rfl rfl)
theorem dX3_is_10 : decode cX3_is 10 = .ok (.aload_n 0, 1) := dk_42 (dk_at dksX3_is_0 10 rfl rfl)
theorem dX3_is_11 : decode cX3_is 11 = .ok (.dup, 1) := dk_89 (dk_at dksX3_is_0 11 rfl rfl)
theorem dX3_is_12 : decode cX3_is 12 = .ok (.getfield 163, 3) := dk_180 0 163 (dk_at dksX3_is_0 12 rfl rfl)
theorem dX3_is_15 : decode cX3_is 15 = .ok (.iconst 1, 1) := dk_4 (dk_at dksX3_is_0 15 rfl rfl)
theorem dX3_is_16 : decode cX3_is 16 = .ok (.iadd, 1) := dk_96 (dk_at dksX3_is_0 16 rfl rfl)
theorem dX3_is_17 : decode cX3_is 17 = .ok (.putfield 163, 3) := dk_181 0 163 (dk_at dksX3_is_0 17 rfl rfl)
theorem dX3_is_20 : decode cX3_is 20 = .ok (.iconst 1, 1) := dk_4 (dk_at dksX3_is_0 20 rfl rfl)
theorem dX3_is_21 : decode cX3_is 21 = .ok (.ireturn, 1) := dk_172 (dk_at dksX3_is_0 21 rfl rfl)
def dkwX3_book_1 : List UInt8 := [161, 0, 8, 16, 254, 167, 0, 17, 42, 180, 0, 22, 16, 19, 16, 6, 28, 104, 96, 27, 96, 46, 172]
abbrev dktX3_book_1 : List UInt8 := dkwX3_book_1 ++ []
def dkwX3_book_0 : List UInt8 := [27, 155, 0, 12, 28, 3, 4, 184, 0, 119, 154, 0, 5, 2, 172, 27, 42, 180, 0, 22, 16, 18, 46]
abbrev dktX3_book_0 : List UInt8 := dkwX3_book_0 ++ dktX3_book_1
theorem dksX3_book_0 : cX3_book.data.toList.drop 0 = dktX3_book_0 := by decide +kernel
theorem dksX3_book_1 : cX3_book.data.toList.drop 23 = dktX3_book_1 := dk_seg dksX3_book_0 23 rfl rfl
theorem dX3_book_0 : decode cX3_book 0 = .ok (.iload_n 1, 1) := dk_27 (dk_at dksX3_book_0 0 rfl rfl)
theorem dX3_book_1 : decode cX3_book 1 = .ok (.ifCond .lt 12, 3) := dk_155 0 12 (dk_at dksX3_book_0 1 rfl rfl)
theorem dX3_book_4 : decode cX3_book 4 = .ok (.iload_n 2, 1) := dk_28 (dk_at dksX3_book_0 4 rfl rfl)
theorem dX3_book_5 : decode cX3_book 5 = .ok (.iconst 0, 1) := dk_3 (dk_at dksX3_book_0 5 rfl rfl)
theorem dX3_book_6 : decode cX3_book 6 = .ok (.iconst 1, 1) := dk_4 (dk_at dksX3_book_0 6 rfl rfl)
theorem dX3_book_7 : decode cX3_book 7 = .ok (.invokestatic 119, 3) := dk_184 0 119 (dk_at dksX3_book_0 7 rfl rfl)
theorem dX3_book_10 : decode cX3_book 10 = .ok (.ifCond .ne 5, 3) := dk_154 0 5 (dk_at dksX3_book_0 10 rfl rfl)
theorem dX3_book_13 : decode cX3_book 13 = .ok (.iconst (-1), 1) := dk_2 (dk_at dksX3_book_0 13 rfl rfl)
theorem dX3_book_14 : decode cX3_book 14 = .ok (.ireturn, 1) := dk_172 (dk_at dksX3_book_0 14 rfl rfl)
theorem dX3_book_15 : decode cX3_book 15 = .ok (.iload_n 1, 1) := dk_27 (dk_at dksX3_book_0 15 rfl rfl)
theorem dX3_book_16 : decode cX3_book 16 = .ok (.aload_n 0, 1) := dk_42 (dk_at dksX3_book_0 16 rfl rfl)
theorem dX3_book_17 : decode cX3_book 17 = .ok (.getfield 22, 3) := dk_180 0 22 (dk_at dksX3_book_0 17 rfl rfl)
theorem dX3_book_20 : decode cX3_book 20 = .ok (.bipush 18, 2) := dk_16 18 (dk_at dksX3_book_0 20 rfl rfl)
theorem dX3_book_22 : decode cX3_book 22 = .ok (.iaload, 1) := dk_46 (dk_at dksX3_book_0 22 rfl rfl)
theorem dX3_book_23 : decode cX3_book 23 = .ok (.if_icmp .lt 8, 3) := dk_161 0 8 (dk_at dksX3_book_1 0 rfl rfl)
theorem dX3_book_26 : decode cX3_book 26 = .ok (.bipush (-2), 2) := dk_16 254 (dk_at dksX3_book_1 3 rfl rfl)
theorem dX3_book_28 : decode cX3_book 28 = .ok (.goto 17, 3) := dk_167 0 17 (dk_at dksX3_book_1 5 rfl rfl)
theorem dX3_book_31 : decode cX3_book 31 = .ok (.aload_n 0, 1) := dk_42 (dk_at dksX3_book_1 8 rfl rfl)
theorem dX3_book_32 : decode cX3_book 32 = .ok (.getfield 22, 3) := dk_180 0 22 (dk_at dksX3_book_1 9 rfl rfl)
theorem dX3_book_35 : decode cX3_book 35 = .ok (.bipush 19, 2) := dk_16 19 (dk_at dksX3_book_1 12 rfl rfl)
theorem dX3_book_37 : decode cX3_book 37 = .ok (.bipush 6, 2) := dk_16 6 (dk_at dksX3_book_1 14 rfl rfl)
theorem dX3_book_39 : decode cX3_book 39 = .ok (.iload_n 2, 1) := dk_28 (dk_at dksX3_book_1 16 rfl rfl)
theorem dX3_book_40 : decode cX3_book 40 = .ok (.imul, 1) := dk_104 (dk_at dksX3_book_1 17 rfl rfl)
theorem dX3_book_41 : decode cX3_book 41 = .ok (.iadd, 1) := dk_96 (dk_at dksX3_book_1 18 rfl rfl)
theorem dX3_book_42 : decode cX3_book 42 = .ok (.iload_n 1, 1) := dk_27 (dk_at dksX3_book_1 19 rfl rfl)
theorem dX3_book_43 : decode cX3_book 43 = .ok (.iadd, 1) := dk_96 (dk_at dksX3_book_1 20 rfl rfl)
theorem dX3_book_44 : decode cX3_book 44 = .ok (.iaload, 1) := dk_46 (dk_at dksX3_book_1 21 rfl rfl)
theorem dX3_book_45 : decode cX3_book 45 = .ok (.ireturn, 1) := dk_172 (dk_at dksX3_book_1 22 rfl rfl)
def dkwX3_market_5 : List UInt8 := [182, 1, 17, 21, 5, 172]
abbrev dktX3_market_5 : List UInt8 := dkwX3_market_5 ++ []
def dkwX3_market_4 : List UInt8 := [180, 0, 22, 16, 18, 46, 167, 0, 9, 42, 180, 0, 22, 28, 46, 54, 5, 42, 42, 180, 0, 86, 3]
abbrev dktX3_market_4 : List UInt8 := dkwX3_market_4 ++ dktX3_market_5
def dkwX3_market_3 : List UInt8 := [180, 1, 1, 167, 0, 36, 29, 4, 160, 0, 10, 42, 180, 0, 241, 167, 0, 24, 29, 5, 160, 0, 13, 42]
abbrev dktX3_market_3 : List UInt8 := dkwX3_market_3 ++ dktX3_market_4
def dkwX3_market_2 : List UInt8 := [156, 0, 6, 21, 4, 172, 42, 27, 182, 1, 23, 42, 182, 1, 11, 42, 182, 1, 14, 29, 154, 0, 10, 42]
abbrev dktX3_market_2 : List UInt8 := dkwX3_market_2 ++ dktX3_market_3
def dkwX3_market_1 : List UInt8 := [182, 0, 137, 153, 0, 10, 167, 0, 9, 28, 153, 0, 5, 2, 172, 42, 27, 182, 1, 20, 54, 4, 21, 4]
abbrev dktX3_market_1 : List UInt8 := dkwX3_market_1 ++ dktX3_market_2
def dkwX3_market_0 : List UInt8 := [27, 184, 0, 127, 153, 0, 32, 29, 3, 6, 184, 0, 119, 153, 0, 23, 29, 6, 160, 0, 14, 42, 28]
abbrev dktX3_market_0 : List UInt8 := dkwX3_market_0 ++ dktX3_market_1
theorem dksX3_market_0 : cX3_market.data.toList.drop 0 = dktX3_market_0 := by decide +kernel
theorem dksX3_market_1 : cX3_market.data.toList.drop 23 = dktX3_market_1 := dk_seg dksX3_market_0 23 rfl rfl
theorem dksX3_market_2 : cX3_market.data.toList.drop 47 = dktX3_market_2 := dk_seg dksX3_market_1 24 rfl rfl
theorem dksX3_market_3 : cX3_market.data.toList.drop 71 = dktX3_market_3 := dk_seg dksX3_market_2 24 rfl rfl
theorem dksX3_market_4 : cX3_market.data.toList.drop 95 = dktX3_market_4 := dk_seg dksX3_market_3 24 rfl rfl
theorem dksX3_market_5 : cX3_market.data.toList.drop 118 = dktX3_market_5 := dk_seg dksX3_market_4 23 rfl rfl
theorem dX3_market_0 : decode cX3_market 0 = .ok (.iload_n 1, 1) := dk_27 (dk_at dksX3_market_0 0 rfl rfl)
theorem dX3_market_1 : decode cX3_market 1 = .ok (.invokestatic 127, 3) := dk_184 0 127 (dk_at dksX3_market_0 1 rfl rfl)
theorem dX3_market_4 : decode cX3_market 4 = .ok (.ifCond .eq 32, 3) := dk_153 0 32 (dk_at dksX3_market_0 4 rfl rfl)
theorem dX3_market_7 : decode cX3_market 7 = .ok (.iload_n 3, 1) := dk_29 (dk_at dksX3_market_0 7 rfl rfl)
theorem dX3_market_8 : decode cX3_market 8 = .ok (.iconst 0, 1) := dk_3 (dk_at dksX3_market_0 8 rfl rfl)
theorem dX3_market_9 : decode cX3_market 9 = .ok (.iconst 3, 1) := dk_6 (dk_at dksX3_market_0 9 rfl rfl)
theorem dX3_market_10 : decode cX3_market 10 = .ok (.invokestatic 119, 3) := dk_184 0 119 (dk_at dksX3_market_0 10 rfl rfl)
theorem dX3_market_13 : decode cX3_market 13 = .ok (.ifCond .eq 23, 3) := dk_153 0 23 (dk_at dksX3_market_0 13 rfl rfl)
theorem dX3_market_16 : decode cX3_market 16 = .ok (.iload_n 3, 1) := dk_29 (dk_at dksX3_market_0 16 rfl rfl)
theorem dX3_market_17 : decode cX3_market 17 = .ok (.iconst 3, 1) := dk_6 (dk_at dksX3_market_0 17 rfl rfl)
theorem dX3_market_18 : decode cX3_market 18 = .ok (.if_icmp .ne 14, 3) := dk_160 0 14 (dk_at dksX3_market_0 18 rfl rfl)
theorem dX3_market_21 : decode cX3_market 21 = .ok (.aload_n 0, 1) := dk_42 (dk_at dksX3_market_0 21 rfl rfl)
theorem dX3_market_22 : decode cX3_market 22 = .ok (.iload_n 2, 1) := dk_28 (dk_at dksX3_market_0 22 rfl rfl)
theorem dX3_market_23 : decode cX3_market 23 = .ok (.invokevirtual 137, 3) := dk_182 0 137 (dk_at dksX3_market_1 0 rfl rfl)
theorem dX3_market_26 : decode cX3_market 26 = .ok (.ifCond .eq 10, 3) := dk_153 0 10 (dk_at dksX3_market_1 3 rfl rfl)
theorem dX3_market_29 : decode cX3_market 29 = .ok (.goto 9, 3) := dk_167 0 9 (dk_at dksX3_market_1 6 rfl rfl)
theorem dX3_market_32 : decode cX3_market 32 = .ok (.iload_n 2, 1) := dk_28 (dk_at dksX3_market_1 9 rfl rfl)
theorem dX3_market_33 : decode cX3_market 33 = .ok (.ifCond .eq 5, 3) := dk_153 0 5 (dk_at dksX3_market_1 10 rfl rfl)
theorem dX3_market_36 : decode cX3_market 36 = .ok (.iconst (-1), 1) := dk_2 (dk_at dksX3_market_1 13 rfl rfl)
theorem dX3_market_37 : decode cX3_market 37 = .ok (.ireturn, 1) := dk_172 (dk_at dksX3_market_1 14 rfl rfl)
theorem dX3_market_38 : decode cX3_market 38 = .ok (.aload_n 0, 1) := dk_42 (dk_at dksX3_market_1 15 rfl rfl)
theorem dX3_market_39 : decode cX3_market 39 = .ok (.iload_n 1, 1) := dk_27 (dk_at dksX3_market_1 16 rfl rfl)
theorem dX3_market_40 : decode cX3_market 40 = .ok (.invokevirtual 276, 3) := dk_182 1 20 (dk_at dksX3_market_1 17 rfl rfl)
theorem dX3_market_43 : decode cX3_market 43 = .ok (.istore 4, 2) := dk_54 4 (dk_at dksX3_market_1 20 rfl rfl)
theorem dX3_market_45 : decode cX3_market 45 = .ok (.iload 4, 2) := dk_21 4 (dk_at dksX3_market_1 22 rfl rfl)
theorem dX3_market_47 : decode cX3_market 47 = .ok (.ifCond .ge 6, 3) := dk_156 0 6 (dk_at dksX3_market_2 0 rfl rfl)
theorem dX3_market_50 : decode cX3_market 50 = .ok (.iload 4, 2) := dk_21 4 (dk_at dksX3_market_2 3 rfl rfl)
theorem dX3_market_52 : decode cX3_market 52 = .ok (.ireturn, 1) := dk_172 (dk_at dksX3_market_2 5 rfl rfl)
theorem dX3_market_53 : decode cX3_market 53 = .ok (.aload_n 0, 1) := dk_42 (dk_at dksX3_market_2 6 rfl rfl)
theorem dX3_market_54 : decode cX3_market 54 = .ok (.iload_n 1, 1) := dk_27 (dk_at dksX3_market_2 7 rfl rfl)
theorem dX3_market_55 : decode cX3_market 55 = .ok (.invokevirtual 279, 3) := dk_182 1 23 (dk_at dksX3_market_2 8 rfl rfl)
theorem dX3_market_58 : decode cX3_market 58 = .ok (.aload_n 0, 1) := dk_42 (dk_at dksX3_market_2 11 rfl rfl)
theorem dX3_market_59 : decode cX3_market 59 = .ok (.invokevirtual 267, 3) := dk_182 1 11 (dk_at dksX3_market_2 12 rfl rfl)
theorem dX3_market_62 : decode cX3_market 62 = .ok (.aload_n 0, 1) := dk_42 (dk_at dksX3_market_2 15 rfl rfl)
theorem dX3_market_63 : decode cX3_market 63 = .ok (.invokevirtual 270, 3) := dk_182 1 14 (dk_at dksX3_market_2 16 rfl rfl)
theorem dX3_market_66 : decode cX3_market 66 = .ok (.iload_n 3, 1) := dk_29 (dk_at dksX3_market_2 19 rfl rfl)
theorem dX3_market_67 : decode cX3_market 67 = .ok (.ifCond .ne 10, 3) := dk_154 0 10 (dk_at dksX3_market_2 20 rfl rfl)
theorem dX3_market_70 : decode cX3_market 70 = .ok (.aload_n 0, 1) := dk_42 (dk_at dksX3_market_2 23 rfl rfl)
theorem dX3_market_71 : decode cX3_market 71 = .ok (.getfield 257, 3) := dk_180 1 1 (dk_at dksX3_market_3 0 rfl rfl)
theorem dX3_market_74 : decode cX3_market 74 = .ok (.goto 36, 3) := dk_167 0 36 (dk_at dksX3_market_3 3 rfl rfl)
theorem dX3_market_77 : decode cX3_market 77 = .ok (.iload_n 3, 1) := dk_29 (dk_at dksX3_market_3 6 rfl rfl)
theorem dX3_market_78 : decode cX3_market 78 = .ok (.iconst 1, 1) := dk_4 (dk_at dksX3_market_3 7 rfl rfl)
theorem dX3_market_79 : decode cX3_market 79 = .ok (.if_icmp .ne 10, 3) := dk_160 0 10 (dk_at dksX3_market_3 8 rfl rfl)
theorem dX3_market_82 : decode cX3_market 82 = .ok (.aload_n 0, 1) := dk_42 (dk_at dksX3_market_3 11 rfl rfl)
theorem dX3_market_83 : decode cX3_market 83 = .ok (.getfield 241, 3) := dk_180 0 241 (dk_at dksX3_market_3 12 rfl rfl)
theorem dX3_market_86 : decode cX3_market 86 = .ok (.goto 24, 3) := dk_167 0 24 (dk_at dksX3_market_3 15 rfl rfl)
theorem dX3_market_89 : decode cX3_market 89 = .ok (.iload_n 3, 1) := dk_29 (dk_at dksX3_market_3 18 rfl rfl)
theorem dX3_market_90 : decode cX3_market 90 = .ok (.iconst 2, 1) := dk_5 (dk_at dksX3_market_3 19 rfl rfl)
theorem dX3_market_91 : decode cX3_market 91 = .ok (.if_icmp .ne 13, 3) := dk_160 0 13 (dk_at dksX3_market_3 20 rfl rfl)
theorem dX3_market_94 : decode cX3_market 94 = .ok (.aload_n 0, 1) := dk_42 (dk_at dksX3_market_3 23 rfl rfl)
theorem dX3_market_95 : decode cX3_market 95 = .ok (.getfield 22, 3) := dk_180 0 22 (dk_at dksX3_market_4 0 rfl rfl)
theorem dX3_market_98 : decode cX3_market 98 = .ok (.bipush 18, 2) := dk_16 18 (dk_at dksX3_market_4 3 rfl rfl)
theorem dX3_market_100 : decode cX3_market 100 = .ok (.iaload, 1) := dk_46 (dk_at dksX3_market_4 5 rfl rfl)
theorem dX3_market_101 : decode cX3_market 101 = .ok (.goto 9, 3) := dk_167 0 9 (dk_at dksX3_market_4 6 rfl rfl)
theorem dX3_market_104 : decode cX3_market 104 = .ok (.aload_n 0, 1) := dk_42 (dk_at dksX3_market_4 9 rfl rfl)
theorem dX3_market_105 : decode cX3_market 105 = .ok (.getfield 22, 3) := dk_180 0 22 (dk_at dksX3_market_4 10 rfl rfl)
theorem dX3_market_108 : decode cX3_market 108 = .ok (.iload_n 2, 1) := dk_28 (dk_at dksX3_market_4 13 rfl rfl)
theorem dX3_market_109 : decode cX3_market 109 = .ok (.iaload, 1) := dk_46 (dk_at dksX3_market_4 14 rfl rfl)
theorem dX3_market_110 : decode cX3_market 110 = .ok (.istore 5, 2) := dk_54 5 (dk_at dksX3_market_4 15 rfl rfl)
theorem dX3_market_112 : decode cX3_market 112 = .ok (.aload_n 0, 1) := dk_42 (dk_at dksX3_market_4 17 rfl rfl)
theorem dX3_market_113 : decode cX3_market 113 = .ok (.aload_n 0, 1) := dk_42 (dk_at dksX3_market_4 18 rfl rfl)
theorem dX3_market_114 : decode cX3_market 114 = .ok (.getfield 86, 3) := dk_180 0 86 (dk_at dksX3_market_4 19 rfl rfl)
theorem dX3_market_117 : decode cX3_market 117 = .ok (.iconst 0, 1) := dk_3 (dk_at dksX3_market_4 22 rfl rfl)
theorem dX3_market_118 : decode cX3_market 118 = .ok (.invokevirtual 273, 3) := dk_182 1 17 (dk_at dksX3_market_5 0 rfl rfl)
theorem dX3_market_121 : decode cX3_market 121 = .ok (.iload 5, 2) := dk_21 5 (dk_at dksX3_market_5 3 rfl rfl)
theorem dX3_market_123 : decode cX3_market 123 = .ok (.ireturn, 1) := dk_172 (dk_at dksX3_market_5 5 rfl rfl)
def dkwX3_noBytes_1 : List UInt8 := [16, 244, 167, 0, 4, 3, 172]
abbrev dktX3_noBytes_1 : List UInt8 := dkwX3_noBytes_1 ++ []
def dkwX3_noBytes_0 : List UInt8 := [42, 180, 0, 76, 27, 46, 2, 160, 0, 8, 16, 245, 167, 0, 18, 42, 180, 0, 76, 27, 46, 153, 0, 8]
abbrev dktX3_noBytes_0 : List UInt8 := dkwX3_noBytes_0 ++ dktX3_noBytes_1
theorem dksX3_noBytes_0 : cX3_noBytes.data.toList.drop 0 = dktX3_noBytes_0 := by decide +kernel
theorem dksX3_noBytes_1 : cX3_noBytes.data.toList.drop 24 = dktX3_noBytes_1 := dk_seg dksX3_noBytes_0 24 rfl rfl
theorem dX3_noBytes_0 : decode cX3_noBytes 0 = .ok (.aload_n 0, 1) := dk_42 (dk_at dksX3_noBytes_0 0 rfl rfl)
theorem dX3_noBytes_1 : decode cX3_noBytes 1 = .ok (.getfield 76, 3) := dk_180 0 76 (dk_at dksX3_noBytes_0 1 rfl rfl)
theorem dX3_noBytes_4 : decode cX3_noBytes 4 = .ok (.iload_n 1, 1) := dk_27 (dk_at dksX3_noBytes_0 4 rfl rfl)
theorem dX3_noBytes_5 : decode cX3_noBytes 5 = .ok (.iaload, 1) := dk_46 (dk_at dksX3_noBytes_0 5 rfl rfl)
theorem dX3_noBytes_6 : decode cX3_noBytes 6 = .ok (.iconst (-1), 1) := dk_2 (dk_at dksX3_noBytes_0 6 rfl rfl)
theorem dX3_noBytes_7 : decode cX3_noBytes 7 = .ok (.if_icmp .ne 8, 3) := dk_160 0 8 (dk_at dksX3_noBytes_0 7 rfl rfl)
theorem dX3_noBytes_10 : decode cX3_noBytes 10 = .ok (.bipush (-11), 2) := dk_16 245 (dk_at dksX3_noBytes_0 10 rfl rfl)
theorem dX3_noBytes_12 : decode cX3_noBytes 12 = .ok (.goto 18, 3) := dk_167 0 18 (dk_at dksX3_noBytes_0 12 rfl rfl)
theorem dX3_noBytes_15 : decode cX3_noBytes 15 = .ok (.aload_n 0, 1) := dk_42 (dk_at dksX3_noBytes_0 15 rfl rfl)
theorem dX3_noBytes_16 : decode cX3_noBytes 16 = .ok (.getfield 76, 3) := dk_180 0 76 (dk_at dksX3_noBytes_0 16 rfl rfl)
theorem dX3_noBytes_19 : decode cX3_noBytes 19 = .ok (.iload_n 1, 1) := dk_27 (dk_at dksX3_noBytes_0 19 rfl rfl)
theorem dX3_noBytes_20 : decode cX3_noBytes 20 = .ok (.iaload, 1) := dk_46 (dk_at dksX3_noBytes_0 20 rfl rfl)
theorem dX3_noBytes_21 : decode cX3_noBytes 21 = .ok (.ifCond .eq 8, 3) := dk_153 0 8 (dk_at dksX3_noBytes_0 21 rfl rfl)
theorem dX3_noBytes_24 : decode cX3_noBytes 24 = .ok (.bipush (-12), 2) := dk_16 244 (dk_at dksX3_noBytes_1 0 rfl rfl)
theorem dX3_noBytes_26 : decode cX3_noBytes 26 = .ok (.goto 4, 3) := dk_167 0 4 (dk_at dksX3_noBytes_1 2 rfl rfl)
theorem dX3_noBytes_29 : decode cX3_noBytes 29 = .ok (.iconst 0, 1) := dk_3 (dk_at dksX3_noBytes_1 5 rfl rfl)
theorem dX3_noBytes_30 : decode cX3_noBytes 30 = .ok (.ireturn, 1) := dk_172 (dk_at dksX3_noBytes_1 6 rfl rfl)
def dkwX3_reads_3 : List UInt8 := [167, 255, 190, 177]
abbrev dktX3_reads_3 : List UInt8 := dkwX3_reads_3 ++ []
def dkwX3_reads_2 : List UInt8 := [180, 1, 1, 42, 27, 42, 180, 1, 1, 182, 0, 133, 79, 42, 89, 180, 1, 1, 4, 96, 181, 1, 1]
abbrev dktX3_reads_2 : List UInt8 := dkwX3_reads_2 ++ dktX3_reads_3
def dkwX3_reads_1 : List UInt8 := [162, 0, 50, 42, 42, 27, 42, 180, 1, 1, 182, 0, 133, 182, 0, 137, 153, 0, 34, 42, 180, 0, 95, 42]
abbrev dktX3_reads_1 : List UInt8 := dkwX3_reads_1 ++ dktX3_reads_2
def dkwX3_reads_0 : List UInt8 := [42, 3, 181, 1, 1, 42, 180, 1, 1, 16, 20, 162, 0, 63, 42, 180, 1, 1, 42, 180, 0, 79, 27, 46]
abbrev dktX3_reads_0 : List UInt8 := dkwX3_reads_0 ++ dktX3_reads_1
theorem dksX3_reads_0 : cX3_reads.data.toList.drop 0 = dktX3_reads_0 := by decide +kernel
theorem dksX3_reads_1 : cX3_reads.data.toList.drop 24 = dktX3_reads_1 := dk_seg dksX3_reads_0 24 rfl rfl
theorem dksX3_reads_2 : cX3_reads.data.toList.drop 48 = dktX3_reads_2 := dk_seg dksX3_reads_1 24 rfl rfl
theorem dksX3_reads_3 : cX3_reads.data.toList.drop 71 = dktX3_reads_3 := dk_seg dksX3_reads_2 23 rfl rfl
theorem dX3_reads_0 : decode cX3_reads 0 = .ok (.aload_n 0, 1) := dk_42 (dk_at dksX3_reads_0 0 rfl rfl)
theorem dX3_reads_1 : decode cX3_reads 1 = .ok (.iconst 0, 1) := dk_3 (dk_at dksX3_reads_0 1 rfl rfl)
theorem dX3_reads_2 : decode cX3_reads 2 = .ok (.putfield 257, 3) := dk_181 1 1 (dk_at dksX3_reads_0 2 rfl rfl)
theorem dX3_reads_5 : decode cX3_reads 5 = .ok (.aload_n 0, 1) := dk_42 (dk_at dksX3_reads_0 5 rfl rfl)
theorem dX3_reads_6 : decode cX3_reads 6 = .ok (.getfield 257, 3) := dk_180 1 1 (dk_at dksX3_reads_0 6 rfl rfl)
theorem dX3_reads_9 : decode cX3_reads 9 = .ok (.bipush 20, 2) := dk_16 20 (dk_at dksX3_reads_0 9 rfl rfl)
theorem dX3_reads_11 : decode cX3_reads 11 = .ok (.if_icmp .ge 63, 3) := dk_162 0 63 (dk_at dksX3_reads_0 11 rfl rfl)
theorem dX3_reads_14 : decode cX3_reads 14 = .ok (.aload_n 0, 1) := dk_42 (dk_at dksX3_reads_0 14 rfl rfl)
theorem dX3_reads_15 : decode cX3_reads 15 = .ok (.getfield 257, 3) := dk_180 1 1 (dk_at dksX3_reads_0 15 rfl rfl)
theorem dX3_reads_18 : decode cX3_reads 18 = .ok (.aload_n 0, 1) := dk_42 (dk_at dksX3_reads_0 18 rfl rfl)
theorem dX3_reads_19 : decode cX3_reads 19 = .ok (.getfield 79, 3) := dk_180 0 79 (dk_at dksX3_reads_0 19 rfl rfl)
theorem dX3_reads_22 : decode cX3_reads 22 = .ok (.iload_n 1, 1) := dk_27 (dk_at dksX3_reads_0 22 rfl rfl)
theorem dX3_reads_23 : decode cX3_reads 23 = .ok (.iaload, 1) := dk_46 (dk_at dksX3_reads_0 23 rfl rfl)
theorem dX3_reads_24 : decode cX3_reads 24 = .ok (.if_icmp .ge 50, 3) := dk_162 0 50 (dk_at dksX3_reads_1 0 rfl rfl)
theorem dX3_reads_27 : decode cX3_reads 27 = .ok (.aload_n 0, 1) := dk_42 (dk_at dksX3_reads_1 3 rfl rfl)
theorem dX3_reads_28 : decode cX3_reads 28 = .ok (.aload_n 0, 1) := dk_42 (dk_at dksX3_reads_1 4 rfl rfl)
theorem dX3_reads_29 : decode cX3_reads 29 = .ok (.iload_n 1, 1) := dk_27 (dk_at dksX3_reads_1 5 rfl rfl)
theorem dX3_reads_30 : decode cX3_reads 30 = .ok (.aload_n 0, 1) := dk_42 (dk_at dksX3_reads_1 6 rfl rfl)
theorem dX3_reads_31 : decode cX3_reads 31 = .ok (.getfield 257, 3) := dk_180 1 1 (dk_at dksX3_reads_1 7 rfl rfl)
theorem dX3_reads_34 : decode cX3_reads 34 = .ok (.invokevirtual 133, 3) := dk_182 0 133 (dk_at dksX3_reads_1 10 rfl rfl)
theorem dX3_reads_37 : decode cX3_reads 37 = .ok (.invokevirtual 137, 3) := dk_182 0 137 (dk_at dksX3_reads_1 13 rfl rfl)
theorem dX3_reads_40 : decode cX3_reads 40 = .ok (.ifCond .eq 34, 3) := dk_153 0 34 (dk_at dksX3_reads_1 16 rfl rfl)
theorem dX3_reads_43 : decode cX3_reads 43 = .ok (.aload_n 0, 1) := dk_42 (dk_at dksX3_reads_1 19 rfl rfl)
theorem dX3_reads_44 : decode cX3_reads 44 = .ok (.getfield 95, 3) := dk_180 0 95 (dk_at dksX3_reads_1 20 rfl rfl)
theorem dX3_reads_47 : decode cX3_reads 47 = .ok (.aload_n 0, 1) := dk_42 (dk_at dksX3_reads_1 23 rfl rfl)
theorem dX3_reads_48 : decode cX3_reads 48 = .ok (.getfield 257, 3) := dk_180 1 1 (dk_at dksX3_reads_2 0 rfl rfl)
theorem dX3_reads_51 : decode cX3_reads 51 = .ok (.aload_n 0, 1) := dk_42 (dk_at dksX3_reads_2 3 rfl rfl)
theorem dX3_reads_52 : decode cX3_reads 52 = .ok (.iload_n 1, 1) := dk_27 (dk_at dksX3_reads_2 4 rfl rfl)
theorem dX3_reads_53 : decode cX3_reads 53 = .ok (.aload_n 0, 1) := dk_42 (dk_at dksX3_reads_2 5 rfl rfl)
theorem dX3_reads_54 : decode cX3_reads 54 = .ok (.getfield 257, 3) := dk_180 1 1 (dk_at dksX3_reads_2 6 rfl rfl)
theorem dX3_reads_57 : decode cX3_reads 57 = .ok (.invokevirtual 133, 3) := dk_182 0 133 (dk_at dksX3_reads_2 9 rfl rfl)
theorem dX3_reads_60 : decode cX3_reads 60 = .ok (.iastore, 1) := dk_79 (dk_at dksX3_reads_2 12 rfl rfl)
theorem dX3_reads_61 : decode cX3_reads 61 = .ok (.aload_n 0, 1) := dk_42 (dk_at dksX3_reads_2 13 rfl rfl)
theorem dX3_reads_62 : decode cX3_reads 62 = .ok (.dup, 1) := dk_89 (dk_at dksX3_reads_2 14 rfl rfl)
theorem dX3_reads_63 : decode cX3_reads 63 = .ok (.getfield 257, 3) := dk_180 1 1 (dk_at dksX3_reads_2 15 rfl rfl)
theorem dX3_reads_66 : decode cX3_reads 66 = .ok (.iconst 1, 1) := dk_4 (dk_at dksX3_reads_2 18 rfl rfl)
theorem dX3_reads_67 : decode cX3_reads 67 = .ok (.iadd, 1) := dk_96 (dk_at dksX3_reads_2 19 rfl rfl)
theorem dX3_reads_68 : decode cX3_reads 68 = .ok (.putfield 257, 3) := dk_181 1 1 (dk_at dksX3_reads_2 20 rfl rfl)
theorem dX3_reads_71 : decode cX3_reads 71 = .ok (.goto (-66), 3) := dk_167 255 190 (dk_at dksX3_reads_3 0 rfl rfl)
theorem dX3_reads_74 : decode cX3_reads 74 = .ok (.return_, 1) := dk_177 (dk_at dksX3_reads_3 3 rfl rfl)
def dkwX3_begins_1 : List UInt8 := [180, 0, 92, 27, 3, 79, 132, 1, 1, 167, 255, 240, 177]
abbrev dktX3_begins_1 : List UInt8 := dkwX3_begins_1 ++ []
def dkwX3_begins_0 : List UInt8 := [42, 42, 180, 0, 86, 3, 182, 1, 7, 42, 3, 181, 0, 241, 3, 60, 27, 16, 64, 162, 0, 16, 42]
abbrev dktX3_begins_0 : List UInt8 := dkwX3_begins_0 ++ dktX3_begins_1
theorem dksX3_begins_0 : cX3_begins.data.toList.drop 0 = dktX3_begins_0 := by decide +kernel
theorem dksX3_begins_1 : cX3_begins.data.toList.drop 23 = dktX3_begins_1 := dk_seg dksX3_begins_0 23 rfl rfl
theorem dX3_begins_0 : decode cX3_begins 0 = .ok (.aload_n 0, 1) := dk_42 (dk_at dksX3_begins_0 0 rfl rfl)
theorem dX3_begins_1 : decode cX3_begins 1 = .ok (.aload_n 0, 1) := dk_42 (dk_at dksX3_begins_0 1 rfl rfl)
theorem dX3_begins_2 : decode cX3_begins 2 = .ok (.getfield 86, 3) := dk_180 0 86 (dk_at dksX3_begins_0 2 rfl rfl)
theorem dX3_begins_5 : decode cX3_begins 5 = .ok (.iconst 0, 1) := dk_3 (dk_at dksX3_begins_0 5 rfl rfl)
theorem dX3_begins_6 : decode cX3_begins 6 = .ok (.invokevirtual 263, 3) := dk_182 1 7 (dk_at dksX3_begins_0 6 rfl rfl)
theorem dX3_begins_9 : decode cX3_begins 9 = .ok (.aload_n 0, 1) := dk_42 (dk_at dksX3_begins_0 9 rfl rfl)
theorem dX3_begins_10 : decode cX3_begins 10 = .ok (.iconst 0, 1) := dk_3 (dk_at dksX3_begins_0 10 rfl rfl)
theorem dX3_begins_11 : decode cX3_begins 11 = .ok (.putfield 241, 3) := dk_181 0 241 (dk_at dksX3_begins_0 11 rfl rfl)
theorem dX3_begins_14 : decode cX3_begins 14 = .ok (.iconst 0, 1) := dk_3 (dk_at dksX3_begins_0 14 rfl rfl)
theorem dX3_begins_15 : decode cX3_begins 15 = .ok (.istore_n 1, 1) := dk_60 (dk_at dksX3_begins_0 15 rfl rfl)
theorem dX3_begins_16 : decode cX3_begins 16 = .ok (.iload_n 1, 1) := dk_27 (dk_at dksX3_begins_0 16 rfl rfl)
theorem dX3_begins_17 : decode cX3_begins 17 = .ok (.bipush 64, 2) := dk_16 64 (dk_at dksX3_begins_0 17 rfl rfl)
theorem dX3_begins_19 : decode cX3_begins 19 = .ok (.if_icmp .ge 16, 3) := dk_162 0 16 (dk_at dksX3_begins_0 19 rfl rfl)
theorem dX3_begins_22 : decode cX3_begins 22 = .ok (.aload_n 0, 1) := dk_42 (dk_at dksX3_begins_0 22 rfl rfl)
theorem dX3_begins_23 : decode cX3_begins 23 = .ok (.getfield 92, 3) := dk_180 0 92 (dk_at dksX3_begins_1 0 rfl rfl)
theorem dX3_begins_26 : decode cX3_begins 26 = .ok (.iload_n 1, 1) := dk_27 (dk_at dksX3_begins_1 3 rfl rfl)
theorem dX3_begins_27 : decode cX3_begins 27 = .ok (.iconst 0, 1) := dk_3 (dk_at dksX3_begins_1 4 rfl rfl)
theorem dX3_begins_28 : decode cX3_begins 28 = .ok (.iastore, 1) := dk_79 (dk_at dksX3_begins_1 5 rfl rfl)
theorem dX3_begins_29 : decode cX3_begins 29 = .ok (.iinc 1 1, 3) := dk_132 1 1 (dk_at dksX3_begins_1 6 rfl rfl)
theorem dX3_begins_32 : decode cX3_begins 32 = .ok (.goto (-16), 3) := dk_167 255 240 (dk_at dksX3_begins_1 9 rfl rfl)
theorem dX3_begins_35 : decode cX3_begins 35 = .ok (.return_, 1) := dk_177 (dk_at dksX3_begins_1 12 rfl rfl)
def dkwX3_keeps_1 : List UInt8 := [167, 255, 236, 177]
abbrev dktX3_keeps_1 : List UInt8 := dkwX3_keeps_1 ++ []
def dkwX3_keeps_0 : List UInt8 := [3, 62, 29, 16, 31, 162, 0, 20, 43, 28, 29, 96, 42, 180, 0, 22, 29, 46, 79, 132, 3, 1]
abbrev dktX3_keeps_0 : List UInt8 := dkwX3_keeps_0 ++ dktX3_keeps_1
theorem dksX3_keeps_0 : cX3_keeps.data.toList.drop 0 = dktX3_keeps_0 := by decide +kernel
theorem dksX3_keeps_1 : cX3_keeps.data.toList.drop 22 = dktX3_keeps_1 := dk_seg dksX3_keeps_0 22 rfl rfl
theorem dX3_keeps_0 : decode cX3_keeps 0 = .ok (.iconst 0, 1) := dk_3 (dk_at dksX3_keeps_0 0 rfl rfl)
theorem dX3_keeps_1 : decode cX3_keeps 1 = .ok (.istore_n 3, 1) := dk_62 (dk_at dksX3_keeps_0 1 rfl rfl)
theorem dX3_keeps_2 : decode cX3_keeps 2 = .ok (.iload_n 3, 1) := dk_29 (dk_at dksX3_keeps_0 2 rfl rfl)
theorem dX3_keeps_3 : decode cX3_keeps 3 = .ok (.bipush 31, 2) := dk_16 31 (dk_at dksX3_keeps_0 3 rfl rfl)
theorem dX3_keeps_5 : decode cX3_keeps 5 = .ok (.if_icmp .ge 20, 3) := dk_162 0 20 (dk_at dksX3_keeps_0 5 rfl rfl)
theorem dX3_keeps_8 : decode cX3_keeps 8 = .ok (.aload_n 1, 1) := dk_43 (dk_at dksX3_keeps_0 8 rfl rfl)
theorem dX3_keeps_9 : decode cX3_keeps 9 = .ok (.iload_n 2, 1) := dk_28 (dk_at dksX3_keeps_0 9 rfl rfl)
theorem dX3_keeps_10 : decode cX3_keeps 10 = .ok (.iload_n 3, 1) := dk_29 (dk_at dksX3_keeps_0 10 rfl rfl)
theorem dX3_keeps_11 : decode cX3_keeps 11 = .ok (.iadd, 1) := dk_96 (dk_at dksX3_keeps_0 11 rfl rfl)
theorem dX3_keeps_12 : decode cX3_keeps 12 = .ok (.aload_n 0, 1) := dk_42 (dk_at dksX3_keeps_0 12 rfl rfl)
theorem dX3_keeps_13 : decode cX3_keeps 13 = .ok (.getfield 22, 3) := dk_180 0 22 (dk_at dksX3_keeps_0 13 rfl rfl)
theorem dX3_keeps_16 : decode cX3_keeps 16 = .ok (.iload_n 3, 1) := dk_29 (dk_at dksX3_keeps_0 16 rfl rfl)
theorem dX3_keeps_17 : decode cX3_keeps 17 = .ok (.iaload, 1) := dk_46 (dk_at dksX3_keeps_0 17 rfl rfl)
theorem dX3_keeps_18 : decode cX3_keeps 18 = .ok (.iastore, 1) := dk_79 (dk_at dksX3_keeps_0 18 rfl rfl)
theorem dX3_keeps_19 : decode cX3_keeps 19 = .ok (.iinc 3 1, 3) := dk_132 3 1 (dk_at dksX3_keeps_0 19 rfl rfl)
theorem dX3_keeps_22 : decode cX3_keeps 22 = .ok (.goto (-20), 3) := dk_167 255 236 (dk_at dksX3_keeps_1 0 rfl rfl)
theorem dX3_keeps_25 : decode cX3_keeps 25 = .ok (.return_, 1) := dk_177 (dk_at dksX3_keeps_1 3 rfl rfl)
def dkwX3_goes_2 : List UInt8 := [42, 180, 0, 247, 79, 132, 1, 1, 167, 255, 204, 177]
abbrev dktX3_goes_2 : List UInt8 := dkwX3_goes_2 ++ []
def dkwX3_goes_1 : List UInt8 := [180, 0, 98, 27, 42, 180, 0, 238, 79, 42, 180, 0, 101, 27, 42, 180, 0, 244, 79, 42, 180, 0, 104, 27]
abbrev dktX3_goes_1 : List UInt8 := dkwX3_goes_1 ++ dktX3_goes_2
def dkwX3_goes_0 : List UInt8 := [3, 60, 27, 42, 180, 1, 1, 162, 0, 50, 42, 42, 180, 0, 95, 27, 46, 182, 1, 4, 87, 42]
abbrev dktX3_goes_0 : List UInt8 := dkwX3_goes_0 ++ dktX3_goes_1
theorem dksX3_goes_0 : cX3_goes.data.toList.drop 0 = dktX3_goes_0 := by decide +kernel
theorem dksX3_goes_1 : cX3_goes.data.toList.drop 22 = dktX3_goes_1 := dk_seg dksX3_goes_0 22 rfl rfl
theorem dksX3_goes_2 : cX3_goes.data.toList.drop 46 = dktX3_goes_2 := dk_seg dksX3_goes_1 24 rfl rfl
theorem dX3_goes_0 : decode cX3_goes 0 = .ok (.iconst 0, 1) := dk_3 (dk_at dksX3_goes_0 0 rfl rfl)
theorem dX3_goes_1 : decode cX3_goes 1 = .ok (.istore_n 1, 1) := dk_60 (dk_at dksX3_goes_0 1 rfl rfl)
theorem dX3_goes_2 : decode cX3_goes 2 = .ok (.iload_n 1, 1) := dk_27 (dk_at dksX3_goes_0 2 rfl rfl)
theorem dX3_goes_3 : decode cX3_goes 3 = .ok (.aload_n 0, 1) := dk_42 (dk_at dksX3_goes_0 3 rfl rfl)
theorem dX3_goes_4 : decode cX3_goes 4 = .ok (.getfield 257, 3) := dk_180 1 1 (dk_at dksX3_goes_0 4 rfl rfl)
theorem dX3_goes_7 : decode cX3_goes 7 = .ok (.if_icmp .ge 50, 3) := dk_162 0 50 (dk_at dksX3_goes_0 7 rfl rfl)
theorem dX3_goes_10 : decode cX3_goes 10 = .ok (.aload_n 0, 1) := dk_42 (dk_at dksX3_goes_0 10 rfl rfl)
theorem dX3_goes_11 : decode cX3_goes 11 = .ok (.aload_n 0, 1) := dk_42 (dk_at dksX3_goes_0 11 rfl rfl)
theorem dX3_goes_12 : decode cX3_goes 12 = .ok (.getfield 95, 3) := dk_180 0 95 (dk_at dksX3_goes_0 12 rfl rfl)
theorem dX3_goes_15 : decode cX3_goes 15 = .ok (.iload_n 1, 1) := dk_27 (dk_at dksX3_goes_0 15 rfl rfl)
theorem dX3_goes_16 : decode cX3_goes 16 = .ok (.iaload, 1) := dk_46 (dk_at dksX3_goes_0 16 rfl rfl)
theorem dX3_goes_17 : decode cX3_goes 17 = .ok (.invokevirtual 260, 3) := dk_182 1 4 (dk_at dksX3_goes_0 17 rfl rfl)
theorem dX3_goes_20 : decode cX3_goes 20 = .ok (.pop, 1) := dk_87 (dk_at dksX3_goes_0 20 rfl rfl)
theorem dX3_goes_21 : decode cX3_goes 21 = .ok (.aload_n 0, 1) := dk_42 (dk_at dksX3_goes_0 21 rfl rfl)
theorem dX3_goes_22 : decode cX3_goes 22 = .ok (.getfield 98, 3) := dk_180 0 98 (dk_at dksX3_goes_1 0 rfl rfl)
theorem dX3_goes_25 : decode cX3_goes 25 = .ok (.iload_n 1, 1) := dk_27 (dk_at dksX3_goes_1 3 rfl rfl)
theorem dX3_goes_26 : decode cX3_goes 26 = .ok (.aload_n 0, 1) := dk_42 (dk_at dksX3_goes_1 4 rfl rfl)
theorem dX3_goes_27 : decode cX3_goes 27 = .ok (.getfield 238, 3) := dk_180 0 238 (dk_at dksX3_goes_1 5 rfl rfl)
theorem dX3_goes_30 : decode cX3_goes 30 = .ok (.iastore, 1) := dk_79 (dk_at dksX3_goes_1 8 rfl rfl)
theorem dX3_goes_31 : decode cX3_goes 31 = .ok (.aload_n 0, 1) := dk_42 (dk_at dksX3_goes_1 9 rfl rfl)
theorem dX3_goes_32 : decode cX3_goes 32 = .ok (.getfield 101, 3) := dk_180 0 101 (dk_at dksX3_goes_1 10 rfl rfl)
theorem dX3_goes_35 : decode cX3_goes 35 = .ok (.iload_n 1, 1) := dk_27 (dk_at dksX3_goes_1 13 rfl rfl)
theorem dX3_goes_36 : decode cX3_goes 36 = .ok (.aload_n 0, 1) := dk_42 (dk_at dksX3_goes_1 14 rfl rfl)
theorem dX3_goes_37 : decode cX3_goes 37 = .ok (.getfield 244, 3) := dk_180 0 244 (dk_at dksX3_goes_1 15 rfl rfl)
theorem dX3_goes_40 : decode cX3_goes 40 = .ok (.iastore, 1) := dk_79 (dk_at dksX3_goes_1 18 rfl rfl)
theorem dX3_goes_41 : decode cX3_goes 41 = .ok (.aload_n 0, 1) := dk_42 (dk_at dksX3_goes_1 19 rfl rfl)
theorem dX3_goes_42 : decode cX3_goes 42 = .ok (.getfield 104, 3) := dk_180 0 104 (dk_at dksX3_goes_1 20 rfl rfl)
theorem dX3_goes_45 : decode cX3_goes 45 = .ok (.iload_n 1, 1) := dk_27 (dk_at dksX3_goes_1 23 rfl rfl)
theorem dX3_goes_46 : decode cX3_goes 46 = .ok (.aload_n 0, 1) := dk_42 (dk_at dksX3_goes_2 0 rfl rfl)
theorem dX3_goes_47 : decode cX3_goes 47 = .ok (.getfield 247, 3) := dk_180 0 247 (dk_at dksX3_goes_2 1 rfl rfl)
theorem dX3_goes_50 : decode cX3_goes 50 = .ok (.iastore, 1) := dk_79 (dk_at dksX3_goes_2 4 rfl rfl)
theorem dX3_goes_51 : decode cX3_goes 51 = .ok (.iinc 1 1, 3) := dk_132 1 1 (dk_at dksX3_goes_2 5 rfl rfl)
theorem dX3_goes_54 : decode cX3_goes 54 = .ok (.goto (-52), 3) := dk_167 255 204 (dk_at dksX3_goes_2 8 rfl rfl)
theorem dX3_goes_57 : decode cX3_goes 57 = .ok (.return_, 1) := dk_177 (dk_at dksX3_goes_2 11 rfl rfl)
def dkwX3_goesIn_6 : List UInt8 := [92, 46, 4, 96, 79, 4, 172]
abbrev dktX3_goesIn_6 : List UInt8 := dkwX3_goesIn_6 ++ []
def dkwX3_goesIn_5 : List UInt8 := [92, 46, 4, 96, 79, 42, 180, 0, 22, 16, 9, 92, 46, 4, 96, 79, 42, 180, 0, 22, 16, 10, 27, 96]
abbrev dktX3_goesIn_5 : List UInt8 := dkwX3_goesIn_5 ++ dktX3_goesIn_6
def dkwX3_goesIn_4 : List UInt8 := [180, 0, 22, 16, 25, 42, 180, 0, 22, 16, 18, 46, 96, 42, 180, 0, 247, 79, 42, 180, 0, 22, 16, 18]
abbrev dktX3_goesIn_4 : List UInt8 := dkwX3_goesIn_4 ++ dktX3_goesIn_5
def dkwX3_goesIn_3 : List UInt8 := [28, 182, 0, 254, 181, 0, 247, 42, 180, 0, 22, 16, 19, 42, 180, 0, 22, 16, 18, 46, 96, 27, 79, 42]
abbrev dktX3_goesIn_3 : List UInt8 := dkwX3_goesIn_3 ++ dktX3_goesIn_4
def dkwX3_goesIn_2 : List UInt8 := [180, 0, 22, 16, 18, 46, 42, 180, 0, 15, 161, 0, 11, 42, 27, 182, 0, 250, 167, 255, 237, 42, 42, 27]
abbrev dktX3_goesIn_2 : List UInt8 := dkwX3_goesIn_2 ++ dktX3_goesIn_3
def dkwX3_goesIn_1 : List UInt8 := [46, 4, 160, 0, 12, 42, 180, 0, 19, 154, 0, 5, 3, 172, 42, 180, 0, 22, 27, 46, 61, 42]
abbrev dktX3_goesIn_1 : List UInt8 := dkwX3_goesIn_1 ++ dktX3_goesIn_2
def dkwX3_goesIn_0 : List UInt8 := [42, 16, 8, 181, 0, 238, 42, 3, 181, 0, 244, 42, 3, 181, 0, 247, 42, 180, 0, 9, 16, 16, 27, 96]
abbrev dktX3_goesIn_0 : List UInt8 := dkwX3_goesIn_0 ++ dktX3_goesIn_1
theorem dksX3_goesIn_0 : cX3_goesIn.data.toList.drop 0 = dktX3_goesIn_0 := by decide +kernel
theorem dksX3_goesIn_1 : cX3_goesIn.data.toList.drop 24 = dktX3_goesIn_1 := dk_seg dksX3_goesIn_0 24 rfl rfl
theorem dksX3_goesIn_2 : cX3_goesIn.data.toList.drop 46 = dktX3_goesIn_2 := dk_seg dksX3_goesIn_1 22 rfl rfl
theorem dksX3_goesIn_3 : cX3_goesIn.data.toList.drop 70 = dktX3_goesIn_3 := dk_seg dksX3_goesIn_2 24 rfl rfl
theorem dksX3_goesIn_4 : cX3_goesIn.data.toList.drop 94 = dktX3_goesIn_4 := dk_seg dksX3_goesIn_3 24 rfl rfl
theorem dksX3_goesIn_5 : cX3_goesIn.data.toList.drop 118 = dktX3_goesIn_5 := dk_seg dksX3_goesIn_4 24 rfl rfl
theorem dksX3_goesIn_6 : cX3_goesIn.data.toList.drop 142 = dktX3_goesIn_6 := dk_seg dksX3_goesIn_5 24 rfl rfl
theorem dX3_goesIn_0 : decode cX3_goesIn 0 = .ok (.aload_n 0, 1) := dk_42 (dk_at dksX3_goesIn_0 0 rfl rfl)
theorem dX3_goesIn_1 : decode cX3_goesIn 1 = .ok (.bipush 8, 2) := dk_16 8 (dk_at dksX3_goesIn_0 1 rfl rfl)
theorem dX3_goesIn_3 : decode cX3_goesIn 3 = .ok (.putfield 238, 3) := dk_181 0 238 (dk_at dksX3_goesIn_0 3 rfl rfl)
theorem dX3_goesIn_6 : decode cX3_goesIn 6 = .ok (.aload_n 0, 1) := dk_42 (dk_at dksX3_goesIn_0 6 rfl rfl)
theorem dX3_goesIn_7 : decode cX3_goesIn 7 = .ok (.iconst 0, 1) := dk_3 (dk_at dksX3_goesIn_0 7 rfl rfl)
theorem dX3_goesIn_8 : decode cX3_goesIn 8 = .ok (.putfield 244, 3) := dk_181 0 244 (dk_at dksX3_goesIn_0 8 rfl rfl)
theorem dX3_goesIn_11 : decode cX3_goesIn 11 = .ok (.aload_n 0, 1) := dk_42 (dk_at dksX3_goesIn_0 11 rfl rfl)
theorem dX3_goesIn_12 : decode cX3_goesIn 12 = .ok (.iconst 0, 1) := dk_3 (dk_at dksX3_goesIn_0 12 rfl rfl)
theorem dX3_goesIn_13 : decode cX3_goesIn 13 = .ok (.putfield 247, 3) := dk_181 0 247 (dk_at dksX3_goesIn_0 13 rfl rfl)
theorem dX3_goesIn_16 : decode cX3_goesIn 16 = .ok (.aload_n 0, 1) := dk_42 (dk_at dksX3_goesIn_0 16 rfl rfl)
theorem dX3_goesIn_17 : decode cX3_goesIn 17 = .ok (.getfield 9, 3) := dk_180 0 9 (dk_at dksX3_goesIn_0 17 rfl rfl)
theorem dX3_goesIn_20 : decode cX3_goesIn 20 = .ok (.bipush 16, 2) := dk_16 16 (dk_at dksX3_goesIn_0 20 rfl rfl)
theorem dX3_goesIn_22 : decode cX3_goesIn 22 = .ok (.iload_n 1, 1) := dk_27 (dk_at dksX3_goesIn_0 22 rfl rfl)
theorem dX3_goesIn_23 : decode cX3_goesIn 23 = .ok (.iadd, 1) := dk_96 (dk_at dksX3_goesIn_0 23 rfl rfl)
theorem dX3_goesIn_24 : decode cX3_goesIn 24 = .ok (.iaload, 1) := dk_46 (dk_at dksX3_goesIn_1 0 rfl rfl)
theorem dX3_goesIn_25 : decode cX3_goesIn 25 = .ok (.iconst 1, 1) := dk_4 (dk_at dksX3_goesIn_1 1 rfl rfl)
theorem dX3_goesIn_26 : decode cX3_goesIn 26 = .ok (.if_icmp .ne 12, 3) := dk_160 0 12 (dk_at dksX3_goesIn_1 2 rfl rfl)
theorem dX3_goesIn_29 : decode cX3_goesIn 29 = .ok (.aload_n 0, 1) := dk_42 (dk_at dksX3_goesIn_1 5 rfl rfl)
theorem dX3_goesIn_30 : decode cX3_goesIn 30 = .ok (.getfield 19, 3) := dk_180 0 19 (dk_at dksX3_goesIn_1 6 rfl rfl)
theorem dX3_goesIn_33 : decode cX3_goesIn 33 = .ok (.ifCond .ne 5, 3) := dk_154 0 5 (dk_at dksX3_goesIn_1 9 rfl rfl)
theorem dX3_goesIn_36 : decode cX3_goesIn 36 = .ok (.iconst 0, 1) := dk_3 (dk_at dksX3_goesIn_1 12 rfl rfl)
theorem dX3_goesIn_37 : decode cX3_goesIn 37 = .ok (.ireturn, 1) := dk_172 (dk_at dksX3_goesIn_1 13 rfl rfl)
theorem dX3_goesIn_38 : decode cX3_goesIn 38 = .ok (.aload_n 0, 1) := dk_42 (dk_at dksX3_goesIn_1 14 rfl rfl)
theorem dX3_goesIn_39 : decode cX3_goesIn 39 = .ok (.getfield 22, 3) := dk_180 0 22 (dk_at dksX3_goesIn_1 15 rfl rfl)
theorem dX3_goesIn_42 : decode cX3_goesIn 42 = .ok (.iload_n 1, 1) := dk_27 (dk_at dksX3_goesIn_1 18 rfl rfl)
theorem dX3_goesIn_43 : decode cX3_goesIn 43 = .ok (.iaload, 1) := dk_46 (dk_at dksX3_goesIn_1 19 rfl rfl)
theorem dX3_goesIn_44 : decode cX3_goesIn 44 = .ok (.istore_n 2, 1) := dk_61 (dk_at dksX3_goesIn_1 20 rfl rfl)
theorem dX3_goesIn_45 : decode cX3_goesIn 45 = .ok (.aload_n 0, 1) := dk_42 (dk_at dksX3_goesIn_1 21 rfl rfl)
theorem dX3_goesIn_46 : decode cX3_goesIn 46 = .ok (.getfield 22, 3) := dk_180 0 22 (dk_at dksX3_goesIn_2 0 rfl rfl)
theorem dX3_goesIn_49 : decode cX3_goesIn 49 = .ok (.bipush 18, 2) := dk_16 18 (dk_at dksX3_goesIn_2 3 rfl rfl)
theorem dX3_goesIn_51 : decode cX3_goesIn 51 = .ok (.iaload, 1) := dk_46 (dk_at dksX3_goesIn_2 5 rfl rfl)
theorem dX3_goesIn_52 : decode cX3_goesIn 52 = .ok (.aload_n 0, 1) := dk_42 (dk_at dksX3_goesIn_2 6 rfl rfl)
theorem dX3_goesIn_53 : decode cX3_goesIn 53 = .ok (.getfield 15, 3) := dk_180 0 15 (dk_at dksX3_goesIn_2 7 rfl rfl)
theorem dX3_goesIn_56 : decode cX3_goesIn 56 = .ok (.if_icmp .lt 11, 3) := dk_161 0 11 (dk_at dksX3_goesIn_2 10 rfl rfl)
theorem dX3_goesIn_59 : decode cX3_goesIn 59 = .ok (.aload_n 0, 1) := dk_42 (dk_at dksX3_goesIn_2 13 rfl rfl)
theorem dX3_goesIn_60 : decode cX3_goesIn 60 = .ok (.iload_n 1, 1) := dk_27 (dk_at dksX3_goesIn_2 14 rfl rfl)
theorem dX3_goesIn_61 : decode cX3_goesIn 61 = .ok (.invokevirtual 250, 3) := dk_182 0 250 (dk_at dksX3_goesIn_2 15 rfl rfl)
theorem dX3_goesIn_64 : decode cX3_goesIn 64 = .ok (.goto (-19), 3) := dk_167 255 237 (dk_at dksX3_goesIn_2 18 rfl rfl)
theorem dX3_goesIn_67 : decode cX3_goesIn 67 = .ok (.aload_n 0, 1) := dk_42 (dk_at dksX3_goesIn_2 21 rfl rfl)
theorem dX3_goesIn_68 : decode cX3_goesIn 68 = .ok (.aload_n 0, 1) := dk_42 (dk_at dksX3_goesIn_2 22 rfl rfl)
theorem dX3_goesIn_69 : decode cX3_goesIn 69 = .ok (.iload_n 1, 1) := dk_27 (dk_at dksX3_goesIn_2 23 rfl rfl)
theorem dX3_goesIn_70 : decode cX3_goesIn 70 = .ok (.iload_n 2, 1) := dk_28 (dk_at dksX3_goesIn_3 0 rfl rfl)
theorem dX3_goesIn_71 : decode cX3_goesIn 71 = .ok (.invokevirtual 254, 3) := dk_182 0 254 (dk_at dksX3_goesIn_3 1 rfl rfl)
theorem dX3_goesIn_74 : decode cX3_goesIn 74 = .ok (.putfield 247, 3) := dk_181 0 247 (dk_at dksX3_goesIn_3 4 rfl rfl)
theorem dX3_goesIn_77 : decode cX3_goesIn 77 = .ok (.aload_n 0, 1) := dk_42 (dk_at dksX3_goesIn_3 7 rfl rfl)
theorem dX3_goesIn_78 : decode cX3_goesIn 78 = .ok (.getfield 22, 3) := dk_180 0 22 (dk_at dksX3_goesIn_3 8 rfl rfl)
theorem dX3_goesIn_81 : decode cX3_goesIn 81 = .ok (.bipush 19, 2) := dk_16 19 (dk_at dksX3_goesIn_3 11 rfl rfl)
theorem dX3_goesIn_83 : decode cX3_goesIn 83 = .ok (.aload_n 0, 1) := dk_42 (dk_at dksX3_goesIn_3 13 rfl rfl)
theorem dX3_goesIn_84 : decode cX3_goesIn 84 = .ok (.getfield 22, 3) := dk_180 0 22 (dk_at dksX3_goesIn_3 14 rfl rfl)
theorem dX3_goesIn_87 : decode cX3_goesIn 87 = .ok (.bipush 18, 2) := dk_16 18 (dk_at dksX3_goesIn_3 17 rfl rfl)
theorem dX3_goesIn_89 : decode cX3_goesIn 89 = .ok (.iaload, 1) := dk_46 (dk_at dksX3_goesIn_3 19 rfl rfl)
theorem dX3_goesIn_90 : decode cX3_goesIn 90 = .ok (.iadd, 1) := dk_96 (dk_at dksX3_goesIn_3 20 rfl rfl)
theorem dX3_goesIn_91 : decode cX3_goesIn 91 = .ok (.iload_n 1, 1) := dk_27 (dk_at dksX3_goesIn_3 21 rfl rfl)
theorem dX3_goesIn_92 : decode cX3_goesIn 92 = .ok (.iastore, 1) := dk_79 (dk_at dksX3_goesIn_3 22 rfl rfl)
theorem dX3_goesIn_93 : decode cX3_goesIn 93 = .ok (.aload_n 0, 1) := dk_42 (dk_at dksX3_goesIn_3 23 rfl rfl)
theorem dX3_goesIn_94 : decode cX3_goesIn 94 = .ok (.getfield 22, 3) := dk_180 0 22 (dk_at dksX3_goesIn_4 0 rfl rfl)
theorem dX3_goesIn_97 : decode cX3_goesIn 97 = .ok (.bipush 25, 2) := dk_16 25 (dk_at dksX3_goesIn_4 3 rfl rfl)
theorem dX3_goesIn_99 : decode cX3_goesIn 99 = .ok (.aload_n 0, 1) := dk_42 (dk_at dksX3_goesIn_4 5 rfl rfl)
theorem dX3_goesIn_100 : decode cX3_goesIn 100 = .ok (.getfield 22, 3) := dk_180 0 22 (dk_at dksX3_goesIn_4 6 rfl rfl)
theorem dX3_goesIn_103 : decode cX3_goesIn 103 = .ok (.bipush 18, 2) := dk_16 18 (dk_at dksX3_goesIn_4 9 rfl rfl)
theorem dX3_goesIn_105 : decode cX3_goesIn 105 = .ok (.iaload, 1) := dk_46 (dk_at dksX3_goesIn_4 11 rfl rfl)
theorem dX3_goesIn_106 : decode cX3_goesIn 106 = .ok (.iadd, 1) := dk_96 (dk_at dksX3_goesIn_4 12 rfl rfl)
theorem dX3_goesIn_107 : decode cX3_goesIn 107 = .ok (.aload_n 0, 1) := dk_42 (dk_at dksX3_goesIn_4 13 rfl rfl)
theorem dX3_goesIn_108 : decode cX3_goesIn 108 = .ok (.getfield 247, 3) := dk_180 0 247 (dk_at dksX3_goesIn_4 14 rfl rfl)
theorem dX3_goesIn_111 : decode cX3_goesIn 111 = .ok (.iastore, 1) := dk_79 (dk_at dksX3_goesIn_4 17 rfl rfl)
theorem dX3_goesIn_112 : decode cX3_goesIn 112 = .ok (.aload_n 0, 1) := dk_42 (dk_at dksX3_goesIn_4 18 rfl rfl)
theorem dX3_goesIn_113 : decode cX3_goesIn 113 = .ok (.getfield 22, 3) := dk_180 0 22 (dk_at dksX3_goesIn_4 19 rfl rfl)
theorem dX3_goesIn_116 : decode cX3_goesIn 116 = .ok (.bipush 18, 2) := dk_16 18 (dk_at dksX3_goesIn_4 22 rfl rfl)
theorem dX3_goesIn_118 : decode cX3_goesIn 118 = .ok (.dup2, 1) := dk_92 (dk_at dksX3_goesIn_5 0 rfl rfl)
theorem dX3_goesIn_119 : decode cX3_goesIn 119 = .ok (.iaload, 1) := dk_46 (dk_at dksX3_goesIn_5 1 rfl rfl)
theorem dX3_goesIn_120 : decode cX3_goesIn 120 = .ok (.iconst 1, 1) := dk_4 (dk_at dksX3_goesIn_5 2 rfl rfl)
theorem dX3_goesIn_121 : decode cX3_goesIn 121 = .ok (.iadd, 1) := dk_96 (dk_at dksX3_goesIn_5 3 rfl rfl)
theorem dX3_goesIn_122 : decode cX3_goesIn 122 = .ok (.iastore, 1) := dk_79 (dk_at dksX3_goesIn_5 4 rfl rfl)
theorem dX3_goesIn_123 : decode cX3_goesIn 123 = .ok (.aload_n 0, 1) := dk_42 (dk_at dksX3_goesIn_5 5 rfl rfl)
theorem dX3_goesIn_124 : decode cX3_goesIn 124 = .ok (.getfield 22, 3) := dk_180 0 22 (dk_at dksX3_goesIn_5 6 rfl rfl)
theorem dX3_goesIn_127 : decode cX3_goesIn 127 = .ok (.bipush 9, 2) := dk_16 9 (dk_at dksX3_goesIn_5 9 rfl rfl)
theorem dX3_goesIn_129 : decode cX3_goesIn 129 = .ok (.dup2, 1) := dk_92 (dk_at dksX3_goesIn_5 11 rfl rfl)
theorem dX3_goesIn_130 : decode cX3_goesIn 130 = .ok (.iaload, 1) := dk_46 (dk_at dksX3_goesIn_5 12 rfl rfl)
theorem dX3_goesIn_131 : decode cX3_goesIn 131 = .ok (.iconst 1, 1) := dk_4 (dk_at dksX3_goesIn_5 13 rfl rfl)
theorem dX3_goesIn_132 : decode cX3_goesIn 132 = .ok (.iadd, 1) := dk_96 (dk_at dksX3_goesIn_5 14 rfl rfl)
theorem dX3_goesIn_133 : decode cX3_goesIn 133 = .ok (.iastore, 1) := dk_79 (dk_at dksX3_goesIn_5 15 rfl rfl)
theorem dX3_goesIn_134 : decode cX3_goesIn 134 = .ok (.aload_n 0, 1) := dk_42 (dk_at dksX3_goesIn_5 16 rfl rfl)
theorem dX3_goesIn_135 : decode cX3_goesIn 135 = .ok (.getfield 22, 3) := dk_180 0 22 (dk_at dksX3_goesIn_5 17 rfl rfl)
theorem dX3_goesIn_138 : decode cX3_goesIn 138 = .ok (.bipush 10, 2) := dk_16 10 (dk_at dksX3_goesIn_5 20 rfl rfl)
theorem dX3_goesIn_140 : decode cX3_goesIn 140 = .ok (.iload_n 1, 1) := dk_27 (dk_at dksX3_goesIn_5 22 rfl rfl)
theorem dX3_goesIn_141 : decode cX3_goesIn 141 = .ok (.iadd, 1) := dk_96 (dk_at dksX3_goesIn_5 23 rfl rfl)
theorem dX3_goesIn_142 : decode cX3_goesIn 142 = .ok (.dup2, 1) := dk_92 (dk_at dksX3_goesIn_6 0 rfl rfl)
theorem dX3_goesIn_143 : decode cX3_goesIn 143 = .ok (.iaload, 1) := dk_46 (dk_at dksX3_goesIn_6 1 rfl rfl)
theorem dX3_goesIn_144 : decode cX3_goesIn 144 = .ok (.iconst 1, 1) := dk_4 (dk_at dksX3_goesIn_6 2 rfl rfl)
theorem dX3_goesIn_145 : decode cX3_goesIn 145 = .ok (.iadd, 1) := dk_96 (dk_at dksX3_goesIn_6 3 rfl rfl)
theorem dX3_goesIn_146 : decode cX3_goesIn 146 = .ok (.iastore, 1) := dk_79 (dk_at dksX3_goesIn_6 4 rfl rfl)
theorem dX3_goesIn_147 : decode cX3_goesIn 147 = .ok (.iconst 1, 1) := dk_4 (dk_at dksX3_goesIn_6 5 rfl rfl)
theorem dX3_goesIn_148 : decode cX3_goesIn 148 = .ok (.ireturn, 1) := dk_172 (dk_at dksX3_goesIn_6 6 rfl rfl)
def dkwX3_pays_8 : List UInt8 := [184, 0, 230, 79, 177]
abbrev dktX3_pays_8 : List UInt8 := dkwX3_pays_8 ++ []
def dkwX3_pays_7 : List UInt8 := [92, 46, 21, 4, 100, 79, 42, 180, 0, 22, 27, 17, 3, 231, 42, 180, 0, 22, 27, 46, 21, 4, 96]
abbrev dktX3_pays_7 : List UInt8 := dkwX3_pays_7 ++ dktX3_pays_8
def dkwX3_pays_6 : List UInt8 := [181, 0, 244, 42, 180, 0, 92, 16, 8, 28, 104, 27, 96, 92, 46, 21, 4, 96, 79, 42, 180, 0, 22, 28]
abbrev dktX3_pays_6 : List UInt8 := dkwX3_pays_6 ++ dktX3_pays_7
def dkwX3_pays_5 : List UInt8 := [54, 4, 42, 89, 180, 0, 241, 29, 21, 4, 100, 96, 181, 0, 241, 42, 89, 180, 0, 244, 21, 4, 96]
abbrev dktX3_pays_5 : List UInt8 := dkwX3_pays_5 ++ dktX3_pays_6
def dkwX3_pays_4 : List UInt8 := [160, 0, 8, 42, 28, 181, 0, 238, 28, 27, 160, 0, 4, 177, 29, 42, 180, 0, 22, 28, 46, 184, 0, 230]
abbrev dktX3_pays_4 : List UInt8 := dkwX3_pays_4 ++ dktX3_pays_5
def dkwX3_pays_3 : List UInt8 := [180, 0, 22, 16, 26, 21, 4, 96, 46, 79, 132, 4, 1, 167, 255, 201, 42, 180, 0, 238, 16, 8]
abbrev dktX3_pays_3 : List UInt8 := dkwX3_pays_3 ++ dktX3_pays_4
def dkwX3_pays_2 : List UInt8 := [21, 4, 96, 42, 180, 0, 22, 16, 20, 21, 4, 96, 46, 79, 42, 180, 0, 22, 16, 25, 21, 4, 96, 42]
abbrev dktX3_pays_2 : List UInt8 := dkwX3_pays_2 ++ dktX3_pays_3
def dkwX3_pays_1 : List UInt8 := [4, 100, 79, 3, 54, 4, 21, 4, 42, 180, 0, 22, 16, 18, 46, 162, 0, 49, 42, 180, 0, 22, 16, 19]
abbrev dktX3_pays_1 : List UInt8 := dkwX3_pays_1 ++ dktX3_pays_2
def dkwX3_pays_0 : List UInt8 := [42, 180, 0, 22, 16, 19, 46, 61, 42, 180, 0, 22, 16, 25, 46, 62, 42, 180, 0, 22, 16, 18, 92, 46]
abbrev dktX3_pays_0 : List UInt8 := dkwX3_pays_0 ++ dktX3_pays_1
theorem dksX3_pays_0 : cX3_pays.data.toList.drop 0 = dktX3_pays_0 := by decide +kernel
theorem dksX3_pays_1 : cX3_pays.data.toList.drop 24 = dktX3_pays_1 := dk_seg dksX3_pays_0 24 rfl rfl
theorem dksX3_pays_2 : cX3_pays.data.toList.drop 48 = dktX3_pays_2 := dk_seg dksX3_pays_1 24 rfl rfl
theorem dksX3_pays_3 : cX3_pays.data.toList.drop 72 = dktX3_pays_3 := dk_seg dksX3_pays_2 24 rfl rfl
theorem dksX3_pays_4 : cX3_pays.data.toList.drop 94 = dktX3_pays_4 := dk_seg dksX3_pays_3 22 rfl rfl
theorem dksX3_pays_5 : cX3_pays.data.toList.drop 118 = dktX3_pays_5 := dk_seg dksX3_pays_4 24 rfl rfl
theorem dksX3_pays_6 : cX3_pays.data.toList.drop 141 = dktX3_pays_6 := dk_seg dksX3_pays_5 23 rfl rfl
theorem dksX3_pays_7 : cX3_pays.data.toList.drop 165 = dktX3_pays_7 := dk_seg dksX3_pays_6 24 rfl rfl
theorem dksX3_pays_8 : cX3_pays.data.toList.drop 188 = dktX3_pays_8 := dk_seg dksX3_pays_7 23 rfl rfl
theorem dX3_pays_0 : decode cX3_pays 0 = .ok (.aload_n 0, 1) := dk_42 (dk_at dksX3_pays_0 0 rfl rfl)
theorem dX3_pays_1 : decode cX3_pays 1 = .ok (.getfield 22, 3) := dk_180 0 22 (dk_at dksX3_pays_0 1 rfl rfl)
theorem dX3_pays_4 : decode cX3_pays 4 = .ok (.bipush 19, 2) := dk_16 19 (dk_at dksX3_pays_0 4 rfl rfl)
theorem dX3_pays_6 : decode cX3_pays 6 = .ok (.iaload, 1) := dk_46 (dk_at dksX3_pays_0 6 rfl rfl)
theorem dX3_pays_7 : decode cX3_pays 7 = .ok (.istore_n 2, 1) := dk_61 (dk_at dksX3_pays_0 7 rfl rfl)
theorem dX3_pays_8 : decode cX3_pays 8 = .ok (.aload_n 0, 1) := dk_42 (dk_at dksX3_pays_0 8 rfl rfl)
theorem dX3_pays_9 : decode cX3_pays 9 = .ok (.getfield 22, 3) := dk_180 0 22 (dk_at dksX3_pays_0 9 rfl rfl)
theorem dX3_pays_12 : decode cX3_pays 12 = .ok (.bipush 25, 2) := dk_16 25 (dk_at dksX3_pays_0 12 rfl rfl)
theorem dX3_pays_14 : decode cX3_pays 14 = .ok (.iaload, 1) := dk_46 (dk_at dksX3_pays_0 14 rfl rfl)
theorem dX3_pays_15 : decode cX3_pays 15 = .ok (.istore_n 3, 1) := dk_62 (dk_at dksX3_pays_0 15 rfl rfl)
theorem dX3_pays_16 : decode cX3_pays 16 = .ok (.aload_n 0, 1) := dk_42 (dk_at dksX3_pays_0 16 rfl rfl)
theorem dX3_pays_17 : decode cX3_pays 17 = .ok (.getfield 22, 3) := dk_180 0 22 (dk_at dksX3_pays_0 17 rfl rfl)
theorem dX3_pays_20 : decode cX3_pays 20 = .ok (.bipush 18, 2) := dk_16 18 (dk_at dksX3_pays_0 20 rfl rfl)
theorem dX3_pays_22 : decode cX3_pays 22 = .ok (.dup2, 1) := dk_92 (dk_at dksX3_pays_0 22 rfl rfl)
theorem dX3_pays_23 : decode cX3_pays 23 = .ok (.iaload, 1) := dk_46 (dk_at dksX3_pays_0 23 rfl rfl)
theorem dX3_pays_24 : decode cX3_pays 24 = .ok (.iconst 1, 1) := dk_4 (dk_at dksX3_pays_1 0 rfl rfl)
theorem dX3_pays_25 : decode cX3_pays 25 = .ok (.isub, 1) := dk_100 (dk_at dksX3_pays_1 1 rfl rfl)
theorem dX3_pays_26 : decode cX3_pays 26 = .ok (.iastore, 1) := dk_79 (dk_at dksX3_pays_1 2 rfl rfl)
theorem dX3_pays_27 : decode cX3_pays 27 = .ok (.iconst 0, 1) := dk_3 (dk_at dksX3_pays_1 3 rfl rfl)
theorem dX3_pays_28 : decode cX3_pays 28 = .ok (.istore 4, 2) := dk_54 4 (dk_at dksX3_pays_1 4 rfl rfl)
theorem dX3_pays_30 : decode cX3_pays 30 = .ok (.iload 4, 2) := dk_21 4 (dk_at dksX3_pays_1 6 rfl rfl)
theorem dX3_pays_32 : decode cX3_pays 32 = .ok (.aload_n 0, 1) := dk_42 (dk_at dksX3_pays_1 8 rfl rfl)
theorem dX3_pays_33 : decode cX3_pays 33 = .ok (.getfield 22, 3) := dk_180 0 22 (dk_at dksX3_pays_1 9 rfl rfl)
theorem dX3_pays_36 : decode cX3_pays 36 = .ok (.bipush 18, 2) := dk_16 18 (dk_at dksX3_pays_1 12 rfl rfl)
theorem dX3_pays_38 : decode cX3_pays 38 = .ok (.iaload, 1) := dk_46 (dk_at dksX3_pays_1 14 rfl rfl)
theorem dX3_pays_39 : decode cX3_pays 39 = .ok (.if_icmp .ge 49, 3) := dk_162 0 49 (dk_at dksX3_pays_1 15 rfl rfl)
theorem dX3_pays_42 : decode cX3_pays 42 = .ok (.aload_n 0, 1) := dk_42 (dk_at dksX3_pays_1 18 rfl rfl)
theorem dX3_pays_43 : decode cX3_pays 43 = .ok (.getfield 22, 3) := dk_180 0 22 (dk_at dksX3_pays_1 19 rfl rfl)
theorem dX3_pays_46 : decode cX3_pays 46 = .ok (.bipush 19, 2) := dk_16 19 (dk_at dksX3_pays_1 22 rfl rfl)
theorem dX3_pays_48 : decode cX3_pays 48 = .ok (.iload 4, 2) := dk_21 4 (dk_at dksX3_pays_2 0 rfl rfl)
theorem dX3_pays_50 : decode cX3_pays 50 = .ok (.iadd, 1) := dk_96 (dk_at dksX3_pays_2 2 rfl rfl)
theorem dX3_pays_51 : decode cX3_pays 51 = .ok (.aload_n 0, 1) := dk_42 (dk_at dksX3_pays_2 3 rfl rfl)
theorem dX3_pays_52 : decode cX3_pays 52 = .ok (.getfield 22, 3) := dk_180 0 22 (dk_at dksX3_pays_2 4 rfl rfl)
theorem dX3_pays_55 : decode cX3_pays 55 = .ok (.bipush 20, 2) := dk_16 20 (dk_at dksX3_pays_2 7 rfl rfl)
theorem dX3_pays_57 : decode cX3_pays 57 = .ok (.iload 4, 2) := dk_21 4 (dk_at dksX3_pays_2 9 rfl rfl)
theorem dX3_pays_59 : decode cX3_pays 59 = .ok (.iadd, 1) := dk_96 (dk_at dksX3_pays_2 11 rfl rfl)
theorem dX3_pays_60 : decode cX3_pays 60 = .ok (.iaload, 1) := dk_46 (dk_at dksX3_pays_2 12 rfl rfl)
theorem dX3_pays_61 : decode cX3_pays 61 = .ok (.iastore, 1) := dk_79 (dk_at dksX3_pays_2 13 rfl rfl)
theorem dX3_pays_62 : decode cX3_pays 62 = .ok (.aload_n 0, 1) := dk_42 (dk_at dksX3_pays_2 14 rfl rfl)
theorem dX3_pays_63 : decode cX3_pays 63 = .ok (.getfield 22, 3) := dk_180 0 22 (dk_at dksX3_pays_2 15 rfl rfl)
theorem dX3_pays_66 : decode cX3_pays 66 = .ok (.bipush 25, 2) := dk_16 25 (dk_at dksX3_pays_2 18 rfl rfl)
theorem dX3_pays_68 : decode cX3_pays 68 = .ok (.iload 4, 2) := dk_21 4 (dk_at dksX3_pays_2 20 rfl rfl)
theorem dX3_pays_70 : decode cX3_pays 70 = .ok (.iadd, 1) := dk_96 (dk_at dksX3_pays_2 22 rfl rfl)
theorem dX3_pays_71 : decode cX3_pays 71 = .ok (.aload_n 0, 1) := dk_42 (dk_at dksX3_pays_2 23 rfl rfl)
theorem dX3_pays_72 : decode cX3_pays 72 = .ok (.getfield 22, 3) := dk_180 0 22 (dk_at dksX3_pays_3 0 rfl rfl)
theorem dX3_pays_75 : decode cX3_pays 75 = .ok (.bipush 26, 2) := dk_16 26 (dk_at dksX3_pays_3 3 rfl rfl)
theorem dX3_pays_77 : decode cX3_pays 77 = .ok (.iload 4, 2) := dk_21 4 (dk_at dksX3_pays_3 5 rfl rfl)
theorem dX3_pays_79 : decode cX3_pays 79 = .ok (.iadd, 1) := dk_96 (dk_at dksX3_pays_3 7 rfl rfl)
theorem dX3_pays_80 : decode cX3_pays 80 = .ok (.iaload, 1) := dk_46 (dk_at dksX3_pays_3 8 rfl rfl)
theorem dX3_pays_81 : decode cX3_pays 81 = .ok (.iastore, 1) := dk_79 (dk_at dksX3_pays_3 9 rfl rfl)
theorem dX3_pays_82 : decode cX3_pays 82 = .ok (.iinc 4 1, 3) := dk_132 4 1 (dk_at dksX3_pays_3 10 rfl rfl)
theorem dX3_pays_85 : decode cX3_pays 85 = .ok (.goto (-55), 3) := dk_167 255 201 (dk_at dksX3_pays_3 13 rfl rfl)
theorem dX3_pays_88 : decode cX3_pays 88 = .ok (.aload_n 0, 1) := dk_42 (dk_at dksX3_pays_3 16 rfl rfl)
theorem dX3_pays_89 : decode cX3_pays 89 = .ok (.getfield 238, 3) := dk_180 0 238 (dk_at dksX3_pays_3 17 rfl rfl)
theorem dX3_pays_92 : decode cX3_pays 92 = .ok (.bipush 8, 2) := dk_16 8 (dk_at dksX3_pays_3 20 rfl rfl)
theorem dX3_pays_94 : decode cX3_pays 94 = .ok (.if_icmp .ne 8, 3) := dk_160 0 8 (dk_at dksX3_pays_4 0 rfl rfl)
theorem dX3_pays_97 : decode cX3_pays 97 = .ok (.aload_n 0, 1) := dk_42 (dk_at dksX3_pays_4 3 rfl rfl)
theorem dX3_pays_98 : decode cX3_pays 98 = .ok (.iload_n 2, 1) := dk_28 (dk_at dksX3_pays_4 4 rfl rfl)
theorem dX3_pays_99 : decode cX3_pays 99 = .ok (.putfield 238, 3) := dk_181 0 238 (dk_at dksX3_pays_4 5 rfl rfl)
theorem dX3_pays_102 : decode cX3_pays 102 = .ok (.iload_n 2, 1) := dk_28 (dk_at dksX3_pays_4 8 rfl rfl)
theorem dX3_pays_103 : decode cX3_pays 103 = .ok (.iload_n 1, 1) := dk_27 (dk_at dksX3_pays_4 9 rfl rfl)
theorem dX3_pays_104 : decode cX3_pays 104 = .ok (.if_icmp .ne 4, 3) := dk_160 0 4 (dk_at dksX3_pays_4 10 rfl rfl)
theorem dX3_pays_107 : decode cX3_pays 107 = .ok (.return_, 1) := dk_177 (dk_at dksX3_pays_4 13 rfl rfl)
theorem dX3_pays_108 : decode cX3_pays 108 = .ok (.iload_n 3, 1) := dk_29 (dk_at dksX3_pays_4 14 rfl rfl)
theorem dX3_pays_109 : decode cX3_pays 109 = .ok (.aload_n 0, 1) := dk_42 (dk_at dksX3_pays_4 15 rfl rfl)
theorem dX3_pays_110 : decode cX3_pays 110 = .ok (.getfield 22, 3) := dk_180 0 22 (dk_at dksX3_pays_4 16 rfl rfl)
theorem dX3_pays_113 : decode cX3_pays 113 = .ok (.iload_n 2, 1) := dk_28 (dk_at dksX3_pays_4 19 rfl rfl)
theorem dX3_pays_114 : decode cX3_pays 114 = .ok (.iaload, 1) := dk_46 (dk_at dksX3_pays_4 20 rfl rfl)
theorem dX3_pays_115 : decode cX3_pays 115 = .ok (.invokestatic 230, 3) := dk_184 0 230 (dk_at dksX3_pays_4 21 rfl rfl)
theorem dX3_pays_118 : decode cX3_pays 118 = .ok (.istore 4, 2) := dk_54 4 (dk_at dksX3_pays_5 0 rfl rfl)
theorem dX3_pays_120 : decode cX3_pays 120 = .ok (.aload_n 0, 1) := dk_42 (dk_at dksX3_pays_5 2 rfl rfl)
theorem dX3_pays_121 : decode cX3_pays 121 = .ok (.dup, 1) := dk_89 (dk_at dksX3_pays_5 3 rfl rfl)
theorem dX3_pays_122 : decode cX3_pays 122 = .ok (.getfield 241, 3) := dk_180 0 241 (dk_at dksX3_pays_5 4 rfl rfl)
theorem dX3_pays_125 : decode cX3_pays 125 = .ok (.iload_n 3, 1) := dk_29 (dk_at dksX3_pays_5 7 rfl rfl)
theorem dX3_pays_126 : decode cX3_pays 126 = .ok (.iload 4, 2) := dk_21 4 (dk_at dksX3_pays_5 8 rfl rfl)
theorem dX3_pays_128 : decode cX3_pays 128 = .ok (.isub, 1) := dk_100 (dk_at dksX3_pays_5 10 rfl rfl)
theorem dX3_pays_129 : decode cX3_pays 129 = .ok (.iadd, 1) := dk_96 (dk_at dksX3_pays_5 11 rfl rfl)
theorem dX3_pays_130 : decode cX3_pays 130 = .ok (.putfield 241, 3) := dk_181 0 241 (dk_at dksX3_pays_5 12 rfl rfl)
theorem dX3_pays_133 : decode cX3_pays 133 = .ok (.aload_n 0, 1) := dk_42 (dk_at dksX3_pays_5 15 rfl rfl)
theorem dX3_pays_134 : decode cX3_pays 134 = .ok (.dup, 1) := dk_89 (dk_at dksX3_pays_5 16 rfl rfl)
theorem dX3_pays_135 : decode cX3_pays 135 = .ok (.getfield 244, 3) := dk_180 0 244 (dk_at dksX3_pays_5 17 rfl rfl)
theorem dX3_pays_138 : decode cX3_pays 138 = .ok (.iload 4, 2) := dk_21 4 (dk_at dksX3_pays_5 20 rfl rfl)
theorem dX3_pays_140 : decode cX3_pays 140 = .ok (.iadd, 1) := dk_96 (dk_at dksX3_pays_5 22 rfl rfl)
theorem dX3_pays_141 : decode cX3_pays 141 = .ok (.putfield 244, 3) := dk_181 0 244 (dk_at dksX3_pays_6 0 rfl rfl)
theorem dX3_pays_144 : decode cX3_pays 144 = .ok (.aload_n 0, 1) := dk_42 (dk_at dksX3_pays_6 3 rfl rfl)
theorem dX3_pays_145 : decode cX3_pays 145 = .ok (.getfield 92, 3) := dk_180 0 92 (dk_at dksX3_pays_6 4 rfl rfl)
theorem dX3_pays_148 : decode cX3_pays 148 = .ok (.bipush 8, 2) := dk_16 8 (dk_at dksX3_pays_6 7 rfl rfl)
theorem dX3_pays_150 : decode cX3_pays 150 = .ok (.iload_n 2, 1) := dk_28 (dk_at dksX3_pays_6 9 rfl rfl)
theorem dX3_pays_151 : decode cX3_pays 151 = .ok (.imul, 1) := dk_104 (dk_at dksX3_pays_6 10 rfl rfl)
theorem dX3_pays_152 : decode cX3_pays 152 = .ok (.iload_n 1, 1) := dk_27 (dk_at dksX3_pays_6 11 rfl rfl)
theorem dX3_pays_153 : decode cX3_pays 153 = .ok (.iadd, 1) := dk_96 (dk_at dksX3_pays_6 12 rfl rfl)
theorem dX3_pays_154 : decode cX3_pays 154 = .ok (.dup2, 1) := dk_92 (dk_at dksX3_pays_6 13 rfl rfl)
theorem dX3_pays_155 : decode cX3_pays 155 = .ok (.iaload, 1) := dk_46 (dk_at dksX3_pays_6 14 rfl rfl)
theorem dX3_pays_156 : decode cX3_pays 156 = .ok (.iload 4, 2) := dk_21 4 (dk_at dksX3_pays_6 15 rfl rfl)
theorem dX3_pays_158 : decode cX3_pays 158 = .ok (.iadd, 1) := dk_96 (dk_at dksX3_pays_6 17 rfl rfl)
theorem dX3_pays_159 : decode cX3_pays 159 = .ok (.iastore, 1) := dk_79 (dk_at dksX3_pays_6 18 rfl rfl)
theorem dX3_pays_160 : decode cX3_pays 160 = .ok (.aload_n 0, 1) := dk_42 (dk_at dksX3_pays_6 19 rfl rfl)
theorem dX3_pays_161 : decode cX3_pays 161 = .ok (.getfield 22, 3) := dk_180 0 22 (dk_at dksX3_pays_6 20 rfl rfl)
theorem dX3_pays_164 : decode cX3_pays 164 = .ok (.iload_n 2, 1) := dk_28 (dk_at dksX3_pays_6 23 rfl rfl)
theorem dX3_pays_165 : decode cX3_pays 165 = .ok (.dup2, 1) := dk_92 (dk_at dksX3_pays_7 0 rfl rfl)
theorem dX3_pays_166 : decode cX3_pays 166 = .ok (.iaload, 1) := dk_46 (dk_at dksX3_pays_7 1 rfl rfl)
theorem dX3_pays_167 : decode cX3_pays 167 = .ok (.iload 4, 2) := dk_21 4 (dk_at dksX3_pays_7 2 rfl rfl)
theorem dX3_pays_169 : decode cX3_pays 169 = .ok (.isub, 1) := dk_100 (dk_at dksX3_pays_7 4 rfl rfl)
theorem dX3_pays_170 : decode cX3_pays 170 = .ok (.iastore, 1) := dk_79 (dk_at dksX3_pays_7 5 rfl rfl)
theorem dX3_pays_171 : decode cX3_pays 171 = .ok (.aload_n 0, 1) := dk_42 (dk_at dksX3_pays_7 6 rfl rfl)
theorem dX3_pays_172 : decode cX3_pays 172 = .ok (.getfield 22, 3) := dk_180 0 22 (dk_at dksX3_pays_7 7 rfl rfl)
theorem dX3_pays_175 : decode cX3_pays 175 = .ok (.iload_n 1, 1) := dk_27 (dk_at dksX3_pays_7 10 rfl rfl)
theorem dX3_pays_176 : decode cX3_pays 176 = .ok (.sipush 999, 3) := dk_17 3 231 (dk_at dksX3_pays_7 11 rfl rfl)
theorem dX3_pays_179 : decode cX3_pays 179 = .ok (.aload_n 0, 1) := dk_42 (dk_at dksX3_pays_7 14 rfl rfl)
theorem dX3_pays_180 : decode cX3_pays 180 = .ok (.getfield 22, 3) := dk_180 0 22 (dk_at dksX3_pays_7 15 rfl rfl)
theorem dX3_pays_183 : decode cX3_pays 183 = .ok (.iload_n 1, 1) := dk_27 (dk_at dksX3_pays_7 18 rfl rfl)
theorem dX3_pays_184 : decode cX3_pays 184 = .ok (.iaload, 1) := dk_46 (dk_at dksX3_pays_7 19 rfl rfl)
theorem dX3_pays_185 : decode cX3_pays 185 = .ok (.iload 4, 2) := dk_21 4 (dk_at dksX3_pays_7 20 rfl rfl)
theorem dX3_pays_187 : decode cX3_pays 187 = .ok (.iadd, 1) := dk_96 (dk_at dksX3_pays_7 22 rfl rfl)
theorem dX3_pays_188 : decode cX3_pays 188 = .ok (.invokestatic 230, 3) := dk_184 0 230 (dk_at dksX3_pays_8 0 rfl rfl)
theorem dX3_pays_191 : decode cX3_pays 191 = .ok (.iastore, 1) := dk_79 (dk_at dksX3_pays_8 3 rfl rfl)
theorem dX3_pays_192 : decode cX3_pays 192 = .ok (.return_, 1) := dk_177 (dk_at dksX3_pays_8 4 rfl rfl)
def dkwX3_buysFor_2 : List UInt8 := [96, 46, 104, 100, 62, 3, 16, 99, 29, 184, 0, 230, 184, 0, 235, 172]
abbrev dktX3_buysFor_2 : List UInt8 := dkwX3_buysFor_2 ++ []
def dkwX3_buysFor_1 : List UInt8 := [180, 0, 9, 27, 46, 104, 42, 180, 0, 9, 16, 8, 27, 96, 46, 96, 5, 42, 180, 0, 22, 16, 10, 27]
abbrev dktX3_buysFor_1 : List UInt8 := dkwX3_buysFor_1 ++ dktX3_buysFor_2
def dkwX3_buysFor_0 : List UInt8 := [42, 180, 0, 55, 4, 28, 79, 42, 180, 0, 214, 153, 0, 11, 42, 27, 182, 0, 227, 167, 0, 33, 8, 42]
abbrev dktX3_buysFor_0 : List UInt8 := dkwX3_buysFor_0 ++ dktX3_buysFor_1
theorem dksX3_buysFor_0 : cX3_buysFor.data.toList.drop 0 = dktX3_buysFor_0 := by decide +kernel
theorem dksX3_buysFor_1 : cX3_buysFor.data.toList.drop 24 = dktX3_buysFor_1 := dk_seg dksX3_buysFor_0 24 rfl rfl
theorem dksX3_buysFor_2 : cX3_buysFor.data.toList.drop 48 = dktX3_buysFor_2 := dk_seg dksX3_buysFor_1 24 rfl rfl
theorem dX3_buysFor_0 : decode cX3_buysFor 0 = .ok (.aload_n 0, 1) := dk_42 (dk_at dksX3_buysFor_0 0 rfl rfl)
theorem dX3_buysFor_1 : decode cX3_buysFor 1 = .ok (.getfield 55, 3) := dk_180 0 55 (dk_at dksX3_buysFor_0 1 rfl rfl)
theorem dX3_buysFor_4 : decode cX3_buysFor 4 = .ok (.iconst 1, 1) := dk_4 (dk_at dksX3_buysFor_0 4 rfl rfl)
theorem dX3_buysFor_5 : decode cX3_buysFor 5 = .ok (.iload_n 2, 1) := dk_28 (dk_at dksX3_buysFor_0 5 rfl rfl)
theorem dX3_buysFor_6 : decode cX3_buysFor 6 = .ok (.iastore, 1) := dk_79 (dk_at dksX3_buysFor_0 6 rfl rfl)
theorem dX3_buysFor_7 : decode cX3_buysFor 7 = .ok (.aload_n 0, 1) := dk_42 (dk_at dksX3_buysFor_0 7 rfl rfl)
theorem dX3_buysFor_8 : decode cX3_buysFor 8 = .ok (.getfield 214, 3) := dk_180 0 214 (dk_at dksX3_buysFor_0 8 rfl rfl)
theorem dX3_buysFor_11 : decode cX3_buysFor 11 = .ok (.ifCond .eq 11, 3) := dk_153 0 11 (dk_at dksX3_buysFor_0 11 rfl rfl)
theorem dX3_buysFor_14 : decode cX3_buysFor 14 = .ok (.aload_n 0, 1) := dk_42 (dk_at dksX3_buysFor_0 14 rfl rfl)
theorem dX3_buysFor_15 : decode cX3_buysFor 15 = .ok (.iload_n 1, 1) := dk_27 (dk_at dksX3_buysFor_0 15 rfl rfl)
theorem dX3_buysFor_16 : decode cX3_buysFor 16 = .ok (.invokevirtual 227, 3) := dk_182 0 227 (dk_at dksX3_buysFor_0 16 rfl rfl)
theorem dX3_buysFor_19 : decode cX3_buysFor 19 = .ok (.goto 33, 3) := dk_167 0 33 (dk_at dksX3_buysFor_0 19 rfl rfl)
theorem dX3_buysFor_22 : decode cX3_buysFor 22 = .ok (.iconst 5, 1) := dk_8 (dk_at dksX3_buysFor_0 22 rfl rfl)
theorem dX3_buysFor_23 : decode cX3_buysFor 23 = .ok (.aload_n 0, 1) := dk_42 (dk_at dksX3_buysFor_0 23 rfl rfl)
theorem dX3_buysFor_24 : decode cX3_buysFor 24 = .ok (.getfield 9, 3) := dk_180 0 9 (dk_at dksX3_buysFor_1 0 rfl rfl)
theorem dX3_buysFor_27 : decode cX3_buysFor 27 = .ok (.iload_n 1, 1) := dk_27 (dk_at dksX3_buysFor_1 3 rfl rfl)
theorem dX3_buysFor_28 : decode cX3_buysFor 28 = .ok (.iaload, 1) := dk_46 (dk_at dksX3_buysFor_1 4 rfl rfl)
theorem dX3_buysFor_29 : decode cX3_buysFor 29 = .ok (.imul, 1) := dk_104 (dk_at dksX3_buysFor_1 5 rfl rfl)
theorem dX3_buysFor_30 : decode cX3_buysFor 30 = .ok (.aload_n 0, 1) := dk_42 (dk_at dksX3_buysFor_1 6 rfl rfl)
theorem dX3_buysFor_31 : decode cX3_buysFor 31 = .ok (.getfield 9, 3) := dk_180 0 9 (dk_at dksX3_buysFor_1 7 rfl rfl)
theorem dX3_buysFor_34 : decode cX3_buysFor 34 = .ok (.bipush 8, 2) := dk_16 8 (dk_at dksX3_buysFor_1 10 rfl rfl)
theorem dX3_buysFor_36 : decode cX3_buysFor 36 = .ok (.iload_n 1, 1) := dk_27 (dk_at dksX3_buysFor_1 12 rfl rfl)
theorem dX3_buysFor_37 : decode cX3_buysFor 37 = .ok (.iadd, 1) := dk_96 (dk_at dksX3_buysFor_1 13 rfl rfl)
theorem dX3_buysFor_38 : decode cX3_buysFor 38 = .ok (.iaload, 1) := dk_46 (dk_at dksX3_buysFor_1 14 rfl rfl)
theorem dX3_buysFor_39 : decode cX3_buysFor 39 = .ok (.iadd, 1) := dk_96 (dk_at dksX3_buysFor_1 15 rfl rfl)
theorem dX3_buysFor_40 : decode cX3_buysFor 40 = .ok (.iconst 2, 1) := dk_5 (dk_at dksX3_buysFor_1 16 rfl rfl)
theorem dX3_buysFor_41 : decode cX3_buysFor 41 = .ok (.aload_n 0, 1) := dk_42 (dk_at dksX3_buysFor_1 17 rfl rfl)
theorem dX3_buysFor_42 : decode cX3_buysFor 42 = .ok (.getfield 22, 3) := dk_180 0 22 (dk_at dksX3_buysFor_1 18 rfl rfl)
theorem dX3_buysFor_45 : decode cX3_buysFor 45 = .ok (.bipush 10, 2) := dk_16 10 (dk_at dksX3_buysFor_1 21 rfl rfl)
theorem dX3_buysFor_47 : decode cX3_buysFor 47 = .ok (.iload_n 1, 1) := dk_27 (dk_at dksX3_buysFor_1 23 rfl rfl)
theorem dX3_buysFor_48 : decode cX3_buysFor 48 = .ok (.iadd, 1) := dk_96 (dk_at dksX3_buysFor_2 0 rfl rfl)
theorem dX3_buysFor_49 : decode cX3_buysFor 49 = .ok (.iaload, 1) := dk_46 (dk_at dksX3_buysFor_2 1 rfl rfl)
theorem dX3_buysFor_50 : decode cX3_buysFor 50 = .ok (.imul, 1) := dk_104 (dk_at dksX3_buysFor_2 2 rfl rfl)
theorem dX3_buysFor_51 : decode cX3_buysFor 51 = .ok (.isub, 1) := dk_100 (dk_at dksX3_buysFor_2 3 rfl rfl)
theorem dX3_buysFor_52 : decode cX3_buysFor 52 = .ok (.istore_n 3, 1) := dk_62 (dk_at dksX3_buysFor_2 4 rfl rfl)
theorem dX3_buysFor_53 : decode cX3_buysFor 53 = .ok (.iconst 0, 1) := dk_3 (dk_at dksX3_buysFor_2 5 rfl rfl)
theorem dX3_buysFor_54 : decode cX3_buysFor 54 = .ok (.bipush 99, 2) := dk_16 99 (dk_at dksX3_buysFor_2 6 rfl rfl)
theorem dX3_buysFor_56 : decode cX3_buysFor 56 = .ok (.iload_n 3, 1) := dk_29 (dk_at dksX3_buysFor_2 8 rfl rfl)
theorem dX3_buysFor_57 : decode cX3_buysFor 57 = .ok (.invokestatic 230, 3) := dk_184 0 230 (dk_at dksX3_buysFor_2 9 rfl rfl)
theorem dX3_buysFor_60 : decode cX3_buysFor 60 = .ok (.invokestatic 235, 3) := dk_184 0 235 (dk_at dksX3_buysFor_2 12 rfl rfl)
theorem dX3_buysFor_63 : decode cX3_buysFor 63 = .ok (.ireturn, 1) := dk_172 (dk_at dksX3_buysFor_2 15 rfl rfl)
def dkwX3_byLaw_5 : List UInt8 := [180, 0, 31, 28, 46, 42, 180, 0, 34, 28, 46, 182, 0, 224, 172, 132, 2, 1, 167, 255, 191, 3, 172]
abbrev dktX3_byLaw_5 : List UInt8 := dkwX3_byLaw_5 ++ []
def dkwX3_byLaw_4 : List UInt8 := [42, 180, 0, 28, 28, 46, 42, 180, 0, 31, 28, 46, 182, 0, 224, 154, 0, 6, 167, 0, 20, 42, 42]
abbrev dktX3_byLaw_4 : List UInt8 := dkwX3_byLaw_4 ++ dktX3_byLaw_5
def dkwX3_byLaw_3 : List UInt8 := [28, 42, 180, 0, 218, 162, 0, 63, 42, 180, 0, 31, 28, 46, 42, 180, 0, 28, 28, 46, 164, 0, 25, 42]
abbrev dktX3_byLaw_3 : List UInt8 := dkwX3_byLaw_3 ++ dktX3_byLaw_4
def dkwX3_byLaw_2 : List UInt8 := [180, 0, 22, 16, 10, 27, 96, 46, 79, 42, 180, 0, 55, 8, 42, 180, 0, 22, 16, 8, 46, 79, 3, 61]
abbrev dktX3_byLaw_2 : List UInt8 := dkwX3_byLaw_2 ++ dktX3_byLaw_3
def dkwX3_byLaw_1 : List UInt8 := [96, 46, 79, 42, 180, 0, 55, 6, 42, 180, 0, 22, 16, 9, 46, 79, 42, 180, 0, 55, 7, 42]
abbrev dktX3_byLaw_1 : List UInt8 := dkwX3_byLaw_1 ++ dktX3_byLaw_2
def dkwX3_byLaw_0 : List UInt8 := [42, 180, 0, 55, 3, 42, 180, 0, 9, 27, 46, 79, 42, 180, 0, 55, 5, 42, 180, 0, 9, 16, 8, 27]
abbrev dktX3_byLaw_0 : List UInt8 := dkwX3_byLaw_0 ++ dktX3_byLaw_1
theorem dksX3_byLaw_0 : cX3_byLaw.data.toList.drop 0 = dktX3_byLaw_0 := by decide +kernel
theorem dksX3_byLaw_1 : cX3_byLaw.data.toList.drop 24 = dktX3_byLaw_1 := dk_seg dksX3_byLaw_0 24 rfl rfl
theorem dksX3_byLaw_2 : cX3_byLaw.data.toList.drop 46 = dktX3_byLaw_2 := dk_seg dksX3_byLaw_1 22 rfl rfl
theorem dksX3_byLaw_3 : cX3_byLaw.data.toList.drop 70 = dktX3_byLaw_3 := dk_seg dksX3_byLaw_2 24 rfl rfl
theorem dksX3_byLaw_4 : cX3_byLaw.data.toList.drop 94 = dktX3_byLaw_4 := dk_seg dksX3_byLaw_3 24 rfl rfl
theorem dksX3_byLaw_5 : cX3_byLaw.data.toList.drop 117 = dktX3_byLaw_5 := dk_seg dksX3_byLaw_4 23 rfl rfl
theorem dX3_byLaw_0 : decode cX3_byLaw 0 = .ok (.aload_n 0, 1) := dk_42 (dk_at dksX3_byLaw_0 0 rfl rfl)
theorem dX3_byLaw_1 : decode cX3_byLaw 1 = .ok (.getfield 55, 3) := dk_180 0 55 (dk_at dksX3_byLaw_0 1 rfl rfl)
theorem dX3_byLaw_4 : decode cX3_byLaw 4 = .ok (.iconst 0, 1) := dk_3 (dk_at dksX3_byLaw_0 4 rfl rfl)
theorem dX3_byLaw_5 : decode cX3_byLaw 5 = .ok (.aload_n 0, 1) := dk_42 (dk_at dksX3_byLaw_0 5 rfl rfl)
theorem dX3_byLaw_6 : decode cX3_byLaw 6 = .ok (.getfield 9, 3) := dk_180 0 9 (dk_at dksX3_byLaw_0 6 rfl rfl)
theorem dX3_byLaw_9 : decode cX3_byLaw 9 = .ok (.iload_n 1, 1) := dk_27 (dk_at dksX3_byLaw_0 9 rfl rfl)
theorem dX3_byLaw_10 : decode cX3_byLaw 10 = .ok (.iaload, 1) := dk_46 (dk_at dksX3_byLaw_0 10 rfl rfl)
theorem dX3_byLaw_11 : decode cX3_byLaw 11 = .ok (.iastore, 1) := dk_79 (dk_at dksX3_byLaw_0 11 rfl rfl)
theorem dX3_byLaw_12 : decode cX3_byLaw 12 = .ok (.aload_n 0, 1) := dk_42 (dk_at dksX3_byLaw_0 12 rfl rfl)
theorem dX3_byLaw_13 : decode cX3_byLaw 13 = .ok (.getfield 55, 3) := dk_180 0 55 (dk_at dksX3_byLaw_0 13 rfl rfl)
theorem dX3_byLaw_16 : decode cX3_byLaw 16 = .ok (.iconst 2, 1) := dk_5 (dk_at dksX3_byLaw_0 16 rfl rfl)
theorem dX3_byLaw_17 : decode cX3_byLaw 17 = .ok (.aload_n 0, 1) := dk_42 (dk_at dksX3_byLaw_0 17 rfl rfl)
theorem dX3_byLaw_18 : decode cX3_byLaw 18 = .ok (.getfield 9, 3) := dk_180 0 9 (dk_at dksX3_byLaw_0 18 rfl rfl)
theorem dX3_byLaw_21 : decode cX3_byLaw 21 = .ok (.bipush 8, 2) := dk_16 8 (dk_at dksX3_byLaw_0 21 rfl rfl)
theorem dX3_byLaw_23 : decode cX3_byLaw 23 = .ok (.iload_n 1, 1) := dk_27 (dk_at dksX3_byLaw_0 23 rfl rfl)
theorem dX3_byLaw_24 : decode cX3_byLaw 24 = .ok (.iadd, 1) := dk_96 (dk_at dksX3_byLaw_1 0 rfl rfl)
theorem dX3_byLaw_25 : decode cX3_byLaw 25 = .ok (.iaload, 1) := dk_46 (dk_at dksX3_byLaw_1 1 rfl rfl)
theorem dX3_byLaw_26 : decode cX3_byLaw 26 = .ok (.iastore, 1) := dk_79 (dk_at dksX3_byLaw_1 2 rfl rfl)
theorem dX3_byLaw_27 : decode cX3_byLaw 27 = .ok (.aload_n 0, 1) := dk_42 (dk_at dksX3_byLaw_1 3 rfl rfl)
theorem dX3_byLaw_28 : decode cX3_byLaw 28 = .ok (.getfield 55, 3) := dk_180 0 55 (dk_at dksX3_byLaw_1 4 rfl rfl)
theorem dX3_byLaw_31 : decode cX3_byLaw 31 = .ok (.iconst 3, 1) := dk_6 (dk_at dksX3_byLaw_1 7 rfl rfl)
theorem dX3_byLaw_32 : decode cX3_byLaw 32 = .ok (.aload_n 0, 1) := dk_42 (dk_at dksX3_byLaw_1 8 rfl rfl)
theorem dX3_byLaw_33 : decode cX3_byLaw 33 = .ok (.getfield 22, 3) := dk_180 0 22 (dk_at dksX3_byLaw_1 9 rfl rfl)
theorem dX3_byLaw_36 : decode cX3_byLaw 36 = .ok (.bipush 9, 2) := dk_16 9 (dk_at dksX3_byLaw_1 12 rfl rfl)
theorem dX3_byLaw_38 : decode cX3_byLaw 38 = .ok (.iaload, 1) := dk_46 (dk_at dksX3_byLaw_1 14 rfl rfl)
theorem dX3_byLaw_39 : decode cX3_byLaw 39 = .ok (.iastore, 1) := dk_79 (dk_at dksX3_byLaw_1 15 rfl rfl)
theorem dX3_byLaw_40 : decode cX3_byLaw 40 = .ok (.aload_n 0, 1) := dk_42 (dk_at dksX3_byLaw_1 16 rfl rfl)
theorem dX3_byLaw_41 : decode cX3_byLaw 41 = .ok (.getfield 55, 3) := dk_180 0 55 (dk_at dksX3_byLaw_1 17 rfl rfl)
theorem dX3_byLaw_44 : decode cX3_byLaw 44 = .ok (.iconst 4, 1) := dk_7 (dk_at dksX3_byLaw_1 20 rfl rfl)
theorem dX3_byLaw_45 : decode cX3_byLaw 45 = .ok (.aload_n 0, 1) := dk_42 (dk_at dksX3_byLaw_1 21 rfl rfl)
theorem dX3_byLaw_46 : decode cX3_byLaw 46 = .ok (.getfield 22, 3) := dk_180 0 22 (dk_at dksX3_byLaw_2 0 rfl rfl)
theorem dX3_byLaw_49 : decode cX3_byLaw 49 = .ok (.bipush 10, 2) := dk_16 10 (dk_at dksX3_byLaw_2 3 rfl rfl)
theorem dX3_byLaw_51 : decode cX3_byLaw 51 = .ok (.iload_n 1, 1) := dk_27 (dk_at dksX3_byLaw_2 5 rfl rfl)
theorem dX3_byLaw_52 : decode cX3_byLaw 52 = .ok (.iadd, 1) := dk_96 (dk_at dksX3_byLaw_2 6 rfl rfl)
theorem dX3_byLaw_53 : decode cX3_byLaw 53 = .ok (.iaload, 1) := dk_46 (dk_at dksX3_byLaw_2 7 rfl rfl)
theorem dX3_byLaw_54 : decode cX3_byLaw 54 = .ok (.iastore, 1) := dk_79 (dk_at dksX3_byLaw_2 8 rfl rfl)
theorem dX3_byLaw_55 : decode cX3_byLaw 55 = .ok (.aload_n 0, 1) := dk_42 (dk_at dksX3_byLaw_2 9 rfl rfl)
theorem dX3_byLaw_56 : decode cX3_byLaw 56 = .ok (.getfield 55, 3) := dk_180 0 55 (dk_at dksX3_byLaw_2 10 rfl rfl)
theorem dX3_byLaw_59 : decode cX3_byLaw 59 = .ok (.iconst 5, 1) := dk_8 (dk_at dksX3_byLaw_2 13 rfl rfl)
theorem dX3_byLaw_60 : decode cX3_byLaw 60 = .ok (.aload_n 0, 1) := dk_42 (dk_at dksX3_byLaw_2 14 rfl rfl)
theorem dX3_byLaw_61 : decode cX3_byLaw 61 = .ok (.getfield 22, 3) := dk_180 0 22 (dk_at dksX3_byLaw_2 15 rfl rfl)
theorem dX3_byLaw_64 : decode cX3_byLaw 64 = .ok (.bipush 8, 2) := dk_16 8 (dk_at dksX3_byLaw_2 18 rfl rfl)
theorem dX3_byLaw_66 : decode cX3_byLaw 66 = .ok (.iaload, 1) := dk_46 (dk_at dksX3_byLaw_2 20 rfl rfl)
theorem dX3_byLaw_67 : decode cX3_byLaw 67 = .ok (.iastore, 1) := dk_79 (dk_at dksX3_byLaw_2 21 rfl rfl)
theorem dX3_byLaw_68 : decode cX3_byLaw 68 = .ok (.iconst 0, 1) := dk_3 (dk_at dksX3_byLaw_2 22 rfl rfl)
theorem dX3_byLaw_69 : decode cX3_byLaw 69 = .ok (.istore_n 2, 1) := dk_61 (dk_at dksX3_byLaw_2 23 rfl rfl)
theorem dX3_byLaw_70 : decode cX3_byLaw 70 = .ok (.iload_n 2, 1) := dk_28 (dk_at dksX3_byLaw_3 0 rfl rfl)
theorem dX3_byLaw_71 : decode cX3_byLaw 71 = .ok (.aload_n 0, 1) := dk_42 (dk_at dksX3_byLaw_3 1 rfl rfl)
theorem dX3_byLaw_72 : decode cX3_byLaw 72 = .ok (.getfield 218, 3) := dk_180 0 218 (dk_at dksX3_byLaw_3 2 rfl rfl)
theorem dX3_byLaw_75 : decode cX3_byLaw 75 = .ok (.if_icmp .ge 63, 3) := dk_162 0 63 (dk_at dksX3_byLaw_3 5 rfl rfl)
theorem dX3_byLaw_78 : decode cX3_byLaw 78 = .ok (.aload_n 0, 1) := dk_42 (dk_at dksX3_byLaw_3 8 rfl rfl)
theorem dX3_byLaw_79 : decode cX3_byLaw 79 = .ok (.getfield 31, 3) := dk_180 0 31 (dk_at dksX3_byLaw_3 9 rfl rfl)
theorem dX3_byLaw_82 : decode cX3_byLaw 82 = .ok (.iload_n 2, 1) := dk_28 (dk_at dksX3_byLaw_3 12 rfl rfl)
theorem dX3_byLaw_83 : decode cX3_byLaw 83 = .ok (.iaload, 1) := dk_46 (dk_at dksX3_byLaw_3 13 rfl rfl)
theorem dX3_byLaw_84 : decode cX3_byLaw 84 = .ok (.aload_n 0, 1) := dk_42 (dk_at dksX3_byLaw_3 14 rfl rfl)
theorem dX3_byLaw_85 : decode cX3_byLaw 85 = .ok (.getfield 28, 3) := dk_180 0 28 (dk_at dksX3_byLaw_3 15 rfl rfl)
theorem dX3_byLaw_88 : decode cX3_byLaw 88 = .ok (.iload_n 2, 1) := dk_28 (dk_at dksX3_byLaw_3 18 rfl rfl)
theorem dX3_byLaw_89 : decode cX3_byLaw 89 = .ok (.iaload, 1) := dk_46 (dk_at dksX3_byLaw_3 19 rfl rfl)
theorem dX3_byLaw_90 : decode cX3_byLaw 90 = .ok (.if_icmp .le 25, 3) := dk_164 0 25 (dk_at dksX3_byLaw_3 20 rfl rfl)
theorem dX3_byLaw_93 : decode cX3_byLaw 93 = .ok (.aload_n 0, 1) := dk_42 (dk_at dksX3_byLaw_3 23 rfl rfl)
theorem dX3_byLaw_94 : decode cX3_byLaw 94 = .ok (.aload_n 0, 1) := dk_42 (dk_at dksX3_byLaw_4 0 rfl rfl)
theorem dX3_byLaw_95 : decode cX3_byLaw 95 = .ok (.getfield 28, 3) := dk_180 0 28 (dk_at dksX3_byLaw_4 1 rfl rfl)
theorem dX3_byLaw_98 : decode cX3_byLaw 98 = .ok (.iload_n 2, 1) := dk_28 (dk_at dksX3_byLaw_4 4 rfl rfl)
theorem dX3_byLaw_99 : decode cX3_byLaw 99 = .ok (.iaload, 1) := dk_46 (dk_at dksX3_byLaw_4 5 rfl rfl)
theorem dX3_byLaw_100 : decode cX3_byLaw 100 = .ok (.aload_n 0, 1) := dk_42 (dk_at dksX3_byLaw_4 6 rfl rfl)
theorem dX3_byLaw_101 : decode cX3_byLaw 101 = .ok (.getfield 31, 3) := dk_180 0 31 (dk_at dksX3_byLaw_4 7 rfl rfl)
theorem dX3_byLaw_104 : decode cX3_byLaw 104 = .ok (.iload_n 2, 1) := dk_28 (dk_at dksX3_byLaw_4 10 rfl rfl)
theorem dX3_byLaw_105 : decode cX3_byLaw 105 = .ok (.iaload, 1) := dk_46 (dk_at dksX3_byLaw_4 11 rfl rfl)
theorem dX3_byLaw_106 : decode cX3_byLaw 106 = .ok (.invokevirtual 224, 3) := dk_182 0 224 (dk_at dksX3_byLaw_4 12 rfl rfl)
theorem dX3_byLaw_109 : decode cX3_byLaw 109 = .ok (.ifCond .ne 6, 3) := dk_154 0 6 (dk_at dksX3_byLaw_4 15 rfl rfl)
theorem dX3_byLaw_112 : decode cX3_byLaw 112 = .ok (.goto 20, 3) := dk_167 0 20 (dk_at dksX3_byLaw_4 18 rfl rfl)
theorem dX3_byLaw_115 : decode cX3_byLaw 115 = .ok (.aload_n 0, 1) := dk_42 (dk_at dksX3_byLaw_4 21 rfl rfl)
theorem dX3_byLaw_116 : decode cX3_byLaw 116 = .ok (.aload_n 0, 1) := dk_42 (dk_at dksX3_byLaw_4 22 rfl rfl)
theorem dX3_byLaw_117 : decode cX3_byLaw 117 = .ok (.getfield 31, 3) := dk_180 0 31 (dk_at dksX3_byLaw_5 0 rfl rfl)
theorem dX3_byLaw_120 : decode cX3_byLaw 120 = .ok (.iload_n 2, 1) := dk_28 (dk_at dksX3_byLaw_5 3 rfl rfl)
theorem dX3_byLaw_121 : decode cX3_byLaw 121 = .ok (.iaload, 1) := dk_46 (dk_at dksX3_byLaw_5 4 rfl rfl)
theorem dX3_byLaw_122 : decode cX3_byLaw 122 = .ok (.aload_n 0, 1) := dk_42 (dk_at dksX3_byLaw_5 5 rfl rfl)
theorem dX3_byLaw_123 : decode cX3_byLaw 123 = .ok (.getfield 34, 3) := dk_180 0 34 (dk_at dksX3_byLaw_5 6 rfl rfl)
theorem dX3_byLaw_126 : decode cX3_byLaw 126 = .ok (.iload_n 2, 1) := dk_28 (dk_at dksX3_byLaw_5 9 rfl rfl)
theorem dX3_byLaw_127 : decode cX3_byLaw 127 = .ok (.iaload, 1) := dk_46 (dk_at dksX3_byLaw_5 10 rfl rfl)
theorem dX3_byLaw_128 : decode cX3_byLaw 128 = .ok (.invokevirtual 224, 3) := dk_182 0 224 (dk_at dksX3_byLaw_5 11 rfl rfl)
theorem dX3_byLaw_131 : decode cX3_byLaw 131 = .ok (.ireturn, 1) := dk_172 (dk_at dksX3_byLaw_5 14 rfl rfl)
theorem dX3_byLaw_132 : decode cX3_byLaw 132 = .ok (.iinc 2 1, 3) := dk_132 2 1 (dk_at dksX3_byLaw_5 15 rfl rfl)
theorem dX3_byLaw_135 : decode cX3_byLaw 135 = .ok (.goto (-65), 3) := dk_167 255 191 (dk_at dksX3_byLaw_5 18 rfl rfl)
theorem dX3_byLaw_138 : decode cX3_byLaw 138 = .ok (.iconst 0, 1) := dk_3 (dk_at dksX3_byLaw_5 21 rfl rfl)
theorem dX3_byLaw_139 : decode cX3_byLaw 139 = .ok (.ireturn, 1) := dk_172 (dk_at dksX3_byLaw_5 22 rfl rfl)
def dkwX3_worked_7 : List UInt8 := [3, 46, 172]
abbrev dktX3_worked_7 : List UInt8 := dkwX3_worked_7 ++ []
def dkwX3_worked_6 : List UInt8 := [29, 4, 100, 46, 42, 180, 0, 52, 29, 46, 184, 0, 221, 79, 132, 4, 1, 167, 255, 101, 42, 180, 0, 52]
abbrev dktX3_worked_6 : List UInt8 := dkwX3_worked_6 ++ dktX3_worked_7
def dkwX3_worked_5 : List UInt8 := [167, 0, 4, 3, 79, 167, 0, 33, 132, 3, 255, 42, 180, 0, 52, 29, 4, 100, 21, 5, 42, 180, 0, 52]
abbrev dktX3_worked_5 : List UInt8 := dkwX3_worked_5 ++ dktX3_worked_6
def dkwX3_worked_4 : List UInt8 := [42, 180, 0, 52, 29, 4, 100, 46, 116, 167, 0, 19, 42, 180, 0, 52, 29, 4, 100, 46, 154, 0, 7, 4]
abbrev dktX3_worked_4 : List UInt8 := dkwX3_worked_4 ++ dktX3_worked_5
def dkwX3_worked_3 : List UInt8 := [159, 0, 10, 21, 5, 16, 17, 160, 0, 49, 42, 180, 0, 52, 29, 4, 100, 21, 5, 16, 17, 160, 0, 15]
abbrev dktX3_worked_3 : List UInt8 := dkwX3_worked_3 ++ dktX3_worked_4
def dkwX3_worked_2 : List UInt8 := [21, 5, 16, 18, 100, 167, 0, 10, 42, 180, 0, 55, 21, 5, 46, 79, 167, 0, 93, 21, 5, 16, 16]
abbrev dktX3_worked_2 : List UInt8 := dkwX3_worked_2 ++ dktX3_worked_3
def dkwX3_worked_1 : List UInt8 := [162, 0, 9, 21, 5, 8, 163, 0, 37, 42, 180, 0, 52, 29, 132, 3, 1, 21, 5, 16, 18, 161, 0, 11]
abbrev dktX3_worked_1 : List UInt8 := dkwX3_worked_1 ++ dktX3_worked_2
def dkwX3_worked_0 : List UInt8 := [3, 62, 27, 54, 4, 21, 4, 28, 162, 0, 155, 42, 180, 0, 37, 21, 4, 46, 54, 5, 21, 5, 16, 18]
abbrev dktX3_worked_0 : List UInt8 := dkwX3_worked_0 ++ dktX3_worked_1
theorem dksX3_worked_0 : cX3_worked.data.toList.drop 0 = dktX3_worked_0 := by decide +kernel
theorem dksX3_worked_1 : cX3_worked.data.toList.drop 24 = dktX3_worked_1 := dk_seg dksX3_worked_0 24 rfl rfl
theorem dksX3_worked_2 : cX3_worked.data.toList.drop 48 = dktX3_worked_2 := dk_seg dksX3_worked_1 24 rfl rfl
theorem dksX3_worked_3 : cX3_worked.data.toList.drop 71 = dktX3_worked_3 := dk_seg dksX3_worked_2 23 rfl rfl
theorem dksX3_worked_4 : cX3_worked.data.toList.drop 95 = dktX3_worked_4 := dk_seg dksX3_worked_3 24 rfl rfl
theorem dksX3_worked_5 : cX3_worked.data.toList.drop 119 = dktX3_worked_5 := dk_seg dksX3_worked_4 24 rfl rfl
theorem dksX3_worked_6 : cX3_worked.data.toList.drop 143 = dktX3_worked_6 := dk_seg dksX3_worked_5 24 rfl rfl
theorem dksX3_worked_7 : cX3_worked.data.toList.drop 167 = dktX3_worked_7 := dk_seg dksX3_worked_6 24 rfl rfl
theorem dX3_worked_0 : decode cX3_worked 0 = .ok (.iconst 0, 1) := dk_3 (dk_at dksX3_worked_0 0 rfl rfl)
theorem dX3_worked_1 : decode cX3_worked 1 = .ok (.istore_n 3, 1) := dk_62 (dk_at dksX3_worked_0 1 rfl rfl)
theorem dX3_worked_2 : decode cX3_worked 2 = .ok (.iload_n 1, 1) := dk_27 (dk_at dksX3_worked_0 2 rfl rfl)
theorem dX3_worked_3 : decode cX3_worked 3 = .ok (.istore 4, 2) := dk_54 4 (dk_at dksX3_worked_0 3 rfl rfl)
theorem dX3_worked_5 : decode cX3_worked 5 = .ok (.iload 4, 2) := dk_21 4 (dk_at dksX3_worked_0 5 rfl rfl)
theorem dX3_worked_7 : decode cX3_worked 7 = .ok (.iload_n 2, 1) := dk_28 (dk_at dksX3_worked_0 7 rfl rfl)
theorem dX3_worked_8 : decode cX3_worked 8 = .ok (.if_icmp .ge 155, 3) := dk_162 0 155 (dk_at dksX3_worked_0 8 rfl rfl)
theorem dX3_worked_11 : decode cX3_worked 11 = .ok (.aload_n 0, 1) := dk_42 (dk_at dksX3_worked_0 11 rfl rfl)
theorem dX3_worked_12 : decode cX3_worked 12 = .ok (.getfield 37, 3) := dk_180 0 37 (dk_at dksX3_worked_0 12 rfl rfl)
theorem dX3_worked_15 : decode cX3_worked 15 = .ok (.iload 4, 2) := dk_21 4 (dk_at dksX3_worked_0 15 rfl rfl)
theorem dX3_worked_17 : decode cX3_worked 17 = .ok (.iaload, 1) := dk_46 (dk_at dksX3_worked_0 17 rfl rfl)
theorem dX3_worked_18 : decode cX3_worked 18 = .ok (.istore 5, 2) := dk_54 5 (dk_at dksX3_worked_0 18 rfl rfl)
theorem dX3_worked_20 : decode cX3_worked 20 = .ok (.iload 5, 2) := dk_21 5 (dk_at dksX3_worked_0 20 rfl rfl)
theorem dX3_worked_22 : decode cX3_worked 22 = .ok (.bipush 18, 2) := dk_16 18 (dk_at dksX3_worked_0 22 rfl rfl)
theorem dX3_worked_24 : decode cX3_worked 24 = .ok (.if_icmp .ge 9, 3) := dk_162 0 9 (dk_at dksX3_worked_1 0 rfl rfl)
theorem dX3_worked_27 : decode cX3_worked 27 = .ok (.iload 5, 2) := dk_21 5 (dk_at dksX3_worked_1 3 rfl rfl)
theorem dX3_worked_29 : decode cX3_worked 29 = .ok (.iconst 5, 1) := dk_8 (dk_at dksX3_worked_1 5 rfl rfl)
theorem dX3_worked_30 : decode cX3_worked 30 = .ok (.if_icmp .gt 37, 3) := dk_163 0 37 (dk_at dksX3_worked_1 6 rfl rfl)
theorem dX3_worked_33 : decode cX3_worked 33 = .ok (.aload_n 0, 1) := dk_42 (dk_at dksX3_worked_1 9 rfl rfl)
theorem dX3_worked_34 : decode cX3_worked 34 = .ok (.getfield 52, 3) := dk_180 0 52 (dk_at dksX3_worked_1 10 rfl rfl)
theorem dX3_worked_37 : decode cX3_worked 37 = .ok (.iload_n 3, 1) := dk_29 (dk_at dksX3_worked_1 13 rfl rfl)
theorem dX3_worked_38 : decode cX3_worked 38 = .ok (.iinc 3 1, 3) := dk_132 3 1 (dk_at dksX3_worked_1 14 rfl rfl)
theorem dX3_worked_41 : decode cX3_worked 41 = .ok (.iload 5, 2) := dk_21 5 (dk_at dksX3_worked_1 17 rfl rfl)
theorem dX3_worked_43 : decode cX3_worked 43 = .ok (.bipush 18, 2) := dk_16 18 (dk_at dksX3_worked_1 19 rfl rfl)
theorem dX3_worked_45 : decode cX3_worked 45 = .ok (.if_icmp .lt 11, 3) := dk_161 0 11 (dk_at dksX3_worked_1 21 rfl rfl)
theorem dX3_worked_48 : decode cX3_worked 48 = .ok (.iload 5, 2) := dk_21 5 (dk_at dksX3_worked_2 0 rfl rfl)
theorem dX3_worked_50 : decode cX3_worked 50 = .ok (.bipush 18, 2) := dk_16 18 (dk_at dksX3_worked_2 2 rfl rfl)
theorem dX3_worked_52 : decode cX3_worked 52 = .ok (.isub, 1) := dk_100 (dk_at dksX3_worked_2 4 rfl rfl)
theorem dX3_worked_53 : decode cX3_worked 53 = .ok (.goto 10, 3) := dk_167 0 10 (dk_at dksX3_worked_2 5 rfl rfl)
theorem dX3_worked_56 : decode cX3_worked 56 = .ok (.aload_n 0, 1) := dk_42 (dk_at dksX3_worked_2 8 rfl rfl)
theorem dX3_worked_57 : decode cX3_worked 57 = .ok (.getfield 55, 3) := dk_180 0 55 (dk_at dksX3_worked_2 9 rfl rfl)
theorem dX3_worked_60 : decode cX3_worked 60 = .ok (.iload 5, 2) := dk_21 5 (dk_at dksX3_worked_2 12 rfl rfl)
theorem dX3_worked_62 : decode cX3_worked 62 = .ok (.iaload, 1) := dk_46 (dk_at dksX3_worked_2 14 rfl rfl)
theorem dX3_worked_63 : decode cX3_worked 63 = .ok (.iastore, 1) := dk_79 (dk_at dksX3_worked_2 15 rfl rfl)
theorem dX3_worked_64 : decode cX3_worked 64 = .ok (.goto 93, 3) := dk_167 0 93 (dk_at dksX3_worked_2 16 rfl rfl)
theorem dX3_worked_67 : decode cX3_worked 67 = .ok (.iload 5, 2) := dk_21 5 (dk_at dksX3_worked_2 19 rfl rfl)
theorem dX3_worked_69 : decode cX3_worked 69 = .ok (.bipush 16, 2) := dk_16 16 (dk_at dksX3_worked_2 21 rfl rfl)
theorem dX3_worked_71 : decode cX3_worked 71 = .ok (.if_icmp .eq 10, 3) := dk_159 0 10 (dk_at dksX3_worked_3 0 rfl rfl)
theorem dX3_worked_74 : decode cX3_worked 74 = .ok (.iload 5, 2) := dk_21 5 (dk_at dksX3_worked_3 3 rfl rfl)
theorem dX3_worked_76 : decode cX3_worked 76 = .ok (.bipush 17, 2) := dk_16 17 (dk_at dksX3_worked_3 5 rfl rfl)
theorem dX3_worked_78 : decode cX3_worked 78 = .ok (.if_icmp .ne 49, 3) := dk_160 0 49 (dk_at dksX3_worked_3 7 rfl rfl)
theorem dX3_worked_81 : decode cX3_worked 81 = .ok (.aload_n 0, 1) := dk_42 (dk_at dksX3_worked_3 10 rfl rfl)
theorem dX3_worked_82 : decode cX3_worked 82 = .ok (.getfield 52, 3) := dk_180 0 52 (dk_at dksX3_worked_3 11 rfl rfl)
theorem dX3_worked_85 : decode cX3_worked 85 = .ok (.iload_n 3, 1) := dk_29 (dk_at dksX3_worked_3 14 rfl rfl)
theorem dX3_worked_86 : decode cX3_worked 86 = .ok (.iconst 1, 1) := dk_4 (dk_at dksX3_worked_3 15 rfl rfl)
theorem dX3_worked_87 : decode cX3_worked 87 = .ok (.isub, 1) := dk_100 (dk_at dksX3_worked_3 16 rfl rfl)
theorem dX3_worked_88 : decode cX3_worked 88 = .ok (.iload 5, 2) := dk_21 5 (dk_at dksX3_worked_3 17 rfl rfl)
theorem dX3_worked_90 : decode cX3_worked 90 = .ok (.bipush 17, 2) := dk_16 17 (dk_at dksX3_worked_3 19 rfl rfl)
theorem dX3_worked_92 : decode cX3_worked 92 = .ok (.if_icmp .ne 15, 3) := dk_160 0 15 (dk_at dksX3_worked_3 21 rfl rfl)
theorem dX3_worked_95 : decode cX3_worked 95 = .ok (.aload_n 0, 1) := dk_42 (dk_at dksX3_worked_4 0 rfl rfl)
theorem dX3_worked_96 : decode cX3_worked 96 = .ok (.getfield 52, 3) := dk_180 0 52 (dk_at dksX3_worked_4 1 rfl rfl)
theorem dX3_worked_99 : decode cX3_worked 99 = .ok (.iload_n 3, 1) := dk_29 (dk_at dksX3_worked_4 4 rfl rfl)
theorem dX3_worked_100 : decode cX3_worked 100 = .ok (.iconst 1, 1) := dk_4 (dk_at dksX3_worked_4 5 rfl rfl)
theorem dX3_worked_101 : decode cX3_worked 101 = .ok (.isub, 1) := dk_100 (dk_at dksX3_worked_4 6 rfl rfl)
theorem dX3_worked_102 : decode cX3_worked 102 = .ok (.iaload, 1) := dk_46 (dk_at dksX3_worked_4 7 rfl rfl)
theorem dX3_worked_103 : decode cX3_worked 103 = .ok (.ineg, 1) := dk_116 (dk_at dksX3_worked_4 8 rfl rfl)
theorem dX3_worked_104 : decode cX3_worked 104 = .ok (.goto 19, 3) := dk_167 0 19 (dk_at dksX3_worked_4 9 rfl rfl)
theorem dX3_worked_107 : decode cX3_worked 107 = .ok (.aload_n 0, 1) := dk_42 (dk_at dksX3_worked_4 12 rfl rfl)
theorem dX3_worked_108 : decode cX3_worked 108 = .ok (.getfield 52, 3) := dk_180 0 52 (dk_at dksX3_worked_4 13 rfl rfl)
theorem dX3_worked_111 : decode cX3_worked 111 = .ok (.iload_n 3, 1) := dk_29 (dk_at dksX3_worked_4 16 rfl rfl)
theorem dX3_worked_112 : decode cX3_worked 112 = .ok (.iconst 1, 1) := dk_4 (dk_at dksX3_worked_4 17 rfl rfl)
theorem dX3_worked_113 : decode cX3_worked 113 = .ok (.isub, 1) := dk_100 (dk_at dksX3_worked_4 18 rfl rfl)
theorem dX3_worked_114 : decode cX3_worked 114 = .ok (.iaload, 1) := dk_46 (dk_at dksX3_worked_4 19 rfl rfl)
theorem dX3_worked_115 : decode cX3_worked 115 = .ok (.ifCond .ne 7, 3) := dk_154 0 7 (dk_at dksX3_worked_4 20 rfl rfl)
theorem dX3_worked_118 : decode cX3_worked 118 = .ok (.iconst 1, 1) := dk_4 (dk_at dksX3_worked_4 23 rfl rfl)
theorem dX3_worked_119 : decode cX3_worked 119 = .ok (.goto 4, 3) := dk_167 0 4 (dk_at dksX3_worked_5 0 rfl rfl)
theorem dX3_worked_122 : decode cX3_worked 122 = .ok (.iconst 0, 1) := dk_3 (dk_at dksX3_worked_5 3 rfl rfl)
theorem dX3_worked_123 : decode cX3_worked 123 = .ok (.iastore, 1) := dk_79 (dk_at dksX3_worked_5 4 rfl rfl)
theorem dX3_worked_124 : decode cX3_worked 124 = .ok (.goto 33, 3) := dk_167 0 33 (dk_at dksX3_worked_5 5 rfl rfl)
theorem dX3_worked_127 : decode cX3_worked 127 = .ok (.iinc 3 (-1), 3) := dk_132 3 255 (dk_at dksX3_worked_5 8 rfl rfl)
theorem dX3_worked_130 : decode cX3_worked 130 = .ok (.aload_n 0, 1) := dk_42 (dk_at dksX3_worked_5 11 rfl rfl)
theorem dX3_worked_131 : decode cX3_worked 131 = .ok (.getfield 52, 3) := dk_180 0 52 (dk_at dksX3_worked_5 12 rfl rfl)
theorem dX3_worked_134 : decode cX3_worked 134 = .ok (.iload_n 3, 1) := dk_29 (dk_at dksX3_worked_5 15 rfl rfl)
theorem dX3_worked_135 : decode cX3_worked 135 = .ok (.iconst 1, 1) := dk_4 (dk_at dksX3_worked_5 16 rfl rfl)
theorem dX3_worked_136 : decode cX3_worked 136 = .ok (.isub, 1) := dk_100 (dk_at dksX3_worked_5 17 rfl rfl)
theorem dX3_worked_137 : decode cX3_worked 137 = .ok (.iload 5, 2) := dk_21 5 (dk_at dksX3_worked_5 18 rfl rfl)
theorem dX3_worked_139 : decode cX3_worked 139 = .ok (.aload_n 0, 1) := dk_42 (dk_at dksX3_worked_5 20 rfl rfl)
theorem dX3_worked_140 : decode cX3_worked 140 = .ok (.getfield 52, 3) := dk_180 0 52 (dk_at dksX3_worked_5 21 rfl rfl)
theorem dX3_worked_143 : decode cX3_worked 143 = .ok (.iload_n 3, 1) := dk_29 (dk_at dksX3_worked_6 0 rfl rfl)
theorem dX3_worked_144 : decode cX3_worked 144 = .ok (.iconst 1, 1) := dk_4 (dk_at dksX3_worked_6 1 rfl rfl)
theorem dX3_worked_145 : decode cX3_worked 145 = .ok (.isub, 1) := dk_100 (dk_at dksX3_worked_6 2 rfl rfl)
theorem dX3_worked_146 : decode cX3_worked 146 = .ok (.iaload, 1) := dk_46 (dk_at dksX3_worked_6 3 rfl rfl)
theorem dX3_worked_147 : decode cX3_worked 147 = .ok (.aload_n 0, 1) := dk_42 (dk_at dksX3_worked_6 4 rfl rfl)
theorem dX3_worked_148 : decode cX3_worked 148 = .ok (.getfield 52, 3) := dk_180 0 52 (dk_at dksX3_worked_6 5 rfl rfl)
theorem dX3_worked_151 : decode cX3_worked 151 = .ok (.iload_n 3, 1) := dk_29 (dk_at dksX3_worked_6 8 rfl rfl)
theorem dX3_worked_152 : decode cX3_worked 152 = .ok (.iaload, 1) := dk_46 (dk_at dksX3_worked_6 9 rfl rfl)
theorem dX3_worked_153 : decode cX3_worked 153 = .ok (.invokestatic 221, 3) := dk_184 0 221 (dk_at dksX3_worked_6 10 rfl rfl)
theorem dX3_worked_156 : decode cX3_worked 156 = .ok (.iastore, 1) := dk_79 (dk_at dksX3_worked_6 13 rfl rfl)
theorem dX3_worked_157 : decode cX3_worked 157 = .ok (.iinc 4 1, 3) := dk_132 4 1 (dk_at dksX3_worked_6 14 rfl rfl)
theorem dX3_worked_160 : decode cX3_worked 160 = .ok (.goto (-155), 3) := dk_167 255 101 (dk_at dksX3_worked_6 17 rfl rfl)
theorem dX3_worked_163 : decode cX3_worked 163 = .ok (.aload_n 0, 1) := dk_42 (dk_at dksX3_worked_6 20 rfl rfl)
theorem dX3_worked_164 : decode cX3_worked 164 = .ok (.getfield 52, 3) := dk_180 0 52 (dk_at dksX3_worked_6 21 rfl rfl)
theorem dX3_worked_167 : decode cX3_worked 167 = .ok (.iconst 0, 1) := dk_3 (dk_at dksX3_worked_7 0 rfl rfl)
theorem dX3_worked_168 : decode cX3_worked 168 = .ok (.iaload, 1) := dk_46 (dk_at dksX3_worked_7 1 rfl rfl)
theorem dX3_worked_169 : decode cX3_worked 169 = .ok (.ireturn, 1) := dk_172 (dk_at dksX3_worked_7 2 rfl rfl)
def dkwX3_both_6 : List UInt8 := [27, 28, 112, 172]
abbrev dktX3_both_6 : List UInt8 := dkwX3_both_6 ++ []
def dkwX3_both_5 : List UInt8 := [27, 28, 104, 172, 28, 154, 0, 7, 3, 167, 0, 6, 27, 28, 108, 172, 28, 154, 0, 7, 3, 167, 0, 6]
abbrev dktX3_both_5 : List UInt8 := dkwX3_both_5 ++ dktX3_both_6
def dkwX3_both_4 : List UInt8 := [167, 0, 4, 3, 172, 27, 28, 164, 0, 7, 4, 167, 0, 4, 3, 172, 27, 28, 96, 172, 27, 28, 100, 172]
abbrev dktX3_both_4 : List UInt8 := dkwX3_both_4 ++ dktX3_both_5
def dkwX3_both_3 : List UInt8 := [167, 0, 4, 3, 172, 27, 28, 162, 0, 7, 4, 167, 0, 4, 3, 172, 27, 28, 160, 0, 7, 4]
abbrev dktX3_both_3 : List UInt8 := dkwX3_both_3 ++ dktX3_both_4
def dkwX3_both_2 : List UInt8 := [27, 154, 0, 7, 28, 153, 0, 7, 4, 167, 0, 4, 3, 172, 27, 153, 0, 11, 28, 153, 0, 7, 4]
abbrev dktX3_both_2 : List UInt8 := dkwX3_both_2 ++ dktX3_both_3
def dkwX3_both_1 : List UInt8 := [170, 0, 0, 0, 0, 0, 136, 0, 0, 0, 6, 0, 0, 0, 14, 0, 0, 0, 51, 0, 0, 0, 65, 0, 0, 0, 79, 0, 0, 0, 90, 0, 0, 0, 101, 0, 0, 0, 112, 0, 0, 0, 116, 0, 0, 0, 120, 0, 0, 0, 124]
abbrev dktX3_both_1 : List UInt8 := dkwX3_both_1 ++ dktX3_both_2
def dkwX3_both_0 : List UInt8 := [26]
abbrev dktX3_both_0 : List UInt8 := dkwX3_both_0 ++ dktX3_both_1
theorem dksX3_both_0 : cX3_both.data.toList.drop 0 = dktX3_both_0 := by decide +kernel
theorem dksX3_both_1 : cX3_both.data.toList.drop 1 = dktX3_both_1 := dk_seg dksX3_both_0 1 rfl rfl
theorem dksX3_both_2 : cX3_both.data.toList.drop 52 = dktX3_both_2 := dk_seg dksX3_both_1 51 rfl rfl
theorem dksX3_both_3 : cX3_both.data.toList.drop 75 = dktX3_both_3 := dk_seg dksX3_both_2 23 rfl rfl
theorem dksX3_both_4 : cX3_both.data.toList.drop 97 = dktX3_both_4 := dk_seg dksX3_both_3 22 rfl rfl
theorem dksX3_both_5 : cX3_both.data.toList.drop 121 = dktX3_both_5 := dk_seg dksX3_both_4 24 rfl rfl
theorem dksX3_both_6 : cX3_both.data.toList.drop 145 = dktX3_both_6 := dk_seg dksX3_both_5 24 rfl rfl
theorem dX3_both_0 : decode cX3_both 0 = .ok (.iload_n 0, 1) := dk_26 (dk_at dksX3_both_0 0 rfl rfl)
theorem dX3_both_1 : decode cX3_both 1 = .ok (.tableswitch 136 6 14 #[51, 65, 79, 90, 101, 112, 116, 120, 124], 51) := by decide +kernel
theorem dX3_both_52 : decode cX3_both 52 = .ok (.iload_n 1, 1) := dk_27 (dk_at dksX3_both_2 0 rfl rfl)
theorem dX3_both_53 : decode cX3_both 53 = .ok (.ifCond .ne 7, 3) := dk_154 0 7 (dk_at dksX3_both_2 1 rfl rfl)
theorem dX3_both_56 : decode cX3_both 56 = .ok (.iload_n 2, 1) := dk_28 (dk_at dksX3_both_2 4 rfl rfl)
theorem dX3_both_57 : decode cX3_both 57 = .ok (.ifCond .eq 7, 3) := dk_153 0 7 (dk_at dksX3_both_2 5 rfl rfl)
theorem dX3_both_60 : decode cX3_both 60 = .ok (.iconst 1, 1) := dk_4 (dk_at dksX3_both_2 8 rfl rfl)
theorem dX3_both_61 : decode cX3_both 61 = .ok (.goto 4, 3) := dk_167 0 4 (dk_at dksX3_both_2 9 rfl rfl)
theorem dX3_both_64 : decode cX3_both 64 = .ok (.iconst 0, 1) := dk_3 (dk_at dksX3_both_2 12 rfl rfl)
theorem dX3_both_65 : decode cX3_both 65 = .ok (.ireturn, 1) := dk_172 (dk_at dksX3_both_2 13 rfl rfl)
theorem dX3_both_66 : decode cX3_both 66 = .ok (.iload_n 1, 1) := dk_27 (dk_at dksX3_both_2 14 rfl rfl)
theorem dX3_both_67 : decode cX3_both 67 = .ok (.ifCond .eq 11, 3) := dk_153 0 11 (dk_at dksX3_both_2 15 rfl rfl)
theorem dX3_both_70 : decode cX3_both 70 = .ok (.iload_n 2, 1) := dk_28 (dk_at dksX3_both_2 18 rfl rfl)
theorem dX3_both_71 : decode cX3_both 71 = .ok (.ifCond .eq 7, 3) := dk_153 0 7 (dk_at dksX3_both_2 19 rfl rfl)
theorem dX3_both_74 : decode cX3_both 74 = .ok (.iconst 1, 1) := dk_4 (dk_at dksX3_both_2 22 rfl rfl)
theorem dX3_both_75 : decode cX3_both 75 = .ok (.goto 4, 3) := dk_167 0 4 (dk_at dksX3_both_3 0 rfl rfl)
theorem dX3_both_78 : decode cX3_both 78 = .ok (.iconst 0, 1) := dk_3 (dk_at dksX3_both_3 3 rfl rfl)
theorem dX3_both_79 : decode cX3_both 79 = .ok (.ireturn, 1) := dk_172 (dk_at dksX3_both_3 4 rfl rfl)
theorem dX3_both_80 : decode cX3_both 80 = .ok (.iload_n 1, 1) := dk_27 (dk_at dksX3_both_3 5 rfl rfl)
theorem dX3_both_81 : decode cX3_both 81 = .ok (.iload_n 2, 1) := dk_28 (dk_at dksX3_both_3 6 rfl rfl)
theorem dX3_both_82 : decode cX3_both 82 = .ok (.if_icmp .ge 7, 3) := dk_162 0 7 (dk_at dksX3_both_3 7 rfl rfl)
theorem dX3_both_85 : decode cX3_both 85 = .ok (.iconst 1, 1) := dk_4 (dk_at dksX3_both_3 10 rfl rfl)
theorem dX3_both_86 : decode cX3_both 86 = .ok (.goto 4, 3) := dk_167 0 4 (dk_at dksX3_both_3 11 rfl rfl)
theorem dX3_both_89 : decode cX3_both 89 = .ok (.iconst 0, 1) := dk_3 (dk_at dksX3_both_3 14 rfl rfl)
theorem dX3_both_90 : decode cX3_both 90 = .ok (.ireturn, 1) := dk_172 (dk_at dksX3_both_3 15 rfl rfl)
theorem dX3_both_91 : decode cX3_both 91 = .ok (.iload_n 1, 1) := dk_27 (dk_at dksX3_both_3 16 rfl rfl)
theorem dX3_both_92 : decode cX3_both 92 = .ok (.iload_n 2, 1) := dk_28 (dk_at dksX3_both_3 17 rfl rfl)
theorem dX3_both_93 : decode cX3_both 93 = .ok (.if_icmp .ne 7, 3) := dk_160 0 7 (dk_at dksX3_both_3 18 rfl rfl)
theorem dX3_both_96 : decode cX3_both 96 = .ok (.iconst 1, 1) := dk_4 (dk_at dksX3_both_3 21 rfl rfl)
theorem dX3_both_97 : decode cX3_both 97 = .ok (.goto 4, 3) := dk_167 0 4 (dk_at dksX3_both_4 0 rfl rfl)
theorem dX3_both_100 : decode cX3_both 100 = .ok (.iconst 0, 1) := dk_3 (dk_at dksX3_both_4 3 rfl rfl)
theorem dX3_both_101 : decode cX3_both 101 = .ok (.ireturn, 1) := dk_172 (dk_at dksX3_both_4 4 rfl rfl)
theorem dX3_both_102 : decode cX3_both 102 = .ok (.iload_n 1, 1) := dk_27 (dk_at dksX3_both_4 5 rfl rfl)
theorem dX3_both_103 : decode cX3_both 103 = .ok (.iload_n 2, 1) := dk_28 (dk_at dksX3_both_4 6 rfl rfl)
theorem dX3_both_104 : decode cX3_both 104 = .ok (.if_icmp .le 7, 3) := dk_164 0 7 (dk_at dksX3_both_4 7 rfl rfl)
theorem dX3_both_107 : decode cX3_both 107 = .ok (.iconst 1, 1) := dk_4 (dk_at dksX3_both_4 10 rfl rfl)
theorem dX3_both_108 : decode cX3_both 108 = .ok (.goto 4, 3) := dk_167 0 4 (dk_at dksX3_both_4 11 rfl rfl)
theorem dX3_both_111 : decode cX3_both 111 = .ok (.iconst 0, 1) := dk_3 (dk_at dksX3_both_4 14 rfl rfl)
theorem dX3_both_112 : decode cX3_both 112 = .ok (.ireturn, 1) := dk_172 (dk_at dksX3_both_4 15 rfl rfl)
theorem dX3_both_113 : decode cX3_both 113 = .ok (.iload_n 1, 1) := dk_27 (dk_at dksX3_both_4 16 rfl rfl)
theorem dX3_both_114 : decode cX3_both 114 = .ok (.iload_n 2, 1) := dk_28 (dk_at dksX3_both_4 17 rfl rfl)
theorem dX3_both_115 : decode cX3_both 115 = .ok (.iadd, 1) := dk_96 (dk_at dksX3_both_4 18 rfl rfl)
theorem dX3_both_116 : decode cX3_both 116 = .ok (.ireturn, 1) := dk_172 (dk_at dksX3_both_4 19 rfl rfl)
theorem dX3_both_117 : decode cX3_both 117 = .ok (.iload_n 1, 1) := dk_27 (dk_at dksX3_both_4 20 rfl rfl)
theorem dX3_both_118 : decode cX3_both 118 = .ok (.iload_n 2, 1) := dk_28 (dk_at dksX3_both_4 21 rfl rfl)
theorem dX3_both_119 : decode cX3_both 119 = .ok (.isub, 1) := dk_100 (dk_at dksX3_both_4 22 rfl rfl)
theorem dX3_both_120 : decode cX3_both 120 = .ok (.ireturn, 1) := dk_172 (dk_at dksX3_both_4 23 rfl rfl)
theorem dX3_both_121 : decode cX3_both 121 = .ok (.iload_n 1, 1) := dk_27 (dk_at dksX3_both_5 0 rfl rfl)
theorem dX3_both_122 : decode cX3_both 122 = .ok (.iload_n 2, 1) := dk_28 (dk_at dksX3_both_5 1 rfl rfl)
theorem dX3_both_123 : decode cX3_both 123 = .ok (.imul, 1) := dk_104 (dk_at dksX3_both_5 2 rfl rfl)
theorem dX3_both_124 : decode cX3_both 124 = .ok (.ireturn, 1) := dk_172 (dk_at dksX3_both_5 3 rfl rfl)
theorem dX3_both_125 : decode cX3_both 125 = .ok (.iload_n 2, 1) := dk_28 (dk_at dksX3_both_5 4 rfl rfl)
theorem dX3_both_126 : decode cX3_both 126 = .ok (.ifCond .ne 7, 3) := dk_154 0 7 (dk_at dksX3_both_5 5 rfl rfl)
theorem dX3_both_129 : decode cX3_both 129 = .ok (.iconst 0, 1) := dk_3 (dk_at dksX3_both_5 8 rfl rfl)
theorem dX3_both_130 : decode cX3_both 130 = .ok (.goto 6, 3) := dk_167 0 6 (dk_at dksX3_both_5 9 rfl rfl)
theorem dX3_both_133 : decode cX3_both 133 = .ok (.iload_n 1, 1) := dk_27 (dk_at dksX3_both_5 12 rfl rfl)
theorem dX3_both_134 : decode cX3_both 134 = .ok (.iload_n 2, 1) := dk_28 (dk_at dksX3_both_5 13 rfl rfl)
theorem dX3_both_135 : decode cX3_both 135 = .ok (.idiv, 1) := dk_108 (dk_at dksX3_both_5 14 rfl rfl)
theorem dX3_both_136 : decode cX3_both 136 = .ok (.ireturn, 1) := dk_172 (dk_at dksX3_both_5 15 rfl rfl)
theorem dX3_both_137 : decode cX3_both 137 = .ok (.iload_n 2, 1) := dk_28 (dk_at dksX3_both_5 16 rfl rfl)
theorem dX3_both_138 : decode cX3_both 138 = .ok (.ifCond .ne 7, 3) := dk_154 0 7 (dk_at dksX3_both_5 17 rfl rfl)
theorem dX3_both_141 : decode cX3_both 141 = .ok (.iconst 0, 1) := dk_3 (dk_at dksX3_both_5 20 rfl rfl)
theorem dX3_both_142 : decode cX3_both 142 = .ok (.goto 6, 3) := dk_167 0 6 (dk_at dksX3_both_5 21 rfl rfl)
theorem dX3_both_145 : decode cX3_both 145 = .ok (.iload_n 1, 1) := dk_27 (dk_at dksX3_both_6 0 rfl rfl)
theorem dX3_both_146 : decode cX3_both 146 = .ok (.iload_n 2, 1) := dk_28 (dk_at dksX3_both_6 1 rfl rfl)
theorem dX3_both_147 : decode cX3_both 147 = .ok (.irem, 1) := dk_112 (dk_at dksX3_both_6 2 rfl rfl)
theorem dX3_both_148 : decode cX3_both 148 = .ok (.ireturn, 1) := dk_172 (dk_at dksX3_both_6 3 rfl rfl)
def dkwX3_laysBack_1 : List UInt8 := [167, 255, 236, 177]
abbrev dktX3_laysBack_1 : List UInt8 := dkwX3_laysBack_1 ++ []
def dkwX3_laysBack_0 : List UInt8 := [3, 62, 29, 16, 31, 162, 0, 20, 42, 180, 0, 22, 29, 43, 28, 29, 96, 46, 79, 132, 3, 1]
abbrev dktX3_laysBack_0 : List UInt8 := dkwX3_laysBack_0 ++ dktX3_laysBack_1
theorem dksX3_laysBack_0 : cX3_laysBack.data.toList.drop 0 = dktX3_laysBack_0 := by decide +kernel
theorem dksX3_laysBack_1 : cX3_laysBack.data.toList.drop 22 = dktX3_laysBack_1 := dk_seg dksX3_laysBack_0 22 rfl rfl
theorem dX3_laysBack_0 : decode cX3_laysBack 0 = .ok (.iconst 0, 1) := dk_3 (dk_at dksX3_laysBack_0 0 rfl rfl)
theorem dX3_laysBack_1 : decode cX3_laysBack 1 = .ok (.istore_n 3, 1) := dk_62 (dk_at dksX3_laysBack_0 1 rfl rfl)
theorem dX3_laysBack_2 : decode cX3_laysBack 2 = .ok (.iload_n 3, 1) := dk_29 (dk_at dksX3_laysBack_0 2 rfl rfl)
theorem dX3_laysBack_3 : decode cX3_laysBack 3 = .ok (.bipush 31, 2) := dk_16 31 (dk_at dksX3_laysBack_0 3 rfl rfl)
theorem dX3_laysBack_5 : decode cX3_laysBack 5 = .ok (.if_icmp .ge 20, 3) := dk_162 0 20 (dk_at dksX3_laysBack_0 5 rfl rfl)
theorem dX3_laysBack_8 : decode cX3_laysBack 8 = .ok (.aload_n 0, 1) := dk_42 (dk_at dksX3_laysBack_0 8 rfl rfl)
theorem dX3_laysBack_9 : decode cX3_laysBack 9 = .ok (.getfield 22, 3) := dk_180 0 22 (dk_at dksX3_laysBack_0 9 rfl rfl)
theorem dX3_laysBack_12 : decode cX3_laysBack 12 = .ok (.iload_n 3, 1) := dk_29 (dk_at dksX3_laysBack_0 12 rfl rfl)
theorem dX3_laysBack_13 : decode cX3_laysBack 13 = .ok (.aload_n 1, 1) := dk_43 (dk_at dksX3_laysBack_0 13 rfl rfl)
theorem dX3_laysBack_14 : decode cX3_laysBack 14 = .ok (.iload_n 2, 1) := dk_28 (dk_at dksX3_laysBack_0 14 rfl rfl)
theorem dX3_laysBack_15 : decode cX3_laysBack 15 = .ok (.iload_n 3, 1) := dk_29 (dk_at dksX3_laysBack_0 15 rfl rfl)
theorem dX3_laysBack_16 : decode cX3_laysBack 16 = .ok (.iadd, 1) := dk_96 (dk_at dksX3_laysBack_0 16 rfl rfl)
theorem dX3_laysBack_17 : decode cX3_laysBack 17 = .ok (.iaload, 1) := dk_46 (dk_at dksX3_laysBack_0 17 rfl rfl)
theorem dX3_laysBack_18 : decode cX3_laysBack 18 = .ok (.iastore, 1) := dk_79 (dk_at dksX3_laysBack_0 18 rfl rfl)
theorem dX3_laysBack_19 : decode cX3_laysBack 19 = .ok (.iinc 3 1, 3) := dk_132 3 1 (dk_at dksX3_laysBack_0 19 rfl rfl)
theorem dX3_laysBack_22 : decode cX3_laysBack 22 = .ok (.goto (-20), 3) := dk_167 255 236 (dk_at dksX3_laysBack_1 0 rfl rfl)
theorem dX3_laysBack_25 : decode cX3_laysBack 25 = .ok (.return_, 1) := dk_177 (dk_at dksX3_laysBack_1 3 rfl rfl)
def dkwX3_coming_4 : List UInt8 := [167, 0, 9, 42, 180, 0, 104, 28, 46, 172]
abbrev dktX3_coming_4 : List UInt8 := dkwX3_coming_4 ++ []
def dkwX3_coming_3 : List UInt8 := [154, 0, 12, 42, 180, 0, 98, 28, 46, 167, 0, 23, 29, 4, 160, 0, 12, 42, 180, 0, 101, 28, 46]
abbrev dktX3_coming_3 : List UInt8 := dkwX3_coming_3 ++ dktX3_coming_4
def dkwX3_coming_2 : List UInt8 := [161, 0, 6, 16, 254, 172, 42, 182, 1, 11, 42, 182, 1, 14, 42, 42, 180, 0, 86, 3, 182, 1, 17, 29]
abbrev dktX3_coming_2 : List UInt8 := dkwX3_coming_2 ++ dktX3_coming_3
def dkwX3_coming_1 : List UInt8 := [182, 1, 20, 54, 4, 21, 4, 156, 0, 6, 21, 4, 172, 42, 27, 182, 1, 23, 28, 42, 180, 1, 1]
abbrev dktX3_coming_1 : List UInt8 := dkwX3_coming_1 ++ dktX3_coming_2
def dkwX3_coming_0 : List UInt8 := [27, 184, 0, 127, 153, 0, 16, 28, 155, 0, 12, 29, 3, 5, 184, 0, 119, 154, 0, 5, 2, 172, 42, 27]
abbrev dktX3_coming_0 : List UInt8 := dkwX3_coming_0 ++ dktX3_coming_1
theorem dksX3_coming_0 : cX3_coming.data.toList.drop 0 = dktX3_coming_0 := by decide +kernel
theorem dksX3_coming_1 : cX3_coming.data.toList.drop 24 = dktX3_coming_1 := dk_seg dksX3_coming_0 24 rfl rfl
theorem dksX3_coming_2 : cX3_coming.data.toList.drop 47 = dktX3_coming_2 := dk_seg dksX3_coming_1 23 rfl rfl
theorem dksX3_coming_3 : cX3_coming.data.toList.drop 71 = dktX3_coming_3 := dk_seg dksX3_coming_2 24 rfl rfl
theorem dksX3_coming_4 : cX3_coming.data.toList.drop 94 = dktX3_coming_4 := dk_seg dksX3_coming_3 23 rfl rfl
theorem dX3_coming_0 : decode cX3_coming 0 = .ok (.iload_n 1, 1) := dk_27 (dk_at dksX3_coming_0 0 rfl rfl)
theorem dX3_coming_1 : decode cX3_coming 1 = .ok (.invokestatic 127, 3) := dk_184 0 127 (dk_at dksX3_coming_0 1 rfl rfl)
theorem dX3_coming_4 : decode cX3_coming 4 = .ok (.ifCond .eq 16, 3) := dk_153 0 16 (dk_at dksX3_coming_0 4 rfl rfl)
theorem dX3_coming_7 : decode cX3_coming 7 = .ok (.iload_n 2, 1) := dk_28 (dk_at dksX3_coming_0 7 rfl rfl)
theorem dX3_coming_8 : decode cX3_coming 8 = .ok (.ifCond .lt 12, 3) := dk_155 0 12 (dk_at dksX3_coming_0 8 rfl rfl)
theorem dX3_coming_11 : decode cX3_coming 11 = .ok (.iload_n 3, 1) := dk_29 (dk_at dksX3_coming_0 11 rfl rfl)
theorem dX3_coming_12 : decode cX3_coming 12 = .ok (.iconst 0, 1) := dk_3 (dk_at dksX3_coming_0 12 rfl rfl)
theorem dX3_coming_13 : decode cX3_coming 13 = .ok (.iconst 2, 1) := dk_5 (dk_at dksX3_coming_0 13 rfl rfl)
theorem dX3_coming_14 : decode cX3_coming 14 = .ok (.invokestatic 119, 3) := dk_184 0 119 (dk_at dksX3_coming_0 14 rfl rfl)
theorem dX3_coming_17 : decode cX3_coming 17 = .ok (.ifCond .ne 5, 3) := dk_154 0 5 (dk_at dksX3_coming_0 17 rfl rfl)
theorem dX3_coming_20 : decode cX3_coming 20 = .ok (.iconst (-1), 1) := dk_2 (dk_at dksX3_coming_0 20 rfl rfl)
theorem dX3_coming_21 : decode cX3_coming 21 = .ok (.ireturn, 1) := dk_172 (dk_at dksX3_coming_0 21 rfl rfl)
theorem dX3_coming_22 : decode cX3_coming 22 = .ok (.aload_n 0, 1) := dk_42 (dk_at dksX3_coming_0 22 rfl rfl)
theorem dX3_coming_23 : decode cX3_coming 23 = .ok (.iload_n 1, 1) := dk_27 (dk_at dksX3_coming_0 23 rfl rfl)
theorem dX3_coming_24 : decode cX3_coming 24 = .ok (.invokevirtual 276, 3) := dk_182 1 20 (dk_at dksX3_coming_1 0 rfl rfl)
theorem dX3_coming_27 : decode cX3_coming 27 = .ok (.istore 4, 2) := dk_54 4 (dk_at dksX3_coming_1 3 rfl rfl)
theorem dX3_coming_29 : decode cX3_coming 29 = .ok (.iload 4, 2) := dk_21 4 (dk_at dksX3_coming_1 5 rfl rfl)
theorem dX3_coming_31 : decode cX3_coming 31 = .ok (.ifCond .ge 6, 3) := dk_156 0 6 (dk_at dksX3_coming_1 7 rfl rfl)
theorem dX3_coming_34 : decode cX3_coming 34 = .ok (.iload 4, 2) := dk_21 4 (dk_at dksX3_coming_1 10 rfl rfl)
theorem dX3_coming_36 : decode cX3_coming 36 = .ok (.ireturn, 1) := dk_172 (dk_at dksX3_coming_1 12 rfl rfl)
theorem dX3_coming_37 : decode cX3_coming 37 = .ok (.aload_n 0, 1) := dk_42 (dk_at dksX3_coming_1 13 rfl rfl)
theorem dX3_coming_38 : decode cX3_coming 38 = .ok (.iload_n 1, 1) := dk_27 (dk_at dksX3_coming_1 14 rfl rfl)
theorem dX3_coming_39 : decode cX3_coming 39 = .ok (.invokevirtual 279, 3) := dk_182 1 23 (dk_at dksX3_coming_1 15 rfl rfl)
theorem dX3_coming_42 : decode cX3_coming 42 = .ok (.iload_n 2, 1) := dk_28 (dk_at dksX3_coming_1 18 rfl rfl)
theorem dX3_coming_43 : decode cX3_coming 43 = .ok (.aload_n 0, 1) := dk_42 (dk_at dksX3_coming_1 19 rfl rfl)
theorem dX3_coming_44 : decode cX3_coming 44 = .ok (.getfield 257, 3) := dk_180 1 1 (dk_at dksX3_coming_1 20 rfl rfl)
theorem dX3_coming_47 : decode cX3_coming 47 = .ok (.if_icmp .lt 6, 3) := dk_161 0 6 (dk_at dksX3_coming_2 0 rfl rfl)
theorem dX3_coming_50 : decode cX3_coming 50 = .ok (.bipush (-2), 2) := dk_16 254 (dk_at dksX3_coming_2 3 rfl rfl)
theorem dX3_coming_52 : decode cX3_coming 52 = .ok (.ireturn, 1) := dk_172 (dk_at dksX3_coming_2 5 rfl rfl)
theorem dX3_coming_53 : decode cX3_coming 53 = .ok (.aload_n 0, 1) := dk_42 (dk_at dksX3_coming_2 6 rfl rfl)
theorem dX3_coming_54 : decode cX3_coming 54 = .ok (.invokevirtual 267, 3) := dk_182 1 11 (dk_at dksX3_coming_2 7 rfl rfl)
theorem dX3_coming_57 : decode cX3_coming 57 = .ok (.aload_n 0, 1) := dk_42 (dk_at dksX3_coming_2 10 rfl rfl)
theorem dX3_coming_58 : decode cX3_coming 58 = .ok (.invokevirtual 270, 3) := dk_182 1 14 (dk_at dksX3_coming_2 11 rfl rfl)
theorem dX3_coming_61 : decode cX3_coming 61 = .ok (.aload_n 0, 1) := dk_42 (dk_at dksX3_coming_2 14 rfl rfl)
theorem dX3_coming_62 : decode cX3_coming 62 = .ok (.aload_n 0, 1) := dk_42 (dk_at dksX3_coming_2 15 rfl rfl)
theorem dX3_coming_63 : decode cX3_coming 63 = .ok (.getfield 86, 3) := dk_180 0 86 (dk_at dksX3_coming_2 16 rfl rfl)
theorem dX3_coming_66 : decode cX3_coming 66 = .ok (.iconst 0, 1) := dk_3 (dk_at dksX3_coming_2 19 rfl rfl)
theorem dX3_coming_67 : decode cX3_coming 67 = .ok (.invokevirtual 273, 3) := dk_182 1 17 (dk_at dksX3_coming_2 20 rfl rfl)
theorem dX3_coming_70 : decode cX3_coming 70 = .ok (.iload_n 3, 1) := dk_29 (dk_at dksX3_coming_2 23 rfl rfl)
theorem dX3_coming_71 : decode cX3_coming 71 = .ok (.ifCond .ne 12, 3) := dk_154 0 12 (dk_at dksX3_coming_3 0 rfl rfl)
theorem dX3_coming_74 : decode cX3_coming 74 = .ok (.aload_n 0, 1) := dk_42 (dk_at dksX3_coming_3 3 rfl rfl)
theorem dX3_coming_75 : decode cX3_coming 75 = .ok (.getfield 98, 3) := dk_180 0 98 (dk_at dksX3_coming_3 4 rfl rfl)
theorem dX3_coming_78 : decode cX3_coming 78 = .ok (.iload_n 2, 1) := dk_28 (dk_at dksX3_coming_3 7 rfl rfl)
theorem dX3_coming_79 : decode cX3_coming 79 = .ok (.iaload, 1) := dk_46 (dk_at dksX3_coming_3 8 rfl rfl)
theorem dX3_coming_80 : decode cX3_coming 80 = .ok (.goto 23, 3) := dk_167 0 23 (dk_at dksX3_coming_3 9 rfl rfl)
theorem dX3_coming_83 : decode cX3_coming 83 = .ok (.iload_n 3, 1) := dk_29 (dk_at dksX3_coming_3 12 rfl rfl)
theorem dX3_coming_84 : decode cX3_coming 84 = .ok (.iconst 1, 1) := dk_4 (dk_at dksX3_coming_3 13 rfl rfl)
theorem dX3_coming_85 : decode cX3_coming 85 = .ok (.if_icmp .ne 12, 3) := dk_160 0 12 (dk_at dksX3_coming_3 14 rfl rfl)
theorem dX3_coming_88 : decode cX3_coming 88 = .ok (.aload_n 0, 1) := dk_42 (dk_at dksX3_coming_3 17 rfl rfl)
theorem dX3_coming_89 : decode cX3_coming 89 = .ok (.getfield 101, 3) := dk_180 0 101 (dk_at dksX3_coming_3 18 rfl rfl)
theorem dX3_coming_92 : decode cX3_coming 92 = .ok (.iload_n 2, 1) := dk_28 (dk_at dksX3_coming_3 21 rfl rfl)
theorem dX3_coming_93 : decode cX3_coming 93 = .ok (.iaload, 1) := dk_46 (dk_at dksX3_coming_3 22 rfl rfl)
theorem dX3_coming_94 : decode cX3_coming 94 = .ok (.goto 9, 3) := dk_167 0 9 (dk_at dksX3_coming_4 0 rfl rfl)
theorem dX3_coming_97 : decode cX3_coming 97 = .ok (.aload_n 0, 1) := dk_42 (dk_at dksX3_coming_4 3 rfl rfl)
theorem dX3_coming_98 : decode cX3_coming 98 = .ok (.getfield 104, 3) := dk_180 0 104 (dk_at dksX3_coming_4 4 rfl rfl)
theorem dX3_coming_101 : decode cX3_coming 101 = .ok (.iload_n 2, 1) := dk_28 (dk_at dksX3_coming_4 7 rfl rfl)
theorem dX3_coming_102 : decode cX3_coming 102 = .ok (.iaload, 1) := dk_46 (dk_at dksX3_coming_4 8 rfl rfl)
theorem dX3_coming_103 : decode cX3_coming 103 = .ok (.ireturn, 1) := dk_172 (dk_at dksX3_coming_4 9 rfl rfl)
def dkwX3_later_4 : List UInt8 := [167, 0, 9, 42, 180, 0, 22, 29, 46, 54, 5, 42, 42, 180, 0, 86, 3, 182, 1, 17, 21, 5, 172]
abbrev dktX3_later_4 : List UInt8 := dkwX3_later_4 ++ []
def dkwX3_later_3 : List UInt8 := [182, 1, 26, 42, 182, 1, 14, 132, 5, 1, 167, 255, 234, 29, 2, 160, 0, 10, 42, 180, 0, 241]
abbrev dktX3_later_3 : List UInt8 := dkwX3_later_3 ++ dktX3_later_4
def dkwX3_later_2 : List UInt8 := [27, 182, 1, 23, 42, 182, 1, 11, 3, 54, 5, 21, 5, 28, 162, 0, 22, 21, 5, 158, 0, 7, 42]
abbrev dktX3_later_2 : List UInt8 := dkwX3_later_2 ++ dktX3_later_3
def dkwX3_later_1 : List UInt8 := [182, 0, 137, 154, 0, 5, 2, 172, 42, 27, 182, 1, 20, 54, 4, 21, 4, 156, 0, 6, 21, 4, 172, 42]
abbrev dktX3_later_1 : List UInt8 := dkwX3_later_1 ++ dktX3_later_2
def dkwX3_later_0 : List UInt8 := [27, 184, 0, 127, 153, 0, 26, 28, 3, 16, 20, 184, 0, 119, 153, 0, 16, 29, 2, 159, 0, 13, 42, 29]
abbrev dktX3_later_0 : List UInt8 := dkwX3_later_0 ++ dktX3_later_1
theorem dksX3_later_0 : cX3_later.data.toList.drop 0 = dktX3_later_0 := by decide +kernel
theorem dksX3_later_1 : cX3_later.data.toList.drop 24 = dktX3_later_1 := dk_seg dksX3_later_0 24 rfl rfl
theorem dksX3_later_2 : cX3_later.data.toList.drop 48 = dktX3_later_2 := dk_seg dksX3_later_1 24 rfl rfl
theorem dksX3_later_3 : cX3_later.data.toList.drop 71 = dktX3_later_3 := dk_seg dksX3_later_2 23 rfl rfl
theorem dksX3_later_4 : cX3_later.data.toList.drop 93 = dktX3_later_4 := dk_seg dksX3_later_3 22 rfl rfl
theorem dX3_later_0 : decode cX3_later 0 = .ok (.iload_n 1, 1) := dk_27 (dk_at dksX3_later_0 0 rfl rfl)
theorem dX3_later_1 : decode cX3_later 1 = .ok (.invokestatic 127, 3) := dk_184 0 127 (dk_at dksX3_later_0 1 rfl rfl)
theorem dX3_later_4 : decode cX3_later 4 = .ok (.ifCond .eq 26, 3) := dk_153 0 26 (dk_at dksX3_later_0 4 rfl rfl)
theorem dX3_later_7 : decode cX3_later 7 = .ok (.iload_n 2, 1) := dk_28 (dk_at dksX3_later_0 7 rfl rfl)
theorem dX3_later_8 : decode cX3_later 8 = .ok (.iconst 0, 1) := dk_3 (dk_at dksX3_later_0 8 rfl rfl)
theorem dX3_later_9 : decode cX3_later 9 = .ok (.bipush 20, 2) := dk_16 20 (dk_at dksX3_later_0 9 rfl rfl)
theorem dX3_later_11 : decode cX3_later 11 = .ok (.invokestatic 119, 3) := dk_184 0 119 (dk_at dksX3_later_0 11 rfl rfl)
theorem dX3_later_14 : decode cX3_later 14 = .ok (.ifCond .eq 16, 3) := dk_153 0 16 (dk_at dksX3_later_0 14 rfl rfl)
theorem dX3_later_17 : decode cX3_later 17 = .ok (.iload_n 3, 1) := dk_29 (dk_at dksX3_later_0 17 rfl rfl)
theorem dX3_later_18 : decode cX3_later 18 = .ok (.iconst (-1), 1) := dk_2 (dk_at dksX3_later_0 18 rfl rfl)
theorem dX3_later_19 : decode cX3_later 19 = .ok (.if_icmp .eq 13, 3) := dk_159 0 13 (dk_at dksX3_later_0 19 rfl rfl)
theorem dX3_later_22 : decode cX3_later 22 = .ok (.aload_n 0, 1) := dk_42 (dk_at dksX3_later_0 22 rfl rfl)
theorem dX3_later_23 : decode cX3_later 23 = .ok (.iload_n 3, 1) := dk_29 (dk_at dksX3_later_0 23 rfl rfl)
theorem dX3_later_24 : decode cX3_later 24 = .ok (.invokevirtual 137, 3) := dk_182 0 137 (dk_at dksX3_later_1 0 rfl rfl)
theorem dX3_later_27 : decode cX3_later 27 = .ok (.ifCond .ne 5, 3) := dk_154 0 5 (dk_at dksX3_later_1 3 rfl rfl)
theorem dX3_later_30 : decode cX3_later 30 = .ok (.iconst (-1), 1) := dk_2 (dk_at dksX3_later_1 6 rfl rfl)
theorem dX3_later_31 : decode cX3_later 31 = .ok (.ireturn, 1) := dk_172 (dk_at dksX3_later_1 7 rfl rfl)
theorem dX3_later_32 : decode cX3_later 32 = .ok (.aload_n 0, 1) := dk_42 (dk_at dksX3_later_1 8 rfl rfl)
theorem dX3_later_33 : decode cX3_later 33 = .ok (.iload_n 1, 1) := dk_27 (dk_at dksX3_later_1 9 rfl rfl)
theorem dX3_later_34 : decode cX3_later 34 = .ok (.invokevirtual 276, 3) := dk_182 1 20 (dk_at dksX3_later_1 10 rfl rfl)
theorem dX3_later_37 : decode cX3_later 37 = .ok (.istore 4, 2) := dk_54 4 (dk_at dksX3_later_1 13 rfl rfl)
theorem dX3_later_39 : decode cX3_later 39 = .ok (.iload 4, 2) := dk_21 4 (dk_at dksX3_later_1 15 rfl rfl)
theorem dX3_later_41 : decode cX3_later 41 = .ok (.ifCond .ge 6, 3) := dk_156 0 6 (dk_at dksX3_later_1 17 rfl rfl)
theorem dX3_later_44 : decode cX3_later 44 = .ok (.iload 4, 2) := dk_21 4 (dk_at dksX3_later_1 20 rfl rfl)
theorem dX3_later_46 : decode cX3_later 46 = .ok (.ireturn, 1) := dk_172 (dk_at dksX3_later_1 22 rfl rfl)
theorem dX3_later_47 : decode cX3_later 47 = .ok (.aload_n 0, 1) := dk_42 (dk_at dksX3_later_1 23 rfl rfl)
theorem dX3_later_48 : decode cX3_later 48 = .ok (.iload_n 1, 1) := dk_27 (dk_at dksX3_later_2 0 rfl rfl)
theorem dX3_later_49 : decode cX3_later 49 = .ok (.invokevirtual 279, 3) := dk_182 1 23 (dk_at dksX3_later_2 1 rfl rfl)
theorem dX3_later_52 : decode cX3_later 52 = .ok (.aload_n 0, 1) := dk_42 (dk_at dksX3_later_2 4 rfl rfl)
theorem dX3_later_53 : decode cX3_later 53 = .ok (.invokevirtual 267, 3) := dk_182 1 11 (dk_at dksX3_later_2 5 rfl rfl)
theorem dX3_later_56 : decode cX3_later 56 = .ok (.iconst 0, 1) := dk_3 (dk_at dksX3_later_2 8 rfl rfl)
theorem dX3_later_57 : decode cX3_later 57 = .ok (.istore 5, 2) := dk_54 5 (dk_at dksX3_later_2 9 rfl rfl)
theorem dX3_later_59 : decode cX3_later 59 = .ok (.iload 5, 2) := dk_21 5 (dk_at dksX3_later_2 11 rfl rfl)
theorem dX3_later_61 : decode cX3_later 61 = .ok (.iload_n 2, 1) := dk_28 (dk_at dksX3_later_2 13 rfl rfl)
theorem dX3_later_62 : decode cX3_later 62 = .ok (.if_icmp .ge 22, 3) := dk_162 0 22 (dk_at dksX3_later_2 14 rfl rfl)
theorem dX3_later_65 : decode cX3_later 65 = .ok (.iload 5, 2) := dk_21 5 (dk_at dksX3_later_2 17 rfl rfl)
theorem dX3_later_67 : decode cX3_later 67 = .ok (.ifCond .le 7, 3) := dk_158 0 7 (dk_at dksX3_later_2 19 rfl rfl)
theorem dX3_later_70 : decode cX3_later 70 = .ok (.aload_n 0, 1) := dk_42 (dk_at dksX3_later_2 22 rfl rfl)
theorem dX3_later_71 : decode cX3_later 71 = .ok (.invokevirtual 282, 3) := dk_182 1 26 (dk_at dksX3_later_3 0 rfl rfl)
theorem dX3_later_74 : decode cX3_later 74 = .ok (.aload_n 0, 1) := dk_42 (dk_at dksX3_later_3 3 rfl rfl)
theorem dX3_later_75 : decode cX3_later 75 = .ok (.invokevirtual 270, 3) := dk_182 1 14 (dk_at dksX3_later_3 4 rfl rfl)
theorem dX3_later_78 : decode cX3_later 78 = .ok (.iinc 5 1, 3) := dk_132 5 1 (dk_at dksX3_later_3 7 rfl rfl)
theorem dX3_later_81 : decode cX3_later 81 = .ok (.goto (-22), 3) := dk_167 255 234 (dk_at dksX3_later_3 10 rfl rfl)
theorem dX3_later_84 : decode cX3_later 84 = .ok (.iload_n 3, 1) := dk_29 (dk_at dksX3_later_3 13 rfl rfl)
theorem dX3_later_85 : decode cX3_later 85 = .ok (.iconst (-1), 1) := dk_2 (dk_at dksX3_later_3 14 rfl rfl)
theorem dX3_later_86 : decode cX3_later 86 = .ok (.if_icmp .ne 10, 3) := dk_160 0 10 (dk_at dksX3_later_3 15 rfl rfl)
theorem dX3_later_89 : decode cX3_later 89 = .ok (.aload_n 0, 1) := dk_42 (dk_at dksX3_later_3 18 rfl rfl)
theorem dX3_later_90 : decode cX3_later 90 = .ok (.getfield 241, 3) := dk_180 0 241 (dk_at dksX3_later_3 19 rfl rfl)
theorem dX3_later_93 : decode cX3_later 93 = .ok (.goto 9, 3) := dk_167 0 9 (dk_at dksX3_later_4 0 rfl rfl)
theorem dX3_later_96 : decode cX3_later 96 = .ok (.aload_n 0, 1) := dk_42 (dk_at dksX3_later_4 3 rfl rfl)
theorem dX3_later_97 : decode cX3_later 97 = .ok (.getfield 22, 3) := dk_180 0 22 (dk_at dksX3_later_4 4 rfl rfl)
theorem dX3_later_100 : decode cX3_later 100 = .ok (.iload_n 3, 1) := dk_29 (dk_at dksX3_later_4 7 rfl rfl)
theorem dX3_later_101 : decode cX3_later 101 = .ok (.iaload, 1) := dk_46 (dk_at dksX3_later_4 8 rfl rfl)
theorem dX3_later_102 : decode cX3_later 102 = .ok (.istore 5, 2) := dk_54 5 (dk_at dksX3_later_4 9 rfl rfl)
theorem dX3_later_104 : decode cX3_later 104 = .ok (.aload_n 0, 1) := dk_42 (dk_at dksX3_later_4 11 rfl rfl)
theorem dX3_later_105 : decode cX3_later 105 = .ok (.aload_n 0, 1) := dk_42 (dk_at dksX3_later_4 12 rfl rfl)
theorem dX3_later_106 : decode cX3_later 106 = .ok (.getfield 86, 3) := dk_180 0 86 (dk_at dksX3_later_4 13 rfl rfl)
theorem dX3_later_109 : decode cX3_later 109 = .ok (.iconst 0, 1) := dk_3 (dk_at dksX3_later_4 16 rfl rfl)
theorem dX3_later_110 : decode cX3_later 110 = .ok (.invokevirtual 273, 3) := dk_182 1 17 (dk_at dksX3_later_4 17 rfl rfl)
theorem dX3_later_113 : decode cX3_later 113 = .ok (.iload 5, 2) := dk_21 5 (dk_at dksX3_later_4 20 rfl rfl)
theorem dX3_later_115 : decode cX3_later 115 = .ok (.ireturn, 1) := dk_172 (dk_at dksX3_later_4 22 rfl rfl)
def dkwX3_ends_1 : List UInt8 := [27, 16, 18, 162, 0, 16, 42, 180, 0, 22, 27, 3, 79, 132, 1, 1, 167, 255, 240, 177]
abbrev dktX3_ends_1 : List UInt8 := dkwX3_ends_1 ++ []
def dkwX3_ends_0 : List UInt8 := [42, 180, 0, 22, 16, 8, 16, 99, 42, 180, 0, 22, 16, 8, 46, 4, 96, 184, 0, 230, 79, 16, 9, 60]
abbrev dktX3_ends_0 : List UInt8 := dkwX3_ends_0 ++ dktX3_ends_1
theorem dksX3_ends_0 : cX3_ends.data.toList.drop 0 = dktX3_ends_0 := by decide +kernel
theorem dksX3_ends_1 : cX3_ends.data.toList.drop 24 = dktX3_ends_1 := dk_seg dksX3_ends_0 24 rfl rfl
theorem dX3_ends_0 : decode cX3_ends 0 = .ok (.aload_n 0, 1) := dk_42 (dk_at dksX3_ends_0 0 rfl rfl)
theorem dX3_ends_1 : decode cX3_ends 1 = .ok (.getfield 22, 3) := dk_180 0 22 (dk_at dksX3_ends_0 1 rfl rfl)
theorem dX3_ends_4 : decode cX3_ends 4 = .ok (.bipush 8, 2) := dk_16 8 (dk_at dksX3_ends_0 4 rfl rfl)
theorem dX3_ends_6 : decode cX3_ends 6 = .ok (.bipush 99, 2) := dk_16 99 (dk_at dksX3_ends_0 6 rfl rfl)
theorem dX3_ends_8 : decode cX3_ends 8 = .ok (.aload_n 0, 1) := dk_42 (dk_at dksX3_ends_0 8 rfl rfl)
theorem dX3_ends_9 : decode cX3_ends 9 = .ok (.getfield 22, 3) := dk_180 0 22 (dk_at dksX3_ends_0 9 rfl rfl)
theorem dX3_ends_12 : decode cX3_ends 12 = .ok (.bipush 8, 2) := dk_16 8 (dk_at dksX3_ends_0 12 rfl rfl)
theorem dX3_ends_14 : decode cX3_ends 14 = .ok (.iaload, 1) := dk_46 (dk_at dksX3_ends_0 14 rfl rfl)
theorem dX3_ends_15 : decode cX3_ends 15 = .ok (.iconst 1, 1) := dk_4 (dk_at dksX3_ends_0 15 rfl rfl)
theorem dX3_ends_16 : decode cX3_ends 16 = .ok (.iadd, 1) := dk_96 (dk_at dksX3_ends_0 16 rfl rfl)
theorem dX3_ends_17 : decode cX3_ends 17 = .ok (.invokestatic 230, 3) := dk_184 0 230 (dk_at dksX3_ends_0 17 rfl rfl)
theorem dX3_ends_20 : decode cX3_ends 20 = .ok (.iastore, 1) := dk_79 (dk_at dksX3_ends_0 20 rfl rfl)
theorem dX3_ends_21 : decode cX3_ends 21 = .ok (.bipush 9, 2) := dk_16 9 (dk_at dksX3_ends_0 21 rfl rfl)
theorem dX3_ends_23 : decode cX3_ends 23 = .ok (.istore_n 1, 1) := dk_60 (dk_at dksX3_ends_0 23 rfl rfl)
theorem dX3_ends_24 : decode cX3_ends 24 = .ok (.iload_n 1, 1) := dk_27 (dk_at dksX3_ends_1 0 rfl rfl)
theorem dX3_ends_25 : decode cX3_ends 25 = .ok (.bipush 18, 2) := dk_16 18 (dk_at dksX3_ends_1 1 rfl rfl)
theorem dX3_ends_27 : decode cX3_ends 27 = .ok (.if_icmp .ge 16, 3) := dk_162 0 16 (dk_at dksX3_ends_1 3 rfl rfl)
theorem dX3_ends_30 : decode cX3_ends 30 = .ok (.aload_n 0, 1) := dk_42 (dk_at dksX3_ends_1 6 rfl rfl)
theorem dX3_ends_31 : decode cX3_ends 31 = .ok (.getfield 22, 3) := dk_180 0 22 (dk_at dksX3_ends_1 7 rfl rfl)
theorem dX3_ends_34 : decode cX3_ends 34 = .ok (.iload_n 1, 1) := dk_27 (dk_at dksX3_ends_1 10 rfl rfl)
theorem dX3_ends_35 : decode cX3_ends 35 = .ok (.iconst 0, 1) := dk_3 (dk_at dksX3_ends_1 11 rfl rfl)
theorem dX3_ends_36 : decode cX3_ends 36 = .ok (.iastore, 1) := dk_79 (dk_at dksX3_ends_1 12 rfl rfl)
theorem dX3_ends_37 : decode cX3_ends 37 = .ok (.iinc 1 1, 3) := dk_132 1 1 (dk_at dksX3_ends_1 13 rfl rfl)
theorem dX3_ends_40 : decode cX3_ends 40 = .ok (.goto (-16), 3) := dk_167 255 240 (dk_at dksX3_ends_1 16 rfl rfl)
theorem dX3_ends_43 : decode cX3_ends 43 = .ok (.return_, 1) := dk_177 (dk_at dksX3_ends_1 19 rfl rfl)
def dkwX3_onceMore_5 : List UInt8 := [132, 8, 1, 167, 255, 208, 29, 154, 0, 8, 21, 5, 167, 0, 5, 21, 6, 172]
abbrev dktX3_onceMore_5 : List UInt8 := dkwX3_onceMore_5 ++ []
def dkwX3_onceMore_4 : List UInt8 := [21, 8, 182, 1, 35, 21, 9, 21, 6, 163, 0, 6, 167, 0, 11, 21, 9, 54, 6, 21, 8, 54, 5]
abbrev dktX3_onceMore_4 : List UInt8 := dkwX3_onceMore_4 ++ dktX3_onceMore_5
def dkwX3_onceMore_3 : List UInt8 := [54, 8, 21, 8, 21, 7, 163, 0, 47, 42, 21, 8, 28, 182, 1, 28, 42, 28, 182, 1, 32, 54, 9, 42]
abbrev dktX3_onceMore_3 : List UInt8 := dkwX3_onceMore_3 ++ dktX3_onceMore_4
def dkwX3_onceMore_2 : List UInt8 := [180, 1, 1, 16, 20, 160, 0, 6, 16, 251, 172, 3, 54, 5, 2, 54, 6, 42, 180, 1, 1, 54, 7, 3]
abbrev dktX3_onceMore_2 : List UInt8 := dkwX3_onceMore_2 ++ dktX3_onceMore_3
def dkwX3_onceMore_1 : List UInt8 := [2, 172, 42, 27, 182, 1, 20, 54, 4, 21, 4, 156, 0, 6, 21, 4, 172, 42, 27, 182, 1, 23, 42]
abbrev dktX3_onceMore_1 : List UInt8 := dkwX3_onceMore_1 ++ dktX3_onceMore_2
def dkwX3_onceMore_0 : List UInt8 := [27, 184, 0, 127, 153, 0, 20, 42, 28, 182, 0, 137, 153, 0, 12, 29, 3, 4, 184, 0, 119, 154, 0, 5]
abbrev dktX3_onceMore_0 : List UInt8 := dkwX3_onceMore_0 ++ dktX3_onceMore_1
theorem dksX3_onceMore_0 : cX3_onceMore.data.toList.drop 0 = dktX3_onceMore_0 := by decide +kernel
theorem dksX3_onceMore_1 : cX3_onceMore.data.toList.drop 24 = dktX3_onceMore_1 := dk_seg dksX3_onceMore_0 24 rfl rfl
theorem dksX3_onceMore_2 : cX3_onceMore.data.toList.drop 47 = dktX3_onceMore_2 := dk_seg dksX3_onceMore_1 23 rfl rfl
theorem dksX3_onceMore_3 : cX3_onceMore.data.toList.drop 71 = dktX3_onceMore_3 := dk_seg dksX3_onceMore_2 24 rfl rfl
theorem dksX3_onceMore_4 : cX3_onceMore.data.toList.drop 95 = dktX3_onceMore_4 := dk_seg dksX3_onceMore_3 24 rfl rfl
theorem dksX3_onceMore_5 : cX3_onceMore.data.toList.drop 118 = dktX3_onceMore_5 := dk_seg dksX3_onceMore_4 23 rfl rfl
theorem dX3_onceMore_0 : decode cX3_onceMore 0 = .ok (.iload_n 1, 1) := dk_27 (dk_at dksX3_onceMore_0 0 rfl rfl)
theorem dX3_onceMore_1 : decode cX3_onceMore 1 = .ok (.invokestatic 127, 3) := dk_184 0 127 (dk_at dksX3_onceMore_0 1 rfl rfl)
theorem dX3_onceMore_4 : decode cX3_onceMore 4 = .ok (.ifCond .eq 20, 3) := dk_153 0 20 (dk_at dksX3_onceMore_0 4 rfl rfl)
theorem dX3_onceMore_7 : decode cX3_onceMore 7 = .ok (.aload_n 0, 1) := dk_42 (dk_at dksX3_onceMore_0 7 rfl rfl)
theorem dX3_onceMore_8 : decode cX3_onceMore 8 = .ok (.iload_n 2, 1) := dk_28 (dk_at dksX3_onceMore_0 8 rfl rfl)
theorem dX3_onceMore_9 : decode cX3_onceMore 9 = .ok (.invokevirtual 137, 3) := dk_182 0 137 (dk_at dksX3_onceMore_0 9 rfl rfl)
theorem dX3_onceMore_12 : decode cX3_onceMore 12 = .ok (.ifCond .eq 12, 3) := dk_153 0 12 (dk_at dksX3_onceMore_0 12 rfl rfl)
theorem dX3_onceMore_15 : decode cX3_onceMore 15 = .ok (.iload_n 3, 1) := dk_29 (dk_at dksX3_onceMore_0 15 rfl rfl)
theorem dX3_onceMore_16 : decode cX3_onceMore 16 = .ok (.iconst 0, 1) := dk_3 (dk_at dksX3_onceMore_0 16 rfl rfl)
theorem dX3_onceMore_17 : decode cX3_onceMore 17 = .ok (.iconst 1, 1) := dk_4 (dk_at dksX3_onceMore_0 17 rfl rfl)
theorem dX3_onceMore_18 : decode cX3_onceMore 18 = .ok (.invokestatic 119, 3) := dk_184 0 119 (dk_at dksX3_onceMore_0 18 rfl rfl)
theorem dX3_onceMore_21 : decode cX3_onceMore 21 = .ok (.ifCond .ne 5, 3) := dk_154 0 5 (dk_at dksX3_onceMore_0 21 rfl rfl)
theorem dX3_onceMore_24 : decode cX3_onceMore 24 = .ok (.iconst (-1), 1) := dk_2 (dk_at dksX3_onceMore_1 0 rfl rfl)
theorem dX3_onceMore_25 : decode cX3_onceMore 25 = .ok (.ireturn, 1) := dk_172 (dk_at dksX3_onceMore_1 1 rfl rfl)
theorem dX3_onceMore_26 : decode cX3_onceMore 26 = .ok (.aload_n 0, 1) := dk_42 (dk_at dksX3_onceMore_1 2 rfl rfl)
theorem dX3_onceMore_27 : decode cX3_onceMore 27 = .ok (.iload_n 1, 1) := dk_27 (dk_at dksX3_onceMore_1 3 rfl rfl)
theorem dX3_onceMore_28 : decode cX3_onceMore 28 = .ok (.invokevirtual 276, 3) := dk_182 1 20 (dk_at dksX3_onceMore_1 4 rfl rfl)
theorem dX3_onceMore_31 : decode cX3_onceMore 31 = .ok (.istore 4, 2) := dk_54 4 (dk_at dksX3_onceMore_1 7 rfl rfl)
theorem dX3_onceMore_33 : decode cX3_onceMore 33 = .ok (.iload 4, 2) := dk_21 4 (dk_at dksX3_onceMore_1 9 rfl rfl)
theorem dX3_onceMore_35 : decode cX3_onceMore 35 = .ok (.ifCond .ge 6, 3) := dk_156 0 6 (dk_at dksX3_onceMore_1 11 rfl rfl)
theorem dX3_onceMore_38 : decode cX3_onceMore 38 = .ok (.iload 4, 2) := dk_21 4 (dk_at dksX3_onceMore_1 14 rfl rfl)
theorem dX3_onceMore_40 : decode cX3_onceMore 40 = .ok (.ireturn, 1) := dk_172 (dk_at dksX3_onceMore_1 16 rfl rfl)
theorem dX3_onceMore_41 : decode cX3_onceMore 41 = .ok (.aload_n 0, 1) := dk_42 (dk_at dksX3_onceMore_1 17 rfl rfl)
theorem dX3_onceMore_42 : decode cX3_onceMore 42 = .ok (.iload_n 1, 1) := dk_27 (dk_at dksX3_onceMore_1 18 rfl rfl)
theorem dX3_onceMore_43 : decode cX3_onceMore 43 = .ok (.invokevirtual 279, 3) := dk_182 1 23 (dk_at dksX3_onceMore_1 19 rfl rfl)
theorem dX3_onceMore_46 : decode cX3_onceMore 46 = .ok (.aload_n 0, 1) := dk_42 (dk_at dksX3_onceMore_1 22 rfl rfl)
theorem dX3_onceMore_47 : decode cX3_onceMore 47 = .ok (.getfield 257, 3) := dk_180 1 1 (dk_at dksX3_onceMore_2 0 rfl rfl)
theorem dX3_onceMore_50 : decode cX3_onceMore 50 = .ok (.bipush 20, 2) := dk_16 20 (dk_at dksX3_onceMore_2 3 rfl rfl)
theorem dX3_onceMore_52 : decode cX3_onceMore 52 = .ok (.if_icmp .ne 6, 3) := dk_160 0 6 (dk_at dksX3_onceMore_2 5 rfl rfl)
theorem dX3_onceMore_55 : decode cX3_onceMore 55 = .ok (.bipush (-5), 2) := dk_16 251 (dk_at dksX3_onceMore_2 8 rfl rfl)
theorem dX3_onceMore_57 : decode cX3_onceMore 57 = .ok (.ireturn, 1) := dk_172 (dk_at dksX3_onceMore_2 10 rfl rfl)
theorem dX3_onceMore_58 : decode cX3_onceMore 58 = .ok (.iconst 0, 1) := dk_3 (dk_at dksX3_onceMore_2 11 rfl rfl)
theorem dX3_onceMore_59 : decode cX3_onceMore 59 = .ok (.istore 5, 2) := dk_54 5 (dk_at dksX3_onceMore_2 12 rfl rfl)
theorem dX3_onceMore_61 : decode cX3_onceMore 61 = .ok (.iconst (-1), 1) := dk_2 (dk_at dksX3_onceMore_2 14 rfl rfl)
theorem dX3_onceMore_62 : decode cX3_onceMore 62 = .ok (.istore 6, 2) := dk_54 6 (dk_at dksX3_onceMore_2 15 rfl rfl)
theorem dX3_onceMore_64 : decode cX3_onceMore 64 = .ok (.aload_n 0, 1) := dk_42 (dk_at dksX3_onceMore_2 17 rfl rfl)
theorem dX3_onceMore_65 : decode cX3_onceMore 65 = .ok (.getfield 257, 3) := dk_180 1 1 (dk_at dksX3_onceMore_2 18 rfl rfl)
theorem dX3_onceMore_68 : decode cX3_onceMore 68 = .ok (.istore 7, 2) := dk_54 7 (dk_at dksX3_onceMore_2 21 rfl rfl)
theorem dX3_onceMore_70 : decode cX3_onceMore 70 = .ok (.iconst 0, 1) := dk_3 (dk_at dksX3_onceMore_2 23 rfl rfl)
theorem dX3_onceMore_71 : decode cX3_onceMore 71 = .ok (.istore 8, 2) := dk_54 8 (dk_at dksX3_onceMore_3 0 rfl rfl)
theorem dX3_onceMore_73 : decode cX3_onceMore 73 = .ok (.iload 8, 2) := dk_21 8 (dk_at dksX3_onceMore_3 2 rfl rfl)
theorem dX3_onceMore_75 : decode cX3_onceMore 75 = .ok (.iload 7, 2) := dk_21 7 (dk_at dksX3_onceMore_3 4 rfl rfl)
theorem dX3_onceMore_77 : decode cX3_onceMore 77 = .ok (.if_icmp .gt 47, 3) := dk_163 0 47 (dk_at dksX3_onceMore_3 6 rfl rfl)
theorem dX3_onceMore_80 : decode cX3_onceMore 80 = .ok (.aload_n 0, 1) := dk_42 (dk_at dksX3_onceMore_3 9 rfl rfl)
theorem dX3_onceMore_81 : decode cX3_onceMore 81 = .ok (.iload 8, 2) := dk_21 8 (dk_at dksX3_onceMore_3 10 rfl rfl)
theorem dX3_onceMore_83 : decode cX3_onceMore 83 = .ok (.iload_n 2, 1) := dk_28 (dk_at dksX3_onceMore_3 12 rfl rfl)
theorem dX3_onceMore_84 : decode cX3_onceMore 84 = .ok (.invokevirtual 284, 3) := dk_182 1 28 (dk_at dksX3_onceMore_3 13 rfl rfl)
theorem dX3_onceMore_87 : decode cX3_onceMore 87 = .ok (.aload_n 0, 1) := dk_42 (dk_at dksX3_onceMore_3 16 rfl rfl)
theorem dX3_onceMore_88 : decode cX3_onceMore 88 = .ok (.iload_n 2, 1) := dk_28 (dk_at dksX3_onceMore_3 17 rfl rfl)
theorem dX3_onceMore_89 : decode cX3_onceMore 89 = .ok (.invokevirtual 288, 3) := dk_182 1 32 (dk_at dksX3_onceMore_3 18 rfl rfl)
theorem dX3_onceMore_92 : decode cX3_onceMore 92 = .ok (.istore 9, 2) := dk_54 9 (dk_at dksX3_onceMore_3 21 rfl rfl)
theorem dX3_onceMore_94 : decode cX3_onceMore 94 = .ok (.aload_n 0, 1) := dk_42 (dk_at dksX3_onceMore_3 23 rfl rfl)
theorem dX3_onceMore_95 : decode cX3_onceMore 95 = .ok (.iload 8, 2) := dk_21 8 (dk_at dksX3_onceMore_4 0 rfl rfl)
theorem dX3_onceMore_97 : decode cX3_onceMore 97 = .ok (.invokevirtual 291, 3) := dk_182 1 35 (dk_at dksX3_onceMore_4 2 rfl rfl)
theorem dX3_onceMore_100 : decode cX3_onceMore 100 = .ok (.iload 9, 2) := dk_21 9 (dk_at dksX3_onceMore_4 5 rfl rfl)
theorem dX3_onceMore_102 : decode cX3_onceMore 102 = .ok (.iload 6, 2) := dk_21 6 (dk_at dksX3_onceMore_4 7 rfl rfl)
theorem dX3_onceMore_104 : decode cX3_onceMore 104 = .ok (.if_icmp .gt 6, 3) := dk_163 0 6 (dk_at dksX3_onceMore_4 9 rfl rfl)
theorem dX3_onceMore_107 : decode cX3_onceMore 107 = .ok (.goto 11, 3) := dk_167 0 11 (dk_at dksX3_onceMore_4 12 rfl rfl)
theorem dX3_onceMore_110 : decode cX3_onceMore 110 = .ok (.iload 9, 2) := dk_21 9 (dk_at dksX3_onceMore_4 15 rfl rfl)
theorem dX3_onceMore_112 : decode cX3_onceMore 112 = .ok (.istore 6, 2) := dk_54 6 (dk_at dksX3_onceMore_4 17 rfl rfl)
theorem dX3_onceMore_114 : decode cX3_onceMore 114 = .ok (.iload 8, 2) := dk_21 8 (dk_at dksX3_onceMore_4 19 rfl rfl)
theorem dX3_onceMore_116 : decode cX3_onceMore 116 = .ok (.istore 5, 2) := dk_54 5 (dk_at dksX3_onceMore_4 21 rfl rfl)
theorem dX3_onceMore_118 : decode cX3_onceMore 118 = .ok (.iinc 8 1, 3) := dk_132 8 1 (dk_at dksX3_onceMore_5 0 rfl rfl)
theorem dX3_onceMore_121 : decode cX3_onceMore 121 = .ok (.goto (-48), 3) := dk_167 255 208 (dk_at dksX3_onceMore_5 3 rfl rfl)
theorem dX3_onceMore_124 : decode cX3_onceMore 124 = .ok (.iload_n 3, 1) := dk_29 (dk_at dksX3_onceMore_5 6 rfl rfl)
theorem dX3_onceMore_125 : decode cX3_onceMore 125 = .ok (.ifCond .ne 8, 3) := dk_154 0 8 (dk_at dksX3_onceMore_5 7 rfl rfl)
theorem dX3_onceMore_128 : decode cX3_onceMore 128 = .ok (.iload 5, 2) := dk_21 5 (dk_at dksX3_onceMore_5 10 rfl rfl)
theorem dX3_onceMore_130 : decode cX3_onceMore 130 = .ok (.goto 5, 3) := dk_167 0 5 (dk_at dksX3_onceMore_5 12 rfl rfl)
theorem dX3_onceMore_133 : decode cX3_onceMore 133 = .ok (.iload 6, 2) := dk_21 6 (dk_at dksX3_onceMore_5 15 rfl rfl)
theorem dX3_onceMore_135 : decode cX3_onceMore 135 = .ok (.ireturn, 1) := dk_172 (dk_at dksX3_onceMore_5 17 rfl rfl)
def dkwX3_puts_1 : List UInt8 := [132, 3, 255, 167, 255, 234, 42, 180, 0, 95, 27, 28, 79, 42, 89, 180, 1, 1, 4, 96, 181, 1, 1, 177]
abbrev dktX3_puts_1 : List UInt8 := dkwX3_puts_1 ++ []
def dkwX3_puts_0 : List UInt8 := [42, 180, 1, 1, 62, 29, 27, 164, 0, 23, 42, 180, 0, 95, 29, 42, 180, 0, 95, 29, 4, 100, 46, 79]
abbrev dktX3_puts_0 : List UInt8 := dkwX3_puts_0 ++ dktX3_puts_1
theorem dksX3_puts_0 : cX3_puts.data.toList.drop 0 = dktX3_puts_0 := by decide +kernel
theorem dksX3_puts_1 : cX3_puts.data.toList.drop 24 = dktX3_puts_1 := dk_seg dksX3_puts_0 24 rfl rfl
theorem dX3_puts_0 : decode cX3_puts 0 = .ok (.aload_n 0, 1) := dk_42 (dk_at dksX3_puts_0 0 rfl rfl)
theorem dX3_puts_1 : decode cX3_puts 1 = .ok (.getfield 257, 3) := dk_180 1 1 (dk_at dksX3_puts_0 1 rfl rfl)
theorem dX3_puts_4 : decode cX3_puts 4 = .ok (.istore_n 3, 1) := dk_62 (dk_at dksX3_puts_0 4 rfl rfl)
theorem dX3_puts_5 : decode cX3_puts 5 = .ok (.iload_n 3, 1) := dk_29 (dk_at dksX3_puts_0 5 rfl rfl)
theorem dX3_puts_6 : decode cX3_puts 6 = .ok (.iload_n 1, 1) := dk_27 (dk_at dksX3_puts_0 6 rfl rfl)
theorem dX3_puts_7 : decode cX3_puts 7 = .ok (.if_icmp .le 23, 3) := dk_164 0 23 (dk_at dksX3_puts_0 7 rfl rfl)
theorem dX3_puts_10 : decode cX3_puts 10 = .ok (.aload_n 0, 1) := dk_42 (dk_at dksX3_puts_0 10 rfl rfl)
theorem dX3_puts_11 : decode cX3_puts 11 = .ok (.getfield 95, 3) := dk_180 0 95 (dk_at dksX3_puts_0 11 rfl rfl)
theorem dX3_puts_14 : decode cX3_puts 14 = .ok (.iload_n 3, 1) := dk_29 (dk_at dksX3_puts_0 14 rfl rfl)
theorem dX3_puts_15 : decode cX3_puts 15 = .ok (.aload_n 0, 1) := dk_42 (dk_at dksX3_puts_0 15 rfl rfl)
theorem dX3_puts_16 : decode cX3_puts 16 = .ok (.getfield 95, 3) := dk_180 0 95 (dk_at dksX3_puts_0 16 rfl rfl)
theorem dX3_puts_19 : decode cX3_puts 19 = .ok (.iload_n 3, 1) := dk_29 (dk_at dksX3_puts_0 19 rfl rfl)
theorem dX3_puts_20 : decode cX3_puts 20 = .ok (.iconst 1, 1) := dk_4 (dk_at dksX3_puts_0 20 rfl rfl)
theorem dX3_puts_21 : decode cX3_puts 21 = .ok (.isub, 1) := dk_100 (dk_at dksX3_puts_0 21 rfl rfl)
theorem dX3_puts_22 : decode cX3_puts 22 = .ok (.iaload, 1) := dk_46 (dk_at dksX3_puts_0 22 rfl rfl)
theorem dX3_puts_23 : decode cX3_puts 23 = .ok (.iastore, 1) := dk_79 (dk_at dksX3_puts_0 23 rfl rfl)
theorem dX3_puts_24 : decode cX3_puts 24 = .ok (.iinc 3 (-1), 3) := dk_132 3 255 (dk_at dksX3_puts_1 0 rfl rfl)
theorem dX3_puts_27 : decode cX3_puts 27 = .ok (.goto (-22), 3) := dk_167 255 234 (dk_at dksX3_puts_1 3 rfl rfl)
theorem dX3_puts_30 : decode cX3_puts 30 = .ok (.aload_n 0, 1) := dk_42 (dk_at dksX3_puts_1 6 rfl rfl)
theorem dX3_puts_31 : decode cX3_puts 31 = .ok (.getfield 95, 3) := dk_180 0 95 (dk_at dksX3_puts_1 7 rfl rfl)
theorem dX3_puts_34 : decode cX3_puts 34 = .ok (.iload_n 1, 1) := dk_27 (dk_at dksX3_puts_1 10 rfl rfl)
theorem dX3_puts_35 : decode cX3_puts 35 = .ok (.iload_n 2, 1) := dk_28 (dk_at dksX3_puts_1 11 rfl rfl)
theorem dX3_puts_36 : decode cX3_puts 36 = .ok (.iastore, 1) := dk_79 (dk_at dksX3_puts_1 12 rfl rfl)
theorem dX3_puts_37 : decode cX3_puts 37 = .ok (.aload_n 0, 1) := dk_42 (dk_at dksX3_puts_1 13 rfl rfl)
theorem dX3_puts_38 : decode cX3_puts 38 = .ok (.dup, 1) := dk_89 (dk_at dksX3_puts_1 14 rfl rfl)
theorem dX3_puts_39 : decode cX3_puts 39 = .ok (.getfield 257, 3) := dk_180 1 1 (dk_at dksX3_puts_1 15 rfl rfl)
theorem dX3_puts_42 : decode cX3_puts 42 = .ok (.iconst 1, 1) := dk_4 (dk_at dksX3_puts_1 18 rfl rfl)
theorem dX3_puts_43 : decode cX3_puts 43 = .ok (.iadd, 1) := dk_96 (dk_at dksX3_puts_1 19 rfl rfl)
theorem dX3_puts_44 : decode cX3_puts 44 = .ok (.putfield 257, 3) := dk_181 1 1 (dk_at dksX3_puts_1 20 rfl rfl)
theorem dX3_puts_47 : decode cX3_puts 47 = .ok (.return_, 1) := dk_177 (dk_at dksX3_puts_1 23 rfl rfl)
def dkwX3_purseBehind_1 : List UInt8 := [28, 172]
abbrev dktX3_purseBehind_1 : List UInt8 := dkwX3_purseBehind_1 ++ []
def dkwX3_purseBehind_0 : List UInt8 := [42, 182, 1, 11, 42, 182, 1, 14, 42, 180, 0, 22, 27, 46, 61, 42, 42, 180, 0, 86, 3, 182, 1, 17]
abbrev dktX3_purseBehind_0 : List UInt8 := dkwX3_purseBehind_0 ++ dktX3_purseBehind_1
theorem dksX3_purseBehind_0 : cX3_purseBehind.data.toList.drop 0 = dktX3_purseBehind_0 := by decide +kernel
theorem dksX3_purseBehind_1 : cX3_purseBehind.data.toList.drop 24 = dktX3_purseBehind_1 := dk_seg dksX3_purseBehind_0 24 rfl rfl
theorem dX3_purseBehind_0 : decode cX3_purseBehind 0 = .ok (.aload_n 0, 1) := dk_42 (dk_at dksX3_purseBehind_0 0 rfl rfl)
theorem dX3_purseBehind_1 : decode cX3_purseBehind 1 = .ok (.invokevirtual 267, 3) := dk_182 1 11 (dk_at dksX3_purseBehind_0 1 rfl rfl)
theorem dX3_purseBehind_4 : decode cX3_purseBehind 4 = .ok (.aload_n 0, 1) := dk_42 (dk_at dksX3_purseBehind_0 4 rfl rfl)
theorem dX3_purseBehind_5 : decode cX3_purseBehind 5 = .ok (.invokevirtual 270, 3) := dk_182 1 14 (dk_at dksX3_purseBehind_0 5 rfl rfl)
theorem dX3_purseBehind_8 : decode cX3_purseBehind 8 = .ok (.aload_n 0, 1) := dk_42 (dk_at dksX3_purseBehind_0 8 rfl rfl)
theorem dX3_purseBehind_9 : decode cX3_purseBehind 9 = .ok (.getfield 22, 3) := dk_180 0 22 (dk_at dksX3_purseBehind_0 9 rfl rfl)
theorem dX3_purseBehind_12 : decode cX3_purseBehind 12 = .ok (.iload_n 1, 1) := dk_27 (dk_at dksX3_purseBehind_0 12 rfl rfl)
theorem dX3_purseBehind_13 : decode cX3_purseBehind 13 = .ok (.iaload, 1) := dk_46 (dk_at dksX3_purseBehind_0 13 rfl rfl)
theorem dX3_purseBehind_14 : decode cX3_purseBehind 14 = .ok (.istore_n 2, 1) := dk_61 (dk_at dksX3_purseBehind_0 14 rfl rfl)
theorem dX3_purseBehind_15 : decode cX3_purseBehind 15 = .ok (.aload_n 0, 1) := dk_42 (dk_at dksX3_purseBehind_0 15 rfl rfl)
theorem dX3_purseBehind_16 : decode cX3_purseBehind 16 = .ok (.aload_n 0, 1) := dk_42 (dk_at dksX3_purseBehind_0 16 rfl rfl)
theorem dX3_purseBehind_17 : decode cX3_purseBehind 17 = .ok (.getfield 86, 3) := dk_180 0 86 (dk_at dksX3_purseBehind_0 17 rfl rfl)
theorem dX3_purseBehind_20 : decode cX3_purseBehind 20 = .ok (.iconst 0, 1) := dk_3 (dk_at dksX3_purseBehind_0 20 rfl rfl)
theorem dX3_purseBehind_21 : decode cX3_purseBehind 21 = .ok (.invokevirtual 273, 3) := dk_182 1 17 (dk_at dksX3_purseBehind_0 21 rfl rfl)
theorem dX3_purseBehind_24 : decode cX3_purseBehind 24 = .ok (.iload_n 2, 1) := dk_28 (dk_at dksX3_purseBehind_1 0 rfl rfl)
theorem dX3_purseBehind_25 : decode cX3_purseBehind 25 = .ok (.ireturn, 1) := dk_172 (dk_at dksX3_purseBehind_1 1 rfl rfl)
def dkwX3_takes_1 : List UInt8 := [28, 42, 180, 0, 95, 28, 4, 96, 46, 79, 132, 2, 1, 167, 255, 231, 177]
abbrev dktX3_takes_1 : List UInt8 := dkwX3_takes_1 ++ []
def dkwX3_takes_0 : List UInt8 := [42, 89, 180, 1, 1, 4, 100, 181, 1, 1, 27, 61, 28, 42, 180, 1, 1, 162, 0, 23, 42, 180, 0, 95]
abbrev dktX3_takes_0 : List UInt8 := dkwX3_takes_0 ++ dktX3_takes_1
theorem dksX3_takes_0 : cX3_takes.data.toList.drop 0 = dktX3_takes_0 := by decide +kernel
theorem dksX3_takes_1 : cX3_takes.data.toList.drop 24 = dktX3_takes_1 := dk_seg dksX3_takes_0 24 rfl rfl
theorem dX3_takes_0 : decode cX3_takes 0 = .ok (.aload_n 0, 1) := dk_42 (dk_at dksX3_takes_0 0 rfl rfl)
theorem dX3_takes_1 : decode cX3_takes 1 = .ok (.dup, 1) := dk_89 (dk_at dksX3_takes_0 1 rfl rfl)
theorem dX3_takes_2 : decode cX3_takes 2 = .ok (.getfield 257, 3) := dk_180 1 1 (dk_at dksX3_takes_0 2 rfl rfl)
theorem dX3_takes_5 : decode cX3_takes 5 = .ok (.iconst 1, 1) := dk_4 (dk_at dksX3_takes_0 5 rfl rfl)
theorem dX3_takes_6 : decode cX3_takes 6 = .ok (.isub, 1) := dk_100 (dk_at dksX3_takes_0 6 rfl rfl)
theorem dX3_takes_7 : decode cX3_takes 7 = .ok (.putfield 257, 3) := dk_181 1 1 (dk_at dksX3_takes_0 7 rfl rfl)
theorem dX3_takes_10 : decode cX3_takes 10 = .ok (.iload_n 1, 1) := dk_27 (dk_at dksX3_takes_0 10 rfl rfl)
theorem dX3_takes_11 : decode cX3_takes 11 = .ok (.istore_n 2, 1) := dk_61 (dk_at dksX3_takes_0 11 rfl rfl)
theorem dX3_takes_12 : decode cX3_takes 12 = .ok (.iload_n 2, 1) := dk_28 (dk_at dksX3_takes_0 12 rfl rfl)
theorem dX3_takes_13 : decode cX3_takes 13 = .ok (.aload_n 0, 1) := dk_42 (dk_at dksX3_takes_0 13 rfl rfl)
theorem dX3_takes_14 : decode cX3_takes 14 = .ok (.getfield 257, 3) := dk_180 1 1 (dk_at dksX3_takes_0 14 rfl rfl)
theorem dX3_takes_17 : decode cX3_takes 17 = .ok (.if_icmp .ge 23, 3) := dk_162 0 23 (dk_at dksX3_takes_0 17 rfl rfl)
theorem dX3_takes_20 : decode cX3_takes 20 = .ok (.aload_n 0, 1) := dk_42 (dk_at dksX3_takes_0 20 rfl rfl)
theorem dX3_takes_21 : decode cX3_takes 21 = .ok (.getfield 95, 3) := dk_180 0 95 (dk_at dksX3_takes_0 21 rfl rfl)
theorem dX3_takes_24 : decode cX3_takes 24 = .ok (.iload_n 2, 1) := dk_28 (dk_at dksX3_takes_1 0 rfl rfl)
theorem dX3_takes_25 : decode cX3_takes 25 = .ok (.aload_n 0, 1) := dk_42 (dk_at dksX3_takes_1 1 rfl rfl)
theorem dX3_takes_26 : decode cX3_takes 26 = .ok (.getfield 95, 3) := dk_180 0 95 (dk_at dksX3_takes_1 2 rfl rfl)
theorem dX3_takes_29 : decode cX3_takes 29 = .ok (.iload_n 2, 1) := dk_28 (dk_at dksX3_takes_1 5 rfl rfl)
theorem dX3_takes_30 : decode cX3_takes 30 = .ok (.iconst 1, 1) := dk_4 (dk_at dksX3_takes_1 6 rfl rfl)
theorem dX3_takes_31 : decode cX3_takes 31 = .ok (.iadd, 1) := dk_96 (dk_at dksX3_takes_1 7 rfl rfl)
theorem dX3_takes_32 : decode cX3_takes 32 = .ok (.iaload, 1) := dk_46 (dk_at dksX3_takes_1 8 rfl rfl)
theorem dX3_takes_33 : decode cX3_takes 33 = .ok (.iastore, 1) := dk_79 (dk_at dksX3_takes_1 9 rfl rfl)
theorem dX3_takes_34 : decode cX3_takes 34 = .ok (.iinc 2 1, 3) := dk_132 2 1 (dk_at dksX3_takes_1 10 rfl rfl)
theorem dX3_takes_37 : decode cX3_takes 37 = .ok (.goto (-25), 3) := dk_167 255 231 (dk_at dksX3_takes_1 13 rfl rfl)
theorem dX3_takes_40 : decode cX3_takes 40 = .ok (.return_, 1) := dk_177 (dk_at dksX3_takes_1 16 rfl rfl)
def dkwX3_hired_6 : List UInt8 := [167, 0, 5, 21, 7, 172]
abbrev dktX3_hired_6 : List UInt8 := dkwX3_hired_6 ++ []
def dkwX3_hired_5 : List UInt8 := [167, 0, 11, 21, 9, 54, 7, 21, 8, 54, 6, 132, 8, 1, 167, 255, 207, 21, 4, 154, 0, 8, 21, 6]
abbrev dktX3_hired_5 : List UInt8 := dkwX3_hired_5 ++ dktX3_hired_6
def dkwX3_hired_4 : List UInt8 := [21, 8, 182, 1, 28, 42, 29, 182, 1, 32, 54, 9, 42, 28, 182, 1, 35, 21, 9, 21, 7, 163, 0, 6]
abbrev dktX3_hired_4 : List UInt8 := dkwX3_hired_4 ++ dktX3_hired_5
def dkwX3_hired_3 : List UInt8 := [16, 251, 172, 3, 54, 6, 2, 54, 7, 3, 54, 8, 21, 8, 42, 180, 0, 116, 162, 0, 46, 42, 28]
abbrev dktX3_hired_3 : List UInt8 := dkwX3_hired_3 ++ dktX3_hired_4
def dkwX3_hired_2 : List UInt8 := [27, 182, 1, 23, 28, 42, 180, 1, 1, 164, 0, 5, 2, 172, 42, 180, 1, 1, 16, 20, 160, 0, 6]
abbrev dktX3_hired_2 : List UInt8 := dkwX3_hired_2 ++ dktX3_hired_3
def dkwX3_hired_1 : List UInt8 := [184, 0, 119, 154, 0, 5, 2, 172, 42, 27, 182, 1, 20, 54, 5, 21, 5, 156, 0, 6, 21, 5, 172, 42]
abbrev dktX3_hired_1 : List UInt8 := dkwX3_hired_1 ++ dktX3_hired_2
def dkwX3_hired_0 : List UInt8 := [27, 184, 0, 127, 153, 0, 25, 28, 155, 0, 21, 42, 29, 182, 0, 137, 153, 0, 13, 21, 4, 3, 4]
abbrev dktX3_hired_0 : List UInt8 := dkwX3_hired_0 ++ dktX3_hired_1
theorem dksX3_hired_0 : cX3_hired.data.toList.drop 0 = dktX3_hired_0 := by decide +kernel
theorem dksX3_hired_1 : cX3_hired.data.toList.drop 23 = dktX3_hired_1 := dk_seg dksX3_hired_0 23 rfl rfl
theorem dksX3_hired_2 : cX3_hired.data.toList.drop 47 = dktX3_hired_2 := dk_seg dksX3_hired_1 24 rfl rfl
theorem dksX3_hired_3 : cX3_hired.data.toList.drop 70 = dktX3_hired_3 := dk_seg dksX3_hired_2 23 rfl rfl
theorem dksX3_hired_4 : cX3_hired.data.toList.drop 93 = dktX3_hired_4 := dk_seg dksX3_hired_3 23 rfl rfl
theorem dksX3_hired_5 : cX3_hired.data.toList.drop 117 = dktX3_hired_5 := dk_seg dksX3_hired_4 24 rfl rfl
theorem dksX3_hired_6 : cX3_hired.data.toList.drop 141 = dktX3_hired_6 := dk_seg dksX3_hired_5 24 rfl rfl
theorem dX3_hired_0 : decode cX3_hired 0 = .ok (.iload_n 1, 1) := dk_27 (dk_at dksX3_hired_0 0 rfl rfl)
theorem dX3_hired_1 : decode cX3_hired 1 = .ok (.invokestatic 127, 3) := dk_184 0 127 (dk_at dksX3_hired_0 1 rfl rfl)
theorem dX3_hired_4 : decode cX3_hired 4 = .ok (.ifCond .eq 25, 3) := dk_153 0 25 (dk_at dksX3_hired_0 4 rfl rfl)
theorem dX3_hired_7 : decode cX3_hired 7 = .ok (.iload_n 2, 1) := dk_28 (dk_at dksX3_hired_0 7 rfl rfl)
theorem dX3_hired_8 : decode cX3_hired 8 = .ok (.ifCond .lt 21, 3) := dk_155 0 21 (dk_at dksX3_hired_0 8 rfl rfl)
theorem dX3_hired_11 : decode cX3_hired 11 = .ok (.aload_n 0, 1) := dk_42 (dk_at dksX3_hired_0 11 rfl rfl)
theorem dX3_hired_12 : decode cX3_hired 12 = .ok (.iload_n 3, 1) := dk_29 (dk_at dksX3_hired_0 12 rfl rfl)
theorem dX3_hired_13 : decode cX3_hired 13 = .ok (.invokevirtual 137, 3) := dk_182 0 137 (dk_at dksX3_hired_0 13 rfl rfl)
theorem dX3_hired_16 : decode cX3_hired 16 = .ok (.ifCond .eq 13, 3) := dk_153 0 13 (dk_at dksX3_hired_0 16 rfl rfl)
theorem dX3_hired_19 : decode cX3_hired 19 = .ok (.iload 4, 2) := dk_21 4 (dk_at dksX3_hired_0 19 rfl rfl)
theorem dX3_hired_21 : decode cX3_hired 21 = .ok (.iconst 0, 1) := dk_3 (dk_at dksX3_hired_0 21 rfl rfl)
theorem dX3_hired_22 : decode cX3_hired 22 = .ok (.iconst 1, 1) := dk_4 (dk_at dksX3_hired_0 22 rfl rfl)
theorem dX3_hired_23 : decode cX3_hired 23 = .ok (.invokestatic 119, 3) := dk_184 0 119 (dk_at dksX3_hired_1 0 rfl rfl)
theorem dX3_hired_26 : decode cX3_hired 26 = .ok (.ifCond .ne 5, 3) := dk_154 0 5 (dk_at dksX3_hired_1 3 rfl rfl)
theorem dX3_hired_29 : decode cX3_hired 29 = .ok (.iconst (-1), 1) := dk_2 (dk_at dksX3_hired_1 6 rfl rfl)
theorem dX3_hired_30 : decode cX3_hired 30 = .ok (.ireturn, 1) := dk_172 (dk_at dksX3_hired_1 7 rfl rfl)
theorem dX3_hired_31 : decode cX3_hired 31 = .ok (.aload_n 0, 1) := dk_42 (dk_at dksX3_hired_1 8 rfl rfl)
theorem dX3_hired_32 : decode cX3_hired 32 = .ok (.iload_n 1, 1) := dk_27 (dk_at dksX3_hired_1 9 rfl rfl)
theorem dX3_hired_33 : decode cX3_hired 33 = .ok (.invokevirtual 276, 3) := dk_182 1 20 (dk_at dksX3_hired_1 10 rfl rfl)
theorem dX3_hired_36 : decode cX3_hired 36 = .ok (.istore 5, 2) := dk_54 5 (dk_at dksX3_hired_1 13 rfl rfl)
theorem dX3_hired_38 : decode cX3_hired 38 = .ok (.iload 5, 2) := dk_21 5 (dk_at dksX3_hired_1 15 rfl rfl)
theorem dX3_hired_40 : decode cX3_hired 40 = .ok (.ifCond .ge 6, 3) := dk_156 0 6 (dk_at dksX3_hired_1 17 rfl rfl)
theorem dX3_hired_43 : decode cX3_hired 43 = .ok (.iload 5, 2) := dk_21 5 (dk_at dksX3_hired_1 20 rfl rfl)
theorem dX3_hired_45 : decode cX3_hired 45 = .ok (.ireturn, 1) := dk_172 (dk_at dksX3_hired_1 22 rfl rfl)
theorem dX3_hired_46 : decode cX3_hired 46 = .ok (.aload_n 0, 1) := dk_42 (dk_at dksX3_hired_1 23 rfl rfl)
theorem dX3_hired_47 : decode cX3_hired 47 = .ok (.iload_n 1, 1) := dk_27 (dk_at dksX3_hired_2 0 rfl rfl)
theorem dX3_hired_48 : decode cX3_hired 48 = .ok (.invokevirtual 279, 3) := dk_182 1 23 (dk_at dksX3_hired_2 1 rfl rfl)
theorem dX3_hired_51 : decode cX3_hired 51 = .ok (.iload_n 2, 1) := dk_28 (dk_at dksX3_hired_2 4 rfl rfl)
theorem dX3_hired_52 : decode cX3_hired 52 = .ok (.aload_n 0, 1) := dk_42 (dk_at dksX3_hired_2 5 rfl rfl)
theorem dX3_hired_53 : decode cX3_hired 53 = .ok (.getfield 257, 3) := dk_180 1 1 (dk_at dksX3_hired_2 6 rfl rfl)
theorem dX3_hired_56 : decode cX3_hired 56 = .ok (.if_icmp .le 5, 3) := dk_164 0 5 (dk_at dksX3_hired_2 9 rfl rfl)
theorem dX3_hired_59 : decode cX3_hired 59 = .ok (.iconst (-1), 1) := dk_2 (dk_at dksX3_hired_2 12 rfl rfl)
theorem dX3_hired_60 : decode cX3_hired 60 = .ok (.ireturn, 1) := dk_172 (dk_at dksX3_hired_2 13 rfl rfl)
theorem dX3_hired_61 : decode cX3_hired 61 = .ok (.aload_n 0, 1) := dk_42 (dk_at dksX3_hired_2 14 rfl rfl)
theorem dX3_hired_62 : decode cX3_hired 62 = .ok (.getfield 257, 3) := dk_180 1 1 (dk_at dksX3_hired_2 15 rfl rfl)
theorem dX3_hired_65 : decode cX3_hired 65 = .ok (.bipush 20, 2) := dk_16 20 (dk_at dksX3_hired_2 18 rfl rfl)
theorem dX3_hired_67 : decode cX3_hired 67 = .ok (.if_icmp .ne 6, 3) := dk_160 0 6 (dk_at dksX3_hired_2 20 rfl rfl)
theorem dX3_hired_70 : decode cX3_hired 70 = .ok (.bipush (-5), 2) := dk_16 251 (dk_at dksX3_hired_3 0 rfl rfl)
theorem dX3_hired_72 : decode cX3_hired 72 = .ok (.ireturn, 1) := dk_172 (dk_at dksX3_hired_3 2 rfl rfl)
theorem dX3_hired_73 : decode cX3_hired 73 = .ok (.iconst 0, 1) := dk_3 (dk_at dksX3_hired_3 3 rfl rfl)
theorem dX3_hired_74 : decode cX3_hired 74 = .ok (.istore 6, 2) := dk_54 6 (dk_at dksX3_hired_3 4 rfl rfl)
theorem dX3_hired_76 : decode cX3_hired 76 = .ok (.iconst (-1), 1) := dk_2 (dk_at dksX3_hired_3 6 rfl rfl)
theorem dX3_hired_77 : decode cX3_hired 77 = .ok (.istore 7, 2) := dk_54 7 (dk_at dksX3_hired_3 7 rfl rfl)
theorem dX3_hired_79 : decode cX3_hired 79 = .ok (.iconst 0, 1) := dk_3 (dk_at dksX3_hired_3 9 rfl rfl)
theorem dX3_hired_80 : decode cX3_hired 80 = .ok (.istore 8, 2) := dk_54 8 (dk_at dksX3_hired_3 10 rfl rfl)
theorem dX3_hired_82 : decode cX3_hired 82 = .ok (.iload 8, 2) := dk_21 8 (dk_at dksX3_hired_3 12 rfl rfl)
theorem dX3_hired_84 : decode cX3_hired 84 = .ok (.aload_n 0, 1) := dk_42 (dk_at dksX3_hired_3 14 rfl rfl)
theorem dX3_hired_85 : decode cX3_hired 85 = .ok (.getfield 116, 3) := dk_180 0 116 (dk_at dksX3_hired_3 15 rfl rfl)
theorem dX3_hired_88 : decode cX3_hired 88 = .ok (.if_icmp .ge 46, 3) := dk_162 0 46 (dk_at dksX3_hired_3 18 rfl rfl)
theorem dX3_hired_91 : decode cX3_hired 91 = .ok (.aload_n 0, 1) := dk_42 (dk_at dksX3_hired_3 21 rfl rfl)
theorem dX3_hired_92 : decode cX3_hired 92 = .ok (.iload_n 2, 1) := dk_28 (dk_at dksX3_hired_3 22 rfl rfl)
theorem dX3_hired_93 : decode cX3_hired 93 = .ok (.iload 8, 2) := dk_21 8 (dk_at dksX3_hired_4 0 rfl rfl)
theorem dX3_hired_95 : decode cX3_hired 95 = .ok (.invokevirtual 284, 3) := dk_182 1 28 (dk_at dksX3_hired_4 2 rfl rfl)
theorem dX3_hired_98 : decode cX3_hired 98 = .ok (.aload_n 0, 1) := dk_42 (dk_at dksX3_hired_4 5 rfl rfl)
theorem dX3_hired_99 : decode cX3_hired 99 = .ok (.iload_n 3, 1) := dk_29 (dk_at dksX3_hired_4 6 rfl rfl)
theorem dX3_hired_100 : decode cX3_hired 100 = .ok (.invokevirtual 288, 3) := dk_182 1 32 (dk_at dksX3_hired_4 7 rfl rfl)
theorem dX3_hired_103 : decode cX3_hired 103 = .ok (.istore 9, 2) := dk_54 9 (dk_at dksX3_hired_4 10 rfl rfl)
theorem dX3_hired_105 : decode cX3_hired 105 = .ok (.aload_n 0, 1) := dk_42 (dk_at dksX3_hired_4 12 rfl rfl)
theorem dX3_hired_106 : decode cX3_hired 106 = .ok (.iload_n 2, 1) := dk_28 (dk_at dksX3_hired_4 13 rfl rfl)
theorem dX3_hired_107 : decode cX3_hired 107 = .ok (.invokevirtual 291, 3) := dk_182 1 35 (dk_at dksX3_hired_4 14 rfl rfl)
theorem dX3_hired_110 : decode cX3_hired 110 = .ok (.iload 9, 2) := dk_21 9 (dk_at dksX3_hired_4 17 rfl rfl)
theorem dX3_hired_112 : decode cX3_hired 112 = .ok (.iload 7, 2) := dk_21 7 (dk_at dksX3_hired_4 19 rfl rfl)
theorem dX3_hired_114 : decode cX3_hired 114 = .ok (.if_icmp .gt 6, 3) := dk_163 0 6 (dk_at dksX3_hired_4 21 rfl rfl)
theorem dX3_hired_117 : decode cX3_hired 117 = .ok (.goto 11, 3) := dk_167 0 11 (dk_at dksX3_hired_5 0 rfl rfl)
theorem dX3_hired_120 : decode cX3_hired 120 = .ok (.iload 9, 2) := dk_21 9 (dk_at dksX3_hired_5 3 rfl rfl)
theorem dX3_hired_122 : decode cX3_hired 122 = .ok (.istore 7, 2) := dk_54 7 (dk_at dksX3_hired_5 5 rfl rfl)
theorem dX3_hired_124 : decode cX3_hired 124 = .ok (.iload 8, 2) := dk_21 8 (dk_at dksX3_hired_5 7 rfl rfl)
theorem dX3_hired_126 : decode cX3_hired 126 = .ok (.istore 6, 2) := dk_54 6 (dk_at dksX3_hired_5 9 rfl rfl)
theorem dX3_hired_128 : decode cX3_hired 128 = .ok (.iinc 8 1, 3) := dk_132 8 1 (dk_at dksX3_hired_5 11 rfl rfl)
theorem dX3_hired_131 : decode cX3_hired 131 = .ok (.goto (-49), 3) := dk_167 255 207 (dk_at dksX3_hired_5 14 rfl rfl)
theorem dX3_hired_134 : decode cX3_hired 134 = .ok (.iload 4, 2) := dk_21 4 (dk_at dksX3_hired_5 17 rfl rfl)
theorem dX3_hired_136 : decode cX3_hired 136 = .ok (.ifCond .ne 8, 3) := dk_154 0 8 (dk_at dksX3_hired_5 19 rfl rfl)
theorem dX3_hired_139 : decode cX3_hired 139 = .ok (.iload 6, 2) := dk_21 6 (dk_at dksX3_hired_5 22 rfl rfl)
theorem dX3_hired_141 : decode cX3_hired 141 = .ok (.goto 5, 3) := dk_167 0 5 (dk_at dksX3_hired_6 0 rfl rfl)
theorem dX3_hired_144 : decode cX3_hired 144 = .ok (.iload 7, 2) := dk_21 7 (dk_at dksX3_hired_6 3 rfl rfl)
theorem dX3_hired_146 : decode cX3_hired 146 = .ok (.ireturn, 1) := dk_172 (dk_at dksX3_hired_6 5 rfl rfl)
def dkwX3_latch_5 : List UInt8 := [21, 5, 167, 0, 5, 21, 6, 172]
abbrev dktX3_latch_5 : List UInt8 := dkwX3_latch_5 ++ []
def dkwX3_latch_4 : List UInt8 := [163, 0, 6, 167, 0, 11, 21, 8, 54, 6, 21, 7, 54, 5, 132, 7, 1, 167, 255, 205, 29, 154, 0, 8]
abbrev dktX3_latch_4 : List UInt8 := dkwX3_latch_4 ++ dktX3_latch_5
def dkwX3_latch_3 : List UInt8 := [21, 7, 182, 1, 38, 42, 28, 182, 1, 32, 54, 8, 42, 21, 7, 182, 1, 38, 21, 8, 21, 6]
abbrev dktX3_latch_3 : List UInt8 := dkwX3_latch_3 ++ dktX3_latch_4
def dkwX3_latch_2 : List UInt8 := [54, 5, 42, 28, 182, 1, 32, 54, 6, 3, 54, 7, 21, 7, 4, 96, 42, 180, 1, 1, 162, 0, 46, 42]
abbrev dktX3_latch_2 : List UInt8 := dkwX3_latch_2 ++ dktX3_latch_3
def dkwX3_latch_1 : List UInt8 := [2, 172, 42, 27, 182, 1, 20, 54, 4, 21, 4, 156, 0, 6, 21, 4, 172, 42, 27, 182, 1, 23, 16, 254]
abbrev dktX3_latch_1 : List UInt8 := dkwX3_latch_1 ++ dktX3_latch_2
def dkwX3_latch_0 : List UInt8 := [27, 184, 0, 127, 153, 0, 20, 42, 28, 182, 0, 137, 153, 0, 12, 29, 3, 4, 184, 0, 119, 154, 0, 5]
abbrev dktX3_latch_0 : List UInt8 := dkwX3_latch_0 ++ dktX3_latch_1
theorem dksX3_latch_0 : cX3_latch.data.toList.drop 0 = dktX3_latch_0 := by decide +kernel
theorem dksX3_latch_1 : cX3_latch.data.toList.drop 24 = dktX3_latch_1 := dk_seg dksX3_latch_0 24 rfl rfl
theorem dksX3_latch_2 : cX3_latch.data.toList.drop 48 = dktX3_latch_2 := dk_seg dksX3_latch_1 24 rfl rfl
theorem dksX3_latch_3 : cX3_latch.data.toList.drop 72 = dktX3_latch_3 := dk_seg dksX3_latch_2 24 rfl rfl
theorem dksX3_latch_4 : cX3_latch.data.toList.drop 94 = dktX3_latch_4 := dk_seg dksX3_latch_3 22 rfl rfl
theorem dksX3_latch_5 : cX3_latch.data.toList.drop 118 = dktX3_latch_5 := dk_seg dksX3_latch_4 24 rfl rfl
theorem dX3_latch_0 : decode cX3_latch 0 = .ok (.iload_n 1, 1) := dk_27 (dk_at dksX3_latch_0 0 rfl rfl)
theorem dX3_latch_1 : decode cX3_latch 1 = .ok (.invokestatic 127, 3) := dk_184 0 127 (dk_at dksX3_latch_0 1 rfl rfl)
theorem dX3_latch_4 : decode cX3_latch 4 = .ok (.ifCond .eq 20, 3) := dk_153 0 20 (dk_at dksX3_latch_0 4 rfl rfl)
theorem dX3_latch_7 : decode cX3_latch 7 = .ok (.aload_n 0, 1) := dk_42 (dk_at dksX3_latch_0 7 rfl rfl)
theorem dX3_latch_8 : decode cX3_latch 8 = .ok (.iload_n 2, 1) := dk_28 (dk_at dksX3_latch_0 8 rfl rfl)
theorem dX3_latch_9 : decode cX3_latch 9 = .ok (.invokevirtual 137, 3) := dk_182 0 137 (dk_at dksX3_latch_0 9 rfl rfl)
theorem dX3_latch_12 : decode cX3_latch 12 = .ok (.ifCond .eq 12, 3) := dk_153 0 12 (dk_at dksX3_latch_0 12 rfl rfl)
theorem dX3_latch_15 : decode cX3_latch 15 = .ok (.iload_n 3, 1) := dk_29 (dk_at dksX3_latch_0 15 rfl rfl)
theorem dX3_latch_16 : decode cX3_latch 16 = .ok (.iconst 0, 1) := dk_3 (dk_at dksX3_latch_0 16 rfl rfl)
theorem dX3_latch_17 : decode cX3_latch 17 = .ok (.iconst 1, 1) := dk_4 (dk_at dksX3_latch_0 17 rfl rfl)
theorem dX3_latch_18 : decode cX3_latch 18 = .ok (.invokestatic 119, 3) := dk_184 0 119 (dk_at dksX3_latch_0 18 rfl rfl)
theorem dX3_latch_21 : decode cX3_latch 21 = .ok (.ifCond .ne 5, 3) := dk_154 0 5 (dk_at dksX3_latch_0 21 rfl rfl)
theorem dX3_latch_24 : decode cX3_latch 24 = .ok (.iconst (-1), 1) := dk_2 (dk_at dksX3_latch_1 0 rfl rfl)
theorem dX3_latch_25 : decode cX3_latch 25 = .ok (.ireturn, 1) := dk_172 (dk_at dksX3_latch_1 1 rfl rfl)
theorem dX3_latch_26 : decode cX3_latch 26 = .ok (.aload_n 0, 1) := dk_42 (dk_at dksX3_latch_1 2 rfl rfl)
theorem dX3_latch_27 : decode cX3_latch 27 = .ok (.iload_n 1, 1) := dk_27 (dk_at dksX3_latch_1 3 rfl rfl)
theorem dX3_latch_28 : decode cX3_latch 28 = .ok (.invokevirtual 276, 3) := dk_182 1 20 (dk_at dksX3_latch_1 4 rfl rfl)
theorem dX3_latch_31 : decode cX3_latch 31 = .ok (.istore 4, 2) := dk_54 4 (dk_at dksX3_latch_1 7 rfl rfl)
theorem dX3_latch_33 : decode cX3_latch 33 = .ok (.iload 4, 2) := dk_21 4 (dk_at dksX3_latch_1 9 rfl rfl)
theorem dX3_latch_35 : decode cX3_latch 35 = .ok (.ifCond .ge 6, 3) := dk_156 0 6 (dk_at dksX3_latch_1 11 rfl rfl)
theorem dX3_latch_38 : decode cX3_latch 38 = .ok (.iload 4, 2) := dk_21 4 (dk_at dksX3_latch_1 14 rfl rfl)
theorem dX3_latch_40 : decode cX3_latch 40 = .ok (.ireturn, 1) := dk_172 (dk_at dksX3_latch_1 16 rfl rfl)
theorem dX3_latch_41 : decode cX3_latch 41 = .ok (.aload_n 0, 1) := dk_42 (dk_at dksX3_latch_1 17 rfl rfl)
theorem dX3_latch_42 : decode cX3_latch 42 = .ok (.iload_n 1, 1) := dk_27 (dk_at dksX3_latch_1 18 rfl rfl)
theorem dX3_latch_43 : decode cX3_latch 43 = .ok (.invokevirtual 279, 3) := dk_182 1 23 (dk_at dksX3_latch_1 19 rfl rfl)
theorem dX3_latch_46 : decode cX3_latch 46 = .ok (.bipush (-2), 2) := dk_16 254 (dk_at dksX3_latch_1 22 rfl rfl)
theorem dX3_latch_48 : decode cX3_latch 48 = .ok (.istore 5, 2) := dk_54 5 (dk_at dksX3_latch_2 0 rfl rfl)
theorem dX3_latch_50 : decode cX3_latch 50 = .ok (.aload_n 0, 1) := dk_42 (dk_at dksX3_latch_2 2 rfl rfl)
theorem dX3_latch_51 : decode cX3_latch 51 = .ok (.iload_n 2, 1) := dk_28 (dk_at dksX3_latch_2 3 rfl rfl)
theorem dX3_latch_52 : decode cX3_latch 52 = .ok (.invokevirtual 288, 3) := dk_182 1 32 (dk_at dksX3_latch_2 4 rfl rfl)
theorem dX3_latch_55 : decode cX3_latch 55 = .ok (.istore 6, 2) := dk_54 6 (dk_at dksX3_latch_2 7 rfl rfl)
theorem dX3_latch_57 : decode cX3_latch 57 = .ok (.iconst 0, 1) := dk_3 (dk_at dksX3_latch_2 9 rfl rfl)
theorem dX3_latch_58 : decode cX3_latch 58 = .ok (.istore 7, 2) := dk_54 7 (dk_at dksX3_latch_2 10 rfl rfl)
theorem dX3_latch_60 : decode cX3_latch 60 = .ok (.iload 7, 2) := dk_21 7 (dk_at dksX3_latch_2 12 rfl rfl)
theorem dX3_latch_62 : decode cX3_latch 62 = .ok (.iconst 1, 1) := dk_4 (dk_at dksX3_latch_2 14 rfl rfl)
theorem dX3_latch_63 : decode cX3_latch 63 = .ok (.iadd, 1) := dk_96 (dk_at dksX3_latch_2 15 rfl rfl)
theorem dX3_latch_64 : decode cX3_latch 64 = .ok (.aload_n 0, 1) := dk_42 (dk_at dksX3_latch_2 16 rfl rfl)
theorem dX3_latch_65 : decode cX3_latch 65 = .ok (.getfield 257, 3) := dk_180 1 1 (dk_at dksX3_latch_2 17 rfl rfl)
theorem dX3_latch_68 : decode cX3_latch 68 = .ok (.if_icmp .ge 46, 3) := dk_162 0 46 (dk_at dksX3_latch_2 20 rfl rfl)
theorem dX3_latch_71 : decode cX3_latch 71 = .ok (.aload_n 0, 1) := dk_42 (dk_at dksX3_latch_2 23 rfl rfl)
theorem dX3_latch_72 : decode cX3_latch 72 = .ok (.iload 7, 2) := dk_21 7 (dk_at dksX3_latch_3 0 rfl rfl)
theorem dX3_latch_74 : decode cX3_latch 74 = .ok (.invokevirtual 294, 3) := dk_182 1 38 (dk_at dksX3_latch_3 2 rfl rfl)
theorem dX3_latch_77 : decode cX3_latch 77 = .ok (.aload_n 0, 1) := dk_42 (dk_at dksX3_latch_3 5 rfl rfl)
theorem dX3_latch_78 : decode cX3_latch 78 = .ok (.iload_n 2, 1) := dk_28 (dk_at dksX3_latch_3 6 rfl rfl)
theorem dX3_latch_79 : decode cX3_latch 79 = .ok (.invokevirtual 288, 3) := dk_182 1 32 (dk_at dksX3_latch_3 7 rfl rfl)
theorem dX3_latch_82 : decode cX3_latch 82 = .ok (.istore 8, 2) := dk_54 8 (dk_at dksX3_latch_3 10 rfl rfl)
theorem dX3_latch_84 : decode cX3_latch 84 = .ok (.aload_n 0, 1) := dk_42 (dk_at dksX3_latch_3 12 rfl rfl)
theorem dX3_latch_85 : decode cX3_latch 85 = .ok (.iload 7, 2) := dk_21 7 (dk_at dksX3_latch_3 13 rfl rfl)
theorem dX3_latch_87 : decode cX3_latch 87 = .ok (.invokevirtual 294, 3) := dk_182 1 38 (dk_at dksX3_latch_3 15 rfl rfl)
theorem dX3_latch_90 : decode cX3_latch 90 = .ok (.iload 8, 2) := dk_21 8 (dk_at dksX3_latch_3 18 rfl rfl)
theorem dX3_latch_92 : decode cX3_latch 92 = .ok (.iload 6, 2) := dk_21 6 (dk_at dksX3_latch_3 20 rfl rfl)
theorem dX3_latch_94 : decode cX3_latch 94 = .ok (.if_icmp .gt 6, 3) := dk_163 0 6 (dk_at dksX3_latch_4 0 rfl rfl)
theorem dX3_latch_97 : decode cX3_latch 97 = .ok (.goto 11, 3) := dk_167 0 11 (dk_at dksX3_latch_4 3 rfl rfl)
theorem dX3_latch_100 : decode cX3_latch 100 = .ok (.iload 8, 2) := dk_21 8 (dk_at dksX3_latch_4 6 rfl rfl)
theorem dX3_latch_102 : decode cX3_latch 102 = .ok (.istore 6, 2) := dk_54 6 (dk_at dksX3_latch_4 8 rfl rfl)
theorem dX3_latch_104 : decode cX3_latch 104 = .ok (.iload 7, 2) := dk_21 7 (dk_at dksX3_latch_4 10 rfl rfl)
theorem dX3_latch_106 : decode cX3_latch 106 = .ok (.istore 5, 2) := dk_54 5 (dk_at dksX3_latch_4 12 rfl rfl)
theorem dX3_latch_108 : decode cX3_latch 108 = .ok (.iinc 7 1, 3) := dk_132 7 1 (dk_at dksX3_latch_4 14 rfl rfl)
theorem dX3_latch_111 : decode cX3_latch 111 = .ok (.goto (-51), 3) := dk_167 255 205 (dk_at dksX3_latch_4 17 rfl rfl)
theorem dX3_latch_114 : decode cX3_latch 114 = .ok (.iload_n 3, 1) := dk_29 (dk_at dksX3_latch_4 20 rfl rfl)
theorem dX3_latch_115 : decode cX3_latch 115 = .ok (.ifCond .ne 8, 3) := dk_154 0 8 (dk_at dksX3_latch_4 21 rfl rfl)
theorem dX3_latch_118 : decode cX3_latch 118 = .ok (.iload 5, 2) := dk_21 5 (dk_at dksX3_latch_5 0 rfl rfl)
theorem dX3_latch_120 : decode cX3_latch 120 = .ok (.goto 5, 3) := dk_167 0 5 (dk_at dksX3_latch_5 2 rfl rfl)
theorem dX3_latch_123 : decode cX3_latch 123 = .ok (.iload 6, 2) := dk_21 6 (dk_at dksX3_latch_5 5 rfl rfl)
theorem dX3_latch_125 : decode cX3_latch 125 = .ok (.ireturn, 1) := dk_172 (dk_at dksX3_latch_5 7 rfl rfl)
def dkwX3_swaps_1 : List UInt8 := [180, 0, 95, 27, 4, 96, 28, 79, 177]
abbrev dktX3_swaps_1 : List UInt8 := dkwX3_swaps_1 ++ []
def dkwX3_swaps_0 : List UInt8 := [42, 180, 0, 95, 27, 46, 61, 42, 180, 0, 95, 27, 42, 180, 0, 95, 27, 4, 96, 46, 79, 42]
abbrev dktX3_swaps_0 : List UInt8 := dkwX3_swaps_0 ++ dktX3_swaps_1
theorem dksX3_swaps_0 : cX3_swaps.data.toList.drop 0 = dktX3_swaps_0 := by decide +kernel
theorem dksX3_swaps_1 : cX3_swaps.data.toList.drop 22 = dktX3_swaps_1 := dk_seg dksX3_swaps_0 22 rfl rfl
theorem dX3_swaps_0 : decode cX3_swaps 0 = .ok (.aload_n 0, 1) := dk_42 (dk_at dksX3_swaps_0 0 rfl rfl)
theorem dX3_swaps_1 : decode cX3_swaps 1 = .ok (.getfield 95, 3) := dk_180 0 95 (dk_at dksX3_swaps_0 1 rfl rfl)
theorem dX3_swaps_4 : decode cX3_swaps 4 = .ok (.iload_n 1, 1) := dk_27 (dk_at dksX3_swaps_0 4 rfl rfl)
theorem dX3_swaps_5 : decode cX3_swaps 5 = .ok (.iaload, 1) := dk_46 (dk_at dksX3_swaps_0 5 rfl rfl)
theorem dX3_swaps_6 : decode cX3_swaps 6 = .ok (.istore_n 2, 1) := dk_61 (dk_at dksX3_swaps_0 6 rfl rfl)
theorem dX3_swaps_7 : decode cX3_swaps 7 = .ok (.aload_n 0, 1) := dk_42 (dk_at dksX3_swaps_0 7 rfl rfl)
theorem dX3_swaps_8 : decode cX3_swaps 8 = .ok (.getfield 95, 3) := dk_180 0 95 (dk_at dksX3_swaps_0 8 rfl rfl)
theorem dX3_swaps_11 : decode cX3_swaps 11 = .ok (.iload_n 1, 1) := dk_27 (dk_at dksX3_swaps_0 11 rfl rfl)
theorem dX3_swaps_12 : decode cX3_swaps 12 = .ok (.aload_n 0, 1) := dk_42 (dk_at dksX3_swaps_0 12 rfl rfl)
theorem dX3_swaps_13 : decode cX3_swaps 13 = .ok (.getfield 95, 3) := dk_180 0 95 (dk_at dksX3_swaps_0 13 rfl rfl)
theorem dX3_swaps_16 : decode cX3_swaps 16 = .ok (.iload_n 1, 1) := dk_27 (dk_at dksX3_swaps_0 16 rfl rfl)
theorem dX3_swaps_17 : decode cX3_swaps 17 = .ok (.iconst 1, 1) := dk_4 (dk_at dksX3_swaps_0 17 rfl rfl)
theorem dX3_swaps_18 : decode cX3_swaps 18 = .ok (.iadd, 1) := dk_96 (dk_at dksX3_swaps_0 18 rfl rfl)
theorem dX3_swaps_19 : decode cX3_swaps 19 = .ok (.iaload, 1) := dk_46 (dk_at dksX3_swaps_0 19 rfl rfl)
theorem dX3_swaps_20 : decode cX3_swaps 20 = .ok (.iastore, 1) := dk_79 (dk_at dksX3_swaps_0 20 rfl rfl)
theorem dX3_swaps_21 : decode cX3_swaps 21 = .ok (.aload_n 0, 1) := dk_42 (dk_at dksX3_swaps_0 21 rfl rfl)
theorem dX3_swaps_22 : decode cX3_swaps 22 = .ok (.getfield 95, 3) := dk_180 0 95 (dk_at dksX3_swaps_1 0 rfl rfl)
theorem dX3_swaps_25 : decode cX3_swaps 25 = .ok (.iload_n 1, 1) := dk_27 (dk_at dksX3_swaps_1 3 rfl rfl)
theorem dX3_swaps_26 : decode cX3_swaps 26 = .ok (.iconst 1, 1) := dk_4 (dk_at dksX3_swaps_1 4 rfl rfl)
theorem dX3_swaps_27 : decode cX3_swaps 27 = .ok (.iadd, 1) := dk_96 (dk_at dksX3_swaps_1 5 rfl rfl)
theorem dX3_swaps_28 : decode cX3_swaps 28 = .ok (.iload_n 2, 1) := dk_28 (dk_at dksX3_swaps_1 6 rfl rfl)
theorem dX3_swaps_29 : decode cX3_swaps 29 = .ok (.iastore, 1) := dk_79 (dk_at dksX3_swaps_1 7 rfl rfl)
theorem dX3_swaps_30 : decode cX3_swaps 30 = .ok (.return_, 1) := dk_177 (dk_at dksX3_swaps_1 8 rfl rfl)
def dkwX3_order_3 : List UInt8 := [180, 1, 41, 167, 0, 9, 42, 180, 0, 110, 29, 46, 172]
abbrev dktX3_order_3 : List UInt8 := dkwX3_order_3 ++ []
def dkwX3_order_2 : List UInt8 := [161, 0, 6, 16, 254, 172, 42, 2, 181, 1, 41, 42, 3, 27, 28, 182, 1, 44, 29, 2, 160, 0, 10, 42]
abbrev dktX3_order_2 : List UInt8 := dkwX3_order_2 ++ dktX3_order_3
def dkwX3_order_1 : List UInt8 := [29, 2, 162, 0, 5, 2, 172, 27, 184, 1, 47, 8, 164, 0, 6, 16, 251, 172, 29, 27, 184, 1, 47]
abbrev dktX3_order_1 : List UInt8 := dkwX3_order_1 ++ dktX3_order_2
def dkwX3_order_0 : List UInt8 := [27, 3, 4, 42, 180, 0, 116, 120, 4, 100, 184, 0, 119, 153, 0, 16, 42, 28, 182, 0, 137, 153, 0, 8]
abbrev dktX3_order_0 : List UInt8 := dkwX3_order_0 ++ dktX3_order_1
theorem dksX3_order_0 : cX3_order.data.toList.drop 0 = dktX3_order_0 := by decide +kernel
theorem dksX3_order_1 : cX3_order.data.toList.drop 24 = dktX3_order_1 := dk_seg dksX3_order_0 24 rfl rfl
theorem dksX3_order_2 : cX3_order.data.toList.drop 47 = dktX3_order_2 := dk_seg dksX3_order_1 23 rfl rfl
theorem dksX3_order_3 : cX3_order.data.toList.drop 71 = dktX3_order_3 := dk_seg dksX3_order_2 24 rfl rfl
theorem dX3_order_0 : decode cX3_order 0 = .ok (.iload_n 1, 1) := dk_27 (dk_at dksX3_order_0 0 rfl rfl)
theorem dX3_order_1 : decode cX3_order 1 = .ok (.iconst 0, 1) := dk_3 (dk_at dksX3_order_0 1 rfl rfl)
theorem dX3_order_2 : decode cX3_order 2 = .ok (.iconst 1, 1) := dk_4 (dk_at dksX3_order_0 2 rfl rfl)
theorem dX3_order_3 : decode cX3_order 3 = .ok (.aload_n 0, 1) := dk_42 (dk_at dksX3_order_0 3 rfl rfl)
theorem dX3_order_4 : decode cX3_order 4 = .ok (.getfield 116, 3) := dk_180 0 116 (dk_at dksX3_order_0 4 rfl rfl)
theorem dX3_order_7 : decode cX3_order 7 = .ok (.ishl, 1) := dk_120 (dk_at dksX3_order_0 7 rfl rfl)
theorem dX3_order_8 : decode cX3_order 8 = .ok (.iconst 1, 1) := dk_4 (dk_at dksX3_order_0 8 rfl rfl)
theorem dX3_order_9 : decode cX3_order 9 = .ok (.isub, 1) := dk_100 (dk_at dksX3_order_0 9 rfl rfl)
theorem dX3_order_10 : decode cX3_order 10 = .ok (.invokestatic 119, 3) := dk_184 0 119 (dk_at dksX3_order_0 10 rfl rfl)
theorem dX3_order_13 : decode cX3_order 13 = .ok (.ifCond .eq 16, 3) := dk_153 0 16 (dk_at dksX3_order_0 13 rfl rfl)
theorem dX3_order_16 : decode cX3_order 16 = .ok (.aload_n 0, 1) := dk_42 (dk_at dksX3_order_0 16 rfl rfl)
theorem dX3_order_17 : decode cX3_order 17 = .ok (.iload_n 2, 1) := dk_28 (dk_at dksX3_order_0 17 rfl rfl)
theorem dX3_order_18 : decode cX3_order 18 = .ok (.invokevirtual 137, 3) := dk_182 0 137 (dk_at dksX3_order_0 18 rfl rfl)
theorem dX3_order_21 : decode cX3_order 21 = .ok (.ifCond .eq 8, 3) := dk_153 0 8 (dk_at dksX3_order_0 21 rfl rfl)
theorem dX3_order_24 : decode cX3_order 24 = .ok (.iload_n 3, 1) := dk_29 (dk_at dksX3_order_1 0 rfl rfl)
theorem dX3_order_25 : decode cX3_order 25 = .ok (.iconst (-1), 1) := dk_2 (dk_at dksX3_order_1 1 rfl rfl)
theorem dX3_order_26 : decode cX3_order 26 = .ok (.if_icmp .ge 5, 3) := dk_162 0 5 (dk_at dksX3_order_1 2 rfl rfl)
theorem dX3_order_29 : decode cX3_order 29 = .ok (.iconst (-1), 1) := dk_2 (dk_at dksX3_order_1 5 rfl rfl)
theorem dX3_order_30 : decode cX3_order 30 = .ok (.ireturn, 1) := dk_172 (dk_at dksX3_order_1 6 rfl rfl)
theorem dX3_order_31 : decode cX3_order 31 = .ok (.iload_n 1, 1) := dk_27 (dk_at dksX3_order_1 7 rfl rfl)
theorem dX3_order_32 : decode cX3_order 32 = .ok (.invokestatic 303, 3) := dk_184 1 47 (dk_at dksX3_order_1 8 rfl rfl)
theorem dX3_order_35 : decode cX3_order 35 = .ok (.iconst 5, 1) := dk_8 (dk_at dksX3_order_1 11 rfl rfl)
theorem dX3_order_36 : decode cX3_order 36 = .ok (.if_icmp .le 6, 3) := dk_164 0 6 (dk_at dksX3_order_1 12 rfl rfl)
theorem dX3_order_39 : decode cX3_order 39 = .ok (.bipush (-5), 2) := dk_16 251 (dk_at dksX3_order_1 15 rfl rfl)
theorem dX3_order_41 : decode cX3_order 41 = .ok (.ireturn, 1) := dk_172 (dk_at dksX3_order_1 17 rfl rfl)
theorem dX3_order_42 : decode cX3_order 42 = .ok (.iload_n 3, 1) := dk_29 (dk_at dksX3_order_1 18 rfl rfl)
theorem dX3_order_43 : decode cX3_order 43 = .ok (.iload_n 1, 1) := dk_27 (dk_at dksX3_order_1 19 rfl rfl)
theorem dX3_order_44 : decode cX3_order 44 = .ok (.invokestatic 303, 3) := dk_184 1 47 (dk_at dksX3_order_1 20 rfl rfl)
theorem dX3_order_47 : decode cX3_order 47 = .ok (.if_icmp .lt 6, 3) := dk_161 0 6 (dk_at dksX3_order_2 0 rfl rfl)
theorem dX3_order_50 : decode cX3_order 50 = .ok (.bipush (-2), 2) := dk_16 254 (dk_at dksX3_order_2 3 rfl rfl)
theorem dX3_order_52 : decode cX3_order 52 = .ok (.ireturn, 1) := dk_172 (dk_at dksX3_order_2 5 rfl rfl)
theorem dX3_order_53 : decode cX3_order 53 = .ok (.aload_n 0, 1) := dk_42 (dk_at dksX3_order_2 6 rfl rfl)
theorem dX3_order_54 : decode cX3_order 54 = .ok (.iconst (-1), 1) := dk_2 (dk_at dksX3_order_2 7 rfl rfl)
theorem dX3_order_55 : decode cX3_order 55 = .ok (.putfield 297, 3) := dk_181 1 41 (dk_at dksX3_order_2 8 rfl rfl)
theorem dX3_order_58 : decode cX3_order 58 = .ok (.aload_n 0, 1) := dk_42 (dk_at dksX3_order_2 11 rfl rfl)
theorem dX3_order_59 : decode cX3_order 59 = .ok (.iconst 0, 1) := dk_3 (dk_at dksX3_order_2 12 rfl rfl)
theorem dX3_order_60 : decode cX3_order 60 = .ok (.iload_n 1, 1) := dk_27 (dk_at dksX3_order_2 13 rfl rfl)
theorem dX3_order_61 : decode cX3_order 61 = .ok (.iload_n 2, 1) := dk_28 (dk_at dksX3_order_2 14 rfl rfl)
theorem dX3_order_62 : decode cX3_order 62 = .ok (.invokevirtual 300, 3) := dk_182 1 44 (dk_at dksX3_order_2 15 rfl rfl)
theorem dX3_order_65 : decode cX3_order 65 = .ok (.iload_n 3, 1) := dk_29 (dk_at dksX3_order_2 18 rfl rfl)
theorem dX3_order_66 : decode cX3_order 66 = .ok (.iconst (-1), 1) := dk_2 (dk_at dksX3_order_2 19 rfl rfl)
theorem dX3_order_67 : decode cX3_order 67 = .ok (.if_icmp .ne 10, 3) := dk_160 0 10 (dk_at dksX3_order_2 20 rfl rfl)
theorem dX3_order_70 : decode cX3_order 70 = .ok (.aload_n 0, 1) := dk_42 (dk_at dksX3_order_2 23 rfl rfl)
theorem dX3_order_71 : decode cX3_order 71 = .ok (.getfield 297, 3) := dk_180 1 41 (dk_at dksX3_order_3 0 rfl rfl)
theorem dX3_order_74 : decode cX3_order 74 = .ok (.goto 9, 3) := dk_167 0 9 (dk_at dksX3_order_3 3 rfl rfl)
theorem dX3_order_77 : decode cX3_order 77 = .ok (.aload_n 0, 1) := dk_42 (dk_at dksX3_order_3 6 rfl rfl)
theorem dX3_order_78 : decode cX3_order 78 = .ok (.getfield 110, 3) := dk_180 0 110 (dk_at dksX3_order_3 7 rfl rfl)
theorem dX3_order_81 : decode cX3_order 81 = .ok (.iload_n 3, 1) := dk_29 (dk_at dksX3_order_3 10 rfl rfl)
theorem dX3_order_82 : decode cX3_order 82 = .ok (.iaload, 1) := dk_46 (dk_at dksX3_order_3 11 rfl rfl)
theorem dX3_order_83 : decode cX3_order 83 = .ok (.ireturn, 1) := dk_172 (dk_at dksX3_order_3 12 rfl rfl)
def dkwX3_orders_6 : List UInt8 := [132, 4, 1, 167, 255, 208, 177]
abbrev dktX3_orders_6 : List UInt8 := dkwX3_orders_6 ++ []
def dkwX3_orders_5 : List UInt8 := [180, 0, 107, 27, 21, 4, 79, 42, 27, 4, 96, 28, 4, 21, 4, 120, 2, 130, 126, 29, 182, 1, 44]
abbrev dktX3_orders_5 : List UInt8 := dkwX3_orders_5 ++ dktX3_orders_6
def dkwX3_orders_4 : List UInt8 := [21, 4, 42, 180, 0, 116, 162, 0, 45, 28, 21, 4, 122, 4, 126, 154, 0, 6, 167, 0, 27, 42]
abbrev dktX3_orders_4 : List UInt8 := dkwX3_orders_4 ++ dktX3_orders_5
def dkwX3_orders_3 : List UInt8 := [180, 0, 110, 21, 5, 42, 180, 0, 107, 21, 5, 46, 79, 132, 5, 1, 167, 255, 233, 177, 3, 54, 4]
abbrev dktX3_orders_3 : List UInt8 := dkwX3_orders_3 ++ dktX3_orders_4
def dkwX3_orders_2 : List UInt8 := [180, 1, 41, 163, 0, 4, 177, 42, 21, 4, 181, 1, 41, 3, 54, 5, 21, 5, 27, 162, 0, 23, 42]
abbrev dktX3_orders_2 : List UInt8 := dkwX3_orders_2 ++ dktX3_orders_3
def dkwX3_orders_1 : List UInt8 := [42, 180, 0, 107, 21, 4, 46, 79, 132, 4, 1, 167, 255, 233, 42, 29, 182, 1, 32, 54, 4, 21, 4, 42]
abbrev dktX3_orders_1 : List UInt8 := dkwX3_orders_1 ++ dktX3_orders_2
def dkwX3_orders_0 : List UInt8 := [28, 154, 0, 90, 42, 27, 181, 1, 1, 3, 54, 4, 21, 4, 27, 162, 0, 23, 42, 180, 0, 95, 21, 4]
abbrev dktX3_orders_0 : List UInt8 := dkwX3_orders_0 ++ dktX3_orders_1
theorem dksX3_orders_0 : cX3_orders.data.toList.drop 0 = dktX3_orders_0 := by decide +kernel
theorem dksX3_orders_1 : cX3_orders.data.toList.drop 24 = dktX3_orders_1 := dk_seg dksX3_orders_0 24 rfl rfl
theorem dksX3_orders_2 : cX3_orders.data.toList.drop 48 = dktX3_orders_2 := dk_seg dksX3_orders_1 24 rfl rfl
theorem dksX3_orders_3 : cX3_orders.data.toList.drop 71 = dktX3_orders_3 := dk_seg dksX3_orders_2 23 rfl rfl
theorem dksX3_orders_4 : cX3_orders.data.toList.drop 94 = dktX3_orders_4 := dk_seg dksX3_orders_3 23 rfl rfl
theorem dksX3_orders_5 : cX3_orders.data.toList.drop 116 = dktX3_orders_5 := dk_seg dksX3_orders_4 22 rfl rfl
theorem dksX3_orders_6 : cX3_orders.data.toList.drop 139 = dktX3_orders_6 := dk_seg dksX3_orders_5 23 rfl rfl
theorem dX3_orders_0 : decode cX3_orders 0 = .ok (.iload_n 2, 1) := dk_28 (dk_at dksX3_orders_0 0 rfl rfl)
theorem dX3_orders_1 : decode cX3_orders 1 = .ok (.ifCond .ne 90, 3) := dk_154 0 90 (dk_at dksX3_orders_0 1 rfl rfl)
theorem dX3_orders_4 : decode cX3_orders 4 = .ok (.aload_n 0, 1) := dk_42 (dk_at dksX3_orders_0 4 rfl rfl)
theorem dX3_orders_5 : decode cX3_orders 5 = .ok (.iload_n 1, 1) := dk_27 (dk_at dksX3_orders_0 5 rfl rfl)
theorem dX3_orders_6 : decode cX3_orders 6 = .ok (.putfield 257, 3) := dk_181 1 1 (dk_at dksX3_orders_0 6 rfl rfl)
theorem dX3_orders_9 : decode cX3_orders 9 = .ok (.iconst 0, 1) := dk_3 (dk_at dksX3_orders_0 9 rfl rfl)
theorem dX3_orders_10 : decode cX3_orders 10 = .ok (.istore 4, 2) := dk_54 4 (dk_at dksX3_orders_0 10 rfl rfl)
theorem dX3_orders_12 : decode cX3_orders 12 = .ok (.iload 4, 2) := dk_21 4 (dk_at dksX3_orders_0 12 rfl rfl)
theorem dX3_orders_14 : decode cX3_orders 14 = .ok (.iload_n 1, 1) := dk_27 (dk_at dksX3_orders_0 14 rfl rfl)
theorem dX3_orders_15 : decode cX3_orders 15 = .ok (.if_icmp .ge 23, 3) := dk_162 0 23 (dk_at dksX3_orders_0 15 rfl rfl)
theorem dX3_orders_18 : decode cX3_orders 18 = .ok (.aload_n 0, 1) := dk_42 (dk_at dksX3_orders_0 18 rfl rfl)
theorem dX3_orders_19 : decode cX3_orders 19 = .ok (.getfield 95, 3) := dk_180 0 95 (dk_at dksX3_orders_0 19 rfl rfl)
theorem dX3_orders_22 : decode cX3_orders 22 = .ok (.iload 4, 2) := dk_21 4 (dk_at dksX3_orders_0 22 rfl rfl)
theorem dX3_orders_24 : decode cX3_orders 24 = .ok (.aload_n 0, 1) := dk_42 (dk_at dksX3_orders_1 0 rfl rfl)
theorem dX3_orders_25 : decode cX3_orders 25 = .ok (.getfield 107, 3) := dk_180 0 107 (dk_at dksX3_orders_1 1 rfl rfl)
theorem dX3_orders_28 : decode cX3_orders 28 = .ok (.iload 4, 2) := dk_21 4 (dk_at dksX3_orders_1 4 rfl rfl)
theorem dX3_orders_30 : decode cX3_orders 30 = .ok (.iaload, 1) := dk_46 (dk_at dksX3_orders_1 6 rfl rfl)
theorem dX3_orders_31 : decode cX3_orders 31 = .ok (.iastore, 1) := dk_79 (dk_at dksX3_orders_1 7 rfl rfl)
theorem dX3_orders_32 : decode cX3_orders 32 = .ok (.iinc 4 1, 3) := dk_132 4 1 (dk_at dksX3_orders_1 8 rfl rfl)
theorem dX3_orders_35 : decode cX3_orders 35 = .ok (.goto (-23), 3) := dk_167 255 233 (dk_at dksX3_orders_1 11 rfl rfl)
theorem dX3_orders_38 : decode cX3_orders 38 = .ok (.aload_n 0, 1) := dk_42 (dk_at dksX3_orders_1 14 rfl rfl)
theorem dX3_orders_39 : decode cX3_orders 39 = .ok (.iload_n 3, 1) := dk_29 (dk_at dksX3_orders_1 15 rfl rfl)
theorem dX3_orders_40 : decode cX3_orders 40 = .ok (.invokevirtual 288, 3) := dk_182 1 32 (dk_at dksX3_orders_1 16 rfl rfl)
theorem dX3_orders_43 : decode cX3_orders 43 = .ok (.istore 4, 2) := dk_54 4 (dk_at dksX3_orders_1 19 rfl rfl)
theorem dX3_orders_45 : decode cX3_orders 45 = .ok (.iload 4, 2) := dk_21 4 (dk_at dksX3_orders_1 21 rfl rfl)
theorem dX3_orders_47 : decode cX3_orders 47 = .ok (.aload_n 0, 1) := dk_42 (dk_at dksX3_orders_1 23 rfl rfl)
theorem dX3_orders_48 : decode cX3_orders 48 = .ok (.getfield 297, 3) := dk_180 1 41 (dk_at dksX3_orders_2 0 rfl rfl)
theorem dX3_orders_51 : decode cX3_orders 51 = .ok (.if_icmp .gt 4, 3) := dk_163 0 4 (dk_at dksX3_orders_2 3 rfl rfl)
theorem dX3_orders_54 : decode cX3_orders 54 = .ok (.return_, 1) := dk_177 (dk_at dksX3_orders_2 6 rfl rfl)
theorem dX3_orders_55 : decode cX3_orders 55 = .ok (.aload_n 0, 1) := dk_42 (dk_at dksX3_orders_2 7 rfl rfl)
theorem dX3_orders_56 : decode cX3_orders 56 = .ok (.iload 4, 2) := dk_21 4 (dk_at dksX3_orders_2 8 rfl rfl)
theorem dX3_orders_58 : decode cX3_orders 58 = .ok (.putfield 297, 3) := dk_181 1 41 (dk_at dksX3_orders_2 10 rfl rfl)
theorem dX3_orders_61 : decode cX3_orders 61 = .ok (.iconst 0, 1) := dk_3 (dk_at dksX3_orders_2 13 rfl rfl)
theorem dX3_orders_62 : decode cX3_orders 62 = .ok (.istore 5, 2) := dk_54 5 (dk_at dksX3_orders_2 14 rfl rfl)
theorem dX3_orders_64 : decode cX3_orders 64 = .ok (.iload 5, 2) := dk_21 5 (dk_at dksX3_orders_2 16 rfl rfl)
theorem dX3_orders_66 : decode cX3_orders 66 = .ok (.iload_n 1, 1) := dk_27 (dk_at dksX3_orders_2 18 rfl rfl)
theorem dX3_orders_67 : decode cX3_orders 67 = .ok (.if_icmp .ge 23, 3) := dk_162 0 23 (dk_at dksX3_orders_2 19 rfl rfl)
theorem dX3_orders_70 : decode cX3_orders 70 = .ok (.aload_n 0, 1) := dk_42 (dk_at dksX3_orders_2 22 rfl rfl)
theorem dX3_orders_71 : decode cX3_orders 71 = .ok (.getfield 110, 3) := dk_180 0 110 (dk_at dksX3_orders_3 0 rfl rfl)
theorem dX3_orders_74 : decode cX3_orders 74 = .ok (.iload 5, 2) := dk_21 5 (dk_at dksX3_orders_3 3 rfl rfl)
theorem dX3_orders_76 : decode cX3_orders 76 = .ok (.aload_n 0, 1) := dk_42 (dk_at dksX3_orders_3 5 rfl rfl)
theorem dX3_orders_77 : decode cX3_orders 77 = .ok (.getfield 107, 3) := dk_180 0 107 (dk_at dksX3_orders_3 6 rfl rfl)
theorem dX3_orders_80 : decode cX3_orders 80 = .ok (.iload 5, 2) := dk_21 5 (dk_at dksX3_orders_3 9 rfl rfl)
theorem dX3_orders_82 : decode cX3_orders 82 = .ok (.iaload, 1) := dk_46 (dk_at dksX3_orders_3 11 rfl rfl)
theorem dX3_orders_83 : decode cX3_orders 83 = .ok (.iastore, 1) := dk_79 (dk_at dksX3_orders_3 12 rfl rfl)
theorem dX3_orders_84 : decode cX3_orders 84 = .ok (.iinc 5 1, 3) := dk_132 5 1 (dk_at dksX3_orders_3 13 rfl rfl)
theorem dX3_orders_87 : decode cX3_orders 87 = .ok (.goto (-23), 3) := dk_167 255 233 (dk_at dksX3_orders_3 16 rfl rfl)
theorem dX3_orders_90 : decode cX3_orders 90 = .ok (.return_, 1) := dk_177 (dk_at dksX3_orders_3 19 rfl rfl)
theorem dX3_orders_91 : decode cX3_orders 91 = .ok (.iconst 0, 1) := dk_3 (dk_at dksX3_orders_3 20 rfl rfl)
theorem dX3_orders_92 : decode cX3_orders 92 = .ok (.istore 4, 2) := dk_54 4 (dk_at dksX3_orders_3 21 rfl rfl)
theorem dX3_orders_94 : decode cX3_orders 94 = .ok (.iload 4, 2) := dk_21 4 (dk_at dksX3_orders_4 0 rfl rfl)
theorem dX3_orders_96 : decode cX3_orders 96 = .ok (.aload_n 0, 1) := dk_42 (dk_at dksX3_orders_4 2 rfl rfl)
theorem dX3_orders_97 : decode cX3_orders 97 = .ok (.getfield 116, 3) := dk_180 0 116 (dk_at dksX3_orders_4 3 rfl rfl)
theorem dX3_orders_100 : decode cX3_orders 100 = .ok (.if_icmp .ge 45, 3) := dk_162 0 45 (dk_at dksX3_orders_4 6 rfl rfl)
theorem dX3_orders_103 : decode cX3_orders 103 = .ok (.iload_n 2, 1) := dk_28 (dk_at dksX3_orders_4 9 rfl rfl)
theorem dX3_orders_104 : decode cX3_orders 104 = .ok (.iload 4, 2) := dk_21 4 (dk_at dksX3_orders_4 10 rfl rfl)
theorem dX3_orders_106 : decode cX3_orders 106 = .ok (.ishr, 1) := dk_122 (dk_at dksX3_orders_4 12 rfl rfl)
theorem dX3_orders_107 : decode cX3_orders 107 = .ok (.iconst 1, 1) := dk_4 (dk_at dksX3_orders_4 13 rfl rfl)
theorem dX3_orders_108 : decode cX3_orders 108 = .ok (.iand, 1) := dk_126 (dk_at dksX3_orders_4 14 rfl rfl)
theorem dX3_orders_109 : decode cX3_orders 109 = .ok (.ifCond .ne 6, 3) := dk_154 0 6 (dk_at dksX3_orders_4 15 rfl rfl)
theorem dX3_orders_112 : decode cX3_orders 112 = .ok (.goto 27, 3) := dk_167 0 27 (dk_at dksX3_orders_4 18 rfl rfl)
theorem dX3_orders_115 : decode cX3_orders 115 = .ok (.aload_n 0, 1) := dk_42 (dk_at dksX3_orders_4 21 rfl rfl)
theorem dX3_orders_116 : decode cX3_orders 116 = .ok (.getfield 107, 3) := dk_180 0 107 (dk_at dksX3_orders_5 0 rfl rfl)
theorem dX3_orders_119 : decode cX3_orders 119 = .ok (.iload_n 1, 1) := dk_27 (dk_at dksX3_orders_5 3 rfl rfl)
theorem dX3_orders_120 : decode cX3_orders 120 = .ok (.iload 4, 2) := dk_21 4 (dk_at dksX3_orders_5 4 rfl rfl)
theorem dX3_orders_122 : decode cX3_orders 122 = .ok (.iastore, 1) := dk_79 (dk_at dksX3_orders_5 6 rfl rfl)
theorem dX3_orders_123 : decode cX3_orders 123 = .ok (.aload_n 0, 1) := dk_42 (dk_at dksX3_orders_5 7 rfl rfl)
theorem dX3_orders_124 : decode cX3_orders 124 = .ok (.iload_n 1, 1) := dk_27 (dk_at dksX3_orders_5 8 rfl rfl)
theorem dX3_orders_125 : decode cX3_orders 125 = .ok (.iconst 1, 1) := dk_4 (dk_at dksX3_orders_5 9 rfl rfl)
theorem dX3_orders_126 : decode cX3_orders 126 = .ok (.iadd, 1) := dk_96 (dk_at dksX3_orders_5 10 rfl rfl)
theorem dX3_orders_127 : decode cX3_orders 127 = .ok (.iload_n 2, 1) := dk_28 (dk_at dksX3_orders_5 11 rfl rfl)
theorem dX3_orders_128 : decode cX3_orders 128 = .ok (.iconst 1, 1) := dk_4 (dk_at dksX3_orders_5 12 rfl rfl)
theorem dX3_orders_129 : decode cX3_orders 129 = .ok (.iload 4, 2) := dk_21 4 (dk_at dksX3_orders_5 13 rfl rfl)
theorem dX3_orders_131 : decode cX3_orders 131 = .ok (.ishl, 1) := dk_120 (dk_at dksX3_orders_5 15 rfl rfl)
theorem dX3_orders_132 : decode cX3_orders 132 = .ok (.iconst (-1), 1) := dk_2 (dk_at dksX3_orders_5 16 rfl rfl)
theorem dX3_orders_133 : decode cX3_orders 133 = .ok (.ixor, 1) := dk_130 (dk_at dksX3_orders_5 17 rfl rfl)
theorem dX3_orders_134 : decode cX3_orders 134 = .ok (.iand, 1) := dk_126 (dk_at dksX3_orders_5 18 rfl rfl)
theorem dX3_orders_135 : decode cX3_orders 135 = .ok (.iload_n 3, 1) := dk_29 (dk_at dksX3_orders_5 19 rfl rfl)
theorem dX3_orders_136 : decode cX3_orders 136 = .ok (.invokevirtual 300, 3) := dk_182 1 44 (dk_at dksX3_orders_5 20 rfl rfl)
theorem dX3_orders_139 : decode cX3_orders 139 = .ok (.iinc 4 1, 3) := dk_132 4 1 (dk_at dksX3_orders_6 0 rfl rfl)
theorem dX3_orders_142 : decode cX3_orders 142 = .ok (.goto (-48), 3) := dk_167 255 208 (dk_at dksX3_orders_6 3 rfl rfl)
theorem dX3_orders_145 : decode cX3_orders 145 = .ok (.return_, 1) := dk_177 (dk_at dksX3_orders_6 6 rfl rfl)
def dkwX3_flow_2 : List UInt8 := [16, 10, 108, 104, 28, 16, 10, 112, 96, 46, 172]
abbrev dktX3_flow_2 : List UInt8 := dkwX3_flow_2 ++ []
def dkwX3_flow_1 : List UInt8 := [156, 0, 5, 29, 172, 42, 27, 182, 1, 23, 42, 3, 182, 1, 32, 87, 42, 180, 0, 92, 16, 8, 28]
abbrev dktX3_flow_1 : List UInt8 := dkwX3_flow_1 ++ dktX3_flow_2
def dkwX3_flow_0 : List UInt8 := [27, 184, 0, 127, 153, 0, 11, 42, 28, 182, 1, 52, 154, 0, 5, 2, 172, 42, 27, 182, 1, 20, 62, 29]
abbrev dktX3_flow_0 : List UInt8 := dkwX3_flow_0 ++ dktX3_flow_1
theorem dksX3_flow_0 : cX3_flow.data.toList.drop 0 = dktX3_flow_0 := by decide +kernel
theorem dksX3_flow_1 : cX3_flow.data.toList.drop 24 = dktX3_flow_1 := dk_seg dksX3_flow_0 24 rfl rfl
theorem dksX3_flow_2 : cX3_flow.data.toList.drop 47 = dktX3_flow_2 := dk_seg dksX3_flow_1 23 rfl rfl
theorem dX3_flow_0 : decode cX3_flow 0 = .ok (.iload_n 1, 1) := dk_27 (dk_at dksX3_flow_0 0 rfl rfl)
theorem dX3_flow_1 : decode cX3_flow 1 = .ok (.invokestatic 127, 3) := dk_184 0 127 (dk_at dksX3_flow_0 1 rfl rfl)
theorem dX3_flow_4 : decode cX3_flow 4 = .ok (.ifCond .eq 11, 3) := dk_153 0 11 (dk_at dksX3_flow_0 4 rfl rfl)
theorem dX3_flow_7 : decode cX3_flow 7 = .ok (.aload_n 0, 1) := dk_42 (dk_at dksX3_flow_0 7 rfl rfl)
theorem dX3_flow_8 : decode cX3_flow 8 = .ok (.iload_n 2, 1) := dk_28 (dk_at dksX3_flow_0 8 rfl rfl)
theorem dX3_flow_9 : decode cX3_flow 9 = .ok (.invokevirtual 308, 3) := dk_182 1 52 (dk_at dksX3_flow_0 9 rfl rfl)
theorem dX3_flow_12 : decode cX3_flow 12 = .ok (.ifCond .ne 5, 3) := dk_154 0 5 (dk_at dksX3_flow_0 12 rfl rfl)
theorem dX3_flow_15 : decode cX3_flow 15 = .ok (.iconst (-1), 1) := dk_2 (dk_at dksX3_flow_0 15 rfl rfl)
theorem dX3_flow_16 : decode cX3_flow 16 = .ok (.ireturn, 1) := dk_172 (dk_at dksX3_flow_0 16 rfl rfl)
theorem dX3_flow_17 : decode cX3_flow 17 = .ok (.aload_n 0, 1) := dk_42 (dk_at dksX3_flow_0 17 rfl rfl)
theorem dX3_flow_18 : decode cX3_flow 18 = .ok (.iload_n 1, 1) := dk_27 (dk_at dksX3_flow_0 18 rfl rfl)
theorem dX3_flow_19 : decode cX3_flow 19 = .ok (.invokevirtual 276, 3) := dk_182 1 20 (dk_at dksX3_flow_0 19 rfl rfl)
theorem dX3_flow_22 : decode cX3_flow 22 = .ok (.istore_n 3, 1) := dk_62 (dk_at dksX3_flow_0 22 rfl rfl)
theorem dX3_flow_23 : decode cX3_flow 23 = .ok (.iload_n 3, 1) := dk_29 (dk_at dksX3_flow_0 23 rfl rfl)
theorem dX3_flow_24 : decode cX3_flow 24 = .ok (.ifCond .ge 5, 3) := dk_156 0 5 (dk_at dksX3_flow_1 0 rfl rfl)
theorem dX3_flow_27 : decode cX3_flow 27 = .ok (.iload_n 3, 1) := dk_29 (dk_at dksX3_flow_1 3 rfl rfl)
theorem dX3_flow_28 : decode cX3_flow 28 = .ok (.ireturn, 1) := dk_172 (dk_at dksX3_flow_1 4 rfl rfl)
theorem dX3_flow_29 : decode cX3_flow 29 = .ok (.aload_n 0, 1) := dk_42 (dk_at dksX3_flow_1 5 rfl rfl)
theorem dX3_flow_30 : decode cX3_flow 30 = .ok (.iload_n 1, 1) := dk_27 (dk_at dksX3_flow_1 6 rfl rfl)
theorem dX3_flow_31 : decode cX3_flow 31 = .ok (.invokevirtual 279, 3) := dk_182 1 23 (dk_at dksX3_flow_1 7 rfl rfl)
theorem dX3_flow_34 : decode cX3_flow 34 = .ok (.aload_n 0, 1) := dk_42 (dk_at dksX3_flow_1 10 rfl rfl)
theorem dX3_flow_35 : decode cX3_flow 35 = .ok (.iconst 0, 1) := dk_3 (dk_at dksX3_flow_1 11 rfl rfl)
theorem dX3_flow_36 : decode cX3_flow 36 = .ok (.invokevirtual 288, 3) := dk_182 1 32 (dk_at dksX3_flow_1 12 rfl rfl)
theorem dX3_flow_39 : decode cX3_flow 39 = .ok (.pop, 1) := dk_87 (dk_at dksX3_flow_1 15 rfl rfl)
theorem dX3_flow_40 : decode cX3_flow 40 = .ok (.aload_n 0, 1) := dk_42 (dk_at dksX3_flow_1 16 rfl rfl)
theorem dX3_flow_41 : decode cX3_flow 41 = .ok (.getfield 92, 3) := dk_180 0 92 (dk_at dksX3_flow_1 17 rfl rfl)
theorem dX3_flow_44 : decode cX3_flow 44 = .ok (.bipush 8, 2) := dk_16 8 (dk_at dksX3_flow_1 20 rfl rfl)
theorem dX3_flow_46 : decode cX3_flow 46 = .ok (.iload_n 2, 1) := dk_28 (dk_at dksX3_flow_1 22 rfl rfl)
theorem dX3_flow_47 : decode cX3_flow 47 = .ok (.bipush 10, 2) := dk_16 10 (dk_at dksX3_flow_2 0 rfl rfl)
theorem dX3_flow_49 : decode cX3_flow 49 = .ok (.idiv, 1) := dk_108 (dk_at dksX3_flow_2 2 rfl rfl)
theorem dX3_flow_50 : decode cX3_flow 50 = .ok (.imul, 1) := dk_104 (dk_at dksX3_flow_2 3 rfl rfl)
theorem dX3_flow_51 : decode cX3_flow 51 = .ok (.iload_n 2, 1) := dk_28 (dk_at dksX3_flow_2 4 rfl rfl)
theorem dX3_flow_52 : decode cX3_flow 52 = .ok (.bipush 10, 2) := dk_16 10 (dk_at dksX3_flow_2 5 rfl rfl)
theorem dX3_flow_54 : decode cX3_flow 54 = .ok (.irem, 1) := dk_112 (dk_at dksX3_flow_2 7 rfl rfl)
theorem dX3_flow_55 : decode cX3_flow 55 = .ok (.iadd, 1) := dk_96 (dk_at dksX3_flow_2 8 rfl rfl)
theorem dX3_flow_56 : decode cX3_flow 56 = .ok (.iaload, 1) := dk_46 (dk_at dksX3_flow_2 9 rfl rfl)
theorem dX3_flow_57 : decode cX3_flow 57 = .ok (.ireturn, 1) := dk_172 (dk_at dksX3_flow_2 10 rfl rfl)
def dkwX3_isPair_1 : List UInt8 := [153, 0, 18, 27, 16, 10, 108, 27, 16, 10, 112, 159, 0, 7, 4, 167, 0, 4, 3, 172]
abbrev dktX3_isPair_1 : List UInt8 := dkwX3_isPair_1 ++ []
def dkwX3_isPair_0 : List UInt8 := [27, 155, 0, 40, 42, 27, 16, 10, 108, 182, 0, 137, 153, 0, 29, 42, 27, 16, 10, 112, 182, 0, 137]
abbrev dktX3_isPair_0 : List UInt8 := dkwX3_isPair_0 ++ dktX3_isPair_1
theorem dksX3_isPair_0 : cX3_isPair.data.toList.drop 0 = dktX3_isPair_0 := by decide +kernel
theorem dksX3_isPair_1 : cX3_isPair.data.toList.drop 23 = dktX3_isPair_1 := dk_seg dksX3_isPair_0 23 rfl rfl
theorem dX3_isPair_0 : decode cX3_isPair 0 = .ok (.iload_n 1, 1) := dk_27 (dk_at dksX3_isPair_0 0 rfl rfl)
theorem dX3_isPair_1 : decode cX3_isPair 1 = .ok (.ifCond .lt 40, 3) := dk_155 0 40 (dk_at dksX3_isPair_0 1 rfl rfl)
theorem dX3_isPair_4 : decode cX3_isPair 4 = .ok (.aload_n 0, 1) := dk_42 (dk_at dksX3_isPair_0 4 rfl rfl)
theorem dX3_isPair_5 : decode cX3_isPair 5 = .ok (.iload_n 1, 1) := dk_27 (dk_at dksX3_isPair_0 5 rfl rfl)
theorem dX3_isPair_6 : decode cX3_isPair 6 = .ok (.bipush 10, 2) := dk_16 10 (dk_at dksX3_isPair_0 6 rfl rfl)
theorem dX3_isPair_8 : decode cX3_isPair 8 = .ok (.idiv, 1) := dk_108 (dk_at dksX3_isPair_0 8 rfl rfl)
theorem dX3_isPair_9 : decode cX3_isPair 9 = .ok (.invokevirtual 137, 3) := dk_182 0 137 (dk_at dksX3_isPair_0 9 rfl rfl)
theorem dX3_isPair_12 : decode cX3_isPair 12 = .ok (.ifCond .eq 29, 3) := dk_153 0 29 (dk_at dksX3_isPair_0 12 rfl rfl)
theorem dX3_isPair_15 : decode cX3_isPair 15 = .ok (.aload_n 0, 1) := dk_42 (dk_at dksX3_isPair_0 15 rfl rfl)
theorem dX3_isPair_16 : decode cX3_isPair 16 = .ok (.iload_n 1, 1) := dk_27 (dk_at dksX3_isPair_0 16 rfl rfl)
theorem dX3_isPair_17 : decode cX3_isPair 17 = .ok (.bipush 10, 2) := dk_16 10 (dk_at dksX3_isPair_0 17 rfl rfl)
theorem dX3_isPair_19 : decode cX3_isPair 19 = .ok (.irem, 1) := dk_112 (dk_at dksX3_isPair_0 19 rfl rfl)
theorem dX3_isPair_20 : decode cX3_isPair 20 = .ok (.invokevirtual 137, 3) := dk_182 0 137 (dk_at dksX3_isPair_0 20 rfl rfl)
theorem dX3_isPair_23 : decode cX3_isPair 23 = .ok (.ifCond .eq 18, 3) := dk_153 0 18 (dk_at dksX3_isPair_1 0 rfl rfl)
theorem dX3_isPair_26 : decode cX3_isPair 26 = .ok (.iload_n 1, 1) := dk_27 (dk_at dksX3_isPair_1 3 rfl rfl)
theorem dX3_isPair_27 : decode cX3_isPair 27 = .ok (.bipush 10, 2) := dk_16 10 (dk_at dksX3_isPair_1 4 rfl rfl)
theorem dX3_isPair_29 : decode cX3_isPair 29 = .ok (.idiv, 1) := dk_108 (dk_at dksX3_isPair_1 6 rfl rfl)
theorem dX3_isPair_30 : decode cX3_isPair 30 = .ok (.iload_n 1, 1) := dk_27 (dk_at dksX3_isPair_1 7 rfl rfl)
theorem dX3_isPair_31 : decode cX3_isPair 31 = .ok (.bipush 10, 2) := dk_16 10 (dk_at dksX3_isPair_1 8 rfl rfl)
theorem dX3_isPair_33 : decode cX3_isPair 33 = .ok (.irem, 1) := dk_112 (dk_at dksX3_isPair_1 10 rfl rfl)
theorem dX3_isPair_34 : decode cX3_isPair 34 = .ok (.if_icmp .eq 7, 3) := dk_159 0 7 (dk_at dksX3_isPair_1 11 rfl rfl)
theorem dX3_isPair_37 : decode cX3_isPair 37 = .ok (.iconst 1, 1) := dk_4 (dk_at dksX3_isPair_1 14 rfl rfl)
theorem dX3_isPair_38 : decode cX3_isPair 38 = .ok (.goto 4, 3) := dk_167 0 4 (dk_at dksX3_isPair_1 15 rfl rfl)
theorem dX3_isPair_41 : decode cX3_isPair 41 = .ok (.iconst 0, 1) := dk_3 (dk_at dksX3_isPair_1 18 rfl rfl)
theorem dX3_isPair_42 : decode cX3_isPair 42 = .ok (.ireturn, 1) := dk_172 (dk_at dksX3_isPair_1 19 rfl rfl)
def dkwX3_round_5 : List UInt8 := [180, 0, 86, 3, 182, 1, 17, 28, 154, 0, 10, 42, 182, 1, 55, 167, 0, 5, 21, 4, 172]
abbrev dktX3_round_5 : List UInt8 := dkwX3_round_5 ++ []
def dkwX3_round_4 : List UInt8 := [180, 0, 86, 21, 4, 46, 100, 164, 0, 7, 21, 5, 54, 4, 132, 5, 1, 167, 255, 207, 42, 42]
abbrev dktX3_round_4 : List UInt8 := dkwX3_round_4 ++ dktX3_round_5
def dkwX3_round_3 : List UInt8 := [180, 0, 22, 21, 5, 46, 42, 180, 0, 86, 21, 5, 46, 100, 42, 180, 0, 22, 21, 4, 46, 42]
abbrev dktX3_round_3 : List UInt8 := dkwX3_round_3 ++ dktX3_round_4
def dkwX3_round_2 : List UInt8 := [182, 1, 11, 42, 182, 1, 14, 3, 54, 4, 4, 54, 5, 21, 5, 42, 180, 0, 116, 162, 0, 46, 42]
abbrev dktX3_round_2 : List UInt8 := dkwX3_round_2 ++ dktX3_round_3
def dkwX3_round_1 : List UInt8 := [29, 156, 0, 5, 29, 172, 42, 180, 0, 116, 154, 0, 6, 16, 254, 172, 42, 27, 182, 1, 23, 42]
abbrev dktX3_round_1 : List UInt8 := dkwX3_round_1 ++ dktX3_round_2
def dkwX3_round_0 : List UInt8 := [27, 184, 0, 127, 153, 0, 12, 28, 3, 4, 184, 0, 119, 154, 0, 5, 2, 172, 42, 27, 182, 1, 20, 62]
abbrev dktX3_round_0 : List UInt8 := dkwX3_round_0 ++ dktX3_round_1
theorem dksX3_round_0 : cX3_round.data.toList.drop 0 = dktX3_round_0 := by decide +kernel
theorem dksX3_round_1 : cX3_round.data.toList.drop 24 = dktX3_round_1 := dk_seg dksX3_round_0 24 rfl rfl
theorem dksX3_round_2 : cX3_round.data.toList.drop 46 = dktX3_round_2 := dk_seg dksX3_round_1 22 rfl rfl
theorem dksX3_round_3 : cX3_round.data.toList.drop 69 = dktX3_round_3 := dk_seg dksX3_round_2 23 rfl rfl
theorem dksX3_round_4 : cX3_round.data.toList.drop 91 = dktX3_round_4 := dk_seg dksX3_round_3 22 rfl rfl
theorem dksX3_round_5 : cX3_round.data.toList.drop 113 = dktX3_round_5 := dk_seg dksX3_round_4 22 rfl rfl
theorem dX3_round_0 : decode cX3_round 0 = .ok (.iload_n 1, 1) := dk_27 (dk_at dksX3_round_0 0 rfl rfl)
theorem dX3_round_1 : decode cX3_round 1 = .ok (.invokestatic 127, 3) := dk_184 0 127 (dk_at dksX3_round_0 1 rfl rfl)
theorem dX3_round_4 : decode cX3_round 4 = .ok (.ifCond .eq 12, 3) := dk_153 0 12 (dk_at dksX3_round_0 4 rfl rfl)
theorem dX3_round_7 : decode cX3_round 7 = .ok (.iload_n 2, 1) := dk_28 (dk_at dksX3_round_0 7 rfl rfl)
theorem dX3_round_8 : decode cX3_round 8 = .ok (.iconst 0, 1) := dk_3 (dk_at dksX3_round_0 8 rfl rfl)
theorem dX3_round_9 : decode cX3_round 9 = .ok (.iconst 1, 1) := dk_4 (dk_at dksX3_round_0 9 rfl rfl)
theorem dX3_round_10 : decode cX3_round 10 = .ok (.invokestatic 119, 3) := dk_184 0 119 (dk_at dksX3_round_0 10 rfl rfl)
theorem dX3_round_13 : decode cX3_round 13 = .ok (.ifCond .ne 5, 3) := dk_154 0 5 (dk_at dksX3_round_0 13 rfl rfl)
theorem dX3_round_16 : decode cX3_round 16 = .ok (.iconst (-1), 1) := dk_2 (dk_at dksX3_round_0 16 rfl rfl)
theorem dX3_round_17 : decode cX3_round 17 = .ok (.ireturn, 1) := dk_172 (dk_at dksX3_round_0 17 rfl rfl)
theorem dX3_round_18 : decode cX3_round 18 = .ok (.aload_n 0, 1) := dk_42 (dk_at dksX3_round_0 18 rfl rfl)
theorem dX3_round_19 : decode cX3_round 19 = .ok (.iload_n 1, 1) := dk_27 (dk_at dksX3_round_0 19 rfl rfl)
theorem dX3_round_20 : decode cX3_round 20 = .ok (.invokevirtual 276, 3) := dk_182 1 20 (dk_at dksX3_round_0 20 rfl rfl)
theorem dX3_round_23 : decode cX3_round 23 = .ok (.istore_n 3, 1) := dk_62 (dk_at dksX3_round_0 23 rfl rfl)
theorem dX3_round_24 : decode cX3_round 24 = .ok (.iload_n 3, 1) := dk_29 (dk_at dksX3_round_1 0 rfl rfl)
theorem dX3_round_25 : decode cX3_round 25 = .ok (.ifCond .ge 5, 3) := dk_156 0 5 (dk_at dksX3_round_1 1 rfl rfl)
theorem dX3_round_28 : decode cX3_round 28 = .ok (.iload_n 3, 1) := dk_29 (dk_at dksX3_round_1 4 rfl rfl)
theorem dX3_round_29 : decode cX3_round 29 = .ok (.ireturn, 1) := dk_172 (dk_at dksX3_round_1 5 rfl rfl)
theorem dX3_round_30 : decode cX3_round 30 = .ok (.aload_n 0, 1) := dk_42 (dk_at dksX3_round_1 6 rfl rfl)
theorem dX3_round_31 : decode cX3_round 31 = .ok (.getfield 116, 3) := dk_180 0 116 (dk_at dksX3_round_1 7 rfl rfl)
theorem dX3_round_34 : decode cX3_round 34 = .ok (.ifCond .ne 6, 3) := dk_154 0 6 (dk_at dksX3_round_1 10 rfl rfl)
theorem dX3_round_37 : decode cX3_round 37 = .ok (.bipush (-2), 2) := dk_16 254 (dk_at dksX3_round_1 13 rfl rfl)
theorem dX3_round_39 : decode cX3_round 39 = .ok (.ireturn, 1) := dk_172 (dk_at dksX3_round_1 15 rfl rfl)
theorem dX3_round_40 : decode cX3_round 40 = .ok (.aload_n 0, 1) := dk_42 (dk_at dksX3_round_1 16 rfl rfl)
theorem dX3_round_41 : decode cX3_round 41 = .ok (.iload_n 1, 1) := dk_27 (dk_at dksX3_round_1 17 rfl rfl)
theorem dX3_round_42 : decode cX3_round 42 = .ok (.invokevirtual 279, 3) := dk_182 1 23 (dk_at dksX3_round_1 18 rfl rfl)
theorem dX3_round_45 : decode cX3_round 45 = .ok (.aload_n 0, 1) := dk_42 (dk_at dksX3_round_1 21 rfl rfl)
theorem dX3_round_46 : decode cX3_round 46 = .ok (.invokevirtual 267, 3) := dk_182 1 11 (dk_at dksX3_round_2 0 rfl rfl)
theorem dX3_round_49 : decode cX3_round 49 = .ok (.aload_n 0, 1) := dk_42 (dk_at dksX3_round_2 3 rfl rfl)
theorem dX3_round_50 : decode cX3_round 50 = .ok (.invokevirtual 270, 3) := dk_182 1 14 (dk_at dksX3_round_2 4 rfl rfl)
theorem dX3_round_53 : decode cX3_round 53 = .ok (.iconst 0, 1) := dk_3 (dk_at dksX3_round_2 7 rfl rfl)
theorem dX3_round_54 : decode cX3_round 54 = .ok (.istore 4, 2) := dk_54 4 (dk_at dksX3_round_2 8 rfl rfl)
theorem dX3_round_56 : decode cX3_round 56 = .ok (.iconst 1, 1) := dk_4 (dk_at dksX3_round_2 10 rfl rfl)
theorem dX3_round_57 : decode cX3_round 57 = .ok (.istore 5, 2) := dk_54 5 (dk_at dksX3_round_2 11 rfl rfl)
theorem dX3_round_59 : decode cX3_round 59 = .ok (.iload 5, 2) := dk_21 5 (dk_at dksX3_round_2 13 rfl rfl)
theorem dX3_round_61 : decode cX3_round 61 = .ok (.aload_n 0, 1) := dk_42 (dk_at dksX3_round_2 15 rfl rfl)
theorem dX3_round_62 : decode cX3_round 62 = .ok (.getfield 116, 3) := dk_180 0 116 (dk_at dksX3_round_2 16 rfl rfl)
theorem dX3_round_65 : decode cX3_round 65 = .ok (.if_icmp .ge 46, 3) := dk_162 0 46 (dk_at dksX3_round_2 19 rfl rfl)
theorem dX3_round_68 : decode cX3_round 68 = .ok (.aload_n 0, 1) := dk_42 (dk_at dksX3_round_2 22 rfl rfl)
theorem dX3_round_69 : decode cX3_round 69 = .ok (.getfield 22, 3) := dk_180 0 22 (dk_at dksX3_round_3 0 rfl rfl)
theorem dX3_round_72 : decode cX3_round 72 = .ok (.iload 5, 2) := dk_21 5 (dk_at dksX3_round_3 3 rfl rfl)
theorem dX3_round_74 : decode cX3_round 74 = .ok (.iaload, 1) := dk_46 (dk_at dksX3_round_3 5 rfl rfl)
theorem dX3_round_75 : decode cX3_round 75 = .ok (.aload_n 0, 1) := dk_42 (dk_at dksX3_round_3 6 rfl rfl)
theorem dX3_round_76 : decode cX3_round 76 = .ok (.getfield 86, 3) := dk_180 0 86 (dk_at dksX3_round_3 7 rfl rfl)
theorem dX3_round_79 : decode cX3_round 79 = .ok (.iload 5, 2) := dk_21 5 (dk_at dksX3_round_3 10 rfl rfl)
theorem dX3_round_81 : decode cX3_round 81 = .ok (.iaload, 1) := dk_46 (dk_at dksX3_round_3 12 rfl rfl)
theorem dX3_round_82 : decode cX3_round 82 = .ok (.isub, 1) := dk_100 (dk_at dksX3_round_3 13 rfl rfl)
theorem dX3_round_83 : decode cX3_round 83 = .ok (.aload_n 0, 1) := dk_42 (dk_at dksX3_round_3 14 rfl rfl)
theorem dX3_round_84 : decode cX3_round 84 = .ok (.getfield 22, 3) := dk_180 0 22 (dk_at dksX3_round_3 15 rfl rfl)
theorem dX3_round_87 : decode cX3_round 87 = .ok (.iload 4, 2) := dk_21 4 (dk_at dksX3_round_3 18 rfl rfl)
theorem dX3_round_89 : decode cX3_round 89 = .ok (.iaload, 1) := dk_46 (dk_at dksX3_round_3 20 rfl rfl)
theorem dX3_round_90 : decode cX3_round 90 = .ok (.aload_n 0, 1) := dk_42 (dk_at dksX3_round_3 21 rfl rfl)
theorem dX3_round_91 : decode cX3_round 91 = .ok (.getfield 86, 3) := dk_180 0 86 (dk_at dksX3_round_4 0 rfl rfl)
theorem dX3_round_94 : decode cX3_round 94 = .ok (.iload 4, 2) := dk_21 4 (dk_at dksX3_round_4 3 rfl rfl)
theorem dX3_round_96 : decode cX3_round 96 = .ok (.iaload, 1) := dk_46 (dk_at dksX3_round_4 5 rfl rfl)
theorem dX3_round_97 : decode cX3_round 97 = .ok (.isub, 1) := dk_100 (dk_at dksX3_round_4 6 rfl rfl)
theorem dX3_round_98 : decode cX3_round 98 = .ok (.if_icmp .le 7, 3) := dk_164 0 7 (dk_at dksX3_round_4 7 rfl rfl)
theorem dX3_round_101 : decode cX3_round 101 = .ok (.iload 5, 2) := dk_21 5 (dk_at dksX3_round_4 10 rfl rfl)
theorem dX3_round_103 : decode cX3_round 103 = .ok (.istore 4, 2) := dk_54 4 (dk_at dksX3_round_4 12 rfl rfl)
theorem dX3_round_105 : decode cX3_round 105 = .ok (.iinc 5 1, 3) := dk_132 5 1 (dk_at dksX3_round_4 14 rfl rfl)
theorem dX3_round_108 : decode cX3_round 108 = .ok (.goto (-49), 3) := dk_167 255 207 (dk_at dksX3_round_4 17 rfl rfl)
theorem dX3_round_111 : decode cX3_round 111 = .ok (.aload_n 0, 1) := dk_42 (dk_at dksX3_round_4 20 rfl rfl)
theorem dX3_round_112 : decode cX3_round 112 = .ok (.aload_n 0, 1) := dk_42 (dk_at dksX3_round_4 21 rfl rfl)
theorem dX3_round_113 : decode cX3_round 113 = .ok (.getfield 86, 3) := dk_180 0 86 (dk_at dksX3_round_5 0 rfl rfl)
theorem dX3_round_116 : decode cX3_round 116 = .ok (.iconst 0, 1) := dk_3 (dk_at dksX3_round_5 3 rfl rfl)
theorem dX3_round_117 : decode cX3_round 117 = .ok (.invokevirtual 273, 3) := dk_182 1 17 (dk_at dksX3_round_5 4 rfl rfl)
theorem dX3_round_120 : decode cX3_round 120 = .ok (.iload_n 2, 1) := dk_28 (dk_at dksX3_round_5 7 rfl rfl)
theorem dX3_round_121 : decode cX3_round 121 = .ok (.ifCond .ne 10, 3) := dk_154 0 10 (dk_at dksX3_round_5 8 rfl rfl)
theorem dX3_round_124 : decode cX3_round 124 = .ok (.aload_n 0, 1) := dk_42 (dk_at dksX3_round_5 11 rfl rfl)
theorem dX3_round_125 : decode cX3_round 125 = .ok (.invokevirtual 311, 3) := dk_182 1 55 (dk_at dksX3_round_5 12 rfl rfl)
theorem dX3_round_128 : decode cX3_round 128 = .ok (.goto 5, 3) := dk_167 0 5 (dk_at dksX3_round_5 15 rfl rfl)
theorem dX3_round_131 : decode cX3_round 131 = .ok (.iload 4, 2) := dk_21 4 (dk_at dksX3_round_5 18 rfl rfl)
theorem dX3_round_133 : decode cX3_round 133 = .ok (.ireturn, 1) := dk_172 (dk_at dksX3_round_5 20 rfl rfl)
def dkwX3_ring_6 : List UInt8 := [160, 0, 8, 16, 254, 167, 0, 4, 27, 172]
abbrev dktX3_ring_6 : List UInt8 := dkwX3_ring_6 ++ []
def dkwX3_ring_5 : List UInt8 := [42, 180, 0, 113, 16, 9, 28, 104, 46, 184, 0, 230, 60, 132, 2, 1, 167, 255, 233, 27, 16, 99]
abbrev dktX3_ring_5 : List UInt8 := dkwX3_ring_5 ++ dktX3_ring_6
def dkwX3_ring_4 : List UInt8 := [132, 2, 1, 167, 255, 204, 132, 1, 1, 167, 255, 190, 16, 99, 60, 3, 61, 28, 16, 8, 162, 0, 23, 27]
abbrev dktX3_ring_4 : List UInt8 := dkwX3_ring_4 ++ dktX3_ring_5
def dkwX3_ring_3 : List UInt8 := [112, 100, 27, 96, 46, 42, 180, 0, 113, 16, 8, 27, 104, 28, 16, 8, 112, 96, 46, 96, 184, 0, 230, 79]
abbrev dktX3_ring_3 : List UInt8 := dkwX3_ring_3 ++ dktX3_ring_4
def dkwX3_ring_2 : List UInt8 := [16, 64, 162, 0, 52, 42, 180, 0, 113, 28, 42, 180, 0, 113, 28, 46, 42, 180, 0, 113, 28, 28, 16, 8]
abbrev dktX3_ring_2 : List UInt8 := dkwX3_ring_2 ++ dktX3_ring_3
def dkwX3_ring_1 : List UInt8 := [167, 0, 5, 16, 99, 79, 132, 1, 1, 167, 255, 226, 3, 60, 27, 16, 8, 162, 0, 66, 3, 61, 28]
abbrev dktX3_ring_1 : List UInt8 := dkwX3_ring_1 ++ dktX3_ring_2
def dkwX3_ring_0 : List UInt8 := [3, 60, 27, 16, 64, 162, 0, 30, 42, 180, 0, 113, 27, 42, 180, 0, 92, 27, 46, 158, 0, 7, 4]
abbrev dktX3_ring_0 : List UInt8 := dkwX3_ring_0 ++ dktX3_ring_1
theorem dksX3_ring_0 : cX3_ring.data.toList.drop 0 = dktX3_ring_0 := by decide +kernel
theorem dksX3_ring_1 : cX3_ring.data.toList.drop 23 = dktX3_ring_1 := dk_seg dksX3_ring_0 23 rfl rfl
theorem dksX3_ring_2 : cX3_ring.data.toList.drop 46 = dktX3_ring_2 := dk_seg dksX3_ring_1 23 rfl rfl
theorem dksX3_ring_3 : cX3_ring.data.toList.drop 70 = dktX3_ring_3 := dk_seg dksX3_ring_2 24 rfl rfl
theorem dksX3_ring_4 : cX3_ring.data.toList.drop 94 = dktX3_ring_4 := dk_seg dksX3_ring_3 24 rfl rfl
theorem dksX3_ring_5 : cX3_ring.data.toList.drop 118 = dktX3_ring_5 := dk_seg dksX3_ring_4 24 rfl rfl
theorem dksX3_ring_6 : cX3_ring.data.toList.drop 140 = dktX3_ring_6 := dk_seg dksX3_ring_5 22 rfl rfl
theorem dX3_ring_0 : decode cX3_ring 0 = .ok (.iconst 0, 1) := dk_3 (dk_at dksX3_ring_0 0 rfl rfl)
theorem dX3_ring_1 : decode cX3_ring 1 = .ok (.istore_n 1, 1) := dk_60 (dk_at dksX3_ring_0 1 rfl rfl)
theorem dX3_ring_2 : decode cX3_ring 2 = .ok (.iload_n 1, 1) := dk_27 (dk_at dksX3_ring_0 2 rfl rfl)
theorem dX3_ring_3 : decode cX3_ring 3 = .ok (.bipush 64, 2) := dk_16 64 (dk_at dksX3_ring_0 3 rfl rfl)
theorem dX3_ring_5 : decode cX3_ring 5 = .ok (.if_icmp .ge 30, 3) := dk_162 0 30 (dk_at dksX3_ring_0 5 rfl rfl)
theorem dX3_ring_8 : decode cX3_ring 8 = .ok (.aload_n 0, 1) := dk_42 (dk_at dksX3_ring_0 8 rfl rfl)
theorem dX3_ring_9 : decode cX3_ring 9 = .ok (.getfield 113, 3) := dk_180 0 113 (dk_at dksX3_ring_0 9 rfl rfl)
theorem dX3_ring_12 : decode cX3_ring 12 = .ok (.iload_n 1, 1) := dk_27 (dk_at dksX3_ring_0 12 rfl rfl)
theorem dX3_ring_13 : decode cX3_ring 13 = .ok (.aload_n 0, 1) := dk_42 (dk_at dksX3_ring_0 13 rfl rfl)
theorem dX3_ring_14 : decode cX3_ring 14 = .ok (.getfield 92, 3) := dk_180 0 92 (dk_at dksX3_ring_0 14 rfl rfl)
theorem dX3_ring_17 : decode cX3_ring 17 = .ok (.iload_n 1, 1) := dk_27 (dk_at dksX3_ring_0 17 rfl rfl)
theorem dX3_ring_18 : decode cX3_ring 18 = .ok (.iaload, 1) := dk_46 (dk_at dksX3_ring_0 18 rfl rfl)
theorem dX3_ring_19 : decode cX3_ring 19 = .ok (.ifCond .le 7, 3) := dk_158 0 7 (dk_at dksX3_ring_0 19 rfl rfl)
theorem dX3_ring_22 : decode cX3_ring 22 = .ok (.iconst 1, 1) := dk_4 (dk_at dksX3_ring_0 22 rfl rfl)
theorem dX3_ring_23 : decode cX3_ring 23 = .ok (.goto 5, 3) := dk_167 0 5 (dk_at dksX3_ring_1 0 rfl rfl)
theorem dX3_ring_26 : decode cX3_ring 26 = .ok (.bipush 99, 2) := dk_16 99 (dk_at dksX3_ring_1 3 rfl rfl)
theorem dX3_ring_28 : decode cX3_ring 28 = .ok (.iastore, 1) := dk_79 (dk_at dksX3_ring_1 5 rfl rfl)
theorem dX3_ring_29 : decode cX3_ring 29 = .ok (.iinc 1 1, 3) := dk_132 1 1 (dk_at dksX3_ring_1 6 rfl rfl)
theorem dX3_ring_32 : decode cX3_ring 32 = .ok (.goto (-30), 3) := dk_167 255 226 (dk_at dksX3_ring_1 9 rfl rfl)
theorem dX3_ring_35 : decode cX3_ring 35 = .ok (.iconst 0, 1) := dk_3 (dk_at dksX3_ring_1 12 rfl rfl)
theorem dX3_ring_36 : decode cX3_ring 36 = .ok (.istore_n 1, 1) := dk_60 (dk_at dksX3_ring_1 13 rfl rfl)
theorem dX3_ring_37 : decode cX3_ring 37 = .ok (.iload_n 1, 1) := dk_27 (dk_at dksX3_ring_1 14 rfl rfl)
theorem dX3_ring_38 : decode cX3_ring 38 = .ok (.bipush 8, 2) := dk_16 8 (dk_at dksX3_ring_1 15 rfl rfl)
theorem dX3_ring_40 : decode cX3_ring 40 = .ok (.if_icmp .ge 66, 3) := dk_162 0 66 (dk_at dksX3_ring_1 17 rfl rfl)
theorem dX3_ring_43 : decode cX3_ring 43 = .ok (.iconst 0, 1) := dk_3 (dk_at dksX3_ring_1 20 rfl rfl)
theorem dX3_ring_44 : decode cX3_ring 44 = .ok (.istore_n 2, 1) := dk_61 (dk_at dksX3_ring_1 21 rfl rfl)
theorem dX3_ring_45 : decode cX3_ring 45 = .ok (.iload_n 2, 1) := dk_28 (dk_at dksX3_ring_1 22 rfl rfl)
theorem dX3_ring_46 : decode cX3_ring 46 = .ok (.bipush 64, 2) := dk_16 64 (dk_at dksX3_ring_2 0 rfl rfl)
theorem dX3_ring_48 : decode cX3_ring 48 = .ok (.if_icmp .ge 52, 3) := dk_162 0 52 (dk_at dksX3_ring_2 2 rfl rfl)
theorem dX3_ring_51 : decode cX3_ring 51 = .ok (.aload_n 0, 1) := dk_42 (dk_at dksX3_ring_2 5 rfl rfl)
theorem dX3_ring_52 : decode cX3_ring 52 = .ok (.getfield 113, 3) := dk_180 0 113 (dk_at dksX3_ring_2 6 rfl rfl)
theorem dX3_ring_55 : decode cX3_ring 55 = .ok (.iload_n 2, 1) := dk_28 (dk_at dksX3_ring_2 9 rfl rfl)
theorem dX3_ring_56 : decode cX3_ring 56 = .ok (.aload_n 0, 1) := dk_42 (dk_at dksX3_ring_2 10 rfl rfl)
theorem dX3_ring_57 : decode cX3_ring 57 = .ok (.getfield 113, 3) := dk_180 0 113 (dk_at dksX3_ring_2 11 rfl rfl)
theorem dX3_ring_60 : decode cX3_ring 60 = .ok (.iload_n 2, 1) := dk_28 (dk_at dksX3_ring_2 14 rfl rfl)
theorem dX3_ring_61 : decode cX3_ring 61 = .ok (.iaload, 1) := dk_46 (dk_at dksX3_ring_2 15 rfl rfl)
theorem dX3_ring_62 : decode cX3_ring 62 = .ok (.aload_n 0, 1) := dk_42 (dk_at dksX3_ring_2 16 rfl rfl)
theorem dX3_ring_63 : decode cX3_ring 63 = .ok (.getfield 113, 3) := dk_180 0 113 (dk_at dksX3_ring_2 17 rfl rfl)
theorem dX3_ring_66 : decode cX3_ring 66 = .ok (.iload_n 2, 1) := dk_28 (dk_at dksX3_ring_2 20 rfl rfl)
theorem dX3_ring_67 : decode cX3_ring 67 = .ok (.iload_n 2, 1) := dk_28 (dk_at dksX3_ring_2 21 rfl rfl)
theorem dX3_ring_68 : decode cX3_ring 68 = .ok (.bipush 8, 2) := dk_16 8 (dk_at dksX3_ring_2 22 rfl rfl)
theorem dX3_ring_70 : decode cX3_ring 70 = .ok (.irem, 1) := dk_112 (dk_at dksX3_ring_3 0 rfl rfl)
theorem dX3_ring_71 : decode cX3_ring 71 = .ok (.isub, 1) := dk_100 (dk_at dksX3_ring_3 1 rfl rfl)
theorem dX3_ring_72 : decode cX3_ring 72 = .ok (.iload_n 1, 1) := dk_27 (dk_at dksX3_ring_3 2 rfl rfl)
theorem dX3_ring_73 : decode cX3_ring 73 = .ok (.iadd, 1) := dk_96 (dk_at dksX3_ring_3 3 rfl rfl)
theorem dX3_ring_74 : decode cX3_ring 74 = .ok (.iaload, 1) := dk_46 (dk_at dksX3_ring_3 4 rfl rfl)
theorem dX3_ring_75 : decode cX3_ring 75 = .ok (.aload_n 0, 1) := dk_42 (dk_at dksX3_ring_3 5 rfl rfl)
theorem dX3_ring_76 : decode cX3_ring 76 = .ok (.getfield 113, 3) := dk_180 0 113 (dk_at dksX3_ring_3 6 rfl rfl)
theorem dX3_ring_79 : decode cX3_ring 79 = .ok (.bipush 8, 2) := dk_16 8 (dk_at dksX3_ring_3 9 rfl rfl)
theorem dX3_ring_81 : decode cX3_ring 81 = .ok (.iload_n 1, 1) := dk_27 (dk_at dksX3_ring_3 11 rfl rfl)
theorem dX3_ring_82 : decode cX3_ring 82 = .ok (.imul, 1) := dk_104 (dk_at dksX3_ring_3 12 rfl rfl)
theorem dX3_ring_83 : decode cX3_ring 83 = .ok (.iload_n 2, 1) := dk_28 (dk_at dksX3_ring_3 13 rfl rfl)
theorem dX3_ring_84 : decode cX3_ring 84 = .ok (.bipush 8, 2) := dk_16 8 (dk_at dksX3_ring_3 14 rfl rfl)
theorem dX3_ring_86 : decode cX3_ring 86 = .ok (.irem, 1) := dk_112 (dk_at dksX3_ring_3 16 rfl rfl)
theorem dX3_ring_87 : decode cX3_ring 87 = .ok (.iadd, 1) := dk_96 (dk_at dksX3_ring_3 17 rfl rfl)
theorem dX3_ring_88 : decode cX3_ring 88 = .ok (.iaload, 1) := dk_46 (dk_at dksX3_ring_3 18 rfl rfl)
theorem dX3_ring_89 : decode cX3_ring 89 = .ok (.iadd, 1) := dk_96 (dk_at dksX3_ring_3 19 rfl rfl)
theorem dX3_ring_90 : decode cX3_ring 90 = .ok (.invokestatic 230, 3) := dk_184 0 230 (dk_at dksX3_ring_3 20 rfl rfl)
theorem dX3_ring_93 : decode cX3_ring 93 = .ok (.iastore, 1) := dk_79 (dk_at dksX3_ring_3 23 rfl rfl)
theorem dX3_ring_94 : decode cX3_ring 94 = .ok (.iinc 2 1, 3) := dk_132 2 1 (dk_at dksX3_ring_4 0 rfl rfl)
theorem dX3_ring_97 : decode cX3_ring 97 = .ok (.goto (-52), 3) := dk_167 255 204 (dk_at dksX3_ring_4 3 rfl rfl)
theorem dX3_ring_100 : decode cX3_ring 100 = .ok (.iinc 1 1, 3) := dk_132 1 1 (dk_at dksX3_ring_4 6 rfl rfl)
theorem dX3_ring_103 : decode cX3_ring 103 = .ok (.goto (-66), 3) := dk_167 255 190 (dk_at dksX3_ring_4 9 rfl rfl)
theorem dX3_ring_106 : decode cX3_ring 106 = .ok (.bipush 99, 2) := dk_16 99 (dk_at dksX3_ring_4 12 rfl rfl)
theorem dX3_ring_108 : decode cX3_ring 108 = .ok (.istore_n 1, 1) := dk_60 (dk_at dksX3_ring_4 14 rfl rfl)
theorem dX3_ring_109 : decode cX3_ring 109 = .ok (.iconst 0, 1) := dk_3 (dk_at dksX3_ring_4 15 rfl rfl)
theorem dX3_ring_110 : decode cX3_ring 110 = .ok (.istore_n 2, 1) := dk_61 (dk_at dksX3_ring_4 16 rfl rfl)
theorem dX3_ring_111 : decode cX3_ring 111 = .ok (.iload_n 2, 1) := dk_28 (dk_at dksX3_ring_4 17 rfl rfl)
theorem dX3_ring_112 : decode cX3_ring 112 = .ok (.bipush 8, 2) := dk_16 8 (dk_at dksX3_ring_4 18 rfl rfl)
theorem dX3_ring_114 : decode cX3_ring 114 = .ok (.if_icmp .ge 23, 3) := dk_162 0 23 (dk_at dksX3_ring_4 20 rfl rfl)
theorem dX3_ring_117 : decode cX3_ring 117 = .ok (.iload_n 1, 1) := dk_27 (dk_at dksX3_ring_4 23 rfl rfl)
theorem dX3_ring_118 : decode cX3_ring 118 = .ok (.aload_n 0, 1) := dk_42 (dk_at dksX3_ring_5 0 rfl rfl)
theorem dX3_ring_119 : decode cX3_ring 119 = .ok (.getfield 113, 3) := dk_180 0 113 (dk_at dksX3_ring_5 1 rfl rfl)
theorem dX3_ring_122 : decode cX3_ring 122 = .ok (.bipush 9, 2) := dk_16 9 (dk_at dksX3_ring_5 4 rfl rfl)
theorem dX3_ring_124 : decode cX3_ring 124 = .ok (.iload_n 2, 1) := dk_28 (dk_at dksX3_ring_5 6 rfl rfl)
theorem dX3_ring_125 : decode cX3_ring 125 = .ok (.imul, 1) := dk_104 (dk_at dksX3_ring_5 7 rfl rfl)
theorem dX3_ring_126 : decode cX3_ring 126 = .ok (.iaload, 1) := dk_46 (dk_at dksX3_ring_5 8 rfl rfl)
theorem dX3_ring_127 : decode cX3_ring 127 = .ok (.invokestatic 230, 3) := dk_184 0 230 (dk_at dksX3_ring_5 9 rfl rfl)
theorem dX3_ring_130 : decode cX3_ring 130 = .ok (.istore_n 1, 1) := dk_60 (dk_at dksX3_ring_5 12 rfl rfl)
theorem dX3_ring_131 : decode cX3_ring 131 = .ok (.iinc 2 1, 3) := dk_132 2 1 (dk_at dksX3_ring_5 13 rfl rfl)
theorem dX3_ring_134 : decode cX3_ring 134 = .ok (.goto (-23), 3) := dk_167 255 233 (dk_at dksX3_ring_5 16 rfl rfl)
theorem dX3_ring_137 : decode cX3_ring 137 = .ok (.iload_n 1, 1) := dk_27 (dk_at dksX3_ring_5 19 rfl rfl)
theorem dX3_ring_138 : decode cX3_ring 138 = .ok (.bipush 99, 2) := dk_16 99 (dk_at dksX3_ring_5 20 rfl rfl)
theorem dX3_ring_140 : decode cX3_ring 140 = .ok (.if_icmp .ne 8, 3) := dk_160 0 8 (dk_at dksX3_ring_6 0 rfl rfl)
theorem dX3_ring_143 : decode cX3_ring 143 = .ok (.bipush (-2), 2) := dk_16 254 (dk_at dksX3_ring_6 3 rfl rfl)
theorem dX3_ring_145 : decode cX3_ring 145 = .ok (.goto 4, 3) := dk_167 0 4 (dk_at dksX3_ring_6 5 rfl rfl)
theorem dX3_ring_148 : decode cX3_ring 148 = .ok (.iload_n 1, 1) := dk_27 (dk_at dksX3_ring_6 8 rfl rfl)
theorem dX3_ring_149 : decode cX3_ring 149 = .ok (.ireturn, 1) := dk_172 (dk_at dksX3_ring_6 9 rfl rfl)
def dkwX3_judge_1 : List UInt8 := [16, 10, 108, 182, 1, 23, 42, 27, 16, 10, 112, 182, 1, 64, 172]
abbrev dktX3_judge_1 : List UInt8 := dkwX3_judge_1 ++ []
def dkwX3_judge_0 : List UInt8 := [42, 27, 182, 1, 58, 154, 0, 5, 2, 172, 42, 27, 182, 1, 61, 61, 28, 156, 0, 5, 28, 172, 42, 27]
abbrev dktX3_judge_0 : List UInt8 := dkwX3_judge_0 ++ dktX3_judge_1
theorem dksX3_judge_0 : cX3_judge.data.toList.drop 0 = dktX3_judge_0 := by decide +kernel
theorem dksX3_judge_1 : cX3_judge.data.toList.drop 24 = dktX3_judge_1 := dk_seg dksX3_judge_0 24 rfl rfl
theorem dX3_judge_0 : decode cX3_judge 0 = .ok (.aload_n 0, 1) := dk_42 (dk_at dksX3_judge_0 0 rfl rfl)
theorem dX3_judge_1 : decode cX3_judge 1 = .ok (.iload_n 1, 1) := dk_27 (dk_at dksX3_judge_0 1 rfl rfl)
theorem dX3_judge_2 : decode cX3_judge 2 = .ok (.invokevirtual 314, 3) := dk_182 1 58 (dk_at dksX3_judge_0 2 rfl rfl)
theorem dX3_judge_5 : decode cX3_judge 5 = .ok (.ifCond .ne 5, 3) := dk_154 0 5 (dk_at dksX3_judge_0 5 rfl rfl)
theorem dX3_judge_8 : decode cX3_judge 8 = .ok (.iconst (-1), 1) := dk_2 (dk_at dksX3_judge_0 8 rfl rfl)
theorem dX3_judge_9 : decode cX3_judge 9 = .ok (.ireturn, 1) := dk_172 (dk_at dksX3_judge_0 9 rfl rfl)
theorem dX3_judge_10 : decode cX3_judge 10 = .ok (.aload_n 0, 1) := dk_42 (dk_at dksX3_judge_0 10 rfl rfl)
theorem dX3_judge_11 : decode cX3_judge 11 = .ok (.iload_n 1, 1) := dk_27 (dk_at dksX3_judge_0 11 rfl rfl)
theorem dX3_judge_12 : decode cX3_judge 12 = .ok (.invokevirtual 317, 3) := dk_182 1 61 (dk_at dksX3_judge_0 12 rfl rfl)
theorem dX3_judge_15 : decode cX3_judge 15 = .ok (.istore_n 2, 1) := dk_61 (dk_at dksX3_judge_0 15 rfl rfl)
theorem dX3_judge_16 : decode cX3_judge 16 = .ok (.iload_n 2, 1) := dk_28 (dk_at dksX3_judge_0 16 rfl rfl)
theorem dX3_judge_17 : decode cX3_judge 17 = .ok (.ifCond .ge 5, 3) := dk_156 0 5 (dk_at dksX3_judge_0 17 rfl rfl)
theorem dX3_judge_20 : decode cX3_judge 20 = .ok (.iload_n 2, 1) := dk_28 (dk_at dksX3_judge_0 20 rfl rfl)
theorem dX3_judge_21 : decode cX3_judge 21 = .ok (.ireturn, 1) := dk_172 (dk_at dksX3_judge_0 21 rfl rfl)
theorem dX3_judge_22 : decode cX3_judge 22 = .ok (.aload_n 0, 1) := dk_42 (dk_at dksX3_judge_0 22 rfl rfl)
theorem dX3_judge_23 : decode cX3_judge 23 = .ok (.iload_n 1, 1) := dk_27 (dk_at dksX3_judge_0 23 rfl rfl)
theorem dX3_judge_24 : decode cX3_judge 24 = .ok (.bipush 10, 2) := dk_16 10 (dk_at dksX3_judge_1 0 rfl rfl)
theorem dX3_judge_26 : decode cX3_judge 26 = .ok (.idiv, 1) := dk_108 (dk_at dksX3_judge_1 2 rfl rfl)
theorem dX3_judge_27 : decode cX3_judge 27 = .ok (.invokevirtual 279, 3) := dk_182 1 23 (dk_at dksX3_judge_1 3 rfl rfl)
theorem dX3_judge_30 : decode cX3_judge 30 = .ok (.aload_n 0, 1) := dk_42 (dk_at dksX3_judge_1 6 rfl rfl)
theorem dX3_judge_31 : decode cX3_judge 31 = .ok (.iload_n 1, 1) := dk_27 (dk_at dksX3_judge_1 7 rfl rfl)
theorem dX3_judge_32 : decode cX3_judge 32 = .ok (.bipush 10, 2) := dk_16 10 (dk_at dksX3_judge_1 8 rfl rfl)
theorem dX3_judge_34 : decode cX3_judge 34 = .ok (.irem, 1) := dk_112 (dk_at dksX3_judge_1 10 rfl rfl)
theorem dX3_judge_35 : decode cX3_judge 35 = .ok (.invokevirtual 320, 3) := dk_182 1 64 (dk_at dksX3_judge_1 11 rfl rfl)
theorem dX3_judge_38 : decode cX3_judge 38 = .ok (.ireturn, 1) := dk_172 (dk_at dksX3_judge_1 14 rfl rfl)
def dkwX3_areShelves_1 : List UInt8 := [4, 167, 0, 4, 3, 172]
abbrev dktX3_areShelves_1 : List UInt8 := dkwX3_areShelves_1 ++ []
def dkwX3_areShelves_0 : List UInt8 := [27, 155, 0, 27, 27, 16, 10, 108, 184, 0, 127, 153, 0, 17, 27, 16, 10, 112, 184, 0, 127, 153, 0, 7]
abbrev dktX3_areShelves_0 : List UInt8 := dkwX3_areShelves_0 ++ dktX3_areShelves_1
theorem dksX3_areShelves_0 : cX3_areShelves.data.toList.drop 0 = dktX3_areShelves_0 := by decide +kernel
theorem dksX3_areShelves_1 : cX3_areShelves.data.toList.drop 24 = dktX3_areShelves_1 := dk_seg dksX3_areShelves_0 24 rfl rfl
theorem dX3_areShelves_0 : decode cX3_areShelves 0 = .ok (.iload_n 1, 1) := dk_27 (dk_at dksX3_areShelves_0 0 rfl rfl)
theorem dX3_areShelves_1 : decode cX3_areShelves 1 = .ok (.ifCond .lt 27, 3) := dk_155 0 27 (dk_at dksX3_areShelves_0 1 rfl rfl)
theorem dX3_areShelves_4 : decode cX3_areShelves 4 = .ok (.iload_n 1, 1) := dk_27 (dk_at dksX3_areShelves_0 4 rfl rfl)
theorem dX3_areShelves_5 : decode cX3_areShelves 5 = .ok (.bipush 10, 2) := dk_16 10 (dk_at dksX3_areShelves_0 5 rfl rfl)
theorem dX3_areShelves_7 : decode cX3_areShelves 7 = .ok (.idiv, 1) := dk_108 (dk_at dksX3_areShelves_0 7 rfl rfl)
theorem dX3_areShelves_8 : decode cX3_areShelves 8 = .ok (.invokestatic 127, 3) := dk_184 0 127 (dk_at dksX3_areShelves_0 8 rfl rfl)
theorem dX3_areShelves_11 : decode cX3_areShelves 11 = .ok (.ifCond .eq 17, 3) := dk_153 0 17 (dk_at dksX3_areShelves_0 11 rfl rfl)
theorem dX3_areShelves_14 : decode cX3_areShelves 14 = .ok (.iload_n 1, 1) := dk_27 (dk_at dksX3_areShelves_0 14 rfl rfl)
theorem dX3_areShelves_15 : decode cX3_areShelves 15 = .ok (.bipush 10, 2) := dk_16 10 (dk_at dksX3_areShelves_0 15 rfl rfl)
theorem dX3_areShelves_17 : decode cX3_areShelves 17 = .ok (.irem, 1) := dk_112 (dk_at dksX3_areShelves_0 17 rfl rfl)
theorem dX3_areShelves_18 : decode cX3_areShelves 18 = .ok (.invokestatic 127, 3) := dk_184 0 127 (dk_at dksX3_areShelves_0 18 rfl rfl)
theorem dX3_areShelves_21 : decode cX3_areShelves 21 = .ok (.ifCond .eq 7, 3) := dk_153 0 7 (dk_at dksX3_areShelves_0 21 rfl rfl)
theorem dX3_areShelves_24 : decode cX3_areShelves 24 = .ok (.iconst 1, 1) := dk_4 (dk_at dksX3_areShelves_1 0 rfl rfl)
theorem dX3_areShelves_25 : decode cX3_areShelves 25 = .ok (.goto 4, 3) := dk_167 0 4 (dk_at dksX3_areShelves_1 1 rfl rfl)
theorem dX3_areShelves_28 : decode cX3_areShelves 28 = .ok (.iconst 0, 1) := dk_3 (dk_at dksX3_areShelves_1 4 rfl rfl)
theorem dX3_areShelves_29 : decode cX3_areShelves 29 = .ok (.ireturn, 1) := dk_172 (dk_at dksX3_areShelves_1 5 rfl rfl)
def dkwX3_noRows_1 : List UInt8 := [182, 1, 20, 172]
abbrev dktX3_noRows_1 : List UInt8 := dkwX3_noRows_1 ++ []
def dkwX3_noRows_0 : List UInt8 := [42, 27, 16, 10, 108, 182, 1, 20, 61, 28, 156, 0, 7, 28, 167, 0, 11, 42, 27, 16, 10, 112]
abbrev dktX3_noRows_0 : List UInt8 := dkwX3_noRows_0 ++ dktX3_noRows_1
theorem dksX3_noRows_0 : cX3_noRows.data.toList.drop 0 = dktX3_noRows_0 := by decide +kernel
theorem dksX3_noRows_1 : cX3_noRows.data.toList.drop 22 = dktX3_noRows_1 := dk_seg dksX3_noRows_0 22 rfl rfl
theorem dX3_noRows_0 : decode cX3_noRows 0 = .ok (.aload_n 0, 1) := dk_42 (dk_at dksX3_noRows_0 0 rfl rfl)
theorem dX3_noRows_1 : decode cX3_noRows 1 = .ok (.iload_n 1, 1) := dk_27 (dk_at dksX3_noRows_0 1 rfl rfl)
theorem dX3_noRows_2 : decode cX3_noRows 2 = .ok (.bipush 10, 2) := dk_16 10 (dk_at dksX3_noRows_0 2 rfl rfl)
theorem dX3_noRows_4 : decode cX3_noRows 4 = .ok (.idiv, 1) := dk_108 (dk_at dksX3_noRows_0 4 rfl rfl)
theorem dX3_noRows_5 : decode cX3_noRows 5 = .ok (.invokevirtual 276, 3) := dk_182 1 20 (dk_at dksX3_noRows_0 5 rfl rfl)
theorem dX3_noRows_8 : decode cX3_noRows 8 = .ok (.istore_n 2, 1) := dk_61 (dk_at dksX3_noRows_0 8 rfl rfl)
theorem dX3_noRows_9 : decode cX3_noRows 9 = .ok (.iload_n 2, 1) := dk_28 (dk_at dksX3_noRows_0 9 rfl rfl)
theorem dX3_noRows_10 : decode cX3_noRows 10 = .ok (.ifCond .ge 7, 3) := dk_156 0 7 (dk_at dksX3_noRows_0 10 rfl rfl)
theorem dX3_noRows_13 : decode cX3_noRows 13 = .ok (.iload_n 2, 1) := dk_28 (dk_at dksX3_noRows_0 13 rfl rfl)
theorem dX3_noRows_14 : decode cX3_noRows 14 = .ok (.goto 11, 3) := dk_167 0 11 (dk_at dksX3_noRows_0 14 rfl rfl)
theorem dX3_noRows_17 : decode cX3_noRows 17 = .ok (.aload_n 0, 1) := dk_42 (dk_at dksX3_noRows_0 17 rfl rfl)
theorem dX3_noRows_18 : decode cX3_noRows 18 = .ok (.iload_n 1, 1) := dk_27 (dk_at dksX3_noRows_0 18 rfl rfl)
theorem dX3_noRows_19 : decode cX3_noRows 19 = .ok (.bipush 10, 2) := dk_16 10 (dk_at dksX3_noRows_0 19 rfl rfl)
theorem dX3_noRows_21 : decode cX3_noRows 21 = .ok (.irem, 1) := dk_112 (dk_at dksX3_noRows_0 21 rfl rfl)
theorem dX3_noRows_22 : decode cX3_noRows 22 = .ok (.invokevirtual 276, 3) := dk_182 1 20 (dk_at dksX3_noRows_1 0 rfl rfl)
theorem dX3_noRows_25 : decode cX3_noRows 25 = .ok (.ireturn, 1) := dk_172 (dk_at dksX3_noRows_1 3 rfl rfl)
def dkwX3_unlike_3 : List UInt8 := [16, 254, 172]
abbrev dktX3_unlike_3 : List UInt8 := dkwX3_unlike_3 ++ []
def dkwX3_unlike_2 : List UInt8 := [42, 27, 28, 182, 0, 133, 42, 180, 0, 98, 28, 46, 159, 0, 5, 28, 172, 132, 2, 1, 167, 255, 207]
abbrev dktX3_unlike_2 : List UInt8 := dkwX3_unlike_2 ++ dktX3_unlike_3
def dkwX3_unlike_1 : List UInt8 := [27, 46, 162, 0, 45, 28, 42, 180, 1, 1, 162, 0, 29, 42, 27, 28, 182, 0, 133, 16, 9, 159, 0, 20]
abbrev dktX3_unlike_1 : List UInt8 := dkwX3_unlike_1 ++ dktX3_unlike_2
def dkwX3_unlike_0 : List UInt8 := [42, 182, 1, 11, 42, 182, 1, 14, 42, 42, 180, 0, 86, 3, 182, 1, 17, 3, 61, 28, 42, 180, 0, 79]
abbrev dktX3_unlike_0 : List UInt8 := dkwX3_unlike_0 ++ dktX3_unlike_1
theorem dksX3_unlike_0 : cX3_unlike.data.toList.drop 0 = dktX3_unlike_0 := by decide +kernel
theorem dksX3_unlike_1 : cX3_unlike.data.toList.drop 24 = dktX3_unlike_1 := dk_seg dksX3_unlike_0 24 rfl rfl
theorem dksX3_unlike_2 : cX3_unlike.data.toList.drop 48 = dktX3_unlike_2 := dk_seg dksX3_unlike_1 24 rfl rfl
theorem dksX3_unlike_3 : cX3_unlike.data.toList.drop 71 = dktX3_unlike_3 := dk_seg dksX3_unlike_2 23 rfl rfl
theorem dX3_unlike_0 : decode cX3_unlike 0 = .ok (.aload_n 0, 1) := dk_42 (dk_at dksX3_unlike_0 0 rfl rfl)
theorem dX3_unlike_1 : decode cX3_unlike 1 = .ok (.invokevirtual 267, 3) := dk_182 1 11 (dk_at dksX3_unlike_0 1 rfl rfl)
theorem dX3_unlike_4 : decode cX3_unlike 4 = .ok (.aload_n 0, 1) := dk_42 (dk_at dksX3_unlike_0 4 rfl rfl)
theorem dX3_unlike_5 : decode cX3_unlike 5 = .ok (.invokevirtual 270, 3) := dk_182 1 14 (dk_at dksX3_unlike_0 5 rfl rfl)
theorem dX3_unlike_8 : decode cX3_unlike 8 = .ok (.aload_n 0, 1) := dk_42 (dk_at dksX3_unlike_0 8 rfl rfl)
theorem dX3_unlike_9 : decode cX3_unlike 9 = .ok (.aload_n 0, 1) := dk_42 (dk_at dksX3_unlike_0 9 rfl rfl)
theorem dX3_unlike_10 : decode cX3_unlike 10 = .ok (.getfield 86, 3) := dk_180 0 86 (dk_at dksX3_unlike_0 10 rfl rfl)
theorem dX3_unlike_13 : decode cX3_unlike 13 = .ok (.iconst 0, 1) := dk_3 (dk_at dksX3_unlike_0 13 rfl rfl)
theorem dX3_unlike_14 : decode cX3_unlike 14 = .ok (.invokevirtual 273, 3) := dk_182 1 17 (dk_at dksX3_unlike_0 14 rfl rfl)
theorem dX3_unlike_17 : decode cX3_unlike 17 = .ok (.iconst 0, 1) := dk_3 (dk_at dksX3_unlike_0 17 rfl rfl)
theorem dX3_unlike_18 : decode cX3_unlike 18 = .ok (.istore_n 2, 1) := dk_61 (dk_at dksX3_unlike_0 18 rfl rfl)
theorem dX3_unlike_19 : decode cX3_unlike 19 = .ok (.iload_n 2, 1) := dk_28 (dk_at dksX3_unlike_0 19 rfl rfl)
theorem dX3_unlike_20 : decode cX3_unlike 20 = .ok (.aload_n 0, 1) := dk_42 (dk_at dksX3_unlike_0 20 rfl rfl)
theorem dX3_unlike_21 : decode cX3_unlike 21 = .ok (.getfield 79, 3) := dk_180 0 79 (dk_at dksX3_unlike_0 21 rfl rfl)
theorem dX3_unlike_24 : decode cX3_unlike 24 = .ok (.iload_n 1, 1) := dk_27 (dk_at dksX3_unlike_1 0 rfl rfl)
theorem dX3_unlike_25 : decode cX3_unlike 25 = .ok (.iaload, 1) := dk_46 (dk_at dksX3_unlike_1 1 rfl rfl)
theorem dX3_unlike_26 : decode cX3_unlike 26 = .ok (.if_icmp .ge 45, 3) := dk_162 0 45 (dk_at dksX3_unlike_1 2 rfl rfl)
theorem dX3_unlike_29 : decode cX3_unlike 29 = .ok (.iload_n 2, 1) := dk_28 (dk_at dksX3_unlike_1 5 rfl rfl)
theorem dX3_unlike_30 : decode cX3_unlike 30 = .ok (.aload_n 0, 1) := dk_42 (dk_at dksX3_unlike_1 6 rfl rfl)
theorem dX3_unlike_31 : decode cX3_unlike 31 = .ok (.getfield 257, 3) := dk_180 1 1 (dk_at dksX3_unlike_1 7 rfl rfl)
theorem dX3_unlike_34 : decode cX3_unlike 34 = .ok (.if_icmp .ge 29, 3) := dk_162 0 29 (dk_at dksX3_unlike_1 10 rfl rfl)
theorem dX3_unlike_37 : decode cX3_unlike 37 = .ok (.aload_n 0, 1) := dk_42 (dk_at dksX3_unlike_1 13 rfl rfl)
theorem dX3_unlike_38 : decode cX3_unlike 38 = .ok (.iload_n 1, 1) := dk_27 (dk_at dksX3_unlike_1 14 rfl rfl)
theorem dX3_unlike_39 : decode cX3_unlike 39 = .ok (.iload_n 2, 1) := dk_28 (dk_at dksX3_unlike_1 15 rfl rfl)
theorem dX3_unlike_40 : decode cX3_unlike 40 = .ok (.invokevirtual 133, 3) := dk_182 0 133 (dk_at dksX3_unlike_1 16 rfl rfl)
theorem dX3_unlike_43 : decode cX3_unlike 43 = .ok (.bipush 9, 2) := dk_16 9 (dk_at dksX3_unlike_1 19 rfl rfl)
theorem dX3_unlike_45 : decode cX3_unlike 45 = .ok (.if_icmp .eq 20, 3) := dk_159 0 20 (dk_at dksX3_unlike_1 21 rfl rfl)
theorem dX3_unlike_48 : decode cX3_unlike 48 = .ok (.aload_n 0, 1) := dk_42 (dk_at dksX3_unlike_2 0 rfl rfl)
theorem dX3_unlike_49 : decode cX3_unlike 49 = .ok (.iload_n 1, 1) := dk_27 (dk_at dksX3_unlike_2 1 rfl rfl)
theorem dX3_unlike_50 : decode cX3_unlike 50 = .ok (.iload_n 2, 1) := dk_28 (dk_at dksX3_unlike_2 2 rfl rfl)
theorem dX3_unlike_51 : decode cX3_unlike 51 = .ok (.invokevirtual 133, 3) := dk_182 0 133 (dk_at dksX3_unlike_2 3 rfl rfl)
theorem dX3_unlike_54 : decode cX3_unlike 54 = .ok (.aload_n 0, 1) := dk_42 (dk_at dksX3_unlike_2 6 rfl rfl)
theorem dX3_unlike_55 : decode cX3_unlike 55 = .ok (.getfield 98, 3) := dk_180 0 98 (dk_at dksX3_unlike_2 7 rfl rfl)
theorem dX3_unlike_58 : decode cX3_unlike 58 = .ok (.iload_n 2, 1) := dk_28 (dk_at dksX3_unlike_2 10 rfl rfl)
theorem dX3_unlike_59 : decode cX3_unlike 59 = .ok (.iaload, 1) := dk_46 (dk_at dksX3_unlike_2 11 rfl rfl)
theorem dX3_unlike_60 : decode cX3_unlike 60 = .ok (.if_icmp .eq 5, 3) := dk_159 0 5 (dk_at dksX3_unlike_2 12 rfl rfl)
theorem dX3_unlike_63 : decode cX3_unlike 63 = .ok (.iload_n 2, 1) := dk_28 (dk_at dksX3_unlike_2 15 rfl rfl)
theorem dX3_unlike_64 : decode cX3_unlike 64 = .ok (.ireturn, 1) := dk_172 (dk_at dksX3_unlike_2 16 rfl rfl)
theorem dX3_unlike_65 : decode cX3_unlike 65 = .ok (.iinc 2 1, 3) := dk_132 2 1 (dk_at dksX3_unlike_2 17 rfl rfl)
theorem dX3_unlike_68 : decode cX3_unlike 68 = .ok (.goto (-49), 3) := dk_167 255 207 (dk_at dksX3_unlike_2 20 rfl rfl)
theorem dX3_unlike_71 : decode cX3_unlike 71 = .ok (.bipush (-2), 2) := dk_16 254 (dk_at dksX3_unlike_3 0 rfl rfl)
theorem dX3_unlike_73 : decode cX3_unlike 73 = .ok (.ireturn, 1) := dk_172 (dk_at dksX3_unlike_3 2 rfl rfl)
def dkwX3_fits_5 : List UInt8 := [27, 16, 10, 112, 28, 29, 6, 160, 0, 7, 4, 167, 0, 4, 3, 182, 1, 73, 172]
abbrev dktX3_fits_5 : List UInt8 := dkwX3_fits_5 ++ []
def dkwX3_fits_4 : List UInt8 := [182, 1, 67, 167, 0, 39, 29, 4, 160, 0, 15, 42, 27, 16, 10, 112, 28, 182, 1, 70, 167, 0, 22, 42]
abbrev dktX3_fits_4 : List UInt8 := dkwX3_fits_4 ++ dktX3_fits_5
def dkwX3_fits_3 : List UInt8 := [160, 0, 13, 28, 42, 180, 1, 1, 161, 0, 5, 2, 172, 29, 154, 0, 14, 42, 27, 16, 10, 112]
abbrev dktX3_fits_3 : List UInt8 := dkwX3_fits_3 ++ dktX3_fits_4
def dkwX3_fits_2 : List UInt8 := [182, 1, 61, 54, 4, 21, 4, 156, 0, 6, 21, 4, 172, 42, 27, 16, 10, 108, 182, 1, 23, 29, 4]
abbrev dktX3_fits_2 : List UInt8 := dkwX3_fits_2 ++ dktX3_fits_3
def dkwX3_fits_1 : List UInt8 := [154, 0, 7, 28, 154, 0, 16, 29, 4, 164, 0, 13, 42, 28, 182, 0, 137, 154, 0, 5, 2, 172, 42, 27]
abbrev dktX3_fits_1 : List UInt8 := dkwX3_fits_1 ++ dktX3_fits_2
def dkwX3_fits_0 : List UInt8 := [42, 27, 182, 1, 58, 153, 0, 37, 29, 3, 6, 184, 0, 119, 153, 0, 28, 28, 155, 0, 24, 29]
abbrev dktX3_fits_0 : List UInt8 := dkwX3_fits_0 ++ dktX3_fits_1
theorem dksX3_fits_0 : cX3_fits.data.toList.drop 0 = dktX3_fits_0 := by decide +kernel
theorem dksX3_fits_1 : cX3_fits.data.toList.drop 22 = dktX3_fits_1 := dk_seg dksX3_fits_0 22 rfl rfl
theorem dksX3_fits_2 : cX3_fits.data.toList.drop 46 = dktX3_fits_2 := dk_seg dksX3_fits_1 24 rfl rfl
theorem dksX3_fits_3 : cX3_fits.data.toList.drop 69 = dktX3_fits_3 := dk_seg dksX3_fits_2 23 rfl rfl
theorem dksX3_fits_4 : cX3_fits.data.toList.drop 91 = dktX3_fits_4 := dk_seg dksX3_fits_3 22 rfl rfl
theorem dksX3_fits_5 : cX3_fits.data.toList.drop 115 = dktX3_fits_5 := dk_seg dksX3_fits_4 24 rfl rfl
theorem dX3_fits_0 : decode cX3_fits 0 = .ok (.aload_n 0, 1) := dk_42 (dk_at dksX3_fits_0 0 rfl rfl)
theorem dX3_fits_1 : decode cX3_fits 1 = .ok (.iload_n 1, 1) := dk_27 (dk_at dksX3_fits_0 1 rfl rfl)
theorem dX3_fits_2 : decode cX3_fits 2 = .ok (.invokevirtual 314, 3) := dk_182 1 58 (dk_at dksX3_fits_0 2 rfl rfl)
theorem dX3_fits_5 : decode cX3_fits 5 = .ok (.ifCond .eq 37, 3) := dk_153 0 37 (dk_at dksX3_fits_0 5 rfl rfl)
theorem dX3_fits_8 : decode cX3_fits 8 = .ok (.iload_n 3, 1) := dk_29 (dk_at dksX3_fits_0 8 rfl rfl)
theorem dX3_fits_9 : decode cX3_fits 9 = .ok (.iconst 0, 1) := dk_3 (dk_at dksX3_fits_0 9 rfl rfl)
theorem dX3_fits_10 : decode cX3_fits 10 = .ok (.iconst 3, 1) := dk_6 (dk_at dksX3_fits_0 10 rfl rfl)
theorem dX3_fits_11 : decode cX3_fits 11 = .ok (.invokestatic 119, 3) := dk_184 0 119 (dk_at dksX3_fits_0 11 rfl rfl)
theorem dX3_fits_14 : decode cX3_fits 14 = .ok (.ifCond .eq 28, 3) := dk_153 0 28 (dk_at dksX3_fits_0 14 rfl rfl)
theorem dX3_fits_17 : decode cX3_fits 17 = .ok (.iload_n 2, 1) := dk_28 (dk_at dksX3_fits_0 17 rfl rfl)
theorem dX3_fits_18 : decode cX3_fits 18 = .ok (.ifCond .lt 24, 3) := dk_155 0 24 (dk_at dksX3_fits_0 18 rfl rfl)
theorem dX3_fits_21 : decode cX3_fits 21 = .ok (.iload_n 3, 1) := dk_29 (dk_at dksX3_fits_0 21 rfl rfl)
theorem dX3_fits_22 : decode cX3_fits 22 = .ok (.ifCond .ne 7, 3) := dk_154 0 7 (dk_at dksX3_fits_1 0 rfl rfl)
theorem dX3_fits_25 : decode cX3_fits 25 = .ok (.iload_n 2, 1) := dk_28 (dk_at dksX3_fits_1 3 rfl rfl)
theorem dX3_fits_26 : decode cX3_fits 26 = .ok (.ifCond .ne 16, 3) := dk_154 0 16 (dk_at dksX3_fits_1 4 rfl rfl)
theorem dX3_fits_29 : decode cX3_fits 29 = .ok (.iload_n 3, 1) := dk_29 (dk_at dksX3_fits_1 7 rfl rfl)
theorem dX3_fits_30 : decode cX3_fits 30 = .ok (.iconst 1, 1) := dk_4 (dk_at dksX3_fits_1 8 rfl rfl)
theorem dX3_fits_31 : decode cX3_fits 31 = .ok (.if_icmp .le 13, 3) := dk_164 0 13 (dk_at dksX3_fits_1 9 rfl rfl)
theorem dX3_fits_34 : decode cX3_fits 34 = .ok (.aload_n 0, 1) := dk_42 (dk_at dksX3_fits_1 12 rfl rfl)
theorem dX3_fits_35 : decode cX3_fits 35 = .ok (.iload_n 2, 1) := dk_28 (dk_at dksX3_fits_1 13 rfl rfl)
theorem dX3_fits_36 : decode cX3_fits 36 = .ok (.invokevirtual 137, 3) := dk_182 0 137 (dk_at dksX3_fits_1 14 rfl rfl)
theorem dX3_fits_39 : decode cX3_fits 39 = .ok (.ifCond .ne 5, 3) := dk_154 0 5 (dk_at dksX3_fits_1 17 rfl rfl)
theorem dX3_fits_42 : decode cX3_fits 42 = .ok (.iconst (-1), 1) := dk_2 (dk_at dksX3_fits_1 20 rfl rfl)
theorem dX3_fits_43 : decode cX3_fits 43 = .ok (.ireturn, 1) := dk_172 (dk_at dksX3_fits_1 21 rfl rfl)
theorem dX3_fits_44 : decode cX3_fits 44 = .ok (.aload_n 0, 1) := dk_42 (dk_at dksX3_fits_1 22 rfl rfl)
theorem dX3_fits_45 : decode cX3_fits 45 = .ok (.iload_n 1, 1) := dk_27 (dk_at dksX3_fits_1 23 rfl rfl)
theorem dX3_fits_46 : decode cX3_fits 46 = .ok (.invokevirtual 317, 3) := dk_182 1 61 (dk_at dksX3_fits_2 0 rfl rfl)
theorem dX3_fits_49 : decode cX3_fits 49 = .ok (.istore 4, 2) := dk_54 4 (dk_at dksX3_fits_2 3 rfl rfl)
theorem dX3_fits_51 : decode cX3_fits 51 = .ok (.iload 4, 2) := dk_21 4 (dk_at dksX3_fits_2 5 rfl rfl)
theorem dX3_fits_53 : decode cX3_fits 53 = .ok (.ifCond .ge 6, 3) := dk_156 0 6 (dk_at dksX3_fits_2 7 rfl rfl)
theorem dX3_fits_56 : decode cX3_fits 56 = .ok (.iload 4, 2) := dk_21 4 (dk_at dksX3_fits_2 10 rfl rfl)
theorem dX3_fits_58 : decode cX3_fits 58 = .ok (.ireturn, 1) := dk_172 (dk_at dksX3_fits_2 12 rfl rfl)
theorem dX3_fits_59 : decode cX3_fits 59 = .ok (.aload_n 0, 1) := dk_42 (dk_at dksX3_fits_2 13 rfl rfl)
theorem dX3_fits_60 : decode cX3_fits 60 = .ok (.iload_n 1, 1) := dk_27 (dk_at dksX3_fits_2 14 rfl rfl)
theorem dX3_fits_61 : decode cX3_fits 61 = .ok (.bipush 10, 2) := dk_16 10 (dk_at dksX3_fits_2 15 rfl rfl)
theorem dX3_fits_63 : decode cX3_fits 63 = .ok (.idiv, 1) := dk_108 (dk_at dksX3_fits_2 17 rfl rfl)
theorem dX3_fits_64 : decode cX3_fits 64 = .ok (.invokevirtual 279, 3) := dk_182 1 23 (dk_at dksX3_fits_2 18 rfl rfl)
theorem dX3_fits_67 : decode cX3_fits 67 = .ok (.iload_n 3, 1) := dk_29 (dk_at dksX3_fits_2 21 rfl rfl)
theorem dX3_fits_68 : decode cX3_fits 68 = .ok (.iconst 1, 1) := dk_4 (dk_at dksX3_fits_2 22 rfl rfl)
theorem dX3_fits_69 : decode cX3_fits 69 = .ok (.if_icmp .ne 13, 3) := dk_160 0 13 (dk_at dksX3_fits_3 0 rfl rfl)
theorem dX3_fits_72 : decode cX3_fits 72 = .ok (.iload_n 2, 1) := dk_28 (dk_at dksX3_fits_3 3 rfl rfl)
theorem dX3_fits_73 : decode cX3_fits 73 = .ok (.aload_n 0, 1) := dk_42 (dk_at dksX3_fits_3 4 rfl rfl)
theorem dX3_fits_74 : decode cX3_fits 74 = .ok (.getfield 257, 3) := dk_180 1 1 (dk_at dksX3_fits_3 5 rfl rfl)
theorem dX3_fits_77 : decode cX3_fits 77 = .ok (.if_icmp .lt 5, 3) := dk_161 0 5 (dk_at dksX3_fits_3 8 rfl rfl)
theorem dX3_fits_80 : decode cX3_fits 80 = .ok (.iconst (-1), 1) := dk_2 (dk_at dksX3_fits_3 11 rfl rfl)
theorem dX3_fits_81 : decode cX3_fits 81 = .ok (.ireturn, 1) := dk_172 (dk_at dksX3_fits_3 12 rfl rfl)
theorem dX3_fits_82 : decode cX3_fits 82 = .ok (.iload_n 3, 1) := dk_29 (dk_at dksX3_fits_3 13 rfl rfl)
theorem dX3_fits_83 : decode cX3_fits 83 = .ok (.ifCond .ne 14, 3) := dk_154 0 14 (dk_at dksX3_fits_3 14 rfl rfl)
theorem dX3_fits_86 : decode cX3_fits 86 = .ok (.aload_n 0, 1) := dk_42 (dk_at dksX3_fits_3 17 rfl rfl)
theorem dX3_fits_87 : decode cX3_fits 87 = .ok (.iload_n 1, 1) := dk_27 (dk_at dksX3_fits_3 18 rfl rfl)
theorem dX3_fits_88 : decode cX3_fits 88 = .ok (.bipush 10, 2) := dk_16 10 (dk_at dksX3_fits_3 19 rfl rfl)
theorem dX3_fits_90 : decode cX3_fits 90 = .ok (.irem, 1) := dk_112 (dk_at dksX3_fits_3 21 rfl rfl)
theorem dX3_fits_91 : decode cX3_fits 91 = .ok (.invokevirtual 323, 3) := dk_182 1 67 (dk_at dksX3_fits_4 0 rfl rfl)
theorem dX3_fits_94 : decode cX3_fits 94 = .ok (.goto 39, 3) := dk_167 0 39 (dk_at dksX3_fits_4 3 rfl rfl)
theorem dX3_fits_97 : decode cX3_fits 97 = .ok (.iload_n 3, 1) := dk_29 (dk_at dksX3_fits_4 6 rfl rfl)
theorem dX3_fits_98 : decode cX3_fits 98 = .ok (.iconst 1, 1) := dk_4 (dk_at dksX3_fits_4 7 rfl rfl)
theorem dX3_fits_99 : decode cX3_fits 99 = .ok (.if_icmp .ne 15, 3) := dk_160 0 15 (dk_at dksX3_fits_4 8 rfl rfl)
theorem dX3_fits_102 : decode cX3_fits 102 = .ok (.aload_n 0, 1) := dk_42 (dk_at dksX3_fits_4 11 rfl rfl)
theorem dX3_fits_103 : decode cX3_fits 103 = .ok (.iload_n 1, 1) := dk_27 (dk_at dksX3_fits_4 12 rfl rfl)
theorem dX3_fits_104 : decode cX3_fits 104 = .ok (.bipush 10, 2) := dk_16 10 (dk_at dksX3_fits_4 13 rfl rfl)
theorem dX3_fits_106 : decode cX3_fits 106 = .ok (.irem, 1) := dk_112 (dk_at dksX3_fits_4 15 rfl rfl)
theorem dX3_fits_107 : decode cX3_fits 107 = .ok (.iload_n 2, 1) := dk_28 (dk_at dksX3_fits_4 16 rfl rfl)
theorem dX3_fits_108 : decode cX3_fits 108 = .ok (.invokevirtual 326, 3) := dk_182 1 70 (dk_at dksX3_fits_4 17 rfl rfl)
theorem dX3_fits_111 : decode cX3_fits 111 = .ok (.goto 22, 3) := dk_167 0 22 (dk_at dksX3_fits_4 20 rfl rfl)
theorem dX3_fits_114 : decode cX3_fits 114 = .ok (.aload_n 0, 1) := dk_42 (dk_at dksX3_fits_4 23 rfl rfl)
theorem dX3_fits_115 : decode cX3_fits 115 = .ok (.iload_n 1, 1) := dk_27 (dk_at dksX3_fits_5 0 rfl rfl)
theorem dX3_fits_116 : decode cX3_fits 116 = .ok (.bipush 10, 2) := dk_16 10 (dk_at dksX3_fits_5 1 rfl rfl)
theorem dX3_fits_118 : decode cX3_fits 118 = .ok (.irem, 1) := dk_112 (dk_at dksX3_fits_5 3 rfl rfl)
theorem dX3_fits_119 : decode cX3_fits 119 = .ok (.iload_n 2, 1) := dk_28 (dk_at dksX3_fits_5 4 rfl rfl)
theorem dX3_fits_120 : decode cX3_fits 120 = .ok (.iload_n 3, 1) := dk_29 (dk_at dksX3_fits_5 5 rfl rfl)
theorem dX3_fits_121 : decode cX3_fits 121 = .ok (.iconst 3, 1) := dk_6 (dk_at dksX3_fits_5 6 rfl rfl)
theorem dX3_fits_122 : decode cX3_fits 122 = .ok (.if_icmp .ne 7, 3) := dk_160 0 7 (dk_at dksX3_fits_5 7 rfl rfl)
theorem dX3_fits_125 : decode cX3_fits 125 = .ok (.iconst 1, 1) := dk_4 (dk_at dksX3_fits_5 10 rfl rfl)
theorem dX3_fits_126 : decode cX3_fits 126 = .ok (.goto 4, 3) := dk_167 0 4 (dk_at dksX3_fits_5 11 rfl rfl)
theorem dX3_fits_129 : decode cX3_fits 129 = .ok (.iconst 0, 1) := dk_3 (dk_at dksX3_fits_5 14 rfl rfl)
theorem dX3_fits_130 : decode cX3_fits 130 = .ok (.invokevirtual 329, 3) := dk_182 1 73 (dk_at dksX3_fits_5 15 rfl rfl)
theorem dX3_fits_133 : decode cX3_fits 133 = .ok (.ireturn, 1) := dk_172 (dk_at dksX3_fits_5 18 rfl rfl)
def dkwX3_thirds_2 : List UInt8 := [181, 0, 15, 29, 172]
abbrev dktX3_thirds_2 : List UInt8 := dkwX3_thirds_2 ++ []
def dkwX3_thirds_1 : List UInt8 := [27, 182, 1, 64, 16, 254, 160, 0, 10, 29, 4, 21, 4, 120, 128, 62, 132, 4, 1, 167, 255, 223, 42, 28]
abbrev dktX3_thirds_1 : List UInt8 := dkwX3_thirds_1 ++ dktX3_thirds_2
def dkwX3_thirds_0 : List UInt8 := [42, 180, 0, 15, 61, 3, 62, 4, 54, 4, 21, 4, 16, 6, 162, 0, 32, 42, 21, 4, 181, 0, 15, 42]
abbrev dktX3_thirds_0 : List UInt8 := dkwX3_thirds_0 ++ dktX3_thirds_1
theorem dksX3_thirds_0 : cX3_thirds.data.toList.drop 0 = dktX3_thirds_0 := by decide +kernel
theorem dksX3_thirds_1 : cX3_thirds.data.toList.drop 24 = dktX3_thirds_1 := dk_seg dksX3_thirds_0 24 rfl rfl
theorem dksX3_thirds_2 : cX3_thirds.data.toList.drop 48 = dktX3_thirds_2 := dk_seg dksX3_thirds_1 24 rfl rfl
theorem dX3_thirds_0 : decode cX3_thirds 0 = .ok (.aload_n 0, 1) := dk_42 (dk_at dksX3_thirds_0 0 rfl rfl)
theorem dX3_thirds_1 : decode cX3_thirds 1 = .ok (.getfield 15, 3) := dk_180 0 15 (dk_at dksX3_thirds_0 1 rfl rfl)
theorem dX3_thirds_4 : decode cX3_thirds 4 = .ok (.istore_n 2, 1) := dk_61 (dk_at dksX3_thirds_0 4 rfl rfl)
theorem dX3_thirds_5 : decode cX3_thirds 5 = .ok (.iconst 0, 1) := dk_3 (dk_at dksX3_thirds_0 5 rfl rfl)
theorem dX3_thirds_6 : decode cX3_thirds 6 = .ok (.istore_n 3, 1) := dk_62 (dk_at dksX3_thirds_0 6 rfl rfl)
theorem dX3_thirds_7 : decode cX3_thirds 7 = .ok (.iconst 1, 1) := dk_4 (dk_at dksX3_thirds_0 7 rfl rfl)
theorem dX3_thirds_8 : decode cX3_thirds 8 = .ok (.istore 4, 2) := dk_54 4 (dk_at dksX3_thirds_0 8 rfl rfl)
theorem dX3_thirds_10 : decode cX3_thirds 10 = .ok (.iload 4, 2) := dk_21 4 (dk_at dksX3_thirds_0 10 rfl rfl)
theorem dX3_thirds_12 : decode cX3_thirds 12 = .ok (.bipush 6, 2) := dk_16 6 (dk_at dksX3_thirds_0 12 rfl rfl)
theorem dX3_thirds_14 : decode cX3_thirds 14 = .ok (.if_icmp .ge 32, 3) := dk_162 0 32 (dk_at dksX3_thirds_0 14 rfl rfl)
theorem dX3_thirds_17 : decode cX3_thirds 17 = .ok (.aload_n 0, 1) := dk_42 (dk_at dksX3_thirds_0 17 rfl rfl)
theorem dX3_thirds_18 : decode cX3_thirds 18 = .ok (.iload 4, 2) := dk_21 4 (dk_at dksX3_thirds_0 18 rfl rfl)
theorem dX3_thirds_20 : decode cX3_thirds 20 = .ok (.putfield 15, 3) := dk_181 0 15 (dk_at dksX3_thirds_0 20 rfl rfl)
theorem dX3_thirds_23 : decode cX3_thirds 23 = .ok (.aload_n 0, 1) := dk_42 (dk_at dksX3_thirds_0 23 rfl rfl)
theorem dX3_thirds_24 : decode cX3_thirds 24 = .ok (.iload_n 1, 1) := dk_27 (dk_at dksX3_thirds_1 0 rfl rfl)
theorem dX3_thirds_25 : decode cX3_thirds 25 = .ok (.invokevirtual 320, 3) := dk_182 1 64 (dk_at dksX3_thirds_1 1 rfl rfl)
theorem dX3_thirds_28 : decode cX3_thirds 28 = .ok (.bipush (-2), 2) := dk_16 254 (dk_at dksX3_thirds_1 4 rfl rfl)
theorem dX3_thirds_30 : decode cX3_thirds 30 = .ok (.if_icmp .ne 10, 3) := dk_160 0 10 (dk_at dksX3_thirds_1 6 rfl rfl)
theorem dX3_thirds_33 : decode cX3_thirds 33 = .ok (.iload_n 3, 1) := dk_29 (dk_at dksX3_thirds_1 9 rfl rfl)
theorem dX3_thirds_34 : decode cX3_thirds 34 = .ok (.iconst 1, 1) := dk_4 (dk_at dksX3_thirds_1 10 rfl rfl)
theorem dX3_thirds_35 : decode cX3_thirds 35 = .ok (.iload 4, 2) := dk_21 4 (dk_at dksX3_thirds_1 11 rfl rfl)
theorem dX3_thirds_37 : decode cX3_thirds 37 = .ok (.ishl, 1) := dk_120 (dk_at dksX3_thirds_1 13 rfl rfl)
theorem dX3_thirds_38 : decode cX3_thirds 38 = .ok (.ior, 1) := dk_128 (dk_at dksX3_thirds_1 14 rfl rfl)
theorem dX3_thirds_39 : decode cX3_thirds 39 = .ok (.istore_n 3, 1) := dk_62 (dk_at dksX3_thirds_1 15 rfl rfl)
theorem dX3_thirds_40 : decode cX3_thirds 40 = .ok (.iinc 4 1, 3) := dk_132 4 1 (dk_at dksX3_thirds_1 16 rfl rfl)
theorem dX3_thirds_43 : decode cX3_thirds 43 = .ok (.goto (-33), 3) := dk_167 255 223 (dk_at dksX3_thirds_1 19 rfl rfl)
theorem dX3_thirds_46 : decode cX3_thirds 46 = .ok (.aload_n 0, 1) := dk_42 (dk_at dksX3_thirds_1 22 rfl rfl)
theorem dX3_thirds_47 : decode cX3_thirds 47 = .ok (.iload_n 2, 1) := dk_28 (dk_at dksX3_thirds_1 23 rfl rfl)
theorem dX3_thirds_48 : decode cX3_thirds 48 = .ok (.putfield 15, 3) := dk_181 0 15 (dk_at dksX3_thirds_2 0 rfl rfl)
theorem dX3_thirds_51 : decode cX3_thirds 51 = .ok (.iload_n 3, 1) := dk_29 (dk_at dksX3_thirds_2 3 rfl rfl)
theorem dX3_thirds_52 : decode cX3_thirds 52 = .ok (.ireturn, 1) := dk_172 (dk_at dksX3_thirds_2 4 rfl rfl)
def dkwX3_whose_2 : List UInt8 := [54, 4, 132, 5, 1, 167, 255, 217, 42, 180, 0, 95, 28, 29, 79, 21, 4, 172]
abbrev dktX3_whose_2 : List UInt8 := dkwX3_whose_2 ++ []
def dkwX3_whose_1 : List UInt8 := [180, 0, 95, 28, 21, 5, 79, 42, 27, 182, 1, 64, 16, 254, 160, 0, 12, 21, 4, 4, 21, 5, 120, 128]
abbrev dktX3_whose_1 : List UInt8 := dkwX3_whose_1 ++ dktX3_whose_2
def dkwX3_whose_0 : List UInt8 := [42, 180, 0, 95, 28, 46, 62, 3, 54, 4, 3, 54, 5, 21, 5, 42, 180, 0, 116, 162, 0, 36, 42]
abbrev dktX3_whose_0 : List UInt8 := dkwX3_whose_0 ++ dktX3_whose_1
theorem dksX3_whose_0 : cX3_whose.data.toList.drop 0 = dktX3_whose_0 := by decide +kernel
theorem dksX3_whose_1 : cX3_whose.data.toList.drop 23 = dktX3_whose_1 := dk_seg dksX3_whose_0 23 rfl rfl
theorem dksX3_whose_2 : cX3_whose.data.toList.drop 47 = dktX3_whose_2 := dk_seg dksX3_whose_1 24 rfl rfl
theorem dX3_whose_0 : decode cX3_whose 0 = .ok (.aload_n 0, 1) := dk_42 (dk_at dksX3_whose_0 0 rfl rfl)
theorem dX3_whose_1 : decode cX3_whose 1 = .ok (.getfield 95, 3) := dk_180 0 95 (dk_at dksX3_whose_0 1 rfl rfl)
theorem dX3_whose_4 : decode cX3_whose 4 = .ok (.iload_n 2, 1) := dk_28 (dk_at dksX3_whose_0 4 rfl rfl)
theorem dX3_whose_5 : decode cX3_whose 5 = .ok (.iaload, 1) := dk_46 (dk_at dksX3_whose_0 5 rfl rfl)
theorem dX3_whose_6 : decode cX3_whose 6 = .ok (.istore_n 3, 1) := dk_62 (dk_at dksX3_whose_0 6 rfl rfl)
theorem dX3_whose_7 : decode cX3_whose 7 = .ok (.iconst 0, 1) := dk_3 (dk_at dksX3_whose_0 7 rfl rfl)
theorem dX3_whose_8 : decode cX3_whose 8 = .ok (.istore 4, 2) := dk_54 4 (dk_at dksX3_whose_0 8 rfl rfl)
theorem dX3_whose_10 : decode cX3_whose 10 = .ok (.iconst 0, 1) := dk_3 (dk_at dksX3_whose_0 10 rfl rfl)
theorem dX3_whose_11 : decode cX3_whose 11 = .ok (.istore 5, 2) := dk_54 5 (dk_at dksX3_whose_0 11 rfl rfl)
theorem dX3_whose_13 : decode cX3_whose 13 = .ok (.iload 5, 2) := dk_21 5 (dk_at dksX3_whose_0 13 rfl rfl)
theorem dX3_whose_15 : decode cX3_whose 15 = .ok (.aload_n 0, 1) := dk_42 (dk_at dksX3_whose_0 15 rfl rfl)
theorem dX3_whose_16 : decode cX3_whose 16 = .ok (.getfield 116, 3) := dk_180 0 116 (dk_at dksX3_whose_0 16 rfl rfl)
theorem dX3_whose_19 : decode cX3_whose 19 = .ok (.if_icmp .ge 36, 3) := dk_162 0 36 (dk_at dksX3_whose_0 19 rfl rfl)
theorem dX3_whose_22 : decode cX3_whose 22 = .ok (.aload_n 0, 1) := dk_42 (dk_at dksX3_whose_0 22 rfl rfl)
theorem dX3_whose_23 : decode cX3_whose 23 = .ok (.getfield 95, 3) := dk_180 0 95 (dk_at dksX3_whose_1 0 rfl rfl)
theorem dX3_whose_26 : decode cX3_whose 26 = .ok (.iload_n 2, 1) := dk_28 (dk_at dksX3_whose_1 3 rfl rfl)
theorem dX3_whose_27 : decode cX3_whose 27 = .ok (.iload 5, 2) := dk_21 5 (dk_at dksX3_whose_1 4 rfl rfl)
theorem dX3_whose_29 : decode cX3_whose 29 = .ok (.iastore, 1) := dk_79 (dk_at dksX3_whose_1 6 rfl rfl)
theorem dX3_whose_30 : decode cX3_whose 30 = .ok (.aload_n 0, 1) := dk_42 (dk_at dksX3_whose_1 7 rfl rfl)
theorem dX3_whose_31 : decode cX3_whose 31 = .ok (.iload_n 1, 1) := dk_27 (dk_at dksX3_whose_1 8 rfl rfl)
theorem dX3_whose_32 : decode cX3_whose 32 = .ok (.invokevirtual 320, 3) := dk_182 1 64 (dk_at dksX3_whose_1 9 rfl rfl)
theorem dX3_whose_35 : decode cX3_whose 35 = .ok (.bipush (-2), 2) := dk_16 254 (dk_at dksX3_whose_1 12 rfl rfl)
theorem dX3_whose_37 : decode cX3_whose 37 = .ok (.if_icmp .ne 12, 3) := dk_160 0 12 (dk_at dksX3_whose_1 14 rfl rfl)
theorem dX3_whose_40 : decode cX3_whose 40 = .ok (.iload 4, 2) := dk_21 4 (dk_at dksX3_whose_1 17 rfl rfl)
theorem dX3_whose_42 : decode cX3_whose 42 = .ok (.iconst 1, 1) := dk_4 (dk_at dksX3_whose_1 19 rfl rfl)
theorem dX3_whose_43 : decode cX3_whose 43 = .ok (.iload 5, 2) := dk_21 5 (dk_at dksX3_whose_1 20 rfl rfl)
theorem dX3_whose_45 : decode cX3_whose 45 = .ok (.ishl, 1) := dk_120 (dk_at dksX3_whose_1 22 rfl rfl)
theorem dX3_whose_46 : decode cX3_whose 46 = .ok (.ior, 1) := dk_128 (dk_at dksX3_whose_1 23 rfl rfl)
theorem dX3_whose_47 : decode cX3_whose 47 = .ok (.istore 4, 2) := dk_54 4 (dk_at dksX3_whose_2 0 rfl rfl)
theorem dX3_whose_49 : decode cX3_whose 49 = .ok (.iinc 5 1, 3) := dk_132 5 1 (dk_at dksX3_whose_2 2 rfl rfl)
theorem dX3_whose_52 : decode cX3_whose 52 = .ok (.goto (-39), 3) := dk_167 255 217 (dk_at dksX3_whose_2 5 rfl rfl)
theorem dX3_whose_55 : decode cX3_whose 55 = .ok (.aload_n 0, 1) := dk_42 (dk_at dksX3_whose_2 8 rfl rfl)
theorem dX3_whose_56 : decode cX3_whose 56 = .ok (.getfield 95, 3) := dk_180 0 95 (dk_at dksX3_whose_2 9 rfl rfl)
theorem dX3_whose_59 : decode cX3_whose 59 = .ok (.iload_n 2, 1) := dk_28 (dk_at dksX3_whose_2 12 rfl rfl)
theorem dX3_whose_60 : decode cX3_whose 60 = .ok (.iload_n 3, 1) := dk_29 (dk_at dksX3_whose_2 13 rfl rfl)
theorem dX3_whose_61 : decode cX3_whose 61 = .ok (.iastore, 1) := dk_79 (dk_at dksX3_whose_2 14 rfl rfl)
theorem dX3_whose_62 : decode cX3_whose 62 = .ok (.iload 4, 2) := dk_21 4 (dk_at dksX3_whose_2 15 rfl rfl)
theorem dX3_whose_64 : decode cX3_whose 64 = .ok (.ireturn, 1) := dk_172 (dk_at dksX3_whose_2 17 rfl rfl)
def dkwX3_wanted_3 : List UInt8 := [167, 0, 5, 21, 5, 172]
abbrev dktX3_wanted_3 : List UInt8 := dkwX3_wanted_3 ++ []
def dkwX3_wanted_2 : List UInt8 := [21, 7, 54, 6, 132, 7, 255, 167, 255, 220, 42, 180, 0, 9, 28, 21, 4, 79, 29, 153, 0, 8, 21, 6]
abbrev dktX3_wanted_2 : List UInt8 := dkwX3_wanted_2 ++ dktX3_wanted_3
def dkwX3_wanted_1 : List UInt8 := [42, 180, 0, 9, 28, 21, 7, 79, 42, 27, 182, 1, 64, 16, 254, 159, 0, 6, 167, 0, 10, 132, 5, 1]
abbrev dktX3_wanted_1 : List UInt8 := dkwX3_wanted_1 ++ dktX3_wanted_2
def dkwX3_wanted_0 : List UInt8 := [42, 180, 0, 9, 28, 46, 54, 4, 3, 54, 5, 16, 254, 54, 6, 16, 9, 54, 7, 21, 7, 155, 0, 37]
abbrev dktX3_wanted_0 : List UInt8 := dkwX3_wanted_0 ++ dktX3_wanted_1
theorem dksX3_wanted_0 : cX3_wanted.data.toList.drop 0 = dktX3_wanted_0 := by decide +kernel
theorem dksX3_wanted_1 : cX3_wanted.data.toList.drop 24 = dktX3_wanted_1 := dk_seg dksX3_wanted_0 24 rfl rfl
theorem dksX3_wanted_2 : cX3_wanted.data.toList.drop 48 = dktX3_wanted_2 := dk_seg dksX3_wanted_1 24 rfl rfl
theorem dksX3_wanted_3 : cX3_wanted.data.toList.drop 72 = dktX3_wanted_3 := dk_seg dksX3_wanted_2 24 rfl rfl
theorem dX3_wanted_0 : decode cX3_wanted 0 = .ok (.aload_n 0, 1) := dk_42 (dk_at dksX3_wanted_0 0 rfl rfl)
theorem dX3_wanted_1 : decode cX3_wanted 1 = .ok (.getfield 9, 3) := dk_180 0 9 (dk_at dksX3_wanted_0 1 rfl rfl)
theorem dX3_wanted_4 : decode cX3_wanted 4 = .ok (.iload_n 2, 1) := dk_28 (dk_at dksX3_wanted_0 4 rfl rfl)
theorem dX3_wanted_5 : decode cX3_wanted 5 = .ok (.iaload, 1) := dk_46 (dk_at dksX3_wanted_0 5 rfl rfl)
theorem dX3_wanted_6 : decode cX3_wanted 6 = .ok (.istore 4, 2) := dk_54 4 (dk_at dksX3_wanted_0 6 rfl rfl)
theorem dX3_wanted_8 : decode cX3_wanted 8 = .ok (.iconst 0, 1) := dk_3 (dk_at dksX3_wanted_0 8 rfl rfl)
theorem dX3_wanted_9 : decode cX3_wanted 9 = .ok (.istore 5, 2) := dk_54 5 (dk_at dksX3_wanted_0 9 rfl rfl)
theorem dX3_wanted_11 : decode cX3_wanted 11 = .ok (.bipush (-2), 2) := dk_16 254 (dk_at dksX3_wanted_0 11 rfl rfl)
theorem dX3_wanted_13 : decode cX3_wanted 13 = .ok (.istore 6, 2) := dk_54 6 (dk_at dksX3_wanted_0 13 rfl rfl)
theorem dX3_wanted_15 : decode cX3_wanted 15 = .ok (.bipush 9, 2) := dk_16 9 (dk_at dksX3_wanted_0 15 rfl rfl)
theorem dX3_wanted_17 : decode cX3_wanted 17 = .ok (.istore 7, 2) := dk_54 7 (dk_at dksX3_wanted_0 17 rfl rfl)
theorem dX3_wanted_19 : decode cX3_wanted 19 = .ok (.iload 7, 2) := dk_21 7 (dk_at dksX3_wanted_0 19 rfl rfl)
theorem dX3_wanted_21 : decode cX3_wanted 21 = .ok (.ifCond .lt 37, 3) := dk_155 0 37 (dk_at dksX3_wanted_0 21 rfl rfl)
theorem dX3_wanted_24 : decode cX3_wanted 24 = .ok (.aload_n 0, 1) := dk_42 (dk_at dksX3_wanted_1 0 rfl rfl)
theorem dX3_wanted_25 : decode cX3_wanted 25 = .ok (.getfield 9, 3) := dk_180 0 9 (dk_at dksX3_wanted_1 1 rfl rfl)
theorem dX3_wanted_28 : decode cX3_wanted 28 = .ok (.iload_n 2, 1) := dk_28 (dk_at dksX3_wanted_1 4 rfl rfl)
theorem dX3_wanted_29 : decode cX3_wanted 29 = .ok (.iload 7, 2) := dk_21 7 (dk_at dksX3_wanted_1 5 rfl rfl)
theorem dX3_wanted_31 : decode cX3_wanted 31 = .ok (.iastore, 1) := dk_79 (dk_at dksX3_wanted_1 7 rfl rfl)
theorem dX3_wanted_32 : decode cX3_wanted 32 = .ok (.aload_n 0, 1) := dk_42 (dk_at dksX3_wanted_1 8 rfl rfl)
theorem dX3_wanted_33 : decode cX3_wanted 33 = .ok (.iload_n 1, 1) := dk_27 (dk_at dksX3_wanted_1 9 rfl rfl)
theorem dX3_wanted_34 : decode cX3_wanted 34 = .ok (.invokevirtual 320, 3) := dk_182 1 64 (dk_at dksX3_wanted_1 10 rfl rfl)
theorem dX3_wanted_37 : decode cX3_wanted 37 = .ok (.bipush (-2), 2) := dk_16 254 (dk_at dksX3_wanted_1 13 rfl rfl)
theorem dX3_wanted_39 : decode cX3_wanted 39 = .ok (.if_icmp .eq 6, 3) := dk_159 0 6 (dk_at dksX3_wanted_1 15 rfl rfl)
theorem dX3_wanted_42 : decode cX3_wanted 42 = .ok (.goto 10, 3) := dk_167 0 10 (dk_at dksX3_wanted_1 18 rfl rfl)
theorem dX3_wanted_45 : decode cX3_wanted 45 = .ok (.iinc 5 1, 3) := dk_132 5 1 (dk_at dksX3_wanted_1 21 rfl rfl)
theorem dX3_wanted_48 : decode cX3_wanted 48 = .ok (.iload 7, 2) := dk_21 7 (dk_at dksX3_wanted_2 0 rfl rfl)
theorem dX3_wanted_50 : decode cX3_wanted 50 = .ok (.istore 6, 2) := dk_54 6 (dk_at dksX3_wanted_2 2 rfl rfl)
theorem dX3_wanted_52 : decode cX3_wanted 52 = .ok (.iinc 7 (-1), 3) := dk_132 7 255 (dk_at dksX3_wanted_2 4 rfl rfl)
theorem dX3_wanted_55 : decode cX3_wanted 55 = .ok (.goto (-36), 3) := dk_167 255 220 (dk_at dksX3_wanted_2 7 rfl rfl)
theorem dX3_wanted_58 : decode cX3_wanted 58 = .ok (.aload_n 0, 1) := dk_42 (dk_at dksX3_wanted_2 10 rfl rfl)
theorem dX3_wanted_59 : decode cX3_wanted 59 = .ok (.getfield 9, 3) := dk_180 0 9 (dk_at dksX3_wanted_2 11 rfl rfl)
theorem dX3_wanted_62 : decode cX3_wanted 62 = .ok (.iload_n 2, 1) := dk_28 (dk_at dksX3_wanted_2 14 rfl rfl)
theorem dX3_wanted_63 : decode cX3_wanted 63 = .ok (.iload 4, 2) := dk_21 4 (dk_at dksX3_wanted_2 15 rfl rfl)
theorem dX3_wanted_65 : decode cX3_wanted 65 = .ok (.iastore, 1) := dk_79 (dk_at dksX3_wanted_2 17 rfl rfl)
theorem dX3_wanted_66 : decode cX3_wanted 66 = .ok (.iload_n 3, 1) := dk_29 (dk_at dksX3_wanted_2 18 rfl rfl)
theorem dX3_wanted_67 : decode cX3_wanted 67 = .ok (.ifCond .eq 8, 3) := dk_153 0 8 (dk_at dksX3_wanted_2 19 rfl rfl)
theorem dX3_wanted_70 : decode cX3_wanted 70 = .ok (.iload 6, 2) := dk_21 6 (dk_at dksX3_wanted_2 22 rfl rfl)
theorem dX3_wanted_72 : decode cX3_wanted 72 = .ok (.goto 5, 3) := dk_167 0 5 (dk_at dksX3_wanted_3 0 rfl rfl)
theorem dX3_wanted_75 : decode cX3_wanted 75 = .ok (.iload 5, 2) := dk_21 5 (dk_at dksX3_wanted_3 3 rfl rfl)
theorem dX3_wanted_77 : decode cX3_wanted 77 = .ok (.ireturn, 1) := dk_172 (dk_at dksX3_wanted_3 5 rfl rfl)
def dkwX3_byTurns_3 : List UInt8 := [184, 0, 235, 167, 0, 15, 21, 5, 21, 4, 164, 0, 7, 4, 167, 0, 4, 3, 172]
abbrev dktX3_byTurns_3 : List UInt8 := dkwX3_byTurns_3 ++ []
def dkwX3_byTurns_2 : List UInt8 := [3, 28, 27, 16, 10, 108, 27, 16, 10, 112, 182, 1, 81, 54, 5, 29, 154, 0, 13, 21, 4, 21, 5]
abbrev dktX3_byTurns_2 : List UInt8 := dkwX3_byTurns_2 ++ dktX3_byTurns_3
def dkwX3_byTurns_1 : List UInt8 := [154, 0, 7, 19, 1, 84, 172, 42, 4, 28, 27, 16, 10, 108, 27, 16, 10, 112, 182, 1, 77, 54, 4, 42]
abbrev dktX3_byTurns_1 : List UInt8 := dkwX3_byTurns_1 ++ dktX3_byTurns_2
def dkwX3_byTurns_0 : List UInt8 := [42, 27, 182, 1, 52, 153, 0, 21, 28, 4, 8, 184, 0, 119, 153, 0, 12, 29, 3, 4, 184, 0, 119]
abbrev dktX3_byTurns_0 : List UInt8 := dkwX3_byTurns_0 ++ dktX3_byTurns_1
theorem dksX3_byTurns_0 : cX3_byTurns.data.toList.drop 0 = dktX3_byTurns_0 := by decide +kernel
theorem dksX3_byTurns_1 : cX3_byTurns.data.toList.drop 23 = dktX3_byTurns_1 := dk_seg dksX3_byTurns_0 23 rfl rfl
theorem dksX3_byTurns_2 : cX3_byTurns.data.toList.drop 47 = dktX3_byTurns_2 := dk_seg dksX3_byTurns_1 24 rfl rfl
theorem dksX3_byTurns_3 : cX3_byTurns.data.toList.drop 70 = dktX3_byTurns_3 := dk_seg dksX3_byTurns_2 23 rfl rfl
theorem dX3_byTurns_0 : decode cX3_byTurns 0 = .ok (.aload_n 0, 1) := dk_42 (dk_at dksX3_byTurns_0 0 rfl rfl)
theorem dX3_byTurns_1 : decode cX3_byTurns 1 = .ok (.iload_n 1, 1) := dk_27 (dk_at dksX3_byTurns_0 1 rfl rfl)
theorem dX3_byTurns_2 : decode cX3_byTurns 2 = .ok (.invokevirtual 308, 3) := dk_182 1 52 (dk_at dksX3_byTurns_0 2 rfl rfl)
theorem dX3_byTurns_5 : decode cX3_byTurns 5 = .ok (.ifCond .eq 21, 3) := dk_153 0 21 (dk_at dksX3_byTurns_0 5 rfl rfl)
theorem dX3_byTurns_8 : decode cX3_byTurns 8 = .ok (.iload_n 2, 1) := dk_28 (dk_at dksX3_byTurns_0 8 rfl rfl)
theorem dX3_byTurns_9 : decode cX3_byTurns 9 = .ok (.iconst 1, 1) := dk_4 (dk_at dksX3_byTurns_0 9 rfl rfl)
theorem dX3_byTurns_10 : decode cX3_byTurns 10 = .ok (.iconst 5, 1) := dk_8 (dk_at dksX3_byTurns_0 10 rfl rfl)
theorem dX3_byTurns_11 : decode cX3_byTurns 11 = .ok (.invokestatic 119, 3) := dk_184 0 119 (dk_at dksX3_byTurns_0 11 rfl rfl)
theorem dX3_byTurns_14 : decode cX3_byTurns 14 = .ok (.ifCond .eq 12, 3) := dk_153 0 12 (dk_at dksX3_byTurns_0 14 rfl rfl)
theorem dX3_byTurns_17 : decode cX3_byTurns 17 = .ok (.iload_n 3, 1) := dk_29 (dk_at dksX3_byTurns_0 17 rfl rfl)
theorem dX3_byTurns_18 : decode cX3_byTurns 18 = .ok (.iconst 0, 1) := dk_3 (dk_at dksX3_byTurns_0 18 rfl rfl)
theorem dX3_byTurns_19 : decode cX3_byTurns 19 = .ok (.iconst 1, 1) := dk_4 (dk_at dksX3_byTurns_0 19 rfl rfl)
theorem dX3_byTurns_20 : decode cX3_byTurns 20 = .ok (.invokestatic 119, 3) := dk_184 0 119 (dk_at dksX3_byTurns_0 20 rfl rfl)
theorem dX3_byTurns_23 : decode cX3_byTurns 23 = .ok (.ifCond .ne 7, 3) := dk_154 0 7 (dk_at dksX3_byTurns_1 0 rfl rfl)
theorem dX3_byTurns_26 : decode cX3_byTurns 26 = .ok (.ldc_w 340, 3) := dk_19 1 84 (dk_at dksX3_byTurns_1 3 rfl rfl)
theorem dX3_byTurns_29 : decode cX3_byTurns 29 = .ok (.ireturn, 1) := dk_172 (dk_at dksX3_byTurns_1 6 rfl rfl)
theorem dX3_byTurns_30 : decode cX3_byTurns 30 = .ok (.aload_n 0, 1) := dk_42 (dk_at dksX3_byTurns_1 7 rfl rfl)
theorem dX3_byTurns_31 : decode cX3_byTurns 31 = .ok (.iconst 1, 1) := dk_4 (dk_at dksX3_byTurns_1 8 rfl rfl)
theorem dX3_byTurns_32 : decode cX3_byTurns 32 = .ok (.iload_n 2, 1) := dk_28 (dk_at dksX3_byTurns_1 9 rfl rfl)
theorem dX3_byTurns_33 : decode cX3_byTurns 33 = .ok (.iload_n 1, 1) := dk_27 (dk_at dksX3_byTurns_1 10 rfl rfl)
theorem dX3_byTurns_34 : decode cX3_byTurns 34 = .ok (.bipush 10, 2) := dk_16 10 (dk_at dksX3_byTurns_1 11 rfl rfl)
theorem dX3_byTurns_36 : decode cX3_byTurns 36 = .ok (.idiv, 1) := dk_108 (dk_at dksX3_byTurns_1 13 rfl rfl)
theorem dX3_byTurns_37 : decode cX3_byTurns 37 = .ok (.iload_n 1, 1) := dk_27 (dk_at dksX3_byTurns_1 14 rfl rfl)
theorem dX3_byTurns_38 : decode cX3_byTurns 38 = .ok (.bipush 10, 2) := dk_16 10 (dk_at dksX3_byTurns_1 15 rfl rfl)
theorem dX3_byTurns_40 : decode cX3_byTurns 40 = .ok (.irem, 1) := dk_112 (dk_at dksX3_byTurns_1 17 rfl rfl)
theorem dX3_byTurns_41 : decode cX3_byTurns 41 = .ok (.invokevirtual 333, 3) := dk_182 1 77 (dk_at dksX3_byTurns_1 18 rfl rfl)
theorem dX3_byTurns_44 : decode cX3_byTurns 44 = .ok (.istore 4, 2) := dk_54 4 (dk_at dksX3_byTurns_1 21 rfl rfl)
theorem dX3_byTurns_46 : decode cX3_byTurns 46 = .ok (.aload_n 0, 1) := dk_42 (dk_at dksX3_byTurns_1 23 rfl rfl)
theorem dX3_byTurns_47 : decode cX3_byTurns 47 = .ok (.iconst 0, 1) := dk_3 (dk_at dksX3_byTurns_2 0 rfl rfl)
theorem dX3_byTurns_48 : decode cX3_byTurns 48 = .ok (.iload_n 2, 1) := dk_28 (dk_at dksX3_byTurns_2 1 rfl rfl)
theorem dX3_byTurns_49 : decode cX3_byTurns 49 = .ok (.iload_n 1, 1) := dk_27 (dk_at dksX3_byTurns_2 2 rfl rfl)
theorem dX3_byTurns_50 : decode cX3_byTurns 50 = .ok (.bipush 10, 2) := dk_16 10 (dk_at dksX3_byTurns_2 3 rfl rfl)
theorem dX3_byTurns_52 : decode cX3_byTurns 52 = .ok (.idiv, 1) := dk_108 (dk_at dksX3_byTurns_2 5 rfl rfl)
theorem dX3_byTurns_53 : decode cX3_byTurns 53 = .ok (.iload_n 1, 1) := dk_27 (dk_at dksX3_byTurns_2 6 rfl rfl)
theorem dX3_byTurns_54 : decode cX3_byTurns 54 = .ok (.bipush 10, 2) := dk_16 10 (dk_at dksX3_byTurns_2 7 rfl rfl)
theorem dX3_byTurns_56 : decode cX3_byTurns 56 = .ok (.irem, 1) := dk_112 (dk_at dksX3_byTurns_2 9 rfl rfl)
theorem dX3_byTurns_57 : decode cX3_byTurns 57 = .ok (.invokevirtual 337, 3) := dk_182 1 81 (dk_at dksX3_byTurns_2 10 rfl rfl)
theorem dX3_byTurns_60 : decode cX3_byTurns 60 = .ok (.istore 5, 2) := dk_54 5 (dk_at dksX3_byTurns_2 13 rfl rfl)
theorem dX3_byTurns_62 : decode cX3_byTurns 62 = .ok (.iload_n 3, 1) := dk_29 (dk_at dksX3_byTurns_2 15 rfl rfl)
theorem dX3_byTurns_63 : decode cX3_byTurns 63 = .ok (.ifCond .ne 13, 3) := dk_154 0 13 (dk_at dksX3_byTurns_2 16 rfl rfl)
theorem dX3_byTurns_66 : decode cX3_byTurns 66 = .ok (.iload 4, 2) := dk_21 4 (dk_at dksX3_byTurns_2 19 rfl rfl)
theorem dX3_byTurns_68 : decode cX3_byTurns 68 = .ok (.iload 5, 2) := dk_21 5 (dk_at dksX3_byTurns_2 21 rfl rfl)
theorem dX3_byTurns_70 : decode cX3_byTurns 70 = .ok (.invokestatic 235, 3) := dk_184 0 235 (dk_at dksX3_byTurns_3 0 rfl rfl)
theorem dX3_byTurns_73 : decode cX3_byTurns 73 = .ok (.goto 15, 3) := dk_167 0 15 (dk_at dksX3_byTurns_3 3 rfl rfl)
theorem dX3_byTurns_76 : decode cX3_byTurns 76 = .ok (.iload 5, 2) := dk_21 5 (dk_at dksX3_byTurns_3 6 rfl rfl)
theorem dX3_byTurns_78 : decode cX3_byTurns 78 = .ok (.iload 4, 2) := dk_21 4 (dk_at dksX3_byTurns_3 8 rfl rfl)
theorem dX3_byTurns_80 : decode cX3_byTurns 80 = .ok (.if_icmp .le 7, 3) := dk_164 0 7 (dk_at dksX3_byTurns_3 10 rfl rfl)
theorem dX3_byTurns_83 : decode cX3_byTurns 83 = .ok (.iconst 1, 1) := dk_4 (dk_at dksX3_byTurns_3 13 rfl rfl)
theorem dX3_byTurns_84 : decode cX3_byTurns 84 = .ok (.goto 4, 3) := dk_167 0 4 (dk_at dksX3_byTurns_3 14 rfl rfl)
theorem dX3_byTurns_87 : decode cX3_byTurns 87 = .ok (.iconst 0, 1) := dk_3 (dk_at dksX3_byTurns_3 17 rfl rfl)
theorem dX3_byTurns_88 : decode cX3_byTurns 88 = .ok (.ireturn, 1) := dk_172 (dk_at dksX3_byTurns_3 18 rfl rfl)
def dkwX3_turnFrom_2 : List UInt8 := [154, 0, 13, 21, 5, 21, 6, 184, 0, 235, 167, 0, 10, 21, 5, 21, 6, 184, 0, 230, 172]
abbrev dktX3_turnFrom_2 : List UInt8 := dkwX3_turnFrom_2 ++ []
def dkwX3_turnFrom_1 : List UInt8 := [28, 29, 21, 4, 182, 1, 77, 54, 5, 42, 27, 28, 29, 21, 4, 182, 1, 81, 54, 6, 27, 5, 112]
abbrev dktX3_turnFrom_1 : List UInt8 := dkwX3_turnFrom_1 ++ dktX3_turnFrom_2
def dkwX3_turnFrom_0 : List UInt8 := [27, 28, 160, 0, 18, 42, 180, 0, 22, 29, 46, 42, 180, 0, 22, 21, 4, 46, 100, 172, 42, 27, 4, 96]
abbrev dktX3_turnFrom_0 : List UInt8 := dkwX3_turnFrom_0 ++ dktX3_turnFrom_1
theorem dksX3_turnFrom_0 : cX3_turnFrom.data.toList.drop 0 = dktX3_turnFrom_0 := by decide +kernel
theorem dksX3_turnFrom_1 : cX3_turnFrom.data.toList.drop 24 = dktX3_turnFrom_1 := dk_seg dksX3_turnFrom_0 24 rfl rfl
theorem dksX3_turnFrom_2 : cX3_turnFrom.data.toList.drop 47 = dktX3_turnFrom_2 := dk_seg dksX3_turnFrom_1 23 rfl rfl
theorem dX3_turnFrom_0 : decode cX3_turnFrom 0 = .ok (.iload_n 1, 1) := dk_27 (dk_at dksX3_turnFrom_0 0 rfl rfl)
theorem dX3_turnFrom_1 : decode cX3_turnFrom 1 = .ok (.iload_n 2, 1) := dk_28 (dk_at dksX3_turnFrom_0 1 rfl rfl)
theorem dX3_turnFrom_2 : decode cX3_turnFrom 2 = .ok (.if_icmp .ne 18, 3) := dk_160 0 18 (dk_at dksX3_turnFrom_0 2 rfl rfl)
theorem dX3_turnFrom_5 : decode cX3_turnFrom 5 = .ok (.aload_n 0, 1) := dk_42 (dk_at dksX3_turnFrom_0 5 rfl rfl)
theorem dX3_turnFrom_6 : decode cX3_turnFrom 6 = .ok (.getfield 22, 3) := dk_180 0 22 (dk_at dksX3_turnFrom_0 6 rfl rfl)
theorem dX3_turnFrom_9 : decode cX3_turnFrom 9 = .ok (.iload_n 3, 1) := dk_29 (dk_at dksX3_turnFrom_0 9 rfl rfl)
theorem dX3_turnFrom_10 : decode cX3_turnFrom 10 = .ok (.iaload, 1) := dk_46 (dk_at dksX3_turnFrom_0 10 rfl rfl)
theorem dX3_turnFrom_11 : decode cX3_turnFrom 11 = .ok (.aload_n 0, 1) := dk_42 (dk_at dksX3_turnFrom_0 11 rfl rfl)
theorem dX3_turnFrom_12 : decode cX3_turnFrom 12 = .ok (.getfield 22, 3) := dk_180 0 22 (dk_at dksX3_turnFrom_0 12 rfl rfl)
theorem dX3_turnFrom_15 : decode cX3_turnFrom 15 = .ok (.iload 4, 2) := dk_21 4 (dk_at dksX3_turnFrom_0 15 rfl rfl)
theorem dX3_turnFrom_17 : decode cX3_turnFrom 17 = .ok (.iaload, 1) := dk_46 (dk_at dksX3_turnFrom_0 17 rfl rfl)
theorem dX3_turnFrom_18 : decode cX3_turnFrom 18 = .ok (.isub, 1) := dk_100 (dk_at dksX3_turnFrom_0 18 rfl rfl)
theorem dX3_turnFrom_19 : decode cX3_turnFrom 19 = .ok (.ireturn, 1) := dk_172 (dk_at dksX3_turnFrom_0 19 rfl rfl)
theorem dX3_turnFrom_20 : decode cX3_turnFrom 20 = .ok (.aload_n 0, 1) := dk_42 (dk_at dksX3_turnFrom_0 20 rfl rfl)
theorem dX3_turnFrom_21 : decode cX3_turnFrom 21 = .ok (.iload_n 1, 1) := dk_27 (dk_at dksX3_turnFrom_0 21 rfl rfl)
theorem dX3_turnFrom_22 : decode cX3_turnFrom 22 = .ok (.iconst 1, 1) := dk_4 (dk_at dksX3_turnFrom_0 22 rfl rfl)
theorem dX3_turnFrom_23 : decode cX3_turnFrom 23 = .ok (.iadd, 1) := dk_96 (dk_at dksX3_turnFrom_0 23 rfl rfl)
theorem dX3_turnFrom_24 : decode cX3_turnFrom 24 = .ok (.iload_n 2, 1) := dk_28 (dk_at dksX3_turnFrom_1 0 rfl rfl)
theorem dX3_turnFrom_25 : decode cX3_turnFrom 25 = .ok (.iload_n 3, 1) := dk_29 (dk_at dksX3_turnFrom_1 1 rfl rfl)
theorem dX3_turnFrom_26 : decode cX3_turnFrom 26 = .ok (.iload 4, 2) := dk_21 4 (dk_at dksX3_turnFrom_1 2 rfl rfl)
theorem dX3_turnFrom_28 : decode cX3_turnFrom 28 = .ok (.invokevirtual 333, 3) := dk_182 1 77 (dk_at dksX3_turnFrom_1 4 rfl rfl)
theorem dX3_turnFrom_31 : decode cX3_turnFrom 31 = .ok (.istore 5, 2) := dk_54 5 (dk_at dksX3_turnFrom_1 7 rfl rfl)
theorem dX3_turnFrom_33 : decode cX3_turnFrom 33 = .ok (.aload_n 0, 1) := dk_42 (dk_at dksX3_turnFrom_1 9 rfl rfl)
theorem dX3_turnFrom_34 : decode cX3_turnFrom 34 = .ok (.iload_n 1, 1) := dk_27 (dk_at dksX3_turnFrom_1 10 rfl rfl)
theorem dX3_turnFrom_35 : decode cX3_turnFrom 35 = .ok (.iload_n 2, 1) := dk_28 (dk_at dksX3_turnFrom_1 11 rfl rfl)
theorem dX3_turnFrom_36 : decode cX3_turnFrom 36 = .ok (.iload_n 3, 1) := dk_29 (dk_at dksX3_turnFrom_1 12 rfl rfl)
theorem dX3_turnFrom_37 : decode cX3_turnFrom 37 = .ok (.iload 4, 2) := dk_21 4 (dk_at dksX3_turnFrom_1 13 rfl rfl)
theorem dX3_turnFrom_39 : decode cX3_turnFrom 39 = .ok (.invokevirtual 337, 3) := dk_182 1 81 (dk_at dksX3_turnFrom_1 15 rfl rfl)
theorem dX3_turnFrom_42 : decode cX3_turnFrom 42 = .ok (.istore 6, 2) := dk_54 6 (dk_at dksX3_turnFrom_1 18 rfl rfl)
theorem dX3_turnFrom_44 : decode cX3_turnFrom 44 = .ok (.iload_n 1, 1) := dk_27 (dk_at dksX3_turnFrom_1 20 rfl rfl)
theorem dX3_turnFrom_45 : decode cX3_turnFrom 45 = .ok (.iconst 2, 1) := dk_5 (dk_at dksX3_turnFrom_1 21 rfl rfl)
theorem dX3_turnFrom_46 : decode cX3_turnFrom 46 = .ok (.irem, 1) := dk_112 (dk_at dksX3_turnFrom_1 22 rfl rfl)
theorem dX3_turnFrom_47 : decode cX3_turnFrom 47 = .ok (.ifCond .ne 13, 3) := dk_154 0 13 (dk_at dksX3_turnFrom_2 0 rfl rfl)
theorem dX3_turnFrom_50 : decode cX3_turnFrom 50 = .ok (.iload 5, 2) := dk_21 5 (dk_at dksX3_turnFrom_2 3 rfl rfl)
theorem dX3_turnFrom_52 : decode cX3_turnFrom 52 = .ok (.iload 6, 2) := dk_21 6 (dk_at dksX3_turnFrom_2 5 rfl rfl)
theorem dX3_turnFrom_54 : decode cX3_turnFrom 54 = .ok (.invokestatic 235, 3) := dk_184 0 235 (dk_at dksX3_turnFrom_2 7 rfl rfl)
theorem dX3_turnFrom_57 : decode cX3_turnFrom 57 = .ok (.goto 10, 3) := dk_167 0 10 (dk_at dksX3_turnFrom_2 10 rfl rfl)
theorem dX3_turnFrom_60 : decode cX3_turnFrom 60 = .ok (.iload 5, 2) := dk_21 5 (dk_at dksX3_turnFrom_2 13 rfl rfl)
theorem dX3_turnFrom_62 : decode cX3_turnFrom 62 = .ok (.iload 6, 2) := dk_21 6 (dk_at dksX3_turnFrom_2 15 rfl rfl)
theorem dX3_turnFrom_64 : decode cX3_turnFrom 64 = .ok (.invokestatic 230, 3) := dk_184 0 230 (dk_at dksX3_turnFrom_2 17 rfl rfl)
theorem dX3_turnFrom_67 : decode cX3_turnFrom 67 = .ok (.ireturn, 1) := dk_172 (dk_at dksX3_turnFrom_2 20 rfl rfl)
def dkwX3_comesAt_2 : List UInt8 := [16, 31, 27, 104, 182, 1, 17, 21, 5, 172]
abbrev dktX3_comesAt_2 : List UInt8 := dkwX3_comesAt_2 ++ []
def dkwX3_comesAt_1 : List UInt8 := [21, 4, 182, 1, 4, 87, 42, 27, 4, 96, 28, 29, 21, 4, 182, 1, 77, 54, 5, 42, 42, 180, 0, 89]
abbrev dktX3_comesAt_1 : List UInt8 := dkwX3_comesAt_1 ++ dktX3_comesAt_2
def dkwX3_comesAt_0 : List UInt8 := [42, 42, 180, 0, 89, 16, 31, 27, 104, 182, 1, 7, 42, 27, 5, 112, 154, 0, 7, 29, 167, 0, 5]
abbrev dktX3_comesAt_0 : List UInt8 := dkwX3_comesAt_0 ++ dktX3_comesAt_1
theorem dksX3_comesAt_0 : cX3_comesAt.data.toList.drop 0 = dktX3_comesAt_0 := by decide +kernel
theorem dksX3_comesAt_1 : cX3_comesAt.data.toList.drop 23 = dktX3_comesAt_1 := dk_seg dksX3_comesAt_0 23 rfl rfl
theorem dksX3_comesAt_2 : cX3_comesAt.data.toList.drop 47 = dktX3_comesAt_2 := dk_seg dksX3_comesAt_1 24 rfl rfl
theorem dX3_comesAt_0 : decode cX3_comesAt 0 = .ok (.aload_n 0, 1) := dk_42 (dk_at dksX3_comesAt_0 0 rfl rfl)
theorem dX3_comesAt_1 : decode cX3_comesAt 1 = .ok (.aload_n 0, 1) := dk_42 (dk_at dksX3_comesAt_0 1 rfl rfl)
theorem dX3_comesAt_2 : decode cX3_comesAt 2 = .ok (.getfield 89, 3) := dk_180 0 89 (dk_at dksX3_comesAt_0 2 rfl rfl)
theorem dX3_comesAt_5 : decode cX3_comesAt 5 = .ok (.bipush 31, 2) := dk_16 31 (dk_at dksX3_comesAt_0 5 rfl rfl)
theorem dX3_comesAt_7 : decode cX3_comesAt 7 = .ok (.iload_n 1, 1) := dk_27 (dk_at dksX3_comesAt_0 7 rfl rfl)
theorem dX3_comesAt_8 : decode cX3_comesAt 8 = .ok (.imul, 1) := dk_104 (dk_at dksX3_comesAt_0 8 rfl rfl)
theorem dX3_comesAt_9 : decode cX3_comesAt 9 = .ok (.invokevirtual 263, 3) := dk_182 1 7 (dk_at dksX3_comesAt_0 9 rfl rfl)
theorem dX3_comesAt_12 : decode cX3_comesAt 12 = .ok (.aload_n 0, 1) := dk_42 (dk_at dksX3_comesAt_0 12 rfl rfl)
theorem dX3_comesAt_13 : decode cX3_comesAt 13 = .ok (.iload_n 1, 1) := dk_27 (dk_at dksX3_comesAt_0 13 rfl rfl)
theorem dX3_comesAt_14 : decode cX3_comesAt 14 = .ok (.iconst 2, 1) := dk_5 (dk_at dksX3_comesAt_0 14 rfl rfl)
theorem dX3_comesAt_15 : decode cX3_comesAt 15 = .ok (.irem, 1) := dk_112 (dk_at dksX3_comesAt_0 15 rfl rfl)
theorem dX3_comesAt_16 : decode cX3_comesAt 16 = .ok (.ifCond .ne 7, 3) := dk_154 0 7 (dk_at dksX3_comesAt_0 16 rfl rfl)
theorem dX3_comesAt_19 : decode cX3_comesAt 19 = .ok (.iload_n 3, 1) := dk_29 (dk_at dksX3_comesAt_0 19 rfl rfl)
theorem dX3_comesAt_20 : decode cX3_comesAt 20 = .ok (.goto 5, 3) := dk_167 0 5 (dk_at dksX3_comesAt_0 20 rfl rfl)
theorem dX3_comesAt_23 : decode cX3_comesAt 23 = .ok (.iload 4, 2) := dk_21 4 (dk_at dksX3_comesAt_1 0 rfl rfl)
theorem dX3_comesAt_25 : decode cX3_comesAt 25 = .ok (.invokevirtual 260, 3) := dk_182 1 4 (dk_at dksX3_comesAt_1 2 rfl rfl)
theorem dX3_comesAt_28 : decode cX3_comesAt 28 = .ok (.pop, 1) := dk_87 (dk_at dksX3_comesAt_1 5 rfl rfl)
theorem dX3_comesAt_29 : decode cX3_comesAt 29 = .ok (.aload_n 0, 1) := dk_42 (dk_at dksX3_comesAt_1 6 rfl rfl)
theorem dX3_comesAt_30 : decode cX3_comesAt 30 = .ok (.iload_n 1, 1) := dk_27 (dk_at dksX3_comesAt_1 7 rfl rfl)
theorem dX3_comesAt_31 : decode cX3_comesAt 31 = .ok (.iconst 1, 1) := dk_4 (dk_at dksX3_comesAt_1 8 rfl rfl)
theorem dX3_comesAt_32 : decode cX3_comesAt 32 = .ok (.iadd, 1) := dk_96 (dk_at dksX3_comesAt_1 9 rfl rfl)
theorem dX3_comesAt_33 : decode cX3_comesAt 33 = .ok (.iload_n 2, 1) := dk_28 (dk_at dksX3_comesAt_1 10 rfl rfl)
theorem dX3_comesAt_34 : decode cX3_comesAt 34 = .ok (.iload_n 3, 1) := dk_29 (dk_at dksX3_comesAt_1 11 rfl rfl)
theorem dX3_comesAt_35 : decode cX3_comesAt 35 = .ok (.iload 4, 2) := dk_21 4 (dk_at dksX3_comesAt_1 12 rfl rfl)
theorem dX3_comesAt_37 : decode cX3_comesAt 37 = .ok (.invokevirtual 333, 3) := dk_182 1 77 (dk_at dksX3_comesAt_1 14 rfl rfl)
theorem dX3_comesAt_40 : decode cX3_comesAt 40 = .ok (.istore 5, 2) := dk_54 5 (dk_at dksX3_comesAt_1 17 rfl rfl)
theorem dX3_comesAt_42 : decode cX3_comesAt 42 = .ok (.aload_n 0, 1) := dk_42 (dk_at dksX3_comesAt_1 19 rfl rfl)
theorem dX3_comesAt_43 : decode cX3_comesAt 43 = .ok (.aload_n 0, 1) := dk_42 (dk_at dksX3_comesAt_1 20 rfl rfl)
theorem dX3_comesAt_44 : decode cX3_comesAt 44 = .ok (.getfield 89, 3) := dk_180 0 89 (dk_at dksX3_comesAt_1 21 rfl rfl)
theorem dX3_comesAt_47 : decode cX3_comesAt 47 = .ok (.bipush 31, 2) := dk_16 31 (dk_at dksX3_comesAt_2 0 rfl rfl)
theorem dX3_comesAt_49 : decode cX3_comesAt 49 = .ok (.iload_n 1, 1) := dk_27 (dk_at dksX3_comesAt_2 2 rfl rfl)
theorem dX3_comesAt_50 : decode cX3_comesAt 50 = .ok (.imul, 1) := dk_104 (dk_at dksX3_comesAt_2 3 rfl rfl)
theorem dX3_comesAt_51 : decode cX3_comesAt 51 = .ok (.invokevirtual 273, 3) := dk_182 1 17 (dk_at dksX3_comesAt_2 4 rfl rfl)
theorem dX3_comesAt_54 : decode cX3_comesAt 54 = .ok (.iload 5, 2) := dk_21 5 (dk_at dksX3_comesAt_2 7 rfl rfl)
theorem dX3_comesAt_56 : decode cX3_comesAt 56 = .ok (.ireturn, 1) := dk_172 (dk_at dksX3_comesAt_2 9 rfl rfl)
def dkwX3_drawn_8 : List UInt8 := [2, 160, 0, 10, 42, 180, 0, 241, 167, 0, 5, 21, 5, 172]
abbrev dktX3_drawn_8 : List UInt8 := dkwX3_drawn_8 ++ []
def dkwX3_drawn_7 : List UInt8 := [180, 0, 22, 29, 46, 96, 54, 5, 42, 42, 180, 0, 86, 3, 182, 1, 17, 132, 6, 1, 167, 255, 144, 29]
abbrev dktX3_drawn_7 : List UInt8 := dkwX3_drawn_7 ++ dktX3_drawn_8
def dkwX3_drawn_6 : List UInt8 := [180, 0, 116, 112, 182, 1, 4, 87, 132, 7, 1, 167, 255, 195, 29, 2, 159, 0, 14, 21, 5, 42]
abbrev dktX3_drawn_6 : List UInt8 := dkwX3_drawn_6 ++ dktX3_drawn_7
def dkwX3_drawn_5 : List UInt8 := [16, 16, 124, 16, 12, 112, 28, 16, 100, 112, 162, 0, 7, 42, 182, 1, 26, 42, 21, 4, 16, 8, 124, 42]
abbrev dktX3_drawn_5 : List UInt8 := dkwX3_drawn_5 ++ dktX3_drawn_6
def dkwX3_drawn_4 : List UInt8 := [16, 100, 108, 16, 100, 112, 162, 0, 55, 21, 4, 19, 1, 85, 104, 17, 48, 57, 96, 54, 4, 21, 4]
abbrev dktX3_drawn_4 : List UInt8 := dkwX3_drawn_4 ++ dktX3_drawn_5
def dkwX3_drawn_3 : List UInt8 := [21, 6, 28, 17, 39, 16, 108, 162, 0, 108, 42, 180, 0, 116, 158, 0, 101, 3, 54, 7, 21, 7, 28]
abbrev dktX3_drawn_3 : List UInt8 := dkwX3_drawn_3 ++ dktX3_drawn_4
def dkwX3_drawn_2 : List UInt8 := [42, 29, 182, 0, 137, 154, 0, 5, 2, 172, 42, 182, 1, 11, 27, 54, 4, 3, 54, 5, 3, 54, 6]
abbrev dktX3_drawn_2 : List UInt8 := dkwX3_drawn_2 ++ dktX3_drawn_3
def dkwX3_drawn_1 : List UInt8 := [112, 4, 16, 60, 184, 0, 119, 153, 0, 25, 28, 16, 100, 112, 16, 12, 163, 0, 16, 29, 2, 159, 0, 13]
abbrev dktX3_drawn_1 : List UInt8 := dkwX3_drawn_1 ++ dktX3_drawn_2
def dkwX3_drawn_0 : List UInt8 := [28, 155, 0, 55, 28, 17, 39, 16, 108, 4, 16, 30, 184, 0, 119, 153, 0, 41, 28, 16, 100, 108, 16, 100]
abbrev dktX3_drawn_0 : List UInt8 := dkwX3_drawn_0 ++ dktX3_drawn_1
theorem dksX3_drawn_0 : cX3_drawn.data.toList.drop 0 = dktX3_drawn_0 := by decide +kernel
theorem dksX3_drawn_1 : cX3_drawn.data.toList.drop 24 = dktX3_drawn_1 := dk_seg dksX3_drawn_0 24 rfl rfl
theorem dksX3_drawn_2 : cX3_drawn.data.toList.drop 48 = dktX3_drawn_2 := dk_seg dksX3_drawn_1 24 rfl rfl
theorem dksX3_drawn_3 : cX3_drawn.data.toList.drop 71 = dktX3_drawn_3 := dk_seg dksX3_drawn_2 23 rfl rfl
theorem dksX3_drawn_4 : cX3_drawn.data.toList.drop 94 = dktX3_drawn_4 := dk_seg dksX3_drawn_3 23 rfl rfl
theorem dksX3_drawn_5 : cX3_drawn.data.toList.drop 117 = dktX3_drawn_5 := dk_seg dksX3_drawn_4 23 rfl rfl
theorem dksX3_drawn_6 : cX3_drawn.data.toList.drop 141 = dktX3_drawn_6 := dk_seg dksX3_drawn_5 24 rfl rfl
theorem dksX3_drawn_7 : cX3_drawn.data.toList.drop 163 = dktX3_drawn_7 := dk_seg dksX3_drawn_6 22 rfl rfl
theorem dksX3_drawn_8 : cX3_drawn.data.toList.drop 187 = dktX3_drawn_8 := dk_seg dksX3_drawn_7 24 rfl rfl
theorem dX3_drawn_0 : decode cX3_drawn 0 = .ok (.iload_n 2, 1) := dk_28 (dk_at dksX3_drawn_0 0 rfl rfl)
theorem dX3_drawn_1 : decode cX3_drawn 1 = .ok (.ifCond .lt 55, 3) := dk_155 0 55 (dk_at dksX3_drawn_0 1 rfl rfl)
theorem dX3_drawn_4 : decode cX3_drawn 4 = .ok (.iload_n 2, 1) := dk_28 (dk_at dksX3_drawn_0 4 rfl rfl)
theorem dX3_drawn_5 : decode cX3_drawn 5 = .ok (.sipush 10000, 3) := dk_17 39 16 (dk_at dksX3_drawn_0 5 rfl rfl)
theorem dX3_drawn_8 : decode cX3_drawn 8 = .ok (.idiv, 1) := dk_108 (dk_at dksX3_drawn_0 8 rfl rfl)
theorem dX3_drawn_9 : decode cX3_drawn 9 = .ok (.iconst 1, 1) := dk_4 (dk_at dksX3_drawn_0 9 rfl rfl)
theorem dX3_drawn_10 : decode cX3_drawn 10 = .ok (.bipush 30, 2) := dk_16 30 (dk_at dksX3_drawn_0 10 rfl rfl)
theorem dX3_drawn_12 : decode cX3_drawn 12 = .ok (.invokestatic 119, 3) := dk_184 0 119 (dk_at dksX3_drawn_0 12 rfl rfl)
theorem dX3_drawn_15 : decode cX3_drawn 15 = .ok (.ifCond .eq 41, 3) := dk_153 0 41 (dk_at dksX3_drawn_0 15 rfl rfl)
theorem dX3_drawn_18 : decode cX3_drawn 18 = .ok (.iload_n 2, 1) := dk_28 (dk_at dksX3_drawn_0 18 rfl rfl)
theorem dX3_drawn_19 : decode cX3_drawn 19 = .ok (.bipush 100, 2) := dk_16 100 (dk_at dksX3_drawn_0 19 rfl rfl)
theorem dX3_drawn_21 : decode cX3_drawn 21 = .ok (.idiv, 1) := dk_108 (dk_at dksX3_drawn_0 21 rfl rfl)
theorem dX3_drawn_22 : decode cX3_drawn 22 = .ok (.bipush 100, 2) := dk_16 100 (dk_at dksX3_drawn_0 22 rfl rfl)
theorem dX3_drawn_24 : decode cX3_drawn 24 = .ok (.irem, 1) := dk_112 (dk_at dksX3_drawn_1 0 rfl rfl)
theorem dX3_drawn_25 : decode cX3_drawn 25 = .ok (.iconst 1, 1) := dk_4 (dk_at dksX3_drawn_1 1 rfl rfl)
theorem dX3_drawn_26 : decode cX3_drawn 26 = .ok (.bipush 60, 2) := dk_16 60 (dk_at dksX3_drawn_1 2 rfl rfl)
theorem dX3_drawn_28 : decode cX3_drawn 28 = .ok (.invokestatic 119, 3) := dk_184 0 119 (dk_at dksX3_drawn_1 4 rfl rfl)
theorem dX3_drawn_31 : decode cX3_drawn 31 = .ok (.ifCond .eq 25, 3) := dk_153 0 25 (dk_at dksX3_drawn_1 7 rfl rfl)
theorem dX3_drawn_34 : decode cX3_drawn 34 = .ok (.iload_n 2, 1) := dk_28 (dk_at dksX3_drawn_1 10 rfl rfl)
theorem dX3_drawn_35 : decode cX3_drawn 35 = .ok (.bipush 100, 2) := dk_16 100 (dk_at dksX3_drawn_1 11 rfl rfl)
theorem dX3_drawn_37 : decode cX3_drawn 37 = .ok (.irem, 1) := dk_112 (dk_at dksX3_drawn_1 13 rfl rfl)
theorem dX3_drawn_38 : decode cX3_drawn 38 = .ok (.bipush 12, 2) := dk_16 12 (dk_at dksX3_drawn_1 14 rfl rfl)
theorem dX3_drawn_40 : decode cX3_drawn 40 = .ok (.if_icmp .gt 16, 3) := dk_163 0 16 (dk_at dksX3_drawn_1 16 rfl rfl)
theorem dX3_drawn_43 : decode cX3_drawn 43 = .ok (.iload_n 3, 1) := dk_29 (dk_at dksX3_drawn_1 19 rfl rfl)
theorem dX3_drawn_44 : decode cX3_drawn 44 = .ok (.iconst (-1), 1) := dk_2 (dk_at dksX3_drawn_1 20 rfl rfl)
theorem dX3_drawn_45 : decode cX3_drawn 45 = .ok (.if_icmp .eq 13, 3) := dk_159 0 13 (dk_at dksX3_drawn_1 21 rfl rfl)
theorem dX3_drawn_48 : decode cX3_drawn 48 = .ok (.aload_n 0, 1) := dk_42 (dk_at dksX3_drawn_2 0 rfl rfl)
theorem dX3_drawn_49 : decode cX3_drawn 49 = .ok (.iload_n 3, 1) := dk_29 (dk_at dksX3_drawn_2 1 rfl rfl)
theorem dX3_drawn_50 : decode cX3_drawn 50 = .ok (.invokevirtual 137, 3) := dk_182 0 137 (dk_at dksX3_drawn_2 2 rfl rfl)
theorem dX3_drawn_53 : decode cX3_drawn 53 = .ok (.ifCond .ne 5, 3) := dk_154 0 5 (dk_at dksX3_drawn_2 5 rfl rfl)
theorem dX3_drawn_56 : decode cX3_drawn 56 = .ok (.iconst (-1), 1) := dk_2 (dk_at dksX3_drawn_2 8 rfl rfl)
theorem dX3_drawn_57 : decode cX3_drawn 57 = .ok (.ireturn, 1) := dk_172 (dk_at dksX3_drawn_2 9 rfl rfl)
theorem dX3_drawn_58 : decode cX3_drawn 58 = .ok (.aload_n 0, 1) := dk_42 (dk_at dksX3_drawn_2 10 rfl rfl)
theorem dX3_drawn_59 : decode cX3_drawn 59 = .ok (.invokevirtual 267, 3) := dk_182 1 11 (dk_at dksX3_drawn_2 11 rfl rfl)
theorem dX3_drawn_62 : decode cX3_drawn 62 = .ok (.iload_n 1, 1) := dk_27 (dk_at dksX3_drawn_2 14 rfl rfl)
theorem dX3_drawn_63 : decode cX3_drawn 63 = .ok (.istore 4, 2) := dk_54 4 (dk_at dksX3_drawn_2 15 rfl rfl)
theorem dX3_drawn_65 : decode cX3_drawn 65 = .ok (.iconst 0, 1) := dk_3 (dk_at dksX3_drawn_2 17 rfl rfl)
theorem dX3_drawn_66 : decode cX3_drawn 66 = .ok (.istore 5, 2) := dk_54 5 (dk_at dksX3_drawn_2 18 rfl rfl)
theorem dX3_drawn_68 : decode cX3_drawn 68 = .ok (.iconst 0, 1) := dk_3 (dk_at dksX3_drawn_2 20 rfl rfl)
theorem dX3_drawn_69 : decode cX3_drawn 69 = .ok (.istore 6, 2) := dk_54 6 (dk_at dksX3_drawn_2 21 rfl rfl)
theorem dX3_drawn_71 : decode cX3_drawn 71 = .ok (.iload 6, 2) := dk_21 6 (dk_at dksX3_drawn_3 0 rfl rfl)
theorem dX3_drawn_73 : decode cX3_drawn 73 = .ok (.iload_n 2, 1) := dk_28 (dk_at dksX3_drawn_3 2 rfl rfl)
theorem dX3_drawn_74 : decode cX3_drawn 74 = .ok (.sipush 10000, 3) := dk_17 39 16 (dk_at dksX3_drawn_3 3 rfl rfl)
theorem dX3_drawn_77 : decode cX3_drawn 77 = .ok (.idiv, 1) := dk_108 (dk_at dksX3_drawn_3 6 rfl rfl)
theorem dX3_drawn_78 : decode cX3_drawn 78 = .ok (.if_icmp .ge 108, 3) := dk_162 0 108 (dk_at dksX3_drawn_3 7 rfl rfl)
theorem dX3_drawn_81 : decode cX3_drawn 81 = .ok (.aload_n 0, 1) := dk_42 (dk_at dksX3_drawn_3 10 rfl rfl)
theorem dX3_drawn_82 : decode cX3_drawn 82 = .ok (.getfield 116, 3) := dk_180 0 116 (dk_at dksX3_drawn_3 11 rfl rfl)
theorem dX3_drawn_85 : decode cX3_drawn 85 = .ok (.ifCond .le 101, 3) := dk_158 0 101 (dk_at dksX3_drawn_3 14 rfl rfl)
theorem dX3_drawn_88 : decode cX3_drawn 88 = .ok (.iconst 0, 1) := dk_3 (dk_at dksX3_drawn_3 17 rfl rfl)
theorem dX3_drawn_89 : decode cX3_drawn 89 = .ok (.istore 7, 2) := dk_54 7 (dk_at dksX3_drawn_3 18 rfl rfl)
theorem dX3_drawn_91 : decode cX3_drawn 91 = .ok (.iload 7, 2) := dk_21 7 (dk_at dksX3_drawn_3 20 rfl rfl)
theorem dX3_drawn_93 : decode cX3_drawn 93 = .ok (.iload_n 2, 1) := dk_28 (dk_at dksX3_drawn_3 22 rfl rfl)
theorem dX3_drawn_94 : decode cX3_drawn 94 = .ok (.bipush 100, 2) := dk_16 100 (dk_at dksX3_drawn_4 0 rfl rfl)
theorem dX3_drawn_96 : decode cX3_drawn 96 = .ok (.idiv, 1) := dk_108 (dk_at dksX3_drawn_4 2 rfl rfl)
theorem dX3_drawn_97 : decode cX3_drawn 97 = .ok (.bipush 100, 2) := dk_16 100 (dk_at dksX3_drawn_4 3 rfl rfl)
theorem dX3_drawn_99 : decode cX3_drawn 99 = .ok (.irem, 1) := dk_112 (dk_at dksX3_drawn_4 5 rfl rfl)
theorem dX3_drawn_100 : decode cX3_drawn 100 = .ok (.if_icmp .ge 55, 3) := dk_162 0 55 (dk_at dksX3_drawn_4 6 rfl rfl)
theorem dX3_drawn_103 : decode cX3_drawn 103 = .ok (.iload 4, 2) := dk_21 4 (dk_at dksX3_drawn_4 9 rfl rfl)
theorem dX3_drawn_105 : decode cX3_drawn 105 = .ok (.ldc_w 341, 3) := dk_19 1 85 (dk_at dksX3_drawn_4 11 rfl rfl)
theorem dX3_drawn_108 : decode cX3_drawn 108 = .ok (.imul, 1) := dk_104 (dk_at dksX3_drawn_4 14 rfl rfl)
theorem dX3_drawn_109 : decode cX3_drawn 109 = .ok (.sipush 12345, 3) := dk_17 48 57 (dk_at dksX3_drawn_4 15 rfl rfl)
theorem dX3_drawn_112 : decode cX3_drawn 112 = .ok (.iadd, 1) := dk_96 (dk_at dksX3_drawn_4 18 rfl rfl)
theorem dX3_drawn_113 : decode cX3_drawn 113 = .ok (.istore 4, 2) := dk_54 4 (dk_at dksX3_drawn_4 19 rfl rfl)
theorem dX3_drawn_115 : decode cX3_drawn 115 = .ok (.iload 4, 2) := dk_21 4 (dk_at dksX3_drawn_4 21 rfl rfl)
theorem dX3_drawn_117 : decode cX3_drawn 117 = .ok (.bipush 16, 2) := dk_16 16 (dk_at dksX3_drawn_5 0 rfl rfl)
theorem dX3_drawn_119 : decode cX3_drawn 119 = .ok (.iushr, 1) := dk_124 (dk_at dksX3_drawn_5 2 rfl rfl)
theorem dX3_drawn_120 : decode cX3_drawn 120 = .ok (.bipush 12, 2) := dk_16 12 (dk_at dksX3_drawn_5 3 rfl rfl)
theorem dX3_drawn_122 : decode cX3_drawn 122 = .ok (.irem, 1) := dk_112 (dk_at dksX3_drawn_5 5 rfl rfl)
theorem dX3_drawn_123 : decode cX3_drawn 123 = .ok (.iload_n 2, 1) := dk_28 (dk_at dksX3_drawn_5 6 rfl rfl)
theorem dX3_drawn_124 : decode cX3_drawn 124 = .ok (.bipush 100, 2) := dk_16 100 (dk_at dksX3_drawn_5 7 rfl rfl)
theorem dX3_drawn_126 : decode cX3_drawn 126 = .ok (.irem, 1) := dk_112 (dk_at dksX3_drawn_5 9 rfl rfl)
theorem dX3_drawn_127 : decode cX3_drawn 127 = .ok (.if_icmp .ge 7, 3) := dk_162 0 7 (dk_at dksX3_drawn_5 10 rfl rfl)
theorem dX3_drawn_130 : decode cX3_drawn 130 = .ok (.aload_n 0, 1) := dk_42 (dk_at dksX3_drawn_5 13 rfl rfl)
theorem dX3_drawn_131 : decode cX3_drawn 131 = .ok (.invokevirtual 282, 3) := dk_182 1 26 (dk_at dksX3_drawn_5 14 rfl rfl)
theorem dX3_drawn_134 : decode cX3_drawn 134 = .ok (.aload_n 0, 1) := dk_42 (dk_at dksX3_drawn_5 17 rfl rfl)
theorem dX3_drawn_135 : decode cX3_drawn 135 = .ok (.iload 4, 2) := dk_21 4 (dk_at dksX3_drawn_5 18 rfl rfl)
theorem dX3_drawn_137 : decode cX3_drawn 137 = .ok (.bipush 8, 2) := dk_16 8 (dk_at dksX3_drawn_5 20 rfl rfl)
theorem dX3_drawn_139 : decode cX3_drawn 139 = .ok (.iushr, 1) := dk_124 (dk_at dksX3_drawn_5 22 rfl rfl)
theorem dX3_drawn_140 : decode cX3_drawn 140 = .ok (.aload_n 0, 1) := dk_42 (dk_at dksX3_drawn_5 23 rfl rfl)
theorem dX3_drawn_141 : decode cX3_drawn 141 = .ok (.getfield 116, 3) := dk_180 0 116 (dk_at dksX3_drawn_6 0 rfl rfl)
theorem dX3_drawn_144 : decode cX3_drawn 144 = .ok (.irem, 1) := dk_112 (dk_at dksX3_drawn_6 3 rfl rfl)
theorem dX3_drawn_145 : decode cX3_drawn 145 = .ok (.invokevirtual 260, 3) := dk_182 1 4 (dk_at dksX3_drawn_6 4 rfl rfl)
theorem dX3_drawn_148 : decode cX3_drawn 148 = .ok (.pop, 1) := dk_87 (dk_at dksX3_drawn_6 7 rfl rfl)
theorem dX3_drawn_149 : decode cX3_drawn 149 = .ok (.iinc 7 1, 3) := dk_132 7 1 (dk_at dksX3_drawn_6 8 rfl rfl)
theorem dX3_drawn_152 : decode cX3_drawn 152 = .ok (.goto (-61), 3) := dk_167 255 195 (dk_at dksX3_drawn_6 11 rfl rfl)
theorem dX3_drawn_155 : decode cX3_drawn 155 = .ok (.iload_n 3, 1) := dk_29 (dk_at dksX3_drawn_6 14 rfl rfl)
theorem dX3_drawn_156 : decode cX3_drawn 156 = .ok (.iconst (-1), 1) := dk_2 (dk_at dksX3_drawn_6 15 rfl rfl)
theorem dX3_drawn_157 : decode cX3_drawn 157 = .ok (.if_icmp .eq 14, 3) := dk_159 0 14 (dk_at dksX3_drawn_6 16 rfl rfl)
theorem dX3_drawn_160 : decode cX3_drawn 160 = .ok (.iload 5, 2) := dk_21 5 (dk_at dksX3_drawn_6 19 rfl rfl)
theorem dX3_drawn_162 : decode cX3_drawn 162 = .ok (.aload_n 0, 1) := dk_42 (dk_at dksX3_drawn_6 21 rfl rfl)
theorem dX3_drawn_163 : decode cX3_drawn 163 = .ok (.getfield 22, 3) := dk_180 0 22 (dk_at dksX3_drawn_7 0 rfl rfl)
theorem dX3_drawn_166 : decode cX3_drawn 166 = .ok (.iload_n 3, 1) := dk_29 (dk_at dksX3_drawn_7 3 rfl rfl)
theorem dX3_drawn_167 : decode cX3_drawn 167 = .ok (.iaload, 1) := dk_46 (dk_at dksX3_drawn_7 4 rfl rfl)
theorem dX3_drawn_168 : decode cX3_drawn 168 = .ok (.iadd, 1) := dk_96 (dk_at dksX3_drawn_7 5 rfl rfl)
theorem dX3_drawn_169 : decode cX3_drawn 169 = .ok (.istore 5, 2) := dk_54 5 (dk_at dksX3_drawn_7 6 rfl rfl)
theorem dX3_drawn_171 : decode cX3_drawn 171 = .ok (.aload_n 0, 1) := dk_42 (dk_at dksX3_drawn_7 8 rfl rfl)
theorem dX3_drawn_172 : decode cX3_drawn 172 = .ok (.aload_n 0, 1) := dk_42 (dk_at dksX3_drawn_7 9 rfl rfl)
theorem dX3_drawn_173 : decode cX3_drawn 173 = .ok (.getfield 86, 3) := dk_180 0 86 (dk_at dksX3_drawn_7 10 rfl rfl)
theorem dX3_drawn_176 : decode cX3_drawn 176 = .ok (.iconst 0, 1) := dk_3 (dk_at dksX3_drawn_7 13 rfl rfl)
theorem dX3_drawn_177 : decode cX3_drawn 177 = .ok (.invokevirtual 273, 3) := dk_182 1 17 (dk_at dksX3_drawn_7 14 rfl rfl)
theorem dX3_drawn_180 : decode cX3_drawn 180 = .ok (.iinc 6 1, 3) := dk_132 6 1 (dk_at dksX3_drawn_7 17 rfl rfl)
theorem dX3_drawn_183 : decode cX3_drawn 183 = .ok (.goto (-112), 3) := dk_167 255 144 (dk_at dksX3_drawn_7 20 rfl rfl)
theorem dX3_drawn_186 : decode cX3_drawn 186 = .ok (.iload_n 3, 1) := dk_29 (dk_at dksX3_drawn_7 23 rfl rfl)
theorem dX3_drawn_187 : decode cX3_drawn 187 = .ok (.iconst (-1), 1) := dk_2 (dk_at dksX3_drawn_8 0 rfl rfl)
theorem dX3_drawn_188 : decode cX3_drawn 188 = .ok (.if_icmp .ne 10, 3) := dk_160 0 10 (dk_at dksX3_drawn_8 1 rfl rfl)
theorem dX3_drawn_191 : decode cX3_drawn 191 = .ok (.aload_n 0, 1) := dk_42 (dk_at dksX3_drawn_8 4 rfl rfl)
theorem dX3_drawn_192 : decode cX3_drawn 192 = .ok (.getfield 241, 3) := dk_180 0 241 (dk_at dksX3_drawn_8 5 rfl rfl)
theorem dX3_drawn_195 : decode cX3_drawn 195 = .ok (.goto 5, 3) := dk_167 0 5 (dk_at dksX3_drawn_8 8 rfl rfl)
theorem dX3_drawn_198 : decode cX3_drawn 198 = .ok (.iload 5, 2) := dk_21 5 (dk_at dksX3_drawn_8 11 rfl rfl)
theorem dX3_drawn_200 : decode cX3_drawn 200 = .ok (.ireturn, 1) := dk_172 (dk_at dksX3_drawn_8 13 rfl rfl)
def dkwX3_comes_2 : List UInt8 := [180, 0, 58, 5, 92, 46, 42, 180, 0, 241, 96, 79, 42, 180, 0, 244, 172]
abbrev dktX3_comes_2 : List UInt8 := dkwX3_comes_2 ++ []
def dkwX3_comes_1 : List UInt8 := [180, 0, 58, 3, 92, 46, 4, 96, 79, 42, 180, 0, 58, 4, 92, 46, 42, 180, 0, 244, 96, 79, 42]
abbrev dktX3_comes_1 : List UInt8 := dkwX3_comes_1 ++ dktX3_comes_2
def dkwX3_comes_0 : List UInt8 := [42, 27, 182, 0, 137, 154, 0, 5, 2, 172, 42, 3, 181, 0, 241, 42, 27, 182, 1, 4, 153, 0, 13, 42]
abbrev dktX3_comes_0 : List UInt8 := dkwX3_comes_0 ++ dktX3_comes_1
theorem dksX3_comes_0 : cX3_comes.data.toList.drop 0 = dktX3_comes_0 := by decide +kernel
theorem dksX3_comes_1 : cX3_comes.data.toList.drop 24 = dktX3_comes_1 := dk_seg dksX3_comes_0 24 rfl rfl
theorem dksX3_comes_2 : cX3_comes.data.toList.drop 47 = dktX3_comes_2 := dk_seg dksX3_comes_1 23 rfl rfl
theorem dX3_comes_0 : decode cX3_comes 0 = .ok (.aload_n 0, 1) := dk_42 (dk_at dksX3_comes_0 0 rfl rfl)
theorem dX3_comes_1 : decode cX3_comes 1 = .ok (.iload_n 1, 1) := dk_27 (dk_at dksX3_comes_0 1 rfl rfl)
theorem dX3_comes_2 : decode cX3_comes 2 = .ok (.invokevirtual 137, 3) := dk_182 0 137 (dk_at dksX3_comes_0 2 rfl rfl)
theorem dX3_comes_5 : decode cX3_comes 5 = .ok (.ifCond .ne 5, 3) := dk_154 0 5 (dk_at dksX3_comes_0 5 rfl rfl)
theorem dX3_comes_8 : decode cX3_comes 8 = .ok (.iconst (-1), 1) := dk_2 (dk_at dksX3_comes_0 8 rfl rfl)
theorem dX3_comes_9 : decode cX3_comes 9 = .ok (.ireturn, 1) := dk_172 (dk_at dksX3_comes_0 9 rfl rfl)
theorem dX3_comes_10 : decode cX3_comes 10 = .ok (.aload_n 0, 1) := dk_42 (dk_at dksX3_comes_0 10 rfl rfl)
theorem dX3_comes_11 : decode cX3_comes 11 = .ok (.iconst 0, 1) := dk_3 (dk_at dksX3_comes_0 11 rfl rfl)
theorem dX3_comes_12 : decode cX3_comes 12 = .ok (.putfield 241, 3) := dk_181 0 241 (dk_at dksX3_comes_0 12 rfl rfl)
theorem dX3_comes_15 : decode cX3_comes 15 = .ok (.aload_n 0, 1) := dk_42 (dk_at dksX3_comes_0 15 rfl rfl)
theorem dX3_comes_16 : decode cX3_comes 16 = .ok (.iload_n 1, 1) := dk_27 (dk_at dksX3_comes_0 16 rfl rfl)
theorem dX3_comes_17 : decode cX3_comes 17 = .ok (.invokevirtual 260, 3) := dk_182 1 4 (dk_at dksX3_comes_0 17 rfl rfl)
theorem dX3_comes_20 : decode cX3_comes 20 = .ok (.ifCond .eq 13, 3) := dk_153 0 13 (dk_at dksX3_comes_0 20 rfl rfl)
theorem dX3_comes_23 : decode cX3_comes 23 = .ok (.aload_n 0, 1) := dk_42 (dk_at dksX3_comes_0 23 rfl rfl)
theorem dX3_comes_24 : decode cX3_comes 24 = .ok (.getfield 58, 3) := dk_180 0 58 (dk_at dksX3_comes_1 0 rfl rfl)
theorem dX3_comes_27 : decode cX3_comes 27 = .ok (.iconst 0, 1) := dk_3 (dk_at dksX3_comes_1 3 rfl rfl)
theorem dX3_comes_28 : decode cX3_comes 28 = .ok (.dup2, 1) := dk_92 (dk_at dksX3_comes_1 4 rfl rfl)
theorem dX3_comes_29 : decode cX3_comes 29 = .ok (.iaload, 1) := dk_46 (dk_at dksX3_comes_1 5 rfl rfl)
theorem dX3_comes_30 : decode cX3_comes 30 = .ok (.iconst 1, 1) := dk_4 (dk_at dksX3_comes_1 6 rfl rfl)
theorem dX3_comes_31 : decode cX3_comes 31 = .ok (.iadd, 1) := dk_96 (dk_at dksX3_comes_1 7 rfl rfl)
theorem dX3_comes_32 : decode cX3_comes 32 = .ok (.iastore, 1) := dk_79 (dk_at dksX3_comes_1 8 rfl rfl)
theorem dX3_comes_33 : decode cX3_comes 33 = .ok (.aload_n 0, 1) := dk_42 (dk_at dksX3_comes_1 9 rfl rfl)
theorem dX3_comes_34 : decode cX3_comes 34 = .ok (.getfield 58, 3) := dk_180 0 58 (dk_at dksX3_comes_1 10 rfl rfl)
theorem dX3_comes_37 : decode cX3_comes 37 = .ok (.iconst 1, 1) := dk_4 (dk_at dksX3_comes_1 13 rfl rfl)
theorem dX3_comes_38 : decode cX3_comes 38 = .ok (.dup2, 1) := dk_92 (dk_at dksX3_comes_1 14 rfl rfl)
theorem dX3_comes_39 : decode cX3_comes 39 = .ok (.iaload, 1) := dk_46 (dk_at dksX3_comes_1 15 rfl rfl)
theorem dX3_comes_40 : decode cX3_comes 40 = .ok (.aload_n 0, 1) := dk_42 (dk_at dksX3_comes_1 16 rfl rfl)
theorem dX3_comes_41 : decode cX3_comes 41 = .ok (.getfield 244, 3) := dk_180 0 244 (dk_at dksX3_comes_1 17 rfl rfl)
theorem dX3_comes_44 : decode cX3_comes 44 = .ok (.iadd, 1) := dk_96 (dk_at dksX3_comes_1 20 rfl rfl)
theorem dX3_comes_45 : decode cX3_comes 45 = .ok (.iastore, 1) := dk_79 (dk_at dksX3_comes_1 21 rfl rfl)
theorem dX3_comes_46 : decode cX3_comes 46 = .ok (.aload_n 0, 1) := dk_42 (dk_at dksX3_comes_1 22 rfl rfl)
theorem dX3_comes_47 : decode cX3_comes 47 = .ok (.getfield 58, 3) := dk_180 0 58 (dk_at dksX3_comes_2 0 rfl rfl)
theorem dX3_comes_50 : decode cX3_comes 50 = .ok (.iconst 2, 1) := dk_5 (dk_at dksX3_comes_2 3 rfl rfl)
theorem dX3_comes_51 : decode cX3_comes 51 = .ok (.dup2, 1) := dk_92 (dk_at dksX3_comes_2 4 rfl rfl)
theorem dX3_comes_52 : decode cX3_comes 52 = .ok (.iaload, 1) := dk_46 (dk_at dksX3_comes_2 5 rfl rfl)
theorem dX3_comes_53 : decode cX3_comes 53 = .ok (.aload_n 0, 1) := dk_42 (dk_at dksX3_comes_2 6 rfl rfl)
theorem dX3_comes_54 : decode cX3_comes 54 = .ok (.getfield 241, 3) := dk_180 0 241 (dk_at dksX3_comes_2 7 rfl rfl)
theorem dX3_comes_57 : decode cX3_comes 57 = .ok (.iadd, 1) := dk_96 (dk_at dksX3_comes_2 10 rfl rfl)
theorem dX3_comes_58 : decode cX3_comes 58 = .ok (.iastore, 1) := dk_79 (dk_at dksX3_comes_2 11 rfl rfl)
theorem dX3_comes_59 : decode cX3_comes 59 = .ok (.aload_n 0, 1) := dk_42 (dk_at dksX3_comes_2 12 rfl rfl)
theorem dX3_comes_60 : decode cX3_comes 60 = .ok (.getfield 244, 3) := dk_180 0 244 (dk_at dksX3_comes_2 13 rfl rfl)
theorem dX3_comes_63 : decode cX3_comes 63 = .ok (.ireturn, 1) := dk_172 (dk_at dksX3_comes_2 16 rfl rfl)
def dkwX3_evening_0 : List UInt8 := [42, 182, 1, 26, 42, 180, 0, 58, 6, 92, 46, 4, 96, 79, 42, 180, 0, 22, 16, 8, 46, 172]
abbrev dktX3_evening_0 : List UInt8 := dkwX3_evening_0 ++ []
theorem dksX3_evening_0 : cX3_evening.data.toList.drop 0 = dktX3_evening_0 := by decide +kernel
theorem dX3_evening_0 : decode cX3_evening 0 = .ok (.aload_n 0, 1) := dk_42 (dk_at dksX3_evening_0 0 rfl rfl)
theorem dX3_evening_1 : decode cX3_evening 1 = .ok (.invokevirtual 282, 3) := dk_182 1 26 (dk_at dksX3_evening_0 1 rfl rfl)
theorem dX3_evening_4 : decode cX3_evening 4 = .ok (.aload_n 0, 1) := dk_42 (dk_at dksX3_evening_0 4 rfl rfl)
theorem dX3_evening_5 : decode cX3_evening 5 = .ok (.getfield 58, 3) := dk_180 0 58 (dk_at dksX3_evening_0 5 rfl rfl)
theorem dX3_evening_8 : decode cX3_evening 8 = .ok (.iconst 3, 1) := dk_6 (dk_at dksX3_evening_0 8 rfl rfl)
theorem dX3_evening_9 : decode cX3_evening 9 = .ok (.dup2, 1) := dk_92 (dk_at dksX3_evening_0 9 rfl rfl)
theorem dX3_evening_10 : decode cX3_evening 10 = .ok (.iaload, 1) := dk_46 (dk_at dksX3_evening_0 10 rfl rfl)
theorem dX3_evening_11 : decode cX3_evening 11 = .ok (.iconst 1, 1) := dk_4 (dk_at dksX3_evening_0 11 rfl rfl)
theorem dX3_evening_12 : decode cX3_evening 12 = .ok (.iadd, 1) := dk_96 (dk_at dksX3_evening_0 12 rfl rfl)
theorem dX3_evening_13 : decode cX3_evening 13 = .ok (.iastore, 1) := dk_79 (dk_at dksX3_evening_0 13 rfl rfl)
theorem dX3_evening_14 : decode cX3_evening 14 = .ok (.aload_n 0, 1) := dk_42 (dk_at dksX3_evening_0 14 rfl rfl)
theorem dX3_evening_15 : decode cX3_evening 15 = .ok (.getfield 22, 3) := dk_180 0 22 (dk_at dksX3_evening_0 15 rfl rfl)
theorem dX3_evening_18 : decode cX3_evening 18 = .ok (.bipush 8, 2) := dk_16 8 (dk_at dksX3_evening_0 18 rfl rfl)
theorem dX3_evening_20 : decode cX3_evening 20 = .ok (.iaload, 1) := dk_46 (dk_at dksX3_evening_0 20 rfl rfl)
theorem dX3_evening_21 : decode cX3_evening 21 = .ok (.ireturn, 1) := dk_172 (dk_at dksX3_evening_0 21 rfl rfl)
def dkwX3_gives_3 : List UInt8 := [29, 96, 184, 0, 230, 79, 42, 180, 0, 58, 7, 92, 46, 29, 96, 79, 42, 180, 0, 22, 27, 46, 172]
abbrev dktX3_gives_3 : List UInt8 := dkwX3_gives_3 ++ []
def dkwX3_gives_2 : List UInt8 := [42, 180, 0, 22, 27, 92, 46, 29, 100, 79, 42, 180, 0, 22, 28, 17, 3, 231, 42, 180, 0, 22, 28, 46]
abbrev dktX3_gives_2 : List UInt8 := dkwX3_gives_2 ++ dktX3_gives_3
def dkwX3_gives_1 : List UInt8 := [17, 3, 231, 184, 0, 119, 154, 0, 5, 2, 172, 42, 180, 0, 22, 27, 46, 29, 162, 0, 6, 16, 251, 172]
abbrev dktX3_gives_1 : List UInt8 := dkwX3_gives_1 ++ dktX3_gives_2
def dkwX3_gives_0 : List UInt8 := [42, 27, 182, 0, 137, 153, 0, 27, 42, 28, 182, 0, 137, 153, 0, 19, 27, 28, 159, 0, 14, 29, 4]
abbrev dktX3_gives_0 : List UInt8 := dkwX3_gives_0 ++ dktX3_gives_1
theorem dksX3_gives_0 : cX3_gives.data.toList.drop 0 = dktX3_gives_0 := by decide +kernel
theorem dksX3_gives_1 : cX3_gives.data.toList.drop 23 = dktX3_gives_1 := dk_seg dksX3_gives_0 23 rfl rfl
theorem dksX3_gives_2 : cX3_gives.data.toList.drop 47 = dktX3_gives_2 := dk_seg dksX3_gives_1 24 rfl rfl
theorem dksX3_gives_3 : cX3_gives.data.toList.drop 71 = dktX3_gives_3 := dk_seg dksX3_gives_2 24 rfl rfl
theorem dX3_gives_0 : decode cX3_gives 0 = .ok (.aload_n 0, 1) := dk_42 (dk_at dksX3_gives_0 0 rfl rfl)
theorem dX3_gives_1 : decode cX3_gives 1 = .ok (.iload_n 1, 1) := dk_27 (dk_at dksX3_gives_0 1 rfl rfl)
theorem dX3_gives_2 : decode cX3_gives 2 = .ok (.invokevirtual 137, 3) := dk_182 0 137 (dk_at dksX3_gives_0 2 rfl rfl)
theorem dX3_gives_5 : decode cX3_gives 5 = .ok (.ifCond .eq 27, 3) := dk_153 0 27 (dk_at dksX3_gives_0 5 rfl rfl)
theorem dX3_gives_8 : decode cX3_gives 8 = .ok (.aload_n 0, 1) := dk_42 (dk_at dksX3_gives_0 8 rfl rfl)
theorem dX3_gives_9 : decode cX3_gives 9 = .ok (.iload_n 2, 1) := dk_28 (dk_at dksX3_gives_0 9 rfl rfl)
theorem dX3_gives_10 : decode cX3_gives 10 = .ok (.invokevirtual 137, 3) := dk_182 0 137 (dk_at dksX3_gives_0 10 rfl rfl)
theorem dX3_gives_13 : decode cX3_gives 13 = .ok (.ifCond .eq 19, 3) := dk_153 0 19 (dk_at dksX3_gives_0 13 rfl rfl)
theorem dX3_gives_16 : decode cX3_gives 16 = .ok (.iload_n 1, 1) := dk_27 (dk_at dksX3_gives_0 16 rfl rfl)
theorem dX3_gives_17 : decode cX3_gives 17 = .ok (.iload_n 2, 1) := dk_28 (dk_at dksX3_gives_0 17 rfl rfl)
theorem dX3_gives_18 : decode cX3_gives 18 = .ok (.if_icmp .eq 14, 3) := dk_159 0 14 (dk_at dksX3_gives_0 18 rfl rfl)
theorem dX3_gives_21 : decode cX3_gives 21 = .ok (.iload_n 3, 1) := dk_29 (dk_at dksX3_gives_0 21 rfl rfl)
theorem dX3_gives_22 : decode cX3_gives 22 = .ok (.iconst 1, 1) := dk_4 (dk_at dksX3_gives_0 22 rfl rfl)
theorem dX3_gives_23 : decode cX3_gives 23 = .ok (.sipush 999, 3) := dk_17 3 231 (dk_at dksX3_gives_1 0 rfl rfl)
theorem dX3_gives_26 : decode cX3_gives 26 = .ok (.invokestatic 119, 3) := dk_184 0 119 (dk_at dksX3_gives_1 3 rfl rfl)
theorem dX3_gives_29 : decode cX3_gives 29 = .ok (.ifCond .ne 5, 3) := dk_154 0 5 (dk_at dksX3_gives_1 6 rfl rfl)
theorem dX3_gives_32 : decode cX3_gives 32 = .ok (.iconst (-1), 1) := dk_2 (dk_at dksX3_gives_1 9 rfl rfl)
theorem dX3_gives_33 : decode cX3_gives 33 = .ok (.ireturn, 1) := dk_172 (dk_at dksX3_gives_1 10 rfl rfl)
theorem dX3_gives_34 : decode cX3_gives 34 = .ok (.aload_n 0, 1) := dk_42 (dk_at dksX3_gives_1 11 rfl rfl)
theorem dX3_gives_35 : decode cX3_gives 35 = .ok (.getfield 22, 3) := dk_180 0 22 (dk_at dksX3_gives_1 12 rfl rfl)
theorem dX3_gives_38 : decode cX3_gives 38 = .ok (.iload_n 1, 1) := dk_27 (dk_at dksX3_gives_1 15 rfl rfl)
theorem dX3_gives_39 : decode cX3_gives 39 = .ok (.iaload, 1) := dk_46 (dk_at dksX3_gives_1 16 rfl rfl)
theorem dX3_gives_40 : decode cX3_gives 40 = .ok (.iload_n 3, 1) := dk_29 (dk_at dksX3_gives_1 17 rfl rfl)
theorem dX3_gives_41 : decode cX3_gives 41 = .ok (.if_icmp .ge 6, 3) := dk_162 0 6 (dk_at dksX3_gives_1 18 rfl rfl)
theorem dX3_gives_44 : decode cX3_gives 44 = .ok (.bipush (-5), 2) := dk_16 251 (dk_at dksX3_gives_1 21 rfl rfl)
theorem dX3_gives_46 : decode cX3_gives 46 = .ok (.ireturn, 1) := dk_172 (dk_at dksX3_gives_1 23 rfl rfl)
theorem dX3_gives_47 : decode cX3_gives 47 = .ok (.aload_n 0, 1) := dk_42 (dk_at dksX3_gives_2 0 rfl rfl)
theorem dX3_gives_48 : decode cX3_gives 48 = .ok (.getfield 22, 3) := dk_180 0 22 (dk_at dksX3_gives_2 1 rfl rfl)
theorem dX3_gives_51 : decode cX3_gives 51 = .ok (.iload_n 1, 1) := dk_27 (dk_at dksX3_gives_2 4 rfl rfl)
theorem dX3_gives_52 : decode cX3_gives 52 = .ok (.dup2, 1) := dk_92 (dk_at dksX3_gives_2 5 rfl rfl)
theorem dX3_gives_53 : decode cX3_gives 53 = .ok (.iaload, 1) := dk_46 (dk_at dksX3_gives_2 6 rfl rfl)
theorem dX3_gives_54 : decode cX3_gives 54 = .ok (.iload_n 3, 1) := dk_29 (dk_at dksX3_gives_2 7 rfl rfl)
theorem dX3_gives_55 : decode cX3_gives 55 = .ok (.isub, 1) := dk_100 (dk_at dksX3_gives_2 8 rfl rfl)
theorem dX3_gives_56 : decode cX3_gives 56 = .ok (.iastore, 1) := dk_79 (dk_at dksX3_gives_2 9 rfl rfl)
theorem dX3_gives_57 : decode cX3_gives 57 = .ok (.aload_n 0, 1) := dk_42 (dk_at dksX3_gives_2 10 rfl rfl)
theorem dX3_gives_58 : decode cX3_gives 58 = .ok (.getfield 22, 3) := dk_180 0 22 (dk_at dksX3_gives_2 11 rfl rfl)
theorem dX3_gives_61 : decode cX3_gives 61 = .ok (.iload_n 2, 1) := dk_28 (dk_at dksX3_gives_2 14 rfl rfl)
theorem dX3_gives_62 : decode cX3_gives 62 = .ok (.sipush 999, 3) := dk_17 3 231 (dk_at dksX3_gives_2 15 rfl rfl)
theorem dX3_gives_65 : decode cX3_gives 65 = .ok (.aload_n 0, 1) := dk_42 (dk_at dksX3_gives_2 18 rfl rfl)
theorem dX3_gives_66 : decode cX3_gives 66 = .ok (.getfield 22, 3) := dk_180 0 22 (dk_at dksX3_gives_2 19 rfl rfl)
theorem dX3_gives_69 : decode cX3_gives 69 = .ok (.iload_n 2, 1) := dk_28 (dk_at dksX3_gives_2 22 rfl rfl)
theorem dX3_gives_70 : decode cX3_gives 70 = .ok (.iaload, 1) := dk_46 (dk_at dksX3_gives_2 23 rfl rfl)
theorem dX3_gives_71 : decode cX3_gives 71 = .ok (.iload_n 3, 1) := dk_29 (dk_at dksX3_gives_3 0 rfl rfl)
theorem dX3_gives_72 : decode cX3_gives 72 = .ok (.iadd, 1) := dk_96 (dk_at dksX3_gives_3 1 rfl rfl)
theorem dX3_gives_73 : decode cX3_gives 73 = .ok (.invokestatic 230, 3) := dk_184 0 230 (dk_at dksX3_gives_3 2 rfl rfl)
theorem dX3_gives_76 : decode cX3_gives 76 = .ok (.iastore, 1) := dk_79 (dk_at dksX3_gives_3 5 rfl rfl)
theorem dX3_gives_77 : decode cX3_gives 77 = .ok (.aload_n 0, 1) := dk_42 (dk_at dksX3_gives_3 6 rfl rfl)
theorem dX3_gives_78 : decode cX3_gives 78 = .ok (.getfield 58, 3) := dk_180 0 58 (dk_at dksX3_gives_3 7 rfl rfl)
theorem dX3_gives_81 : decode cX3_gives 81 = .ok (.iconst 4, 1) := dk_7 (dk_at dksX3_gives_3 10 rfl rfl)
theorem dX3_gives_82 : decode cX3_gives 82 = .ok (.dup2, 1) := dk_92 (dk_at dksX3_gives_3 11 rfl rfl)
theorem dX3_gives_83 : decode cX3_gives 83 = .ok (.iaload, 1) := dk_46 (dk_at dksX3_gives_3 12 rfl rfl)
theorem dX3_gives_84 : decode cX3_gives 84 = .ok (.iload_n 3, 1) := dk_29 (dk_at dksX3_gives_3 13 rfl rfl)
theorem dX3_gives_85 : decode cX3_gives 85 = .ok (.iadd, 1) := dk_96 (dk_at dksX3_gives_3 14 rfl rfl)
theorem dX3_gives_86 : decode cX3_gives 86 = .ok (.iastore, 1) := dk_79 (dk_at dksX3_gives_3 15 rfl rfl)
theorem dX3_gives_87 : decode cX3_gives 87 = .ok (.aload_n 0, 1) := dk_42 (dk_at dksX3_gives_3 16 rfl rfl)
theorem dX3_gives_88 : decode cX3_gives 88 = .ok (.getfield 22, 3) := dk_180 0 22 (dk_at dksX3_gives_3 17 rfl rfl)
theorem dX3_gives_91 : decode cX3_gives 91 = .ok (.iload_n 1, 1) := dk_27 (dk_at dksX3_gives_3 20 rfl rfl)
theorem dX3_gives_92 : decode cX3_gives 92 = .ok (.iaload, 1) := dk_46 (dk_at dksX3_gives_3 21 rfl rfl)
theorem dX3_gives_93 : decode cX3_gives 93 = .ok (.ireturn, 1) := dk_172 (dk_at dksX3_gives_3 22 rfl rfl)
def dkwX3_led_0 : List UInt8 := [27, 3, 7, 184, 0, 119, 153, 0, 12, 42, 180, 0, 58, 27, 46, 167, 0, 4, 2, 172]
abbrev dktX3_led_0 : List UInt8 := dkwX3_led_0 ++ []
theorem dksX3_led_0 : cX3_led.data.toList.drop 0 = dktX3_led_0 := by decide +kernel
theorem dX3_led_0 : decode cX3_led 0 = .ok (.iload_n 1, 1) := dk_27 (dk_at dksX3_led_0 0 rfl rfl)
theorem dX3_led_1 : decode cX3_led 1 = .ok (.iconst 0, 1) := dk_3 (dk_at dksX3_led_0 1 rfl rfl)
theorem dX3_led_2 : decode cX3_led 2 = .ok (.iconst 4, 1) := dk_7 (dk_at dksX3_led_0 2 rfl rfl)
theorem dX3_led_3 : decode cX3_led 3 = .ok (.invokestatic 119, 3) := dk_184 0 119 (dk_at dksX3_led_0 3 rfl rfl)
theorem dX3_led_6 : decode cX3_led 6 = .ok (.ifCond .eq 12, 3) := dk_153 0 12 (dk_at dksX3_led_0 6 rfl rfl)
theorem dX3_led_9 : decode cX3_led 9 = .ok (.aload_n 0, 1) := dk_42 (dk_at dksX3_led_0 9 rfl rfl)
theorem dX3_led_10 : decode cX3_led 10 = .ok (.getfield 58, 3) := dk_180 0 58 (dk_at dksX3_led_0 10 rfl rfl)
theorem dX3_led_13 : decode cX3_led 13 = .ok (.iload_n 1, 1) := dk_27 (dk_at dksX3_led_0 13 rfl rfl)
theorem dX3_led_14 : decode cX3_led 14 = .ok (.iaload, 1) := dk_46 (dk_at dksX3_led_0 14 rfl rfl)
theorem dX3_led_15 : decode cX3_led 15 = .ok (.goto 4, 3) := dk_167 0 4 (dk_at dksX3_led_0 15 rfl rfl)
theorem dX3_led_18 : decode cX3_led 18 = .ok (.iconst (-1), 1) := dk_2 (dk_at dksX3_led_0 18 rfl rfl)
theorem dX3_led_19 : decode cX3_led 19 = .ok (.ireturn, 1) := dk_172 (dk_at dksX3_led_0 19 rfl rfl)
def dkwX3_image_2 : List UInt8 := [180, 0, 58, 3, 46, 172]
abbrev dktX3_image_2 : List UInt8 := dkwX3_image_2 ++ []
def dkwX3_image_1 : List UInt8 := [27, 8, 162, 0, 21, 42, 180, 0, 64, 27, 42, 180, 0, 58, 27, 46, 79, 132, 1, 1, 167, 255, 236, 42]
abbrev dktX3_image_1 : List UInt8 := dkwX3_image_1 ++ dktX3_image_2
def dkwX3_image_0 : List UInt8 := [42, 4, 181, 1, 86, 42, 42, 180, 0, 116, 181, 1, 89, 42, 42, 180, 0, 61, 3, 182, 1, 7, 3, 60]
abbrev dktX3_image_0 : List UInt8 := dkwX3_image_0 ++ dktX3_image_1
theorem dksX3_image_0 : cX3_image.data.toList.drop 0 = dktX3_image_0 := by decide +kernel
theorem dksX3_image_1 : cX3_image.data.toList.drop 24 = dktX3_image_1 := dk_seg dksX3_image_0 24 rfl rfl
theorem dksX3_image_2 : cX3_image.data.toList.drop 48 = dktX3_image_2 := dk_seg dksX3_image_1 24 rfl rfl
theorem dX3_image_0 : decode cX3_image 0 = .ok (.aload_n 0, 1) := dk_42 (dk_at dksX3_image_0 0 rfl rfl)
theorem dX3_image_1 : decode cX3_image 1 = .ok (.iconst 1, 1) := dk_4 (dk_at dksX3_image_0 1 rfl rfl)
theorem dX3_image_2 : decode cX3_image 2 = .ok (.putfield 342, 3) := dk_181 1 86 (dk_at dksX3_image_0 2 rfl rfl)
theorem dX3_image_5 : decode cX3_image 5 = .ok (.aload_n 0, 1) := dk_42 (dk_at dksX3_image_0 5 rfl rfl)
theorem dX3_image_6 : decode cX3_image 6 = .ok (.aload_n 0, 1) := dk_42 (dk_at dksX3_image_0 6 rfl rfl)
theorem dX3_image_7 : decode cX3_image 7 = .ok (.getfield 116, 3) := dk_180 0 116 (dk_at dksX3_image_0 7 rfl rfl)
theorem dX3_image_10 : decode cX3_image 10 = .ok (.putfield 345, 3) := dk_181 1 89 (dk_at dksX3_image_0 10 rfl rfl)
theorem dX3_image_13 : decode cX3_image 13 = .ok (.aload_n 0, 1) := dk_42 (dk_at dksX3_image_0 13 rfl rfl)
theorem dX3_image_14 : decode cX3_image 14 = .ok (.aload_n 0, 1) := dk_42 (dk_at dksX3_image_0 14 rfl rfl)
theorem dX3_image_15 : decode cX3_image 15 = .ok (.getfield 61, 3) := dk_180 0 61 (dk_at dksX3_image_0 15 rfl rfl)
theorem dX3_image_18 : decode cX3_image 18 = .ok (.iconst 0, 1) := dk_3 (dk_at dksX3_image_0 18 rfl rfl)
theorem dX3_image_19 : decode cX3_image 19 = .ok (.invokevirtual 263, 3) := dk_182 1 7 (dk_at dksX3_image_0 19 rfl rfl)
theorem dX3_image_22 : decode cX3_image 22 = .ok (.iconst 0, 1) := dk_3 (dk_at dksX3_image_0 22 rfl rfl)
theorem dX3_image_23 : decode cX3_image 23 = .ok (.istore_n 1, 1) := dk_60 (dk_at dksX3_image_0 23 rfl rfl)
theorem dX3_image_24 : decode cX3_image 24 = .ok (.iload_n 1, 1) := dk_27 (dk_at dksX3_image_1 0 rfl rfl)
theorem dX3_image_25 : decode cX3_image 25 = .ok (.iconst 5, 1) := dk_8 (dk_at dksX3_image_1 1 rfl rfl)
theorem dX3_image_26 : decode cX3_image 26 = .ok (.if_icmp .ge 21, 3) := dk_162 0 21 (dk_at dksX3_image_1 2 rfl rfl)
theorem dX3_image_29 : decode cX3_image 29 = .ok (.aload_n 0, 1) := dk_42 (dk_at dksX3_image_1 5 rfl rfl)
theorem dX3_image_30 : decode cX3_image 30 = .ok (.getfield 64, 3) := dk_180 0 64 (dk_at dksX3_image_1 6 rfl rfl)
theorem dX3_image_33 : decode cX3_image 33 = .ok (.iload_n 1, 1) := dk_27 (dk_at dksX3_image_1 9 rfl rfl)
theorem dX3_image_34 : decode cX3_image 34 = .ok (.aload_n 0, 1) := dk_42 (dk_at dksX3_image_1 10 rfl rfl)
theorem dX3_image_35 : decode cX3_image 35 = .ok (.getfield 58, 3) := dk_180 0 58 (dk_at dksX3_image_1 11 rfl rfl)
theorem dX3_image_38 : decode cX3_image 38 = .ok (.iload_n 1, 1) := dk_27 (dk_at dksX3_image_1 14 rfl rfl)
theorem dX3_image_39 : decode cX3_image 39 = .ok (.iaload, 1) := dk_46 (dk_at dksX3_image_1 15 rfl rfl)
theorem dX3_image_40 : decode cX3_image 40 = .ok (.iastore, 1) := dk_79 (dk_at dksX3_image_1 16 rfl rfl)
theorem dX3_image_41 : decode cX3_image 41 = .ok (.iinc 1 1, 3) := dk_132 1 1 (dk_at dksX3_image_1 17 rfl rfl)
theorem dX3_image_44 : decode cX3_image 44 = .ok (.goto (-20), 3) := dk_167 255 236 (dk_at dksX3_image_1 20 rfl rfl)
theorem dX3_image_47 : decode cX3_image 47 = .ok (.aload_n 0, 1) := dk_42 (dk_at dksX3_image_1 23 rfl rfl)
theorem dX3_image_48 : decode cX3_image 48 = .ok (.getfield 58, 3) := dk_180 0 58 (dk_at dksX3_image_2 0 rfl rfl)
theorem dX3_image_51 : decode cX3_image 51 = .ok (.iconst 0, 1) := dk_3 (dk_at dksX3_image_2 3 rfl rfl)
theorem dX3_image_52 : decode cX3_image 52 = .ok (.iaload, 1) := dk_46 (dk_at dksX3_image_2 4 rfl rfl)
theorem dX3_image_53 : decode cX3_image 53 = .ok (.ireturn, 1) := dk_172 (dk_at dksX3_image_2 5 rfl rfl)
def dkwX3_back_4 : List UInt8 := [46, 79, 132, 1, 1, 167, 255, 236, 42, 180, 0, 58, 3, 46, 172]
abbrev dktX3_back_4 : List UInt8 := dkwX3_back_4 ++ []
def dkwX3_back_3 : List UInt8 := [79, 132, 1, 1, 167, 255, 194, 3, 60, 27, 8, 162, 0, 21, 42, 180, 0, 58, 27, 42, 180, 0, 64, 27]
abbrev dktX3_back_3 : List UInt8 := dkwX3_back_3 ++ dktX3_back_4
def dkwX3_back_2 : List UInt8 := [162, 0, 7, 4, 167, 0, 4, 3, 61, 28, 154, 0, 15, 42, 180, 0, 22, 27, 42, 180, 0, 61, 27, 46]
abbrev dktX3_back_2 : List UInt8 := dkwX3_back_2 ++ dktX3_back_3
def dkwX3_back_1 : List UInt8 := [27, 42, 180, 1, 89, 162, 0, 20, 27, 16, 10, 42, 180, 1, 89, 96, 161, 0, 13, 27, 16, 18]
abbrev dktX3_back_1 : List UInt8 := dkwX3_back_1 ++ dktX3_back_2
def dkwX3_back_0 : List UInt8 := [42, 180, 1, 86, 154, 0, 6, 16, 251, 172, 3, 60, 27, 16, 31, 162, 0, 62, 27, 16, 8, 162, 0, 11]
abbrev dktX3_back_0 : List UInt8 := dkwX3_back_0 ++ dktX3_back_1
theorem dksX3_back_0 : cX3_back.data.toList.drop 0 = dktX3_back_0 := by decide +kernel
theorem dksX3_back_1 : cX3_back.data.toList.drop 24 = dktX3_back_1 := dk_seg dksX3_back_0 24 rfl rfl
theorem dksX3_back_2 : cX3_back.data.toList.drop 46 = dktX3_back_2 := dk_seg dksX3_back_1 22 rfl rfl
theorem dksX3_back_3 : cX3_back.data.toList.drop 70 = dktX3_back_3 := dk_seg dksX3_back_2 24 rfl rfl
theorem dksX3_back_4 : cX3_back.data.toList.drop 94 = dktX3_back_4 := dk_seg dksX3_back_3 24 rfl rfl
theorem dX3_back_0 : decode cX3_back 0 = .ok (.aload_n 0, 1) := dk_42 (dk_at dksX3_back_0 0 rfl rfl)
theorem dX3_back_1 : decode cX3_back 1 = .ok (.getfield 342, 3) := dk_180 1 86 (dk_at dksX3_back_0 1 rfl rfl)
theorem dX3_back_4 : decode cX3_back 4 = .ok (.ifCond .ne 6, 3) := dk_154 0 6 (dk_at dksX3_back_0 4 rfl rfl)
theorem dX3_back_7 : decode cX3_back 7 = .ok (.bipush (-5), 2) := dk_16 251 (dk_at dksX3_back_0 7 rfl rfl)
theorem dX3_back_9 : decode cX3_back 9 = .ok (.ireturn, 1) := dk_172 (dk_at dksX3_back_0 9 rfl rfl)
theorem dX3_back_10 : decode cX3_back 10 = .ok (.iconst 0, 1) := dk_3 (dk_at dksX3_back_0 10 rfl rfl)
theorem dX3_back_11 : decode cX3_back 11 = .ok (.istore_n 1, 1) := dk_60 (dk_at dksX3_back_0 11 rfl rfl)
theorem dX3_back_12 : decode cX3_back 12 = .ok (.iload_n 1, 1) := dk_27 (dk_at dksX3_back_0 12 rfl rfl)
theorem dX3_back_13 : decode cX3_back 13 = .ok (.bipush 31, 2) := dk_16 31 (dk_at dksX3_back_0 13 rfl rfl)
theorem dX3_back_15 : decode cX3_back 15 = .ok (.if_icmp .ge 62, 3) := dk_162 0 62 (dk_at dksX3_back_0 15 rfl rfl)
theorem dX3_back_18 : decode cX3_back 18 = .ok (.iload_n 1, 1) := dk_27 (dk_at dksX3_back_0 18 rfl rfl)
theorem dX3_back_19 : decode cX3_back 19 = .ok (.bipush 8, 2) := dk_16 8 (dk_at dksX3_back_0 19 rfl rfl)
theorem dX3_back_21 : decode cX3_back 21 = .ok (.if_icmp .ge 11, 3) := dk_162 0 11 (dk_at dksX3_back_0 21 rfl rfl)
theorem dX3_back_24 : decode cX3_back 24 = .ok (.iload_n 1, 1) := dk_27 (dk_at dksX3_back_1 0 rfl rfl)
theorem dX3_back_25 : decode cX3_back 25 = .ok (.aload_n 0, 1) := dk_42 (dk_at dksX3_back_1 1 rfl rfl)
theorem dX3_back_26 : decode cX3_back 26 = .ok (.getfield 345, 3) := dk_180 1 89 (dk_at dksX3_back_1 2 rfl rfl)
theorem dX3_back_29 : decode cX3_back 29 = .ok (.if_icmp .ge 20, 3) := dk_162 0 20 (dk_at dksX3_back_1 5 rfl rfl)
theorem dX3_back_32 : decode cX3_back 32 = .ok (.iload_n 1, 1) := dk_27 (dk_at dksX3_back_1 8 rfl rfl)
theorem dX3_back_33 : decode cX3_back 33 = .ok (.bipush 10, 2) := dk_16 10 (dk_at dksX3_back_1 9 rfl rfl)
theorem dX3_back_35 : decode cX3_back 35 = .ok (.aload_n 0, 1) := dk_42 (dk_at dksX3_back_1 11 rfl rfl)
theorem dX3_back_36 : decode cX3_back 36 = .ok (.getfield 345, 3) := dk_180 1 89 (dk_at dksX3_back_1 12 rfl rfl)
theorem dX3_back_39 : decode cX3_back 39 = .ok (.iadd, 1) := dk_96 (dk_at dksX3_back_1 15 rfl rfl)
theorem dX3_back_40 : decode cX3_back 40 = .ok (.if_icmp .lt 13, 3) := dk_161 0 13 (dk_at dksX3_back_1 16 rfl rfl)
theorem dX3_back_43 : decode cX3_back 43 = .ok (.iload_n 1, 1) := dk_27 (dk_at dksX3_back_1 19 rfl rfl)
theorem dX3_back_44 : decode cX3_back 44 = .ok (.bipush 18, 2) := dk_16 18 (dk_at dksX3_back_1 20 rfl rfl)
theorem dX3_back_46 : decode cX3_back 46 = .ok (.if_icmp .ge 7, 3) := dk_162 0 7 (dk_at dksX3_back_2 0 rfl rfl)
theorem dX3_back_49 : decode cX3_back 49 = .ok (.iconst 1, 1) := dk_4 (dk_at dksX3_back_2 3 rfl rfl)
theorem dX3_back_50 : decode cX3_back 50 = .ok (.goto 4, 3) := dk_167 0 4 (dk_at dksX3_back_2 4 rfl rfl)
theorem dX3_back_53 : decode cX3_back 53 = .ok (.iconst 0, 1) := dk_3 (dk_at dksX3_back_2 7 rfl rfl)
theorem dX3_back_54 : decode cX3_back 54 = .ok (.istore_n 2, 1) := dk_61 (dk_at dksX3_back_2 8 rfl rfl)
theorem dX3_back_55 : decode cX3_back 55 = .ok (.iload_n 2, 1) := dk_28 (dk_at dksX3_back_2 9 rfl rfl)
theorem dX3_back_56 : decode cX3_back 56 = .ok (.ifCond .ne 15, 3) := dk_154 0 15 (dk_at dksX3_back_2 10 rfl rfl)
theorem dX3_back_59 : decode cX3_back 59 = .ok (.aload_n 0, 1) := dk_42 (dk_at dksX3_back_2 13 rfl rfl)
theorem dX3_back_60 : decode cX3_back 60 = .ok (.getfield 22, 3) := dk_180 0 22 (dk_at dksX3_back_2 14 rfl rfl)
theorem dX3_back_63 : decode cX3_back 63 = .ok (.iload_n 1, 1) := dk_27 (dk_at dksX3_back_2 17 rfl rfl)
theorem dX3_back_64 : decode cX3_back 64 = .ok (.aload_n 0, 1) := dk_42 (dk_at dksX3_back_2 18 rfl rfl)
theorem dX3_back_65 : decode cX3_back 65 = .ok (.getfield 61, 3) := dk_180 0 61 (dk_at dksX3_back_2 19 rfl rfl)
theorem dX3_back_68 : decode cX3_back 68 = .ok (.iload_n 1, 1) := dk_27 (dk_at dksX3_back_2 22 rfl rfl)
theorem dX3_back_69 : decode cX3_back 69 = .ok (.iaload, 1) := dk_46 (dk_at dksX3_back_2 23 rfl rfl)
theorem dX3_back_70 : decode cX3_back 70 = .ok (.iastore, 1) := dk_79 (dk_at dksX3_back_3 0 rfl rfl)
theorem dX3_back_71 : decode cX3_back 71 = .ok (.iinc 1 1, 3) := dk_132 1 1 (dk_at dksX3_back_3 1 rfl rfl)
theorem dX3_back_74 : decode cX3_back 74 = .ok (.goto (-62), 3) := dk_167 255 194 (dk_at dksX3_back_3 4 rfl rfl)
theorem dX3_back_77 : decode cX3_back 77 = .ok (.iconst 0, 1) := dk_3 (dk_at dksX3_back_3 7 rfl rfl)
theorem dX3_back_78 : decode cX3_back 78 = .ok (.istore_n 1, 1) := dk_60 (dk_at dksX3_back_3 8 rfl rfl)
theorem dX3_back_79 : decode cX3_back 79 = .ok (.iload_n 1, 1) := dk_27 (dk_at dksX3_back_3 9 rfl rfl)
theorem dX3_back_80 : decode cX3_back 80 = .ok (.iconst 5, 1) := dk_8 (dk_at dksX3_back_3 10 rfl rfl)
theorem dX3_back_81 : decode cX3_back 81 = .ok (.if_icmp .ge 21, 3) := dk_162 0 21 (dk_at dksX3_back_3 11 rfl rfl)
theorem dX3_back_84 : decode cX3_back 84 = .ok (.aload_n 0, 1) := dk_42 (dk_at dksX3_back_3 14 rfl rfl)
theorem dX3_back_85 : decode cX3_back 85 = .ok (.getfield 58, 3) := dk_180 0 58 (dk_at dksX3_back_3 15 rfl rfl)
theorem dX3_back_88 : decode cX3_back 88 = .ok (.iload_n 1, 1) := dk_27 (dk_at dksX3_back_3 18 rfl rfl)
theorem dX3_back_89 : decode cX3_back 89 = .ok (.aload_n 0, 1) := dk_42 (dk_at dksX3_back_3 19 rfl rfl)
theorem dX3_back_90 : decode cX3_back 90 = .ok (.getfield 64, 3) := dk_180 0 64 (dk_at dksX3_back_3 20 rfl rfl)
theorem dX3_back_93 : decode cX3_back 93 = .ok (.iload_n 1, 1) := dk_27 (dk_at dksX3_back_3 23 rfl rfl)
theorem dX3_back_94 : decode cX3_back 94 = .ok (.iaload, 1) := dk_46 (dk_at dksX3_back_4 0 rfl rfl)
theorem dX3_back_95 : decode cX3_back 95 = .ok (.iastore, 1) := dk_79 (dk_at dksX3_back_4 1 rfl rfl)
theorem dX3_back_96 : decode cX3_back 96 = .ok (.iinc 1 1, 3) := dk_132 1 1 (dk_at dksX3_back_4 2 rfl rfl)
theorem dX3_back_99 : decode cX3_back 99 = .ok (.goto (-20), 3) := dk_167 255 236 (dk_at dksX3_back_4 5 rfl rfl)
theorem dX3_back_102 : decode cX3_back 102 = .ok (.aload_n 0, 1) := dk_42 (dk_at dksX3_back_4 8 rfl rfl)
theorem dX3_back_103 : decode cX3_back 103 = .ok (.getfield 58, 3) := dk_180 0 58 (dk_at dksX3_back_4 9 rfl rfl)
theorem dX3_back_106 : decode cX3_back 106 = .ok (.iconst 0, 1) := dk_3 (dk_at dksX3_back_4 12 rfl rfl)
theorem dX3_back_107 : decode cX3_back 107 = .ok (.iaload, 1) := dk_46 (dk_at dksX3_back_4 13 rfl rfl)
theorem dX3_back_108 : decode cX3_back 108 = .ok (.ireturn, 1) := dk_172 (dk_at dksX3_back_4 14 rfl rfl)
def dkwX3_body_1 : List UInt8 := [42, 180, 0, 70, 42, 180, 1, 113, 27, 79, 42, 89, 180, 1, 113, 90, 4, 96, 181, 1, 113, 172]
abbrev dktX3_body_1 : List UInt8 := dkwX3_body_1 ++ []
def dkwX3_body_0 : List UInt8 := [27, 3, 16, 7, 184, 0, 119, 154, 0, 5, 2, 172, 42, 180, 1, 113, 16, 50, 160, 0, 6, 16, 253, 172]
abbrev dktX3_body_0 : List UInt8 := dkwX3_body_0 ++ dktX3_body_1
theorem dksX3_body_0 : cX3_body.data.toList.drop 0 = dktX3_body_0 := by decide +kernel
theorem dksX3_body_1 : cX3_body.data.toList.drop 24 = dktX3_body_1 := dk_seg dksX3_body_0 24 rfl rfl
theorem dX3_body_0 : decode cX3_body 0 = .ok (.iload_n 1, 1) := dk_27 (dk_at dksX3_body_0 0 rfl rfl)
theorem dX3_body_1 : decode cX3_body 1 = .ok (.iconst 0, 1) := dk_3 (dk_at dksX3_body_0 1 rfl rfl)
theorem dX3_body_2 : decode cX3_body 2 = .ok (.bipush 7, 2) := dk_16 7 (dk_at dksX3_body_0 2 rfl rfl)
theorem dX3_body_4 : decode cX3_body 4 = .ok (.invokestatic 119, 3) := dk_184 0 119 (dk_at dksX3_body_0 4 rfl rfl)
theorem dX3_body_7 : decode cX3_body 7 = .ok (.ifCond .ne 5, 3) := dk_154 0 5 (dk_at dksX3_body_0 7 rfl rfl)
theorem dX3_body_10 : decode cX3_body 10 = .ok (.iconst (-1), 1) := dk_2 (dk_at dksX3_body_0 10 rfl rfl)
theorem dX3_body_11 : decode cX3_body 11 = .ok (.ireturn, 1) := dk_172 (dk_at dksX3_body_0 11 rfl rfl)
theorem dX3_body_12 : decode cX3_body 12 = .ok (.aload_n 0, 1) := dk_42 (dk_at dksX3_body_0 12 rfl rfl)
theorem dX3_body_13 : decode cX3_body 13 = .ok (.getfield 369, 3) := dk_180 1 113 (dk_at dksX3_body_0 13 rfl rfl)
theorem dX3_body_16 : decode cX3_body 16 = .ok (.bipush 50, 2) := dk_16 50 (dk_at dksX3_body_0 16 rfl rfl)
theorem dX3_body_18 : decode cX3_body 18 = .ok (.if_icmp .ne 6, 3) := dk_160 0 6 (dk_at dksX3_body_0 18 rfl rfl)
theorem dX3_body_21 : decode cX3_body 21 = .ok (.bipush (-3), 2) := dk_16 253 (dk_at dksX3_body_0 21 rfl rfl)
theorem dX3_body_23 : decode cX3_body 23 = .ok (.ireturn, 1) := dk_172 (dk_at dksX3_body_0 23 rfl rfl)
theorem dX3_body_24 : decode cX3_body 24 = .ok (.aload_n 0, 1) := dk_42 (dk_at dksX3_body_1 0 rfl rfl)
theorem dX3_body_25 : decode cX3_body 25 = .ok (.getfield 70, 3) := dk_180 0 70 (dk_at dksX3_body_1 1 rfl rfl)
theorem dX3_body_28 : decode cX3_body 28 = .ok (.aload_n 0, 1) := dk_42 (dk_at dksX3_body_1 4 rfl rfl)
theorem dX3_body_29 : decode cX3_body 29 = .ok (.getfield 369, 3) := dk_180 1 113 (dk_at dksX3_body_1 5 rfl rfl)
theorem dX3_body_32 : decode cX3_body 32 = .ok (.iload_n 1, 1) := dk_27 (dk_at dksX3_body_1 8 rfl rfl)
theorem dX3_body_33 : decode cX3_body 33 = .ok (.iastore, 1) := dk_79 (dk_at dksX3_body_1 9 rfl rfl)
theorem dX3_body_34 : decode cX3_body 34 = .ok (.aload_n 0, 1) := dk_42 (dk_at dksX3_body_1 10 rfl rfl)
theorem dX3_body_35 : decode cX3_body 35 = .ok (.dup, 1) := dk_89 (dk_at dksX3_body_1 11 rfl rfl)
theorem dX3_body_36 : decode cX3_body 36 = .ok (.getfield 369, 3) := dk_180 1 113 (dk_at dksX3_body_1 12 rfl rfl)
theorem dX3_body_39 : decode cX3_body 39 = .ok (.dup_x1, 1) := dk_90 (dk_at dksX3_body_1 15 rfl rfl)
theorem dX3_body_40 : decode cX3_body 40 = .ok (.iconst 1, 1) := dk_4 (dk_at dksX3_body_1 16 rfl rfl)
theorem dX3_body_41 : decode cX3_body 41 = .ok (.iadd, 1) := dk_96 (dk_at dksX3_body_1 17 rfl rfl)
theorem dX3_body_42 : decode cX3_body 42 = .ok (.putfield 369, 3) := dk_181 1 113 (dk_at dksX3_body_1 18 rfl rfl)
theorem dX3_body_45 : decode cX3_body 45 = .ok (.ireturn, 1) := dk_172 (dk_at dksX3_body_1 21 rfl rfl)
def dkwX3_act_3 : List UInt8 := [5, 160, 0, 14, 42, 27, 21, 4, 29, 182, 1, 107, 167, 0, 11, 42, 27, 21, 4, 29, 182, 1, 110, 172]
abbrev dktX3_act_3 : List UInt8 := dkwX3_act_3 ++ []
def dkwX3_act_2 : List UInt8 := [29, 182, 1, 98, 167, 0, 43, 28, 4, 160, 0, 14, 42, 27, 21, 4, 29, 182, 1, 104, 167, 0, 27, 28]
abbrev dktX3_act_2 : List UInt8 := dkwX3_act_2 ++ dktX3_act_3
def dkwX3_act_1 : List UInt8 := [184, 0, 119, 154, 0, 5, 3, 172, 42, 180, 0, 70, 27, 46, 54, 4, 28, 154, 0, 14, 42, 27, 21, 4]
abbrev dktX3_act_1 : List UInt8 := dkwX3_act_1 ++ dktX3_act_2
def dkwX3_act_0 : List UInt8 := [42, 3, 181, 1, 92, 27, 3, 42, 180, 1, 113, 4, 100, 184, 0, 119, 153, 0, 12, 28, 3, 6]
abbrev dktX3_act_0 : List UInt8 := dkwX3_act_0 ++ dktX3_act_1
theorem dksX3_act_0 : cX3_act.data.toList.drop 0 = dktX3_act_0 := by decide +kernel
theorem dksX3_act_1 : cX3_act.data.toList.drop 22 = dktX3_act_1 := dk_seg dksX3_act_0 22 rfl rfl
theorem dksX3_act_2 : cX3_act.data.toList.drop 46 = dktX3_act_2 := dk_seg dksX3_act_1 24 rfl rfl
theorem dksX3_act_3 : cX3_act.data.toList.drop 70 = dktX3_act_3 := dk_seg dksX3_act_2 24 rfl rfl
theorem dX3_act_0 : decode cX3_act 0 = .ok (.aload_n 0, 1) := dk_42 (dk_at dksX3_act_0 0 rfl rfl)
theorem dX3_act_1 : decode cX3_act 1 = .ok (.iconst 0, 1) := dk_3 (dk_at dksX3_act_0 1 rfl rfl)
theorem dX3_act_2 : decode cX3_act 2 = .ok (.putfield 348, 3) := dk_181 1 92 (dk_at dksX3_act_0 2 rfl rfl)
theorem dX3_act_5 : decode cX3_act 5 = .ok (.iload_n 1, 1) := dk_27 (dk_at dksX3_act_0 5 rfl rfl)
theorem dX3_act_6 : decode cX3_act 6 = .ok (.iconst 0, 1) := dk_3 (dk_at dksX3_act_0 6 rfl rfl)
theorem dX3_act_7 : decode cX3_act 7 = .ok (.aload_n 0, 1) := dk_42 (dk_at dksX3_act_0 7 rfl rfl)
theorem dX3_act_8 : decode cX3_act 8 = .ok (.getfield 369, 3) := dk_180 1 113 (dk_at dksX3_act_0 8 rfl rfl)
theorem dX3_act_11 : decode cX3_act 11 = .ok (.iconst 1, 1) := dk_4 (dk_at dksX3_act_0 11 rfl rfl)
theorem dX3_act_12 : decode cX3_act 12 = .ok (.isub, 1) := dk_100 (dk_at dksX3_act_0 12 rfl rfl)
theorem dX3_act_13 : decode cX3_act 13 = .ok (.invokestatic 119, 3) := dk_184 0 119 (dk_at dksX3_act_0 13 rfl rfl)
theorem dX3_act_16 : decode cX3_act 16 = .ok (.ifCond .eq 12, 3) := dk_153 0 12 (dk_at dksX3_act_0 16 rfl rfl)
theorem dX3_act_19 : decode cX3_act 19 = .ok (.iload_n 2, 1) := dk_28 (dk_at dksX3_act_0 19 rfl rfl)
theorem dX3_act_20 : decode cX3_act 20 = .ok (.iconst 0, 1) := dk_3 (dk_at dksX3_act_0 20 rfl rfl)
theorem dX3_act_21 : decode cX3_act 21 = .ok (.iconst 3, 1) := dk_6 (dk_at dksX3_act_0 21 rfl rfl)
theorem dX3_act_22 : decode cX3_act 22 = .ok (.invokestatic 119, 3) := dk_184 0 119 (dk_at dksX3_act_1 0 rfl rfl)
theorem dX3_act_25 : decode cX3_act 25 = .ok (.ifCond .ne 5, 3) := dk_154 0 5 (dk_at dksX3_act_1 3 rfl rfl)
theorem dX3_act_28 : decode cX3_act 28 = .ok (.iconst 0, 1) := dk_3 (dk_at dksX3_act_1 6 rfl rfl)
theorem dX3_act_29 : decode cX3_act 29 = .ok (.ireturn, 1) := dk_172 (dk_at dksX3_act_1 7 rfl rfl)
theorem dX3_act_30 : decode cX3_act 30 = .ok (.aload_n 0, 1) := dk_42 (dk_at dksX3_act_1 8 rfl rfl)
theorem dX3_act_31 : decode cX3_act 31 = .ok (.getfield 70, 3) := dk_180 0 70 (dk_at dksX3_act_1 9 rfl rfl)
theorem dX3_act_34 : decode cX3_act 34 = .ok (.iload_n 1, 1) := dk_27 (dk_at dksX3_act_1 12 rfl rfl)
theorem dX3_act_35 : decode cX3_act 35 = .ok (.iaload, 1) := dk_46 (dk_at dksX3_act_1 13 rfl rfl)
theorem dX3_act_36 : decode cX3_act 36 = .ok (.istore 4, 2) := dk_54 4 (dk_at dksX3_act_1 14 rfl rfl)
theorem dX3_act_38 : decode cX3_act 38 = .ok (.iload_n 2, 1) := dk_28 (dk_at dksX3_act_1 16 rfl rfl)
theorem dX3_act_39 : decode cX3_act 39 = .ok (.ifCond .ne 14, 3) := dk_154 0 14 (dk_at dksX3_act_1 17 rfl rfl)
theorem dX3_act_42 : decode cX3_act 42 = .ok (.aload_n 0, 1) := dk_42 (dk_at dksX3_act_1 20 rfl rfl)
theorem dX3_act_43 : decode cX3_act 43 = .ok (.iload_n 1, 1) := dk_27 (dk_at dksX3_act_1 21 rfl rfl)
theorem dX3_act_44 : decode cX3_act 44 = .ok (.iload 4, 2) := dk_21 4 (dk_at dksX3_act_1 22 rfl rfl)
theorem dX3_act_46 : decode cX3_act 46 = .ok (.iload_n 3, 1) := dk_29 (dk_at dksX3_act_2 0 rfl rfl)
theorem dX3_act_47 : decode cX3_act 47 = .ok (.invokevirtual 354, 3) := dk_182 1 98 (dk_at dksX3_act_2 1 rfl rfl)
theorem dX3_act_50 : decode cX3_act 50 = .ok (.goto 43, 3) := dk_167 0 43 (dk_at dksX3_act_2 4 rfl rfl)
theorem dX3_act_53 : decode cX3_act 53 = .ok (.iload_n 2, 1) := dk_28 (dk_at dksX3_act_2 7 rfl rfl)
theorem dX3_act_54 : decode cX3_act 54 = .ok (.iconst 1, 1) := dk_4 (dk_at dksX3_act_2 8 rfl rfl)
theorem dX3_act_55 : decode cX3_act 55 = .ok (.if_icmp .ne 14, 3) := dk_160 0 14 (dk_at dksX3_act_2 9 rfl rfl)
theorem dX3_act_58 : decode cX3_act 58 = .ok (.aload_n 0, 1) := dk_42 (dk_at dksX3_act_2 12 rfl rfl)
theorem dX3_act_59 : decode cX3_act 59 = .ok (.iload_n 1, 1) := dk_27 (dk_at dksX3_act_2 13 rfl rfl)
theorem dX3_act_60 : decode cX3_act 60 = .ok (.iload 4, 2) := dk_21 4 (dk_at dksX3_act_2 14 rfl rfl)
theorem dX3_act_62 : decode cX3_act 62 = .ok (.iload_n 3, 1) := dk_29 (dk_at dksX3_act_2 16 rfl rfl)
theorem dX3_act_63 : decode cX3_act 63 = .ok (.invokevirtual 360, 3) := dk_182 1 104 (dk_at dksX3_act_2 17 rfl rfl)
theorem dX3_act_66 : decode cX3_act 66 = .ok (.goto 27, 3) := dk_167 0 27 (dk_at dksX3_act_2 20 rfl rfl)
theorem dX3_act_69 : decode cX3_act 69 = .ok (.iload_n 2, 1) := dk_28 (dk_at dksX3_act_2 23 rfl rfl)
theorem dX3_act_70 : decode cX3_act 70 = .ok (.iconst 2, 1) := dk_5 (dk_at dksX3_act_3 0 rfl rfl)
theorem dX3_act_71 : decode cX3_act 71 = .ok (.if_icmp .ne 14, 3) := dk_160 0 14 (dk_at dksX3_act_3 1 rfl rfl)
theorem dX3_act_74 : decode cX3_act 74 = .ok (.aload_n 0, 1) := dk_42 (dk_at dksX3_act_3 4 rfl rfl)
theorem dX3_act_75 : decode cX3_act 75 = .ok (.iload_n 1, 1) := dk_27 (dk_at dksX3_act_3 5 rfl rfl)
theorem dX3_act_76 : decode cX3_act 76 = .ok (.iload 4, 2) := dk_21 4 (dk_at dksX3_act_3 6 rfl rfl)
theorem dX3_act_78 : decode cX3_act 78 = .ok (.iload_n 3, 1) := dk_29 (dk_at dksX3_act_3 8 rfl rfl)
theorem dX3_act_79 : decode cX3_act 79 = .ok (.invokevirtual 363, 3) := dk_182 1 107 (dk_at dksX3_act_3 9 rfl rfl)
theorem dX3_act_82 : decode cX3_act 82 = .ok (.goto 11, 3) := dk_167 0 11 (dk_at dksX3_act_3 12 rfl rfl)
theorem dX3_act_85 : decode cX3_act 85 = .ok (.aload_n 0, 1) := dk_42 (dk_at dksX3_act_3 15 rfl rfl)
theorem dX3_act_86 : decode cX3_act 86 = .ok (.iload_n 1, 1) := dk_27 (dk_at dksX3_act_3 16 rfl rfl)
theorem dX3_act_87 : decode cX3_act 87 = .ok (.iload 4, 2) := dk_21 4 (dk_at dksX3_act_3 17 rfl rfl)
theorem dX3_act_89 : decode cX3_act 89 = .ok (.iload_n 3, 1) := dk_29 (dk_at dksX3_act_3 19 rfl rfl)
theorem dX3_act_90 : decode cX3_act 90 = .ok (.invokevirtual 366, 3) := dk_182 1 110 (dk_at dksX3_act_3 20 rfl rfl)
theorem dX3_act_93 : decode cX3_act 93 = .ok (.ireturn, 1) := dk_172 (dk_at dksX3_act_3 23 rfl rfl)
def dkwX3_comesBy_4 : List UInt8 := [182, 1, 98, 172]
abbrev dktX3_comesBy_4 : List UInt8 := dkwX3_comesBy_4 ++ []
def dkwX3_comesBy_3 : List UInt8 := [172, 42, 16, 70, 182, 1, 95, 42, 27, 3, 29, 182, 1, 98, 5, 104, 172, 42, 27, 28, 184, 1, 101, 29]
abbrev dktX3_comesBy_3 : List UInt8 := dkwX3_comesBy_3 ++ dktX3_comesBy_4
def dkwX3_comesBy_2 : List UInt8 := [42, 4, 182, 1, 95, 29, 27, 96, 172, 42, 16, 20, 182, 1, 95, 42, 27, 3, 29, 182, 1, 98, 6, 96]
abbrev dktX3_comesBy_2 : List UInt8 := dkwX3_comesBy_2 ++ dktX3_comesBy_3
def dkwX3_comesBy_1 : List UInt8 := [171, 0, 0, 0, 0, 0, 76, 0, 0, 0, 3, 0, 0, 0, 0, 0, 0, 0, 35, 0, 0, 0, 1, 0, 0, 0, 44, 0, 0, 0, 6, 0, 0, 0, 60]
abbrev dktX3_comesBy_1 : List UInt8 := dkwX3_comesBy_1 ++ dktX3_comesBy_2
def dkwX3_comesBy_0 : List UInt8 := [28]
abbrev dktX3_comesBy_0 : List UInt8 := dkwX3_comesBy_0 ++ dktX3_comesBy_1
theorem dksX3_comesBy_0 : cX3_comesBy.data.toList.drop 0 = dktX3_comesBy_0 := by decide +kernel
theorem dksX3_comesBy_1 : cX3_comesBy.data.toList.drop 1 = dktX3_comesBy_1 := dk_seg dksX3_comesBy_0 1 rfl rfl
theorem dksX3_comesBy_2 : cX3_comesBy.data.toList.drop 36 = dktX3_comesBy_2 := dk_seg dksX3_comesBy_1 35 rfl rfl
theorem dksX3_comesBy_3 : cX3_comesBy.data.toList.drop 60 = dktX3_comesBy_3 := dk_seg dksX3_comesBy_2 24 rfl rfl
theorem dksX3_comesBy_4 : cX3_comesBy.data.toList.drop 84 = dktX3_comesBy_4 := dk_seg dksX3_comesBy_3 24 rfl rfl
theorem dX3_comesBy_0 : decode cX3_comesBy 0 = .ok (.iload_n 2, 1) := dk_28 (dk_at dksX3_comesBy_0 0 rfl rfl)
theorem dX3_comesBy_1 : decode cX3_comesBy 1 = .ok (.lookupswitch 76 #[(0, 35), (1, 44), (6, 60)], 35) := by decide +kernel
theorem dX3_comesBy_36 : decode cX3_comesBy 36 = .ok (.aload_n 0, 1) := dk_42 (dk_at dksX3_comesBy_2 0 rfl rfl)
theorem dX3_comesBy_37 : decode cX3_comesBy 37 = .ok (.iconst 1, 1) := dk_4 (dk_at dksX3_comesBy_2 1 rfl rfl)
theorem dX3_comesBy_38 : decode cX3_comesBy 38 = .ok (.invokevirtual 351, 3) := dk_182 1 95 (dk_at dksX3_comesBy_2 2 rfl rfl)
theorem dX3_comesBy_41 : decode cX3_comesBy 41 = .ok (.iload_n 3, 1) := dk_29 (dk_at dksX3_comesBy_2 5 rfl rfl)
theorem dX3_comesBy_42 : decode cX3_comesBy 42 = .ok (.iload_n 1, 1) := dk_27 (dk_at dksX3_comesBy_2 6 rfl rfl)
theorem dX3_comesBy_43 : decode cX3_comesBy 43 = .ok (.iadd, 1) := dk_96 (dk_at dksX3_comesBy_2 7 rfl rfl)
theorem dX3_comesBy_44 : decode cX3_comesBy 44 = .ok (.ireturn, 1) := dk_172 (dk_at dksX3_comesBy_2 8 rfl rfl)
theorem dX3_comesBy_45 : decode cX3_comesBy 45 = .ok (.aload_n 0, 1) := dk_42 (dk_at dksX3_comesBy_2 9 rfl rfl)
theorem dX3_comesBy_46 : decode cX3_comesBy 46 = .ok (.bipush 20, 2) := dk_16 20 (dk_at dksX3_comesBy_2 10 rfl rfl)
theorem dX3_comesBy_48 : decode cX3_comesBy 48 = .ok (.invokevirtual 351, 3) := dk_182 1 95 (dk_at dksX3_comesBy_2 12 rfl rfl)
theorem dX3_comesBy_51 : decode cX3_comesBy 51 = .ok (.aload_n 0, 1) := dk_42 (dk_at dksX3_comesBy_2 15 rfl rfl)
theorem dX3_comesBy_52 : decode cX3_comesBy 52 = .ok (.iload_n 1, 1) := dk_27 (dk_at dksX3_comesBy_2 16 rfl rfl)
theorem dX3_comesBy_53 : decode cX3_comesBy 53 = .ok (.iconst 0, 1) := dk_3 (dk_at dksX3_comesBy_2 17 rfl rfl)
theorem dX3_comesBy_54 : decode cX3_comesBy 54 = .ok (.iload_n 3, 1) := dk_29 (dk_at dksX3_comesBy_2 18 rfl rfl)
theorem dX3_comesBy_55 : decode cX3_comesBy 55 = .ok (.invokevirtual 354, 3) := dk_182 1 98 (dk_at dksX3_comesBy_2 19 rfl rfl)
theorem dX3_comesBy_58 : decode cX3_comesBy 58 = .ok (.iconst 3, 1) := dk_6 (dk_at dksX3_comesBy_2 22 rfl rfl)
theorem dX3_comesBy_59 : decode cX3_comesBy 59 = .ok (.iadd, 1) := dk_96 (dk_at dksX3_comesBy_2 23 rfl rfl)
theorem dX3_comesBy_60 : decode cX3_comesBy 60 = .ok (.ireturn, 1) := dk_172 (dk_at dksX3_comesBy_3 0 rfl rfl)
theorem dX3_comesBy_61 : decode cX3_comesBy 61 = .ok (.aload_n 0, 1) := dk_42 (dk_at dksX3_comesBy_3 1 rfl rfl)
theorem dX3_comesBy_62 : decode cX3_comesBy 62 = .ok (.bipush 70, 2) := dk_16 70 (dk_at dksX3_comesBy_3 2 rfl rfl)
theorem dX3_comesBy_64 : decode cX3_comesBy 64 = .ok (.invokevirtual 351, 3) := dk_182 1 95 (dk_at dksX3_comesBy_3 4 rfl rfl)
theorem dX3_comesBy_67 : decode cX3_comesBy 67 = .ok (.aload_n 0, 1) := dk_42 (dk_at dksX3_comesBy_3 7 rfl rfl)
theorem dX3_comesBy_68 : decode cX3_comesBy 68 = .ok (.iload_n 1, 1) := dk_27 (dk_at dksX3_comesBy_3 8 rfl rfl)
theorem dX3_comesBy_69 : decode cX3_comesBy 69 = .ok (.iconst 0, 1) := dk_3 (dk_at dksX3_comesBy_3 9 rfl rfl)
theorem dX3_comesBy_70 : decode cX3_comesBy 70 = .ok (.iload_n 3, 1) := dk_29 (dk_at dksX3_comesBy_3 10 rfl rfl)
theorem dX3_comesBy_71 : decode cX3_comesBy 71 = .ok (.invokevirtual 354, 3) := dk_182 1 98 (dk_at dksX3_comesBy_3 11 rfl rfl)
theorem dX3_comesBy_74 : decode cX3_comesBy 74 = .ok (.iconst 2, 1) := dk_5 (dk_at dksX3_comesBy_3 14 rfl rfl)
theorem dX3_comesBy_75 : decode cX3_comesBy 75 = .ok (.imul, 1) := dk_104 (dk_at dksX3_comesBy_3 15 rfl rfl)
theorem dX3_comesBy_76 : decode cX3_comesBy 76 = .ok (.ireturn, 1) := dk_172 (dk_at dksX3_comesBy_3 16 rfl rfl)
theorem dX3_comesBy_77 : decode cX3_comesBy 77 = .ok (.aload_n 0, 1) := dk_42 (dk_at dksX3_comesBy_3 17 rfl rfl)
theorem dX3_comesBy_78 : decode cX3_comesBy 78 = .ok (.iload_n 1, 1) := dk_27 (dk_at dksX3_comesBy_3 18 rfl rfl)
theorem dX3_comesBy_79 : decode cX3_comesBy 79 = .ok (.iload_n 2, 1) := dk_28 (dk_at dksX3_comesBy_3 19 rfl rfl)
theorem dX3_comesBy_80 : decode cX3_comesBy 80 = .ok (.invokestatic 357, 3) := dk_184 1 101 (dk_at dksX3_comesBy_3 20 rfl rfl)
theorem dX3_comesBy_83 : decode cX3_comesBy 83 = .ok (.iload_n 3, 1) := dk_29 (dk_at dksX3_comesBy_3 23 rfl rfl)
theorem dX3_comesBy_84 : decode cX3_comesBy 84 = .ok (.invokevirtual 354, 3) := dk_182 1 98 (dk_at dksX3_comesBy_4 0 rfl rfl)
theorem dX3_comesBy_87 : decode cX3_comesBy 87 = .ok (.ireturn, 1) := dk_172 (dk_at dksX3_comesBy_4 3 rfl rfl)
def dkwX3_ran_1 : List UInt8 := [4, 96, 181, 1, 92, 177]
abbrev dktX3_ran_1 : List UInt8 := dkwX3_ran_1 ++ []
def dkwX3_ran_0 : List UInt8 := [42, 180, 1, 92, 16, 24, 162, 0, 13, 42, 180, 0, 73, 42, 180, 1, 92, 27, 79, 42, 89, 180, 1, 92]
abbrev dktX3_ran_0 : List UInt8 := dkwX3_ran_0 ++ dktX3_ran_1
theorem dksX3_ran_0 : cX3_ran.data.toList.drop 0 = dktX3_ran_0 := by decide +kernel
theorem dksX3_ran_1 : cX3_ran.data.toList.drop 24 = dktX3_ran_1 := dk_seg dksX3_ran_0 24 rfl rfl
theorem dX3_ran_0 : decode cX3_ran 0 = .ok (.aload_n 0, 1) := dk_42 (dk_at dksX3_ran_0 0 rfl rfl)
theorem dX3_ran_1 : decode cX3_ran 1 = .ok (.getfield 348, 3) := dk_180 1 92 (dk_at dksX3_ran_0 1 rfl rfl)
theorem dX3_ran_4 : decode cX3_ran 4 = .ok (.bipush 24, 2) := dk_16 24 (dk_at dksX3_ran_0 4 rfl rfl)
theorem dX3_ran_6 : decode cX3_ran 6 = .ok (.if_icmp .ge 13, 3) := dk_162 0 13 (dk_at dksX3_ran_0 6 rfl rfl)
theorem dX3_ran_9 : decode cX3_ran 9 = .ok (.aload_n 0, 1) := dk_42 (dk_at dksX3_ran_0 9 rfl rfl)
theorem dX3_ran_10 : decode cX3_ran 10 = .ok (.getfield 73, 3) := dk_180 0 73 (dk_at dksX3_ran_0 10 rfl rfl)
theorem dX3_ran_13 : decode cX3_ran 13 = .ok (.aload_n 0, 1) := dk_42 (dk_at dksX3_ran_0 13 rfl rfl)
theorem dX3_ran_14 : decode cX3_ran 14 = .ok (.getfield 348, 3) := dk_180 1 92 (dk_at dksX3_ran_0 14 rfl rfl)
theorem dX3_ran_17 : decode cX3_ran 17 = .ok (.iload_n 1, 1) := dk_27 (dk_at dksX3_ran_0 17 rfl rfl)
theorem dX3_ran_18 : decode cX3_ran 18 = .ok (.iastore, 1) := dk_79 (dk_at dksX3_ran_0 18 rfl rfl)
theorem dX3_ran_19 : decode cX3_ran 19 = .ok (.aload_n 0, 1) := dk_42 (dk_at dksX3_ran_0 19 rfl rfl)
theorem dX3_ran_20 : decode cX3_ran 20 = .ok (.dup, 1) := dk_89 (dk_at dksX3_ran_0 20 rfl rfl)
theorem dX3_ran_21 : decode cX3_ran 21 = .ok (.getfield 348, 3) := dk_180 1 92 (dk_at dksX3_ran_0 21 rfl rfl)
theorem dX3_ran_24 : decode cX3_ran 24 = .ok (.iconst 1, 1) := dk_4 (dk_at dksX3_ran_1 0 rfl rfl)
theorem dX3_ran_25 : decode cX3_ran 25 = .ok (.iadd, 1) := dk_96 (dk_at dksX3_ran_1 1 rfl rfl)
theorem dX3_ran_26 : decode cX3_ran 26 = .ok (.putfield 348, 3) := dk_181 1 92 (dk_at dksX3_ran_1 2 rfl rfl)
theorem dX3_ran_29 : decode cX3_ran 29 = .ok (.return_, 1) := dk_177 (dk_at dksX3_ran_1 5 rfl rfl)
def dkwX3_above_2 : List UInt8 := [5, 172, 4, 172, 6, 172, 7, 172, 3, 172]
abbrev dktX3_above_2 : List UInt8 := dkwX3_above_2 ++ []
def dkwX3_above_1 : List UInt8 := [170, 0, 0, 0, 0, 0, 43, 0, 0, 0, 3, 0, 0, 0, 7, 0, 0, 0, 35, 0, 0, 0, 37, 0, 0, 0, 39, 0, 0, 0, 43, 0, 0, 0, 41]
abbrev dktX3_above_1 : List UInt8 := dkwX3_above_1 ++ dktX3_above_2
def dkwX3_above_0 : List UInt8 := [26]
abbrev dktX3_above_0 : List UInt8 := dkwX3_above_0 ++ dktX3_above_1
theorem dksX3_above_0 : cX3_above.data.toList.drop 0 = dktX3_above_0 := by decide +kernel
theorem dksX3_above_1 : cX3_above.data.toList.drop 1 = dktX3_above_1 := dk_seg dksX3_above_0 1 rfl rfl
theorem dksX3_above_2 : cX3_above.data.toList.drop 36 = dktX3_above_2 := dk_seg dksX3_above_1 35 rfl rfl
theorem dX3_above_0 : decode cX3_above 0 = .ok (.iload_n 0, 1) := dk_26 (dk_at dksX3_above_0 0 rfl rfl)
theorem dX3_above_1 : decode cX3_above 1 = .ok (.tableswitch 43 3 7 #[35, 37, 39, 43, 41], 35) := by decide +kernel
theorem dX3_above_36 : decode cX3_above 36 = .ok (.iconst 2, 1) := dk_5 (dk_at dksX3_above_2 0 rfl rfl)
theorem dX3_above_37 : decode cX3_above 37 = .ok (.ireturn, 1) := dk_172 (dk_at dksX3_above_2 1 rfl rfl)
theorem dX3_above_38 : decode cX3_above 38 = .ok (.iconst 1, 1) := dk_4 (dk_at dksX3_above_2 2 rfl rfl)
theorem dX3_above_39 : decode cX3_above 39 = .ok (.ireturn, 1) := dk_172 (dk_at dksX3_above_2 3 rfl rfl)
theorem dX3_above_40 : decode cX3_above 40 = .ok (.iconst 3, 1) := dk_6 (dk_at dksX3_above_2 4 rfl rfl)
theorem dX3_above_41 : decode cX3_above 41 = .ok (.ireturn, 1) := dk_172 (dk_at dksX3_above_2 5 rfl rfl)
theorem dX3_above_42 : decode cX3_above 42 = .ok (.iconst 4, 1) := dk_7 (dk_at dksX3_above_2 6 rfl rfl)
theorem dX3_above_43 : decode cX3_above 43 = .ok (.ireturn, 1) := dk_172 (dk_at dksX3_above_2 7 rfl rfl)
theorem dX3_above_44 : decode cX3_above 44 = .ok (.iconst 0, 1) := dk_3 (dk_at dksX3_above_2 8 rfl rfl)
theorem dX3_above_45 : decode cX3_above 45 = .ok (.ireturn, 1) := dk_172 (dk_at dksX3_above_2 9 rfl rfl)
def dkwX3_owesBy_5 : List UInt8 := [180, 0, 70, 27, 46, 5, 182, 1, 107, 96, 172, 42, 27, 28, 184, 1, 101, 29, 182, 1, 104, 172]
abbrev dktX3_owesBy_5 : List UInt8 := dkwX3_owesBy_5 ++ []
def dkwX3_owesBy_4 : List UInt8 := [182, 1, 104, 172, 42, 16, 80, 182, 1, 95, 42, 27, 7, 29, 182, 1, 104, 54, 4, 21, 4, 42, 27, 42]
abbrev dktX3_owesBy_4 : List UInt8 := dkwX3_owesBy_4 ++ dktX3_owesBy_5
def dkwX3_owesBy_3 : List UInt8 := [182, 1, 95, 42, 27, 3, 29, 182, 1, 104, 116, 172, 42, 16, 41, 182, 1, 95, 42, 27, 5, 29, 4, 96]
abbrev dktX3_owesBy_3 : List UInt8 := dkwX3_owesBy_3 ++ dktX3_owesBy_4
def dkwX3_owesBy_2 : List UInt8 := [42, 16, 10, 182, 1, 95, 42, 27, 42, 180, 0, 70, 27, 46, 29, 182, 1, 98, 5, 104, 172, 42, 16, 30]
abbrev dktX3_owesBy_2 : List UInt8 := dkwX3_owesBy_2 ++ dktX3_owesBy_3
def dkwX3_owesBy_1 : List UInt8 := [170, 0, 0, 0, 0, 0, 130, 0, 0, 0, 0, 0, 0, 0, 7, 0, 0, 0, 47, 0, 0, 0, 130, 0, 0, 0, 68, 0, 0, 0, 83, 0, 0, 0, 130, 0, 0, 0, 130, 0, 0, 0, 130, 0, 0, 0, 99]
abbrev dktX3_owesBy_1 : List UInt8 := dkwX3_owesBy_1 ++ dktX3_owesBy_2
def dkwX3_owesBy_0 : List UInt8 := [28]
abbrev dktX3_owesBy_0 : List UInt8 := dkwX3_owesBy_0 ++ dktX3_owesBy_1
theorem dksX3_owesBy_0 : cX3_owesBy.data.toList.drop 0 = dktX3_owesBy_0 := by decide +kernel
theorem dksX3_owesBy_1 : cX3_owesBy.data.toList.drop 1 = dktX3_owesBy_1 := dk_seg dksX3_owesBy_0 1 rfl rfl
theorem dksX3_owesBy_2 : cX3_owesBy.data.toList.drop 48 = dktX3_owesBy_2 := dk_seg dksX3_owesBy_1 47 rfl rfl
theorem dksX3_owesBy_3 : cX3_owesBy.data.toList.drop 72 = dktX3_owesBy_3 := dk_seg dksX3_owesBy_2 24 rfl rfl
theorem dksX3_owesBy_4 : cX3_owesBy.data.toList.drop 96 = dktX3_owesBy_4 := dk_seg dksX3_owesBy_3 24 rfl rfl
theorem dksX3_owesBy_5 : cX3_owesBy.data.toList.drop 120 = dktX3_owesBy_5 := dk_seg dksX3_owesBy_4 24 rfl rfl
theorem dX3_owesBy_0 : decode cX3_owesBy 0 = .ok (.iload_n 2, 1) := dk_28 (dk_at dksX3_owesBy_0 0 rfl rfl)
theorem dX3_owesBy_1 : decode cX3_owesBy 1 = .ok (.tableswitch 130 0 7 #[47, 130, 68, 83, 130, 130, 130, 99], 47) := by decide +kernel
theorem dX3_owesBy_48 : decode cX3_owesBy 48 = .ok (.aload_n 0, 1) := dk_42 (dk_at dksX3_owesBy_2 0 rfl rfl)
theorem dX3_owesBy_49 : decode cX3_owesBy 49 = .ok (.bipush 10, 2) := dk_16 10 (dk_at dksX3_owesBy_2 1 rfl rfl)
theorem dX3_owesBy_51 : decode cX3_owesBy 51 = .ok (.invokevirtual 351, 3) := dk_182 1 95 (dk_at dksX3_owesBy_2 3 rfl rfl)
theorem dX3_owesBy_54 : decode cX3_owesBy 54 = .ok (.aload_n 0, 1) := dk_42 (dk_at dksX3_owesBy_2 6 rfl rfl)
theorem dX3_owesBy_55 : decode cX3_owesBy 55 = .ok (.iload_n 1, 1) := dk_27 (dk_at dksX3_owesBy_2 7 rfl rfl)
theorem dX3_owesBy_56 : decode cX3_owesBy 56 = .ok (.aload_n 0, 1) := dk_42 (dk_at dksX3_owesBy_2 8 rfl rfl)
theorem dX3_owesBy_57 : decode cX3_owesBy 57 = .ok (.getfield 70, 3) := dk_180 0 70 (dk_at dksX3_owesBy_2 9 rfl rfl)
theorem dX3_owesBy_60 : decode cX3_owesBy 60 = .ok (.iload_n 1, 1) := dk_27 (dk_at dksX3_owesBy_2 12 rfl rfl)
theorem dX3_owesBy_61 : decode cX3_owesBy 61 = .ok (.iaload, 1) := dk_46 (dk_at dksX3_owesBy_2 13 rfl rfl)
theorem dX3_owesBy_62 : decode cX3_owesBy 62 = .ok (.iload_n 3, 1) := dk_29 (dk_at dksX3_owesBy_2 14 rfl rfl)
theorem dX3_owesBy_63 : decode cX3_owesBy 63 = .ok (.invokevirtual 354, 3) := dk_182 1 98 (dk_at dksX3_owesBy_2 15 rfl rfl)
theorem dX3_owesBy_66 : decode cX3_owesBy 66 = .ok (.iconst 2, 1) := dk_5 (dk_at dksX3_owesBy_2 18 rfl rfl)
theorem dX3_owesBy_67 : decode cX3_owesBy 67 = .ok (.imul, 1) := dk_104 (dk_at dksX3_owesBy_2 19 rfl rfl)
theorem dX3_owesBy_68 : decode cX3_owesBy 68 = .ok (.ireturn, 1) := dk_172 (dk_at dksX3_owesBy_2 20 rfl rfl)
theorem dX3_owesBy_69 : decode cX3_owesBy 69 = .ok (.aload_n 0, 1) := dk_42 (dk_at dksX3_owesBy_2 21 rfl rfl)
theorem dX3_owesBy_70 : decode cX3_owesBy 70 = .ok (.bipush 30, 2) := dk_16 30 (dk_at dksX3_owesBy_2 22 rfl rfl)
theorem dX3_owesBy_72 : decode cX3_owesBy 72 = .ok (.invokevirtual 351, 3) := dk_182 1 95 (dk_at dksX3_owesBy_3 0 rfl rfl)
theorem dX3_owesBy_75 : decode cX3_owesBy 75 = .ok (.aload_n 0, 1) := dk_42 (dk_at dksX3_owesBy_3 3 rfl rfl)
theorem dX3_owesBy_76 : decode cX3_owesBy 76 = .ok (.iload_n 1, 1) := dk_27 (dk_at dksX3_owesBy_3 4 rfl rfl)
theorem dX3_owesBy_77 : decode cX3_owesBy 77 = .ok (.iconst 0, 1) := dk_3 (dk_at dksX3_owesBy_3 5 rfl rfl)
theorem dX3_owesBy_78 : decode cX3_owesBy 78 = .ok (.iload_n 3, 1) := dk_29 (dk_at dksX3_owesBy_3 6 rfl rfl)
theorem dX3_owesBy_79 : decode cX3_owesBy 79 = .ok (.invokevirtual 360, 3) := dk_182 1 104 (dk_at dksX3_owesBy_3 7 rfl rfl)
theorem dX3_owesBy_82 : decode cX3_owesBy 82 = .ok (.ineg, 1) := dk_116 (dk_at dksX3_owesBy_3 10 rfl rfl)
theorem dX3_owesBy_83 : decode cX3_owesBy 83 = .ok (.ireturn, 1) := dk_172 (dk_at dksX3_owesBy_3 11 rfl rfl)
theorem dX3_owesBy_84 : decode cX3_owesBy 84 = .ok (.aload_n 0, 1) := dk_42 (dk_at dksX3_owesBy_3 12 rfl rfl)
theorem dX3_owesBy_85 : decode cX3_owesBy 85 = .ok (.bipush 41, 2) := dk_16 41 (dk_at dksX3_owesBy_3 13 rfl rfl)
theorem dX3_owesBy_87 : decode cX3_owesBy 87 = .ok (.invokevirtual 351, 3) := dk_182 1 95 (dk_at dksX3_owesBy_3 15 rfl rfl)
theorem dX3_owesBy_90 : decode cX3_owesBy 90 = .ok (.aload_n 0, 1) := dk_42 (dk_at dksX3_owesBy_3 18 rfl rfl)
theorem dX3_owesBy_91 : decode cX3_owesBy 91 = .ok (.iload_n 1, 1) := dk_27 (dk_at dksX3_owesBy_3 19 rfl rfl)
theorem dX3_owesBy_92 : decode cX3_owesBy 92 = .ok (.iconst 2, 1) := dk_5 (dk_at dksX3_owesBy_3 20 rfl rfl)
theorem dX3_owesBy_93 : decode cX3_owesBy 93 = .ok (.iload_n 3, 1) := dk_29 (dk_at dksX3_owesBy_3 21 rfl rfl)
theorem dX3_owesBy_94 : decode cX3_owesBy 94 = .ok (.iconst 1, 1) := dk_4 (dk_at dksX3_owesBy_3 22 rfl rfl)
theorem dX3_owesBy_95 : decode cX3_owesBy 95 = .ok (.iadd, 1) := dk_96 (dk_at dksX3_owesBy_3 23 rfl rfl)
theorem dX3_owesBy_96 : decode cX3_owesBy 96 = .ok (.invokevirtual 360, 3) := dk_182 1 104 (dk_at dksX3_owesBy_4 0 rfl rfl)
theorem dX3_owesBy_99 : decode cX3_owesBy 99 = .ok (.ireturn, 1) := dk_172 (dk_at dksX3_owesBy_4 3 rfl rfl)
theorem dX3_owesBy_100 : decode cX3_owesBy 100 = .ok (.aload_n 0, 1) := dk_42 (dk_at dksX3_owesBy_4 4 rfl rfl)
theorem dX3_owesBy_101 : decode cX3_owesBy 101 = .ok (.bipush 80, 2) := dk_16 80 (dk_at dksX3_owesBy_4 5 rfl rfl)
theorem dX3_owesBy_103 : decode cX3_owesBy 103 = .ok (.invokevirtual 351, 3) := dk_182 1 95 (dk_at dksX3_owesBy_4 7 rfl rfl)
theorem dX3_owesBy_106 : decode cX3_owesBy 106 = .ok (.aload_n 0, 1) := dk_42 (dk_at dksX3_owesBy_4 10 rfl rfl)
theorem dX3_owesBy_107 : decode cX3_owesBy 107 = .ok (.iload_n 1, 1) := dk_27 (dk_at dksX3_owesBy_4 11 rfl rfl)
theorem dX3_owesBy_108 : decode cX3_owesBy 108 = .ok (.iconst 4, 1) := dk_7 (dk_at dksX3_owesBy_4 12 rfl rfl)
theorem dX3_owesBy_109 : decode cX3_owesBy 109 = .ok (.iload_n 3, 1) := dk_29 (dk_at dksX3_owesBy_4 13 rfl rfl)
theorem dX3_owesBy_110 : decode cX3_owesBy 110 = .ok (.invokevirtual 360, 3) := dk_182 1 104 (dk_at dksX3_owesBy_4 14 rfl rfl)
theorem dX3_owesBy_113 : decode cX3_owesBy 113 = .ok (.istore 4, 2) := dk_54 4 (dk_at dksX3_owesBy_4 17 rfl rfl)
theorem dX3_owesBy_115 : decode cX3_owesBy 115 = .ok (.iload 4, 2) := dk_21 4 (dk_at dksX3_owesBy_4 19 rfl rfl)
theorem dX3_owesBy_117 : decode cX3_owesBy 117 = .ok (.aload_n 0, 1) := dk_42 (dk_at dksX3_owesBy_4 21 rfl rfl)
theorem dX3_owesBy_118 : decode cX3_owesBy 118 = .ok (.iload_n 1, 1) := dk_27 (dk_at dksX3_owesBy_4 22 rfl rfl)
theorem dX3_owesBy_119 : decode cX3_owesBy 119 = .ok (.aload_n 0, 1) := dk_42 (dk_at dksX3_owesBy_4 23 rfl rfl)
theorem dX3_owesBy_120 : decode cX3_owesBy 120 = .ok (.getfield 70, 3) := dk_180 0 70 (dk_at dksX3_owesBy_5 0 rfl rfl)
theorem dX3_owesBy_123 : decode cX3_owesBy 123 = .ok (.iload_n 1, 1) := dk_27 (dk_at dksX3_owesBy_5 3 rfl rfl)
theorem dX3_owesBy_124 : decode cX3_owesBy 124 = .ok (.iaload, 1) := dk_46 (dk_at dksX3_owesBy_5 4 rfl rfl)
theorem dX3_owesBy_125 : decode cX3_owesBy 125 = .ok (.iconst 2, 1) := dk_5 (dk_at dksX3_owesBy_5 5 rfl rfl)
theorem dX3_owesBy_126 : decode cX3_owesBy 126 = .ok (.invokevirtual 363, 3) := dk_182 1 107 (dk_at dksX3_owesBy_5 6 rfl rfl)
theorem dX3_owesBy_129 : decode cX3_owesBy 129 = .ok (.iadd, 1) := dk_96 (dk_at dksX3_owesBy_5 9 rfl rfl)
theorem dX3_owesBy_130 : decode cX3_owesBy 130 = .ok (.ireturn, 1) := dk_172 (dk_at dksX3_owesBy_5 10 rfl rfl)
theorem dX3_owesBy_131 : decode cX3_owesBy 131 = .ok (.aload_n 0, 1) := dk_42 (dk_at dksX3_owesBy_5 11 rfl rfl)
theorem dX3_owesBy_132 : decode cX3_owesBy 132 = .ok (.iload_n 1, 1) := dk_27 (dk_at dksX3_owesBy_5 12 rfl rfl)
theorem dX3_owesBy_133 : decode cX3_owesBy 133 = .ok (.iload_n 2, 1) := dk_28 (dk_at dksX3_owesBy_5 13 rfl rfl)
theorem dX3_owesBy_134 : decode cX3_owesBy 134 = .ok (.invokestatic 357, 3) := dk_184 1 101 (dk_at dksX3_owesBy_5 14 rfl rfl)
theorem dX3_owesBy_137 : decode cX3_owesBy 137 = .ok (.iload_n 3, 1) := dk_29 (dk_at dksX3_owesBy_5 17 rfl rfl)
theorem dX3_owesBy_138 : decode cX3_owesBy 138 = .ok (.invokevirtual 360, 3) := dk_182 1 104 (dk_at dksX3_owesBy_5 18 rfl rfl)
theorem dX3_owesBy_141 : decode cX3_owesBy 141 = .ok (.ireturn, 1) := dk_172 (dk_at dksX3_owesBy_5 21 rfl rfl)
def dkwX3_paysBy_4 : List UInt8 := [180, 0, 70, 27, 46, 5, 182, 1, 98, 100, 172, 42, 27, 28, 184, 1, 101, 29, 182, 1, 107, 172]
abbrev dktX3_paysBy_4 : List UInt8 := dkwX3_paysBy_4 ++ []
def dkwX3_paysBy_3 : List UInt8 := [104, 172, 42, 16, 50, 182, 1, 95, 42, 27, 4, 29, 182, 1, 107, 54, 4, 21, 4, 42, 27, 42]
abbrev dktX3_paysBy_3 : List UInt8 := dkwX3_paysBy_3 ++ dktX3_paysBy_4
def dkwX3_paysBy_2 : List UInt8 := [42, 16, 11, 182, 1, 95, 29, 27, 130, 172, 42, 16, 40, 182, 1, 95, 42, 27, 5, 29, 182, 1, 107, 6]
abbrev dktX3_paysBy_2 : List UInt8 := dkwX3_paysBy_2 ++ dktX3_paysBy_3
def dkwX3_paysBy_1 : List UInt8 := [170, 0, 0, 0, 0, 0, 92, 0, 0, 0, 0, 0, 0, 0, 4, 0, 0, 0, 35, 0, 0, 0, 92, 0, 0, 0, 92, 0, 0, 0, 45, 0, 0, 0, 61]
abbrev dktX3_paysBy_1 : List UInt8 := dkwX3_paysBy_1 ++ dktX3_paysBy_2
def dkwX3_paysBy_0 : List UInt8 := [28]
abbrev dktX3_paysBy_0 : List UInt8 := dkwX3_paysBy_0 ++ dktX3_paysBy_1
theorem dksX3_paysBy_0 : cX3_paysBy.data.toList.drop 0 = dktX3_paysBy_0 := by decide +kernel
theorem dksX3_paysBy_1 : cX3_paysBy.data.toList.drop 1 = dktX3_paysBy_1 := dk_seg dksX3_paysBy_0 1 rfl rfl
theorem dksX3_paysBy_2 : cX3_paysBy.data.toList.drop 36 = dktX3_paysBy_2 := dk_seg dksX3_paysBy_1 35 rfl rfl
theorem dksX3_paysBy_3 : cX3_paysBy.data.toList.drop 60 = dktX3_paysBy_3 := dk_seg dksX3_paysBy_2 24 rfl rfl
theorem dksX3_paysBy_4 : cX3_paysBy.data.toList.drop 82 = dktX3_paysBy_4 := dk_seg dksX3_paysBy_3 22 rfl rfl
theorem dX3_paysBy_0 : decode cX3_paysBy 0 = .ok (.iload_n 2, 1) := dk_28 (dk_at dksX3_paysBy_0 0 rfl rfl)
theorem dX3_paysBy_1 : decode cX3_paysBy 1 = .ok (.tableswitch 92 0 4 #[35, 92, 92, 45, 61], 35) := by decide +kernel
theorem dX3_paysBy_36 : decode cX3_paysBy 36 = .ok (.aload_n 0, 1) := dk_42 (dk_at dksX3_paysBy_2 0 rfl rfl)
theorem dX3_paysBy_37 : decode cX3_paysBy 37 = .ok (.bipush 11, 2) := dk_16 11 (dk_at dksX3_paysBy_2 1 rfl rfl)
theorem dX3_paysBy_39 : decode cX3_paysBy 39 = .ok (.invokevirtual 351, 3) := dk_182 1 95 (dk_at dksX3_paysBy_2 3 rfl rfl)
theorem dX3_paysBy_42 : decode cX3_paysBy 42 = .ok (.iload_n 3, 1) := dk_29 (dk_at dksX3_paysBy_2 6 rfl rfl)
theorem dX3_paysBy_43 : decode cX3_paysBy 43 = .ok (.iload_n 1, 1) := dk_27 (dk_at dksX3_paysBy_2 7 rfl rfl)
theorem dX3_paysBy_44 : decode cX3_paysBy 44 = .ok (.ixor, 1) := dk_130 (dk_at dksX3_paysBy_2 8 rfl rfl)
theorem dX3_paysBy_45 : decode cX3_paysBy 45 = .ok (.ireturn, 1) := dk_172 (dk_at dksX3_paysBy_2 9 rfl rfl)
theorem dX3_paysBy_46 : decode cX3_paysBy 46 = .ok (.aload_n 0, 1) := dk_42 (dk_at dksX3_paysBy_2 10 rfl rfl)
theorem dX3_paysBy_47 : decode cX3_paysBy 47 = .ok (.bipush 40, 2) := dk_16 40 (dk_at dksX3_paysBy_2 11 rfl rfl)
theorem dX3_paysBy_49 : decode cX3_paysBy 49 = .ok (.invokevirtual 351, 3) := dk_182 1 95 (dk_at dksX3_paysBy_2 13 rfl rfl)
theorem dX3_paysBy_52 : decode cX3_paysBy 52 = .ok (.aload_n 0, 1) := dk_42 (dk_at dksX3_paysBy_2 16 rfl rfl)
theorem dX3_paysBy_53 : decode cX3_paysBy 53 = .ok (.iload_n 1, 1) := dk_27 (dk_at dksX3_paysBy_2 17 rfl rfl)
theorem dX3_paysBy_54 : decode cX3_paysBy 54 = .ok (.iconst 2, 1) := dk_5 (dk_at dksX3_paysBy_2 18 rfl rfl)
theorem dX3_paysBy_55 : decode cX3_paysBy 55 = .ok (.iload_n 3, 1) := dk_29 (dk_at dksX3_paysBy_2 19 rfl rfl)
theorem dX3_paysBy_56 : decode cX3_paysBy 56 = .ok (.invokevirtual 363, 3) := dk_182 1 107 (dk_at dksX3_paysBy_2 20 rfl rfl)
theorem dX3_paysBy_59 : decode cX3_paysBy 59 = .ok (.iconst 3, 1) := dk_6 (dk_at dksX3_paysBy_2 23 rfl rfl)
theorem dX3_paysBy_60 : decode cX3_paysBy 60 = .ok (.imul, 1) := dk_104 (dk_at dksX3_paysBy_3 0 rfl rfl)
theorem dX3_paysBy_61 : decode cX3_paysBy 61 = .ok (.ireturn, 1) := dk_172 (dk_at dksX3_paysBy_3 1 rfl rfl)
theorem dX3_paysBy_62 : decode cX3_paysBy 62 = .ok (.aload_n 0, 1) := dk_42 (dk_at dksX3_paysBy_3 2 rfl rfl)
theorem dX3_paysBy_63 : decode cX3_paysBy 63 = .ok (.bipush 50, 2) := dk_16 50 (dk_at dksX3_paysBy_3 3 rfl rfl)
theorem dX3_paysBy_65 : decode cX3_paysBy 65 = .ok (.invokevirtual 351, 3) := dk_182 1 95 (dk_at dksX3_paysBy_3 5 rfl rfl)
theorem dX3_paysBy_68 : decode cX3_paysBy 68 = .ok (.aload_n 0, 1) := dk_42 (dk_at dksX3_paysBy_3 8 rfl rfl)
theorem dX3_paysBy_69 : decode cX3_paysBy 69 = .ok (.iload_n 1, 1) := dk_27 (dk_at dksX3_paysBy_3 9 rfl rfl)
theorem dX3_paysBy_70 : decode cX3_paysBy 70 = .ok (.iconst 1, 1) := dk_4 (dk_at dksX3_paysBy_3 10 rfl rfl)
theorem dX3_paysBy_71 : decode cX3_paysBy 71 = .ok (.iload_n 3, 1) := dk_29 (dk_at dksX3_paysBy_3 11 rfl rfl)
theorem dX3_paysBy_72 : decode cX3_paysBy 72 = .ok (.invokevirtual 363, 3) := dk_182 1 107 (dk_at dksX3_paysBy_3 12 rfl rfl)
theorem dX3_paysBy_75 : decode cX3_paysBy 75 = .ok (.istore 4, 2) := dk_54 4 (dk_at dksX3_paysBy_3 15 rfl rfl)
theorem dX3_paysBy_77 : decode cX3_paysBy 77 = .ok (.iload 4, 2) := dk_21 4 (dk_at dksX3_paysBy_3 17 rfl rfl)
theorem dX3_paysBy_79 : decode cX3_paysBy 79 = .ok (.aload_n 0, 1) := dk_42 (dk_at dksX3_paysBy_3 19 rfl rfl)
theorem dX3_paysBy_80 : decode cX3_paysBy 80 = .ok (.iload_n 1, 1) := dk_27 (dk_at dksX3_paysBy_3 20 rfl rfl)
theorem dX3_paysBy_81 : decode cX3_paysBy 81 = .ok (.aload_n 0, 1) := dk_42 (dk_at dksX3_paysBy_3 21 rfl rfl)
theorem dX3_paysBy_82 : decode cX3_paysBy 82 = .ok (.getfield 70, 3) := dk_180 0 70 (dk_at dksX3_paysBy_4 0 rfl rfl)
theorem dX3_paysBy_85 : decode cX3_paysBy 85 = .ok (.iload_n 1, 1) := dk_27 (dk_at dksX3_paysBy_4 3 rfl rfl)
theorem dX3_paysBy_86 : decode cX3_paysBy 86 = .ok (.iaload, 1) := dk_46 (dk_at dksX3_paysBy_4 4 rfl rfl)
theorem dX3_paysBy_87 : decode cX3_paysBy 87 = .ok (.iconst 2, 1) := dk_5 (dk_at dksX3_paysBy_4 5 rfl rfl)
theorem dX3_paysBy_88 : decode cX3_paysBy 88 = .ok (.invokevirtual 354, 3) := dk_182 1 98 (dk_at dksX3_paysBy_4 6 rfl rfl)
theorem dX3_paysBy_91 : decode cX3_paysBy 91 = .ok (.isub, 1) := dk_100 (dk_at dksX3_paysBy_4 9 rfl rfl)
theorem dX3_paysBy_92 : decode cX3_paysBy 92 = .ok (.ireturn, 1) := dk_172 (dk_at dksX3_paysBy_4 10 rfl rfl)
theorem dX3_paysBy_93 : decode cX3_paysBy 93 = .ok (.aload_n 0, 1) := dk_42 (dk_at dksX3_paysBy_4 11 rfl rfl)
theorem dX3_paysBy_94 : decode cX3_paysBy 94 = .ok (.iload_n 1, 1) := dk_27 (dk_at dksX3_paysBy_4 12 rfl rfl)
theorem dX3_paysBy_95 : decode cX3_paysBy 95 = .ok (.iload_n 2, 1) := dk_28 (dk_at dksX3_paysBy_4 13 rfl rfl)
theorem dX3_paysBy_96 : decode cX3_paysBy 96 = .ok (.invokestatic 357, 3) := dk_184 1 101 (dk_at dksX3_paysBy_4 14 rfl rfl)
theorem dX3_paysBy_99 : decode cX3_paysBy 99 = .ok (.iload_n 3, 1) := dk_29 (dk_at dksX3_paysBy_4 17 rfl rfl)
theorem dX3_paysBy_100 : decode cX3_paysBy 100 = .ok (.invokevirtual 363, 3) := dk_182 1 107 (dk_at dksX3_paysBy_4 18 rfl rfl)
theorem dX3_paysBy_103 : decode cX3_paysBy 103 = .ok (.ireturn, 1) := dk_172 (dk_at dksX3_paysBy_4 21 rfl rfl)
def dkwX3_tells_5 : List UInt8 := [184, 1, 101, 29, 182, 1, 110, 172]
abbrev dktX3_tells_5 : List UInt8 := dkwX3_tells_5 ++ []
def dkwX3_tells_4 : List UInt8 := [8, 130, 172, 42, 16, 81, 182, 1, 95, 42, 27, 7, 29, 182, 1, 110, 4, 100, 172, 42, 27, 28]
abbrev dktX3_tells_4 : List UInt8 := dkwX3_tells_4 ++ dktX3_tells_5
def dkwX3_tells_3 : List UInt8 := [180, 0, 70, 27, 46, 4, 182, 1, 107, 100, 172, 42, 16, 60, 182, 1, 95, 42, 27, 6, 29, 182, 1, 110]
abbrev dktX3_tells_3 : List UInt8 := dkwX3_tells_3 ++ dktX3_tells_4
def dkwX3_tells_2 : List UInt8 := [42, 5, 182, 1, 95, 42, 27, 42, 180, 0, 70, 27, 46, 29, 182, 1, 104, 54, 4, 21, 4, 42, 27, 42]
abbrev dktX3_tells_2 : List UInt8 := dkwX3_tells_2 ++ dktX3_tells_3
def dkwX3_tells_1 : List UInt8 := [171, 0, 0, 0, 0, 0, 102, 0, 0, 0, 3, 0, 0, 0, 0, 0, 0, 0, 35, 0, 0, 0, 5, 0, 0, 0, 70, 0, 0, 0, 7, 0, 0, 0, 86]
abbrev dktX3_tells_1 : List UInt8 := dkwX3_tells_1 ++ dktX3_tells_2
def dkwX3_tells_0 : List UInt8 := [28]
abbrev dktX3_tells_0 : List UInt8 := dkwX3_tells_0 ++ dktX3_tells_1
theorem dksX3_tells_0 : cX3_tells.data.toList.drop 0 = dktX3_tells_0 := by decide +kernel
theorem dksX3_tells_1 : cX3_tells.data.toList.drop 1 = dktX3_tells_1 := dk_seg dksX3_tells_0 1 rfl rfl
theorem dksX3_tells_2 : cX3_tells.data.toList.drop 36 = dktX3_tells_2 := dk_seg dksX3_tells_1 35 rfl rfl
theorem dksX3_tells_3 : cX3_tells.data.toList.drop 60 = dktX3_tells_3 := dk_seg dksX3_tells_2 24 rfl rfl
theorem dksX3_tells_4 : cX3_tells.data.toList.drop 84 = dktX3_tells_4 := dk_seg dksX3_tells_3 24 rfl rfl
theorem dksX3_tells_5 : cX3_tells.data.toList.drop 106 = dktX3_tells_5 := dk_seg dksX3_tells_4 22 rfl rfl
theorem dX3_tells_0 : decode cX3_tells 0 = .ok (.iload_n 2, 1) := dk_28 (dk_at dksX3_tells_0 0 rfl rfl)
theorem dX3_tells_1 : decode cX3_tells 1 = .ok (.lookupswitch 102 #[(0, 35), (5, 70), (7, 86)], 35) := by decide +kernel
theorem dX3_tells_36 : decode cX3_tells 36 = .ok (.aload_n 0, 1) := dk_42 (dk_at dksX3_tells_2 0 rfl rfl)
theorem dX3_tells_37 : decode cX3_tells 37 = .ok (.iconst 2, 1) := dk_5 (dk_at dksX3_tells_2 1 rfl rfl)
theorem dX3_tells_38 : decode cX3_tells 38 = .ok (.invokevirtual 351, 3) := dk_182 1 95 (dk_at dksX3_tells_2 2 rfl rfl)
theorem dX3_tells_41 : decode cX3_tells 41 = .ok (.aload_n 0, 1) := dk_42 (dk_at dksX3_tells_2 5 rfl rfl)
theorem dX3_tells_42 : decode cX3_tells 42 = .ok (.iload_n 1, 1) := dk_27 (dk_at dksX3_tells_2 6 rfl rfl)
theorem dX3_tells_43 : decode cX3_tells 43 = .ok (.aload_n 0, 1) := dk_42 (dk_at dksX3_tells_2 7 rfl rfl)
theorem dX3_tells_44 : decode cX3_tells 44 = .ok (.getfield 70, 3) := dk_180 0 70 (dk_at dksX3_tells_2 8 rfl rfl)
theorem dX3_tells_47 : decode cX3_tells 47 = .ok (.iload_n 1, 1) := dk_27 (dk_at dksX3_tells_2 11 rfl rfl)
theorem dX3_tells_48 : decode cX3_tells 48 = .ok (.iaload, 1) := dk_46 (dk_at dksX3_tells_2 12 rfl rfl)
theorem dX3_tells_49 : decode cX3_tells 49 = .ok (.iload_n 3, 1) := dk_29 (dk_at dksX3_tells_2 13 rfl rfl)
theorem dX3_tells_50 : decode cX3_tells 50 = .ok (.invokevirtual 360, 3) := dk_182 1 104 (dk_at dksX3_tells_2 14 rfl rfl)
theorem dX3_tells_53 : decode cX3_tells 53 = .ok (.istore 4, 2) := dk_54 4 (dk_at dksX3_tells_2 17 rfl rfl)
theorem dX3_tells_55 : decode cX3_tells 55 = .ok (.iload 4, 2) := dk_21 4 (dk_at dksX3_tells_2 19 rfl rfl)
theorem dX3_tells_57 : decode cX3_tells 57 = .ok (.aload_n 0, 1) := dk_42 (dk_at dksX3_tells_2 21 rfl rfl)
theorem dX3_tells_58 : decode cX3_tells 58 = .ok (.iload_n 1, 1) := dk_27 (dk_at dksX3_tells_2 22 rfl rfl)
theorem dX3_tells_59 : decode cX3_tells 59 = .ok (.aload_n 0, 1) := dk_42 (dk_at dksX3_tells_2 23 rfl rfl)
theorem dX3_tells_60 : decode cX3_tells 60 = .ok (.getfield 70, 3) := dk_180 0 70 (dk_at dksX3_tells_3 0 rfl rfl)
theorem dX3_tells_63 : decode cX3_tells 63 = .ok (.iload_n 1, 1) := dk_27 (dk_at dksX3_tells_3 3 rfl rfl)
theorem dX3_tells_64 : decode cX3_tells 64 = .ok (.iaload, 1) := dk_46 (dk_at dksX3_tells_3 4 rfl rfl)
theorem dX3_tells_65 : decode cX3_tells 65 = .ok (.iconst 1, 1) := dk_4 (dk_at dksX3_tells_3 5 rfl rfl)
theorem dX3_tells_66 : decode cX3_tells 66 = .ok (.invokevirtual 363, 3) := dk_182 1 107 (dk_at dksX3_tells_3 6 rfl rfl)
theorem dX3_tells_69 : decode cX3_tells 69 = .ok (.isub, 1) := dk_100 (dk_at dksX3_tells_3 9 rfl rfl)
theorem dX3_tells_70 : decode cX3_tells 70 = .ok (.ireturn, 1) := dk_172 (dk_at dksX3_tells_3 10 rfl rfl)
theorem dX3_tells_71 : decode cX3_tells 71 = .ok (.aload_n 0, 1) := dk_42 (dk_at dksX3_tells_3 11 rfl rfl)
theorem dX3_tells_72 : decode cX3_tells 72 = .ok (.bipush 60, 2) := dk_16 60 (dk_at dksX3_tells_3 12 rfl rfl)
theorem dX3_tells_74 : decode cX3_tells 74 = .ok (.invokevirtual 351, 3) := dk_182 1 95 (dk_at dksX3_tells_3 14 rfl rfl)
theorem dX3_tells_77 : decode cX3_tells 77 = .ok (.aload_n 0, 1) := dk_42 (dk_at dksX3_tells_3 17 rfl rfl)
theorem dX3_tells_78 : decode cX3_tells 78 = .ok (.iload_n 1, 1) := dk_27 (dk_at dksX3_tells_3 18 rfl rfl)
theorem dX3_tells_79 : decode cX3_tells 79 = .ok (.iconst 3, 1) := dk_6 (dk_at dksX3_tells_3 19 rfl rfl)
theorem dX3_tells_80 : decode cX3_tells 80 = .ok (.iload_n 3, 1) := dk_29 (dk_at dksX3_tells_3 20 rfl rfl)
theorem dX3_tells_81 : decode cX3_tells 81 = .ok (.invokevirtual 366, 3) := dk_182 1 110 (dk_at dksX3_tells_3 21 rfl rfl)
theorem dX3_tells_84 : decode cX3_tells 84 = .ok (.iconst 5, 1) := dk_8 (dk_at dksX3_tells_4 0 rfl rfl)
theorem dX3_tells_85 : decode cX3_tells 85 = .ok (.ixor, 1) := dk_130 (dk_at dksX3_tells_4 1 rfl rfl)
theorem dX3_tells_86 : decode cX3_tells 86 = .ok (.ireturn, 1) := dk_172 (dk_at dksX3_tells_4 2 rfl rfl)
theorem dX3_tells_87 : decode cX3_tells 87 = .ok (.aload_n 0, 1) := dk_42 (dk_at dksX3_tells_4 3 rfl rfl)
theorem dX3_tells_88 : decode cX3_tells 88 = .ok (.bipush 81, 2) := dk_16 81 (dk_at dksX3_tells_4 4 rfl rfl)
theorem dX3_tells_90 : decode cX3_tells 90 = .ok (.invokevirtual 351, 3) := dk_182 1 95 (dk_at dksX3_tells_4 6 rfl rfl)
theorem dX3_tells_93 : decode cX3_tells 93 = .ok (.aload_n 0, 1) := dk_42 (dk_at dksX3_tells_4 9 rfl rfl)
theorem dX3_tells_94 : decode cX3_tells 94 = .ok (.iload_n 1, 1) := dk_27 (dk_at dksX3_tells_4 10 rfl rfl)
theorem dX3_tells_95 : decode cX3_tells 95 = .ok (.iconst 4, 1) := dk_7 (dk_at dksX3_tells_4 11 rfl rfl)
theorem dX3_tells_96 : decode cX3_tells 96 = .ok (.iload_n 3, 1) := dk_29 (dk_at dksX3_tells_4 12 rfl rfl)
theorem dX3_tells_97 : decode cX3_tells 97 = .ok (.invokevirtual 366, 3) := dk_182 1 110 (dk_at dksX3_tells_4 13 rfl rfl)
theorem dX3_tells_100 : decode cX3_tells 100 = .ok (.iconst 1, 1) := dk_4 (dk_at dksX3_tells_4 16 rfl rfl)
theorem dX3_tells_101 : decode cX3_tells 101 = .ok (.isub, 1) := dk_100 (dk_at dksX3_tells_4 17 rfl rfl)
theorem dX3_tells_102 : decode cX3_tells 102 = .ok (.ireturn, 1) := dk_172 (dk_at dksX3_tells_4 18 rfl rfl)
theorem dX3_tells_103 : decode cX3_tells 103 = .ok (.aload_n 0, 1) := dk_42 (dk_at dksX3_tells_4 19 rfl rfl)
theorem dX3_tells_104 : decode cX3_tells 104 = .ok (.iload_n 1, 1) := dk_27 (dk_at dksX3_tells_4 20 rfl rfl)
theorem dX3_tells_105 : decode cX3_tells 105 = .ok (.iload_n 2, 1) := dk_28 (dk_at dksX3_tells_4 21 rfl rfl)
theorem dX3_tells_106 : decode cX3_tells 106 = .ok (.invokestatic 357, 3) := dk_184 1 101 (dk_at dksX3_tells_5 0 rfl rfl)
theorem dX3_tells_109 : decode cX3_tells 109 = .ok (.iload_n 3, 1) := dk_29 (dk_at dksX3_tells_5 3 rfl rfl)
theorem dX3_tells_110 : decode cX3_tells 110 = .ok (.invokevirtual 366, 3) := dk_182 1 110 (dk_at dksX3_tells_5 4 rfl rfl)
theorem dX3_tells_113 : decode cX3_tells 113 = .ok (.ireturn, 1) := dk_172 (dk_at dksX3_tells_5 7 rfl rfl)
def dkwX3_trace_1 : List UInt8 := [46, 167, 0, 4, 2, 172]
abbrev dktX3_trace_1 : List UInt8 := dkwX3_trace_1 ++ []
def dkwX3_trace_0 : List UInt8 := [27, 3, 16, 24, 42, 180, 1, 92, 184, 0, 230, 4, 100, 184, 0, 119, 153, 0, 12, 42, 180, 0, 73, 27]
abbrev dktX3_trace_0 : List UInt8 := dkwX3_trace_0 ++ dktX3_trace_1
theorem dksX3_trace_0 : cX3_trace.data.toList.drop 0 = dktX3_trace_0 := by decide +kernel
theorem dksX3_trace_1 : cX3_trace.data.toList.drop 24 = dktX3_trace_1 := dk_seg dksX3_trace_0 24 rfl rfl
theorem dX3_trace_0 : decode cX3_trace 0 = .ok (.iload_n 1, 1) := dk_27 (dk_at dksX3_trace_0 0 rfl rfl)
theorem dX3_trace_1 : decode cX3_trace 1 = .ok (.iconst 0, 1) := dk_3 (dk_at dksX3_trace_0 1 rfl rfl)
theorem dX3_trace_2 : decode cX3_trace 2 = .ok (.bipush 24, 2) := dk_16 24 (dk_at dksX3_trace_0 2 rfl rfl)
theorem dX3_trace_4 : decode cX3_trace 4 = .ok (.aload_n 0, 1) := dk_42 (dk_at dksX3_trace_0 4 rfl rfl)
theorem dX3_trace_5 : decode cX3_trace 5 = .ok (.getfield 348, 3) := dk_180 1 92 (dk_at dksX3_trace_0 5 rfl rfl)
theorem dX3_trace_8 : decode cX3_trace 8 = .ok (.invokestatic 230, 3) := dk_184 0 230 (dk_at dksX3_trace_0 8 rfl rfl)
theorem dX3_trace_11 : decode cX3_trace 11 = .ok (.iconst 1, 1) := dk_4 (dk_at dksX3_trace_0 11 rfl rfl)
theorem dX3_trace_12 : decode cX3_trace 12 = .ok (.isub, 1) := dk_100 (dk_at dksX3_trace_0 12 rfl rfl)
theorem dX3_trace_13 : decode cX3_trace 13 = .ok (.invokestatic 119, 3) := dk_184 0 119 (dk_at dksX3_trace_0 13 rfl rfl)
theorem dX3_trace_16 : decode cX3_trace 16 = .ok (.ifCond .eq 12, 3) := dk_153 0 12 (dk_at dksX3_trace_0 16 rfl rfl)
theorem dX3_trace_19 : decode cX3_trace 19 = .ok (.aload_n 0, 1) := dk_42 (dk_at dksX3_trace_0 19 rfl rfl)
theorem dX3_trace_20 : decode cX3_trace 20 = .ok (.getfield 73, 3) := dk_180 0 73 (dk_at dksX3_trace_0 20 rfl rfl)
theorem dX3_trace_23 : decode cX3_trace 23 = .ok (.iload_n 1, 1) := dk_27 (dk_at dksX3_trace_0 23 rfl rfl)
theorem dX3_trace_24 : decode cX3_trace 24 = .ok (.iaload, 1) := dk_46 (dk_at dksX3_trace_1 0 rfl rfl)
theorem dX3_trace_25 : decode cX3_trace 25 = .ok (.goto 4, 3) := dk_167 0 4 (dk_at dksX3_trace_1 1 rfl rfl)
theorem dX3_trace_28 : decode cX3_trace 28 = .ok (.iconst (-1), 1) := dk_2 (dk_at dksX3_trace_1 4 rfl rfl)
theorem dX3_trace_29 : decode cX3_trace 29 = .ok (.ireturn, 1) := dk_172 (dk_at dksX3_trace_1 5 rfl rfl)
def dkwX3_keep_2 : List UInt8 := [4, 172]
abbrev dktX3_keep_2 : List UInt8 := dkwX3_keep_2 ++ []
def dkwX3_keep_1 : List UInt8 := [180, 0, 76, 27, 28, 156, 0, 7, 2, 167, 0, 7, 16, 10, 28, 96, 79, 42, 180, 0, 79, 27, 3, 79]
abbrev dktX3_keep_1 : List UInt8 := dkwX3_keep_1 ++ dktX3_keep_2
def dkwX3_keep_0 : List UInt8 := [27, 184, 0, 127, 153, 0, 17, 28, 2, 42, 180, 1, 113, 4, 100, 184, 0, 119, 154, 0, 5, 2, 172, 42]
abbrev dktX3_keep_0 : List UInt8 := dkwX3_keep_0 ++ dktX3_keep_1
theorem dksX3_keep_0 : cX3_keep.data.toList.drop 0 = dktX3_keep_0 := by decide +kernel
theorem dksX3_keep_1 : cX3_keep.data.toList.drop 24 = dktX3_keep_1 := dk_seg dksX3_keep_0 24 rfl rfl
theorem dksX3_keep_2 : cX3_keep.data.toList.drop 48 = dktX3_keep_2 := dk_seg dksX3_keep_1 24 rfl rfl
theorem dX3_keep_0 : decode cX3_keep 0 = .ok (.iload_n 1, 1) := dk_27 (dk_at dksX3_keep_0 0 rfl rfl)
theorem dX3_keep_1 : decode cX3_keep 1 = .ok (.invokestatic 127, 3) := dk_184 0 127 (dk_at dksX3_keep_0 1 rfl rfl)
theorem dX3_keep_4 : decode cX3_keep 4 = .ok (.ifCond .eq 17, 3) := dk_153 0 17 (dk_at dksX3_keep_0 4 rfl rfl)
theorem dX3_keep_7 : decode cX3_keep 7 = .ok (.iload_n 2, 1) := dk_28 (dk_at dksX3_keep_0 7 rfl rfl)
theorem dX3_keep_8 : decode cX3_keep 8 = .ok (.iconst (-1), 1) := dk_2 (dk_at dksX3_keep_0 8 rfl rfl)
theorem dX3_keep_9 : decode cX3_keep 9 = .ok (.aload_n 0, 1) := dk_42 (dk_at dksX3_keep_0 9 rfl rfl)
theorem dX3_keep_10 : decode cX3_keep 10 = .ok (.getfield 369, 3) := dk_180 1 113 (dk_at dksX3_keep_0 10 rfl rfl)
theorem dX3_keep_13 : decode cX3_keep 13 = .ok (.iconst 1, 1) := dk_4 (dk_at dksX3_keep_0 13 rfl rfl)
theorem dX3_keep_14 : decode cX3_keep 14 = .ok (.isub, 1) := dk_100 (dk_at dksX3_keep_0 14 rfl rfl)
theorem dX3_keep_15 : decode cX3_keep 15 = .ok (.invokestatic 119, 3) := dk_184 0 119 (dk_at dksX3_keep_0 15 rfl rfl)
theorem dX3_keep_18 : decode cX3_keep 18 = .ok (.ifCond .ne 5, 3) := dk_154 0 5 (dk_at dksX3_keep_0 18 rfl rfl)
theorem dX3_keep_21 : decode cX3_keep 21 = .ok (.iconst (-1), 1) := dk_2 (dk_at dksX3_keep_0 21 rfl rfl)
theorem dX3_keep_22 : decode cX3_keep 22 = .ok (.ireturn, 1) := dk_172 (dk_at dksX3_keep_0 22 rfl rfl)
theorem dX3_keep_23 : decode cX3_keep 23 = .ok (.aload_n 0, 1) := dk_42 (dk_at dksX3_keep_0 23 rfl rfl)
theorem dX3_keep_24 : decode cX3_keep 24 = .ok (.getfield 76, 3) := dk_180 0 76 (dk_at dksX3_keep_1 0 rfl rfl)
theorem dX3_keep_27 : decode cX3_keep 27 = .ok (.iload_n 1, 1) := dk_27 (dk_at dksX3_keep_1 3 rfl rfl)
theorem dX3_keep_28 : decode cX3_keep 28 = .ok (.iload_n 2, 1) := dk_28 (dk_at dksX3_keep_1 4 rfl rfl)
theorem dX3_keep_29 : decode cX3_keep 29 = .ok (.ifCond .ge 7, 3) := dk_156 0 7 (dk_at dksX3_keep_1 5 rfl rfl)
theorem dX3_keep_32 : decode cX3_keep 32 = .ok (.iconst (-1), 1) := dk_2 (dk_at dksX3_keep_1 8 rfl rfl)
theorem dX3_keep_33 : decode cX3_keep 33 = .ok (.goto 7, 3) := dk_167 0 7 (dk_at dksX3_keep_1 9 rfl rfl)
theorem dX3_keep_36 : decode cX3_keep 36 = .ok (.bipush 10, 2) := dk_16 10 (dk_at dksX3_keep_1 12 rfl rfl)
theorem dX3_keep_38 : decode cX3_keep 38 = .ok (.iload_n 2, 1) := dk_28 (dk_at dksX3_keep_1 14 rfl rfl)
theorem dX3_keep_39 : decode cX3_keep 39 = .ok (.iadd, 1) := dk_96 (dk_at dksX3_keep_1 15 rfl rfl)
theorem dX3_keep_40 : decode cX3_keep 40 = .ok (.iastore, 1) := dk_79 (dk_at dksX3_keep_1 16 rfl rfl)
theorem dX3_keep_41 : decode cX3_keep 41 = .ok (.aload_n 0, 1) := dk_42 (dk_at dksX3_keep_1 17 rfl rfl)
theorem dX3_keep_42 : decode cX3_keep 42 = .ok (.getfield 79, 3) := dk_180 0 79 (dk_at dksX3_keep_1 18 rfl rfl)
theorem dX3_keep_45 : decode cX3_keep 45 = .ok (.iload_n 1, 1) := dk_27 (dk_at dksX3_keep_1 21 rfl rfl)
theorem dX3_keep_46 : decode cX3_keep 46 = .ok (.iconst 0, 1) := dk_3 (dk_at dksX3_keep_1 22 rfl rfl)
theorem dX3_keep_47 : decode cX3_keep 47 = .ok (.iastore, 1) := dk_79 (dk_at dksX3_keep_1 23 rfl rfl)
theorem dX3_keep_48 : decode cX3_keep 48 = .ok (.iconst 1, 1) := dk_4 (dk_at dksX3_keep_2 0 rfl rfl)
theorem dX3_keep_49 : decode cX3_keep 49 = .ok (.ireturn, 1) := dk_172 (dk_at dksX3_keep_2 1 rfl rfl)
def dkwX3_row_3 : List UInt8 := [167, 255, 233, 4, 172]
abbrev dktX3_row_3 : List UInt8 := dkwX3_row_3 ++ []
def dkwX3_row_2 : List UInt8 := [21, 4, 16, 60, 162, 0, 22, 42, 180, 0, 82, 16, 60, 27, 104, 21, 4, 96, 9, 80, 132, 4, 1]
abbrev dktX3_row_2 : List UInt8 := dkwX3_row_2 ++ dktX3_row_3
def dkwX3_row_1 : List UInt8 := [29, 156, 0, 6, 16, 242, 172, 42, 180, 0, 76, 27, 28, 79, 42, 180, 0, 79, 27, 29, 79, 3, 54, 4]
abbrev dktX3_row_1 : List UInt8 := dkwX3_row_1 ++ dktX3_row_2
def dkwX3_row_0 : List UInt8 := [27, 184, 0, 127, 153, 0, 18, 28, 3, 7, 184, 0, 119, 153, 0, 9, 29, 16, 60, 164, 0, 5, 2, 172]
abbrev dktX3_row_0 : List UInt8 := dkwX3_row_0 ++ dktX3_row_1
theorem dksX3_row_0 : cX3_row.data.toList.drop 0 = dktX3_row_0 := by decide +kernel
theorem dksX3_row_1 : cX3_row.data.toList.drop 24 = dktX3_row_1 := dk_seg dksX3_row_0 24 rfl rfl
theorem dksX3_row_2 : cX3_row.data.toList.drop 48 = dktX3_row_2 := dk_seg dksX3_row_1 24 rfl rfl
theorem dksX3_row_3 : cX3_row.data.toList.drop 71 = dktX3_row_3 := dk_seg dksX3_row_2 23 rfl rfl
theorem dX3_row_0 : decode cX3_row 0 = .ok (.iload_n 1, 1) := dk_27 (dk_at dksX3_row_0 0 rfl rfl)
theorem dX3_row_1 : decode cX3_row 1 = .ok (.invokestatic 127, 3) := dk_184 0 127 (dk_at dksX3_row_0 1 rfl rfl)
theorem dX3_row_4 : decode cX3_row 4 = .ok (.ifCond .eq 18, 3) := dk_153 0 18 (dk_at dksX3_row_0 4 rfl rfl)
theorem dX3_row_7 : decode cX3_row 7 = .ok (.iload_n 2, 1) := dk_28 (dk_at dksX3_row_0 7 rfl rfl)
theorem dX3_row_8 : decode cX3_row 8 = .ok (.iconst 0, 1) := dk_3 (dk_at dksX3_row_0 8 rfl rfl)
theorem dX3_row_9 : decode cX3_row 9 = .ok (.iconst 4, 1) := dk_7 (dk_at dksX3_row_0 9 rfl rfl)
theorem dX3_row_10 : decode cX3_row 10 = .ok (.invokestatic 119, 3) := dk_184 0 119 (dk_at dksX3_row_0 10 rfl rfl)
theorem dX3_row_13 : decode cX3_row 13 = .ok (.ifCond .eq 9, 3) := dk_153 0 9 (dk_at dksX3_row_0 13 rfl rfl)
theorem dX3_row_16 : decode cX3_row 16 = .ok (.iload_n 3, 1) := dk_29 (dk_at dksX3_row_0 16 rfl rfl)
theorem dX3_row_17 : decode cX3_row 17 = .ok (.bipush 60, 2) := dk_16 60 (dk_at dksX3_row_0 17 rfl rfl)
theorem dX3_row_19 : decode cX3_row 19 = .ok (.if_icmp .le 5, 3) := dk_164 0 5 (dk_at dksX3_row_0 19 rfl rfl)
theorem dX3_row_22 : decode cX3_row 22 = .ok (.iconst (-1), 1) := dk_2 (dk_at dksX3_row_0 22 rfl rfl)
theorem dX3_row_23 : decode cX3_row 23 = .ok (.ireturn, 1) := dk_172 (dk_at dksX3_row_0 23 rfl rfl)
theorem dX3_row_24 : decode cX3_row 24 = .ok (.iload_n 3, 1) := dk_29 (dk_at dksX3_row_1 0 rfl rfl)
theorem dX3_row_25 : decode cX3_row 25 = .ok (.ifCond .ge 6, 3) := dk_156 0 6 (dk_at dksX3_row_1 1 rfl rfl)
theorem dX3_row_28 : decode cX3_row 28 = .ok (.bipush (-14), 2) := dk_16 242 (dk_at dksX3_row_1 4 rfl rfl)
theorem dX3_row_30 : decode cX3_row 30 = .ok (.ireturn, 1) := dk_172 (dk_at dksX3_row_1 6 rfl rfl)
theorem dX3_row_31 : decode cX3_row 31 = .ok (.aload_n 0, 1) := dk_42 (dk_at dksX3_row_1 7 rfl rfl)
theorem dX3_row_32 : decode cX3_row 32 = .ok (.getfield 76, 3) := dk_180 0 76 (dk_at dksX3_row_1 8 rfl rfl)
theorem dX3_row_35 : decode cX3_row 35 = .ok (.iload_n 1, 1) := dk_27 (dk_at dksX3_row_1 11 rfl rfl)
theorem dX3_row_36 : decode cX3_row 36 = .ok (.iload_n 2, 1) := dk_28 (dk_at dksX3_row_1 12 rfl rfl)
theorem dX3_row_37 : decode cX3_row 37 = .ok (.iastore, 1) := dk_79 (dk_at dksX3_row_1 13 rfl rfl)
theorem dX3_row_38 : decode cX3_row 38 = .ok (.aload_n 0, 1) := dk_42 (dk_at dksX3_row_1 14 rfl rfl)
theorem dX3_row_39 : decode cX3_row 39 = .ok (.getfield 79, 3) := dk_180 0 79 (dk_at dksX3_row_1 15 rfl rfl)
theorem dX3_row_42 : decode cX3_row 42 = .ok (.iload_n 1, 1) := dk_27 (dk_at dksX3_row_1 18 rfl rfl)
theorem dX3_row_43 : decode cX3_row 43 = .ok (.iload_n 3, 1) := dk_29 (dk_at dksX3_row_1 19 rfl rfl)
theorem dX3_row_44 : decode cX3_row 44 = .ok (.iastore, 1) := dk_79 (dk_at dksX3_row_1 20 rfl rfl)
theorem dX3_row_45 : decode cX3_row 45 = .ok (.iconst 0, 1) := dk_3 (dk_at dksX3_row_1 21 rfl rfl)
theorem dX3_row_46 : decode cX3_row 46 = .ok (.istore 4, 2) := dk_54 4 (dk_at dksX3_row_1 22 rfl rfl)
theorem dX3_row_48 : decode cX3_row 48 = .ok (.iload 4, 2) := dk_21 4 (dk_at dksX3_row_2 0 rfl rfl)
theorem dX3_row_50 : decode cX3_row 50 = .ok (.bipush 60, 2) := dk_16 60 (dk_at dksX3_row_2 2 rfl rfl)
theorem dX3_row_52 : decode cX3_row 52 = .ok (.if_icmp .ge 22, 3) := dk_162 0 22 (dk_at dksX3_row_2 4 rfl rfl)
theorem dX3_row_55 : decode cX3_row 55 = .ok (.aload_n 0, 1) := dk_42 (dk_at dksX3_row_2 7 rfl rfl)
theorem dX3_row_56 : decode cX3_row 56 = .ok (.getfield 82, 3) := dk_180 0 82 (dk_at dksX3_row_2 8 rfl rfl)
theorem dX3_row_59 : decode cX3_row 59 = .ok (.bipush 60, 2) := dk_16 60 (dk_at dksX3_row_2 11 rfl rfl)
theorem dX3_row_61 : decode cX3_row 61 = .ok (.iload_n 1, 1) := dk_27 (dk_at dksX3_row_2 13 rfl rfl)
theorem dX3_row_62 : decode cX3_row 62 = .ok (.imul, 1) := dk_104 (dk_at dksX3_row_2 14 rfl rfl)
theorem dX3_row_63 : decode cX3_row 63 = .ok (.iload 4, 2) := dk_21 4 (dk_at dksX3_row_2 15 rfl rfl)
theorem dX3_row_65 : decode cX3_row 65 = .ok (.iadd, 1) := dk_96 (dk_at dksX3_row_2 17 rfl rfl)
theorem dX3_row_66 : decode cX3_row 66 = .ok (.lconst 0, 1) := dk_9 (dk_at dksX3_row_2 18 rfl rfl)
theorem dX3_row_67 : decode cX3_row 67 = .ok (.lastore, 1) := dk_80 (dk_at dksX3_row_2 19 rfl rfl)
theorem dX3_row_68 : decode cX3_row 68 = .ok (.iinc 4 1, 3) := dk_132 4 1 (dk_at dksX3_row_2 20 rfl rfl)
theorem dX3_row_71 : decode cX3_row 71 = .ok (.goto (-23), 3) := dk_167 255 233 (dk_at dksX3_row_3 0 rfl rfl)
theorem dX3_row_74 : decode cX3_row 74 = .ok (.iconst 1, 1) := dk_4 (dk_at dksX3_row_3 3 rfl rfl)
theorem dX3_row_75 : decode cX3_row 75 = .ok (.ireturn, 1) := dk_172 (dk_at dksX3_row_3 4 rfl rfl)
def dkwX3_put_3 : List UInt8 := [184, 1, 119, 80, 4, 172]
abbrev dktX3_put_3 : List UInt8 := dkwX3_put_3 ++ []
def dkwX3_put_2 : List UInt8 := [154, 0, 6, 16, 243, 172, 42, 180, 0, 82, 16, 60, 27, 104, 28, 96, 42, 180, 0, 76, 27, 46, 33]
abbrev dktX3_put_2 : List UInt8 := dkwX3_put_2 ++ dktX3_put_3
def dkwX3_put_1 : List UInt8 := [182, 1, 116, 154, 0, 6, 16, 244, 172, 28, 3, 42, 180, 0, 79, 27, 46, 4, 100, 184, 0, 119]
abbrev dktX3_put_1 : List UInt8 := dkwX3_put_1 ++ dktX3_put_2
def dkwX3_put_0 : List UInt8 := [27, 184, 0, 127, 154, 0, 5, 2, 172, 42, 180, 0, 76, 27, 46, 2, 160, 0, 6, 16, 245, 172, 42, 27]
abbrev dktX3_put_0 : List UInt8 := dkwX3_put_0 ++ dktX3_put_1
theorem dksX3_put_0 : cX3_put.data.toList.drop 0 = dktX3_put_0 := by decide +kernel
theorem dksX3_put_1 : cX3_put.data.toList.drop 24 = dktX3_put_1 := dk_seg dksX3_put_0 24 rfl rfl
theorem dksX3_put_2 : cX3_put.data.toList.drop 46 = dktX3_put_2 := dk_seg dksX3_put_1 22 rfl rfl
theorem dksX3_put_3 : cX3_put.data.toList.drop 69 = dktX3_put_3 := dk_seg dksX3_put_2 23 rfl rfl
theorem dX3_put_0 : decode cX3_put 0 = .ok (.iload_n 1, 1) := dk_27 (dk_at dksX3_put_0 0 rfl rfl)
theorem dX3_put_1 : decode cX3_put 1 = .ok (.invokestatic 127, 3) := dk_184 0 127 (dk_at dksX3_put_0 1 rfl rfl)
theorem dX3_put_4 : decode cX3_put 4 = .ok (.ifCond .ne 5, 3) := dk_154 0 5 (dk_at dksX3_put_0 4 rfl rfl)
theorem dX3_put_7 : decode cX3_put 7 = .ok (.iconst (-1), 1) := dk_2 (dk_at dksX3_put_0 7 rfl rfl)
theorem dX3_put_8 : decode cX3_put 8 = .ok (.ireturn, 1) := dk_172 (dk_at dksX3_put_0 8 rfl rfl)
theorem dX3_put_9 : decode cX3_put 9 = .ok (.aload_n 0, 1) := dk_42 (dk_at dksX3_put_0 9 rfl rfl)
theorem dX3_put_10 : decode cX3_put 10 = .ok (.getfield 76, 3) := dk_180 0 76 (dk_at dksX3_put_0 10 rfl rfl)
theorem dX3_put_13 : decode cX3_put 13 = .ok (.iload_n 1, 1) := dk_27 (dk_at dksX3_put_0 13 rfl rfl)
theorem dX3_put_14 : decode cX3_put 14 = .ok (.iaload, 1) := dk_46 (dk_at dksX3_put_0 14 rfl rfl)
theorem dX3_put_15 : decode cX3_put 15 = .ok (.iconst (-1), 1) := dk_2 (dk_at dksX3_put_0 15 rfl rfl)
theorem dX3_put_16 : decode cX3_put 16 = .ok (.if_icmp .ne 6, 3) := dk_160 0 6 (dk_at dksX3_put_0 16 rfl rfl)
theorem dX3_put_19 : decode cX3_put 19 = .ok (.bipush (-11), 2) := dk_16 245 (dk_at dksX3_put_0 19 rfl rfl)
theorem dX3_put_21 : decode cX3_put 21 = .ok (.ireturn, 1) := dk_172 (dk_at dksX3_put_0 21 rfl rfl)
theorem dX3_put_22 : decode cX3_put 22 = .ok (.aload_n 0, 1) := dk_42 (dk_at dksX3_put_0 22 rfl rfl)
theorem dX3_put_23 : decode cX3_put 23 = .ok (.iload_n 1, 1) := dk_27 (dk_at dksX3_put_0 23 rfl rfl)
theorem dX3_put_24 : decode cX3_put 24 = .ok (.invokevirtual 372, 3) := dk_182 1 116 (dk_at dksX3_put_1 0 rfl rfl)
theorem dX3_put_27 : decode cX3_put 27 = .ok (.ifCond .ne 6, 3) := dk_154 0 6 (dk_at dksX3_put_1 3 rfl rfl)
theorem dX3_put_30 : decode cX3_put 30 = .ok (.bipush (-12), 2) := dk_16 244 (dk_at dksX3_put_1 6 rfl rfl)
theorem dX3_put_32 : decode cX3_put 32 = .ok (.ireturn, 1) := dk_172 (dk_at dksX3_put_1 8 rfl rfl)
theorem dX3_put_33 : decode cX3_put 33 = .ok (.iload_n 2, 1) := dk_28 (dk_at dksX3_put_1 9 rfl rfl)
theorem dX3_put_34 : decode cX3_put 34 = .ok (.iconst 0, 1) := dk_3 (dk_at dksX3_put_1 10 rfl rfl)
theorem dX3_put_35 : decode cX3_put 35 = .ok (.aload_n 0, 1) := dk_42 (dk_at dksX3_put_1 11 rfl rfl)
theorem dX3_put_36 : decode cX3_put 36 = .ok (.getfield 79, 3) := dk_180 0 79 (dk_at dksX3_put_1 12 rfl rfl)
theorem dX3_put_39 : decode cX3_put 39 = .ok (.iload_n 1, 1) := dk_27 (dk_at dksX3_put_1 15 rfl rfl)
theorem dX3_put_40 : decode cX3_put 40 = .ok (.iaload, 1) := dk_46 (dk_at dksX3_put_1 16 rfl rfl)
theorem dX3_put_41 : decode cX3_put 41 = .ok (.iconst 1, 1) := dk_4 (dk_at dksX3_put_1 17 rfl rfl)
theorem dX3_put_42 : decode cX3_put 42 = .ok (.isub, 1) := dk_100 (dk_at dksX3_put_1 18 rfl rfl)
theorem dX3_put_43 : decode cX3_put 43 = .ok (.invokestatic 119, 3) := dk_184 0 119 (dk_at dksX3_put_1 19 rfl rfl)
theorem dX3_put_46 : decode cX3_put 46 = .ok (.ifCond .ne 6, 3) := dk_154 0 6 (dk_at dksX3_put_2 0 rfl rfl)
theorem dX3_put_49 : decode cX3_put 49 = .ok (.bipush (-13), 2) := dk_16 243 (dk_at dksX3_put_2 3 rfl rfl)
theorem dX3_put_51 : decode cX3_put 51 = .ok (.ireturn, 1) := dk_172 (dk_at dksX3_put_2 5 rfl rfl)
theorem dX3_put_52 : decode cX3_put 52 = .ok (.aload_n 0, 1) := dk_42 (dk_at dksX3_put_2 6 rfl rfl)
theorem dX3_put_53 : decode cX3_put 53 = .ok (.getfield 82, 3) := dk_180 0 82 (dk_at dksX3_put_2 7 rfl rfl)
theorem dX3_put_56 : decode cX3_put 56 = .ok (.bipush 60, 2) := dk_16 60 (dk_at dksX3_put_2 10 rfl rfl)
theorem dX3_put_58 : decode cX3_put 58 = .ok (.iload_n 1, 1) := dk_27 (dk_at dksX3_put_2 12 rfl rfl)
theorem dX3_put_59 : decode cX3_put 59 = .ok (.imul, 1) := dk_104 (dk_at dksX3_put_2 13 rfl rfl)
theorem dX3_put_60 : decode cX3_put 60 = .ok (.iload_n 2, 1) := dk_28 (dk_at dksX3_put_2 14 rfl rfl)
theorem dX3_put_61 : decode cX3_put 61 = .ok (.iadd, 1) := dk_96 (dk_at dksX3_put_2 15 rfl rfl)
theorem dX3_put_62 : decode cX3_put 62 = .ok (.aload_n 0, 1) := dk_42 (dk_at dksX3_put_2 16 rfl rfl)
theorem dX3_put_63 : decode cX3_put 63 = .ok (.getfield 76, 3) := dk_180 0 76 (dk_at dksX3_put_2 17 rfl rfl)
theorem dX3_put_66 : decode cX3_put 66 = .ok (.iload_n 1, 1) := dk_27 (dk_at dksX3_put_2 20 rfl rfl)
theorem dX3_put_67 : decode cX3_put 67 = .ok (.iaload, 1) := dk_46 (dk_at dksX3_put_2 21 rfl rfl)
theorem dX3_put_68 : decode cX3_put 68 = .ok (.lload_n 3, 1) := dk_33 (dk_at dksX3_put_2 22 rfl rfl)
theorem dX3_put_69 : decode cX3_put 69 = .ok (.invokestatic 375, 3) := dk_184 1 119 (dk_at dksX3_put_3 0 rfl rfl)
theorem dX3_put_72 : decode cX3_put 72 = .ok (.lastore, 1) := dk_80 (dk_at dksX3_put_3 3 rfl rfl)
theorem dX3_put_73 : decode cX3_put 73 = .ok (.iconst 1, 1) := dk_4 (dk_at dksX3_put_3 4 rfl rfl)
theorem dX3_put_74 : decode cX3_put 74 = .ok (.ireturn, 1) := dk_172 (dk_at dksX3_put_3 5 rfl rfl)
def dkwX3_isRow_0 : List UInt8 := [42, 180, 0, 76, 27, 46, 3, 7, 184, 0, 119, 172]
abbrev dktX3_isRow_0 : List UInt8 := dkwX3_isRow_0 ++ []
theorem dksX3_isRow_0 : cX3_isRow.data.toList.drop 0 = dktX3_isRow_0 := by decide +kernel
theorem dX3_isRow_0 : decode cX3_isRow 0 = .ok (.aload_n 0, 1) := dk_42 (dk_at dksX3_isRow_0 0 rfl rfl)
theorem dX3_isRow_1 : decode cX3_isRow 1 = .ok (.getfield 76, 3) := dk_180 0 76 (dk_at dksX3_isRow_0 1 rfl rfl)
theorem dX3_isRow_4 : decode cX3_isRow 4 = .ok (.iload_n 1, 1) := dk_27 (dk_at dksX3_isRow_0 4 rfl rfl)
theorem dX3_isRow_5 : decode cX3_isRow 5 = .ok (.iaload, 1) := dk_46 (dk_at dksX3_isRow_0 5 rfl rfl)
theorem dX3_isRow_6 : decode cX3_isRow 6 = .ok (.iconst 0, 1) := dk_3 (dk_at dksX3_isRow_0 6 rfl rfl)
theorem dX3_isRow_7 : decode cX3_isRow 7 = .ok (.iconst 4, 1) := dk_7 (dk_at dksX3_isRow_0 7 rfl rfl)
theorem dX3_isRow_8 : decode cX3_isRow 8 = .ok (.invokestatic 119, 3) := dk_184 0 119 (dk_at dksX3_isRow_0 8 rfl rfl)
theorem dX3_isRow_11 : decode cX3_isRow 11 = .ok (.ireturn, 1) := dk_172 (dk_at dksX3_isRow_0 11 rfl rfl)
def dkwX3_kept_3 : List UInt8 := [167, 0, 4, 9, 173]
abbrev dktX3_kept_3 : List UInt8 := dkwX3_kept_3 ++ []
def dkwX3_kept_2 : List UInt8 := [31, 136, 145, 133, 173, 31, 136, 147, 133, 173, 31, 136, 133, 173, 31, 173, 31, 9, 148, 153, 0, 7, 10]
abbrev dktX3_kept_2 : List UInt8 := dkwX3_kept_2 ++ dktX3_kept_3
def dkwX3_kept_1 : List UInt8 := [170, 0, 0, 0, 0, 0, 47, 0, 0, 0, 0, 0, 0, 0, 3, 0, 0, 0, 31, 0, 0, 0, 36, 0, 0, 0, 41, 0, 0, 0, 45]
abbrev dktX3_kept_1 : List UInt8 := dkwX3_kept_1 ++ dktX3_kept_2
def dkwX3_kept_0 : List UInt8 := [26]
abbrev dktX3_kept_0 : List UInt8 := dkwX3_kept_0 ++ dktX3_kept_1
theorem dksX3_kept_0 : cX3_kept.data.toList.drop 0 = dktX3_kept_0 := by decide +kernel
theorem dksX3_kept_1 : cX3_kept.data.toList.drop 1 = dktX3_kept_1 := dk_seg dksX3_kept_0 1 rfl rfl
theorem dksX3_kept_2 : cX3_kept.data.toList.drop 32 = dktX3_kept_2 := dk_seg dksX3_kept_1 31 rfl rfl
theorem dksX3_kept_3 : cX3_kept.data.toList.drop 55 = dktX3_kept_3 := dk_seg dksX3_kept_2 23 rfl rfl
theorem dX3_kept_0 : decode cX3_kept 0 = .ok (.iload_n 0, 1) := dk_26 (dk_at dksX3_kept_0 0 rfl rfl)
theorem dX3_kept_1 : decode cX3_kept 1 = .ok (.tableswitch 47 0 3 #[31, 36, 41, 45], 31) := by decide +kernel
theorem dX3_kept_32 : decode cX3_kept 32 = .ok (.lload_n 1, 1) := dk_31 (dk_at dksX3_kept_2 0 rfl rfl)
theorem dX3_kept_33 : decode cX3_kept 33 = .ok (.l2i, 1) := dk_136 (dk_at dksX3_kept_2 1 rfl rfl)
theorem dX3_kept_34 : decode cX3_kept 34 = .ok (.i2b, 1) := dk_145 (dk_at dksX3_kept_2 2 rfl rfl)
theorem dX3_kept_35 : decode cX3_kept 35 = .ok (.i2l, 1) := dk_133 (dk_at dksX3_kept_2 3 rfl rfl)
theorem dX3_kept_36 : decode cX3_kept 36 = .ok (.lreturn, 1) := dk_173 (dk_at dksX3_kept_2 4 rfl rfl)
theorem dX3_kept_37 : decode cX3_kept 37 = .ok (.lload_n 1, 1) := dk_31 (dk_at dksX3_kept_2 5 rfl rfl)
theorem dX3_kept_38 : decode cX3_kept 38 = .ok (.l2i, 1) := dk_136 (dk_at dksX3_kept_2 6 rfl rfl)
theorem dX3_kept_39 : decode cX3_kept 39 = .ok (.i2s, 1) := dk_147 (dk_at dksX3_kept_2 7 rfl rfl)
theorem dX3_kept_40 : decode cX3_kept 40 = .ok (.i2l, 1) := dk_133 (dk_at dksX3_kept_2 8 rfl rfl)
theorem dX3_kept_41 : decode cX3_kept 41 = .ok (.lreturn, 1) := dk_173 (dk_at dksX3_kept_2 9 rfl rfl)
theorem dX3_kept_42 : decode cX3_kept 42 = .ok (.lload_n 1, 1) := dk_31 (dk_at dksX3_kept_2 10 rfl rfl)
theorem dX3_kept_43 : decode cX3_kept 43 = .ok (.l2i, 1) := dk_136 (dk_at dksX3_kept_2 11 rfl rfl)
theorem dX3_kept_44 : decode cX3_kept 44 = .ok (.i2l, 1) := dk_133 (dk_at dksX3_kept_2 12 rfl rfl)
theorem dX3_kept_45 : decode cX3_kept 45 = .ok (.lreturn, 1) := dk_173 (dk_at dksX3_kept_2 13 rfl rfl)
theorem dX3_kept_46 : decode cX3_kept 46 = .ok (.lload_n 1, 1) := dk_31 (dk_at dksX3_kept_2 14 rfl rfl)
theorem dX3_kept_47 : decode cX3_kept 47 = .ok (.lreturn, 1) := dk_173 (dk_at dksX3_kept_2 15 rfl rfl)
theorem dX3_kept_48 : decode cX3_kept 48 = .ok (.lload_n 1, 1) := dk_31 (dk_at dksX3_kept_2 16 rfl rfl)
theorem dX3_kept_49 : decode cX3_kept 49 = .ok (.lconst 0, 1) := dk_9 (dk_at dksX3_kept_2 17 rfl rfl)
theorem dX3_kept_50 : decode cX3_kept 50 = .ok (.lcmp, 1) := dk_148 (dk_at dksX3_kept_2 18 rfl rfl)
theorem dX3_kept_51 : decode cX3_kept 51 = .ok (.ifCond .eq 7, 3) := dk_153 0 7 (dk_at dksX3_kept_2 19 rfl rfl)
theorem dX3_kept_54 : decode cX3_kept 54 = .ok (.lconst 1, 1) := dk_10 (dk_at dksX3_kept_2 22 rfl rfl)
theorem dX3_kept_55 : decode cX3_kept 55 = .ok (.goto 4, 3) := dk_167 0 4 (dk_at dksX3_kept_3 0 rfl rfl)
theorem dX3_kept_58 : decode cX3_kept 58 = .ok (.lconst 0, 1) := dk_9 (dk_at dksX3_kept_3 3 rfl rfl)
theorem dX3_kept_59 : decode cX3_kept 59 = .ok (.lreturn, 1) := dk_173 (dk_at dksX3_kept_3 4 rfl rfl)
def dkwX3_element_2 : List UInt8 := [173]
abbrev dktX3_element_2 : List UInt8 := dkwX3_element_2 ++ []
def dkwX3_element_1 : List UInt8 := [100, 184, 0, 119, 153, 0, 17, 42, 180, 0, 82, 16, 60, 27, 104, 28, 96, 47, 167, 0, 6, 20, 1, 123]
abbrev dktX3_element_1 : List UInt8 := dkwX3_element_1 ++ dktX3_element_2
def dkwX3_element_0 : List UInt8 := [27, 184, 0, 127, 153, 0, 41, 42, 27, 182, 1, 116, 153, 0, 33, 28, 3, 42, 180, 0, 79, 27, 46, 4]
abbrev dktX3_element_0 : List UInt8 := dkwX3_element_0 ++ dktX3_element_1
theorem dksX3_element_0 : cX3_element.data.toList.drop 0 = dktX3_element_0 := by decide +kernel
theorem dksX3_element_1 : cX3_element.data.toList.drop 24 = dktX3_element_1 := dk_seg dksX3_element_0 24 rfl rfl
theorem dksX3_element_2 : cX3_element.data.toList.drop 48 = dktX3_element_2 := dk_seg dksX3_element_1 24 rfl rfl
theorem dX3_element_0 : decode cX3_element 0 = .ok (.iload_n 1, 1) := dk_27 (dk_at dksX3_element_0 0 rfl rfl)
theorem dX3_element_1 : decode cX3_element 1 = .ok (.invokestatic 127, 3) := dk_184 0 127 (dk_at dksX3_element_0 1 rfl rfl)
theorem dX3_element_4 : decode cX3_element 4 = .ok (.ifCond .eq 41, 3) := dk_153 0 41 (dk_at dksX3_element_0 4 rfl rfl)
theorem dX3_element_7 : decode cX3_element 7 = .ok (.aload_n 0, 1) := dk_42 (dk_at dksX3_element_0 7 rfl rfl)
theorem dX3_element_8 : decode cX3_element 8 = .ok (.iload_n 1, 1) := dk_27 (dk_at dksX3_element_0 8 rfl rfl)
theorem dX3_element_9 : decode cX3_element 9 = .ok (.invokevirtual 372, 3) := dk_182 1 116 (dk_at dksX3_element_0 9 rfl rfl)
theorem dX3_element_12 : decode cX3_element 12 = .ok (.ifCond .eq 33, 3) := dk_153 0 33 (dk_at dksX3_element_0 12 rfl rfl)
theorem dX3_element_15 : decode cX3_element 15 = .ok (.iload_n 2, 1) := dk_28 (dk_at dksX3_element_0 15 rfl rfl)
theorem dX3_element_16 : decode cX3_element 16 = .ok (.iconst 0, 1) := dk_3 (dk_at dksX3_element_0 16 rfl rfl)
theorem dX3_element_17 : decode cX3_element 17 = .ok (.aload_n 0, 1) := dk_42 (dk_at dksX3_element_0 17 rfl rfl)
theorem dX3_element_18 : decode cX3_element 18 = .ok (.getfield 79, 3) := dk_180 0 79 (dk_at dksX3_element_0 18 rfl rfl)
theorem dX3_element_21 : decode cX3_element 21 = .ok (.iload_n 1, 1) := dk_27 (dk_at dksX3_element_0 21 rfl rfl)
theorem dX3_element_22 : decode cX3_element 22 = .ok (.iaload, 1) := dk_46 (dk_at dksX3_element_0 22 rfl rfl)
theorem dX3_element_23 : decode cX3_element 23 = .ok (.iconst 1, 1) := dk_4 (dk_at dksX3_element_0 23 rfl rfl)
theorem dX3_element_24 : decode cX3_element 24 = .ok (.isub, 1) := dk_100 (dk_at dksX3_element_1 0 rfl rfl)
theorem dX3_element_25 : decode cX3_element 25 = .ok (.invokestatic 119, 3) := dk_184 0 119 (dk_at dksX3_element_1 1 rfl rfl)
theorem dX3_element_28 : decode cX3_element 28 = .ok (.ifCond .eq 17, 3) := dk_153 0 17 (dk_at dksX3_element_1 4 rfl rfl)
theorem dX3_element_31 : decode cX3_element 31 = .ok (.aload_n 0, 1) := dk_42 (dk_at dksX3_element_1 7 rfl rfl)
theorem dX3_element_32 : decode cX3_element 32 = .ok (.getfield 82, 3) := dk_180 0 82 (dk_at dksX3_element_1 8 rfl rfl)
theorem dX3_element_35 : decode cX3_element 35 = .ok (.bipush 60, 2) := dk_16 60 (dk_at dksX3_element_1 11 rfl rfl)
theorem dX3_element_37 : decode cX3_element 37 = .ok (.iload_n 1, 1) := dk_27 (dk_at dksX3_element_1 13 rfl rfl)
theorem dX3_element_38 : decode cX3_element 38 = .ok (.imul, 1) := dk_104 (dk_at dksX3_element_1 14 rfl rfl)
theorem dX3_element_39 : decode cX3_element 39 = .ok (.iload_n 2, 1) := dk_28 (dk_at dksX3_element_1 15 rfl rfl)
theorem dX3_element_40 : decode cX3_element 40 = .ok (.iadd, 1) := dk_96 (dk_at dksX3_element_1 16 rfl rfl)
theorem dX3_element_41 : decode cX3_element 41 = .ok (.laload, 1) := dk_47 (dk_at dksX3_element_1 17 rfl rfl)
theorem dX3_element_42 : decode cX3_element 42 = .ok (.goto 6, 3) := dk_167 0 6 (dk_at dksX3_element_1 18 rfl rfl)
theorem dX3_element_45 : decode cX3_element 45 = .ok (.ldc2_w 379, 3) := dk_20 1 123 (dk_at dksX3_element_1 21 rfl rfl)
theorem dX3_element_48 : decode cX3_element 48 = .ok (.lreturn, 1) := dk_173 (dk_at dksX3_element_2 0 rfl rfl)
def dkwX3_shift_9 : List UInt8 := [180, 0, 82, 16, 60, 27, 104, 28, 96, 21, 6, 96, 47, 80, 132, 6, 1, 167, 255, 217, 21, 5, 172]
abbrev dktX3_shift_9 : List UInt8 := dkwX3_shift_9 ++ []
def dkwX3_shift_8 : List UInt8 := [21, 6, 21, 5, 162, 0, 38, 42, 180, 0, 82, 16, 60, 29, 104, 21, 4, 96, 21, 6, 96, 42]
abbrev dktX3_shift_8 : List UInt8 := dkwX3_shift_8 ++ dktX3_shift_9
def dkwX3_shift_7 : List UInt8 := [16, 60, 27, 104, 28, 96, 21, 6, 96, 47, 80, 132, 6, 255, 167, 255, 219, 167, 0, 48, 3, 54, 6]
abbrev dktX3_shift_7 : List UInt8 := dkwX3_shift_7 ++ dktX3_shift_8
def dkwX3_shift_6 : List UInt8 := [21, 6, 155, 0, 38, 42, 180, 0, 82, 16, 60, 29, 104, 21, 4, 96, 21, 6, 96, 42, 180, 0, 82]
abbrev dktX3_shift_6 : List UInt8 := dkwX3_shift_6 ++ dktX3_shift_7
def dkwX3_shift_5 : List UInt8 := [148, 158, 0, 6, 16, 243, 172, 27, 29, 160, 0, 58, 28, 21, 4, 162, 0, 52, 21, 5, 4, 100, 54, 6]
abbrev dktX3_shift_5 : List UInt8 := dkwX3_shift_5 ++ dktX3_shift_6
def dkwX3_shift_4 : List UInt8 := [180, 0, 79, 27, 46, 133, 148, 157, 0, 21, 21, 4, 133, 21, 5, 133, 97, 42, 180, 0, 79, 29, 46, 133]
abbrev dktX3_shift_4 : List UInt8 := dkwX3_shift_4 ++ dktX3_shift_5
def dkwX3_shift_3 : List UInt8 := [16, 244, 172, 21, 5, 155, 0, 47, 28, 155, 0, 43, 21, 4, 155, 0, 38, 28, 133, 21, 5, 133, 97, 42]
abbrev dktX3_shift_3 : List UInt8 := dkwX3_shift_3 ++ dktX3_shift_4
def dkwX3_shift_2 : List UInt8 := [42, 29, 182, 1, 116, 153, 0, 18, 42, 180, 0, 76, 27, 46, 42, 180, 0, 76, 29, 46, 159, 0, 6]
abbrev dktX3_shift_2 : List UInt8 := dkwX3_shift_2 ++ dktX3_shift_3
def dkwX3_shift_1 : List UInt8 := [159, 0, 13, 42, 180, 0, 76, 29, 46, 2, 160, 0, 6, 16, 245, 172, 42, 27, 182, 1, 116, 153, 0, 26]
abbrev dktX3_shift_1 : List UInt8 := dkwX3_shift_1 ++ dktX3_shift_2
def dkwX3_shift_0 : List UInt8 := [27, 184, 0, 127, 153, 0, 10, 29, 184, 0, 127, 154, 0, 5, 2, 172, 42, 180, 0, 76, 27, 46, 2]
abbrev dktX3_shift_0 : List UInt8 := dkwX3_shift_0 ++ dktX3_shift_1
theorem dksX3_shift_0 : cX3_shift.data.toList.drop 0 = dktX3_shift_0 := by decide +kernel
theorem dksX3_shift_1 : cX3_shift.data.toList.drop 23 = dktX3_shift_1 := dk_seg dksX3_shift_0 23 rfl rfl
theorem dksX3_shift_2 : cX3_shift.data.toList.drop 47 = dktX3_shift_2 := dk_seg dksX3_shift_1 24 rfl rfl
theorem dksX3_shift_3 : cX3_shift.data.toList.drop 70 = dktX3_shift_3 := dk_seg dksX3_shift_2 23 rfl rfl
theorem dksX3_shift_4 : cX3_shift.data.toList.drop 94 = dktX3_shift_4 := dk_seg dksX3_shift_3 24 rfl rfl
theorem dksX3_shift_5 : cX3_shift.data.toList.drop 118 = dktX3_shift_5 := dk_seg dksX3_shift_4 24 rfl rfl
theorem dksX3_shift_6 : cX3_shift.data.toList.drop 142 = dktX3_shift_6 := dk_seg dksX3_shift_5 24 rfl rfl
theorem dksX3_shift_7 : cX3_shift.data.toList.drop 165 = dktX3_shift_7 := dk_seg dksX3_shift_6 23 rfl rfl
theorem dksX3_shift_8 : cX3_shift.data.toList.drop 188 = dktX3_shift_8 := dk_seg dksX3_shift_7 23 rfl rfl
theorem dksX3_shift_9 : cX3_shift.data.toList.drop 210 = dktX3_shift_9 := dk_seg dksX3_shift_8 22 rfl rfl
theorem dX3_shift_0 : decode cX3_shift 0 = .ok (.iload_n 1, 1) := dk_27 (dk_at dksX3_shift_0 0 rfl rfl)
theorem dX3_shift_1 : decode cX3_shift 1 = .ok (.invokestatic 127, 3) := dk_184 0 127 (dk_at dksX3_shift_0 1 rfl rfl)
theorem dX3_shift_4 : decode cX3_shift 4 = .ok (.ifCond .eq 10, 3) := dk_153 0 10 (dk_at dksX3_shift_0 4 rfl rfl)
theorem dX3_shift_7 : decode cX3_shift 7 = .ok (.iload_n 3, 1) := dk_29 (dk_at dksX3_shift_0 7 rfl rfl)
theorem dX3_shift_8 : decode cX3_shift 8 = .ok (.invokestatic 127, 3) := dk_184 0 127 (dk_at dksX3_shift_0 8 rfl rfl)
theorem dX3_shift_11 : decode cX3_shift 11 = .ok (.ifCond .ne 5, 3) := dk_154 0 5 (dk_at dksX3_shift_0 11 rfl rfl)
theorem dX3_shift_14 : decode cX3_shift 14 = .ok (.iconst (-1), 1) := dk_2 (dk_at dksX3_shift_0 14 rfl rfl)
theorem dX3_shift_15 : decode cX3_shift 15 = .ok (.ireturn, 1) := dk_172 (dk_at dksX3_shift_0 15 rfl rfl)
theorem dX3_shift_16 : decode cX3_shift 16 = .ok (.aload_n 0, 1) := dk_42 (dk_at dksX3_shift_0 16 rfl rfl)
theorem dX3_shift_17 : decode cX3_shift 17 = .ok (.getfield 76, 3) := dk_180 0 76 (dk_at dksX3_shift_0 17 rfl rfl)
theorem dX3_shift_20 : decode cX3_shift 20 = .ok (.iload_n 1, 1) := dk_27 (dk_at dksX3_shift_0 20 rfl rfl)
theorem dX3_shift_21 : decode cX3_shift 21 = .ok (.iaload, 1) := dk_46 (dk_at dksX3_shift_0 21 rfl rfl)
theorem dX3_shift_22 : decode cX3_shift 22 = .ok (.iconst (-1), 1) := dk_2 (dk_at dksX3_shift_0 22 rfl rfl)
theorem dX3_shift_23 : decode cX3_shift 23 = .ok (.if_icmp .eq 13, 3) := dk_159 0 13 (dk_at dksX3_shift_1 0 rfl rfl)
theorem dX3_shift_26 : decode cX3_shift 26 = .ok (.aload_n 0, 1) := dk_42 (dk_at dksX3_shift_1 3 rfl rfl)
theorem dX3_shift_27 : decode cX3_shift 27 = .ok (.getfield 76, 3) := dk_180 0 76 (dk_at dksX3_shift_1 4 rfl rfl)
theorem dX3_shift_30 : decode cX3_shift 30 = .ok (.iload_n 3, 1) := dk_29 (dk_at dksX3_shift_1 7 rfl rfl)
theorem dX3_shift_31 : decode cX3_shift 31 = .ok (.iaload, 1) := dk_46 (dk_at dksX3_shift_1 8 rfl rfl)
theorem dX3_shift_32 : decode cX3_shift 32 = .ok (.iconst (-1), 1) := dk_2 (dk_at dksX3_shift_1 9 rfl rfl)
theorem dX3_shift_33 : decode cX3_shift 33 = .ok (.if_icmp .ne 6, 3) := dk_160 0 6 (dk_at dksX3_shift_1 10 rfl rfl)
theorem dX3_shift_36 : decode cX3_shift 36 = .ok (.bipush (-11), 2) := dk_16 245 (dk_at dksX3_shift_1 13 rfl rfl)
theorem dX3_shift_38 : decode cX3_shift 38 = .ok (.ireturn, 1) := dk_172 (dk_at dksX3_shift_1 15 rfl rfl)
theorem dX3_shift_39 : decode cX3_shift 39 = .ok (.aload_n 0, 1) := dk_42 (dk_at dksX3_shift_1 16 rfl rfl)
theorem dX3_shift_40 : decode cX3_shift 40 = .ok (.iload_n 1, 1) := dk_27 (dk_at dksX3_shift_1 17 rfl rfl)
theorem dX3_shift_41 : decode cX3_shift 41 = .ok (.invokevirtual 372, 3) := dk_182 1 116 (dk_at dksX3_shift_1 18 rfl rfl)
theorem dX3_shift_44 : decode cX3_shift 44 = .ok (.ifCond .eq 26, 3) := dk_153 0 26 (dk_at dksX3_shift_1 21 rfl rfl)
theorem dX3_shift_47 : decode cX3_shift 47 = .ok (.aload_n 0, 1) := dk_42 (dk_at dksX3_shift_2 0 rfl rfl)
theorem dX3_shift_48 : decode cX3_shift 48 = .ok (.iload_n 3, 1) := dk_29 (dk_at dksX3_shift_2 1 rfl rfl)
theorem dX3_shift_49 : decode cX3_shift 49 = .ok (.invokevirtual 372, 3) := dk_182 1 116 (dk_at dksX3_shift_2 2 rfl rfl)
theorem dX3_shift_52 : decode cX3_shift 52 = .ok (.ifCond .eq 18, 3) := dk_153 0 18 (dk_at dksX3_shift_2 5 rfl rfl)
theorem dX3_shift_55 : decode cX3_shift 55 = .ok (.aload_n 0, 1) := dk_42 (dk_at dksX3_shift_2 8 rfl rfl)
theorem dX3_shift_56 : decode cX3_shift 56 = .ok (.getfield 76, 3) := dk_180 0 76 (dk_at dksX3_shift_2 9 rfl rfl)
theorem dX3_shift_59 : decode cX3_shift 59 = .ok (.iload_n 1, 1) := dk_27 (dk_at dksX3_shift_2 12 rfl rfl)
theorem dX3_shift_60 : decode cX3_shift 60 = .ok (.iaload, 1) := dk_46 (dk_at dksX3_shift_2 13 rfl rfl)
theorem dX3_shift_61 : decode cX3_shift 61 = .ok (.aload_n 0, 1) := dk_42 (dk_at dksX3_shift_2 14 rfl rfl)
theorem dX3_shift_62 : decode cX3_shift 62 = .ok (.getfield 76, 3) := dk_180 0 76 (dk_at dksX3_shift_2 15 rfl rfl)
theorem dX3_shift_65 : decode cX3_shift 65 = .ok (.iload_n 3, 1) := dk_29 (dk_at dksX3_shift_2 18 rfl rfl)
theorem dX3_shift_66 : decode cX3_shift 66 = .ok (.iaload, 1) := dk_46 (dk_at dksX3_shift_2 19 rfl rfl)
theorem dX3_shift_67 : decode cX3_shift 67 = .ok (.if_icmp .eq 6, 3) := dk_159 0 6 (dk_at dksX3_shift_2 20 rfl rfl)
theorem dX3_shift_70 : decode cX3_shift 70 = .ok (.bipush (-12), 2) := dk_16 244 (dk_at dksX3_shift_3 0 rfl rfl)
theorem dX3_shift_72 : decode cX3_shift 72 = .ok (.ireturn, 1) := dk_172 (dk_at dksX3_shift_3 2 rfl rfl)
theorem dX3_shift_73 : decode cX3_shift 73 = .ok (.iload 5, 2) := dk_21 5 (dk_at dksX3_shift_3 3 rfl rfl)
theorem dX3_shift_75 : decode cX3_shift 75 = .ok (.ifCond .lt 47, 3) := dk_155 0 47 (dk_at dksX3_shift_3 5 rfl rfl)
theorem dX3_shift_78 : decode cX3_shift 78 = .ok (.iload_n 2, 1) := dk_28 (dk_at dksX3_shift_3 8 rfl rfl)
theorem dX3_shift_79 : decode cX3_shift 79 = .ok (.ifCond .lt 43, 3) := dk_155 0 43 (dk_at dksX3_shift_3 9 rfl rfl)
theorem dX3_shift_82 : decode cX3_shift 82 = .ok (.iload 4, 2) := dk_21 4 (dk_at dksX3_shift_3 12 rfl rfl)
theorem dX3_shift_84 : decode cX3_shift 84 = .ok (.ifCond .lt 38, 3) := dk_155 0 38 (dk_at dksX3_shift_3 14 rfl rfl)
theorem dX3_shift_87 : decode cX3_shift 87 = .ok (.iload_n 2, 1) := dk_28 (dk_at dksX3_shift_3 17 rfl rfl)
theorem dX3_shift_88 : decode cX3_shift 88 = .ok (.i2l, 1) := dk_133 (dk_at dksX3_shift_3 18 rfl rfl)
theorem dX3_shift_89 : decode cX3_shift 89 = .ok (.iload 5, 2) := dk_21 5 (dk_at dksX3_shift_3 19 rfl rfl)
theorem dX3_shift_91 : decode cX3_shift 91 = .ok (.i2l, 1) := dk_133 (dk_at dksX3_shift_3 21 rfl rfl)
theorem dX3_shift_92 : decode cX3_shift 92 = .ok (.ladd, 1) := dk_97 (dk_at dksX3_shift_3 22 rfl rfl)
theorem dX3_shift_93 : decode cX3_shift 93 = .ok (.aload_n 0, 1) := dk_42 (dk_at dksX3_shift_3 23 rfl rfl)
theorem dX3_shift_94 : decode cX3_shift 94 = .ok (.getfield 79, 3) := dk_180 0 79 (dk_at dksX3_shift_4 0 rfl rfl)
theorem dX3_shift_97 : decode cX3_shift 97 = .ok (.iload_n 1, 1) := dk_27 (dk_at dksX3_shift_4 3 rfl rfl)
theorem dX3_shift_98 : decode cX3_shift 98 = .ok (.iaload, 1) := dk_46 (dk_at dksX3_shift_4 4 rfl rfl)
theorem dX3_shift_99 : decode cX3_shift 99 = .ok (.i2l, 1) := dk_133 (dk_at dksX3_shift_4 5 rfl rfl)
theorem dX3_shift_100 : decode cX3_shift 100 = .ok (.lcmp, 1) := dk_148 (dk_at dksX3_shift_4 6 rfl rfl)
theorem dX3_shift_101 : decode cX3_shift 101 = .ok (.ifCond .gt 21, 3) := dk_157 0 21 (dk_at dksX3_shift_4 7 rfl rfl)
theorem dX3_shift_104 : decode cX3_shift 104 = .ok (.iload 4, 2) := dk_21 4 (dk_at dksX3_shift_4 10 rfl rfl)
theorem dX3_shift_106 : decode cX3_shift 106 = .ok (.i2l, 1) := dk_133 (dk_at dksX3_shift_4 12 rfl rfl)
theorem dX3_shift_107 : decode cX3_shift 107 = .ok (.iload 5, 2) := dk_21 5 (dk_at dksX3_shift_4 13 rfl rfl)
theorem dX3_shift_109 : decode cX3_shift 109 = .ok (.i2l, 1) := dk_133 (dk_at dksX3_shift_4 15 rfl rfl)
theorem dX3_shift_110 : decode cX3_shift 110 = .ok (.ladd, 1) := dk_97 (dk_at dksX3_shift_4 16 rfl rfl)
theorem dX3_shift_111 : decode cX3_shift 111 = .ok (.aload_n 0, 1) := dk_42 (dk_at dksX3_shift_4 17 rfl rfl)
theorem dX3_shift_112 : decode cX3_shift 112 = .ok (.getfield 79, 3) := dk_180 0 79 (dk_at dksX3_shift_4 18 rfl rfl)
theorem dX3_shift_115 : decode cX3_shift 115 = .ok (.iload_n 3, 1) := dk_29 (dk_at dksX3_shift_4 21 rfl rfl)
theorem dX3_shift_116 : decode cX3_shift 116 = .ok (.iaload, 1) := dk_46 (dk_at dksX3_shift_4 22 rfl rfl)
theorem dX3_shift_117 : decode cX3_shift 117 = .ok (.i2l, 1) := dk_133 (dk_at dksX3_shift_4 23 rfl rfl)
theorem dX3_shift_118 : decode cX3_shift 118 = .ok (.lcmp, 1) := dk_148 (dk_at dksX3_shift_5 0 rfl rfl)
theorem dX3_shift_119 : decode cX3_shift 119 = .ok (.ifCond .le 6, 3) := dk_158 0 6 (dk_at dksX3_shift_5 1 rfl rfl)
theorem dX3_shift_122 : decode cX3_shift 122 = .ok (.bipush (-13), 2) := dk_16 243 (dk_at dksX3_shift_5 4 rfl rfl)
theorem dX3_shift_124 : decode cX3_shift 124 = .ok (.ireturn, 1) := dk_172 (dk_at dksX3_shift_5 6 rfl rfl)
theorem dX3_shift_125 : decode cX3_shift 125 = .ok (.iload_n 1, 1) := dk_27 (dk_at dksX3_shift_5 7 rfl rfl)
theorem dX3_shift_126 : decode cX3_shift 126 = .ok (.iload_n 3, 1) := dk_29 (dk_at dksX3_shift_5 8 rfl rfl)
theorem dX3_shift_127 : decode cX3_shift 127 = .ok (.if_icmp .ne 58, 3) := dk_160 0 58 (dk_at dksX3_shift_5 9 rfl rfl)
theorem dX3_shift_130 : decode cX3_shift 130 = .ok (.iload_n 2, 1) := dk_28 (dk_at dksX3_shift_5 12 rfl rfl)
theorem dX3_shift_131 : decode cX3_shift 131 = .ok (.iload 4, 2) := dk_21 4 (dk_at dksX3_shift_5 13 rfl rfl)
theorem dX3_shift_133 : decode cX3_shift 133 = .ok (.if_icmp .ge 52, 3) := dk_162 0 52 (dk_at dksX3_shift_5 15 rfl rfl)
theorem dX3_shift_136 : decode cX3_shift 136 = .ok (.iload 5, 2) := dk_21 5 (dk_at dksX3_shift_5 18 rfl rfl)
theorem dX3_shift_138 : decode cX3_shift 138 = .ok (.iconst 1, 1) := dk_4 (dk_at dksX3_shift_5 20 rfl rfl)
theorem dX3_shift_139 : decode cX3_shift 139 = .ok (.isub, 1) := dk_100 (dk_at dksX3_shift_5 21 rfl rfl)
theorem dX3_shift_140 : decode cX3_shift 140 = .ok (.istore 6, 2) := dk_54 6 (dk_at dksX3_shift_5 22 rfl rfl)
theorem dX3_shift_142 : decode cX3_shift 142 = .ok (.iload 6, 2) := dk_21 6 (dk_at dksX3_shift_6 0 rfl rfl)
theorem dX3_shift_144 : decode cX3_shift 144 = .ok (.ifCond .lt 38, 3) := dk_155 0 38 (dk_at dksX3_shift_6 2 rfl rfl)
theorem dX3_shift_147 : decode cX3_shift 147 = .ok (.aload_n 0, 1) := dk_42 (dk_at dksX3_shift_6 5 rfl rfl)
theorem dX3_shift_148 : decode cX3_shift 148 = .ok (.getfield 82, 3) := dk_180 0 82 (dk_at dksX3_shift_6 6 rfl rfl)
theorem dX3_shift_151 : decode cX3_shift 151 = .ok (.bipush 60, 2) := dk_16 60 (dk_at dksX3_shift_6 9 rfl rfl)
theorem dX3_shift_153 : decode cX3_shift 153 = .ok (.iload_n 3, 1) := dk_29 (dk_at dksX3_shift_6 11 rfl rfl)
theorem dX3_shift_154 : decode cX3_shift 154 = .ok (.imul, 1) := dk_104 (dk_at dksX3_shift_6 12 rfl rfl)
theorem dX3_shift_155 : decode cX3_shift 155 = .ok (.iload 4, 2) := dk_21 4 (dk_at dksX3_shift_6 13 rfl rfl)
theorem dX3_shift_157 : decode cX3_shift 157 = .ok (.iadd, 1) := dk_96 (dk_at dksX3_shift_6 15 rfl rfl)
theorem dX3_shift_158 : decode cX3_shift 158 = .ok (.iload 6, 2) := dk_21 6 (dk_at dksX3_shift_6 16 rfl rfl)
theorem dX3_shift_160 : decode cX3_shift 160 = .ok (.iadd, 1) := dk_96 (dk_at dksX3_shift_6 18 rfl rfl)
theorem dX3_shift_161 : decode cX3_shift 161 = .ok (.aload_n 0, 1) := dk_42 (dk_at dksX3_shift_6 19 rfl rfl)
theorem dX3_shift_162 : decode cX3_shift 162 = .ok (.getfield 82, 3) := dk_180 0 82 (dk_at dksX3_shift_6 20 rfl rfl)
theorem dX3_shift_165 : decode cX3_shift 165 = .ok (.bipush 60, 2) := dk_16 60 (dk_at dksX3_shift_7 0 rfl rfl)
theorem dX3_shift_167 : decode cX3_shift 167 = .ok (.iload_n 1, 1) := dk_27 (dk_at dksX3_shift_7 2 rfl rfl)
theorem dX3_shift_168 : decode cX3_shift 168 = .ok (.imul, 1) := dk_104 (dk_at dksX3_shift_7 3 rfl rfl)
theorem dX3_shift_169 : decode cX3_shift 169 = .ok (.iload_n 2, 1) := dk_28 (dk_at dksX3_shift_7 4 rfl rfl)
theorem dX3_shift_170 : decode cX3_shift 170 = .ok (.iadd, 1) := dk_96 (dk_at dksX3_shift_7 5 rfl rfl)
theorem dX3_shift_171 : decode cX3_shift 171 = .ok (.iload 6, 2) := dk_21 6 (dk_at dksX3_shift_7 6 rfl rfl)
theorem dX3_shift_173 : decode cX3_shift 173 = .ok (.iadd, 1) := dk_96 (dk_at dksX3_shift_7 8 rfl rfl)
theorem dX3_shift_174 : decode cX3_shift 174 = .ok (.laload, 1) := dk_47 (dk_at dksX3_shift_7 9 rfl rfl)
theorem dX3_shift_175 : decode cX3_shift 175 = .ok (.lastore, 1) := dk_80 (dk_at dksX3_shift_7 10 rfl rfl)
theorem dX3_shift_176 : decode cX3_shift 176 = .ok (.iinc 6 (-1), 3) := dk_132 6 255 (dk_at dksX3_shift_7 11 rfl rfl)
theorem dX3_shift_179 : decode cX3_shift 179 = .ok (.goto (-37), 3) := dk_167 255 219 (dk_at dksX3_shift_7 14 rfl rfl)
theorem dX3_shift_182 : decode cX3_shift 182 = .ok (.goto 48, 3) := dk_167 0 48 (dk_at dksX3_shift_7 17 rfl rfl)
theorem dX3_shift_185 : decode cX3_shift 185 = .ok (.iconst 0, 1) := dk_3 (dk_at dksX3_shift_7 20 rfl rfl)
theorem dX3_shift_186 : decode cX3_shift 186 = .ok (.istore 6, 2) := dk_54 6 (dk_at dksX3_shift_7 21 rfl rfl)
theorem dX3_shift_188 : decode cX3_shift 188 = .ok (.iload 6, 2) := dk_21 6 (dk_at dksX3_shift_8 0 rfl rfl)
theorem dX3_shift_190 : decode cX3_shift 190 = .ok (.iload 5, 2) := dk_21 5 (dk_at dksX3_shift_8 2 rfl rfl)
theorem dX3_shift_192 : decode cX3_shift 192 = .ok (.if_icmp .ge 38, 3) := dk_162 0 38 (dk_at dksX3_shift_8 4 rfl rfl)
theorem dX3_shift_195 : decode cX3_shift 195 = .ok (.aload_n 0, 1) := dk_42 (dk_at dksX3_shift_8 7 rfl rfl)
theorem dX3_shift_196 : decode cX3_shift 196 = .ok (.getfield 82, 3) := dk_180 0 82 (dk_at dksX3_shift_8 8 rfl rfl)
theorem dX3_shift_199 : decode cX3_shift 199 = .ok (.bipush 60, 2) := dk_16 60 (dk_at dksX3_shift_8 11 rfl rfl)
theorem dX3_shift_201 : decode cX3_shift 201 = .ok (.iload_n 3, 1) := dk_29 (dk_at dksX3_shift_8 13 rfl rfl)
theorem dX3_shift_202 : decode cX3_shift 202 = .ok (.imul, 1) := dk_104 (dk_at dksX3_shift_8 14 rfl rfl)
theorem dX3_shift_203 : decode cX3_shift 203 = .ok (.iload 4, 2) := dk_21 4 (dk_at dksX3_shift_8 15 rfl rfl)
theorem dX3_shift_205 : decode cX3_shift 205 = .ok (.iadd, 1) := dk_96 (dk_at dksX3_shift_8 17 rfl rfl)
theorem dX3_shift_206 : decode cX3_shift 206 = .ok (.iload 6, 2) := dk_21 6 (dk_at dksX3_shift_8 18 rfl rfl)
theorem dX3_shift_208 : decode cX3_shift 208 = .ok (.iadd, 1) := dk_96 (dk_at dksX3_shift_8 20 rfl rfl)
theorem dX3_shift_209 : decode cX3_shift 209 = .ok (.aload_n 0, 1) := dk_42 (dk_at dksX3_shift_8 21 rfl rfl)
theorem dX3_shift_210 : decode cX3_shift 210 = .ok (.getfield 82, 3) := dk_180 0 82 (dk_at dksX3_shift_9 0 rfl rfl)
theorem dX3_shift_213 : decode cX3_shift 213 = .ok (.bipush 60, 2) := dk_16 60 (dk_at dksX3_shift_9 3 rfl rfl)
theorem dX3_shift_215 : decode cX3_shift 215 = .ok (.iload_n 1, 1) := dk_27 (dk_at dksX3_shift_9 5 rfl rfl)
theorem dX3_shift_216 : decode cX3_shift 216 = .ok (.imul, 1) := dk_104 (dk_at dksX3_shift_9 6 rfl rfl)
theorem dX3_shift_217 : decode cX3_shift 217 = .ok (.iload_n 2, 1) := dk_28 (dk_at dksX3_shift_9 7 rfl rfl)
theorem dX3_shift_218 : decode cX3_shift 218 = .ok (.iadd, 1) := dk_96 (dk_at dksX3_shift_9 8 rfl rfl)
theorem dX3_shift_219 : decode cX3_shift 219 = .ok (.iload 6, 2) := dk_21 6 (dk_at dksX3_shift_9 9 rfl rfl)
theorem dX3_shift_221 : decode cX3_shift 221 = .ok (.iadd, 1) := dk_96 (dk_at dksX3_shift_9 11 rfl rfl)
theorem dX3_shift_222 : decode cX3_shift 222 = .ok (.laload, 1) := dk_47 (dk_at dksX3_shift_9 12 rfl rfl)
theorem dX3_shift_223 : decode cX3_shift 223 = .ok (.lastore, 1) := dk_80 (dk_at dksX3_shift_9 13 rfl rfl)
theorem dX3_shift_224 : decode cX3_shift 224 = .ok (.iinc 6 1, 3) := dk_132 6 1 (dk_at dksX3_shift_9 14 rfl rfl)
theorem dX3_shift_227 : decode cX3_shift 227 = .ok (.goto (-39), 3) := dk_167 255 217 (dk_at dksX3_shift_9 17 rfl rfl)
theorem dX3_shift_230 : decode cX3_shift 230 = .ok (.iload 5, 2) := dk_21 5 (dk_at dksX3_shift_9 20 rfl rfl)
theorem dX3_shift_232 : decode cX3_shift 232 = .ok (.ireturn, 1) := dk_172 (dk_at dksX3_shift_9 22 rfl rfl)
def dkwX3_taken_3 : List UInt8 := [21, 4, 184, 1, 101, 54, 4, 167, 255, 238, 21, 4, 28, 160, 0, 7, 29, 167, 0, 5, 16, 244, 172]
abbrev dktX3_taken_3 : List UInt8 := dkwX3_taken_3 ++ []
def dkwX3_taken_2 : List UInt8 := [180, 0, 76, 27, 46, 16, 10, 100, 46, 62, 29, 54, 4, 21, 4, 28, 159, 0, 18, 21, 4, 158, 0, 13]
abbrev dktX3_taken_2 : List UInt8 := dkwX3_taken_2 ++ dktX3_taken_3
def dkwX3_taken_1 : List UInt8 := [46, 2, 160, 0, 6, 16, 245, 172, 42, 27, 182, 1, 116, 153, 0, 6, 16, 244, 172, 42, 180, 0, 70, 42]
abbrev dktX3_taken_1 : List UInt8 := dkwX3_taken_1 ++ dktX3_taken_2
def dkwX3_taken_0 : List UInt8 := [27, 184, 0, 127, 153, 0, 13, 28, 3, 16, 7, 184, 0, 119, 154, 0, 5, 2, 172, 42, 180, 0, 76, 27]
abbrev dktX3_taken_0 : List UInt8 := dkwX3_taken_0 ++ dktX3_taken_1
theorem dksX3_taken_0 : cX3_taken.data.toList.drop 0 = dktX3_taken_0 := by decide +kernel
theorem dksX3_taken_1 : cX3_taken.data.toList.drop 24 = dktX3_taken_1 := dk_seg dksX3_taken_0 24 rfl rfl
theorem dksX3_taken_2 : cX3_taken.data.toList.drop 48 = dktX3_taken_2 := dk_seg dksX3_taken_1 24 rfl rfl
theorem dksX3_taken_3 : cX3_taken.data.toList.drop 72 = dktX3_taken_3 := dk_seg dksX3_taken_2 24 rfl rfl
theorem dX3_taken_0 : decode cX3_taken 0 = .ok (.iload_n 1, 1) := dk_27 (dk_at dksX3_taken_0 0 rfl rfl)
theorem dX3_taken_1 : decode cX3_taken 1 = .ok (.invokestatic 127, 3) := dk_184 0 127 (dk_at dksX3_taken_0 1 rfl rfl)
theorem dX3_taken_4 : decode cX3_taken 4 = .ok (.ifCond .eq 13, 3) := dk_153 0 13 (dk_at dksX3_taken_0 4 rfl rfl)
theorem dX3_taken_7 : decode cX3_taken 7 = .ok (.iload_n 2, 1) := dk_28 (dk_at dksX3_taken_0 7 rfl rfl)
theorem dX3_taken_8 : decode cX3_taken 8 = .ok (.iconst 0, 1) := dk_3 (dk_at dksX3_taken_0 8 rfl rfl)
theorem dX3_taken_9 : decode cX3_taken 9 = .ok (.bipush 7, 2) := dk_16 7 (dk_at dksX3_taken_0 9 rfl rfl)
theorem dX3_taken_11 : decode cX3_taken 11 = .ok (.invokestatic 119, 3) := dk_184 0 119 (dk_at dksX3_taken_0 11 rfl rfl)
theorem dX3_taken_14 : decode cX3_taken 14 = .ok (.ifCond .ne 5, 3) := dk_154 0 5 (dk_at dksX3_taken_0 14 rfl rfl)
theorem dX3_taken_17 : decode cX3_taken 17 = .ok (.iconst (-1), 1) := dk_2 (dk_at dksX3_taken_0 17 rfl rfl)
theorem dX3_taken_18 : decode cX3_taken 18 = .ok (.ireturn, 1) := dk_172 (dk_at dksX3_taken_0 18 rfl rfl)
theorem dX3_taken_19 : decode cX3_taken 19 = .ok (.aload_n 0, 1) := dk_42 (dk_at dksX3_taken_0 19 rfl rfl)
theorem dX3_taken_20 : decode cX3_taken 20 = .ok (.getfield 76, 3) := dk_180 0 76 (dk_at dksX3_taken_0 20 rfl rfl)
theorem dX3_taken_23 : decode cX3_taken 23 = .ok (.iload_n 1, 1) := dk_27 (dk_at dksX3_taken_0 23 rfl rfl)
theorem dX3_taken_24 : decode cX3_taken 24 = .ok (.iaload, 1) := dk_46 (dk_at dksX3_taken_1 0 rfl rfl)
theorem dX3_taken_25 : decode cX3_taken 25 = .ok (.iconst (-1), 1) := dk_2 (dk_at dksX3_taken_1 1 rfl rfl)
theorem dX3_taken_26 : decode cX3_taken 26 = .ok (.if_icmp .ne 6, 3) := dk_160 0 6 (dk_at dksX3_taken_1 2 rfl rfl)
theorem dX3_taken_29 : decode cX3_taken 29 = .ok (.bipush (-11), 2) := dk_16 245 (dk_at dksX3_taken_1 5 rfl rfl)
theorem dX3_taken_31 : decode cX3_taken 31 = .ok (.ireturn, 1) := dk_172 (dk_at dksX3_taken_1 7 rfl rfl)
theorem dX3_taken_32 : decode cX3_taken 32 = .ok (.aload_n 0, 1) := dk_42 (dk_at dksX3_taken_1 8 rfl rfl)
theorem dX3_taken_33 : decode cX3_taken 33 = .ok (.iload_n 1, 1) := dk_27 (dk_at dksX3_taken_1 9 rfl rfl)
theorem dX3_taken_34 : decode cX3_taken 34 = .ok (.invokevirtual 372, 3) := dk_182 1 116 (dk_at dksX3_taken_1 10 rfl rfl)
theorem dX3_taken_37 : decode cX3_taken 37 = .ok (.ifCond .eq 6, 3) := dk_153 0 6 (dk_at dksX3_taken_1 13 rfl rfl)
theorem dX3_taken_40 : decode cX3_taken 40 = .ok (.bipush (-12), 2) := dk_16 244 (dk_at dksX3_taken_1 16 rfl rfl)
theorem dX3_taken_42 : decode cX3_taken 42 = .ok (.ireturn, 1) := dk_172 (dk_at dksX3_taken_1 18 rfl rfl)
theorem dX3_taken_43 : decode cX3_taken 43 = .ok (.aload_n 0, 1) := dk_42 (dk_at dksX3_taken_1 19 rfl rfl)
theorem dX3_taken_44 : decode cX3_taken 44 = .ok (.getfield 70, 3) := dk_180 0 70 (dk_at dksX3_taken_1 20 rfl rfl)
theorem dX3_taken_47 : decode cX3_taken 47 = .ok (.aload_n 0, 1) := dk_42 (dk_at dksX3_taken_1 23 rfl rfl)
theorem dX3_taken_48 : decode cX3_taken 48 = .ok (.getfield 76, 3) := dk_180 0 76 (dk_at dksX3_taken_2 0 rfl rfl)
theorem dX3_taken_51 : decode cX3_taken 51 = .ok (.iload_n 1, 1) := dk_27 (dk_at dksX3_taken_2 3 rfl rfl)
theorem dX3_taken_52 : decode cX3_taken 52 = .ok (.iaload, 1) := dk_46 (dk_at dksX3_taken_2 4 rfl rfl)
theorem dX3_taken_53 : decode cX3_taken 53 = .ok (.bipush 10, 2) := dk_16 10 (dk_at dksX3_taken_2 5 rfl rfl)
theorem dX3_taken_55 : decode cX3_taken 55 = .ok (.isub, 1) := dk_100 (dk_at dksX3_taken_2 7 rfl rfl)
theorem dX3_taken_56 : decode cX3_taken 56 = .ok (.iaload, 1) := dk_46 (dk_at dksX3_taken_2 8 rfl rfl)
theorem dX3_taken_57 : decode cX3_taken 57 = .ok (.istore_n 3, 1) := dk_62 (dk_at dksX3_taken_2 9 rfl rfl)
theorem dX3_taken_58 : decode cX3_taken 58 = .ok (.iload_n 3, 1) := dk_29 (dk_at dksX3_taken_2 10 rfl rfl)
theorem dX3_taken_59 : decode cX3_taken 59 = .ok (.istore 4, 2) := dk_54 4 (dk_at dksX3_taken_2 11 rfl rfl)
theorem dX3_taken_61 : decode cX3_taken 61 = .ok (.iload 4, 2) := dk_21 4 (dk_at dksX3_taken_2 13 rfl rfl)
theorem dX3_taken_63 : decode cX3_taken 63 = .ok (.iload_n 2, 1) := dk_28 (dk_at dksX3_taken_2 15 rfl rfl)
theorem dX3_taken_64 : decode cX3_taken 64 = .ok (.if_icmp .eq 18, 3) := dk_159 0 18 (dk_at dksX3_taken_2 16 rfl rfl)
theorem dX3_taken_67 : decode cX3_taken 67 = .ok (.iload 4, 2) := dk_21 4 (dk_at dksX3_taken_2 19 rfl rfl)
theorem dX3_taken_69 : decode cX3_taken 69 = .ok (.ifCond .le 13, 3) := dk_158 0 13 (dk_at dksX3_taken_2 21 rfl rfl)
theorem dX3_taken_72 : decode cX3_taken 72 = .ok (.iload 4, 2) := dk_21 4 (dk_at dksX3_taken_3 0 rfl rfl)
theorem dX3_taken_74 : decode cX3_taken 74 = .ok (.invokestatic 357, 3) := dk_184 1 101 (dk_at dksX3_taken_3 2 rfl rfl)
theorem dX3_taken_77 : decode cX3_taken 77 = .ok (.istore 4, 2) := dk_54 4 (dk_at dksX3_taken_3 5 rfl rfl)
theorem dX3_taken_79 : decode cX3_taken 79 = .ok (.goto (-18), 3) := dk_167 255 238 (dk_at dksX3_taken_3 7 rfl rfl)
theorem dX3_taken_82 : decode cX3_taken 82 = .ok (.iload 4, 2) := dk_21 4 (dk_at dksX3_taken_3 10 rfl rfl)
theorem dX3_taken_84 : decode cX3_taken 84 = .ok (.iload_n 2, 1) := dk_28 (dk_at dksX3_taken_3 12 rfl rfl)
theorem dX3_taken_85 : decode cX3_taken 85 = .ok (.if_icmp .ne 7, 3) := dk_160 0 7 (dk_at dksX3_taken_3 13 rfl rfl)
theorem dX3_taken_88 : decode cX3_taken 88 = .ok (.iload_n 3, 1) := dk_29 (dk_at dksX3_taken_3 16 rfl rfl)
theorem dX3_taken_89 : decode cX3_taken 89 = .ok (.goto 5, 3) := dk_167 0 5 (dk_at dksX3_taken_3 17 rfl rfl)
theorem dX3_taken_92 : decode cX3_taken 92 = .ok (.bipush (-12), 2) := dk_16 244 (dk_at dksX3_taken_3 20 rfl rfl)
theorem dX3_taken_94 : decode cX3_taken 94 = .ok (.ireturn, 1) := dk_172 (dk_at dksX3_taken_3 22 rfl rfl)
def dkwX3_count_3 : List UInt8 := [180, 1, 113, 172, 42, 180, 1, 92, 172, 2, 172]
abbrev dktX3_count_3 : List UInt8 := dkwX3_count_3 ++ []
def dkwX3_count_2 : List UInt8 := [42, 180, 0, 116, 172, 42, 180, 0, 22, 16, 18, 46, 172, 42, 180, 0, 160, 172, 42, 180, 0, 154, 172, 42]
abbrev dktX3_count_2 : List UInt8 := dkwX3_count_2 ++ dktX3_count_3
def dkwX3_count_1 : List UInt8 := [170, 0, 0, 0, 0, 0, 72, 0, 0, 0, 0, 0, 0, 0, 5, 0, 0, 0, 39, 0, 0, 0, 44, 0, 0, 0, 52, 0, 0, 0, 57, 0, 0, 0, 62, 0, 0, 0, 67]
abbrev dktX3_count_1 : List UInt8 := dkwX3_count_1 ++ dktX3_count_2
def dkwX3_count_0 : List UInt8 := [27]
abbrev dktX3_count_0 : List UInt8 := dkwX3_count_0 ++ dktX3_count_1
theorem dksX3_count_0 : cX3_count.data.toList.drop 0 = dktX3_count_0 := by decide +kernel
theorem dksX3_count_1 : cX3_count.data.toList.drop 1 = dktX3_count_1 := dk_seg dksX3_count_0 1 rfl rfl
theorem dksX3_count_2 : cX3_count.data.toList.drop 40 = dktX3_count_2 := dk_seg dksX3_count_1 39 rfl rfl
theorem dksX3_count_3 : cX3_count.data.toList.drop 64 = dktX3_count_3 := dk_seg dksX3_count_2 24 rfl rfl
theorem dX3_count_0 : decode cX3_count 0 = .ok (.iload_n 1, 1) := dk_27 (dk_at dksX3_count_0 0 rfl rfl)
theorem dX3_count_1 : decode cX3_count 1 = .ok (.tableswitch 72 0 5 #[39, 44, 52, 57, 62, 67], 39) := by decide +kernel
theorem dX3_count_40 : decode cX3_count 40 = .ok (.aload_n 0, 1) := dk_42 (dk_at dksX3_count_2 0 rfl rfl)
theorem dX3_count_41 : decode cX3_count 41 = .ok (.getfield 116, 3) := dk_180 0 116 (dk_at dksX3_count_2 1 rfl rfl)
theorem dX3_count_44 : decode cX3_count 44 = .ok (.ireturn, 1) := dk_172 (dk_at dksX3_count_2 4 rfl rfl)
theorem dX3_count_45 : decode cX3_count 45 = .ok (.aload_n 0, 1) := dk_42 (dk_at dksX3_count_2 5 rfl rfl)
theorem dX3_count_46 : decode cX3_count 46 = .ok (.getfield 22, 3) := dk_180 0 22 (dk_at dksX3_count_2 6 rfl rfl)
theorem dX3_count_49 : decode cX3_count 49 = .ok (.bipush 18, 2) := dk_16 18 (dk_at dksX3_count_2 9 rfl rfl)
theorem dX3_count_51 : decode cX3_count 51 = .ok (.iaload, 1) := dk_46 (dk_at dksX3_count_2 11 rfl rfl)
theorem dX3_count_52 : decode cX3_count 52 = .ok (.ireturn, 1) := dk_172 (dk_at dksX3_count_2 12 rfl rfl)
theorem dX3_count_53 : decode cX3_count 53 = .ok (.aload_n 0, 1) := dk_42 (dk_at dksX3_count_2 13 rfl rfl)
theorem dX3_count_54 : decode cX3_count 54 = .ok (.getfield 160, 3) := dk_180 0 160 (dk_at dksX3_count_2 14 rfl rfl)
theorem dX3_count_57 : decode cX3_count 57 = .ok (.ireturn, 1) := dk_172 (dk_at dksX3_count_2 17 rfl rfl)
theorem dX3_count_58 : decode cX3_count 58 = .ok (.aload_n 0, 1) := dk_42 (dk_at dksX3_count_2 18 rfl rfl)
theorem dX3_count_59 : decode cX3_count 59 = .ok (.getfield 154, 3) := dk_180 0 154 (dk_at dksX3_count_2 19 rfl rfl)
theorem dX3_count_62 : decode cX3_count 62 = .ok (.ireturn, 1) := dk_172 (dk_at dksX3_count_2 22 rfl rfl)
theorem dX3_count_63 : decode cX3_count 63 = .ok (.aload_n 0, 1) := dk_42 (dk_at dksX3_count_2 23 rfl rfl)
theorem dX3_count_64 : decode cX3_count 64 = .ok (.getfield 369, 3) := dk_180 1 113 (dk_at dksX3_count_3 0 rfl rfl)
theorem dX3_count_67 : decode cX3_count 67 = .ok (.ireturn, 1) := dk_172 (dk_at dksX3_count_3 3 rfl rfl)
theorem dX3_count_68 : decode cX3_count 68 = .ok (.aload_n 0, 1) := dk_42 (dk_at dksX3_count_3 4 rfl rfl)
theorem dX3_count_69 : decode cX3_count 69 = .ok (.getfield 348, 3) := dk_180 1 92 (dk_at dksX3_count_3 5 rfl rfl)
theorem dX3_count_72 : decode cX3_count 72 = .ok (.ireturn, 1) := dk_172 (dk_at dksX3_count_3 8 rfl rfl)
theorem dX3_count_73 : decode cX3_count 73 = .ok (.iconst (-1), 1) := dk_2 (dk_at dksX3_count_3 9 rfl rfl)
theorem dX3_count_74 : decode cX3_count 74 = .ok (.ireturn, 1) := dk_172 (dk_at dksX3_count_3 10 rfl rfl)
