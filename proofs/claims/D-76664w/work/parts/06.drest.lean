set_option maxRecDepth 100000
def dkwX1_init_0 : List UInt8 := [42, 183, 0, 1, 42, 17, 0, 128, 188, 10, 181, 0, 7, 177]
abbrev dktX1_init_0 : List UInt8 := dkwX1_init_0 ++ []
theorem dksX1_init_0 : cX1_init.data.toList.drop 0 = dktX1_init_0 := by decide +kernel
theorem dX1_init_0 : decode cX1_init 0 = .ok (.aload_n 0, 1) := dk_42 (dk_at dksX1_init_0 0 rfl rfl)
theorem dX1_init_1 : decode cX1_init 1 = .ok (.invokespecial 1, 3) := dk_183 0 1 (dk_at dksX1_init_0 1 rfl rfl)
theorem dX1_init_4 : decode cX1_init 4 = .ok (.aload_n 0, 1) := dk_42 (dk_at dksX1_init_0 4 rfl rfl)
theorem dX1_init_5 : decode cX1_init 5 = .ok (.sipush 128, 3) := dk_17 0 128 (dk_at dksX1_init_0 5 rfl rfl)
theorem dX1_init_8 : decode cX1_init 8 = .ok (.newarray .int, 2) := dk_188_10 (dk_at dksX1_init_0 8 rfl rfl)
theorem dX1_init_10 : decode cX1_init 10 = .ok (.putfield 7, 3) := dk_181 0 7 (dk_at dksX1_init_0 10 rfl rfl)
theorem dX1_init_13 : decode cX1_init 13 = .ok (.return_, 1) := dk_177 (dk_at dksX1_init_0 13 rfl rfl)
def dkwX2_init_1 : List UInt8 := [188, 10, 181, 0, 18, 42, 8, 188, 10, 181, 0, 21, 42, 8, 188, 10, 181, 0, 24, 177]
abbrev dktX2_init_1 : List UInt8 := dkwX2_init_1 ++ []
def dkwX2_init_0 : List UInt8 := [42, 183, 0, 3, 42, 16, 8, 188, 10, 181, 0, 9, 42, 16, 8, 188, 10, 181, 0, 15, 42, 16, 8]
abbrev dktX2_init_0 : List UInt8 := dkwX2_init_0 ++ dktX2_init_1
theorem dksX2_init_0 : cX2_init.data.toList.drop 0 = dktX2_init_0 := by decide +kernel
theorem dksX2_init_1 : cX2_init.data.toList.drop 23 = dktX2_init_1 := dk_seg dksX2_init_0 23 rfl rfl
theorem dX2_init_0 : decode cX2_init 0 = .ok (.aload_n 0, 1) := dk_42 (dk_at dksX2_init_0 0 rfl rfl)
theorem dX2_init_1 : decode cX2_init 1 = .ok (.invokespecial 3, 3) := dk_183 0 3 (dk_at dksX2_init_0 1 rfl rfl)
theorem dX2_init_4 : decode cX2_init 4 = .ok (.aload_n 0, 1) := dk_42 (dk_at dksX2_init_0 4 rfl rfl)
theorem dX2_init_5 : decode cX2_init 5 = .ok (.bipush 8, 2) := dk_16 8 (dk_at dksX2_init_0 5 rfl rfl)
theorem dX2_init_7 : decode cX2_init 7 = .ok (.newarray .int, 2) := dk_188_10 (dk_at dksX2_init_0 7 rfl rfl)
theorem dX2_init_9 : decode cX2_init 9 = .ok (.putfield 9, 3) := dk_181 0 9 (dk_at dksX2_init_0 9 rfl rfl)
theorem dX2_init_12 : decode cX2_init 12 = .ok (.aload_n 0, 1) := dk_42 (dk_at dksX2_init_0 12 rfl rfl)
theorem dX2_init_13 : decode cX2_init 13 = .ok (.bipush 8, 2) := dk_16 8 (dk_at dksX2_init_0 13 rfl rfl)
theorem dX2_init_15 : decode cX2_init 15 = .ok (.newarray .int, 2) := dk_188_10 (dk_at dksX2_init_0 15 rfl rfl)
theorem dX2_init_17 : decode cX2_init 17 = .ok (.putfield 15, 3) := dk_181 0 15 (dk_at dksX2_init_0 17 rfl rfl)
theorem dX2_init_20 : decode cX2_init 20 = .ok (.aload_n 0, 1) := dk_42 (dk_at dksX2_init_0 20 rfl rfl)
theorem dX2_init_21 : decode cX2_init 21 = .ok (.bipush 8, 2) := dk_16 8 (dk_at dksX2_init_0 21 rfl rfl)
theorem dX2_init_23 : decode cX2_init 23 = .ok (.newarray .int, 2) := dk_188_10 (dk_at dksX2_init_1 0 rfl rfl)
theorem dX2_init_25 : decode cX2_init 25 = .ok (.putfield 18, 3) := dk_181 0 18 (dk_at dksX2_init_1 2 rfl rfl)
theorem dX2_init_28 : decode cX2_init 28 = .ok (.aload_n 0, 1) := dk_42 (dk_at dksX2_init_1 5 rfl rfl)
theorem dX2_init_29 : decode cX2_init 29 = .ok (.iconst 5, 1) := dk_8 (dk_at dksX2_init_1 6 rfl rfl)
theorem dX2_init_30 : decode cX2_init 30 = .ok (.newarray .int, 2) := dk_188_10 (dk_at dksX2_init_1 7 rfl rfl)
theorem dX2_init_32 : decode cX2_init 32 = .ok (.putfield 21, 3) := dk_181 0 21 (dk_at dksX2_init_1 9 rfl rfl)
theorem dX2_init_35 : decode cX2_init 35 = .ok (.aload_n 0, 1) := dk_42 (dk_at dksX2_init_1 12 rfl rfl)
theorem dX2_init_36 : decode cX2_init 36 = .ok (.iconst 5, 1) := dk_8 (dk_at dksX2_init_1 13 rfl rfl)
theorem dX2_init_37 : decode cX2_init 37 = .ok (.newarray .int, 2) := dk_188_10 (dk_at dksX2_init_1 14 rfl rfl)
theorem dX2_init_39 : decode cX2_init 39 = .ok (.putfield 24, 3) := dk_181 0 24 (dk_at dksX2_init_1 16 rfl rfl)
theorem dX2_init_42 : decode cX2_init 42 = .ok (.return_, 1) := dk_177 (dk_at dksX2_init_1 19 rfl rfl)
def dkwX2_likeThat_4 : List UInt8 := [181, 0, 40, 42, 43, 180, 0, 43, 181, 0, 43, 42, 43, 180, 0, 46, 181, 0, 46, 177]
abbrev dktX2_likeThat_4 : List UInt8 := dkwX2_likeThat_4 ++ []
def dkwX2_likeThat_3 : List UInt8 := [184, 0, 27, 42, 43, 180, 0, 33, 181, 0, 33, 42, 43, 180, 0, 37, 181, 0, 37, 42, 43, 180, 0, 40]
abbrev dktX2_likeThat_3 : List UInt8 := dkwX2_likeThat_3 ++ dktX2_likeThat_4
def dkwX2_likeThat_2 : List UInt8 := [180, 0, 21, 3, 42, 180, 0, 21, 3, 8, 184, 0, 27, 43, 180, 0, 24, 3, 42, 180, 0, 24, 3, 8]
abbrev dktX2_likeThat_2 : List UInt8 := dkwX2_likeThat_2 ++ dktX2_likeThat_3
def dkwX2_likeThat_1 : List UInt8 := [3, 16, 8, 184, 0, 27, 43, 180, 0, 18, 3, 42, 180, 0, 18, 3, 16, 8, 184, 0, 27, 43]
abbrev dktX2_likeThat_1 : List UInt8 := dkwX2_likeThat_1 ++ dktX2_likeThat_2
def dkwX2_likeThat_0 : List UInt8 := [43, 180, 0, 9, 3, 42, 180, 0, 9, 3, 16, 8, 184, 0, 27, 43, 180, 0, 15, 3, 42, 180, 0, 15]
abbrev dktX2_likeThat_0 : List UInt8 := dkwX2_likeThat_0 ++ dktX2_likeThat_1
theorem dksX2_likeThat_0 : cX2_likeThat.data.toList.drop 0 = dktX2_likeThat_0 := by decide +kernel
theorem dksX2_likeThat_1 : cX2_likeThat.data.toList.drop 24 = dktX2_likeThat_1 := dk_seg dksX2_likeThat_0 24 rfl rfl
theorem dksX2_likeThat_2 : cX2_likeThat.data.toList.drop 46 = dktX2_likeThat_2 := dk_seg dksX2_likeThat_1 22 rfl rfl
theorem dksX2_likeThat_3 : cX2_likeThat.data.toList.drop 70 = dktX2_likeThat_3 := dk_seg dksX2_likeThat_2 24 rfl rfl
theorem dksX2_likeThat_4 : cX2_likeThat.data.toList.drop 94 = dktX2_likeThat_4 := dk_seg dksX2_likeThat_3 24 rfl rfl
theorem dX2_likeThat_0 : decode cX2_likeThat 0 = .ok (.aload_n 1, 1) := dk_43 (dk_at dksX2_likeThat_0 0 rfl rfl)
theorem dX2_likeThat_1 : decode cX2_likeThat 1 = .ok (.getfield 9, 3) := dk_180 0 9 (dk_at dksX2_likeThat_0 1 rfl rfl)
theorem dX2_likeThat_4 : decode cX2_likeThat 4 = .ok (.iconst 0, 1) := dk_3 (dk_at dksX2_likeThat_0 4 rfl rfl)
theorem dX2_likeThat_5 : decode cX2_likeThat 5 = .ok (.aload_n 0, 1) := dk_42 (dk_at dksX2_likeThat_0 5 rfl rfl)
theorem dX2_likeThat_6 : decode cX2_likeThat 6 = .ok (.getfield 9, 3) := dk_180 0 9 (dk_at dksX2_likeThat_0 6 rfl rfl)
theorem dX2_likeThat_9 : decode cX2_likeThat 9 = .ok (.iconst 0, 1) := dk_3 (dk_at dksX2_likeThat_0 9 rfl rfl)
theorem dX2_likeThat_10 : decode cX2_likeThat 10 = .ok (.bipush 8, 2) := dk_16 8 (dk_at dksX2_likeThat_0 10 rfl rfl)
theorem dX2_likeThat_12 : decode cX2_likeThat 12 = .ok (.invokestatic 27, 3) := dk_184 0 27 (dk_at dksX2_likeThat_0 12 rfl rfl)
theorem dX2_likeThat_15 : decode cX2_likeThat 15 = .ok (.aload_n 1, 1) := dk_43 (dk_at dksX2_likeThat_0 15 rfl rfl)
theorem dX2_likeThat_16 : decode cX2_likeThat 16 = .ok (.getfield 15, 3) := dk_180 0 15 (dk_at dksX2_likeThat_0 16 rfl rfl)
theorem dX2_likeThat_19 : decode cX2_likeThat 19 = .ok (.iconst 0, 1) := dk_3 (dk_at dksX2_likeThat_0 19 rfl rfl)
theorem dX2_likeThat_20 : decode cX2_likeThat 20 = .ok (.aload_n 0, 1) := dk_42 (dk_at dksX2_likeThat_0 20 rfl rfl)
theorem dX2_likeThat_21 : decode cX2_likeThat 21 = .ok (.getfield 15, 3) := dk_180 0 15 (dk_at dksX2_likeThat_0 21 rfl rfl)
theorem dX2_likeThat_24 : decode cX2_likeThat 24 = .ok (.iconst 0, 1) := dk_3 (dk_at dksX2_likeThat_1 0 rfl rfl)
theorem dX2_likeThat_25 : decode cX2_likeThat 25 = .ok (.bipush 8, 2) := dk_16 8 (dk_at dksX2_likeThat_1 1 rfl rfl)
theorem dX2_likeThat_27 : decode cX2_likeThat 27 = .ok (.invokestatic 27, 3) := dk_184 0 27 (dk_at dksX2_likeThat_1 3 rfl rfl)
theorem dX2_likeThat_30 : decode cX2_likeThat 30 = .ok (.aload_n 1, 1) := dk_43 (dk_at dksX2_likeThat_1 6 rfl rfl)
theorem dX2_likeThat_31 : decode cX2_likeThat 31 = .ok (.getfield 18, 3) := dk_180 0 18 (dk_at dksX2_likeThat_1 7 rfl rfl)
theorem dX2_likeThat_34 : decode cX2_likeThat 34 = .ok (.iconst 0, 1) := dk_3 (dk_at dksX2_likeThat_1 10 rfl rfl)
theorem dX2_likeThat_35 : decode cX2_likeThat 35 = .ok (.aload_n 0, 1) := dk_42 (dk_at dksX2_likeThat_1 11 rfl rfl)
theorem dX2_likeThat_36 : decode cX2_likeThat 36 = .ok (.getfield 18, 3) := dk_180 0 18 (dk_at dksX2_likeThat_1 12 rfl rfl)
theorem dX2_likeThat_39 : decode cX2_likeThat 39 = .ok (.iconst 0, 1) := dk_3 (dk_at dksX2_likeThat_1 15 rfl rfl)
theorem dX2_likeThat_40 : decode cX2_likeThat 40 = .ok (.bipush 8, 2) := dk_16 8 (dk_at dksX2_likeThat_1 16 rfl rfl)
theorem dX2_likeThat_42 : decode cX2_likeThat 42 = .ok (.invokestatic 27, 3) := dk_184 0 27 (dk_at dksX2_likeThat_1 18 rfl rfl)
theorem dX2_likeThat_45 : decode cX2_likeThat 45 = .ok (.aload_n 1, 1) := dk_43 (dk_at dksX2_likeThat_1 21 rfl rfl)
theorem dX2_likeThat_46 : decode cX2_likeThat 46 = .ok (.getfield 21, 3) := dk_180 0 21 (dk_at dksX2_likeThat_2 0 rfl rfl)
theorem dX2_likeThat_49 : decode cX2_likeThat 49 = .ok (.iconst 0, 1) := dk_3 (dk_at dksX2_likeThat_2 3 rfl rfl)
theorem dX2_likeThat_50 : decode cX2_likeThat 50 = .ok (.aload_n 0, 1) := dk_42 (dk_at dksX2_likeThat_2 4 rfl rfl)
theorem dX2_likeThat_51 : decode cX2_likeThat 51 = .ok (.getfield 21, 3) := dk_180 0 21 (dk_at dksX2_likeThat_2 5 rfl rfl)
theorem dX2_likeThat_54 : decode cX2_likeThat 54 = .ok (.iconst 0, 1) := dk_3 (dk_at dksX2_likeThat_2 8 rfl rfl)
theorem dX2_likeThat_55 : decode cX2_likeThat 55 = .ok (.iconst 5, 1) := dk_8 (dk_at dksX2_likeThat_2 9 rfl rfl)
theorem dX2_likeThat_56 : decode cX2_likeThat 56 = .ok (.invokestatic 27, 3) := dk_184 0 27 (dk_at dksX2_likeThat_2 10 rfl rfl)
theorem dX2_likeThat_59 : decode cX2_likeThat 59 = .ok (.aload_n 1, 1) := dk_43 (dk_at dksX2_likeThat_2 13 rfl rfl)
theorem dX2_likeThat_60 : decode cX2_likeThat 60 = .ok (.getfield 24, 3) := dk_180 0 24 (dk_at dksX2_likeThat_2 14 rfl rfl)
theorem dX2_likeThat_63 : decode cX2_likeThat 63 = .ok (.iconst 0, 1) := dk_3 (dk_at dksX2_likeThat_2 17 rfl rfl)
theorem dX2_likeThat_64 : decode cX2_likeThat 64 = .ok (.aload_n 0, 1) := dk_42 (dk_at dksX2_likeThat_2 18 rfl rfl)
theorem dX2_likeThat_65 : decode cX2_likeThat 65 = .ok (.getfield 24, 3) := dk_180 0 24 (dk_at dksX2_likeThat_2 19 rfl rfl)
theorem dX2_likeThat_68 : decode cX2_likeThat 68 = .ok (.iconst 0, 1) := dk_3 (dk_at dksX2_likeThat_2 22 rfl rfl)
theorem dX2_likeThat_69 : decode cX2_likeThat 69 = .ok (.iconst 5, 1) := dk_8 (dk_at dksX2_likeThat_2 23 rfl rfl)
theorem dX2_likeThat_70 : decode cX2_likeThat 70 = .ok (.invokestatic 27, 3) := dk_184 0 27 (dk_at dksX2_likeThat_3 0 rfl rfl)
theorem dX2_likeThat_73 : decode cX2_likeThat 73 = .ok (.aload_n 0, 1) := dk_42 (dk_at dksX2_likeThat_3 3 rfl rfl)
theorem dX2_likeThat_74 : decode cX2_likeThat 74 = .ok (.aload_n 1, 1) := dk_43 (dk_at dksX2_likeThat_3 4 rfl rfl)
theorem dX2_likeThat_75 : decode cX2_likeThat 75 = .ok (.getfield 33, 3) := dk_180 0 33 (dk_at dksX2_likeThat_3 5 rfl rfl)
theorem dX2_likeThat_78 : decode cX2_likeThat 78 = .ok (.putfield 33, 3) := dk_181 0 33 (dk_at dksX2_likeThat_3 8 rfl rfl)
theorem dX2_likeThat_81 : decode cX2_likeThat 81 = .ok (.aload_n 0, 1) := dk_42 (dk_at dksX2_likeThat_3 11 rfl rfl)
theorem dX2_likeThat_82 : decode cX2_likeThat 82 = .ok (.aload_n 1, 1) := dk_43 (dk_at dksX2_likeThat_3 12 rfl rfl)
theorem dX2_likeThat_83 : decode cX2_likeThat 83 = .ok (.getfield 37, 3) := dk_180 0 37 (dk_at dksX2_likeThat_3 13 rfl rfl)
theorem dX2_likeThat_86 : decode cX2_likeThat 86 = .ok (.putfield 37, 3) := dk_181 0 37 (dk_at dksX2_likeThat_3 16 rfl rfl)
theorem dX2_likeThat_89 : decode cX2_likeThat 89 = .ok (.aload_n 0, 1) := dk_42 (dk_at dksX2_likeThat_3 19 rfl rfl)
theorem dX2_likeThat_90 : decode cX2_likeThat 90 = .ok (.aload_n 1, 1) := dk_43 (dk_at dksX2_likeThat_3 20 rfl rfl)
theorem dX2_likeThat_91 : decode cX2_likeThat 91 = .ok (.getfield 40, 3) := dk_180 0 40 (dk_at dksX2_likeThat_3 21 rfl rfl)
theorem dX2_likeThat_94 : decode cX2_likeThat 94 = .ok (.putfield 40, 3) := dk_181 0 40 (dk_at dksX2_likeThat_4 0 rfl rfl)
theorem dX2_likeThat_97 : decode cX2_likeThat 97 = .ok (.aload_n 0, 1) := dk_42 (dk_at dksX2_likeThat_4 3 rfl rfl)
theorem dX2_likeThat_98 : decode cX2_likeThat 98 = .ok (.aload_n 1, 1) := dk_43 (dk_at dksX2_likeThat_4 4 rfl rfl)
theorem dX2_likeThat_99 : decode cX2_likeThat 99 = .ok (.getfield 43, 3) := dk_180 0 43 (dk_at dksX2_likeThat_4 5 rfl rfl)
theorem dX2_likeThat_102 : decode cX2_likeThat 102 = .ok (.putfield 43, 3) := dk_181 0 43 (dk_at dksX2_likeThat_4 8 rfl rfl)
theorem dX2_likeThat_105 : decode cX2_likeThat 105 = .ok (.aload_n 0, 1) := dk_42 (dk_at dksX2_likeThat_4 11 rfl rfl)
theorem dX2_likeThat_106 : decode cX2_likeThat 106 = .ok (.aload_n 1, 1) := dk_43 (dk_at dksX2_likeThat_4 12 rfl rfl)
theorem dX2_likeThat_107 : decode cX2_likeThat 107 = .ok (.getfield 46, 3) := dk_180 0 46 (dk_at dksX2_likeThat_4 13 rfl rfl)
theorem dX2_likeThat_110 : decode cX2_likeThat 110 = .ok (.putfield 46, 3) := dk_181 0 46 (dk_at dksX2_likeThat_4 16 rfl rfl)
theorem dX2_likeThat_113 : decode cX2_likeThat 113 = .ok (.return_, 1) := dk_177 (dk_at dksX2_likeThat_4 19 rfl rfl)
def dkwX2_takeOldest_2 : List UInt8 := [132, 1, 1, 167, 255, 217, 177]
abbrev dktX2_takeOldest_2 : List UInt8 := dkwX2_takeOldest_2 ++ []
def dkwX2_takeOldest_1 : List UInt8 := [27, 42, 180, 0, 21, 27, 4, 96, 46, 79, 42, 180, 0, 24, 27, 42, 180, 0, 24, 27, 4, 96, 46, 79]
abbrev dktX2_takeOldest_1 : List UInt8 := dkwX2_takeOldest_1 ++ dktX2_takeOldest_2
def dkwX2_takeOldest_0 : List UInt8 := [42, 89, 180, 0, 33, 4, 100, 181, 0, 33, 3, 60, 27, 42, 180, 0, 33, 162, 0, 37, 42, 180, 0, 21]
abbrev dktX2_takeOldest_0 : List UInt8 := dkwX2_takeOldest_0 ++ dktX2_takeOldest_1
theorem dksX2_takeOldest_0 : cX2_takeOldest.data.toList.drop 0 = dktX2_takeOldest_0 := by decide +kernel
theorem dksX2_takeOldest_1 : cX2_takeOldest.data.toList.drop 24 = dktX2_takeOldest_1 := dk_seg dksX2_takeOldest_0 24 rfl rfl
theorem dksX2_takeOldest_2 : cX2_takeOldest.data.toList.drop 48 = dktX2_takeOldest_2 := dk_seg dksX2_takeOldest_1 24 rfl rfl
theorem dX2_takeOldest_0 : decode cX2_takeOldest 0 = .ok (.aload_n 0, 1) := dk_42 (dk_at dksX2_takeOldest_0 0 rfl rfl)
theorem dX2_takeOldest_1 : decode cX2_takeOldest 1 = .ok (.dup, 1) := dk_89 (dk_at dksX2_takeOldest_0 1 rfl rfl)
theorem dX2_takeOldest_2 : decode cX2_takeOldest 2 = .ok (.getfield 33, 3) := dk_180 0 33 (dk_at dksX2_takeOldest_0 2 rfl rfl)
theorem dX2_takeOldest_5 : decode cX2_takeOldest 5 = .ok (.iconst 1, 1) := dk_4 (dk_at dksX2_takeOldest_0 5 rfl rfl)
theorem dX2_takeOldest_6 : decode cX2_takeOldest 6 = .ok (.isub, 1) := dk_100 (dk_at dksX2_takeOldest_0 6 rfl rfl)
theorem dX2_takeOldest_7 : decode cX2_takeOldest 7 = .ok (.putfield 33, 3) := dk_181 0 33 (dk_at dksX2_takeOldest_0 7 rfl rfl)
theorem dX2_takeOldest_10 : decode cX2_takeOldest 10 = .ok (.iconst 0, 1) := dk_3 (dk_at dksX2_takeOldest_0 10 rfl rfl)
theorem dX2_takeOldest_11 : decode cX2_takeOldest 11 = .ok (.istore_n 1, 1) := dk_60 (dk_at dksX2_takeOldest_0 11 rfl rfl)
theorem dX2_takeOldest_12 : decode cX2_takeOldest 12 = .ok (.iload_n 1, 1) := dk_27 (dk_at dksX2_takeOldest_0 12 rfl rfl)
theorem dX2_takeOldest_13 : decode cX2_takeOldest 13 = .ok (.aload_n 0, 1) := dk_42 (dk_at dksX2_takeOldest_0 13 rfl rfl)
theorem dX2_takeOldest_14 : decode cX2_takeOldest 14 = .ok (.getfield 33, 3) := dk_180 0 33 (dk_at dksX2_takeOldest_0 14 rfl rfl)
theorem dX2_takeOldest_17 : decode cX2_takeOldest 17 = .ok (.if_icmp .ge 37, 3) := dk_162 0 37 (dk_at dksX2_takeOldest_0 17 rfl rfl)
theorem dX2_takeOldest_20 : decode cX2_takeOldest 20 = .ok (.aload_n 0, 1) := dk_42 (dk_at dksX2_takeOldest_0 20 rfl rfl)
theorem dX2_takeOldest_21 : decode cX2_takeOldest 21 = .ok (.getfield 21, 3) := dk_180 0 21 (dk_at dksX2_takeOldest_0 21 rfl rfl)
theorem dX2_takeOldest_24 : decode cX2_takeOldest 24 = .ok (.iload_n 1, 1) := dk_27 (dk_at dksX2_takeOldest_1 0 rfl rfl)
theorem dX2_takeOldest_25 : decode cX2_takeOldest 25 = .ok (.aload_n 0, 1) := dk_42 (dk_at dksX2_takeOldest_1 1 rfl rfl)
theorem dX2_takeOldest_26 : decode cX2_takeOldest 26 = .ok (.getfield 21, 3) := dk_180 0 21 (dk_at dksX2_takeOldest_1 2 rfl rfl)
theorem dX2_takeOldest_29 : decode cX2_takeOldest 29 = .ok (.iload_n 1, 1) := dk_27 (dk_at dksX2_takeOldest_1 5 rfl rfl)
theorem dX2_takeOldest_30 : decode cX2_takeOldest 30 = .ok (.iconst 1, 1) := dk_4 (dk_at dksX2_takeOldest_1 6 rfl rfl)
theorem dX2_takeOldest_31 : decode cX2_takeOldest 31 = .ok (.iadd, 1) := dk_96 (dk_at dksX2_takeOldest_1 7 rfl rfl)
theorem dX2_takeOldest_32 : decode cX2_takeOldest 32 = .ok (.iaload, 1) := dk_46 (dk_at dksX2_takeOldest_1 8 rfl rfl)
theorem dX2_takeOldest_33 : decode cX2_takeOldest 33 = .ok (.iastore, 1) := dk_79 (dk_at dksX2_takeOldest_1 9 rfl rfl)
theorem dX2_takeOldest_34 : decode cX2_takeOldest 34 = .ok (.aload_n 0, 1) := dk_42 (dk_at dksX2_takeOldest_1 10 rfl rfl)
theorem dX2_takeOldest_35 : decode cX2_takeOldest 35 = .ok (.getfield 24, 3) := dk_180 0 24 (dk_at dksX2_takeOldest_1 11 rfl rfl)
theorem dX2_takeOldest_38 : decode cX2_takeOldest 38 = .ok (.iload_n 1, 1) := dk_27 (dk_at dksX2_takeOldest_1 14 rfl rfl)
theorem dX2_takeOldest_39 : decode cX2_takeOldest 39 = .ok (.aload_n 0, 1) := dk_42 (dk_at dksX2_takeOldest_1 15 rfl rfl)
theorem dX2_takeOldest_40 : decode cX2_takeOldest 40 = .ok (.getfield 24, 3) := dk_180 0 24 (dk_at dksX2_takeOldest_1 16 rfl rfl)
theorem dX2_takeOldest_43 : decode cX2_takeOldest 43 = .ok (.iload_n 1, 1) := dk_27 (dk_at dksX2_takeOldest_1 19 rfl rfl)
theorem dX2_takeOldest_44 : decode cX2_takeOldest 44 = .ok (.iconst 1, 1) := dk_4 (dk_at dksX2_takeOldest_1 20 rfl rfl)
theorem dX2_takeOldest_45 : decode cX2_takeOldest 45 = .ok (.iadd, 1) := dk_96 (dk_at dksX2_takeOldest_1 21 rfl rfl)
theorem dX2_takeOldest_46 : decode cX2_takeOldest 46 = .ok (.iaload, 1) := dk_46 (dk_at dksX2_takeOldest_1 22 rfl rfl)
theorem dX2_takeOldest_47 : decode cX2_takeOldest 47 = .ok (.iastore, 1) := dk_79 (dk_at dksX2_takeOldest_1 23 rfl rfl)
theorem dX2_takeOldest_48 : decode cX2_takeOldest 48 = .ok (.iinc 1 1, 3) := dk_132 1 1 (dk_at dksX2_takeOldest_2 0 rfl rfl)
theorem dX2_takeOldest_51 : decode cX2_takeOldest 51 = .ok (.goto (-39), 3) := dk_167 255 217 (dk_at dksX2_takeOldest_2 3 rfl rfl)
theorem dX2_takeOldest_54 : decode cX2_takeOldest 54 = .ok (.return_, 1) := dk_177 (dk_at dksX2_takeOldest_2 6 rfl rfl)
def dkwX2_owe_1 : List UInt8 := [180, 0, 33, 4, 96, 181, 0, 33, 177]
abbrev dktX2_owe_1 : List UInt8 := dkwX2_owe_1 ++ []
def dkwX2_owe_0 : List UInt8 := [42, 180, 0, 21, 42, 180, 0, 33, 27, 79, 42, 180, 0, 24, 42, 180, 0, 33, 28, 79, 42, 89]
abbrev dktX2_owe_0 : List UInt8 := dkwX2_owe_0 ++ dktX2_owe_1
theorem dksX2_owe_0 : cX2_owe.data.toList.drop 0 = dktX2_owe_0 := by decide +kernel
theorem dksX2_owe_1 : cX2_owe.data.toList.drop 22 = dktX2_owe_1 := dk_seg dksX2_owe_0 22 rfl rfl
theorem dX2_owe_0 : decode cX2_owe 0 = .ok (.aload_n 0, 1) := dk_42 (dk_at dksX2_owe_0 0 rfl rfl)
theorem dX2_owe_1 : decode cX2_owe 1 = .ok (.getfield 21, 3) := dk_180 0 21 (dk_at dksX2_owe_0 1 rfl rfl)
theorem dX2_owe_4 : decode cX2_owe 4 = .ok (.aload_n 0, 1) := dk_42 (dk_at dksX2_owe_0 4 rfl rfl)
theorem dX2_owe_5 : decode cX2_owe 5 = .ok (.getfield 33, 3) := dk_180 0 33 (dk_at dksX2_owe_0 5 rfl rfl)
theorem dX2_owe_8 : decode cX2_owe 8 = .ok (.iload_n 1, 1) := dk_27 (dk_at dksX2_owe_0 8 rfl rfl)
theorem dX2_owe_9 : decode cX2_owe 9 = .ok (.iastore, 1) := dk_79 (dk_at dksX2_owe_0 9 rfl rfl)
theorem dX2_owe_10 : decode cX2_owe 10 = .ok (.aload_n 0, 1) := dk_42 (dk_at dksX2_owe_0 10 rfl rfl)
theorem dX2_owe_11 : decode cX2_owe 11 = .ok (.getfield 24, 3) := dk_180 0 24 (dk_at dksX2_owe_0 11 rfl rfl)
theorem dX2_owe_14 : decode cX2_owe 14 = .ok (.aload_n 0, 1) := dk_42 (dk_at dksX2_owe_0 14 rfl rfl)
theorem dX2_owe_15 : decode cX2_owe 15 = .ok (.getfield 33, 3) := dk_180 0 33 (dk_at dksX2_owe_0 15 rfl rfl)
theorem dX2_owe_18 : decode cX2_owe 18 = .ok (.iload_n 2, 1) := dk_28 (dk_at dksX2_owe_0 18 rfl rfl)
theorem dX2_owe_19 : decode cX2_owe 19 = .ok (.iastore, 1) := dk_79 (dk_at dksX2_owe_0 19 rfl rfl)
theorem dX2_owe_20 : decode cX2_owe 20 = .ok (.aload_n 0, 1) := dk_42 (dk_at dksX2_owe_0 20 rfl rfl)
theorem dX2_owe_21 : decode cX2_owe 21 = .ok (.dup, 1) := dk_89 (dk_at dksX2_owe_0 21 rfl rfl)
theorem dX2_owe_22 : decode cX2_owe 22 = .ok (.getfield 33, 3) := dk_180 0 33 (dk_at dksX2_owe_1 0 rfl rfl)
theorem dX2_owe_25 : decode cX2_owe 25 = .ok (.iconst 1, 1) := dk_4 (dk_at dksX2_owe_1 3 rfl rfl)
theorem dX2_owe_26 : decode cX2_owe 26 = .ok (.iadd, 1) := dk_96 (dk_at dksX2_owe_1 4 rfl rfl)
theorem dX2_owe_27 : decode cX2_owe 27 = .ok (.putfield 33, 3) := dk_181 0 33 (dk_at dksX2_owe_1 5 rfl rfl)
theorem dX2_owe_30 : decode cX2_owe 30 = .ok (.return_, 1) := dk_177 (dk_at dksX2_owe_1 8 rfl rfl)
def dkwX2_evening_1 : List UInt8 := [3, 60, 27, 16, 8, 162, 0, 16, 42, 180, 0, 18, 27, 3, 79, 132, 1, 1, 167, 255, 240, 177]
abbrev dktX2_evening_1 : List UInt8 := dkwX2_evening_1 ++ []
def dkwX2_evening_0 : List UInt8 := [42, 180, 0, 43, 16, 99, 162, 0, 13, 42, 89, 180, 0, 43, 4, 96, 181, 0, 43, 42, 3, 181, 0, 37]
abbrev dktX2_evening_0 : List UInt8 := dkwX2_evening_0 ++ dktX2_evening_1
theorem dksX2_evening_0 : cX2_evening.data.toList.drop 0 = dktX2_evening_0 := by decide +kernel
theorem dksX2_evening_1 : cX2_evening.data.toList.drop 24 = dktX2_evening_1 := dk_seg dksX2_evening_0 24 rfl rfl
theorem dX2_evening_0 : decode cX2_evening 0 = .ok (.aload_n 0, 1) := dk_42 (dk_at dksX2_evening_0 0 rfl rfl)
theorem dX2_evening_1 : decode cX2_evening 1 = .ok (.getfield 43, 3) := dk_180 0 43 (dk_at dksX2_evening_0 1 rfl rfl)
theorem dX2_evening_4 : decode cX2_evening 4 = .ok (.bipush 99, 2) := dk_16 99 (dk_at dksX2_evening_0 4 rfl rfl)
theorem dX2_evening_6 : decode cX2_evening 6 = .ok (.if_icmp .ge 13, 3) := dk_162 0 13 (dk_at dksX2_evening_0 6 rfl rfl)
theorem dX2_evening_9 : decode cX2_evening 9 = .ok (.aload_n 0, 1) := dk_42 (dk_at dksX2_evening_0 9 rfl rfl)
theorem dX2_evening_10 : decode cX2_evening 10 = .ok (.dup, 1) := dk_89 (dk_at dksX2_evening_0 10 rfl rfl)
theorem dX2_evening_11 : decode cX2_evening 11 = .ok (.getfield 43, 3) := dk_180 0 43 (dk_at dksX2_evening_0 11 rfl rfl)
theorem dX2_evening_14 : decode cX2_evening 14 = .ok (.iconst 1, 1) := dk_4 (dk_at dksX2_evening_0 14 rfl rfl)
theorem dX2_evening_15 : decode cX2_evening 15 = .ok (.iadd, 1) := dk_96 (dk_at dksX2_evening_0 15 rfl rfl)
theorem dX2_evening_16 : decode cX2_evening 16 = .ok (.putfield 43, 3) := dk_181 0 43 (dk_at dksX2_evening_0 16 rfl rfl)
theorem dX2_evening_19 : decode cX2_evening 19 = .ok (.aload_n 0, 1) := dk_42 (dk_at dksX2_evening_0 19 rfl rfl)
theorem dX2_evening_20 : decode cX2_evening 20 = .ok (.iconst 0, 1) := dk_3 (dk_at dksX2_evening_0 20 rfl rfl)
theorem dX2_evening_21 : decode cX2_evening 21 = .ok (.putfield 37, 3) := dk_181 0 37 (dk_at dksX2_evening_0 21 rfl rfl)
theorem dX2_evening_24 : decode cX2_evening 24 = .ok (.iconst 0, 1) := dk_3 (dk_at dksX2_evening_1 0 rfl rfl)
theorem dX2_evening_25 : decode cX2_evening 25 = .ok (.istore_n 1, 1) := dk_60 (dk_at dksX2_evening_1 1 rfl rfl)
theorem dX2_evening_26 : decode cX2_evening 26 = .ok (.iload_n 1, 1) := dk_27 (dk_at dksX2_evening_1 2 rfl rfl)
theorem dX2_evening_27 : decode cX2_evening 27 = .ok (.bipush 8, 2) := dk_16 8 (dk_at dksX2_evening_1 3 rfl rfl)
theorem dX2_evening_29 : decode cX2_evening 29 = .ok (.if_icmp .ge 16, 3) := dk_162 0 16 (dk_at dksX2_evening_1 5 rfl rfl)
theorem dX2_evening_32 : decode cX2_evening 32 = .ok (.aload_n 0, 1) := dk_42 (dk_at dksX2_evening_1 8 rfl rfl)
theorem dX2_evening_33 : decode cX2_evening 33 = .ok (.getfield 18, 3) := dk_180 0 18 (dk_at dksX2_evening_1 9 rfl rfl)
theorem dX2_evening_36 : decode cX2_evening 36 = .ok (.iload_n 1, 1) := dk_27 (dk_at dksX2_evening_1 12 rfl rfl)
theorem dX2_evening_37 : decode cX2_evening 37 = .ok (.iconst 0, 1) := dk_3 (dk_at dksX2_evening_1 13 rfl rfl)
theorem dX2_evening_38 : decode cX2_evening 38 = .ok (.iastore, 1) := dk_79 (dk_at dksX2_evening_1 14 rfl rfl)
theorem dX2_evening_39 : decode cX2_evening 39 = .ok (.iinc 1 1, 3) := dk_132 1 1 (dk_at dksX2_evening_1 15 rfl rfl)
theorem dX2_evening_42 : decode cX2_evening 42 = .ok (.goto (-16), 3) := dk_167 255 240 (dk_at dksX2_evening_1 18 rfl rfl)
theorem dX2_evening_45 : decode cX2_evening 45 = .ok (.return_, 1) := dk_177 (dk_at dksX2_evening_1 21 rfl rfl)
def dkwX4_init_0 : List UInt8 := [42, 183, 0, 1, 42, 16, 100, 181, 0, 7, 42, 27, 181, 0, 13, 42, 28, 181, 0, 16, 177]
abbrev dktX4_init_0 : List UInt8 := dkwX4_init_0 ++ []
theorem dksX4_init_0 : cX4_init.data.toList.drop 0 = dktX4_init_0 := by decide +kernel
theorem dX4_init_0 : decode cX4_init 0 = .ok (.aload_n 0, 1) := dk_42 (dk_at dksX4_init_0 0 rfl rfl)
theorem dX4_init_1 : decode cX4_init 1 = .ok (.invokespecial 1, 3) := dk_183 0 1 (dk_at dksX4_init_0 1 rfl rfl)
theorem dX4_init_4 : decode cX4_init 4 = .ok (.aload_n 0, 1) := dk_42 (dk_at dksX4_init_0 4 rfl rfl)
theorem dX4_init_5 : decode cX4_init 5 = .ok (.bipush 100, 2) := dk_16 100 (dk_at dksX4_init_0 5 rfl rfl)
theorem dX4_init_7 : decode cX4_init 7 = .ok (.putfield 7, 3) := dk_181 0 7 (dk_at dksX4_init_0 7 rfl rfl)
theorem dX4_init_10 : decode cX4_init 10 = .ok (.aload_n 0, 1) := dk_42 (dk_at dksX4_init_0 10 rfl rfl)
theorem dX4_init_11 : decode cX4_init 11 = .ok (.iload_n 1, 1) := dk_27 (dk_at dksX4_init_0 11 rfl rfl)
theorem dX4_init_12 : decode cX4_init 12 = .ok (.putfield 13, 3) := dk_181 0 13 (dk_at dksX4_init_0 12 rfl rfl)
theorem dX4_init_15 : decode cX4_init 15 = .ok (.aload_n 0, 1) := dk_42 (dk_at dksX4_init_0 15 rfl rfl)
theorem dX4_init_16 : decode cX4_init 16 = .ok (.iload_n 2, 1) := dk_28 (dk_at dksX4_init_0 16 rfl rfl)
theorem dX4_init_17 : decode cX4_init 17 = .ok (.putfield 16, 3) := dk_181 0 16 (dk_at dksX4_init_0 17 rfl rfl)
theorem dX4_init_20 : decode cX4_init 20 = .ok (.return_, 1) := dk_177 (dk_at dksX4_init_0 20 rfl rfl)
def dkwX5_init_1 : List UInt8 := [181, 0, 19, 177]
abbrev dktX5_init_1 : List UInt8 := dkwX5_init_1 ++ []
def dkwX5_init_0 : List UInt8 := [42, 183, 0, 1, 42, 27, 181, 0, 7, 42, 28, 181, 0, 13, 42, 29, 181, 0, 16, 42, 21, 4]
abbrev dktX5_init_0 : List UInt8 := dkwX5_init_0 ++ dktX5_init_1
theorem dksX5_init_0 : cX5_init.data.toList.drop 0 = dktX5_init_0 := by decide +kernel
theorem dksX5_init_1 : cX5_init.data.toList.drop 22 = dktX5_init_1 := dk_seg dksX5_init_0 22 rfl rfl
theorem dX5_init_0 : decode cX5_init 0 = .ok (.aload_n 0, 1) := dk_42 (dk_at dksX5_init_0 0 rfl rfl)
theorem dX5_init_1 : decode cX5_init 1 = .ok (.invokespecial 1, 3) := dk_183 0 1 (dk_at dksX5_init_0 1 rfl rfl)
theorem dX5_init_4 : decode cX5_init 4 = .ok (.aload_n 0, 1) := dk_42 (dk_at dksX5_init_0 4 rfl rfl)
theorem dX5_init_5 : decode cX5_init 5 = .ok (.iload_n 1, 1) := dk_27 (dk_at dksX5_init_0 5 rfl rfl)
theorem dX5_init_6 : decode cX5_init 6 = .ok (.putfield 7, 3) := dk_181 0 7 (dk_at dksX5_init_0 6 rfl rfl)
theorem dX5_init_9 : decode cX5_init 9 = .ok (.aload_n 0, 1) := dk_42 (dk_at dksX5_init_0 9 rfl rfl)
theorem dX5_init_10 : decode cX5_init 10 = .ok (.iload_n 2, 1) := dk_28 (dk_at dksX5_init_0 10 rfl rfl)
theorem dX5_init_11 : decode cX5_init 11 = .ok (.putfield 13, 3) := dk_181 0 13 (dk_at dksX5_init_0 11 rfl rfl)
theorem dX5_init_14 : decode cX5_init 14 = .ok (.aload_n 0, 1) := dk_42 (dk_at dksX5_init_0 14 rfl rfl)
theorem dX5_init_15 : decode cX5_init 15 = .ok (.iload_n 3, 1) := dk_29 (dk_at dksX5_init_0 15 rfl rfl)
theorem dX5_init_16 : decode cX5_init 16 = .ok (.putfield 16, 3) := dk_181 0 16 (dk_at dksX5_init_0 16 rfl rfl)
theorem dX5_init_19 : decode cX5_init 19 = .ok (.aload_n 0, 1) := dk_42 (dk_at dksX5_init_0 19 rfl rfl)
theorem dX5_init_20 : decode cX5_init 20 = .ok (.iload 4, 2) := dk_21 4 (dk_at dksX5_init_0 20 rfl rfl)
theorem dX5_init_22 : decode cX5_init 22 = .ok (.putfield 19, 3) := dk_181 0 19 (dk_at dksX5_init_1 0 rfl rfl)
theorem dX5_init_25 : decode cX5_init 25 = .ok (.return_, 1) := dk_177 (dk_at dksX5_init_1 3 rfl rfl)
def dkwX6_init_0 : List UInt8 := [42, 43, 181, 0, 3, 42, 183, 0, 9, 42, 2, 181, 0, 15, 177]
abbrev dktX6_init_0 : List UInt8 := dkwX6_init_0 ++ []
theorem dksX6_init_0 : cX6_init.data.toList.drop 0 = dktX6_init_0 := by decide +kernel
theorem dX6_init_0 : decode cX6_init 0 = .ok (.aload_n 0, 1) := dk_42 (dk_at dksX6_init_0 0 rfl rfl)
theorem dX6_init_1 : decode cX6_init 1 = .ok (.aload_n 1, 1) := dk_43 (dk_at dksX6_init_0 1 rfl rfl)
theorem dX6_init_2 : decode cX6_init 2 = .ok (.putfield 3, 3) := dk_181 0 3 (dk_at dksX6_init_0 2 rfl rfl)
theorem dX6_init_5 : decode cX6_init 5 = .ok (.aload_n 0, 1) := dk_42 (dk_at dksX6_init_0 5 rfl rfl)
theorem dX6_init_6 : decode cX6_init 6 = .ok (.invokespecial 9, 3) := dk_183 0 9 (dk_at dksX6_init_0 6 rfl rfl)
theorem dX6_init_9 : decode cX6_init 9 = .ok (.aload_n 0, 1) := dk_42 (dk_at dksX6_init_0 9 rfl rfl)
theorem dX6_init_10 : decode cX6_init 10 = .ok (.iconst (-1), 1) := dk_2 (dk_at dksX6_init_0 10 rfl rfl)
theorem dX6_init_11 : decode cX6_init 11 = .ok (.putfield 15, 3) := dk_181 0 15 (dk_at dksX6_init_0 11 rfl rfl)
theorem dX6_init_14 : decode cX6_init 14 = .ok (.return_, 1) := dk_177 (dk_at dksX6_init_0 14 rfl rfl)
def dkwX6_lines_3 : List UInt8 := [42, 42, 180, 0, 19, 181, 0, 15, 43, 176]
abbrev dktX6_lines_3 : List UInt8 := dkwX6_lines_3 ++ []
def dkwX6_lines_2 : List UInt8 := [167, 255, 217, 42, 180, 0, 15, 156, 0, 25, 42, 180, 0, 19, 42, 180, 0, 3, 180, 0, 22, 162, 0, 11]
abbrev dktX6_lines_2 : List UInt8 := dkwX6_lines_2 ++ dktX6_lines_3
def dkwX6_lines_1 : List UInt8 := [89, 180, 0, 19, 4, 96, 181, 0, 19, 44, 42, 182, 0, 39, 181, 0, 43, 44, 180, 0, 43, 77]
abbrev dktX6_lines_1 : List UInt8 := dkwX6_lines_1 ++ dktX6_lines_2
def dkwX6_lines_0 : List UInt8 := [42, 182, 0, 39, 76, 43, 77, 42, 180, 0, 15, 156, 0, 38, 42, 182, 0, 29, 16, 59, 160, 0, 29, 42]
abbrev dktX6_lines_0 : List UInt8 := dkwX6_lines_0 ++ dktX6_lines_1
theorem dksX6_lines_0 : cX6_lines.data.toList.drop 0 = dktX6_lines_0 := by decide +kernel
theorem dksX6_lines_1 : cX6_lines.data.toList.drop 24 = dktX6_lines_1 := dk_seg dksX6_lines_0 24 rfl rfl
theorem dksX6_lines_2 : cX6_lines.data.toList.drop 46 = dktX6_lines_2 := dk_seg dksX6_lines_1 22 rfl rfl
theorem dksX6_lines_3 : cX6_lines.data.toList.drop 70 = dktX6_lines_3 := dk_seg dksX6_lines_2 24 rfl rfl
theorem dX6_lines_0 : decode cX6_lines 0 = .ok (.aload_n 0, 1) := dk_42 (dk_at dksX6_lines_0 0 rfl rfl)
theorem dX6_lines_1 : decode cX6_lines 1 = .ok (.invokevirtual 39, 3) := dk_182 0 39 (dk_at dksX6_lines_0 1 rfl rfl)
theorem dX6_lines_4 : decode cX6_lines 4 = .ok (.astore_n 1, 1) := dk_76 (dk_at dksX6_lines_0 4 rfl rfl)
theorem dX6_lines_5 : decode cX6_lines 5 = .ok (.aload_n 1, 1) := dk_43 (dk_at dksX6_lines_0 5 rfl rfl)
theorem dX6_lines_6 : decode cX6_lines 6 = .ok (.astore_n 2, 1) := dk_77 (dk_at dksX6_lines_0 6 rfl rfl)
theorem dX6_lines_7 : decode cX6_lines 7 = .ok (.aload_n 0, 1) := dk_42 (dk_at dksX6_lines_0 7 rfl rfl)
theorem dX6_lines_8 : decode cX6_lines 8 = .ok (.getfield 15, 3) := dk_180 0 15 (dk_at dksX6_lines_0 8 rfl rfl)
theorem dX6_lines_11 : decode cX6_lines 11 = .ok (.ifCond .ge 38, 3) := dk_156 0 38 (dk_at dksX6_lines_0 11 rfl rfl)
theorem dX6_lines_14 : decode cX6_lines 14 = .ok (.aload_n 0, 1) := dk_42 (dk_at dksX6_lines_0 14 rfl rfl)
theorem dX6_lines_15 : decode cX6_lines 15 = .ok (.invokevirtual 29, 3) := dk_182 0 29 (dk_at dksX6_lines_0 15 rfl rfl)
theorem dX6_lines_18 : decode cX6_lines 18 = .ok (.bipush 59, 2) := dk_16 59 (dk_at dksX6_lines_0 18 rfl rfl)
theorem dX6_lines_20 : decode cX6_lines 20 = .ok (.if_icmp .ne 29, 3) := dk_160 0 29 (dk_at dksX6_lines_0 20 rfl rfl)
theorem dX6_lines_23 : decode cX6_lines 23 = .ok (.aload_n 0, 1) := dk_42 (dk_at dksX6_lines_0 23 rfl rfl)
theorem dX6_lines_24 : decode cX6_lines 24 = .ok (.dup, 1) := dk_89 (dk_at dksX6_lines_1 0 rfl rfl)
theorem dX6_lines_25 : decode cX6_lines 25 = .ok (.getfield 19, 3) := dk_180 0 19 (dk_at dksX6_lines_1 1 rfl rfl)
theorem dX6_lines_28 : decode cX6_lines 28 = .ok (.iconst 1, 1) := dk_4 (dk_at dksX6_lines_1 4 rfl rfl)
theorem dX6_lines_29 : decode cX6_lines 29 = .ok (.iadd, 1) := dk_96 (dk_at dksX6_lines_1 5 rfl rfl)
theorem dX6_lines_30 : decode cX6_lines 30 = .ok (.putfield 19, 3) := dk_181 0 19 (dk_at dksX6_lines_1 6 rfl rfl)
theorem dX6_lines_33 : decode cX6_lines 33 = .ok (.aload_n 2, 1) := dk_44 (dk_at dksX6_lines_1 9 rfl rfl)
theorem dX6_lines_34 : decode cX6_lines 34 = .ok (.aload_n 0, 1) := dk_42 (dk_at dksX6_lines_1 10 rfl rfl)
theorem dX6_lines_35 : decode cX6_lines 35 = .ok (.invokevirtual 39, 3) := dk_182 0 39 (dk_at dksX6_lines_1 11 rfl rfl)
theorem dX6_lines_38 : decode cX6_lines 38 = .ok (.putfield 43, 3) := dk_181 0 43 (dk_at dksX6_lines_1 14 rfl rfl)
theorem dX6_lines_41 : decode cX6_lines 41 = .ok (.aload_n 2, 1) := dk_44 (dk_at dksX6_lines_1 17 rfl rfl)
theorem dX6_lines_42 : decode cX6_lines 42 = .ok (.getfield 43, 3) := dk_180 0 43 (dk_at dksX6_lines_1 18 rfl rfl)
theorem dX6_lines_45 : decode cX6_lines 45 = .ok (.astore_n 2, 1) := dk_77 (dk_at dksX6_lines_1 21 rfl rfl)
theorem dX6_lines_46 : decode cX6_lines 46 = .ok (.goto (-39), 3) := dk_167 255 217 (dk_at dksX6_lines_2 0 rfl rfl)
theorem dX6_lines_49 : decode cX6_lines 49 = .ok (.aload_n 0, 1) := dk_42 (dk_at dksX6_lines_2 3 rfl rfl)
theorem dX6_lines_50 : decode cX6_lines 50 = .ok (.getfield 15, 3) := dk_180 0 15 (dk_at dksX6_lines_2 4 rfl rfl)
theorem dX6_lines_53 : decode cX6_lines 53 = .ok (.ifCond .ge 25, 3) := dk_156 0 25 (dk_at dksX6_lines_2 7 rfl rfl)
theorem dX6_lines_56 : decode cX6_lines 56 = .ok (.aload_n 0, 1) := dk_42 (dk_at dksX6_lines_2 10 rfl rfl)
theorem dX6_lines_57 : decode cX6_lines 57 = .ok (.getfield 19, 3) := dk_180 0 19 (dk_at dksX6_lines_2 11 rfl rfl)
theorem dX6_lines_60 : decode cX6_lines 60 = .ok (.aload_n 0, 1) := dk_42 (dk_at dksX6_lines_2 14 rfl rfl)
theorem dX6_lines_61 : decode cX6_lines 61 = .ok (.getfield 3, 3) := dk_180 0 3 (dk_at dksX6_lines_2 15 rfl rfl)
theorem dX6_lines_64 : decode cX6_lines 64 = .ok (.getfield 22, 3) := dk_180 0 22 (dk_at dksX6_lines_2 18 rfl rfl)
theorem dX6_lines_67 : decode cX6_lines 67 = .ok (.if_icmp .ge 11, 3) := dk_162 0 11 (dk_at dksX6_lines_2 21 rfl rfl)
theorem dX6_lines_70 : decode cX6_lines 70 = .ok (.aload_n 0, 1) := dk_42 (dk_at dksX6_lines_3 0 rfl rfl)
theorem dX6_lines_71 : decode cX6_lines 71 = .ok (.aload_n 0, 1) := dk_42 (dk_at dksX6_lines_3 1 rfl rfl)
theorem dX6_lines_72 : decode cX6_lines 72 = .ok (.getfield 19, 3) := dk_180 0 19 (dk_at dksX6_lines_3 2 rfl rfl)
theorem dX6_lines_75 : decode cX6_lines 75 = .ok (.putfield 15, 3) := dk_181 0 15 (dk_at dksX6_lines_3 5 rfl rfl)
theorem dX6_lines_78 : decode cX6_lines 78 = .ok (.aload_n 1, 1) := dk_43 (dk_at dksX6_lines_3 8 rfl rfl)
theorem dX6_lines_79 : decode cX6_lines 79 = .ok (.areturn, 1) := dk_176 (dk_at dksX6_lines_3 9 rfl rfl)
def dkwX6_line_2 : List UInt8 := [180, 0, 54, 181, 0, 58, 43, 42, 182, 0, 50, 181, 0, 54, 43, 176]
abbrev dktX6_line_2 : List UInt8 := dkwX6_line_2 ++ []
def dkwX6_line_1 : List UInt8 := [182, 0, 29, 16, 63, 159, 0, 5, 43, 176, 42, 89, 180, 0, 19, 4, 96, 181, 0, 19, 43, 43]
abbrev dktX6_line_1 : List UInt8 := dkwX6_line_1 ++ dktX6_line_2
def dkwX6_line_0 : List UInt8 := [187, 0, 44, 89, 183, 0, 49, 76, 43, 42, 182, 0, 50, 181, 0, 54, 42, 180, 0, 15, 156, 0, 12, 42]
abbrev dktX6_line_0 : List UInt8 := dkwX6_line_0 ++ dktX6_line_1
theorem dksX6_line_0 : cX6_line.data.toList.drop 0 = dktX6_line_0 := by decide +kernel
theorem dksX6_line_1 : cX6_line.data.toList.drop 24 = dktX6_line_1 := dk_seg dksX6_line_0 24 rfl rfl
theorem dksX6_line_2 : cX6_line.data.toList.drop 46 = dktX6_line_2 := dk_seg dksX6_line_1 22 rfl rfl
theorem dX6_line_0 : decode cX6_line 0 = .ok (.new 44, 3) := dk_187 0 44 (dk_at dksX6_line_0 0 rfl rfl)
theorem dX6_line_3 : decode cX6_line 3 = .ok (.dup, 1) := dk_89 (dk_at dksX6_line_0 3 rfl rfl)
theorem dX6_line_4 : decode cX6_line 4 = .ok (.invokespecial 49, 3) := dk_183 0 49 (dk_at dksX6_line_0 4 rfl rfl)
theorem dX6_line_7 : decode cX6_line 7 = .ok (.astore_n 1, 1) := dk_76 (dk_at dksX6_line_0 7 rfl rfl)
theorem dX6_line_8 : decode cX6_line 8 = .ok (.aload_n 1, 1) := dk_43 (dk_at dksX6_line_0 8 rfl rfl)
theorem dX6_line_9 : decode cX6_line 9 = .ok (.aload_n 0, 1) := dk_42 (dk_at dksX6_line_0 9 rfl rfl)
theorem dX6_line_10 : decode cX6_line 10 = .ok (.invokevirtual 50, 3) := dk_182 0 50 (dk_at dksX6_line_0 10 rfl rfl)
theorem dX6_line_13 : decode cX6_line 13 = .ok (.putfield 54, 3) := dk_181 0 54 (dk_at dksX6_line_0 13 rfl rfl)
theorem dX6_line_16 : decode cX6_line 16 = .ok (.aload_n 0, 1) := dk_42 (dk_at dksX6_line_0 16 rfl rfl)
theorem dX6_line_17 : decode cX6_line 17 = .ok (.getfield 15, 3) := dk_180 0 15 (dk_at dksX6_line_0 17 rfl rfl)
theorem dX6_line_20 : decode cX6_line 20 = .ok (.ifCond .ge 12, 3) := dk_156 0 12 (dk_at dksX6_line_0 20 rfl rfl)
theorem dX6_line_23 : decode cX6_line 23 = .ok (.aload_n 0, 1) := dk_42 (dk_at dksX6_line_0 23 rfl rfl)
theorem dX6_line_24 : decode cX6_line 24 = .ok (.invokevirtual 29, 3) := dk_182 0 29 (dk_at dksX6_line_1 0 rfl rfl)
theorem dX6_line_27 : decode cX6_line 27 = .ok (.bipush 63, 2) := dk_16 63 (dk_at dksX6_line_1 3 rfl rfl)
theorem dX6_line_29 : decode cX6_line 29 = .ok (.if_icmp .eq 5, 3) := dk_159 0 5 (dk_at dksX6_line_1 5 rfl rfl)
theorem dX6_line_32 : decode cX6_line 32 = .ok (.aload_n 1, 1) := dk_43 (dk_at dksX6_line_1 8 rfl rfl)
theorem dX6_line_33 : decode cX6_line 33 = .ok (.areturn, 1) := dk_176 (dk_at dksX6_line_1 9 rfl rfl)
theorem dX6_line_34 : decode cX6_line 34 = .ok (.aload_n 0, 1) := dk_42 (dk_at dksX6_line_1 10 rfl rfl)
theorem dX6_line_35 : decode cX6_line 35 = .ok (.dup, 1) := dk_89 (dk_at dksX6_line_1 11 rfl rfl)
theorem dX6_line_36 : decode cX6_line 36 = .ok (.getfield 19, 3) := dk_180 0 19 (dk_at dksX6_line_1 12 rfl rfl)
theorem dX6_line_39 : decode cX6_line 39 = .ok (.iconst 1, 1) := dk_4 (dk_at dksX6_line_1 15 rfl rfl)
theorem dX6_line_40 : decode cX6_line 40 = .ok (.iadd, 1) := dk_96 (dk_at dksX6_line_1 16 rfl rfl)
theorem dX6_line_41 : decode cX6_line 41 = .ok (.putfield 19, 3) := dk_181 0 19 (dk_at dksX6_line_1 17 rfl rfl)
theorem dX6_line_44 : decode cX6_line 44 = .ok (.aload_n 1, 1) := dk_43 (dk_at dksX6_line_1 20 rfl rfl)
theorem dX6_line_45 : decode cX6_line 45 = .ok (.aload_n 1, 1) := dk_43 (dk_at dksX6_line_1 21 rfl rfl)
theorem dX6_line_46 : decode cX6_line 46 = .ok (.getfield 54, 3) := dk_180 0 54 (dk_at dksX6_line_2 0 rfl rfl)
theorem dX6_line_49 : decode cX6_line 49 = .ok (.putfield 58, 3) := dk_181 0 58 (dk_at dksX6_line_2 3 rfl rfl)
theorem dX6_line_52 : decode cX6_line 52 = .ok (.aload_n 1, 1) := dk_43 (dk_at dksX6_line_2 6 rfl rfl)
theorem dX6_line_53 : decode cX6_line 53 = .ok (.aload_n 0, 1) := dk_42 (dk_at dksX6_line_2 7 rfl rfl)
theorem dX6_line_54 : decode cX6_line 54 = .ok (.invokevirtual 50, 3) := dk_182 0 50 (dk_at dksX6_line_2 8 rfl rfl)
theorem dX6_line_57 : decode cX6_line 57 = .ok (.putfield 54, 3) := dk_181 0 54 (dk_at dksX6_line_2 11 rfl rfl)
theorem dX6_line_60 : decode cX6_line 60 = .ok (.aload_n 1, 1) := dk_43 (dk_at dksX6_line_2 14 rfl rfl)
theorem dX6_line_61 : decode cX6_line 61 = .ok (.areturn, 1) := dk_176 (dk_at dksX6_line_2 15 rfl rfl)
def dkwX6_either_2 : List UInt8 := [176]
abbrev dktX6_either_2 : List UInt8 := dkwX6_either_2 ++ []
def dkwX6_either_1 : List UInt8 := [180, 0, 19, 4, 96, 181, 0, 19, 42, 16, 124, 43, 42, 182, 0, 66, 182, 0, 69, 76, 167, 255, 218, 43]
abbrev dktX6_either_1 : List UInt8 := dkwX6_either_1 ++ dktX6_either_2
def dkwX6_either_0 : List UInt8 := [42, 182, 0, 66, 76, 42, 180, 0, 15, 156, 0, 37, 42, 182, 0, 29, 16, 124, 160, 0, 28, 42, 89]
abbrev dktX6_either_0 : List UInt8 := dkwX6_either_0 ++ dktX6_either_1
theorem dksX6_either_0 : cX6_either.data.toList.drop 0 = dktX6_either_0 := by decide +kernel
theorem dksX6_either_1 : cX6_either.data.toList.drop 23 = dktX6_either_1 := dk_seg dksX6_either_0 23 rfl rfl
theorem dksX6_either_2 : cX6_either.data.toList.drop 47 = dktX6_either_2 := dk_seg dksX6_either_1 24 rfl rfl
theorem dX6_either_0 : decode cX6_either 0 = .ok (.aload_n 0, 1) := dk_42 (dk_at dksX6_either_0 0 rfl rfl)
theorem dX6_either_1 : decode cX6_either 1 = .ok (.invokevirtual 66, 3) := dk_182 0 66 (dk_at dksX6_either_0 1 rfl rfl)
theorem dX6_either_4 : decode cX6_either 4 = .ok (.astore_n 1, 1) := dk_76 (dk_at dksX6_either_0 4 rfl rfl)
theorem dX6_either_5 : decode cX6_either 5 = .ok (.aload_n 0, 1) := dk_42 (dk_at dksX6_either_0 5 rfl rfl)
theorem dX6_either_6 : decode cX6_either 6 = .ok (.getfield 15, 3) := dk_180 0 15 (dk_at dksX6_either_0 6 rfl rfl)
theorem dX6_either_9 : decode cX6_either 9 = .ok (.ifCond .ge 37, 3) := dk_156 0 37 (dk_at dksX6_either_0 9 rfl rfl)
theorem dX6_either_12 : decode cX6_either 12 = .ok (.aload_n 0, 1) := dk_42 (dk_at dksX6_either_0 12 rfl rfl)
theorem dX6_either_13 : decode cX6_either 13 = .ok (.invokevirtual 29, 3) := dk_182 0 29 (dk_at dksX6_either_0 13 rfl rfl)
theorem dX6_either_16 : decode cX6_either 16 = .ok (.bipush 124, 2) := dk_16 124 (dk_at dksX6_either_0 16 rfl rfl)
theorem dX6_either_18 : decode cX6_either 18 = .ok (.if_icmp .ne 28, 3) := dk_160 0 28 (dk_at dksX6_either_0 18 rfl rfl)
theorem dX6_either_21 : decode cX6_either 21 = .ok (.aload_n 0, 1) := dk_42 (dk_at dksX6_either_0 21 rfl rfl)
theorem dX6_either_22 : decode cX6_either 22 = .ok (.dup, 1) := dk_89 (dk_at dksX6_either_0 22 rfl rfl)
theorem dX6_either_23 : decode cX6_either 23 = .ok (.getfield 19, 3) := dk_180 0 19 (dk_at dksX6_either_1 0 rfl rfl)
theorem dX6_either_26 : decode cX6_either 26 = .ok (.iconst 1, 1) := dk_4 (dk_at dksX6_either_1 3 rfl rfl)
theorem dX6_either_27 : decode cX6_either 27 = .ok (.iadd, 1) := dk_96 (dk_at dksX6_either_1 4 rfl rfl)
theorem dX6_either_28 : decode cX6_either 28 = .ok (.putfield 19, 3) := dk_181 0 19 (dk_at dksX6_either_1 5 rfl rfl)
theorem dX6_either_31 : decode cX6_either 31 = .ok (.aload_n 0, 1) := dk_42 (dk_at dksX6_either_1 8 rfl rfl)
theorem dX6_either_32 : decode cX6_either 32 = .ok (.bipush 124, 2) := dk_16 124 (dk_at dksX6_either_1 9 rfl rfl)
theorem dX6_either_34 : decode cX6_either 34 = .ok (.aload_n 1, 1) := dk_43 (dk_at dksX6_either_1 11 rfl rfl)
theorem dX6_either_35 : decode cX6_either 35 = .ok (.aload_n 0, 1) := dk_42 (dk_at dksX6_either_1 12 rfl rfl)
theorem dX6_either_36 : decode cX6_either 36 = .ok (.invokevirtual 66, 3) := dk_182 0 66 (dk_at dksX6_either_1 13 rfl rfl)
theorem dX6_either_39 : decode cX6_either 39 = .ok (.invokevirtual 69, 3) := dk_182 0 69 (dk_at dksX6_either_1 16 rfl rfl)
theorem dX6_either_42 : decode cX6_either 42 = .ok (.astore_n 1, 1) := dk_76 (dk_at dksX6_either_1 19 rfl rfl)
theorem dX6_either_43 : decode cX6_either 43 = .ok (.goto (-38), 3) := dk_167 255 218 (dk_at dksX6_either_1 20 rfl rfl)
theorem dX6_either_46 : decode cX6_either 46 = .ok (.aload_n 1, 1) := dk_43 (dk_at dksX6_either_1 23 rfl rfl)
theorem dX6_either_47 : decode cX6_either 47 = .ok (.areturn, 1) := dk_176 (dk_at dksX6_either_2 0 rfl rfl)
def dkwX6_all_2 : List UInt8 := [176]
abbrev dktX6_all_2 : List UInt8 := dkwX6_all_2 ++ []
def dkwX6_all_1 : List UInt8 := [180, 0, 19, 4, 96, 181, 0, 19, 42, 16, 38, 43, 42, 182, 0, 73, 182, 0, 69, 76, 167, 255, 218, 43]
abbrev dktX6_all_1 : List UInt8 := dkwX6_all_1 ++ dktX6_all_2
def dkwX6_all_0 : List UInt8 := [42, 182, 0, 73, 76, 42, 180, 0, 15, 156, 0, 37, 42, 182, 0, 29, 16, 38, 160, 0, 28, 42, 89]
abbrev dktX6_all_0 : List UInt8 := dkwX6_all_0 ++ dktX6_all_1
theorem dksX6_all_0 : cX6_all.data.toList.drop 0 = dktX6_all_0 := by decide +kernel
theorem dksX6_all_1 : cX6_all.data.toList.drop 23 = dktX6_all_1 := dk_seg dksX6_all_0 23 rfl rfl
theorem dksX6_all_2 : cX6_all.data.toList.drop 47 = dktX6_all_2 := dk_seg dksX6_all_1 24 rfl rfl
theorem dX6_all_0 : decode cX6_all 0 = .ok (.aload_n 0, 1) := dk_42 (dk_at dksX6_all_0 0 rfl rfl)
theorem dX6_all_1 : decode cX6_all 1 = .ok (.invokevirtual 73, 3) := dk_182 0 73 (dk_at dksX6_all_0 1 rfl rfl)
theorem dX6_all_4 : decode cX6_all 4 = .ok (.astore_n 1, 1) := dk_76 (dk_at dksX6_all_0 4 rfl rfl)
theorem dX6_all_5 : decode cX6_all 5 = .ok (.aload_n 0, 1) := dk_42 (dk_at dksX6_all_0 5 rfl rfl)
theorem dX6_all_6 : decode cX6_all 6 = .ok (.getfield 15, 3) := dk_180 0 15 (dk_at dksX6_all_0 6 rfl rfl)
theorem dX6_all_9 : decode cX6_all 9 = .ok (.ifCond .ge 37, 3) := dk_156 0 37 (dk_at dksX6_all_0 9 rfl rfl)
theorem dX6_all_12 : decode cX6_all 12 = .ok (.aload_n 0, 1) := dk_42 (dk_at dksX6_all_0 12 rfl rfl)
theorem dX6_all_13 : decode cX6_all 13 = .ok (.invokevirtual 29, 3) := dk_182 0 29 (dk_at dksX6_all_0 13 rfl rfl)
theorem dX6_all_16 : decode cX6_all 16 = .ok (.bipush 38, 2) := dk_16 38 (dk_at dksX6_all_0 16 rfl rfl)
theorem dX6_all_18 : decode cX6_all 18 = .ok (.if_icmp .ne 28, 3) := dk_160 0 28 (dk_at dksX6_all_0 18 rfl rfl)
theorem dX6_all_21 : decode cX6_all 21 = .ok (.aload_n 0, 1) := dk_42 (dk_at dksX6_all_0 21 rfl rfl)
theorem dX6_all_22 : decode cX6_all 22 = .ok (.dup, 1) := dk_89 (dk_at dksX6_all_0 22 rfl rfl)
theorem dX6_all_23 : decode cX6_all 23 = .ok (.getfield 19, 3) := dk_180 0 19 (dk_at dksX6_all_1 0 rfl rfl)
theorem dX6_all_26 : decode cX6_all 26 = .ok (.iconst 1, 1) := dk_4 (dk_at dksX6_all_1 3 rfl rfl)
theorem dX6_all_27 : decode cX6_all 27 = .ok (.iadd, 1) := dk_96 (dk_at dksX6_all_1 4 rfl rfl)
theorem dX6_all_28 : decode cX6_all 28 = .ok (.putfield 19, 3) := dk_181 0 19 (dk_at dksX6_all_1 5 rfl rfl)
theorem dX6_all_31 : decode cX6_all 31 = .ok (.aload_n 0, 1) := dk_42 (dk_at dksX6_all_1 8 rfl rfl)
theorem dX6_all_32 : decode cX6_all 32 = .ok (.bipush 38, 2) := dk_16 38 (dk_at dksX6_all_1 9 rfl rfl)
theorem dX6_all_34 : decode cX6_all 34 = .ok (.aload_n 1, 1) := dk_43 (dk_at dksX6_all_1 11 rfl rfl)
theorem dX6_all_35 : decode cX6_all 35 = .ok (.aload_n 0, 1) := dk_42 (dk_at dksX6_all_1 12 rfl rfl)
theorem dX6_all_36 : decode cX6_all 36 = .ok (.invokevirtual 73, 3) := dk_182 0 73 (dk_at dksX6_all_1 13 rfl rfl)
theorem dX6_all_39 : decode cX6_all 39 = .ok (.invokevirtual 69, 3) := dk_182 0 69 (dk_at dksX6_all_1 16 rfl rfl)
theorem dX6_all_42 : decode cX6_all 42 = .ok (.astore_n 1, 1) := dk_76 (dk_at dksX6_all_1 19 rfl rfl)
theorem dX6_all_43 : decode cX6_all 43 = .ok (.goto (-38), 3) := dk_167 255 218 (dk_at dksX6_all_1 20 rfl rfl)
theorem dX6_all_46 : decode cX6_all 46 = .ok (.aload_n 1, 1) := dk_43 (dk_at dksX6_all_1 23 rfl rfl)
theorem dX6_all_47 : decode cX6_all 47 = .ok (.areturn, 1) := dk_176 (dk_at dksX6_all_2 0 rfl rfl)
def dkwX6_compared_2 : List UInt8 := [176]
abbrev dktX6_compared_2 : List UInt8 := dkwX6_compared_2 ++ []
def dkwX6_compared_1 : List UInt8 := [182, 0, 29, 61, 42, 89, 180, 0, 19, 4, 96, 181, 0, 19, 42, 28, 43, 42, 182, 0, 76, 182, 0, 69]
abbrev dktX6_compared_1 : List UInt8 := dkwX6_compared_1 ++ dktX6_compared_2
def dkwX6_compared_0 : List UInt8 := [42, 182, 0, 76, 76, 42, 180, 0, 15, 156, 0, 12, 42, 18, 79, 182, 0, 81, 154, 0, 5, 43, 176, 42]
abbrev dktX6_compared_0 : List UInt8 := dkwX6_compared_0 ++ dktX6_compared_1
theorem dksX6_compared_0 : cX6_compared.data.toList.drop 0 = dktX6_compared_0 := by decide +kernel
theorem dksX6_compared_1 : cX6_compared.data.toList.drop 24 = dktX6_compared_1 := dk_seg dksX6_compared_0 24 rfl rfl
theorem dksX6_compared_2 : cX6_compared.data.toList.drop 48 = dktX6_compared_2 := dk_seg dksX6_compared_1 24 rfl rfl
theorem dX6_compared_0 : decode cX6_compared 0 = .ok (.aload_n 0, 1) := dk_42 (dk_at dksX6_compared_0 0 rfl rfl)
theorem dX6_compared_1 : decode cX6_compared 1 = .ok (.invokevirtual 76, 3) := dk_182 0 76 (dk_at dksX6_compared_0 1 rfl rfl)
theorem dX6_compared_4 : decode cX6_compared 4 = .ok (.astore_n 1, 1) := dk_76 (dk_at dksX6_compared_0 4 rfl rfl)
theorem dX6_compared_5 : decode cX6_compared 5 = .ok (.aload_n 0, 1) := dk_42 (dk_at dksX6_compared_0 5 rfl rfl)
theorem dX6_compared_6 : decode cX6_compared 6 = .ok (.getfield 15, 3) := dk_180 0 15 (dk_at dksX6_compared_0 6 rfl rfl)
theorem dX6_compared_9 : decode cX6_compared 9 = .ok (.ifCond .ge 12, 3) := dk_156 0 12 (dk_at dksX6_compared_0 9 rfl rfl)
theorem dX6_compared_12 : decode cX6_compared 12 = .ok (.aload_n 0, 1) := dk_42 (dk_at dksX6_compared_0 12 rfl rfl)
theorem dX6_compared_13 : decode cX6_compared 13 = .ok (.ldc 79, 2) := dk_18 79 (dk_at dksX6_compared_0 13 rfl rfl)
theorem dX6_compared_15 : decode cX6_compared 15 = .ok (.invokevirtual 81, 3) := dk_182 0 81 (dk_at dksX6_compared_0 15 rfl rfl)
theorem dX6_compared_18 : decode cX6_compared 18 = .ok (.ifCond .ne 5, 3) := dk_154 0 5 (dk_at dksX6_compared_0 18 rfl rfl)
theorem dX6_compared_21 : decode cX6_compared 21 = .ok (.aload_n 1, 1) := dk_43 (dk_at dksX6_compared_0 21 rfl rfl)
theorem dX6_compared_22 : decode cX6_compared 22 = .ok (.areturn, 1) := dk_176 (dk_at dksX6_compared_0 22 rfl rfl)
theorem dX6_compared_23 : decode cX6_compared 23 = .ok (.aload_n 0, 1) := dk_42 (dk_at dksX6_compared_0 23 rfl rfl)
theorem dX6_compared_24 : decode cX6_compared 24 = .ok (.invokevirtual 29, 3) := dk_182 0 29 (dk_at dksX6_compared_1 0 rfl rfl)
theorem dX6_compared_27 : decode cX6_compared 27 = .ok (.istore_n 2, 1) := dk_61 (dk_at dksX6_compared_1 3 rfl rfl)
theorem dX6_compared_28 : decode cX6_compared 28 = .ok (.aload_n 0, 1) := dk_42 (dk_at dksX6_compared_1 4 rfl rfl)
theorem dX6_compared_29 : decode cX6_compared 29 = .ok (.dup, 1) := dk_89 (dk_at dksX6_compared_1 5 rfl rfl)
theorem dX6_compared_30 : decode cX6_compared 30 = .ok (.getfield 19, 3) := dk_180 0 19 (dk_at dksX6_compared_1 6 rfl rfl)
theorem dX6_compared_33 : decode cX6_compared 33 = .ok (.iconst 1, 1) := dk_4 (dk_at dksX6_compared_1 9 rfl rfl)
theorem dX6_compared_34 : decode cX6_compared 34 = .ok (.iadd, 1) := dk_96 (dk_at dksX6_compared_1 10 rfl rfl)
theorem dX6_compared_35 : decode cX6_compared 35 = .ok (.putfield 19, 3) := dk_181 0 19 (dk_at dksX6_compared_1 11 rfl rfl)
theorem dX6_compared_38 : decode cX6_compared 38 = .ok (.aload_n 0, 1) := dk_42 (dk_at dksX6_compared_1 14 rfl rfl)
theorem dX6_compared_39 : decode cX6_compared 39 = .ok (.iload_n 2, 1) := dk_28 (dk_at dksX6_compared_1 15 rfl rfl)
theorem dX6_compared_40 : decode cX6_compared 40 = .ok (.aload_n 1, 1) := dk_43 (dk_at dksX6_compared_1 16 rfl rfl)
theorem dX6_compared_41 : decode cX6_compared 41 = .ok (.aload_n 0, 1) := dk_42 (dk_at dksX6_compared_1 17 rfl rfl)
theorem dX6_compared_42 : decode cX6_compared 42 = .ok (.invokevirtual 76, 3) := dk_182 0 76 (dk_at dksX6_compared_1 18 rfl rfl)
theorem dX6_compared_45 : decode cX6_compared 45 = .ok (.invokevirtual 69, 3) := dk_182 0 69 (dk_at dksX6_compared_1 21 rfl rfl)
theorem dX6_compared_48 : decode cX6_compared 48 = .ok (.areturn, 1) := dk_176 (dk_at dksX6_compared_2 0 rfl rfl)
def dkwX6_sum_2 : List UInt8 := [76, 167, 255, 214, 43, 176]
abbrev dktX6_sum_2 : List UInt8 := dkwX6_sum_2 ++ []
def dkwX6_sum_1 : List UInt8 := [182, 0, 29, 61, 42, 89, 180, 0, 19, 4, 96, 181, 0, 19, 42, 28, 43, 42, 182, 0, 85, 182, 0, 69]
abbrev dktX6_sum_1 : List UInt8 := dkwX6_sum_1 ++ dktX6_sum_2
def dkwX6_sum_0 : List UInt8 := [42, 182, 0, 85, 76, 42, 180, 0, 15, 156, 0, 41, 42, 18, 88, 182, 0, 81, 153, 0, 32, 42]
abbrev dktX6_sum_0 : List UInt8 := dkwX6_sum_0 ++ dktX6_sum_1
theorem dksX6_sum_0 : cX6_sum.data.toList.drop 0 = dktX6_sum_0 := by decide +kernel
theorem dksX6_sum_1 : cX6_sum.data.toList.drop 22 = dktX6_sum_1 := dk_seg dksX6_sum_0 22 rfl rfl
theorem dksX6_sum_2 : cX6_sum.data.toList.drop 46 = dktX6_sum_2 := dk_seg dksX6_sum_1 24 rfl rfl
theorem dX6_sum_0 : decode cX6_sum 0 = .ok (.aload_n 0, 1) := dk_42 (dk_at dksX6_sum_0 0 rfl rfl)
theorem dX6_sum_1 : decode cX6_sum 1 = .ok (.invokevirtual 85, 3) := dk_182 0 85 (dk_at dksX6_sum_0 1 rfl rfl)
theorem dX6_sum_4 : decode cX6_sum 4 = .ok (.astore_n 1, 1) := dk_76 (dk_at dksX6_sum_0 4 rfl rfl)
theorem dX6_sum_5 : decode cX6_sum 5 = .ok (.aload_n 0, 1) := dk_42 (dk_at dksX6_sum_0 5 rfl rfl)
theorem dX6_sum_6 : decode cX6_sum 6 = .ok (.getfield 15, 3) := dk_180 0 15 (dk_at dksX6_sum_0 6 rfl rfl)
theorem dX6_sum_9 : decode cX6_sum 9 = .ok (.ifCond .ge 41, 3) := dk_156 0 41 (dk_at dksX6_sum_0 9 rfl rfl)
theorem dX6_sum_12 : decode cX6_sum 12 = .ok (.aload_n 0, 1) := dk_42 (dk_at dksX6_sum_0 12 rfl rfl)
theorem dX6_sum_13 : decode cX6_sum 13 = .ok (.ldc 88, 2) := dk_18 88 (dk_at dksX6_sum_0 13 rfl rfl)
theorem dX6_sum_15 : decode cX6_sum 15 = .ok (.invokevirtual 81, 3) := dk_182 0 81 (dk_at dksX6_sum_0 15 rfl rfl)
theorem dX6_sum_18 : decode cX6_sum 18 = .ok (.ifCond .eq 32, 3) := dk_153 0 32 (dk_at dksX6_sum_0 18 rfl rfl)
theorem dX6_sum_21 : decode cX6_sum 21 = .ok (.aload_n 0, 1) := dk_42 (dk_at dksX6_sum_0 21 rfl rfl)
theorem dX6_sum_22 : decode cX6_sum 22 = .ok (.invokevirtual 29, 3) := dk_182 0 29 (dk_at dksX6_sum_1 0 rfl rfl)
theorem dX6_sum_25 : decode cX6_sum 25 = .ok (.istore_n 2, 1) := dk_61 (dk_at dksX6_sum_1 3 rfl rfl)
theorem dX6_sum_26 : decode cX6_sum 26 = .ok (.aload_n 0, 1) := dk_42 (dk_at dksX6_sum_1 4 rfl rfl)
theorem dX6_sum_27 : decode cX6_sum 27 = .ok (.dup, 1) := dk_89 (dk_at dksX6_sum_1 5 rfl rfl)
theorem dX6_sum_28 : decode cX6_sum 28 = .ok (.getfield 19, 3) := dk_180 0 19 (dk_at dksX6_sum_1 6 rfl rfl)
theorem dX6_sum_31 : decode cX6_sum 31 = .ok (.iconst 1, 1) := dk_4 (dk_at dksX6_sum_1 9 rfl rfl)
theorem dX6_sum_32 : decode cX6_sum 32 = .ok (.iadd, 1) := dk_96 (dk_at dksX6_sum_1 10 rfl rfl)
theorem dX6_sum_33 : decode cX6_sum 33 = .ok (.putfield 19, 3) := dk_181 0 19 (dk_at dksX6_sum_1 11 rfl rfl)
theorem dX6_sum_36 : decode cX6_sum 36 = .ok (.aload_n 0, 1) := dk_42 (dk_at dksX6_sum_1 14 rfl rfl)
theorem dX6_sum_37 : decode cX6_sum 37 = .ok (.iload_n 2, 1) := dk_28 (dk_at dksX6_sum_1 15 rfl rfl)
theorem dX6_sum_38 : decode cX6_sum 38 = .ok (.aload_n 1, 1) := dk_43 (dk_at dksX6_sum_1 16 rfl rfl)
theorem dX6_sum_39 : decode cX6_sum 39 = .ok (.aload_n 0, 1) := dk_42 (dk_at dksX6_sum_1 17 rfl rfl)
theorem dX6_sum_40 : decode cX6_sum 40 = .ok (.invokevirtual 85, 3) := dk_182 0 85 (dk_at dksX6_sum_1 18 rfl rfl)
theorem dX6_sum_43 : decode cX6_sum 43 = .ok (.invokevirtual 69, 3) := dk_182 0 69 (dk_at dksX6_sum_1 21 rfl rfl)
theorem dX6_sum_46 : decode cX6_sum 46 = .ok (.astore_n 1, 1) := dk_76 (dk_at dksX6_sum_2 0 rfl rfl)
theorem dX6_sum_47 : decode cX6_sum 47 = .ok (.goto (-42), 3) := dk_167 255 214 (dk_at dksX6_sum_2 1 rfl rfl)
theorem dX6_sum_50 : decode cX6_sum 50 = .ok (.aload_n 1, 1) := dk_43 (dk_at dksX6_sum_2 4 rfl rfl)
theorem dX6_sum_51 : decode cX6_sum 51 = .ok (.areturn, 1) := dk_176 (dk_at dksX6_sum_2 5 rfl rfl)
def dkwX6_product_2 : List UInt8 := [76, 167, 255, 214, 43, 176]
abbrev dktX6_product_2 : List UInt8 := dkwX6_product_2 ++ []
def dkwX6_product_1 : List UInt8 := [182, 0, 29, 61, 42, 89, 180, 0, 19, 4, 96, 181, 0, 19, 42, 28, 43, 42, 182, 0, 90, 182, 0, 69]
abbrev dktX6_product_1 : List UInt8 := dkwX6_product_1 ++ dktX6_product_2
def dkwX6_product_0 : List UInt8 := [42, 182, 0, 90, 76, 42, 180, 0, 15, 156, 0, 41, 42, 18, 93, 182, 0, 81, 153, 0, 32, 42]
abbrev dktX6_product_0 : List UInt8 := dkwX6_product_0 ++ dktX6_product_1
theorem dksX6_product_0 : cX6_product.data.toList.drop 0 = dktX6_product_0 := by decide +kernel
theorem dksX6_product_1 : cX6_product.data.toList.drop 22 = dktX6_product_1 := dk_seg dksX6_product_0 22 rfl rfl
theorem dksX6_product_2 : cX6_product.data.toList.drop 46 = dktX6_product_2 := dk_seg dksX6_product_1 24 rfl rfl
theorem dX6_product_0 : decode cX6_product 0 = .ok (.aload_n 0, 1) := dk_42 (dk_at dksX6_product_0 0 rfl rfl)
theorem dX6_product_1 : decode cX6_product 1 = .ok (.invokevirtual 90, 3) := dk_182 0 90 (dk_at dksX6_product_0 1 rfl rfl)
theorem dX6_product_4 : decode cX6_product 4 = .ok (.astore_n 1, 1) := dk_76 (dk_at dksX6_product_0 4 rfl rfl)
theorem dX6_product_5 : decode cX6_product 5 = .ok (.aload_n 0, 1) := dk_42 (dk_at dksX6_product_0 5 rfl rfl)
theorem dX6_product_6 : decode cX6_product 6 = .ok (.getfield 15, 3) := dk_180 0 15 (dk_at dksX6_product_0 6 rfl rfl)
theorem dX6_product_9 : decode cX6_product 9 = .ok (.ifCond .ge 41, 3) := dk_156 0 41 (dk_at dksX6_product_0 9 rfl rfl)
theorem dX6_product_12 : decode cX6_product 12 = .ok (.aload_n 0, 1) := dk_42 (dk_at dksX6_product_0 12 rfl rfl)
theorem dX6_product_13 : decode cX6_product 13 = .ok (.ldc 93, 2) := dk_18 93 (dk_at dksX6_product_0 13 rfl rfl)
theorem dX6_product_15 : decode cX6_product 15 = .ok (.invokevirtual 81, 3) := dk_182 0 81 (dk_at dksX6_product_0 15 rfl rfl)
theorem dX6_product_18 : decode cX6_product 18 = .ok (.ifCond .eq 32, 3) := dk_153 0 32 (dk_at dksX6_product_0 18 rfl rfl)
theorem dX6_product_21 : decode cX6_product 21 = .ok (.aload_n 0, 1) := dk_42 (dk_at dksX6_product_0 21 rfl rfl)
theorem dX6_product_22 : decode cX6_product 22 = .ok (.invokevirtual 29, 3) := dk_182 0 29 (dk_at dksX6_product_1 0 rfl rfl)
theorem dX6_product_25 : decode cX6_product 25 = .ok (.istore_n 2, 1) := dk_61 (dk_at dksX6_product_1 3 rfl rfl)
theorem dX6_product_26 : decode cX6_product 26 = .ok (.aload_n 0, 1) := dk_42 (dk_at dksX6_product_1 4 rfl rfl)
theorem dX6_product_27 : decode cX6_product 27 = .ok (.dup, 1) := dk_89 (dk_at dksX6_product_1 5 rfl rfl)
theorem dX6_product_28 : decode cX6_product 28 = .ok (.getfield 19, 3) := dk_180 0 19 (dk_at dksX6_product_1 6 rfl rfl)
theorem dX6_product_31 : decode cX6_product 31 = .ok (.iconst 1, 1) := dk_4 (dk_at dksX6_product_1 9 rfl rfl)
theorem dX6_product_32 : decode cX6_product 32 = .ok (.iadd, 1) := dk_96 (dk_at dksX6_product_1 10 rfl rfl)
theorem dX6_product_33 : decode cX6_product 33 = .ok (.putfield 19, 3) := dk_181 0 19 (dk_at dksX6_product_1 11 rfl rfl)
theorem dX6_product_36 : decode cX6_product 36 = .ok (.aload_n 0, 1) := dk_42 (dk_at dksX6_product_1 14 rfl rfl)
theorem dX6_product_37 : decode cX6_product 37 = .ok (.iload_n 2, 1) := dk_28 (dk_at dksX6_product_1 15 rfl rfl)
theorem dX6_product_38 : decode cX6_product 38 = .ok (.aload_n 1, 1) := dk_43 (dk_at dksX6_product_1 16 rfl rfl)
theorem dX6_product_39 : decode cX6_product 39 = .ok (.aload_n 0, 1) := dk_42 (dk_at dksX6_product_1 17 rfl rfl)
theorem dX6_product_40 : decode cX6_product 40 = .ok (.invokevirtual 90, 3) := dk_182 0 90 (dk_at dksX6_product_1 18 rfl rfl)
theorem dX6_product_43 : decode cX6_product 43 = .ok (.invokevirtual 69, 3) := dk_182 0 69 (dk_at dksX6_product_1 21 rfl rfl)
theorem dX6_product_46 : decode cX6_product 46 = .ok (.astore_n 1, 1) := dk_76 (dk_at dksX6_product_2 0 rfl rfl)
theorem dX6_product_47 : decode cX6_product 47 = .ok (.goto (-42), 3) := dk_167 255 214 (dk_at dksX6_product_2 1 rfl rfl)
theorem dX6_product_50 : decode cX6_product 50 = .ok (.aload_n 1, 1) := dk_43 (dk_at dksX6_product_2 4 rfl rfl)
theorem dX6_product_51 : decode cX6_product 51 = .ok (.areturn, 1) := dk_176 (dk_at dksX6_product_2 5 rfl rfl)
def dkwX6_operand_11 : List UInt8 := [89, 29, 183, 0, 126, 176]
abbrev dktX6_operand_11 : List UInt8 := dkwX6_operand_11 ++ []
def dkwX6_operand_10 : List UInt8 := [42, 182, 0, 29, 16, 48, 16, 57, 184, 0, 120, 153, 0, 10, 42, 182, 0, 109, 167, 0, 11, 187, 0, 124]
abbrev dktX6_operand_10 : List UInt8 := dkwX6_operand_10 ++ dktX6_operand_11
def dkwX6_operand_9 : List UInt8 := [16, 48, 100, 62, 132, 2, 1, 42, 89, 180, 0, 19, 4, 96, 181, 0, 19, 167, 255, 211, 28, 153, 0, 17]
abbrev dktX6_operand_9 : List UInt8 := dkwX6_operand_9 ++ dktX6_operand_10
def dkwX6_operand_8 : List UInt8 := [42, 182, 0, 29, 16, 48, 16, 57, 184, 0, 120, 153, 0, 32, 16, 10, 29, 104, 42, 182, 0, 29, 96]
abbrev dktX6_operand_8 : List UInt8 := dkwX6_operand_8 ++ dktX6_operand_9
def dkwX6_operand_7 : List UInt8 := [181, 0, 19, 42, 89, 180, 0, 95, 4, 100, 181, 0, 95, 44, 176, 3, 61, 3, 62, 28, 7, 162, 0, 46]
abbrev dktX6_operand_7 : List UInt8 := dkwX6_operand_7 ++ dktX6_operand_8
def dkwX6_operand_6 : List UInt8 := [176, 42, 182, 0, 29, 16, 41, 159, 0, 8, 42, 182, 0, 109, 176, 42, 89, 180, 0, 19, 4, 96]
abbrev dktX6_operand_6 : List UInt8 := dkwX6_operand_6 ++ dktX6_operand_7
def dkwX6_operand_5 : List UInt8 := [182, 0, 105, 154, 0, 8, 42, 182, 0, 109, 176, 42, 182, 0, 50, 77, 42, 180, 0, 15, 155, 0, 5, 1]
abbrev dktX6_operand_5 : List UInt8 := dkwX6_operand_5 ++ dktX6_operand_6
def dkwX6_operand_4 : List UInt8 := [183, 0, 114, 167, 0, 11, 187, 0, 117, 89, 44, 183, 0, 119, 176, 27, 16, 40, 160, 0, 65, 42]
abbrev dktX6_operand_4 : List UInt8 := dkwX6_operand_4 ++ dktX6_operand_5
def dkwX6_operand_3 : List UInt8 := [181, 0, 95, 42, 180, 0, 15, 155, 0, 5, 1, 176, 27, 16, 33, 160, 0, 14, 187, 0, 112, 89, 44]
abbrev dktX6_operand_3 : List UInt8 := dkwX6_operand_3 ++ dktX6_operand_4
def dkwX6_operand_2 : List UInt8 := [182, 0, 105, 154, 0, 8, 42, 182, 0, 109, 176, 42, 182, 0, 90, 77, 42, 89, 180, 0, 95, 4, 100]
abbrev dktX6_operand_2 : List UInt8 := dkwX6_operand_2 ++ dktX6_operand_3
def dkwX6_operand_1 : List UInt8 := [187, 0, 100, 89, 27, 183, 0, 102, 176, 27, 16, 33, 159, 0, 9, 27, 16, 45, 160, 0, 65, 42]
abbrev dktX6_operand_1 : List UInt8 := dkwX6_operand_1 ++ dktX6_operand_2
def dkwX6_operand_0 : List UInt8 := [42, 182, 0, 29, 60, 42, 18, 98, 182, 0, 81, 153, 0, 22, 42, 89, 180, 0, 19, 4, 96, 181, 0, 19]
abbrev dktX6_operand_0 : List UInt8 := dkwX6_operand_0 ++ dktX6_operand_1
theorem dksX6_operand_0 : cX6_operand.data.toList.drop 0 = dktX6_operand_0 := by decide +kernel
theorem dksX6_operand_1 : cX6_operand.data.toList.drop 24 = dktX6_operand_1 := dk_seg dksX6_operand_0 24 rfl rfl
theorem dksX6_operand_2 : cX6_operand.data.toList.drop 46 = dktX6_operand_2 := dk_seg dksX6_operand_1 22 rfl rfl
theorem dksX6_operand_3 : cX6_operand.data.toList.drop 69 = dktX6_operand_3 := dk_seg dksX6_operand_2 23 rfl rfl
theorem dksX6_operand_4 : cX6_operand.data.toList.drop 92 = dktX6_operand_4 := dk_seg dksX6_operand_3 23 rfl rfl
theorem dksX6_operand_5 : cX6_operand.data.toList.drop 114 = dktX6_operand_5 := dk_seg dksX6_operand_4 22 rfl rfl
theorem dksX6_operand_6 : cX6_operand.data.toList.drop 138 = dktX6_operand_6 := dk_seg dksX6_operand_5 24 rfl rfl
theorem dksX6_operand_7 : cX6_operand.data.toList.drop 160 = dktX6_operand_7 := dk_seg dksX6_operand_6 22 rfl rfl
theorem dksX6_operand_8 : cX6_operand.data.toList.drop 184 = dktX6_operand_8 := dk_seg dksX6_operand_7 24 rfl rfl
theorem dksX6_operand_9 : cX6_operand.data.toList.drop 207 = dktX6_operand_9 := dk_seg dksX6_operand_8 23 rfl rfl
theorem dksX6_operand_10 : cX6_operand.data.toList.drop 231 = dktX6_operand_10 := dk_seg dksX6_operand_9 24 rfl rfl
theorem dksX6_operand_11 : cX6_operand.data.toList.drop 255 = dktX6_operand_11 := dk_seg dksX6_operand_10 24 rfl rfl
theorem dX6_operand_0 : decode cX6_operand 0 = .ok (.aload_n 0, 1) := dk_42 (dk_at dksX6_operand_0 0 rfl rfl)
theorem dX6_operand_1 : decode cX6_operand 1 = .ok (.invokevirtual 29, 3) := dk_182 0 29 (dk_at dksX6_operand_0 1 rfl rfl)
theorem dX6_operand_4 : decode cX6_operand 4 = .ok (.istore_n 1, 1) := dk_60 (dk_at dksX6_operand_0 4 rfl rfl)
theorem dX6_operand_5 : decode cX6_operand 5 = .ok (.aload_n 0, 1) := dk_42 (dk_at dksX6_operand_0 5 rfl rfl)
theorem dX6_operand_6 : decode cX6_operand 6 = .ok (.ldc 98, 2) := dk_18 98 (dk_at dksX6_operand_0 6 rfl rfl)
theorem dX6_operand_8 : decode cX6_operand 8 = .ok (.invokevirtual 81, 3) := dk_182 0 81 (dk_at dksX6_operand_0 8 rfl rfl)
theorem dX6_operand_11 : decode cX6_operand 11 = .ok (.ifCond .eq 22, 3) := dk_153 0 22 (dk_at dksX6_operand_0 11 rfl rfl)
theorem dX6_operand_14 : decode cX6_operand 14 = .ok (.aload_n 0, 1) := dk_42 (dk_at dksX6_operand_0 14 rfl rfl)
theorem dX6_operand_15 : decode cX6_operand 15 = .ok (.dup, 1) := dk_89 (dk_at dksX6_operand_0 15 rfl rfl)
theorem dX6_operand_16 : decode cX6_operand 16 = .ok (.getfield 19, 3) := dk_180 0 19 (dk_at dksX6_operand_0 16 rfl rfl)
theorem dX6_operand_19 : decode cX6_operand 19 = .ok (.iconst 1, 1) := dk_4 (dk_at dksX6_operand_0 19 rfl rfl)
theorem dX6_operand_20 : decode cX6_operand 20 = .ok (.iadd, 1) := dk_96 (dk_at dksX6_operand_0 20 rfl rfl)
theorem dX6_operand_21 : decode cX6_operand 21 = .ok (.putfield 19, 3) := dk_181 0 19 (dk_at dksX6_operand_0 21 rfl rfl)
theorem dX6_operand_24 : decode cX6_operand 24 = .ok (.new 100, 3) := dk_187 0 100 (dk_at dksX6_operand_1 0 rfl rfl)
theorem dX6_operand_27 : decode cX6_operand 27 = .ok (.dup, 1) := dk_89 (dk_at dksX6_operand_1 3 rfl rfl)
theorem dX6_operand_28 : decode cX6_operand 28 = .ok (.iload_n 1, 1) := dk_27 (dk_at dksX6_operand_1 4 rfl rfl)
theorem dX6_operand_29 : decode cX6_operand 29 = .ok (.invokespecial 102, 3) := dk_183 0 102 (dk_at dksX6_operand_1 5 rfl rfl)
theorem dX6_operand_32 : decode cX6_operand 32 = .ok (.areturn, 1) := dk_176 (dk_at dksX6_operand_1 8 rfl rfl)
theorem dX6_operand_33 : decode cX6_operand 33 = .ok (.iload_n 1, 1) := dk_27 (dk_at dksX6_operand_1 9 rfl rfl)
theorem dX6_operand_34 : decode cX6_operand 34 = .ok (.bipush 33, 2) := dk_16 33 (dk_at dksX6_operand_1 10 rfl rfl)
theorem dX6_operand_36 : decode cX6_operand 36 = .ok (.if_icmp .eq 9, 3) := dk_159 0 9 (dk_at dksX6_operand_1 12 rfl rfl)
theorem dX6_operand_39 : decode cX6_operand 39 = .ok (.iload_n 1, 1) := dk_27 (dk_at dksX6_operand_1 15 rfl rfl)
theorem dX6_operand_40 : decode cX6_operand 40 = .ok (.bipush 45, 2) := dk_16 45 (dk_at dksX6_operand_1 16 rfl rfl)
theorem dX6_operand_42 : decode cX6_operand 42 = .ok (.if_icmp .ne 65, 3) := dk_160 0 65 (dk_at dksX6_operand_1 18 rfl rfl)
theorem dX6_operand_45 : decode cX6_operand 45 = .ok (.aload_n 0, 1) := dk_42 (dk_at dksX6_operand_1 21 rfl rfl)
theorem dX6_operand_46 : decode cX6_operand 46 = .ok (.invokevirtual 105, 3) := dk_182 0 105 (dk_at dksX6_operand_2 0 rfl rfl)
theorem dX6_operand_49 : decode cX6_operand 49 = .ok (.ifCond .ne 8, 3) := dk_154 0 8 (dk_at dksX6_operand_2 3 rfl rfl)
theorem dX6_operand_52 : decode cX6_operand 52 = .ok (.aload_n 0, 1) := dk_42 (dk_at dksX6_operand_2 6 rfl rfl)
theorem dX6_operand_53 : decode cX6_operand 53 = .ok (.invokevirtual 109, 3) := dk_182 0 109 (dk_at dksX6_operand_2 7 rfl rfl)
theorem dX6_operand_56 : decode cX6_operand 56 = .ok (.areturn, 1) := dk_176 (dk_at dksX6_operand_2 10 rfl rfl)
theorem dX6_operand_57 : decode cX6_operand 57 = .ok (.aload_n 0, 1) := dk_42 (dk_at dksX6_operand_2 11 rfl rfl)
theorem dX6_operand_58 : decode cX6_operand 58 = .ok (.invokevirtual 90, 3) := dk_182 0 90 (dk_at dksX6_operand_2 12 rfl rfl)
theorem dX6_operand_61 : decode cX6_operand 61 = .ok (.astore_n 2, 1) := dk_77 (dk_at dksX6_operand_2 15 rfl rfl)
theorem dX6_operand_62 : decode cX6_operand 62 = .ok (.aload_n 0, 1) := dk_42 (dk_at dksX6_operand_2 16 rfl rfl)
theorem dX6_operand_63 : decode cX6_operand 63 = .ok (.dup, 1) := dk_89 (dk_at dksX6_operand_2 17 rfl rfl)
theorem dX6_operand_64 : decode cX6_operand 64 = .ok (.getfield 95, 3) := dk_180 0 95 (dk_at dksX6_operand_2 18 rfl rfl)
theorem dX6_operand_67 : decode cX6_operand 67 = .ok (.iconst 1, 1) := dk_4 (dk_at dksX6_operand_2 21 rfl rfl)
theorem dX6_operand_68 : decode cX6_operand 68 = .ok (.isub, 1) := dk_100 (dk_at dksX6_operand_2 22 rfl rfl)
theorem dX6_operand_69 : decode cX6_operand 69 = .ok (.putfield 95, 3) := dk_181 0 95 (dk_at dksX6_operand_3 0 rfl rfl)
theorem dX6_operand_72 : decode cX6_operand 72 = .ok (.aload_n 0, 1) := dk_42 (dk_at dksX6_operand_3 3 rfl rfl)
theorem dX6_operand_73 : decode cX6_operand 73 = .ok (.getfield 15, 3) := dk_180 0 15 (dk_at dksX6_operand_3 4 rfl rfl)
theorem dX6_operand_76 : decode cX6_operand 76 = .ok (.ifCond .lt 5, 3) := dk_155 0 5 (dk_at dksX6_operand_3 7 rfl rfl)
theorem dX6_operand_79 : decode cX6_operand 79 = .ok (.aconst_null, 1) := dk_1 (dk_at dksX6_operand_3 10 rfl rfl)
theorem dX6_operand_80 : decode cX6_operand 80 = .ok (.areturn, 1) := dk_176 (dk_at dksX6_operand_3 11 rfl rfl)
theorem dX6_operand_81 : decode cX6_operand 81 = .ok (.iload_n 1, 1) := dk_27 (dk_at dksX6_operand_3 12 rfl rfl)
theorem dX6_operand_82 : decode cX6_operand 82 = .ok (.bipush 33, 2) := dk_16 33 (dk_at dksX6_operand_3 13 rfl rfl)
theorem dX6_operand_84 : decode cX6_operand 84 = .ok (.if_icmp .ne 14, 3) := dk_160 0 14 (dk_at dksX6_operand_3 15 rfl rfl)
theorem dX6_operand_87 : decode cX6_operand 87 = .ok (.new 112, 3) := dk_187 0 112 (dk_at dksX6_operand_3 18 rfl rfl)
theorem dX6_operand_90 : decode cX6_operand 90 = .ok (.dup, 1) := dk_89 (dk_at dksX6_operand_3 21 rfl rfl)
theorem dX6_operand_91 : decode cX6_operand 91 = .ok (.aload_n 2, 1) := dk_44 (dk_at dksX6_operand_3 22 rfl rfl)
theorem dX6_operand_92 : decode cX6_operand 92 = .ok (.invokespecial 114, 3) := dk_183 0 114 (dk_at dksX6_operand_4 0 rfl rfl)
theorem dX6_operand_95 : decode cX6_operand 95 = .ok (.goto 11, 3) := dk_167 0 11 (dk_at dksX6_operand_4 3 rfl rfl)
theorem dX6_operand_98 : decode cX6_operand 98 = .ok (.new 117, 3) := dk_187 0 117 (dk_at dksX6_operand_4 6 rfl rfl)
theorem dX6_operand_101 : decode cX6_operand 101 = .ok (.dup, 1) := dk_89 (dk_at dksX6_operand_4 9 rfl rfl)
theorem dX6_operand_102 : decode cX6_operand 102 = .ok (.aload_n 2, 1) := dk_44 (dk_at dksX6_operand_4 10 rfl rfl)
theorem dX6_operand_103 : decode cX6_operand 103 = .ok (.invokespecial 119, 3) := dk_183 0 119 (dk_at dksX6_operand_4 11 rfl rfl)
theorem dX6_operand_106 : decode cX6_operand 106 = .ok (.areturn, 1) := dk_176 (dk_at dksX6_operand_4 14 rfl rfl)
theorem dX6_operand_107 : decode cX6_operand 107 = .ok (.iload_n 1, 1) := dk_27 (dk_at dksX6_operand_4 15 rfl rfl)
theorem dX6_operand_108 : decode cX6_operand 108 = .ok (.bipush 40, 2) := dk_16 40 (dk_at dksX6_operand_4 16 rfl rfl)
theorem dX6_operand_110 : decode cX6_operand 110 = .ok (.if_icmp .ne 65, 3) := dk_160 0 65 (dk_at dksX6_operand_4 18 rfl rfl)
theorem dX6_operand_113 : decode cX6_operand 113 = .ok (.aload_n 0, 1) := dk_42 (dk_at dksX6_operand_4 21 rfl rfl)
theorem dX6_operand_114 : decode cX6_operand 114 = .ok (.invokevirtual 105, 3) := dk_182 0 105 (dk_at dksX6_operand_5 0 rfl rfl)
theorem dX6_operand_117 : decode cX6_operand 117 = .ok (.ifCond .ne 8, 3) := dk_154 0 8 (dk_at dksX6_operand_5 3 rfl rfl)
theorem dX6_operand_120 : decode cX6_operand 120 = .ok (.aload_n 0, 1) := dk_42 (dk_at dksX6_operand_5 6 rfl rfl)
theorem dX6_operand_121 : decode cX6_operand 121 = .ok (.invokevirtual 109, 3) := dk_182 0 109 (dk_at dksX6_operand_5 7 rfl rfl)
theorem dX6_operand_124 : decode cX6_operand 124 = .ok (.areturn, 1) := dk_176 (dk_at dksX6_operand_5 10 rfl rfl)
theorem dX6_operand_125 : decode cX6_operand 125 = .ok (.aload_n 0, 1) := dk_42 (dk_at dksX6_operand_5 11 rfl rfl)
theorem dX6_operand_126 : decode cX6_operand 126 = .ok (.invokevirtual 50, 3) := dk_182 0 50 (dk_at dksX6_operand_5 12 rfl rfl)
theorem dX6_operand_129 : decode cX6_operand 129 = .ok (.astore_n 2, 1) := dk_77 (dk_at dksX6_operand_5 15 rfl rfl)
theorem dX6_operand_130 : decode cX6_operand 130 = .ok (.aload_n 0, 1) := dk_42 (dk_at dksX6_operand_5 16 rfl rfl)
theorem dX6_operand_131 : decode cX6_operand 131 = .ok (.getfield 15, 3) := dk_180 0 15 (dk_at dksX6_operand_5 17 rfl rfl)
theorem dX6_operand_134 : decode cX6_operand 134 = .ok (.ifCond .lt 5, 3) := dk_155 0 5 (dk_at dksX6_operand_5 20 rfl rfl)
theorem dX6_operand_137 : decode cX6_operand 137 = .ok (.aconst_null, 1) := dk_1 (dk_at dksX6_operand_5 23 rfl rfl)
theorem dX6_operand_138 : decode cX6_operand 138 = .ok (.areturn, 1) := dk_176 (dk_at dksX6_operand_6 0 rfl rfl)
theorem dX6_operand_139 : decode cX6_operand 139 = .ok (.aload_n 0, 1) := dk_42 (dk_at dksX6_operand_6 1 rfl rfl)
theorem dX6_operand_140 : decode cX6_operand 140 = .ok (.invokevirtual 29, 3) := dk_182 0 29 (dk_at dksX6_operand_6 2 rfl rfl)
theorem dX6_operand_143 : decode cX6_operand 143 = .ok (.bipush 41, 2) := dk_16 41 (dk_at dksX6_operand_6 5 rfl rfl)
theorem dX6_operand_145 : decode cX6_operand 145 = .ok (.if_icmp .eq 8, 3) := dk_159 0 8 (dk_at dksX6_operand_6 7 rfl rfl)
theorem dX6_operand_148 : decode cX6_operand 148 = .ok (.aload_n 0, 1) := dk_42 (dk_at dksX6_operand_6 10 rfl rfl)
theorem dX6_operand_149 : decode cX6_operand 149 = .ok (.invokevirtual 109, 3) := dk_182 0 109 (dk_at dksX6_operand_6 11 rfl rfl)
theorem dX6_operand_152 : decode cX6_operand 152 = .ok (.areturn, 1) := dk_176 (dk_at dksX6_operand_6 14 rfl rfl)
theorem dX6_operand_153 : decode cX6_operand 153 = .ok (.aload_n 0, 1) := dk_42 (dk_at dksX6_operand_6 15 rfl rfl)
theorem dX6_operand_154 : decode cX6_operand 154 = .ok (.dup, 1) := dk_89 (dk_at dksX6_operand_6 16 rfl rfl)
theorem dX6_operand_155 : decode cX6_operand 155 = .ok (.getfield 19, 3) := dk_180 0 19 (dk_at dksX6_operand_6 17 rfl rfl)
theorem dX6_operand_158 : decode cX6_operand 158 = .ok (.iconst 1, 1) := dk_4 (dk_at dksX6_operand_6 20 rfl rfl)
theorem dX6_operand_159 : decode cX6_operand 159 = .ok (.iadd, 1) := dk_96 (dk_at dksX6_operand_6 21 rfl rfl)
theorem dX6_operand_160 : decode cX6_operand 160 = .ok (.putfield 19, 3) := dk_181 0 19 (dk_at dksX6_operand_7 0 rfl rfl)
theorem dX6_operand_163 : decode cX6_operand 163 = .ok (.aload_n 0, 1) := dk_42 (dk_at dksX6_operand_7 3 rfl rfl)
theorem dX6_operand_164 : decode cX6_operand 164 = .ok (.dup, 1) := dk_89 (dk_at dksX6_operand_7 4 rfl rfl)
theorem dX6_operand_165 : decode cX6_operand 165 = .ok (.getfield 95, 3) := dk_180 0 95 (dk_at dksX6_operand_7 5 rfl rfl)
theorem dX6_operand_168 : decode cX6_operand 168 = .ok (.iconst 1, 1) := dk_4 (dk_at dksX6_operand_7 8 rfl rfl)
theorem dX6_operand_169 : decode cX6_operand 169 = .ok (.isub, 1) := dk_100 (dk_at dksX6_operand_7 9 rfl rfl)
theorem dX6_operand_170 : decode cX6_operand 170 = .ok (.putfield 95, 3) := dk_181 0 95 (dk_at dksX6_operand_7 10 rfl rfl)
theorem dX6_operand_173 : decode cX6_operand 173 = .ok (.aload_n 2, 1) := dk_44 (dk_at dksX6_operand_7 13 rfl rfl)
theorem dX6_operand_174 : decode cX6_operand 174 = .ok (.areturn, 1) := dk_176 (dk_at dksX6_operand_7 14 rfl rfl)
theorem dX6_operand_175 : decode cX6_operand 175 = .ok (.iconst 0, 1) := dk_3 (dk_at dksX6_operand_7 15 rfl rfl)
theorem dX6_operand_176 : decode cX6_operand 176 = .ok (.istore_n 2, 1) := dk_61 (dk_at dksX6_operand_7 16 rfl rfl)
theorem dX6_operand_177 : decode cX6_operand 177 = .ok (.iconst 0, 1) := dk_3 (dk_at dksX6_operand_7 17 rfl rfl)
theorem dX6_operand_178 : decode cX6_operand 178 = .ok (.istore_n 3, 1) := dk_62 (dk_at dksX6_operand_7 18 rfl rfl)
theorem dX6_operand_179 : decode cX6_operand 179 = .ok (.iload_n 2, 1) := dk_28 (dk_at dksX6_operand_7 19 rfl rfl)
theorem dX6_operand_180 : decode cX6_operand 180 = .ok (.iconst 4, 1) := dk_7 (dk_at dksX6_operand_7 20 rfl rfl)
theorem dX6_operand_181 : decode cX6_operand 181 = .ok (.if_icmp .ge 46, 3) := dk_162 0 46 (dk_at dksX6_operand_7 21 rfl rfl)
theorem dX6_operand_184 : decode cX6_operand 184 = .ok (.aload_n 0, 1) := dk_42 (dk_at dksX6_operand_8 0 rfl rfl)
theorem dX6_operand_185 : decode cX6_operand 185 = .ok (.invokevirtual 29, 3) := dk_182 0 29 (dk_at dksX6_operand_8 1 rfl rfl)
theorem dX6_operand_188 : decode cX6_operand 188 = .ok (.bipush 48, 2) := dk_16 48 (dk_at dksX6_operand_8 4 rfl rfl)
theorem dX6_operand_190 : decode cX6_operand 190 = .ok (.bipush 57, 2) := dk_16 57 (dk_at dksX6_operand_8 6 rfl rfl)
theorem dX6_operand_192 : decode cX6_operand 192 = .ok (.invokestatic 120, 3) := dk_184 0 120 (dk_at dksX6_operand_8 8 rfl rfl)
theorem dX6_operand_195 : decode cX6_operand 195 = .ok (.ifCond .eq 32, 3) := dk_153 0 32 (dk_at dksX6_operand_8 11 rfl rfl)
theorem dX6_operand_198 : decode cX6_operand 198 = .ok (.bipush 10, 2) := dk_16 10 (dk_at dksX6_operand_8 14 rfl rfl)
theorem dX6_operand_200 : decode cX6_operand 200 = .ok (.iload_n 3, 1) := dk_29 (dk_at dksX6_operand_8 16 rfl rfl)
theorem dX6_operand_201 : decode cX6_operand 201 = .ok (.imul, 1) := dk_104 (dk_at dksX6_operand_8 17 rfl rfl)
theorem dX6_operand_202 : decode cX6_operand 202 = .ok (.aload_n 0, 1) := dk_42 (dk_at dksX6_operand_8 18 rfl rfl)
theorem dX6_operand_203 : decode cX6_operand 203 = .ok (.invokevirtual 29, 3) := dk_182 0 29 (dk_at dksX6_operand_8 19 rfl rfl)
theorem dX6_operand_206 : decode cX6_operand 206 = .ok (.iadd, 1) := dk_96 (dk_at dksX6_operand_8 22 rfl rfl)
theorem dX6_operand_207 : decode cX6_operand 207 = .ok (.bipush 48, 2) := dk_16 48 (dk_at dksX6_operand_9 0 rfl rfl)
theorem dX6_operand_209 : decode cX6_operand 209 = .ok (.isub, 1) := dk_100 (dk_at dksX6_operand_9 2 rfl rfl)
theorem dX6_operand_210 : decode cX6_operand 210 = .ok (.istore_n 3, 1) := dk_62 (dk_at dksX6_operand_9 3 rfl rfl)
theorem dX6_operand_211 : decode cX6_operand 211 = .ok (.iinc 2 1, 3) := dk_132 2 1 (dk_at dksX6_operand_9 4 rfl rfl)
theorem dX6_operand_214 : decode cX6_operand 214 = .ok (.aload_n 0, 1) := dk_42 (dk_at dksX6_operand_9 7 rfl rfl)
theorem dX6_operand_215 : decode cX6_operand 215 = .ok (.dup, 1) := dk_89 (dk_at dksX6_operand_9 8 rfl rfl)
theorem dX6_operand_216 : decode cX6_operand 216 = .ok (.getfield 19, 3) := dk_180 0 19 (dk_at dksX6_operand_9 9 rfl rfl)
theorem dX6_operand_219 : decode cX6_operand 219 = .ok (.iconst 1, 1) := dk_4 (dk_at dksX6_operand_9 12 rfl rfl)
theorem dX6_operand_220 : decode cX6_operand 220 = .ok (.iadd, 1) := dk_96 (dk_at dksX6_operand_9 13 rfl rfl)
theorem dX6_operand_221 : decode cX6_operand 221 = .ok (.putfield 19, 3) := dk_181 0 19 (dk_at dksX6_operand_9 14 rfl rfl)
theorem dX6_operand_224 : decode cX6_operand 224 = .ok (.goto (-45), 3) := dk_167 255 211 (dk_at dksX6_operand_9 17 rfl rfl)
theorem dX6_operand_227 : decode cX6_operand 227 = .ok (.iload_n 2, 1) := dk_28 (dk_at dksX6_operand_9 20 rfl rfl)
theorem dX6_operand_228 : decode cX6_operand 228 = .ok (.ifCond .eq 17, 3) := dk_153 0 17 (dk_at dksX6_operand_9 21 rfl rfl)
theorem dX6_operand_231 : decode cX6_operand 231 = .ok (.aload_n 0, 1) := dk_42 (dk_at dksX6_operand_10 0 rfl rfl)
theorem dX6_operand_232 : decode cX6_operand 232 = .ok (.invokevirtual 29, 3) := dk_182 0 29 (dk_at dksX6_operand_10 1 rfl rfl)
theorem dX6_operand_235 : decode cX6_operand 235 = .ok (.bipush 48, 2) := dk_16 48 (dk_at dksX6_operand_10 4 rfl rfl)
theorem dX6_operand_237 : decode cX6_operand 237 = .ok (.bipush 57, 2) := dk_16 57 (dk_at dksX6_operand_10 6 rfl rfl)
theorem dX6_operand_239 : decode cX6_operand 239 = .ok (.invokestatic 120, 3) := dk_184 0 120 (dk_at dksX6_operand_10 8 rfl rfl)
theorem dX6_operand_242 : decode cX6_operand 242 = .ok (.ifCond .eq 10, 3) := dk_153 0 10 (dk_at dksX6_operand_10 11 rfl rfl)
theorem dX6_operand_245 : decode cX6_operand 245 = .ok (.aload_n 0, 1) := dk_42 (dk_at dksX6_operand_10 14 rfl rfl)
theorem dX6_operand_246 : decode cX6_operand 246 = .ok (.invokevirtual 109, 3) := dk_182 0 109 (dk_at dksX6_operand_10 15 rfl rfl)
theorem dX6_operand_249 : decode cX6_operand 249 = .ok (.goto 11, 3) := dk_167 0 11 (dk_at dksX6_operand_10 18 rfl rfl)
theorem dX6_operand_252 : decode cX6_operand 252 = .ok (.new 124, 3) := dk_187 0 124 (dk_at dksX6_operand_10 21 rfl rfl)
theorem dX6_operand_255 : decode cX6_operand 255 = .ok (.dup, 1) := dk_89 (dk_at dksX6_operand_11 0 rfl rfl)
theorem dX6_operand_256 : decode cX6_operand 256 = .ok (.iload_n 3, 1) := dk_29 (dk_at dksX6_operand_11 1 rfl rfl)
theorem dX6_operand_257 : decode cX6_operand 257 = .ok (.invokespecial 126, 3) := dk_183 0 126 (dk_at dksX6_operand_11 2 rfl rfl)
theorem dX6_operand_260 : decode cX6_operand 260 = .ok (.areturn, 1) := dk_176 (dk_at dksX6_operand_11 5 rfl rfl)
def dkwX6_here_1 : List UInt8 := [180, 0, 19, 51, 167, 0, 4, 2, 172]
abbrev dktX6_here_1 : List UInt8 := dkwX6_here_1 ++ []
def dkwX6_here_0 : List UInt8 := [42, 180, 0, 19, 42, 180, 0, 3, 180, 0, 22, 162, 0, 18, 42, 180, 0, 3, 180, 0, 25, 42]
abbrev dktX6_here_0 : List UInt8 := dkwX6_here_0 ++ dktX6_here_1
theorem dksX6_here_0 : cX6_here.data.toList.drop 0 = dktX6_here_0 := by decide +kernel
theorem dksX6_here_1 : cX6_here.data.toList.drop 22 = dktX6_here_1 := dk_seg dksX6_here_0 22 rfl rfl
theorem dX6_here_0 : decode cX6_here 0 = .ok (.aload_n 0, 1) := dk_42 (dk_at dksX6_here_0 0 rfl rfl)
theorem dX6_here_1 : decode cX6_here 1 = .ok (.getfield 19, 3) := dk_180 0 19 (dk_at dksX6_here_0 1 rfl rfl)
theorem dX6_here_4 : decode cX6_here 4 = .ok (.aload_n 0, 1) := dk_42 (dk_at dksX6_here_0 4 rfl rfl)
theorem dX6_here_5 : decode cX6_here 5 = .ok (.getfield 3, 3) := dk_180 0 3 (dk_at dksX6_here_0 5 rfl rfl)
theorem dX6_here_8 : decode cX6_here 8 = .ok (.getfield 22, 3) := dk_180 0 22 (dk_at dksX6_here_0 8 rfl rfl)
theorem dX6_here_11 : decode cX6_here 11 = .ok (.if_icmp .ge 18, 3) := dk_162 0 18 (dk_at dksX6_here_0 11 rfl rfl)
theorem dX6_here_14 : decode cX6_here 14 = .ok (.aload_n 0, 1) := dk_42 (dk_at dksX6_here_0 14 rfl rfl)
theorem dX6_here_15 : decode cX6_here 15 = .ok (.getfield 3, 3) := dk_180 0 3 (dk_at dksX6_here_0 15 rfl rfl)
theorem dX6_here_18 : decode cX6_here 18 = .ok (.getfield 25, 3) := dk_180 0 25 (dk_at dksX6_here_0 18 rfl rfl)
theorem dX6_here_21 : decode cX6_here 21 = .ok (.aload_n 0, 1) := dk_42 (dk_at dksX6_here_0 21 rfl rfl)
theorem dX6_here_22 : decode cX6_here 22 = .ok (.getfield 19, 3) := dk_180 0 19 (dk_at dksX6_here_1 0 rfl rfl)
theorem dX6_here_25 : decode cX6_here 25 = .ok (.baload, 1) := dk_51 (dk_at dksX6_here_1 3 rfl rfl)
theorem dX6_here_26 : decode cX6_here 26 = .ok (.goto 4, 3) := dk_167 0 4 (dk_at dksX6_here_1 4 rfl rfl)
theorem dX6_here_29 : decode cX6_here 29 = .ok (.iconst (-1), 1) := dk_2 (dk_at dksX6_here_1 7 rfl rfl)
theorem dX6_here_30 : decode cX6_here 30 = .ok (.ireturn, 1) := dk_172 (dk_at dksX6_here_1 8 rfl rfl)
def dkwX6_isOne_0 : List UInt8 := [42, 182, 0, 29, 155, 0, 18, 43, 42, 182, 0, 29, 182, 0, 33, 155, 0, 7, 4, 167, 0, 4, 3, 172]
abbrev dktX6_isOne_0 : List UInt8 := dkwX6_isOne_0 ++ []
theorem dksX6_isOne_0 : cX6_isOne.data.toList.drop 0 = dktX6_isOne_0 := by decide +kernel
theorem dX6_isOne_0 : decode cX6_isOne 0 = .ok (.aload_n 0, 1) := dk_42 (dk_at dksX6_isOne_0 0 rfl rfl)
theorem dX6_isOne_1 : decode cX6_isOne 1 = .ok (.invokevirtual 29, 3) := dk_182 0 29 (dk_at dksX6_isOne_0 1 rfl rfl)
theorem dX6_isOne_4 : decode cX6_isOne 4 = .ok (.ifCond .lt 18, 3) := dk_155 0 18 (dk_at dksX6_isOne_0 4 rfl rfl)
theorem dX6_isOne_7 : decode cX6_isOne 7 = .ok (.aload_n 1, 1) := dk_43 (dk_at dksX6_isOne_0 7 rfl rfl)
theorem dX6_isOne_8 : decode cX6_isOne 8 = .ok (.aload_n 0, 1) := dk_42 (dk_at dksX6_isOne_0 8 rfl rfl)
theorem dX6_isOne_9 : decode cX6_isOne 9 = .ok (.invokevirtual 29, 3) := dk_182 0 29 (dk_at dksX6_isOne_0 9 rfl rfl)
theorem dX6_isOne_12 : decode cX6_isOne 12 = .ok (.invokevirtual 33, 3) := dk_182 0 33 (dk_at dksX6_isOne_0 12 rfl rfl)
theorem dX6_isOne_15 : decode cX6_isOne 15 = .ok (.ifCond .lt 7, 3) := dk_155 0 7 (dk_at dksX6_isOne_0 15 rfl rfl)
theorem dX6_isOne_18 : decode cX6_isOne 18 = .ok (.iconst 1, 1) := dk_4 (dk_at dksX6_isOne_0 18 rfl rfl)
theorem dX6_isOne_19 : decode cX6_isOne 19 = .ok (.goto 4, 3) := dk_167 0 4 (dk_at dksX6_isOne_0 19 rfl rfl)
theorem dX6_isOne_22 : decode cX6_isOne 22 = .ok (.iconst 0, 1) := dk_3 (dk_at dksX6_isOne_0 22 rfl rfl)
theorem dX6_isOne_23 : decode cX6_isOne 23 = .ok (.ireturn, 1) := dk_172 (dk_at dksX6_isOne_0 23 rfl rfl)
def dkwX6_opens_1 : List UInt8 := [180, 0, 19, 4, 96, 181, 0, 19, 4, 172]
abbrev dktX6_opens_1 : List UInt8 := dkwX6_opens_1 ++ []
def dkwX6_opens_0 : List UInt8 := [42, 180, 0, 95, 16, 6, 160, 0, 5, 3, 172, 42, 89, 180, 0, 95, 4, 96, 181, 0, 95, 42, 89]
abbrev dktX6_opens_0 : List UInt8 := dkwX6_opens_0 ++ dktX6_opens_1
theorem dksX6_opens_0 : cX6_opens.data.toList.drop 0 = dktX6_opens_0 := by decide +kernel
theorem dksX6_opens_1 : cX6_opens.data.toList.drop 23 = dktX6_opens_1 := dk_seg dksX6_opens_0 23 rfl rfl
theorem dX6_opens_0 : decode cX6_opens 0 = .ok (.aload_n 0, 1) := dk_42 (dk_at dksX6_opens_0 0 rfl rfl)
theorem dX6_opens_1 : decode cX6_opens 1 = .ok (.getfield 95, 3) := dk_180 0 95 (dk_at dksX6_opens_0 1 rfl rfl)
theorem dX6_opens_4 : decode cX6_opens 4 = .ok (.bipush 6, 2) := dk_16 6 (dk_at dksX6_opens_0 4 rfl rfl)
theorem dX6_opens_6 : decode cX6_opens 6 = .ok (.if_icmp .ne 5, 3) := dk_160 0 5 (dk_at dksX6_opens_0 6 rfl rfl)
theorem dX6_opens_9 : decode cX6_opens 9 = .ok (.iconst 0, 1) := dk_3 (dk_at dksX6_opens_0 9 rfl rfl)
theorem dX6_opens_10 : decode cX6_opens 10 = .ok (.ireturn, 1) := dk_172 (dk_at dksX6_opens_0 10 rfl rfl)
theorem dX6_opens_11 : decode cX6_opens 11 = .ok (.aload_n 0, 1) := dk_42 (dk_at dksX6_opens_0 11 rfl rfl)
theorem dX6_opens_12 : decode cX6_opens 12 = .ok (.dup, 1) := dk_89 (dk_at dksX6_opens_0 12 rfl rfl)
theorem dX6_opens_13 : decode cX6_opens 13 = .ok (.getfield 95, 3) := dk_180 0 95 (dk_at dksX6_opens_0 13 rfl rfl)
theorem dX6_opens_16 : decode cX6_opens 16 = .ok (.iconst 1, 1) := dk_4 (dk_at dksX6_opens_0 16 rfl rfl)
theorem dX6_opens_17 : decode cX6_opens 17 = .ok (.iadd, 1) := dk_96 (dk_at dksX6_opens_0 17 rfl rfl)
theorem dX6_opens_18 : decode cX6_opens 18 = .ok (.putfield 95, 3) := dk_181 0 95 (dk_at dksX6_opens_0 18 rfl rfl)
theorem dX6_opens_21 : decode cX6_opens 21 = .ok (.aload_n 0, 1) := dk_42 (dk_at dksX6_opens_0 21 rfl rfl)
theorem dX6_opens_22 : decode cX6_opens 22 = .ok (.dup, 1) := dk_89 (dk_at dksX6_opens_0 22 rfl rfl)
theorem dX6_opens_23 : decode cX6_opens 23 = .ok (.getfield 19, 3) := dk_180 0 19 (dk_at dksX6_opens_1 0 rfl rfl)
theorem dX6_opens_26 : decode cX6_opens 26 = .ok (.iconst 1, 1) := dk_4 (dk_at dksX6_opens_1 3 rfl rfl)
theorem dX6_opens_27 : decode cX6_opens 27 = .ok (.iadd, 1) := dk_96 (dk_at dksX6_opens_1 4 rfl rfl)
theorem dX6_opens_28 : decode cX6_opens 28 = .ok (.putfield 19, 3) := dk_181 0 19 (dk_at dksX6_opens_1 5 rfl rfl)
theorem dX6_opens_31 : decode cX6_opens 31 = .ok (.iconst 1, 1) := dk_4 (dk_at dksX6_opens_1 8 rfl rfl)
theorem dX6_opens_32 : decode cX6_opens 32 = .ok (.ireturn, 1) := dk_172 (dk_at dksX6_opens_1 9 rfl rfl)
def dkwX6_wrong_0 : List UInt8 := [42, 180, 0, 15, 156, 0, 11, 42, 42, 180, 0, 19, 181, 0, 15, 1, 176]
abbrev dktX6_wrong_0 : List UInt8 := dkwX6_wrong_0 ++ []
theorem dksX6_wrong_0 : cX6_wrong.data.toList.drop 0 = dktX6_wrong_0 := by decide +kernel
theorem dX6_wrong_0 : decode cX6_wrong 0 = .ok (.aload_n 0, 1) := dk_42 (dk_at dksX6_wrong_0 0 rfl rfl)
theorem dX6_wrong_1 : decode cX6_wrong 1 = .ok (.getfield 15, 3) := dk_180 0 15 (dk_at dksX6_wrong_0 1 rfl rfl)
theorem dX6_wrong_4 : decode cX6_wrong 4 = .ok (.ifCond .ge 11, 3) := dk_156 0 11 (dk_at dksX6_wrong_0 4 rfl rfl)
theorem dX6_wrong_7 : decode cX6_wrong 7 = .ok (.aload_n 0, 1) := dk_42 (dk_at dksX6_wrong_0 7 rfl rfl)
theorem dX6_wrong_8 : decode cX6_wrong 8 = .ok (.aload_n 0, 1) := dk_42 (dk_at dksX6_wrong_0 8 rfl rfl)
theorem dX6_wrong_9 : decode cX6_wrong 9 = .ok (.getfield 19, 3) := dk_180 0 19 (dk_at dksX6_wrong_0 9 rfl rfl)
theorem dX6_wrong_12 : decode cX6_wrong 12 = .ok (.putfield 15, 3) := dk_181 0 15 (dk_at dksX6_wrong_0 12 rfl rfl)
theorem dX6_wrong_15 : decode cX6_wrong 15 = .ok (.aconst_null, 1) := dk_1 (dk_at dksX6_wrong_0 15 rfl rfl)
theorem dX6_wrong_16 : decode cX6_wrong 16 = .ok (.areturn, 1) := dk_176 (dk_at dksX6_wrong_0 16 rfl rfl)
def dkwX6_joined_0 : List UInt8 := [42, 180, 0, 15, 155, 0, 7, 1, 167, 0, 13, 187, 0, 61, 89, 27, 44, 45, 183, 0, 63, 176]
abbrev dktX6_joined_0 : List UInt8 := dkwX6_joined_0 ++ []
theorem dksX6_joined_0 : cX6_joined.data.toList.drop 0 = dktX6_joined_0 := by decide +kernel
theorem dX6_joined_0 : decode cX6_joined 0 = .ok (.aload_n 0, 1) := dk_42 (dk_at dksX6_joined_0 0 rfl rfl)
theorem dX6_joined_1 : decode cX6_joined 1 = .ok (.getfield 15, 3) := dk_180 0 15 (dk_at dksX6_joined_0 1 rfl rfl)
theorem dX6_joined_4 : decode cX6_joined 4 = .ok (.ifCond .lt 7, 3) := dk_155 0 7 (dk_at dksX6_joined_0 4 rfl rfl)
theorem dX6_joined_7 : decode cX6_joined 7 = .ok (.aconst_null, 1) := dk_1 (dk_at dksX6_joined_0 7 rfl rfl)
theorem dX6_joined_8 : decode cX6_joined 8 = .ok (.goto 13, 3) := dk_167 0 13 (dk_at dksX6_joined_0 8 rfl rfl)
theorem dX6_joined_11 : decode cX6_joined 11 = .ok (.new 61, 3) := dk_187 0 61 (dk_at dksX6_joined_0 11 rfl rfl)
theorem dX6_joined_14 : decode cX6_joined 14 = .ok (.dup, 1) := dk_89 (dk_at dksX6_joined_0 14 rfl rfl)
theorem dX6_joined_15 : decode cX6_joined 15 = .ok (.iload_n 1, 1) := dk_27 (dk_at dksX6_joined_0 15 rfl rfl)
theorem dX6_joined_16 : decode cX6_joined 16 = .ok (.aload_n 2, 1) := dk_44 (dk_at dksX6_joined_0 16 rfl rfl)
theorem dX6_joined_17 : decode cX6_joined 17 = .ok (.aload_n 3, 1) := dk_45 (dk_at dksX6_joined_0 17 rfl rfl)
theorem dX6_joined_18 : decode cX6_joined 18 = .ok (.invokespecial 63, 3) := dk_183 0 63 (dk_at dksX6_joined_0 18 rfl rfl)
theorem dX6_joined_21 : decode cX6_joined 21 = .ok (.areturn, 1) := dk_176 (dk_at dksX6_joined_0 21 rfl rfl)
theorem dX7_init_0 : decode cX7_init 0 = .ok (.aload_n 0, 1) := by decide +kernel
theorem dX7_init_1 : decode cX7_init 1 = .ok (.invokespecial 1, 3) := by decide +kernel
theorem dX7_init_4 : decode cX7_init 4 = .ok (.return_, 1) := by decide +kernel
theorem dX8_init_0 : decode cX8_init 0 = .ok (.aload_n 0, 1) := by decide +kernel
theorem dX8_init_1 : decode cX8_init 1 = .ok (.invokespecial 1, 3) := by decide +kernel
theorem dX8_init_4 : decode cX8_init 4 = .ok (.return_, 1) := by decide +kernel
def dkwX9_init_0 : List UInt8 := [42, 183, 0, 1, 42, 27, 181, 0, 7, 177]
abbrev dktX9_init_0 : List UInt8 := dkwX9_init_0 ++ []
theorem dksX9_init_0 : cX9_init.data.toList.drop 0 = dktX9_init_0 := by decide +kernel
theorem dX9_init_0 : decode cX9_init 0 = .ok (.aload_n 0, 1) := dk_42 (dk_at dksX9_init_0 0 rfl rfl)
theorem dX9_init_1 : decode cX9_init 1 = .ok (.invokespecial 1, 3) := dk_183 0 1 (dk_at dksX9_init_0 1 rfl rfl)
theorem dX9_init_4 : decode cX9_init 4 = .ok (.aload_n 0, 1) := dk_42 (dk_at dksX9_init_0 4 rfl rfl)
theorem dX9_init_5 : decode cX9_init 5 = .ok (.iload_n 1, 1) := dk_27 (dk_at dksX9_init_0 5 rfl rfl)
theorem dX9_init_6 : decode cX9_init 6 = .ok (.putfield 7, 3) := dk_181 0 7 (dk_at dksX9_init_0 6 rfl rfl)
theorem dX9_init_9 : decode cX9_init 9 = .ok (.return_, 1) := dk_177 (dk_at dksX9_init_0 9 rfl rfl)
def dkwX9_value_0 : List UInt8 := [43, 180, 0, 13, 42, 180, 0, 7, 46, 172]
abbrev dktX9_value_0 : List UInt8 := dkwX9_value_0 ++ []
theorem dksX9_value_0 : cX9_value.data.toList.drop 0 = dktX9_value_0 := by decide +kernel
theorem dX9_value_0 : decode cX9_value 0 = .ok (.aload_n 1, 1) := dk_43 (dk_at dksX9_value_0 0 rfl rfl)
theorem dX9_value_1 : decode cX9_value 1 = .ok (.getfield 13, 3) := dk_180 0 13 (dk_at dksX9_value_0 1 rfl rfl)
theorem dX9_value_4 : decode cX9_value 4 = .ok (.aload_n 0, 1) := dk_42 (dk_at dksX9_value_0 4 rfl rfl)
theorem dX9_value_5 : decode cX9_value 5 = .ok (.getfield 7, 3) := dk_180 0 7 (dk_at dksX9_value_0 5 rfl rfl)
theorem dX9_value_8 : decode cX9_value 8 = .ok (.iaload, 1) := dk_46 (dk_at dksX9_value_0 8 rfl rfl)
theorem dX9_value_9 : decode cX9_value 9 = .ok (.ireturn, 1) := dk_172 (dk_at dksX9_value_0 9 rfl rfl)
def dkwX10_init_0 : List UInt8 := [42, 183, 0, 1, 42, 43, 181, 0, 7, 177]
abbrev dktX10_init_0 : List UInt8 := dkwX10_init_0 ++ []
theorem dksX10_init_0 : cX10_init.data.toList.drop 0 = dktX10_init_0 := by decide +kernel
theorem dX10_init_0 : decode cX10_init 0 = .ok (.aload_n 0, 1) := dk_42 (dk_at dksX10_init_0 0 rfl rfl)
theorem dX10_init_1 : decode cX10_init 1 = .ok (.invokespecial 1, 3) := dk_183 0 1 (dk_at dksX10_init_0 1 rfl rfl)
theorem dX10_init_4 : decode cX10_init 4 = .ok (.aload_n 0, 1) := dk_42 (dk_at dksX10_init_0 4 rfl rfl)
theorem dX10_init_5 : decode cX10_init 5 = .ok (.aload_n 1, 1) := dk_43 (dk_at dksX10_init_0 5 rfl rfl)
theorem dX10_init_6 : decode cX10_init 6 = .ok (.putfield 7, 3) := dk_181 0 7 (dk_at dksX10_init_0 6 rfl rfl)
theorem dX10_init_9 : decode cX10_init 9 = .ok (.return_, 1) := dk_177 (dk_at dksX10_init_0 9 rfl rfl)
def dkwX10_value_0 : List UInt8 := [42, 180, 0, 7, 43, 182, 0, 13, 154, 0, 7, 4, 167, 0, 4, 3, 172]
abbrev dktX10_value_0 : List UInt8 := dkwX10_value_0 ++ []
theorem dksX10_value_0 : cX10_value.data.toList.drop 0 = dktX10_value_0 := by decide +kernel
theorem dX10_value_0 : decode cX10_value 0 = .ok (.aload_n 0, 1) := dk_42 (dk_at dksX10_value_0 0 rfl rfl)
theorem dX10_value_1 : decode cX10_value 1 = .ok (.getfield 7, 3) := dk_180 0 7 (dk_at dksX10_value_0 1 rfl rfl)
theorem dX10_value_4 : decode cX10_value 4 = .ok (.aload_n 1, 1) := dk_43 (dk_at dksX10_value_0 4 rfl rfl)
theorem dX10_value_5 : decode cX10_value 5 = .ok (.invokevirtual 13, 3) := dk_182 0 13 (dk_at dksX10_value_0 5 rfl rfl)
theorem dX10_value_8 : decode cX10_value 8 = .ok (.ifCond .ne 7, 3) := dk_154 0 7 (dk_at dksX10_value_0 8 rfl rfl)
theorem dX10_value_11 : decode cX10_value 11 = .ok (.iconst 1, 1) := dk_4 (dk_at dksX10_value_0 11 rfl rfl)
theorem dX10_value_12 : decode cX10_value 12 = .ok (.goto 4, 3) := dk_167 0 4 (dk_at dksX10_value_0 12 rfl rfl)
theorem dX10_value_15 : decode cX10_value 15 = .ok (.iconst 0, 1) := dk_3 (dk_at dksX10_value_0 15 rfl rfl)
theorem dX10_value_16 : decode cX10_value 16 = .ok (.ireturn, 1) := dk_172 (dk_at dksX10_value_0 16 rfl rfl)
def dkwX11_init_0 : List UInt8 := [42, 183, 0, 1, 42, 43, 181, 0, 7, 177]
abbrev dktX11_init_0 : List UInt8 := dkwX11_init_0 ++ []
theorem dksX11_init_0 : cX11_init.data.toList.drop 0 = dktX11_init_0 := by decide +kernel
theorem dX11_init_0 : decode cX11_init 0 = .ok (.aload_n 0, 1) := dk_42 (dk_at dksX11_init_0 0 rfl rfl)
theorem dX11_init_1 : decode cX11_init 1 = .ok (.invokespecial 1, 3) := dk_183 0 1 (dk_at dksX11_init_0 1 rfl rfl)
theorem dX11_init_4 : decode cX11_init 4 = .ok (.aload_n 0, 1) := dk_42 (dk_at dksX11_init_0 4 rfl rfl)
theorem dX11_init_5 : decode cX11_init 5 = .ok (.aload_n 1, 1) := dk_43 (dk_at dksX11_init_0 5 rfl rfl)
theorem dX11_init_6 : decode cX11_init 6 = .ok (.putfield 7, 3) := dk_181 0 7 (dk_at dksX11_init_0 6 rfl rfl)
theorem dX11_init_9 : decode cX11_init 9 = .ok (.return_, 1) := dk_177 (dk_at dksX11_init_0 9 rfl rfl)
def dkwX11_value_0 : List UInt8 := [42, 180, 0, 7, 43, 182, 0, 13, 116, 172]
abbrev dktX11_value_0 : List UInt8 := dkwX11_value_0 ++ []
theorem dksX11_value_0 : cX11_value.data.toList.drop 0 = dktX11_value_0 := by decide +kernel
theorem dX11_value_0 : decode cX11_value 0 = .ok (.aload_n 0, 1) := dk_42 (dk_at dksX11_value_0 0 rfl rfl)
theorem dX11_value_1 : decode cX11_value 1 = .ok (.getfield 7, 3) := dk_180 0 7 (dk_at dksX11_value_0 1 rfl rfl)
theorem dX11_value_4 : decode cX11_value 4 = .ok (.aload_n 1, 1) := dk_43 (dk_at dksX11_value_0 4 rfl rfl)
theorem dX11_value_5 : decode cX11_value 5 = .ok (.invokevirtual 13, 3) := dk_182 0 13 (dk_at dksX11_value_0 5 rfl rfl)
theorem dX11_value_8 : decode cX11_value 8 = .ok (.ineg, 1) := dk_116 (dk_at dksX11_value_0 8 rfl rfl)
theorem dX11_value_9 : decode cX11_value 9 = .ok (.ireturn, 1) := dk_172 (dk_at dksX11_value_0 9 rfl rfl)
def dkwX12_init_0 : List UInt8 := [42, 183, 0, 1, 42, 27, 181, 0, 7, 177]
abbrev dktX12_init_0 : List UInt8 := dkwX12_init_0 ++ []
theorem dksX12_init_0 : cX12_init.data.toList.drop 0 = dktX12_init_0 := by decide +kernel
theorem dX12_init_0 : decode cX12_init 0 = .ok (.aload_n 0, 1) := dk_42 (dk_at dksX12_init_0 0 rfl rfl)
theorem dX12_init_1 : decode cX12_init 1 = .ok (.invokespecial 1, 3) := dk_183 0 1 (dk_at dksX12_init_0 1 rfl rfl)
theorem dX12_init_4 : decode cX12_init 4 = .ok (.aload_n 0, 1) := dk_42 (dk_at dksX12_init_0 4 rfl rfl)
theorem dX12_init_5 : decode cX12_init 5 = .ok (.iload_n 1, 1) := dk_27 (dk_at dksX12_init_0 5 rfl rfl)
theorem dX12_init_6 : decode cX12_init 6 = .ok (.putfield 7, 3) := dk_181 0 7 (dk_at dksX12_init_0 6 rfl rfl)
theorem dX12_init_9 : decode cX12_init 9 = .ok (.return_, 1) := dk_177 (dk_at dksX12_init_0 9 rfl rfl)
theorem dX12_value_0 : decode cX12_value 0 = .ok (.aload_n 0, 1) := by decide +kernel
theorem dX12_value_1 : decode cX12_value 1 = .ok (.getfield 7, 3) := by decide +kernel
theorem dX12_value_4 : decode cX12_value 4 = .ok (.ireturn, 1) := by decide +kernel
def dkwX13_init_0 : List UInt8 := [42, 183, 0, 1, 42, 27, 181, 0, 7, 42, 44, 181, 0, 13, 42, 45, 181, 0, 17, 177]
abbrev dktX13_init_0 : List UInt8 := dkwX13_init_0 ++ []
theorem dksX13_init_0 : cX13_init.data.toList.drop 0 = dktX13_init_0 := by decide +kernel
theorem dX13_init_0 : decode cX13_init 0 = .ok (.aload_n 0, 1) := dk_42 (dk_at dksX13_init_0 0 rfl rfl)
theorem dX13_init_1 : decode cX13_init 1 = .ok (.invokespecial 1, 3) := dk_183 0 1 (dk_at dksX13_init_0 1 rfl rfl)
theorem dX13_init_4 : decode cX13_init 4 = .ok (.aload_n 0, 1) := dk_42 (dk_at dksX13_init_0 4 rfl rfl)
theorem dX13_init_5 : decode cX13_init 5 = .ok (.iload_n 1, 1) := dk_27 (dk_at dksX13_init_0 5 rfl rfl)
theorem dX13_init_6 : decode cX13_init 6 = .ok (.putfield 7, 3) := dk_181 0 7 (dk_at dksX13_init_0 6 rfl rfl)
theorem dX13_init_9 : decode cX13_init 9 = .ok (.aload_n 0, 1) := dk_42 (dk_at dksX13_init_0 9 rfl rfl)
theorem dX13_init_10 : decode cX13_init 10 = .ok (.aload_n 2, 1) := dk_44 (dk_at dksX13_init_0 10 rfl rfl)
theorem dX13_init_11 : decode cX13_init 11 = .ok (.putfield 13, 3) := dk_181 0 13 (dk_at dksX13_init_0 11 rfl rfl)
theorem dX13_init_14 : decode cX13_init 14 = .ok (.aload_n 0, 1) := dk_42 (dk_at dksX13_init_0 14 rfl rfl)
theorem dX13_init_15 : decode cX13_init 15 = .ok (.aload_n 3, 1) := dk_45 (dk_at dksX13_init_0 15 rfl rfl)
theorem dX13_init_16 : decode cX13_init 16 = .ok (.putfield 17, 3) := dk_181 0 17 (dk_at dksX13_init_0 16 rfl rfl)
theorem dX13_init_19 : decode cX13_init 19 = .ok (.return_, 1) := dk_177 (dk_at dksX13_init_0 19 rfl rfl)
def dkwX13_value_7 : List UInt8 := [154, 0, 7, 29, 153, 0, 7, 4, 167, 0, 4, 3, 184, 0, 24, 172]
abbrev dktX13_value_7 : List UInt8 := dkwX13_value_7 ++ []
def dkwX13_value_6 : List UInt8 := [184, 0, 24, 172, 28, 153, 0, 11, 29, 153, 0, 7, 4, 167, 0, 4, 3, 184, 0, 24, 172, 28]
abbrev dktX13_value_6 : List UInt8 := dkwX13_value_6 ++ dktX13_value_7
def dkwX13_value_5 : List UInt8 := [160, 0, 7, 4, 167, 0, 4, 3, 184, 0, 24, 172, 28, 29, 164, 0, 7, 4, 167, 0, 4, 3]
abbrev dktX13_value_5 : List UInt8 := dkwX13_value_5 ++ dktX13_value_6
def dkwX13_value_4 : List UInt8 := [167, 0, 6, 28, 29, 112, 172, 28, 29, 162, 0, 7, 4, 167, 0, 4, 3, 184, 0, 24, 172, 28, 29]
abbrev dktX13_value_4 : List UInt8 := dkwX13_value_4 ++ dktX13_value_5
def dkwX13_value_3 : List UInt8 := [160, 0, 8, 28, 116, 167, 0, 6, 28, 29, 108, 172, 29, 153, 0, 8, 29, 2, 160, 0, 7, 3]
abbrev dktX13_value_3 : List UInt8 := dkwX13_value_3 ++ dktX13_value_4
def dkwX13_value_2 : List UInt8 := [28, 29, 96, 172, 28, 29, 100, 172, 28, 29, 104, 172, 29, 154, 0, 7, 3, 167, 0, 16, 29, 2]
abbrev dktX13_value_2 : List UInt8 := dkwX13_value_2 ++ dktX13_value_3
def dkwX13_value_1 : List UInt8 := [170, 0, 0, 0, 0, 228, 0, 0, 0, 37, 0, 0, 0, 62, 0, 0, 0, 152, 0, 0, 0, 211, 0, 0, 0, 228, 0, 0, 0, 228, 0, 0, 0, 228, 0, 0, 0, 126, 0, 0, 0, 118, 0, 0, 0, 228, 0, 0, 0, 122, 0, 0, 0, 228, 0, 0, 0, 130, 0, 0, 0, 228, 0, 0, 0, 228, 0, 0, 0, 228, 0, 0, 0, 228, 0, 0, 0, 228, 0, 0, 0, 228, 0, 0, 0, 228, 0, 0, 0, 228, 0, 0, 0, 228, 0, 0, 0, 228, 0, 0, 0, 228, 0, 0, 0, 228, 0, 0, 0, 169, 0, 0, 0, 183, 0, 0, 0, 197]
abbrev dktX13_value_1 : List UInt8 := dkwX13_value_1 ++ dktX13_value_2
def dkwX13_value_0 : List UInt8 := [42, 180, 0, 13, 43, 182, 0, 20, 61, 42, 180, 0, 17, 43, 182, 0, 20, 62, 42, 180, 0, 7]
abbrev dktX13_value_0 : List UInt8 := dkwX13_value_0 ++ dktX13_value_1
theorem dksX13_value_0 : cX13_value.data.toList.drop 0 = dktX13_value_0 := by decide +kernel
theorem dksX13_value_1 : cX13_value.data.toList.drop 22 = dktX13_value_1 := dk_seg dksX13_value_0 22 rfl rfl
theorem dksX13_value_2 : cX13_value.data.toList.drop 140 = dktX13_value_2 := dk_seg dksX13_value_1 118 rfl rfl
theorem dksX13_value_3 : cX13_value.data.toList.drop 162 = dktX13_value_3 := dk_seg dksX13_value_2 22 rfl rfl
theorem dksX13_value_4 : cX13_value.data.toList.drop 184 = dktX13_value_4 := dk_seg dksX13_value_3 22 rfl rfl
theorem dksX13_value_5 : cX13_value.data.toList.drop 207 = dktX13_value_5 := dk_seg dksX13_value_4 23 rfl rfl
theorem dksX13_value_6 : cX13_value.data.toList.drop 229 = dktX13_value_6 := dk_seg dksX13_value_5 22 rfl rfl
theorem dksX13_value_7 : cX13_value.data.toList.drop 251 = dktX13_value_7 := dk_seg dksX13_value_6 22 rfl rfl
theorem dX13_value_0 : decode cX13_value 0 = .ok (.aload_n 0, 1) := dk_42 (dk_at dksX13_value_0 0 rfl rfl)
theorem dX13_value_1 : decode cX13_value 1 = .ok (.getfield 13, 3) := dk_180 0 13 (dk_at dksX13_value_0 1 rfl rfl)
theorem dX13_value_4 : decode cX13_value 4 = .ok (.aload_n 1, 1) := dk_43 (dk_at dksX13_value_0 4 rfl rfl)
theorem dX13_value_5 : decode cX13_value 5 = .ok (.invokevirtual 20, 3) := dk_182 0 20 (dk_at dksX13_value_0 5 rfl rfl)
theorem dX13_value_8 : decode cX13_value 8 = .ok (.istore_n 2, 1) := dk_61 (dk_at dksX13_value_0 8 rfl rfl)
theorem dX13_value_9 : decode cX13_value 9 = .ok (.aload_n 0, 1) := dk_42 (dk_at dksX13_value_0 9 rfl rfl)
theorem dX13_value_10 : decode cX13_value 10 = .ok (.getfield 17, 3) := dk_180 0 17 (dk_at dksX13_value_0 10 rfl rfl)
theorem dX13_value_13 : decode cX13_value 13 = .ok (.aload_n 1, 1) := dk_43 (dk_at dksX13_value_0 13 rfl rfl)
theorem dX13_value_14 : decode cX13_value 14 = .ok (.invokevirtual 20, 3) := dk_182 0 20 (dk_at dksX13_value_0 14 rfl rfl)
theorem dX13_value_17 : decode cX13_value 17 = .ok (.istore_n 3, 1) := dk_62 (dk_at dksX13_value_0 17 rfl rfl)
theorem dX13_value_18 : decode cX13_value 18 = .ok (.aload_n 0, 1) := dk_42 (dk_at dksX13_value_0 18 rfl rfl)
theorem dX13_value_19 : decode cX13_value 19 = .ok (.getfield 7, 3) := dk_180 0 7 (dk_at dksX13_value_0 19 rfl rfl)
theorem dX13_value_22 : decode cX13_value 22 = .ok (.tableswitch 228 37 62 #[152, 211, 228, 228, 228, 126, 118, 228, 122, 228, 130, 228, 228, 228, 228, 228, 228, 228, 228, 228, 228, 228, 228, 169, 183, 197], 118) := by decide +kernel
theorem dX13_value_140 : decode cX13_value 140 = .ok (.iload_n 2, 1) := dk_28 (dk_at dksX13_value_2 0 rfl rfl)
theorem dX13_value_141 : decode cX13_value 141 = .ok (.iload_n 3, 1) := dk_29 (dk_at dksX13_value_2 1 rfl rfl)
theorem dX13_value_142 : decode cX13_value 142 = .ok (.iadd, 1) := dk_96 (dk_at dksX13_value_2 2 rfl rfl)
theorem dX13_value_143 : decode cX13_value 143 = .ok (.ireturn, 1) := dk_172 (dk_at dksX13_value_2 3 rfl rfl)
theorem dX13_value_144 : decode cX13_value 144 = .ok (.iload_n 2, 1) := dk_28 (dk_at dksX13_value_2 4 rfl rfl)
theorem dX13_value_145 : decode cX13_value 145 = .ok (.iload_n 3, 1) := dk_29 (dk_at dksX13_value_2 5 rfl rfl)
theorem dX13_value_146 : decode cX13_value 146 = .ok (.isub, 1) := dk_100 (dk_at dksX13_value_2 6 rfl rfl)
theorem dX13_value_147 : decode cX13_value 147 = .ok (.ireturn, 1) := dk_172 (dk_at dksX13_value_2 7 rfl rfl)
theorem dX13_value_148 : decode cX13_value 148 = .ok (.iload_n 2, 1) := dk_28 (dk_at dksX13_value_2 8 rfl rfl)
theorem dX13_value_149 : decode cX13_value 149 = .ok (.iload_n 3, 1) := dk_29 (dk_at dksX13_value_2 9 rfl rfl)
theorem dX13_value_150 : decode cX13_value 150 = .ok (.imul, 1) := dk_104 (dk_at dksX13_value_2 10 rfl rfl)
theorem dX13_value_151 : decode cX13_value 151 = .ok (.ireturn, 1) := dk_172 (dk_at dksX13_value_2 11 rfl rfl)
theorem dX13_value_152 : decode cX13_value 152 = .ok (.iload_n 3, 1) := dk_29 (dk_at dksX13_value_2 12 rfl rfl)
theorem dX13_value_153 : decode cX13_value 153 = .ok (.ifCond .ne 7, 3) := dk_154 0 7 (dk_at dksX13_value_2 13 rfl rfl)
theorem dX13_value_156 : decode cX13_value 156 = .ok (.iconst 0, 1) := dk_3 (dk_at dksX13_value_2 16 rfl rfl)
theorem dX13_value_157 : decode cX13_value 157 = .ok (.goto 16, 3) := dk_167 0 16 (dk_at dksX13_value_2 17 rfl rfl)
theorem dX13_value_160 : decode cX13_value 160 = .ok (.iload_n 3, 1) := dk_29 (dk_at dksX13_value_2 20 rfl rfl)
theorem dX13_value_161 : decode cX13_value 161 = .ok (.iconst (-1), 1) := dk_2 (dk_at dksX13_value_2 21 rfl rfl)
theorem dX13_value_162 : decode cX13_value 162 = .ok (.if_icmp .ne 8, 3) := dk_160 0 8 (dk_at dksX13_value_3 0 rfl rfl)
theorem dX13_value_165 : decode cX13_value 165 = .ok (.iload_n 2, 1) := dk_28 (dk_at dksX13_value_3 3 rfl rfl)
theorem dX13_value_166 : decode cX13_value 166 = .ok (.ineg, 1) := dk_116 (dk_at dksX13_value_3 4 rfl rfl)
theorem dX13_value_167 : decode cX13_value 167 = .ok (.goto 6, 3) := dk_167 0 6 (dk_at dksX13_value_3 5 rfl rfl)
theorem dX13_value_170 : decode cX13_value 170 = .ok (.iload_n 2, 1) := dk_28 (dk_at dksX13_value_3 8 rfl rfl)
theorem dX13_value_171 : decode cX13_value 171 = .ok (.iload_n 3, 1) := dk_29 (dk_at dksX13_value_3 9 rfl rfl)
theorem dX13_value_172 : decode cX13_value 172 = .ok (.idiv, 1) := dk_108 (dk_at dksX13_value_3 10 rfl rfl)
theorem dX13_value_173 : decode cX13_value 173 = .ok (.ireturn, 1) := dk_172 (dk_at dksX13_value_3 11 rfl rfl)
theorem dX13_value_174 : decode cX13_value 174 = .ok (.iload_n 3, 1) := dk_29 (dk_at dksX13_value_3 12 rfl rfl)
theorem dX13_value_175 : decode cX13_value 175 = .ok (.ifCond .eq 8, 3) := dk_153 0 8 (dk_at dksX13_value_3 13 rfl rfl)
theorem dX13_value_178 : decode cX13_value 178 = .ok (.iload_n 3, 1) := dk_29 (dk_at dksX13_value_3 16 rfl rfl)
theorem dX13_value_179 : decode cX13_value 179 = .ok (.iconst (-1), 1) := dk_2 (dk_at dksX13_value_3 17 rfl rfl)
theorem dX13_value_180 : decode cX13_value 180 = .ok (.if_icmp .ne 7, 3) := dk_160 0 7 (dk_at dksX13_value_3 18 rfl rfl)
theorem dX13_value_183 : decode cX13_value 183 = .ok (.iconst 0, 1) := dk_3 (dk_at dksX13_value_3 21 rfl rfl)
theorem dX13_value_184 : decode cX13_value 184 = .ok (.goto 6, 3) := dk_167 0 6 (dk_at dksX13_value_4 0 rfl rfl)
theorem dX13_value_187 : decode cX13_value 187 = .ok (.iload_n 2, 1) := dk_28 (dk_at dksX13_value_4 3 rfl rfl)
theorem dX13_value_188 : decode cX13_value 188 = .ok (.iload_n 3, 1) := dk_29 (dk_at dksX13_value_4 4 rfl rfl)
theorem dX13_value_189 : decode cX13_value 189 = .ok (.irem, 1) := dk_112 (dk_at dksX13_value_4 5 rfl rfl)
theorem dX13_value_190 : decode cX13_value 190 = .ok (.ireturn, 1) := dk_172 (dk_at dksX13_value_4 6 rfl rfl)
theorem dX13_value_191 : decode cX13_value 191 = .ok (.iload_n 2, 1) := dk_28 (dk_at dksX13_value_4 7 rfl rfl)
theorem dX13_value_192 : decode cX13_value 192 = .ok (.iload_n 3, 1) := dk_29 (dk_at dksX13_value_4 8 rfl rfl)
theorem dX13_value_193 : decode cX13_value 193 = .ok (.if_icmp .ge 7, 3) := dk_162 0 7 (dk_at dksX13_value_4 9 rfl rfl)
theorem dX13_value_196 : decode cX13_value 196 = .ok (.iconst 1, 1) := dk_4 (dk_at dksX13_value_4 12 rfl rfl)
theorem dX13_value_197 : decode cX13_value 197 = .ok (.goto 4, 3) := dk_167 0 4 (dk_at dksX13_value_4 13 rfl rfl)
theorem dX13_value_200 : decode cX13_value 200 = .ok (.iconst 0, 1) := dk_3 (dk_at dksX13_value_4 16 rfl rfl)
theorem dX13_value_201 : decode cX13_value 201 = .ok (.invokestatic 24, 3) := dk_184 0 24 (dk_at dksX13_value_4 17 rfl rfl)
theorem dX13_value_204 : decode cX13_value 204 = .ok (.ireturn, 1) := dk_172 (dk_at dksX13_value_4 20 rfl rfl)
theorem dX13_value_205 : decode cX13_value 205 = .ok (.iload_n 2, 1) := dk_28 (dk_at dksX13_value_4 21 rfl rfl)
theorem dX13_value_206 : decode cX13_value 206 = .ok (.iload_n 3, 1) := dk_29 (dk_at dksX13_value_4 22 rfl rfl)
theorem dX13_value_207 : decode cX13_value 207 = .ok (.if_icmp .ne 7, 3) := dk_160 0 7 (dk_at dksX13_value_5 0 rfl rfl)
theorem dX13_value_210 : decode cX13_value 210 = .ok (.iconst 1, 1) := dk_4 (dk_at dksX13_value_5 3 rfl rfl)
theorem dX13_value_211 : decode cX13_value 211 = .ok (.goto 4, 3) := dk_167 0 4 (dk_at dksX13_value_5 4 rfl rfl)
theorem dX13_value_214 : decode cX13_value 214 = .ok (.iconst 0, 1) := dk_3 (dk_at dksX13_value_5 7 rfl rfl)
theorem dX13_value_215 : decode cX13_value 215 = .ok (.invokestatic 24, 3) := dk_184 0 24 (dk_at dksX13_value_5 8 rfl rfl)
theorem dX13_value_218 : decode cX13_value 218 = .ok (.ireturn, 1) := dk_172 (dk_at dksX13_value_5 11 rfl rfl)
theorem dX13_value_219 : decode cX13_value 219 = .ok (.iload_n 2, 1) := dk_28 (dk_at dksX13_value_5 12 rfl rfl)
theorem dX13_value_220 : decode cX13_value 220 = .ok (.iload_n 3, 1) := dk_29 (dk_at dksX13_value_5 13 rfl rfl)
theorem dX13_value_221 : decode cX13_value 221 = .ok (.if_icmp .le 7, 3) := dk_164 0 7 (dk_at dksX13_value_5 14 rfl rfl)
theorem dX13_value_224 : decode cX13_value 224 = .ok (.iconst 1, 1) := dk_4 (dk_at dksX13_value_5 17 rfl rfl)
theorem dX13_value_225 : decode cX13_value 225 = .ok (.goto 4, 3) := dk_167 0 4 (dk_at dksX13_value_5 18 rfl rfl)
theorem dX13_value_228 : decode cX13_value 228 = .ok (.iconst 0, 1) := dk_3 (dk_at dksX13_value_5 21 rfl rfl)
theorem dX13_value_229 : decode cX13_value 229 = .ok (.invokestatic 24, 3) := dk_184 0 24 (dk_at dksX13_value_6 0 rfl rfl)
theorem dX13_value_232 : decode cX13_value 232 = .ok (.ireturn, 1) := dk_172 (dk_at dksX13_value_6 3 rfl rfl)
theorem dX13_value_233 : decode cX13_value 233 = .ok (.iload_n 2, 1) := dk_28 (dk_at dksX13_value_6 4 rfl rfl)
theorem dX13_value_234 : decode cX13_value 234 = .ok (.ifCond .eq 11, 3) := dk_153 0 11 (dk_at dksX13_value_6 5 rfl rfl)
theorem dX13_value_237 : decode cX13_value 237 = .ok (.iload_n 3, 1) := dk_29 (dk_at dksX13_value_6 8 rfl rfl)
theorem dX13_value_238 : decode cX13_value 238 = .ok (.ifCond .eq 7, 3) := dk_153 0 7 (dk_at dksX13_value_6 9 rfl rfl)
theorem dX13_value_241 : decode cX13_value 241 = .ok (.iconst 1, 1) := dk_4 (dk_at dksX13_value_6 12 rfl rfl)
theorem dX13_value_242 : decode cX13_value 242 = .ok (.goto 4, 3) := dk_167 0 4 (dk_at dksX13_value_6 13 rfl rfl)
theorem dX13_value_245 : decode cX13_value 245 = .ok (.iconst 0, 1) := dk_3 (dk_at dksX13_value_6 16 rfl rfl)
theorem dX13_value_246 : decode cX13_value 246 = .ok (.invokestatic 24, 3) := dk_184 0 24 (dk_at dksX13_value_6 17 rfl rfl)
theorem dX13_value_249 : decode cX13_value 249 = .ok (.ireturn, 1) := dk_172 (dk_at dksX13_value_6 20 rfl rfl)
theorem dX13_value_250 : decode cX13_value 250 = .ok (.iload_n 2, 1) := dk_28 (dk_at dksX13_value_6 21 rfl rfl)
theorem dX13_value_251 : decode cX13_value 251 = .ok (.ifCond .ne 7, 3) := dk_154 0 7 (dk_at dksX13_value_7 0 rfl rfl)
theorem dX13_value_254 : decode cX13_value 254 = .ok (.iload_n 3, 1) := dk_29 (dk_at dksX13_value_7 3 rfl rfl)
theorem dX13_value_255 : decode cX13_value 255 = .ok (.ifCond .eq 7, 3) := dk_153 0 7 (dk_at dksX13_value_7 4 rfl rfl)
theorem dX13_value_258 : decode cX13_value 258 = .ok (.iconst 1, 1) := dk_4 (dk_at dksX13_value_7 7 rfl rfl)
theorem dX13_value_259 : decode cX13_value 259 = .ok (.goto 4, 3) := dk_167 0 4 (dk_at dksX13_value_7 8 rfl rfl)
theorem dX13_value_262 : decode cX13_value 262 = .ok (.iconst 0, 1) := dk_3 (dk_at dksX13_value_7 11 rfl rfl)
theorem dX13_value_263 : decode cX13_value 263 = .ok (.invokestatic 24, 3) := dk_184 0 24 (dk_at dksX13_value_7 12 rfl rfl)
theorem dX13_value_266 : decode cX13_value 266 = .ok (.ireturn, 1) := dk_172 (dk_at dksX13_value_7 15 rfl rfl)
def dkwX13_is_0 : List UInt8 := [26, 153, 0, 7, 4, 167, 0, 4, 3, 172]
abbrev dktX13_is_0 : List UInt8 := dkwX13_is_0 ++ []
theorem dksX13_is_0 : cX13_is.data.toList.drop 0 = dktX13_is_0 := by decide +kernel
theorem dX13_is_0 : decode cX13_is 0 = .ok (.iload_n 0, 1) := dk_26 (dk_at dksX13_is_0 0 rfl rfl)
theorem dX13_is_1 : decode cX13_is 1 = .ok (.ifCond .eq 7, 3) := dk_153 0 7 (dk_at dksX13_is_0 1 rfl rfl)
theorem dX13_is_4 : decode cX13_is 4 = .ok (.iconst 1, 1) := dk_4 (dk_at dksX13_is_0 4 rfl rfl)
theorem dX13_is_5 : decode cX13_is 5 = .ok (.goto 4, 3) := dk_167 0 4 (dk_at dksX13_is_0 5 rfl rfl)
theorem dX13_is_8 : decode cX13_is 8 = .ok (.iconst 0, 1) := dk_3 (dk_at dksX13_is_0 8 rfl rfl)
theorem dX13_is_9 : decode cX13_is 9 = .ok (.ireturn, 1) := dk_172 (dk_at dksX13_is_0 9 rfl rfl)
theorem dX14_init_0 : decode cX14_init 0 = .ok (.aload_n 0, 1) := by decide +kernel
theorem dX14_init_1 : decode cX14_init 1 = .ok (.invokespecial 1, 3) := by decide +kernel
theorem dX14_init_4 : decode cX14_init 4 = .ok (.return_, 1) := by decide +kernel
def dkwX15_init_0 : List UInt8 := [42, 43, 181, 0, 3, 42, 183, 0, 9, 42, 28, 181, 0, 15, 177]
abbrev dktX15_init_0 : List UInt8 := dkwX15_init_0 ++ []
theorem dksX15_init_0 : cX15_init.data.toList.drop 0 = dktX15_init_0 := by decide +kernel
theorem dX15_init_0 : decode cX15_init 0 = .ok (.aload_n 0, 1) := dk_42 (dk_at dksX15_init_0 0 rfl rfl)
theorem dX15_init_1 : decode cX15_init 1 = .ok (.aload_n 1, 1) := dk_43 (dk_at dksX15_init_0 1 rfl rfl)
theorem dX15_init_2 : decode cX15_init 2 = .ok (.putfield 3, 3) := dk_181 0 3 (dk_at dksX15_init_0 2 rfl rfl)
theorem dX15_init_5 : decode cX15_init 5 = .ok (.aload_n 0, 1) := dk_42 (dk_at dksX15_init_0 5 rfl rfl)
theorem dX15_init_6 : decode cX15_init 6 = .ok (.invokespecial 9, 3) := dk_183 0 9 (dk_at dksX15_init_0 6 rfl rfl)
theorem dX15_init_9 : decode cX15_init 9 = .ok (.aload_n 0, 1) := dk_42 (dk_at dksX15_init_0 9 rfl rfl)
theorem dX15_init_10 : decode cX15_init 10 = .ok (.iload_n 2, 1) := dk_28 (dk_at dksX15_init_0 10 rfl rfl)
theorem dX15_init_11 : decode cX15_init 11 = .ok (.putfield 15, 3) := dk_181 0 15 (dk_at dksX15_init_0 11 rfl rfl)
theorem dX15_init_14 : decode cX15_init 14 = .ok (.return_, 1) := dk_177 (dk_at dksX15_init_0 14 rfl rfl)
def dkwX15_began_1 : List UInt8 := [180, 0, 19, 27, 145, 84, 42, 180, 0, 3, 89, 180, 0, 19, 4, 96, 181, 0, 19, 177]
abbrev dktX15_began_1 : List UInt8 := dkwX15_began_1 ++ []
def dkwX15_began_0 : List UInt8 := [42, 180, 0, 3, 180, 0, 19, 16, 24, 162, 0, 20, 42, 180, 0, 3, 180, 0, 22, 42, 180, 0, 3]
abbrev dktX15_began_0 : List UInt8 := dkwX15_began_0 ++ dktX15_began_1
theorem dksX15_began_0 : cX15_began.data.toList.drop 0 = dktX15_began_0 := by decide +kernel
theorem dksX15_began_1 : cX15_began.data.toList.drop 23 = dktX15_began_1 := dk_seg dksX15_began_0 23 rfl rfl
theorem dX15_began_0 : decode cX15_began 0 = .ok (.aload_n 0, 1) := dk_42 (dk_at dksX15_began_0 0 rfl rfl)
theorem dX15_began_1 : decode cX15_began 1 = .ok (.getfield 3, 3) := dk_180 0 3 (dk_at dksX15_began_0 1 rfl rfl)
theorem dX15_began_4 : decode cX15_began 4 = .ok (.getfield 19, 3) := dk_180 0 19 (dk_at dksX15_began_0 4 rfl rfl)
theorem dX15_began_7 : decode cX15_began 7 = .ok (.bipush 24, 2) := dk_16 24 (dk_at dksX15_began_0 7 rfl rfl)
theorem dX15_began_9 : decode cX15_began 9 = .ok (.if_icmp .ge 20, 3) := dk_162 0 20 (dk_at dksX15_began_0 9 rfl rfl)
theorem dX15_began_12 : decode cX15_began 12 = .ok (.aload_n 0, 1) := dk_42 (dk_at dksX15_began_0 12 rfl rfl)
theorem dX15_began_13 : decode cX15_began 13 = .ok (.getfield 3, 3) := dk_180 0 3 (dk_at dksX15_began_0 13 rfl rfl)
theorem dX15_began_16 : decode cX15_began 16 = .ok (.getfield 22, 3) := dk_180 0 22 (dk_at dksX15_began_0 16 rfl rfl)
theorem dX15_began_19 : decode cX15_began 19 = .ok (.aload_n 0, 1) := dk_42 (dk_at dksX15_began_0 19 rfl rfl)
theorem dX15_began_20 : decode cX15_began 20 = .ok (.getfield 3, 3) := dk_180 0 3 (dk_at dksX15_began_0 20 rfl rfl)
theorem dX15_began_23 : decode cX15_began 23 = .ok (.getfield 19, 3) := dk_180 0 19 (dk_at dksX15_began_1 0 rfl rfl)
theorem dX15_began_26 : decode cX15_began 26 = .ok (.iload_n 1, 1) := dk_27 (dk_at dksX15_began_1 3 rfl rfl)
theorem dX15_began_27 : decode cX15_began 27 = .ok (.i2b, 1) := dk_145 (dk_at dksX15_began_1 4 rfl rfl)
theorem dX15_began_28 : decode cX15_began 28 = .ok (.bastore, 1) := dk_84 (dk_at dksX15_began_1 5 rfl rfl)
theorem dX15_began_29 : decode cX15_began 29 = .ok (.aload_n 0, 1) := dk_42 (dk_at dksX15_began_1 6 rfl rfl)
theorem dX15_began_30 : decode cX15_began 30 = .ok (.getfield 3, 3) := dk_180 0 3 (dk_at dksX15_began_1 7 rfl rfl)
theorem dX15_began_33 : decode cX15_began 33 = .ok (.dup, 1) := dk_89 (dk_at dksX15_began_1 10 rfl rfl)
theorem dX15_began_34 : decode cX15_began 34 = .ok (.getfield 19, 3) := dk_180 0 19 (dk_at dksX15_began_1 11 rfl rfl)
theorem dX15_began_37 : decode cX15_began 37 = .ok (.iconst 1, 1) := dk_4 (dk_at dksX15_began_1 14 rfl rfl)
theorem dX15_began_38 : decode cX15_began 38 = .ok (.iadd, 1) := dk_96 (dk_at dksX15_began_1 15 rfl rfl)
theorem dX15_began_39 : decode cX15_began 39 = .ok (.putfield 19, 3) := dk_181 0 19 (dk_at dksX15_began_1 16 rfl rfl)
theorem dX15_began_42 : decode cX15_began 42 = .ok (.return_, 1) := dk_177 (dk_at dksX15_began_1 19 rfl rfl)
theorem dX15_number_0 : decode cX15_number 0 = .ok (.aload_n 0, 1) := by decide +kernel
theorem dX15_number_1 : decode cX15_number 1 = .ok (.getfield 15, 3) := by decide +kernel
theorem dX15_number_4 : decode cX15_number 4 = .ok (.ireturn, 1) := by decide +kernel
def dkwX15_owes_0 : List UInt8 := [42, 16, 10, 182, 0, 26, 42, 27, 182, 0, 30, 5, 104, 172]
abbrev dktX15_owes_0 : List UInt8 := dkwX15_owes_0 ++ []
theorem dksX15_owes_0 : cX15_owes.data.toList.drop 0 = dktX15_owes_0 := by decide +kernel
theorem dX15_owes_0 : decode cX15_owes 0 = .ok (.aload_n 0, 1) := dk_42 (dk_at dksX15_owes_0 0 rfl rfl)
theorem dX15_owes_1 : decode cX15_owes 1 = .ok (.bipush 10, 2) := dk_16 10 (dk_at dksX15_owes_0 1 rfl rfl)
theorem dX15_owes_3 : decode cX15_owes 3 = .ok (.invokevirtual 26, 3) := dk_182 0 26 (dk_at dksX15_owes_0 3 rfl rfl)
theorem dX15_owes_6 : decode cX15_owes 6 = .ok (.aload_n 0, 1) := dk_42 (dk_at dksX15_owes_0 6 rfl rfl)
theorem dX15_owes_7 : decode cX15_owes 7 = .ok (.iload_n 1, 1) := dk_27 (dk_at dksX15_owes_0 7 rfl rfl)
theorem dX15_owes_8 : decode cX15_owes 8 = .ok (.invokevirtual 30, 3) := dk_182 0 30 (dk_at dksX15_owes_0 8 rfl rfl)
theorem dX15_owes_11 : decode cX15_owes 11 = .ok (.iconst 2, 1) := dk_5 (dk_at dksX15_owes_0 11 rfl rfl)
theorem dX15_owes_12 : decode cX15_owes 12 = .ok (.imul, 1) := dk_104 (dk_at dksX15_owes_0 12 rfl rfl)
theorem dX15_owes_13 : decode cX15_owes 13 = .ok (.ireturn, 1) := dk_172 (dk_at dksX15_owes_0 13 rfl rfl)
def dkwX15_paysOut_0 : List UInt8 := [42, 16, 11, 182, 0, 26, 27, 42, 180, 0, 15, 130, 172]
abbrev dktX15_paysOut_0 : List UInt8 := dkwX15_paysOut_0 ++ []
theorem dksX15_paysOut_0 : cX15_paysOut.data.toList.drop 0 = dktX15_paysOut_0 := by decide +kernel
theorem dX15_paysOut_0 : decode cX15_paysOut 0 = .ok (.aload_n 0, 1) := dk_42 (dk_at dksX15_paysOut_0 0 rfl rfl)
theorem dX15_paysOut_1 : decode cX15_paysOut 1 = .ok (.bipush 11, 2) := dk_16 11 (dk_at dksX15_paysOut_0 1 rfl rfl)
theorem dX15_paysOut_3 : decode cX15_paysOut 3 = .ok (.invokevirtual 26, 3) := dk_182 0 26 (dk_at dksX15_paysOut_0 3 rfl rfl)
theorem dX15_paysOut_6 : decode cX15_paysOut 6 = .ok (.iload_n 1, 1) := dk_27 (dk_at dksX15_paysOut_0 6 rfl rfl)
theorem dX15_paysOut_7 : decode cX15_paysOut 7 = .ok (.aload_n 0, 1) := dk_42 (dk_at dksX15_paysOut_0 7 rfl rfl)
theorem dX15_paysOut_8 : decode cX15_paysOut 8 = .ok (.getfield 15, 3) := dk_180 0 15 (dk_at dksX15_paysOut_0 8 rfl rfl)
theorem dX15_paysOut_11 : decode cX15_paysOut 11 = .ok (.ixor, 1) := dk_130 (dk_at dksX15_paysOut_0 11 rfl rfl)
theorem dX15_paysOut_12 : decode cX15_paysOut 12 = .ok (.ireturn, 1) := dk_172 (dk_at dksX15_paysOut_0 12 rfl rfl)
def dkwX15_isUnder_0 : List UInt8 := [27, 154, 0, 7, 4, 167, 0, 4, 3, 172]
abbrev dktX15_isUnder_0 : List UInt8 := dkwX15_isUnder_0 ++ []
theorem dksX15_isUnder_0 : cX15_isUnder.data.toList.drop 0 = dktX15_isUnder_0 := by decide +kernel
theorem dX15_isUnder_0 : decode cX15_isUnder 0 = .ok (.iload_n 1, 1) := dk_27 (dk_at dksX15_isUnder_0 0 rfl rfl)
theorem dX15_isUnder_1 : decode cX15_isUnder 1 = .ok (.ifCond .ne 7, 3) := dk_154 0 7 (dk_at dksX15_isUnder_0 1 rfl rfl)
theorem dX15_isUnder_4 : decode cX15_isUnder 4 = .ok (.iconst 1, 1) := dk_4 (dk_at dksX15_isUnder_0 4 rfl rfl)
theorem dX15_isUnder_5 : decode cX15_isUnder 5 = .ok (.goto 4, 3) := dk_167 0 4 (dk_at dksX15_isUnder_0 5 rfl rfl)
theorem dX15_isUnder_8 : decode cX15_isUnder 8 = .ok (.iconst 0, 1) := dk_3 (dk_at dksX15_isUnder_0 8 rfl rfl)
theorem dX15_isUnder_9 : decode cX15_isUnder 9 = .ok (.ireturn, 1) := dk_172 (dk_at dksX15_isUnder_0 9 rfl rfl)
theorem dX15_kind_0 : decode cX15_kind 0 = .ok (.iconst 0, 1) := by decide +kernel
theorem dX15_kind_1 : decode cX15_kind 1 = .ok (.ireturn, 1) := by decide +kernel
def dkwX16_init_0 : List UInt8 := [42, 43, 181, 0, 1, 42, 43, 28, 183, 0, 7, 177]
abbrev dktX16_init_0 : List UInt8 := dkwX16_init_0 ++ []
theorem dksX16_init_0 : cX16_init.data.toList.drop 0 = dktX16_init_0 := by decide +kernel
theorem dX16_init_0 : decode cX16_init 0 = .ok (.aload_n 0, 1) := dk_42 (dk_at dksX16_init_0 0 rfl rfl)
theorem dX16_init_1 : decode cX16_init 1 = .ok (.aload_n 1, 1) := dk_43 (dk_at dksX16_init_0 1 rfl rfl)
theorem dX16_init_2 : decode cX16_init 2 = .ok (.putfield 1, 3) := dk_181 0 1 (dk_at dksX16_init_0 2 rfl rfl)
theorem dX16_init_5 : decode cX16_init 5 = .ok (.aload_n 0, 1) := dk_42 (dk_at dksX16_init_0 5 rfl rfl)
theorem dX16_init_6 : decode cX16_init 6 = .ok (.aload_n 1, 1) := dk_43 (dk_at dksX16_init_0 6 rfl rfl)
theorem dX16_init_7 : decode cX16_init 7 = .ok (.iload_n 2, 1) := dk_28 (dk_at dksX16_init_0 7 rfl rfl)
theorem dX16_init_8 : decode cX16_init 8 = .ok (.invokespecial 7, 3) := dk_183 0 7 (dk_at dksX16_init_0 8 rfl rfl)
theorem dX16_init_11 : decode cX16_init 11 = .ok (.return_, 1) := dk_177 (dk_at dksX16_init_0 11 rfl rfl)
def dkwX16_comesBy_0 : List UInt8 := [42, 16, 20, 182, 0, 17, 42, 27, 183, 0, 21, 6, 96, 172]
abbrev dktX16_comesBy_0 : List UInt8 := dkwX16_comesBy_0 ++ []
theorem dksX16_comesBy_0 : cX16_comesBy.data.toList.drop 0 = dktX16_comesBy_0 := by decide +kernel
theorem dX16_comesBy_0 : decode cX16_comesBy 0 = .ok (.aload_n 0, 1) := dk_42 (dk_at dksX16_comesBy_0 0 rfl rfl)
theorem dX16_comesBy_1 : decode cX16_comesBy 1 = .ok (.bipush 20, 2) := dk_16 20 (dk_at dksX16_comesBy_0 1 rfl rfl)
theorem dX16_comesBy_3 : decode cX16_comesBy 3 = .ok (.invokevirtual 17, 3) := dk_182 0 17 (dk_at dksX16_comesBy_0 3 rfl rfl)
theorem dX16_comesBy_6 : decode cX16_comesBy 6 = .ok (.aload_n 0, 1) := dk_42 (dk_at dksX16_comesBy_0 6 rfl rfl)
theorem dX16_comesBy_7 : decode cX16_comesBy 7 = .ok (.iload_n 1, 1) := dk_27 (dk_at dksX16_comesBy_0 7 rfl rfl)
theorem dX16_comesBy_8 : decode cX16_comesBy 8 = .ok (.invokespecial 21, 3) := dk_183 0 21 (dk_at dksX16_comesBy_0 8 rfl rfl)
theorem dX16_comesBy_11 : decode cX16_comesBy 11 = .ok (.iconst 3, 1) := dk_6 (dk_at dksX16_comesBy_0 11 rfl rfl)
theorem dX16_comesBy_12 : decode cX16_comesBy 12 = .ok (.iadd, 1) := dk_96 (dk_at dksX16_comesBy_0 12 rfl rfl)
theorem dX16_comesBy_13 : decode cX16_comesBy 13 = .ok (.ireturn, 1) := dk_172 (dk_at dksX16_comesBy_0 13 rfl rfl)
def dkwX16_isUnder_0 : List UInt8 := [27, 4, 159, 0, 11, 42, 27, 183, 0, 13, 153, 0, 7, 4, 167, 0, 4, 3, 172]
abbrev dktX16_isUnder_0 : List UInt8 := dkwX16_isUnder_0 ++ []
theorem dksX16_isUnder_0 : cX16_isUnder.data.toList.drop 0 = dktX16_isUnder_0 := by decide +kernel
theorem dX16_isUnder_0 : decode cX16_isUnder 0 = .ok (.iload_n 1, 1) := dk_27 (dk_at dksX16_isUnder_0 0 rfl rfl)
theorem dX16_isUnder_1 : decode cX16_isUnder 1 = .ok (.iconst 1, 1) := dk_4 (dk_at dksX16_isUnder_0 1 rfl rfl)
theorem dX16_isUnder_2 : decode cX16_isUnder 2 = .ok (.if_icmp .eq 11, 3) := dk_159 0 11 (dk_at dksX16_isUnder_0 2 rfl rfl)
theorem dX16_isUnder_5 : decode cX16_isUnder 5 = .ok (.aload_n 0, 1) := dk_42 (dk_at dksX16_isUnder_0 5 rfl rfl)
theorem dX16_isUnder_6 : decode cX16_isUnder 6 = .ok (.iload_n 1, 1) := dk_27 (dk_at dksX16_isUnder_0 6 rfl rfl)
theorem dX16_isUnder_7 : decode cX16_isUnder 7 = .ok (.invokespecial 13, 3) := dk_183 0 13 (dk_at dksX16_isUnder_0 7 rfl rfl)
theorem dX16_isUnder_10 : decode cX16_isUnder 10 = .ok (.ifCond .eq 7, 3) := dk_153 0 7 (dk_at dksX16_isUnder_0 10 rfl rfl)
theorem dX16_isUnder_13 : decode cX16_isUnder 13 = .ok (.iconst 1, 1) := dk_4 (dk_at dksX16_isUnder_0 13 rfl rfl)
theorem dX16_isUnder_14 : decode cX16_isUnder 14 = .ok (.goto 4, 3) := dk_167 0 4 (dk_at dksX16_isUnder_0 14 rfl rfl)
theorem dX16_isUnder_17 : decode cX16_isUnder 17 = .ok (.iconst 0, 1) := dk_3 (dk_at dksX16_isUnder_0 17 rfl rfl)
theorem dX16_isUnder_18 : decode cX16_isUnder 18 = .ok (.ireturn, 1) := dk_172 (dk_at dksX16_isUnder_0 18 rfl rfl)
theorem dX16_kind_0 : decode cX16_kind 0 = .ok (.iconst 1, 1) := by decide +kernel
theorem dX16_kind_1 : decode cX16_kind 1 = .ok (.ireturn, 1) := by decide +kernel
def dkwX17_init_0 : List UInt8 := [42, 43, 181, 0, 1, 42, 43, 28, 183, 0, 7, 177]
abbrev dktX17_init_0 : List UInt8 := dkwX17_init_0 ++ []
theorem dksX17_init_0 : cX17_init.data.toList.drop 0 = dktX17_init_0 := by decide +kernel
theorem dX17_init_0 : decode cX17_init 0 = .ok (.aload_n 0, 1) := dk_42 (dk_at dksX17_init_0 0 rfl rfl)
theorem dX17_init_1 : decode cX17_init 1 = .ok (.aload_n 1, 1) := dk_43 (dk_at dksX17_init_0 1 rfl rfl)
theorem dX17_init_2 : decode cX17_init 2 = .ok (.putfield 1, 3) := dk_181 0 1 (dk_at dksX17_init_0 2 rfl rfl)
theorem dX17_init_5 : decode cX17_init 5 = .ok (.aload_n 0, 1) := dk_42 (dk_at dksX17_init_0 5 rfl rfl)
theorem dX17_init_6 : decode cX17_init 6 = .ok (.aload_n 1, 1) := dk_43 (dk_at dksX17_init_0 6 rfl rfl)
theorem dX17_init_7 : decode cX17_init 7 = .ok (.iload_n 2, 1) := dk_28 (dk_at dksX17_init_0 7 rfl rfl)
theorem dX17_init_8 : decode cX17_init 8 = .ok (.invokespecial 7, 3) := dk_183 0 7 (dk_at dksX17_init_0 8 rfl rfl)
theorem dX17_init_11 : decode cX17_init 11 = .ok (.return_, 1) := dk_177 (dk_at dksX17_init_0 11 rfl rfl)
def dkwX17_owes_0 : List UInt8 := [42, 16, 30, 182, 0, 17, 42, 27, 183, 0, 21, 116, 172]
abbrev dktX17_owes_0 : List UInt8 := dkwX17_owes_0 ++ []
theorem dksX17_owes_0 : cX17_owes.data.toList.drop 0 = dktX17_owes_0 := by decide +kernel
theorem dX17_owes_0 : decode cX17_owes 0 = .ok (.aload_n 0, 1) := dk_42 (dk_at dksX17_owes_0 0 rfl rfl)
theorem dX17_owes_1 : decode cX17_owes 1 = .ok (.bipush 30, 2) := dk_16 30 (dk_at dksX17_owes_0 1 rfl rfl)
theorem dX17_owes_3 : decode cX17_owes 3 = .ok (.invokevirtual 17, 3) := dk_182 0 17 (dk_at dksX17_owes_0 3 rfl rfl)
theorem dX17_owes_6 : decode cX17_owes 6 = .ok (.aload_n 0, 1) := dk_42 (dk_at dksX17_owes_0 6 rfl rfl)
theorem dX17_owes_7 : decode cX17_owes 7 = .ok (.iload_n 1, 1) := dk_27 (dk_at dksX17_owes_0 7 rfl rfl)
theorem dX17_owes_8 : decode cX17_owes 8 = .ok (.invokespecial 21, 3) := dk_183 0 21 (dk_at dksX17_owes_0 8 rfl rfl)
theorem dX17_owes_11 : decode cX17_owes 11 = .ok (.ineg, 1) := dk_116 (dk_at dksX17_owes_0 11 rfl rfl)
theorem dX17_owes_12 : decode cX17_owes 12 = .ok (.ireturn, 1) := dk_172 (dk_at dksX17_owes_0 12 rfl rfl)
def dkwX17_isUnder_0 : List UInt8 := [27, 5, 159, 0, 11, 42, 27, 183, 0, 13, 153, 0, 7, 4, 167, 0, 4, 3, 172]
abbrev dktX17_isUnder_0 : List UInt8 := dkwX17_isUnder_0 ++ []
theorem dksX17_isUnder_0 : cX17_isUnder.data.toList.drop 0 = dktX17_isUnder_0 := by decide +kernel
theorem dX17_isUnder_0 : decode cX17_isUnder 0 = .ok (.iload_n 1, 1) := dk_27 (dk_at dksX17_isUnder_0 0 rfl rfl)
theorem dX17_isUnder_1 : decode cX17_isUnder 1 = .ok (.iconst 2, 1) := dk_5 (dk_at dksX17_isUnder_0 1 rfl rfl)
theorem dX17_isUnder_2 : decode cX17_isUnder 2 = .ok (.if_icmp .eq 11, 3) := dk_159 0 11 (dk_at dksX17_isUnder_0 2 rfl rfl)
theorem dX17_isUnder_5 : decode cX17_isUnder 5 = .ok (.aload_n 0, 1) := dk_42 (dk_at dksX17_isUnder_0 5 rfl rfl)
theorem dX17_isUnder_6 : decode cX17_isUnder 6 = .ok (.iload_n 1, 1) := dk_27 (dk_at dksX17_isUnder_0 6 rfl rfl)
theorem dX17_isUnder_7 : decode cX17_isUnder 7 = .ok (.invokespecial 13, 3) := dk_183 0 13 (dk_at dksX17_isUnder_0 7 rfl rfl)
theorem dX17_isUnder_10 : decode cX17_isUnder 10 = .ok (.ifCond .eq 7, 3) := dk_153 0 7 (dk_at dksX17_isUnder_0 10 rfl rfl)
theorem dX17_isUnder_13 : decode cX17_isUnder 13 = .ok (.iconst 1, 1) := dk_4 (dk_at dksX17_isUnder_0 13 rfl rfl)
theorem dX17_isUnder_14 : decode cX17_isUnder 14 = .ok (.goto 4, 3) := dk_167 0 4 (dk_at dksX17_isUnder_0 14 rfl rfl)
theorem dX17_isUnder_17 : decode cX17_isUnder 17 = .ok (.iconst 0, 1) := dk_3 (dk_at dksX17_isUnder_0 17 rfl rfl)
theorem dX17_isUnder_18 : decode cX17_isUnder 18 = .ok (.ireturn, 1) := dk_172 (dk_at dksX17_isUnder_0 18 rfl rfl)
theorem dX17_kind_0 : decode cX17_kind 0 = .ok (.iconst 2, 1) := by decide +kernel
theorem dX17_kind_1 : decode cX17_kind 1 = .ok (.ireturn, 1) := by decide +kernel
def dkwX18_init_0 : List UInt8 := [42, 43, 181, 0, 1, 42, 43, 28, 183, 0, 7, 177]
abbrev dktX18_init_0 : List UInt8 := dkwX18_init_0 ++ []
theorem dksX18_init_0 : cX18_init.data.toList.drop 0 = dktX18_init_0 := by decide +kernel
theorem dX18_init_0 : decode cX18_init 0 = .ok (.aload_n 0, 1) := dk_42 (dk_at dksX18_init_0 0 rfl rfl)
theorem dX18_init_1 : decode cX18_init 1 = .ok (.aload_n 1, 1) := dk_43 (dk_at dksX18_init_0 1 rfl rfl)
theorem dX18_init_2 : decode cX18_init 2 = .ok (.putfield 1, 3) := dk_181 0 1 (dk_at dksX18_init_0 2 rfl rfl)
theorem dX18_init_5 : decode cX18_init 5 = .ok (.aload_n 0, 1) := dk_42 (dk_at dksX18_init_0 5 rfl rfl)
theorem dX18_init_6 : decode cX18_init 6 = .ok (.aload_n 1, 1) := dk_43 (dk_at dksX18_init_0 6 rfl rfl)
theorem dX18_init_7 : decode cX18_init 7 = .ok (.iload_n 2, 1) := dk_28 (dk_at dksX18_init_0 7 rfl rfl)
theorem dX18_init_8 : decode cX18_init 8 = .ok (.invokespecial 7, 3) := dk_183 0 7 (dk_at dksX18_init_0 8 rfl rfl)
theorem dX18_init_11 : decode cX18_init 11 = .ok (.return_, 1) := dk_177 (dk_at dksX18_init_0 11 rfl rfl)
def dkwX18_owes_0 : List UInt8 := [42, 16, 41, 182, 0, 17, 42, 27, 4, 96, 183, 0, 25, 172]
abbrev dktX18_owes_0 : List UInt8 := dkwX18_owes_0 ++ []
theorem dksX18_owes_0 : cX18_owes.data.toList.drop 0 = dktX18_owes_0 := by decide +kernel
theorem dX18_owes_0 : decode cX18_owes 0 = .ok (.aload_n 0, 1) := dk_42 (dk_at dksX18_owes_0 0 rfl rfl)
theorem dX18_owes_1 : decode cX18_owes 1 = .ok (.bipush 41, 2) := dk_16 41 (dk_at dksX18_owes_0 1 rfl rfl)
theorem dX18_owes_3 : decode cX18_owes 3 = .ok (.invokevirtual 17, 3) := dk_182 0 17 (dk_at dksX18_owes_0 3 rfl rfl)
theorem dX18_owes_6 : decode cX18_owes 6 = .ok (.aload_n 0, 1) := dk_42 (dk_at dksX18_owes_0 6 rfl rfl)
theorem dX18_owes_7 : decode cX18_owes 7 = .ok (.iload_n 1, 1) := dk_27 (dk_at dksX18_owes_0 7 rfl rfl)
theorem dX18_owes_8 : decode cX18_owes 8 = .ok (.iconst 1, 1) := dk_4 (dk_at dksX18_owes_0 8 rfl rfl)
theorem dX18_owes_9 : decode cX18_owes 9 = .ok (.iadd, 1) := dk_96 (dk_at dksX18_owes_0 9 rfl rfl)
theorem dX18_owes_10 : decode cX18_owes 10 = .ok (.invokespecial 25, 3) := dk_183 0 25 (dk_at dksX18_owes_0 10 rfl rfl)
theorem dX18_owes_13 : decode cX18_owes 13 = .ok (.ireturn, 1) := dk_172 (dk_at dksX18_owes_0 13 rfl rfl)
def dkwX18_paysOut_0 : List UInt8 := [42, 16, 40, 182, 0, 17, 42, 27, 183, 0, 21, 6, 104, 172]
abbrev dktX18_paysOut_0 : List UInt8 := dkwX18_paysOut_0 ++ []
theorem dksX18_paysOut_0 : cX18_paysOut.data.toList.drop 0 = dktX18_paysOut_0 := by decide +kernel
theorem dX18_paysOut_0 : decode cX18_paysOut 0 = .ok (.aload_n 0, 1) := dk_42 (dk_at dksX18_paysOut_0 0 rfl rfl)
theorem dX18_paysOut_1 : decode cX18_paysOut 1 = .ok (.bipush 40, 2) := dk_16 40 (dk_at dksX18_paysOut_0 1 rfl rfl)
theorem dX18_paysOut_3 : decode cX18_paysOut 3 = .ok (.invokevirtual 17, 3) := dk_182 0 17 (dk_at dksX18_paysOut_0 3 rfl rfl)
theorem dX18_paysOut_6 : decode cX18_paysOut 6 = .ok (.aload_n 0, 1) := dk_42 (dk_at dksX18_paysOut_0 6 rfl rfl)
theorem dX18_paysOut_7 : decode cX18_paysOut 7 = .ok (.iload_n 1, 1) := dk_27 (dk_at dksX18_paysOut_0 7 rfl rfl)
theorem dX18_paysOut_8 : decode cX18_paysOut 8 = .ok (.invokespecial 21, 3) := dk_183 0 21 (dk_at dksX18_paysOut_0 8 rfl rfl)
theorem dX18_paysOut_11 : decode cX18_paysOut 11 = .ok (.iconst 3, 1) := dk_6 (dk_at dksX18_paysOut_0 11 rfl rfl)
theorem dX18_paysOut_12 : decode cX18_paysOut 12 = .ok (.imul, 1) := dk_104 (dk_at dksX18_paysOut_0 12 rfl rfl)
theorem dX18_paysOut_13 : decode cX18_paysOut 13 = .ok (.ireturn, 1) := dk_172 (dk_at dksX18_paysOut_0 13 rfl rfl)
def dkwX18_isUnder_0 : List UInt8 := [27, 6, 159, 0, 11, 42, 27, 183, 0, 13, 153, 0, 7, 4, 167, 0, 4, 3, 172]
abbrev dktX18_isUnder_0 : List UInt8 := dkwX18_isUnder_0 ++ []
theorem dksX18_isUnder_0 : cX18_isUnder.data.toList.drop 0 = dktX18_isUnder_0 := by decide +kernel
theorem dX18_isUnder_0 : decode cX18_isUnder 0 = .ok (.iload_n 1, 1) := dk_27 (dk_at dksX18_isUnder_0 0 rfl rfl)
theorem dX18_isUnder_1 : decode cX18_isUnder 1 = .ok (.iconst 3, 1) := dk_6 (dk_at dksX18_isUnder_0 1 rfl rfl)
theorem dX18_isUnder_2 : decode cX18_isUnder 2 = .ok (.if_icmp .eq 11, 3) := dk_159 0 11 (dk_at dksX18_isUnder_0 2 rfl rfl)
theorem dX18_isUnder_5 : decode cX18_isUnder 5 = .ok (.aload_n 0, 1) := dk_42 (dk_at dksX18_isUnder_0 5 rfl rfl)
theorem dX18_isUnder_6 : decode cX18_isUnder 6 = .ok (.iload_n 1, 1) := dk_27 (dk_at dksX18_isUnder_0 6 rfl rfl)
theorem dX18_isUnder_7 : decode cX18_isUnder 7 = .ok (.invokespecial 13, 3) := dk_183 0 13 (dk_at dksX18_isUnder_0 7 rfl rfl)
theorem dX18_isUnder_10 : decode cX18_isUnder 10 = .ok (.ifCond .eq 7, 3) := dk_153 0 7 (dk_at dksX18_isUnder_0 10 rfl rfl)
theorem dX18_isUnder_13 : decode cX18_isUnder 13 = .ok (.iconst 1, 1) := dk_4 (dk_at dksX18_isUnder_0 13 rfl rfl)
theorem dX18_isUnder_14 : decode cX18_isUnder 14 = .ok (.goto 4, 3) := dk_167 0 4 (dk_at dksX18_isUnder_0 14 rfl rfl)
theorem dX18_isUnder_17 : decode cX18_isUnder 17 = .ok (.iconst 0, 1) := dk_3 (dk_at dksX18_isUnder_0 17 rfl rfl)
theorem dX18_isUnder_18 : decode cX18_isUnder 18 = .ok (.ireturn, 1) := dk_172 (dk_at dksX18_isUnder_0 18 rfl rfl)
theorem dX18_kind_0 : decode cX18_kind 0 = .ok (.iconst 3, 1) := by decide +kernel
theorem dX18_kind_1 : decode cX18_kind 1 = .ok (.ireturn, 1) := by decide +kernel
def dkwX19_init_0 : List UInt8 := [42, 43, 181, 0, 1, 42, 43, 28, 183, 0, 7, 177]
abbrev dktX19_init_0 : List UInt8 := dkwX19_init_0 ++ []
theorem dksX19_init_0 : cX19_init.data.toList.drop 0 = dktX19_init_0 := by decide +kernel
theorem dX19_init_0 : decode cX19_init 0 = .ok (.aload_n 0, 1) := dk_42 (dk_at dksX19_init_0 0 rfl rfl)
theorem dX19_init_1 : decode cX19_init 1 = .ok (.aload_n 1, 1) := dk_43 (dk_at dksX19_init_0 1 rfl rfl)
theorem dX19_init_2 : decode cX19_init 2 = .ok (.putfield 1, 3) := dk_181 0 1 (dk_at dksX19_init_0 2 rfl rfl)
theorem dX19_init_5 : decode cX19_init 5 = .ok (.aload_n 0, 1) := dk_42 (dk_at dksX19_init_0 5 rfl rfl)
theorem dX19_init_6 : decode cX19_init 6 = .ok (.aload_n 1, 1) := dk_43 (dk_at dksX19_init_0 6 rfl rfl)
theorem dX19_init_7 : decode cX19_init 7 = .ok (.iload_n 2, 1) := dk_28 (dk_at dksX19_init_0 7 rfl rfl)
theorem dX19_init_8 : decode cX19_init 8 = .ok (.invokespecial 7, 3) := dk_183 0 7 (dk_at dksX19_init_0 8 rfl rfl)
theorem dX19_init_11 : decode cX19_init 11 = .ok (.return_, 1) := dk_177 (dk_at dksX19_init_0 11 rfl rfl)
def dkwX19_paysOut_0 : List UInt8 := [42, 16, 50, 182, 0, 17, 42, 27, 183, 0, 21, 61, 28, 42, 5, 182, 0, 25, 100, 172]
abbrev dktX19_paysOut_0 : List UInt8 := dkwX19_paysOut_0 ++ []
theorem dksX19_paysOut_0 : cX19_paysOut.data.toList.drop 0 = dktX19_paysOut_0 := by decide +kernel
theorem dX19_paysOut_0 : decode cX19_paysOut 0 = .ok (.aload_n 0, 1) := dk_42 (dk_at dksX19_paysOut_0 0 rfl rfl)
theorem dX19_paysOut_1 : decode cX19_paysOut 1 = .ok (.bipush 50, 2) := dk_16 50 (dk_at dksX19_paysOut_0 1 rfl rfl)
theorem dX19_paysOut_3 : decode cX19_paysOut 3 = .ok (.invokevirtual 17, 3) := dk_182 0 17 (dk_at dksX19_paysOut_0 3 rfl rfl)
theorem dX19_paysOut_6 : decode cX19_paysOut 6 = .ok (.aload_n 0, 1) := dk_42 (dk_at dksX19_paysOut_0 6 rfl rfl)
theorem dX19_paysOut_7 : decode cX19_paysOut 7 = .ok (.iload_n 1, 1) := dk_27 (dk_at dksX19_paysOut_0 7 rfl rfl)
theorem dX19_paysOut_8 : decode cX19_paysOut 8 = .ok (.invokespecial 21, 3) := dk_183 0 21 (dk_at dksX19_paysOut_0 8 rfl rfl)
theorem dX19_paysOut_11 : decode cX19_paysOut 11 = .ok (.istore_n 2, 1) := dk_61 (dk_at dksX19_paysOut_0 11 rfl rfl)
theorem dX19_paysOut_12 : decode cX19_paysOut 12 = .ok (.iload_n 2, 1) := dk_28 (dk_at dksX19_paysOut_0 12 rfl rfl)
theorem dX19_paysOut_13 : decode cX19_paysOut 13 = .ok (.aload_n 0, 1) := dk_42 (dk_at dksX19_paysOut_0 13 rfl rfl)
theorem dX19_paysOut_14 : decode cX19_paysOut 14 = .ok (.iconst 2, 1) := dk_5 (dk_at dksX19_paysOut_0 14 rfl rfl)
theorem dX19_paysOut_15 : decode cX19_paysOut 15 = .ok (.invokevirtual 25, 3) := dk_182 0 25 (dk_at dksX19_paysOut_0 15 rfl rfl)
theorem dX19_paysOut_18 : decode cX19_paysOut 18 = .ok (.isub, 1) := dk_100 (dk_at dksX19_paysOut_0 18 rfl rfl)
theorem dX19_paysOut_19 : decode cX19_paysOut 19 = .ok (.ireturn, 1) := dk_172 (dk_at dksX19_paysOut_0 19 rfl rfl)
def dkwX19_isUnder_0 : List UInt8 := [27, 7, 159, 0, 11, 42, 27, 183, 0, 13, 153, 0, 7, 4, 167, 0, 4, 3, 172]
abbrev dktX19_isUnder_0 : List UInt8 := dkwX19_isUnder_0 ++ []
theorem dksX19_isUnder_0 : cX19_isUnder.data.toList.drop 0 = dktX19_isUnder_0 := by decide +kernel
theorem dX19_isUnder_0 : decode cX19_isUnder 0 = .ok (.iload_n 1, 1) := dk_27 (dk_at dksX19_isUnder_0 0 rfl rfl)
theorem dX19_isUnder_1 : decode cX19_isUnder 1 = .ok (.iconst 4, 1) := dk_7 (dk_at dksX19_isUnder_0 1 rfl rfl)
theorem dX19_isUnder_2 : decode cX19_isUnder 2 = .ok (.if_icmp .eq 11, 3) := dk_159 0 11 (dk_at dksX19_isUnder_0 2 rfl rfl)
theorem dX19_isUnder_5 : decode cX19_isUnder 5 = .ok (.aload_n 0, 1) := dk_42 (dk_at dksX19_isUnder_0 5 rfl rfl)
theorem dX19_isUnder_6 : decode cX19_isUnder 6 = .ok (.iload_n 1, 1) := dk_27 (dk_at dksX19_isUnder_0 6 rfl rfl)
theorem dX19_isUnder_7 : decode cX19_isUnder 7 = .ok (.invokespecial 13, 3) := dk_183 0 13 (dk_at dksX19_isUnder_0 7 rfl rfl)
theorem dX19_isUnder_10 : decode cX19_isUnder 10 = .ok (.ifCond .eq 7, 3) := dk_153 0 7 (dk_at dksX19_isUnder_0 10 rfl rfl)
theorem dX19_isUnder_13 : decode cX19_isUnder 13 = .ok (.iconst 1, 1) := dk_4 (dk_at dksX19_isUnder_0 13 rfl rfl)
theorem dX19_isUnder_14 : decode cX19_isUnder 14 = .ok (.goto 4, 3) := dk_167 0 4 (dk_at dksX19_isUnder_0 14 rfl rfl)
theorem dX19_isUnder_17 : decode cX19_isUnder 17 = .ok (.iconst 0, 1) := dk_3 (dk_at dksX19_isUnder_0 17 rfl rfl)
theorem dX19_isUnder_18 : decode cX19_isUnder 18 = .ok (.ireturn, 1) := dk_172 (dk_at dksX19_isUnder_0 18 rfl rfl)
theorem dX19_kind_0 : decode cX19_kind 0 = .ok (.iconst 4, 1) := by decide +kernel
theorem dX19_kind_1 : decode cX19_kind 1 = .ok (.ireturn, 1) := by decide +kernel
def dkwX20_init_0 : List UInt8 := [42, 43, 181, 0, 1, 42, 43, 28, 183, 0, 7, 177]
abbrev dktX20_init_0 : List UInt8 := dkwX20_init_0 ++ []
theorem dksX20_init_0 : cX20_init.data.toList.drop 0 = dktX20_init_0 := by decide +kernel
theorem dX20_init_0 : decode cX20_init 0 = .ok (.aload_n 0, 1) := dk_42 (dk_at dksX20_init_0 0 rfl rfl)
theorem dX20_init_1 : decode cX20_init 1 = .ok (.aload_n 1, 1) := dk_43 (dk_at dksX20_init_0 1 rfl rfl)
theorem dX20_init_2 : decode cX20_init 2 = .ok (.putfield 1, 3) := dk_181 0 1 (dk_at dksX20_init_0 2 rfl rfl)
theorem dX20_init_5 : decode cX20_init 5 = .ok (.aload_n 0, 1) := dk_42 (dk_at dksX20_init_0 5 rfl rfl)
theorem dX20_init_6 : decode cX20_init 6 = .ok (.aload_n 1, 1) := dk_43 (dk_at dksX20_init_0 6 rfl rfl)
theorem dX20_init_7 : decode cX20_init 7 = .ok (.iload_n 2, 1) := dk_28 (dk_at dksX20_init_0 7 rfl rfl)
theorem dX20_init_8 : decode cX20_init 8 = .ok (.invokespecial 7, 3) := dk_183 0 7 (dk_at dksX20_init_0 8 rfl rfl)
theorem dX20_init_11 : decode cX20_init 11 = .ok (.return_, 1) := dk_177 (dk_at dksX20_init_0 11 rfl rfl)
def dkwX20_tells_0 : List UInt8 := [42, 16, 60, 182, 0, 17, 42, 27, 183, 0, 21, 8, 130, 172]
abbrev dktX20_tells_0 : List UInt8 := dkwX20_tells_0 ++ []
theorem dksX20_tells_0 : cX20_tells.data.toList.drop 0 = dktX20_tells_0 := by decide +kernel
theorem dX20_tells_0 : decode cX20_tells 0 = .ok (.aload_n 0, 1) := dk_42 (dk_at dksX20_tells_0 0 rfl rfl)
theorem dX20_tells_1 : decode cX20_tells 1 = .ok (.bipush 60, 2) := dk_16 60 (dk_at dksX20_tells_0 1 rfl rfl)
theorem dX20_tells_3 : decode cX20_tells 3 = .ok (.invokevirtual 17, 3) := dk_182 0 17 (dk_at dksX20_tells_0 3 rfl rfl)
theorem dX20_tells_6 : decode cX20_tells 6 = .ok (.aload_n 0, 1) := dk_42 (dk_at dksX20_tells_0 6 rfl rfl)
theorem dX20_tells_7 : decode cX20_tells 7 = .ok (.iload_n 1, 1) := dk_27 (dk_at dksX20_tells_0 7 rfl rfl)
theorem dX20_tells_8 : decode cX20_tells 8 = .ok (.invokespecial 21, 3) := dk_183 0 21 (dk_at dksX20_tells_0 8 rfl rfl)
theorem dX20_tells_11 : decode cX20_tells 11 = .ok (.iconst 5, 1) := dk_8 (dk_at dksX20_tells_0 11 rfl rfl)
theorem dX20_tells_12 : decode cX20_tells 12 = .ok (.ixor, 1) := dk_130 (dk_at dksX20_tells_0 12 rfl rfl)
theorem dX20_tells_13 : decode cX20_tells 13 = .ok (.ireturn, 1) := dk_172 (dk_at dksX20_tells_0 13 rfl rfl)
def dkwX20_isUnder_0 : List UInt8 := [27, 8, 159, 0, 11, 42, 27, 183, 0, 13, 153, 0, 7, 4, 167, 0, 4, 3, 172]
abbrev dktX20_isUnder_0 : List UInt8 := dkwX20_isUnder_0 ++ []
theorem dksX20_isUnder_0 : cX20_isUnder.data.toList.drop 0 = dktX20_isUnder_0 := by decide +kernel
theorem dX20_isUnder_0 : decode cX20_isUnder 0 = .ok (.iload_n 1, 1) := dk_27 (dk_at dksX20_isUnder_0 0 rfl rfl)
theorem dX20_isUnder_1 : decode cX20_isUnder 1 = .ok (.iconst 5, 1) := dk_8 (dk_at dksX20_isUnder_0 1 rfl rfl)
theorem dX20_isUnder_2 : decode cX20_isUnder 2 = .ok (.if_icmp .eq 11, 3) := dk_159 0 11 (dk_at dksX20_isUnder_0 2 rfl rfl)
theorem dX20_isUnder_5 : decode cX20_isUnder 5 = .ok (.aload_n 0, 1) := dk_42 (dk_at dksX20_isUnder_0 5 rfl rfl)
theorem dX20_isUnder_6 : decode cX20_isUnder 6 = .ok (.iload_n 1, 1) := dk_27 (dk_at dksX20_isUnder_0 6 rfl rfl)
theorem dX20_isUnder_7 : decode cX20_isUnder 7 = .ok (.invokespecial 13, 3) := dk_183 0 13 (dk_at dksX20_isUnder_0 7 rfl rfl)
theorem dX20_isUnder_10 : decode cX20_isUnder 10 = .ok (.ifCond .eq 7, 3) := dk_153 0 7 (dk_at dksX20_isUnder_0 10 rfl rfl)
theorem dX20_isUnder_13 : decode cX20_isUnder 13 = .ok (.iconst 1, 1) := dk_4 (dk_at dksX20_isUnder_0 13 rfl rfl)
theorem dX20_isUnder_14 : decode cX20_isUnder 14 = .ok (.goto 4, 3) := dk_167 0 4 (dk_at dksX20_isUnder_0 14 rfl rfl)
theorem dX20_isUnder_17 : decode cX20_isUnder 17 = .ok (.iconst 0, 1) := dk_3 (dk_at dksX20_isUnder_0 17 rfl rfl)
theorem dX20_isUnder_18 : decode cX20_isUnder 18 = .ok (.ireturn, 1) := dk_172 (dk_at dksX20_isUnder_0 18 rfl rfl)
theorem dX20_kind_0 : decode cX20_kind 0 = .ok (.iconst 5, 1) := by decide +kernel
theorem dX20_kind_1 : decode cX20_kind 1 = .ok (.ireturn, 1) := by decide +kernel
def dkwX21_init_0 : List UInt8 := [42, 43, 181, 0, 1, 42, 43, 28, 183, 0, 7, 177]
abbrev dktX21_init_0 : List UInt8 := dkwX21_init_0 ++ []
theorem dksX21_init_0 : cX21_init.data.toList.drop 0 = dktX21_init_0 := by decide +kernel
theorem dX21_init_0 : decode cX21_init 0 = .ok (.aload_n 0, 1) := dk_42 (dk_at dksX21_init_0 0 rfl rfl)
theorem dX21_init_1 : decode cX21_init 1 = .ok (.aload_n 1, 1) := dk_43 (dk_at dksX21_init_0 1 rfl rfl)
theorem dX21_init_2 : decode cX21_init 2 = .ok (.putfield 1, 3) := dk_181 0 1 (dk_at dksX21_init_0 2 rfl rfl)
theorem dX21_init_5 : decode cX21_init 5 = .ok (.aload_n 0, 1) := dk_42 (dk_at dksX21_init_0 5 rfl rfl)
theorem dX21_init_6 : decode cX21_init 6 = .ok (.aload_n 1, 1) := dk_43 (dk_at dksX21_init_0 6 rfl rfl)
theorem dX21_init_7 : decode cX21_init 7 = .ok (.iload_n 2, 1) := dk_28 (dk_at dksX21_init_0 7 rfl rfl)
theorem dX21_init_8 : decode cX21_init 8 = .ok (.invokespecial 7, 3) := dk_183 0 7 (dk_at dksX21_init_0 8 rfl rfl)
theorem dX21_init_11 : decode cX21_init 11 = .ok (.return_, 1) := dk_177 (dk_at dksX21_init_0 11 rfl rfl)
def dkwX21_comesBy_0 : List UInt8 := [42, 16, 70, 182, 0, 17, 42, 27, 183, 0, 21, 5, 104, 172]
abbrev dktX21_comesBy_0 : List UInt8 := dkwX21_comesBy_0 ++ []
theorem dksX21_comesBy_0 : cX21_comesBy.data.toList.drop 0 = dktX21_comesBy_0 := by decide +kernel
theorem dX21_comesBy_0 : decode cX21_comesBy 0 = .ok (.aload_n 0, 1) := dk_42 (dk_at dksX21_comesBy_0 0 rfl rfl)
theorem dX21_comesBy_1 : decode cX21_comesBy 1 = .ok (.bipush 70, 2) := dk_16 70 (dk_at dksX21_comesBy_0 1 rfl rfl)
theorem dX21_comesBy_3 : decode cX21_comesBy 3 = .ok (.invokevirtual 17, 3) := dk_182 0 17 (dk_at dksX21_comesBy_0 3 rfl rfl)
theorem dX21_comesBy_6 : decode cX21_comesBy 6 = .ok (.aload_n 0, 1) := dk_42 (dk_at dksX21_comesBy_0 6 rfl rfl)
theorem dX21_comesBy_7 : decode cX21_comesBy 7 = .ok (.iload_n 1, 1) := dk_27 (dk_at dksX21_comesBy_0 7 rfl rfl)
theorem dX21_comesBy_8 : decode cX21_comesBy 8 = .ok (.invokespecial 21, 3) := dk_183 0 21 (dk_at dksX21_comesBy_0 8 rfl rfl)
theorem dX21_comesBy_11 : decode cX21_comesBy 11 = .ok (.iconst 2, 1) := dk_5 (dk_at dksX21_comesBy_0 11 rfl rfl)
theorem dX21_comesBy_12 : decode cX21_comesBy 12 = .ok (.imul, 1) := dk_104 (dk_at dksX21_comesBy_0 12 rfl rfl)
theorem dX21_comesBy_13 : decode cX21_comesBy 13 = .ok (.ireturn, 1) := dk_172 (dk_at dksX21_comesBy_0 13 rfl rfl)
def dkwX21_isUnder_0 : List UInt8 := [27, 16, 6, 159, 0, 11, 42, 27, 183, 0, 13, 153, 0, 7, 4, 167, 0, 4, 3, 172]
abbrev dktX21_isUnder_0 : List UInt8 := dkwX21_isUnder_0 ++ []
theorem dksX21_isUnder_0 : cX21_isUnder.data.toList.drop 0 = dktX21_isUnder_0 := by decide +kernel
theorem dX21_isUnder_0 : decode cX21_isUnder 0 = .ok (.iload_n 1, 1) := dk_27 (dk_at dksX21_isUnder_0 0 rfl rfl)
theorem dX21_isUnder_1 : decode cX21_isUnder 1 = .ok (.bipush 6, 2) := dk_16 6 (dk_at dksX21_isUnder_0 1 rfl rfl)
theorem dX21_isUnder_3 : decode cX21_isUnder 3 = .ok (.if_icmp .eq 11, 3) := dk_159 0 11 (dk_at dksX21_isUnder_0 3 rfl rfl)
theorem dX21_isUnder_6 : decode cX21_isUnder 6 = .ok (.aload_n 0, 1) := dk_42 (dk_at dksX21_isUnder_0 6 rfl rfl)
theorem dX21_isUnder_7 : decode cX21_isUnder 7 = .ok (.iload_n 1, 1) := dk_27 (dk_at dksX21_isUnder_0 7 rfl rfl)
theorem dX21_isUnder_8 : decode cX21_isUnder 8 = .ok (.invokespecial 13, 3) := dk_183 0 13 (dk_at dksX21_isUnder_0 8 rfl rfl)
theorem dX21_isUnder_11 : decode cX21_isUnder 11 = .ok (.ifCond .eq 7, 3) := dk_153 0 7 (dk_at dksX21_isUnder_0 11 rfl rfl)
theorem dX21_isUnder_14 : decode cX21_isUnder 14 = .ok (.iconst 1, 1) := dk_4 (dk_at dksX21_isUnder_0 14 rfl rfl)
theorem dX21_isUnder_15 : decode cX21_isUnder 15 = .ok (.goto 4, 3) := dk_167 0 4 (dk_at dksX21_isUnder_0 15 rfl rfl)
theorem dX21_isUnder_18 : decode cX21_isUnder 18 = .ok (.iconst 0, 1) := dk_3 (dk_at dksX21_isUnder_0 18 rfl rfl)
theorem dX21_isUnder_19 : decode cX21_isUnder 19 = .ok (.ireturn, 1) := dk_172 (dk_at dksX21_isUnder_0 19 rfl rfl)
theorem dX21_kind_0 : decode cX21_kind 0 = .ok (.bipush 6, 2) := by decide +kernel
theorem dX21_kind_2 : decode cX21_kind 2 = .ok (.ireturn, 1) := by decide +kernel
def dkwX22_init_0 : List UInt8 := [42, 43, 181, 0, 1, 42, 43, 28, 183, 0, 7, 177]
abbrev dktX22_init_0 : List UInt8 := dkwX22_init_0 ++ []
theorem dksX22_init_0 : cX22_init.data.toList.drop 0 = dktX22_init_0 := by decide +kernel
theorem dX22_init_0 : decode cX22_init 0 = .ok (.aload_n 0, 1) := dk_42 (dk_at dksX22_init_0 0 rfl rfl)
theorem dX22_init_1 : decode cX22_init 1 = .ok (.aload_n 1, 1) := dk_43 (dk_at dksX22_init_0 1 rfl rfl)
theorem dX22_init_2 : decode cX22_init 2 = .ok (.putfield 1, 3) := dk_181 0 1 (dk_at dksX22_init_0 2 rfl rfl)
theorem dX22_init_5 : decode cX22_init 5 = .ok (.aload_n 0, 1) := dk_42 (dk_at dksX22_init_0 5 rfl rfl)
theorem dX22_init_6 : decode cX22_init 6 = .ok (.aload_n 1, 1) := dk_43 (dk_at dksX22_init_0 6 rfl rfl)
theorem dX22_init_7 : decode cX22_init 7 = .ok (.iload_n 2, 1) := dk_28 (dk_at dksX22_init_0 7 rfl rfl)
theorem dX22_init_8 : decode cX22_init 8 = .ok (.invokespecial 7, 3) := dk_183 0 7 (dk_at dksX22_init_0 8 rfl rfl)
theorem dX22_init_11 : decode cX22_init 11 = .ok (.return_, 1) := dk_177 (dk_at dksX22_init_0 11 rfl rfl)
def dkwX22_owes_0 : List UInt8 := [42, 16, 80, 182, 0, 17, 42, 27, 183, 0, 21, 61, 28, 42, 5, 182, 0, 25, 96, 172]
abbrev dktX22_owes_0 : List UInt8 := dkwX22_owes_0 ++ []
theorem dksX22_owes_0 : cX22_owes.data.toList.drop 0 = dktX22_owes_0 := by decide +kernel
theorem dX22_owes_0 : decode cX22_owes 0 = .ok (.aload_n 0, 1) := dk_42 (dk_at dksX22_owes_0 0 rfl rfl)
theorem dX22_owes_1 : decode cX22_owes 1 = .ok (.bipush 80, 2) := dk_16 80 (dk_at dksX22_owes_0 1 rfl rfl)
theorem dX22_owes_3 : decode cX22_owes 3 = .ok (.invokevirtual 17, 3) := dk_182 0 17 (dk_at dksX22_owes_0 3 rfl rfl)
theorem dX22_owes_6 : decode cX22_owes 6 = .ok (.aload_n 0, 1) := dk_42 (dk_at dksX22_owes_0 6 rfl rfl)
theorem dX22_owes_7 : decode cX22_owes 7 = .ok (.iload_n 1, 1) := dk_27 (dk_at dksX22_owes_0 7 rfl rfl)
theorem dX22_owes_8 : decode cX22_owes 8 = .ok (.invokespecial 21, 3) := dk_183 0 21 (dk_at dksX22_owes_0 8 rfl rfl)
theorem dX22_owes_11 : decode cX22_owes 11 = .ok (.istore_n 2, 1) := dk_61 (dk_at dksX22_owes_0 11 rfl rfl)
theorem dX22_owes_12 : decode cX22_owes 12 = .ok (.iload_n 2, 1) := dk_28 (dk_at dksX22_owes_0 12 rfl rfl)
theorem dX22_owes_13 : decode cX22_owes 13 = .ok (.aload_n 0, 1) := dk_42 (dk_at dksX22_owes_0 13 rfl rfl)
theorem dX22_owes_14 : decode cX22_owes 14 = .ok (.iconst 2, 1) := dk_5 (dk_at dksX22_owes_0 14 rfl rfl)
theorem dX22_owes_15 : decode cX22_owes 15 = .ok (.invokevirtual 25, 3) := dk_182 0 25 (dk_at dksX22_owes_0 15 rfl rfl)
theorem dX22_owes_18 : decode cX22_owes 18 = .ok (.iadd, 1) := dk_96 (dk_at dksX22_owes_0 18 rfl rfl)
theorem dX22_owes_19 : decode cX22_owes 19 = .ok (.ireturn, 1) := dk_172 (dk_at dksX22_owes_0 19 rfl rfl)
def dkwX22_tells_0 : List UInt8 := [42, 16, 81, 182, 0, 17, 42, 27, 183, 0, 28, 4, 100, 172]
abbrev dktX22_tells_0 : List UInt8 := dkwX22_tells_0 ++ []
theorem dksX22_tells_0 : cX22_tells.data.toList.drop 0 = dktX22_tells_0 := by decide +kernel
theorem dX22_tells_0 : decode cX22_tells 0 = .ok (.aload_n 0, 1) := dk_42 (dk_at dksX22_tells_0 0 rfl rfl)
theorem dX22_tells_1 : decode cX22_tells 1 = .ok (.bipush 81, 2) := dk_16 81 (dk_at dksX22_tells_0 1 rfl rfl)
theorem dX22_tells_3 : decode cX22_tells 3 = .ok (.invokevirtual 17, 3) := dk_182 0 17 (dk_at dksX22_tells_0 3 rfl rfl)
theorem dX22_tells_6 : decode cX22_tells 6 = .ok (.aload_n 0, 1) := dk_42 (dk_at dksX22_tells_0 6 rfl rfl)
theorem dX22_tells_7 : decode cX22_tells 7 = .ok (.iload_n 1, 1) := dk_27 (dk_at dksX22_tells_0 7 rfl rfl)
theorem dX22_tells_8 : decode cX22_tells 8 = .ok (.invokespecial 28, 3) := dk_183 0 28 (dk_at dksX22_tells_0 8 rfl rfl)
theorem dX22_tells_11 : decode cX22_tells 11 = .ok (.iconst 1, 1) := dk_4 (dk_at dksX22_tells_0 11 rfl rfl)
theorem dX22_tells_12 : decode cX22_tells 12 = .ok (.isub, 1) := dk_100 (dk_at dksX22_tells_0 12 rfl rfl)
theorem dX22_tells_13 : decode cX22_tells 13 = .ok (.ireturn, 1) := dk_172 (dk_at dksX22_tells_0 13 rfl rfl)
def dkwX22_isUnder_0 : List UInt8 := [27, 16, 7, 159, 0, 11, 42, 27, 183, 0, 13, 153, 0, 7, 4, 167, 0, 4, 3, 172]
abbrev dktX22_isUnder_0 : List UInt8 := dkwX22_isUnder_0 ++ []
theorem dksX22_isUnder_0 : cX22_isUnder.data.toList.drop 0 = dktX22_isUnder_0 := by decide +kernel
theorem dX22_isUnder_0 : decode cX22_isUnder 0 = .ok (.iload_n 1, 1) := dk_27 (dk_at dksX22_isUnder_0 0 rfl rfl)
theorem dX22_isUnder_1 : decode cX22_isUnder 1 = .ok (.bipush 7, 2) := dk_16 7 (dk_at dksX22_isUnder_0 1 rfl rfl)
theorem dX22_isUnder_3 : decode cX22_isUnder 3 = .ok (.if_icmp .eq 11, 3) := dk_159 0 11 (dk_at dksX22_isUnder_0 3 rfl rfl)
theorem dX22_isUnder_6 : decode cX22_isUnder 6 = .ok (.aload_n 0, 1) := dk_42 (dk_at dksX22_isUnder_0 6 rfl rfl)
theorem dX22_isUnder_7 : decode cX22_isUnder 7 = .ok (.iload_n 1, 1) := dk_27 (dk_at dksX22_isUnder_0 7 rfl rfl)
theorem dX22_isUnder_8 : decode cX22_isUnder 8 = .ok (.invokespecial 13, 3) := dk_183 0 13 (dk_at dksX22_isUnder_0 8 rfl rfl)
theorem dX22_isUnder_11 : decode cX22_isUnder 11 = .ok (.ifCond .eq 7, 3) := dk_153 0 7 (dk_at dksX22_isUnder_0 11 rfl rfl)
theorem dX22_isUnder_14 : decode cX22_isUnder 14 = .ok (.iconst 1, 1) := dk_4 (dk_at dksX22_isUnder_0 14 rfl rfl)
theorem dX22_isUnder_15 : decode cX22_isUnder 15 = .ok (.goto 4, 3) := dk_167 0 4 (dk_at dksX22_isUnder_0 15 rfl rfl)
theorem dX22_isUnder_18 : decode cX22_isUnder 18 = .ok (.iconst 0, 1) := dk_3 (dk_at dksX22_isUnder_0 18 rfl rfl)
theorem dX22_isUnder_19 : decode cX22_isUnder 19 = .ok (.ireturn, 1) := dk_172 (dk_at dksX22_isUnder_0 19 rfl rfl)
theorem dX22_kind_0 : decode cX22_kind 0 = .ok (.bipush 7, 2) := by decide +kernel
theorem dX22_kind_2 : decode cX22_kind 2 = .ok (.ireturn, 1) := by decide +kernel
theorem dX23_init_0 : decode cX23_init 0 = .ok (.aload_n 0, 1) := by decide +kernel
theorem dX23_init_1 : decode cX23_init 1 = .ok (.invokespecial 1, 3) := by decide +kernel
theorem dX23_init_4 : decode cX23_init 4 = .ok (.return_, 1) := by decide +kernel
def dkwX24_size_0 : List UInt8 := [42, 180, 0, 7, 190, 172]
abbrev dktX24_size_0 : List UInt8 := dkwX24_size_0 ++ []
theorem dksX24_size_0 : cX24_size.data.toList.drop 0 = dktX24_size_0 := by decide +kernel
theorem dX24_size_0 : decode cX24_size 0 = .ok (.aload_n 0, 1) := dk_42 (dk_at dksX24_size_0 0 rfl rfl)
theorem dX24_size_1 : decode cX24_size 1 = .ok (.getfield 7, 3) := dk_180 0 7 (dk_at dksX24_size_0 1 rfl rfl)
theorem dX24_size_4 : decode cX24_size 4 = .ok (.arraylength, 1) := dk_190 (dk_at dksX24_size_0 4 rfl rfl)
theorem dX24_size_5 : decode cX24_size 5 = .ok (.ireturn, 1) := dk_172 (dk_at dksX24_size_0 5 rfl rfl)
def dkwX24_at_0 : List UInt8 := [42, 180, 0, 7, 27, 51, 133, 173]
abbrev dktX24_at_0 : List UInt8 := dkwX24_at_0 ++ []
theorem dksX24_at_0 : cX24_at.data.toList.drop 0 = dktX24_at_0 := by decide +kernel
theorem dX24_at_0 : decode cX24_at 0 = .ok (.aload_n 0, 1) := dk_42 (dk_at dksX24_at_0 0 rfl rfl)
theorem dX24_at_1 : decode cX24_at 1 = .ok (.getfield 7, 3) := dk_180 0 7 (dk_at dksX24_at_0 1 rfl rfl)
theorem dX24_at_4 : decode cX24_at 4 = .ok (.iload_n 1, 1) := dk_27 (dk_at dksX24_at_0 4 rfl rfl)
theorem dX24_at_5 : decode cX24_at 5 = .ok (.baload, 1) := dk_51 (dk_at dksX24_at_0 5 rfl rfl)
theorem dX24_at_6 : decode cX24_at 6 = .ok (.i2l, 1) := dk_133 (dk_at dksX24_at_0 6 rfl rfl)
theorem dX24_at_7 : decode cX24_at 7 = .ok (.lreturn, 1) := dk_173 (dk_at dksX24_at_0 7 rfl rfl)
def dkwX24_init_0 : List UInt8 := [42, 183, 0, 1, 42, 27, 188, 8, 181, 0, 7, 177]
abbrev dktX24_init_0 : List UInt8 := dkwX24_init_0 ++ []
theorem dksX24_init_0 : cX24_init.data.toList.drop 0 = dktX24_init_0 := by decide +kernel
theorem dX24_init_0 : decode cX24_init 0 = .ok (.aload_n 0, 1) := dk_42 (dk_at dksX24_init_0 0 rfl rfl)
theorem dX24_init_1 : decode cX24_init 1 = .ok (.invokespecial 1, 3) := dk_183 0 1 (dk_at dksX24_init_0 1 rfl rfl)
theorem dX24_init_4 : decode cX24_init 4 = .ok (.aload_n 0, 1) := dk_42 (dk_at dksX24_init_0 4 rfl rfl)
theorem dX24_init_5 : decode cX24_init 5 = .ok (.iload_n 1, 1) := dk_27 (dk_at dksX24_init_0 5 rfl rfl)
theorem dX24_init_6 : decode cX24_init 6 = .ok (.newarray .byte, 2) := dk_188_8 (dk_at dksX24_init_0 6 rfl rfl)
theorem dX24_init_8 : decode cX24_init 8 = .ok (.putfield 7, 3) := dk_181 0 7 (dk_at dksX24_init_0 8 rfl rfl)
theorem dX24_init_11 : decode cX24_init 11 = .ok (.return_, 1) := dk_177 (dk_at dksX24_init_0 11 rfl rfl)
def dkwX24_put_0 : List UInt8 := [42, 180, 0, 7, 27, 32, 136, 145, 84, 4, 172]
abbrev dktX24_put_0 : List UInt8 := dkwX24_put_0 ++ []
theorem dksX24_put_0 : cX24_put.data.toList.drop 0 = dktX24_put_0 := by decide +kernel
theorem dX24_put_0 : decode cX24_put 0 = .ok (.aload_n 0, 1) := dk_42 (dk_at dksX24_put_0 0 rfl rfl)
theorem dX24_put_1 : decode cX24_put 1 = .ok (.getfield 7, 3) := dk_180 0 7 (dk_at dksX24_put_0 1 rfl rfl)
theorem dX24_put_4 : decode cX24_put 4 = .ok (.iload_n 1, 1) := dk_27 (dk_at dksX24_put_0 4 rfl rfl)
theorem dX24_put_5 : decode cX24_put 5 = .ok (.lload_n 2, 1) := dk_32 (dk_at dksX24_put_0 5 rfl rfl)
theorem dX24_put_6 : decode cX24_put 6 = .ok (.l2i, 1) := dk_136 (dk_at dksX24_put_0 6 rfl rfl)
theorem dX24_put_7 : decode cX24_put 7 = .ok (.i2b, 1) := dk_145 (dk_at dksX24_put_0 7 rfl rfl)
theorem dX24_put_8 : decode cX24_put 8 = .ok (.bastore, 1) := dk_84 (dk_at dksX24_put_0 8 rfl rfl)
theorem dX24_put_9 : decode cX24_put 9 = .ok (.iconst 1, 1) := dk_4 (dk_at dksX24_put_0 9 rfl rfl)
theorem dX24_put_10 : decode cX24_put 10 = .ok (.ireturn, 1) := dk_172 (dk_at dksX24_put_0 10 rfl rfl)
def dkwX24_copy_0 : List UInt8 := [42, 180, 0, 7, 27, 44, 192, 0, 8, 180, 0, 7, 29, 21, 4, 184, 0, 13, 177]
abbrev dktX24_copy_0 : List UInt8 := dkwX24_copy_0 ++ []
theorem dksX24_copy_0 : cX24_copy.data.toList.drop 0 = dktX24_copy_0 := by decide +kernel
theorem dX24_copy_0 : decode cX24_copy 0 = .ok (.aload_n 0, 1) := dk_42 (dk_at dksX24_copy_0 0 rfl rfl)
theorem dX24_copy_1 : decode cX24_copy 1 = .ok (.getfield 7, 3) := dk_180 0 7 (dk_at dksX24_copy_0 1 rfl rfl)
theorem dX24_copy_4 : decode cX24_copy 4 = .ok (.iload_n 1, 1) := dk_27 (dk_at dksX24_copy_0 4 rfl rfl)
theorem dX24_copy_5 : decode cX24_copy 5 = .ok (.aload_n 2, 1) := dk_44 (dk_at dksX24_copy_0 5 rfl rfl)
theorem dX24_copy_6 : decode cX24_copy 6 = .ok (.checkcast 8, 3) := dk_192 0 8 (dk_at dksX24_copy_0 6 rfl rfl)
theorem dX24_copy_9 : decode cX24_copy 9 = .ok (.getfield 7, 3) := dk_180 0 7 (dk_at dksX24_copy_0 9 rfl rfl)
theorem dX24_copy_12 : decode cX24_copy 12 = .ok (.iload_n 3, 1) := dk_29 (dk_at dksX24_copy_0 12 rfl rfl)
theorem dX24_copy_13 : decode cX24_copy 13 = .ok (.iload 4, 2) := dk_21 4 (dk_at dksX24_copy_0 13 rfl rfl)
theorem dX24_copy_15 : decode cX24_copy 15 = .ok (.invokestatic 13, 3) := dk_184 0 13 (dk_at dksX24_copy_0 15 rfl rfl)
theorem dX24_copy_18 : decode cX24_copy 18 = .ok (.return_, 1) := dk_177 (dk_at dksX24_copy_0 18 rfl rfl)
def dkwX25_at_0 : List UInt8 := [42, 180, 0, 7, 27, 53, 133, 173]
abbrev dktX25_at_0 : List UInt8 := dkwX25_at_0 ++ []
theorem dksX25_at_0 : cX25_at.data.toList.drop 0 = dktX25_at_0 := by decide +kernel
theorem dX25_at_0 : decode cX25_at 0 = .ok (.aload_n 0, 1) := dk_42 (dk_at dksX25_at_0 0 rfl rfl)
theorem dX25_at_1 : decode cX25_at 1 = .ok (.getfield 7, 3) := dk_180 0 7 (dk_at dksX25_at_0 1 rfl rfl)
theorem dX25_at_4 : decode cX25_at 4 = .ok (.iload_n 1, 1) := dk_27 (dk_at dksX25_at_0 4 rfl rfl)
theorem dX25_at_5 : decode cX25_at 5 = .ok (.saload, 1) := dk_53 (dk_at dksX25_at_0 5 rfl rfl)
theorem dX25_at_6 : decode cX25_at 6 = .ok (.i2l, 1) := dk_133 (dk_at dksX25_at_0 6 rfl rfl)
theorem dX25_at_7 : decode cX25_at 7 = .ok (.lreturn, 1) := dk_173 (dk_at dksX25_at_0 7 rfl rfl)
def dkwX25_init_0 : List UInt8 := [42, 183, 0, 1, 42, 27, 188, 9, 181, 0, 7, 177]
abbrev dktX25_init_0 : List UInt8 := dkwX25_init_0 ++ []
theorem dksX25_init_0 : cX25_init.data.toList.drop 0 = dktX25_init_0 := by decide +kernel
theorem dX25_init_0 : decode cX25_init 0 = .ok (.aload_n 0, 1) := dk_42 (dk_at dksX25_init_0 0 rfl rfl)
theorem dX25_init_1 : decode cX25_init 1 = .ok (.invokespecial 1, 3) := dk_183 0 1 (dk_at dksX25_init_0 1 rfl rfl)
theorem dX25_init_4 : decode cX25_init 4 = .ok (.aload_n 0, 1) := dk_42 (dk_at dksX25_init_0 4 rfl rfl)
theorem dX25_init_5 : decode cX25_init 5 = .ok (.iload_n 1, 1) := dk_27 (dk_at dksX25_init_0 5 rfl rfl)
theorem dX25_init_6 : decode cX25_init 6 = .ok (.newarray .short, 2) := dk_188_9 (dk_at dksX25_init_0 6 rfl rfl)
theorem dX25_init_8 : decode cX25_init 8 = .ok (.putfield 7, 3) := dk_181 0 7 (dk_at dksX25_init_0 8 rfl rfl)
theorem dX25_init_11 : decode cX25_init 11 = .ok (.return_, 1) := dk_177 (dk_at dksX25_init_0 11 rfl rfl)
def dkwX25_put_0 : List UInt8 := [42, 180, 0, 7, 27, 32, 136, 147, 86, 4, 172]
abbrev dktX25_put_0 : List UInt8 := dkwX25_put_0 ++ []
theorem dksX25_put_0 : cX25_put.data.toList.drop 0 = dktX25_put_0 := by decide +kernel
theorem dX25_put_0 : decode cX25_put 0 = .ok (.aload_n 0, 1) := dk_42 (dk_at dksX25_put_0 0 rfl rfl)
theorem dX25_put_1 : decode cX25_put 1 = .ok (.getfield 7, 3) := dk_180 0 7 (dk_at dksX25_put_0 1 rfl rfl)
theorem dX25_put_4 : decode cX25_put 4 = .ok (.iload_n 1, 1) := dk_27 (dk_at dksX25_put_0 4 rfl rfl)
theorem dX25_put_5 : decode cX25_put 5 = .ok (.lload_n 2, 1) := dk_32 (dk_at dksX25_put_0 5 rfl rfl)
theorem dX25_put_6 : decode cX25_put 6 = .ok (.l2i, 1) := dk_136 (dk_at dksX25_put_0 6 rfl rfl)
theorem dX25_put_7 : decode cX25_put 7 = .ok (.i2s, 1) := dk_147 (dk_at dksX25_put_0 7 rfl rfl)
theorem dX25_put_8 : decode cX25_put 8 = .ok (.sastore, 1) := dk_86 (dk_at dksX25_put_0 8 rfl rfl)
theorem dX25_put_9 : decode cX25_put 9 = .ok (.iconst 1, 1) := dk_4 (dk_at dksX25_put_0 9 rfl rfl)
theorem dX25_put_10 : decode cX25_put 10 = .ok (.ireturn, 1) := dk_172 (dk_at dksX25_put_0 10 rfl rfl)
def dkwX25_copy_0 : List UInt8 := [42, 180, 0, 7, 27, 44, 192, 0, 8, 180, 0, 7, 29, 21, 4, 184, 0, 13, 177]
abbrev dktX25_copy_0 : List UInt8 := dkwX25_copy_0 ++ []
theorem dksX25_copy_0 : cX25_copy.data.toList.drop 0 = dktX25_copy_0 := by decide +kernel
theorem dX25_copy_0 : decode cX25_copy 0 = .ok (.aload_n 0, 1) := dk_42 (dk_at dksX25_copy_0 0 rfl rfl)
theorem dX25_copy_1 : decode cX25_copy 1 = .ok (.getfield 7, 3) := dk_180 0 7 (dk_at dksX25_copy_0 1 rfl rfl)
theorem dX25_copy_4 : decode cX25_copy 4 = .ok (.iload_n 1, 1) := dk_27 (dk_at dksX25_copy_0 4 rfl rfl)
theorem dX25_copy_5 : decode cX25_copy 5 = .ok (.aload_n 2, 1) := dk_44 (dk_at dksX25_copy_0 5 rfl rfl)
theorem dX25_copy_6 : decode cX25_copy 6 = .ok (.checkcast 8, 3) := dk_192 0 8 (dk_at dksX25_copy_0 6 rfl rfl)
theorem dX25_copy_9 : decode cX25_copy 9 = .ok (.getfield 7, 3) := dk_180 0 7 (dk_at dksX25_copy_0 9 rfl rfl)
theorem dX25_copy_12 : decode cX25_copy 12 = .ok (.iload_n 3, 1) := dk_29 (dk_at dksX25_copy_0 12 rfl rfl)
theorem dX25_copy_13 : decode cX25_copy 13 = .ok (.iload 4, 2) := dk_21 4 (dk_at dksX25_copy_0 13 rfl rfl)
theorem dX25_copy_15 : decode cX25_copy 15 = .ok (.invokestatic 13, 3) := dk_184 0 13 (dk_at dksX25_copy_0 15 rfl rfl)
theorem dX25_copy_18 : decode cX25_copy 18 = .ok (.return_, 1) := dk_177 (dk_at dksX25_copy_0 18 rfl rfl)
def dkwX26_init_0 : List UInt8 := [42, 183, 0, 1, 42, 27, 188, 10, 181, 0, 7, 177]
abbrev dktX26_init_0 : List UInt8 := dkwX26_init_0 ++ []
theorem dksX26_init_0 : cX26_init.data.toList.drop 0 = dktX26_init_0 := by decide +kernel
theorem dX26_init_0 : decode cX26_init 0 = .ok (.aload_n 0, 1) := dk_42 (dk_at dksX26_init_0 0 rfl rfl)
theorem dX26_init_1 : decode cX26_init 1 = .ok (.invokespecial 1, 3) := dk_183 0 1 (dk_at dksX26_init_0 1 rfl rfl)
theorem dX26_init_4 : decode cX26_init 4 = .ok (.aload_n 0, 1) := dk_42 (dk_at dksX26_init_0 4 rfl rfl)
theorem dX26_init_5 : decode cX26_init 5 = .ok (.iload_n 1, 1) := dk_27 (dk_at dksX26_init_0 5 rfl rfl)
theorem dX26_init_6 : decode cX26_init 6 = .ok (.newarray .int, 2) := dk_188_10 (dk_at dksX26_init_0 6 rfl rfl)
theorem dX26_init_8 : decode cX26_init 8 = .ok (.putfield 7, 3) := dk_181 0 7 (dk_at dksX26_init_0 8 rfl rfl)
theorem dX26_init_11 : decode cX26_init 11 = .ok (.return_, 1) := dk_177 (dk_at dksX26_init_0 11 rfl rfl)
def dkwX26_put_0 : List UInt8 := [42, 180, 0, 7, 27, 32, 136, 79, 4, 172]
abbrev dktX26_put_0 : List UInt8 := dkwX26_put_0 ++ []
theorem dksX26_put_0 : cX26_put.data.toList.drop 0 = dktX26_put_0 := by decide +kernel
theorem dX26_put_0 : decode cX26_put 0 = .ok (.aload_n 0, 1) := dk_42 (dk_at dksX26_put_0 0 rfl rfl)
theorem dX26_put_1 : decode cX26_put 1 = .ok (.getfield 7, 3) := dk_180 0 7 (dk_at dksX26_put_0 1 rfl rfl)
theorem dX26_put_4 : decode cX26_put 4 = .ok (.iload_n 1, 1) := dk_27 (dk_at dksX26_put_0 4 rfl rfl)
theorem dX26_put_5 : decode cX26_put 5 = .ok (.lload_n 2, 1) := dk_32 (dk_at dksX26_put_0 5 rfl rfl)
theorem dX26_put_6 : decode cX26_put 6 = .ok (.l2i, 1) := dk_136 (dk_at dksX26_put_0 6 rfl rfl)
theorem dX26_put_7 : decode cX26_put 7 = .ok (.iastore, 1) := dk_79 (dk_at dksX26_put_0 7 rfl rfl)
theorem dX26_put_8 : decode cX26_put 8 = .ok (.iconst 1, 1) := dk_4 (dk_at dksX26_put_0 8 rfl rfl)
theorem dX26_put_9 : decode cX26_put 9 = .ok (.ireturn, 1) := dk_172 (dk_at dksX26_put_0 9 rfl rfl)
def dkwX26_at_0 : List UInt8 := [42, 180, 0, 7, 27, 46, 133, 173]
abbrev dktX26_at_0 : List UInt8 := dkwX26_at_0 ++ []
theorem dksX26_at_0 : cX26_at.data.toList.drop 0 = dktX26_at_0 := by decide +kernel
theorem dX26_at_0 : decode cX26_at 0 = .ok (.aload_n 0, 1) := dk_42 (dk_at dksX26_at_0 0 rfl rfl)
theorem dX26_at_1 : decode cX26_at 1 = .ok (.getfield 7, 3) := dk_180 0 7 (dk_at dksX26_at_0 1 rfl rfl)
theorem dX26_at_4 : decode cX26_at 4 = .ok (.iload_n 1, 1) := dk_27 (dk_at dksX26_at_0 4 rfl rfl)
theorem dX26_at_5 : decode cX26_at 5 = .ok (.iaload, 1) := dk_46 (dk_at dksX26_at_0 5 rfl rfl)
theorem dX26_at_6 : decode cX26_at 6 = .ok (.i2l, 1) := dk_133 (dk_at dksX26_at_0 6 rfl rfl)
theorem dX26_at_7 : decode cX26_at 7 = .ok (.lreturn, 1) := dk_173 (dk_at dksX26_at_0 7 rfl rfl)
def dkwX26_copy_0 : List UInt8 := [42, 180, 0, 7, 27, 44, 192, 0, 8, 180, 0, 7, 29, 21, 4, 184, 0, 13, 177]
abbrev dktX26_copy_0 : List UInt8 := dkwX26_copy_0 ++ []
theorem dksX26_copy_0 : cX26_copy.data.toList.drop 0 = dktX26_copy_0 := by decide +kernel
theorem dX26_copy_0 : decode cX26_copy 0 = .ok (.aload_n 0, 1) := dk_42 (dk_at dksX26_copy_0 0 rfl rfl)
theorem dX26_copy_1 : decode cX26_copy 1 = .ok (.getfield 7, 3) := dk_180 0 7 (dk_at dksX26_copy_0 1 rfl rfl)
theorem dX26_copy_4 : decode cX26_copy 4 = .ok (.iload_n 1, 1) := dk_27 (dk_at dksX26_copy_0 4 rfl rfl)
theorem dX26_copy_5 : decode cX26_copy 5 = .ok (.aload_n 2, 1) := dk_44 (dk_at dksX26_copy_0 5 rfl rfl)
theorem dX26_copy_6 : decode cX26_copy 6 = .ok (.checkcast 8, 3) := dk_192 0 8 (dk_at dksX26_copy_0 6 rfl rfl)
theorem dX26_copy_9 : decode cX26_copy 9 = .ok (.getfield 7, 3) := dk_180 0 7 (dk_at dksX26_copy_0 9 rfl rfl)
theorem dX26_copy_12 : decode cX26_copy 12 = .ok (.iload_n 3, 1) := dk_29 (dk_at dksX26_copy_0 12 rfl rfl)
theorem dX26_copy_13 : decode cX26_copy 13 = .ok (.iload 4, 2) := dk_21 4 (dk_at dksX26_copy_0 13 rfl rfl)
theorem dX26_copy_15 : decode cX26_copy 15 = .ok (.invokestatic 13, 3) := dk_184 0 13 (dk_at dksX26_copy_0 15 rfl rfl)
theorem dX26_copy_18 : decode cX26_copy 18 = .ok (.return_, 1) := dk_177 (dk_at dksX26_copy_0 18 rfl rfl)
def dkwX27_init_0 : List UInt8 := [42, 183, 0, 1, 42, 27, 188, 11, 181, 0, 7, 177]
abbrev dktX27_init_0 : List UInt8 := dkwX27_init_0 ++ []
theorem dksX27_init_0 : cX27_init.data.toList.drop 0 = dktX27_init_0 := by decide +kernel
theorem dX27_init_0 : decode cX27_init 0 = .ok (.aload_n 0, 1) := dk_42 (dk_at dksX27_init_0 0 rfl rfl)
theorem dX27_init_1 : decode cX27_init 1 = .ok (.invokespecial 1, 3) := dk_183 0 1 (dk_at dksX27_init_0 1 rfl rfl)
theorem dX27_init_4 : decode cX27_init 4 = .ok (.aload_n 0, 1) := dk_42 (dk_at dksX27_init_0 4 rfl rfl)
theorem dX27_init_5 : decode cX27_init 5 = .ok (.iload_n 1, 1) := dk_27 (dk_at dksX27_init_0 5 rfl rfl)
theorem dX27_init_6 : decode cX27_init 6 = .ok (.newarray .long, 2) := dk_188_11 (dk_at dksX27_init_0 6 rfl rfl)
theorem dX27_init_8 : decode cX27_init 8 = .ok (.putfield 7, 3) := dk_181 0 7 (dk_at dksX27_init_0 8 rfl rfl)
theorem dX27_init_11 : decode cX27_init 11 = .ok (.return_, 1) := dk_177 (dk_at dksX27_init_0 11 rfl rfl)
def dkwX27_put_0 : List UInt8 := [42, 180, 0, 7, 27, 32, 80, 4, 172]
abbrev dktX27_put_0 : List UInt8 := dkwX27_put_0 ++ []
theorem dksX27_put_0 : cX27_put.data.toList.drop 0 = dktX27_put_0 := by decide +kernel
theorem dX27_put_0 : decode cX27_put 0 = .ok (.aload_n 0, 1) := dk_42 (dk_at dksX27_put_0 0 rfl rfl)
theorem dX27_put_1 : decode cX27_put 1 = .ok (.getfield 7, 3) := dk_180 0 7 (dk_at dksX27_put_0 1 rfl rfl)
theorem dX27_put_4 : decode cX27_put 4 = .ok (.iload_n 1, 1) := dk_27 (dk_at dksX27_put_0 4 rfl rfl)
theorem dX27_put_5 : decode cX27_put 5 = .ok (.lload_n 2, 1) := dk_32 (dk_at dksX27_put_0 5 rfl rfl)
theorem dX27_put_6 : decode cX27_put 6 = .ok (.lastore, 1) := dk_80 (dk_at dksX27_put_0 6 rfl rfl)
theorem dX27_put_7 : decode cX27_put 7 = .ok (.iconst 1, 1) := dk_4 (dk_at dksX27_put_0 7 rfl rfl)
theorem dX27_put_8 : decode cX27_put 8 = .ok (.ireturn, 1) := dk_172 (dk_at dksX27_put_0 8 rfl rfl)
def dkwX27_at_0 : List UInt8 := [42, 180, 0, 7, 27, 47, 173]
abbrev dktX27_at_0 : List UInt8 := dkwX27_at_0 ++ []
theorem dksX27_at_0 : cX27_at.data.toList.drop 0 = dktX27_at_0 := by decide +kernel
theorem dX27_at_0 : decode cX27_at 0 = .ok (.aload_n 0, 1) := dk_42 (dk_at dksX27_at_0 0 rfl rfl)
theorem dX27_at_1 : decode cX27_at 1 = .ok (.getfield 7, 3) := dk_180 0 7 (dk_at dksX27_at_0 1 rfl rfl)
theorem dX27_at_4 : decode cX27_at 4 = .ok (.iload_n 1, 1) := dk_27 (dk_at dksX27_at_0 4 rfl rfl)
theorem dX27_at_5 : decode cX27_at 5 = .ok (.laload, 1) := dk_47 (dk_at dksX27_at_0 5 rfl rfl)
theorem dX27_at_6 : decode cX27_at 6 = .ok (.lreturn, 1) := dk_173 (dk_at dksX27_at_0 6 rfl rfl)
def dkwX27_copy_0 : List UInt8 := [42, 180, 0, 7, 27, 44, 192, 0, 8, 180, 0, 7, 29, 21, 4, 184, 0, 13, 177]
abbrev dktX27_copy_0 : List UInt8 := dkwX27_copy_0 ++ []
theorem dksX27_copy_0 : cX27_copy.data.toList.drop 0 = dktX27_copy_0 := by decide +kernel
theorem dX27_copy_0 : decode cX27_copy 0 = .ok (.aload_n 0, 1) := dk_42 (dk_at dksX27_copy_0 0 rfl rfl)
theorem dX27_copy_1 : decode cX27_copy 1 = .ok (.getfield 7, 3) := dk_180 0 7 (dk_at dksX27_copy_0 1 rfl rfl)
theorem dX27_copy_4 : decode cX27_copy 4 = .ok (.iload_n 1, 1) := dk_27 (dk_at dksX27_copy_0 4 rfl rfl)
theorem dX27_copy_5 : decode cX27_copy 5 = .ok (.aload_n 2, 1) := dk_44 (dk_at dksX27_copy_0 5 rfl rfl)
theorem dX27_copy_6 : decode cX27_copy 6 = .ok (.checkcast 8, 3) := dk_192 0 8 (dk_at dksX27_copy_0 6 rfl rfl)
theorem dX27_copy_9 : decode cX27_copy 9 = .ok (.getfield 7, 3) := dk_180 0 7 (dk_at dksX27_copy_0 9 rfl rfl)
theorem dX27_copy_12 : decode cX27_copy 12 = .ok (.iload_n 3, 1) := dk_29 (dk_at dksX27_copy_0 12 rfl rfl)
theorem dX27_copy_13 : decode cX27_copy 13 = .ok (.iload 4, 2) := dk_21 4 (dk_at dksX27_copy_0 13 rfl rfl)
theorem dX27_copy_15 : decode cX27_copy 15 = .ok (.invokestatic 13, 3) := dk_184 0 13 (dk_at dksX27_copy_0 15 rfl rfl)
theorem dX27_copy_18 : decode cX27_copy 18 = .ok (.return_, 1) := dk_177 (dk_at dksX27_copy_0 18 rfl rfl)
def dkwX28_init_0 : List UInt8 := [42, 183, 0, 1, 42, 27, 188, 4, 181, 0, 7, 177]
abbrev dktX28_init_0 : List UInt8 := dkwX28_init_0 ++ []
theorem dksX28_init_0 : cX28_init.data.toList.drop 0 = dktX28_init_0 := by decide +kernel
theorem dX28_init_0 : decode cX28_init 0 = .ok (.aload_n 0, 1) := dk_42 (dk_at dksX28_init_0 0 rfl rfl)
theorem dX28_init_1 : decode cX28_init 1 = .ok (.invokespecial 1, 3) := dk_183 0 1 (dk_at dksX28_init_0 1 rfl rfl)
theorem dX28_init_4 : decode cX28_init 4 = .ok (.aload_n 0, 1) := dk_42 (dk_at dksX28_init_0 4 rfl rfl)
theorem dX28_init_5 : decode cX28_init 5 = .ok (.iload_n 1, 1) := dk_27 (dk_at dksX28_init_0 5 rfl rfl)
theorem dX28_init_6 : decode cX28_init 6 = .ok (.newarray .boolean, 2) := dk_188_4 (dk_at dksX28_init_0 6 rfl rfl)
theorem dX28_init_8 : decode cX28_init 8 = .ok (.putfield 7, 3) := dk_181 0 7 (dk_at dksX28_init_0 8 rfl rfl)
theorem dX28_init_11 : decode cX28_init 11 = .ok (.return_, 1) := dk_177 (dk_at dksX28_init_0 11 rfl rfl)
def dkwX28_put_0 : List UInt8 := [42, 180, 0, 7, 27, 32, 9, 148, 153, 0, 7, 4, 167, 0, 4, 3, 84, 4, 172]
abbrev dktX28_put_0 : List UInt8 := dkwX28_put_0 ++ []
theorem dksX28_put_0 : cX28_put.data.toList.drop 0 = dktX28_put_0 := by decide +kernel
theorem dX28_put_0 : decode cX28_put 0 = .ok (.aload_n 0, 1) := dk_42 (dk_at dksX28_put_0 0 rfl rfl)
theorem dX28_put_1 : decode cX28_put 1 = .ok (.getfield 7, 3) := dk_180 0 7 (dk_at dksX28_put_0 1 rfl rfl)
theorem dX28_put_4 : decode cX28_put 4 = .ok (.iload_n 1, 1) := dk_27 (dk_at dksX28_put_0 4 rfl rfl)
theorem dX28_put_5 : decode cX28_put 5 = .ok (.lload_n 2, 1) := dk_32 (dk_at dksX28_put_0 5 rfl rfl)
theorem dX28_put_6 : decode cX28_put 6 = .ok (.lconst 0, 1) := dk_9 (dk_at dksX28_put_0 6 rfl rfl)
theorem dX28_put_7 : decode cX28_put 7 = .ok (.lcmp, 1) := dk_148 (dk_at dksX28_put_0 7 rfl rfl)
theorem dX28_put_8 : decode cX28_put 8 = .ok (.ifCond .eq 7, 3) := dk_153 0 7 (dk_at dksX28_put_0 8 rfl rfl)
theorem dX28_put_11 : decode cX28_put 11 = .ok (.iconst 1, 1) := dk_4 (dk_at dksX28_put_0 11 rfl rfl)
theorem dX28_put_12 : decode cX28_put 12 = .ok (.goto 4, 3) := dk_167 0 4 (dk_at dksX28_put_0 12 rfl rfl)
theorem dX28_put_15 : decode cX28_put 15 = .ok (.iconst 0, 1) := dk_3 (dk_at dksX28_put_0 15 rfl rfl)
theorem dX28_put_16 : decode cX28_put 16 = .ok (.bastore, 1) := dk_84 (dk_at dksX28_put_0 16 rfl rfl)
theorem dX28_put_17 : decode cX28_put 17 = .ok (.iconst 1, 1) := dk_4 (dk_at dksX28_put_0 17 rfl rfl)
theorem dX28_put_18 : decode cX28_put 18 = .ok (.ireturn, 1) := dk_172 (dk_at dksX28_put_0 18 rfl rfl)
def dkwX28_at_0 : List UInt8 := [42, 180, 0, 7, 27, 51, 153, 0, 7, 10, 167, 0, 4, 9, 173]
abbrev dktX28_at_0 : List UInt8 := dkwX28_at_0 ++ []
theorem dksX28_at_0 : cX28_at.data.toList.drop 0 = dktX28_at_0 := by decide +kernel
theorem dX28_at_0 : decode cX28_at 0 = .ok (.aload_n 0, 1) := dk_42 (dk_at dksX28_at_0 0 rfl rfl)
theorem dX28_at_1 : decode cX28_at 1 = .ok (.getfield 7, 3) := dk_180 0 7 (dk_at dksX28_at_0 1 rfl rfl)
theorem dX28_at_4 : decode cX28_at 4 = .ok (.iload_n 1, 1) := dk_27 (dk_at dksX28_at_0 4 rfl rfl)
theorem dX28_at_5 : decode cX28_at 5 = .ok (.baload, 1) := dk_51 (dk_at dksX28_at_0 5 rfl rfl)
theorem dX28_at_6 : decode cX28_at 6 = .ok (.ifCond .eq 7, 3) := dk_153 0 7 (dk_at dksX28_at_0 6 rfl rfl)
theorem dX28_at_9 : decode cX28_at 9 = .ok (.lconst 1, 1) := dk_10 (dk_at dksX28_at_0 9 rfl rfl)
theorem dX28_at_10 : decode cX28_at 10 = .ok (.goto 4, 3) := dk_167 0 4 (dk_at dksX28_at_0 10 rfl rfl)
theorem dX28_at_13 : decode cX28_at 13 = .ok (.lconst 0, 1) := dk_9 (dk_at dksX28_at_0 13 rfl rfl)
theorem dX28_at_14 : decode cX28_at 14 = .ok (.lreturn, 1) := dk_173 (dk_at dksX28_at_0 14 rfl rfl)
def dkwX28_copy_0 : List UInt8 := [42, 180, 0, 7, 27, 44, 192, 0, 8, 180, 0, 7, 29, 21, 4, 184, 0, 13, 177]
abbrev dktX28_copy_0 : List UInt8 := dkwX28_copy_0 ++ []
theorem dksX28_copy_0 : cX28_copy.data.toList.drop 0 = dktX28_copy_0 := by decide +kernel
theorem dX28_copy_0 : decode cX28_copy 0 = .ok (.aload_n 0, 1) := dk_42 (dk_at dksX28_copy_0 0 rfl rfl)
theorem dX28_copy_1 : decode cX28_copy 1 = .ok (.getfield 7, 3) := dk_180 0 7 (dk_at dksX28_copy_0 1 rfl rfl)
theorem dX28_copy_4 : decode cX28_copy 4 = .ok (.iload_n 1, 1) := dk_27 (dk_at dksX28_copy_0 4 rfl rfl)
theorem dX28_copy_5 : decode cX28_copy 5 = .ok (.aload_n 2, 1) := dk_44 (dk_at dksX28_copy_0 5 rfl rfl)
theorem dX28_copy_6 : decode cX28_copy 6 = .ok (.checkcast 8, 3) := dk_192 0 8 (dk_at dksX28_copy_0 6 rfl rfl)
theorem dX28_copy_9 : decode cX28_copy 9 = .ok (.getfield 7, 3) := dk_180 0 7 (dk_at dksX28_copy_0 9 rfl rfl)
theorem dX28_copy_12 : decode cX28_copy 12 = .ok (.iload_n 3, 1) := dk_29 (dk_at dksX28_copy_0 12 rfl rfl)
theorem dX28_copy_13 : decode cX28_copy 13 = .ok (.iload 4, 2) := dk_21 4 (dk_at dksX28_copy_0 13 rfl rfl)
theorem dX28_copy_15 : decode cX28_copy 15 = .ok (.invokestatic 13, 3) := dk_184 0 13 (dk_at dksX28_copy_0 15 rfl rfl)
theorem dX28_copy_18 : decode cX28_copy 18 = .ok (.return_, 1) := dk_177 (dk_at dksX28_copy_0 18 rfl rfl)
def dkwX29_comesBy_0 : List UInt8 := [42, 4, 185, 0, 1, 2, 0, 27, 42, 185, 0, 7, 1, 0, 96, 172]
abbrev dktX29_comesBy_0 : List UInt8 := dkwX29_comesBy_0 ++ []
theorem dksX29_comesBy_0 : cX29_comesBy.data.toList.drop 0 = dktX29_comesBy_0 := by decide +kernel
theorem dX29_comesBy_0 : decode cX29_comesBy 0 = .ok (.aload_n 0, 1) := dk_42 (dk_at dksX29_comesBy_0 0 rfl rfl)
theorem dX29_comesBy_1 : decode cX29_comesBy 1 = .ok (.iconst 1, 1) := dk_4 (dk_at dksX29_comesBy_0 1 rfl rfl)
theorem dX29_comesBy_2 : decode cX29_comesBy 2 = .ok (.invokeinterface 1 2, 5) := by decide +kernel
theorem dX29_comesBy_7 : decode cX29_comesBy 7 = .ok (.iload_n 1, 1) := dk_27 (dk_at dksX29_comesBy_0 7 rfl rfl)
theorem dX29_comesBy_8 : decode cX29_comesBy 8 = .ok (.aload_n 0, 1) := dk_42 (dk_at dksX29_comesBy_0 8 rfl rfl)
theorem dX29_comesBy_9 : decode cX29_comesBy 9 = .ok (.invokeinterface 7 1, 5) := by decide +kernel
theorem dX29_comesBy_14 : decode cX29_comesBy 14 = .ok (.iadd, 1) := dk_96 (dk_at dksX29_comesBy_0 14 rfl rfl)
theorem dX29_comesBy_15 : decode cX29_comesBy 15 = .ok (.ireturn, 1) := dk_172 (dk_at dksX29_comesBy_0 15 rfl rfl)
def dkwX30_tells_1 : List UInt8 := [172]
abbrev dktX30_tells_1 : List UInt8 := dkwX30_tells_1 ++ []
def dkwX30_tells_0 : List UInt8 := [42, 5, 185, 0, 1, 2, 0, 42, 27, 185, 0, 7, 2, 0, 61, 28, 42, 4, 185, 0, 11, 2, 0, 100]
abbrev dktX30_tells_0 : List UInt8 := dkwX30_tells_0 ++ dktX30_tells_1
theorem dksX30_tells_0 : cX30_tells.data.toList.drop 0 = dktX30_tells_0 := by decide +kernel
theorem dksX30_tells_1 : cX30_tells.data.toList.drop 24 = dktX30_tells_1 := dk_seg dksX30_tells_0 24 rfl rfl
theorem dX30_tells_0 : decode cX30_tells 0 = .ok (.aload_n 0, 1) := dk_42 (dk_at dksX30_tells_0 0 rfl rfl)
theorem dX30_tells_1 : decode cX30_tells 1 = .ok (.iconst 2, 1) := dk_5 (dk_at dksX30_tells_0 1 rfl rfl)
theorem dX30_tells_2 : decode cX30_tells 2 = .ok (.invokeinterface 1 2, 5) := by decide +kernel
theorem dX30_tells_7 : decode cX30_tells 7 = .ok (.aload_n 0, 1) := dk_42 (dk_at dksX30_tells_0 7 rfl rfl)
theorem dX30_tells_8 : decode cX30_tells 8 = .ok (.iload_n 1, 1) := dk_27 (dk_at dksX30_tells_0 8 rfl rfl)
theorem dX30_tells_9 : decode cX30_tells 9 = .ok (.invokeinterface 7 2, 5) := by decide +kernel
theorem dX30_tells_14 : decode cX30_tells 14 = .ok (.istore_n 2, 1) := dk_61 (dk_at dksX30_tells_0 14 rfl rfl)
theorem dX30_tells_15 : decode cX30_tells 15 = .ok (.iload_n 2, 1) := dk_28 (dk_at dksX30_tells_0 15 rfl rfl)
theorem dX30_tells_16 : decode cX30_tells 16 = .ok (.aload_n 0, 1) := dk_42 (dk_at dksX30_tells_0 16 rfl rfl)
theorem dX30_tells_17 : decode cX30_tells 17 = .ok (.iconst 1, 1) := dk_4 (dk_at dksX30_tells_0 17 rfl rfl)
theorem dX30_tells_18 : decode cX30_tells 18 = .ok (.invokeinterface 11 2, 5) := by decide +kernel
theorem dX30_tells_23 : decode cX30_tells 23 = .ok (.isub, 1) := dk_100 (dk_at dksX30_tells_0 23 rfl rfl)
theorem dX30_tells_24 : decode cX30_tells 24 = .ok (.ireturn, 1) := dk_172 (dk_at dksX30_tells_1 0 rfl rfl)
def dkwJ0_init_1 : List UInt8 := [182, 0, 27, 87, 42, 43, 181, 0, 31, 177]
abbrev dktJ0_init_1 : List UInt8 := dkwJ0_init_1 ++ []
def dkwJ0_init_0 : List UInt8 := [42, 183, 0, 1, 42, 42, 181, 0, 7, 42, 178, 0, 13, 181, 0, 17, 42, 178, 0, 20, 181, 0, 24, 42]
abbrev dktJ0_init_0 : List UInt8 := dkwJ0_init_0 ++ dktJ0_init_1
theorem dksJ0_init_0 : cJ0_init.data.toList.drop 0 = dktJ0_init_0 := by decide +kernel
theorem dksJ0_init_1 : cJ0_init.data.toList.drop 24 = dktJ0_init_1 := dk_seg dksJ0_init_0 24 rfl rfl
theorem dJ0_init_0 : decode cJ0_init 0 = .ok (.aload_n 0, 1) := dk_42 (dk_at dksJ0_init_0 0 rfl rfl)
theorem dJ0_init_1 : decode cJ0_init 1 = .ok (.invokespecial 1, 3) := dk_183 0 1 (dk_at dksJ0_init_0 1 rfl rfl)
theorem dJ0_init_4 : decode cJ0_init 4 = .ok (.aload_n 0, 1) := dk_42 (dk_at dksJ0_init_0 4 rfl rfl)
theorem dJ0_init_5 : decode cJ0_init 5 = .ok (.aload_n 0, 1) := dk_42 (dk_at dksJ0_init_0 5 rfl rfl)
theorem dJ0_init_6 : decode cJ0_init 6 = .ok (.putfield 7, 3) := dk_181 0 7 (dk_at dksJ0_init_0 6 rfl rfl)
theorem dJ0_init_9 : decode cJ0_init 9 = .ok (.aload_n 0, 1) := dk_42 (dk_at dksJ0_init_0 9 rfl rfl)
theorem dJ0_init_10 : decode cJ0_init 10 = .ok (.getstatic 13, 3) := dk_178 0 13 (dk_at dksJ0_init_0 10 rfl rfl)
theorem dJ0_init_13 : decode cJ0_init 13 = .ok (.putfield 17, 3) := dk_181 0 17 (dk_at dksJ0_init_0 13 rfl rfl)
theorem dJ0_init_16 : decode cJ0_init 16 = .ok (.aload_n 0, 1) := dk_42 (dk_at dksJ0_init_0 16 rfl rfl)
theorem dJ0_init_17 : decode cJ0_init 17 = .ok (.getstatic 20, 3) := dk_178 0 20 (dk_at dksJ0_init_0 17 rfl rfl)
theorem dJ0_init_20 : decode cJ0_init 20 = .ok (.putfield 24, 3) := dk_181 0 24 (dk_at dksJ0_init_0 20 rfl rfl)
theorem dJ0_init_23 : decode cJ0_init 23 = .ok (.aload_n 0, 1) := dk_42 (dk_at dksJ0_init_0 23 rfl rfl)
theorem dJ0_init_24 : decode cJ0_init 24 = .ok (.invokevirtual 27, 3) := dk_182 0 27 (dk_at dksJ0_init_1 0 rfl rfl)
theorem dJ0_init_27 : decode cJ0_init 27 = .ok (.pop, 1) := dk_87 (dk_at dksJ0_init_1 3 rfl rfl)
theorem dJ0_init_28 : decode cJ0_init 28 = .ok (.aload_n 0, 1) := dk_42 (dk_at dksJ0_init_1 4 rfl rfl)
theorem dJ0_init_29 : decode cJ0_init 29 = .ok (.aload_n 1, 1) := dk_43 (dk_at dksJ0_init_1 5 rfl rfl)
theorem dJ0_init_30 : decode cJ0_init 30 = .ok (.putfield 31, 3) := dk_181 0 31 (dk_at dksJ0_init_1 6 rfl rfl)
theorem dJ0_init_33 : decode cJ0_init 33 = .ok (.return_, 1) := dk_177 (dk_at dksJ0_init_1 9 rfl rfl)
def dkwJ0_init_2_1 : List UInt8 := [182, 0, 27, 87, 177]
abbrev dktJ0_init_2_1 : List UInt8 := dkwJ0_init_2_1 ++ []
def dkwJ0_init_2_0 : List UInt8 := [42, 183, 0, 1, 42, 42, 181, 0, 7, 42, 178, 0, 13, 181, 0, 17, 42, 178, 0, 20, 181, 0, 24, 42]
abbrev dktJ0_init_2_0 : List UInt8 := dkwJ0_init_2_0 ++ dktJ0_init_2_1
theorem dksJ0_init_2_0 : cJ0_init_2.data.toList.drop 0 = dktJ0_init_2_0 := by decide +kernel
theorem dksJ0_init_2_1 : cJ0_init_2.data.toList.drop 24 = dktJ0_init_2_1 := dk_seg dksJ0_init_2_0 24 rfl rfl
theorem dJ0_init_2_0 : decode cJ0_init_2 0 = .ok (.aload_n 0, 1) := dk_42 (dk_at dksJ0_init_2_0 0 rfl rfl)
theorem dJ0_init_2_1 : decode cJ0_init_2 1 = .ok (.invokespecial 1, 3) := dk_183 0 1 (dk_at dksJ0_init_2_0 1 rfl rfl)
theorem dJ0_init_2_4 : decode cJ0_init_2 4 = .ok (.aload_n 0, 1) := dk_42 (dk_at dksJ0_init_2_0 4 rfl rfl)
theorem dJ0_init_2_5 : decode cJ0_init_2 5 = .ok (.aload_n 0, 1) := dk_42 (dk_at dksJ0_init_2_0 5 rfl rfl)
theorem dJ0_init_2_6 : decode cJ0_init_2 6 = .ok (.putfield 7, 3) := dk_181 0 7 (dk_at dksJ0_init_2_0 6 rfl rfl)
theorem dJ0_init_2_9 : decode cJ0_init_2 9 = .ok (.aload_n 0, 1) := dk_42 (dk_at dksJ0_init_2_0 9 rfl rfl)
theorem dJ0_init_2_10 : decode cJ0_init_2 10 = .ok (.getstatic 13, 3) := dk_178 0 13 (dk_at dksJ0_init_2_0 10 rfl rfl)
theorem dJ0_init_2_13 : decode cJ0_init_2 13 = .ok (.putfield 17, 3) := dk_181 0 17 (dk_at dksJ0_init_2_0 13 rfl rfl)
theorem dJ0_init_2_16 : decode cJ0_init_2 16 = .ok (.aload_n 0, 1) := dk_42 (dk_at dksJ0_init_2_0 16 rfl rfl)
theorem dJ0_init_2_17 : decode cJ0_init_2 17 = .ok (.getstatic 20, 3) := dk_178 0 20 (dk_at dksJ0_init_2_0 17 rfl rfl)
theorem dJ0_init_2_20 : decode cJ0_init_2 20 = .ok (.putfield 24, 3) := dk_181 0 24 (dk_at dksJ0_init_2_0 20 rfl rfl)
theorem dJ0_init_2_23 : decode cJ0_init_2 23 = .ok (.aload_n 0, 1) := dk_42 (dk_at dksJ0_init_2_0 23 rfl rfl)
theorem dJ0_init_2_24 : decode cJ0_init_2 24 = .ok (.invokevirtual 27, 3) := dk_182 0 27 (dk_at dksJ0_init_2_1 0 rfl rfl)
theorem dJ0_init_2_27 : decode cJ0_init_2 27 = .ok (.pop, 1) := dk_87 (dk_at dksJ0_init_2_1 3 rfl rfl)
theorem dJ0_init_2_28 : decode cJ0_init_2 28 = .ok (.return_, 1) := dk_177 (dk_at dksJ0_init_2_1 4 rfl rfl)
def dkwJ1_init_0 : List UInt8 := [42, 43, 183, 0, 7, 177]
abbrev dktJ1_init_0 : List UInt8 := dkwJ1_init_0 ++ []
theorem dksJ1_init_0 : cJ1_init.data.toList.drop 0 = dktJ1_init_0 := by decide +kernel
theorem dJ1_init_0 : decode cJ1_init 0 = .ok (.aload_n 0, 1) := dk_42 (dk_at dksJ1_init_0 0 rfl rfl)
theorem dJ1_init_1 : decode cJ1_init 1 = .ok (.aload_n 1, 1) := dk_43 (dk_at dksJ1_init_0 1 rfl rfl)
theorem dJ1_init_2 : decode cJ1_init 2 = .ok (.invokespecial 7, 3) := dk_183 0 7 (dk_at dksJ1_init_0 2 rfl rfl)
theorem dJ1_init_5 : decode cJ1_init 5 = .ok (.return_, 1) := dk_177 (dk_at dksJ1_init_0 5 rfl rfl)
theorem dJ1_init_2_0 : decode cJ1_init_2 0 = .ok (.aload_n 0, 1) := by decide +kernel
theorem dJ1_init_2_1 : decode cJ1_init_2 1 = .ok (.invokespecial 1, 3) := by decide +kernel
theorem dJ1_init_2_4 : decode cJ1_init_2 4 = .ok (.return_, 1) := by decide +kernel
def dkwJ2_init_0 : List UInt8 := [42, 43, 183, 0, 7, 177]
abbrev dktJ2_init_0 : List UInt8 := dkwJ2_init_0 ++ []
theorem dksJ2_init_0 : cJ2_init.data.toList.drop 0 = dktJ2_init_0 := by decide +kernel
theorem dJ2_init_0 : decode cJ2_init 0 = .ok (.aload_n 0, 1) := dk_42 (dk_at dksJ2_init_0 0 rfl rfl)
theorem dJ2_init_1 : decode cJ2_init 1 = .ok (.aload_n 1, 1) := dk_43 (dk_at dksJ2_init_0 1 rfl rfl)
theorem dJ2_init_2 : decode cJ2_init 2 = .ok (.invokespecial 7, 3) := dk_183 0 7 (dk_at dksJ2_init_0 2 rfl rfl)
theorem dJ2_init_5 : decode cJ2_init 5 = .ok (.return_, 1) := dk_177 (dk_at dksJ2_init_0 5 rfl rfl)
theorem dJ2_init_2_0 : decode cJ2_init_2 0 = .ok (.aload_n 0, 1) := by decide +kernel
theorem dJ2_init_2_1 : decode cJ2_init_2 1 = .ok (.invokespecial 1, 3) := by decide +kernel
theorem dJ2_init_2_4 : decode cJ2_init_2 4 = .ok (.return_, 1) := by decide +kernel
def dkwJ3_init_0 : List UInt8 := [42, 43, 183, 0, 7, 177]
abbrev dktJ3_init_0 : List UInt8 := dkwJ3_init_0 ++ []
theorem dksJ3_init_0 : cJ3_init.data.toList.drop 0 = dktJ3_init_0 := by decide +kernel
theorem dJ3_init_0 : decode cJ3_init 0 = .ok (.aload_n 0, 1) := dk_42 (dk_at dksJ3_init_0 0 rfl rfl)
theorem dJ3_init_1 : decode cJ3_init 1 = .ok (.aload_n 1, 1) := dk_43 (dk_at dksJ3_init_0 1 rfl rfl)
theorem dJ3_init_2 : decode cJ3_init 2 = .ok (.invokespecial 7, 3) := dk_183 0 7 (dk_at dksJ3_init_0 2 rfl rfl)
theorem dJ3_init_5 : decode cJ3_init 5 = .ok (.return_, 1) := dk_177 (dk_at dksJ3_init_0 5 rfl rfl)
def dkwJ4_indexOf_0 : List UInt8 := [42, 27, 3, 182, 2, 121, 172]
abbrev dktJ4_indexOf_0 : List UInt8 := dkwJ4_indexOf_0 ++ []
theorem dksJ4_indexOf_0 : cJ4_indexOf.data.toList.drop 0 = dktJ4_indexOf_0 := by decide +kernel
theorem dJ4_indexOf_0 : decode cJ4_indexOf 0 = .ok (.aload_n 0, 1) := dk_42 (dk_at dksJ4_indexOf_0 0 rfl rfl)
theorem dJ4_indexOf_1 : decode cJ4_indexOf 1 = .ok (.iload_n 1, 1) := dk_27 (dk_at dksJ4_indexOf_0 1 rfl rfl)
theorem dJ4_indexOf_2 : decode cJ4_indexOf 2 = .ok (.iconst 0, 1) := dk_3 (dk_at dksJ4_indexOf_0 2 rfl rfl)
theorem dJ4_indexOf_3 : decode cJ4_indexOf 3 = .ok (.invokevirtual 633, 3) := dk_182 2 121 (dk_at dksJ4_indexOf_0 3 rfl rfl)
theorem dJ4_indexOf_6 : decode cJ4_indexOf 6 = .ok (.ireturn, 1) := dk_172 (dk_at dksJ4_indexOf_0 6 rfl rfl)
def dkwJ4_indexOf_2_1 : List UInt8 := [180, 0, 9, 27, 28, 42, 182, 1, 249, 184, 2, 128, 172]
abbrev dktJ4_indexOf_2_1 : List UInt8 := dkwJ4_indexOf_2_1 ++ []
def dkwJ4_indexOf_2_0 : List UInt8 := [42, 182, 1, 236, 153, 0, 19, 42, 180, 0, 9, 27, 28, 42, 182, 1, 249, 184, 2, 125, 167, 0, 16, 42]
abbrev dktJ4_indexOf_2_0 : List UInt8 := dkwJ4_indexOf_2_0 ++ dktJ4_indexOf_2_1
theorem dksJ4_indexOf_2_0 : cJ4_indexOf_2.data.toList.drop 0 = dktJ4_indexOf_2_0 := by decide +kernel
theorem dksJ4_indexOf_2_1 : cJ4_indexOf_2.data.toList.drop 24 = dktJ4_indexOf_2_1 := dk_seg dksJ4_indexOf_2_0 24 rfl rfl
theorem dJ4_indexOf_2_0 : decode cJ4_indexOf_2 0 = .ok (.aload_n 0, 1) := dk_42 (dk_at dksJ4_indexOf_2_0 0 rfl rfl)
theorem dJ4_indexOf_2_1 : decode cJ4_indexOf_2 1 = .ok (.invokevirtual 492, 3) := dk_182 1 236 (dk_at dksJ4_indexOf_2_0 1 rfl rfl)
theorem dJ4_indexOf_2_4 : decode cJ4_indexOf_2 4 = .ok (.ifCond .eq 19, 3) := dk_153 0 19 (dk_at dksJ4_indexOf_2_0 4 rfl rfl)
theorem dJ4_indexOf_2_7 : decode cJ4_indexOf_2 7 = .ok (.aload_n 0, 1) := dk_42 (dk_at dksJ4_indexOf_2_0 7 rfl rfl)
theorem dJ4_indexOf_2_8 : decode cJ4_indexOf_2 8 = .ok (.getfield 9, 3) := dk_180 0 9 (dk_at dksJ4_indexOf_2_0 8 rfl rfl)
theorem dJ4_indexOf_2_11 : decode cJ4_indexOf_2 11 = .ok (.iload_n 1, 1) := dk_27 (dk_at dksJ4_indexOf_2_0 11 rfl rfl)
theorem dJ4_indexOf_2_12 : decode cJ4_indexOf_2 12 = .ok (.iload_n 2, 1) := dk_28 (dk_at dksJ4_indexOf_2_0 12 rfl rfl)
theorem dJ4_indexOf_2_13 : decode cJ4_indexOf_2 13 = .ok (.aload_n 0, 1) := dk_42 (dk_at dksJ4_indexOf_2_0 13 rfl rfl)
theorem dJ4_indexOf_2_14 : decode cJ4_indexOf_2 14 = .ok (.invokevirtual 505, 3) := dk_182 1 249 (dk_at dksJ4_indexOf_2_0 14 rfl rfl)
theorem dJ4_indexOf_2_17 : decode cJ4_indexOf_2 17 = .ok (.invokestatic 637, 3) := dk_184 2 125 (dk_at dksJ4_indexOf_2_0 17 rfl rfl)
theorem dJ4_indexOf_2_20 : decode cJ4_indexOf_2 20 = .ok (.goto 16, 3) := dk_167 0 16 (dk_at dksJ4_indexOf_2_0 20 rfl rfl)
theorem dJ4_indexOf_2_23 : decode cJ4_indexOf_2 23 = .ok (.aload_n 0, 1) := dk_42 (dk_at dksJ4_indexOf_2_0 23 rfl rfl)
theorem dJ4_indexOf_2_24 : decode cJ4_indexOf_2 24 = .ok (.getfield 9, 3) := dk_180 0 9 (dk_at dksJ4_indexOf_2_1 0 rfl rfl)
theorem dJ4_indexOf_2_27 : decode cJ4_indexOf_2 27 = .ok (.iload_n 1, 1) := dk_27 (dk_at dksJ4_indexOf_2_1 3 rfl rfl)
theorem dJ4_indexOf_2_28 : decode cJ4_indexOf_2 28 = .ok (.iload_n 2, 1) := dk_28 (dk_at dksJ4_indexOf_2_1 4 rfl rfl)
theorem dJ4_indexOf_2_29 : decode cJ4_indexOf_2 29 = .ok (.aload_n 0, 1) := dk_42 (dk_at dksJ4_indexOf_2_1 5 rfl rfl)
theorem dJ4_indexOf_2_30 : decode cJ4_indexOf_2 30 = .ok (.invokevirtual 505, 3) := dk_182 1 249 (dk_at dksJ4_indexOf_2_1 6 rfl rfl)
theorem dJ4_indexOf_2_33 : decode cJ4_indexOf_2 33 = .ok (.invokestatic 640, 3) := dk_184 2 128 (dk_at dksJ4_indexOf_2_1 9 rfl rfl)
theorem dJ4_indexOf_2_36 : decode cJ4_indexOf_2 36 = .ok (.ireturn, 1) := dk_172 (dk_at dksJ4_indexOf_2_1 12 rfl rfl)
def dkwJ4_isLatin1_0 : List UInt8 := [178, 0, 38, 153, 0, 14, 42, 180, 0, 15, 154, 0, 7, 4, 167, 0, 4, 3, 172]
abbrev dktJ4_isLatin1_0 : List UInt8 := dkwJ4_isLatin1_0 ++ []
theorem dksJ4_isLatin1_0 : cJ4_isLatin1.data.toList.drop 0 = dktJ4_isLatin1_0 := by decide +kernel
theorem dJ4_isLatin1_0 : decode cJ4_isLatin1 0 = .ok (.getstatic 38, 3) := dk_178 0 38 (dk_at dksJ4_isLatin1_0 0 rfl rfl)
theorem dJ4_isLatin1_3 : decode cJ4_isLatin1 3 = .ok (.ifCond .eq 14, 3) := dk_153 0 14 (dk_at dksJ4_isLatin1_0 3 rfl rfl)
theorem dJ4_isLatin1_6 : decode cJ4_isLatin1 6 = .ok (.aload_n 0, 1) := dk_42 (dk_at dksJ4_isLatin1_0 6 rfl rfl)
theorem dJ4_isLatin1_7 : decode cJ4_isLatin1 7 = .ok (.getfield 15, 3) := dk_180 0 15 (dk_at dksJ4_isLatin1_0 7 rfl rfl)
theorem dJ4_isLatin1_10 : decode cJ4_isLatin1 10 = .ok (.ifCond .ne 7, 3) := dk_154 0 7 (dk_at dksJ4_isLatin1_0 10 rfl rfl)
theorem dJ4_isLatin1_13 : decode cJ4_isLatin1 13 = .ok (.iconst 1, 1) := dk_4 (dk_at dksJ4_isLatin1_0 13 rfl rfl)
theorem dJ4_isLatin1_14 : decode cJ4_isLatin1 14 = .ok (.goto 4, 3) := dk_167 0 4 (dk_at dksJ4_isLatin1_0 14 rfl rfl)
theorem dJ4_isLatin1_17 : decode cJ4_isLatin1 17 = .ok (.iconst 0, 1) := dk_3 (dk_at dksJ4_isLatin1_0 17 rfl rfl)
theorem dJ4_isLatin1_18 : decode cJ4_isLatin1 18 = .ok (.ireturn, 1) := dk_172 (dk_at dksJ4_isLatin1_0 18 rfl rfl)
def dkwJ4_length_0 : List UInt8 := [42, 180, 0, 9, 190, 42, 182, 1, 79, 122, 172]
abbrev dktJ4_length_0 : List UInt8 := dkwJ4_length_0 ++ []
theorem dksJ4_length_0 : cJ4_length.data.toList.drop 0 = dktJ4_length_0 := by decide +kernel
theorem dJ4_length_0 : decode cJ4_length 0 = .ok (.aload_n 0, 1) := dk_42 (dk_at dksJ4_length_0 0 rfl rfl)
theorem dJ4_length_1 : decode cJ4_length 1 = .ok (.getfield 9, 3) := dk_180 0 9 (dk_at dksJ4_length_0 1 rfl rfl)
theorem dJ4_length_4 : decode cJ4_length 4 = .ok (.arraylength, 1) := dk_190 (dk_at dksJ4_length_0 4 rfl rfl)
theorem dJ4_length_5 : decode cJ4_length 5 = .ok (.aload_n 0, 1) := dk_42 (dk_at dksJ4_length_0 5 rfl rfl)
theorem dJ4_length_6 : decode cJ4_length 6 = .ok (.invokevirtual 335, 3) := dk_182 1 79 (dk_at dksJ4_length_0 6 rfl rfl)
theorem dJ4_length_9 : decode cJ4_length 9 = .ok (.ishr, 1) := dk_122 (dk_at dksJ4_length_0 9 rfl rfl)
theorem dJ4_length_10 : decode cJ4_length 10 = .ok (.ireturn, 1) := dk_172 (dk_at dksJ4_length_0 10 rfl rfl)
def dkwJ4_coder_0 : List UInt8 := [178, 0, 38, 153, 0, 10, 42, 180, 0, 15, 167, 0, 4, 4, 172]
abbrev dktJ4_coder_0 : List UInt8 := dkwJ4_coder_0 ++ []
theorem dksJ4_coder_0 : cJ4_coder.data.toList.drop 0 = dktJ4_coder_0 := by decide +kernel
theorem dJ4_coder_0 : decode cJ4_coder 0 = .ok (.getstatic 38, 3) := dk_178 0 38 (dk_at dksJ4_coder_0 0 rfl rfl)
theorem dJ4_coder_3 : decode cJ4_coder 3 = .ok (.ifCond .eq 10, 3) := dk_153 0 10 (dk_at dksJ4_coder_0 3 rfl rfl)
theorem dJ4_coder_6 : decode cJ4_coder 6 = .ok (.aload_n 0, 1) := dk_42 (dk_at dksJ4_coder_0 6 rfl rfl)
theorem dJ4_coder_7 : decode cJ4_coder 7 = .ok (.getfield 15, 3) := dk_180 0 15 (dk_at dksJ4_coder_0 7 rfl rfl)
theorem dJ4_coder_10 : decode cJ4_coder 10 = .ok (.goto 4, 3) := dk_167 0 4 (dk_at dksJ4_coder_0 10 rfl rfl)
theorem dJ4_coder_13 : decode cJ4_coder 13 = .ok (.iconst 1, 1) := dk_4 (dk_at dksJ4_coder_0 13 rfl rfl)
theorem dJ4_coder_14 : decode cJ4_coder 14 = .ok (.ireturn, 1) := dk_172 (dk_at dksJ4_coder_0 14 rfl rfl)
def dkwJ4_checkBoundsBeginEnd_0 : List UInt8 := [26, 27, 28, 178, 4, 29, 184, 4, 38, 87, 177]
abbrev dktJ4_checkBoundsBeginEnd_0 : List UInt8 := dkwJ4_checkBoundsBeginEnd_0 ++ []
theorem dksJ4_checkBoundsBeginEnd_0 : cJ4_checkBoundsBeginEnd.data.toList.drop 0 = dktJ4_checkBoundsBeginEnd_0 := by decide +kernel
theorem dJ4_checkBoundsBeginEnd_0 : decode cJ4_checkBoundsBeginEnd 0 = .ok (.iload_n 0, 1) := dk_26 (dk_at dksJ4_checkBoundsBeginEnd_0 0 rfl rfl)
theorem dJ4_checkBoundsBeginEnd_1 : decode cJ4_checkBoundsBeginEnd 1 = .ok (.iload_n 1, 1) := dk_27 (dk_at dksJ4_checkBoundsBeginEnd_0 1 rfl rfl)
theorem dJ4_checkBoundsBeginEnd_2 : decode cJ4_checkBoundsBeginEnd 2 = .ok (.iload_n 2, 1) := dk_28 (dk_at dksJ4_checkBoundsBeginEnd_0 2 rfl rfl)
theorem dJ4_checkBoundsBeginEnd_3 : decode cJ4_checkBoundsBeginEnd 3 = .ok (.getstatic 1053, 3) := dk_178 4 29 (dk_at dksJ4_checkBoundsBeginEnd_0 3 rfl rfl)
theorem dJ4_checkBoundsBeginEnd_6 : decode cJ4_checkBoundsBeginEnd 6 = .ok (.invokestatic 1062, 3) := dk_184 4 38 (dk_at dksJ4_checkBoundsBeginEnd_0 6 rfl rfl)
theorem dJ4_checkBoundsBeginEnd_9 : decode cJ4_checkBoundsBeginEnd 9 = .ok (.pop, 1) := dk_87 (dk_at dksJ4_checkBoundsBeginEnd_0 9 rfl rfl)
theorem dJ4_checkBoundsBeginEnd_10 : decode cJ4_checkBoundsBeginEnd 10 = .ok (.return_, 1) := dk_177 (dk_at dksJ4_checkBoundsBeginEnd_0 10 rfl rfl)
theorem dJ5_init_0 : decode cJ5_init 0 = .ok (.aload_n 0, 1) := by decide +kernel
theorem dJ5_init_1 : decode cJ5_init 1 = .ok (.invokespecial 1, 3) := by decide +kernel
theorem dJ5_init_4 : decode cJ5_init 4 = .ok (.return_, 1) := by decide +kernel
def dkwJ6_init_0 : List UInt8 := [42, 43, 183, 0, 7, 177]
abbrev dktJ6_init_0 : List UInt8 := dkwJ6_init_0 ++ []
theorem dksJ6_init_0 : cJ6_init.data.toList.drop 0 = dktJ6_init_0 := by decide +kernel
theorem dJ6_init_0 : decode cJ6_init 0 = .ok (.aload_n 0, 1) := dk_42 (dk_at dksJ6_init_0 0 rfl rfl)
theorem dJ6_init_1 : decode cJ6_init 1 = .ok (.aload_n 1, 1) := dk_43 (dk_at dksJ6_init_0 1 rfl rfl)
theorem dJ6_init_2 : decode cJ6_init 2 = .ok (.invokespecial 7, 3) := dk_183 0 7 (dk_at dksJ6_init_0 2 rfl rfl)
theorem dJ6_init_5 : decode cJ6_init 5 = .ok (.return_, 1) := dk_177 (dk_at dksJ6_init_0 5 rfl rfl)
def dkwJ7_init_0 : List UInt8 := [42, 43, 183, 0, 7, 177]
abbrev dktJ7_init_0 : List UInt8 := dkwJ7_init_0 ++ []
theorem dksJ7_init_0 : cJ7_init.data.toList.drop 0 = dktJ7_init_0 := by decide +kernel
theorem dJ7_init_0 : decode cJ7_init 0 = .ok (.aload_n 0, 1) := dk_42 (dk_at dksJ7_init_0 0 rfl rfl)
theorem dJ7_init_1 : decode cJ7_init 1 = .ok (.aload_n 1, 1) := dk_43 (dk_at dksJ7_init_0 1 rfl rfl)
theorem dJ7_init_2 : decode cJ7_init 2 = .ok (.invokespecial 7, 3) := dk_183 0 7 (dk_at dksJ7_init_0 2 rfl rfl)
theorem dJ7_init_5 : decode cJ7_init 5 = .ok (.return_, 1) := dk_177 (dk_at dksJ7_init_0 5 rfl rfl)
def dkwJ8_indexOf_1 : List UInt8 := [161, 0, 5, 2, 172, 42, 27, 28, 29, 184, 0, 95, 172]
abbrev dktJ8_indexOf_1 : List UInt8 := dkwJ8_indexOf_1 ++ []
def dkwJ8_indexOf_0 : List UInt8 := [27, 184, 0, 88, 154, 0, 5, 2, 172, 28, 3, 184, 0, 92, 61, 29, 42, 190, 184, 0, 38, 62, 28, 29]
abbrev dktJ8_indexOf_0 : List UInt8 := dkwJ8_indexOf_0 ++ dktJ8_indexOf_1
theorem dksJ8_indexOf_0 : cJ8_indexOf.data.toList.drop 0 = dktJ8_indexOf_0 := by decide +kernel
theorem dksJ8_indexOf_1 : cJ8_indexOf.data.toList.drop 24 = dktJ8_indexOf_1 := dk_seg dksJ8_indexOf_0 24 rfl rfl
theorem dJ8_indexOf_0 : decode cJ8_indexOf 0 = .ok (.iload_n 1, 1) := dk_27 (dk_at dksJ8_indexOf_0 0 rfl rfl)
theorem dJ8_indexOf_1 : decode cJ8_indexOf 1 = .ok (.invokestatic 88, 3) := dk_184 0 88 (dk_at dksJ8_indexOf_0 1 rfl rfl)
theorem dJ8_indexOf_4 : decode cJ8_indexOf 4 = .ok (.ifCond .ne 5, 3) := dk_154 0 5 (dk_at dksJ8_indexOf_0 4 rfl rfl)
theorem dJ8_indexOf_7 : decode cJ8_indexOf 7 = .ok (.iconst (-1), 1) := dk_2 (dk_at dksJ8_indexOf_0 7 rfl rfl)
theorem dJ8_indexOf_8 : decode cJ8_indexOf 8 = .ok (.ireturn, 1) := dk_172 (dk_at dksJ8_indexOf_0 8 rfl rfl)
theorem dJ8_indexOf_9 : decode cJ8_indexOf 9 = .ok (.iload_n 2, 1) := dk_28 (dk_at dksJ8_indexOf_0 9 rfl rfl)
theorem dJ8_indexOf_10 : decode cJ8_indexOf 10 = .ok (.iconst 0, 1) := dk_3 (dk_at dksJ8_indexOf_0 10 rfl rfl)
theorem dJ8_indexOf_11 : decode cJ8_indexOf 11 = .ok (.invokestatic 92, 3) := dk_184 0 92 (dk_at dksJ8_indexOf_0 11 rfl rfl)
theorem dJ8_indexOf_14 : decode cJ8_indexOf 14 = .ok (.istore_n 2, 1) := dk_61 (dk_at dksJ8_indexOf_0 14 rfl rfl)
theorem dJ8_indexOf_15 : decode cJ8_indexOf 15 = .ok (.iload_n 3, 1) := dk_29 (dk_at dksJ8_indexOf_0 15 rfl rfl)
theorem dJ8_indexOf_16 : decode cJ8_indexOf 16 = .ok (.aload_n 0, 1) := dk_42 (dk_at dksJ8_indexOf_0 16 rfl rfl)
theorem dJ8_indexOf_17 : decode cJ8_indexOf 17 = .ok (.arraylength, 1) := dk_190 (dk_at dksJ8_indexOf_0 17 rfl rfl)
theorem dJ8_indexOf_18 : decode cJ8_indexOf 18 = .ok (.invokestatic 38, 3) := dk_184 0 38 (dk_at dksJ8_indexOf_0 18 rfl rfl)
theorem dJ8_indexOf_21 : decode cJ8_indexOf 21 = .ok (.istore_n 3, 1) := dk_62 (dk_at dksJ8_indexOf_0 21 rfl rfl)
theorem dJ8_indexOf_22 : decode cJ8_indexOf 22 = .ok (.iload_n 2, 1) := dk_28 (dk_at dksJ8_indexOf_0 22 rfl rfl)
theorem dJ8_indexOf_23 : decode cJ8_indexOf 23 = .ok (.iload_n 3, 1) := dk_29 (dk_at dksJ8_indexOf_0 23 rfl rfl)
theorem dJ8_indexOf_24 : decode cJ8_indexOf 24 = .ok (.if_icmp .lt 5, 3) := dk_161 0 5 (dk_at dksJ8_indexOf_1 0 rfl rfl)
theorem dJ8_indexOf_27 : decode cJ8_indexOf 27 = .ok (.iconst (-1), 1) := dk_2 (dk_at dksJ8_indexOf_1 3 rfl rfl)
theorem dJ8_indexOf_28 : decode cJ8_indexOf 28 = .ok (.ireturn, 1) := dk_172 (dk_at dksJ8_indexOf_1 4 rfl rfl)
theorem dJ8_indexOf_29 : decode cJ8_indexOf 29 = .ok (.aload_n 0, 1) := dk_42 (dk_at dksJ8_indexOf_1 5 rfl rfl)
theorem dJ8_indexOf_30 : decode cJ8_indexOf 30 = .ok (.iload_n 1, 1) := dk_27 (dk_at dksJ8_indexOf_1 6 rfl rfl)
theorem dJ8_indexOf_31 : decode cJ8_indexOf 31 = .ok (.iload_n 2, 1) := dk_28 (dk_at dksJ8_indexOf_1 7 rfl rfl)
theorem dJ8_indexOf_32 : decode cJ8_indexOf 32 = .ok (.iload_n 3, 1) := dk_29 (dk_at dksJ8_indexOf_1 8 rfl rfl)
theorem dJ8_indexOf_33 : decode cJ8_indexOf 33 = .ok (.invokestatic 95, 3) := dk_184 0 95 (dk_at dksJ8_indexOf_1 9 rfl rfl)
theorem dJ8_indexOf_36 : decode cJ8_indexOf 36 = .ok (.ireturn, 1) := dk_172 (dk_at dksJ8_indexOf_1 12 rfl rfl)
def dkwJ8_canEncode_0 : List UInt8 := [26, 155, 0, 14, 26, 17, 0, 255, 163, 0, 7, 4, 167, 0, 4, 3, 172]
abbrev dktJ8_canEncode_0 : List UInt8 := dkwJ8_canEncode_0 ++ []
theorem dksJ8_canEncode_0 : cJ8_canEncode.data.toList.drop 0 = dktJ8_canEncode_0 := by decide +kernel
theorem dJ8_canEncode_0 : decode cJ8_canEncode 0 = .ok (.iload_n 0, 1) := dk_26 (dk_at dksJ8_canEncode_0 0 rfl rfl)
theorem dJ8_canEncode_1 : decode cJ8_canEncode 1 = .ok (.ifCond .lt 14, 3) := dk_155 0 14 (dk_at dksJ8_canEncode_0 1 rfl rfl)
theorem dJ8_canEncode_4 : decode cJ8_canEncode 4 = .ok (.iload_n 0, 1) := dk_26 (dk_at dksJ8_canEncode_0 4 rfl rfl)
theorem dJ8_canEncode_5 : decode cJ8_canEncode 5 = .ok (.sipush 255, 3) := dk_17 0 255 (dk_at dksJ8_canEncode_0 5 rfl rfl)
theorem dJ8_canEncode_8 : decode cJ8_canEncode 8 = .ok (.if_icmp .gt 7, 3) := dk_163 0 7 (dk_at dksJ8_canEncode_0 8 rfl rfl)
theorem dJ8_canEncode_11 : decode cJ8_canEncode 11 = .ok (.iconst 1, 1) := dk_4 (dk_at dksJ8_canEncode_0 11 rfl rfl)
theorem dJ8_canEncode_12 : decode cJ8_canEncode 12 = .ok (.goto 4, 3) := dk_167 0 4 (dk_at dksJ8_canEncode_0 12 rfl rfl)
theorem dJ8_canEncode_15 : decode cJ8_canEncode 15 = .ok (.iconst 0, 1) := dk_3 (dk_at dksJ8_canEncode_0 15 rfl rfl)
theorem dJ8_canEncode_16 : decode cJ8_canEncode 16 = .ok (.ireturn, 1) := dk_172 (dk_at dksJ8_canEncode_0 16 rfl rfl)
def dkwJ8_indexOfChar_1 : List UInt8 := [172, 132, 5, 1, 167, 255, 235, 2, 172]
abbrev dktJ8_indexOfChar_1 : List UInt8 := dkwJ8_indexOfChar_1 ++ []
def dkwJ8_indexOfChar_0 : List UInt8 := [27, 145, 54, 4, 28, 54, 5, 21, 5, 29, 162, 0, 21, 42, 21, 5, 51, 21, 4, 160, 0, 6, 21, 5]
abbrev dktJ8_indexOfChar_0 : List UInt8 := dkwJ8_indexOfChar_0 ++ dktJ8_indexOfChar_1
theorem dksJ8_indexOfChar_0 : cJ8_indexOfChar.data.toList.drop 0 = dktJ8_indexOfChar_0 := by decide +kernel
theorem dksJ8_indexOfChar_1 : cJ8_indexOfChar.data.toList.drop 24 = dktJ8_indexOfChar_1 := dk_seg dksJ8_indexOfChar_0 24 rfl rfl
theorem dJ8_indexOfChar_0 : decode cJ8_indexOfChar 0 = .ok (.iload_n 1, 1) := dk_27 (dk_at dksJ8_indexOfChar_0 0 rfl rfl)
theorem dJ8_indexOfChar_1 : decode cJ8_indexOfChar 1 = .ok (.i2b, 1) := dk_145 (dk_at dksJ8_indexOfChar_0 1 rfl rfl)
theorem dJ8_indexOfChar_2 : decode cJ8_indexOfChar 2 = .ok (.istore 4, 2) := dk_54 4 (dk_at dksJ8_indexOfChar_0 2 rfl rfl)
theorem dJ8_indexOfChar_4 : decode cJ8_indexOfChar 4 = .ok (.iload_n 2, 1) := dk_28 (dk_at dksJ8_indexOfChar_0 4 rfl rfl)
theorem dJ8_indexOfChar_5 : decode cJ8_indexOfChar 5 = .ok (.istore 5, 2) := dk_54 5 (dk_at dksJ8_indexOfChar_0 5 rfl rfl)
theorem dJ8_indexOfChar_7 : decode cJ8_indexOfChar 7 = .ok (.iload 5, 2) := dk_21 5 (dk_at dksJ8_indexOfChar_0 7 rfl rfl)
theorem dJ8_indexOfChar_9 : decode cJ8_indexOfChar 9 = .ok (.iload_n 3, 1) := dk_29 (dk_at dksJ8_indexOfChar_0 9 rfl rfl)
theorem dJ8_indexOfChar_10 : decode cJ8_indexOfChar 10 = .ok (.if_icmp .ge 21, 3) := dk_162 0 21 (dk_at dksJ8_indexOfChar_0 10 rfl rfl)
theorem dJ8_indexOfChar_13 : decode cJ8_indexOfChar 13 = .ok (.aload_n 0, 1) := dk_42 (dk_at dksJ8_indexOfChar_0 13 rfl rfl)
theorem dJ8_indexOfChar_14 : decode cJ8_indexOfChar 14 = .ok (.iload 5, 2) := dk_21 5 (dk_at dksJ8_indexOfChar_0 14 rfl rfl)
theorem dJ8_indexOfChar_16 : decode cJ8_indexOfChar 16 = .ok (.baload, 1) := dk_51 (dk_at dksJ8_indexOfChar_0 16 rfl rfl)
theorem dJ8_indexOfChar_17 : decode cJ8_indexOfChar 17 = .ok (.iload 4, 2) := dk_21 4 (dk_at dksJ8_indexOfChar_0 17 rfl rfl)
theorem dJ8_indexOfChar_19 : decode cJ8_indexOfChar 19 = .ok (.if_icmp .ne 6, 3) := dk_160 0 6 (dk_at dksJ8_indexOfChar_0 19 rfl rfl)
theorem dJ8_indexOfChar_22 : decode cJ8_indexOfChar 22 = .ok (.iload 5, 2) := dk_21 5 (dk_at dksJ8_indexOfChar_0 22 rfl rfl)
theorem dJ8_indexOfChar_24 : decode cJ8_indexOfChar 24 = .ok (.ireturn, 1) := dk_172 (dk_at dksJ8_indexOfChar_1 0 rfl rfl)
theorem dJ8_indexOfChar_25 : decode cJ8_indexOfChar 25 = .ok (.iinc 5 1, 3) := dk_132 5 1 (dk_at dksJ8_indexOfChar_1 1 rfl rfl)
theorem dJ8_indexOfChar_28 : decode cJ8_indexOfChar 28 = .ok (.goto (-21), 3) := dk_167 255 235 (dk_at dksJ8_indexOfChar_1 4 rfl rfl)
theorem dJ8_indexOfChar_31 : decode cJ8_indexOfChar 31 = .ok (.iconst (-1), 1) := dk_2 (dk_at dksJ8_indexOfChar_1 7 rfl rfl)
theorem dJ8_indexOfChar_32 : decode cJ8_indexOfChar 32 = .ok (.ireturn, 1) := dk_172 (dk_at dksJ8_indexOfChar_1 8 rfl rfl)
def dkwJ9_max_0 : List UInt8 := [26, 27, 161, 0, 7, 26, 167, 0, 4, 27, 172]
abbrev dktJ9_max_0 : List UInt8 := dkwJ9_max_0 ++ []
theorem dksJ9_max_0 : cJ9_max.data.toList.drop 0 = dktJ9_max_0 := by decide +kernel
theorem dJ9_max_0 : decode cJ9_max 0 = .ok (.iload_n 0, 1) := dk_26 (dk_at dksJ9_max_0 0 rfl rfl)
theorem dJ9_max_1 : decode cJ9_max 1 = .ok (.iload_n 1, 1) := dk_27 (dk_at dksJ9_max_0 1 rfl rfl)
theorem dJ9_max_2 : decode cJ9_max 2 = .ok (.if_icmp .lt 7, 3) := dk_161 0 7 (dk_at dksJ9_max_0 2 rfl rfl)
theorem dJ9_max_5 : decode cJ9_max 5 = .ok (.iload_n 0, 1) := dk_26 (dk_at dksJ9_max_0 5 rfl rfl)
theorem dJ9_max_6 : decode cJ9_max 6 = .ok (.goto 4, 3) := dk_167 0 4 (dk_at dksJ9_max_0 6 rfl rfl)
theorem dJ9_max_9 : decode cJ9_max 9 = .ok (.iload_n 1, 1) := dk_27 (dk_at dksJ9_max_0 9 rfl rfl)
theorem dJ9_max_10 : decode cJ9_max 10 = .ok (.ireturn, 1) := dk_172 (dk_at dksJ9_max_0 10 rfl rfl)
def dkwJ9_min_0 : List UInt8 := [26, 27, 163, 0, 7, 26, 167, 0, 4, 27, 172]
abbrev dktJ9_min_0 : List UInt8 := dkwJ9_min_0 ++ []
theorem dksJ9_min_0 : cJ9_min.data.toList.drop 0 = dktJ9_min_0 := by decide +kernel
theorem dJ9_min_0 : decode cJ9_min 0 = .ok (.iload_n 0, 1) := dk_26 (dk_at dksJ9_min_0 0 rfl rfl)
theorem dJ9_min_1 : decode cJ9_min 1 = .ok (.iload_n 1, 1) := dk_27 (dk_at dksJ9_min_0 1 rfl rfl)
theorem dJ9_min_2 : decode cJ9_min 2 = .ok (.if_icmp .gt 7, 3) := dk_163 0 7 (dk_at dksJ9_min_0 2 rfl rfl)
theorem dJ9_min_5 : decode cJ9_min 5 = .ok (.iload_n 0, 1) := dk_26 (dk_at dksJ9_min_0 5 rfl rfl)
theorem dJ9_min_6 : decode cJ9_min 6 = .ok (.goto 4, 3) := dk_167 0 4 (dk_at dksJ9_min_0 6 rfl rfl)
theorem dJ9_min_9 : decode cJ9_min 9 = .ok (.iload_n 1, 1) := dk_27 (dk_at dksJ9_min_0 9 rfl rfl)
theorem dJ9_min_10 : decode cJ9_min 10 = .ok (.ireturn, 1) := dk_172 (dk_at dksJ9_min_0 10 rfl rfl)
def dkwJ10_indexOf_1 : List UInt8 := [18, 227, 162, 0, 11, 42, 27, 28, 29, 184, 0, 228, 172, 42, 27, 28, 29, 184, 0, 232, 172]
abbrev dktJ10_indexOf_1 : List UInt8 := dkwJ10_indexOf_1 ++ []
def dkwJ10_indexOf_0 : List UInt8 := [28, 3, 184, 0, 224, 61, 29, 42, 190, 4, 122, 184, 0, 183, 62, 28, 29, 161, 0, 5, 2, 172, 27]
abbrev dktJ10_indexOf_0 : List UInt8 := dkwJ10_indexOf_0 ++ dktJ10_indexOf_1
theorem dksJ10_indexOf_0 : cJ10_indexOf.data.toList.drop 0 = dktJ10_indexOf_0 := by decide +kernel
theorem dksJ10_indexOf_1 : cJ10_indexOf.data.toList.drop 23 = dktJ10_indexOf_1 := dk_seg dksJ10_indexOf_0 23 rfl rfl
theorem dJ10_indexOf_0 : decode cJ10_indexOf 0 = .ok (.iload_n 2, 1) := dk_28 (dk_at dksJ10_indexOf_0 0 rfl rfl)
theorem dJ10_indexOf_1 : decode cJ10_indexOf 1 = .ok (.iconst 0, 1) := dk_3 (dk_at dksJ10_indexOf_0 1 rfl rfl)
theorem dJ10_indexOf_2 : decode cJ10_indexOf 2 = .ok (.invokestatic 224, 3) := dk_184 0 224 (dk_at dksJ10_indexOf_0 2 rfl rfl)
theorem dJ10_indexOf_5 : decode cJ10_indexOf 5 = .ok (.istore_n 2, 1) := dk_61 (dk_at dksJ10_indexOf_0 5 rfl rfl)
theorem dJ10_indexOf_6 : decode cJ10_indexOf 6 = .ok (.iload_n 3, 1) := dk_29 (dk_at dksJ10_indexOf_0 6 rfl rfl)
theorem dJ10_indexOf_7 : decode cJ10_indexOf 7 = .ok (.aload_n 0, 1) := dk_42 (dk_at dksJ10_indexOf_0 7 rfl rfl)
theorem dJ10_indexOf_8 : decode cJ10_indexOf 8 = .ok (.arraylength, 1) := dk_190 (dk_at dksJ10_indexOf_0 8 rfl rfl)
theorem dJ10_indexOf_9 : decode cJ10_indexOf 9 = .ok (.iconst 1, 1) := dk_4 (dk_at dksJ10_indexOf_0 9 rfl rfl)
theorem dJ10_indexOf_10 : decode cJ10_indexOf 10 = .ok (.ishr, 1) := dk_122 (dk_at dksJ10_indexOf_0 10 rfl rfl)
theorem dJ10_indexOf_11 : decode cJ10_indexOf 11 = .ok (.invokestatic 183, 3) := dk_184 0 183 (dk_at dksJ10_indexOf_0 11 rfl rfl)
theorem dJ10_indexOf_14 : decode cJ10_indexOf 14 = .ok (.istore_n 3, 1) := dk_62 (dk_at dksJ10_indexOf_0 14 rfl rfl)
theorem dJ10_indexOf_15 : decode cJ10_indexOf 15 = .ok (.iload_n 2, 1) := dk_28 (dk_at dksJ10_indexOf_0 15 rfl rfl)
theorem dJ10_indexOf_16 : decode cJ10_indexOf 16 = .ok (.iload_n 3, 1) := dk_29 (dk_at dksJ10_indexOf_0 16 rfl rfl)
theorem dJ10_indexOf_17 : decode cJ10_indexOf 17 = .ok (.if_icmp .lt 5, 3) := dk_161 0 5 (dk_at dksJ10_indexOf_0 17 rfl rfl)
theorem dJ10_indexOf_20 : decode cJ10_indexOf 20 = .ok (.iconst (-1), 1) := dk_2 (dk_at dksJ10_indexOf_0 20 rfl rfl)
theorem dJ10_indexOf_21 : decode cJ10_indexOf 21 = .ok (.ireturn, 1) := dk_172 (dk_at dksJ10_indexOf_0 21 rfl rfl)
theorem dJ10_indexOf_22 : decode cJ10_indexOf 22 = .ok (.iload_n 1, 1) := dk_27 (dk_at dksJ10_indexOf_0 22 rfl rfl)
theorem dJ10_indexOf_23 : decode cJ10_indexOf 23 = .ok (.ldc 227, 2) := dk_18 227 (dk_at dksJ10_indexOf_1 0 rfl rfl)
theorem dJ10_indexOf_25 : decode cJ10_indexOf 25 = .ok (.if_icmp .ge 11, 3) := dk_162 0 11 (dk_at dksJ10_indexOf_1 2 rfl rfl)
theorem dJ10_indexOf_28 : decode cJ10_indexOf 28 = .ok (.aload_n 0, 1) := dk_42 (dk_at dksJ10_indexOf_1 5 rfl rfl)
theorem dJ10_indexOf_29 : decode cJ10_indexOf 29 = .ok (.iload_n 1, 1) := dk_27 (dk_at dksJ10_indexOf_1 6 rfl rfl)
theorem dJ10_indexOf_30 : decode cJ10_indexOf 30 = .ok (.iload_n 2, 1) := dk_28 (dk_at dksJ10_indexOf_1 7 rfl rfl)
theorem dJ10_indexOf_31 : decode cJ10_indexOf 31 = .ok (.iload_n 3, 1) := dk_29 (dk_at dksJ10_indexOf_1 8 rfl rfl)
theorem dJ10_indexOf_32 : decode cJ10_indexOf 32 = .ok (.invokestatic 228, 3) := dk_184 0 228 (dk_at dksJ10_indexOf_1 9 rfl rfl)
theorem dJ10_indexOf_35 : decode cJ10_indexOf 35 = .ok (.ireturn, 1) := dk_172 (dk_at dksJ10_indexOf_1 12 rfl rfl)
theorem dJ10_indexOf_36 : decode cJ10_indexOf 36 = .ok (.aload_n 0, 1) := dk_42 (dk_at dksJ10_indexOf_1 13 rfl rfl)
theorem dJ10_indexOf_37 : decode cJ10_indexOf 37 = .ok (.iload_n 1, 1) := dk_27 (dk_at dksJ10_indexOf_1 14 rfl rfl)
theorem dJ10_indexOf_38 : decode cJ10_indexOf 38 = .ok (.iload_n 2, 1) := dk_28 (dk_at dksJ10_indexOf_1 15 rfl rfl)
theorem dJ10_indexOf_39 : decode cJ10_indexOf 39 = .ok (.iload_n 3, 1) := dk_29 (dk_at dksJ10_indexOf_1 16 rfl rfl)
theorem dJ10_indexOf_40 : decode cJ10_indexOf 40 = .ok (.invokestatic 232, 3) := dk_184 0 232 (dk_at dksJ10_indexOf_1 17 rfl rfl)
theorem dJ10_indexOf_43 : decode cJ10_indexOf 43 = .ok (.ireturn, 1) := dk_172 (dk_at dksJ10_indexOf_1 20 rfl rfl)
def dkwJ10_indexOfChar_0 : List UInt8 := [28, 29, 42, 184, 0, 96, 42, 27, 28, 29, 184, 0, 244, 172]
abbrev dktJ10_indexOfChar_0 : List UInt8 := dkwJ10_indexOfChar_0 ++ []
theorem dksJ10_indexOfChar_0 : cJ10_indexOfChar.data.toList.drop 0 = dktJ10_indexOfChar_0 := by decide +kernel
theorem dJ10_indexOfChar_0 : decode cJ10_indexOfChar 0 = .ok (.iload_n 2, 1) := dk_28 (dk_at dksJ10_indexOfChar_0 0 rfl rfl)
theorem dJ10_indexOfChar_1 : decode cJ10_indexOfChar 1 = .ok (.iload_n 3, 1) := dk_29 (dk_at dksJ10_indexOfChar_0 1 rfl rfl)
theorem dJ10_indexOfChar_2 : decode cJ10_indexOfChar 2 = .ok (.aload_n 0, 1) := dk_42 (dk_at dksJ10_indexOfChar_0 2 rfl rfl)
theorem dJ10_indexOfChar_3 : decode cJ10_indexOfChar 3 = .ok (.invokestatic 96, 3) := dk_184 0 96 (dk_at dksJ10_indexOfChar_0 3 rfl rfl)
theorem dJ10_indexOfChar_6 : decode cJ10_indexOfChar 6 = .ok (.aload_n 0, 1) := dk_42 (dk_at dksJ10_indexOfChar_0 6 rfl rfl)
theorem dJ10_indexOfChar_7 : decode cJ10_indexOfChar 7 = .ok (.iload_n 1, 1) := dk_27 (dk_at dksJ10_indexOfChar_0 7 rfl rfl)
theorem dJ10_indexOfChar_8 : decode cJ10_indexOfChar 8 = .ok (.iload_n 2, 1) := dk_28 (dk_at dksJ10_indexOfChar_0 8 rfl rfl)
theorem dJ10_indexOfChar_9 : decode cJ10_indexOfChar 9 = .ok (.iload_n 3, 1) := dk_29 (dk_at dksJ10_indexOfChar_0 9 rfl rfl)
theorem dJ10_indexOfChar_10 : decode cJ10_indexOfChar 10 = .ok (.invokestatic 244, 3) := dk_184 0 244 (dk_at dksJ10_indexOfChar_0 10 rfl rfl)
theorem dJ10_indexOfChar_13 : decode cJ10_indexOfChar 13 = .ok (.ireturn, 1) := dk_172 (dk_at dksJ10_indexOfChar_0 13 rfl rfl)
def dkwJ10_checkBoundsBeginEnd_0 : List UInt8 := [26, 27, 44, 184, 0, 48, 184, 0, 241, 177]
abbrev dktJ10_checkBoundsBeginEnd_0 : List UInt8 := dkwJ10_checkBoundsBeginEnd_0 ++ []
theorem dksJ10_checkBoundsBeginEnd_0 : cJ10_checkBoundsBeginEnd.data.toList.drop 0 = dktJ10_checkBoundsBeginEnd_0 := by decide +kernel
theorem dJ10_checkBoundsBeginEnd_0 : decode cJ10_checkBoundsBeginEnd 0 = .ok (.iload_n 0, 1) := dk_26 (dk_at dksJ10_checkBoundsBeginEnd_0 0 rfl rfl)
theorem dJ10_checkBoundsBeginEnd_1 : decode cJ10_checkBoundsBeginEnd 1 = .ok (.iload_n 1, 1) := dk_27 (dk_at dksJ10_checkBoundsBeginEnd_0 1 rfl rfl)
theorem dJ10_checkBoundsBeginEnd_2 : decode cJ10_checkBoundsBeginEnd 2 = .ok (.aload_n 2, 1) := dk_44 (dk_at dksJ10_checkBoundsBeginEnd_0 2 rfl rfl)
theorem dJ10_checkBoundsBeginEnd_3 : decode cJ10_checkBoundsBeginEnd 3 = .ok (.invokestatic 48, 3) := dk_184 0 48 (dk_at dksJ10_checkBoundsBeginEnd_0 3 rfl rfl)
theorem dJ10_checkBoundsBeginEnd_6 : decode cJ10_checkBoundsBeginEnd 6 = .ok (.invokestatic 241, 3) := dk_184 0 241 (dk_at dksJ10_checkBoundsBeginEnd_0 6 rfl rfl)
theorem dJ10_checkBoundsBeginEnd_9 : decode cJ10_checkBoundsBeginEnd 9 = .ok (.return_, 1) := dk_177 (dk_at dksJ10_checkBoundsBeginEnd_0 9 rfl rfl)
def dkwJ10_length_0 : List UInt8 := [42, 190, 4, 122, 172]
abbrev dktJ10_length_0 : List UInt8 := dkwJ10_length_0 ++ []
theorem dksJ10_length_0 : cJ10_length.data.toList.drop 0 = dktJ10_length_0 := by decide +kernel
theorem dJ10_length_0 : decode cJ10_length 0 = .ok (.aload_n 0, 1) := dk_42 (dk_at dksJ10_length_0 0 rfl rfl)
theorem dJ10_length_1 : decode cJ10_length 1 = .ok (.arraylength, 1) := dk_190 (dk_at dksJ10_length_0 1 rfl rfl)
theorem dJ10_length_2 : decode cJ10_length 2 = .ok (.iconst 1, 1) := dk_4 (dk_at dksJ10_length_0 2 rfl rfl)
theorem dJ10_length_3 : decode cJ10_length 3 = .ok (.ishr, 1) := dk_122 (dk_at dksJ10_length_0 3 rfl rfl)
theorem dJ10_length_4 : decode cJ10_length 4 = .ok (.ireturn, 1) := dk_172 (dk_at dksJ10_length_0 4 rfl rfl)
def dkwJ10_indexOfCharUnsafe_1 : List UInt8 := [132, 4, 1, 167, 255, 234, 2, 172]
abbrev dktJ10_indexOfCharUnsafe_1 : List UInt8 := dkwJ10_indexOfCharUnsafe_1 ++ []
def dkwJ10_indexOfCharUnsafe_0 : List UInt8 := [28, 54, 4, 21, 4, 29, 162, 0, 22, 42, 21, 4, 184, 0, 71, 27, 160, 0, 6, 21, 4, 172]
abbrev dktJ10_indexOfCharUnsafe_0 : List UInt8 := dkwJ10_indexOfCharUnsafe_0 ++ dktJ10_indexOfCharUnsafe_1
theorem dksJ10_indexOfCharUnsafe_0 : cJ10_indexOfCharUnsafe.data.toList.drop 0 = dktJ10_indexOfCharUnsafe_0 := by decide +kernel
theorem dksJ10_indexOfCharUnsafe_1 : cJ10_indexOfCharUnsafe.data.toList.drop 22 = dktJ10_indexOfCharUnsafe_1 := dk_seg dksJ10_indexOfCharUnsafe_0 22 rfl rfl
theorem dJ10_indexOfCharUnsafe_0 : decode cJ10_indexOfCharUnsafe 0 = .ok (.iload_n 2, 1) := dk_28 (dk_at dksJ10_indexOfCharUnsafe_0 0 rfl rfl)
theorem dJ10_indexOfCharUnsafe_1 : decode cJ10_indexOfCharUnsafe 1 = .ok (.istore 4, 2) := dk_54 4 (dk_at dksJ10_indexOfCharUnsafe_0 1 rfl rfl)
theorem dJ10_indexOfCharUnsafe_3 : decode cJ10_indexOfCharUnsafe 3 = .ok (.iload 4, 2) := dk_21 4 (dk_at dksJ10_indexOfCharUnsafe_0 3 rfl rfl)
theorem dJ10_indexOfCharUnsafe_5 : decode cJ10_indexOfCharUnsafe 5 = .ok (.iload_n 3, 1) := dk_29 (dk_at dksJ10_indexOfCharUnsafe_0 5 rfl rfl)
theorem dJ10_indexOfCharUnsafe_6 : decode cJ10_indexOfCharUnsafe 6 = .ok (.if_icmp .ge 22, 3) := dk_162 0 22 (dk_at dksJ10_indexOfCharUnsafe_0 6 rfl rfl)
theorem dJ10_indexOfCharUnsafe_9 : decode cJ10_indexOfCharUnsafe 9 = .ok (.aload_n 0, 1) := dk_42 (dk_at dksJ10_indexOfCharUnsafe_0 9 rfl rfl)
theorem dJ10_indexOfCharUnsafe_10 : decode cJ10_indexOfCharUnsafe 10 = .ok (.iload 4, 2) := dk_21 4 (dk_at dksJ10_indexOfCharUnsafe_0 10 rfl rfl)
theorem dJ10_indexOfCharUnsafe_12 : decode cJ10_indexOfCharUnsafe 12 = .ok (.invokestatic 71, 3) := dk_184 0 71 (dk_at dksJ10_indexOfCharUnsafe_0 12 rfl rfl)
theorem dJ10_indexOfCharUnsafe_15 : decode cJ10_indexOfCharUnsafe 15 = .ok (.iload_n 1, 1) := dk_27 (dk_at dksJ10_indexOfCharUnsafe_0 15 rfl rfl)
theorem dJ10_indexOfCharUnsafe_16 : decode cJ10_indexOfCharUnsafe 16 = .ok (.if_icmp .ne 6, 3) := dk_160 0 6 (dk_at dksJ10_indexOfCharUnsafe_0 16 rfl rfl)
theorem dJ10_indexOfCharUnsafe_19 : decode cJ10_indexOfCharUnsafe 19 = .ok (.iload 4, 2) := dk_21 4 (dk_at dksJ10_indexOfCharUnsafe_0 19 rfl rfl)
theorem dJ10_indexOfCharUnsafe_21 : decode cJ10_indexOfCharUnsafe 21 = .ok (.ireturn, 1) := dk_172 (dk_at dksJ10_indexOfCharUnsafe_0 21 rfl rfl)
theorem dJ10_indexOfCharUnsafe_22 : decode cJ10_indexOfCharUnsafe 22 = .ok (.iinc 4 1, 3) := dk_132 4 1 (dk_at dksJ10_indexOfCharUnsafe_1 0 rfl rfl)
theorem dJ10_indexOfCharUnsafe_25 : decode cJ10_indexOfCharUnsafe 25 = .ok (.goto (-22), 3) := dk_167 255 234 (dk_at dksJ10_indexOfCharUnsafe_1 3 rfl rfl)
theorem dJ10_indexOfCharUnsafe_28 : decode cJ10_indexOfCharUnsafe 28 = .ok (.iconst (-1), 1) := dk_2 (dk_at dksJ10_indexOfCharUnsafe_1 6 rfl rfl)
theorem dJ10_indexOfCharUnsafe_29 : decode cJ10_indexOfCharUnsafe 29 = .ok (.ireturn, 1) := dk_172 (dk_at dksJ10_indexOfCharUnsafe_1 7 rfl rfl)
def dkwJ10_getChar_2 : List UInt8 := [51, 17, 0, 255, 126, 178, 0, 63, 120, 128, 146, 172]
abbrev dktJ10_getChar_2 : List UInt8 := dkwJ10_getChar_2 ++ []
def dkwJ10_getChar_1 : List UInt8 := [183, 0, 56, 191, 27, 4, 120, 60, 42, 27, 132, 1, 1, 51, 17, 0, 255, 126, 178, 0, 59, 120, 42, 27]
abbrev dktJ10_getChar_1 : List UInt8 := dkwJ10_getChar_1 ++ dktJ10_getChar_2
def dkwJ10_getChar_0 : List UInt8 := [178, 0, 44, 154, 0, 25, 27, 155, 0, 11, 27, 42, 184, 0, 48, 161, 0, 13, 187, 0, 52, 89, 18, 54]
abbrev dktJ10_getChar_0 : List UInt8 := dkwJ10_getChar_0 ++ dktJ10_getChar_1
theorem dksJ10_getChar_0 : cJ10_getChar.data.toList.drop 0 = dktJ10_getChar_0 := by decide +kernel
theorem dksJ10_getChar_1 : cJ10_getChar.data.toList.drop 24 = dktJ10_getChar_1 := dk_seg dksJ10_getChar_0 24 rfl rfl
theorem dksJ10_getChar_2 : cJ10_getChar.data.toList.drop 48 = dktJ10_getChar_2 := dk_seg dksJ10_getChar_1 24 rfl rfl
theorem dJ10_getChar_0 : decode cJ10_getChar 0 = .ok (.getstatic 44, 3) := dk_178 0 44 (dk_at dksJ10_getChar_0 0 rfl rfl)
theorem dJ10_getChar_3 : decode cJ10_getChar 3 = .ok (.ifCond .ne 25, 3) := dk_154 0 25 (dk_at dksJ10_getChar_0 3 rfl rfl)
theorem dJ10_getChar_6 : decode cJ10_getChar 6 = .ok (.iload_n 1, 1) := dk_27 (dk_at dksJ10_getChar_0 6 rfl rfl)
theorem dJ10_getChar_7 : decode cJ10_getChar 7 = .ok (.ifCond .lt 11, 3) := dk_155 0 11 (dk_at dksJ10_getChar_0 7 rfl rfl)
theorem dJ10_getChar_10 : decode cJ10_getChar 10 = .ok (.iload_n 1, 1) := dk_27 (dk_at dksJ10_getChar_0 10 rfl rfl)
theorem dJ10_getChar_11 : decode cJ10_getChar 11 = .ok (.aload_n 0, 1) := dk_42 (dk_at dksJ10_getChar_0 11 rfl rfl)
theorem dJ10_getChar_12 : decode cJ10_getChar 12 = .ok (.invokestatic 48, 3) := dk_184 0 48 (dk_at dksJ10_getChar_0 12 rfl rfl)
theorem dJ10_getChar_15 : decode cJ10_getChar 15 = .ok (.if_icmp .lt 13, 3) := dk_161 0 13 (dk_at dksJ10_getChar_0 15 rfl rfl)
theorem dJ10_getChar_18 : decode cJ10_getChar 18 = .ok (.new 52, 3) := dk_187 0 52 (dk_at dksJ10_getChar_0 18 rfl rfl)
theorem dJ10_getChar_21 : decode cJ10_getChar 21 = .ok (.dup, 1) := dk_89 (dk_at dksJ10_getChar_0 21 rfl rfl)
theorem dJ10_getChar_22 : decode cJ10_getChar 22 = .ok (.ldc 54, 2) := dk_18 54 (dk_at dksJ10_getChar_0 22 rfl rfl)
theorem dJ10_getChar_24 : decode cJ10_getChar 24 = .ok (.invokespecial 56, 3) := dk_183 0 56 (dk_at dksJ10_getChar_1 0 rfl rfl)
theorem dJ10_getChar_27 : decode cJ10_getChar 27 = .ok (.athrow, 1) := dk_191 (dk_at dksJ10_getChar_1 3 rfl rfl)
theorem dJ10_getChar_28 : decode cJ10_getChar 28 = .ok (.iload_n 1, 1) := dk_27 (dk_at dksJ10_getChar_1 4 rfl rfl)
theorem dJ10_getChar_29 : decode cJ10_getChar 29 = .ok (.iconst 1, 1) := dk_4 (dk_at dksJ10_getChar_1 5 rfl rfl)
theorem dJ10_getChar_30 : decode cJ10_getChar 30 = .ok (.ishl, 1) := dk_120 (dk_at dksJ10_getChar_1 6 rfl rfl)
theorem dJ10_getChar_31 : decode cJ10_getChar 31 = .ok (.istore_n 1, 1) := dk_60 (dk_at dksJ10_getChar_1 7 rfl rfl)
theorem dJ10_getChar_32 : decode cJ10_getChar 32 = .ok (.aload_n 0, 1) := dk_42 (dk_at dksJ10_getChar_1 8 rfl rfl)
theorem dJ10_getChar_33 : decode cJ10_getChar 33 = .ok (.iload_n 1, 1) := dk_27 (dk_at dksJ10_getChar_1 9 rfl rfl)
theorem dJ10_getChar_34 : decode cJ10_getChar 34 = .ok (.iinc 1 1, 3) := dk_132 1 1 (dk_at dksJ10_getChar_1 10 rfl rfl)
theorem dJ10_getChar_37 : decode cJ10_getChar 37 = .ok (.baload, 1) := dk_51 (dk_at dksJ10_getChar_1 13 rfl rfl)
theorem dJ10_getChar_38 : decode cJ10_getChar 38 = .ok (.sipush 255, 3) := dk_17 0 255 (dk_at dksJ10_getChar_1 14 rfl rfl)
theorem dJ10_getChar_41 : decode cJ10_getChar 41 = .ok (.iand, 1) := dk_126 (dk_at dksJ10_getChar_1 17 rfl rfl)
theorem dJ10_getChar_42 : decode cJ10_getChar 42 = .ok (.getstatic 59, 3) := dk_178 0 59 (dk_at dksJ10_getChar_1 18 rfl rfl)
theorem dJ10_getChar_45 : decode cJ10_getChar 45 = .ok (.ishl, 1) := dk_120 (dk_at dksJ10_getChar_1 21 rfl rfl)
theorem dJ10_getChar_46 : decode cJ10_getChar 46 = .ok (.aload_n 0, 1) := dk_42 (dk_at dksJ10_getChar_1 22 rfl rfl)
theorem dJ10_getChar_47 : decode cJ10_getChar 47 = .ok (.iload_n 1, 1) := dk_27 (dk_at dksJ10_getChar_1 23 rfl rfl)
theorem dJ10_getChar_48 : decode cJ10_getChar 48 = .ok (.baload, 1) := dk_51 (dk_at dksJ10_getChar_2 0 rfl rfl)
theorem dJ10_getChar_49 : decode cJ10_getChar 49 = .ok (.sipush 255, 3) := dk_17 0 255 (dk_at dksJ10_getChar_2 1 rfl rfl)
theorem dJ10_getChar_52 : decode cJ10_getChar 52 = .ok (.iand, 1) := dk_126 (dk_at dksJ10_getChar_2 4 rfl rfl)
theorem dJ10_getChar_53 : decode cJ10_getChar 53 = .ok (.getstatic 63, 3) := dk_178 0 63 (dk_at dksJ10_getChar_2 5 rfl rfl)
theorem dJ10_getChar_56 : decode cJ10_getChar 56 = .ok (.ishl, 1) := dk_120 (dk_at dksJ10_getChar_2 8 rfl rfl)
theorem dJ10_getChar_57 : decode cJ10_getChar 57 = .ok (.ior, 1) := dk_128 (dk_at dksJ10_getChar_2 9 rfl rfl)
theorem dJ10_getChar_58 : decode cJ10_getChar 58 = .ok (.i2c, 1) := dk_146 (dk_at dksJ10_getChar_2 10 rfl rfl)
theorem dJ10_getChar_59 : decode cJ10_getChar 59 = .ok (.ireturn, 1) := dk_172 (dk_at dksJ10_getChar_2 11 rfl rfl)
def dkwJ10_indexOfSupplementary_3 : List UInt8 := [167, 255, 218, 2, 172]
abbrev dktJ10_indexOfSupplementary_3 : List UInt8 := dkwJ10_indexOfSupplementary_3 ++ []
def dkwJ10_indexOfSupplementary_2 : List UInt8 := [160, 0, 19, 42, 21, 6, 4, 96, 184, 0, 71, 21, 5, 160, 0, 6, 21, 6, 172, 132, 6, 1]
abbrev dktJ10_indexOfSupplementary_2 : List UInt8 := dkwJ10_indexOfSupplementary_2 ++ dktJ10_indexOfSupplementary_3
def dkwJ10_indexOfSupplementary_1 : List UInt8 := [184, 0, 96, 28, 54, 6, 21, 6, 29, 4, 100, 162, 0, 36, 42, 21, 6, 184, 0, 71, 21, 4]
abbrev dktJ10_indexOfSupplementary_1 : List UInt8 := dkwJ10_indexOfSupplementary_1 ++ dktJ10_indexOfSupplementary_2
def dkwJ10_indexOfSupplementary_0 : List UInt8 := [27, 184, 0, 164, 153, 0, 65, 27, 184, 0, 157, 54, 4, 27, 184, 0, 161, 54, 5, 28, 29, 42]
abbrev dktJ10_indexOfSupplementary_0 : List UInt8 := dkwJ10_indexOfSupplementary_0 ++ dktJ10_indexOfSupplementary_1
theorem dksJ10_indexOfSupplementary_0 : cJ10_indexOfSupplementary.data.toList.drop 0 = dktJ10_indexOfSupplementary_0 := by decide +kernel
theorem dksJ10_indexOfSupplementary_1 : cJ10_indexOfSupplementary.data.toList.drop 22 = dktJ10_indexOfSupplementary_1 := dk_seg dksJ10_indexOfSupplementary_0 22 rfl rfl
theorem dksJ10_indexOfSupplementary_2 : cJ10_indexOfSupplementary.data.toList.drop 44 = dktJ10_indexOfSupplementary_2 := dk_seg dksJ10_indexOfSupplementary_1 22 rfl rfl
theorem dksJ10_indexOfSupplementary_3 : cJ10_indexOfSupplementary.data.toList.drop 66 = dktJ10_indexOfSupplementary_3 := dk_seg dksJ10_indexOfSupplementary_2 22 rfl rfl
theorem dJ10_indexOfSupplementary_0 : decode cJ10_indexOfSupplementary 0 = .ok (.iload_n 1, 1) := dk_27 (dk_at dksJ10_indexOfSupplementary_0 0 rfl rfl)
theorem dJ10_indexOfSupplementary_1 : decode cJ10_indexOfSupplementary 1 = .ok (.invokestatic 164, 3) := dk_184 0 164 (dk_at dksJ10_indexOfSupplementary_0 1 rfl rfl)
theorem dJ10_indexOfSupplementary_4 : decode cJ10_indexOfSupplementary 4 = .ok (.ifCond .eq 65, 3) := dk_153 0 65 (dk_at dksJ10_indexOfSupplementary_0 4 rfl rfl)
theorem dJ10_indexOfSupplementary_7 : decode cJ10_indexOfSupplementary 7 = .ok (.iload_n 1, 1) := dk_27 (dk_at dksJ10_indexOfSupplementary_0 7 rfl rfl)
theorem dJ10_indexOfSupplementary_8 : decode cJ10_indexOfSupplementary 8 = .ok (.invokestatic 157, 3) := dk_184 0 157 (dk_at dksJ10_indexOfSupplementary_0 8 rfl rfl)
theorem dJ10_indexOfSupplementary_11 : decode cJ10_indexOfSupplementary 11 = .ok (.istore 4, 2) := dk_54 4 (dk_at dksJ10_indexOfSupplementary_0 11 rfl rfl)
theorem dJ10_indexOfSupplementary_13 : decode cJ10_indexOfSupplementary 13 = .ok (.iload_n 1, 1) := dk_27 (dk_at dksJ10_indexOfSupplementary_0 13 rfl rfl)
theorem dJ10_indexOfSupplementary_14 : decode cJ10_indexOfSupplementary 14 = .ok (.invokestatic 161, 3) := dk_184 0 161 (dk_at dksJ10_indexOfSupplementary_0 14 rfl rfl)
theorem dJ10_indexOfSupplementary_17 : decode cJ10_indexOfSupplementary 17 = .ok (.istore 5, 2) := dk_54 5 (dk_at dksJ10_indexOfSupplementary_0 17 rfl rfl)
theorem dJ10_indexOfSupplementary_19 : decode cJ10_indexOfSupplementary 19 = .ok (.iload_n 2, 1) := dk_28 (dk_at dksJ10_indexOfSupplementary_0 19 rfl rfl)
theorem dJ10_indexOfSupplementary_20 : decode cJ10_indexOfSupplementary 20 = .ok (.iload_n 3, 1) := dk_29 (dk_at dksJ10_indexOfSupplementary_0 20 rfl rfl)
theorem dJ10_indexOfSupplementary_21 : decode cJ10_indexOfSupplementary 21 = .ok (.aload_n 0, 1) := dk_42 (dk_at dksJ10_indexOfSupplementary_0 21 rfl rfl)
theorem dJ10_indexOfSupplementary_22 : decode cJ10_indexOfSupplementary 22 = .ok (.invokestatic 96, 3) := dk_184 0 96 (dk_at dksJ10_indexOfSupplementary_1 0 rfl rfl)
theorem dJ10_indexOfSupplementary_25 : decode cJ10_indexOfSupplementary 25 = .ok (.iload_n 2, 1) := dk_28 (dk_at dksJ10_indexOfSupplementary_1 3 rfl rfl)
theorem dJ10_indexOfSupplementary_26 : decode cJ10_indexOfSupplementary 26 = .ok (.istore 6, 2) := dk_54 6 (dk_at dksJ10_indexOfSupplementary_1 4 rfl rfl)
theorem dJ10_indexOfSupplementary_28 : decode cJ10_indexOfSupplementary 28 = .ok (.iload 6, 2) := dk_21 6 (dk_at dksJ10_indexOfSupplementary_1 6 rfl rfl)
theorem dJ10_indexOfSupplementary_30 : decode cJ10_indexOfSupplementary 30 = .ok (.iload_n 3, 1) := dk_29 (dk_at dksJ10_indexOfSupplementary_1 8 rfl rfl)
theorem dJ10_indexOfSupplementary_31 : decode cJ10_indexOfSupplementary 31 = .ok (.iconst 1, 1) := dk_4 (dk_at dksJ10_indexOfSupplementary_1 9 rfl rfl)
theorem dJ10_indexOfSupplementary_32 : decode cJ10_indexOfSupplementary 32 = .ok (.isub, 1) := dk_100 (dk_at dksJ10_indexOfSupplementary_1 10 rfl rfl)
theorem dJ10_indexOfSupplementary_33 : decode cJ10_indexOfSupplementary 33 = .ok (.if_icmp .ge 36, 3) := dk_162 0 36 (dk_at dksJ10_indexOfSupplementary_1 11 rfl rfl)
theorem dJ10_indexOfSupplementary_36 : decode cJ10_indexOfSupplementary 36 = .ok (.aload_n 0, 1) := dk_42 (dk_at dksJ10_indexOfSupplementary_1 14 rfl rfl)
theorem dJ10_indexOfSupplementary_37 : decode cJ10_indexOfSupplementary 37 = .ok (.iload 6, 2) := dk_21 6 (dk_at dksJ10_indexOfSupplementary_1 15 rfl rfl)
theorem dJ10_indexOfSupplementary_39 : decode cJ10_indexOfSupplementary 39 = .ok (.invokestatic 71, 3) := dk_184 0 71 (dk_at dksJ10_indexOfSupplementary_1 17 rfl rfl)
theorem dJ10_indexOfSupplementary_42 : decode cJ10_indexOfSupplementary 42 = .ok (.iload 4, 2) := dk_21 4 (dk_at dksJ10_indexOfSupplementary_1 20 rfl rfl)
theorem dJ10_indexOfSupplementary_44 : decode cJ10_indexOfSupplementary 44 = .ok (.if_icmp .ne 19, 3) := dk_160 0 19 (dk_at dksJ10_indexOfSupplementary_2 0 rfl rfl)
theorem dJ10_indexOfSupplementary_47 : decode cJ10_indexOfSupplementary 47 = .ok (.aload_n 0, 1) := dk_42 (dk_at dksJ10_indexOfSupplementary_2 3 rfl rfl)
theorem dJ10_indexOfSupplementary_48 : decode cJ10_indexOfSupplementary 48 = .ok (.iload 6, 2) := dk_21 6 (dk_at dksJ10_indexOfSupplementary_2 4 rfl rfl)
theorem dJ10_indexOfSupplementary_50 : decode cJ10_indexOfSupplementary 50 = .ok (.iconst 1, 1) := dk_4 (dk_at dksJ10_indexOfSupplementary_2 6 rfl rfl)
theorem dJ10_indexOfSupplementary_51 : decode cJ10_indexOfSupplementary 51 = .ok (.iadd, 1) := dk_96 (dk_at dksJ10_indexOfSupplementary_2 7 rfl rfl)
theorem dJ10_indexOfSupplementary_52 : decode cJ10_indexOfSupplementary 52 = .ok (.invokestatic 71, 3) := dk_184 0 71 (dk_at dksJ10_indexOfSupplementary_2 8 rfl rfl)
theorem dJ10_indexOfSupplementary_55 : decode cJ10_indexOfSupplementary 55 = .ok (.iload 5, 2) := dk_21 5 (dk_at dksJ10_indexOfSupplementary_2 11 rfl rfl)
theorem dJ10_indexOfSupplementary_57 : decode cJ10_indexOfSupplementary 57 = .ok (.if_icmp .ne 6, 3) := dk_160 0 6 (dk_at dksJ10_indexOfSupplementary_2 13 rfl rfl)
theorem dJ10_indexOfSupplementary_60 : decode cJ10_indexOfSupplementary 60 = .ok (.iload 6, 2) := dk_21 6 (dk_at dksJ10_indexOfSupplementary_2 16 rfl rfl)
theorem dJ10_indexOfSupplementary_62 : decode cJ10_indexOfSupplementary 62 = .ok (.ireturn, 1) := dk_172 (dk_at dksJ10_indexOfSupplementary_2 18 rfl rfl)
theorem dJ10_indexOfSupplementary_63 : decode cJ10_indexOfSupplementary 63 = .ok (.iinc 6 1, 3) := dk_132 6 1 (dk_at dksJ10_indexOfSupplementary_2 19 rfl rfl)
theorem dJ10_indexOfSupplementary_66 : decode cJ10_indexOfSupplementary 66 = .ok (.goto (-38), 3) := dk_167 255 218 (dk_at dksJ10_indexOfSupplementary_3 0 rfl rfl)
theorem dJ10_indexOfSupplementary_69 : decode cJ10_indexOfSupplementary 69 = .ok (.iconst (-1), 1) := dk_2 (dk_at dksJ10_indexOfSupplementary_3 3 rfl rfl)
theorem dJ10_indexOfSupplementary_70 : decode cJ10_indexOfSupplementary 70 = .ok (.ireturn, 1) := dk_172 (dk_at dksJ10_indexOfSupplementary_3 4 rfl rfl)
def dkwJ11_checkFromToIndex_0 : List UInt8 := [26, 155, 0, 13, 26, 27, 163, 0, 8, 27, 28, 164, 0, 11, 45, 26, 27, 28, 184, 0, 99, 191, 26, 172]
abbrev dktJ11_checkFromToIndex_0 : List UInt8 := dkwJ11_checkFromToIndex_0 ++ []
theorem dksJ11_checkFromToIndex_0 : cJ11_checkFromToIndex.data.toList.drop 0 = dktJ11_checkFromToIndex_0 := by decide +kernel
theorem dJ11_checkFromToIndex_0 : decode cJ11_checkFromToIndex 0 = .ok (.iload_n 0, 1) := dk_26 (dk_at dksJ11_checkFromToIndex_0 0 rfl rfl)
theorem dJ11_checkFromToIndex_1 : decode cJ11_checkFromToIndex 1 = .ok (.ifCond .lt 13, 3) := dk_155 0 13 (dk_at dksJ11_checkFromToIndex_0 1 rfl rfl)
theorem dJ11_checkFromToIndex_4 : decode cJ11_checkFromToIndex 4 = .ok (.iload_n 0, 1) := dk_26 (dk_at dksJ11_checkFromToIndex_0 4 rfl rfl)
theorem dJ11_checkFromToIndex_5 : decode cJ11_checkFromToIndex 5 = .ok (.iload_n 1, 1) := dk_27 (dk_at dksJ11_checkFromToIndex_0 5 rfl rfl)
theorem dJ11_checkFromToIndex_6 : decode cJ11_checkFromToIndex 6 = .ok (.if_icmp .gt 8, 3) := dk_163 0 8 (dk_at dksJ11_checkFromToIndex_0 6 rfl rfl)
theorem dJ11_checkFromToIndex_9 : decode cJ11_checkFromToIndex 9 = .ok (.iload_n 1, 1) := dk_27 (dk_at dksJ11_checkFromToIndex_0 9 rfl rfl)
theorem dJ11_checkFromToIndex_10 : decode cJ11_checkFromToIndex 10 = .ok (.iload_n 2, 1) := dk_28 (dk_at dksJ11_checkFromToIndex_0 10 rfl rfl)
theorem dJ11_checkFromToIndex_11 : decode cJ11_checkFromToIndex 11 = .ok (.if_icmp .le 11, 3) := dk_164 0 11 (dk_at dksJ11_checkFromToIndex_0 11 rfl rfl)
theorem dJ11_checkFromToIndex_14 : decode cJ11_checkFromToIndex 14 = .ok (.aload_n 3, 1) := dk_45 (dk_at dksJ11_checkFromToIndex_0 14 rfl rfl)
theorem dJ11_checkFromToIndex_15 : decode cJ11_checkFromToIndex 15 = .ok (.iload_n 0, 1) := dk_26 (dk_at dksJ11_checkFromToIndex_0 15 rfl rfl)
theorem dJ11_checkFromToIndex_16 : decode cJ11_checkFromToIndex 16 = .ok (.iload_n 1, 1) := dk_27 (dk_at dksJ11_checkFromToIndex_0 16 rfl rfl)
theorem dJ11_checkFromToIndex_17 : decode cJ11_checkFromToIndex 17 = .ok (.iload_n 2, 1) := dk_28 (dk_at dksJ11_checkFromToIndex_0 17 rfl rfl)
theorem dJ11_checkFromToIndex_18 : decode cJ11_checkFromToIndex 18 = .ok (.invokestatic 99, 3) := dk_184 0 99 (dk_at dksJ11_checkFromToIndex_0 18 rfl rfl)
theorem dJ11_checkFromToIndex_21 : decode cJ11_checkFromToIndex 21 = .ok (.athrow, 1) := dk_191 (dk_at dksJ11_checkFromToIndex_0 21 rfl rfl)
theorem dJ11_checkFromToIndex_22 : decode cJ11_checkFromToIndex 22 = .ok (.iload_n 0, 1) := dk_26 (dk_at dksJ11_checkFromToIndex_0 22 rfl rfl)
theorem dJ11_checkFromToIndex_23 : decode cJ11_checkFromToIndex 23 = .ok (.ireturn, 1) := dk_172 (dk_at dksJ11_checkFromToIndex_0 23 rfl rfl)
def dkwJ12_isValidCodePoint_0 : List UInt8 := [26, 16, 16, 124, 60, 27, 16, 17, 162, 0, 7, 4, 167, 0, 4, 3, 172]
abbrev dktJ12_isValidCodePoint_0 : List UInt8 := dkwJ12_isValidCodePoint_0 ++ []
theorem dksJ12_isValidCodePoint_0 : cJ12_isValidCodePoint.data.toList.drop 0 = dktJ12_isValidCodePoint_0 := by decide +kernel
theorem dJ12_isValidCodePoint_0 : decode cJ12_isValidCodePoint 0 = .ok (.iload_n 0, 1) := dk_26 (dk_at dksJ12_isValidCodePoint_0 0 rfl rfl)
theorem dJ12_isValidCodePoint_1 : decode cJ12_isValidCodePoint 1 = .ok (.bipush 16, 2) := dk_16 16 (dk_at dksJ12_isValidCodePoint_0 1 rfl rfl)
theorem dJ12_isValidCodePoint_3 : decode cJ12_isValidCodePoint 3 = .ok (.iushr, 1) := dk_124 (dk_at dksJ12_isValidCodePoint_0 3 rfl rfl)
theorem dJ12_isValidCodePoint_4 : decode cJ12_isValidCodePoint 4 = .ok (.istore_n 1, 1) := dk_60 (dk_at dksJ12_isValidCodePoint_0 4 rfl rfl)
theorem dJ12_isValidCodePoint_5 : decode cJ12_isValidCodePoint 5 = .ok (.iload_n 1, 1) := dk_27 (dk_at dksJ12_isValidCodePoint_0 5 rfl rfl)
theorem dJ12_isValidCodePoint_6 : decode cJ12_isValidCodePoint 6 = .ok (.bipush 17, 2) := dk_16 17 (dk_at dksJ12_isValidCodePoint_0 6 rfl rfl)
theorem dJ12_isValidCodePoint_8 : decode cJ12_isValidCodePoint 8 = .ok (.if_icmp .ge 7, 3) := dk_162 0 7 (dk_at dksJ12_isValidCodePoint_0 8 rfl rfl)
theorem dJ12_isValidCodePoint_11 : decode cJ12_isValidCodePoint 11 = .ok (.iconst 1, 1) := dk_4 (dk_at dksJ12_isValidCodePoint_0 11 rfl rfl)
theorem dJ12_isValidCodePoint_12 : decode cJ12_isValidCodePoint 12 = .ok (.goto 4, 3) := dk_167 0 4 (dk_at dksJ12_isValidCodePoint_0 12 rfl rfl)
theorem dJ12_isValidCodePoint_15 : decode cJ12_isValidCodePoint 15 = .ok (.iconst 0, 1) := dk_3 (dk_at dksJ12_isValidCodePoint_0 15 rfl rfl)
theorem dJ12_isValidCodePoint_16 : decode cJ12_isValidCodePoint 16 = .ok (.ireturn, 1) := dk_172 (dk_at dksJ12_isValidCodePoint_0 16 rfl rfl)
def dkwJ12_highSurrogate_0 : List UInt8 := [26, 16, 10, 124, 18, 110, 96, 146, 172]
abbrev dktJ12_highSurrogate_0 : List UInt8 := dkwJ12_highSurrogate_0 ++ []
theorem dksJ12_highSurrogate_0 : cJ12_highSurrogate.data.toList.drop 0 = dktJ12_highSurrogate_0 := by decide +kernel
theorem dJ12_highSurrogate_0 : decode cJ12_highSurrogate 0 = .ok (.iload_n 0, 1) := dk_26 (dk_at dksJ12_highSurrogate_0 0 rfl rfl)
theorem dJ12_highSurrogate_1 : decode cJ12_highSurrogate 1 = .ok (.bipush 10, 2) := dk_16 10 (dk_at dksJ12_highSurrogate_0 1 rfl rfl)
theorem dJ12_highSurrogate_3 : decode cJ12_highSurrogate 3 = .ok (.iushr, 1) := dk_124 (dk_at dksJ12_highSurrogate_0 3 rfl rfl)
theorem dJ12_highSurrogate_4 : decode cJ12_highSurrogate 4 = .ok (.ldc 110, 2) := dk_18 110 (dk_at dksJ12_highSurrogate_0 4 rfl rfl)
theorem dJ12_highSurrogate_6 : decode cJ12_highSurrogate 6 = .ok (.iadd, 1) := dk_96 (dk_at dksJ12_highSurrogate_0 6 rfl rfl)
theorem dJ12_highSurrogate_7 : decode cJ12_highSurrogate 7 = .ok (.i2c, 1) := dk_146 (dk_at dksJ12_highSurrogate_0 7 rfl rfl)
theorem dJ12_highSurrogate_8 : decode cJ12_highSurrogate 8 = .ok (.ireturn, 1) := dk_172 (dk_at dksJ12_highSurrogate_0 8 rfl rfl)
def dkwJ12_lowSurrogate_0 : List UInt8 := [26, 17, 3, 255, 126, 18, 76, 96, 146, 172]
abbrev dktJ12_lowSurrogate_0 : List UInt8 := dkwJ12_lowSurrogate_0 ++ []
theorem dksJ12_lowSurrogate_0 : cJ12_lowSurrogate.data.toList.drop 0 = dktJ12_lowSurrogate_0 := by decide +kernel
theorem dJ12_lowSurrogate_0 : decode cJ12_lowSurrogate 0 = .ok (.iload_n 0, 1) := dk_26 (dk_at dksJ12_lowSurrogate_0 0 rfl rfl)
theorem dJ12_lowSurrogate_1 : decode cJ12_lowSurrogate 1 = .ok (.sipush 1023, 3) := dk_17 3 255 (dk_at dksJ12_lowSurrogate_0 1 rfl rfl)
theorem dJ12_lowSurrogate_4 : decode cJ12_lowSurrogate 4 = .ok (.iand, 1) := dk_126 (dk_at dksJ12_lowSurrogate_0 4 rfl rfl)
theorem dJ12_lowSurrogate_5 : decode cJ12_lowSurrogate 5 = .ok (.ldc 76, 2) := dk_18 76 (dk_at dksJ12_lowSurrogate_0 5 rfl rfl)
theorem dJ12_lowSurrogate_7 : decode cJ12_lowSurrogate 7 = .ok (.iadd, 1) := dk_96 (dk_at dksJ12_lowSurrogate_0 7 rfl rfl)
theorem dJ12_lowSurrogate_8 : decode cJ12_lowSurrogate 8 = .ok (.i2c, 1) := dk_146 (dk_at dksJ12_lowSurrogate_0 8 rfl rfl)
theorem dJ12_lowSurrogate_9 : decode cJ12_lowSurrogate 9 = .ok (.ireturn, 1) := dk_172 (dk_at dksJ12_lowSurrogate_0 9 rfl rfl)
def dkwJ13_bitCount_2 : List UInt8 := [26, 16, 63, 126, 172]
abbrev dktJ13_bitCount_2 : List UInt8 := dkwJ13_bitCount_2 ++ []
def dkwJ13_bitCount_1 : List UInt8 := [26, 26, 7, 124, 96, 19, 1, 11, 126, 59, 26, 26, 16, 8, 124, 96, 59, 26, 26, 16, 16, 124, 96, 59]
abbrev dktJ13_bitCount_1 : List UInt8 := dkwJ13_bitCount_1 ++ dktJ13_bitCount_2
def dkwJ13_bitCount_0 : List UInt8 := [26, 26, 4, 124, 19, 1, 9, 126, 100, 59, 26, 19, 1, 10, 126, 26, 5, 124, 19, 1, 10, 126, 96, 59]
abbrev dktJ13_bitCount_0 : List UInt8 := dkwJ13_bitCount_0 ++ dktJ13_bitCount_1
theorem dksJ13_bitCount_0 : cJ13_bitCount.data.toList.drop 0 = dktJ13_bitCount_0 := by decide +kernel
theorem dksJ13_bitCount_1 : cJ13_bitCount.data.toList.drop 24 = dktJ13_bitCount_1 := dk_seg dksJ13_bitCount_0 24 rfl rfl
theorem dksJ13_bitCount_2 : cJ13_bitCount.data.toList.drop 48 = dktJ13_bitCount_2 := dk_seg dksJ13_bitCount_1 24 rfl rfl
theorem dJ13_bitCount_0 : decode cJ13_bitCount 0 = .ok (.iload_n 0, 1) := dk_26 (dk_at dksJ13_bitCount_0 0 rfl rfl)
theorem dJ13_bitCount_1 : decode cJ13_bitCount 1 = .ok (.iload_n 0, 1) := dk_26 (dk_at dksJ13_bitCount_0 1 rfl rfl)
theorem dJ13_bitCount_2 : decode cJ13_bitCount 2 = .ok (.iconst 1, 1) := dk_4 (dk_at dksJ13_bitCount_0 2 rfl rfl)
theorem dJ13_bitCount_3 : decode cJ13_bitCount 3 = .ok (.iushr, 1) := dk_124 (dk_at dksJ13_bitCount_0 3 rfl rfl)
theorem dJ13_bitCount_4 : decode cJ13_bitCount 4 = .ok (.ldc_w 265, 3) := dk_19 1 9 (dk_at dksJ13_bitCount_0 4 rfl rfl)
theorem dJ13_bitCount_7 : decode cJ13_bitCount 7 = .ok (.iand, 1) := dk_126 (dk_at dksJ13_bitCount_0 7 rfl rfl)
theorem dJ13_bitCount_8 : decode cJ13_bitCount 8 = .ok (.isub, 1) := dk_100 (dk_at dksJ13_bitCount_0 8 rfl rfl)
theorem dJ13_bitCount_9 : decode cJ13_bitCount 9 = .ok (.istore_n 0, 1) := dk_59 (dk_at dksJ13_bitCount_0 9 rfl rfl)
theorem dJ13_bitCount_10 : decode cJ13_bitCount 10 = .ok (.iload_n 0, 1) := dk_26 (dk_at dksJ13_bitCount_0 10 rfl rfl)
theorem dJ13_bitCount_11 : decode cJ13_bitCount 11 = .ok (.ldc_w 266, 3) := dk_19 1 10 (dk_at dksJ13_bitCount_0 11 rfl rfl)
theorem dJ13_bitCount_14 : decode cJ13_bitCount 14 = .ok (.iand, 1) := dk_126 (dk_at dksJ13_bitCount_0 14 rfl rfl)
theorem dJ13_bitCount_15 : decode cJ13_bitCount 15 = .ok (.iload_n 0, 1) := dk_26 (dk_at dksJ13_bitCount_0 15 rfl rfl)
theorem dJ13_bitCount_16 : decode cJ13_bitCount 16 = .ok (.iconst 2, 1) := dk_5 (dk_at dksJ13_bitCount_0 16 rfl rfl)
theorem dJ13_bitCount_17 : decode cJ13_bitCount 17 = .ok (.iushr, 1) := dk_124 (dk_at dksJ13_bitCount_0 17 rfl rfl)
theorem dJ13_bitCount_18 : decode cJ13_bitCount 18 = .ok (.ldc_w 266, 3) := dk_19 1 10 (dk_at dksJ13_bitCount_0 18 rfl rfl)
theorem dJ13_bitCount_21 : decode cJ13_bitCount 21 = .ok (.iand, 1) := dk_126 (dk_at dksJ13_bitCount_0 21 rfl rfl)
theorem dJ13_bitCount_22 : decode cJ13_bitCount 22 = .ok (.iadd, 1) := dk_96 (dk_at dksJ13_bitCount_0 22 rfl rfl)
theorem dJ13_bitCount_23 : decode cJ13_bitCount 23 = .ok (.istore_n 0, 1) := dk_59 (dk_at dksJ13_bitCount_0 23 rfl rfl)
theorem dJ13_bitCount_24 : decode cJ13_bitCount 24 = .ok (.iload_n 0, 1) := dk_26 (dk_at dksJ13_bitCount_1 0 rfl rfl)
theorem dJ13_bitCount_25 : decode cJ13_bitCount 25 = .ok (.iload_n 0, 1) := dk_26 (dk_at dksJ13_bitCount_1 1 rfl rfl)
theorem dJ13_bitCount_26 : decode cJ13_bitCount 26 = .ok (.iconst 4, 1) := dk_7 (dk_at dksJ13_bitCount_1 2 rfl rfl)
theorem dJ13_bitCount_27 : decode cJ13_bitCount 27 = .ok (.iushr, 1) := dk_124 (dk_at dksJ13_bitCount_1 3 rfl rfl)
theorem dJ13_bitCount_28 : decode cJ13_bitCount 28 = .ok (.iadd, 1) := dk_96 (dk_at dksJ13_bitCount_1 4 rfl rfl)
theorem dJ13_bitCount_29 : decode cJ13_bitCount 29 = .ok (.ldc_w 267, 3) := dk_19 1 11 (dk_at dksJ13_bitCount_1 5 rfl rfl)
theorem dJ13_bitCount_32 : decode cJ13_bitCount 32 = .ok (.iand, 1) := dk_126 (dk_at dksJ13_bitCount_1 8 rfl rfl)
theorem dJ13_bitCount_33 : decode cJ13_bitCount 33 = .ok (.istore_n 0, 1) := dk_59 (dk_at dksJ13_bitCount_1 9 rfl rfl)
theorem dJ13_bitCount_34 : decode cJ13_bitCount 34 = .ok (.iload_n 0, 1) := dk_26 (dk_at dksJ13_bitCount_1 10 rfl rfl)
theorem dJ13_bitCount_35 : decode cJ13_bitCount 35 = .ok (.iload_n 0, 1) := dk_26 (dk_at dksJ13_bitCount_1 11 rfl rfl)
theorem dJ13_bitCount_36 : decode cJ13_bitCount 36 = .ok (.bipush 8, 2) := dk_16 8 (dk_at dksJ13_bitCount_1 12 rfl rfl)
theorem dJ13_bitCount_38 : decode cJ13_bitCount 38 = .ok (.iushr, 1) := dk_124 (dk_at dksJ13_bitCount_1 14 rfl rfl)
theorem dJ13_bitCount_39 : decode cJ13_bitCount 39 = .ok (.iadd, 1) := dk_96 (dk_at dksJ13_bitCount_1 15 rfl rfl)
theorem dJ13_bitCount_40 : decode cJ13_bitCount 40 = .ok (.istore_n 0, 1) := dk_59 (dk_at dksJ13_bitCount_1 16 rfl rfl)
theorem dJ13_bitCount_41 : decode cJ13_bitCount 41 = .ok (.iload_n 0, 1) := dk_26 (dk_at dksJ13_bitCount_1 17 rfl rfl)
theorem dJ13_bitCount_42 : decode cJ13_bitCount 42 = .ok (.iload_n 0, 1) := dk_26 (dk_at dksJ13_bitCount_1 18 rfl rfl)
theorem dJ13_bitCount_43 : decode cJ13_bitCount 43 = .ok (.bipush 16, 2) := dk_16 16 (dk_at dksJ13_bitCount_1 19 rfl rfl)
theorem dJ13_bitCount_45 : decode cJ13_bitCount 45 = .ok (.iushr, 1) := dk_124 (dk_at dksJ13_bitCount_1 21 rfl rfl)
theorem dJ13_bitCount_46 : decode cJ13_bitCount 46 = .ok (.iadd, 1) := dk_96 (dk_at dksJ13_bitCount_1 22 rfl rfl)
theorem dJ13_bitCount_47 : decode cJ13_bitCount 47 = .ok (.istore_n 0, 1) := dk_59 (dk_at dksJ13_bitCount_1 23 rfl rfl)
theorem dJ13_bitCount_48 : decode cJ13_bitCount 48 = .ok (.iload_n 0, 1) := dk_26 (dk_at dksJ13_bitCount_2 0 rfl rfl)
theorem dJ13_bitCount_49 : decode cJ13_bitCount 49 = .ok (.bipush 63, 2) := dk_16 63 (dk_at dksJ13_bitCount_2 1 rfl rfl)
theorem dJ13_bitCount_51 : decode cJ13_bitCount 51 = .ok (.iand, 1) := dk_126 (dk_at dksJ13_bitCount_2 3 rfl rfl)
theorem dJ13_bitCount_52 : decode cJ13_bitCount 52 = .ok (.ireturn, 1) := dk_172 (dk_at dksJ13_bitCount_2 4 rfl rfl)
def dkwJ14_init_0 : List UInt8 := [42, 43, 183, 0, 7, 177]
abbrev dktJ14_init_0 : List UInt8 := dkwJ14_init_0 ++ []
theorem dksJ14_init_0 : cJ14_init.data.toList.drop 0 = dktJ14_init_0 := by decide +kernel
theorem dJ14_init_0 : decode cJ14_init 0 = .ok (.aload_n 0, 1) := dk_42 (dk_at dksJ14_init_0 0 rfl rfl)
theorem dJ14_init_1 : decode cJ14_init 1 = .ok (.aload_n 1, 1) := dk_43 (dk_at dksJ14_init_0 1 rfl rfl)
theorem dJ14_init_2 : decode cJ14_init 2 = .ok (.invokespecial 7, 3) := dk_183 0 7 (dk_at dksJ14_init_0 2 rfl rfl)
theorem dJ14_init_5 : decode cJ14_init 5 = .ok (.return_, 1) := dk_177 (dk_at dksJ14_init_0 5 rfl rfl)
theorem dJ15_init_0 : decode cJ15_init 0 = .ok (.return_, 1) := by decide +kernel
def dkwL_law_57 : List UInt8 := [96, 46, 182, 0, 174, 159, 0, 5, 3, 172, 132, 3, 6, 167, 250, 56, 4, 172]
abbrev dktL_law_57 : List UInt8 := dkwL_law_57 ++ []
def dkwL_law_56 : List UInt8 := [5, 96, 46, 182, 0, 170, 159, 0, 28, 3, 172, 43, 42, 29, 4, 96, 46, 182, 0, 171, 44, 42, 29, 4]
abbrev dktL_law_56 : List UInt8 := dkwL_law_56 ++ dktL_law_57
def dkwL_law_55 : List UInt8 := [3, 172, 43, 42, 29, 4, 96, 46, 42, 29, 5, 96, 46, 182, 0, 167, 44, 42, 29, 4, 96, 46, 42, 29]
abbrev dktL_law_55 : List UInt8 := dkwL_law_55 ++ dktL_law_56
def dkwL_law_54 : List UInt8 := [5, 96, 46, 42, 29, 6, 96, 46, 42, 29, 7, 96, 46, 42, 29, 8, 96, 46, 182, 0, 166, 159, 0, 61]
abbrev dktL_law_54 : List UInt8 := dkwL_law_54 ++ dktL_law_55
def dkwL_law_53 : List UInt8 := [6, 96, 46, 42, 29, 7, 96, 46, 42, 29, 8, 96, 46, 182, 0, 162, 44, 42, 29, 4, 96, 46, 42, 29]
abbrev dktL_law_53 : List UInt8 := dkwL_law_53 ++ dktL_law_54
def dkwL_law_52 : List UInt8 := [96, 46, 182, 0, 161, 148, 153, 0, 124, 3, 172, 43, 42, 29, 4, 96, 46, 42, 29, 5, 96, 46, 42, 29]
abbrev dktL_law_52 : List UInt8 := dkwL_law_52 ++ dktL_law_53
def dkwL_law_51 : List UInt8 := [172, 43, 42, 29, 4, 96, 46, 42, 29, 5, 96, 46, 182, 0, 157, 44, 42, 29, 4, 96, 46, 42, 29, 5]
abbrev dktL_law_51 : List UInt8 := dkwL_law_51 ++ dktL_law_52
def dkwL_law_50 : List UInt8 := [96, 46, 133, 16, 32, 121, 42, 29, 7, 96, 46, 133, 20, 0, 150, 127, 129, 182, 0, 156, 159, 0, 158, 3]
abbrev dktL_law_50 : List UInt8 := dkwL_law_50 ++ dktL_law_51
def dkwL_law_49 : List UInt8 := [46, 133, 20, 0, 150, 127, 129, 182, 0, 152, 44, 42, 29, 4, 96, 46, 42, 29, 5, 96, 46, 42, 29, 6]
abbrev dktL_law_49 : List UInt8 := dkwL_law_49 ++ dktL_law_50
def dkwL_law_48 : List UInt8 := [43, 42, 29, 4, 96, 46, 42, 29, 5, 96, 46, 42, 29, 6, 96, 46, 133, 16, 32, 121, 42, 29, 7, 96]
abbrev dktL_law_48 : List UInt8 := dkwL_law_48 ++ dktL_law_49
def dkwL_law_47 : List UInt8 := [44, 42, 29, 4, 96, 46, 42, 29, 5, 96, 46, 42, 29, 6, 96, 46, 182, 0, 149, 159, 0, 231, 3, 172]
abbrev dktL_law_47 : List UInt8 := dkwL_law_47 ++ dktL_law_48
def dkwL_law_46 : List UInt8 := [159, 1, 18, 3, 172, 43, 42, 29, 4, 96, 46, 42, 29, 5, 96, 46, 42, 29, 6, 96, 46, 182, 0, 146]
abbrev dktL_law_46 : List UInt8 := dkwL_law_46 ++ dktL_law_47
def dkwL_law_45 : List UInt8 := [42, 29, 5, 96, 46, 182, 0, 142, 44, 42, 29, 4, 96, 46, 42, 29, 5, 96, 46, 182, 0, 145]
abbrev dktL_law_45 : List UInt8 := dkwL_law_45 ++ dktL_law_46
def dkwL_law_44 : List UInt8 := [46, 182, 0, 138, 44, 42, 29, 4, 96, 46, 182, 0, 141, 159, 1, 51, 3, 172, 43, 42, 29, 4, 96, 46]
abbrev dktL_law_44 : List UInt8 := dkwL_law_44 ++ dktL_law_45
def dkwL_law_43 : List UInt8 := [46, 42, 29, 5, 96, 46, 42, 29, 6, 96, 46, 182, 0, 137, 159, 1, 74, 3, 172, 43, 42, 29, 4, 96]
abbrev dktL_law_43 : List UInt8 := dkwL_law_43 ++ dktL_law_44
def dkwL_law_42 : List UInt8 := [43, 42, 29, 4, 96, 46, 42, 29, 5, 96, 46, 42, 29, 6, 96, 46, 182, 0, 134, 44, 42, 29, 4, 96]
abbrev dktL_law_42 : List UInt8 := dkwL_law_42 ++ dktL_law_43
def dkwL_law_41 : List UInt8 := [172, 43, 42, 29, 4, 96, 46, 182, 0, 130, 44, 42, 29, 4, 96, 46, 182, 0, 133, 159, 1, 117, 3, 172]
abbrev dktL_law_41 : List UInt8 := dkwL_law_41 ++ dktL_law_42
def dkwL_law_40 : List UInt8 := [182, 0, 122, 44, 182, 0, 125, 159, 1, 153, 3, 172, 43, 182, 0, 126, 44, 182, 0, 129, 159, 1, 140, 3]
abbrev dktL_law_40 : List UInt8 := dkwL_law_40 ++ dktL_law_41
def dkwL_law_39 : List UInt8 := [44, 182, 0, 117, 159, 1, 179, 3, 172, 43, 182, 0, 118, 44, 182, 0, 121, 159, 1, 166, 3, 172, 43]
abbrev dktL_law_39 : List UInt8 := dkwL_law_39 ++ dktL_law_40
def dkwL_law_38 : List UInt8 := [4, 96, 46, 182, 0, 110, 44, 42, 29, 4, 96, 46, 182, 0, 113, 159, 1, 192, 3, 172, 43, 182, 0, 114]
abbrev dktL_law_38 : List UInt8 := dkwL_law_38 ++ dktL_law_39
def dkwL_law_37 : List UInt8 := [4, 96, 46, 42, 29, 5, 96, 46, 42, 29, 6, 96, 46, 182, 0, 109, 159, 1, 215, 3, 172, 43, 42, 29]
abbrev dktL_law_37 : List UInt8 := dkwL_law_37 ++ dktL_law_38
def dkwL_law_36 : List UInt8 := [3, 172, 43, 42, 29, 4, 96, 46, 42, 29, 5, 96, 46, 42, 29, 6, 96, 46, 182, 0, 106, 44, 42, 29]
abbrev dktL_law_36 : List UInt8 := dkwL_law_36 ++ dktL_law_37
def dkwL_law_35 : List UInt8 := [42, 29, 4, 96, 46, 182, 0, 101, 159, 2, 15, 3, 172, 43, 182, 0, 102, 44, 182, 0, 105, 159, 2, 2]
abbrev dktL_law_35 : List UInt8 := dkwL_law_35 ++ dktL_law_36
def dkwL_law_34 : List UInt8 := [46, 42, 29, 6, 96, 46, 182, 0, 97, 159, 2, 38, 3, 172, 43, 42, 29, 4, 96, 46, 182, 0, 98, 44]
abbrev dktL_law_34 : List UInt8 := dkwL_law_34 ++ dktL_law_35
def dkwL_law_33 : List UInt8 := [46, 42, 29, 5, 96, 46, 42, 29, 6, 96, 46, 182, 0, 94, 44, 42, 29, 4, 96, 46, 42, 29, 5, 96]
abbrev dktL_law_33 : List UInt8 := dkwL_law_33 ++ dktL_law_34
def dkwL_law_32 : List UInt8 := [46, 42, 29, 5, 96, 46, 42, 29, 6, 96, 46, 182, 0, 93, 159, 2, 81, 3, 172, 43, 42, 29, 4, 96]
abbrev dktL_law_32 : List UInt8 := dkwL_law_32 ++ dktL_law_33
def dkwL_law_31 : List UInt8 := [43, 42, 29, 4, 96, 46, 42, 29, 5, 96, 46, 42, 29, 6, 96, 46, 182, 0, 90, 44, 42, 29, 4, 96]
abbrev dktL_law_31 : List UInt8 := dkwL_law_31 ++ dktL_law_32
def dkwL_law_30 : List UInt8 := [44, 42, 29, 4, 96, 46, 42, 29, 5, 96, 46, 42, 29, 6, 96, 46, 182, 0, 89, 159, 2, 124, 3, 172]
abbrev dktL_law_30 : List UInt8 := dkwL_law_30 ++ dktL_law_31
def dkwL_law_29 : List UInt8 := [159, 2, 167, 3, 172, 43, 42, 29, 4, 96, 46, 42, 29, 5, 96, 46, 42, 29, 6, 96, 46, 182, 0, 86]
abbrev dktL_law_29 : List UInt8 := dkwL_law_29 ++ dktL_law_30
def dkwL_law_28 : List UInt8 := [159, 2, 190, 3, 172, 43, 42, 29, 4, 96, 46, 182, 0, 82, 44, 42, 29, 4, 96, 46, 182, 0, 85]
abbrev dktL_law_28 : List UInt8 := dkwL_law_28 ++ dktL_law_29
def dkwL_law_27 : List UInt8 := [42, 29, 5, 96, 46, 182, 0, 78, 44, 42, 29, 4, 96, 46, 42, 29, 5, 96, 46, 182, 0, 81]
abbrev dktL_law_27 : List UInt8 := dkwL_law_27 ++ dktL_law_28
def dkwL_law_26 : List UInt8 := [42, 29, 4, 96, 46, 42, 29, 5, 96, 46, 182, 0, 77, 159, 2, 223, 3, 172, 43, 42, 29, 4, 96, 46]
abbrev dktL_law_26 : List UInt8 := dkwL_law_26 ++ dktL_law_27
def dkwL_law_25 : List UInt8 := [46, 182, 0, 73, 159, 3, 0, 3, 172, 43, 42, 29, 4, 96, 46, 42, 29, 5, 96, 46, 182, 0, 74, 44]
abbrev dktL_law_25 : List UInt8 := dkwL_law_25 ++ dktL_law_26
def dkwL_law_24 : List UInt8 := [46, 42, 29, 6, 96, 46, 182, 0, 70, 44, 42, 29, 4, 96, 46, 42, 29, 5, 96, 46, 42, 29, 6, 96]
abbrev dktL_law_24 : List UInt8 := dkwL_law_24 ++ dktL_law_25
def dkwL_law_23 : List UInt8 := [46, 42, 29, 6, 96, 46, 182, 0, 69, 159, 3, 43, 3, 172, 43, 42, 29, 4, 96, 46, 42, 29, 5, 96]
abbrev dktL_law_23 : List UInt8 := dkwL_law_23 ++ dktL_law_24
def dkwL_law_22 : List UInt8 := [46, 42, 29, 5, 96, 46, 42, 29, 6, 96, 46, 182, 0, 66, 44, 42, 29, 4, 96, 46, 42, 29, 5, 96]
abbrev dktL_law_22 : List UInt8 := dkwL_law_22 ++ dktL_law_23
def dkwL_law_21 : List UInt8 := [46, 42, 29, 6, 96, 46, 42, 29, 7, 96, 46, 182, 0, 65, 159, 3, 86, 3, 172, 43, 42, 29, 4, 96]
abbrev dktL_law_21 : List UInt8 := dkwL_law_21 ++ dktL_law_22
def dkwL_law_20 : List UInt8 := [46, 42, 29, 6, 96, 46, 42, 29, 7, 96, 46, 182, 0, 61, 44, 42, 29, 4, 96, 46, 42, 29, 5, 96]
abbrev dktL_law_20 : List UInt8 := dkwL_law_20 ++ dktL_law_21
def dkwL_law_19 : List UInt8 := [46, 42, 29, 6, 96, 46, 182, 0, 60, 159, 3, 139, 3, 172, 43, 42, 29, 4, 96, 46, 42, 29, 5, 96]
abbrev dktL_law_19 : List UInt8 := dkwL_law_19 ++ dktL_law_20
def dkwL_law_18 : List UInt8 := [46, 42, 29, 5, 96, 46, 42, 29, 6, 96, 46, 182, 0, 57, 44, 42, 29, 4, 96, 46, 42, 29, 5, 96]
abbrev dktL_law_18 : List UInt8 := dkwL_law_18 ++ dktL_law_19
def dkwL_law_17 : List UInt8 := [46, 42, 29, 5, 96, 46, 42, 29, 6, 96, 46, 182, 0, 56, 159, 3, 182, 3, 172, 43, 42, 29, 4, 96]
abbrev dktL_law_17 : List UInt8 := dkwL_law_17 ++ dktL_law_18
def dkwL_law_16 : List UInt8 := [43, 42, 29, 4, 96, 46, 42, 29, 5, 96, 46, 42, 29, 6, 96, 46, 182, 0, 53, 44, 42, 29, 4, 96]
abbrev dktL_law_16 : List UInt8 := dkwL_law_16 ++ dktL_law_17
def dkwL_law_15 : List UInt8 := [44, 42, 29, 4, 96, 46, 42, 29, 5, 96, 46, 42, 29, 6, 96, 46, 182, 0, 52, 159, 3, 225, 3, 172]
abbrev dktL_law_15 : List UInt8 := dkwL_law_15 ++ dktL_law_16
def dkwL_law_14 : List UInt8 := [159, 4, 12, 3, 172, 43, 42, 29, 4, 96, 46, 42, 29, 5, 96, 46, 42, 29, 6, 96, 46, 182, 0, 49]
abbrev dktL_law_14 : List UInt8 := dkwL_law_14 ++ dktL_law_15
def dkwL_law_13 : List UInt8 := [182, 0, 45, 44, 42, 29, 4, 96, 46, 42, 29, 5, 96, 46, 42, 29, 6, 96, 46, 182, 0, 48]
abbrev dktL_law_13 : List UInt8 := dkwL_law_13 ++ dktL_law_14
def dkwL_law_12 : List UInt8 := [182, 0, 44, 159, 4, 55, 3, 172, 43, 42, 29, 4, 96, 46, 42, 29, 5, 96, 46, 42, 29, 6, 96, 46]
abbrev dktL_law_12 : List UInt8 := dkwL_law_12 ++ dktL_law_13
def dkwL_law_11 : List UInt8 := [4, 96, 46, 42, 29, 5, 96, 46, 182, 0, 41, 44, 42, 29, 4, 96, 46, 42, 29, 5, 96, 46]
abbrev dktL_law_11 : List UInt8 := dkwL_law_11 ++ dktL_law_12
def dkwL_law_10 : List UInt8 := [182, 0, 35, 159, 4, 101, 3, 172, 43, 182, 0, 36, 44, 182, 0, 40, 159, 4, 88, 3, 172, 43, 42, 29]
abbrev dktL_law_10 : List UInt8 := dkwL_law_10 ++ dktL_law_11
def dkwL_law_9 : List UInt8 := [46, 182, 0, 30, 159, 4, 124, 3, 172, 43, 42, 29, 4, 96, 46, 182, 0, 31, 44, 42, 29, 4, 96, 46]
abbrev dktL_law_9 : List UInt8 := dkwL_law_9 ++ dktL_law_10
def dkwL_law_8 : List UInt8 := [43, 42, 29, 4, 96, 46, 42, 29, 5, 96, 46, 182, 0, 27, 44, 42, 29, 4, 96, 46, 42, 29, 5, 96]
abbrev dktL_law_8 : List UInt8 := dkwL_law_8 ++ dktL_law_9
def dkwL_law_7 : List UInt8 := [44, 42, 29, 4, 96, 46, 42, 29, 5, 96, 46, 42, 29, 6, 96, 46, 182, 0, 26, 159, 4, 157, 3, 172]
abbrev dktL_law_7 : List UInt8 := dkwL_law_7 ++ dktL_law_8
def dkwL_law_6 : List UInt8 := [159, 4, 200, 3, 172, 43, 42, 29, 4, 96, 46, 42, 29, 5, 96, 46, 42, 29, 6, 96, 46, 182, 0, 23]
abbrev dktL_law_6 : List UInt8 := dkwL_law_6 ++ dktL_law_7
def dkwL_law_5 : List UInt8 := [46, 182, 0, 18, 44, 42, 29, 4, 96, 46, 42, 29, 5, 96, 46, 42, 29, 6, 96, 46, 182, 0, 22]
abbrev dktL_law_5 : List UInt8 := dkwL_law_5 ++ dktL_law_6
def dkwL_law_4 : List UInt8 := [46, 182, 0, 17, 159, 4, 243, 3, 172, 43, 42, 29, 4, 96, 46, 42, 29, 5, 96, 46, 42, 29, 6, 96]
abbrev dktL_law_4 : List UInt8 := dkwL_law_4 ++ dktL_law_5
def dkwL_law_3 : List UInt8 := [43, 42, 29, 4, 96, 46, 42, 29, 5, 96, 46, 182, 0, 13, 44, 42, 29, 4, 96, 46, 42, 29, 5, 96]
abbrev dktL_law_3 : List UInt8 := dkwL_law_3 ++ dktL_law_4
def dkwL_law_2 : List UInt8 := [170, 0, 0, 0, 0, 5, 182, 0, 0, 0, 0, 0, 0, 0, 37, 0, 0, 0, 167, 0, 0, 0, 200, 0, 0, 0, 243, 0, 0, 1, 30, 0, 0, 1, 63, 0, 0, 1, 86, 0, 0, 1, 99, 0, 0, 1, 132, 0, 0, 1, 175, 0, 0, 1, 218, 0, 0, 2, 5, 0, 0, 2, 48, 0, 0, 2, 101, 0, 0, 2, 144, 0, 0, 2, 187, 0, 0, 2, 220, 0, 0, 2, 253, 0, 0, 3, 20, 0, 0, 3, 63, 0, 0, 3, 106, 0, 0, 3, 149, 0, 0, 3, 172, 0, 0, 3, 185, 0, 0, 3, 228, 0, 0, 3, 251, 0, 0, 4, 8, 0, 0, 4, 21, 0, 0, 4, 34, 0, 0, 4, 47, 0, 0, 4, 70, 0, 0, 4, 113, 0, 0, 4, 136, 0, 0, 4, 169, 0, 0, 4, 212, 0, 0, 5, 29, 0, 0, 5, 63, 0, 0, 5, 126, 0, 0, 5, 159]
abbrev dktL_law_2 : List UInt8 := dkwL_law_2 ++ dktL_law_3
def dkwL_law_1 : List UInt8 := [163, 5, 197, 42, 29, 46, 16, 63, 126]
abbrev dktL_law_1 : List UInt8 := dkwL_law_1 ++ dktL_law_2
def dkwL_law_0 : List UInt8 := [187, 0, 7, 89, 183, 0, 9, 76, 187, 0, 10, 89, 183, 0, 12, 77, 3, 62, 29, 42, 190, 16, 6, 100]
abbrev dktL_law_0 : List UInt8 := dkwL_law_0 ++ dktL_law_1
theorem dksL_law_0 : cL_law.data.toList.drop 0 = dktL_law_0 := by decide +kernel
theorem dksL_law_1 : cL_law.data.toList.drop 24 = dktL_law_1 := dk_seg dksL_law_0 24 rfl rfl
theorem dksL_law_2 : cL_law.data.toList.drop 33 = dktL_law_2 := dk_seg dksL_law_1 9 rfl rfl
theorem dksL_law_3 : cL_law.data.toList.drop 200 = dktL_law_3 := dk_seg dksL_law_2 167 rfl rfl
theorem dksL_law_4 : cL_law.data.toList.drop 224 = dktL_law_4 := dk_seg dksL_law_3 24 rfl rfl
theorem dksL_law_5 : cL_law.data.toList.drop 248 = dktL_law_5 := dk_seg dksL_law_4 24 rfl rfl
theorem dksL_law_6 : cL_law.data.toList.drop 271 = dktL_law_6 := dk_seg dksL_law_5 23 rfl rfl
theorem dksL_law_7 : cL_law.data.toList.drop 295 = dktL_law_7 := dk_seg dksL_law_6 24 rfl rfl
theorem dksL_law_8 : cL_law.data.toList.drop 319 = dktL_law_8 := dk_seg dksL_law_7 24 rfl rfl
theorem dksL_law_9 : cL_law.data.toList.drop 343 = dktL_law_9 := dk_seg dksL_law_8 24 rfl rfl
theorem dksL_law_10 : cL_law.data.toList.drop 367 = dktL_law_10 := dk_seg dksL_law_9 24 rfl rfl
theorem dksL_law_11 : cL_law.data.toList.drop 391 = dktL_law_11 := dk_seg dksL_law_10 24 rfl rfl
theorem dksL_law_12 : cL_law.data.toList.drop 413 = dktL_law_12 := dk_seg dksL_law_11 22 rfl rfl
theorem dksL_law_13 : cL_law.data.toList.drop 437 = dktL_law_13 := dk_seg dksL_law_12 24 rfl rfl
theorem dksL_law_14 : cL_law.data.toList.drop 459 = dktL_law_14 := dk_seg dksL_law_13 22 rfl rfl
theorem dksL_law_15 : cL_law.data.toList.drop 483 = dktL_law_15 := dk_seg dksL_law_14 24 rfl rfl
theorem dksL_law_16 : cL_law.data.toList.drop 507 = dktL_law_16 := dk_seg dksL_law_15 24 rfl rfl
theorem dksL_law_17 : cL_law.data.toList.drop 531 = dktL_law_17 := dk_seg dksL_law_16 24 rfl rfl
theorem dksL_law_18 : cL_law.data.toList.drop 555 = dktL_law_18 := dk_seg dksL_law_17 24 rfl rfl
theorem dksL_law_19 : cL_law.data.toList.drop 579 = dktL_law_19 := dk_seg dksL_law_18 24 rfl rfl
theorem dksL_law_20 : cL_law.data.toList.drop 603 = dktL_law_20 := dk_seg dksL_law_19 24 rfl rfl
theorem dksL_law_21 : cL_law.data.toList.drop 627 = dktL_law_21 := dk_seg dksL_law_20 24 rfl rfl
theorem dksL_law_22 : cL_law.data.toList.drop 651 = dktL_law_22 := dk_seg dksL_law_21 24 rfl rfl
theorem dksL_law_23 : cL_law.data.toList.drop 675 = dktL_law_23 := dk_seg dksL_law_22 24 rfl rfl
theorem dksL_law_24 : cL_law.data.toList.drop 699 = dktL_law_24 := dk_seg dksL_law_23 24 rfl rfl
theorem dksL_law_25 : cL_law.data.toList.drop 723 = dktL_law_25 := dk_seg dksL_law_24 24 rfl rfl
theorem dksL_law_26 : cL_law.data.toList.drop 747 = dktL_law_26 := dk_seg dksL_law_25 24 rfl rfl
theorem dksL_law_27 : cL_law.data.toList.drop 771 = dktL_law_27 := dk_seg dksL_law_26 24 rfl rfl
theorem dksL_law_28 : cL_law.data.toList.drop 793 = dktL_law_28 := dk_seg dksL_law_27 22 rfl rfl
theorem dksL_law_29 : cL_law.data.toList.drop 816 = dktL_law_29 := dk_seg dksL_law_28 23 rfl rfl
theorem dksL_law_30 : cL_law.data.toList.drop 840 = dktL_law_30 := dk_seg dksL_law_29 24 rfl rfl
theorem dksL_law_31 : cL_law.data.toList.drop 864 = dktL_law_31 := dk_seg dksL_law_30 24 rfl rfl
theorem dksL_law_32 : cL_law.data.toList.drop 888 = dktL_law_32 := dk_seg dksL_law_31 24 rfl rfl
theorem dksL_law_33 : cL_law.data.toList.drop 912 = dktL_law_33 := dk_seg dksL_law_32 24 rfl rfl
theorem dksL_law_34 : cL_law.data.toList.drop 936 = dktL_law_34 := dk_seg dksL_law_33 24 rfl rfl
theorem dksL_law_35 : cL_law.data.toList.drop 960 = dktL_law_35 := dk_seg dksL_law_34 24 rfl rfl
theorem dksL_law_36 : cL_law.data.toList.drop 984 = dktL_law_36 := dk_seg dksL_law_35 24 rfl rfl
theorem dksL_law_37 : cL_law.data.toList.drop 1008 = dktL_law_37 := dk_seg dksL_law_36 24 rfl rfl
theorem dksL_law_38 : cL_law.data.toList.drop 1032 = dktL_law_38 := dk_seg dksL_law_37 24 rfl rfl
theorem dksL_law_39 : cL_law.data.toList.drop 1056 = dktL_law_39 := dk_seg dksL_law_38 24 rfl rfl
theorem dksL_law_40 : cL_law.data.toList.drop 1079 = dktL_law_40 := dk_seg dksL_law_39 23 rfl rfl
theorem dksL_law_41 : cL_law.data.toList.drop 1103 = dktL_law_41 := dk_seg dksL_law_40 24 rfl rfl
theorem dksL_law_42 : cL_law.data.toList.drop 1127 = dktL_law_42 := dk_seg dksL_law_41 24 rfl rfl
theorem dksL_law_43 : cL_law.data.toList.drop 1151 = dktL_law_43 := dk_seg dksL_law_42 24 rfl rfl
theorem dksL_law_44 : cL_law.data.toList.drop 1175 = dktL_law_44 := dk_seg dksL_law_43 24 rfl rfl
theorem dksL_law_45 : cL_law.data.toList.drop 1199 = dktL_law_45 := dk_seg dksL_law_44 24 rfl rfl
theorem dksL_law_46 : cL_law.data.toList.drop 1221 = dktL_law_46 := dk_seg dksL_law_45 22 rfl rfl
theorem dksL_law_47 : cL_law.data.toList.drop 1245 = dktL_law_47 := dk_seg dksL_law_46 24 rfl rfl
theorem dksL_law_48 : cL_law.data.toList.drop 1269 = dktL_law_48 := dk_seg dksL_law_47 24 rfl rfl
theorem dksL_law_49 : cL_law.data.toList.drop 1293 = dktL_law_49 := dk_seg dksL_law_48 24 rfl rfl
theorem dksL_law_50 : cL_law.data.toList.drop 1317 = dktL_law_50 := dk_seg dksL_law_49 24 rfl rfl
theorem dksL_law_51 : cL_law.data.toList.drop 1341 = dktL_law_51 := dk_seg dksL_law_50 24 rfl rfl
theorem dksL_law_52 : cL_law.data.toList.drop 1365 = dktL_law_52 := dk_seg dksL_law_51 24 rfl rfl
theorem dksL_law_53 : cL_law.data.toList.drop 1389 = dktL_law_53 := dk_seg dksL_law_52 24 rfl rfl
theorem dksL_law_54 : cL_law.data.toList.drop 1413 = dktL_law_54 := dk_seg dksL_law_53 24 rfl rfl
theorem dksL_law_55 : cL_law.data.toList.drop 1437 = dktL_law_55 := dk_seg dksL_law_54 24 rfl rfl
theorem dksL_law_56 : cL_law.data.toList.drop 1461 = dktL_law_56 := dk_seg dksL_law_55 24 rfl rfl
theorem dksL_law_57 : cL_law.data.toList.drop 1485 = dktL_law_57 := dk_seg dksL_law_56 24 rfl rfl
theorem dL_law_0 : decode cL_law 0 = .ok (.new 7, 3) := dk_187 0 7 (dk_at dksL_law_0 0 rfl rfl)
theorem dL_law_3 : decode cL_law 3 = .ok (.dup, 1) := dk_89 (dk_at dksL_law_0 3 rfl rfl)
theorem dL_law_4 : decode cL_law 4 = .ok (.invokespecial 9, 3) := dk_183 0 9 (dk_at dksL_law_0 4 rfl rfl)
theorem dL_law_7 : decode cL_law 7 = .ok (.astore_n 1, 1) := dk_76 (dk_at dksL_law_0 7 rfl rfl)
theorem dL_law_8 : decode cL_law 8 = .ok (.new 10, 3) := dk_187 0 10 (dk_at dksL_law_0 8 rfl rfl)
theorem dL_law_11 : decode cL_law 11 = .ok (.dup, 1) := dk_89 (dk_at dksL_law_0 11 rfl rfl)
theorem dL_law_12 : decode cL_law 12 = .ok (.invokespecial 12, 3) := dk_183 0 12 (dk_at dksL_law_0 12 rfl rfl)
theorem dL_law_15 : decode cL_law 15 = .ok (.astore_n 2, 1) := dk_77 (dk_at dksL_law_0 15 rfl rfl)
theorem dL_law_16 : decode cL_law 16 = .ok (.iconst 0, 1) := dk_3 (dk_at dksL_law_0 16 rfl rfl)
theorem dL_law_17 : decode cL_law 17 = .ok (.istore_n 3, 1) := dk_62 (dk_at dksL_law_0 17 rfl rfl)
theorem dL_law_18 : decode cL_law 18 = .ok (.iload_n 3, 1) := dk_29 (dk_at dksL_law_0 18 rfl rfl)
theorem dL_law_19 : decode cL_law 19 = .ok (.aload_n 0, 1) := dk_42 (dk_at dksL_law_0 19 rfl rfl)
theorem dL_law_20 : decode cL_law 20 = .ok (.arraylength, 1) := dk_190 (dk_at dksL_law_0 20 rfl rfl)
theorem dL_law_21 : decode cL_law 21 = .ok (.bipush 6, 2) := dk_16 6 (dk_at dksL_law_0 21 rfl rfl)
theorem dL_law_23 : decode cL_law 23 = .ok (.isub, 1) := dk_100 (dk_at dksL_law_0 23 rfl rfl)
theorem dL_law_24 : decode cL_law 24 = .ok (.if_icmp .gt 1477, 3) := dk_163 5 197 (dk_at dksL_law_1 0 rfl rfl)
theorem dL_law_27 : decode cL_law 27 = .ok (.aload_n 0, 1) := dk_42 (dk_at dksL_law_1 3 rfl rfl)
theorem dL_law_28 : decode cL_law 28 = .ok (.iload_n 3, 1) := dk_29 (dk_at dksL_law_1 4 rfl rfl)
theorem dL_law_29 : decode cL_law 29 = .ok (.iaload, 1) := dk_46 (dk_at dksL_law_1 5 rfl rfl)
theorem dL_law_30 : decode cL_law 30 = .ok (.bipush 63, 2) := dk_16 63 (dk_at dksL_law_1 6 rfl rfl)
theorem dL_law_32 : decode cL_law 32 = .ok (.iand, 1) := dk_126 (dk_at dksL_law_1 8 rfl rfl)
theorem dL_law_33 : decode cL_law 33 = .ok (.tableswitch 1462 0 37 #[167, 200, 243, 286, 319, 342, 355, 388, 431, 474, 517, 560, 613, 656, 699, 732, 765, 788, 831, 874, 917, 940, 953, 996, 1019, 1032, 1045, 1058, 1071, 1094, 1137, 1160, 1193, 1236, 1309, 1343, 1406, 1439], 167) := by decide +kernel
theorem dL_law_200 : decode cL_law 200 = .ok (.aload_n 1, 1) := dk_43 (dk_at dksL_law_3 0 rfl rfl)
theorem dL_law_201 : decode cL_law 201 = .ok (.aload_n 0, 1) := dk_42 (dk_at dksL_law_3 1 rfl rfl)
theorem dL_law_202 : decode cL_law 202 = .ok (.iload_n 3, 1) := dk_29 (dk_at dksL_law_3 2 rfl rfl)
theorem dL_law_203 : decode cL_law 203 = .ok (.iconst 1, 1) := dk_4 (dk_at dksL_law_3 3 rfl rfl)
theorem dL_law_204 : decode cL_law 204 = .ok (.iadd, 1) := dk_96 (dk_at dksL_law_3 4 rfl rfl)
theorem dL_law_205 : decode cL_law 205 = .ok (.iaload, 1) := dk_46 (dk_at dksL_law_3 5 rfl rfl)
theorem dL_law_206 : decode cL_law 206 = .ok (.aload_n 0, 1) := dk_42 (dk_at dksL_law_3 6 rfl rfl)
theorem dL_law_207 : decode cL_law 207 = .ok (.iload_n 3, 1) := dk_29 (dk_at dksL_law_3 7 rfl rfl)
theorem dL_law_208 : decode cL_law 208 = .ok (.iconst 2, 1) := dk_5 (dk_at dksL_law_3 8 rfl rfl)
theorem dL_law_209 : decode cL_law 209 = .ok (.iadd, 1) := dk_96 (dk_at dksL_law_3 9 rfl rfl)
theorem dL_law_210 : decode cL_law 210 = .ok (.iaload, 1) := dk_46 (dk_at dksL_law_3 10 rfl rfl)
theorem dL_law_211 : decode cL_law 211 = .ok (.invokevirtual 13, 3) := dk_182 0 13 (dk_at dksL_law_3 11 rfl rfl)
theorem dL_law_214 : decode cL_law 214 = .ok (.aload_n 2, 1) := dk_44 (dk_at dksL_law_3 14 rfl rfl)
theorem dL_law_215 : decode cL_law 215 = .ok (.aload_n 0, 1) := dk_42 (dk_at dksL_law_3 15 rfl rfl)
theorem dL_law_216 : decode cL_law 216 = .ok (.iload_n 3, 1) := dk_29 (dk_at dksL_law_3 16 rfl rfl)
theorem dL_law_217 : decode cL_law 217 = .ok (.iconst 1, 1) := dk_4 (dk_at dksL_law_3 17 rfl rfl)
theorem dL_law_218 : decode cL_law 218 = .ok (.iadd, 1) := dk_96 (dk_at dksL_law_3 18 rfl rfl)
theorem dL_law_219 : decode cL_law 219 = .ok (.iaload, 1) := dk_46 (dk_at dksL_law_3 19 rfl rfl)
theorem dL_law_220 : decode cL_law 220 = .ok (.aload_n 0, 1) := dk_42 (dk_at dksL_law_3 20 rfl rfl)
theorem dL_law_221 : decode cL_law 221 = .ok (.iload_n 3, 1) := dk_29 (dk_at dksL_law_3 21 rfl rfl)
theorem dL_law_222 : decode cL_law 222 = .ok (.iconst 2, 1) := dk_5 (dk_at dksL_law_3 22 rfl rfl)
theorem dL_law_223 : decode cL_law 223 = .ok (.iadd, 1) := dk_96 (dk_at dksL_law_3 23 rfl rfl)
theorem dL_law_224 : decode cL_law 224 = .ok (.iaload, 1) := dk_46 (dk_at dksL_law_4 0 rfl rfl)
theorem dL_law_225 : decode cL_law 225 = .ok (.invokevirtual 17, 3) := dk_182 0 17 (dk_at dksL_law_4 1 rfl rfl)
theorem dL_law_228 : decode cL_law 228 = .ok (.if_icmp .eq 1267, 3) := dk_159 4 243 (dk_at dksL_law_4 4 rfl rfl)
theorem dL_law_231 : decode cL_law 231 = .ok (.iconst 0, 1) := dk_3 (dk_at dksL_law_4 7 rfl rfl)
theorem dL_law_232 : decode cL_law 232 = .ok (.ireturn, 1) := dk_172 (dk_at dksL_law_4 8 rfl rfl)
theorem dL_law_233 : decode cL_law 233 = .ok (.aload_n 1, 1) := dk_43 (dk_at dksL_law_4 9 rfl rfl)
theorem dL_law_234 : decode cL_law 234 = .ok (.aload_n 0, 1) := dk_42 (dk_at dksL_law_4 10 rfl rfl)
theorem dL_law_235 : decode cL_law 235 = .ok (.iload_n 3, 1) := dk_29 (dk_at dksL_law_4 11 rfl rfl)
theorem dL_law_236 : decode cL_law 236 = .ok (.iconst 1, 1) := dk_4 (dk_at dksL_law_4 12 rfl rfl)
theorem dL_law_237 : decode cL_law 237 = .ok (.iadd, 1) := dk_96 (dk_at dksL_law_4 13 rfl rfl)
theorem dL_law_238 : decode cL_law 238 = .ok (.iaload, 1) := dk_46 (dk_at dksL_law_4 14 rfl rfl)
theorem dL_law_239 : decode cL_law 239 = .ok (.aload_n 0, 1) := dk_42 (dk_at dksL_law_4 15 rfl rfl)
theorem dL_law_240 : decode cL_law 240 = .ok (.iload_n 3, 1) := dk_29 (dk_at dksL_law_4 16 rfl rfl)
theorem dL_law_241 : decode cL_law 241 = .ok (.iconst 2, 1) := dk_5 (dk_at dksL_law_4 17 rfl rfl)
theorem dL_law_242 : decode cL_law 242 = .ok (.iadd, 1) := dk_96 (dk_at dksL_law_4 18 rfl rfl)
theorem dL_law_243 : decode cL_law 243 = .ok (.iaload, 1) := dk_46 (dk_at dksL_law_4 19 rfl rfl)
theorem dL_law_244 : decode cL_law 244 = .ok (.aload_n 0, 1) := dk_42 (dk_at dksL_law_4 20 rfl rfl)
theorem dL_law_245 : decode cL_law 245 = .ok (.iload_n 3, 1) := dk_29 (dk_at dksL_law_4 21 rfl rfl)
theorem dL_law_246 : decode cL_law 246 = .ok (.iconst 3, 1) := dk_6 (dk_at dksL_law_4 22 rfl rfl)
theorem dL_law_247 : decode cL_law 247 = .ok (.iadd, 1) := dk_96 (dk_at dksL_law_4 23 rfl rfl)
theorem dL_law_248 : decode cL_law 248 = .ok (.iaload, 1) := dk_46 (dk_at dksL_law_5 0 rfl rfl)
theorem dL_law_249 : decode cL_law 249 = .ok (.invokevirtual 18, 3) := dk_182 0 18 (dk_at dksL_law_5 1 rfl rfl)
theorem dL_law_252 : decode cL_law 252 = .ok (.aload_n 2, 1) := dk_44 (dk_at dksL_law_5 4 rfl rfl)
theorem dL_law_253 : decode cL_law 253 = .ok (.aload_n 0, 1) := dk_42 (dk_at dksL_law_5 5 rfl rfl)
theorem dL_law_254 : decode cL_law 254 = .ok (.iload_n 3, 1) := dk_29 (dk_at dksL_law_5 6 rfl rfl)
theorem dL_law_255 : decode cL_law 255 = .ok (.iconst 1, 1) := dk_4 (dk_at dksL_law_5 7 rfl rfl)
theorem dL_law_256 : decode cL_law 256 = .ok (.iadd, 1) := dk_96 (dk_at dksL_law_5 8 rfl rfl)
theorem dL_law_257 : decode cL_law 257 = .ok (.iaload, 1) := dk_46 (dk_at dksL_law_5 9 rfl rfl)
theorem dL_law_258 : decode cL_law 258 = .ok (.aload_n 0, 1) := dk_42 (dk_at dksL_law_5 10 rfl rfl)
theorem dL_law_259 : decode cL_law 259 = .ok (.iload_n 3, 1) := dk_29 (dk_at dksL_law_5 11 rfl rfl)
theorem dL_law_260 : decode cL_law 260 = .ok (.iconst 2, 1) := dk_5 (dk_at dksL_law_5 12 rfl rfl)
theorem dL_law_261 : decode cL_law 261 = .ok (.iadd, 1) := dk_96 (dk_at dksL_law_5 13 rfl rfl)
theorem dL_law_262 : decode cL_law 262 = .ok (.iaload, 1) := dk_46 (dk_at dksL_law_5 14 rfl rfl)
theorem dL_law_263 : decode cL_law 263 = .ok (.aload_n 0, 1) := dk_42 (dk_at dksL_law_5 15 rfl rfl)
theorem dL_law_264 : decode cL_law 264 = .ok (.iload_n 3, 1) := dk_29 (dk_at dksL_law_5 16 rfl rfl)
theorem dL_law_265 : decode cL_law 265 = .ok (.iconst 3, 1) := dk_6 (dk_at dksL_law_5 17 rfl rfl)
theorem dL_law_266 : decode cL_law 266 = .ok (.iadd, 1) := dk_96 (dk_at dksL_law_5 18 rfl rfl)
theorem dL_law_267 : decode cL_law 267 = .ok (.iaload, 1) := dk_46 (dk_at dksL_law_5 19 rfl rfl)
theorem dL_law_268 : decode cL_law 268 = .ok (.invokevirtual 22, 3) := dk_182 0 22 (dk_at dksL_law_5 20 rfl rfl)
theorem dL_law_271 : decode cL_law 271 = .ok (.if_icmp .eq 1224, 3) := dk_159 4 200 (dk_at dksL_law_6 0 rfl rfl)
theorem dL_law_274 : decode cL_law 274 = .ok (.iconst 0, 1) := dk_3 (dk_at dksL_law_6 3 rfl rfl)
theorem dL_law_275 : decode cL_law 275 = .ok (.ireturn, 1) := dk_172 (dk_at dksL_law_6 4 rfl rfl)
theorem dL_law_276 : decode cL_law 276 = .ok (.aload_n 1, 1) := dk_43 (dk_at dksL_law_6 5 rfl rfl)
theorem dL_law_277 : decode cL_law 277 = .ok (.aload_n 0, 1) := dk_42 (dk_at dksL_law_6 6 rfl rfl)
theorem dL_law_278 : decode cL_law 278 = .ok (.iload_n 3, 1) := dk_29 (dk_at dksL_law_6 7 rfl rfl)
theorem dL_law_279 : decode cL_law 279 = .ok (.iconst 1, 1) := dk_4 (dk_at dksL_law_6 8 rfl rfl)
theorem dL_law_280 : decode cL_law 280 = .ok (.iadd, 1) := dk_96 (dk_at dksL_law_6 9 rfl rfl)
theorem dL_law_281 : decode cL_law 281 = .ok (.iaload, 1) := dk_46 (dk_at dksL_law_6 10 rfl rfl)
theorem dL_law_282 : decode cL_law 282 = .ok (.aload_n 0, 1) := dk_42 (dk_at dksL_law_6 11 rfl rfl)
theorem dL_law_283 : decode cL_law 283 = .ok (.iload_n 3, 1) := dk_29 (dk_at dksL_law_6 12 rfl rfl)
theorem dL_law_284 : decode cL_law 284 = .ok (.iconst 2, 1) := dk_5 (dk_at dksL_law_6 13 rfl rfl)
theorem dL_law_285 : decode cL_law 285 = .ok (.iadd, 1) := dk_96 (dk_at dksL_law_6 14 rfl rfl)
theorem dL_law_286 : decode cL_law 286 = .ok (.iaload, 1) := dk_46 (dk_at dksL_law_6 15 rfl rfl)
theorem dL_law_287 : decode cL_law 287 = .ok (.aload_n 0, 1) := dk_42 (dk_at dksL_law_6 16 rfl rfl)
theorem dL_law_288 : decode cL_law 288 = .ok (.iload_n 3, 1) := dk_29 (dk_at dksL_law_6 17 rfl rfl)
theorem dL_law_289 : decode cL_law 289 = .ok (.iconst 3, 1) := dk_6 (dk_at dksL_law_6 18 rfl rfl)
theorem dL_law_290 : decode cL_law 290 = .ok (.iadd, 1) := dk_96 (dk_at dksL_law_6 19 rfl rfl)
theorem dL_law_291 : decode cL_law 291 = .ok (.iaload, 1) := dk_46 (dk_at dksL_law_6 20 rfl rfl)
theorem dL_law_292 : decode cL_law 292 = .ok (.invokevirtual 23, 3) := dk_182 0 23 (dk_at dksL_law_6 21 rfl rfl)
theorem dL_law_295 : decode cL_law 295 = .ok (.aload_n 2, 1) := dk_44 (dk_at dksL_law_7 0 rfl rfl)
theorem dL_law_296 : decode cL_law 296 = .ok (.aload_n 0, 1) := dk_42 (dk_at dksL_law_7 1 rfl rfl)
theorem dL_law_297 : decode cL_law 297 = .ok (.iload_n 3, 1) := dk_29 (dk_at dksL_law_7 2 rfl rfl)
theorem dL_law_298 : decode cL_law 298 = .ok (.iconst 1, 1) := dk_4 (dk_at dksL_law_7 3 rfl rfl)
theorem dL_law_299 : decode cL_law 299 = .ok (.iadd, 1) := dk_96 (dk_at dksL_law_7 4 rfl rfl)
theorem dL_law_300 : decode cL_law 300 = .ok (.iaload, 1) := dk_46 (dk_at dksL_law_7 5 rfl rfl)
theorem dL_law_301 : decode cL_law 301 = .ok (.aload_n 0, 1) := dk_42 (dk_at dksL_law_7 6 rfl rfl)
theorem dL_law_302 : decode cL_law 302 = .ok (.iload_n 3, 1) := dk_29 (dk_at dksL_law_7 7 rfl rfl)
theorem dL_law_303 : decode cL_law 303 = .ok (.iconst 2, 1) := dk_5 (dk_at dksL_law_7 8 rfl rfl)
theorem dL_law_304 : decode cL_law 304 = .ok (.iadd, 1) := dk_96 (dk_at dksL_law_7 9 rfl rfl)
theorem dL_law_305 : decode cL_law 305 = .ok (.iaload, 1) := dk_46 (dk_at dksL_law_7 10 rfl rfl)
theorem dL_law_306 : decode cL_law 306 = .ok (.aload_n 0, 1) := dk_42 (dk_at dksL_law_7 11 rfl rfl)
theorem dL_law_307 : decode cL_law 307 = .ok (.iload_n 3, 1) := dk_29 (dk_at dksL_law_7 12 rfl rfl)
theorem dL_law_308 : decode cL_law 308 = .ok (.iconst 3, 1) := dk_6 (dk_at dksL_law_7 13 rfl rfl)
theorem dL_law_309 : decode cL_law 309 = .ok (.iadd, 1) := dk_96 (dk_at dksL_law_7 14 rfl rfl)
theorem dL_law_310 : decode cL_law 310 = .ok (.iaload, 1) := dk_46 (dk_at dksL_law_7 15 rfl rfl)
theorem dL_law_311 : decode cL_law 311 = .ok (.invokevirtual 26, 3) := dk_182 0 26 (dk_at dksL_law_7 16 rfl rfl)
theorem dL_law_314 : decode cL_law 314 = .ok (.if_icmp .eq 1181, 3) := dk_159 4 157 (dk_at dksL_law_7 19 rfl rfl)
theorem dL_law_317 : decode cL_law 317 = .ok (.iconst 0, 1) := dk_3 (dk_at dksL_law_7 22 rfl rfl)
theorem dL_law_318 : decode cL_law 318 = .ok (.ireturn, 1) := dk_172 (dk_at dksL_law_7 23 rfl rfl)
theorem dL_law_319 : decode cL_law 319 = .ok (.aload_n 1, 1) := dk_43 (dk_at dksL_law_8 0 rfl rfl)
theorem dL_law_320 : decode cL_law 320 = .ok (.aload_n 0, 1) := dk_42 (dk_at dksL_law_8 1 rfl rfl)
theorem dL_law_321 : decode cL_law 321 = .ok (.iload_n 3, 1) := dk_29 (dk_at dksL_law_8 2 rfl rfl)
theorem dL_law_322 : decode cL_law 322 = .ok (.iconst 1, 1) := dk_4 (dk_at dksL_law_8 3 rfl rfl)
theorem dL_law_323 : decode cL_law 323 = .ok (.iadd, 1) := dk_96 (dk_at dksL_law_8 4 rfl rfl)
theorem dL_law_324 : decode cL_law 324 = .ok (.iaload, 1) := dk_46 (dk_at dksL_law_8 5 rfl rfl)
theorem dL_law_325 : decode cL_law 325 = .ok (.aload_n 0, 1) := dk_42 (dk_at dksL_law_8 6 rfl rfl)
theorem dL_law_326 : decode cL_law 326 = .ok (.iload_n 3, 1) := dk_29 (dk_at dksL_law_8 7 rfl rfl)
theorem dL_law_327 : decode cL_law 327 = .ok (.iconst 2, 1) := dk_5 (dk_at dksL_law_8 8 rfl rfl)
theorem dL_law_328 : decode cL_law 328 = .ok (.iadd, 1) := dk_96 (dk_at dksL_law_8 9 rfl rfl)
theorem dL_law_329 : decode cL_law 329 = .ok (.iaload, 1) := dk_46 (dk_at dksL_law_8 10 rfl rfl)
theorem dL_law_330 : decode cL_law 330 = .ok (.invokevirtual 27, 3) := dk_182 0 27 (dk_at dksL_law_8 11 rfl rfl)
theorem dL_law_333 : decode cL_law 333 = .ok (.aload_n 2, 1) := dk_44 (dk_at dksL_law_8 14 rfl rfl)
theorem dL_law_334 : decode cL_law 334 = .ok (.aload_n 0, 1) := dk_42 (dk_at dksL_law_8 15 rfl rfl)
theorem dL_law_335 : decode cL_law 335 = .ok (.iload_n 3, 1) := dk_29 (dk_at dksL_law_8 16 rfl rfl)
theorem dL_law_336 : decode cL_law 336 = .ok (.iconst 1, 1) := dk_4 (dk_at dksL_law_8 17 rfl rfl)
theorem dL_law_337 : decode cL_law 337 = .ok (.iadd, 1) := dk_96 (dk_at dksL_law_8 18 rfl rfl)
theorem dL_law_338 : decode cL_law 338 = .ok (.iaload, 1) := dk_46 (dk_at dksL_law_8 19 rfl rfl)
theorem dL_law_339 : decode cL_law 339 = .ok (.aload_n 0, 1) := dk_42 (dk_at dksL_law_8 20 rfl rfl)
theorem dL_law_340 : decode cL_law 340 = .ok (.iload_n 3, 1) := dk_29 (dk_at dksL_law_8 21 rfl rfl)
theorem dL_law_341 : decode cL_law 341 = .ok (.iconst 2, 1) := dk_5 (dk_at dksL_law_8 22 rfl rfl)
theorem dL_law_342 : decode cL_law 342 = .ok (.iadd, 1) := dk_96 (dk_at dksL_law_8 23 rfl rfl)
theorem dL_law_343 : decode cL_law 343 = .ok (.iaload, 1) := dk_46 (dk_at dksL_law_9 0 rfl rfl)
theorem dL_law_344 : decode cL_law 344 = .ok (.invokevirtual 30, 3) := dk_182 0 30 (dk_at dksL_law_9 1 rfl rfl)
theorem dL_law_347 : decode cL_law 347 = .ok (.if_icmp .eq 1148, 3) := dk_159 4 124 (dk_at dksL_law_9 4 rfl rfl)
theorem dL_law_350 : decode cL_law 350 = .ok (.iconst 0, 1) := dk_3 (dk_at dksL_law_9 7 rfl rfl)
theorem dL_law_351 : decode cL_law 351 = .ok (.ireturn, 1) := dk_172 (dk_at dksL_law_9 8 rfl rfl)
theorem dL_law_352 : decode cL_law 352 = .ok (.aload_n 1, 1) := dk_43 (dk_at dksL_law_9 9 rfl rfl)
theorem dL_law_353 : decode cL_law 353 = .ok (.aload_n 0, 1) := dk_42 (dk_at dksL_law_9 10 rfl rfl)
theorem dL_law_354 : decode cL_law 354 = .ok (.iload_n 3, 1) := dk_29 (dk_at dksL_law_9 11 rfl rfl)
theorem dL_law_355 : decode cL_law 355 = .ok (.iconst 1, 1) := dk_4 (dk_at dksL_law_9 12 rfl rfl)
theorem dL_law_356 : decode cL_law 356 = .ok (.iadd, 1) := dk_96 (dk_at dksL_law_9 13 rfl rfl)
theorem dL_law_357 : decode cL_law 357 = .ok (.iaload, 1) := dk_46 (dk_at dksL_law_9 14 rfl rfl)
theorem dL_law_358 : decode cL_law 358 = .ok (.invokevirtual 31, 3) := dk_182 0 31 (dk_at dksL_law_9 15 rfl rfl)
theorem dL_law_361 : decode cL_law 361 = .ok (.aload_n 2, 1) := dk_44 (dk_at dksL_law_9 18 rfl rfl)
theorem dL_law_362 : decode cL_law 362 = .ok (.aload_n 0, 1) := dk_42 (dk_at dksL_law_9 19 rfl rfl)
theorem dL_law_363 : decode cL_law 363 = .ok (.iload_n 3, 1) := dk_29 (dk_at dksL_law_9 20 rfl rfl)
theorem dL_law_364 : decode cL_law 364 = .ok (.iconst 1, 1) := dk_4 (dk_at dksL_law_9 21 rfl rfl)
theorem dL_law_365 : decode cL_law 365 = .ok (.iadd, 1) := dk_96 (dk_at dksL_law_9 22 rfl rfl)
theorem dL_law_366 : decode cL_law 366 = .ok (.iaload, 1) := dk_46 (dk_at dksL_law_9 23 rfl rfl)
theorem dL_law_367 : decode cL_law 367 = .ok (.invokevirtual 35, 3) := dk_182 0 35 (dk_at dksL_law_10 0 rfl rfl)
theorem dL_law_370 : decode cL_law 370 = .ok (.if_icmp .eq 1125, 3) := dk_159 4 101 (dk_at dksL_law_10 3 rfl rfl)
theorem dL_law_373 : decode cL_law 373 = .ok (.iconst 0, 1) := dk_3 (dk_at dksL_law_10 6 rfl rfl)
theorem dL_law_374 : decode cL_law 374 = .ok (.ireturn, 1) := dk_172 (dk_at dksL_law_10 7 rfl rfl)
theorem dL_law_375 : decode cL_law 375 = .ok (.aload_n 1, 1) := dk_43 (dk_at dksL_law_10 8 rfl rfl)
theorem dL_law_376 : decode cL_law 376 = .ok (.invokevirtual 36, 3) := dk_182 0 36 (dk_at dksL_law_10 9 rfl rfl)
theorem dL_law_379 : decode cL_law 379 = .ok (.aload_n 2, 1) := dk_44 (dk_at dksL_law_10 12 rfl rfl)
theorem dL_law_380 : decode cL_law 380 = .ok (.invokevirtual 40, 3) := dk_182 0 40 (dk_at dksL_law_10 13 rfl rfl)
theorem dL_law_383 : decode cL_law 383 = .ok (.if_icmp .eq 1112, 3) := dk_159 4 88 (dk_at dksL_law_10 16 rfl rfl)
theorem dL_law_386 : decode cL_law 386 = .ok (.iconst 0, 1) := dk_3 (dk_at dksL_law_10 19 rfl rfl)
theorem dL_law_387 : decode cL_law 387 = .ok (.ireturn, 1) := dk_172 (dk_at dksL_law_10 20 rfl rfl)
theorem dL_law_388 : decode cL_law 388 = .ok (.aload_n 1, 1) := dk_43 (dk_at dksL_law_10 21 rfl rfl)
theorem dL_law_389 : decode cL_law 389 = .ok (.aload_n 0, 1) := dk_42 (dk_at dksL_law_10 22 rfl rfl)
theorem dL_law_390 : decode cL_law 390 = .ok (.iload_n 3, 1) := dk_29 (dk_at dksL_law_10 23 rfl rfl)
theorem dL_law_391 : decode cL_law 391 = .ok (.iconst 1, 1) := dk_4 (dk_at dksL_law_11 0 rfl rfl)
theorem dL_law_392 : decode cL_law 392 = .ok (.iadd, 1) := dk_96 (dk_at dksL_law_11 1 rfl rfl)
theorem dL_law_393 : decode cL_law 393 = .ok (.iaload, 1) := dk_46 (dk_at dksL_law_11 2 rfl rfl)
theorem dL_law_394 : decode cL_law 394 = .ok (.aload_n 0, 1) := dk_42 (dk_at dksL_law_11 3 rfl rfl)
theorem dL_law_395 : decode cL_law 395 = .ok (.iload_n 3, 1) := dk_29 (dk_at dksL_law_11 4 rfl rfl)
theorem dL_law_396 : decode cL_law 396 = .ok (.iconst 2, 1) := dk_5 (dk_at dksL_law_11 5 rfl rfl)
theorem dL_law_397 : decode cL_law 397 = .ok (.iadd, 1) := dk_96 (dk_at dksL_law_11 6 rfl rfl)
theorem dL_law_398 : decode cL_law 398 = .ok (.iaload, 1) := dk_46 (dk_at dksL_law_11 7 rfl rfl)
theorem dL_law_399 : decode cL_law 399 = .ok (.invokevirtual 41, 3) := dk_182 0 41 (dk_at dksL_law_11 8 rfl rfl)
theorem dL_law_402 : decode cL_law 402 = .ok (.aload_n 2, 1) := dk_44 (dk_at dksL_law_11 11 rfl rfl)
theorem dL_law_403 : decode cL_law 403 = .ok (.aload_n 0, 1) := dk_42 (dk_at dksL_law_11 12 rfl rfl)
theorem dL_law_404 : decode cL_law 404 = .ok (.iload_n 3, 1) := dk_29 (dk_at dksL_law_11 13 rfl rfl)
theorem dL_law_405 : decode cL_law 405 = .ok (.iconst 1, 1) := dk_4 (dk_at dksL_law_11 14 rfl rfl)
theorem dL_law_406 : decode cL_law 406 = .ok (.iadd, 1) := dk_96 (dk_at dksL_law_11 15 rfl rfl)
theorem dL_law_407 : decode cL_law 407 = .ok (.iaload, 1) := dk_46 (dk_at dksL_law_11 16 rfl rfl)
theorem dL_law_408 : decode cL_law 408 = .ok (.aload_n 0, 1) := dk_42 (dk_at dksL_law_11 17 rfl rfl)
theorem dL_law_409 : decode cL_law 409 = .ok (.iload_n 3, 1) := dk_29 (dk_at dksL_law_11 18 rfl rfl)
theorem dL_law_410 : decode cL_law 410 = .ok (.iconst 2, 1) := dk_5 (dk_at dksL_law_11 19 rfl rfl)
theorem dL_law_411 : decode cL_law 411 = .ok (.iadd, 1) := dk_96 (dk_at dksL_law_11 20 rfl rfl)
theorem dL_law_412 : decode cL_law 412 = .ok (.iaload, 1) := dk_46 (dk_at dksL_law_11 21 rfl rfl)
theorem dL_law_413 : decode cL_law 413 = .ok (.invokevirtual 44, 3) := dk_182 0 44 (dk_at dksL_law_12 0 rfl rfl)
theorem dL_law_416 : decode cL_law 416 = .ok (.if_icmp .eq 1079, 3) := dk_159 4 55 (dk_at dksL_law_12 3 rfl rfl)
theorem dL_law_419 : decode cL_law 419 = .ok (.iconst 0, 1) := dk_3 (dk_at dksL_law_12 6 rfl rfl)
theorem dL_law_420 : decode cL_law 420 = .ok (.ireturn, 1) := dk_172 (dk_at dksL_law_12 7 rfl rfl)
theorem dL_law_421 : decode cL_law 421 = .ok (.aload_n 1, 1) := dk_43 (dk_at dksL_law_12 8 rfl rfl)
theorem dL_law_422 : decode cL_law 422 = .ok (.aload_n 0, 1) := dk_42 (dk_at dksL_law_12 9 rfl rfl)
theorem dL_law_423 : decode cL_law 423 = .ok (.iload_n 3, 1) := dk_29 (dk_at dksL_law_12 10 rfl rfl)
theorem dL_law_424 : decode cL_law 424 = .ok (.iconst 1, 1) := dk_4 (dk_at dksL_law_12 11 rfl rfl)
theorem dL_law_425 : decode cL_law 425 = .ok (.iadd, 1) := dk_96 (dk_at dksL_law_12 12 rfl rfl)
theorem dL_law_426 : decode cL_law 426 = .ok (.iaload, 1) := dk_46 (dk_at dksL_law_12 13 rfl rfl)
theorem dL_law_427 : decode cL_law 427 = .ok (.aload_n 0, 1) := dk_42 (dk_at dksL_law_12 14 rfl rfl)
theorem dL_law_428 : decode cL_law 428 = .ok (.iload_n 3, 1) := dk_29 (dk_at dksL_law_12 15 rfl rfl)
theorem dL_law_429 : decode cL_law 429 = .ok (.iconst 2, 1) := dk_5 (dk_at dksL_law_12 16 rfl rfl)
theorem dL_law_430 : decode cL_law 430 = .ok (.iadd, 1) := dk_96 (dk_at dksL_law_12 17 rfl rfl)
theorem dL_law_431 : decode cL_law 431 = .ok (.iaload, 1) := dk_46 (dk_at dksL_law_12 18 rfl rfl)
theorem dL_law_432 : decode cL_law 432 = .ok (.aload_n 0, 1) := dk_42 (dk_at dksL_law_12 19 rfl rfl)
theorem dL_law_433 : decode cL_law 433 = .ok (.iload_n 3, 1) := dk_29 (dk_at dksL_law_12 20 rfl rfl)
theorem dL_law_434 : decode cL_law 434 = .ok (.iconst 3, 1) := dk_6 (dk_at dksL_law_12 21 rfl rfl)
theorem dL_law_435 : decode cL_law 435 = .ok (.iadd, 1) := dk_96 (dk_at dksL_law_12 22 rfl rfl)
theorem dL_law_436 : decode cL_law 436 = .ok (.iaload, 1) := dk_46 (dk_at dksL_law_12 23 rfl rfl)
theorem dL_law_437 : decode cL_law 437 = .ok (.invokevirtual 45, 3) := dk_182 0 45 (dk_at dksL_law_13 0 rfl rfl)
theorem dL_law_440 : decode cL_law 440 = .ok (.aload_n 2, 1) := dk_44 (dk_at dksL_law_13 3 rfl rfl)
theorem dL_law_441 : decode cL_law 441 = .ok (.aload_n 0, 1) := dk_42 (dk_at dksL_law_13 4 rfl rfl)
theorem dL_law_442 : decode cL_law 442 = .ok (.iload_n 3, 1) := dk_29 (dk_at dksL_law_13 5 rfl rfl)
theorem dL_law_443 : decode cL_law 443 = .ok (.iconst 1, 1) := dk_4 (dk_at dksL_law_13 6 rfl rfl)
theorem dL_law_444 : decode cL_law 444 = .ok (.iadd, 1) := dk_96 (dk_at dksL_law_13 7 rfl rfl)
theorem dL_law_445 : decode cL_law 445 = .ok (.iaload, 1) := dk_46 (dk_at dksL_law_13 8 rfl rfl)
theorem dL_law_446 : decode cL_law 446 = .ok (.aload_n 0, 1) := dk_42 (dk_at dksL_law_13 9 rfl rfl)
theorem dL_law_447 : decode cL_law 447 = .ok (.iload_n 3, 1) := dk_29 (dk_at dksL_law_13 10 rfl rfl)
theorem dL_law_448 : decode cL_law 448 = .ok (.iconst 2, 1) := dk_5 (dk_at dksL_law_13 11 rfl rfl)
theorem dL_law_449 : decode cL_law 449 = .ok (.iadd, 1) := dk_96 (dk_at dksL_law_13 12 rfl rfl)
theorem dL_law_450 : decode cL_law 450 = .ok (.iaload, 1) := dk_46 (dk_at dksL_law_13 13 rfl rfl)
theorem dL_law_451 : decode cL_law 451 = .ok (.aload_n 0, 1) := dk_42 (dk_at dksL_law_13 14 rfl rfl)
theorem dL_law_452 : decode cL_law 452 = .ok (.iload_n 3, 1) := dk_29 (dk_at dksL_law_13 15 rfl rfl)
theorem dL_law_453 : decode cL_law 453 = .ok (.iconst 3, 1) := dk_6 (dk_at dksL_law_13 16 rfl rfl)
theorem dL_law_454 : decode cL_law 454 = .ok (.iadd, 1) := dk_96 (dk_at dksL_law_13 17 rfl rfl)
theorem dL_law_455 : decode cL_law 455 = .ok (.iaload, 1) := dk_46 (dk_at dksL_law_13 18 rfl rfl)
theorem dL_law_456 : decode cL_law 456 = .ok (.invokevirtual 48, 3) := dk_182 0 48 (dk_at dksL_law_13 19 rfl rfl)
theorem dL_law_459 : decode cL_law 459 = .ok (.if_icmp .eq 1036, 3) := dk_159 4 12 (dk_at dksL_law_14 0 rfl rfl)
theorem dL_law_462 : decode cL_law 462 = .ok (.iconst 0, 1) := dk_3 (dk_at dksL_law_14 3 rfl rfl)
theorem dL_law_463 : decode cL_law 463 = .ok (.ireturn, 1) := dk_172 (dk_at dksL_law_14 4 rfl rfl)
theorem dL_law_464 : decode cL_law 464 = .ok (.aload_n 1, 1) := dk_43 (dk_at dksL_law_14 5 rfl rfl)
theorem dL_law_465 : decode cL_law 465 = .ok (.aload_n 0, 1) := dk_42 (dk_at dksL_law_14 6 rfl rfl)
theorem dL_law_466 : decode cL_law 466 = .ok (.iload_n 3, 1) := dk_29 (dk_at dksL_law_14 7 rfl rfl)
theorem dL_law_467 : decode cL_law 467 = .ok (.iconst 1, 1) := dk_4 (dk_at dksL_law_14 8 rfl rfl)
theorem dL_law_468 : decode cL_law 468 = .ok (.iadd, 1) := dk_96 (dk_at dksL_law_14 9 rfl rfl)
theorem dL_law_469 : decode cL_law 469 = .ok (.iaload, 1) := dk_46 (dk_at dksL_law_14 10 rfl rfl)
theorem dL_law_470 : decode cL_law 470 = .ok (.aload_n 0, 1) := dk_42 (dk_at dksL_law_14 11 rfl rfl)
theorem dL_law_471 : decode cL_law 471 = .ok (.iload_n 3, 1) := dk_29 (dk_at dksL_law_14 12 rfl rfl)
theorem dL_law_472 : decode cL_law 472 = .ok (.iconst 2, 1) := dk_5 (dk_at dksL_law_14 13 rfl rfl)
theorem dL_law_473 : decode cL_law 473 = .ok (.iadd, 1) := dk_96 (dk_at dksL_law_14 14 rfl rfl)
theorem dL_law_474 : decode cL_law 474 = .ok (.iaload, 1) := dk_46 (dk_at dksL_law_14 15 rfl rfl)
theorem dL_law_475 : decode cL_law 475 = .ok (.aload_n 0, 1) := dk_42 (dk_at dksL_law_14 16 rfl rfl)
theorem dL_law_476 : decode cL_law 476 = .ok (.iload_n 3, 1) := dk_29 (dk_at dksL_law_14 17 rfl rfl)
theorem dL_law_477 : decode cL_law 477 = .ok (.iconst 3, 1) := dk_6 (dk_at dksL_law_14 18 rfl rfl)
theorem dL_law_478 : decode cL_law 478 = .ok (.iadd, 1) := dk_96 (dk_at dksL_law_14 19 rfl rfl)
theorem dL_law_479 : decode cL_law 479 = .ok (.iaload, 1) := dk_46 (dk_at dksL_law_14 20 rfl rfl)
theorem dL_law_480 : decode cL_law 480 = .ok (.invokevirtual 49, 3) := dk_182 0 49 (dk_at dksL_law_14 21 rfl rfl)
theorem dL_law_483 : decode cL_law 483 = .ok (.aload_n 2, 1) := dk_44 (dk_at dksL_law_15 0 rfl rfl)
theorem dL_law_484 : decode cL_law 484 = .ok (.aload_n 0, 1) := dk_42 (dk_at dksL_law_15 1 rfl rfl)
theorem dL_law_485 : decode cL_law 485 = .ok (.iload_n 3, 1) := dk_29 (dk_at dksL_law_15 2 rfl rfl)
theorem dL_law_486 : decode cL_law 486 = .ok (.iconst 1, 1) := dk_4 (dk_at dksL_law_15 3 rfl rfl)
theorem dL_law_487 : decode cL_law 487 = .ok (.iadd, 1) := dk_96 (dk_at dksL_law_15 4 rfl rfl)
theorem dL_law_488 : decode cL_law 488 = .ok (.iaload, 1) := dk_46 (dk_at dksL_law_15 5 rfl rfl)
theorem dL_law_489 : decode cL_law 489 = .ok (.aload_n 0, 1) := dk_42 (dk_at dksL_law_15 6 rfl rfl)
theorem dL_law_490 : decode cL_law 490 = .ok (.iload_n 3, 1) := dk_29 (dk_at dksL_law_15 7 rfl rfl)
theorem dL_law_491 : decode cL_law 491 = .ok (.iconst 2, 1) := dk_5 (dk_at dksL_law_15 8 rfl rfl)
theorem dL_law_492 : decode cL_law 492 = .ok (.iadd, 1) := dk_96 (dk_at dksL_law_15 9 rfl rfl)
theorem dL_law_493 : decode cL_law 493 = .ok (.iaload, 1) := dk_46 (dk_at dksL_law_15 10 rfl rfl)
theorem dL_law_494 : decode cL_law 494 = .ok (.aload_n 0, 1) := dk_42 (dk_at dksL_law_15 11 rfl rfl)
theorem dL_law_495 : decode cL_law 495 = .ok (.iload_n 3, 1) := dk_29 (dk_at dksL_law_15 12 rfl rfl)
theorem dL_law_496 : decode cL_law 496 = .ok (.iconst 3, 1) := dk_6 (dk_at dksL_law_15 13 rfl rfl)
theorem dL_law_497 : decode cL_law 497 = .ok (.iadd, 1) := dk_96 (dk_at dksL_law_15 14 rfl rfl)
theorem dL_law_498 : decode cL_law 498 = .ok (.iaload, 1) := dk_46 (dk_at dksL_law_15 15 rfl rfl)
theorem dL_law_499 : decode cL_law 499 = .ok (.invokevirtual 52, 3) := dk_182 0 52 (dk_at dksL_law_15 16 rfl rfl)
theorem dL_law_502 : decode cL_law 502 = .ok (.if_icmp .eq 993, 3) := dk_159 3 225 (dk_at dksL_law_15 19 rfl rfl)
theorem dL_law_505 : decode cL_law 505 = .ok (.iconst 0, 1) := dk_3 (dk_at dksL_law_15 22 rfl rfl)
theorem dL_law_506 : decode cL_law 506 = .ok (.ireturn, 1) := dk_172 (dk_at dksL_law_15 23 rfl rfl)
theorem dL_law_507 : decode cL_law 507 = .ok (.aload_n 1, 1) := dk_43 (dk_at dksL_law_16 0 rfl rfl)
theorem dL_law_508 : decode cL_law 508 = .ok (.aload_n 0, 1) := dk_42 (dk_at dksL_law_16 1 rfl rfl)
theorem dL_law_509 : decode cL_law 509 = .ok (.iload_n 3, 1) := dk_29 (dk_at dksL_law_16 2 rfl rfl)
theorem dL_law_510 : decode cL_law 510 = .ok (.iconst 1, 1) := dk_4 (dk_at dksL_law_16 3 rfl rfl)
theorem dL_law_511 : decode cL_law 511 = .ok (.iadd, 1) := dk_96 (dk_at dksL_law_16 4 rfl rfl)
theorem dL_law_512 : decode cL_law 512 = .ok (.iaload, 1) := dk_46 (dk_at dksL_law_16 5 rfl rfl)
theorem dL_law_513 : decode cL_law 513 = .ok (.aload_n 0, 1) := dk_42 (dk_at dksL_law_16 6 rfl rfl)
theorem dL_law_514 : decode cL_law 514 = .ok (.iload_n 3, 1) := dk_29 (dk_at dksL_law_16 7 rfl rfl)
theorem dL_law_515 : decode cL_law 515 = .ok (.iconst 2, 1) := dk_5 (dk_at dksL_law_16 8 rfl rfl)
theorem dL_law_516 : decode cL_law 516 = .ok (.iadd, 1) := dk_96 (dk_at dksL_law_16 9 rfl rfl)
theorem dL_law_517 : decode cL_law 517 = .ok (.iaload, 1) := dk_46 (dk_at dksL_law_16 10 rfl rfl)
theorem dL_law_518 : decode cL_law 518 = .ok (.aload_n 0, 1) := dk_42 (dk_at dksL_law_16 11 rfl rfl)
theorem dL_law_519 : decode cL_law 519 = .ok (.iload_n 3, 1) := dk_29 (dk_at dksL_law_16 12 rfl rfl)
theorem dL_law_520 : decode cL_law 520 = .ok (.iconst 3, 1) := dk_6 (dk_at dksL_law_16 13 rfl rfl)
theorem dL_law_521 : decode cL_law 521 = .ok (.iadd, 1) := dk_96 (dk_at dksL_law_16 14 rfl rfl)
theorem dL_law_522 : decode cL_law 522 = .ok (.iaload, 1) := dk_46 (dk_at dksL_law_16 15 rfl rfl)
theorem dL_law_523 : decode cL_law 523 = .ok (.invokevirtual 53, 3) := dk_182 0 53 (dk_at dksL_law_16 16 rfl rfl)
theorem dL_law_526 : decode cL_law 526 = .ok (.aload_n 2, 1) := dk_44 (dk_at dksL_law_16 19 rfl rfl)
theorem dL_law_527 : decode cL_law 527 = .ok (.aload_n 0, 1) := dk_42 (dk_at dksL_law_16 20 rfl rfl)
theorem dL_law_528 : decode cL_law 528 = .ok (.iload_n 3, 1) := dk_29 (dk_at dksL_law_16 21 rfl rfl)
theorem dL_law_529 : decode cL_law 529 = .ok (.iconst 1, 1) := dk_4 (dk_at dksL_law_16 22 rfl rfl)
theorem dL_law_530 : decode cL_law 530 = .ok (.iadd, 1) := dk_96 (dk_at dksL_law_16 23 rfl rfl)
theorem dL_law_531 : decode cL_law 531 = .ok (.iaload, 1) := dk_46 (dk_at dksL_law_17 0 rfl rfl)
theorem dL_law_532 : decode cL_law 532 = .ok (.aload_n 0, 1) := dk_42 (dk_at dksL_law_17 1 rfl rfl)
theorem dL_law_533 : decode cL_law 533 = .ok (.iload_n 3, 1) := dk_29 (dk_at dksL_law_17 2 rfl rfl)
theorem dL_law_534 : decode cL_law 534 = .ok (.iconst 2, 1) := dk_5 (dk_at dksL_law_17 3 rfl rfl)
theorem dL_law_535 : decode cL_law 535 = .ok (.iadd, 1) := dk_96 (dk_at dksL_law_17 4 rfl rfl)
theorem dL_law_536 : decode cL_law 536 = .ok (.iaload, 1) := dk_46 (dk_at dksL_law_17 5 rfl rfl)
theorem dL_law_537 : decode cL_law 537 = .ok (.aload_n 0, 1) := dk_42 (dk_at dksL_law_17 6 rfl rfl)
theorem dL_law_538 : decode cL_law 538 = .ok (.iload_n 3, 1) := dk_29 (dk_at dksL_law_17 7 rfl rfl)
theorem dL_law_539 : decode cL_law 539 = .ok (.iconst 3, 1) := dk_6 (dk_at dksL_law_17 8 rfl rfl)
theorem dL_law_540 : decode cL_law 540 = .ok (.iadd, 1) := dk_96 (dk_at dksL_law_17 9 rfl rfl)
theorem dL_law_541 : decode cL_law 541 = .ok (.iaload, 1) := dk_46 (dk_at dksL_law_17 10 rfl rfl)
theorem dL_law_542 : decode cL_law 542 = .ok (.invokevirtual 56, 3) := dk_182 0 56 (dk_at dksL_law_17 11 rfl rfl)
theorem dL_law_545 : decode cL_law 545 = .ok (.if_icmp .eq 950, 3) := dk_159 3 182 (dk_at dksL_law_17 14 rfl rfl)
theorem dL_law_548 : decode cL_law 548 = .ok (.iconst 0, 1) := dk_3 (dk_at dksL_law_17 17 rfl rfl)
theorem dL_law_549 : decode cL_law 549 = .ok (.ireturn, 1) := dk_172 (dk_at dksL_law_17 18 rfl rfl)
theorem dL_law_550 : decode cL_law 550 = .ok (.aload_n 1, 1) := dk_43 (dk_at dksL_law_17 19 rfl rfl)
theorem dL_law_551 : decode cL_law 551 = .ok (.aload_n 0, 1) := dk_42 (dk_at dksL_law_17 20 rfl rfl)
theorem dL_law_552 : decode cL_law 552 = .ok (.iload_n 3, 1) := dk_29 (dk_at dksL_law_17 21 rfl rfl)
theorem dL_law_553 : decode cL_law 553 = .ok (.iconst 1, 1) := dk_4 (dk_at dksL_law_17 22 rfl rfl)
theorem dL_law_554 : decode cL_law 554 = .ok (.iadd, 1) := dk_96 (dk_at dksL_law_17 23 rfl rfl)
theorem dL_law_555 : decode cL_law 555 = .ok (.iaload, 1) := dk_46 (dk_at dksL_law_18 0 rfl rfl)
theorem dL_law_556 : decode cL_law 556 = .ok (.aload_n 0, 1) := dk_42 (dk_at dksL_law_18 1 rfl rfl)
theorem dL_law_557 : decode cL_law 557 = .ok (.iload_n 3, 1) := dk_29 (dk_at dksL_law_18 2 rfl rfl)
theorem dL_law_558 : decode cL_law 558 = .ok (.iconst 2, 1) := dk_5 (dk_at dksL_law_18 3 rfl rfl)
theorem dL_law_559 : decode cL_law 559 = .ok (.iadd, 1) := dk_96 (dk_at dksL_law_18 4 rfl rfl)
theorem dL_law_560 : decode cL_law 560 = .ok (.iaload, 1) := dk_46 (dk_at dksL_law_18 5 rfl rfl)
theorem dL_law_561 : decode cL_law 561 = .ok (.aload_n 0, 1) := dk_42 (dk_at dksL_law_18 6 rfl rfl)
theorem dL_law_562 : decode cL_law 562 = .ok (.iload_n 3, 1) := dk_29 (dk_at dksL_law_18 7 rfl rfl)
theorem dL_law_563 : decode cL_law 563 = .ok (.iconst 3, 1) := dk_6 (dk_at dksL_law_18 8 rfl rfl)
theorem dL_law_564 : decode cL_law 564 = .ok (.iadd, 1) := dk_96 (dk_at dksL_law_18 9 rfl rfl)
theorem dL_law_565 : decode cL_law 565 = .ok (.iaload, 1) := dk_46 (dk_at dksL_law_18 10 rfl rfl)
theorem dL_law_566 : decode cL_law 566 = .ok (.invokevirtual 57, 3) := dk_182 0 57 (dk_at dksL_law_18 11 rfl rfl)
theorem dL_law_569 : decode cL_law 569 = .ok (.aload_n 2, 1) := dk_44 (dk_at dksL_law_18 14 rfl rfl)
theorem dL_law_570 : decode cL_law 570 = .ok (.aload_n 0, 1) := dk_42 (dk_at dksL_law_18 15 rfl rfl)
theorem dL_law_571 : decode cL_law 571 = .ok (.iload_n 3, 1) := dk_29 (dk_at dksL_law_18 16 rfl rfl)
theorem dL_law_572 : decode cL_law 572 = .ok (.iconst 1, 1) := dk_4 (dk_at dksL_law_18 17 rfl rfl)
theorem dL_law_573 : decode cL_law 573 = .ok (.iadd, 1) := dk_96 (dk_at dksL_law_18 18 rfl rfl)
theorem dL_law_574 : decode cL_law 574 = .ok (.iaload, 1) := dk_46 (dk_at dksL_law_18 19 rfl rfl)
theorem dL_law_575 : decode cL_law 575 = .ok (.aload_n 0, 1) := dk_42 (dk_at dksL_law_18 20 rfl rfl)
theorem dL_law_576 : decode cL_law 576 = .ok (.iload_n 3, 1) := dk_29 (dk_at dksL_law_18 21 rfl rfl)
theorem dL_law_577 : decode cL_law 577 = .ok (.iconst 2, 1) := dk_5 (dk_at dksL_law_18 22 rfl rfl)
theorem dL_law_578 : decode cL_law 578 = .ok (.iadd, 1) := dk_96 (dk_at dksL_law_18 23 rfl rfl)
theorem dL_law_579 : decode cL_law 579 = .ok (.iaload, 1) := dk_46 (dk_at dksL_law_19 0 rfl rfl)
theorem dL_law_580 : decode cL_law 580 = .ok (.aload_n 0, 1) := dk_42 (dk_at dksL_law_19 1 rfl rfl)
theorem dL_law_581 : decode cL_law 581 = .ok (.iload_n 3, 1) := dk_29 (dk_at dksL_law_19 2 rfl rfl)
theorem dL_law_582 : decode cL_law 582 = .ok (.iconst 3, 1) := dk_6 (dk_at dksL_law_19 3 rfl rfl)
theorem dL_law_583 : decode cL_law 583 = .ok (.iadd, 1) := dk_96 (dk_at dksL_law_19 4 rfl rfl)
theorem dL_law_584 : decode cL_law 584 = .ok (.iaload, 1) := dk_46 (dk_at dksL_law_19 5 rfl rfl)
theorem dL_law_585 : decode cL_law 585 = .ok (.invokevirtual 60, 3) := dk_182 0 60 (dk_at dksL_law_19 6 rfl rfl)
theorem dL_law_588 : decode cL_law 588 = .ok (.if_icmp .eq 907, 3) := dk_159 3 139 (dk_at dksL_law_19 9 rfl rfl)
theorem dL_law_591 : decode cL_law 591 = .ok (.iconst 0, 1) := dk_3 (dk_at dksL_law_19 12 rfl rfl)
theorem dL_law_592 : decode cL_law 592 = .ok (.ireturn, 1) := dk_172 (dk_at dksL_law_19 13 rfl rfl)
theorem dL_law_593 : decode cL_law 593 = .ok (.aload_n 1, 1) := dk_43 (dk_at dksL_law_19 14 rfl rfl)
theorem dL_law_594 : decode cL_law 594 = .ok (.aload_n 0, 1) := dk_42 (dk_at dksL_law_19 15 rfl rfl)
theorem dL_law_595 : decode cL_law 595 = .ok (.iload_n 3, 1) := dk_29 (dk_at dksL_law_19 16 rfl rfl)
theorem dL_law_596 : decode cL_law 596 = .ok (.iconst 1, 1) := dk_4 (dk_at dksL_law_19 17 rfl rfl)
theorem dL_law_597 : decode cL_law 597 = .ok (.iadd, 1) := dk_96 (dk_at dksL_law_19 18 rfl rfl)
theorem dL_law_598 : decode cL_law 598 = .ok (.iaload, 1) := dk_46 (dk_at dksL_law_19 19 rfl rfl)
theorem dL_law_599 : decode cL_law 599 = .ok (.aload_n 0, 1) := dk_42 (dk_at dksL_law_19 20 rfl rfl)
theorem dL_law_600 : decode cL_law 600 = .ok (.iload_n 3, 1) := dk_29 (dk_at dksL_law_19 21 rfl rfl)
theorem dL_law_601 : decode cL_law 601 = .ok (.iconst 2, 1) := dk_5 (dk_at dksL_law_19 22 rfl rfl)
theorem dL_law_602 : decode cL_law 602 = .ok (.iadd, 1) := dk_96 (dk_at dksL_law_19 23 rfl rfl)
theorem dL_law_603 : decode cL_law 603 = .ok (.iaload, 1) := dk_46 (dk_at dksL_law_20 0 rfl rfl)
theorem dL_law_604 : decode cL_law 604 = .ok (.aload_n 0, 1) := dk_42 (dk_at dksL_law_20 1 rfl rfl)
theorem dL_law_605 : decode cL_law 605 = .ok (.iload_n 3, 1) := dk_29 (dk_at dksL_law_20 2 rfl rfl)
theorem dL_law_606 : decode cL_law 606 = .ok (.iconst 3, 1) := dk_6 (dk_at dksL_law_20 3 rfl rfl)
theorem dL_law_607 : decode cL_law 607 = .ok (.iadd, 1) := dk_96 (dk_at dksL_law_20 4 rfl rfl)
theorem dL_law_608 : decode cL_law 608 = .ok (.iaload, 1) := dk_46 (dk_at dksL_law_20 5 rfl rfl)
theorem dL_law_609 : decode cL_law 609 = .ok (.aload_n 0, 1) := dk_42 (dk_at dksL_law_20 6 rfl rfl)
theorem dL_law_610 : decode cL_law 610 = .ok (.iload_n 3, 1) := dk_29 (dk_at dksL_law_20 7 rfl rfl)
theorem dL_law_611 : decode cL_law 611 = .ok (.iconst 4, 1) := dk_7 (dk_at dksL_law_20 8 rfl rfl)
theorem dL_law_612 : decode cL_law 612 = .ok (.iadd, 1) := dk_96 (dk_at dksL_law_20 9 rfl rfl)
theorem dL_law_613 : decode cL_law 613 = .ok (.iaload, 1) := dk_46 (dk_at dksL_law_20 10 rfl rfl)
theorem dL_law_614 : decode cL_law 614 = .ok (.invokevirtual 61, 3) := dk_182 0 61 (dk_at dksL_law_20 11 rfl rfl)
theorem dL_law_617 : decode cL_law 617 = .ok (.aload_n 2, 1) := dk_44 (dk_at dksL_law_20 14 rfl rfl)
theorem dL_law_618 : decode cL_law 618 = .ok (.aload_n 0, 1) := dk_42 (dk_at dksL_law_20 15 rfl rfl)
theorem dL_law_619 : decode cL_law 619 = .ok (.iload_n 3, 1) := dk_29 (dk_at dksL_law_20 16 rfl rfl)
theorem dL_law_620 : decode cL_law 620 = .ok (.iconst 1, 1) := dk_4 (dk_at dksL_law_20 17 rfl rfl)
theorem dL_law_621 : decode cL_law 621 = .ok (.iadd, 1) := dk_96 (dk_at dksL_law_20 18 rfl rfl)
theorem dL_law_622 : decode cL_law 622 = .ok (.iaload, 1) := dk_46 (dk_at dksL_law_20 19 rfl rfl)
theorem dL_law_623 : decode cL_law 623 = .ok (.aload_n 0, 1) := dk_42 (dk_at dksL_law_20 20 rfl rfl)
theorem dL_law_624 : decode cL_law 624 = .ok (.iload_n 3, 1) := dk_29 (dk_at dksL_law_20 21 rfl rfl)
theorem dL_law_625 : decode cL_law 625 = .ok (.iconst 2, 1) := dk_5 (dk_at dksL_law_20 22 rfl rfl)
theorem dL_law_626 : decode cL_law 626 = .ok (.iadd, 1) := dk_96 (dk_at dksL_law_20 23 rfl rfl)
theorem dL_law_627 : decode cL_law 627 = .ok (.iaload, 1) := dk_46 (dk_at dksL_law_21 0 rfl rfl)
theorem dL_law_628 : decode cL_law 628 = .ok (.aload_n 0, 1) := dk_42 (dk_at dksL_law_21 1 rfl rfl)
theorem dL_law_629 : decode cL_law 629 = .ok (.iload_n 3, 1) := dk_29 (dk_at dksL_law_21 2 rfl rfl)
theorem dL_law_630 : decode cL_law 630 = .ok (.iconst 3, 1) := dk_6 (dk_at dksL_law_21 3 rfl rfl)
theorem dL_law_631 : decode cL_law 631 = .ok (.iadd, 1) := dk_96 (dk_at dksL_law_21 4 rfl rfl)
theorem dL_law_632 : decode cL_law 632 = .ok (.iaload, 1) := dk_46 (dk_at dksL_law_21 5 rfl rfl)
theorem dL_law_633 : decode cL_law 633 = .ok (.aload_n 0, 1) := dk_42 (dk_at dksL_law_21 6 rfl rfl)
theorem dL_law_634 : decode cL_law 634 = .ok (.iload_n 3, 1) := dk_29 (dk_at dksL_law_21 7 rfl rfl)
theorem dL_law_635 : decode cL_law 635 = .ok (.iconst 4, 1) := dk_7 (dk_at dksL_law_21 8 rfl rfl)
theorem dL_law_636 : decode cL_law 636 = .ok (.iadd, 1) := dk_96 (dk_at dksL_law_21 9 rfl rfl)
theorem dL_law_637 : decode cL_law 637 = .ok (.iaload, 1) := dk_46 (dk_at dksL_law_21 10 rfl rfl)
theorem dL_law_638 : decode cL_law 638 = .ok (.invokevirtual 65, 3) := dk_182 0 65 (dk_at dksL_law_21 11 rfl rfl)
theorem dL_law_641 : decode cL_law 641 = .ok (.if_icmp .eq 854, 3) := dk_159 3 86 (dk_at dksL_law_21 14 rfl rfl)
theorem dL_law_644 : decode cL_law 644 = .ok (.iconst 0, 1) := dk_3 (dk_at dksL_law_21 17 rfl rfl)
theorem dL_law_645 : decode cL_law 645 = .ok (.ireturn, 1) := dk_172 (dk_at dksL_law_21 18 rfl rfl)
theorem dL_law_646 : decode cL_law 646 = .ok (.aload_n 1, 1) := dk_43 (dk_at dksL_law_21 19 rfl rfl)
theorem dL_law_647 : decode cL_law 647 = .ok (.aload_n 0, 1) := dk_42 (dk_at dksL_law_21 20 rfl rfl)
theorem dL_law_648 : decode cL_law 648 = .ok (.iload_n 3, 1) := dk_29 (dk_at dksL_law_21 21 rfl rfl)
theorem dL_law_649 : decode cL_law 649 = .ok (.iconst 1, 1) := dk_4 (dk_at dksL_law_21 22 rfl rfl)
theorem dL_law_650 : decode cL_law 650 = .ok (.iadd, 1) := dk_96 (dk_at dksL_law_21 23 rfl rfl)
theorem dL_law_651 : decode cL_law 651 = .ok (.iaload, 1) := dk_46 (dk_at dksL_law_22 0 rfl rfl)
theorem dL_law_652 : decode cL_law 652 = .ok (.aload_n 0, 1) := dk_42 (dk_at dksL_law_22 1 rfl rfl)
theorem dL_law_653 : decode cL_law 653 = .ok (.iload_n 3, 1) := dk_29 (dk_at dksL_law_22 2 rfl rfl)
theorem dL_law_654 : decode cL_law 654 = .ok (.iconst 2, 1) := dk_5 (dk_at dksL_law_22 3 rfl rfl)
theorem dL_law_655 : decode cL_law 655 = .ok (.iadd, 1) := dk_96 (dk_at dksL_law_22 4 rfl rfl)
theorem dL_law_656 : decode cL_law 656 = .ok (.iaload, 1) := dk_46 (dk_at dksL_law_22 5 rfl rfl)
theorem dL_law_657 : decode cL_law 657 = .ok (.aload_n 0, 1) := dk_42 (dk_at dksL_law_22 6 rfl rfl)
theorem dL_law_658 : decode cL_law 658 = .ok (.iload_n 3, 1) := dk_29 (dk_at dksL_law_22 7 rfl rfl)
theorem dL_law_659 : decode cL_law 659 = .ok (.iconst 3, 1) := dk_6 (dk_at dksL_law_22 8 rfl rfl)
theorem dL_law_660 : decode cL_law 660 = .ok (.iadd, 1) := dk_96 (dk_at dksL_law_22 9 rfl rfl)
theorem dL_law_661 : decode cL_law 661 = .ok (.iaload, 1) := dk_46 (dk_at dksL_law_22 10 rfl rfl)
theorem dL_law_662 : decode cL_law 662 = .ok (.invokevirtual 66, 3) := dk_182 0 66 (dk_at dksL_law_22 11 rfl rfl)
theorem dL_law_665 : decode cL_law 665 = .ok (.aload_n 2, 1) := dk_44 (dk_at dksL_law_22 14 rfl rfl)
theorem dL_law_666 : decode cL_law 666 = .ok (.aload_n 0, 1) := dk_42 (dk_at dksL_law_22 15 rfl rfl)
theorem dL_law_667 : decode cL_law 667 = .ok (.iload_n 3, 1) := dk_29 (dk_at dksL_law_22 16 rfl rfl)
theorem dL_law_668 : decode cL_law 668 = .ok (.iconst 1, 1) := dk_4 (dk_at dksL_law_22 17 rfl rfl)
theorem dL_law_669 : decode cL_law 669 = .ok (.iadd, 1) := dk_96 (dk_at dksL_law_22 18 rfl rfl)
theorem dL_law_670 : decode cL_law 670 = .ok (.iaload, 1) := dk_46 (dk_at dksL_law_22 19 rfl rfl)
theorem dL_law_671 : decode cL_law 671 = .ok (.aload_n 0, 1) := dk_42 (dk_at dksL_law_22 20 rfl rfl)
theorem dL_law_672 : decode cL_law 672 = .ok (.iload_n 3, 1) := dk_29 (dk_at dksL_law_22 21 rfl rfl)
theorem dL_law_673 : decode cL_law 673 = .ok (.iconst 2, 1) := dk_5 (dk_at dksL_law_22 22 rfl rfl)
theorem dL_law_674 : decode cL_law 674 = .ok (.iadd, 1) := dk_96 (dk_at dksL_law_22 23 rfl rfl)
theorem dL_law_675 : decode cL_law 675 = .ok (.iaload, 1) := dk_46 (dk_at dksL_law_23 0 rfl rfl)
theorem dL_law_676 : decode cL_law 676 = .ok (.aload_n 0, 1) := dk_42 (dk_at dksL_law_23 1 rfl rfl)
theorem dL_law_677 : decode cL_law 677 = .ok (.iload_n 3, 1) := dk_29 (dk_at dksL_law_23 2 rfl rfl)
theorem dL_law_678 : decode cL_law 678 = .ok (.iconst 3, 1) := dk_6 (dk_at dksL_law_23 3 rfl rfl)
theorem dL_law_679 : decode cL_law 679 = .ok (.iadd, 1) := dk_96 (dk_at dksL_law_23 4 rfl rfl)
theorem dL_law_680 : decode cL_law 680 = .ok (.iaload, 1) := dk_46 (dk_at dksL_law_23 5 rfl rfl)
theorem dL_law_681 : decode cL_law 681 = .ok (.invokevirtual 69, 3) := dk_182 0 69 (dk_at dksL_law_23 6 rfl rfl)
theorem dL_law_684 : decode cL_law 684 = .ok (.if_icmp .eq 811, 3) := dk_159 3 43 (dk_at dksL_law_23 9 rfl rfl)
theorem dL_law_687 : decode cL_law 687 = .ok (.iconst 0, 1) := dk_3 (dk_at dksL_law_23 12 rfl rfl)
theorem dL_law_688 : decode cL_law 688 = .ok (.ireturn, 1) := dk_172 (dk_at dksL_law_23 13 rfl rfl)
theorem dL_law_689 : decode cL_law 689 = .ok (.aload_n 1, 1) := dk_43 (dk_at dksL_law_23 14 rfl rfl)
theorem dL_law_690 : decode cL_law 690 = .ok (.aload_n 0, 1) := dk_42 (dk_at dksL_law_23 15 rfl rfl)
theorem dL_law_691 : decode cL_law 691 = .ok (.iload_n 3, 1) := dk_29 (dk_at dksL_law_23 16 rfl rfl)
theorem dL_law_692 : decode cL_law 692 = .ok (.iconst 1, 1) := dk_4 (dk_at dksL_law_23 17 rfl rfl)
theorem dL_law_693 : decode cL_law 693 = .ok (.iadd, 1) := dk_96 (dk_at dksL_law_23 18 rfl rfl)
theorem dL_law_694 : decode cL_law 694 = .ok (.iaload, 1) := dk_46 (dk_at dksL_law_23 19 rfl rfl)
theorem dL_law_695 : decode cL_law 695 = .ok (.aload_n 0, 1) := dk_42 (dk_at dksL_law_23 20 rfl rfl)
theorem dL_law_696 : decode cL_law 696 = .ok (.iload_n 3, 1) := dk_29 (dk_at dksL_law_23 21 rfl rfl)
theorem dL_law_697 : decode cL_law 697 = .ok (.iconst 2, 1) := dk_5 (dk_at dksL_law_23 22 rfl rfl)
theorem dL_law_698 : decode cL_law 698 = .ok (.iadd, 1) := dk_96 (dk_at dksL_law_23 23 rfl rfl)
theorem dL_law_699 : decode cL_law 699 = .ok (.iaload, 1) := dk_46 (dk_at dksL_law_24 0 rfl rfl)
theorem dL_law_700 : decode cL_law 700 = .ok (.aload_n 0, 1) := dk_42 (dk_at dksL_law_24 1 rfl rfl)
theorem dL_law_701 : decode cL_law 701 = .ok (.iload_n 3, 1) := dk_29 (dk_at dksL_law_24 2 rfl rfl)
theorem dL_law_702 : decode cL_law 702 = .ok (.iconst 3, 1) := dk_6 (dk_at dksL_law_24 3 rfl rfl)
theorem dL_law_703 : decode cL_law 703 = .ok (.iadd, 1) := dk_96 (dk_at dksL_law_24 4 rfl rfl)
theorem dL_law_704 : decode cL_law 704 = .ok (.iaload, 1) := dk_46 (dk_at dksL_law_24 5 rfl rfl)
theorem dL_law_705 : decode cL_law 705 = .ok (.invokevirtual 70, 3) := dk_182 0 70 (dk_at dksL_law_24 6 rfl rfl)
theorem dL_law_708 : decode cL_law 708 = .ok (.aload_n 2, 1) := dk_44 (dk_at dksL_law_24 9 rfl rfl)
theorem dL_law_709 : decode cL_law 709 = .ok (.aload_n 0, 1) := dk_42 (dk_at dksL_law_24 10 rfl rfl)
theorem dL_law_710 : decode cL_law 710 = .ok (.iload_n 3, 1) := dk_29 (dk_at dksL_law_24 11 rfl rfl)
theorem dL_law_711 : decode cL_law 711 = .ok (.iconst 1, 1) := dk_4 (dk_at dksL_law_24 12 rfl rfl)
theorem dL_law_712 : decode cL_law 712 = .ok (.iadd, 1) := dk_96 (dk_at dksL_law_24 13 rfl rfl)
theorem dL_law_713 : decode cL_law 713 = .ok (.iaload, 1) := dk_46 (dk_at dksL_law_24 14 rfl rfl)
theorem dL_law_714 : decode cL_law 714 = .ok (.aload_n 0, 1) := dk_42 (dk_at dksL_law_24 15 rfl rfl)
theorem dL_law_715 : decode cL_law 715 = .ok (.iload_n 3, 1) := dk_29 (dk_at dksL_law_24 16 rfl rfl)
theorem dL_law_716 : decode cL_law 716 = .ok (.iconst 2, 1) := dk_5 (dk_at dksL_law_24 17 rfl rfl)
theorem dL_law_717 : decode cL_law 717 = .ok (.iadd, 1) := dk_96 (dk_at dksL_law_24 18 rfl rfl)
theorem dL_law_718 : decode cL_law 718 = .ok (.iaload, 1) := dk_46 (dk_at dksL_law_24 19 rfl rfl)
theorem dL_law_719 : decode cL_law 719 = .ok (.aload_n 0, 1) := dk_42 (dk_at dksL_law_24 20 rfl rfl)
theorem dL_law_720 : decode cL_law 720 = .ok (.iload_n 3, 1) := dk_29 (dk_at dksL_law_24 21 rfl rfl)
theorem dL_law_721 : decode cL_law 721 = .ok (.iconst 3, 1) := dk_6 (dk_at dksL_law_24 22 rfl rfl)
theorem dL_law_722 : decode cL_law 722 = .ok (.iadd, 1) := dk_96 (dk_at dksL_law_24 23 rfl rfl)
theorem dL_law_723 : decode cL_law 723 = .ok (.iaload, 1) := dk_46 (dk_at dksL_law_25 0 rfl rfl)
theorem dL_law_724 : decode cL_law 724 = .ok (.invokevirtual 73, 3) := dk_182 0 73 (dk_at dksL_law_25 1 rfl rfl)
theorem dL_law_727 : decode cL_law 727 = .ok (.if_icmp .eq 768, 3) := dk_159 3 0 (dk_at dksL_law_25 4 rfl rfl)
theorem dL_law_730 : decode cL_law 730 = .ok (.iconst 0, 1) := dk_3 (dk_at dksL_law_25 7 rfl rfl)
theorem dL_law_731 : decode cL_law 731 = .ok (.ireturn, 1) := dk_172 (dk_at dksL_law_25 8 rfl rfl)
theorem dL_law_732 : decode cL_law 732 = .ok (.aload_n 1, 1) := dk_43 (dk_at dksL_law_25 9 rfl rfl)
theorem dL_law_733 : decode cL_law 733 = .ok (.aload_n 0, 1) := dk_42 (dk_at dksL_law_25 10 rfl rfl)
theorem dL_law_734 : decode cL_law 734 = .ok (.iload_n 3, 1) := dk_29 (dk_at dksL_law_25 11 rfl rfl)
theorem dL_law_735 : decode cL_law 735 = .ok (.iconst 1, 1) := dk_4 (dk_at dksL_law_25 12 rfl rfl)
theorem dL_law_736 : decode cL_law 736 = .ok (.iadd, 1) := dk_96 (dk_at dksL_law_25 13 rfl rfl)
theorem dL_law_737 : decode cL_law 737 = .ok (.iaload, 1) := dk_46 (dk_at dksL_law_25 14 rfl rfl)
theorem dL_law_738 : decode cL_law 738 = .ok (.aload_n 0, 1) := dk_42 (dk_at dksL_law_25 15 rfl rfl)
theorem dL_law_739 : decode cL_law 739 = .ok (.iload_n 3, 1) := dk_29 (dk_at dksL_law_25 16 rfl rfl)
theorem dL_law_740 : decode cL_law 740 = .ok (.iconst 2, 1) := dk_5 (dk_at dksL_law_25 17 rfl rfl)
theorem dL_law_741 : decode cL_law 741 = .ok (.iadd, 1) := dk_96 (dk_at dksL_law_25 18 rfl rfl)
theorem dL_law_742 : decode cL_law 742 = .ok (.iaload, 1) := dk_46 (dk_at dksL_law_25 19 rfl rfl)
theorem dL_law_743 : decode cL_law 743 = .ok (.invokevirtual 74, 3) := dk_182 0 74 (dk_at dksL_law_25 20 rfl rfl)
theorem dL_law_746 : decode cL_law 746 = .ok (.aload_n 2, 1) := dk_44 (dk_at dksL_law_25 23 rfl rfl)
theorem dL_law_747 : decode cL_law 747 = .ok (.aload_n 0, 1) := dk_42 (dk_at dksL_law_26 0 rfl rfl)
theorem dL_law_748 : decode cL_law 748 = .ok (.iload_n 3, 1) := dk_29 (dk_at dksL_law_26 1 rfl rfl)
theorem dL_law_749 : decode cL_law 749 = .ok (.iconst 1, 1) := dk_4 (dk_at dksL_law_26 2 rfl rfl)
theorem dL_law_750 : decode cL_law 750 = .ok (.iadd, 1) := dk_96 (dk_at dksL_law_26 3 rfl rfl)
theorem dL_law_751 : decode cL_law 751 = .ok (.iaload, 1) := dk_46 (dk_at dksL_law_26 4 rfl rfl)
theorem dL_law_752 : decode cL_law 752 = .ok (.aload_n 0, 1) := dk_42 (dk_at dksL_law_26 5 rfl rfl)
theorem dL_law_753 : decode cL_law 753 = .ok (.iload_n 3, 1) := dk_29 (dk_at dksL_law_26 6 rfl rfl)
theorem dL_law_754 : decode cL_law 754 = .ok (.iconst 2, 1) := dk_5 (dk_at dksL_law_26 7 rfl rfl)
theorem dL_law_755 : decode cL_law 755 = .ok (.iadd, 1) := dk_96 (dk_at dksL_law_26 8 rfl rfl)
theorem dL_law_756 : decode cL_law 756 = .ok (.iaload, 1) := dk_46 (dk_at dksL_law_26 9 rfl rfl)
theorem dL_law_757 : decode cL_law 757 = .ok (.invokevirtual 77, 3) := dk_182 0 77 (dk_at dksL_law_26 10 rfl rfl)
theorem dL_law_760 : decode cL_law 760 = .ok (.if_icmp .eq 735, 3) := dk_159 2 223 (dk_at dksL_law_26 13 rfl rfl)
theorem dL_law_763 : decode cL_law 763 = .ok (.iconst 0, 1) := dk_3 (dk_at dksL_law_26 16 rfl rfl)
theorem dL_law_764 : decode cL_law 764 = .ok (.ireturn, 1) := dk_172 (dk_at dksL_law_26 17 rfl rfl)
theorem dL_law_765 : decode cL_law 765 = .ok (.aload_n 1, 1) := dk_43 (dk_at dksL_law_26 18 rfl rfl)
theorem dL_law_766 : decode cL_law 766 = .ok (.aload_n 0, 1) := dk_42 (dk_at dksL_law_26 19 rfl rfl)
theorem dL_law_767 : decode cL_law 767 = .ok (.iload_n 3, 1) := dk_29 (dk_at dksL_law_26 20 rfl rfl)
theorem dL_law_768 : decode cL_law 768 = .ok (.iconst 1, 1) := dk_4 (dk_at dksL_law_26 21 rfl rfl)
theorem dL_law_769 : decode cL_law 769 = .ok (.iadd, 1) := dk_96 (dk_at dksL_law_26 22 rfl rfl)
theorem dL_law_770 : decode cL_law 770 = .ok (.iaload, 1) := dk_46 (dk_at dksL_law_26 23 rfl rfl)
theorem dL_law_771 : decode cL_law 771 = .ok (.aload_n 0, 1) := dk_42 (dk_at dksL_law_27 0 rfl rfl)
theorem dL_law_772 : decode cL_law 772 = .ok (.iload_n 3, 1) := dk_29 (dk_at dksL_law_27 1 rfl rfl)
theorem dL_law_773 : decode cL_law 773 = .ok (.iconst 2, 1) := dk_5 (dk_at dksL_law_27 2 rfl rfl)
theorem dL_law_774 : decode cL_law 774 = .ok (.iadd, 1) := dk_96 (dk_at dksL_law_27 3 rfl rfl)
theorem dL_law_775 : decode cL_law 775 = .ok (.iaload, 1) := dk_46 (dk_at dksL_law_27 4 rfl rfl)
theorem dL_law_776 : decode cL_law 776 = .ok (.invokevirtual 78, 3) := dk_182 0 78 (dk_at dksL_law_27 5 rfl rfl)
theorem dL_law_779 : decode cL_law 779 = .ok (.aload_n 2, 1) := dk_44 (dk_at dksL_law_27 8 rfl rfl)
theorem dL_law_780 : decode cL_law 780 = .ok (.aload_n 0, 1) := dk_42 (dk_at dksL_law_27 9 rfl rfl)
theorem dL_law_781 : decode cL_law 781 = .ok (.iload_n 3, 1) := dk_29 (dk_at dksL_law_27 10 rfl rfl)
theorem dL_law_782 : decode cL_law 782 = .ok (.iconst 1, 1) := dk_4 (dk_at dksL_law_27 11 rfl rfl)
theorem dL_law_783 : decode cL_law 783 = .ok (.iadd, 1) := dk_96 (dk_at dksL_law_27 12 rfl rfl)
theorem dL_law_784 : decode cL_law 784 = .ok (.iaload, 1) := dk_46 (dk_at dksL_law_27 13 rfl rfl)
theorem dL_law_785 : decode cL_law 785 = .ok (.aload_n 0, 1) := dk_42 (dk_at dksL_law_27 14 rfl rfl)
theorem dL_law_786 : decode cL_law 786 = .ok (.iload_n 3, 1) := dk_29 (dk_at dksL_law_27 15 rfl rfl)
theorem dL_law_787 : decode cL_law 787 = .ok (.iconst 2, 1) := dk_5 (dk_at dksL_law_27 16 rfl rfl)
theorem dL_law_788 : decode cL_law 788 = .ok (.iadd, 1) := dk_96 (dk_at dksL_law_27 17 rfl rfl)
theorem dL_law_789 : decode cL_law 789 = .ok (.iaload, 1) := dk_46 (dk_at dksL_law_27 18 rfl rfl)
theorem dL_law_790 : decode cL_law 790 = .ok (.invokevirtual 81, 3) := dk_182 0 81 (dk_at dksL_law_27 19 rfl rfl)
theorem dL_law_793 : decode cL_law 793 = .ok (.if_icmp .eq 702, 3) := dk_159 2 190 (dk_at dksL_law_28 0 rfl rfl)
theorem dL_law_796 : decode cL_law 796 = .ok (.iconst 0, 1) := dk_3 (dk_at dksL_law_28 3 rfl rfl)
theorem dL_law_797 : decode cL_law 797 = .ok (.ireturn, 1) := dk_172 (dk_at dksL_law_28 4 rfl rfl)
theorem dL_law_798 : decode cL_law 798 = .ok (.aload_n 1, 1) := dk_43 (dk_at dksL_law_28 5 rfl rfl)
theorem dL_law_799 : decode cL_law 799 = .ok (.aload_n 0, 1) := dk_42 (dk_at dksL_law_28 6 rfl rfl)
theorem dL_law_800 : decode cL_law 800 = .ok (.iload_n 3, 1) := dk_29 (dk_at dksL_law_28 7 rfl rfl)
theorem dL_law_801 : decode cL_law 801 = .ok (.iconst 1, 1) := dk_4 (dk_at dksL_law_28 8 rfl rfl)
theorem dL_law_802 : decode cL_law 802 = .ok (.iadd, 1) := dk_96 (dk_at dksL_law_28 9 rfl rfl)
theorem dL_law_803 : decode cL_law 803 = .ok (.iaload, 1) := dk_46 (dk_at dksL_law_28 10 rfl rfl)
theorem dL_law_804 : decode cL_law 804 = .ok (.invokevirtual 82, 3) := dk_182 0 82 (dk_at dksL_law_28 11 rfl rfl)
theorem dL_law_807 : decode cL_law 807 = .ok (.aload_n 2, 1) := dk_44 (dk_at dksL_law_28 14 rfl rfl)
theorem dL_law_808 : decode cL_law 808 = .ok (.aload_n 0, 1) := dk_42 (dk_at dksL_law_28 15 rfl rfl)
theorem dL_law_809 : decode cL_law 809 = .ok (.iload_n 3, 1) := dk_29 (dk_at dksL_law_28 16 rfl rfl)
theorem dL_law_810 : decode cL_law 810 = .ok (.iconst 1, 1) := dk_4 (dk_at dksL_law_28 17 rfl rfl)
theorem dL_law_811 : decode cL_law 811 = .ok (.iadd, 1) := dk_96 (dk_at dksL_law_28 18 rfl rfl)
theorem dL_law_812 : decode cL_law 812 = .ok (.iaload, 1) := dk_46 (dk_at dksL_law_28 19 rfl rfl)
theorem dL_law_813 : decode cL_law 813 = .ok (.invokevirtual 85, 3) := dk_182 0 85 (dk_at dksL_law_28 20 rfl rfl)
theorem dL_law_816 : decode cL_law 816 = .ok (.if_icmp .eq 679, 3) := dk_159 2 167 (dk_at dksL_law_29 0 rfl rfl)
theorem dL_law_819 : decode cL_law 819 = .ok (.iconst 0, 1) := dk_3 (dk_at dksL_law_29 3 rfl rfl)
theorem dL_law_820 : decode cL_law 820 = .ok (.ireturn, 1) := dk_172 (dk_at dksL_law_29 4 rfl rfl)
theorem dL_law_821 : decode cL_law 821 = .ok (.aload_n 1, 1) := dk_43 (dk_at dksL_law_29 5 rfl rfl)
theorem dL_law_822 : decode cL_law 822 = .ok (.aload_n 0, 1) := dk_42 (dk_at dksL_law_29 6 rfl rfl)
theorem dL_law_823 : decode cL_law 823 = .ok (.iload_n 3, 1) := dk_29 (dk_at dksL_law_29 7 rfl rfl)
theorem dL_law_824 : decode cL_law 824 = .ok (.iconst 1, 1) := dk_4 (dk_at dksL_law_29 8 rfl rfl)
theorem dL_law_825 : decode cL_law 825 = .ok (.iadd, 1) := dk_96 (dk_at dksL_law_29 9 rfl rfl)
theorem dL_law_826 : decode cL_law 826 = .ok (.iaload, 1) := dk_46 (dk_at dksL_law_29 10 rfl rfl)
theorem dL_law_827 : decode cL_law 827 = .ok (.aload_n 0, 1) := dk_42 (dk_at dksL_law_29 11 rfl rfl)
theorem dL_law_828 : decode cL_law 828 = .ok (.iload_n 3, 1) := dk_29 (dk_at dksL_law_29 12 rfl rfl)
theorem dL_law_829 : decode cL_law 829 = .ok (.iconst 2, 1) := dk_5 (dk_at dksL_law_29 13 rfl rfl)
theorem dL_law_830 : decode cL_law 830 = .ok (.iadd, 1) := dk_96 (dk_at dksL_law_29 14 rfl rfl)
theorem dL_law_831 : decode cL_law 831 = .ok (.iaload, 1) := dk_46 (dk_at dksL_law_29 15 rfl rfl)
theorem dL_law_832 : decode cL_law 832 = .ok (.aload_n 0, 1) := dk_42 (dk_at dksL_law_29 16 rfl rfl)
theorem dL_law_833 : decode cL_law 833 = .ok (.iload_n 3, 1) := dk_29 (dk_at dksL_law_29 17 rfl rfl)
theorem dL_law_834 : decode cL_law 834 = .ok (.iconst 3, 1) := dk_6 (dk_at dksL_law_29 18 rfl rfl)
theorem dL_law_835 : decode cL_law 835 = .ok (.iadd, 1) := dk_96 (dk_at dksL_law_29 19 rfl rfl)
theorem dL_law_836 : decode cL_law 836 = .ok (.iaload, 1) := dk_46 (dk_at dksL_law_29 20 rfl rfl)
theorem dL_law_837 : decode cL_law 837 = .ok (.invokevirtual 86, 3) := dk_182 0 86 (dk_at dksL_law_29 21 rfl rfl)
theorem dL_law_840 : decode cL_law 840 = .ok (.aload_n 2, 1) := dk_44 (dk_at dksL_law_30 0 rfl rfl)
theorem dL_law_841 : decode cL_law 841 = .ok (.aload_n 0, 1) := dk_42 (dk_at dksL_law_30 1 rfl rfl)
theorem dL_law_842 : decode cL_law 842 = .ok (.iload_n 3, 1) := dk_29 (dk_at dksL_law_30 2 rfl rfl)
theorem dL_law_843 : decode cL_law 843 = .ok (.iconst 1, 1) := dk_4 (dk_at dksL_law_30 3 rfl rfl)
theorem dL_law_844 : decode cL_law 844 = .ok (.iadd, 1) := dk_96 (dk_at dksL_law_30 4 rfl rfl)
theorem dL_law_845 : decode cL_law 845 = .ok (.iaload, 1) := dk_46 (dk_at dksL_law_30 5 rfl rfl)
theorem dL_law_846 : decode cL_law 846 = .ok (.aload_n 0, 1) := dk_42 (dk_at dksL_law_30 6 rfl rfl)
theorem dL_law_847 : decode cL_law 847 = .ok (.iload_n 3, 1) := dk_29 (dk_at dksL_law_30 7 rfl rfl)
theorem dL_law_848 : decode cL_law 848 = .ok (.iconst 2, 1) := dk_5 (dk_at dksL_law_30 8 rfl rfl)
theorem dL_law_849 : decode cL_law 849 = .ok (.iadd, 1) := dk_96 (dk_at dksL_law_30 9 rfl rfl)
theorem dL_law_850 : decode cL_law 850 = .ok (.iaload, 1) := dk_46 (dk_at dksL_law_30 10 rfl rfl)
theorem dL_law_851 : decode cL_law 851 = .ok (.aload_n 0, 1) := dk_42 (dk_at dksL_law_30 11 rfl rfl)
theorem dL_law_852 : decode cL_law 852 = .ok (.iload_n 3, 1) := dk_29 (dk_at dksL_law_30 12 rfl rfl)
theorem dL_law_853 : decode cL_law 853 = .ok (.iconst 3, 1) := dk_6 (dk_at dksL_law_30 13 rfl rfl)
theorem dL_law_854 : decode cL_law 854 = .ok (.iadd, 1) := dk_96 (dk_at dksL_law_30 14 rfl rfl)
theorem dL_law_855 : decode cL_law 855 = .ok (.iaload, 1) := dk_46 (dk_at dksL_law_30 15 rfl rfl)
theorem dL_law_856 : decode cL_law 856 = .ok (.invokevirtual 89, 3) := dk_182 0 89 (dk_at dksL_law_30 16 rfl rfl)
theorem dL_law_859 : decode cL_law 859 = .ok (.if_icmp .eq 636, 3) := dk_159 2 124 (dk_at dksL_law_30 19 rfl rfl)
theorem dL_law_862 : decode cL_law 862 = .ok (.iconst 0, 1) := dk_3 (dk_at dksL_law_30 22 rfl rfl)
theorem dL_law_863 : decode cL_law 863 = .ok (.ireturn, 1) := dk_172 (dk_at dksL_law_30 23 rfl rfl)
theorem dL_law_864 : decode cL_law 864 = .ok (.aload_n 1, 1) := dk_43 (dk_at dksL_law_31 0 rfl rfl)
theorem dL_law_865 : decode cL_law 865 = .ok (.aload_n 0, 1) := dk_42 (dk_at dksL_law_31 1 rfl rfl)
theorem dL_law_866 : decode cL_law 866 = .ok (.iload_n 3, 1) := dk_29 (dk_at dksL_law_31 2 rfl rfl)
theorem dL_law_867 : decode cL_law 867 = .ok (.iconst 1, 1) := dk_4 (dk_at dksL_law_31 3 rfl rfl)
theorem dL_law_868 : decode cL_law 868 = .ok (.iadd, 1) := dk_96 (dk_at dksL_law_31 4 rfl rfl)
theorem dL_law_869 : decode cL_law 869 = .ok (.iaload, 1) := dk_46 (dk_at dksL_law_31 5 rfl rfl)
theorem dL_law_870 : decode cL_law 870 = .ok (.aload_n 0, 1) := dk_42 (dk_at dksL_law_31 6 rfl rfl)
theorem dL_law_871 : decode cL_law 871 = .ok (.iload_n 3, 1) := dk_29 (dk_at dksL_law_31 7 rfl rfl)
theorem dL_law_872 : decode cL_law 872 = .ok (.iconst 2, 1) := dk_5 (dk_at dksL_law_31 8 rfl rfl)
theorem dL_law_873 : decode cL_law 873 = .ok (.iadd, 1) := dk_96 (dk_at dksL_law_31 9 rfl rfl)
theorem dL_law_874 : decode cL_law 874 = .ok (.iaload, 1) := dk_46 (dk_at dksL_law_31 10 rfl rfl)
theorem dL_law_875 : decode cL_law 875 = .ok (.aload_n 0, 1) := dk_42 (dk_at dksL_law_31 11 rfl rfl)
theorem dL_law_876 : decode cL_law 876 = .ok (.iload_n 3, 1) := dk_29 (dk_at dksL_law_31 12 rfl rfl)
theorem dL_law_877 : decode cL_law 877 = .ok (.iconst 3, 1) := dk_6 (dk_at dksL_law_31 13 rfl rfl)
theorem dL_law_878 : decode cL_law 878 = .ok (.iadd, 1) := dk_96 (dk_at dksL_law_31 14 rfl rfl)
theorem dL_law_879 : decode cL_law 879 = .ok (.iaload, 1) := dk_46 (dk_at dksL_law_31 15 rfl rfl)
theorem dL_law_880 : decode cL_law 880 = .ok (.invokevirtual 90, 3) := dk_182 0 90 (dk_at dksL_law_31 16 rfl rfl)
theorem dL_law_883 : decode cL_law 883 = .ok (.aload_n 2, 1) := dk_44 (dk_at dksL_law_31 19 rfl rfl)
theorem dL_law_884 : decode cL_law 884 = .ok (.aload_n 0, 1) := dk_42 (dk_at dksL_law_31 20 rfl rfl)
theorem dL_law_885 : decode cL_law 885 = .ok (.iload_n 3, 1) := dk_29 (dk_at dksL_law_31 21 rfl rfl)
theorem dL_law_886 : decode cL_law 886 = .ok (.iconst 1, 1) := dk_4 (dk_at dksL_law_31 22 rfl rfl)
theorem dL_law_887 : decode cL_law 887 = .ok (.iadd, 1) := dk_96 (dk_at dksL_law_31 23 rfl rfl)
theorem dL_law_888 : decode cL_law 888 = .ok (.iaload, 1) := dk_46 (dk_at dksL_law_32 0 rfl rfl)
theorem dL_law_889 : decode cL_law 889 = .ok (.aload_n 0, 1) := dk_42 (dk_at dksL_law_32 1 rfl rfl)
theorem dL_law_890 : decode cL_law 890 = .ok (.iload_n 3, 1) := dk_29 (dk_at dksL_law_32 2 rfl rfl)
theorem dL_law_891 : decode cL_law 891 = .ok (.iconst 2, 1) := dk_5 (dk_at dksL_law_32 3 rfl rfl)
theorem dL_law_892 : decode cL_law 892 = .ok (.iadd, 1) := dk_96 (dk_at dksL_law_32 4 rfl rfl)
theorem dL_law_893 : decode cL_law 893 = .ok (.iaload, 1) := dk_46 (dk_at dksL_law_32 5 rfl rfl)
theorem dL_law_894 : decode cL_law 894 = .ok (.aload_n 0, 1) := dk_42 (dk_at dksL_law_32 6 rfl rfl)
theorem dL_law_895 : decode cL_law 895 = .ok (.iload_n 3, 1) := dk_29 (dk_at dksL_law_32 7 rfl rfl)
theorem dL_law_896 : decode cL_law 896 = .ok (.iconst 3, 1) := dk_6 (dk_at dksL_law_32 8 rfl rfl)
theorem dL_law_897 : decode cL_law 897 = .ok (.iadd, 1) := dk_96 (dk_at dksL_law_32 9 rfl rfl)
theorem dL_law_898 : decode cL_law 898 = .ok (.iaload, 1) := dk_46 (dk_at dksL_law_32 10 rfl rfl)
theorem dL_law_899 : decode cL_law 899 = .ok (.invokevirtual 93, 3) := dk_182 0 93 (dk_at dksL_law_32 11 rfl rfl)
theorem dL_law_902 : decode cL_law 902 = .ok (.if_icmp .eq 593, 3) := dk_159 2 81 (dk_at dksL_law_32 14 rfl rfl)
theorem dL_law_905 : decode cL_law 905 = .ok (.iconst 0, 1) := dk_3 (dk_at dksL_law_32 17 rfl rfl)
theorem dL_law_906 : decode cL_law 906 = .ok (.ireturn, 1) := dk_172 (dk_at dksL_law_32 18 rfl rfl)
theorem dL_law_907 : decode cL_law 907 = .ok (.aload_n 1, 1) := dk_43 (dk_at dksL_law_32 19 rfl rfl)
theorem dL_law_908 : decode cL_law 908 = .ok (.aload_n 0, 1) := dk_42 (dk_at dksL_law_32 20 rfl rfl)
theorem dL_law_909 : decode cL_law 909 = .ok (.iload_n 3, 1) := dk_29 (dk_at dksL_law_32 21 rfl rfl)
theorem dL_law_910 : decode cL_law 910 = .ok (.iconst 1, 1) := dk_4 (dk_at dksL_law_32 22 rfl rfl)
theorem dL_law_911 : decode cL_law 911 = .ok (.iadd, 1) := dk_96 (dk_at dksL_law_32 23 rfl rfl)
theorem dL_law_912 : decode cL_law 912 = .ok (.iaload, 1) := dk_46 (dk_at dksL_law_33 0 rfl rfl)
theorem dL_law_913 : decode cL_law 913 = .ok (.aload_n 0, 1) := dk_42 (dk_at dksL_law_33 1 rfl rfl)
theorem dL_law_914 : decode cL_law 914 = .ok (.iload_n 3, 1) := dk_29 (dk_at dksL_law_33 2 rfl rfl)
theorem dL_law_915 : decode cL_law 915 = .ok (.iconst 2, 1) := dk_5 (dk_at dksL_law_33 3 rfl rfl)
theorem dL_law_916 : decode cL_law 916 = .ok (.iadd, 1) := dk_96 (dk_at dksL_law_33 4 rfl rfl)
theorem dL_law_917 : decode cL_law 917 = .ok (.iaload, 1) := dk_46 (dk_at dksL_law_33 5 rfl rfl)
theorem dL_law_918 : decode cL_law 918 = .ok (.aload_n 0, 1) := dk_42 (dk_at dksL_law_33 6 rfl rfl)
theorem dL_law_919 : decode cL_law 919 = .ok (.iload_n 3, 1) := dk_29 (dk_at dksL_law_33 7 rfl rfl)
theorem dL_law_920 : decode cL_law 920 = .ok (.iconst 3, 1) := dk_6 (dk_at dksL_law_33 8 rfl rfl)
theorem dL_law_921 : decode cL_law 921 = .ok (.iadd, 1) := dk_96 (dk_at dksL_law_33 9 rfl rfl)
theorem dL_law_922 : decode cL_law 922 = .ok (.iaload, 1) := dk_46 (dk_at dksL_law_33 10 rfl rfl)
theorem dL_law_923 : decode cL_law 923 = .ok (.invokevirtual 94, 3) := dk_182 0 94 (dk_at dksL_law_33 11 rfl rfl)
theorem dL_law_926 : decode cL_law 926 = .ok (.aload_n 2, 1) := dk_44 (dk_at dksL_law_33 14 rfl rfl)
theorem dL_law_927 : decode cL_law 927 = .ok (.aload_n 0, 1) := dk_42 (dk_at dksL_law_33 15 rfl rfl)
theorem dL_law_928 : decode cL_law 928 = .ok (.iload_n 3, 1) := dk_29 (dk_at dksL_law_33 16 rfl rfl)
theorem dL_law_929 : decode cL_law 929 = .ok (.iconst 1, 1) := dk_4 (dk_at dksL_law_33 17 rfl rfl)
theorem dL_law_930 : decode cL_law 930 = .ok (.iadd, 1) := dk_96 (dk_at dksL_law_33 18 rfl rfl)
theorem dL_law_931 : decode cL_law 931 = .ok (.iaload, 1) := dk_46 (dk_at dksL_law_33 19 rfl rfl)
theorem dL_law_932 : decode cL_law 932 = .ok (.aload_n 0, 1) := dk_42 (dk_at dksL_law_33 20 rfl rfl)
theorem dL_law_933 : decode cL_law 933 = .ok (.iload_n 3, 1) := dk_29 (dk_at dksL_law_33 21 rfl rfl)
theorem dL_law_934 : decode cL_law 934 = .ok (.iconst 2, 1) := dk_5 (dk_at dksL_law_33 22 rfl rfl)
theorem dL_law_935 : decode cL_law 935 = .ok (.iadd, 1) := dk_96 (dk_at dksL_law_33 23 rfl rfl)
theorem dL_law_936 : decode cL_law 936 = .ok (.iaload, 1) := dk_46 (dk_at dksL_law_34 0 rfl rfl)
theorem dL_law_937 : decode cL_law 937 = .ok (.aload_n 0, 1) := dk_42 (dk_at dksL_law_34 1 rfl rfl)
theorem dL_law_938 : decode cL_law 938 = .ok (.iload_n 3, 1) := dk_29 (dk_at dksL_law_34 2 rfl rfl)
theorem dL_law_939 : decode cL_law 939 = .ok (.iconst 3, 1) := dk_6 (dk_at dksL_law_34 3 rfl rfl)
theorem dL_law_940 : decode cL_law 940 = .ok (.iadd, 1) := dk_96 (dk_at dksL_law_34 4 rfl rfl)
theorem dL_law_941 : decode cL_law 941 = .ok (.iaload, 1) := dk_46 (dk_at dksL_law_34 5 rfl rfl)
theorem dL_law_942 : decode cL_law 942 = .ok (.invokevirtual 97, 3) := dk_182 0 97 (dk_at dksL_law_34 6 rfl rfl)
theorem dL_law_945 : decode cL_law 945 = .ok (.if_icmp .eq 550, 3) := dk_159 2 38 (dk_at dksL_law_34 9 rfl rfl)
theorem dL_law_948 : decode cL_law 948 = .ok (.iconst 0, 1) := dk_3 (dk_at dksL_law_34 12 rfl rfl)
theorem dL_law_949 : decode cL_law 949 = .ok (.ireturn, 1) := dk_172 (dk_at dksL_law_34 13 rfl rfl)
theorem dL_law_950 : decode cL_law 950 = .ok (.aload_n 1, 1) := dk_43 (dk_at dksL_law_34 14 rfl rfl)
theorem dL_law_951 : decode cL_law 951 = .ok (.aload_n 0, 1) := dk_42 (dk_at dksL_law_34 15 rfl rfl)
theorem dL_law_952 : decode cL_law 952 = .ok (.iload_n 3, 1) := dk_29 (dk_at dksL_law_34 16 rfl rfl)
theorem dL_law_953 : decode cL_law 953 = .ok (.iconst 1, 1) := dk_4 (dk_at dksL_law_34 17 rfl rfl)
theorem dL_law_954 : decode cL_law 954 = .ok (.iadd, 1) := dk_96 (dk_at dksL_law_34 18 rfl rfl)
theorem dL_law_955 : decode cL_law 955 = .ok (.iaload, 1) := dk_46 (dk_at dksL_law_34 19 rfl rfl)
theorem dL_law_956 : decode cL_law 956 = .ok (.invokevirtual 98, 3) := dk_182 0 98 (dk_at dksL_law_34 20 rfl rfl)
theorem dL_law_959 : decode cL_law 959 = .ok (.aload_n 2, 1) := dk_44 (dk_at dksL_law_34 23 rfl rfl)
theorem dL_law_960 : decode cL_law 960 = .ok (.aload_n 0, 1) := dk_42 (dk_at dksL_law_35 0 rfl rfl)
theorem dL_law_961 : decode cL_law 961 = .ok (.iload_n 3, 1) := dk_29 (dk_at dksL_law_35 1 rfl rfl)
theorem dL_law_962 : decode cL_law 962 = .ok (.iconst 1, 1) := dk_4 (dk_at dksL_law_35 2 rfl rfl)
theorem dL_law_963 : decode cL_law 963 = .ok (.iadd, 1) := dk_96 (dk_at dksL_law_35 3 rfl rfl)
theorem dL_law_964 : decode cL_law 964 = .ok (.iaload, 1) := dk_46 (dk_at dksL_law_35 4 rfl rfl)
theorem dL_law_965 : decode cL_law 965 = .ok (.invokevirtual 101, 3) := dk_182 0 101 (dk_at dksL_law_35 5 rfl rfl)
theorem dL_law_968 : decode cL_law 968 = .ok (.if_icmp .eq 527, 3) := dk_159 2 15 (dk_at dksL_law_35 8 rfl rfl)
theorem dL_law_971 : decode cL_law 971 = .ok (.iconst 0, 1) := dk_3 (dk_at dksL_law_35 11 rfl rfl)
theorem dL_law_972 : decode cL_law 972 = .ok (.ireturn, 1) := dk_172 (dk_at dksL_law_35 12 rfl rfl)
theorem dL_law_973 : decode cL_law 973 = .ok (.aload_n 1, 1) := dk_43 (dk_at dksL_law_35 13 rfl rfl)
theorem dL_law_974 : decode cL_law 974 = .ok (.invokevirtual 102, 3) := dk_182 0 102 (dk_at dksL_law_35 14 rfl rfl)
theorem dL_law_977 : decode cL_law 977 = .ok (.aload_n 2, 1) := dk_44 (dk_at dksL_law_35 17 rfl rfl)
theorem dL_law_978 : decode cL_law 978 = .ok (.invokevirtual 105, 3) := dk_182 0 105 (dk_at dksL_law_35 18 rfl rfl)
theorem dL_law_981 : decode cL_law 981 = .ok (.if_icmp .eq 514, 3) := dk_159 2 2 (dk_at dksL_law_35 21 rfl rfl)
theorem dL_law_984 : decode cL_law 984 = .ok (.iconst 0, 1) := dk_3 (dk_at dksL_law_36 0 rfl rfl)
theorem dL_law_985 : decode cL_law 985 = .ok (.ireturn, 1) := dk_172 (dk_at dksL_law_36 1 rfl rfl)
theorem dL_law_986 : decode cL_law 986 = .ok (.aload_n 1, 1) := dk_43 (dk_at dksL_law_36 2 rfl rfl)
theorem dL_law_987 : decode cL_law 987 = .ok (.aload_n 0, 1) := dk_42 (dk_at dksL_law_36 3 rfl rfl)
theorem dL_law_988 : decode cL_law 988 = .ok (.iload_n 3, 1) := dk_29 (dk_at dksL_law_36 4 rfl rfl)
theorem dL_law_989 : decode cL_law 989 = .ok (.iconst 1, 1) := dk_4 (dk_at dksL_law_36 5 rfl rfl)
theorem dL_law_990 : decode cL_law 990 = .ok (.iadd, 1) := dk_96 (dk_at dksL_law_36 6 rfl rfl)
theorem dL_law_991 : decode cL_law 991 = .ok (.iaload, 1) := dk_46 (dk_at dksL_law_36 7 rfl rfl)
theorem dL_law_992 : decode cL_law 992 = .ok (.aload_n 0, 1) := dk_42 (dk_at dksL_law_36 8 rfl rfl)
theorem dL_law_993 : decode cL_law 993 = .ok (.iload_n 3, 1) := dk_29 (dk_at dksL_law_36 9 rfl rfl)
theorem dL_law_994 : decode cL_law 994 = .ok (.iconst 2, 1) := dk_5 (dk_at dksL_law_36 10 rfl rfl)
theorem dL_law_995 : decode cL_law 995 = .ok (.iadd, 1) := dk_96 (dk_at dksL_law_36 11 rfl rfl)
theorem dL_law_996 : decode cL_law 996 = .ok (.iaload, 1) := dk_46 (dk_at dksL_law_36 12 rfl rfl)
theorem dL_law_997 : decode cL_law 997 = .ok (.aload_n 0, 1) := dk_42 (dk_at dksL_law_36 13 rfl rfl)
theorem dL_law_998 : decode cL_law 998 = .ok (.iload_n 3, 1) := dk_29 (dk_at dksL_law_36 14 rfl rfl)
theorem dL_law_999 : decode cL_law 999 = .ok (.iconst 3, 1) := dk_6 (dk_at dksL_law_36 15 rfl rfl)
theorem dL_law_1000 : decode cL_law 1000 = .ok (.iadd, 1) := dk_96 (dk_at dksL_law_36 16 rfl rfl)
theorem dL_law_1001 : decode cL_law 1001 = .ok (.iaload, 1) := dk_46 (dk_at dksL_law_36 17 rfl rfl)
theorem dL_law_1002 : decode cL_law 1002 = .ok (.invokevirtual 106, 3) := dk_182 0 106 (dk_at dksL_law_36 18 rfl rfl)
theorem dL_law_1005 : decode cL_law 1005 = .ok (.aload_n 2, 1) := dk_44 (dk_at dksL_law_36 21 rfl rfl)
theorem dL_law_1006 : decode cL_law 1006 = .ok (.aload_n 0, 1) := dk_42 (dk_at dksL_law_36 22 rfl rfl)
theorem dL_law_1007 : decode cL_law 1007 = .ok (.iload_n 3, 1) := dk_29 (dk_at dksL_law_36 23 rfl rfl)
theorem dL_law_1008 : decode cL_law 1008 = .ok (.iconst 1, 1) := dk_4 (dk_at dksL_law_37 0 rfl rfl)
theorem dL_law_1009 : decode cL_law 1009 = .ok (.iadd, 1) := dk_96 (dk_at dksL_law_37 1 rfl rfl)
theorem dL_law_1010 : decode cL_law 1010 = .ok (.iaload, 1) := dk_46 (dk_at dksL_law_37 2 rfl rfl)
theorem dL_law_1011 : decode cL_law 1011 = .ok (.aload_n 0, 1) := dk_42 (dk_at dksL_law_37 3 rfl rfl)
theorem dL_law_1012 : decode cL_law 1012 = .ok (.iload_n 3, 1) := dk_29 (dk_at dksL_law_37 4 rfl rfl)
theorem dL_law_1013 : decode cL_law 1013 = .ok (.iconst 2, 1) := dk_5 (dk_at dksL_law_37 5 rfl rfl)
theorem dL_law_1014 : decode cL_law 1014 = .ok (.iadd, 1) := dk_96 (dk_at dksL_law_37 6 rfl rfl)
theorem dL_law_1015 : decode cL_law 1015 = .ok (.iaload, 1) := dk_46 (dk_at dksL_law_37 7 rfl rfl)
theorem dL_law_1016 : decode cL_law 1016 = .ok (.aload_n 0, 1) := dk_42 (dk_at dksL_law_37 8 rfl rfl)
theorem dL_law_1017 : decode cL_law 1017 = .ok (.iload_n 3, 1) := dk_29 (dk_at dksL_law_37 9 rfl rfl)
theorem dL_law_1018 : decode cL_law 1018 = .ok (.iconst 3, 1) := dk_6 (dk_at dksL_law_37 10 rfl rfl)
theorem dL_law_1019 : decode cL_law 1019 = .ok (.iadd, 1) := dk_96 (dk_at dksL_law_37 11 rfl rfl)
theorem dL_law_1020 : decode cL_law 1020 = .ok (.iaload, 1) := dk_46 (dk_at dksL_law_37 12 rfl rfl)
theorem dL_law_1021 : decode cL_law 1021 = .ok (.invokevirtual 109, 3) := dk_182 0 109 (dk_at dksL_law_37 13 rfl rfl)
theorem dL_law_1024 : decode cL_law 1024 = .ok (.if_icmp .eq 471, 3) := dk_159 1 215 (dk_at dksL_law_37 16 rfl rfl)
theorem dL_law_1027 : decode cL_law 1027 = .ok (.iconst 0, 1) := dk_3 (dk_at dksL_law_37 19 rfl rfl)
theorem dL_law_1028 : decode cL_law 1028 = .ok (.ireturn, 1) := dk_172 (dk_at dksL_law_37 20 rfl rfl)
theorem dL_law_1029 : decode cL_law 1029 = .ok (.aload_n 1, 1) := dk_43 (dk_at dksL_law_37 21 rfl rfl)
theorem dL_law_1030 : decode cL_law 1030 = .ok (.aload_n 0, 1) := dk_42 (dk_at dksL_law_37 22 rfl rfl)
theorem dL_law_1031 : decode cL_law 1031 = .ok (.iload_n 3, 1) := dk_29 (dk_at dksL_law_37 23 rfl rfl)
theorem dL_law_1032 : decode cL_law 1032 = .ok (.iconst 1, 1) := dk_4 (dk_at dksL_law_38 0 rfl rfl)
theorem dL_law_1033 : decode cL_law 1033 = .ok (.iadd, 1) := dk_96 (dk_at dksL_law_38 1 rfl rfl)
theorem dL_law_1034 : decode cL_law 1034 = .ok (.iaload, 1) := dk_46 (dk_at dksL_law_38 2 rfl rfl)
theorem dL_law_1035 : decode cL_law 1035 = .ok (.invokevirtual 110, 3) := dk_182 0 110 (dk_at dksL_law_38 3 rfl rfl)
theorem dL_law_1038 : decode cL_law 1038 = .ok (.aload_n 2, 1) := dk_44 (dk_at dksL_law_38 6 rfl rfl)
theorem dL_law_1039 : decode cL_law 1039 = .ok (.aload_n 0, 1) := dk_42 (dk_at dksL_law_38 7 rfl rfl)
theorem dL_law_1040 : decode cL_law 1040 = .ok (.iload_n 3, 1) := dk_29 (dk_at dksL_law_38 8 rfl rfl)
theorem dL_law_1041 : decode cL_law 1041 = .ok (.iconst 1, 1) := dk_4 (dk_at dksL_law_38 9 rfl rfl)
theorem dL_law_1042 : decode cL_law 1042 = .ok (.iadd, 1) := dk_96 (dk_at dksL_law_38 10 rfl rfl)
theorem dL_law_1043 : decode cL_law 1043 = .ok (.iaload, 1) := dk_46 (dk_at dksL_law_38 11 rfl rfl)
theorem dL_law_1044 : decode cL_law 1044 = .ok (.invokevirtual 113, 3) := dk_182 0 113 (dk_at dksL_law_38 12 rfl rfl)
theorem dL_law_1047 : decode cL_law 1047 = .ok (.if_icmp .eq 448, 3) := dk_159 1 192 (dk_at dksL_law_38 15 rfl rfl)
theorem dL_law_1050 : decode cL_law 1050 = .ok (.iconst 0, 1) := dk_3 (dk_at dksL_law_38 18 rfl rfl)
theorem dL_law_1051 : decode cL_law 1051 = .ok (.ireturn, 1) := dk_172 (dk_at dksL_law_38 19 rfl rfl)
theorem dL_law_1052 : decode cL_law 1052 = .ok (.aload_n 1, 1) := dk_43 (dk_at dksL_law_38 20 rfl rfl)
theorem dL_law_1053 : decode cL_law 1053 = .ok (.invokevirtual 114, 3) := dk_182 0 114 (dk_at dksL_law_38 21 rfl rfl)
theorem dL_law_1056 : decode cL_law 1056 = .ok (.aload_n 2, 1) := dk_44 (dk_at dksL_law_39 0 rfl rfl)
theorem dL_law_1057 : decode cL_law 1057 = .ok (.invokevirtual 117, 3) := dk_182 0 117 (dk_at dksL_law_39 1 rfl rfl)
theorem dL_law_1060 : decode cL_law 1060 = .ok (.if_icmp .eq 435, 3) := dk_159 1 179 (dk_at dksL_law_39 4 rfl rfl)
theorem dL_law_1063 : decode cL_law 1063 = .ok (.iconst 0, 1) := dk_3 (dk_at dksL_law_39 7 rfl rfl)
theorem dL_law_1064 : decode cL_law 1064 = .ok (.ireturn, 1) := dk_172 (dk_at dksL_law_39 8 rfl rfl)
theorem dL_law_1065 : decode cL_law 1065 = .ok (.aload_n 1, 1) := dk_43 (dk_at dksL_law_39 9 rfl rfl)
theorem dL_law_1066 : decode cL_law 1066 = .ok (.invokevirtual 118, 3) := dk_182 0 118 (dk_at dksL_law_39 10 rfl rfl)
theorem dL_law_1069 : decode cL_law 1069 = .ok (.aload_n 2, 1) := dk_44 (dk_at dksL_law_39 13 rfl rfl)
theorem dL_law_1070 : decode cL_law 1070 = .ok (.invokevirtual 121, 3) := dk_182 0 121 (dk_at dksL_law_39 14 rfl rfl)
theorem dL_law_1073 : decode cL_law 1073 = .ok (.if_icmp .eq 422, 3) := dk_159 1 166 (dk_at dksL_law_39 17 rfl rfl)
theorem dL_law_1076 : decode cL_law 1076 = .ok (.iconst 0, 1) := dk_3 (dk_at dksL_law_39 20 rfl rfl)
theorem dL_law_1077 : decode cL_law 1077 = .ok (.ireturn, 1) := dk_172 (dk_at dksL_law_39 21 rfl rfl)
theorem dL_law_1078 : decode cL_law 1078 = .ok (.aload_n 1, 1) := dk_43 (dk_at dksL_law_39 22 rfl rfl)
theorem dL_law_1079 : decode cL_law 1079 = .ok (.invokevirtual 122, 3) := dk_182 0 122 (dk_at dksL_law_40 0 rfl rfl)
theorem dL_law_1082 : decode cL_law 1082 = .ok (.aload_n 2, 1) := dk_44 (dk_at dksL_law_40 3 rfl rfl)
theorem dL_law_1083 : decode cL_law 1083 = .ok (.invokevirtual 125, 3) := dk_182 0 125 (dk_at dksL_law_40 4 rfl rfl)
theorem dL_law_1086 : decode cL_law 1086 = .ok (.if_icmp .eq 409, 3) := dk_159 1 153 (dk_at dksL_law_40 7 rfl rfl)
theorem dL_law_1089 : decode cL_law 1089 = .ok (.iconst 0, 1) := dk_3 (dk_at dksL_law_40 10 rfl rfl)
theorem dL_law_1090 : decode cL_law 1090 = .ok (.ireturn, 1) := dk_172 (dk_at dksL_law_40 11 rfl rfl)
theorem dL_law_1091 : decode cL_law 1091 = .ok (.aload_n 1, 1) := dk_43 (dk_at dksL_law_40 12 rfl rfl)
theorem dL_law_1092 : decode cL_law 1092 = .ok (.invokevirtual 126, 3) := dk_182 0 126 (dk_at dksL_law_40 13 rfl rfl)
theorem dL_law_1095 : decode cL_law 1095 = .ok (.aload_n 2, 1) := dk_44 (dk_at dksL_law_40 16 rfl rfl)
theorem dL_law_1096 : decode cL_law 1096 = .ok (.invokevirtual 129, 3) := dk_182 0 129 (dk_at dksL_law_40 17 rfl rfl)
theorem dL_law_1099 : decode cL_law 1099 = .ok (.if_icmp .eq 396, 3) := dk_159 1 140 (dk_at dksL_law_40 20 rfl rfl)
theorem dL_law_1102 : decode cL_law 1102 = .ok (.iconst 0, 1) := dk_3 (dk_at dksL_law_40 23 rfl rfl)
theorem dL_law_1103 : decode cL_law 1103 = .ok (.ireturn, 1) := dk_172 (dk_at dksL_law_41 0 rfl rfl)
theorem dL_law_1104 : decode cL_law 1104 = .ok (.aload_n 1, 1) := dk_43 (dk_at dksL_law_41 1 rfl rfl)
theorem dL_law_1105 : decode cL_law 1105 = .ok (.aload_n 0, 1) := dk_42 (dk_at dksL_law_41 2 rfl rfl)
theorem dL_law_1106 : decode cL_law 1106 = .ok (.iload_n 3, 1) := dk_29 (dk_at dksL_law_41 3 rfl rfl)
theorem dL_law_1107 : decode cL_law 1107 = .ok (.iconst 1, 1) := dk_4 (dk_at dksL_law_41 4 rfl rfl)
theorem dL_law_1108 : decode cL_law 1108 = .ok (.iadd, 1) := dk_96 (dk_at dksL_law_41 5 rfl rfl)
theorem dL_law_1109 : decode cL_law 1109 = .ok (.iaload, 1) := dk_46 (dk_at dksL_law_41 6 rfl rfl)
theorem dL_law_1110 : decode cL_law 1110 = .ok (.invokevirtual 130, 3) := dk_182 0 130 (dk_at dksL_law_41 7 rfl rfl)
theorem dL_law_1113 : decode cL_law 1113 = .ok (.aload_n 2, 1) := dk_44 (dk_at dksL_law_41 10 rfl rfl)
theorem dL_law_1114 : decode cL_law 1114 = .ok (.aload_n 0, 1) := dk_42 (dk_at dksL_law_41 11 rfl rfl)
theorem dL_law_1115 : decode cL_law 1115 = .ok (.iload_n 3, 1) := dk_29 (dk_at dksL_law_41 12 rfl rfl)
theorem dL_law_1116 : decode cL_law 1116 = .ok (.iconst 1, 1) := dk_4 (dk_at dksL_law_41 13 rfl rfl)
theorem dL_law_1117 : decode cL_law 1117 = .ok (.iadd, 1) := dk_96 (dk_at dksL_law_41 14 rfl rfl)
theorem dL_law_1118 : decode cL_law 1118 = .ok (.iaload, 1) := dk_46 (dk_at dksL_law_41 15 rfl rfl)
theorem dL_law_1119 : decode cL_law 1119 = .ok (.invokevirtual 133, 3) := dk_182 0 133 (dk_at dksL_law_41 16 rfl rfl)
theorem dL_law_1122 : decode cL_law 1122 = .ok (.if_icmp .eq 373, 3) := dk_159 1 117 (dk_at dksL_law_41 19 rfl rfl)
theorem dL_law_1125 : decode cL_law 1125 = .ok (.iconst 0, 1) := dk_3 (dk_at dksL_law_41 22 rfl rfl)
theorem dL_law_1126 : decode cL_law 1126 = .ok (.ireturn, 1) := dk_172 (dk_at dksL_law_41 23 rfl rfl)
theorem dL_law_1127 : decode cL_law 1127 = .ok (.aload_n 1, 1) := dk_43 (dk_at dksL_law_42 0 rfl rfl)
theorem dL_law_1128 : decode cL_law 1128 = .ok (.aload_n 0, 1) := dk_42 (dk_at dksL_law_42 1 rfl rfl)
theorem dL_law_1129 : decode cL_law 1129 = .ok (.iload_n 3, 1) := dk_29 (dk_at dksL_law_42 2 rfl rfl)
theorem dL_law_1130 : decode cL_law 1130 = .ok (.iconst 1, 1) := dk_4 (dk_at dksL_law_42 3 rfl rfl)
theorem dL_law_1131 : decode cL_law 1131 = .ok (.iadd, 1) := dk_96 (dk_at dksL_law_42 4 rfl rfl)
theorem dL_law_1132 : decode cL_law 1132 = .ok (.iaload, 1) := dk_46 (dk_at dksL_law_42 5 rfl rfl)
theorem dL_law_1133 : decode cL_law 1133 = .ok (.aload_n 0, 1) := dk_42 (dk_at dksL_law_42 6 rfl rfl)
theorem dL_law_1134 : decode cL_law 1134 = .ok (.iload_n 3, 1) := dk_29 (dk_at dksL_law_42 7 rfl rfl)
theorem dL_law_1135 : decode cL_law 1135 = .ok (.iconst 2, 1) := dk_5 (dk_at dksL_law_42 8 rfl rfl)
theorem dL_law_1136 : decode cL_law 1136 = .ok (.iadd, 1) := dk_96 (dk_at dksL_law_42 9 rfl rfl)
theorem dL_law_1137 : decode cL_law 1137 = .ok (.iaload, 1) := dk_46 (dk_at dksL_law_42 10 rfl rfl)
theorem dL_law_1138 : decode cL_law 1138 = .ok (.aload_n 0, 1) := dk_42 (dk_at dksL_law_42 11 rfl rfl)
theorem dL_law_1139 : decode cL_law 1139 = .ok (.iload_n 3, 1) := dk_29 (dk_at dksL_law_42 12 rfl rfl)
theorem dL_law_1140 : decode cL_law 1140 = .ok (.iconst 3, 1) := dk_6 (dk_at dksL_law_42 13 rfl rfl)
theorem dL_law_1141 : decode cL_law 1141 = .ok (.iadd, 1) := dk_96 (dk_at dksL_law_42 14 rfl rfl)
theorem dL_law_1142 : decode cL_law 1142 = .ok (.iaload, 1) := dk_46 (dk_at dksL_law_42 15 rfl rfl)
theorem dL_law_1143 : decode cL_law 1143 = .ok (.invokevirtual 134, 3) := dk_182 0 134 (dk_at dksL_law_42 16 rfl rfl)
theorem dL_law_1146 : decode cL_law 1146 = .ok (.aload_n 2, 1) := dk_44 (dk_at dksL_law_42 19 rfl rfl)
theorem dL_law_1147 : decode cL_law 1147 = .ok (.aload_n 0, 1) := dk_42 (dk_at dksL_law_42 20 rfl rfl)
theorem dL_law_1148 : decode cL_law 1148 = .ok (.iload_n 3, 1) := dk_29 (dk_at dksL_law_42 21 rfl rfl)
theorem dL_law_1149 : decode cL_law 1149 = .ok (.iconst 1, 1) := dk_4 (dk_at dksL_law_42 22 rfl rfl)
theorem dL_law_1150 : decode cL_law 1150 = .ok (.iadd, 1) := dk_96 (dk_at dksL_law_42 23 rfl rfl)
theorem dL_law_1151 : decode cL_law 1151 = .ok (.iaload, 1) := dk_46 (dk_at dksL_law_43 0 rfl rfl)
theorem dL_law_1152 : decode cL_law 1152 = .ok (.aload_n 0, 1) := dk_42 (dk_at dksL_law_43 1 rfl rfl)
theorem dL_law_1153 : decode cL_law 1153 = .ok (.iload_n 3, 1) := dk_29 (dk_at dksL_law_43 2 rfl rfl)
theorem dL_law_1154 : decode cL_law 1154 = .ok (.iconst 2, 1) := dk_5 (dk_at dksL_law_43 3 rfl rfl)
theorem dL_law_1155 : decode cL_law 1155 = .ok (.iadd, 1) := dk_96 (dk_at dksL_law_43 4 rfl rfl)
theorem dL_law_1156 : decode cL_law 1156 = .ok (.iaload, 1) := dk_46 (dk_at dksL_law_43 5 rfl rfl)
theorem dL_law_1157 : decode cL_law 1157 = .ok (.aload_n 0, 1) := dk_42 (dk_at dksL_law_43 6 rfl rfl)
theorem dL_law_1158 : decode cL_law 1158 = .ok (.iload_n 3, 1) := dk_29 (dk_at dksL_law_43 7 rfl rfl)
theorem dL_law_1159 : decode cL_law 1159 = .ok (.iconst 3, 1) := dk_6 (dk_at dksL_law_43 8 rfl rfl)
theorem dL_law_1160 : decode cL_law 1160 = .ok (.iadd, 1) := dk_96 (dk_at dksL_law_43 9 rfl rfl)
theorem dL_law_1161 : decode cL_law 1161 = .ok (.iaload, 1) := dk_46 (dk_at dksL_law_43 10 rfl rfl)
theorem dL_law_1162 : decode cL_law 1162 = .ok (.invokevirtual 137, 3) := dk_182 0 137 (dk_at dksL_law_43 11 rfl rfl)
theorem dL_law_1165 : decode cL_law 1165 = .ok (.if_icmp .eq 330, 3) := dk_159 1 74 (dk_at dksL_law_43 14 rfl rfl)
theorem dL_law_1168 : decode cL_law 1168 = .ok (.iconst 0, 1) := dk_3 (dk_at dksL_law_43 17 rfl rfl)
theorem dL_law_1169 : decode cL_law 1169 = .ok (.ireturn, 1) := dk_172 (dk_at dksL_law_43 18 rfl rfl)
theorem dL_law_1170 : decode cL_law 1170 = .ok (.aload_n 1, 1) := dk_43 (dk_at dksL_law_43 19 rfl rfl)
theorem dL_law_1171 : decode cL_law 1171 = .ok (.aload_n 0, 1) := dk_42 (dk_at dksL_law_43 20 rfl rfl)
theorem dL_law_1172 : decode cL_law 1172 = .ok (.iload_n 3, 1) := dk_29 (dk_at dksL_law_43 21 rfl rfl)
theorem dL_law_1173 : decode cL_law 1173 = .ok (.iconst 1, 1) := dk_4 (dk_at dksL_law_43 22 rfl rfl)
theorem dL_law_1174 : decode cL_law 1174 = .ok (.iadd, 1) := dk_96 (dk_at dksL_law_43 23 rfl rfl)
theorem dL_law_1175 : decode cL_law 1175 = .ok (.iaload, 1) := dk_46 (dk_at dksL_law_44 0 rfl rfl)
theorem dL_law_1176 : decode cL_law 1176 = .ok (.invokevirtual 138, 3) := dk_182 0 138 (dk_at dksL_law_44 1 rfl rfl)
theorem dL_law_1179 : decode cL_law 1179 = .ok (.aload_n 2, 1) := dk_44 (dk_at dksL_law_44 4 rfl rfl)
theorem dL_law_1180 : decode cL_law 1180 = .ok (.aload_n 0, 1) := dk_42 (dk_at dksL_law_44 5 rfl rfl)
theorem dL_law_1181 : decode cL_law 1181 = .ok (.iload_n 3, 1) := dk_29 (dk_at dksL_law_44 6 rfl rfl)
theorem dL_law_1182 : decode cL_law 1182 = .ok (.iconst 1, 1) := dk_4 (dk_at dksL_law_44 7 rfl rfl)
theorem dL_law_1183 : decode cL_law 1183 = .ok (.iadd, 1) := dk_96 (dk_at dksL_law_44 8 rfl rfl)
theorem dL_law_1184 : decode cL_law 1184 = .ok (.iaload, 1) := dk_46 (dk_at dksL_law_44 9 rfl rfl)
theorem dL_law_1185 : decode cL_law 1185 = .ok (.invokevirtual 141, 3) := dk_182 0 141 (dk_at dksL_law_44 10 rfl rfl)
theorem dL_law_1188 : decode cL_law 1188 = .ok (.if_icmp .eq 307, 3) := dk_159 1 51 (dk_at dksL_law_44 13 rfl rfl)
theorem dL_law_1191 : decode cL_law 1191 = .ok (.iconst 0, 1) := dk_3 (dk_at dksL_law_44 16 rfl rfl)
theorem dL_law_1192 : decode cL_law 1192 = .ok (.ireturn, 1) := dk_172 (dk_at dksL_law_44 17 rfl rfl)
theorem dL_law_1193 : decode cL_law 1193 = .ok (.aload_n 1, 1) := dk_43 (dk_at dksL_law_44 18 rfl rfl)
theorem dL_law_1194 : decode cL_law 1194 = .ok (.aload_n 0, 1) := dk_42 (dk_at dksL_law_44 19 rfl rfl)
theorem dL_law_1195 : decode cL_law 1195 = .ok (.iload_n 3, 1) := dk_29 (dk_at dksL_law_44 20 rfl rfl)
theorem dL_law_1196 : decode cL_law 1196 = .ok (.iconst 1, 1) := dk_4 (dk_at dksL_law_44 21 rfl rfl)
theorem dL_law_1197 : decode cL_law 1197 = .ok (.iadd, 1) := dk_96 (dk_at dksL_law_44 22 rfl rfl)
theorem dL_law_1198 : decode cL_law 1198 = .ok (.iaload, 1) := dk_46 (dk_at dksL_law_44 23 rfl rfl)
theorem dL_law_1199 : decode cL_law 1199 = .ok (.aload_n 0, 1) := dk_42 (dk_at dksL_law_45 0 rfl rfl)
theorem dL_law_1200 : decode cL_law 1200 = .ok (.iload_n 3, 1) := dk_29 (dk_at dksL_law_45 1 rfl rfl)
theorem dL_law_1201 : decode cL_law 1201 = .ok (.iconst 2, 1) := dk_5 (dk_at dksL_law_45 2 rfl rfl)
theorem dL_law_1202 : decode cL_law 1202 = .ok (.iadd, 1) := dk_96 (dk_at dksL_law_45 3 rfl rfl)
theorem dL_law_1203 : decode cL_law 1203 = .ok (.iaload, 1) := dk_46 (dk_at dksL_law_45 4 rfl rfl)
theorem dL_law_1204 : decode cL_law 1204 = .ok (.invokevirtual 142, 3) := dk_182 0 142 (dk_at dksL_law_45 5 rfl rfl)
theorem dL_law_1207 : decode cL_law 1207 = .ok (.aload_n 2, 1) := dk_44 (dk_at dksL_law_45 8 rfl rfl)
theorem dL_law_1208 : decode cL_law 1208 = .ok (.aload_n 0, 1) := dk_42 (dk_at dksL_law_45 9 rfl rfl)
theorem dL_law_1209 : decode cL_law 1209 = .ok (.iload_n 3, 1) := dk_29 (dk_at dksL_law_45 10 rfl rfl)
theorem dL_law_1210 : decode cL_law 1210 = .ok (.iconst 1, 1) := dk_4 (dk_at dksL_law_45 11 rfl rfl)
theorem dL_law_1211 : decode cL_law 1211 = .ok (.iadd, 1) := dk_96 (dk_at dksL_law_45 12 rfl rfl)
theorem dL_law_1212 : decode cL_law 1212 = .ok (.iaload, 1) := dk_46 (dk_at dksL_law_45 13 rfl rfl)
theorem dL_law_1213 : decode cL_law 1213 = .ok (.aload_n 0, 1) := dk_42 (dk_at dksL_law_45 14 rfl rfl)
theorem dL_law_1214 : decode cL_law 1214 = .ok (.iload_n 3, 1) := dk_29 (dk_at dksL_law_45 15 rfl rfl)
theorem dL_law_1215 : decode cL_law 1215 = .ok (.iconst 2, 1) := dk_5 (dk_at dksL_law_45 16 rfl rfl)
theorem dL_law_1216 : decode cL_law 1216 = .ok (.iadd, 1) := dk_96 (dk_at dksL_law_45 17 rfl rfl)
theorem dL_law_1217 : decode cL_law 1217 = .ok (.iaload, 1) := dk_46 (dk_at dksL_law_45 18 rfl rfl)
theorem dL_law_1218 : decode cL_law 1218 = .ok (.invokevirtual 145, 3) := dk_182 0 145 (dk_at dksL_law_45 19 rfl rfl)
theorem dL_law_1221 : decode cL_law 1221 = .ok (.if_icmp .eq 274, 3) := dk_159 1 18 (dk_at dksL_law_46 0 rfl rfl)
theorem dL_law_1224 : decode cL_law 1224 = .ok (.iconst 0, 1) := dk_3 (dk_at dksL_law_46 3 rfl rfl)
theorem dL_law_1225 : decode cL_law 1225 = .ok (.ireturn, 1) := dk_172 (dk_at dksL_law_46 4 rfl rfl)
theorem dL_law_1226 : decode cL_law 1226 = .ok (.aload_n 1, 1) := dk_43 (dk_at dksL_law_46 5 rfl rfl)
theorem dL_law_1227 : decode cL_law 1227 = .ok (.aload_n 0, 1) := dk_42 (dk_at dksL_law_46 6 rfl rfl)
theorem dL_law_1228 : decode cL_law 1228 = .ok (.iload_n 3, 1) := dk_29 (dk_at dksL_law_46 7 rfl rfl)
theorem dL_law_1229 : decode cL_law 1229 = .ok (.iconst 1, 1) := dk_4 (dk_at dksL_law_46 8 rfl rfl)
theorem dL_law_1230 : decode cL_law 1230 = .ok (.iadd, 1) := dk_96 (dk_at dksL_law_46 9 rfl rfl)
theorem dL_law_1231 : decode cL_law 1231 = .ok (.iaload, 1) := dk_46 (dk_at dksL_law_46 10 rfl rfl)
theorem dL_law_1232 : decode cL_law 1232 = .ok (.aload_n 0, 1) := dk_42 (dk_at dksL_law_46 11 rfl rfl)
theorem dL_law_1233 : decode cL_law 1233 = .ok (.iload_n 3, 1) := dk_29 (dk_at dksL_law_46 12 rfl rfl)
theorem dL_law_1234 : decode cL_law 1234 = .ok (.iconst 2, 1) := dk_5 (dk_at dksL_law_46 13 rfl rfl)
theorem dL_law_1235 : decode cL_law 1235 = .ok (.iadd, 1) := dk_96 (dk_at dksL_law_46 14 rfl rfl)
theorem dL_law_1236 : decode cL_law 1236 = .ok (.iaload, 1) := dk_46 (dk_at dksL_law_46 15 rfl rfl)
theorem dL_law_1237 : decode cL_law 1237 = .ok (.aload_n 0, 1) := dk_42 (dk_at dksL_law_46 16 rfl rfl)
theorem dL_law_1238 : decode cL_law 1238 = .ok (.iload_n 3, 1) := dk_29 (dk_at dksL_law_46 17 rfl rfl)
theorem dL_law_1239 : decode cL_law 1239 = .ok (.iconst 3, 1) := dk_6 (dk_at dksL_law_46 18 rfl rfl)
theorem dL_law_1240 : decode cL_law 1240 = .ok (.iadd, 1) := dk_96 (dk_at dksL_law_46 19 rfl rfl)
theorem dL_law_1241 : decode cL_law 1241 = .ok (.iaload, 1) := dk_46 (dk_at dksL_law_46 20 rfl rfl)
theorem dL_law_1242 : decode cL_law 1242 = .ok (.invokevirtual 146, 3) := dk_182 0 146 (dk_at dksL_law_46 21 rfl rfl)
theorem dL_law_1245 : decode cL_law 1245 = .ok (.aload_n 2, 1) := dk_44 (dk_at dksL_law_47 0 rfl rfl)
theorem dL_law_1246 : decode cL_law 1246 = .ok (.aload_n 0, 1) := dk_42 (dk_at dksL_law_47 1 rfl rfl)
theorem dL_law_1247 : decode cL_law 1247 = .ok (.iload_n 3, 1) := dk_29 (dk_at dksL_law_47 2 rfl rfl)
theorem dL_law_1248 : decode cL_law 1248 = .ok (.iconst 1, 1) := dk_4 (dk_at dksL_law_47 3 rfl rfl)
theorem dL_law_1249 : decode cL_law 1249 = .ok (.iadd, 1) := dk_96 (dk_at dksL_law_47 4 rfl rfl)
theorem dL_law_1250 : decode cL_law 1250 = .ok (.iaload, 1) := dk_46 (dk_at dksL_law_47 5 rfl rfl)
theorem dL_law_1251 : decode cL_law 1251 = .ok (.aload_n 0, 1) := dk_42 (dk_at dksL_law_47 6 rfl rfl)
theorem dL_law_1252 : decode cL_law 1252 = .ok (.iload_n 3, 1) := dk_29 (dk_at dksL_law_47 7 rfl rfl)
theorem dL_law_1253 : decode cL_law 1253 = .ok (.iconst 2, 1) := dk_5 (dk_at dksL_law_47 8 rfl rfl)
theorem dL_law_1254 : decode cL_law 1254 = .ok (.iadd, 1) := dk_96 (dk_at dksL_law_47 9 rfl rfl)
theorem dL_law_1255 : decode cL_law 1255 = .ok (.iaload, 1) := dk_46 (dk_at dksL_law_47 10 rfl rfl)
theorem dL_law_1256 : decode cL_law 1256 = .ok (.aload_n 0, 1) := dk_42 (dk_at dksL_law_47 11 rfl rfl)
theorem dL_law_1257 : decode cL_law 1257 = .ok (.iload_n 3, 1) := dk_29 (dk_at dksL_law_47 12 rfl rfl)
theorem dL_law_1258 : decode cL_law 1258 = .ok (.iconst 3, 1) := dk_6 (dk_at dksL_law_47 13 rfl rfl)
theorem dL_law_1259 : decode cL_law 1259 = .ok (.iadd, 1) := dk_96 (dk_at dksL_law_47 14 rfl rfl)
theorem dL_law_1260 : decode cL_law 1260 = .ok (.iaload, 1) := dk_46 (dk_at dksL_law_47 15 rfl rfl)
theorem dL_law_1261 : decode cL_law 1261 = .ok (.invokevirtual 149, 3) := dk_182 0 149 (dk_at dksL_law_47 16 rfl rfl)
theorem dL_law_1264 : decode cL_law 1264 = .ok (.if_icmp .eq 231, 3) := dk_159 0 231 (dk_at dksL_law_47 19 rfl rfl)
theorem dL_law_1267 : decode cL_law 1267 = .ok (.iconst 0, 1) := dk_3 (dk_at dksL_law_47 22 rfl rfl)
theorem dL_law_1268 : decode cL_law 1268 = .ok (.ireturn, 1) := dk_172 (dk_at dksL_law_47 23 rfl rfl)
theorem dL_law_1269 : decode cL_law 1269 = .ok (.aload_n 1, 1) := dk_43 (dk_at dksL_law_48 0 rfl rfl)
theorem dL_law_1270 : decode cL_law 1270 = .ok (.aload_n 0, 1) := dk_42 (dk_at dksL_law_48 1 rfl rfl)
theorem dL_law_1271 : decode cL_law 1271 = .ok (.iload_n 3, 1) := dk_29 (dk_at dksL_law_48 2 rfl rfl)
theorem dL_law_1272 : decode cL_law 1272 = .ok (.iconst 1, 1) := dk_4 (dk_at dksL_law_48 3 rfl rfl)
theorem dL_law_1273 : decode cL_law 1273 = .ok (.iadd, 1) := dk_96 (dk_at dksL_law_48 4 rfl rfl)
theorem dL_law_1274 : decode cL_law 1274 = .ok (.iaload, 1) := dk_46 (dk_at dksL_law_48 5 rfl rfl)
theorem dL_law_1275 : decode cL_law 1275 = .ok (.aload_n 0, 1) := dk_42 (dk_at dksL_law_48 6 rfl rfl)
theorem dL_law_1276 : decode cL_law 1276 = .ok (.iload_n 3, 1) := dk_29 (dk_at dksL_law_48 7 rfl rfl)
theorem dL_law_1277 : decode cL_law 1277 = .ok (.iconst 2, 1) := dk_5 (dk_at dksL_law_48 8 rfl rfl)
theorem dL_law_1278 : decode cL_law 1278 = .ok (.iadd, 1) := dk_96 (dk_at dksL_law_48 9 rfl rfl)
theorem dL_law_1279 : decode cL_law 1279 = .ok (.iaload, 1) := dk_46 (dk_at dksL_law_48 10 rfl rfl)
theorem dL_law_1280 : decode cL_law 1280 = .ok (.aload_n 0, 1) := dk_42 (dk_at dksL_law_48 11 rfl rfl)
theorem dL_law_1281 : decode cL_law 1281 = .ok (.iload_n 3, 1) := dk_29 (dk_at dksL_law_48 12 rfl rfl)
theorem dL_law_1282 : decode cL_law 1282 = .ok (.iconst 3, 1) := dk_6 (dk_at dksL_law_48 13 rfl rfl)
theorem dL_law_1283 : decode cL_law 1283 = .ok (.iadd, 1) := dk_96 (dk_at dksL_law_48 14 rfl rfl)
theorem dL_law_1284 : decode cL_law 1284 = .ok (.iaload, 1) := dk_46 (dk_at dksL_law_48 15 rfl rfl)
theorem dL_law_1285 : decode cL_law 1285 = .ok (.i2l, 1) := dk_133 (dk_at dksL_law_48 16 rfl rfl)
theorem dL_law_1286 : decode cL_law 1286 = .ok (.bipush 32, 2) := dk_16 32 (dk_at dksL_law_48 17 rfl rfl)
theorem dL_law_1288 : decode cL_law 1288 = .ok (.lshl, 1) := dk_121 (dk_at dksL_law_48 19 rfl rfl)
theorem dL_law_1289 : decode cL_law 1289 = .ok (.aload_n 0, 1) := dk_42 (dk_at dksL_law_48 20 rfl rfl)
theorem dL_law_1290 : decode cL_law 1290 = .ok (.iload_n 3, 1) := dk_29 (dk_at dksL_law_48 21 rfl rfl)
theorem dL_law_1291 : decode cL_law 1291 = .ok (.iconst 4, 1) := dk_7 (dk_at dksL_law_48 22 rfl rfl)
theorem dL_law_1292 : decode cL_law 1292 = .ok (.iadd, 1) := dk_96 (dk_at dksL_law_48 23 rfl rfl)
theorem dL_law_1293 : decode cL_law 1293 = .ok (.iaload, 1) := dk_46 (dk_at dksL_law_49 0 rfl rfl)
theorem dL_law_1294 : decode cL_law 1294 = .ok (.i2l, 1) := dk_133 (dk_at dksL_law_49 1 rfl rfl)
theorem dL_law_1295 : decode cL_law 1295 = .ok (.ldc2_w 150, 3) := dk_20 0 150 (dk_at dksL_law_49 2 rfl rfl)
theorem dL_law_1298 : decode cL_law 1298 = .ok (.land, 1) := dk_127 (dk_at dksL_law_49 5 rfl rfl)
theorem dL_law_1299 : decode cL_law 1299 = .ok (.lor, 1) := dk_129 (dk_at dksL_law_49 6 rfl rfl)
theorem dL_law_1300 : decode cL_law 1300 = .ok (.invokevirtual 152, 3) := dk_182 0 152 (dk_at dksL_law_49 7 rfl rfl)
theorem dL_law_1303 : decode cL_law 1303 = .ok (.aload_n 2, 1) := dk_44 (dk_at dksL_law_49 10 rfl rfl)
theorem dL_law_1304 : decode cL_law 1304 = .ok (.aload_n 0, 1) := dk_42 (dk_at dksL_law_49 11 rfl rfl)
theorem dL_law_1305 : decode cL_law 1305 = .ok (.iload_n 3, 1) := dk_29 (dk_at dksL_law_49 12 rfl rfl)
theorem dL_law_1306 : decode cL_law 1306 = .ok (.iconst 1, 1) := dk_4 (dk_at dksL_law_49 13 rfl rfl)
theorem dL_law_1307 : decode cL_law 1307 = .ok (.iadd, 1) := dk_96 (dk_at dksL_law_49 14 rfl rfl)
theorem dL_law_1308 : decode cL_law 1308 = .ok (.iaload, 1) := dk_46 (dk_at dksL_law_49 15 rfl rfl)
theorem dL_law_1309 : decode cL_law 1309 = .ok (.aload_n 0, 1) := dk_42 (dk_at dksL_law_49 16 rfl rfl)
theorem dL_law_1310 : decode cL_law 1310 = .ok (.iload_n 3, 1) := dk_29 (dk_at dksL_law_49 17 rfl rfl)
theorem dL_law_1311 : decode cL_law 1311 = .ok (.iconst 2, 1) := dk_5 (dk_at dksL_law_49 18 rfl rfl)
theorem dL_law_1312 : decode cL_law 1312 = .ok (.iadd, 1) := dk_96 (dk_at dksL_law_49 19 rfl rfl)
theorem dL_law_1313 : decode cL_law 1313 = .ok (.iaload, 1) := dk_46 (dk_at dksL_law_49 20 rfl rfl)
theorem dL_law_1314 : decode cL_law 1314 = .ok (.aload_n 0, 1) := dk_42 (dk_at dksL_law_49 21 rfl rfl)
theorem dL_law_1315 : decode cL_law 1315 = .ok (.iload_n 3, 1) := dk_29 (dk_at dksL_law_49 22 rfl rfl)
theorem dL_law_1316 : decode cL_law 1316 = .ok (.iconst 3, 1) := dk_6 (dk_at dksL_law_49 23 rfl rfl)
theorem dL_law_1317 : decode cL_law 1317 = .ok (.iadd, 1) := dk_96 (dk_at dksL_law_50 0 rfl rfl)
theorem dL_law_1318 : decode cL_law 1318 = .ok (.iaload, 1) := dk_46 (dk_at dksL_law_50 1 rfl rfl)
theorem dL_law_1319 : decode cL_law 1319 = .ok (.i2l, 1) := dk_133 (dk_at dksL_law_50 2 rfl rfl)
theorem dL_law_1320 : decode cL_law 1320 = .ok (.bipush 32, 2) := dk_16 32 (dk_at dksL_law_50 3 rfl rfl)
theorem dL_law_1322 : decode cL_law 1322 = .ok (.lshl, 1) := dk_121 (dk_at dksL_law_50 5 rfl rfl)
theorem dL_law_1323 : decode cL_law 1323 = .ok (.aload_n 0, 1) := dk_42 (dk_at dksL_law_50 6 rfl rfl)
theorem dL_law_1324 : decode cL_law 1324 = .ok (.iload_n 3, 1) := dk_29 (dk_at dksL_law_50 7 rfl rfl)
theorem dL_law_1325 : decode cL_law 1325 = .ok (.iconst 4, 1) := dk_7 (dk_at dksL_law_50 8 rfl rfl)
theorem dL_law_1326 : decode cL_law 1326 = .ok (.iadd, 1) := dk_96 (dk_at dksL_law_50 9 rfl rfl)
theorem dL_law_1327 : decode cL_law 1327 = .ok (.iaload, 1) := dk_46 (dk_at dksL_law_50 10 rfl rfl)
theorem dL_law_1328 : decode cL_law 1328 = .ok (.i2l, 1) := dk_133 (dk_at dksL_law_50 11 rfl rfl)
theorem dL_law_1329 : decode cL_law 1329 = .ok (.ldc2_w 150, 3) := dk_20 0 150 (dk_at dksL_law_50 12 rfl rfl)
theorem dL_law_1332 : decode cL_law 1332 = .ok (.land, 1) := dk_127 (dk_at dksL_law_50 15 rfl rfl)
theorem dL_law_1333 : decode cL_law 1333 = .ok (.lor, 1) := dk_129 (dk_at dksL_law_50 16 rfl rfl)
theorem dL_law_1334 : decode cL_law 1334 = .ok (.invokevirtual 156, 3) := dk_182 0 156 (dk_at dksL_law_50 17 rfl rfl)
theorem dL_law_1337 : decode cL_law 1337 = .ok (.if_icmp .eq 158, 3) := dk_159 0 158 (dk_at dksL_law_50 20 rfl rfl)
theorem dL_law_1340 : decode cL_law 1340 = .ok (.iconst 0, 1) := dk_3 (dk_at dksL_law_50 23 rfl rfl)
theorem dL_law_1341 : decode cL_law 1341 = .ok (.ireturn, 1) := dk_172 (dk_at dksL_law_51 0 rfl rfl)
theorem dL_law_1342 : decode cL_law 1342 = .ok (.aload_n 1, 1) := dk_43 (dk_at dksL_law_51 1 rfl rfl)
theorem dL_law_1343 : decode cL_law 1343 = .ok (.aload_n 0, 1) := dk_42 (dk_at dksL_law_51 2 rfl rfl)
theorem dL_law_1344 : decode cL_law 1344 = .ok (.iload_n 3, 1) := dk_29 (dk_at dksL_law_51 3 rfl rfl)
theorem dL_law_1345 : decode cL_law 1345 = .ok (.iconst 1, 1) := dk_4 (dk_at dksL_law_51 4 rfl rfl)
theorem dL_law_1346 : decode cL_law 1346 = .ok (.iadd, 1) := dk_96 (dk_at dksL_law_51 5 rfl rfl)
theorem dL_law_1347 : decode cL_law 1347 = .ok (.iaload, 1) := dk_46 (dk_at dksL_law_51 6 rfl rfl)
theorem dL_law_1348 : decode cL_law 1348 = .ok (.aload_n 0, 1) := dk_42 (dk_at dksL_law_51 7 rfl rfl)
theorem dL_law_1349 : decode cL_law 1349 = .ok (.iload_n 3, 1) := dk_29 (dk_at dksL_law_51 8 rfl rfl)
theorem dL_law_1350 : decode cL_law 1350 = .ok (.iconst 2, 1) := dk_5 (dk_at dksL_law_51 9 rfl rfl)
theorem dL_law_1351 : decode cL_law 1351 = .ok (.iadd, 1) := dk_96 (dk_at dksL_law_51 10 rfl rfl)
theorem dL_law_1352 : decode cL_law 1352 = .ok (.iaload, 1) := dk_46 (dk_at dksL_law_51 11 rfl rfl)
theorem dL_law_1353 : decode cL_law 1353 = .ok (.invokevirtual 157, 3) := dk_182 0 157 (dk_at dksL_law_51 12 rfl rfl)
theorem dL_law_1356 : decode cL_law 1356 = .ok (.aload_n 2, 1) := dk_44 (dk_at dksL_law_51 15 rfl rfl)
theorem dL_law_1357 : decode cL_law 1357 = .ok (.aload_n 0, 1) := dk_42 (dk_at dksL_law_51 16 rfl rfl)
theorem dL_law_1358 : decode cL_law 1358 = .ok (.iload_n 3, 1) := dk_29 (dk_at dksL_law_51 17 rfl rfl)
theorem dL_law_1359 : decode cL_law 1359 = .ok (.iconst 1, 1) := dk_4 (dk_at dksL_law_51 18 rfl rfl)
theorem dL_law_1360 : decode cL_law 1360 = .ok (.iadd, 1) := dk_96 (dk_at dksL_law_51 19 rfl rfl)
theorem dL_law_1361 : decode cL_law 1361 = .ok (.iaload, 1) := dk_46 (dk_at dksL_law_51 20 rfl rfl)
theorem dL_law_1362 : decode cL_law 1362 = .ok (.aload_n 0, 1) := dk_42 (dk_at dksL_law_51 21 rfl rfl)
theorem dL_law_1363 : decode cL_law 1363 = .ok (.iload_n 3, 1) := dk_29 (dk_at dksL_law_51 22 rfl rfl)
theorem dL_law_1364 : decode cL_law 1364 = .ok (.iconst 2, 1) := dk_5 (dk_at dksL_law_51 23 rfl rfl)
theorem dL_law_1365 : decode cL_law 1365 = .ok (.iadd, 1) := dk_96 (dk_at dksL_law_52 0 rfl rfl)
theorem dL_law_1366 : decode cL_law 1366 = .ok (.iaload, 1) := dk_46 (dk_at dksL_law_52 1 rfl rfl)
theorem dL_law_1367 : decode cL_law 1367 = .ok (.invokevirtual 161, 3) := dk_182 0 161 (dk_at dksL_law_52 2 rfl rfl)
theorem dL_law_1370 : decode cL_law 1370 = .ok (.lcmp, 1) := dk_148 (dk_at dksL_law_52 5 rfl rfl)
theorem dL_law_1371 : decode cL_law 1371 = .ok (.ifCond .eq 124, 3) := dk_153 0 124 (dk_at dksL_law_52 6 rfl rfl)
theorem dL_law_1374 : decode cL_law 1374 = .ok (.iconst 0, 1) := dk_3 (dk_at dksL_law_52 9 rfl rfl)
theorem dL_law_1375 : decode cL_law 1375 = .ok (.ireturn, 1) := dk_172 (dk_at dksL_law_52 10 rfl rfl)
theorem dL_law_1376 : decode cL_law 1376 = .ok (.aload_n 1, 1) := dk_43 (dk_at dksL_law_52 11 rfl rfl)
theorem dL_law_1377 : decode cL_law 1377 = .ok (.aload_n 0, 1) := dk_42 (dk_at dksL_law_52 12 rfl rfl)
theorem dL_law_1378 : decode cL_law 1378 = .ok (.iload_n 3, 1) := dk_29 (dk_at dksL_law_52 13 rfl rfl)
theorem dL_law_1379 : decode cL_law 1379 = .ok (.iconst 1, 1) := dk_4 (dk_at dksL_law_52 14 rfl rfl)
theorem dL_law_1380 : decode cL_law 1380 = .ok (.iadd, 1) := dk_96 (dk_at dksL_law_52 15 rfl rfl)
theorem dL_law_1381 : decode cL_law 1381 = .ok (.iaload, 1) := dk_46 (dk_at dksL_law_52 16 rfl rfl)
theorem dL_law_1382 : decode cL_law 1382 = .ok (.aload_n 0, 1) := dk_42 (dk_at dksL_law_52 17 rfl rfl)
theorem dL_law_1383 : decode cL_law 1383 = .ok (.iload_n 3, 1) := dk_29 (dk_at dksL_law_52 18 rfl rfl)
theorem dL_law_1384 : decode cL_law 1384 = .ok (.iconst 2, 1) := dk_5 (dk_at dksL_law_52 19 rfl rfl)
theorem dL_law_1385 : decode cL_law 1385 = .ok (.iadd, 1) := dk_96 (dk_at dksL_law_52 20 rfl rfl)
theorem dL_law_1386 : decode cL_law 1386 = .ok (.iaload, 1) := dk_46 (dk_at dksL_law_52 21 rfl rfl)
theorem dL_law_1387 : decode cL_law 1387 = .ok (.aload_n 0, 1) := dk_42 (dk_at dksL_law_52 22 rfl rfl)
theorem dL_law_1388 : decode cL_law 1388 = .ok (.iload_n 3, 1) := dk_29 (dk_at dksL_law_52 23 rfl rfl)
theorem dL_law_1389 : decode cL_law 1389 = .ok (.iconst 3, 1) := dk_6 (dk_at dksL_law_53 0 rfl rfl)
theorem dL_law_1390 : decode cL_law 1390 = .ok (.iadd, 1) := dk_96 (dk_at dksL_law_53 1 rfl rfl)
theorem dL_law_1391 : decode cL_law 1391 = .ok (.iaload, 1) := dk_46 (dk_at dksL_law_53 2 rfl rfl)
theorem dL_law_1392 : decode cL_law 1392 = .ok (.aload_n 0, 1) := dk_42 (dk_at dksL_law_53 3 rfl rfl)
theorem dL_law_1393 : decode cL_law 1393 = .ok (.iload_n 3, 1) := dk_29 (dk_at dksL_law_53 4 rfl rfl)
theorem dL_law_1394 : decode cL_law 1394 = .ok (.iconst 4, 1) := dk_7 (dk_at dksL_law_53 5 rfl rfl)
theorem dL_law_1395 : decode cL_law 1395 = .ok (.iadd, 1) := dk_96 (dk_at dksL_law_53 6 rfl rfl)
theorem dL_law_1396 : decode cL_law 1396 = .ok (.iaload, 1) := dk_46 (dk_at dksL_law_53 7 rfl rfl)
theorem dL_law_1397 : decode cL_law 1397 = .ok (.aload_n 0, 1) := dk_42 (dk_at dksL_law_53 8 rfl rfl)
theorem dL_law_1398 : decode cL_law 1398 = .ok (.iload_n 3, 1) := dk_29 (dk_at dksL_law_53 9 rfl rfl)
theorem dL_law_1399 : decode cL_law 1399 = .ok (.iconst 5, 1) := dk_8 (dk_at dksL_law_53 10 rfl rfl)
theorem dL_law_1400 : decode cL_law 1400 = .ok (.iadd, 1) := dk_96 (dk_at dksL_law_53 11 rfl rfl)
theorem dL_law_1401 : decode cL_law 1401 = .ok (.iaload, 1) := dk_46 (dk_at dksL_law_53 12 rfl rfl)
theorem dL_law_1402 : decode cL_law 1402 = .ok (.invokevirtual 162, 3) := dk_182 0 162 (dk_at dksL_law_53 13 rfl rfl)
theorem dL_law_1405 : decode cL_law 1405 = .ok (.aload_n 2, 1) := dk_44 (dk_at dksL_law_53 16 rfl rfl)
theorem dL_law_1406 : decode cL_law 1406 = .ok (.aload_n 0, 1) := dk_42 (dk_at dksL_law_53 17 rfl rfl)
theorem dL_law_1407 : decode cL_law 1407 = .ok (.iload_n 3, 1) := dk_29 (dk_at dksL_law_53 18 rfl rfl)
theorem dL_law_1408 : decode cL_law 1408 = .ok (.iconst 1, 1) := dk_4 (dk_at dksL_law_53 19 rfl rfl)
theorem dL_law_1409 : decode cL_law 1409 = .ok (.iadd, 1) := dk_96 (dk_at dksL_law_53 20 rfl rfl)
theorem dL_law_1410 : decode cL_law 1410 = .ok (.iaload, 1) := dk_46 (dk_at dksL_law_53 21 rfl rfl)
theorem dL_law_1411 : decode cL_law 1411 = .ok (.aload_n 0, 1) := dk_42 (dk_at dksL_law_53 22 rfl rfl)
theorem dL_law_1412 : decode cL_law 1412 = .ok (.iload_n 3, 1) := dk_29 (dk_at dksL_law_53 23 rfl rfl)
theorem dL_law_1413 : decode cL_law 1413 = .ok (.iconst 2, 1) := dk_5 (dk_at dksL_law_54 0 rfl rfl)
theorem dL_law_1414 : decode cL_law 1414 = .ok (.iadd, 1) := dk_96 (dk_at dksL_law_54 1 rfl rfl)
theorem dL_law_1415 : decode cL_law 1415 = .ok (.iaload, 1) := dk_46 (dk_at dksL_law_54 2 rfl rfl)
theorem dL_law_1416 : decode cL_law 1416 = .ok (.aload_n 0, 1) := dk_42 (dk_at dksL_law_54 3 rfl rfl)
theorem dL_law_1417 : decode cL_law 1417 = .ok (.iload_n 3, 1) := dk_29 (dk_at dksL_law_54 4 rfl rfl)
theorem dL_law_1418 : decode cL_law 1418 = .ok (.iconst 3, 1) := dk_6 (dk_at dksL_law_54 5 rfl rfl)
theorem dL_law_1419 : decode cL_law 1419 = .ok (.iadd, 1) := dk_96 (dk_at dksL_law_54 6 rfl rfl)
theorem dL_law_1420 : decode cL_law 1420 = .ok (.iaload, 1) := dk_46 (dk_at dksL_law_54 7 rfl rfl)
theorem dL_law_1421 : decode cL_law 1421 = .ok (.aload_n 0, 1) := dk_42 (dk_at dksL_law_54 8 rfl rfl)
theorem dL_law_1422 : decode cL_law 1422 = .ok (.iload_n 3, 1) := dk_29 (dk_at dksL_law_54 9 rfl rfl)
theorem dL_law_1423 : decode cL_law 1423 = .ok (.iconst 4, 1) := dk_7 (dk_at dksL_law_54 10 rfl rfl)
theorem dL_law_1424 : decode cL_law 1424 = .ok (.iadd, 1) := dk_96 (dk_at dksL_law_54 11 rfl rfl)
theorem dL_law_1425 : decode cL_law 1425 = .ok (.iaload, 1) := dk_46 (dk_at dksL_law_54 12 rfl rfl)
theorem dL_law_1426 : decode cL_law 1426 = .ok (.aload_n 0, 1) := dk_42 (dk_at dksL_law_54 13 rfl rfl)
theorem dL_law_1427 : decode cL_law 1427 = .ok (.iload_n 3, 1) := dk_29 (dk_at dksL_law_54 14 rfl rfl)
theorem dL_law_1428 : decode cL_law 1428 = .ok (.iconst 5, 1) := dk_8 (dk_at dksL_law_54 15 rfl rfl)
theorem dL_law_1429 : decode cL_law 1429 = .ok (.iadd, 1) := dk_96 (dk_at dksL_law_54 16 rfl rfl)
theorem dL_law_1430 : decode cL_law 1430 = .ok (.iaload, 1) := dk_46 (dk_at dksL_law_54 17 rfl rfl)
theorem dL_law_1431 : decode cL_law 1431 = .ok (.invokevirtual 166, 3) := dk_182 0 166 (dk_at dksL_law_54 18 rfl rfl)
theorem dL_law_1434 : decode cL_law 1434 = .ok (.if_icmp .eq 61, 3) := dk_159 0 61 (dk_at dksL_law_54 21 rfl rfl)
theorem dL_law_1437 : decode cL_law 1437 = .ok (.iconst 0, 1) := dk_3 (dk_at dksL_law_55 0 rfl rfl)
theorem dL_law_1438 : decode cL_law 1438 = .ok (.ireturn, 1) := dk_172 (dk_at dksL_law_55 1 rfl rfl)
theorem dL_law_1439 : decode cL_law 1439 = .ok (.aload_n 1, 1) := dk_43 (dk_at dksL_law_55 2 rfl rfl)
theorem dL_law_1440 : decode cL_law 1440 = .ok (.aload_n 0, 1) := dk_42 (dk_at dksL_law_55 3 rfl rfl)
theorem dL_law_1441 : decode cL_law 1441 = .ok (.iload_n 3, 1) := dk_29 (dk_at dksL_law_55 4 rfl rfl)
theorem dL_law_1442 : decode cL_law 1442 = .ok (.iconst 1, 1) := dk_4 (dk_at dksL_law_55 5 rfl rfl)
theorem dL_law_1443 : decode cL_law 1443 = .ok (.iadd, 1) := dk_96 (dk_at dksL_law_55 6 rfl rfl)
theorem dL_law_1444 : decode cL_law 1444 = .ok (.iaload, 1) := dk_46 (dk_at dksL_law_55 7 rfl rfl)
theorem dL_law_1445 : decode cL_law 1445 = .ok (.aload_n 0, 1) := dk_42 (dk_at dksL_law_55 8 rfl rfl)
theorem dL_law_1446 : decode cL_law 1446 = .ok (.iload_n 3, 1) := dk_29 (dk_at dksL_law_55 9 rfl rfl)
theorem dL_law_1447 : decode cL_law 1447 = .ok (.iconst 2, 1) := dk_5 (dk_at dksL_law_55 10 rfl rfl)
theorem dL_law_1448 : decode cL_law 1448 = .ok (.iadd, 1) := dk_96 (dk_at dksL_law_55 11 rfl rfl)
theorem dL_law_1449 : decode cL_law 1449 = .ok (.iaload, 1) := dk_46 (dk_at dksL_law_55 12 rfl rfl)
theorem dL_law_1450 : decode cL_law 1450 = .ok (.invokevirtual 167, 3) := dk_182 0 167 (dk_at dksL_law_55 13 rfl rfl)
theorem dL_law_1453 : decode cL_law 1453 = .ok (.aload_n 2, 1) := dk_44 (dk_at dksL_law_55 16 rfl rfl)
theorem dL_law_1454 : decode cL_law 1454 = .ok (.aload_n 0, 1) := dk_42 (dk_at dksL_law_55 17 rfl rfl)
theorem dL_law_1455 : decode cL_law 1455 = .ok (.iload_n 3, 1) := dk_29 (dk_at dksL_law_55 18 rfl rfl)
theorem dL_law_1456 : decode cL_law 1456 = .ok (.iconst 1, 1) := dk_4 (dk_at dksL_law_55 19 rfl rfl)
theorem dL_law_1457 : decode cL_law 1457 = .ok (.iadd, 1) := dk_96 (dk_at dksL_law_55 20 rfl rfl)
theorem dL_law_1458 : decode cL_law 1458 = .ok (.iaload, 1) := dk_46 (dk_at dksL_law_55 21 rfl rfl)
theorem dL_law_1459 : decode cL_law 1459 = .ok (.aload_n 0, 1) := dk_42 (dk_at dksL_law_55 22 rfl rfl)
theorem dL_law_1460 : decode cL_law 1460 = .ok (.iload_n 3, 1) := dk_29 (dk_at dksL_law_55 23 rfl rfl)
theorem dL_law_1461 : decode cL_law 1461 = .ok (.iconst 2, 1) := dk_5 (dk_at dksL_law_56 0 rfl rfl)
theorem dL_law_1462 : decode cL_law 1462 = .ok (.iadd, 1) := dk_96 (dk_at dksL_law_56 1 rfl rfl)
theorem dL_law_1463 : decode cL_law 1463 = .ok (.iaload, 1) := dk_46 (dk_at dksL_law_56 2 rfl rfl)
theorem dL_law_1464 : decode cL_law 1464 = .ok (.invokevirtual 170, 3) := dk_182 0 170 (dk_at dksL_law_56 3 rfl rfl)
theorem dL_law_1467 : decode cL_law 1467 = .ok (.if_icmp .eq 28, 3) := dk_159 0 28 (dk_at dksL_law_56 6 rfl rfl)
theorem dL_law_1470 : decode cL_law 1470 = .ok (.iconst 0, 1) := dk_3 (dk_at dksL_law_56 9 rfl rfl)
theorem dL_law_1471 : decode cL_law 1471 = .ok (.ireturn, 1) := dk_172 (dk_at dksL_law_56 10 rfl rfl)
theorem dL_law_1472 : decode cL_law 1472 = .ok (.aload_n 1, 1) := dk_43 (dk_at dksL_law_56 11 rfl rfl)
theorem dL_law_1473 : decode cL_law 1473 = .ok (.aload_n 0, 1) := dk_42 (dk_at dksL_law_56 12 rfl rfl)
theorem dL_law_1474 : decode cL_law 1474 = .ok (.iload_n 3, 1) := dk_29 (dk_at dksL_law_56 13 rfl rfl)
theorem dL_law_1475 : decode cL_law 1475 = .ok (.iconst 1, 1) := dk_4 (dk_at dksL_law_56 14 rfl rfl)
theorem dL_law_1476 : decode cL_law 1476 = .ok (.iadd, 1) := dk_96 (dk_at dksL_law_56 15 rfl rfl)
theorem dL_law_1477 : decode cL_law 1477 = .ok (.iaload, 1) := dk_46 (dk_at dksL_law_56 16 rfl rfl)
theorem dL_law_1478 : decode cL_law 1478 = .ok (.invokevirtual 171, 3) := dk_182 0 171 (dk_at dksL_law_56 17 rfl rfl)
theorem dL_law_1481 : decode cL_law 1481 = .ok (.aload_n 2, 1) := dk_44 (dk_at dksL_law_56 20 rfl rfl)
theorem dL_law_1482 : decode cL_law 1482 = .ok (.aload_n 0, 1) := dk_42 (dk_at dksL_law_56 21 rfl rfl)
theorem dL_law_1483 : decode cL_law 1483 = .ok (.iload_n 3, 1) := dk_29 (dk_at dksL_law_56 22 rfl rfl)
theorem dL_law_1484 : decode cL_law 1484 = .ok (.iconst 1, 1) := dk_4 (dk_at dksL_law_56 23 rfl rfl)
theorem dL_law_1485 : decode cL_law 1485 = .ok (.iadd, 1) := dk_96 (dk_at dksL_law_57 0 rfl rfl)
theorem dL_law_1486 : decode cL_law 1486 = .ok (.iaload, 1) := dk_46 (dk_at dksL_law_57 1 rfl rfl)
theorem dL_law_1487 : decode cL_law 1487 = .ok (.invokevirtual 174, 3) := dk_182 0 174 (dk_at dksL_law_57 2 rfl rfl)
theorem dL_law_1490 : decode cL_law 1490 = .ok (.if_icmp .eq 5, 3) := dk_159 0 5 (dk_at dksL_law_57 5 rfl rfl)
theorem dL_law_1493 : decode cL_law 1493 = .ok (.iconst 0, 1) := dk_3 (dk_at dksL_law_57 8 rfl rfl)
theorem dL_law_1494 : decode cL_law 1494 = .ok (.ireturn, 1) := dk_172 (dk_at dksL_law_57 9 rfl rfl)
theorem dL_law_1495 : decode cL_law 1495 = .ok (.iinc 3 6, 3) := dk_132 3 6 (dk_at dksL_law_57 10 rfl rfl)
theorem dL_law_1498 : decode cL_law 1498 = .ok (.goto (-1480), 3) := dk_167 250 56 (dk_at dksL_law_57 13 rfl rfl)
theorem dL_law_1501 : decode cL_law 1501 = .ok (.iconst 1, 1) := dk_4 (dk_at dksL_law_57 16 rfl rfl)
theorem dL_law_1502 : decode cL_law 1502 = .ok (.ireturn, 1) := dk_172 (dk_at dksL_law_57 17 rfl rfl)
