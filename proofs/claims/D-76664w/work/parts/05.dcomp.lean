set_option maxRecDepth 100000
def dkwX0_buyer_2 : List UInt8 := [172]
abbrev dktX0_buyer_2 : List UInt8 := dkwX0_buyer_2 ++ []
def dkwX0_buyer_1 : List UInt8 := [180, 0, 1, 16, 8, 160, 0, 6, 16, 253, 172, 42, 27, 28, 182, 0, 25, 87, 42, 180, 0, 1, 4, 100]
abbrev dktX0_buyer_1 : List UInt8 := dkwX0_buyer_1 ++ dktX0_buyer_2
def dkwX0_buyer_0 : List UInt8 := [27, 3, 16, 9, 184, 0, 7, 153, 0, 13, 28, 3, 16, 9, 184, 0, 7, 154, 0, 5, 2, 172, 42]
abbrev dktX0_buyer_0 : List UInt8 := dkwX0_buyer_0 ++ dktX0_buyer_1
theorem dksX0_buyer_0 : cX0_buyer.data.toList.drop 0 = dktX0_buyer_0 := by decide +kernel
theorem dksX0_buyer_1 : cX0_buyer.data.toList.drop 23 = dktX0_buyer_1 := dk_seg dksX0_buyer_0 23 rfl rfl
theorem dksX0_buyer_2 : cX0_buyer.data.toList.drop 47 = dktX0_buyer_2 := dk_seg dksX0_buyer_1 24 rfl rfl
theorem dX0_buyer_0 : decode cX0_buyer 0 = .ok (.iload_n 1, 1) := dk_27 (dk_at dksX0_buyer_0 0 rfl rfl)
theorem dX0_buyer_1 : decode cX0_buyer 1 = .ok (.iconst 0, 1) := dk_3 (dk_at dksX0_buyer_0 1 rfl rfl)
theorem dX0_buyer_2 : decode cX0_buyer 2 = .ok (.bipush 9, 2) := dk_16 9 (dk_at dksX0_buyer_0 2 rfl rfl)
theorem dX0_buyer_4 : decode cX0_buyer 4 = .ok (.invokestatic 7, 3) := dk_184 0 7 (dk_at dksX0_buyer_0 4 rfl rfl)
theorem dX0_buyer_7 : decode cX0_buyer 7 = .ok (.ifCond .eq 13, 3) := dk_153 0 13 (dk_at dksX0_buyer_0 7 rfl rfl)
theorem dX0_buyer_10 : decode cX0_buyer 10 = .ok (.iload_n 2, 1) := dk_28 (dk_at dksX0_buyer_0 10 rfl rfl)
theorem dX0_buyer_11 : decode cX0_buyer 11 = .ok (.iconst 0, 1) := dk_3 (dk_at dksX0_buyer_0 11 rfl rfl)
theorem dX0_buyer_12 : decode cX0_buyer 12 = .ok (.bipush 9, 2) := dk_16 9 (dk_at dksX0_buyer_0 12 rfl rfl)
theorem dX0_buyer_14 : decode cX0_buyer 14 = .ok (.invokestatic 7, 3) := dk_184 0 7 (dk_at dksX0_buyer_0 14 rfl rfl)
theorem dX0_buyer_17 : decode cX0_buyer 17 = .ok (.ifCond .ne 5, 3) := dk_154 0 5 (dk_at dksX0_buyer_0 17 rfl rfl)
theorem dX0_buyer_20 : decode cX0_buyer 20 = .ok (.iconst (-1), 1) := dk_2 (dk_at dksX0_buyer_0 20 rfl rfl)
theorem dX0_buyer_21 : decode cX0_buyer 21 = .ok (.ireturn, 1) := dk_172 (dk_at dksX0_buyer_0 21 rfl rfl)
theorem dX0_buyer_22 : decode cX0_buyer 22 = .ok (.aload_n 0, 1) := dk_42 (dk_at dksX0_buyer_0 22 rfl rfl)
theorem dX0_buyer_23 : decode cX0_buyer 23 = .ok (.getfield 1, 3) := dk_180 0 1 (dk_at dksX0_buyer_1 0 rfl rfl)
theorem dX0_buyer_26 : decode cX0_buyer 26 = .ok (.bipush 8, 2) := dk_16 8 (dk_at dksX0_buyer_1 3 rfl rfl)
theorem dX0_buyer_28 : decode cX0_buyer 28 = .ok (.if_icmp .ne 6, 3) := dk_160 0 6 (dk_at dksX0_buyer_1 5 rfl rfl)
theorem dX0_buyer_31 : decode cX0_buyer 31 = .ok (.bipush (-3), 2) := dk_16 253 (dk_at dksX0_buyer_1 8 rfl rfl)
theorem dX0_buyer_33 : decode cX0_buyer 33 = .ok (.ireturn, 1) := dk_172 (dk_at dksX0_buyer_1 10 rfl rfl)
theorem dX0_buyer_34 : decode cX0_buyer 34 = .ok (.aload_n 0, 1) := dk_42 (dk_at dksX0_buyer_1 11 rfl rfl)
theorem dX0_buyer_35 : decode cX0_buyer 35 = .ok (.iload_n 1, 1) := dk_27 (dk_at dksX0_buyer_1 12 rfl rfl)
theorem dX0_buyer_36 : decode cX0_buyer 36 = .ok (.iload_n 2, 1) := dk_28 (dk_at dksX0_buyer_1 13 rfl rfl)
theorem dX0_buyer_37 : decode cX0_buyer 37 = .ok (.invokevirtual 25, 3) := dk_182 0 25 (dk_at dksX0_buyer_1 14 rfl rfl)
theorem dX0_buyer_40 : decode cX0_buyer 40 = .ok (.pop, 1) := dk_87 (dk_at dksX0_buyer_1 17 rfl rfl)
theorem dX0_buyer_41 : decode cX0_buyer 41 = .ok (.aload_n 0, 1) := dk_42 (dk_at dksX0_buyer_1 18 rfl rfl)
theorem dX0_buyer_42 : decode cX0_buyer 42 = .ok (.getfield 1, 3) := dk_180 0 1 (dk_at dksX0_buyer_1 19 rfl rfl)
theorem dX0_buyer_45 : decode cX0_buyer 45 = .ok (.iconst 1, 1) := dk_4 (dk_at dksX0_buyer_1 22 rfl rfl)
theorem dX0_buyer_46 : decode cX0_buyer 46 = .ok (.isub, 1) := dk_100 (dk_at dksX0_buyer_1 23 rfl rfl)
theorem dX0_buyer_47 : decode cX0_buyer 47 = .ok (.ireturn, 1) := dk_172 (dk_at dksX0_buyer_2 0 rfl rfl)
def dkwX0_in_0 : List UInt8 := [26, 27, 161, 0, 12, 26, 28, 163, 0, 7, 4, 167, 0, 4, 3, 172]
abbrev dktX0_in_0 : List UInt8 := dkwX0_in_0 ++ []
theorem dksX0_in_0 : cX0_in.data.toList.drop 0 = dktX0_in_0 := by decide +kernel
theorem dX0_in_0 : decode cX0_in 0 = .ok (.iload_n 0, 1) := dk_26 (dk_at dksX0_in_0 0 rfl rfl)
theorem dX0_in_1 : decode cX0_in 1 = .ok (.iload_n 1, 1) := dk_27 (dk_at dksX0_in_0 1 rfl rfl)
theorem dX0_in_2 : decode cX0_in 2 = .ok (.if_icmp .lt 12, 3) := dk_161 0 12 (dk_at dksX0_in_0 2 rfl rfl)
theorem dX0_in_5 : decode cX0_in 5 = .ok (.iload_n 0, 1) := dk_26 (dk_at dksX0_in_0 5 rfl rfl)
theorem dX0_in_6 : decode cX0_in 6 = .ok (.iload_n 2, 1) := dk_28 (dk_at dksX0_in_0 6 rfl rfl)
theorem dX0_in_7 : decode cX0_in 7 = .ok (.if_icmp .gt 7, 3) := dk_163 0 7 (dk_at dksX0_in_0 7 rfl rfl)
theorem dX0_in_10 : decode cX0_in 10 = .ok (.iconst 1, 1) := dk_4 (dk_at dksX0_in_0 10 rfl rfl)
theorem dX0_in_11 : decode cX0_in 11 = .ok (.goto 4, 3) := dk_167 0 4 (dk_at dksX0_in_0 11 rfl rfl)
theorem dX0_in_14 : decode cX0_in 14 = .ok (.iconst 0, 1) := dk_3 (dk_at dksX0_in_0 14 rfl rfl)
theorem dX0_in_15 : decode cX0_in 15 = .ok (.ireturn, 1) := dk_172 (dk_at dksX0_in_0 15 rfl rfl)
def dkwX0_add_1 : List UInt8 := [96, 181, 0, 1, 42, 180, 0, 15, 42, 180, 0, 1, 4, 100, 50, 176]
abbrev dktX0_add_1 : List UInt8 := dkwX0_add_1 ++ []
def dkwX0_add_0 : List UInt8 := [42, 180, 0, 15, 42, 180, 0, 1, 187, 0, 19, 89, 27, 28, 183, 0, 21, 83, 42, 89, 180, 0, 1, 4]
abbrev dktX0_add_0 : List UInt8 := dkwX0_add_0 ++ dktX0_add_1
theorem dksX0_add_0 : cX0_add.data.toList.drop 0 = dktX0_add_0 := by decide +kernel
theorem dksX0_add_1 : cX0_add.data.toList.drop 24 = dktX0_add_1 := dk_seg dksX0_add_0 24 rfl rfl
theorem dX0_add_0 : decode cX0_add 0 = .ok (.aload_n 0, 1) := dk_42 (dk_at dksX0_add_0 0 rfl rfl)
theorem dX0_add_1 : decode cX0_add 1 = .ok (.getfield 15, 3) := dk_180 0 15 (dk_at dksX0_add_0 1 rfl rfl)
theorem dX0_add_4 : decode cX0_add 4 = .ok (.aload_n 0, 1) := dk_42 (dk_at dksX0_add_0 4 rfl rfl)
theorem dX0_add_5 : decode cX0_add 5 = .ok (.getfield 1, 3) := dk_180 0 1 (dk_at dksX0_add_0 5 rfl rfl)
theorem dX0_add_8 : decode cX0_add 8 = .ok (.new 19, 3) := dk_187 0 19 (dk_at dksX0_add_0 8 rfl rfl)
theorem dX0_add_11 : decode cX0_add 11 = .ok (.dup, 1) := dk_89 (dk_at dksX0_add_0 11 rfl rfl)
theorem dX0_add_12 : decode cX0_add 12 = .ok (.iload_n 1, 1) := dk_27 (dk_at dksX0_add_0 12 rfl rfl)
theorem dX0_add_13 : decode cX0_add 13 = .ok (.iload_n 2, 1) := dk_28 (dk_at dksX0_add_0 13 rfl rfl)
theorem dX0_add_14 : decode cX0_add 14 = .ok (.invokespecial 21, 3) := dk_183 0 21 (dk_at dksX0_add_0 14 rfl rfl)
theorem dX0_add_17 : decode cX0_add 17 = .ok (.aastore, 1) := dk_83 (dk_at dksX0_add_0 17 rfl rfl)
theorem dX0_add_18 : decode cX0_add 18 = .ok (.aload_n 0, 1) := dk_42 (dk_at dksX0_add_0 18 rfl rfl)
theorem dX0_add_19 : decode cX0_add 19 = .ok (.dup, 1) := dk_89 (dk_at dksX0_add_0 19 rfl rfl)
theorem dX0_add_20 : decode cX0_add 20 = .ok (.getfield 1, 3) := dk_180 0 1 (dk_at dksX0_add_0 20 rfl rfl)
theorem dX0_add_23 : decode cX0_add 23 = .ok (.iconst 1, 1) := dk_4 (dk_at dksX0_add_0 23 rfl rfl)
theorem dX0_add_24 : decode cX0_add 24 = .ok (.iadd, 1) := dk_96 (dk_at dksX0_add_1 0 rfl rfl)
theorem dX0_add_25 : decode cX0_add 25 = .ok (.putfield 1, 3) := dk_181 0 1 (dk_at dksX0_add_1 1 rfl rfl)
theorem dX0_add_28 : decode cX0_add 28 = .ok (.aload_n 0, 1) := dk_42 (dk_at dksX0_add_1 4 rfl rfl)
theorem dX0_add_29 : decode cX0_add 29 = .ok (.getfield 15, 3) := dk_180 0 15 (dk_at dksX0_add_1 5 rfl rfl)
theorem dX0_add_32 : decode cX0_add 32 = .ok (.aload_n 0, 1) := dk_42 (dk_at dksX0_add_1 8 rfl rfl)
theorem dX0_add_33 : decode cX0_add 33 = .ok (.getfield 1, 3) := dk_180 0 1 (dk_at dksX0_add_1 9 rfl rfl)
theorem dX0_add_36 : decode cX0_add 36 = .ok (.iconst 1, 1) := dk_4 (dk_at dksX0_add_1 12 rfl rfl)
theorem dX0_add_37 : decode cX0_add 37 = .ok (.isub, 1) := dk_100 (dk_at dksX0_add_1 13 rfl rfl)
theorem dX0_add_38 : decode cX0_add 38 = .ok (.aaload, 1) := dk_50 (dk_at dksX0_add_1 14 rfl rfl)
theorem dX0_add_39 : decode cX0_add 39 = .ok (.areturn, 1) := dk_176 (dk_at dksX0_add_1 15 rfl rfl)
def dkwX0_buyers_7 : List UInt8 := [16, 244, 172, 58, 5, 21, 4, 172, 58, 5, 21, 4, 172, 21, 4, 172]
abbrev dktX0_buyers_7 : List UInt8 := dkwX0_buyers_7 ++ []
def dkwX0_buyers_6 : List UInt8 := [21, 9, 182, 0, 25, 21, 7, 181, 0, 42, 132, 4, 1, 132, 6, 1, 167, 255, 139, 167, 0, 18, 58, 5]
abbrev dktX0_buyers_6 : List UInt8 := dkwX0_buyers_6 ++ dktX0_buyers_7
def dkwX0_buyers_5 : List UInt8 := [184, 0, 7, 153, 0, 14, 21, 9, 3, 16, 9, 184, 0, 7, 154, 0, 6, 21, 4, 172, 42, 21, 8]
abbrev dktX0_buyers_5 : List UInt8 := dkwX0_buyers_5 ++ dktX0_buyers_6
def dkwX0_buyers_4 : List UInt8 := [182, 0, 38, 136, 54, 9, 21, 7, 3, 17, 3, 231, 184, 0, 7, 153, 0, 25, 21, 8, 3, 16, 9]
abbrev dktX0_buyers_4 : List UInt8 := dkwX0_buyers_4 ++ dktX0_buyers_5
def dkwX0_buyers_3 : List UInt8 := [21, 6, 104, 96, 4, 96, 182, 0, 38, 136, 54, 8, 25, 5, 28, 6, 21, 6, 104, 96, 5, 96]
abbrev dktX0_buyers_3 : List UInt8 := dkwX0_buyers_3 ++ dktX0_buyers_4
def dkwX0_buyers_2 : List UInt8 := [16, 8, 162, 0, 108, 25, 5, 28, 6, 21, 6, 104, 96, 182, 0, 38, 136, 54, 7, 25, 5, 28, 6]
abbrev dktX0_buyers_2 : List UInt8 := dkwX0_buyers_2 ++ dktX0_buyers_3
def dkwX0_buyers_1 : List UInt8 := [180, 0, 32, 27, 50, 192, 0, 36, 58, 5, 3, 54, 6, 21, 6, 29, 162, 0, 117, 42, 180, 0, 1]
abbrev dktX0_buyers_1 : List UInt8 := dkwX0_buyers_1 ++ dktX0_buyers_2
def dkwX0_buyers_0 : List UInt8 := [27, 184, 0, 29, 153, 0, 13, 29, 4, 16, 8, 184, 0, 7, 154, 0, 5, 2, 172, 3, 54, 4, 42]
abbrev dktX0_buyers_0 : List UInt8 := dkwX0_buyers_0 ++ dktX0_buyers_1
theorem dksX0_buyers_0 : cX0_buyers.data.toList.drop 0 = dktX0_buyers_0 := by decide +kernel
theorem dksX0_buyers_1 : cX0_buyers.data.toList.drop 23 = dktX0_buyers_1 := dk_seg dksX0_buyers_0 23 rfl rfl
theorem dksX0_buyers_2 : cX0_buyers.data.toList.drop 46 = dktX0_buyers_2 := dk_seg dksX0_buyers_1 23 rfl rfl
theorem dksX0_buyers_3 : cX0_buyers.data.toList.drop 69 = dktX0_buyers_3 := dk_seg dksX0_buyers_2 23 rfl rfl
theorem dksX0_buyers_4 : cX0_buyers.data.toList.drop 91 = dktX0_buyers_4 := dk_seg dksX0_buyers_3 22 rfl rfl
theorem dksX0_buyers_5 : cX0_buyers.data.toList.drop 114 = dktX0_buyers_5 := dk_seg dksX0_buyers_4 23 rfl rfl
theorem dksX0_buyers_6 : cX0_buyers.data.toList.drop 137 = dktX0_buyers_6 := dk_seg dksX0_buyers_5 23 rfl rfl
theorem dksX0_buyers_7 : cX0_buyers.data.toList.drop 161 = dktX0_buyers_7 := dk_seg dksX0_buyers_6 24 rfl rfl
theorem dX0_buyers_0 : decode cX0_buyers 0 = .ok (.iload_n 1, 1) := dk_27 (dk_at dksX0_buyers_0 0 rfl rfl)
theorem dX0_buyers_1 : decode cX0_buyers 1 = .ok (.invokestatic 29, 3) := dk_184 0 29 (dk_at dksX0_buyers_0 1 rfl rfl)
theorem dX0_buyers_4 : decode cX0_buyers 4 = .ok (.ifCond .eq 13, 3) := dk_153 0 13 (dk_at dksX0_buyers_0 4 rfl rfl)
theorem dX0_buyers_7 : decode cX0_buyers 7 = .ok (.iload_n 3, 1) := dk_29 (dk_at dksX0_buyers_0 7 rfl rfl)
theorem dX0_buyers_8 : decode cX0_buyers 8 = .ok (.iconst 1, 1) := dk_4 (dk_at dksX0_buyers_0 8 rfl rfl)
theorem dX0_buyers_9 : decode cX0_buyers 9 = .ok (.bipush 8, 2) := dk_16 8 (dk_at dksX0_buyers_0 9 rfl rfl)
theorem dX0_buyers_11 : decode cX0_buyers 11 = .ok (.invokestatic 7, 3) := dk_184 0 7 (dk_at dksX0_buyers_0 11 rfl rfl)
theorem dX0_buyers_14 : decode cX0_buyers 14 = .ok (.ifCond .ne 5, 3) := dk_154 0 5 (dk_at dksX0_buyers_0 14 rfl rfl)
theorem dX0_buyers_17 : decode cX0_buyers 17 = .ok (.iconst (-1), 1) := dk_2 (dk_at dksX0_buyers_0 17 rfl rfl)
theorem dX0_buyers_18 : decode cX0_buyers 18 = .ok (.ireturn, 1) := dk_172 (dk_at dksX0_buyers_0 18 rfl rfl)
theorem dX0_buyers_19 : decode cX0_buyers 19 = .ok (.iconst 0, 1) := dk_3 (dk_at dksX0_buyers_0 19 rfl rfl)
theorem dX0_buyers_20 : decode cX0_buyers 20 = .ok (.istore 4, 2) := dk_54 4 (dk_at dksX0_buyers_0 20 rfl rfl)
theorem dX0_buyers_22 : decode cX0_buyers 22 = .ok (.aload_n 0, 1) := dk_42 (dk_at dksX0_buyers_0 22 rfl rfl)
theorem dX0_buyers_23 : decode cX0_buyers 23 = .ok (.getfield 32, 3) := dk_180 0 32 (dk_at dksX0_buyers_1 0 rfl rfl)
theorem dX0_buyers_26 : decode cX0_buyers 26 = .ok (.iload_n 1, 1) := dk_27 (dk_at dksX0_buyers_1 3 rfl rfl)
theorem dX0_buyers_27 : decode cX0_buyers 27 = .ok (.aaload, 1) := dk_50 (dk_at dksX0_buyers_1 4 rfl rfl)
theorem dX0_buyers_28 : decode cX0_buyers 28 = .ok (.checkcast 36, 3) := dk_192 0 36 (dk_at dksX0_buyers_1 5 rfl rfl)
theorem dX0_buyers_31 : decode cX0_buyers 31 = .ok (.astore 5, 2) := dk_58 5 (dk_at dksX0_buyers_1 8 rfl rfl)
theorem dX0_buyers_33 : decode cX0_buyers 33 = .ok (.iconst 0, 1) := dk_3 (dk_at dksX0_buyers_1 10 rfl rfl)
theorem dX0_buyers_34 : decode cX0_buyers 34 = .ok (.istore 6, 2) := dk_54 6 (dk_at dksX0_buyers_1 11 rfl rfl)
theorem dX0_buyers_36 : decode cX0_buyers 36 = .ok (.iload 6, 2) := dk_21 6 (dk_at dksX0_buyers_1 13 rfl rfl)
theorem dX0_buyers_38 : decode cX0_buyers 38 = .ok (.iload_n 3, 1) := dk_29 (dk_at dksX0_buyers_1 15 rfl rfl)
theorem dX0_buyers_39 : decode cX0_buyers 39 = .ok (.if_icmp .ge 117, 3) := dk_162 0 117 (dk_at dksX0_buyers_1 16 rfl rfl)
theorem dX0_buyers_42 : decode cX0_buyers 42 = .ok (.aload_n 0, 1) := dk_42 (dk_at dksX0_buyers_1 19 rfl rfl)
theorem dX0_buyers_43 : decode cX0_buyers 43 = .ok (.getfield 1, 3) := dk_180 0 1 (dk_at dksX0_buyers_1 20 rfl rfl)
theorem dX0_buyers_46 : decode cX0_buyers 46 = .ok (.bipush 8, 2) := dk_16 8 (dk_at dksX0_buyers_2 0 rfl rfl)
theorem dX0_buyers_48 : decode cX0_buyers 48 = .ok (.if_icmp .ge 108, 3) := dk_162 0 108 (dk_at dksX0_buyers_2 2 rfl rfl)
theorem dX0_buyers_51 : decode cX0_buyers 51 = .ok (.aload 5, 2) := dk_25 5 (dk_at dksX0_buyers_2 5 rfl rfl)
theorem dX0_buyers_53 : decode cX0_buyers 53 = .ok (.iload_n 2, 1) := dk_28 (dk_at dksX0_buyers_2 7 rfl rfl)
theorem dX0_buyers_54 : decode cX0_buyers 54 = .ok (.iconst 3, 1) := dk_6 (dk_at dksX0_buyers_2 8 rfl rfl)
theorem dX0_buyers_55 : decode cX0_buyers 55 = .ok (.iload 6, 2) := dk_21 6 (dk_at dksX0_buyers_2 9 rfl rfl)
theorem dX0_buyers_57 : decode cX0_buyers 57 = .ok (.imul, 1) := dk_104 (dk_at dksX0_buyers_2 11 rfl rfl)
theorem dX0_buyers_58 : decode cX0_buyers 58 = .ok (.iadd, 1) := dk_96 (dk_at dksX0_buyers_2 12 rfl rfl)
theorem dX0_buyers_59 : decode cX0_buyers 59 = .ok (.invokevirtual 38, 3) := dk_182 0 38 (dk_at dksX0_buyers_2 13 rfl rfl)
theorem dX0_buyers_62 : decode cX0_buyers 62 = .ok (.l2i, 1) := dk_136 (dk_at dksX0_buyers_2 16 rfl rfl)
theorem dX0_buyers_63 : decode cX0_buyers 63 = .ok (.istore 7, 2) := dk_54 7 (dk_at dksX0_buyers_2 17 rfl rfl)
theorem dX0_buyers_65 : decode cX0_buyers 65 = .ok (.aload 5, 2) := dk_25 5 (dk_at dksX0_buyers_2 19 rfl rfl)
theorem dX0_buyers_67 : decode cX0_buyers 67 = .ok (.iload_n 2, 1) := dk_28 (dk_at dksX0_buyers_2 21 rfl rfl)
theorem dX0_buyers_68 : decode cX0_buyers 68 = .ok (.iconst 3, 1) := dk_6 (dk_at dksX0_buyers_2 22 rfl rfl)
theorem dX0_buyers_69 : decode cX0_buyers 69 = .ok (.iload 6, 2) := dk_21 6 (dk_at dksX0_buyers_3 0 rfl rfl)
theorem dX0_buyers_71 : decode cX0_buyers 71 = .ok (.imul, 1) := dk_104 (dk_at dksX0_buyers_3 2 rfl rfl)
theorem dX0_buyers_72 : decode cX0_buyers 72 = .ok (.iadd, 1) := dk_96 (dk_at dksX0_buyers_3 3 rfl rfl)
theorem dX0_buyers_73 : decode cX0_buyers 73 = .ok (.iconst 1, 1) := dk_4 (dk_at dksX0_buyers_3 4 rfl rfl)
theorem dX0_buyers_74 : decode cX0_buyers 74 = .ok (.iadd, 1) := dk_96 (dk_at dksX0_buyers_3 5 rfl rfl)
theorem dX0_buyers_75 : decode cX0_buyers 75 = .ok (.invokevirtual 38, 3) := dk_182 0 38 (dk_at dksX0_buyers_3 6 rfl rfl)
theorem dX0_buyers_78 : decode cX0_buyers 78 = .ok (.l2i, 1) := dk_136 (dk_at dksX0_buyers_3 9 rfl rfl)
theorem dX0_buyers_79 : decode cX0_buyers 79 = .ok (.istore 8, 2) := dk_54 8 (dk_at dksX0_buyers_3 10 rfl rfl)
theorem dX0_buyers_81 : decode cX0_buyers 81 = .ok (.aload 5, 2) := dk_25 5 (dk_at dksX0_buyers_3 12 rfl rfl)
theorem dX0_buyers_83 : decode cX0_buyers 83 = .ok (.iload_n 2, 1) := dk_28 (dk_at dksX0_buyers_3 14 rfl rfl)
theorem dX0_buyers_84 : decode cX0_buyers 84 = .ok (.iconst 3, 1) := dk_6 (dk_at dksX0_buyers_3 15 rfl rfl)
theorem dX0_buyers_85 : decode cX0_buyers 85 = .ok (.iload 6, 2) := dk_21 6 (dk_at dksX0_buyers_3 16 rfl rfl)
theorem dX0_buyers_87 : decode cX0_buyers 87 = .ok (.imul, 1) := dk_104 (dk_at dksX0_buyers_3 18 rfl rfl)
theorem dX0_buyers_88 : decode cX0_buyers 88 = .ok (.iadd, 1) := dk_96 (dk_at dksX0_buyers_3 19 rfl rfl)
theorem dX0_buyers_89 : decode cX0_buyers 89 = .ok (.iconst 2, 1) := dk_5 (dk_at dksX0_buyers_3 20 rfl rfl)
theorem dX0_buyers_90 : decode cX0_buyers 90 = .ok (.iadd, 1) := dk_96 (dk_at dksX0_buyers_3 21 rfl rfl)
theorem dX0_buyers_91 : decode cX0_buyers 91 = .ok (.invokevirtual 38, 3) := dk_182 0 38 (dk_at dksX0_buyers_4 0 rfl rfl)
theorem dX0_buyers_94 : decode cX0_buyers 94 = .ok (.l2i, 1) := dk_136 (dk_at dksX0_buyers_4 3 rfl rfl)
theorem dX0_buyers_95 : decode cX0_buyers 95 = .ok (.istore 9, 2) := dk_54 9 (dk_at dksX0_buyers_4 4 rfl rfl)
theorem dX0_buyers_97 : decode cX0_buyers 97 = .ok (.iload 7, 2) := dk_21 7 (dk_at dksX0_buyers_4 6 rfl rfl)
theorem dX0_buyers_99 : decode cX0_buyers 99 = .ok (.iconst 0, 1) := dk_3 (dk_at dksX0_buyers_4 8 rfl rfl)
theorem dX0_buyers_100 : decode cX0_buyers 100 = .ok (.sipush 999, 3) := dk_17 3 231 (dk_at dksX0_buyers_4 9 rfl rfl)
theorem dX0_buyers_103 : decode cX0_buyers 103 = .ok (.invokestatic 7, 3) := dk_184 0 7 (dk_at dksX0_buyers_4 12 rfl rfl)
theorem dX0_buyers_106 : decode cX0_buyers 106 = .ok (.ifCond .eq 25, 3) := dk_153 0 25 (dk_at dksX0_buyers_4 15 rfl rfl)
theorem dX0_buyers_109 : decode cX0_buyers 109 = .ok (.iload 8, 2) := dk_21 8 (dk_at dksX0_buyers_4 18 rfl rfl)
theorem dX0_buyers_111 : decode cX0_buyers 111 = .ok (.iconst 0, 1) := dk_3 (dk_at dksX0_buyers_4 20 rfl rfl)
theorem dX0_buyers_112 : decode cX0_buyers 112 = .ok (.bipush 9, 2) := dk_16 9 (dk_at dksX0_buyers_4 21 rfl rfl)
theorem dX0_buyers_114 : decode cX0_buyers 114 = .ok (.invokestatic 7, 3) := dk_184 0 7 (dk_at dksX0_buyers_5 0 rfl rfl)
theorem dX0_buyers_117 : decode cX0_buyers 117 = .ok (.ifCond .eq 14, 3) := dk_153 0 14 (dk_at dksX0_buyers_5 3 rfl rfl)
theorem dX0_buyers_120 : decode cX0_buyers 120 = .ok (.iload 9, 2) := dk_21 9 (dk_at dksX0_buyers_5 6 rfl rfl)
theorem dX0_buyers_122 : decode cX0_buyers 122 = .ok (.iconst 0, 1) := dk_3 (dk_at dksX0_buyers_5 8 rfl rfl)
theorem dX0_buyers_123 : decode cX0_buyers 123 = .ok (.bipush 9, 2) := dk_16 9 (dk_at dksX0_buyers_5 9 rfl rfl)
theorem dX0_buyers_125 : decode cX0_buyers 125 = .ok (.invokestatic 7, 3) := dk_184 0 7 (dk_at dksX0_buyers_5 11 rfl rfl)
theorem dX0_buyers_128 : decode cX0_buyers 128 = .ok (.ifCond .ne 6, 3) := dk_154 0 6 (dk_at dksX0_buyers_5 14 rfl rfl)
theorem dX0_buyers_131 : decode cX0_buyers 131 = .ok (.iload 4, 2) := dk_21 4 (dk_at dksX0_buyers_5 17 rfl rfl)
theorem dX0_buyers_133 : decode cX0_buyers 133 = .ok (.ireturn, 1) := dk_172 (dk_at dksX0_buyers_5 19 rfl rfl)
theorem dX0_buyers_134 : decode cX0_buyers 134 = .ok (.aload_n 0, 1) := dk_42 (dk_at dksX0_buyers_5 20 rfl rfl)
theorem dX0_buyers_135 : decode cX0_buyers 135 = .ok (.iload 8, 2) := dk_21 8 (dk_at dksX0_buyers_5 21 rfl rfl)
theorem dX0_buyers_137 : decode cX0_buyers 137 = .ok (.iload 9, 2) := dk_21 9 (dk_at dksX0_buyers_6 0 rfl rfl)
theorem dX0_buyers_139 : decode cX0_buyers 139 = .ok (.invokevirtual 25, 3) := dk_182 0 25 (dk_at dksX0_buyers_6 2 rfl rfl)
theorem dX0_buyers_142 : decode cX0_buyers 142 = .ok (.iload 7, 2) := dk_21 7 (dk_at dksX0_buyers_6 5 rfl rfl)
theorem dX0_buyers_144 : decode cX0_buyers 144 = .ok (.putfield 42, 3) := dk_181 0 42 (dk_at dksX0_buyers_6 7 rfl rfl)
theorem dX0_buyers_147 : decode cX0_buyers 147 = .ok (.iinc 4 1, 3) := dk_132 4 1 (dk_at dksX0_buyers_6 10 rfl rfl)
theorem dX0_buyers_150 : decode cX0_buyers 150 = .ok (.iinc 6 1, 3) := dk_132 6 1 (dk_at dksX0_buyers_6 13 rfl rfl)
theorem dX0_buyers_153 : decode cX0_buyers 153 = .ok (.goto (-117), 3) := dk_167 255 139 (dk_at dksX0_buyers_6 16 rfl rfl)
theorem dX0_buyers_156 : decode cX0_buyers 156 = .ok (.goto 18, 3) := dk_167 0 18 (dk_at dksX0_buyers_6 19 rfl rfl)
theorem dX0_buyers_159 : decode cX0_buyers 159 = .ok (.astore 5, 2) := dk_58 5 (dk_at dksX0_buyers_6 22 rfl rfl)
theorem dX0_buyers_161 : decode cX0_buyers 161 = .ok (.bipush (-12), 2) := dk_16 244 (dk_at dksX0_buyers_7 0 rfl rfl)
theorem dX0_buyers_163 : decode cX0_buyers 163 = .ok (.ireturn, 1) := dk_172 (dk_at dksX0_buyers_7 2 rfl rfl)
theorem dX0_buyers_164 : decode cX0_buyers 164 = .ok (.astore 5, 2) := dk_58 5 (dk_at dksX0_buyers_7 3 rfl rfl)
theorem dX0_buyers_166 : decode cX0_buyers 166 = .ok (.iload 4, 2) := dk_21 4 (dk_at dksX0_buyers_7 5 rfl rfl)
theorem dX0_buyers_168 : decode cX0_buyers 168 = .ok (.ireturn, 1) := dk_172 (dk_at dksX0_buyers_7 7 rfl rfl)
theorem dX0_buyers_169 : decode cX0_buyers 169 = .ok (.astore 5, 2) := dk_58 5 (dk_at dksX0_buyers_7 8 rfl rfl)
theorem dX0_buyers_171 : decode cX0_buyers 171 = .ok (.iload 4, 2) := dk_21 4 (dk_at dksX0_buyers_7 10 rfl rfl)
theorem dX0_buyers_173 : decode cX0_buyers 173 = .ok (.ireturn, 1) := dk_172 (dk_at dksX0_buyers_7 12 rfl rfl)
theorem dX0_buyers_174 : decode cX0_buyers 174 = .ok (.iload 4, 2) := dk_21 4 (dk_at dksX0_buyers_7 13 rfl rfl)
theorem dX0_buyers_176 : decode cX0_buyers 176 = .ok (.ireturn, 1) := dk_172 (dk_at dksX0_buyers_7 15 rfl rfl)
def dkwX0_isShelf_0 : List UInt8 := [26, 3, 8, 184, 0, 7, 172]
abbrev dktX0_isShelf_0 : List UInt8 := dkwX0_isShelf_0 ++ []
theorem dksX0_isShelf_0 : cX0_isShelf.data.toList.drop 0 = dktX0_isShelf_0 := by decide +kernel
theorem dX0_isShelf_0 : decode cX0_isShelf 0 = .ok (.iload_n 0, 1) := dk_26 (dk_at dksX0_isShelf_0 0 rfl rfl)
theorem dX0_isShelf_1 : decode cX0_isShelf 1 = .ok (.iconst 0, 1) := dk_3 (dk_at dksX0_isShelf_0 1 rfl rfl)
theorem dX0_isShelf_2 : decode cX0_isShelf 2 = .ok (.iconst 5, 1) := dk_8 (dk_at dksX0_isShelf_0 2 rfl rfl)
theorem dX0_isShelf_3 : decode cX0_isShelf 3 = .ok (.invokestatic 7, 3) := dk_184 0 7 (dk_at dksX0_isShelf_0 3 rfl rfl)
theorem dX0_isShelf_6 : decode cX0_isShelf 6 = .ok (.ireturn, 1) := dk_172 (dk_at dksX0_isShelf_0 6 rfl rfl)
def dkwX0_undo_3 : List UInt8 := [182, 0, 84, 42, 180, 0, 72, 172]
abbrev dktX0_undo_3 : List UInt8 := dkwX0_undo_3 ++ []
def dkwX0_undo_2 : List UInt8 := [180, 0, 75, 42, 180, 0, 72, 50, 180, 0, 91, 42, 180, 0, 75, 42, 180, 0, 72, 50, 180, 0, 93]
abbrev dktX0_undo_2 : List UInt8 := dkwX0_undo_2 ++ dktX0_undo_3
def dkwX0_undo_1 : List UInt8 := [180, 0, 69, 4, 96, 181, 0, 69, 42, 42, 180, 0, 75, 42, 180, 0, 72, 50, 180, 0, 88, 42]
abbrev dktX0_undo_1 : List UInt8 := dkwX0_undo_1 ++ dktX0_undo_2
def dkwX0_undo_0 : List UInt8 := [42, 180, 0, 72, 154, 0, 6, 16, 251, 172, 42, 89, 180, 0, 72, 4, 100, 181, 0, 72, 42, 89]
abbrev dktX0_undo_0 : List UInt8 := dkwX0_undo_0 ++ dktX0_undo_1
theorem dksX0_undo_0 : cX0_undo.data.toList.drop 0 = dktX0_undo_0 := by decide +kernel
theorem dksX0_undo_1 : cX0_undo.data.toList.drop 22 = dktX0_undo_1 := dk_seg dksX0_undo_0 22 rfl rfl
theorem dksX0_undo_2 : cX0_undo.data.toList.drop 44 = dktX0_undo_2 := dk_seg dksX0_undo_1 22 rfl rfl
theorem dksX0_undo_3 : cX0_undo.data.toList.drop 67 = dktX0_undo_3 := dk_seg dksX0_undo_2 23 rfl rfl
theorem dX0_undo_0 : decode cX0_undo 0 = .ok (.aload_n 0, 1) := dk_42 (dk_at dksX0_undo_0 0 rfl rfl)
theorem dX0_undo_1 : decode cX0_undo 1 = .ok (.getfield 72, 3) := dk_180 0 72 (dk_at dksX0_undo_0 1 rfl rfl)
theorem dX0_undo_4 : decode cX0_undo 4 = .ok (.ifCond .ne 6, 3) := dk_154 0 6 (dk_at dksX0_undo_0 4 rfl rfl)
theorem dX0_undo_7 : decode cX0_undo 7 = .ok (.bipush (-5), 2) := dk_16 251 (dk_at dksX0_undo_0 7 rfl rfl)
theorem dX0_undo_9 : decode cX0_undo 9 = .ok (.ireturn, 1) := dk_172 (dk_at dksX0_undo_0 9 rfl rfl)
theorem dX0_undo_10 : decode cX0_undo 10 = .ok (.aload_n 0, 1) := dk_42 (dk_at dksX0_undo_0 10 rfl rfl)
theorem dX0_undo_11 : decode cX0_undo 11 = .ok (.dup, 1) := dk_89 (dk_at dksX0_undo_0 11 rfl rfl)
theorem dX0_undo_12 : decode cX0_undo 12 = .ok (.getfield 72, 3) := dk_180 0 72 (dk_at dksX0_undo_0 12 rfl rfl)
theorem dX0_undo_15 : decode cX0_undo 15 = .ok (.iconst 1, 1) := dk_4 (dk_at dksX0_undo_0 15 rfl rfl)
theorem dX0_undo_16 : decode cX0_undo 16 = .ok (.isub, 1) := dk_100 (dk_at dksX0_undo_0 16 rfl rfl)
theorem dX0_undo_17 : decode cX0_undo 17 = .ok (.putfield 72, 3) := dk_181 0 72 (dk_at dksX0_undo_0 17 rfl rfl)
theorem dX0_undo_20 : decode cX0_undo 20 = .ok (.aload_n 0, 1) := dk_42 (dk_at dksX0_undo_0 20 rfl rfl)
theorem dX0_undo_21 : decode cX0_undo 21 = .ok (.dup, 1) := dk_89 (dk_at dksX0_undo_0 21 rfl rfl)
theorem dX0_undo_22 : decode cX0_undo 22 = .ok (.getfield 69, 3) := dk_180 0 69 (dk_at dksX0_undo_1 0 rfl rfl)
theorem dX0_undo_25 : decode cX0_undo 25 = .ok (.iconst 1, 1) := dk_4 (dk_at dksX0_undo_1 3 rfl rfl)
theorem dX0_undo_26 : decode cX0_undo 26 = .ok (.iadd, 1) := dk_96 (dk_at dksX0_undo_1 4 rfl rfl)
theorem dX0_undo_27 : decode cX0_undo 27 = .ok (.putfield 69, 3) := dk_181 0 69 (dk_at dksX0_undo_1 5 rfl rfl)
theorem dX0_undo_30 : decode cX0_undo 30 = .ok (.aload_n 0, 1) := dk_42 (dk_at dksX0_undo_1 8 rfl rfl)
theorem dX0_undo_31 : decode cX0_undo 31 = .ok (.aload_n 0, 1) := dk_42 (dk_at dksX0_undo_1 9 rfl rfl)
theorem dX0_undo_32 : decode cX0_undo 32 = .ok (.getfield 75, 3) := dk_180 0 75 (dk_at dksX0_undo_1 10 rfl rfl)
theorem dX0_undo_35 : decode cX0_undo 35 = .ok (.aload_n 0, 1) := dk_42 (dk_at dksX0_undo_1 13 rfl rfl)
theorem dX0_undo_36 : decode cX0_undo 36 = .ok (.getfield 72, 3) := dk_180 0 72 (dk_at dksX0_undo_1 14 rfl rfl)
theorem dX0_undo_39 : decode cX0_undo 39 = .ok (.aaload, 1) := dk_50 (dk_at dksX0_undo_1 17 rfl rfl)
theorem dX0_undo_40 : decode cX0_undo 40 = .ok (.getfield 88, 3) := dk_180 0 88 (dk_at dksX0_undo_1 18 rfl rfl)
theorem dX0_undo_43 : decode cX0_undo 43 = .ok (.aload_n 0, 1) := dk_42 (dk_at dksX0_undo_1 21 rfl rfl)
theorem dX0_undo_44 : decode cX0_undo 44 = .ok (.getfield 75, 3) := dk_180 0 75 (dk_at dksX0_undo_2 0 rfl rfl)
theorem dX0_undo_47 : decode cX0_undo 47 = .ok (.aload_n 0, 1) := dk_42 (dk_at dksX0_undo_2 3 rfl rfl)
theorem dX0_undo_48 : decode cX0_undo 48 = .ok (.getfield 72, 3) := dk_180 0 72 (dk_at dksX0_undo_2 4 rfl rfl)
theorem dX0_undo_51 : decode cX0_undo 51 = .ok (.aaload, 1) := dk_50 (dk_at dksX0_undo_2 7 rfl rfl)
theorem dX0_undo_52 : decode cX0_undo 52 = .ok (.getfield 91, 3) := dk_180 0 91 (dk_at dksX0_undo_2 8 rfl rfl)
theorem dX0_undo_55 : decode cX0_undo 55 = .ok (.aload_n 0, 1) := dk_42 (dk_at dksX0_undo_2 11 rfl rfl)
theorem dX0_undo_56 : decode cX0_undo 56 = .ok (.getfield 75, 3) := dk_180 0 75 (dk_at dksX0_undo_2 12 rfl rfl)
theorem dX0_undo_59 : decode cX0_undo 59 = .ok (.aload_n 0, 1) := dk_42 (dk_at dksX0_undo_2 15 rfl rfl)
theorem dX0_undo_60 : decode cX0_undo 60 = .ok (.getfield 72, 3) := dk_180 0 72 (dk_at dksX0_undo_2 16 rfl rfl)
theorem dX0_undo_63 : decode cX0_undo 63 = .ok (.aaload, 1) := dk_50 (dk_at dksX0_undo_2 19 rfl rfl)
theorem dX0_undo_64 : decode cX0_undo 64 = .ok (.getfield 93, 3) := dk_180 0 93 (dk_at dksX0_undo_2 20 rfl rfl)
theorem dX0_undo_67 : decode cX0_undo 67 = .ok (.invokevirtual 84, 3) := dk_182 0 84 (dk_at dksX0_undo_3 0 rfl rfl)
theorem dX0_undo_70 : decode cX0_undo 70 = .ok (.aload_n 0, 1) := dk_42 (dk_at dksX0_undo_3 3 rfl rfl)
theorem dX0_undo_71 : decode cX0_undo 71 = .ok (.getfield 72, 3) := dk_180 0 72 (dk_at dksX0_undo_3 4 rfl rfl)
theorem dX0_undo_74 : decode cX0_undo 74 = .ok (.ireturn, 1) := dk_172 (dk_at dksX0_undo_3 7 rfl rfl)
def dkwX0_setTo_5 : List UInt8 := [181, 0, 66, 177]
abbrev dktX0_setTo_5 : List UInt8 := dkwX0_setTo_5 ++ []
def dkwX0_setTo_4 : List UInt8 := [181, 0, 57, 167, 0, 24, 42, 29, 181, 0, 60, 167, 0, 16, 42, 29, 181, 0, 63, 167, 0, 8, 42, 29]
abbrev dktX0_setTo_4 : List UInt8 := dkwX0_setTo_4 ++ dktX0_setTo_5
def dkwX0_setTo_3 : List UInt8 := [167, 0, 50, 42, 180, 0, 15, 28, 50, 29, 181, 0, 54, 167, 0, 37, 42, 180, 0, 15, 28, 50, 29]
abbrev dktX0_setTo_3 : List UInt8 := dkwX0_setTo_3 ++ dktX0_setTo_4
def dkwX0_setTo_2 : List UInt8 := [42, 180, 0, 15, 28, 50, 29, 181, 0, 42, 167, 0, 63, 42, 180, 0, 15, 28, 50, 29, 181, 0, 51]
abbrev dktX0_setTo_2 : List UInt8 := dkwX0_setTo_2 ++ dktX0_setTo_3
def dkwX0_setTo_1 : List UInt8 := [170, 0, 0, 0, 0, 0, 107, 0, 0, 0, 0, 0, 0, 0, 5, 0, 0, 0, 39, 0, 0, 0, 52, 0, 0, 0, 65, 0, 0, 0, 78, 0, 0, 0, 91, 0, 0, 0, 99]
abbrev dktX0_setTo_1 : List UInt8 := dkwX0_setTo_1 ++ dktX0_setTo_2
def dkwX0_setTo_0 : List UInt8 := [27]
abbrev dktX0_setTo_0 : List UInt8 := dkwX0_setTo_0 ++ dktX0_setTo_1
theorem dksX0_setTo_0 : cX0_setTo.data.toList.drop 0 = dktX0_setTo_0 := by decide +kernel
theorem dksX0_setTo_1 : cX0_setTo.data.toList.drop 1 = dktX0_setTo_1 := dk_seg dksX0_setTo_0 1 rfl rfl
theorem dksX0_setTo_2 : cX0_setTo.data.toList.drop 40 = dktX0_setTo_2 := dk_seg dksX0_setTo_1 39 rfl rfl
theorem dksX0_setTo_3 : cX0_setTo.data.toList.drop 63 = dktX0_setTo_3 := dk_seg dksX0_setTo_2 23 rfl rfl
theorem dksX0_setTo_4 : cX0_setTo.data.toList.drop 86 = dktX0_setTo_4 := dk_seg dksX0_setTo_3 23 rfl rfl
theorem dksX0_setTo_5 : cX0_setTo.data.toList.drop 110 = dktX0_setTo_5 := dk_seg dksX0_setTo_4 24 rfl rfl
theorem dX0_setTo_0 : decode cX0_setTo 0 = .ok (.iload_n 1, 1) := dk_27 (dk_at dksX0_setTo_0 0 rfl rfl)
theorem dX0_setTo_1 : decode cX0_setTo 1 = .ok (.tableswitch 107 0 5 #[39, 52, 65, 78, 91, 99], 39) := by decide +kernel
theorem dX0_setTo_40 : decode cX0_setTo 40 = .ok (.aload_n 0, 1) := dk_42 (dk_at dksX0_setTo_2 0 rfl rfl)
theorem dX0_setTo_41 : decode cX0_setTo 41 = .ok (.getfield 15, 3) := dk_180 0 15 (dk_at dksX0_setTo_2 1 rfl rfl)
theorem dX0_setTo_44 : decode cX0_setTo 44 = .ok (.iload_n 2, 1) := dk_28 (dk_at dksX0_setTo_2 4 rfl rfl)
theorem dX0_setTo_45 : decode cX0_setTo 45 = .ok (.aaload, 1) := dk_50 (dk_at dksX0_setTo_2 5 rfl rfl)
theorem dX0_setTo_46 : decode cX0_setTo 46 = .ok (.iload_n 3, 1) := dk_29 (dk_at dksX0_setTo_2 6 rfl rfl)
theorem dX0_setTo_47 : decode cX0_setTo 47 = .ok (.putfield 42, 3) := dk_181 0 42 (dk_at dksX0_setTo_2 7 rfl rfl)
theorem dX0_setTo_50 : decode cX0_setTo 50 = .ok (.goto 63, 3) := dk_167 0 63 (dk_at dksX0_setTo_2 10 rfl rfl)
theorem dX0_setTo_53 : decode cX0_setTo 53 = .ok (.aload_n 0, 1) := dk_42 (dk_at dksX0_setTo_2 13 rfl rfl)
theorem dX0_setTo_54 : decode cX0_setTo 54 = .ok (.getfield 15, 3) := dk_180 0 15 (dk_at dksX0_setTo_2 14 rfl rfl)
theorem dX0_setTo_57 : decode cX0_setTo 57 = .ok (.iload_n 2, 1) := dk_28 (dk_at dksX0_setTo_2 17 rfl rfl)
theorem dX0_setTo_58 : decode cX0_setTo 58 = .ok (.aaload, 1) := dk_50 (dk_at dksX0_setTo_2 18 rfl rfl)
theorem dX0_setTo_59 : decode cX0_setTo 59 = .ok (.iload_n 3, 1) := dk_29 (dk_at dksX0_setTo_2 19 rfl rfl)
theorem dX0_setTo_60 : decode cX0_setTo 60 = .ok (.putfield 51, 3) := dk_181 0 51 (dk_at dksX0_setTo_2 20 rfl rfl)
theorem dX0_setTo_63 : decode cX0_setTo 63 = .ok (.goto 50, 3) := dk_167 0 50 (dk_at dksX0_setTo_3 0 rfl rfl)
theorem dX0_setTo_66 : decode cX0_setTo 66 = .ok (.aload_n 0, 1) := dk_42 (dk_at dksX0_setTo_3 3 rfl rfl)
theorem dX0_setTo_67 : decode cX0_setTo 67 = .ok (.getfield 15, 3) := dk_180 0 15 (dk_at dksX0_setTo_3 4 rfl rfl)
theorem dX0_setTo_70 : decode cX0_setTo 70 = .ok (.iload_n 2, 1) := dk_28 (dk_at dksX0_setTo_3 7 rfl rfl)
theorem dX0_setTo_71 : decode cX0_setTo 71 = .ok (.aaload, 1) := dk_50 (dk_at dksX0_setTo_3 8 rfl rfl)
theorem dX0_setTo_72 : decode cX0_setTo 72 = .ok (.iload_n 3, 1) := dk_29 (dk_at dksX0_setTo_3 9 rfl rfl)
theorem dX0_setTo_73 : decode cX0_setTo 73 = .ok (.putfield 54, 3) := dk_181 0 54 (dk_at dksX0_setTo_3 10 rfl rfl)
theorem dX0_setTo_76 : decode cX0_setTo 76 = .ok (.goto 37, 3) := dk_167 0 37 (dk_at dksX0_setTo_3 13 rfl rfl)
theorem dX0_setTo_79 : decode cX0_setTo 79 = .ok (.aload_n 0, 1) := dk_42 (dk_at dksX0_setTo_3 16 rfl rfl)
theorem dX0_setTo_80 : decode cX0_setTo 80 = .ok (.getfield 15, 3) := dk_180 0 15 (dk_at dksX0_setTo_3 17 rfl rfl)
theorem dX0_setTo_83 : decode cX0_setTo 83 = .ok (.iload_n 2, 1) := dk_28 (dk_at dksX0_setTo_3 20 rfl rfl)
theorem dX0_setTo_84 : decode cX0_setTo 84 = .ok (.aaload, 1) := dk_50 (dk_at dksX0_setTo_3 21 rfl rfl)
theorem dX0_setTo_85 : decode cX0_setTo 85 = .ok (.iload_n 3, 1) := dk_29 (dk_at dksX0_setTo_3 22 rfl rfl)
theorem dX0_setTo_86 : decode cX0_setTo 86 = .ok (.putfield 57, 3) := dk_181 0 57 (dk_at dksX0_setTo_4 0 rfl rfl)
theorem dX0_setTo_89 : decode cX0_setTo 89 = .ok (.goto 24, 3) := dk_167 0 24 (dk_at dksX0_setTo_4 3 rfl rfl)
theorem dX0_setTo_92 : decode cX0_setTo 92 = .ok (.aload_n 0, 1) := dk_42 (dk_at dksX0_setTo_4 6 rfl rfl)
theorem dX0_setTo_93 : decode cX0_setTo 93 = .ok (.iload_n 3, 1) := dk_29 (dk_at dksX0_setTo_4 7 rfl rfl)
theorem dX0_setTo_94 : decode cX0_setTo 94 = .ok (.putfield 60, 3) := dk_181 0 60 (dk_at dksX0_setTo_4 8 rfl rfl)
theorem dX0_setTo_97 : decode cX0_setTo 97 = .ok (.goto 16, 3) := dk_167 0 16 (dk_at dksX0_setTo_4 11 rfl rfl)
theorem dX0_setTo_100 : decode cX0_setTo 100 = .ok (.aload_n 0, 1) := dk_42 (dk_at dksX0_setTo_4 14 rfl rfl)
theorem dX0_setTo_101 : decode cX0_setTo 101 = .ok (.iload_n 3, 1) := dk_29 (dk_at dksX0_setTo_4 15 rfl rfl)
theorem dX0_setTo_102 : decode cX0_setTo 102 = .ok (.putfield 63, 3) := dk_181 0 63 (dk_at dksX0_setTo_4 16 rfl rfl)
theorem dX0_setTo_105 : decode cX0_setTo 105 = .ok (.goto 8, 3) := dk_167 0 8 (dk_at dksX0_setTo_4 19 rfl rfl)
theorem dX0_setTo_108 : decode cX0_setTo 108 = .ok (.aload_n 0, 1) := dk_42 (dk_at dksX0_setTo_4 22 rfl rfl)
theorem dX0_setTo_109 : decode cX0_setTo 109 = .ok (.iload_n 3, 1) := dk_29 (dk_at dksX0_setTo_4 23 rfl rfl)
theorem dX0_setTo_110 : decode cX0_setTo 110 = .ok (.putfield 66, 3) := dk_181 0 66 (dk_at dksX0_setTo_5 0 rfl rfl)
theorem dX0_setTo_113 : decode cX0_setTo 113 = .ok (.return_, 1) := dk_177 (dk_at dksX0_setTo_5 3 rfl rfl)
def dkwX0_redo_3 : List UInt8 := [180, 0, 69, 172]
abbrev dktX0_redo_3 : List UInt8 := dkwX0_redo_3 ++ []
def dkwX0_redo_2 : List UInt8 := [182, 0, 84, 42, 89, 180, 0, 72, 4, 96, 181, 0, 72, 42, 89, 180, 0, 69, 4, 100, 181, 0, 69, 42]
abbrev dktX0_redo_2 : List UInt8 := dkwX0_redo_2 ++ dktX0_redo_3
def dkwX0_redo_1 : List UInt8 := [180, 0, 75, 42, 180, 0, 72, 50, 180, 0, 91, 42, 180, 0, 75, 42, 180, 0, 72, 50, 180, 0, 96]
abbrev dktX0_redo_1 : List UInt8 := dkwX0_redo_1 ++ dktX0_redo_2
def dkwX0_redo_0 : List UInt8 := [42, 180, 0, 69, 154, 0, 6, 16, 251, 172, 42, 42, 180, 0, 75, 42, 180, 0, 72, 50, 180, 0, 88, 42]
abbrev dktX0_redo_0 : List UInt8 := dkwX0_redo_0 ++ dktX0_redo_1
theorem dksX0_redo_0 : cX0_redo.data.toList.drop 0 = dktX0_redo_0 := by decide +kernel
theorem dksX0_redo_1 : cX0_redo.data.toList.drop 24 = dktX0_redo_1 := dk_seg dksX0_redo_0 24 rfl rfl
theorem dksX0_redo_2 : cX0_redo.data.toList.drop 47 = dktX0_redo_2 := dk_seg dksX0_redo_1 23 rfl rfl
theorem dksX0_redo_3 : cX0_redo.data.toList.drop 71 = dktX0_redo_3 := dk_seg dksX0_redo_2 24 rfl rfl
theorem dX0_redo_0 : decode cX0_redo 0 = .ok (.aload_n 0, 1) := dk_42 (dk_at dksX0_redo_0 0 rfl rfl)
theorem dX0_redo_1 : decode cX0_redo 1 = .ok (.getfield 69, 3) := dk_180 0 69 (dk_at dksX0_redo_0 1 rfl rfl)
theorem dX0_redo_4 : decode cX0_redo 4 = .ok (.ifCond .ne 6, 3) := dk_154 0 6 (dk_at dksX0_redo_0 4 rfl rfl)
theorem dX0_redo_7 : decode cX0_redo 7 = .ok (.bipush (-5), 2) := dk_16 251 (dk_at dksX0_redo_0 7 rfl rfl)
theorem dX0_redo_9 : decode cX0_redo 9 = .ok (.ireturn, 1) := dk_172 (dk_at dksX0_redo_0 9 rfl rfl)
theorem dX0_redo_10 : decode cX0_redo 10 = .ok (.aload_n 0, 1) := dk_42 (dk_at dksX0_redo_0 10 rfl rfl)
theorem dX0_redo_11 : decode cX0_redo 11 = .ok (.aload_n 0, 1) := dk_42 (dk_at dksX0_redo_0 11 rfl rfl)
theorem dX0_redo_12 : decode cX0_redo 12 = .ok (.getfield 75, 3) := dk_180 0 75 (dk_at dksX0_redo_0 12 rfl rfl)
theorem dX0_redo_15 : decode cX0_redo 15 = .ok (.aload_n 0, 1) := dk_42 (dk_at dksX0_redo_0 15 rfl rfl)
theorem dX0_redo_16 : decode cX0_redo 16 = .ok (.getfield 72, 3) := dk_180 0 72 (dk_at dksX0_redo_0 16 rfl rfl)
theorem dX0_redo_19 : decode cX0_redo 19 = .ok (.aaload, 1) := dk_50 (dk_at dksX0_redo_0 19 rfl rfl)
theorem dX0_redo_20 : decode cX0_redo 20 = .ok (.getfield 88, 3) := dk_180 0 88 (dk_at dksX0_redo_0 20 rfl rfl)
theorem dX0_redo_23 : decode cX0_redo 23 = .ok (.aload_n 0, 1) := dk_42 (dk_at dksX0_redo_0 23 rfl rfl)
theorem dX0_redo_24 : decode cX0_redo 24 = .ok (.getfield 75, 3) := dk_180 0 75 (dk_at dksX0_redo_1 0 rfl rfl)
theorem dX0_redo_27 : decode cX0_redo 27 = .ok (.aload_n 0, 1) := dk_42 (dk_at dksX0_redo_1 3 rfl rfl)
theorem dX0_redo_28 : decode cX0_redo 28 = .ok (.getfield 72, 3) := dk_180 0 72 (dk_at dksX0_redo_1 4 rfl rfl)
theorem dX0_redo_31 : decode cX0_redo 31 = .ok (.aaload, 1) := dk_50 (dk_at dksX0_redo_1 7 rfl rfl)
theorem dX0_redo_32 : decode cX0_redo 32 = .ok (.getfield 91, 3) := dk_180 0 91 (dk_at dksX0_redo_1 8 rfl rfl)
theorem dX0_redo_35 : decode cX0_redo 35 = .ok (.aload_n 0, 1) := dk_42 (dk_at dksX0_redo_1 11 rfl rfl)
theorem dX0_redo_36 : decode cX0_redo 36 = .ok (.getfield 75, 3) := dk_180 0 75 (dk_at dksX0_redo_1 12 rfl rfl)
theorem dX0_redo_39 : decode cX0_redo 39 = .ok (.aload_n 0, 1) := dk_42 (dk_at dksX0_redo_1 15 rfl rfl)
theorem dX0_redo_40 : decode cX0_redo 40 = .ok (.getfield 72, 3) := dk_180 0 72 (dk_at dksX0_redo_1 16 rfl rfl)
theorem dX0_redo_43 : decode cX0_redo 43 = .ok (.aaload, 1) := dk_50 (dk_at dksX0_redo_1 19 rfl rfl)
theorem dX0_redo_44 : decode cX0_redo 44 = .ok (.getfield 96, 3) := dk_180 0 96 (dk_at dksX0_redo_1 20 rfl rfl)
theorem dX0_redo_47 : decode cX0_redo 47 = .ok (.invokevirtual 84, 3) := dk_182 0 84 (dk_at dksX0_redo_2 0 rfl rfl)
theorem dX0_redo_50 : decode cX0_redo 50 = .ok (.aload_n 0, 1) := dk_42 (dk_at dksX0_redo_2 3 rfl rfl)
theorem dX0_redo_51 : decode cX0_redo 51 = .ok (.dup, 1) := dk_89 (dk_at dksX0_redo_2 4 rfl rfl)
theorem dX0_redo_52 : decode cX0_redo 52 = .ok (.getfield 72, 3) := dk_180 0 72 (dk_at dksX0_redo_2 5 rfl rfl)
theorem dX0_redo_55 : decode cX0_redo 55 = .ok (.iconst 1, 1) := dk_4 (dk_at dksX0_redo_2 8 rfl rfl)
theorem dX0_redo_56 : decode cX0_redo 56 = .ok (.iadd, 1) := dk_96 (dk_at dksX0_redo_2 9 rfl rfl)
theorem dX0_redo_57 : decode cX0_redo 57 = .ok (.putfield 72, 3) := dk_181 0 72 (dk_at dksX0_redo_2 10 rfl rfl)
theorem dX0_redo_60 : decode cX0_redo 60 = .ok (.aload_n 0, 1) := dk_42 (dk_at dksX0_redo_2 13 rfl rfl)
theorem dX0_redo_61 : decode cX0_redo 61 = .ok (.dup, 1) := dk_89 (dk_at dksX0_redo_2 14 rfl rfl)
theorem dX0_redo_62 : decode cX0_redo 62 = .ok (.getfield 69, 3) := dk_180 0 69 (dk_at dksX0_redo_2 15 rfl rfl)
theorem dX0_redo_65 : decode cX0_redo 65 = .ok (.iconst 1, 1) := dk_4 (dk_at dksX0_redo_2 18 rfl rfl)
theorem dX0_redo_66 : decode cX0_redo 66 = .ok (.isub, 1) := dk_100 (dk_at dksX0_redo_2 19 rfl rfl)
theorem dX0_redo_67 : decode cX0_redo 67 = .ok (.putfield 69, 3) := dk_181 0 69 (dk_at dksX0_redo_2 20 rfl rfl)
theorem dX0_redo_70 : decode cX0_redo 70 = .ok (.aload_n 0, 1) := dk_42 (dk_at dksX0_redo_2 23 rfl rfl)
theorem dX0_redo_71 : decode cX0_redo 71 = .ok (.getfield 69, 3) := dk_180 0 69 (dk_at dksX0_redo_3 0 rfl rfl)
theorem dX0_redo_74 : decode cX0_redo 74 = .ok (.ireturn, 1) := dk_172 (dk_at dksX0_redo_3 3 rfl rfl)
def dkwX0_mend_1 : List UInt8 := [182, 0, 106, 29, 182, 0, 110, 167, 0, 4, 2, 172]
abbrev dktX0_mend_1 : List UInt8 := dkwX0_mend_1 ++ []
def dkwX0_mend_0 : List UInt8 := [42, 27, 28, 182, 0, 99, 153, 0, 27, 28, 29, 184, 0, 103, 153, 0, 19, 42, 28, 27, 42, 27, 28]
abbrev dktX0_mend_0 : List UInt8 := dkwX0_mend_0 ++ dktX0_mend_1
theorem dksX0_mend_0 : cX0_mend.data.toList.drop 0 = dktX0_mend_0 := by decide +kernel
theorem dksX0_mend_1 : cX0_mend.data.toList.drop 23 = dktX0_mend_1 := dk_seg dksX0_mend_0 23 rfl rfl
theorem dX0_mend_0 : decode cX0_mend 0 = .ok (.aload_n 0, 1) := dk_42 (dk_at dksX0_mend_0 0 rfl rfl)
theorem dX0_mend_1 : decode cX0_mend 1 = .ok (.iload_n 1, 1) := dk_27 (dk_at dksX0_mend_0 1 rfl rfl)
theorem dX0_mend_2 : decode cX0_mend 2 = .ok (.iload_n 2, 1) := dk_28 (dk_at dksX0_mend_0 2 rfl rfl)
theorem dX0_mend_3 : decode cX0_mend 3 = .ok (.invokevirtual 99, 3) := dk_182 0 99 (dk_at dksX0_mend_0 3 rfl rfl)
theorem dX0_mend_6 : decode cX0_mend 6 = .ok (.ifCond .eq 27, 3) := dk_153 0 27 (dk_at dksX0_mend_0 6 rfl rfl)
theorem dX0_mend_9 : decode cX0_mend 9 = .ok (.iload_n 2, 1) := dk_28 (dk_at dksX0_mend_0 9 rfl rfl)
theorem dX0_mend_10 : decode cX0_mend 10 = .ok (.iload_n 3, 1) := dk_29 (dk_at dksX0_mend_0 10 rfl rfl)
theorem dX0_mend_11 : decode cX0_mend 11 = .ok (.invokestatic 103, 3) := dk_184 0 103 (dk_at dksX0_mend_0 11 rfl rfl)
theorem dX0_mend_14 : decode cX0_mend 14 = .ok (.ifCond .eq 19, 3) := dk_153 0 19 (dk_at dksX0_mend_0 14 rfl rfl)
theorem dX0_mend_17 : decode cX0_mend 17 = .ok (.aload_n 0, 1) := dk_42 (dk_at dksX0_mend_0 17 rfl rfl)
theorem dX0_mend_18 : decode cX0_mend 18 = .ok (.iload_n 2, 1) := dk_28 (dk_at dksX0_mend_0 18 rfl rfl)
theorem dX0_mend_19 : decode cX0_mend 19 = .ok (.iload_n 1, 1) := dk_27 (dk_at dksX0_mend_0 19 rfl rfl)
theorem dX0_mend_20 : decode cX0_mend 20 = .ok (.aload_n 0, 1) := dk_42 (dk_at dksX0_mend_0 20 rfl rfl)
theorem dX0_mend_21 : decode cX0_mend 21 = .ok (.iload_n 1, 1) := dk_27 (dk_at dksX0_mend_0 21 rfl rfl)
theorem dX0_mend_22 : decode cX0_mend 22 = .ok (.iload_n 2, 1) := dk_28 (dk_at dksX0_mend_0 22 rfl rfl)
theorem dX0_mend_23 : decode cX0_mend 23 = .ok (.invokevirtual 106, 3) := dk_182 0 106 (dk_at dksX0_mend_1 0 rfl rfl)
theorem dX0_mend_26 : decode cX0_mend 26 = .ok (.iload_n 3, 1) := dk_29 (dk_at dksX0_mend_1 3 rfl rfl)
theorem dX0_mend_27 : decode cX0_mend 27 = .ok (.invokevirtual 110, 3) := dk_182 0 110 (dk_at dksX0_mend_1 4 rfl rfl)
theorem dX0_mend_30 : decode cX0_mend 30 = .ok (.goto 4, 3) := dk_167 0 4 (dk_at dksX0_mend_1 7 rfl rfl)
theorem dX0_mend_33 : decode cX0_mend 33 = .ok (.iconst (-1), 1) := dk_2 (dk_at dksX0_mend_1 10 rfl rfl)
theorem dX0_mend_34 : decode cX0_mend 34 = .ok (.ireturn, 1) := dk_172 (dk_at dksX0_mend_1 11 rfl rfl)
def dkwX0_isOf_1 : List UInt8 := [153, 0, 11, 27, 154, 0, 7, 4, 167, 0, 4, 3, 172]
abbrev dktX0_isOf_1 : List UInt8 := dkwX0_isOf_1 ++ []
def dkwX0_isOf_0 : List UInt8 := [28, 3, 6, 184, 0, 7, 153, 0, 11, 42, 27, 182, 0, 11, 167, 0, 22, 28, 7, 16, 6, 184, 0, 7]
abbrev dktX0_isOf_0 : List UInt8 := dkwX0_isOf_0 ++ dktX0_isOf_1
theorem dksX0_isOf_0 : cX0_isOf.data.toList.drop 0 = dktX0_isOf_0 := by decide +kernel
theorem dksX0_isOf_1 : cX0_isOf.data.toList.drop 24 = dktX0_isOf_1 := dk_seg dksX0_isOf_0 24 rfl rfl
theorem dX0_isOf_0 : decode cX0_isOf 0 = .ok (.iload_n 2, 1) := dk_28 (dk_at dksX0_isOf_0 0 rfl rfl)
theorem dX0_isOf_1 : decode cX0_isOf 1 = .ok (.iconst 0, 1) := dk_3 (dk_at dksX0_isOf_0 1 rfl rfl)
theorem dX0_isOf_2 : decode cX0_isOf 2 = .ok (.iconst 3, 1) := dk_6 (dk_at dksX0_isOf_0 2 rfl rfl)
theorem dX0_isOf_3 : decode cX0_isOf 3 = .ok (.invokestatic 7, 3) := dk_184 0 7 (dk_at dksX0_isOf_0 3 rfl rfl)
theorem dX0_isOf_6 : decode cX0_isOf 6 = .ok (.ifCond .eq 11, 3) := dk_153 0 11 (dk_at dksX0_isOf_0 6 rfl rfl)
theorem dX0_isOf_9 : decode cX0_isOf 9 = .ok (.aload_n 0, 1) := dk_42 (dk_at dksX0_isOf_0 9 rfl rfl)
theorem dX0_isOf_10 : decode cX0_isOf 10 = .ok (.iload_n 1, 1) := dk_27 (dk_at dksX0_isOf_0 10 rfl rfl)
theorem dX0_isOf_11 : decode cX0_isOf 11 = .ok (.invokevirtual 11, 3) := dk_182 0 11 (dk_at dksX0_isOf_0 11 rfl rfl)
theorem dX0_isOf_14 : decode cX0_isOf 14 = .ok (.goto 22, 3) := dk_167 0 22 (dk_at dksX0_isOf_0 14 rfl rfl)
theorem dX0_isOf_17 : decode cX0_isOf 17 = .ok (.iload_n 2, 1) := dk_28 (dk_at dksX0_isOf_0 17 rfl rfl)
theorem dX0_isOf_18 : decode cX0_isOf 18 = .ok (.iconst 4, 1) := dk_7 (dk_at dksX0_isOf_0 18 rfl rfl)
theorem dX0_isOf_19 : decode cX0_isOf 19 = .ok (.bipush 6, 2) := dk_16 6 (dk_at dksX0_isOf_0 19 rfl rfl)
theorem dX0_isOf_21 : decode cX0_isOf 21 = .ok (.invokestatic 7, 3) := dk_184 0 7 (dk_at dksX0_isOf_0 21 rfl rfl)
theorem dX0_isOf_24 : decode cX0_isOf 24 = .ok (.ifCond .eq 11, 3) := dk_153 0 11 (dk_at dksX0_isOf_1 0 rfl rfl)
theorem dX0_isOf_27 : decode cX0_isOf 27 = .ok (.iload_n 1, 1) := dk_27 (dk_at dksX0_isOf_1 3 rfl rfl)
theorem dX0_isOf_28 : decode cX0_isOf 28 = .ok (.ifCond .ne 7, 3) := dk_154 0 7 (dk_at dksX0_isOf_1 4 rfl rfl)
theorem dX0_isOf_31 : decode cX0_isOf 31 = .ok (.iconst 1, 1) := dk_4 (dk_at dksX0_isOf_1 7 rfl rfl)
theorem dX0_isOf_32 : decode cX0_isOf 32 = .ok (.goto 4, 3) := dk_167 0 4 (dk_at dksX0_isOf_1 8 rfl rfl)
theorem dX0_isOf_35 : decode cX0_isOf 35 = .ok (.iconst 0, 1) := dk_3 (dk_at dksX0_isOf_1 11 rfl rfl)
theorem dX0_isOf_36 : decode cX0_isOf 36 = .ok (.ireturn, 1) := dk_172 (dk_at dksX0_isOf_1 12 rfl rfl)
def dkwX0_isBuyer_0 : List UInt8 := [27, 3, 42, 180, 0, 1, 4, 100, 184, 0, 7, 172]
abbrev dktX0_isBuyer_0 : List UInt8 := dkwX0_isBuyer_0 ++ []
theorem dksX0_isBuyer_0 : cX0_isBuyer.data.toList.drop 0 = dktX0_isBuyer_0 := by decide +kernel
theorem dX0_isBuyer_0 : decode cX0_isBuyer 0 = .ok (.iload_n 1, 1) := dk_27 (dk_at dksX0_isBuyer_0 0 rfl rfl)
theorem dX0_isBuyer_1 : decode cX0_isBuyer 1 = .ok (.iconst 0, 1) := dk_3 (dk_at dksX0_isBuyer_0 1 rfl rfl)
theorem dX0_isBuyer_2 : decode cX0_isBuyer 2 = .ok (.aload_n 0, 1) := dk_42 (dk_at dksX0_isBuyer_0 2 rfl rfl)
theorem dX0_isBuyer_3 : decode cX0_isBuyer 3 = .ok (.getfield 1, 3) := dk_180 0 1 (dk_at dksX0_isBuyer_0 3 rfl rfl)
theorem dX0_isBuyer_6 : decode cX0_isBuyer 6 = .ok (.iconst 1, 1) := dk_4 (dk_at dksX0_isBuyer_0 6 rfl rfl)
theorem dX0_isBuyer_7 : decode cX0_isBuyer 7 = .ok (.isub, 1) := dk_100 (dk_at dksX0_isBuyer_0 7 rfl rfl)
theorem dX0_isBuyer_8 : decode cX0_isBuyer 8 = .ok (.invokestatic 7, 3) := dk_184 0 7 (dk_at dksX0_isBuyer_0 8 rfl rfl)
theorem dX0_isBuyer_11 : decode cX0_isBuyer 11 = .ok (.ireturn, 1) := dk_172 (dk_at dksX0_isBuyer_0 11 rfl rfl)
def dkwX0_mayBe_3 : List UInt8 := [27, 3, 16, 99, 184, 0, 7, 172, 27, 3, 4, 184, 0, 7, 172]
abbrev dktX0_mayBe_3 : List UInt8 := dkwX0_mayBe_3 ++ []
def dkwX0_mayBe_2 : List UInt8 := [27, 3, 17, 3, 231, 184, 0, 7, 172, 27, 3, 16, 9, 184, 0, 7, 172, 27, 4, 8, 184, 0, 7, 172]
abbrev dktX0_mayBe_2 : List UInt8 := dkwX0_mayBe_2 ++ dktX0_mayBe_3
def dkwX0_mayBe_1 : List UInt8 := [170, 0, 0, 0, 0, 0, 75, 0, 0, 0, 0, 0, 0, 0, 6, 0, 0, 0, 43, 0, 0, 0, 52, 0, 0, 0, 52, 0, 0, 0, 75, 0, 0, 0, 60, 0, 0, 0, 75, 0, 0, 0, 67]
abbrev dktX0_mayBe_1 : List UInt8 := dkwX0_mayBe_1 ++ dktX0_mayBe_2
def dkwX0_mayBe_0 : List UInt8 := [26]
abbrev dktX0_mayBe_0 : List UInt8 := dkwX0_mayBe_0 ++ dktX0_mayBe_1
theorem dksX0_mayBe_0 : cX0_mayBe.data.toList.drop 0 = dktX0_mayBe_0 := by decide +kernel
theorem dksX0_mayBe_1 : cX0_mayBe.data.toList.drop 1 = dktX0_mayBe_1 := dk_seg dksX0_mayBe_0 1 rfl rfl
theorem dksX0_mayBe_2 : cX0_mayBe.data.toList.drop 44 = dktX0_mayBe_2 := dk_seg dksX0_mayBe_1 43 rfl rfl
theorem dksX0_mayBe_3 : cX0_mayBe.data.toList.drop 68 = dktX0_mayBe_3 := dk_seg dksX0_mayBe_2 24 rfl rfl
theorem dX0_mayBe_0 : decode cX0_mayBe 0 = .ok (.iload_n 0, 1) := dk_26 (dk_at dksX0_mayBe_0 0 rfl rfl)
theorem dX0_mayBe_1 : decode cX0_mayBe 1 = .ok (.tableswitch 75 0 6 #[43, 52, 52, 75, 60, 75, 67], 43) := by decide +kernel
theorem dX0_mayBe_44 : decode cX0_mayBe 44 = .ok (.iload_n 1, 1) := dk_27 (dk_at dksX0_mayBe_2 0 rfl rfl)
theorem dX0_mayBe_45 : decode cX0_mayBe 45 = .ok (.iconst 0, 1) := dk_3 (dk_at dksX0_mayBe_2 1 rfl rfl)
theorem dX0_mayBe_46 : decode cX0_mayBe 46 = .ok (.sipush 999, 3) := dk_17 3 231 (dk_at dksX0_mayBe_2 2 rfl rfl)
theorem dX0_mayBe_49 : decode cX0_mayBe 49 = .ok (.invokestatic 7, 3) := dk_184 0 7 (dk_at dksX0_mayBe_2 5 rfl rfl)
theorem dX0_mayBe_52 : decode cX0_mayBe 52 = .ok (.ireturn, 1) := dk_172 (dk_at dksX0_mayBe_2 8 rfl rfl)
theorem dX0_mayBe_53 : decode cX0_mayBe 53 = .ok (.iload_n 1, 1) := dk_27 (dk_at dksX0_mayBe_2 9 rfl rfl)
theorem dX0_mayBe_54 : decode cX0_mayBe 54 = .ok (.iconst 0, 1) := dk_3 (dk_at dksX0_mayBe_2 10 rfl rfl)
theorem dX0_mayBe_55 : decode cX0_mayBe 55 = .ok (.bipush 9, 2) := dk_16 9 (dk_at dksX0_mayBe_2 11 rfl rfl)
theorem dX0_mayBe_57 : decode cX0_mayBe 57 = .ok (.invokestatic 7, 3) := dk_184 0 7 (dk_at dksX0_mayBe_2 13 rfl rfl)
theorem dX0_mayBe_60 : decode cX0_mayBe 60 = .ok (.ireturn, 1) := dk_172 (dk_at dksX0_mayBe_2 16 rfl rfl)
theorem dX0_mayBe_61 : decode cX0_mayBe 61 = .ok (.iload_n 1, 1) := dk_27 (dk_at dksX0_mayBe_2 17 rfl rfl)
theorem dX0_mayBe_62 : decode cX0_mayBe 62 = .ok (.iconst 1, 1) := dk_4 (dk_at dksX0_mayBe_2 18 rfl rfl)
theorem dX0_mayBe_63 : decode cX0_mayBe 63 = .ok (.iconst 5, 1) := dk_8 (dk_at dksX0_mayBe_2 19 rfl rfl)
theorem dX0_mayBe_64 : decode cX0_mayBe 64 = .ok (.invokestatic 7, 3) := dk_184 0 7 (dk_at dksX0_mayBe_2 20 rfl rfl)
theorem dX0_mayBe_67 : decode cX0_mayBe 67 = .ok (.ireturn, 1) := dk_172 (dk_at dksX0_mayBe_2 23 rfl rfl)
theorem dX0_mayBe_68 : decode cX0_mayBe 68 = .ok (.iload_n 1, 1) := dk_27 (dk_at dksX0_mayBe_3 0 rfl rfl)
theorem dX0_mayBe_69 : decode cX0_mayBe 69 = .ok (.iconst 0, 1) := dk_3 (dk_at dksX0_mayBe_3 1 rfl rfl)
theorem dX0_mayBe_70 : decode cX0_mayBe 70 = .ok (.bipush 99, 2) := dk_16 99 (dk_at dksX0_mayBe_3 2 rfl rfl)
theorem dX0_mayBe_72 : decode cX0_mayBe 72 = .ok (.invokestatic 7, 3) := dk_184 0 7 (dk_at dksX0_mayBe_3 4 rfl rfl)
theorem dX0_mayBe_75 : decode cX0_mayBe 75 = .ok (.ireturn, 1) := dk_172 (dk_at dksX0_mayBe_3 7 rfl rfl)
theorem dX0_mayBe_76 : decode cX0_mayBe 76 = .ok (.iload_n 1, 1) := dk_27 (dk_at dksX0_mayBe_3 8 rfl rfl)
theorem dX0_mayBe_77 : decode cX0_mayBe 77 = .ok (.iconst 0, 1) := dk_3 (dk_at dksX0_mayBe_3 9 rfl rfl)
theorem dX0_mayBe_78 : decode cX0_mayBe 78 = .ok (.iconst 1, 1) := dk_4 (dk_at dksX0_mayBe_3 10 rfl rfl)
theorem dX0_mayBe_79 : decode cX0_mayBe 79 = .ok (.invokestatic 7, 3) := dk_184 0 7 (dk_at dksX0_mayBe_3 11 rfl rfl)
theorem dX0_mayBe_82 : decode cX0_mayBe 82 = .ok (.ireturn, 1) := dk_172 (dk_at dksX0_mayBe_3 14 rfl rfl)
def dkwX0_valueOf_4 : List UInt8 := [180, 0, 63, 172, 42, 180, 0, 66, 172]
abbrev dktX0_valueOf_4 : List UInt8 := dkwX0_valueOf_4 ++ []
def dkwX0_valueOf_3 : List UInt8 := [27, 50, 180, 0, 54, 172, 42, 180, 0, 15, 27, 50, 180, 0, 57, 172, 42, 180, 0, 60, 172, 42]
abbrev dktX0_valueOf_3 : List UInt8 := dkwX0_valueOf_3 ++ dktX0_valueOf_4
def dkwX0_valueOf_2 : List UInt8 := [42, 180, 0, 15, 27, 50, 180, 0, 42, 172, 42, 180, 0, 15, 27, 50, 180, 0, 51, 172, 42, 180, 0, 15]
abbrev dktX0_valueOf_2 : List UInt8 := dkwX0_valueOf_2 ++ dktX0_valueOf_3
def dkwX0_valueOf_1 : List UInt8 := [170, 0, 0, 0, 0, 0, 89, 0, 0, 0, 0, 0, 0, 0, 5, 0, 0, 0, 39, 0, 0, 0, 49, 0, 0, 0, 59, 0, 0, 0, 69, 0, 0, 0, 79, 0, 0, 0, 84]
abbrev dktX0_valueOf_1 : List UInt8 := dkwX0_valueOf_1 ++ dktX0_valueOf_2
def dkwX0_valueOf_0 : List UInt8 := [28]
abbrev dktX0_valueOf_0 : List UInt8 := dkwX0_valueOf_0 ++ dktX0_valueOf_1
theorem dksX0_valueOf_0 : cX0_valueOf.data.toList.drop 0 = dktX0_valueOf_0 := by decide +kernel
theorem dksX0_valueOf_1 : cX0_valueOf.data.toList.drop 1 = dktX0_valueOf_1 := dk_seg dksX0_valueOf_0 1 rfl rfl
theorem dksX0_valueOf_2 : cX0_valueOf.data.toList.drop 40 = dktX0_valueOf_2 := dk_seg dksX0_valueOf_1 39 rfl rfl
theorem dksX0_valueOf_3 : cX0_valueOf.data.toList.drop 64 = dktX0_valueOf_3 := dk_seg dksX0_valueOf_2 24 rfl rfl
theorem dksX0_valueOf_4 : cX0_valueOf.data.toList.drop 86 = dktX0_valueOf_4 := dk_seg dksX0_valueOf_3 22 rfl rfl
theorem dX0_valueOf_0 : decode cX0_valueOf 0 = .ok (.iload_n 2, 1) := dk_28 (dk_at dksX0_valueOf_0 0 rfl rfl)
theorem dX0_valueOf_1 : decode cX0_valueOf 1 = .ok (.tableswitch 89 0 5 #[39, 49, 59, 69, 79, 84], 39) := by decide +kernel
theorem dX0_valueOf_40 : decode cX0_valueOf 40 = .ok (.aload_n 0, 1) := dk_42 (dk_at dksX0_valueOf_2 0 rfl rfl)
theorem dX0_valueOf_41 : decode cX0_valueOf 41 = .ok (.getfield 15, 3) := dk_180 0 15 (dk_at dksX0_valueOf_2 1 rfl rfl)
theorem dX0_valueOf_44 : decode cX0_valueOf 44 = .ok (.iload_n 1, 1) := dk_27 (dk_at dksX0_valueOf_2 4 rfl rfl)
theorem dX0_valueOf_45 : decode cX0_valueOf 45 = .ok (.aaload, 1) := dk_50 (dk_at dksX0_valueOf_2 5 rfl rfl)
theorem dX0_valueOf_46 : decode cX0_valueOf 46 = .ok (.getfield 42, 3) := dk_180 0 42 (dk_at dksX0_valueOf_2 6 rfl rfl)
theorem dX0_valueOf_49 : decode cX0_valueOf 49 = .ok (.ireturn, 1) := dk_172 (dk_at dksX0_valueOf_2 9 rfl rfl)
theorem dX0_valueOf_50 : decode cX0_valueOf 50 = .ok (.aload_n 0, 1) := dk_42 (dk_at dksX0_valueOf_2 10 rfl rfl)
theorem dX0_valueOf_51 : decode cX0_valueOf 51 = .ok (.getfield 15, 3) := dk_180 0 15 (dk_at dksX0_valueOf_2 11 rfl rfl)
theorem dX0_valueOf_54 : decode cX0_valueOf 54 = .ok (.iload_n 1, 1) := dk_27 (dk_at dksX0_valueOf_2 14 rfl rfl)
theorem dX0_valueOf_55 : decode cX0_valueOf 55 = .ok (.aaload, 1) := dk_50 (dk_at dksX0_valueOf_2 15 rfl rfl)
theorem dX0_valueOf_56 : decode cX0_valueOf 56 = .ok (.getfield 51, 3) := dk_180 0 51 (dk_at dksX0_valueOf_2 16 rfl rfl)
theorem dX0_valueOf_59 : decode cX0_valueOf 59 = .ok (.ireturn, 1) := dk_172 (dk_at dksX0_valueOf_2 19 rfl rfl)
theorem dX0_valueOf_60 : decode cX0_valueOf 60 = .ok (.aload_n 0, 1) := dk_42 (dk_at dksX0_valueOf_2 20 rfl rfl)
theorem dX0_valueOf_61 : decode cX0_valueOf 61 = .ok (.getfield 15, 3) := dk_180 0 15 (dk_at dksX0_valueOf_2 21 rfl rfl)
theorem dX0_valueOf_64 : decode cX0_valueOf 64 = .ok (.iload_n 1, 1) := dk_27 (dk_at dksX0_valueOf_3 0 rfl rfl)
theorem dX0_valueOf_65 : decode cX0_valueOf 65 = .ok (.aaload, 1) := dk_50 (dk_at dksX0_valueOf_3 1 rfl rfl)
theorem dX0_valueOf_66 : decode cX0_valueOf 66 = .ok (.getfield 54, 3) := dk_180 0 54 (dk_at dksX0_valueOf_3 2 rfl rfl)
theorem dX0_valueOf_69 : decode cX0_valueOf 69 = .ok (.ireturn, 1) := dk_172 (dk_at dksX0_valueOf_3 5 rfl rfl)
theorem dX0_valueOf_70 : decode cX0_valueOf 70 = .ok (.aload_n 0, 1) := dk_42 (dk_at dksX0_valueOf_3 6 rfl rfl)
theorem dX0_valueOf_71 : decode cX0_valueOf 71 = .ok (.getfield 15, 3) := dk_180 0 15 (dk_at dksX0_valueOf_3 7 rfl rfl)
theorem dX0_valueOf_74 : decode cX0_valueOf 74 = .ok (.iload_n 1, 1) := dk_27 (dk_at dksX0_valueOf_3 10 rfl rfl)
theorem dX0_valueOf_75 : decode cX0_valueOf 75 = .ok (.aaload, 1) := dk_50 (dk_at dksX0_valueOf_3 11 rfl rfl)
theorem dX0_valueOf_76 : decode cX0_valueOf 76 = .ok (.getfield 57, 3) := dk_180 0 57 (dk_at dksX0_valueOf_3 12 rfl rfl)
theorem dX0_valueOf_79 : decode cX0_valueOf 79 = .ok (.ireturn, 1) := dk_172 (dk_at dksX0_valueOf_3 15 rfl rfl)
theorem dX0_valueOf_80 : decode cX0_valueOf 80 = .ok (.aload_n 0, 1) := dk_42 (dk_at dksX0_valueOf_3 16 rfl rfl)
theorem dX0_valueOf_81 : decode cX0_valueOf 81 = .ok (.getfield 60, 3) := dk_180 0 60 (dk_at dksX0_valueOf_3 17 rfl rfl)
theorem dX0_valueOf_84 : decode cX0_valueOf 84 = .ok (.ireturn, 1) := dk_172 (dk_at dksX0_valueOf_3 20 rfl rfl)
theorem dX0_valueOf_85 : decode cX0_valueOf 85 = .ok (.aload_n 0, 1) := dk_42 (dk_at dksX0_valueOf_3 21 rfl rfl)
theorem dX0_valueOf_86 : decode cX0_valueOf 86 = .ok (.getfield 63, 3) := dk_180 0 63 (dk_at dksX0_valueOf_4 0 rfl rfl)
theorem dX0_valueOf_89 : decode cX0_valueOf 89 = .ok (.ireturn, 1) := dk_172 (dk_at dksX0_valueOf_4 3 rfl rfl)
theorem dX0_valueOf_90 : decode cX0_valueOf 90 = .ok (.aload_n 0, 1) := dk_42 (dk_at dksX0_valueOf_4 4 rfl rfl)
theorem dX0_valueOf_91 : decode cX0_valueOf 91 = .ok (.getfield 66, 3) := dk_180 0 66 (dk_at dksX0_valueOf_4 5 rfl rfl)
theorem dX0_valueOf_94 : decode cX0_valueOf 94 = .ok (.ireturn, 1) := dk_172 (dk_at dksX0_valueOf_4 8 rfl rfl)
def dkwX0_become_4 : List UInt8 := [181, 0, 72, 42, 27, 28, 21, 4, 182, 0, 84, 29, 172]
abbrev dktX0_become_4 : List UInt8 := dkwX0_become_4 ++ []
def dkwX0_become_3 : List UInt8 := [180, 0, 72, 187, 0, 79, 89, 27, 28, 29, 21, 4, 183, 0, 81, 83, 42, 89, 180, 0, 72, 4, 96]
abbrev dktX0_become_3 : List UInt8 := dkwX0_become_3 ++ dktX0_become_4
def dkwX0_become_2 : List UInt8 := [83, 132, 5, 1, 167, 255, 230, 42, 89, 180, 0, 72, 4, 100, 181, 0, 72, 42, 180, 0, 75, 42]
abbrev dktX0_become_2 : List UInt8 := dkwX0_become_2 ++ dktX0_become_3
def dkwX0_become_1 : List UInt8 := [54, 5, 21, 5, 16, 40, 162, 0, 25, 42, 180, 0, 75, 21, 5, 4, 100, 42, 180, 0, 75, 21, 5, 50]
abbrev dktX0_become_1 : List UInt8 := dkwX0_become_1 ++ dktX0_become_2
def dkwX0_become_0 : List UInt8 := [29, 21, 4, 160, 0, 5, 29, 172, 42, 3, 181, 0, 69, 42, 180, 0, 72, 16, 40, 160, 0, 45, 4]
abbrev dktX0_become_0 : List UInt8 := dkwX0_become_0 ++ dktX0_become_1
theorem dksX0_become_0 : cX0_become.data.toList.drop 0 = dktX0_become_0 := by decide +kernel
theorem dksX0_become_1 : cX0_become.data.toList.drop 23 = dktX0_become_1 := dk_seg dksX0_become_0 23 rfl rfl
theorem dksX0_become_2 : cX0_become.data.toList.drop 47 = dktX0_become_2 := dk_seg dksX0_become_1 24 rfl rfl
theorem dksX0_become_3 : cX0_become.data.toList.drop 69 = dktX0_become_3 := dk_seg dksX0_become_2 22 rfl rfl
theorem dksX0_become_4 : cX0_become.data.toList.drop 92 = dktX0_become_4 := dk_seg dksX0_become_3 23 rfl rfl
theorem dX0_become_0 : decode cX0_become 0 = .ok (.iload_n 3, 1) := dk_29 (dk_at dksX0_become_0 0 rfl rfl)
theorem dX0_become_1 : decode cX0_become 1 = .ok (.iload 4, 2) := dk_21 4 (dk_at dksX0_become_0 1 rfl rfl)
theorem dX0_become_3 : decode cX0_become 3 = .ok (.if_icmp .ne 5, 3) := dk_160 0 5 (dk_at dksX0_become_0 3 rfl rfl)
theorem dX0_become_6 : decode cX0_become 6 = .ok (.iload_n 3, 1) := dk_29 (dk_at dksX0_become_0 6 rfl rfl)
theorem dX0_become_7 : decode cX0_become 7 = .ok (.ireturn, 1) := dk_172 (dk_at dksX0_become_0 7 rfl rfl)
theorem dX0_become_8 : decode cX0_become 8 = .ok (.aload_n 0, 1) := dk_42 (dk_at dksX0_become_0 8 rfl rfl)
theorem dX0_become_9 : decode cX0_become 9 = .ok (.iconst 0, 1) := dk_3 (dk_at dksX0_become_0 9 rfl rfl)
theorem dX0_become_10 : decode cX0_become 10 = .ok (.putfield 69, 3) := dk_181 0 69 (dk_at dksX0_become_0 10 rfl rfl)
theorem dX0_become_13 : decode cX0_become 13 = .ok (.aload_n 0, 1) := dk_42 (dk_at dksX0_become_0 13 rfl rfl)
theorem dX0_become_14 : decode cX0_become 14 = .ok (.getfield 72, 3) := dk_180 0 72 (dk_at dksX0_become_0 14 rfl rfl)
theorem dX0_become_17 : decode cX0_become 17 = .ok (.bipush 40, 2) := dk_16 40 (dk_at dksX0_become_0 17 rfl rfl)
theorem dX0_become_19 : decode cX0_become 19 = .ok (.if_icmp .ne 45, 3) := dk_160 0 45 (dk_at dksX0_become_0 19 rfl rfl)
theorem dX0_become_22 : decode cX0_become 22 = .ok (.iconst 1, 1) := dk_4 (dk_at dksX0_become_0 22 rfl rfl)
theorem dX0_become_23 : decode cX0_become 23 = .ok (.istore 5, 2) := dk_54 5 (dk_at dksX0_become_1 0 rfl rfl)
theorem dX0_become_25 : decode cX0_become 25 = .ok (.iload 5, 2) := dk_21 5 (dk_at dksX0_become_1 2 rfl rfl)
theorem dX0_become_27 : decode cX0_become 27 = .ok (.bipush 40, 2) := dk_16 40 (dk_at dksX0_become_1 4 rfl rfl)
theorem dX0_become_29 : decode cX0_become 29 = .ok (.if_icmp .ge 25, 3) := dk_162 0 25 (dk_at dksX0_become_1 6 rfl rfl)
theorem dX0_become_32 : decode cX0_become 32 = .ok (.aload_n 0, 1) := dk_42 (dk_at dksX0_become_1 9 rfl rfl)
theorem dX0_become_33 : decode cX0_become 33 = .ok (.getfield 75, 3) := dk_180 0 75 (dk_at dksX0_become_1 10 rfl rfl)
theorem dX0_become_36 : decode cX0_become 36 = .ok (.iload 5, 2) := dk_21 5 (dk_at dksX0_become_1 13 rfl rfl)
theorem dX0_become_38 : decode cX0_become 38 = .ok (.iconst 1, 1) := dk_4 (dk_at dksX0_become_1 15 rfl rfl)
theorem dX0_become_39 : decode cX0_become 39 = .ok (.isub, 1) := dk_100 (dk_at dksX0_become_1 16 rfl rfl)
theorem dX0_become_40 : decode cX0_become 40 = .ok (.aload_n 0, 1) := dk_42 (dk_at dksX0_become_1 17 rfl rfl)
theorem dX0_become_41 : decode cX0_become 41 = .ok (.getfield 75, 3) := dk_180 0 75 (dk_at dksX0_become_1 18 rfl rfl)
theorem dX0_become_44 : decode cX0_become 44 = .ok (.iload 5, 2) := dk_21 5 (dk_at dksX0_become_1 21 rfl rfl)
theorem dX0_become_46 : decode cX0_become 46 = .ok (.aaload, 1) := dk_50 (dk_at dksX0_become_1 23 rfl rfl)
theorem dX0_become_47 : decode cX0_become 47 = .ok (.aastore, 1) := dk_83 (dk_at dksX0_become_2 0 rfl rfl)
theorem dX0_become_48 : decode cX0_become 48 = .ok (.iinc 5 1, 3) := dk_132 5 1 (dk_at dksX0_become_2 1 rfl rfl)
theorem dX0_become_51 : decode cX0_become 51 = .ok (.goto (-26), 3) := dk_167 255 230 (dk_at dksX0_become_2 4 rfl rfl)
theorem dX0_become_54 : decode cX0_become 54 = .ok (.aload_n 0, 1) := dk_42 (dk_at dksX0_become_2 7 rfl rfl)
theorem dX0_become_55 : decode cX0_become 55 = .ok (.dup, 1) := dk_89 (dk_at dksX0_become_2 8 rfl rfl)
theorem dX0_become_56 : decode cX0_become 56 = .ok (.getfield 72, 3) := dk_180 0 72 (dk_at dksX0_become_2 9 rfl rfl)
theorem dX0_become_59 : decode cX0_become 59 = .ok (.iconst 1, 1) := dk_4 (dk_at dksX0_become_2 12 rfl rfl)
theorem dX0_become_60 : decode cX0_become 60 = .ok (.isub, 1) := dk_100 (dk_at dksX0_become_2 13 rfl rfl)
theorem dX0_become_61 : decode cX0_become 61 = .ok (.putfield 72, 3) := dk_181 0 72 (dk_at dksX0_become_2 14 rfl rfl)
theorem dX0_become_64 : decode cX0_become 64 = .ok (.aload_n 0, 1) := dk_42 (dk_at dksX0_become_2 17 rfl rfl)
theorem dX0_become_65 : decode cX0_become 65 = .ok (.getfield 75, 3) := dk_180 0 75 (dk_at dksX0_become_2 18 rfl rfl)
theorem dX0_become_68 : decode cX0_become 68 = .ok (.aload_n 0, 1) := dk_42 (dk_at dksX0_become_2 21 rfl rfl)
theorem dX0_become_69 : decode cX0_become 69 = .ok (.getfield 72, 3) := dk_180 0 72 (dk_at dksX0_become_3 0 rfl rfl)
theorem dX0_become_72 : decode cX0_become 72 = .ok (.new 79, 3) := dk_187 0 79 (dk_at dksX0_become_3 3 rfl rfl)
theorem dX0_become_75 : decode cX0_become 75 = .ok (.dup, 1) := dk_89 (dk_at dksX0_become_3 6 rfl rfl)
theorem dX0_become_76 : decode cX0_become 76 = .ok (.iload_n 1, 1) := dk_27 (dk_at dksX0_become_3 7 rfl rfl)
theorem dX0_become_77 : decode cX0_become 77 = .ok (.iload_n 2, 1) := dk_28 (dk_at dksX0_become_3 8 rfl rfl)
theorem dX0_become_78 : decode cX0_become 78 = .ok (.iload_n 3, 1) := dk_29 (dk_at dksX0_become_3 9 rfl rfl)
theorem dX0_become_79 : decode cX0_become 79 = .ok (.iload 4, 2) := dk_21 4 (dk_at dksX0_become_3 10 rfl rfl)
theorem dX0_become_81 : decode cX0_become 81 = .ok (.invokespecial 81, 3) := dk_183 0 81 (dk_at dksX0_become_3 12 rfl rfl)
theorem dX0_become_84 : decode cX0_become 84 = .ok (.aastore, 1) := dk_83 (dk_at dksX0_become_3 15 rfl rfl)
theorem dX0_become_85 : decode cX0_become 85 = .ok (.aload_n 0, 1) := dk_42 (dk_at dksX0_become_3 16 rfl rfl)
theorem dX0_become_86 : decode cX0_become 86 = .ok (.dup, 1) := dk_89 (dk_at dksX0_become_3 17 rfl rfl)
theorem dX0_become_87 : decode cX0_become 87 = .ok (.getfield 72, 3) := dk_180 0 72 (dk_at dksX0_become_3 18 rfl rfl)
theorem dX0_become_90 : decode cX0_become 90 = .ok (.iconst 1, 1) := dk_4 (dk_at dksX0_become_3 21 rfl rfl)
theorem dX0_become_91 : decode cX0_become 91 = .ok (.iadd, 1) := dk_96 (dk_at dksX0_become_3 22 rfl rfl)
theorem dX0_become_92 : decode cX0_become 92 = .ok (.putfield 72, 3) := dk_181 0 72 (dk_at dksX0_become_4 0 rfl rfl)
theorem dX0_become_95 : decode cX0_become 95 = .ok (.aload_n 0, 1) := dk_42 (dk_at dksX0_become_4 3 rfl rfl)
theorem dX0_become_96 : decode cX0_become 96 = .ok (.iload_n 1, 1) := dk_27 (dk_at dksX0_become_4 4 rfl rfl)
theorem dX0_become_97 : decode cX0_become 97 = .ok (.iload_n 2, 1) := dk_28 (dk_at dksX0_become_4 5 rfl rfl)
theorem dX0_become_98 : decode cX0_become 98 = .ok (.iload 4, 2) := dk_21 4 (dk_at dksX0_become_4 6 rfl rfl)
theorem dX0_become_100 : decode cX0_become 100 = .ok (.invokevirtual 84, 3) := dk_182 0 84 (dk_at dksX0_become_4 8 rfl rfl)
theorem dX0_become_103 : decode cX0_become 103 = .ok (.iload_n 3, 1) := dk_29 (dk_at dksX0_become_4 11 rfl rfl)
theorem dX0_become_104 : decode cX0_become 104 = .ok (.ireturn, 1) := dk_172 (dk_at dksX0_become_4 12 rfl rfl)
def dkwX0_of_0 : List UInt8 := [42, 27, 28, 182, 0, 99, 153, 0, 12, 42, 27, 28, 182, 0, 106, 167, 0, 4, 2, 172]
abbrev dktX0_of_0 : List UInt8 := dkwX0_of_0 ++ []
theorem dksX0_of_0 : cX0_of.data.toList.drop 0 = dktX0_of_0 := by decide +kernel
theorem dX0_of_0 : decode cX0_of 0 = .ok (.aload_n 0, 1) := dk_42 (dk_at dksX0_of_0 0 rfl rfl)
theorem dX0_of_1 : decode cX0_of 1 = .ok (.iload_n 1, 1) := dk_27 (dk_at dksX0_of_0 1 rfl rfl)
theorem dX0_of_2 : decode cX0_of 2 = .ok (.iload_n 2, 1) := dk_28 (dk_at dksX0_of_0 2 rfl rfl)
theorem dX0_of_3 : decode cX0_of 3 = .ok (.invokevirtual 99, 3) := dk_182 0 99 (dk_at dksX0_of_0 3 rfl rfl)
theorem dX0_of_6 : decode cX0_of 6 = .ok (.ifCond .eq 12, 3) := dk_153 0 12 (dk_at dksX0_of_0 6 rfl rfl)
theorem dX0_of_9 : decode cX0_of 9 = .ok (.aload_n 0, 1) := dk_42 (dk_at dksX0_of_0 9 rfl rfl)
theorem dX0_of_10 : decode cX0_of 10 = .ok (.iload_n 1, 1) := dk_27 (dk_at dksX0_of_0 10 rfl rfl)
theorem dX0_of_11 : decode cX0_of 11 = .ok (.iload_n 2, 1) := dk_28 (dk_at dksX0_of_0 11 rfl rfl)
theorem dX0_of_12 : decode cX0_of 12 = .ok (.invokevirtual 106, 3) := dk_182 0 106 (dk_at dksX0_of_0 12 rfl rfl)
theorem dX0_of_15 : decode cX0_of 15 = .ok (.goto 4, 3) := dk_167 0 4 (dk_at dksX0_of_0 15 rfl rfl)
theorem dX0_of_18 : decode cX0_of 18 = .ok (.iconst (-1), 1) := dk_2 (dk_at dksX0_of_0 18 rfl rfl)
theorem dX0_of_19 : decode cX0_of 19 = .ok (.ireturn, 1) := dk_172 (dk_at dksX0_of_0 19 rfl rfl)
def dkwX0_feed_2 : List UInt8 := [180, 0, 114, 172]
abbrev dktX0_feed_2 : List UInt8 := dkwX0_feed_2 ++ []
def dkwX0_feed_1 : List UInt8 := [172, 42, 180, 0, 117, 42, 180, 0, 114, 27, 145, 84, 42, 89, 180, 0, 114, 4, 96, 181, 0, 114, 42]
abbrev dktX0_feed_1 : List UInt8 := dkwX0_feed_1 ++ dktX0_feed_2
def dkwX0_feed_0 : List UInt8 := [27, 3, 17, 0, 255, 184, 0, 7, 154, 0, 5, 2, 172, 42, 180, 0, 114, 16, 120, 160, 0, 6, 16, 253]
abbrev dktX0_feed_0 : List UInt8 := dkwX0_feed_0 ++ dktX0_feed_1
theorem dksX0_feed_0 : cX0_feed.data.toList.drop 0 = dktX0_feed_0 := by decide +kernel
theorem dksX0_feed_1 : cX0_feed.data.toList.drop 24 = dktX0_feed_1 := dk_seg dksX0_feed_0 24 rfl rfl
theorem dksX0_feed_2 : cX0_feed.data.toList.drop 47 = dktX0_feed_2 := dk_seg dksX0_feed_1 23 rfl rfl
theorem dX0_feed_0 : decode cX0_feed 0 = .ok (.iload_n 1, 1) := dk_27 (dk_at dksX0_feed_0 0 rfl rfl)
theorem dX0_feed_1 : decode cX0_feed 1 = .ok (.iconst 0, 1) := dk_3 (dk_at dksX0_feed_0 1 rfl rfl)
theorem dX0_feed_2 : decode cX0_feed 2 = .ok (.sipush 255, 3) := dk_17 0 255 (dk_at dksX0_feed_0 2 rfl rfl)
theorem dX0_feed_5 : decode cX0_feed 5 = .ok (.invokestatic 7, 3) := dk_184 0 7 (dk_at dksX0_feed_0 5 rfl rfl)
theorem dX0_feed_8 : decode cX0_feed 8 = .ok (.ifCond .ne 5, 3) := dk_154 0 5 (dk_at dksX0_feed_0 8 rfl rfl)
theorem dX0_feed_11 : decode cX0_feed 11 = .ok (.iconst (-1), 1) := dk_2 (dk_at dksX0_feed_0 11 rfl rfl)
theorem dX0_feed_12 : decode cX0_feed 12 = .ok (.ireturn, 1) := dk_172 (dk_at dksX0_feed_0 12 rfl rfl)
theorem dX0_feed_13 : decode cX0_feed 13 = .ok (.aload_n 0, 1) := dk_42 (dk_at dksX0_feed_0 13 rfl rfl)
theorem dX0_feed_14 : decode cX0_feed 14 = .ok (.getfield 114, 3) := dk_180 0 114 (dk_at dksX0_feed_0 14 rfl rfl)
theorem dX0_feed_17 : decode cX0_feed 17 = .ok (.bipush 120, 2) := dk_16 120 (dk_at dksX0_feed_0 17 rfl rfl)
theorem dX0_feed_19 : decode cX0_feed 19 = .ok (.if_icmp .ne 6, 3) := dk_160 0 6 (dk_at dksX0_feed_0 19 rfl rfl)
theorem dX0_feed_22 : decode cX0_feed 22 = .ok (.bipush (-3), 2) := dk_16 253 (dk_at dksX0_feed_0 22 rfl rfl)
theorem dX0_feed_24 : decode cX0_feed 24 = .ok (.ireturn, 1) := dk_172 (dk_at dksX0_feed_1 0 rfl rfl)
theorem dX0_feed_25 : decode cX0_feed 25 = .ok (.aload_n 0, 1) := dk_42 (dk_at dksX0_feed_1 1 rfl rfl)
theorem dX0_feed_26 : decode cX0_feed 26 = .ok (.getfield 117, 3) := dk_180 0 117 (dk_at dksX0_feed_1 2 rfl rfl)
theorem dX0_feed_29 : decode cX0_feed 29 = .ok (.aload_n 0, 1) := dk_42 (dk_at dksX0_feed_1 5 rfl rfl)
theorem dX0_feed_30 : decode cX0_feed 30 = .ok (.getfield 114, 3) := dk_180 0 114 (dk_at dksX0_feed_1 6 rfl rfl)
theorem dX0_feed_33 : decode cX0_feed 33 = .ok (.iload_n 1, 1) := dk_27 (dk_at dksX0_feed_1 9 rfl rfl)
theorem dX0_feed_34 : decode cX0_feed 34 = .ok (.i2b, 1) := dk_145 (dk_at dksX0_feed_1 10 rfl rfl)
theorem dX0_feed_35 : decode cX0_feed 35 = .ok (.bastore, 1) := dk_84 (dk_at dksX0_feed_1 11 rfl rfl)
theorem dX0_feed_36 : decode cX0_feed 36 = .ok (.aload_n 0, 1) := dk_42 (dk_at dksX0_feed_1 12 rfl rfl)
theorem dX0_feed_37 : decode cX0_feed 37 = .ok (.dup, 1) := dk_89 (dk_at dksX0_feed_1 13 rfl rfl)
theorem dX0_feed_38 : decode cX0_feed 38 = .ok (.getfield 114, 3) := dk_180 0 114 (dk_at dksX0_feed_1 14 rfl rfl)
theorem dX0_feed_41 : decode cX0_feed 41 = .ok (.iconst 1, 1) := dk_4 (dk_at dksX0_feed_1 17 rfl rfl)
theorem dX0_feed_42 : decode cX0_feed 42 = .ok (.iadd, 1) := dk_96 (dk_at dksX0_feed_1 18 rfl rfl)
theorem dX0_feed_43 : decode cX0_feed 43 = .ok (.putfield 114, 3) := dk_181 0 114 (dk_at dksX0_feed_1 19 rfl rfl)
theorem dX0_feed_46 : decode cX0_feed 46 = .ok (.aload_n 0, 1) := dk_42 (dk_at dksX0_feed_1 22 rfl rfl)
theorem dX0_feed_47 : decode cX0_feed 47 = .ok (.getfield 114, 3) := dk_180 0 114 (dk_at dksX0_feed_2 0 rfl rfl)
theorem dX0_feed_50 : decode cX0_feed 50 = .ok (.ireturn, 1) := dk_172 (dk_at dksX0_feed_2 3 rfl rfl)
def dkwX0_law_1 : List UInt8 := [155, 0, 11, 16, 156, 43, 180, 0, 130, 100, 172, 42, 44, 181, 0, 133, 4, 172]
abbrev dktX0_law_1 : List UInt8 := dkwX0_law_1 ++ []
def dkwX0_law_0 : List UInt8 := [187, 0, 121, 89, 42, 183, 0, 123, 76, 43, 182, 0, 126, 77, 42, 3, 181, 0, 114, 43, 180, 0, 130]
abbrev dktX0_law_0 : List UInt8 := dkwX0_law_0 ++ dktX0_law_1
theorem dksX0_law_0 : cX0_law.data.toList.drop 0 = dktX0_law_0 := by decide +kernel
theorem dksX0_law_1 : cX0_law.data.toList.drop 23 = dktX0_law_1 := dk_seg dksX0_law_0 23 rfl rfl
theorem dX0_law_0 : decode cX0_law 0 = .ok (.new 121, 3) := dk_187 0 121 (dk_at dksX0_law_0 0 rfl rfl)
theorem dX0_law_3 : decode cX0_law 3 = .ok (.dup, 1) := dk_89 (dk_at dksX0_law_0 3 rfl rfl)
theorem dX0_law_4 : decode cX0_law 4 = .ok (.aload_n 0, 1) := dk_42 (dk_at dksX0_law_0 4 rfl rfl)
theorem dX0_law_5 : decode cX0_law 5 = .ok (.invokespecial 123, 3) := dk_183 0 123 (dk_at dksX0_law_0 5 rfl rfl)
theorem dX0_law_8 : decode cX0_law 8 = .ok (.astore_n 1, 1) := dk_76 (dk_at dksX0_law_0 8 rfl rfl)
theorem dX0_law_9 : decode cX0_law 9 = .ok (.aload_n 1, 1) := dk_43 (dk_at dksX0_law_0 9 rfl rfl)
theorem dX0_law_10 : decode cX0_law 10 = .ok (.invokevirtual 126, 3) := dk_182 0 126 (dk_at dksX0_law_0 10 rfl rfl)
theorem dX0_law_13 : decode cX0_law 13 = .ok (.astore_n 2, 1) := dk_77 (dk_at dksX0_law_0 13 rfl rfl)
theorem dX0_law_14 : decode cX0_law 14 = .ok (.aload_n 0, 1) := dk_42 (dk_at dksX0_law_0 14 rfl rfl)
theorem dX0_law_15 : decode cX0_law 15 = .ok (.iconst 0, 1) := dk_3 (dk_at dksX0_law_0 15 rfl rfl)
theorem dX0_law_16 : decode cX0_law 16 = .ok (.putfield 114, 3) := dk_181 0 114 (dk_at dksX0_law_0 16 rfl rfl)
theorem dX0_law_19 : decode cX0_law 19 = .ok (.aload_n 1, 1) := dk_43 (dk_at dksX0_law_0 19 rfl rfl)
theorem dX0_law_20 : decode cX0_law 20 = .ok (.getfield 130, 3) := dk_180 0 130 (dk_at dksX0_law_0 20 rfl rfl)
theorem dX0_law_23 : decode cX0_law 23 = .ok (.ifCond .lt 11, 3) := dk_155 0 11 (dk_at dksX0_law_1 0 rfl rfl)
theorem dX0_law_26 : decode cX0_law 26 = .ok (.bipush (-100), 2) := dk_16 156 (dk_at dksX0_law_1 3 rfl rfl)
theorem dX0_law_28 : decode cX0_law 28 = .ok (.aload_n 1, 1) := dk_43 (dk_at dksX0_law_1 5 rfl rfl)
theorem dX0_law_29 : decode cX0_law 29 = .ok (.getfield 130, 3) := dk_180 0 130 (dk_at dksX0_law_1 6 rfl rfl)
theorem dX0_law_32 : decode cX0_law 32 = .ok (.isub, 1) := dk_100 (dk_at dksX0_law_1 9 rfl rfl)
theorem dX0_law_33 : decode cX0_law 33 = .ok (.ireturn, 1) := dk_172 (dk_at dksX0_law_1 10 rfl rfl)
theorem dX0_law_34 : decode cX0_law 34 = .ok (.aload_n 0, 1) := dk_42 (dk_at dksX0_law_1 11 rfl rfl)
theorem dX0_law_35 : decode cX0_law 35 = .ok (.aload_n 2, 1) := dk_44 (dk_at dksX0_law_1 12 rfl rfl)
theorem dX0_law_36 : decode cX0_law 36 = .ok (.putfield 133, 3) := dk_181 0 133 (dk_at dksX0_law_1 13 rfl rfl)
theorem dX0_law_39 : decode cX0_law 39 = .ok (.iconst 1, 1) := dk_4 (dk_at dksX0_law_1 16 rfl rfl)
theorem dX0_law_40 : decode cX0_law 40 = .ok (.ireturn, 1) := dk_172 (dk_at dksX0_law_1 17 rfl rfl)
def dkwX0_init_7 : List UInt8 := [132, 1, 1, 167, 255, 235, 177]
abbrev dktX0_init_7 : List UInt8 := dkwX0_init_7 ++ []
def dkwX0_init_6 : List UInt8 := [181, 0, 32, 3, 60, 27, 8, 163, 0, 22, 42, 180, 0, 174, 27, 187, 0, 167, 89, 183, 0, 169, 83]
abbrev dktX0_init_6 : List UInt8 := dkwX0_init_6 ++ dktX0_init_7
def dkwX0_init_5 : List UInt8 := [16, 24, 188, 8, 181, 0, 196, 42, 16, 50, 189, 0, 199, 181, 0, 201, 42, 16, 6, 189, 0, 205]
abbrev dktX0_init_5 : List UInt8 := dkwX0_init_5 ++ dktX0_init_6
def dkwX0_init_4 : List UInt8 := [181, 0, 187, 42, 16, 60, 188, 10, 181, 0, 190, 42, 187, 0, 167, 89, 183, 0, 169, 181, 0, 193, 42]
abbrev dktX0_init_4 : List UInt8 := dkwX0_init_4 ++ dktX0_init_5
def dkwX0_init_3 : List UInt8 := [16, 8, 16, 8, 197, 0, 178, 2, 181, 0, 180, 42, 16, 21, 188, 10, 181, 0, 183, 42, 8, 188, 10]
abbrev dktX0_init_3 : List UInt8 := dkwX0_init_3 ++ dktX0_init_4
def dkwX0_init_2 : List UInt8 := [181, 0, 143, 42, 187, 0, 167, 89, 183, 0, 169, 181, 0, 170, 42, 16, 6, 189, 0, 167, 181, 0, 174, 42]
abbrev dktX0_init_2 : List UInt8 := dkwX0_init_2 ++ dktX0_init_3
def dkwX0_init_1 : List UInt8 := [16, 40, 189, 0, 79, 181, 0, 75, 42, 16, 120, 188, 8, 181, 0, 117, 42, 187, 0, 164, 89, 183, 0, 166]
abbrev dktX0_init_1 : List UInt8 := dkwX0_init_1 ++ dktX0_init_2
def dkwX0_init_0 : List UInt8 := [42, 183, 0, 159, 42, 16, 8, 189, 0, 19, 181, 0, 15, 42, 6, 181, 0, 60, 42, 4, 181, 0, 63, 42]
abbrev dktX0_init_0 : List UInt8 := dkwX0_init_0 ++ dktX0_init_1
theorem dksX0_init_0 : cX0_init.data.toList.drop 0 = dktX0_init_0 := by decide +kernel
theorem dksX0_init_1 : cX0_init.data.toList.drop 24 = dktX0_init_1 := dk_seg dksX0_init_0 24 rfl rfl
theorem dksX0_init_2 : cX0_init.data.toList.drop 48 = dktX0_init_2 := dk_seg dksX0_init_1 24 rfl rfl
theorem dksX0_init_3 : cX0_init.data.toList.drop 72 = dktX0_init_3 := dk_seg dksX0_init_2 24 rfl rfl
theorem dksX0_init_4 : cX0_init.data.toList.drop 95 = dktX0_init_4 := dk_seg dksX0_init_3 23 rfl rfl
theorem dksX0_init_5 : cX0_init.data.toList.drop 118 = dktX0_init_5 := dk_seg dksX0_init_4 23 rfl rfl
theorem dksX0_init_6 : cX0_init.data.toList.drop 140 = dktX0_init_6 := dk_seg dksX0_init_5 22 rfl rfl
theorem dksX0_init_7 : cX0_init.data.toList.drop 163 = dktX0_init_7 := dk_seg dksX0_init_6 23 rfl rfl
theorem dX0_init_0 : decode cX0_init 0 = .ok (.aload_n 0, 1) := dk_42 (dk_at dksX0_init_0 0 rfl rfl)
theorem dX0_init_1 : decode cX0_init 1 = .ok (.invokespecial 159, 3) := dk_183 0 159 (dk_at dksX0_init_0 1 rfl rfl)
theorem dX0_init_4 : decode cX0_init 4 = .ok (.aload_n 0, 1) := dk_42 (dk_at dksX0_init_0 4 rfl rfl)
theorem dX0_init_5 : decode cX0_init 5 = .ok (.bipush 8, 2) := dk_16 8 (dk_at dksX0_init_0 5 rfl rfl)
theorem dX0_init_7 : decode cX0_init 7 = .ok (.anewarray 19, 3) := dk_189 0 19 (dk_at dksX0_init_0 7 rfl rfl)
theorem dX0_init_10 : decode cX0_init 10 = .ok (.putfield 15, 3) := dk_181 0 15 (dk_at dksX0_init_0 10 rfl rfl)
theorem dX0_init_13 : decode cX0_init 13 = .ok (.aload_n 0, 1) := dk_42 (dk_at dksX0_init_0 13 rfl rfl)
theorem dX0_init_14 : decode cX0_init 14 = .ok (.iconst 3, 1) := dk_6 (dk_at dksX0_init_0 14 rfl rfl)
theorem dX0_init_15 : decode cX0_init 15 = .ok (.putfield 60, 3) := dk_181 0 60 (dk_at dksX0_init_0 15 rfl rfl)
theorem dX0_init_18 : decode cX0_init 18 = .ok (.aload_n 0, 1) := dk_42 (dk_at dksX0_init_0 18 rfl rfl)
theorem dX0_init_19 : decode cX0_init 19 = .ok (.iconst 1, 1) := dk_4 (dk_at dksX0_init_0 19 rfl rfl)
theorem dX0_init_20 : decode cX0_init 20 = .ok (.putfield 63, 3) := dk_181 0 63 (dk_at dksX0_init_0 20 rfl rfl)
theorem dX0_init_23 : decode cX0_init 23 = .ok (.aload_n 0, 1) := dk_42 (dk_at dksX0_init_0 23 rfl rfl)
theorem dX0_init_24 : decode cX0_init 24 = .ok (.bipush 40, 2) := dk_16 40 (dk_at dksX0_init_1 0 rfl rfl)
theorem dX0_init_26 : decode cX0_init 26 = .ok (.anewarray 79, 3) := dk_189 0 79 (dk_at dksX0_init_1 2 rfl rfl)
theorem dX0_init_29 : decode cX0_init 29 = .ok (.putfield 75, 3) := dk_181 0 75 (dk_at dksX0_init_1 5 rfl rfl)
theorem dX0_init_32 : decode cX0_init 32 = .ok (.aload_n 0, 1) := dk_42 (dk_at dksX0_init_1 8 rfl rfl)
theorem dX0_init_33 : decode cX0_init 33 = .ok (.bipush 120, 2) := dk_16 120 (dk_at dksX0_init_1 9 rfl rfl)
theorem dX0_init_35 : decode cX0_init 35 = .ok (.newarray .byte, 2) := dk_188_8 (dk_at dksX0_init_1 11 rfl rfl)
theorem dX0_init_37 : decode cX0_init 37 = .ok (.putfield 117, 3) := dk_181 0 117 (dk_at dksX0_init_1 13 rfl rfl)
theorem dX0_init_40 : decode cX0_init 40 = .ok (.aload_n 0, 1) := dk_42 (dk_at dksX0_init_1 16 rfl rfl)
theorem dX0_init_41 : decode cX0_init 41 = .ok (.new 164, 3) := dk_187 0 164 (dk_at dksX0_init_1 17 rfl rfl)
theorem dX0_init_44 : decode cX0_init 44 = .ok (.dup, 1) := dk_89 (dk_at dksX0_init_1 20 rfl rfl)
theorem dX0_init_45 : decode cX0_init 45 = .ok (.invokespecial 166, 3) := dk_183 0 166 (dk_at dksX0_init_1 21 rfl rfl)
theorem dX0_init_48 : decode cX0_init 48 = .ok (.putfield 143, 3) := dk_181 0 143 (dk_at dksX0_init_2 0 rfl rfl)
theorem dX0_init_51 : decode cX0_init 51 = .ok (.aload_n 0, 1) := dk_42 (dk_at dksX0_init_2 3 rfl rfl)
theorem dX0_init_52 : decode cX0_init 52 = .ok (.new 167, 3) := dk_187 0 167 (dk_at dksX0_init_2 4 rfl rfl)
theorem dX0_init_55 : decode cX0_init 55 = .ok (.dup, 1) := dk_89 (dk_at dksX0_init_2 7 rfl rfl)
theorem dX0_init_56 : decode cX0_init 56 = .ok (.invokespecial 169, 3) := dk_183 0 169 (dk_at dksX0_init_2 8 rfl rfl)
theorem dX0_init_59 : decode cX0_init 59 = .ok (.putfield 170, 3) := dk_181 0 170 (dk_at dksX0_init_2 11 rfl rfl)
theorem dX0_init_62 : decode cX0_init 62 = .ok (.aload_n 0, 1) := dk_42 (dk_at dksX0_init_2 14 rfl rfl)
theorem dX0_init_63 : decode cX0_init 63 = .ok (.bipush 6, 2) := dk_16 6 (dk_at dksX0_init_2 15 rfl rfl)
theorem dX0_init_65 : decode cX0_init 65 = .ok (.anewarray 167, 3) := dk_189 0 167 (dk_at dksX0_init_2 17 rfl rfl)
theorem dX0_init_68 : decode cX0_init 68 = .ok (.putfield 174, 3) := dk_181 0 174 (dk_at dksX0_init_2 20 rfl rfl)
theorem dX0_init_71 : decode cX0_init 71 = .ok (.aload_n 0, 1) := dk_42 (dk_at dksX0_init_2 23 rfl rfl)
theorem dX0_init_72 : decode cX0_init 72 = .ok (.bipush 8, 2) := dk_16 8 (dk_at dksX0_init_3 0 rfl rfl)
theorem dX0_init_74 : decode cX0_init 74 = .ok (.bipush 8, 2) := dk_16 8 (dk_at dksX0_init_3 2 rfl rfl)
theorem dX0_init_76 : decode cX0_init 76 = .ok (.multianewarray 178 2, 4) := by decide +kernel
theorem dX0_init_80 : decode cX0_init 80 = .ok (.putfield 180, 3) := dk_181 0 180 (dk_at dksX0_init_3 8 rfl rfl)
theorem dX0_init_83 : decode cX0_init 83 = .ok (.aload_n 0, 1) := dk_42 (dk_at dksX0_init_3 11 rfl rfl)
theorem dX0_init_84 : decode cX0_init 84 = .ok (.bipush 21, 2) := dk_16 21 (dk_at dksX0_init_3 12 rfl rfl)
theorem dX0_init_86 : decode cX0_init 86 = .ok (.newarray .int, 2) := dk_188_10 (dk_at dksX0_init_3 14 rfl rfl)
theorem dX0_init_88 : decode cX0_init 88 = .ok (.putfield 183, 3) := dk_181 0 183 (dk_at dksX0_init_3 16 rfl rfl)
theorem dX0_init_91 : decode cX0_init 91 = .ok (.aload_n 0, 1) := dk_42 (dk_at dksX0_init_3 19 rfl rfl)
theorem dX0_init_92 : decode cX0_init 92 = .ok (.iconst 5, 1) := dk_8 (dk_at dksX0_init_3 20 rfl rfl)
theorem dX0_init_93 : decode cX0_init 93 = .ok (.newarray .int, 2) := dk_188_10 (dk_at dksX0_init_3 21 rfl rfl)
theorem dX0_init_95 : decode cX0_init 95 = .ok (.putfield 187, 3) := dk_181 0 187 (dk_at dksX0_init_4 0 rfl rfl)
theorem dX0_init_98 : decode cX0_init 98 = .ok (.aload_n 0, 1) := dk_42 (dk_at dksX0_init_4 3 rfl rfl)
theorem dX0_init_99 : decode cX0_init 99 = .ok (.bipush 60, 2) := dk_16 60 (dk_at dksX0_init_4 4 rfl rfl)
theorem dX0_init_101 : decode cX0_init 101 = .ok (.newarray .int, 2) := dk_188_10 (dk_at dksX0_init_4 6 rfl rfl)
theorem dX0_init_103 : decode cX0_init 103 = .ok (.putfield 190, 3) := dk_181 0 190 (dk_at dksX0_init_4 8 rfl rfl)
theorem dX0_init_106 : decode cX0_init 106 = .ok (.aload_n 0, 1) := dk_42 (dk_at dksX0_init_4 11 rfl rfl)
theorem dX0_init_107 : decode cX0_init 107 = .ok (.new 167, 3) := dk_187 0 167 (dk_at dksX0_init_4 12 rfl rfl)
theorem dX0_init_110 : decode cX0_init 110 = .ok (.dup, 1) := dk_89 (dk_at dksX0_init_4 15 rfl rfl)
theorem dX0_init_111 : decode cX0_init 111 = .ok (.invokespecial 169, 3) := dk_183 0 169 (dk_at dksX0_init_4 16 rfl rfl)
theorem dX0_init_114 : decode cX0_init 114 = .ok (.putfield 193, 3) := dk_181 0 193 (dk_at dksX0_init_4 19 rfl rfl)
theorem dX0_init_117 : decode cX0_init 117 = .ok (.aload_n 0, 1) := dk_42 (dk_at dksX0_init_4 22 rfl rfl)
theorem dX0_init_118 : decode cX0_init 118 = .ok (.bipush 24, 2) := dk_16 24 (dk_at dksX0_init_5 0 rfl rfl)
theorem dX0_init_120 : decode cX0_init 120 = .ok (.newarray .byte, 2) := dk_188_8 (dk_at dksX0_init_5 2 rfl rfl)
theorem dX0_init_122 : decode cX0_init 122 = .ok (.putfield 196, 3) := dk_181 0 196 (dk_at dksX0_init_5 4 rfl rfl)
theorem dX0_init_125 : decode cX0_init 125 = .ok (.aload_n 0, 1) := dk_42 (dk_at dksX0_init_5 7 rfl rfl)
theorem dX0_init_126 : decode cX0_init 126 = .ok (.bipush 50, 2) := dk_16 50 (dk_at dksX0_init_5 8 rfl rfl)
theorem dX0_init_128 : decode cX0_init 128 = .ok (.anewarray 199, 3) := dk_189 0 199 (dk_at dksX0_init_5 10 rfl rfl)
theorem dX0_init_131 : decode cX0_init 131 = .ok (.putfield 201, 3) := dk_181 0 201 (dk_at dksX0_init_5 13 rfl rfl)
theorem dX0_init_134 : decode cX0_init 134 = .ok (.aload_n 0, 1) := dk_42 (dk_at dksX0_init_5 16 rfl rfl)
theorem dX0_init_135 : decode cX0_init 135 = .ok (.bipush 6, 2) := dk_16 6 (dk_at dksX0_init_5 17 rfl rfl)
theorem dX0_init_137 : decode cX0_init 137 = .ok (.anewarray 205, 3) := dk_189 0 205 (dk_at dksX0_init_5 19 rfl rfl)
theorem dX0_init_140 : decode cX0_init 140 = .ok (.putfield 32, 3) := dk_181 0 32 (dk_at dksX0_init_6 0 rfl rfl)
theorem dX0_init_143 : decode cX0_init 143 = .ok (.iconst 0, 1) := dk_3 (dk_at dksX0_init_6 3 rfl rfl)
theorem dX0_init_144 : decode cX0_init 144 = .ok (.istore_n 1, 1) := dk_60 (dk_at dksX0_init_6 4 rfl rfl)
theorem dX0_init_145 : decode cX0_init 145 = .ok (.iload_n 1, 1) := dk_27 (dk_at dksX0_init_6 5 rfl rfl)
theorem dX0_init_146 : decode cX0_init 146 = .ok (.iconst 5, 1) := dk_8 (dk_at dksX0_init_6 6 rfl rfl)
theorem dX0_init_147 : decode cX0_init 147 = .ok (.if_icmp .gt 22, 3) := dk_163 0 22 (dk_at dksX0_init_6 7 rfl rfl)
theorem dX0_init_150 : decode cX0_init 150 = .ok (.aload_n 0, 1) := dk_42 (dk_at dksX0_init_6 10 rfl rfl)
theorem dX0_init_151 : decode cX0_init 151 = .ok (.getfield 174, 3) := dk_180 0 174 (dk_at dksX0_init_6 11 rfl rfl)
theorem dX0_init_154 : decode cX0_init 154 = .ok (.iload_n 1, 1) := dk_27 (dk_at dksX0_init_6 14 rfl rfl)
theorem dX0_init_155 : decode cX0_init 155 = .ok (.new 167, 3) := dk_187 0 167 (dk_at dksX0_init_6 15 rfl rfl)
theorem dX0_init_158 : decode cX0_init 158 = .ok (.dup, 1) := dk_89 (dk_at dksX0_init_6 18 rfl rfl)
theorem dX0_init_159 : decode cX0_init 159 = .ok (.invokespecial 169, 3) := dk_183 0 169 (dk_at dksX0_init_6 19 rfl rfl)
theorem dX0_init_162 : decode cX0_init 162 = .ok (.aastore, 1) := dk_83 (dk_at dksX0_init_6 22 rfl rfl)
theorem dX0_init_163 : decode cX0_init 163 = .ok (.iinc 1 1, 3) := dk_132 1 1 (dk_at dksX0_init_7 0 rfl rfl)
theorem dX0_init_166 : decode cX0_init 166 = .ok (.goto (-21), 3) := dk_167 255 235 (dk_at dksX0_init_7 3 rfl rfl)
theorem dX0_init_169 : decode cX0_init 169 = .ok (.return_, 1) := dk_177 (dk_at dksX0_init_7 6 rfl rfl)
def dkwX0_book_2 : List UInt8 := [180, 0, 170, 180, 1, 2, 27, 46, 172]
abbrev dktX0_book_2 : List UInt8 := dkwX0_book_2 ++ []
def dkwX0_book_1 : List UInt8 := [161, 0, 6, 16, 254, 172, 28, 154, 0, 15, 42, 180, 0, 170, 180, 0, 255, 27, 46, 167, 0, 12, 42]
abbrev dktX0_book_1 : List UInt8 := dkwX0_book_1 ++ dktX0_book_2
def dkwX0_book_0 : List UInt8 := [27, 155, 0, 12, 28, 3, 4, 184, 0, 7, 154, 0, 5, 2, 172, 27, 42, 180, 0, 170, 180, 0, 252]
abbrev dktX0_book_0 : List UInt8 := dkwX0_book_0 ++ dktX0_book_1
theorem dksX0_book_0 : cX0_book.data.toList.drop 0 = dktX0_book_0 := by decide +kernel
theorem dksX0_book_1 : cX0_book.data.toList.drop 23 = dktX0_book_1 := dk_seg dksX0_book_0 23 rfl rfl
theorem dksX0_book_2 : cX0_book.data.toList.drop 46 = dktX0_book_2 := dk_seg dksX0_book_1 23 rfl rfl
theorem dX0_book_0 : decode cX0_book 0 = .ok (.iload_n 1, 1) := dk_27 (dk_at dksX0_book_0 0 rfl rfl)
theorem dX0_book_1 : decode cX0_book 1 = .ok (.ifCond .lt 12, 3) := dk_155 0 12 (dk_at dksX0_book_0 1 rfl rfl)
theorem dX0_book_4 : decode cX0_book 4 = .ok (.iload_n 2, 1) := dk_28 (dk_at dksX0_book_0 4 rfl rfl)
theorem dX0_book_5 : decode cX0_book 5 = .ok (.iconst 0, 1) := dk_3 (dk_at dksX0_book_0 5 rfl rfl)
theorem dX0_book_6 : decode cX0_book 6 = .ok (.iconst 1, 1) := dk_4 (dk_at dksX0_book_0 6 rfl rfl)
theorem dX0_book_7 : decode cX0_book 7 = .ok (.invokestatic 7, 3) := dk_184 0 7 (dk_at dksX0_book_0 7 rfl rfl)
theorem dX0_book_10 : decode cX0_book 10 = .ok (.ifCond .ne 5, 3) := dk_154 0 5 (dk_at dksX0_book_0 10 rfl rfl)
theorem dX0_book_13 : decode cX0_book 13 = .ok (.iconst (-1), 1) := dk_2 (dk_at dksX0_book_0 13 rfl rfl)
theorem dX0_book_14 : decode cX0_book 14 = .ok (.ireturn, 1) := dk_172 (dk_at dksX0_book_0 14 rfl rfl)
theorem dX0_book_15 : decode cX0_book 15 = .ok (.iload_n 1, 1) := dk_27 (dk_at dksX0_book_0 15 rfl rfl)
theorem dX0_book_16 : decode cX0_book 16 = .ok (.aload_n 0, 1) := dk_42 (dk_at dksX0_book_0 16 rfl rfl)
theorem dX0_book_17 : decode cX0_book 17 = .ok (.getfield 170, 3) := dk_180 0 170 (dk_at dksX0_book_0 17 rfl rfl)
theorem dX0_book_20 : decode cX0_book 20 = .ok (.getfield 252, 3) := dk_180 0 252 (dk_at dksX0_book_0 20 rfl rfl)
theorem dX0_book_23 : decode cX0_book 23 = .ok (.if_icmp .lt 6, 3) := dk_161 0 6 (dk_at dksX0_book_1 0 rfl rfl)
theorem dX0_book_26 : decode cX0_book 26 = .ok (.bipush (-2), 2) := dk_16 254 (dk_at dksX0_book_1 3 rfl rfl)
theorem dX0_book_28 : decode cX0_book 28 = .ok (.ireturn, 1) := dk_172 (dk_at dksX0_book_1 5 rfl rfl)
theorem dX0_book_29 : decode cX0_book 29 = .ok (.iload_n 2, 1) := dk_28 (dk_at dksX0_book_1 6 rfl rfl)
theorem dX0_book_30 : decode cX0_book 30 = .ok (.ifCond .ne 15, 3) := dk_154 0 15 (dk_at dksX0_book_1 7 rfl rfl)
theorem dX0_book_33 : decode cX0_book 33 = .ok (.aload_n 0, 1) := dk_42 (dk_at dksX0_book_1 10 rfl rfl)
theorem dX0_book_34 : decode cX0_book 34 = .ok (.getfield 170, 3) := dk_180 0 170 (dk_at dksX0_book_1 11 rfl rfl)
theorem dX0_book_37 : decode cX0_book 37 = .ok (.getfield 255, 3) := dk_180 0 255 (dk_at dksX0_book_1 14 rfl rfl)
theorem dX0_book_40 : decode cX0_book 40 = .ok (.iload_n 1, 1) := dk_27 (dk_at dksX0_book_1 17 rfl rfl)
theorem dX0_book_41 : decode cX0_book 41 = .ok (.iaload, 1) := dk_46 (dk_at dksX0_book_1 18 rfl rfl)
theorem dX0_book_42 : decode cX0_book 42 = .ok (.goto 12, 3) := dk_167 0 12 (dk_at dksX0_book_1 19 rfl rfl)
theorem dX0_book_45 : decode cX0_book 45 = .ok (.aload_n 0, 1) := dk_42 (dk_at dksX0_book_1 22 rfl rfl)
theorem dX0_book_46 : decode cX0_book 46 = .ok (.getfield 170, 3) := dk_180 0 170 (dk_at dksX0_book_2 0 rfl rfl)
theorem dX0_book_49 : decode cX0_book 49 = .ok (.getfield 258, 3) := dk_180 1 2 (dk_at dksX0_book_2 3 rfl rfl)
theorem dX0_book_52 : decode cX0_book 52 = .ok (.iload_n 1, 1) := dk_27 (dk_at dksX0_book_2 6 rfl rfl)
theorem dX0_book_53 : decode cX0_book 53 = .ok (.iaload, 1) := dk_46 (dk_at dksX0_book_2 7 rfl rfl)
theorem dX0_book_54 : decode cX0_book 54 = .ok (.ireturn, 1) := dk_172 (dk_at dksX0_book_2 8 rfl rfl)
def dkwX0_market_4 : List UInt8 := [167, 0, 10, 25, 5, 180, 0, 207, 28, 46, 172]
abbrev dktX0_market_4 : List UInt8 := dkwX0_market_4 ++ []
def dkwX0_market_3 : List UInt8 := [4, 160, 0, 11, 25, 5, 180, 0, 213, 167, 0, 23, 29, 5, 160, 0, 11, 25, 5, 180, 0, 252]
abbrev dktX0_market_3 : List UInt8 := dkwX0_market_3 ++ dktX0_market_4
def dkwX0_market_2 : List UInt8 := [156, 0, 6, 21, 4, 172, 42, 182, 1, 46, 58, 5, 29, 154, 0, 10, 42, 180, 1, 19, 167, 0, 36, 29]
abbrev dktX0_market_2 : List UInt8 := dkwX0_market_2 ++ dktX0_market_3
def dkwX0_market_1 : List UInt8 := [182, 0, 11, 153, 0, 10, 167, 0, 9, 28, 153, 0, 5, 2, 172, 42, 27, 182, 1, 42, 54, 4, 21, 4]
abbrev dktX0_market_1 : List UInt8 := dkwX0_market_1 ++ dktX0_market_2
def dkwX0_market_0 : List UInt8 := [27, 184, 0, 29, 153, 0, 32, 29, 3, 6, 184, 0, 7, 153, 0, 23, 29, 6, 160, 0, 14, 42, 28]
abbrev dktX0_market_0 : List UInt8 := dkwX0_market_0 ++ dktX0_market_1
theorem dksX0_market_0 : cX0_market.data.toList.drop 0 = dktX0_market_0 := by decide +kernel
theorem dksX0_market_1 : cX0_market.data.toList.drop 23 = dktX0_market_1 := dk_seg dksX0_market_0 23 rfl rfl
theorem dksX0_market_2 : cX0_market.data.toList.drop 47 = dktX0_market_2 := dk_seg dksX0_market_1 24 rfl rfl
theorem dksX0_market_3 : cX0_market.data.toList.drop 71 = dktX0_market_3 := dk_seg dksX0_market_2 24 rfl rfl
theorem dksX0_market_4 : cX0_market.data.toList.drop 93 = dktX0_market_4 := dk_seg dksX0_market_3 22 rfl rfl
theorem dX0_market_0 : decode cX0_market 0 = .ok (.iload_n 1, 1) := dk_27 (dk_at dksX0_market_0 0 rfl rfl)
theorem dX0_market_1 : decode cX0_market 1 = .ok (.invokestatic 29, 3) := dk_184 0 29 (dk_at dksX0_market_0 1 rfl rfl)
theorem dX0_market_4 : decode cX0_market 4 = .ok (.ifCond .eq 32, 3) := dk_153 0 32 (dk_at dksX0_market_0 4 rfl rfl)
theorem dX0_market_7 : decode cX0_market 7 = .ok (.iload_n 3, 1) := dk_29 (dk_at dksX0_market_0 7 rfl rfl)
theorem dX0_market_8 : decode cX0_market 8 = .ok (.iconst 0, 1) := dk_3 (dk_at dksX0_market_0 8 rfl rfl)
theorem dX0_market_9 : decode cX0_market 9 = .ok (.iconst 3, 1) := dk_6 (dk_at dksX0_market_0 9 rfl rfl)
theorem dX0_market_10 : decode cX0_market 10 = .ok (.invokestatic 7, 3) := dk_184 0 7 (dk_at dksX0_market_0 10 rfl rfl)
theorem dX0_market_13 : decode cX0_market 13 = .ok (.ifCond .eq 23, 3) := dk_153 0 23 (dk_at dksX0_market_0 13 rfl rfl)
theorem dX0_market_16 : decode cX0_market 16 = .ok (.iload_n 3, 1) := dk_29 (dk_at dksX0_market_0 16 rfl rfl)
theorem dX0_market_17 : decode cX0_market 17 = .ok (.iconst 3, 1) := dk_6 (dk_at dksX0_market_0 17 rfl rfl)
theorem dX0_market_18 : decode cX0_market 18 = .ok (.if_icmp .ne 14, 3) := dk_160 0 14 (dk_at dksX0_market_0 18 rfl rfl)
theorem dX0_market_21 : decode cX0_market 21 = .ok (.aload_n 0, 1) := dk_42 (dk_at dksX0_market_0 21 rfl rfl)
theorem dX0_market_22 : decode cX0_market 22 = .ok (.iload_n 2, 1) := dk_28 (dk_at dksX0_market_0 22 rfl rfl)
theorem dX0_market_23 : decode cX0_market 23 = .ok (.invokevirtual 11, 3) := dk_182 0 11 (dk_at dksX0_market_1 0 rfl rfl)
theorem dX0_market_26 : decode cX0_market 26 = .ok (.ifCond .eq 10, 3) := dk_153 0 10 (dk_at dksX0_market_1 3 rfl rfl)
theorem dX0_market_29 : decode cX0_market 29 = .ok (.goto 9, 3) := dk_167 0 9 (dk_at dksX0_market_1 6 rfl rfl)
theorem dX0_market_32 : decode cX0_market 32 = .ok (.iload_n 2, 1) := dk_28 (dk_at dksX0_market_1 9 rfl rfl)
theorem dX0_market_33 : decode cX0_market 33 = .ok (.ifCond .eq 5, 3) := dk_153 0 5 (dk_at dksX0_market_1 10 rfl rfl)
theorem dX0_market_36 : decode cX0_market 36 = .ok (.iconst (-1), 1) := dk_2 (dk_at dksX0_market_1 13 rfl rfl)
theorem dX0_market_37 : decode cX0_market 37 = .ok (.ireturn, 1) := dk_172 (dk_at dksX0_market_1 14 rfl rfl)
theorem dX0_market_38 : decode cX0_market 38 = .ok (.aload_n 0, 1) := dk_42 (dk_at dksX0_market_1 15 rfl rfl)
theorem dX0_market_39 : decode cX0_market 39 = .ok (.iload_n 1, 1) := dk_27 (dk_at dksX0_market_1 16 rfl rfl)
theorem dX0_market_40 : decode cX0_market 40 = .ok (.invokevirtual 298, 3) := dk_182 1 42 (dk_at dksX0_market_1 17 rfl rfl)
theorem dX0_market_43 : decode cX0_market 43 = .ok (.istore 4, 2) := dk_54 4 (dk_at dksX0_market_1 20 rfl rfl)
theorem dX0_market_45 : decode cX0_market 45 = .ok (.iload 4, 2) := dk_21 4 (dk_at dksX0_market_1 22 rfl rfl)
theorem dX0_market_47 : decode cX0_market 47 = .ok (.ifCond .ge 6, 3) := dk_156 0 6 (dk_at dksX0_market_2 0 rfl rfl)
theorem dX0_market_50 : decode cX0_market 50 = .ok (.iload 4, 2) := dk_21 4 (dk_at dksX0_market_2 3 rfl rfl)
theorem dX0_market_52 : decode cX0_market 52 = .ok (.ireturn, 1) := dk_172 (dk_at dksX0_market_2 5 rfl rfl)
theorem dX0_market_53 : decode cX0_market 53 = .ok (.aload_n 0, 1) := dk_42 (dk_at dksX0_market_2 6 rfl rfl)
theorem dX0_market_54 : decode cX0_market 54 = .ok (.invokevirtual 302, 3) := dk_182 1 46 (dk_at dksX0_market_2 7 rfl rfl)
theorem dX0_market_57 : decode cX0_market 57 = .ok (.astore 5, 2) := dk_58 5 (dk_at dksX0_market_2 10 rfl rfl)
theorem dX0_market_59 : decode cX0_market 59 = .ok (.iload_n 3, 1) := dk_29 (dk_at dksX0_market_2 12 rfl rfl)
theorem dX0_market_60 : decode cX0_market 60 = .ok (.ifCond .ne 10, 3) := dk_154 0 10 (dk_at dksX0_market_2 13 rfl rfl)
theorem dX0_market_63 : decode cX0_market 63 = .ok (.aload_n 0, 1) := dk_42 (dk_at dksX0_market_2 16 rfl rfl)
theorem dX0_market_64 : decode cX0_market 64 = .ok (.getfield 275, 3) := dk_180 1 19 (dk_at dksX0_market_2 17 rfl rfl)
theorem dX0_market_67 : decode cX0_market 67 = .ok (.goto 36, 3) := dk_167 0 36 (dk_at dksX0_market_2 20 rfl rfl)
theorem dX0_market_70 : decode cX0_market 70 = .ok (.iload_n 3, 1) := dk_29 (dk_at dksX0_market_2 23 rfl rfl)
theorem dX0_market_71 : decode cX0_market 71 = .ok (.iconst 1, 1) := dk_4 (dk_at dksX0_market_3 0 rfl rfl)
theorem dX0_market_72 : decode cX0_market 72 = .ok (.if_icmp .ne 11, 3) := dk_160 0 11 (dk_at dksX0_market_3 1 rfl rfl)
theorem dX0_market_75 : decode cX0_market 75 = .ok (.aload 5, 2) := dk_25 5 (dk_at dksX0_market_3 4 rfl rfl)
theorem dX0_market_77 : decode cX0_market 77 = .ok (.getfield 213, 3) := dk_180 0 213 (dk_at dksX0_market_3 6 rfl rfl)
theorem dX0_market_80 : decode cX0_market 80 = .ok (.goto 23, 3) := dk_167 0 23 (dk_at dksX0_market_3 9 rfl rfl)
theorem dX0_market_83 : decode cX0_market 83 = .ok (.iload_n 3, 1) := dk_29 (dk_at dksX0_market_3 12 rfl rfl)
theorem dX0_market_84 : decode cX0_market 84 = .ok (.iconst 2, 1) := dk_5 (dk_at dksX0_market_3 13 rfl rfl)
theorem dX0_market_85 : decode cX0_market 85 = .ok (.if_icmp .ne 11, 3) := dk_160 0 11 (dk_at dksX0_market_3 14 rfl rfl)
theorem dX0_market_88 : decode cX0_market 88 = .ok (.aload 5, 2) := dk_25 5 (dk_at dksX0_market_3 17 rfl rfl)
theorem dX0_market_90 : decode cX0_market 90 = .ok (.getfield 252, 3) := dk_180 0 252 (dk_at dksX0_market_3 19 rfl rfl)
theorem dX0_market_93 : decode cX0_market 93 = .ok (.goto 10, 3) := dk_167 0 10 (dk_at dksX0_market_4 0 rfl rfl)
theorem dX0_market_96 : decode cX0_market 96 = .ok (.aload 5, 2) := dk_25 5 (dk_at dksX0_market_4 3 rfl rfl)
theorem dX0_market_98 : decode cX0_market 98 = .ok (.getfield 207, 3) := dk_180 0 207 (dk_at dksX0_market_4 5 rfl rfl)
theorem dX0_market_101 : decode cX0_market 101 = .ok (.iload_n 2, 1) := dk_28 (dk_at dksX0_market_4 8 rfl rfl)
theorem dX0_market_102 : decode cX0_market 102 = .ok (.iaload, 1) := dk_46 (dk_at dksX0_market_4 9 rfl rfl)
theorem dX0_market_103 : decode cX0_market 103 = .ok (.ireturn, 1) := dk_172 (dk_at dksX0_market_4 10 rfl rfl)
def dkwX0_layRow_3 : List UInt8 := [167, 255, 204, 167, 0, 11, 77, 16, 244, 172, 77, 16, 245, 172, 3, 172]
abbrev dktX0_layRow_3 : List UInt8 := dkwX0_layRow_3 ++ []
def dkwX0_layRow_2 : List UInt8 := [180, 0, 183, 29, 44, 29, 182, 1, 27, 136, 79, 42, 89, 180, 1, 19, 4, 96, 181, 1, 19, 132, 3, 1]
abbrev dktX0_layRow_2 : List UInt8 := dkwX0_layRow_2 ++ dktX0_layRow_3
def dkwX0_layRow_1 : List UInt8 := [162, 0, 50, 29, 16, 20, 162, 0, 44, 42, 44, 29, 182, 1, 27, 136, 182, 0, 11, 153, 0, 31, 42]
abbrev dktX0_layRow_1 : List UInt8 := dkwX0_layRow_1 ++ dktX0_layRow_2
def dkwX0_layRow_0 : List UInt8 := [42, 3, 181, 1, 19, 42, 180, 0, 32, 27, 50, 192, 1, 22, 77, 3, 62, 29, 44, 182, 1, 24]
abbrev dktX0_layRow_0 : List UInt8 := dkwX0_layRow_0 ++ dktX0_layRow_1
theorem dksX0_layRow_0 : cX0_layRow.data.toList.drop 0 = dktX0_layRow_0 := by decide +kernel
theorem dksX0_layRow_1 : cX0_layRow.data.toList.drop 22 = dktX0_layRow_1 := dk_seg dksX0_layRow_0 22 rfl rfl
theorem dksX0_layRow_2 : cX0_layRow.data.toList.drop 45 = dktX0_layRow_2 := dk_seg dksX0_layRow_1 23 rfl rfl
theorem dksX0_layRow_3 : cX0_layRow.data.toList.drop 69 = dktX0_layRow_3 := dk_seg dksX0_layRow_2 24 rfl rfl
theorem dX0_layRow_0 : decode cX0_layRow 0 = .ok (.aload_n 0, 1) := dk_42 (dk_at dksX0_layRow_0 0 rfl rfl)
theorem dX0_layRow_1 : decode cX0_layRow 1 = .ok (.iconst 0, 1) := dk_3 (dk_at dksX0_layRow_0 1 rfl rfl)
theorem dX0_layRow_2 : decode cX0_layRow 2 = .ok (.putfield 275, 3) := dk_181 1 19 (dk_at dksX0_layRow_0 2 rfl rfl)
theorem dX0_layRow_5 : decode cX0_layRow 5 = .ok (.aload_n 0, 1) := dk_42 (dk_at dksX0_layRow_0 5 rfl rfl)
theorem dX0_layRow_6 : decode cX0_layRow 6 = .ok (.getfield 32, 3) := dk_180 0 32 (dk_at dksX0_layRow_0 6 rfl rfl)
theorem dX0_layRow_9 : decode cX0_layRow 9 = .ok (.iload_n 1, 1) := dk_27 (dk_at dksX0_layRow_0 9 rfl rfl)
theorem dX0_layRow_10 : decode cX0_layRow 10 = .ok (.aaload, 1) := dk_50 (dk_at dksX0_layRow_0 10 rfl rfl)
theorem dX0_layRow_11 : decode cX0_layRow 11 = .ok (.checkcast 278, 3) := dk_192 1 22 (dk_at dksX0_layRow_0 11 rfl rfl)
theorem dX0_layRow_14 : decode cX0_layRow 14 = .ok (.astore_n 2, 1) := dk_77 (dk_at dksX0_layRow_0 14 rfl rfl)
theorem dX0_layRow_15 : decode cX0_layRow 15 = .ok (.iconst 0, 1) := dk_3 (dk_at dksX0_layRow_0 15 rfl rfl)
theorem dX0_layRow_16 : decode cX0_layRow 16 = .ok (.istore_n 3, 1) := dk_62 (dk_at dksX0_layRow_0 16 rfl rfl)
theorem dX0_layRow_17 : decode cX0_layRow 17 = .ok (.iload_n 3, 1) := dk_29 (dk_at dksX0_layRow_0 17 rfl rfl)
theorem dX0_layRow_18 : decode cX0_layRow 18 = .ok (.aload_n 2, 1) := dk_44 (dk_at dksX0_layRow_0 18 rfl rfl)
theorem dX0_layRow_19 : decode cX0_layRow 19 = .ok (.invokevirtual 280, 3) := dk_182 1 24 (dk_at dksX0_layRow_0 19 rfl rfl)
theorem dX0_layRow_22 : decode cX0_layRow 22 = .ok (.if_icmp .ge 50, 3) := dk_162 0 50 (dk_at dksX0_layRow_1 0 rfl rfl)
theorem dX0_layRow_25 : decode cX0_layRow 25 = .ok (.iload_n 3, 1) := dk_29 (dk_at dksX0_layRow_1 3 rfl rfl)
theorem dX0_layRow_26 : decode cX0_layRow 26 = .ok (.bipush 20, 2) := dk_16 20 (dk_at dksX0_layRow_1 4 rfl rfl)
theorem dX0_layRow_28 : decode cX0_layRow 28 = .ok (.if_icmp .ge 44, 3) := dk_162 0 44 (dk_at dksX0_layRow_1 6 rfl rfl)
theorem dX0_layRow_31 : decode cX0_layRow 31 = .ok (.aload_n 0, 1) := dk_42 (dk_at dksX0_layRow_1 9 rfl rfl)
theorem dX0_layRow_32 : decode cX0_layRow 32 = .ok (.aload_n 2, 1) := dk_44 (dk_at dksX0_layRow_1 10 rfl rfl)
theorem dX0_layRow_33 : decode cX0_layRow 33 = .ok (.iload_n 3, 1) := dk_29 (dk_at dksX0_layRow_1 11 rfl rfl)
theorem dX0_layRow_34 : decode cX0_layRow 34 = .ok (.invokevirtual 283, 3) := dk_182 1 27 (dk_at dksX0_layRow_1 12 rfl rfl)
theorem dX0_layRow_37 : decode cX0_layRow 37 = .ok (.l2i, 1) := dk_136 (dk_at dksX0_layRow_1 15 rfl rfl)
theorem dX0_layRow_38 : decode cX0_layRow 38 = .ok (.invokevirtual 11, 3) := dk_182 0 11 (dk_at dksX0_layRow_1 16 rfl rfl)
theorem dX0_layRow_41 : decode cX0_layRow 41 = .ok (.ifCond .eq 31, 3) := dk_153 0 31 (dk_at dksX0_layRow_1 19 rfl rfl)
theorem dX0_layRow_44 : decode cX0_layRow 44 = .ok (.aload_n 0, 1) := dk_42 (dk_at dksX0_layRow_1 22 rfl rfl)
theorem dX0_layRow_45 : decode cX0_layRow 45 = .ok (.getfield 183, 3) := dk_180 0 183 (dk_at dksX0_layRow_2 0 rfl rfl)
theorem dX0_layRow_48 : decode cX0_layRow 48 = .ok (.iload_n 3, 1) := dk_29 (dk_at dksX0_layRow_2 3 rfl rfl)
theorem dX0_layRow_49 : decode cX0_layRow 49 = .ok (.aload_n 2, 1) := dk_44 (dk_at dksX0_layRow_2 4 rfl rfl)
theorem dX0_layRow_50 : decode cX0_layRow 50 = .ok (.iload_n 3, 1) := dk_29 (dk_at dksX0_layRow_2 5 rfl rfl)
theorem dX0_layRow_51 : decode cX0_layRow 51 = .ok (.invokevirtual 283, 3) := dk_182 1 27 (dk_at dksX0_layRow_2 6 rfl rfl)
theorem dX0_layRow_54 : decode cX0_layRow 54 = .ok (.l2i, 1) := dk_136 (dk_at dksX0_layRow_2 9 rfl rfl)
theorem dX0_layRow_55 : decode cX0_layRow 55 = .ok (.iastore, 1) := dk_79 (dk_at dksX0_layRow_2 10 rfl rfl)
theorem dX0_layRow_56 : decode cX0_layRow 56 = .ok (.aload_n 0, 1) := dk_42 (dk_at dksX0_layRow_2 11 rfl rfl)
theorem dX0_layRow_57 : decode cX0_layRow 57 = .ok (.dup, 1) := dk_89 (dk_at dksX0_layRow_2 12 rfl rfl)
theorem dX0_layRow_58 : decode cX0_layRow 58 = .ok (.getfield 275, 3) := dk_180 1 19 (dk_at dksX0_layRow_2 13 rfl rfl)
theorem dX0_layRow_61 : decode cX0_layRow 61 = .ok (.iconst 1, 1) := dk_4 (dk_at dksX0_layRow_2 16 rfl rfl)
theorem dX0_layRow_62 : decode cX0_layRow 62 = .ok (.iadd, 1) := dk_96 (dk_at dksX0_layRow_2 17 rfl rfl)
theorem dX0_layRow_63 : decode cX0_layRow 63 = .ok (.putfield 275, 3) := dk_181 1 19 (dk_at dksX0_layRow_2 18 rfl rfl)
theorem dX0_layRow_66 : decode cX0_layRow 66 = .ok (.iinc 3 1, 3) := dk_132 3 1 (dk_at dksX0_layRow_2 21 rfl rfl)
theorem dX0_layRow_69 : decode cX0_layRow 69 = .ok (.goto (-52), 3) := dk_167 255 204 (dk_at dksX0_layRow_3 0 rfl rfl)
theorem dX0_layRow_72 : decode cX0_layRow 72 = .ok (.goto 11, 3) := dk_167 0 11 (dk_at dksX0_layRow_3 3 rfl rfl)
theorem dX0_layRow_75 : decode cX0_layRow 75 = .ok (.astore_n 2, 1) := dk_77 (dk_at dksX0_layRow_3 6 rfl rfl)
theorem dX0_layRow_76 : decode cX0_layRow 76 = .ok (.bipush (-12), 2) := dk_16 244 (dk_at dksX0_layRow_3 7 rfl rfl)
theorem dX0_layRow_78 : decode cX0_layRow 78 = .ok (.ireturn, 1) := dk_172 (dk_at dksX0_layRow_3 9 rfl rfl)
theorem dX0_layRow_79 : decode cX0_layRow 79 = .ok (.astore_n 2, 1) := dk_77 (dk_at dksX0_layRow_3 10 rfl rfl)
theorem dX0_layRow_80 : decode cX0_layRow 80 = .ok (.bipush (-11), 2) := dk_16 245 (dk_at dksX0_layRow_3 11 rfl rfl)
theorem dX0_layRow_82 : decode cX0_layRow 82 = .ok (.ireturn, 1) := dk_172 (dk_at dksX0_layRow_3 13 rfl rfl)
theorem dX0_layRow_83 : decode cX0_layRow 83 = .ok (.iconst 0, 1) := dk_3 (dk_at dksX0_layRow_3 14 rfl rfl)
theorem dX0_layRow_84 : decode cX0_layRow 84 = .ok (.ireturn, 1) := dk_172 (dk_at dksX0_layRow_3 15 rfl rfl)
def dkwX0_behindRow_0 : List UInt8 := [42, 182, 1, 32, 42, 182, 1, 35, 76, 42, 43, 182, 1, 39, 43, 176]
abbrev dktX0_behindRow_0 : List UInt8 := dkwX0_behindRow_0 ++ []
theorem dksX0_behindRow_0 : cX0_behindRow.data.toList.drop 0 = dktX0_behindRow_0 := by decide +kernel
theorem dX0_behindRow_0 : decode cX0_behindRow 0 = .ok (.aload_n 0, 1) := dk_42 (dk_at dksX0_behindRow_0 0 rfl rfl)
theorem dX0_behindRow_1 : decode cX0_behindRow 1 = .ok (.invokevirtual 288, 3) := dk_182 1 32 (dk_at dksX0_behindRow_0 1 rfl rfl)
theorem dX0_behindRow_4 : decode cX0_behindRow 4 = .ok (.aload_n 0, 1) := dk_42 (dk_at dksX0_behindRow_0 4 rfl rfl)
theorem dX0_behindRow_5 : decode cX0_behindRow 5 = .ok (.invokevirtual 291, 3) := dk_182 1 35 (dk_at dksX0_behindRow_0 5 rfl rfl)
theorem dX0_behindRow_8 : decode cX0_behindRow 8 = .ok (.astore_n 1, 1) := dk_76 (dk_at dksX0_behindRow_0 8 rfl rfl)
theorem dX0_behindRow_9 : decode cX0_behindRow 9 = .ok (.aload_n 0, 1) := dk_42 (dk_at dksX0_behindRow_0 9 rfl rfl)
theorem dX0_behindRow_10 : decode cX0_behindRow 10 = .ok (.aload_n 1, 1) := dk_43 (dk_at dksX0_behindRow_0 10 rfl rfl)
theorem dX0_behindRow_11 : decode cX0_behindRow 11 = .ok (.invokevirtual 295, 3) := dk_182 1 39 (dk_at dksX0_behindRow_0 11 rfl rfl)
theorem dX0_behindRow_14 : decode cX0_behindRow 14 = .ok (.aload_n 1, 1) := dk_43 (dk_at dksX0_behindRow_0 14 rfl rfl)
theorem dX0_behindRow_15 : decode cX0_behindRow 15 = .ok (.areturn, 1) := dk_176 (dk_at dksX0_behindRow_0 15 rfl rfl)
def dkwX0_clearPaid_1 : List UInt8 := [79, 132, 2, 1, 167, 255, 238, 132, 1, 1, 167, 255, 224, 177]
abbrev dktX0_clearPaid_1 : List UInt8 := dkwX0_clearPaid_1 ++ []
def dkwX0_clearPaid_0 : List UInt8 := [3, 60, 27, 16, 8, 162, 0, 32, 3, 61, 28, 16, 8, 162, 0, 18, 42, 180, 0, 180, 27, 50, 28, 3]
abbrev dktX0_clearPaid_0 : List UInt8 := dkwX0_clearPaid_0 ++ dktX0_clearPaid_1
theorem dksX0_clearPaid_0 : cX0_clearPaid.data.toList.drop 0 = dktX0_clearPaid_0 := by decide +kernel
theorem dksX0_clearPaid_1 : cX0_clearPaid.data.toList.drop 24 = dktX0_clearPaid_1 := dk_seg dksX0_clearPaid_0 24 rfl rfl
theorem dX0_clearPaid_0 : decode cX0_clearPaid 0 = .ok (.iconst 0, 1) := dk_3 (dk_at dksX0_clearPaid_0 0 rfl rfl)
theorem dX0_clearPaid_1 : decode cX0_clearPaid 1 = .ok (.istore_n 1, 1) := dk_60 (dk_at dksX0_clearPaid_0 1 rfl rfl)
theorem dX0_clearPaid_2 : decode cX0_clearPaid 2 = .ok (.iload_n 1, 1) := dk_27 (dk_at dksX0_clearPaid_0 2 rfl rfl)
theorem dX0_clearPaid_3 : decode cX0_clearPaid 3 = .ok (.bipush 8, 2) := dk_16 8 (dk_at dksX0_clearPaid_0 3 rfl rfl)
theorem dX0_clearPaid_5 : decode cX0_clearPaid 5 = .ok (.if_icmp .ge 32, 3) := dk_162 0 32 (dk_at dksX0_clearPaid_0 5 rfl rfl)
theorem dX0_clearPaid_8 : decode cX0_clearPaid 8 = .ok (.iconst 0, 1) := dk_3 (dk_at dksX0_clearPaid_0 8 rfl rfl)
theorem dX0_clearPaid_9 : decode cX0_clearPaid 9 = .ok (.istore_n 2, 1) := dk_61 (dk_at dksX0_clearPaid_0 9 rfl rfl)
theorem dX0_clearPaid_10 : decode cX0_clearPaid 10 = .ok (.iload_n 2, 1) := dk_28 (dk_at dksX0_clearPaid_0 10 rfl rfl)
theorem dX0_clearPaid_11 : decode cX0_clearPaid 11 = .ok (.bipush 8, 2) := dk_16 8 (dk_at dksX0_clearPaid_0 11 rfl rfl)
theorem dX0_clearPaid_13 : decode cX0_clearPaid 13 = .ok (.if_icmp .ge 18, 3) := dk_162 0 18 (dk_at dksX0_clearPaid_0 13 rfl rfl)
theorem dX0_clearPaid_16 : decode cX0_clearPaid 16 = .ok (.aload_n 0, 1) := dk_42 (dk_at dksX0_clearPaid_0 16 rfl rfl)
theorem dX0_clearPaid_17 : decode cX0_clearPaid 17 = .ok (.getfield 180, 3) := dk_180 0 180 (dk_at dksX0_clearPaid_0 17 rfl rfl)
theorem dX0_clearPaid_20 : decode cX0_clearPaid 20 = .ok (.iload_n 1, 1) := dk_27 (dk_at dksX0_clearPaid_0 20 rfl rfl)
theorem dX0_clearPaid_21 : decode cX0_clearPaid 21 = .ok (.aaload, 1) := dk_50 (dk_at dksX0_clearPaid_0 21 rfl rfl)
theorem dX0_clearPaid_22 : decode cX0_clearPaid 22 = .ok (.iload_n 2, 1) := dk_28 (dk_at dksX0_clearPaid_0 22 rfl rfl)
theorem dX0_clearPaid_23 : decode cX0_clearPaid 23 = .ok (.iconst 0, 1) := dk_3 (dk_at dksX0_clearPaid_0 23 rfl rfl)
theorem dX0_clearPaid_24 : decode cX0_clearPaid 24 = .ok (.iastore, 1) := dk_79 (dk_at dksX0_clearPaid_1 0 rfl rfl)
theorem dX0_clearPaid_25 : decode cX0_clearPaid 25 = .ok (.iinc 2 1, 3) := dk_132 2 1 (dk_at dksX0_clearPaid_1 1 rfl rfl)
theorem dX0_clearPaid_28 : decode cX0_clearPaid 28 = .ok (.goto (-18), 3) := dk_167 255 238 (dk_at dksX0_clearPaid_1 4 rfl rfl)
theorem dX0_clearPaid_31 : decode cX0_clearPaid 31 = .ok (.iinc 1 1, 3) := dk_132 1 1 (dk_at dksX0_clearPaid_1 7 rfl rfl)
theorem dX0_clearPaid_34 : decode cX0_clearPaid 34 = .ok (.goto (-32), 3) := dk_167 255 224 (dk_at dksX0_clearPaid_1 10 rfl rfl)
theorem dX0_clearPaid_37 : decode cX0_clearPaid 37 = .ok (.return_, 1) := dk_177 (dk_at dksX0_clearPaid_1 13 rfl rfl)
def dkwX0_layNow_4 : List UInt8 := [182, 0, 216, 42, 180, 0, 174, 3, 50, 176]
abbrev dktX0_layNow_4 : List UInt8 := dkwX0_layNow_4 ++ []
def dkwX0_layNow_3 : List UInt8 := [180, 0, 66, 181, 0, 212, 42, 180, 0, 170, 3, 181, 0, 213, 42, 180, 0, 174, 3, 50, 42, 180, 0, 170]
abbrev dktX0_layNow_3 : List UInt8 := dkwX0_layNow_3 ++ dktX0_layNow_4
def dkwX0_layNow_2 : List UInt8 := [132, 1, 1, 167, 255, 209, 42, 180, 0, 170, 42, 180, 0, 60, 181, 0, 211, 42, 180, 0, 170, 42]
abbrev dktX0_layNow_2 : List UInt8 := dkwX0_layNow_2 ++ dktX0_layNow_3
def dkwX0_layNow_1 : List UInt8 := [180, 0, 42, 79, 42, 180, 0, 170, 180, 0, 209, 27, 42, 180, 0, 15, 27, 50, 180, 0, 51, 79]
abbrev dktX0_layNow_1 : List UInt8 := dkwX0_layNow_1 ++ dktX0_layNow_2
def dkwX0_layNow_0 : List UInt8 := [3, 60, 27, 42, 180, 0, 1, 162, 0, 45, 42, 180, 0, 170, 180, 0, 207, 27, 42, 180, 0, 15, 27, 50]
abbrev dktX0_layNow_0 : List UInt8 := dkwX0_layNow_0 ++ dktX0_layNow_1
theorem dksX0_layNow_0 : cX0_layNow.data.toList.drop 0 = dktX0_layNow_0 := by decide +kernel
theorem dksX0_layNow_1 : cX0_layNow.data.toList.drop 24 = dktX0_layNow_1 := dk_seg dksX0_layNow_0 24 rfl rfl
theorem dksX0_layNow_2 : cX0_layNow.data.toList.drop 46 = dktX0_layNow_2 := dk_seg dksX0_layNow_1 22 rfl rfl
theorem dksX0_layNow_3 : cX0_layNow.data.toList.drop 68 = dktX0_layNow_3 := dk_seg dksX0_layNow_2 22 rfl rfl
theorem dksX0_layNow_4 : cX0_layNow.data.toList.drop 92 = dktX0_layNow_4 := dk_seg dksX0_layNow_3 24 rfl rfl
theorem dX0_layNow_0 : decode cX0_layNow 0 = .ok (.iconst 0, 1) := dk_3 (dk_at dksX0_layNow_0 0 rfl rfl)
theorem dX0_layNow_1 : decode cX0_layNow 1 = .ok (.istore_n 1, 1) := dk_60 (dk_at dksX0_layNow_0 1 rfl rfl)
theorem dX0_layNow_2 : decode cX0_layNow 2 = .ok (.iload_n 1, 1) := dk_27 (dk_at dksX0_layNow_0 2 rfl rfl)
theorem dX0_layNow_3 : decode cX0_layNow 3 = .ok (.aload_n 0, 1) := dk_42 (dk_at dksX0_layNow_0 3 rfl rfl)
theorem dX0_layNow_4 : decode cX0_layNow 4 = .ok (.getfield 1, 3) := dk_180 0 1 (dk_at dksX0_layNow_0 4 rfl rfl)
theorem dX0_layNow_7 : decode cX0_layNow 7 = .ok (.if_icmp .ge 45, 3) := dk_162 0 45 (dk_at dksX0_layNow_0 7 rfl rfl)
theorem dX0_layNow_10 : decode cX0_layNow 10 = .ok (.aload_n 0, 1) := dk_42 (dk_at dksX0_layNow_0 10 rfl rfl)
theorem dX0_layNow_11 : decode cX0_layNow 11 = .ok (.getfield 170, 3) := dk_180 0 170 (dk_at dksX0_layNow_0 11 rfl rfl)
theorem dX0_layNow_14 : decode cX0_layNow 14 = .ok (.getfield 207, 3) := dk_180 0 207 (dk_at dksX0_layNow_0 14 rfl rfl)
theorem dX0_layNow_17 : decode cX0_layNow 17 = .ok (.iload_n 1, 1) := dk_27 (dk_at dksX0_layNow_0 17 rfl rfl)
theorem dX0_layNow_18 : decode cX0_layNow 18 = .ok (.aload_n 0, 1) := dk_42 (dk_at dksX0_layNow_0 18 rfl rfl)
theorem dX0_layNow_19 : decode cX0_layNow 19 = .ok (.getfield 15, 3) := dk_180 0 15 (dk_at dksX0_layNow_0 19 rfl rfl)
theorem dX0_layNow_22 : decode cX0_layNow 22 = .ok (.iload_n 1, 1) := dk_27 (dk_at dksX0_layNow_0 22 rfl rfl)
theorem dX0_layNow_23 : decode cX0_layNow 23 = .ok (.aaload, 1) := dk_50 (dk_at dksX0_layNow_0 23 rfl rfl)
theorem dX0_layNow_24 : decode cX0_layNow 24 = .ok (.getfield 42, 3) := dk_180 0 42 (dk_at dksX0_layNow_1 0 rfl rfl)
theorem dX0_layNow_27 : decode cX0_layNow 27 = .ok (.iastore, 1) := dk_79 (dk_at dksX0_layNow_1 3 rfl rfl)
theorem dX0_layNow_28 : decode cX0_layNow 28 = .ok (.aload_n 0, 1) := dk_42 (dk_at dksX0_layNow_1 4 rfl rfl)
theorem dX0_layNow_29 : decode cX0_layNow 29 = .ok (.getfield 170, 3) := dk_180 0 170 (dk_at dksX0_layNow_1 5 rfl rfl)
theorem dX0_layNow_32 : decode cX0_layNow 32 = .ok (.getfield 209, 3) := dk_180 0 209 (dk_at dksX0_layNow_1 8 rfl rfl)
theorem dX0_layNow_35 : decode cX0_layNow 35 = .ok (.iload_n 1, 1) := dk_27 (dk_at dksX0_layNow_1 11 rfl rfl)
theorem dX0_layNow_36 : decode cX0_layNow 36 = .ok (.aload_n 0, 1) := dk_42 (dk_at dksX0_layNow_1 12 rfl rfl)
theorem dX0_layNow_37 : decode cX0_layNow 37 = .ok (.getfield 15, 3) := dk_180 0 15 (dk_at dksX0_layNow_1 13 rfl rfl)
theorem dX0_layNow_40 : decode cX0_layNow 40 = .ok (.iload_n 1, 1) := dk_27 (dk_at dksX0_layNow_1 16 rfl rfl)
theorem dX0_layNow_41 : decode cX0_layNow 41 = .ok (.aaload, 1) := dk_50 (dk_at dksX0_layNow_1 17 rfl rfl)
theorem dX0_layNow_42 : decode cX0_layNow 42 = .ok (.getfield 51, 3) := dk_180 0 51 (dk_at dksX0_layNow_1 18 rfl rfl)
theorem dX0_layNow_45 : decode cX0_layNow 45 = .ok (.iastore, 1) := dk_79 (dk_at dksX0_layNow_1 21 rfl rfl)
theorem dX0_layNow_46 : decode cX0_layNow 46 = .ok (.iinc 1 1, 3) := dk_132 1 1 (dk_at dksX0_layNow_2 0 rfl rfl)
theorem dX0_layNow_49 : decode cX0_layNow 49 = .ok (.goto (-47), 3) := dk_167 255 209 (dk_at dksX0_layNow_2 3 rfl rfl)
theorem dX0_layNow_52 : decode cX0_layNow 52 = .ok (.aload_n 0, 1) := dk_42 (dk_at dksX0_layNow_2 6 rfl rfl)
theorem dX0_layNow_53 : decode cX0_layNow 53 = .ok (.getfield 170, 3) := dk_180 0 170 (dk_at dksX0_layNow_2 7 rfl rfl)
theorem dX0_layNow_56 : decode cX0_layNow 56 = .ok (.aload_n 0, 1) := dk_42 (dk_at dksX0_layNow_2 10 rfl rfl)
theorem dX0_layNow_57 : decode cX0_layNow 57 = .ok (.getfield 60, 3) := dk_180 0 60 (dk_at dksX0_layNow_2 11 rfl rfl)
theorem dX0_layNow_60 : decode cX0_layNow 60 = .ok (.putfield 211, 3) := dk_181 0 211 (dk_at dksX0_layNow_2 14 rfl rfl)
theorem dX0_layNow_63 : decode cX0_layNow 63 = .ok (.aload_n 0, 1) := dk_42 (dk_at dksX0_layNow_2 17 rfl rfl)
theorem dX0_layNow_64 : decode cX0_layNow 64 = .ok (.getfield 170, 3) := dk_180 0 170 (dk_at dksX0_layNow_2 18 rfl rfl)
theorem dX0_layNow_67 : decode cX0_layNow 67 = .ok (.aload_n 0, 1) := dk_42 (dk_at dksX0_layNow_2 21 rfl rfl)
theorem dX0_layNow_68 : decode cX0_layNow 68 = .ok (.getfield 66, 3) := dk_180 0 66 (dk_at dksX0_layNow_3 0 rfl rfl)
theorem dX0_layNow_71 : decode cX0_layNow 71 = .ok (.putfield 212, 3) := dk_181 0 212 (dk_at dksX0_layNow_3 3 rfl rfl)
theorem dX0_layNow_74 : decode cX0_layNow 74 = .ok (.aload_n 0, 1) := dk_42 (dk_at dksX0_layNow_3 6 rfl rfl)
theorem dX0_layNow_75 : decode cX0_layNow 75 = .ok (.getfield 170, 3) := dk_180 0 170 (dk_at dksX0_layNow_3 7 rfl rfl)
theorem dX0_layNow_78 : decode cX0_layNow 78 = .ok (.iconst 0, 1) := dk_3 (dk_at dksX0_layNow_3 10 rfl rfl)
theorem dX0_layNow_79 : decode cX0_layNow 79 = .ok (.putfield 213, 3) := dk_181 0 213 (dk_at dksX0_layNow_3 11 rfl rfl)
theorem dX0_layNow_82 : decode cX0_layNow 82 = .ok (.aload_n 0, 1) := dk_42 (dk_at dksX0_layNow_3 14 rfl rfl)
theorem dX0_layNow_83 : decode cX0_layNow 83 = .ok (.getfield 174, 3) := dk_180 0 174 (dk_at dksX0_layNow_3 15 rfl rfl)
theorem dX0_layNow_86 : decode cX0_layNow 86 = .ok (.iconst 0, 1) := dk_3 (dk_at dksX0_layNow_3 18 rfl rfl)
theorem dX0_layNow_87 : decode cX0_layNow 87 = .ok (.aaload, 1) := dk_50 (dk_at dksX0_layNow_3 19 rfl rfl)
theorem dX0_layNow_88 : decode cX0_layNow 88 = .ok (.aload_n 0, 1) := dk_42 (dk_at dksX0_layNow_3 20 rfl rfl)
theorem dX0_layNow_89 : decode cX0_layNow 89 = .ok (.getfield 170, 3) := dk_180 0 170 (dk_at dksX0_layNow_3 21 rfl rfl)
theorem dX0_layNow_92 : decode cX0_layNow 92 = .ok (.invokevirtual 216, 3) := dk_182 0 216 (dk_at dksX0_layNow_4 0 rfl rfl)
theorem dX0_layNow_95 : decode cX0_layNow 95 = .ok (.aload_n 0, 1) := dk_42 (dk_at dksX0_layNow_4 3 rfl rfl)
theorem dX0_layNow_96 : decode cX0_layNow 96 = .ok (.getfield 174, 3) := dk_180 0 174 (dk_at dksX0_layNow_4 4 rfl rfl)
theorem dX0_layNow_99 : decode cX0_layNow 99 = .ok (.iconst 0, 1) := dk_3 (dk_at dksX0_layNow_4 7 rfl rfl)
theorem dX0_layNow_100 : decode cX0_layNow 100 = .ok (.aaload, 1) := dk_50 (dk_at dksX0_layNow_4 8 rfl rfl)
theorem dX0_layNow_101 : decode cX0_layNow 101 = .ok (.areturn, 1) := dk_176 (dk_at dksX0_layNow_4 9 rfl rfl)
def dkwX0_goRow_1 : List UInt8 := [167, 255, 234, 177]
abbrev dktX0_goRow_1 : List UInt8 := dkwX0_goRow_1 ++ []
def dkwX0_goRow_0 : List UInt8 := [3, 61, 28, 42, 180, 1, 19, 162, 0, 20, 42, 43, 42, 180, 0, 183, 28, 46, 182, 1, 28, 132, 2, 1]
abbrev dktX0_goRow_0 : List UInt8 := dkwX0_goRow_0 ++ dktX0_goRow_1
theorem dksX0_goRow_0 : cX0_goRow.data.toList.drop 0 = dktX0_goRow_0 := by decide +kernel
theorem dksX0_goRow_1 : cX0_goRow.data.toList.drop 24 = dktX0_goRow_1 := dk_seg dksX0_goRow_0 24 rfl rfl
theorem dX0_goRow_0 : decode cX0_goRow 0 = .ok (.iconst 0, 1) := dk_3 (dk_at dksX0_goRow_0 0 rfl rfl)
theorem dX0_goRow_1 : decode cX0_goRow 1 = .ok (.istore_n 2, 1) := dk_61 (dk_at dksX0_goRow_0 1 rfl rfl)
theorem dX0_goRow_2 : decode cX0_goRow 2 = .ok (.iload_n 2, 1) := dk_28 (dk_at dksX0_goRow_0 2 rfl rfl)
theorem dX0_goRow_3 : decode cX0_goRow 3 = .ok (.aload_n 0, 1) := dk_42 (dk_at dksX0_goRow_0 3 rfl rfl)
theorem dX0_goRow_4 : decode cX0_goRow 4 = .ok (.getfield 275, 3) := dk_180 1 19 (dk_at dksX0_goRow_0 4 rfl rfl)
theorem dX0_goRow_7 : decode cX0_goRow 7 = .ok (.if_icmp .ge 20, 3) := dk_162 0 20 (dk_at dksX0_goRow_0 7 rfl rfl)
theorem dX0_goRow_10 : decode cX0_goRow 10 = .ok (.aload_n 0, 1) := dk_42 (dk_at dksX0_goRow_0 10 rfl rfl)
theorem dX0_goRow_11 : decode cX0_goRow 11 = .ok (.aload_n 1, 1) := dk_43 (dk_at dksX0_goRow_0 11 rfl rfl)
theorem dX0_goRow_12 : decode cX0_goRow 12 = .ok (.aload_n 0, 1) := dk_42 (dk_at dksX0_goRow_0 12 rfl rfl)
theorem dX0_goRow_13 : decode cX0_goRow 13 = .ok (.getfield 183, 3) := dk_180 0 183 (dk_at dksX0_goRow_0 13 rfl rfl)
theorem dX0_goRow_16 : decode cX0_goRow 16 = .ok (.iload_n 2, 1) := dk_28 (dk_at dksX0_goRow_0 16 rfl rfl)
theorem dX0_goRow_17 : decode cX0_goRow 17 = .ok (.iaload, 1) := dk_46 (dk_at dksX0_goRow_0 17 rfl rfl)
theorem dX0_goRow_18 : decode cX0_goRow 18 = .ok (.invokevirtual 284, 3) := dk_182 1 28 (dk_at dksX0_goRow_0 18 rfl rfl)
theorem dX0_goRow_21 : decode cX0_goRow 21 = .ok (.iinc 2 1, 3) := dk_132 2 1 (dk_at dksX0_goRow_0 21 rfl rfl)
theorem dX0_goRow_24 : decode cX0_goRow 24 = .ok (.goto (-22), 3) := dk_167 255 234 (dk_at dksX0_goRow_1 0 rfl rfl)
theorem dX0_goRow_27 : decode cX0_goRow 27 = .ok (.return_, 1) := dk_177 (dk_at dksX0_goRow_1 3 rfl rfl)
def dkwX0_comesIn_5 : List UInt8 := [181, 0, 226, 43, 180, 0, 220, 28, 92, 46, 4, 96, 79, 177]
abbrev dktX0_comesIn_5 : List UInt8 := dkwX0_comesIn_5 ++ []
def dkwX0_comesIn_4 : List UInt8 := [182, 1, 12, 181, 0, 246, 43, 28, 42, 180, 0, 246, 182, 1, 16, 43, 89, 180, 0, 226, 4, 96]
abbrev dktX0_comesIn_4 : List UInt8 := dkwX0_comesIn_4 ++ dktX0_comesIn_5
def dkwX0_comesIn_3 : List UInt8 := [42, 21, 4, 181, 0, 243, 42, 43, 21, 4, 21, 5, 28, 182, 1, 8, 167, 255, 200, 42, 42, 43, 28, 29]
abbrev dktX0_comesIn_3 : List UInt8 := dkwX0_comesIn_3 ++ dktX0_comesIn_4
def dkwX0_comesIn_2 : List UInt8 := [46, 54, 4, 43, 180, 1, 2, 3, 46, 54, 5, 43, 182, 1, 5, 42, 180, 0, 243, 16, 8, 160, 0, 9]
abbrev dktX0_comesIn_2 : List UInt8 := dkwX0_comesIn_2 ++ dktX0_comesIn_3
def dkwX0_comesIn_1 : List UInt8 := [177, 43, 180, 0, 207, 28, 46, 62, 43, 180, 0, 252, 43, 180, 0, 211, 161, 0, 51, 43, 180, 0, 255, 3]
abbrev dktX0_comesIn_1 : List UInt8 := dkwX0_comesIn_1 ++ dktX0_comesIn_2
def dkwX0_comesIn_0 : List UInt8 := [42, 16, 8, 181, 0, 243, 42, 3, 181, 0, 240, 42, 3, 181, 0, 246, 42, 28, 182, 0, 249, 154, 0, 4]
abbrev dktX0_comesIn_0 : List UInt8 := dkwX0_comesIn_0 ++ dktX0_comesIn_1
theorem dksX0_comesIn_0 : cX0_comesIn.data.toList.drop 0 = dktX0_comesIn_0 := by decide +kernel
theorem dksX0_comesIn_1 : cX0_comesIn.data.toList.drop 24 = dktX0_comesIn_1 := dk_seg dksX0_comesIn_0 24 rfl rfl
theorem dksX0_comesIn_2 : cX0_comesIn.data.toList.drop 48 = dktX0_comesIn_2 := dk_seg dksX0_comesIn_1 24 rfl rfl
theorem dksX0_comesIn_3 : cX0_comesIn.data.toList.drop 72 = dktX0_comesIn_3 := dk_seg dksX0_comesIn_2 24 rfl rfl
theorem dksX0_comesIn_4 : cX0_comesIn.data.toList.drop 96 = dktX0_comesIn_4 := dk_seg dksX0_comesIn_3 24 rfl rfl
theorem dksX0_comesIn_5 : cX0_comesIn.data.toList.drop 118 = dktX0_comesIn_5 := dk_seg dksX0_comesIn_4 22 rfl rfl
theorem dX0_comesIn_0 : decode cX0_comesIn 0 = .ok (.aload_n 0, 1) := dk_42 (dk_at dksX0_comesIn_0 0 rfl rfl)
theorem dX0_comesIn_1 : decode cX0_comesIn 1 = .ok (.bipush 8, 2) := dk_16 8 (dk_at dksX0_comesIn_0 1 rfl rfl)
theorem dX0_comesIn_3 : decode cX0_comesIn 3 = .ok (.putfield 243, 3) := dk_181 0 243 (dk_at dksX0_comesIn_0 3 rfl rfl)
theorem dX0_comesIn_6 : decode cX0_comesIn 6 = .ok (.aload_n 0, 1) := dk_42 (dk_at dksX0_comesIn_0 6 rfl rfl)
theorem dX0_comesIn_7 : decode cX0_comesIn 7 = .ok (.iconst 0, 1) := dk_3 (dk_at dksX0_comesIn_0 7 rfl rfl)
theorem dX0_comesIn_8 : decode cX0_comesIn 8 = .ok (.putfield 240, 3) := dk_181 0 240 (dk_at dksX0_comesIn_0 8 rfl rfl)
theorem dX0_comesIn_11 : decode cX0_comesIn 11 = .ok (.aload_n 0, 1) := dk_42 (dk_at dksX0_comesIn_0 11 rfl rfl)
theorem dX0_comesIn_12 : decode cX0_comesIn 12 = .ok (.iconst 0, 1) := dk_3 (dk_at dksX0_comesIn_0 12 rfl rfl)
theorem dX0_comesIn_13 : decode cX0_comesIn 13 = .ok (.putfield 246, 3) := dk_181 0 246 (dk_at dksX0_comesIn_0 13 rfl rfl)
theorem dX0_comesIn_16 : decode cX0_comesIn 16 = .ok (.aload_n 0, 1) := dk_42 (dk_at dksX0_comesIn_0 16 rfl rfl)
theorem dX0_comesIn_17 : decode cX0_comesIn 17 = .ok (.iload_n 2, 1) := dk_28 (dk_at dksX0_comesIn_0 17 rfl rfl)
theorem dX0_comesIn_18 : decode cX0_comesIn 18 = .ok (.invokevirtual 249, 3) := dk_182 0 249 (dk_at dksX0_comesIn_0 18 rfl rfl)
theorem dX0_comesIn_21 : decode cX0_comesIn 21 = .ok (.ifCond .ne 4, 3) := dk_154 0 4 (dk_at dksX0_comesIn_0 21 rfl rfl)
theorem dX0_comesIn_24 : decode cX0_comesIn 24 = .ok (.return_, 1) := dk_177 (dk_at dksX0_comesIn_1 0 rfl rfl)
theorem dX0_comesIn_25 : decode cX0_comesIn 25 = .ok (.aload_n 1, 1) := dk_43 (dk_at dksX0_comesIn_1 1 rfl rfl)
theorem dX0_comesIn_26 : decode cX0_comesIn 26 = .ok (.getfield 207, 3) := dk_180 0 207 (dk_at dksX0_comesIn_1 2 rfl rfl)
theorem dX0_comesIn_29 : decode cX0_comesIn 29 = .ok (.iload_n 2, 1) := dk_28 (dk_at dksX0_comesIn_1 5 rfl rfl)
theorem dX0_comesIn_30 : decode cX0_comesIn 30 = .ok (.iaload, 1) := dk_46 (dk_at dksX0_comesIn_1 6 rfl rfl)
theorem dX0_comesIn_31 : decode cX0_comesIn 31 = .ok (.istore_n 3, 1) := dk_62 (dk_at dksX0_comesIn_1 7 rfl rfl)
theorem dX0_comesIn_32 : decode cX0_comesIn 32 = .ok (.aload_n 1, 1) := dk_43 (dk_at dksX0_comesIn_1 8 rfl rfl)
theorem dX0_comesIn_33 : decode cX0_comesIn 33 = .ok (.getfield 252, 3) := dk_180 0 252 (dk_at dksX0_comesIn_1 9 rfl rfl)
theorem dX0_comesIn_36 : decode cX0_comesIn 36 = .ok (.aload_n 1, 1) := dk_43 (dk_at dksX0_comesIn_1 12 rfl rfl)
theorem dX0_comesIn_37 : decode cX0_comesIn 37 = .ok (.getfield 211, 3) := dk_180 0 211 (dk_at dksX0_comesIn_1 13 rfl rfl)
theorem dX0_comesIn_40 : decode cX0_comesIn 40 = .ok (.if_icmp .lt 51, 3) := dk_161 0 51 (dk_at dksX0_comesIn_1 16 rfl rfl)
theorem dX0_comesIn_43 : decode cX0_comesIn 43 = .ok (.aload_n 1, 1) := dk_43 (dk_at dksX0_comesIn_1 19 rfl rfl)
theorem dX0_comesIn_44 : decode cX0_comesIn 44 = .ok (.getfield 255, 3) := dk_180 0 255 (dk_at dksX0_comesIn_1 20 rfl rfl)
theorem dX0_comesIn_47 : decode cX0_comesIn 47 = .ok (.iconst 0, 1) := dk_3 (dk_at dksX0_comesIn_1 23 rfl rfl)
theorem dX0_comesIn_48 : decode cX0_comesIn 48 = .ok (.iaload, 1) := dk_46 (dk_at dksX0_comesIn_2 0 rfl rfl)
theorem dX0_comesIn_49 : decode cX0_comesIn 49 = .ok (.istore 4, 2) := dk_54 4 (dk_at dksX0_comesIn_2 1 rfl rfl)
theorem dX0_comesIn_51 : decode cX0_comesIn 51 = .ok (.aload_n 1, 1) := dk_43 (dk_at dksX0_comesIn_2 3 rfl rfl)
theorem dX0_comesIn_52 : decode cX0_comesIn 52 = .ok (.getfield 258, 3) := dk_180 1 2 (dk_at dksX0_comesIn_2 4 rfl rfl)
theorem dX0_comesIn_55 : decode cX0_comesIn 55 = .ok (.iconst 0, 1) := dk_3 (dk_at dksX0_comesIn_2 7 rfl rfl)
theorem dX0_comesIn_56 : decode cX0_comesIn 56 = .ok (.iaload, 1) := dk_46 (dk_at dksX0_comesIn_2 8 rfl rfl)
theorem dX0_comesIn_57 : decode cX0_comesIn 57 = .ok (.istore 5, 2) := dk_54 5 (dk_at dksX0_comesIn_2 9 rfl rfl)
theorem dX0_comesIn_59 : decode cX0_comesIn 59 = .ok (.aload_n 1, 1) := dk_43 (dk_at dksX0_comesIn_2 11 rfl rfl)
theorem dX0_comesIn_60 : decode cX0_comesIn 60 = .ok (.invokevirtual 261, 3) := dk_182 1 5 (dk_at dksX0_comesIn_2 12 rfl rfl)
theorem dX0_comesIn_63 : decode cX0_comesIn 63 = .ok (.aload_n 0, 1) := dk_42 (dk_at dksX0_comesIn_2 15 rfl rfl)
theorem dX0_comesIn_64 : decode cX0_comesIn 64 = .ok (.getfield 243, 3) := dk_180 0 243 (dk_at dksX0_comesIn_2 16 rfl rfl)
theorem dX0_comesIn_67 : decode cX0_comesIn 67 = .ok (.bipush 8, 2) := dk_16 8 (dk_at dksX0_comesIn_2 19 rfl rfl)
theorem dX0_comesIn_69 : decode cX0_comesIn 69 = .ok (.if_icmp .ne 9, 3) := dk_160 0 9 (dk_at dksX0_comesIn_2 21 rfl rfl)
theorem dX0_comesIn_72 : decode cX0_comesIn 72 = .ok (.aload_n 0, 1) := dk_42 (dk_at dksX0_comesIn_3 0 rfl rfl)
theorem dX0_comesIn_73 : decode cX0_comesIn 73 = .ok (.iload 4, 2) := dk_21 4 (dk_at dksX0_comesIn_3 1 rfl rfl)
theorem dX0_comesIn_75 : decode cX0_comesIn 75 = .ok (.putfield 243, 3) := dk_181 0 243 (dk_at dksX0_comesIn_3 3 rfl rfl)
theorem dX0_comesIn_78 : decode cX0_comesIn 78 = .ok (.aload_n 0, 1) := dk_42 (dk_at dksX0_comesIn_3 6 rfl rfl)
theorem dX0_comesIn_79 : decode cX0_comesIn 79 = .ok (.aload_n 1, 1) := dk_43 (dk_at dksX0_comesIn_3 7 rfl rfl)
theorem dX0_comesIn_80 : decode cX0_comesIn 80 = .ok (.iload 4, 2) := dk_21 4 (dk_at dksX0_comesIn_3 8 rfl rfl)
theorem dX0_comesIn_82 : decode cX0_comesIn 82 = .ok (.iload 5, 2) := dk_21 5 (dk_at dksX0_comesIn_3 10 rfl rfl)
theorem dX0_comesIn_84 : decode cX0_comesIn 84 = .ok (.iload_n 2, 1) := dk_28 (dk_at dksX0_comesIn_3 12 rfl rfl)
theorem dX0_comesIn_85 : decode cX0_comesIn 85 = .ok (.invokevirtual 264, 3) := dk_182 1 8 (dk_at dksX0_comesIn_3 13 rfl rfl)
theorem dX0_comesIn_88 : decode cX0_comesIn 88 = .ok (.goto (-56), 3) := dk_167 255 200 (dk_at dksX0_comesIn_3 16 rfl rfl)
theorem dX0_comesIn_91 : decode cX0_comesIn 91 = .ok (.aload_n 0, 1) := dk_42 (dk_at dksX0_comesIn_3 19 rfl rfl)
theorem dX0_comesIn_92 : decode cX0_comesIn 92 = .ok (.aload_n 0, 1) := dk_42 (dk_at dksX0_comesIn_3 20 rfl rfl)
theorem dX0_comesIn_93 : decode cX0_comesIn 93 = .ok (.aload_n 1, 1) := dk_43 (dk_at dksX0_comesIn_3 21 rfl rfl)
theorem dX0_comesIn_94 : decode cX0_comesIn 94 = .ok (.iload_n 2, 1) := dk_28 (dk_at dksX0_comesIn_3 22 rfl rfl)
theorem dX0_comesIn_95 : decode cX0_comesIn 95 = .ok (.iload_n 3, 1) := dk_29 (dk_at dksX0_comesIn_3 23 rfl rfl)
theorem dX0_comesIn_96 : decode cX0_comesIn 96 = .ok (.invokevirtual 268, 3) := dk_182 1 12 (dk_at dksX0_comesIn_4 0 rfl rfl)
theorem dX0_comesIn_99 : decode cX0_comesIn 99 = .ok (.putfield 246, 3) := dk_181 0 246 (dk_at dksX0_comesIn_4 3 rfl rfl)
theorem dX0_comesIn_102 : decode cX0_comesIn 102 = .ok (.aload_n 1, 1) := dk_43 (dk_at dksX0_comesIn_4 6 rfl rfl)
theorem dX0_comesIn_103 : decode cX0_comesIn 103 = .ok (.iload_n 2, 1) := dk_28 (dk_at dksX0_comesIn_4 7 rfl rfl)
theorem dX0_comesIn_104 : decode cX0_comesIn 104 = .ok (.aload_n 0, 1) := dk_42 (dk_at dksX0_comesIn_4 8 rfl rfl)
theorem dX0_comesIn_105 : decode cX0_comesIn 105 = .ok (.getfield 246, 3) := dk_180 0 246 (dk_at dksX0_comesIn_4 9 rfl rfl)
theorem dX0_comesIn_108 : decode cX0_comesIn 108 = .ok (.invokevirtual 272, 3) := dk_182 1 16 (dk_at dksX0_comesIn_4 12 rfl rfl)
theorem dX0_comesIn_111 : decode cX0_comesIn 111 = .ok (.aload_n 1, 1) := dk_43 (dk_at dksX0_comesIn_4 15 rfl rfl)
theorem dX0_comesIn_112 : decode cX0_comesIn 112 = .ok (.dup, 1) := dk_89 (dk_at dksX0_comesIn_4 16 rfl rfl)
theorem dX0_comesIn_113 : decode cX0_comesIn 113 = .ok (.getfield 226, 3) := dk_180 0 226 (dk_at dksX0_comesIn_4 17 rfl rfl)
theorem dX0_comesIn_116 : decode cX0_comesIn 116 = .ok (.iconst 1, 1) := dk_4 (dk_at dksX0_comesIn_4 20 rfl rfl)
theorem dX0_comesIn_117 : decode cX0_comesIn 117 = .ok (.iadd, 1) := dk_96 (dk_at dksX0_comesIn_4 21 rfl rfl)
theorem dX0_comesIn_118 : decode cX0_comesIn 118 = .ok (.putfield 226, 3) := dk_181 0 226 (dk_at dksX0_comesIn_5 0 rfl rfl)
theorem dX0_comesIn_121 : decode cX0_comesIn 121 = .ok (.aload_n 1, 1) := dk_43 (dk_at dksX0_comesIn_5 3 rfl rfl)
theorem dX0_comesIn_122 : decode cX0_comesIn 122 = .ok (.getfield 220, 3) := dk_180 0 220 (dk_at dksX0_comesIn_5 4 rfl rfl)
theorem dX0_comesIn_125 : decode cX0_comesIn 125 = .ok (.iload_n 2, 1) := dk_28 (dk_at dksX0_comesIn_5 7 rfl rfl)
theorem dX0_comesIn_126 : decode cX0_comesIn 126 = .ok (.dup2, 1) := dk_92 (dk_at dksX0_comesIn_5 8 rfl rfl)
theorem dX0_comesIn_127 : decode cX0_comesIn 127 = .ok (.iaload, 1) := dk_46 (dk_at dksX0_comesIn_5 9 rfl rfl)
theorem dX0_comesIn_128 : decode cX0_comesIn 128 = .ok (.iconst 1, 1) := dk_4 (dk_at dksX0_comesIn_5 10 rfl rfl)
theorem dX0_comesIn_129 : decode cX0_comesIn 129 = .ok (.iadd, 1) := dk_96 (dk_at dksX0_comesIn_5 11 rfl rfl)
theorem dX0_comesIn_130 : decode cX0_comesIn 130 = .ok (.iastore, 1) := dk_79 (dk_at dksX0_comesIn_5 12 rfl rfl)
theorem dX0_comesIn_131 : decode cX0_comesIn 131 = .ok (.return_, 1) := dk_177 (dk_at dksX0_comesIn_5 13 rfl rfl)
def dkwX0_counts_1 : List UInt8 := [3, 172]
abbrev dktX0_counts_1 : List UInt8 := dkwX0_counts_1 ++ []
def dkwX0_counts_0 : List UInt8 := [42, 180, 0, 63, 4, 159, 0, 15, 42, 180, 0, 15, 27, 50, 180, 0, 57, 154, 0, 7, 4, 167, 0, 4]
abbrev dktX0_counts_0 : List UInt8 := dkwX0_counts_0 ++ dktX0_counts_1
theorem dksX0_counts_0 : cX0_counts.data.toList.drop 0 = dktX0_counts_0 := by decide +kernel
theorem dksX0_counts_1 : cX0_counts.data.toList.drop 24 = dktX0_counts_1 := dk_seg dksX0_counts_0 24 rfl rfl
theorem dX0_counts_0 : decode cX0_counts 0 = .ok (.aload_n 0, 1) := dk_42 (dk_at dksX0_counts_0 0 rfl rfl)
theorem dX0_counts_1 : decode cX0_counts 1 = .ok (.getfield 63, 3) := dk_180 0 63 (dk_at dksX0_counts_0 1 rfl rfl)
theorem dX0_counts_4 : decode cX0_counts 4 = .ok (.iconst 1, 1) := dk_4 (dk_at dksX0_counts_0 4 rfl rfl)
theorem dX0_counts_5 : decode cX0_counts 5 = .ok (.if_icmp .eq 15, 3) := dk_159 0 15 (dk_at dksX0_counts_0 5 rfl rfl)
theorem dX0_counts_8 : decode cX0_counts 8 = .ok (.aload_n 0, 1) := dk_42 (dk_at dksX0_counts_0 8 rfl rfl)
theorem dX0_counts_9 : decode cX0_counts 9 = .ok (.getfield 15, 3) := dk_180 0 15 (dk_at dksX0_counts_0 9 rfl rfl)
theorem dX0_counts_12 : decode cX0_counts 12 = .ok (.iload_n 1, 1) := dk_27 (dk_at dksX0_counts_0 12 rfl rfl)
theorem dX0_counts_13 : decode cX0_counts 13 = .ok (.aaload, 1) := dk_50 (dk_at dksX0_counts_0 13 rfl rfl)
theorem dX0_counts_14 : decode cX0_counts 14 = .ok (.getfield 57, 3) := dk_180 0 57 (dk_at dksX0_counts_0 14 rfl rfl)
theorem dX0_counts_17 : decode cX0_counts 17 = .ok (.ifCond .ne 7, 3) := dk_154 0 7 (dk_at dksX0_counts_0 17 rfl rfl)
theorem dX0_counts_20 : decode cX0_counts 20 = .ok (.iconst 1, 1) := dk_4 (dk_at dksX0_counts_0 20 rfl rfl)
theorem dX0_counts_21 : decode cX0_counts 21 = .ok (.goto 4, 3) := dk_167 0 4 (dk_at dksX0_counts_0 21 rfl rfl)
theorem dX0_counts_24 : decode cX0_counts 24 = .ok (.iconst 0, 1) := dk_3 (dk_at dksX0_counts_1 0 rfl rfl)
theorem dX0_counts_25 : decode cX0_counts 25 = .ok (.ireturn, 1) := dk_172 (dk_at dksX0_counts_1 1 rfl rfl)
def dkwX0_pays_3 : List UInt8 := [21, 5, 96, 181, 0, 240, 42, 180, 0, 180, 28, 50, 21, 4, 92, 46, 21, 5, 96, 79, 177]
abbrev dktX0_pays_3 : List UInt8 := dkwX0_pays_3 ++ []
def dkwX0_pays_2 : List UInt8 := [21, 4, 17, 3, 231, 43, 180, 0, 207, 21, 4, 46, 21, 5, 96, 184, 0, 232, 79, 42, 89, 180, 0, 240]
abbrev dktX0_pays_2 : List UInt8 := dkwX0_pays_2 ++ dktX0_pays_3
def dkwX0_pays_1 : List UInt8 := [29, 21, 5, 100, 96, 181, 0, 213, 43, 180, 0, 207, 28, 92, 46, 21, 5, 100, 79, 43, 180, 0, 207]
abbrev dktX0_pays_1 : List UInt8 := dkwX0_pays_1 ++ dktX0_pays_2
def dkwX0_pays_0 : List UInt8 := [28, 21, 4, 160, 0, 4, 177, 29, 43, 180, 0, 207, 28, 46, 184, 0, 232, 54, 5, 43, 89, 180, 0, 213]
abbrev dktX0_pays_0 : List UInt8 := dkwX0_pays_0 ++ dktX0_pays_1
theorem dksX0_pays_0 : cX0_pays.data.toList.drop 0 = dktX0_pays_0 := by decide +kernel
theorem dksX0_pays_1 : cX0_pays.data.toList.drop 24 = dktX0_pays_1 := dk_seg dksX0_pays_0 24 rfl rfl
theorem dksX0_pays_2 : cX0_pays.data.toList.drop 47 = dktX0_pays_2 := dk_seg dksX0_pays_1 23 rfl rfl
theorem dksX0_pays_3 : cX0_pays.data.toList.drop 71 = dktX0_pays_3 := dk_seg dksX0_pays_2 24 rfl rfl
theorem dX0_pays_0 : decode cX0_pays 0 = .ok (.iload_n 2, 1) := dk_28 (dk_at dksX0_pays_0 0 rfl rfl)
theorem dX0_pays_1 : decode cX0_pays 1 = .ok (.iload 4, 2) := dk_21 4 (dk_at dksX0_pays_0 1 rfl rfl)
theorem dX0_pays_3 : decode cX0_pays 3 = .ok (.if_icmp .ne 4, 3) := dk_160 0 4 (dk_at dksX0_pays_0 3 rfl rfl)
theorem dX0_pays_6 : decode cX0_pays 6 = .ok (.return_, 1) := dk_177 (dk_at dksX0_pays_0 6 rfl rfl)
theorem dX0_pays_7 : decode cX0_pays 7 = .ok (.iload_n 3, 1) := dk_29 (dk_at dksX0_pays_0 7 rfl rfl)
theorem dX0_pays_8 : decode cX0_pays 8 = .ok (.aload_n 1, 1) := dk_43 (dk_at dksX0_pays_0 8 rfl rfl)
theorem dX0_pays_9 : decode cX0_pays 9 = .ok (.getfield 207, 3) := dk_180 0 207 (dk_at dksX0_pays_0 9 rfl rfl)
theorem dX0_pays_12 : decode cX0_pays 12 = .ok (.iload_n 2, 1) := dk_28 (dk_at dksX0_pays_0 12 rfl rfl)
theorem dX0_pays_13 : decode cX0_pays 13 = .ok (.iaload, 1) := dk_46 (dk_at dksX0_pays_0 13 rfl rfl)
theorem dX0_pays_14 : decode cX0_pays 14 = .ok (.invokestatic 232, 3) := dk_184 0 232 (dk_at dksX0_pays_0 14 rfl rfl)
theorem dX0_pays_17 : decode cX0_pays 17 = .ok (.istore 5, 2) := dk_54 5 (dk_at dksX0_pays_0 17 rfl rfl)
theorem dX0_pays_19 : decode cX0_pays 19 = .ok (.aload_n 1, 1) := dk_43 (dk_at dksX0_pays_0 19 rfl rfl)
theorem dX0_pays_20 : decode cX0_pays 20 = .ok (.dup, 1) := dk_89 (dk_at dksX0_pays_0 20 rfl rfl)
theorem dX0_pays_21 : decode cX0_pays 21 = .ok (.getfield 213, 3) := dk_180 0 213 (dk_at dksX0_pays_0 21 rfl rfl)
theorem dX0_pays_24 : decode cX0_pays 24 = .ok (.iload_n 3, 1) := dk_29 (dk_at dksX0_pays_1 0 rfl rfl)
theorem dX0_pays_25 : decode cX0_pays 25 = .ok (.iload 5, 2) := dk_21 5 (dk_at dksX0_pays_1 1 rfl rfl)
theorem dX0_pays_27 : decode cX0_pays 27 = .ok (.isub, 1) := dk_100 (dk_at dksX0_pays_1 3 rfl rfl)
theorem dX0_pays_28 : decode cX0_pays 28 = .ok (.iadd, 1) := dk_96 (dk_at dksX0_pays_1 4 rfl rfl)
theorem dX0_pays_29 : decode cX0_pays 29 = .ok (.putfield 213, 3) := dk_181 0 213 (dk_at dksX0_pays_1 5 rfl rfl)
theorem dX0_pays_32 : decode cX0_pays 32 = .ok (.aload_n 1, 1) := dk_43 (dk_at dksX0_pays_1 8 rfl rfl)
theorem dX0_pays_33 : decode cX0_pays 33 = .ok (.getfield 207, 3) := dk_180 0 207 (dk_at dksX0_pays_1 9 rfl rfl)
theorem dX0_pays_36 : decode cX0_pays 36 = .ok (.iload_n 2, 1) := dk_28 (dk_at dksX0_pays_1 12 rfl rfl)
theorem dX0_pays_37 : decode cX0_pays 37 = .ok (.dup2, 1) := dk_92 (dk_at dksX0_pays_1 13 rfl rfl)
theorem dX0_pays_38 : decode cX0_pays 38 = .ok (.iaload, 1) := dk_46 (dk_at dksX0_pays_1 14 rfl rfl)
theorem dX0_pays_39 : decode cX0_pays 39 = .ok (.iload 5, 2) := dk_21 5 (dk_at dksX0_pays_1 15 rfl rfl)
theorem dX0_pays_41 : decode cX0_pays 41 = .ok (.isub, 1) := dk_100 (dk_at dksX0_pays_1 17 rfl rfl)
theorem dX0_pays_42 : decode cX0_pays 42 = .ok (.iastore, 1) := dk_79 (dk_at dksX0_pays_1 18 rfl rfl)
theorem dX0_pays_43 : decode cX0_pays 43 = .ok (.aload_n 1, 1) := dk_43 (dk_at dksX0_pays_1 19 rfl rfl)
theorem dX0_pays_44 : decode cX0_pays 44 = .ok (.getfield 207, 3) := dk_180 0 207 (dk_at dksX0_pays_1 20 rfl rfl)
theorem dX0_pays_47 : decode cX0_pays 47 = .ok (.iload 4, 2) := dk_21 4 (dk_at dksX0_pays_2 0 rfl rfl)
theorem dX0_pays_49 : decode cX0_pays 49 = .ok (.sipush 999, 3) := dk_17 3 231 (dk_at dksX0_pays_2 2 rfl rfl)
theorem dX0_pays_52 : decode cX0_pays 52 = .ok (.aload_n 1, 1) := dk_43 (dk_at dksX0_pays_2 5 rfl rfl)
theorem dX0_pays_53 : decode cX0_pays 53 = .ok (.getfield 207, 3) := dk_180 0 207 (dk_at dksX0_pays_2 6 rfl rfl)
theorem dX0_pays_56 : decode cX0_pays 56 = .ok (.iload 4, 2) := dk_21 4 (dk_at dksX0_pays_2 9 rfl rfl)
theorem dX0_pays_58 : decode cX0_pays 58 = .ok (.iaload, 1) := dk_46 (dk_at dksX0_pays_2 11 rfl rfl)
theorem dX0_pays_59 : decode cX0_pays 59 = .ok (.iload 5, 2) := dk_21 5 (dk_at dksX0_pays_2 12 rfl rfl)
theorem dX0_pays_61 : decode cX0_pays 61 = .ok (.iadd, 1) := dk_96 (dk_at dksX0_pays_2 14 rfl rfl)
theorem dX0_pays_62 : decode cX0_pays 62 = .ok (.invokestatic 232, 3) := dk_184 0 232 (dk_at dksX0_pays_2 15 rfl rfl)
theorem dX0_pays_65 : decode cX0_pays 65 = .ok (.iastore, 1) := dk_79 (dk_at dksX0_pays_2 18 rfl rfl)
theorem dX0_pays_66 : decode cX0_pays 66 = .ok (.aload_n 0, 1) := dk_42 (dk_at dksX0_pays_2 19 rfl rfl)
theorem dX0_pays_67 : decode cX0_pays 67 = .ok (.dup, 1) := dk_89 (dk_at dksX0_pays_2 20 rfl rfl)
theorem dX0_pays_68 : decode cX0_pays 68 = .ok (.getfield 240, 3) := dk_180 0 240 (dk_at dksX0_pays_2 21 rfl rfl)
theorem dX0_pays_71 : decode cX0_pays 71 = .ok (.iload 5, 2) := dk_21 5 (dk_at dksX0_pays_3 0 rfl rfl)
theorem dX0_pays_73 : decode cX0_pays 73 = .ok (.iadd, 1) := dk_96 (dk_at dksX0_pays_3 2 rfl rfl)
theorem dX0_pays_74 : decode cX0_pays 74 = .ok (.putfield 240, 3) := dk_181 0 240 (dk_at dksX0_pays_3 3 rfl rfl)
theorem dX0_pays_77 : decode cX0_pays 77 = .ok (.aload_n 0, 1) := dk_42 (dk_at dksX0_pays_3 6 rfl rfl)
theorem dX0_pays_78 : decode cX0_pays 78 = .ok (.getfield 180, 3) := dk_180 0 180 (dk_at dksX0_pays_3 7 rfl rfl)
theorem dX0_pays_81 : decode cX0_pays 81 = .ok (.iload_n 2, 1) := dk_28 (dk_at dksX0_pays_3 10 rfl rfl)
theorem dX0_pays_82 : decode cX0_pays 82 = .ok (.aaload, 1) := dk_50 (dk_at dksX0_pays_3 11 rfl rfl)
theorem dX0_pays_83 : decode cX0_pays 83 = .ok (.iload 4, 2) := dk_21 4 (dk_at dksX0_pays_3 12 rfl rfl)
theorem dX0_pays_85 : decode cX0_pays 85 = .ok (.dup2, 1) := dk_92 (dk_at dksX0_pays_3 14 rfl rfl)
theorem dX0_pays_86 : decode cX0_pays 86 = .ok (.iaload, 1) := dk_46 (dk_at dksX0_pays_3 15 rfl rfl)
theorem dX0_pays_87 : decode cX0_pays 87 = .ok (.iload 5, 2) := dk_21 5 (dk_at dksX0_pays_3 16 rfl rfl)
theorem dX0_pays_89 : decode cX0_pays 89 = .ok (.iadd, 1) := dk_96 (dk_at dksX0_pays_3 18 rfl rfl)
theorem dX0_pays_90 : decode cX0_pays 90 = .ok (.iastore, 1) := dk_79 (dk_at dksX0_pays_3 19 rfl rfl)
theorem dX0_pays_91 : decode cX0_pays 91 = .ok (.return_, 1) := dk_177 (dk_at dksX0_pays_3 20 rfl rfl)
def dkwX0_buysFor_6 : List UInt8 := [184, 0, 237, 172]
abbrev dktX0_buysFor_6 : List UInt8 := dkwX0_buysFor_6 ++ []
def dkwX0_buysFor_5 : List UInt8 := [180, 0, 223, 16, 100, 43, 180, 0, 212, 79, 42, 182, 0, 229, 54, 4, 3, 16, 99, 21, 4, 184, 0, 232]
abbrev dktX0_buysFor_5 : List UInt8 := dkwX0_buysFor_5 ++ dktX0_buysFor_6
def dkwX0_buysFor_4 : List UInt8 := [180, 0, 226, 79, 42, 180, 0, 143, 180, 0, 223, 16, 111, 43, 180, 0, 220, 28, 46, 79, 42, 180, 0, 143]
abbrev dktX0_buysFor_4 : List UInt8 := dkwX0_buysFor_4 ++ dktX0_buysFor_5
def dkwX0_buysFor_3 : List UInt8 := [16, 104, 42, 180, 0, 15, 28, 50, 180, 0, 54, 79, 42, 180, 0, 143, 180, 0, 223, 16, 110, 43]
abbrev dktX0_buysFor_3 : List UInt8 := dkwX0_buysFor_3 ++ dktX0_buysFor_4
def dkwX0_buysFor_2 : List UInt8 := [180, 0, 209, 28, 46, 79, 42, 180, 0, 143, 180, 0, 223, 16, 112, 29, 79, 42, 180, 0, 143, 180, 0, 223]
abbrev dktX0_buysFor_2 : List UInt8 := dkwX0_buysFor_2 ++ dktX0_buysFor_3
def dkwX0_buysFor_1 : List UInt8 := [46, 104, 100, 54, 4, 42, 180, 0, 133, 198, 0, 99, 42, 180, 0, 143, 180, 0, 223, 16, 119, 43]
abbrev dktX0_buysFor_1 : List UInt8 := dkwX0_buysFor_1 ++ dktX0_buysFor_2
def dkwX0_buysFor_0 : List UInt8 := [8, 43, 180, 0, 209, 28, 46, 104, 42, 180, 0, 15, 28, 50, 180, 0, 54, 96, 5, 43, 180, 0, 220, 28]
abbrev dktX0_buysFor_0 : List UInt8 := dkwX0_buysFor_0 ++ dktX0_buysFor_1
theorem dksX0_buysFor_0 : cX0_buysFor.data.toList.drop 0 = dktX0_buysFor_0 := by decide +kernel
theorem dksX0_buysFor_1 : cX0_buysFor.data.toList.drop 24 = dktX0_buysFor_1 := dk_seg dksX0_buysFor_0 24 rfl rfl
theorem dksX0_buysFor_2 : cX0_buysFor.data.toList.drop 46 = dktX0_buysFor_2 := dk_seg dksX0_buysFor_1 22 rfl rfl
theorem dksX0_buysFor_3 : cX0_buysFor.data.toList.drop 70 = dktX0_buysFor_3 := dk_seg dksX0_buysFor_2 24 rfl rfl
theorem dksX0_buysFor_4 : cX0_buysFor.data.toList.drop 92 = dktX0_buysFor_4 := dk_seg dksX0_buysFor_3 22 rfl rfl
theorem dksX0_buysFor_5 : cX0_buysFor.data.toList.drop 116 = dktX0_buysFor_5 := dk_seg dksX0_buysFor_4 24 rfl rfl
theorem dksX0_buysFor_6 : cX0_buysFor.data.toList.drop 140 = dktX0_buysFor_6 := dk_seg dksX0_buysFor_5 24 rfl rfl
theorem dX0_buysFor_0 : decode cX0_buysFor 0 = .ok (.iconst 5, 1) := dk_8 (dk_at dksX0_buysFor_0 0 rfl rfl)
theorem dX0_buysFor_1 : decode cX0_buysFor 1 = .ok (.aload_n 1, 1) := dk_43 (dk_at dksX0_buysFor_0 1 rfl rfl)
theorem dX0_buysFor_2 : decode cX0_buysFor 2 = .ok (.getfield 209, 3) := dk_180 0 209 (dk_at dksX0_buysFor_0 2 rfl rfl)
theorem dX0_buysFor_5 : decode cX0_buysFor 5 = .ok (.iload_n 2, 1) := dk_28 (dk_at dksX0_buysFor_0 5 rfl rfl)
theorem dX0_buysFor_6 : decode cX0_buysFor 6 = .ok (.iaload, 1) := dk_46 (dk_at dksX0_buysFor_0 6 rfl rfl)
theorem dX0_buysFor_7 : decode cX0_buysFor 7 = .ok (.imul, 1) := dk_104 (dk_at dksX0_buysFor_0 7 rfl rfl)
theorem dX0_buysFor_8 : decode cX0_buysFor 8 = .ok (.aload_n 0, 1) := dk_42 (dk_at dksX0_buysFor_0 8 rfl rfl)
theorem dX0_buysFor_9 : decode cX0_buysFor 9 = .ok (.getfield 15, 3) := dk_180 0 15 (dk_at dksX0_buysFor_0 9 rfl rfl)
theorem dX0_buysFor_12 : decode cX0_buysFor 12 = .ok (.iload_n 2, 1) := dk_28 (dk_at dksX0_buysFor_0 12 rfl rfl)
theorem dX0_buysFor_13 : decode cX0_buysFor 13 = .ok (.aaload, 1) := dk_50 (dk_at dksX0_buysFor_0 13 rfl rfl)
theorem dX0_buysFor_14 : decode cX0_buysFor 14 = .ok (.getfield 54, 3) := dk_180 0 54 (dk_at dksX0_buysFor_0 14 rfl rfl)
theorem dX0_buysFor_17 : decode cX0_buysFor 17 = .ok (.iadd, 1) := dk_96 (dk_at dksX0_buysFor_0 17 rfl rfl)
theorem dX0_buysFor_18 : decode cX0_buysFor 18 = .ok (.iconst 2, 1) := dk_5 (dk_at dksX0_buysFor_0 18 rfl rfl)
theorem dX0_buysFor_19 : decode cX0_buysFor 19 = .ok (.aload_n 1, 1) := dk_43 (dk_at dksX0_buysFor_0 19 rfl rfl)
theorem dX0_buysFor_20 : decode cX0_buysFor 20 = .ok (.getfield 220, 3) := dk_180 0 220 (dk_at dksX0_buysFor_0 20 rfl rfl)
theorem dX0_buysFor_23 : decode cX0_buysFor 23 = .ok (.iload_n 2, 1) := dk_28 (dk_at dksX0_buysFor_0 23 rfl rfl)
theorem dX0_buysFor_24 : decode cX0_buysFor 24 = .ok (.iaload, 1) := dk_46 (dk_at dksX0_buysFor_1 0 rfl rfl)
theorem dX0_buysFor_25 : decode cX0_buysFor 25 = .ok (.imul, 1) := dk_104 (dk_at dksX0_buysFor_1 1 rfl rfl)
theorem dX0_buysFor_26 : decode cX0_buysFor 26 = .ok (.isub, 1) := dk_100 (dk_at dksX0_buysFor_1 2 rfl rfl)
theorem dX0_buysFor_27 : decode cX0_buysFor 27 = .ok (.istore 4, 2) := dk_54 4 (dk_at dksX0_buysFor_1 3 rfl rfl)
theorem dX0_buysFor_29 : decode cX0_buysFor 29 = .ok (.aload_n 0, 1) := dk_42 (dk_at dksX0_buysFor_1 5 rfl rfl)
theorem dX0_buysFor_30 : decode cX0_buysFor 30 = .ok (.getfield 133, 3) := dk_180 0 133 (dk_at dksX0_buysFor_1 6 rfl rfl)
theorem dX0_buysFor_33 : decode cX0_buysFor 33 = .ok (.ifnull 99, 3) := dk_198 0 99 (dk_at dksX0_buysFor_1 9 rfl rfl)
theorem dX0_buysFor_36 : decode cX0_buysFor 36 = .ok (.aload_n 0, 1) := dk_42 (dk_at dksX0_buysFor_1 12 rfl rfl)
theorem dX0_buysFor_37 : decode cX0_buysFor 37 = .ok (.getfield 143, 3) := dk_180 0 143 (dk_at dksX0_buysFor_1 13 rfl rfl)
theorem dX0_buysFor_40 : decode cX0_buysFor 40 = .ok (.getfield 223, 3) := dk_180 0 223 (dk_at dksX0_buysFor_1 16 rfl rfl)
theorem dX0_buysFor_43 : decode cX0_buysFor 43 = .ok (.bipush 119, 2) := dk_16 119 (dk_at dksX0_buysFor_1 19 rfl rfl)
theorem dX0_buysFor_45 : decode cX0_buysFor 45 = .ok (.aload_n 1, 1) := dk_43 (dk_at dksX0_buysFor_1 21 rfl rfl)
theorem dX0_buysFor_46 : decode cX0_buysFor 46 = .ok (.getfield 209, 3) := dk_180 0 209 (dk_at dksX0_buysFor_2 0 rfl rfl)
theorem dX0_buysFor_49 : decode cX0_buysFor 49 = .ok (.iload_n 2, 1) := dk_28 (dk_at dksX0_buysFor_2 3 rfl rfl)
theorem dX0_buysFor_50 : decode cX0_buysFor 50 = .ok (.iaload, 1) := dk_46 (dk_at dksX0_buysFor_2 4 rfl rfl)
theorem dX0_buysFor_51 : decode cX0_buysFor 51 = .ok (.iastore, 1) := dk_79 (dk_at dksX0_buysFor_2 5 rfl rfl)
theorem dX0_buysFor_52 : decode cX0_buysFor 52 = .ok (.aload_n 0, 1) := dk_42 (dk_at dksX0_buysFor_2 6 rfl rfl)
theorem dX0_buysFor_53 : decode cX0_buysFor 53 = .ok (.getfield 143, 3) := dk_180 0 143 (dk_at dksX0_buysFor_2 7 rfl rfl)
theorem dX0_buysFor_56 : decode cX0_buysFor 56 = .ok (.getfield 223, 3) := dk_180 0 223 (dk_at dksX0_buysFor_2 10 rfl rfl)
theorem dX0_buysFor_59 : decode cX0_buysFor 59 = .ok (.bipush 112, 2) := dk_16 112 (dk_at dksX0_buysFor_2 13 rfl rfl)
theorem dX0_buysFor_61 : decode cX0_buysFor 61 = .ok (.iload_n 3, 1) := dk_29 (dk_at dksX0_buysFor_2 15 rfl rfl)
theorem dX0_buysFor_62 : decode cX0_buysFor 62 = .ok (.iastore, 1) := dk_79 (dk_at dksX0_buysFor_2 16 rfl rfl)
theorem dX0_buysFor_63 : decode cX0_buysFor 63 = .ok (.aload_n 0, 1) := dk_42 (dk_at dksX0_buysFor_2 17 rfl rfl)
theorem dX0_buysFor_64 : decode cX0_buysFor 64 = .ok (.getfield 143, 3) := dk_180 0 143 (dk_at dksX0_buysFor_2 18 rfl rfl)
theorem dX0_buysFor_67 : decode cX0_buysFor 67 = .ok (.getfield 223, 3) := dk_180 0 223 (dk_at dksX0_buysFor_2 21 rfl rfl)
theorem dX0_buysFor_70 : decode cX0_buysFor 70 = .ok (.bipush 104, 2) := dk_16 104 (dk_at dksX0_buysFor_3 0 rfl rfl)
theorem dX0_buysFor_72 : decode cX0_buysFor 72 = .ok (.aload_n 0, 1) := dk_42 (dk_at dksX0_buysFor_3 2 rfl rfl)
theorem dX0_buysFor_73 : decode cX0_buysFor 73 = .ok (.getfield 15, 3) := dk_180 0 15 (dk_at dksX0_buysFor_3 3 rfl rfl)
theorem dX0_buysFor_76 : decode cX0_buysFor 76 = .ok (.iload_n 2, 1) := dk_28 (dk_at dksX0_buysFor_3 6 rfl rfl)
theorem dX0_buysFor_77 : decode cX0_buysFor 77 = .ok (.aaload, 1) := dk_50 (dk_at dksX0_buysFor_3 7 rfl rfl)
theorem dX0_buysFor_78 : decode cX0_buysFor 78 = .ok (.getfield 54, 3) := dk_180 0 54 (dk_at dksX0_buysFor_3 8 rfl rfl)
theorem dX0_buysFor_81 : decode cX0_buysFor 81 = .ok (.iastore, 1) := dk_79 (dk_at dksX0_buysFor_3 11 rfl rfl)
theorem dX0_buysFor_82 : decode cX0_buysFor 82 = .ok (.aload_n 0, 1) := dk_42 (dk_at dksX0_buysFor_3 12 rfl rfl)
theorem dX0_buysFor_83 : decode cX0_buysFor 83 = .ok (.getfield 143, 3) := dk_180 0 143 (dk_at dksX0_buysFor_3 13 rfl rfl)
theorem dX0_buysFor_86 : decode cX0_buysFor 86 = .ok (.getfield 223, 3) := dk_180 0 223 (dk_at dksX0_buysFor_3 16 rfl rfl)
theorem dX0_buysFor_89 : decode cX0_buysFor 89 = .ok (.bipush 110, 2) := dk_16 110 (dk_at dksX0_buysFor_3 19 rfl rfl)
theorem dX0_buysFor_91 : decode cX0_buysFor 91 = .ok (.aload_n 1, 1) := dk_43 (dk_at dksX0_buysFor_3 21 rfl rfl)
theorem dX0_buysFor_92 : decode cX0_buysFor 92 = .ok (.getfield 226, 3) := dk_180 0 226 (dk_at dksX0_buysFor_4 0 rfl rfl)
theorem dX0_buysFor_95 : decode cX0_buysFor 95 = .ok (.iastore, 1) := dk_79 (dk_at dksX0_buysFor_4 3 rfl rfl)
theorem dX0_buysFor_96 : decode cX0_buysFor 96 = .ok (.aload_n 0, 1) := dk_42 (dk_at dksX0_buysFor_4 4 rfl rfl)
theorem dX0_buysFor_97 : decode cX0_buysFor 97 = .ok (.getfield 143, 3) := dk_180 0 143 (dk_at dksX0_buysFor_4 5 rfl rfl)
theorem dX0_buysFor_100 : decode cX0_buysFor 100 = .ok (.getfield 223, 3) := dk_180 0 223 (dk_at dksX0_buysFor_4 8 rfl rfl)
theorem dX0_buysFor_103 : decode cX0_buysFor 103 = .ok (.bipush 111, 2) := dk_16 111 (dk_at dksX0_buysFor_4 11 rfl rfl)
theorem dX0_buysFor_105 : decode cX0_buysFor 105 = .ok (.aload_n 1, 1) := dk_43 (dk_at dksX0_buysFor_4 13 rfl rfl)
theorem dX0_buysFor_106 : decode cX0_buysFor 106 = .ok (.getfield 220, 3) := dk_180 0 220 (dk_at dksX0_buysFor_4 14 rfl rfl)
theorem dX0_buysFor_109 : decode cX0_buysFor 109 = .ok (.iload_n 2, 1) := dk_28 (dk_at dksX0_buysFor_4 17 rfl rfl)
theorem dX0_buysFor_110 : decode cX0_buysFor 110 = .ok (.iaload, 1) := dk_46 (dk_at dksX0_buysFor_4 18 rfl rfl)
theorem dX0_buysFor_111 : decode cX0_buysFor 111 = .ok (.iastore, 1) := dk_79 (dk_at dksX0_buysFor_4 19 rfl rfl)
theorem dX0_buysFor_112 : decode cX0_buysFor 112 = .ok (.aload_n 0, 1) := dk_42 (dk_at dksX0_buysFor_4 20 rfl rfl)
theorem dX0_buysFor_113 : decode cX0_buysFor 113 = .ok (.getfield 143, 3) := dk_180 0 143 (dk_at dksX0_buysFor_4 21 rfl rfl)
theorem dX0_buysFor_116 : decode cX0_buysFor 116 = .ok (.getfield 223, 3) := dk_180 0 223 (dk_at dksX0_buysFor_5 0 rfl rfl)
theorem dX0_buysFor_119 : decode cX0_buysFor 119 = .ok (.bipush 100, 2) := dk_16 100 (dk_at dksX0_buysFor_5 3 rfl rfl)
theorem dX0_buysFor_121 : decode cX0_buysFor 121 = .ok (.aload_n 1, 1) := dk_43 (dk_at dksX0_buysFor_5 5 rfl rfl)
theorem dX0_buysFor_122 : decode cX0_buysFor 122 = .ok (.getfield 212, 3) := dk_180 0 212 (dk_at dksX0_buysFor_5 6 rfl rfl)
theorem dX0_buysFor_125 : decode cX0_buysFor 125 = .ok (.iastore, 1) := dk_79 (dk_at dksX0_buysFor_5 9 rfl rfl)
theorem dX0_buysFor_126 : decode cX0_buysFor 126 = .ok (.aload_n 0, 1) := dk_42 (dk_at dksX0_buysFor_5 10 rfl rfl)
theorem dX0_buysFor_127 : decode cX0_buysFor 127 = .ok (.invokevirtual 229, 3) := dk_182 0 229 (dk_at dksX0_buysFor_5 11 rfl rfl)
theorem dX0_buysFor_130 : decode cX0_buysFor 130 = .ok (.istore 4, 2) := dk_54 4 (dk_at dksX0_buysFor_5 14 rfl rfl)
theorem dX0_buysFor_132 : decode cX0_buysFor 132 = .ok (.iconst 0, 1) := dk_3 (dk_at dksX0_buysFor_5 16 rfl rfl)
theorem dX0_buysFor_133 : decode cX0_buysFor 133 = .ok (.bipush 99, 2) := dk_16 99 (dk_at dksX0_buysFor_5 17 rfl rfl)
theorem dX0_buysFor_135 : decode cX0_buysFor 135 = .ok (.iload 4, 2) := dk_21 4 (dk_at dksX0_buysFor_5 19 rfl rfl)
theorem dX0_buysFor_137 : decode cX0_buysFor 137 = .ok (.invokestatic 232, 3) := dk_184 0 232 (dk_at dksX0_buysFor_5 21 rfl rfl)
theorem dX0_buysFor_140 : decode cX0_buysFor 140 = .ok (.invokestatic 237, 3) := dk_184 0 237 (dk_at dksX0_buysFor_6 0 rfl rfl)
theorem dX0_buysFor_143 : decode cX0_buysFor 143 = .ok (.ireturn, 1) := dk_172 (dk_at dksX0_buysFor_6 3 rfl rfl)
def dkwX0_gives_2 : List UInt8 := [167, 255, 214, 3, 172]
abbrev dktX0_gives_2 : List UInt8 := dkwX0_gives_2 ++ []
def dkwX0_gives_1 : List UInt8 := [182, 0, 147, 153, 0, 15, 43, 180, 0, 153, 42, 180, 0, 143, 182, 0, 147, 172, 43, 180, 0, 156, 76]
abbrev dktX0_gives_1 : List UInt8 := dkwX0_gives_1 ++ dktX0_gives_2
def dkwX0_gives_0 : List UInt8 := [42, 180, 0, 133, 76, 43, 198, 0, 44, 43, 180, 0, 137, 198, 0, 17, 43, 180, 0, 137, 42, 180, 0, 143]
abbrev dktX0_gives_0 : List UInt8 := dkwX0_gives_0 ++ dktX0_gives_1
theorem dksX0_gives_0 : cX0_gives.data.toList.drop 0 = dktX0_gives_0 := by decide +kernel
theorem dksX0_gives_1 : cX0_gives.data.toList.drop 24 = dktX0_gives_1 := dk_seg dksX0_gives_0 24 rfl rfl
theorem dksX0_gives_2 : cX0_gives.data.toList.drop 47 = dktX0_gives_2 := dk_seg dksX0_gives_1 23 rfl rfl
theorem dX0_gives_0 : decode cX0_gives 0 = .ok (.aload_n 0, 1) := dk_42 (dk_at dksX0_gives_0 0 rfl rfl)
theorem dX0_gives_1 : decode cX0_gives 1 = .ok (.getfield 133, 3) := dk_180 0 133 (dk_at dksX0_gives_0 1 rfl rfl)
theorem dX0_gives_4 : decode cX0_gives 4 = .ok (.astore_n 1, 1) := dk_76 (dk_at dksX0_gives_0 4 rfl rfl)
theorem dX0_gives_5 : decode cX0_gives 5 = .ok (.aload_n 1, 1) := dk_43 (dk_at dksX0_gives_0 5 rfl rfl)
theorem dX0_gives_6 : decode cX0_gives 6 = .ok (.ifnull 44, 3) := dk_198 0 44 (dk_at dksX0_gives_0 6 rfl rfl)
theorem dX0_gives_9 : decode cX0_gives 9 = .ok (.aload_n 1, 1) := dk_43 (dk_at dksX0_gives_0 9 rfl rfl)
theorem dX0_gives_10 : decode cX0_gives 10 = .ok (.getfield 137, 3) := dk_180 0 137 (dk_at dksX0_gives_0 10 rfl rfl)
theorem dX0_gives_13 : decode cX0_gives 13 = .ok (.ifnull 17, 3) := dk_198 0 17 (dk_at dksX0_gives_0 13 rfl rfl)
theorem dX0_gives_16 : decode cX0_gives 16 = .ok (.aload_n 1, 1) := dk_43 (dk_at dksX0_gives_0 16 rfl rfl)
theorem dX0_gives_17 : decode cX0_gives 17 = .ok (.getfield 137, 3) := dk_180 0 137 (dk_at dksX0_gives_0 17 rfl rfl)
theorem dX0_gives_20 : decode cX0_gives 20 = .ok (.aload_n 0, 1) := dk_42 (dk_at dksX0_gives_0 20 rfl rfl)
theorem dX0_gives_21 : decode cX0_gives 21 = .ok (.getfield 143, 3) := dk_180 0 143 (dk_at dksX0_gives_0 21 rfl rfl)
theorem dX0_gives_24 : decode cX0_gives 24 = .ok (.invokevirtual 147, 3) := dk_182 0 147 (dk_at dksX0_gives_1 0 rfl rfl)
theorem dX0_gives_27 : decode cX0_gives 27 = .ok (.ifCond .eq 15, 3) := dk_153 0 15 (dk_at dksX0_gives_1 3 rfl rfl)
theorem dX0_gives_30 : decode cX0_gives 30 = .ok (.aload_n 1, 1) := dk_43 (dk_at dksX0_gives_1 6 rfl rfl)
theorem dX0_gives_31 : decode cX0_gives 31 = .ok (.getfield 153, 3) := dk_180 0 153 (dk_at dksX0_gives_1 7 rfl rfl)
theorem dX0_gives_34 : decode cX0_gives 34 = .ok (.aload_n 0, 1) := dk_42 (dk_at dksX0_gives_1 10 rfl rfl)
theorem dX0_gives_35 : decode cX0_gives 35 = .ok (.getfield 143, 3) := dk_180 0 143 (dk_at dksX0_gives_1 11 rfl rfl)
theorem dX0_gives_38 : decode cX0_gives 38 = .ok (.invokevirtual 147, 3) := dk_182 0 147 (dk_at dksX0_gives_1 14 rfl rfl)
theorem dX0_gives_41 : decode cX0_gives 41 = .ok (.ireturn, 1) := dk_172 (dk_at dksX0_gives_1 17 rfl rfl)
theorem dX0_gives_42 : decode cX0_gives 42 = .ok (.aload_n 1, 1) := dk_43 (dk_at dksX0_gives_1 18 rfl rfl)
theorem dX0_gives_43 : decode cX0_gives 43 = .ok (.getfield 156, 3) := dk_180 0 156 (dk_at dksX0_gives_1 19 rfl rfl)
theorem dX0_gives_46 : decode cX0_gives 46 = .ok (.astore_n 1, 1) := dk_76 (dk_at dksX0_gives_1 22 rfl rfl)
theorem dX0_gives_47 : decode cX0_gives 47 = .ok (.goto (-42), 3) := dk_167 255 214 (dk_at dksX0_gives_2 0 rfl rfl)
theorem dX0_gives_50 : decode cX0_gives 50 = .ok (.iconst 0, 1) := dk_3 (dk_at dksX0_gives_2 3 rfl rfl)
theorem dX0_gives_51 : decode cX0_gives 51 = .ok (.ireturn, 1) := dk_172 (dk_at dksX0_gives_2 4 rfl rfl)
def dkwX0_coming_3 : List UInt8 := [4, 160, 0, 10, 42, 180, 0, 240, 167, 0, 7, 42, 180, 0, 246, 172]
abbrev dktX0_coming_3 : List UInt8 := dkwX0_coming_3 ++ []
def dkwX0_coming_2 : List UInt8 := [42, 28, 4, 96, 181, 1, 19, 42, 182, 1, 46, 87, 29, 154, 0, 10, 42, 180, 0, 243, 167, 0, 19, 29]
abbrev dktX0_coming_2 : List UInt8 := dkwX0_coming_2 ++ dktX0_coming_3
def dkwX0_coming_1 : List UInt8 := [182, 1, 42, 54, 4, 21, 4, 156, 0, 6, 21, 4, 172, 28, 42, 180, 1, 19, 161, 0, 6, 16, 254, 172]
abbrev dktX0_coming_1 : List UInt8 := dkwX0_coming_1 ++ dktX0_coming_2
def dkwX0_coming_0 : List UInt8 := [27, 184, 0, 29, 153, 0, 16, 28, 155, 0, 12, 29, 3, 5, 184, 0, 7, 154, 0, 5, 2, 172, 42, 27]
abbrev dktX0_coming_0 : List UInt8 := dkwX0_coming_0 ++ dktX0_coming_1
theorem dksX0_coming_0 : cX0_coming.data.toList.drop 0 = dktX0_coming_0 := by decide +kernel
theorem dksX0_coming_1 : cX0_coming.data.toList.drop 24 = dktX0_coming_1 := dk_seg dksX0_coming_0 24 rfl rfl
theorem dksX0_coming_2 : cX0_coming.data.toList.drop 48 = dktX0_coming_2 := dk_seg dksX0_coming_1 24 rfl rfl
theorem dksX0_coming_3 : cX0_coming.data.toList.drop 72 = dktX0_coming_3 := dk_seg dksX0_coming_2 24 rfl rfl
theorem dX0_coming_0 : decode cX0_coming 0 = .ok (.iload_n 1, 1) := dk_27 (dk_at dksX0_coming_0 0 rfl rfl)
theorem dX0_coming_1 : decode cX0_coming 1 = .ok (.invokestatic 29, 3) := dk_184 0 29 (dk_at dksX0_coming_0 1 rfl rfl)
theorem dX0_coming_4 : decode cX0_coming 4 = .ok (.ifCond .eq 16, 3) := dk_153 0 16 (dk_at dksX0_coming_0 4 rfl rfl)
theorem dX0_coming_7 : decode cX0_coming 7 = .ok (.iload_n 2, 1) := dk_28 (dk_at dksX0_coming_0 7 rfl rfl)
theorem dX0_coming_8 : decode cX0_coming 8 = .ok (.ifCond .lt 12, 3) := dk_155 0 12 (dk_at dksX0_coming_0 8 rfl rfl)
theorem dX0_coming_11 : decode cX0_coming 11 = .ok (.iload_n 3, 1) := dk_29 (dk_at dksX0_coming_0 11 rfl rfl)
theorem dX0_coming_12 : decode cX0_coming 12 = .ok (.iconst 0, 1) := dk_3 (dk_at dksX0_coming_0 12 rfl rfl)
theorem dX0_coming_13 : decode cX0_coming 13 = .ok (.iconst 2, 1) := dk_5 (dk_at dksX0_coming_0 13 rfl rfl)
theorem dX0_coming_14 : decode cX0_coming 14 = .ok (.invokestatic 7, 3) := dk_184 0 7 (dk_at dksX0_coming_0 14 rfl rfl)
theorem dX0_coming_17 : decode cX0_coming 17 = .ok (.ifCond .ne 5, 3) := dk_154 0 5 (dk_at dksX0_coming_0 17 rfl rfl)
theorem dX0_coming_20 : decode cX0_coming 20 = .ok (.iconst (-1), 1) := dk_2 (dk_at dksX0_coming_0 20 rfl rfl)
theorem dX0_coming_21 : decode cX0_coming 21 = .ok (.ireturn, 1) := dk_172 (dk_at dksX0_coming_0 21 rfl rfl)
theorem dX0_coming_22 : decode cX0_coming 22 = .ok (.aload_n 0, 1) := dk_42 (dk_at dksX0_coming_0 22 rfl rfl)
theorem dX0_coming_23 : decode cX0_coming 23 = .ok (.iload_n 1, 1) := dk_27 (dk_at dksX0_coming_0 23 rfl rfl)
theorem dX0_coming_24 : decode cX0_coming 24 = .ok (.invokevirtual 298, 3) := dk_182 1 42 (dk_at dksX0_coming_1 0 rfl rfl)
theorem dX0_coming_27 : decode cX0_coming 27 = .ok (.istore 4, 2) := dk_54 4 (dk_at dksX0_coming_1 3 rfl rfl)
theorem dX0_coming_29 : decode cX0_coming 29 = .ok (.iload 4, 2) := dk_21 4 (dk_at dksX0_coming_1 5 rfl rfl)
theorem dX0_coming_31 : decode cX0_coming 31 = .ok (.ifCond .ge 6, 3) := dk_156 0 6 (dk_at dksX0_coming_1 7 rfl rfl)
theorem dX0_coming_34 : decode cX0_coming 34 = .ok (.iload 4, 2) := dk_21 4 (dk_at dksX0_coming_1 10 rfl rfl)
theorem dX0_coming_36 : decode cX0_coming 36 = .ok (.ireturn, 1) := dk_172 (dk_at dksX0_coming_1 12 rfl rfl)
theorem dX0_coming_37 : decode cX0_coming 37 = .ok (.iload_n 2, 1) := dk_28 (dk_at dksX0_coming_1 13 rfl rfl)
theorem dX0_coming_38 : decode cX0_coming 38 = .ok (.aload_n 0, 1) := dk_42 (dk_at dksX0_coming_1 14 rfl rfl)
theorem dX0_coming_39 : decode cX0_coming 39 = .ok (.getfield 275, 3) := dk_180 1 19 (dk_at dksX0_coming_1 15 rfl rfl)
theorem dX0_coming_42 : decode cX0_coming 42 = .ok (.if_icmp .lt 6, 3) := dk_161 0 6 (dk_at dksX0_coming_1 18 rfl rfl)
theorem dX0_coming_45 : decode cX0_coming 45 = .ok (.bipush (-2), 2) := dk_16 254 (dk_at dksX0_coming_1 21 rfl rfl)
theorem dX0_coming_47 : decode cX0_coming 47 = .ok (.ireturn, 1) := dk_172 (dk_at dksX0_coming_1 23 rfl rfl)
theorem dX0_coming_48 : decode cX0_coming 48 = .ok (.aload_n 0, 1) := dk_42 (dk_at dksX0_coming_2 0 rfl rfl)
theorem dX0_coming_49 : decode cX0_coming 49 = .ok (.iload_n 2, 1) := dk_28 (dk_at dksX0_coming_2 1 rfl rfl)
theorem dX0_coming_50 : decode cX0_coming 50 = .ok (.iconst 1, 1) := dk_4 (dk_at dksX0_coming_2 2 rfl rfl)
theorem dX0_coming_51 : decode cX0_coming 51 = .ok (.iadd, 1) := dk_96 (dk_at dksX0_coming_2 3 rfl rfl)
theorem dX0_coming_52 : decode cX0_coming 52 = .ok (.putfield 275, 3) := dk_181 1 19 (dk_at dksX0_coming_2 4 rfl rfl)
theorem dX0_coming_55 : decode cX0_coming 55 = .ok (.aload_n 0, 1) := dk_42 (dk_at dksX0_coming_2 7 rfl rfl)
theorem dX0_coming_56 : decode cX0_coming 56 = .ok (.invokevirtual 302, 3) := dk_182 1 46 (dk_at dksX0_coming_2 8 rfl rfl)
theorem dX0_coming_59 : decode cX0_coming 59 = .ok (.pop, 1) := dk_87 (dk_at dksX0_coming_2 11 rfl rfl)
theorem dX0_coming_60 : decode cX0_coming 60 = .ok (.iload_n 3, 1) := dk_29 (dk_at dksX0_coming_2 12 rfl rfl)
theorem dX0_coming_61 : decode cX0_coming 61 = .ok (.ifCond .ne 10, 3) := dk_154 0 10 (dk_at dksX0_coming_2 13 rfl rfl)
theorem dX0_coming_64 : decode cX0_coming 64 = .ok (.aload_n 0, 1) := dk_42 (dk_at dksX0_coming_2 16 rfl rfl)
theorem dX0_coming_65 : decode cX0_coming 65 = .ok (.getfield 243, 3) := dk_180 0 243 (dk_at dksX0_coming_2 17 rfl rfl)
theorem dX0_coming_68 : decode cX0_coming 68 = .ok (.goto 19, 3) := dk_167 0 19 (dk_at dksX0_coming_2 20 rfl rfl)
theorem dX0_coming_71 : decode cX0_coming 71 = .ok (.iload_n 3, 1) := dk_29 (dk_at dksX0_coming_2 23 rfl rfl)
theorem dX0_coming_72 : decode cX0_coming 72 = .ok (.iconst 1, 1) := dk_4 (dk_at dksX0_coming_3 0 rfl rfl)
theorem dX0_coming_73 : decode cX0_coming 73 = .ok (.if_icmp .ne 10, 3) := dk_160 0 10 (dk_at dksX0_coming_3 1 rfl rfl)
theorem dX0_coming_76 : decode cX0_coming 76 = .ok (.aload_n 0, 1) := dk_42 (dk_at dksX0_coming_3 4 rfl rfl)
theorem dX0_coming_77 : decode cX0_coming 77 = .ok (.getfield 240, 3) := dk_180 0 240 (dk_at dksX0_coming_3 5 rfl rfl)
theorem dX0_coming_80 : decode cX0_coming 80 = .ok (.goto 7, 3) := dk_167 0 7 (dk_at dksX0_coming_3 8 rfl rfl)
theorem dX0_coming_83 : decode cX0_coming 83 = .ok (.aload_n 0, 1) := dk_42 (dk_at dksX0_coming_3 11 rfl rfl)
theorem dX0_coming_84 : decode cX0_coming 84 = .ok (.getfield 246, 3) := dk_180 0 246 (dk_at dksX0_coming_3 12 rfl rfl)
theorem dX0_coming_87 : decode cX0_coming 87 = .ok (.ireturn, 1) := dk_172 (dk_at dksX0_coming_3 15 rfl rfl)
def dkwX0_later_4 : List UInt8 := [167, 0, 10, 25, 5, 180, 0, 207, 29, 46, 172]
abbrev dktX0_later_4 : List UInt8 := dkwX0_later_4 ++ []
def dkwX0_later_3 : List UInt8 := [182, 1, 49, 42, 25, 5, 182, 1, 39, 132, 6, 1, 167, 255, 231, 29, 156, 0, 11, 25, 5, 180, 0, 213]
abbrev dktX0_later_3 : List UInt8 := dkwX0_later_3 ++ dktX0_later_4
def dkwX0_later_2 : List UInt8 := [42, 182, 1, 35, 58, 5, 3, 54, 6, 21, 6, 28, 162, 0, 25, 21, 6, 158, 0, 8, 25, 5]
abbrev dktX0_later_2 : List UInt8 := dkwX0_later_2 ++ dktX0_later_3
def dkwX0_later_1 : List UInt8 := [100, 184, 0, 7, 154, 0, 5, 2, 172, 42, 27, 182, 1, 42, 54, 4, 21, 4, 156, 0, 6, 21, 4, 172]
abbrev dktX0_later_1 : List UInt8 := dkwX0_later_1 ++ dktX0_later_2
def dkwX0_later_0 : List UInt8 := [27, 184, 0, 29, 153, 0, 27, 28, 3, 16, 20, 184, 0, 7, 153, 0, 17, 29, 2, 42, 180, 0, 1, 4]
abbrev dktX0_later_0 : List UInt8 := dkwX0_later_0 ++ dktX0_later_1
theorem dksX0_later_0 : cX0_later.data.toList.drop 0 = dktX0_later_0 := by decide +kernel
theorem dksX0_later_1 : cX0_later.data.toList.drop 24 = dktX0_later_1 := dk_seg dksX0_later_0 24 rfl rfl
theorem dksX0_later_2 : cX0_later.data.toList.drop 48 = dktX0_later_2 := dk_seg dksX0_later_1 24 rfl rfl
theorem dksX0_later_3 : cX0_later.data.toList.drop 70 = dktX0_later_3 := dk_seg dksX0_later_2 22 rfl rfl
theorem dksX0_later_4 : cX0_later.data.toList.drop 94 = dktX0_later_4 := dk_seg dksX0_later_3 24 rfl rfl
theorem dX0_later_0 : decode cX0_later 0 = .ok (.iload_n 1, 1) := dk_27 (dk_at dksX0_later_0 0 rfl rfl)
theorem dX0_later_1 : decode cX0_later 1 = .ok (.invokestatic 29, 3) := dk_184 0 29 (dk_at dksX0_later_0 1 rfl rfl)
theorem dX0_later_4 : decode cX0_later 4 = .ok (.ifCond .eq 27, 3) := dk_153 0 27 (dk_at dksX0_later_0 4 rfl rfl)
theorem dX0_later_7 : decode cX0_later 7 = .ok (.iload_n 2, 1) := dk_28 (dk_at dksX0_later_0 7 rfl rfl)
theorem dX0_later_8 : decode cX0_later 8 = .ok (.iconst 0, 1) := dk_3 (dk_at dksX0_later_0 8 rfl rfl)
theorem dX0_later_9 : decode cX0_later 9 = .ok (.bipush 20, 2) := dk_16 20 (dk_at dksX0_later_0 9 rfl rfl)
theorem dX0_later_11 : decode cX0_later 11 = .ok (.invokestatic 7, 3) := dk_184 0 7 (dk_at dksX0_later_0 11 rfl rfl)
theorem dX0_later_14 : decode cX0_later 14 = .ok (.ifCond .eq 17, 3) := dk_153 0 17 (dk_at dksX0_later_0 14 rfl rfl)
theorem dX0_later_17 : decode cX0_later 17 = .ok (.iload_n 3, 1) := dk_29 (dk_at dksX0_later_0 17 rfl rfl)
theorem dX0_later_18 : decode cX0_later 18 = .ok (.iconst (-1), 1) := dk_2 (dk_at dksX0_later_0 18 rfl rfl)
theorem dX0_later_19 : decode cX0_later 19 = .ok (.aload_n 0, 1) := dk_42 (dk_at dksX0_later_0 19 rfl rfl)
theorem dX0_later_20 : decode cX0_later 20 = .ok (.getfield 1, 3) := dk_180 0 1 (dk_at dksX0_later_0 20 rfl rfl)
theorem dX0_later_23 : decode cX0_later 23 = .ok (.iconst 1, 1) := dk_4 (dk_at dksX0_later_0 23 rfl rfl)
theorem dX0_later_24 : decode cX0_later 24 = .ok (.isub, 1) := dk_100 (dk_at dksX0_later_1 0 rfl rfl)
theorem dX0_later_25 : decode cX0_later 25 = .ok (.invokestatic 7, 3) := dk_184 0 7 (dk_at dksX0_later_1 1 rfl rfl)
theorem dX0_later_28 : decode cX0_later 28 = .ok (.ifCond .ne 5, 3) := dk_154 0 5 (dk_at dksX0_later_1 4 rfl rfl)
theorem dX0_later_31 : decode cX0_later 31 = .ok (.iconst (-1), 1) := dk_2 (dk_at dksX0_later_1 7 rfl rfl)
theorem dX0_later_32 : decode cX0_later 32 = .ok (.ireturn, 1) := dk_172 (dk_at dksX0_later_1 8 rfl rfl)
theorem dX0_later_33 : decode cX0_later 33 = .ok (.aload_n 0, 1) := dk_42 (dk_at dksX0_later_1 9 rfl rfl)
theorem dX0_later_34 : decode cX0_later 34 = .ok (.iload_n 1, 1) := dk_27 (dk_at dksX0_later_1 10 rfl rfl)
theorem dX0_later_35 : decode cX0_later 35 = .ok (.invokevirtual 298, 3) := dk_182 1 42 (dk_at dksX0_later_1 11 rfl rfl)
theorem dX0_later_38 : decode cX0_later 38 = .ok (.istore 4, 2) := dk_54 4 (dk_at dksX0_later_1 14 rfl rfl)
theorem dX0_later_40 : decode cX0_later 40 = .ok (.iload 4, 2) := dk_21 4 (dk_at dksX0_later_1 16 rfl rfl)
theorem dX0_later_42 : decode cX0_later 42 = .ok (.ifCond .ge 6, 3) := dk_156 0 6 (dk_at dksX0_later_1 18 rfl rfl)
theorem dX0_later_45 : decode cX0_later 45 = .ok (.iload 4, 2) := dk_21 4 (dk_at dksX0_later_1 21 rfl rfl)
theorem dX0_later_47 : decode cX0_later 47 = .ok (.ireturn, 1) := dk_172 (dk_at dksX0_later_1 23 rfl rfl)
theorem dX0_later_48 : decode cX0_later 48 = .ok (.aload_n 0, 1) := dk_42 (dk_at dksX0_later_2 0 rfl rfl)
theorem dX0_later_49 : decode cX0_later 49 = .ok (.invokevirtual 291, 3) := dk_182 1 35 (dk_at dksX0_later_2 1 rfl rfl)
theorem dX0_later_52 : decode cX0_later 52 = .ok (.astore 5, 2) := dk_58 5 (dk_at dksX0_later_2 4 rfl rfl)
theorem dX0_later_54 : decode cX0_later 54 = .ok (.iconst 0, 1) := dk_3 (dk_at dksX0_later_2 6 rfl rfl)
theorem dX0_later_55 : decode cX0_later 55 = .ok (.istore 6, 2) := dk_54 6 (dk_at dksX0_later_2 7 rfl rfl)
theorem dX0_later_57 : decode cX0_later 57 = .ok (.iload 6, 2) := dk_21 6 (dk_at dksX0_later_2 9 rfl rfl)
theorem dX0_later_59 : decode cX0_later 59 = .ok (.iload_n 2, 1) := dk_28 (dk_at dksX0_later_2 11 rfl rfl)
theorem dX0_later_60 : decode cX0_later 60 = .ok (.if_icmp .ge 25, 3) := dk_162 0 25 (dk_at dksX0_later_2 12 rfl rfl)
theorem dX0_later_63 : decode cX0_later 63 = .ok (.iload 6, 2) := dk_21 6 (dk_at dksX0_later_2 15 rfl rfl)
theorem dX0_later_65 : decode cX0_later 65 = .ok (.ifCond .le 8, 3) := dk_158 0 8 (dk_at dksX0_later_2 17 rfl rfl)
theorem dX0_later_68 : decode cX0_later 68 = .ok (.aload 5, 2) := dk_25 5 (dk_at dksX0_later_2 20 rfl rfl)
theorem dX0_later_70 : decode cX0_later 70 = .ok (.invokevirtual 305, 3) := dk_182 1 49 (dk_at dksX0_later_3 0 rfl rfl)
theorem dX0_later_73 : decode cX0_later 73 = .ok (.aload_n 0, 1) := dk_42 (dk_at dksX0_later_3 3 rfl rfl)
theorem dX0_later_74 : decode cX0_later 74 = .ok (.aload 5, 2) := dk_25 5 (dk_at dksX0_later_3 4 rfl rfl)
theorem dX0_later_76 : decode cX0_later 76 = .ok (.invokevirtual 295, 3) := dk_182 1 39 (dk_at dksX0_later_3 6 rfl rfl)
theorem dX0_later_79 : decode cX0_later 79 = .ok (.iinc 6 1, 3) := dk_132 6 1 (dk_at dksX0_later_3 9 rfl rfl)
theorem dX0_later_82 : decode cX0_later 82 = .ok (.goto (-25), 3) := dk_167 255 231 (dk_at dksX0_later_3 12 rfl rfl)
theorem dX0_later_85 : decode cX0_later 85 = .ok (.iload_n 3, 1) := dk_29 (dk_at dksX0_later_3 15 rfl rfl)
theorem dX0_later_86 : decode cX0_later 86 = .ok (.ifCond .ge 11, 3) := dk_156 0 11 (dk_at dksX0_later_3 16 rfl rfl)
theorem dX0_later_89 : decode cX0_later 89 = .ok (.aload 5, 2) := dk_25 5 (dk_at dksX0_later_3 19 rfl rfl)
theorem dX0_later_91 : decode cX0_later 91 = .ok (.getfield 213, 3) := dk_180 0 213 (dk_at dksX0_later_3 21 rfl rfl)
theorem dX0_later_94 : decode cX0_later 94 = .ok (.goto 10, 3) := dk_167 0 10 (dk_at dksX0_later_4 0 rfl rfl)
theorem dX0_later_97 : decode cX0_later 97 = .ok (.aload 5, 2) := dk_25 5 (dk_at dksX0_later_4 3 rfl rfl)
theorem dX0_later_99 : decode cX0_later 99 = .ok (.getfield 207, 3) := dk_180 0 207 (dk_at dksX0_later_4 5 rfl rfl)
theorem dX0_later_102 : decode cX0_later 102 = .ok (.iload_n 3, 1) := dk_29 (dk_at dksX0_later_4 8 rfl rfl)
theorem dX0_later_103 : decode cX0_later 103 = .ok (.iaload, 1) := dk_46 (dk_at dksX0_later_4 9 rfl rfl)
theorem dX0_later_104 : decode cX0_later 104 = .ok (.ireturn, 1) := dk_172 (dk_at dksX0_later_4 10 rfl rfl)
def dkwX0_onceMore_4 : List UInt8 := [21, 8, 54, 6, 132, 7, 1, 167, 255, 216, 29, 154, 0, 8, 21, 5, 167, 0, 5, 21, 6, 172]
abbrev dktX0_onceMore_4 : List UInt8 := dkwX0_onceMore_4 ++ []
def dkwX0_onceMore_3 : List UInt8 := [42, 21, 7, 28, 28, 182, 1, 59, 54, 8, 21, 8, 21, 6, 163, 0, 6, 167, 0, 11, 21, 7, 54, 5]
abbrev dktX0_onceMore_3 : List UInt8 := dkwX0_onceMore_3 ++ dktX0_onceMore_4
def dkwX0_onceMore_2 : List UInt8 := [160, 0, 6, 16, 251, 172, 3, 54, 5, 2, 54, 6, 3, 54, 7, 21, 7, 42, 180, 1, 19, 163, 0, 37]
abbrev dktX0_onceMore_2 : List UInt8 := dkwX0_onceMore_2 ++ dktX0_onceMore_3
def dkwX0_onceMore_1 : List UInt8 := [2, 172, 42, 27, 182, 1, 42, 54, 4, 21, 4, 156, 0, 6, 21, 4, 172, 42, 180, 1, 19, 16, 20]
abbrev dktX0_onceMore_1 : List UInt8 := dkwX0_onceMore_1 ++ dktX0_onceMore_2
def dkwX0_onceMore_0 : List UInt8 := [27, 184, 0, 29, 153, 0, 20, 42, 28, 182, 0, 11, 153, 0, 12, 29, 3, 4, 184, 0, 7, 154, 0, 5]
abbrev dktX0_onceMore_0 : List UInt8 := dkwX0_onceMore_0 ++ dktX0_onceMore_1
theorem dksX0_onceMore_0 : cX0_onceMore.data.toList.drop 0 = dktX0_onceMore_0 := by decide +kernel
theorem dksX0_onceMore_1 : cX0_onceMore.data.toList.drop 24 = dktX0_onceMore_1 := dk_seg dksX0_onceMore_0 24 rfl rfl
theorem dksX0_onceMore_2 : cX0_onceMore.data.toList.drop 47 = dktX0_onceMore_2 := dk_seg dksX0_onceMore_1 23 rfl rfl
theorem dksX0_onceMore_3 : cX0_onceMore.data.toList.drop 71 = dktX0_onceMore_3 := dk_seg dksX0_onceMore_2 24 rfl rfl
theorem dksX0_onceMore_4 : cX0_onceMore.data.toList.drop 95 = dktX0_onceMore_4 := dk_seg dksX0_onceMore_3 24 rfl rfl
theorem dX0_onceMore_0 : decode cX0_onceMore 0 = .ok (.iload_n 1, 1) := dk_27 (dk_at dksX0_onceMore_0 0 rfl rfl)
theorem dX0_onceMore_1 : decode cX0_onceMore 1 = .ok (.invokestatic 29, 3) := dk_184 0 29 (dk_at dksX0_onceMore_0 1 rfl rfl)
theorem dX0_onceMore_4 : decode cX0_onceMore 4 = .ok (.ifCond .eq 20, 3) := dk_153 0 20 (dk_at dksX0_onceMore_0 4 rfl rfl)
theorem dX0_onceMore_7 : decode cX0_onceMore 7 = .ok (.aload_n 0, 1) := dk_42 (dk_at dksX0_onceMore_0 7 rfl rfl)
theorem dX0_onceMore_8 : decode cX0_onceMore 8 = .ok (.iload_n 2, 1) := dk_28 (dk_at dksX0_onceMore_0 8 rfl rfl)
theorem dX0_onceMore_9 : decode cX0_onceMore 9 = .ok (.invokevirtual 11, 3) := dk_182 0 11 (dk_at dksX0_onceMore_0 9 rfl rfl)
theorem dX0_onceMore_12 : decode cX0_onceMore 12 = .ok (.ifCond .eq 12, 3) := dk_153 0 12 (dk_at dksX0_onceMore_0 12 rfl rfl)
theorem dX0_onceMore_15 : decode cX0_onceMore 15 = .ok (.iload_n 3, 1) := dk_29 (dk_at dksX0_onceMore_0 15 rfl rfl)
theorem dX0_onceMore_16 : decode cX0_onceMore 16 = .ok (.iconst 0, 1) := dk_3 (dk_at dksX0_onceMore_0 16 rfl rfl)
theorem dX0_onceMore_17 : decode cX0_onceMore 17 = .ok (.iconst 1, 1) := dk_4 (dk_at dksX0_onceMore_0 17 rfl rfl)
theorem dX0_onceMore_18 : decode cX0_onceMore 18 = .ok (.invokestatic 7, 3) := dk_184 0 7 (dk_at dksX0_onceMore_0 18 rfl rfl)
theorem dX0_onceMore_21 : decode cX0_onceMore 21 = .ok (.ifCond .ne 5, 3) := dk_154 0 5 (dk_at dksX0_onceMore_0 21 rfl rfl)
theorem dX0_onceMore_24 : decode cX0_onceMore 24 = .ok (.iconst (-1), 1) := dk_2 (dk_at dksX0_onceMore_1 0 rfl rfl)
theorem dX0_onceMore_25 : decode cX0_onceMore 25 = .ok (.ireturn, 1) := dk_172 (dk_at dksX0_onceMore_1 1 rfl rfl)
theorem dX0_onceMore_26 : decode cX0_onceMore 26 = .ok (.aload_n 0, 1) := dk_42 (dk_at dksX0_onceMore_1 2 rfl rfl)
theorem dX0_onceMore_27 : decode cX0_onceMore 27 = .ok (.iload_n 1, 1) := dk_27 (dk_at dksX0_onceMore_1 3 rfl rfl)
theorem dX0_onceMore_28 : decode cX0_onceMore 28 = .ok (.invokevirtual 298, 3) := dk_182 1 42 (dk_at dksX0_onceMore_1 4 rfl rfl)
theorem dX0_onceMore_31 : decode cX0_onceMore 31 = .ok (.istore 4, 2) := dk_54 4 (dk_at dksX0_onceMore_1 7 rfl rfl)
theorem dX0_onceMore_33 : decode cX0_onceMore 33 = .ok (.iload 4, 2) := dk_21 4 (dk_at dksX0_onceMore_1 9 rfl rfl)
theorem dX0_onceMore_35 : decode cX0_onceMore 35 = .ok (.ifCond .ge 6, 3) := dk_156 0 6 (dk_at dksX0_onceMore_1 11 rfl rfl)
theorem dX0_onceMore_38 : decode cX0_onceMore 38 = .ok (.iload 4, 2) := dk_21 4 (dk_at dksX0_onceMore_1 14 rfl rfl)
theorem dX0_onceMore_40 : decode cX0_onceMore 40 = .ok (.ireturn, 1) := dk_172 (dk_at dksX0_onceMore_1 16 rfl rfl)
theorem dX0_onceMore_41 : decode cX0_onceMore 41 = .ok (.aload_n 0, 1) := dk_42 (dk_at dksX0_onceMore_1 17 rfl rfl)
theorem dX0_onceMore_42 : decode cX0_onceMore 42 = .ok (.getfield 275, 3) := dk_180 1 19 (dk_at dksX0_onceMore_1 18 rfl rfl)
theorem dX0_onceMore_45 : decode cX0_onceMore 45 = .ok (.bipush 20, 2) := dk_16 20 (dk_at dksX0_onceMore_1 21 rfl rfl)
theorem dX0_onceMore_47 : decode cX0_onceMore 47 = .ok (.if_icmp .ne 6, 3) := dk_160 0 6 (dk_at dksX0_onceMore_2 0 rfl rfl)
theorem dX0_onceMore_50 : decode cX0_onceMore 50 = .ok (.bipush (-5), 2) := dk_16 251 (dk_at dksX0_onceMore_2 3 rfl rfl)
theorem dX0_onceMore_52 : decode cX0_onceMore 52 = .ok (.ireturn, 1) := dk_172 (dk_at dksX0_onceMore_2 5 rfl rfl)
theorem dX0_onceMore_53 : decode cX0_onceMore 53 = .ok (.iconst 0, 1) := dk_3 (dk_at dksX0_onceMore_2 6 rfl rfl)
theorem dX0_onceMore_54 : decode cX0_onceMore 54 = .ok (.istore 5, 2) := dk_54 5 (dk_at dksX0_onceMore_2 7 rfl rfl)
theorem dX0_onceMore_56 : decode cX0_onceMore 56 = .ok (.iconst (-1), 1) := dk_2 (dk_at dksX0_onceMore_2 9 rfl rfl)
theorem dX0_onceMore_57 : decode cX0_onceMore 57 = .ok (.istore 6, 2) := dk_54 6 (dk_at dksX0_onceMore_2 10 rfl rfl)
theorem dX0_onceMore_59 : decode cX0_onceMore 59 = .ok (.iconst 0, 1) := dk_3 (dk_at dksX0_onceMore_2 12 rfl rfl)
theorem dX0_onceMore_60 : decode cX0_onceMore 60 = .ok (.istore 7, 2) := dk_54 7 (dk_at dksX0_onceMore_2 13 rfl rfl)
theorem dX0_onceMore_62 : decode cX0_onceMore 62 = .ok (.iload 7, 2) := dk_21 7 (dk_at dksX0_onceMore_2 15 rfl rfl)
theorem dX0_onceMore_64 : decode cX0_onceMore 64 = .ok (.aload_n 0, 1) := dk_42 (dk_at dksX0_onceMore_2 17 rfl rfl)
theorem dX0_onceMore_65 : decode cX0_onceMore 65 = .ok (.getfield 275, 3) := dk_180 1 19 (dk_at dksX0_onceMore_2 18 rfl rfl)
theorem dX0_onceMore_68 : decode cX0_onceMore 68 = .ok (.if_icmp .gt 37, 3) := dk_163 0 37 (dk_at dksX0_onceMore_2 21 rfl rfl)
theorem dX0_onceMore_71 : decode cX0_onceMore 71 = .ok (.aload_n 0, 1) := dk_42 (dk_at dksX0_onceMore_3 0 rfl rfl)
theorem dX0_onceMore_72 : decode cX0_onceMore 72 = .ok (.iload 7, 2) := dk_21 7 (dk_at dksX0_onceMore_3 1 rfl rfl)
theorem dX0_onceMore_74 : decode cX0_onceMore 74 = .ok (.iload_n 2, 1) := dk_28 (dk_at dksX0_onceMore_3 3 rfl rfl)
theorem dX0_onceMore_75 : decode cX0_onceMore 75 = .ok (.iload_n 2, 1) := dk_28 (dk_at dksX0_onceMore_3 4 rfl rfl)
theorem dX0_onceMore_76 : decode cX0_onceMore 76 = .ok (.invokevirtual 315, 3) := dk_182 1 59 (dk_at dksX0_onceMore_3 5 rfl rfl)
theorem dX0_onceMore_79 : decode cX0_onceMore 79 = .ok (.istore 8, 2) := dk_54 8 (dk_at dksX0_onceMore_3 8 rfl rfl)
theorem dX0_onceMore_81 : decode cX0_onceMore 81 = .ok (.iload 8, 2) := dk_21 8 (dk_at dksX0_onceMore_3 10 rfl rfl)
theorem dX0_onceMore_83 : decode cX0_onceMore 83 = .ok (.iload 6, 2) := dk_21 6 (dk_at dksX0_onceMore_3 12 rfl rfl)
theorem dX0_onceMore_85 : decode cX0_onceMore 85 = .ok (.if_icmp .gt 6, 3) := dk_163 0 6 (dk_at dksX0_onceMore_3 14 rfl rfl)
theorem dX0_onceMore_88 : decode cX0_onceMore 88 = .ok (.goto 11, 3) := dk_167 0 11 (dk_at dksX0_onceMore_3 17 rfl rfl)
theorem dX0_onceMore_91 : decode cX0_onceMore 91 = .ok (.iload 7, 2) := dk_21 7 (dk_at dksX0_onceMore_3 20 rfl rfl)
theorem dX0_onceMore_93 : decode cX0_onceMore 93 = .ok (.istore 5, 2) := dk_54 5 (dk_at dksX0_onceMore_3 22 rfl rfl)
theorem dX0_onceMore_95 : decode cX0_onceMore 95 = .ok (.iload 8, 2) := dk_21 8 (dk_at dksX0_onceMore_4 0 rfl rfl)
theorem dX0_onceMore_97 : decode cX0_onceMore 97 = .ok (.istore 6, 2) := dk_54 6 (dk_at dksX0_onceMore_4 2 rfl rfl)
theorem dX0_onceMore_99 : decode cX0_onceMore 99 = .ok (.iinc 7 1, 3) := dk_132 7 1 (dk_at dksX0_onceMore_4 4 rfl rfl)
theorem dX0_onceMore_102 : decode cX0_onceMore 102 = .ok (.goto (-40), 3) := dk_167 255 216 (dk_at dksX0_onceMore_4 7 rfl rfl)
theorem dX0_onceMore_105 : decode cX0_onceMore 105 = .ok (.iload_n 3, 1) := dk_29 (dk_at dksX0_onceMore_4 10 rfl rfl)
theorem dX0_onceMore_106 : decode cX0_onceMore 106 = .ok (.ifCond .ne 8, 3) := dk_154 0 8 (dk_at dksX0_onceMore_4 11 rfl rfl)
theorem dX0_onceMore_109 : decode cX0_onceMore 109 = .ok (.iload 5, 2) := dk_21 5 (dk_at dksX0_onceMore_4 14 rfl rfl)
theorem dX0_onceMore_111 : decode cX0_onceMore 111 = .ok (.goto 5, 3) := dk_167 0 5 (dk_at dksX0_onceMore_4 16 rfl rfl)
theorem dX0_onceMore_114 : decode cX0_onceMore 114 = .ok (.iload 6, 2) := dk_21 6 (dk_at dksX0_onceMore_4 19 rfl rfl)
theorem dX0_onceMore_116 : decode cX0_onceMore 116 = .ok (.ireturn, 1) := dk_172 (dk_at dksX0_onceMore_4 21 rfl rfl)
def dkwX0_purseWith_1 : List UInt8 := [172]
abbrev dktX0_purseWith_1 : List UInt8 := dkwX0_purseWith_1 ++ []
def dkwX0_purseWith_0 : List UInt8 := [42, 27, 28, 182, 1, 52, 42, 182, 1, 46, 180, 0, 207, 29, 46, 54, 4, 42, 27, 182, 1, 55, 21, 4]
abbrev dktX0_purseWith_0 : List UInt8 := dkwX0_purseWith_0 ++ dktX0_purseWith_1
theorem dksX0_purseWith_0 : cX0_purseWith.data.toList.drop 0 = dktX0_purseWith_0 := by decide +kernel
theorem dksX0_purseWith_1 : cX0_purseWith.data.toList.drop 24 = dktX0_purseWith_1 := dk_seg dksX0_purseWith_0 24 rfl rfl
theorem dX0_purseWith_0 : decode cX0_purseWith 0 = .ok (.aload_n 0, 1) := dk_42 (dk_at dksX0_purseWith_0 0 rfl rfl)
theorem dX0_purseWith_1 : decode cX0_purseWith 1 = .ok (.iload_n 1, 1) := dk_27 (dk_at dksX0_purseWith_0 1 rfl rfl)
theorem dX0_purseWith_2 : decode cX0_purseWith 2 = .ok (.iload_n 2, 1) := dk_28 (dk_at dksX0_purseWith_0 2 rfl rfl)
theorem dX0_purseWith_3 : decode cX0_purseWith 3 = .ok (.invokevirtual 308, 3) := dk_182 1 52 (dk_at dksX0_purseWith_0 3 rfl rfl)
theorem dX0_purseWith_6 : decode cX0_purseWith 6 = .ok (.aload_n 0, 1) := dk_42 (dk_at dksX0_purseWith_0 6 rfl rfl)
theorem dX0_purseWith_7 : decode cX0_purseWith 7 = .ok (.invokevirtual 302, 3) := dk_182 1 46 (dk_at dksX0_purseWith_0 7 rfl rfl)
theorem dX0_purseWith_10 : decode cX0_purseWith 10 = .ok (.getfield 207, 3) := dk_180 0 207 (dk_at dksX0_purseWith_0 10 rfl rfl)
theorem dX0_purseWith_13 : decode cX0_purseWith 13 = .ok (.iload_n 3, 1) := dk_29 (dk_at dksX0_purseWith_0 13 rfl rfl)
theorem dX0_purseWith_14 : decode cX0_purseWith 14 = .ok (.iaload, 1) := dk_46 (dk_at dksX0_purseWith_0 14 rfl rfl)
theorem dX0_purseWith_15 : decode cX0_purseWith 15 = .ok (.istore 4, 2) := dk_54 4 (dk_at dksX0_purseWith_0 15 rfl rfl)
theorem dX0_purseWith_17 : decode cX0_purseWith 17 = .ok (.aload_n 0, 1) := dk_42 (dk_at dksX0_purseWith_0 17 rfl rfl)
theorem dX0_purseWith_18 : decode cX0_purseWith 18 = .ok (.iload_n 1, 1) := dk_27 (dk_at dksX0_purseWith_0 18 rfl rfl)
theorem dX0_purseWith_19 : decode cX0_purseWith 19 = .ok (.invokevirtual 311, 3) := dk_182 1 55 (dk_at dksX0_purseWith_0 19 rfl rfl)
theorem dX0_purseWith_22 : decode cX0_purseWith 22 = .ok (.iload 4, 2) := dk_21 4 (dk_at dksX0_purseWith_0 22 rfl rfl)
theorem dX0_purseWith_24 : decode cX0_purseWith 24 = .ok (.ireturn, 1) := dk_172 (dk_at dksX0_purseWith_1 0 rfl rfl)
def dkwX0_putIn_1 : List UInt8 := [132, 3, 255, 167, 255, 234, 42, 180, 0, 183, 27, 28, 79, 42, 89, 180, 1, 19, 4, 96, 181, 1, 19, 177]
abbrev dktX0_putIn_1 : List UInt8 := dkwX0_putIn_1 ++ []
def dkwX0_putIn_0 : List UInt8 := [42, 180, 1, 19, 62, 29, 27, 164, 0, 23, 42, 180, 0, 183, 29, 42, 180, 0, 183, 29, 4, 100, 46, 79]
abbrev dktX0_putIn_0 : List UInt8 := dkwX0_putIn_0 ++ dktX0_putIn_1
theorem dksX0_putIn_0 : cX0_putIn.data.toList.drop 0 = dktX0_putIn_0 := by decide +kernel
theorem dksX0_putIn_1 : cX0_putIn.data.toList.drop 24 = dktX0_putIn_1 := dk_seg dksX0_putIn_0 24 rfl rfl
theorem dX0_putIn_0 : decode cX0_putIn 0 = .ok (.aload_n 0, 1) := dk_42 (dk_at dksX0_putIn_0 0 rfl rfl)
theorem dX0_putIn_1 : decode cX0_putIn 1 = .ok (.getfield 275, 3) := dk_180 1 19 (dk_at dksX0_putIn_0 1 rfl rfl)
theorem dX0_putIn_4 : decode cX0_putIn 4 = .ok (.istore_n 3, 1) := dk_62 (dk_at dksX0_putIn_0 4 rfl rfl)
theorem dX0_putIn_5 : decode cX0_putIn 5 = .ok (.iload_n 3, 1) := dk_29 (dk_at dksX0_putIn_0 5 rfl rfl)
theorem dX0_putIn_6 : decode cX0_putIn 6 = .ok (.iload_n 1, 1) := dk_27 (dk_at dksX0_putIn_0 6 rfl rfl)
theorem dX0_putIn_7 : decode cX0_putIn 7 = .ok (.if_icmp .le 23, 3) := dk_164 0 23 (dk_at dksX0_putIn_0 7 rfl rfl)
theorem dX0_putIn_10 : decode cX0_putIn 10 = .ok (.aload_n 0, 1) := dk_42 (dk_at dksX0_putIn_0 10 rfl rfl)
theorem dX0_putIn_11 : decode cX0_putIn 11 = .ok (.getfield 183, 3) := dk_180 0 183 (dk_at dksX0_putIn_0 11 rfl rfl)
theorem dX0_putIn_14 : decode cX0_putIn 14 = .ok (.iload_n 3, 1) := dk_29 (dk_at dksX0_putIn_0 14 rfl rfl)
theorem dX0_putIn_15 : decode cX0_putIn 15 = .ok (.aload_n 0, 1) := dk_42 (dk_at dksX0_putIn_0 15 rfl rfl)
theorem dX0_putIn_16 : decode cX0_putIn 16 = .ok (.getfield 183, 3) := dk_180 0 183 (dk_at dksX0_putIn_0 16 rfl rfl)
theorem dX0_putIn_19 : decode cX0_putIn 19 = .ok (.iload_n 3, 1) := dk_29 (dk_at dksX0_putIn_0 19 rfl rfl)
theorem dX0_putIn_20 : decode cX0_putIn 20 = .ok (.iconst 1, 1) := dk_4 (dk_at dksX0_putIn_0 20 rfl rfl)
theorem dX0_putIn_21 : decode cX0_putIn 21 = .ok (.isub, 1) := dk_100 (dk_at dksX0_putIn_0 21 rfl rfl)
theorem dX0_putIn_22 : decode cX0_putIn 22 = .ok (.iaload, 1) := dk_46 (dk_at dksX0_putIn_0 22 rfl rfl)
theorem dX0_putIn_23 : decode cX0_putIn 23 = .ok (.iastore, 1) := dk_79 (dk_at dksX0_putIn_0 23 rfl rfl)
theorem dX0_putIn_24 : decode cX0_putIn 24 = .ok (.iinc 3 (-1), 3) := dk_132 3 255 (dk_at dksX0_putIn_1 0 rfl rfl)
theorem dX0_putIn_27 : decode cX0_putIn 27 = .ok (.goto (-22), 3) := dk_167 255 234 (dk_at dksX0_putIn_1 3 rfl rfl)
theorem dX0_putIn_30 : decode cX0_putIn 30 = .ok (.aload_n 0, 1) := dk_42 (dk_at dksX0_putIn_1 6 rfl rfl)
theorem dX0_putIn_31 : decode cX0_putIn 31 = .ok (.getfield 183, 3) := dk_180 0 183 (dk_at dksX0_putIn_1 7 rfl rfl)
theorem dX0_putIn_34 : decode cX0_putIn 34 = .ok (.iload_n 1, 1) := dk_27 (dk_at dksX0_putIn_1 10 rfl rfl)
theorem dX0_putIn_35 : decode cX0_putIn 35 = .ok (.iload_n 2, 1) := dk_28 (dk_at dksX0_putIn_1 11 rfl rfl)
theorem dX0_putIn_36 : decode cX0_putIn 36 = .ok (.iastore, 1) := dk_79 (dk_at dksX0_putIn_1 12 rfl rfl)
theorem dX0_putIn_37 : decode cX0_putIn 37 = .ok (.aload_n 0, 1) := dk_42 (dk_at dksX0_putIn_1 13 rfl rfl)
theorem dX0_putIn_38 : decode cX0_putIn 38 = .ok (.dup, 1) := dk_89 (dk_at dksX0_putIn_1 14 rfl rfl)
theorem dX0_putIn_39 : decode cX0_putIn 39 = .ok (.getfield 275, 3) := dk_180 1 19 (dk_at dksX0_putIn_1 15 rfl rfl)
theorem dX0_putIn_42 : decode cX0_putIn 42 = .ok (.iconst 1, 1) := dk_4 (dk_at dksX0_putIn_1 18 rfl rfl)
theorem dX0_putIn_43 : decode cX0_putIn 43 = .ok (.iadd, 1) := dk_96 (dk_at dksX0_putIn_1 19 rfl rfl)
theorem dX0_putIn_44 : decode cX0_putIn 44 = .ok (.putfield 275, 3) := dk_181 1 19 (dk_at dksX0_putIn_1 20 rfl rfl)
theorem dX0_putIn_47 : decode cX0_putIn 47 = .ok (.return_, 1) := dk_177 (dk_at dksX0_putIn_1 23 rfl rfl)
def dkwX0_takeOut_1 : List UInt8 := [28, 42, 180, 0, 183, 28, 4, 96, 46, 79, 132, 2, 1, 167, 255, 231, 177]
abbrev dktX0_takeOut_1 : List UInt8 := dkwX0_takeOut_1 ++ []
def dkwX0_takeOut_0 : List UInt8 := [42, 89, 180, 1, 19, 4, 100, 181, 1, 19, 27, 61, 28, 42, 180, 1, 19, 162, 0, 23, 42, 180, 0, 183]
abbrev dktX0_takeOut_0 : List UInt8 := dkwX0_takeOut_0 ++ dktX0_takeOut_1
theorem dksX0_takeOut_0 : cX0_takeOut.data.toList.drop 0 = dktX0_takeOut_0 := by decide +kernel
theorem dksX0_takeOut_1 : cX0_takeOut.data.toList.drop 24 = dktX0_takeOut_1 := dk_seg dksX0_takeOut_0 24 rfl rfl
theorem dX0_takeOut_0 : decode cX0_takeOut 0 = .ok (.aload_n 0, 1) := dk_42 (dk_at dksX0_takeOut_0 0 rfl rfl)
theorem dX0_takeOut_1 : decode cX0_takeOut 1 = .ok (.dup, 1) := dk_89 (dk_at dksX0_takeOut_0 1 rfl rfl)
theorem dX0_takeOut_2 : decode cX0_takeOut 2 = .ok (.getfield 275, 3) := dk_180 1 19 (dk_at dksX0_takeOut_0 2 rfl rfl)
theorem dX0_takeOut_5 : decode cX0_takeOut 5 = .ok (.iconst 1, 1) := dk_4 (dk_at dksX0_takeOut_0 5 rfl rfl)
theorem dX0_takeOut_6 : decode cX0_takeOut 6 = .ok (.isub, 1) := dk_100 (dk_at dksX0_takeOut_0 6 rfl rfl)
theorem dX0_takeOut_7 : decode cX0_takeOut 7 = .ok (.putfield 275, 3) := dk_181 1 19 (dk_at dksX0_takeOut_0 7 rfl rfl)
theorem dX0_takeOut_10 : decode cX0_takeOut 10 = .ok (.iload_n 1, 1) := dk_27 (dk_at dksX0_takeOut_0 10 rfl rfl)
theorem dX0_takeOut_11 : decode cX0_takeOut 11 = .ok (.istore_n 2, 1) := dk_61 (dk_at dksX0_takeOut_0 11 rfl rfl)
theorem dX0_takeOut_12 : decode cX0_takeOut 12 = .ok (.iload_n 2, 1) := dk_28 (dk_at dksX0_takeOut_0 12 rfl rfl)
theorem dX0_takeOut_13 : decode cX0_takeOut 13 = .ok (.aload_n 0, 1) := dk_42 (dk_at dksX0_takeOut_0 13 rfl rfl)
theorem dX0_takeOut_14 : decode cX0_takeOut 14 = .ok (.getfield 275, 3) := dk_180 1 19 (dk_at dksX0_takeOut_0 14 rfl rfl)
theorem dX0_takeOut_17 : decode cX0_takeOut 17 = .ok (.if_icmp .ge 23, 3) := dk_162 0 23 (dk_at dksX0_takeOut_0 17 rfl rfl)
theorem dX0_takeOut_20 : decode cX0_takeOut 20 = .ok (.aload_n 0, 1) := dk_42 (dk_at dksX0_takeOut_0 20 rfl rfl)
theorem dX0_takeOut_21 : decode cX0_takeOut 21 = .ok (.getfield 183, 3) := dk_180 0 183 (dk_at dksX0_takeOut_0 21 rfl rfl)
theorem dX0_takeOut_24 : decode cX0_takeOut 24 = .ok (.iload_n 2, 1) := dk_28 (dk_at dksX0_takeOut_1 0 rfl rfl)
theorem dX0_takeOut_25 : decode cX0_takeOut 25 = .ok (.aload_n 0, 1) := dk_42 (dk_at dksX0_takeOut_1 1 rfl rfl)
theorem dX0_takeOut_26 : decode cX0_takeOut 26 = .ok (.getfield 183, 3) := dk_180 0 183 (dk_at dksX0_takeOut_1 2 rfl rfl)
theorem dX0_takeOut_29 : decode cX0_takeOut 29 = .ok (.iload_n 2, 1) := dk_28 (dk_at dksX0_takeOut_1 5 rfl rfl)
theorem dX0_takeOut_30 : decode cX0_takeOut 30 = .ok (.iconst 1, 1) := dk_4 (dk_at dksX0_takeOut_1 6 rfl rfl)
theorem dX0_takeOut_31 : decode cX0_takeOut 31 = .ok (.iadd, 1) := dk_96 (dk_at dksX0_takeOut_1 7 rfl rfl)
theorem dX0_takeOut_32 : decode cX0_takeOut 32 = .ok (.iaload, 1) := dk_46 (dk_at dksX0_takeOut_1 8 rfl rfl)
theorem dX0_takeOut_33 : decode cX0_takeOut 33 = .ok (.iastore, 1) := dk_79 (dk_at dksX0_takeOut_1 9 rfl rfl)
theorem dX0_takeOut_34 : decode cX0_takeOut 34 = .ok (.iinc 2 1, 3) := dk_132 2 1 (dk_at dksX0_takeOut_1 10 rfl rfl)
theorem dX0_takeOut_37 : decode cX0_takeOut 37 = .ok (.goto (-25), 3) := dk_167 255 231 (dk_at dksX0_takeOut_1 13 rfl rfl)
theorem dX0_takeOut_40 : decode cX0_takeOut 40 = .ok (.return_, 1) := dk_177 (dk_at dksX0_takeOut_1 16 rfl rfl)
def dkwX0_hired_5 : List UInt8 := [167, 255, 216, 21, 4, 154, 0, 8, 21, 6, 167, 0, 5, 21, 7, 172]
abbrev dktX0_hired_5 : List UInt8 := dkwX0_hired_5 ++ []
def dkwX0_hired_4 : List UInt8 := [54, 9, 21, 9, 21, 7, 163, 0, 6, 167, 0, 11, 21, 8, 54, 6, 21, 9, 54, 7, 132, 8, 1]
abbrev dktX0_hired_4 : List UInt8 := dkwX0_hired_4 ++ dktX0_hired_5
def dkwX0_hired_3 : List UInt8 := [2, 54, 7, 3, 54, 8, 21, 8, 42, 180, 0, 1, 162, 0, 37, 42, 28, 21, 8, 29, 182, 1, 59]
abbrev dktX0_hired_3 : List UInt8 := dkwX0_hired_3 ++ dktX0_hired_4
def dkwX0_hired_2 : List UInt8 := [42, 180, 1, 19, 164, 0, 5, 2, 172, 42, 180, 1, 19, 16, 20, 160, 0, 6, 16, 251, 172, 3, 54, 6]
abbrev dktX0_hired_2 : List UInt8 := dkwX0_hired_2 ++ dktX0_hired_3
def dkwX0_hired_1 : List UInt8 := [184, 0, 7, 154, 0, 5, 2, 172, 42, 27, 182, 1, 42, 54, 5, 21, 5, 156, 0, 6, 21, 5, 172, 28]
abbrev dktX0_hired_1 : List UInt8 := dkwX0_hired_1 ++ dktX0_hired_2
def dkwX0_hired_0 : List UInt8 := [27, 184, 0, 29, 153, 0, 25, 28, 155, 0, 21, 42, 29, 182, 0, 11, 153, 0, 13, 21, 4, 3, 4]
abbrev dktX0_hired_0 : List UInt8 := dkwX0_hired_0 ++ dktX0_hired_1
theorem dksX0_hired_0 : cX0_hired.data.toList.drop 0 = dktX0_hired_0 := by decide +kernel
theorem dksX0_hired_1 : cX0_hired.data.toList.drop 23 = dktX0_hired_1 := dk_seg dksX0_hired_0 23 rfl rfl
theorem dksX0_hired_2 : cX0_hired.data.toList.drop 47 = dktX0_hired_2 := dk_seg dksX0_hired_1 24 rfl rfl
theorem dksX0_hired_3 : cX0_hired.data.toList.drop 71 = dktX0_hired_3 := dk_seg dksX0_hired_2 24 rfl rfl
theorem dksX0_hired_4 : cX0_hired.data.toList.drop 94 = dktX0_hired_4 := dk_seg dksX0_hired_3 23 rfl rfl
theorem dksX0_hired_5 : cX0_hired.data.toList.drop 117 = dktX0_hired_5 := dk_seg dksX0_hired_4 23 rfl rfl
theorem dX0_hired_0 : decode cX0_hired 0 = .ok (.iload_n 1, 1) := dk_27 (dk_at dksX0_hired_0 0 rfl rfl)
theorem dX0_hired_1 : decode cX0_hired 1 = .ok (.invokestatic 29, 3) := dk_184 0 29 (dk_at dksX0_hired_0 1 rfl rfl)
theorem dX0_hired_4 : decode cX0_hired 4 = .ok (.ifCond .eq 25, 3) := dk_153 0 25 (dk_at dksX0_hired_0 4 rfl rfl)
theorem dX0_hired_7 : decode cX0_hired 7 = .ok (.iload_n 2, 1) := dk_28 (dk_at dksX0_hired_0 7 rfl rfl)
theorem dX0_hired_8 : decode cX0_hired 8 = .ok (.ifCond .lt 21, 3) := dk_155 0 21 (dk_at dksX0_hired_0 8 rfl rfl)
theorem dX0_hired_11 : decode cX0_hired 11 = .ok (.aload_n 0, 1) := dk_42 (dk_at dksX0_hired_0 11 rfl rfl)
theorem dX0_hired_12 : decode cX0_hired 12 = .ok (.iload_n 3, 1) := dk_29 (dk_at dksX0_hired_0 12 rfl rfl)
theorem dX0_hired_13 : decode cX0_hired 13 = .ok (.invokevirtual 11, 3) := dk_182 0 11 (dk_at dksX0_hired_0 13 rfl rfl)
theorem dX0_hired_16 : decode cX0_hired 16 = .ok (.ifCond .eq 13, 3) := dk_153 0 13 (dk_at dksX0_hired_0 16 rfl rfl)
theorem dX0_hired_19 : decode cX0_hired 19 = .ok (.iload 4, 2) := dk_21 4 (dk_at dksX0_hired_0 19 rfl rfl)
theorem dX0_hired_21 : decode cX0_hired 21 = .ok (.iconst 0, 1) := dk_3 (dk_at dksX0_hired_0 21 rfl rfl)
theorem dX0_hired_22 : decode cX0_hired 22 = .ok (.iconst 1, 1) := dk_4 (dk_at dksX0_hired_0 22 rfl rfl)
theorem dX0_hired_23 : decode cX0_hired 23 = .ok (.invokestatic 7, 3) := dk_184 0 7 (dk_at dksX0_hired_1 0 rfl rfl)
theorem dX0_hired_26 : decode cX0_hired 26 = .ok (.ifCond .ne 5, 3) := dk_154 0 5 (dk_at dksX0_hired_1 3 rfl rfl)
theorem dX0_hired_29 : decode cX0_hired 29 = .ok (.iconst (-1), 1) := dk_2 (dk_at dksX0_hired_1 6 rfl rfl)
theorem dX0_hired_30 : decode cX0_hired 30 = .ok (.ireturn, 1) := dk_172 (dk_at dksX0_hired_1 7 rfl rfl)
theorem dX0_hired_31 : decode cX0_hired 31 = .ok (.aload_n 0, 1) := dk_42 (dk_at dksX0_hired_1 8 rfl rfl)
theorem dX0_hired_32 : decode cX0_hired 32 = .ok (.iload_n 1, 1) := dk_27 (dk_at dksX0_hired_1 9 rfl rfl)
theorem dX0_hired_33 : decode cX0_hired 33 = .ok (.invokevirtual 298, 3) := dk_182 1 42 (dk_at dksX0_hired_1 10 rfl rfl)
theorem dX0_hired_36 : decode cX0_hired 36 = .ok (.istore 5, 2) := dk_54 5 (dk_at dksX0_hired_1 13 rfl rfl)
theorem dX0_hired_38 : decode cX0_hired 38 = .ok (.iload 5, 2) := dk_21 5 (dk_at dksX0_hired_1 15 rfl rfl)
theorem dX0_hired_40 : decode cX0_hired 40 = .ok (.ifCond .ge 6, 3) := dk_156 0 6 (dk_at dksX0_hired_1 17 rfl rfl)
theorem dX0_hired_43 : decode cX0_hired 43 = .ok (.iload 5, 2) := dk_21 5 (dk_at dksX0_hired_1 20 rfl rfl)
theorem dX0_hired_45 : decode cX0_hired 45 = .ok (.ireturn, 1) := dk_172 (dk_at dksX0_hired_1 22 rfl rfl)
theorem dX0_hired_46 : decode cX0_hired 46 = .ok (.iload_n 2, 1) := dk_28 (dk_at dksX0_hired_1 23 rfl rfl)
theorem dX0_hired_47 : decode cX0_hired 47 = .ok (.aload_n 0, 1) := dk_42 (dk_at dksX0_hired_2 0 rfl rfl)
theorem dX0_hired_48 : decode cX0_hired 48 = .ok (.getfield 275, 3) := dk_180 1 19 (dk_at dksX0_hired_2 1 rfl rfl)
theorem dX0_hired_51 : decode cX0_hired 51 = .ok (.if_icmp .le 5, 3) := dk_164 0 5 (dk_at dksX0_hired_2 4 rfl rfl)
theorem dX0_hired_54 : decode cX0_hired 54 = .ok (.iconst (-1), 1) := dk_2 (dk_at dksX0_hired_2 7 rfl rfl)
theorem dX0_hired_55 : decode cX0_hired 55 = .ok (.ireturn, 1) := dk_172 (dk_at dksX0_hired_2 8 rfl rfl)
theorem dX0_hired_56 : decode cX0_hired 56 = .ok (.aload_n 0, 1) := dk_42 (dk_at dksX0_hired_2 9 rfl rfl)
theorem dX0_hired_57 : decode cX0_hired 57 = .ok (.getfield 275, 3) := dk_180 1 19 (dk_at dksX0_hired_2 10 rfl rfl)
theorem dX0_hired_60 : decode cX0_hired 60 = .ok (.bipush 20, 2) := dk_16 20 (dk_at dksX0_hired_2 13 rfl rfl)
theorem dX0_hired_62 : decode cX0_hired 62 = .ok (.if_icmp .ne 6, 3) := dk_160 0 6 (dk_at dksX0_hired_2 15 rfl rfl)
theorem dX0_hired_65 : decode cX0_hired 65 = .ok (.bipush (-5), 2) := dk_16 251 (dk_at dksX0_hired_2 18 rfl rfl)
theorem dX0_hired_67 : decode cX0_hired 67 = .ok (.ireturn, 1) := dk_172 (dk_at dksX0_hired_2 20 rfl rfl)
theorem dX0_hired_68 : decode cX0_hired 68 = .ok (.iconst 0, 1) := dk_3 (dk_at dksX0_hired_2 21 rfl rfl)
theorem dX0_hired_69 : decode cX0_hired 69 = .ok (.istore 6, 2) := dk_54 6 (dk_at dksX0_hired_2 22 rfl rfl)
theorem dX0_hired_71 : decode cX0_hired 71 = .ok (.iconst (-1), 1) := dk_2 (dk_at dksX0_hired_3 0 rfl rfl)
theorem dX0_hired_72 : decode cX0_hired 72 = .ok (.istore 7, 2) := dk_54 7 (dk_at dksX0_hired_3 1 rfl rfl)
theorem dX0_hired_74 : decode cX0_hired 74 = .ok (.iconst 0, 1) := dk_3 (dk_at dksX0_hired_3 3 rfl rfl)
theorem dX0_hired_75 : decode cX0_hired 75 = .ok (.istore 8, 2) := dk_54 8 (dk_at dksX0_hired_3 4 rfl rfl)
theorem dX0_hired_77 : decode cX0_hired 77 = .ok (.iload 8, 2) := dk_21 8 (dk_at dksX0_hired_3 6 rfl rfl)
theorem dX0_hired_79 : decode cX0_hired 79 = .ok (.aload_n 0, 1) := dk_42 (dk_at dksX0_hired_3 8 rfl rfl)
theorem dX0_hired_80 : decode cX0_hired 80 = .ok (.getfield 1, 3) := dk_180 0 1 (dk_at dksX0_hired_3 9 rfl rfl)
theorem dX0_hired_83 : decode cX0_hired 83 = .ok (.if_icmp .ge 37, 3) := dk_162 0 37 (dk_at dksX0_hired_3 12 rfl rfl)
theorem dX0_hired_86 : decode cX0_hired 86 = .ok (.aload_n 0, 1) := dk_42 (dk_at dksX0_hired_3 15 rfl rfl)
theorem dX0_hired_87 : decode cX0_hired 87 = .ok (.iload_n 2, 1) := dk_28 (dk_at dksX0_hired_3 16 rfl rfl)
theorem dX0_hired_88 : decode cX0_hired 88 = .ok (.iload 8, 2) := dk_21 8 (dk_at dksX0_hired_3 17 rfl rfl)
theorem dX0_hired_90 : decode cX0_hired 90 = .ok (.iload_n 3, 1) := dk_29 (dk_at dksX0_hired_3 19 rfl rfl)
theorem dX0_hired_91 : decode cX0_hired 91 = .ok (.invokevirtual 315, 3) := dk_182 1 59 (dk_at dksX0_hired_3 20 rfl rfl)
theorem dX0_hired_94 : decode cX0_hired 94 = .ok (.istore 9, 2) := dk_54 9 (dk_at dksX0_hired_4 0 rfl rfl)
theorem dX0_hired_96 : decode cX0_hired 96 = .ok (.iload 9, 2) := dk_21 9 (dk_at dksX0_hired_4 2 rfl rfl)
theorem dX0_hired_98 : decode cX0_hired 98 = .ok (.iload 7, 2) := dk_21 7 (dk_at dksX0_hired_4 4 rfl rfl)
theorem dX0_hired_100 : decode cX0_hired 100 = .ok (.if_icmp .gt 6, 3) := dk_163 0 6 (dk_at dksX0_hired_4 6 rfl rfl)
theorem dX0_hired_103 : decode cX0_hired 103 = .ok (.goto 11, 3) := dk_167 0 11 (dk_at dksX0_hired_4 9 rfl rfl)
theorem dX0_hired_106 : decode cX0_hired 106 = .ok (.iload 8, 2) := dk_21 8 (dk_at dksX0_hired_4 12 rfl rfl)
theorem dX0_hired_108 : decode cX0_hired 108 = .ok (.istore 6, 2) := dk_54 6 (dk_at dksX0_hired_4 14 rfl rfl)
theorem dX0_hired_110 : decode cX0_hired 110 = .ok (.iload 9, 2) := dk_21 9 (dk_at dksX0_hired_4 16 rfl rfl)
theorem dX0_hired_112 : decode cX0_hired 112 = .ok (.istore 7, 2) := dk_54 7 (dk_at dksX0_hired_4 18 rfl rfl)
theorem dX0_hired_114 : decode cX0_hired 114 = .ok (.iinc 8 1, 3) := dk_132 8 1 (dk_at dksX0_hired_4 20 rfl rfl)
theorem dX0_hired_117 : decode cX0_hired 117 = .ok (.goto (-40), 3) := dk_167 255 216 (dk_at dksX0_hired_5 0 rfl rfl)
theorem dX0_hired_120 : decode cX0_hired 120 = .ok (.iload 4, 2) := dk_21 4 (dk_at dksX0_hired_5 3 rfl rfl)
theorem dX0_hired_122 : decode cX0_hired 122 = .ok (.ifCond .ne 8, 3) := dk_154 0 8 (dk_at dksX0_hired_5 5 rfl rfl)
theorem dX0_hired_125 : decode cX0_hired 125 = .ok (.iload 6, 2) := dk_21 6 (dk_at dksX0_hired_5 8 rfl rfl)
theorem dX0_hired_127 : decode cX0_hired 127 = .ok (.goto 5, 3) := dk_167 0 5 (dk_at dksX0_hired_5 10 rfl rfl)
theorem dX0_hired_130 : decode cX0_hired 130 = .ok (.iload 7, 2) := dk_21 7 (dk_at dksX0_hired_5 13 rfl rfl)
theorem dX0_hired_132 : decode cX0_hired 132 = .ok (.ireturn, 1) := dk_172 (dk_at dksX0_hired_5 15 rfl rfl)
def dkwX0_latch_5 : List UInt8 := [29, 154, 0, 8, 21, 5, 167, 0, 5, 21, 6, 172]
abbrev dktX0_latch_5 : List UInt8 := dkwX0_latch_5 ++ []
def dkwX0_latch_4 : List UInt8 := [21, 8, 21, 6, 163, 0, 6, 167, 0, 11, 21, 7, 54, 5, 21, 8, 54, 6, 132, 7, 1, 167, 255, 201]
abbrev dktX0_latch_4 : List UInt8 := dkwX0_latch_4 ++ dktX0_latch_5
def dkwX0_latch_3 : List UInt8 := [42, 21, 7, 182, 1, 63, 42, 182, 1, 46, 180, 0, 207, 28, 46, 54, 8, 42, 21, 7, 182, 1, 63]
abbrev dktX0_latch_3 : List UInt8 := dkwX0_latch_3 ++ dktX0_latch_4
def dkwX0_latch_2 : List UInt8 := [182, 1, 46, 180, 0, 207, 28, 46, 54, 6, 3, 54, 7, 21, 7, 4, 96, 42, 180, 1, 19, 162, 0, 50]
abbrev dktX0_latch_2 : List UInt8 := dkwX0_latch_2 ++ dktX0_latch_3
def dkwX0_latch_1 : List UInt8 := [2, 172, 42, 27, 182, 1, 42, 54, 4, 21, 4, 156, 0, 6, 21, 4, 172, 16, 254, 54, 5, 42]
abbrev dktX0_latch_1 : List UInt8 := dkwX0_latch_1 ++ dktX0_latch_2
def dkwX0_latch_0 : List UInt8 := [27, 184, 0, 29, 153, 0, 20, 42, 28, 182, 0, 11, 153, 0, 12, 29, 3, 4, 184, 0, 7, 154, 0, 5]
abbrev dktX0_latch_0 : List UInt8 := dkwX0_latch_0 ++ dktX0_latch_1
theorem dksX0_latch_0 : cX0_latch.data.toList.drop 0 = dktX0_latch_0 := by decide +kernel
theorem dksX0_latch_1 : cX0_latch.data.toList.drop 24 = dktX0_latch_1 := dk_seg dksX0_latch_0 24 rfl rfl
theorem dksX0_latch_2 : cX0_latch.data.toList.drop 46 = dktX0_latch_2 := dk_seg dksX0_latch_1 22 rfl rfl
theorem dksX0_latch_3 : cX0_latch.data.toList.drop 70 = dktX0_latch_3 := dk_seg dksX0_latch_2 24 rfl rfl
theorem dksX0_latch_4 : cX0_latch.data.toList.drop 93 = dktX0_latch_4 := dk_seg dksX0_latch_3 23 rfl rfl
theorem dksX0_latch_5 : cX0_latch.data.toList.drop 117 = dktX0_latch_5 := dk_seg dksX0_latch_4 24 rfl rfl
theorem dX0_latch_0 : decode cX0_latch 0 = .ok (.iload_n 1, 1) := dk_27 (dk_at dksX0_latch_0 0 rfl rfl)
theorem dX0_latch_1 : decode cX0_latch 1 = .ok (.invokestatic 29, 3) := dk_184 0 29 (dk_at dksX0_latch_0 1 rfl rfl)
theorem dX0_latch_4 : decode cX0_latch 4 = .ok (.ifCond .eq 20, 3) := dk_153 0 20 (dk_at dksX0_latch_0 4 rfl rfl)
theorem dX0_latch_7 : decode cX0_latch 7 = .ok (.aload_n 0, 1) := dk_42 (dk_at dksX0_latch_0 7 rfl rfl)
theorem dX0_latch_8 : decode cX0_latch 8 = .ok (.iload_n 2, 1) := dk_28 (dk_at dksX0_latch_0 8 rfl rfl)
theorem dX0_latch_9 : decode cX0_latch 9 = .ok (.invokevirtual 11, 3) := dk_182 0 11 (dk_at dksX0_latch_0 9 rfl rfl)
theorem dX0_latch_12 : decode cX0_latch 12 = .ok (.ifCond .eq 12, 3) := dk_153 0 12 (dk_at dksX0_latch_0 12 rfl rfl)
theorem dX0_latch_15 : decode cX0_latch 15 = .ok (.iload_n 3, 1) := dk_29 (dk_at dksX0_latch_0 15 rfl rfl)
theorem dX0_latch_16 : decode cX0_latch 16 = .ok (.iconst 0, 1) := dk_3 (dk_at dksX0_latch_0 16 rfl rfl)
theorem dX0_latch_17 : decode cX0_latch 17 = .ok (.iconst 1, 1) := dk_4 (dk_at dksX0_latch_0 17 rfl rfl)
theorem dX0_latch_18 : decode cX0_latch 18 = .ok (.invokestatic 7, 3) := dk_184 0 7 (dk_at dksX0_latch_0 18 rfl rfl)
theorem dX0_latch_21 : decode cX0_latch 21 = .ok (.ifCond .ne 5, 3) := dk_154 0 5 (dk_at dksX0_latch_0 21 rfl rfl)
theorem dX0_latch_24 : decode cX0_latch 24 = .ok (.iconst (-1), 1) := dk_2 (dk_at dksX0_latch_1 0 rfl rfl)
theorem dX0_latch_25 : decode cX0_latch 25 = .ok (.ireturn, 1) := dk_172 (dk_at dksX0_latch_1 1 rfl rfl)
theorem dX0_latch_26 : decode cX0_latch 26 = .ok (.aload_n 0, 1) := dk_42 (dk_at dksX0_latch_1 2 rfl rfl)
theorem dX0_latch_27 : decode cX0_latch 27 = .ok (.iload_n 1, 1) := dk_27 (dk_at dksX0_latch_1 3 rfl rfl)
theorem dX0_latch_28 : decode cX0_latch 28 = .ok (.invokevirtual 298, 3) := dk_182 1 42 (dk_at dksX0_latch_1 4 rfl rfl)
theorem dX0_latch_31 : decode cX0_latch 31 = .ok (.istore 4, 2) := dk_54 4 (dk_at dksX0_latch_1 7 rfl rfl)
theorem dX0_latch_33 : decode cX0_latch 33 = .ok (.iload 4, 2) := dk_21 4 (dk_at dksX0_latch_1 9 rfl rfl)
theorem dX0_latch_35 : decode cX0_latch 35 = .ok (.ifCond .ge 6, 3) := dk_156 0 6 (dk_at dksX0_latch_1 11 rfl rfl)
theorem dX0_latch_38 : decode cX0_latch 38 = .ok (.iload 4, 2) := dk_21 4 (dk_at dksX0_latch_1 14 rfl rfl)
theorem dX0_latch_40 : decode cX0_latch 40 = .ok (.ireturn, 1) := dk_172 (dk_at dksX0_latch_1 16 rfl rfl)
theorem dX0_latch_41 : decode cX0_latch 41 = .ok (.bipush (-2), 2) := dk_16 254 (dk_at dksX0_latch_1 17 rfl rfl)
theorem dX0_latch_43 : decode cX0_latch 43 = .ok (.istore 5, 2) := dk_54 5 (dk_at dksX0_latch_1 19 rfl rfl)
theorem dX0_latch_45 : decode cX0_latch 45 = .ok (.aload_n 0, 1) := dk_42 (dk_at dksX0_latch_1 21 rfl rfl)
theorem dX0_latch_46 : decode cX0_latch 46 = .ok (.invokevirtual 302, 3) := dk_182 1 46 (dk_at dksX0_latch_2 0 rfl rfl)
theorem dX0_latch_49 : decode cX0_latch 49 = .ok (.getfield 207, 3) := dk_180 0 207 (dk_at dksX0_latch_2 3 rfl rfl)
theorem dX0_latch_52 : decode cX0_latch 52 = .ok (.iload_n 2, 1) := dk_28 (dk_at dksX0_latch_2 6 rfl rfl)
theorem dX0_latch_53 : decode cX0_latch 53 = .ok (.iaload, 1) := dk_46 (dk_at dksX0_latch_2 7 rfl rfl)
theorem dX0_latch_54 : decode cX0_latch 54 = .ok (.istore 6, 2) := dk_54 6 (dk_at dksX0_latch_2 8 rfl rfl)
theorem dX0_latch_56 : decode cX0_latch 56 = .ok (.iconst 0, 1) := dk_3 (dk_at dksX0_latch_2 10 rfl rfl)
theorem dX0_latch_57 : decode cX0_latch 57 = .ok (.istore 7, 2) := dk_54 7 (dk_at dksX0_latch_2 11 rfl rfl)
theorem dX0_latch_59 : decode cX0_latch 59 = .ok (.iload 7, 2) := dk_21 7 (dk_at dksX0_latch_2 13 rfl rfl)
theorem dX0_latch_61 : decode cX0_latch 61 = .ok (.iconst 1, 1) := dk_4 (dk_at dksX0_latch_2 15 rfl rfl)
theorem dX0_latch_62 : decode cX0_latch 62 = .ok (.iadd, 1) := dk_96 (dk_at dksX0_latch_2 16 rfl rfl)
theorem dX0_latch_63 : decode cX0_latch 63 = .ok (.aload_n 0, 1) := dk_42 (dk_at dksX0_latch_2 17 rfl rfl)
theorem dX0_latch_64 : decode cX0_latch 64 = .ok (.getfield 275, 3) := dk_180 1 19 (dk_at dksX0_latch_2 18 rfl rfl)
theorem dX0_latch_67 : decode cX0_latch 67 = .ok (.if_icmp .ge 50, 3) := dk_162 0 50 (dk_at dksX0_latch_2 21 rfl rfl)
theorem dX0_latch_70 : decode cX0_latch 70 = .ok (.aload_n 0, 1) := dk_42 (dk_at dksX0_latch_3 0 rfl rfl)
theorem dX0_latch_71 : decode cX0_latch 71 = .ok (.iload 7, 2) := dk_21 7 (dk_at dksX0_latch_3 1 rfl rfl)
theorem dX0_latch_73 : decode cX0_latch 73 = .ok (.invokevirtual 319, 3) := dk_182 1 63 (dk_at dksX0_latch_3 3 rfl rfl)
theorem dX0_latch_76 : decode cX0_latch 76 = .ok (.aload_n 0, 1) := dk_42 (dk_at dksX0_latch_3 6 rfl rfl)
theorem dX0_latch_77 : decode cX0_latch 77 = .ok (.invokevirtual 302, 3) := dk_182 1 46 (dk_at dksX0_latch_3 7 rfl rfl)
theorem dX0_latch_80 : decode cX0_latch 80 = .ok (.getfield 207, 3) := dk_180 0 207 (dk_at dksX0_latch_3 10 rfl rfl)
theorem dX0_latch_83 : decode cX0_latch 83 = .ok (.iload_n 2, 1) := dk_28 (dk_at dksX0_latch_3 13 rfl rfl)
theorem dX0_latch_84 : decode cX0_latch 84 = .ok (.iaload, 1) := dk_46 (dk_at dksX0_latch_3 14 rfl rfl)
theorem dX0_latch_85 : decode cX0_latch 85 = .ok (.istore 8, 2) := dk_54 8 (dk_at dksX0_latch_3 15 rfl rfl)
theorem dX0_latch_87 : decode cX0_latch 87 = .ok (.aload_n 0, 1) := dk_42 (dk_at dksX0_latch_3 17 rfl rfl)
theorem dX0_latch_88 : decode cX0_latch 88 = .ok (.iload 7, 2) := dk_21 7 (dk_at dksX0_latch_3 18 rfl rfl)
theorem dX0_latch_90 : decode cX0_latch 90 = .ok (.invokevirtual 319, 3) := dk_182 1 63 (dk_at dksX0_latch_3 20 rfl rfl)
theorem dX0_latch_93 : decode cX0_latch 93 = .ok (.iload 8, 2) := dk_21 8 (dk_at dksX0_latch_4 0 rfl rfl)
theorem dX0_latch_95 : decode cX0_latch 95 = .ok (.iload 6, 2) := dk_21 6 (dk_at dksX0_latch_4 2 rfl rfl)
theorem dX0_latch_97 : decode cX0_latch 97 = .ok (.if_icmp .gt 6, 3) := dk_163 0 6 (dk_at dksX0_latch_4 4 rfl rfl)
theorem dX0_latch_100 : decode cX0_latch 100 = .ok (.goto 11, 3) := dk_167 0 11 (dk_at dksX0_latch_4 7 rfl rfl)
theorem dX0_latch_103 : decode cX0_latch 103 = .ok (.iload 7, 2) := dk_21 7 (dk_at dksX0_latch_4 10 rfl rfl)
theorem dX0_latch_105 : decode cX0_latch 105 = .ok (.istore 5, 2) := dk_54 5 (dk_at dksX0_latch_4 12 rfl rfl)
theorem dX0_latch_107 : decode cX0_latch 107 = .ok (.iload 8, 2) := dk_21 8 (dk_at dksX0_latch_4 14 rfl rfl)
theorem dX0_latch_109 : decode cX0_latch 109 = .ok (.istore 6, 2) := dk_54 6 (dk_at dksX0_latch_4 16 rfl rfl)
theorem dX0_latch_111 : decode cX0_latch 111 = .ok (.iinc 7 1, 3) := dk_132 7 1 (dk_at dksX0_latch_4 18 rfl rfl)
theorem dX0_latch_114 : decode cX0_latch 114 = .ok (.goto (-55), 3) := dk_167 255 201 (dk_at dksX0_latch_4 21 rfl rfl)
theorem dX0_latch_117 : decode cX0_latch 117 = .ok (.iload_n 3, 1) := dk_29 (dk_at dksX0_latch_5 0 rfl rfl)
theorem dX0_latch_118 : decode cX0_latch 118 = .ok (.ifCond .ne 8, 3) := dk_154 0 8 (dk_at dksX0_latch_5 1 rfl rfl)
theorem dX0_latch_121 : decode cX0_latch 121 = .ok (.iload 5, 2) := dk_21 5 (dk_at dksX0_latch_5 4 rfl rfl)
theorem dX0_latch_123 : decode cX0_latch 123 = .ok (.goto 5, 3) := dk_167 0 5 (dk_at dksX0_latch_5 6 rfl rfl)
theorem dX0_latch_126 : decode cX0_latch 126 = .ok (.iload 6, 2) := dk_21 6 (dk_at dksX0_latch_5 9 rfl rfl)
theorem dX0_latch_128 : decode cX0_latch 128 = .ok (.ireturn, 1) := dk_172 (dk_at dksX0_latch_5 11 rfl rfl)
def dkwX0_change_1 : List UInt8 := [180, 0, 183, 27, 4, 96, 28, 79, 177]
abbrev dktX0_change_1 : List UInt8 := dkwX0_change_1 ++ []
def dkwX0_change_0 : List UInt8 := [42, 180, 0, 183, 27, 46, 61, 42, 180, 0, 183, 27, 42, 180, 0, 183, 27, 4, 96, 46, 79, 42]
abbrev dktX0_change_0 : List UInt8 := dkwX0_change_0 ++ dktX0_change_1
theorem dksX0_change_0 : cX0_change.data.toList.drop 0 = dktX0_change_0 := by decide +kernel
theorem dksX0_change_1 : cX0_change.data.toList.drop 22 = dktX0_change_1 := dk_seg dksX0_change_0 22 rfl rfl
theorem dX0_change_0 : decode cX0_change 0 = .ok (.aload_n 0, 1) := dk_42 (dk_at dksX0_change_0 0 rfl rfl)
theorem dX0_change_1 : decode cX0_change 1 = .ok (.getfield 183, 3) := dk_180 0 183 (dk_at dksX0_change_0 1 rfl rfl)
theorem dX0_change_4 : decode cX0_change 4 = .ok (.iload_n 1, 1) := dk_27 (dk_at dksX0_change_0 4 rfl rfl)
theorem dX0_change_5 : decode cX0_change 5 = .ok (.iaload, 1) := dk_46 (dk_at dksX0_change_0 5 rfl rfl)
theorem dX0_change_6 : decode cX0_change 6 = .ok (.istore_n 2, 1) := dk_61 (dk_at dksX0_change_0 6 rfl rfl)
theorem dX0_change_7 : decode cX0_change 7 = .ok (.aload_n 0, 1) := dk_42 (dk_at dksX0_change_0 7 rfl rfl)
theorem dX0_change_8 : decode cX0_change 8 = .ok (.getfield 183, 3) := dk_180 0 183 (dk_at dksX0_change_0 8 rfl rfl)
theorem dX0_change_11 : decode cX0_change 11 = .ok (.iload_n 1, 1) := dk_27 (dk_at dksX0_change_0 11 rfl rfl)
theorem dX0_change_12 : decode cX0_change 12 = .ok (.aload_n 0, 1) := dk_42 (dk_at dksX0_change_0 12 rfl rfl)
theorem dX0_change_13 : decode cX0_change 13 = .ok (.getfield 183, 3) := dk_180 0 183 (dk_at dksX0_change_0 13 rfl rfl)
theorem dX0_change_16 : decode cX0_change 16 = .ok (.iload_n 1, 1) := dk_27 (dk_at dksX0_change_0 16 rfl rfl)
theorem dX0_change_17 : decode cX0_change 17 = .ok (.iconst 1, 1) := dk_4 (dk_at dksX0_change_0 17 rfl rfl)
theorem dX0_change_18 : decode cX0_change 18 = .ok (.iadd, 1) := dk_96 (dk_at dksX0_change_0 18 rfl rfl)
theorem dX0_change_19 : decode cX0_change 19 = .ok (.iaload, 1) := dk_46 (dk_at dksX0_change_0 19 rfl rfl)
theorem dX0_change_20 : decode cX0_change 20 = .ok (.iastore, 1) := dk_79 (dk_at dksX0_change_0 20 rfl rfl)
theorem dX0_change_21 : decode cX0_change 21 = .ok (.aload_n 0, 1) := dk_42 (dk_at dksX0_change_0 21 rfl rfl)
theorem dX0_change_22 : decode cX0_change 22 = .ok (.getfield 183, 3) := dk_180 0 183 (dk_at dksX0_change_1 0 rfl rfl)
theorem dX0_change_25 : decode cX0_change 25 = .ok (.iload_n 1, 1) := dk_27 (dk_at dksX0_change_1 3 rfl rfl)
theorem dX0_change_26 : decode cX0_change 26 = .ok (.iconst 1, 1) := dk_4 (dk_at dksX0_change_1 4 rfl rfl)
theorem dX0_change_27 : decode cX0_change 27 = .ok (.iadd, 1) := dk_96 (dk_at dksX0_change_1 5 rfl rfl)
theorem dX0_change_28 : decode cX0_change 28 = .ok (.iload_n 2, 1) := dk_28 (dk_at dksX0_change_1 6 rfl rfl)
theorem dX0_change_29 : decode cX0_change 29 = .ok (.iastore, 1) := dk_79 (dk_at dksX0_change_1 7 rfl rfl)
theorem dX0_change_30 : decode cX0_change 30 = .ok (.return_, 1) := dk_177 (dk_at dksX0_change_1 8 rfl rfl)
def dkwX0_order_3 : List UInt8 := [29, 156, 0, 10, 42, 180, 1, 66, 167, 0, 9, 42, 180, 0, 187, 29, 46, 172]
abbrev dktX0_order_3 : List UInt8 := dkwX0_order_3 ++ []
def dkwX0_order_2 : List UInt8 := [21, 4, 161, 0, 6, 16, 254, 172, 42, 3, 181, 1, 19, 42, 2, 181, 1, 66, 42, 27, 28, 182, 1, 72]
abbrev dktX0_order_2 : List UInt8 := dkwX0_order_2 ++ dktX0_order_3
def dkwX0_order_1 : List UInt8 := [29, 2, 162, 0, 5, 2, 172, 27, 184, 1, 75, 54, 4, 21, 4, 8, 164, 0, 6, 16, 251, 172, 29]
abbrev dktX0_order_1 : List UInt8 := dkwX0_order_1 ++ dktX0_order_2
def dkwX0_order_0 : List UInt8 := [27, 3, 4, 42, 180, 0, 1, 120, 4, 100, 184, 0, 7, 153, 0, 16, 42, 28, 182, 0, 11, 153, 0, 8]
abbrev dktX0_order_0 : List UInt8 := dkwX0_order_0 ++ dktX0_order_1
theorem dksX0_order_0 : cX0_order.data.toList.drop 0 = dktX0_order_0 := by decide +kernel
theorem dksX0_order_1 : cX0_order.data.toList.drop 24 = dktX0_order_1 := dk_seg dksX0_order_0 24 rfl rfl
theorem dksX0_order_2 : cX0_order.data.toList.drop 47 = dktX0_order_2 := dk_seg dksX0_order_1 23 rfl rfl
theorem dksX0_order_3 : cX0_order.data.toList.drop 71 = dktX0_order_3 := dk_seg dksX0_order_2 24 rfl rfl
theorem dX0_order_0 : decode cX0_order 0 = .ok (.iload_n 1, 1) := dk_27 (dk_at dksX0_order_0 0 rfl rfl)
theorem dX0_order_1 : decode cX0_order 1 = .ok (.iconst 0, 1) := dk_3 (dk_at dksX0_order_0 1 rfl rfl)
theorem dX0_order_2 : decode cX0_order 2 = .ok (.iconst 1, 1) := dk_4 (dk_at dksX0_order_0 2 rfl rfl)
theorem dX0_order_3 : decode cX0_order 3 = .ok (.aload_n 0, 1) := dk_42 (dk_at dksX0_order_0 3 rfl rfl)
theorem dX0_order_4 : decode cX0_order 4 = .ok (.getfield 1, 3) := dk_180 0 1 (dk_at dksX0_order_0 4 rfl rfl)
theorem dX0_order_7 : decode cX0_order 7 = .ok (.ishl, 1) := dk_120 (dk_at dksX0_order_0 7 rfl rfl)
theorem dX0_order_8 : decode cX0_order 8 = .ok (.iconst 1, 1) := dk_4 (dk_at dksX0_order_0 8 rfl rfl)
theorem dX0_order_9 : decode cX0_order 9 = .ok (.isub, 1) := dk_100 (dk_at dksX0_order_0 9 rfl rfl)
theorem dX0_order_10 : decode cX0_order 10 = .ok (.invokestatic 7, 3) := dk_184 0 7 (dk_at dksX0_order_0 10 rfl rfl)
theorem dX0_order_13 : decode cX0_order 13 = .ok (.ifCond .eq 16, 3) := dk_153 0 16 (dk_at dksX0_order_0 13 rfl rfl)
theorem dX0_order_16 : decode cX0_order 16 = .ok (.aload_n 0, 1) := dk_42 (dk_at dksX0_order_0 16 rfl rfl)
theorem dX0_order_17 : decode cX0_order 17 = .ok (.iload_n 2, 1) := dk_28 (dk_at dksX0_order_0 17 rfl rfl)
theorem dX0_order_18 : decode cX0_order 18 = .ok (.invokevirtual 11, 3) := dk_182 0 11 (dk_at dksX0_order_0 18 rfl rfl)
theorem dX0_order_21 : decode cX0_order 21 = .ok (.ifCond .eq 8, 3) := dk_153 0 8 (dk_at dksX0_order_0 21 rfl rfl)
theorem dX0_order_24 : decode cX0_order 24 = .ok (.iload_n 3, 1) := dk_29 (dk_at dksX0_order_1 0 rfl rfl)
theorem dX0_order_25 : decode cX0_order 25 = .ok (.iconst (-1), 1) := dk_2 (dk_at dksX0_order_1 1 rfl rfl)
theorem dX0_order_26 : decode cX0_order 26 = .ok (.if_icmp .ge 5, 3) := dk_162 0 5 (dk_at dksX0_order_1 2 rfl rfl)
theorem dX0_order_29 : decode cX0_order 29 = .ok (.iconst (-1), 1) := dk_2 (dk_at dksX0_order_1 5 rfl rfl)
theorem dX0_order_30 : decode cX0_order 30 = .ok (.ireturn, 1) := dk_172 (dk_at dksX0_order_1 6 rfl rfl)
theorem dX0_order_31 : decode cX0_order 31 = .ok (.iload_n 1, 1) := dk_27 (dk_at dksX0_order_1 7 rfl rfl)
theorem dX0_order_32 : decode cX0_order 32 = .ok (.invokestatic 331, 3) := dk_184 1 75 (dk_at dksX0_order_1 8 rfl rfl)
theorem dX0_order_35 : decode cX0_order 35 = .ok (.istore 4, 2) := dk_54 4 (dk_at dksX0_order_1 11 rfl rfl)
theorem dX0_order_37 : decode cX0_order 37 = .ok (.iload 4, 2) := dk_21 4 (dk_at dksX0_order_1 13 rfl rfl)
theorem dX0_order_39 : decode cX0_order 39 = .ok (.iconst 5, 1) := dk_8 (dk_at dksX0_order_1 15 rfl rfl)
theorem dX0_order_40 : decode cX0_order 40 = .ok (.if_icmp .le 6, 3) := dk_164 0 6 (dk_at dksX0_order_1 16 rfl rfl)
theorem dX0_order_43 : decode cX0_order 43 = .ok (.bipush (-5), 2) := dk_16 251 (dk_at dksX0_order_1 19 rfl rfl)
theorem dX0_order_45 : decode cX0_order 45 = .ok (.ireturn, 1) := dk_172 (dk_at dksX0_order_1 21 rfl rfl)
theorem dX0_order_46 : decode cX0_order 46 = .ok (.iload_n 3, 1) := dk_29 (dk_at dksX0_order_1 22 rfl rfl)
theorem dX0_order_47 : decode cX0_order 47 = .ok (.iload 4, 2) := dk_21 4 (dk_at dksX0_order_2 0 rfl rfl)
theorem dX0_order_49 : decode cX0_order 49 = .ok (.if_icmp .lt 6, 3) := dk_161 0 6 (dk_at dksX0_order_2 2 rfl rfl)
theorem dX0_order_52 : decode cX0_order 52 = .ok (.bipush (-2), 2) := dk_16 254 (dk_at dksX0_order_2 5 rfl rfl)
theorem dX0_order_54 : decode cX0_order 54 = .ok (.ireturn, 1) := dk_172 (dk_at dksX0_order_2 7 rfl rfl)
theorem dX0_order_55 : decode cX0_order 55 = .ok (.aload_n 0, 1) := dk_42 (dk_at dksX0_order_2 8 rfl rfl)
theorem dX0_order_56 : decode cX0_order 56 = .ok (.iconst 0, 1) := dk_3 (dk_at dksX0_order_2 9 rfl rfl)
theorem dX0_order_57 : decode cX0_order 57 = .ok (.putfield 275, 3) := dk_181 1 19 (dk_at dksX0_order_2 10 rfl rfl)
theorem dX0_order_60 : decode cX0_order 60 = .ok (.aload_n 0, 1) := dk_42 (dk_at dksX0_order_2 13 rfl rfl)
theorem dX0_order_61 : decode cX0_order 61 = .ok (.iconst (-1), 1) := dk_2 (dk_at dksX0_order_2 14 rfl rfl)
theorem dX0_order_62 : decode cX0_order 62 = .ok (.putfield 322, 3) := dk_181 1 66 (dk_at dksX0_order_2 15 rfl rfl)
theorem dX0_order_65 : decode cX0_order 65 = .ok (.aload_n 0, 1) := dk_42 (dk_at dksX0_order_2 18 rfl rfl)
theorem dX0_order_66 : decode cX0_order 66 = .ok (.iload_n 1, 1) := dk_27 (dk_at dksX0_order_2 19 rfl rfl)
theorem dX0_order_67 : decode cX0_order 67 = .ok (.iload_n 2, 1) := dk_28 (dk_at dksX0_order_2 20 rfl rfl)
theorem dX0_order_68 : decode cX0_order 68 = .ok (.invokevirtual 328, 3) := dk_182 1 72 (dk_at dksX0_order_2 21 rfl rfl)
theorem dX0_order_71 : decode cX0_order 71 = .ok (.iload_n 3, 1) := dk_29 (dk_at dksX0_order_3 0 rfl rfl)
theorem dX0_order_72 : decode cX0_order 72 = .ok (.ifCond .ge 10, 3) := dk_156 0 10 (dk_at dksX0_order_3 1 rfl rfl)
theorem dX0_order_75 : decode cX0_order 75 = .ok (.aload_n 0, 1) := dk_42 (dk_at dksX0_order_3 4 rfl rfl)
theorem dX0_order_76 : decode cX0_order 76 = .ok (.getfield 322, 3) := dk_180 1 66 (dk_at dksX0_order_3 5 rfl rfl)
theorem dX0_order_79 : decode cX0_order 79 = .ok (.goto 9, 3) := dk_167 0 9 (dk_at dksX0_order_3 8 rfl rfl)
theorem dX0_order_82 : decode cX0_order 82 = .ok (.aload_n 0, 1) := dk_42 (dk_at dksX0_order_3 11 rfl rfl)
theorem dX0_order_83 : decode cX0_order 83 = .ok (.getfield 187, 3) := dk_180 0 187 (dk_at dksX0_order_3 12 rfl rfl)
theorem dX0_order_86 : decode cX0_order 86 = .ok (.iload_n 3, 1) := dk_29 (dk_at dksX0_order_3 15 rfl rfl)
theorem dX0_order_87 : decode cX0_order 87 = .ok (.iaload, 1) := dk_46 (dk_at dksX0_order_3 16 rfl rfl)
theorem dX0_order_88 : decode cX0_order 88 = .ok (.ireturn, 1) := dk_172 (dk_at dksX0_order_3 17 rfl rfl)
def dkwX0_orderOn_5 : List UInt8 := [180, 1, 19, 4, 100, 181, 1, 19, 132, 3, 1, 167, 255, 192, 177]
abbrev dktX0_orderOn_5 : List UInt8 := dkwX0_orderOn_5 ++ []
def dkwX0_orderOn_4 : List UInt8 := [180, 1, 19, 4, 96, 181, 1, 19, 42, 27, 4, 29, 120, 2, 130, 126, 28, 182, 1, 72, 42, 89]
abbrev dktX0_orderOn_4 : List UInt8 := dkwX0_orderOn_4 ++ dktX0_orderOn_5
def dkwX0_orderOn_3 : List UInt8 := [27, 29, 184, 1, 69, 154, 0, 6, 167, 0, 45, 42, 180, 0, 183, 42, 180, 1, 19, 29, 79, 42, 89]
abbrev dktX0_orderOn_3 : List UInt8 := dkwX0_orderOn_3 ++ dktX0_orderOn_4
def dkwX0_orderOn_2 : List UInt8 := [180, 0, 183, 21, 4, 46, 79, 132, 4, 1, 167, 255, 230, 177, 3, 62, 29, 42, 180, 0, 1, 162, 0, 62]
abbrev dktX0_orderOn_2 : List UInt8 := dkwX0_orderOn_2 ++ dktX0_orderOn_3
def dkwX0_orderOn_1 : List UInt8 := [29, 181, 1, 66, 3, 54, 4, 21, 4, 42, 180, 1, 19, 162, 0, 23, 42, 180, 0, 187, 21, 4, 42]
abbrev dktX0_orderOn_1 : List UInt8 := dkwX0_orderOn_1 ++ dktX0_orderOn_2
def dkwX0_orderOn_0 : List UInt8 := [27, 154, 0, 60, 42, 182, 1, 46, 180, 0, 207, 28, 46, 62, 29, 42, 180, 1, 66, 163, 0, 4, 177, 42]
abbrev dktX0_orderOn_0 : List UInt8 := dkwX0_orderOn_0 ++ dktX0_orderOn_1
theorem dksX0_orderOn_0 : cX0_orderOn.data.toList.drop 0 = dktX0_orderOn_0 := by decide +kernel
theorem dksX0_orderOn_1 : cX0_orderOn.data.toList.drop 24 = dktX0_orderOn_1 := dk_seg dksX0_orderOn_0 24 rfl rfl
theorem dksX0_orderOn_2 : cX0_orderOn.data.toList.drop 47 = dktX0_orderOn_2 := dk_seg dksX0_orderOn_1 23 rfl rfl
theorem dksX0_orderOn_3 : cX0_orderOn.data.toList.drop 71 = dktX0_orderOn_3 := dk_seg dksX0_orderOn_2 24 rfl rfl
theorem dksX0_orderOn_4 : cX0_orderOn.data.toList.drop 94 = dktX0_orderOn_4 := dk_seg dksX0_orderOn_3 23 rfl rfl
theorem dksX0_orderOn_5 : cX0_orderOn.data.toList.drop 116 = dktX0_orderOn_5 := dk_seg dksX0_orderOn_4 22 rfl rfl
theorem dX0_orderOn_0 : decode cX0_orderOn 0 = .ok (.iload_n 1, 1) := dk_27 (dk_at dksX0_orderOn_0 0 rfl rfl)
theorem dX0_orderOn_1 : decode cX0_orderOn 1 = .ok (.ifCond .ne 60, 3) := dk_154 0 60 (dk_at dksX0_orderOn_0 1 rfl rfl)
theorem dX0_orderOn_4 : decode cX0_orderOn 4 = .ok (.aload_n 0, 1) := dk_42 (dk_at dksX0_orderOn_0 4 rfl rfl)
theorem dX0_orderOn_5 : decode cX0_orderOn 5 = .ok (.invokevirtual 302, 3) := dk_182 1 46 (dk_at dksX0_orderOn_0 5 rfl rfl)
theorem dX0_orderOn_8 : decode cX0_orderOn 8 = .ok (.getfield 207, 3) := dk_180 0 207 (dk_at dksX0_orderOn_0 8 rfl rfl)
theorem dX0_orderOn_11 : decode cX0_orderOn 11 = .ok (.iload_n 2, 1) := dk_28 (dk_at dksX0_orderOn_0 11 rfl rfl)
theorem dX0_orderOn_12 : decode cX0_orderOn 12 = .ok (.iaload, 1) := dk_46 (dk_at dksX0_orderOn_0 12 rfl rfl)
theorem dX0_orderOn_13 : decode cX0_orderOn 13 = .ok (.istore_n 3, 1) := dk_62 (dk_at dksX0_orderOn_0 13 rfl rfl)
theorem dX0_orderOn_14 : decode cX0_orderOn 14 = .ok (.iload_n 3, 1) := dk_29 (dk_at dksX0_orderOn_0 14 rfl rfl)
theorem dX0_orderOn_15 : decode cX0_orderOn 15 = .ok (.aload_n 0, 1) := dk_42 (dk_at dksX0_orderOn_0 15 rfl rfl)
theorem dX0_orderOn_16 : decode cX0_orderOn 16 = .ok (.getfield 322, 3) := dk_180 1 66 (dk_at dksX0_orderOn_0 16 rfl rfl)
theorem dX0_orderOn_19 : decode cX0_orderOn 19 = .ok (.if_icmp .gt 4, 3) := dk_163 0 4 (dk_at dksX0_orderOn_0 19 rfl rfl)
theorem dX0_orderOn_22 : decode cX0_orderOn 22 = .ok (.return_, 1) := dk_177 (dk_at dksX0_orderOn_0 22 rfl rfl)
theorem dX0_orderOn_23 : decode cX0_orderOn 23 = .ok (.aload_n 0, 1) := dk_42 (dk_at dksX0_orderOn_0 23 rfl rfl)
theorem dX0_orderOn_24 : decode cX0_orderOn 24 = .ok (.iload_n 3, 1) := dk_29 (dk_at dksX0_orderOn_1 0 rfl rfl)
theorem dX0_orderOn_25 : decode cX0_orderOn 25 = .ok (.putfield 322, 3) := dk_181 1 66 (dk_at dksX0_orderOn_1 1 rfl rfl)
theorem dX0_orderOn_28 : decode cX0_orderOn 28 = .ok (.iconst 0, 1) := dk_3 (dk_at dksX0_orderOn_1 4 rfl rfl)
theorem dX0_orderOn_29 : decode cX0_orderOn 29 = .ok (.istore 4, 2) := dk_54 4 (dk_at dksX0_orderOn_1 5 rfl rfl)
theorem dX0_orderOn_31 : decode cX0_orderOn 31 = .ok (.iload 4, 2) := dk_21 4 (dk_at dksX0_orderOn_1 7 rfl rfl)
theorem dX0_orderOn_33 : decode cX0_orderOn 33 = .ok (.aload_n 0, 1) := dk_42 (dk_at dksX0_orderOn_1 9 rfl rfl)
theorem dX0_orderOn_34 : decode cX0_orderOn 34 = .ok (.getfield 275, 3) := dk_180 1 19 (dk_at dksX0_orderOn_1 10 rfl rfl)
theorem dX0_orderOn_37 : decode cX0_orderOn 37 = .ok (.if_icmp .ge 23, 3) := dk_162 0 23 (dk_at dksX0_orderOn_1 13 rfl rfl)
theorem dX0_orderOn_40 : decode cX0_orderOn 40 = .ok (.aload_n 0, 1) := dk_42 (dk_at dksX0_orderOn_1 16 rfl rfl)
theorem dX0_orderOn_41 : decode cX0_orderOn 41 = .ok (.getfield 187, 3) := dk_180 0 187 (dk_at dksX0_orderOn_1 17 rfl rfl)
theorem dX0_orderOn_44 : decode cX0_orderOn 44 = .ok (.iload 4, 2) := dk_21 4 (dk_at dksX0_orderOn_1 20 rfl rfl)
theorem dX0_orderOn_46 : decode cX0_orderOn 46 = .ok (.aload_n 0, 1) := dk_42 (dk_at dksX0_orderOn_1 22 rfl rfl)
theorem dX0_orderOn_47 : decode cX0_orderOn 47 = .ok (.getfield 183, 3) := dk_180 0 183 (dk_at dksX0_orderOn_2 0 rfl rfl)
theorem dX0_orderOn_50 : decode cX0_orderOn 50 = .ok (.iload 4, 2) := dk_21 4 (dk_at dksX0_orderOn_2 3 rfl rfl)
theorem dX0_orderOn_52 : decode cX0_orderOn 52 = .ok (.iaload, 1) := dk_46 (dk_at dksX0_orderOn_2 5 rfl rfl)
theorem dX0_orderOn_53 : decode cX0_orderOn 53 = .ok (.iastore, 1) := dk_79 (dk_at dksX0_orderOn_2 6 rfl rfl)
theorem dX0_orderOn_54 : decode cX0_orderOn 54 = .ok (.iinc 4 1, 3) := dk_132 4 1 (dk_at dksX0_orderOn_2 7 rfl rfl)
theorem dX0_orderOn_57 : decode cX0_orderOn 57 = .ok (.goto (-26), 3) := dk_167 255 230 (dk_at dksX0_orderOn_2 10 rfl rfl)
theorem dX0_orderOn_60 : decode cX0_orderOn 60 = .ok (.return_, 1) := dk_177 (dk_at dksX0_orderOn_2 13 rfl rfl)
theorem dX0_orderOn_61 : decode cX0_orderOn 61 = .ok (.iconst 0, 1) := dk_3 (dk_at dksX0_orderOn_2 14 rfl rfl)
theorem dX0_orderOn_62 : decode cX0_orderOn 62 = .ok (.istore_n 3, 1) := dk_62 (dk_at dksX0_orderOn_2 15 rfl rfl)
theorem dX0_orderOn_63 : decode cX0_orderOn 63 = .ok (.iload_n 3, 1) := dk_29 (dk_at dksX0_orderOn_2 16 rfl rfl)
theorem dX0_orderOn_64 : decode cX0_orderOn 64 = .ok (.aload_n 0, 1) := dk_42 (dk_at dksX0_orderOn_2 17 rfl rfl)
theorem dX0_orderOn_65 : decode cX0_orderOn 65 = .ok (.getfield 1, 3) := dk_180 0 1 (dk_at dksX0_orderOn_2 18 rfl rfl)
theorem dX0_orderOn_68 : decode cX0_orderOn 68 = .ok (.if_icmp .ge 62, 3) := dk_162 0 62 (dk_at dksX0_orderOn_2 21 rfl rfl)
theorem dX0_orderOn_71 : decode cX0_orderOn 71 = .ok (.iload_n 1, 1) := dk_27 (dk_at dksX0_orderOn_3 0 rfl rfl)
theorem dX0_orderOn_72 : decode cX0_orderOn 72 = .ok (.iload_n 3, 1) := dk_29 (dk_at dksX0_orderOn_3 1 rfl rfl)
theorem dX0_orderOn_73 : decode cX0_orderOn 73 = .ok (.invokestatic 325, 3) := dk_184 1 69 (dk_at dksX0_orderOn_3 2 rfl rfl)
theorem dX0_orderOn_76 : decode cX0_orderOn 76 = .ok (.ifCond .ne 6, 3) := dk_154 0 6 (dk_at dksX0_orderOn_3 5 rfl rfl)
theorem dX0_orderOn_79 : decode cX0_orderOn 79 = .ok (.goto 45, 3) := dk_167 0 45 (dk_at dksX0_orderOn_3 8 rfl rfl)
theorem dX0_orderOn_82 : decode cX0_orderOn 82 = .ok (.aload_n 0, 1) := dk_42 (dk_at dksX0_orderOn_3 11 rfl rfl)
theorem dX0_orderOn_83 : decode cX0_orderOn 83 = .ok (.getfield 183, 3) := dk_180 0 183 (dk_at dksX0_orderOn_3 12 rfl rfl)
theorem dX0_orderOn_86 : decode cX0_orderOn 86 = .ok (.aload_n 0, 1) := dk_42 (dk_at dksX0_orderOn_3 15 rfl rfl)
theorem dX0_orderOn_87 : decode cX0_orderOn 87 = .ok (.getfield 275, 3) := dk_180 1 19 (dk_at dksX0_orderOn_3 16 rfl rfl)
theorem dX0_orderOn_90 : decode cX0_orderOn 90 = .ok (.iload_n 3, 1) := dk_29 (dk_at dksX0_orderOn_3 19 rfl rfl)
theorem dX0_orderOn_91 : decode cX0_orderOn 91 = .ok (.iastore, 1) := dk_79 (dk_at dksX0_orderOn_3 20 rfl rfl)
theorem dX0_orderOn_92 : decode cX0_orderOn 92 = .ok (.aload_n 0, 1) := dk_42 (dk_at dksX0_orderOn_3 21 rfl rfl)
theorem dX0_orderOn_93 : decode cX0_orderOn 93 = .ok (.dup, 1) := dk_89 (dk_at dksX0_orderOn_3 22 rfl rfl)
theorem dX0_orderOn_94 : decode cX0_orderOn 94 = .ok (.getfield 275, 3) := dk_180 1 19 (dk_at dksX0_orderOn_4 0 rfl rfl)
theorem dX0_orderOn_97 : decode cX0_orderOn 97 = .ok (.iconst 1, 1) := dk_4 (dk_at dksX0_orderOn_4 3 rfl rfl)
theorem dX0_orderOn_98 : decode cX0_orderOn 98 = .ok (.iadd, 1) := dk_96 (dk_at dksX0_orderOn_4 4 rfl rfl)
theorem dX0_orderOn_99 : decode cX0_orderOn 99 = .ok (.putfield 275, 3) := dk_181 1 19 (dk_at dksX0_orderOn_4 5 rfl rfl)
theorem dX0_orderOn_102 : decode cX0_orderOn 102 = .ok (.aload_n 0, 1) := dk_42 (dk_at dksX0_orderOn_4 8 rfl rfl)
theorem dX0_orderOn_103 : decode cX0_orderOn 103 = .ok (.iload_n 1, 1) := dk_27 (dk_at dksX0_orderOn_4 9 rfl rfl)
theorem dX0_orderOn_104 : decode cX0_orderOn 104 = .ok (.iconst 1, 1) := dk_4 (dk_at dksX0_orderOn_4 10 rfl rfl)
theorem dX0_orderOn_105 : decode cX0_orderOn 105 = .ok (.iload_n 3, 1) := dk_29 (dk_at dksX0_orderOn_4 11 rfl rfl)
theorem dX0_orderOn_106 : decode cX0_orderOn 106 = .ok (.ishl, 1) := dk_120 (dk_at dksX0_orderOn_4 12 rfl rfl)
theorem dX0_orderOn_107 : decode cX0_orderOn 107 = .ok (.iconst (-1), 1) := dk_2 (dk_at dksX0_orderOn_4 13 rfl rfl)
theorem dX0_orderOn_108 : decode cX0_orderOn 108 = .ok (.ixor, 1) := dk_130 (dk_at dksX0_orderOn_4 14 rfl rfl)
theorem dX0_orderOn_109 : decode cX0_orderOn 109 = .ok (.iand, 1) := dk_126 (dk_at dksX0_orderOn_4 15 rfl rfl)
theorem dX0_orderOn_110 : decode cX0_orderOn 110 = .ok (.iload_n 2, 1) := dk_28 (dk_at dksX0_orderOn_4 16 rfl rfl)
theorem dX0_orderOn_111 : decode cX0_orderOn 111 = .ok (.invokevirtual 328, 3) := dk_182 1 72 (dk_at dksX0_orderOn_4 17 rfl rfl)
theorem dX0_orderOn_114 : decode cX0_orderOn 114 = .ok (.aload_n 0, 1) := dk_42 (dk_at dksX0_orderOn_4 20 rfl rfl)
theorem dX0_orderOn_115 : decode cX0_orderOn 115 = .ok (.dup, 1) := dk_89 (dk_at dksX0_orderOn_4 21 rfl rfl)
theorem dX0_orderOn_116 : decode cX0_orderOn 116 = .ok (.getfield 275, 3) := dk_180 1 19 (dk_at dksX0_orderOn_5 0 rfl rfl)
theorem dX0_orderOn_119 : decode cX0_orderOn 119 = .ok (.iconst 1, 1) := dk_4 (dk_at dksX0_orderOn_5 3 rfl rfl)
theorem dX0_orderOn_120 : decode cX0_orderOn 120 = .ok (.isub, 1) := dk_100 (dk_at dksX0_orderOn_5 4 rfl rfl)
theorem dX0_orderOn_121 : decode cX0_orderOn 121 = .ok (.putfield 275, 3) := dk_181 1 19 (dk_at dksX0_orderOn_5 5 rfl rfl)
theorem dX0_orderOn_124 : decode cX0_orderOn 124 = .ok (.iinc 3 1, 3) := dk_132 3 1 (dk_at dksX0_orderOn_5 8 rfl rfl)
theorem dX0_orderOn_127 : decode cX0_orderOn 127 = .ok (.goto (-64), 3) := dk_167 255 192 (dk_at dksX0_orderOn_5 11 rfl rfl)
theorem dX0_orderOn_130 : decode cX0_orderOn 130 = .ok (.return_, 1) := dk_177 (dk_at dksX0_orderOn_5 14 rfl rfl)
def dkwX0_has_0 : List UInt8 := [26, 27, 122, 4, 126, 4, 160, 0, 7, 4, 167, 0, 4, 3, 172]
abbrev dktX0_has_0 : List UInt8 := dkwX0_has_0 ++ []
theorem dksX0_has_0 : cX0_has.data.toList.drop 0 = dktX0_has_0 := by decide +kernel
theorem dX0_has_0 : decode cX0_has 0 = .ok (.iload_n 0, 1) := dk_26 (dk_at dksX0_has_0 0 rfl rfl)
theorem dX0_has_1 : decode cX0_has 1 = .ok (.iload_n 1, 1) := dk_27 (dk_at dksX0_has_0 1 rfl rfl)
theorem dX0_has_2 : decode cX0_has 2 = .ok (.ishr, 1) := dk_122 (dk_at dksX0_has_0 2 rfl rfl)
theorem dX0_has_3 : decode cX0_has 3 = .ok (.iconst 1, 1) := dk_4 (dk_at dksX0_has_0 3 rfl rfl)
theorem dX0_has_4 : decode cX0_has 4 = .ok (.iand, 1) := dk_126 (dk_at dksX0_has_0 4 rfl rfl)
theorem dX0_has_5 : decode cX0_has 5 = .ok (.iconst 1, 1) := dk_4 (dk_at dksX0_has_0 5 rfl rfl)
theorem dX0_has_6 : decode cX0_has 6 = .ok (.if_icmp .ne 7, 3) := dk_160 0 7 (dk_at dksX0_has_0 6 rfl rfl)
theorem dX0_has_9 : decode cX0_has 9 = .ok (.iconst 1, 1) := dk_4 (dk_at dksX0_has_0 9 rfl rfl)
theorem dX0_has_10 : decode cX0_has 10 = .ok (.goto 4, 3) := dk_167 0 4 (dk_at dksX0_has_0 10 rfl rfl)
theorem dX0_has_13 : decode cX0_has 13 = .ok (.iconst 0, 1) := dk_3 (dk_at dksX0_has_0 13 rfl rfl)
theorem dX0_has_14 : decode cX0_has 14 = .ok (.ireturn, 1) := dk_172 (dk_at dksX0_has_0 14 rfl rfl)
def dkwX0_flow_2 : List UInt8 := [172]
abbrev dktX0_flow_2 : List UInt8 := dkwX0_flow_2 ++ []
def dkwX0_flow_1 : List UInt8 := [156, 0, 5, 29, 172, 42, 182, 1, 46, 87, 42, 180, 0, 180, 28, 16, 10, 108, 50, 28, 16, 10, 112, 46]
abbrev dktX0_flow_1 : List UInt8 := dkwX0_flow_1 ++ dktX0_flow_2
def dkwX0_flow_0 : List UInt8 := [27, 184, 0, 29, 153, 0, 11, 42, 28, 182, 1, 80, 154, 0, 5, 2, 172, 42, 27, 182, 1, 42, 62, 29]
abbrev dktX0_flow_0 : List UInt8 := dkwX0_flow_0 ++ dktX0_flow_1
theorem dksX0_flow_0 : cX0_flow.data.toList.drop 0 = dktX0_flow_0 := by decide +kernel
theorem dksX0_flow_1 : cX0_flow.data.toList.drop 24 = dktX0_flow_1 := dk_seg dksX0_flow_0 24 rfl rfl
theorem dksX0_flow_2 : cX0_flow.data.toList.drop 48 = dktX0_flow_2 := dk_seg dksX0_flow_1 24 rfl rfl
theorem dX0_flow_0 : decode cX0_flow 0 = .ok (.iload_n 1, 1) := dk_27 (dk_at dksX0_flow_0 0 rfl rfl)
theorem dX0_flow_1 : decode cX0_flow 1 = .ok (.invokestatic 29, 3) := dk_184 0 29 (dk_at dksX0_flow_0 1 rfl rfl)
theorem dX0_flow_4 : decode cX0_flow 4 = .ok (.ifCond .eq 11, 3) := dk_153 0 11 (dk_at dksX0_flow_0 4 rfl rfl)
theorem dX0_flow_7 : decode cX0_flow 7 = .ok (.aload_n 0, 1) := dk_42 (dk_at dksX0_flow_0 7 rfl rfl)
theorem dX0_flow_8 : decode cX0_flow 8 = .ok (.iload_n 2, 1) := dk_28 (dk_at dksX0_flow_0 8 rfl rfl)
theorem dX0_flow_9 : decode cX0_flow 9 = .ok (.invokevirtual 336, 3) := dk_182 1 80 (dk_at dksX0_flow_0 9 rfl rfl)
theorem dX0_flow_12 : decode cX0_flow 12 = .ok (.ifCond .ne 5, 3) := dk_154 0 5 (dk_at dksX0_flow_0 12 rfl rfl)
theorem dX0_flow_15 : decode cX0_flow 15 = .ok (.iconst (-1), 1) := dk_2 (dk_at dksX0_flow_0 15 rfl rfl)
theorem dX0_flow_16 : decode cX0_flow 16 = .ok (.ireturn, 1) := dk_172 (dk_at dksX0_flow_0 16 rfl rfl)
theorem dX0_flow_17 : decode cX0_flow 17 = .ok (.aload_n 0, 1) := dk_42 (dk_at dksX0_flow_0 17 rfl rfl)
theorem dX0_flow_18 : decode cX0_flow 18 = .ok (.iload_n 1, 1) := dk_27 (dk_at dksX0_flow_0 18 rfl rfl)
theorem dX0_flow_19 : decode cX0_flow 19 = .ok (.invokevirtual 298, 3) := dk_182 1 42 (dk_at dksX0_flow_0 19 rfl rfl)
theorem dX0_flow_22 : decode cX0_flow 22 = .ok (.istore_n 3, 1) := dk_62 (dk_at dksX0_flow_0 22 rfl rfl)
theorem dX0_flow_23 : decode cX0_flow 23 = .ok (.iload_n 3, 1) := dk_29 (dk_at dksX0_flow_0 23 rfl rfl)
theorem dX0_flow_24 : decode cX0_flow 24 = .ok (.ifCond .ge 5, 3) := dk_156 0 5 (dk_at dksX0_flow_1 0 rfl rfl)
theorem dX0_flow_27 : decode cX0_flow 27 = .ok (.iload_n 3, 1) := dk_29 (dk_at dksX0_flow_1 3 rfl rfl)
theorem dX0_flow_28 : decode cX0_flow 28 = .ok (.ireturn, 1) := dk_172 (dk_at dksX0_flow_1 4 rfl rfl)
theorem dX0_flow_29 : decode cX0_flow 29 = .ok (.aload_n 0, 1) := dk_42 (dk_at dksX0_flow_1 5 rfl rfl)
theorem dX0_flow_30 : decode cX0_flow 30 = .ok (.invokevirtual 302, 3) := dk_182 1 46 (dk_at dksX0_flow_1 6 rfl rfl)
theorem dX0_flow_33 : decode cX0_flow 33 = .ok (.pop, 1) := dk_87 (dk_at dksX0_flow_1 9 rfl rfl)
theorem dX0_flow_34 : decode cX0_flow 34 = .ok (.aload_n 0, 1) := dk_42 (dk_at dksX0_flow_1 10 rfl rfl)
theorem dX0_flow_35 : decode cX0_flow 35 = .ok (.getfield 180, 3) := dk_180 0 180 (dk_at dksX0_flow_1 11 rfl rfl)
theorem dX0_flow_38 : decode cX0_flow 38 = .ok (.iload_n 2, 1) := dk_28 (dk_at dksX0_flow_1 14 rfl rfl)
theorem dX0_flow_39 : decode cX0_flow 39 = .ok (.bipush 10, 2) := dk_16 10 (dk_at dksX0_flow_1 15 rfl rfl)
theorem dX0_flow_41 : decode cX0_flow 41 = .ok (.idiv, 1) := dk_108 (dk_at dksX0_flow_1 17 rfl rfl)
theorem dX0_flow_42 : decode cX0_flow 42 = .ok (.aaload, 1) := dk_50 (dk_at dksX0_flow_1 18 rfl rfl)
theorem dX0_flow_43 : decode cX0_flow 43 = .ok (.iload_n 2, 1) := dk_28 (dk_at dksX0_flow_1 19 rfl rfl)
theorem dX0_flow_44 : decode cX0_flow 44 = .ok (.bipush 10, 2) := dk_16 10 (dk_at dksX0_flow_1 20 rfl rfl)
theorem dX0_flow_46 : decode cX0_flow 46 = .ok (.irem, 1) := dk_112 (dk_at dksX0_flow_1 22 rfl rfl)
theorem dX0_flow_47 : decode cX0_flow 47 = .ok (.iaload, 1) := dk_46 (dk_at dksX0_flow_1 23 rfl rfl)
theorem dX0_flow_48 : decode cX0_flow 48 = .ok (.ireturn, 1) := dk_172 (dk_at dksX0_flow_2 0 rfl rfl)
def dkwX0_areTwo_1 : List UInt8 := [153, 0, 18, 27, 16, 10, 108, 27, 16, 10, 112, 159, 0, 7, 4, 167, 0, 4, 3, 172]
abbrev dktX0_areTwo_1 : List UInt8 := dkwX0_areTwo_1 ++ []
def dkwX0_areTwo_0 : List UInt8 := [27, 155, 0, 40, 42, 27, 16, 10, 108, 182, 0, 11, 153, 0, 29, 42, 27, 16, 10, 112, 182, 0, 11]
abbrev dktX0_areTwo_0 : List UInt8 := dkwX0_areTwo_0 ++ dktX0_areTwo_1
theorem dksX0_areTwo_0 : cX0_areTwo.data.toList.drop 0 = dktX0_areTwo_0 := by decide +kernel
theorem dksX0_areTwo_1 : cX0_areTwo.data.toList.drop 23 = dktX0_areTwo_1 := dk_seg dksX0_areTwo_0 23 rfl rfl
theorem dX0_areTwo_0 : decode cX0_areTwo 0 = .ok (.iload_n 1, 1) := dk_27 (dk_at dksX0_areTwo_0 0 rfl rfl)
theorem dX0_areTwo_1 : decode cX0_areTwo 1 = .ok (.ifCond .lt 40, 3) := dk_155 0 40 (dk_at dksX0_areTwo_0 1 rfl rfl)
theorem dX0_areTwo_4 : decode cX0_areTwo 4 = .ok (.aload_n 0, 1) := dk_42 (dk_at dksX0_areTwo_0 4 rfl rfl)
theorem dX0_areTwo_5 : decode cX0_areTwo 5 = .ok (.iload_n 1, 1) := dk_27 (dk_at dksX0_areTwo_0 5 rfl rfl)
theorem dX0_areTwo_6 : decode cX0_areTwo 6 = .ok (.bipush 10, 2) := dk_16 10 (dk_at dksX0_areTwo_0 6 rfl rfl)
theorem dX0_areTwo_8 : decode cX0_areTwo 8 = .ok (.idiv, 1) := dk_108 (dk_at dksX0_areTwo_0 8 rfl rfl)
theorem dX0_areTwo_9 : decode cX0_areTwo 9 = .ok (.invokevirtual 11, 3) := dk_182 0 11 (dk_at dksX0_areTwo_0 9 rfl rfl)
theorem dX0_areTwo_12 : decode cX0_areTwo 12 = .ok (.ifCond .eq 29, 3) := dk_153 0 29 (dk_at dksX0_areTwo_0 12 rfl rfl)
theorem dX0_areTwo_15 : decode cX0_areTwo 15 = .ok (.aload_n 0, 1) := dk_42 (dk_at dksX0_areTwo_0 15 rfl rfl)
theorem dX0_areTwo_16 : decode cX0_areTwo 16 = .ok (.iload_n 1, 1) := dk_27 (dk_at dksX0_areTwo_0 16 rfl rfl)
theorem dX0_areTwo_17 : decode cX0_areTwo 17 = .ok (.bipush 10, 2) := dk_16 10 (dk_at dksX0_areTwo_0 17 rfl rfl)
theorem dX0_areTwo_19 : decode cX0_areTwo 19 = .ok (.irem, 1) := dk_112 (dk_at dksX0_areTwo_0 19 rfl rfl)
theorem dX0_areTwo_20 : decode cX0_areTwo 20 = .ok (.invokevirtual 11, 3) := dk_182 0 11 (dk_at dksX0_areTwo_0 20 rfl rfl)
theorem dX0_areTwo_23 : decode cX0_areTwo 23 = .ok (.ifCond .eq 18, 3) := dk_153 0 18 (dk_at dksX0_areTwo_1 0 rfl rfl)
theorem dX0_areTwo_26 : decode cX0_areTwo 26 = .ok (.iload_n 1, 1) := dk_27 (dk_at dksX0_areTwo_1 3 rfl rfl)
theorem dX0_areTwo_27 : decode cX0_areTwo 27 = .ok (.bipush 10, 2) := dk_16 10 (dk_at dksX0_areTwo_1 4 rfl rfl)
theorem dX0_areTwo_29 : decode cX0_areTwo 29 = .ok (.idiv, 1) := dk_108 (dk_at dksX0_areTwo_1 6 rfl rfl)
theorem dX0_areTwo_30 : decode cX0_areTwo 30 = .ok (.iload_n 1, 1) := dk_27 (dk_at dksX0_areTwo_1 7 rfl rfl)
theorem dX0_areTwo_31 : decode cX0_areTwo 31 = .ok (.bipush 10, 2) := dk_16 10 (dk_at dksX0_areTwo_1 8 rfl rfl)
theorem dX0_areTwo_33 : decode cX0_areTwo 33 = .ok (.irem, 1) := dk_112 (dk_at dksX0_areTwo_1 10 rfl rfl)
theorem dX0_areTwo_34 : decode cX0_areTwo 34 = .ok (.if_icmp .eq 7, 3) := dk_159 0 7 (dk_at dksX0_areTwo_1 11 rfl rfl)
theorem dX0_areTwo_37 : decode cX0_areTwo 37 = .ok (.iconst 1, 1) := dk_4 (dk_at dksX0_areTwo_1 14 rfl rfl)
theorem dX0_areTwo_38 : decode cX0_areTwo 38 = .ok (.goto 4, 3) := dk_167 0 4 (dk_at dksX0_areTwo_1 15 rfl rfl)
theorem dX0_areTwo_41 : decode cX0_areTwo 41 = .ok (.iconst 0, 1) := dk_3 (dk_at dksX0_areTwo_1 18 rfl rfl)
theorem dX0_areTwo_42 : decode cX0_areTwo 42 = .ok (.ireturn, 1) := dk_172 (dk_at dksX0_areTwo_1 19 rfl rfl)
def dkwX0_round_2 : List UInt8 := [25, 4, 182, 1, 89, 172]
abbrev dktX0_round_2 : List UInt8 := dkwX0_round_2 ++ []
def dkwX0_round_1 : List UInt8 := [29, 156, 0, 5, 29, 172, 42, 182, 1, 46, 58, 4, 28, 154, 0, 10, 42, 182, 1, 86, 167, 0, 9, 42]
abbrev dktX0_round_1 : List UInt8 := dkwX0_round_1 ++ dktX0_round_2
def dkwX0_round_0 : List UInt8 := [27, 184, 0, 29, 153, 0, 12, 28, 3, 4, 184, 0, 7, 154, 0, 5, 2, 172, 42, 27, 182, 1, 42, 62]
abbrev dktX0_round_0 : List UInt8 := dkwX0_round_0 ++ dktX0_round_1
theorem dksX0_round_0 : cX0_round.data.toList.drop 0 = dktX0_round_0 := by decide +kernel
theorem dksX0_round_1 : cX0_round.data.toList.drop 24 = dktX0_round_1 := dk_seg dksX0_round_0 24 rfl rfl
theorem dksX0_round_2 : cX0_round.data.toList.drop 48 = dktX0_round_2 := dk_seg dksX0_round_1 24 rfl rfl
theorem dX0_round_0 : decode cX0_round 0 = .ok (.iload_n 1, 1) := dk_27 (dk_at dksX0_round_0 0 rfl rfl)
theorem dX0_round_1 : decode cX0_round 1 = .ok (.invokestatic 29, 3) := dk_184 0 29 (dk_at dksX0_round_0 1 rfl rfl)
theorem dX0_round_4 : decode cX0_round 4 = .ok (.ifCond .eq 12, 3) := dk_153 0 12 (dk_at dksX0_round_0 4 rfl rfl)
theorem dX0_round_7 : decode cX0_round 7 = .ok (.iload_n 2, 1) := dk_28 (dk_at dksX0_round_0 7 rfl rfl)
theorem dX0_round_8 : decode cX0_round 8 = .ok (.iconst 0, 1) := dk_3 (dk_at dksX0_round_0 8 rfl rfl)
theorem dX0_round_9 : decode cX0_round 9 = .ok (.iconst 1, 1) := dk_4 (dk_at dksX0_round_0 9 rfl rfl)
theorem dX0_round_10 : decode cX0_round 10 = .ok (.invokestatic 7, 3) := dk_184 0 7 (dk_at dksX0_round_0 10 rfl rfl)
theorem dX0_round_13 : decode cX0_round 13 = .ok (.ifCond .ne 5, 3) := dk_154 0 5 (dk_at dksX0_round_0 13 rfl rfl)
theorem dX0_round_16 : decode cX0_round 16 = .ok (.iconst (-1), 1) := dk_2 (dk_at dksX0_round_0 16 rfl rfl)
theorem dX0_round_17 : decode cX0_round 17 = .ok (.ireturn, 1) := dk_172 (dk_at dksX0_round_0 17 rfl rfl)
theorem dX0_round_18 : decode cX0_round 18 = .ok (.aload_n 0, 1) := dk_42 (dk_at dksX0_round_0 18 rfl rfl)
theorem dX0_round_19 : decode cX0_round 19 = .ok (.iload_n 1, 1) := dk_27 (dk_at dksX0_round_0 19 rfl rfl)
theorem dX0_round_20 : decode cX0_round 20 = .ok (.invokevirtual 298, 3) := dk_182 1 42 (dk_at dksX0_round_0 20 rfl rfl)
theorem dX0_round_23 : decode cX0_round 23 = .ok (.istore_n 3, 1) := dk_62 (dk_at dksX0_round_0 23 rfl rfl)
theorem dX0_round_24 : decode cX0_round 24 = .ok (.iload_n 3, 1) := dk_29 (dk_at dksX0_round_1 0 rfl rfl)
theorem dX0_round_25 : decode cX0_round 25 = .ok (.ifCond .ge 5, 3) := dk_156 0 5 (dk_at dksX0_round_1 1 rfl rfl)
theorem dX0_round_28 : decode cX0_round 28 = .ok (.iload_n 3, 1) := dk_29 (dk_at dksX0_round_1 4 rfl rfl)
theorem dX0_round_29 : decode cX0_round 29 = .ok (.ireturn, 1) := dk_172 (dk_at dksX0_round_1 5 rfl rfl)
theorem dX0_round_30 : decode cX0_round 30 = .ok (.aload_n 0, 1) := dk_42 (dk_at dksX0_round_1 6 rfl rfl)
theorem dX0_round_31 : decode cX0_round 31 = .ok (.invokevirtual 302, 3) := dk_182 1 46 (dk_at dksX0_round_1 7 rfl rfl)
theorem dX0_round_34 : decode cX0_round 34 = .ok (.astore 4, 2) := dk_58 4 (dk_at dksX0_round_1 10 rfl rfl)
theorem dX0_round_36 : decode cX0_round 36 = .ok (.iload_n 2, 1) := dk_28 (dk_at dksX0_round_1 12 rfl rfl)
theorem dX0_round_37 : decode cX0_round 37 = .ok (.ifCond .ne 10, 3) := dk_154 0 10 (dk_at dksX0_round_1 13 rfl rfl)
theorem dX0_round_40 : decode cX0_round 40 = .ok (.aload_n 0, 1) := dk_42 (dk_at dksX0_round_1 16 rfl rfl)
theorem dX0_round_41 : decode cX0_round 41 = .ok (.invokevirtual 342, 3) := dk_182 1 86 (dk_at dksX0_round_1 17 rfl rfl)
theorem dX0_round_44 : decode cX0_round 44 = .ok (.goto 9, 3) := dk_167 0 9 (dk_at dksX0_round_1 20 rfl rfl)
theorem dX0_round_47 : decode cX0_round 47 = .ok (.aload_n 0, 1) := dk_42 (dk_at dksX0_round_1 23 rfl rfl)
theorem dX0_round_48 : decode cX0_round 48 = .ok (.aload 4, 2) := dk_25 4 (dk_at dksX0_round_2 0 rfl rfl)
theorem dX0_round_50 : decode cX0_round 50 = .ok (.invokevirtual 345, 3) := dk_182 1 89 (dk_at dksX0_round_2 2 rfl rfl)
theorem dX0_round_53 : decode cX0_round 53 = .ok (.ireturn, 1) := dk_172 (dk_at dksX0_round_2 5 rfl rfl)
def dkwX0_smallestRing_2 : List UInt8 := [172]
abbrev dktX0_smallestRing_2 : List UInt8 := dkwX0_smallestRing_2 ++ []
def dkwX0_smallestRing_1 : List UInt8 := [184, 0, 232, 60, 132, 2, 1, 167, 255, 234, 27, 42, 180, 0, 1, 164, 0, 8, 16, 254, 167, 0, 4, 27]
abbrev dktX0_smallestRing_1 : List UInt8 := dkwX0_smallestRing_1 ++ dktX0_smallestRing_2
def dkwX0_smallestRing_0 : List UInt8 := [42, 180, 0, 1, 4, 96, 60, 3, 61, 28, 42, 180, 0, 1, 162, 0, 20, 27, 42, 28, 28, 182, 1, 83]
abbrev dktX0_smallestRing_0 : List UInt8 := dkwX0_smallestRing_0 ++ dktX0_smallestRing_1
theorem dksX0_smallestRing_0 : cX0_smallestRing.data.toList.drop 0 = dktX0_smallestRing_0 := by decide +kernel
theorem dksX0_smallestRing_1 : cX0_smallestRing.data.toList.drop 24 = dktX0_smallestRing_1 := dk_seg dksX0_smallestRing_0 24 rfl rfl
theorem dksX0_smallestRing_2 : cX0_smallestRing.data.toList.drop 48 = dktX0_smallestRing_2 := dk_seg dksX0_smallestRing_1 24 rfl rfl
theorem dX0_smallestRing_0 : decode cX0_smallestRing 0 = .ok (.aload_n 0, 1) := dk_42 (dk_at dksX0_smallestRing_0 0 rfl rfl)
theorem dX0_smallestRing_1 : decode cX0_smallestRing 1 = .ok (.getfield 1, 3) := dk_180 0 1 (dk_at dksX0_smallestRing_0 1 rfl rfl)
theorem dX0_smallestRing_4 : decode cX0_smallestRing 4 = .ok (.iconst 1, 1) := dk_4 (dk_at dksX0_smallestRing_0 4 rfl rfl)
theorem dX0_smallestRing_5 : decode cX0_smallestRing 5 = .ok (.iadd, 1) := dk_96 (dk_at dksX0_smallestRing_0 5 rfl rfl)
theorem dX0_smallestRing_6 : decode cX0_smallestRing 6 = .ok (.istore_n 1, 1) := dk_60 (dk_at dksX0_smallestRing_0 6 rfl rfl)
theorem dX0_smallestRing_7 : decode cX0_smallestRing 7 = .ok (.iconst 0, 1) := dk_3 (dk_at dksX0_smallestRing_0 7 rfl rfl)
theorem dX0_smallestRing_8 : decode cX0_smallestRing 8 = .ok (.istore_n 2, 1) := dk_61 (dk_at dksX0_smallestRing_0 8 rfl rfl)
theorem dX0_smallestRing_9 : decode cX0_smallestRing 9 = .ok (.iload_n 2, 1) := dk_28 (dk_at dksX0_smallestRing_0 9 rfl rfl)
theorem dX0_smallestRing_10 : decode cX0_smallestRing 10 = .ok (.aload_n 0, 1) := dk_42 (dk_at dksX0_smallestRing_0 10 rfl rfl)
theorem dX0_smallestRing_11 : decode cX0_smallestRing 11 = .ok (.getfield 1, 3) := dk_180 0 1 (dk_at dksX0_smallestRing_0 11 rfl rfl)
theorem dX0_smallestRing_14 : decode cX0_smallestRing 14 = .ok (.if_icmp .ge 20, 3) := dk_162 0 20 (dk_at dksX0_smallestRing_0 14 rfl rfl)
theorem dX0_smallestRing_17 : decode cX0_smallestRing 17 = .ok (.iload_n 1, 1) := dk_27 (dk_at dksX0_smallestRing_0 17 rfl rfl)
theorem dX0_smallestRing_18 : decode cX0_smallestRing 18 = .ok (.aload_n 0, 1) := dk_42 (dk_at dksX0_smallestRing_0 18 rfl rfl)
theorem dX0_smallestRing_19 : decode cX0_smallestRing 19 = .ok (.iload_n 2, 1) := dk_28 (dk_at dksX0_smallestRing_0 19 rfl rfl)
theorem dX0_smallestRing_20 : decode cX0_smallestRing 20 = .ok (.iload_n 2, 1) := dk_28 (dk_at dksX0_smallestRing_0 20 rfl rfl)
theorem dX0_smallestRing_21 : decode cX0_smallestRing 21 = .ok (.invokevirtual 339, 3) := dk_182 1 83 (dk_at dksX0_smallestRing_0 21 rfl rfl)
theorem dX0_smallestRing_24 : decode cX0_smallestRing 24 = .ok (.invokestatic 232, 3) := dk_184 0 232 (dk_at dksX0_smallestRing_1 0 rfl rfl)
theorem dX0_smallestRing_27 : decode cX0_smallestRing 27 = .ok (.istore_n 1, 1) := dk_60 (dk_at dksX0_smallestRing_1 3 rfl rfl)
theorem dX0_smallestRing_28 : decode cX0_smallestRing 28 = .ok (.iinc 2 1, 3) := dk_132 2 1 (dk_at dksX0_smallestRing_1 4 rfl rfl)
theorem dX0_smallestRing_31 : decode cX0_smallestRing 31 = .ok (.goto (-22), 3) := dk_167 255 234 (dk_at dksX0_smallestRing_1 7 rfl rfl)
theorem dX0_smallestRing_34 : decode cX0_smallestRing 34 = .ok (.iload_n 1, 1) := dk_27 (dk_at dksX0_smallestRing_1 10 rfl rfl)
theorem dX0_smallestRing_35 : decode cX0_smallestRing 35 = .ok (.aload_n 0, 1) := dk_42 (dk_at dksX0_smallestRing_1 11 rfl rfl)
theorem dX0_smallestRing_36 : decode cX0_smallestRing 36 = .ok (.getfield 1, 3) := dk_180 0 1 (dk_at dksX0_smallestRing_1 12 rfl rfl)
theorem dX0_smallestRing_39 : decode cX0_smallestRing 39 = .ok (.if_icmp .le 8, 3) := dk_164 0 8 (dk_at dksX0_smallestRing_1 15 rfl rfl)
theorem dX0_smallestRing_42 : decode cX0_smallestRing 42 = .ok (.bipush (-2), 2) := dk_16 254 (dk_at dksX0_smallestRing_1 18 rfl rfl)
theorem dX0_smallestRing_44 : decode cX0_smallestRing 44 = .ok (.goto 4, 3) := dk_167 0 4 (dk_at dksX0_smallestRing_1 20 rfl rfl)
theorem dX0_smallestRing_47 : decode cX0_smallestRing 47 = .ok (.iload_n 1, 1) := dk_27 (dk_at dksX0_smallestRing_1 23 rfl rfl)
theorem dX0_smallestRing_48 : decode cX0_smallestRing 48 = .ok (.ireturn, 1) := dk_172 (dk_at dksX0_smallestRing_2 0 rfl rfl)
def dkwX0_stepsTo_4 : List UInt8 := [153, 0, 6, 21, 4, 172, 21, 5, 62, 132, 4, 1, 167, 255, 159, 42, 180, 0, 1, 4, 96, 172]
abbrev dktX0_stepsTo_4 : List UInt8 := dkwX0_stepsTo_4 ++ []
def dkwX0_stepsTo_3 : List UInt8 := [120, 128, 54, 5, 132, 7, 1, 167, 255, 213, 132, 6, 1, 167, 255, 195, 21, 5, 28, 184, 1, 69]
abbrev dktX0_stepsTo_3 : List UInt8 := dkwX0_stepsTo_3 ++ dktX0_stepsTo_4
def dkwX0_stepsTo_2 : List UInt8 := [180, 0, 1, 162, 0, 31, 42, 180, 0, 180, 21, 6, 50, 21, 7, 46, 158, 0, 12, 21, 5, 4, 21, 7]
abbrev dktX0_stepsTo_2 : List UInt8 := dkwX0_stepsTo_2 ++ dktX0_stepsTo_3
def dkwX0_stepsTo_1 : List UInt8 := [42, 180, 0, 1, 162, 0, 58, 3, 54, 7, 29, 21, 6, 184, 1, 69, 153, 0, 40, 21, 7, 42]
abbrev dktX0_stepsTo_1 : List UInt8 := dkwX0_stepsTo_1 ++ dktX0_stepsTo_2
def dkwX0_stepsTo_0 : List UInt8 := [4, 27, 120, 62, 4, 54, 4, 21, 4, 42, 180, 0, 1, 163, 0, 94, 3, 54, 5, 3, 54, 6, 21, 6]
abbrev dktX0_stepsTo_0 : List UInt8 := dkwX0_stepsTo_0 ++ dktX0_stepsTo_1
theorem dksX0_stepsTo_0 : cX0_stepsTo.data.toList.drop 0 = dktX0_stepsTo_0 := by decide +kernel
theorem dksX0_stepsTo_1 : cX0_stepsTo.data.toList.drop 24 = dktX0_stepsTo_1 := dk_seg dksX0_stepsTo_0 24 rfl rfl
theorem dksX0_stepsTo_2 : cX0_stepsTo.data.toList.drop 46 = dktX0_stepsTo_2 := dk_seg dksX0_stepsTo_1 22 rfl rfl
theorem dksX0_stepsTo_3 : cX0_stepsTo.data.toList.drop 70 = dktX0_stepsTo_3 := dk_seg dksX0_stepsTo_2 24 rfl rfl
theorem dksX0_stepsTo_4 : cX0_stepsTo.data.toList.drop 92 = dktX0_stepsTo_4 := dk_seg dksX0_stepsTo_3 22 rfl rfl
theorem dX0_stepsTo_0 : decode cX0_stepsTo 0 = .ok (.iconst 1, 1) := dk_4 (dk_at dksX0_stepsTo_0 0 rfl rfl)
theorem dX0_stepsTo_1 : decode cX0_stepsTo 1 = .ok (.iload_n 1, 1) := dk_27 (dk_at dksX0_stepsTo_0 1 rfl rfl)
theorem dX0_stepsTo_2 : decode cX0_stepsTo 2 = .ok (.ishl, 1) := dk_120 (dk_at dksX0_stepsTo_0 2 rfl rfl)
theorem dX0_stepsTo_3 : decode cX0_stepsTo 3 = .ok (.istore_n 3, 1) := dk_62 (dk_at dksX0_stepsTo_0 3 rfl rfl)
theorem dX0_stepsTo_4 : decode cX0_stepsTo 4 = .ok (.iconst 1, 1) := dk_4 (dk_at dksX0_stepsTo_0 4 rfl rfl)
theorem dX0_stepsTo_5 : decode cX0_stepsTo 5 = .ok (.istore 4, 2) := dk_54 4 (dk_at dksX0_stepsTo_0 5 rfl rfl)
theorem dX0_stepsTo_7 : decode cX0_stepsTo 7 = .ok (.iload 4, 2) := dk_21 4 (dk_at dksX0_stepsTo_0 7 rfl rfl)
theorem dX0_stepsTo_9 : decode cX0_stepsTo 9 = .ok (.aload_n 0, 1) := dk_42 (dk_at dksX0_stepsTo_0 9 rfl rfl)
theorem dX0_stepsTo_10 : decode cX0_stepsTo 10 = .ok (.getfield 1, 3) := dk_180 0 1 (dk_at dksX0_stepsTo_0 10 rfl rfl)
theorem dX0_stepsTo_13 : decode cX0_stepsTo 13 = .ok (.if_icmp .gt 94, 3) := dk_163 0 94 (dk_at dksX0_stepsTo_0 13 rfl rfl)
theorem dX0_stepsTo_16 : decode cX0_stepsTo 16 = .ok (.iconst 0, 1) := dk_3 (dk_at dksX0_stepsTo_0 16 rfl rfl)
theorem dX0_stepsTo_17 : decode cX0_stepsTo 17 = .ok (.istore 5, 2) := dk_54 5 (dk_at dksX0_stepsTo_0 17 rfl rfl)
theorem dX0_stepsTo_19 : decode cX0_stepsTo 19 = .ok (.iconst 0, 1) := dk_3 (dk_at dksX0_stepsTo_0 19 rfl rfl)
theorem dX0_stepsTo_20 : decode cX0_stepsTo 20 = .ok (.istore 6, 2) := dk_54 6 (dk_at dksX0_stepsTo_0 20 rfl rfl)
theorem dX0_stepsTo_22 : decode cX0_stepsTo 22 = .ok (.iload 6, 2) := dk_21 6 (dk_at dksX0_stepsTo_0 22 rfl rfl)
theorem dX0_stepsTo_24 : decode cX0_stepsTo 24 = .ok (.aload_n 0, 1) := dk_42 (dk_at dksX0_stepsTo_1 0 rfl rfl)
theorem dX0_stepsTo_25 : decode cX0_stepsTo 25 = .ok (.getfield 1, 3) := dk_180 0 1 (dk_at dksX0_stepsTo_1 1 rfl rfl)
theorem dX0_stepsTo_28 : decode cX0_stepsTo 28 = .ok (.if_icmp .ge 58, 3) := dk_162 0 58 (dk_at dksX0_stepsTo_1 4 rfl rfl)
theorem dX0_stepsTo_31 : decode cX0_stepsTo 31 = .ok (.iconst 0, 1) := dk_3 (dk_at dksX0_stepsTo_1 7 rfl rfl)
theorem dX0_stepsTo_32 : decode cX0_stepsTo 32 = .ok (.istore 7, 2) := dk_54 7 (dk_at dksX0_stepsTo_1 8 rfl rfl)
theorem dX0_stepsTo_34 : decode cX0_stepsTo 34 = .ok (.iload_n 3, 1) := dk_29 (dk_at dksX0_stepsTo_1 10 rfl rfl)
theorem dX0_stepsTo_35 : decode cX0_stepsTo 35 = .ok (.iload 6, 2) := dk_21 6 (dk_at dksX0_stepsTo_1 11 rfl rfl)
theorem dX0_stepsTo_37 : decode cX0_stepsTo 37 = .ok (.invokestatic 325, 3) := dk_184 1 69 (dk_at dksX0_stepsTo_1 13 rfl rfl)
theorem dX0_stepsTo_40 : decode cX0_stepsTo 40 = .ok (.ifCond .eq 40, 3) := dk_153 0 40 (dk_at dksX0_stepsTo_1 16 rfl rfl)
theorem dX0_stepsTo_43 : decode cX0_stepsTo 43 = .ok (.iload 7, 2) := dk_21 7 (dk_at dksX0_stepsTo_1 19 rfl rfl)
theorem dX0_stepsTo_45 : decode cX0_stepsTo 45 = .ok (.aload_n 0, 1) := dk_42 (dk_at dksX0_stepsTo_1 21 rfl rfl)
theorem dX0_stepsTo_46 : decode cX0_stepsTo 46 = .ok (.getfield 1, 3) := dk_180 0 1 (dk_at dksX0_stepsTo_2 0 rfl rfl)
theorem dX0_stepsTo_49 : decode cX0_stepsTo 49 = .ok (.if_icmp .ge 31, 3) := dk_162 0 31 (dk_at dksX0_stepsTo_2 3 rfl rfl)
theorem dX0_stepsTo_52 : decode cX0_stepsTo 52 = .ok (.aload_n 0, 1) := dk_42 (dk_at dksX0_stepsTo_2 6 rfl rfl)
theorem dX0_stepsTo_53 : decode cX0_stepsTo 53 = .ok (.getfield 180, 3) := dk_180 0 180 (dk_at dksX0_stepsTo_2 7 rfl rfl)
theorem dX0_stepsTo_56 : decode cX0_stepsTo 56 = .ok (.iload 6, 2) := dk_21 6 (dk_at dksX0_stepsTo_2 10 rfl rfl)
theorem dX0_stepsTo_58 : decode cX0_stepsTo 58 = .ok (.aaload, 1) := dk_50 (dk_at dksX0_stepsTo_2 12 rfl rfl)
theorem dX0_stepsTo_59 : decode cX0_stepsTo 59 = .ok (.iload 7, 2) := dk_21 7 (dk_at dksX0_stepsTo_2 13 rfl rfl)
theorem dX0_stepsTo_61 : decode cX0_stepsTo 61 = .ok (.iaload, 1) := dk_46 (dk_at dksX0_stepsTo_2 15 rfl rfl)
theorem dX0_stepsTo_62 : decode cX0_stepsTo 62 = .ok (.ifCond .le 12, 3) := dk_158 0 12 (dk_at dksX0_stepsTo_2 16 rfl rfl)
theorem dX0_stepsTo_65 : decode cX0_stepsTo 65 = .ok (.iload 5, 2) := dk_21 5 (dk_at dksX0_stepsTo_2 19 rfl rfl)
theorem dX0_stepsTo_67 : decode cX0_stepsTo 67 = .ok (.iconst 1, 1) := dk_4 (dk_at dksX0_stepsTo_2 21 rfl rfl)
theorem dX0_stepsTo_68 : decode cX0_stepsTo 68 = .ok (.iload 7, 2) := dk_21 7 (dk_at dksX0_stepsTo_2 22 rfl rfl)
theorem dX0_stepsTo_70 : decode cX0_stepsTo 70 = .ok (.ishl, 1) := dk_120 (dk_at dksX0_stepsTo_3 0 rfl rfl)
theorem dX0_stepsTo_71 : decode cX0_stepsTo 71 = .ok (.ior, 1) := dk_128 (dk_at dksX0_stepsTo_3 1 rfl rfl)
theorem dX0_stepsTo_72 : decode cX0_stepsTo 72 = .ok (.istore 5, 2) := dk_54 5 (dk_at dksX0_stepsTo_3 2 rfl rfl)
theorem dX0_stepsTo_74 : decode cX0_stepsTo 74 = .ok (.iinc 7 1, 3) := dk_132 7 1 (dk_at dksX0_stepsTo_3 4 rfl rfl)
theorem dX0_stepsTo_77 : decode cX0_stepsTo 77 = .ok (.goto (-43), 3) := dk_167 255 213 (dk_at dksX0_stepsTo_3 7 rfl rfl)
theorem dX0_stepsTo_80 : decode cX0_stepsTo 80 = .ok (.iinc 6 1, 3) := dk_132 6 1 (dk_at dksX0_stepsTo_3 10 rfl rfl)
theorem dX0_stepsTo_83 : decode cX0_stepsTo 83 = .ok (.goto (-61), 3) := dk_167 255 195 (dk_at dksX0_stepsTo_3 13 rfl rfl)
theorem dX0_stepsTo_86 : decode cX0_stepsTo 86 = .ok (.iload 5, 2) := dk_21 5 (dk_at dksX0_stepsTo_3 16 rfl rfl)
theorem dX0_stepsTo_88 : decode cX0_stepsTo 88 = .ok (.iload_n 2, 1) := dk_28 (dk_at dksX0_stepsTo_3 18 rfl rfl)
theorem dX0_stepsTo_89 : decode cX0_stepsTo 89 = .ok (.invokestatic 325, 3) := dk_184 1 69 (dk_at dksX0_stepsTo_3 19 rfl rfl)
theorem dX0_stepsTo_92 : decode cX0_stepsTo 92 = .ok (.ifCond .eq 6, 3) := dk_153 0 6 (dk_at dksX0_stepsTo_4 0 rfl rfl)
theorem dX0_stepsTo_95 : decode cX0_stepsTo 95 = .ok (.iload 4, 2) := dk_21 4 (dk_at dksX0_stepsTo_4 3 rfl rfl)
theorem dX0_stepsTo_97 : decode cX0_stepsTo 97 = .ok (.ireturn, 1) := dk_172 (dk_at dksX0_stepsTo_4 5 rfl rfl)
theorem dX0_stepsTo_98 : decode cX0_stepsTo 98 = .ok (.iload 5, 2) := dk_21 5 (dk_at dksX0_stepsTo_4 6 rfl rfl)
theorem dX0_stepsTo_100 : decode cX0_stepsTo 100 = .ok (.istore_n 3, 1) := dk_62 (dk_at dksX0_stepsTo_4 8 rfl rfl)
theorem dX0_stepsTo_101 : decode cX0_stepsTo 101 = .ok (.iinc 4 1, 3) := dk_132 4 1 (dk_at dksX0_stepsTo_4 9 rfl rfl)
theorem dX0_stepsTo_104 : decode cX0_stepsTo 104 = .ok (.goto (-97), 3) := dk_167 255 159 (dk_at dksX0_stepsTo_4 12 rfl rfl)
theorem dX0_stepsTo_107 : decode cX0_stepsTo 107 = .ok (.aload_n 0, 1) := dk_42 (dk_at dksX0_stepsTo_4 15 rfl rfl)
theorem dX0_stepsTo_108 : decode cX0_stepsTo 108 = .ok (.getfield 1, 3) := dk_180 0 1 (dk_at dksX0_stepsTo_4 16 rfl rfl)
theorem dX0_stepsTo_111 : decode cX0_stepsTo 111 = .ok (.iconst 1, 1) := dk_4 (dk_at dksX0_stepsTo_4 19 rfl rfl)
theorem dX0_stepsTo_112 : decode cX0_stepsTo 112 = .ok (.iadd, 1) := dk_96 (dk_at dksX0_stepsTo_4 20 rfl rfl)
theorem dX0_stepsTo_113 : decode cX0_stepsTo 113 = .ok (.ireturn, 1) := dk_172 (dk_at dksX0_stepsTo_4 21 rfl rfl)
def dkwX0_gainsMost_2 : List UInt8 := [100, 164, 0, 5, 29, 61, 132, 3, 1, 167, 255, 204, 28, 172]
abbrev dktX0_gainsMost_2 : List UInt8 := dkwX0_gainsMost_2 ++ []
def dkwX0_gainsMost_1 : List UInt8 := [180, 0, 15, 29, 50, 180, 0, 42, 100, 43, 180, 0, 207, 28, 46, 42, 180, 0, 15, 28, 50, 180, 0, 42]
abbrev dktX0_gainsMost_1 : List UInt8 := dkwX0_gainsMost_1 ++ dktX0_gainsMost_2
def dkwX0_gainsMost_0 : List UInt8 := [16, 254, 61, 3, 62, 29, 42, 180, 0, 1, 162, 0, 50, 28, 155, 0, 38, 43, 180, 0, 207, 29, 46, 42]
abbrev dktX0_gainsMost_0 : List UInt8 := dkwX0_gainsMost_0 ++ dktX0_gainsMost_1
theorem dksX0_gainsMost_0 : cX0_gainsMost.data.toList.drop 0 = dktX0_gainsMost_0 := by decide +kernel
theorem dksX0_gainsMost_1 : cX0_gainsMost.data.toList.drop 24 = dktX0_gainsMost_1 := dk_seg dksX0_gainsMost_0 24 rfl rfl
theorem dksX0_gainsMost_2 : cX0_gainsMost.data.toList.drop 48 = dktX0_gainsMost_2 := dk_seg dksX0_gainsMost_1 24 rfl rfl
theorem dX0_gainsMost_0 : decode cX0_gainsMost 0 = .ok (.bipush (-2), 2) := dk_16 254 (dk_at dksX0_gainsMost_0 0 rfl rfl)
theorem dX0_gainsMost_2 : decode cX0_gainsMost 2 = .ok (.istore_n 2, 1) := dk_61 (dk_at dksX0_gainsMost_0 2 rfl rfl)
theorem dX0_gainsMost_3 : decode cX0_gainsMost 3 = .ok (.iconst 0, 1) := dk_3 (dk_at dksX0_gainsMost_0 3 rfl rfl)
theorem dX0_gainsMost_4 : decode cX0_gainsMost 4 = .ok (.istore_n 3, 1) := dk_62 (dk_at dksX0_gainsMost_0 4 rfl rfl)
theorem dX0_gainsMost_5 : decode cX0_gainsMost 5 = .ok (.iload_n 3, 1) := dk_29 (dk_at dksX0_gainsMost_0 5 rfl rfl)
theorem dX0_gainsMost_6 : decode cX0_gainsMost 6 = .ok (.aload_n 0, 1) := dk_42 (dk_at dksX0_gainsMost_0 6 rfl rfl)
theorem dX0_gainsMost_7 : decode cX0_gainsMost 7 = .ok (.getfield 1, 3) := dk_180 0 1 (dk_at dksX0_gainsMost_0 7 rfl rfl)
theorem dX0_gainsMost_10 : decode cX0_gainsMost 10 = .ok (.if_icmp .ge 50, 3) := dk_162 0 50 (dk_at dksX0_gainsMost_0 10 rfl rfl)
theorem dX0_gainsMost_13 : decode cX0_gainsMost 13 = .ok (.iload_n 2, 1) := dk_28 (dk_at dksX0_gainsMost_0 13 rfl rfl)
theorem dX0_gainsMost_14 : decode cX0_gainsMost 14 = .ok (.ifCond .lt 38, 3) := dk_155 0 38 (dk_at dksX0_gainsMost_0 14 rfl rfl)
theorem dX0_gainsMost_17 : decode cX0_gainsMost 17 = .ok (.aload_n 1, 1) := dk_43 (dk_at dksX0_gainsMost_0 17 rfl rfl)
theorem dX0_gainsMost_18 : decode cX0_gainsMost 18 = .ok (.getfield 207, 3) := dk_180 0 207 (dk_at dksX0_gainsMost_0 18 rfl rfl)
theorem dX0_gainsMost_21 : decode cX0_gainsMost 21 = .ok (.iload_n 3, 1) := dk_29 (dk_at dksX0_gainsMost_0 21 rfl rfl)
theorem dX0_gainsMost_22 : decode cX0_gainsMost 22 = .ok (.iaload, 1) := dk_46 (dk_at dksX0_gainsMost_0 22 rfl rfl)
theorem dX0_gainsMost_23 : decode cX0_gainsMost 23 = .ok (.aload_n 0, 1) := dk_42 (dk_at dksX0_gainsMost_0 23 rfl rfl)
theorem dX0_gainsMost_24 : decode cX0_gainsMost 24 = .ok (.getfield 15, 3) := dk_180 0 15 (dk_at dksX0_gainsMost_1 0 rfl rfl)
theorem dX0_gainsMost_27 : decode cX0_gainsMost 27 = .ok (.iload_n 3, 1) := dk_29 (dk_at dksX0_gainsMost_1 3 rfl rfl)
theorem dX0_gainsMost_28 : decode cX0_gainsMost 28 = .ok (.aaload, 1) := dk_50 (dk_at dksX0_gainsMost_1 4 rfl rfl)
theorem dX0_gainsMost_29 : decode cX0_gainsMost 29 = .ok (.getfield 42, 3) := dk_180 0 42 (dk_at dksX0_gainsMost_1 5 rfl rfl)
theorem dX0_gainsMost_32 : decode cX0_gainsMost 32 = .ok (.isub, 1) := dk_100 (dk_at dksX0_gainsMost_1 8 rfl rfl)
theorem dX0_gainsMost_33 : decode cX0_gainsMost 33 = .ok (.aload_n 1, 1) := dk_43 (dk_at dksX0_gainsMost_1 9 rfl rfl)
theorem dX0_gainsMost_34 : decode cX0_gainsMost 34 = .ok (.getfield 207, 3) := dk_180 0 207 (dk_at dksX0_gainsMost_1 10 rfl rfl)
theorem dX0_gainsMost_37 : decode cX0_gainsMost 37 = .ok (.iload_n 2, 1) := dk_28 (dk_at dksX0_gainsMost_1 13 rfl rfl)
theorem dX0_gainsMost_38 : decode cX0_gainsMost 38 = .ok (.iaload, 1) := dk_46 (dk_at dksX0_gainsMost_1 14 rfl rfl)
theorem dX0_gainsMost_39 : decode cX0_gainsMost 39 = .ok (.aload_n 0, 1) := dk_42 (dk_at dksX0_gainsMost_1 15 rfl rfl)
theorem dX0_gainsMost_40 : decode cX0_gainsMost 40 = .ok (.getfield 15, 3) := dk_180 0 15 (dk_at dksX0_gainsMost_1 16 rfl rfl)
theorem dX0_gainsMost_43 : decode cX0_gainsMost 43 = .ok (.iload_n 2, 1) := dk_28 (dk_at dksX0_gainsMost_1 19 rfl rfl)
theorem dX0_gainsMost_44 : decode cX0_gainsMost 44 = .ok (.aaload, 1) := dk_50 (dk_at dksX0_gainsMost_1 20 rfl rfl)
theorem dX0_gainsMost_45 : decode cX0_gainsMost 45 = .ok (.getfield 42, 3) := dk_180 0 42 (dk_at dksX0_gainsMost_1 21 rfl rfl)
theorem dX0_gainsMost_48 : decode cX0_gainsMost 48 = .ok (.isub, 1) := dk_100 (dk_at dksX0_gainsMost_2 0 rfl rfl)
theorem dX0_gainsMost_49 : decode cX0_gainsMost 49 = .ok (.if_icmp .le 5, 3) := dk_164 0 5 (dk_at dksX0_gainsMost_2 1 rfl rfl)
theorem dX0_gainsMost_52 : decode cX0_gainsMost 52 = .ok (.iload_n 3, 1) := dk_29 (dk_at dksX0_gainsMost_2 4 rfl rfl)
theorem dX0_gainsMost_53 : decode cX0_gainsMost 53 = .ok (.istore_n 2, 1) := dk_61 (dk_at dksX0_gainsMost_2 5 rfl rfl)
theorem dX0_gainsMost_54 : decode cX0_gainsMost 54 = .ok (.iinc 3 1, 3) := dk_132 3 1 (dk_at dksX0_gainsMost_2 6 rfl rfl)
theorem dX0_gainsMost_57 : decode cX0_gainsMost 57 = .ok (.goto (-52), 3) := dk_167 255 204 (dk_at dksX0_gainsMost_2 9 rfl rfl)
theorem dX0_gainsMost_60 : decode cX0_gainsMost 60 = .ok (.iload_n 2, 1) := dk_28 (dk_at dksX0_gainsMost_2 12 rfl rfl)
theorem dX0_gainsMost_61 : decode cX0_gainsMost 61 = .ok (.ireturn, 1) := dk_172 (dk_at dksX0_gainsMost_2 13 rfl rfl)
def dkwX0_judge_1 : List UInt8 := [42, 182, 1, 35, 182, 1, 105, 172]
abbrev dktX0_judge_1 : List UInt8 := dkwX0_judge_1 ++ []
def dkwX0_judge_0 : List UInt8 := [27, 184, 1, 99, 154, 0, 5, 2, 172, 42, 27, 182, 1, 102, 61, 28, 156, 0, 7, 28, 167, 0, 11, 42]
abbrev dktX0_judge_0 : List UInt8 := dkwX0_judge_0 ++ dktX0_judge_1
theorem dksX0_judge_0 : cX0_judge.data.toList.drop 0 = dktX0_judge_0 := by decide +kernel
theorem dksX0_judge_1 : cX0_judge.data.toList.drop 24 = dktX0_judge_1 := dk_seg dksX0_judge_0 24 rfl rfl
theorem dX0_judge_0 : decode cX0_judge 0 = .ok (.iload_n 1, 1) := dk_27 (dk_at dksX0_judge_0 0 rfl rfl)
theorem dX0_judge_1 : decode cX0_judge 1 = .ok (.invokestatic 355, 3) := dk_184 1 99 (dk_at dksX0_judge_0 1 rfl rfl)
theorem dX0_judge_4 : decode cX0_judge 4 = .ok (.ifCond .ne 5, 3) := dk_154 0 5 (dk_at dksX0_judge_0 4 rfl rfl)
theorem dX0_judge_7 : decode cX0_judge 7 = .ok (.iconst (-1), 1) := dk_2 (dk_at dksX0_judge_0 7 rfl rfl)
theorem dX0_judge_8 : decode cX0_judge 8 = .ok (.ireturn, 1) := dk_172 (dk_at dksX0_judge_0 8 rfl rfl)
theorem dX0_judge_9 : decode cX0_judge 9 = .ok (.aload_n 0, 1) := dk_42 (dk_at dksX0_judge_0 9 rfl rfl)
theorem dX0_judge_10 : decode cX0_judge 10 = .ok (.iload_n 1, 1) := dk_27 (dk_at dksX0_judge_0 10 rfl rfl)
theorem dX0_judge_11 : decode cX0_judge 11 = .ok (.invokevirtual 358, 3) := dk_182 1 102 (dk_at dksX0_judge_0 11 rfl rfl)
theorem dX0_judge_14 : decode cX0_judge 14 = .ok (.istore_n 2, 1) := dk_61 (dk_at dksX0_judge_0 14 rfl rfl)
theorem dX0_judge_15 : decode cX0_judge 15 = .ok (.iload_n 2, 1) := dk_28 (dk_at dksX0_judge_0 15 rfl rfl)
theorem dX0_judge_16 : decode cX0_judge 16 = .ok (.ifCond .ge 7, 3) := dk_156 0 7 (dk_at dksX0_judge_0 16 rfl rfl)
theorem dX0_judge_19 : decode cX0_judge 19 = .ok (.iload_n 2, 1) := dk_28 (dk_at dksX0_judge_0 19 rfl rfl)
theorem dX0_judge_20 : decode cX0_judge 20 = .ok (.goto 11, 3) := dk_167 0 11 (dk_at dksX0_judge_0 20 rfl rfl)
theorem dX0_judge_23 : decode cX0_judge 23 = .ok (.aload_n 0, 1) := dk_42 (dk_at dksX0_judge_0 23 rfl rfl)
theorem dX0_judge_24 : decode cX0_judge 24 = .ok (.aload_n 0, 1) := dk_42 (dk_at dksX0_judge_1 0 rfl rfl)
theorem dX0_judge_25 : decode cX0_judge 25 = .ok (.invokevirtual 291, 3) := dk_182 1 35 (dk_at dksX0_judge_1 1 rfl rfl)
theorem dX0_judge_28 : decode cX0_judge 28 = .ok (.invokevirtual 361, 3) := dk_182 1 105 (dk_at dksX0_judge_1 4 rfl rfl)
theorem dX0_judge_31 : decode cX0_judge 31 = .ok (.ireturn, 1) := dk_172 (dk_at dksX0_judge_1 7 rfl rfl)
def dkwX0_areShelves_1 : List UInt8 := [4, 167, 0, 4, 3, 172]
abbrev dktX0_areShelves_1 : List UInt8 := dkwX0_areShelves_1 ++ []
def dkwX0_areShelves_0 : List UInt8 := [26, 155, 0, 27, 26, 16, 10, 108, 184, 0, 29, 153, 0, 17, 26, 16, 10, 112, 184, 0, 29, 153, 0, 7]
abbrev dktX0_areShelves_0 : List UInt8 := dkwX0_areShelves_0 ++ dktX0_areShelves_1
theorem dksX0_areShelves_0 : cX0_areShelves.data.toList.drop 0 = dktX0_areShelves_0 := by decide +kernel
theorem dksX0_areShelves_1 : cX0_areShelves.data.toList.drop 24 = dktX0_areShelves_1 := dk_seg dksX0_areShelves_0 24 rfl rfl
theorem dX0_areShelves_0 : decode cX0_areShelves 0 = .ok (.iload_n 0, 1) := dk_26 (dk_at dksX0_areShelves_0 0 rfl rfl)
theorem dX0_areShelves_1 : decode cX0_areShelves 1 = .ok (.ifCond .lt 27, 3) := dk_155 0 27 (dk_at dksX0_areShelves_0 1 rfl rfl)
theorem dX0_areShelves_4 : decode cX0_areShelves 4 = .ok (.iload_n 0, 1) := dk_26 (dk_at dksX0_areShelves_0 4 rfl rfl)
theorem dX0_areShelves_5 : decode cX0_areShelves 5 = .ok (.bipush 10, 2) := dk_16 10 (dk_at dksX0_areShelves_0 5 rfl rfl)
theorem dX0_areShelves_7 : decode cX0_areShelves 7 = .ok (.idiv, 1) := dk_108 (dk_at dksX0_areShelves_0 7 rfl rfl)
theorem dX0_areShelves_8 : decode cX0_areShelves 8 = .ok (.invokestatic 29, 3) := dk_184 0 29 (dk_at dksX0_areShelves_0 8 rfl rfl)
theorem dX0_areShelves_11 : decode cX0_areShelves 11 = .ok (.ifCond .eq 17, 3) := dk_153 0 17 (dk_at dksX0_areShelves_0 11 rfl rfl)
theorem dX0_areShelves_14 : decode cX0_areShelves 14 = .ok (.iload_n 0, 1) := dk_26 (dk_at dksX0_areShelves_0 14 rfl rfl)
theorem dX0_areShelves_15 : decode cX0_areShelves 15 = .ok (.bipush 10, 2) := dk_16 10 (dk_at dksX0_areShelves_0 15 rfl rfl)
theorem dX0_areShelves_17 : decode cX0_areShelves 17 = .ok (.irem, 1) := dk_112 (dk_at dksX0_areShelves_0 17 rfl rfl)
theorem dX0_areShelves_18 : decode cX0_areShelves 18 = .ok (.invokestatic 29, 3) := dk_184 0 29 (dk_at dksX0_areShelves_0 18 rfl rfl)
theorem dX0_areShelves_21 : decode cX0_areShelves 21 = .ok (.ifCond .eq 7, 3) := dk_153 0 7 (dk_at dksX0_areShelves_0 21 rfl rfl)
theorem dX0_areShelves_24 : decode cX0_areShelves 24 = .ok (.iconst 1, 1) := dk_4 (dk_at dksX0_areShelves_1 0 rfl rfl)
theorem dX0_areShelves_25 : decode cX0_areShelves 25 = .ok (.goto 4, 3) := dk_167 0 4 (dk_at dksX0_areShelves_1 1 rfl rfl)
theorem dX0_areShelves_28 : decode cX0_areShelves 28 = .ok (.iconst 0, 1) := dk_3 (dk_at dksX0_areShelves_1 4 rfl rfl)
theorem dX0_areShelves_29 : decode cX0_areShelves 29 = .ok (.ireturn, 1) := dk_172 (dk_at dksX0_areShelves_1 5 rfl rfl)
def dkwX0_layBoth_1 : List UInt8 := [182, 1, 96, 172]
abbrev dktX0_layBoth_1 : List UInt8 := dkwX0_layBoth_1 ++ []
def dkwX0_layBoth_0 : List UInt8 := [42, 27, 16, 10, 108, 182, 1, 42, 61, 28, 156, 0, 7, 28, 167, 0, 11, 42, 27, 16, 10, 112]
abbrev dktX0_layBoth_0 : List UInt8 := dkwX0_layBoth_0 ++ dktX0_layBoth_1
theorem dksX0_layBoth_0 : cX0_layBoth.data.toList.drop 0 = dktX0_layBoth_0 := by decide +kernel
theorem dksX0_layBoth_1 : cX0_layBoth.data.toList.drop 22 = dktX0_layBoth_1 := dk_seg dksX0_layBoth_0 22 rfl rfl
theorem dX0_layBoth_0 : decode cX0_layBoth 0 = .ok (.aload_n 0, 1) := dk_42 (dk_at dksX0_layBoth_0 0 rfl rfl)
theorem dX0_layBoth_1 : decode cX0_layBoth 1 = .ok (.iload_n 1, 1) := dk_27 (dk_at dksX0_layBoth_0 1 rfl rfl)
theorem dX0_layBoth_2 : decode cX0_layBoth 2 = .ok (.bipush 10, 2) := dk_16 10 (dk_at dksX0_layBoth_0 2 rfl rfl)
theorem dX0_layBoth_4 : decode cX0_layBoth 4 = .ok (.idiv, 1) := dk_108 (dk_at dksX0_layBoth_0 4 rfl rfl)
theorem dX0_layBoth_5 : decode cX0_layBoth 5 = .ok (.invokevirtual 298, 3) := dk_182 1 42 (dk_at dksX0_layBoth_0 5 rfl rfl)
theorem dX0_layBoth_8 : decode cX0_layBoth 8 = .ok (.istore_n 2, 1) := dk_61 (dk_at dksX0_layBoth_0 8 rfl rfl)
theorem dX0_layBoth_9 : decode cX0_layBoth 9 = .ok (.iload_n 2, 1) := dk_28 (dk_at dksX0_layBoth_0 9 rfl rfl)
theorem dX0_layBoth_10 : decode cX0_layBoth 10 = .ok (.ifCond .ge 7, 3) := dk_156 0 7 (dk_at dksX0_layBoth_0 10 rfl rfl)
theorem dX0_layBoth_13 : decode cX0_layBoth 13 = .ok (.iload_n 2, 1) := dk_28 (dk_at dksX0_layBoth_0 13 rfl rfl)
theorem dX0_layBoth_14 : decode cX0_layBoth 14 = .ok (.goto 11, 3) := dk_167 0 11 (dk_at dksX0_layBoth_0 14 rfl rfl)
theorem dX0_layBoth_17 : decode cX0_layBoth 17 = .ok (.aload_n 0, 1) := dk_42 (dk_at dksX0_layBoth_0 17 rfl rfl)
theorem dX0_layBoth_18 : decode cX0_layBoth 18 = .ok (.iload_n 1, 1) := dk_27 (dk_at dksX0_layBoth_0 18 rfl rfl)
theorem dX0_layBoth_19 : decode cX0_layBoth 19 = .ok (.bipush 10, 2) := dk_16 10 (dk_at dksX0_layBoth_0 19 rfl rfl)
theorem dX0_layBoth_21 : decode cX0_layBoth 21 = .ok (.irem, 1) := dk_112 (dk_at dksX0_layBoth_0 21 rfl rfl)
theorem dX0_layBoth_22 : decode cX0_layBoth 22 = .ok (.invokevirtual 352, 3) := dk_182 1 96 (dk_at dksX0_layBoth_1 0 rfl rfl)
theorem dX0_layBoth_25 : decode cX0_layBoth 25 = .ok (.ireturn, 1) := dk_172 (dk_at dksX0_layBoth_1 3 rfl rfl)
def dkwX0_laySeen_2 : List UInt8 := [181, 1, 93, 132, 3, 1, 167, 255, 223, 167, 0, 11, 77, 16, 244, 172, 77, 16, 245, 172, 3, 172]
abbrev dktX0_laySeen_2 : List UInt8 := dkwX0_laySeen_2 ++ []
def dkwX0_laySeen_1 : List UInt8 := [162, 0, 31, 42, 180, 0, 190, 29, 44, 29, 182, 1, 27, 136, 79, 42, 89, 180, 1, 93, 4, 96]
abbrev dktX0_laySeen_1 : List UInt8 := dkwX0_laySeen_1 ++ dktX0_laySeen_2
def dkwX0_laySeen_0 : List UInt8 := [42, 3, 181, 1, 93, 42, 180, 0, 32, 27, 50, 192, 1, 22, 77, 3, 62, 29, 44, 182, 1, 24]
abbrev dktX0_laySeen_0 : List UInt8 := dkwX0_laySeen_0 ++ dktX0_laySeen_1
theorem dksX0_laySeen_0 : cX0_laySeen.data.toList.drop 0 = dktX0_laySeen_0 := by decide +kernel
theorem dksX0_laySeen_1 : cX0_laySeen.data.toList.drop 22 = dktX0_laySeen_1 := dk_seg dksX0_laySeen_0 22 rfl rfl
theorem dksX0_laySeen_2 : cX0_laySeen.data.toList.drop 44 = dktX0_laySeen_2 := dk_seg dksX0_laySeen_1 22 rfl rfl
theorem dX0_laySeen_0 : decode cX0_laySeen 0 = .ok (.aload_n 0, 1) := dk_42 (dk_at dksX0_laySeen_0 0 rfl rfl)
theorem dX0_laySeen_1 : decode cX0_laySeen 1 = .ok (.iconst 0, 1) := dk_3 (dk_at dksX0_laySeen_0 1 rfl rfl)
theorem dX0_laySeen_2 : decode cX0_laySeen 2 = .ok (.putfield 349, 3) := dk_181 1 93 (dk_at dksX0_laySeen_0 2 rfl rfl)
theorem dX0_laySeen_5 : decode cX0_laySeen 5 = .ok (.aload_n 0, 1) := dk_42 (dk_at dksX0_laySeen_0 5 rfl rfl)
theorem dX0_laySeen_6 : decode cX0_laySeen 6 = .ok (.getfield 32, 3) := dk_180 0 32 (dk_at dksX0_laySeen_0 6 rfl rfl)
theorem dX0_laySeen_9 : decode cX0_laySeen 9 = .ok (.iload_n 1, 1) := dk_27 (dk_at dksX0_laySeen_0 9 rfl rfl)
theorem dX0_laySeen_10 : decode cX0_laySeen 10 = .ok (.aaload, 1) := dk_50 (dk_at dksX0_laySeen_0 10 rfl rfl)
theorem dX0_laySeen_11 : decode cX0_laySeen 11 = .ok (.checkcast 278, 3) := dk_192 1 22 (dk_at dksX0_laySeen_0 11 rfl rfl)
theorem dX0_laySeen_14 : decode cX0_laySeen 14 = .ok (.astore_n 2, 1) := dk_77 (dk_at dksX0_laySeen_0 14 rfl rfl)
theorem dX0_laySeen_15 : decode cX0_laySeen 15 = .ok (.iconst 0, 1) := dk_3 (dk_at dksX0_laySeen_0 15 rfl rfl)
theorem dX0_laySeen_16 : decode cX0_laySeen 16 = .ok (.istore_n 3, 1) := dk_62 (dk_at dksX0_laySeen_0 16 rfl rfl)
theorem dX0_laySeen_17 : decode cX0_laySeen 17 = .ok (.iload_n 3, 1) := dk_29 (dk_at dksX0_laySeen_0 17 rfl rfl)
theorem dX0_laySeen_18 : decode cX0_laySeen 18 = .ok (.aload_n 2, 1) := dk_44 (dk_at dksX0_laySeen_0 18 rfl rfl)
theorem dX0_laySeen_19 : decode cX0_laySeen 19 = .ok (.invokevirtual 280, 3) := dk_182 1 24 (dk_at dksX0_laySeen_0 19 rfl rfl)
theorem dX0_laySeen_22 : decode cX0_laySeen 22 = .ok (.if_icmp .ge 31, 3) := dk_162 0 31 (dk_at dksX0_laySeen_1 0 rfl rfl)
theorem dX0_laySeen_25 : decode cX0_laySeen 25 = .ok (.aload_n 0, 1) := dk_42 (dk_at dksX0_laySeen_1 3 rfl rfl)
theorem dX0_laySeen_26 : decode cX0_laySeen 26 = .ok (.getfield 190, 3) := dk_180 0 190 (dk_at dksX0_laySeen_1 4 rfl rfl)
theorem dX0_laySeen_29 : decode cX0_laySeen 29 = .ok (.iload_n 3, 1) := dk_29 (dk_at dksX0_laySeen_1 7 rfl rfl)
theorem dX0_laySeen_30 : decode cX0_laySeen 30 = .ok (.aload_n 2, 1) := dk_44 (dk_at dksX0_laySeen_1 8 rfl rfl)
theorem dX0_laySeen_31 : decode cX0_laySeen 31 = .ok (.iload_n 3, 1) := dk_29 (dk_at dksX0_laySeen_1 9 rfl rfl)
theorem dX0_laySeen_32 : decode cX0_laySeen 32 = .ok (.invokevirtual 283, 3) := dk_182 1 27 (dk_at dksX0_laySeen_1 10 rfl rfl)
theorem dX0_laySeen_35 : decode cX0_laySeen 35 = .ok (.l2i, 1) := dk_136 (dk_at dksX0_laySeen_1 13 rfl rfl)
theorem dX0_laySeen_36 : decode cX0_laySeen 36 = .ok (.iastore, 1) := dk_79 (dk_at dksX0_laySeen_1 14 rfl rfl)
theorem dX0_laySeen_37 : decode cX0_laySeen 37 = .ok (.aload_n 0, 1) := dk_42 (dk_at dksX0_laySeen_1 15 rfl rfl)
theorem dX0_laySeen_38 : decode cX0_laySeen 38 = .ok (.dup, 1) := dk_89 (dk_at dksX0_laySeen_1 16 rfl rfl)
theorem dX0_laySeen_39 : decode cX0_laySeen 39 = .ok (.getfield 349, 3) := dk_180 1 93 (dk_at dksX0_laySeen_1 17 rfl rfl)
theorem dX0_laySeen_42 : decode cX0_laySeen 42 = .ok (.iconst 1, 1) := dk_4 (dk_at dksX0_laySeen_1 20 rfl rfl)
theorem dX0_laySeen_43 : decode cX0_laySeen 43 = .ok (.iadd, 1) := dk_96 (dk_at dksX0_laySeen_1 21 rfl rfl)
theorem dX0_laySeen_44 : decode cX0_laySeen 44 = .ok (.putfield 349, 3) := dk_181 1 93 (dk_at dksX0_laySeen_2 0 rfl rfl)
theorem dX0_laySeen_47 : decode cX0_laySeen 47 = .ok (.iinc 3 1, 3) := dk_132 3 1 (dk_at dksX0_laySeen_2 3 rfl rfl)
theorem dX0_laySeen_50 : decode cX0_laySeen 50 = .ok (.goto (-33), 3) := dk_167 255 223 (dk_at dksX0_laySeen_2 6 rfl rfl)
theorem dX0_laySeen_53 : decode cX0_laySeen 53 = .ok (.goto 11, 3) := dk_167 0 11 (dk_at dksX0_laySeen_2 9 rfl rfl)
theorem dX0_laySeen_56 : decode cX0_laySeen 56 = .ok (.astore_n 2, 1) := dk_77 (dk_at dksX0_laySeen_2 12 rfl rfl)
theorem dX0_laySeen_57 : decode cX0_laySeen 57 = .ok (.bipush (-12), 2) := dk_16 244 (dk_at dksX0_laySeen_2 13 rfl rfl)
theorem dX0_laySeen_59 : decode cX0_laySeen 59 = .ok (.ireturn, 1) := dk_172 (dk_at dksX0_laySeen_2 15 rfl rfl)
theorem dX0_laySeen_60 : decode cX0_laySeen 60 = .ok (.astore_n 2, 1) := dk_77 (dk_at dksX0_laySeen_2 16 rfl rfl)
theorem dX0_laySeen_61 : decode cX0_laySeen 61 = .ok (.bipush (-11), 2) := dk_16 245 (dk_at dksX0_laySeen_2 17 rfl rfl)
theorem dX0_laySeen_63 : decode cX0_laySeen 63 = .ok (.ireturn, 1) := dk_172 (dk_at dksX0_laySeen_2 19 rfl rfl)
theorem dX0_laySeen_64 : decode cX0_laySeen 64 = .ok (.iconst 0, 1) := dk_3 (dk_at dksX0_laySeen_2 20 rfl rfl)
theorem dX0_laySeen_65 : decode cX0_laySeen 65 = .ok (.ireturn, 1) := dk_172 (dk_at dksX0_laySeen_2 21 rfl rfl)
def dkwX0_wrongIn_2 : List UInt8 := [46, 42, 180, 0, 243, 159, 0, 5, 28, 172, 132, 2, 1, 167, 255, 198, 16, 254, 172]
abbrev dktX0_wrongIn_2 : List UInt8 := dkwX0_wrongIn_2 ++ []
def dkwX0_wrongIn_1 : List UInt8 := [180, 0, 183, 28, 46, 182, 1, 28, 42, 180, 0, 190, 28, 46, 16, 9, 159, 0, 18, 42, 180, 0, 190, 28]
abbrev dktX0_wrongIn_1 : List UInt8 := dkwX0_wrongIn_1 ++ dktX0_wrongIn_2
def dkwX0_wrongIn_0 : List UInt8 := [3, 61, 28, 42, 180, 1, 93, 162, 0, 56, 28, 42, 180, 1, 19, 161, 0, 5, 28, 172, 42, 43, 42]
abbrev dktX0_wrongIn_0 : List UInt8 := dkwX0_wrongIn_0 ++ dktX0_wrongIn_1
theorem dksX0_wrongIn_0 : cX0_wrongIn.data.toList.drop 0 = dktX0_wrongIn_0 := by decide +kernel
theorem dksX0_wrongIn_1 : cX0_wrongIn.data.toList.drop 23 = dktX0_wrongIn_1 := dk_seg dksX0_wrongIn_0 23 rfl rfl
theorem dksX0_wrongIn_2 : cX0_wrongIn.data.toList.drop 47 = dktX0_wrongIn_2 := dk_seg dksX0_wrongIn_1 24 rfl rfl
theorem dX0_wrongIn_0 : decode cX0_wrongIn 0 = .ok (.iconst 0, 1) := dk_3 (dk_at dksX0_wrongIn_0 0 rfl rfl)
theorem dX0_wrongIn_1 : decode cX0_wrongIn 1 = .ok (.istore_n 2, 1) := dk_61 (dk_at dksX0_wrongIn_0 1 rfl rfl)
theorem dX0_wrongIn_2 : decode cX0_wrongIn 2 = .ok (.iload_n 2, 1) := dk_28 (dk_at dksX0_wrongIn_0 2 rfl rfl)
theorem dX0_wrongIn_3 : decode cX0_wrongIn 3 = .ok (.aload_n 0, 1) := dk_42 (dk_at dksX0_wrongIn_0 3 rfl rfl)
theorem dX0_wrongIn_4 : decode cX0_wrongIn 4 = .ok (.getfield 349, 3) := dk_180 1 93 (dk_at dksX0_wrongIn_0 4 rfl rfl)
theorem dX0_wrongIn_7 : decode cX0_wrongIn 7 = .ok (.if_icmp .ge 56, 3) := dk_162 0 56 (dk_at dksX0_wrongIn_0 7 rfl rfl)
theorem dX0_wrongIn_10 : decode cX0_wrongIn 10 = .ok (.iload_n 2, 1) := dk_28 (dk_at dksX0_wrongIn_0 10 rfl rfl)
theorem dX0_wrongIn_11 : decode cX0_wrongIn 11 = .ok (.aload_n 0, 1) := dk_42 (dk_at dksX0_wrongIn_0 11 rfl rfl)
theorem dX0_wrongIn_12 : decode cX0_wrongIn 12 = .ok (.getfield 275, 3) := dk_180 1 19 (dk_at dksX0_wrongIn_0 12 rfl rfl)
theorem dX0_wrongIn_15 : decode cX0_wrongIn 15 = .ok (.if_icmp .lt 5, 3) := dk_161 0 5 (dk_at dksX0_wrongIn_0 15 rfl rfl)
theorem dX0_wrongIn_18 : decode cX0_wrongIn 18 = .ok (.iload_n 2, 1) := dk_28 (dk_at dksX0_wrongIn_0 18 rfl rfl)
theorem dX0_wrongIn_19 : decode cX0_wrongIn 19 = .ok (.ireturn, 1) := dk_172 (dk_at dksX0_wrongIn_0 19 rfl rfl)
theorem dX0_wrongIn_20 : decode cX0_wrongIn 20 = .ok (.aload_n 0, 1) := dk_42 (dk_at dksX0_wrongIn_0 20 rfl rfl)
theorem dX0_wrongIn_21 : decode cX0_wrongIn 21 = .ok (.aload_n 1, 1) := dk_43 (dk_at dksX0_wrongIn_0 21 rfl rfl)
theorem dX0_wrongIn_22 : decode cX0_wrongIn 22 = .ok (.aload_n 0, 1) := dk_42 (dk_at dksX0_wrongIn_0 22 rfl rfl)
theorem dX0_wrongIn_23 : decode cX0_wrongIn 23 = .ok (.getfield 183, 3) := dk_180 0 183 (dk_at dksX0_wrongIn_1 0 rfl rfl)
theorem dX0_wrongIn_26 : decode cX0_wrongIn 26 = .ok (.iload_n 2, 1) := dk_28 (dk_at dksX0_wrongIn_1 3 rfl rfl)
theorem dX0_wrongIn_27 : decode cX0_wrongIn 27 = .ok (.iaload, 1) := dk_46 (dk_at dksX0_wrongIn_1 4 rfl rfl)
theorem dX0_wrongIn_28 : decode cX0_wrongIn 28 = .ok (.invokevirtual 284, 3) := dk_182 1 28 (dk_at dksX0_wrongIn_1 5 rfl rfl)
theorem dX0_wrongIn_31 : decode cX0_wrongIn 31 = .ok (.aload_n 0, 1) := dk_42 (dk_at dksX0_wrongIn_1 8 rfl rfl)
theorem dX0_wrongIn_32 : decode cX0_wrongIn 32 = .ok (.getfield 190, 3) := dk_180 0 190 (dk_at dksX0_wrongIn_1 9 rfl rfl)
theorem dX0_wrongIn_35 : decode cX0_wrongIn 35 = .ok (.iload_n 2, 1) := dk_28 (dk_at dksX0_wrongIn_1 12 rfl rfl)
theorem dX0_wrongIn_36 : decode cX0_wrongIn 36 = .ok (.iaload, 1) := dk_46 (dk_at dksX0_wrongIn_1 13 rfl rfl)
theorem dX0_wrongIn_37 : decode cX0_wrongIn 37 = .ok (.bipush 9, 2) := dk_16 9 (dk_at dksX0_wrongIn_1 14 rfl rfl)
theorem dX0_wrongIn_39 : decode cX0_wrongIn 39 = .ok (.if_icmp .eq 18, 3) := dk_159 0 18 (dk_at dksX0_wrongIn_1 16 rfl rfl)
theorem dX0_wrongIn_42 : decode cX0_wrongIn 42 = .ok (.aload_n 0, 1) := dk_42 (dk_at dksX0_wrongIn_1 19 rfl rfl)
theorem dX0_wrongIn_43 : decode cX0_wrongIn 43 = .ok (.getfield 190, 3) := dk_180 0 190 (dk_at dksX0_wrongIn_1 20 rfl rfl)
theorem dX0_wrongIn_46 : decode cX0_wrongIn 46 = .ok (.iload_n 2, 1) := dk_28 (dk_at dksX0_wrongIn_1 23 rfl rfl)
theorem dX0_wrongIn_47 : decode cX0_wrongIn 47 = .ok (.iaload, 1) := dk_46 (dk_at dksX0_wrongIn_2 0 rfl rfl)
theorem dX0_wrongIn_48 : decode cX0_wrongIn 48 = .ok (.aload_n 0, 1) := dk_42 (dk_at dksX0_wrongIn_2 1 rfl rfl)
theorem dX0_wrongIn_49 : decode cX0_wrongIn 49 = .ok (.getfield 243, 3) := dk_180 0 243 (dk_at dksX0_wrongIn_2 2 rfl rfl)
theorem dX0_wrongIn_52 : decode cX0_wrongIn 52 = .ok (.if_icmp .eq 5, 3) := dk_159 0 5 (dk_at dksX0_wrongIn_2 5 rfl rfl)
theorem dX0_wrongIn_55 : decode cX0_wrongIn 55 = .ok (.iload_n 2, 1) := dk_28 (dk_at dksX0_wrongIn_2 8 rfl rfl)
theorem dX0_wrongIn_56 : decode cX0_wrongIn 56 = .ok (.ireturn, 1) := dk_172 (dk_at dksX0_wrongIn_2 9 rfl rfl)
theorem dX0_wrongIn_57 : decode cX0_wrongIn 57 = .ok (.iinc 2 1, 3) := dk_132 2 1 (dk_at dksX0_wrongIn_2 10 rfl rfl)
theorem dX0_wrongIn_60 : decode cX0_wrongIn 60 = .ok (.goto (-58), 3) := dk_167 255 198 (dk_at dksX0_wrongIn_2 13 rfl rfl)
theorem dX0_wrongIn_63 : decode cX0_wrongIn 63 = .ok (.bipush (-2), 2) := dk_16 254 (dk_at dksX0_wrongIn_2 16 rfl rfl)
theorem dX0_wrongIn_65 : decode cX0_wrongIn 65 = .ok (.ireturn, 1) := dk_172 (dk_at dksX0_wrongIn_2 18 rfl rfl)
def dkwX0_fits_4 : List UInt8 := [2, 167, 0, 8, 42, 28, 182, 1, 115, 172]
abbrev dktX0_fits_4 : List UInt8 := dkwX0_fits_4 ++ []
def dkwX0_fits_3 : List UInt8 := [42, 28, 29, 6, 160, 0, 7, 4, 167, 0, 4, 3, 182, 1, 111, 172, 28, 42, 180, 1, 19, 161, 0, 7]
abbrev dktX0_fits_3 : List UInt8 := dkwX0_fits_3 ++ dktX0_fits_4
def dkwX0_fits_2 : List UInt8 := [54, 4, 21, 4, 156, 0, 6, 21, 4, 172, 29, 154, 0, 8, 42, 182, 1, 108, 172, 29, 4, 164, 0, 19]
abbrev dktX0_fits_2 : List UInt8 := dkwX0_fits_2 ++ dktX0_fits_3
def dkwX0_fits_1 : List UInt8 := [28, 155, 0, 16, 29, 4, 164, 0, 13, 42, 28, 182, 0, 11, 154, 0, 5, 2, 172, 42, 27, 182, 1, 102]
abbrev dktX0_fits_1 : List UInt8 := dkwX0_fits_1 ++ dktX0_fits_2
def dkwX0_fits_0 : List UInt8 := [27, 184, 1, 99, 153, 0, 37, 29, 3, 6, 184, 0, 7, 153, 0, 28, 29, 154, 0, 7, 28, 154, 0, 20]
abbrev dktX0_fits_0 : List UInt8 := dkwX0_fits_0 ++ dktX0_fits_1
theorem dksX0_fits_0 : cX0_fits.data.toList.drop 0 = dktX0_fits_0 := by decide +kernel
theorem dksX0_fits_1 : cX0_fits.data.toList.drop 24 = dktX0_fits_1 := dk_seg dksX0_fits_0 24 rfl rfl
theorem dksX0_fits_2 : cX0_fits.data.toList.drop 48 = dktX0_fits_2 := dk_seg dksX0_fits_1 24 rfl rfl
theorem dksX0_fits_3 : cX0_fits.data.toList.drop 72 = dktX0_fits_3 := dk_seg dksX0_fits_2 24 rfl rfl
theorem dksX0_fits_4 : cX0_fits.data.toList.drop 96 = dktX0_fits_4 := dk_seg dksX0_fits_3 24 rfl rfl
theorem dX0_fits_0 : decode cX0_fits 0 = .ok (.iload_n 1, 1) := dk_27 (dk_at dksX0_fits_0 0 rfl rfl)
theorem dX0_fits_1 : decode cX0_fits 1 = .ok (.invokestatic 355, 3) := dk_184 1 99 (dk_at dksX0_fits_0 1 rfl rfl)
theorem dX0_fits_4 : decode cX0_fits 4 = .ok (.ifCond .eq 37, 3) := dk_153 0 37 (dk_at dksX0_fits_0 4 rfl rfl)
theorem dX0_fits_7 : decode cX0_fits 7 = .ok (.iload_n 3, 1) := dk_29 (dk_at dksX0_fits_0 7 rfl rfl)
theorem dX0_fits_8 : decode cX0_fits 8 = .ok (.iconst 0, 1) := dk_3 (dk_at dksX0_fits_0 8 rfl rfl)
theorem dX0_fits_9 : decode cX0_fits 9 = .ok (.iconst 3, 1) := dk_6 (dk_at dksX0_fits_0 9 rfl rfl)
theorem dX0_fits_10 : decode cX0_fits 10 = .ok (.invokestatic 7, 3) := dk_184 0 7 (dk_at dksX0_fits_0 10 rfl rfl)
theorem dX0_fits_13 : decode cX0_fits 13 = .ok (.ifCond .eq 28, 3) := dk_153 0 28 (dk_at dksX0_fits_0 13 rfl rfl)
theorem dX0_fits_16 : decode cX0_fits 16 = .ok (.iload_n 3, 1) := dk_29 (dk_at dksX0_fits_0 16 rfl rfl)
theorem dX0_fits_17 : decode cX0_fits 17 = .ok (.ifCond .ne 7, 3) := dk_154 0 7 (dk_at dksX0_fits_0 17 rfl rfl)
theorem dX0_fits_20 : decode cX0_fits 20 = .ok (.iload_n 2, 1) := dk_28 (dk_at dksX0_fits_0 20 rfl rfl)
theorem dX0_fits_21 : decode cX0_fits 21 = .ok (.ifCond .ne 20, 3) := dk_154 0 20 (dk_at dksX0_fits_0 21 rfl rfl)
theorem dX0_fits_24 : decode cX0_fits 24 = .ok (.iload_n 2, 1) := dk_28 (dk_at dksX0_fits_1 0 rfl rfl)
theorem dX0_fits_25 : decode cX0_fits 25 = .ok (.ifCond .lt 16, 3) := dk_155 0 16 (dk_at dksX0_fits_1 1 rfl rfl)
theorem dX0_fits_28 : decode cX0_fits 28 = .ok (.iload_n 3, 1) := dk_29 (dk_at dksX0_fits_1 4 rfl rfl)
theorem dX0_fits_29 : decode cX0_fits 29 = .ok (.iconst 1, 1) := dk_4 (dk_at dksX0_fits_1 5 rfl rfl)
theorem dX0_fits_30 : decode cX0_fits 30 = .ok (.if_icmp .le 13, 3) := dk_164 0 13 (dk_at dksX0_fits_1 6 rfl rfl)
theorem dX0_fits_33 : decode cX0_fits 33 = .ok (.aload_n 0, 1) := dk_42 (dk_at dksX0_fits_1 9 rfl rfl)
theorem dX0_fits_34 : decode cX0_fits 34 = .ok (.iload_n 2, 1) := dk_28 (dk_at dksX0_fits_1 10 rfl rfl)
theorem dX0_fits_35 : decode cX0_fits 35 = .ok (.invokevirtual 11, 3) := dk_182 0 11 (dk_at dksX0_fits_1 11 rfl rfl)
theorem dX0_fits_38 : decode cX0_fits 38 = .ok (.ifCond .ne 5, 3) := dk_154 0 5 (dk_at dksX0_fits_1 14 rfl rfl)
theorem dX0_fits_41 : decode cX0_fits 41 = .ok (.iconst (-1), 1) := dk_2 (dk_at dksX0_fits_1 17 rfl rfl)
theorem dX0_fits_42 : decode cX0_fits 42 = .ok (.ireturn, 1) := dk_172 (dk_at dksX0_fits_1 18 rfl rfl)
theorem dX0_fits_43 : decode cX0_fits 43 = .ok (.aload_n 0, 1) := dk_42 (dk_at dksX0_fits_1 19 rfl rfl)
theorem dX0_fits_44 : decode cX0_fits 44 = .ok (.iload_n 1, 1) := dk_27 (dk_at dksX0_fits_1 20 rfl rfl)
theorem dX0_fits_45 : decode cX0_fits 45 = .ok (.invokevirtual 358, 3) := dk_182 1 102 (dk_at dksX0_fits_1 21 rfl rfl)
theorem dX0_fits_48 : decode cX0_fits 48 = .ok (.istore 4, 2) := dk_54 4 (dk_at dksX0_fits_2 0 rfl rfl)
theorem dX0_fits_50 : decode cX0_fits 50 = .ok (.iload 4, 2) := dk_21 4 (dk_at dksX0_fits_2 2 rfl rfl)
theorem dX0_fits_52 : decode cX0_fits 52 = .ok (.ifCond .ge 6, 3) := dk_156 0 6 (dk_at dksX0_fits_2 4 rfl rfl)
theorem dX0_fits_55 : decode cX0_fits 55 = .ok (.iload 4, 2) := dk_21 4 (dk_at dksX0_fits_2 7 rfl rfl)
theorem dX0_fits_57 : decode cX0_fits 57 = .ok (.ireturn, 1) := dk_172 (dk_at dksX0_fits_2 9 rfl rfl)
theorem dX0_fits_58 : decode cX0_fits 58 = .ok (.iload_n 3, 1) := dk_29 (dk_at dksX0_fits_2 10 rfl rfl)
theorem dX0_fits_59 : decode cX0_fits 59 = .ok (.ifCond .ne 8, 3) := dk_154 0 8 (dk_at dksX0_fits_2 11 rfl rfl)
theorem dX0_fits_62 : decode cX0_fits 62 = .ok (.aload_n 0, 1) := dk_42 (dk_at dksX0_fits_2 14 rfl rfl)
theorem dX0_fits_63 : decode cX0_fits 63 = .ok (.invokevirtual 364, 3) := dk_182 1 108 (dk_at dksX0_fits_2 15 rfl rfl)
theorem dX0_fits_66 : decode cX0_fits 66 = .ok (.ireturn, 1) := dk_172 (dk_at dksX0_fits_2 18 rfl rfl)
theorem dX0_fits_67 : decode cX0_fits 67 = .ok (.iload_n 3, 1) := dk_29 (dk_at dksX0_fits_2 19 rfl rfl)
theorem dX0_fits_68 : decode cX0_fits 68 = .ok (.iconst 1, 1) := dk_4 (dk_at dksX0_fits_2 20 rfl rfl)
theorem dX0_fits_69 : decode cX0_fits 69 = .ok (.if_icmp .le 19, 3) := dk_164 0 19 (dk_at dksX0_fits_2 21 rfl rfl)
theorem dX0_fits_72 : decode cX0_fits 72 = .ok (.aload_n 0, 1) := dk_42 (dk_at dksX0_fits_3 0 rfl rfl)
theorem dX0_fits_73 : decode cX0_fits 73 = .ok (.iload_n 2, 1) := dk_28 (dk_at dksX0_fits_3 1 rfl rfl)
theorem dX0_fits_74 : decode cX0_fits 74 = .ok (.iload_n 3, 1) := dk_29 (dk_at dksX0_fits_3 2 rfl rfl)
theorem dX0_fits_75 : decode cX0_fits 75 = .ok (.iconst 3, 1) := dk_6 (dk_at dksX0_fits_3 3 rfl rfl)
theorem dX0_fits_76 : decode cX0_fits 76 = .ok (.if_icmp .ne 7, 3) := dk_160 0 7 (dk_at dksX0_fits_3 4 rfl rfl)
theorem dX0_fits_79 : decode cX0_fits 79 = .ok (.iconst 1, 1) := dk_4 (dk_at dksX0_fits_3 7 rfl rfl)
theorem dX0_fits_80 : decode cX0_fits 80 = .ok (.goto 4, 3) := dk_167 0 4 (dk_at dksX0_fits_3 8 rfl rfl)
theorem dX0_fits_83 : decode cX0_fits 83 = .ok (.iconst 0, 1) := dk_3 (dk_at dksX0_fits_3 11 rfl rfl)
theorem dX0_fits_84 : decode cX0_fits 84 = .ok (.invokevirtual 367, 3) := dk_182 1 111 (dk_at dksX0_fits_3 12 rfl rfl)
theorem dX0_fits_87 : decode cX0_fits 87 = .ok (.ireturn, 1) := dk_172 (dk_at dksX0_fits_3 15 rfl rfl)
theorem dX0_fits_88 : decode cX0_fits 88 = .ok (.iload_n 2, 1) := dk_28 (dk_at dksX0_fits_3 16 rfl rfl)
theorem dX0_fits_89 : decode cX0_fits 89 = .ok (.aload_n 0, 1) := dk_42 (dk_at dksX0_fits_3 17 rfl rfl)
theorem dX0_fits_90 : decode cX0_fits 90 = .ok (.getfield 275, 3) := dk_180 1 19 (dk_at dksX0_fits_3 18 rfl rfl)
theorem dX0_fits_93 : decode cX0_fits 93 = .ok (.if_icmp .lt 7, 3) := dk_161 0 7 (dk_at dksX0_fits_3 21 rfl rfl)
theorem dX0_fits_96 : decode cX0_fits 96 = .ok (.iconst (-1), 1) := dk_2 (dk_at dksX0_fits_4 0 rfl rfl)
theorem dX0_fits_97 : decode cX0_fits 97 = .ok (.goto 8, 3) := dk_167 0 8 (dk_at dksX0_fits_4 1 rfl rfl)
theorem dX0_fits_100 : decode cX0_fits 100 = .ok (.aload_n 0, 1) := dk_42 (dk_at dksX0_fits_4 4 rfl rfl)
theorem dX0_fits_101 : decode cX0_fits 101 = .ok (.iload_n 2, 1) := dk_28 (dk_at dksX0_fits_4 5 rfl rfl)
theorem dX0_fits_102 : decode cX0_fits 102 = .ok (.invokevirtual 371, 3) := dk_182 1 115 (dk_at dksX0_fits_4 6 rfl rfl)
theorem dX0_fits_105 : decode cX0_fits 105 = .ok (.ireturn, 1) := dk_172 (dk_at dksX0_fits_4 9 rfl rfl)
def dkwX0_thirds_1 : List UInt8 := [16, 254, 160, 0, 9, 27, 4, 28, 120, 128, 60, 132, 2, 1, 167, 255, 222, 27, 172]
abbrev dktX0_thirds_1 : List UInt8 := dkwX0_thirds_1 ++ []
def dkwX0_thirds_0 : List UInt8 := [3, 60, 4, 61, 28, 8, 163, 0, 35, 42, 182, 1, 35, 78, 45, 28, 181, 0, 211, 42, 45, 182, 1, 105]
abbrev dktX0_thirds_0 : List UInt8 := dkwX0_thirds_0 ++ dktX0_thirds_1
theorem dksX0_thirds_0 : cX0_thirds.data.toList.drop 0 = dktX0_thirds_0 := by decide +kernel
theorem dksX0_thirds_1 : cX0_thirds.data.toList.drop 24 = dktX0_thirds_1 := dk_seg dksX0_thirds_0 24 rfl rfl
theorem dX0_thirds_0 : decode cX0_thirds 0 = .ok (.iconst 0, 1) := dk_3 (dk_at dksX0_thirds_0 0 rfl rfl)
theorem dX0_thirds_1 : decode cX0_thirds 1 = .ok (.istore_n 1, 1) := dk_60 (dk_at dksX0_thirds_0 1 rfl rfl)
theorem dX0_thirds_2 : decode cX0_thirds 2 = .ok (.iconst 1, 1) := dk_4 (dk_at dksX0_thirds_0 2 rfl rfl)
theorem dX0_thirds_3 : decode cX0_thirds 3 = .ok (.istore_n 2, 1) := dk_61 (dk_at dksX0_thirds_0 3 rfl rfl)
theorem dX0_thirds_4 : decode cX0_thirds 4 = .ok (.iload_n 2, 1) := dk_28 (dk_at dksX0_thirds_0 4 rfl rfl)
theorem dX0_thirds_5 : decode cX0_thirds 5 = .ok (.iconst 5, 1) := dk_8 (dk_at dksX0_thirds_0 5 rfl rfl)
theorem dX0_thirds_6 : decode cX0_thirds 6 = .ok (.if_icmp .gt 35, 3) := dk_163 0 35 (dk_at dksX0_thirds_0 6 rfl rfl)
theorem dX0_thirds_9 : decode cX0_thirds 9 = .ok (.aload_n 0, 1) := dk_42 (dk_at dksX0_thirds_0 9 rfl rfl)
theorem dX0_thirds_10 : decode cX0_thirds 10 = .ok (.invokevirtual 291, 3) := dk_182 1 35 (dk_at dksX0_thirds_0 10 rfl rfl)
theorem dX0_thirds_13 : decode cX0_thirds 13 = .ok (.astore_n 3, 1) := dk_78 (dk_at dksX0_thirds_0 13 rfl rfl)
theorem dX0_thirds_14 : decode cX0_thirds 14 = .ok (.aload_n 3, 1) := dk_45 (dk_at dksX0_thirds_0 14 rfl rfl)
theorem dX0_thirds_15 : decode cX0_thirds 15 = .ok (.iload_n 2, 1) := dk_28 (dk_at dksX0_thirds_0 15 rfl rfl)
theorem dX0_thirds_16 : decode cX0_thirds 16 = .ok (.putfield 211, 3) := dk_181 0 211 (dk_at dksX0_thirds_0 16 rfl rfl)
theorem dX0_thirds_19 : decode cX0_thirds 19 = .ok (.aload_n 0, 1) := dk_42 (dk_at dksX0_thirds_0 19 rfl rfl)
theorem dX0_thirds_20 : decode cX0_thirds 20 = .ok (.aload_n 3, 1) := dk_45 (dk_at dksX0_thirds_0 20 rfl rfl)
theorem dX0_thirds_21 : decode cX0_thirds 21 = .ok (.invokevirtual 361, 3) := dk_182 1 105 (dk_at dksX0_thirds_0 21 rfl rfl)
theorem dX0_thirds_24 : decode cX0_thirds 24 = .ok (.bipush (-2), 2) := dk_16 254 (dk_at dksX0_thirds_1 0 rfl rfl)
theorem dX0_thirds_26 : decode cX0_thirds 26 = .ok (.if_icmp .ne 9, 3) := dk_160 0 9 (dk_at dksX0_thirds_1 2 rfl rfl)
theorem dX0_thirds_29 : decode cX0_thirds 29 = .ok (.iload_n 1, 1) := dk_27 (dk_at dksX0_thirds_1 5 rfl rfl)
theorem dX0_thirds_30 : decode cX0_thirds 30 = .ok (.iconst 1, 1) := dk_4 (dk_at dksX0_thirds_1 6 rfl rfl)
theorem dX0_thirds_31 : decode cX0_thirds 31 = .ok (.iload_n 2, 1) := dk_28 (dk_at dksX0_thirds_1 7 rfl rfl)
theorem dX0_thirds_32 : decode cX0_thirds 32 = .ok (.ishl, 1) := dk_120 (dk_at dksX0_thirds_1 8 rfl rfl)
theorem dX0_thirds_33 : decode cX0_thirds 33 = .ok (.ior, 1) := dk_128 (dk_at dksX0_thirds_1 9 rfl rfl)
theorem dX0_thirds_34 : decode cX0_thirds 34 = .ok (.istore_n 1, 1) := dk_60 (dk_at dksX0_thirds_1 10 rfl rfl)
theorem dX0_thirds_35 : decode cX0_thirds 35 = .ok (.iinc 2 1, 3) := dk_132 2 1 (dk_at dksX0_thirds_1 11 rfl rfl)
theorem dX0_thirds_38 : decode cX0_thirds 38 = .ok (.goto (-34), 3) := dk_167 255 222 (dk_at dksX0_thirds_1 14 rfl rfl)
theorem dX0_thirds_41 : decode cX0_thirds 41 = .ok (.iload_n 1, 1) := dk_27 (dk_at dksX0_thirds_1 17 rfl rfl)
theorem dX0_thirds_42 : decode cX0_thirds 42 = .ok (.ireturn, 1) := dk_172 (dk_at dksX0_thirds_1 18 rfl rfl)
def dkwX0_wanted_2 : List UInt8 := [132, 3, 1, 132, 4, 1, 167, 255, 207, 28, 153, 0, 8, 16, 254, 167, 0, 4, 29, 172]
abbrev dktX0_wanted_2 : List UInt8 := dkwX0_wanted_2 ++ []
def dkwX0_wanted_1 : List UInt8 := [21, 4, 79, 42, 25, 5, 182, 1, 105, 16, 254, 159, 0, 6, 167, 0, 13, 28, 153, 0, 6, 21, 4, 172]
abbrev dktX0_wanted_1 : List UInt8 := dkwX0_wanted_1 ++ dktX0_wanted_2
def dkwX0_wanted_0 : List UInt8 := [3, 62, 3, 54, 4, 21, 4, 16, 9, 163, 0, 48, 42, 182, 1, 35, 58, 5, 25, 5, 180, 0, 209, 27]
abbrev dktX0_wanted_0 : List UInt8 := dkwX0_wanted_0 ++ dktX0_wanted_1
theorem dksX0_wanted_0 : cX0_wanted.data.toList.drop 0 = dktX0_wanted_0 := by decide +kernel
theorem dksX0_wanted_1 : cX0_wanted.data.toList.drop 24 = dktX0_wanted_1 := dk_seg dksX0_wanted_0 24 rfl rfl
theorem dksX0_wanted_2 : cX0_wanted.data.toList.drop 48 = dktX0_wanted_2 := dk_seg dksX0_wanted_1 24 rfl rfl
theorem dX0_wanted_0 : decode cX0_wanted 0 = .ok (.iconst 0, 1) := dk_3 (dk_at dksX0_wanted_0 0 rfl rfl)
theorem dX0_wanted_1 : decode cX0_wanted 1 = .ok (.istore_n 3, 1) := dk_62 (dk_at dksX0_wanted_0 1 rfl rfl)
theorem dX0_wanted_2 : decode cX0_wanted 2 = .ok (.iconst 0, 1) := dk_3 (dk_at dksX0_wanted_0 2 rfl rfl)
theorem dX0_wanted_3 : decode cX0_wanted 3 = .ok (.istore 4, 2) := dk_54 4 (dk_at dksX0_wanted_0 3 rfl rfl)
theorem dX0_wanted_5 : decode cX0_wanted 5 = .ok (.iload 4, 2) := dk_21 4 (dk_at dksX0_wanted_0 5 rfl rfl)
theorem dX0_wanted_7 : decode cX0_wanted 7 = .ok (.bipush 9, 2) := dk_16 9 (dk_at dksX0_wanted_0 7 rfl rfl)
theorem dX0_wanted_9 : decode cX0_wanted 9 = .ok (.if_icmp .gt 48, 3) := dk_163 0 48 (dk_at dksX0_wanted_0 9 rfl rfl)
theorem dX0_wanted_12 : decode cX0_wanted 12 = .ok (.aload_n 0, 1) := dk_42 (dk_at dksX0_wanted_0 12 rfl rfl)
theorem dX0_wanted_13 : decode cX0_wanted 13 = .ok (.invokevirtual 291, 3) := dk_182 1 35 (dk_at dksX0_wanted_0 13 rfl rfl)
theorem dX0_wanted_16 : decode cX0_wanted 16 = .ok (.astore 5, 2) := dk_58 5 (dk_at dksX0_wanted_0 16 rfl rfl)
theorem dX0_wanted_18 : decode cX0_wanted 18 = .ok (.aload 5, 2) := dk_25 5 (dk_at dksX0_wanted_0 18 rfl rfl)
theorem dX0_wanted_20 : decode cX0_wanted 20 = .ok (.getfield 209, 3) := dk_180 0 209 (dk_at dksX0_wanted_0 20 rfl rfl)
theorem dX0_wanted_23 : decode cX0_wanted 23 = .ok (.iload_n 1, 1) := dk_27 (dk_at dksX0_wanted_0 23 rfl rfl)
theorem dX0_wanted_24 : decode cX0_wanted 24 = .ok (.iload 4, 2) := dk_21 4 (dk_at dksX0_wanted_1 0 rfl rfl)
theorem dX0_wanted_26 : decode cX0_wanted 26 = .ok (.iastore, 1) := dk_79 (dk_at dksX0_wanted_1 2 rfl rfl)
theorem dX0_wanted_27 : decode cX0_wanted 27 = .ok (.aload_n 0, 1) := dk_42 (dk_at dksX0_wanted_1 3 rfl rfl)
theorem dX0_wanted_28 : decode cX0_wanted 28 = .ok (.aload 5, 2) := dk_25 5 (dk_at dksX0_wanted_1 4 rfl rfl)
theorem dX0_wanted_30 : decode cX0_wanted 30 = .ok (.invokevirtual 361, 3) := dk_182 1 105 (dk_at dksX0_wanted_1 6 rfl rfl)
theorem dX0_wanted_33 : decode cX0_wanted 33 = .ok (.bipush (-2), 2) := dk_16 254 (dk_at dksX0_wanted_1 9 rfl rfl)
theorem dX0_wanted_35 : decode cX0_wanted 35 = .ok (.if_icmp .eq 6, 3) := dk_159 0 6 (dk_at dksX0_wanted_1 11 rfl rfl)
theorem dX0_wanted_38 : decode cX0_wanted 38 = .ok (.goto 13, 3) := dk_167 0 13 (dk_at dksX0_wanted_1 14 rfl rfl)
theorem dX0_wanted_41 : decode cX0_wanted 41 = .ok (.iload_n 2, 1) := dk_28 (dk_at dksX0_wanted_1 17 rfl rfl)
theorem dX0_wanted_42 : decode cX0_wanted 42 = .ok (.ifCond .eq 6, 3) := dk_153 0 6 (dk_at dksX0_wanted_1 18 rfl rfl)
theorem dX0_wanted_45 : decode cX0_wanted 45 = .ok (.iload 4, 2) := dk_21 4 (dk_at dksX0_wanted_1 21 rfl rfl)
theorem dX0_wanted_47 : decode cX0_wanted 47 = .ok (.ireturn, 1) := dk_172 (dk_at dksX0_wanted_1 23 rfl rfl)
theorem dX0_wanted_48 : decode cX0_wanted 48 = .ok (.iinc 3 1, 3) := dk_132 3 1 (dk_at dksX0_wanted_2 0 rfl rfl)
theorem dX0_wanted_51 : decode cX0_wanted 51 = .ok (.iinc 4 1, 3) := dk_132 4 1 (dk_at dksX0_wanted_2 3 rfl rfl)
theorem dX0_wanted_54 : decode cX0_wanted 54 = .ok (.goto (-49), 3) := dk_167 255 207 (dk_at dksX0_wanted_2 6 rfl rfl)
theorem dX0_wanted_57 : decode cX0_wanted 57 = .ok (.iload_n 2, 1) := dk_28 (dk_at dksX0_wanted_2 9 rfl rfl)
theorem dX0_wanted_58 : decode cX0_wanted 58 = .ok (.ifCond .eq 8, 3) := dk_153 0 8 (dk_at dksX0_wanted_2 10 rfl rfl)
theorem dX0_wanted_61 : decode cX0_wanted 61 = .ok (.bipush (-2), 2) := dk_16 254 (dk_at dksX0_wanted_2 13 rfl rfl)
theorem dX0_wanted_63 : decode cX0_wanted 63 = .ok (.goto 4, 3) := dk_167 0 4 (dk_at dksX0_wanted_2 15 rfl rfl)
theorem dX0_wanted_66 : decode cX0_wanted 66 = .ok (.iload_n 3, 1) := dk_29 (dk_at dksX0_wanted_2 18 rfl rfl)
theorem dX0_wanted_67 : decode cX0_wanted 67 = .ok (.ireturn, 1) := dk_172 (dk_at dksX0_wanted_2 19 rfl rfl)
def dkwX0_whose_2 : List UInt8 := [120, 128, 62, 132, 4, 1, 167, 255, 216, 42, 180, 0, 183, 27, 28, 79, 29, 172]
abbrev dktX0_whose_2 : List UInt8 := dkwX0_whose_2 ++ []
def dkwX0_whose_1 : List UInt8 := [180, 0, 183, 27, 21, 4, 79, 42, 42, 182, 1, 35, 182, 1, 105, 16, 254, 160, 0, 10, 29, 4, 21, 4]
abbrev dktX0_whose_1 : List UInt8 := dkwX0_whose_1 ++ dktX0_whose_2
def dkwX0_whose_0 : List UInt8 := [42, 180, 0, 183, 27, 46, 61, 3, 62, 3, 54, 4, 21, 4, 42, 180, 0, 1, 162, 0, 37, 42]
abbrev dktX0_whose_0 : List UInt8 := dkwX0_whose_0 ++ dktX0_whose_1
theorem dksX0_whose_0 : cX0_whose.data.toList.drop 0 = dktX0_whose_0 := by decide +kernel
theorem dksX0_whose_1 : cX0_whose.data.toList.drop 22 = dktX0_whose_1 := dk_seg dksX0_whose_0 22 rfl rfl
theorem dksX0_whose_2 : cX0_whose.data.toList.drop 46 = dktX0_whose_2 := dk_seg dksX0_whose_1 24 rfl rfl
theorem dX0_whose_0 : decode cX0_whose 0 = .ok (.aload_n 0, 1) := dk_42 (dk_at dksX0_whose_0 0 rfl rfl)
theorem dX0_whose_1 : decode cX0_whose 1 = .ok (.getfield 183, 3) := dk_180 0 183 (dk_at dksX0_whose_0 1 rfl rfl)
theorem dX0_whose_4 : decode cX0_whose 4 = .ok (.iload_n 1, 1) := dk_27 (dk_at dksX0_whose_0 4 rfl rfl)
theorem dX0_whose_5 : decode cX0_whose 5 = .ok (.iaload, 1) := dk_46 (dk_at dksX0_whose_0 5 rfl rfl)
theorem dX0_whose_6 : decode cX0_whose 6 = .ok (.istore_n 2, 1) := dk_61 (dk_at dksX0_whose_0 6 rfl rfl)
theorem dX0_whose_7 : decode cX0_whose 7 = .ok (.iconst 0, 1) := dk_3 (dk_at dksX0_whose_0 7 rfl rfl)
theorem dX0_whose_8 : decode cX0_whose 8 = .ok (.istore_n 3, 1) := dk_62 (dk_at dksX0_whose_0 8 rfl rfl)
theorem dX0_whose_9 : decode cX0_whose 9 = .ok (.iconst 0, 1) := dk_3 (dk_at dksX0_whose_0 9 rfl rfl)
theorem dX0_whose_10 : decode cX0_whose 10 = .ok (.istore 4, 2) := dk_54 4 (dk_at dksX0_whose_0 10 rfl rfl)
theorem dX0_whose_12 : decode cX0_whose 12 = .ok (.iload 4, 2) := dk_21 4 (dk_at dksX0_whose_0 12 rfl rfl)
theorem dX0_whose_14 : decode cX0_whose 14 = .ok (.aload_n 0, 1) := dk_42 (dk_at dksX0_whose_0 14 rfl rfl)
theorem dX0_whose_15 : decode cX0_whose 15 = .ok (.getfield 1, 3) := dk_180 0 1 (dk_at dksX0_whose_0 15 rfl rfl)
theorem dX0_whose_18 : decode cX0_whose 18 = .ok (.if_icmp .ge 37, 3) := dk_162 0 37 (dk_at dksX0_whose_0 18 rfl rfl)
theorem dX0_whose_21 : decode cX0_whose 21 = .ok (.aload_n 0, 1) := dk_42 (dk_at dksX0_whose_0 21 rfl rfl)
theorem dX0_whose_22 : decode cX0_whose 22 = .ok (.getfield 183, 3) := dk_180 0 183 (dk_at dksX0_whose_1 0 rfl rfl)
theorem dX0_whose_25 : decode cX0_whose 25 = .ok (.iload_n 1, 1) := dk_27 (dk_at dksX0_whose_1 3 rfl rfl)
theorem dX0_whose_26 : decode cX0_whose 26 = .ok (.iload 4, 2) := dk_21 4 (dk_at dksX0_whose_1 4 rfl rfl)
theorem dX0_whose_28 : decode cX0_whose 28 = .ok (.iastore, 1) := dk_79 (dk_at dksX0_whose_1 6 rfl rfl)
theorem dX0_whose_29 : decode cX0_whose 29 = .ok (.aload_n 0, 1) := dk_42 (dk_at dksX0_whose_1 7 rfl rfl)
theorem dX0_whose_30 : decode cX0_whose 30 = .ok (.aload_n 0, 1) := dk_42 (dk_at dksX0_whose_1 8 rfl rfl)
theorem dX0_whose_31 : decode cX0_whose 31 = .ok (.invokevirtual 291, 3) := dk_182 1 35 (dk_at dksX0_whose_1 9 rfl rfl)
theorem dX0_whose_34 : decode cX0_whose 34 = .ok (.invokevirtual 361, 3) := dk_182 1 105 (dk_at dksX0_whose_1 12 rfl rfl)
theorem dX0_whose_37 : decode cX0_whose 37 = .ok (.bipush (-2), 2) := dk_16 254 (dk_at dksX0_whose_1 15 rfl rfl)
theorem dX0_whose_39 : decode cX0_whose 39 = .ok (.if_icmp .ne 10, 3) := dk_160 0 10 (dk_at dksX0_whose_1 17 rfl rfl)
theorem dX0_whose_42 : decode cX0_whose 42 = .ok (.iload_n 3, 1) := dk_29 (dk_at dksX0_whose_1 20 rfl rfl)
theorem dX0_whose_43 : decode cX0_whose 43 = .ok (.iconst 1, 1) := dk_4 (dk_at dksX0_whose_1 21 rfl rfl)
theorem dX0_whose_44 : decode cX0_whose 44 = .ok (.iload 4, 2) := dk_21 4 (dk_at dksX0_whose_1 22 rfl rfl)
theorem dX0_whose_46 : decode cX0_whose 46 = .ok (.ishl, 1) := dk_120 (dk_at dksX0_whose_2 0 rfl rfl)
theorem dX0_whose_47 : decode cX0_whose 47 = .ok (.ior, 1) := dk_128 (dk_at dksX0_whose_2 1 rfl rfl)
theorem dX0_whose_48 : decode cX0_whose 48 = .ok (.istore_n 3, 1) := dk_62 (dk_at dksX0_whose_2 2 rfl rfl)
theorem dX0_whose_49 : decode cX0_whose 49 = .ok (.iinc 4 1, 3) := dk_132 4 1 (dk_at dksX0_whose_2 3 rfl rfl)
theorem dX0_whose_52 : decode cX0_whose 52 = .ok (.goto (-40), 3) := dk_167 255 216 (dk_at dksX0_whose_2 6 rfl rfl)
theorem dX0_whose_55 : decode cX0_whose 55 = .ok (.aload_n 0, 1) := dk_42 (dk_at dksX0_whose_2 9 rfl rfl)
theorem dX0_whose_56 : decode cX0_whose 56 = .ok (.getfield 183, 3) := dk_180 0 183 (dk_at dksX0_whose_2 10 rfl rfl)
theorem dX0_whose_59 : decode cX0_whose 59 = .ok (.iload_n 1, 1) := dk_27 (dk_at dksX0_whose_2 13 rfl rfl)
theorem dX0_whose_60 : decode cX0_whose 60 = .ok (.iload_n 2, 1) := dk_28 (dk_at dksX0_whose_2 14 rfl rfl)
theorem dX0_whose_61 : decode cX0_whose 61 = .ok (.iastore, 1) := dk_79 (dk_at dksX0_whose_2 15 rfl rfl)
theorem dX0_whose_62 : decode cX0_whose 62 = .ok (.iload_n 3, 1) := dk_29 (dk_at dksX0_whose_2 16 rfl rfl)
theorem dX0_whose_63 : decode cX0_whose 63 = .ok (.ireturn, 1) := dk_172 (dk_at dksX0_whose_2 17 rfl rfl)
def dkwX0_byTurns_4 : List UInt8 := [167, 0, 4, 4, 172]
abbrev dktX0_byTurns_4 : List UInt8 := dkwX0_byTurns_4 ++ []
def dkwX0_byTurns_3 : List UInt8 := [50, 42, 180, 0, 174, 3, 50, 182, 0, 216, 42, 4, 28, 4, 100, 182, 1, 124, 21, 4, 160, 0, 7, 3]
abbrev dktX0_byTurns_3 : List UInt8 := dkwX0_byTurns_3 ++ dktX0_byTurns_4
def dkwX0_byTurns_2 : List UInt8 := [182, 1, 35, 87, 42, 3, 28, 182, 1, 124, 54, 4, 29, 154, 0, 6, 21, 4, 172, 42, 180, 0, 174, 4]
abbrev dktX0_byTurns_2 : List UInt8 := dkwX0_byTurns_2 ++ dktX0_byTurns_3
def dkwX0_byTurns_1 : List UInt8 := [154, 0, 7, 19, 1, 127, 172, 42, 27, 16, 10, 108, 181, 1, 118, 42, 27, 16, 10, 112, 181, 1, 121, 42]
abbrev dktX0_byTurns_1 : List UInt8 := dkwX0_byTurns_1 ++ dktX0_byTurns_2
def dkwX0_byTurns_0 : List UInt8 := [42, 27, 182, 1, 80, 153, 0, 21, 28, 4, 8, 184, 0, 7, 153, 0, 12, 29, 3, 4, 184, 0, 7]
abbrev dktX0_byTurns_0 : List UInt8 := dkwX0_byTurns_0 ++ dktX0_byTurns_1
theorem dksX0_byTurns_0 : cX0_byTurns.data.toList.drop 0 = dktX0_byTurns_0 := by decide +kernel
theorem dksX0_byTurns_1 : cX0_byTurns.data.toList.drop 23 = dktX0_byTurns_1 := dk_seg dksX0_byTurns_0 23 rfl rfl
theorem dksX0_byTurns_2 : cX0_byTurns.data.toList.drop 47 = dktX0_byTurns_2 := dk_seg dksX0_byTurns_1 24 rfl rfl
theorem dksX0_byTurns_3 : cX0_byTurns.data.toList.drop 71 = dktX0_byTurns_3 := dk_seg dksX0_byTurns_2 24 rfl rfl
theorem dksX0_byTurns_4 : cX0_byTurns.data.toList.drop 95 = dktX0_byTurns_4 := dk_seg dksX0_byTurns_3 24 rfl rfl
theorem dX0_byTurns_0 : decode cX0_byTurns 0 = .ok (.aload_n 0, 1) := dk_42 (dk_at dksX0_byTurns_0 0 rfl rfl)
theorem dX0_byTurns_1 : decode cX0_byTurns 1 = .ok (.iload_n 1, 1) := dk_27 (dk_at dksX0_byTurns_0 1 rfl rfl)
theorem dX0_byTurns_2 : decode cX0_byTurns 2 = .ok (.invokevirtual 336, 3) := dk_182 1 80 (dk_at dksX0_byTurns_0 2 rfl rfl)
theorem dX0_byTurns_5 : decode cX0_byTurns 5 = .ok (.ifCond .eq 21, 3) := dk_153 0 21 (dk_at dksX0_byTurns_0 5 rfl rfl)
theorem dX0_byTurns_8 : decode cX0_byTurns 8 = .ok (.iload_n 2, 1) := dk_28 (dk_at dksX0_byTurns_0 8 rfl rfl)
theorem dX0_byTurns_9 : decode cX0_byTurns 9 = .ok (.iconst 1, 1) := dk_4 (dk_at dksX0_byTurns_0 9 rfl rfl)
theorem dX0_byTurns_10 : decode cX0_byTurns 10 = .ok (.iconst 5, 1) := dk_8 (dk_at dksX0_byTurns_0 10 rfl rfl)
theorem dX0_byTurns_11 : decode cX0_byTurns 11 = .ok (.invokestatic 7, 3) := dk_184 0 7 (dk_at dksX0_byTurns_0 11 rfl rfl)
theorem dX0_byTurns_14 : decode cX0_byTurns 14 = .ok (.ifCond .eq 12, 3) := dk_153 0 12 (dk_at dksX0_byTurns_0 14 rfl rfl)
theorem dX0_byTurns_17 : decode cX0_byTurns 17 = .ok (.iload_n 3, 1) := dk_29 (dk_at dksX0_byTurns_0 17 rfl rfl)
theorem dX0_byTurns_18 : decode cX0_byTurns 18 = .ok (.iconst 0, 1) := dk_3 (dk_at dksX0_byTurns_0 18 rfl rfl)
theorem dX0_byTurns_19 : decode cX0_byTurns 19 = .ok (.iconst 1, 1) := dk_4 (dk_at dksX0_byTurns_0 19 rfl rfl)
theorem dX0_byTurns_20 : decode cX0_byTurns 20 = .ok (.invokestatic 7, 3) := dk_184 0 7 (dk_at dksX0_byTurns_0 20 rfl rfl)
theorem dX0_byTurns_23 : decode cX0_byTurns 23 = .ok (.ifCond .ne 7, 3) := dk_154 0 7 (dk_at dksX0_byTurns_1 0 rfl rfl)
theorem dX0_byTurns_26 : decode cX0_byTurns 26 = .ok (.ldc_w 383, 3) := dk_19 1 127 (dk_at dksX0_byTurns_1 3 rfl rfl)
theorem dX0_byTurns_29 : decode cX0_byTurns 29 = .ok (.ireturn, 1) := dk_172 (dk_at dksX0_byTurns_1 6 rfl rfl)
theorem dX0_byTurns_30 : decode cX0_byTurns 30 = .ok (.aload_n 0, 1) := dk_42 (dk_at dksX0_byTurns_1 7 rfl rfl)
theorem dX0_byTurns_31 : decode cX0_byTurns 31 = .ok (.iload_n 1, 1) := dk_27 (dk_at dksX0_byTurns_1 8 rfl rfl)
theorem dX0_byTurns_32 : decode cX0_byTurns 32 = .ok (.bipush 10, 2) := dk_16 10 (dk_at dksX0_byTurns_1 9 rfl rfl)
theorem dX0_byTurns_34 : decode cX0_byTurns 34 = .ok (.idiv, 1) := dk_108 (dk_at dksX0_byTurns_1 11 rfl rfl)
theorem dX0_byTurns_35 : decode cX0_byTurns 35 = .ok (.putfield 374, 3) := dk_181 1 118 (dk_at dksX0_byTurns_1 12 rfl rfl)
theorem dX0_byTurns_38 : decode cX0_byTurns 38 = .ok (.aload_n 0, 1) := dk_42 (dk_at dksX0_byTurns_1 15 rfl rfl)
theorem dX0_byTurns_39 : decode cX0_byTurns 39 = .ok (.iload_n 1, 1) := dk_27 (dk_at dksX0_byTurns_1 16 rfl rfl)
theorem dX0_byTurns_40 : decode cX0_byTurns 40 = .ok (.bipush 10, 2) := dk_16 10 (dk_at dksX0_byTurns_1 17 rfl rfl)
theorem dX0_byTurns_42 : decode cX0_byTurns 42 = .ok (.irem, 1) := dk_112 (dk_at dksX0_byTurns_1 19 rfl rfl)
theorem dX0_byTurns_43 : decode cX0_byTurns 43 = .ok (.putfield 377, 3) := dk_181 1 121 (dk_at dksX0_byTurns_1 20 rfl rfl)
theorem dX0_byTurns_46 : decode cX0_byTurns 46 = .ok (.aload_n 0, 1) := dk_42 (dk_at dksX0_byTurns_1 23 rfl rfl)
theorem dX0_byTurns_47 : decode cX0_byTurns 47 = .ok (.invokevirtual 291, 3) := dk_182 1 35 (dk_at dksX0_byTurns_2 0 rfl rfl)
theorem dX0_byTurns_50 : decode cX0_byTurns 50 = .ok (.pop, 1) := dk_87 (dk_at dksX0_byTurns_2 3 rfl rfl)
theorem dX0_byTurns_51 : decode cX0_byTurns 51 = .ok (.aload_n 0, 1) := dk_42 (dk_at dksX0_byTurns_2 4 rfl rfl)
theorem dX0_byTurns_52 : decode cX0_byTurns 52 = .ok (.iconst 0, 1) := dk_3 (dk_at dksX0_byTurns_2 5 rfl rfl)
theorem dX0_byTurns_53 : decode cX0_byTurns 53 = .ok (.iload_n 2, 1) := dk_28 (dk_at dksX0_byTurns_2 6 rfl rfl)
theorem dX0_byTurns_54 : decode cX0_byTurns 54 = .ok (.invokevirtual 380, 3) := dk_182 1 124 (dk_at dksX0_byTurns_2 7 rfl rfl)
theorem dX0_byTurns_57 : decode cX0_byTurns 57 = .ok (.istore 4, 2) := dk_54 4 (dk_at dksX0_byTurns_2 10 rfl rfl)
theorem dX0_byTurns_59 : decode cX0_byTurns 59 = .ok (.iload_n 3, 1) := dk_29 (dk_at dksX0_byTurns_2 12 rfl rfl)
theorem dX0_byTurns_60 : decode cX0_byTurns 60 = .ok (.ifCond .ne 6, 3) := dk_154 0 6 (dk_at dksX0_byTurns_2 13 rfl rfl)
theorem dX0_byTurns_63 : decode cX0_byTurns 63 = .ok (.iload 4, 2) := dk_21 4 (dk_at dksX0_byTurns_2 16 rfl rfl)
theorem dX0_byTurns_65 : decode cX0_byTurns 65 = .ok (.ireturn, 1) := dk_172 (dk_at dksX0_byTurns_2 18 rfl rfl)
theorem dX0_byTurns_66 : decode cX0_byTurns 66 = .ok (.aload_n 0, 1) := dk_42 (dk_at dksX0_byTurns_2 19 rfl rfl)
theorem dX0_byTurns_67 : decode cX0_byTurns 67 = .ok (.getfield 174, 3) := dk_180 0 174 (dk_at dksX0_byTurns_2 20 rfl rfl)
theorem dX0_byTurns_70 : decode cX0_byTurns 70 = .ok (.iconst 1, 1) := dk_4 (dk_at dksX0_byTurns_2 23 rfl rfl)
theorem dX0_byTurns_71 : decode cX0_byTurns 71 = .ok (.aaload, 1) := dk_50 (dk_at dksX0_byTurns_3 0 rfl rfl)
theorem dX0_byTurns_72 : decode cX0_byTurns 72 = .ok (.aload_n 0, 1) := dk_42 (dk_at dksX0_byTurns_3 1 rfl rfl)
theorem dX0_byTurns_73 : decode cX0_byTurns 73 = .ok (.getfield 174, 3) := dk_180 0 174 (dk_at dksX0_byTurns_3 2 rfl rfl)
theorem dX0_byTurns_76 : decode cX0_byTurns 76 = .ok (.iconst 0, 1) := dk_3 (dk_at dksX0_byTurns_3 5 rfl rfl)
theorem dX0_byTurns_77 : decode cX0_byTurns 77 = .ok (.aaload, 1) := dk_50 (dk_at dksX0_byTurns_3 6 rfl rfl)
theorem dX0_byTurns_78 : decode cX0_byTurns 78 = .ok (.invokevirtual 216, 3) := dk_182 0 216 (dk_at dksX0_byTurns_3 7 rfl rfl)
theorem dX0_byTurns_81 : decode cX0_byTurns 81 = .ok (.aload_n 0, 1) := dk_42 (dk_at dksX0_byTurns_3 10 rfl rfl)
theorem dX0_byTurns_82 : decode cX0_byTurns 82 = .ok (.iconst 1, 1) := dk_4 (dk_at dksX0_byTurns_3 11 rfl rfl)
theorem dX0_byTurns_83 : decode cX0_byTurns 83 = .ok (.iload_n 2, 1) := dk_28 (dk_at dksX0_byTurns_3 12 rfl rfl)
theorem dX0_byTurns_84 : decode cX0_byTurns 84 = .ok (.iconst 1, 1) := dk_4 (dk_at dksX0_byTurns_3 13 rfl rfl)
theorem dX0_byTurns_85 : decode cX0_byTurns 85 = .ok (.isub, 1) := dk_100 (dk_at dksX0_byTurns_3 14 rfl rfl)
theorem dX0_byTurns_86 : decode cX0_byTurns 86 = .ok (.invokevirtual 380, 3) := dk_182 1 124 (dk_at dksX0_byTurns_3 15 rfl rfl)
theorem dX0_byTurns_89 : decode cX0_byTurns 89 = .ok (.iload 4, 2) := dk_21 4 (dk_at dksX0_byTurns_3 18 rfl rfl)
theorem dX0_byTurns_91 : decode cX0_byTurns 91 = .ok (.if_icmp .ne 7, 3) := dk_160 0 7 (dk_at dksX0_byTurns_3 20 rfl rfl)
theorem dX0_byTurns_94 : decode cX0_byTurns 94 = .ok (.iconst 0, 1) := dk_3 (dk_at dksX0_byTurns_3 23 rfl rfl)
theorem dX0_byTurns_95 : decode cX0_byTurns 95 = .ok (.goto 4, 3) := dk_167 0 4 (dk_at dksX0_byTurns_4 0 rfl rfl)
theorem dX0_byTurns_98 : decode cX0_byTurns 98 = .ok (.iconst 1, 1) := dk_4 (dk_at dksX0_byTurns_4 3 rfl rfl)
theorem dX0_byTurns_99 : decode cX0_byTurns 99 = .ok (.ireturn, 1) := dk_172 (dk_at dksX0_byTurns_4 4 rfl rfl)
def dkwX0_bestOf_6 : List UInt8 := [172]
abbrev dktX0_bestOf_6 : List UInt8 := dkwX0_bestOf_6 ++ []
def dkwX0_bestOf_5 : List UInt8 := [54, 6, 21, 4, 153, 0, 13, 21, 5, 21, 6, 184, 0, 237, 167, 0, 10, 21, 5, 21, 6, 184, 0, 232]
abbrev dktX0_bestOf_5 : List UInt8 := dkwX0_bestOf_5 ++ dktX0_bestOf_6
def dkwX0_bestOf_4 : List UInt8 := [180, 1, 118, 167, 0, 7, 42, 180, 1, 121, 182, 1, 28, 42, 27, 4, 96, 28, 4, 100, 182, 1, 124]
abbrev dktX0_bestOf_4 : List UInt8 := dkwX0_bestOf_4 ++ dktX0_bestOf_5
def dkwX0_bestOf_3 : List UInt8 := [27, 4, 96, 50, 45, 182, 0, 216, 42, 42, 180, 0, 174, 27, 4, 96, 50, 21, 4, 153, 0, 10, 42]
abbrev dktX0_bestOf_3 : List UInt8 := dkwX0_bestOf_3 ++ dktX0_bestOf_4
def dkwX0_bestOf_2 : List UInt8 := [27, 4, 96, 50, 45, 182, 0, 216, 42, 27, 4, 96, 28, 4, 100, 182, 1, 124, 54, 5, 42, 180, 0, 174]
abbrev dktX0_bestOf_2 : List UInt8 := dkwX0_bestOf_2 ++ dktX0_bestOf_3
def dkwX0_bestOf_1 : List UInt8 := [42, 180, 1, 121, 46, 100, 172, 27, 5, 112, 154, 0, 7, 4, 167, 0, 4, 3, 54, 4, 42, 180, 0, 174]
abbrev dktX0_bestOf_1 : List UInt8 := dkwX0_bestOf_1 ++ dktX0_bestOf_2
def dkwX0_bestOf_0 : List UInt8 := [42, 180, 0, 174, 27, 50, 78, 28, 154, 0, 23, 45, 180, 0, 207, 42, 180, 1, 118, 46, 45, 180, 0, 207]
abbrev dktX0_bestOf_0 : List UInt8 := dkwX0_bestOf_0 ++ dktX0_bestOf_1
theorem dksX0_bestOf_0 : cX0_bestOf.data.toList.drop 0 = dktX0_bestOf_0 := by decide +kernel
theorem dksX0_bestOf_1 : cX0_bestOf.data.toList.drop 24 = dktX0_bestOf_1 := dk_seg dksX0_bestOf_0 24 rfl rfl
theorem dksX0_bestOf_2 : cX0_bestOf.data.toList.drop 48 = dktX0_bestOf_2 := dk_seg dksX0_bestOf_1 24 rfl rfl
theorem dksX0_bestOf_3 : cX0_bestOf.data.toList.drop 72 = dktX0_bestOf_3 := dk_seg dksX0_bestOf_2 24 rfl rfl
theorem dksX0_bestOf_4 : cX0_bestOf.data.toList.drop 95 = dktX0_bestOf_4 := dk_seg dksX0_bestOf_3 23 rfl rfl
theorem dksX0_bestOf_5 : cX0_bestOf.data.toList.drop 118 = dktX0_bestOf_5 := dk_seg dksX0_bestOf_4 23 rfl rfl
theorem dksX0_bestOf_6 : cX0_bestOf.data.toList.drop 142 = dktX0_bestOf_6 := dk_seg dksX0_bestOf_5 24 rfl rfl
theorem dX0_bestOf_0 : decode cX0_bestOf 0 = .ok (.aload_n 0, 1) := dk_42 (dk_at dksX0_bestOf_0 0 rfl rfl)
theorem dX0_bestOf_1 : decode cX0_bestOf 1 = .ok (.getfield 174, 3) := dk_180 0 174 (dk_at dksX0_bestOf_0 1 rfl rfl)
theorem dX0_bestOf_4 : decode cX0_bestOf 4 = .ok (.iload_n 1, 1) := dk_27 (dk_at dksX0_bestOf_0 4 rfl rfl)
theorem dX0_bestOf_5 : decode cX0_bestOf 5 = .ok (.aaload, 1) := dk_50 (dk_at dksX0_bestOf_0 5 rfl rfl)
theorem dX0_bestOf_6 : decode cX0_bestOf 6 = .ok (.astore_n 3, 1) := dk_78 (dk_at dksX0_bestOf_0 6 rfl rfl)
theorem dX0_bestOf_7 : decode cX0_bestOf 7 = .ok (.iload_n 2, 1) := dk_28 (dk_at dksX0_bestOf_0 7 rfl rfl)
theorem dX0_bestOf_8 : decode cX0_bestOf 8 = .ok (.ifCond .ne 23, 3) := dk_154 0 23 (dk_at dksX0_bestOf_0 8 rfl rfl)
theorem dX0_bestOf_11 : decode cX0_bestOf 11 = .ok (.aload_n 3, 1) := dk_45 (dk_at dksX0_bestOf_0 11 rfl rfl)
theorem dX0_bestOf_12 : decode cX0_bestOf 12 = .ok (.getfield 207, 3) := dk_180 0 207 (dk_at dksX0_bestOf_0 12 rfl rfl)
theorem dX0_bestOf_15 : decode cX0_bestOf 15 = .ok (.aload_n 0, 1) := dk_42 (dk_at dksX0_bestOf_0 15 rfl rfl)
theorem dX0_bestOf_16 : decode cX0_bestOf 16 = .ok (.getfield 374, 3) := dk_180 1 118 (dk_at dksX0_bestOf_0 16 rfl rfl)
theorem dX0_bestOf_19 : decode cX0_bestOf 19 = .ok (.iaload, 1) := dk_46 (dk_at dksX0_bestOf_0 19 rfl rfl)
theorem dX0_bestOf_20 : decode cX0_bestOf 20 = .ok (.aload_n 3, 1) := dk_45 (dk_at dksX0_bestOf_0 20 rfl rfl)
theorem dX0_bestOf_21 : decode cX0_bestOf 21 = .ok (.getfield 207, 3) := dk_180 0 207 (dk_at dksX0_bestOf_0 21 rfl rfl)
theorem dX0_bestOf_24 : decode cX0_bestOf 24 = .ok (.aload_n 0, 1) := dk_42 (dk_at dksX0_bestOf_1 0 rfl rfl)
theorem dX0_bestOf_25 : decode cX0_bestOf 25 = .ok (.getfield 377, 3) := dk_180 1 121 (dk_at dksX0_bestOf_1 1 rfl rfl)
theorem dX0_bestOf_28 : decode cX0_bestOf 28 = .ok (.iaload, 1) := dk_46 (dk_at dksX0_bestOf_1 4 rfl rfl)
theorem dX0_bestOf_29 : decode cX0_bestOf 29 = .ok (.isub, 1) := dk_100 (dk_at dksX0_bestOf_1 5 rfl rfl)
theorem dX0_bestOf_30 : decode cX0_bestOf 30 = .ok (.ireturn, 1) := dk_172 (dk_at dksX0_bestOf_1 6 rfl rfl)
theorem dX0_bestOf_31 : decode cX0_bestOf 31 = .ok (.iload_n 1, 1) := dk_27 (dk_at dksX0_bestOf_1 7 rfl rfl)
theorem dX0_bestOf_32 : decode cX0_bestOf 32 = .ok (.iconst 2, 1) := dk_5 (dk_at dksX0_bestOf_1 8 rfl rfl)
theorem dX0_bestOf_33 : decode cX0_bestOf 33 = .ok (.irem, 1) := dk_112 (dk_at dksX0_bestOf_1 9 rfl rfl)
theorem dX0_bestOf_34 : decode cX0_bestOf 34 = .ok (.ifCond .ne 7, 3) := dk_154 0 7 (dk_at dksX0_bestOf_1 10 rfl rfl)
theorem dX0_bestOf_37 : decode cX0_bestOf 37 = .ok (.iconst 1, 1) := dk_4 (dk_at dksX0_bestOf_1 13 rfl rfl)
theorem dX0_bestOf_38 : decode cX0_bestOf 38 = .ok (.goto 4, 3) := dk_167 0 4 (dk_at dksX0_bestOf_1 14 rfl rfl)
theorem dX0_bestOf_41 : decode cX0_bestOf 41 = .ok (.iconst 0, 1) := dk_3 (dk_at dksX0_bestOf_1 17 rfl rfl)
theorem dX0_bestOf_42 : decode cX0_bestOf 42 = .ok (.istore 4, 2) := dk_54 4 (dk_at dksX0_bestOf_1 18 rfl rfl)
theorem dX0_bestOf_44 : decode cX0_bestOf 44 = .ok (.aload_n 0, 1) := dk_42 (dk_at dksX0_bestOf_1 20 rfl rfl)
theorem dX0_bestOf_45 : decode cX0_bestOf 45 = .ok (.getfield 174, 3) := dk_180 0 174 (dk_at dksX0_bestOf_1 21 rfl rfl)
theorem dX0_bestOf_48 : decode cX0_bestOf 48 = .ok (.iload_n 1, 1) := dk_27 (dk_at dksX0_bestOf_2 0 rfl rfl)
theorem dX0_bestOf_49 : decode cX0_bestOf 49 = .ok (.iconst 1, 1) := dk_4 (dk_at dksX0_bestOf_2 1 rfl rfl)
theorem dX0_bestOf_50 : decode cX0_bestOf 50 = .ok (.iadd, 1) := dk_96 (dk_at dksX0_bestOf_2 2 rfl rfl)
theorem dX0_bestOf_51 : decode cX0_bestOf 51 = .ok (.aaload, 1) := dk_50 (dk_at dksX0_bestOf_2 3 rfl rfl)
theorem dX0_bestOf_52 : decode cX0_bestOf 52 = .ok (.aload_n 3, 1) := dk_45 (dk_at dksX0_bestOf_2 4 rfl rfl)
theorem dX0_bestOf_53 : decode cX0_bestOf 53 = .ok (.invokevirtual 216, 3) := dk_182 0 216 (dk_at dksX0_bestOf_2 5 rfl rfl)
theorem dX0_bestOf_56 : decode cX0_bestOf 56 = .ok (.aload_n 0, 1) := dk_42 (dk_at dksX0_bestOf_2 8 rfl rfl)
theorem dX0_bestOf_57 : decode cX0_bestOf 57 = .ok (.iload_n 1, 1) := dk_27 (dk_at dksX0_bestOf_2 9 rfl rfl)
theorem dX0_bestOf_58 : decode cX0_bestOf 58 = .ok (.iconst 1, 1) := dk_4 (dk_at dksX0_bestOf_2 10 rfl rfl)
theorem dX0_bestOf_59 : decode cX0_bestOf 59 = .ok (.iadd, 1) := dk_96 (dk_at dksX0_bestOf_2 11 rfl rfl)
theorem dX0_bestOf_60 : decode cX0_bestOf 60 = .ok (.iload_n 2, 1) := dk_28 (dk_at dksX0_bestOf_2 12 rfl rfl)
theorem dX0_bestOf_61 : decode cX0_bestOf 61 = .ok (.iconst 1, 1) := dk_4 (dk_at dksX0_bestOf_2 13 rfl rfl)
theorem dX0_bestOf_62 : decode cX0_bestOf 62 = .ok (.isub, 1) := dk_100 (dk_at dksX0_bestOf_2 14 rfl rfl)
theorem dX0_bestOf_63 : decode cX0_bestOf 63 = .ok (.invokevirtual 380, 3) := dk_182 1 124 (dk_at dksX0_bestOf_2 15 rfl rfl)
theorem dX0_bestOf_66 : decode cX0_bestOf 66 = .ok (.istore 5, 2) := dk_54 5 (dk_at dksX0_bestOf_2 18 rfl rfl)
theorem dX0_bestOf_68 : decode cX0_bestOf 68 = .ok (.aload_n 0, 1) := dk_42 (dk_at dksX0_bestOf_2 20 rfl rfl)
theorem dX0_bestOf_69 : decode cX0_bestOf 69 = .ok (.getfield 174, 3) := dk_180 0 174 (dk_at dksX0_bestOf_2 21 rfl rfl)
theorem dX0_bestOf_72 : decode cX0_bestOf 72 = .ok (.iload_n 1, 1) := dk_27 (dk_at dksX0_bestOf_3 0 rfl rfl)
theorem dX0_bestOf_73 : decode cX0_bestOf 73 = .ok (.iconst 1, 1) := dk_4 (dk_at dksX0_bestOf_3 1 rfl rfl)
theorem dX0_bestOf_74 : decode cX0_bestOf 74 = .ok (.iadd, 1) := dk_96 (dk_at dksX0_bestOf_3 2 rfl rfl)
theorem dX0_bestOf_75 : decode cX0_bestOf 75 = .ok (.aaload, 1) := dk_50 (dk_at dksX0_bestOf_3 3 rfl rfl)
theorem dX0_bestOf_76 : decode cX0_bestOf 76 = .ok (.aload_n 3, 1) := dk_45 (dk_at dksX0_bestOf_3 4 rfl rfl)
theorem dX0_bestOf_77 : decode cX0_bestOf 77 = .ok (.invokevirtual 216, 3) := dk_182 0 216 (dk_at dksX0_bestOf_3 5 rfl rfl)
theorem dX0_bestOf_80 : decode cX0_bestOf 80 = .ok (.aload_n 0, 1) := dk_42 (dk_at dksX0_bestOf_3 8 rfl rfl)
theorem dX0_bestOf_81 : decode cX0_bestOf 81 = .ok (.aload_n 0, 1) := dk_42 (dk_at dksX0_bestOf_3 9 rfl rfl)
theorem dX0_bestOf_82 : decode cX0_bestOf 82 = .ok (.getfield 174, 3) := dk_180 0 174 (dk_at dksX0_bestOf_3 10 rfl rfl)
theorem dX0_bestOf_85 : decode cX0_bestOf 85 = .ok (.iload_n 1, 1) := dk_27 (dk_at dksX0_bestOf_3 13 rfl rfl)
theorem dX0_bestOf_86 : decode cX0_bestOf 86 = .ok (.iconst 1, 1) := dk_4 (dk_at dksX0_bestOf_3 14 rfl rfl)
theorem dX0_bestOf_87 : decode cX0_bestOf 87 = .ok (.iadd, 1) := dk_96 (dk_at dksX0_bestOf_3 15 rfl rfl)
theorem dX0_bestOf_88 : decode cX0_bestOf 88 = .ok (.aaload, 1) := dk_50 (dk_at dksX0_bestOf_3 16 rfl rfl)
theorem dX0_bestOf_89 : decode cX0_bestOf 89 = .ok (.iload 4, 2) := dk_21 4 (dk_at dksX0_bestOf_3 17 rfl rfl)
theorem dX0_bestOf_91 : decode cX0_bestOf 91 = .ok (.ifCond .eq 10, 3) := dk_153 0 10 (dk_at dksX0_bestOf_3 19 rfl rfl)
theorem dX0_bestOf_94 : decode cX0_bestOf 94 = .ok (.aload_n 0, 1) := dk_42 (dk_at dksX0_bestOf_3 22 rfl rfl)
theorem dX0_bestOf_95 : decode cX0_bestOf 95 = .ok (.getfield 374, 3) := dk_180 1 118 (dk_at dksX0_bestOf_4 0 rfl rfl)
theorem dX0_bestOf_98 : decode cX0_bestOf 98 = .ok (.goto 7, 3) := dk_167 0 7 (dk_at dksX0_bestOf_4 3 rfl rfl)
theorem dX0_bestOf_101 : decode cX0_bestOf 101 = .ok (.aload_n 0, 1) := dk_42 (dk_at dksX0_bestOf_4 6 rfl rfl)
theorem dX0_bestOf_102 : decode cX0_bestOf 102 = .ok (.getfield 377, 3) := dk_180 1 121 (dk_at dksX0_bestOf_4 7 rfl rfl)
theorem dX0_bestOf_105 : decode cX0_bestOf 105 = .ok (.invokevirtual 284, 3) := dk_182 1 28 (dk_at dksX0_bestOf_4 10 rfl rfl)
theorem dX0_bestOf_108 : decode cX0_bestOf 108 = .ok (.aload_n 0, 1) := dk_42 (dk_at dksX0_bestOf_4 13 rfl rfl)
theorem dX0_bestOf_109 : decode cX0_bestOf 109 = .ok (.iload_n 1, 1) := dk_27 (dk_at dksX0_bestOf_4 14 rfl rfl)
theorem dX0_bestOf_110 : decode cX0_bestOf 110 = .ok (.iconst 1, 1) := dk_4 (dk_at dksX0_bestOf_4 15 rfl rfl)
theorem dX0_bestOf_111 : decode cX0_bestOf 111 = .ok (.iadd, 1) := dk_96 (dk_at dksX0_bestOf_4 16 rfl rfl)
theorem dX0_bestOf_112 : decode cX0_bestOf 112 = .ok (.iload_n 2, 1) := dk_28 (dk_at dksX0_bestOf_4 17 rfl rfl)
theorem dX0_bestOf_113 : decode cX0_bestOf 113 = .ok (.iconst 1, 1) := dk_4 (dk_at dksX0_bestOf_4 18 rfl rfl)
theorem dX0_bestOf_114 : decode cX0_bestOf 114 = .ok (.isub, 1) := dk_100 (dk_at dksX0_bestOf_4 19 rfl rfl)
theorem dX0_bestOf_115 : decode cX0_bestOf 115 = .ok (.invokevirtual 380, 3) := dk_182 1 124 (dk_at dksX0_bestOf_4 20 rfl rfl)
theorem dX0_bestOf_118 : decode cX0_bestOf 118 = .ok (.istore 6, 2) := dk_54 6 (dk_at dksX0_bestOf_5 0 rfl rfl)
theorem dX0_bestOf_120 : decode cX0_bestOf 120 = .ok (.iload 4, 2) := dk_21 4 (dk_at dksX0_bestOf_5 2 rfl rfl)
theorem dX0_bestOf_122 : decode cX0_bestOf 122 = .ok (.ifCond .eq 13, 3) := dk_153 0 13 (dk_at dksX0_bestOf_5 4 rfl rfl)
theorem dX0_bestOf_125 : decode cX0_bestOf 125 = .ok (.iload 5, 2) := dk_21 5 (dk_at dksX0_bestOf_5 7 rfl rfl)
theorem dX0_bestOf_127 : decode cX0_bestOf 127 = .ok (.iload 6, 2) := dk_21 6 (dk_at dksX0_bestOf_5 9 rfl rfl)
theorem dX0_bestOf_129 : decode cX0_bestOf 129 = .ok (.invokestatic 237, 3) := dk_184 0 237 (dk_at dksX0_bestOf_5 11 rfl rfl)
theorem dX0_bestOf_132 : decode cX0_bestOf 132 = .ok (.goto 10, 3) := dk_167 0 10 (dk_at dksX0_bestOf_5 14 rfl rfl)
theorem dX0_bestOf_135 : decode cX0_bestOf 135 = .ok (.iload 5, 2) := dk_21 5 (dk_at dksX0_bestOf_5 17 rfl rfl)
theorem dX0_bestOf_137 : decode cX0_bestOf 137 = .ok (.iload 6, 2) := dk_21 6 (dk_at dksX0_bestOf_5 19 rfl rfl)
theorem dX0_bestOf_139 : decode cX0_bestOf 139 = .ok (.invokestatic 232, 3) := dk_184 0 232 (dk_at dksX0_bestOf_5 21 rfl rfl)
theorem dX0_bestOf_142 : decode cX0_bestOf 142 = .ok (.ireturn, 1) := dk_172 (dk_at dksX0_bestOf_6 0 rfl rfl)
def dkwX0_drawn_8 : List UInt8 := [21, 6, 172]
abbrev dktX0_drawn_8 : List UInt8 := dkwX0_drawn_8 ++ []
def dkwX0_drawn_7 : List UInt8 := [25, 8, 180, 0, 213, 167, 0, 10, 25, 8, 180, 0, 207, 29, 46, 96, 54, 6, 132, 7, 1, 167, 255, 142]
abbrev dktX0_drawn_7 : List UInt8 := dkwX0_drawn_7 ++ dktX0_drawn_8
def dkwX0_drawn_6 : List UInt8 := [16, 8, 124, 42, 180, 0, 1, 112, 182, 1, 28, 132, 9, 1, 167, 255, 191, 21, 6, 29, 156, 0, 11]
abbrev dktX0_drawn_6 : List UInt8 := dkwX0_drawn_6 ++ dktX0_drawn_7
def dkwX0_drawn_5 : List UInt8 := [16, 100, 112, 162, 0, 8, 25, 8, 182, 1, 49, 42, 180, 0, 1, 158, 0, 19, 42, 25, 8, 21, 5]
abbrev dktX0_drawn_5 : List UInt8 := dkwX0_drawn_5 ++ dktX0_drawn_6
def dkwX0_drawn_4 : List UInt8 := [162, 0, 64, 21, 5, 19, 1, 128, 104, 17, 48, 57, 96, 54, 5, 21, 5, 16, 16, 124, 16, 12, 112, 28]
abbrev dktX0_drawn_4 : List UInt8 := dkwX0_drawn_4 ++ dktX0_drawn_5
def dkwX0_drawn_3 : List UInt8 := [21, 7, 28, 17, 39, 16, 108, 162, 0, 110, 42, 182, 1, 35, 58, 8, 3, 54, 9, 21, 9, 21, 4]
abbrev dktX0_drawn_3 : List UInt8 := dkwX0_drawn_3 ++ dktX0_drawn_4
def dkwX0_drawn_2 : List UInt8 := [2, 42, 180, 0, 1, 4, 100, 184, 0, 7, 154, 0, 5, 2, 172, 27, 54, 5, 3, 54, 6, 3, 54, 7]
abbrev dktX0_drawn_2 : List UInt8 := dkwX0_drawn_2 ++ dktX0_drawn_3
def dkwX0_drawn_1 : List UInt8 := [153, 0, 37, 21, 4, 4, 16, 60, 184, 0, 7, 153, 0, 26, 28, 16, 100, 112, 16, 12, 163, 0, 17, 29]
abbrev dktX0_drawn_1 : List UInt8 := dkwX0_drawn_1 ++ dktX0_drawn_2
def dkwX0_drawn_0 : List UInt8 := [28, 16, 100, 108, 16, 100, 112, 54, 4, 28, 155, 0, 51, 28, 17, 39, 16, 108, 4, 16, 30, 184, 0, 7]
abbrev dktX0_drawn_0 : List UInt8 := dkwX0_drawn_0 ++ dktX0_drawn_1
theorem dksX0_drawn_0 : cX0_drawn.data.toList.drop 0 = dktX0_drawn_0 := by decide +kernel
theorem dksX0_drawn_1 : cX0_drawn.data.toList.drop 24 = dktX0_drawn_1 := dk_seg dksX0_drawn_0 24 rfl rfl
theorem dksX0_drawn_2 : cX0_drawn.data.toList.drop 48 = dktX0_drawn_2 := dk_seg dksX0_drawn_1 24 rfl rfl
theorem dksX0_drawn_3 : cX0_drawn.data.toList.drop 72 = dktX0_drawn_3 := dk_seg dksX0_drawn_2 24 rfl rfl
theorem dksX0_drawn_4 : cX0_drawn.data.toList.drop 95 = dktX0_drawn_4 := dk_seg dksX0_drawn_3 23 rfl rfl
theorem dksX0_drawn_5 : cX0_drawn.data.toList.drop 119 = dktX0_drawn_5 := dk_seg dksX0_drawn_4 24 rfl rfl
theorem dksX0_drawn_6 : cX0_drawn.data.toList.drop 142 = dktX0_drawn_6 := dk_seg dksX0_drawn_5 23 rfl rfl
theorem dksX0_drawn_7 : cX0_drawn.data.toList.drop 165 = dktX0_drawn_7 := dk_seg dksX0_drawn_6 23 rfl rfl
theorem dksX0_drawn_8 : cX0_drawn.data.toList.drop 189 = dktX0_drawn_8 := dk_seg dksX0_drawn_7 24 rfl rfl
theorem dX0_drawn_0 : decode cX0_drawn 0 = .ok (.iload_n 2, 1) := dk_28 (dk_at dksX0_drawn_0 0 rfl rfl)
theorem dX0_drawn_1 : decode cX0_drawn 1 = .ok (.bipush 100, 2) := dk_16 100 (dk_at dksX0_drawn_0 1 rfl rfl)
theorem dX0_drawn_3 : decode cX0_drawn 3 = .ok (.idiv, 1) := dk_108 (dk_at dksX0_drawn_0 3 rfl rfl)
theorem dX0_drawn_4 : decode cX0_drawn 4 = .ok (.bipush 100, 2) := dk_16 100 (dk_at dksX0_drawn_0 4 rfl rfl)
theorem dX0_drawn_6 : decode cX0_drawn 6 = .ok (.irem, 1) := dk_112 (dk_at dksX0_drawn_0 6 rfl rfl)
theorem dX0_drawn_7 : decode cX0_drawn 7 = .ok (.istore 4, 2) := dk_54 4 (dk_at dksX0_drawn_0 7 rfl rfl)
theorem dX0_drawn_9 : decode cX0_drawn 9 = .ok (.iload_n 2, 1) := dk_28 (dk_at dksX0_drawn_0 9 rfl rfl)
theorem dX0_drawn_10 : decode cX0_drawn 10 = .ok (.ifCond .lt 51, 3) := dk_155 0 51 (dk_at dksX0_drawn_0 10 rfl rfl)
theorem dX0_drawn_13 : decode cX0_drawn 13 = .ok (.iload_n 2, 1) := dk_28 (dk_at dksX0_drawn_0 13 rfl rfl)
theorem dX0_drawn_14 : decode cX0_drawn 14 = .ok (.sipush 10000, 3) := dk_17 39 16 (dk_at dksX0_drawn_0 14 rfl rfl)
theorem dX0_drawn_17 : decode cX0_drawn 17 = .ok (.idiv, 1) := dk_108 (dk_at dksX0_drawn_0 17 rfl rfl)
theorem dX0_drawn_18 : decode cX0_drawn 18 = .ok (.iconst 1, 1) := dk_4 (dk_at dksX0_drawn_0 18 rfl rfl)
theorem dX0_drawn_19 : decode cX0_drawn 19 = .ok (.bipush 30, 2) := dk_16 30 (dk_at dksX0_drawn_0 19 rfl rfl)
theorem dX0_drawn_21 : decode cX0_drawn 21 = .ok (.invokestatic 7, 3) := dk_184 0 7 (dk_at dksX0_drawn_0 21 rfl rfl)
theorem dX0_drawn_24 : decode cX0_drawn 24 = .ok (.ifCond .eq 37, 3) := dk_153 0 37 (dk_at dksX0_drawn_1 0 rfl rfl)
theorem dX0_drawn_27 : decode cX0_drawn 27 = .ok (.iload 4, 2) := dk_21 4 (dk_at dksX0_drawn_1 3 rfl rfl)
theorem dX0_drawn_29 : decode cX0_drawn 29 = .ok (.iconst 1, 1) := dk_4 (dk_at dksX0_drawn_1 5 rfl rfl)
theorem dX0_drawn_30 : decode cX0_drawn 30 = .ok (.bipush 60, 2) := dk_16 60 (dk_at dksX0_drawn_1 6 rfl rfl)
theorem dX0_drawn_32 : decode cX0_drawn 32 = .ok (.invokestatic 7, 3) := dk_184 0 7 (dk_at dksX0_drawn_1 8 rfl rfl)
theorem dX0_drawn_35 : decode cX0_drawn 35 = .ok (.ifCond .eq 26, 3) := dk_153 0 26 (dk_at dksX0_drawn_1 11 rfl rfl)
theorem dX0_drawn_38 : decode cX0_drawn 38 = .ok (.iload_n 2, 1) := dk_28 (dk_at dksX0_drawn_1 14 rfl rfl)
theorem dX0_drawn_39 : decode cX0_drawn 39 = .ok (.bipush 100, 2) := dk_16 100 (dk_at dksX0_drawn_1 15 rfl rfl)
theorem dX0_drawn_41 : decode cX0_drawn 41 = .ok (.irem, 1) := dk_112 (dk_at dksX0_drawn_1 17 rfl rfl)
theorem dX0_drawn_42 : decode cX0_drawn 42 = .ok (.bipush 12, 2) := dk_16 12 (dk_at dksX0_drawn_1 18 rfl rfl)
theorem dX0_drawn_44 : decode cX0_drawn 44 = .ok (.if_icmp .gt 17, 3) := dk_163 0 17 (dk_at dksX0_drawn_1 20 rfl rfl)
theorem dX0_drawn_47 : decode cX0_drawn 47 = .ok (.iload_n 3, 1) := dk_29 (dk_at dksX0_drawn_1 23 rfl rfl)
theorem dX0_drawn_48 : decode cX0_drawn 48 = .ok (.iconst (-1), 1) := dk_2 (dk_at dksX0_drawn_2 0 rfl rfl)
theorem dX0_drawn_49 : decode cX0_drawn 49 = .ok (.aload_n 0, 1) := dk_42 (dk_at dksX0_drawn_2 1 rfl rfl)
theorem dX0_drawn_50 : decode cX0_drawn 50 = .ok (.getfield 1, 3) := dk_180 0 1 (dk_at dksX0_drawn_2 2 rfl rfl)
theorem dX0_drawn_53 : decode cX0_drawn 53 = .ok (.iconst 1, 1) := dk_4 (dk_at dksX0_drawn_2 5 rfl rfl)
theorem dX0_drawn_54 : decode cX0_drawn 54 = .ok (.isub, 1) := dk_100 (dk_at dksX0_drawn_2 6 rfl rfl)
theorem dX0_drawn_55 : decode cX0_drawn 55 = .ok (.invokestatic 7, 3) := dk_184 0 7 (dk_at dksX0_drawn_2 7 rfl rfl)
theorem dX0_drawn_58 : decode cX0_drawn 58 = .ok (.ifCond .ne 5, 3) := dk_154 0 5 (dk_at dksX0_drawn_2 10 rfl rfl)
theorem dX0_drawn_61 : decode cX0_drawn 61 = .ok (.iconst (-1), 1) := dk_2 (dk_at dksX0_drawn_2 13 rfl rfl)
theorem dX0_drawn_62 : decode cX0_drawn 62 = .ok (.ireturn, 1) := dk_172 (dk_at dksX0_drawn_2 14 rfl rfl)
theorem dX0_drawn_63 : decode cX0_drawn 63 = .ok (.iload_n 1, 1) := dk_27 (dk_at dksX0_drawn_2 15 rfl rfl)
theorem dX0_drawn_64 : decode cX0_drawn 64 = .ok (.istore 5, 2) := dk_54 5 (dk_at dksX0_drawn_2 16 rfl rfl)
theorem dX0_drawn_66 : decode cX0_drawn 66 = .ok (.iconst 0, 1) := dk_3 (dk_at dksX0_drawn_2 18 rfl rfl)
theorem dX0_drawn_67 : decode cX0_drawn 67 = .ok (.istore 6, 2) := dk_54 6 (dk_at dksX0_drawn_2 19 rfl rfl)
theorem dX0_drawn_69 : decode cX0_drawn 69 = .ok (.iconst 0, 1) := dk_3 (dk_at dksX0_drawn_2 21 rfl rfl)
theorem dX0_drawn_70 : decode cX0_drawn 70 = .ok (.istore 7, 2) := dk_54 7 (dk_at dksX0_drawn_2 22 rfl rfl)
theorem dX0_drawn_72 : decode cX0_drawn 72 = .ok (.iload 7, 2) := dk_21 7 (dk_at dksX0_drawn_3 0 rfl rfl)
theorem dX0_drawn_74 : decode cX0_drawn 74 = .ok (.iload_n 2, 1) := dk_28 (dk_at dksX0_drawn_3 2 rfl rfl)
theorem dX0_drawn_75 : decode cX0_drawn 75 = .ok (.sipush 10000, 3) := dk_17 39 16 (dk_at dksX0_drawn_3 3 rfl rfl)
theorem dX0_drawn_78 : decode cX0_drawn 78 = .ok (.idiv, 1) := dk_108 (dk_at dksX0_drawn_3 6 rfl rfl)
theorem dX0_drawn_79 : decode cX0_drawn 79 = .ok (.if_icmp .ge 110, 3) := dk_162 0 110 (dk_at dksX0_drawn_3 7 rfl rfl)
theorem dX0_drawn_82 : decode cX0_drawn 82 = .ok (.aload_n 0, 1) := dk_42 (dk_at dksX0_drawn_3 10 rfl rfl)
theorem dX0_drawn_83 : decode cX0_drawn 83 = .ok (.invokevirtual 291, 3) := dk_182 1 35 (dk_at dksX0_drawn_3 11 rfl rfl)
theorem dX0_drawn_86 : decode cX0_drawn 86 = .ok (.astore 8, 2) := dk_58 8 (dk_at dksX0_drawn_3 14 rfl rfl)
theorem dX0_drawn_88 : decode cX0_drawn 88 = .ok (.iconst 0, 1) := dk_3 (dk_at dksX0_drawn_3 16 rfl rfl)
theorem dX0_drawn_89 : decode cX0_drawn 89 = .ok (.istore 9, 2) := dk_54 9 (dk_at dksX0_drawn_3 17 rfl rfl)
theorem dX0_drawn_91 : decode cX0_drawn 91 = .ok (.iload 9, 2) := dk_21 9 (dk_at dksX0_drawn_3 19 rfl rfl)
theorem dX0_drawn_93 : decode cX0_drawn 93 = .ok (.iload 4, 2) := dk_21 4 (dk_at dksX0_drawn_3 21 rfl rfl)
theorem dX0_drawn_95 : decode cX0_drawn 95 = .ok (.if_icmp .ge 64, 3) := dk_162 0 64 (dk_at dksX0_drawn_4 0 rfl rfl)
theorem dX0_drawn_98 : decode cX0_drawn 98 = .ok (.iload 5, 2) := dk_21 5 (dk_at dksX0_drawn_4 3 rfl rfl)
theorem dX0_drawn_100 : decode cX0_drawn 100 = .ok (.ldc_w 384, 3) := dk_19 1 128 (dk_at dksX0_drawn_4 5 rfl rfl)
theorem dX0_drawn_103 : decode cX0_drawn 103 = .ok (.imul, 1) := dk_104 (dk_at dksX0_drawn_4 8 rfl rfl)
theorem dX0_drawn_104 : decode cX0_drawn 104 = .ok (.sipush 12345, 3) := dk_17 48 57 (dk_at dksX0_drawn_4 9 rfl rfl)
theorem dX0_drawn_107 : decode cX0_drawn 107 = .ok (.iadd, 1) := dk_96 (dk_at dksX0_drawn_4 12 rfl rfl)
theorem dX0_drawn_108 : decode cX0_drawn 108 = .ok (.istore 5, 2) := dk_54 5 (dk_at dksX0_drawn_4 13 rfl rfl)
theorem dX0_drawn_110 : decode cX0_drawn 110 = .ok (.iload 5, 2) := dk_21 5 (dk_at dksX0_drawn_4 15 rfl rfl)
theorem dX0_drawn_112 : decode cX0_drawn 112 = .ok (.bipush 16, 2) := dk_16 16 (dk_at dksX0_drawn_4 17 rfl rfl)
theorem dX0_drawn_114 : decode cX0_drawn 114 = .ok (.iushr, 1) := dk_124 (dk_at dksX0_drawn_4 19 rfl rfl)
theorem dX0_drawn_115 : decode cX0_drawn 115 = .ok (.bipush 12, 2) := dk_16 12 (dk_at dksX0_drawn_4 20 rfl rfl)
theorem dX0_drawn_117 : decode cX0_drawn 117 = .ok (.irem, 1) := dk_112 (dk_at dksX0_drawn_4 22 rfl rfl)
theorem dX0_drawn_118 : decode cX0_drawn 118 = .ok (.iload_n 2, 1) := dk_28 (dk_at dksX0_drawn_4 23 rfl rfl)
theorem dX0_drawn_119 : decode cX0_drawn 119 = .ok (.bipush 100, 2) := dk_16 100 (dk_at dksX0_drawn_5 0 rfl rfl)
theorem dX0_drawn_121 : decode cX0_drawn 121 = .ok (.irem, 1) := dk_112 (dk_at dksX0_drawn_5 2 rfl rfl)
theorem dX0_drawn_122 : decode cX0_drawn 122 = .ok (.if_icmp .ge 8, 3) := dk_162 0 8 (dk_at dksX0_drawn_5 3 rfl rfl)
theorem dX0_drawn_125 : decode cX0_drawn 125 = .ok (.aload 8, 2) := dk_25 8 (dk_at dksX0_drawn_5 6 rfl rfl)
theorem dX0_drawn_127 : decode cX0_drawn 127 = .ok (.invokevirtual 305, 3) := dk_182 1 49 (dk_at dksX0_drawn_5 8 rfl rfl)
theorem dX0_drawn_130 : decode cX0_drawn 130 = .ok (.aload_n 0, 1) := dk_42 (dk_at dksX0_drawn_5 11 rfl rfl)
theorem dX0_drawn_131 : decode cX0_drawn 131 = .ok (.getfield 1, 3) := dk_180 0 1 (dk_at dksX0_drawn_5 12 rfl rfl)
theorem dX0_drawn_134 : decode cX0_drawn 134 = .ok (.ifCond .le 19, 3) := dk_158 0 19 (dk_at dksX0_drawn_5 15 rfl rfl)
theorem dX0_drawn_137 : decode cX0_drawn 137 = .ok (.aload_n 0, 1) := dk_42 (dk_at dksX0_drawn_5 18 rfl rfl)
theorem dX0_drawn_138 : decode cX0_drawn 138 = .ok (.aload 8, 2) := dk_25 8 (dk_at dksX0_drawn_5 19 rfl rfl)
theorem dX0_drawn_140 : decode cX0_drawn 140 = .ok (.iload 5, 2) := dk_21 5 (dk_at dksX0_drawn_5 21 rfl rfl)
theorem dX0_drawn_142 : decode cX0_drawn 142 = .ok (.bipush 8, 2) := dk_16 8 (dk_at dksX0_drawn_6 0 rfl rfl)
theorem dX0_drawn_144 : decode cX0_drawn 144 = .ok (.iushr, 1) := dk_124 (dk_at dksX0_drawn_6 2 rfl rfl)
theorem dX0_drawn_145 : decode cX0_drawn 145 = .ok (.aload_n 0, 1) := dk_42 (dk_at dksX0_drawn_6 3 rfl rfl)
theorem dX0_drawn_146 : decode cX0_drawn 146 = .ok (.getfield 1, 3) := dk_180 0 1 (dk_at dksX0_drawn_6 4 rfl rfl)
theorem dX0_drawn_149 : decode cX0_drawn 149 = .ok (.irem, 1) := dk_112 (dk_at dksX0_drawn_6 7 rfl rfl)
theorem dX0_drawn_150 : decode cX0_drawn 150 = .ok (.invokevirtual 284, 3) := dk_182 1 28 (dk_at dksX0_drawn_6 8 rfl rfl)
theorem dX0_drawn_153 : decode cX0_drawn 153 = .ok (.iinc 9 1, 3) := dk_132 9 1 (dk_at dksX0_drawn_6 11 rfl rfl)
theorem dX0_drawn_156 : decode cX0_drawn 156 = .ok (.goto (-65), 3) := dk_167 255 191 (dk_at dksX0_drawn_6 14 rfl rfl)
theorem dX0_drawn_159 : decode cX0_drawn 159 = .ok (.iload 6, 2) := dk_21 6 (dk_at dksX0_drawn_6 17 rfl rfl)
theorem dX0_drawn_161 : decode cX0_drawn 161 = .ok (.iload_n 3, 1) := dk_29 (dk_at dksX0_drawn_6 19 rfl rfl)
theorem dX0_drawn_162 : decode cX0_drawn 162 = .ok (.ifCond .ge 11, 3) := dk_156 0 11 (dk_at dksX0_drawn_6 20 rfl rfl)
theorem dX0_drawn_165 : decode cX0_drawn 165 = .ok (.aload 8, 2) := dk_25 8 (dk_at dksX0_drawn_7 0 rfl rfl)
theorem dX0_drawn_167 : decode cX0_drawn 167 = .ok (.getfield 213, 3) := dk_180 0 213 (dk_at dksX0_drawn_7 2 rfl rfl)
theorem dX0_drawn_170 : decode cX0_drawn 170 = .ok (.goto 10, 3) := dk_167 0 10 (dk_at dksX0_drawn_7 5 rfl rfl)
theorem dX0_drawn_173 : decode cX0_drawn 173 = .ok (.aload 8, 2) := dk_25 8 (dk_at dksX0_drawn_7 8 rfl rfl)
theorem dX0_drawn_175 : decode cX0_drawn 175 = .ok (.getfield 207, 3) := dk_180 0 207 (dk_at dksX0_drawn_7 10 rfl rfl)
theorem dX0_drawn_178 : decode cX0_drawn 178 = .ok (.iload_n 3, 1) := dk_29 (dk_at dksX0_drawn_7 13 rfl rfl)
theorem dX0_drawn_179 : decode cX0_drawn 179 = .ok (.iaload, 1) := dk_46 (dk_at dksX0_drawn_7 14 rfl rfl)
theorem dX0_drawn_180 : decode cX0_drawn 180 = .ok (.iadd, 1) := dk_96 (dk_at dksX0_drawn_7 15 rfl rfl)
theorem dX0_drawn_181 : decode cX0_drawn 181 = .ok (.istore 6, 2) := dk_54 6 (dk_at dksX0_drawn_7 16 rfl rfl)
theorem dX0_drawn_183 : decode cX0_drawn 183 = .ok (.iinc 7 1, 3) := dk_132 7 1 (dk_at dksX0_drawn_7 18 rfl rfl)
theorem dX0_drawn_186 : decode cX0_drawn 186 = .ok (.goto (-114), 3) := dk_167 255 142 (dk_at dksX0_drawn_7 21 rfl rfl)
theorem dX0_drawn_189 : decode cX0_drawn 189 = .ok (.iload 6, 2) := dk_21 6 (dk_at dksX0_drawn_8 0 rfl rfl)
theorem dX0_drawn_191 : decode cX0_drawn 191 = .ok (.ireturn, 1) := dk_172 (dk_at dksX0_drawn_8 2 rfl rfl)
def dkwX0_comes_4 : List UInt8 := [181, 1, 132, 42, 89, 180, 1, 135, 44, 180, 0, 213, 96, 181, 1, 135, 42, 180, 0, 240, 172]
abbrev dktX0_comes_4 : List UInt8 := dkwX0_comes_4 ++ []
def dkwX0_comes_3 : List UInt8 := [153, 0, 7, 4, 167, 0, 4, 3, 96, 181, 1, 129, 42, 89, 180, 1, 132, 42, 180, 0, 240, 96]
abbrev dktX0_comes_3 : List UInt8 := dkwX0_comes_3 ++ dktX0_comes_4
def dkwX0_comes_2 : List UInt8 := [132, 3, 1, 167, 255, 230, 42, 180, 0, 170, 44, 182, 0, 216, 42, 89, 180, 1, 129, 42, 27, 182, 0, 249]
abbrev dktX0_comes_2 : List UInt8 := dkwX0_comes_2 ++ dktX0_comes_3
def dkwX0_comes_1 : List UInt8 := [42, 180, 0, 1, 162, 0, 24, 42, 180, 0, 15, 29, 50, 44, 180, 0, 207, 29, 46, 181, 0, 42]
abbrev dktX0_comes_1 : List UInt8 := dkwX0_comes_1 ++ dktX0_comes_2
def dkwX0_comes_0 : List UInt8 := [42, 27, 182, 0, 11, 154, 0, 5, 2, 172, 42, 182, 1, 35, 77, 42, 44, 27, 182, 1, 28, 3, 62, 29]
abbrev dktX0_comes_0 : List UInt8 := dkwX0_comes_0 ++ dktX0_comes_1
theorem dksX0_comes_0 : cX0_comes.data.toList.drop 0 = dktX0_comes_0 := by decide +kernel
theorem dksX0_comes_1 : cX0_comes.data.toList.drop 24 = dktX0_comes_1 := dk_seg dksX0_comes_0 24 rfl rfl
theorem dksX0_comes_2 : cX0_comes.data.toList.drop 46 = dktX0_comes_2 := dk_seg dksX0_comes_1 22 rfl rfl
theorem dksX0_comes_3 : cX0_comes.data.toList.drop 70 = dktX0_comes_3 := dk_seg dksX0_comes_2 24 rfl rfl
theorem dksX0_comes_4 : cX0_comes.data.toList.drop 92 = dktX0_comes_4 := dk_seg dksX0_comes_3 22 rfl rfl
theorem dX0_comes_0 : decode cX0_comes 0 = .ok (.aload_n 0, 1) := dk_42 (dk_at dksX0_comes_0 0 rfl rfl)
theorem dX0_comes_1 : decode cX0_comes 1 = .ok (.iload_n 1, 1) := dk_27 (dk_at dksX0_comes_0 1 rfl rfl)
theorem dX0_comes_2 : decode cX0_comes 2 = .ok (.invokevirtual 11, 3) := dk_182 0 11 (dk_at dksX0_comes_0 2 rfl rfl)
theorem dX0_comes_5 : decode cX0_comes 5 = .ok (.ifCond .ne 5, 3) := dk_154 0 5 (dk_at dksX0_comes_0 5 rfl rfl)
theorem dX0_comes_8 : decode cX0_comes 8 = .ok (.iconst (-1), 1) := dk_2 (dk_at dksX0_comes_0 8 rfl rfl)
theorem dX0_comes_9 : decode cX0_comes 9 = .ok (.ireturn, 1) := dk_172 (dk_at dksX0_comes_0 9 rfl rfl)
theorem dX0_comes_10 : decode cX0_comes 10 = .ok (.aload_n 0, 1) := dk_42 (dk_at dksX0_comes_0 10 rfl rfl)
theorem dX0_comes_11 : decode cX0_comes 11 = .ok (.invokevirtual 291, 3) := dk_182 1 35 (dk_at dksX0_comes_0 11 rfl rfl)
theorem dX0_comes_14 : decode cX0_comes 14 = .ok (.astore_n 2, 1) := dk_77 (dk_at dksX0_comes_0 14 rfl rfl)
theorem dX0_comes_15 : decode cX0_comes 15 = .ok (.aload_n 0, 1) := dk_42 (dk_at dksX0_comes_0 15 rfl rfl)
theorem dX0_comes_16 : decode cX0_comes 16 = .ok (.aload_n 2, 1) := dk_44 (dk_at dksX0_comes_0 16 rfl rfl)
theorem dX0_comes_17 : decode cX0_comes 17 = .ok (.iload_n 1, 1) := dk_27 (dk_at dksX0_comes_0 17 rfl rfl)
theorem dX0_comes_18 : decode cX0_comes 18 = .ok (.invokevirtual 284, 3) := dk_182 1 28 (dk_at dksX0_comes_0 18 rfl rfl)
theorem dX0_comes_21 : decode cX0_comes 21 = .ok (.iconst 0, 1) := dk_3 (dk_at dksX0_comes_0 21 rfl rfl)
theorem dX0_comes_22 : decode cX0_comes 22 = .ok (.istore_n 3, 1) := dk_62 (dk_at dksX0_comes_0 22 rfl rfl)
theorem dX0_comes_23 : decode cX0_comes 23 = .ok (.iload_n 3, 1) := dk_29 (dk_at dksX0_comes_0 23 rfl rfl)
theorem dX0_comes_24 : decode cX0_comes 24 = .ok (.aload_n 0, 1) := dk_42 (dk_at dksX0_comes_1 0 rfl rfl)
theorem dX0_comes_25 : decode cX0_comes 25 = .ok (.getfield 1, 3) := dk_180 0 1 (dk_at dksX0_comes_1 1 rfl rfl)
theorem dX0_comes_28 : decode cX0_comes 28 = .ok (.if_icmp .ge 24, 3) := dk_162 0 24 (dk_at dksX0_comes_1 4 rfl rfl)
theorem dX0_comes_31 : decode cX0_comes 31 = .ok (.aload_n 0, 1) := dk_42 (dk_at dksX0_comes_1 7 rfl rfl)
theorem dX0_comes_32 : decode cX0_comes 32 = .ok (.getfield 15, 3) := dk_180 0 15 (dk_at dksX0_comes_1 8 rfl rfl)
theorem dX0_comes_35 : decode cX0_comes 35 = .ok (.iload_n 3, 1) := dk_29 (dk_at dksX0_comes_1 11 rfl rfl)
theorem dX0_comes_36 : decode cX0_comes 36 = .ok (.aaload, 1) := dk_50 (dk_at dksX0_comes_1 12 rfl rfl)
theorem dX0_comes_37 : decode cX0_comes 37 = .ok (.aload_n 2, 1) := dk_44 (dk_at dksX0_comes_1 13 rfl rfl)
theorem dX0_comes_38 : decode cX0_comes 38 = .ok (.getfield 207, 3) := dk_180 0 207 (dk_at dksX0_comes_1 14 rfl rfl)
theorem dX0_comes_41 : decode cX0_comes 41 = .ok (.iload_n 3, 1) := dk_29 (dk_at dksX0_comes_1 17 rfl rfl)
theorem dX0_comes_42 : decode cX0_comes 42 = .ok (.iaload, 1) := dk_46 (dk_at dksX0_comes_1 18 rfl rfl)
theorem dX0_comes_43 : decode cX0_comes 43 = .ok (.putfield 42, 3) := dk_181 0 42 (dk_at dksX0_comes_1 19 rfl rfl)
theorem dX0_comes_46 : decode cX0_comes 46 = .ok (.iinc 3 1, 3) := dk_132 3 1 (dk_at dksX0_comes_2 0 rfl rfl)
theorem dX0_comes_49 : decode cX0_comes 49 = .ok (.goto (-26), 3) := dk_167 255 230 (dk_at dksX0_comes_2 3 rfl rfl)
theorem dX0_comes_52 : decode cX0_comes 52 = .ok (.aload_n 0, 1) := dk_42 (dk_at dksX0_comes_2 6 rfl rfl)
theorem dX0_comes_53 : decode cX0_comes 53 = .ok (.getfield 170, 3) := dk_180 0 170 (dk_at dksX0_comes_2 7 rfl rfl)
theorem dX0_comes_56 : decode cX0_comes 56 = .ok (.aload_n 2, 1) := dk_44 (dk_at dksX0_comes_2 10 rfl rfl)
theorem dX0_comes_57 : decode cX0_comes 57 = .ok (.invokevirtual 216, 3) := dk_182 0 216 (dk_at dksX0_comes_2 11 rfl rfl)
theorem dX0_comes_60 : decode cX0_comes 60 = .ok (.aload_n 0, 1) := dk_42 (dk_at dksX0_comes_2 14 rfl rfl)
theorem dX0_comes_61 : decode cX0_comes 61 = .ok (.dup, 1) := dk_89 (dk_at dksX0_comes_2 15 rfl rfl)
theorem dX0_comes_62 : decode cX0_comes 62 = .ok (.getfield 385, 3) := dk_180 1 129 (dk_at dksX0_comes_2 16 rfl rfl)
theorem dX0_comes_65 : decode cX0_comes 65 = .ok (.aload_n 0, 1) := dk_42 (dk_at dksX0_comes_2 19 rfl rfl)
theorem dX0_comes_66 : decode cX0_comes 66 = .ok (.iload_n 1, 1) := dk_27 (dk_at dksX0_comes_2 20 rfl rfl)
theorem dX0_comes_67 : decode cX0_comes 67 = .ok (.invokevirtual 249, 3) := dk_182 0 249 (dk_at dksX0_comes_2 21 rfl rfl)
theorem dX0_comes_70 : decode cX0_comes 70 = .ok (.ifCond .eq 7, 3) := dk_153 0 7 (dk_at dksX0_comes_3 0 rfl rfl)
theorem dX0_comes_73 : decode cX0_comes 73 = .ok (.iconst 1, 1) := dk_4 (dk_at dksX0_comes_3 3 rfl rfl)
theorem dX0_comes_74 : decode cX0_comes 74 = .ok (.goto 4, 3) := dk_167 0 4 (dk_at dksX0_comes_3 4 rfl rfl)
theorem dX0_comes_77 : decode cX0_comes 77 = .ok (.iconst 0, 1) := dk_3 (dk_at dksX0_comes_3 7 rfl rfl)
theorem dX0_comes_78 : decode cX0_comes 78 = .ok (.iadd, 1) := dk_96 (dk_at dksX0_comes_3 8 rfl rfl)
theorem dX0_comes_79 : decode cX0_comes 79 = .ok (.putfield 385, 3) := dk_181 1 129 (dk_at dksX0_comes_3 9 rfl rfl)
theorem dX0_comes_82 : decode cX0_comes 82 = .ok (.aload_n 0, 1) := dk_42 (dk_at dksX0_comes_3 12 rfl rfl)
theorem dX0_comes_83 : decode cX0_comes 83 = .ok (.dup, 1) := dk_89 (dk_at dksX0_comes_3 13 rfl rfl)
theorem dX0_comes_84 : decode cX0_comes 84 = .ok (.getfield 388, 3) := dk_180 1 132 (dk_at dksX0_comes_3 14 rfl rfl)
theorem dX0_comes_87 : decode cX0_comes 87 = .ok (.aload_n 0, 1) := dk_42 (dk_at dksX0_comes_3 17 rfl rfl)
theorem dX0_comes_88 : decode cX0_comes 88 = .ok (.getfield 240, 3) := dk_180 0 240 (dk_at dksX0_comes_3 18 rfl rfl)
theorem dX0_comes_91 : decode cX0_comes 91 = .ok (.iadd, 1) := dk_96 (dk_at dksX0_comes_3 21 rfl rfl)
theorem dX0_comes_92 : decode cX0_comes 92 = .ok (.putfield 388, 3) := dk_181 1 132 (dk_at dksX0_comes_4 0 rfl rfl)
theorem dX0_comes_95 : decode cX0_comes 95 = .ok (.aload_n 0, 1) := dk_42 (dk_at dksX0_comes_4 3 rfl rfl)
theorem dX0_comes_96 : decode cX0_comes 96 = .ok (.dup, 1) := dk_89 (dk_at dksX0_comes_4 4 rfl rfl)
theorem dX0_comes_97 : decode cX0_comes 97 = .ok (.getfield 391, 3) := dk_180 1 135 (dk_at dksX0_comes_4 5 rfl rfl)
theorem dX0_comes_100 : decode cX0_comes 100 = .ok (.aload_n 2, 1) := dk_44 (dk_at dksX0_comes_4 8 rfl rfl)
theorem dX0_comes_101 : decode cX0_comes 101 = .ok (.getfield 213, 3) := dk_180 0 213 (dk_at dksX0_comes_4 9 rfl rfl)
theorem dX0_comes_104 : decode cX0_comes 104 = .ok (.iadd, 1) := dk_96 (dk_at dksX0_comes_4 12 rfl rfl)
theorem dX0_comes_105 : decode cX0_comes 105 = .ok (.putfield 391, 3) := dk_181 1 135 (dk_at dksX0_comes_4 13 rfl rfl)
theorem dX0_comes_108 : decode cX0_comes 108 = .ok (.aload_n 0, 1) := dk_42 (dk_at dksX0_comes_4 16 rfl rfl)
theorem dX0_comes_109 : decode cX0_comes 109 = .ok (.getfield 240, 3) := dk_180 0 240 (dk_at dksX0_comes_4 17 rfl rfl)
theorem dX0_comes_112 : decode cX0_comes 112 = .ok (.ireturn, 1) := dk_172 (dk_at dksX0_comes_4 20 rfl rfl)
def dkwX0_evening_1 : List UInt8 := [181, 0, 66, 42, 89, 180, 1, 138, 4, 96, 181, 1, 138, 42, 180, 0, 66, 172]
abbrev dktX0_evening_1 : List UInt8 := dkwX0_evening_1 ++ []
def dkwX0_evening_0 : List UInt8 := [42, 180, 0, 170, 182, 1, 49, 42, 180, 0, 66, 16, 99, 162, 0, 13, 42, 89, 180, 0, 66, 4, 96]
abbrev dktX0_evening_0 : List UInt8 := dkwX0_evening_0 ++ dktX0_evening_1
theorem dksX0_evening_0 : cX0_evening.data.toList.drop 0 = dktX0_evening_0 := by decide +kernel
theorem dksX0_evening_1 : cX0_evening.data.toList.drop 23 = dktX0_evening_1 := dk_seg dksX0_evening_0 23 rfl rfl
theorem dX0_evening_0 : decode cX0_evening 0 = .ok (.aload_n 0, 1) := dk_42 (dk_at dksX0_evening_0 0 rfl rfl)
theorem dX0_evening_1 : decode cX0_evening 1 = .ok (.getfield 170, 3) := dk_180 0 170 (dk_at dksX0_evening_0 1 rfl rfl)
theorem dX0_evening_4 : decode cX0_evening 4 = .ok (.invokevirtual 305, 3) := dk_182 1 49 (dk_at dksX0_evening_0 4 rfl rfl)
theorem dX0_evening_7 : decode cX0_evening 7 = .ok (.aload_n 0, 1) := dk_42 (dk_at dksX0_evening_0 7 rfl rfl)
theorem dX0_evening_8 : decode cX0_evening 8 = .ok (.getfield 66, 3) := dk_180 0 66 (dk_at dksX0_evening_0 8 rfl rfl)
theorem dX0_evening_11 : decode cX0_evening 11 = .ok (.bipush 99, 2) := dk_16 99 (dk_at dksX0_evening_0 11 rfl rfl)
theorem dX0_evening_13 : decode cX0_evening 13 = .ok (.if_icmp .ge 13, 3) := dk_162 0 13 (dk_at dksX0_evening_0 13 rfl rfl)
theorem dX0_evening_16 : decode cX0_evening 16 = .ok (.aload_n 0, 1) := dk_42 (dk_at dksX0_evening_0 16 rfl rfl)
theorem dX0_evening_17 : decode cX0_evening 17 = .ok (.dup, 1) := dk_89 (dk_at dksX0_evening_0 17 rfl rfl)
theorem dX0_evening_18 : decode cX0_evening 18 = .ok (.getfield 66, 3) := dk_180 0 66 (dk_at dksX0_evening_0 18 rfl rfl)
theorem dX0_evening_21 : decode cX0_evening 21 = .ok (.iconst 1, 1) := dk_4 (dk_at dksX0_evening_0 21 rfl rfl)
theorem dX0_evening_22 : decode cX0_evening 22 = .ok (.iadd, 1) := dk_96 (dk_at dksX0_evening_0 22 rfl rfl)
theorem dX0_evening_23 : decode cX0_evening 23 = .ok (.putfield 66, 3) := dk_181 0 66 (dk_at dksX0_evening_1 0 rfl rfl)
theorem dX0_evening_26 : decode cX0_evening 26 = .ok (.aload_n 0, 1) := dk_42 (dk_at dksX0_evening_1 3 rfl rfl)
theorem dX0_evening_27 : decode cX0_evening 27 = .ok (.dup, 1) := dk_89 (dk_at dksX0_evening_1 4 rfl rfl)
theorem dX0_evening_28 : decode cX0_evening 28 = .ok (.getfield 394, 3) := dk_180 1 138 (dk_at dksX0_evening_1 5 rfl rfl)
theorem dX0_evening_31 : decode cX0_evening 31 = .ok (.iconst 1, 1) := dk_4 (dk_at dksX0_evening_1 8 rfl rfl)
theorem dX0_evening_32 : decode cX0_evening 32 = .ok (.iadd, 1) := dk_96 (dk_at dksX0_evening_1 9 rfl rfl)
theorem dX0_evening_33 : decode cX0_evening 33 = .ok (.putfield 394, 3) := dk_181 1 138 (dk_at dksX0_evening_1 10 rfl rfl)
theorem dX0_evening_36 : decode cX0_evening 36 = .ok (.aload_n 0, 1) := dk_42 (dk_at dksX0_evening_1 13 rfl rfl)
theorem dX0_evening_37 : decode cX0_evening 37 = .ok (.getfield 66, 3) := dk_180 0 66 (dk_at dksX0_evening_1 14 rfl rfl)
theorem dX0_evening_40 : decode cX0_evening 40 = .ok (.ireturn, 1) := dk_172 (dk_at dksX0_evening_1 17 rfl rfl)
def dkwX0_gives_2_4 : List UInt8 := [180, 1, 141, 29, 96, 181, 1, 141, 25, 4, 180, 0, 42, 172]
abbrev dktX0_gives_2_4 : List UInt8 := dkwX0_gives_2_4 ++ []
def dkwX0_gives_2_3 : List UInt8 := [181, 0, 42, 25, 5, 17, 3, 231, 25, 5, 180, 0, 42, 29, 96, 184, 0, 232, 181, 0, 42, 42, 89]
abbrev dktX0_gives_2_3 : List UInt8 := dkwX0_gives_2_3 ++ dktX0_gives_2_4
def dkwX0_gives_2_2 : List UInt8 := [50, 58, 5, 25, 4, 180, 0, 42, 29, 162, 0, 6, 16, 251, 172, 25, 4, 89, 180, 0, 42, 29, 100]
abbrev dktX0_gives_2_2 : List UInt8 := dkwX0_gives_2_2 ++ dktX0_gives_2_3
def dkwX0_gives_2_1 : List UInt8 := [17, 3, 231, 184, 0, 7, 154, 0, 5, 2, 172, 42, 180, 0, 15, 27, 50, 58, 4, 42, 180, 0, 15, 28]
abbrev dktX0_gives_2_1 : List UInt8 := dkwX0_gives_2_1 ++ dktX0_gives_2_2
def dkwX0_gives_2_0 : List UInt8 := [42, 27, 182, 0, 11, 153, 0, 27, 42, 28, 182, 0, 11, 153, 0, 19, 27, 28, 159, 0, 14, 29, 4]
abbrev dktX0_gives_2_0 : List UInt8 := dkwX0_gives_2_0 ++ dktX0_gives_2_1
theorem dksX0_gives_2_0 : cX0_gives_2.data.toList.drop 0 = dktX0_gives_2_0 := by decide +kernel
theorem dksX0_gives_2_1 : cX0_gives_2.data.toList.drop 23 = dktX0_gives_2_1 := dk_seg dksX0_gives_2_0 23 rfl rfl
theorem dksX0_gives_2_2 : cX0_gives_2.data.toList.drop 47 = dktX0_gives_2_2 := dk_seg dksX0_gives_2_1 24 rfl rfl
theorem dksX0_gives_2_3 : cX0_gives_2.data.toList.drop 70 = dktX0_gives_2_3 := dk_seg dksX0_gives_2_2 23 rfl rfl
theorem dksX0_gives_2_4 : cX0_gives_2.data.toList.drop 93 = dktX0_gives_2_4 := dk_seg dksX0_gives_2_3 23 rfl rfl
theorem dX0_gives_2_0 : decode cX0_gives_2 0 = .ok (.aload_n 0, 1) := dk_42 (dk_at dksX0_gives_2_0 0 rfl rfl)
theorem dX0_gives_2_1 : decode cX0_gives_2 1 = .ok (.iload_n 1, 1) := dk_27 (dk_at dksX0_gives_2_0 1 rfl rfl)
theorem dX0_gives_2_2 : decode cX0_gives_2 2 = .ok (.invokevirtual 11, 3) := dk_182 0 11 (dk_at dksX0_gives_2_0 2 rfl rfl)
theorem dX0_gives_2_5 : decode cX0_gives_2 5 = .ok (.ifCond .eq 27, 3) := dk_153 0 27 (dk_at dksX0_gives_2_0 5 rfl rfl)
theorem dX0_gives_2_8 : decode cX0_gives_2 8 = .ok (.aload_n 0, 1) := dk_42 (dk_at dksX0_gives_2_0 8 rfl rfl)
theorem dX0_gives_2_9 : decode cX0_gives_2 9 = .ok (.iload_n 2, 1) := dk_28 (dk_at dksX0_gives_2_0 9 rfl rfl)
theorem dX0_gives_2_10 : decode cX0_gives_2 10 = .ok (.invokevirtual 11, 3) := dk_182 0 11 (dk_at dksX0_gives_2_0 10 rfl rfl)
theorem dX0_gives_2_13 : decode cX0_gives_2 13 = .ok (.ifCond .eq 19, 3) := dk_153 0 19 (dk_at dksX0_gives_2_0 13 rfl rfl)
theorem dX0_gives_2_16 : decode cX0_gives_2 16 = .ok (.iload_n 1, 1) := dk_27 (dk_at dksX0_gives_2_0 16 rfl rfl)
theorem dX0_gives_2_17 : decode cX0_gives_2 17 = .ok (.iload_n 2, 1) := dk_28 (dk_at dksX0_gives_2_0 17 rfl rfl)
theorem dX0_gives_2_18 : decode cX0_gives_2 18 = .ok (.if_icmp .eq 14, 3) := dk_159 0 14 (dk_at dksX0_gives_2_0 18 rfl rfl)
theorem dX0_gives_2_21 : decode cX0_gives_2 21 = .ok (.iload_n 3, 1) := dk_29 (dk_at dksX0_gives_2_0 21 rfl rfl)
theorem dX0_gives_2_22 : decode cX0_gives_2 22 = .ok (.iconst 1, 1) := dk_4 (dk_at dksX0_gives_2_0 22 rfl rfl)
theorem dX0_gives_2_23 : decode cX0_gives_2 23 = .ok (.sipush 999, 3) := dk_17 3 231 (dk_at dksX0_gives_2_1 0 rfl rfl)
theorem dX0_gives_2_26 : decode cX0_gives_2 26 = .ok (.invokestatic 7, 3) := dk_184 0 7 (dk_at dksX0_gives_2_1 3 rfl rfl)
theorem dX0_gives_2_29 : decode cX0_gives_2 29 = .ok (.ifCond .ne 5, 3) := dk_154 0 5 (dk_at dksX0_gives_2_1 6 rfl rfl)
theorem dX0_gives_2_32 : decode cX0_gives_2 32 = .ok (.iconst (-1), 1) := dk_2 (dk_at dksX0_gives_2_1 9 rfl rfl)
theorem dX0_gives_2_33 : decode cX0_gives_2 33 = .ok (.ireturn, 1) := dk_172 (dk_at dksX0_gives_2_1 10 rfl rfl)
theorem dX0_gives_2_34 : decode cX0_gives_2 34 = .ok (.aload_n 0, 1) := dk_42 (dk_at dksX0_gives_2_1 11 rfl rfl)
theorem dX0_gives_2_35 : decode cX0_gives_2 35 = .ok (.getfield 15, 3) := dk_180 0 15 (dk_at dksX0_gives_2_1 12 rfl rfl)
theorem dX0_gives_2_38 : decode cX0_gives_2 38 = .ok (.iload_n 1, 1) := dk_27 (dk_at dksX0_gives_2_1 15 rfl rfl)
theorem dX0_gives_2_39 : decode cX0_gives_2 39 = .ok (.aaload, 1) := dk_50 (dk_at dksX0_gives_2_1 16 rfl rfl)
theorem dX0_gives_2_40 : decode cX0_gives_2 40 = .ok (.astore 4, 2) := dk_58 4 (dk_at dksX0_gives_2_1 17 rfl rfl)
theorem dX0_gives_2_42 : decode cX0_gives_2 42 = .ok (.aload_n 0, 1) := dk_42 (dk_at dksX0_gives_2_1 19 rfl rfl)
theorem dX0_gives_2_43 : decode cX0_gives_2 43 = .ok (.getfield 15, 3) := dk_180 0 15 (dk_at dksX0_gives_2_1 20 rfl rfl)
theorem dX0_gives_2_46 : decode cX0_gives_2 46 = .ok (.iload_n 2, 1) := dk_28 (dk_at dksX0_gives_2_1 23 rfl rfl)
theorem dX0_gives_2_47 : decode cX0_gives_2 47 = .ok (.aaload, 1) := dk_50 (dk_at dksX0_gives_2_2 0 rfl rfl)
theorem dX0_gives_2_48 : decode cX0_gives_2 48 = .ok (.astore 5, 2) := dk_58 5 (dk_at dksX0_gives_2_2 1 rfl rfl)
theorem dX0_gives_2_50 : decode cX0_gives_2 50 = .ok (.aload 4, 2) := dk_25 4 (dk_at dksX0_gives_2_2 3 rfl rfl)
theorem dX0_gives_2_52 : decode cX0_gives_2 52 = .ok (.getfield 42, 3) := dk_180 0 42 (dk_at dksX0_gives_2_2 5 rfl rfl)
theorem dX0_gives_2_55 : decode cX0_gives_2 55 = .ok (.iload_n 3, 1) := dk_29 (dk_at dksX0_gives_2_2 8 rfl rfl)
theorem dX0_gives_2_56 : decode cX0_gives_2 56 = .ok (.if_icmp .ge 6, 3) := dk_162 0 6 (dk_at dksX0_gives_2_2 9 rfl rfl)
theorem dX0_gives_2_59 : decode cX0_gives_2 59 = .ok (.bipush (-5), 2) := dk_16 251 (dk_at dksX0_gives_2_2 12 rfl rfl)
theorem dX0_gives_2_61 : decode cX0_gives_2 61 = .ok (.ireturn, 1) := dk_172 (dk_at dksX0_gives_2_2 14 rfl rfl)
theorem dX0_gives_2_62 : decode cX0_gives_2 62 = .ok (.aload 4, 2) := dk_25 4 (dk_at dksX0_gives_2_2 15 rfl rfl)
theorem dX0_gives_2_64 : decode cX0_gives_2 64 = .ok (.dup, 1) := dk_89 (dk_at dksX0_gives_2_2 17 rfl rfl)
theorem dX0_gives_2_65 : decode cX0_gives_2 65 = .ok (.getfield 42, 3) := dk_180 0 42 (dk_at dksX0_gives_2_2 18 rfl rfl)
theorem dX0_gives_2_68 : decode cX0_gives_2 68 = .ok (.iload_n 3, 1) := dk_29 (dk_at dksX0_gives_2_2 21 rfl rfl)
theorem dX0_gives_2_69 : decode cX0_gives_2 69 = .ok (.isub, 1) := dk_100 (dk_at dksX0_gives_2_2 22 rfl rfl)
theorem dX0_gives_2_70 : decode cX0_gives_2 70 = .ok (.putfield 42, 3) := dk_181 0 42 (dk_at dksX0_gives_2_3 0 rfl rfl)
theorem dX0_gives_2_73 : decode cX0_gives_2 73 = .ok (.aload 5, 2) := dk_25 5 (dk_at dksX0_gives_2_3 3 rfl rfl)
theorem dX0_gives_2_75 : decode cX0_gives_2 75 = .ok (.sipush 999, 3) := dk_17 3 231 (dk_at dksX0_gives_2_3 5 rfl rfl)
theorem dX0_gives_2_78 : decode cX0_gives_2 78 = .ok (.aload 5, 2) := dk_25 5 (dk_at dksX0_gives_2_3 8 rfl rfl)
theorem dX0_gives_2_80 : decode cX0_gives_2 80 = .ok (.getfield 42, 3) := dk_180 0 42 (dk_at dksX0_gives_2_3 10 rfl rfl)
theorem dX0_gives_2_83 : decode cX0_gives_2 83 = .ok (.iload_n 3, 1) := dk_29 (dk_at dksX0_gives_2_3 13 rfl rfl)
theorem dX0_gives_2_84 : decode cX0_gives_2 84 = .ok (.iadd, 1) := dk_96 (dk_at dksX0_gives_2_3 14 rfl rfl)
theorem dX0_gives_2_85 : decode cX0_gives_2 85 = .ok (.invokestatic 232, 3) := dk_184 0 232 (dk_at dksX0_gives_2_3 15 rfl rfl)
theorem dX0_gives_2_88 : decode cX0_gives_2 88 = .ok (.putfield 42, 3) := dk_181 0 42 (dk_at dksX0_gives_2_3 18 rfl rfl)
theorem dX0_gives_2_91 : decode cX0_gives_2 91 = .ok (.aload_n 0, 1) := dk_42 (dk_at dksX0_gives_2_3 21 rfl rfl)
theorem dX0_gives_2_92 : decode cX0_gives_2 92 = .ok (.dup, 1) := dk_89 (dk_at dksX0_gives_2_3 22 rfl rfl)
theorem dX0_gives_2_93 : decode cX0_gives_2 93 = .ok (.getfield 397, 3) := dk_180 1 141 (dk_at dksX0_gives_2_4 0 rfl rfl)
theorem dX0_gives_2_96 : decode cX0_gives_2 96 = .ok (.iload_n 3, 1) := dk_29 (dk_at dksX0_gives_2_4 3 rfl rfl)
theorem dX0_gives_2_97 : decode cX0_gives_2 97 = .ok (.iadd, 1) := dk_96 (dk_at dksX0_gives_2_4 4 rfl rfl)
theorem dX0_gives_2_98 : decode cX0_gives_2 98 = .ok (.putfield 397, 3) := dk_181 1 141 (dk_at dksX0_gives_2_4 5 rfl rfl)
theorem dX0_gives_2_101 : decode cX0_gives_2 101 = .ok (.aload 4, 2) := dk_25 4 (dk_at dksX0_gives_2_4 8 rfl rfl)
theorem dX0_gives_2_103 : decode cX0_gives_2 103 = .ok (.getfield 42, 3) := dk_180 0 42 (dk_at dksX0_gives_2_4 10 rfl rfl)
theorem dX0_gives_2_106 : decode cX0_gives_2 106 = .ok (.ireturn, 1) := dk_172 (dk_at dksX0_gives_2_4 13 rfl rfl)
def dkwX0_led_3 : List UInt8 := [172, 2, 172]
abbrev dktX0_led_3 : List UInt8 := dkwX0_led_3 ++ []
def dkwX0_led_2 : List UInt8 := [42, 180, 1, 129, 172, 42, 180, 1, 132, 172, 42, 180, 1, 135, 172, 42, 180, 1, 138, 172, 42, 180, 1, 141]
abbrev dktX0_led_2 : List UInt8 := dkwX0_led_2 ++ dktX0_led_3
def dkwX0_led_1 : List UInt8 := [170, 0, 0, 0, 0, 0, 60, 0, 0, 0, 0, 0, 0, 0, 4, 0, 0, 0, 35, 0, 0, 0, 40, 0, 0, 0, 45, 0, 0, 0, 50, 0, 0, 0, 55]
abbrev dktX0_led_1 : List UInt8 := dkwX0_led_1 ++ dktX0_led_2
def dkwX0_led_0 : List UInt8 := [27]
abbrev dktX0_led_0 : List UInt8 := dkwX0_led_0 ++ dktX0_led_1
theorem dksX0_led_0 : cX0_led.data.toList.drop 0 = dktX0_led_0 := by decide +kernel
theorem dksX0_led_1 : cX0_led.data.toList.drop 1 = dktX0_led_1 := dk_seg dksX0_led_0 1 rfl rfl
theorem dksX0_led_2 : cX0_led.data.toList.drop 36 = dktX0_led_2 := dk_seg dksX0_led_1 35 rfl rfl
theorem dksX0_led_3 : cX0_led.data.toList.drop 60 = dktX0_led_3 := dk_seg dksX0_led_2 24 rfl rfl
theorem dX0_led_0 : decode cX0_led 0 = .ok (.iload_n 1, 1) := dk_27 (dk_at dksX0_led_0 0 rfl rfl)
theorem dX0_led_1 : decode cX0_led 1 = .ok (.tableswitch 60 0 4 #[35, 40, 45, 50, 55], 35) := by decide +kernel
theorem dX0_led_36 : decode cX0_led 36 = .ok (.aload_n 0, 1) := dk_42 (dk_at dksX0_led_2 0 rfl rfl)
theorem dX0_led_37 : decode cX0_led 37 = .ok (.getfield 385, 3) := dk_180 1 129 (dk_at dksX0_led_2 1 rfl rfl)
theorem dX0_led_40 : decode cX0_led 40 = .ok (.ireturn, 1) := dk_172 (dk_at dksX0_led_2 4 rfl rfl)
theorem dX0_led_41 : decode cX0_led 41 = .ok (.aload_n 0, 1) := dk_42 (dk_at dksX0_led_2 5 rfl rfl)
theorem dX0_led_42 : decode cX0_led 42 = .ok (.getfield 388, 3) := dk_180 1 132 (dk_at dksX0_led_2 6 rfl rfl)
theorem dX0_led_45 : decode cX0_led 45 = .ok (.ireturn, 1) := dk_172 (dk_at dksX0_led_2 9 rfl rfl)
theorem dX0_led_46 : decode cX0_led 46 = .ok (.aload_n 0, 1) := dk_42 (dk_at dksX0_led_2 10 rfl rfl)
theorem dX0_led_47 : decode cX0_led 47 = .ok (.getfield 391, 3) := dk_180 1 135 (dk_at dksX0_led_2 11 rfl rfl)
theorem dX0_led_50 : decode cX0_led 50 = .ok (.ireturn, 1) := dk_172 (dk_at dksX0_led_2 14 rfl rfl)
theorem dX0_led_51 : decode cX0_led 51 = .ok (.aload_n 0, 1) := dk_42 (dk_at dksX0_led_2 15 rfl rfl)
theorem dX0_led_52 : decode cX0_led 52 = .ok (.getfield 394, 3) := dk_180 1 138 (dk_at dksX0_led_2 16 rfl rfl)
theorem dX0_led_55 : decode cX0_led 55 = .ok (.ireturn, 1) := dk_172 (dk_at dksX0_led_2 19 rfl rfl)
theorem dX0_led_56 : decode cX0_led 56 = .ok (.aload_n 0, 1) := dk_42 (dk_at dksX0_led_2 20 rfl rfl)
theorem dX0_led_57 : decode cX0_led 57 = .ok (.getfield 397, 3) := dk_180 1 141 (dk_at dksX0_led_2 21 rfl rfl)
theorem dX0_led_60 : decode cX0_led 60 = .ok (.ireturn, 1) := dk_172 (dk_at dksX0_led_3 0 rfl rfl)
theorem dX0_led_61 : decode cX0_led 61 = .ok (.iconst (-1), 1) := dk_2 (dk_at dksX0_led_3 1 rfl rfl)
theorem dX0_led_62 : decode cX0_led 62 = .ok (.ireturn, 1) := dk_172 (dk_at dksX0_led_3 2 rfl rfl)
def dkwX0_image_3 : List UInt8 := [180, 1, 129, 172]
abbrev dktX0_image_3 : List UInt8 := dkwX0_image_3 ++ []
def dkwX0_image_2 : List UInt8 := [180, 1, 135, 181, 1, 157, 42, 42, 180, 1, 138, 181, 1, 160, 42, 42, 180, 1, 141, 181, 1, 163, 42]
abbrev dktX0_image_2 : List UInt8 := dkwX0_image_2 ++ dktX0_image_3
def dkwX0_image_1 : List UInt8 := [180, 0, 1, 181, 1, 148, 42, 42, 180, 1, 129, 181, 1, 151, 42, 42, 180, 1, 132, 181, 1, 154, 42, 42]
abbrev dktX0_image_1 : List UInt8 := dkwX0_image_1 ++ dktX0_image_2
def dkwX0_image_0 : List UInt8 := [42, 4, 181, 1, 144, 42, 182, 1, 35, 87, 42, 180, 0, 193, 42, 180, 0, 170, 182, 0, 216, 42, 42]
abbrev dktX0_image_0 : List UInt8 := dkwX0_image_0 ++ dktX0_image_1
theorem dksX0_image_0 : cX0_image.data.toList.drop 0 = dktX0_image_0 := by decide +kernel
theorem dksX0_image_1 : cX0_image.data.toList.drop 23 = dktX0_image_1 := dk_seg dksX0_image_0 23 rfl rfl
theorem dksX0_image_2 : cX0_image.data.toList.drop 47 = dktX0_image_2 := dk_seg dksX0_image_1 24 rfl rfl
theorem dksX0_image_3 : cX0_image.data.toList.drop 70 = dktX0_image_3 := dk_seg dksX0_image_2 23 rfl rfl
theorem dX0_image_0 : decode cX0_image 0 = .ok (.aload_n 0, 1) := dk_42 (dk_at dksX0_image_0 0 rfl rfl)
theorem dX0_image_1 : decode cX0_image 1 = .ok (.iconst 1, 1) := dk_4 (dk_at dksX0_image_0 1 rfl rfl)
theorem dX0_image_2 : decode cX0_image 2 = .ok (.putfield 400, 3) := dk_181 1 144 (dk_at dksX0_image_0 2 rfl rfl)
theorem dX0_image_5 : decode cX0_image 5 = .ok (.aload_n 0, 1) := dk_42 (dk_at dksX0_image_0 5 rfl rfl)
theorem dX0_image_6 : decode cX0_image 6 = .ok (.invokevirtual 291, 3) := dk_182 1 35 (dk_at dksX0_image_0 6 rfl rfl)
theorem dX0_image_9 : decode cX0_image 9 = .ok (.pop, 1) := dk_87 (dk_at dksX0_image_0 9 rfl rfl)
theorem dX0_image_10 : decode cX0_image 10 = .ok (.aload_n 0, 1) := dk_42 (dk_at dksX0_image_0 10 rfl rfl)
theorem dX0_image_11 : decode cX0_image 11 = .ok (.getfield 193, 3) := dk_180 0 193 (dk_at dksX0_image_0 11 rfl rfl)
theorem dX0_image_14 : decode cX0_image 14 = .ok (.aload_n 0, 1) := dk_42 (dk_at dksX0_image_0 14 rfl rfl)
theorem dX0_image_15 : decode cX0_image 15 = .ok (.getfield 170, 3) := dk_180 0 170 (dk_at dksX0_image_0 15 rfl rfl)
theorem dX0_image_18 : decode cX0_image 18 = .ok (.invokevirtual 216, 3) := dk_182 0 216 (dk_at dksX0_image_0 18 rfl rfl)
theorem dX0_image_21 : decode cX0_image 21 = .ok (.aload_n 0, 1) := dk_42 (dk_at dksX0_image_0 21 rfl rfl)
theorem dX0_image_22 : decode cX0_image 22 = .ok (.aload_n 0, 1) := dk_42 (dk_at dksX0_image_0 22 rfl rfl)
theorem dX0_image_23 : decode cX0_image 23 = .ok (.getfield 1, 3) := dk_180 0 1 (dk_at dksX0_image_1 0 rfl rfl)
theorem dX0_image_26 : decode cX0_image 26 = .ok (.putfield 404, 3) := dk_181 1 148 (dk_at dksX0_image_1 3 rfl rfl)
theorem dX0_image_29 : decode cX0_image 29 = .ok (.aload_n 0, 1) := dk_42 (dk_at dksX0_image_1 6 rfl rfl)
theorem dX0_image_30 : decode cX0_image 30 = .ok (.aload_n 0, 1) := dk_42 (dk_at dksX0_image_1 7 rfl rfl)
theorem dX0_image_31 : decode cX0_image 31 = .ok (.getfield 385, 3) := dk_180 1 129 (dk_at dksX0_image_1 8 rfl rfl)
theorem dX0_image_34 : decode cX0_image 34 = .ok (.putfield 407, 3) := dk_181 1 151 (dk_at dksX0_image_1 11 rfl rfl)
theorem dX0_image_37 : decode cX0_image 37 = .ok (.aload_n 0, 1) := dk_42 (dk_at dksX0_image_1 14 rfl rfl)
theorem dX0_image_38 : decode cX0_image 38 = .ok (.aload_n 0, 1) := dk_42 (dk_at dksX0_image_1 15 rfl rfl)
theorem dX0_image_39 : decode cX0_image 39 = .ok (.getfield 388, 3) := dk_180 1 132 (dk_at dksX0_image_1 16 rfl rfl)
theorem dX0_image_42 : decode cX0_image 42 = .ok (.putfield 410, 3) := dk_181 1 154 (dk_at dksX0_image_1 19 rfl rfl)
theorem dX0_image_45 : decode cX0_image 45 = .ok (.aload_n 0, 1) := dk_42 (dk_at dksX0_image_1 22 rfl rfl)
theorem dX0_image_46 : decode cX0_image 46 = .ok (.aload_n 0, 1) := dk_42 (dk_at dksX0_image_1 23 rfl rfl)
theorem dX0_image_47 : decode cX0_image 47 = .ok (.getfield 391, 3) := dk_180 1 135 (dk_at dksX0_image_2 0 rfl rfl)
theorem dX0_image_50 : decode cX0_image 50 = .ok (.putfield 413, 3) := dk_181 1 157 (dk_at dksX0_image_2 3 rfl rfl)
theorem dX0_image_53 : decode cX0_image 53 = .ok (.aload_n 0, 1) := dk_42 (dk_at dksX0_image_2 6 rfl rfl)
theorem dX0_image_54 : decode cX0_image 54 = .ok (.aload_n 0, 1) := dk_42 (dk_at dksX0_image_2 7 rfl rfl)
theorem dX0_image_55 : decode cX0_image 55 = .ok (.getfield 394, 3) := dk_180 1 138 (dk_at dksX0_image_2 8 rfl rfl)
theorem dX0_image_58 : decode cX0_image 58 = .ok (.putfield 416, 3) := dk_181 1 160 (dk_at dksX0_image_2 11 rfl rfl)
theorem dX0_image_61 : decode cX0_image 61 = .ok (.aload_n 0, 1) := dk_42 (dk_at dksX0_image_2 14 rfl rfl)
theorem dX0_image_62 : decode cX0_image 62 = .ok (.aload_n 0, 1) := dk_42 (dk_at dksX0_image_2 15 rfl rfl)
theorem dX0_image_63 : decode cX0_image 63 = .ok (.getfield 397, 3) := dk_180 1 141 (dk_at dksX0_image_2 16 rfl rfl)
theorem dX0_image_66 : decode cX0_image 66 = .ok (.putfield 419, 3) := dk_181 1 163 (dk_at dksX0_image_2 19 rfl rfl)
theorem dX0_image_69 : decode cX0_image 69 = .ok (.aload_n 0, 1) := dk_42 (dk_at dksX0_image_2 22 rfl rfl)
theorem dX0_image_70 : decode cX0_image 70 = .ok (.getfield 385, 3) := dk_180 1 129 (dk_at dksX0_image_3 0 rfl rfl)
theorem dX0_image_73 : decode cX0_image 73 = .ok (.ireturn, 1) := dk_172 (dk_at dksX0_image_3 3 rfl rfl)
def dkwX0_back_7 : List UInt8 := [42, 42, 180, 1, 160, 181, 1, 138, 42, 42, 180, 1, 163, 181, 1, 141, 42, 180, 1, 129, 172]
abbrev dktX0_back_7 : List UInt8 := dkwX0_back_7 ++ []
def dkwX0_back_6 : List UInt8 := [42, 42, 180, 1, 151, 181, 1, 129, 42, 42, 180, 1, 154, 181, 1, 132, 42, 42, 180, 1, 157, 181, 1, 135]
abbrev dktX0_back_6 : List UInt8 := dkwX0_back_6 ++ dktX0_back_7
def dkwX0_back_5 : List UInt8 := [180, 0, 170, 42, 180, 0, 193, 180, 0, 226, 181, 0, 226, 42, 42, 180, 0, 193, 180, 0, 212, 181, 0, 66]
abbrev dktX0_back_5 : List UInt8 := dkwX0_back_5 ++ dktX0_back_6
def dkwX0_back_4 : List UInt8 := [180, 1, 2, 3, 8, 184, 1, 166, 42, 180, 0, 170, 42, 180, 0, 193, 180, 0, 252, 181, 0, 252, 42]
abbrev dktX0_back_4 : List UInt8 := dkwX0_back_4 ++ dktX0_back_5
def dkwX0_back_3 : List UInt8 := [180, 0, 170, 180, 0, 255, 3, 8, 184, 1, 166, 42, 180, 0, 193, 180, 1, 2, 3, 42, 180, 0, 170]
abbrev dktX0_back_3 : List UInt8 := dkwX0_back_3 ++ dktX0_back_4
def dkwX0_back_2 : List UInt8 := [180, 0, 193, 180, 0, 220, 27, 46, 79, 132, 1, 1, 167, 255, 209, 42, 180, 0, 193, 180, 0, 255, 3, 42]
abbrev dktX0_back_2 : List UInt8 := dkwX0_back_2 ++ dktX0_back_3
def dkwX0_back_1 : List UInt8 := [27, 50, 42, 180, 0, 193, 180, 0, 207, 27, 46, 181, 0, 42, 42, 180, 0, 170, 180, 0, 220, 27, 42]
abbrev dktX0_back_1 : List UInt8 := dkwX0_back_1 ++ dktX0_back_2
def dkwX0_back_0 : List UInt8 := [42, 180, 1, 144, 154, 0, 6, 16, 251, 172, 3, 60, 27, 42, 180, 1, 148, 162, 0, 45, 42, 180, 0, 15]
abbrev dktX0_back_0 : List UInt8 := dkwX0_back_0 ++ dktX0_back_1
theorem dksX0_back_0 : cX0_back.data.toList.drop 0 = dktX0_back_0 := by decide +kernel
theorem dksX0_back_1 : cX0_back.data.toList.drop 24 = dktX0_back_1 := dk_seg dksX0_back_0 24 rfl rfl
theorem dksX0_back_2 : cX0_back.data.toList.drop 47 = dktX0_back_2 := dk_seg dksX0_back_1 23 rfl rfl
theorem dksX0_back_3 : cX0_back.data.toList.drop 71 = dktX0_back_3 := dk_seg dksX0_back_2 24 rfl rfl
theorem dksX0_back_4 : cX0_back.data.toList.drop 94 = dktX0_back_4 := dk_seg dksX0_back_3 23 rfl rfl
theorem dksX0_back_5 : cX0_back.data.toList.drop 117 = dktX0_back_5 := dk_seg dksX0_back_4 23 rfl rfl
theorem dksX0_back_6 : cX0_back.data.toList.drop 141 = dktX0_back_6 := dk_seg dksX0_back_5 24 rfl rfl
theorem dksX0_back_7 : cX0_back.data.toList.drop 165 = dktX0_back_7 := dk_seg dksX0_back_6 24 rfl rfl
theorem dX0_back_0 : decode cX0_back 0 = .ok (.aload_n 0, 1) := dk_42 (dk_at dksX0_back_0 0 rfl rfl)
theorem dX0_back_1 : decode cX0_back 1 = .ok (.getfield 400, 3) := dk_180 1 144 (dk_at dksX0_back_0 1 rfl rfl)
theorem dX0_back_4 : decode cX0_back 4 = .ok (.ifCond .ne 6, 3) := dk_154 0 6 (dk_at dksX0_back_0 4 rfl rfl)
theorem dX0_back_7 : decode cX0_back 7 = .ok (.bipush (-5), 2) := dk_16 251 (dk_at dksX0_back_0 7 rfl rfl)
theorem dX0_back_9 : decode cX0_back 9 = .ok (.ireturn, 1) := dk_172 (dk_at dksX0_back_0 9 rfl rfl)
theorem dX0_back_10 : decode cX0_back 10 = .ok (.iconst 0, 1) := dk_3 (dk_at dksX0_back_0 10 rfl rfl)
theorem dX0_back_11 : decode cX0_back 11 = .ok (.istore_n 1, 1) := dk_60 (dk_at dksX0_back_0 11 rfl rfl)
theorem dX0_back_12 : decode cX0_back 12 = .ok (.iload_n 1, 1) := dk_27 (dk_at dksX0_back_0 12 rfl rfl)
theorem dX0_back_13 : decode cX0_back 13 = .ok (.aload_n 0, 1) := dk_42 (dk_at dksX0_back_0 13 rfl rfl)
theorem dX0_back_14 : decode cX0_back 14 = .ok (.getfield 404, 3) := dk_180 1 148 (dk_at dksX0_back_0 14 rfl rfl)
theorem dX0_back_17 : decode cX0_back 17 = .ok (.if_icmp .ge 45, 3) := dk_162 0 45 (dk_at dksX0_back_0 17 rfl rfl)
theorem dX0_back_20 : decode cX0_back 20 = .ok (.aload_n 0, 1) := dk_42 (dk_at dksX0_back_0 20 rfl rfl)
theorem dX0_back_21 : decode cX0_back 21 = .ok (.getfield 15, 3) := dk_180 0 15 (dk_at dksX0_back_0 21 rfl rfl)
theorem dX0_back_24 : decode cX0_back 24 = .ok (.iload_n 1, 1) := dk_27 (dk_at dksX0_back_1 0 rfl rfl)
theorem dX0_back_25 : decode cX0_back 25 = .ok (.aaload, 1) := dk_50 (dk_at dksX0_back_1 1 rfl rfl)
theorem dX0_back_26 : decode cX0_back 26 = .ok (.aload_n 0, 1) := dk_42 (dk_at dksX0_back_1 2 rfl rfl)
theorem dX0_back_27 : decode cX0_back 27 = .ok (.getfield 193, 3) := dk_180 0 193 (dk_at dksX0_back_1 3 rfl rfl)
theorem dX0_back_30 : decode cX0_back 30 = .ok (.getfield 207, 3) := dk_180 0 207 (dk_at dksX0_back_1 6 rfl rfl)
theorem dX0_back_33 : decode cX0_back 33 = .ok (.iload_n 1, 1) := dk_27 (dk_at dksX0_back_1 9 rfl rfl)
theorem dX0_back_34 : decode cX0_back 34 = .ok (.iaload, 1) := dk_46 (dk_at dksX0_back_1 10 rfl rfl)
theorem dX0_back_35 : decode cX0_back 35 = .ok (.putfield 42, 3) := dk_181 0 42 (dk_at dksX0_back_1 11 rfl rfl)
theorem dX0_back_38 : decode cX0_back 38 = .ok (.aload_n 0, 1) := dk_42 (dk_at dksX0_back_1 14 rfl rfl)
theorem dX0_back_39 : decode cX0_back 39 = .ok (.getfield 170, 3) := dk_180 0 170 (dk_at dksX0_back_1 15 rfl rfl)
theorem dX0_back_42 : decode cX0_back 42 = .ok (.getfield 220, 3) := dk_180 0 220 (dk_at dksX0_back_1 18 rfl rfl)
theorem dX0_back_45 : decode cX0_back 45 = .ok (.iload_n 1, 1) := dk_27 (dk_at dksX0_back_1 21 rfl rfl)
theorem dX0_back_46 : decode cX0_back 46 = .ok (.aload_n 0, 1) := dk_42 (dk_at dksX0_back_1 22 rfl rfl)
theorem dX0_back_47 : decode cX0_back 47 = .ok (.getfield 193, 3) := dk_180 0 193 (dk_at dksX0_back_2 0 rfl rfl)
theorem dX0_back_50 : decode cX0_back 50 = .ok (.getfield 220, 3) := dk_180 0 220 (dk_at dksX0_back_2 3 rfl rfl)
theorem dX0_back_53 : decode cX0_back 53 = .ok (.iload_n 1, 1) := dk_27 (dk_at dksX0_back_2 6 rfl rfl)
theorem dX0_back_54 : decode cX0_back 54 = .ok (.iaload, 1) := dk_46 (dk_at dksX0_back_2 7 rfl rfl)
theorem dX0_back_55 : decode cX0_back 55 = .ok (.iastore, 1) := dk_79 (dk_at dksX0_back_2 8 rfl rfl)
theorem dX0_back_56 : decode cX0_back 56 = .ok (.iinc 1 1, 3) := dk_132 1 1 (dk_at dksX0_back_2 9 rfl rfl)
theorem dX0_back_59 : decode cX0_back 59 = .ok (.goto (-47), 3) := dk_167 255 209 (dk_at dksX0_back_2 12 rfl rfl)
theorem dX0_back_62 : decode cX0_back 62 = .ok (.aload_n 0, 1) := dk_42 (dk_at dksX0_back_2 15 rfl rfl)
theorem dX0_back_63 : decode cX0_back 63 = .ok (.getfield 193, 3) := dk_180 0 193 (dk_at dksX0_back_2 16 rfl rfl)
theorem dX0_back_66 : decode cX0_back 66 = .ok (.getfield 255, 3) := dk_180 0 255 (dk_at dksX0_back_2 19 rfl rfl)
theorem dX0_back_69 : decode cX0_back 69 = .ok (.iconst 0, 1) := dk_3 (dk_at dksX0_back_2 22 rfl rfl)
theorem dX0_back_70 : decode cX0_back 70 = .ok (.aload_n 0, 1) := dk_42 (dk_at dksX0_back_2 23 rfl rfl)
theorem dX0_back_71 : decode cX0_back 71 = .ok (.getfield 170, 3) := dk_180 0 170 (dk_at dksX0_back_3 0 rfl rfl)
theorem dX0_back_74 : decode cX0_back 74 = .ok (.getfield 255, 3) := dk_180 0 255 (dk_at dksX0_back_3 3 rfl rfl)
theorem dX0_back_77 : decode cX0_back 77 = .ok (.iconst 0, 1) := dk_3 (dk_at dksX0_back_3 6 rfl rfl)
theorem dX0_back_78 : decode cX0_back 78 = .ok (.iconst 5, 1) := dk_8 (dk_at dksX0_back_3 7 rfl rfl)
theorem dX0_back_79 : decode cX0_back 79 = .ok (.invokestatic 422, 3) := dk_184 1 166 (dk_at dksX0_back_3 8 rfl rfl)
theorem dX0_back_82 : decode cX0_back 82 = .ok (.aload_n 0, 1) := dk_42 (dk_at dksX0_back_3 11 rfl rfl)
theorem dX0_back_83 : decode cX0_back 83 = .ok (.getfield 193, 3) := dk_180 0 193 (dk_at dksX0_back_3 12 rfl rfl)
theorem dX0_back_86 : decode cX0_back 86 = .ok (.getfield 258, 3) := dk_180 1 2 (dk_at dksX0_back_3 15 rfl rfl)
theorem dX0_back_89 : decode cX0_back 89 = .ok (.iconst 0, 1) := dk_3 (dk_at dksX0_back_3 18 rfl rfl)
theorem dX0_back_90 : decode cX0_back 90 = .ok (.aload_n 0, 1) := dk_42 (dk_at dksX0_back_3 19 rfl rfl)
theorem dX0_back_91 : decode cX0_back 91 = .ok (.getfield 170, 3) := dk_180 0 170 (dk_at dksX0_back_3 20 rfl rfl)
theorem dX0_back_94 : decode cX0_back 94 = .ok (.getfield 258, 3) := dk_180 1 2 (dk_at dksX0_back_4 0 rfl rfl)
theorem dX0_back_97 : decode cX0_back 97 = .ok (.iconst 0, 1) := dk_3 (dk_at dksX0_back_4 3 rfl rfl)
theorem dX0_back_98 : decode cX0_back 98 = .ok (.iconst 5, 1) := dk_8 (dk_at dksX0_back_4 4 rfl rfl)
theorem dX0_back_99 : decode cX0_back 99 = .ok (.invokestatic 422, 3) := dk_184 1 166 (dk_at dksX0_back_4 5 rfl rfl)
theorem dX0_back_102 : decode cX0_back 102 = .ok (.aload_n 0, 1) := dk_42 (dk_at dksX0_back_4 8 rfl rfl)
theorem dX0_back_103 : decode cX0_back 103 = .ok (.getfield 170, 3) := dk_180 0 170 (dk_at dksX0_back_4 9 rfl rfl)
theorem dX0_back_106 : decode cX0_back 106 = .ok (.aload_n 0, 1) := dk_42 (dk_at dksX0_back_4 12 rfl rfl)
theorem dX0_back_107 : decode cX0_back 107 = .ok (.getfield 193, 3) := dk_180 0 193 (dk_at dksX0_back_4 13 rfl rfl)
theorem dX0_back_110 : decode cX0_back 110 = .ok (.getfield 252, 3) := dk_180 0 252 (dk_at dksX0_back_4 16 rfl rfl)
theorem dX0_back_113 : decode cX0_back 113 = .ok (.putfield 252, 3) := dk_181 0 252 (dk_at dksX0_back_4 19 rfl rfl)
theorem dX0_back_116 : decode cX0_back 116 = .ok (.aload_n 0, 1) := dk_42 (dk_at dksX0_back_4 22 rfl rfl)
theorem dX0_back_117 : decode cX0_back 117 = .ok (.getfield 170, 3) := dk_180 0 170 (dk_at dksX0_back_5 0 rfl rfl)
theorem dX0_back_120 : decode cX0_back 120 = .ok (.aload_n 0, 1) := dk_42 (dk_at dksX0_back_5 3 rfl rfl)
theorem dX0_back_121 : decode cX0_back 121 = .ok (.getfield 193, 3) := dk_180 0 193 (dk_at dksX0_back_5 4 rfl rfl)
theorem dX0_back_124 : decode cX0_back 124 = .ok (.getfield 226, 3) := dk_180 0 226 (dk_at dksX0_back_5 7 rfl rfl)
theorem dX0_back_127 : decode cX0_back 127 = .ok (.putfield 226, 3) := dk_181 0 226 (dk_at dksX0_back_5 10 rfl rfl)
theorem dX0_back_130 : decode cX0_back 130 = .ok (.aload_n 0, 1) := dk_42 (dk_at dksX0_back_5 13 rfl rfl)
theorem dX0_back_131 : decode cX0_back 131 = .ok (.aload_n 0, 1) := dk_42 (dk_at dksX0_back_5 14 rfl rfl)
theorem dX0_back_132 : decode cX0_back 132 = .ok (.getfield 193, 3) := dk_180 0 193 (dk_at dksX0_back_5 15 rfl rfl)
theorem dX0_back_135 : decode cX0_back 135 = .ok (.getfield 212, 3) := dk_180 0 212 (dk_at dksX0_back_5 18 rfl rfl)
theorem dX0_back_138 : decode cX0_back 138 = .ok (.putfield 66, 3) := dk_181 0 66 (dk_at dksX0_back_5 21 rfl rfl)
theorem dX0_back_141 : decode cX0_back 141 = .ok (.aload_n 0, 1) := dk_42 (dk_at dksX0_back_6 0 rfl rfl)
theorem dX0_back_142 : decode cX0_back 142 = .ok (.aload_n 0, 1) := dk_42 (dk_at dksX0_back_6 1 rfl rfl)
theorem dX0_back_143 : decode cX0_back 143 = .ok (.getfield 407, 3) := dk_180 1 151 (dk_at dksX0_back_6 2 rfl rfl)
theorem dX0_back_146 : decode cX0_back 146 = .ok (.putfield 385, 3) := dk_181 1 129 (dk_at dksX0_back_6 5 rfl rfl)
theorem dX0_back_149 : decode cX0_back 149 = .ok (.aload_n 0, 1) := dk_42 (dk_at dksX0_back_6 8 rfl rfl)
theorem dX0_back_150 : decode cX0_back 150 = .ok (.aload_n 0, 1) := dk_42 (dk_at dksX0_back_6 9 rfl rfl)
theorem dX0_back_151 : decode cX0_back 151 = .ok (.getfield 410, 3) := dk_180 1 154 (dk_at dksX0_back_6 10 rfl rfl)
theorem dX0_back_154 : decode cX0_back 154 = .ok (.putfield 388, 3) := dk_181 1 132 (dk_at dksX0_back_6 13 rfl rfl)
theorem dX0_back_157 : decode cX0_back 157 = .ok (.aload_n 0, 1) := dk_42 (dk_at dksX0_back_6 16 rfl rfl)
theorem dX0_back_158 : decode cX0_back 158 = .ok (.aload_n 0, 1) := dk_42 (dk_at dksX0_back_6 17 rfl rfl)
theorem dX0_back_159 : decode cX0_back 159 = .ok (.getfield 413, 3) := dk_180 1 157 (dk_at dksX0_back_6 18 rfl rfl)
theorem dX0_back_162 : decode cX0_back 162 = .ok (.putfield 391, 3) := dk_181 1 135 (dk_at dksX0_back_6 21 rfl rfl)
theorem dX0_back_165 : decode cX0_back 165 = .ok (.aload_n 0, 1) := dk_42 (dk_at dksX0_back_7 0 rfl rfl)
theorem dX0_back_166 : decode cX0_back 166 = .ok (.aload_n 0, 1) := dk_42 (dk_at dksX0_back_7 1 rfl rfl)
theorem dX0_back_167 : decode cX0_back 167 = .ok (.getfield 416, 3) := dk_180 1 160 (dk_at dksX0_back_7 2 rfl rfl)
theorem dX0_back_170 : decode cX0_back 170 = .ok (.putfield 394, 3) := dk_181 1 138 (dk_at dksX0_back_7 5 rfl rfl)
theorem dX0_back_173 : decode cX0_back 173 = .ok (.aload_n 0, 1) := dk_42 (dk_at dksX0_back_7 8 rfl rfl)
theorem dX0_back_174 : decode cX0_back 174 = .ok (.aload_n 0, 1) := dk_42 (dk_at dksX0_back_7 9 rfl rfl)
theorem dX0_back_175 : decode cX0_back 175 = .ok (.getfield 419, 3) := dk_180 1 163 (dk_at dksX0_back_7 10 rfl rfl)
theorem dX0_back_178 : decode cX0_back 178 = .ok (.putfield 397, 3) := dk_181 1 141 (dk_at dksX0_back_7 13 rfl rfl)
theorem dX0_back_181 : decode cX0_back 181 = .ok (.aload_n 0, 1) := dk_42 (dk_at dksX0_back_7 16 rfl rfl)
theorem dX0_back_182 : decode cX0_back 182 = .ok (.getfield 385, 3) := dk_180 1 129 (dk_at dksX0_back_7 17 rfl rfl)
theorem dX0_back_185 : decode cX0_back 185 = .ok (.ireturn, 1) := dk_172 (dk_at dksX0_back_7 20 rfl rfl)
def dkwX0_body_2 : List UInt8 := [42, 180, 1, 172, 4, 100, 172]
abbrev dktX0_body_2 : List UInt8 := dkwX0_body_2 ++ []
def dkwX0_body_1 : List UInt8 := [42, 180, 0, 201, 42, 180, 1, 172, 42, 27, 182, 1, 199, 83, 42, 89, 180, 1, 172, 4, 96, 181, 1, 172]
abbrev dktX0_body_1 : List UInt8 := dkwX0_body_1 ++ dktX0_body_2
def dkwX0_body_0 : List UInt8 := [27, 3, 16, 7, 184, 0, 7, 154, 0, 5, 2, 172, 42, 180, 1, 172, 16, 50, 160, 0, 6, 16, 253, 172]
abbrev dktX0_body_0 : List UInt8 := dkwX0_body_0 ++ dktX0_body_1
theorem dksX0_body_0 : cX0_body.data.toList.drop 0 = dktX0_body_0 := by decide +kernel
theorem dksX0_body_1 : cX0_body.data.toList.drop 24 = dktX0_body_1 := dk_seg dksX0_body_0 24 rfl rfl
theorem dksX0_body_2 : cX0_body.data.toList.drop 48 = dktX0_body_2 := dk_seg dksX0_body_1 24 rfl rfl
theorem dX0_body_0 : decode cX0_body 0 = .ok (.iload_n 1, 1) := dk_27 (dk_at dksX0_body_0 0 rfl rfl)
theorem dX0_body_1 : decode cX0_body 1 = .ok (.iconst 0, 1) := dk_3 (dk_at dksX0_body_0 1 rfl rfl)
theorem dX0_body_2 : decode cX0_body 2 = .ok (.bipush 7, 2) := dk_16 7 (dk_at dksX0_body_0 2 rfl rfl)
theorem dX0_body_4 : decode cX0_body 4 = .ok (.invokestatic 7, 3) := dk_184 0 7 (dk_at dksX0_body_0 4 rfl rfl)
theorem dX0_body_7 : decode cX0_body 7 = .ok (.ifCond .ne 5, 3) := dk_154 0 5 (dk_at dksX0_body_0 7 rfl rfl)
theorem dX0_body_10 : decode cX0_body 10 = .ok (.iconst (-1), 1) := dk_2 (dk_at dksX0_body_0 10 rfl rfl)
theorem dX0_body_11 : decode cX0_body 11 = .ok (.ireturn, 1) := dk_172 (dk_at dksX0_body_0 11 rfl rfl)
theorem dX0_body_12 : decode cX0_body 12 = .ok (.aload_n 0, 1) := dk_42 (dk_at dksX0_body_0 12 rfl rfl)
theorem dX0_body_13 : decode cX0_body 13 = .ok (.getfield 428, 3) := dk_180 1 172 (dk_at dksX0_body_0 13 rfl rfl)
theorem dX0_body_16 : decode cX0_body 16 = .ok (.bipush 50, 2) := dk_16 50 (dk_at dksX0_body_0 16 rfl rfl)
theorem dX0_body_18 : decode cX0_body 18 = .ok (.if_icmp .ne 6, 3) := dk_160 0 6 (dk_at dksX0_body_0 18 rfl rfl)
theorem dX0_body_21 : decode cX0_body 21 = .ok (.bipush (-3), 2) := dk_16 253 (dk_at dksX0_body_0 21 rfl rfl)
theorem dX0_body_23 : decode cX0_body 23 = .ok (.ireturn, 1) := dk_172 (dk_at dksX0_body_0 23 rfl rfl)
theorem dX0_body_24 : decode cX0_body 24 = .ok (.aload_n 0, 1) := dk_42 (dk_at dksX0_body_1 0 rfl rfl)
theorem dX0_body_25 : decode cX0_body 25 = .ok (.getfield 201, 3) := dk_180 0 201 (dk_at dksX0_body_1 1 rfl rfl)
theorem dX0_body_28 : decode cX0_body 28 = .ok (.aload_n 0, 1) := dk_42 (dk_at dksX0_body_1 4 rfl rfl)
theorem dX0_body_29 : decode cX0_body 29 = .ok (.getfield 428, 3) := dk_180 1 172 (dk_at dksX0_body_1 5 rfl rfl)
theorem dX0_body_32 : decode cX0_body 32 = .ok (.aload_n 0, 1) := dk_42 (dk_at dksX0_body_1 8 rfl rfl)
theorem dX0_body_33 : decode cX0_body 33 = .ok (.iload_n 1, 1) := dk_27 (dk_at dksX0_body_1 9 rfl rfl)
theorem dX0_body_34 : decode cX0_body 34 = .ok (.invokevirtual 455, 3) := dk_182 1 199 (dk_at dksX0_body_1 10 rfl rfl)
theorem dX0_body_37 : decode cX0_body 37 = .ok (.aastore, 1) := dk_83 (dk_at dksX0_body_1 13 rfl rfl)
theorem dX0_body_38 : decode cX0_body 38 = .ok (.aload_n 0, 1) := dk_42 (dk_at dksX0_body_1 14 rfl rfl)
theorem dX0_body_39 : decode cX0_body 39 = .ok (.dup, 1) := dk_89 (dk_at dksX0_body_1 15 rfl rfl)
theorem dX0_body_40 : decode cX0_body 40 = .ok (.getfield 428, 3) := dk_180 1 172 (dk_at dksX0_body_1 16 rfl rfl)
theorem dX0_body_43 : decode cX0_body 43 = .ok (.iconst 1, 1) := dk_4 (dk_at dksX0_body_1 19 rfl rfl)
theorem dX0_body_44 : decode cX0_body 44 = .ok (.iadd, 1) := dk_96 (dk_at dksX0_body_1 20 rfl rfl)
theorem dX0_body_45 : decode cX0_body 45 = .ok (.putfield 428, 3) := dk_181 1 172 (dk_at dksX0_body_1 21 rfl rfl)
theorem dX0_body_48 : decode cX0_body 48 = .ok (.aload_n 0, 1) := dk_42 (dk_at dksX0_body_2 0 rfl rfl)
theorem dX0_body_49 : decode cX0_body 49 = .ok (.getfield 428, 3) := dk_180 1 172 (dk_at dksX0_body_2 1 rfl rfl)
theorem dX0_body_52 : decode cX0_body 52 = .ok (.iconst 1, 1) := dk_4 (dk_at dksX0_body_2 4 rfl rfl)
theorem dX0_body_53 : decode cX0_body 53 = .ok (.isub, 1) := dk_100 (dk_at dksX0_body_2 5 rfl rfl)
theorem dX0_body_54 : decode cX0_body 54 = .ok (.ireturn, 1) := dk_172 (dk_at dksX0_body_2 6 rfl rfl)
def dkwX0_made_6 : List UInt8 := [187, 0, 199, 89, 42, 42, 180, 1, 172, 183, 1, 198, 176]
abbrev dktX0_made_6 : List UInt8 := dkwX0_made_6 ++ []
def dkwX0_made_5 : List UInt8 := [42, 42, 180, 1, 172, 183, 1, 194, 176, 187, 1, 195, 89, 42, 42, 180, 1, 172, 183, 1, 197, 176]
abbrev dktX0_made_5 : List UInt8 := dkwX0_made_5 ++ dktX0_made_6
def dkwX0_made_4 : List UInt8 := [180, 1, 172, 183, 1, 188, 176, 187, 1, 189, 89, 42, 42, 180, 1, 172, 183, 1, 191, 176, 187, 1, 192, 89]
abbrev dktX0_made_4 : List UInt8 := dkwX0_made_4 ++ dktX0_made_5
def dkwX0_made_3 : List UInt8 := [183, 1, 182, 176, 187, 1, 183, 89, 42, 42, 180, 1, 172, 183, 1, 185, 176, 187, 1, 186, 89, 42, 42]
abbrev dktX0_made_3 : List UInt8 := dkwX0_made_3 ++ dktX0_made_4
def dkwX0_made_2 : List UInt8 := [187, 1, 175, 89, 42, 42, 180, 1, 172, 183, 1, 177, 176, 187, 1, 180, 89, 42, 42, 180, 1, 172]
abbrev dktX0_made_2 : List UInt8 := dkwX0_made_2 ++ dktX0_made_3
def dkwX0_made_1 : List UInt8 := [170, 0, 0, 0, 0, 0, 134, 0, 0, 0, 1, 0, 0, 0, 7, 0, 0, 0, 43, 0, 0, 0, 56, 0, 0, 0, 69, 0, 0, 0, 82, 0, 0, 0, 95, 0, 0, 0, 108, 0, 0, 0, 121]
abbrev dktX0_made_1 : List UInt8 := dkwX0_made_1 ++ dktX0_made_2
def dkwX0_made_0 : List UInt8 := [27]
abbrev dktX0_made_0 : List UInt8 := dkwX0_made_0 ++ dktX0_made_1
theorem dksX0_made_0 : cX0_made.data.toList.drop 0 = dktX0_made_0 := by decide +kernel
theorem dksX0_made_1 : cX0_made.data.toList.drop 1 = dktX0_made_1 := dk_seg dksX0_made_0 1 rfl rfl
theorem dksX0_made_2 : cX0_made.data.toList.drop 44 = dktX0_made_2 := dk_seg dksX0_made_1 43 rfl rfl
theorem dksX0_made_3 : cX0_made.data.toList.drop 66 = dktX0_made_3 := dk_seg dksX0_made_2 22 rfl rfl
theorem dksX0_made_4 : cX0_made.data.toList.drop 89 = dktX0_made_4 := dk_seg dksX0_made_3 23 rfl rfl
theorem dksX0_made_5 : cX0_made.data.toList.drop 113 = dktX0_made_5 := dk_seg dksX0_made_4 24 rfl rfl
theorem dksX0_made_6 : cX0_made.data.toList.drop 135 = dktX0_made_6 := dk_seg dksX0_made_5 22 rfl rfl
theorem dX0_made_0 : decode cX0_made 0 = .ok (.iload_n 1, 1) := dk_27 (dk_at dksX0_made_0 0 rfl rfl)
theorem dX0_made_1 : decode cX0_made 1 = .ok (.tableswitch 134 1 7 #[43, 56, 69, 82, 95, 108, 121], 43) := by decide +kernel
theorem dX0_made_44 : decode cX0_made 44 = .ok (.new 431, 3) := dk_187 1 175 (dk_at dksX0_made_2 0 rfl rfl)
theorem dX0_made_47 : decode cX0_made 47 = .ok (.dup, 1) := dk_89 (dk_at dksX0_made_2 3 rfl rfl)
theorem dX0_made_48 : decode cX0_made 48 = .ok (.aload_n 0, 1) := dk_42 (dk_at dksX0_made_2 4 rfl rfl)
theorem dX0_made_49 : decode cX0_made 49 = .ok (.aload_n 0, 1) := dk_42 (dk_at dksX0_made_2 5 rfl rfl)
theorem dX0_made_50 : decode cX0_made 50 = .ok (.getfield 428, 3) := dk_180 1 172 (dk_at dksX0_made_2 6 rfl rfl)
theorem dX0_made_53 : decode cX0_made 53 = .ok (.invokespecial 433, 3) := dk_183 1 177 (dk_at dksX0_made_2 9 rfl rfl)
theorem dX0_made_56 : decode cX0_made 56 = .ok (.areturn, 1) := dk_176 (dk_at dksX0_made_2 12 rfl rfl)
theorem dX0_made_57 : decode cX0_made 57 = .ok (.new 436, 3) := dk_187 1 180 (dk_at dksX0_made_2 13 rfl rfl)
theorem dX0_made_60 : decode cX0_made 60 = .ok (.dup, 1) := dk_89 (dk_at dksX0_made_2 16 rfl rfl)
theorem dX0_made_61 : decode cX0_made 61 = .ok (.aload_n 0, 1) := dk_42 (dk_at dksX0_made_2 17 rfl rfl)
theorem dX0_made_62 : decode cX0_made 62 = .ok (.aload_n 0, 1) := dk_42 (dk_at dksX0_made_2 18 rfl rfl)
theorem dX0_made_63 : decode cX0_made 63 = .ok (.getfield 428, 3) := dk_180 1 172 (dk_at dksX0_made_2 19 rfl rfl)
theorem dX0_made_66 : decode cX0_made 66 = .ok (.invokespecial 438, 3) := dk_183 1 182 (dk_at dksX0_made_3 0 rfl rfl)
theorem dX0_made_69 : decode cX0_made 69 = .ok (.areturn, 1) := dk_176 (dk_at dksX0_made_3 3 rfl rfl)
theorem dX0_made_70 : decode cX0_made 70 = .ok (.new 439, 3) := dk_187 1 183 (dk_at dksX0_made_3 4 rfl rfl)
theorem dX0_made_73 : decode cX0_made 73 = .ok (.dup, 1) := dk_89 (dk_at dksX0_made_3 7 rfl rfl)
theorem dX0_made_74 : decode cX0_made 74 = .ok (.aload_n 0, 1) := dk_42 (dk_at dksX0_made_3 8 rfl rfl)
theorem dX0_made_75 : decode cX0_made 75 = .ok (.aload_n 0, 1) := dk_42 (dk_at dksX0_made_3 9 rfl rfl)
theorem dX0_made_76 : decode cX0_made 76 = .ok (.getfield 428, 3) := dk_180 1 172 (dk_at dksX0_made_3 10 rfl rfl)
theorem dX0_made_79 : decode cX0_made 79 = .ok (.invokespecial 441, 3) := dk_183 1 185 (dk_at dksX0_made_3 13 rfl rfl)
theorem dX0_made_82 : decode cX0_made 82 = .ok (.areturn, 1) := dk_176 (dk_at dksX0_made_3 16 rfl rfl)
theorem dX0_made_83 : decode cX0_made 83 = .ok (.new 442, 3) := dk_187 1 186 (dk_at dksX0_made_3 17 rfl rfl)
theorem dX0_made_86 : decode cX0_made 86 = .ok (.dup, 1) := dk_89 (dk_at dksX0_made_3 20 rfl rfl)
theorem dX0_made_87 : decode cX0_made 87 = .ok (.aload_n 0, 1) := dk_42 (dk_at dksX0_made_3 21 rfl rfl)
theorem dX0_made_88 : decode cX0_made 88 = .ok (.aload_n 0, 1) := dk_42 (dk_at dksX0_made_3 22 rfl rfl)
theorem dX0_made_89 : decode cX0_made 89 = .ok (.getfield 428, 3) := dk_180 1 172 (dk_at dksX0_made_4 0 rfl rfl)
theorem dX0_made_92 : decode cX0_made 92 = .ok (.invokespecial 444, 3) := dk_183 1 188 (dk_at dksX0_made_4 3 rfl rfl)
theorem dX0_made_95 : decode cX0_made 95 = .ok (.areturn, 1) := dk_176 (dk_at dksX0_made_4 6 rfl rfl)
theorem dX0_made_96 : decode cX0_made 96 = .ok (.new 445, 3) := dk_187 1 189 (dk_at dksX0_made_4 7 rfl rfl)
theorem dX0_made_99 : decode cX0_made 99 = .ok (.dup, 1) := dk_89 (dk_at dksX0_made_4 10 rfl rfl)
theorem dX0_made_100 : decode cX0_made 100 = .ok (.aload_n 0, 1) := dk_42 (dk_at dksX0_made_4 11 rfl rfl)
theorem dX0_made_101 : decode cX0_made 101 = .ok (.aload_n 0, 1) := dk_42 (dk_at dksX0_made_4 12 rfl rfl)
theorem dX0_made_102 : decode cX0_made 102 = .ok (.getfield 428, 3) := dk_180 1 172 (dk_at dksX0_made_4 13 rfl rfl)
theorem dX0_made_105 : decode cX0_made 105 = .ok (.invokespecial 447, 3) := dk_183 1 191 (dk_at dksX0_made_4 16 rfl rfl)
theorem dX0_made_108 : decode cX0_made 108 = .ok (.areturn, 1) := dk_176 (dk_at dksX0_made_4 19 rfl rfl)
theorem dX0_made_109 : decode cX0_made 109 = .ok (.new 448, 3) := dk_187 1 192 (dk_at dksX0_made_4 20 rfl rfl)
theorem dX0_made_112 : decode cX0_made 112 = .ok (.dup, 1) := dk_89 (dk_at dksX0_made_4 23 rfl rfl)
theorem dX0_made_113 : decode cX0_made 113 = .ok (.aload_n 0, 1) := dk_42 (dk_at dksX0_made_5 0 rfl rfl)
theorem dX0_made_114 : decode cX0_made 114 = .ok (.aload_n 0, 1) := dk_42 (dk_at dksX0_made_5 1 rfl rfl)
theorem dX0_made_115 : decode cX0_made 115 = .ok (.getfield 428, 3) := dk_180 1 172 (dk_at dksX0_made_5 2 rfl rfl)
theorem dX0_made_118 : decode cX0_made 118 = .ok (.invokespecial 450, 3) := dk_183 1 194 (dk_at dksX0_made_5 5 rfl rfl)
theorem dX0_made_121 : decode cX0_made 121 = .ok (.areturn, 1) := dk_176 (dk_at dksX0_made_5 8 rfl rfl)
theorem dX0_made_122 : decode cX0_made 122 = .ok (.new 451, 3) := dk_187 1 195 (dk_at dksX0_made_5 9 rfl rfl)
theorem dX0_made_125 : decode cX0_made 125 = .ok (.dup, 1) := dk_89 (dk_at dksX0_made_5 12 rfl rfl)
theorem dX0_made_126 : decode cX0_made 126 = .ok (.aload_n 0, 1) := dk_42 (dk_at dksX0_made_5 13 rfl rfl)
theorem dX0_made_127 : decode cX0_made 127 = .ok (.aload_n 0, 1) := dk_42 (dk_at dksX0_made_5 14 rfl rfl)
theorem dX0_made_128 : decode cX0_made 128 = .ok (.getfield 428, 3) := dk_180 1 172 (dk_at dksX0_made_5 15 rfl rfl)
theorem dX0_made_131 : decode cX0_made 131 = .ok (.invokespecial 453, 3) := dk_183 1 197 (dk_at dksX0_made_5 18 rfl rfl)
theorem dX0_made_134 : decode cX0_made 134 = .ok (.areturn, 1) := dk_176 (dk_at dksX0_made_5 21 rfl rfl)
theorem dX0_made_135 : decode cX0_made 135 = .ok (.new 199, 3) := dk_187 0 199 (dk_at dksX0_made_6 0 rfl rfl)
theorem dX0_made_138 : decode cX0_made 138 = .ok (.dup, 1) := dk_89 (dk_at dksX0_made_6 3 rfl rfl)
theorem dX0_made_139 : decode cX0_made 139 = .ok (.aload_n 0, 1) := dk_42 (dk_at dksX0_made_6 4 rfl rfl)
theorem dX0_made_140 : decode cX0_made 140 = .ok (.aload_n 0, 1) := dk_42 (dk_at dksX0_made_6 5 rfl rfl)
theorem dX0_made_141 : decode cX0_made 141 = .ok (.getfield 428, 3) := dk_180 1 172 (dk_at dksX0_made_6 6 rfl rfl)
theorem dX0_made_144 : decode cX0_made 144 = .ok (.invokespecial 454, 3) := dk_183 1 198 (dk_at dksX0_made_6 9 rfl rfl)
theorem dX0_made_147 : decode cX0_made 147 = .ok (.areturn, 1) := dk_176 (dk_at dksX0_made_6 12 rfl rfl)
def dkwX0_act_3 : List UInt8 := [25, 4, 29, 182, 1, 219, 167, 0, 9, 25, 4, 29, 182, 1, 221, 172]
abbrev dktX0_act_3 : List UInt8 := dkwX0_act_3 ++ []
def dkwX0_act_2 : List UInt8 := [172, 28, 6, 160, 0, 16, 25, 4, 58, 5, 25, 5, 29, 185, 1, 214, 2, 0, 172, 28, 4, 160, 0, 12]
abbrev dktX0_act_2 : List UInt8 := dkwX0_act_2 ++ dktX0_act_3
def dkwX0_act_1 : List UInt8 := [42, 180, 0, 201, 27, 50, 58, 4, 28, 154, 0, 16, 25, 4, 58, 5, 25, 5, 29, 185, 1, 209, 2, 0]
abbrev dktX0_act_1 : List UInt8 := dkwX0_act_1 ++ dktX0_act_2
def dkwX0_act_0 : List UInt8 := [42, 3, 181, 1, 203, 42, 27, 182, 1, 206, 153, 0, 12, 28, 3, 6, 184, 0, 7, 154, 0, 5, 3, 172]
abbrev dktX0_act_0 : List UInt8 := dkwX0_act_0 ++ dktX0_act_1
theorem dksX0_act_0 : cX0_act.data.toList.drop 0 = dktX0_act_0 := by decide +kernel
theorem dksX0_act_1 : cX0_act.data.toList.drop 24 = dktX0_act_1 := dk_seg dksX0_act_0 24 rfl rfl
theorem dksX0_act_2 : cX0_act.data.toList.drop 48 = dktX0_act_2 := dk_seg dksX0_act_1 24 rfl rfl
theorem dksX0_act_3 : cX0_act.data.toList.drop 72 = dktX0_act_3 := dk_seg dksX0_act_2 24 rfl rfl
theorem dX0_act_0 : decode cX0_act 0 = .ok (.aload_n 0, 1) := dk_42 (dk_at dksX0_act_0 0 rfl rfl)
theorem dX0_act_1 : decode cX0_act 1 = .ok (.iconst 0, 1) := dk_3 (dk_at dksX0_act_0 1 rfl rfl)
theorem dX0_act_2 : decode cX0_act 2 = .ok (.putfield 459, 3) := dk_181 1 203 (dk_at dksX0_act_0 2 rfl rfl)
theorem dX0_act_5 : decode cX0_act 5 = .ok (.aload_n 0, 1) := dk_42 (dk_at dksX0_act_0 5 rfl rfl)
theorem dX0_act_6 : decode cX0_act 6 = .ok (.iload_n 1, 1) := dk_27 (dk_at dksX0_act_0 6 rfl rfl)
theorem dX0_act_7 : decode cX0_act 7 = .ok (.invokevirtual 462, 3) := dk_182 1 206 (dk_at dksX0_act_0 7 rfl rfl)
theorem dX0_act_10 : decode cX0_act 10 = .ok (.ifCond .eq 12, 3) := dk_153 0 12 (dk_at dksX0_act_0 10 rfl rfl)
theorem dX0_act_13 : decode cX0_act 13 = .ok (.iload_n 2, 1) := dk_28 (dk_at dksX0_act_0 13 rfl rfl)
theorem dX0_act_14 : decode cX0_act 14 = .ok (.iconst 0, 1) := dk_3 (dk_at dksX0_act_0 14 rfl rfl)
theorem dX0_act_15 : decode cX0_act 15 = .ok (.iconst 3, 1) := dk_6 (dk_at dksX0_act_0 15 rfl rfl)
theorem dX0_act_16 : decode cX0_act 16 = .ok (.invokestatic 7, 3) := dk_184 0 7 (dk_at dksX0_act_0 16 rfl rfl)
theorem dX0_act_19 : decode cX0_act 19 = .ok (.ifCond .ne 5, 3) := dk_154 0 5 (dk_at dksX0_act_0 19 rfl rfl)
theorem dX0_act_22 : decode cX0_act 22 = .ok (.iconst 0, 1) := dk_3 (dk_at dksX0_act_0 22 rfl rfl)
theorem dX0_act_23 : decode cX0_act 23 = .ok (.ireturn, 1) := dk_172 (dk_at dksX0_act_0 23 rfl rfl)
theorem dX0_act_24 : decode cX0_act 24 = .ok (.aload_n 0, 1) := dk_42 (dk_at dksX0_act_1 0 rfl rfl)
theorem dX0_act_25 : decode cX0_act 25 = .ok (.getfield 201, 3) := dk_180 0 201 (dk_at dksX0_act_1 1 rfl rfl)
theorem dX0_act_28 : decode cX0_act 28 = .ok (.iload_n 1, 1) := dk_27 (dk_at dksX0_act_1 4 rfl rfl)
theorem dX0_act_29 : decode cX0_act 29 = .ok (.aaload, 1) := dk_50 (dk_at dksX0_act_1 5 rfl rfl)
theorem dX0_act_30 : decode cX0_act 30 = .ok (.astore 4, 2) := dk_58 4 (dk_at dksX0_act_1 6 rfl rfl)
theorem dX0_act_32 : decode cX0_act 32 = .ok (.iload_n 2, 1) := dk_28 (dk_at dksX0_act_1 8 rfl rfl)
theorem dX0_act_33 : decode cX0_act 33 = .ok (.ifCond .ne 16, 3) := dk_154 0 16 (dk_at dksX0_act_1 9 rfl rfl)
theorem dX0_act_36 : decode cX0_act 36 = .ok (.aload 4, 2) := dk_25 4 (dk_at dksX0_act_1 12 rfl rfl)
theorem dX0_act_38 : decode cX0_act 38 = .ok (.astore 5, 2) := dk_58 5 (dk_at dksX0_act_1 14 rfl rfl)
theorem dX0_act_40 : decode cX0_act 40 = .ok (.aload 5, 2) := dk_25 5 (dk_at dksX0_act_1 16 rfl rfl)
theorem dX0_act_42 : decode cX0_act 42 = .ok (.iload_n 3, 1) := dk_29 (dk_at dksX0_act_1 18 rfl rfl)
theorem dX0_act_43 : decode cX0_act 43 = .ok (.invokeinterface 465 2, 5) := by decide +kernel
theorem dX0_act_48 : decode cX0_act 48 = .ok (.ireturn, 1) := dk_172 (dk_at dksX0_act_2 0 rfl rfl)
theorem dX0_act_49 : decode cX0_act 49 = .ok (.iload_n 2, 1) := dk_28 (dk_at dksX0_act_2 1 rfl rfl)
theorem dX0_act_50 : decode cX0_act 50 = .ok (.iconst 3, 1) := dk_6 (dk_at dksX0_act_2 2 rfl rfl)
theorem dX0_act_51 : decode cX0_act 51 = .ok (.if_icmp .ne 16, 3) := dk_160 0 16 (dk_at dksX0_act_2 3 rfl rfl)
theorem dX0_act_54 : decode cX0_act 54 = .ok (.aload 4, 2) := dk_25 4 (dk_at dksX0_act_2 6 rfl rfl)
theorem dX0_act_56 : decode cX0_act 56 = .ok (.astore 5, 2) := dk_58 5 (dk_at dksX0_act_2 8 rfl rfl)
theorem dX0_act_58 : decode cX0_act 58 = .ok (.aload 5, 2) := dk_25 5 (dk_at dksX0_act_2 10 rfl rfl)
theorem dX0_act_60 : decode cX0_act 60 = .ok (.iload_n 3, 1) := dk_29 (dk_at dksX0_act_2 12 rfl rfl)
theorem dX0_act_61 : decode cX0_act 61 = .ok (.invokeinterface 470 2, 5) := by decide +kernel
theorem dX0_act_66 : decode cX0_act 66 = .ok (.ireturn, 1) := dk_172 (dk_at dksX0_act_2 18 rfl rfl)
theorem dX0_act_67 : decode cX0_act 67 = .ok (.iload_n 2, 1) := dk_28 (dk_at dksX0_act_2 19 rfl rfl)
theorem dX0_act_68 : decode cX0_act 68 = .ok (.iconst 1, 1) := dk_4 (dk_at dksX0_act_2 20 rfl rfl)
theorem dX0_act_69 : decode cX0_act 69 = .ok (.if_icmp .ne 12, 3) := dk_160 0 12 (dk_at dksX0_act_2 21 rfl rfl)
theorem dX0_act_72 : decode cX0_act 72 = .ok (.aload 4, 2) := dk_25 4 (dk_at dksX0_act_3 0 rfl rfl)
theorem dX0_act_74 : decode cX0_act 74 = .ok (.iload_n 3, 1) := dk_29 (dk_at dksX0_act_3 2 rfl rfl)
theorem dX0_act_75 : decode cX0_act 75 = .ok (.invokevirtual 475, 3) := dk_182 1 219 (dk_at dksX0_act_3 3 rfl rfl)
theorem dX0_act_78 : decode cX0_act 78 = .ok (.goto 9, 3) := dk_167 0 9 (dk_at dksX0_act_3 6 rfl rfl)
theorem dX0_act_81 : decode cX0_act 81 = .ok (.aload 4, 2) := dk_25 4 (dk_at dksX0_act_3 9 rfl rfl)
theorem dX0_act_83 : decode cX0_act 83 = .ok (.iload_n 3, 1) := dk_29 (dk_at dksX0_act_3 11 rfl rfl)
theorem dX0_act_84 : decode cX0_act 84 = .ok (.invokevirtual 477, 3) := dk_182 1 221 (dk_at dksX0_act_3 12 rfl rfl)
theorem dX0_act_87 : decode cX0_act 87 = .ok (.ireturn, 1) := dk_172 (dk_at dksX0_act_3 15 rfl rfl)
def dkwX0_isBody_0 : List UInt8 := [27, 3, 42, 180, 1, 172, 4, 100, 184, 0, 7, 172]
abbrev dktX0_isBody_0 : List UInt8 := dkwX0_isBody_0 ++ []
theorem dksX0_isBody_0 : cX0_isBody.data.toList.drop 0 = dktX0_isBody_0 := by decide +kernel
theorem dX0_isBody_0 : decode cX0_isBody 0 = .ok (.iload_n 1, 1) := dk_27 (dk_at dksX0_isBody_0 0 rfl rfl)
theorem dX0_isBody_1 : decode cX0_isBody 1 = .ok (.iconst 0, 1) := dk_3 (dk_at dksX0_isBody_0 1 rfl rfl)
theorem dX0_isBody_2 : decode cX0_isBody 2 = .ok (.aload_n 0, 1) := dk_42 (dk_at dksX0_isBody_0 2 rfl rfl)
theorem dX0_isBody_3 : decode cX0_isBody 3 = .ok (.getfield 428, 3) := dk_180 1 172 (dk_at dksX0_isBody_0 3 rfl rfl)
theorem dX0_isBody_6 : decode cX0_isBody 6 = .ok (.iconst 1, 1) := dk_4 (dk_at dksX0_isBody_0 6 rfl rfl)
theorem dX0_isBody_7 : decode cX0_isBody 7 = .ok (.isub, 1) := dk_100 (dk_at dksX0_isBody_0 7 rfl rfl)
theorem dX0_isBody_8 : decode cX0_isBody 8 = .ok (.invokestatic 7, 3) := dk_184 0 7 (dk_at dksX0_isBody_0 8 rfl rfl)
theorem dX0_isBody_11 : decode cX0_isBody 11 = .ok (.ireturn, 1) := dk_172 (dk_at dksX0_isBody_0 11 rfl rfl)
def dkwX0_trace_1 : List UInt8 := [167, 0, 4, 2, 172]
abbrev dktX0_trace_1 : List UInt8 := dkwX0_trace_1 ++ []
def dkwX0_trace_0 : List UInt8 := [27, 155, 0, 26, 27, 42, 180, 1, 203, 162, 0, 18, 27, 16, 24, 162, 0, 12, 42, 180, 0, 196, 27, 51]
abbrev dktX0_trace_0 : List UInt8 := dkwX0_trace_0 ++ dktX0_trace_1
theorem dksX0_trace_0 : cX0_trace.data.toList.drop 0 = dktX0_trace_0 := by decide +kernel
theorem dksX0_trace_1 : cX0_trace.data.toList.drop 24 = dktX0_trace_1 := dk_seg dksX0_trace_0 24 rfl rfl
theorem dX0_trace_0 : decode cX0_trace 0 = .ok (.iload_n 1, 1) := dk_27 (dk_at dksX0_trace_0 0 rfl rfl)
theorem dX0_trace_1 : decode cX0_trace 1 = .ok (.ifCond .lt 26, 3) := dk_155 0 26 (dk_at dksX0_trace_0 1 rfl rfl)
theorem dX0_trace_4 : decode cX0_trace 4 = .ok (.iload_n 1, 1) := dk_27 (dk_at dksX0_trace_0 4 rfl rfl)
theorem dX0_trace_5 : decode cX0_trace 5 = .ok (.aload_n 0, 1) := dk_42 (dk_at dksX0_trace_0 5 rfl rfl)
theorem dX0_trace_6 : decode cX0_trace 6 = .ok (.getfield 459, 3) := dk_180 1 203 (dk_at dksX0_trace_0 6 rfl rfl)
theorem dX0_trace_9 : decode cX0_trace 9 = .ok (.if_icmp .ge 18, 3) := dk_162 0 18 (dk_at dksX0_trace_0 9 rfl rfl)
theorem dX0_trace_12 : decode cX0_trace 12 = .ok (.iload_n 1, 1) := dk_27 (dk_at dksX0_trace_0 12 rfl rfl)
theorem dX0_trace_13 : decode cX0_trace 13 = .ok (.bipush 24, 2) := dk_16 24 (dk_at dksX0_trace_0 13 rfl rfl)
theorem dX0_trace_15 : decode cX0_trace 15 = .ok (.if_icmp .ge 12, 3) := dk_162 0 12 (dk_at dksX0_trace_0 15 rfl rfl)
theorem dX0_trace_18 : decode cX0_trace 18 = .ok (.aload_n 0, 1) := dk_42 (dk_at dksX0_trace_0 18 rfl rfl)
theorem dX0_trace_19 : decode cX0_trace 19 = .ok (.getfield 196, 3) := dk_180 0 196 (dk_at dksX0_trace_0 19 rfl rfl)
theorem dX0_trace_22 : decode cX0_trace 22 = .ok (.iload_n 1, 1) := dk_27 (dk_at dksX0_trace_0 22 rfl rfl)
theorem dX0_trace_23 : decode cX0_trace 23 = .ok (.baload, 1) := dk_51 (dk_at dksX0_trace_0 23 rfl rfl)
theorem dX0_trace_24 : decode cX0_trace 24 = .ok (.goto 4, 3) := dk_167 0 4 (dk_at dksX0_trace_1 0 rfl rfl)
theorem dX0_trace_27 : decode cX0_trace 27 = .ok (.iconst (-1), 1) := dk_2 (dk_at dksX0_trace_1 3 rfl rfl)
theorem dX0_trace_28 : decode cX0_trace 28 = .ok (.ireturn, 1) := dk_172 (dk_at dksX0_trace_1 4 rfl rfl)
def dkwX0_keep_1 : List UInt8 := [180, 0, 32, 27, 28, 156, 0, 7, 1, 167, 0, 9, 42, 180, 0, 201, 28, 50, 83, 4, 172]
abbrev dktX0_keep_1 : List UInt8 := dkwX0_keep_1 ++ []
def dkwX0_keep_0 : List UInt8 := [27, 184, 0, 29, 153, 0, 16, 28, 2, 159, 0, 13, 42, 28, 182, 1, 206, 154, 0, 5, 2, 172, 42]
abbrev dktX0_keep_0 : List UInt8 := dkwX0_keep_0 ++ dktX0_keep_1
theorem dksX0_keep_0 : cX0_keep.data.toList.drop 0 = dktX0_keep_0 := by decide +kernel
theorem dksX0_keep_1 : cX0_keep.data.toList.drop 23 = dktX0_keep_1 := dk_seg dksX0_keep_0 23 rfl rfl
theorem dX0_keep_0 : decode cX0_keep 0 = .ok (.iload_n 1, 1) := dk_27 (dk_at dksX0_keep_0 0 rfl rfl)
theorem dX0_keep_1 : decode cX0_keep 1 = .ok (.invokestatic 29, 3) := dk_184 0 29 (dk_at dksX0_keep_0 1 rfl rfl)
theorem dX0_keep_4 : decode cX0_keep 4 = .ok (.ifCond .eq 16, 3) := dk_153 0 16 (dk_at dksX0_keep_0 4 rfl rfl)
theorem dX0_keep_7 : decode cX0_keep 7 = .ok (.iload_n 2, 1) := dk_28 (dk_at dksX0_keep_0 7 rfl rfl)
theorem dX0_keep_8 : decode cX0_keep 8 = .ok (.iconst (-1), 1) := dk_2 (dk_at dksX0_keep_0 8 rfl rfl)
theorem dX0_keep_9 : decode cX0_keep 9 = .ok (.if_icmp .eq 13, 3) := dk_159 0 13 (dk_at dksX0_keep_0 9 rfl rfl)
theorem dX0_keep_12 : decode cX0_keep 12 = .ok (.aload_n 0, 1) := dk_42 (dk_at dksX0_keep_0 12 rfl rfl)
theorem dX0_keep_13 : decode cX0_keep 13 = .ok (.iload_n 2, 1) := dk_28 (dk_at dksX0_keep_0 13 rfl rfl)
theorem dX0_keep_14 : decode cX0_keep 14 = .ok (.invokevirtual 462, 3) := dk_182 1 206 (dk_at dksX0_keep_0 14 rfl rfl)
theorem dX0_keep_17 : decode cX0_keep 17 = .ok (.ifCond .ne 5, 3) := dk_154 0 5 (dk_at dksX0_keep_0 17 rfl rfl)
theorem dX0_keep_20 : decode cX0_keep 20 = .ok (.iconst (-1), 1) := dk_2 (dk_at dksX0_keep_0 20 rfl rfl)
theorem dX0_keep_21 : decode cX0_keep 21 = .ok (.ireturn, 1) := dk_172 (dk_at dksX0_keep_0 21 rfl rfl)
theorem dX0_keep_22 : decode cX0_keep 22 = .ok (.aload_n 0, 1) := dk_42 (dk_at dksX0_keep_0 22 rfl rfl)
theorem dX0_keep_23 : decode cX0_keep 23 = .ok (.getfield 32, 3) := dk_180 0 32 (dk_at dksX0_keep_1 0 rfl rfl)
theorem dX0_keep_26 : decode cX0_keep 26 = .ok (.iload_n 1, 1) := dk_27 (dk_at dksX0_keep_1 3 rfl rfl)
theorem dX0_keep_27 : decode cX0_keep 27 = .ok (.iload_n 2, 1) := dk_28 (dk_at dksX0_keep_1 4 rfl rfl)
theorem dX0_keep_28 : decode cX0_keep 28 = .ok (.ifCond .ge 7, 3) := dk_156 0 7 (dk_at dksX0_keep_1 5 rfl rfl)
theorem dX0_keep_31 : decode cX0_keep 31 = .ok (.aconst_null, 1) := dk_1 (dk_at dksX0_keep_1 8 rfl rfl)
theorem dX0_keep_32 : decode cX0_keep 32 = .ok (.goto 9, 3) := dk_167 0 9 (dk_at dksX0_keep_1 9 rfl rfl)
theorem dX0_keep_35 : decode cX0_keep 35 = .ok (.aload_n 0, 1) := dk_42 (dk_at dksX0_keep_1 12 rfl rfl)
theorem dX0_keep_36 : decode cX0_keep 36 = .ok (.getfield 201, 3) := dk_180 0 201 (dk_at dksX0_keep_1 13 rfl rfl)
theorem dX0_keep_39 : decode cX0_keep 39 = .ok (.iload_n 2, 1) := dk_28 (dk_at dksX0_keep_1 16 rfl rfl)
theorem dX0_keep_40 : decode cX0_keep 40 = .ok (.aaload, 1) := dk_50 (dk_at dksX0_keep_1 17 rfl rfl)
theorem dX0_keep_41 : decode cX0_keep 41 = .ok (.aastore, 1) := dk_83 (dk_at dksX0_keep_1 18 rfl rfl)
theorem dX0_keep_42 : decode cX0_keep 42 = .ok (.iconst 1, 1) := dk_4 (dk_at dksX0_keep_1 19 rfl rfl)
theorem dX0_keep_43 : decode cX0_keep 43 = .ok (.ireturn, 1) := dk_172 (dk_at dksX0_keep_1 20 rfl rfl)
def dkwX0_row_1 : List UInt8 := [42, 180, 0, 32, 27, 28, 29, 184, 1, 236, 83, 167, 0, 8, 58, 4, 16, 242, 172, 4, 172]
abbrev dktX0_row_1 : List UInt8 := dkwX0_row_1 ++ []
def dkwX0_row_0 : List UInt8 := [27, 184, 0, 29, 153, 0, 18, 28, 3, 7, 184, 0, 7, 153, 0, 9, 29, 16, 60, 164, 0, 5, 2, 172]
abbrev dktX0_row_0 : List UInt8 := dkwX0_row_0 ++ dktX0_row_1
theorem dksX0_row_0 : cX0_row.data.toList.drop 0 = dktX0_row_0 := by decide +kernel
theorem dksX0_row_1 : cX0_row.data.toList.drop 24 = dktX0_row_1 := dk_seg dksX0_row_0 24 rfl rfl
theorem dX0_row_0 : decode cX0_row 0 = .ok (.iload_n 1, 1) := dk_27 (dk_at dksX0_row_0 0 rfl rfl)
theorem dX0_row_1 : decode cX0_row 1 = .ok (.invokestatic 29, 3) := dk_184 0 29 (dk_at dksX0_row_0 1 rfl rfl)
theorem dX0_row_4 : decode cX0_row 4 = .ok (.ifCond .eq 18, 3) := dk_153 0 18 (dk_at dksX0_row_0 4 rfl rfl)
theorem dX0_row_7 : decode cX0_row 7 = .ok (.iload_n 2, 1) := dk_28 (dk_at dksX0_row_0 7 rfl rfl)
theorem dX0_row_8 : decode cX0_row 8 = .ok (.iconst 0, 1) := dk_3 (dk_at dksX0_row_0 8 rfl rfl)
theorem dX0_row_9 : decode cX0_row 9 = .ok (.iconst 4, 1) := dk_7 (dk_at dksX0_row_0 9 rfl rfl)
theorem dX0_row_10 : decode cX0_row 10 = .ok (.invokestatic 7, 3) := dk_184 0 7 (dk_at dksX0_row_0 10 rfl rfl)
theorem dX0_row_13 : decode cX0_row 13 = .ok (.ifCond .eq 9, 3) := dk_153 0 9 (dk_at dksX0_row_0 13 rfl rfl)
theorem dX0_row_16 : decode cX0_row 16 = .ok (.iload_n 3, 1) := dk_29 (dk_at dksX0_row_0 16 rfl rfl)
theorem dX0_row_17 : decode cX0_row 17 = .ok (.bipush 60, 2) := dk_16 60 (dk_at dksX0_row_0 17 rfl rfl)
theorem dX0_row_19 : decode cX0_row 19 = .ok (.if_icmp .le 5, 3) := dk_164 0 5 (dk_at dksX0_row_0 19 rfl rfl)
theorem dX0_row_22 : decode cX0_row 22 = .ok (.iconst (-1), 1) := dk_2 (dk_at dksX0_row_0 22 rfl rfl)
theorem dX0_row_23 : decode cX0_row 23 = .ok (.ireturn, 1) := dk_172 (dk_at dksX0_row_0 23 rfl rfl)
theorem dX0_row_24 : decode cX0_row 24 = .ok (.aload_n 0, 1) := dk_42 (dk_at dksX0_row_1 0 rfl rfl)
theorem dX0_row_25 : decode cX0_row 25 = .ok (.getfield 32, 3) := dk_180 0 32 (dk_at dksX0_row_1 1 rfl rfl)
theorem dX0_row_28 : decode cX0_row 28 = .ok (.iload_n 1, 1) := dk_27 (dk_at dksX0_row_1 4 rfl rfl)
theorem dX0_row_29 : decode cX0_row 29 = .ok (.iload_n 2, 1) := dk_28 (dk_at dksX0_row_1 5 rfl rfl)
theorem dX0_row_30 : decode cX0_row 30 = .ok (.iload_n 3, 1) := dk_29 (dk_at dksX0_row_1 6 rfl rfl)
theorem dX0_row_31 : decode cX0_row 31 = .ok (.invokestatic 492, 3) := dk_184 1 236 (dk_at dksX0_row_1 7 rfl rfl)
theorem dX0_row_34 : decode cX0_row 34 = .ok (.aastore, 1) := dk_83 (dk_at dksX0_row_1 10 rfl rfl)
theorem dX0_row_35 : decode cX0_row 35 = .ok (.goto 8, 3) := dk_167 0 8 (dk_at dksX0_row_1 11 rfl rfl)
theorem dX0_row_38 : decode cX0_row 38 = .ok (.astore 4, 2) := dk_58 4 (dk_at dksX0_row_1 14 rfl rfl)
theorem dX0_row_40 : decode cX0_row 40 = .ok (.bipush (-14), 2) := dk_16 242 (dk_at dksX0_row_1 16 rfl rfl)
theorem dX0_row_42 : decode cX0_row 42 = .ok (.ireturn, 1) := dk_172 (dk_at dksX0_row_1 18 rfl rfl)
theorem dX0_row_43 : decode cX0_row 43 = .ok (.iconst 1, 1) := dk_4 (dk_at dksX0_row_1 19 rfl rfl)
theorem dX0_row_44 : decode cX0_row 44 = .ok (.ireturn, 1) := dk_172 (dk_at dksX0_row_1 20 rfl rfl)
def dkwX0_newRow_3 : List UInt8 := [183, 1, 229, 176, 187, 1, 230, 89, 27, 183, 1, 232, 176, 187, 1, 233, 89, 27, 183, 1, 235, 176]
abbrev dktX0_newRow_3 : List UInt8 := dkwX0_newRow_3 ++ []
def dkwX0_newRow_2 : List UInt8 := [187, 1, 22, 89, 27, 183, 1, 224, 176, 187, 0, 36, 89, 27, 183, 1, 226, 176, 187, 1, 227, 89, 27]
abbrev dktX0_newRow_2 : List UInt8 := dkwX0_newRow_2 ++ dktX0_newRow_3
def dkwX0_newRow_1 : List UInt8 := [170, 0, 0, 0, 0, 0, 67, 0, 0, 0, 0, 0, 0, 0, 3, 0, 0, 0, 31, 0, 0, 0, 40, 0, 0, 0, 49, 0, 0, 0, 58]
abbrev dktX0_newRow_1 : List UInt8 := dkwX0_newRow_1 ++ dktX0_newRow_2
def dkwX0_newRow_0 : List UInt8 := [26]
abbrev dktX0_newRow_0 : List UInt8 := dkwX0_newRow_0 ++ dktX0_newRow_1
theorem dksX0_newRow_0 : cX0_newRow.data.toList.drop 0 = dktX0_newRow_0 := by decide +kernel
theorem dksX0_newRow_1 : cX0_newRow.data.toList.drop 1 = dktX0_newRow_1 := dk_seg dksX0_newRow_0 1 rfl rfl
theorem dksX0_newRow_2 : cX0_newRow.data.toList.drop 32 = dktX0_newRow_2 := dk_seg dksX0_newRow_1 31 rfl rfl
theorem dksX0_newRow_3 : cX0_newRow.data.toList.drop 55 = dktX0_newRow_3 := dk_seg dksX0_newRow_2 23 rfl rfl
theorem dX0_newRow_0 : decode cX0_newRow 0 = .ok (.iload_n 0, 1) := dk_26 (dk_at dksX0_newRow_0 0 rfl rfl)
theorem dX0_newRow_1 : decode cX0_newRow 1 = .ok (.tableswitch 67 0 3 #[31, 40, 49, 58], 31) := by decide +kernel
theorem dX0_newRow_32 : decode cX0_newRow 32 = .ok (.new 278, 3) := dk_187 1 22 (dk_at dksX0_newRow_2 0 rfl rfl)
theorem dX0_newRow_35 : decode cX0_newRow 35 = .ok (.dup, 1) := dk_89 (dk_at dksX0_newRow_2 3 rfl rfl)
theorem dX0_newRow_36 : decode cX0_newRow 36 = .ok (.iload_n 1, 1) := dk_27 (dk_at dksX0_newRow_2 4 rfl rfl)
theorem dX0_newRow_37 : decode cX0_newRow 37 = .ok (.invokespecial 480, 3) := dk_183 1 224 (dk_at dksX0_newRow_2 5 rfl rfl)
theorem dX0_newRow_40 : decode cX0_newRow 40 = .ok (.areturn, 1) := dk_176 (dk_at dksX0_newRow_2 8 rfl rfl)
theorem dX0_newRow_41 : decode cX0_newRow 41 = .ok (.new 36, 3) := dk_187 0 36 (dk_at dksX0_newRow_2 9 rfl rfl)
theorem dX0_newRow_44 : decode cX0_newRow 44 = .ok (.dup, 1) := dk_89 (dk_at dksX0_newRow_2 12 rfl rfl)
theorem dX0_newRow_45 : decode cX0_newRow 45 = .ok (.iload_n 1, 1) := dk_27 (dk_at dksX0_newRow_2 13 rfl rfl)
theorem dX0_newRow_46 : decode cX0_newRow 46 = .ok (.invokespecial 482, 3) := dk_183 1 226 (dk_at dksX0_newRow_2 14 rfl rfl)
theorem dX0_newRow_49 : decode cX0_newRow 49 = .ok (.areturn, 1) := dk_176 (dk_at dksX0_newRow_2 17 rfl rfl)
theorem dX0_newRow_50 : decode cX0_newRow 50 = .ok (.new 483, 3) := dk_187 1 227 (dk_at dksX0_newRow_2 18 rfl rfl)
theorem dX0_newRow_53 : decode cX0_newRow 53 = .ok (.dup, 1) := dk_89 (dk_at dksX0_newRow_2 21 rfl rfl)
theorem dX0_newRow_54 : decode cX0_newRow 54 = .ok (.iload_n 1, 1) := dk_27 (dk_at dksX0_newRow_2 22 rfl rfl)
theorem dX0_newRow_55 : decode cX0_newRow 55 = .ok (.invokespecial 485, 3) := dk_183 1 229 (dk_at dksX0_newRow_3 0 rfl rfl)
theorem dX0_newRow_58 : decode cX0_newRow 58 = .ok (.areturn, 1) := dk_176 (dk_at dksX0_newRow_3 3 rfl rfl)
theorem dX0_newRow_59 : decode cX0_newRow 59 = .ok (.new 486, 3) := dk_187 1 230 (dk_at dksX0_newRow_3 4 rfl rfl)
theorem dX0_newRow_62 : decode cX0_newRow 62 = .ok (.dup, 1) := dk_89 (dk_at dksX0_newRow_3 7 rfl rfl)
theorem dX0_newRow_63 : decode cX0_newRow 63 = .ok (.iload_n 1, 1) := dk_27 (dk_at dksX0_newRow_3 8 rfl rfl)
theorem dX0_newRow_64 : decode cX0_newRow 64 = .ok (.invokespecial 488, 3) := dk_183 1 232 (dk_at dksX0_newRow_3 9 rfl rfl)
theorem dX0_newRow_67 : decode cX0_newRow 67 = .ok (.areturn, 1) := dk_176 (dk_at dksX0_newRow_3 12 rfl rfl)
theorem dX0_newRow_68 : decode cX0_newRow 68 = .ok (.new 489, 3) := dk_187 1 233 (dk_at dksX0_newRow_3 13 rfl rfl)
theorem dX0_newRow_71 : decode cX0_newRow 71 = .ok (.dup, 1) := dk_89 (dk_at dksX0_newRow_3 16 rfl rfl)
theorem dX0_newRow_72 : decode cX0_newRow 72 = .ok (.iload_n 1, 1) := dk_27 (dk_at dksX0_newRow_3 17 rfl rfl)
theorem dX0_newRow_73 : decode cX0_newRow 73 = .ok (.invokespecial 491, 3) := dk_183 1 235 (dk_at dksX0_newRow_3 18 rfl rfl)
theorem dX0_newRow_76 : decode cX0_newRow 76 = .ok (.areturn, 1) := dk_176 (dk_at dksX0_newRow_3 21 rfl rfl)
def dkwX0_put_1 : List UInt8 := [153, 0, 7, 4, 167, 0, 4, 2, 172, 58, 5, 16, 245, 172, 58, 5, 16, 244, 172, 58, 5, 16, 243, 172]
abbrev dktX0_put_1 : List UInt8 := dkwX0_put_1 ++ []
def dkwX0_put_0 : List UInt8 := [27, 184, 0, 29, 154, 0, 5, 2, 172, 42, 180, 0, 32, 27, 50, 192, 1, 242, 28, 33, 182, 1, 244]
abbrev dktX0_put_0 : List UInt8 := dkwX0_put_0 ++ dktX0_put_1
theorem dksX0_put_0 : cX0_put.data.toList.drop 0 = dktX0_put_0 := by decide +kernel
theorem dksX0_put_1 : cX0_put.data.toList.drop 23 = dktX0_put_1 := dk_seg dksX0_put_0 23 rfl rfl
theorem dX0_put_0 : decode cX0_put 0 = .ok (.iload_n 1, 1) := dk_27 (dk_at dksX0_put_0 0 rfl rfl)
theorem dX0_put_1 : decode cX0_put 1 = .ok (.invokestatic 29, 3) := dk_184 0 29 (dk_at dksX0_put_0 1 rfl rfl)
theorem dX0_put_4 : decode cX0_put 4 = .ok (.ifCond .ne 5, 3) := dk_154 0 5 (dk_at dksX0_put_0 4 rfl rfl)
theorem dX0_put_7 : decode cX0_put 7 = .ok (.iconst (-1), 1) := dk_2 (dk_at dksX0_put_0 7 rfl rfl)
theorem dX0_put_8 : decode cX0_put 8 = .ok (.ireturn, 1) := dk_172 (dk_at dksX0_put_0 8 rfl rfl)
theorem dX0_put_9 : decode cX0_put 9 = .ok (.aload_n 0, 1) := dk_42 (dk_at dksX0_put_0 9 rfl rfl)
theorem dX0_put_10 : decode cX0_put 10 = .ok (.getfield 32, 3) := dk_180 0 32 (dk_at dksX0_put_0 10 rfl rfl)
theorem dX0_put_13 : decode cX0_put 13 = .ok (.iload_n 1, 1) := dk_27 (dk_at dksX0_put_0 13 rfl rfl)
theorem dX0_put_14 : decode cX0_put 14 = .ok (.aaload, 1) := dk_50 (dk_at dksX0_put_0 14 rfl rfl)
theorem dX0_put_15 : decode cX0_put 15 = .ok (.checkcast 498, 3) := dk_192 1 242 (dk_at dksX0_put_0 15 rfl rfl)
theorem dX0_put_18 : decode cX0_put 18 = .ok (.iload_n 2, 1) := dk_28 (dk_at dksX0_put_0 18 rfl rfl)
theorem dX0_put_19 : decode cX0_put 19 = .ok (.lload_n 3, 1) := dk_33 (dk_at dksX0_put_0 19 rfl rfl)
theorem dX0_put_20 : decode cX0_put 20 = .ok (.invokevirtual 500, 3) := dk_182 1 244 (dk_at dksX0_put_0 20 rfl rfl)
theorem dX0_put_23 : decode cX0_put 23 = .ok (.ifCond .eq 7, 3) := dk_153 0 7 (dk_at dksX0_put_1 0 rfl rfl)
theorem dX0_put_26 : decode cX0_put 26 = .ok (.iconst 1, 1) := dk_4 (dk_at dksX0_put_1 3 rfl rfl)
theorem dX0_put_27 : decode cX0_put 27 = .ok (.goto 4, 3) := dk_167 0 4 (dk_at dksX0_put_1 4 rfl rfl)
theorem dX0_put_30 : decode cX0_put 30 = .ok (.iconst (-1), 1) := dk_2 (dk_at dksX0_put_1 7 rfl rfl)
theorem dX0_put_31 : decode cX0_put 31 = .ok (.ireturn, 1) := dk_172 (dk_at dksX0_put_1 8 rfl rfl)
theorem dX0_put_32 : decode cX0_put 32 = .ok (.astore 5, 2) := dk_58 5 (dk_at dksX0_put_1 9 rfl rfl)
theorem dX0_put_34 : decode cX0_put 34 = .ok (.bipush (-11), 2) := dk_16 245 (dk_at dksX0_put_1 11 rfl rfl)
theorem dX0_put_36 : decode cX0_put 36 = .ok (.ireturn, 1) := dk_172 (dk_at dksX0_put_1 13 rfl rfl)
theorem dX0_put_37 : decode cX0_put 37 = .ok (.astore 5, 2) := dk_58 5 (dk_at dksX0_put_1 14 rfl rfl)
theorem dX0_put_39 : decode cX0_put 39 = .ok (.bipush (-12), 2) := dk_16 244 (dk_at dksX0_put_1 16 rfl rfl)
theorem dX0_put_41 : decode cX0_put 41 = .ok (.ireturn, 1) := dk_172 (dk_at dksX0_put_1 18 rfl rfl)
theorem dX0_put_42 : decode cX0_put 42 = .ok (.astore 5, 2) := dk_58 5 (dk_at dksX0_put_1 19 rfl rfl)
theorem dX0_put_44 : decode cX0_put 44 = .ok (.bipush (-13), 2) := dk_16 243 (dk_at dksX0_put_1 21 rfl rfl)
theorem dX0_put_46 : decode cX0_put 46 = .ok (.ireturn, 1) := dk_172 (dk_at dksX0_put_1 23 rfl rfl)
def dkwX0_element_1 : List UInt8 := [173, 78, 20, 1, 250, 173, 78, 20, 1, 250, 173, 78, 20, 1, 250, 173]
abbrev dktX0_element_1 : List UInt8 := dkwX0_element_1 ++ []
def dkwX0_element_0 : List UInt8 := [27, 184, 0, 29, 154, 0, 7, 20, 1, 250, 173, 42, 180, 0, 32, 27, 50, 192, 1, 242, 28, 182, 1, 252]
abbrev dktX0_element_0 : List UInt8 := dkwX0_element_0 ++ dktX0_element_1
theorem dksX0_element_0 : cX0_element.data.toList.drop 0 = dktX0_element_0 := by decide +kernel
theorem dksX0_element_1 : cX0_element.data.toList.drop 24 = dktX0_element_1 := dk_seg dksX0_element_0 24 rfl rfl
theorem dX0_element_0 : decode cX0_element 0 = .ok (.iload_n 1, 1) := dk_27 (dk_at dksX0_element_0 0 rfl rfl)
theorem dX0_element_1 : decode cX0_element 1 = .ok (.invokestatic 29, 3) := dk_184 0 29 (dk_at dksX0_element_0 1 rfl rfl)
theorem dX0_element_4 : decode cX0_element 4 = .ok (.ifCond .ne 7, 3) := dk_154 0 7 (dk_at dksX0_element_0 4 rfl rfl)
theorem dX0_element_7 : decode cX0_element 7 = .ok (.ldc2_w 506, 3) := dk_20 1 250 (dk_at dksX0_element_0 7 rfl rfl)
theorem dX0_element_10 : decode cX0_element 10 = .ok (.lreturn, 1) := dk_173 (dk_at dksX0_element_0 10 rfl rfl)
theorem dX0_element_11 : decode cX0_element 11 = .ok (.aload_n 0, 1) := dk_42 (dk_at dksX0_element_0 11 rfl rfl)
theorem dX0_element_12 : decode cX0_element 12 = .ok (.getfield 32, 3) := dk_180 0 32 (dk_at dksX0_element_0 12 rfl rfl)
theorem dX0_element_15 : decode cX0_element 15 = .ok (.iload_n 1, 1) := dk_27 (dk_at dksX0_element_0 15 rfl rfl)
theorem dX0_element_16 : decode cX0_element 16 = .ok (.aaload, 1) := dk_50 (dk_at dksX0_element_0 16 rfl rfl)
theorem dX0_element_17 : decode cX0_element 17 = .ok (.checkcast 498, 3) := dk_192 1 242 (dk_at dksX0_element_0 17 rfl rfl)
theorem dX0_element_20 : decode cX0_element 20 = .ok (.iload_n 2, 1) := dk_28 (dk_at dksX0_element_0 20 rfl rfl)
theorem dX0_element_21 : decode cX0_element 21 = .ok (.invokevirtual 508, 3) := dk_182 1 252 (dk_at dksX0_element_0 21 rfl rfl)
theorem dX0_element_24 : decode cX0_element 24 = .ok (.lreturn, 1) := dk_173 (dk_at dksX0_element_1 0 rfl rfl)
theorem dX0_element_25 : decode cX0_element 25 = .ok (.astore_n 3, 1) := dk_78 (dk_at dksX0_element_1 1 rfl rfl)
theorem dX0_element_26 : decode cX0_element 26 = .ok (.ldc2_w 506, 3) := dk_20 1 250 (dk_at dksX0_element_1 2 rfl rfl)
theorem dX0_element_29 : decode cX0_element 29 = .ok (.lreturn, 1) := dk_173 (dk_at dksX0_element_1 5 rfl rfl)
theorem dX0_element_30 : decode cX0_element 30 = .ok (.astore_n 3, 1) := dk_78 (dk_at dksX0_element_1 6 rfl rfl)
theorem dX0_element_31 : decode cX0_element 31 = .ok (.ldc2_w 506, 3) := dk_20 1 250 (dk_at dksX0_element_1 7 rfl rfl)
theorem dX0_element_34 : decode cX0_element 34 = .ok (.lreturn, 1) := dk_173 (dk_at dksX0_element_1 10 rfl rfl)
theorem dX0_element_35 : decode cX0_element 35 = .ok (.astore_n 3, 1) := dk_78 (dk_at dksX0_element_1 11 rfl rfl)
theorem dX0_element_36 : decode cX0_element 36 = .ok (.ldc2_w 506, 3) := dk_20 1 250 (dk_at dksX0_element_1 12 rfl rfl)
theorem dX0_element_39 : decode cX0_element 39 = .ok (.lreturn, 1) := dk_173 (dk_at dksX0_element_1 15 rfl rfl)
def dkwX0_shift_3 : List UInt8 := [172, 58, 6, 16, 243, 172, 21, 5, 172]
abbrev dktX0_shift_3 : List UInt8 := dkwX0_shift_3 ++ []
def dkwX0_shift_2 : List UInt8 := [28, 42, 180, 0, 32, 29, 50, 192, 1, 242, 21, 4, 21, 5, 182, 1, 253, 167, 0, 13, 58, 6, 16, 244]
abbrev dktX0_shift_2 : List UInt8 := dkwX0_shift_2 ++ dktX0_shift_3
def dkwX0_shift_1 : List UInt8 := [198, 0, 12, 42, 180, 0, 32, 29, 50, 199, 0, 6, 16, 245, 172, 42, 180, 0, 32, 27, 50, 192, 1, 242]
abbrev dktX0_shift_1 : List UInt8 := dkwX0_shift_1 ++ dktX0_shift_2
def dkwX0_shift_0 : List UInt8 := [27, 184, 0, 29, 153, 0, 10, 29, 184, 0, 29, 154, 0, 5, 2, 172, 42, 180, 0, 32, 27, 50]
abbrev dktX0_shift_0 : List UInt8 := dkwX0_shift_0 ++ dktX0_shift_1
theorem dksX0_shift_0 : cX0_shift.data.toList.drop 0 = dktX0_shift_0 := by decide +kernel
theorem dksX0_shift_1 : cX0_shift.data.toList.drop 22 = dktX0_shift_1 := dk_seg dksX0_shift_0 22 rfl rfl
theorem dksX0_shift_2 : cX0_shift.data.toList.drop 46 = dktX0_shift_2 := dk_seg dksX0_shift_1 24 rfl rfl
theorem dksX0_shift_3 : cX0_shift.data.toList.drop 70 = dktX0_shift_3 := dk_seg dksX0_shift_2 24 rfl rfl
theorem dX0_shift_0 : decode cX0_shift 0 = .ok (.iload_n 1, 1) := dk_27 (dk_at dksX0_shift_0 0 rfl rfl)
theorem dX0_shift_1 : decode cX0_shift 1 = .ok (.invokestatic 29, 3) := dk_184 0 29 (dk_at dksX0_shift_0 1 rfl rfl)
theorem dX0_shift_4 : decode cX0_shift 4 = .ok (.ifCond .eq 10, 3) := dk_153 0 10 (dk_at dksX0_shift_0 4 rfl rfl)
theorem dX0_shift_7 : decode cX0_shift 7 = .ok (.iload_n 3, 1) := dk_29 (dk_at dksX0_shift_0 7 rfl rfl)
theorem dX0_shift_8 : decode cX0_shift 8 = .ok (.invokestatic 29, 3) := dk_184 0 29 (dk_at dksX0_shift_0 8 rfl rfl)
theorem dX0_shift_11 : decode cX0_shift 11 = .ok (.ifCond .ne 5, 3) := dk_154 0 5 (dk_at dksX0_shift_0 11 rfl rfl)
theorem dX0_shift_14 : decode cX0_shift 14 = .ok (.iconst (-1), 1) := dk_2 (dk_at dksX0_shift_0 14 rfl rfl)
theorem dX0_shift_15 : decode cX0_shift 15 = .ok (.ireturn, 1) := dk_172 (dk_at dksX0_shift_0 15 rfl rfl)
theorem dX0_shift_16 : decode cX0_shift 16 = .ok (.aload_n 0, 1) := dk_42 (dk_at dksX0_shift_0 16 rfl rfl)
theorem dX0_shift_17 : decode cX0_shift 17 = .ok (.getfield 32, 3) := dk_180 0 32 (dk_at dksX0_shift_0 17 rfl rfl)
theorem dX0_shift_20 : decode cX0_shift 20 = .ok (.iload_n 1, 1) := dk_27 (dk_at dksX0_shift_0 20 rfl rfl)
theorem dX0_shift_21 : decode cX0_shift 21 = .ok (.aaload, 1) := dk_50 (dk_at dksX0_shift_0 21 rfl rfl)
theorem dX0_shift_22 : decode cX0_shift 22 = .ok (.ifnull 12, 3) := dk_198 0 12 (dk_at dksX0_shift_1 0 rfl rfl)
theorem dX0_shift_25 : decode cX0_shift 25 = .ok (.aload_n 0, 1) := dk_42 (dk_at dksX0_shift_1 3 rfl rfl)
theorem dX0_shift_26 : decode cX0_shift 26 = .ok (.getfield 32, 3) := dk_180 0 32 (dk_at dksX0_shift_1 4 rfl rfl)
theorem dX0_shift_29 : decode cX0_shift 29 = .ok (.iload_n 3, 1) := dk_29 (dk_at dksX0_shift_1 7 rfl rfl)
theorem dX0_shift_30 : decode cX0_shift 30 = .ok (.aaload, 1) := dk_50 (dk_at dksX0_shift_1 8 rfl rfl)
theorem dX0_shift_31 : decode cX0_shift 31 = .ok (.ifnonnull 6, 3) := dk_199 0 6 (dk_at dksX0_shift_1 9 rfl rfl)
theorem dX0_shift_34 : decode cX0_shift 34 = .ok (.bipush (-11), 2) := dk_16 245 (dk_at dksX0_shift_1 12 rfl rfl)
theorem dX0_shift_36 : decode cX0_shift 36 = .ok (.ireturn, 1) := dk_172 (dk_at dksX0_shift_1 14 rfl rfl)
theorem dX0_shift_37 : decode cX0_shift 37 = .ok (.aload_n 0, 1) := dk_42 (dk_at dksX0_shift_1 15 rfl rfl)
theorem dX0_shift_38 : decode cX0_shift 38 = .ok (.getfield 32, 3) := dk_180 0 32 (dk_at dksX0_shift_1 16 rfl rfl)
theorem dX0_shift_41 : decode cX0_shift 41 = .ok (.iload_n 1, 1) := dk_27 (dk_at dksX0_shift_1 19 rfl rfl)
theorem dX0_shift_42 : decode cX0_shift 42 = .ok (.aaload, 1) := dk_50 (dk_at dksX0_shift_1 20 rfl rfl)
theorem dX0_shift_43 : decode cX0_shift 43 = .ok (.checkcast 498, 3) := dk_192 1 242 (dk_at dksX0_shift_1 21 rfl rfl)
theorem dX0_shift_46 : decode cX0_shift 46 = .ok (.iload_n 2, 1) := dk_28 (dk_at dksX0_shift_2 0 rfl rfl)
theorem dX0_shift_47 : decode cX0_shift 47 = .ok (.aload_n 0, 1) := dk_42 (dk_at dksX0_shift_2 1 rfl rfl)
theorem dX0_shift_48 : decode cX0_shift 48 = .ok (.getfield 32, 3) := dk_180 0 32 (dk_at dksX0_shift_2 2 rfl rfl)
theorem dX0_shift_51 : decode cX0_shift 51 = .ok (.iload_n 3, 1) := dk_29 (dk_at dksX0_shift_2 5 rfl rfl)
theorem dX0_shift_52 : decode cX0_shift 52 = .ok (.aaload, 1) := dk_50 (dk_at dksX0_shift_2 6 rfl rfl)
theorem dX0_shift_53 : decode cX0_shift 53 = .ok (.checkcast 498, 3) := dk_192 1 242 (dk_at dksX0_shift_2 7 rfl rfl)
theorem dX0_shift_56 : decode cX0_shift 56 = .ok (.iload 4, 2) := dk_21 4 (dk_at dksX0_shift_2 10 rfl rfl)
theorem dX0_shift_58 : decode cX0_shift 58 = .ok (.iload 5, 2) := dk_21 5 (dk_at dksX0_shift_2 12 rfl rfl)
theorem dX0_shift_60 : decode cX0_shift 60 = .ok (.invokevirtual 509, 3) := dk_182 1 253 (dk_at dksX0_shift_2 14 rfl rfl)
theorem dX0_shift_63 : decode cX0_shift 63 = .ok (.goto 13, 3) := dk_167 0 13 (dk_at dksX0_shift_2 17 rfl rfl)
theorem dX0_shift_66 : decode cX0_shift 66 = .ok (.astore 6, 2) := dk_58 6 (dk_at dksX0_shift_2 20 rfl rfl)
theorem dX0_shift_68 : decode cX0_shift 68 = .ok (.bipush (-12), 2) := dk_16 244 (dk_at dksX0_shift_2 22 rfl rfl)
theorem dX0_shift_70 : decode cX0_shift 70 = .ok (.ireturn, 1) := dk_172 (dk_at dksX0_shift_3 0 rfl rfl)
theorem dX0_shift_71 : decode cX0_shift 71 = .ok (.astore 6, 2) := dk_58 6 (dk_at dksX0_shift_3 1 rfl rfl)
theorem dX0_shift_73 : decode cX0_shift 73 = .ok (.bipush (-13), 2) := dk_16 243 (dk_at dksX0_shift_3 3 rfl rfl)
theorem dX0_shift_75 : decode cX0_shift 75 = .ok (.ireturn, 1) := dk_172 (dk_at dksX0_shift_3 5 rfl rfl)
theorem dX0_shift_76 : decode cX0_shift 76 = .ok (.iload 5, 2) := dk_21 5 (dk_at dksX0_shift_3 6 rfl rfl)
theorem dX0_shift_78 : decode cX0_shift 78 = .ok (.ireturn, 1) := dk_172 (dk_at dksX0_shift_3 8 rfl rfl)
def dkwX0_taken_2 : List UInt8 := [16, 245, 172, 78, 16, 244, 172]
abbrev dktX0_taken_2 : List UInt8 := dkwX0_taken_2 ++ []
def dkwX0_taken_1 : List UInt8 := [50, 192, 0, 199, 78, 45, 28, 182, 2, 1, 153, 0, 10, 45, 182, 2, 4, 167, 0, 5, 16, 244, 172, 78]
abbrev dktX0_taken_1 : List UInt8 := dkwX0_taken_1 ++ dktX0_taken_2
def dkwX0_taken_0 : List UInt8 := [27, 184, 0, 29, 153, 0, 13, 28, 3, 16, 7, 184, 0, 7, 154, 0, 5, 2, 172, 42, 180, 0, 32, 27]
abbrev dktX0_taken_0 : List UInt8 := dkwX0_taken_0 ++ dktX0_taken_1
theorem dksX0_taken_0 : cX0_taken.data.toList.drop 0 = dktX0_taken_0 := by decide +kernel
theorem dksX0_taken_1 : cX0_taken.data.toList.drop 24 = dktX0_taken_1 := dk_seg dksX0_taken_0 24 rfl rfl
theorem dksX0_taken_2 : cX0_taken.data.toList.drop 48 = dktX0_taken_2 := dk_seg dksX0_taken_1 24 rfl rfl
theorem dX0_taken_0 : decode cX0_taken 0 = .ok (.iload_n 1, 1) := dk_27 (dk_at dksX0_taken_0 0 rfl rfl)
theorem dX0_taken_1 : decode cX0_taken 1 = .ok (.invokestatic 29, 3) := dk_184 0 29 (dk_at dksX0_taken_0 1 rfl rfl)
theorem dX0_taken_4 : decode cX0_taken 4 = .ok (.ifCond .eq 13, 3) := dk_153 0 13 (dk_at dksX0_taken_0 4 rfl rfl)
theorem dX0_taken_7 : decode cX0_taken 7 = .ok (.iload_n 2, 1) := dk_28 (dk_at dksX0_taken_0 7 rfl rfl)
theorem dX0_taken_8 : decode cX0_taken 8 = .ok (.iconst 0, 1) := dk_3 (dk_at dksX0_taken_0 8 rfl rfl)
theorem dX0_taken_9 : decode cX0_taken 9 = .ok (.bipush 7, 2) := dk_16 7 (dk_at dksX0_taken_0 9 rfl rfl)
theorem dX0_taken_11 : decode cX0_taken 11 = .ok (.invokestatic 7, 3) := dk_184 0 7 (dk_at dksX0_taken_0 11 rfl rfl)
theorem dX0_taken_14 : decode cX0_taken 14 = .ok (.ifCond .ne 5, 3) := dk_154 0 5 (dk_at dksX0_taken_0 14 rfl rfl)
theorem dX0_taken_17 : decode cX0_taken 17 = .ok (.iconst (-1), 1) := dk_2 (dk_at dksX0_taken_0 17 rfl rfl)
theorem dX0_taken_18 : decode cX0_taken 18 = .ok (.ireturn, 1) := dk_172 (dk_at dksX0_taken_0 18 rfl rfl)
theorem dX0_taken_19 : decode cX0_taken 19 = .ok (.aload_n 0, 1) := dk_42 (dk_at dksX0_taken_0 19 rfl rfl)
theorem dX0_taken_20 : decode cX0_taken 20 = .ok (.getfield 32, 3) := dk_180 0 32 (dk_at dksX0_taken_0 20 rfl rfl)
theorem dX0_taken_23 : decode cX0_taken 23 = .ok (.iload_n 1, 1) := dk_27 (dk_at dksX0_taken_0 23 rfl rfl)
theorem dX0_taken_24 : decode cX0_taken 24 = .ok (.aaload, 1) := dk_50 (dk_at dksX0_taken_1 0 rfl rfl)
theorem dX0_taken_25 : decode cX0_taken 25 = .ok (.checkcast 199, 3) := dk_192 0 199 (dk_at dksX0_taken_1 1 rfl rfl)
theorem dX0_taken_28 : decode cX0_taken 28 = .ok (.astore_n 3, 1) := dk_78 (dk_at dksX0_taken_1 4 rfl rfl)
theorem dX0_taken_29 : decode cX0_taken 29 = .ok (.aload_n 3, 1) := dk_45 (dk_at dksX0_taken_1 5 rfl rfl)
theorem dX0_taken_30 : decode cX0_taken 30 = .ok (.iload_n 2, 1) := dk_28 (dk_at dksX0_taken_1 6 rfl rfl)
theorem dX0_taken_31 : decode cX0_taken 31 = .ok (.invokevirtual 513, 3) := dk_182 2 1 (dk_at dksX0_taken_1 7 rfl rfl)
theorem dX0_taken_34 : decode cX0_taken 34 = .ok (.ifCond .eq 10, 3) := dk_153 0 10 (dk_at dksX0_taken_1 10 rfl rfl)
theorem dX0_taken_37 : decode cX0_taken 37 = .ok (.aload_n 3, 1) := dk_45 (dk_at dksX0_taken_1 13 rfl rfl)
theorem dX0_taken_38 : decode cX0_taken 38 = .ok (.invokevirtual 516, 3) := dk_182 2 4 (dk_at dksX0_taken_1 14 rfl rfl)
theorem dX0_taken_41 : decode cX0_taken 41 = .ok (.goto 5, 3) := dk_167 0 5 (dk_at dksX0_taken_1 17 rfl rfl)
theorem dX0_taken_44 : decode cX0_taken 44 = .ok (.bipush (-12), 2) := dk_16 244 (dk_at dksX0_taken_1 20 rfl rfl)
theorem dX0_taken_46 : decode cX0_taken 46 = .ok (.ireturn, 1) := dk_172 (dk_at dksX0_taken_1 22 rfl rfl)
theorem dX0_taken_47 : decode cX0_taken 47 = .ok (.astore_n 3, 1) := dk_78 (dk_at dksX0_taken_1 23 rfl rfl)
theorem dX0_taken_48 : decode cX0_taken 48 = .ok (.bipush (-11), 2) := dk_16 245 (dk_at dksX0_taken_2 0 rfl rfl)
theorem dX0_taken_50 : decode cX0_taken 50 = .ok (.ireturn, 1) := dk_172 (dk_at dksX0_taken_2 2 rfl rfl)
theorem dX0_taken_51 : decode cX0_taken 51 = .ok (.astore_n 3, 1) := dk_78 (dk_at dksX0_taken_2 3 rfl rfl)
theorem dX0_taken_52 : decode cX0_taken 52 = .ok (.bipush (-12), 2) := dk_16 244 (dk_at dksX0_taken_2 4 rfl rfl)
theorem dX0_taken_54 : decode cX0_taken 54 = .ok (.ireturn, 1) := dk_172 (dk_at dksX0_taken_2 6 rfl rfl)
def dkwX0_count_3 : List UInt8 := [180, 1, 172, 172, 42, 180, 1, 203, 172, 2, 172]
abbrev dktX0_count_3 : List UInt8 := dkwX0_count_3 ++ []
def dkwX0_count_2 : List UInt8 := [42, 180, 0, 1, 172, 42, 180, 0, 170, 180, 0, 252, 172, 42, 180, 0, 114, 172, 42, 180, 0, 72, 172, 42]
abbrev dktX0_count_2 : List UInt8 := dkwX0_count_2 ++ dktX0_count_3
def dkwX0_count_1 : List UInt8 := [170, 0, 0, 0, 0, 0, 72, 0, 0, 0, 0, 0, 0, 0, 5, 0, 0, 0, 39, 0, 0, 0, 44, 0, 0, 0, 52, 0, 0, 0, 57, 0, 0, 0, 62, 0, 0, 0, 67]
abbrev dktX0_count_1 : List UInt8 := dkwX0_count_1 ++ dktX0_count_2
def dkwX0_count_0 : List UInt8 := [27]
abbrev dktX0_count_0 : List UInt8 := dkwX0_count_0 ++ dktX0_count_1
theorem dksX0_count_0 : cX0_count.data.toList.drop 0 = dktX0_count_0 := by decide +kernel
theorem dksX0_count_1 : cX0_count.data.toList.drop 1 = dktX0_count_1 := dk_seg dksX0_count_0 1 rfl rfl
theorem dksX0_count_2 : cX0_count.data.toList.drop 40 = dktX0_count_2 := dk_seg dksX0_count_1 39 rfl rfl
theorem dksX0_count_3 : cX0_count.data.toList.drop 64 = dktX0_count_3 := dk_seg dksX0_count_2 24 rfl rfl
theorem dX0_count_0 : decode cX0_count 0 = .ok (.iload_n 1, 1) := dk_27 (dk_at dksX0_count_0 0 rfl rfl)
theorem dX0_count_1 : decode cX0_count 1 = .ok (.tableswitch 72 0 5 #[39, 44, 52, 57, 62, 67], 39) := by decide +kernel
theorem dX0_count_40 : decode cX0_count 40 = .ok (.aload_n 0, 1) := dk_42 (dk_at dksX0_count_2 0 rfl rfl)
theorem dX0_count_41 : decode cX0_count 41 = .ok (.getfield 1, 3) := dk_180 0 1 (dk_at dksX0_count_2 1 rfl rfl)
theorem dX0_count_44 : decode cX0_count 44 = .ok (.ireturn, 1) := dk_172 (dk_at dksX0_count_2 4 rfl rfl)
theorem dX0_count_45 : decode cX0_count 45 = .ok (.aload_n 0, 1) := dk_42 (dk_at dksX0_count_2 5 rfl rfl)
theorem dX0_count_46 : decode cX0_count 46 = .ok (.getfield 170, 3) := dk_180 0 170 (dk_at dksX0_count_2 6 rfl rfl)
theorem dX0_count_49 : decode cX0_count 49 = .ok (.getfield 252, 3) := dk_180 0 252 (dk_at dksX0_count_2 9 rfl rfl)
theorem dX0_count_52 : decode cX0_count 52 = .ok (.ireturn, 1) := dk_172 (dk_at dksX0_count_2 12 rfl rfl)
theorem dX0_count_53 : decode cX0_count 53 = .ok (.aload_n 0, 1) := dk_42 (dk_at dksX0_count_2 13 rfl rfl)
theorem dX0_count_54 : decode cX0_count 54 = .ok (.getfield 114, 3) := dk_180 0 114 (dk_at dksX0_count_2 14 rfl rfl)
theorem dX0_count_57 : decode cX0_count 57 = .ok (.ireturn, 1) := dk_172 (dk_at dksX0_count_2 17 rfl rfl)
theorem dX0_count_58 : decode cX0_count 58 = .ok (.aload_n 0, 1) := dk_42 (dk_at dksX0_count_2 18 rfl rfl)
theorem dX0_count_59 : decode cX0_count 59 = .ok (.getfield 72, 3) := dk_180 0 72 (dk_at dksX0_count_2 19 rfl rfl)
theorem dX0_count_62 : decode cX0_count 62 = .ok (.ireturn, 1) := dk_172 (dk_at dksX0_count_2 22 rfl rfl)
theorem dX0_count_63 : decode cX0_count 63 = .ok (.aload_n 0, 1) := dk_42 (dk_at dksX0_count_2 23 rfl rfl)
theorem dX0_count_64 : decode cX0_count 64 = .ok (.getfield 428, 3) := dk_180 1 172 (dk_at dksX0_count_3 0 rfl rfl)
theorem dX0_count_67 : decode cX0_count 67 = .ok (.ireturn, 1) := dk_172 (dk_at dksX0_count_3 3 rfl rfl)
theorem dX0_count_68 : decode cX0_count 68 = .ok (.aload_n 0, 1) := dk_42 (dk_at dksX0_count_3 4 rfl rfl)
theorem dX0_count_69 : decode cX0_count 69 = .ok (.getfield 459, 3) := dk_180 1 203 (dk_at dksX0_count_3 5 rfl rfl)
theorem dX0_count_72 : decode cX0_count 72 = .ok (.ireturn, 1) := dk_172 (dk_at dksX0_count_3 8 rfl rfl)
theorem dX0_count_73 : decode cX0_count 73 = .ok (.iconst (-1), 1) := dk_2 (dk_at dksX0_count_3 9 rfl rfl)
theorem dX0_count_74 : decode cX0_count 74 = .ok (.ireturn, 1) := dk_172 (dk_at dksX0_count_3 10 rfl rfl)
