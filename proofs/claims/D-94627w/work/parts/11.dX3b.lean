set_option maxRecDepth 100000
def dkwX3_fresh_2 : List UInt8 := [182, 1, 101, 20, 1, 95, 131, 127, 9, 148, 154, 0, 6, 21, 5, 172, 132, 5, 1, 167, 255, 221, 2, 172]
abbrev dktX3_fresh_2 : List UInt8 := dkwX3_fresh_2 ++ []
def dkwX3_fresh_1 : List UInt8 := [42, 182, 1, 4, 66, 3, 54, 5, 21, 5, 4, 42, 180, 0, 234, 120, 162, 0, 30, 33, 42, 21, 5, 28]
abbrev dktX3_fresh_1 : List UInt8 := dkwX3_fresh_1 ++ dktX3_fresh_2
def dkwX3_fresh_0 : List UInt8 := [42, 3, 181, 0, 111, 28, 3, 8, 184, 0, 123, 153, 0, 11, 42, 27, 182, 1, 14, 154, 0, 5, 2, 172]
abbrev dktX3_fresh_0 : List UInt8 := dkwX3_fresh_0 ++ dktX3_fresh_1
theorem dksX3_fresh_0 : cX3_fresh.data.toList.drop 0 = dktX3_fresh_0 := by decide +kernel
theorem dksX3_fresh_1 : cX3_fresh.data.toList.drop 24 = dktX3_fresh_1 := dk_seg dksX3_fresh_0 24 rfl rfl
theorem dksX3_fresh_2 : cX3_fresh.data.toList.drop 48 = dktX3_fresh_2 := dk_seg dksX3_fresh_1 24 rfl rfl
theorem dX3_fresh_0 : decode cX3_fresh 0 = .ok (.aload_n 0, 1) := dk_42 (dk_at dksX3_fresh_0 0 rfl rfl)
theorem dX3_fresh_1 : decode cX3_fresh 1 = .ok (.iconst 0, 1) := dk_3 (dk_at dksX3_fresh_0 1 rfl rfl)
theorem dX3_fresh_2 : decode cX3_fresh 2 = .ok (.putfield 111, 3) := dk_181 0 111 (dk_at dksX3_fresh_0 2 rfl rfl)
theorem dX3_fresh_5 : decode cX3_fresh 5 = .ok (.iload_n 2, 1) := dk_28 (dk_at dksX3_fresh_0 5 rfl rfl)
theorem dX3_fresh_6 : decode cX3_fresh 6 = .ok (.iconst 0, 1) := dk_3 (dk_at dksX3_fresh_0 6 rfl rfl)
theorem dX3_fresh_7 : decode cX3_fresh 7 = .ok (.iconst 5, 1) := dk_8 (dk_at dksX3_fresh_0 7 rfl rfl)
theorem dX3_fresh_8 : decode cX3_fresh 8 = .ok (.invokestatic 123, 3) := dk_184 0 123 (dk_at dksX3_fresh_0 8 rfl rfl)
theorem dX3_fresh_11 : decode cX3_fresh 11 = .ok (.ifCond .eq 11, 3) := dk_153 0 11 (dk_at dksX3_fresh_0 11 rfl rfl)
theorem dX3_fresh_14 : decode cX3_fresh 14 = .ok (.aload_n 0, 1) := dk_42 (dk_at dksX3_fresh_0 14 rfl rfl)
theorem dX3_fresh_15 : decode cX3_fresh 15 = .ok (.iload_n 1, 1) := dk_27 (dk_at dksX3_fresh_0 15 rfl rfl)
theorem dX3_fresh_16 : decode cX3_fresh 16 = .ok (.invokevirtual 270, 3) := dk_182 1 14 (dk_at dksX3_fresh_0 16 rfl rfl)
theorem dX3_fresh_19 : decode cX3_fresh 19 = .ok (.ifCond .ne 5, 3) := dk_154 0 5 (dk_at dksX3_fresh_0 19 rfl rfl)
theorem dX3_fresh_22 : decode cX3_fresh 22 = .ok (.iconst (-1), 1) := dk_2 (dk_at dksX3_fresh_0 22 rfl rfl)
theorem dX3_fresh_23 : decode cX3_fresh 23 = .ok (.ireturn, 1) := dk_172 (dk_at dksX3_fresh_0 23 rfl rfl)
theorem dX3_fresh_24 : decode cX3_fresh 24 = .ok (.aload_n 0, 1) := dk_42 (dk_at dksX3_fresh_1 0 rfl rfl)
theorem dX3_fresh_25 : decode cX3_fresh 25 = .ok (.invokevirtual 260, 3) := dk_182 1 4 (dk_at dksX3_fresh_1 1 rfl rfl)
theorem dX3_fresh_28 : decode cX3_fresh 28 = .ok (.lstore_n 3, 1) := dk_66 (dk_at dksX3_fresh_1 4 rfl rfl)
theorem dX3_fresh_29 : decode cX3_fresh 29 = .ok (.iconst 0, 1) := dk_3 (dk_at dksX3_fresh_1 5 rfl rfl)
theorem dX3_fresh_30 : decode cX3_fresh 30 = .ok (.istore 5, 2) := dk_54 5 (dk_at dksX3_fresh_1 6 rfl rfl)
theorem dX3_fresh_32 : decode cX3_fresh 32 = .ok (.iload 5, 2) := dk_21 5 (dk_at dksX3_fresh_1 8 rfl rfl)
theorem dX3_fresh_34 : decode cX3_fresh 34 = .ok (.iconst 1, 1) := dk_4 (dk_at dksX3_fresh_1 10 rfl rfl)
theorem dX3_fresh_35 : decode cX3_fresh 35 = .ok (.aload_n 0, 1) := dk_42 (dk_at dksX3_fresh_1 11 rfl rfl)
theorem dX3_fresh_36 : decode cX3_fresh 36 = .ok (.getfield 234, 3) := dk_180 0 234 (dk_at dksX3_fresh_1 12 rfl rfl)
theorem dX3_fresh_39 : decode cX3_fresh 39 = .ok (.ishl, 1) := dk_120 (dk_at dksX3_fresh_1 15 rfl rfl)
theorem dX3_fresh_40 : decode cX3_fresh 40 = .ok (.if_icmp .ge 30, 3) := dk_162 0 30 (dk_at dksX3_fresh_1 16 rfl rfl)
theorem dX3_fresh_43 : decode cX3_fresh 43 = .ok (.lload_n 3, 1) := dk_33 (dk_at dksX3_fresh_1 19 rfl rfl)
theorem dX3_fresh_44 : decode cX3_fresh 44 = .ok (.aload_n 0, 1) := dk_42 (dk_at dksX3_fresh_1 20 rfl rfl)
theorem dX3_fresh_45 : decode cX3_fresh 45 = .ok (.iload 5, 2) := dk_21 5 (dk_at dksX3_fresh_1 21 rfl rfl)
theorem dX3_fresh_47 : decode cX3_fresh 47 = .ok (.iload_n 2, 1) := dk_28 (dk_at dksX3_fresh_1 23 rfl rfl)
theorem dX3_fresh_48 : decode cX3_fresh 48 = .ok (.invokevirtual 357, 3) := dk_182 1 101 (dk_at dksX3_fresh_2 0 rfl rfl)
theorem dX3_fresh_51 : decode cX3_fresh 51 = .ok (.ldc2_w 351, 3) := dk_20 1 95 (dk_at dksX3_fresh_2 3 rfl rfl)
theorem dX3_fresh_54 : decode cX3_fresh 54 = .ok (.lxor, 1) := dk_131 (dk_at dksX3_fresh_2 6 rfl rfl)
theorem dX3_fresh_55 : decode cX3_fresh 55 = .ok (.land, 1) := dk_127 (dk_at dksX3_fresh_2 7 rfl rfl)
theorem dX3_fresh_56 : decode cX3_fresh 56 = .ok (.lconst 0, 1) := dk_9 (dk_at dksX3_fresh_2 8 rfl rfl)
theorem dX3_fresh_57 : decode cX3_fresh 57 = .ok (.lcmp, 1) := dk_148 (dk_at dksX3_fresh_2 9 rfl rfl)
theorem dX3_fresh_58 : decode cX3_fresh 58 = .ok (.ifCond .ne 6, 3) := dk_154 0 6 (dk_at dksX3_fresh_2 10 rfl rfl)
theorem dX3_fresh_61 : decode cX3_fresh 61 = .ok (.iload 5, 2) := dk_21 5 (dk_at dksX3_fresh_2 13 rfl rfl)
theorem dX3_fresh_63 : decode cX3_fresh 63 = .ok (.ireturn, 1) := dk_172 (dk_at dksX3_fresh_2 15 rfl rfl)
theorem dX3_fresh_64 : decode cX3_fresh 64 = .ok (.iinc 5 1, 3) := dk_132 5 1 (dk_at dksX3_fresh_2 16 rfl rfl)
theorem dX3_fresh_67 : decode cX3_fresh 67 = .ok (.goto (-35), 3) := dk_167 255 221 (dk_at dksX3_fresh_2 19 rfl rfl)
theorem dX3_fresh_70 : decode cX3_fresh 70 = .ok (.iconst (-1), 1) := dk_2 (dk_at dksX3_fresh_2 22 rfl rfl)
theorem dX3_fresh_71 : decode cX3_fresh 71 = .ok (.ireturn, 1) := dk_172 (dk_at dksX3_fresh_2 23 rfl rfl)
def dkwX3_apartFrom_1 : List UInt8 := [164, 0, 10, 10, 21, 5, 121, 167, 0, 4, 9, 129, 66, 132, 5, 1, 167, 255, 221, 33, 173]
abbrev dktX3_apartFrom_1 : List UInt8 := dkwX3_apartFrom_1 ++ []
def dkwX3_apartFrom_0 : List UInt8 := [9, 66, 3, 54, 5, 21, 5, 4, 42, 180, 0, 234, 120, 162, 0, 30, 33, 27, 21, 5, 184, 1, 8, 28]
abbrev dktX3_apartFrom_0 : List UInt8 := dkwX3_apartFrom_0 ++ dktX3_apartFrom_1
theorem dksX3_apartFrom_0 : cX3_apartFrom.data.toList.drop 0 = dktX3_apartFrom_0 := by decide +kernel
theorem dksX3_apartFrom_1 : cX3_apartFrom.data.toList.drop 24 = dktX3_apartFrom_1 := dk_seg dksX3_apartFrom_0 24 rfl rfl
theorem dX3_apartFrom_0 : decode cX3_apartFrom 0 = .ok (.lconst 0, 1) := dk_9 (dk_at dksX3_apartFrom_0 0 rfl rfl)
theorem dX3_apartFrom_1 : decode cX3_apartFrom 1 = .ok (.lstore_n 3, 1) := dk_66 (dk_at dksX3_apartFrom_0 1 rfl rfl)
theorem dX3_apartFrom_2 : decode cX3_apartFrom 2 = .ok (.iconst 0, 1) := dk_3 (dk_at dksX3_apartFrom_0 2 rfl rfl)
theorem dX3_apartFrom_3 : decode cX3_apartFrom 3 = .ok (.istore 5, 2) := dk_54 5 (dk_at dksX3_apartFrom_0 3 rfl rfl)
theorem dX3_apartFrom_5 : decode cX3_apartFrom 5 = .ok (.iload 5, 2) := dk_21 5 (dk_at dksX3_apartFrom_0 5 rfl rfl)
theorem dX3_apartFrom_7 : decode cX3_apartFrom 7 = .ok (.iconst 1, 1) := dk_4 (dk_at dksX3_apartFrom_0 7 rfl rfl)
theorem dX3_apartFrom_8 : decode cX3_apartFrom 8 = .ok (.aload_n 0, 1) := dk_42 (dk_at dksX3_apartFrom_0 8 rfl rfl)
theorem dX3_apartFrom_9 : decode cX3_apartFrom 9 = .ok (.getfield 234, 3) := dk_180 0 234 (dk_at dksX3_apartFrom_0 9 rfl rfl)
theorem dX3_apartFrom_12 : decode cX3_apartFrom 12 = .ok (.ishl, 1) := dk_120 (dk_at dksX3_apartFrom_0 12 rfl rfl)
theorem dX3_apartFrom_13 : decode cX3_apartFrom 13 = .ok (.if_icmp .ge 30, 3) := dk_162 0 30 (dk_at dksX3_apartFrom_0 13 rfl rfl)
theorem dX3_apartFrom_16 : decode cX3_apartFrom 16 = .ok (.lload_n 3, 1) := dk_33 (dk_at dksX3_apartFrom_0 16 rfl rfl)
theorem dX3_apartFrom_17 : decode cX3_apartFrom 17 = .ok (.iload_n 1, 1) := dk_27 (dk_at dksX3_apartFrom_0 17 rfl rfl)
theorem dX3_apartFrom_18 : decode cX3_apartFrom 18 = .ok (.iload 5, 2) := dk_21 5 (dk_at dksX3_apartFrom_0 18 rfl rfl)
theorem dX3_apartFrom_20 : decode cX3_apartFrom 20 = .ok (.invokestatic 264, 3) := dk_184 1 8 (dk_at dksX3_apartFrom_0 20 rfl rfl)
theorem dX3_apartFrom_23 : decode cX3_apartFrom 23 = .ok (.iload_n 2, 1) := dk_28 (dk_at dksX3_apartFrom_0 23 rfl rfl)
theorem dX3_apartFrom_24 : decode cX3_apartFrom 24 = .ok (.if_icmp .le 10, 3) := dk_164 0 10 (dk_at dksX3_apartFrom_1 0 rfl rfl)
theorem dX3_apartFrom_27 : decode cX3_apartFrom 27 = .ok (.lconst 1, 1) := dk_10 (dk_at dksX3_apartFrom_1 3 rfl rfl)
theorem dX3_apartFrom_28 : decode cX3_apartFrom 28 = .ok (.iload 5, 2) := dk_21 5 (dk_at dksX3_apartFrom_1 4 rfl rfl)
theorem dX3_apartFrom_30 : decode cX3_apartFrom 30 = .ok (.lshl, 1) := dk_121 (dk_at dksX3_apartFrom_1 6 rfl rfl)
theorem dX3_apartFrom_31 : decode cX3_apartFrom 31 = .ok (.goto 4, 3) := dk_167 0 4 (dk_at dksX3_apartFrom_1 7 rfl rfl)
theorem dX3_apartFrom_34 : decode cX3_apartFrom 34 = .ok (.lconst 0, 1) := dk_9 (dk_at dksX3_apartFrom_1 10 rfl rfl)
theorem dX3_apartFrom_35 : decode cX3_apartFrom 35 = .ok (.lor, 1) := dk_129 (dk_at dksX3_apartFrom_1 11 rfl rfl)
theorem dX3_apartFrom_36 : decode cX3_apartFrom 36 = .ok (.lstore_n 3, 1) := dk_66 (dk_at dksX3_apartFrom_1 12 rfl rfl)
theorem dX3_apartFrom_37 : decode cX3_apartFrom 37 = .ok (.iinc 5 1, 3) := dk_132 5 1 (dk_at dksX3_apartFrom_1 13 rfl rfl)
theorem dX3_apartFrom_40 : decode cX3_apartFrom 40 = .ok (.goto (-35), 3) := dk_167 255 221 (dk_at dksX3_apartFrom_1 16 rfl rfl)
theorem dX3_apartFrom_43 : decode cX3_apartFrom 43 = .ok (.lload_n 3, 1) := dk_33 (dk_at dksX3_apartFrom_1 19 rfl rfl)
theorem dX3_apartFrom_44 : decode cX3_apartFrom 44 = .ok (.lreturn, 1) := dk_173 (dk_at dksX3_apartFrom_1 20 rfl rfl)
def dkwX3_set_6 : List UInt8 := [2, 160, 0, 11, 22, 9, 184, 0, 253, 167, 0, 10, 22, 9, 21, 4, 184, 1, 111, 172]
abbrev dktX3_set_6 : List UInt8 := dkwX3_set_6 ++ []
def dkwX3_set_5 : List UInt8 := [132, 9, 1, 167, 255, 196, 42, 22, 5, 28, 182, 1, 108, 42, 180, 1, 105, 22, 7, 129, 55, 9, 21, 4]
abbrev dktX3_set_5 : List UInt8 := dkwX3_set_5 ++ dktX3_set_6
def dkwX3_set_4 : List UInt8 := [42, 21, 9, 28, 182, 1, 101, 20, 1, 95, 131, 127, 10, 21, 9, 121, 148, 153, 0, 5, 2, 172]
abbrev dktX3_set_4 : List UInt8 := dkwX3_set_4 ++ dktX3_set_5
def dkwX3_set_3 : List UInt8 := [22, 7, 21, 9, 184, 0, 115, 153, 0, 39, 22, 5, 42, 21, 9, 28, 182, 1, 101, 127, 55, 5, 22, 7]
abbrev dktX3_set_3 : List UInt8 := dkwX3_set_3 ++ dktX3_set_4
def dkwX3_set_2 : List UInt8 := [182, 1, 4, 167, 0, 4, 9, 55, 7, 3, 54, 9, 21, 9, 4, 42, 180, 0, 234, 120, 162, 0, 55]
abbrev dktX3_set_2 : List UInt8 := dkwX3_set_2 ++ dktX3_set_3
def dkwX3_set_1 : List UInt8 := [2, 162, 0, 5, 2, 172, 10, 4, 42, 180, 0, 234, 120, 121, 10, 101, 55, 5, 29, 153, 0, 10, 42]
abbrev dktX3_set_1 : List UInt8 := dkwX3_set_1 ++ dktX3_set_2
def dkwX3_set_0 : List UInt8 := [42, 3, 181, 0, 111, 28, 3, 8, 184, 0, 123, 153, 0, 17, 42, 27, 182, 1, 14, 153, 0, 9, 21, 4]
abbrev dktX3_set_0 : List UInt8 := dkwX3_set_0 ++ dktX3_set_1
theorem dksX3_set_0 : cX3_set.data.toList.drop 0 = dktX3_set_0 := by decide +kernel
theorem dksX3_set_1 : cX3_set.data.toList.drop 24 = dktX3_set_1 := dk_seg dksX3_set_0 24 rfl rfl
theorem dksX3_set_2 : cX3_set.data.toList.drop 47 = dktX3_set_2 := dk_seg dksX3_set_1 23 rfl rfl
theorem dksX3_set_3 : cX3_set.data.toList.drop 70 = dktX3_set_3 := dk_seg dksX3_set_2 23 rfl rfl
theorem dksX3_set_4 : cX3_set.data.toList.drop 94 = dktX3_set_4 := dk_seg dksX3_set_3 24 rfl rfl
theorem dksX3_set_5 : cX3_set.data.toList.drop 116 = dktX3_set_5 := dk_seg dksX3_set_4 22 rfl rfl
theorem dksX3_set_6 : cX3_set.data.toList.drop 140 = dktX3_set_6 := dk_seg dksX3_set_5 24 rfl rfl
theorem dX3_set_0 : decode cX3_set 0 = .ok (.aload_n 0, 1) := dk_42 (dk_at dksX3_set_0 0 rfl rfl)
theorem dX3_set_1 : decode cX3_set 1 = .ok (.iconst 0, 1) := dk_3 (dk_at dksX3_set_0 1 rfl rfl)
theorem dX3_set_2 : decode cX3_set 2 = .ok (.putfield 111, 3) := dk_181 0 111 (dk_at dksX3_set_0 2 rfl rfl)
theorem dX3_set_5 : decode cX3_set 5 = .ok (.iload_n 2, 1) := dk_28 (dk_at dksX3_set_0 5 rfl rfl)
theorem dX3_set_6 : decode cX3_set 6 = .ok (.iconst 0, 1) := dk_3 (dk_at dksX3_set_0 6 rfl rfl)
theorem dX3_set_7 : decode cX3_set 7 = .ok (.iconst 5, 1) := dk_8 (dk_at dksX3_set_0 7 rfl rfl)
theorem dX3_set_8 : decode cX3_set 8 = .ok (.invokestatic 123, 3) := dk_184 0 123 (dk_at dksX3_set_0 8 rfl rfl)
theorem dX3_set_11 : decode cX3_set 11 = .ok (.ifCond .eq 17, 3) := dk_153 0 17 (dk_at dksX3_set_0 11 rfl rfl)
theorem dX3_set_14 : decode cX3_set 14 = .ok (.aload_n 0, 1) := dk_42 (dk_at dksX3_set_0 14 rfl rfl)
theorem dX3_set_15 : decode cX3_set 15 = .ok (.iload_n 1, 1) := dk_27 (dk_at dksX3_set_0 15 rfl rfl)
theorem dX3_set_16 : decode cX3_set 16 = .ok (.invokevirtual 270, 3) := dk_182 1 14 (dk_at dksX3_set_0 16 rfl rfl)
theorem dX3_set_19 : decode cX3_set 19 = .ok (.ifCond .eq 9, 3) := dk_153 0 9 (dk_at dksX3_set_0 19 rfl rfl)
theorem dX3_set_22 : decode cX3_set 22 = .ok (.iload 4, 2) := dk_21 4 (dk_at dksX3_set_0 22 rfl rfl)
theorem dX3_set_24 : decode cX3_set 24 = .ok (.iconst (-1), 1) := dk_2 (dk_at dksX3_set_1 0 rfl rfl)
theorem dX3_set_25 : decode cX3_set 25 = .ok (.if_icmp .ge 5, 3) := dk_162 0 5 (dk_at dksX3_set_1 1 rfl rfl)
theorem dX3_set_28 : decode cX3_set 28 = .ok (.iconst (-1), 1) := dk_2 (dk_at dksX3_set_1 4 rfl rfl)
theorem dX3_set_29 : decode cX3_set 29 = .ok (.ireturn, 1) := dk_172 (dk_at dksX3_set_1 5 rfl rfl)
theorem dX3_set_30 : decode cX3_set 30 = .ok (.lconst 1, 1) := dk_10 (dk_at dksX3_set_1 6 rfl rfl)
theorem dX3_set_31 : decode cX3_set 31 = .ok (.iconst 1, 1) := dk_4 (dk_at dksX3_set_1 7 rfl rfl)
theorem dX3_set_32 : decode cX3_set 32 = .ok (.aload_n 0, 1) := dk_42 (dk_at dksX3_set_1 8 rfl rfl)
theorem dX3_set_33 : decode cX3_set 33 = .ok (.getfield 234, 3) := dk_180 0 234 (dk_at dksX3_set_1 9 rfl rfl)
theorem dX3_set_36 : decode cX3_set 36 = .ok (.ishl, 1) := dk_120 (dk_at dksX3_set_1 12 rfl rfl)
theorem dX3_set_37 : decode cX3_set 37 = .ok (.lshl, 1) := dk_121 (dk_at dksX3_set_1 13 rfl rfl)
theorem dX3_set_38 : decode cX3_set 38 = .ok (.lconst 1, 1) := dk_10 (dk_at dksX3_set_1 14 rfl rfl)
theorem dX3_set_39 : decode cX3_set 39 = .ok (.lsub, 1) := dk_101 (dk_at dksX3_set_1 15 rfl rfl)
theorem dX3_set_40 : decode cX3_set 40 = .ok (.lstore 5, 2) := dk_55 5 (dk_at dksX3_set_1 16 rfl rfl)
theorem dX3_set_42 : decode cX3_set 42 = .ok (.iload_n 3, 1) := dk_29 (dk_at dksX3_set_1 18 rfl rfl)
theorem dX3_set_43 : decode cX3_set 43 = .ok (.ifCond .eq 10, 3) := dk_153 0 10 (dk_at dksX3_set_1 19 rfl rfl)
theorem dX3_set_46 : decode cX3_set 46 = .ok (.aload_n 0, 1) := dk_42 (dk_at dksX3_set_1 22 rfl rfl)
theorem dX3_set_47 : decode cX3_set 47 = .ok (.invokevirtual 260, 3) := dk_182 1 4 (dk_at dksX3_set_2 0 rfl rfl)
theorem dX3_set_50 : decode cX3_set 50 = .ok (.goto 4, 3) := dk_167 0 4 (dk_at dksX3_set_2 3 rfl rfl)
theorem dX3_set_53 : decode cX3_set 53 = .ok (.lconst 0, 1) := dk_9 (dk_at dksX3_set_2 6 rfl rfl)
theorem dX3_set_54 : decode cX3_set 54 = .ok (.lstore 7, 2) := dk_55 7 (dk_at dksX3_set_2 7 rfl rfl)
theorem dX3_set_56 : decode cX3_set 56 = .ok (.iconst 0, 1) := dk_3 (dk_at dksX3_set_2 9 rfl rfl)
theorem dX3_set_57 : decode cX3_set 57 = .ok (.istore 9, 2) := dk_54 9 (dk_at dksX3_set_2 10 rfl rfl)
theorem dX3_set_59 : decode cX3_set 59 = .ok (.iload 9, 2) := dk_21 9 (dk_at dksX3_set_2 12 rfl rfl)
theorem dX3_set_61 : decode cX3_set 61 = .ok (.iconst 1, 1) := dk_4 (dk_at dksX3_set_2 14 rfl rfl)
theorem dX3_set_62 : decode cX3_set 62 = .ok (.aload_n 0, 1) := dk_42 (dk_at dksX3_set_2 15 rfl rfl)
theorem dX3_set_63 : decode cX3_set 63 = .ok (.getfield 234, 3) := dk_180 0 234 (dk_at dksX3_set_2 16 rfl rfl)
theorem dX3_set_66 : decode cX3_set 66 = .ok (.ishl, 1) := dk_120 (dk_at dksX3_set_2 19 rfl rfl)
theorem dX3_set_67 : decode cX3_set 67 = .ok (.if_icmp .ge 55, 3) := dk_162 0 55 (dk_at dksX3_set_2 20 rfl rfl)
theorem dX3_set_70 : decode cX3_set 70 = .ok (.lload 7, 2) := dk_22 7 (dk_at dksX3_set_3 0 rfl rfl)
theorem dX3_set_72 : decode cX3_set 72 = .ok (.iload 9, 2) := dk_21 9 (dk_at dksX3_set_3 2 rfl rfl)
theorem dX3_set_74 : decode cX3_set 74 = .ok (.invokestatic 115, 3) := dk_184 0 115 (dk_at dksX3_set_3 4 rfl rfl)
theorem dX3_set_77 : decode cX3_set 77 = .ok (.ifCond .eq 39, 3) := dk_153 0 39 (dk_at dksX3_set_3 7 rfl rfl)
theorem dX3_set_80 : decode cX3_set 80 = .ok (.lload 5, 2) := dk_22 5 (dk_at dksX3_set_3 10 rfl rfl)
theorem dX3_set_82 : decode cX3_set 82 = .ok (.aload_n 0, 1) := dk_42 (dk_at dksX3_set_3 12 rfl rfl)
theorem dX3_set_83 : decode cX3_set 83 = .ok (.iload 9, 2) := dk_21 9 (dk_at dksX3_set_3 13 rfl rfl)
theorem dX3_set_85 : decode cX3_set 85 = .ok (.iload_n 2, 1) := dk_28 (dk_at dksX3_set_3 15 rfl rfl)
theorem dX3_set_86 : decode cX3_set 86 = .ok (.invokevirtual 357, 3) := dk_182 1 101 (dk_at dksX3_set_3 16 rfl rfl)
theorem dX3_set_89 : decode cX3_set 89 = .ok (.land, 1) := dk_127 (dk_at dksX3_set_3 19 rfl rfl)
theorem dX3_set_90 : decode cX3_set 90 = .ok (.lstore 5, 2) := dk_55 5 (dk_at dksX3_set_3 20 rfl rfl)
theorem dX3_set_92 : decode cX3_set 92 = .ok (.lload 7, 2) := dk_22 7 (dk_at dksX3_set_3 22 rfl rfl)
theorem dX3_set_94 : decode cX3_set 94 = .ok (.aload_n 0, 1) := dk_42 (dk_at dksX3_set_4 0 rfl rfl)
theorem dX3_set_95 : decode cX3_set 95 = .ok (.iload 9, 2) := dk_21 9 (dk_at dksX3_set_4 1 rfl rfl)
theorem dX3_set_97 : decode cX3_set 97 = .ok (.iload_n 2, 1) := dk_28 (dk_at dksX3_set_4 3 rfl rfl)
theorem dX3_set_98 : decode cX3_set 98 = .ok (.invokevirtual 357, 3) := dk_182 1 101 (dk_at dksX3_set_4 4 rfl rfl)
theorem dX3_set_101 : decode cX3_set 101 = .ok (.ldc2_w 351, 3) := dk_20 1 95 (dk_at dksX3_set_4 7 rfl rfl)
theorem dX3_set_104 : decode cX3_set 104 = .ok (.lxor, 1) := dk_131 (dk_at dksX3_set_4 10 rfl rfl)
theorem dX3_set_105 : decode cX3_set 105 = .ok (.land, 1) := dk_127 (dk_at dksX3_set_4 11 rfl rfl)
theorem dX3_set_106 : decode cX3_set 106 = .ok (.lconst 1, 1) := dk_10 (dk_at dksX3_set_4 12 rfl rfl)
theorem dX3_set_107 : decode cX3_set 107 = .ok (.iload 9, 2) := dk_21 9 (dk_at dksX3_set_4 13 rfl rfl)
theorem dX3_set_109 : decode cX3_set 109 = .ok (.lshl, 1) := dk_121 (dk_at dksX3_set_4 15 rfl rfl)
theorem dX3_set_110 : decode cX3_set 110 = .ok (.lcmp, 1) := dk_148 (dk_at dksX3_set_4 16 rfl rfl)
theorem dX3_set_111 : decode cX3_set 111 = .ok (.ifCond .eq 5, 3) := dk_153 0 5 (dk_at dksX3_set_4 17 rfl rfl)
theorem dX3_set_114 : decode cX3_set 114 = .ok (.iconst (-1), 1) := dk_2 (dk_at dksX3_set_4 20 rfl rfl)
theorem dX3_set_115 : decode cX3_set 115 = .ok (.ireturn, 1) := dk_172 (dk_at dksX3_set_4 21 rfl rfl)
theorem dX3_set_116 : decode cX3_set 116 = .ok (.iinc 9 1, 3) := dk_132 9 1 (dk_at dksX3_set_5 0 rfl rfl)
theorem dX3_set_119 : decode cX3_set 119 = .ok (.goto (-60), 3) := dk_167 255 196 (dk_at dksX3_set_5 3 rfl rfl)
theorem dX3_set_122 : decode cX3_set 122 = .ok (.aload_n 0, 1) := dk_42 (dk_at dksX3_set_5 6 rfl rfl)
theorem dX3_set_123 : decode cX3_set 123 = .ok (.lload 5, 2) := dk_22 5 (dk_at dksX3_set_5 7 rfl rfl)
theorem dX3_set_125 : decode cX3_set 125 = .ok (.iload_n 2, 1) := dk_28 (dk_at dksX3_set_5 9 rfl rfl)
theorem dX3_set_126 : decode cX3_set 126 = .ok (.invokevirtual 364, 3) := dk_182 1 108 (dk_at dksX3_set_5 10 rfl rfl)
theorem dX3_set_129 : decode cX3_set 129 = .ok (.aload_n 0, 1) := dk_42 (dk_at dksX3_set_5 13 rfl rfl)
theorem dX3_set_130 : decode cX3_set 130 = .ok (.getfield 361, 3) := dk_180 1 105 (dk_at dksX3_set_5 14 rfl rfl)
theorem dX3_set_133 : decode cX3_set 133 = .ok (.lload 7, 2) := dk_22 7 (dk_at dksX3_set_5 17 rfl rfl)
theorem dX3_set_135 : decode cX3_set 135 = .ok (.lor, 1) := dk_129 (dk_at dksX3_set_5 19 rfl rfl)
theorem dX3_set_136 : decode cX3_set 136 = .ok (.lstore 9, 2) := dk_55 9 (dk_at dksX3_set_5 20 rfl rfl)
theorem dX3_set_138 : decode cX3_set 138 = .ok (.iload 4, 2) := dk_21 4 (dk_at dksX3_set_5 22 rfl rfl)
theorem dX3_set_140 : decode cX3_set 140 = .ok (.iconst (-1), 1) := dk_2 (dk_at dksX3_set_6 0 rfl rfl)
theorem dX3_set_141 : decode cX3_set 141 = .ok (.if_icmp .ne 11, 3) := dk_160 0 11 (dk_at dksX3_set_6 1 rfl rfl)
theorem dX3_set_144 : decode cX3_set 144 = .ok (.lload 9, 2) := dk_22 9 (dk_at dksX3_set_6 4 rfl rfl)
theorem dX3_set_146 : decode cX3_set 146 = .ok (.invokestatic 253, 3) := dk_184 0 253 (dk_at dksX3_set_6 6 rfl rfl)
theorem dX3_set_149 : decode cX3_set 149 = .ok (.goto 10, 3) := dk_167 0 10 (dk_at dksX3_set_6 9 rfl rfl)
theorem dX3_set_152 : decode cX3_set 152 = .ok (.lload 9, 2) := dk_22 9 (dk_at dksX3_set_6 12 rfl rfl)
theorem dX3_set_154 : decode cX3_set 154 = .ok (.iload 4, 2) := dk_21 4 (dk_at dksX3_set_6 14 rfl rfl)
theorem dX3_set_156 : decode cX3_set 156 = .ok (.invokestatic 367, 3) := dk_184 1 111 (dk_at dksX3_set_6 16 rfl rfl)
theorem dX3_set_159 : decode cX3_set 159 = .ok (.ireturn, 1) := dk_172 (dk_at dksX3_set_6 19 rfl rfl)
def dkwX3_findSet_9 : List UInt8 := [180, 0, 77, 21, 6, 47, 127, 80, 132, 5, 1, 167, 255, 87, 177]
abbrev dktX3_findSet_9 : List UInt8 := dkwX3_findSet_9 ++ []
def dkwX3_findSet_8 : List UInt8 := [180, 0, 83, 21, 5, 21, 6, 79, 42, 180, 0, 80, 21, 5, 4, 96, 42, 180, 0, 80, 21, 5, 47, 42]
abbrev dktX3_findSet_8 : List UInt8 := dkwX3_findSet_8 ++ dktX3_findSet_9
def dkwX3_findSet_7 : List UInt8 := [167, 255, 238, 42, 180, 0, 80, 21, 5, 92, 47, 10, 21, 6, 121, 20, 1, 95, 131, 127, 80, 42]
abbrev dktX3_findSet_7 : List UInt8 := dkwX3_findSet_7 ++ dktX3_findSet_8
def dkwX3_findSet_6 : List UInt8 := [167, 255, 168, 3, 54, 6, 42, 180, 0, 80, 21, 5, 47, 21, 6, 184, 0, 115, 154, 0, 9, 132, 6, 1]
abbrev dktX3_findSet_6 : List UInt8 := dkwX3_findSet_6 ++ dktX3_findSet_7
def dkwX3_findSet_5 : List UInt8 := [153, 0, 21, 21, 5, 42, 180, 0, 80, 21, 5, 47, 184, 0, 253, 96, 21, 4, 163, 0, 9, 132, 5, 255]
abbrev dktX3_findSet_5 : List UInt8 := dkwX3_findSet_5 ++ dktX3_findSet_6
def dkwX3_findSet_4 : List UInt8 := [21, 6, 46, 121, 129, 181, 1, 105, 132, 6, 1, 167, 255, 228, 42, 180, 0, 80, 21, 5, 47, 9, 148]
abbrev dktX3_findSet_4 : List UInt8 := dkwX3_findSet_4 ++ dktX3_findSet_5
def dkwX3_findSet_3 : List UInt8 := [181, 1, 105, 3, 54, 6, 21, 6, 21, 5, 162, 0, 27, 42, 89, 180, 1, 105, 10, 42, 180, 0, 83]
abbrev dktX3_findSet_3 : List UInt8 := dkwX3_findSet_3 ++ dktX3_findSet_4
def dkwX3_findSet_2 : List UInt8 := [180, 0, 80, 3, 31, 80, 21, 5, 155, 0, 170, 21, 5, 21, 4, 164, 0, 46, 21, 5, 54, 4, 42, 9]
abbrev dktX3_findSet_2 : List UInt8 := dkwX3_findSet_2 ++ dktX3_findSet_3
def dkwX3_findSet_1 : List UInt8 := [182, 1, 101, 80, 132, 4, 1, 167, 255, 228, 42, 9, 181, 1, 105, 2, 54, 4, 3, 54, 5, 42]
abbrev dktX3_findSet_1 : List UInt8 := dkwX3_findSet_1 ++ dktX3_findSet_2
def dkwX3_findSet_0 : List UInt8 := [3, 54, 4, 21, 4, 4, 42, 180, 0, 234, 120, 162, 0, 23, 42, 180, 0, 77, 21, 4, 42, 21, 4, 29]
abbrev dktX3_findSet_0 : List UInt8 := dkwX3_findSet_0 ++ dktX3_findSet_1
theorem dksX3_findSet_0 : cX3_findSet.data.toList.drop 0 = dktX3_findSet_0 := by decide +kernel
theorem dksX3_findSet_1 : cX3_findSet.data.toList.drop 24 = dktX3_findSet_1 := dk_seg dksX3_findSet_0 24 rfl rfl
theorem dksX3_findSet_2 : cX3_findSet.data.toList.drop 46 = dktX3_findSet_2 := dk_seg dksX3_findSet_1 22 rfl rfl
theorem dksX3_findSet_3 : cX3_findSet.data.toList.drop 70 = dktX3_findSet_3 := dk_seg dksX3_findSet_2 24 rfl rfl
theorem dksX3_findSet_4 : cX3_findSet.data.toList.drop 93 = dktX3_findSet_4 := dk_seg dksX3_findSet_3 23 rfl rfl
theorem dksX3_findSet_5 : cX3_findSet.data.toList.drop 116 = dktX3_findSet_5 := dk_seg dksX3_findSet_4 23 rfl rfl
theorem dksX3_findSet_6 : cX3_findSet.data.toList.drop 140 = dktX3_findSet_6 := dk_seg dksX3_findSet_5 24 rfl rfl
theorem dksX3_findSet_7 : cX3_findSet.data.toList.drop 164 = dktX3_findSet_7 := dk_seg dksX3_findSet_6 24 rfl rfl
theorem dksX3_findSet_8 : cX3_findSet.data.toList.drop 186 = dktX3_findSet_8 := dk_seg dksX3_findSet_7 22 rfl rfl
theorem dksX3_findSet_9 : cX3_findSet.data.toList.drop 210 = dktX3_findSet_9 := dk_seg dksX3_findSet_8 24 rfl rfl
theorem dX3_findSet_0 : decode cX3_findSet 0 = .ok (.iconst 0, 1) := dk_3 (dk_at dksX3_findSet_0 0 rfl rfl)
theorem dX3_findSet_1 : decode cX3_findSet 1 = .ok (.istore 4, 2) := dk_54 4 (dk_at dksX3_findSet_0 1 rfl rfl)
theorem dX3_findSet_3 : decode cX3_findSet 3 = .ok (.iload 4, 2) := dk_21 4 (dk_at dksX3_findSet_0 3 rfl rfl)
theorem dX3_findSet_5 : decode cX3_findSet 5 = .ok (.iconst 1, 1) := dk_4 (dk_at dksX3_findSet_0 5 rfl rfl)
theorem dX3_findSet_6 : decode cX3_findSet 6 = .ok (.aload_n 0, 1) := dk_42 (dk_at dksX3_findSet_0 6 rfl rfl)
theorem dX3_findSet_7 : decode cX3_findSet 7 = .ok (.getfield 234, 3) := dk_180 0 234 (dk_at dksX3_findSet_0 7 rfl rfl)
theorem dX3_findSet_10 : decode cX3_findSet 10 = .ok (.ishl, 1) := dk_120 (dk_at dksX3_findSet_0 10 rfl rfl)
theorem dX3_findSet_11 : decode cX3_findSet 11 = .ok (.if_icmp .ge 23, 3) := dk_162 0 23 (dk_at dksX3_findSet_0 11 rfl rfl)
theorem dX3_findSet_14 : decode cX3_findSet 14 = .ok (.aload_n 0, 1) := dk_42 (dk_at dksX3_findSet_0 14 rfl rfl)
theorem dX3_findSet_15 : decode cX3_findSet 15 = .ok (.getfield 77, 3) := dk_180 0 77 (dk_at dksX3_findSet_0 15 rfl rfl)
theorem dX3_findSet_18 : decode cX3_findSet 18 = .ok (.iload 4, 2) := dk_21 4 (dk_at dksX3_findSet_0 18 rfl rfl)
theorem dX3_findSet_20 : decode cX3_findSet 20 = .ok (.aload_n 0, 1) := dk_42 (dk_at dksX3_findSet_0 20 rfl rfl)
theorem dX3_findSet_21 : decode cX3_findSet 21 = .ok (.iload 4, 2) := dk_21 4 (dk_at dksX3_findSet_0 21 rfl rfl)
theorem dX3_findSet_23 : decode cX3_findSet 23 = .ok (.iload_n 3, 1) := dk_29 (dk_at dksX3_findSet_0 23 rfl rfl)
theorem dX3_findSet_24 : decode cX3_findSet 24 = .ok (.invokevirtual 357, 3) := dk_182 1 101 (dk_at dksX3_findSet_1 0 rfl rfl)
theorem dX3_findSet_27 : decode cX3_findSet 27 = .ok (.lastore, 1) := dk_80 (dk_at dksX3_findSet_1 3 rfl rfl)
theorem dX3_findSet_28 : decode cX3_findSet 28 = .ok (.iinc 4 1, 3) := dk_132 4 1 (dk_at dksX3_findSet_1 4 rfl rfl)
theorem dX3_findSet_31 : decode cX3_findSet 31 = .ok (.goto (-28), 3) := dk_167 255 228 (dk_at dksX3_findSet_1 7 rfl rfl)
theorem dX3_findSet_34 : decode cX3_findSet 34 = .ok (.aload_n 0, 1) := dk_42 (dk_at dksX3_findSet_1 10 rfl rfl)
theorem dX3_findSet_35 : decode cX3_findSet 35 = .ok (.lconst 0, 1) := dk_9 (dk_at dksX3_findSet_1 11 rfl rfl)
theorem dX3_findSet_36 : decode cX3_findSet 36 = .ok (.putfield 361, 3) := dk_181 1 105 (dk_at dksX3_findSet_1 12 rfl rfl)
theorem dX3_findSet_39 : decode cX3_findSet 39 = .ok (.iconst (-1), 1) := dk_2 (dk_at dksX3_findSet_1 15 rfl rfl)
theorem dX3_findSet_40 : decode cX3_findSet 40 = .ok (.istore 4, 2) := dk_54 4 (dk_at dksX3_findSet_1 16 rfl rfl)
theorem dX3_findSet_42 : decode cX3_findSet 42 = .ok (.iconst 0, 1) := dk_3 (dk_at dksX3_findSet_1 18 rfl rfl)
theorem dX3_findSet_43 : decode cX3_findSet 43 = .ok (.istore 5, 2) := dk_54 5 (dk_at dksX3_findSet_1 19 rfl rfl)
theorem dX3_findSet_45 : decode cX3_findSet 45 = .ok (.aload_n 0, 1) := dk_42 (dk_at dksX3_findSet_1 21 rfl rfl)
theorem dX3_findSet_46 : decode cX3_findSet 46 = .ok (.getfield 80, 3) := dk_180 0 80 (dk_at dksX3_findSet_2 0 rfl rfl)
theorem dX3_findSet_49 : decode cX3_findSet 49 = .ok (.iconst 0, 1) := dk_3 (dk_at dksX3_findSet_2 3 rfl rfl)
theorem dX3_findSet_50 : decode cX3_findSet 50 = .ok (.lload_n 1, 1) := dk_31 (dk_at dksX3_findSet_2 4 rfl rfl)
theorem dX3_findSet_51 : decode cX3_findSet 51 = .ok (.lastore, 1) := dk_80 (dk_at dksX3_findSet_2 5 rfl rfl)
theorem dX3_findSet_52 : decode cX3_findSet 52 = .ok (.iload 5, 2) := dk_21 5 (dk_at dksX3_findSet_2 6 rfl rfl)
theorem dX3_findSet_54 : decode cX3_findSet 54 = .ok (.ifCond .lt 170, 3) := dk_155 0 170 (dk_at dksX3_findSet_2 8 rfl rfl)
theorem dX3_findSet_57 : decode cX3_findSet 57 = .ok (.iload 5, 2) := dk_21 5 (dk_at dksX3_findSet_2 11 rfl rfl)
theorem dX3_findSet_59 : decode cX3_findSet 59 = .ok (.iload 4, 2) := dk_21 4 (dk_at dksX3_findSet_2 13 rfl rfl)
theorem dX3_findSet_61 : decode cX3_findSet 61 = .ok (.if_icmp .le 46, 3) := dk_164 0 46 (dk_at dksX3_findSet_2 15 rfl rfl)
theorem dX3_findSet_64 : decode cX3_findSet 64 = .ok (.iload 5, 2) := dk_21 5 (dk_at dksX3_findSet_2 18 rfl rfl)
theorem dX3_findSet_66 : decode cX3_findSet 66 = .ok (.istore 4, 2) := dk_54 4 (dk_at dksX3_findSet_2 20 rfl rfl)
theorem dX3_findSet_68 : decode cX3_findSet 68 = .ok (.aload_n 0, 1) := dk_42 (dk_at dksX3_findSet_2 22 rfl rfl)
theorem dX3_findSet_69 : decode cX3_findSet 69 = .ok (.lconst 0, 1) := dk_9 (dk_at dksX3_findSet_2 23 rfl rfl)
theorem dX3_findSet_70 : decode cX3_findSet 70 = .ok (.putfield 361, 3) := dk_181 1 105 (dk_at dksX3_findSet_3 0 rfl rfl)
theorem dX3_findSet_73 : decode cX3_findSet 73 = .ok (.iconst 0, 1) := dk_3 (dk_at dksX3_findSet_3 3 rfl rfl)
theorem dX3_findSet_74 : decode cX3_findSet 74 = .ok (.istore 6, 2) := dk_54 6 (dk_at dksX3_findSet_3 4 rfl rfl)
theorem dX3_findSet_76 : decode cX3_findSet 76 = .ok (.iload 6, 2) := dk_21 6 (dk_at dksX3_findSet_3 6 rfl rfl)
theorem dX3_findSet_78 : decode cX3_findSet 78 = .ok (.iload 5, 2) := dk_21 5 (dk_at dksX3_findSet_3 8 rfl rfl)
theorem dX3_findSet_80 : decode cX3_findSet 80 = .ok (.if_icmp .ge 27, 3) := dk_162 0 27 (dk_at dksX3_findSet_3 10 rfl rfl)
theorem dX3_findSet_83 : decode cX3_findSet 83 = .ok (.aload_n 0, 1) := dk_42 (dk_at dksX3_findSet_3 13 rfl rfl)
theorem dX3_findSet_84 : decode cX3_findSet 84 = .ok (.dup, 1) := dk_89 (dk_at dksX3_findSet_3 14 rfl rfl)
theorem dX3_findSet_85 : decode cX3_findSet 85 = .ok (.getfield 361, 3) := dk_180 1 105 (dk_at dksX3_findSet_3 15 rfl rfl)
theorem dX3_findSet_88 : decode cX3_findSet 88 = .ok (.lconst 1, 1) := dk_10 (dk_at dksX3_findSet_3 18 rfl rfl)
theorem dX3_findSet_89 : decode cX3_findSet 89 = .ok (.aload_n 0, 1) := dk_42 (dk_at dksX3_findSet_3 19 rfl rfl)
theorem dX3_findSet_90 : decode cX3_findSet 90 = .ok (.getfield 83, 3) := dk_180 0 83 (dk_at dksX3_findSet_3 20 rfl rfl)
theorem dX3_findSet_93 : decode cX3_findSet 93 = .ok (.iload 6, 2) := dk_21 6 (dk_at dksX3_findSet_4 0 rfl rfl)
theorem dX3_findSet_95 : decode cX3_findSet 95 = .ok (.iaload, 1) := dk_46 (dk_at dksX3_findSet_4 2 rfl rfl)
theorem dX3_findSet_96 : decode cX3_findSet 96 = .ok (.lshl, 1) := dk_121 (dk_at dksX3_findSet_4 3 rfl rfl)
theorem dX3_findSet_97 : decode cX3_findSet 97 = .ok (.lor, 1) := dk_129 (dk_at dksX3_findSet_4 4 rfl rfl)
theorem dX3_findSet_98 : decode cX3_findSet 98 = .ok (.putfield 361, 3) := dk_181 1 105 (dk_at dksX3_findSet_4 5 rfl rfl)
theorem dX3_findSet_101 : decode cX3_findSet 101 = .ok (.iinc 6 1, 3) := dk_132 6 1 (dk_at dksX3_findSet_4 8 rfl rfl)
theorem dX3_findSet_104 : decode cX3_findSet 104 = .ok (.goto (-28), 3) := dk_167 255 228 (dk_at dksX3_findSet_4 11 rfl rfl)
theorem dX3_findSet_107 : decode cX3_findSet 107 = .ok (.aload_n 0, 1) := dk_42 (dk_at dksX3_findSet_4 14 rfl rfl)
theorem dX3_findSet_108 : decode cX3_findSet 108 = .ok (.getfield 80, 3) := dk_180 0 80 (dk_at dksX3_findSet_4 15 rfl rfl)
theorem dX3_findSet_111 : decode cX3_findSet 111 = .ok (.iload 5, 2) := dk_21 5 (dk_at dksX3_findSet_4 18 rfl rfl)
theorem dX3_findSet_113 : decode cX3_findSet 113 = .ok (.laload, 1) := dk_47 (dk_at dksX3_findSet_4 20 rfl rfl)
theorem dX3_findSet_114 : decode cX3_findSet 114 = .ok (.lconst 0, 1) := dk_9 (dk_at dksX3_findSet_4 21 rfl rfl)
theorem dX3_findSet_115 : decode cX3_findSet 115 = .ok (.lcmp, 1) := dk_148 (dk_at dksX3_findSet_4 22 rfl rfl)
theorem dX3_findSet_116 : decode cX3_findSet 116 = .ok (.ifCond .eq 21, 3) := dk_153 0 21 (dk_at dksX3_findSet_5 0 rfl rfl)
theorem dX3_findSet_119 : decode cX3_findSet 119 = .ok (.iload 5, 2) := dk_21 5 (dk_at dksX3_findSet_5 3 rfl rfl)
theorem dX3_findSet_121 : decode cX3_findSet 121 = .ok (.aload_n 0, 1) := dk_42 (dk_at dksX3_findSet_5 5 rfl rfl)
theorem dX3_findSet_122 : decode cX3_findSet 122 = .ok (.getfield 80, 3) := dk_180 0 80 (dk_at dksX3_findSet_5 6 rfl rfl)
theorem dX3_findSet_125 : decode cX3_findSet 125 = .ok (.iload 5, 2) := dk_21 5 (dk_at dksX3_findSet_5 9 rfl rfl)
theorem dX3_findSet_127 : decode cX3_findSet 127 = .ok (.laload, 1) := dk_47 (dk_at dksX3_findSet_5 11 rfl rfl)
theorem dX3_findSet_128 : decode cX3_findSet 128 = .ok (.invokestatic 253, 3) := dk_184 0 253 (dk_at dksX3_findSet_5 12 rfl rfl)
theorem dX3_findSet_131 : decode cX3_findSet 131 = .ok (.iadd, 1) := dk_96 (dk_at dksX3_findSet_5 15 rfl rfl)
theorem dX3_findSet_132 : decode cX3_findSet 132 = .ok (.iload 4, 2) := dk_21 4 (dk_at dksX3_findSet_5 16 rfl rfl)
theorem dX3_findSet_134 : decode cX3_findSet 134 = .ok (.if_icmp .gt 9, 3) := dk_163 0 9 (dk_at dksX3_findSet_5 18 rfl rfl)
theorem dX3_findSet_137 : decode cX3_findSet 137 = .ok (.iinc 5 (-1), 3) := dk_132 5 255 (dk_at dksX3_findSet_5 21 rfl rfl)
theorem dX3_findSet_140 : decode cX3_findSet 140 = .ok (.goto (-88), 3) := dk_167 255 168 (dk_at dksX3_findSet_6 0 rfl rfl)
theorem dX3_findSet_143 : decode cX3_findSet 143 = .ok (.iconst 0, 1) := dk_3 (dk_at dksX3_findSet_6 3 rfl rfl)
theorem dX3_findSet_144 : decode cX3_findSet 144 = .ok (.istore 6, 2) := dk_54 6 (dk_at dksX3_findSet_6 4 rfl rfl)
theorem dX3_findSet_146 : decode cX3_findSet 146 = .ok (.aload_n 0, 1) := dk_42 (dk_at dksX3_findSet_6 6 rfl rfl)
theorem dX3_findSet_147 : decode cX3_findSet 147 = .ok (.getfield 80, 3) := dk_180 0 80 (dk_at dksX3_findSet_6 7 rfl rfl)
theorem dX3_findSet_150 : decode cX3_findSet 150 = .ok (.iload 5, 2) := dk_21 5 (dk_at dksX3_findSet_6 10 rfl rfl)
theorem dX3_findSet_152 : decode cX3_findSet 152 = .ok (.laload, 1) := dk_47 (dk_at dksX3_findSet_6 12 rfl rfl)
theorem dX3_findSet_153 : decode cX3_findSet 153 = .ok (.iload 6, 2) := dk_21 6 (dk_at dksX3_findSet_6 13 rfl rfl)
theorem dX3_findSet_155 : decode cX3_findSet 155 = .ok (.invokestatic 115, 3) := dk_184 0 115 (dk_at dksX3_findSet_6 15 rfl rfl)
theorem dX3_findSet_158 : decode cX3_findSet 158 = .ok (.ifCond .ne 9, 3) := dk_154 0 9 (dk_at dksX3_findSet_6 18 rfl rfl)
theorem dX3_findSet_161 : decode cX3_findSet 161 = .ok (.iinc 6 1, 3) := dk_132 6 1 (dk_at dksX3_findSet_6 21 rfl rfl)
theorem dX3_findSet_164 : decode cX3_findSet 164 = .ok (.goto (-18), 3) := dk_167 255 238 (dk_at dksX3_findSet_7 0 rfl rfl)
theorem dX3_findSet_167 : decode cX3_findSet 167 = .ok (.aload_n 0, 1) := dk_42 (dk_at dksX3_findSet_7 3 rfl rfl)
theorem dX3_findSet_168 : decode cX3_findSet 168 = .ok (.getfield 80, 3) := dk_180 0 80 (dk_at dksX3_findSet_7 4 rfl rfl)
theorem dX3_findSet_171 : decode cX3_findSet 171 = .ok (.iload 5, 2) := dk_21 5 (dk_at dksX3_findSet_7 7 rfl rfl)
theorem dX3_findSet_173 : decode cX3_findSet 173 = .ok (.dup2, 1) := dk_92 (dk_at dksX3_findSet_7 9 rfl rfl)
theorem dX3_findSet_174 : decode cX3_findSet 174 = .ok (.laload, 1) := dk_47 (dk_at dksX3_findSet_7 10 rfl rfl)
theorem dX3_findSet_175 : decode cX3_findSet 175 = .ok (.lconst 1, 1) := dk_10 (dk_at dksX3_findSet_7 11 rfl rfl)
theorem dX3_findSet_176 : decode cX3_findSet 176 = .ok (.iload 6, 2) := dk_21 6 (dk_at dksX3_findSet_7 12 rfl rfl)
theorem dX3_findSet_178 : decode cX3_findSet 178 = .ok (.lshl, 1) := dk_121 (dk_at dksX3_findSet_7 14 rfl rfl)
theorem dX3_findSet_179 : decode cX3_findSet 179 = .ok (.ldc2_w 351, 3) := dk_20 1 95 (dk_at dksX3_findSet_7 15 rfl rfl)
theorem dX3_findSet_182 : decode cX3_findSet 182 = .ok (.lxor, 1) := dk_131 (dk_at dksX3_findSet_7 18 rfl rfl)
theorem dX3_findSet_183 : decode cX3_findSet 183 = .ok (.land, 1) := dk_127 (dk_at dksX3_findSet_7 19 rfl rfl)
theorem dX3_findSet_184 : decode cX3_findSet 184 = .ok (.lastore, 1) := dk_80 (dk_at dksX3_findSet_7 20 rfl rfl)
theorem dX3_findSet_185 : decode cX3_findSet 185 = .ok (.aload_n 0, 1) := dk_42 (dk_at dksX3_findSet_7 21 rfl rfl)
theorem dX3_findSet_186 : decode cX3_findSet 186 = .ok (.getfield 83, 3) := dk_180 0 83 (dk_at dksX3_findSet_8 0 rfl rfl)
theorem dX3_findSet_189 : decode cX3_findSet 189 = .ok (.iload 5, 2) := dk_21 5 (dk_at dksX3_findSet_8 3 rfl rfl)
theorem dX3_findSet_191 : decode cX3_findSet 191 = .ok (.iload 6, 2) := dk_21 6 (dk_at dksX3_findSet_8 5 rfl rfl)
theorem dX3_findSet_193 : decode cX3_findSet 193 = .ok (.iastore, 1) := dk_79 (dk_at dksX3_findSet_8 7 rfl rfl)
theorem dX3_findSet_194 : decode cX3_findSet 194 = .ok (.aload_n 0, 1) := dk_42 (dk_at dksX3_findSet_8 8 rfl rfl)
theorem dX3_findSet_195 : decode cX3_findSet 195 = .ok (.getfield 80, 3) := dk_180 0 80 (dk_at dksX3_findSet_8 9 rfl rfl)
theorem dX3_findSet_198 : decode cX3_findSet 198 = .ok (.iload 5, 2) := dk_21 5 (dk_at dksX3_findSet_8 12 rfl rfl)
theorem dX3_findSet_200 : decode cX3_findSet 200 = .ok (.iconst 1, 1) := dk_4 (dk_at dksX3_findSet_8 14 rfl rfl)
theorem dX3_findSet_201 : decode cX3_findSet 201 = .ok (.iadd, 1) := dk_96 (dk_at dksX3_findSet_8 15 rfl rfl)
theorem dX3_findSet_202 : decode cX3_findSet 202 = .ok (.aload_n 0, 1) := dk_42 (dk_at dksX3_findSet_8 16 rfl rfl)
theorem dX3_findSet_203 : decode cX3_findSet 203 = .ok (.getfield 80, 3) := dk_180 0 80 (dk_at dksX3_findSet_8 17 rfl rfl)
theorem dX3_findSet_206 : decode cX3_findSet 206 = .ok (.iload 5, 2) := dk_21 5 (dk_at dksX3_findSet_8 20 rfl rfl)
theorem dX3_findSet_208 : decode cX3_findSet 208 = .ok (.laload, 1) := dk_47 (dk_at dksX3_findSet_8 22 rfl rfl)
theorem dX3_findSet_209 : decode cX3_findSet 209 = .ok (.aload_n 0, 1) := dk_42 (dk_at dksX3_findSet_8 23 rfl rfl)
theorem dX3_findSet_210 : decode cX3_findSet 210 = .ok (.getfield 77, 3) := dk_180 0 77 (dk_at dksX3_findSet_9 0 rfl rfl)
theorem dX3_findSet_213 : decode cX3_findSet 213 = .ok (.iload 6, 2) := dk_21 6 (dk_at dksX3_findSet_9 3 rfl rfl)
theorem dX3_findSet_215 : decode cX3_findSet 215 = .ok (.laload, 1) := dk_47 (dk_at dksX3_findSet_9 5 rfl rfl)
theorem dX3_findSet_216 : decode cX3_findSet 216 = .ok (.land, 1) := dk_127 (dk_at dksX3_findSet_9 6 rfl rfl)
theorem dX3_findSet_217 : decode cX3_findSet 217 = .ok (.lastore, 1) := dk_80 (dk_at dksX3_findSet_9 7 rfl rfl)
theorem dX3_findSet_218 : decode cX3_findSet 218 = .ok (.iinc 5 1, 3) := dk_132 5 1 (dk_at dksX3_findSet_9 8 rfl rfl)
theorem dX3_findSet_221 : decode cX3_findSet 221 = .ok (.goto (-169), 3) := dk_167 255 87 (dk_at dksX3_findSet_9 11 rfl rfl)
theorem dX3_findSet_224 : decode cX3_findSet 224 = .ok (.return_, 1) := dk_177 (dk_at dksX3_findSet_9 14 rfl rfl)
def dkwX3_nthOf_1 : List UInt8 := [154, 0, 6, 21, 4, 172, 132, 3, 255, 132, 4, 1, 167, 255, 227, 2, 172]
abbrev dktX3_nthOf_1 : List UInt8 := dkwX3_nthOf_1 ++ []
def dkwX3_nthOf_0 : List UInt8 := [28, 62, 3, 54, 4, 21, 4, 16, 32, 162, 0, 28, 30, 21, 4, 184, 0, 115, 153, 0, 13, 29]
abbrev dktX3_nthOf_0 : List UInt8 := dkwX3_nthOf_0 ++ dktX3_nthOf_1
theorem dksX3_nthOf_0 : cX3_nthOf.data.toList.drop 0 = dktX3_nthOf_0 := by decide +kernel
theorem dksX3_nthOf_1 : cX3_nthOf.data.toList.drop 22 = dktX3_nthOf_1 := dk_seg dksX3_nthOf_0 22 rfl rfl
theorem dX3_nthOf_0 : decode cX3_nthOf 0 = .ok (.iload_n 2, 1) := dk_28 (dk_at dksX3_nthOf_0 0 rfl rfl)
theorem dX3_nthOf_1 : decode cX3_nthOf 1 = .ok (.istore_n 3, 1) := dk_62 (dk_at dksX3_nthOf_0 1 rfl rfl)
theorem dX3_nthOf_2 : decode cX3_nthOf 2 = .ok (.iconst 0, 1) := dk_3 (dk_at dksX3_nthOf_0 2 rfl rfl)
theorem dX3_nthOf_3 : decode cX3_nthOf 3 = .ok (.istore 4, 2) := dk_54 4 (dk_at dksX3_nthOf_0 3 rfl rfl)
theorem dX3_nthOf_5 : decode cX3_nthOf 5 = .ok (.iload 4, 2) := dk_21 4 (dk_at dksX3_nthOf_0 5 rfl rfl)
theorem dX3_nthOf_7 : decode cX3_nthOf 7 = .ok (.bipush 32, 2) := dk_16 32 (dk_at dksX3_nthOf_0 7 rfl rfl)
theorem dX3_nthOf_9 : decode cX3_nthOf 9 = .ok (.if_icmp .ge 28, 3) := dk_162 0 28 (dk_at dksX3_nthOf_0 9 rfl rfl)
theorem dX3_nthOf_12 : decode cX3_nthOf 12 = .ok (.lload_n 0, 1) := dk_30 (dk_at dksX3_nthOf_0 12 rfl rfl)
theorem dX3_nthOf_13 : decode cX3_nthOf 13 = .ok (.iload 4, 2) := dk_21 4 (dk_at dksX3_nthOf_0 13 rfl rfl)
theorem dX3_nthOf_15 : decode cX3_nthOf 15 = .ok (.invokestatic 115, 3) := dk_184 0 115 (dk_at dksX3_nthOf_0 15 rfl rfl)
theorem dX3_nthOf_18 : decode cX3_nthOf 18 = .ok (.ifCond .eq 13, 3) := dk_153 0 13 (dk_at dksX3_nthOf_0 18 rfl rfl)
theorem dX3_nthOf_21 : decode cX3_nthOf 21 = .ok (.iload_n 3, 1) := dk_29 (dk_at dksX3_nthOf_0 21 rfl rfl)
theorem dX3_nthOf_22 : decode cX3_nthOf 22 = .ok (.ifCond .ne 6, 3) := dk_154 0 6 (dk_at dksX3_nthOf_1 0 rfl rfl)
theorem dX3_nthOf_25 : decode cX3_nthOf 25 = .ok (.iload 4, 2) := dk_21 4 (dk_at dksX3_nthOf_1 3 rfl rfl)
theorem dX3_nthOf_27 : decode cX3_nthOf 27 = .ok (.ireturn, 1) := dk_172 (dk_at dksX3_nthOf_1 5 rfl rfl)
theorem dX3_nthOf_28 : decode cX3_nthOf 28 = .ok (.iinc 3 (-1), 3) := dk_132 3 255 (dk_at dksX3_nthOf_1 6 rfl rfl)
theorem dX3_nthOf_31 : decode cX3_nthOf 31 = .ok (.iinc 4 1, 3) := dk_132 4 1 (dk_at dksX3_nthOf_1 9 rfl rfl)
theorem dX3_nthOf_34 : decode cX3_nthOf 34 = .ok (.goto (-29), 3) := dk_167 255 227 (dk_at dksX3_nthOf_1 12 rfl rfl)
theorem dX3_nthOf_37 : decode cX3_nthOf 37 = .ok (.iconst (-1), 1) := dk_2 (dk_at dksX3_nthOf_1 15 rfl rfl)
theorem dX3_nthOf_38 : decode cX3_nthOf 38 = .ok (.ireturn, 1) := dk_172 (dk_at dksX3_nthOf_1 16 rfl rfl)
def dkwX3_walk_3 : List UInt8 := [160, 0, 8, 21, 5, 4, 96, 172, 132, 5, 1, 167, 255, 211, 2, 172]
abbrev dktX3_walk_3 : List UInt8 := dkwX3_walk_3 ++ []
def dkwX3_walk_2 : List UInt8 := [42, 180, 0, 47, 16, 12, 28, 104, 29, 21, 5, 96, 42, 180, 0, 41, 28, 46, 112, 96, 46, 21, 4]
abbrev dktX3_walk_2 : List UInt8 := dkwX3_walk_2 ++ dktX3_walk_3
def dkwX3_walk_1 : List UInt8 := [21, 4, 182, 1, 92, 154, 0, 5, 2, 172, 3, 54, 5, 21, 5, 42, 180, 0, 41, 28, 46, 162, 0, 40]
abbrev dktX3_walk_1 : List UInt8 := dkwX3_walk_1 ++ dktX3_walk_2
def dkwX3_walk_0 : List UInt8 := [42, 3, 181, 0, 111, 42, 27, 182, 1, 14, 153, 0, 21, 42, 28, 29, 182, 1, 89, 153, 0, 12, 42]
abbrev dktX3_walk_0 : List UInt8 := dkwX3_walk_0 ++ dktX3_walk_1
theorem dksX3_walk_0 : cX3_walk.data.toList.drop 0 = dktX3_walk_0 := by decide +kernel
theorem dksX3_walk_1 : cX3_walk.data.toList.drop 23 = dktX3_walk_1 := dk_seg dksX3_walk_0 23 rfl rfl
theorem dksX3_walk_2 : cX3_walk.data.toList.drop 47 = dktX3_walk_2 := dk_seg dksX3_walk_1 24 rfl rfl
theorem dksX3_walk_3 : cX3_walk.data.toList.drop 70 = dktX3_walk_3 := dk_seg dksX3_walk_2 23 rfl rfl
theorem dX3_walk_0 : decode cX3_walk 0 = .ok (.aload_n 0, 1) := dk_42 (dk_at dksX3_walk_0 0 rfl rfl)
theorem dX3_walk_1 : decode cX3_walk 1 = .ok (.iconst 0, 1) := dk_3 (dk_at dksX3_walk_0 1 rfl rfl)
theorem dX3_walk_2 : decode cX3_walk 2 = .ok (.putfield 111, 3) := dk_181 0 111 (dk_at dksX3_walk_0 2 rfl rfl)
theorem dX3_walk_5 : decode cX3_walk 5 = .ok (.aload_n 0, 1) := dk_42 (dk_at dksX3_walk_0 5 rfl rfl)
theorem dX3_walk_6 : decode cX3_walk 6 = .ok (.iload_n 1, 1) := dk_27 (dk_at dksX3_walk_0 6 rfl rfl)
theorem dX3_walk_7 : decode cX3_walk 7 = .ok (.invokevirtual 270, 3) := dk_182 1 14 (dk_at dksX3_walk_0 7 rfl rfl)
theorem dX3_walk_10 : decode cX3_walk 10 = .ok (.ifCond .eq 21, 3) := dk_153 0 21 (dk_at dksX3_walk_0 10 rfl rfl)
theorem dX3_walk_13 : decode cX3_walk 13 = .ok (.aload_n 0, 1) := dk_42 (dk_at dksX3_walk_0 13 rfl rfl)
theorem dX3_walk_14 : decode cX3_walk 14 = .ok (.iload_n 2, 1) := dk_28 (dk_at dksX3_walk_0 14 rfl rfl)
theorem dX3_walk_15 : decode cX3_walk 15 = .ok (.iload_n 3, 1) := dk_29 (dk_at dksX3_walk_0 15 rfl rfl)
theorem dX3_walk_16 : decode cX3_walk 16 = .ok (.invokevirtual 345, 3) := dk_182 1 89 (dk_at dksX3_walk_0 16 rfl rfl)
theorem dX3_walk_19 : decode cX3_walk 19 = .ok (.ifCond .eq 12, 3) := dk_153 0 12 (dk_at dksX3_walk_0 19 rfl rfl)
theorem dX3_walk_22 : decode cX3_walk 22 = .ok (.aload_n 0, 1) := dk_42 (dk_at dksX3_walk_0 22 rfl rfl)
theorem dX3_walk_23 : decode cX3_walk 23 = .ok (.iload 4, 2) := dk_21 4 (dk_at dksX3_walk_1 0 rfl rfl)
theorem dX3_walk_25 : decode cX3_walk 25 = .ok (.invokevirtual 348, 3) := dk_182 1 92 (dk_at dksX3_walk_1 2 rfl rfl)
theorem dX3_walk_28 : decode cX3_walk 28 = .ok (.ifCond .ne 5, 3) := dk_154 0 5 (dk_at dksX3_walk_1 5 rfl rfl)
theorem dX3_walk_31 : decode cX3_walk 31 = .ok (.iconst (-1), 1) := dk_2 (dk_at dksX3_walk_1 8 rfl rfl)
theorem dX3_walk_32 : decode cX3_walk 32 = .ok (.ireturn, 1) := dk_172 (dk_at dksX3_walk_1 9 rfl rfl)
theorem dX3_walk_33 : decode cX3_walk 33 = .ok (.iconst 0, 1) := dk_3 (dk_at dksX3_walk_1 10 rfl rfl)
theorem dX3_walk_34 : decode cX3_walk 34 = .ok (.istore 5, 2) := dk_54 5 (dk_at dksX3_walk_1 11 rfl rfl)
theorem dX3_walk_36 : decode cX3_walk 36 = .ok (.iload 5, 2) := dk_21 5 (dk_at dksX3_walk_1 13 rfl rfl)
theorem dX3_walk_38 : decode cX3_walk 38 = .ok (.aload_n 0, 1) := dk_42 (dk_at dksX3_walk_1 15 rfl rfl)
theorem dX3_walk_39 : decode cX3_walk 39 = .ok (.getfield 41, 3) := dk_180 0 41 (dk_at dksX3_walk_1 16 rfl rfl)
theorem dX3_walk_42 : decode cX3_walk 42 = .ok (.iload_n 2, 1) := dk_28 (dk_at dksX3_walk_1 19 rfl rfl)
theorem dX3_walk_43 : decode cX3_walk 43 = .ok (.iaload, 1) := dk_46 (dk_at dksX3_walk_1 20 rfl rfl)
theorem dX3_walk_44 : decode cX3_walk 44 = .ok (.if_icmp .ge 40, 3) := dk_162 0 40 (dk_at dksX3_walk_1 21 rfl rfl)
theorem dX3_walk_47 : decode cX3_walk 47 = .ok (.aload_n 0, 1) := dk_42 (dk_at dksX3_walk_2 0 rfl rfl)
theorem dX3_walk_48 : decode cX3_walk 48 = .ok (.getfield 47, 3) := dk_180 0 47 (dk_at dksX3_walk_2 1 rfl rfl)
theorem dX3_walk_51 : decode cX3_walk 51 = .ok (.bipush 12, 2) := dk_16 12 (dk_at dksX3_walk_2 4 rfl rfl)
theorem dX3_walk_53 : decode cX3_walk 53 = .ok (.iload_n 2, 1) := dk_28 (dk_at dksX3_walk_2 6 rfl rfl)
theorem dX3_walk_54 : decode cX3_walk 54 = .ok (.imul, 1) := dk_104 (dk_at dksX3_walk_2 7 rfl rfl)
theorem dX3_walk_55 : decode cX3_walk 55 = .ok (.iload_n 3, 1) := dk_29 (dk_at dksX3_walk_2 8 rfl rfl)
theorem dX3_walk_56 : decode cX3_walk 56 = .ok (.iload 5, 2) := dk_21 5 (dk_at dksX3_walk_2 9 rfl rfl)
theorem dX3_walk_58 : decode cX3_walk 58 = .ok (.iadd, 1) := dk_96 (dk_at dksX3_walk_2 11 rfl rfl)
theorem dX3_walk_59 : decode cX3_walk 59 = .ok (.aload_n 0, 1) := dk_42 (dk_at dksX3_walk_2 12 rfl rfl)
theorem dX3_walk_60 : decode cX3_walk 60 = .ok (.getfield 41, 3) := dk_180 0 41 (dk_at dksX3_walk_2 13 rfl rfl)
theorem dX3_walk_63 : decode cX3_walk 63 = .ok (.iload_n 2, 1) := dk_28 (dk_at dksX3_walk_2 16 rfl rfl)
theorem dX3_walk_64 : decode cX3_walk 64 = .ok (.iaload, 1) := dk_46 (dk_at dksX3_walk_2 17 rfl rfl)
theorem dX3_walk_65 : decode cX3_walk 65 = .ok (.irem, 1) := dk_112 (dk_at dksX3_walk_2 18 rfl rfl)
theorem dX3_walk_66 : decode cX3_walk 66 = .ok (.iadd, 1) := dk_96 (dk_at dksX3_walk_2 19 rfl rfl)
theorem dX3_walk_67 : decode cX3_walk 67 = .ok (.iaload, 1) := dk_46 (dk_at dksX3_walk_2 20 rfl rfl)
theorem dX3_walk_68 : decode cX3_walk 68 = .ok (.iload 4, 2) := dk_21 4 (dk_at dksX3_walk_2 21 rfl rfl)
theorem dX3_walk_70 : decode cX3_walk 70 = .ok (.if_icmp .ne 8, 3) := dk_160 0 8 (dk_at dksX3_walk_3 0 rfl rfl)
theorem dX3_walk_73 : decode cX3_walk 73 = .ok (.iload 5, 2) := dk_21 5 (dk_at dksX3_walk_3 3 rfl rfl)
theorem dX3_walk_75 : decode cX3_walk 75 = .ok (.iconst 1, 1) := dk_4 (dk_at dksX3_walk_3 5 rfl rfl)
theorem dX3_walk_76 : decode cX3_walk 76 = .ok (.iadd, 1) := dk_96 (dk_at dksX3_walk_3 6 rfl rfl)
theorem dX3_walk_77 : decode cX3_walk 77 = .ok (.ireturn, 1) := dk_172 (dk_at dksX3_walk_3 7 rfl rfl)
theorem dX3_walk_78 : decode cX3_walk 78 = .ok (.iinc 5 1, 3) := dk_132 5 1 (dk_at dksX3_walk_3 8 rfl rfl)
theorem dX3_walk_81 : decode cX3_walk 81 = .ok (.goto (-45), 3) := dk_167 255 211 (dk_at dksX3_walk_3 11 rfl rfl)
theorem dX3_walk_84 : decode cX3_walk 84 = .ok (.iconst (-1), 1) := dk_2 (dk_at dksX3_walk_3 14 rfl rfl)
theorem dX3_walk_85 : decode cX3_walk 85 = .ok (.ireturn, 1) := dk_172 (dk_at dksX3_walk_3 15 rfl rfl)
def dkwX3_halving_8 : List UInt8 := [21, 4, 153, 0, 7, 2, 167, 0, 5, 21, 5, 172]
abbrev dktX3_halving_8 : List UInt8 := dkwX3_halving_8 ++ []
def dkwX3_halving_7 : List UInt8 := [159, 0, 9, 21, 10, 29, 164, 0, 10, 21, 8, 4, 100, 167, 0, 5, 21, 7, 54, 7, 167, 255, 122]
abbrev dktX3_halving_7 : List UInt8 := dkwX3_halving_7 ++ dktX3_halving_8
def dkwX3_halving_6 : List UInt8 := [159, 0, 16, 21, 10, 29, 162, 0, 10, 21, 9, 4, 96, 167, 0, 5, 21, 6, 54, 6, 21, 10, 2]
abbrev dktX3_halving_6 : List UInt8 := dkwX3_halving_6 ++ dktX3_halving_7
def dkwX3_halving_5 : List UInt8 := [54, 10, 21, 10, 29, 160, 0, 16, 21, 4, 153, 0, 8, 21, 9, 167, 0, 5, 21, 5, 172, 21, 10, 2]
abbrev dktX3_halving_5 : List UInt8 := dkwX3_halving_5 ++ dktX3_halving_6
def dkwX3_halving_4 : List UInt8 := [160, 0, 12, 132, 9, 1, 132, 5, 1, 167, 255, 227, 42, 180, 0, 47, 16, 12, 28, 104, 21, 9, 96, 46]
abbrev dktX3_halving_4 : List UInt8 := dkwX3_halving_4 ++ dktX3_halving_5
def dkwX3_halving_3 : List UInt8 := [132, 5, 1, 21, 9, 21, 7, 162, 0, 28, 42, 180, 0, 47, 16, 12, 28, 104, 21, 9, 96, 46, 2]
abbrev dktX3_halving_3 : List UInt8 := dkwX3_halving_3 ++ dktX3_halving_4
def dkwX3_halving_2 : List UInt8 := [54, 7, 21, 6, 21, 7, 163, 0, 133, 21, 6, 21, 7, 96, 5, 108, 54, 8, 21, 8, 54, 9]
abbrev dktX3_halving_2 : List UInt8 := dkwX3_halving_2 ++ dktX3_halving_3
def dkwX3_halving_1 : List UInt8 := [182, 1, 92, 154, 0, 6, 16, 254, 172, 3, 54, 5, 3, 54, 6, 42, 180, 0, 41, 28, 46, 4, 100]
abbrev dktX3_halving_1 : List UInt8 := dkwX3_halving_1 ++ dktX3_halving_2
def dkwX3_halving_0 : List UInt8 := [42, 3, 181, 0, 111, 42, 27, 182, 1, 14, 153, 0, 19, 42, 28, 182, 0, 246, 153, 0, 11, 42, 29]
abbrev dktX3_halving_0 : List UInt8 := dkwX3_halving_0 ++ dktX3_halving_1
theorem dksX3_halving_0 : cX3_halving.data.toList.drop 0 = dktX3_halving_0 := by decide +kernel
theorem dksX3_halving_1 : cX3_halving.data.toList.drop 23 = dktX3_halving_1 := dk_seg dksX3_halving_0 23 rfl rfl
theorem dksX3_halving_2 : cX3_halving.data.toList.drop 46 = dktX3_halving_2 := dk_seg dksX3_halving_1 23 rfl rfl
theorem dksX3_halving_3 : cX3_halving.data.toList.drop 68 = dktX3_halving_3 := dk_seg dksX3_halving_2 22 rfl rfl
theorem dksX3_halving_4 : cX3_halving.data.toList.drop 91 = dktX3_halving_4 := dk_seg dksX3_halving_3 23 rfl rfl
theorem dksX3_halving_5 : cX3_halving.data.toList.drop 115 = dktX3_halving_5 := dk_seg dksX3_halving_4 24 rfl rfl
theorem dksX3_halving_6 : cX3_halving.data.toList.drop 139 = dktX3_halving_6 := dk_seg dksX3_halving_5 24 rfl rfl
theorem dksX3_halving_7 : cX3_halving.data.toList.drop 162 = dktX3_halving_7 := dk_seg dksX3_halving_6 23 rfl rfl
theorem dksX3_halving_8 : cX3_halving.data.toList.drop 185 = dktX3_halving_8 := dk_seg dksX3_halving_7 23 rfl rfl
theorem dX3_halving_0 : decode cX3_halving 0 = .ok (.aload_n 0, 1) := dk_42 (dk_at dksX3_halving_0 0 rfl rfl)
theorem dX3_halving_1 : decode cX3_halving 1 = .ok (.iconst 0, 1) := dk_3 (dk_at dksX3_halving_0 1 rfl rfl)
theorem dX3_halving_2 : decode cX3_halving 2 = .ok (.putfield 111, 3) := dk_181 0 111 (dk_at dksX3_halving_0 2 rfl rfl)
theorem dX3_halving_5 : decode cX3_halving 5 = .ok (.aload_n 0, 1) := dk_42 (dk_at dksX3_halving_0 5 rfl rfl)
theorem dX3_halving_6 : decode cX3_halving 6 = .ok (.iload_n 1, 1) := dk_27 (dk_at dksX3_halving_0 6 rfl rfl)
theorem dX3_halving_7 : decode cX3_halving 7 = .ok (.invokevirtual 270, 3) := dk_182 1 14 (dk_at dksX3_halving_0 7 rfl rfl)
theorem dX3_halving_10 : decode cX3_halving 10 = .ok (.ifCond .eq 19, 3) := dk_153 0 19 (dk_at dksX3_halving_0 10 rfl rfl)
theorem dX3_halving_13 : decode cX3_halving 13 = .ok (.aload_n 0, 1) := dk_42 (dk_at dksX3_halving_0 13 rfl rfl)
theorem dX3_halving_14 : decode cX3_halving 14 = .ok (.iload_n 2, 1) := dk_28 (dk_at dksX3_halving_0 14 rfl rfl)
theorem dX3_halving_15 : decode cX3_halving 15 = .ok (.invokevirtual 246, 3) := dk_182 0 246 (dk_at dksX3_halving_0 15 rfl rfl)
theorem dX3_halving_18 : decode cX3_halving 18 = .ok (.ifCond .eq 11, 3) := dk_153 0 11 (dk_at dksX3_halving_0 18 rfl rfl)
theorem dX3_halving_21 : decode cX3_halving 21 = .ok (.aload_n 0, 1) := dk_42 (dk_at dksX3_halving_0 21 rfl rfl)
theorem dX3_halving_22 : decode cX3_halving 22 = .ok (.iload_n 3, 1) := dk_29 (dk_at dksX3_halving_0 22 rfl rfl)
theorem dX3_halving_23 : decode cX3_halving 23 = .ok (.invokevirtual 348, 3) := dk_182 1 92 (dk_at dksX3_halving_1 0 rfl rfl)
theorem dX3_halving_26 : decode cX3_halving 26 = .ok (.ifCond .ne 6, 3) := dk_154 0 6 (dk_at dksX3_halving_1 3 rfl rfl)
theorem dX3_halving_29 : decode cX3_halving 29 = .ok (.bipush (-2), 2) := dk_16 254 (dk_at dksX3_halving_1 6 rfl rfl)
theorem dX3_halving_31 : decode cX3_halving 31 = .ok (.ireturn, 1) := dk_172 (dk_at dksX3_halving_1 8 rfl rfl)
theorem dX3_halving_32 : decode cX3_halving 32 = .ok (.iconst 0, 1) := dk_3 (dk_at dksX3_halving_1 9 rfl rfl)
theorem dX3_halving_33 : decode cX3_halving 33 = .ok (.istore 5, 2) := dk_54 5 (dk_at dksX3_halving_1 10 rfl rfl)
theorem dX3_halving_35 : decode cX3_halving 35 = .ok (.iconst 0, 1) := dk_3 (dk_at dksX3_halving_1 12 rfl rfl)
theorem dX3_halving_36 : decode cX3_halving 36 = .ok (.istore 6, 2) := dk_54 6 (dk_at dksX3_halving_1 13 rfl rfl)
theorem dX3_halving_38 : decode cX3_halving 38 = .ok (.aload_n 0, 1) := dk_42 (dk_at dksX3_halving_1 15 rfl rfl)
theorem dX3_halving_39 : decode cX3_halving 39 = .ok (.getfield 41, 3) := dk_180 0 41 (dk_at dksX3_halving_1 16 rfl rfl)
theorem dX3_halving_42 : decode cX3_halving 42 = .ok (.iload_n 2, 1) := dk_28 (dk_at dksX3_halving_1 19 rfl rfl)
theorem dX3_halving_43 : decode cX3_halving 43 = .ok (.iaload, 1) := dk_46 (dk_at dksX3_halving_1 20 rfl rfl)
theorem dX3_halving_44 : decode cX3_halving 44 = .ok (.iconst 1, 1) := dk_4 (dk_at dksX3_halving_1 21 rfl rfl)
theorem dX3_halving_45 : decode cX3_halving 45 = .ok (.isub, 1) := dk_100 (dk_at dksX3_halving_1 22 rfl rfl)
theorem dX3_halving_46 : decode cX3_halving 46 = .ok (.istore 7, 2) := dk_54 7 (dk_at dksX3_halving_2 0 rfl rfl)
theorem dX3_halving_48 : decode cX3_halving 48 = .ok (.iload 6, 2) := dk_21 6 (dk_at dksX3_halving_2 2 rfl rfl)
theorem dX3_halving_50 : decode cX3_halving 50 = .ok (.iload 7, 2) := dk_21 7 (dk_at dksX3_halving_2 4 rfl rfl)
theorem dX3_halving_52 : decode cX3_halving 52 = .ok (.if_icmp .gt 133, 3) := dk_163 0 133 (dk_at dksX3_halving_2 6 rfl rfl)
theorem dX3_halving_55 : decode cX3_halving 55 = .ok (.iload 6, 2) := dk_21 6 (dk_at dksX3_halving_2 9 rfl rfl)
theorem dX3_halving_57 : decode cX3_halving 57 = .ok (.iload 7, 2) := dk_21 7 (dk_at dksX3_halving_2 11 rfl rfl)
theorem dX3_halving_59 : decode cX3_halving 59 = .ok (.iadd, 1) := dk_96 (dk_at dksX3_halving_2 13 rfl rfl)
theorem dX3_halving_60 : decode cX3_halving 60 = .ok (.iconst 2, 1) := dk_5 (dk_at dksX3_halving_2 14 rfl rfl)
theorem dX3_halving_61 : decode cX3_halving 61 = .ok (.idiv, 1) := dk_108 (dk_at dksX3_halving_2 15 rfl rfl)
theorem dX3_halving_62 : decode cX3_halving 62 = .ok (.istore 8, 2) := dk_54 8 (dk_at dksX3_halving_2 16 rfl rfl)
theorem dX3_halving_64 : decode cX3_halving 64 = .ok (.iload 8, 2) := dk_21 8 (dk_at dksX3_halving_2 18 rfl rfl)
theorem dX3_halving_66 : decode cX3_halving 66 = .ok (.istore 9, 2) := dk_54 9 (dk_at dksX3_halving_2 20 rfl rfl)
theorem dX3_halving_68 : decode cX3_halving 68 = .ok (.iinc 5 1, 3) := dk_132 5 1 (dk_at dksX3_halving_3 0 rfl rfl)
theorem dX3_halving_71 : decode cX3_halving 71 = .ok (.iload 9, 2) := dk_21 9 (dk_at dksX3_halving_3 3 rfl rfl)
theorem dX3_halving_73 : decode cX3_halving 73 = .ok (.iload 7, 2) := dk_21 7 (dk_at dksX3_halving_3 5 rfl rfl)
theorem dX3_halving_75 : decode cX3_halving 75 = .ok (.if_icmp .ge 28, 3) := dk_162 0 28 (dk_at dksX3_halving_3 7 rfl rfl)
theorem dX3_halving_78 : decode cX3_halving 78 = .ok (.aload_n 0, 1) := dk_42 (dk_at dksX3_halving_3 10 rfl rfl)
theorem dX3_halving_79 : decode cX3_halving 79 = .ok (.getfield 47, 3) := dk_180 0 47 (dk_at dksX3_halving_3 11 rfl rfl)
theorem dX3_halving_82 : decode cX3_halving 82 = .ok (.bipush 12, 2) := dk_16 12 (dk_at dksX3_halving_3 14 rfl rfl)
theorem dX3_halving_84 : decode cX3_halving 84 = .ok (.iload_n 2, 1) := dk_28 (dk_at dksX3_halving_3 16 rfl rfl)
theorem dX3_halving_85 : decode cX3_halving 85 = .ok (.imul, 1) := dk_104 (dk_at dksX3_halving_3 17 rfl rfl)
theorem dX3_halving_86 : decode cX3_halving 86 = .ok (.iload 9, 2) := dk_21 9 (dk_at dksX3_halving_3 18 rfl rfl)
theorem dX3_halving_88 : decode cX3_halving 88 = .ok (.iadd, 1) := dk_96 (dk_at dksX3_halving_3 20 rfl rfl)
theorem dX3_halving_89 : decode cX3_halving 89 = .ok (.iaload, 1) := dk_46 (dk_at dksX3_halving_3 21 rfl rfl)
theorem dX3_halving_90 : decode cX3_halving 90 = .ok (.iconst (-1), 1) := dk_2 (dk_at dksX3_halving_3 22 rfl rfl)
theorem dX3_halving_91 : decode cX3_halving 91 = .ok (.if_icmp .ne 12, 3) := dk_160 0 12 (dk_at dksX3_halving_4 0 rfl rfl)
theorem dX3_halving_94 : decode cX3_halving 94 = .ok (.iinc 9 1, 3) := dk_132 9 1 (dk_at dksX3_halving_4 3 rfl rfl)
theorem dX3_halving_97 : decode cX3_halving 97 = .ok (.iinc 5 1, 3) := dk_132 5 1 (dk_at dksX3_halving_4 6 rfl rfl)
theorem dX3_halving_100 : decode cX3_halving 100 = .ok (.goto (-29), 3) := dk_167 255 227 (dk_at dksX3_halving_4 9 rfl rfl)
theorem dX3_halving_103 : decode cX3_halving 103 = .ok (.aload_n 0, 1) := dk_42 (dk_at dksX3_halving_4 12 rfl rfl)
theorem dX3_halving_104 : decode cX3_halving 104 = .ok (.getfield 47, 3) := dk_180 0 47 (dk_at dksX3_halving_4 13 rfl rfl)
theorem dX3_halving_107 : decode cX3_halving 107 = .ok (.bipush 12, 2) := dk_16 12 (dk_at dksX3_halving_4 16 rfl rfl)
theorem dX3_halving_109 : decode cX3_halving 109 = .ok (.iload_n 2, 1) := dk_28 (dk_at dksX3_halving_4 18 rfl rfl)
theorem dX3_halving_110 : decode cX3_halving 110 = .ok (.imul, 1) := dk_104 (dk_at dksX3_halving_4 19 rfl rfl)
theorem dX3_halving_111 : decode cX3_halving 111 = .ok (.iload 9, 2) := dk_21 9 (dk_at dksX3_halving_4 20 rfl rfl)
theorem dX3_halving_113 : decode cX3_halving 113 = .ok (.iadd, 1) := dk_96 (dk_at dksX3_halving_4 22 rfl rfl)
theorem dX3_halving_114 : decode cX3_halving 114 = .ok (.iaload, 1) := dk_46 (dk_at dksX3_halving_4 23 rfl rfl)
theorem dX3_halving_115 : decode cX3_halving 115 = .ok (.istore 10, 2) := dk_54 10 (dk_at dksX3_halving_5 0 rfl rfl)
theorem dX3_halving_117 : decode cX3_halving 117 = .ok (.iload 10, 2) := dk_21 10 (dk_at dksX3_halving_5 2 rfl rfl)
theorem dX3_halving_119 : decode cX3_halving 119 = .ok (.iload_n 3, 1) := dk_29 (dk_at dksX3_halving_5 4 rfl rfl)
theorem dX3_halving_120 : decode cX3_halving 120 = .ok (.if_icmp .ne 16, 3) := dk_160 0 16 (dk_at dksX3_halving_5 5 rfl rfl)
theorem dX3_halving_123 : decode cX3_halving 123 = .ok (.iload 4, 2) := dk_21 4 (dk_at dksX3_halving_5 8 rfl rfl)
theorem dX3_halving_125 : decode cX3_halving 125 = .ok (.ifCond .eq 8, 3) := dk_153 0 8 (dk_at dksX3_halving_5 10 rfl rfl)
theorem dX3_halving_128 : decode cX3_halving 128 = .ok (.iload 9, 2) := dk_21 9 (dk_at dksX3_halving_5 13 rfl rfl)
theorem dX3_halving_130 : decode cX3_halving 130 = .ok (.goto 5, 3) := dk_167 0 5 (dk_at dksX3_halving_5 15 rfl rfl)
theorem dX3_halving_133 : decode cX3_halving 133 = .ok (.iload 5, 2) := dk_21 5 (dk_at dksX3_halving_5 18 rfl rfl)
theorem dX3_halving_135 : decode cX3_halving 135 = .ok (.ireturn, 1) := dk_172 (dk_at dksX3_halving_5 20 rfl rfl)
theorem dX3_halving_136 : decode cX3_halving 136 = .ok (.iload 10, 2) := dk_21 10 (dk_at dksX3_halving_5 21 rfl rfl)
theorem dX3_halving_138 : decode cX3_halving 138 = .ok (.iconst (-1), 1) := dk_2 (dk_at dksX3_halving_5 23 rfl rfl)
theorem dX3_halving_139 : decode cX3_halving 139 = .ok (.if_icmp .eq 16, 3) := dk_159 0 16 (dk_at dksX3_halving_6 0 rfl rfl)
theorem dX3_halving_142 : decode cX3_halving 142 = .ok (.iload 10, 2) := dk_21 10 (dk_at dksX3_halving_6 3 rfl rfl)
theorem dX3_halving_144 : decode cX3_halving 144 = .ok (.iload_n 3, 1) := dk_29 (dk_at dksX3_halving_6 5 rfl rfl)
theorem dX3_halving_145 : decode cX3_halving 145 = .ok (.if_icmp .ge 10, 3) := dk_162 0 10 (dk_at dksX3_halving_6 6 rfl rfl)
theorem dX3_halving_148 : decode cX3_halving 148 = .ok (.iload 9, 2) := dk_21 9 (dk_at dksX3_halving_6 9 rfl rfl)
theorem dX3_halving_150 : decode cX3_halving 150 = .ok (.iconst 1, 1) := dk_4 (dk_at dksX3_halving_6 11 rfl rfl)
theorem dX3_halving_151 : decode cX3_halving 151 = .ok (.iadd, 1) := dk_96 (dk_at dksX3_halving_6 12 rfl rfl)
theorem dX3_halving_152 : decode cX3_halving 152 = .ok (.goto 5, 3) := dk_167 0 5 (dk_at dksX3_halving_6 13 rfl rfl)
theorem dX3_halving_155 : decode cX3_halving 155 = .ok (.iload 6, 2) := dk_21 6 (dk_at dksX3_halving_6 16 rfl rfl)
theorem dX3_halving_157 : decode cX3_halving 157 = .ok (.istore 6, 2) := dk_54 6 (dk_at dksX3_halving_6 18 rfl rfl)
theorem dX3_halving_159 : decode cX3_halving 159 = .ok (.iload 10, 2) := dk_21 10 (dk_at dksX3_halving_6 20 rfl rfl)
theorem dX3_halving_161 : decode cX3_halving 161 = .ok (.iconst (-1), 1) := dk_2 (dk_at dksX3_halving_6 22 rfl rfl)
theorem dX3_halving_162 : decode cX3_halving 162 = .ok (.if_icmp .eq 9, 3) := dk_159 0 9 (dk_at dksX3_halving_7 0 rfl rfl)
theorem dX3_halving_165 : decode cX3_halving 165 = .ok (.iload 10, 2) := dk_21 10 (dk_at dksX3_halving_7 3 rfl rfl)
theorem dX3_halving_167 : decode cX3_halving 167 = .ok (.iload_n 3, 1) := dk_29 (dk_at dksX3_halving_7 5 rfl rfl)
theorem dX3_halving_168 : decode cX3_halving 168 = .ok (.if_icmp .le 10, 3) := dk_164 0 10 (dk_at dksX3_halving_7 6 rfl rfl)
theorem dX3_halving_171 : decode cX3_halving 171 = .ok (.iload 8, 2) := dk_21 8 (dk_at dksX3_halving_7 9 rfl rfl)
theorem dX3_halving_173 : decode cX3_halving 173 = .ok (.iconst 1, 1) := dk_4 (dk_at dksX3_halving_7 11 rfl rfl)
theorem dX3_halving_174 : decode cX3_halving 174 = .ok (.isub, 1) := dk_100 (dk_at dksX3_halving_7 12 rfl rfl)
theorem dX3_halving_175 : decode cX3_halving 175 = .ok (.goto 5, 3) := dk_167 0 5 (dk_at dksX3_halving_7 13 rfl rfl)
theorem dX3_halving_178 : decode cX3_halving 178 = .ok (.iload 7, 2) := dk_21 7 (dk_at dksX3_halving_7 16 rfl rfl)
theorem dX3_halving_180 : decode cX3_halving 180 = .ok (.istore 7, 2) := dk_54 7 (dk_at dksX3_halving_7 18 rfl rfl)
theorem dX3_halving_182 : decode cX3_halving 182 = .ok (.goto (-134), 3) := dk_167 255 122 (dk_at dksX3_halving_7 20 rfl rfl)
theorem dX3_halving_185 : decode cX3_halving 185 = .ok (.iload 4, 2) := dk_21 4 (dk_at dksX3_halving_8 0 rfl rfl)
theorem dX3_halving_187 : decode cX3_halving 187 = .ok (.ifCond .eq 7, 3) := dk_153 0 7 (dk_at dksX3_halving_8 2 rfl rfl)
theorem dX3_halving_190 : decode cX3_halving 190 = .ok (.iconst (-1), 1) := dk_2 (dk_at dksX3_halving_8 5 rfl rfl)
theorem dX3_halving_191 : decode cX3_halving 191 = .ok (.goto 5, 3) := dk_167 0 5 (dk_at dksX3_halving_8 6 rfl rfl)
theorem dX3_halving_194 : decode cX3_halving 194 = .ok (.iload 5, 2) := dk_21 5 (dk_at dksX3_halving_8 9 rfl rfl)
theorem dX3_halving_196 : decode cX3_halving 196 = .ok (.ireturn, 1) := dk_172 (dk_at dksX3_halving_8 11 rfl rfl)
def dkwX3_mean_3 : List UInt8 := [172]
abbrev dktX3_mean_3 : List UInt8 := dkwX3_mean_3 ++ []
def dkwX3_mean_2 : List UInt8 := [21, 5, 184, 1, 124, 54, 6, 29, 153, 0, 11, 21, 5, 21, 6, 108, 167, 0, 8, 21, 4, 21, 6, 108]
abbrev dktX3_mean_2 : List UInt8 := dkwX3_mean_2 ++ dktX3_mean_3
def dkwX3_mean_1 : List UInt8 := [182, 1, 118, 154, 0, 5, 2, 172, 42, 182, 1, 121, 54, 4, 5, 42, 182, 1, 115, 104, 54, 5, 21, 4]
abbrev dktX3_mean_1 : List UInt8 := dkwX3_mean_1 ++ dktX3_mean_2
def dkwX3_mean_0 : List UInt8 := [42, 3, 181, 0, 111, 42, 27, 182, 1, 14, 153, 0, 18, 42, 182, 1, 115, 153, 0, 11, 42, 28]
abbrev dktX3_mean_0 : List UInt8 := dkwX3_mean_0 ++ dktX3_mean_1
theorem dksX3_mean_0 : cX3_mean.data.toList.drop 0 = dktX3_mean_0 := by decide +kernel
theorem dksX3_mean_1 : cX3_mean.data.toList.drop 22 = dktX3_mean_1 := dk_seg dksX3_mean_0 22 rfl rfl
theorem dksX3_mean_2 : cX3_mean.data.toList.drop 46 = dktX3_mean_2 := dk_seg dksX3_mean_1 24 rfl rfl
theorem dksX3_mean_3 : cX3_mean.data.toList.drop 70 = dktX3_mean_3 := dk_seg dksX3_mean_2 24 rfl rfl
theorem dX3_mean_0 : decode cX3_mean 0 = .ok (.aload_n 0, 1) := dk_42 (dk_at dksX3_mean_0 0 rfl rfl)
theorem dX3_mean_1 : decode cX3_mean 1 = .ok (.iconst 0, 1) := dk_3 (dk_at dksX3_mean_0 1 rfl rfl)
theorem dX3_mean_2 : decode cX3_mean 2 = .ok (.putfield 111, 3) := dk_181 0 111 (dk_at dksX3_mean_0 2 rfl rfl)
theorem dX3_mean_5 : decode cX3_mean 5 = .ok (.aload_n 0, 1) := dk_42 (dk_at dksX3_mean_0 5 rfl rfl)
theorem dX3_mean_6 : decode cX3_mean 6 = .ok (.iload_n 1, 1) := dk_27 (dk_at dksX3_mean_0 6 rfl rfl)
theorem dX3_mean_7 : decode cX3_mean 7 = .ok (.invokevirtual 270, 3) := dk_182 1 14 (dk_at dksX3_mean_0 7 rfl rfl)
theorem dX3_mean_10 : decode cX3_mean 10 = .ok (.ifCond .eq 18, 3) := dk_153 0 18 (dk_at dksX3_mean_0 10 rfl rfl)
theorem dX3_mean_13 : decode cX3_mean 13 = .ok (.aload_n 0, 1) := dk_42 (dk_at dksX3_mean_0 13 rfl rfl)
theorem dX3_mean_14 : decode cX3_mean 14 = .ok (.invokevirtual 371, 3) := dk_182 1 115 (dk_at dksX3_mean_0 14 rfl rfl)
theorem dX3_mean_17 : decode cX3_mean 17 = .ok (.ifCond .eq 11, 3) := dk_153 0 11 (dk_at dksX3_mean_0 17 rfl rfl)
theorem dX3_mean_20 : decode cX3_mean 20 = .ok (.aload_n 0, 1) := dk_42 (dk_at dksX3_mean_0 20 rfl rfl)
theorem dX3_mean_21 : decode cX3_mean 21 = .ok (.iload_n 2, 1) := dk_28 (dk_at dksX3_mean_0 21 rfl rfl)
theorem dX3_mean_22 : decode cX3_mean 22 = .ok (.invokevirtual 374, 3) := dk_182 1 118 (dk_at dksX3_mean_1 0 rfl rfl)
theorem dX3_mean_25 : decode cX3_mean 25 = .ok (.ifCond .ne 5, 3) := dk_154 0 5 (dk_at dksX3_mean_1 3 rfl rfl)
theorem dX3_mean_28 : decode cX3_mean 28 = .ok (.iconst (-1), 1) := dk_2 (dk_at dksX3_mean_1 6 rfl rfl)
theorem dX3_mean_29 : decode cX3_mean 29 = .ok (.ireturn, 1) := dk_172 (dk_at dksX3_mean_1 7 rfl rfl)
theorem dX3_mean_30 : decode cX3_mean 30 = .ok (.aload_n 0, 1) := dk_42 (dk_at dksX3_mean_1 8 rfl rfl)
theorem dX3_mean_31 : decode cX3_mean 31 = .ok (.invokevirtual 377, 3) := dk_182 1 121 (dk_at dksX3_mean_1 9 rfl rfl)
theorem dX3_mean_34 : decode cX3_mean 34 = .ok (.istore 4, 2) := dk_54 4 (dk_at dksX3_mean_1 12 rfl rfl)
theorem dX3_mean_36 : decode cX3_mean 36 = .ok (.iconst 2, 1) := dk_5 (dk_at dksX3_mean_1 14 rfl rfl)
theorem dX3_mean_37 : decode cX3_mean 37 = .ok (.aload_n 0, 1) := dk_42 (dk_at dksX3_mean_1 15 rfl rfl)
theorem dX3_mean_38 : decode cX3_mean 38 = .ok (.invokevirtual 371, 3) := dk_182 1 115 (dk_at dksX3_mean_1 16 rfl rfl)
theorem dX3_mean_41 : decode cX3_mean 41 = .ok (.imul, 1) := dk_104 (dk_at dksX3_mean_1 19 rfl rfl)
theorem dX3_mean_42 : decode cX3_mean 42 = .ok (.istore 5, 2) := dk_54 5 (dk_at dksX3_mean_1 20 rfl rfl)
theorem dX3_mean_44 : decode cX3_mean 44 = .ok (.iload 4, 2) := dk_21 4 (dk_at dksX3_mean_1 22 rfl rfl)
theorem dX3_mean_46 : decode cX3_mean 46 = .ok (.iload 5, 2) := dk_21 5 (dk_at dksX3_mean_2 0 rfl rfl)
theorem dX3_mean_48 : decode cX3_mean 48 = .ok (.invokestatic 380, 3) := dk_184 1 124 (dk_at dksX3_mean_2 2 rfl rfl)
theorem dX3_mean_51 : decode cX3_mean 51 = .ok (.istore 6, 2) := dk_54 6 (dk_at dksX3_mean_2 5 rfl rfl)
theorem dX3_mean_53 : decode cX3_mean 53 = .ok (.iload_n 3, 1) := dk_29 (dk_at dksX3_mean_2 7 rfl rfl)
theorem dX3_mean_54 : decode cX3_mean 54 = .ok (.ifCond .eq 11, 3) := dk_153 0 11 (dk_at dksX3_mean_2 8 rfl rfl)
theorem dX3_mean_57 : decode cX3_mean 57 = .ok (.iload 5, 2) := dk_21 5 (dk_at dksX3_mean_2 11 rfl rfl)
theorem dX3_mean_59 : decode cX3_mean 59 = .ok (.iload 6, 2) := dk_21 6 (dk_at dksX3_mean_2 13 rfl rfl)
theorem dX3_mean_61 : decode cX3_mean 61 = .ok (.idiv, 1) := dk_108 (dk_at dksX3_mean_2 15 rfl rfl)
theorem dX3_mean_62 : decode cX3_mean 62 = .ok (.goto 8, 3) := dk_167 0 8 (dk_at dksX3_mean_2 16 rfl rfl)
theorem dX3_mean_65 : decode cX3_mean 65 = .ok (.iload 4, 2) := dk_21 4 (dk_at dksX3_mean_2 19 rfl rfl)
theorem dX3_mean_67 : decode cX3_mean 67 = .ok (.iload 6, 2) := dk_21 6 (dk_at dksX3_mean_2 21 rfl rfl)
theorem dX3_mean_69 : decode cX3_mean 69 = .ok (.idiv, 1) := dk_108 (dk_at dksX3_mean_2 23 rfl rfl)
theorem dX3_mean_70 : decode cX3_mean 70 = .ok (.ireturn, 1) := dk_172 (dk_at dksX3_mean_3 0 rfl rfl)
def dkwX3_weights_1 : List UInt8 := [167, 255, 236, 27, 172]
abbrev dktX3_weights_1 : List UInt8 := dkwX3_weights_1 ++ []
def dkwX3_weights_0 : List UInt8 := [3, 60, 3, 61, 28, 42, 180, 0, 243, 162, 0, 18, 27, 42, 180, 0, 44, 28, 46, 96, 60, 132, 2, 1]
abbrev dktX3_weights_0 : List UInt8 := dkwX3_weights_0 ++ dktX3_weights_1
theorem dksX3_weights_0 : cX3_weights.data.toList.drop 0 = dktX3_weights_0 := by decide +kernel
theorem dksX3_weights_1 : cX3_weights.data.toList.drop 24 = dktX3_weights_1 := dk_seg dksX3_weights_0 24 rfl rfl
theorem dX3_weights_0 : decode cX3_weights 0 = .ok (.iconst 0, 1) := dk_3 (dk_at dksX3_weights_0 0 rfl rfl)
theorem dX3_weights_1 : decode cX3_weights 1 = .ok (.istore_n 1, 1) := dk_60 (dk_at dksX3_weights_0 1 rfl rfl)
theorem dX3_weights_2 : decode cX3_weights 2 = .ok (.iconst 0, 1) := dk_3 (dk_at dksX3_weights_0 2 rfl rfl)
theorem dX3_weights_3 : decode cX3_weights 3 = .ok (.istore_n 2, 1) := dk_61 (dk_at dksX3_weights_0 3 rfl rfl)
theorem dX3_weights_4 : decode cX3_weights 4 = .ok (.iload_n 2, 1) := dk_28 (dk_at dksX3_weights_0 4 rfl rfl)
theorem dX3_weights_5 : decode cX3_weights 5 = .ok (.aload_n 0, 1) := dk_42 (dk_at dksX3_weights_0 5 rfl rfl)
theorem dX3_weights_6 : decode cX3_weights 6 = .ok (.getfield 243, 3) := dk_180 0 243 (dk_at dksX3_weights_0 6 rfl rfl)
theorem dX3_weights_9 : decode cX3_weights 9 = .ok (.if_icmp .ge 18, 3) := dk_162 0 18 (dk_at dksX3_weights_0 9 rfl rfl)
theorem dX3_weights_12 : decode cX3_weights 12 = .ok (.iload_n 1, 1) := dk_27 (dk_at dksX3_weights_0 12 rfl rfl)
theorem dX3_weights_13 : decode cX3_weights 13 = .ok (.aload_n 0, 1) := dk_42 (dk_at dksX3_weights_0 13 rfl rfl)
theorem dX3_weights_14 : decode cX3_weights 14 = .ok (.getfield 44, 3) := dk_180 0 44 (dk_at dksX3_weights_0 14 rfl rfl)
theorem dX3_weights_17 : decode cX3_weights 17 = .ok (.iload_n 2, 1) := dk_28 (dk_at dksX3_weights_0 17 rfl rfl)
theorem dX3_weights_18 : decode cX3_weights 18 = .ok (.iaload, 1) := dk_46 (dk_at dksX3_weights_0 18 rfl rfl)
theorem dX3_weights_19 : decode cX3_weights 19 = .ok (.iadd, 1) := dk_96 (dk_at dksX3_weights_0 19 rfl rfl)
theorem dX3_weights_20 : decode cX3_weights 20 = .ok (.istore_n 1, 1) := dk_60 (dk_at dksX3_weights_0 20 rfl rfl)
theorem dX3_weights_21 : decode cX3_weights 21 = .ok (.iinc 2 1, 3) := dk_132 2 1 (dk_at dksX3_weights_0 21 rfl rfl)
theorem dX3_weights_24 : decode cX3_weights 24 = .ok (.goto (-20), 3) := dk_167 255 236 (dk_at dksX3_weights_1 0 rfl rfl)
theorem dX3_weights_27 : decode cX3_weights 27 = .ok (.iload_n 1, 1) := dk_27 (dk_at dksX3_weights_1 3 rfl rfl)
theorem dX3_weights_28 : decode cX3_weights 28 = .ok (.ireturn, 1) := dk_172 (dk_at dksX3_weights_1 4 rfl rfl)
def dkwX3_isOrder_4 : List UInt8 := [172]
abbrev dktX3_isOrder_4 : List UInt8 := dkwX3_isOrder_4 ++ []
def dkwX3_isOrder_3 : List UInt8 := [155, 0, 23, 28, 154, 0, 19, 29, 4, 42, 180, 0, 243, 120, 4, 100, 160, 0, 7, 4, 167, 0, 4, 3]
abbrev dktX3_isOrder_3 : List UInt8 := dkwX3_isOrder_3 ++ dktX3_isOrder_4
def dkwX3_isOrder_2 : List UInt8 := [4, 42, 180, 0, 86, 21, 4, 46, 120, 167, 0, 4, 3, 128, 62, 132, 4, 255, 167, 255, 202, 27]
abbrev dktX3_isOrder_2 : List UInt8 := dkwX3_isOrder_2 ++ dktX3_isOrder_3
def dkwX3_isOrder_1 : List UInt8 := [16, 10, 112, 79, 28, 16, 10, 108, 61, 29, 42, 180, 0, 86, 21, 4, 46, 42, 180, 0, 243, 162, 0, 15]
abbrev dktX3_isOrder_1 : List UInt8 := dkwX3_isOrder_1 ++ dktX3_isOrder_2
def dkwX3_isOrder_0 : List UInt8 := [27, 61, 3, 62, 42, 180, 0, 243, 4, 100, 54, 4, 21, 4, 155, 0, 55, 42, 180, 0, 86, 21, 4, 28]
abbrev dktX3_isOrder_0 : List UInt8 := dkwX3_isOrder_0 ++ dktX3_isOrder_1
theorem dksX3_isOrder_0 : cX3_isOrder.data.toList.drop 0 = dktX3_isOrder_0 := by decide +kernel
theorem dksX3_isOrder_1 : cX3_isOrder.data.toList.drop 24 = dktX3_isOrder_1 := dk_seg dksX3_isOrder_0 24 rfl rfl
theorem dksX3_isOrder_2 : cX3_isOrder.data.toList.drop 48 = dktX3_isOrder_2 := dk_seg dksX3_isOrder_1 24 rfl rfl
theorem dksX3_isOrder_3 : cX3_isOrder.data.toList.drop 70 = dktX3_isOrder_3 := dk_seg dksX3_isOrder_2 22 rfl rfl
theorem dksX3_isOrder_4 : cX3_isOrder.data.toList.drop 94 = dktX3_isOrder_4 := dk_seg dksX3_isOrder_3 24 rfl rfl
theorem dX3_isOrder_0 : decode cX3_isOrder 0 = .ok (.iload_n 1, 1) := dk_27 (dk_at dksX3_isOrder_0 0 rfl rfl)
theorem dX3_isOrder_1 : decode cX3_isOrder 1 = .ok (.istore_n 2, 1) := dk_61 (dk_at dksX3_isOrder_0 1 rfl rfl)
theorem dX3_isOrder_2 : decode cX3_isOrder 2 = .ok (.iconst 0, 1) := dk_3 (dk_at dksX3_isOrder_0 2 rfl rfl)
theorem dX3_isOrder_3 : decode cX3_isOrder 3 = .ok (.istore_n 3, 1) := dk_62 (dk_at dksX3_isOrder_0 3 rfl rfl)
theorem dX3_isOrder_4 : decode cX3_isOrder 4 = .ok (.aload_n 0, 1) := dk_42 (dk_at dksX3_isOrder_0 4 rfl rfl)
theorem dX3_isOrder_5 : decode cX3_isOrder 5 = .ok (.getfield 243, 3) := dk_180 0 243 (dk_at dksX3_isOrder_0 5 rfl rfl)
theorem dX3_isOrder_8 : decode cX3_isOrder 8 = .ok (.iconst 1, 1) := dk_4 (dk_at dksX3_isOrder_0 8 rfl rfl)
theorem dX3_isOrder_9 : decode cX3_isOrder 9 = .ok (.isub, 1) := dk_100 (dk_at dksX3_isOrder_0 9 rfl rfl)
theorem dX3_isOrder_10 : decode cX3_isOrder 10 = .ok (.istore 4, 2) := dk_54 4 (dk_at dksX3_isOrder_0 10 rfl rfl)
theorem dX3_isOrder_12 : decode cX3_isOrder 12 = .ok (.iload 4, 2) := dk_21 4 (dk_at dksX3_isOrder_0 12 rfl rfl)
theorem dX3_isOrder_14 : decode cX3_isOrder 14 = .ok (.ifCond .lt 55, 3) := dk_155 0 55 (dk_at dksX3_isOrder_0 14 rfl rfl)
theorem dX3_isOrder_17 : decode cX3_isOrder 17 = .ok (.aload_n 0, 1) := dk_42 (dk_at dksX3_isOrder_0 17 rfl rfl)
theorem dX3_isOrder_18 : decode cX3_isOrder 18 = .ok (.getfield 86, 3) := dk_180 0 86 (dk_at dksX3_isOrder_0 18 rfl rfl)
theorem dX3_isOrder_21 : decode cX3_isOrder 21 = .ok (.iload 4, 2) := dk_21 4 (dk_at dksX3_isOrder_0 21 rfl rfl)
theorem dX3_isOrder_23 : decode cX3_isOrder 23 = .ok (.iload_n 2, 1) := dk_28 (dk_at dksX3_isOrder_0 23 rfl rfl)
theorem dX3_isOrder_24 : decode cX3_isOrder 24 = .ok (.bipush 10, 2) := dk_16 10 (dk_at dksX3_isOrder_1 0 rfl rfl)
theorem dX3_isOrder_26 : decode cX3_isOrder 26 = .ok (.irem, 1) := dk_112 (dk_at dksX3_isOrder_1 2 rfl rfl)
theorem dX3_isOrder_27 : decode cX3_isOrder 27 = .ok (.iastore, 1) := dk_79 (dk_at dksX3_isOrder_1 3 rfl rfl)
theorem dX3_isOrder_28 : decode cX3_isOrder 28 = .ok (.iload_n 2, 1) := dk_28 (dk_at dksX3_isOrder_1 4 rfl rfl)
theorem dX3_isOrder_29 : decode cX3_isOrder 29 = .ok (.bipush 10, 2) := dk_16 10 (dk_at dksX3_isOrder_1 5 rfl rfl)
theorem dX3_isOrder_31 : decode cX3_isOrder 31 = .ok (.idiv, 1) := dk_108 (dk_at dksX3_isOrder_1 7 rfl rfl)
theorem dX3_isOrder_32 : decode cX3_isOrder 32 = .ok (.istore_n 2, 1) := dk_61 (dk_at dksX3_isOrder_1 8 rfl rfl)
theorem dX3_isOrder_33 : decode cX3_isOrder 33 = .ok (.iload_n 3, 1) := dk_29 (dk_at dksX3_isOrder_1 9 rfl rfl)
theorem dX3_isOrder_34 : decode cX3_isOrder 34 = .ok (.aload_n 0, 1) := dk_42 (dk_at dksX3_isOrder_1 10 rfl rfl)
theorem dX3_isOrder_35 : decode cX3_isOrder 35 = .ok (.getfield 86, 3) := dk_180 0 86 (dk_at dksX3_isOrder_1 11 rfl rfl)
theorem dX3_isOrder_38 : decode cX3_isOrder 38 = .ok (.iload 4, 2) := dk_21 4 (dk_at dksX3_isOrder_1 14 rfl rfl)
theorem dX3_isOrder_40 : decode cX3_isOrder 40 = .ok (.iaload, 1) := dk_46 (dk_at dksX3_isOrder_1 16 rfl rfl)
theorem dX3_isOrder_41 : decode cX3_isOrder 41 = .ok (.aload_n 0, 1) := dk_42 (dk_at dksX3_isOrder_1 17 rfl rfl)
theorem dX3_isOrder_42 : decode cX3_isOrder 42 = .ok (.getfield 243, 3) := dk_180 0 243 (dk_at dksX3_isOrder_1 18 rfl rfl)
theorem dX3_isOrder_45 : decode cX3_isOrder 45 = .ok (.if_icmp .ge 15, 3) := dk_162 0 15 (dk_at dksX3_isOrder_1 21 rfl rfl)
theorem dX3_isOrder_48 : decode cX3_isOrder 48 = .ok (.iconst 1, 1) := dk_4 (dk_at dksX3_isOrder_2 0 rfl rfl)
theorem dX3_isOrder_49 : decode cX3_isOrder 49 = .ok (.aload_n 0, 1) := dk_42 (dk_at dksX3_isOrder_2 1 rfl rfl)
theorem dX3_isOrder_50 : decode cX3_isOrder 50 = .ok (.getfield 86, 3) := dk_180 0 86 (dk_at dksX3_isOrder_2 2 rfl rfl)
theorem dX3_isOrder_53 : decode cX3_isOrder 53 = .ok (.iload 4, 2) := dk_21 4 (dk_at dksX3_isOrder_2 5 rfl rfl)
theorem dX3_isOrder_55 : decode cX3_isOrder 55 = .ok (.iaload, 1) := dk_46 (dk_at dksX3_isOrder_2 7 rfl rfl)
theorem dX3_isOrder_56 : decode cX3_isOrder 56 = .ok (.ishl, 1) := dk_120 (dk_at dksX3_isOrder_2 8 rfl rfl)
theorem dX3_isOrder_57 : decode cX3_isOrder 57 = .ok (.goto 4, 3) := dk_167 0 4 (dk_at dksX3_isOrder_2 9 rfl rfl)
theorem dX3_isOrder_60 : decode cX3_isOrder 60 = .ok (.iconst 0, 1) := dk_3 (dk_at dksX3_isOrder_2 12 rfl rfl)
theorem dX3_isOrder_61 : decode cX3_isOrder 61 = .ok (.ior, 1) := dk_128 (dk_at dksX3_isOrder_2 13 rfl rfl)
theorem dX3_isOrder_62 : decode cX3_isOrder 62 = .ok (.istore_n 3, 1) := dk_62 (dk_at dksX3_isOrder_2 14 rfl rfl)
theorem dX3_isOrder_63 : decode cX3_isOrder 63 = .ok (.iinc 4 (-1), 3) := dk_132 4 255 (dk_at dksX3_isOrder_2 15 rfl rfl)
theorem dX3_isOrder_66 : decode cX3_isOrder 66 = .ok (.goto (-54), 3) := dk_167 255 202 (dk_at dksX3_isOrder_2 18 rfl rfl)
theorem dX3_isOrder_69 : decode cX3_isOrder 69 = .ok (.iload_n 1, 1) := dk_27 (dk_at dksX3_isOrder_2 21 rfl rfl)
theorem dX3_isOrder_70 : decode cX3_isOrder 70 = .ok (.ifCond .lt 23, 3) := dk_155 0 23 (dk_at dksX3_isOrder_3 0 rfl rfl)
theorem dX3_isOrder_73 : decode cX3_isOrder 73 = .ok (.iload_n 2, 1) := dk_28 (dk_at dksX3_isOrder_3 3 rfl rfl)
theorem dX3_isOrder_74 : decode cX3_isOrder 74 = .ok (.ifCond .ne 19, 3) := dk_154 0 19 (dk_at dksX3_isOrder_3 4 rfl rfl)
theorem dX3_isOrder_77 : decode cX3_isOrder 77 = .ok (.iload_n 3, 1) := dk_29 (dk_at dksX3_isOrder_3 7 rfl rfl)
theorem dX3_isOrder_78 : decode cX3_isOrder 78 = .ok (.iconst 1, 1) := dk_4 (dk_at dksX3_isOrder_3 8 rfl rfl)
theorem dX3_isOrder_79 : decode cX3_isOrder 79 = .ok (.aload_n 0, 1) := dk_42 (dk_at dksX3_isOrder_3 9 rfl rfl)
theorem dX3_isOrder_80 : decode cX3_isOrder 80 = .ok (.getfield 243, 3) := dk_180 0 243 (dk_at dksX3_isOrder_3 10 rfl rfl)
theorem dX3_isOrder_83 : decode cX3_isOrder 83 = .ok (.ishl, 1) := dk_120 (dk_at dksX3_isOrder_3 13 rfl rfl)
theorem dX3_isOrder_84 : decode cX3_isOrder 84 = .ok (.iconst 1, 1) := dk_4 (dk_at dksX3_isOrder_3 14 rfl rfl)
theorem dX3_isOrder_85 : decode cX3_isOrder 85 = .ok (.isub, 1) := dk_100 (dk_at dksX3_isOrder_3 15 rfl rfl)
theorem dX3_isOrder_86 : decode cX3_isOrder 86 = .ok (.if_icmp .ne 7, 3) := dk_160 0 7 (dk_at dksX3_isOrder_3 16 rfl rfl)
theorem dX3_isOrder_89 : decode cX3_isOrder 89 = .ok (.iconst 1, 1) := dk_4 (dk_at dksX3_isOrder_3 19 rfl rfl)
theorem dX3_isOrder_90 : decode cX3_isOrder 90 = .ok (.goto 4, 3) := dk_167 0 4 (dk_at dksX3_isOrder_3 20 rfl rfl)
theorem dX3_isOrder_93 : decode cX3_isOrder 93 = .ok (.iconst 0, 1) := dk_3 (dk_at dksX3_isOrder_3 23 rfl rfl)
theorem dX3_isOrder_94 : decode cX3_isOrder 94 = .ok (.ireturn, 1) := dk_172 (dk_at dksX3_isOrder_4 0 rfl rfl)
def dkwX3_feltBy_2 : List UInt8 := [180, 0, 41, 21, 4, 46, 96, 61, 132, 3, 1, 167, 255, 203, 27, 172]
abbrev dktX3_feltBy_2 : List UInt8 := dkwX3_feltBy_2 ++ []
def dkwX3_feltBy_1 : List UInt8 := [180, 0, 44, 21, 4, 46, 5, 28, 104, 42, 180, 0, 41, 21, 4, 46, 96, 4, 96, 104, 96, 60, 28, 42]
abbrev dktX3_feltBy_1 : List UInt8 := dkwX3_feltBy_1 ++ dktX3_feltBy_2
def dkwX3_feltBy_0 : List UInt8 := [3, 60, 3, 61, 3, 62, 29, 42, 180, 0, 243, 162, 0, 51, 42, 180, 0, 86, 29, 46, 54, 4, 27, 42]
abbrev dktX3_feltBy_0 : List UInt8 := dkwX3_feltBy_0 ++ dktX3_feltBy_1
theorem dksX3_feltBy_0 : cX3_feltBy.data.toList.drop 0 = dktX3_feltBy_0 := by decide +kernel
theorem dksX3_feltBy_1 : cX3_feltBy.data.toList.drop 24 = dktX3_feltBy_1 := dk_seg dksX3_feltBy_0 24 rfl rfl
theorem dksX3_feltBy_2 : cX3_feltBy.data.toList.drop 48 = dktX3_feltBy_2 := dk_seg dksX3_feltBy_1 24 rfl rfl
theorem dX3_feltBy_0 : decode cX3_feltBy 0 = .ok (.iconst 0, 1) := dk_3 (dk_at dksX3_feltBy_0 0 rfl rfl)
theorem dX3_feltBy_1 : decode cX3_feltBy 1 = .ok (.istore_n 1, 1) := dk_60 (dk_at dksX3_feltBy_0 1 rfl rfl)
theorem dX3_feltBy_2 : decode cX3_feltBy 2 = .ok (.iconst 0, 1) := dk_3 (dk_at dksX3_feltBy_0 2 rfl rfl)
theorem dX3_feltBy_3 : decode cX3_feltBy 3 = .ok (.istore_n 2, 1) := dk_61 (dk_at dksX3_feltBy_0 3 rfl rfl)
theorem dX3_feltBy_4 : decode cX3_feltBy 4 = .ok (.iconst 0, 1) := dk_3 (dk_at dksX3_feltBy_0 4 rfl rfl)
theorem dX3_feltBy_5 : decode cX3_feltBy 5 = .ok (.istore_n 3, 1) := dk_62 (dk_at dksX3_feltBy_0 5 rfl rfl)
theorem dX3_feltBy_6 : decode cX3_feltBy 6 = .ok (.iload_n 3, 1) := dk_29 (dk_at dksX3_feltBy_0 6 rfl rfl)
theorem dX3_feltBy_7 : decode cX3_feltBy 7 = .ok (.aload_n 0, 1) := dk_42 (dk_at dksX3_feltBy_0 7 rfl rfl)
theorem dX3_feltBy_8 : decode cX3_feltBy 8 = .ok (.getfield 243, 3) := dk_180 0 243 (dk_at dksX3_feltBy_0 8 rfl rfl)
theorem dX3_feltBy_11 : decode cX3_feltBy 11 = .ok (.if_icmp .ge 51, 3) := dk_162 0 51 (dk_at dksX3_feltBy_0 11 rfl rfl)
theorem dX3_feltBy_14 : decode cX3_feltBy 14 = .ok (.aload_n 0, 1) := dk_42 (dk_at dksX3_feltBy_0 14 rfl rfl)
theorem dX3_feltBy_15 : decode cX3_feltBy 15 = .ok (.getfield 86, 3) := dk_180 0 86 (dk_at dksX3_feltBy_0 15 rfl rfl)
theorem dX3_feltBy_18 : decode cX3_feltBy 18 = .ok (.iload_n 3, 1) := dk_29 (dk_at dksX3_feltBy_0 18 rfl rfl)
theorem dX3_feltBy_19 : decode cX3_feltBy 19 = .ok (.iaload, 1) := dk_46 (dk_at dksX3_feltBy_0 19 rfl rfl)
theorem dX3_feltBy_20 : decode cX3_feltBy 20 = .ok (.istore 4, 2) := dk_54 4 (dk_at dksX3_feltBy_0 20 rfl rfl)
theorem dX3_feltBy_22 : decode cX3_feltBy 22 = .ok (.iload_n 1, 1) := dk_27 (dk_at dksX3_feltBy_0 22 rfl rfl)
theorem dX3_feltBy_23 : decode cX3_feltBy 23 = .ok (.aload_n 0, 1) := dk_42 (dk_at dksX3_feltBy_0 23 rfl rfl)
theorem dX3_feltBy_24 : decode cX3_feltBy 24 = .ok (.getfield 44, 3) := dk_180 0 44 (dk_at dksX3_feltBy_1 0 rfl rfl)
theorem dX3_feltBy_27 : decode cX3_feltBy 27 = .ok (.iload 4, 2) := dk_21 4 (dk_at dksX3_feltBy_1 3 rfl rfl)
theorem dX3_feltBy_29 : decode cX3_feltBy 29 = .ok (.iaload, 1) := dk_46 (dk_at dksX3_feltBy_1 5 rfl rfl)
theorem dX3_feltBy_30 : decode cX3_feltBy 30 = .ok (.iconst 2, 1) := dk_5 (dk_at dksX3_feltBy_1 6 rfl rfl)
theorem dX3_feltBy_31 : decode cX3_feltBy 31 = .ok (.iload_n 2, 1) := dk_28 (dk_at dksX3_feltBy_1 7 rfl rfl)
theorem dX3_feltBy_32 : decode cX3_feltBy 32 = .ok (.imul, 1) := dk_104 (dk_at dksX3_feltBy_1 8 rfl rfl)
theorem dX3_feltBy_33 : decode cX3_feltBy 33 = .ok (.aload_n 0, 1) := dk_42 (dk_at dksX3_feltBy_1 9 rfl rfl)
theorem dX3_feltBy_34 : decode cX3_feltBy 34 = .ok (.getfield 41, 3) := dk_180 0 41 (dk_at dksX3_feltBy_1 10 rfl rfl)
theorem dX3_feltBy_37 : decode cX3_feltBy 37 = .ok (.iload 4, 2) := dk_21 4 (dk_at dksX3_feltBy_1 13 rfl rfl)
theorem dX3_feltBy_39 : decode cX3_feltBy 39 = .ok (.iaload, 1) := dk_46 (dk_at dksX3_feltBy_1 15 rfl rfl)
theorem dX3_feltBy_40 : decode cX3_feltBy 40 = .ok (.iadd, 1) := dk_96 (dk_at dksX3_feltBy_1 16 rfl rfl)
theorem dX3_feltBy_41 : decode cX3_feltBy 41 = .ok (.iconst 1, 1) := dk_4 (dk_at dksX3_feltBy_1 17 rfl rfl)
theorem dX3_feltBy_42 : decode cX3_feltBy 42 = .ok (.iadd, 1) := dk_96 (dk_at dksX3_feltBy_1 18 rfl rfl)
theorem dX3_feltBy_43 : decode cX3_feltBy 43 = .ok (.imul, 1) := dk_104 (dk_at dksX3_feltBy_1 19 rfl rfl)
theorem dX3_feltBy_44 : decode cX3_feltBy 44 = .ok (.iadd, 1) := dk_96 (dk_at dksX3_feltBy_1 20 rfl rfl)
theorem dX3_feltBy_45 : decode cX3_feltBy 45 = .ok (.istore_n 1, 1) := dk_60 (dk_at dksX3_feltBy_1 21 rfl rfl)
theorem dX3_feltBy_46 : decode cX3_feltBy 46 = .ok (.iload_n 2, 1) := dk_28 (dk_at dksX3_feltBy_1 22 rfl rfl)
theorem dX3_feltBy_47 : decode cX3_feltBy 47 = .ok (.aload_n 0, 1) := dk_42 (dk_at dksX3_feltBy_1 23 rfl rfl)
theorem dX3_feltBy_48 : decode cX3_feltBy 48 = .ok (.getfield 41, 3) := dk_180 0 41 (dk_at dksX3_feltBy_2 0 rfl rfl)
theorem dX3_feltBy_51 : decode cX3_feltBy 51 = .ok (.iload 4, 2) := dk_21 4 (dk_at dksX3_feltBy_2 3 rfl rfl)
theorem dX3_feltBy_53 : decode cX3_feltBy 53 = .ok (.iaload, 1) := dk_46 (dk_at dksX3_feltBy_2 5 rfl rfl)
theorem dX3_feltBy_54 : decode cX3_feltBy 54 = .ok (.iadd, 1) := dk_96 (dk_at dksX3_feltBy_2 6 rfl rfl)
theorem dX3_feltBy_55 : decode cX3_feltBy 55 = .ok (.istore_n 2, 1) := dk_61 (dk_at dksX3_feltBy_2 7 rfl rfl)
theorem dX3_feltBy_56 : decode cX3_feltBy 56 = .ok (.iinc 3 1, 3) := dk_132 3 1 (dk_at dksX3_feltBy_2 8 rfl rfl)
theorem dX3_feltBy_59 : decode cX3_feltBy 59 = .ok (.goto (-53), 3) := dk_167 255 203 (dk_at dksX3_feltBy_2 11 rfl rfl)
theorem dX3_feltBy_62 : decode cX3_feltBy 62 = .ok (.iload_n 1, 1) := dk_27 (dk_at dksX3_feltBy_2 14 rfl rfl)
theorem dX3_feltBy_63 : decode cX3_feltBy 63 = .ok (.ireturn, 1) := dk_172 (dk_at dksX3_feltBy_2 15 rfl rfl)
def dkwX3_common_0 : List UInt8 := [26, 61, 27, 62, 29, 153, 0, 16, 28, 29, 112, 54, 4, 29, 61, 21, 4, 62, 167, 255, 242, 28, 172]
abbrev dktX3_common_0 : List UInt8 := dkwX3_common_0 ++ []
theorem dksX3_common_0 : cX3_common.data.toList.drop 0 = dktX3_common_0 := by decide +kernel
theorem dX3_common_0 : decode cX3_common 0 = .ok (.iload_n 0, 1) := dk_26 (dk_at dksX3_common_0 0 rfl rfl)
theorem dX3_common_1 : decode cX3_common 1 = .ok (.istore_n 2, 1) := dk_61 (dk_at dksX3_common_0 1 rfl rfl)
theorem dX3_common_2 : decode cX3_common 2 = .ok (.iload_n 1, 1) := dk_27 (dk_at dksX3_common_0 2 rfl rfl)
theorem dX3_common_3 : decode cX3_common 3 = .ok (.istore_n 3, 1) := dk_62 (dk_at dksX3_common_0 3 rfl rfl)
theorem dX3_common_4 : decode cX3_common 4 = .ok (.iload_n 3, 1) := dk_29 (dk_at dksX3_common_0 4 rfl rfl)
theorem dX3_common_5 : decode cX3_common 5 = .ok (.ifCond .eq 16, 3) := dk_153 0 16 (dk_at dksX3_common_0 5 rfl rfl)
theorem dX3_common_8 : decode cX3_common 8 = .ok (.iload_n 2, 1) := dk_28 (dk_at dksX3_common_0 8 rfl rfl)
theorem dX3_common_9 : decode cX3_common 9 = .ok (.iload_n 3, 1) := dk_29 (dk_at dksX3_common_0 9 rfl rfl)
theorem dX3_common_10 : decode cX3_common 10 = .ok (.irem, 1) := dk_112 (dk_at dksX3_common_0 10 rfl rfl)
theorem dX3_common_11 : decode cX3_common 11 = .ok (.istore 4, 2) := dk_54 4 (dk_at dksX3_common_0 11 rfl rfl)
theorem dX3_common_13 : decode cX3_common 13 = .ok (.iload_n 3, 1) := dk_29 (dk_at dksX3_common_0 13 rfl rfl)
theorem dX3_common_14 : decode cX3_common 14 = .ok (.istore_n 2, 1) := dk_61 (dk_at dksX3_common_0 14 rfl rfl)
theorem dX3_common_15 : decode cX3_common 15 = .ok (.iload 4, 2) := dk_21 4 (dk_at dksX3_common_0 15 rfl rfl)
theorem dX3_common_17 : decode cX3_common 17 = .ok (.istore_n 3, 1) := dk_62 (dk_at dksX3_common_0 17 rfl rfl)
theorem dX3_common_18 : decode cX3_common 18 = .ok (.goto (-14), 3) := dk_167 255 242 (dk_at dksX3_common_0 18 rfl rfl)
theorem dX3_common_21 : decode cX3_common 21 = .ok (.iload_n 2, 1) := dk_28 (dk_at dksX3_common_0 21 rfl rfl)
theorem dX3_common_22 : decode cX3_common 22 = .ok (.ireturn, 1) := dk_172 (dk_at dksX3_common_0 22 rfl rfl)
def dkwX3_best_4 : List UInt8 := [180, 0, 86, 28, 46, 172]
abbrev dktX3_best_4 : List UInt8 := dkwX3_best_4 ++ []
def dkwX3_best_3 : List UInt8 := [21, 5, 62, 42, 182, 1, 121, 54, 4, 132, 5, 1, 167, 255, 213, 42, 29, 182, 1, 118, 54, 5, 42]
abbrev dktX3_best_3 : List UInt8 := dkwX3_best_3 ++ dktX3_best_4
def dkwX3_best_2 : List UInt8 := [42, 21, 5, 182, 1, 118, 153, 0, 26, 29, 2, 159, 0, 12, 42, 182, 1, 121, 21, 4, 162, 0, 12]
abbrev dktX3_best_2 : List UInt8 := dkwX3_best_2 ++ dktX3_best_3
def dkwX3_best_1 : List UInt8 := [182, 0, 246, 154, 0, 5, 2, 172, 2, 62, 3, 54, 4, 3, 54, 5, 21, 5, 17, 39, 16, 162, 0, 41]
abbrev dktX3_best_1 : List UInt8 := dkwX3_best_1 ++ dktX3_best_2
def dkwX3_best_0 : List UInt8 := [42, 3, 181, 0, 111, 42, 27, 182, 1, 14, 153, 0, 18, 42, 182, 1, 115, 153, 0, 11, 42, 28]
abbrev dktX3_best_0 : List UInt8 := dkwX3_best_0 ++ dktX3_best_1
theorem dksX3_best_0 : cX3_best.data.toList.drop 0 = dktX3_best_0 := by decide +kernel
theorem dksX3_best_1 : cX3_best.data.toList.drop 22 = dktX3_best_1 := dk_seg dksX3_best_0 22 rfl rfl
theorem dksX3_best_2 : cX3_best.data.toList.drop 46 = dktX3_best_2 := dk_seg dksX3_best_1 24 rfl rfl
theorem dksX3_best_3 : cX3_best.data.toList.drop 69 = dktX3_best_3 := dk_seg dksX3_best_2 23 rfl rfl
theorem dksX3_best_4 : cX3_best.data.toList.drop 92 = dktX3_best_4 := dk_seg dksX3_best_3 23 rfl rfl
theorem dX3_best_0 : decode cX3_best 0 = .ok (.aload_n 0, 1) := dk_42 (dk_at dksX3_best_0 0 rfl rfl)
theorem dX3_best_1 : decode cX3_best 1 = .ok (.iconst 0, 1) := dk_3 (dk_at dksX3_best_0 1 rfl rfl)
theorem dX3_best_2 : decode cX3_best 2 = .ok (.putfield 111, 3) := dk_181 0 111 (dk_at dksX3_best_0 2 rfl rfl)
theorem dX3_best_5 : decode cX3_best 5 = .ok (.aload_n 0, 1) := dk_42 (dk_at dksX3_best_0 5 rfl rfl)
theorem dX3_best_6 : decode cX3_best 6 = .ok (.iload_n 1, 1) := dk_27 (dk_at dksX3_best_0 6 rfl rfl)
theorem dX3_best_7 : decode cX3_best 7 = .ok (.invokevirtual 270, 3) := dk_182 1 14 (dk_at dksX3_best_0 7 rfl rfl)
theorem dX3_best_10 : decode cX3_best 10 = .ok (.ifCond .eq 18, 3) := dk_153 0 18 (dk_at dksX3_best_0 10 rfl rfl)
theorem dX3_best_13 : decode cX3_best 13 = .ok (.aload_n 0, 1) := dk_42 (dk_at dksX3_best_0 13 rfl rfl)
theorem dX3_best_14 : decode cX3_best 14 = .ok (.invokevirtual 371, 3) := dk_182 1 115 (dk_at dksX3_best_0 14 rfl rfl)
theorem dX3_best_17 : decode cX3_best 17 = .ok (.ifCond .eq 11, 3) := dk_153 0 11 (dk_at dksX3_best_0 17 rfl rfl)
theorem dX3_best_20 : decode cX3_best 20 = .ok (.aload_n 0, 1) := dk_42 (dk_at dksX3_best_0 20 rfl rfl)
theorem dX3_best_21 : decode cX3_best 21 = .ok (.iload_n 2, 1) := dk_28 (dk_at dksX3_best_0 21 rfl rfl)
theorem dX3_best_22 : decode cX3_best 22 = .ok (.invokevirtual 246, 3) := dk_182 0 246 (dk_at dksX3_best_1 0 rfl rfl)
theorem dX3_best_25 : decode cX3_best 25 = .ok (.ifCond .ne 5, 3) := dk_154 0 5 (dk_at dksX3_best_1 3 rfl rfl)
theorem dX3_best_28 : decode cX3_best 28 = .ok (.iconst (-1), 1) := dk_2 (dk_at dksX3_best_1 6 rfl rfl)
theorem dX3_best_29 : decode cX3_best 29 = .ok (.ireturn, 1) := dk_172 (dk_at dksX3_best_1 7 rfl rfl)
theorem dX3_best_30 : decode cX3_best 30 = .ok (.iconst (-1), 1) := dk_2 (dk_at dksX3_best_1 8 rfl rfl)
theorem dX3_best_31 : decode cX3_best 31 = .ok (.istore_n 3, 1) := dk_62 (dk_at dksX3_best_1 9 rfl rfl)
theorem dX3_best_32 : decode cX3_best 32 = .ok (.iconst 0, 1) := dk_3 (dk_at dksX3_best_1 10 rfl rfl)
theorem dX3_best_33 : decode cX3_best 33 = .ok (.istore 4, 2) := dk_54 4 (dk_at dksX3_best_1 11 rfl rfl)
theorem dX3_best_35 : decode cX3_best 35 = .ok (.iconst 0, 1) := dk_3 (dk_at dksX3_best_1 13 rfl rfl)
theorem dX3_best_36 : decode cX3_best 36 = .ok (.istore 5, 2) := dk_54 5 (dk_at dksX3_best_1 14 rfl rfl)
theorem dX3_best_38 : decode cX3_best 38 = .ok (.iload 5, 2) := dk_21 5 (dk_at dksX3_best_1 16 rfl rfl)
theorem dX3_best_40 : decode cX3_best 40 = .ok (.sipush 10000, 3) := dk_17 39 16 (dk_at dksX3_best_1 18 rfl rfl)
theorem dX3_best_43 : decode cX3_best 43 = .ok (.if_icmp .ge 41, 3) := dk_162 0 41 (dk_at dksX3_best_1 21 rfl rfl)
theorem dX3_best_46 : decode cX3_best 46 = .ok (.aload_n 0, 1) := dk_42 (dk_at dksX3_best_2 0 rfl rfl)
theorem dX3_best_47 : decode cX3_best 47 = .ok (.iload 5, 2) := dk_21 5 (dk_at dksX3_best_2 1 rfl rfl)
theorem dX3_best_49 : decode cX3_best 49 = .ok (.invokevirtual 374, 3) := dk_182 1 118 (dk_at dksX3_best_2 3 rfl rfl)
theorem dX3_best_52 : decode cX3_best 52 = .ok (.ifCond .eq 26, 3) := dk_153 0 26 (dk_at dksX3_best_2 6 rfl rfl)
theorem dX3_best_55 : decode cX3_best 55 = .ok (.iload_n 3, 1) := dk_29 (dk_at dksX3_best_2 9 rfl rfl)
theorem dX3_best_56 : decode cX3_best 56 = .ok (.iconst (-1), 1) := dk_2 (dk_at dksX3_best_2 10 rfl rfl)
theorem dX3_best_57 : decode cX3_best 57 = .ok (.if_icmp .eq 12, 3) := dk_159 0 12 (dk_at dksX3_best_2 11 rfl rfl)
theorem dX3_best_60 : decode cX3_best 60 = .ok (.aload_n 0, 1) := dk_42 (dk_at dksX3_best_2 14 rfl rfl)
theorem dX3_best_61 : decode cX3_best 61 = .ok (.invokevirtual 377, 3) := dk_182 1 121 (dk_at dksX3_best_2 15 rfl rfl)
theorem dX3_best_64 : decode cX3_best 64 = .ok (.iload 4, 2) := dk_21 4 (dk_at dksX3_best_2 18 rfl rfl)
theorem dX3_best_66 : decode cX3_best 66 = .ok (.if_icmp .ge 12, 3) := dk_162 0 12 (dk_at dksX3_best_2 20 rfl rfl)
theorem dX3_best_69 : decode cX3_best 69 = .ok (.iload 5, 2) := dk_21 5 (dk_at dksX3_best_3 0 rfl rfl)
theorem dX3_best_71 : decode cX3_best 71 = .ok (.istore_n 3, 1) := dk_62 (dk_at dksX3_best_3 2 rfl rfl)
theorem dX3_best_72 : decode cX3_best 72 = .ok (.aload_n 0, 1) := dk_42 (dk_at dksX3_best_3 3 rfl rfl)
theorem dX3_best_73 : decode cX3_best 73 = .ok (.invokevirtual 377, 3) := dk_182 1 121 (dk_at dksX3_best_3 4 rfl rfl)
theorem dX3_best_76 : decode cX3_best 76 = .ok (.istore 4, 2) := dk_54 4 (dk_at dksX3_best_3 7 rfl rfl)
theorem dX3_best_78 : decode cX3_best 78 = .ok (.iinc 5 1, 3) := dk_132 5 1 (dk_at dksX3_best_3 9 rfl rfl)
theorem dX3_best_81 : decode cX3_best 81 = .ok (.goto (-43), 3) := dk_167 255 213 (dk_at dksX3_best_3 12 rfl rfl)
theorem dX3_best_84 : decode cX3_best 84 = .ok (.aload_n 0, 1) := dk_42 (dk_at dksX3_best_3 15 rfl rfl)
theorem dX3_best_85 : decode cX3_best 85 = .ok (.iload_n 3, 1) := dk_29 (dk_at dksX3_best_3 16 rfl rfl)
theorem dX3_best_86 : decode cX3_best 86 = .ok (.invokevirtual 374, 3) := dk_182 1 118 (dk_at dksX3_best_3 17 rfl rfl)
theorem dX3_best_89 : decode cX3_best 89 = .ok (.istore 5, 2) := dk_54 5 (dk_at dksX3_best_3 20 rfl rfl)
theorem dX3_best_91 : decode cX3_best 91 = .ok (.aload_n 0, 1) := dk_42 (dk_at dksX3_best_3 22 rfl rfl)
theorem dX3_best_92 : decode cX3_best 92 = .ok (.getfield 86, 3) := dk_180 0 86 (dk_at dksX3_best_4 0 rfl rfl)
theorem dX3_best_95 : decode cX3_best 95 = .ok (.iload_n 2, 1) := dk_28 (dk_at dksX3_best_4 3 rfl rfl)
theorem dX3_best_96 : decode cX3_best 96 = .ok (.iaload, 1) := dk_46 (dk_at dksX3_best_4 4 rfl rfl)
theorem dX3_best_97 : decode cX3_best 97 = .ok (.ireturn, 1) := dk_172 (dk_at dksX3_best_4 5 rfl rfl)
def dkwX3_deed_3 : List UInt8 := [167, 0, 5, 16, 254, 172]
abbrev dktX3_deed_3 : List UInt8 := dkwX3_deed_3 ++ []
def dkwX3_deed_2 : List UInt8 := [100, 184, 0, 123, 153, 0, 21, 29, 3, 6, 184, 0, 123, 153, 0, 12, 42, 28, 29, 182, 1, 133]
abbrev dktX3_deed_2 : List UInt8 := dkwX3_deed_2 ++ dktX3_deed_3
def dkwX3_deed_1 : List UInt8 := [160, 0, 17, 29, 154, 0, 10, 42, 182, 1, 130, 167, 0, 5, 16, 254, 172, 28, 3, 42, 182, 1, 130, 4]
abbrev dktX3_deed_1 : List UInt8 := dkwX3_deed_1 ++ dktX3_deed_2
def dkwX3_deed_0 : List UInt8 := [42, 3, 181, 0, 111, 42, 4, 27, 182, 0, 223, 154, 0, 6, 16, 254, 172, 42, 27, 181, 1, 127, 28, 2]
abbrev dktX3_deed_0 : List UInt8 := dkwX3_deed_0 ++ dktX3_deed_1
theorem dksX3_deed_0 : cX3_deed.data.toList.drop 0 = dktX3_deed_0 := by decide +kernel
theorem dksX3_deed_1 : cX3_deed.data.toList.drop 24 = dktX3_deed_1 := dk_seg dksX3_deed_0 24 rfl rfl
theorem dksX3_deed_2 : cX3_deed.data.toList.drop 48 = dktX3_deed_2 := dk_seg dksX3_deed_1 24 rfl rfl
theorem dksX3_deed_3 : cX3_deed.data.toList.drop 70 = dktX3_deed_3 := dk_seg dksX3_deed_2 22 rfl rfl
theorem dX3_deed_0 : decode cX3_deed 0 = .ok (.aload_n 0, 1) := dk_42 (dk_at dksX3_deed_0 0 rfl rfl)
theorem dX3_deed_1 : decode cX3_deed 1 = .ok (.iconst 0, 1) := dk_3 (dk_at dksX3_deed_0 1 rfl rfl)
theorem dX3_deed_2 : decode cX3_deed 2 = .ok (.putfield 111, 3) := dk_181 0 111 (dk_at dksX3_deed_0 2 rfl rfl)
theorem dX3_deed_5 : decode cX3_deed 5 = .ok (.aload_n 0, 1) := dk_42 (dk_at dksX3_deed_0 5 rfl rfl)
theorem dX3_deed_6 : decode cX3_deed 6 = .ok (.iconst 1, 1) := dk_4 (dk_at dksX3_deed_0 6 rfl rfl)
theorem dX3_deed_7 : decode cX3_deed 7 = .ok (.iload_n 1, 1) := dk_27 (dk_at dksX3_deed_0 7 rfl rfl)
theorem dX3_deed_8 : decode cX3_deed 8 = .ok (.invokevirtual 223, 3) := dk_182 0 223 (dk_at dksX3_deed_0 8 rfl rfl)
theorem dX3_deed_11 : decode cX3_deed 11 = .ok (.ifCond .ne 6, 3) := dk_154 0 6 (dk_at dksX3_deed_0 11 rfl rfl)
theorem dX3_deed_14 : decode cX3_deed 14 = .ok (.bipush (-2), 2) := dk_16 254 (dk_at dksX3_deed_0 14 rfl rfl)
theorem dX3_deed_16 : decode cX3_deed 16 = .ok (.ireturn, 1) := dk_172 (dk_at dksX3_deed_0 16 rfl rfl)
theorem dX3_deed_17 : decode cX3_deed 17 = .ok (.aload_n 0, 1) := dk_42 (dk_at dksX3_deed_0 17 rfl rfl)
theorem dX3_deed_18 : decode cX3_deed 18 = .ok (.iload_n 1, 1) := dk_27 (dk_at dksX3_deed_0 18 rfl rfl)
theorem dX3_deed_19 : decode cX3_deed 19 = .ok (.putfield 383, 3) := dk_181 1 127 (dk_at dksX3_deed_0 19 rfl rfl)
theorem dX3_deed_22 : decode cX3_deed 22 = .ok (.iload_n 2, 1) := dk_28 (dk_at dksX3_deed_0 22 rfl rfl)
theorem dX3_deed_23 : decode cX3_deed 23 = .ok (.iconst (-1), 1) := dk_2 (dk_at dksX3_deed_0 23 rfl rfl)
theorem dX3_deed_24 : decode cX3_deed 24 = .ok (.if_icmp .ne 17, 3) := dk_160 0 17 (dk_at dksX3_deed_1 0 rfl rfl)
theorem dX3_deed_27 : decode cX3_deed 27 = .ok (.iload_n 3, 1) := dk_29 (dk_at dksX3_deed_1 3 rfl rfl)
theorem dX3_deed_28 : decode cX3_deed 28 = .ok (.ifCond .ne 10, 3) := dk_154 0 10 (dk_at dksX3_deed_1 4 rfl rfl)
theorem dX3_deed_31 : decode cX3_deed 31 = .ok (.aload_n 0, 1) := dk_42 (dk_at dksX3_deed_1 7 rfl rfl)
theorem dX3_deed_32 : decode cX3_deed 32 = .ok (.invokevirtual 386, 3) := dk_182 1 130 (dk_at dksX3_deed_1 8 rfl rfl)
theorem dX3_deed_35 : decode cX3_deed 35 = .ok (.goto 5, 3) := dk_167 0 5 (dk_at dksX3_deed_1 11 rfl rfl)
theorem dX3_deed_38 : decode cX3_deed 38 = .ok (.bipush (-2), 2) := dk_16 254 (dk_at dksX3_deed_1 14 rfl rfl)
theorem dX3_deed_40 : decode cX3_deed 40 = .ok (.ireturn, 1) := dk_172 (dk_at dksX3_deed_1 16 rfl rfl)
theorem dX3_deed_41 : decode cX3_deed 41 = .ok (.iload_n 2, 1) := dk_28 (dk_at dksX3_deed_1 17 rfl rfl)
theorem dX3_deed_42 : decode cX3_deed 42 = .ok (.iconst 0, 1) := dk_3 (dk_at dksX3_deed_1 18 rfl rfl)
theorem dX3_deed_43 : decode cX3_deed 43 = .ok (.aload_n 0, 1) := dk_42 (dk_at dksX3_deed_1 19 rfl rfl)
theorem dX3_deed_44 : decode cX3_deed 44 = .ok (.invokevirtual 386, 3) := dk_182 1 130 (dk_at dksX3_deed_1 20 rfl rfl)
theorem dX3_deed_47 : decode cX3_deed 47 = .ok (.iconst 1, 1) := dk_4 (dk_at dksX3_deed_1 23 rfl rfl)
theorem dX3_deed_48 : decode cX3_deed 48 = .ok (.isub, 1) := dk_100 (dk_at dksX3_deed_2 0 rfl rfl)
theorem dX3_deed_49 : decode cX3_deed 49 = .ok (.invokestatic 123, 3) := dk_184 0 123 (dk_at dksX3_deed_2 1 rfl rfl)
theorem dX3_deed_52 : decode cX3_deed 52 = .ok (.ifCond .eq 21, 3) := dk_153 0 21 (dk_at dksX3_deed_2 4 rfl rfl)
theorem dX3_deed_55 : decode cX3_deed 55 = .ok (.iload_n 3, 1) := dk_29 (dk_at dksX3_deed_2 7 rfl rfl)
theorem dX3_deed_56 : decode cX3_deed 56 = .ok (.iconst 0, 1) := dk_3 (dk_at dksX3_deed_2 8 rfl rfl)
theorem dX3_deed_57 : decode cX3_deed 57 = .ok (.iconst 3, 1) := dk_6 (dk_at dksX3_deed_2 9 rfl rfl)
theorem dX3_deed_58 : decode cX3_deed 58 = .ok (.invokestatic 123, 3) := dk_184 0 123 (dk_at dksX3_deed_2 10 rfl rfl)
theorem dX3_deed_61 : decode cX3_deed 61 = .ok (.ifCond .eq 12, 3) := dk_153 0 12 (dk_at dksX3_deed_2 13 rfl rfl)
theorem dX3_deed_64 : decode cX3_deed 64 = .ok (.aload_n 0, 1) := dk_42 (dk_at dksX3_deed_2 16 rfl rfl)
theorem dX3_deed_65 : decode cX3_deed 65 = .ok (.iload_n 2, 1) := dk_28 (dk_at dksX3_deed_2 17 rfl rfl)
theorem dX3_deed_66 : decode cX3_deed 66 = .ok (.iload_n 3, 1) := dk_29 (dk_at dksX3_deed_2 18 rfl rfl)
theorem dX3_deed_67 : decode cX3_deed 67 = .ok (.invokevirtual 389, 3) := dk_182 1 133 (dk_at dksX3_deed_2 19 rfl rfl)
theorem dX3_deed_70 : decode cX3_deed 70 = .ok (.goto 5, 3) := dk_167 0 5 (dk_at dksX3_deed_3 0 rfl rfl)
theorem dX3_deed_73 : decode cX3_deed 73 = .ok (.bipush (-2), 2) := dk_16 254 (dk_at dksX3_deed_3 3 rfl rfl)
theorem dX3_deed_75 : decode cX3_deed 75 = .ok (.ireturn, 1) := dk_172 (dk_at dksX3_deed_3 5 rfl rfl)
def dkwX3_deeds_0 : List UInt8 := [42, 180, 0, 29, 17, 0, 161, 42, 180, 1, 127, 104, 46, 172]
abbrev dktX3_deeds_0 : List UInt8 := dkwX3_deeds_0 ++ []
theorem dksX3_deeds_0 : cX3_deeds.data.toList.drop 0 = dktX3_deeds_0 := by decide +kernel
theorem dX3_deeds_0 : decode cX3_deeds 0 = .ok (.aload_n 0, 1) := dk_42 (dk_at dksX3_deeds_0 0 rfl rfl)
theorem dX3_deeds_1 : decode cX3_deeds 1 = .ok (.getfield 29, 3) := dk_180 0 29 (dk_at dksX3_deeds_0 1 rfl rfl)
theorem dX3_deeds_4 : decode cX3_deeds 4 = .ok (.sipush 161, 3) := dk_17 0 161 (dk_at dksX3_deeds_0 4 rfl rfl)
theorem dX3_deeds_7 : decode cX3_deeds 7 = .ok (.aload_n 0, 1) := dk_42 (dk_at dksX3_deeds_0 7 rfl rfl)
theorem dX3_deeds_8 : decode cX3_deeds 8 = .ok (.getfield 383, 3) := dk_180 1 127 (dk_at dksX3_deeds_0 8 rfl rfl)
theorem dX3_deeds_11 : decode cX3_deeds 11 = .ok (.imul, 1) := dk_104 (dk_at dksX3_deeds_0 11 rfl rfl)
theorem dX3_deeds_12 : decode cX3_deeds 12 = .ok (.iaload, 1) := dk_46 (dk_at dksX3_deeds_0 12 rfl rfl)
theorem dX3_deeds_13 : decode cX3_deeds 13 = .ok (.ireturn, 1) := dk_172 (dk_at dksX3_deeds_0 13 rfl rfl)
def dkwX3_deedOf_0 : List UInt8 := [42, 180, 0, 29, 17, 0, 161, 42, 180, 1, 127, 104, 4, 96, 7, 27, 104, 96, 28, 96, 46, 172]
abbrev dktX3_deedOf_0 : List UInt8 := dkwX3_deedOf_0 ++ []
theorem dksX3_deedOf_0 : cX3_deedOf.data.toList.drop 0 = dktX3_deedOf_0 := by decide +kernel
theorem dX3_deedOf_0 : decode cX3_deedOf 0 = .ok (.aload_n 0, 1) := dk_42 (dk_at dksX3_deedOf_0 0 rfl rfl)
theorem dX3_deedOf_1 : decode cX3_deedOf 1 = .ok (.getfield 29, 3) := dk_180 0 29 (dk_at dksX3_deedOf_0 1 rfl rfl)
theorem dX3_deedOf_4 : decode cX3_deedOf 4 = .ok (.sipush 161, 3) := dk_17 0 161 (dk_at dksX3_deedOf_0 4 rfl rfl)
theorem dX3_deedOf_7 : decode cX3_deedOf 7 = .ok (.aload_n 0, 1) := dk_42 (dk_at dksX3_deedOf_0 7 rfl rfl)
theorem dX3_deedOf_8 : decode cX3_deedOf 8 = .ok (.getfield 383, 3) := dk_180 1 127 (dk_at dksX3_deedOf_0 8 rfl rfl)
theorem dX3_deedOf_11 : decode cX3_deedOf 11 = .ok (.imul, 1) := dk_104 (dk_at dksX3_deedOf_0 11 rfl rfl)
theorem dX3_deedOf_12 : decode cX3_deedOf 12 = .ok (.iconst 1, 1) := dk_4 (dk_at dksX3_deedOf_0 12 rfl rfl)
theorem dX3_deedOf_13 : decode cX3_deedOf 13 = .ok (.iadd, 1) := dk_96 (dk_at dksX3_deedOf_0 13 rfl rfl)
theorem dX3_deedOf_14 : decode cX3_deedOf 14 = .ok (.iconst 4, 1) := dk_7 (dk_at dksX3_deedOf_0 14 rfl rfl)
theorem dX3_deedOf_15 : decode cX3_deedOf 15 = .ok (.iload_n 1, 1) := dk_27 (dk_at dksX3_deedOf_0 15 rfl rfl)
theorem dX3_deedOf_16 : decode cX3_deedOf 16 = .ok (.imul, 1) := dk_104 (dk_at dksX3_deedOf_0 16 rfl rfl)
theorem dX3_deedOf_17 : decode cX3_deedOf 17 = .ok (.iadd, 1) := dk_96 (dk_at dksX3_deedOf_0 17 rfl rfl)
theorem dX3_deedOf_18 : decode cX3_deedOf 18 = .ok (.iload_n 2, 1) := dk_28 (dk_at dksX3_deedOf_0 18 rfl rfl)
theorem dX3_deedOf_19 : decode cX3_deedOf 19 = .ok (.iadd, 1) := dk_96 (dk_at dksX3_deedOf_0 19 rfl rfl)
theorem dX3_deedOf_20 : decode cX3_deedOf 20 = .ok (.iaload, 1) := dk_46 (dk_at dksX3_deedOf_0 20 rfl rfl)
theorem dX3_deedOf_21 : decode cX3_deedOf 21 = .ok (.ireturn, 1) := dk_172 (dk_at dksX3_deedOf_0 21 rfl rfl)
def dkwX3_stop_1 : List UInt8 := [42, 182, 1, 160, 42, 28, 181, 1, 127, 42, 42, 182, 1, 130, 182, 1, 163, 172]
abbrev dktX3_stop_1 : List UInt8 := dkwX3_stop_1 ++ []
def dkwX3_stop_0 : List UInt8 := [42, 3, 181, 0, 111, 42, 4, 28, 182, 0, 223, 153, 0, 11, 42, 27, 182, 1, 14, 154, 0, 5, 2, 172]
abbrev dktX3_stop_0 : List UInt8 := dkwX3_stop_0 ++ dktX3_stop_1
theorem dksX3_stop_0 : cX3_stop.data.toList.drop 0 = dktX3_stop_0 := by decide +kernel
theorem dksX3_stop_1 : cX3_stop.data.toList.drop 24 = dktX3_stop_1 := dk_seg dksX3_stop_0 24 rfl rfl
theorem dX3_stop_0 : decode cX3_stop 0 = .ok (.aload_n 0, 1) := dk_42 (dk_at dksX3_stop_0 0 rfl rfl)
theorem dX3_stop_1 : decode cX3_stop 1 = .ok (.iconst 0, 1) := dk_3 (dk_at dksX3_stop_0 1 rfl rfl)
theorem dX3_stop_2 : decode cX3_stop 2 = .ok (.putfield 111, 3) := dk_181 0 111 (dk_at dksX3_stop_0 2 rfl rfl)
theorem dX3_stop_5 : decode cX3_stop 5 = .ok (.aload_n 0, 1) := dk_42 (dk_at dksX3_stop_0 5 rfl rfl)
theorem dX3_stop_6 : decode cX3_stop 6 = .ok (.iconst 1, 1) := dk_4 (dk_at dksX3_stop_0 6 rfl rfl)
theorem dX3_stop_7 : decode cX3_stop 7 = .ok (.iload_n 2, 1) := dk_28 (dk_at dksX3_stop_0 7 rfl rfl)
theorem dX3_stop_8 : decode cX3_stop 8 = .ok (.invokevirtual 223, 3) := dk_182 0 223 (dk_at dksX3_stop_0 8 rfl rfl)
theorem dX3_stop_11 : decode cX3_stop 11 = .ok (.ifCond .eq 11, 3) := dk_153 0 11 (dk_at dksX3_stop_0 11 rfl rfl)
theorem dX3_stop_14 : decode cX3_stop 14 = .ok (.aload_n 0, 1) := dk_42 (dk_at dksX3_stop_0 14 rfl rfl)
theorem dX3_stop_15 : decode cX3_stop 15 = .ok (.iload_n 1, 1) := dk_27 (dk_at dksX3_stop_0 15 rfl rfl)
theorem dX3_stop_16 : decode cX3_stop 16 = .ok (.invokevirtual 270, 3) := dk_182 1 14 (dk_at dksX3_stop_0 16 rfl rfl)
theorem dX3_stop_19 : decode cX3_stop 19 = .ok (.ifCond .ne 5, 3) := dk_154 0 5 (dk_at dksX3_stop_0 19 rfl rfl)
theorem dX3_stop_22 : decode cX3_stop 22 = .ok (.iconst (-1), 1) := dk_2 (dk_at dksX3_stop_0 22 rfl rfl)
theorem dX3_stop_23 : decode cX3_stop 23 = .ok (.ireturn, 1) := dk_172 (dk_at dksX3_stop_0 23 rfl rfl)
theorem dX3_stop_24 : decode cX3_stop 24 = .ok (.aload_n 0, 1) := dk_42 (dk_at dksX3_stop_1 0 rfl rfl)
theorem dX3_stop_25 : decode cX3_stop 25 = .ok (.invokevirtual 416, 3) := dk_182 1 160 (dk_at dksX3_stop_1 1 rfl rfl)
theorem dX3_stop_28 : decode cX3_stop 28 = .ok (.aload_n 0, 1) := dk_42 (dk_at dksX3_stop_1 4 rfl rfl)
theorem dX3_stop_29 : decode cX3_stop 29 = .ok (.iload_n 2, 1) := dk_28 (dk_at dksX3_stop_1 5 rfl rfl)
theorem dX3_stop_30 : decode cX3_stop 30 = .ok (.putfield 383, 3) := dk_181 1 127 (dk_at dksX3_stop_1 6 rfl rfl)
theorem dX3_stop_33 : decode cX3_stop 33 = .ok (.aload_n 0, 1) := dk_42 (dk_at dksX3_stop_1 9 rfl rfl)
theorem dX3_stop_34 : decode cX3_stop 34 = .ok (.aload_n 0, 1) := dk_42 (dk_at dksX3_stop_1 10 rfl rfl)
theorem dX3_stop_35 : decode cX3_stop 35 = .ok (.invokevirtual 386, 3) := dk_182 1 130 (dk_at dksX3_stop_1 11 rfl rfl)
theorem dX3_stop_38 : decode cX3_stop 38 = .ok (.invokevirtual 419, 3) := dk_182 1 163 (dk_at dksX3_stop_1 14 rfl rfl)
theorem dX3_stop_41 : decode cX3_stop 41 = .ok (.ireturn, 1) := dk_172 (dk_at dksX3_stop_1 17 rfl rfl)
def dkwX3_begin_3 : List UInt8 := [3, 181, 1, 148, 177]
abbrev dktX3_begin_3 : List UInt8 := dkwX3_begin_3 ++ []
def dkwX3_begin_2 : List UInt8 := [167, 255, 240, 42, 3, 181, 1, 136, 42, 2, 181, 1, 139, 42, 3, 181, 1, 142, 42, 3, 181, 1, 145, 42]
abbrev dktX3_begin_2 : List UInt8 := dkwX3_begin_2 ++ dktX3_begin_3
def dkwX3_begin_1 : List UInt8 := [132, 1, 1, 167, 255, 231, 3, 60, 27, 16, 32, 162, 0, 16, 42, 180, 0, 92, 27, 3, 79, 132, 1, 1]
abbrev dktX3_begin_1 : List UInt8 := dkwX3_begin_1 ++ dktX3_begin_2
def dkwX3_begin_0 : List UInt8 := [3, 60, 27, 16, 48, 162, 0, 25, 42, 180, 0, 89, 27, 10, 4, 42, 180, 0, 234, 120, 121, 10, 101, 80]
abbrev dktX3_begin_0 : List UInt8 := dkwX3_begin_0 ++ dktX3_begin_1
theorem dksX3_begin_0 : cX3_begin.data.toList.drop 0 = dktX3_begin_0 := by decide +kernel
theorem dksX3_begin_1 : cX3_begin.data.toList.drop 24 = dktX3_begin_1 := dk_seg dksX3_begin_0 24 rfl rfl
theorem dksX3_begin_2 : cX3_begin.data.toList.drop 48 = dktX3_begin_2 := dk_seg dksX3_begin_1 24 rfl rfl
theorem dksX3_begin_3 : cX3_begin.data.toList.drop 72 = dktX3_begin_3 := dk_seg dksX3_begin_2 24 rfl rfl
theorem dX3_begin_0 : decode cX3_begin 0 = .ok (.iconst 0, 1) := dk_3 (dk_at dksX3_begin_0 0 rfl rfl)
theorem dX3_begin_1 : decode cX3_begin 1 = .ok (.istore_n 1, 1) := dk_60 (dk_at dksX3_begin_0 1 rfl rfl)
theorem dX3_begin_2 : decode cX3_begin 2 = .ok (.iload_n 1, 1) := dk_27 (dk_at dksX3_begin_0 2 rfl rfl)
theorem dX3_begin_3 : decode cX3_begin 3 = .ok (.bipush 48, 2) := dk_16 48 (dk_at dksX3_begin_0 3 rfl rfl)
theorem dX3_begin_5 : decode cX3_begin 5 = .ok (.if_icmp .ge 25, 3) := dk_162 0 25 (dk_at dksX3_begin_0 5 rfl rfl)
theorem dX3_begin_8 : decode cX3_begin 8 = .ok (.aload_n 0, 1) := dk_42 (dk_at dksX3_begin_0 8 rfl rfl)
theorem dX3_begin_9 : decode cX3_begin 9 = .ok (.getfield 89, 3) := dk_180 0 89 (dk_at dksX3_begin_0 9 rfl rfl)
theorem dX3_begin_12 : decode cX3_begin 12 = .ok (.iload_n 1, 1) := dk_27 (dk_at dksX3_begin_0 12 rfl rfl)
theorem dX3_begin_13 : decode cX3_begin 13 = .ok (.lconst 1, 1) := dk_10 (dk_at dksX3_begin_0 13 rfl rfl)
theorem dX3_begin_14 : decode cX3_begin 14 = .ok (.iconst 1, 1) := dk_4 (dk_at dksX3_begin_0 14 rfl rfl)
theorem dX3_begin_15 : decode cX3_begin 15 = .ok (.aload_n 0, 1) := dk_42 (dk_at dksX3_begin_0 15 rfl rfl)
theorem dX3_begin_16 : decode cX3_begin 16 = .ok (.getfield 234, 3) := dk_180 0 234 (dk_at dksX3_begin_0 16 rfl rfl)
theorem dX3_begin_19 : decode cX3_begin 19 = .ok (.ishl, 1) := dk_120 (dk_at dksX3_begin_0 19 rfl rfl)
theorem dX3_begin_20 : decode cX3_begin 20 = .ok (.lshl, 1) := dk_121 (dk_at dksX3_begin_0 20 rfl rfl)
theorem dX3_begin_21 : decode cX3_begin 21 = .ok (.lconst 1, 1) := dk_10 (dk_at dksX3_begin_0 21 rfl rfl)
theorem dX3_begin_22 : decode cX3_begin 22 = .ok (.lsub, 1) := dk_101 (dk_at dksX3_begin_0 22 rfl rfl)
theorem dX3_begin_23 : decode cX3_begin 23 = .ok (.lastore, 1) := dk_80 (dk_at dksX3_begin_0 23 rfl rfl)
theorem dX3_begin_24 : decode cX3_begin 24 = .ok (.iinc 1 1, 3) := dk_132 1 1 (dk_at dksX3_begin_1 0 rfl rfl)
theorem dX3_begin_27 : decode cX3_begin 27 = .ok (.goto (-25), 3) := dk_167 255 231 (dk_at dksX3_begin_1 3 rfl rfl)
theorem dX3_begin_30 : decode cX3_begin 30 = .ok (.iconst 0, 1) := dk_3 (dk_at dksX3_begin_1 6 rfl rfl)
theorem dX3_begin_31 : decode cX3_begin 31 = .ok (.istore_n 1, 1) := dk_60 (dk_at dksX3_begin_1 7 rfl rfl)
theorem dX3_begin_32 : decode cX3_begin 32 = .ok (.iload_n 1, 1) := dk_27 (dk_at dksX3_begin_1 8 rfl rfl)
theorem dX3_begin_33 : decode cX3_begin 33 = .ok (.bipush 32, 2) := dk_16 32 (dk_at dksX3_begin_1 9 rfl rfl)
theorem dX3_begin_35 : decode cX3_begin 35 = .ok (.if_icmp .ge 16, 3) := dk_162 0 16 (dk_at dksX3_begin_1 11 rfl rfl)
theorem dX3_begin_38 : decode cX3_begin 38 = .ok (.aload_n 0, 1) := dk_42 (dk_at dksX3_begin_1 14 rfl rfl)
theorem dX3_begin_39 : decode cX3_begin 39 = .ok (.getfield 92, 3) := dk_180 0 92 (dk_at dksX3_begin_1 15 rfl rfl)
theorem dX3_begin_42 : decode cX3_begin 42 = .ok (.iload_n 1, 1) := dk_27 (dk_at dksX3_begin_1 18 rfl rfl)
theorem dX3_begin_43 : decode cX3_begin 43 = .ok (.iconst 0, 1) := dk_3 (dk_at dksX3_begin_1 19 rfl rfl)
theorem dX3_begin_44 : decode cX3_begin 44 = .ok (.iastore, 1) := dk_79 (dk_at dksX3_begin_1 20 rfl rfl)
theorem dX3_begin_45 : decode cX3_begin 45 = .ok (.iinc 1 1, 3) := dk_132 1 1 (dk_at dksX3_begin_1 21 rfl rfl)
theorem dX3_begin_48 : decode cX3_begin 48 = .ok (.goto (-16), 3) := dk_167 255 240 (dk_at dksX3_begin_2 0 rfl rfl)
theorem dX3_begin_51 : decode cX3_begin 51 = .ok (.aload_n 0, 1) := dk_42 (dk_at dksX3_begin_2 3 rfl rfl)
theorem dX3_begin_52 : decode cX3_begin 52 = .ok (.iconst 0, 1) := dk_3 (dk_at dksX3_begin_2 4 rfl rfl)
theorem dX3_begin_53 : decode cX3_begin 53 = .ok (.putfield 392, 3) := dk_181 1 136 (dk_at dksX3_begin_2 5 rfl rfl)
theorem dX3_begin_56 : decode cX3_begin 56 = .ok (.aload_n 0, 1) := dk_42 (dk_at dksX3_begin_2 8 rfl rfl)
theorem dX3_begin_57 : decode cX3_begin 57 = .ok (.iconst (-1), 1) := dk_2 (dk_at dksX3_begin_2 9 rfl rfl)
theorem dX3_begin_58 : decode cX3_begin 58 = .ok (.putfield 395, 3) := dk_181 1 139 (dk_at dksX3_begin_2 10 rfl rfl)
theorem dX3_begin_61 : decode cX3_begin 61 = .ok (.aload_n 0, 1) := dk_42 (dk_at dksX3_begin_2 13 rfl rfl)
theorem dX3_begin_62 : decode cX3_begin 62 = .ok (.iconst 0, 1) := dk_3 (dk_at dksX3_begin_2 14 rfl rfl)
theorem dX3_begin_63 : decode cX3_begin 63 = .ok (.putfield 398, 3) := dk_181 1 142 (dk_at dksX3_begin_2 15 rfl rfl)
theorem dX3_begin_66 : decode cX3_begin 66 = .ok (.aload_n 0, 1) := dk_42 (dk_at dksX3_begin_2 18 rfl rfl)
theorem dX3_begin_67 : decode cX3_begin 67 = .ok (.iconst 0, 1) := dk_3 (dk_at dksX3_begin_2 19 rfl rfl)
theorem dX3_begin_68 : decode cX3_begin 68 = .ok (.putfield 401, 3) := dk_181 1 145 (dk_at dksX3_begin_2 20 rfl rfl)
theorem dX3_begin_71 : decode cX3_begin 71 = .ok (.aload_n 0, 1) := dk_42 (dk_at dksX3_begin_2 23 rfl rfl)
theorem dX3_begin_72 : decode cX3_begin 72 = .ok (.iconst 0, 1) := dk_3 (dk_at dksX3_begin_3 0 rfl rfl)
theorem dX3_begin_73 : decode cX3_begin 73 = .ok (.putfield 404, 3) := dk_181 1 148 (dk_at dksX3_begin_3 1 rfl rfl)
theorem dX3_begin_76 : decode cX3_begin 76 = .ok (.return_, 1) := dk_177 (dk_at dksX3_begin_3 4 rfl rfl)
def dkwX3_doAll_1 : List UInt8 := [172]
abbrev dktX3_doAll_1 : List UInt8 := dkwX3_doAll_1 ++ []
def dkwX3_doAll_0 : List UInt8 := [3, 61, 28, 27, 162, 0, 19, 42, 28, 182, 1, 157, 154, 0, 5, 28, 172, 132, 2, 1, 167, 255, 238, 27]
abbrev dktX3_doAll_0 : List UInt8 := dkwX3_doAll_0 ++ dktX3_doAll_1
theorem dksX3_doAll_0 : cX3_doAll.data.toList.drop 0 = dktX3_doAll_0 := by decide +kernel
theorem dksX3_doAll_1 : cX3_doAll.data.toList.drop 24 = dktX3_doAll_1 := dk_seg dksX3_doAll_0 24 rfl rfl
theorem dX3_doAll_0 : decode cX3_doAll 0 = .ok (.iconst 0, 1) := dk_3 (dk_at dksX3_doAll_0 0 rfl rfl)
theorem dX3_doAll_1 : decode cX3_doAll 1 = .ok (.istore_n 2, 1) := dk_61 (dk_at dksX3_doAll_0 1 rfl rfl)
theorem dX3_doAll_2 : decode cX3_doAll 2 = .ok (.iload_n 2, 1) := dk_28 (dk_at dksX3_doAll_0 2 rfl rfl)
theorem dX3_doAll_3 : decode cX3_doAll 3 = .ok (.iload_n 1, 1) := dk_27 (dk_at dksX3_doAll_0 3 rfl rfl)
theorem dX3_doAll_4 : decode cX3_doAll 4 = .ok (.if_icmp .ge 19, 3) := dk_162 0 19 (dk_at dksX3_doAll_0 4 rfl rfl)
theorem dX3_doAll_7 : decode cX3_doAll 7 = .ok (.aload_n 0, 1) := dk_42 (dk_at dksX3_doAll_0 7 rfl rfl)
theorem dX3_doAll_8 : decode cX3_doAll 8 = .ok (.iload_n 2, 1) := dk_28 (dk_at dksX3_doAll_0 8 rfl rfl)
theorem dX3_doAll_9 : decode cX3_doAll 9 = .ok (.invokevirtual 413, 3) := dk_182 1 157 (dk_at dksX3_doAll_0 9 rfl rfl)
theorem dX3_doAll_12 : decode cX3_doAll 12 = .ok (.ifCond .ne 5, 3) := dk_154 0 5 (dk_at dksX3_doAll_0 12 rfl rfl)
theorem dX3_doAll_15 : decode cX3_doAll 15 = .ok (.iload_n 2, 1) := dk_28 (dk_at dksX3_doAll_0 15 rfl rfl)
theorem dX3_doAll_16 : decode cX3_doAll 16 = .ok (.ireturn, 1) := dk_172 (dk_at dksX3_doAll_0 16 rfl rfl)
theorem dX3_doAll_17 : decode cX3_doAll 17 = .ok (.iinc 2 1, 3) := dk_132 2 1 (dk_at dksX3_doAll_0 17 rfl rfl)
theorem dX3_doAll_20 : decode cX3_doAll 20 = .ok (.goto (-18), 3) := dk_167 255 238 (dk_at dksX3_doAll_0 20 rfl rfl)
theorem dX3_doAll_23 : decode cX3_doAll 23 = .ok (.iload_n 1, 1) := dk_27 (dk_at dksX3_doAll_0 23 rfl rfl)
theorem dX3_doAll_24 : decode cX3_doAll 24 = .ok (.ireturn, 1) := dk_172 (dk_at dksX3_doAll_1 0 rfl rfl)
def dkwX3_does_15 : List UInt8 := [181, 1, 136, 4, 172]
abbrev dktX3_does_15 : List UInt8 := dkwX3_does_15 ++ []
def dkwX3_does_14 : List UInt8 := [180, 1, 139, 181, 1, 139, 42, 89, 180, 1, 136, 21, 9, 153, 0, 7, 4, 167, 0, 4, 3, 96]
abbrev dktX3_does_14 : List UInt8 := dkwX3_does_14 ++ dktX3_does_15
def dkwX3_does_13 : List UInt8 := [167, 0, 4, 3, 54, 9, 42, 21, 9, 153, 0, 14, 42, 180, 1, 136, 154, 0, 7, 27, 167, 0, 7, 42]
abbrev dktX3_does_13 : List UInt8 := dkwX3_does_13 ++ dktX3_does_14
def dkwX3_does_12 : List UInt8 := [154, 0, 23, 42, 42, 180, 0, 47, 21, 6, 46, 21, 5, 42, 180, 0, 237, 182, 1, 1, 154, 0, 7, 4]
abbrev dktX3_does_12 : List UInt8 := dkwX3_does_12 ++ dktX3_does_13
def dkwX3_does_11 : List UInt8 := [182, 1, 154, 167, 0, 94, 42, 180, 0, 89, 21, 6, 92, 47, 42, 21, 5, 182, 1, 97, 127, 80, 21, 8]
abbrev dktX3_does_11 : List UInt8 := dkwX3_does_11 ++ dktX3_does_12
def dkwX3_does_10 : List UInt8 := [29, 21, 5, 182, 1, 151, 42, 21, 7, 42, 180, 0, 47, 21, 6, 46, 182, 1, 154, 42, 21, 6, 2]
abbrev dktX3_does_10 : List UInt8 := dkwX3_does_10 ++ dktX3_does_11
def dkwX3_does_9 : List UInt8 := [21, 6, 46, 92, 46, 4, 96, 79, 42, 21, 6, 2, 182, 1, 154, 167, 0, 129, 28, 5, 160, 0, 33, 42]
abbrev dktX3_does_9 : List UInt8 := dkwX3_does_9 ++ dktX3_does_10
def dkwX3_does_8 : List UInt8 := [42, 21, 6, 21, 5, 182, 1, 154, 167, 0, 160, 28, 4, 160, 0, 29, 42, 180, 0, 92, 42, 180, 0, 47]
abbrev dktX3_does_8 : List UInt8 := dkwX3_does_8 ++ dktX3_does_9
def dkwX3_does_7 : List UInt8 := [180, 0, 92, 21, 5, 92, 46, 42, 180, 0, 92, 21, 5, 46, 158, 0, 7, 4, 167, 0, 4, 3, 100, 79]
abbrev dktX3_does_7 : List UInt8 := dkwX3_does_7 ++ dktX3_does_8
def dkwX3_does_6 : List UInt8 := [21, 5, 182, 1, 92, 154, 0, 5, 3, 172, 42, 29, 21, 4, 182, 1, 151, 28, 154, 0, 39, 42]
abbrev dktX3_does_6 : List UInt8 := dkwX3_does_6 ++ dktX3_does_7
def dkwX3_does_5 : List UInt8 := [182, 1, 89, 153, 0, 28, 42, 180, 0, 47, 21, 7, 46, 2, 160, 0, 17, 28, 6, 160, 0, 14, 42]
abbrev dktX3_does_5 : List UInt8 := dkwX3_does_5 ++ dktX3_does_6
def dkwX3_does_4 : List UInt8 := [28, 4, 160, 0, 8, 21, 8, 154, 0, 48, 28, 5, 160, 0, 29, 21, 8, 154, 0, 38, 42, 29, 21, 5]
abbrev dktX3_does_4 : List UInt8 := dkwX3_does_4 ++ dktX3_does_5
def dkwX3_does_3 : List UInt8 := [167, 0, 4, 3, 54, 8, 28, 154, 0, 17, 21, 8, 153, 0, 67, 42, 21, 5, 182, 1, 92, 153, 0, 58]
abbrev dktX3_does_3 : List UInt8 := dkwX3_does_3 ++ dktX3_does_4
def dkwX3_does_2 : List UInt8 := [96, 54, 6, 16, 12, 29, 104, 21, 5, 96, 54, 7, 42, 180, 0, 47, 21, 6, 46, 2, 160, 0, 7, 4]
abbrev dktX3_does_2 : List UInt8 := dkwX3_does_2 ++ dktX3_does_3
def dkwX3_does_1 : List UInt8 := [6, 182, 1, 133, 54, 5, 42, 29, 21, 4, 182, 1, 89, 154, 0, 5, 3, 172, 16, 12, 29, 104, 21, 4]
abbrev dktX3_does_1 : List UInt8 := dkwX3_does_1 ++ dktX3_does_2
def dkwX3_does_0 : List UInt8 := [42, 27, 3, 182, 1, 133, 61, 42, 27, 4, 182, 1, 133, 62, 42, 27, 5, 182, 1, 133, 54, 4, 42, 27]
abbrev dktX3_does_0 : List UInt8 := dkwX3_does_0 ++ dktX3_does_1
theorem dksX3_does_0 : cX3_does.data.toList.drop 0 = dktX3_does_0 := by decide +kernel
theorem dksX3_does_1 : cX3_does.data.toList.drop 24 = dktX3_does_1 := dk_seg dksX3_does_0 24 rfl rfl
theorem dksX3_does_2 : cX3_does.data.toList.drop 48 = dktX3_does_2 := dk_seg dksX3_does_1 24 rfl rfl
theorem dksX3_does_3 : cX3_does.data.toList.drop 72 = dktX3_does_3 := dk_seg dksX3_does_2 24 rfl rfl
theorem dksX3_does_4 : cX3_does.data.toList.drop 96 = dktX3_does_4 := dk_seg dksX3_does_3 24 rfl rfl
theorem dksX3_does_5 : cX3_does.data.toList.drop 120 = dktX3_does_5 := dk_seg dksX3_does_4 24 rfl rfl
theorem dksX3_does_6 : cX3_does.data.toList.drop 143 = dktX3_does_6 := dk_seg dksX3_does_5 23 rfl rfl
theorem dksX3_does_7 : cX3_does.data.toList.drop 165 = dktX3_does_7 := dk_seg dksX3_does_6 22 rfl rfl
theorem dksX3_does_8 : cX3_does.data.toList.drop 189 = dktX3_does_8 := dk_seg dksX3_does_7 24 rfl rfl
theorem dksX3_does_9 : cX3_does.data.toList.drop 213 = dktX3_does_9 := dk_seg dksX3_does_8 24 rfl rfl
theorem dksX3_does_10 : cX3_does.data.toList.drop 237 = dktX3_does_10 := dk_seg dksX3_does_9 24 rfl rfl
theorem dksX3_does_11 : cX3_does.data.toList.drop 260 = dktX3_does_11 := dk_seg dksX3_does_10 23 rfl rfl
theorem dksX3_does_12 : cX3_does.data.toList.drop 284 = dktX3_does_12 := dk_seg dksX3_does_11 24 rfl rfl
theorem dksX3_does_13 : cX3_does.data.toList.drop 308 = dktX3_does_13 := dk_seg dksX3_does_12 24 rfl rfl
theorem dksX3_does_14 : cX3_does.data.toList.drop 332 = dktX3_does_14 := dk_seg dksX3_does_13 24 rfl rfl
theorem dksX3_does_15 : cX3_does.data.toList.drop 354 = dktX3_does_15 := dk_seg dksX3_does_14 22 rfl rfl
theorem dX3_does_0 : decode cX3_does 0 = .ok (.aload_n 0, 1) := dk_42 (dk_at dksX3_does_0 0 rfl rfl)
theorem dX3_does_1 : decode cX3_does 1 = .ok (.iload_n 1, 1) := dk_27 (dk_at dksX3_does_0 1 rfl rfl)
theorem dX3_does_2 : decode cX3_does 2 = .ok (.iconst 0, 1) := dk_3 (dk_at dksX3_does_0 2 rfl rfl)
theorem dX3_does_3 : decode cX3_does 3 = .ok (.invokevirtual 389, 3) := dk_182 1 133 (dk_at dksX3_does_0 3 rfl rfl)
theorem dX3_does_6 : decode cX3_does 6 = .ok (.istore_n 2, 1) := dk_61 (dk_at dksX3_does_0 6 rfl rfl)
theorem dX3_does_7 : decode cX3_does 7 = .ok (.aload_n 0, 1) := dk_42 (dk_at dksX3_does_0 7 rfl rfl)
theorem dX3_does_8 : decode cX3_does 8 = .ok (.iload_n 1, 1) := dk_27 (dk_at dksX3_does_0 8 rfl rfl)
theorem dX3_does_9 : decode cX3_does 9 = .ok (.iconst 1, 1) := dk_4 (dk_at dksX3_does_0 9 rfl rfl)
theorem dX3_does_10 : decode cX3_does 10 = .ok (.invokevirtual 389, 3) := dk_182 1 133 (dk_at dksX3_does_0 10 rfl rfl)
theorem dX3_does_13 : decode cX3_does 13 = .ok (.istore_n 3, 1) := dk_62 (dk_at dksX3_does_0 13 rfl rfl)
theorem dX3_does_14 : decode cX3_does 14 = .ok (.aload_n 0, 1) := dk_42 (dk_at dksX3_does_0 14 rfl rfl)
theorem dX3_does_15 : decode cX3_does 15 = .ok (.iload_n 1, 1) := dk_27 (dk_at dksX3_does_0 15 rfl rfl)
theorem dX3_does_16 : decode cX3_does 16 = .ok (.iconst 2, 1) := dk_5 (dk_at dksX3_does_0 16 rfl rfl)
theorem dX3_does_17 : decode cX3_does 17 = .ok (.invokevirtual 389, 3) := dk_182 1 133 (dk_at dksX3_does_0 17 rfl rfl)
theorem dX3_does_20 : decode cX3_does 20 = .ok (.istore 4, 2) := dk_54 4 (dk_at dksX3_does_0 20 rfl rfl)
theorem dX3_does_22 : decode cX3_does 22 = .ok (.aload_n 0, 1) := dk_42 (dk_at dksX3_does_0 22 rfl rfl)
theorem dX3_does_23 : decode cX3_does 23 = .ok (.iload_n 1, 1) := dk_27 (dk_at dksX3_does_0 23 rfl rfl)
theorem dX3_does_24 : decode cX3_does 24 = .ok (.iconst 3, 1) := dk_6 (dk_at dksX3_does_1 0 rfl rfl)
theorem dX3_does_25 : decode cX3_does 25 = .ok (.invokevirtual 389, 3) := dk_182 1 133 (dk_at dksX3_does_1 1 rfl rfl)
theorem dX3_does_28 : decode cX3_does 28 = .ok (.istore 5, 2) := dk_54 5 (dk_at dksX3_does_1 4 rfl rfl)
theorem dX3_does_30 : decode cX3_does 30 = .ok (.aload_n 0, 1) := dk_42 (dk_at dksX3_does_1 6 rfl rfl)
theorem dX3_does_31 : decode cX3_does 31 = .ok (.iload_n 3, 1) := dk_29 (dk_at dksX3_does_1 7 rfl rfl)
theorem dX3_does_32 : decode cX3_does 32 = .ok (.iload 4, 2) := dk_21 4 (dk_at dksX3_does_1 8 rfl rfl)
theorem dX3_does_34 : decode cX3_does 34 = .ok (.invokevirtual 345, 3) := dk_182 1 89 (dk_at dksX3_does_1 10 rfl rfl)
theorem dX3_does_37 : decode cX3_does 37 = .ok (.ifCond .ne 5, 3) := dk_154 0 5 (dk_at dksX3_does_1 13 rfl rfl)
theorem dX3_does_40 : decode cX3_does 40 = .ok (.iconst 0, 1) := dk_3 (dk_at dksX3_does_1 16 rfl rfl)
theorem dX3_does_41 : decode cX3_does 41 = .ok (.ireturn, 1) := dk_172 (dk_at dksX3_does_1 17 rfl rfl)
theorem dX3_does_42 : decode cX3_does 42 = .ok (.bipush 12, 2) := dk_16 12 (dk_at dksX3_does_1 18 rfl rfl)
theorem dX3_does_44 : decode cX3_does 44 = .ok (.iload_n 3, 1) := dk_29 (dk_at dksX3_does_1 20 rfl rfl)
theorem dX3_does_45 : decode cX3_does 45 = .ok (.imul, 1) := dk_104 (dk_at dksX3_does_1 21 rfl rfl)
theorem dX3_does_46 : decode cX3_does 46 = .ok (.iload 4, 2) := dk_21 4 (dk_at dksX3_does_1 22 rfl rfl)
theorem dX3_does_48 : decode cX3_does 48 = .ok (.iadd, 1) := dk_96 (dk_at dksX3_does_2 0 rfl rfl)
theorem dX3_does_49 : decode cX3_does 49 = .ok (.istore 6, 2) := dk_54 6 (dk_at dksX3_does_2 1 rfl rfl)
theorem dX3_does_51 : decode cX3_does 51 = .ok (.bipush 12, 2) := dk_16 12 (dk_at dksX3_does_2 3 rfl rfl)
theorem dX3_does_53 : decode cX3_does 53 = .ok (.iload_n 3, 1) := dk_29 (dk_at dksX3_does_2 5 rfl rfl)
theorem dX3_does_54 : decode cX3_does 54 = .ok (.imul, 1) := dk_104 (dk_at dksX3_does_2 6 rfl rfl)
theorem dX3_does_55 : decode cX3_does 55 = .ok (.iload 5, 2) := dk_21 5 (dk_at dksX3_does_2 7 rfl rfl)
theorem dX3_does_57 : decode cX3_does 57 = .ok (.iadd, 1) := dk_96 (dk_at dksX3_does_2 9 rfl rfl)
theorem dX3_does_58 : decode cX3_does 58 = .ok (.istore 7, 2) := dk_54 7 (dk_at dksX3_does_2 10 rfl rfl)
theorem dX3_does_60 : decode cX3_does 60 = .ok (.aload_n 0, 1) := dk_42 (dk_at dksX3_does_2 12 rfl rfl)
theorem dX3_does_61 : decode cX3_does 61 = .ok (.getfield 47, 3) := dk_180 0 47 (dk_at dksX3_does_2 13 rfl rfl)
theorem dX3_does_64 : decode cX3_does 64 = .ok (.iload 6, 2) := dk_21 6 (dk_at dksX3_does_2 16 rfl rfl)
theorem dX3_does_66 : decode cX3_does 66 = .ok (.iaload, 1) := dk_46 (dk_at dksX3_does_2 18 rfl rfl)
theorem dX3_does_67 : decode cX3_does 67 = .ok (.iconst (-1), 1) := dk_2 (dk_at dksX3_does_2 19 rfl rfl)
theorem dX3_does_68 : decode cX3_does 68 = .ok (.if_icmp .ne 7, 3) := dk_160 0 7 (dk_at dksX3_does_2 20 rfl rfl)
theorem dX3_does_71 : decode cX3_does 71 = .ok (.iconst 1, 1) := dk_4 (dk_at dksX3_does_2 23 rfl rfl)
theorem dX3_does_72 : decode cX3_does 72 = .ok (.goto 4, 3) := dk_167 0 4 (dk_at dksX3_does_3 0 rfl rfl)
theorem dX3_does_75 : decode cX3_does 75 = .ok (.iconst 0, 1) := dk_3 (dk_at dksX3_does_3 3 rfl rfl)
theorem dX3_does_76 : decode cX3_does 76 = .ok (.istore 8, 2) := dk_54 8 (dk_at dksX3_does_3 4 rfl rfl)
theorem dX3_does_78 : decode cX3_does 78 = .ok (.iload_n 2, 1) := dk_28 (dk_at dksX3_does_3 6 rfl rfl)
theorem dX3_does_79 : decode cX3_does 79 = .ok (.ifCond .ne 17, 3) := dk_154 0 17 (dk_at dksX3_does_3 7 rfl rfl)
theorem dX3_does_82 : decode cX3_does 82 = .ok (.iload 8, 2) := dk_21 8 (dk_at dksX3_does_3 10 rfl rfl)
theorem dX3_does_84 : decode cX3_does 84 = .ok (.ifCond .eq 67, 3) := dk_153 0 67 (dk_at dksX3_does_3 12 rfl rfl)
theorem dX3_does_87 : decode cX3_does 87 = .ok (.aload_n 0, 1) := dk_42 (dk_at dksX3_does_3 15 rfl rfl)
theorem dX3_does_88 : decode cX3_does 88 = .ok (.iload 5, 2) := dk_21 5 (dk_at dksX3_does_3 16 rfl rfl)
theorem dX3_does_90 : decode cX3_does 90 = .ok (.invokevirtual 348, 3) := dk_182 1 92 (dk_at dksX3_does_3 18 rfl rfl)
theorem dX3_does_93 : decode cX3_does 93 = .ok (.ifCond .eq 58, 3) := dk_153 0 58 (dk_at dksX3_does_3 21 rfl rfl)
theorem dX3_does_96 : decode cX3_does 96 = .ok (.iload_n 2, 1) := dk_28 (dk_at dksX3_does_4 0 rfl rfl)
theorem dX3_does_97 : decode cX3_does 97 = .ok (.iconst 1, 1) := dk_4 (dk_at dksX3_does_4 1 rfl rfl)
theorem dX3_does_98 : decode cX3_does 98 = .ok (.if_icmp .ne 8, 3) := dk_160 0 8 (dk_at dksX3_does_4 2 rfl rfl)
theorem dX3_does_101 : decode cX3_does 101 = .ok (.iload 8, 2) := dk_21 8 (dk_at dksX3_does_4 5 rfl rfl)
theorem dX3_does_103 : decode cX3_does 103 = .ok (.ifCond .ne 48, 3) := dk_154 0 48 (dk_at dksX3_does_4 7 rfl rfl)
theorem dX3_does_106 : decode cX3_does 106 = .ok (.iload_n 2, 1) := dk_28 (dk_at dksX3_does_4 10 rfl rfl)
theorem dX3_does_107 : decode cX3_does 107 = .ok (.iconst 2, 1) := dk_5 (dk_at dksX3_does_4 11 rfl rfl)
theorem dX3_does_108 : decode cX3_does 108 = .ok (.if_icmp .ne 29, 3) := dk_160 0 29 (dk_at dksX3_does_4 12 rfl rfl)
theorem dX3_does_111 : decode cX3_does 111 = .ok (.iload 8, 2) := dk_21 8 (dk_at dksX3_does_4 15 rfl rfl)
theorem dX3_does_113 : decode cX3_does 113 = .ok (.ifCond .ne 38, 3) := dk_154 0 38 (dk_at dksX3_does_4 17 rfl rfl)
theorem dX3_does_116 : decode cX3_does 116 = .ok (.aload_n 0, 1) := dk_42 (dk_at dksX3_does_4 20 rfl rfl)
theorem dX3_does_117 : decode cX3_does 117 = .ok (.iload_n 3, 1) := dk_29 (dk_at dksX3_does_4 21 rfl rfl)
theorem dX3_does_118 : decode cX3_does 118 = .ok (.iload 5, 2) := dk_21 5 (dk_at dksX3_does_4 22 rfl rfl)
theorem dX3_does_120 : decode cX3_does 120 = .ok (.invokevirtual 345, 3) := dk_182 1 89 (dk_at dksX3_does_5 0 rfl rfl)
theorem dX3_does_123 : decode cX3_does 123 = .ok (.ifCond .eq 28, 3) := dk_153 0 28 (dk_at dksX3_does_5 3 rfl rfl)
theorem dX3_does_126 : decode cX3_does 126 = .ok (.aload_n 0, 1) := dk_42 (dk_at dksX3_does_5 6 rfl rfl)
theorem dX3_does_127 : decode cX3_does 127 = .ok (.getfield 47, 3) := dk_180 0 47 (dk_at dksX3_does_5 7 rfl rfl)
theorem dX3_does_130 : decode cX3_does 130 = .ok (.iload 7, 2) := dk_21 7 (dk_at dksX3_does_5 10 rfl rfl)
theorem dX3_does_132 : decode cX3_does 132 = .ok (.iaload, 1) := dk_46 (dk_at dksX3_does_5 12 rfl rfl)
theorem dX3_does_133 : decode cX3_does 133 = .ok (.iconst (-1), 1) := dk_2 (dk_at dksX3_does_5 13 rfl rfl)
theorem dX3_does_134 : decode cX3_does 134 = .ok (.if_icmp .ne 17, 3) := dk_160 0 17 (dk_at dksX3_does_5 14 rfl rfl)
theorem dX3_does_137 : decode cX3_does 137 = .ok (.iload_n 2, 1) := dk_28 (dk_at dksX3_does_5 17 rfl rfl)
theorem dX3_does_138 : decode cX3_does 138 = .ok (.iconst 3, 1) := dk_6 (dk_at dksX3_does_5 18 rfl rfl)
theorem dX3_does_139 : decode cX3_does 139 = .ok (.if_icmp .ne 14, 3) := dk_160 0 14 (dk_at dksX3_does_5 19 rfl rfl)
theorem dX3_does_142 : decode cX3_does 142 = .ok (.aload_n 0, 1) := dk_42 (dk_at dksX3_does_5 22 rfl rfl)
theorem dX3_does_143 : decode cX3_does 143 = .ok (.iload 5, 2) := dk_21 5 (dk_at dksX3_does_6 0 rfl rfl)
theorem dX3_does_145 : decode cX3_does 145 = .ok (.invokevirtual 348, 3) := dk_182 1 92 (dk_at dksX3_does_6 2 rfl rfl)
theorem dX3_does_148 : decode cX3_does 148 = .ok (.ifCond .ne 5, 3) := dk_154 0 5 (dk_at dksX3_does_6 5 rfl rfl)
theorem dX3_does_151 : decode cX3_does 151 = .ok (.iconst 0, 1) := dk_3 (dk_at dksX3_does_6 8 rfl rfl)
theorem dX3_does_152 : decode cX3_does 152 = .ok (.ireturn, 1) := dk_172 (dk_at dksX3_does_6 9 rfl rfl)
theorem dX3_does_153 : decode cX3_does 153 = .ok (.aload_n 0, 1) := dk_42 (dk_at dksX3_does_6 10 rfl rfl)
theorem dX3_does_154 : decode cX3_does 154 = .ok (.iload_n 3, 1) := dk_29 (dk_at dksX3_does_6 11 rfl rfl)
theorem dX3_does_155 : decode cX3_does 155 = .ok (.iload 4, 2) := dk_21 4 (dk_at dksX3_does_6 12 rfl rfl)
theorem dX3_does_157 : decode cX3_does 157 = .ok (.invokevirtual 407, 3) := dk_182 1 151 (dk_at dksX3_does_6 14 rfl rfl)
theorem dX3_does_160 : decode cX3_does 160 = .ok (.iload_n 2, 1) := dk_28 (dk_at dksX3_does_6 17 rfl rfl)
theorem dX3_does_161 : decode cX3_does 161 = .ok (.ifCond .ne 39, 3) := dk_154 0 39 (dk_at dksX3_does_6 18 rfl rfl)
theorem dX3_does_164 : decode cX3_does 164 = .ok (.aload_n 0, 1) := dk_42 (dk_at dksX3_does_6 21 rfl rfl)
theorem dX3_does_165 : decode cX3_does 165 = .ok (.getfield 92, 3) := dk_180 0 92 (dk_at dksX3_does_7 0 rfl rfl)
theorem dX3_does_168 : decode cX3_does 168 = .ok (.iload 5, 2) := dk_21 5 (dk_at dksX3_does_7 3 rfl rfl)
theorem dX3_does_170 : decode cX3_does 170 = .ok (.dup2, 1) := dk_92 (dk_at dksX3_does_7 5 rfl rfl)
theorem dX3_does_171 : decode cX3_does 171 = .ok (.iaload, 1) := dk_46 (dk_at dksX3_does_7 6 rfl rfl)
theorem dX3_does_172 : decode cX3_does 172 = .ok (.aload_n 0, 1) := dk_42 (dk_at dksX3_does_7 7 rfl rfl)
theorem dX3_does_173 : decode cX3_does 173 = .ok (.getfield 92, 3) := dk_180 0 92 (dk_at dksX3_does_7 8 rfl rfl)
theorem dX3_does_176 : decode cX3_does 176 = .ok (.iload 5, 2) := dk_21 5 (dk_at dksX3_does_7 11 rfl rfl)
theorem dX3_does_178 : decode cX3_does 178 = .ok (.iaload, 1) := dk_46 (dk_at dksX3_does_7 13 rfl rfl)
theorem dX3_does_179 : decode cX3_does 179 = .ok (.ifCond .le 7, 3) := dk_158 0 7 (dk_at dksX3_does_7 14 rfl rfl)
theorem dX3_does_182 : decode cX3_does 182 = .ok (.iconst 1, 1) := dk_4 (dk_at dksX3_does_7 17 rfl rfl)
theorem dX3_does_183 : decode cX3_does 183 = .ok (.goto 4, 3) := dk_167 0 4 (dk_at dksX3_does_7 18 rfl rfl)
theorem dX3_does_186 : decode cX3_does 186 = .ok (.iconst 0, 1) := dk_3 (dk_at dksX3_does_7 21 rfl rfl)
theorem dX3_does_187 : decode cX3_does 187 = .ok (.isub, 1) := dk_100 (dk_at dksX3_does_7 22 rfl rfl)
theorem dX3_does_188 : decode cX3_does 188 = .ok (.iastore, 1) := dk_79 (dk_at dksX3_does_7 23 rfl rfl)
theorem dX3_does_189 : decode cX3_does 189 = .ok (.aload_n 0, 1) := dk_42 (dk_at dksX3_does_8 0 rfl rfl)
theorem dX3_does_190 : decode cX3_does 190 = .ok (.iload 6, 2) := dk_21 6 (dk_at dksX3_does_8 1 rfl rfl)
theorem dX3_does_192 : decode cX3_does 192 = .ok (.iload 5, 2) := dk_21 5 (dk_at dksX3_does_8 3 rfl rfl)
theorem dX3_does_194 : decode cX3_does 194 = .ok (.invokevirtual 410, 3) := dk_182 1 154 (dk_at dksX3_does_8 5 rfl rfl)
theorem dX3_does_197 : decode cX3_does 197 = .ok (.goto 160, 3) := dk_167 0 160 (dk_at dksX3_does_8 8 rfl rfl)
theorem dX3_does_200 : decode cX3_does 200 = .ok (.iload_n 2, 1) := dk_28 (dk_at dksX3_does_8 11 rfl rfl)
theorem dX3_does_201 : decode cX3_does 201 = .ok (.iconst 1, 1) := dk_4 (dk_at dksX3_does_8 12 rfl rfl)
theorem dX3_does_202 : decode cX3_does 202 = .ok (.if_icmp .ne 29, 3) := dk_160 0 29 (dk_at dksX3_does_8 13 rfl rfl)
theorem dX3_does_205 : decode cX3_does 205 = .ok (.aload_n 0, 1) := dk_42 (dk_at dksX3_does_8 16 rfl rfl)
theorem dX3_does_206 : decode cX3_does 206 = .ok (.getfield 92, 3) := dk_180 0 92 (dk_at dksX3_does_8 17 rfl rfl)
theorem dX3_does_209 : decode cX3_does 209 = .ok (.aload_n 0, 1) := dk_42 (dk_at dksX3_does_8 20 rfl rfl)
theorem dX3_does_210 : decode cX3_does 210 = .ok (.getfield 47, 3) := dk_180 0 47 (dk_at dksX3_does_8 21 rfl rfl)
theorem dX3_does_213 : decode cX3_does 213 = .ok (.iload 6, 2) := dk_21 6 (dk_at dksX3_does_9 0 rfl rfl)
theorem dX3_does_215 : decode cX3_does 215 = .ok (.iaload, 1) := dk_46 (dk_at dksX3_does_9 2 rfl rfl)
theorem dX3_does_216 : decode cX3_does 216 = .ok (.dup2, 1) := dk_92 (dk_at dksX3_does_9 3 rfl rfl)
theorem dX3_does_217 : decode cX3_does 217 = .ok (.iaload, 1) := dk_46 (dk_at dksX3_does_9 4 rfl rfl)
theorem dX3_does_218 : decode cX3_does 218 = .ok (.iconst 1, 1) := dk_4 (dk_at dksX3_does_9 5 rfl rfl)
theorem dX3_does_219 : decode cX3_does 219 = .ok (.iadd, 1) := dk_96 (dk_at dksX3_does_9 6 rfl rfl)
theorem dX3_does_220 : decode cX3_does 220 = .ok (.iastore, 1) := dk_79 (dk_at dksX3_does_9 7 rfl rfl)
theorem dX3_does_221 : decode cX3_does 221 = .ok (.aload_n 0, 1) := dk_42 (dk_at dksX3_does_9 8 rfl rfl)
theorem dX3_does_222 : decode cX3_does 222 = .ok (.iload 6, 2) := dk_21 6 (dk_at dksX3_does_9 9 rfl rfl)
theorem dX3_does_224 : decode cX3_does 224 = .ok (.iconst (-1), 1) := dk_2 (dk_at dksX3_does_9 11 rfl rfl)
theorem dX3_does_225 : decode cX3_does 225 = .ok (.invokevirtual 410, 3) := dk_182 1 154 (dk_at dksX3_does_9 12 rfl rfl)
theorem dX3_does_228 : decode cX3_does 228 = .ok (.goto 129, 3) := dk_167 0 129 (dk_at dksX3_does_9 15 rfl rfl)
theorem dX3_does_231 : decode cX3_does 231 = .ok (.iload_n 2, 1) := dk_28 (dk_at dksX3_does_9 18 rfl rfl)
theorem dX3_does_232 : decode cX3_does 232 = .ok (.iconst 2, 1) := dk_5 (dk_at dksX3_does_9 19 rfl rfl)
theorem dX3_does_233 : decode cX3_does 233 = .ok (.if_icmp .ne 33, 3) := dk_160 0 33 (dk_at dksX3_does_9 20 rfl rfl)
theorem dX3_does_236 : decode cX3_does 236 = .ok (.aload_n 0, 1) := dk_42 (dk_at dksX3_does_9 23 rfl rfl)
theorem dX3_does_237 : decode cX3_does 237 = .ok (.iload_n 3, 1) := dk_29 (dk_at dksX3_does_10 0 rfl rfl)
theorem dX3_does_238 : decode cX3_does 238 = .ok (.iload 5, 2) := dk_21 5 (dk_at dksX3_does_10 1 rfl rfl)
theorem dX3_does_240 : decode cX3_does 240 = .ok (.invokevirtual 407, 3) := dk_182 1 151 (dk_at dksX3_does_10 3 rfl rfl)
theorem dX3_does_243 : decode cX3_does 243 = .ok (.aload_n 0, 1) := dk_42 (dk_at dksX3_does_10 6 rfl rfl)
theorem dX3_does_244 : decode cX3_does 244 = .ok (.iload 7, 2) := dk_21 7 (dk_at dksX3_does_10 7 rfl rfl)
theorem dX3_does_246 : decode cX3_does 246 = .ok (.aload_n 0, 1) := dk_42 (dk_at dksX3_does_10 9 rfl rfl)
theorem dX3_does_247 : decode cX3_does 247 = .ok (.getfield 47, 3) := dk_180 0 47 (dk_at dksX3_does_10 10 rfl rfl)
theorem dX3_does_250 : decode cX3_does 250 = .ok (.iload 6, 2) := dk_21 6 (dk_at dksX3_does_10 13 rfl rfl)
theorem dX3_does_252 : decode cX3_does 252 = .ok (.iaload, 1) := dk_46 (dk_at dksX3_does_10 15 rfl rfl)
theorem dX3_does_253 : decode cX3_does 253 = .ok (.invokevirtual 410, 3) := dk_182 1 154 (dk_at dksX3_does_10 16 rfl rfl)
theorem dX3_does_256 : decode cX3_does 256 = .ok (.aload_n 0, 1) := dk_42 (dk_at dksX3_does_10 19 rfl rfl)
theorem dX3_does_257 : decode cX3_does 257 = .ok (.iload 6, 2) := dk_21 6 (dk_at dksX3_does_10 20 rfl rfl)
theorem dX3_does_259 : decode cX3_does 259 = .ok (.iconst (-1), 1) := dk_2 (dk_at dksX3_does_10 22 rfl rfl)
theorem dX3_does_260 : decode cX3_does 260 = .ok (.invokevirtual 410, 3) := dk_182 1 154 (dk_at dksX3_does_11 0 rfl rfl)
theorem dX3_does_263 : decode cX3_does 263 = .ok (.goto 94, 3) := dk_167 0 94 (dk_at dksX3_does_11 3 rfl rfl)
theorem dX3_does_266 : decode cX3_does 266 = .ok (.aload_n 0, 1) := dk_42 (dk_at dksX3_does_11 6 rfl rfl)
theorem dX3_does_267 : decode cX3_does 267 = .ok (.getfield 89, 3) := dk_180 0 89 (dk_at dksX3_does_11 7 rfl rfl)
theorem dX3_does_270 : decode cX3_does 270 = .ok (.iload 6, 2) := dk_21 6 (dk_at dksX3_does_11 10 rfl rfl)
theorem dX3_does_272 : decode cX3_does 272 = .ok (.dup2, 1) := dk_92 (dk_at dksX3_does_11 12 rfl rfl)
theorem dX3_does_273 : decode cX3_does 273 = .ok (.laload, 1) := dk_47 (dk_at dksX3_does_11 13 rfl rfl)
theorem dX3_does_274 : decode cX3_does 274 = .ok (.aload_n 0, 1) := dk_42 (dk_at dksX3_does_11 14 rfl rfl)
theorem dX3_does_275 : decode cX3_does 275 = .ok (.iload 5, 2) := dk_21 5 (dk_at dksX3_does_11 15 rfl rfl)
theorem dX3_does_277 : decode cX3_does 277 = .ok (.invokevirtual 353, 3) := dk_182 1 97 (dk_at dksX3_does_11 17 rfl rfl)
theorem dX3_does_280 : decode cX3_does 280 = .ok (.land, 1) := dk_127 (dk_at dksX3_does_11 20 rfl rfl)
theorem dX3_does_281 : decode cX3_does 281 = .ok (.lastore, 1) := dk_80 (dk_at dksX3_does_11 21 rfl rfl)
theorem dX3_does_282 : decode cX3_does 282 = .ok (.iload 8, 2) := dk_21 8 (dk_at dksX3_does_11 22 rfl rfl)
theorem dX3_does_284 : decode cX3_does 284 = .ok (.ifCond .ne 23, 3) := dk_154 0 23 (dk_at dksX3_does_12 0 rfl rfl)
theorem dX3_does_287 : decode cX3_does 287 = .ok (.aload_n 0, 1) := dk_42 (dk_at dksX3_does_12 3 rfl rfl)
theorem dX3_does_288 : decode cX3_does 288 = .ok (.aload_n 0, 1) := dk_42 (dk_at dksX3_does_12 4 rfl rfl)
theorem dX3_does_289 : decode cX3_does 289 = .ok (.getfield 47, 3) := dk_180 0 47 (dk_at dksX3_does_12 5 rfl rfl)
theorem dX3_does_292 : decode cX3_does 292 = .ok (.iload 6, 2) := dk_21 6 (dk_at dksX3_does_12 8 rfl rfl)
theorem dX3_does_294 : decode cX3_does 294 = .ok (.iaload, 1) := dk_46 (dk_at dksX3_does_12 10 rfl rfl)
theorem dX3_does_295 : decode cX3_does 295 = .ok (.iload 5, 2) := dk_21 5 (dk_at dksX3_does_12 11 rfl rfl)
theorem dX3_does_297 : decode cX3_does 297 = .ok (.aload_n 0, 1) := dk_42 (dk_at dksX3_does_12 13 rfl rfl)
theorem dX3_does_298 : decode cX3_does 298 = .ok (.getfield 237, 3) := dk_180 0 237 (dk_at dksX3_does_12 14 rfl rfl)
theorem dX3_does_301 : decode cX3_does 301 = .ok (.invokevirtual 257, 3) := dk_182 1 1 (dk_at dksX3_does_12 17 rfl rfl)
theorem dX3_does_304 : decode cX3_does 304 = .ok (.ifCond .ne 7, 3) := dk_154 0 7 (dk_at dksX3_does_12 20 rfl rfl)
theorem dX3_does_307 : decode cX3_does 307 = .ok (.iconst 1, 1) := dk_4 (dk_at dksX3_does_12 23 rfl rfl)
theorem dX3_does_308 : decode cX3_does 308 = .ok (.goto 4, 3) := dk_167 0 4 (dk_at dksX3_does_13 0 rfl rfl)
theorem dX3_does_311 : decode cX3_does 311 = .ok (.iconst 0, 1) := dk_3 (dk_at dksX3_does_13 3 rfl rfl)
theorem dX3_does_312 : decode cX3_does 312 = .ok (.istore 9, 2) := dk_54 9 (dk_at dksX3_does_13 4 rfl rfl)
theorem dX3_does_314 : decode cX3_does 314 = .ok (.aload_n 0, 1) := dk_42 (dk_at dksX3_does_13 6 rfl rfl)
theorem dX3_does_315 : decode cX3_does 315 = .ok (.iload 9, 2) := dk_21 9 (dk_at dksX3_does_13 7 rfl rfl)
theorem dX3_does_317 : decode cX3_does 317 = .ok (.ifCond .eq 14, 3) := dk_153 0 14 (dk_at dksX3_does_13 9 rfl rfl)
theorem dX3_does_320 : decode cX3_does 320 = .ok (.aload_n 0, 1) := dk_42 (dk_at dksX3_does_13 12 rfl rfl)
theorem dX3_does_321 : decode cX3_does 321 = .ok (.getfield 392, 3) := dk_180 1 136 (dk_at dksX3_does_13 13 rfl rfl)
theorem dX3_does_324 : decode cX3_does 324 = .ok (.ifCond .ne 7, 3) := dk_154 0 7 (dk_at dksX3_does_13 16 rfl rfl)
theorem dX3_does_327 : decode cX3_does 327 = .ok (.iload_n 1, 1) := dk_27 (dk_at dksX3_does_13 19 rfl rfl)
theorem dX3_does_328 : decode cX3_does 328 = .ok (.goto 7, 3) := dk_167 0 7 (dk_at dksX3_does_13 20 rfl rfl)
theorem dX3_does_331 : decode cX3_does 331 = .ok (.aload_n 0, 1) := dk_42 (dk_at dksX3_does_13 23 rfl rfl)
theorem dX3_does_332 : decode cX3_does 332 = .ok (.getfield 395, 3) := dk_180 1 139 (dk_at dksX3_does_14 0 rfl rfl)
theorem dX3_does_335 : decode cX3_does 335 = .ok (.putfield 395, 3) := dk_181 1 139 (dk_at dksX3_does_14 3 rfl rfl)
theorem dX3_does_338 : decode cX3_does 338 = .ok (.aload_n 0, 1) := dk_42 (dk_at dksX3_does_14 6 rfl rfl)
theorem dX3_does_339 : decode cX3_does 339 = .ok (.dup, 1) := dk_89 (dk_at dksX3_does_14 7 rfl rfl)
theorem dX3_does_340 : decode cX3_does 340 = .ok (.getfield 392, 3) := dk_180 1 136 (dk_at dksX3_does_14 8 rfl rfl)
theorem dX3_does_343 : decode cX3_does 343 = .ok (.iload 9, 2) := dk_21 9 (dk_at dksX3_does_14 11 rfl rfl)
theorem dX3_does_345 : decode cX3_does 345 = .ok (.ifCond .eq 7, 3) := dk_153 0 7 (dk_at dksX3_does_14 13 rfl rfl)
theorem dX3_does_348 : decode cX3_does 348 = .ok (.iconst 1, 1) := dk_4 (dk_at dksX3_does_14 16 rfl rfl)
theorem dX3_does_349 : decode cX3_does 349 = .ok (.goto 4, 3) := dk_167 0 4 (dk_at dksX3_does_14 17 rfl rfl)
theorem dX3_does_352 : decode cX3_does 352 = .ok (.iconst 0, 1) := dk_3 (dk_at dksX3_does_14 20 rfl rfl)
theorem dX3_does_353 : decode cX3_does 353 = .ok (.iadd, 1) := dk_96 (dk_at dksX3_does_14 21 rfl rfl)
theorem dX3_does_354 : decode cX3_does 354 = .ok (.putfield 392, 3) := dk_181 1 136 (dk_at dksX3_does_15 0 rfl rfl)
theorem dX3_does_357 : decode cX3_does 357 = .ok (.iconst 1, 1) := dk_4 (dk_at dksX3_does_15 3 rfl rfl)
theorem dX3_does_358 : decode cX3_does 358 = .ok (.ireturn, 1) := dk_172 (dk_at dksX3_does_15 4 rfl rfl)
def dkwX3_handTo_2 : List UInt8 := [96, 181, 1, 142, 42, 27, 181, 1, 145, 42, 28, 181, 1, 148, 177]
abbrev dktX3_handTo_2 : List UInt8 := dkwX3_handTo_2 ++ []
def dkwX3_handTo_1 : List UInt8 := [156, 0, 8, 29, 116, 167, 0, 4, 29, 104, 21, 4, 156, 0, 9, 21, 4, 116, 167, 0, 5, 21, 4, 96]
abbrev dktX3_handTo_1 : List UInt8 := dkwX3_handTo_1 ++ dktX3_handTo_2
def dkwX3_handTo_0 : List UInt8 := [27, 42, 180, 1, 145, 100, 62, 28, 42, 180, 1, 148, 100, 54, 4, 42, 89, 180, 1, 142, 16, 10, 29]
abbrev dktX3_handTo_0 : List UInt8 := dkwX3_handTo_0 ++ dktX3_handTo_1
theorem dksX3_handTo_0 : cX3_handTo.data.toList.drop 0 = dktX3_handTo_0 := by decide +kernel
theorem dksX3_handTo_1 : cX3_handTo.data.toList.drop 23 = dktX3_handTo_1 := dk_seg dksX3_handTo_0 23 rfl rfl
theorem dksX3_handTo_2 : cX3_handTo.data.toList.drop 47 = dktX3_handTo_2 := dk_seg dksX3_handTo_1 24 rfl rfl
theorem dX3_handTo_0 : decode cX3_handTo 0 = .ok (.iload_n 1, 1) := dk_27 (dk_at dksX3_handTo_0 0 rfl rfl)
theorem dX3_handTo_1 : decode cX3_handTo 1 = .ok (.aload_n 0, 1) := dk_42 (dk_at dksX3_handTo_0 1 rfl rfl)
theorem dX3_handTo_2 : decode cX3_handTo 2 = .ok (.getfield 401, 3) := dk_180 1 145 (dk_at dksX3_handTo_0 2 rfl rfl)
theorem dX3_handTo_5 : decode cX3_handTo 5 = .ok (.isub, 1) := dk_100 (dk_at dksX3_handTo_0 5 rfl rfl)
theorem dX3_handTo_6 : decode cX3_handTo 6 = .ok (.istore_n 3, 1) := dk_62 (dk_at dksX3_handTo_0 6 rfl rfl)
theorem dX3_handTo_7 : decode cX3_handTo 7 = .ok (.iload_n 2, 1) := dk_28 (dk_at dksX3_handTo_0 7 rfl rfl)
theorem dX3_handTo_8 : decode cX3_handTo 8 = .ok (.aload_n 0, 1) := dk_42 (dk_at dksX3_handTo_0 8 rfl rfl)
theorem dX3_handTo_9 : decode cX3_handTo 9 = .ok (.getfield 404, 3) := dk_180 1 148 (dk_at dksX3_handTo_0 9 rfl rfl)
theorem dX3_handTo_12 : decode cX3_handTo 12 = .ok (.isub, 1) := dk_100 (dk_at dksX3_handTo_0 12 rfl rfl)
theorem dX3_handTo_13 : decode cX3_handTo 13 = .ok (.istore 4, 2) := dk_54 4 (dk_at dksX3_handTo_0 13 rfl rfl)
theorem dX3_handTo_15 : decode cX3_handTo 15 = .ok (.aload_n 0, 1) := dk_42 (dk_at dksX3_handTo_0 15 rfl rfl)
theorem dX3_handTo_16 : decode cX3_handTo 16 = .ok (.dup, 1) := dk_89 (dk_at dksX3_handTo_0 16 rfl rfl)
theorem dX3_handTo_17 : decode cX3_handTo 17 = .ok (.getfield 398, 3) := dk_180 1 142 (dk_at dksX3_handTo_0 17 rfl rfl)
theorem dX3_handTo_20 : decode cX3_handTo 20 = .ok (.bipush 10, 2) := dk_16 10 (dk_at dksX3_handTo_0 20 rfl rfl)
theorem dX3_handTo_22 : decode cX3_handTo 22 = .ok (.iload_n 3, 1) := dk_29 (dk_at dksX3_handTo_0 22 rfl rfl)
theorem dX3_handTo_23 : decode cX3_handTo 23 = .ok (.ifCond .ge 8, 3) := dk_156 0 8 (dk_at dksX3_handTo_1 0 rfl rfl)
theorem dX3_handTo_26 : decode cX3_handTo 26 = .ok (.iload_n 3, 1) := dk_29 (dk_at dksX3_handTo_1 3 rfl rfl)
theorem dX3_handTo_27 : decode cX3_handTo 27 = .ok (.ineg, 1) := dk_116 (dk_at dksX3_handTo_1 4 rfl rfl)
theorem dX3_handTo_28 : decode cX3_handTo 28 = .ok (.goto 4, 3) := dk_167 0 4 (dk_at dksX3_handTo_1 5 rfl rfl)
theorem dX3_handTo_31 : decode cX3_handTo 31 = .ok (.iload_n 3, 1) := dk_29 (dk_at dksX3_handTo_1 8 rfl rfl)
theorem dX3_handTo_32 : decode cX3_handTo 32 = .ok (.imul, 1) := dk_104 (dk_at dksX3_handTo_1 9 rfl rfl)
theorem dX3_handTo_33 : decode cX3_handTo 33 = .ok (.iload 4, 2) := dk_21 4 (dk_at dksX3_handTo_1 10 rfl rfl)
theorem dX3_handTo_35 : decode cX3_handTo 35 = .ok (.ifCond .ge 9, 3) := dk_156 0 9 (dk_at dksX3_handTo_1 12 rfl rfl)
theorem dX3_handTo_38 : decode cX3_handTo 38 = .ok (.iload 4, 2) := dk_21 4 (dk_at dksX3_handTo_1 15 rfl rfl)
theorem dX3_handTo_40 : decode cX3_handTo 40 = .ok (.ineg, 1) := dk_116 (dk_at dksX3_handTo_1 17 rfl rfl)
theorem dX3_handTo_41 : decode cX3_handTo 41 = .ok (.goto 5, 3) := dk_167 0 5 (dk_at dksX3_handTo_1 18 rfl rfl)
theorem dX3_handTo_44 : decode cX3_handTo 44 = .ok (.iload 4, 2) := dk_21 4 (dk_at dksX3_handTo_1 21 rfl rfl)
theorem dX3_handTo_46 : decode cX3_handTo 46 = .ok (.iadd, 1) := dk_96 (dk_at dksX3_handTo_1 23 rfl rfl)
theorem dX3_handTo_47 : decode cX3_handTo 47 = .ok (.iadd, 1) := dk_96 (dk_at dksX3_handTo_2 0 rfl rfl)
theorem dX3_handTo_48 : decode cX3_handTo 48 = .ok (.putfield 398, 3) := dk_181 1 142 (dk_at dksX3_handTo_2 1 rfl rfl)
theorem dX3_handTo_51 : decode cX3_handTo 51 = .ok (.aload_n 0, 1) := dk_42 (dk_at dksX3_handTo_2 4 rfl rfl)
theorem dX3_handTo_52 : decode cX3_handTo 52 = .ok (.iload_n 1, 1) := dk_27 (dk_at dksX3_handTo_2 5 rfl rfl)
theorem dX3_handTo_53 : decode cX3_handTo 53 = .ok (.putfield 401, 3) := dk_181 1 145 (dk_at dksX3_handTo_2 6 rfl rfl)
theorem dX3_handTo_56 : decode cX3_handTo 56 = .ok (.aload_n 0, 1) := dk_42 (dk_at dksX3_handTo_2 9 rfl rfl)
theorem dX3_handTo_57 : decode cX3_handTo 57 = .ok (.iload_n 2, 1) := dk_28 (dk_at dksX3_handTo_2 10 rfl rfl)
theorem dX3_handTo_58 : decode cX3_handTo 58 = .ok (.putfield 404, 3) := dk_181 1 148 (dk_at dksX3_handTo_2 11 rfl rfl)
theorem dX3_handTo_61 : decode cX3_handTo 61 = .ok (.return_, 1) := dk_177 (dk_at dksX3_handTo_2 14 rfl rfl)
def dkwX3_change_0 : List UInt8 := [42, 180, 0, 47, 27, 28, 79, 42, 180, 0, 89, 27, 10, 4, 42, 180, 0, 234, 120, 121, 10, 101, 80, 177]
abbrev dktX3_change_0 : List UInt8 := dkwX3_change_0 ++ []
theorem dksX3_change_0 : cX3_change.data.toList.drop 0 = dktX3_change_0 := by decide +kernel
theorem dX3_change_0 : decode cX3_change 0 = .ok (.aload_n 0, 1) := dk_42 (dk_at dksX3_change_0 0 rfl rfl)
theorem dX3_change_1 : decode cX3_change 1 = .ok (.getfield 47, 3) := dk_180 0 47 (dk_at dksX3_change_0 1 rfl rfl)
theorem dX3_change_4 : decode cX3_change 4 = .ok (.iload_n 1, 1) := dk_27 (dk_at dksX3_change_0 4 rfl rfl)
theorem dX3_change_5 : decode cX3_change 5 = .ok (.iload_n 2, 1) := dk_28 (dk_at dksX3_change_0 5 rfl rfl)
theorem dX3_change_6 : decode cX3_change 6 = .ok (.iastore, 1) := dk_79 (dk_at dksX3_change_0 6 rfl rfl)
theorem dX3_change_7 : decode cX3_change 7 = .ok (.aload_n 0, 1) := dk_42 (dk_at dksX3_change_0 7 rfl rfl)
theorem dX3_change_8 : decode cX3_change 8 = .ok (.getfield 89, 3) := dk_180 0 89 (dk_at dksX3_change_0 8 rfl rfl)
theorem dX3_change_11 : decode cX3_change 11 = .ok (.iload_n 1, 1) := dk_27 (dk_at dksX3_change_0 11 rfl rfl)
theorem dX3_change_12 : decode cX3_change 12 = .ok (.lconst 1, 1) := dk_10 (dk_at dksX3_change_0 12 rfl rfl)
theorem dX3_change_13 : decode cX3_change 13 = .ok (.iconst 1, 1) := dk_4 (dk_at dksX3_change_0 13 rfl rfl)
theorem dX3_change_14 : decode cX3_change 14 = .ok (.aload_n 0, 1) := dk_42 (dk_at dksX3_change_0 14 rfl rfl)
theorem dX3_change_15 : decode cX3_change 15 = .ok (.getfield 234, 3) := dk_180 0 234 (dk_at dksX3_change_0 15 rfl rfl)
theorem dX3_change_18 : decode cX3_change 18 = .ok (.ishl, 1) := dk_120 (dk_at dksX3_change_0 18 rfl rfl)
theorem dX3_change_19 : decode cX3_change 19 = .ok (.lshl, 1) := dk_121 (dk_at dksX3_change_0 19 rfl rfl)
theorem dX3_change_20 : decode cX3_change 20 = .ok (.lconst 1, 1) := dk_10 (dk_at dksX3_change_0 20 rfl rfl)
theorem dX3_change_21 : decode cX3_change 21 = .ok (.lsub, 1) := dk_101 (dk_at dksX3_change_0 21 rfl rfl)
theorem dX3_change_22 : decode cX3_change 22 = .ok (.lastore, 1) := dk_80 (dk_at dksX3_change_0 22 rfl rfl)
theorem dX3_change_23 : decode cX3_change 23 = .ok (.return_, 1) := dk_177 (dk_at dksX3_change_0 23 rfl rfl)
def dkwX3_lies_1 : List UInt8 := [153, 0, 19, 42, 180, 0, 47, 16, 12, 21, 4, 104, 21, 5, 96, 46, 167, 0, 5, 16, 254, 172]
abbrev dktX3_lies_1 : List UInt8 := dkwX3_lies_1 ++ []
def dkwX3_lies_0 : List UInt8 := [42, 3, 181, 0, 111, 42, 27, 28, 29, 182, 1, 166, 153, 0, 30, 42, 21, 4, 21, 5, 182, 1, 89]
abbrev dktX3_lies_0 : List UInt8 := dkwX3_lies_0 ++ dktX3_lies_1
theorem dksX3_lies_0 : cX3_lies.data.toList.drop 0 = dktX3_lies_0 := by decide +kernel
theorem dksX3_lies_1 : cX3_lies.data.toList.drop 23 = dktX3_lies_1 := dk_seg dksX3_lies_0 23 rfl rfl
theorem dX3_lies_0 : decode cX3_lies 0 = .ok (.aload_n 0, 1) := dk_42 (dk_at dksX3_lies_0 0 rfl rfl)
theorem dX3_lies_1 : decode cX3_lies 1 = .ok (.iconst 0, 1) := dk_3 (dk_at dksX3_lies_0 1 rfl rfl)
theorem dX3_lies_2 : decode cX3_lies 2 = .ok (.putfield 111, 3) := dk_181 0 111 (dk_at dksX3_lies_0 2 rfl rfl)
theorem dX3_lies_5 : decode cX3_lies 5 = .ok (.aload_n 0, 1) := dk_42 (dk_at dksX3_lies_0 5 rfl rfl)
theorem dX3_lies_6 : decode cX3_lies 6 = .ok (.iload_n 1, 1) := dk_27 (dk_at dksX3_lies_0 6 rfl rfl)
theorem dX3_lies_7 : decode cX3_lies 7 = .ok (.iload_n 2, 1) := dk_28 (dk_at dksX3_lies_0 7 rfl rfl)
theorem dX3_lies_8 : decode cX3_lies 8 = .ok (.iload_n 3, 1) := dk_29 (dk_at dksX3_lies_0 8 rfl rfl)
theorem dX3_lies_9 : decode cX3_lies 9 = .ok (.invokevirtual 422, 3) := dk_182 1 166 (dk_at dksX3_lies_0 9 rfl rfl)
theorem dX3_lies_12 : decode cX3_lies 12 = .ok (.ifCond .eq 30, 3) := dk_153 0 30 (dk_at dksX3_lies_0 12 rfl rfl)
theorem dX3_lies_15 : decode cX3_lies 15 = .ok (.aload_n 0, 1) := dk_42 (dk_at dksX3_lies_0 15 rfl rfl)
theorem dX3_lies_16 : decode cX3_lies 16 = .ok (.iload 4, 2) := dk_21 4 (dk_at dksX3_lies_0 16 rfl rfl)
theorem dX3_lies_18 : decode cX3_lies 18 = .ok (.iload 5, 2) := dk_21 5 (dk_at dksX3_lies_0 18 rfl rfl)
theorem dX3_lies_20 : decode cX3_lies 20 = .ok (.invokevirtual 345, 3) := dk_182 1 89 (dk_at dksX3_lies_0 20 rfl rfl)
theorem dX3_lies_23 : decode cX3_lies 23 = .ok (.ifCond .eq 19, 3) := dk_153 0 19 (dk_at dksX3_lies_1 0 rfl rfl)
theorem dX3_lies_26 : decode cX3_lies 26 = .ok (.aload_n 0, 1) := dk_42 (dk_at dksX3_lies_1 3 rfl rfl)
theorem dX3_lies_27 : decode cX3_lies 27 = .ok (.getfield 47, 3) := dk_180 0 47 (dk_at dksX3_lies_1 4 rfl rfl)
theorem dX3_lies_30 : decode cX3_lies 30 = .ok (.bipush 12, 2) := dk_16 12 (dk_at dksX3_lies_1 7 rfl rfl)
theorem dX3_lies_32 : decode cX3_lies 32 = .ok (.iload 4, 2) := dk_21 4 (dk_at dksX3_lies_1 9 rfl rfl)
theorem dX3_lies_34 : decode cX3_lies 34 = .ok (.imul, 1) := dk_104 (dk_at dksX3_lies_1 11 rfl rfl)
theorem dX3_lies_35 : decode cX3_lies 35 = .ok (.iload 5, 2) := dk_21 5 (dk_at dksX3_lies_1 12 rfl rfl)
theorem dX3_lies_37 : decode cX3_lies 37 = .ok (.iadd, 1) := dk_96 (dk_at dksX3_lies_1 14 rfl rfl)
theorem dX3_lies_38 : decode cX3_lies 38 = .ok (.iaload, 1) := dk_46 (dk_at dksX3_lies_1 15 rfl rfl)
theorem dX3_lies_39 : decode cX3_lies 39 = .ok (.goto 5, 3) := dk_167 0 5 (dk_at dksX3_lies_1 16 rfl rfl)
theorem dX3_lies_42 : decode cX3_lies 42 = .ok (.bipush (-2), 2) := dk_16 254 (dk_at dksX3_lies_1 19 rfl rfl)
theorem dX3_lies_44 : decode cX3_lies 44 = .ok (.ireturn, 1) := dk_172 (dk_at dksX3_lies_1 21 rfl rfl)
def dkwX3_layState_3 : List UInt8 := [167, 0, 4, 3, 172]
abbrev dktX3_layState_3 : List UInt8 := dkwX3_layState_3 ++ []
def dkwX3_layState_2 : List UInt8 := [29, 3, 42, 182, 1, 130, 184, 0, 123, 153, 0, 16, 42, 29, 182, 1, 163, 29, 160, 0, 7, 4]
abbrev dktX3_layState_2 : List UInt8 := dkwX3_layState_2 ++ dktX3_layState_3
def dkwX3_layState_1 : List UInt8 := [42, 182, 1, 160, 28, 2, 160, 0, 13, 29, 154, 0, 7, 4, 167, 0, 4, 3, 172, 42, 28, 181, 1, 127]
abbrev dktX3_layState_1 : List UInt8 := dkwX3_layState_1 ++ dktX3_layState_2
def dkwX3_layState_0 : List UInt8 := [42, 27, 182, 1, 14, 153, 0, 17, 28, 2, 159, 0, 14, 42, 4, 28, 182, 0, 223, 154, 0, 5, 3, 172]
abbrev dktX3_layState_0 : List UInt8 := dkwX3_layState_0 ++ dktX3_layState_1
theorem dksX3_layState_0 : cX3_layState.data.toList.drop 0 = dktX3_layState_0 := by decide +kernel
theorem dksX3_layState_1 : cX3_layState.data.toList.drop 24 = dktX3_layState_1 := dk_seg dksX3_layState_0 24 rfl rfl
theorem dksX3_layState_2 : cX3_layState.data.toList.drop 48 = dktX3_layState_2 := dk_seg dksX3_layState_1 24 rfl rfl
theorem dksX3_layState_3 : cX3_layState.data.toList.drop 70 = dktX3_layState_3 := dk_seg dksX3_layState_2 22 rfl rfl
theorem dX3_layState_0 : decode cX3_layState 0 = .ok (.aload_n 0, 1) := dk_42 (dk_at dksX3_layState_0 0 rfl rfl)
theorem dX3_layState_1 : decode cX3_layState 1 = .ok (.iload_n 1, 1) := dk_27 (dk_at dksX3_layState_0 1 rfl rfl)
theorem dX3_layState_2 : decode cX3_layState 2 = .ok (.invokevirtual 270, 3) := dk_182 1 14 (dk_at dksX3_layState_0 2 rfl rfl)
theorem dX3_layState_5 : decode cX3_layState 5 = .ok (.ifCond .eq 17, 3) := dk_153 0 17 (dk_at dksX3_layState_0 5 rfl rfl)
theorem dX3_layState_8 : decode cX3_layState 8 = .ok (.iload_n 2, 1) := dk_28 (dk_at dksX3_layState_0 8 rfl rfl)
theorem dX3_layState_9 : decode cX3_layState 9 = .ok (.iconst (-1), 1) := dk_2 (dk_at dksX3_layState_0 9 rfl rfl)
theorem dX3_layState_10 : decode cX3_layState 10 = .ok (.if_icmp .eq 14, 3) := dk_159 0 14 (dk_at dksX3_layState_0 10 rfl rfl)
theorem dX3_layState_13 : decode cX3_layState 13 = .ok (.aload_n 0, 1) := dk_42 (dk_at dksX3_layState_0 13 rfl rfl)
theorem dX3_layState_14 : decode cX3_layState 14 = .ok (.iconst 1, 1) := dk_4 (dk_at dksX3_layState_0 14 rfl rfl)
theorem dX3_layState_15 : decode cX3_layState 15 = .ok (.iload_n 2, 1) := dk_28 (dk_at dksX3_layState_0 15 rfl rfl)
theorem dX3_layState_16 : decode cX3_layState 16 = .ok (.invokevirtual 223, 3) := dk_182 0 223 (dk_at dksX3_layState_0 16 rfl rfl)
theorem dX3_layState_19 : decode cX3_layState 19 = .ok (.ifCond .ne 5, 3) := dk_154 0 5 (dk_at dksX3_layState_0 19 rfl rfl)
theorem dX3_layState_22 : decode cX3_layState 22 = .ok (.iconst 0, 1) := dk_3 (dk_at dksX3_layState_0 22 rfl rfl)
theorem dX3_layState_23 : decode cX3_layState 23 = .ok (.ireturn, 1) := dk_172 (dk_at dksX3_layState_0 23 rfl rfl)
theorem dX3_layState_24 : decode cX3_layState 24 = .ok (.aload_n 0, 1) := dk_42 (dk_at dksX3_layState_1 0 rfl rfl)
theorem dX3_layState_25 : decode cX3_layState 25 = .ok (.invokevirtual 416, 3) := dk_182 1 160 (dk_at dksX3_layState_1 1 rfl rfl)
theorem dX3_layState_28 : decode cX3_layState 28 = .ok (.iload_n 2, 1) := dk_28 (dk_at dksX3_layState_1 4 rfl rfl)
theorem dX3_layState_29 : decode cX3_layState 29 = .ok (.iconst (-1), 1) := dk_2 (dk_at dksX3_layState_1 5 rfl rfl)
theorem dX3_layState_30 : decode cX3_layState 30 = .ok (.if_icmp .ne 13, 3) := dk_160 0 13 (dk_at dksX3_layState_1 6 rfl rfl)
theorem dX3_layState_33 : decode cX3_layState 33 = .ok (.iload_n 3, 1) := dk_29 (dk_at dksX3_layState_1 9 rfl rfl)
theorem dX3_layState_34 : decode cX3_layState 34 = .ok (.ifCond .ne 7, 3) := dk_154 0 7 (dk_at dksX3_layState_1 10 rfl rfl)
theorem dX3_layState_37 : decode cX3_layState 37 = .ok (.iconst 1, 1) := dk_4 (dk_at dksX3_layState_1 13 rfl rfl)
theorem dX3_layState_38 : decode cX3_layState 38 = .ok (.goto 4, 3) := dk_167 0 4 (dk_at dksX3_layState_1 14 rfl rfl)
theorem dX3_layState_41 : decode cX3_layState 41 = .ok (.iconst 0, 1) := dk_3 (dk_at dksX3_layState_1 17 rfl rfl)
theorem dX3_layState_42 : decode cX3_layState 42 = .ok (.ireturn, 1) := dk_172 (dk_at dksX3_layState_1 18 rfl rfl)
theorem dX3_layState_43 : decode cX3_layState 43 = .ok (.aload_n 0, 1) := dk_42 (dk_at dksX3_layState_1 19 rfl rfl)
theorem dX3_layState_44 : decode cX3_layState 44 = .ok (.iload_n 2, 1) := dk_28 (dk_at dksX3_layState_1 20 rfl rfl)
theorem dX3_layState_45 : decode cX3_layState 45 = .ok (.putfield 383, 3) := dk_181 1 127 (dk_at dksX3_layState_1 21 rfl rfl)
theorem dX3_layState_48 : decode cX3_layState 48 = .ok (.iload_n 3, 1) := dk_29 (dk_at dksX3_layState_2 0 rfl rfl)
theorem dX3_layState_49 : decode cX3_layState 49 = .ok (.iconst 0, 1) := dk_3 (dk_at dksX3_layState_2 1 rfl rfl)
theorem dX3_layState_50 : decode cX3_layState 50 = .ok (.aload_n 0, 1) := dk_42 (dk_at dksX3_layState_2 2 rfl rfl)
theorem dX3_layState_51 : decode cX3_layState 51 = .ok (.invokevirtual 386, 3) := dk_182 1 130 (dk_at dksX3_layState_2 3 rfl rfl)
theorem dX3_layState_54 : decode cX3_layState 54 = .ok (.invokestatic 123, 3) := dk_184 0 123 (dk_at dksX3_layState_2 6 rfl rfl)
theorem dX3_layState_57 : decode cX3_layState 57 = .ok (.ifCond .eq 16, 3) := dk_153 0 16 (dk_at dksX3_layState_2 9 rfl rfl)
theorem dX3_layState_60 : decode cX3_layState 60 = .ok (.aload_n 0, 1) := dk_42 (dk_at dksX3_layState_2 12 rfl rfl)
theorem dX3_layState_61 : decode cX3_layState 61 = .ok (.iload_n 3, 1) := dk_29 (dk_at dksX3_layState_2 13 rfl rfl)
theorem dX3_layState_62 : decode cX3_layState 62 = .ok (.invokevirtual 419, 3) := dk_182 1 163 (dk_at dksX3_layState_2 14 rfl rfl)
theorem dX3_layState_65 : decode cX3_layState 65 = .ok (.iload_n 3, 1) := dk_29 (dk_at dksX3_layState_2 17 rfl rfl)
theorem dX3_layState_66 : decode cX3_layState 66 = .ok (.if_icmp .ne 7, 3) := dk_160 0 7 (dk_at dksX3_layState_2 18 rfl rfl)
theorem dX3_layState_69 : decode cX3_layState 69 = .ok (.iconst 1, 1) := dk_4 (dk_at dksX3_layState_2 21 rfl rfl)
theorem dX3_layState_70 : decode cX3_layState 70 = .ok (.goto 4, 3) := dk_167 0 4 (dk_at dksX3_layState_3 0 rfl rfl)
theorem dX3_layState_73 : decode cX3_layState 73 = .ok (.iconst 0, 1) := dk_3 (dk_at dksX3_layState_3 3 rfl rfl)
theorem dX3_layState_74 : decode cX3_layState 74 = .ok (.ireturn, 1) := dk_172 (dk_at dksX3_layState_3 4 rfl rfl)
def dkwX3_state_3 : List UInt8 := [182, 1, 174, 133, 173, 42, 182, 1, 177, 133, 173, 42, 182, 1, 180, 173, 20, 1, 169, 173]
abbrev dktX3_state_3 : List UInt8 := dkwX3_state_3 ++ []
def dkwX3_state_2 : List UInt8 := [42, 182, 1, 11, 133, 173, 42, 180, 1, 136, 133, 173, 42, 180, 1, 139, 133, 173, 42, 182, 1, 171, 173, 42]
abbrev dktX3_state_2 : List UInt8 := dkwX3_state_2 ++ dktX3_state_3
def dkwX3_state_1 : List UInt8 := [170, 0, 0, 0, 0, 0, 83, 0, 0, 0, 0, 0, 0, 0, 6, 0, 0, 0, 43, 0, 0, 0, 49, 0, 0, 0, 55, 0, 0, 0, 61, 0, 0, 0, 66, 0, 0, 0, 72, 0, 0, 0, 78]
abbrev dktX3_state_1 : List UInt8 := dkwX3_state_1 ++ dktX3_state_2
def dkwX3_state_0 : List UInt8 := [42, 3, 181, 0, 111, 42, 27, 28, 29, 182, 1, 166, 154, 0, 7, 20, 1, 169, 173, 21, 4]
abbrev dktX3_state_0 : List UInt8 := dkwX3_state_0 ++ dktX3_state_1
theorem dksX3_state_0 : cX3_state.data.toList.drop 0 = dktX3_state_0 := by decide +kernel
theorem dksX3_state_1 : cX3_state.data.toList.drop 21 = dktX3_state_1 := dk_seg dksX3_state_0 21 rfl rfl
theorem dksX3_state_2 : cX3_state.data.toList.drop 64 = dktX3_state_2 := dk_seg dksX3_state_1 43 rfl rfl
theorem dksX3_state_3 : cX3_state.data.toList.drop 88 = dktX3_state_3 := dk_seg dksX3_state_2 24 rfl rfl
theorem dX3_state_0 : decode cX3_state 0 = .ok (.aload_n 0, 1) := dk_42 (dk_at dksX3_state_0 0 rfl rfl)
theorem dX3_state_1 : decode cX3_state 1 = .ok (.iconst 0, 1) := dk_3 (dk_at dksX3_state_0 1 rfl rfl)
theorem dX3_state_2 : decode cX3_state 2 = .ok (.putfield 111, 3) := dk_181 0 111 (dk_at dksX3_state_0 2 rfl rfl)
theorem dX3_state_5 : decode cX3_state 5 = .ok (.aload_n 0, 1) := dk_42 (dk_at dksX3_state_0 5 rfl rfl)
theorem dX3_state_6 : decode cX3_state 6 = .ok (.iload_n 1, 1) := dk_27 (dk_at dksX3_state_0 6 rfl rfl)
theorem dX3_state_7 : decode cX3_state 7 = .ok (.iload_n 2, 1) := dk_28 (dk_at dksX3_state_0 7 rfl rfl)
theorem dX3_state_8 : decode cX3_state 8 = .ok (.iload_n 3, 1) := dk_29 (dk_at dksX3_state_0 8 rfl rfl)
theorem dX3_state_9 : decode cX3_state 9 = .ok (.invokevirtual 422, 3) := dk_182 1 166 (dk_at dksX3_state_0 9 rfl rfl)
theorem dX3_state_12 : decode cX3_state 12 = .ok (.ifCond .ne 7, 3) := dk_154 0 7 (dk_at dksX3_state_0 12 rfl rfl)
theorem dX3_state_15 : decode cX3_state 15 = .ok (.ldc2_w 425, 3) := dk_20 1 169 (dk_at dksX3_state_0 15 rfl rfl)
theorem dX3_state_18 : decode cX3_state 18 = .ok (.lreturn, 1) := dk_173 (dk_at dksX3_state_0 18 rfl rfl)
theorem dX3_state_19 : decode cX3_state 19 = .ok (.iload 4, 2) := dk_21 4 (dk_at dksX3_state_0 19 rfl rfl)
theorem dX3_state_21 : decode cX3_state 21 = .ok (.tableswitch 83 0 6 #[43, 49, 55, 61, 66, 72, 78], 43) := by decide +kernel
theorem dX3_state_64 : decode cX3_state 64 = .ok (.aload_n 0, 1) := dk_42 (dk_at dksX3_state_2 0 rfl rfl)
theorem dX3_state_65 : decode cX3_state 65 = .ok (.invokevirtual 267, 3) := dk_182 1 11 (dk_at dksX3_state_2 1 rfl rfl)
theorem dX3_state_68 : decode cX3_state 68 = .ok (.i2l, 1) := dk_133 (dk_at dksX3_state_2 4 rfl rfl)
theorem dX3_state_69 : decode cX3_state 69 = .ok (.lreturn, 1) := dk_173 (dk_at dksX3_state_2 5 rfl rfl)
theorem dX3_state_70 : decode cX3_state 70 = .ok (.aload_n 0, 1) := dk_42 (dk_at dksX3_state_2 6 rfl rfl)
theorem dX3_state_71 : decode cX3_state 71 = .ok (.getfield 392, 3) := dk_180 1 136 (dk_at dksX3_state_2 7 rfl rfl)
theorem dX3_state_74 : decode cX3_state 74 = .ok (.i2l, 1) := dk_133 (dk_at dksX3_state_2 10 rfl rfl)
theorem dX3_state_75 : decode cX3_state 75 = .ok (.lreturn, 1) := dk_173 (dk_at dksX3_state_2 11 rfl rfl)
theorem dX3_state_76 : decode cX3_state 76 = .ok (.aload_n 0, 1) := dk_42 (dk_at dksX3_state_2 12 rfl rfl)
theorem dX3_state_77 : decode cX3_state 77 = .ok (.getfield 395, 3) := dk_180 1 139 (dk_at dksX3_state_2 13 rfl rfl)
theorem dX3_state_80 : decode cX3_state 80 = .ok (.i2l, 1) := dk_133 (dk_at dksX3_state_2 16 rfl rfl)
theorem dX3_state_81 : decode cX3_state 81 = .ok (.lreturn, 1) := dk_173 (dk_at dksX3_state_2 17 rfl rfl)
theorem dX3_state_82 : decode cX3_state 82 = .ok (.aload_n 0, 1) := dk_42 (dk_at dksX3_state_2 18 rfl rfl)
theorem dX3_state_83 : decode cX3_state 83 = .ok (.invokevirtual 427, 3) := dk_182 1 171 (dk_at dksX3_state_2 19 rfl rfl)
theorem dX3_state_86 : decode cX3_state 86 = .ok (.lreturn, 1) := dk_173 (dk_at dksX3_state_2 22 rfl rfl)
theorem dX3_state_87 : decode cX3_state 87 = .ok (.aload_n 0, 1) := dk_42 (dk_at dksX3_state_2 23 rfl rfl)
theorem dX3_state_88 : decode cX3_state 88 = .ok (.invokevirtual 430, 3) := dk_182 1 174 (dk_at dksX3_state_3 0 rfl rfl)
theorem dX3_state_91 : decode cX3_state 91 = .ok (.i2l, 1) := dk_133 (dk_at dksX3_state_3 3 rfl rfl)
theorem dX3_state_92 : decode cX3_state 92 = .ok (.lreturn, 1) := dk_173 (dk_at dksX3_state_3 4 rfl rfl)
theorem dX3_state_93 : decode cX3_state 93 = .ok (.aload_n 0, 1) := dk_42 (dk_at dksX3_state_3 5 rfl rfl)
theorem dX3_state_94 : decode cX3_state 94 = .ok (.invokevirtual 433, 3) := dk_182 1 177 (dk_at dksX3_state_3 6 rfl rfl)
theorem dX3_state_97 : decode cX3_state 97 = .ok (.i2l, 1) := dk_133 (dk_at dksX3_state_3 9 rfl rfl)
theorem dX3_state_98 : decode cX3_state 98 = .ok (.lreturn, 1) := dk_173 (dk_at dksX3_state_3 10 rfl rfl)
theorem dX3_state_99 : decode cX3_state 99 = .ok (.aload_n 0, 1) := dk_42 (dk_at dksX3_state_3 11 rfl rfl)
theorem dX3_state_100 : decode cX3_state 100 = .ok (.invokevirtual 436, 3) := dk_182 1 180 (dk_at dksX3_state_3 12 rfl rfl)
theorem dX3_state_103 : decode cX3_state 103 = .ok (.lreturn, 1) := dk_173 (dk_at dksX3_state_3 15 rfl rfl)
theorem dX3_state_104 : decode cX3_state 104 = .ok (.ldc2_w 425, 3) := dk_20 1 169 (dk_at dksX3_state_3 16 rfl rfl)
theorem dX3_state_107 : decode cX3_state 107 = .ok (.lreturn, 1) := dk_173 (dk_at dksX3_state_3 19 rfl rfl)
def dkwX3_lentSet_1 : List UInt8 := [167, 0, 4, 9, 129, 64, 132, 3, 1, 167, 255, 228, 31, 173]
abbrev dktX3_lentSet_1 : List UInt8 := dkwX3_lentSet_1 ++ []
def dkwX3_lentSet_0 : List UInt8 := [9, 64, 3, 62, 29, 16, 32, 162, 0, 28, 31, 42, 180, 0, 92, 29, 46, 158, 0, 9, 10, 29, 121]
abbrev dktX3_lentSet_0 : List UInt8 := dkwX3_lentSet_0 ++ dktX3_lentSet_1
theorem dksX3_lentSet_0 : cX3_lentSet.data.toList.drop 0 = dktX3_lentSet_0 := by decide +kernel
theorem dksX3_lentSet_1 : cX3_lentSet.data.toList.drop 23 = dktX3_lentSet_1 := dk_seg dksX3_lentSet_0 23 rfl rfl
theorem dX3_lentSet_0 : decode cX3_lentSet 0 = .ok (.lconst 0, 1) := dk_9 (dk_at dksX3_lentSet_0 0 rfl rfl)
theorem dX3_lentSet_1 : decode cX3_lentSet 1 = .ok (.lstore_n 1, 1) := dk_64 (dk_at dksX3_lentSet_0 1 rfl rfl)
theorem dX3_lentSet_2 : decode cX3_lentSet 2 = .ok (.iconst 0, 1) := dk_3 (dk_at dksX3_lentSet_0 2 rfl rfl)
theorem dX3_lentSet_3 : decode cX3_lentSet 3 = .ok (.istore_n 3, 1) := dk_62 (dk_at dksX3_lentSet_0 3 rfl rfl)
theorem dX3_lentSet_4 : decode cX3_lentSet 4 = .ok (.iload_n 3, 1) := dk_29 (dk_at dksX3_lentSet_0 4 rfl rfl)
theorem dX3_lentSet_5 : decode cX3_lentSet 5 = .ok (.bipush 32, 2) := dk_16 32 (dk_at dksX3_lentSet_0 5 rfl rfl)
theorem dX3_lentSet_7 : decode cX3_lentSet 7 = .ok (.if_icmp .ge 28, 3) := dk_162 0 28 (dk_at dksX3_lentSet_0 7 rfl rfl)
theorem dX3_lentSet_10 : decode cX3_lentSet 10 = .ok (.lload_n 1, 1) := dk_31 (dk_at dksX3_lentSet_0 10 rfl rfl)
theorem dX3_lentSet_11 : decode cX3_lentSet 11 = .ok (.aload_n 0, 1) := dk_42 (dk_at dksX3_lentSet_0 11 rfl rfl)
theorem dX3_lentSet_12 : decode cX3_lentSet 12 = .ok (.getfield 92, 3) := dk_180 0 92 (dk_at dksX3_lentSet_0 12 rfl rfl)
theorem dX3_lentSet_15 : decode cX3_lentSet 15 = .ok (.iload_n 3, 1) := dk_29 (dk_at dksX3_lentSet_0 15 rfl rfl)
theorem dX3_lentSet_16 : decode cX3_lentSet 16 = .ok (.iaload, 1) := dk_46 (dk_at dksX3_lentSet_0 16 rfl rfl)
theorem dX3_lentSet_17 : decode cX3_lentSet 17 = .ok (.ifCond .le 9, 3) := dk_158 0 9 (dk_at dksX3_lentSet_0 17 rfl rfl)
theorem dX3_lentSet_20 : decode cX3_lentSet 20 = .ok (.lconst 1, 1) := dk_10 (dk_at dksX3_lentSet_0 20 rfl rfl)
theorem dX3_lentSet_21 : decode cX3_lentSet 21 = .ok (.iload_n 3, 1) := dk_29 (dk_at dksX3_lentSet_0 21 rfl rfl)
theorem dX3_lentSet_22 : decode cX3_lentSet 22 = .ok (.lshl, 1) := dk_121 (dk_at dksX3_lentSet_0 22 rfl rfl)
theorem dX3_lentSet_23 : decode cX3_lentSet 23 = .ok (.goto 4, 3) := dk_167 0 4 (dk_at dksX3_lentSet_1 0 rfl rfl)
theorem dX3_lentSet_26 : decode cX3_lentSet 26 = .ok (.lconst 0, 1) := dk_9 (dk_at dksX3_lentSet_1 3 rfl rfl)
theorem dX3_lentSet_27 : decode cX3_lentSet 27 = .ok (.lor, 1) := dk_129 (dk_at dksX3_lentSet_1 4 rfl rfl)
theorem dX3_lentSet_28 : decode cX3_lentSet 28 = .ok (.lstore_n 1, 1) := dk_64 (dk_at dksX3_lentSet_1 5 rfl rfl)
theorem dX3_lentSet_29 : decode cX3_lentSet 29 = .ok (.iinc 3 1, 3) := dk_132 3 1 (dk_at dksX3_lentSet_1 6 rfl rfl)
theorem dX3_lentSet_32 : decode cX3_lentSet 32 = .ok (.goto (-28), 3) := dk_167 255 228 (dk_at dksX3_lentSet_1 9 rfl rfl)
theorem dX3_lentSet_35 : decode cX3_lentSet 35 = .ok (.lload_n 1, 1) := dk_31 (dk_at dksX3_lentSet_1 12 rfl rfl)
theorem dX3_lentSet_36 : decode cX3_lentSet 36 = .ok (.lreturn, 1) := dk_173 (dk_at dksX3_lentSet_1 13 rfl rfl)
def dkwX3_movedNow_2 : List UInt8 := [167, 255, 214, 27, 172]
abbrev dktX3_movedNow_2 : List UInt8 := dkwX3_movedNow_2 ++ []
def dkwX3_movedNow_1 : List UInt8 := [180, 0, 47, 28, 46, 42, 180, 0, 50, 28, 46, 159, 0, 7, 4, 167, 0, 4, 3, 96, 60, 132, 2, 1]
abbrev dktX3_movedNow_1 : List UInt8 := dkwX3_movedNow_1 ++ dktX3_movedNow_2
def dkwX3_movedNow_0 : List UInt8 := [3, 60, 3, 61, 28, 16, 48, 162, 0, 42, 27, 42, 180, 0, 50, 28, 46, 2, 159, 0, 22, 42]
abbrev dktX3_movedNow_0 : List UInt8 := dkwX3_movedNow_0 ++ dktX3_movedNow_1
theorem dksX3_movedNow_0 : cX3_movedNow.data.toList.drop 0 = dktX3_movedNow_0 := by decide +kernel
theorem dksX3_movedNow_1 : cX3_movedNow.data.toList.drop 22 = dktX3_movedNow_1 := dk_seg dksX3_movedNow_0 22 rfl rfl
theorem dksX3_movedNow_2 : cX3_movedNow.data.toList.drop 46 = dktX3_movedNow_2 := dk_seg dksX3_movedNow_1 24 rfl rfl
theorem dX3_movedNow_0 : decode cX3_movedNow 0 = .ok (.iconst 0, 1) := dk_3 (dk_at dksX3_movedNow_0 0 rfl rfl)
theorem dX3_movedNow_1 : decode cX3_movedNow 1 = .ok (.istore_n 1, 1) := dk_60 (dk_at dksX3_movedNow_0 1 rfl rfl)
theorem dX3_movedNow_2 : decode cX3_movedNow 2 = .ok (.iconst 0, 1) := dk_3 (dk_at dksX3_movedNow_0 2 rfl rfl)
theorem dX3_movedNow_3 : decode cX3_movedNow 3 = .ok (.istore_n 2, 1) := dk_61 (dk_at dksX3_movedNow_0 3 rfl rfl)
theorem dX3_movedNow_4 : decode cX3_movedNow 4 = .ok (.iload_n 2, 1) := dk_28 (dk_at dksX3_movedNow_0 4 rfl rfl)
theorem dX3_movedNow_5 : decode cX3_movedNow 5 = .ok (.bipush 48, 2) := dk_16 48 (dk_at dksX3_movedNow_0 5 rfl rfl)
theorem dX3_movedNow_7 : decode cX3_movedNow 7 = .ok (.if_icmp .ge 42, 3) := dk_162 0 42 (dk_at dksX3_movedNow_0 7 rfl rfl)
theorem dX3_movedNow_10 : decode cX3_movedNow 10 = .ok (.iload_n 1, 1) := dk_27 (dk_at dksX3_movedNow_0 10 rfl rfl)
theorem dX3_movedNow_11 : decode cX3_movedNow 11 = .ok (.aload_n 0, 1) := dk_42 (dk_at dksX3_movedNow_0 11 rfl rfl)
theorem dX3_movedNow_12 : decode cX3_movedNow 12 = .ok (.getfield 50, 3) := dk_180 0 50 (dk_at dksX3_movedNow_0 12 rfl rfl)
theorem dX3_movedNow_15 : decode cX3_movedNow 15 = .ok (.iload_n 2, 1) := dk_28 (dk_at dksX3_movedNow_0 15 rfl rfl)
theorem dX3_movedNow_16 : decode cX3_movedNow 16 = .ok (.iaload, 1) := dk_46 (dk_at dksX3_movedNow_0 16 rfl rfl)
theorem dX3_movedNow_17 : decode cX3_movedNow 17 = .ok (.iconst (-1), 1) := dk_2 (dk_at dksX3_movedNow_0 17 rfl rfl)
theorem dX3_movedNow_18 : decode cX3_movedNow 18 = .ok (.if_icmp .eq 22, 3) := dk_159 0 22 (dk_at dksX3_movedNow_0 18 rfl rfl)
theorem dX3_movedNow_21 : decode cX3_movedNow 21 = .ok (.aload_n 0, 1) := dk_42 (dk_at dksX3_movedNow_0 21 rfl rfl)
theorem dX3_movedNow_22 : decode cX3_movedNow 22 = .ok (.getfield 47, 3) := dk_180 0 47 (dk_at dksX3_movedNow_1 0 rfl rfl)
theorem dX3_movedNow_25 : decode cX3_movedNow 25 = .ok (.iload_n 2, 1) := dk_28 (dk_at dksX3_movedNow_1 3 rfl rfl)
theorem dX3_movedNow_26 : decode cX3_movedNow 26 = .ok (.iaload, 1) := dk_46 (dk_at dksX3_movedNow_1 4 rfl rfl)
theorem dX3_movedNow_27 : decode cX3_movedNow 27 = .ok (.aload_n 0, 1) := dk_42 (dk_at dksX3_movedNow_1 5 rfl rfl)
theorem dX3_movedNow_28 : decode cX3_movedNow 28 = .ok (.getfield 50, 3) := dk_180 0 50 (dk_at dksX3_movedNow_1 6 rfl rfl)
theorem dX3_movedNow_31 : decode cX3_movedNow 31 = .ok (.iload_n 2, 1) := dk_28 (dk_at dksX3_movedNow_1 9 rfl rfl)
theorem dX3_movedNow_32 : decode cX3_movedNow 32 = .ok (.iaload, 1) := dk_46 (dk_at dksX3_movedNow_1 10 rfl rfl)
theorem dX3_movedNow_33 : decode cX3_movedNow 33 = .ok (.if_icmp .eq 7, 3) := dk_159 0 7 (dk_at dksX3_movedNow_1 11 rfl rfl)
theorem dX3_movedNow_36 : decode cX3_movedNow 36 = .ok (.iconst 1, 1) := dk_4 (dk_at dksX3_movedNow_1 14 rfl rfl)
theorem dX3_movedNow_37 : decode cX3_movedNow 37 = .ok (.goto 4, 3) := dk_167 0 4 (dk_at dksX3_movedNow_1 15 rfl rfl)
theorem dX3_movedNow_40 : decode cX3_movedNow 40 = .ok (.iconst 0, 1) := dk_3 (dk_at dksX3_movedNow_1 18 rfl rfl)
theorem dX3_movedNow_41 : decode cX3_movedNow 41 = .ok (.iadd, 1) := dk_96 (dk_at dksX3_movedNow_1 19 rfl rfl)
theorem dX3_movedNow_42 : decode cX3_movedNow 42 = .ok (.istore_n 1, 1) := dk_60 (dk_at dksX3_movedNow_1 20 rfl rfl)
theorem dX3_movedNow_43 : decode cX3_movedNow 43 = .ok (.iinc 2 1, 3) := dk_132 2 1 (dk_at dksX3_movedNow_1 21 rfl rfl)
theorem dX3_movedNow_46 : decode cX3_movedNow 46 = .ok (.goto (-42), 3) := dk_167 255 214 (dk_at dksX3_movedNow_2 0 rfl rfl)
theorem dX3_movedNow_49 : decode cX3_movedNow 49 = .ok (.iload_n 1, 1) := dk_27 (dk_at dksX3_movedNow_2 3 rfl rfl)
theorem dX3_movedNow_50 : decode cX3_movedNow 50 = .ok (.ireturn, 1) := dk_172 (dk_at dksX3_movedNow_2 4 rfl rfl)
def dkwX3_sure_2 : List UInt8 := [96, 60, 132, 3, 1, 167, 255, 217, 132, 2, 1, 167, 255, 201, 27, 172]
abbrev dktX3_sure_2 : List UInt8 := dkwX3_sure_2 ++ []
def dkwX3_sure_1 : List UInt8 := [27, 42, 180, 0, 89, 16, 12, 28, 104, 29, 96, 47, 184, 0, 253, 4, 160, 0, 7, 4, 167, 0, 4, 3]
abbrev dktX3_sure_1 : List UInt8 := dkwX3_sure_1 ++ dktX3_sure_2
def dkwX3_sure_0 : List UInt8 := [3, 60, 3, 61, 28, 42, 180, 0, 243, 162, 0, 53, 3, 62, 29, 42, 180, 0, 41, 28, 46, 162, 0, 35]
abbrev dktX3_sure_0 : List UInt8 := dkwX3_sure_0 ++ dktX3_sure_1
theorem dksX3_sure_0 : cX3_sure.data.toList.drop 0 = dktX3_sure_0 := by decide +kernel
theorem dksX3_sure_1 : cX3_sure.data.toList.drop 24 = dktX3_sure_1 := dk_seg dksX3_sure_0 24 rfl rfl
theorem dksX3_sure_2 : cX3_sure.data.toList.drop 48 = dktX3_sure_2 := dk_seg dksX3_sure_1 24 rfl rfl
theorem dX3_sure_0 : decode cX3_sure 0 = .ok (.iconst 0, 1) := dk_3 (dk_at dksX3_sure_0 0 rfl rfl)
theorem dX3_sure_1 : decode cX3_sure 1 = .ok (.istore_n 1, 1) := dk_60 (dk_at dksX3_sure_0 1 rfl rfl)
theorem dX3_sure_2 : decode cX3_sure 2 = .ok (.iconst 0, 1) := dk_3 (dk_at dksX3_sure_0 2 rfl rfl)
theorem dX3_sure_3 : decode cX3_sure 3 = .ok (.istore_n 2, 1) := dk_61 (dk_at dksX3_sure_0 3 rfl rfl)
theorem dX3_sure_4 : decode cX3_sure 4 = .ok (.iload_n 2, 1) := dk_28 (dk_at dksX3_sure_0 4 rfl rfl)
theorem dX3_sure_5 : decode cX3_sure 5 = .ok (.aload_n 0, 1) := dk_42 (dk_at dksX3_sure_0 5 rfl rfl)
theorem dX3_sure_6 : decode cX3_sure 6 = .ok (.getfield 243, 3) := dk_180 0 243 (dk_at dksX3_sure_0 6 rfl rfl)
theorem dX3_sure_9 : decode cX3_sure 9 = .ok (.if_icmp .ge 53, 3) := dk_162 0 53 (dk_at dksX3_sure_0 9 rfl rfl)
theorem dX3_sure_12 : decode cX3_sure 12 = .ok (.iconst 0, 1) := dk_3 (dk_at dksX3_sure_0 12 rfl rfl)
theorem dX3_sure_13 : decode cX3_sure 13 = .ok (.istore_n 3, 1) := dk_62 (dk_at dksX3_sure_0 13 rfl rfl)
theorem dX3_sure_14 : decode cX3_sure 14 = .ok (.iload_n 3, 1) := dk_29 (dk_at dksX3_sure_0 14 rfl rfl)
theorem dX3_sure_15 : decode cX3_sure 15 = .ok (.aload_n 0, 1) := dk_42 (dk_at dksX3_sure_0 15 rfl rfl)
theorem dX3_sure_16 : decode cX3_sure 16 = .ok (.getfield 41, 3) := dk_180 0 41 (dk_at dksX3_sure_0 16 rfl rfl)
theorem dX3_sure_19 : decode cX3_sure 19 = .ok (.iload_n 2, 1) := dk_28 (dk_at dksX3_sure_0 19 rfl rfl)
theorem dX3_sure_20 : decode cX3_sure 20 = .ok (.iaload, 1) := dk_46 (dk_at dksX3_sure_0 20 rfl rfl)
theorem dX3_sure_21 : decode cX3_sure 21 = .ok (.if_icmp .ge 35, 3) := dk_162 0 35 (dk_at dksX3_sure_0 21 rfl rfl)
theorem dX3_sure_24 : decode cX3_sure 24 = .ok (.iload_n 1, 1) := dk_27 (dk_at dksX3_sure_1 0 rfl rfl)
theorem dX3_sure_25 : decode cX3_sure 25 = .ok (.aload_n 0, 1) := dk_42 (dk_at dksX3_sure_1 1 rfl rfl)
theorem dX3_sure_26 : decode cX3_sure 26 = .ok (.getfield 89, 3) := dk_180 0 89 (dk_at dksX3_sure_1 2 rfl rfl)
theorem dX3_sure_29 : decode cX3_sure 29 = .ok (.bipush 12, 2) := dk_16 12 (dk_at dksX3_sure_1 5 rfl rfl)
theorem dX3_sure_31 : decode cX3_sure 31 = .ok (.iload_n 2, 1) := dk_28 (dk_at dksX3_sure_1 7 rfl rfl)
theorem dX3_sure_32 : decode cX3_sure 32 = .ok (.imul, 1) := dk_104 (dk_at dksX3_sure_1 8 rfl rfl)
theorem dX3_sure_33 : decode cX3_sure 33 = .ok (.iload_n 3, 1) := dk_29 (dk_at dksX3_sure_1 9 rfl rfl)
theorem dX3_sure_34 : decode cX3_sure 34 = .ok (.iadd, 1) := dk_96 (dk_at dksX3_sure_1 10 rfl rfl)
theorem dX3_sure_35 : decode cX3_sure 35 = .ok (.laload, 1) := dk_47 (dk_at dksX3_sure_1 11 rfl rfl)
theorem dX3_sure_36 : decode cX3_sure 36 = .ok (.invokestatic 253, 3) := dk_184 0 253 (dk_at dksX3_sure_1 12 rfl rfl)
theorem dX3_sure_39 : decode cX3_sure 39 = .ok (.iconst 1, 1) := dk_4 (dk_at dksX3_sure_1 15 rfl rfl)
theorem dX3_sure_40 : decode cX3_sure 40 = .ok (.if_icmp .ne 7, 3) := dk_160 0 7 (dk_at dksX3_sure_1 16 rfl rfl)
theorem dX3_sure_43 : decode cX3_sure 43 = .ok (.iconst 1, 1) := dk_4 (dk_at dksX3_sure_1 19 rfl rfl)
theorem dX3_sure_44 : decode cX3_sure 44 = .ok (.goto 4, 3) := dk_167 0 4 (dk_at dksX3_sure_1 20 rfl rfl)
theorem dX3_sure_47 : decode cX3_sure 47 = .ok (.iconst 0, 1) := dk_3 (dk_at dksX3_sure_1 23 rfl rfl)
theorem dX3_sure_48 : decode cX3_sure 48 = .ok (.iadd, 1) := dk_96 (dk_at dksX3_sure_2 0 rfl rfl)
theorem dX3_sure_49 : decode cX3_sure 49 = .ok (.istore_n 1, 1) := dk_60 (dk_at dksX3_sure_2 1 rfl rfl)
theorem dX3_sure_50 : decode cX3_sure 50 = .ok (.iinc 3 1, 3) := dk_132 3 1 (dk_at dksX3_sure_2 2 rfl rfl)
theorem dX3_sure_53 : decode cX3_sure 53 = .ok (.goto (-39), 3) := dk_167 255 217 (dk_at dksX3_sure_2 5 rfl rfl)
theorem dX3_sure_56 : decode cX3_sure 56 = .ok (.iinc 2 1, 3) := dk_132 2 1 (dk_at dksX3_sure_2 8 rfl rfl)
theorem dX3_sure_59 : decode cX3_sure 59 = .ok (.goto (-55), 3) := dk_167 255 201 (dk_at dksX3_sure_2 11 rfl rfl)
theorem dX3_sure_62 : decode cX3_sure 62 = .ok (.iload_n 1, 1) := dk_27 (dk_at dksX3_sure_2 14 rfl rfl)
theorem dX3_sure_63 : decode cX3_sure 63 = .ok (.ireturn, 1) := dk_172 (dk_at dksX3_sure_2 15 rfl rfl)
def dkwX3_inOrder_1 : List UInt8 := [154, 0, 9, 10, 29, 121, 167, 0, 4, 9, 129, 64, 132, 3, 1, 167, 255, 223, 31, 173]
abbrev dktX3_inOrder_1 : List UInt8 := dkwX3_inOrder_1 ++ []
def dkwX3_inOrder_0 : List UInt8 := [9, 64, 3, 62, 29, 42, 180, 0, 243, 162, 0, 31, 42, 29, 182, 1, 77, 31, 42, 182, 1, 80]
abbrev dktX3_inOrder_0 : List UInt8 := dkwX3_inOrder_0 ++ dktX3_inOrder_1
theorem dksX3_inOrder_0 : cX3_inOrder.data.toList.drop 0 = dktX3_inOrder_0 := by decide +kernel
theorem dksX3_inOrder_1 : cX3_inOrder.data.toList.drop 22 = dktX3_inOrder_1 := dk_seg dksX3_inOrder_0 22 rfl rfl
theorem dX3_inOrder_0 : decode cX3_inOrder 0 = .ok (.lconst 0, 1) := dk_9 (dk_at dksX3_inOrder_0 0 rfl rfl)
theorem dX3_inOrder_1 : decode cX3_inOrder 1 = .ok (.lstore_n 1, 1) := dk_64 (dk_at dksX3_inOrder_0 1 rfl rfl)
theorem dX3_inOrder_2 : decode cX3_inOrder 2 = .ok (.iconst 0, 1) := dk_3 (dk_at dksX3_inOrder_0 2 rfl rfl)
theorem dX3_inOrder_3 : decode cX3_inOrder 3 = .ok (.istore_n 3, 1) := dk_62 (dk_at dksX3_inOrder_0 3 rfl rfl)
theorem dX3_inOrder_4 : decode cX3_inOrder 4 = .ok (.iload_n 3, 1) := dk_29 (dk_at dksX3_inOrder_0 4 rfl rfl)
theorem dX3_inOrder_5 : decode cX3_inOrder 5 = .ok (.aload_n 0, 1) := dk_42 (dk_at dksX3_inOrder_0 5 rfl rfl)
theorem dX3_inOrder_6 : decode cX3_inOrder 6 = .ok (.getfield 243, 3) := dk_180 0 243 (dk_at dksX3_inOrder_0 6 rfl rfl)
theorem dX3_inOrder_9 : decode cX3_inOrder 9 = .ok (.if_icmp .ge 31, 3) := dk_162 0 31 (dk_at dksX3_inOrder_0 9 rfl rfl)
theorem dX3_inOrder_12 : decode cX3_inOrder 12 = .ok (.aload_n 0, 1) := dk_42 (dk_at dksX3_inOrder_0 12 rfl rfl)
theorem dX3_inOrder_13 : decode cX3_inOrder 13 = .ok (.iload_n 3, 1) := dk_29 (dk_at dksX3_inOrder_0 13 rfl rfl)
theorem dX3_inOrder_14 : decode cX3_inOrder 14 = .ok (.invokevirtual 333, 3) := dk_182 1 77 (dk_at dksX3_inOrder_0 14 rfl rfl)
theorem dX3_inOrder_17 : decode cX3_inOrder 17 = .ok (.lload_n 1, 1) := dk_31 (dk_at dksX3_inOrder_0 17 rfl rfl)
theorem dX3_inOrder_18 : decode cX3_inOrder 18 = .ok (.aload_n 0, 1) := dk_42 (dk_at dksX3_inOrder_0 18 rfl rfl)
theorem dX3_inOrder_19 : decode cX3_inOrder 19 = .ok (.invokevirtual 336, 3) := dk_182 1 80 (dk_at dksX3_inOrder_0 19 rfl rfl)
theorem dX3_inOrder_22 : decode cX3_inOrder 22 = .ok (.ifCond .ne 9, 3) := dk_154 0 9 (dk_at dksX3_inOrder_1 0 rfl rfl)
theorem dX3_inOrder_25 : decode cX3_inOrder 25 = .ok (.lconst 1, 1) := dk_10 (dk_at dksX3_inOrder_1 3 rfl rfl)
theorem dX3_inOrder_26 : decode cX3_inOrder 26 = .ok (.iload_n 3, 1) := dk_29 (dk_at dksX3_inOrder_1 4 rfl rfl)
theorem dX3_inOrder_27 : decode cX3_inOrder 27 = .ok (.lshl, 1) := dk_121 (dk_at dksX3_inOrder_1 5 rfl rfl)
theorem dX3_inOrder_28 : decode cX3_inOrder 28 = .ok (.goto 4, 3) := dk_167 0 4 (dk_at dksX3_inOrder_1 6 rfl rfl)
theorem dX3_inOrder_31 : decode cX3_inOrder 31 = .ok (.lconst 0, 1) := dk_9 (dk_at dksX3_inOrder_1 9 rfl rfl)
theorem dX3_inOrder_32 : decode cX3_inOrder 32 = .ok (.lor, 1) := dk_129 (dk_at dksX3_inOrder_1 10 rfl rfl)
theorem dX3_inOrder_33 : decode cX3_inOrder 33 = .ok (.lstore_n 1, 1) := dk_64 (dk_at dksX3_inOrder_1 11 rfl rfl)
theorem dX3_inOrder_34 : decode cX3_inOrder 34 = .ok (.iinc 3 1, 3) := dk_132 3 1 (dk_at dksX3_inOrder_1 12 rfl rfl)
theorem dX3_inOrder_37 : decode cX3_inOrder 37 = .ok (.goto (-33), 3) := dk_167 255 223 (dk_at dksX3_inOrder_1 15 rfl rfl)
theorem dX3_inOrder_40 : decode cX3_inOrder 40 = .ok (.lload_n 1, 1) := dk_31 (dk_at dksX3_inOrder_1 18 rfl rfl)
theorem dX3_inOrder_41 : decode cX3_inOrder 41 = .ok (.lreturn, 1) := dk_173 (dk_at dksX3_inOrder_1 19 rfl rfl)
def dkwX3_may_5 : List UInt8 := [133, 173]
abbrev dktX3_may_5 : List UInt8 := dkwX3_may_5 ++ []
def dkwX3_may_4 : List UInt8 := [133, 184, 0, 253, 162, 0, 8, 21, 10, 167, 0, 5, 21, 9, 54, 9, 132, 10, 1, 167, 255, 202, 21, 9]
abbrev dktX3_may_4 : List UInt8 := dkwX3_may_4 ++ dktX3_may_5
def dkwX3_may_3 : List UInt8 := [22, 7, 21, 10, 184, 0, 115, 153, 0, 29, 21, 9, 2, 159, 0, 18, 21, 10, 133, 184, 0, 253, 21, 9]
abbrev dktX3_may_3 : List UInt8 := dkwX3_may_3 ++ dktX3_may_4
def dkwX3_may_2 : List UInt8 := [154, 0, 6, 22, 7, 173, 2, 54, 9, 3, 54, 10, 21, 10, 4, 42, 180, 0, 234, 120, 162, 0, 49]
abbrev dktX3_may_2 : List UInt8 := dkwX3_may_2 ++ dktX3_may_3
def dkwX3_may_1 : List UInt8 := [154, 0, 7, 20, 1, 169, 173, 42, 180, 0, 89, 16, 12, 21, 4, 104, 21, 5, 96, 47, 55, 7, 21, 6]
abbrev dktX3_may_1 : List UInt8 := dkwX3_may_1 ++ dktX3_may_2
def dkwX3_may_0 : List UInt8 := [42, 3, 181, 0, 111, 42, 27, 28, 29, 182, 1, 166, 153, 0, 14, 42, 21, 4, 21, 5, 182, 1, 89]
abbrev dktX3_may_0 : List UInt8 := dkwX3_may_0 ++ dktX3_may_1
theorem dksX3_may_0 : cX3_may.data.toList.drop 0 = dktX3_may_0 := by decide +kernel
theorem dksX3_may_1 : cX3_may.data.toList.drop 23 = dktX3_may_1 := dk_seg dksX3_may_0 23 rfl rfl
theorem dksX3_may_2 : cX3_may.data.toList.drop 47 = dktX3_may_2 := dk_seg dksX3_may_1 24 rfl rfl
theorem dksX3_may_3 : cX3_may.data.toList.drop 70 = dktX3_may_3 := dk_seg dksX3_may_2 23 rfl rfl
theorem dksX3_may_4 : cX3_may.data.toList.drop 94 = dktX3_may_4 := dk_seg dksX3_may_3 24 rfl rfl
theorem dksX3_may_5 : cX3_may.data.toList.drop 118 = dktX3_may_5 := dk_seg dksX3_may_4 24 rfl rfl
theorem dX3_may_0 : decode cX3_may 0 = .ok (.aload_n 0, 1) := dk_42 (dk_at dksX3_may_0 0 rfl rfl)
theorem dX3_may_1 : decode cX3_may 1 = .ok (.iconst 0, 1) := dk_3 (dk_at dksX3_may_0 1 rfl rfl)
theorem dX3_may_2 : decode cX3_may 2 = .ok (.putfield 111, 3) := dk_181 0 111 (dk_at dksX3_may_0 2 rfl rfl)
theorem dX3_may_5 : decode cX3_may 5 = .ok (.aload_n 0, 1) := dk_42 (dk_at dksX3_may_0 5 rfl rfl)
theorem dX3_may_6 : decode cX3_may 6 = .ok (.iload_n 1, 1) := dk_27 (dk_at dksX3_may_0 6 rfl rfl)
theorem dX3_may_7 : decode cX3_may 7 = .ok (.iload_n 2, 1) := dk_28 (dk_at dksX3_may_0 7 rfl rfl)
theorem dX3_may_8 : decode cX3_may 8 = .ok (.iload_n 3, 1) := dk_29 (dk_at dksX3_may_0 8 rfl rfl)
theorem dX3_may_9 : decode cX3_may 9 = .ok (.invokevirtual 422, 3) := dk_182 1 166 (dk_at dksX3_may_0 9 rfl rfl)
theorem dX3_may_12 : decode cX3_may 12 = .ok (.ifCond .eq 14, 3) := dk_153 0 14 (dk_at dksX3_may_0 12 rfl rfl)
theorem dX3_may_15 : decode cX3_may 15 = .ok (.aload_n 0, 1) := dk_42 (dk_at dksX3_may_0 15 rfl rfl)
theorem dX3_may_16 : decode cX3_may 16 = .ok (.iload 4, 2) := dk_21 4 (dk_at dksX3_may_0 16 rfl rfl)
theorem dX3_may_18 : decode cX3_may 18 = .ok (.iload 5, 2) := dk_21 5 (dk_at dksX3_may_0 18 rfl rfl)
theorem dX3_may_20 : decode cX3_may 20 = .ok (.invokevirtual 345, 3) := dk_182 1 89 (dk_at dksX3_may_0 20 rfl rfl)
theorem dX3_may_23 : decode cX3_may 23 = .ok (.ifCond .ne 7, 3) := dk_154 0 7 (dk_at dksX3_may_1 0 rfl rfl)
theorem dX3_may_26 : decode cX3_may 26 = .ok (.ldc2_w 425, 3) := dk_20 1 169 (dk_at dksX3_may_1 3 rfl rfl)
theorem dX3_may_29 : decode cX3_may 29 = .ok (.lreturn, 1) := dk_173 (dk_at dksX3_may_1 6 rfl rfl)
theorem dX3_may_30 : decode cX3_may 30 = .ok (.aload_n 0, 1) := dk_42 (dk_at dksX3_may_1 7 rfl rfl)
theorem dX3_may_31 : decode cX3_may 31 = .ok (.getfield 89, 3) := dk_180 0 89 (dk_at dksX3_may_1 8 rfl rfl)
theorem dX3_may_34 : decode cX3_may 34 = .ok (.bipush 12, 2) := dk_16 12 (dk_at dksX3_may_1 11 rfl rfl)
theorem dX3_may_36 : decode cX3_may 36 = .ok (.iload 4, 2) := dk_21 4 (dk_at dksX3_may_1 13 rfl rfl)
theorem dX3_may_38 : decode cX3_may 38 = .ok (.imul, 1) := dk_104 (dk_at dksX3_may_1 15 rfl rfl)
theorem dX3_may_39 : decode cX3_may 39 = .ok (.iload 5, 2) := dk_21 5 (dk_at dksX3_may_1 16 rfl rfl)
theorem dX3_may_41 : decode cX3_may 41 = .ok (.iadd, 1) := dk_96 (dk_at dksX3_may_1 18 rfl rfl)
theorem dX3_may_42 : decode cX3_may 42 = .ok (.laload, 1) := dk_47 (dk_at dksX3_may_1 19 rfl rfl)
theorem dX3_may_43 : decode cX3_may 43 = .ok (.lstore 7, 2) := dk_55 7 (dk_at dksX3_may_1 20 rfl rfl)
theorem dX3_may_45 : decode cX3_may 45 = .ok (.iload 6, 2) := dk_21 6 (dk_at dksX3_may_1 22 rfl rfl)
theorem dX3_may_47 : decode cX3_may 47 = .ok (.ifCond .ne 6, 3) := dk_154 0 6 (dk_at dksX3_may_2 0 rfl rfl)
theorem dX3_may_50 : decode cX3_may 50 = .ok (.lload 7, 2) := dk_22 7 (dk_at dksX3_may_2 3 rfl rfl)
theorem dX3_may_52 : decode cX3_may 52 = .ok (.lreturn, 1) := dk_173 (dk_at dksX3_may_2 5 rfl rfl)
theorem dX3_may_53 : decode cX3_may 53 = .ok (.iconst (-1), 1) := dk_2 (dk_at dksX3_may_2 6 rfl rfl)
theorem dX3_may_54 : decode cX3_may 54 = .ok (.istore 9, 2) := dk_54 9 (dk_at dksX3_may_2 7 rfl rfl)
theorem dX3_may_56 : decode cX3_may 56 = .ok (.iconst 0, 1) := dk_3 (dk_at dksX3_may_2 9 rfl rfl)
theorem dX3_may_57 : decode cX3_may 57 = .ok (.istore 10, 2) := dk_54 10 (dk_at dksX3_may_2 10 rfl rfl)
theorem dX3_may_59 : decode cX3_may 59 = .ok (.iload 10, 2) := dk_21 10 (dk_at dksX3_may_2 12 rfl rfl)
theorem dX3_may_61 : decode cX3_may 61 = .ok (.iconst 1, 1) := dk_4 (dk_at dksX3_may_2 14 rfl rfl)
theorem dX3_may_62 : decode cX3_may 62 = .ok (.aload_n 0, 1) := dk_42 (dk_at dksX3_may_2 15 rfl rfl)
theorem dX3_may_63 : decode cX3_may 63 = .ok (.getfield 234, 3) := dk_180 0 234 (dk_at dksX3_may_2 16 rfl rfl)
theorem dX3_may_66 : decode cX3_may 66 = .ok (.ishl, 1) := dk_120 (dk_at dksX3_may_2 19 rfl rfl)
theorem dX3_may_67 : decode cX3_may 67 = .ok (.if_icmp .ge 49, 3) := dk_162 0 49 (dk_at dksX3_may_2 20 rfl rfl)
theorem dX3_may_70 : decode cX3_may 70 = .ok (.lload 7, 2) := dk_22 7 (dk_at dksX3_may_3 0 rfl rfl)
theorem dX3_may_72 : decode cX3_may 72 = .ok (.iload 10, 2) := dk_21 10 (dk_at dksX3_may_3 2 rfl rfl)
theorem dX3_may_74 : decode cX3_may 74 = .ok (.invokestatic 115, 3) := dk_184 0 115 (dk_at dksX3_may_3 4 rfl rfl)
theorem dX3_may_77 : decode cX3_may 77 = .ok (.ifCond .eq 29, 3) := dk_153 0 29 (dk_at dksX3_may_3 7 rfl rfl)
theorem dX3_may_80 : decode cX3_may 80 = .ok (.iload 9, 2) := dk_21 9 (dk_at dksX3_may_3 10 rfl rfl)
theorem dX3_may_82 : decode cX3_may 82 = .ok (.iconst (-1), 1) := dk_2 (dk_at dksX3_may_3 12 rfl rfl)
theorem dX3_may_83 : decode cX3_may 83 = .ok (.if_icmp .eq 18, 3) := dk_159 0 18 (dk_at dksX3_may_3 13 rfl rfl)
theorem dX3_may_86 : decode cX3_may 86 = .ok (.iload 10, 2) := dk_21 10 (dk_at dksX3_may_3 16 rfl rfl)
theorem dX3_may_88 : decode cX3_may 88 = .ok (.i2l, 1) := dk_133 (dk_at dksX3_may_3 18 rfl rfl)
theorem dX3_may_89 : decode cX3_may 89 = .ok (.invokestatic 253, 3) := dk_184 0 253 (dk_at dksX3_may_3 19 rfl rfl)
theorem dX3_may_92 : decode cX3_may 92 = .ok (.iload 9, 2) := dk_21 9 (dk_at dksX3_may_3 22 rfl rfl)
theorem dX3_may_94 : decode cX3_may 94 = .ok (.i2l, 1) := dk_133 (dk_at dksX3_may_4 0 rfl rfl)
theorem dX3_may_95 : decode cX3_may 95 = .ok (.invokestatic 253, 3) := dk_184 0 253 (dk_at dksX3_may_4 1 rfl rfl)
theorem dX3_may_98 : decode cX3_may 98 = .ok (.if_icmp .ge 8, 3) := dk_162 0 8 (dk_at dksX3_may_4 4 rfl rfl)
theorem dX3_may_101 : decode cX3_may 101 = .ok (.iload 10, 2) := dk_21 10 (dk_at dksX3_may_4 7 rfl rfl)
theorem dX3_may_103 : decode cX3_may 103 = .ok (.goto 5, 3) := dk_167 0 5 (dk_at dksX3_may_4 9 rfl rfl)
theorem dX3_may_106 : decode cX3_may 106 = .ok (.iload 9, 2) := dk_21 9 (dk_at dksX3_may_4 12 rfl rfl)
theorem dX3_may_108 : decode cX3_may 108 = .ok (.istore 9, 2) := dk_54 9 (dk_at dksX3_may_4 14 rfl rfl)
theorem dX3_may_110 : decode cX3_may 110 = .ok (.iinc 10 1, 3) := dk_132 10 1 (dk_at dksX3_may_4 16 rfl rfl)
theorem dX3_may_113 : decode cX3_may 113 = .ok (.goto (-54), 3) := dk_167 255 202 (dk_at dksX3_may_4 19 rfl rfl)
theorem dX3_may_116 : decode cX3_may 116 = .ok (.iload 9, 2) := dk_21 9 (dk_at dksX3_may_4 22 rfl rfl)
theorem dX3_may_118 : decode cX3_may 118 = .ok (.i2l, 1) := dk_133 (dk_at dksX3_may_5 0 rfl rfl)
theorem dX3_may_119 : decode cX3_may 119 = .ok (.lreturn, 1) := dk_173 (dk_at dksX3_may_5 1 rfl rfl)
def dkwX3_round_6 : List UInt8 := [42, 182, 1, 212, 167, 0, 5, 16, 254, 172]
abbrev dktX3_round_6 : List UInt8 := dkwX3_round_6 ++ []
def dkwX3_round_5 : List UInt8 := [42, 180, 1, 183, 167, 0, 29, 28, 4, 160, 0, 10, 42, 180, 1, 186, 167, 0, 17, 28, 6, 160, 0, 10]
abbrev dktX3_round_5 : List UInt8 := dkwX3_round_5 ++ dktX3_round_6
def dkwX3_round_4 : List UInt8 := [62, 28, 5, 160, 0, 7, 29, 167, 0, 12, 42, 180, 0, 104, 28, 16, 40, 100, 46, 172, 28, 154, 0, 10]
abbrev dktX3_round_4 : List UInt8 := dkwX3_round_4 ++ dktX3_round_5
def dkwX3_round_3 : List UInt8 := [5, 159, 0, 19, 28, 16, 40, 16, 39, 42, 180, 1, 186, 96, 184, 0, 123, 153, 0, 27, 42, 182, 1, 209]
abbrev dktX3_round_3 : List UInt8 := dkwX3_round_3 ++ dktX3_round_4
def dkwX3_round_2 : List UInt8 := [16, 19, 42, 180, 1, 186, 96, 184, 0, 123, 153, 0, 13, 42, 180, 0, 101, 28, 16, 20, 100, 46, 172, 28]
abbrev dktX3_round_2 : List UInt8 := dkwX3_round_2 ++ dktX3_round_3
def dkwX3_round_1 : List UInt8 := [180, 1, 183, 96, 184, 0, 123, 153, 0, 13, 42, 180, 0, 98, 28, 16, 10, 100, 46, 172, 28, 16, 20]
abbrev dktX3_round_1 : List UInt8 := dkwX3_round_1 ++ dktX3_round_2
def dkwX3_round_0 : List UInt8 := [42, 3, 181, 0, 111, 42, 27, 182, 1, 206, 154, 0, 6, 16, 254, 172, 28, 16, 10, 16, 9, 42]
abbrev dktX3_round_0 : List UInt8 := dkwX3_round_0 ++ dktX3_round_1
theorem dksX3_round_0 : cX3_round.data.toList.drop 0 = dktX3_round_0 := by decide +kernel
theorem dksX3_round_1 : cX3_round.data.toList.drop 22 = dktX3_round_1 := dk_seg dksX3_round_0 22 rfl rfl
theorem dksX3_round_2 : cX3_round.data.toList.drop 45 = dktX3_round_2 := dk_seg dksX3_round_1 23 rfl rfl
theorem dksX3_round_3 : cX3_round.data.toList.drop 69 = dktX3_round_3 := dk_seg dksX3_round_2 24 rfl rfl
theorem dksX3_round_4 : cX3_round.data.toList.drop 93 = dktX3_round_4 := dk_seg dksX3_round_3 24 rfl rfl
theorem dksX3_round_5 : cX3_round.data.toList.drop 117 = dktX3_round_5 := dk_seg dksX3_round_4 24 rfl rfl
theorem dksX3_round_6 : cX3_round.data.toList.drop 141 = dktX3_round_6 := dk_seg dksX3_round_5 24 rfl rfl
theorem dX3_round_0 : decode cX3_round 0 = .ok (.aload_n 0, 1) := dk_42 (dk_at dksX3_round_0 0 rfl rfl)
theorem dX3_round_1 : decode cX3_round 1 = .ok (.iconst 0, 1) := dk_3 (dk_at dksX3_round_0 1 rfl rfl)
theorem dX3_round_2 : decode cX3_round 2 = .ok (.putfield 111, 3) := dk_181 0 111 (dk_at dksX3_round_0 2 rfl rfl)
theorem dX3_round_5 : decode cX3_round 5 = .ok (.aload_n 0, 1) := dk_42 (dk_at dksX3_round_0 5 rfl rfl)
theorem dX3_round_6 : decode cX3_round 6 = .ok (.iload_n 1, 1) := dk_27 (dk_at dksX3_round_0 6 rfl rfl)
theorem dX3_round_7 : decode cX3_round 7 = .ok (.invokevirtual 462, 3) := dk_182 1 206 (dk_at dksX3_round_0 7 rfl rfl)
theorem dX3_round_10 : decode cX3_round 10 = .ok (.ifCond .ne 6, 3) := dk_154 0 6 (dk_at dksX3_round_0 10 rfl rfl)
theorem dX3_round_13 : decode cX3_round 13 = .ok (.bipush (-2), 2) := dk_16 254 (dk_at dksX3_round_0 13 rfl rfl)
theorem dX3_round_15 : decode cX3_round 15 = .ok (.ireturn, 1) := dk_172 (dk_at dksX3_round_0 15 rfl rfl)
theorem dX3_round_16 : decode cX3_round 16 = .ok (.iload_n 2, 1) := dk_28 (dk_at dksX3_round_0 16 rfl rfl)
theorem dX3_round_17 : decode cX3_round 17 = .ok (.bipush 10, 2) := dk_16 10 (dk_at dksX3_round_0 17 rfl rfl)
theorem dX3_round_19 : decode cX3_round 19 = .ok (.bipush 9, 2) := dk_16 9 (dk_at dksX3_round_0 19 rfl rfl)
theorem dX3_round_21 : decode cX3_round 21 = .ok (.aload_n 0, 1) := dk_42 (dk_at dksX3_round_0 21 rfl rfl)
theorem dX3_round_22 : decode cX3_round 22 = .ok (.getfield 439, 3) := dk_180 1 183 (dk_at dksX3_round_1 0 rfl rfl)
theorem dX3_round_25 : decode cX3_round 25 = .ok (.iadd, 1) := dk_96 (dk_at dksX3_round_1 3 rfl rfl)
theorem dX3_round_26 : decode cX3_round 26 = .ok (.invokestatic 123, 3) := dk_184 0 123 (dk_at dksX3_round_1 4 rfl rfl)
theorem dX3_round_29 : decode cX3_round 29 = .ok (.ifCond .eq 13, 3) := dk_153 0 13 (dk_at dksX3_round_1 7 rfl rfl)
theorem dX3_round_32 : decode cX3_round 32 = .ok (.aload_n 0, 1) := dk_42 (dk_at dksX3_round_1 10 rfl rfl)
theorem dX3_round_33 : decode cX3_round 33 = .ok (.getfield 98, 3) := dk_180 0 98 (dk_at dksX3_round_1 11 rfl rfl)
theorem dX3_round_36 : decode cX3_round 36 = .ok (.iload_n 2, 1) := dk_28 (dk_at dksX3_round_1 14 rfl rfl)
theorem dX3_round_37 : decode cX3_round 37 = .ok (.bipush 10, 2) := dk_16 10 (dk_at dksX3_round_1 15 rfl rfl)
theorem dX3_round_39 : decode cX3_round 39 = .ok (.isub, 1) := dk_100 (dk_at dksX3_round_1 17 rfl rfl)
theorem dX3_round_40 : decode cX3_round 40 = .ok (.iaload, 1) := dk_46 (dk_at dksX3_round_1 18 rfl rfl)
theorem dX3_round_41 : decode cX3_round 41 = .ok (.ireturn, 1) := dk_172 (dk_at dksX3_round_1 19 rfl rfl)
theorem dX3_round_42 : decode cX3_round 42 = .ok (.iload_n 2, 1) := dk_28 (dk_at dksX3_round_1 20 rfl rfl)
theorem dX3_round_43 : decode cX3_round 43 = .ok (.bipush 20, 2) := dk_16 20 (dk_at dksX3_round_1 21 rfl rfl)
theorem dX3_round_45 : decode cX3_round 45 = .ok (.bipush 19, 2) := dk_16 19 (dk_at dksX3_round_2 0 rfl rfl)
theorem dX3_round_47 : decode cX3_round 47 = .ok (.aload_n 0, 1) := dk_42 (dk_at dksX3_round_2 2 rfl rfl)
theorem dX3_round_48 : decode cX3_round 48 = .ok (.getfield 442, 3) := dk_180 1 186 (dk_at dksX3_round_2 3 rfl rfl)
theorem dX3_round_51 : decode cX3_round 51 = .ok (.iadd, 1) := dk_96 (dk_at dksX3_round_2 6 rfl rfl)
theorem dX3_round_52 : decode cX3_round 52 = .ok (.invokestatic 123, 3) := dk_184 0 123 (dk_at dksX3_round_2 7 rfl rfl)
theorem dX3_round_55 : decode cX3_round 55 = .ok (.ifCond .eq 13, 3) := dk_153 0 13 (dk_at dksX3_round_2 10 rfl rfl)
theorem dX3_round_58 : decode cX3_round 58 = .ok (.aload_n 0, 1) := dk_42 (dk_at dksX3_round_2 13 rfl rfl)
theorem dX3_round_59 : decode cX3_round 59 = .ok (.getfield 101, 3) := dk_180 0 101 (dk_at dksX3_round_2 14 rfl rfl)
theorem dX3_round_62 : decode cX3_round 62 = .ok (.iload_n 2, 1) := dk_28 (dk_at dksX3_round_2 17 rfl rfl)
theorem dX3_round_63 : decode cX3_round 63 = .ok (.bipush 20, 2) := dk_16 20 (dk_at dksX3_round_2 18 rfl rfl)
theorem dX3_round_65 : decode cX3_round 65 = .ok (.isub, 1) := dk_100 (dk_at dksX3_round_2 20 rfl rfl)
theorem dX3_round_66 : decode cX3_round 66 = .ok (.iaload, 1) := dk_46 (dk_at dksX3_round_2 21 rfl rfl)
theorem dX3_round_67 : decode cX3_round 67 = .ok (.ireturn, 1) := dk_172 (dk_at dksX3_round_2 22 rfl rfl)
theorem dX3_round_68 : decode cX3_round 68 = .ok (.iload_n 2, 1) := dk_28 (dk_at dksX3_round_2 23 rfl rfl)
theorem dX3_round_69 : decode cX3_round 69 = .ok (.iconst 2, 1) := dk_5 (dk_at dksX3_round_3 0 rfl rfl)
theorem dX3_round_70 : decode cX3_round 70 = .ok (.if_icmp .eq 19, 3) := dk_159 0 19 (dk_at dksX3_round_3 1 rfl rfl)
theorem dX3_round_73 : decode cX3_round 73 = .ok (.iload_n 2, 1) := dk_28 (dk_at dksX3_round_3 4 rfl rfl)
theorem dX3_round_74 : decode cX3_round 74 = .ok (.bipush 40, 2) := dk_16 40 (dk_at dksX3_round_3 5 rfl rfl)
theorem dX3_round_76 : decode cX3_round 76 = .ok (.bipush 39, 2) := dk_16 39 (dk_at dksX3_round_3 7 rfl rfl)
theorem dX3_round_78 : decode cX3_round 78 = .ok (.aload_n 0, 1) := dk_42 (dk_at dksX3_round_3 9 rfl rfl)
theorem dX3_round_79 : decode cX3_round 79 = .ok (.getfield 442, 3) := dk_180 1 186 (dk_at dksX3_round_3 10 rfl rfl)
theorem dX3_round_82 : decode cX3_round 82 = .ok (.iadd, 1) := dk_96 (dk_at dksX3_round_3 13 rfl rfl)
theorem dX3_round_83 : decode cX3_round 83 = .ok (.invokestatic 123, 3) := dk_184 0 123 (dk_at dksX3_round_3 14 rfl rfl)
theorem dX3_round_86 : decode cX3_round 86 = .ok (.ifCond .eq 27, 3) := dk_153 0 27 (dk_at dksX3_round_3 17 rfl rfl)
theorem dX3_round_89 : decode cX3_round 89 = .ok (.aload_n 0, 1) := dk_42 (dk_at dksX3_round_3 20 rfl rfl)
theorem dX3_round_90 : decode cX3_round 90 = .ok (.invokevirtual 465, 3) := dk_182 1 209 (dk_at dksX3_round_3 21 rfl rfl)
theorem dX3_round_93 : decode cX3_round 93 = .ok (.istore_n 3, 1) := dk_62 (dk_at dksX3_round_4 0 rfl rfl)
theorem dX3_round_94 : decode cX3_round 94 = .ok (.iload_n 2, 1) := dk_28 (dk_at dksX3_round_4 1 rfl rfl)
theorem dX3_round_95 : decode cX3_round 95 = .ok (.iconst 2, 1) := dk_5 (dk_at dksX3_round_4 2 rfl rfl)
theorem dX3_round_96 : decode cX3_round 96 = .ok (.if_icmp .ne 7, 3) := dk_160 0 7 (dk_at dksX3_round_4 3 rfl rfl)
theorem dX3_round_99 : decode cX3_round 99 = .ok (.iload_n 3, 1) := dk_29 (dk_at dksX3_round_4 6 rfl rfl)
theorem dX3_round_100 : decode cX3_round 100 = .ok (.goto 12, 3) := dk_167 0 12 (dk_at dksX3_round_4 7 rfl rfl)
theorem dX3_round_103 : decode cX3_round 103 = .ok (.aload_n 0, 1) := dk_42 (dk_at dksX3_round_4 10 rfl rfl)
theorem dX3_round_104 : decode cX3_round 104 = .ok (.getfield 104, 3) := dk_180 0 104 (dk_at dksX3_round_4 11 rfl rfl)
theorem dX3_round_107 : decode cX3_round 107 = .ok (.iload_n 2, 1) := dk_28 (dk_at dksX3_round_4 14 rfl rfl)
theorem dX3_round_108 : decode cX3_round 108 = .ok (.bipush 40, 2) := dk_16 40 (dk_at dksX3_round_4 15 rfl rfl)
theorem dX3_round_110 : decode cX3_round 110 = .ok (.isub, 1) := dk_100 (dk_at dksX3_round_4 17 rfl rfl)
theorem dX3_round_111 : decode cX3_round 111 = .ok (.iaload, 1) := dk_46 (dk_at dksX3_round_4 18 rfl rfl)
theorem dX3_round_112 : decode cX3_round 112 = .ok (.ireturn, 1) := dk_172 (dk_at dksX3_round_4 19 rfl rfl)
theorem dX3_round_113 : decode cX3_round 113 = .ok (.iload_n 2, 1) := dk_28 (dk_at dksX3_round_4 20 rfl rfl)
theorem dX3_round_114 : decode cX3_round 114 = .ok (.ifCond .ne 10, 3) := dk_154 0 10 (dk_at dksX3_round_4 21 rfl rfl)
theorem dX3_round_117 : decode cX3_round 117 = .ok (.aload_n 0, 1) := dk_42 (dk_at dksX3_round_5 0 rfl rfl)
theorem dX3_round_118 : decode cX3_round 118 = .ok (.getfield 439, 3) := dk_180 1 183 (dk_at dksX3_round_5 1 rfl rfl)
theorem dX3_round_121 : decode cX3_round 121 = .ok (.goto 29, 3) := dk_167 0 29 (dk_at dksX3_round_5 4 rfl rfl)
theorem dX3_round_124 : decode cX3_round 124 = .ok (.iload_n 2, 1) := dk_28 (dk_at dksX3_round_5 7 rfl rfl)
theorem dX3_round_125 : decode cX3_round 125 = .ok (.iconst 1, 1) := dk_4 (dk_at dksX3_round_5 8 rfl rfl)
theorem dX3_round_126 : decode cX3_round 126 = .ok (.if_icmp .ne 10, 3) := dk_160 0 10 (dk_at dksX3_round_5 9 rfl rfl)
theorem dX3_round_129 : decode cX3_round 129 = .ok (.aload_n 0, 1) := dk_42 (dk_at dksX3_round_5 12 rfl rfl)
theorem dX3_round_130 : decode cX3_round 130 = .ok (.getfield 442, 3) := dk_180 1 186 (dk_at dksX3_round_5 13 rfl rfl)
theorem dX3_round_133 : decode cX3_round 133 = .ok (.goto 17, 3) := dk_167 0 17 (dk_at dksX3_round_5 16 rfl rfl)
theorem dX3_round_136 : decode cX3_round 136 = .ok (.iload_n 2, 1) := dk_28 (dk_at dksX3_round_5 19 rfl rfl)
theorem dX3_round_137 : decode cX3_round 137 = .ok (.iconst 3, 1) := dk_6 (dk_at dksX3_round_5 20 rfl rfl)
theorem dX3_round_138 : decode cX3_round 138 = .ok (.if_icmp .ne 10, 3) := dk_160 0 10 (dk_at dksX3_round_5 21 rfl rfl)
theorem dX3_round_141 : decode cX3_round 141 = .ok (.aload_n 0, 1) := dk_42 (dk_at dksX3_round_6 0 rfl rfl)
theorem dX3_round_142 : decode cX3_round 142 = .ok (.invokevirtual 468, 3) := dk_182 1 212 (dk_at dksX3_round_6 1 rfl rfl)
theorem dX3_round_145 : decode cX3_round 145 = .ok (.goto 5, 3) := dk_167 0 5 (dk_at dksX3_round_6 4 rfl rfl)
theorem dX3_round_148 : decode cX3_round 148 = .ok (.bipush (-2), 2) := dk_16 254 (dk_at dksX3_round_6 7 rfl rfl)
theorem dX3_round_150 : decode cX3_round 150 = .ok (.ireturn, 1) := dk_172 (dk_at dksX3_round_6 9 rfl rfl)
def dkwX3_layRound_4 : List UInt8 := [28, 42, 180, 0, 32, 16, 17, 27, 104, 8, 96, 28, 96, 46, 79, 132, 2, 1, 167, 255, 228, 4, 172]
abbrev dktX3_layRound_4 : List UInt8 := dkwX3_layRound_4 ++ []
def dkwX3_layRound_3 : List UInt8 := [46, 167, 0, 4, 3, 79, 132, 2, 1, 167, 255, 217, 3, 61, 28, 16, 12, 162, 0, 28, 42, 180, 0, 101]
abbrev dktX3_layRound_3 : List UInt8 := dkwX3_layRound_3 ++ dktX3_layRound_4
def dkwX3_layRound_2 : List UInt8 := [180, 0, 98, 28, 28, 42, 180, 1, 183, 162, 0, 19, 42, 180, 0, 32, 16, 17, 27, 104, 5, 96, 28, 96]
abbrev dktX3_layRound_2 : List UInt8 := dkwX3_layRound_2 ++ dktX3_layRound_3
def dkwX3_layRound_1 : List UInt8 := [42, 42, 180, 0, 32, 16, 17, 27, 104, 4, 96, 46, 181, 1, 186, 3, 61, 28, 6, 162, 0, 40, 42]
abbrev dktX3_layRound_1 : List UInt8 := dkwX3_layRound_1 ++ dktX3_layRound_2
def dkwX3_layRound_0 : List UInt8 := [42, 5, 27, 182, 0, 223, 154, 0, 5, 3, 172, 42, 42, 180, 0, 32, 16, 17, 27, 104, 46, 181, 1, 183]
abbrev dktX3_layRound_0 : List UInt8 := dkwX3_layRound_0 ++ dktX3_layRound_1
theorem dksX3_layRound_0 : cX3_layRound.data.toList.drop 0 = dktX3_layRound_0 := by decide +kernel
theorem dksX3_layRound_1 : cX3_layRound.data.toList.drop 24 = dktX3_layRound_1 := dk_seg dksX3_layRound_0 24 rfl rfl
theorem dksX3_layRound_2 : cX3_layRound.data.toList.drop 47 = dktX3_layRound_2 := dk_seg dksX3_layRound_1 23 rfl rfl
theorem dksX3_layRound_3 : cX3_layRound.data.toList.drop 71 = dktX3_layRound_3 := dk_seg dksX3_layRound_2 24 rfl rfl
theorem dksX3_layRound_4 : cX3_layRound.data.toList.drop 95 = dktX3_layRound_4 := dk_seg dksX3_layRound_3 24 rfl rfl
theorem dX3_layRound_0 : decode cX3_layRound 0 = .ok (.aload_n 0, 1) := dk_42 (dk_at dksX3_layRound_0 0 rfl rfl)
theorem dX3_layRound_1 : decode cX3_layRound 1 = .ok (.iconst 2, 1) := dk_5 (dk_at dksX3_layRound_0 1 rfl rfl)
theorem dX3_layRound_2 : decode cX3_layRound 2 = .ok (.iload_n 1, 1) := dk_27 (dk_at dksX3_layRound_0 2 rfl rfl)
theorem dX3_layRound_3 : decode cX3_layRound 3 = .ok (.invokevirtual 223, 3) := dk_182 0 223 (dk_at dksX3_layRound_0 3 rfl rfl)
theorem dX3_layRound_6 : decode cX3_layRound 6 = .ok (.ifCond .ne 5, 3) := dk_154 0 5 (dk_at dksX3_layRound_0 6 rfl rfl)
theorem dX3_layRound_9 : decode cX3_layRound 9 = .ok (.iconst 0, 1) := dk_3 (dk_at dksX3_layRound_0 9 rfl rfl)
theorem dX3_layRound_10 : decode cX3_layRound 10 = .ok (.ireturn, 1) := dk_172 (dk_at dksX3_layRound_0 10 rfl rfl)
theorem dX3_layRound_11 : decode cX3_layRound 11 = .ok (.aload_n 0, 1) := dk_42 (dk_at dksX3_layRound_0 11 rfl rfl)
theorem dX3_layRound_12 : decode cX3_layRound 12 = .ok (.aload_n 0, 1) := dk_42 (dk_at dksX3_layRound_0 12 rfl rfl)
theorem dX3_layRound_13 : decode cX3_layRound 13 = .ok (.getfield 32, 3) := dk_180 0 32 (dk_at dksX3_layRound_0 13 rfl rfl)
theorem dX3_layRound_16 : decode cX3_layRound 16 = .ok (.bipush 17, 2) := dk_16 17 (dk_at dksX3_layRound_0 16 rfl rfl)
theorem dX3_layRound_18 : decode cX3_layRound 18 = .ok (.iload_n 1, 1) := dk_27 (dk_at dksX3_layRound_0 18 rfl rfl)
theorem dX3_layRound_19 : decode cX3_layRound 19 = .ok (.imul, 1) := dk_104 (dk_at dksX3_layRound_0 19 rfl rfl)
theorem dX3_layRound_20 : decode cX3_layRound 20 = .ok (.iaload, 1) := dk_46 (dk_at dksX3_layRound_0 20 rfl rfl)
theorem dX3_layRound_21 : decode cX3_layRound 21 = .ok (.putfield 439, 3) := dk_181 1 183 (dk_at dksX3_layRound_0 21 rfl rfl)
theorem dX3_layRound_24 : decode cX3_layRound 24 = .ok (.aload_n 0, 1) := dk_42 (dk_at dksX3_layRound_1 0 rfl rfl)
theorem dX3_layRound_25 : decode cX3_layRound 25 = .ok (.aload_n 0, 1) := dk_42 (dk_at dksX3_layRound_1 1 rfl rfl)
theorem dX3_layRound_26 : decode cX3_layRound 26 = .ok (.getfield 32, 3) := dk_180 0 32 (dk_at dksX3_layRound_1 2 rfl rfl)
theorem dX3_layRound_29 : decode cX3_layRound 29 = .ok (.bipush 17, 2) := dk_16 17 (dk_at dksX3_layRound_1 5 rfl rfl)
theorem dX3_layRound_31 : decode cX3_layRound 31 = .ok (.iload_n 1, 1) := dk_27 (dk_at dksX3_layRound_1 7 rfl rfl)
theorem dX3_layRound_32 : decode cX3_layRound 32 = .ok (.imul, 1) := dk_104 (dk_at dksX3_layRound_1 8 rfl rfl)
theorem dX3_layRound_33 : decode cX3_layRound 33 = .ok (.iconst 1, 1) := dk_4 (dk_at dksX3_layRound_1 9 rfl rfl)
theorem dX3_layRound_34 : decode cX3_layRound 34 = .ok (.iadd, 1) := dk_96 (dk_at dksX3_layRound_1 10 rfl rfl)
theorem dX3_layRound_35 : decode cX3_layRound 35 = .ok (.iaload, 1) := dk_46 (dk_at dksX3_layRound_1 11 rfl rfl)
theorem dX3_layRound_36 : decode cX3_layRound 36 = .ok (.putfield 442, 3) := dk_181 1 186 (dk_at dksX3_layRound_1 12 rfl rfl)
theorem dX3_layRound_39 : decode cX3_layRound 39 = .ok (.iconst 0, 1) := dk_3 (dk_at dksX3_layRound_1 15 rfl rfl)
theorem dX3_layRound_40 : decode cX3_layRound 40 = .ok (.istore_n 2, 1) := dk_61 (dk_at dksX3_layRound_1 16 rfl rfl)
theorem dX3_layRound_41 : decode cX3_layRound 41 = .ok (.iload_n 2, 1) := dk_28 (dk_at dksX3_layRound_1 17 rfl rfl)
theorem dX3_layRound_42 : decode cX3_layRound 42 = .ok (.iconst 3, 1) := dk_6 (dk_at dksX3_layRound_1 18 rfl rfl)
theorem dX3_layRound_43 : decode cX3_layRound 43 = .ok (.if_icmp .ge 40, 3) := dk_162 0 40 (dk_at dksX3_layRound_1 19 rfl rfl)
theorem dX3_layRound_46 : decode cX3_layRound 46 = .ok (.aload_n 0, 1) := dk_42 (dk_at dksX3_layRound_1 22 rfl rfl)
theorem dX3_layRound_47 : decode cX3_layRound 47 = .ok (.getfield 98, 3) := dk_180 0 98 (dk_at dksX3_layRound_2 0 rfl rfl)
theorem dX3_layRound_50 : decode cX3_layRound 50 = .ok (.iload_n 2, 1) := dk_28 (dk_at dksX3_layRound_2 3 rfl rfl)
theorem dX3_layRound_51 : decode cX3_layRound 51 = .ok (.iload_n 2, 1) := dk_28 (dk_at dksX3_layRound_2 4 rfl rfl)
theorem dX3_layRound_52 : decode cX3_layRound 52 = .ok (.aload_n 0, 1) := dk_42 (dk_at dksX3_layRound_2 5 rfl rfl)
theorem dX3_layRound_53 : decode cX3_layRound 53 = .ok (.getfield 439, 3) := dk_180 1 183 (dk_at dksX3_layRound_2 6 rfl rfl)
theorem dX3_layRound_56 : decode cX3_layRound 56 = .ok (.if_icmp .ge 19, 3) := dk_162 0 19 (dk_at dksX3_layRound_2 9 rfl rfl)
theorem dX3_layRound_59 : decode cX3_layRound 59 = .ok (.aload_n 0, 1) := dk_42 (dk_at dksX3_layRound_2 12 rfl rfl)
theorem dX3_layRound_60 : decode cX3_layRound 60 = .ok (.getfield 32, 3) := dk_180 0 32 (dk_at dksX3_layRound_2 13 rfl rfl)
theorem dX3_layRound_63 : decode cX3_layRound 63 = .ok (.bipush 17, 2) := dk_16 17 (dk_at dksX3_layRound_2 16 rfl rfl)
theorem dX3_layRound_65 : decode cX3_layRound 65 = .ok (.iload_n 1, 1) := dk_27 (dk_at dksX3_layRound_2 18 rfl rfl)
theorem dX3_layRound_66 : decode cX3_layRound 66 = .ok (.imul, 1) := dk_104 (dk_at dksX3_layRound_2 19 rfl rfl)
theorem dX3_layRound_67 : decode cX3_layRound 67 = .ok (.iconst 2, 1) := dk_5 (dk_at dksX3_layRound_2 20 rfl rfl)
theorem dX3_layRound_68 : decode cX3_layRound 68 = .ok (.iadd, 1) := dk_96 (dk_at dksX3_layRound_2 21 rfl rfl)
theorem dX3_layRound_69 : decode cX3_layRound 69 = .ok (.iload_n 2, 1) := dk_28 (dk_at dksX3_layRound_2 22 rfl rfl)
theorem dX3_layRound_70 : decode cX3_layRound 70 = .ok (.iadd, 1) := dk_96 (dk_at dksX3_layRound_2 23 rfl rfl)
theorem dX3_layRound_71 : decode cX3_layRound 71 = .ok (.iaload, 1) := dk_46 (dk_at dksX3_layRound_3 0 rfl rfl)
theorem dX3_layRound_72 : decode cX3_layRound 72 = .ok (.goto 4, 3) := dk_167 0 4 (dk_at dksX3_layRound_3 1 rfl rfl)
theorem dX3_layRound_75 : decode cX3_layRound 75 = .ok (.iconst 0, 1) := dk_3 (dk_at dksX3_layRound_3 4 rfl rfl)
theorem dX3_layRound_76 : decode cX3_layRound 76 = .ok (.iastore, 1) := dk_79 (dk_at dksX3_layRound_3 5 rfl rfl)
theorem dX3_layRound_77 : decode cX3_layRound 77 = .ok (.iinc 2 1, 3) := dk_132 2 1 (dk_at dksX3_layRound_3 6 rfl rfl)
theorem dX3_layRound_80 : decode cX3_layRound 80 = .ok (.goto (-39), 3) := dk_167 255 217 (dk_at dksX3_layRound_3 9 rfl rfl)
theorem dX3_layRound_83 : decode cX3_layRound 83 = .ok (.iconst 0, 1) := dk_3 (dk_at dksX3_layRound_3 12 rfl rfl)
theorem dX3_layRound_84 : decode cX3_layRound 84 = .ok (.istore_n 2, 1) := dk_61 (dk_at dksX3_layRound_3 13 rfl rfl)
theorem dX3_layRound_85 : decode cX3_layRound 85 = .ok (.iload_n 2, 1) := dk_28 (dk_at dksX3_layRound_3 14 rfl rfl)
theorem dX3_layRound_86 : decode cX3_layRound 86 = .ok (.bipush 12, 2) := dk_16 12 (dk_at dksX3_layRound_3 15 rfl rfl)
theorem dX3_layRound_88 : decode cX3_layRound 88 = .ok (.if_icmp .ge 28, 3) := dk_162 0 28 (dk_at dksX3_layRound_3 17 rfl rfl)
theorem dX3_layRound_91 : decode cX3_layRound 91 = .ok (.aload_n 0, 1) := dk_42 (dk_at dksX3_layRound_3 20 rfl rfl)
theorem dX3_layRound_92 : decode cX3_layRound 92 = .ok (.getfield 101, 3) := dk_180 0 101 (dk_at dksX3_layRound_3 21 rfl rfl)
theorem dX3_layRound_95 : decode cX3_layRound 95 = .ok (.iload_n 2, 1) := dk_28 (dk_at dksX3_layRound_4 0 rfl rfl)
theorem dX3_layRound_96 : decode cX3_layRound 96 = .ok (.aload_n 0, 1) := dk_42 (dk_at dksX3_layRound_4 1 rfl rfl)
theorem dX3_layRound_97 : decode cX3_layRound 97 = .ok (.getfield 32, 3) := dk_180 0 32 (dk_at dksX3_layRound_4 2 rfl rfl)
theorem dX3_layRound_100 : decode cX3_layRound 100 = .ok (.bipush 17, 2) := dk_16 17 (dk_at dksX3_layRound_4 5 rfl rfl)
theorem dX3_layRound_102 : decode cX3_layRound 102 = .ok (.iload_n 1, 1) := dk_27 (dk_at dksX3_layRound_4 7 rfl rfl)
theorem dX3_layRound_103 : decode cX3_layRound 103 = .ok (.imul, 1) := dk_104 (dk_at dksX3_layRound_4 8 rfl rfl)
theorem dX3_layRound_104 : decode cX3_layRound 104 = .ok (.iconst 5, 1) := dk_8 (dk_at dksX3_layRound_4 9 rfl rfl)
theorem dX3_layRound_105 : decode cX3_layRound 105 = .ok (.iadd, 1) := dk_96 (dk_at dksX3_layRound_4 10 rfl rfl)
theorem dX3_layRound_106 : decode cX3_layRound 106 = .ok (.iload_n 2, 1) := dk_28 (dk_at dksX3_layRound_4 11 rfl rfl)
theorem dX3_layRound_107 : decode cX3_layRound 107 = .ok (.iadd, 1) := dk_96 (dk_at dksX3_layRound_4 12 rfl rfl)
theorem dX3_layRound_108 : decode cX3_layRound 108 = .ok (.iaload, 1) := dk_46 (dk_at dksX3_layRound_4 13 rfl rfl)
theorem dX3_layRound_109 : decode cX3_layRound 109 = .ok (.iastore, 1) := dk_79 (dk_at dksX3_layRound_4 14 rfl rfl)
theorem dX3_layRound_110 : decode cX3_layRound 110 = .ok (.iinc 2 1, 3) := dk_132 2 1 (dk_at dksX3_layRound_4 15 rfl rfl)
theorem dX3_layRound_113 : decode cX3_layRound 113 = .ok (.goto (-28), 3) := dk_167 255 228 (dk_at dksX3_layRound_4 18 rfl rfl)
theorem dX3_layRound_116 : decode cX3_layRound 116 = .ok (.iconst 1, 1) := dk_4 (dk_at dksX3_layRound_4 21 rfl rfl)
theorem dX3_layRound_117 : decode cX3_layRound 117 = .ok (.ireturn, 1) := dk_172 (dk_at dksX3_layRound_4 22 rfl rfl)
def dkwX3_serve_10 : List UInt8 := [132, 3, 1, 167, 255, 181, 28, 172]
abbrev dktX3_serve_10 : List UInt8 := dkwX3_serve_10 ++ []
def dkwX3_serve_9 : List UInt8 := [46, 4, 96, 79, 167, 255, 219, 27, 42, 180, 0, 104, 29, 46, 42, 180, 0, 101, 29, 46, 184, 1, 198, 60]
abbrev dktX3_serve_9 : List UInt8 := dkwX3_serve_9 ++ dktX3_serve_10
def dkwX3_serve_8 : List UInt8 := [182, 1, 203, 42, 180, 0, 95, 17, 6, 192, 29, 104, 27, 96, 46, 159, 0, 16, 42, 180, 0, 104, 29, 92]
abbrev dktX3_serve_8 : List UInt8 := dkwX3_serve_8 ++ dktX3_serve_9
def dkwX3_serve_7 : List UInt8 := [180, 1, 186, 162, 0, 73, 42, 180, 0, 104, 29, 3, 79, 42, 29, 27, 42, 180, 0, 104, 29, 46]
abbrev dktX3_serve_7 : List UInt8 := dkwX3_serve_7 ++ dktX3_serve_8
def dkwX3_serve_6 : List UInt8 := [17, 0, 144, 42, 180, 0, 98, 5, 46, 104, 96, 60, 42, 180, 0, 95, 27, 46, 61, 3, 62, 29, 42]
abbrev dktX3_serve_6 : List UInt8 := dkwX3_serve_6 ++ dktX3_serve_7
def dkwX3_serve_5 : List UInt8 := [132, 1, 255, 167, 255, 174, 42, 180, 0, 98, 3, 46, 16, 12, 42, 180, 0, 98, 4, 46, 104, 96]
abbrev dktX3_serve_5 : List UInt8 := dkwX3_serve_5 ++ dktX3_serve_6
def dkwX3_serve_4 : List UInt8 := [167, 255, 219, 42, 180, 0, 95, 17, 6, 192, 27, 104, 28, 96, 29, 79, 132, 2, 1, 167, 255, 186]
abbrev dktX3_serve_4 : List UInt8 := dkwX3_serve_4 ++ dktX3_serve_5
def dkwX3_serve_3 : List UInt8 := [182, 1, 203, 29, 162, 0, 14, 42, 27, 28, 21, 4, 182, 1, 203, 167, 0, 4, 29, 62, 132, 4, 1]
abbrev dktX3_serve_3 : List UInt8 := dkwX3_serve_3 ++ dktX3_serve_4
def dkwX3_serve_2 : List UInt8 := [162, 0, 69, 19, 1, 202, 62, 3, 54, 4, 21, 4, 42, 180, 1, 183, 162, 0, 34, 42, 27, 28, 21, 4]
abbrev dktX3_serve_2 : List UInt8 := dkwX3_serve_2 ++ dktX3_serve_3
def dkwX3_serve_1 : List UInt8 := [79, 132, 1, 1, 167, 255, 230, 42, 180, 1, 186, 4, 100, 60, 27, 155, 0, 84, 3, 61, 28, 17, 6, 192]
abbrev dktX3_serve_1 : List UInt8 := dkwX3_serve_1 ++ dktX3_serve_2
def dkwX3_serve_0 : List UInt8 := [3, 60, 27, 17, 6, 192, 162, 0, 25, 42, 180, 0, 95, 17, 6, 192, 42, 180, 1, 186, 104, 27, 96, 3]
abbrev dktX3_serve_0 : List UInt8 := dkwX3_serve_0 ++ dktX3_serve_1
theorem dksX3_serve_0 : cX3_serve.data.toList.drop 0 = dktX3_serve_0 := by decide +kernel
theorem dksX3_serve_1 : cX3_serve.data.toList.drop 24 = dktX3_serve_1 := dk_seg dksX3_serve_0 24 rfl rfl
theorem dksX3_serve_2 : cX3_serve.data.toList.drop 48 = dktX3_serve_2 := dk_seg dksX3_serve_1 24 rfl rfl
theorem dksX3_serve_3 : cX3_serve.data.toList.drop 72 = dktX3_serve_3 := dk_seg dksX3_serve_2 24 rfl rfl
theorem dksX3_serve_4 : cX3_serve.data.toList.drop 95 = dktX3_serve_4 := dk_seg dksX3_serve_3 23 rfl rfl
theorem dksX3_serve_5 : cX3_serve.data.toList.drop 117 = dktX3_serve_5 := dk_seg dksX3_serve_4 22 rfl rfl
theorem dksX3_serve_6 : cX3_serve.data.toList.drop 139 = dktX3_serve_6 := dk_seg dksX3_serve_5 22 rfl rfl
theorem dksX3_serve_7 : cX3_serve.data.toList.drop 162 = dktX3_serve_7 := dk_seg dksX3_serve_6 23 rfl rfl
theorem dksX3_serve_8 : cX3_serve.data.toList.drop 184 = dktX3_serve_8 := dk_seg dksX3_serve_7 22 rfl rfl
theorem dksX3_serve_9 : cX3_serve.data.toList.drop 208 = dktX3_serve_9 := dk_seg dksX3_serve_8 24 rfl rfl
theorem dksX3_serve_10 : cX3_serve.data.toList.drop 232 = dktX3_serve_10 := dk_seg dksX3_serve_9 24 rfl rfl
theorem dX3_serve_0 : decode cX3_serve 0 = .ok (.iconst 0, 1) := dk_3 (dk_at dksX3_serve_0 0 rfl rfl)
theorem dX3_serve_1 : decode cX3_serve 1 = .ok (.istore_n 1, 1) := dk_60 (dk_at dksX3_serve_0 1 rfl rfl)
theorem dX3_serve_2 : decode cX3_serve 2 = .ok (.iload_n 1, 1) := dk_27 (dk_at dksX3_serve_0 2 rfl rfl)
theorem dX3_serve_3 : decode cX3_serve 3 = .ok (.sipush 1728, 3) := dk_17 6 192 (dk_at dksX3_serve_0 3 rfl rfl)
theorem dX3_serve_6 : decode cX3_serve 6 = .ok (.if_icmp .ge 25, 3) := dk_162 0 25 (dk_at dksX3_serve_0 6 rfl rfl)
theorem dX3_serve_9 : decode cX3_serve 9 = .ok (.aload_n 0, 1) := dk_42 (dk_at dksX3_serve_0 9 rfl rfl)
theorem dX3_serve_10 : decode cX3_serve 10 = .ok (.getfield 95, 3) := dk_180 0 95 (dk_at dksX3_serve_0 10 rfl rfl)
theorem dX3_serve_13 : decode cX3_serve 13 = .ok (.sipush 1728, 3) := dk_17 6 192 (dk_at dksX3_serve_0 13 rfl rfl)
theorem dX3_serve_16 : decode cX3_serve 16 = .ok (.aload_n 0, 1) := dk_42 (dk_at dksX3_serve_0 16 rfl rfl)
theorem dX3_serve_17 : decode cX3_serve 17 = .ok (.getfield 442, 3) := dk_180 1 186 (dk_at dksX3_serve_0 17 rfl rfl)
theorem dX3_serve_20 : decode cX3_serve 20 = .ok (.imul, 1) := dk_104 (dk_at dksX3_serve_0 20 rfl rfl)
theorem dX3_serve_21 : decode cX3_serve 21 = .ok (.iload_n 1, 1) := dk_27 (dk_at dksX3_serve_0 21 rfl rfl)
theorem dX3_serve_22 : decode cX3_serve 22 = .ok (.iadd, 1) := dk_96 (dk_at dksX3_serve_0 22 rfl rfl)
theorem dX3_serve_23 : decode cX3_serve 23 = .ok (.iconst 0, 1) := dk_3 (dk_at dksX3_serve_0 23 rfl rfl)
theorem dX3_serve_24 : decode cX3_serve 24 = .ok (.iastore, 1) := dk_79 (dk_at dksX3_serve_1 0 rfl rfl)
theorem dX3_serve_25 : decode cX3_serve 25 = .ok (.iinc 1 1, 3) := dk_132 1 1 (dk_at dksX3_serve_1 1 rfl rfl)
theorem dX3_serve_28 : decode cX3_serve 28 = .ok (.goto (-26), 3) := dk_167 255 230 (dk_at dksX3_serve_1 4 rfl rfl)
theorem dX3_serve_31 : decode cX3_serve 31 = .ok (.aload_n 0, 1) := dk_42 (dk_at dksX3_serve_1 7 rfl rfl)
theorem dX3_serve_32 : decode cX3_serve 32 = .ok (.getfield 442, 3) := dk_180 1 186 (dk_at dksX3_serve_1 8 rfl rfl)
theorem dX3_serve_35 : decode cX3_serve 35 = .ok (.iconst 1, 1) := dk_4 (dk_at dksX3_serve_1 11 rfl rfl)
theorem dX3_serve_36 : decode cX3_serve 36 = .ok (.isub, 1) := dk_100 (dk_at dksX3_serve_1 12 rfl rfl)
theorem dX3_serve_37 : decode cX3_serve 37 = .ok (.istore_n 1, 1) := dk_60 (dk_at dksX3_serve_1 13 rfl rfl)
theorem dX3_serve_38 : decode cX3_serve 38 = .ok (.iload_n 1, 1) := dk_27 (dk_at dksX3_serve_1 14 rfl rfl)
theorem dX3_serve_39 : decode cX3_serve 39 = .ok (.ifCond .lt 84, 3) := dk_155 0 84 (dk_at dksX3_serve_1 15 rfl rfl)
theorem dX3_serve_42 : decode cX3_serve 42 = .ok (.iconst 0, 1) := dk_3 (dk_at dksX3_serve_1 18 rfl rfl)
theorem dX3_serve_43 : decode cX3_serve 43 = .ok (.istore_n 2, 1) := dk_61 (dk_at dksX3_serve_1 19 rfl rfl)
theorem dX3_serve_44 : decode cX3_serve 44 = .ok (.iload_n 2, 1) := dk_28 (dk_at dksX3_serve_1 20 rfl rfl)
theorem dX3_serve_45 : decode cX3_serve 45 = .ok (.sipush 1728, 3) := dk_17 6 192 (dk_at dksX3_serve_1 21 rfl rfl)
theorem dX3_serve_48 : decode cX3_serve 48 = .ok (.if_icmp .ge 69, 3) := dk_162 0 69 (dk_at dksX3_serve_2 0 rfl rfl)
theorem dX3_serve_51 : decode cX3_serve 51 = .ok (.ldc_w 458, 3) := dk_19 1 202 (dk_at dksX3_serve_2 3 rfl rfl)
theorem dX3_serve_54 : decode cX3_serve 54 = .ok (.istore_n 3, 1) := dk_62 (dk_at dksX3_serve_2 6 rfl rfl)
theorem dX3_serve_55 : decode cX3_serve 55 = .ok (.iconst 0, 1) := dk_3 (dk_at dksX3_serve_2 7 rfl rfl)
theorem dX3_serve_56 : decode cX3_serve 56 = .ok (.istore 4, 2) := dk_54 4 (dk_at dksX3_serve_2 8 rfl rfl)
theorem dX3_serve_58 : decode cX3_serve 58 = .ok (.iload 4, 2) := dk_21 4 (dk_at dksX3_serve_2 10 rfl rfl)
theorem dX3_serve_60 : decode cX3_serve 60 = .ok (.aload_n 0, 1) := dk_42 (dk_at dksX3_serve_2 12 rfl rfl)
theorem dX3_serve_61 : decode cX3_serve 61 = .ok (.getfield 439, 3) := dk_180 1 183 (dk_at dksX3_serve_2 13 rfl rfl)
theorem dX3_serve_64 : decode cX3_serve 64 = .ok (.if_icmp .ge 34, 3) := dk_162 0 34 (dk_at dksX3_serve_2 16 rfl rfl)
theorem dX3_serve_67 : decode cX3_serve 67 = .ok (.aload_n 0, 1) := dk_42 (dk_at dksX3_serve_2 19 rfl rfl)
theorem dX3_serve_68 : decode cX3_serve 68 = .ok (.iload_n 1, 1) := dk_27 (dk_at dksX3_serve_2 20 rfl rfl)
theorem dX3_serve_69 : decode cX3_serve 69 = .ok (.iload_n 2, 1) := dk_28 (dk_at dksX3_serve_2 21 rfl rfl)
theorem dX3_serve_70 : decode cX3_serve 70 = .ok (.iload 4, 2) := dk_21 4 (dk_at dksX3_serve_2 22 rfl rfl)
theorem dX3_serve_72 : decode cX3_serve 72 = .ok (.invokevirtual 459, 3) := dk_182 1 203 (dk_at dksX3_serve_3 0 rfl rfl)
theorem dX3_serve_75 : decode cX3_serve 75 = .ok (.iload_n 3, 1) := dk_29 (dk_at dksX3_serve_3 3 rfl rfl)
theorem dX3_serve_76 : decode cX3_serve 76 = .ok (.if_icmp .ge 14, 3) := dk_162 0 14 (dk_at dksX3_serve_3 4 rfl rfl)
theorem dX3_serve_79 : decode cX3_serve 79 = .ok (.aload_n 0, 1) := dk_42 (dk_at dksX3_serve_3 7 rfl rfl)
theorem dX3_serve_80 : decode cX3_serve 80 = .ok (.iload_n 1, 1) := dk_27 (dk_at dksX3_serve_3 8 rfl rfl)
theorem dX3_serve_81 : decode cX3_serve 81 = .ok (.iload_n 2, 1) := dk_28 (dk_at dksX3_serve_3 9 rfl rfl)
theorem dX3_serve_82 : decode cX3_serve 82 = .ok (.iload 4, 2) := dk_21 4 (dk_at dksX3_serve_3 10 rfl rfl)
theorem dX3_serve_84 : decode cX3_serve 84 = .ok (.invokevirtual 459, 3) := dk_182 1 203 (dk_at dksX3_serve_3 12 rfl rfl)
theorem dX3_serve_87 : decode cX3_serve 87 = .ok (.goto 4, 3) := dk_167 0 4 (dk_at dksX3_serve_3 15 rfl rfl)
theorem dX3_serve_90 : decode cX3_serve 90 = .ok (.iload_n 3, 1) := dk_29 (dk_at dksX3_serve_3 18 rfl rfl)
theorem dX3_serve_91 : decode cX3_serve 91 = .ok (.istore_n 3, 1) := dk_62 (dk_at dksX3_serve_3 19 rfl rfl)
theorem dX3_serve_92 : decode cX3_serve 92 = .ok (.iinc 4 1, 3) := dk_132 4 1 (dk_at dksX3_serve_3 20 rfl rfl)
theorem dX3_serve_95 : decode cX3_serve 95 = .ok (.goto (-37), 3) := dk_167 255 219 (dk_at dksX3_serve_4 0 rfl rfl)
theorem dX3_serve_98 : decode cX3_serve 98 = .ok (.aload_n 0, 1) := dk_42 (dk_at dksX3_serve_4 3 rfl rfl)
theorem dX3_serve_99 : decode cX3_serve 99 = .ok (.getfield 95, 3) := dk_180 0 95 (dk_at dksX3_serve_4 4 rfl rfl)
theorem dX3_serve_102 : decode cX3_serve 102 = .ok (.sipush 1728, 3) := dk_17 6 192 (dk_at dksX3_serve_4 7 rfl rfl)
theorem dX3_serve_105 : decode cX3_serve 105 = .ok (.iload_n 1, 1) := dk_27 (dk_at dksX3_serve_4 10 rfl rfl)
theorem dX3_serve_106 : decode cX3_serve 106 = .ok (.imul, 1) := dk_104 (dk_at dksX3_serve_4 11 rfl rfl)
theorem dX3_serve_107 : decode cX3_serve 107 = .ok (.iload_n 2, 1) := dk_28 (dk_at dksX3_serve_4 12 rfl rfl)
theorem dX3_serve_108 : decode cX3_serve 108 = .ok (.iadd, 1) := dk_96 (dk_at dksX3_serve_4 13 rfl rfl)
theorem dX3_serve_109 : decode cX3_serve 109 = .ok (.iload_n 3, 1) := dk_29 (dk_at dksX3_serve_4 14 rfl rfl)
theorem dX3_serve_110 : decode cX3_serve 110 = .ok (.iastore, 1) := dk_79 (dk_at dksX3_serve_4 15 rfl rfl)
theorem dX3_serve_111 : decode cX3_serve 111 = .ok (.iinc 2 1, 3) := dk_132 2 1 (dk_at dksX3_serve_4 16 rfl rfl)
theorem dX3_serve_114 : decode cX3_serve 114 = .ok (.goto (-70), 3) := dk_167 255 186 (dk_at dksX3_serve_4 19 rfl rfl)
theorem dX3_serve_117 : decode cX3_serve 117 = .ok (.iinc 1 (-1), 3) := dk_132 1 255 (dk_at dksX3_serve_5 0 rfl rfl)
theorem dX3_serve_120 : decode cX3_serve 120 = .ok (.goto (-82), 3) := dk_167 255 174 (dk_at dksX3_serve_5 3 rfl rfl)
theorem dX3_serve_123 : decode cX3_serve 123 = .ok (.aload_n 0, 1) := dk_42 (dk_at dksX3_serve_5 6 rfl rfl)
theorem dX3_serve_124 : decode cX3_serve 124 = .ok (.getfield 98, 3) := dk_180 0 98 (dk_at dksX3_serve_5 7 rfl rfl)
theorem dX3_serve_127 : decode cX3_serve 127 = .ok (.iconst 0, 1) := dk_3 (dk_at dksX3_serve_5 10 rfl rfl)
theorem dX3_serve_128 : decode cX3_serve 128 = .ok (.iaload, 1) := dk_46 (dk_at dksX3_serve_5 11 rfl rfl)
theorem dX3_serve_129 : decode cX3_serve 129 = .ok (.bipush 12, 2) := dk_16 12 (dk_at dksX3_serve_5 12 rfl rfl)
theorem dX3_serve_131 : decode cX3_serve 131 = .ok (.aload_n 0, 1) := dk_42 (dk_at dksX3_serve_5 14 rfl rfl)
theorem dX3_serve_132 : decode cX3_serve 132 = .ok (.getfield 98, 3) := dk_180 0 98 (dk_at dksX3_serve_5 15 rfl rfl)
theorem dX3_serve_135 : decode cX3_serve 135 = .ok (.iconst 1, 1) := dk_4 (dk_at dksX3_serve_5 18 rfl rfl)
theorem dX3_serve_136 : decode cX3_serve 136 = .ok (.iaload, 1) := dk_46 (dk_at dksX3_serve_5 19 rfl rfl)
theorem dX3_serve_137 : decode cX3_serve 137 = .ok (.imul, 1) := dk_104 (dk_at dksX3_serve_5 20 rfl rfl)
theorem dX3_serve_138 : decode cX3_serve 138 = .ok (.iadd, 1) := dk_96 (dk_at dksX3_serve_5 21 rfl rfl)
theorem dX3_serve_139 : decode cX3_serve 139 = .ok (.sipush 144, 3) := dk_17 0 144 (dk_at dksX3_serve_6 0 rfl rfl)
theorem dX3_serve_142 : decode cX3_serve 142 = .ok (.aload_n 0, 1) := dk_42 (dk_at dksX3_serve_6 3 rfl rfl)
theorem dX3_serve_143 : decode cX3_serve 143 = .ok (.getfield 98, 3) := dk_180 0 98 (dk_at dksX3_serve_6 4 rfl rfl)
theorem dX3_serve_146 : decode cX3_serve 146 = .ok (.iconst 2, 1) := dk_5 (dk_at dksX3_serve_6 7 rfl rfl)
theorem dX3_serve_147 : decode cX3_serve 147 = .ok (.iaload, 1) := dk_46 (dk_at dksX3_serve_6 8 rfl rfl)
theorem dX3_serve_148 : decode cX3_serve 148 = .ok (.imul, 1) := dk_104 (dk_at dksX3_serve_6 9 rfl rfl)
theorem dX3_serve_149 : decode cX3_serve 149 = .ok (.iadd, 1) := dk_96 (dk_at dksX3_serve_6 10 rfl rfl)
theorem dX3_serve_150 : decode cX3_serve 150 = .ok (.istore_n 1, 1) := dk_60 (dk_at dksX3_serve_6 11 rfl rfl)
theorem dX3_serve_151 : decode cX3_serve 151 = .ok (.aload_n 0, 1) := dk_42 (dk_at dksX3_serve_6 12 rfl rfl)
theorem dX3_serve_152 : decode cX3_serve 152 = .ok (.getfield 95, 3) := dk_180 0 95 (dk_at dksX3_serve_6 13 rfl rfl)
theorem dX3_serve_155 : decode cX3_serve 155 = .ok (.iload_n 1, 1) := dk_27 (dk_at dksX3_serve_6 16 rfl rfl)
theorem dX3_serve_156 : decode cX3_serve 156 = .ok (.iaload, 1) := dk_46 (dk_at dksX3_serve_6 17 rfl rfl)
theorem dX3_serve_157 : decode cX3_serve 157 = .ok (.istore_n 2, 1) := dk_61 (dk_at dksX3_serve_6 18 rfl rfl)
theorem dX3_serve_158 : decode cX3_serve 158 = .ok (.iconst 0, 1) := dk_3 (dk_at dksX3_serve_6 19 rfl rfl)
theorem dX3_serve_159 : decode cX3_serve 159 = .ok (.istore_n 3, 1) := dk_62 (dk_at dksX3_serve_6 20 rfl rfl)
theorem dX3_serve_160 : decode cX3_serve 160 = .ok (.iload_n 3, 1) := dk_29 (dk_at dksX3_serve_6 21 rfl rfl)
theorem dX3_serve_161 : decode cX3_serve 161 = .ok (.aload_n 0, 1) := dk_42 (dk_at dksX3_serve_6 22 rfl rfl)
theorem dX3_serve_162 : decode cX3_serve 162 = .ok (.getfield 442, 3) := dk_180 1 186 (dk_at dksX3_serve_7 0 rfl rfl)
theorem dX3_serve_165 : decode cX3_serve 165 = .ok (.if_icmp .ge 73, 3) := dk_162 0 73 (dk_at dksX3_serve_7 3 rfl rfl)
theorem dX3_serve_168 : decode cX3_serve 168 = .ok (.aload_n 0, 1) := dk_42 (dk_at dksX3_serve_7 6 rfl rfl)
theorem dX3_serve_169 : decode cX3_serve 169 = .ok (.getfield 104, 3) := dk_180 0 104 (dk_at dksX3_serve_7 7 rfl rfl)
theorem dX3_serve_172 : decode cX3_serve 172 = .ok (.iload_n 3, 1) := dk_29 (dk_at dksX3_serve_7 10 rfl rfl)
theorem dX3_serve_173 : decode cX3_serve 173 = .ok (.iconst 0, 1) := dk_3 (dk_at dksX3_serve_7 11 rfl rfl)
theorem dX3_serve_174 : decode cX3_serve 174 = .ok (.iastore, 1) := dk_79 (dk_at dksX3_serve_7 12 rfl rfl)
theorem dX3_serve_175 : decode cX3_serve 175 = .ok (.aload_n 0, 1) := dk_42 (dk_at dksX3_serve_7 13 rfl rfl)
theorem dX3_serve_176 : decode cX3_serve 176 = .ok (.iload_n 3, 1) := dk_29 (dk_at dksX3_serve_7 14 rfl rfl)
theorem dX3_serve_177 : decode cX3_serve 177 = .ok (.iload_n 1, 1) := dk_27 (dk_at dksX3_serve_7 15 rfl rfl)
theorem dX3_serve_178 : decode cX3_serve 178 = .ok (.aload_n 0, 1) := dk_42 (dk_at dksX3_serve_7 16 rfl rfl)
theorem dX3_serve_179 : decode cX3_serve 179 = .ok (.getfield 104, 3) := dk_180 0 104 (dk_at dksX3_serve_7 17 rfl rfl)
theorem dX3_serve_182 : decode cX3_serve 182 = .ok (.iload_n 3, 1) := dk_29 (dk_at dksX3_serve_7 20 rfl rfl)
theorem dX3_serve_183 : decode cX3_serve 183 = .ok (.iaload, 1) := dk_46 (dk_at dksX3_serve_7 21 rfl rfl)
theorem dX3_serve_184 : decode cX3_serve 184 = .ok (.invokevirtual 459, 3) := dk_182 1 203 (dk_at dksX3_serve_8 0 rfl rfl)
theorem dX3_serve_187 : decode cX3_serve 187 = .ok (.aload_n 0, 1) := dk_42 (dk_at dksX3_serve_8 3 rfl rfl)
theorem dX3_serve_188 : decode cX3_serve 188 = .ok (.getfield 95, 3) := dk_180 0 95 (dk_at dksX3_serve_8 4 rfl rfl)
theorem dX3_serve_191 : decode cX3_serve 191 = .ok (.sipush 1728, 3) := dk_17 6 192 (dk_at dksX3_serve_8 7 rfl rfl)
theorem dX3_serve_194 : decode cX3_serve 194 = .ok (.iload_n 3, 1) := dk_29 (dk_at dksX3_serve_8 10 rfl rfl)
theorem dX3_serve_195 : decode cX3_serve 195 = .ok (.imul, 1) := dk_104 (dk_at dksX3_serve_8 11 rfl rfl)
theorem dX3_serve_196 : decode cX3_serve 196 = .ok (.iload_n 1, 1) := dk_27 (dk_at dksX3_serve_8 12 rfl rfl)
theorem dX3_serve_197 : decode cX3_serve 197 = .ok (.iadd, 1) := dk_96 (dk_at dksX3_serve_8 13 rfl rfl)
theorem dX3_serve_198 : decode cX3_serve 198 = .ok (.iaload, 1) := dk_46 (dk_at dksX3_serve_8 14 rfl rfl)
theorem dX3_serve_199 : decode cX3_serve 199 = .ok (.if_icmp .eq 16, 3) := dk_159 0 16 (dk_at dksX3_serve_8 15 rfl rfl)
theorem dX3_serve_202 : decode cX3_serve 202 = .ok (.aload_n 0, 1) := dk_42 (dk_at dksX3_serve_8 18 rfl rfl)
theorem dX3_serve_203 : decode cX3_serve 203 = .ok (.getfield 104, 3) := dk_180 0 104 (dk_at dksX3_serve_8 19 rfl rfl)
theorem dX3_serve_206 : decode cX3_serve 206 = .ok (.iload_n 3, 1) := dk_29 (dk_at dksX3_serve_8 22 rfl rfl)
theorem dX3_serve_207 : decode cX3_serve 207 = .ok (.dup2, 1) := dk_92 (dk_at dksX3_serve_8 23 rfl rfl)
theorem dX3_serve_208 : decode cX3_serve 208 = .ok (.iaload, 1) := dk_46 (dk_at dksX3_serve_9 0 rfl rfl)
theorem dX3_serve_209 : decode cX3_serve 209 = .ok (.iconst 1, 1) := dk_4 (dk_at dksX3_serve_9 1 rfl rfl)
theorem dX3_serve_210 : decode cX3_serve 210 = .ok (.iadd, 1) := dk_96 (dk_at dksX3_serve_9 2 rfl rfl)
theorem dX3_serve_211 : decode cX3_serve 211 = .ok (.iastore, 1) := dk_79 (dk_at dksX3_serve_9 3 rfl rfl)
theorem dX3_serve_212 : decode cX3_serve 212 = .ok (.goto (-37), 3) := dk_167 255 219 (dk_at dksX3_serve_9 4 rfl rfl)
theorem dX3_serve_215 : decode cX3_serve 215 = .ok (.iload_n 1, 1) := dk_27 (dk_at dksX3_serve_9 7 rfl rfl)
theorem dX3_serve_216 : decode cX3_serve 216 = .ok (.aload_n 0, 1) := dk_42 (dk_at dksX3_serve_9 8 rfl rfl)
theorem dX3_serve_217 : decode cX3_serve 217 = .ok (.getfield 104, 3) := dk_180 0 104 (dk_at dksX3_serve_9 9 rfl rfl)
theorem dX3_serve_220 : decode cX3_serve 220 = .ok (.iload_n 3, 1) := dk_29 (dk_at dksX3_serve_9 12 rfl rfl)
theorem dX3_serve_221 : decode cX3_serve 221 = .ok (.iaload, 1) := dk_46 (dk_at dksX3_serve_9 13 rfl rfl)
theorem dX3_serve_222 : decode cX3_serve 222 = .ok (.aload_n 0, 1) := dk_42 (dk_at dksX3_serve_9 14 rfl rfl)
theorem dX3_serve_223 : decode cX3_serve 223 = .ok (.getfield 101, 3) := dk_180 0 101 (dk_at dksX3_serve_9 15 rfl rfl)
theorem dX3_serve_226 : decode cX3_serve 226 = .ok (.iload_n 3, 1) := dk_29 (dk_at dksX3_serve_9 18 rfl rfl)
theorem dX3_serve_227 : decode cX3_serve 227 = .ok (.iaload, 1) := dk_46 (dk_at dksX3_serve_9 19 rfl rfl)
theorem dX3_serve_228 : decode cX3_serve 228 = .ok (.invokestatic 454, 3) := dk_184 1 198 (dk_at dksX3_serve_9 20 rfl rfl)
theorem dX3_serve_231 : decode cX3_serve 231 = .ok (.istore_n 1, 1) := dk_60 (dk_at dksX3_serve_9 23 rfl rfl)
theorem dX3_serve_232 : decode cX3_serve 232 = .ok (.iinc 3 1, 3) := dk_132 3 1 (dk_at dksX3_serve_10 0 rfl rfl)
theorem dX3_serve_235 : decode cX3_serve 235 = .ok (.goto (-75), 3) := dk_167 255 181 (dk_at dksX3_serve_10 3 rfl rfl)
theorem dX3_serve_238 : decode cX3_serve 238 = .ok (.iload_n 2, 1) := dk_28 (dk_at dksX3_serve_10 6 rfl rfl)
theorem dX3_serve_239 : decode cX3_serve 239 = .ok (.ireturn, 1) := dk_172 (dk_at dksX3_serve_10 7 rfl rfl)
def dkwX3_costBy_1 : List UInt8 := [104, 28, 29, 42, 180, 0, 101, 27, 46, 184, 1, 198, 96, 46, 96, 172]
abbrev dktX3_costBy_1 : List UInt8 := dkwX3_costBy_1 ++ []
def dkwX3_costBy_0 : List UInt8 := [28, 29, 184, 1, 192, 42, 180, 0, 101, 27, 46, 184, 1, 195, 42, 180, 0, 95, 17, 6, 192, 27, 4, 96]
abbrev dktX3_costBy_0 : List UInt8 := dkwX3_costBy_0 ++ dktX3_costBy_1
theorem dksX3_costBy_0 : cX3_costBy.data.toList.drop 0 = dktX3_costBy_0 := by decide +kernel
theorem dksX3_costBy_1 : cX3_costBy.data.toList.drop 24 = dktX3_costBy_1 := dk_seg dksX3_costBy_0 24 rfl rfl
theorem dX3_costBy_0 : decode cX3_costBy 0 = .ok (.iload_n 2, 1) := dk_28 (dk_at dksX3_costBy_0 0 rfl rfl)
theorem dX3_costBy_1 : decode cX3_costBy 1 = .ok (.iload_n 3, 1) := dk_29 (dk_at dksX3_costBy_0 1 rfl rfl)
theorem dX3_costBy_2 : decode cX3_costBy 2 = .ok (.invokestatic 448, 3) := dk_184 1 192 (dk_at dksX3_costBy_0 2 rfl rfl)
theorem dX3_costBy_5 : decode cX3_costBy 5 = .ok (.aload_n 0, 1) := dk_42 (dk_at dksX3_costBy_0 5 rfl rfl)
theorem dX3_costBy_6 : decode cX3_costBy 6 = .ok (.getfield 101, 3) := dk_180 0 101 (dk_at dksX3_costBy_0 6 rfl rfl)
theorem dX3_costBy_9 : decode cX3_costBy 9 = .ok (.iload_n 1, 1) := dk_27 (dk_at dksX3_costBy_0 9 rfl rfl)
theorem dX3_costBy_10 : decode cX3_costBy 10 = .ok (.iaload, 1) := dk_46 (dk_at dksX3_costBy_0 10 rfl rfl)
theorem dX3_costBy_11 : decode cX3_costBy 11 = .ok (.invokestatic 451, 3) := dk_184 1 195 (dk_at dksX3_costBy_0 11 rfl rfl)
theorem dX3_costBy_14 : decode cX3_costBy 14 = .ok (.aload_n 0, 1) := dk_42 (dk_at dksX3_costBy_0 14 rfl rfl)
theorem dX3_costBy_15 : decode cX3_costBy 15 = .ok (.getfield 95, 3) := dk_180 0 95 (dk_at dksX3_costBy_0 15 rfl rfl)
theorem dX3_costBy_18 : decode cX3_costBy 18 = .ok (.sipush 1728, 3) := dk_17 6 192 (dk_at dksX3_costBy_0 18 rfl rfl)
theorem dX3_costBy_21 : decode cX3_costBy 21 = .ok (.iload_n 1, 1) := dk_27 (dk_at dksX3_costBy_0 21 rfl rfl)
theorem dX3_costBy_22 : decode cX3_costBy 22 = .ok (.iconst 1, 1) := dk_4 (dk_at dksX3_costBy_0 22 rfl rfl)
theorem dX3_costBy_23 : decode cX3_costBy 23 = .ok (.iadd, 1) := dk_96 (dk_at dksX3_costBy_0 23 rfl rfl)
theorem dX3_costBy_24 : decode cX3_costBy 24 = .ok (.imul, 1) := dk_104 (dk_at dksX3_costBy_1 0 rfl rfl)
theorem dX3_costBy_25 : decode cX3_costBy 25 = .ok (.iload_n 2, 1) := dk_28 (dk_at dksX3_costBy_1 1 rfl rfl)
theorem dX3_costBy_26 : decode cX3_costBy 26 = .ok (.iload_n 3, 1) := dk_29 (dk_at dksX3_costBy_1 2 rfl rfl)
theorem dX3_costBy_27 : decode cX3_costBy 27 = .ok (.aload_n 0, 1) := dk_42 (dk_at dksX3_costBy_1 3 rfl rfl)
theorem dX3_costBy_28 : decode cX3_costBy 28 = .ok (.getfield 101, 3) := dk_180 0 101 (dk_at dksX3_costBy_1 4 rfl rfl)
theorem dX3_costBy_31 : decode cX3_costBy 31 = .ok (.iload_n 1, 1) := dk_27 (dk_at dksX3_costBy_1 7 rfl rfl)
theorem dX3_costBy_32 : decode cX3_costBy 32 = .ok (.iaload, 1) := dk_46 (dk_at dksX3_costBy_1 8 rfl rfl)
theorem dX3_costBy_33 : decode cX3_costBy 33 = .ok (.invokestatic 454, 3) := dk_184 1 198 (dk_at dksX3_costBy_1 9 rfl rfl)
theorem dX3_costBy_36 : decode cX3_costBy 36 = .ok (.iadd, 1) := dk_96 (dk_at dksX3_costBy_1 12 rfl rfl)
theorem dX3_costBy_37 : decode cX3_costBy 37 = .ok (.iaload, 1) := dk_46 (dk_at dksX3_costBy_1 13 rfl rfl)
theorem dX3_costBy_38 : decode cX3_costBy 38 = .ok (.iadd, 1) := dk_96 (dk_at dksX3_costBy_1 14 rfl rfl)
theorem dX3_costBy_39 : decode cX3_costBy 39 = .ok (.ireturn, 1) := dk_172 (dk_at dksX3_costBy_1 15 rfl rfl)
def dkwX3_spotOf_0 : List UInt8 := [26, 27, 184, 1, 189, 108, 16, 12, 112, 172]
abbrev dktX3_spotOf_0 : List UInt8 := dkwX3_spotOf_0 ++ []
theorem dksX3_spotOf_0 : cX3_spotOf.data.toList.drop 0 = dktX3_spotOf_0 := by decide +kernel
theorem dX3_spotOf_0 : decode cX3_spotOf 0 = .ok (.iload_n 0, 1) := dk_26 (dk_at dksX3_spotOf_0 0 rfl rfl)
theorem dX3_spotOf_1 : decode cX3_spotOf 1 = .ok (.iload_n 1, 1) := dk_27 (dk_at dksX3_spotOf_0 1 rfl rfl)
theorem dX3_spotOf_2 : decode cX3_spotOf 2 = .ok (.invokestatic 445, 3) := dk_184 1 189 (dk_at dksX3_spotOf_0 2 rfl rfl)
theorem dX3_spotOf_5 : decode cX3_spotOf 5 = .ok (.idiv, 1) := dk_108 (dk_at dksX3_spotOf_0 5 rfl rfl)
theorem dX3_spotOf_6 : decode cX3_spotOf 6 = .ok (.bipush 12, 2) := dk_16 12 (dk_at dksX3_spotOf_0 6 rfl rfl)
theorem dX3_spotOf_8 : decode cX3_spotOf 8 = .ok (.irem, 1) := dk_112 (dk_at dksX3_spotOf_0 8 rfl rfl)
theorem dX3_spotOf_9 : decode cX3_spotOf 9 = .ok (.ireturn, 1) := dk_172 (dk_at dksX3_spotOf_0 9 rfl rfl)
def dkwX3_unit_0 : List UInt8 := [26, 154, 0, 7, 4, 167, 0, 16, 26, 4, 160, 0, 8, 16, 12, 167, 0, 6, 17, 0, 144, 172]
abbrev dktX3_unit_0 : List UInt8 := dkwX3_unit_0 ++ []
theorem dksX3_unit_0 : cX3_unit.data.toList.drop 0 = dktX3_unit_0 := by decide +kernel
theorem dX3_unit_0 : decode cX3_unit 0 = .ok (.iload_n 0, 1) := dk_26 (dk_at dksX3_unit_0 0 rfl rfl)
theorem dX3_unit_1 : decode cX3_unit 1 = .ok (.ifCond .ne 7, 3) := dk_154 0 7 (dk_at dksX3_unit_0 1 rfl rfl)
theorem dX3_unit_4 : decode cX3_unit 4 = .ok (.iconst 1, 1) := dk_4 (dk_at dksX3_unit_0 4 rfl rfl)
theorem dX3_unit_5 : decode cX3_unit 5 = .ok (.goto 16, 3) := dk_167 0 16 (dk_at dksX3_unit_0 5 rfl rfl)
theorem dX3_unit_8 : decode cX3_unit 8 = .ok (.iload_n 0, 1) := dk_26 (dk_at dksX3_unit_0 8 rfl rfl)
theorem dX3_unit_9 : decode cX3_unit 9 = .ok (.iconst 1, 1) := dk_4 (dk_at dksX3_unit_0 9 rfl rfl)
theorem dX3_unit_10 : decode cX3_unit 10 = .ok (.if_icmp .ne 8, 3) := dk_160 0 8 (dk_at dksX3_unit_0 10 rfl rfl)
theorem dX3_unit_13 : decode cX3_unit 13 = .ok (.bipush 12, 2) := dk_16 12 (dk_at dksX3_unit_0 13 rfl rfl)
theorem dX3_unit_15 : decode cX3_unit 15 = .ok (.goto 6, 3) := dk_167 0 6 (dk_at dksX3_unit_0 15 rfl rfl)
theorem dX3_unit_18 : decode cX3_unit 18 = .ok (.sipush 144, 3) := dk_17 0 144 (dk_at dksX3_unit_0 18 rfl rfl)
theorem dX3_unit_21 : decode cX3_unit 21 = .ok (.ireturn, 1) := dk_172 (dk_at dksX3_unit_0 21 rfl rfl)
def dkwX3_stepsOf_0 : List UInt8 := [26, 27, 162, 0, 9, 27, 26, 100, 167, 0, 6, 26, 27, 100, 172]
abbrev dktX3_stepsOf_0 : List UInt8 := dkwX3_stepsOf_0 ++ []
theorem dksX3_stepsOf_0 : cX3_stepsOf.data.toList.drop 0 = dktX3_stepsOf_0 := by decide +kernel
theorem dX3_stepsOf_0 : decode cX3_stepsOf 0 = .ok (.iload_n 0, 1) := dk_26 (dk_at dksX3_stepsOf_0 0 rfl rfl)
theorem dX3_stepsOf_1 : decode cX3_stepsOf 1 = .ok (.iload_n 1, 1) := dk_27 (dk_at dksX3_stepsOf_0 1 rfl rfl)
theorem dX3_stepsOf_2 : decode cX3_stepsOf 2 = .ok (.if_icmp .ge 9, 3) := dk_162 0 9 (dk_at dksX3_stepsOf_0 2 rfl rfl)
theorem dX3_stepsOf_5 : decode cX3_stepsOf 5 = .ok (.iload_n 1, 1) := dk_27 (dk_at dksX3_stepsOf_0 5 rfl rfl)
theorem dX3_stepsOf_6 : decode cX3_stepsOf 6 = .ok (.iload_n 0, 1) := dk_26 (dk_at dksX3_stepsOf_0 6 rfl rfl)
theorem dX3_stepsOf_7 : decode cX3_stepsOf 7 = .ok (.isub, 1) := dk_100 (dk_at dksX3_stepsOf_0 7 rfl rfl)
theorem dX3_stepsOf_8 : decode cX3_stepsOf 8 = .ok (.goto 6, 3) := dk_167 0 6 (dk_at dksX3_stepsOf_0 8 rfl rfl)
theorem dX3_stepsOf_11 : decode cX3_stepsOf 11 = .ok (.iload_n 0, 1) := dk_26 (dk_at dksX3_stepsOf_0 11 rfl rfl)
theorem dX3_stepsOf_12 : decode cX3_stepsOf 12 = .ok (.iload_n 1, 1) := dk_27 (dk_at dksX3_stepsOf_0 12 rfl rfl)
theorem dX3_stepsOf_13 : decode cX3_stepsOf 13 = .ok (.isub, 1) := dk_100 (dk_at dksX3_stepsOf_0 13 rfl rfl)
theorem dX3_stepsOf_14 : decode cX3_stepsOf 14 = .ok (.ireturn, 1) := dk_172 (dk_at dksX3_stepsOf_0 14 rfl rfl)
def dkwX3_moved_0 : List UInt8 := [26, 28, 26, 27, 184, 1, 192, 100, 27, 184, 1, 189, 104, 96, 172]
abbrev dktX3_moved_0 : List UInt8 := dkwX3_moved_0 ++ []
theorem dksX3_moved_0 : cX3_moved.data.toList.drop 0 = dktX3_moved_0 := by decide +kernel
theorem dX3_moved_0 : decode cX3_moved 0 = .ok (.iload_n 0, 1) := dk_26 (dk_at dksX3_moved_0 0 rfl rfl)
theorem dX3_moved_1 : decode cX3_moved 1 = .ok (.iload_n 2, 1) := dk_28 (dk_at dksX3_moved_0 1 rfl rfl)
theorem dX3_moved_2 : decode cX3_moved 2 = .ok (.iload_n 0, 1) := dk_26 (dk_at dksX3_moved_0 2 rfl rfl)
theorem dX3_moved_3 : decode cX3_moved 3 = .ok (.iload_n 1, 1) := dk_27 (dk_at dksX3_moved_0 3 rfl rfl)
theorem dX3_moved_4 : decode cX3_moved 4 = .ok (.invokestatic 448, 3) := dk_184 1 192 (dk_at dksX3_moved_0 4 rfl rfl)
theorem dX3_moved_7 : decode cX3_moved 7 = .ok (.isub, 1) := dk_100 (dk_at dksX3_moved_0 7 rfl rfl)
theorem dX3_moved_8 : decode cX3_moved 8 = .ok (.iload_n 1, 1) := dk_27 (dk_at dksX3_moved_0 8 rfl rfl)
theorem dX3_moved_9 : decode cX3_moved 9 = .ok (.invokestatic 445, 3) := dk_184 1 189 (dk_at dksX3_moved_0 9 rfl rfl)
theorem dX3_moved_12 : decode cX3_moved 12 = .ok (.imul, 1) := dk_104 (dk_at dksX3_moved_0 12 rfl rfl)
theorem dX3_moved_13 : decode cX3_moved 13 = .ok (.iadd, 1) := dk_96 (dk_at dksX3_moved_0 13 rfl rfl)
theorem dX3_moved_14 : decode cX3_moved 14 = .ok (.ireturn, 1) := dk_172 (dk_at dksX3_moved_0 14 rfl rfl)
def dkwX3_greedy_4 : List UInt8 := [180, 0, 98, 29, 42, 180, 0, 101, 28, 46, 79, 132, 2, 1, 167, 255, 154, 27, 172]
abbrev dktX3_greedy_4 : List UInt8 := dkwX3_greedy_4 ++ []
def dkwX3_greedy_3 : List UInt8 := [167, 255, 203, 27, 42, 180, 0, 98, 29, 46, 42, 180, 0, 101, 28, 46, 184, 1, 195, 96, 60, 42]
abbrev dktX3_greedy_3 : List UInt8 := dkwX3_greedy_3 ++ dktX3_greedy_4
def dkwX3_greedy_2 : List UInt8 := [46, 42, 180, 0, 101, 28, 46, 184, 1, 195, 162, 0, 8, 21, 4, 167, 0, 4, 29, 62, 132, 4, 1]
abbrev dktX3_greedy_2 : List UInt8 := dkwX3_greedy_2 ++ dktX3_greedy_3
def dkwX3_greedy_1 : List UInt8 := [162, 0, 50, 42, 180, 0, 98, 21, 4, 46, 42, 180, 0, 101, 28, 46, 184, 1, 195, 42, 180, 0, 98, 29]
abbrev dktX3_greedy_1 : List UInt8 := dkwX3_greedy_1 ++ dktX3_greedy_2
def dkwX3_greedy_0 : List UInt8 := [3, 60, 3, 61, 28, 42, 180, 1, 186, 162, 0, 100, 3, 62, 4, 54, 4, 21, 4, 42, 180, 1, 183]
abbrev dktX3_greedy_0 : List UInt8 := dkwX3_greedy_0 ++ dktX3_greedy_1
theorem dksX3_greedy_0 : cX3_greedy.data.toList.drop 0 = dktX3_greedy_0 := by decide +kernel
theorem dksX3_greedy_1 : cX3_greedy.data.toList.drop 23 = dktX3_greedy_1 := dk_seg dksX3_greedy_0 23 rfl rfl
theorem dksX3_greedy_2 : cX3_greedy.data.toList.drop 47 = dktX3_greedy_2 := dk_seg dksX3_greedy_1 24 rfl rfl
theorem dksX3_greedy_3 : cX3_greedy.data.toList.drop 70 = dktX3_greedy_3 := dk_seg dksX3_greedy_2 23 rfl rfl
theorem dksX3_greedy_4 : cX3_greedy.data.toList.drop 92 = dktX3_greedy_4 := dk_seg dksX3_greedy_3 22 rfl rfl
theorem dX3_greedy_0 : decode cX3_greedy 0 = .ok (.iconst 0, 1) := dk_3 (dk_at dksX3_greedy_0 0 rfl rfl)
theorem dX3_greedy_1 : decode cX3_greedy 1 = .ok (.istore_n 1, 1) := dk_60 (dk_at dksX3_greedy_0 1 rfl rfl)
theorem dX3_greedy_2 : decode cX3_greedy 2 = .ok (.iconst 0, 1) := dk_3 (dk_at dksX3_greedy_0 2 rfl rfl)
theorem dX3_greedy_3 : decode cX3_greedy 3 = .ok (.istore_n 2, 1) := dk_61 (dk_at dksX3_greedy_0 3 rfl rfl)
theorem dX3_greedy_4 : decode cX3_greedy 4 = .ok (.iload_n 2, 1) := dk_28 (dk_at dksX3_greedy_0 4 rfl rfl)
theorem dX3_greedy_5 : decode cX3_greedy 5 = .ok (.aload_n 0, 1) := dk_42 (dk_at dksX3_greedy_0 5 rfl rfl)
theorem dX3_greedy_6 : decode cX3_greedy 6 = .ok (.getfield 442, 3) := dk_180 1 186 (dk_at dksX3_greedy_0 6 rfl rfl)
theorem dX3_greedy_9 : decode cX3_greedy 9 = .ok (.if_icmp .ge 100, 3) := dk_162 0 100 (dk_at dksX3_greedy_0 9 rfl rfl)
theorem dX3_greedy_12 : decode cX3_greedy 12 = .ok (.iconst 0, 1) := dk_3 (dk_at dksX3_greedy_0 12 rfl rfl)
theorem dX3_greedy_13 : decode cX3_greedy 13 = .ok (.istore_n 3, 1) := dk_62 (dk_at dksX3_greedy_0 13 rfl rfl)
theorem dX3_greedy_14 : decode cX3_greedy 14 = .ok (.iconst 1, 1) := dk_4 (dk_at dksX3_greedy_0 14 rfl rfl)
theorem dX3_greedy_15 : decode cX3_greedy 15 = .ok (.istore 4, 2) := dk_54 4 (dk_at dksX3_greedy_0 15 rfl rfl)
theorem dX3_greedy_17 : decode cX3_greedy 17 = .ok (.iload 4, 2) := dk_21 4 (dk_at dksX3_greedy_0 17 rfl rfl)
theorem dX3_greedy_19 : decode cX3_greedy 19 = .ok (.aload_n 0, 1) := dk_42 (dk_at dksX3_greedy_0 19 rfl rfl)
theorem dX3_greedy_20 : decode cX3_greedy 20 = .ok (.getfield 439, 3) := dk_180 1 183 (dk_at dksX3_greedy_0 20 rfl rfl)
theorem dX3_greedy_23 : decode cX3_greedy 23 = .ok (.if_icmp .ge 50, 3) := dk_162 0 50 (dk_at dksX3_greedy_1 0 rfl rfl)
theorem dX3_greedy_26 : decode cX3_greedy 26 = .ok (.aload_n 0, 1) := dk_42 (dk_at dksX3_greedy_1 3 rfl rfl)
theorem dX3_greedy_27 : decode cX3_greedy 27 = .ok (.getfield 98, 3) := dk_180 0 98 (dk_at dksX3_greedy_1 4 rfl rfl)
theorem dX3_greedy_30 : decode cX3_greedy 30 = .ok (.iload 4, 2) := dk_21 4 (dk_at dksX3_greedy_1 7 rfl rfl)
theorem dX3_greedy_32 : decode cX3_greedy 32 = .ok (.iaload, 1) := dk_46 (dk_at dksX3_greedy_1 9 rfl rfl)
theorem dX3_greedy_33 : decode cX3_greedy 33 = .ok (.aload_n 0, 1) := dk_42 (dk_at dksX3_greedy_1 10 rfl rfl)
theorem dX3_greedy_34 : decode cX3_greedy 34 = .ok (.getfield 101, 3) := dk_180 0 101 (dk_at dksX3_greedy_1 11 rfl rfl)
theorem dX3_greedy_37 : decode cX3_greedy 37 = .ok (.iload_n 2, 1) := dk_28 (dk_at dksX3_greedy_1 14 rfl rfl)
theorem dX3_greedy_38 : decode cX3_greedy 38 = .ok (.iaload, 1) := dk_46 (dk_at dksX3_greedy_1 15 rfl rfl)
theorem dX3_greedy_39 : decode cX3_greedy 39 = .ok (.invokestatic 451, 3) := dk_184 1 195 (dk_at dksX3_greedy_1 16 rfl rfl)
theorem dX3_greedy_42 : decode cX3_greedy 42 = .ok (.aload_n 0, 1) := dk_42 (dk_at dksX3_greedy_1 19 rfl rfl)
theorem dX3_greedy_43 : decode cX3_greedy 43 = .ok (.getfield 98, 3) := dk_180 0 98 (dk_at dksX3_greedy_1 20 rfl rfl)
theorem dX3_greedy_46 : decode cX3_greedy 46 = .ok (.iload_n 3, 1) := dk_29 (dk_at dksX3_greedy_1 23 rfl rfl)
theorem dX3_greedy_47 : decode cX3_greedy 47 = .ok (.iaload, 1) := dk_46 (dk_at dksX3_greedy_2 0 rfl rfl)
theorem dX3_greedy_48 : decode cX3_greedy 48 = .ok (.aload_n 0, 1) := dk_42 (dk_at dksX3_greedy_2 1 rfl rfl)
theorem dX3_greedy_49 : decode cX3_greedy 49 = .ok (.getfield 101, 3) := dk_180 0 101 (dk_at dksX3_greedy_2 2 rfl rfl)
theorem dX3_greedy_52 : decode cX3_greedy 52 = .ok (.iload_n 2, 1) := dk_28 (dk_at dksX3_greedy_2 5 rfl rfl)
theorem dX3_greedy_53 : decode cX3_greedy 53 = .ok (.iaload, 1) := dk_46 (dk_at dksX3_greedy_2 6 rfl rfl)
theorem dX3_greedy_54 : decode cX3_greedy 54 = .ok (.invokestatic 451, 3) := dk_184 1 195 (dk_at dksX3_greedy_2 7 rfl rfl)
theorem dX3_greedy_57 : decode cX3_greedy 57 = .ok (.if_icmp .ge 8, 3) := dk_162 0 8 (dk_at dksX3_greedy_2 10 rfl rfl)
theorem dX3_greedy_60 : decode cX3_greedy 60 = .ok (.iload 4, 2) := dk_21 4 (dk_at dksX3_greedy_2 13 rfl rfl)
theorem dX3_greedy_62 : decode cX3_greedy 62 = .ok (.goto 4, 3) := dk_167 0 4 (dk_at dksX3_greedy_2 15 rfl rfl)
theorem dX3_greedy_65 : decode cX3_greedy 65 = .ok (.iload_n 3, 1) := dk_29 (dk_at dksX3_greedy_2 18 rfl rfl)
theorem dX3_greedy_66 : decode cX3_greedy 66 = .ok (.istore_n 3, 1) := dk_62 (dk_at dksX3_greedy_2 19 rfl rfl)
theorem dX3_greedy_67 : decode cX3_greedy 67 = .ok (.iinc 4 1, 3) := dk_132 4 1 (dk_at dksX3_greedy_2 20 rfl rfl)
theorem dX3_greedy_70 : decode cX3_greedy 70 = .ok (.goto (-53), 3) := dk_167 255 203 (dk_at dksX3_greedy_3 0 rfl rfl)
theorem dX3_greedy_73 : decode cX3_greedy 73 = .ok (.iload_n 1, 1) := dk_27 (dk_at dksX3_greedy_3 3 rfl rfl)
theorem dX3_greedy_74 : decode cX3_greedy 74 = .ok (.aload_n 0, 1) := dk_42 (dk_at dksX3_greedy_3 4 rfl rfl)
theorem dX3_greedy_75 : decode cX3_greedy 75 = .ok (.getfield 98, 3) := dk_180 0 98 (dk_at dksX3_greedy_3 5 rfl rfl)
theorem dX3_greedy_78 : decode cX3_greedy 78 = .ok (.iload_n 3, 1) := dk_29 (dk_at dksX3_greedy_3 8 rfl rfl)
theorem dX3_greedy_79 : decode cX3_greedy 79 = .ok (.iaload, 1) := dk_46 (dk_at dksX3_greedy_3 9 rfl rfl)
theorem dX3_greedy_80 : decode cX3_greedy 80 = .ok (.aload_n 0, 1) := dk_42 (dk_at dksX3_greedy_3 10 rfl rfl)
theorem dX3_greedy_81 : decode cX3_greedy 81 = .ok (.getfield 101, 3) := dk_180 0 101 (dk_at dksX3_greedy_3 11 rfl rfl)
theorem dX3_greedy_84 : decode cX3_greedy 84 = .ok (.iload_n 2, 1) := dk_28 (dk_at dksX3_greedy_3 14 rfl rfl)
theorem dX3_greedy_85 : decode cX3_greedy 85 = .ok (.iaload, 1) := dk_46 (dk_at dksX3_greedy_3 15 rfl rfl)
theorem dX3_greedy_86 : decode cX3_greedy 86 = .ok (.invokestatic 451, 3) := dk_184 1 195 (dk_at dksX3_greedy_3 16 rfl rfl)
theorem dX3_greedy_89 : decode cX3_greedy 89 = .ok (.iadd, 1) := dk_96 (dk_at dksX3_greedy_3 19 rfl rfl)
theorem dX3_greedy_90 : decode cX3_greedy 90 = .ok (.istore_n 1, 1) := dk_60 (dk_at dksX3_greedy_3 20 rfl rfl)
theorem dX3_greedy_91 : decode cX3_greedy 91 = .ok (.aload_n 0, 1) := dk_42 (dk_at dksX3_greedy_3 21 rfl rfl)
theorem dX3_greedy_92 : decode cX3_greedy 92 = .ok (.getfield 98, 3) := dk_180 0 98 (dk_at dksX3_greedy_4 0 rfl rfl)
theorem dX3_greedy_95 : decode cX3_greedy 95 = .ok (.iload_n 3, 1) := dk_29 (dk_at dksX3_greedy_4 3 rfl rfl)
theorem dX3_greedy_96 : decode cX3_greedy 96 = .ok (.aload_n 0, 1) := dk_42 (dk_at dksX3_greedy_4 4 rfl rfl)
theorem dX3_greedy_97 : decode cX3_greedy 97 = .ok (.getfield 101, 3) := dk_180 0 101 (dk_at dksX3_greedy_4 5 rfl rfl)
theorem dX3_greedy_100 : decode cX3_greedy 100 = .ok (.iload_n 2, 1) := dk_28 (dk_at dksX3_greedy_4 8 rfl rfl)
theorem dX3_greedy_101 : decode cX3_greedy 101 = .ok (.iaload, 1) := dk_46 (dk_at dksX3_greedy_4 9 rfl rfl)
theorem dX3_greedy_102 : decode cX3_greedy 102 = .ok (.iastore, 1) := dk_79 (dk_at dksX3_greedy_4 10 rfl rfl)
theorem dX3_greedy_103 : decode cX3_greedy 103 = .ok (.iinc 2 1, 3) := dk_132 2 1 (dk_at dksX3_greedy_4 11 rfl rfl)
theorem dX3_greedy_106 : decode cX3_greedy 106 = .ok (.goto (-102), 3) := dk_167 255 154 (dk_at dksX3_greedy_4 14 rfl rfl)
theorem dX3_greedy_109 : decode cX3_greedy 109 = .ok (.iload_n 1, 1) := dk_27 (dk_at dksX3_greedy_4 17 rfl rfl)
theorem dX3_greedy_110 : decode cX3_greedy 110 = .ok (.ireturn, 1) := dk_172 (dk_at dksX3_greedy_4 18 rfl rfl)
def dkwX3_drawn_6 : List UInt8 := [167, 255, 160, 42, 180, 0, 47, 16, 12, 21, 4, 104, 21, 5, 96, 46, 172]
abbrev dktX3_drawn_6 : List UInt8 := dkwX3_drawn_6 ++ []
def dkwX3_drawn_5 : List UInt8 := [21, 6, 92, 46, 4, 21, 8, 120, 2, 130, 126, 79, 132, 7, 1, 132, 8, 1, 167, 255, 179, 132, 6, 1]
abbrev dktX3_drawn_5 : List UInt8 := dkwX3_drawn_5 ++ dktX3_drawn_6
def dkwX3_drawn_4 : List UInt8 := [21, 7, 42, 180, 0, 237, 162, 0, 32, 42, 16, 10, 182, 1, 219, 29, 162, 0, 22, 42, 180, 0, 47]
abbrev dktX3_drawn_4 : List UInt8 := dkwX3_drawn_4 ++ dktX3_drawn_5
def dkwX3_drawn_3 : List UInt8 := [21, 6, 46, 2, 159, 0, 63, 42, 180, 0, 47, 21, 6, 46, 133, 21, 8, 184, 0, 115, 153, 0, 41]
abbrev dktX3_drawn_3 : List UInt8 := dkwX3_drawn_3 ++ dktX3_drawn_4
def dkwX3_drawn_2 : List UInt8 := [16, 48, 162, 0, 95, 3, 54, 7, 3, 54, 8, 21, 8, 42, 180, 0, 234, 162, 0, 74, 42, 180, 0, 47]
abbrev dktX3_drawn_2 : List UInt8 := dkwX3_drawn_2 ++ dktX3_drawn_3
def dkwX3_drawn_1 : List UInt8 := [21, 4, 21, 5, 182, 1, 89, 154, 0, 6, 16, 254, 172, 42, 28, 181, 1, 215, 3, 54, 6, 21, 6]
abbrev dktX3_drawn_1 : List UInt8 := dkwX3_drawn_1 ++ dktX3_drawn_2
def dkwX3_drawn_0 : List UInt8 := [42, 3, 181, 0, 111, 29, 3, 16, 10, 184, 0, 123, 153, 0, 22, 42, 27, 182, 1, 14, 153, 0, 14, 42]
abbrev dktX3_drawn_0 : List UInt8 := dkwX3_drawn_0 ++ dktX3_drawn_1
theorem dksX3_drawn_0 : cX3_drawn.data.toList.drop 0 = dktX3_drawn_0 := by decide +kernel
theorem dksX3_drawn_1 : cX3_drawn.data.toList.drop 24 = dktX3_drawn_1 := dk_seg dksX3_drawn_0 24 rfl rfl
theorem dksX3_drawn_2 : cX3_drawn.data.toList.drop 47 = dktX3_drawn_2 := dk_seg dksX3_drawn_1 23 rfl rfl
theorem dksX3_drawn_3 : cX3_drawn.data.toList.drop 71 = dktX3_drawn_3 := dk_seg dksX3_drawn_2 24 rfl rfl
theorem dksX3_drawn_4 : cX3_drawn.data.toList.drop 94 = dktX3_drawn_4 := dk_seg dksX3_drawn_3 23 rfl rfl
theorem dksX3_drawn_5 : cX3_drawn.data.toList.drop 117 = dktX3_drawn_5 := dk_seg dksX3_drawn_4 23 rfl rfl
theorem dksX3_drawn_6 : cX3_drawn.data.toList.drop 141 = dktX3_drawn_6 := dk_seg dksX3_drawn_5 24 rfl rfl
theorem dX3_drawn_0 : decode cX3_drawn 0 = .ok (.aload_n 0, 1) := dk_42 (dk_at dksX3_drawn_0 0 rfl rfl)
theorem dX3_drawn_1 : decode cX3_drawn 1 = .ok (.iconst 0, 1) := dk_3 (dk_at dksX3_drawn_0 1 rfl rfl)
theorem dX3_drawn_2 : decode cX3_drawn 2 = .ok (.putfield 111, 3) := dk_181 0 111 (dk_at dksX3_drawn_0 2 rfl rfl)
theorem dX3_drawn_5 : decode cX3_drawn 5 = .ok (.iload_n 3, 1) := dk_29 (dk_at dksX3_drawn_0 5 rfl rfl)
theorem dX3_drawn_6 : decode cX3_drawn 6 = .ok (.iconst 0, 1) := dk_3 (dk_at dksX3_drawn_0 6 rfl rfl)
theorem dX3_drawn_7 : decode cX3_drawn 7 = .ok (.bipush 10, 2) := dk_16 10 (dk_at dksX3_drawn_0 7 rfl rfl)
theorem dX3_drawn_9 : decode cX3_drawn 9 = .ok (.invokestatic 123, 3) := dk_184 0 123 (dk_at dksX3_drawn_0 9 rfl rfl)
theorem dX3_drawn_12 : decode cX3_drawn 12 = .ok (.ifCond .eq 22, 3) := dk_153 0 22 (dk_at dksX3_drawn_0 12 rfl rfl)
theorem dX3_drawn_15 : decode cX3_drawn 15 = .ok (.aload_n 0, 1) := dk_42 (dk_at dksX3_drawn_0 15 rfl rfl)
theorem dX3_drawn_16 : decode cX3_drawn 16 = .ok (.iload_n 1, 1) := dk_27 (dk_at dksX3_drawn_0 16 rfl rfl)
theorem dX3_drawn_17 : decode cX3_drawn 17 = .ok (.invokevirtual 270, 3) := dk_182 1 14 (dk_at dksX3_drawn_0 17 rfl rfl)
theorem dX3_drawn_20 : decode cX3_drawn 20 = .ok (.ifCond .eq 14, 3) := dk_153 0 14 (dk_at dksX3_drawn_0 20 rfl rfl)
theorem dX3_drawn_23 : decode cX3_drawn 23 = .ok (.aload_n 0, 1) := dk_42 (dk_at dksX3_drawn_0 23 rfl rfl)
theorem dX3_drawn_24 : decode cX3_drawn 24 = .ok (.iload 4, 2) := dk_21 4 (dk_at dksX3_drawn_1 0 rfl rfl)
theorem dX3_drawn_26 : decode cX3_drawn 26 = .ok (.iload 5, 2) := dk_21 5 (dk_at dksX3_drawn_1 2 rfl rfl)
theorem dX3_drawn_28 : decode cX3_drawn 28 = .ok (.invokevirtual 345, 3) := dk_182 1 89 (dk_at dksX3_drawn_1 4 rfl rfl)
theorem dX3_drawn_31 : decode cX3_drawn 31 = .ok (.ifCond .ne 6, 3) := dk_154 0 6 (dk_at dksX3_drawn_1 7 rfl rfl)
theorem dX3_drawn_34 : decode cX3_drawn 34 = .ok (.bipush (-2), 2) := dk_16 254 (dk_at dksX3_drawn_1 10 rfl rfl)
theorem dX3_drawn_36 : decode cX3_drawn 36 = .ok (.ireturn, 1) := dk_172 (dk_at dksX3_drawn_1 12 rfl rfl)
theorem dX3_drawn_37 : decode cX3_drawn 37 = .ok (.aload_n 0, 1) := dk_42 (dk_at dksX3_drawn_1 13 rfl rfl)
theorem dX3_drawn_38 : decode cX3_drawn 38 = .ok (.iload_n 2, 1) := dk_28 (dk_at dksX3_drawn_1 14 rfl rfl)
theorem dX3_drawn_39 : decode cX3_drawn 39 = .ok (.putfield 471, 3) := dk_181 1 215 (dk_at dksX3_drawn_1 15 rfl rfl)
theorem dX3_drawn_42 : decode cX3_drawn 42 = .ok (.iconst 0, 1) := dk_3 (dk_at dksX3_drawn_1 18 rfl rfl)
theorem dX3_drawn_43 : decode cX3_drawn 43 = .ok (.istore 6, 2) := dk_54 6 (dk_at dksX3_drawn_1 19 rfl rfl)
theorem dX3_drawn_45 : decode cX3_drawn 45 = .ok (.iload 6, 2) := dk_21 6 (dk_at dksX3_drawn_1 21 rfl rfl)
theorem dX3_drawn_47 : decode cX3_drawn 47 = .ok (.bipush 48, 2) := dk_16 48 (dk_at dksX3_drawn_2 0 rfl rfl)
theorem dX3_drawn_49 : decode cX3_drawn 49 = .ok (.if_icmp .ge 95, 3) := dk_162 0 95 (dk_at dksX3_drawn_2 2 rfl rfl)
theorem dX3_drawn_52 : decode cX3_drawn 52 = .ok (.iconst 0, 1) := dk_3 (dk_at dksX3_drawn_2 5 rfl rfl)
theorem dX3_drawn_53 : decode cX3_drawn 53 = .ok (.istore 7, 2) := dk_54 7 (dk_at dksX3_drawn_2 6 rfl rfl)
theorem dX3_drawn_55 : decode cX3_drawn 55 = .ok (.iconst 0, 1) := dk_3 (dk_at dksX3_drawn_2 8 rfl rfl)
theorem dX3_drawn_56 : decode cX3_drawn 56 = .ok (.istore 8, 2) := dk_54 8 (dk_at dksX3_drawn_2 9 rfl rfl)
theorem dX3_drawn_58 : decode cX3_drawn 58 = .ok (.iload 8, 2) := dk_21 8 (dk_at dksX3_drawn_2 11 rfl rfl)
theorem dX3_drawn_60 : decode cX3_drawn 60 = .ok (.aload_n 0, 1) := dk_42 (dk_at dksX3_drawn_2 13 rfl rfl)
theorem dX3_drawn_61 : decode cX3_drawn 61 = .ok (.getfield 234, 3) := dk_180 0 234 (dk_at dksX3_drawn_2 14 rfl rfl)
theorem dX3_drawn_64 : decode cX3_drawn 64 = .ok (.if_icmp .ge 74, 3) := dk_162 0 74 (dk_at dksX3_drawn_2 17 rfl rfl)
theorem dX3_drawn_67 : decode cX3_drawn 67 = .ok (.aload_n 0, 1) := dk_42 (dk_at dksX3_drawn_2 20 rfl rfl)
theorem dX3_drawn_68 : decode cX3_drawn 68 = .ok (.getfield 47, 3) := dk_180 0 47 (dk_at dksX3_drawn_2 21 rfl rfl)
theorem dX3_drawn_71 : decode cX3_drawn 71 = .ok (.iload 6, 2) := dk_21 6 (dk_at dksX3_drawn_3 0 rfl rfl)
theorem dX3_drawn_73 : decode cX3_drawn 73 = .ok (.iaload, 1) := dk_46 (dk_at dksX3_drawn_3 2 rfl rfl)
theorem dX3_drawn_74 : decode cX3_drawn 74 = .ok (.iconst (-1), 1) := dk_2 (dk_at dksX3_drawn_3 3 rfl rfl)
theorem dX3_drawn_75 : decode cX3_drawn 75 = .ok (.if_icmp .eq 63, 3) := dk_159 0 63 (dk_at dksX3_drawn_3 4 rfl rfl)
theorem dX3_drawn_78 : decode cX3_drawn 78 = .ok (.aload_n 0, 1) := dk_42 (dk_at dksX3_drawn_3 7 rfl rfl)
theorem dX3_drawn_79 : decode cX3_drawn 79 = .ok (.getfield 47, 3) := dk_180 0 47 (dk_at dksX3_drawn_3 8 rfl rfl)
theorem dX3_drawn_82 : decode cX3_drawn 82 = .ok (.iload 6, 2) := dk_21 6 (dk_at dksX3_drawn_3 11 rfl rfl)
theorem dX3_drawn_84 : decode cX3_drawn 84 = .ok (.iaload, 1) := dk_46 (dk_at dksX3_drawn_3 13 rfl rfl)
theorem dX3_drawn_85 : decode cX3_drawn 85 = .ok (.i2l, 1) := dk_133 (dk_at dksX3_drawn_3 14 rfl rfl)
theorem dX3_drawn_86 : decode cX3_drawn 86 = .ok (.iload 8, 2) := dk_21 8 (dk_at dksX3_drawn_3 15 rfl rfl)
theorem dX3_drawn_88 : decode cX3_drawn 88 = .ok (.invokestatic 115, 3) := dk_184 0 115 (dk_at dksX3_drawn_3 17 rfl rfl)
theorem dX3_drawn_91 : decode cX3_drawn 91 = .ok (.ifCond .eq 41, 3) := dk_153 0 41 (dk_at dksX3_drawn_3 20 rfl rfl)
theorem dX3_drawn_94 : decode cX3_drawn 94 = .ok (.iload 7, 2) := dk_21 7 (dk_at dksX3_drawn_4 0 rfl rfl)
theorem dX3_drawn_96 : decode cX3_drawn 96 = .ok (.aload_n 0, 1) := dk_42 (dk_at dksX3_drawn_4 2 rfl rfl)
theorem dX3_drawn_97 : decode cX3_drawn 97 = .ok (.getfield 237, 3) := dk_180 0 237 (dk_at dksX3_drawn_4 3 rfl rfl)
theorem dX3_drawn_100 : decode cX3_drawn 100 = .ok (.if_icmp .ge 32, 3) := dk_162 0 32 (dk_at dksX3_drawn_4 6 rfl rfl)
theorem dX3_drawn_103 : decode cX3_drawn 103 = .ok (.aload_n 0, 1) := dk_42 (dk_at dksX3_drawn_4 9 rfl rfl)
theorem dX3_drawn_104 : decode cX3_drawn 104 = .ok (.bipush 10, 2) := dk_16 10 (dk_at dksX3_drawn_4 10 rfl rfl)
theorem dX3_drawn_106 : decode cX3_drawn 106 = .ok (.invokevirtual 475, 3) := dk_182 1 219 (dk_at dksX3_drawn_4 12 rfl rfl)
theorem dX3_drawn_109 : decode cX3_drawn 109 = .ok (.iload_n 3, 1) := dk_29 (dk_at dksX3_drawn_4 15 rfl rfl)
theorem dX3_drawn_110 : decode cX3_drawn 110 = .ok (.if_icmp .ge 22, 3) := dk_162 0 22 (dk_at dksX3_drawn_4 16 rfl rfl)
theorem dX3_drawn_113 : decode cX3_drawn 113 = .ok (.aload_n 0, 1) := dk_42 (dk_at dksX3_drawn_4 19 rfl rfl)
theorem dX3_drawn_114 : decode cX3_drawn 114 = .ok (.getfield 47, 3) := dk_180 0 47 (dk_at dksX3_drawn_4 20 rfl rfl)
theorem dX3_drawn_117 : decode cX3_drawn 117 = .ok (.iload 6, 2) := dk_21 6 (dk_at dksX3_drawn_5 0 rfl rfl)
theorem dX3_drawn_119 : decode cX3_drawn 119 = .ok (.dup2, 1) := dk_92 (dk_at dksX3_drawn_5 2 rfl rfl)
theorem dX3_drawn_120 : decode cX3_drawn 120 = .ok (.iaload, 1) := dk_46 (dk_at dksX3_drawn_5 3 rfl rfl)
theorem dX3_drawn_121 : decode cX3_drawn 121 = .ok (.iconst 1, 1) := dk_4 (dk_at dksX3_drawn_5 4 rfl rfl)
theorem dX3_drawn_122 : decode cX3_drawn 122 = .ok (.iload 8, 2) := dk_21 8 (dk_at dksX3_drawn_5 5 rfl rfl)
theorem dX3_drawn_124 : decode cX3_drawn 124 = .ok (.ishl, 1) := dk_120 (dk_at dksX3_drawn_5 7 rfl rfl)
theorem dX3_drawn_125 : decode cX3_drawn 125 = .ok (.iconst (-1), 1) := dk_2 (dk_at dksX3_drawn_5 8 rfl rfl)
theorem dX3_drawn_126 : decode cX3_drawn 126 = .ok (.ixor, 1) := dk_130 (dk_at dksX3_drawn_5 9 rfl rfl)
theorem dX3_drawn_127 : decode cX3_drawn 127 = .ok (.iand, 1) := dk_126 (dk_at dksX3_drawn_5 10 rfl rfl)
theorem dX3_drawn_128 : decode cX3_drawn 128 = .ok (.iastore, 1) := dk_79 (dk_at dksX3_drawn_5 11 rfl rfl)
theorem dX3_drawn_129 : decode cX3_drawn 129 = .ok (.iinc 7 1, 3) := dk_132 7 1 (dk_at dksX3_drawn_5 12 rfl rfl)
theorem dX3_drawn_132 : decode cX3_drawn 132 = .ok (.iinc 8 1, 3) := dk_132 8 1 (dk_at dksX3_drawn_5 15 rfl rfl)
theorem dX3_drawn_135 : decode cX3_drawn 135 = .ok (.goto (-77), 3) := dk_167 255 179 (dk_at dksX3_drawn_5 18 rfl rfl)
theorem dX3_drawn_138 : decode cX3_drawn 138 = .ok (.iinc 6 1, 3) := dk_132 6 1 (dk_at dksX3_drawn_5 21 rfl rfl)
theorem dX3_drawn_141 : decode cX3_drawn 141 = .ok (.goto (-96), 3) := dk_167 255 160 (dk_at dksX3_drawn_6 0 rfl rfl)
theorem dX3_drawn_144 : decode cX3_drawn 144 = .ok (.aload_n 0, 1) := dk_42 (dk_at dksX3_drawn_6 3 rfl rfl)
theorem dX3_drawn_145 : decode cX3_drawn 145 = .ok (.getfield 47, 3) := dk_180 0 47 (dk_at dksX3_drawn_6 4 rfl rfl)
theorem dX3_drawn_148 : decode cX3_drawn 148 = .ok (.bipush 12, 2) := dk_16 12 (dk_at dksX3_drawn_6 7 rfl rfl)
theorem dX3_drawn_150 : decode cX3_drawn 150 = .ok (.iload 4, 2) := dk_21 4 (dk_at dksX3_drawn_6 9 rfl rfl)
theorem dX3_drawn_152 : decode cX3_drawn 152 = .ok (.imul, 1) := dk_104 (dk_at dksX3_drawn_6 11 rfl rfl)
theorem dX3_drawn_153 : decode cX3_drawn 153 = .ok (.iload 5, 2) := dk_21 5 (dk_at dksX3_drawn_6 12 rfl rfl)
theorem dX3_drawn_155 : decode cX3_drawn 155 = .ok (.iadd, 1) := dk_96 (dk_at dksX3_drawn_6 14 rfl rfl)
theorem dX3_drawn_156 : decode cX3_drawn 156 = .ok (.iaload, 1) := dk_46 (dk_at dksX3_drawn_6 15 rfl rfl)
theorem dX3_drawn_157 : decode cX3_drawn 157 = .ok (.ireturn, 1) := dk_172 (dk_at dksX3_drawn_6 16 rfl rfl)
def dkwX3_draw_1 : List UInt8 := [112, 172]
abbrev dktX3_draw_1 : List UInt8 := dkwX3_draw_1 ++ []
def dkwX3_draw_0 : List UInt8 := [42, 42, 180, 1, 215, 19, 1, 218, 104, 17, 48, 57, 96, 181, 1, 215, 42, 180, 1, 215, 16, 16, 124, 27]
abbrev dktX3_draw_0 : List UInt8 := dkwX3_draw_0 ++ dktX3_draw_1
theorem dksX3_draw_0 : cX3_draw.data.toList.drop 0 = dktX3_draw_0 := by decide +kernel
theorem dksX3_draw_1 : cX3_draw.data.toList.drop 24 = dktX3_draw_1 := dk_seg dksX3_draw_0 24 rfl rfl
theorem dX3_draw_0 : decode cX3_draw 0 = .ok (.aload_n 0, 1) := dk_42 (dk_at dksX3_draw_0 0 rfl rfl)
theorem dX3_draw_1 : decode cX3_draw 1 = .ok (.aload_n 0, 1) := dk_42 (dk_at dksX3_draw_0 1 rfl rfl)
theorem dX3_draw_2 : decode cX3_draw 2 = .ok (.getfield 471, 3) := dk_180 1 215 (dk_at dksX3_draw_0 2 rfl rfl)
theorem dX3_draw_5 : decode cX3_draw 5 = .ok (.ldc_w 474, 3) := dk_19 1 218 (dk_at dksX3_draw_0 5 rfl rfl)
theorem dX3_draw_8 : decode cX3_draw 8 = .ok (.imul, 1) := dk_104 (dk_at dksX3_draw_0 8 rfl rfl)
theorem dX3_draw_9 : decode cX3_draw 9 = .ok (.sipush 12345, 3) := dk_17 48 57 (dk_at dksX3_draw_0 9 rfl rfl)
theorem dX3_draw_12 : decode cX3_draw 12 = .ok (.iadd, 1) := dk_96 (dk_at dksX3_draw_0 12 rfl rfl)
theorem dX3_draw_13 : decode cX3_draw 13 = .ok (.putfield 471, 3) := dk_181 1 215 (dk_at dksX3_draw_0 13 rfl rfl)
theorem dX3_draw_16 : decode cX3_draw 16 = .ok (.aload_n 0, 1) := dk_42 (dk_at dksX3_draw_0 16 rfl rfl)
theorem dX3_draw_17 : decode cX3_draw 17 = .ok (.getfield 471, 3) := dk_180 1 215 (dk_at dksX3_draw_0 17 rfl rfl)
theorem dX3_draw_20 : decode cX3_draw 20 = .ok (.bipush 16, 2) := dk_16 16 (dk_at dksX3_draw_0 20 rfl rfl)
theorem dX3_draw_22 : decode cX3_draw 22 = .ok (.iushr, 1) := dk_124 (dk_at dksX3_draw_0 22 rfl rfl)
theorem dX3_draw_23 : decode cX3_draw 23 = .ok (.iload_n 1, 1) := dk_27 (dk_at dksX3_draw_0 23 rfl rfl)
theorem dX3_draw_24 : decode cX3_draw 24 = .ok (.irem, 1) := dk_112 (dk_at dksX3_draw_1 0 rfl rfl)
theorem dX3_draw_25 : decode cX3_draw 25 = .ok (.ireturn, 1) := dk_172 (dk_at dksX3_draw_1 1 rfl rfl)
def dkwX3_insert_9 : List UInt8 := [167, 0, 5, 21, 6, 54, 6, 132, 7, 1, 167, 255, 167, 21, 5, 172]
abbrev dktX3_insert_9 : List UInt8 := dkwX3_insert_9 ++ []
def dkwX3_insert_8 : List UInt8 := [167, 0, 5, 21, 5, 54, 5, 21, 8, 2, 159, 0, 15, 21, 8, 21, 6, 162, 0, 8, 21, 8]
abbrev dktX3_insert_8 : List UInt8 := dkwX3_insert_8 ++ dktX3_insert_9
def dkwX3_insert_7 : List UInt8 := [180, 0, 65, 21, 7, 2, 79, 21, 8, 2, 159, 0, 15, 21, 8, 21, 6, 162, 0, 8, 21, 7]
abbrev dktX3_insert_7 : List UInt8 := dkwX3_insert_7 ++ dktX3_insert_8
def dkwX3_insert_6 : List UInt8 := [21, 7, 46, 2, 160, 0, 69, 42, 180, 0, 65, 21, 7, 29, 79, 42, 182, 1, 62, 54, 8, 42]
abbrev dktX3_insert_6 : List UInt8 := dkwX3_insert_6 ++ dktX3_insert_7
def dkwX3_insert_5 : List UInt8 := [54, 5, 19, 1, 202, 54, 6, 3, 54, 7, 21, 7, 42, 180, 1, 34, 162, 0, 86, 42, 180, 0, 65]
abbrev dktX3_insert_5 : List UInt8 := dkwX3_insert_5 ++ dktX3_insert_6
def dkwX3_insert_4 : List UInt8 := [2, 172, 42, 180, 0, 65, 21, 4, 29, 79, 42, 182, 1, 68, 42, 180, 0, 65, 21, 4, 2, 79, 2]
abbrev dktX3_insert_4 : List UInt8 := dkwX3_insert_4 ++ dktX3_insert_5
def dkwX3_insert_3 : List UInt8 := [160, 0, 8, 21, 5, 167, 0, 5, 21, 4, 54, 4, 132, 5, 255, 167, 255, 228, 21, 4, 2, 160, 0, 5]
abbrev dktX3_insert_3 : List UInt8 := dkwX3_insert_3 ++ dktX3_insert_4
def dkwX3_insert_2 : List UInt8 := [2, 54, 4, 42, 180, 1, 34, 4, 100, 54, 5, 21, 5, 155, 0, 29, 42, 180, 0, 65, 21, 5, 46, 2]
abbrev dktX3_insert_2 : List UInt8 := dkwX3_insert_2 ++ dktX3_insert_3
def dkwX3_insert_1 : List UInt8 := [182, 1, 92, 153, 0, 14, 42, 180, 0, 41, 28, 46, 16, 8, 164, 0, 5, 2, 172, 42, 28, 182, 1, 65]
abbrev dktX3_insert_1 : List UInt8 := dkwX3_insert_1 ++ dktX3_insert_2
def dkwX3_insert_0 : List UInt8 := [42, 3, 181, 0, 111, 42, 27, 182, 1, 14, 153, 0, 30, 42, 28, 182, 0, 246, 153, 0, 22, 42, 29]
abbrev dktX3_insert_0 : List UInt8 := dkwX3_insert_0 ++ dktX3_insert_1
theorem dksX3_insert_0 : cX3_insert.data.toList.drop 0 = dktX3_insert_0 := by decide +kernel
theorem dksX3_insert_1 : cX3_insert.data.toList.drop 23 = dktX3_insert_1 := dk_seg dksX3_insert_0 23 rfl rfl
theorem dksX3_insert_2 : cX3_insert.data.toList.drop 47 = dktX3_insert_2 := dk_seg dksX3_insert_1 24 rfl rfl
theorem dksX3_insert_3 : cX3_insert.data.toList.drop 71 = dktX3_insert_3 := dk_seg dksX3_insert_2 24 rfl rfl
theorem dksX3_insert_4 : cX3_insert.data.toList.drop 95 = dktX3_insert_4 := dk_seg dksX3_insert_3 24 rfl rfl
theorem dksX3_insert_5 : cX3_insert.data.toList.drop 118 = dktX3_insert_5 := dk_seg dksX3_insert_4 23 rfl rfl
theorem dksX3_insert_6 : cX3_insert.data.toList.drop 141 = dktX3_insert_6 := dk_seg dksX3_insert_5 23 rfl rfl
theorem dksX3_insert_7 : cX3_insert.data.toList.drop 163 = dktX3_insert_7 := dk_seg dksX3_insert_6 22 rfl rfl
theorem dksX3_insert_8 : cX3_insert.data.toList.drop 185 = dktX3_insert_8 := dk_seg dksX3_insert_7 22 rfl rfl
theorem dksX3_insert_9 : cX3_insert.data.toList.drop 207 = dktX3_insert_9 := dk_seg dksX3_insert_8 22 rfl rfl
theorem dX3_insert_0 : decode cX3_insert 0 = .ok (.aload_n 0, 1) := dk_42 (dk_at dksX3_insert_0 0 rfl rfl)
theorem dX3_insert_1 : decode cX3_insert 1 = .ok (.iconst 0, 1) := dk_3 (dk_at dksX3_insert_0 1 rfl rfl)
theorem dX3_insert_2 : decode cX3_insert 2 = .ok (.putfield 111, 3) := dk_181 0 111 (dk_at dksX3_insert_0 2 rfl rfl)
theorem dX3_insert_5 : decode cX3_insert 5 = .ok (.aload_n 0, 1) := dk_42 (dk_at dksX3_insert_0 5 rfl rfl)
theorem dX3_insert_6 : decode cX3_insert 6 = .ok (.iload_n 1, 1) := dk_27 (dk_at dksX3_insert_0 6 rfl rfl)
theorem dX3_insert_7 : decode cX3_insert 7 = .ok (.invokevirtual 270, 3) := dk_182 1 14 (dk_at dksX3_insert_0 7 rfl rfl)
theorem dX3_insert_10 : decode cX3_insert 10 = .ok (.ifCond .eq 30, 3) := dk_153 0 30 (dk_at dksX3_insert_0 10 rfl rfl)
theorem dX3_insert_13 : decode cX3_insert 13 = .ok (.aload_n 0, 1) := dk_42 (dk_at dksX3_insert_0 13 rfl rfl)
theorem dX3_insert_14 : decode cX3_insert 14 = .ok (.iload_n 2, 1) := dk_28 (dk_at dksX3_insert_0 14 rfl rfl)
theorem dX3_insert_15 : decode cX3_insert 15 = .ok (.invokevirtual 246, 3) := dk_182 0 246 (dk_at dksX3_insert_0 15 rfl rfl)
theorem dX3_insert_18 : decode cX3_insert 18 = .ok (.ifCond .eq 22, 3) := dk_153 0 22 (dk_at dksX3_insert_0 18 rfl rfl)
theorem dX3_insert_21 : decode cX3_insert 21 = .ok (.aload_n 0, 1) := dk_42 (dk_at dksX3_insert_0 21 rfl rfl)
theorem dX3_insert_22 : decode cX3_insert 22 = .ok (.iload_n 3, 1) := dk_29 (dk_at dksX3_insert_0 22 rfl rfl)
theorem dX3_insert_23 : decode cX3_insert 23 = .ok (.invokevirtual 348, 3) := dk_182 1 92 (dk_at dksX3_insert_1 0 rfl rfl)
theorem dX3_insert_26 : decode cX3_insert 26 = .ok (.ifCond .eq 14, 3) := dk_153 0 14 (dk_at dksX3_insert_1 3 rfl rfl)
theorem dX3_insert_29 : decode cX3_insert 29 = .ok (.aload_n 0, 1) := dk_42 (dk_at dksX3_insert_1 6 rfl rfl)
theorem dX3_insert_30 : decode cX3_insert 30 = .ok (.getfield 41, 3) := dk_180 0 41 (dk_at dksX3_insert_1 7 rfl rfl)
theorem dX3_insert_33 : decode cX3_insert 33 = .ok (.iload_n 2, 1) := dk_28 (dk_at dksX3_insert_1 10 rfl rfl)
theorem dX3_insert_34 : decode cX3_insert 34 = .ok (.iaload, 1) := dk_46 (dk_at dksX3_insert_1 11 rfl rfl)
theorem dX3_insert_35 : decode cX3_insert 35 = .ok (.bipush 8, 2) := dk_16 8 (dk_at dksX3_insert_1 12 rfl rfl)
theorem dX3_insert_37 : decode cX3_insert 37 = .ok (.if_icmp .le 5, 3) := dk_164 0 5 (dk_at dksX3_insert_1 14 rfl rfl)
theorem dX3_insert_40 : decode cX3_insert 40 = .ok (.iconst (-1), 1) := dk_2 (dk_at dksX3_insert_1 17 rfl rfl)
theorem dX3_insert_41 : decode cX3_insert 41 = .ok (.ireturn, 1) := dk_172 (dk_at dksX3_insert_1 18 rfl rfl)
theorem dX3_insert_42 : decode cX3_insert 42 = .ok (.aload_n 0, 1) := dk_42 (dk_at dksX3_insert_1 19 rfl rfl)
theorem dX3_insert_43 : decode cX3_insert 43 = .ok (.iload_n 2, 1) := dk_28 (dk_at dksX3_insert_1 20 rfl rfl)
theorem dX3_insert_44 : decode cX3_insert 44 = .ok (.invokevirtual 321, 3) := dk_182 1 65 (dk_at dksX3_insert_1 21 rfl rfl)
theorem dX3_insert_47 : decode cX3_insert 47 = .ok (.iconst (-1), 1) := dk_2 (dk_at dksX3_insert_2 0 rfl rfl)
theorem dX3_insert_48 : decode cX3_insert 48 = .ok (.istore 4, 2) := dk_54 4 (dk_at dksX3_insert_2 1 rfl rfl)
theorem dX3_insert_50 : decode cX3_insert 50 = .ok (.aload_n 0, 1) := dk_42 (dk_at dksX3_insert_2 3 rfl rfl)
theorem dX3_insert_51 : decode cX3_insert 51 = .ok (.getfield 290, 3) := dk_180 1 34 (dk_at dksX3_insert_2 4 rfl rfl)
theorem dX3_insert_54 : decode cX3_insert 54 = .ok (.iconst 1, 1) := dk_4 (dk_at dksX3_insert_2 7 rfl rfl)
theorem dX3_insert_55 : decode cX3_insert 55 = .ok (.isub, 1) := dk_100 (dk_at dksX3_insert_2 8 rfl rfl)
theorem dX3_insert_56 : decode cX3_insert 56 = .ok (.istore 5, 2) := dk_54 5 (dk_at dksX3_insert_2 9 rfl rfl)
theorem dX3_insert_58 : decode cX3_insert 58 = .ok (.iload 5, 2) := dk_21 5 (dk_at dksX3_insert_2 11 rfl rfl)
theorem dX3_insert_60 : decode cX3_insert 60 = .ok (.ifCond .lt 29, 3) := dk_155 0 29 (dk_at dksX3_insert_2 13 rfl rfl)
theorem dX3_insert_63 : decode cX3_insert 63 = .ok (.aload_n 0, 1) := dk_42 (dk_at dksX3_insert_2 16 rfl rfl)
theorem dX3_insert_64 : decode cX3_insert 64 = .ok (.getfield 65, 3) := dk_180 0 65 (dk_at dksX3_insert_2 17 rfl rfl)
theorem dX3_insert_67 : decode cX3_insert 67 = .ok (.iload 5, 2) := dk_21 5 (dk_at dksX3_insert_2 20 rfl rfl)
theorem dX3_insert_69 : decode cX3_insert 69 = .ok (.iaload, 1) := dk_46 (dk_at dksX3_insert_2 22 rfl rfl)
theorem dX3_insert_70 : decode cX3_insert 70 = .ok (.iconst (-1), 1) := dk_2 (dk_at dksX3_insert_2 23 rfl rfl)
theorem dX3_insert_71 : decode cX3_insert 71 = .ok (.if_icmp .ne 8, 3) := dk_160 0 8 (dk_at dksX3_insert_3 0 rfl rfl)
theorem dX3_insert_74 : decode cX3_insert 74 = .ok (.iload 5, 2) := dk_21 5 (dk_at dksX3_insert_3 3 rfl rfl)
theorem dX3_insert_76 : decode cX3_insert 76 = .ok (.goto 5, 3) := dk_167 0 5 (dk_at dksX3_insert_3 5 rfl rfl)
theorem dX3_insert_79 : decode cX3_insert 79 = .ok (.iload 4, 2) := dk_21 4 (dk_at dksX3_insert_3 8 rfl rfl)
theorem dX3_insert_81 : decode cX3_insert 81 = .ok (.istore 4, 2) := dk_54 4 (dk_at dksX3_insert_3 10 rfl rfl)
theorem dX3_insert_83 : decode cX3_insert 83 = .ok (.iinc 5 (-1), 3) := dk_132 5 255 (dk_at dksX3_insert_3 12 rfl rfl)
theorem dX3_insert_86 : decode cX3_insert 86 = .ok (.goto (-28), 3) := dk_167 255 228 (dk_at dksX3_insert_3 15 rfl rfl)
theorem dX3_insert_89 : decode cX3_insert 89 = .ok (.iload 4, 2) := dk_21 4 (dk_at dksX3_insert_3 18 rfl rfl)
theorem dX3_insert_91 : decode cX3_insert 91 = .ok (.iconst (-1), 1) := dk_2 (dk_at dksX3_insert_3 20 rfl rfl)
theorem dX3_insert_92 : decode cX3_insert 92 = .ok (.if_icmp .ne 5, 3) := dk_160 0 5 (dk_at dksX3_insert_3 21 rfl rfl)
theorem dX3_insert_95 : decode cX3_insert 95 = .ok (.iconst (-1), 1) := dk_2 (dk_at dksX3_insert_4 0 rfl rfl)
theorem dX3_insert_96 : decode cX3_insert 96 = .ok (.ireturn, 1) := dk_172 (dk_at dksX3_insert_4 1 rfl rfl)
theorem dX3_insert_97 : decode cX3_insert 97 = .ok (.aload_n 0, 1) := dk_42 (dk_at dksX3_insert_4 2 rfl rfl)
theorem dX3_insert_98 : decode cX3_insert 98 = .ok (.getfield 65, 3) := dk_180 0 65 (dk_at dksX3_insert_4 3 rfl rfl)
theorem dX3_insert_101 : decode cX3_insert 101 = .ok (.iload 4, 2) := dk_21 4 (dk_at dksX3_insert_4 6 rfl rfl)
theorem dX3_insert_103 : decode cX3_insert 103 = .ok (.iload_n 3, 1) := dk_29 (dk_at dksX3_insert_4 8 rfl rfl)
theorem dX3_insert_104 : decode cX3_insert 104 = .ok (.iastore, 1) := dk_79 (dk_at dksX3_insert_4 9 rfl rfl)
theorem dX3_insert_105 : decode cX3_insert 105 = .ok (.aload_n 0, 1) := dk_42 (dk_at dksX3_insert_4 10 rfl rfl)
theorem dX3_insert_106 : decode cX3_insert 106 = .ok (.invokevirtual 324, 3) := dk_182 1 68 (dk_at dksX3_insert_4 11 rfl rfl)
theorem dX3_insert_109 : decode cX3_insert 109 = .ok (.aload_n 0, 1) := dk_42 (dk_at dksX3_insert_4 14 rfl rfl)
theorem dX3_insert_110 : decode cX3_insert 110 = .ok (.getfield 65, 3) := dk_180 0 65 (dk_at dksX3_insert_4 15 rfl rfl)
theorem dX3_insert_113 : decode cX3_insert 113 = .ok (.iload 4, 2) := dk_21 4 (dk_at dksX3_insert_4 18 rfl rfl)
theorem dX3_insert_115 : decode cX3_insert 115 = .ok (.iconst (-1), 1) := dk_2 (dk_at dksX3_insert_4 20 rfl rfl)
theorem dX3_insert_116 : decode cX3_insert 116 = .ok (.iastore, 1) := dk_79 (dk_at dksX3_insert_4 21 rfl rfl)
theorem dX3_insert_117 : decode cX3_insert 117 = .ok (.iconst (-1), 1) := dk_2 (dk_at dksX3_insert_4 22 rfl rfl)
theorem dX3_insert_118 : decode cX3_insert 118 = .ok (.istore 5, 2) := dk_54 5 (dk_at dksX3_insert_5 0 rfl rfl)
theorem dX3_insert_120 : decode cX3_insert 120 = .ok (.ldc_w 458, 3) := dk_19 1 202 (dk_at dksX3_insert_5 2 rfl rfl)
theorem dX3_insert_123 : decode cX3_insert 123 = .ok (.istore 6, 2) := dk_54 6 (dk_at dksX3_insert_5 5 rfl rfl)
theorem dX3_insert_125 : decode cX3_insert 125 = .ok (.iconst 0, 1) := dk_3 (dk_at dksX3_insert_5 7 rfl rfl)
theorem dX3_insert_126 : decode cX3_insert 126 = .ok (.istore 7, 2) := dk_54 7 (dk_at dksX3_insert_5 8 rfl rfl)
theorem dX3_insert_128 : decode cX3_insert 128 = .ok (.iload 7, 2) := dk_21 7 (dk_at dksX3_insert_5 10 rfl rfl)
theorem dX3_insert_130 : decode cX3_insert 130 = .ok (.aload_n 0, 1) := dk_42 (dk_at dksX3_insert_5 12 rfl rfl)
theorem dX3_insert_131 : decode cX3_insert 131 = .ok (.getfield 290, 3) := dk_180 1 34 (dk_at dksX3_insert_5 13 rfl rfl)
theorem dX3_insert_134 : decode cX3_insert 134 = .ok (.if_icmp .ge 86, 3) := dk_162 0 86 (dk_at dksX3_insert_5 16 rfl rfl)
theorem dX3_insert_137 : decode cX3_insert 137 = .ok (.aload_n 0, 1) := dk_42 (dk_at dksX3_insert_5 19 rfl rfl)
theorem dX3_insert_138 : decode cX3_insert 138 = .ok (.getfield 65, 3) := dk_180 0 65 (dk_at dksX3_insert_5 20 rfl rfl)
theorem dX3_insert_141 : decode cX3_insert 141 = .ok (.iload 7, 2) := dk_21 7 (dk_at dksX3_insert_6 0 rfl rfl)
theorem dX3_insert_143 : decode cX3_insert 143 = .ok (.iaload, 1) := dk_46 (dk_at dksX3_insert_6 2 rfl rfl)
theorem dX3_insert_144 : decode cX3_insert 144 = .ok (.iconst (-1), 1) := dk_2 (dk_at dksX3_insert_6 3 rfl rfl)
theorem dX3_insert_145 : decode cX3_insert 145 = .ok (.if_icmp .ne 69, 3) := dk_160 0 69 (dk_at dksX3_insert_6 4 rfl rfl)
theorem dX3_insert_148 : decode cX3_insert 148 = .ok (.aload_n 0, 1) := dk_42 (dk_at dksX3_insert_6 7 rfl rfl)
theorem dX3_insert_149 : decode cX3_insert 149 = .ok (.getfield 65, 3) := dk_180 0 65 (dk_at dksX3_insert_6 8 rfl rfl)
theorem dX3_insert_152 : decode cX3_insert 152 = .ok (.iload 7, 2) := dk_21 7 (dk_at dksX3_insert_6 11 rfl rfl)
theorem dX3_insert_154 : decode cX3_insert 154 = .ok (.iload_n 3, 1) := dk_29 (dk_at dksX3_insert_6 13 rfl rfl)
theorem dX3_insert_155 : decode cX3_insert 155 = .ok (.iastore, 1) := dk_79 (dk_at dksX3_insert_6 14 rfl rfl)
theorem dX3_insert_156 : decode cX3_insert 156 = .ok (.aload_n 0, 1) := dk_42 (dk_at dksX3_insert_6 15 rfl rfl)
theorem dX3_insert_157 : decode cX3_insert 157 = .ok (.invokevirtual 318, 3) := dk_182 1 62 (dk_at dksX3_insert_6 16 rfl rfl)
theorem dX3_insert_160 : decode cX3_insert 160 = .ok (.istore 8, 2) := dk_54 8 (dk_at dksX3_insert_6 19 rfl rfl)
theorem dX3_insert_162 : decode cX3_insert 162 = .ok (.aload_n 0, 1) := dk_42 (dk_at dksX3_insert_6 21 rfl rfl)
theorem dX3_insert_163 : decode cX3_insert 163 = .ok (.getfield 65, 3) := dk_180 0 65 (dk_at dksX3_insert_7 0 rfl rfl)
theorem dX3_insert_166 : decode cX3_insert 166 = .ok (.iload 7, 2) := dk_21 7 (dk_at dksX3_insert_7 3 rfl rfl)
theorem dX3_insert_168 : decode cX3_insert 168 = .ok (.iconst (-1), 1) := dk_2 (dk_at dksX3_insert_7 5 rfl rfl)
theorem dX3_insert_169 : decode cX3_insert 169 = .ok (.iastore, 1) := dk_79 (dk_at dksX3_insert_7 6 rfl rfl)
theorem dX3_insert_170 : decode cX3_insert 170 = .ok (.iload 8, 2) := dk_21 8 (dk_at dksX3_insert_7 7 rfl rfl)
theorem dX3_insert_172 : decode cX3_insert 172 = .ok (.iconst (-1), 1) := dk_2 (dk_at dksX3_insert_7 9 rfl rfl)
theorem dX3_insert_173 : decode cX3_insert 173 = .ok (.if_icmp .eq 15, 3) := dk_159 0 15 (dk_at dksX3_insert_7 10 rfl rfl)
theorem dX3_insert_176 : decode cX3_insert 176 = .ok (.iload 8, 2) := dk_21 8 (dk_at dksX3_insert_7 13 rfl rfl)
theorem dX3_insert_178 : decode cX3_insert 178 = .ok (.iload 6, 2) := dk_21 6 (dk_at dksX3_insert_7 15 rfl rfl)
theorem dX3_insert_180 : decode cX3_insert 180 = .ok (.if_icmp .ge 8, 3) := dk_162 0 8 (dk_at dksX3_insert_7 17 rfl rfl)
theorem dX3_insert_183 : decode cX3_insert 183 = .ok (.iload 7, 2) := dk_21 7 (dk_at dksX3_insert_7 20 rfl rfl)
theorem dX3_insert_185 : decode cX3_insert 185 = .ok (.goto 5, 3) := dk_167 0 5 (dk_at dksX3_insert_8 0 rfl rfl)
theorem dX3_insert_188 : decode cX3_insert 188 = .ok (.iload 5, 2) := dk_21 5 (dk_at dksX3_insert_8 3 rfl rfl)
theorem dX3_insert_190 : decode cX3_insert 190 = .ok (.istore 5, 2) := dk_54 5 (dk_at dksX3_insert_8 5 rfl rfl)
theorem dX3_insert_192 : decode cX3_insert 192 = .ok (.iload 8, 2) := dk_21 8 (dk_at dksX3_insert_8 7 rfl rfl)
theorem dX3_insert_194 : decode cX3_insert 194 = .ok (.iconst (-1), 1) := dk_2 (dk_at dksX3_insert_8 9 rfl rfl)
theorem dX3_insert_195 : decode cX3_insert 195 = .ok (.if_icmp .eq 15, 3) := dk_159 0 15 (dk_at dksX3_insert_8 10 rfl rfl)
theorem dX3_insert_198 : decode cX3_insert 198 = .ok (.iload 8, 2) := dk_21 8 (dk_at dksX3_insert_8 13 rfl rfl)
theorem dX3_insert_200 : decode cX3_insert 200 = .ok (.iload 6, 2) := dk_21 6 (dk_at dksX3_insert_8 15 rfl rfl)
theorem dX3_insert_202 : decode cX3_insert 202 = .ok (.if_icmp .ge 8, 3) := dk_162 0 8 (dk_at dksX3_insert_8 17 rfl rfl)
theorem dX3_insert_205 : decode cX3_insert 205 = .ok (.iload 8, 2) := dk_21 8 (dk_at dksX3_insert_8 20 rfl rfl)
theorem dX3_insert_207 : decode cX3_insert 207 = .ok (.goto 5, 3) := dk_167 0 5 (dk_at dksX3_insert_9 0 rfl rfl)
theorem dX3_insert_210 : decode cX3_insert 210 = .ok (.iload 6, 2) := dk_21 6 (dk_at dksX3_insert_9 3 rfl rfl)
theorem dX3_insert_212 : decode cX3_insert 212 = .ok (.istore 6, 2) := dk_54 6 (dk_at dksX3_insert_9 5 rfl rfl)
theorem dX3_insert_214 : decode cX3_insert 214 = .ok (.iinc 7 1, 3) := dk_132 7 1 (dk_at dksX3_insert_9 7 rfl rfl)
theorem dX3_insert_217 : decode cX3_insert 217 = .ok (.goto (-89), 3) := dk_167 255 167 (dk_at dksX3_insert_9 10 rfl rfl)
theorem dX3_insert_220 : decode cX3_insert 220 = .ok (.iload 5, 2) := dk_21 5 (dk_at dksX3_insert_9 13 rfl rfl)
theorem dX3_insert_222 : decode cX3_insert 222 = .ok (.ireturn, 1) := dk_172 (dk_at dksX3_insert_9 15 rfl rfl)
def dkwX3_hardest_6 : List UInt8 := [29, 154, 0, 8, 21, 4, 167, 0, 5, 21, 6, 172]
abbrev dktX3_hardest_6 : List UInt8 := dkwX3_hardest_6 ++ []
def dkwX3_hardest_5 : List UInt8 := [21, 8, 167, 0, 5, 21, 4, 54, 4, 21, 5, 21, 9, 184, 0, 181, 54, 5, 132, 7, 1, 167, 255, 178]
abbrev dktX3_hardest_5 : List UInt8 := dkwX3_hardest_5 ++ dktX3_hardest_6
def dkwX3_hardest_4 : List UInt8 := [54, 6, 21, 9, 21, 5, 163, 0, 17, 21, 9, 21, 5, 160, 0, 15, 21, 8, 21, 4, 162, 0, 8]
abbrev dktX3_hardest_4 : List UInt8 := dkwX3_hardest_4 ++ dktX3_hardest_5
def dkwX3_hardest_3 : List UInt8 := [180, 0, 71, 21, 7, 46, 54, 8, 42, 27, 28, 21, 8, 3, 182, 1, 225, 54, 9, 21, 6, 21, 9, 96]
abbrev dktX3_hardest_3 : List UInt8 := dkwX3_hardest_3 ++ dktX3_hardest_4
def dkwX3_hardest_2 : List UInt8 := [54, 5, 3, 54, 6, 42, 28, 182, 1, 77, 3, 54, 7, 21, 7, 42, 180, 1, 74, 162, 0, 75, 42]
abbrev dktX3_hardest_2 : List UInt8 := dkwX3_hardest_2 ++ dktX3_hardest_3
def dkwX3_hardest_1 : List UInt8 := [184, 0, 123, 154, 0, 6, 16, 254, 172, 29, 5, 160, 0, 9, 42, 28, 182, 1, 222, 172, 2, 54, 4, 3]
abbrev dktX3_hardest_1 : List UInt8 := dkwX3_hardest_1 ++ dktX3_hardest_2
def dkwX3_hardest_0 : List UInt8 := [42, 3, 181, 0, 111, 42, 27, 182, 1, 14, 153, 0, 20, 42, 28, 182, 0, 246, 153, 0, 12, 29, 3, 5]
abbrev dktX3_hardest_0 : List UInt8 := dkwX3_hardest_0 ++ dktX3_hardest_1
theorem dksX3_hardest_0 : cX3_hardest.data.toList.drop 0 = dktX3_hardest_0 := by decide +kernel
theorem dksX3_hardest_1 : cX3_hardest.data.toList.drop 24 = dktX3_hardest_1 := dk_seg dksX3_hardest_0 24 rfl rfl
theorem dksX3_hardest_2 : cX3_hardest.data.toList.drop 48 = dktX3_hardest_2 := dk_seg dksX3_hardest_1 24 rfl rfl
theorem dksX3_hardest_3 : cX3_hardest.data.toList.drop 71 = dktX3_hardest_3 := dk_seg dksX3_hardest_2 23 rfl rfl
theorem dksX3_hardest_4 : cX3_hardest.data.toList.drop 95 = dktX3_hardest_4 := dk_seg dksX3_hardest_3 24 rfl rfl
theorem dksX3_hardest_5 : cX3_hardest.data.toList.drop 118 = dktX3_hardest_5 := dk_seg dksX3_hardest_4 23 rfl rfl
theorem dksX3_hardest_6 : cX3_hardest.data.toList.drop 142 = dktX3_hardest_6 := dk_seg dksX3_hardest_5 24 rfl rfl
theorem dX3_hardest_0 : decode cX3_hardest 0 = .ok (.aload_n 0, 1) := dk_42 (dk_at dksX3_hardest_0 0 rfl rfl)
theorem dX3_hardest_1 : decode cX3_hardest 1 = .ok (.iconst 0, 1) := dk_3 (dk_at dksX3_hardest_0 1 rfl rfl)
theorem dX3_hardest_2 : decode cX3_hardest 2 = .ok (.putfield 111, 3) := dk_181 0 111 (dk_at dksX3_hardest_0 2 rfl rfl)
theorem dX3_hardest_5 : decode cX3_hardest 5 = .ok (.aload_n 0, 1) := dk_42 (dk_at dksX3_hardest_0 5 rfl rfl)
theorem dX3_hardest_6 : decode cX3_hardest 6 = .ok (.iload_n 1, 1) := dk_27 (dk_at dksX3_hardest_0 6 rfl rfl)
theorem dX3_hardest_7 : decode cX3_hardest 7 = .ok (.invokevirtual 270, 3) := dk_182 1 14 (dk_at dksX3_hardest_0 7 rfl rfl)
theorem dX3_hardest_10 : decode cX3_hardest 10 = .ok (.ifCond .eq 20, 3) := dk_153 0 20 (dk_at dksX3_hardest_0 10 rfl rfl)
theorem dX3_hardest_13 : decode cX3_hardest 13 = .ok (.aload_n 0, 1) := dk_42 (dk_at dksX3_hardest_0 13 rfl rfl)
theorem dX3_hardest_14 : decode cX3_hardest 14 = .ok (.iload_n 2, 1) := dk_28 (dk_at dksX3_hardest_0 14 rfl rfl)
theorem dX3_hardest_15 : decode cX3_hardest 15 = .ok (.invokevirtual 246, 3) := dk_182 0 246 (dk_at dksX3_hardest_0 15 rfl rfl)
theorem dX3_hardest_18 : decode cX3_hardest 18 = .ok (.ifCond .eq 12, 3) := dk_153 0 12 (dk_at dksX3_hardest_0 18 rfl rfl)
theorem dX3_hardest_21 : decode cX3_hardest 21 = .ok (.iload_n 3, 1) := dk_29 (dk_at dksX3_hardest_0 21 rfl rfl)
theorem dX3_hardest_22 : decode cX3_hardest 22 = .ok (.iconst 0, 1) := dk_3 (dk_at dksX3_hardest_0 22 rfl rfl)
theorem dX3_hardest_23 : decode cX3_hardest 23 = .ok (.iconst 2, 1) := dk_5 (dk_at dksX3_hardest_0 23 rfl rfl)
theorem dX3_hardest_24 : decode cX3_hardest 24 = .ok (.invokestatic 123, 3) := dk_184 0 123 (dk_at dksX3_hardest_1 0 rfl rfl)
theorem dX3_hardest_27 : decode cX3_hardest 27 = .ok (.ifCond .ne 6, 3) := dk_154 0 6 (dk_at dksX3_hardest_1 3 rfl rfl)
theorem dX3_hardest_30 : decode cX3_hardest 30 = .ok (.bipush (-2), 2) := dk_16 254 (dk_at dksX3_hardest_1 6 rfl rfl)
theorem dX3_hardest_32 : decode cX3_hardest 32 = .ok (.ireturn, 1) := dk_172 (dk_at dksX3_hardest_1 8 rfl rfl)
theorem dX3_hardest_33 : decode cX3_hardest 33 = .ok (.iload_n 3, 1) := dk_29 (dk_at dksX3_hardest_1 9 rfl rfl)
theorem dX3_hardest_34 : decode cX3_hardest 34 = .ok (.iconst 2, 1) := dk_5 (dk_at dksX3_hardest_1 10 rfl rfl)
theorem dX3_hardest_35 : decode cX3_hardest 35 = .ok (.if_icmp .ne 9, 3) := dk_160 0 9 (dk_at dksX3_hardest_1 11 rfl rfl)
theorem dX3_hardest_38 : decode cX3_hardest 38 = .ok (.aload_n 0, 1) := dk_42 (dk_at dksX3_hardest_1 14 rfl rfl)
theorem dX3_hardest_39 : decode cX3_hardest 39 = .ok (.iload_n 2, 1) := dk_28 (dk_at dksX3_hardest_1 15 rfl rfl)
theorem dX3_hardest_40 : decode cX3_hardest 40 = .ok (.invokevirtual 478, 3) := dk_182 1 222 (dk_at dksX3_hardest_1 16 rfl rfl)
theorem dX3_hardest_43 : decode cX3_hardest 43 = .ok (.ireturn, 1) := dk_172 (dk_at dksX3_hardest_1 19 rfl rfl)
theorem dX3_hardest_44 : decode cX3_hardest 44 = .ok (.iconst (-1), 1) := dk_2 (dk_at dksX3_hardest_1 20 rfl rfl)
theorem dX3_hardest_45 : decode cX3_hardest 45 = .ok (.istore 4, 2) := dk_54 4 (dk_at dksX3_hardest_1 21 rfl rfl)
theorem dX3_hardest_47 : decode cX3_hardest 47 = .ok (.iconst 0, 1) := dk_3 (dk_at dksX3_hardest_1 23 rfl rfl)
theorem dX3_hardest_48 : decode cX3_hardest 48 = .ok (.istore 5, 2) := dk_54 5 (dk_at dksX3_hardest_2 0 rfl rfl)
theorem dX3_hardest_50 : decode cX3_hardest 50 = .ok (.iconst 0, 1) := dk_3 (dk_at dksX3_hardest_2 2 rfl rfl)
theorem dX3_hardest_51 : decode cX3_hardest 51 = .ok (.istore 6, 2) := dk_54 6 (dk_at dksX3_hardest_2 3 rfl rfl)
theorem dX3_hardest_53 : decode cX3_hardest 53 = .ok (.aload_n 0, 1) := dk_42 (dk_at dksX3_hardest_2 5 rfl rfl)
theorem dX3_hardest_54 : decode cX3_hardest 54 = .ok (.iload_n 2, 1) := dk_28 (dk_at dksX3_hardest_2 6 rfl rfl)
theorem dX3_hardest_55 : decode cX3_hardest 55 = .ok (.invokevirtual 333, 3) := dk_182 1 77 (dk_at dksX3_hardest_2 7 rfl rfl)
theorem dX3_hardest_58 : decode cX3_hardest 58 = .ok (.iconst 0, 1) := dk_3 (dk_at dksX3_hardest_2 10 rfl rfl)
theorem dX3_hardest_59 : decode cX3_hardest 59 = .ok (.istore 7, 2) := dk_54 7 (dk_at dksX3_hardest_2 11 rfl rfl)
theorem dX3_hardest_61 : decode cX3_hardest 61 = .ok (.iload 7, 2) := dk_21 7 (dk_at dksX3_hardest_2 13 rfl rfl)
theorem dX3_hardest_63 : decode cX3_hardest 63 = .ok (.aload_n 0, 1) := dk_42 (dk_at dksX3_hardest_2 15 rfl rfl)
theorem dX3_hardest_64 : decode cX3_hardest 64 = .ok (.getfield 330, 3) := dk_180 1 74 (dk_at dksX3_hardest_2 16 rfl rfl)
theorem dX3_hardest_67 : decode cX3_hardest 67 = .ok (.if_icmp .ge 75, 3) := dk_162 0 75 (dk_at dksX3_hardest_2 19 rfl rfl)
theorem dX3_hardest_70 : decode cX3_hardest 70 = .ok (.aload_n 0, 1) := dk_42 (dk_at dksX3_hardest_2 22 rfl rfl)
theorem dX3_hardest_71 : decode cX3_hardest 71 = .ok (.getfield 71, 3) := dk_180 0 71 (dk_at dksX3_hardest_3 0 rfl rfl)
theorem dX3_hardest_74 : decode cX3_hardest 74 = .ok (.iload 7, 2) := dk_21 7 (dk_at dksX3_hardest_3 3 rfl rfl)
theorem dX3_hardest_76 : decode cX3_hardest 76 = .ok (.iaload, 1) := dk_46 (dk_at dksX3_hardest_3 5 rfl rfl)
theorem dX3_hardest_77 : decode cX3_hardest 77 = .ok (.istore 8, 2) := dk_54 8 (dk_at dksX3_hardest_3 6 rfl rfl)
theorem dX3_hardest_79 : decode cX3_hardest 79 = .ok (.aload_n 0, 1) := dk_42 (dk_at dksX3_hardest_3 8 rfl rfl)
theorem dX3_hardest_80 : decode cX3_hardest 80 = .ok (.iload_n 1, 1) := dk_27 (dk_at dksX3_hardest_3 9 rfl rfl)
theorem dX3_hardest_81 : decode cX3_hardest 81 = .ok (.iload_n 2, 1) := dk_28 (dk_at dksX3_hardest_3 10 rfl rfl)
theorem dX3_hardest_82 : decode cX3_hardest 82 = .ok (.iload 8, 2) := dk_21 8 (dk_at dksX3_hardest_3 11 rfl rfl)
theorem dX3_hardest_84 : decode cX3_hardest 84 = .ok (.iconst 0, 1) := dk_3 (dk_at dksX3_hardest_3 13 rfl rfl)
theorem dX3_hardest_85 : decode cX3_hardest 85 = .ok (.invokevirtual 481, 3) := dk_182 1 225 (dk_at dksX3_hardest_3 14 rfl rfl)
theorem dX3_hardest_88 : decode cX3_hardest 88 = .ok (.istore 9, 2) := dk_54 9 (dk_at dksX3_hardest_3 17 rfl rfl)
theorem dX3_hardest_90 : decode cX3_hardest 90 = .ok (.iload 6, 2) := dk_21 6 (dk_at dksX3_hardest_3 19 rfl rfl)
theorem dX3_hardest_92 : decode cX3_hardest 92 = .ok (.iload 9, 2) := dk_21 9 (dk_at dksX3_hardest_3 21 rfl rfl)
theorem dX3_hardest_94 : decode cX3_hardest 94 = .ok (.iadd, 1) := dk_96 (dk_at dksX3_hardest_3 23 rfl rfl)
theorem dX3_hardest_95 : decode cX3_hardest 95 = .ok (.istore 6, 2) := dk_54 6 (dk_at dksX3_hardest_4 0 rfl rfl)
theorem dX3_hardest_97 : decode cX3_hardest 97 = .ok (.iload 9, 2) := dk_21 9 (dk_at dksX3_hardest_4 2 rfl rfl)
theorem dX3_hardest_99 : decode cX3_hardest 99 = .ok (.iload 5, 2) := dk_21 5 (dk_at dksX3_hardest_4 4 rfl rfl)
theorem dX3_hardest_101 : decode cX3_hardest 101 = .ok (.if_icmp .gt 17, 3) := dk_163 0 17 (dk_at dksX3_hardest_4 6 rfl rfl)
theorem dX3_hardest_104 : decode cX3_hardest 104 = .ok (.iload 9, 2) := dk_21 9 (dk_at dksX3_hardest_4 9 rfl rfl)
theorem dX3_hardest_106 : decode cX3_hardest 106 = .ok (.iload 5, 2) := dk_21 5 (dk_at dksX3_hardest_4 11 rfl rfl)
theorem dX3_hardest_108 : decode cX3_hardest 108 = .ok (.if_icmp .ne 15, 3) := dk_160 0 15 (dk_at dksX3_hardest_4 13 rfl rfl)
theorem dX3_hardest_111 : decode cX3_hardest 111 = .ok (.iload 8, 2) := dk_21 8 (dk_at dksX3_hardest_4 16 rfl rfl)
theorem dX3_hardest_113 : decode cX3_hardest 113 = .ok (.iload 4, 2) := dk_21 4 (dk_at dksX3_hardest_4 18 rfl rfl)
theorem dX3_hardest_115 : decode cX3_hardest 115 = .ok (.if_icmp .ge 8, 3) := dk_162 0 8 (dk_at dksX3_hardest_4 20 rfl rfl)
theorem dX3_hardest_118 : decode cX3_hardest 118 = .ok (.iload 8, 2) := dk_21 8 (dk_at dksX3_hardest_5 0 rfl rfl)
theorem dX3_hardest_120 : decode cX3_hardest 120 = .ok (.goto 5, 3) := dk_167 0 5 (dk_at dksX3_hardest_5 2 rfl rfl)
theorem dX3_hardest_123 : decode cX3_hardest 123 = .ok (.iload 4, 2) := dk_21 4 (dk_at dksX3_hardest_5 5 rfl rfl)
theorem dX3_hardest_125 : decode cX3_hardest 125 = .ok (.istore 4, 2) := dk_54 4 (dk_at dksX3_hardest_5 7 rfl rfl)
theorem dX3_hardest_127 : decode cX3_hardest 127 = .ok (.iload 5, 2) := dk_21 5 (dk_at dksX3_hardest_5 9 rfl rfl)
theorem dX3_hardest_129 : decode cX3_hardest 129 = .ok (.iload 9, 2) := dk_21 9 (dk_at dksX3_hardest_5 11 rfl rfl)
theorem dX3_hardest_131 : decode cX3_hardest 131 = .ok (.invokestatic 181, 3) := dk_184 0 181 (dk_at dksX3_hardest_5 13 rfl rfl)
theorem dX3_hardest_134 : decode cX3_hardest 134 = .ok (.istore 5, 2) := dk_54 5 (dk_at dksX3_hardest_5 16 rfl rfl)
theorem dX3_hardest_136 : decode cX3_hardest 136 = .ok (.iinc 7 1, 3) := dk_132 7 1 (dk_at dksX3_hardest_5 18 rfl rfl)
theorem dX3_hardest_139 : decode cX3_hardest 139 = .ok (.goto (-78), 3) := dk_167 255 178 (dk_at dksX3_hardest_5 21 rfl rfl)
theorem dX3_hardest_142 : decode cX3_hardest 142 = .ok (.iload_n 3, 1) := dk_29 (dk_at dksX3_hardest_6 0 rfl rfl)
theorem dX3_hardest_143 : decode cX3_hardest 143 = .ok (.ifCond .ne 8, 3) := dk_154 0 8 (dk_at dksX3_hardest_6 1 rfl rfl)
theorem dX3_hardest_146 : decode cX3_hardest 146 = .ok (.iload 4, 2) := dk_21 4 (dk_at dksX3_hardest_6 4 rfl rfl)
theorem dX3_hardest_148 : decode cX3_hardest 148 = .ok (.goto 5, 3) := dk_167 0 5 (dk_at dksX3_hardest_6 6 rfl rfl)
theorem dX3_hardest_151 : decode cX3_hardest 151 = .ok (.iload 6, 2) := dk_21 6 (dk_at dksX3_hardest_6 9 rfl rfl)
theorem dX3_hardest_153 : decode cX3_hardest 153 = .ok (.ireturn, 1) := dk_172 (dk_at dksX3_hardest_6 11 rfl rfl)
def dkwX3_hole_2 : List UInt8 := [132, 4, 1, 167, 255, 212, 28, 172]
abbrev dktX3_hole_2 : List UInt8 := dkwX3_hole_2 ++ []
def dkwX3_hole_1 : List UInt8 := [27, 104, 21, 4, 96, 46, 2, 160, 0, 9, 29, 4, 96, 167, 0, 4, 3, 62, 28, 29, 184, 0, 181, 61]
abbrev dktX3_hole_1 : List UInt8 := dkwX3_hole_1 ++ dktX3_hole_2
def dkwX3_hole_0 : List UInt8 := [3, 61, 3, 62, 3, 54, 4, 21, 4, 42, 180, 0, 41, 27, 46, 162, 0, 39, 42, 180, 0, 47, 16, 12]
abbrev dktX3_hole_0 : List UInt8 := dkwX3_hole_0 ++ dktX3_hole_1
theorem dksX3_hole_0 : cX3_hole.data.toList.drop 0 = dktX3_hole_0 := by decide +kernel
theorem dksX3_hole_1 : cX3_hole.data.toList.drop 24 = dktX3_hole_1 := dk_seg dksX3_hole_0 24 rfl rfl
theorem dksX3_hole_2 : cX3_hole.data.toList.drop 48 = dktX3_hole_2 := dk_seg dksX3_hole_1 24 rfl rfl
theorem dX3_hole_0 : decode cX3_hole 0 = .ok (.iconst 0, 1) := dk_3 (dk_at dksX3_hole_0 0 rfl rfl)
theorem dX3_hole_1 : decode cX3_hole 1 = .ok (.istore_n 2, 1) := dk_61 (dk_at dksX3_hole_0 1 rfl rfl)
theorem dX3_hole_2 : decode cX3_hole 2 = .ok (.iconst 0, 1) := dk_3 (dk_at dksX3_hole_0 2 rfl rfl)
theorem dX3_hole_3 : decode cX3_hole 3 = .ok (.istore_n 3, 1) := dk_62 (dk_at dksX3_hole_0 3 rfl rfl)
theorem dX3_hole_4 : decode cX3_hole 4 = .ok (.iconst 0, 1) := dk_3 (dk_at dksX3_hole_0 4 rfl rfl)
theorem dX3_hole_5 : decode cX3_hole 5 = .ok (.istore 4, 2) := dk_54 4 (dk_at dksX3_hole_0 5 rfl rfl)
theorem dX3_hole_7 : decode cX3_hole 7 = .ok (.iload 4, 2) := dk_21 4 (dk_at dksX3_hole_0 7 rfl rfl)
theorem dX3_hole_9 : decode cX3_hole 9 = .ok (.aload_n 0, 1) := dk_42 (dk_at dksX3_hole_0 9 rfl rfl)
theorem dX3_hole_10 : decode cX3_hole 10 = .ok (.getfield 41, 3) := dk_180 0 41 (dk_at dksX3_hole_0 10 rfl rfl)
theorem dX3_hole_13 : decode cX3_hole 13 = .ok (.iload_n 1, 1) := dk_27 (dk_at dksX3_hole_0 13 rfl rfl)
theorem dX3_hole_14 : decode cX3_hole 14 = .ok (.iaload, 1) := dk_46 (dk_at dksX3_hole_0 14 rfl rfl)
theorem dX3_hole_15 : decode cX3_hole 15 = .ok (.if_icmp .ge 39, 3) := dk_162 0 39 (dk_at dksX3_hole_0 15 rfl rfl)
theorem dX3_hole_18 : decode cX3_hole 18 = .ok (.aload_n 0, 1) := dk_42 (dk_at dksX3_hole_0 18 rfl rfl)
theorem dX3_hole_19 : decode cX3_hole 19 = .ok (.getfield 47, 3) := dk_180 0 47 (dk_at dksX3_hole_0 19 rfl rfl)
theorem dX3_hole_22 : decode cX3_hole 22 = .ok (.bipush 12, 2) := dk_16 12 (dk_at dksX3_hole_0 22 rfl rfl)
theorem dX3_hole_24 : decode cX3_hole 24 = .ok (.iload_n 1, 1) := dk_27 (dk_at dksX3_hole_1 0 rfl rfl)
theorem dX3_hole_25 : decode cX3_hole 25 = .ok (.imul, 1) := dk_104 (dk_at dksX3_hole_1 1 rfl rfl)
theorem dX3_hole_26 : decode cX3_hole 26 = .ok (.iload 4, 2) := dk_21 4 (dk_at dksX3_hole_1 2 rfl rfl)
theorem dX3_hole_28 : decode cX3_hole 28 = .ok (.iadd, 1) := dk_96 (dk_at dksX3_hole_1 4 rfl rfl)
theorem dX3_hole_29 : decode cX3_hole 29 = .ok (.iaload, 1) := dk_46 (dk_at dksX3_hole_1 5 rfl rfl)
theorem dX3_hole_30 : decode cX3_hole 30 = .ok (.iconst (-1), 1) := dk_2 (dk_at dksX3_hole_1 6 rfl rfl)
theorem dX3_hole_31 : decode cX3_hole 31 = .ok (.if_icmp .ne 9, 3) := dk_160 0 9 (dk_at dksX3_hole_1 7 rfl rfl)
theorem dX3_hole_34 : decode cX3_hole 34 = .ok (.iload_n 3, 1) := dk_29 (dk_at dksX3_hole_1 10 rfl rfl)
theorem dX3_hole_35 : decode cX3_hole 35 = .ok (.iconst 1, 1) := dk_4 (dk_at dksX3_hole_1 11 rfl rfl)
theorem dX3_hole_36 : decode cX3_hole 36 = .ok (.iadd, 1) := dk_96 (dk_at dksX3_hole_1 12 rfl rfl)
theorem dX3_hole_37 : decode cX3_hole 37 = .ok (.goto 4, 3) := dk_167 0 4 (dk_at dksX3_hole_1 13 rfl rfl)
theorem dX3_hole_40 : decode cX3_hole 40 = .ok (.iconst 0, 1) := dk_3 (dk_at dksX3_hole_1 16 rfl rfl)
theorem dX3_hole_41 : decode cX3_hole 41 = .ok (.istore_n 3, 1) := dk_62 (dk_at dksX3_hole_1 17 rfl rfl)
theorem dX3_hole_42 : decode cX3_hole 42 = .ok (.iload_n 2, 1) := dk_28 (dk_at dksX3_hole_1 18 rfl rfl)
theorem dX3_hole_43 : decode cX3_hole 43 = .ok (.iload_n 3, 1) := dk_29 (dk_at dksX3_hole_1 19 rfl rfl)
theorem dX3_hole_44 : decode cX3_hole 44 = .ok (.invokestatic 181, 3) := dk_184 0 181 (dk_at dksX3_hole_1 20 rfl rfl)
theorem dX3_hole_47 : decode cX3_hole 47 = .ok (.istore_n 2, 1) := dk_61 (dk_at dksX3_hole_1 23 rfl rfl)
theorem dX3_hole_48 : decode cX3_hole 48 = .ok (.iinc 4 1, 3) := dk_132 4 1 (dk_at dksX3_hole_2 0 rfl rfl)
theorem dX3_hole_51 : decode cX3_hole 51 = .ok (.goto (-44), 3) := dk_167 255 212 (dk_at dksX3_hole_2 3 rfl rfl)
theorem dX3_hole_54 : decode cX3_hole 54 = .ok (.iload_n 2, 1) := dk_28 (dk_at dksX3_hole_2 6 rfl rfl)
theorem dX3_hole_55 : decode cX3_hole 55 = .ok (.ireturn, 1) := dk_172 (dk_at dksX3_hole_2 7 rfl rfl)
def dkwX3_pairs_4 : List UInt8 := [96, 54, 5, 132, 7, 1, 167, 255, 202, 132, 6, 1, 167, 255, 186, 21, 5, 172]
abbrev dktX3_pairs_4 : List UInt8 := dkwX3_pairs_4 ++ []
def dkwX3_pairs_3 : List UInt8 := [153, 0, 23, 21, 6, 21, 7, 184, 1, 8, 28, 42, 180, 0, 240, 108, 163, 0, 7, 4, 167, 0, 4, 3]
abbrev dktX3_pairs_3 : List UInt8 := dkwX3_pairs_3 ++ dktX3_pairs_4
def dkwX3_pairs_2 : List UInt8 := [21, 7, 21, 6, 162, 0, 53, 21, 5, 33, 21, 6, 184, 0, 115, 153, 0, 32, 33, 21, 7, 184, 0, 115]
abbrev dktX3_pairs_2 : List UInt8 := dkwX3_pairs_2 ++ dktX3_pairs_3
def dkwX3_pairs_1 : List UInt8 := [2, 172, 42, 182, 1, 4, 66, 3, 54, 5, 3, 54, 6, 21, 6, 16, 32, 162, 0, 69, 3, 54, 7]
abbrev dktX3_pairs_1 : List UInt8 := dkwX3_pairs_1 ++ dktX3_pairs_2
def dkwX3_pairs_0 : List UInt8 := [42, 3, 181, 0, 111, 28, 3, 17, 3, 231, 184, 0, 123, 153, 0, 11, 42, 27, 182, 1, 14, 154, 0, 5]
abbrev dktX3_pairs_0 : List UInt8 := dkwX3_pairs_0 ++ dktX3_pairs_1
theorem dksX3_pairs_0 : cX3_pairs.data.toList.drop 0 = dktX3_pairs_0 := by decide +kernel
theorem dksX3_pairs_1 : cX3_pairs.data.toList.drop 24 = dktX3_pairs_1 := dk_seg dksX3_pairs_0 24 rfl rfl
theorem dksX3_pairs_2 : cX3_pairs.data.toList.drop 47 = dktX3_pairs_2 := dk_seg dksX3_pairs_1 23 rfl rfl
theorem dksX3_pairs_3 : cX3_pairs.data.toList.drop 71 = dktX3_pairs_3 := dk_seg dksX3_pairs_2 24 rfl rfl
theorem dksX3_pairs_4 : cX3_pairs.data.toList.drop 95 = dktX3_pairs_4 := dk_seg dksX3_pairs_3 24 rfl rfl
theorem dX3_pairs_0 : decode cX3_pairs 0 = .ok (.aload_n 0, 1) := dk_42 (dk_at dksX3_pairs_0 0 rfl rfl)
theorem dX3_pairs_1 : decode cX3_pairs 1 = .ok (.iconst 0, 1) := dk_3 (dk_at dksX3_pairs_0 1 rfl rfl)
theorem dX3_pairs_2 : decode cX3_pairs 2 = .ok (.putfield 111, 3) := dk_181 0 111 (dk_at dksX3_pairs_0 2 rfl rfl)
theorem dX3_pairs_5 : decode cX3_pairs 5 = .ok (.iload_n 2, 1) := dk_28 (dk_at dksX3_pairs_0 5 rfl rfl)
theorem dX3_pairs_6 : decode cX3_pairs 6 = .ok (.iconst 0, 1) := dk_3 (dk_at dksX3_pairs_0 6 rfl rfl)
theorem dX3_pairs_7 : decode cX3_pairs 7 = .ok (.sipush 999, 3) := dk_17 3 231 (dk_at dksX3_pairs_0 7 rfl rfl)
theorem dX3_pairs_10 : decode cX3_pairs 10 = .ok (.invokestatic 123, 3) := dk_184 0 123 (dk_at dksX3_pairs_0 10 rfl rfl)
theorem dX3_pairs_13 : decode cX3_pairs 13 = .ok (.ifCond .eq 11, 3) := dk_153 0 11 (dk_at dksX3_pairs_0 13 rfl rfl)
theorem dX3_pairs_16 : decode cX3_pairs 16 = .ok (.aload_n 0, 1) := dk_42 (dk_at dksX3_pairs_0 16 rfl rfl)
theorem dX3_pairs_17 : decode cX3_pairs 17 = .ok (.iload_n 1, 1) := dk_27 (dk_at dksX3_pairs_0 17 rfl rfl)
theorem dX3_pairs_18 : decode cX3_pairs 18 = .ok (.invokevirtual 270, 3) := dk_182 1 14 (dk_at dksX3_pairs_0 18 rfl rfl)
theorem dX3_pairs_21 : decode cX3_pairs 21 = .ok (.ifCond .ne 5, 3) := dk_154 0 5 (dk_at dksX3_pairs_0 21 rfl rfl)
theorem dX3_pairs_24 : decode cX3_pairs 24 = .ok (.iconst (-1), 1) := dk_2 (dk_at dksX3_pairs_1 0 rfl rfl)
theorem dX3_pairs_25 : decode cX3_pairs 25 = .ok (.ireturn, 1) := dk_172 (dk_at dksX3_pairs_1 1 rfl rfl)
theorem dX3_pairs_26 : decode cX3_pairs 26 = .ok (.aload_n 0, 1) := dk_42 (dk_at dksX3_pairs_1 2 rfl rfl)
theorem dX3_pairs_27 : decode cX3_pairs 27 = .ok (.invokevirtual 260, 3) := dk_182 1 4 (dk_at dksX3_pairs_1 3 rfl rfl)
theorem dX3_pairs_30 : decode cX3_pairs 30 = .ok (.lstore_n 3, 1) := dk_66 (dk_at dksX3_pairs_1 6 rfl rfl)
theorem dX3_pairs_31 : decode cX3_pairs 31 = .ok (.iconst 0, 1) := dk_3 (dk_at dksX3_pairs_1 7 rfl rfl)
theorem dX3_pairs_32 : decode cX3_pairs 32 = .ok (.istore 5, 2) := dk_54 5 (dk_at dksX3_pairs_1 8 rfl rfl)
theorem dX3_pairs_34 : decode cX3_pairs 34 = .ok (.iconst 0, 1) := dk_3 (dk_at dksX3_pairs_1 10 rfl rfl)
theorem dX3_pairs_35 : decode cX3_pairs 35 = .ok (.istore 6, 2) := dk_54 6 (dk_at dksX3_pairs_1 11 rfl rfl)
theorem dX3_pairs_37 : decode cX3_pairs 37 = .ok (.iload 6, 2) := dk_21 6 (dk_at dksX3_pairs_1 13 rfl rfl)
theorem dX3_pairs_39 : decode cX3_pairs 39 = .ok (.bipush 32, 2) := dk_16 32 (dk_at dksX3_pairs_1 15 rfl rfl)
theorem dX3_pairs_41 : decode cX3_pairs 41 = .ok (.if_icmp .ge 69, 3) := dk_162 0 69 (dk_at dksX3_pairs_1 17 rfl rfl)
theorem dX3_pairs_44 : decode cX3_pairs 44 = .ok (.iconst 0, 1) := dk_3 (dk_at dksX3_pairs_1 20 rfl rfl)
theorem dX3_pairs_45 : decode cX3_pairs 45 = .ok (.istore 7, 2) := dk_54 7 (dk_at dksX3_pairs_1 21 rfl rfl)
theorem dX3_pairs_47 : decode cX3_pairs 47 = .ok (.iload 7, 2) := dk_21 7 (dk_at dksX3_pairs_2 0 rfl rfl)
theorem dX3_pairs_49 : decode cX3_pairs 49 = .ok (.iload 6, 2) := dk_21 6 (dk_at dksX3_pairs_2 2 rfl rfl)
theorem dX3_pairs_51 : decode cX3_pairs 51 = .ok (.if_icmp .ge 53, 3) := dk_162 0 53 (dk_at dksX3_pairs_2 4 rfl rfl)
theorem dX3_pairs_54 : decode cX3_pairs 54 = .ok (.iload 5, 2) := dk_21 5 (dk_at dksX3_pairs_2 7 rfl rfl)
theorem dX3_pairs_56 : decode cX3_pairs 56 = .ok (.lload_n 3, 1) := dk_33 (dk_at dksX3_pairs_2 9 rfl rfl)
theorem dX3_pairs_57 : decode cX3_pairs 57 = .ok (.iload 6, 2) := dk_21 6 (dk_at dksX3_pairs_2 10 rfl rfl)
theorem dX3_pairs_59 : decode cX3_pairs 59 = .ok (.invokestatic 115, 3) := dk_184 0 115 (dk_at dksX3_pairs_2 12 rfl rfl)
theorem dX3_pairs_62 : decode cX3_pairs 62 = .ok (.ifCond .eq 32, 3) := dk_153 0 32 (dk_at dksX3_pairs_2 15 rfl rfl)
theorem dX3_pairs_65 : decode cX3_pairs 65 = .ok (.lload_n 3, 1) := dk_33 (dk_at dksX3_pairs_2 18 rfl rfl)
theorem dX3_pairs_66 : decode cX3_pairs 66 = .ok (.iload 7, 2) := dk_21 7 (dk_at dksX3_pairs_2 19 rfl rfl)
theorem dX3_pairs_68 : decode cX3_pairs 68 = .ok (.invokestatic 115, 3) := dk_184 0 115 (dk_at dksX3_pairs_2 21 rfl rfl)
theorem dX3_pairs_71 : decode cX3_pairs 71 = .ok (.ifCond .eq 23, 3) := dk_153 0 23 (dk_at dksX3_pairs_3 0 rfl rfl)
theorem dX3_pairs_74 : decode cX3_pairs 74 = .ok (.iload 6, 2) := dk_21 6 (dk_at dksX3_pairs_3 3 rfl rfl)
theorem dX3_pairs_76 : decode cX3_pairs 76 = .ok (.iload 7, 2) := dk_21 7 (dk_at dksX3_pairs_3 5 rfl rfl)
theorem dX3_pairs_78 : decode cX3_pairs 78 = .ok (.invokestatic 264, 3) := dk_184 1 8 (dk_at dksX3_pairs_3 7 rfl rfl)
theorem dX3_pairs_81 : decode cX3_pairs 81 = .ok (.iload_n 2, 1) := dk_28 (dk_at dksX3_pairs_3 10 rfl rfl)
theorem dX3_pairs_82 : decode cX3_pairs 82 = .ok (.aload_n 0, 1) := dk_42 (dk_at dksX3_pairs_3 11 rfl rfl)
theorem dX3_pairs_83 : decode cX3_pairs 83 = .ok (.getfield 240, 3) := dk_180 0 240 (dk_at dksX3_pairs_3 12 rfl rfl)
theorem dX3_pairs_86 : decode cX3_pairs 86 = .ok (.idiv, 1) := dk_108 (dk_at dksX3_pairs_3 15 rfl rfl)
theorem dX3_pairs_87 : decode cX3_pairs 87 = .ok (.if_icmp .gt 7, 3) := dk_163 0 7 (dk_at dksX3_pairs_3 16 rfl rfl)
theorem dX3_pairs_90 : decode cX3_pairs 90 = .ok (.iconst 1, 1) := dk_4 (dk_at dksX3_pairs_3 19 rfl rfl)
theorem dX3_pairs_91 : decode cX3_pairs 91 = .ok (.goto 4, 3) := dk_167 0 4 (dk_at dksX3_pairs_3 20 rfl rfl)
theorem dX3_pairs_94 : decode cX3_pairs 94 = .ok (.iconst 0, 1) := dk_3 (dk_at dksX3_pairs_3 23 rfl rfl)
theorem dX3_pairs_95 : decode cX3_pairs 95 = .ok (.iadd, 1) := dk_96 (dk_at dksX3_pairs_4 0 rfl rfl)
theorem dX3_pairs_96 : decode cX3_pairs 96 = .ok (.istore 5, 2) := dk_54 5 (dk_at dksX3_pairs_4 1 rfl rfl)
theorem dX3_pairs_98 : decode cX3_pairs 98 = .ok (.iinc 7 1, 3) := dk_132 7 1 (dk_at dksX3_pairs_4 3 rfl rfl)
theorem dX3_pairs_101 : decode cX3_pairs 101 = .ok (.goto (-54), 3) := dk_167 255 202 (dk_at dksX3_pairs_4 6 rfl rfl)
theorem dX3_pairs_104 : decode cX3_pairs 104 = .ok (.iinc 6 1, 3) := dk_132 6 1 (dk_at dksX3_pairs_4 9 rfl rfl)
theorem dX3_pairs_107 : decode cX3_pairs 107 = .ok (.goto (-70), 3) := dk_167 255 186 (dk_at dksX3_pairs_4 12 rfl rfl)
theorem dX3_pairs_110 : decode cX3_pairs 110 = .ok (.iload 5, 2) := dk_21 5 (dk_at dksX3_pairs_4 15 rfl rfl)
theorem dX3_pairs_112 : decode cX3_pairs 112 = .ok (.ireturn, 1) := dk_172 (dk_at dksX3_pairs_4 17 rfl rfl)
def dkwX3_tells_3 : List UInt8 := [167, 255, 207, 28, 172]
abbrev dktX3_tells_3 : List UInt8 := dkwX3_tells_3 ++ []
def dkwX3_tells_2 : List UInt8 := [162, 0, 19, 42, 42, 182, 1, 4, 29, 182, 1, 229, 153, 0, 7, 29, 167, 0, 4, 28, 61, 132, 3, 1]
abbrev dktX3_tells_2 : List UInt8 := dkwX3_tells_2 ++ dktX3_tells_3
def dkwX3_tells_1 : List UInt8 := [180, 0, 234, 120, 162, 0, 45, 28, 2, 159, 0, 16, 29, 133, 184, 0, 253, 28, 133, 184, 0, 253]
abbrev dktX3_tells_1 : List UInt8 := dkwX3_tells_1 ++ dktX3_tells_2
def dkwX3_tells_0 : List UInt8 := [42, 3, 181, 0, 111, 42, 27, 182, 1, 14, 154, 0, 5, 2, 172, 2, 61, 3, 62, 29, 4, 42]
abbrev dktX3_tells_0 : List UInt8 := dkwX3_tells_0 ++ dktX3_tells_1
theorem dksX3_tells_0 : cX3_tells.data.toList.drop 0 = dktX3_tells_0 := by decide +kernel
theorem dksX3_tells_1 : cX3_tells.data.toList.drop 22 = dktX3_tells_1 := dk_seg dksX3_tells_0 22 rfl rfl
theorem dksX3_tells_2 : cX3_tells.data.toList.drop 44 = dktX3_tells_2 := dk_seg dksX3_tells_1 22 rfl rfl
theorem dksX3_tells_3 : cX3_tells.data.toList.drop 68 = dktX3_tells_3 := dk_seg dksX3_tells_2 24 rfl rfl
theorem dX3_tells_0 : decode cX3_tells 0 = .ok (.aload_n 0, 1) := dk_42 (dk_at dksX3_tells_0 0 rfl rfl)
theorem dX3_tells_1 : decode cX3_tells 1 = .ok (.iconst 0, 1) := dk_3 (dk_at dksX3_tells_0 1 rfl rfl)
theorem dX3_tells_2 : decode cX3_tells 2 = .ok (.putfield 111, 3) := dk_181 0 111 (dk_at dksX3_tells_0 2 rfl rfl)
theorem dX3_tells_5 : decode cX3_tells 5 = .ok (.aload_n 0, 1) := dk_42 (dk_at dksX3_tells_0 5 rfl rfl)
theorem dX3_tells_6 : decode cX3_tells 6 = .ok (.iload_n 1, 1) := dk_27 (dk_at dksX3_tells_0 6 rfl rfl)
theorem dX3_tells_7 : decode cX3_tells 7 = .ok (.invokevirtual 270, 3) := dk_182 1 14 (dk_at dksX3_tells_0 7 rfl rfl)
theorem dX3_tells_10 : decode cX3_tells 10 = .ok (.ifCond .ne 5, 3) := dk_154 0 5 (dk_at dksX3_tells_0 10 rfl rfl)
theorem dX3_tells_13 : decode cX3_tells 13 = .ok (.iconst (-1), 1) := dk_2 (dk_at dksX3_tells_0 13 rfl rfl)
theorem dX3_tells_14 : decode cX3_tells 14 = .ok (.ireturn, 1) := dk_172 (dk_at dksX3_tells_0 14 rfl rfl)
theorem dX3_tells_15 : decode cX3_tells 15 = .ok (.iconst (-1), 1) := dk_2 (dk_at dksX3_tells_0 15 rfl rfl)
theorem dX3_tells_16 : decode cX3_tells 16 = .ok (.istore_n 2, 1) := dk_61 (dk_at dksX3_tells_0 16 rfl rfl)
theorem dX3_tells_17 : decode cX3_tells 17 = .ok (.iconst 0, 1) := dk_3 (dk_at dksX3_tells_0 17 rfl rfl)
theorem dX3_tells_18 : decode cX3_tells 18 = .ok (.istore_n 3, 1) := dk_62 (dk_at dksX3_tells_0 18 rfl rfl)
theorem dX3_tells_19 : decode cX3_tells 19 = .ok (.iload_n 3, 1) := dk_29 (dk_at dksX3_tells_0 19 rfl rfl)
theorem dX3_tells_20 : decode cX3_tells 20 = .ok (.iconst 1, 1) := dk_4 (dk_at dksX3_tells_0 20 rfl rfl)
theorem dX3_tells_21 : decode cX3_tells 21 = .ok (.aload_n 0, 1) := dk_42 (dk_at dksX3_tells_0 21 rfl rfl)
theorem dX3_tells_22 : decode cX3_tells 22 = .ok (.getfield 234, 3) := dk_180 0 234 (dk_at dksX3_tells_1 0 rfl rfl)
theorem dX3_tells_25 : decode cX3_tells 25 = .ok (.ishl, 1) := dk_120 (dk_at dksX3_tells_1 3 rfl rfl)
theorem dX3_tells_26 : decode cX3_tells 26 = .ok (.if_icmp .ge 45, 3) := dk_162 0 45 (dk_at dksX3_tells_1 4 rfl rfl)
theorem dX3_tells_29 : decode cX3_tells 29 = .ok (.iload_n 2, 1) := dk_28 (dk_at dksX3_tells_1 7 rfl rfl)
theorem dX3_tells_30 : decode cX3_tells 30 = .ok (.iconst (-1), 1) := dk_2 (dk_at dksX3_tells_1 8 rfl rfl)
theorem dX3_tells_31 : decode cX3_tells 31 = .ok (.if_icmp .eq 16, 3) := dk_159 0 16 (dk_at dksX3_tells_1 9 rfl rfl)
theorem dX3_tells_34 : decode cX3_tells 34 = .ok (.iload_n 3, 1) := dk_29 (dk_at dksX3_tells_1 12 rfl rfl)
theorem dX3_tells_35 : decode cX3_tells 35 = .ok (.i2l, 1) := dk_133 (dk_at dksX3_tells_1 13 rfl rfl)
theorem dX3_tells_36 : decode cX3_tells 36 = .ok (.invokestatic 253, 3) := dk_184 0 253 (dk_at dksX3_tells_1 14 rfl rfl)
theorem dX3_tells_39 : decode cX3_tells 39 = .ok (.iload_n 2, 1) := dk_28 (dk_at dksX3_tells_1 17 rfl rfl)
theorem dX3_tells_40 : decode cX3_tells 40 = .ok (.i2l, 1) := dk_133 (dk_at dksX3_tells_1 18 rfl rfl)
theorem dX3_tells_41 : decode cX3_tells 41 = .ok (.invokestatic 253, 3) := dk_184 0 253 (dk_at dksX3_tells_1 19 rfl rfl)
theorem dX3_tells_44 : decode cX3_tells 44 = .ok (.if_icmp .ge 19, 3) := dk_162 0 19 (dk_at dksX3_tells_2 0 rfl rfl)
theorem dX3_tells_47 : decode cX3_tells 47 = .ok (.aload_n 0, 1) := dk_42 (dk_at dksX3_tells_2 3 rfl rfl)
theorem dX3_tells_48 : decode cX3_tells 48 = .ok (.aload_n 0, 1) := dk_42 (dk_at dksX3_tells_2 4 rfl rfl)
theorem dX3_tells_49 : decode cX3_tells 49 = .ok (.invokevirtual 260, 3) := dk_182 1 4 (dk_at dksX3_tells_2 5 rfl rfl)
theorem dX3_tells_52 : decode cX3_tells 52 = .ok (.iload_n 3, 1) := dk_29 (dk_at dksX3_tells_2 8 rfl rfl)
theorem dX3_tells_53 : decode cX3_tells 53 = .ok (.invokevirtual 485, 3) := dk_182 1 229 (dk_at dksX3_tells_2 9 rfl rfl)
theorem dX3_tells_56 : decode cX3_tells 56 = .ok (.ifCond .eq 7, 3) := dk_153 0 7 (dk_at dksX3_tells_2 12 rfl rfl)
theorem dX3_tells_59 : decode cX3_tells 59 = .ok (.iload_n 3, 1) := dk_29 (dk_at dksX3_tells_2 15 rfl rfl)
theorem dX3_tells_60 : decode cX3_tells 60 = .ok (.goto 4, 3) := dk_167 0 4 (dk_at dksX3_tells_2 16 rfl rfl)
theorem dX3_tells_63 : decode cX3_tells 63 = .ok (.iload_n 2, 1) := dk_28 (dk_at dksX3_tells_2 19 rfl rfl)
theorem dX3_tells_64 : decode cX3_tells 64 = .ok (.istore_n 2, 1) := dk_61 (dk_at dksX3_tells_2 20 rfl rfl)
theorem dX3_tells_65 : decode cX3_tells 65 = .ok (.iinc 3 1, 3) := dk_132 3 1 (dk_at dksX3_tells_2 21 rfl rfl)
theorem dX3_tells_68 : decode cX3_tells 68 = .ok (.goto (-49), 3) := dk_167 255 207 (dk_at dksX3_tells_3 0 rfl rfl)
theorem dX3_tells_71 : decode cX3_tells 71 = .ok (.iload_n 2, 1) := dk_28 (dk_at dksX3_tells_3 3 rfl rfl)
theorem dX3_tells_72 : decode cX3_tells 72 = .ok (.ireturn, 1) := dk_172 (dk_at dksX3_tells_3 4 rfl rfl)
def dkwX3_tellBy_2 : List UInt8 := [154, 0, 5, 3, 172, 132, 5, 1, 167, 255, 216, 132, 4, 1, 167, 255, 200, 4, 172]
abbrev dktX3_tellBy_2 : List UInt8 := dkwX3_tellBy_2 ++ []
def dkwX3_tellBy_1 : List UInt8 := [184, 0, 115, 153, 0, 24, 31, 21, 5, 184, 0, 115, 153, 0, 15, 21, 4, 21, 5, 130, 29, 126]
abbrev dktX3_tellBy_1 : List UInt8 := dkwX3_tellBy_1 ++ dktX3_tellBy_2
def dkwX3_tellBy_0 : List UInt8 := [3, 54, 4, 21, 4, 16, 32, 162, 0, 55, 3, 54, 5, 21, 5, 21, 4, 162, 0, 39, 31, 21, 4]
abbrev dktX3_tellBy_0 : List UInt8 := dkwX3_tellBy_0 ++ dktX3_tellBy_1
theorem dksX3_tellBy_0 : cX3_tellBy.data.toList.drop 0 = dktX3_tellBy_0 := by decide +kernel
theorem dksX3_tellBy_1 : cX3_tellBy.data.toList.drop 23 = dktX3_tellBy_1 := dk_seg dksX3_tellBy_0 23 rfl rfl
theorem dksX3_tellBy_2 : cX3_tellBy.data.toList.drop 45 = dktX3_tellBy_2 := dk_seg dksX3_tellBy_1 22 rfl rfl
theorem dX3_tellBy_0 : decode cX3_tellBy 0 = .ok (.iconst 0, 1) := dk_3 (dk_at dksX3_tellBy_0 0 rfl rfl)
theorem dX3_tellBy_1 : decode cX3_tellBy 1 = .ok (.istore 4, 2) := dk_54 4 (dk_at dksX3_tellBy_0 1 rfl rfl)
theorem dX3_tellBy_3 : decode cX3_tellBy 3 = .ok (.iload 4, 2) := dk_21 4 (dk_at dksX3_tellBy_0 3 rfl rfl)
theorem dX3_tellBy_5 : decode cX3_tellBy 5 = .ok (.bipush 32, 2) := dk_16 32 (dk_at dksX3_tellBy_0 5 rfl rfl)
theorem dX3_tellBy_7 : decode cX3_tellBy 7 = .ok (.if_icmp .ge 55, 3) := dk_162 0 55 (dk_at dksX3_tellBy_0 7 rfl rfl)
theorem dX3_tellBy_10 : decode cX3_tellBy 10 = .ok (.iconst 0, 1) := dk_3 (dk_at dksX3_tellBy_0 10 rfl rfl)
theorem dX3_tellBy_11 : decode cX3_tellBy 11 = .ok (.istore 5, 2) := dk_54 5 (dk_at dksX3_tellBy_0 11 rfl rfl)
theorem dX3_tellBy_13 : decode cX3_tellBy 13 = .ok (.iload 5, 2) := dk_21 5 (dk_at dksX3_tellBy_0 13 rfl rfl)
theorem dX3_tellBy_15 : decode cX3_tellBy 15 = .ok (.iload 4, 2) := dk_21 4 (dk_at dksX3_tellBy_0 15 rfl rfl)
theorem dX3_tellBy_17 : decode cX3_tellBy 17 = .ok (.if_icmp .ge 39, 3) := dk_162 0 39 (dk_at dksX3_tellBy_0 17 rfl rfl)
theorem dX3_tellBy_20 : decode cX3_tellBy 20 = .ok (.lload_n 1, 1) := dk_31 (dk_at dksX3_tellBy_0 20 rfl rfl)
theorem dX3_tellBy_21 : decode cX3_tellBy 21 = .ok (.iload 4, 2) := dk_21 4 (dk_at dksX3_tellBy_0 21 rfl rfl)
theorem dX3_tellBy_23 : decode cX3_tellBy 23 = .ok (.invokestatic 115, 3) := dk_184 0 115 (dk_at dksX3_tellBy_1 0 rfl rfl)
theorem dX3_tellBy_26 : decode cX3_tellBy 26 = .ok (.ifCond .eq 24, 3) := dk_153 0 24 (dk_at dksX3_tellBy_1 3 rfl rfl)
theorem dX3_tellBy_29 : decode cX3_tellBy 29 = .ok (.lload_n 1, 1) := dk_31 (dk_at dksX3_tellBy_1 6 rfl rfl)
theorem dX3_tellBy_30 : decode cX3_tellBy 30 = .ok (.iload 5, 2) := dk_21 5 (dk_at dksX3_tellBy_1 7 rfl rfl)
theorem dX3_tellBy_32 : decode cX3_tellBy 32 = .ok (.invokestatic 115, 3) := dk_184 0 115 (dk_at dksX3_tellBy_1 9 rfl rfl)
theorem dX3_tellBy_35 : decode cX3_tellBy 35 = .ok (.ifCond .eq 15, 3) := dk_153 0 15 (dk_at dksX3_tellBy_1 12 rfl rfl)
theorem dX3_tellBy_38 : decode cX3_tellBy 38 = .ok (.iload 4, 2) := dk_21 4 (dk_at dksX3_tellBy_1 15 rfl rfl)
theorem dX3_tellBy_40 : decode cX3_tellBy 40 = .ok (.iload 5, 2) := dk_21 5 (dk_at dksX3_tellBy_1 17 rfl rfl)
theorem dX3_tellBy_42 : decode cX3_tellBy 42 = .ok (.ixor, 1) := dk_130 (dk_at dksX3_tellBy_1 19 rfl rfl)
theorem dX3_tellBy_43 : decode cX3_tellBy 43 = .ok (.iload_n 3, 1) := dk_29 (dk_at dksX3_tellBy_1 20 rfl rfl)
theorem dX3_tellBy_44 : decode cX3_tellBy 44 = .ok (.iand, 1) := dk_126 (dk_at dksX3_tellBy_1 21 rfl rfl)
theorem dX3_tellBy_45 : decode cX3_tellBy 45 = .ok (.ifCond .ne 5, 3) := dk_154 0 5 (dk_at dksX3_tellBy_2 0 rfl rfl)
theorem dX3_tellBy_48 : decode cX3_tellBy 48 = .ok (.iconst 0, 1) := dk_3 (dk_at dksX3_tellBy_2 3 rfl rfl)
theorem dX3_tellBy_49 : decode cX3_tellBy 49 = .ok (.ireturn, 1) := dk_172 (dk_at dksX3_tellBy_2 4 rfl rfl)
theorem dX3_tellBy_50 : decode cX3_tellBy 50 = .ok (.iinc 5 1, 3) := dk_132 5 1 (dk_at dksX3_tellBy_2 5 rfl rfl)
theorem dX3_tellBy_53 : decode cX3_tellBy 53 = .ok (.goto (-40), 3) := dk_167 255 216 (dk_at dksX3_tellBy_2 8 rfl rfl)
theorem dX3_tellBy_56 : decode cX3_tellBy 56 = .ok (.iinc 4 1, 3) := dk_132 4 1 (dk_at dksX3_tellBy_2 11 rfl rfl)
theorem dX3_tellBy_59 : decode cX3_tellBy 59 = .ok (.goto (-56), 3) := dk_167 255 200 (dk_at dksX3_tellBy_2 14 rfl rfl)
theorem dX3_tellBy_62 : decode cX3_tellBy 62 = .ok (.iconst 1, 1) := dk_4 (dk_at dksX3_tellBy_2 17 rfl rfl)
theorem dX3_tellBy_63 : decode cX3_tellBy 63 = .ok (.ireturn, 1) := dk_172 (dk_at dksX3_tellBy_2 18 rfl rfl)
def dkwX3_nearest_6 : List UInt8 := [160, 0, 11, 21, 4, 16, 12, 112, 167, 0, 5, 21, 5, 172]
abbrev dktX3_nearest_6 : List UInt8 := dkwX3_nearest_6 ++ []
def dkwX3_nearest_5 : List UInt8 := [21, 4, 2, 160, 0, 7, 2, 167, 0, 30, 29, 154, 0, 11, 21, 4, 16, 12, 108, 167, 0, 18, 29, 4]
abbrev dktX3_nearest_5 : List UInt8 := dkwX3_nearest_5 ++ dktX3_nearest_6
def dkwX3_nearest_4 : List UInt8 := [54, 4, 21, 7, 21, 5, 162, 0, 8, 21, 7, 167, 0, 5, 21, 5, 54, 5, 132, 6, 1, 167, 255, 184]
abbrev dktX3_nearest_4 : List UInt8 := dkwX3_nearest_4 ++ dktX3_nearest_5
def dkwX3_nearest_3 : List UInt8 := [21, 6, 46, 28, 184, 1, 8, 54, 7, 21, 7, 21, 5, 162, 0, 8, 21, 6, 167, 0, 5, 21, 4]
abbrev dktX3_nearest_3 : List UInt8 := dkwX3_nearest_3 ++ dktX3_nearest_4
def dkwX3_nearest_2 : List UInt8 := [162, 0, 71, 42, 180, 0, 47, 21, 6, 46, 2, 160, 0, 9, 19, 1, 202, 167, 0, 14, 42, 180, 0, 47]
abbrev dktX3_nearest_2 : List UInt8 := dkwX3_nearest_2 ++ dktX3_nearest_3
def dkwX3_nearest_1 : List UInt8 := [184, 0, 123, 154, 0, 5, 2, 172, 2, 54, 4, 19, 1, 202, 54, 5, 3, 54, 6, 21, 6, 16, 48]
abbrev dktX3_nearest_1 : List UInt8 := dkwX3_nearest_1 ++ dktX3_nearest_2
def dkwX3_nearest_0 : List UInt8 := [42, 3, 181, 0, 111, 42, 27, 182, 1, 14, 153, 0, 20, 42, 28, 182, 1, 92, 153, 0, 12, 29, 3, 5]
abbrev dktX3_nearest_0 : List UInt8 := dkwX3_nearest_0 ++ dktX3_nearest_1
theorem dksX3_nearest_0 : cX3_nearest.data.toList.drop 0 = dktX3_nearest_0 := by decide +kernel
theorem dksX3_nearest_1 : cX3_nearest.data.toList.drop 24 = dktX3_nearest_1 := dk_seg dksX3_nearest_0 24 rfl rfl
theorem dksX3_nearest_2 : cX3_nearest.data.toList.drop 47 = dktX3_nearest_2 := dk_seg dksX3_nearest_1 23 rfl rfl
theorem dksX3_nearest_3 : cX3_nearest.data.toList.drop 71 = dktX3_nearest_3 := dk_seg dksX3_nearest_2 24 rfl rfl
theorem dksX3_nearest_4 : cX3_nearest.data.toList.drop 94 = dktX3_nearest_4 := dk_seg dksX3_nearest_3 23 rfl rfl
theorem dksX3_nearest_5 : cX3_nearest.data.toList.drop 118 = dktX3_nearest_5 := dk_seg dksX3_nearest_4 24 rfl rfl
theorem dksX3_nearest_6 : cX3_nearest.data.toList.drop 142 = dktX3_nearest_6 := dk_seg dksX3_nearest_5 24 rfl rfl
theorem dX3_nearest_0 : decode cX3_nearest 0 = .ok (.aload_n 0, 1) := dk_42 (dk_at dksX3_nearest_0 0 rfl rfl)
theorem dX3_nearest_1 : decode cX3_nearest 1 = .ok (.iconst 0, 1) := dk_3 (dk_at dksX3_nearest_0 1 rfl rfl)
theorem dX3_nearest_2 : decode cX3_nearest 2 = .ok (.putfield 111, 3) := dk_181 0 111 (dk_at dksX3_nearest_0 2 rfl rfl)
theorem dX3_nearest_5 : decode cX3_nearest 5 = .ok (.aload_n 0, 1) := dk_42 (dk_at dksX3_nearest_0 5 rfl rfl)
theorem dX3_nearest_6 : decode cX3_nearest 6 = .ok (.iload_n 1, 1) := dk_27 (dk_at dksX3_nearest_0 6 rfl rfl)
theorem dX3_nearest_7 : decode cX3_nearest 7 = .ok (.invokevirtual 270, 3) := dk_182 1 14 (dk_at dksX3_nearest_0 7 rfl rfl)
theorem dX3_nearest_10 : decode cX3_nearest 10 = .ok (.ifCond .eq 20, 3) := dk_153 0 20 (dk_at dksX3_nearest_0 10 rfl rfl)
theorem dX3_nearest_13 : decode cX3_nearest 13 = .ok (.aload_n 0, 1) := dk_42 (dk_at dksX3_nearest_0 13 rfl rfl)
theorem dX3_nearest_14 : decode cX3_nearest 14 = .ok (.iload_n 2, 1) := dk_28 (dk_at dksX3_nearest_0 14 rfl rfl)
theorem dX3_nearest_15 : decode cX3_nearest 15 = .ok (.invokevirtual 348, 3) := dk_182 1 92 (dk_at dksX3_nearest_0 15 rfl rfl)
theorem dX3_nearest_18 : decode cX3_nearest 18 = .ok (.ifCond .eq 12, 3) := dk_153 0 12 (dk_at dksX3_nearest_0 18 rfl rfl)
theorem dX3_nearest_21 : decode cX3_nearest 21 = .ok (.iload_n 3, 1) := dk_29 (dk_at dksX3_nearest_0 21 rfl rfl)
theorem dX3_nearest_22 : decode cX3_nearest 22 = .ok (.iconst 0, 1) := dk_3 (dk_at dksX3_nearest_0 22 rfl rfl)
theorem dX3_nearest_23 : decode cX3_nearest 23 = .ok (.iconst 2, 1) := dk_5 (dk_at dksX3_nearest_0 23 rfl rfl)
theorem dX3_nearest_24 : decode cX3_nearest 24 = .ok (.invokestatic 123, 3) := dk_184 0 123 (dk_at dksX3_nearest_1 0 rfl rfl)
theorem dX3_nearest_27 : decode cX3_nearest 27 = .ok (.ifCond .ne 5, 3) := dk_154 0 5 (dk_at dksX3_nearest_1 3 rfl rfl)
theorem dX3_nearest_30 : decode cX3_nearest 30 = .ok (.iconst (-1), 1) := dk_2 (dk_at dksX3_nearest_1 6 rfl rfl)
theorem dX3_nearest_31 : decode cX3_nearest 31 = .ok (.ireturn, 1) := dk_172 (dk_at dksX3_nearest_1 7 rfl rfl)
theorem dX3_nearest_32 : decode cX3_nearest 32 = .ok (.iconst (-1), 1) := dk_2 (dk_at dksX3_nearest_1 8 rfl rfl)
theorem dX3_nearest_33 : decode cX3_nearest 33 = .ok (.istore 4, 2) := dk_54 4 (dk_at dksX3_nearest_1 9 rfl rfl)
theorem dX3_nearest_35 : decode cX3_nearest 35 = .ok (.ldc_w 458, 3) := dk_19 1 202 (dk_at dksX3_nearest_1 11 rfl rfl)
theorem dX3_nearest_38 : decode cX3_nearest 38 = .ok (.istore 5, 2) := dk_54 5 (dk_at dksX3_nearest_1 14 rfl rfl)
theorem dX3_nearest_40 : decode cX3_nearest 40 = .ok (.iconst 0, 1) := dk_3 (dk_at dksX3_nearest_1 16 rfl rfl)
theorem dX3_nearest_41 : decode cX3_nearest 41 = .ok (.istore 6, 2) := dk_54 6 (dk_at dksX3_nearest_1 17 rfl rfl)
theorem dX3_nearest_43 : decode cX3_nearest 43 = .ok (.iload 6, 2) := dk_21 6 (dk_at dksX3_nearest_1 19 rfl rfl)
theorem dX3_nearest_45 : decode cX3_nearest 45 = .ok (.bipush 48, 2) := dk_16 48 (dk_at dksX3_nearest_1 21 rfl rfl)
theorem dX3_nearest_47 : decode cX3_nearest 47 = .ok (.if_icmp .ge 71, 3) := dk_162 0 71 (dk_at dksX3_nearest_2 0 rfl rfl)
theorem dX3_nearest_50 : decode cX3_nearest 50 = .ok (.aload_n 0, 1) := dk_42 (dk_at dksX3_nearest_2 3 rfl rfl)
theorem dX3_nearest_51 : decode cX3_nearest 51 = .ok (.getfield 47, 3) := dk_180 0 47 (dk_at dksX3_nearest_2 4 rfl rfl)
theorem dX3_nearest_54 : decode cX3_nearest 54 = .ok (.iload 6, 2) := dk_21 6 (dk_at dksX3_nearest_2 7 rfl rfl)
theorem dX3_nearest_56 : decode cX3_nearest 56 = .ok (.iaload, 1) := dk_46 (dk_at dksX3_nearest_2 9 rfl rfl)
theorem dX3_nearest_57 : decode cX3_nearest 57 = .ok (.iconst (-1), 1) := dk_2 (dk_at dksX3_nearest_2 10 rfl rfl)
theorem dX3_nearest_58 : decode cX3_nearest 58 = .ok (.if_icmp .ne 9, 3) := dk_160 0 9 (dk_at dksX3_nearest_2 11 rfl rfl)
theorem dX3_nearest_61 : decode cX3_nearest 61 = .ok (.ldc_w 458, 3) := dk_19 1 202 (dk_at dksX3_nearest_2 14 rfl rfl)
theorem dX3_nearest_64 : decode cX3_nearest 64 = .ok (.goto 14, 3) := dk_167 0 14 (dk_at dksX3_nearest_2 17 rfl rfl)
theorem dX3_nearest_67 : decode cX3_nearest 67 = .ok (.aload_n 0, 1) := dk_42 (dk_at dksX3_nearest_2 20 rfl rfl)
theorem dX3_nearest_68 : decode cX3_nearest 68 = .ok (.getfield 47, 3) := dk_180 0 47 (dk_at dksX3_nearest_2 21 rfl rfl)
theorem dX3_nearest_71 : decode cX3_nearest 71 = .ok (.iload 6, 2) := dk_21 6 (dk_at dksX3_nearest_3 0 rfl rfl)
theorem dX3_nearest_73 : decode cX3_nearest 73 = .ok (.iaload, 1) := dk_46 (dk_at dksX3_nearest_3 2 rfl rfl)
theorem dX3_nearest_74 : decode cX3_nearest 74 = .ok (.iload_n 2, 1) := dk_28 (dk_at dksX3_nearest_3 3 rfl rfl)
theorem dX3_nearest_75 : decode cX3_nearest 75 = .ok (.invokestatic 264, 3) := dk_184 1 8 (dk_at dksX3_nearest_3 4 rfl rfl)
theorem dX3_nearest_78 : decode cX3_nearest 78 = .ok (.istore 7, 2) := dk_54 7 (dk_at dksX3_nearest_3 7 rfl rfl)
theorem dX3_nearest_80 : decode cX3_nearest 80 = .ok (.iload 7, 2) := dk_21 7 (dk_at dksX3_nearest_3 9 rfl rfl)
theorem dX3_nearest_82 : decode cX3_nearest 82 = .ok (.iload 5, 2) := dk_21 5 (dk_at dksX3_nearest_3 11 rfl rfl)
theorem dX3_nearest_84 : decode cX3_nearest 84 = .ok (.if_icmp .ge 8, 3) := dk_162 0 8 (dk_at dksX3_nearest_3 13 rfl rfl)
theorem dX3_nearest_87 : decode cX3_nearest 87 = .ok (.iload 6, 2) := dk_21 6 (dk_at dksX3_nearest_3 16 rfl rfl)
theorem dX3_nearest_89 : decode cX3_nearest 89 = .ok (.goto 5, 3) := dk_167 0 5 (dk_at dksX3_nearest_3 18 rfl rfl)
theorem dX3_nearest_92 : decode cX3_nearest 92 = .ok (.iload 4, 2) := dk_21 4 (dk_at dksX3_nearest_3 21 rfl rfl)
theorem dX3_nearest_94 : decode cX3_nearest 94 = .ok (.istore 4, 2) := dk_54 4 (dk_at dksX3_nearest_4 0 rfl rfl)
theorem dX3_nearest_96 : decode cX3_nearest 96 = .ok (.iload 7, 2) := dk_21 7 (dk_at dksX3_nearest_4 2 rfl rfl)
theorem dX3_nearest_98 : decode cX3_nearest 98 = .ok (.iload 5, 2) := dk_21 5 (dk_at dksX3_nearest_4 4 rfl rfl)
theorem dX3_nearest_100 : decode cX3_nearest 100 = .ok (.if_icmp .ge 8, 3) := dk_162 0 8 (dk_at dksX3_nearest_4 6 rfl rfl)
theorem dX3_nearest_103 : decode cX3_nearest 103 = .ok (.iload 7, 2) := dk_21 7 (dk_at dksX3_nearest_4 9 rfl rfl)
theorem dX3_nearest_105 : decode cX3_nearest 105 = .ok (.goto 5, 3) := dk_167 0 5 (dk_at dksX3_nearest_4 11 rfl rfl)
theorem dX3_nearest_108 : decode cX3_nearest 108 = .ok (.iload 5, 2) := dk_21 5 (dk_at dksX3_nearest_4 14 rfl rfl)
theorem dX3_nearest_110 : decode cX3_nearest 110 = .ok (.istore 5, 2) := dk_54 5 (dk_at dksX3_nearest_4 16 rfl rfl)
theorem dX3_nearest_112 : decode cX3_nearest 112 = .ok (.iinc 6 1, 3) := dk_132 6 1 (dk_at dksX3_nearest_4 18 rfl rfl)
theorem dX3_nearest_115 : decode cX3_nearest 115 = .ok (.goto (-72), 3) := dk_167 255 184 (dk_at dksX3_nearest_4 21 rfl rfl)
theorem dX3_nearest_118 : decode cX3_nearest 118 = .ok (.iload 4, 2) := dk_21 4 (dk_at dksX3_nearest_5 0 rfl rfl)
theorem dX3_nearest_120 : decode cX3_nearest 120 = .ok (.iconst (-1), 1) := dk_2 (dk_at dksX3_nearest_5 2 rfl rfl)
theorem dX3_nearest_121 : decode cX3_nearest 121 = .ok (.if_icmp .ne 7, 3) := dk_160 0 7 (dk_at dksX3_nearest_5 3 rfl rfl)
theorem dX3_nearest_124 : decode cX3_nearest 124 = .ok (.iconst (-1), 1) := dk_2 (dk_at dksX3_nearest_5 6 rfl rfl)
theorem dX3_nearest_125 : decode cX3_nearest 125 = .ok (.goto 30, 3) := dk_167 0 30 (dk_at dksX3_nearest_5 7 rfl rfl)
theorem dX3_nearest_128 : decode cX3_nearest 128 = .ok (.iload_n 3, 1) := dk_29 (dk_at dksX3_nearest_5 10 rfl rfl)
theorem dX3_nearest_129 : decode cX3_nearest 129 = .ok (.ifCond .ne 11, 3) := dk_154 0 11 (dk_at dksX3_nearest_5 11 rfl rfl)
theorem dX3_nearest_132 : decode cX3_nearest 132 = .ok (.iload 4, 2) := dk_21 4 (dk_at dksX3_nearest_5 14 rfl rfl)
theorem dX3_nearest_134 : decode cX3_nearest 134 = .ok (.bipush 12, 2) := dk_16 12 (dk_at dksX3_nearest_5 16 rfl rfl)
theorem dX3_nearest_136 : decode cX3_nearest 136 = .ok (.idiv, 1) := dk_108 (dk_at dksX3_nearest_5 18 rfl rfl)
theorem dX3_nearest_137 : decode cX3_nearest 137 = .ok (.goto 18, 3) := dk_167 0 18 (dk_at dksX3_nearest_5 19 rfl rfl)
theorem dX3_nearest_140 : decode cX3_nearest 140 = .ok (.iload_n 3, 1) := dk_29 (dk_at dksX3_nearest_5 22 rfl rfl)
theorem dX3_nearest_141 : decode cX3_nearest 141 = .ok (.iconst 1, 1) := dk_4 (dk_at dksX3_nearest_5 23 rfl rfl)
theorem dX3_nearest_142 : decode cX3_nearest 142 = .ok (.if_icmp .ne 11, 3) := dk_160 0 11 (dk_at dksX3_nearest_6 0 rfl rfl)
theorem dX3_nearest_145 : decode cX3_nearest 145 = .ok (.iload 4, 2) := dk_21 4 (dk_at dksX3_nearest_6 3 rfl rfl)
theorem dX3_nearest_147 : decode cX3_nearest 147 = .ok (.bipush 12, 2) := dk_16 12 (dk_at dksX3_nearest_6 5 rfl rfl)
theorem dX3_nearest_149 : decode cX3_nearest 149 = .ok (.irem, 1) := dk_112 (dk_at dksX3_nearest_6 7 rfl rfl)
theorem dX3_nearest_150 : decode cX3_nearest 150 = .ok (.goto 5, 3) := dk_167 0 5 (dk_at dksX3_nearest_6 8 rfl rfl)
theorem dX3_nearest_153 : decode cX3_nearest 153 = .ok (.iload 5, 2) := dk_21 5 (dk_at dksX3_nearest_6 11 rfl rfl)
theorem dX3_nearest_155 : decode cX3_nearest 155 = .ok (.ireturn, 1) := dk_172 (dk_at dksX3_nearest_6 13 rfl rfl)
def dkwX3_swaps_6 : List UInt8 := [167, 0, 5, 21, 6, 100, 172]
abbrev dktX3_swaps_6 : List UInt8 := dkwX3_swaps_6 ++ []
def dkwX3_swaps_5 : List UInt8 := [54, 7, 21, 4, 42, 28, 3, 21, 5, 4, 100, 182, 1, 232, 100, 21, 7, 21, 6, 162, 0, 8, 21, 7]
abbrev dktX3_swaps_5 : List UInt8 := dkwX3_swaps_5 ++ dktX3_swaps_6
def dkwX3_swaps_4 : List UInt8 := [100, 42, 29, 3, 21, 5, 4, 100, 182, 1, 232, 100, 54, 6, 42, 28, 21, 5, 21, 5, 182, 1, 232]
abbrev dktX3_swaps_4 : List UInt8 := dkwX3_swaps_4 ++ dktX3_swaps_5
def dkwX3_swaps_3 : List UInt8 := [96, 21, 4, 162, 0, 9, 132, 5, 1, 167, 255, 231, 21, 4, 42, 28, 3, 21, 5, 4, 100, 182, 1, 232]
abbrev dktX3_swaps_3 : List UInt8 := dkwX3_swaps_3 ++ dktX3_swaps_4
def dkwX3_swaps_2 : List UInt8 := [154, 0, 5, 3, 172, 3, 54, 5, 42, 28, 3, 21, 5, 182, 1, 232, 42, 29, 3, 21, 5, 182, 1, 232]
abbrev dktX3_swaps_2 : List UInt8 := dkwX3_swaps_2 ++ dktX3_swaps_3
def dkwX3_swaps_1 : List UInt8 := [182, 0, 246, 153, 0, 8, 28, 29, 160, 0, 5, 2, 172, 42, 28, 182, 0, 249, 54, 4, 21, 4]
abbrev dktX3_swaps_1 : List UInt8 := dkwX3_swaps_1 ++ dktX3_swaps_2
def dkwX3_swaps_0 : List UInt8 := [42, 3, 181, 0, 111, 42, 27, 182, 1, 14, 153, 0, 24, 42, 28, 182, 0, 246, 153, 0, 16, 42, 29]
abbrev dktX3_swaps_0 : List UInt8 := dkwX3_swaps_0 ++ dktX3_swaps_1
theorem dksX3_swaps_0 : cX3_swaps.data.toList.drop 0 = dktX3_swaps_0 := by decide +kernel
theorem dksX3_swaps_1 : cX3_swaps.data.toList.drop 23 = dktX3_swaps_1 := dk_seg dksX3_swaps_0 23 rfl rfl
theorem dksX3_swaps_2 : cX3_swaps.data.toList.drop 45 = dktX3_swaps_2 := dk_seg dksX3_swaps_1 22 rfl rfl
theorem dksX3_swaps_3 : cX3_swaps.data.toList.drop 69 = dktX3_swaps_3 := dk_seg dksX3_swaps_2 24 rfl rfl
theorem dksX3_swaps_4 : cX3_swaps.data.toList.drop 93 = dktX3_swaps_4 := dk_seg dksX3_swaps_3 24 rfl rfl
theorem dksX3_swaps_5 : cX3_swaps.data.toList.drop 116 = dktX3_swaps_5 := dk_seg dksX3_swaps_4 23 rfl rfl
theorem dksX3_swaps_6 : cX3_swaps.data.toList.drop 140 = dktX3_swaps_6 := dk_seg dksX3_swaps_5 24 rfl rfl
theorem dX3_swaps_0 : decode cX3_swaps 0 = .ok (.aload_n 0, 1) := dk_42 (dk_at dksX3_swaps_0 0 rfl rfl)
theorem dX3_swaps_1 : decode cX3_swaps 1 = .ok (.iconst 0, 1) := dk_3 (dk_at dksX3_swaps_0 1 rfl rfl)
theorem dX3_swaps_2 : decode cX3_swaps 2 = .ok (.putfield 111, 3) := dk_181 0 111 (dk_at dksX3_swaps_0 2 rfl rfl)
theorem dX3_swaps_5 : decode cX3_swaps 5 = .ok (.aload_n 0, 1) := dk_42 (dk_at dksX3_swaps_0 5 rfl rfl)
theorem dX3_swaps_6 : decode cX3_swaps 6 = .ok (.iload_n 1, 1) := dk_27 (dk_at dksX3_swaps_0 6 rfl rfl)
theorem dX3_swaps_7 : decode cX3_swaps 7 = .ok (.invokevirtual 270, 3) := dk_182 1 14 (dk_at dksX3_swaps_0 7 rfl rfl)
theorem dX3_swaps_10 : decode cX3_swaps 10 = .ok (.ifCond .eq 24, 3) := dk_153 0 24 (dk_at dksX3_swaps_0 10 rfl rfl)
theorem dX3_swaps_13 : decode cX3_swaps 13 = .ok (.aload_n 0, 1) := dk_42 (dk_at dksX3_swaps_0 13 rfl rfl)
theorem dX3_swaps_14 : decode cX3_swaps 14 = .ok (.iload_n 2, 1) := dk_28 (dk_at dksX3_swaps_0 14 rfl rfl)
theorem dX3_swaps_15 : decode cX3_swaps 15 = .ok (.invokevirtual 246, 3) := dk_182 0 246 (dk_at dksX3_swaps_0 15 rfl rfl)
theorem dX3_swaps_18 : decode cX3_swaps 18 = .ok (.ifCond .eq 16, 3) := dk_153 0 16 (dk_at dksX3_swaps_0 18 rfl rfl)
theorem dX3_swaps_21 : decode cX3_swaps 21 = .ok (.aload_n 0, 1) := dk_42 (dk_at dksX3_swaps_0 21 rfl rfl)
theorem dX3_swaps_22 : decode cX3_swaps 22 = .ok (.iload_n 3, 1) := dk_29 (dk_at dksX3_swaps_0 22 rfl rfl)
theorem dX3_swaps_23 : decode cX3_swaps 23 = .ok (.invokevirtual 246, 3) := dk_182 0 246 (dk_at dksX3_swaps_1 0 rfl rfl)
theorem dX3_swaps_26 : decode cX3_swaps 26 = .ok (.ifCond .eq 8, 3) := dk_153 0 8 (dk_at dksX3_swaps_1 3 rfl rfl)
theorem dX3_swaps_29 : decode cX3_swaps 29 = .ok (.iload_n 2, 1) := dk_28 (dk_at dksX3_swaps_1 6 rfl rfl)
theorem dX3_swaps_30 : decode cX3_swaps 30 = .ok (.iload_n 3, 1) := dk_29 (dk_at dksX3_swaps_1 7 rfl rfl)
theorem dX3_swaps_31 : decode cX3_swaps 31 = .ok (.if_icmp .ne 5, 3) := dk_160 0 5 (dk_at dksX3_swaps_1 8 rfl rfl)
theorem dX3_swaps_34 : decode cX3_swaps 34 = .ok (.iconst (-1), 1) := dk_2 (dk_at dksX3_swaps_1 11 rfl rfl)
theorem dX3_swaps_35 : decode cX3_swaps 35 = .ok (.ireturn, 1) := dk_172 (dk_at dksX3_swaps_1 12 rfl rfl)
theorem dX3_swaps_36 : decode cX3_swaps 36 = .ok (.aload_n 0, 1) := dk_42 (dk_at dksX3_swaps_1 13 rfl rfl)
theorem dX3_swaps_37 : decode cX3_swaps 37 = .ok (.iload_n 2, 1) := dk_28 (dk_at dksX3_swaps_1 14 rfl rfl)
theorem dX3_swaps_38 : decode cX3_swaps 38 = .ok (.invokevirtual 249, 3) := dk_182 0 249 (dk_at dksX3_swaps_1 15 rfl rfl)
theorem dX3_swaps_41 : decode cX3_swaps 41 = .ok (.istore 4, 2) := dk_54 4 (dk_at dksX3_swaps_1 18 rfl rfl)
theorem dX3_swaps_43 : decode cX3_swaps 43 = .ok (.iload 4, 2) := dk_21 4 (dk_at dksX3_swaps_1 20 rfl rfl)
theorem dX3_swaps_45 : decode cX3_swaps 45 = .ok (.ifCond .ne 5, 3) := dk_154 0 5 (dk_at dksX3_swaps_2 0 rfl rfl)
theorem dX3_swaps_48 : decode cX3_swaps 48 = .ok (.iconst 0, 1) := dk_3 (dk_at dksX3_swaps_2 3 rfl rfl)
theorem dX3_swaps_49 : decode cX3_swaps 49 = .ok (.ireturn, 1) := dk_172 (dk_at dksX3_swaps_2 4 rfl rfl)
theorem dX3_swaps_50 : decode cX3_swaps 50 = .ok (.iconst 0, 1) := dk_3 (dk_at dksX3_swaps_2 5 rfl rfl)
theorem dX3_swaps_51 : decode cX3_swaps 51 = .ok (.istore 5, 2) := dk_54 5 (dk_at dksX3_swaps_2 6 rfl rfl)
theorem dX3_swaps_53 : decode cX3_swaps 53 = .ok (.aload_n 0, 1) := dk_42 (dk_at dksX3_swaps_2 8 rfl rfl)
theorem dX3_swaps_54 : decode cX3_swaps 54 = .ok (.iload_n 2, 1) := dk_28 (dk_at dksX3_swaps_2 9 rfl rfl)
theorem dX3_swaps_55 : decode cX3_swaps 55 = .ok (.iconst 0, 1) := dk_3 (dk_at dksX3_swaps_2 10 rfl rfl)
theorem dX3_swaps_56 : decode cX3_swaps 56 = .ok (.iload 5, 2) := dk_21 5 (dk_at dksX3_swaps_2 11 rfl rfl)
theorem dX3_swaps_58 : decode cX3_swaps 58 = .ok (.invokevirtual 488, 3) := dk_182 1 232 (dk_at dksX3_swaps_2 13 rfl rfl)
theorem dX3_swaps_61 : decode cX3_swaps 61 = .ok (.aload_n 0, 1) := dk_42 (dk_at dksX3_swaps_2 16 rfl rfl)
theorem dX3_swaps_62 : decode cX3_swaps 62 = .ok (.iload_n 3, 1) := dk_29 (dk_at dksX3_swaps_2 17 rfl rfl)
theorem dX3_swaps_63 : decode cX3_swaps 63 = .ok (.iconst 0, 1) := dk_3 (dk_at dksX3_swaps_2 18 rfl rfl)
theorem dX3_swaps_64 : decode cX3_swaps 64 = .ok (.iload 5, 2) := dk_21 5 (dk_at dksX3_swaps_2 19 rfl rfl)
theorem dX3_swaps_66 : decode cX3_swaps 66 = .ok (.invokevirtual 488, 3) := dk_182 1 232 (dk_at dksX3_swaps_2 21 rfl rfl)
theorem dX3_swaps_69 : decode cX3_swaps 69 = .ok (.iadd, 1) := dk_96 (dk_at dksX3_swaps_3 0 rfl rfl)
theorem dX3_swaps_70 : decode cX3_swaps 70 = .ok (.iload 4, 2) := dk_21 4 (dk_at dksX3_swaps_3 1 rfl rfl)
theorem dX3_swaps_72 : decode cX3_swaps 72 = .ok (.if_icmp .ge 9, 3) := dk_162 0 9 (dk_at dksX3_swaps_3 3 rfl rfl)
theorem dX3_swaps_75 : decode cX3_swaps 75 = .ok (.iinc 5 1, 3) := dk_132 5 1 (dk_at dksX3_swaps_3 6 rfl rfl)
theorem dX3_swaps_78 : decode cX3_swaps 78 = .ok (.goto (-25), 3) := dk_167 255 231 (dk_at dksX3_swaps_3 9 rfl rfl)
theorem dX3_swaps_81 : decode cX3_swaps 81 = .ok (.iload 4, 2) := dk_21 4 (dk_at dksX3_swaps_3 12 rfl rfl)
theorem dX3_swaps_83 : decode cX3_swaps 83 = .ok (.aload_n 0, 1) := dk_42 (dk_at dksX3_swaps_3 14 rfl rfl)
theorem dX3_swaps_84 : decode cX3_swaps 84 = .ok (.iload_n 2, 1) := dk_28 (dk_at dksX3_swaps_3 15 rfl rfl)
theorem dX3_swaps_85 : decode cX3_swaps 85 = .ok (.iconst 0, 1) := dk_3 (dk_at dksX3_swaps_3 16 rfl rfl)
theorem dX3_swaps_86 : decode cX3_swaps 86 = .ok (.iload 5, 2) := dk_21 5 (dk_at dksX3_swaps_3 17 rfl rfl)
theorem dX3_swaps_88 : decode cX3_swaps 88 = .ok (.iconst 1, 1) := dk_4 (dk_at dksX3_swaps_3 19 rfl rfl)
theorem dX3_swaps_89 : decode cX3_swaps 89 = .ok (.isub, 1) := dk_100 (dk_at dksX3_swaps_3 20 rfl rfl)
theorem dX3_swaps_90 : decode cX3_swaps 90 = .ok (.invokevirtual 488, 3) := dk_182 1 232 (dk_at dksX3_swaps_3 21 rfl rfl)
theorem dX3_swaps_93 : decode cX3_swaps 93 = .ok (.isub, 1) := dk_100 (dk_at dksX3_swaps_4 0 rfl rfl)
theorem dX3_swaps_94 : decode cX3_swaps 94 = .ok (.aload_n 0, 1) := dk_42 (dk_at dksX3_swaps_4 1 rfl rfl)
theorem dX3_swaps_95 : decode cX3_swaps 95 = .ok (.iload_n 3, 1) := dk_29 (dk_at dksX3_swaps_4 2 rfl rfl)
theorem dX3_swaps_96 : decode cX3_swaps 96 = .ok (.iconst 0, 1) := dk_3 (dk_at dksX3_swaps_4 3 rfl rfl)
theorem dX3_swaps_97 : decode cX3_swaps 97 = .ok (.iload 5, 2) := dk_21 5 (dk_at dksX3_swaps_4 4 rfl rfl)
theorem dX3_swaps_99 : decode cX3_swaps 99 = .ok (.iconst 1, 1) := dk_4 (dk_at dksX3_swaps_4 6 rfl rfl)
theorem dX3_swaps_100 : decode cX3_swaps 100 = .ok (.isub, 1) := dk_100 (dk_at dksX3_swaps_4 7 rfl rfl)
theorem dX3_swaps_101 : decode cX3_swaps 101 = .ok (.invokevirtual 488, 3) := dk_182 1 232 (dk_at dksX3_swaps_4 8 rfl rfl)
theorem dX3_swaps_104 : decode cX3_swaps 104 = .ok (.isub, 1) := dk_100 (dk_at dksX3_swaps_4 11 rfl rfl)
theorem dX3_swaps_105 : decode cX3_swaps 105 = .ok (.istore 6, 2) := dk_54 6 (dk_at dksX3_swaps_4 12 rfl rfl)
theorem dX3_swaps_107 : decode cX3_swaps 107 = .ok (.aload_n 0, 1) := dk_42 (dk_at dksX3_swaps_4 14 rfl rfl)
theorem dX3_swaps_108 : decode cX3_swaps 108 = .ok (.iload_n 2, 1) := dk_28 (dk_at dksX3_swaps_4 15 rfl rfl)
theorem dX3_swaps_109 : decode cX3_swaps 109 = .ok (.iload 5, 2) := dk_21 5 (dk_at dksX3_swaps_4 16 rfl rfl)
theorem dX3_swaps_111 : decode cX3_swaps 111 = .ok (.iload 5, 2) := dk_21 5 (dk_at dksX3_swaps_4 18 rfl rfl)
theorem dX3_swaps_113 : decode cX3_swaps 113 = .ok (.invokevirtual 488, 3) := dk_182 1 232 (dk_at dksX3_swaps_4 20 rfl rfl)
theorem dX3_swaps_116 : decode cX3_swaps 116 = .ok (.istore 7, 2) := dk_54 7 (dk_at dksX3_swaps_5 0 rfl rfl)
theorem dX3_swaps_118 : decode cX3_swaps 118 = .ok (.iload 4, 2) := dk_21 4 (dk_at dksX3_swaps_5 2 rfl rfl)
theorem dX3_swaps_120 : decode cX3_swaps 120 = .ok (.aload_n 0, 1) := dk_42 (dk_at dksX3_swaps_5 4 rfl rfl)
theorem dX3_swaps_121 : decode cX3_swaps 121 = .ok (.iload_n 2, 1) := dk_28 (dk_at dksX3_swaps_5 5 rfl rfl)
theorem dX3_swaps_122 : decode cX3_swaps 122 = .ok (.iconst 0, 1) := dk_3 (dk_at dksX3_swaps_5 6 rfl rfl)
theorem dX3_swaps_123 : decode cX3_swaps 123 = .ok (.iload 5, 2) := dk_21 5 (dk_at dksX3_swaps_5 7 rfl rfl)
theorem dX3_swaps_125 : decode cX3_swaps 125 = .ok (.iconst 1, 1) := dk_4 (dk_at dksX3_swaps_5 9 rfl rfl)
theorem dX3_swaps_126 : decode cX3_swaps 126 = .ok (.isub, 1) := dk_100 (dk_at dksX3_swaps_5 10 rfl rfl)
theorem dX3_swaps_127 : decode cX3_swaps 127 = .ok (.invokevirtual 488, 3) := dk_182 1 232 (dk_at dksX3_swaps_5 11 rfl rfl)
theorem dX3_swaps_130 : decode cX3_swaps 130 = .ok (.isub, 1) := dk_100 (dk_at dksX3_swaps_5 14 rfl rfl)
theorem dX3_swaps_131 : decode cX3_swaps 131 = .ok (.iload 7, 2) := dk_21 7 (dk_at dksX3_swaps_5 15 rfl rfl)
theorem dX3_swaps_133 : decode cX3_swaps 133 = .ok (.iload 6, 2) := dk_21 6 (dk_at dksX3_swaps_5 17 rfl rfl)
theorem dX3_swaps_135 : decode cX3_swaps 135 = .ok (.if_icmp .ge 8, 3) := dk_162 0 8 (dk_at dksX3_swaps_5 19 rfl rfl)
theorem dX3_swaps_138 : decode cX3_swaps 138 = .ok (.iload 7, 2) := dk_21 7 (dk_at dksX3_swaps_5 22 rfl rfl)
theorem dX3_swaps_140 : decode cX3_swaps 140 = .ok (.goto 5, 3) := dk_167 0 5 (dk_at dksX3_swaps_6 0 rfl rfl)
theorem dX3_swaps_143 : decode cX3_swaps 143 = .ok (.iload 6, 2) := dk_21 6 (dk_at dksX3_swaps_6 3 rfl rfl)
theorem dX3_swaps_145 : decode cX3_swaps 145 = .ok (.isub, 1) := dk_100 (dk_at dksX3_swaps_6 5 rfl rfl)
theorem dX3_swaps_146 : decode cX3_swaps 146 = .ok (.ireturn, 1) := dk_172 (dk_at dksX3_swaps_6 6 rfl rfl)
def dkwX3_countMarks_2 : List UInt8 := [132, 5, 1, 167, 255, 212, 21, 4, 172]
abbrev dktX3_countMarks_2 : List UInt8 := dkwX3_countMarks_2 ++ []
def dkwX3_countMarks_1 : List UInt8 := [16, 12, 27, 104, 21, 5, 96, 46, 28, 29, 184, 0, 123, 153, 0, 7, 4, 167, 0, 4, 3, 96, 54, 4]
abbrev dktX3_countMarks_1 : List UInt8 := dkwX3_countMarks_1 ++ dktX3_countMarks_2
def dkwX3_countMarks_0 : List UInt8 := [3, 54, 4, 3, 54, 5, 21, 5, 42, 180, 0, 41, 27, 46, 162, 0, 39, 21, 4, 42, 180, 0, 47]
abbrev dktX3_countMarks_0 : List UInt8 := dkwX3_countMarks_0 ++ dktX3_countMarks_1
theorem dksX3_countMarks_0 : cX3_countMarks.data.toList.drop 0 = dktX3_countMarks_0 := by decide +kernel
theorem dksX3_countMarks_1 : cX3_countMarks.data.toList.drop 23 = dktX3_countMarks_1 := dk_seg dksX3_countMarks_0 23 rfl rfl
theorem dksX3_countMarks_2 : cX3_countMarks.data.toList.drop 47 = dktX3_countMarks_2 := dk_seg dksX3_countMarks_1 24 rfl rfl
theorem dX3_countMarks_0 : decode cX3_countMarks 0 = .ok (.iconst 0, 1) := dk_3 (dk_at dksX3_countMarks_0 0 rfl rfl)
theorem dX3_countMarks_1 : decode cX3_countMarks 1 = .ok (.istore 4, 2) := dk_54 4 (dk_at dksX3_countMarks_0 1 rfl rfl)
theorem dX3_countMarks_3 : decode cX3_countMarks 3 = .ok (.iconst 0, 1) := dk_3 (dk_at dksX3_countMarks_0 3 rfl rfl)
theorem dX3_countMarks_4 : decode cX3_countMarks 4 = .ok (.istore 5, 2) := dk_54 5 (dk_at dksX3_countMarks_0 4 rfl rfl)
theorem dX3_countMarks_6 : decode cX3_countMarks 6 = .ok (.iload 5, 2) := dk_21 5 (dk_at dksX3_countMarks_0 6 rfl rfl)
theorem dX3_countMarks_8 : decode cX3_countMarks 8 = .ok (.aload_n 0, 1) := dk_42 (dk_at dksX3_countMarks_0 8 rfl rfl)
theorem dX3_countMarks_9 : decode cX3_countMarks 9 = .ok (.getfield 41, 3) := dk_180 0 41 (dk_at dksX3_countMarks_0 9 rfl rfl)
theorem dX3_countMarks_12 : decode cX3_countMarks 12 = .ok (.iload_n 1, 1) := dk_27 (dk_at dksX3_countMarks_0 12 rfl rfl)
theorem dX3_countMarks_13 : decode cX3_countMarks 13 = .ok (.iaload, 1) := dk_46 (dk_at dksX3_countMarks_0 13 rfl rfl)
theorem dX3_countMarks_14 : decode cX3_countMarks 14 = .ok (.if_icmp .ge 39, 3) := dk_162 0 39 (dk_at dksX3_countMarks_0 14 rfl rfl)
theorem dX3_countMarks_17 : decode cX3_countMarks 17 = .ok (.iload 4, 2) := dk_21 4 (dk_at dksX3_countMarks_0 17 rfl rfl)
theorem dX3_countMarks_19 : decode cX3_countMarks 19 = .ok (.aload_n 0, 1) := dk_42 (dk_at dksX3_countMarks_0 19 rfl rfl)
theorem dX3_countMarks_20 : decode cX3_countMarks 20 = .ok (.getfield 47, 3) := dk_180 0 47 (dk_at dksX3_countMarks_0 20 rfl rfl)
theorem dX3_countMarks_23 : decode cX3_countMarks 23 = .ok (.bipush 12, 2) := dk_16 12 (dk_at dksX3_countMarks_1 0 rfl rfl)
theorem dX3_countMarks_25 : decode cX3_countMarks 25 = .ok (.iload_n 1, 1) := dk_27 (dk_at dksX3_countMarks_1 2 rfl rfl)
theorem dX3_countMarks_26 : decode cX3_countMarks 26 = .ok (.imul, 1) := dk_104 (dk_at dksX3_countMarks_1 3 rfl rfl)
theorem dX3_countMarks_27 : decode cX3_countMarks 27 = .ok (.iload 5, 2) := dk_21 5 (dk_at dksX3_countMarks_1 4 rfl rfl)
theorem dX3_countMarks_29 : decode cX3_countMarks 29 = .ok (.iadd, 1) := dk_96 (dk_at dksX3_countMarks_1 6 rfl rfl)
theorem dX3_countMarks_30 : decode cX3_countMarks 30 = .ok (.iaload, 1) := dk_46 (dk_at dksX3_countMarks_1 7 rfl rfl)
theorem dX3_countMarks_31 : decode cX3_countMarks 31 = .ok (.iload_n 2, 1) := dk_28 (dk_at dksX3_countMarks_1 8 rfl rfl)
theorem dX3_countMarks_32 : decode cX3_countMarks 32 = .ok (.iload_n 3, 1) := dk_29 (dk_at dksX3_countMarks_1 9 rfl rfl)
theorem dX3_countMarks_33 : decode cX3_countMarks 33 = .ok (.invokestatic 123, 3) := dk_184 0 123 (dk_at dksX3_countMarks_1 10 rfl rfl)
theorem dX3_countMarks_36 : decode cX3_countMarks 36 = .ok (.ifCond .eq 7, 3) := dk_153 0 7 (dk_at dksX3_countMarks_1 13 rfl rfl)
theorem dX3_countMarks_39 : decode cX3_countMarks 39 = .ok (.iconst 1, 1) := dk_4 (dk_at dksX3_countMarks_1 16 rfl rfl)
theorem dX3_countMarks_40 : decode cX3_countMarks 40 = .ok (.goto 4, 3) := dk_167 0 4 (dk_at dksX3_countMarks_1 17 rfl rfl)
theorem dX3_countMarks_43 : decode cX3_countMarks 43 = .ok (.iconst 0, 1) := dk_3 (dk_at dksX3_countMarks_1 20 rfl rfl)
theorem dX3_countMarks_44 : decode cX3_countMarks 44 = .ok (.iadd, 1) := dk_96 (dk_at dksX3_countMarks_1 21 rfl rfl)
theorem dX3_countMarks_45 : decode cX3_countMarks 45 = .ok (.istore 4, 2) := dk_54 4 (dk_at dksX3_countMarks_1 22 rfl rfl)
theorem dX3_countMarks_47 : decode cX3_countMarks 47 = .ok (.iinc 5 1, 3) := dk_132 5 1 (dk_at dksX3_countMarks_2 0 rfl rfl)
theorem dX3_countMarks_50 : decode cX3_countMarks 50 = .ok (.goto (-44), 3) := dk_167 255 212 (dk_at dksX3_countMarks_2 3 rfl rfl)
theorem dX3_countMarks_53 : decode cX3_countMarks 53 = .ok (.iload 4, 2) := dk_21 4 (dk_at dksX3_countMarks_2 6 rfl rfl)
theorem dX3_countMarks_55 : decode cX3_countMarks 55 = .ok (.ireturn, 1) := dk_172 (dk_at dksX3_countMarks_2 8 rfl rfl)
def dkwX3_hands_0 : List UInt8 := [42, 3, 181, 0, 111, 42, 27, 28, 29, 182, 1, 166, 153, 0, 10, 42, 180, 1, 142, 167, 0, 4, 2, 172]
abbrev dktX3_hands_0 : List UInt8 := dkwX3_hands_0 ++ []
theorem dksX3_hands_0 : cX3_hands.data.toList.drop 0 = dktX3_hands_0 := by decide +kernel
theorem dX3_hands_0 : decode cX3_hands 0 = .ok (.aload_n 0, 1) := dk_42 (dk_at dksX3_hands_0 0 rfl rfl)
theorem dX3_hands_1 : decode cX3_hands 1 = .ok (.iconst 0, 1) := dk_3 (dk_at dksX3_hands_0 1 rfl rfl)
theorem dX3_hands_2 : decode cX3_hands 2 = .ok (.putfield 111, 3) := dk_181 0 111 (dk_at dksX3_hands_0 2 rfl rfl)
theorem dX3_hands_5 : decode cX3_hands 5 = .ok (.aload_n 0, 1) := dk_42 (dk_at dksX3_hands_0 5 rfl rfl)
theorem dX3_hands_6 : decode cX3_hands 6 = .ok (.iload_n 1, 1) := dk_27 (dk_at dksX3_hands_0 6 rfl rfl)
theorem dX3_hands_7 : decode cX3_hands 7 = .ok (.iload_n 2, 1) := dk_28 (dk_at dksX3_hands_0 7 rfl rfl)
theorem dX3_hands_8 : decode cX3_hands 8 = .ok (.iload_n 3, 1) := dk_29 (dk_at dksX3_hands_0 8 rfl rfl)
theorem dX3_hands_9 : decode cX3_hands 9 = .ok (.invokevirtual 422, 3) := dk_182 1 166 (dk_at dksX3_hands_0 9 rfl rfl)
theorem dX3_hands_12 : decode cX3_hands 12 = .ok (.ifCond .eq 10, 3) := dk_153 0 10 (dk_at dksX3_hands_0 12 rfl rfl)
theorem dX3_hands_15 : decode cX3_hands 15 = .ok (.aload_n 0, 1) := dk_42 (dk_at dksX3_hands_0 15 rfl rfl)
theorem dX3_hands_16 : decode cX3_hands 16 = .ok (.getfield 398, 3) := dk_180 1 142 (dk_at dksX3_hands_0 16 rfl rfl)
theorem dX3_hands_19 : decode cX3_hands 19 = .ok (.goto 4, 3) := dk_167 0 4 (dk_at dksX3_hands_0 19 rfl rfl)
theorem dX3_hands_22 : decode cX3_hands 22 = .ok (.iconst (-1), 1) := dk_2 (dk_at dksX3_hands_0 22 rfl rfl)
theorem dX3_hands_23 : decode cX3_hands 23 = .ok (.ireturn, 1) := dk_172 (dk_at dksX3_hands_0 23 rfl rfl)
def dkwX3_count_1 : List UInt8 := [16, 254, 172]
abbrev dktX3_count_1 : List UInt8 := dkwX3_count_1 ++ []
def dkwX3_count_0 : List UInt8 := [42, 3, 181, 0, 111, 27, 3, 5, 184, 0, 123, 153, 0, 12, 42, 180, 0, 23, 27, 46, 167, 0, 5]
abbrev dktX3_count_0 : List UInt8 := dkwX3_count_0 ++ dktX3_count_1
theorem dksX3_count_0 : cX3_count.data.toList.drop 0 = dktX3_count_0 := by decide +kernel
theorem dksX3_count_1 : cX3_count.data.toList.drop 23 = dktX3_count_1 := dk_seg dksX3_count_0 23 rfl rfl
theorem dX3_count_0 : decode cX3_count 0 = .ok (.aload_n 0, 1) := dk_42 (dk_at dksX3_count_0 0 rfl rfl)
theorem dX3_count_1 : decode cX3_count 1 = .ok (.iconst 0, 1) := dk_3 (dk_at dksX3_count_0 1 rfl rfl)
theorem dX3_count_2 : decode cX3_count 2 = .ok (.putfield 111, 3) := dk_181 0 111 (dk_at dksX3_count_0 2 rfl rfl)
theorem dX3_count_5 : decode cX3_count 5 = .ok (.iload_n 1, 1) := dk_27 (dk_at dksX3_count_0 5 rfl rfl)
theorem dX3_count_6 : decode cX3_count 6 = .ok (.iconst 0, 1) := dk_3 (dk_at dksX3_count_0 6 rfl rfl)
theorem dX3_count_7 : decode cX3_count 7 = .ok (.iconst 2, 1) := dk_5 (dk_at dksX3_count_0 7 rfl rfl)
theorem dX3_count_8 : decode cX3_count 8 = .ok (.invokestatic 123, 3) := dk_184 0 123 (dk_at dksX3_count_0 8 rfl rfl)
theorem dX3_count_11 : decode cX3_count 11 = .ok (.ifCond .eq 12, 3) := dk_153 0 12 (dk_at dksX3_count_0 11 rfl rfl)
theorem dX3_count_14 : decode cX3_count 14 = .ok (.aload_n 0, 1) := dk_42 (dk_at dksX3_count_0 14 rfl rfl)
theorem dX3_count_15 : decode cX3_count 15 = .ok (.getfield 23, 3) := dk_180 0 23 (dk_at dksX3_count_0 15 rfl rfl)
theorem dX3_count_18 : decode cX3_count 18 = .ok (.iload_n 1, 1) := dk_27 (dk_at dksX3_count_0 18 rfl rfl)
theorem dX3_count_19 : decode cX3_count 19 = .ok (.iaload, 1) := dk_46 (dk_at dksX3_count_0 19 rfl rfl)
theorem dX3_count_20 : decode cX3_count 20 = .ok (.goto 5, 3) := dk_167 0 5 (dk_at dksX3_count_0 20 rfl rfl)
theorem dX3_count_23 : decode cX3_count 23 = .ok (.bipush (-2), 2) := dk_16 254 (dk_at dksX3_count_1 0 rfl rfl)
theorem dX3_count_25 : decode cX3_count 25 = .ok (.ireturn, 1) := dk_172 (dk_at dksX3_count_1 2 rfl rfl)
def dkwX3_image_1 : List UInt8 := [42, 180, 0, 107, 27, 4, 84, 4, 172]
abbrev dktX3_image_1 : List UInt8 := dkwX3_image_1 ++ []
def dkwX3_image_0 : List UInt8 := [42, 3, 181, 0, 111, 27, 3, 5, 184, 0, 123, 154, 0, 5, 3, 172, 42, 3, 27, 4, 96, 182, 1, 235]
abbrev dktX3_image_0 : List UInt8 := dkwX3_image_0 ++ dktX3_image_1
theorem dksX3_image_0 : cX3_image.data.toList.drop 0 = dktX3_image_0 := by decide +kernel
theorem dksX3_image_1 : cX3_image.data.toList.drop 24 = dktX3_image_1 := dk_seg dksX3_image_0 24 rfl rfl
theorem dX3_image_0 : decode cX3_image 0 = .ok (.aload_n 0, 1) := dk_42 (dk_at dksX3_image_0 0 rfl rfl)
theorem dX3_image_1 : decode cX3_image 1 = .ok (.iconst 0, 1) := dk_3 (dk_at dksX3_image_0 1 rfl rfl)
theorem dX3_image_2 : decode cX3_image 2 = .ok (.putfield 111, 3) := dk_181 0 111 (dk_at dksX3_image_0 2 rfl rfl)
theorem dX3_image_5 : decode cX3_image 5 = .ok (.iload_n 1, 1) := dk_27 (dk_at dksX3_image_0 5 rfl rfl)
theorem dX3_image_6 : decode cX3_image 6 = .ok (.iconst 0, 1) := dk_3 (dk_at dksX3_image_0 6 rfl rfl)
theorem dX3_image_7 : decode cX3_image 7 = .ok (.iconst 2, 1) := dk_5 (dk_at dksX3_image_0 7 rfl rfl)
theorem dX3_image_8 : decode cX3_image 8 = .ok (.invokestatic 123, 3) := dk_184 0 123 (dk_at dksX3_image_0 8 rfl rfl)
theorem dX3_image_11 : decode cX3_image 11 = .ok (.ifCond .ne 5, 3) := dk_154 0 5 (dk_at dksX3_image_0 11 rfl rfl)
theorem dX3_image_14 : decode cX3_image 14 = .ok (.iconst 0, 1) := dk_3 (dk_at dksX3_image_0 14 rfl rfl)
theorem dX3_image_15 : decode cX3_image 15 = .ok (.ireturn, 1) := dk_172 (dk_at dksX3_image_0 15 rfl rfl)
theorem dX3_image_16 : decode cX3_image 16 = .ok (.aload_n 0, 1) := dk_42 (dk_at dksX3_image_0 16 rfl rfl)
theorem dX3_image_17 : decode cX3_image 17 = .ok (.iconst 0, 1) := dk_3 (dk_at dksX3_image_0 17 rfl rfl)
theorem dX3_image_18 : decode cX3_image 18 = .ok (.iload_n 1, 1) := dk_27 (dk_at dksX3_image_0 18 rfl rfl)
theorem dX3_image_19 : decode cX3_image 19 = .ok (.iconst 1, 1) := dk_4 (dk_at dksX3_image_0 19 rfl rfl)
theorem dX3_image_20 : decode cX3_image 20 = .ok (.iadd, 1) := dk_96 (dk_at dksX3_image_0 20 rfl rfl)
theorem dX3_image_21 : decode cX3_image 21 = .ok (.invokevirtual 491, 3) := dk_182 1 235 (dk_at dksX3_image_0 21 rfl rfl)
theorem dX3_image_24 : decode cX3_image 24 = .ok (.aload_n 0, 1) := dk_42 (dk_at dksX3_image_1 0 rfl rfl)
theorem dX3_image_25 : decode cX3_image 25 = .ok (.getfield 107, 3) := dk_180 0 107 (dk_at dksX3_image_1 1 rfl rfl)
theorem dX3_image_28 : decode cX3_image 28 = .ok (.iload_n 1, 1) := dk_27 (dk_at dksX3_image_1 4 rfl rfl)
theorem dX3_image_29 : decode cX3_image 29 = .ok (.iconst 1, 1) := dk_4 (dk_at dksX3_image_1 5 rfl rfl)
theorem dX3_image_30 : decode cX3_image 30 = .ok (.bastore, 1) := dk_84 (dk_at dksX3_image_1 6 rfl rfl)
theorem dX3_image_31 : decode cX3_image 31 = .ok (.iconst 1, 1) := dk_4 (dk_at dksX3_image_1 7 rfl rfl)
theorem dX3_image_32 : decode cX3_image 32 = .ok (.ireturn, 1) := dk_172 (dk_at dksX3_image_1 8 rfl rfl)
def dkwX3_copyAll_4 : List UInt8 := [17, 1, 66, 27, 28, 184, 0, 119, 42, 180, 0, 32, 16, 34, 27, 28, 184, 0, 119, 177]
abbrev dktX3_copyAll_4 : List UInt8 := dkwX3_copyAll_4 ++ []
def dkwX3_copyAll_3 : List UInt8 := [180, 0, 23, 6, 27, 28, 184, 0, 119, 42, 180, 0, 26, 16, 120, 27, 28, 184, 0, 119, 42, 180, 0, 29]
abbrev dktX3_copyAll_3 : List UInt8 := dkwX3_copyAll_3 ++ dktX3_copyAll_4
def dkwX3_copyAll_2 : List UInt8 := [184, 0, 119, 42, 180, 0, 17, 4, 27, 28, 184, 0, 119, 42, 180, 0, 20, 4, 27, 28, 184, 0, 119, 42]
abbrev dktX3_copyAll_2 : List UInt8 := dkwX3_copyAll_2 ++ dktX3_copyAll_3
def dkwX3_copyAll_1 : List UInt8 := [17, 2, 88, 27, 104, 29, 96, 51, 84, 132, 3, 1, 167, 255, 222, 42, 180, 0, 13, 4, 27, 28]
abbrev dktX3_copyAll_1 : List UInt8 := dkwX3_copyAll_1 ++ dktX3_copyAll_2
def dkwX3_copyAll_0 : List UInt8 := [3, 62, 29, 17, 2, 88, 162, 0, 33, 42, 180, 0, 7, 17, 2, 88, 28, 104, 29, 96, 42, 180, 0, 7]
abbrev dktX3_copyAll_0 : List UInt8 := dkwX3_copyAll_0 ++ dktX3_copyAll_1
theorem dksX3_copyAll_0 : cX3_copyAll.data.toList.drop 0 = dktX3_copyAll_0 := by decide +kernel
theorem dksX3_copyAll_1 : cX3_copyAll.data.toList.drop 24 = dktX3_copyAll_1 := dk_seg dksX3_copyAll_0 24 rfl rfl
theorem dksX3_copyAll_2 : cX3_copyAll.data.toList.drop 46 = dktX3_copyAll_2 := dk_seg dksX3_copyAll_1 22 rfl rfl
theorem dksX3_copyAll_3 : cX3_copyAll.data.toList.drop 70 = dktX3_copyAll_3 := dk_seg dksX3_copyAll_2 24 rfl rfl
theorem dksX3_copyAll_4 : cX3_copyAll.data.toList.drop 94 = dktX3_copyAll_4 := dk_seg dksX3_copyAll_3 24 rfl rfl
theorem dX3_copyAll_0 : decode cX3_copyAll 0 = .ok (.iconst 0, 1) := dk_3 (dk_at dksX3_copyAll_0 0 rfl rfl)
theorem dX3_copyAll_1 : decode cX3_copyAll 1 = .ok (.istore_n 3, 1) := dk_62 (dk_at dksX3_copyAll_0 1 rfl rfl)
theorem dX3_copyAll_2 : decode cX3_copyAll 2 = .ok (.iload_n 3, 1) := dk_29 (dk_at dksX3_copyAll_0 2 rfl rfl)
theorem dX3_copyAll_3 : decode cX3_copyAll 3 = .ok (.sipush 600, 3) := dk_17 2 88 (dk_at dksX3_copyAll_0 3 rfl rfl)
theorem dX3_copyAll_6 : decode cX3_copyAll 6 = .ok (.if_icmp .ge 33, 3) := dk_162 0 33 (dk_at dksX3_copyAll_0 6 rfl rfl)
theorem dX3_copyAll_9 : decode cX3_copyAll 9 = .ok (.aload_n 0, 1) := dk_42 (dk_at dksX3_copyAll_0 9 rfl rfl)
theorem dX3_copyAll_10 : decode cX3_copyAll 10 = .ok (.getfield 7, 3) := dk_180 0 7 (dk_at dksX3_copyAll_0 10 rfl rfl)
theorem dX3_copyAll_13 : decode cX3_copyAll 13 = .ok (.sipush 600, 3) := dk_17 2 88 (dk_at dksX3_copyAll_0 13 rfl rfl)
theorem dX3_copyAll_16 : decode cX3_copyAll 16 = .ok (.iload_n 2, 1) := dk_28 (dk_at dksX3_copyAll_0 16 rfl rfl)
theorem dX3_copyAll_17 : decode cX3_copyAll 17 = .ok (.imul, 1) := dk_104 (dk_at dksX3_copyAll_0 17 rfl rfl)
theorem dX3_copyAll_18 : decode cX3_copyAll 18 = .ok (.iload_n 3, 1) := dk_29 (dk_at dksX3_copyAll_0 18 rfl rfl)
theorem dX3_copyAll_19 : decode cX3_copyAll 19 = .ok (.iadd, 1) := dk_96 (dk_at dksX3_copyAll_0 19 rfl rfl)
theorem dX3_copyAll_20 : decode cX3_copyAll 20 = .ok (.aload_n 0, 1) := dk_42 (dk_at dksX3_copyAll_0 20 rfl rfl)
theorem dX3_copyAll_21 : decode cX3_copyAll 21 = .ok (.getfield 7, 3) := dk_180 0 7 (dk_at dksX3_copyAll_0 21 rfl rfl)
theorem dX3_copyAll_24 : decode cX3_copyAll 24 = .ok (.sipush 600, 3) := dk_17 2 88 (dk_at dksX3_copyAll_1 0 rfl rfl)
theorem dX3_copyAll_27 : decode cX3_copyAll 27 = .ok (.iload_n 1, 1) := dk_27 (dk_at dksX3_copyAll_1 3 rfl rfl)
theorem dX3_copyAll_28 : decode cX3_copyAll 28 = .ok (.imul, 1) := dk_104 (dk_at dksX3_copyAll_1 4 rfl rfl)
theorem dX3_copyAll_29 : decode cX3_copyAll 29 = .ok (.iload_n 3, 1) := dk_29 (dk_at dksX3_copyAll_1 5 rfl rfl)
theorem dX3_copyAll_30 : decode cX3_copyAll 30 = .ok (.iadd, 1) := dk_96 (dk_at dksX3_copyAll_1 6 rfl rfl)
theorem dX3_copyAll_31 : decode cX3_copyAll 31 = .ok (.baload, 1) := dk_51 (dk_at dksX3_copyAll_1 7 rfl rfl)
theorem dX3_copyAll_32 : decode cX3_copyAll 32 = .ok (.bastore, 1) := dk_84 (dk_at dksX3_copyAll_1 8 rfl rfl)
theorem dX3_copyAll_33 : decode cX3_copyAll 33 = .ok (.iinc 3 1, 3) := dk_132 3 1 (dk_at dksX3_copyAll_1 9 rfl rfl)
theorem dX3_copyAll_36 : decode cX3_copyAll 36 = .ok (.goto (-34), 3) := dk_167 255 222 (dk_at dksX3_copyAll_1 12 rfl rfl)
theorem dX3_copyAll_39 : decode cX3_copyAll 39 = .ok (.aload_n 0, 1) := dk_42 (dk_at dksX3_copyAll_1 15 rfl rfl)
theorem dX3_copyAll_40 : decode cX3_copyAll 40 = .ok (.getfield 13, 3) := dk_180 0 13 (dk_at dksX3_copyAll_1 16 rfl rfl)
theorem dX3_copyAll_43 : decode cX3_copyAll 43 = .ok (.iconst 1, 1) := dk_4 (dk_at dksX3_copyAll_1 19 rfl rfl)
theorem dX3_copyAll_44 : decode cX3_copyAll 44 = .ok (.iload_n 1, 1) := dk_27 (dk_at dksX3_copyAll_1 20 rfl rfl)
theorem dX3_copyAll_45 : decode cX3_copyAll 45 = .ok (.iload_n 2, 1) := dk_28 (dk_at dksX3_copyAll_1 21 rfl rfl)
theorem dX3_copyAll_46 : decode cX3_copyAll 46 = .ok (.invokestatic 119, 3) := dk_184 0 119 (dk_at dksX3_copyAll_2 0 rfl rfl)
theorem dX3_copyAll_49 : decode cX3_copyAll 49 = .ok (.aload_n 0, 1) := dk_42 (dk_at dksX3_copyAll_2 3 rfl rfl)
theorem dX3_copyAll_50 : decode cX3_copyAll 50 = .ok (.getfield 17, 3) := dk_180 0 17 (dk_at dksX3_copyAll_2 4 rfl rfl)
theorem dX3_copyAll_53 : decode cX3_copyAll 53 = .ok (.iconst 1, 1) := dk_4 (dk_at dksX3_copyAll_2 7 rfl rfl)
theorem dX3_copyAll_54 : decode cX3_copyAll 54 = .ok (.iload_n 1, 1) := dk_27 (dk_at dksX3_copyAll_2 8 rfl rfl)
theorem dX3_copyAll_55 : decode cX3_copyAll 55 = .ok (.iload_n 2, 1) := dk_28 (dk_at dksX3_copyAll_2 9 rfl rfl)
theorem dX3_copyAll_56 : decode cX3_copyAll 56 = .ok (.invokestatic 119, 3) := dk_184 0 119 (dk_at dksX3_copyAll_2 10 rfl rfl)
theorem dX3_copyAll_59 : decode cX3_copyAll 59 = .ok (.aload_n 0, 1) := dk_42 (dk_at dksX3_copyAll_2 13 rfl rfl)
theorem dX3_copyAll_60 : decode cX3_copyAll 60 = .ok (.getfield 20, 3) := dk_180 0 20 (dk_at dksX3_copyAll_2 14 rfl rfl)
theorem dX3_copyAll_63 : decode cX3_copyAll 63 = .ok (.iconst 1, 1) := dk_4 (dk_at dksX3_copyAll_2 17 rfl rfl)
theorem dX3_copyAll_64 : decode cX3_copyAll 64 = .ok (.iload_n 1, 1) := dk_27 (dk_at dksX3_copyAll_2 18 rfl rfl)
theorem dX3_copyAll_65 : decode cX3_copyAll 65 = .ok (.iload_n 2, 1) := dk_28 (dk_at dksX3_copyAll_2 19 rfl rfl)
theorem dX3_copyAll_66 : decode cX3_copyAll 66 = .ok (.invokestatic 119, 3) := dk_184 0 119 (dk_at dksX3_copyAll_2 20 rfl rfl)
theorem dX3_copyAll_69 : decode cX3_copyAll 69 = .ok (.aload_n 0, 1) := dk_42 (dk_at dksX3_copyAll_2 23 rfl rfl)
theorem dX3_copyAll_70 : decode cX3_copyAll 70 = .ok (.getfield 23, 3) := dk_180 0 23 (dk_at dksX3_copyAll_3 0 rfl rfl)
theorem dX3_copyAll_73 : decode cX3_copyAll 73 = .ok (.iconst 3, 1) := dk_6 (dk_at dksX3_copyAll_3 3 rfl rfl)
theorem dX3_copyAll_74 : decode cX3_copyAll 74 = .ok (.iload_n 1, 1) := dk_27 (dk_at dksX3_copyAll_3 4 rfl rfl)
theorem dX3_copyAll_75 : decode cX3_copyAll 75 = .ok (.iload_n 2, 1) := dk_28 (dk_at dksX3_copyAll_3 5 rfl rfl)
theorem dX3_copyAll_76 : decode cX3_copyAll 76 = .ok (.invokestatic 119, 3) := dk_184 0 119 (dk_at dksX3_copyAll_3 6 rfl rfl)
theorem dX3_copyAll_79 : decode cX3_copyAll 79 = .ok (.aload_n 0, 1) := dk_42 (dk_at dksX3_copyAll_3 9 rfl rfl)
theorem dX3_copyAll_80 : decode cX3_copyAll 80 = .ok (.getfield 26, 3) := dk_180 0 26 (dk_at dksX3_copyAll_3 10 rfl rfl)
theorem dX3_copyAll_83 : decode cX3_copyAll 83 = .ok (.bipush 120, 2) := dk_16 120 (dk_at dksX3_copyAll_3 13 rfl rfl)
theorem dX3_copyAll_85 : decode cX3_copyAll 85 = .ok (.iload_n 1, 1) := dk_27 (dk_at dksX3_copyAll_3 15 rfl rfl)
theorem dX3_copyAll_86 : decode cX3_copyAll 86 = .ok (.iload_n 2, 1) := dk_28 (dk_at dksX3_copyAll_3 16 rfl rfl)
theorem dX3_copyAll_87 : decode cX3_copyAll 87 = .ok (.invokestatic 119, 3) := dk_184 0 119 (dk_at dksX3_copyAll_3 17 rfl rfl)
theorem dX3_copyAll_90 : decode cX3_copyAll 90 = .ok (.aload_n 0, 1) := dk_42 (dk_at dksX3_copyAll_3 20 rfl rfl)
theorem dX3_copyAll_91 : decode cX3_copyAll 91 = .ok (.getfield 29, 3) := dk_180 0 29 (dk_at dksX3_copyAll_3 21 rfl rfl)
theorem dX3_copyAll_94 : decode cX3_copyAll 94 = .ok (.sipush 322, 3) := dk_17 1 66 (dk_at dksX3_copyAll_4 0 rfl rfl)
theorem dX3_copyAll_97 : decode cX3_copyAll 97 = .ok (.iload_n 1, 1) := dk_27 (dk_at dksX3_copyAll_4 3 rfl rfl)
theorem dX3_copyAll_98 : decode cX3_copyAll 98 = .ok (.iload_n 2, 1) := dk_28 (dk_at dksX3_copyAll_4 4 rfl rfl)
theorem dX3_copyAll_99 : decode cX3_copyAll 99 = .ok (.invokestatic 119, 3) := dk_184 0 119 (dk_at dksX3_copyAll_4 5 rfl rfl)
theorem dX3_copyAll_102 : decode cX3_copyAll 102 = .ok (.aload_n 0, 1) := dk_42 (dk_at dksX3_copyAll_4 8 rfl rfl)
theorem dX3_copyAll_103 : decode cX3_copyAll 103 = .ok (.getfield 32, 3) := dk_180 0 32 (dk_at dksX3_copyAll_4 9 rfl rfl)
theorem dX3_copyAll_106 : decode cX3_copyAll 106 = .ok (.bipush 34, 2) := dk_16 34 (dk_at dksX3_copyAll_4 12 rfl rfl)
theorem dX3_copyAll_108 : decode cX3_copyAll 108 = .ok (.iload_n 1, 1) := dk_27 (dk_at dksX3_copyAll_4 14 rfl rfl)
theorem dX3_copyAll_109 : decode cX3_copyAll 109 = .ok (.iload_n 2, 1) := dk_28 (dk_at dksX3_copyAll_4 15 rfl rfl)
theorem dX3_copyAll_110 : decode cX3_copyAll 110 = .ok (.invokestatic 119, 3) := dk_184 0 119 (dk_at dksX3_copyAll_4 16 rfl rfl)
theorem dX3_copyAll_113 : decode cX3_copyAll 113 = .ok (.return_, 1) := dk_177 (dk_at dksX3_copyAll_4 19 rfl rfl)
def dkwX3_copyRow_1 : List UInt8 := [79, 132, 4, 1, 167, 255, 231, 177]
abbrev dktX3_copyRow_1 : List UInt8 := dkwX3_copyRow_1 ++ []
def dkwX3_copyRow_0 : List UInt8 := [3, 54, 4, 21, 4, 27, 162, 0, 25, 42, 27, 29, 104, 21, 4, 96, 42, 27, 28, 104, 21, 4, 96, 46]
abbrev dktX3_copyRow_0 : List UInt8 := dkwX3_copyRow_0 ++ dktX3_copyRow_1
theorem dksX3_copyRow_0 : cX3_copyRow.data.toList.drop 0 = dktX3_copyRow_0 := by decide +kernel
theorem dksX3_copyRow_1 : cX3_copyRow.data.toList.drop 24 = dktX3_copyRow_1 := dk_seg dksX3_copyRow_0 24 rfl rfl
theorem dX3_copyRow_0 : decode cX3_copyRow 0 = .ok (.iconst 0, 1) := dk_3 (dk_at dksX3_copyRow_0 0 rfl rfl)
theorem dX3_copyRow_1 : decode cX3_copyRow 1 = .ok (.istore 4, 2) := dk_54 4 (dk_at dksX3_copyRow_0 1 rfl rfl)
theorem dX3_copyRow_3 : decode cX3_copyRow 3 = .ok (.iload 4, 2) := dk_21 4 (dk_at dksX3_copyRow_0 3 rfl rfl)
theorem dX3_copyRow_5 : decode cX3_copyRow 5 = .ok (.iload_n 1, 1) := dk_27 (dk_at dksX3_copyRow_0 5 rfl rfl)
theorem dX3_copyRow_6 : decode cX3_copyRow 6 = .ok (.if_icmp .ge 25, 3) := dk_162 0 25 (dk_at dksX3_copyRow_0 6 rfl rfl)
theorem dX3_copyRow_9 : decode cX3_copyRow 9 = .ok (.aload_n 0, 1) := dk_42 (dk_at dksX3_copyRow_0 9 rfl rfl)
theorem dX3_copyRow_10 : decode cX3_copyRow 10 = .ok (.iload_n 1, 1) := dk_27 (dk_at dksX3_copyRow_0 10 rfl rfl)
theorem dX3_copyRow_11 : decode cX3_copyRow 11 = .ok (.iload_n 3, 1) := dk_29 (dk_at dksX3_copyRow_0 11 rfl rfl)
theorem dX3_copyRow_12 : decode cX3_copyRow 12 = .ok (.imul, 1) := dk_104 (dk_at dksX3_copyRow_0 12 rfl rfl)
theorem dX3_copyRow_13 : decode cX3_copyRow 13 = .ok (.iload 4, 2) := dk_21 4 (dk_at dksX3_copyRow_0 13 rfl rfl)
theorem dX3_copyRow_15 : decode cX3_copyRow 15 = .ok (.iadd, 1) := dk_96 (dk_at dksX3_copyRow_0 15 rfl rfl)
theorem dX3_copyRow_16 : decode cX3_copyRow 16 = .ok (.aload_n 0, 1) := dk_42 (dk_at dksX3_copyRow_0 16 rfl rfl)
theorem dX3_copyRow_17 : decode cX3_copyRow 17 = .ok (.iload_n 1, 1) := dk_27 (dk_at dksX3_copyRow_0 17 rfl rfl)
theorem dX3_copyRow_18 : decode cX3_copyRow 18 = .ok (.iload_n 2, 1) := dk_28 (dk_at dksX3_copyRow_0 18 rfl rfl)
theorem dX3_copyRow_19 : decode cX3_copyRow 19 = .ok (.imul, 1) := dk_104 (dk_at dksX3_copyRow_0 19 rfl rfl)
theorem dX3_copyRow_20 : decode cX3_copyRow 20 = .ok (.iload 4, 2) := dk_21 4 (dk_at dksX3_copyRow_0 20 rfl rfl)
theorem dX3_copyRow_22 : decode cX3_copyRow 22 = .ok (.iadd, 1) := dk_96 (dk_at dksX3_copyRow_0 22 rfl rfl)
theorem dX3_copyRow_23 : decode cX3_copyRow 23 = .ok (.iaload, 1) := dk_46 (dk_at dksX3_copyRow_0 23 rfl rfl)
theorem dX3_copyRow_24 : decode cX3_copyRow 24 = .ok (.iastore, 1) := dk_79 (dk_at dksX3_copyRow_1 0 rfl rfl)
theorem dX3_copyRow_25 : decode cX3_copyRow 25 = .ok (.iinc 4 1, 3) := dk_132 4 1 (dk_at dksX3_copyRow_1 1 rfl rfl)
theorem dX3_copyRow_28 : decode cX3_copyRow 28 = .ok (.goto (-25), 3) := dk_167 255 231 (dk_at dksX3_copyRow_1 4 rfl rfl)
theorem dX3_copyRow_31 : decode cX3_copyRow 31 = .ok (.return_, 1) := dk_177 (dk_at dksX3_copyRow_1 7 rfl rfl)
def dkwX3_again_1 : List UInt8 := [172, 42, 27, 4, 96, 3, 182, 1, 235, 4, 172]
abbrev dktX3_again_1 : List UInt8 := dkwX3_again_1 ++ []
def dkwX3_again_0 : List UInt8 := [42, 3, 181, 0, 111, 27, 3, 5, 184, 0, 123, 153, 0, 12, 42, 180, 0, 107, 27, 51, 154, 0, 5, 3]
abbrev dktX3_again_0 : List UInt8 := dkwX3_again_0 ++ dktX3_again_1
theorem dksX3_again_0 : cX3_again.data.toList.drop 0 = dktX3_again_0 := by decide +kernel
theorem dksX3_again_1 : cX3_again.data.toList.drop 24 = dktX3_again_1 := dk_seg dksX3_again_0 24 rfl rfl
theorem dX3_again_0 : decode cX3_again 0 = .ok (.aload_n 0, 1) := dk_42 (dk_at dksX3_again_0 0 rfl rfl)
theorem dX3_again_1 : decode cX3_again 1 = .ok (.iconst 0, 1) := dk_3 (dk_at dksX3_again_0 1 rfl rfl)
theorem dX3_again_2 : decode cX3_again 2 = .ok (.putfield 111, 3) := dk_181 0 111 (dk_at dksX3_again_0 2 rfl rfl)
theorem dX3_again_5 : decode cX3_again 5 = .ok (.iload_n 1, 1) := dk_27 (dk_at dksX3_again_0 5 rfl rfl)
theorem dX3_again_6 : decode cX3_again 6 = .ok (.iconst 0, 1) := dk_3 (dk_at dksX3_again_0 6 rfl rfl)
theorem dX3_again_7 : decode cX3_again 7 = .ok (.iconst 2, 1) := dk_5 (dk_at dksX3_again_0 7 rfl rfl)
theorem dX3_again_8 : decode cX3_again 8 = .ok (.invokestatic 123, 3) := dk_184 0 123 (dk_at dksX3_again_0 8 rfl rfl)
theorem dX3_again_11 : decode cX3_again 11 = .ok (.ifCond .eq 12, 3) := dk_153 0 12 (dk_at dksX3_again_0 11 rfl rfl)
theorem dX3_again_14 : decode cX3_again 14 = .ok (.aload_n 0, 1) := dk_42 (dk_at dksX3_again_0 14 rfl rfl)
theorem dX3_again_15 : decode cX3_again 15 = .ok (.getfield 107, 3) := dk_180 0 107 (dk_at dksX3_again_0 15 rfl rfl)
theorem dX3_again_18 : decode cX3_again 18 = .ok (.iload_n 1, 1) := dk_27 (dk_at dksX3_again_0 18 rfl rfl)
theorem dX3_again_19 : decode cX3_again 19 = .ok (.baload, 1) := dk_51 (dk_at dksX3_again_0 19 rfl rfl)
theorem dX3_again_20 : decode cX3_again 20 = .ok (.ifCond .ne 5, 3) := dk_154 0 5 (dk_at dksX3_again_0 20 rfl rfl)
theorem dX3_again_23 : decode cX3_again 23 = .ok (.iconst 0, 1) := dk_3 (dk_at dksX3_again_0 23 rfl rfl)
theorem dX3_again_24 : decode cX3_again 24 = .ok (.ireturn, 1) := dk_172 (dk_at dksX3_again_1 0 rfl rfl)
theorem dX3_again_25 : decode cX3_again 25 = .ok (.aload_n 0, 1) := dk_42 (dk_at dksX3_again_1 1 rfl rfl)
theorem dX3_again_26 : decode cX3_again 26 = .ok (.iload_n 1, 1) := dk_27 (dk_at dksX3_again_1 2 rfl rfl)
theorem dX3_again_27 : decode cX3_again 27 = .ok (.iconst 1, 1) := dk_4 (dk_at dksX3_again_1 3 rfl rfl)
theorem dX3_again_28 : decode cX3_again 28 = .ok (.iadd, 1) := dk_96 (dk_at dksX3_again_1 4 rfl rfl)
theorem dX3_again_29 : decode cX3_again 29 = .ok (.iconst 0, 1) := dk_3 (dk_at dksX3_again_1 5 rfl rfl)
theorem dX3_again_30 : decode cX3_again 30 = .ok (.invokevirtual 491, 3) := dk_182 1 235 (dk_at dksX3_again_1 6 rfl rfl)
theorem dX3_again_33 : decode cX3_again 33 = .ok (.iconst 1, 1) := dk_4 (dk_at dksX3_again_1 9 rfl rfl)
theorem dX3_again_34 : decode cX3_again 34 = .ok (.ireturn, 1) := dk_172 (dk_at dksX3_again_1 10 rfl rfl)
