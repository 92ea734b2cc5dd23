set_option maxRecDepth 100000
def dkwX4_init_4 : List UInt8 := [180, 0, 9, 16, 7, 4, 79, 42, 180, 0, 9, 16, 8, 8, 79, 177]
abbrev dktX4_init_4 : List UInt8 := dkwX4_init_4 ++ []
def dkwX4_init_3 : List UInt8 := [188, 10, 181, 0, 35, 42, 16, 124, 188, 10, 181, 0, 38, 42, 180, 0, 9, 16, 6, 17, 3, 232, 79, 42]
abbrev dktX4_init_3 : List UInt8 := dkwX4_init_3 ++ dktX4_init_4
def dkwX4_init_2 : List UInt8 := [181, 0, 22, 42, 2, 181, 0, 25, 42, 2, 181, 0, 29, 42, 16, 120, 188, 10, 181, 0, 32, 42, 16, 60]
abbrev dktX4_init_2 : List UInt8 := dkwX4_init_2 ++ dktX4_init_3
def dkwX4_init_1 : List UInt8 := [17, 0, 204, 188, 10, 181, 0, 16, 42, 17, 6, 96, 188, 10, 181, 0, 19, 42, 16, 12, 188, 10]
abbrev dktX4_init_1 : List UInt8 := dkwX4_init_1 ++ dktX4_init_2
def dkwX4_init_0 : List UInt8 := [42, 183, 0, 3, 42, 17, 0, 204, 188, 10, 181, 0, 9, 42, 17, 0, 204, 188, 10, 181, 0, 13, 42]
abbrev dktX4_init_0 : List UInt8 := dkwX4_init_0 ++ dktX4_init_1
theorem dksX4_init_0 : cX4_init.data.toList.drop 0 = dktX4_init_0 := by decide +kernel
theorem dksX4_init_1 : cX4_init.data.toList.drop 23 = dktX4_init_1 := dk_seg dksX4_init_0 23 rfl rfl
theorem dksX4_init_2 : cX4_init.data.toList.drop 45 = dktX4_init_2 := dk_seg dksX4_init_1 22 rfl rfl
theorem dksX4_init_3 : cX4_init.data.toList.drop 69 = dktX4_init_3 := dk_seg dksX4_init_2 24 rfl rfl
theorem dksX4_init_4 : cX4_init.data.toList.drop 93 = dktX4_init_4 := dk_seg dksX4_init_3 24 rfl rfl
theorem dX4_init_0 : decode cX4_init 0 = .ok (.aload_n 0, 1) := dk_42 (dk_at dksX4_init_0 0 rfl rfl)
theorem dX4_init_1 : decode cX4_init 1 = .ok (.invokespecial 3, 3) := dk_183 0 3 (dk_at dksX4_init_0 1 rfl rfl)
theorem dX4_init_4 : decode cX4_init 4 = .ok (.aload_n 0, 1) := dk_42 (dk_at dksX4_init_0 4 rfl rfl)
theorem dX4_init_5 : decode cX4_init 5 = .ok (.sipush 204, 3) := dk_17 0 204 (dk_at dksX4_init_0 5 rfl rfl)
theorem dX4_init_8 : decode cX4_init 8 = .ok (.newarray .int, 2) := dk_188_10 (dk_at dksX4_init_0 8 rfl rfl)
theorem dX4_init_10 : decode cX4_init 10 = .ok (.putfield 9, 3) := dk_181 0 9 (dk_at dksX4_init_0 10 rfl rfl)
theorem dX4_init_13 : decode cX4_init 13 = .ok (.aload_n 0, 1) := dk_42 (dk_at dksX4_init_0 13 rfl rfl)
theorem dX4_init_14 : decode cX4_init 14 = .ok (.sipush 204, 3) := dk_17 0 204 (dk_at dksX4_init_0 14 rfl rfl)
theorem dX4_init_17 : decode cX4_init 17 = .ok (.newarray .int, 2) := dk_188_10 (dk_at dksX4_init_0 17 rfl rfl)
theorem dX4_init_19 : decode cX4_init 19 = .ok (.putfield 13, 3) := dk_181 0 13 (dk_at dksX4_init_0 19 rfl rfl)
theorem dX4_init_22 : decode cX4_init 22 = .ok (.aload_n 0, 1) := dk_42 (dk_at dksX4_init_0 22 rfl rfl)
theorem dX4_init_23 : decode cX4_init 23 = .ok (.sipush 204, 3) := dk_17 0 204 (dk_at dksX4_init_1 0 rfl rfl)
theorem dX4_init_26 : decode cX4_init 26 = .ok (.newarray .int, 2) := dk_188_10 (dk_at dksX4_init_1 3 rfl rfl)
theorem dX4_init_28 : decode cX4_init 28 = .ok (.putfield 16, 3) := dk_181 0 16 (dk_at dksX4_init_1 5 rfl rfl)
theorem dX4_init_31 : decode cX4_init 31 = .ok (.aload_n 0, 1) := dk_42 (dk_at dksX4_init_1 8 rfl rfl)
theorem dX4_init_32 : decode cX4_init 32 = .ok (.sipush 1632, 3) := dk_17 6 96 (dk_at dksX4_init_1 9 rfl rfl)
theorem dX4_init_35 : decode cX4_init 35 = .ok (.newarray .int, 2) := dk_188_10 (dk_at dksX4_init_1 12 rfl rfl)
theorem dX4_init_37 : decode cX4_init 37 = .ok (.putfield 19, 3) := dk_181 0 19 (dk_at dksX4_init_1 14 rfl rfl)
theorem dX4_init_40 : decode cX4_init 40 = .ok (.aload_n 0, 1) := dk_42 (dk_at dksX4_init_1 17 rfl rfl)
theorem dX4_init_41 : decode cX4_init 41 = .ok (.bipush 12, 2) := dk_16 12 (dk_at dksX4_init_1 18 rfl rfl)
theorem dX4_init_43 : decode cX4_init 43 = .ok (.newarray .int, 2) := dk_188_10 (dk_at dksX4_init_1 20 rfl rfl)
theorem dX4_init_45 : decode cX4_init 45 = .ok (.putfield 22, 3) := dk_181 0 22 (dk_at dksX4_init_2 0 rfl rfl)
theorem dX4_init_48 : decode cX4_init 48 = .ok (.aload_n 0, 1) := dk_42 (dk_at dksX4_init_2 3 rfl rfl)
theorem dX4_init_49 : decode cX4_init 49 = .ok (.iconst (-1), 1) := dk_2 (dk_at dksX4_init_2 4 rfl rfl)
theorem dX4_init_50 : decode cX4_init 50 = .ok (.putfield 25, 3) := dk_181 0 25 (dk_at dksX4_init_2 5 rfl rfl)
theorem dX4_init_53 : decode cX4_init 53 = .ok (.aload_n 0, 1) := dk_42 (dk_at dksX4_init_2 8 rfl rfl)
theorem dX4_init_54 : decode cX4_init 54 = .ok (.iconst (-1), 1) := dk_2 (dk_at dksX4_init_2 9 rfl rfl)
theorem dX4_init_55 : decode cX4_init 55 = .ok (.putfield 29, 3) := dk_181 0 29 (dk_at dksX4_init_2 10 rfl rfl)
theorem dX4_init_58 : decode cX4_init 58 = .ok (.aload_n 0, 1) := dk_42 (dk_at dksX4_init_2 13 rfl rfl)
theorem dX4_init_59 : decode cX4_init 59 = .ok (.bipush 120, 2) := dk_16 120 (dk_at dksX4_init_2 14 rfl rfl)
theorem dX4_init_61 : decode cX4_init 61 = .ok (.newarray .int, 2) := dk_188_10 (dk_at dksX4_init_2 16 rfl rfl)
theorem dX4_init_63 : decode cX4_init 63 = .ok (.putfield 32, 3) := dk_181 0 32 (dk_at dksX4_init_2 18 rfl rfl)
theorem dX4_init_66 : decode cX4_init 66 = .ok (.aload_n 0, 1) := dk_42 (dk_at dksX4_init_2 21 rfl rfl)
theorem dX4_init_67 : decode cX4_init 67 = .ok (.bipush 60, 2) := dk_16 60 (dk_at dksX4_init_2 22 rfl rfl)
theorem dX4_init_69 : decode cX4_init 69 = .ok (.newarray .int, 2) := dk_188_10 (dk_at dksX4_init_3 0 rfl rfl)
theorem dX4_init_71 : decode cX4_init 71 = .ok (.putfield 35, 3) := dk_181 0 35 (dk_at dksX4_init_3 2 rfl rfl)
theorem dX4_init_74 : decode cX4_init 74 = .ok (.aload_n 0, 1) := dk_42 (dk_at dksX4_init_3 5 rfl rfl)
theorem dX4_init_75 : decode cX4_init 75 = .ok (.bipush 124, 2) := dk_16 124 (dk_at dksX4_init_3 6 rfl rfl)
theorem dX4_init_77 : decode cX4_init 77 = .ok (.newarray .int, 2) := dk_188_10 (dk_at dksX4_init_3 8 rfl rfl)
theorem dX4_init_79 : decode cX4_init 79 = .ok (.putfield 38, 3) := dk_181 0 38 (dk_at dksX4_init_3 10 rfl rfl)
theorem dX4_init_82 : decode cX4_init 82 = .ok (.aload_n 0, 1) := dk_42 (dk_at dksX4_init_3 13 rfl rfl)
theorem dX4_init_83 : decode cX4_init 83 = .ok (.getfield 9, 3) := dk_180 0 9 (dk_at dksX4_init_3 14 rfl rfl)
theorem dX4_init_86 : decode cX4_init 86 = .ok (.bipush 6, 2) := dk_16 6 (dk_at dksX4_init_3 17 rfl rfl)
theorem dX4_init_88 : decode cX4_init 88 = .ok (.sipush 1000, 3) := dk_17 3 232 (dk_at dksX4_init_3 19 rfl rfl)
theorem dX4_init_91 : decode cX4_init 91 = .ok (.iastore, 1) := dk_79 (dk_at dksX4_init_3 22 rfl rfl)
theorem dX4_init_92 : decode cX4_init 92 = .ok (.aload_n 0, 1) := dk_42 (dk_at dksX4_init_3 23 rfl rfl)
theorem dX4_init_93 : decode cX4_init 93 = .ok (.getfield 9, 3) := dk_180 0 9 (dk_at dksX4_init_4 0 rfl rfl)
theorem dX4_init_96 : decode cX4_init 96 = .ok (.bipush 7, 2) := dk_16 7 (dk_at dksX4_init_4 3 rfl rfl)
theorem dX4_init_98 : decode cX4_init 98 = .ok (.iconst 1, 1) := dk_4 (dk_at dksX4_init_4 5 rfl rfl)
theorem dX4_init_99 : decode cX4_init 99 = .ok (.iastore, 1) := dk_79 (dk_at dksX4_init_4 6 rfl rfl)
theorem dX4_init_100 : decode cX4_init 100 = .ok (.aload_n 0, 1) := dk_42 (dk_at dksX4_init_4 7 rfl rfl)
theorem dX4_init_101 : decode cX4_init 101 = .ok (.getfield 9, 3) := dk_180 0 9 (dk_at dksX4_init_4 8 rfl rfl)
theorem dX4_init_104 : decode cX4_init 104 = .ok (.bipush 8, 2) := dk_16 8 (dk_at dksX4_init_4 11 rfl rfl)
theorem dX4_init_106 : decode cX4_init 106 = .ok (.iconst 5, 1) := dk_8 (dk_at dksX4_init_4 13 rfl rfl)
theorem dX4_init_107 : decode cX4_init 107 = .ok (.iastore, 1) := dk_79 (dk_at dksX4_init_4 14 rfl rfl)
theorem dX4_init_108 : decode cX4_init 108 = .ok (.return_, 1) := dk_177 (dk_at dksX4_init_4 15 rfl rfl)
theorem dX4_thrown_0 : decode cX4_thrown 0 = .ok (.aload_n 0, 1) := by decide +kernel
theorem dX4_thrown_1 : decode cX4_thrown 1 = .ok (.getfield 41, 3) := by decide +kernel
theorem dX4_thrown_4 : decode cX4_thrown 4 = .ok (.ireturn, 1) := by decide +kernel
def dkwX4_addWaypoint_0 : List UInt8 := [42, 182, 0, 67, 42, 42, 27, 28, 29, 182, 0, 70, 182, 0, 74, 172]
abbrev dktX4_addWaypoint_0 : List UInt8 := dkwX4_addWaypoint_0 ++ []
theorem dksX4_addWaypoint_0 : cX4_addWaypoint.data.toList.drop 0 = dktX4_addWaypoint_0 := by decide +kernel
theorem dX4_addWaypoint_0 : decode cX4_addWaypoint 0 = .ok (.aload_n 0, 1) := dk_42 (dk_at dksX4_addWaypoint_0 0 rfl rfl)
theorem dX4_addWaypoint_1 : decode cX4_addWaypoint 1 = .ok (.invokevirtual 67, 3) := dk_182 0 67 (dk_at dksX4_addWaypoint_0 1 rfl rfl)
theorem dX4_addWaypoint_4 : decode cX4_addWaypoint 4 = .ok (.aload_n 0, 1) := dk_42 (dk_at dksX4_addWaypoint_0 4 rfl rfl)
theorem dX4_addWaypoint_5 : decode cX4_addWaypoint 5 = .ok (.aload_n 0, 1) := dk_42 (dk_at dksX4_addWaypoint_0 5 rfl rfl)
theorem dX4_addWaypoint_6 : decode cX4_addWaypoint 6 = .ok (.iload_n 1, 1) := dk_27 (dk_at dksX4_addWaypoint_0 6 rfl rfl)
theorem dX4_addWaypoint_7 : decode cX4_addWaypoint 7 = .ok (.iload_n 2, 1) := dk_28 (dk_at dksX4_addWaypoint_0 7 rfl rfl)
theorem dX4_addWaypoint_8 : decode cX4_addWaypoint 8 = .ok (.iload_n 3, 1) := dk_29 (dk_at dksX4_addWaypoint_0 8 rfl rfl)
theorem dX4_addWaypoint_9 : decode cX4_addWaypoint 9 = .ok (.invokevirtual 70, 3) := dk_182 0 70 (dk_at dksX4_addWaypoint_0 9 rfl rfl)
theorem dX4_addWaypoint_12 : decode cX4_addWaypoint 12 = .ok (.invokevirtual 74, 3) := dk_182 0 74 (dk_at dksX4_addWaypoint_0 12 rfl rfl)
theorem dX4_addWaypoint_15 : decode cX4_addWaypoint 15 = .ok (.ireturn, 1) := dk_172 (dk_at dksX4_addWaypoint_0 15 rfl rfl)
def dkwX4_keeps_0 : List UInt8 := [42, 180, 0, 9, 3, 42, 180, 0, 13, 3, 184, 0, 44, 42, 3, 181, 0, 41, 177]
abbrev dktX4_keeps_0 : List UInt8 := dkwX4_keeps_0 ++ []
theorem dksX4_keeps_0 : cX4_keeps.data.toList.drop 0 = dktX4_keeps_0 := by decide +kernel
theorem dX4_keeps_0 : decode cX4_keeps 0 = .ok (.aload_n 0, 1) := dk_42 (dk_at dksX4_keeps_0 0 rfl rfl)
theorem dX4_keeps_1 : decode cX4_keeps 1 = .ok (.getfield 9, 3) := dk_180 0 9 (dk_at dksX4_keeps_0 1 rfl rfl)
theorem dX4_keeps_4 : decode cX4_keeps 4 = .ok (.iconst 0, 1) := dk_3 (dk_at dksX4_keeps_0 4 rfl rfl)
theorem dX4_keeps_5 : decode cX4_keeps 5 = .ok (.aload_n 0, 1) := dk_42 (dk_at dksX4_keeps_0 5 rfl rfl)
theorem dX4_keeps_6 : decode cX4_keeps 6 = .ok (.getfield 13, 3) := dk_180 0 13 (dk_at dksX4_keeps_0 6 rfl rfl)
theorem dX4_keeps_9 : decode cX4_keeps 9 = .ok (.iconst 0, 1) := dk_3 (dk_at dksX4_keeps_0 9 rfl rfl)
theorem dX4_keeps_10 : decode cX4_keeps 10 = .ok (.invokestatic 44, 3) := dk_184 0 44 (dk_at dksX4_keeps_0 10 rfl rfl)
theorem dX4_keeps_13 : decode cX4_keeps 13 = .ok (.aload_n 0, 1) := dk_42 (dk_at dksX4_keeps_0 13 rfl rfl)
theorem dX4_keeps_14 : decode cX4_keeps 14 = .ok (.iconst 0, 1) := dk_3 (dk_at dksX4_keeps_0 14 rfl rfl)
theorem dX4_keeps_15 : decode cX4_keeps 15 = .ok (.putfield 41, 3) := dk_181 0 41 (dk_at dksX4_keeps_0 15 rfl rfl)
theorem dX4_keeps_18 : decode cX4_keeps 18 = .ok (.return_, 1) := dk_177 (dk_at dksX4_keeps_0 18 rfl rfl)
def dkwX4_copies_1 : List UInt8 := [132, 4, 1, 167, 255, 233, 177]
abbrev dktX4_copies_1 : List UInt8 := dkwX4_copies_1 ++ []
def dkwX4_copies_0 : List UInt8 := [3, 54, 4, 21, 4, 17, 0, 204, 162, 0, 21, 44, 29, 21, 4, 96, 42, 27, 21, 4, 96, 46, 79]
abbrev dktX4_copies_0 : List UInt8 := dkwX4_copies_0 ++ dktX4_copies_1
theorem dksX4_copies_0 : cX4_copies.data.toList.drop 0 = dktX4_copies_0 := by decide +kernel
theorem dksX4_copies_1 : cX4_copies.data.toList.drop 23 = dktX4_copies_1 := dk_seg dksX4_copies_0 23 rfl rfl
theorem dX4_copies_0 : decode cX4_copies 0 = .ok (.iconst 0, 1) := dk_3 (dk_at dksX4_copies_0 0 rfl rfl)
theorem dX4_copies_1 : decode cX4_copies 1 = .ok (.istore 4, 2) := dk_54 4 (dk_at dksX4_copies_0 1 rfl rfl)
theorem dX4_copies_3 : decode cX4_copies 3 = .ok (.iload 4, 2) := dk_21 4 (dk_at dksX4_copies_0 3 rfl rfl)
theorem dX4_copies_5 : decode cX4_copies 5 = .ok (.sipush 204, 3) := dk_17 0 204 (dk_at dksX4_copies_0 5 rfl rfl)
theorem dX4_copies_8 : decode cX4_copies 8 = .ok (.if_icmp .ge 21, 3) := dk_162 0 21 (dk_at dksX4_copies_0 8 rfl rfl)
theorem dX4_copies_11 : decode cX4_copies 11 = .ok (.aload_n 2, 1) := dk_44 (dk_at dksX4_copies_0 11 rfl rfl)
theorem dX4_copies_12 : decode cX4_copies 12 = .ok (.iload_n 3, 1) := dk_29 (dk_at dksX4_copies_0 12 rfl rfl)
theorem dX4_copies_13 : decode cX4_copies 13 = .ok (.iload 4, 2) := dk_21 4 (dk_at dksX4_copies_0 13 rfl rfl)
theorem dX4_copies_15 : decode cX4_copies 15 = .ok (.iadd, 1) := dk_96 (dk_at dksX4_copies_0 15 rfl rfl)
theorem dX4_copies_16 : decode cX4_copies 16 = .ok (.aload_n 0, 1) := dk_42 (dk_at dksX4_copies_0 16 rfl rfl)
theorem dX4_copies_17 : decode cX4_copies 17 = .ok (.iload_n 1, 1) := dk_27 (dk_at dksX4_copies_0 17 rfl rfl)
theorem dX4_copies_18 : decode cX4_copies 18 = .ok (.iload 4, 2) := dk_21 4 (dk_at dksX4_copies_0 18 rfl rfl)
theorem dX4_copies_20 : decode cX4_copies 20 = .ok (.iadd, 1) := dk_96 (dk_at dksX4_copies_0 20 rfl rfl)
theorem dX4_copies_21 : decode cX4_copies 21 = .ok (.iaload, 1) := dk_46 (dk_at dksX4_copies_0 21 rfl rfl)
theorem dX4_copies_22 : decode cX4_copies 22 = .ok (.iastore, 1) := dk_79 (dk_at dksX4_copies_0 22 rfl rfl)
theorem dX4_copies_23 : decode cX4_copies 23 = .ok (.iinc 4 1, 3) := dk_132 4 1 (dk_at dksX4_copies_1 0 rfl rfl)
theorem dX4_copies_26 : decode cX4_copies 26 = .ok (.goto (-23), 3) := dk_167 255 233 (dk_at dksX4_copies_1 3 rfl rfl)
theorem dX4_copies_29 : decode cX4_copies 29 = .ok (.return_, 1) := dk_177 (dk_at dksX4_copies_1 6 rfl rfl)
def dkwX4_points_5 : List UInt8 := [172]
abbrev dktX4_points_5 : List UInt8 := dkwX4_points_5 ++ []
def dkwX4_points_4 : List UInt8 := [21, 4, 5, 96, 29, 79, 42, 180, 0, 9, 3, 92, 46, 4, 96, 79, 42, 180, 0, 9, 3, 46, 4, 100]
abbrev dktX4_points_4 : List UInt8 := dkwX4_points_4 ++ dktX4_points_5
def dkwX4_points_3 : List UInt8 := [180, 0, 9, 21, 4, 3, 96, 27, 79, 42, 180, 0, 9, 21, 4, 4, 96, 28, 79, 42, 180, 0, 9]
abbrev dktX4_points_3 : List UInt8 := dkwX4_points_3 ++ dktX4_points_4
def dkwX4_points_2 : List UInt8 := [5, 182, 0, 63, 153, 0, 5, 3, 172, 16, 12, 6, 42, 180, 0, 9, 3, 46, 104, 96, 54, 4, 42]
abbrev dktX4_points_2 : List UInt8 := dkwX4_points_2 ++ dktX4_points_3
def dkwX4_points_1 : List UInt8 := [4, 182, 0, 63, 154, 0, 27, 42, 42, 180, 0, 9, 3, 46, 16, 12, 160, 0, 7, 4, 167, 0, 4, 3]
abbrev dktX4_points_1 : List UInt8 := dkwX4_points_1 ++ dktX4_points_2
def dkwX4_points_0 : List UInt8 := [42, 27, 28, 184, 0, 59, 153, 0, 13, 29, 4, 16, 9, 184, 0, 51, 154, 0, 7, 4, 167, 0, 4, 3]
abbrev dktX4_points_0 : List UInt8 := dkwX4_points_0 ++ dktX4_points_1
theorem dksX4_points_0 : cX4_points.data.toList.drop 0 = dktX4_points_0 := by decide +kernel
theorem dksX4_points_1 : cX4_points.data.toList.drop 24 = dktX4_points_1 := dk_seg dksX4_points_0 24 rfl rfl
theorem dksX4_points_2 : cX4_points.data.toList.drop 48 = dktX4_points_2 := dk_seg dksX4_points_1 24 rfl rfl
theorem dksX4_points_3 : cX4_points.data.toList.drop 71 = dktX4_points_3 := dk_seg dksX4_points_2 23 rfl rfl
theorem dksX4_points_4 : cX4_points.data.toList.drop 94 = dktX4_points_4 := dk_seg dksX4_points_3 23 rfl rfl
theorem dksX4_points_5 : cX4_points.data.toList.drop 118 = dktX4_points_5 := dk_seg dksX4_points_4 24 rfl rfl
theorem dX4_points_0 : decode cX4_points 0 = .ok (.aload_n 0, 1) := dk_42 (dk_at dksX4_points_0 0 rfl rfl)
theorem dX4_points_1 : decode cX4_points 1 = .ok (.iload_n 1, 1) := dk_27 (dk_at dksX4_points_0 1 rfl rfl)
theorem dX4_points_2 : decode cX4_points 2 = .ok (.iload_n 2, 1) := dk_28 (dk_at dksX4_points_0 2 rfl rfl)
theorem dX4_points_3 : decode cX4_points 3 = .ok (.invokestatic 59, 3) := dk_184 0 59 (dk_at dksX4_points_0 3 rfl rfl)
theorem dX4_points_6 : decode cX4_points 6 = .ok (.ifCond .eq 13, 3) := dk_153 0 13 (dk_at dksX4_points_0 6 rfl rfl)
theorem dX4_points_9 : decode cX4_points 9 = .ok (.iload_n 3, 1) := dk_29 (dk_at dksX4_points_0 9 rfl rfl)
theorem dX4_points_10 : decode cX4_points 10 = .ok (.iconst 1, 1) := dk_4 (dk_at dksX4_points_0 10 rfl rfl)
theorem dX4_points_11 : decode cX4_points 11 = .ok (.bipush 9, 2) := dk_16 9 (dk_at dksX4_points_0 11 rfl rfl)
theorem dX4_points_13 : decode cX4_points 13 = .ok (.invokestatic 51, 3) := dk_184 0 51 (dk_at dksX4_points_0 13 rfl rfl)
theorem dX4_points_16 : decode cX4_points 16 = .ok (.ifCond .ne 7, 3) := dk_154 0 7 (dk_at dksX4_points_0 16 rfl rfl)
theorem dX4_points_19 : decode cX4_points 19 = .ok (.iconst 1, 1) := dk_4 (dk_at dksX4_points_0 19 rfl rfl)
theorem dX4_points_20 : decode cX4_points 20 = .ok (.goto 4, 3) := dk_167 0 4 (dk_at dksX4_points_0 20 rfl rfl)
theorem dX4_points_23 : decode cX4_points 23 = .ok (.iconst 0, 1) := dk_3 (dk_at dksX4_points_0 23 rfl rfl)
theorem dX4_points_24 : decode cX4_points 24 = .ok (.iconst 1, 1) := dk_4 (dk_at dksX4_points_1 0 rfl rfl)
theorem dX4_points_25 : decode cX4_points 25 = .ok (.invokevirtual 63, 3) := dk_182 0 63 (dk_at dksX4_points_1 1 rfl rfl)
theorem dX4_points_28 : decode cX4_points 28 = .ok (.ifCond .ne 27, 3) := dk_154 0 27 (dk_at dksX4_points_1 4 rfl rfl)
theorem dX4_points_31 : decode cX4_points 31 = .ok (.aload_n 0, 1) := dk_42 (dk_at dksX4_points_1 7 rfl rfl)
theorem dX4_points_32 : decode cX4_points 32 = .ok (.aload_n 0, 1) := dk_42 (dk_at dksX4_points_1 8 rfl rfl)
theorem dX4_points_33 : decode cX4_points 33 = .ok (.getfield 9, 3) := dk_180 0 9 (dk_at dksX4_points_1 9 rfl rfl)
theorem dX4_points_36 : decode cX4_points 36 = .ok (.iconst 0, 1) := dk_3 (dk_at dksX4_points_1 12 rfl rfl)
theorem dX4_points_37 : decode cX4_points 37 = .ok (.iaload, 1) := dk_46 (dk_at dksX4_points_1 13 rfl rfl)
theorem dX4_points_38 : decode cX4_points 38 = .ok (.bipush 12, 2) := dk_16 12 (dk_at dksX4_points_1 14 rfl rfl)
theorem dX4_points_40 : decode cX4_points 40 = .ok (.if_icmp .ne 7, 3) := dk_160 0 7 (dk_at dksX4_points_1 16 rfl rfl)
theorem dX4_points_43 : decode cX4_points 43 = .ok (.iconst 1, 1) := dk_4 (dk_at dksX4_points_1 19 rfl rfl)
theorem dX4_points_44 : decode cX4_points 44 = .ok (.goto 4, 3) := dk_167 0 4 (dk_at dksX4_points_1 20 rfl rfl)
theorem dX4_points_47 : decode cX4_points 47 = .ok (.iconst 0, 1) := dk_3 (dk_at dksX4_points_1 23 rfl rfl)
theorem dX4_points_48 : decode cX4_points 48 = .ok (.iconst 2, 1) := dk_5 (dk_at dksX4_points_2 0 rfl rfl)
theorem dX4_points_49 : decode cX4_points 49 = .ok (.invokevirtual 63, 3) := dk_182 0 63 (dk_at dksX4_points_2 1 rfl rfl)
theorem dX4_points_52 : decode cX4_points 52 = .ok (.ifCond .eq 5, 3) := dk_153 0 5 (dk_at dksX4_points_2 4 rfl rfl)
theorem dX4_points_55 : decode cX4_points 55 = .ok (.iconst 0, 1) := dk_3 (dk_at dksX4_points_2 7 rfl rfl)
theorem dX4_points_56 : decode cX4_points 56 = .ok (.ireturn, 1) := dk_172 (dk_at dksX4_points_2 8 rfl rfl)
theorem dX4_points_57 : decode cX4_points 57 = .ok (.bipush 12, 2) := dk_16 12 (dk_at dksX4_points_2 9 rfl rfl)
theorem dX4_points_59 : decode cX4_points 59 = .ok (.iconst 3, 1) := dk_6 (dk_at dksX4_points_2 11 rfl rfl)
theorem dX4_points_60 : decode cX4_points 60 = .ok (.aload_n 0, 1) := dk_42 (dk_at dksX4_points_2 12 rfl rfl)
theorem dX4_points_61 : decode cX4_points 61 = .ok (.getfield 9, 3) := dk_180 0 9 (dk_at dksX4_points_2 13 rfl rfl)
theorem dX4_points_64 : decode cX4_points 64 = .ok (.iconst 0, 1) := dk_3 (dk_at dksX4_points_2 16 rfl rfl)
theorem dX4_points_65 : decode cX4_points 65 = .ok (.iaload, 1) := dk_46 (dk_at dksX4_points_2 17 rfl rfl)
theorem dX4_points_66 : decode cX4_points 66 = .ok (.imul, 1) := dk_104 (dk_at dksX4_points_2 18 rfl rfl)
theorem dX4_points_67 : decode cX4_points 67 = .ok (.iadd, 1) := dk_96 (dk_at dksX4_points_2 19 rfl rfl)
theorem dX4_points_68 : decode cX4_points 68 = .ok (.istore 4, 2) := dk_54 4 (dk_at dksX4_points_2 20 rfl rfl)
theorem dX4_points_70 : decode cX4_points 70 = .ok (.aload_n 0, 1) := dk_42 (dk_at dksX4_points_2 22 rfl rfl)
theorem dX4_points_71 : decode cX4_points 71 = .ok (.getfield 9, 3) := dk_180 0 9 (dk_at dksX4_points_3 0 rfl rfl)
theorem dX4_points_74 : decode cX4_points 74 = .ok (.iload 4, 2) := dk_21 4 (dk_at dksX4_points_3 3 rfl rfl)
theorem dX4_points_76 : decode cX4_points 76 = .ok (.iconst 0, 1) := dk_3 (dk_at dksX4_points_3 5 rfl rfl)
theorem dX4_points_77 : decode cX4_points 77 = .ok (.iadd, 1) := dk_96 (dk_at dksX4_points_3 6 rfl rfl)
theorem dX4_points_78 : decode cX4_points 78 = .ok (.iload_n 1, 1) := dk_27 (dk_at dksX4_points_3 7 rfl rfl)
theorem dX4_points_79 : decode cX4_points 79 = .ok (.iastore, 1) := dk_79 (dk_at dksX4_points_3 8 rfl rfl)
theorem dX4_points_80 : decode cX4_points 80 = .ok (.aload_n 0, 1) := dk_42 (dk_at dksX4_points_3 9 rfl rfl)
theorem dX4_points_81 : decode cX4_points 81 = .ok (.getfield 9, 3) := dk_180 0 9 (dk_at dksX4_points_3 10 rfl rfl)
theorem dX4_points_84 : decode cX4_points 84 = .ok (.iload 4, 2) := dk_21 4 (dk_at dksX4_points_3 13 rfl rfl)
theorem dX4_points_86 : decode cX4_points 86 = .ok (.iconst 1, 1) := dk_4 (dk_at dksX4_points_3 15 rfl rfl)
theorem dX4_points_87 : decode cX4_points 87 = .ok (.iadd, 1) := dk_96 (dk_at dksX4_points_3 16 rfl rfl)
theorem dX4_points_88 : decode cX4_points 88 = .ok (.iload_n 2, 1) := dk_28 (dk_at dksX4_points_3 17 rfl rfl)
theorem dX4_points_89 : decode cX4_points 89 = .ok (.iastore, 1) := dk_79 (dk_at dksX4_points_3 18 rfl rfl)
theorem dX4_points_90 : decode cX4_points 90 = .ok (.aload_n 0, 1) := dk_42 (dk_at dksX4_points_3 19 rfl rfl)
theorem dX4_points_91 : decode cX4_points 91 = .ok (.getfield 9, 3) := dk_180 0 9 (dk_at dksX4_points_3 20 rfl rfl)
theorem dX4_points_94 : decode cX4_points 94 = .ok (.iload 4, 2) := dk_21 4 (dk_at dksX4_points_4 0 rfl rfl)
theorem dX4_points_96 : decode cX4_points 96 = .ok (.iconst 2, 1) := dk_5 (dk_at dksX4_points_4 2 rfl rfl)
theorem dX4_points_97 : decode cX4_points 97 = .ok (.iadd, 1) := dk_96 (dk_at dksX4_points_4 3 rfl rfl)
theorem dX4_points_98 : decode cX4_points 98 = .ok (.iload_n 3, 1) := dk_29 (dk_at dksX4_points_4 4 rfl rfl)
theorem dX4_points_99 : decode cX4_points 99 = .ok (.iastore, 1) := dk_79 (dk_at dksX4_points_4 5 rfl rfl)
theorem dX4_points_100 : decode cX4_points 100 = .ok (.aload_n 0, 1) := dk_42 (dk_at dksX4_points_4 6 rfl rfl)
theorem dX4_points_101 : decode cX4_points 101 = .ok (.getfield 9, 3) := dk_180 0 9 (dk_at dksX4_points_4 7 rfl rfl)
theorem dX4_points_104 : decode cX4_points 104 = .ok (.iconst 0, 1) := dk_3 (dk_at dksX4_points_4 10 rfl rfl)
theorem dX4_points_105 : decode cX4_points 105 = .ok (.dup2, 1) := dk_92 (dk_at dksX4_points_4 11 rfl rfl)
theorem dX4_points_106 : decode cX4_points 106 = .ok (.iaload, 1) := dk_46 (dk_at dksX4_points_4 12 rfl rfl)
theorem dX4_points_107 : decode cX4_points 107 = .ok (.iconst 1, 1) := dk_4 (dk_at dksX4_points_4 13 rfl rfl)
theorem dX4_points_108 : decode cX4_points 108 = .ok (.iadd, 1) := dk_96 (dk_at dksX4_points_4 14 rfl rfl)
theorem dX4_points_109 : decode cX4_points 109 = .ok (.iastore, 1) := dk_79 (dk_at dksX4_points_4 15 rfl rfl)
theorem dX4_points_110 : decode cX4_points 110 = .ok (.aload_n 0, 1) := dk_42 (dk_at dksX4_points_4 16 rfl rfl)
theorem dX4_points_111 : decode cX4_points 111 = .ok (.getfield 9, 3) := dk_180 0 9 (dk_at dksX4_points_4 17 rfl rfl)
theorem dX4_points_114 : decode cX4_points 114 = .ok (.iconst 0, 1) := dk_3 (dk_at dksX4_points_4 20 rfl rfl)
theorem dX4_points_115 : decode cX4_points 115 = .ok (.iaload, 1) := dk_46 (dk_at dksX4_points_4 21 rfl rfl)
theorem dX4_points_116 : decode cX4_points 116 = .ok (.iconst 1, 1) := dk_4 (dk_at dksX4_points_4 22 rfl rfl)
theorem dX4_points_117 : decode cX4_points 117 = .ok (.isub, 1) := dk_100 (dk_at dksX4_points_4 23 rfl rfl)
theorem dX4_points_118 : decode cX4_points 118 = .ok (.ireturn, 1) := dk_172 (dk_at dksX4_points_5 0 rfl rfl)
def dkwX4_isPlace_1 : List UInt8 := [3, 172]
abbrev dktX4_isPlace_1 : List UInt8 := dkwX4_isPlace_1 ++ []
def dkwX4_isPlace_0 : List UInt8 := [26, 3, 16, 99, 184, 0, 51, 153, 0, 17, 27, 3, 16, 99, 184, 0, 51, 153, 0, 7, 4, 167, 0, 4]
abbrev dktX4_isPlace_0 : List UInt8 := dkwX4_isPlace_0 ++ dktX4_isPlace_1
theorem dksX4_isPlace_0 : cX4_isPlace.data.toList.drop 0 = dktX4_isPlace_0 := by decide +kernel
theorem dksX4_isPlace_1 : cX4_isPlace.data.toList.drop 24 = dktX4_isPlace_1 := dk_seg dksX4_isPlace_0 24 rfl rfl
theorem dX4_isPlace_0 : decode cX4_isPlace 0 = .ok (.iload_n 0, 1) := dk_26 (dk_at dksX4_isPlace_0 0 rfl rfl)
theorem dX4_isPlace_1 : decode cX4_isPlace 1 = .ok (.iconst 0, 1) := dk_3 (dk_at dksX4_isPlace_0 1 rfl rfl)
theorem dX4_isPlace_2 : decode cX4_isPlace 2 = .ok (.bipush 99, 2) := dk_16 99 (dk_at dksX4_isPlace_0 2 rfl rfl)
theorem dX4_isPlace_4 : decode cX4_isPlace 4 = .ok (.invokestatic 51, 3) := dk_184 0 51 (dk_at dksX4_isPlace_0 4 rfl rfl)
theorem dX4_isPlace_7 : decode cX4_isPlace 7 = .ok (.ifCond .eq 17, 3) := dk_153 0 17 (dk_at dksX4_isPlace_0 7 rfl rfl)
theorem dX4_isPlace_10 : decode cX4_isPlace 10 = .ok (.iload_n 1, 1) := dk_27 (dk_at dksX4_isPlace_0 10 rfl rfl)
theorem dX4_isPlace_11 : decode cX4_isPlace 11 = .ok (.iconst 0, 1) := dk_3 (dk_at dksX4_isPlace_0 11 rfl rfl)
theorem dX4_isPlace_12 : decode cX4_isPlace 12 = .ok (.bipush 99, 2) := dk_16 99 (dk_at dksX4_isPlace_0 12 rfl rfl)
theorem dX4_isPlace_14 : decode cX4_isPlace 14 = .ok (.invokestatic 51, 3) := dk_184 0 51 (dk_at dksX4_isPlace_0 14 rfl rfl)
theorem dX4_isPlace_17 : decode cX4_isPlace 17 = .ok (.ifCond .eq 7, 3) := dk_153 0 7 (dk_at dksX4_isPlace_0 17 rfl rfl)
theorem dX4_isPlace_20 : decode cX4_isPlace 20 = .ok (.iconst 1, 1) := dk_4 (dk_at dksX4_isPlace_0 20 rfl rfl)
theorem dX4_isPlace_21 : decode cX4_isPlace 21 = .ok (.goto 4, 3) := dk_167 0 4 (dk_at dksX4_isPlace_0 21 rfl rfl)
theorem dX4_isPlace_24 : decode cX4_isPlace 24 = .ok (.iconst 0, 1) := dk_3 (dk_at dksX4_isPlace_1 0 rfl rfl)
theorem dX4_isPlace_25 : decode cX4_isPlace 25 = .ok (.ireturn, 1) := dk_172 (dk_at dksX4_isPlace_1 1 rfl rfl)
def dkwX4_isIn_0 : List UInt8 := [26, 27, 161, 0, 12, 26, 28, 163, 0, 7, 4, 167, 0, 4, 3, 172]
abbrev dktX4_isIn_0 : List UInt8 := dkwX4_isIn_0 ++ []
theorem dksX4_isIn_0 : cX4_isIn.data.toList.drop 0 = dktX4_isIn_0 := by decide +kernel
theorem dX4_isIn_0 : decode cX4_isIn 0 = .ok (.iload_n 0, 1) := dk_26 (dk_at dksX4_isIn_0 0 rfl rfl)
theorem dX4_isIn_1 : decode cX4_isIn 1 = .ok (.iload_n 1, 1) := dk_27 (dk_at dksX4_isIn_0 1 rfl rfl)
theorem dX4_isIn_2 : decode cX4_isIn 2 = .ok (.if_icmp .lt 12, 3) := dk_161 0 12 (dk_at dksX4_isIn_0 2 rfl rfl)
theorem dX4_isIn_5 : decode cX4_isIn 5 = .ok (.iload_n 0, 1) := dk_26 (dk_at dksX4_isIn_0 5 rfl rfl)
theorem dX4_isIn_6 : decode cX4_isIn 6 = .ok (.iload_n 2, 1) := dk_28 (dk_at dksX4_isIn_0 6 rfl rfl)
theorem dX4_isIn_7 : decode cX4_isIn 7 = .ok (.if_icmp .gt 7, 3) := dk_163 0 7 (dk_at dksX4_isIn_0 7 rfl rfl)
theorem dX4_isIn_10 : decode cX4_isIn 10 = .ok (.iconst 1, 1) := dk_4 (dk_at dksX4_isIn_0 10 rfl rfl)
theorem dX4_isIn_11 : decode cX4_isIn 11 = .ok (.goto 4, 3) := dk_167 0 4 (dk_at dksX4_isIn_0 11 rfl rfl)
theorem dX4_isIn_14 : decode cX4_isIn 14 = .ok (.iconst 0, 1) := dk_3 (dk_at dksX4_isIn_0 14 rfl rfl)
theorem dX4_isIn_15 : decode cX4_isIn 15 = .ok (.ireturn, 1) := dk_172 (dk_at dksX4_isIn_0 15 rfl rfl)
def dkwX4_isThrown_0 : List UInt8 := [42, 27, 153, 0, 7, 28, 167, 0, 4, 3, 181, 0, 41, 27, 172]
abbrev dktX4_isThrown_0 : List UInt8 := dkwX4_isThrown_0 ++ []
theorem dksX4_isThrown_0 : cX4_isThrown.data.toList.drop 0 = dktX4_isThrown_0 := by decide +kernel
theorem dX4_isThrown_0 : decode cX4_isThrown 0 = .ok (.aload_n 0, 1) := dk_42 (dk_at dksX4_isThrown_0 0 rfl rfl)
theorem dX4_isThrown_1 : decode cX4_isThrown 1 = .ok (.iload_n 1, 1) := dk_27 (dk_at dksX4_isThrown_0 1 rfl rfl)
theorem dX4_isThrown_2 : decode cX4_isThrown 2 = .ok (.ifCond .eq 7, 3) := dk_153 0 7 (dk_at dksX4_isThrown_0 2 rfl rfl)
theorem dX4_isThrown_5 : decode cX4_isThrown 5 = .ok (.iload_n 2, 1) := dk_28 (dk_at dksX4_isThrown_0 5 rfl rfl)
theorem dX4_isThrown_6 : decode cX4_isThrown 6 = .ok (.goto 4, 3) := dk_167 0 4 (dk_at dksX4_isThrown_0 6 rfl rfl)
theorem dX4_isThrown_9 : decode cX4_isThrown 9 = .ok (.iconst 0, 1) := dk_3 (dk_at dksX4_isThrown_0 9 rfl rfl)
theorem dX4_isThrown_10 : decode cX4_isThrown 10 = .ok (.putfield 41, 3) := dk_181 0 41 (dk_at dksX4_isThrown_0 10 rfl rfl)
theorem dX4_isThrown_13 : decode cX4_isThrown 13 = .ok (.iload_n 1, 1) := dk_27 (dk_at dksX4_isThrown_0 13 rfl rfl)
theorem dX4_isThrown_14 : decode cX4_isThrown 14 = .ok (.ireturn, 1) := dk_172 (dk_at dksX4_isThrown_0 14 rfl rfl)
def dkwX4_ends_4 : List UInt8 := [181, 0, 48, 27, 172]
abbrev dktX4_ends_4 : List UInt8 := dkwX4_ends_4 ++ []
def dkwX4_ends_3 : List UInt8 := [42, 180, 0, 19, 17, 0, 204, 42, 180, 0, 48, 104, 184, 0, 44, 42, 89, 180, 0, 48, 4, 96]
abbrev dktX4_ends_3 : List UInt8 := dkwX4_ends_3 ++ dktX4_ends_4
def dkwX4_ends_2 : List UInt8 := [184, 0, 44, 132, 2, 1, 167, 255, 224, 42, 89, 180, 0, 48, 4, 100, 181, 0, 48, 42, 180, 0, 13, 3]
abbrev dktX4_ends_2 : List UInt8 := dkwX4_ends_2 ++ dktX4_ends_3
def dkwX4_ends_1 : List UInt8 := [162, 0, 32, 42, 180, 0, 19, 17, 0, 204, 28, 104, 42, 180, 0, 19, 17, 0, 204, 28, 4, 100, 104]
abbrev dktX4_ends_1 : List UInt8 := dkwX4_ends_1 ++ dktX4_ends_2
def dkwX4_ends_0 : List UInt8 := [42, 180, 0, 41, 153, 0, 5, 3, 172, 42, 180, 0, 48, 16, 8, 160, 0, 50, 4, 61, 28, 16, 8]
abbrev dktX4_ends_0 : List UInt8 := dkwX4_ends_0 ++ dktX4_ends_1
theorem dksX4_ends_0 : cX4_ends.data.toList.drop 0 = dktX4_ends_0 := by decide +kernel
theorem dksX4_ends_1 : cX4_ends.data.toList.drop 23 = dktX4_ends_1 := dk_seg dksX4_ends_0 23 rfl rfl
theorem dksX4_ends_2 : cX4_ends.data.toList.drop 46 = dktX4_ends_2 := dk_seg dksX4_ends_1 23 rfl rfl
theorem dksX4_ends_3 : cX4_ends.data.toList.drop 70 = dktX4_ends_3 := dk_seg dksX4_ends_2 24 rfl rfl
theorem dksX4_ends_4 : cX4_ends.data.toList.drop 92 = dktX4_ends_4 := dk_seg dksX4_ends_3 22 rfl rfl
theorem dX4_ends_0 : decode cX4_ends 0 = .ok (.aload_n 0, 1) := dk_42 (dk_at dksX4_ends_0 0 rfl rfl)
theorem dX4_ends_1 : decode cX4_ends 1 = .ok (.getfield 41, 3) := dk_180 0 41 (dk_at dksX4_ends_0 1 rfl rfl)
theorem dX4_ends_4 : decode cX4_ends 4 = .ok (.ifCond .eq 5, 3) := dk_153 0 5 (dk_at dksX4_ends_0 4 rfl rfl)
theorem dX4_ends_7 : decode cX4_ends 7 = .ok (.iconst 0, 1) := dk_3 (dk_at dksX4_ends_0 7 rfl rfl)
theorem dX4_ends_8 : decode cX4_ends 8 = .ok (.ireturn, 1) := dk_172 (dk_at dksX4_ends_0 8 rfl rfl)
theorem dX4_ends_9 : decode cX4_ends 9 = .ok (.aload_n 0, 1) := dk_42 (dk_at dksX4_ends_0 9 rfl rfl)
theorem dX4_ends_10 : decode cX4_ends 10 = .ok (.getfield 48, 3) := dk_180 0 48 (dk_at dksX4_ends_0 10 rfl rfl)
theorem dX4_ends_13 : decode cX4_ends 13 = .ok (.bipush 8, 2) := dk_16 8 (dk_at dksX4_ends_0 13 rfl rfl)
theorem dX4_ends_15 : decode cX4_ends 15 = .ok (.if_icmp .ne 50, 3) := dk_160 0 50 (dk_at dksX4_ends_0 15 rfl rfl)
theorem dX4_ends_18 : decode cX4_ends 18 = .ok (.iconst 1, 1) := dk_4 (dk_at dksX4_ends_0 18 rfl rfl)
theorem dX4_ends_19 : decode cX4_ends 19 = .ok (.istore_n 2, 1) := dk_61 (dk_at dksX4_ends_0 19 rfl rfl)
theorem dX4_ends_20 : decode cX4_ends 20 = .ok (.iload_n 2, 1) := dk_28 (dk_at dksX4_ends_0 20 rfl rfl)
theorem dX4_ends_21 : decode cX4_ends 21 = .ok (.bipush 8, 2) := dk_16 8 (dk_at dksX4_ends_0 21 rfl rfl)
theorem dX4_ends_23 : decode cX4_ends 23 = .ok (.if_icmp .ge 32, 3) := dk_162 0 32 (dk_at dksX4_ends_1 0 rfl rfl)
theorem dX4_ends_26 : decode cX4_ends 26 = .ok (.aload_n 0, 1) := dk_42 (dk_at dksX4_ends_1 3 rfl rfl)
theorem dX4_ends_27 : decode cX4_ends 27 = .ok (.getfield 19, 3) := dk_180 0 19 (dk_at dksX4_ends_1 4 rfl rfl)
theorem dX4_ends_30 : decode cX4_ends 30 = .ok (.sipush 204, 3) := dk_17 0 204 (dk_at dksX4_ends_1 7 rfl rfl)
theorem dX4_ends_33 : decode cX4_ends 33 = .ok (.iload_n 2, 1) := dk_28 (dk_at dksX4_ends_1 10 rfl rfl)
theorem dX4_ends_34 : decode cX4_ends 34 = .ok (.imul, 1) := dk_104 (dk_at dksX4_ends_1 11 rfl rfl)
theorem dX4_ends_35 : decode cX4_ends 35 = .ok (.aload_n 0, 1) := dk_42 (dk_at dksX4_ends_1 12 rfl rfl)
theorem dX4_ends_36 : decode cX4_ends 36 = .ok (.getfield 19, 3) := dk_180 0 19 (dk_at dksX4_ends_1 13 rfl rfl)
theorem dX4_ends_39 : decode cX4_ends 39 = .ok (.sipush 204, 3) := dk_17 0 204 (dk_at dksX4_ends_1 16 rfl rfl)
theorem dX4_ends_42 : decode cX4_ends 42 = .ok (.iload_n 2, 1) := dk_28 (dk_at dksX4_ends_1 19 rfl rfl)
theorem dX4_ends_43 : decode cX4_ends 43 = .ok (.iconst 1, 1) := dk_4 (dk_at dksX4_ends_1 20 rfl rfl)
theorem dX4_ends_44 : decode cX4_ends 44 = .ok (.isub, 1) := dk_100 (dk_at dksX4_ends_1 21 rfl rfl)
theorem dX4_ends_45 : decode cX4_ends 45 = .ok (.imul, 1) := dk_104 (dk_at dksX4_ends_1 22 rfl rfl)
theorem dX4_ends_46 : decode cX4_ends 46 = .ok (.invokestatic 44, 3) := dk_184 0 44 (dk_at dksX4_ends_2 0 rfl rfl)
theorem dX4_ends_49 : decode cX4_ends 49 = .ok (.iinc 2 1, 3) := dk_132 2 1 (dk_at dksX4_ends_2 3 rfl rfl)
theorem dX4_ends_52 : decode cX4_ends 52 = .ok (.goto (-32), 3) := dk_167 255 224 (dk_at dksX4_ends_2 6 rfl rfl)
theorem dX4_ends_55 : decode cX4_ends 55 = .ok (.aload_n 0, 1) := dk_42 (dk_at dksX4_ends_2 9 rfl rfl)
theorem dX4_ends_56 : decode cX4_ends 56 = .ok (.dup, 1) := dk_89 (dk_at dksX4_ends_2 10 rfl rfl)
theorem dX4_ends_57 : decode cX4_ends 57 = .ok (.getfield 48, 3) := dk_180 0 48 (dk_at dksX4_ends_2 11 rfl rfl)
theorem dX4_ends_60 : decode cX4_ends 60 = .ok (.iconst 1, 1) := dk_4 (dk_at dksX4_ends_2 14 rfl rfl)
theorem dX4_ends_61 : decode cX4_ends 61 = .ok (.isub, 1) := dk_100 (dk_at dksX4_ends_2 15 rfl rfl)
theorem dX4_ends_62 : decode cX4_ends 62 = .ok (.putfield 48, 3) := dk_181 0 48 (dk_at dksX4_ends_2 16 rfl rfl)
theorem dX4_ends_65 : decode cX4_ends 65 = .ok (.aload_n 0, 1) := dk_42 (dk_at dksX4_ends_2 19 rfl rfl)
theorem dX4_ends_66 : decode cX4_ends 66 = .ok (.getfield 13, 3) := dk_180 0 13 (dk_at dksX4_ends_2 20 rfl rfl)
theorem dX4_ends_69 : decode cX4_ends 69 = .ok (.iconst 0, 1) := dk_3 (dk_at dksX4_ends_2 23 rfl rfl)
theorem dX4_ends_70 : decode cX4_ends 70 = .ok (.aload_n 0, 1) := dk_42 (dk_at dksX4_ends_3 0 rfl rfl)
theorem dX4_ends_71 : decode cX4_ends 71 = .ok (.getfield 19, 3) := dk_180 0 19 (dk_at dksX4_ends_3 1 rfl rfl)
theorem dX4_ends_74 : decode cX4_ends 74 = .ok (.sipush 204, 3) := dk_17 0 204 (dk_at dksX4_ends_3 4 rfl rfl)
theorem dX4_ends_77 : decode cX4_ends 77 = .ok (.aload_n 0, 1) := dk_42 (dk_at dksX4_ends_3 7 rfl rfl)
theorem dX4_ends_78 : decode cX4_ends 78 = .ok (.getfield 48, 3) := dk_180 0 48 (dk_at dksX4_ends_3 8 rfl rfl)
theorem dX4_ends_81 : decode cX4_ends 81 = .ok (.imul, 1) := dk_104 (dk_at dksX4_ends_3 11 rfl rfl)
theorem dX4_ends_82 : decode cX4_ends 82 = .ok (.invokestatic 44, 3) := dk_184 0 44 (dk_at dksX4_ends_3 12 rfl rfl)
theorem dX4_ends_85 : decode cX4_ends 85 = .ok (.aload_n 0, 1) := dk_42 (dk_at dksX4_ends_3 15 rfl rfl)
theorem dX4_ends_86 : decode cX4_ends 86 = .ok (.dup, 1) := dk_89 (dk_at dksX4_ends_3 16 rfl rfl)
theorem dX4_ends_87 : decode cX4_ends 87 = .ok (.getfield 48, 3) := dk_180 0 48 (dk_at dksX4_ends_3 17 rfl rfl)
theorem dX4_ends_90 : decode cX4_ends 90 = .ok (.iconst 1, 1) := dk_4 (dk_at dksX4_ends_3 20 rfl rfl)
theorem dX4_ends_91 : decode cX4_ends 91 = .ok (.iadd, 1) := dk_96 (dk_at dksX4_ends_3 21 rfl rfl)
theorem dX4_ends_92 : decode cX4_ends 92 = .ok (.putfield 48, 3) := dk_181 0 48 (dk_at dksX4_ends_4 0 rfl rfl)
theorem dX4_ends_95 : decode cX4_ends 95 = .ok (.iload_n 1, 1) := dk_27 (dk_at dksX4_ends_4 3 rfl rfl)
theorem dX4_ends_96 : decode cX4_ends 96 = .ok (.ireturn, 1) := dk_172 (dk_at dksX4_ends_4 4 rfl rfl)
def dkwX4_addTrail_0 : List UInt8 := [42, 182, 0, 67, 42, 42, 27, 28, 29, 182, 0, 90, 182, 0, 74, 172]
abbrev dktX4_addTrail_0 : List UInt8 := dkwX4_addTrail_0 ++ []
theorem dksX4_addTrail_0 : cX4_addTrail.data.toList.drop 0 = dktX4_addTrail_0 := by decide +kernel
theorem dX4_addTrail_0 : decode cX4_addTrail 0 = .ok (.aload_n 0, 1) := dk_42 (dk_at dksX4_addTrail_0 0 rfl rfl)
theorem dX4_addTrail_1 : decode cX4_addTrail 1 = .ok (.invokevirtual 67, 3) := dk_182 0 67 (dk_at dksX4_addTrail_0 1 rfl rfl)
theorem dX4_addTrail_4 : decode cX4_addTrail 4 = .ok (.aload_n 0, 1) := dk_42 (dk_at dksX4_addTrail_0 4 rfl rfl)
theorem dX4_addTrail_5 : decode cX4_addTrail 5 = .ok (.aload_n 0, 1) := dk_42 (dk_at dksX4_addTrail_0 5 rfl rfl)
theorem dX4_addTrail_6 : decode cX4_addTrail 6 = .ok (.iload_n 1, 1) := dk_27 (dk_at dksX4_addTrail_0 6 rfl rfl)
theorem dX4_addTrail_7 : decode cX4_addTrail 7 = .ok (.iload_n 2, 1) := dk_28 (dk_at dksX4_addTrail_0 7 rfl rfl)
theorem dX4_addTrail_8 : decode cX4_addTrail 8 = .ok (.iload_n 3, 1) := dk_29 (dk_at dksX4_addTrail_0 8 rfl rfl)
theorem dX4_addTrail_9 : decode cX4_addTrail 9 = .ok (.invokevirtual 90, 3) := dk_182 0 90 (dk_at dksX4_addTrail_0 9 rfl rfl)
theorem dX4_addTrail_12 : decode cX4_addTrail 12 = .ok (.invokevirtual 74, 3) := dk_182 0 74 (dk_at dksX4_addTrail_0 12 rfl rfl)
theorem dX4_addTrail_15 : decode cX4_addTrail 15 = .ok (.ireturn, 1) := dk_172 (dk_at dksX4_addTrail_0 15 rfl rfl)
def dkwX4_joins_4 : List UInt8 := [172]
abbrev dktX4_joins_4 : List UInt8 := dkwX4_joins_4 ++ []
def dkwX4_joins_3 : List UInt8 := [167, 0, 4, 3, 6, 182, 0, 63, 153, 0, 5, 3, 172, 42, 27, 28, 29, 182, 0, 82, 42, 182, 0, 86]
abbrev dktX4_joins_3 : List UInt8 := dkwX4_joins_3 ++ dktX4_joins_4
def dkwX4_joins_2 : List UInt8 := [167, 0, 4, 3, 5, 182, 0, 63, 154, 0, 25, 42, 42, 27, 28, 182, 0, 55, 158, 0, 7, 4]
abbrev dktX4_joins_2 : List UInt8 := dkwX4_joins_2 ++ dktX4_joins_3
def dkwX4_joins_1 : List UInt8 := [182, 0, 63, 154, 0, 53, 42, 27, 28, 159, 0, 13, 29, 4, 16, 99, 184, 0, 51, 154, 0, 7, 4]
abbrev dktX4_joins_1 : List UInt8 := dkwX4_joins_1 ++ dktX4_joins_2
def dkwX4_joins_0 : List UInt8 := [42, 42, 27, 182, 0, 78, 153, 0, 11, 42, 28, 182, 0, 78, 154, 0, 7, 4, 167, 0, 4, 3, 4]
abbrev dktX4_joins_0 : List UInt8 := dkwX4_joins_0 ++ dktX4_joins_1
theorem dksX4_joins_0 : cX4_joins.data.toList.drop 0 = dktX4_joins_0 := by decide +kernel
theorem dksX4_joins_1 : cX4_joins.data.toList.drop 23 = dktX4_joins_1 := dk_seg dksX4_joins_0 23 rfl rfl
theorem dksX4_joins_2 : cX4_joins.data.toList.drop 46 = dktX4_joins_2 := dk_seg dksX4_joins_1 23 rfl rfl
theorem dksX4_joins_3 : cX4_joins.data.toList.drop 68 = dktX4_joins_3 := dk_seg dksX4_joins_2 22 rfl rfl
theorem dksX4_joins_4 : cX4_joins.data.toList.drop 92 = dktX4_joins_4 := dk_seg dksX4_joins_3 24 rfl rfl
theorem dX4_joins_0 : decode cX4_joins 0 = .ok (.aload_n 0, 1) := dk_42 (dk_at dksX4_joins_0 0 rfl rfl)
theorem dX4_joins_1 : decode cX4_joins 1 = .ok (.aload_n 0, 1) := dk_42 (dk_at dksX4_joins_0 1 rfl rfl)
theorem dX4_joins_2 : decode cX4_joins 2 = .ok (.iload_n 1, 1) := dk_27 (dk_at dksX4_joins_0 2 rfl rfl)
theorem dX4_joins_3 : decode cX4_joins 3 = .ok (.invokevirtual 78, 3) := dk_182 0 78 (dk_at dksX4_joins_0 3 rfl rfl)
theorem dX4_joins_6 : decode cX4_joins 6 = .ok (.ifCond .eq 11, 3) := dk_153 0 11 (dk_at dksX4_joins_0 6 rfl rfl)
theorem dX4_joins_9 : decode cX4_joins 9 = .ok (.aload_n 0, 1) := dk_42 (dk_at dksX4_joins_0 9 rfl rfl)
theorem dX4_joins_10 : decode cX4_joins 10 = .ok (.iload_n 2, 1) := dk_28 (dk_at dksX4_joins_0 10 rfl rfl)
theorem dX4_joins_11 : decode cX4_joins 11 = .ok (.invokevirtual 78, 3) := dk_182 0 78 (dk_at dksX4_joins_0 11 rfl rfl)
theorem dX4_joins_14 : decode cX4_joins 14 = .ok (.ifCond .ne 7, 3) := dk_154 0 7 (dk_at dksX4_joins_0 14 rfl rfl)
theorem dX4_joins_17 : decode cX4_joins 17 = .ok (.iconst 1, 1) := dk_4 (dk_at dksX4_joins_0 17 rfl rfl)
theorem dX4_joins_18 : decode cX4_joins 18 = .ok (.goto 4, 3) := dk_167 0 4 (dk_at dksX4_joins_0 18 rfl rfl)
theorem dX4_joins_21 : decode cX4_joins 21 = .ok (.iconst 0, 1) := dk_3 (dk_at dksX4_joins_0 21 rfl rfl)
theorem dX4_joins_22 : decode cX4_joins 22 = .ok (.iconst 1, 1) := dk_4 (dk_at dksX4_joins_0 22 rfl rfl)
theorem dX4_joins_23 : decode cX4_joins 23 = .ok (.invokevirtual 63, 3) := dk_182 0 63 (dk_at dksX4_joins_1 0 rfl rfl)
theorem dX4_joins_26 : decode cX4_joins 26 = .ok (.ifCond .ne 53, 3) := dk_154 0 53 (dk_at dksX4_joins_1 3 rfl rfl)
theorem dX4_joins_29 : decode cX4_joins 29 = .ok (.aload_n 0, 1) := dk_42 (dk_at dksX4_joins_1 6 rfl rfl)
theorem dX4_joins_30 : decode cX4_joins 30 = .ok (.iload_n 1, 1) := dk_27 (dk_at dksX4_joins_1 7 rfl rfl)
theorem dX4_joins_31 : decode cX4_joins 31 = .ok (.iload_n 2, 1) := dk_28 (dk_at dksX4_joins_1 8 rfl rfl)
theorem dX4_joins_32 : decode cX4_joins 32 = .ok (.if_icmp .eq 13, 3) := dk_159 0 13 (dk_at dksX4_joins_1 9 rfl rfl)
theorem dX4_joins_35 : decode cX4_joins 35 = .ok (.iload_n 3, 1) := dk_29 (dk_at dksX4_joins_1 12 rfl rfl)
theorem dX4_joins_36 : decode cX4_joins 36 = .ok (.iconst 1, 1) := dk_4 (dk_at dksX4_joins_1 13 rfl rfl)
theorem dX4_joins_37 : decode cX4_joins 37 = .ok (.bipush 99, 2) := dk_16 99 (dk_at dksX4_joins_1 14 rfl rfl)
theorem dX4_joins_39 : decode cX4_joins 39 = .ok (.invokestatic 51, 3) := dk_184 0 51 (dk_at dksX4_joins_1 16 rfl rfl)
theorem dX4_joins_42 : decode cX4_joins 42 = .ok (.ifCond .ne 7, 3) := dk_154 0 7 (dk_at dksX4_joins_1 19 rfl rfl)
theorem dX4_joins_45 : decode cX4_joins 45 = .ok (.iconst 1, 1) := dk_4 (dk_at dksX4_joins_1 22 rfl rfl)
theorem dX4_joins_46 : decode cX4_joins 46 = .ok (.goto 4, 3) := dk_167 0 4 (dk_at dksX4_joins_2 0 rfl rfl)
theorem dX4_joins_49 : decode cX4_joins 49 = .ok (.iconst 0, 1) := dk_3 (dk_at dksX4_joins_2 3 rfl rfl)
theorem dX4_joins_50 : decode cX4_joins 50 = .ok (.iconst 2, 1) := dk_5 (dk_at dksX4_joins_2 4 rfl rfl)
theorem dX4_joins_51 : decode cX4_joins 51 = .ok (.invokevirtual 63, 3) := dk_182 0 63 (dk_at dksX4_joins_2 5 rfl rfl)
theorem dX4_joins_54 : decode cX4_joins 54 = .ok (.ifCond .ne 25, 3) := dk_154 0 25 (dk_at dksX4_joins_2 8 rfl rfl)
theorem dX4_joins_57 : decode cX4_joins 57 = .ok (.aload_n 0, 1) := dk_42 (dk_at dksX4_joins_2 11 rfl rfl)
theorem dX4_joins_58 : decode cX4_joins 58 = .ok (.aload_n 0, 1) := dk_42 (dk_at dksX4_joins_2 12 rfl rfl)
theorem dX4_joins_59 : decode cX4_joins 59 = .ok (.iload_n 1, 1) := dk_27 (dk_at dksX4_joins_2 13 rfl rfl)
theorem dX4_joins_60 : decode cX4_joins 60 = .ok (.iload_n 2, 1) := dk_28 (dk_at dksX4_joins_2 14 rfl rfl)
theorem dX4_joins_61 : decode cX4_joins 61 = .ok (.invokevirtual 55, 3) := dk_182 0 55 (dk_at dksX4_joins_2 15 rfl rfl)
theorem dX4_joins_64 : decode cX4_joins 64 = .ok (.ifCond .le 7, 3) := dk_158 0 7 (dk_at dksX4_joins_2 18 rfl rfl)
theorem dX4_joins_67 : decode cX4_joins 67 = .ok (.iconst 1, 1) := dk_4 (dk_at dksX4_joins_2 21 rfl rfl)
theorem dX4_joins_68 : decode cX4_joins 68 = .ok (.goto 4, 3) := dk_167 0 4 (dk_at dksX4_joins_3 0 rfl rfl)
theorem dX4_joins_71 : decode cX4_joins 71 = .ok (.iconst 0, 1) := dk_3 (dk_at dksX4_joins_3 3 rfl rfl)
theorem dX4_joins_72 : decode cX4_joins 72 = .ok (.iconst 3, 1) := dk_6 (dk_at dksX4_joins_3 4 rfl rfl)
theorem dX4_joins_73 : decode cX4_joins 73 = .ok (.invokevirtual 63, 3) := dk_182 0 63 (dk_at dksX4_joins_3 5 rfl rfl)
theorem dX4_joins_76 : decode cX4_joins 76 = .ok (.ifCond .eq 5, 3) := dk_153 0 5 (dk_at dksX4_joins_3 8 rfl rfl)
theorem dX4_joins_79 : decode cX4_joins 79 = .ok (.iconst 0, 1) := dk_3 (dk_at dksX4_joins_3 11 rfl rfl)
theorem dX4_joins_80 : decode cX4_joins 80 = .ok (.ireturn, 1) := dk_172 (dk_at dksX4_joins_3 12 rfl rfl)
theorem dX4_joins_81 : decode cX4_joins 81 = .ok (.aload_n 0, 1) := dk_42 (dk_at dksX4_joins_3 13 rfl rfl)
theorem dX4_joins_82 : decode cX4_joins 82 = .ok (.iload_n 1, 1) := dk_27 (dk_at dksX4_joins_3 14 rfl rfl)
theorem dX4_joins_83 : decode cX4_joins 83 = .ok (.iload_n 2, 1) := dk_28 (dk_at dksX4_joins_3 15 rfl rfl)
theorem dX4_joins_84 : decode cX4_joins 84 = .ok (.iload_n 3, 1) := dk_29 (dk_at dksX4_joins_3 16 rfl rfl)
theorem dX4_joins_85 : decode cX4_joins 85 = .ok (.invokevirtual 82, 3) := dk_182 0 82 (dk_at dksX4_joins_3 17 rfl rfl)
theorem dX4_joins_88 : decode cX4_joins 88 = .ok (.aload_n 0, 1) := dk_42 (dk_at dksX4_joins_3 20 rfl rfl)
theorem dX4_joins_89 : decode cX4_joins 89 = .ok (.invokevirtual 86, 3) := dk_182 0 86 (dk_at dksX4_joins_3 21 rfl rfl)
theorem dX4_joins_92 : decode cX4_joins 92 = .ok (.ireturn, 1) := dk_172 (dk_at dksX4_joins_4 0 rfl rfl)
def dkwX4_isPoint_0 : List UInt8 := [27, 3, 42, 180, 0, 9, 3, 46, 4, 100, 184, 0, 51, 172]
abbrev dktX4_isPoint_0 : List UInt8 := dkwX4_isPoint_0 ++ []
theorem dksX4_isPoint_0 : cX4_isPoint.data.toList.drop 0 = dktX4_isPoint_0 := by decide +kernel
theorem dX4_isPoint_0 : decode cX4_isPoint 0 = .ok (.iload_n 1, 1) := dk_27 (dk_at dksX4_isPoint_0 0 rfl rfl)
theorem dX4_isPoint_1 : decode cX4_isPoint 1 = .ok (.iconst 0, 1) := dk_3 (dk_at dksX4_isPoint_0 1 rfl rfl)
theorem dX4_isPoint_2 : decode cX4_isPoint 2 = .ok (.aload_n 0, 1) := dk_42 (dk_at dksX4_isPoint_0 2 rfl rfl)
theorem dX4_isPoint_3 : decode cX4_isPoint 3 = .ok (.getfield 9, 3) := dk_180 0 9 (dk_at dksX4_isPoint_0 3 rfl rfl)
theorem dX4_isPoint_6 : decode cX4_isPoint 6 = .ok (.iconst 0, 1) := dk_3 (dk_at dksX4_isPoint_0 6 rfl rfl)
theorem dX4_isPoint_7 : decode cX4_isPoint 7 = .ok (.iaload, 1) := dk_46 (dk_at dksX4_isPoint_0 7 rfl rfl)
theorem dX4_isPoint_8 : decode cX4_isPoint 8 = .ok (.iconst 1, 1) := dk_4 (dk_at dksX4_isPoint_0 8 rfl rfl)
theorem dX4_isPoint_9 : decode cX4_isPoint 9 = .ok (.isub, 1) := dk_100 (dk_at dksX4_isPoint_0 9 rfl rfl)
theorem dX4_isPoint_10 : decode cX4_isPoint 10 = .ok (.invokestatic 51, 3) := dk_184 0 51 (dk_at dksX4_isPoint_0 10 rfl rfl)
theorem dX4_isPoint_13 : decode cX4_isPoint 13 = .ok (.ireturn, 1) := dk_172 (dk_at dksX4_isPoint_0 13 rfl rfl)
def dkwX4_trail_0 : List UInt8 := [42, 180, 0, 9, 16, 48, 16, 12, 27, 104, 96, 28, 96, 46, 172]
abbrev dktX4_trail_0 : List UInt8 := dkwX4_trail_0 ++ []
theorem dksX4_trail_0 : cX4_trail.data.toList.drop 0 = dktX4_trail_0 := by decide +kernel
theorem dX4_trail_0 : decode cX4_trail 0 = .ok (.aload_n 0, 1) := dk_42 (dk_at dksX4_trail_0 0 rfl rfl)
theorem dX4_trail_1 : decode cX4_trail 1 = .ok (.getfield 9, 3) := dk_180 0 9 (dk_at dksX4_trail_0 1 rfl rfl)
theorem dX4_trail_4 : decode cX4_trail 4 = .ok (.bipush 48, 2) := dk_16 48 (dk_at dksX4_trail_0 4 rfl rfl)
theorem dX4_trail_6 : decode cX4_trail 6 = .ok (.bipush 12, 2) := dk_16 12 (dk_at dksX4_trail_0 6 rfl rfl)
theorem dX4_trail_8 : decode cX4_trail 8 = .ok (.iload_n 1, 1) := dk_27 (dk_at dksX4_trail_0 8 rfl rfl)
theorem dX4_trail_9 : decode cX4_trail 9 = .ok (.imul, 1) := dk_104 (dk_at dksX4_trail_0 9 rfl rfl)
theorem dX4_trail_10 : decode cX4_trail 10 = .ok (.iadd, 1) := dk_96 (dk_at dksX4_trail_0 10 rfl rfl)
theorem dX4_trail_11 : decode cX4_trail 11 = .ok (.iload_n 2, 1) := dk_28 (dk_at dksX4_trail_0 11 rfl rfl)
theorem dX4_trail_12 : decode cX4_trail 12 = .ok (.iadd, 1) := dk_96 (dk_at dksX4_trail_0 12 rfl rfl)
theorem dX4_trail_13 : decode cX4_trail 13 = .ok (.iaload, 1) := dk_46 (dk_at dksX4_trail_0 13 rfl rfl)
theorem dX4_trail_14 : decode cX4_trail 14 = .ok (.ireturn, 1) := dk_172 (dk_at dksX4_trail_0 14 rfl rfl)
def dkwX4_setsTrail_1 : List UInt8 := [104, 96, 27, 96, 29, 79, 177]
abbrev dktX4_setsTrail_1 : List UInt8 := dkwX4_setsTrail_1 ++ []
def dkwX4_setsTrail_0 : List UInt8 := [42, 180, 0, 9, 16, 48, 16, 12, 27, 104, 96, 28, 96, 29, 79, 42, 180, 0, 9, 16, 48, 16, 12, 28]
abbrev dktX4_setsTrail_0 : List UInt8 := dkwX4_setsTrail_0 ++ dktX4_setsTrail_1
theorem dksX4_setsTrail_0 : cX4_setsTrail.data.toList.drop 0 = dktX4_setsTrail_0 := by decide +kernel
theorem dksX4_setsTrail_1 : cX4_setsTrail.data.toList.drop 24 = dktX4_setsTrail_1 := dk_seg dksX4_setsTrail_0 24 rfl rfl
theorem dX4_setsTrail_0 : decode cX4_setsTrail 0 = .ok (.aload_n 0, 1) := dk_42 (dk_at dksX4_setsTrail_0 0 rfl rfl)
theorem dX4_setsTrail_1 : decode cX4_setsTrail 1 = .ok (.getfield 9, 3) := dk_180 0 9 (dk_at dksX4_setsTrail_0 1 rfl rfl)
theorem dX4_setsTrail_4 : decode cX4_setsTrail 4 = .ok (.bipush 48, 2) := dk_16 48 (dk_at dksX4_setsTrail_0 4 rfl rfl)
theorem dX4_setsTrail_6 : decode cX4_setsTrail 6 = .ok (.bipush 12, 2) := dk_16 12 (dk_at dksX4_setsTrail_0 6 rfl rfl)
theorem dX4_setsTrail_8 : decode cX4_setsTrail 8 = .ok (.iload_n 1, 1) := dk_27 (dk_at dksX4_setsTrail_0 8 rfl rfl)
theorem dX4_setsTrail_9 : decode cX4_setsTrail 9 = .ok (.imul, 1) := dk_104 (dk_at dksX4_setsTrail_0 9 rfl rfl)
theorem dX4_setsTrail_10 : decode cX4_setsTrail 10 = .ok (.iadd, 1) := dk_96 (dk_at dksX4_setsTrail_0 10 rfl rfl)
theorem dX4_setsTrail_11 : decode cX4_setsTrail 11 = .ok (.iload_n 2, 1) := dk_28 (dk_at dksX4_setsTrail_0 11 rfl rfl)
theorem dX4_setsTrail_12 : decode cX4_setsTrail 12 = .ok (.iadd, 1) := dk_96 (dk_at dksX4_setsTrail_0 12 rfl rfl)
theorem dX4_setsTrail_13 : decode cX4_setsTrail 13 = .ok (.iload_n 3, 1) := dk_29 (dk_at dksX4_setsTrail_0 13 rfl rfl)
theorem dX4_setsTrail_14 : decode cX4_setsTrail 14 = .ok (.iastore, 1) := dk_79 (dk_at dksX4_setsTrail_0 14 rfl rfl)
theorem dX4_setsTrail_15 : decode cX4_setsTrail 15 = .ok (.aload_n 0, 1) := dk_42 (dk_at dksX4_setsTrail_0 15 rfl rfl)
theorem dX4_setsTrail_16 : decode cX4_setsTrail 16 = .ok (.getfield 9, 3) := dk_180 0 9 (dk_at dksX4_setsTrail_0 16 rfl rfl)
theorem dX4_setsTrail_19 : decode cX4_setsTrail 19 = .ok (.bipush 48, 2) := dk_16 48 (dk_at dksX4_setsTrail_0 19 rfl rfl)
theorem dX4_setsTrail_21 : decode cX4_setsTrail 21 = .ok (.bipush 12, 2) := dk_16 12 (dk_at dksX4_setsTrail_0 21 rfl rfl)
theorem dX4_setsTrail_23 : decode cX4_setsTrail 23 = .ok (.iload_n 2, 1) := dk_28 (dk_at dksX4_setsTrail_0 23 rfl rfl)
theorem dX4_setsTrail_24 : decode cX4_setsTrail 24 = .ok (.imul, 1) := dk_104 (dk_at dksX4_setsTrail_1 0 rfl rfl)
theorem dX4_setsTrail_25 : decode cX4_setsTrail 25 = .ok (.iadd, 1) := dk_96 (dk_at dksX4_setsTrail_1 1 rfl rfl)
theorem dX4_setsTrail_26 : decode cX4_setsTrail 26 = .ok (.iload_n 1, 1) := dk_27 (dk_at dksX4_setsTrail_1 2 rfl rfl)
theorem dX4_setsTrail_27 : decode cX4_setsTrail 27 = .ok (.iadd, 1) := dk_96 (dk_at dksX4_setsTrail_1 3 rfl rfl)
theorem dX4_setsTrail_28 : decode cX4_setsTrail 28 = .ok (.iload_n 3, 1) := dk_29 (dk_at dksX4_setsTrail_1 4 rfl rfl)
theorem dX4_setsTrail_29 : decode cX4_setsTrail 29 = .ok (.iastore, 1) := dk_79 (dk_at dksX4_setsTrail_1 5 rfl rfl)
theorem dX4_setsTrail_30 : decode cX4_setsTrail 30 = .ok (.return_, 1) := dk_177 (dk_at dksX4_setsTrail_1 6 rfl rfl)
def dkwX4_manyTrails_1 : List UInt8 := [158, 0, 7, 4, 167, 0, 4, 3, 96, 60, 132, 3, 1, 167, 255, 231, 132, 2, 1, 167, 255, 217, 27, 172]
abbrev dktX4_manyTrails_1 : List UInt8 := dkwX4_manyTrails_1 ++ []
def dkwX4_manyTrails_0 : List UInt8 := [3, 60, 3, 61, 28, 16, 12, 162, 0, 39, 3, 62, 29, 28, 162, 0, 26, 27, 42, 28, 29, 182, 0, 55]
abbrev dktX4_manyTrails_0 : List UInt8 := dkwX4_manyTrails_0 ++ dktX4_manyTrails_1
theorem dksX4_manyTrails_0 : cX4_manyTrails.data.toList.drop 0 = dktX4_manyTrails_0 := by decide +kernel
theorem dksX4_manyTrails_1 : cX4_manyTrails.data.toList.drop 24 = dktX4_manyTrails_1 := dk_seg dksX4_manyTrails_0 24 rfl rfl
theorem dX4_manyTrails_0 : decode cX4_manyTrails 0 = .ok (.iconst 0, 1) := dk_3 (dk_at dksX4_manyTrails_0 0 rfl rfl)
theorem dX4_manyTrails_1 : decode cX4_manyTrails 1 = .ok (.istore_n 1, 1) := dk_60 (dk_at dksX4_manyTrails_0 1 rfl rfl)
theorem dX4_manyTrails_2 : decode cX4_manyTrails 2 = .ok (.iconst 0, 1) := dk_3 (dk_at dksX4_manyTrails_0 2 rfl rfl)
theorem dX4_manyTrails_3 : decode cX4_manyTrails 3 = .ok (.istore_n 2, 1) := dk_61 (dk_at dksX4_manyTrails_0 3 rfl rfl)
theorem dX4_manyTrails_4 : decode cX4_manyTrails 4 = .ok (.iload_n 2, 1) := dk_28 (dk_at dksX4_manyTrails_0 4 rfl rfl)
theorem dX4_manyTrails_5 : decode cX4_manyTrails 5 = .ok (.bipush 12, 2) := dk_16 12 (dk_at dksX4_manyTrails_0 5 rfl rfl)
theorem dX4_manyTrails_7 : decode cX4_manyTrails 7 = .ok (.if_icmp .ge 39, 3) := dk_162 0 39 (dk_at dksX4_manyTrails_0 7 rfl rfl)
theorem dX4_manyTrails_10 : decode cX4_manyTrails 10 = .ok (.iconst 0, 1) := dk_3 (dk_at dksX4_manyTrails_0 10 rfl rfl)
theorem dX4_manyTrails_11 : decode cX4_manyTrails 11 = .ok (.istore_n 3, 1) := dk_62 (dk_at dksX4_manyTrails_0 11 rfl rfl)
theorem dX4_manyTrails_12 : decode cX4_manyTrails 12 = .ok (.iload_n 3, 1) := dk_29 (dk_at dksX4_manyTrails_0 12 rfl rfl)
theorem dX4_manyTrails_13 : decode cX4_manyTrails 13 = .ok (.iload_n 2, 1) := dk_28 (dk_at dksX4_manyTrails_0 13 rfl rfl)
theorem dX4_manyTrails_14 : decode cX4_manyTrails 14 = .ok (.if_icmp .ge 26, 3) := dk_162 0 26 (dk_at dksX4_manyTrails_0 14 rfl rfl)
theorem dX4_manyTrails_17 : decode cX4_manyTrails 17 = .ok (.iload_n 1, 1) := dk_27 (dk_at dksX4_manyTrails_0 17 rfl rfl)
theorem dX4_manyTrails_18 : decode cX4_manyTrails 18 = .ok (.aload_n 0, 1) := dk_42 (dk_at dksX4_manyTrails_0 18 rfl rfl)
theorem dX4_manyTrails_19 : decode cX4_manyTrails 19 = .ok (.iload_n 2, 1) := dk_28 (dk_at dksX4_manyTrails_0 19 rfl rfl)
theorem dX4_manyTrails_20 : decode cX4_manyTrails 20 = .ok (.iload_n 3, 1) := dk_29 (dk_at dksX4_manyTrails_0 20 rfl rfl)
theorem dX4_manyTrails_21 : decode cX4_manyTrails 21 = .ok (.invokevirtual 55, 3) := dk_182 0 55 (dk_at dksX4_manyTrails_0 21 rfl rfl)
theorem dX4_manyTrails_24 : decode cX4_manyTrails 24 = .ok (.ifCond .le 7, 3) := dk_158 0 7 (dk_at dksX4_manyTrails_1 0 rfl rfl)
theorem dX4_manyTrails_27 : decode cX4_manyTrails 27 = .ok (.iconst 1, 1) := dk_4 (dk_at dksX4_manyTrails_1 3 rfl rfl)
theorem dX4_manyTrails_28 : decode cX4_manyTrails 28 = .ok (.goto 4, 3) := dk_167 0 4 (dk_at dksX4_manyTrails_1 4 rfl rfl)
theorem dX4_manyTrails_31 : decode cX4_manyTrails 31 = .ok (.iconst 0, 1) := dk_3 (dk_at dksX4_manyTrails_1 7 rfl rfl)
theorem dX4_manyTrails_32 : decode cX4_manyTrails 32 = .ok (.iadd, 1) := dk_96 (dk_at dksX4_manyTrails_1 8 rfl rfl)
theorem dX4_manyTrails_33 : decode cX4_manyTrails 33 = .ok (.istore_n 1, 1) := dk_60 (dk_at dksX4_manyTrails_1 9 rfl rfl)
theorem dX4_manyTrails_34 : decode cX4_manyTrails 34 = .ok (.iinc 3 1, 3) := dk_132 3 1 (dk_at dksX4_manyTrails_1 10 rfl rfl)
theorem dX4_manyTrails_37 : decode cX4_manyTrails 37 = .ok (.goto (-25), 3) := dk_167 255 231 (dk_at dksX4_manyTrails_1 13 rfl rfl)
theorem dX4_manyTrails_40 : decode cX4_manyTrails 40 = .ok (.iinc 2 1, 3) := dk_132 2 1 (dk_at dksX4_manyTrails_1 16 rfl rfl)
theorem dX4_manyTrails_43 : decode cX4_manyTrails 43 = .ok (.goto (-39), 3) := dk_167 255 217 (dk_at dksX4_manyTrails_1 19 rfl rfl)
theorem dX4_manyTrails_46 : decode cX4_manyTrails 46 = .ok (.iload_n 1, 1) := dk_27 (dk_at dksX4_manyTrails_1 22 rfl rfl)
theorem dX4_manyTrails_47 : decode cX4_manyTrails 47 = .ok (.ireturn, 1) := dk_172 (dk_at dksX4_manyTrails_1 23 rfl rfl)
def dkwX4_removeTrail_0 : List UInt8 := [42, 182, 0, 67, 42, 42, 27, 28, 182, 0, 93, 182, 0, 74, 172]
abbrev dktX4_removeTrail_0 : List UInt8 := dkwX4_removeTrail_0 ++ []
theorem dksX4_removeTrail_0 : cX4_removeTrail.data.toList.drop 0 = dktX4_removeTrail_0 := by decide +kernel
theorem dX4_removeTrail_0 : decode cX4_removeTrail 0 = .ok (.aload_n 0, 1) := dk_42 (dk_at dksX4_removeTrail_0 0 rfl rfl)
theorem dX4_removeTrail_1 : decode cX4_removeTrail 1 = .ok (.invokevirtual 67, 3) := dk_182 0 67 (dk_at dksX4_removeTrail_0 1 rfl rfl)
theorem dX4_removeTrail_4 : decode cX4_removeTrail 4 = .ok (.aload_n 0, 1) := dk_42 (dk_at dksX4_removeTrail_0 4 rfl rfl)
theorem dX4_removeTrail_5 : decode cX4_removeTrail 5 = .ok (.aload_n 0, 1) := dk_42 (dk_at dksX4_removeTrail_0 5 rfl rfl)
theorem dX4_removeTrail_6 : decode cX4_removeTrail 6 = .ok (.iload_n 1, 1) := dk_27 (dk_at dksX4_removeTrail_0 6 rfl rfl)
theorem dX4_removeTrail_7 : decode cX4_removeTrail 7 = .ok (.iload_n 2, 1) := dk_28 (dk_at dksX4_removeTrail_0 7 rfl rfl)
theorem dX4_removeTrail_8 : decode cX4_removeTrail 8 = .ok (.invokevirtual 93, 3) := dk_182 0 93 (dk_at dksX4_removeTrail_0 8 rfl rfl)
theorem dX4_removeTrail_11 : decode cX4_removeTrail 11 = .ok (.invokevirtual 74, 3) := dk_182 0 74 (dk_at dksX4_removeTrail_0 11 rfl rfl)
theorem dX4_removeTrail_14 : decode cX4_removeTrail 14 = .ok (.ireturn, 1) := dk_172 (dk_at dksX4_removeTrail_0 14 rfl rfl)
def dkwX4_cuts_2 : List UInt8 := [182, 0, 63, 153, 0, 5, 3, 172, 42, 27, 28, 182, 0, 55, 62, 42, 27, 28, 3, 182, 0, 82, 29, 172]
abbrev dktX4_cuts_2 : List UInt8 := dkwX4_cuts_2 ++ []
def dkwX4_cuts_1 : List UInt8 := [182, 0, 63, 154, 0, 25, 42, 42, 27, 28, 182, 0, 55, 154, 0, 7, 4, 167, 0, 4, 3, 5]
abbrev dktX4_cuts_1 : List UInt8 := dkwX4_cuts_1 ++ dktX4_cuts_2
def dkwX4_cuts_0 : List UInt8 := [42, 42, 27, 182, 0, 78, 153, 0, 11, 42, 28, 182, 0, 78, 154, 0, 7, 4, 167, 0, 4, 3, 4]
abbrev dktX4_cuts_0 : List UInt8 := dkwX4_cuts_0 ++ dktX4_cuts_1
theorem dksX4_cuts_0 : cX4_cuts.data.toList.drop 0 = dktX4_cuts_0 := by decide +kernel
theorem dksX4_cuts_1 : cX4_cuts.data.toList.drop 23 = dktX4_cuts_1 := dk_seg dksX4_cuts_0 23 rfl rfl
theorem dksX4_cuts_2 : cX4_cuts.data.toList.drop 45 = dktX4_cuts_2 := dk_seg dksX4_cuts_1 22 rfl rfl
theorem dX4_cuts_0 : decode cX4_cuts 0 = .ok (.aload_n 0, 1) := dk_42 (dk_at dksX4_cuts_0 0 rfl rfl)
theorem dX4_cuts_1 : decode cX4_cuts 1 = .ok (.aload_n 0, 1) := dk_42 (dk_at dksX4_cuts_0 1 rfl rfl)
theorem dX4_cuts_2 : decode cX4_cuts 2 = .ok (.iload_n 1, 1) := dk_27 (dk_at dksX4_cuts_0 2 rfl rfl)
theorem dX4_cuts_3 : decode cX4_cuts 3 = .ok (.invokevirtual 78, 3) := dk_182 0 78 (dk_at dksX4_cuts_0 3 rfl rfl)
theorem dX4_cuts_6 : decode cX4_cuts 6 = .ok (.ifCond .eq 11, 3) := dk_153 0 11 (dk_at dksX4_cuts_0 6 rfl rfl)
theorem dX4_cuts_9 : decode cX4_cuts 9 = .ok (.aload_n 0, 1) := dk_42 (dk_at dksX4_cuts_0 9 rfl rfl)
theorem dX4_cuts_10 : decode cX4_cuts 10 = .ok (.iload_n 2, 1) := dk_28 (dk_at dksX4_cuts_0 10 rfl rfl)
theorem dX4_cuts_11 : decode cX4_cuts 11 = .ok (.invokevirtual 78, 3) := dk_182 0 78 (dk_at dksX4_cuts_0 11 rfl rfl)
theorem dX4_cuts_14 : decode cX4_cuts 14 = .ok (.ifCond .ne 7, 3) := dk_154 0 7 (dk_at dksX4_cuts_0 14 rfl rfl)
theorem dX4_cuts_17 : decode cX4_cuts 17 = .ok (.iconst 1, 1) := dk_4 (dk_at dksX4_cuts_0 17 rfl rfl)
theorem dX4_cuts_18 : decode cX4_cuts 18 = .ok (.goto 4, 3) := dk_167 0 4 (dk_at dksX4_cuts_0 18 rfl rfl)
theorem dX4_cuts_21 : decode cX4_cuts 21 = .ok (.iconst 0, 1) := dk_3 (dk_at dksX4_cuts_0 21 rfl rfl)
theorem dX4_cuts_22 : decode cX4_cuts 22 = .ok (.iconst 1, 1) := dk_4 (dk_at dksX4_cuts_0 22 rfl rfl)
theorem dX4_cuts_23 : decode cX4_cuts 23 = .ok (.invokevirtual 63, 3) := dk_182 0 63 (dk_at dksX4_cuts_1 0 rfl rfl)
theorem dX4_cuts_26 : decode cX4_cuts 26 = .ok (.ifCond .ne 25, 3) := dk_154 0 25 (dk_at dksX4_cuts_1 3 rfl rfl)
theorem dX4_cuts_29 : decode cX4_cuts 29 = .ok (.aload_n 0, 1) := dk_42 (dk_at dksX4_cuts_1 6 rfl rfl)
theorem dX4_cuts_30 : decode cX4_cuts 30 = .ok (.aload_n 0, 1) := dk_42 (dk_at dksX4_cuts_1 7 rfl rfl)
theorem dX4_cuts_31 : decode cX4_cuts 31 = .ok (.iload_n 1, 1) := dk_27 (dk_at dksX4_cuts_1 8 rfl rfl)
theorem dX4_cuts_32 : decode cX4_cuts 32 = .ok (.iload_n 2, 1) := dk_28 (dk_at dksX4_cuts_1 9 rfl rfl)
theorem dX4_cuts_33 : decode cX4_cuts 33 = .ok (.invokevirtual 55, 3) := dk_182 0 55 (dk_at dksX4_cuts_1 10 rfl rfl)
theorem dX4_cuts_36 : decode cX4_cuts 36 = .ok (.ifCond .ne 7, 3) := dk_154 0 7 (dk_at dksX4_cuts_1 13 rfl rfl)
theorem dX4_cuts_39 : decode cX4_cuts 39 = .ok (.iconst 1, 1) := dk_4 (dk_at dksX4_cuts_1 16 rfl rfl)
theorem dX4_cuts_40 : decode cX4_cuts 40 = .ok (.goto 4, 3) := dk_167 0 4 (dk_at dksX4_cuts_1 17 rfl rfl)
theorem dX4_cuts_43 : decode cX4_cuts 43 = .ok (.iconst 0, 1) := dk_3 (dk_at dksX4_cuts_1 20 rfl rfl)
theorem dX4_cuts_44 : decode cX4_cuts 44 = .ok (.iconst 2, 1) := dk_5 (dk_at dksX4_cuts_1 21 rfl rfl)
theorem dX4_cuts_45 : decode cX4_cuts 45 = .ok (.invokevirtual 63, 3) := dk_182 0 63 (dk_at dksX4_cuts_2 0 rfl rfl)
theorem dX4_cuts_48 : decode cX4_cuts 48 = .ok (.ifCond .eq 5, 3) := dk_153 0 5 (dk_at dksX4_cuts_2 3 rfl rfl)
theorem dX4_cuts_51 : decode cX4_cuts 51 = .ok (.iconst 0, 1) := dk_3 (dk_at dksX4_cuts_2 6 rfl rfl)
theorem dX4_cuts_52 : decode cX4_cuts 52 = .ok (.ireturn, 1) := dk_172 (dk_at dksX4_cuts_2 7 rfl rfl)
theorem dX4_cuts_53 : decode cX4_cuts 53 = .ok (.aload_n 0, 1) := dk_42 (dk_at dksX4_cuts_2 8 rfl rfl)
theorem dX4_cuts_54 : decode cX4_cuts 54 = .ok (.iload_n 1, 1) := dk_27 (dk_at dksX4_cuts_2 9 rfl rfl)
theorem dX4_cuts_55 : decode cX4_cuts 55 = .ok (.iload_n 2, 1) := dk_28 (dk_at dksX4_cuts_2 10 rfl rfl)
theorem dX4_cuts_56 : decode cX4_cuts 56 = .ok (.invokevirtual 55, 3) := dk_182 0 55 (dk_at dksX4_cuts_2 11 rfl rfl)
theorem dX4_cuts_59 : decode cX4_cuts 59 = .ok (.istore_n 3, 1) := dk_62 (dk_at dksX4_cuts_2 14 rfl rfl)
theorem dX4_cuts_60 : decode cX4_cuts 60 = .ok (.aload_n 0, 1) := dk_42 (dk_at dksX4_cuts_2 15 rfl rfl)
theorem dX4_cuts_61 : decode cX4_cuts 61 = .ok (.iload_n 1, 1) := dk_27 (dk_at dksX4_cuts_2 16 rfl rfl)
theorem dX4_cuts_62 : decode cX4_cuts 62 = .ok (.iload_n 2, 1) := dk_28 (dk_at dksX4_cuts_2 17 rfl rfl)
theorem dX4_cuts_63 : decode cX4_cuts 63 = .ok (.iconst 0, 1) := dk_3 (dk_at dksX4_cuts_2 18 rfl rfl)
theorem dX4_cuts_64 : decode cX4_cuts 64 = .ok (.invokevirtual 82, 3) := dk_182 0 82 (dk_at dksX4_cuts_2 19 rfl rfl)
theorem dX4_cuts_67 : decode cX4_cuts 67 = .ok (.iload_n 3, 1) := dk_29 (dk_at dksX4_cuts_2 22 rfl rfl)
theorem dX4_cuts_68 : decode cX4_cuts 68 = .ok (.ireturn, 1) := dk_172 (dk_at dksX4_cuts_2 23 rfl rfl)
def dkwX4_startTour_0 : List UInt8 := [42, 182, 0, 67, 42, 42, 27, 28, 182, 0, 111, 182, 0, 74, 172]
abbrev dktX4_startTour_0 : List UInt8 := dkwX4_startTour_0 ++ []
theorem dksX4_startTour_0 : cX4_startTour.data.toList.drop 0 = dktX4_startTour_0 := by decide +kernel
theorem dX4_startTour_0 : decode cX4_startTour 0 = .ok (.aload_n 0, 1) := dk_42 (dk_at dksX4_startTour_0 0 rfl rfl)
theorem dX4_startTour_1 : decode cX4_startTour 1 = .ok (.invokevirtual 67, 3) := dk_182 0 67 (dk_at dksX4_startTour_0 1 rfl rfl)
theorem dX4_startTour_4 : decode cX4_startTour 4 = .ok (.aload_n 0, 1) := dk_42 (dk_at dksX4_startTour_0 4 rfl rfl)
theorem dX4_startTour_5 : decode cX4_startTour 5 = .ok (.aload_n 0, 1) := dk_42 (dk_at dksX4_startTour_0 5 rfl rfl)
theorem dX4_startTour_6 : decode cX4_startTour 6 = .ok (.iload_n 1, 1) := dk_27 (dk_at dksX4_startTour_0 6 rfl rfl)
theorem dX4_startTour_7 : decode cX4_startTour 7 = .ok (.iload_n 2, 1) := dk_28 (dk_at dksX4_startTour_0 7 rfl rfl)
theorem dX4_startTour_8 : decode cX4_startTour 8 = .ok (.invokevirtual 111, 3) := dk_182 0 111 (dk_at dksX4_startTour_0 8 rfl rfl)
theorem dX4_startTour_11 : decode cX4_startTour 11 = .ok (.invokevirtual 74, 3) := dk_182 0 74 (dk_at dksX4_startTour_0 11 rfl rfl)
theorem dX4_startTour_14 : decode cX4_startTour 14 = .ok (.ireturn, 1) := dk_172 (dk_at dksX4_startTour_0 14 rfl rfl)
def dkwX4_tours_8 : List UInt8 := [180, 0, 9, 4, 46, 172]
abbrev dktX4_tours_8 : List UInt8 := dkwX4_tours_8 ++ []
def dkwX4_tours_7 : List UInt8 := [182, 0, 108, 79, 42, 180, 0, 9, 7, 42, 27, 4, 182, 0, 108, 79, 42, 180, 0, 9, 8, 3, 79, 42]
abbrev dktX4_tours_7 : List UInt8 := dkwX4_tours_7 ++ dktX4_tours_8
def dkwX4_tours_6 : List UInt8 := [4, 92, 46, 4, 96, 79, 167, 255, 219, 42, 180, 0, 9, 5, 4, 79, 42, 180, 0, 9, 6, 42, 27, 3]
abbrev dktX4_tours_6 : List UInt8 := dkwX4_tours_6 ++ dktX4_tours_7
def dkwX4_tours_5 : List UInt8 := [182, 0, 105, 62, 42, 180, 0, 9, 17, 0, 192, 42, 180, 0, 9, 4, 46, 96, 29, 79, 42, 180, 0, 9]
abbrev dktX4_tours_5 : List UInt8 := dkwX4_tours_5 ++ dktX4_tours_6
def dkwX4_tours_4 : List UInt8 := [180, 0, 9, 17, 0, 192, 27, 79, 42, 180, 0, 9, 4, 4, 79, 29, 28, 159, 0, 38, 42, 29]
abbrev dktX4_tours_4 : List UInt8 := dkwX4_tours_4 ++ dktX4_tours_5
def dkwX4_tours_3 : List UInt8 := [27, 46, 18, 96, 161, 0, 7, 4, 167, 0, 4, 3, 7, 182, 0, 63, 153, 0, 5, 3, 172, 27, 62, 42]
abbrev dktX4_tours_3 : List UInt8 := dkwX4_tours_3 ++ dktX4_tours_4
def dkwX4_tours_2 : List UInt8 := [42, 42, 182, 0, 97, 6, 182, 0, 63, 153, 0, 5, 3, 172, 42, 28, 182, 0, 101, 42, 42, 180, 0, 22]
abbrev dktX4_tours_2 : List UInt8 := dkwX4_tours_2 ++ dktX4_tours_3
def dkwX4_tours_1 : List UInt8 := [182, 0, 63, 154, 0, 33, 42, 27, 28, 160, 0, 7, 4, 167, 0, 4, 3, 5, 182, 0, 63, 154, 0, 15]
abbrev dktX4_tours_1 : List UInt8 := dkwX4_tours_1 ++ dktX4_tours_2
def dkwX4_tours_0 : List UInt8 := [42, 42, 27, 182, 0, 78, 153, 0, 11, 42, 28, 182, 0, 78, 154, 0, 7, 4, 167, 0, 4, 3, 4]
abbrev dktX4_tours_0 : List UInt8 := dkwX4_tours_0 ++ dktX4_tours_1
theorem dksX4_tours_0 : cX4_tours.data.toList.drop 0 = dktX4_tours_0 := by decide +kernel
theorem dksX4_tours_1 : cX4_tours.data.toList.drop 23 = dktX4_tours_1 := dk_seg dksX4_tours_0 23 rfl rfl
theorem dksX4_tours_2 : cX4_tours.data.toList.drop 47 = dktX4_tours_2 := dk_seg dksX4_tours_1 24 rfl rfl
theorem dksX4_tours_3 : cX4_tours.data.toList.drop 71 = dktX4_tours_3 := dk_seg dksX4_tours_2 24 rfl rfl
theorem dksX4_tours_4 : cX4_tours.data.toList.drop 95 = dktX4_tours_4 := dk_seg dksX4_tours_3 24 rfl rfl
theorem dksX4_tours_5 : cX4_tours.data.toList.drop 117 = dktX4_tours_5 := dk_seg dksX4_tours_4 22 rfl rfl
theorem dksX4_tours_6 : cX4_tours.data.toList.drop 141 = dktX4_tours_6 := dk_seg dksX4_tours_5 24 rfl rfl
theorem dksX4_tours_7 : cX4_tours.data.toList.drop 165 = dktX4_tours_7 := dk_seg dksX4_tours_6 24 rfl rfl
theorem dksX4_tours_8 : cX4_tours.data.toList.drop 189 = dktX4_tours_8 := dk_seg dksX4_tours_7 24 rfl rfl
theorem dX4_tours_0 : decode cX4_tours 0 = .ok (.aload_n 0, 1) := dk_42 (dk_at dksX4_tours_0 0 rfl rfl)
theorem dX4_tours_1 : decode cX4_tours 1 = .ok (.aload_n 0, 1) := dk_42 (dk_at dksX4_tours_0 1 rfl rfl)
theorem dX4_tours_2 : decode cX4_tours 2 = .ok (.iload_n 1, 1) := dk_27 (dk_at dksX4_tours_0 2 rfl rfl)
theorem dX4_tours_3 : decode cX4_tours 3 = .ok (.invokevirtual 78, 3) := dk_182 0 78 (dk_at dksX4_tours_0 3 rfl rfl)
theorem dX4_tours_6 : decode cX4_tours 6 = .ok (.ifCond .eq 11, 3) := dk_153 0 11 (dk_at dksX4_tours_0 6 rfl rfl)
theorem dX4_tours_9 : decode cX4_tours 9 = .ok (.aload_n 0, 1) := dk_42 (dk_at dksX4_tours_0 9 rfl rfl)
theorem dX4_tours_10 : decode cX4_tours 10 = .ok (.iload_n 2, 1) := dk_28 (dk_at dksX4_tours_0 10 rfl rfl)
theorem dX4_tours_11 : decode cX4_tours 11 = .ok (.invokevirtual 78, 3) := dk_182 0 78 (dk_at dksX4_tours_0 11 rfl rfl)
theorem dX4_tours_14 : decode cX4_tours 14 = .ok (.ifCond .ne 7, 3) := dk_154 0 7 (dk_at dksX4_tours_0 14 rfl rfl)
theorem dX4_tours_17 : decode cX4_tours 17 = .ok (.iconst 1, 1) := dk_4 (dk_at dksX4_tours_0 17 rfl rfl)
theorem dX4_tours_18 : decode cX4_tours 18 = .ok (.goto 4, 3) := dk_167 0 4 (dk_at dksX4_tours_0 18 rfl rfl)
theorem dX4_tours_21 : decode cX4_tours 21 = .ok (.iconst 0, 1) := dk_3 (dk_at dksX4_tours_0 21 rfl rfl)
theorem dX4_tours_22 : decode cX4_tours 22 = .ok (.iconst 1, 1) := dk_4 (dk_at dksX4_tours_0 22 rfl rfl)
theorem dX4_tours_23 : decode cX4_tours 23 = .ok (.invokevirtual 63, 3) := dk_182 0 63 (dk_at dksX4_tours_1 0 rfl rfl)
theorem dX4_tours_26 : decode cX4_tours 26 = .ok (.ifCond .ne 33, 3) := dk_154 0 33 (dk_at dksX4_tours_1 3 rfl rfl)
theorem dX4_tours_29 : decode cX4_tours 29 = .ok (.aload_n 0, 1) := dk_42 (dk_at dksX4_tours_1 6 rfl rfl)
theorem dX4_tours_30 : decode cX4_tours 30 = .ok (.iload_n 1, 1) := dk_27 (dk_at dksX4_tours_1 7 rfl rfl)
theorem dX4_tours_31 : decode cX4_tours 31 = .ok (.iload_n 2, 1) := dk_28 (dk_at dksX4_tours_1 8 rfl rfl)
theorem dX4_tours_32 : decode cX4_tours 32 = .ok (.if_icmp .ne 7, 3) := dk_160 0 7 (dk_at dksX4_tours_1 9 rfl rfl)
theorem dX4_tours_35 : decode cX4_tours 35 = .ok (.iconst 1, 1) := dk_4 (dk_at dksX4_tours_1 12 rfl rfl)
theorem dX4_tours_36 : decode cX4_tours 36 = .ok (.goto 4, 3) := dk_167 0 4 (dk_at dksX4_tours_1 13 rfl rfl)
theorem dX4_tours_39 : decode cX4_tours 39 = .ok (.iconst 0, 1) := dk_3 (dk_at dksX4_tours_1 16 rfl rfl)
theorem dX4_tours_40 : decode cX4_tours 40 = .ok (.iconst 2, 1) := dk_5 (dk_at dksX4_tours_1 17 rfl rfl)
theorem dX4_tours_41 : decode cX4_tours 41 = .ok (.invokevirtual 63, 3) := dk_182 0 63 (dk_at dksX4_tours_1 18 rfl rfl)
theorem dX4_tours_44 : decode cX4_tours 44 = .ok (.ifCond .ne 15, 3) := dk_154 0 15 (dk_at dksX4_tours_1 21 rfl rfl)
theorem dX4_tours_47 : decode cX4_tours 47 = .ok (.aload_n 0, 1) := dk_42 (dk_at dksX4_tours_2 0 rfl rfl)
theorem dX4_tours_48 : decode cX4_tours 48 = .ok (.aload_n 0, 1) := dk_42 (dk_at dksX4_tours_2 1 rfl rfl)
theorem dX4_tours_49 : decode cX4_tours 49 = .ok (.invokevirtual 97, 3) := dk_182 0 97 (dk_at dksX4_tours_2 2 rfl rfl)
theorem dX4_tours_52 : decode cX4_tours 52 = .ok (.iconst 3, 1) := dk_6 (dk_at dksX4_tours_2 5 rfl rfl)
theorem dX4_tours_53 : decode cX4_tours 53 = .ok (.invokevirtual 63, 3) := dk_182 0 63 (dk_at dksX4_tours_2 6 rfl rfl)
theorem dX4_tours_56 : decode cX4_tours 56 = .ok (.ifCond .eq 5, 3) := dk_153 0 5 (dk_at dksX4_tours_2 9 rfl rfl)
theorem dX4_tours_59 : decode cX4_tours 59 = .ok (.iconst 0, 1) := dk_3 (dk_at dksX4_tours_2 12 rfl rfl)
theorem dX4_tours_60 : decode cX4_tours 60 = .ok (.ireturn, 1) := dk_172 (dk_at dksX4_tours_2 13 rfl rfl)
theorem dX4_tours_61 : decode cX4_tours 61 = .ok (.aload_n 0, 1) := dk_42 (dk_at dksX4_tours_2 14 rfl rfl)
theorem dX4_tours_62 : decode cX4_tours 62 = .ok (.iload_n 2, 1) := dk_28 (dk_at dksX4_tours_2 15 rfl rfl)
theorem dX4_tours_63 : decode cX4_tours 63 = .ok (.invokevirtual 101, 3) := dk_182 0 101 (dk_at dksX4_tours_2 16 rfl rfl)
theorem dX4_tours_66 : decode cX4_tours 66 = .ok (.aload_n 0, 1) := dk_42 (dk_at dksX4_tours_2 19 rfl rfl)
theorem dX4_tours_67 : decode cX4_tours 67 = .ok (.aload_n 0, 1) := dk_42 (dk_at dksX4_tours_2 20 rfl rfl)
theorem dX4_tours_68 : decode cX4_tours 68 = .ok (.getfield 22, 3) := dk_180 0 22 (dk_at dksX4_tours_2 21 rfl rfl)
theorem dX4_tours_71 : decode cX4_tours 71 = .ok (.iload_n 1, 1) := dk_27 (dk_at dksX4_tours_3 0 rfl rfl)
theorem dX4_tours_72 : decode cX4_tours 72 = .ok (.iaload, 1) := dk_46 (dk_at dksX4_tours_3 1 rfl rfl)
theorem dX4_tours_73 : decode cX4_tours 73 = .ok (.ldc 96, 2) := dk_18 96 (dk_at dksX4_tours_3 2 rfl rfl)
theorem dX4_tours_75 : decode cX4_tours 75 = .ok (.if_icmp .lt 7, 3) := dk_161 0 7 (dk_at dksX4_tours_3 4 rfl rfl)
theorem dX4_tours_78 : decode cX4_tours 78 = .ok (.iconst 1, 1) := dk_4 (dk_at dksX4_tours_3 7 rfl rfl)
theorem dX4_tours_79 : decode cX4_tours 79 = .ok (.goto 4, 3) := dk_167 0 4 (dk_at dksX4_tours_3 8 rfl rfl)
theorem dX4_tours_82 : decode cX4_tours 82 = .ok (.iconst 0, 1) := dk_3 (dk_at dksX4_tours_3 11 rfl rfl)
theorem dX4_tours_83 : decode cX4_tours 83 = .ok (.iconst 4, 1) := dk_7 (dk_at dksX4_tours_3 12 rfl rfl)
theorem dX4_tours_84 : decode cX4_tours 84 = .ok (.invokevirtual 63, 3) := dk_182 0 63 (dk_at dksX4_tours_3 13 rfl rfl)
theorem dX4_tours_87 : decode cX4_tours 87 = .ok (.ifCond .eq 5, 3) := dk_153 0 5 (dk_at dksX4_tours_3 16 rfl rfl)
theorem dX4_tours_90 : decode cX4_tours 90 = .ok (.iconst 0, 1) := dk_3 (dk_at dksX4_tours_3 19 rfl rfl)
theorem dX4_tours_91 : decode cX4_tours 91 = .ok (.ireturn, 1) := dk_172 (dk_at dksX4_tours_3 20 rfl rfl)
theorem dX4_tours_92 : decode cX4_tours 92 = .ok (.iload_n 1, 1) := dk_27 (dk_at dksX4_tours_3 21 rfl rfl)
theorem dX4_tours_93 : decode cX4_tours 93 = .ok (.istore_n 3, 1) := dk_62 (dk_at dksX4_tours_3 22 rfl rfl)
theorem dX4_tours_94 : decode cX4_tours 94 = .ok (.aload_n 0, 1) := dk_42 (dk_at dksX4_tours_3 23 rfl rfl)
theorem dX4_tours_95 : decode cX4_tours 95 = .ok (.getfield 9, 3) := dk_180 0 9 (dk_at dksX4_tours_4 0 rfl rfl)
theorem dX4_tours_98 : decode cX4_tours 98 = .ok (.sipush 192, 3) := dk_17 0 192 (dk_at dksX4_tours_4 3 rfl rfl)
theorem dX4_tours_101 : decode cX4_tours 101 = .ok (.iload_n 1, 1) := dk_27 (dk_at dksX4_tours_4 6 rfl rfl)
theorem dX4_tours_102 : decode cX4_tours 102 = .ok (.iastore, 1) := dk_79 (dk_at dksX4_tours_4 7 rfl rfl)
theorem dX4_tours_103 : decode cX4_tours 103 = .ok (.aload_n 0, 1) := dk_42 (dk_at dksX4_tours_4 8 rfl rfl)
theorem dX4_tours_104 : decode cX4_tours 104 = .ok (.getfield 9, 3) := dk_180 0 9 (dk_at dksX4_tours_4 9 rfl rfl)
theorem dX4_tours_107 : decode cX4_tours 107 = .ok (.iconst 1, 1) := dk_4 (dk_at dksX4_tours_4 12 rfl rfl)
theorem dX4_tours_108 : decode cX4_tours 108 = .ok (.iconst 1, 1) := dk_4 (dk_at dksX4_tours_4 13 rfl rfl)
theorem dX4_tours_109 : decode cX4_tours 109 = .ok (.iastore, 1) := dk_79 (dk_at dksX4_tours_4 14 rfl rfl)
theorem dX4_tours_110 : decode cX4_tours 110 = .ok (.iload_n 3, 1) := dk_29 (dk_at dksX4_tours_4 15 rfl rfl)
theorem dX4_tours_111 : decode cX4_tours 111 = .ok (.iload_n 2, 1) := dk_28 (dk_at dksX4_tours_4 16 rfl rfl)
theorem dX4_tours_112 : decode cX4_tours 112 = .ok (.if_icmp .eq 38, 3) := dk_159 0 38 (dk_at dksX4_tours_4 17 rfl rfl)
theorem dX4_tours_115 : decode cX4_tours 115 = .ok (.aload_n 0, 1) := dk_42 (dk_at dksX4_tours_4 20 rfl rfl)
theorem dX4_tours_116 : decode cX4_tours 116 = .ok (.iload_n 3, 1) := dk_29 (dk_at dksX4_tours_4 21 rfl rfl)
theorem dX4_tours_117 : decode cX4_tours 117 = .ok (.invokevirtual 105, 3) := dk_182 0 105 (dk_at dksX4_tours_5 0 rfl rfl)
theorem dX4_tours_120 : decode cX4_tours 120 = .ok (.istore_n 3, 1) := dk_62 (dk_at dksX4_tours_5 3 rfl rfl)
theorem dX4_tours_121 : decode cX4_tours 121 = .ok (.aload_n 0, 1) := dk_42 (dk_at dksX4_tours_5 4 rfl rfl)
theorem dX4_tours_122 : decode cX4_tours 122 = .ok (.getfield 9, 3) := dk_180 0 9 (dk_at dksX4_tours_5 5 rfl rfl)
theorem dX4_tours_125 : decode cX4_tours 125 = .ok (.sipush 192, 3) := dk_17 0 192 (dk_at dksX4_tours_5 8 rfl rfl)
theorem dX4_tours_128 : decode cX4_tours 128 = .ok (.aload_n 0, 1) := dk_42 (dk_at dksX4_tours_5 11 rfl rfl)
theorem dX4_tours_129 : decode cX4_tours 129 = .ok (.getfield 9, 3) := dk_180 0 9 (dk_at dksX4_tours_5 12 rfl rfl)
theorem dX4_tours_132 : decode cX4_tours 132 = .ok (.iconst 1, 1) := dk_4 (dk_at dksX4_tours_5 15 rfl rfl)
theorem dX4_tours_133 : decode cX4_tours 133 = .ok (.iaload, 1) := dk_46 (dk_at dksX4_tours_5 16 rfl rfl)
theorem dX4_tours_134 : decode cX4_tours 134 = .ok (.iadd, 1) := dk_96 (dk_at dksX4_tours_5 17 rfl rfl)
theorem dX4_tours_135 : decode cX4_tours 135 = .ok (.iload_n 3, 1) := dk_29 (dk_at dksX4_tours_5 18 rfl rfl)
theorem dX4_tours_136 : decode cX4_tours 136 = .ok (.iastore, 1) := dk_79 (dk_at dksX4_tours_5 19 rfl rfl)
theorem dX4_tours_137 : decode cX4_tours 137 = .ok (.aload_n 0, 1) := dk_42 (dk_at dksX4_tours_5 20 rfl rfl)
theorem dX4_tours_138 : decode cX4_tours 138 = .ok (.getfield 9, 3) := dk_180 0 9 (dk_at dksX4_tours_5 21 rfl rfl)
theorem dX4_tours_141 : decode cX4_tours 141 = .ok (.iconst 1, 1) := dk_4 (dk_at dksX4_tours_6 0 rfl rfl)
theorem dX4_tours_142 : decode cX4_tours 142 = .ok (.dup2, 1) := dk_92 (dk_at dksX4_tours_6 1 rfl rfl)
theorem dX4_tours_143 : decode cX4_tours 143 = .ok (.iaload, 1) := dk_46 (dk_at dksX4_tours_6 2 rfl rfl)
theorem dX4_tours_144 : decode cX4_tours 144 = .ok (.iconst 1, 1) := dk_4 (dk_at dksX4_tours_6 3 rfl rfl)
theorem dX4_tours_145 : decode cX4_tours 145 = .ok (.iadd, 1) := dk_96 (dk_at dksX4_tours_6 4 rfl rfl)
theorem dX4_tours_146 : decode cX4_tours 146 = .ok (.iastore, 1) := dk_79 (dk_at dksX4_tours_6 5 rfl rfl)
theorem dX4_tours_147 : decode cX4_tours 147 = .ok (.goto (-37), 3) := dk_167 255 219 (dk_at dksX4_tours_6 6 rfl rfl)
theorem dX4_tours_150 : decode cX4_tours 150 = .ok (.aload_n 0, 1) := dk_42 (dk_at dksX4_tours_6 9 rfl rfl)
theorem dX4_tours_151 : decode cX4_tours 151 = .ok (.getfield 9, 3) := dk_180 0 9 (dk_at dksX4_tours_6 10 rfl rfl)
theorem dX4_tours_154 : decode cX4_tours 154 = .ok (.iconst 2, 1) := dk_5 (dk_at dksX4_tours_6 13 rfl rfl)
theorem dX4_tours_155 : decode cX4_tours 155 = .ok (.iconst 1, 1) := dk_4 (dk_at dksX4_tours_6 14 rfl rfl)
theorem dX4_tours_156 : decode cX4_tours 156 = .ok (.iastore, 1) := dk_79 (dk_at dksX4_tours_6 15 rfl rfl)
theorem dX4_tours_157 : decode cX4_tours 157 = .ok (.aload_n 0, 1) := dk_42 (dk_at dksX4_tours_6 16 rfl rfl)
theorem dX4_tours_158 : decode cX4_tours 158 = .ok (.getfield 9, 3) := dk_180 0 9 (dk_at dksX4_tours_6 17 rfl rfl)
theorem dX4_tours_161 : decode cX4_tours 161 = .ok (.iconst 3, 1) := dk_6 (dk_at dksX4_tours_6 20 rfl rfl)
theorem dX4_tours_162 : decode cX4_tours 162 = .ok (.aload_n 0, 1) := dk_42 (dk_at dksX4_tours_6 21 rfl rfl)
theorem dX4_tours_163 : decode cX4_tours 163 = .ok (.iload_n 1, 1) := dk_27 (dk_at dksX4_tours_6 22 rfl rfl)
theorem dX4_tours_164 : decode cX4_tours 164 = .ok (.iconst 0, 1) := dk_3 (dk_at dksX4_tours_6 23 rfl rfl)
theorem dX4_tours_165 : decode cX4_tours 165 = .ok (.invokevirtual 108, 3) := dk_182 0 108 (dk_at dksX4_tours_7 0 rfl rfl)
theorem dX4_tours_168 : decode cX4_tours 168 = .ok (.iastore, 1) := dk_79 (dk_at dksX4_tours_7 3 rfl rfl)
theorem dX4_tours_169 : decode cX4_tours 169 = .ok (.aload_n 0, 1) := dk_42 (dk_at dksX4_tours_7 4 rfl rfl)
theorem dX4_tours_170 : decode cX4_tours 170 = .ok (.getfield 9, 3) := dk_180 0 9 (dk_at dksX4_tours_7 5 rfl rfl)
theorem dX4_tours_173 : decode cX4_tours 173 = .ok (.iconst 4, 1) := dk_7 (dk_at dksX4_tours_7 8 rfl rfl)
theorem dX4_tours_174 : decode cX4_tours 174 = .ok (.aload_n 0, 1) := dk_42 (dk_at dksX4_tours_7 9 rfl rfl)
theorem dX4_tours_175 : decode cX4_tours 175 = .ok (.iload_n 1, 1) := dk_27 (dk_at dksX4_tours_7 10 rfl rfl)
theorem dX4_tours_176 : decode cX4_tours 176 = .ok (.iconst 1, 1) := dk_4 (dk_at dksX4_tours_7 11 rfl rfl)
theorem dX4_tours_177 : decode cX4_tours 177 = .ok (.invokevirtual 108, 3) := dk_182 0 108 (dk_at dksX4_tours_7 12 rfl rfl)
theorem dX4_tours_180 : decode cX4_tours 180 = .ok (.iastore, 1) := dk_79 (dk_at dksX4_tours_7 15 rfl rfl)
theorem dX4_tours_181 : decode cX4_tours 181 = .ok (.aload_n 0, 1) := dk_42 (dk_at dksX4_tours_7 16 rfl rfl)
theorem dX4_tours_182 : decode cX4_tours 182 = .ok (.getfield 9, 3) := dk_180 0 9 (dk_at dksX4_tours_7 17 rfl rfl)
theorem dX4_tours_185 : decode cX4_tours 185 = .ok (.iconst 5, 1) := dk_8 (dk_at dksX4_tours_7 20 rfl rfl)
theorem dX4_tours_186 : decode cX4_tours 186 = .ok (.iconst 0, 1) := dk_3 (dk_at dksX4_tours_7 21 rfl rfl)
theorem dX4_tours_187 : decode cX4_tours 187 = .ok (.iastore, 1) := dk_79 (dk_at dksX4_tours_7 22 rfl rfl)
theorem dX4_tours_188 : decode cX4_tours 188 = .ok (.aload_n 0, 1) := dk_42 (dk_at dksX4_tours_7 23 rfl rfl)
theorem dX4_tours_189 : decode cX4_tours 189 = .ok (.getfield 9, 3) := dk_180 0 9 (dk_at dksX4_tours_8 0 rfl rfl)
theorem dX4_tours_192 : decode cX4_tours 192 = .ok (.iconst 1, 1) := dk_4 (dk_at dksX4_tours_8 3 rfl rfl)
theorem dX4_tours_193 : decode cX4_tours 193 = .ok (.iaload, 1) := dk_46 (dk_at dksX4_tours_8 4 rfl rfl)
theorem dX4_tours_194 : decode cX4_tours 194 = .ok (.ireturn, 1) := dk_172 (dk_at dksX4_tours_8 5 rfl rfl)
def dkwX4_isOnTour_0 : List UInt8 := [42, 180, 0, 9, 4, 46, 158, 0, 7, 4, 167, 0, 4, 3, 172]
abbrev dktX4_isOnTour_0 : List UInt8 := dkwX4_isOnTour_0 ++ []
theorem dksX4_isOnTour_0 : cX4_isOnTour.data.toList.drop 0 = dktX4_isOnTour_0 := by decide +kernel
theorem dX4_isOnTour_0 : decode cX4_isOnTour 0 = .ok (.aload_n 0, 1) := dk_42 (dk_at dksX4_isOnTour_0 0 rfl rfl)
theorem dX4_isOnTour_1 : decode cX4_isOnTour 1 = .ok (.getfield 9, 3) := dk_180 0 9 (dk_at dksX4_isOnTour_0 1 rfl rfl)
theorem dX4_isOnTour_4 : decode cX4_isOnTour 4 = .ok (.iconst 1, 1) := dk_4 (dk_at dksX4_isOnTour_0 4 rfl rfl)
theorem dX4_isOnTour_5 : decode cX4_isOnTour 5 = .ok (.iaload, 1) := dk_46 (dk_at dksX4_isOnTour_0 5 rfl rfl)
theorem dX4_isOnTour_6 : decode cX4_isOnTour 6 = .ok (.ifCond .le 7, 3) := dk_158 0 7 (dk_at dksX4_isOnTour_0 6 rfl rfl)
theorem dX4_isOnTour_9 : decode cX4_isOnTour 9 = .ok (.iconst 1, 1) := dk_4 (dk_at dksX4_isOnTour_0 9 rfl rfl)
theorem dX4_isOnTour_10 : decode cX4_isOnTour 10 = .ok (.goto 4, 3) := dk_167 0 4 (dk_at dksX4_isOnTour_0 10 rfl rfl)
theorem dX4_isOnTour_13 : decode cX4_isOnTour 13 = .ok (.iconst 0, 1) := dk_3 (dk_at dksX4_isOnTour_0 13 rfl rfl)
theorem dX4_isOnTour_14 : decode cX4_isOnTour 14 = .ok (.ireturn, 1) := dk_172 (dk_at dksX4_isOnTour_0 14 rfl rfl)
def dkwX4_finds_6 : List UInt8 := [167, 255, 149, 177]
abbrev dktX4_finds_6 : List UInt8 := dkwX4_finds_6 ++ []
def dkwX4_finds_5 : List UInt8 := [180, 0, 22, 21, 4, 46, 42, 21, 4, 21, 5, 182, 0, 55, 96, 79, 4, 61, 132, 3, 1, 167, 255, 160]
abbrev dktX4_finds_5 : List UInt8 := dkwX4_finds_5 ++ dktX4_finds_6
def dkwX4_finds_4 : List UInt8 := [162, 0, 7, 4, 167, 0, 4, 3, 54, 6, 21, 6, 153, 0, 28, 42, 180, 0, 22, 21, 5, 42]
abbrev dktX4_finds_4 : List UInt8 := dkwX4_finds_4 ++ dktX4_finds_5
def dkwX4_finds_3 : List UInt8 := [180, 0, 22, 21, 4, 46, 42, 21, 4, 21, 5, 182, 0, 55, 96, 42, 180, 0, 22, 21, 5, 46]
abbrev dktX4_finds_3 : List UInt8 := dkwX4_finds_3 ++ dktX4_finds_4
def dkwX4_finds_2 : List UInt8 := [29, 16, 12, 108, 54, 4, 29, 16, 12, 112, 54, 5, 42, 21, 4, 21, 5, 182, 0, 55, 158, 0, 33, 42]
abbrev dktX4_finds_2 : List UInt8 := dkwX4_finds_2 ++ dktX4_finds_3
def dkwX4_finds_1 : List UInt8 := [79, 132, 2, 1, 167, 255, 230, 4, 61, 28, 153, 0, 109, 3, 61, 3, 62, 29, 17, 0, 144, 162, 0, 95]
abbrev dktX4_finds_1 : List UInt8 := dkwX4_finds_1 ++ dktX4_finds_2
def dkwX4_finds_0 : List UInt8 := [3, 61, 28, 16, 12, 162, 0, 26, 42, 180, 0, 22, 28, 28, 27, 160, 0, 7, 3, 167, 0, 5, 18, 96]
abbrev dktX4_finds_0 : List UInt8 := dkwX4_finds_0 ++ dktX4_finds_1
theorem dksX4_finds_0 : cX4_finds.data.toList.drop 0 = dktX4_finds_0 := by decide +kernel
theorem dksX4_finds_1 : cX4_finds.data.toList.drop 24 = dktX4_finds_1 := dk_seg dksX4_finds_0 24 rfl rfl
theorem dksX4_finds_2 : cX4_finds.data.toList.drop 48 = dktX4_finds_2 := dk_seg dksX4_finds_1 24 rfl rfl
theorem dksX4_finds_3 : cX4_finds.data.toList.drop 72 = dktX4_finds_3 := dk_seg dksX4_finds_2 24 rfl rfl
theorem dksX4_finds_4 : cX4_finds.data.toList.drop 94 = dktX4_finds_4 := dk_seg dksX4_finds_3 22 rfl rfl
theorem dksX4_finds_5 : cX4_finds.data.toList.drop 116 = dktX4_finds_5 := dk_seg dksX4_finds_4 22 rfl rfl
theorem dksX4_finds_6 : cX4_finds.data.toList.drop 140 = dktX4_finds_6 := dk_seg dksX4_finds_5 24 rfl rfl
theorem dX4_finds_0 : decode cX4_finds 0 = .ok (.iconst 0, 1) := dk_3 (dk_at dksX4_finds_0 0 rfl rfl)
theorem dX4_finds_1 : decode cX4_finds 1 = .ok (.istore_n 2, 1) := dk_61 (dk_at dksX4_finds_0 1 rfl rfl)
theorem dX4_finds_2 : decode cX4_finds 2 = .ok (.iload_n 2, 1) := dk_28 (dk_at dksX4_finds_0 2 rfl rfl)
theorem dX4_finds_3 : decode cX4_finds 3 = .ok (.bipush 12, 2) := dk_16 12 (dk_at dksX4_finds_0 3 rfl rfl)
theorem dX4_finds_5 : decode cX4_finds 5 = .ok (.if_icmp .ge 26, 3) := dk_162 0 26 (dk_at dksX4_finds_0 5 rfl rfl)
theorem dX4_finds_8 : decode cX4_finds 8 = .ok (.aload_n 0, 1) := dk_42 (dk_at dksX4_finds_0 8 rfl rfl)
theorem dX4_finds_9 : decode cX4_finds 9 = .ok (.getfield 22, 3) := dk_180 0 22 (dk_at dksX4_finds_0 9 rfl rfl)
theorem dX4_finds_12 : decode cX4_finds 12 = .ok (.iload_n 2, 1) := dk_28 (dk_at dksX4_finds_0 12 rfl rfl)
theorem dX4_finds_13 : decode cX4_finds 13 = .ok (.iload_n 2, 1) := dk_28 (dk_at dksX4_finds_0 13 rfl rfl)
theorem dX4_finds_14 : decode cX4_finds 14 = .ok (.iload_n 1, 1) := dk_27 (dk_at dksX4_finds_0 14 rfl rfl)
theorem dX4_finds_15 : decode cX4_finds 15 = .ok (.if_icmp .ne 7, 3) := dk_160 0 7 (dk_at dksX4_finds_0 15 rfl rfl)
theorem dX4_finds_18 : decode cX4_finds 18 = .ok (.iconst 0, 1) := dk_3 (dk_at dksX4_finds_0 18 rfl rfl)
theorem dX4_finds_19 : decode cX4_finds 19 = .ok (.goto 5, 3) := dk_167 0 5 (dk_at dksX4_finds_0 19 rfl rfl)
theorem dX4_finds_22 : decode cX4_finds 22 = .ok (.ldc 96, 2) := dk_18 96 (dk_at dksX4_finds_0 22 rfl rfl)
theorem dX4_finds_24 : decode cX4_finds 24 = .ok (.iastore, 1) := dk_79 (dk_at dksX4_finds_1 0 rfl rfl)
theorem dX4_finds_25 : decode cX4_finds 25 = .ok (.iinc 2 1, 3) := dk_132 2 1 (dk_at dksX4_finds_1 1 rfl rfl)
theorem dX4_finds_28 : decode cX4_finds 28 = .ok (.goto (-26), 3) := dk_167 255 230 (dk_at dksX4_finds_1 4 rfl rfl)
theorem dX4_finds_31 : decode cX4_finds 31 = .ok (.iconst 1, 1) := dk_4 (dk_at dksX4_finds_1 7 rfl rfl)
theorem dX4_finds_32 : decode cX4_finds 32 = .ok (.istore_n 2, 1) := dk_61 (dk_at dksX4_finds_1 8 rfl rfl)
theorem dX4_finds_33 : decode cX4_finds 33 = .ok (.iload_n 2, 1) := dk_28 (dk_at dksX4_finds_1 9 rfl rfl)
theorem dX4_finds_34 : decode cX4_finds 34 = .ok (.ifCond .eq 109, 3) := dk_153 0 109 (dk_at dksX4_finds_1 10 rfl rfl)
theorem dX4_finds_37 : decode cX4_finds 37 = .ok (.iconst 0, 1) := dk_3 (dk_at dksX4_finds_1 13 rfl rfl)
theorem dX4_finds_38 : decode cX4_finds 38 = .ok (.istore_n 2, 1) := dk_61 (dk_at dksX4_finds_1 14 rfl rfl)
theorem dX4_finds_39 : decode cX4_finds 39 = .ok (.iconst 0, 1) := dk_3 (dk_at dksX4_finds_1 15 rfl rfl)
theorem dX4_finds_40 : decode cX4_finds 40 = .ok (.istore_n 3, 1) := dk_62 (dk_at dksX4_finds_1 16 rfl rfl)
theorem dX4_finds_41 : decode cX4_finds 41 = .ok (.iload_n 3, 1) := dk_29 (dk_at dksX4_finds_1 17 rfl rfl)
theorem dX4_finds_42 : decode cX4_finds 42 = .ok (.sipush 144, 3) := dk_17 0 144 (dk_at dksX4_finds_1 18 rfl rfl)
theorem dX4_finds_45 : decode cX4_finds 45 = .ok (.if_icmp .ge 95, 3) := dk_162 0 95 (dk_at dksX4_finds_1 21 rfl rfl)
theorem dX4_finds_48 : decode cX4_finds 48 = .ok (.iload_n 3, 1) := dk_29 (dk_at dksX4_finds_2 0 rfl rfl)
theorem dX4_finds_49 : decode cX4_finds 49 = .ok (.bipush 12, 2) := dk_16 12 (dk_at dksX4_finds_2 1 rfl rfl)
theorem dX4_finds_51 : decode cX4_finds 51 = .ok (.idiv, 1) := dk_108 (dk_at dksX4_finds_2 3 rfl rfl)
theorem dX4_finds_52 : decode cX4_finds 52 = .ok (.istore 4, 2) := dk_54 4 (dk_at dksX4_finds_2 4 rfl rfl)
theorem dX4_finds_54 : decode cX4_finds 54 = .ok (.iload_n 3, 1) := dk_29 (dk_at dksX4_finds_2 6 rfl rfl)
theorem dX4_finds_55 : decode cX4_finds 55 = .ok (.bipush 12, 2) := dk_16 12 (dk_at dksX4_finds_2 7 rfl rfl)
theorem dX4_finds_57 : decode cX4_finds 57 = .ok (.irem, 1) := dk_112 (dk_at dksX4_finds_2 9 rfl rfl)
theorem dX4_finds_58 : decode cX4_finds 58 = .ok (.istore 5, 2) := dk_54 5 (dk_at dksX4_finds_2 10 rfl rfl)
theorem dX4_finds_60 : decode cX4_finds 60 = .ok (.aload_n 0, 1) := dk_42 (dk_at dksX4_finds_2 12 rfl rfl)
theorem dX4_finds_61 : decode cX4_finds 61 = .ok (.iload 4, 2) := dk_21 4 (dk_at dksX4_finds_2 13 rfl rfl)
theorem dX4_finds_63 : decode cX4_finds 63 = .ok (.iload 5, 2) := dk_21 5 (dk_at dksX4_finds_2 15 rfl rfl)
theorem dX4_finds_65 : decode cX4_finds 65 = .ok (.invokevirtual 55, 3) := dk_182 0 55 (dk_at dksX4_finds_2 17 rfl rfl)
theorem dX4_finds_68 : decode cX4_finds 68 = .ok (.ifCond .le 33, 3) := dk_158 0 33 (dk_at dksX4_finds_2 20 rfl rfl)
theorem dX4_finds_71 : decode cX4_finds 71 = .ok (.aload_n 0, 1) := dk_42 (dk_at dksX4_finds_2 23 rfl rfl)
theorem dX4_finds_72 : decode cX4_finds 72 = .ok (.getfield 22, 3) := dk_180 0 22 (dk_at dksX4_finds_3 0 rfl rfl)
theorem dX4_finds_75 : decode cX4_finds 75 = .ok (.iload 4, 2) := dk_21 4 (dk_at dksX4_finds_3 3 rfl rfl)
theorem dX4_finds_77 : decode cX4_finds 77 = .ok (.iaload, 1) := dk_46 (dk_at dksX4_finds_3 5 rfl rfl)
theorem dX4_finds_78 : decode cX4_finds 78 = .ok (.aload_n 0, 1) := dk_42 (dk_at dksX4_finds_3 6 rfl rfl)
theorem dX4_finds_79 : decode cX4_finds 79 = .ok (.iload 4, 2) := dk_21 4 (dk_at dksX4_finds_3 7 rfl rfl)
theorem dX4_finds_81 : decode cX4_finds 81 = .ok (.iload 5, 2) := dk_21 5 (dk_at dksX4_finds_3 9 rfl rfl)
theorem dX4_finds_83 : decode cX4_finds 83 = .ok (.invokevirtual 55, 3) := dk_182 0 55 (dk_at dksX4_finds_3 11 rfl rfl)
theorem dX4_finds_86 : decode cX4_finds 86 = .ok (.iadd, 1) := dk_96 (dk_at dksX4_finds_3 14 rfl rfl)
theorem dX4_finds_87 : decode cX4_finds 87 = .ok (.aload_n 0, 1) := dk_42 (dk_at dksX4_finds_3 15 rfl rfl)
theorem dX4_finds_88 : decode cX4_finds 88 = .ok (.getfield 22, 3) := dk_180 0 22 (dk_at dksX4_finds_3 16 rfl rfl)
theorem dX4_finds_91 : decode cX4_finds 91 = .ok (.iload 5, 2) := dk_21 5 (dk_at dksX4_finds_3 19 rfl rfl)
theorem dX4_finds_93 : decode cX4_finds 93 = .ok (.iaload, 1) := dk_46 (dk_at dksX4_finds_3 21 rfl rfl)
theorem dX4_finds_94 : decode cX4_finds 94 = .ok (.if_icmp .ge 7, 3) := dk_162 0 7 (dk_at dksX4_finds_4 0 rfl rfl)
theorem dX4_finds_97 : decode cX4_finds 97 = .ok (.iconst 1, 1) := dk_4 (dk_at dksX4_finds_4 3 rfl rfl)
theorem dX4_finds_98 : decode cX4_finds 98 = .ok (.goto 4, 3) := dk_167 0 4 (dk_at dksX4_finds_4 4 rfl rfl)
theorem dX4_finds_101 : decode cX4_finds 101 = .ok (.iconst 0, 1) := dk_3 (dk_at dksX4_finds_4 7 rfl rfl)
theorem dX4_finds_102 : decode cX4_finds 102 = .ok (.istore 6, 2) := dk_54 6 (dk_at dksX4_finds_4 8 rfl rfl)
theorem dX4_finds_104 : decode cX4_finds 104 = .ok (.iload 6, 2) := dk_21 6 (dk_at dksX4_finds_4 10 rfl rfl)
theorem dX4_finds_106 : decode cX4_finds 106 = .ok (.ifCond .eq 28, 3) := dk_153 0 28 (dk_at dksX4_finds_4 12 rfl rfl)
theorem dX4_finds_109 : decode cX4_finds 109 = .ok (.aload_n 0, 1) := dk_42 (dk_at dksX4_finds_4 15 rfl rfl)
theorem dX4_finds_110 : decode cX4_finds 110 = .ok (.getfield 22, 3) := dk_180 0 22 (dk_at dksX4_finds_4 16 rfl rfl)
theorem dX4_finds_113 : decode cX4_finds 113 = .ok (.iload 5, 2) := dk_21 5 (dk_at dksX4_finds_4 19 rfl rfl)
theorem dX4_finds_115 : decode cX4_finds 115 = .ok (.aload_n 0, 1) := dk_42 (dk_at dksX4_finds_4 21 rfl rfl)
theorem dX4_finds_116 : decode cX4_finds 116 = .ok (.getfield 22, 3) := dk_180 0 22 (dk_at dksX4_finds_5 0 rfl rfl)
theorem dX4_finds_119 : decode cX4_finds 119 = .ok (.iload 4, 2) := dk_21 4 (dk_at dksX4_finds_5 3 rfl rfl)
theorem dX4_finds_121 : decode cX4_finds 121 = .ok (.iaload, 1) := dk_46 (dk_at dksX4_finds_5 5 rfl rfl)
theorem dX4_finds_122 : decode cX4_finds 122 = .ok (.aload_n 0, 1) := dk_42 (dk_at dksX4_finds_5 6 rfl rfl)
theorem dX4_finds_123 : decode cX4_finds 123 = .ok (.iload 4, 2) := dk_21 4 (dk_at dksX4_finds_5 7 rfl rfl)
theorem dX4_finds_125 : decode cX4_finds 125 = .ok (.iload 5, 2) := dk_21 5 (dk_at dksX4_finds_5 9 rfl rfl)
theorem dX4_finds_127 : decode cX4_finds 127 = .ok (.invokevirtual 55, 3) := dk_182 0 55 (dk_at dksX4_finds_5 11 rfl rfl)
theorem dX4_finds_130 : decode cX4_finds 130 = .ok (.iadd, 1) := dk_96 (dk_at dksX4_finds_5 14 rfl rfl)
theorem dX4_finds_131 : decode cX4_finds 131 = .ok (.iastore, 1) := dk_79 (dk_at dksX4_finds_5 15 rfl rfl)
theorem dX4_finds_132 : decode cX4_finds 132 = .ok (.iconst 1, 1) := dk_4 (dk_at dksX4_finds_5 16 rfl rfl)
theorem dX4_finds_133 : decode cX4_finds 133 = .ok (.istore_n 2, 1) := dk_61 (dk_at dksX4_finds_5 17 rfl rfl)
theorem dX4_finds_134 : decode cX4_finds 134 = .ok (.iinc 3 1, 3) := dk_132 3 1 (dk_at dksX4_finds_5 18 rfl rfl)
theorem dX4_finds_137 : decode cX4_finds 137 = .ok (.goto (-96), 3) := dk_167 255 160 (dk_at dksX4_finds_5 21 rfl rfl)
theorem dX4_finds_140 : decode cX4_finds 140 = .ok (.goto (-107), 3) := dk_167 255 149 (dk_at dksX4_finds_6 0 rfl rfl)
theorem dX4_finds_143 : decode cX4_finds 143 = .ok (.return_, 1) := dk_177 (dk_at dksX4_finds_6 3 rfl rfl)
def dkwX4_following_2 : List UInt8 := [167, 255, 210, 27, 172]
abbrev dktX4_following_2 : List UInt8 := dkwX4_following_2 ++ []
def dkwX4_following_1 : List UInt8 := [182, 0, 55, 42, 180, 0, 22, 28, 46, 96, 42, 180, 0, 22, 27, 46, 160, 0, 5, 28, 172, 132, 2, 1]
abbrev dktX4_following_1 : List UInt8 := dkwX4_following_1 ++ dktX4_following_2
def dkwX4_following_0 : List UInt8 := [3, 61, 28, 42, 180, 0, 9, 3, 46, 162, 0, 42, 42, 27, 28, 182, 0, 55, 158, 0, 27, 42, 27, 28]
abbrev dktX4_following_0 : List UInt8 := dkwX4_following_0 ++ dktX4_following_1
theorem dksX4_following_0 : cX4_following.data.toList.drop 0 = dktX4_following_0 := by decide +kernel
theorem dksX4_following_1 : cX4_following.data.toList.drop 24 = dktX4_following_1 := dk_seg dksX4_following_0 24 rfl rfl
theorem dksX4_following_2 : cX4_following.data.toList.drop 48 = dktX4_following_2 := dk_seg dksX4_following_1 24 rfl rfl
theorem dX4_following_0 : decode cX4_following 0 = .ok (.iconst 0, 1) := dk_3 (dk_at dksX4_following_0 0 rfl rfl)
theorem dX4_following_1 : decode cX4_following 1 = .ok (.istore_n 2, 1) := dk_61 (dk_at dksX4_following_0 1 rfl rfl)
theorem dX4_following_2 : decode cX4_following 2 = .ok (.iload_n 2, 1) := dk_28 (dk_at dksX4_following_0 2 rfl rfl)
theorem dX4_following_3 : decode cX4_following 3 = .ok (.aload_n 0, 1) := dk_42 (dk_at dksX4_following_0 3 rfl rfl)
theorem dX4_following_4 : decode cX4_following 4 = .ok (.getfield 9, 3) := dk_180 0 9 (dk_at dksX4_following_0 4 rfl rfl)
theorem dX4_following_7 : decode cX4_following 7 = .ok (.iconst 0, 1) := dk_3 (dk_at dksX4_following_0 7 rfl rfl)
theorem dX4_following_8 : decode cX4_following 8 = .ok (.iaload, 1) := dk_46 (dk_at dksX4_following_0 8 rfl rfl)
theorem dX4_following_9 : decode cX4_following 9 = .ok (.if_icmp .ge 42, 3) := dk_162 0 42 (dk_at dksX4_following_0 9 rfl rfl)
theorem dX4_following_12 : decode cX4_following 12 = .ok (.aload_n 0, 1) := dk_42 (dk_at dksX4_following_0 12 rfl rfl)
theorem dX4_following_13 : decode cX4_following 13 = .ok (.iload_n 1, 1) := dk_27 (dk_at dksX4_following_0 13 rfl rfl)
theorem dX4_following_14 : decode cX4_following 14 = .ok (.iload_n 2, 1) := dk_28 (dk_at dksX4_following_0 14 rfl rfl)
theorem dX4_following_15 : decode cX4_following 15 = .ok (.invokevirtual 55, 3) := dk_182 0 55 (dk_at dksX4_following_0 15 rfl rfl)
theorem dX4_following_18 : decode cX4_following 18 = .ok (.ifCond .le 27, 3) := dk_158 0 27 (dk_at dksX4_following_0 18 rfl rfl)
theorem dX4_following_21 : decode cX4_following 21 = .ok (.aload_n 0, 1) := dk_42 (dk_at dksX4_following_0 21 rfl rfl)
theorem dX4_following_22 : decode cX4_following 22 = .ok (.iload_n 1, 1) := dk_27 (dk_at dksX4_following_0 22 rfl rfl)
theorem dX4_following_23 : decode cX4_following 23 = .ok (.iload_n 2, 1) := dk_28 (dk_at dksX4_following_0 23 rfl rfl)
theorem dX4_following_24 : decode cX4_following 24 = .ok (.invokevirtual 55, 3) := dk_182 0 55 (dk_at dksX4_following_1 0 rfl rfl)
theorem dX4_following_27 : decode cX4_following 27 = .ok (.aload_n 0, 1) := dk_42 (dk_at dksX4_following_1 3 rfl rfl)
theorem dX4_following_28 : decode cX4_following 28 = .ok (.getfield 22, 3) := dk_180 0 22 (dk_at dksX4_following_1 4 rfl rfl)
theorem dX4_following_31 : decode cX4_following 31 = .ok (.iload_n 2, 1) := dk_28 (dk_at dksX4_following_1 7 rfl rfl)
theorem dX4_following_32 : decode cX4_following 32 = .ok (.iaload, 1) := dk_46 (dk_at dksX4_following_1 8 rfl rfl)
theorem dX4_following_33 : decode cX4_following 33 = .ok (.iadd, 1) := dk_96 (dk_at dksX4_following_1 9 rfl rfl)
theorem dX4_following_34 : decode cX4_following 34 = .ok (.aload_n 0, 1) := dk_42 (dk_at dksX4_following_1 10 rfl rfl)
theorem dX4_following_35 : decode cX4_following 35 = .ok (.getfield 22, 3) := dk_180 0 22 (dk_at dksX4_following_1 11 rfl rfl)
theorem dX4_following_38 : decode cX4_following 38 = .ok (.iload_n 1, 1) := dk_27 (dk_at dksX4_following_1 14 rfl rfl)
theorem dX4_following_39 : decode cX4_following 39 = .ok (.iaload, 1) := dk_46 (dk_at dksX4_following_1 15 rfl rfl)
theorem dX4_following_40 : decode cX4_following 40 = .ok (.if_icmp .ne 5, 3) := dk_160 0 5 (dk_at dksX4_following_1 16 rfl rfl)
theorem dX4_following_43 : decode cX4_following 43 = .ok (.iload_n 2, 1) := dk_28 (dk_at dksX4_following_1 19 rfl rfl)
theorem dX4_following_44 : decode cX4_following 44 = .ok (.ireturn, 1) := dk_172 (dk_at dksX4_following_1 20 rfl rfl)
theorem dX4_following_45 : decode cX4_following 45 = .ok (.iinc 2 1, 3) := dk_132 2 1 (dk_at dksX4_following_1 21 rfl rfl)
theorem dX4_following_48 : decode cX4_following 48 = .ok (.goto (-46), 3) := dk_167 255 210 (dk_at dksX4_following_2 0 rfl rfl)
theorem dX4_following_51 : decode cX4_following 51 = .ok (.iload_n 1, 1) := dk_27 (dk_at dksX4_following_2 3 rfl rfl)
theorem dX4_following_52 : decode cX4_following 52 = .ok (.ireturn, 1) := dk_172 (dk_at dksX4_following_2 4 rfl rfl)
def dkwX4_of_0 : List UInt8 := [42, 180, 0, 9, 16, 12, 6, 27, 104, 96, 28, 96, 46, 172]
abbrev dktX4_of_0 : List UInt8 := dkwX4_of_0 ++ []
theorem dksX4_of_0 : cX4_of.data.toList.drop 0 = dktX4_of_0 := by decide +kernel
theorem dX4_of_0 : decode cX4_of 0 = .ok (.aload_n 0, 1) := dk_42 (dk_at dksX4_of_0 0 rfl rfl)
theorem dX4_of_1 : decode cX4_of 1 = .ok (.getfield 9, 3) := dk_180 0 9 (dk_at dksX4_of_0 1 rfl rfl)
theorem dX4_of_4 : decode cX4_of 4 = .ok (.bipush 12, 2) := dk_16 12 (dk_at dksX4_of_0 4 rfl rfl)
theorem dX4_of_6 : decode cX4_of 6 = .ok (.iconst 3, 1) := dk_6 (dk_at dksX4_of_0 6 rfl rfl)
theorem dX4_of_7 : decode cX4_of 7 = .ok (.iload_n 1, 1) := dk_27 (dk_at dksX4_of_0 7 rfl rfl)
theorem dX4_of_8 : decode cX4_of 8 = .ok (.imul, 1) := dk_104 (dk_at dksX4_of_0 8 rfl rfl)
theorem dX4_of_9 : decode cX4_of 9 = .ok (.iadd, 1) := dk_96 (dk_at dksX4_of_0 9 rfl rfl)
theorem dX4_of_10 : decode cX4_of 10 = .ok (.iload_n 2, 1) := dk_28 (dk_at dksX4_of_0 10 rfl rfl)
theorem dX4_of_11 : decode cX4_of 11 = .ok (.iadd, 1) := dk_96 (dk_at dksX4_of_0 11 rfl rfl)
theorem dX4_of_12 : decode cX4_of 12 = .ok (.iaload, 1) := dk_46 (dk_at dksX4_of_0 12 rfl rfl)
theorem dX4_of_13 : decode cX4_of 13 = .ok (.ireturn, 1) := dk_172 (dk_at dksX4_of_0 13 rfl rfl)
def dkwX4_stopTour_0 : List UInt8 := [42, 182, 0, 67, 42, 42, 182, 0, 117, 182, 0, 74, 172]
abbrev dktX4_stopTour_0 : List UInt8 := dkwX4_stopTour_0 ++ []
theorem dksX4_stopTour_0 : cX4_stopTour.data.toList.drop 0 = dktX4_stopTour_0 := by decide +kernel
theorem dX4_stopTour_0 : decode cX4_stopTour 0 = .ok (.aload_n 0, 1) := dk_42 (dk_at dksX4_stopTour_0 0 rfl rfl)
theorem dX4_stopTour_1 : decode cX4_stopTour 1 = .ok (.invokevirtual 67, 3) := dk_182 0 67 (dk_at dksX4_stopTour_0 1 rfl rfl)
theorem dX4_stopTour_4 : decode cX4_stopTour 4 = .ok (.aload_n 0, 1) := dk_42 (dk_at dksX4_stopTour_0 4 rfl rfl)
theorem dX4_stopTour_5 : decode cX4_stopTour 5 = .ok (.aload_n 0, 1) := dk_42 (dk_at dksX4_stopTour_0 5 rfl rfl)
theorem dX4_stopTour_6 : decode cX4_stopTour 6 = .ok (.invokevirtual 117, 3) := dk_182 0 117 (dk_at dksX4_stopTour_0 6 rfl rfl)
theorem dX4_stopTour_9 : decode cX4_stopTour 9 = .ok (.invokevirtual 74, 3) := dk_182 0 74 (dk_at dksX4_stopTour_0 9 rfl rfl)
theorem dX4_stopTour_12 : decode cX4_stopTour 12 = .ok (.ireturn, 1) := dk_172 (dk_at dksX4_stopTour_0 12 rfl rfl)
def dkwX4_stops_1 : List UInt8 := [180, 0, 9, 4, 46, 42, 180, 0, 9, 5, 46, 100, 60, 42, 182, 0, 114, 27, 172]
abbrev dktX4_stops_1 : List UInt8 := dkwX4_stops_1 ++ []
def dkwX4_stops_0 : List UInt8 := [42, 42, 182, 0, 97, 154, 0, 7, 4, 167, 0, 4, 3, 4, 182, 0, 63, 153, 0, 5, 3, 172, 42]
abbrev dktX4_stops_0 : List UInt8 := dkwX4_stops_0 ++ dktX4_stops_1
theorem dksX4_stops_0 : cX4_stops.data.toList.drop 0 = dktX4_stops_0 := by decide +kernel
theorem dksX4_stops_1 : cX4_stops.data.toList.drop 23 = dktX4_stops_1 := dk_seg dksX4_stops_0 23 rfl rfl
theorem dX4_stops_0 : decode cX4_stops 0 = .ok (.aload_n 0, 1) := dk_42 (dk_at dksX4_stops_0 0 rfl rfl)
theorem dX4_stops_1 : decode cX4_stops 1 = .ok (.aload_n 0, 1) := dk_42 (dk_at dksX4_stops_0 1 rfl rfl)
theorem dX4_stops_2 : decode cX4_stops 2 = .ok (.invokevirtual 97, 3) := dk_182 0 97 (dk_at dksX4_stops_0 2 rfl rfl)
theorem dX4_stops_5 : decode cX4_stops 5 = .ok (.ifCond .ne 7, 3) := dk_154 0 7 (dk_at dksX4_stops_0 5 rfl rfl)
theorem dX4_stops_8 : decode cX4_stops 8 = .ok (.iconst 1, 1) := dk_4 (dk_at dksX4_stops_0 8 rfl rfl)
theorem dX4_stops_9 : decode cX4_stops 9 = .ok (.goto 4, 3) := dk_167 0 4 (dk_at dksX4_stops_0 9 rfl rfl)
theorem dX4_stops_12 : decode cX4_stops 12 = .ok (.iconst 0, 1) := dk_3 (dk_at dksX4_stops_0 12 rfl rfl)
theorem dX4_stops_13 : decode cX4_stops 13 = .ok (.iconst 1, 1) := dk_4 (dk_at dksX4_stops_0 13 rfl rfl)
theorem dX4_stops_14 : decode cX4_stops 14 = .ok (.invokevirtual 63, 3) := dk_182 0 63 (dk_at dksX4_stops_0 14 rfl rfl)
theorem dX4_stops_17 : decode cX4_stops 17 = .ok (.ifCond .eq 5, 3) := dk_153 0 5 (dk_at dksX4_stops_0 17 rfl rfl)
theorem dX4_stops_20 : decode cX4_stops 20 = .ok (.iconst 0, 1) := dk_3 (dk_at dksX4_stops_0 20 rfl rfl)
theorem dX4_stops_21 : decode cX4_stops 21 = .ok (.ireturn, 1) := dk_172 (dk_at dksX4_stops_0 21 rfl rfl)
theorem dX4_stops_22 : decode cX4_stops 22 = .ok (.aload_n 0, 1) := dk_42 (dk_at dksX4_stops_0 22 rfl rfl)
theorem dX4_stops_23 : decode cX4_stops 23 = .ok (.getfield 9, 3) := dk_180 0 9 (dk_at dksX4_stops_1 0 rfl rfl)
theorem dX4_stops_26 : decode cX4_stops 26 = .ok (.iconst 1, 1) := dk_4 (dk_at dksX4_stops_1 3 rfl rfl)
theorem dX4_stops_27 : decode cX4_stops 27 = .ok (.iaload, 1) := dk_46 (dk_at dksX4_stops_1 4 rfl rfl)
theorem dX4_stops_28 : decode cX4_stops 28 = .ok (.aload_n 0, 1) := dk_42 (dk_at dksX4_stops_1 5 rfl rfl)
theorem dX4_stops_29 : decode cX4_stops 29 = .ok (.getfield 9, 3) := dk_180 0 9 (dk_at dksX4_stops_1 6 rfl rfl)
theorem dX4_stops_32 : decode cX4_stops 32 = .ok (.iconst 2, 1) := dk_5 (dk_at dksX4_stops_1 9 rfl rfl)
theorem dX4_stops_33 : decode cX4_stops 33 = .ok (.iaload, 1) := dk_46 (dk_at dksX4_stops_1 10 rfl rfl)
theorem dX4_stops_34 : decode cX4_stops 34 = .ok (.isub, 1) := dk_100 (dk_at dksX4_stops_1 11 rfl rfl)
theorem dX4_stops_35 : decode cX4_stops 35 = .ok (.istore_n 1, 1) := dk_60 (dk_at dksX4_stops_1 12 rfl rfl)
theorem dX4_stops_36 : decode cX4_stops 36 = .ok (.aload_n 0, 1) := dk_42 (dk_at dksX4_stops_1 13 rfl rfl)
theorem dX4_stops_37 : decode cX4_stops 37 = .ok (.invokevirtual 114, 3) := dk_182 0 114 (dk_at dksX4_stops_1 14 rfl rfl)
theorem dX4_stops_40 : decode cX4_stops 40 = .ok (.iload_n 1, 1) := dk_27 (dk_at dksX4_stops_1 17 rfl rfl)
theorem dX4_stops_41 : decode cX4_stops 41 = .ok (.ireturn, 1) := dk_172 (dk_at dksX4_stops_1 18 rfl rfl)
def dkwX4_over_2 : List UInt8 := [42, 180, 0, 9, 7, 3, 79, 42, 180, 0, 9, 8, 3, 79, 177]
abbrev dktX4_over_2 : List UInt8 := dkwX4_over_2 ++ []
def dkwX4_over_1 : List UInt8 := [167, 255, 236, 42, 180, 0, 9, 4, 3, 79, 42, 180, 0, 9, 5, 3, 79, 42, 180, 0, 9, 6, 3, 79]
abbrev dktX4_over_1 : List UInt8 := dkwX4_over_1 ++ dktX4_over_2
def dkwX4_over_0 : List UInt8 := [3, 60, 27, 16, 12, 162, 0, 20, 42, 180, 0, 9, 17, 0, 192, 27, 96, 3, 79, 132, 1, 1]
abbrev dktX4_over_0 : List UInt8 := dkwX4_over_0 ++ dktX4_over_1
theorem dksX4_over_0 : cX4_over.data.toList.drop 0 = dktX4_over_0 := by decide +kernel
theorem dksX4_over_1 : cX4_over.data.toList.drop 22 = dktX4_over_1 := dk_seg dksX4_over_0 22 rfl rfl
theorem dksX4_over_2 : cX4_over.data.toList.drop 46 = dktX4_over_2 := dk_seg dksX4_over_1 24 rfl rfl
theorem dX4_over_0 : decode cX4_over 0 = .ok (.iconst 0, 1) := dk_3 (dk_at dksX4_over_0 0 rfl rfl)
theorem dX4_over_1 : decode cX4_over 1 = .ok (.istore_n 1, 1) := dk_60 (dk_at dksX4_over_0 1 rfl rfl)
theorem dX4_over_2 : decode cX4_over 2 = .ok (.iload_n 1, 1) := dk_27 (dk_at dksX4_over_0 2 rfl rfl)
theorem dX4_over_3 : decode cX4_over 3 = .ok (.bipush 12, 2) := dk_16 12 (dk_at dksX4_over_0 3 rfl rfl)
theorem dX4_over_5 : decode cX4_over 5 = .ok (.if_icmp .ge 20, 3) := dk_162 0 20 (dk_at dksX4_over_0 5 rfl rfl)
theorem dX4_over_8 : decode cX4_over 8 = .ok (.aload_n 0, 1) := dk_42 (dk_at dksX4_over_0 8 rfl rfl)
theorem dX4_over_9 : decode cX4_over 9 = .ok (.getfield 9, 3) := dk_180 0 9 (dk_at dksX4_over_0 9 rfl rfl)
theorem dX4_over_12 : decode cX4_over 12 = .ok (.sipush 192, 3) := dk_17 0 192 (dk_at dksX4_over_0 12 rfl rfl)
theorem dX4_over_15 : decode cX4_over 15 = .ok (.iload_n 1, 1) := dk_27 (dk_at dksX4_over_0 15 rfl rfl)
theorem dX4_over_16 : decode cX4_over 16 = .ok (.iadd, 1) := dk_96 (dk_at dksX4_over_0 16 rfl rfl)
theorem dX4_over_17 : decode cX4_over 17 = .ok (.iconst 0, 1) := dk_3 (dk_at dksX4_over_0 17 rfl rfl)
theorem dX4_over_18 : decode cX4_over 18 = .ok (.iastore, 1) := dk_79 (dk_at dksX4_over_0 18 rfl rfl)
theorem dX4_over_19 : decode cX4_over 19 = .ok (.iinc 1 1, 3) := dk_132 1 1 (dk_at dksX4_over_0 19 rfl rfl)
theorem dX4_over_22 : decode cX4_over 22 = .ok (.goto (-20), 3) := dk_167 255 236 (dk_at dksX4_over_1 0 rfl rfl)
theorem dX4_over_25 : decode cX4_over 25 = .ok (.aload_n 0, 1) := dk_42 (dk_at dksX4_over_1 3 rfl rfl)
theorem dX4_over_26 : decode cX4_over 26 = .ok (.getfield 9, 3) := dk_180 0 9 (dk_at dksX4_over_1 4 rfl rfl)
theorem dX4_over_29 : decode cX4_over 29 = .ok (.iconst 1, 1) := dk_4 (dk_at dksX4_over_1 7 rfl rfl)
theorem dX4_over_30 : decode cX4_over 30 = .ok (.iconst 0, 1) := dk_3 (dk_at dksX4_over_1 8 rfl rfl)
theorem dX4_over_31 : decode cX4_over 31 = .ok (.iastore, 1) := dk_79 (dk_at dksX4_over_1 9 rfl rfl)
theorem dX4_over_32 : decode cX4_over 32 = .ok (.aload_n 0, 1) := dk_42 (dk_at dksX4_over_1 10 rfl rfl)
theorem dX4_over_33 : decode cX4_over 33 = .ok (.getfield 9, 3) := dk_180 0 9 (dk_at dksX4_over_1 11 rfl rfl)
theorem dX4_over_36 : decode cX4_over 36 = .ok (.iconst 2, 1) := dk_5 (dk_at dksX4_over_1 14 rfl rfl)
theorem dX4_over_37 : decode cX4_over 37 = .ok (.iconst 0, 1) := dk_3 (dk_at dksX4_over_1 15 rfl rfl)
theorem dX4_over_38 : decode cX4_over 38 = .ok (.iastore, 1) := dk_79 (dk_at dksX4_over_1 16 rfl rfl)
theorem dX4_over_39 : decode cX4_over 39 = .ok (.aload_n 0, 1) := dk_42 (dk_at dksX4_over_1 17 rfl rfl)
theorem dX4_over_40 : decode cX4_over 40 = .ok (.getfield 9, 3) := dk_180 0 9 (dk_at dksX4_over_1 18 rfl rfl)
theorem dX4_over_43 : decode cX4_over 43 = .ok (.iconst 3, 1) := dk_6 (dk_at dksX4_over_1 21 rfl rfl)
theorem dX4_over_44 : decode cX4_over 44 = .ok (.iconst 0, 1) := dk_3 (dk_at dksX4_over_1 22 rfl rfl)
theorem dX4_over_45 : decode cX4_over 45 = .ok (.iastore, 1) := dk_79 (dk_at dksX4_over_1 23 rfl rfl)
theorem dX4_over_46 : decode cX4_over 46 = .ok (.aload_n 0, 1) := dk_42 (dk_at dksX4_over_2 0 rfl rfl)
theorem dX4_over_47 : decode cX4_over 47 = .ok (.getfield 9, 3) := dk_180 0 9 (dk_at dksX4_over_2 1 rfl rfl)
theorem dX4_over_50 : decode cX4_over 50 = .ok (.iconst 4, 1) := dk_7 (dk_at dksX4_over_2 4 rfl rfl)
theorem dX4_over_51 : decode cX4_over 51 = .ok (.iconst 0, 1) := dk_3 (dk_at dksX4_over_2 5 rfl rfl)
theorem dX4_over_52 : decode cX4_over 52 = .ok (.iastore, 1) := dk_79 (dk_at dksX4_over_2 6 rfl rfl)
theorem dX4_over_53 : decode cX4_over 53 = .ok (.aload_n 0, 1) := dk_42 (dk_at dksX4_over_2 7 rfl rfl)
theorem dX4_over_54 : decode cX4_over 54 = .ok (.getfield 9, 3) := dk_180 0 9 (dk_at dksX4_over_2 8 rfl rfl)
theorem dX4_over_57 : decode cX4_over 57 = .ok (.iconst 5, 1) := dk_8 (dk_at dksX4_over_2 11 rfl rfl)
theorem dX4_over_58 : decode cX4_over 58 = .ok (.iconst 0, 1) := dk_3 (dk_at dksX4_over_2 12 rfl rfl)
theorem dX4_over_59 : decode cX4_over 59 = .ok (.iastore, 1) := dk_79 (dk_at dksX4_over_2 13 rfl rfl)
theorem dX4_over_60 : decode cX4_over 60 = .ok (.return_, 1) := dk_177 (dk_at dksX4_over_2 14 rfl rfl)
def dkwX4_update_0 : List UInt8 := [42, 182, 0, 67, 42, 42, 27, 28, 182, 0, 144, 182, 0, 74, 4, 160, 0, 7, 4, 167, 0, 4, 3, 172]
abbrev dktX4_update_0 : List UInt8 := dkwX4_update_0 ++ []
theorem dksX4_update_0 : cX4_update.data.toList.drop 0 = dktX4_update_0 := by decide +kernel
theorem dX4_update_0 : decode cX4_update 0 = .ok (.aload_n 0, 1) := dk_42 (dk_at dksX4_update_0 0 rfl rfl)
theorem dX4_update_1 : decode cX4_update 1 = .ok (.invokevirtual 67, 3) := dk_182 0 67 (dk_at dksX4_update_0 1 rfl rfl)
theorem dX4_update_4 : decode cX4_update 4 = .ok (.aload_n 0, 1) := dk_42 (dk_at dksX4_update_0 4 rfl rfl)
theorem dX4_update_5 : decode cX4_update 5 = .ok (.aload_n 0, 1) := dk_42 (dk_at dksX4_update_0 5 rfl rfl)
theorem dX4_update_6 : decode cX4_update 6 = .ok (.iload_n 1, 1) := dk_27 (dk_at dksX4_update_0 6 rfl rfl)
theorem dX4_update_7 : decode cX4_update 7 = .ok (.iload_n 2, 1) := dk_28 (dk_at dksX4_update_0 7 rfl rfl)
theorem dX4_update_8 : decode cX4_update 8 = .ok (.invokevirtual 144, 3) := dk_182 0 144 (dk_at dksX4_update_0 8 rfl rfl)
theorem dX4_update_11 : decode cX4_update 11 = .ok (.invokevirtual 74, 3) := dk_182 0 74 (dk_at dksX4_update_0 11 rfl rfl)
theorem dX4_update_14 : decode cX4_update 14 = .ok (.iconst 1, 1) := dk_4 (dk_at dksX4_update_0 14 rfl rfl)
theorem dX4_update_15 : decode cX4_update 15 = .ok (.if_icmp .ne 7, 3) := dk_160 0 7 (dk_at dksX4_update_0 15 rfl rfl)
theorem dX4_update_18 : decode cX4_update 18 = .ok (.iconst 1, 1) := dk_4 (dk_at dksX4_update_0 18 rfl rfl)
theorem dX4_update_19 : decode cX4_update 19 = .ok (.goto 4, 3) := dk_167 0 4 (dk_at dksX4_update_0 19 rfl rfl)
theorem dX4_update_22 : decode cX4_update 22 = .ok (.iconst 0, 1) := dk_3 (dk_at dksX4_update_0 22 rfl rfl)
theorem dX4_update_23 : decode cX4_update 23 = .ok (.ireturn, 1) := dk_172 (dk_at dksX4_update_0 23 rfl rfl)
def dkwX4_updated_7 : List UInt8 := [182, 0, 141, 29, 153, 0, 7, 4, 167, 0, 4, 3, 172]
abbrev dktX4_updated_7 : List UInt8 := dkwX4_updated_7 ++ []
def dkwX4_updated_6 : List UInt8 := [79, 42, 180, 0, 9, 5, 46, 42, 180, 0, 9, 4, 46, 160, 0, 10, 42, 182, 0, 114, 167, 0, 7, 42]
abbrev dktX4_updated_6 : List UInt8 := dkwX4_updated_6 ++ dktX4_updated_7
def dkwX4_updated_5 : List UInt8 := [180, 0, 9, 16, 11, 92, 46, 4, 96, 79, 42, 6, 182, 0, 132, 42, 180, 0, 9, 5, 92, 46, 4, 96]
abbrev dktX4_updated_5 : List UInt8 := dkwX4_updated_5 ++ dktX4_updated_6
def dkwX4_updated_4 : List UInt8 := [180, 0, 9, 16, 7, 46, 184, 0, 135, 182, 0, 132, 42, 27, 28, 182, 0, 138, 62, 29, 153, 0, 29, 42]
abbrev dktX4_updated_4 : List UInt8 := dkwX4_updated_4 ++ dktX4_updated_5
def dkwX4_updated_3 : List UInt8 := [6, 27, 79, 42, 180, 0, 9, 7, 28, 79, 42, 180, 0, 9, 16, 9, 92, 46, 4, 96, 79, 42, 42]
abbrev dktX4_updated_3 : List UInt8 := dkwX4_updated_3 ++ dktX4_updated_4
def dkwX4_updated_2 : List UInt8 := [16, 6, 46, 154, 0, 7, 4, 167, 0, 4, 3, 6, 182, 0, 63, 153, 0, 5, 3, 172, 42, 180, 0, 9]
abbrev dktX4_updated_2 : List UInt8 := dkwX4_updated_2 ++ dktX4_updated_3
def dkwX4_updated_1 : List UInt8 := [182, 0, 97, 154, 0, 7, 4, 167, 0, 4, 3, 5, 182, 0, 63, 154, 0, 26, 42, 42, 180, 0, 9]
abbrev dktX4_updated_1 : List UInt8 := dkwX4_updated_1 ++ dktX4_updated_2
def dkwX4_updated_0 : List UInt8 := [42, 27, 28, 184, 0, 59, 154, 0, 7, 4, 167, 0, 4, 3, 4, 182, 0, 63, 154, 0, 46, 42, 42]
abbrev dktX4_updated_0 : List UInt8 := dkwX4_updated_0 ++ dktX4_updated_1
theorem dksX4_updated_0 : cX4_updated.data.toList.drop 0 = dktX4_updated_0 := by decide +kernel
theorem dksX4_updated_1 : cX4_updated.data.toList.drop 23 = dktX4_updated_1 := dk_seg dksX4_updated_0 23 rfl rfl
theorem dksX4_updated_2 : cX4_updated.data.toList.drop 46 = dktX4_updated_2 := dk_seg dksX4_updated_1 23 rfl rfl
theorem dksX4_updated_3 : cX4_updated.data.toList.drop 70 = dktX4_updated_3 := dk_seg dksX4_updated_2 24 rfl rfl
theorem dksX4_updated_4 : cX4_updated.data.toList.drop 93 = dktX4_updated_4 := dk_seg dksX4_updated_3 23 rfl rfl
theorem dksX4_updated_5 : cX4_updated.data.toList.drop 117 = dktX4_updated_5 := dk_seg dksX4_updated_4 24 rfl rfl
theorem dksX4_updated_6 : cX4_updated.data.toList.drop 141 = dktX4_updated_6 := dk_seg dksX4_updated_5 24 rfl rfl
theorem dksX4_updated_7 : cX4_updated.data.toList.drop 165 = dktX4_updated_7 := dk_seg dksX4_updated_6 24 rfl rfl
theorem dX4_updated_0 : decode cX4_updated 0 = .ok (.aload_n 0, 1) := dk_42 (dk_at dksX4_updated_0 0 rfl rfl)
theorem dX4_updated_1 : decode cX4_updated 1 = .ok (.iload_n 1, 1) := dk_27 (dk_at dksX4_updated_0 1 rfl rfl)
theorem dX4_updated_2 : decode cX4_updated 2 = .ok (.iload_n 2, 1) := dk_28 (dk_at dksX4_updated_0 2 rfl rfl)
theorem dX4_updated_3 : decode cX4_updated 3 = .ok (.invokestatic 59, 3) := dk_184 0 59 (dk_at dksX4_updated_0 3 rfl rfl)
theorem dX4_updated_6 : decode cX4_updated 6 = .ok (.ifCond .ne 7, 3) := dk_154 0 7 (dk_at dksX4_updated_0 6 rfl rfl)
theorem dX4_updated_9 : decode cX4_updated 9 = .ok (.iconst 1, 1) := dk_4 (dk_at dksX4_updated_0 9 rfl rfl)
theorem dX4_updated_10 : decode cX4_updated 10 = .ok (.goto 4, 3) := dk_167 0 4 (dk_at dksX4_updated_0 10 rfl rfl)
theorem dX4_updated_13 : decode cX4_updated 13 = .ok (.iconst 0, 1) := dk_3 (dk_at dksX4_updated_0 13 rfl rfl)
theorem dX4_updated_14 : decode cX4_updated 14 = .ok (.iconst 1, 1) := dk_4 (dk_at dksX4_updated_0 14 rfl rfl)
theorem dX4_updated_15 : decode cX4_updated 15 = .ok (.invokevirtual 63, 3) := dk_182 0 63 (dk_at dksX4_updated_0 15 rfl rfl)
theorem dX4_updated_18 : decode cX4_updated 18 = .ok (.ifCond .ne 46, 3) := dk_154 0 46 (dk_at dksX4_updated_0 18 rfl rfl)
theorem dX4_updated_21 : decode cX4_updated 21 = .ok (.aload_n 0, 1) := dk_42 (dk_at dksX4_updated_0 21 rfl rfl)
theorem dX4_updated_22 : decode cX4_updated 22 = .ok (.aload_n 0, 1) := dk_42 (dk_at dksX4_updated_0 22 rfl rfl)
theorem dX4_updated_23 : decode cX4_updated 23 = .ok (.invokevirtual 97, 3) := dk_182 0 97 (dk_at dksX4_updated_1 0 rfl rfl)
theorem dX4_updated_26 : decode cX4_updated 26 = .ok (.ifCond .ne 7, 3) := dk_154 0 7 (dk_at dksX4_updated_1 3 rfl rfl)
theorem dX4_updated_29 : decode cX4_updated 29 = .ok (.iconst 1, 1) := dk_4 (dk_at dksX4_updated_1 6 rfl rfl)
theorem dX4_updated_30 : decode cX4_updated 30 = .ok (.goto 4, 3) := dk_167 0 4 (dk_at dksX4_updated_1 7 rfl rfl)
theorem dX4_updated_33 : decode cX4_updated 33 = .ok (.iconst 0, 1) := dk_3 (dk_at dksX4_updated_1 10 rfl rfl)
theorem dX4_updated_34 : decode cX4_updated 34 = .ok (.iconst 2, 1) := dk_5 (dk_at dksX4_updated_1 11 rfl rfl)
theorem dX4_updated_35 : decode cX4_updated 35 = .ok (.invokevirtual 63, 3) := dk_182 0 63 (dk_at dksX4_updated_1 12 rfl rfl)
theorem dX4_updated_38 : decode cX4_updated 38 = .ok (.ifCond .ne 26, 3) := dk_154 0 26 (dk_at dksX4_updated_1 15 rfl rfl)
theorem dX4_updated_41 : decode cX4_updated 41 = .ok (.aload_n 0, 1) := dk_42 (dk_at dksX4_updated_1 18 rfl rfl)
theorem dX4_updated_42 : decode cX4_updated 42 = .ok (.aload_n 0, 1) := dk_42 (dk_at dksX4_updated_1 19 rfl rfl)
theorem dX4_updated_43 : decode cX4_updated 43 = .ok (.getfield 9, 3) := dk_180 0 9 (dk_at dksX4_updated_1 20 rfl rfl)
theorem dX4_updated_46 : decode cX4_updated 46 = .ok (.bipush 6, 2) := dk_16 6 (dk_at dksX4_updated_2 0 rfl rfl)
theorem dX4_updated_48 : decode cX4_updated 48 = .ok (.iaload, 1) := dk_46 (dk_at dksX4_updated_2 2 rfl rfl)
theorem dX4_updated_49 : decode cX4_updated 49 = .ok (.ifCond .ne 7, 3) := dk_154 0 7 (dk_at dksX4_updated_2 3 rfl rfl)
theorem dX4_updated_52 : decode cX4_updated 52 = .ok (.iconst 1, 1) := dk_4 (dk_at dksX4_updated_2 6 rfl rfl)
theorem dX4_updated_53 : decode cX4_updated 53 = .ok (.goto 4, 3) := dk_167 0 4 (dk_at dksX4_updated_2 7 rfl rfl)
theorem dX4_updated_56 : decode cX4_updated 56 = .ok (.iconst 0, 1) := dk_3 (dk_at dksX4_updated_2 10 rfl rfl)
theorem dX4_updated_57 : decode cX4_updated 57 = .ok (.iconst 3, 1) := dk_6 (dk_at dksX4_updated_2 11 rfl rfl)
theorem dX4_updated_58 : decode cX4_updated 58 = .ok (.invokevirtual 63, 3) := dk_182 0 63 (dk_at dksX4_updated_2 12 rfl rfl)
theorem dX4_updated_61 : decode cX4_updated 61 = .ok (.ifCond .eq 5, 3) := dk_153 0 5 (dk_at dksX4_updated_2 15 rfl rfl)
theorem dX4_updated_64 : decode cX4_updated 64 = .ok (.iconst 0, 1) := dk_3 (dk_at dksX4_updated_2 18 rfl rfl)
theorem dX4_updated_65 : decode cX4_updated 65 = .ok (.ireturn, 1) := dk_172 (dk_at dksX4_updated_2 19 rfl rfl)
theorem dX4_updated_66 : decode cX4_updated 66 = .ok (.aload_n 0, 1) := dk_42 (dk_at dksX4_updated_2 20 rfl rfl)
theorem dX4_updated_67 : decode cX4_updated 67 = .ok (.getfield 9, 3) := dk_180 0 9 (dk_at dksX4_updated_2 21 rfl rfl)
theorem dX4_updated_70 : decode cX4_updated 70 = .ok (.iconst 3, 1) := dk_6 (dk_at dksX4_updated_3 0 rfl rfl)
theorem dX4_updated_71 : decode cX4_updated 71 = .ok (.iload_n 1, 1) := dk_27 (dk_at dksX4_updated_3 1 rfl rfl)
theorem dX4_updated_72 : decode cX4_updated 72 = .ok (.iastore, 1) := dk_79 (dk_at dksX4_updated_3 2 rfl rfl)
theorem dX4_updated_73 : decode cX4_updated 73 = .ok (.aload_n 0, 1) := dk_42 (dk_at dksX4_updated_3 3 rfl rfl)
theorem dX4_updated_74 : decode cX4_updated 74 = .ok (.getfield 9, 3) := dk_180 0 9 (dk_at dksX4_updated_3 4 rfl rfl)
theorem dX4_updated_77 : decode cX4_updated 77 = .ok (.iconst 4, 1) := dk_7 (dk_at dksX4_updated_3 7 rfl rfl)
theorem dX4_updated_78 : decode cX4_updated 78 = .ok (.iload_n 2, 1) := dk_28 (dk_at dksX4_updated_3 8 rfl rfl)
theorem dX4_updated_79 : decode cX4_updated 79 = .ok (.iastore, 1) := dk_79 (dk_at dksX4_updated_3 9 rfl rfl)
theorem dX4_updated_80 : decode cX4_updated 80 = .ok (.aload_n 0, 1) := dk_42 (dk_at dksX4_updated_3 10 rfl rfl)
theorem dX4_updated_81 : decode cX4_updated 81 = .ok (.getfield 9, 3) := dk_180 0 9 (dk_at dksX4_updated_3 11 rfl rfl)
theorem dX4_updated_84 : decode cX4_updated 84 = .ok (.bipush 9, 2) := dk_16 9 (dk_at dksX4_updated_3 14 rfl rfl)
theorem dX4_updated_86 : decode cX4_updated 86 = .ok (.dup2, 1) := dk_92 (dk_at dksX4_updated_3 16 rfl rfl)
theorem dX4_updated_87 : decode cX4_updated 87 = .ok (.iaload, 1) := dk_46 (dk_at dksX4_updated_3 17 rfl rfl)
theorem dX4_updated_88 : decode cX4_updated 88 = .ok (.iconst 1, 1) := dk_4 (dk_at dksX4_updated_3 18 rfl rfl)
theorem dX4_updated_89 : decode cX4_updated 89 = .ok (.iadd, 1) := dk_96 (dk_at dksX4_updated_3 19 rfl rfl)
theorem dX4_updated_90 : decode cX4_updated 90 = .ok (.iastore, 1) := dk_79 (dk_at dksX4_updated_3 20 rfl rfl)
theorem dX4_updated_91 : decode cX4_updated 91 = .ok (.aload_n 0, 1) := dk_42 (dk_at dksX4_updated_3 21 rfl rfl)
theorem dX4_updated_92 : decode cX4_updated 92 = .ok (.aload_n 0, 1) := dk_42 (dk_at dksX4_updated_3 22 rfl rfl)
theorem dX4_updated_93 : decode cX4_updated 93 = .ok (.getfield 9, 3) := dk_180 0 9 (dk_at dksX4_updated_4 0 rfl rfl)
theorem dX4_updated_96 : decode cX4_updated 96 = .ok (.bipush 7, 2) := dk_16 7 (dk_at dksX4_updated_4 3 rfl rfl)
theorem dX4_updated_98 : decode cX4_updated 98 = .ok (.iaload, 1) := dk_46 (dk_at dksX4_updated_4 5 rfl rfl)
theorem dX4_updated_99 : decode cX4_updated 99 = .ok (.invokestatic 135, 3) := dk_184 0 135 (dk_at dksX4_updated_4 6 rfl rfl)
theorem dX4_updated_102 : decode cX4_updated 102 = .ok (.invokevirtual 132, 3) := dk_182 0 132 (dk_at dksX4_updated_4 9 rfl rfl)
theorem dX4_updated_105 : decode cX4_updated 105 = .ok (.aload_n 0, 1) := dk_42 (dk_at dksX4_updated_4 12 rfl rfl)
theorem dX4_updated_106 : decode cX4_updated 106 = .ok (.iload_n 1, 1) := dk_27 (dk_at dksX4_updated_4 13 rfl rfl)
theorem dX4_updated_107 : decode cX4_updated 107 = .ok (.iload_n 2, 1) := dk_28 (dk_at dksX4_updated_4 14 rfl rfl)
theorem dX4_updated_108 : decode cX4_updated 108 = .ok (.invokevirtual 138, 3) := dk_182 0 138 (dk_at dksX4_updated_4 15 rfl rfl)
theorem dX4_updated_111 : decode cX4_updated 111 = .ok (.istore_n 3, 1) := dk_62 (dk_at dksX4_updated_4 18 rfl rfl)
theorem dX4_updated_112 : decode cX4_updated 112 = .ok (.iload_n 3, 1) := dk_29 (dk_at dksX4_updated_4 19 rfl rfl)
theorem dX4_updated_113 : decode cX4_updated 113 = .ok (.ifCond .eq 29, 3) := dk_153 0 29 (dk_at dksX4_updated_4 20 rfl rfl)
theorem dX4_updated_116 : decode cX4_updated 116 = .ok (.aload_n 0, 1) := dk_42 (dk_at dksX4_updated_4 23 rfl rfl)
theorem dX4_updated_117 : decode cX4_updated 117 = .ok (.getfield 9, 3) := dk_180 0 9 (dk_at dksX4_updated_5 0 rfl rfl)
theorem dX4_updated_120 : decode cX4_updated 120 = .ok (.bipush 11, 2) := dk_16 11 (dk_at dksX4_updated_5 3 rfl rfl)
theorem dX4_updated_122 : decode cX4_updated 122 = .ok (.dup2, 1) := dk_92 (dk_at dksX4_updated_5 5 rfl rfl)
theorem dX4_updated_123 : decode cX4_updated 123 = .ok (.iaload, 1) := dk_46 (dk_at dksX4_updated_5 6 rfl rfl)
theorem dX4_updated_124 : decode cX4_updated 124 = .ok (.iconst 1, 1) := dk_4 (dk_at dksX4_updated_5 7 rfl rfl)
theorem dX4_updated_125 : decode cX4_updated 125 = .ok (.iadd, 1) := dk_96 (dk_at dksX4_updated_5 8 rfl rfl)
theorem dX4_updated_126 : decode cX4_updated 126 = .ok (.iastore, 1) := dk_79 (dk_at dksX4_updated_5 9 rfl rfl)
theorem dX4_updated_127 : decode cX4_updated 127 = .ok (.aload_n 0, 1) := dk_42 (dk_at dksX4_updated_5 10 rfl rfl)
theorem dX4_updated_128 : decode cX4_updated 128 = .ok (.iconst 3, 1) := dk_6 (dk_at dksX4_updated_5 11 rfl rfl)
theorem dX4_updated_129 : decode cX4_updated 129 = .ok (.invokevirtual 132, 3) := dk_182 0 132 (dk_at dksX4_updated_5 12 rfl rfl)
theorem dX4_updated_132 : decode cX4_updated 132 = .ok (.aload_n 0, 1) := dk_42 (dk_at dksX4_updated_5 15 rfl rfl)
theorem dX4_updated_133 : decode cX4_updated 133 = .ok (.getfield 9, 3) := dk_180 0 9 (dk_at dksX4_updated_5 16 rfl rfl)
theorem dX4_updated_136 : decode cX4_updated 136 = .ok (.iconst 2, 1) := dk_5 (dk_at dksX4_updated_5 19 rfl rfl)
theorem dX4_updated_137 : decode cX4_updated 137 = .ok (.dup2, 1) := dk_92 (dk_at dksX4_updated_5 20 rfl rfl)
theorem dX4_updated_138 : decode cX4_updated 138 = .ok (.iaload, 1) := dk_46 (dk_at dksX4_updated_5 21 rfl rfl)
theorem dX4_updated_139 : decode cX4_updated 139 = .ok (.iconst 1, 1) := dk_4 (dk_at dksX4_updated_5 22 rfl rfl)
theorem dX4_updated_140 : decode cX4_updated 140 = .ok (.iadd, 1) := dk_96 (dk_at dksX4_updated_5 23 rfl rfl)
theorem dX4_updated_141 : decode cX4_updated 141 = .ok (.iastore, 1) := dk_79 (dk_at dksX4_updated_6 0 rfl rfl)
theorem dX4_updated_142 : decode cX4_updated 142 = .ok (.aload_n 0, 1) := dk_42 (dk_at dksX4_updated_6 1 rfl rfl)
theorem dX4_updated_143 : decode cX4_updated 143 = .ok (.getfield 9, 3) := dk_180 0 9 (dk_at dksX4_updated_6 2 rfl rfl)
theorem dX4_updated_146 : decode cX4_updated 146 = .ok (.iconst 2, 1) := dk_5 (dk_at dksX4_updated_6 5 rfl rfl)
theorem dX4_updated_147 : decode cX4_updated 147 = .ok (.iaload, 1) := dk_46 (dk_at dksX4_updated_6 6 rfl rfl)
theorem dX4_updated_148 : decode cX4_updated 148 = .ok (.aload_n 0, 1) := dk_42 (dk_at dksX4_updated_6 7 rfl rfl)
theorem dX4_updated_149 : decode cX4_updated 149 = .ok (.getfield 9, 3) := dk_180 0 9 (dk_at dksX4_updated_6 8 rfl rfl)
theorem dX4_updated_152 : decode cX4_updated 152 = .ok (.iconst 1, 1) := dk_4 (dk_at dksX4_updated_6 11 rfl rfl)
theorem dX4_updated_153 : decode cX4_updated 153 = .ok (.iaload, 1) := dk_46 (dk_at dksX4_updated_6 12 rfl rfl)
theorem dX4_updated_154 : decode cX4_updated 154 = .ok (.if_icmp .ne 10, 3) := dk_160 0 10 (dk_at dksX4_updated_6 13 rfl rfl)
theorem dX4_updated_157 : decode cX4_updated 157 = .ok (.aload_n 0, 1) := dk_42 (dk_at dksX4_updated_6 16 rfl rfl)
theorem dX4_updated_158 : decode cX4_updated 158 = .ok (.invokevirtual 114, 3) := dk_182 0 114 (dk_at dksX4_updated_6 17 rfl rfl)
theorem dX4_updated_161 : decode cX4_updated 161 = .ok (.goto 7, 3) := dk_167 0 7 (dk_at dksX4_updated_6 20 rfl rfl)
theorem dX4_updated_164 : decode cX4_updated 164 = .ok (.aload_n 0, 1) := dk_42 (dk_at dksX4_updated_6 23 rfl rfl)
theorem dX4_updated_165 : decode cX4_updated 165 = .ok (.invokevirtual 141, 3) := dk_182 0 141 (dk_at dksX4_updated_7 0 rfl rfl)
theorem dX4_updated_168 : decode cX4_updated 168 = .ok (.iload_n 3, 1) := dk_29 (dk_at dksX4_updated_7 3 rfl rfl)
theorem dX4_updated_169 : decode cX4_updated 169 = .ok (.ifCond .eq 7, 3) := dk_153 0 7 (dk_at dksX4_updated_7 4 rfl rfl)
theorem dX4_updated_172 : decode cX4_updated 172 = .ok (.iconst 1, 1) := dk_4 (dk_at dksX4_updated_7 7 rfl rfl)
theorem dX4_updated_173 : decode cX4_updated 173 = .ok (.goto 4, 3) := dk_167 0 4 (dk_at dksX4_updated_7 8 rfl rfl)
theorem dX4_updated_176 : decode cX4_updated 176 = .ok (.iconst 0, 1) := dk_3 (dk_at dksX4_updated_7 11 rfl rfl)
theorem dX4_updated_177 : decode cX4_updated 177 = .ok (.ireturn, 1) := dk_172 (dk_at dksX4_updated_7 12 rfl rfl)
def dkwX4_costOf_0 : List UInt8 := [26, 154, 0, 7, 4, 167, 0, 13, 26, 4, 160, 0, 7, 5, 167, 0, 4, 7, 172]
abbrev dktX4_costOf_0 : List UInt8 := dkwX4_costOf_0 ++ []
theorem dksX4_costOf_0 : cX4_costOf.data.toList.drop 0 = dktX4_costOf_0 := by decide +kernel
theorem dX4_costOf_0 : decode cX4_costOf 0 = .ok (.iload_n 0, 1) := dk_26 (dk_at dksX4_costOf_0 0 rfl rfl)
theorem dX4_costOf_1 : decode cX4_costOf 1 = .ok (.ifCond .ne 7, 3) := dk_154 0 7 (dk_at dksX4_costOf_0 1 rfl rfl)
theorem dX4_costOf_4 : decode cX4_costOf 4 = .ok (.iconst 1, 1) := dk_4 (dk_at dksX4_costOf_0 4 rfl rfl)
theorem dX4_costOf_5 : decode cX4_costOf 5 = .ok (.goto 13, 3) := dk_167 0 13 (dk_at dksX4_costOf_0 5 rfl rfl)
theorem dX4_costOf_8 : decode cX4_costOf 8 = .ok (.iload_n 0, 1) := dk_26 (dk_at dksX4_costOf_0 8 rfl rfl)
theorem dX4_costOf_9 : decode cX4_costOf 9 = .ok (.iconst 1, 1) := dk_4 (dk_at dksX4_costOf_0 9 rfl rfl)
theorem dX4_costOf_10 : decode cX4_costOf 10 = .ok (.if_icmp .ne 7, 3) := dk_160 0 7 (dk_at dksX4_costOf_0 10 rfl rfl)
theorem dX4_costOf_13 : decode cX4_costOf 13 = .ok (.iconst 2, 1) := dk_5 (dk_at dksX4_costOf_0 13 rfl rfl)
theorem dX4_costOf_14 : decode cX4_costOf 14 = .ok (.goto 4, 3) := dk_167 0 4 (dk_at dksX4_costOf_0 14 rfl rfl)
theorem dX4_costOf_17 : decode cX4_costOf 17 = .ok (.iconst 4, 1) := dk_7 (dk_at dksX4_costOf_0 17 rfl rfl)
theorem dX4_costOf_18 : decode cX4_costOf 18 = .ok (.ireturn, 1) := dk_172 (dk_at dksX4_costOf_0 18 rfl rfl)
def dkwX4_drains_1 : List UInt8 := [27, 100, 167, 0, 4, 3, 79, 177]
abbrev dktX4_drains_1 : List UInt8 := dkwX4_drains_1 ++ []
def dkwX4_drains_0 : List UInt8 := [42, 180, 0, 9, 16, 6, 42, 180, 0, 9, 16, 6, 46, 27, 164, 0, 15, 42, 180, 0, 9, 16, 6, 46]
abbrev dktX4_drains_0 : List UInt8 := dkwX4_drains_0 ++ dktX4_drains_1
theorem dksX4_drains_0 : cX4_drains.data.toList.drop 0 = dktX4_drains_0 := by decide +kernel
theorem dksX4_drains_1 : cX4_drains.data.toList.drop 24 = dktX4_drains_1 := dk_seg dksX4_drains_0 24 rfl rfl
theorem dX4_drains_0 : decode cX4_drains 0 = .ok (.aload_n 0, 1) := dk_42 (dk_at dksX4_drains_0 0 rfl rfl)
theorem dX4_drains_1 : decode cX4_drains 1 = .ok (.getfield 9, 3) := dk_180 0 9 (dk_at dksX4_drains_0 1 rfl rfl)
theorem dX4_drains_4 : decode cX4_drains 4 = .ok (.bipush 6, 2) := dk_16 6 (dk_at dksX4_drains_0 4 rfl rfl)
theorem dX4_drains_6 : decode cX4_drains 6 = .ok (.aload_n 0, 1) := dk_42 (dk_at dksX4_drains_0 6 rfl rfl)
theorem dX4_drains_7 : decode cX4_drains 7 = .ok (.getfield 9, 3) := dk_180 0 9 (dk_at dksX4_drains_0 7 rfl rfl)
theorem dX4_drains_10 : decode cX4_drains 10 = .ok (.bipush 6, 2) := dk_16 6 (dk_at dksX4_drains_0 10 rfl rfl)
theorem dX4_drains_12 : decode cX4_drains 12 = .ok (.iaload, 1) := dk_46 (dk_at dksX4_drains_0 12 rfl rfl)
theorem dX4_drains_13 : decode cX4_drains 13 = .ok (.iload_n 1, 1) := dk_27 (dk_at dksX4_drains_0 13 rfl rfl)
theorem dX4_drains_14 : decode cX4_drains 14 = .ok (.if_icmp .le 15, 3) := dk_164 0 15 (dk_at dksX4_drains_0 14 rfl rfl)
theorem dX4_drains_17 : decode cX4_drains 17 = .ok (.aload_n 0, 1) := dk_42 (dk_at dksX4_drains_0 17 rfl rfl)
theorem dX4_drains_18 : decode cX4_drains 18 = .ok (.getfield 9, 3) := dk_180 0 9 (dk_at dksX4_drains_0 18 rfl rfl)
theorem dX4_drains_21 : decode cX4_drains 21 = .ok (.bipush 6, 2) := dk_16 6 (dk_at dksX4_drains_0 21 rfl rfl)
theorem dX4_drains_23 : decode cX4_drains 23 = .ok (.iaload, 1) := dk_46 (dk_at dksX4_drains_0 23 rfl rfl)
theorem dX4_drains_24 : decode cX4_drains 24 = .ok (.iload_n 1, 1) := dk_27 (dk_at dksX4_drains_1 0 rfl rfl)
theorem dX4_drains_25 : decode cX4_drains 25 = .ok (.isub, 1) := dk_100 (dk_at dksX4_drains_1 1 rfl rfl)
theorem dX4_drains_26 : decode cX4_drains 26 = .ok (.goto 4, 3) := dk_167 0 4 (dk_at dksX4_drains_1 2 rfl rfl)
theorem dX4_drains_29 : decode cX4_drains 29 = .ok (.iconst 0, 1) := dk_3 (dk_at dksX4_drains_1 5 rfl rfl)
theorem dX4_drains_30 : decode cX4_drains 30 = .ok (.iastore, 1) := dk_79 (dk_at dksX4_drains_1 6 rfl rfl)
theorem dX4_drains_31 : decode cX4_drains 31 = .ok (.return_, 1) := dk_177 (dk_at dksX4_drains_1 7 rfl rfl)
def dkwX4_reaches_1 : List UInt8 := [42, 29, 5, 182, 0, 108, 42, 29, 5, 182, 0, 108, 104, 163, 0, 7, 4, 167, 0, 4, 3, 172]
abbrev dktX4_reaches_1 : List UInt8 := dkwX4_reaches_1 ++ []
def dkwX4_reaches_0 : List UInt8 := [42, 182, 0, 120, 62, 27, 42, 29, 3, 182, 0, 108, 100, 28, 42, 29, 4, 182, 0, 108, 100, 184, 0, 123]
abbrev dktX4_reaches_0 : List UInt8 := dkwX4_reaches_0 ++ dktX4_reaches_1
theorem dksX4_reaches_0 : cX4_reaches.data.toList.drop 0 = dktX4_reaches_0 := by decide +kernel
theorem dksX4_reaches_1 : cX4_reaches.data.toList.drop 24 = dktX4_reaches_1 := dk_seg dksX4_reaches_0 24 rfl rfl
theorem dX4_reaches_0 : decode cX4_reaches 0 = .ok (.aload_n 0, 1) := dk_42 (dk_at dksX4_reaches_0 0 rfl rfl)
theorem dX4_reaches_1 : decode cX4_reaches 1 = .ok (.invokevirtual 120, 3) := dk_182 0 120 (dk_at dksX4_reaches_0 1 rfl rfl)
theorem dX4_reaches_4 : decode cX4_reaches 4 = .ok (.istore_n 3, 1) := dk_62 (dk_at dksX4_reaches_0 4 rfl rfl)
theorem dX4_reaches_5 : decode cX4_reaches 5 = .ok (.iload_n 1, 1) := dk_27 (dk_at dksX4_reaches_0 5 rfl rfl)
theorem dX4_reaches_6 : decode cX4_reaches 6 = .ok (.aload_n 0, 1) := dk_42 (dk_at dksX4_reaches_0 6 rfl rfl)
theorem dX4_reaches_7 : decode cX4_reaches 7 = .ok (.iload_n 3, 1) := dk_29 (dk_at dksX4_reaches_0 7 rfl rfl)
theorem dX4_reaches_8 : decode cX4_reaches 8 = .ok (.iconst 0, 1) := dk_3 (dk_at dksX4_reaches_0 8 rfl rfl)
theorem dX4_reaches_9 : decode cX4_reaches 9 = .ok (.invokevirtual 108, 3) := dk_182 0 108 (dk_at dksX4_reaches_0 9 rfl rfl)
theorem dX4_reaches_12 : decode cX4_reaches 12 = .ok (.isub, 1) := dk_100 (dk_at dksX4_reaches_0 12 rfl rfl)
theorem dX4_reaches_13 : decode cX4_reaches 13 = .ok (.iload_n 2, 1) := dk_28 (dk_at dksX4_reaches_0 13 rfl rfl)
theorem dX4_reaches_14 : decode cX4_reaches 14 = .ok (.aload_n 0, 1) := dk_42 (dk_at dksX4_reaches_0 14 rfl rfl)
theorem dX4_reaches_15 : decode cX4_reaches 15 = .ok (.iload_n 3, 1) := dk_29 (dk_at dksX4_reaches_0 15 rfl rfl)
theorem dX4_reaches_16 : decode cX4_reaches 16 = .ok (.iconst 1, 1) := dk_4 (dk_at dksX4_reaches_0 16 rfl rfl)
theorem dX4_reaches_17 : decode cX4_reaches 17 = .ok (.invokevirtual 108, 3) := dk_182 0 108 (dk_at dksX4_reaches_0 17 rfl rfl)
theorem dX4_reaches_20 : decode cX4_reaches 20 = .ok (.isub, 1) := dk_100 (dk_at dksX4_reaches_0 20 rfl rfl)
theorem dX4_reaches_21 : decode cX4_reaches 21 = .ok (.invokestatic 123, 3) := dk_184 0 123 (dk_at dksX4_reaches_0 21 rfl rfl)
theorem dX4_reaches_24 : decode cX4_reaches 24 = .ok (.aload_n 0, 1) := dk_42 (dk_at dksX4_reaches_1 0 rfl rfl)
theorem dX4_reaches_25 : decode cX4_reaches 25 = .ok (.iload_n 3, 1) := dk_29 (dk_at dksX4_reaches_1 1 rfl rfl)
theorem dX4_reaches_26 : decode cX4_reaches 26 = .ok (.iconst 2, 1) := dk_5 (dk_at dksX4_reaches_1 2 rfl rfl)
theorem dX4_reaches_27 : decode cX4_reaches 27 = .ok (.invokevirtual 108, 3) := dk_182 0 108 (dk_at dksX4_reaches_1 3 rfl rfl)
theorem dX4_reaches_30 : decode cX4_reaches 30 = .ok (.aload_n 0, 1) := dk_42 (dk_at dksX4_reaches_1 6 rfl rfl)
theorem dX4_reaches_31 : decode cX4_reaches 31 = .ok (.iload_n 3, 1) := dk_29 (dk_at dksX4_reaches_1 7 rfl rfl)
theorem dX4_reaches_32 : decode cX4_reaches 32 = .ok (.iconst 2, 1) := dk_5 (dk_at dksX4_reaches_1 8 rfl rfl)
theorem dX4_reaches_33 : decode cX4_reaches 33 = .ok (.invokevirtual 108, 3) := dk_182 0 108 (dk_at dksX4_reaches_1 9 rfl rfl)
theorem dX4_reaches_36 : decode cX4_reaches 36 = .ok (.imul, 1) := dk_104 (dk_at dksX4_reaches_1 12 rfl rfl)
theorem dX4_reaches_37 : decode cX4_reaches 37 = .ok (.if_icmp .gt 7, 3) := dk_163 0 7 (dk_at dksX4_reaches_1 13 rfl rfl)
theorem dX4_reaches_40 : decode cX4_reaches 40 = .ok (.iconst 1, 1) := dk_4 (dk_at dksX4_reaches_1 16 rfl rfl)
theorem dX4_reaches_41 : decode cX4_reaches 41 = .ok (.goto 4, 3) := dk_167 0 4 (dk_at dksX4_reaches_1 17 rfl rfl)
theorem dX4_reaches_44 : decode cX4_reaches 44 = .ok (.iconst 0, 1) := dk_3 (dk_at dksX4_reaches_1 20 rfl rfl)
theorem dX4_reaches_45 : decode cX4_reaches 45 = .ok (.ireturn, 1) := dk_172 (dk_at dksX4_reaches_1 21 rfl rfl)
def dkwX4_aim_0 : List UInt8 := [42, 180, 0, 9, 17, 0, 192, 42, 180, 0, 9, 5, 46, 96, 46, 172]
abbrev dktX4_aim_0 : List UInt8 := dkwX4_aim_0 ++ []
theorem dksX4_aim_0 : cX4_aim.data.toList.drop 0 = dktX4_aim_0 := by decide +kernel
theorem dX4_aim_0 : decode cX4_aim 0 = .ok (.aload_n 0, 1) := dk_42 (dk_at dksX4_aim_0 0 rfl rfl)
theorem dX4_aim_1 : decode cX4_aim 1 = .ok (.getfield 9, 3) := dk_180 0 9 (dk_at dksX4_aim_0 1 rfl rfl)
theorem dX4_aim_4 : decode cX4_aim 4 = .ok (.sipush 192, 3) := dk_17 0 192 (dk_at dksX4_aim_0 4 rfl rfl)
theorem dX4_aim_7 : decode cX4_aim 7 = .ok (.aload_n 0, 1) := dk_42 (dk_at dksX4_aim_0 7 rfl rfl)
theorem dX4_aim_8 : decode cX4_aim 8 = .ok (.getfield 9, 3) := dk_180 0 9 (dk_at dksX4_aim_0 8 rfl rfl)
theorem dX4_aim_11 : decode cX4_aim 11 = .ok (.iconst 2, 1) := dk_5 (dk_at dksX4_aim_0 11 rfl rfl)
theorem dX4_aim_12 : decode cX4_aim 12 = .ok (.iaload, 1) := dk_46 (dk_at dksX4_aim_0 12 rfl rfl)
theorem dX4_aim_13 : decode cX4_aim 13 = .ok (.iadd, 1) := dk_96 (dk_at dksX4_aim_0 13 rfl rfl)
theorem dX4_aim_14 : decode cX4_aim 14 = .ok (.iaload, 1) := dk_46 (dk_at dksX4_aim_0 14 rfl rfl)
theorem dX4_aim_15 : decode cX4_aim 15 = .ok (.ireturn, 1) := dk_172 (dk_at dksX4_aim_0 15 rfl rfl)
def dkwX4_square_0 : List UInt8 := [26, 26, 104, 27, 27, 104, 96, 172]
abbrev dktX4_square_0 : List UInt8 := dkwX4_square_0 ++ []
theorem dksX4_square_0 : cX4_square.data.toList.drop 0 = dktX4_square_0 := by decide +kernel
theorem dX4_square_0 : decode cX4_square 0 = .ok (.iload_n 0, 1) := dk_26 (dk_at dksX4_square_0 0 rfl rfl)
theorem dX4_square_1 : decode cX4_square 1 = .ok (.iload_n 0, 1) := dk_26 (dk_at dksX4_square_0 1 rfl rfl)
theorem dX4_square_2 : decode cX4_square 2 = .ok (.imul, 1) := dk_104 (dk_at dksX4_square_0 2 rfl rfl)
theorem dX4_square_3 : decode cX4_square 3 = .ok (.iload_n 1, 1) := dk_27 (dk_at dksX4_square_0 3 rfl rfl)
theorem dX4_square_4 : decode cX4_square 4 = .ok (.iload_n 1, 1) := dk_27 (dk_at dksX4_square_0 4 rfl rfl)
theorem dX4_square_5 : decode cX4_square 5 = .ok (.imul, 1) := dk_104 (dk_at dksX4_square_0 5 rfl rfl)
theorem dX4_square_6 : decode cX4_square 6 = .ok (.iadd, 1) := dk_96 (dk_at dksX4_square_0 6 rfl rfl)
theorem dX4_square_7 : decode cX4_square 7 = .ok (.ireturn, 1) := dk_172 (dk_at dksX4_square_0 7 rfl rfl)
def dkwX4_watches_3 : List UInt8 := [4, 167, 0, 4, 3, 79, 177]
abbrev dktX4_watches_3 : List UInt8 := dkwX4_watches_3 ++ []
def dkwX4_watches_2 : List UInt8 := [180, 0, 9, 16, 10, 92, 46, 4, 96, 79, 42, 8, 182, 0, 132, 42, 180, 0, 9, 8, 27, 153, 0, 7]
abbrev dktX4_watches_2 : List UInt8 := dkwX4_watches_2 ++ dktX4_watches_3
def dkwX4_watches_1 : List UInt8 := [154, 0, 7, 4, 167, 0, 4, 3, 60, 27, 153, 0, 28, 42, 180, 0, 9, 8, 46, 154, 0, 19, 42]
abbrev dktX4_watches_1 : List UInt8 := dkwX4_watches_1 ++ dktX4_watches_2
def dkwX4_watches_0 : List UInt8 := [42, 42, 180, 0, 9, 6, 46, 42, 180, 0, 9, 7, 46, 42, 180, 0, 9, 16, 8, 46, 182, 0, 129]
abbrev dktX4_watches_0 : List UInt8 := dkwX4_watches_0 ++ dktX4_watches_1
theorem dksX4_watches_0 : cX4_watches.data.toList.drop 0 = dktX4_watches_0 := by decide +kernel
theorem dksX4_watches_1 : cX4_watches.data.toList.drop 23 = dktX4_watches_1 := dk_seg dksX4_watches_0 23 rfl rfl
theorem dksX4_watches_2 : cX4_watches.data.toList.drop 46 = dktX4_watches_2 := dk_seg dksX4_watches_1 23 rfl rfl
theorem dksX4_watches_3 : cX4_watches.data.toList.drop 70 = dktX4_watches_3 := dk_seg dksX4_watches_2 24 rfl rfl
theorem dX4_watches_0 : decode cX4_watches 0 = .ok (.aload_n 0, 1) := dk_42 (dk_at dksX4_watches_0 0 rfl rfl)
theorem dX4_watches_1 : decode cX4_watches 1 = .ok (.aload_n 0, 1) := dk_42 (dk_at dksX4_watches_0 1 rfl rfl)
theorem dX4_watches_2 : decode cX4_watches 2 = .ok (.getfield 9, 3) := dk_180 0 9 (dk_at dksX4_watches_0 2 rfl rfl)
theorem dX4_watches_5 : decode cX4_watches 5 = .ok (.iconst 3, 1) := dk_6 (dk_at dksX4_watches_0 5 rfl rfl)
theorem dX4_watches_6 : decode cX4_watches 6 = .ok (.iaload, 1) := dk_46 (dk_at dksX4_watches_0 6 rfl rfl)
theorem dX4_watches_7 : decode cX4_watches 7 = .ok (.aload_n 0, 1) := dk_42 (dk_at dksX4_watches_0 7 rfl rfl)
theorem dX4_watches_8 : decode cX4_watches 8 = .ok (.getfield 9, 3) := dk_180 0 9 (dk_at dksX4_watches_0 8 rfl rfl)
theorem dX4_watches_11 : decode cX4_watches 11 = .ok (.iconst 4, 1) := dk_7 (dk_at dksX4_watches_0 11 rfl rfl)
theorem dX4_watches_12 : decode cX4_watches 12 = .ok (.iaload, 1) := dk_46 (dk_at dksX4_watches_0 12 rfl rfl)
theorem dX4_watches_13 : decode cX4_watches 13 = .ok (.aload_n 0, 1) := dk_42 (dk_at dksX4_watches_0 13 rfl rfl)
theorem dX4_watches_14 : decode cX4_watches 14 = .ok (.getfield 9, 3) := dk_180 0 9 (dk_at dksX4_watches_0 14 rfl rfl)
theorem dX4_watches_17 : decode cX4_watches 17 = .ok (.bipush 8, 2) := dk_16 8 (dk_at dksX4_watches_0 17 rfl rfl)
theorem dX4_watches_19 : decode cX4_watches 19 = .ok (.iaload, 1) := dk_46 (dk_at dksX4_watches_0 19 rfl rfl)
theorem dX4_watches_20 : decode cX4_watches 20 = .ok (.invokevirtual 129, 3) := dk_182 0 129 (dk_at dksX4_watches_0 20 rfl rfl)
theorem dX4_watches_23 : decode cX4_watches 23 = .ok (.ifCond .ne 7, 3) := dk_154 0 7 (dk_at dksX4_watches_1 0 rfl rfl)
theorem dX4_watches_26 : decode cX4_watches 26 = .ok (.iconst 1, 1) := dk_4 (dk_at dksX4_watches_1 3 rfl rfl)
theorem dX4_watches_27 : decode cX4_watches 27 = .ok (.goto 4, 3) := dk_167 0 4 (dk_at dksX4_watches_1 4 rfl rfl)
theorem dX4_watches_30 : decode cX4_watches 30 = .ok (.iconst 0, 1) := dk_3 (dk_at dksX4_watches_1 7 rfl rfl)
theorem dX4_watches_31 : decode cX4_watches 31 = .ok (.istore_n 1, 1) := dk_60 (dk_at dksX4_watches_1 8 rfl rfl)
theorem dX4_watches_32 : decode cX4_watches 32 = .ok (.iload_n 1, 1) := dk_27 (dk_at dksX4_watches_1 9 rfl rfl)
theorem dX4_watches_33 : decode cX4_watches 33 = .ok (.ifCond .eq 28, 3) := dk_153 0 28 (dk_at dksX4_watches_1 10 rfl rfl)
theorem dX4_watches_36 : decode cX4_watches 36 = .ok (.aload_n 0, 1) := dk_42 (dk_at dksX4_watches_1 13 rfl rfl)
theorem dX4_watches_37 : decode cX4_watches 37 = .ok (.getfield 9, 3) := dk_180 0 9 (dk_at dksX4_watches_1 14 rfl rfl)
theorem dX4_watches_40 : decode cX4_watches 40 = .ok (.iconst 5, 1) := dk_8 (dk_at dksX4_watches_1 17 rfl rfl)
theorem dX4_watches_41 : decode cX4_watches 41 = .ok (.iaload, 1) := dk_46 (dk_at dksX4_watches_1 18 rfl rfl)
theorem dX4_watches_42 : decode cX4_watches 42 = .ok (.ifCond .ne 19, 3) := dk_154 0 19 (dk_at dksX4_watches_1 19 rfl rfl)
theorem dX4_watches_45 : decode cX4_watches 45 = .ok (.aload_n 0, 1) := dk_42 (dk_at dksX4_watches_1 22 rfl rfl)
theorem dX4_watches_46 : decode cX4_watches 46 = .ok (.getfield 9, 3) := dk_180 0 9 (dk_at dksX4_watches_2 0 rfl rfl)
theorem dX4_watches_49 : decode cX4_watches 49 = .ok (.bipush 10, 2) := dk_16 10 (dk_at dksX4_watches_2 3 rfl rfl)
theorem dX4_watches_51 : decode cX4_watches 51 = .ok (.dup2, 1) := dk_92 (dk_at dksX4_watches_2 5 rfl rfl)
theorem dX4_watches_52 : decode cX4_watches 52 = .ok (.iaload, 1) := dk_46 (dk_at dksX4_watches_2 6 rfl rfl)
theorem dX4_watches_53 : decode cX4_watches 53 = .ok (.iconst 1, 1) := dk_4 (dk_at dksX4_watches_2 7 rfl rfl)
theorem dX4_watches_54 : decode cX4_watches 54 = .ok (.iadd, 1) := dk_96 (dk_at dksX4_watches_2 8 rfl rfl)
theorem dX4_watches_55 : decode cX4_watches 55 = .ok (.iastore, 1) := dk_79 (dk_at dksX4_watches_2 9 rfl rfl)
theorem dX4_watches_56 : decode cX4_watches 56 = .ok (.aload_n 0, 1) := dk_42 (dk_at dksX4_watches_2 10 rfl rfl)
theorem dX4_watches_57 : decode cX4_watches 57 = .ok (.iconst 5, 1) := dk_8 (dk_at dksX4_watches_2 11 rfl rfl)
theorem dX4_watches_58 : decode cX4_watches 58 = .ok (.invokevirtual 132, 3) := dk_182 0 132 (dk_at dksX4_watches_2 12 rfl rfl)
theorem dX4_watches_61 : decode cX4_watches 61 = .ok (.aload_n 0, 1) := dk_42 (dk_at dksX4_watches_2 15 rfl rfl)
theorem dX4_watches_62 : decode cX4_watches 62 = .ok (.getfield 9, 3) := dk_180 0 9 (dk_at dksX4_watches_2 16 rfl rfl)
theorem dX4_watches_65 : decode cX4_watches 65 = .ok (.iconst 5, 1) := dk_8 (dk_at dksX4_watches_2 19 rfl rfl)
theorem dX4_watches_66 : decode cX4_watches 66 = .ok (.iload_n 1, 1) := dk_27 (dk_at dksX4_watches_2 20 rfl rfl)
theorem dX4_watches_67 : decode cX4_watches 67 = .ok (.ifCond .eq 7, 3) := dk_153 0 7 (dk_at dksX4_watches_2 21 rfl rfl)
theorem dX4_watches_70 : decode cX4_watches 70 = .ok (.iconst 1, 1) := dk_4 (dk_at dksX4_watches_3 0 rfl rfl)
theorem dX4_watches_71 : decode cX4_watches 71 = .ok (.goto 4, 3) := dk_167 0 4 (dk_at dksX4_watches_3 1 rfl rfl)
theorem dX4_watches_74 : decode cX4_watches 74 = .ok (.iconst 0, 1) := dk_3 (dk_at dksX4_watches_3 4 rfl rfl)
theorem dX4_watches_75 : decode cX4_watches 75 = .ok (.iastore, 1) := dk_79 (dk_at dksX4_watches_3 5 rfl rfl)
theorem dX4_watches_76 : decode cX4_watches 76 = .ok (.return_, 1) := dk_177 (dk_at dksX4_watches_3 6 rfl rfl)
def dkwX4_isWithin_0 : List UInt8 := [42, 27, 28, 29, 182, 0, 126, 157, 0, 7, 4, 167, 0, 4, 3, 172]
abbrev dktX4_isWithin_0 : List UInt8 := dkwX4_isWithin_0 ++ []
theorem dksX4_isWithin_0 : cX4_isWithin.data.toList.drop 0 = dktX4_isWithin_0 := by decide +kernel
theorem dX4_isWithin_0 : decode cX4_isWithin 0 = .ok (.aload_n 0, 1) := dk_42 (dk_at dksX4_isWithin_0 0 rfl rfl)
theorem dX4_isWithin_1 : decode cX4_isWithin 1 = .ok (.iload_n 1, 1) := dk_27 (dk_at dksX4_isWithin_0 1 rfl rfl)
theorem dX4_isWithin_2 : decode cX4_isWithin 2 = .ok (.iload_n 2, 1) := dk_28 (dk_at dksX4_isWithin_0 2 rfl rfl)
theorem dX4_isWithin_3 : decode cX4_isWithin 3 = .ok (.iload_n 3, 1) := dk_29 (dk_at dksX4_isWithin_0 3 rfl rfl)
theorem dX4_isWithin_4 : decode cX4_isWithin 4 = .ok (.invokevirtual 126, 3) := dk_182 0 126 (dk_at dksX4_isWithin_0 4 rfl rfl)
theorem dX4_isWithin_7 : decode cX4_isWithin 7 = .ok (.ifCond .gt 7, 3) := dk_157 0 7 (dk_at dksX4_isWithin_0 7 rfl rfl)
theorem dX4_isWithin_10 : decode cX4_isWithin 10 = .ok (.iconst 1, 1) := dk_4 (dk_at dksX4_isWithin_0 10 rfl rfl)
theorem dX4_isWithin_11 : decode cX4_isWithin 11 = .ok (.goto 4, 3) := dk_167 0 4 (dk_at dksX4_isWithin_0 11 rfl rfl)
theorem dX4_isWithin_14 : decode cX4_isWithin 14 = .ok (.iconst 0, 1) := dk_3 (dk_at dksX4_isWithin_0 14 rfl rfl)
theorem dX4_isWithin_15 : decode cX4_isWithin 15 = .ok (.ireturn, 1) := dk_172 (dk_at dksX4_isWithin_0 15 rfl rfl)
def dkwX4_compared_7 : List UInt8 := [54, 12, 21, 12, 21, 12, 104, 29, 29, 104, 21, 11, 104, 100, 172]
abbrev dktX4_compared_7 : List UInt8 := dkwX4_compared_7 ++ []
def dkwX4_compared_6 : List UInt8 := [182, 0, 108, 100, 184, 0, 123, 29, 29, 104, 100, 172, 21, 8, 21, 7, 104, 21, 9, 21, 6, 104, 100]
abbrev dktX4_compared_6 : List UInt8 := dkwX4_compared_6 ++ dktX4_compared_7
def dkwX4_compared_5 : List UInt8 := [100, 172, 21, 10, 21, 11, 161, 0, 29, 27, 42, 21, 5, 3, 182, 0, 108, 100, 28, 42, 21, 5, 4]
abbrev dktX4_compared_5 : List UInt8 := dkwX4_compared_5 ++ dktX4_compared_6
def dkwX4_compared_4 : List UInt8 := [21, 6, 21, 7, 184, 0, 123, 54, 11, 21, 10, 157, 0, 15, 21, 8, 21, 9, 184, 0, 123, 29, 29, 104]
abbrev dktX4_compared_4 : List UInt8 := dkwX4_compared_4 ++ dktX4_compared_5
def dkwX4_compared_3 : List UInt8 := [28, 42, 21, 4, 4, 182, 0, 108, 100, 54, 9, 21, 8, 21, 6, 104, 21, 9, 21, 7, 104, 96, 54, 10]
abbrev dktX4_compared_3 : List UInt8 := dkwX4_compared_3 ++ dktX4_compared_4
def dkwX4_compared_2 : List UInt8 := [182, 0, 108, 42, 21, 4, 4, 182, 0, 108, 100, 54, 7, 27, 42, 21, 4, 3, 182, 0, 108, 100, 54, 8]
abbrev dktX4_compared_2 : List UInt8 := dkwX4_compared_2 ++ dktX4_compared_3
def dkwX4_compared_1 : List UInt8 := [54, 5, 42, 21, 5, 3, 182, 0, 108, 42, 21, 4, 3, 182, 0, 108, 100, 54, 6, 42, 21, 5, 4]
abbrev dktX4_compared_1 : List UInt8 := dkwX4_compared_1 ++ dktX4_compared_2
def dkwX4_compared_0 : List UInt8 := [42, 180, 0, 9, 17, 0, 192, 42, 180, 0, 9, 5, 46, 96, 4, 100, 46, 54, 4, 42, 182, 0, 120]
abbrev dktX4_compared_0 : List UInt8 := dkwX4_compared_0 ++ dktX4_compared_1
theorem dksX4_compared_0 : cX4_compared.data.toList.drop 0 = dktX4_compared_0 := by decide +kernel
theorem dksX4_compared_1 : cX4_compared.data.toList.drop 23 = dktX4_compared_1 := dk_seg dksX4_compared_0 23 rfl rfl
theorem dksX4_compared_2 : cX4_compared.data.toList.drop 46 = dktX4_compared_2 := dk_seg dksX4_compared_1 23 rfl rfl
theorem dksX4_compared_3 : cX4_compared.data.toList.drop 70 = dktX4_compared_3 := dk_seg dksX4_compared_2 24 rfl rfl
theorem dksX4_compared_4 : cX4_compared.data.toList.drop 94 = dktX4_compared_4 := dk_seg dksX4_compared_3 24 rfl rfl
theorem dksX4_compared_5 : cX4_compared.data.toList.drop 118 = dktX4_compared_5 := dk_seg dksX4_compared_4 24 rfl rfl
theorem dksX4_compared_6 : cX4_compared.data.toList.drop 141 = dktX4_compared_6 := dk_seg dksX4_compared_5 23 rfl rfl
theorem dksX4_compared_7 : cX4_compared.data.toList.drop 164 = dktX4_compared_7 := dk_seg dksX4_compared_6 23 rfl rfl
theorem dX4_compared_0 : decode cX4_compared 0 = .ok (.aload_n 0, 1) := dk_42 (dk_at dksX4_compared_0 0 rfl rfl)
theorem dX4_compared_1 : decode cX4_compared 1 = .ok (.getfield 9, 3) := dk_180 0 9 (dk_at dksX4_compared_0 1 rfl rfl)
theorem dX4_compared_4 : decode cX4_compared 4 = .ok (.sipush 192, 3) := dk_17 0 192 (dk_at dksX4_compared_0 4 rfl rfl)
theorem dX4_compared_7 : decode cX4_compared 7 = .ok (.aload_n 0, 1) := dk_42 (dk_at dksX4_compared_0 7 rfl rfl)
theorem dX4_compared_8 : decode cX4_compared 8 = .ok (.getfield 9, 3) := dk_180 0 9 (dk_at dksX4_compared_0 8 rfl rfl)
theorem dX4_compared_11 : decode cX4_compared 11 = .ok (.iconst 2, 1) := dk_5 (dk_at dksX4_compared_0 11 rfl rfl)
theorem dX4_compared_12 : decode cX4_compared 12 = .ok (.iaload, 1) := dk_46 (dk_at dksX4_compared_0 12 rfl rfl)
theorem dX4_compared_13 : decode cX4_compared 13 = .ok (.iadd, 1) := dk_96 (dk_at dksX4_compared_0 13 rfl rfl)
theorem dX4_compared_14 : decode cX4_compared 14 = .ok (.iconst 1, 1) := dk_4 (dk_at dksX4_compared_0 14 rfl rfl)
theorem dX4_compared_15 : decode cX4_compared 15 = .ok (.isub, 1) := dk_100 (dk_at dksX4_compared_0 15 rfl rfl)
theorem dX4_compared_16 : decode cX4_compared 16 = .ok (.iaload, 1) := dk_46 (dk_at dksX4_compared_0 16 rfl rfl)
theorem dX4_compared_17 : decode cX4_compared 17 = .ok (.istore 4, 2) := dk_54 4 (dk_at dksX4_compared_0 17 rfl rfl)
theorem dX4_compared_19 : decode cX4_compared 19 = .ok (.aload_n 0, 1) := dk_42 (dk_at dksX4_compared_0 19 rfl rfl)
theorem dX4_compared_20 : decode cX4_compared 20 = .ok (.invokevirtual 120, 3) := dk_182 0 120 (dk_at dksX4_compared_0 20 rfl rfl)
theorem dX4_compared_23 : decode cX4_compared 23 = .ok (.istore 5, 2) := dk_54 5 (dk_at dksX4_compared_1 0 rfl rfl)
theorem dX4_compared_25 : decode cX4_compared 25 = .ok (.aload_n 0, 1) := dk_42 (dk_at dksX4_compared_1 2 rfl rfl)
theorem dX4_compared_26 : decode cX4_compared 26 = .ok (.iload 5, 2) := dk_21 5 (dk_at dksX4_compared_1 3 rfl rfl)
theorem dX4_compared_28 : decode cX4_compared 28 = .ok (.iconst 0, 1) := dk_3 (dk_at dksX4_compared_1 5 rfl rfl)
theorem dX4_compared_29 : decode cX4_compared 29 = .ok (.invokevirtual 108, 3) := dk_182 0 108 (dk_at dksX4_compared_1 6 rfl rfl)
theorem dX4_compared_32 : decode cX4_compared 32 = .ok (.aload_n 0, 1) := dk_42 (dk_at dksX4_compared_1 9 rfl rfl)
theorem dX4_compared_33 : decode cX4_compared 33 = .ok (.iload 4, 2) := dk_21 4 (dk_at dksX4_compared_1 10 rfl rfl)
theorem dX4_compared_35 : decode cX4_compared 35 = .ok (.iconst 0, 1) := dk_3 (dk_at dksX4_compared_1 12 rfl rfl)
theorem dX4_compared_36 : decode cX4_compared 36 = .ok (.invokevirtual 108, 3) := dk_182 0 108 (dk_at dksX4_compared_1 13 rfl rfl)
theorem dX4_compared_39 : decode cX4_compared 39 = .ok (.isub, 1) := dk_100 (dk_at dksX4_compared_1 16 rfl rfl)
theorem dX4_compared_40 : decode cX4_compared 40 = .ok (.istore 6, 2) := dk_54 6 (dk_at dksX4_compared_1 17 rfl rfl)
theorem dX4_compared_42 : decode cX4_compared 42 = .ok (.aload_n 0, 1) := dk_42 (dk_at dksX4_compared_1 19 rfl rfl)
theorem dX4_compared_43 : decode cX4_compared 43 = .ok (.iload 5, 2) := dk_21 5 (dk_at dksX4_compared_1 20 rfl rfl)
theorem dX4_compared_45 : decode cX4_compared 45 = .ok (.iconst 1, 1) := dk_4 (dk_at dksX4_compared_1 22 rfl rfl)
theorem dX4_compared_46 : decode cX4_compared 46 = .ok (.invokevirtual 108, 3) := dk_182 0 108 (dk_at dksX4_compared_2 0 rfl rfl)
theorem dX4_compared_49 : decode cX4_compared 49 = .ok (.aload_n 0, 1) := dk_42 (dk_at dksX4_compared_2 3 rfl rfl)
theorem dX4_compared_50 : decode cX4_compared 50 = .ok (.iload 4, 2) := dk_21 4 (dk_at dksX4_compared_2 4 rfl rfl)
theorem dX4_compared_52 : decode cX4_compared 52 = .ok (.iconst 1, 1) := dk_4 (dk_at dksX4_compared_2 6 rfl rfl)
theorem dX4_compared_53 : decode cX4_compared 53 = .ok (.invokevirtual 108, 3) := dk_182 0 108 (dk_at dksX4_compared_2 7 rfl rfl)
theorem dX4_compared_56 : decode cX4_compared 56 = .ok (.isub, 1) := dk_100 (dk_at dksX4_compared_2 10 rfl rfl)
theorem dX4_compared_57 : decode cX4_compared 57 = .ok (.istore 7, 2) := dk_54 7 (dk_at dksX4_compared_2 11 rfl rfl)
theorem dX4_compared_59 : decode cX4_compared 59 = .ok (.iload_n 1, 1) := dk_27 (dk_at dksX4_compared_2 13 rfl rfl)
theorem dX4_compared_60 : decode cX4_compared 60 = .ok (.aload_n 0, 1) := dk_42 (dk_at dksX4_compared_2 14 rfl rfl)
theorem dX4_compared_61 : decode cX4_compared 61 = .ok (.iload 4, 2) := dk_21 4 (dk_at dksX4_compared_2 15 rfl rfl)
theorem dX4_compared_63 : decode cX4_compared 63 = .ok (.iconst 0, 1) := dk_3 (dk_at dksX4_compared_2 17 rfl rfl)
theorem dX4_compared_64 : decode cX4_compared 64 = .ok (.invokevirtual 108, 3) := dk_182 0 108 (dk_at dksX4_compared_2 18 rfl rfl)
theorem dX4_compared_67 : decode cX4_compared 67 = .ok (.isub, 1) := dk_100 (dk_at dksX4_compared_2 21 rfl rfl)
theorem dX4_compared_68 : decode cX4_compared 68 = .ok (.istore 8, 2) := dk_54 8 (dk_at dksX4_compared_2 22 rfl rfl)
theorem dX4_compared_70 : decode cX4_compared 70 = .ok (.iload_n 2, 1) := dk_28 (dk_at dksX4_compared_3 0 rfl rfl)
theorem dX4_compared_71 : decode cX4_compared 71 = .ok (.aload_n 0, 1) := dk_42 (dk_at dksX4_compared_3 1 rfl rfl)
theorem dX4_compared_72 : decode cX4_compared 72 = .ok (.iload 4, 2) := dk_21 4 (dk_at dksX4_compared_3 2 rfl rfl)
theorem dX4_compared_74 : decode cX4_compared 74 = .ok (.iconst 1, 1) := dk_4 (dk_at dksX4_compared_3 4 rfl rfl)
theorem dX4_compared_75 : decode cX4_compared 75 = .ok (.invokevirtual 108, 3) := dk_182 0 108 (dk_at dksX4_compared_3 5 rfl rfl)
theorem dX4_compared_78 : decode cX4_compared 78 = .ok (.isub, 1) := dk_100 (dk_at dksX4_compared_3 8 rfl rfl)
theorem dX4_compared_79 : decode cX4_compared 79 = .ok (.istore 9, 2) := dk_54 9 (dk_at dksX4_compared_3 9 rfl rfl)
theorem dX4_compared_81 : decode cX4_compared 81 = .ok (.iload 8, 2) := dk_21 8 (dk_at dksX4_compared_3 11 rfl rfl)
theorem dX4_compared_83 : decode cX4_compared 83 = .ok (.iload 6, 2) := dk_21 6 (dk_at dksX4_compared_3 13 rfl rfl)
theorem dX4_compared_85 : decode cX4_compared 85 = .ok (.imul, 1) := dk_104 (dk_at dksX4_compared_3 15 rfl rfl)
theorem dX4_compared_86 : decode cX4_compared 86 = .ok (.iload 9, 2) := dk_21 9 (dk_at dksX4_compared_3 16 rfl rfl)
theorem dX4_compared_88 : decode cX4_compared 88 = .ok (.iload 7, 2) := dk_21 7 (dk_at dksX4_compared_3 18 rfl rfl)
theorem dX4_compared_90 : decode cX4_compared 90 = .ok (.imul, 1) := dk_104 (dk_at dksX4_compared_3 20 rfl rfl)
theorem dX4_compared_91 : decode cX4_compared 91 = .ok (.iadd, 1) := dk_96 (dk_at dksX4_compared_3 21 rfl rfl)
theorem dX4_compared_92 : decode cX4_compared 92 = .ok (.istore 10, 2) := dk_54 10 (dk_at dksX4_compared_3 22 rfl rfl)
theorem dX4_compared_94 : decode cX4_compared 94 = .ok (.iload 6, 2) := dk_21 6 (dk_at dksX4_compared_4 0 rfl rfl)
theorem dX4_compared_96 : decode cX4_compared 96 = .ok (.iload 7, 2) := dk_21 7 (dk_at dksX4_compared_4 2 rfl rfl)
theorem dX4_compared_98 : decode cX4_compared 98 = .ok (.invokestatic 123, 3) := dk_184 0 123 (dk_at dksX4_compared_4 4 rfl rfl)
theorem dX4_compared_101 : decode cX4_compared 101 = .ok (.istore 11, 2) := dk_54 11 (dk_at dksX4_compared_4 7 rfl rfl)
theorem dX4_compared_103 : decode cX4_compared 103 = .ok (.iload 10, 2) := dk_21 10 (dk_at dksX4_compared_4 9 rfl rfl)
theorem dX4_compared_105 : decode cX4_compared 105 = .ok (.ifCond .gt 15, 3) := dk_157 0 15 (dk_at dksX4_compared_4 11 rfl rfl)
theorem dX4_compared_108 : decode cX4_compared 108 = .ok (.iload 8, 2) := dk_21 8 (dk_at dksX4_compared_4 14 rfl rfl)
theorem dX4_compared_110 : decode cX4_compared 110 = .ok (.iload 9, 2) := dk_21 9 (dk_at dksX4_compared_4 16 rfl rfl)
theorem dX4_compared_112 : decode cX4_compared 112 = .ok (.invokestatic 123, 3) := dk_184 0 123 (dk_at dksX4_compared_4 18 rfl rfl)
theorem dX4_compared_115 : decode cX4_compared 115 = .ok (.iload_n 3, 1) := dk_29 (dk_at dksX4_compared_4 21 rfl rfl)
theorem dX4_compared_116 : decode cX4_compared 116 = .ok (.iload_n 3, 1) := dk_29 (dk_at dksX4_compared_4 22 rfl rfl)
theorem dX4_compared_117 : decode cX4_compared 117 = .ok (.imul, 1) := dk_104 (dk_at dksX4_compared_4 23 rfl rfl)
theorem dX4_compared_118 : decode cX4_compared 118 = .ok (.isub, 1) := dk_100 (dk_at dksX4_compared_5 0 rfl rfl)
theorem dX4_compared_119 : decode cX4_compared 119 = .ok (.ireturn, 1) := dk_172 (dk_at dksX4_compared_5 1 rfl rfl)
theorem dX4_compared_120 : decode cX4_compared 120 = .ok (.iload 10, 2) := dk_21 10 (dk_at dksX4_compared_5 2 rfl rfl)
theorem dX4_compared_122 : decode cX4_compared 122 = .ok (.iload 11, 2) := dk_21 11 (dk_at dksX4_compared_5 4 rfl rfl)
theorem dX4_compared_124 : decode cX4_compared 124 = .ok (.if_icmp .lt 29, 3) := dk_161 0 29 (dk_at dksX4_compared_5 6 rfl rfl)
theorem dX4_compared_127 : decode cX4_compared 127 = .ok (.iload_n 1, 1) := dk_27 (dk_at dksX4_compared_5 9 rfl rfl)
theorem dX4_compared_128 : decode cX4_compared 128 = .ok (.aload_n 0, 1) := dk_42 (dk_at dksX4_compared_5 10 rfl rfl)
theorem dX4_compared_129 : decode cX4_compared 129 = .ok (.iload 5, 2) := dk_21 5 (dk_at dksX4_compared_5 11 rfl rfl)
theorem dX4_compared_131 : decode cX4_compared 131 = .ok (.iconst 0, 1) := dk_3 (dk_at dksX4_compared_5 13 rfl rfl)
theorem dX4_compared_132 : decode cX4_compared 132 = .ok (.invokevirtual 108, 3) := dk_182 0 108 (dk_at dksX4_compared_5 14 rfl rfl)
theorem dX4_compared_135 : decode cX4_compared 135 = .ok (.isub, 1) := dk_100 (dk_at dksX4_compared_5 17 rfl rfl)
theorem dX4_compared_136 : decode cX4_compared 136 = .ok (.iload_n 2, 1) := dk_28 (dk_at dksX4_compared_5 18 rfl rfl)
theorem dX4_compared_137 : decode cX4_compared 137 = .ok (.aload_n 0, 1) := dk_42 (dk_at dksX4_compared_5 19 rfl rfl)
theorem dX4_compared_138 : decode cX4_compared 138 = .ok (.iload 5, 2) := dk_21 5 (dk_at dksX4_compared_5 20 rfl rfl)
theorem dX4_compared_140 : decode cX4_compared 140 = .ok (.iconst 1, 1) := dk_4 (dk_at dksX4_compared_5 22 rfl rfl)
theorem dX4_compared_141 : decode cX4_compared 141 = .ok (.invokevirtual 108, 3) := dk_182 0 108 (dk_at dksX4_compared_6 0 rfl rfl)
theorem dX4_compared_144 : decode cX4_compared 144 = .ok (.isub, 1) := dk_100 (dk_at dksX4_compared_6 3 rfl rfl)
theorem dX4_compared_145 : decode cX4_compared 145 = .ok (.invokestatic 123, 3) := dk_184 0 123 (dk_at dksX4_compared_6 4 rfl rfl)
theorem dX4_compared_148 : decode cX4_compared 148 = .ok (.iload_n 3, 1) := dk_29 (dk_at dksX4_compared_6 7 rfl rfl)
theorem dX4_compared_149 : decode cX4_compared 149 = .ok (.iload_n 3, 1) := dk_29 (dk_at dksX4_compared_6 8 rfl rfl)
theorem dX4_compared_150 : decode cX4_compared 150 = .ok (.imul, 1) := dk_104 (dk_at dksX4_compared_6 9 rfl rfl)
theorem dX4_compared_151 : decode cX4_compared 151 = .ok (.isub, 1) := dk_100 (dk_at dksX4_compared_6 10 rfl rfl)
theorem dX4_compared_152 : decode cX4_compared 152 = .ok (.ireturn, 1) := dk_172 (dk_at dksX4_compared_6 11 rfl rfl)
theorem dX4_compared_153 : decode cX4_compared 153 = .ok (.iload 8, 2) := dk_21 8 (dk_at dksX4_compared_6 12 rfl rfl)
theorem dX4_compared_155 : decode cX4_compared 155 = .ok (.iload 7, 2) := dk_21 7 (dk_at dksX4_compared_6 14 rfl rfl)
theorem dX4_compared_157 : decode cX4_compared 157 = .ok (.imul, 1) := dk_104 (dk_at dksX4_compared_6 16 rfl rfl)
theorem dX4_compared_158 : decode cX4_compared 158 = .ok (.iload 9, 2) := dk_21 9 (dk_at dksX4_compared_6 17 rfl rfl)
theorem dX4_compared_160 : decode cX4_compared 160 = .ok (.iload 6, 2) := dk_21 6 (dk_at dksX4_compared_6 19 rfl rfl)
theorem dX4_compared_162 : decode cX4_compared 162 = .ok (.imul, 1) := dk_104 (dk_at dksX4_compared_6 21 rfl rfl)
theorem dX4_compared_163 : decode cX4_compared 163 = .ok (.isub, 1) := dk_100 (dk_at dksX4_compared_6 22 rfl rfl)
theorem dX4_compared_164 : decode cX4_compared 164 = .ok (.istore 12, 2) := dk_54 12 (dk_at dksX4_compared_7 0 rfl rfl)
theorem dX4_compared_166 : decode cX4_compared 166 = .ok (.iload 12, 2) := dk_21 12 (dk_at dksX4_compared_7 2 rfl rfl)
theorem dX4_compared_168 : decode cX4_compared 168 = .ok (.iload 12, 2) := dk_21 12 (dk_at dksX4_compared_7 4 rfl rfl)
theorem dX4_compared_170 : decode cX4_compared 170 = .ok (.imul, 1) := dk_104 (dk_at dksX4_compared_7 6 rfl rfl)
theorem dX4_compared_171 : decode cX4_compared 171 = .ok (.iload_n 3, 1) := dk_29 (dk_at dksX4_compared_7 7 rfl rfl)
theorem dX4_compared_172 : decode cX4_compared 172 = .ok (.iload_n 3, 1) := dk_29 (dk_at dksX4_compared_7 8 rfl rfl)
theorem dX4_compared_173 : decode cX4_compared 173 = .ok (.imul, 1) := dk_104 (dk_at dksX4_compared_7 9 rfl rfl)
theorem dX4_compared_174 : decode cX4_compared 174 = .ok (.iload 11, 2) := dk_21 11 (dk_at dksX4_compared_7 10 rfl rfl)
theorem dX4_compared_176 : decode cX4_compared 176 = .ok (.imul, 1) := dk_104 (dk_at dksX4_compared_7 12 rfl rfl)
theorem dX4_compared_177 : decode cX4_compared 177 = .ok (.isub, 1) := dk_100 (dk_at dksX4_compared_7 13 rfl rfl)
theorem dX4_compared_178 : decode cX4_compared 178 = .ok (.ireturn, 1) := dk_172 (dk_at dksX4_compared_7 14 rfl rfl)
def dkwX4_setTolerance_0 : List UInt8 := [42, 182, 0, 67, 42, 42, 16, 8, 27, 4, 16, 30, 182, 0, 147, 182, 0, 74, 172]
abbrev dktX4_setTolerance_0 : List UInt8 := dkwX4_setTolerance_0 ++ []
theorem dksX4_setTolerance_0 : cX4_setTolerance.data.toList.drop 0 = dktX4_setTolerance_0 := by decide +kernel
theorem dX4_setTolerance_0 : decode cX4_setTolerance 0 = .ok (.aload_n 0, 1) := dk_42 (dk_at dksX4_setTolerance_0 0 rfl rfl)
theorem dX4_setTolerance_1 : decode cX4_setTolerance 1 = .ok (.invokevirtual 67, 3) := dk_182 0 67 (dk_at dksX4_setTolerance_0 1 rfl rfl)
theorem dX4_setTolerance_4 : decode cX4_setTolerance 4 = .ok (.aload_n 0, 1) := dk_42 (dk_at dksX4_setTolerance_0 4 rfl rfl)
theorem dX4_setTolerance_5 : decode cX4_setTolerance 5 = .ok (.aload_n 0, 1) := dk_42 (dk_at dksX4_setTolerance_0 5 rfl rfl)
theorem dX4_setTolerance_6 : decode cX4_setTolerance 6 = .ok (.bipush 8, 2) := dk_16 8 (dk_at dksX4_setTolerance_0 6 rfl rfl)
theorem dX4_setTolerance_8 : decode cX4_setTolerance 8 = .ok (.iload_n 1, 1) := dk_27 (dk_at dksX4_setTolerance_0 8 rfl rfl)
theorem dX4_setTolerance_9 : decode cX4_setTolerance 9 = .ok (.iconst 1, 1) := dk_4 (dk_at dksX4_setTolerance_0 9 rfl rfl)
theorem dX4_setTolerance_10 : decode cX4_setTolerance 10 = .ok (.bipush 30, 2) := dk_16 30 (dk_at dksX4_setTolerance_0 10 rfl rfl)
theorem dX4_setTolerance_12 : decode cX4_setTolerance 12 = .ok (.invokevirtual 147, 3) := dk_182 0 147 (dk_at dksX4_setTolerance_0 12 rfl rfl)
theorem dX4_setTolerance_15 : decode cX4_setTolerance 15 = .ok (.invokevirtual 74, 3) := dk_182 0 74 (dk_at dksX4_setTolerance_0 15 rfl rfl)
theorem dX4_setTolerance_18 : decode cX4_setTolerance 18 = .ok (.ireturn, 1) := dk_172 (dk_at dksX4_setTolerance_0 18 rfl rfl)
def dkwX4_tells_1 : List UInt8 := [172, 42, 180, 0, 9, 27, 46, 54, 5, 42, 180, 0, 9, 27, 28, 79, 21, 5, 172]
abbrev dktX4_tells_1 : List UInt8 := dkwX4_tells_1 ++ []
def dkwX4_tells_0 : List UInt8 := [42, 28, 29, 21, 4, 184, 0, 51, 154, 0, 7, 4, 167, 0, 4, 3, 4, 182, 0, 63, 153, 0, 5, 3]
abbrev dktX4_tells_0 : List UInt8 := dkwX4_tells_0 ++ dktX4_tells_1
theorem dksX4_tells_0 : cX4_tells.data.toList.drop 0 = dktX4_tells_0 := by decide +kernel
theorem dksX4_tells_1 : cX4_tells.data.toList.drop 24 = dktX4_tells_1 := dk_seg dksX4_tells_0 24 rfl rfl
theorem dX4_tells_0 : decode cX4_tells 0 = .ok (.aload_n 0, 1) := dk_42 (dk_at dksX4_tells_0 0 rfl rfl)
theorem dX4_tells_1 : decode cX4_tells 1 = .ok (.iload_n 2, 1) := dk_28 (dk_at dksX4_tells_0 1 rfl rfl)
theorem dX4_tells_2 : decode cX4_tells 2 = .ok (.iload_n 3, 1) := dk_29 (dk_at dksX4_tells_0 2 rfl rfl)
theorem dX4_tells_3 : decode cX4_tells 3 = .ok (.iload 4, 2) := dk_21 4 (dk_at dksX4_tells_0 3 rfl rfl)
theorem dX4_tells_5 : decode cX4_tells 5 = .ok (.invokestatic 51, 3) := dk_184 0 51 (dk_at dksX4_tells_0 5 rfl rfl)
theorem dX4_tells_8 : decode cX4_tells 8 = .ok (.ifCond .ne 7, 3) := dk_154 0 7 (dk_at dksX4_tells_0 8 rfl rfl)
theorem dX4_tells_11 : decode cX4_tells 11 = .ok (.iconst 1, 1) := dk_4 (dk_at dksX4_tells_0 11 rfl rfl)
theorem dX4_tells_12 : decode cX4_tells 12 = .ok (.goto 4, 3) := dk_167 0 4 (dk_at dksX4_tells_0 12 rfl rfl)
theorem dX4_tells_15 : decode cX4_tells 15 = .ok (.iconst 0, 1) := dk_3 (dk_at dksX4_tells_0 15 rfl rfl)
theorem dX4_tells_16 : decode cX4_tells 16 = .ok (.iconst 1, 1) := dk_4 (dk_at dksX4_tells_0 16 rfl rfl)
theorem dX4_tells_17 : decode cX4_tells 17 = .ok (.invokevirtual 63, 3) := dk_182 0 63 (dk_at dksX4_tells_0 17 rfl rfl)
theorem dX4_tells_20 : decode cX4_tells 20 = .ok (.ifCond .eq 5, 3) := dk_153 0 5 (dk_at dksX4_tells_0 20 rfl rfl)
theorem dX4_tells_23 : decode cX4_tells 23 = .ok (.iconst 0, 1) := dk_3 (dk_at dksX4_tells_0 23 rfl rfl)
theorem dX4_tells_24 : decode cX4_tells 24 = .ok (.ireturn, 1) := dk_172 (dk_at dksX4_tells_1 0 rfl rfl)
theorem dX4_tells_25 : decode cX4_tells 25 = .ok (.aload_n 0, 1) := dk_42 (dk_at dksX4_tells_1 1 rfl rfl)
theorem dX4_tells_26 : decode cX4_tells 26 = .ok (.getfield 9, 3) := dk_180 0 9 (dk_at dksX4_tells_1 2 rfl rfl)
theorem dX4_tells_29 : decode cX4_tells 29 = .ok (.iload_n 1, 1) := dk_27 (dk_at dksX4_tells_1 5 rfl rfl)
theorem dX4_tells_30 : decode cX4_tells 30 = .ok (.iaload, 1) := dk_46 (dk_at dksX4_tells_1 6 rfl rfl)
theorem dX4_tells_31 : decode cX4_tells 31 = .ok (.istore 5, 2) := dk_54 5 (dk_at dksX4_tells_1 7 rfl rfl)
theorem dX4_tells_33 : decode cX4_tells 33 = .ok (.aload_n 0, 1) := dk_42 (dk_at dksX4_tells_1 9 rfl rfl)
theorem dX4_tells_34 : decode cX4_tells 34 = .ok (.getfield 9, 3) := dk_180 0 9 (dk_at dksX4_tells_1 10 rfl rfl)
theorem dX4_tells_37 : decode cX4_tells 37 = .ok (.iload_n 1, 1) := dk_27 (dk_at dksX4_tells_1 13 rfl rfl)
theorem dX4_tells_38 : decode cX4_tells 38 = .ok (.iload_n 2, 1) := dk_28 (dk_at dksX4_tells_1 14 rfl rfl)
theorem dX4_tells_39 : decode cX4_tells 39 = .ok (.iastore, 1) := dk_79 (dk_at dksX4_tells_1 15 rfl rfl)
theorem dX4_tells_40 : decode cX4_tells 40 = .ok (.iload 5, 2) := dk_21 5 (dk_at dksX4_tells_1 16 rfl rfl)
theorem dX4_tells_42 : decode cX4_tells 42 = .ok (.ireturn, 1) := dk_172 (dk_at dksX4_tells_1 18 rfl rfl)
def dkwX4_setMode_0 : List UInt8 := [42, 182, 0, 67, 42, 42, 16, 7, 27, 3, 5, 182, 0, 147, 182, 0, 74, 172]
abbrev dktX4_setMode_0 : List UInt8 := dkwX4_setMode_0 ++ []
theorem dksX4_setMode_0 : cX4_setMode.data.toList.drop 0 = dktX4_setMode_0 := by decide +kernel
theorem dX4_setMode_0 : decode cX4_setMode 0 = .ok (.aload_n 0, 1) := dk_42 (dk_at dksX4_setMode_0 0 rfl rfl)
theorem dX4_setMode_1 : decode cX4_setMode 1 = .ok (.invokevirtual 67, 3) := dk_182 0 67 (dk_at dksX4_setMode_0 1 rfl rfl)
theorem dX4_setMode_4 : decode cX4_setMode 4 = .ok (.aload_n 0, 1) := dk_42 (dk_at dksX4_setMode_0 4 rfl rfl)
theorem dX4_setMode_5 : decode cX4_setMode 5 = .ok (.aload_n 0, 1) := dk_42 (dk_at dksX4_setMode_0 5 rfl rfl)
theorem dX4_setMode_6 : decode cX4_setMode 6 = .ok (.bipush 7, 2) := dk_16 7 (dk_at dksX4_setMode_0 6 rfl rfl)
theorem dX4_setMode_8 : decode cX4_setMode 8 = .ok (.iload_n 1, 1) := dk_27 (dk_at dksX4_setMode_0 8 rfl rfl)
theorem dX4_setMode_9 : decode cX4_setMode 9 = .ok (.iconst 0, 1) := dk_3 (dk_at dksX4_setMode_0 9 rfl rfl)
theorem dX4_setMode_10 : decode cX4_setMode 10 = .ok (.iconst 2, 1) := dk_5 (dk_at dksX4_setMode_0 10 rfl rfl)
theorem dX4_setMode_11 : decode cX4_setMode 11 = .ok (.invokevirtual 147, 3) := dk_182 0 147 (dk_at dksX4_setMode_0 11 rfl rfl)
theorem dX4_setMode_14 : decode cX4_setMode 14 = .ok (.invokevirtual 74, 3) := dk_182 0 74 (dk_at dksX4_setMode_0 14 rfl rfl)
theorem dX4_setMode_17 : decode cX4_setMode 17 = .ok (.ireturn, 1) := dk_172 (dk_at dksX4_setMode_0 17 rfl rfl)
def dkwX4_charge_0 : List UInt8 := [42, 182, 0, 67, 42, 42, 27, 182, 0, 151, 182, 0, 74, 172]
abbrev dktX4_charge_0 : List UInt8 := dkwX4_charge_0 ++ []
theorem dksX4_charge_0 : cX4_charge.data.toList.drop 0 = dktX4_charge_0 := by decide +kernel
theorem dX4_charge_0 : decode cX4_charge 0 = .ok (.aload_n 0, 1) := dk_42 (dk_at dksX4_charge_0 0 rfl rfl)
theorem dX4_charge_1 : decode cX4_charge 1 = .ok (.invokevirtual 67, 3) := dk_182 0 67 (dk_at dksX4_charge_0 1 rfl rfl)
theorem dX4_charge_4 : decode cX4_charge 4 = .ok (.aload_n 0, 1) := dk_42 (dk_at dksX4_charge_0 4 rfl rfl)
theorem dX4_charge_5 : decode cX4_charge 5 = .ok (.aload_n 0, 1) := dk_42 (dk_at dksX4_charge_0 5 rfl rfl)
theorem dX4_charge_6 : decode cX4_charge 6 = .ok (.iload_n 1, 1) := dk_27 (dk_at dksX4_charge_0 6 rfl rfl)
theorem dX4_charge_7 : decode cX4_charge 7 = .ok (.invokevirtual 151, 3) := dk_182 0 151 (dk_at dksX4_charge_0 7 rfl rfl)
theorem dX4_charge_10 : decode cX4_charge 10 = .ok (.invokevirtual 74, 3) := dk_182 0 74 (dk_at dksX4_charge_0 10 rfl rfl)
theorem dX4_charge_13 : decode cX4_charge 13 = .ok (.ireturn, 1) := dk_172 (dk_at dksX4_charge_0 13 rfl rfl)
def dkwX4_charges_2 : List UInt8 := [17, 3, 232, 167, 0, 12, 42, 180, 0, 9, 16, 6, 46, 27, 96, 79, 42, 180, 0, 9, 16, 6, 46, 172]
abbrev dktX4_charges_2 : List UInt8 := dkwX4_charges_2 ++ []
def dkwX4_charges_1 : List UInt8 := [3, 172, 42, 180, 0, 9, 16, 6, 42, 180, 0, 9, 16, 6, 46, 27, 96, 17, 3, 232, 164, 0, 9]
abbrev dktX4_charges_1 : List UInt8 := dkwX4_charges_1 ++ dktX4_charges_2
def dkwX4_charges_0 : List UInt8 := [42, 27, 4, 17, 3, 231, 184, 0, 51, 154, 0, 7, 4, 167, 0, 4, 3, 4, 182, 0, 63, 153, 0, 5]
abbrev dktX4_charges_0 : List UInt8 := dkwX4_charges_0 ++ dktX4_charges_1
theorem dksX4_charges_0 : cX4_charges.data.toList.drop 0 = dktX4_charges_0 := by decide +kernel
theorem dksX4_charges_1 : cX4_charges.data.toList.drop 24 = dktX4_charges_1 := dk_seg dksX4_charges_0 24 rfl rfl
theorem dksX4_charges_2 : cX4_charges.data.toList.drop 47 = dktX4_charges_2 := dk_seg dksX4_charges_1 23 rfl rfl
theorem dX4_charges_0 : decode cX4_charges 0 = .ok (.aload_n 0, 1) := dk_42 (dk_at dksX4_charges_0 0 rfl rfl)
theorem dX4_charges_1 : decode cX4_charges 1 = .ok (.iload_n 1, 1) := dk_27 (dk_at dksX4_charges_0 1 rfl rfl)
theorem dX4_charges_2 : decode cX4_charges 2 = .ok (.iconst 1, 1) := dk_4 (dk_at dksX4_charges_0 2 rfl rfl)
theorem dX4_charges_3 : decode cX4_charges 3 = .ok (.sipush 999, 3) := dk_17 3 231 (dk_at dksX4_charges_0 3 rfl rfl)
theorem dX4_charges_6 : decode cX4_charges 6 = .ok (.invokestatic 51, 3) := dk_184 0 51 (dk_at dksX4_charges_0 6 rfl rfl)
theorem dX4_charges_9 : decode cX4_charges 9 = .ok (.ifCond .ne 7, 3) := dk_154 0 7 (dk_at dksX4_charges_0 9 rfl rfl)
theorem dX4_charges_12 : decode cX4_charges 12 = .ok (.iconst 1, 1) := dk_4 (dk_at dksX4_charges_0 12 rfl rfl)
theorem dX4_charges_13 : decode cX4_charges 13 = .ok (.goto 4, 3) := dk_167 0 4 (dk_at dksX4_charges_0 13 rfl rfl)
theorem dX4_charges_16 : decode cX4_charges 16 = .ok (.iconst 0, 1) := dk_3 (dk_at dksX4_charges_0 16 rfl rfl)
theorem dX4_charges_17 : decode cX4_charges 17 = .ok (.iconst 1, 1) := dk_4 (dk_at dksX4_charges_0 17 rfl rfl)
theorem dX4_charges_18 : decode cX4_charges 18 = .ok (.invokevirtual 63, 3) := dk_182 0 63 (dk_at dksX4_charges_0 18 rfl rfl)
theorem dX4_charges_21 : decode cX4_charges 21 = .ok (.ifCond .eq 5, 3) := dk_153 0 5 (dk_at dksX4_charges_0 21 rfl rfl)
theorem dX4_charges_24 : decode cX4_charges 24 = .ok (.iconst 0, 1) := dk_3 (dk_at dksX4_charges_1 0 rfl rfl)
theorem dX4_charges_25 : decode cX4_charges 25 = .ok (.ireturn, 1) := dk_172 (dk_at dksX4_charges_1 1 rfl rfl)
theorem dX4_charges_26 : decode cX4_charges 26 = .ok (.aload_n 0, 1) := dk_42 (dk_at dksX4_charges_1 2 rfl rfl)
theorem dX4_charges_27 : decode cX4_charges 27 = .ok (.getfield 9, 3) := dk_180 0 9 (dk_at dksX4_charges_1 3 rfl rfl)
theorem dX4_charges_30 : decode cX4_charges 30 = .ok (.bipush 6, 2) := dk_16 6 (dk_at dksX4_charges_1 6 rfl rfl)
theorem dX4_charges_32 : decode cX4_charges 32 = .ok (.aload_n 0, 1) := dk_42 (dk_at dksX4_charges_1 8 rfl rfl)
theorem dX4_charges_33 : decode cX4_charges 33 = .ok (.getfield 9, 3) := dk_180 0 9 (dk_at dksX4_charges_1 9 rfl rfl)
theorem dX4_charges_36 : decode cX4_charges 36 = .ok (.bipush 6, 2) := dk_16 6 (dk_at dksX4_charges_1 12 rfl rfl)
theorem dX4_charges_38 : decode cX4_charges 38 = .ok (.iaload, 1) := dk_46 (dk_at dksX4_charges_1 14 rfl rfl)
theorem dX4_charges_39 : decode cX4_charges 39 = .ok (.iload_n 1, 1) := dk_27 (dk_at dksX4_charges_1 15 rfl rfl)
theorem dX4_charges_40 : decode cX4_charges 40 = .ok (.iadd, 1) := dk_96 (dk_at dksX4_charges_1 16 rfl rfl)
theorem dX4_charges_41 : decode cX4_charges 41 = .ok (.sipush 1000, 3) := dk_17 3 232 (dk_at dksX4_charges_1 17 rfl rfl)
theorem dX4_charges_44 : decode cX4_charges 44 = .ok (.if_icmp .le 9, 3) := dk_164 0 9 (dk_at dksX4_charges_1 20 rfl rfl)
theorem dX4_charges_47 : decode cX4_charges 47 = .ok (.sipush 1000, 3) := dk_17 3 232 (dk_at dksX4_charges_2 0 rfl rfl)
theorem dX4_charges_50 : decode cX4_charges 50 = .ok (.goto 12, 3) := dk_167 0 12 (dk_at dksX4_charges_2 3 rfl rfl)
theorem dX4_charges_53 : decode cX4_charges 53 = .ok (.aload_n 0, 1) := dk_42 (dk_at dksX4_charges_2 6 rfl rfl)
theorem dX4_charges_54 : decode cX4_charges 54 = .ok (.getfield 9, 3) := dk_180 0 9 (dk_at dksX4_charges_2 7 rfl rfl)
theorem dX4_charges_57 : decode cX4_charges 57 = .ok (.bipush 6, 2) := dk_16 6 (dk_at dksX4_charges_2 10 rfl rfl)
theorem dX4_charges_59 : decode cX4_charges 59 = .ok (.iaload, 1) := dk_46 (dk_at dksX4_charges_2 12 rfl rfl)
theorem dX4_charges_60 : decode cX4_charges 60 = .ok (.iload_n 1, 1) := dk_27 (dk_at dksX4_charges_2 13 rfl rfl)
theorem dX4_charges_61 : decode cX4_charges 61 = .ok (.iadd, 1) := dk_96 (dk_at dksX4_charges_2 14 rfl rfl)
theorem dX4_charges_62 : decode cX4_charges 62 = .ok (.iastore, 1) := dk_79 (dk_at dksX4_charges_2 15 rfl rfl)
theorem dX4_charges_63 : decode cX4_charges 63 = .ok (.aload_n 0, 1) := dk_42 (dk_at dksX4_charges_2 16 rfl rfl)
theorem dX4_charges_64 : decode cX4_charges 64 = .ok (.getfield 9, 3) := dk_180 0 9 (dk_at dksX4_charges_2 17 rfl rfl)
theorem dX4_charges_67 : decode cX4_charges 67 = .ok (.bipush 6, 2) := dk_16 6 (dk_at dksX4_charges_2 20 rfl rfl)
theorem dX4_charges_69 : decode cX4_charges 69 = .ok (.iaload, 1) := dk_46 (dk_at dksX4_charges_2 22 rfl rfl)
theorem dX4_charges_70 : decode cX4_charges 70 = .ok (.ireturn, 1) := dk_172 (dk_at dksX4_charges_2 23 rfl rfl)
def dkwX4_waypoints_0 : List UInt8 := [42, 3, 181, 0, 41, 42, 180, 0, 9, 3, 46, 172]
abbrev dktX4_waypoints_0 : List UInt8 := dkwX4_waypoints_0 ++ []
theorem dksX4_waypoints_0 : cX4_waypoints.data.toList.drop 0 = dktX4_waypoints_0 := by decide +kernel
theorem dX4_waypoints_0 : decode cX4_waypoints 0 = .ok (.aload_n 0, 1) := dk_42 (dk_at dksX4_waypoints_0 0 rfl rfl)
theorem dX4_waypoints_1 : decode cX4_waypoints 1 = .ok (.iconst 0, 1) := dk_3 (dk_at dksX4_waypoints_0 1 rfl rfl)
theorem dX4_waypoints_2 : decode cX4_waypoints 2 = .ok (.putfield 41, 3) := dk_181 0 41 (dk_at dksX4_waypoints_0 2 rfl rfl)
theorem dX4_waypoints_5 : decode cX4_waypoints 5 = .ok (.aload_n 0, 1) := dk_42 (dk_at dksX4_waypoints_0 5 rfl rfl)
theorem dX4_waypoints_6 : decode cX4_waypoints 6 = .ok (.getfield 9, 3) := dk_180 0 9 (dk_at dksX4_waypoints_0 6 rfl rfl)
theorem dX4_waypoints_9 : decode cX4_waypoints 9 = .ok (.iconst 0, 1) := dk_3 (dk_at dksX4_waypoints_0 9 rfl rfl)
theorem dX4_waypoints_10 : decode cX4_waypoints 10 = .ok (.iaload, 1) := dk_46 (dk_at dksX4_waypoints_0 10 rfl rfl)
theorem dX4_waypoints_11 : decode cX4_waypoints 11 = .ok (.ireturn, 1) := dk_172 (dk_at dksX4_waypoints_0 11 rfl rfl)
def dkwX4_waypointX_0 : List UInt8 := [42, 27, 3, 182, 0, 154, 172]
abbrev dktX4_waypointX_0 : List UInt8 := dkwX4_waypointX_0 ++ []
theorem dksX4_waypointX_0 : cX4_waypointX.data.toList.drop 0 = dktX4_waypointX_0 := by decide +kernel
theorem dX4_waypointX_0 : decode cX4_waypointX 0 = .ok (.aload_n 0, 1) := dk_42 (dk_at dksX4_waypointX_0 0 rfl rfl)
theorem dX4_waypointX_1 : decode cX4_waypointX 1 = .ok (.iload_n 1, 1) := dk_27 (dk_at dksX4_waypointX_0 1 rfl rfl)
theorem dX4_waypointX_2 : decode cX4_waypointX 2 = .ok (.iconst 0, 1) := dk_3 (dk_at dksX4_waypointX_0 2 rfl rfl)
theorem dX4_waypointX_3 : decode cX4_waypointX 3 = .ok (.invokevirtual 154, 3) := dk_182 0 154 (dk_at dksX4_waypointX_0 3 rfl rfl)
theorem dX4_waypointX_6 : decode cX4_waypointX 6 = .ok (.ireturn, 1) := dk_172 (dk_at dksX4_waypointX_0 6 rfl rfl)
def dkwX4_ofPoint_1 : List UInt8 := [167, 0, 9, 42, 27, 28, 182, 0, 108, 172]
abbrev dktX4_ofPoint_1 : List UInt8 := dkwX4_ofPoint_1 ++ []
def dkwX4_ofPoint_0 : List UInt8 := [42, 42, 27, 182, 0, 78, 154, 0, 7, 4, 167, 0, 4, 3, 4, 182, 0, 63, 153, 0, 7, 3]
abbrev dktX4_ofPoint_0 : List UInt8 := dkwX4_ofPoint_0 ++ dktX4_ofPoint_1
theorem dksX4_ofPoint_0 : cX4_ofPoint.data.toList.drop 0 = dktX4_ofPoint_0 := by decide +kernel
theorem dksX4_ofPoint_1 : cX4_ofPoint.data.toList.drop 22 = dktX4_ofPoint_1 := dk_seg dksX4_ofPoint_0 22 rfl rfl
theorem dX4_ofPoint_0 : decode cX4_ofPoint 0 = .ok (.aload_n 0, 1) := dk_42 (dk_at dksX4_ofPoint_0 0 rfl rfl)
theorem dX4_ofPoint_1 : decode cX4_ofPoint 1 = .ok (.aload_n 0, 1) := dk_42 (dk_at dksX4_ofPoint_0 1 rfl rfl)
theorem dX4_ofPoint_2 : decode cX4_ofPoint 2 = .ok (.iload_n 1, 1) := dk_27 (dk_at dksX4_ofPoint_0 2 rfl rfl)
theorem dX4_ofPoint_3 : decode cX4_ofPoint 3 = .ok (.invokevirtual 78, 3) := dk_182 0 78 (dk_at dksX4_ofPoint_0 3 rfl rfl)
theorem dX4_ofPoint_6 : decode cX4_ofPoint 6 = .ok (.ifCond .ne 7, 3) := dk_154 0 7 (dk_at dksX4_ofPoint_0 6 rfl rfl)
theorem dX4_ofPoint_9 : decode cX4_ofPoint 9 = .ok (.iconst 1, 1) := dk_4 (dk_at dksX4_ofPoint_0 9 rfl rfl)
theorem dX4_ofPoint_10 : decode cX4_ofPoint 10 = .ok (.goto 4, 3) := dk_167 0 4 (dk_at dksX4_ofPoint_0 10 rfl rfl)
theorem dX4_ofPoint_13 : decode cX4_ofPoint 13 = .ok (.iconst 0, 1) := dk_3 (dk_at dksX4_ofPoint_0 13 rfl rfl)
theorem dX4_ofPoint_14 : decode cX4_ofPoint 14 = .ok (.iconst 1, 1) := dk_4 (dk_at dksX4_ofPoint_0 14 rfl rfl)
theorem dX4_ofPoint_15 : decode cX4_ofPoint 15 = .ok (.invokevirtual 63, 3) := dk_182 0 63 (dk_at dksX4_ofPoint_0 15 rfl rfl)
theorem dX4_ofPoint_18 : decode cX4_ofPoint 18 = .ok (.ifCond .eq 7, 3) := dk_153 0 7 (dk_at dksX4_ofPoint_0 18 rfl rfl)
theorem dX4_ofPoint_21 : decode cX4_ofPoint 21 = .ok (.iconst 0, 1) := dk_3 (dk_at dksX4_ofPoint_0 21 rfl rfl)
theorem dX4_ofPoint_22 : decode cX4_ofPoint 22 = .ok (.goto 9, 3) := dk_167 0 9 (dk_at dksX4_ofPoint_1 0 rfl rfl)
theorem dX4_ofPoint_25 : decode cX4_ofPoint 25 = .ok (.aload_n 0, 1) := dk_42 (dk_at dksX4_ofPoint_1 3 rfl rfl)
theorem dX4_ofPoint_26 : decode cX4_ofPoint 26 = .ok (.iload_n 1, 1) := dk_27 (dk_at dksX4_ofPoint_1 4 rfl rfl)
theorem dX4_ofPoint_27 : decode cX4_ofPoint 27 = .ok (.iload_n 2, 1) := dk_28 (dk_at dksX4_ofPoint_1 5 rfl rfl)
theorem dX4_ofPoint_28 : decode cX4_ofPoint 28 = .ok (.invokevirtual 108, 3) := dk_182 0 108 (dk_at dksX4_ofPoint_1 6 rfl rfl)
theorem dX4_ofPoint_31 : decode cX4_ofPoint 31 = .ok (.ireturn, 1) := dk_172 (dk_at dksX4_ofPoint_1 9 rfl rfl)
def dkwX4_waypointY_0 : List UInt8 := [42, 27, 4, 182, 0, 154, 172]
abbrev dktX4_waypointY_0 : List UInt8 := dkwX4_waypointY_0 ++ []
theorem dksX4_waypointY_0 : cX4_waypointY.data.toList.drop 0 = dktX4_waypointY_0 := by decide +kernel
theorem dX4_waypointY_0 : decode cX4_waypointY 0 = .ok (.aload_n 0, 1) := dk_42 (dk_at dksX4_waypointY_0 0 rfl rfl)
theorem dX4_waypointY_1 : decode cX4_waypointY 1 = .ok (.iload_n 1, 1) := dk_27 (dk_at dksX4_waypointY_0 1 rfl rfl)
theorem dX4_waypointY_2 : decode cX4_waypointY 2 = .ok (.iconst 1, 1) := dk_4 (dk_at dksX4_waypointY_0 2 rfl rfl)
theorem dX4_waypointY_3 : decode cX4_waypointY 3 = .ok (.invokevirtual 154, 3) := dk_182 0 154 (dk_at dksX4_waypointY_0 3 rfl rfl)
theorem dX4_waypointY_6 : decode cX4_waypointY 6 = .ok (.ireturn, 1) := dk_172 (dk_at dksX4_waypointY_0 6 rfl rfl)
def dkwX4_radius_0 : List UInt8 := [42, 27, 5, 182, 0, 154, 172]
abbrev dktX4_radius_0 : List UInt8 := dkwX4_radius_0 ++ []
theorem dksX4_radius_0 : cX4_radius.data.toList.drop 0 = dktX4_radius_0 := by decide +kernel
theorem dX4_radius_0 : decode cX4_radius 0 = .ok (.aload_n 0, 1) := dk_42 (dk_at dksX4_radius_0 0 rfl rfl)
theorem dX4_radius_1 : decode cX4_radius 1 = .ok (.iload_n 1, 1) := dk_27 (dk_at dksX4_radius_0 1 rfl rfl)
theorem dX4_radius_2 : decode cX4_radius 2 = .ok (.iconst 2, 1) := dk_5 (dk_at dksX4_radius_0 2 rfl rfl)
theorem dX4_radius_3 : decode cX4_radius 3 = .ok (.invokevirtual 154, 3) := dk_182 0 154 (dk_at dksX4_radius_0 3 rfl rfl)
theorem dX4_radius_6 : decode cX4_radius 6 = .ok (.ireturn, 1) := dk_172 (dk_at dksX4_radius_0 6 rfl rfl)
def dkwX4_trails_0 : List UInt8 := [42, 3, 181, 0, 41, 42, 182, 0, 86, 172]
abbrev dktX4_trails_0 : List UInt8 := dkwX4_trails_0 ++ []
theorem dksX4_trails_0 : cX4_trails.data.toList.drop 0 = dktX4_trails_0 := by decide +kernel
theorem dX4_trails_0 : decode cX4_trails 0 = .ok (.aload_n 0, 1) := dk_42 (dk_at dksX4_trails_0 0 rfl rfl)
theorem dX4_trails_1 : decode cX4_trails 1 = .ok (.iconst 0, 1) := dk_3 (dk_at dksX4_trails_0 1 rfl rfl)
theorem dX4_trails_2 : decode cX4_trails 2 = .ok (.putfield 41, 3) := dk_181 0 41 (dk_at dksX4_trails_0 2 rfl rfl)
theorem dX4_trails_5 : decode cX4_trails 5 = .ok (.aload_n 0, 1) := dk_42 (dk_at dksX4_trails_0 5 rfl rfl)
theorem dX4_trails_6 : decode cX4_trails 6 = .ok (.invokevirtual 86, 3) := dk_182 0 86 (dk_at dksX4_trails_0 6 rfl rfl)
theorem dX4_trails_9 : decode cX4_trails 9 = .ok (.ireturn, 1) := dk_172 (dk_at dksX4_trails_0 9 rfl rfl)
def dkwX4_hasTrail_1 : List UInt8 := [182, 0, 63, 154, 0, 16, 42, 27, 28, 182, 0, 55, 158, 0, 7, 4, 167, 0, 4, 3, 172]
abbrev dktX4_hasTrail_1 : List UInt8 := dkwX4_hasTrail_1 ++ []
def dkwX4_hasTrail_0 : List UInt8 := [42, 42, 27, 182, 0, 78, 153, 0, 11, 42, 28, 182, 0, 78, 154, 0, 7, 4, 167, 0, 4, 3, 4]
abbrev dktX4_hasTrail_0 : List UInt8 := dkwX4_hasTrail_0 ++ dktX4_hasTrail_1
theorem dksX4_hasTrail_0 : cX4_hasTrail.data.toList.drop 0 = dktX4_hasTrail_0 := by decide +kernel
theorem dksX4_hasTrail_1 : cX4_hasTrail.data.toList.drop 23 = dktX4_hasTrail_1 := dk_seg dksX4_hasTrail_0 23 rfl rfl
theorem dX4_hasTrail_0 : decode cX4_hasTrail 0 = .ok (.aload_n 0, 1) := dk_42 (dk_at dksX4_hasTrail_0 0 rfl rfl)
theorem dX4_hasTrail_1 : decode cX4_hasTrail 1 = .ok (.aload_n 0, 1) := dk_42 (dk_at dksX4_hasTrail_0 1 rfl rfl)
theorem dX4_hasTrail_2 : decode cX4_hasTrail 2 = .ok (.iload_n 1, 1) := dk_27 (dk_at dksX4_hasTrail_0 2 rfl rfl)
theorem dX4_hasTrail_3 : decode cX4_hasTrail 3 = .ok (.invokevirtual 78, 3) := dk_182 0 78 (dk_at dksX4_hasTrail_0 3 rfl rfl)
theorem dX4_hasTrail_6 : decode cX4_hasTrail 6 = .ok (.ifCond .eq 11, 3) := dk_153 0 11 (dk_at dksX4_hasTrail_0 6 rfl rfl)
theorem dX4_hasTrail_9 : decode cX4_hasTrail 9 = .ok (.aload_n 0, 1) := dk_42 (dk_at dksX4_hasTrail_0 9 rfl rfl)
theorem dX4_hasTrail_10 : decode cX4_hasTrail 10 = .ok (.iload_n 2, 1) := dk_28 (dk_at dksX4_hasTrail_0 10 rfl rfl)
theorem dX4_hasTrail_11 : decode cX4_hasTrail 11 = .ok (.invokevirtual 78, 3) := dk_182 0 78 (dk_at dksX4_hasTrail_0 11 rfl rfl)
theorem dX4_hasTrail_14 : decode cX4_hasTrail 14 = .ok (.ifCond .ne 7, 3) := dk_154 0 7 (dk_at dksX4_hasTrail_0 14 rfl rfl)
theorem dX4_hasTrail_17 : decode cX4_hasTrail 17 = .ok (.iconst 1, 1) := dk_4 (dk_at dksX4_hasTrail_0 17 rfl rfl)
theorem dX4_hasTrail_18 : decode cX4_hasTrail 18 = .ok (.goto 4, 3) := dk_167 0 4 (dk_at dksX4_hasTrail_0 18 rfl rfl)
theorem dX4_hasTrail_21 : decode cX4_hasTrail 21 = .ok (.iconst 0, 1) := dk_3 (dk_at dksX4_hasTrail_0 21 rfl rfl)
theorem dX4_hasTrail_22 : decode cX4_hasTrail 22 = .ok (.iconst 1, 1) := dk_4 (dk_at dksX4_hasTrail_0 22 rfl rfl)
theorem dX4_hasTrail_23 : decode cX4_hasTrail 23 = .ok (.invokevirtual 63, 3) := dk_182 0 63 (dk_at dksX4_hasTrail_1 0 rfl rfl)
theorem dX4_hasTrail_26 : decode cX4_hasTrail 26 = .ok (.ifCond .ne 16, 3) := dk_154 0 16 (dk_at dksX4_hasTrail_1 3 rfl rfl)
theorem dX4_hasTrail_29 : decode cX4_hasTrail 29 = .ok (.aload_n 0, 1) := dk_42 (dk_at dksX4_hasTrail_1 6 rfl rfl)
theorem dX4_hasTrail_30 : decode cX4_hasTrail 30 = .ok (.iload_n 1, 1) := dk_27 (dk_at dksX4_hasTrail_1 7 rfl rfl)
theorem dX4_hasTrail_31 : decode cX4_hasTrail 31 = .ok (.iload_n 2, 1) := dk_28 (dk_at dksX4_hasTrail_1 8 rfl rfl)
theorem dX4_hasTrail_32 : decode cX4_hasTrail 32 = .ok (.invokevirtual 55, 3) := dk_182 0 55 (dk_at dksX4_hasTrail_1 9 rfl rfl)
theorem dX4_hasTrail_35 : decode cX4_hasTrail 35 = .ok (.ifCond .le 7, 3) := dk_158 0 7 (dk_at dksX4_hasTrail_1 12 rfl rfl)
theorem dX4_hasTrail_38 : decode cX4_hasTrail 38 = .ok (.iconst 1, 1) := dk_4 (dk_at dksX4_hasTrail_1 15 rfl rfl)
theorem dX4_hasTrail_39 : decode cX4_hasTrail 39 = .ok (.goto 4, 3) := dk_167 0 4 (dk_at dksX4_hasTrail_1 16 rfl rfl)
theorem dX4_hasTrail_42 : decode cX4_hasTrail 42 = .ok (.iconst 0, 1) := dk_3 (dk_at dksX4_hasTrail_1 19 rfl rfl)
theorem dX4_hasTrail_43 : decode cX4_hasTrail 43 = .ok (.ireturn, 1) := dk_172 (dk_at dksX4_hasTrail_1 20 rfl rfl)
def dkwX4_trailLength_2 : List UInt8 := [182, 0, 63, 153, 0, 7, 3, 167, 0, 9, 42, 27, 28, 182, 0, 55, 172]
abbrev dktX4_trailLength_2 : List UInt8 := dkwX4_trailLength_2 ++ []
def dkwX4_trailLength_1 : List UInt8 := [182, 0, 63, 154, 0, 25, 42, 42, 27, 28, 182, 0, 55, 154, 0, 7, 4, 167, 0, 4, 3, 5]
abbrev dktX4_trailLength_1 : List UInt8 := dkwX4_trailLength_1 ++ dktX4_trailLength_2
def dkwX4_trailLength_0 : List UInt8 := [42, 42, 27, 182, 0, 78, 153, 0, 11, 42, 28, 182, 0, 78, 154, 0, 7, 4, 167, 0, 4, 3, 4]
abbrev dktX4_trailLength_0 : List UInt8 := dkwX4_trailLength_0 ++ dktX4_trailLength_1
theorem dksX4_trailLength_0 : cX4_trailLength.data.toList.drop 0 = dktX4_trailLength_0 := by decide +kernel
theorem dksX4_trailLength_1 : cX4_trailLength.data.toList.drop 23 = dktX4_trailLength_1 := dk_seg dksX4_trailLength_0 23 rfl rfl
theorem dksX4_trailLength_2 : cX4_trailLength.data.toList.drop 45 = dktX4_trailLength_2 := dk_seg dksX4_trailLength_1 22 rfl rfl
theorem dX4_trailLength_0 : decode cX4_trailLength 0 = .ok (.aload_n 0, 1) := dk_42 (dk_at dksX4_trailLength_0 0 rfl rfl)
theorem dX4_trailLength_1 : decode cX4_trailLength 1 = .ok (.aload_n 0, 1) := dk_42 (dk_at dksX4_trailLength_0 1 rfl rfl)
theorem dX4_trailLength_2 : decode cX4_trailLength 2 = .ok (.iload_n 1, 1) := dk_27 (dk_at dksX4_trailLength_0 2 rfl rfl)
theorem dX4_trailLength_3 : decode cX4_trailLength 3 = .ok (.invokevirtual 78, 3) := dk_182 0 78 (dk_at dksX4_trailLength_0 3 rfl rfl)
theorem dX4_trailLength_6 : decode cX4_trailLength 6 = .ok (.ifCond .eq 11, 3) := dk_153 0 11 (dk_at dksX4_trailLength_0 6 rfl rfl)
theorem dX4_trailLength_9 : decode cX4_trailLength 9 = .ok (.aload_n 0, 1) := dk_42 (dk_at dksX4_trailLength_0 9 rfl rfl)
theorem dX4_trailLength_10 : decode cX4_trailLength 10 = .ok (.iload_n 2, 1) := dk_28 (dk_at dksX4_trailLength_0 10 rfl rfl)
theorem dX4_trailLength_11 : decode cX4_trailLength 11 = .ok (.invokevirtual 78, 3) := dk_182 0 78 (dk_at dksX4_trailLength_0 11 rfl rfl)
theorem dX4_trailLength_14 : decode cX4_trailLength 14 = .ok (.ifCond .ne 7, 3) := dk_154 0 7 (dk_at dksX4_trailLength_0 14 rfl rfl)
theorem dX4_trailLength_17 : decode cX4_trailLength 17 = .ok (.iconst 1, 1) := dk_4 (dk_at dksX4_trailLength_0 17 rfl rfl)
theorem dX4_trailLength_18 : decode cX4_trailLength 18 = .ok (.goto 4, 3) := dk_167 0 4 (dk_at dksX4_trailLength_0 18 rfl rfl)
theorem dX4_trailLength_21 : decode cX4_trailLength 21 = .ok (.iconst 0, 1) := dk_3 (dk_at dksX4_trailLength_0 21 rfl rfl)
theorem dX4_trailLength_22 : decode cX4_trailLength 22 = .ok (.iconst 1, 1) := dk_4 (dk_at dksX4_trailLength_0 22 rfl rfl)
theorem dX4_trailLength_23 : decode cX4_trailLength 23 = .ok (.invokevirtual 63, 3) := dk_182 0 63 (dk_at dksX4_trailLength_1 0 rfl rfl)
theorem dX4_trailLength_26 : decode cX4_trailLength 26 = .ok (.ifCond .ne 25, 3) := dk_154 0 25 (dk_at dksX4_trailLength_1 3 rfl rfl)
theorem dX4_trailLength_29 : decode cX4_trailLength 29 = .ok (.aload_n 0, 1) := dk_42 (dk_at dksX4_trailLength_1 6 rfl rfl)
theorem dX4_trailLength_30 : decode cX4_trailLength 30 = .ok (.aload_n 0, 1) := dk_42 (dk_at dksX4_trailLength_1 7 rfl rfl)
theorem dX4_trailLength_31 : decode cX4_trailLength 31 = .ok (.iload_n 1, 1) := dk_27 (dk_at dksX4_trailLength_1 8 rfl rfl)
theorem dX4_trailLength_32 : decode cX4_trailLength 32 = .ok (.iload_n 2, 1) := dk_28 (dk_at dksX4_trailLength_1 9 rfl rfl)
theorem dX4_trailLength_33 : decode cX4_trailLength 33 = .ok (.invokevirtual 55, 3) := dk_182 0 55 (dk_at dksX4_trailLength_1 10 rfl rfl)
theorem dX4_trailLength_36 : decode cX4_trailLength 36 = .ok (.ifCond .ne 7, 3) := dk_154 0 7 (dk_at dksX4_trailLength_1 13 rfl rfl)
theorem dX4_trailLength_39 : decode cX4_trailLength 39 = .ok (.iconst 1, 1) := dk_4 (dk_at dksX4_trailLength_1 16 rfl rfl)
theorem dX4_trailLength_40 : decode cX4_trailLength 40 = .ok (.goto 4, 3) := dk_167 0 4 (dk_at dksX4_trailLength_1 17 rfl rfl)
theorem dX4_trailLength_43 : decode cX4_trailLength 43 = .ok (.iconst 0, 1) := dk_3 (dk_at dksX4_trailLength_1 20 rfl rfl)
theorem dX4_trailLength_44 : decode cX4_trailLength 44 = .ok (.iconst 2, 1) := dk_5 (dk_at dksX4_trailLength_1 21 rfl rfl)
theorem dX4_trailLength_45 : decode cX4_trailLength 45 = .ok (.invokevirtual 63, 3) := dk_182 0 63 (dk_at dksX4_trailLength_2 0 rfl rfl)
theorem dX4_trailLength_48 : decode cX4_trailLength 48 = .ok (.ifCond .eq 7, 3) := dk_153 0 7 (dk_at dksX4_trailLength_2 3 rfl rfl)
theorem dX4_trailLength_51 : decode cX4_trailLength 51 = .ok (.iconst 0, 1) := dk_3 (dk_at dksX4_trailLength_2 6 rfl rfl)
theorem dX4_trailLength_52 : decode cX4_trailLength 52 = .ok (.goto 9, 3) := dk_167 0 9 (dk_at dksX4_trailLength_2 7 rfl rfl)
theorem dX4_trailLength_55 : decode cX4_trailLength 55 = .ok (.aload_n 0, 1) := dk_42 (dk_at dksX4_trailLength_2 10 rfl rfl)
theorem dX4_trailLength_56 : decode cX4_trailLength 56 = .ok (.iload_n 1, 1) := dk_27 (dk_at dksX4_trailLength_2 11 rfl rfl)
theorem dX4_trailLength_57 : decode cX4_trailLength 57 = .ok (.iload_n 2, 1) := dk_28 (dk_at dksX4_trailLength_2 12 rfl rfl)
theorem dX4_trailLength_58 : decode cX4_trailLength 58 = .ok (.invokevirtual 55, 3) := dk_182 0 55 (dk_at dksX4_trailLength_2 13 rfl rfl)
theorem dX4_trailLength_61 : decode cX4_trailLength 61 = .ok (.ireturn, 1) := dk_172 (dk_at dksX4_trailLength_2 16 rfl rfl)
def dkwX4_distance_3 : List UInt8 := [46, 172]
abbrev dktX4_distance_3 : List UInt8 := dkwX4_distance_3 ++ []
def dkwX4_distance_2 : List UInt8 := [161, 0, 7, 4, 167, 0, 4, 3, 5, 182, 0, 63, 153, 0, 7, 3, 167, 0, 9, 42, 180, 0, 22, 28]
abbrev dktX4_distance_2 : List UInt8 := dkwX4_distance_2 ++ dktX4_distance_3
def dkwX4_distance_1 : List UInt8 := [182, 0, 63, 153, 0, 5, 3, 172, 42, 27, 182, 0, 101, 42, 42, 180, 0, 22, 28, 46, 18, 96]
abbrev dktX4_distance_1 : List UInt8 := dkwX4_distance_1 ++ dktX4_distance_2
def dkwX4_distance_0 : List UInt8 := [42, 42, 27, 182, 0, 78, 153, 0, 11, 42, 28, 182, 0, 78, 154, 0, 7, 4, 167, 0, 4, 3, 4]
abbrev dktX4_distance_0 : List UInt8 := dkwX4_distance_0 ++ dktX4_distance_1
theorem dksX4_distance_0 : cX4_distance.data.toList.drop 0 = dktX4_distance_0 := by decide +kernel
theorem dksX4_distance_1 : cX4_distance.data.toList.drop 23 = dktX4_distance_1 := dk_seg dksX4_distance_0 23 rfl rfl
theorem dksX4_distance_2 : cX4_distance.data.toList.drop 45 = dktX4_distance_2 := dk_seg dksX4_distance_1 22 rfl rfl
theorem dksX4_distance_3 : cX4_distance.data.toList.drop 69 = dktX4_distance_3 := dk_seg dksX4_distance_2 24 rfl rfl
theorem dX4_distance_0 : decode cX4_distance 0 = .ok (.aload_n 0, 1) := dk_42 (dk_at dksX4_distance_0 0 rfl rfl)
theorem dX4_distance_1 : decode cX4_distance 1 = .ok (.aload_n 0, 1) := dk_42 (dk_at dksX4_distance_0 1 rfl rfl)
theorem dX4_distance_2 : decode cX4_distance 2 = .ok (.iload_n 1, 1) := dk_27 (dk_at dksX4_distance_0 2 rfl rfl)
theorem dX4_distance_3 : decode cX4_distance 3 = .ok (.invokevirtual 78, 3) := dk_182 0 78 (dk_at dksX4_distance_0 3 rfl rfl)
theorem dX4_distance_6 : decode cX4_distance 6 = .ok (.ifCond .eq 11, 3) := dk_153 0 11 (dk_at dksX4_distance_0 6 rfl rfl)
theorem dX4_distance_9 : decode cX4_distance 9 = .ok (.aload_n 0, 1) := dk_42 (dk_at dksX4_distance_0 9 rfl rfl)
theorem dX4_distance_10 : decode cX4_distance 10 = .ok (.iload_n 2, 1) := dk_28 (dk_at dksX4_distance_0 10 rfl rfl)
theorem dX4_distance_11 : decode cX4_distance 11 = .ok (.invokevirtual 78, 3) := dk_182 0 78 (dk_at dksX4_distance_0 11 rfl rfl)
theorem dX4_distance_14 : decode cX4_distance 14 = .ok (.ifCond .ne 7, 3) := dk_154 0 7 (dk_at dksX4_distance_0 14 rfl rfl)
theorem dX4_distance_17 : decode cX4_distance 17 = .ok (.iconst 1, 1) := dk_4 (dk_at dksX4_distance_0 17 rfl rfl)
theorem dX4_distance_18 : decode cX4_distance 18 = .ok (.goto 4, 3) := dk_167 0 4 (dk_at dksX4_distance_0 18 rfl rfl)
theorem dX4_distance_21 : decode cX4_distance 21 = .ok (.iconst 0, 1) := dk_3 (dk_at dksX4_distance_0 21 rfl rfl)
theorem dX4_distance_22 : decode cX4_distance 22 = .ok (.iconst 1, 1) := dk_4 (dk_at dksX4_distance_0 22 rfl rfl)
theorem dX4_distance_23 : decode cX4_distance 23 = .ok (.invokevirtual 63, 3) := dk_182 0 63 (dk_at dksX4_distance_1 0 rfl rfl)
theorem dX4_distance_26 : decode cX4_distance 26 = .ok (.ifCond .eq 5, 3) := dk_153 0 5 (dk_at dksX4_distance_1 3 rfl rfl)
theorem dX4_distance_29 : decode cX4_distance 29 = .ok (.iconst 0, 1) := dk_3 (dk_at dksX4_distance_1 6 rfl rfl)
theorem dX4_distance_30 : decode cX4_distance 30 = .ok (.ireturn, 1) := dk_172 (dk_at dksX4_distance_1 7 rfl rfl)
theorem dX4_distance_31 : decode cX4_distance 31 = .ok (.aload_n 0, 1) := dk_42 (dk_at dksX4_distance_1 8 rfl rfl)
theorem dX4_distance_32 : decode cX4_distance 32 = .ok (.iload_n 1, 1) := dk_27 (dk_at dksX4_distance_1 9 rfl rfl)
theorem dX4_distance_33 : decode cX4_distance 33 = .ok (.invokevirtual 101, 3) := dk_182 0 101 (dk_at dksX4_distance_1 10 rfl rfl)
theorem dX4_distance_36 : decode cX4_distance 36 = .ok (.aload_n 0, 1) := dk_42 (dk_at dksX4_distance_1 13 rfl rfl)
theorem dX4_distance_37 : decode cX4_distance 37 = .ok (.aload_n 0, 1) := dk_42 (dk_at dksX4_distance_1 14 rfl rfl)
theorem dX4_distance_38 : decode cX4_distance 38 = .ok (.getfield 22, 3) := dk_180 0 22 (dk_at dksX4_distance_1 15 rfl rfl)
theorem dX4_distance_41 : decode cX4_distance 41 = .ok (.iload_n 2, 1) := dk_28 (dk_at dksX4_distance_1 18 rfl rfl)
theorem dX4_distance_42 : decode cX4_distance 42 = .ok (.iaload, 1) := dk_46 (dk_at dksX4_distance_1 19 rfl rfl)
theorem dX4_distance_43 : decode cX4_distance 43 = .ok (.ldc 96, 2) := dk_18 96 (dk_at dksX4_distance_1 20 rfl rfl)
theorem dX4_distance_45 : decode cX4_distance 45 = .ok (.if_icmp .lt 7, 3) := dk_161 0 7 (dk_at dksX4_distance_2 0 rfl rfl)
theorem dX4_distance_48 : decode cX4_distance 48 = .ok (.iconst 1, 1) := dk_4 (dk_at dksX4_distance_2 3 rfl rfl)
theorem dX4_distance_49 : decode cX4_distance 49 = .ok (.goto 4, 3) := dk_167 0 4 (dk_at dksX4_distance_2 4 rfl rfl)
theorem dX4_distance_52 : decode cX4_distance 52 = .ok (.iconst 0, 1) := dk_3 (dk_at dksX4_distance_2 7 rfl rfl)
theorem dX4_distance_53 : decode cX4_distance 53 = .ok (.iconst 2, 1) := dk_5 (dk_at dksX4_distance_2 8 rfl rfl)
theorem dX4_distance_54 : decode cX4_distance 54 = .ok (.invokevirtual 63, 3) := dk_182 0 63 (dk_at dksX4_distance_2 9 rfl rfl)
theorem dX4_distance_57 : decode cX4_distance 57 = .ok (.ifCond .eq 7, 3) := dk_153 0 7 (dk_at dksX4_distance_2 12 rfl rfl)
theorem dX4_distance_60 : decode cX4_distance 60 = .ok (.iconst 0, 1) := dk_3 (dk_at dksX4_distance_2 15 rfl rfl)
theorem dX4_distance_61 : decode cX4_distance 61 = .ok (.goto 9, 3) := dk_167 0 9 (dk_at dksX4_distance_2 16 rfl rfl)
theorem dX4_distance_64 : decode cX4_distance 64 = .ok (.aload_n 0, 1) := dk_42 (dk_at dksX4_distance_2 19 rfl rfl)
theorem dX4_distance_65 : decode cX4_distance 65 = .ok (.getfield 22, 3) := dk_180 0 22 (dk_at dksX4_distance_2 20 rfl rfl)
theorem dX4_distance_68 : decode cX4_distance 68 = .ok (.iload_n 2, 1) := dk_28 (dk_at dksX4_distance_2 23 rfl rfl)
theorem dX4_distance_69 : decode cX4_distance 69 = .ok (.iaload, 1) := dk_46 (dk_at dksX4_distance_3 0 rfl rfl)
theorem dX4_distance_70 : decode cX4_distance 70 = .ok (.ireturn, 1) := dk_172 (dk_at dksX4_distance_3 1 rfl rfl)
def dkwX4_distanceByRelaxation_0 : List UInt8 := [42, 27, 28, 182, 0, 157, 172]
abbrev dktX4_distanceByRelaxation_0 : List UInt8 := dkwX4_distanceByRelaxation_0 ++ []
theorem dksX4_distanceByRelaxation_0 : cX4_distanceByRelaxation.data.toList.drop 0 = dktX4_distanceByRelaxation_0 := by decide +kernel
theorem dX4_distanceByRelaxation_0 : decode cX4_distanceByRelaxation 0 = .ok (.aload_n 0, 1) := dk_42 (dk_at dksX4_distanceByRelaxation_0 0 rfl rfl)
theorem dX4_distanceByRelaxation_1 : decode cX4_distanceByRelaxation 1 = .ok (.iload_n 1, 1) := dk_27 (dk_at dksX4_distanceByRelaxation_0 1 rfl rfl)
theorem dX4_distanceByRelaxation_2 : decode cX4_distanceByRelaxation 2 = .ok (.iload_n 2, 1) := dk_28 (dk_at dksX4_distanceByRelaxation_0 2 rfl rfl)
theorem dX4_distanceByRelaxation_3 : decode cX4_distanceByRelaxation 3 = .ok (.invokevirtual 157, 3) := dk_182 0 157 (dk_at dksX4_distanceByRelaxation_0 3 rfl rfl)
theorem dX4_distanceByRelaxation_6 : decode cX4_distanceByRelaxation 6 = .ok (.ireturn, 1) := dk_172 (dk_at dksX4_distanceByRelaxation_0 6 rfl rfl)
def dkwX4_components_3 : List UInt8 := [60, 132, 2, 1, 167, 255, 189, 27, 172]
abbrev dktX4_components_3 : List UInt8 := dkwX4_components_3 ++ []
def dkwX4_components_2 : List UInt8 := [4, 167, 0, 4, 3, 126, 62, 132, 4, 1, 167, 255, 227, 27, 29, 153, 0, 7, 4, 167, 0, 4, 3, 96]
abbrev dktX4_components_2 : List UInt8 := dkwX4_components_2 ++ dktX4_components_3
def dkwX4_components_1 : List UInt8 := [4, 62, 3, 54, 4, 21, 4, 28, 162, 0, 29, 29, 42, 180, 0, 22, 21, 4, 46, 18, 96, 161, 0, 7]
abbrev dktX4_components_1 : List UInt8 := dkwX4_components_1 ++ dktX4_components_2
def dkwX4_components_0 : List UInt8 := [42, 3, 181, 0, 41, 3, 60, 3, 61, 28, 42, 180, 0, 9, 3, 46, 162, 0, 63, 42, 28, 182, 0, 101]
abbrev dktX4_components_0 : List UInt8 := dkwX4_components_0 ++ dktX4_components_1
theorem dksX4_components_0 : cX4_components.data.toList.drop 0 = dktX4_components_0 := by decide +kernel
theorem dksX4_components_1 : cX4_components.data.toList.drop 24 = dktX4_components_1 := dk_seg dksX4_components_0 24 rfl rfl
theorem dksX4_components_2 : cX4_components.data.toList.drop 48 = dktX4_components_2 := dk_seg dksX4_components_1 24 rfl rfl
theorem dksX4_components_3 : cX4_components.data.toList.drop 72 = dktX4_components_3 := dk_seg dksX4_components_2 24 rfl rfl
theorem dX4_components_0 : decode cX4_components 0 = .ok (.aload_n 0, 1) := dk_42 (dk_at dksX4_components_0 0 rfl rfl)
theorem dX4_components_1 : decode cX4_components 1 = .ok (.iconst 0, 1) := dk_3 (dk_at dksX4_components_0 1 rfl rfl)
theorem dX4_components_2 : decode cX4_components 2 = .ok (.putfield 41, 3) := dk_181 0 41 (dk_at dksX4_components_0 2 rfl rfl)
theorem dX4_components_5 : decode cX4_components 5 = .ok (.iconst 0, 1) := dk_3 (dk_at dksX4_components_0 5 rfl rfl)
theorem dX4_components_6 : decode cX4_components 6 = .ok (.istore_n 1, 1) := dk_60 (dk_at dksX4_components_0 6 rfl rfl)
theorem dX4_components_7 : decode cX4_components 7 = .ok (.iconst 0, 1) := dk_3 (dk_at dksX4_components_0 7 rfl rfl)
theorem dX4_components_8 : decode cX4_components 8 = .ok (.istore_n 2, 1) := dk_61 (dk_at dksX4_components_0 8 rfl rfl)
theorem dX4_components_9 : decode cX4_components 9 = .ok (.iload_n 2, 1) := dk_28 (dk_at dksX4_components_0 9 rfl rfl)
theorem dX4_components_10 : decode cX4_components 10 = .ok (.aload_n 0, 1) := dk_42 (dk_at dksX4_components_0 10 rfl rfl)
theorem dX4_components_11 : decode cX4_components 11 = .ok (.getfield 9, 3) := dk_180 0 9 (dk_at dksX4_components_0 11 rfl rfl)
theorem dX4_components_14 : decode cX4_components 14 = .ok (.iconst 0, 1) := dk_3 (dk_at dksX4_components_0 14 rfl rfl)
theorem dX4_components_15 : decode cX4_components 15 = .ok (.iaload, 1) := dk_46 (dk_at dksX4_components_0 15 rfl rfl)
theorem dX4_components_16 : decode cX4_components 16 = .ok (.if_icmp .ge 63, 3) := dk_162 0 63 (dk_at dksX4_components_0 16 rfl rfl)
theorem dX4_components_19 : decode cX4_components 19 = .ok (.aload_n 0, 1) := dk_42 (dk_at dksX4_components_0 19 rfl rfl)
theorem dX4_components_20 : decode cX4_components 20 = .ok (.iload_n 2, 1) := dk_28 (dk_at dksX4_components_0 20 rfl rfl)
theorem dX4_components_21 : decode cX4_components 21 = .ok (.invokevirtual 101, 3) := dk_182 0 101 (dk_at dksX4_components_0 21 rfl rfl)
theorem dX4_components_24 : decode cX4_components 24 = .ok (.iconst 1, 1) := dk_4 (dk_at dksX4_components_1 0 rfl rfl)
theorem dX4_components_25 : decode cX4_components 25 = .ok (.istore_n 3, 1) := dk_62 (dk_at dksX4_components_1 1 rfl rfl)
theorem dX4_components_26 : decode cX4_components 26 = .ok (.iconst 0, 1) := dk_3 (dk_at dksX4_components_1 2 rfl rfl)
theorem dX4_components_27 : decode cX4_components 27 = .ok (.istore 4, 2) := dk_54 4 (dk_at dksX4_components_1 3 rfl rfl)
theorem dX4_components_29 : decode cX4_components 29 = .ok (.iload 4, 2) := dk_21 4 (dk_at dksX4_components_1 5 rfl rfl)
theorem dX4_components_31 : decode cX4_components 31 = .ok (.iload_n 2, 1) := dk_28 (dk_at dksX4_components_1 7 rfl rfl)
theorem dX4_components_32 : decode cX4_components 32 = .ok (.if_icmp .ge 29, 3) := dk_162 0 29 (dk_at dksX4_components_1 8 rfl rfl)
theorem dX4_components_35 : decode cX4_components 35 = .ok (.iload_n 3, 1) := dk_29 (dk_at dksX4_components_1 11 rfl rfl)
theorem dX4_components_36 : decode cX4_components 36 = .ok (.aload_n 0, 1) := dk_42 (dk_at dksX4_components_1 12 rfl rfl)
theorem dX4_components_37 : decode cX4_components 37 = .ok (.getfield 22, 3) := dk_180 0 22 (dk_at dksX4_components_1 13 rfl rfl)
theorem dX4_components_40 : decode cX4_components 40 = .ok (.iload 4, 2) := dk_21 4 (dk_at dksX4_components_1 16 rfl rfl)
theorem dX4_components_42 : decode cX4_components 42 = .ok (.iaload, 1) := dk_46 (dk_at dksX4_components_1 18 rfl rfl)
theorem dX4_components_43 : decode cX4_components 43 = .ok (.ldc 96, 2) := dk_18 96 (dk_at dksX4_components_1 19 rfl rfl)
theorem dX4_components_45 : decode cX4_components 45 = .ok (.if_icmp .lt 7, 3) := dk_161 0 7 (dk_at dksX4_components_1 21 rfl rfl)
theorem dX4_components_48 : decode cX4_components 48 = .ok (.iconst 1, 1) := dk_4 (dk_at dksX4_components_2 0 rfl rfl)
theorem dX4_components_49 : decode cX4_components 49 = .ok (.goto 4, 3) := dk_167 0 4 (dk_at dksX4_components_2 1 rfl rfl)
theorem dX4_components_52 : decode cX4_components 52 = .ok (.iconst 0, 1) := dk_3 (dk_at dksX4_components_2 4 rfl rfl)
theorem dX4_components_53 : decode cX4_components 53 = .ok (.iand, 1) := dk_126 (dk_at dksX4_components_2 5 rfl rfl)
theorem dX4_components_54 : decode cX4_components 54 = .ok (.istore_n 3, 1) := dk_62 (dk_at dksX4_components_2 6 rfl rfl)
theorem dX4_components_55 : decode cX4_components 55 = .ok (.iinc 4 1, 3) := dk_132 4 1 (dk_at dksX4_components_2 7 rfl rfl)
theorem dX4_components_58 : decode cX4_components 58 = .ok (.goto (-29), 3) := dk_167 255 227 (dk_at dksX4_components_2 10 rfl rfl)
theorem dX4_components_61 : decode cX4_components 61 = .ok (.iload_n 1, 1) := dk_27 (dk_at dksX4_components_2 13 rfl rfl)
theorem dX4_components_62 : decode cX4_components 62 = .ok (.iload_n 3, 1) := dk_29 (dk_at dksX4_components_2 14 rfl rfl)
theorem dX4_components_63 : decode cX4_components 63 = .ok (.ifCond .eq 7, 3) := dk_153 0 7 (dk_at dksX4_components_2 15 rfl rfl)
theorem dX4_components_66 : decode cX4_components 66 = .ok (.iconst 1, 1) := dk_4 (dk_at dksX4_components_2 18 rfl rfl)
theorem dX4_components_67 : decode cX4_components 67 = .ok (.goto 4, 3) := dk_167 0 4 (dk_at dksX4_components_2 19 rfl rfl)
theorem dX4_components_70 : decode cX4_components 70 = .ok (.iconst 0, 1) := dk_3 (dk_at dksX4_components_2 22 rfl rfl)
theorem dX4_components_71 : decode cX4_components 71 = .ok (.iadd, 1) := dk_96 (dk_at dksX4_components_2 23 rfl rfl)
theorem dX4_components_72 : decode cX4_components 72 = .ok (.istore_n 1, 1) := dk_60 (dk_at dksX4_components_3 0 rfl rfl)
theorem dX4_components_73 : decode cX4_components 73 = .ok (.iinc 2 1, 3) := dk_132 2 1 (dk_at dksX4_components_3 1 rfl rfl)
theorem dX4_components_76 : decode cX4_components 76 = .ok (.goto (-67), 3) := dk_167 255 189 (dk_at dksX4_components_3 4 rfl rfl)
theorem dX4_components_79 : decode cX4_components 79 = .ok (.iload_n 1, 1) := dk_27 (dk_at dksX4_components_3 7 rfl rfl)
theorem dX4_components_80 : decode cX4_components 80 = .ok (.ireturn, 1) := dk_172 (dk_at dksX4_components_3 8 rfl rfl)
theorem dX4_componentsByMerging_0 : decode cX4_componentsByMerging 0 = .ok (.aload_n 0, 1) := by decide +kernel
theorem dX4_componentsByMerging_1 : decode cX4_componentsByMerging 1 = .ok (.invokevirtual 160, 3) := by decide +kernel
theorem dX4_componentsByMerging_4 : decode cX4_componentsByMerging 4 = .ok (.ireturn, 1) := by decide +kernel
def dkwX4_nearest_3 : List UInt8 := [27, 28, 182, 0, 163, 162, 0, 8, 21, 4, 167, 0, 4, 29, 62, 132, 4, 1, 167, 255, 217, 29, 172]
abbrev dktX4_nearest_3 : List UInt8 := dkwX4_nearest_3 ++ []
def dkwX4_nearest_2 : List UInt8 := [4, 54, 4, 21, 4, 42, 180, 0, 9, 3, 46, 162, 0, 34, 42, 21, 4, 27, 28, 182, 0, 163, 42, 29]
abbrev dktX4_nearest_2 : List UInt8 := dkwX4_nearest_2 ++ dktX4_nearest_3
def dkwX4_nearest_1 : List UInt8 := [180, 0, 9, 3, 46, 154, 0, 7, 4, 167, 0, 4, 3, 5, 182, 0, 63, 153, 0, 5, 3, 172, 3, 62]
abbrev dktX4_nearest_1 : List UInt8 := dkwX4_nearest_1 ++ dktX4_nearest_2
def dkwX4_nearest_0 : List UInt8 := [42, 27, 28, 184, 0, 59, 154, 0, 7, 4, 167, 0, 4, 3, 4, 182, 0, 63, 154, 0, 25, 42, 42]
abbrev dktX4_nearest_0 : List UInt8 := dkwX4_nearest_0 ++ dktX4_nearest_1
theorem dksX4_nearest_0 : cX4_nearest.data.toList.drop 0 = dktX4_nearest_0 := by decide +kernel
theorem dksX4_nearest_1 : cX4_nearest.data.toList.drop 23 = dktX4_nearest_1 := dk_seg dksX4_nearest_0 23 rfl rfl
theorem dksX4_nearest_2 : cX4_nearest.data.toList.drop 47 = dktX4_nearest_2 := dk_seg dksX4_nearest_1 24 rfl rfl
theorem dksX4_nearest_3 : cX4_nearest.data.toList.drop 71 = dktX4_nearest_3 := dk_seg dksX4_nearest_2 24 rfl rfl
theorem dX4_nearest_0 : decode cX4_nearest 0 = .ok (.aload_n 0, 1) := dk_42 (dk_at dksX4_nearest_0 0 rfl rfl)
theorem dX4_nearest_1 : decode cX4_nearest 1 = .ok (.iload_n 1, 1) := dk_27 (dk_at dksX4_nearest_0 1 rfl rfl)
theorem dX4_nearest_2 : decode cX4_nearest 2 = .ok (.iload_n 2, 1) := dk_28 (dk_at dksX4_nearest_0 2 rfl rfl)
theorem dX4_nearest_3 : decode cX4_nearest 3 = .ok (.invokestatic 59, 3) := dk_184 0 59 (dk_at dksX4_nearest_0 3 rfl rfl)
theorem dX4_nearest_6 : decode cX4_nearest 6 = .ok (.ifCond .ne 7, 3) := dk_154 0 7 (dk_at dksX4_nearest_0 6 rfl rfl)
theorem dX4_nearest_9 : decode cX4_nearest 9 = .ok (.iconst 1, 1) := dk_4 (dk_at dksX4_nearest_0 9 rfl rfl)
theorem dX4_nearest_10 : decode cX4_nearest 10 = .ok (.goto 4, 3) := dk_167 0 4 (dk_at dksX4_nearest_0 10 rfl rfl)
theorem dX4_nearest_13 : decode cX4_nearest 13 = .ok (.iconst 0, 1) := dk_3 (dk_at dksX4_nearest_0 13 rfl rfl)
theorem dX4_nearest_14 : decode cX4_nearest 14 = .ok (.iconst 1, 1) := dk_4 (dk_at dksX4_nearest_0 14 rfl rfl)
theorem dX4_nearest_15 : decode cX4_nearest 15 = .ok (.invokevirtual 63, 3) := dk_182 0 63 (dk_at dksX4_nearest_0 15 rfl rfl)
theorem dX4_nearest_18 : decode cX4_nearest 18 = .ok (.ifCond .ne 25, 3) := dk_154 0 25 (dk_at dksX4_nearest_0 18 rfl rfl)
theorem dX4_nearest_21 : decode cX4_nearest 21 = .ok (.aload_n 0, 1) := dk_42 (dk_at dksX4_nearest_0 21 rfl rfl)
theorem dX4_nearest_22 : decode cX4_nearest 22 = .ok (.aload_n 0, 1) := dk_42 (dk_at dksX4_nearest_0 22 rfl rfl)
theorem dX4_nearest_23 : decode cX4_nearest 23 = .ok (.getfield 9, 3) := dk_180 0 9 (dk_at dksX4_nearest_1 0 rfl rfl)
theorem dX4_nearest_26 : decode cX4_nearest 26 = .ok (.iconst 0, 1) := dk_3 (dk_at dksX4_nearest_1 3 rfl rfl)
theorem dX4_nearest_27 : decode cX4_nearest 27 = .ok (.iaload, 1) := dk_46 (dk_at dksX4_nearest_1 4 rfl rfl)
theorem dX4_nearest_28 : decode cX4_nearest 28 = .ok (.ifCond .ne 7, 3) := dk_154 0 7 (dk_at dksX4_nearest_1 5 rfl rfl)
theorem dX4_nearest_31 : decode cX4_nearest 31 = .ok (.iconst 1, 1) := dk_4 (dk_at dksX4_nearest_1 8 rfl rfl)
theorem dX4_nearest_32 : decode cX4_nearest 32 = .ok (.goto 4, 3) := dk_167 0 4 (dk_at dksX4_nearest_1 9 rfl rfl)
theorem dX4_nearest_35 : decode cX4_nearest 35 = .ok (.iconst 0, 1) := dk_3 (dk_at dksX4_nearest_1 12 rfl rfl)
theorem dX4_nearest_36 : decode cX4_nearest 36 = .ok (.iconst 2, 1) := dk_5 (dk_at dksX4_nearest_1 13 rfl rfl)
theorem dX4_nearest_37 : decode cX4_nearest 37 = .ok (.invokevirtual 63, 3) := dk_182 0 63 (dk_at dksX4_nearest_1 14 rfl rfl)
theorem dX4_nearest_40 : decode cX4_nearest 40 = .ok (.ifCond .eq 5, 3) := dk_153 0 5 (dk_at dksX4_nearest_1 17 rfl rfl)
theorem dX4_nearest_43 : decode cX4_nearest 43 = .ok (.iconst 0, 1) := dk_3 (dk_at dksX4_nearest_1 20 rfl rfl)
theorem dX4_nearest_44 : decode cX4_nearest 44 = .ok (.ireturn, 1) := dk_172 (dk_at dksX4_nearest_1 21 rfl rfl)
theorem dX4_nearest_45 : decode cX4_nearest 45 = .ok (.iconst 0, 1) := dk_3 (dk_at dksX4_nearest_1 22 rfl rfl)
theorem dX4_nearest_46 : decode cX4_nearest 46 = .ok (.istore_n 3, 1) := dk_62 (dk_at dksX4_nearest_1 23 rfl rfl)
theorem dX4_nearest_47 : decode cX4_nearest 47 = .ok (.iconst 1, 1) := dk_4 (dk_at dksX4_nearest_2 0 rfl rfl)
theorem dX4_nearest_48 : decode cX4_nearest 48 = .ok (.istore 4, 2) := dk_54 4 (dk_at dksX4_nearest_2 1 rfl rfl)
theorem dX4_nearest_50 : decode cX4_nearest 50 = .ok (.iload 4, 2) := dk_21 4 (dk_at dksX4_nearest_2 3 rfl rfl)
theorem dX4_nearest_52 : decode cX4_nearest 52 = .ok (.aload_n 0, 1) := dk_42 (dk_at dksX4_nearest_2 5 rfl rfl)
theorem dX4_nearest_53 : decode cX4_nearest 53 = .ok (.getfield 9, 3) := dk_180 0 9 (dk_at dksX4_nearest_2 6 rfl rfl)
theorem dX4_nearest_56 : decode cX4_nearest 56 = .ok (.iconst 0, 1) := dk_3 (dk_at dksX4_nearest_2 9 rfl rfl)
theorem dX4_nearest_57 : decode cX4_nearest 57 = .ok (.iaload, 1) := dk_46 (dk_at dksX4_nearest_2 10 rfl rfl)
theorem dX4_nearest_58 : decode cX4_nearest 58 = .ok (.if_icmp .ge 34, 3) := dk_162 0 34 (dk_at dksX4_nearest_2 11 rfl rfl)
theorem dX4_nearest_61 : decode cX4_nearest 61 = .ok (.aload_n 0, 1) := dk_42 (dk_at dksX4_nearest_2 14 rfl rfl)
theorem dX4_nearest_62 : decode cX4_nearest 62 = .ok (.iload 4, 2) := dk_21 4 (dk_at dksX4_nearest_2 15 rfl rfl)
theorem dX4_nearest_64 : decode cX4_nearest 64 = .ok (.iload_n 1, 1) := dk_27 (dk_at dksX4_nearest_2 17 rfl rfl)
theorem dX4_nearest_65 : decode cX4_nearest 65 = .ok (.iload_n 2, 1) := dk_28 (dk_at dksX4_nearest_2 18 rfl rfl)
theorem dX4_nearest_66 : decode cX4_nearest 66 = .ok (.invokevirtual 163, 3) := dk_182 0 163 (dk_at dksX4_nearest_2 19 rfl rfl)
theorem dX4_nearest_69 : decode cX4_nearest 69 = .ok (.aload_n 0, 1) := dk_42 (dk_at dksX4_nearest_2 22 rfl rfl)
theorem dX4_nearest_70 : decode cX4_nearest 70 = .ok (.iload_n 3, 1) := dk_29 (dk_at dksX4_nearest_2 23 rfl rfl)
theorem dX4_nearest_71 : decode cX4_nearest 71 = .ok (.iload_n 1, 1) := dk_27 (dk_at dksX4_nearest_3 0 rfl rfl)
theorem dX4_nearest_72 : decode cX4_nearest 72 = .ok (.iload_n 2, 1) := dk_28 (dk_at dksX4_nearest_3 1 rfl rfl)
theorem dX4_nearest_73 : decode cX4_nearest 73 = .ok (.invokevirtual 163, 3) := dk_182 0 163 (dk_at dksX4_nearest_3 2 rfl rfl)
theorem dX4_nearest_76 : decode cX4_nearest 76 = .ok (.if_icmp .ge 8, 3) := dk_162 0 8 (dk_at dksX4_nearest_3 5 rfl rfl)
theorem dX4_nearest_79 : decode cX4_nearest 79 = .ok (.iload 4, 2) := dk_21 4 (dk_at dksX4_nearest_3 8 rfl rfl)
theorem dX4_nearest_81 : decode cX4_nearest 81 = .ok (.goto 4, 3) := dk_167 0 4 (dk_at dksX4_nearest_3 10 rfl rfl)
theorem dX4_nearest_84 : decode cX4_nearest 84 = .ok (.iload_n 3, 1) := dk_29 (dk_at dksX4_nearest_3 13 rfl rfl)
theorem dX4_nearest_85 : decode cX4_nearest 85 = .ok (.istore_n 3, 1) := dk_62 (dk_at dksX4_nearest_3 14 rfl rfl)
theorem dX4_nearest_86 : decode cX4_nearest 86 = .ok (.iinc 4 1, 3) := dk_132 4 1 (dk_at dksX4_nearest_3 15 rfl rfl)
theorem dX4_nearest_89 : decode cX4_nearest 89 = .ok (.goto (-39), 3) := dk_167 255 217 (dk_at dksX4_nearest_3 18 rfl rfl)
theorem dX4_nearest_92 : decode cX4_nearest 92 = .ok (.iload_n 3, 1) := dk_29 (dk_at dksX4_nearest_3 21 rfl rfl)
theorem dX4_nearest_93 : decode cX4_nearest 93 = .ok (.ireturn, 1) := dk_172 (dk_at dksX4_nearest_3 22 rfl rfl)
def dkwX4_away_0 : List UInt8 := [28, 42, 27, 3, 182, 0, 108, 100, 29, 42, 27, 4, 182, 0, 108, 100, 184, 0, 123, 172]
abbrev dktX4_away_0 : List UInt8 := dkwX4_away_0 ++ []
theorem dksX4_away_0 : cX4_away.data.toList.drop 0 = dktX4_away_0 := by decide +kernel
theorem dX4_away_0 : decode cX4_away 0 = .ok (.iload_n 2, 1) := dk_28 (dk_at dksX4_away_0 0 rfl rfl)
theorem dX4_away_1 : decode cX4_away 1 = .ok (.aload_n 0, 1) := dk_42 (dk_at dksX4_away_0 1 rfl rfl)
theorem dX4_away_2 : decode cX4_away 2 = .ok (.iload_n 1, 1) := dk_27 (dk_at dksX4_away_0 2 rfl rfl)
theorem dX4_away_3 : decode cX4_away 3 = .ok (.iconst 0, 1) := dk_3 (dk_at dksX4_away_0 3 rfl rfl)
theorem dX4_away_4 : decode cX4_away 4 = .ok (.invokevirtual 108, 3) := dk_182 0 108 (dk_at dksX4_away_0 4 rfl rfl)
theorem dX4_away_7 : decode cX4_away 7 = .ok (.isub, 1) := dk_100 (dk_at dksX4_away_0 7 rfl rfl)
theorem dX4_away_8 : decode cX4_away 8 = .ok (.iload_n 3, 1) := dk_29 (dk_at dksX4_away_0 8 rfl rfl)
theorem dX4_away_9 : decode cX4_away 9 = .ok (.aload_n 0, 1) := dk_42 (dk_at dksX4_away_0 9 rfl rfl)
theorem dX4_away_10 : decode cX4_away 10 = .ok (.iload_n 1, 1) := dk_27 (dk_at dksX4_away_0 10 rfl rfl)
theorem dX4_away_11 : decode cX4_away 11 = .ok (.iconst 1, 1) := dk_4 (dk_at dksX4_away_0 11 rfl rfl)
theorem dX4_away_12 : decode cX4_away 12 = .ok (.invokevirtual 108, 3) := dk_182 0 108 (dk_at dksX4_away_0 12 rfl rfl)
theorem dX4_away_15 : decode cX4_away 15 = .ok (.isub, 1) := dk_100 (dk_at dksX4_away_0 15 rfl rfl)
theorem dX4_away_16 : decode cX4_away 16 = .ok (.invokestatic 123, 3) := dk_184 0 123 (dk_at dksX4_away_0 16 rfl rfl)
theorem dX4_away_19 : decode cX4_away 19 = .ok (.ireturn, 1) := dk_172 (dk_at dksX4_away_0 19 rfl rfl)
def dkwX4_isTouring_0 : List UInt8 := [42, 3, 181, 0, 41, 42, 182, 0, 97, 172]
abbrev dktX4_isTouring_0 : List UInt8 := dkwX4_isTouring_0 ++ []
theorem dksX4_isTouring_0 : cX4_isTouring.data.toList.drop 0 = dktX4_isTouring_0 := by decide +kernel
theorem dX4_isTouring_0 : decode cX4_isTouring 0 = .ok (.aload_n 0, 1) := dk_42 (dk_at dksX4_isTouring_0 0 rfl rfl)
theorem dX4_isTouring_1 : decode cX4_isTouring 1 = .ok (.iconst 0, 1) := dk_3 (dk_at dksX4_isTouring_0 1 rfl rfl)
theorem dX4_isTouring_2 : decode cX4_isTouring 2 = .ok (.putfield 41, 3) := dk_181 0 41 (dk_at dksX4_isTouring_0 2 rfl rfl)
theorem dX4_isTouring_5 : decode cX4_isTouring 5 = .ok (.aload_n 0, 1) := dk_42 (dk_at dksX4_isTouring_0 5 rfl rfl)
theorem dX4_isTouring_6 : decode cX4_isTouring 6 = .ok (.invokevirtual 97, 3) := dk_182 0 97 (dk_at dksX4_isTouring_0 6 rfl rfl)
theorem dX4_isTouring_9 : decode cX4_isTouring 9 = .ok (.ireturn, 1) := dk_172 (dk_at dksX4_isTouring_0 9 rfl rfl)
def dkwX4_routeLength_0 : List UInt8 := [42, 42, 180, 0, 9, 4, 46, 182, 0, 166, 172]
abbrev dktX4_routeLength_0 : List UInt8 := dkwX4_routeLength_0 ++ []
theorem dksX4_routeLength_0 : cX4_routeLength.data.toList.drop 0 = dktX4_routeLength_0 := by decide +kernel
theorem dX4_routeLength_0 : decode cX4_routeLength 0 = .ok (.aload_n 0, 1) := dk_42 (dk_at dksX4_routeLength_0 0 rfl rfl)
theorem dX4_routeLength_1 : decode cX4_routeLength 1 = .ok (.aload_n 0, 1) := dk_42 (dk_at dksX4_routeLength_0 1 rfl rfl)
theorem dX4_routeLength_2 : decode cX4_routeLength 2 = .ok (.getfield 9, 3) := dk_180 0 9 (dk_at dksX4_routeLength_0 2 rfl rfl)
theorem dX4_routeLength_5 : decode cX4_routeLength 5 = .ok (.iconst 1, 1) := dk_4 (dk_at dksX4_routeLength_0 5 rfl rfl)
theorem dX4_routeLength_6 : decode cX4_routeLength 6 = .ok (.iaload, 1) := dk_46 (dk_at dksX4_routeLength_0 6 rfl rfl)
theorem dX4_routeLength_7 : decode cX4_routeLength 7 = .ok (.invokevirtual 166, 3) := dk_182 0 166 (dk_at dksX4_routeLength_0 7 rfl rfl)
theorem dX4_routeLength_10 : decode cX4_routeLength 10 = .ok (.ireturn, 1) := dk_172 (dk_at dksX4_routeLength_0 10 rfl rfl)
def dkwX4_ofTour_1 : List UInt8 := [27, 172]
abbrev dktX4_ofTour_1 : List UInt8 := dkwX4_ofTour_1 ++ []
def dkwX4_ofTour_0 : List UInt8 := [42, 42, 182, 0, 97, 154, 0, 7, 4, 167, 0, 4, 3, 4, 182, 0, 63, 153, 0, 7, 3, 167, 0, 4]
abbrev dktX4_ofTour_0 : List UInt8 := dkwX4_ofTour_0 ++ dktX4_ofTour_1
theorem dksX4_ofTour_0 : cX4_ofTour.data.toList.drop 0 = dktX4_ofTour_0 := by decide +kernel
theorem dksX4_ofTour_1 : cX4_ofTour.data.toList.drop 24 = dktX4_ofTour_1 := dk_seg dksX4_ofTour_0 24 rfl rfl
theorem dX4_ofTour_0 : decode cX4_ofTour 0 = .ok (.aload_n 0, 1) := dk_42 (dk_at dksX4_ofTour_0 0 rfl rfl)
theorem dX4_ofTour_1 : decode cX4_ofTour 1 = .ok (.aload_n 0, 1) := dk_42 (dk_at dksX4_ofTour_0 1 rfl rfl)
theorem dX4_ofTour_2 : decode cX4_ofTour 2 = .ok (.invokevirtual 97, 3) := dk_182 0 97 (dk_at dksX4_ofTour_0 2 rfl rfl)
theorem dX4_ofTour_5 : decode cX4_ofTour 5 = .ok (.ifCond .ne 7, 3) := dk_154 0 7 (dk_at dksX4_ofTour_0 5 rfl rfl)
theorem dX4_ofTour_8 : decode cX4_ofTour 8 = .ok (.iconst 1, 1) := dk_4 (dk_at dksX4_ofTour_0 8 rfl rfl)
theorem dX4_ofTour_9 : decode cX4_ofTour 9 = .ok (.goto 4, 3) := dk_167 0 4 (dk_at dksX4_ofTour_0 9 rfl rfl)
theorem dX4_ofTour_12 : decode cX4_ofTour 12 = .ok (.iconst 0, 1) := dk_3 (dk_at dksX4_ofTour_0 12 rfl rfl)
theorem dX4_ofTour_13 : decode cX4_ofTour 13 = .ok (.iconst 1, 1) := dk_4 (dk_at dksX4_ofTour_0 13 rfl rfl)
theorem dX4_ofTour_14 : decode cX4_ofTour 14 = .ok (.invokevirtual 63, 3) := dk_182 0 63 (dk_at dksX4_ofTour_0 14 rfl rfl)
theorem dX4_ofTour_17 : decode cX4_ofTour 17 = .ok (.ifCond .eq 7, 3) := dk_153 0 7 (dk_at dksX4_ofTour_0 17 rfl rfl)
theorem dX4_ofTour_20 : decode cX4_ofTour 20 = .ok (.iconst 0, 1) := dk_3 (dk_at dksX4_ofTour_0 20 rfl rfl)
theorem dX4_ofTour_21 : decode cX4_ofTour 21 = .ok (.goto 4, 3) := dk_167 0 4 (dk_at dksX4_ofTour_0 21 rfl rfl)
theorem dX4_ofTour_24 : decode cX4_ofTour 24 = .ok (.iload_n 1, 1) := dk_27 (dk_at dksX4_ofTour_1 0 rfl rfl)
theorem dX4_ofTour_25 : decode cX4_ofTour 25 = .ok (.ireturn, 1) := dk_172 (dk_at dksX4_ofTour_1 1 rfl rfl)
def dkwX4_routeWaypoint_0 : List UInt8 := [42, 27, 182, 0, 169, 153, 0, 7, 3, 167, 0, 13, 42, 180, 0, 9, 17, 0, 192, 27, 96, 46, 172]
abbrev dktX4_routeWaypoint_0 : List UInt8 := dkwX4_routeWaypoint_0 ++ []
theorem dksX4_routeWaypoint_0 : cX4_routeWaypoint.data.toList.drop 0 = dktX4_routeWaypoint_0 := by decide +kernel
theorem dX4_routeWaypoint_0 : decode cX4_routeWaypoint 0 = .ok (.aload_n 0, 1) := dk_42 (dk_at dksX4_routeWaypoint_0 0 rfl rfl)
theorem dX4_routeWaypoint_1 : decode cX4_routeWaypoint 1 = .ok (.iload_n 1, 1) := dk_27 (dk_at dksX4_routeWaypoint_0 1 rfl rfl)
theorem dX4_routeWaypoint_2 : decode cX4_routeWaypoint 2 = .ok (.invokevirtual 169, 3) := dk_182 0 169 (dk_at dksX4_routeWaypoint_0 2 rfl rfl)
theorem dX4_routeWaypoint_5 : decode cX4_routeWaypoint 5 = .ok (.ifCond .eq 7, 3) := dk_153 0 7 (dk_at dksX4_routeWaypoint_0 5 rfl rfl)
theorem dX4_routeWaypoint_8 : decode cX4_routeWaypoint 8 = .ok (.iconst 0, 1) := dk_3 (dk_at dksX4_routeWaypoint_0 8 rfl rfl)
theorem dX4_routeWaypoint_9 : decode cX4_routeWaypoint 9 = .ok (.goto 13, 3) := dk_167 0 13 (dk_at dksX4_routeWaypoint_0 9 rfl rfl)
theorem dX4_routeWaypoint_12 : decode cX4_routeWaypoint 12 = .ok (.aload_n 0, 1) := dk_42 (dk_at dksX4_routeWaypoint_0 12 rfl rfl)
theorem dX4_routeWaypoint_13 : decode cX4_routeWaypoint 13 = .ok (.getfield 9, 3) := dk_180 0 9 (dk_at dksX4_routeWaypoint_0 13 rfl rfl)
theorem dX4_routeWaypoint_16 : decode cX4_routeWaypoint 16 = .ok (.sipush 192, 3) := dk_17 0 192 (dk_at dksX4_routeWaypoint_0 16 rfl rfl)
theorem dX4_routeWaypoint_19 : decode cX4_routeWaypoint 19 = .ok (.iload_n 1, 1) := dk_27 (dk_at dksX4_routeWaypoint_0 19 rfl rfl)
theorem dX4_routeWaypoint_20 : decode cX4_routeWaypoint 20 = .ok (.iadd, 1) := dk_96 (dk_at dksX4_routeWaypoint_0 20 rfl rfl)
theorem dX4_routeWaypoint_21 : decode cX4_routeWaypoint 21 = .ok (.iaload, 1) := dk_46 (dk_at dksX4_routeWaypoint_0 21 rfl rfl)
theorem dX4_routeWaypoint_22 : decode cX4_routeWaypoint 22 = .ok (.ireturn, 1) := dk_172 (dk_at dksX4_routeWaypoint_0 22 rfl rfl)
def dkwX4_isNoIndex_2 : List UInt8 := [153, 0, 7, 4, 167, 0, 4, 3, 172]
abbrev dktX4_isNoIndex_2 : List UInt8 := dkwX4_isNoIndex_2 ++ []
def dkwX4_isNoIndex_1 : List UInt8 := [180, 0, 9, 4, 46, 4, 100, 184, 0, 51, 154, 0, 7, 4, 167, 0, 4, 3, 5, 182, 0, 63]
abbrev dktX4_isNoIndex_1 : List UInt8 := dkwX4_isNoIndex_1 ++ dktX4_isNoIndex_2
def dkwX4_isNoIndex_0 : List UInt8 := [42, 42, 182, 0, 97, 154, 0, 7, 4, 167, 0, 4, 3, 4, 182, 0, 63, 154, 0, 32, 42, 27, 3, 42]
abbrev dktX4_isNoIndex_0 : List UInt8 := dkwX4_isNoIndex_0 ++ dktX4_isNoIndex_1
theorem dksX4_isNoIndex_0 : cX4_isNoIndex.data.toList.drop 0 = dktX4_isNoIndex_0 := by decide +kernel
theorem dksX4_isNoIndex_1 : cX4_isNoIndex.data.toList.drop 24 = dktX4_isNoIndex_1 := dk_seg dksX4_isNoIndex_0 24 rfl rfl
theorem dksX4_isNoIndex_2 : cX4_isNoIndex.data.toList.drop 46 = dktX4_isNoIndex_2 := dk_seg dksX4_isNoIndex_1 22 rfl rfl
theorem dX4_isNoIndex_0 : decode cX4_isNoIndex 0 = .ok (.aload_n 0, 1) := dk_42 (dk_at dksX4_isNoIndex_0 0 rfl rfl)
theorem dX4_isNoIndex_1 : decode cX4_isNoIndex 1 = .ok (.aload_n 0, 1) := dk_42 (dk_at dksX4_isNoIndex_0 1 rfl rfl)
theorem dX4_isNoIndex_2 : decode cX4_isNoIndex 2 = .ok (.invokevirtual 97, 3) := dk_182 0 97 (dk_at dksX4_isNoIndex_0 2 rfl rfl)
theorem dX4_isNoIndex_5 : decode cX4_isNoIndex 5 = .ok (.ifCond .ne 7, 3) := dk_154 0 7 (dk_at dksX4_isNoIndex_0 5 rfl rfl)
theorem dX4_isNoIndex_8 : decode cX4_isNoIndex 8 = .ok (.iconst 1, 1) := dk_4 (dk_at dksX4_isNoIndex_0 8 rfl rfl)
theorem dX4_isNoIndex_9 : decode cX4_isNoIndex 9 = .ok (.goto 4, 3) := dk_167 0 4 (dk_at dksX4_isNoIndex_0 9 rfl rfl)
theorem dX4_isNoIndex_12 : decode cX4_isNoIndex 12 = .ok (.iconst 0, 1) := dk_3 (dk_at dksX4_isNoIndex_0 12 rfl rfl)
theorem dX4_isNoIndex_13 : decode cX4_isNoIndex 13 = .ok (.iconst 1, 1) := dk_4 (dk_at dksX4_isNoIndex_0 13 rfl rfl)
theorem dX4_isNoIndex_14 : decode cX4_isNoIndex 14 = .ok (.invokevirtual 63, 3) := dk_182 0 63 (dk_at dksX4_isNoIndex_0 14 rfl rfl)
theorem dX4_isNoIndex_17 : decode cX4_isNoIndex 17 = .ok (.ifCond .ne 32, 3) := dk_154 0 32 (dk_at dksX4_isNoIndex_0 17 rfl rfl)
theorem dX4_isNoIndex_20 : decode cX4_isNoIndex 20 = .ok (.aload_n 0, 1) := dk_42 (dk_at dksX4_isNoIndex_0 20 rfl rfl)
theorem dX4_isNoIndex_21 : decode cX4_isNoIndex 21 = .ok (.iload_n 1, 1) := dk_27 (dk_at dksX4_isNoIndex_0 21 rfl rfl)
theorem dX4_isNoIndex_22 : decode cX4_isNoIndex 22 = .ok (.iconst 0, 1) := dk_3 (dk_at dksX4_isNoIndex_0 22 rfl rfl)
theorem dX4_isNoIndex_23 : decode cX4_isNoIndex 23 = .ok (.aload_n 0, 1) := dk_42 (dk_at dksX4_isNoIndex_0 23 rfl rfl)
theorem dX4_isNoIndex_24 : decode cX4_isNoIndex 24 = .ok (.getfield 9, 3) := dk_180 0 9 (dk_at dksX4_isNoIndex_1 0 rfl rfl)
theorem dX4_isNoIndex_27 : decode cX4_isNoIndex 27 = .ok (.iconst 1, 1) := dk_4 (dk_at dksX4_isNoIndex_1 3 rfl rfl)
theorem dX4_isNoIndex_28 : decode cX4_isNoIndex 28 = .ok (.iaload, 1) := dk_46 (dk_at dksX4_isNoIndex_1 4 rfl rfl)
theorem dX4_isNoIndex_29 : decode cX4_isNoIndex 29 = .ok (.iconst 1, 1) := dk_4 (dk_at dksX4_isNoIndex_1 5 rfl rfl)
theorem dX4_isNoIndex_30 : decode cX4_isNoIndex 30 = .ok (.isub, 1) := dk_100 (dk_at dksX4_isNoIndex_1 6 rfl rfl)
theorem dX4_isNoIndex_31 : decode cX4_isNoIndex 31 = .ok (.invokestatic 51, 3) := dk_184 0 51 (dk_at dksX4_isNoIndex_1 7 rfl rfl)
theorem dX4_isNoIndex_34 : decode cX4_isNoIndex 34 = .ok (.ifCond .ne 7, 3) := dk_154 0 7 (dk_at dksX4_isNoIndex_1 10 rfl rfl)
theorem dX4_isNoIndex_37 : decode cX4_isNoIndex 37 = .ok (.iconst 1, 1) := dk_4 (dk_at dksX4_isNoIndex_1 13 rfl rfl)
theorem dX4_isNoIndex_38 : decode cX4_isNoIndex 38 = .ok (.goto 4, 3) := dk_167 0 4 (dk_at dksX4_isNoIndex_1 14 rfl rfl)
theorem dX4_isNoIndex_41 : decode cX4_isNoIndex 41 = .ok (.iconst 0, 1) := dk_3 (dk_at dksX4_isNoIndex_1 17 rfl rfl)
theorem dX4_isNoIndex_42 : decode cX4_isNoIndex 42 = .ok (.iconst 2, 1) := dk_5 (dk_at dksX4_isNoIndex_1 18 rfl rfl)
theorem dX4_isNoIndex_43 : decode cX4_isNoIndex 43 = .ok (.invokevirtual 63, 3) := dk_182 0 63 (dk_at dksX4_isNoIndex_1 19 rfl rfl)
theorem dX4_isNoIndex_46 : decode cX4_isNoIndex 46 = .ok (.ifCond .eq 7, 3) := dk_153 0 7 (dk_at dksX4_isNoIndex_2 0 rfl rfl)
theorem dX4_isNoIndex_49 : decode cX4_isNoIndex 49 = .ok (.iconst 1, 1) := dk_4 (dk_at dksX4_isNoIndex_2 3 rfl rfl)
theorem dX4_isNoIndex_50 : decode cX4_isNoIndex 50 = .ok (.goto 4, 3) := dk_167 0 4 (dk_at dksX4_isNoIndex_2 4 rfl rfl)
theorem dX4_isNoIndex_53 : decode cX4_isNoIndex 53 = .ok (.iconst 0, 1) := dk_3 (dk_at dksX4_isNoIndex_2 7 rfl rfl)
theorem dX4_isNoIndex_54 : decode cX4_isNoIndex 54 = .ok (.ireturn, 1) := dk_172 (dk_at dksX4_isNoIndex_2 8 rfl rfl)
def dkwX4_turn_1 : List UInt8 := [160, 0, 7, 4, 167, 0, 4, 3, 6, 182, 0, 63, 153, 0, 5, 3, 172, 42, 27, 182, 0, 172, 146, 172]
abbrev dktX4_turn_1 : List UInt8 := dkwX4_turn_1 ++ []
def dkwX4_turn_0 : List UInt8 := [42, 27, 182, 0, 169, 154, 0, 32, 42, 27, 153, 0, 15, 27, 42, 180, 0, 9, 4, 46, 4, 100]
abbrev dktX4_turn_0 : List UInt8 := dkwX4_turn_0 ++ dktX4_turn_1
theorem dksX4_turn_0 : cX4_turn.data.toList.drop 0 = dktX4_turn_0 := by decide +kernel
theorem dksX4_turn_1 : cX4_turn.data.toList.drop 22 = dktX4_turn_1 := dk_seg dksX4_turn_0 22 rfl rfl
theorem dX4_turn_0 : decode cX4_turn 0 = .ok (.aload_n 0, 1) := dk_42 (dk_at dksX4_turn_0 0 rfl rfl)
theorem dX4_turn_1 : decode cX4_turn 1 = .ok (.iload_n 1, 1) := dk_27 (dk_at dksX4_turn_0 1 rfl rfl)
theorem dX4_turn_2 : decode cX4_turn 2 = .ok (.invokevirtual 169, 3) := dk_182 0 169 (dk_at dksX4_turn_0 2 rfl rfl)
theorem dX4_turn_5 : decode cX4_turn 5 = .ok (.ifCond .ne 32, 3) := dk_154 0 32 (dk_at dksX4_turn_0 5 rfl rfl)
theorem dX4_turn_8 : decode cX4_turn 8 = .ok (.aload_n 0, 1) := dk_42 (dk_at dksX4_turn_0 8 rfl rfl)
theorem dX4_turn_9 : decode cX4_turn 9 = .ok (.iload_n 1, 1) := dk_27 (dk_at dksX4_turn_0 9 rfl rfl)
theorem dX4_turn_10 : decode cX4_turn 10 = .ok (.ifCond .eq 15, 3) := dk_153 0 15 (dk_at dksX4_turn_0 10 rfl rfl)
theorem dX4_turn_13 : decode cX4_turn 13 = .ok (.iload_n 1, 1) := dk_27 (dk_at dksX4_turn_0 13 rfl rfl)
theorem dX4_turn_14 : decode cX4_turn 14 = .ok (.aload_n 0, 1) := dk_42 (dk_at dksX4_turn_0 14 rfl rfl)
theorem dX4_turn_15 : decode cX4_turn 15 = .ok (.getfield 9, 3) := dk_180 0 9 (dk_at dksX4_turn_0 15 rfl rfl)
theorem dX4_turn_18 : decode cX4_turn 18 = .ok (.iconst 1, 1) := dk_4 (dk_at dksX4_turn_0 18 rfl rfl)
theorem dX4_turn_19 : decode cX4_turn 19 = .ok (.iaload, 1) := dk_46 (dk_at dksX4_turn_0 19 rfl rfl)
theorem dX4_turn_20 : decode cX4_turn 20 = .ok (.iconst 1, 1) := dk_4 (dk_at dksX4_turn_0 20 rfl rfl)
theorem dX4_turn_21 : decode cX4_turn 21 = .ok (.isub, 1) := dk_100 (dk_at dksX4_turn_0 21 rfl rfl)
theorem dX4_turn_22 : decode cX4_turn 22 = .ok (.if_icmp .ne 7, 3) := dk_160 0 7 (dk_at dksX4_turn_1 0 rfl rfl)
theorem dX4_turn_25 : decode cX4_turn 25 = .ok (.iconst 1, 1) := dk_4 (dk_at dksX4_turn_1 3 rfl rfl)
theorem dX4_turn_26 : decode cX4_turn 26 = .ok (.goto 4, 3) := dk_167 0 4 (dk_at dksX4_turn_1 4 rfl rfl)
theorem dX4_turn_29 : decode cX4_turn 29 = .ok (.iconst 0, 1) := dk_3 (dk_at dksX4_turn_1 7 rfl rfl)
theorem dX4_turn_30 : decode cX4_turn 30 = .ok (.iconst 3, 1) := dk_6 (dk_at dksX4_turn_1 8 rfl rfl)
theorem dX4_turn_31 : decode cX4_turn 31 = .ok (.invokevirtual 63, 3) := dk_182 0 63 (dk_at dksX4_turn_1 9 rfl rfl)
theorem dX4_turn_34 : decode cX4_turn 34 = .ok (.ifCond .eq 5, 3) := dk_153 0 5 (dk_at dksX4_turn_1 12 rfl rfl)
theorem dX4_turn_37 : decode cX4_turn 37 = .ok (.iconst 0, 1) := dk_3 (dk_at dksX4_turn_1 15 rfl rfl)
theorem dX4_turn_38 : decode cX4_turn 38 = .ok (.ireturn, 1) := dk_172 (dk_at dksX4_turn_1 16 rfl rfl)
theorem dX4_turn_39 : decode cX4_turn 39 = .ok (.aload_n 0, 1) := dk_42 (dk_at dksX4_turn_1 17 rfl rfl)
theorem dX4_turn_40 : decode cX4_turn 40 = .ok (.iload_n 1, 1) := dk_27 (dk_at dksX4_turn_1 18 rfl rfl)
theorem dX4_turn_41 : decode cX4_turn 41 = .ok (.invokevirtual 172, 3) := dk_182 0 172 (dk_at dksX4_turn_1 19 rfl rfl)
theorem dX4_turn_44 : decode cX4_turn 44 = .ok (.i2c, 1) := dk_146 (dk_at dksX4_turn_1 22 rfl rfl)
theorem dX4_turn_45 : decode cX4_turn 45 = .ok (.ireturn, 1) := dk_172 (dk_at dksX4_turn_1 23 rfl rfl)
def dkwX4_turnAt_6 : List UInt8 := [16, 114, 167, 0, 15, 21, 10, 155, 0, 8, 16, 115, 167, 0, 5, 16, 98, 172]
abbrev dktX4_turnAt_6 : List UInt8 := dkwX4_turnAt_6 ++ []
def dkwX4_turnAt_5 : List UInt8 := [21, 6, 21, 8, 104, 96, 54, 10, 21, 9, 158, 0, 8, 16, 108, 167, 0, 25, 21, 9, 156, 0, 8]
abbrev dktX4_turnAt_5 : List UInt8 := dkwX4_turnAt_5 ++ dktX4_turnAt_6
def dkwX4_turnAt_4 : List UInt8 := [182, 0, 108, 100, 54, 8, 21, 5, 21, 8, 104, 21, 6, 21, 7, 104, 100, 54, 9, 21, 5, 21, 7, 104]
abbrev dktX4_turnAt_4 : List UInt8 := dkwX4_turnAt_4 ++ dktX4_turnAt_5
def dkwX4_turnAt_3 : List UInt8 := [3, 182, 0, 108, 42, 29, 3, 182, 0, 108, 100, 54, 7, 42, 21, 4, 4, 182, 0, 108, 42, 29, 4]
abbrev dktX4_turnAt_3 : List UInt8 := dkwX4_turnAt_3 ++ dktX4_turnAt_4
def dkwX4_turnAt_2 : List UInt8 := [182, 0, 108, 100, 54, 5, 42, 29, 4, 182, 0, 108, 42, 28, 4, 182, 0, 108, 100, 54, 6, 42, 21, 4]
abbrev dktX4_turnAt_2 : List UInt8 := dkwX4_turnAt_2 ++ dktX4_turnAt_3
def dkwX4_turnAt_1 : List UInt8 := [42, 180, 0, 9, 17, 0, 192, 27, 96, 4, 96, 46, 54, 4, 42, 29, 3, 182, 0, 108, 42, 28, 3]
abbrev dktX4_turnAt_1 : List UInt8 := dkwX4_turnAt_1 ++ dktX4_turnAt_2
def dkwX4_turnAt_0 : List UInt8 := [42, 180, 0, 9, 17, 0, 192, 27, 96, 4, 100, 46, 61, 42, 180, 0, 9, 17, 0, 192, 27, 96, 46, 62]
abbrev dktX4_turnAt_0 : List UInt8 := dkwX4_turnAt_0 ++ dktX4_turnAt_1
theorem dksX4_turnAt_0 : cX4_turnAt.data.toList.drop 0 = dktX4_turnAt_0 := by decide +kernel
theorem dksX4_turnAt_1 : cX4_turnAt.data.toList.drop 24 = dktX4_turnAt_1 := dk_seg dksX4_turnAt_0 24 rfl rfl
theorem dksX4_turnAt_2 : cX4_turnAt.data.toList.drop 47 = dktX4_turnAt_2 := dk_seg dksX4_turnAt_1 23 rfl rfl
theorem dksX4_turnAt_3 : cX4_turnAt.data.toList.drop 71 = dktX4_turnAt_3 := dk_seg dksX4_turnAt_2 24 rfl rfl
theorem dksX4_turnAt_4 : cX4_turnAt.data.toList.drop 94 = dktX4_turnAt_4 := dk_seg dksX4_turnAt_3 23 rfl rfl
theorem dksX4_turnAt_5 : cX4_turnAt.data.toList.drop 118 = dktX4_turnAt_5 := dk_seg dksX4_turnAt_4 24 rfl rfl
theorem dksX4_turnAt_6 : cX4_turnAt.data.toList.drop 141 = dktX4_turnAt_6 := dk_seg dksX4_turnAt_5 23 rfl rfl
theorem dX4_turnAt_0 : decode cX4_turnAt 0 = .ok (.aload_n 0, 1) := dk_42 (dk_at dksX4_turnAt_0 0 rfl rfl)
theorem dX4_turnAt_1 : decode cX4_turnAt 1 = .ok (.getfield 9, 3) := dk_180 0 9 (dk_at dksX4_turnAt_0 1 rfl rfl)
theorem dX4_turnAt_4 : decode cX4_turnAt 4 = .ok (.sipush 192, 3) := dk_17 0 192 (dk_at dksX4_turnAt_0 4 rfl rfl)
theorem dX4_turnAt_7 : decode cX4_turnAt 7 = .ok (.iload_n 1, 1) := dk_27 (dk_at dksX4_turnAt_0 7 rfl rfl)
theorem dX4_turnAt_8 : decode cX4_turnAt 8 = .ok (.iadd, 1) := dk_96 (dk_at dksX4_turnAt_0 8 rfl rfl)
theorem dX4_turnAt_9 : decode cX4_turnAt 9 = .ok (.iconst 1, 1) := dk_4 (dk_at dksX4_turnAt_0 9 rfl rfl)
theorem dX4_turnAt_10 : decode cX4_turnAt 10 = .ok (.isub, 1) := dk_100 (dk_at dksX4_turnAt_0 10 rfl rfl)
theorem dX4_turnAt_11 : decode cX4_turnAt 11 = .ok (.iaload, 1) := dk_46 (dk_at dksX4_turnAt_0 11 rfl rfl)
theorem dX4_turnAt_12 : decode cX4_turnAt 12 = .ok (.istore_n 2, 1) := dk_61 (dk_at dksX4_turnAt_0 12 rfl rfl)
theorem dX4_turnAt_13 : decode cX4_turnAt 13 = .ok (.aload_n 0, 1) := dk_42 (dk_at dksX4_turnAt_0 13 rfl rfl)
theorem dX4_turnAt_14 : decode cX4_turnAt 14 = .ok (.getfield 9, 3) := dk_180 0 9 (dk_at dksX4_turnAt_0 14 rfl rfl)
theorem dX4_turnAt_17 : decode cX4_turnAt 17 = .ok (.sipush 192, 3) := dk_17 0 192 (dk_at dksX4_turnAt_0 17 rfl rfl)
theorem dX4_turnAt_20 : decode cX4_turnAt 20 = .ok (.iload_n 1, 1) := dk_27 (dk_at dksX4_turnAt_0 20 rfl rfl)
theorem dX4_turnAt_21 : decode cX4_turnAt 21 = .ok (.iadd, 1) := dk_96 (dk_at dksX4_turnAt_0 21 rfl rfl)
theorem dX4_turnAt_22 : decode cX4_turnAt 22 = .ok (.iaload, 1) := dk_46 (dk_at dksX4_turnAt_0 22 rfl rfl)
theorem dX4_turnAt_23 : decode cX4_turnAt 23 = .ok (.istore_n 3, 1) := dk_62 (dk_at dksX4_turnAt_0 23 rfl rfl)
theorem dX4_turnAt_24 : decode cX4_turnAt 24 = .ok (.aload_n 0, 1) := dk_42 (dk_at dksX4_turnAt_1 0 rfl rfl)
theorem dX4_turnAt_25 : decode cX4_turnAt 25 = .ok (.getfield 9, 3) := dk_180 0 9 (dk_at dksX4_turnAt_1 1 rfl rfl)
theorem dX4_turnAt_28 : decode cX4_turnAt 28 = .ok (.sipush 192, 3) := dk_17 0 192 (dk_at dksX4_turnAt_1 4 rfl rfl)
theorem dX4_turnAt_31 : decode cX4_turnAt 31 = .ok (.iload_n 1, 1) := dk_27 (dk_at dksX4_turnAt_1 7 rfl rfl)
theorem dX4_turnAt_32 : decode cX4_turnAt 32 = .ok (.iadd, 1) := dk_96 (dk_at dksX4_turnAt_1 8 rfl rfl)
theorem dX4_turnAt_33 : decode cX4_turnAt 33 = .ok (.iconst 1, 1) := dk_4 (dk_at dksX4_turnAt_1 9 rfl rfl)
theorem dX4_turnAt_34 : decode cX4_turnAt 34 = .ok (.iadd, 1) := dk_96 (dk_at dksX4_turnAt_1 10 rfl rfl)
theorem dX4_turnAt_35 : decode cX4_turnAt 35 = .ok (.iaload, 1) := dk_46 (dk_at dksX4_turnAt_1 11 rfl rfl)
theorem dX4_turnAt_36 : decode cX4_turnAt 36 = .ok (.istore 4, 2) := dk_54 4 (dk_at dksX4_turnAt_1 12 rfl rfl)
theorem dX4_turnAt_38 : decode cX4_turnAt 38 = .ok (.aload_n 0, 1) := dk_42 (dk_at dksX4_turnAt_1 14 rfl rfl)
theorem dX4_turnAt_39 : decode cX4_turnAt 39 = .ok (.iload_n 3, 1) := dk_29 (dk_at dksX4_turnAt_1 15 rfl rfl)
theorem dX4_turnAt_40 : decode cX4_turnAt 40 = .ok (.iconst 0, 1) := dk_3 (dk_at dksX4_turnAt_1 16 rfl rfl)
theorem dX4_turnAt_41 : decode cX4_turnAt 41 = .ok (.invokevirtual 108, 3) := dk_182 0 108 (dk_at dksX4_turnAt_1 17 rfl rfl)
theorem dX4_turnAt_44 : decode cX4_turnAt 44 = .ok (.aload_n 0, 1) := dk_42 (dk_at dksX4_turnAt_1 20 rfl rfl)
theorem dX4_turnAt_45 : decode cX4_turnAt 45 = .ok (.iload_n 2, 1) := dk_28 (dk_at dksX4_turnAt_1 21 rfl rfl)
theorem dX4_turnAt_46 : decode cX4_turnAt 46 = .ok (.iconst 0, 1) := dk_3 (dk_at dksX4_turnAt_1 22 rfl rfl)
theorem dX4_turnAt_47 : decode cX4_turnAt 47 = .ok (.invokevirtual 108, 3) := dk_182 0 108 (dk_at dksX4_turnAt_2 0 rfl rfl)
theorem dX4_turnAt_50 : decode cX4_turnAt 50 = .ok (.isub, 1) := dk_100 (dk_at dksX4_turnAt_2 3 rfl rfl)
theorem dX4_turnAt_51 : decode cX4_turnAt 51 = .ok (.istore 5, 2) := dk_54 5 (dk_at dksX4_turnAt_2 4 rfl rfl)
theorem dX4_turnAt_53 : decode cX4_turnAt 53 = .ok (.aload_n 0, 1) := dk_42 (dk_at dksX4_turnAt_2 6 rfl rfl)
theorem dX4_turnAt_54 : decode cX4_turnAt 54 = .ok (.iload_n 3, 1) := dk_29 (dk_at dksX4_turnAt_2 7 rfl rfl)
theorem dX4_turnAt_55 : decode cX4_turnAt 55 = .ok (.iconst 1, 1) := dk_4 (dk_at dksX4_turnAt_2 8 rfl rfl)
theorem dX4_turnAt_56 : decode cX4_turnAt 56 = .ok (.invokevirtual 108, 3) := dk_182 0 108 (dk_at dksX4_turnAt_2 9 rfl rfl)
theorem dX4_turnAt_59 : decode cX4_turnAt 59 = .ok (.aload_n 0, 1) := dk_42 (dk_at dksX4_turnAt_2 12 rfl rfl)
theorem dX4_turnAt_60 : decode cX4_turnAt 60 = .ok (.iload_n 2, 1) := dk_28 (dk_at dksX4_turnAt_2 13 rfl rfl)
theorem dX4_turnAt_61 : decode cX4_turnAt 61 = .ok (.iconst 1, 1) := dk_4 (dk_at dksX4_turnAt_2 14 rfl rfl)
theorem dX4_turnAt_62 : decode cX4_turnAt 62 = .ok (.invokevirtual 108, 3) := dk_182 0 108 (dk_at dksX4_turnAt_2 15 rfl rfl)
theorem dX4_turnAt_65 : decode cX4_turnAt 65 = .ok (.isub, 1) := dk_100 (dk_at dksX4_turnAt_2 18 rfl rfl)
theorem dX4_turnAt_66 : decode cX4_turnAt 66 = .ok (.istore 6, 2) := dk_54 6 (dk_at dksX4_turnAt_2 19 rfl rfl)
theorem dX4_turnAt_68 : decode cX4_turnAt 68 = .ok (.aload_n 0, 1) := dk_42 (dk_at dksX4_turnAt_2 21 rfl rfl)
theorem dX4_turnAt_69 : decode cX4_turnAt 69 = .ok (.iload 4, 2) := dk_21 4 (dk_at dksX4_turnAt_2 22 rfl rfl)
theorem dX4_turnAt_71 : decode cX4_turnAt 71 = .ok (.iconst 0, 1) := dk_3 (dk_at dksX4_turnAt_3 0 rfl rfl)
theorem dX4_turnAt_72 : decode cX4_turnAt 72 = .ok (.invokevirtual 108, 3) := dk_182 0 108 (dk_at dksX4_turnAt_3 1 rfl rfl)
theorem dX4_turnAt_75 : decode cX4_turnAt 75 = .ok (.aload_n 0, 1) := dk_42 (dk_at dksX4_turnAt_3 4 rfl rfl)
theorem dX4_turnAt_76 : decode cX4_turnAt 76 = .ok (.iload_n 3, 1) := dk_29 (dk_at dksX4_turnAt_3 5 rfl rfl)
theorem dX4_turnAt_77 : decode cX4_turnAt 77 = .ok (.iconst 0, 1) := dk_3 (dk_at dksX4_turnAt_3 6 rfl rfl)
theorem dX4_turnAt_78 : decode cX4_turnAt 78 = .ok (.invokevirtual 108, 3) := dk_182 0 108 (dk_at dksX4_turnAt_3 7 rfl rfl)
theorem dX4_turnAt_81 : decode cX4_turnAt 81 = .ok (.isub, 1) := dk_100 (dk_at dksX4_turnAt_3 10 rfl rfl)
theorem dX4_turnAt_82 : decode cX4_turnAt 82 = .ok (.istore 7, 2) := dk_54 7 (dk_at dksX4_turnAt_3 11 rfl rfl)
theorem dX4_turnAt_84 : decode cX4_turnAt 84 = .ok (.aload_n 0, 1) := dk_42 (dk_at dksX4_turnAt_3 13 rfl rfl)
theorem dX4_turnAt_85 : decode cX4_turnAt 85 = .ok (.iload 4, 2) := dk_21 4 (dk_at dksX4_turnAt_3 14 rfl rfl)
theorem dX4_turnAt_87 : decode cX4_turnAt 87 = .ok (.iconst 1, 1) := dk_4 (dk_at dksX4_turnAt_3 16 rfl rfl)
theorem dX4_turnAt_88 : decode cX4_turnAt 88 = .ok (.invokevirtual 108, 3) := dk_182 0 108 (dk_at dksX4_turnAt_3 17 rfl rfl)
theorem dX4_turnAt_91 : decode cX4_turnAt 91 = .ok (.aload_n 0, 1) := dk_42 (dk_at dksX4_turnAt_3 20 rfl rfl)
theorem dX4_turnAt_92 : decode cX4_turnAt 92 = .ok (.iload_n 3, 1) := dk_29 (dk_at dksX4_turnAt_3 21 rfl rfl)
theorem dX4_turnAt_93 : decode cX4_turnAt 93 = .ok (.iconst 1, 1) := dk_4 (dk_at dksX4_turnAt_3 22 rfl rfl)
theorem dX4_turnAt_94 : decode cX4_turnAt 94 = .ok (.invokevirtual 108, 3) := dk_182 0 108 (dk_at dksX4_turnAt_4 0 rfl rfl)
theorem dX4_turnAt_97 : decode cX4_turnAt 97 = .ok (.isub, 1) := dk_100 (dk_at dksX4_turnAt_4 3 rfl rfl)
theorem dX4_turnAt_98 : decode cX4_turnAt 98 = .ok (.istore 8, 2) := dk_54 8 (dk_at dksX4_turnAt_4 4 rfl rfl)
theorem dX4_turnAt_100 : decode cX4_turnAt 100 = .ok (.iload 5, 2) := dk_21 5 (dk_at dksX4_turnAt_4 6 rfl rfl)
theorem dX4_turnAt_102 : decode cX4_turnAt 102 = .ok (.iload 8, 2) := dk_21 8 (dk_at dksX4_turnAt_4 8 rfl rfl)
theorem dX4_turnAt_104 : decode cX4_turnAt 104 = .ok (.imul, 1) := dk_104 (dk_at dksX4_turnAt_4 10 rfl rfl)
theorem dX4_turnAt_105 : decode cX4_turnAt 105 = .ok (.iload 6, 2) := dk_21 6 (dk_at dksX4_turnAt_4 11 rfl rfl)
theorem dX4_turnAt_107 : decode cX4_turnAt 107 = .ok (.iload 7, 2) := dk_21 7 (dk_at dksX4_turnAt_4 13 rfl rfl)
theorem dX4_turnAt_109 : decode cX4_turnAt 109 = .ok (.imul, 1) := dk_104 (dk_at dksX4_turnAt_4 15 rfl rfl)
theorem dX4_turnAt_110 : decode cX4_turnAt 110 = .ok (.isub, 1) := dk_100 (dk_at dksX4_turnAt_4 16 rfl rfl)
theorem dX4_turnAt_111 : decode cX4_turnAt 111 = .ok (.istore 9, 2) := dk_54 9 (dk_at dksX4_turnAt_4 17 rfl rfl)
theorem dX4_turnAt_113 : decode cX4_turnAt 113 = .ok (.iload 5, 2) := dk_21 5 (dk_at dksX4_turnAt_4 19 rfl rfl)
theorem dX4_turnAt_115 : decode cX4_turnAt 115 = .ok (.iload 7, 2) := dk_21 7 (dk_at dksX4_turnAt_4 21 rfl rfl)
theorem dX4_turnAt_117 : decode cX4_turnAt 117 = .ok (.imul, 1) := dk_104 (dk_at dksX4_turnAt_4 23 rfl rfl)
theorem dX4_turnAt_118 : decode cX4_turnAt 118 = .ok (.iload 6, 2) := dk_21 6 (dk_at dksX4_turnAt_5 0 rfl rfl)
theorem dX4_turnAt_120 : decode cX4_turnAt 120 = .ok (.iload 8, 2) := dk_21 8 (dk_at dksX4_turnAt_5 2 rfl rfl)
theorem dX4_turnAt_122 : decode cX4_turnAt 122 = .ok (.imul, 1) := dk_104 (dk_at dksX4_turnAt_5 4 rfl rfl)
theorem dX4_turnAt_123 : decode cX4_turnAt 123 = .ok (.iadd, 1) := dk_96 (dk_at dksX4_turnAt_5 5 rfl rfl)
theorem dX4_turnAt_124 : decode cX4_turnAt 124 = .ok (.istore 10, 2) := dk_54 10 (dk_at dksX4_turnAt_5 6 rfl rfl)
theorem dX4_turnAt_126 : decode cX4_turnAt 126 = .ok (.iload 9, 2) := dk_21 9 (dk_at dksX4_turnAt_5 8 rfl rfl)
theorem dX4_turnAt_128 : decode cX4_turnAt 128 = .ok (.ifCond .le 8, 3) := dk_158 0 8 (dk_at dksX4_turnAt_5 10 rfl rfl)
theorem dX4_turnAt_131 : decode cX4_turnAt 131 = .ok (.bipush 108, 2) := dk_16 108 (dk_at dksX4_turnAt_5 13 rfl rfl)
theorem dX4_turnAt_133 : decode cX4_turnAt 133 = .ok (.goto 25, 3) := dk_167 0 25 (dk_at dksX4_turnAt_5 15 rfl rfl)
theorem dX4_turnAt_136 : decode cX4_turnAt 136 = .ok (.iload 9, 2) := dk_21 9 (dk_at dksX4_turnAt_5 18 rfl rfl)
theorem dX4_turnAt_138 : decode cX4_turnAt 138 = .ok (.ifCond .ge 8, 3) := dk_156 0 8 (dk_at dksX4_turnAt_5 20 rfl rfl)
theorem dX4_turnAt_141 : decode cX4_turnAt 141 = .ok (.bipush 114, 2) := dk_16 114 (dk_at dksX4_turnAt_6 0 rfl rfl)
theorem dX4_turnAt_143 : decode cX4_turnAt 143 = .ok (.goto 15, 3) := dk_167 0 15 (dk_at dksX4_turnAt_6 2 rfl rfl)
theorem dX4_turnAt_146 : decode cX4_turnAt 146 = .ok (.iload 10, 2) := dk_21 10 (dk_at dksX4_turnAt_6 5 rfl rfl)
theorem dX4_turnAt_148 : decode cX4_turnAt 148 = .ok (.ifCond .lt 8, 3) := dk_155 0 8 (dk_at dksX4_turnAt_6 7 rfl rfl)
theorem dX4_turnAt_151 : decode cX4_turnAt 151 = .ok (.bipush 115, 2) := dk_16 115 (dk_at dksX4_turnAt_6 10 rfl rfl)
theorem dX4_turnAt_153 : decode cX4_turnAt 153 = .ok (.goto 5, 3) := dk_167 0 5 (dk_at dksX4_turnAt_6 12 rfl rfl)
theorem dX4_turnAt_156 : decode cX4_turnAt 156 = .ok (.bipush 98, 2) := dk_16 98 (dk_at dksX4_turnAt_6 15 rfl rfl)
theorem dX4_turnAt_158 : decode cX4_turnAt 158 = .ok (.ireturn, 1) := dk_172 (dk_at dksX4_turnAt_6 17 rfl rfl)
def dkwX4_target_1 : List UInt8 := [42, 182, 0, 120, 172]
abbrev dktX4_target_1 : List UInt8 := dkwX4_target_1 ++ []
def dkwX4_target_0 : List UInt8 := [42, 42, 182, 0, 97, 154, 0, 7, 4, 167, 0, 4, 3, 4, 182, 0, 63, 153, 0, 7, 3, 167, 0, 7]
abbrev dktX4_target_0 : List UInt8 := dkwX4_target_0 ++ dktX4_target_1
theorem dksX4_target_0 : cX4_target.data.toList.drop 0 = dktX4_target_0 := by decide +kernel
theorem dksX4_target_1 : cX4_target.data.toList.drop 24 = dktX4_target_1 := dk_seg dksX4_target_0 24 rfl rfl
theorem dX4_target_0 : decode cX4_target 0 = .ok (.aload_n 0, 1) := dk_42 (dk_at dksX4_target_0 0 rfl rfl)
theorem dX4_target_1 : decode cX4_target 1 = .ok (.aload_n 0, 1) := dk_42 (dk_at dksX4_target_0 1 rfl rfl)
theorem dX4_target_2 : decode cX4_target 2 = .ok (.invokevirtual 97, 3) := dk_182 0 97 (dk_at dksX4_target_0 2 rfl rfl)
theorem dX4_target_5 : decode cX4_target 5 = .ok (.ifCond .ne 7, 3) := dk_154 0 7 (dk_at dksX4_target_0 5 rfl rfl)
theorem dX4_target_8 : decode cX4_target 8 = .ok (.iconst 1, 1) := dk_4 (dk_at dksX4_target_0 8 rfl rfl)
theorem dX4_target_9 : decode cX4_target 9 = .ok (.goto 4, 3) := dk_167 0 4 (dk_at dksX4_target_0 9 rfl rfl)
theorem dX4_target_12 : decode cX4_target 12 = .ok (.iconst 0, 1) := dk_3 (dk_at dksX4_target_0 12 rfl rfl)
theorem dX4_target_13 : decode cX4_target 13 = .ok (.iconst 1, 1) := dk_4 (dk_at dksX4_target_0 13 rfl rfl)
theorem dX4_target_14 : decode cX4_target 14 = .ok (.invokevirtual 63, 3) := dk_182 0 63 (dk_at dksX4_target_0 14 rfl rfl)
theorem dX4_target_17 : decode cX4_target 17 = .ok (.ifCond .eq 7, 3) := dk_153 0 7 (dk_at dksX4_target_0 17 rfl rfl)
theorem dX4_target_20 : decode cX4_target 20 = .ok (.iconst 0, 1) := dk_3 (dk_at dksX4_target_0 20 rfl rfl)
theorem dX4_target_21 : decode cX4_target 21 = .ok (.goto 7, 3) := dk_167 0 7 (dk_at dksX4_target_0 21 rfl rfl)
theorem dX4_target_24 : decode cX4_target 24 = .ok (.aload_n 0, 1) := dk_42 (dk_at dksX4_target_1 0 rfl rfl)
theorem dX4_target_25 : decode cX4_target 25 = .ok (.invokevirtual 120, 3) := dk_182 0 120 (dk_at dksX4_target_1 1 rfl rfl)
theorem dX4_target_28 : decode cX4_target 28 = .ok (.ireturn, 1) := dk_172 (dk_at dksX4_target_1 4 rfl rfl)
def dkwX4_hikerX_0 : List UInt8 := [42, 42, 180, 0, 9, 6, 46, 182, 0, 166, 172]
abbrev dktX4_hikerX_0 : List UInt8 := dkwX4_hikerX_0 ++ []
theorem dksX4_hikerX_0 : cX4_hikerX.data.toList.drop 0 = dktX4_hikerX_0 := by decide +kernel
theorem dX4_hikerX_0 : decode cX4_hikerX 0 = .ok (.aload_n 0, 1) := dk_42 (dk_at dksX4_hikerX_0 0 rfl rfl)
theorem dX4_hikerX_1 : decode cX4_hikerX 1 = .ok (.aload_n 0, 1) := dk_42 (dk_at dksX4_hikerX_0 1 rfl rfl)
theorem dX4_hikerX_2 : decode cX4_hikerX 2 = .ok (.getfield 9, 3) := dk_180 0 9 (dk_at dksX4_hikerX_0 2 rfl rfl)
theorem dX4_hikerX_5 : decode cX4_hikerX 5 = .ok (.iconst 3, 1) := dk_6 (dk_at dksX4_hikerX_0 5 rfl rfl)
theorem dX4_hikerX_6 : decode cX4_hikerX 6 = .ok (.iaload, 1) := dk_46 (dk_at dksX4_hikerX_0 6 rfl rfl)
theorem dX4_hikerX_7 : decode cX4_hikerX 7 = .ok (.invokevirtual 166, 3) := dk_182 0 166 (dk_at dksX4_hikerX_0 7 rfl rfl)
theorem dX4_hikerX_10 : decode cX4_hikerX 10 = .ok (.ireturn, 1) := dk_172 (dk_at dksX4_hikerX_0 10 rfl rfl)
def dkwX4_hikerY_0 : List UInt8 := [42, 42, 180, 0, 9, 7, 46, 182, 0, 166, 172]
abbrev dktX4_hikerY_0 : List UInt8 := dkwX4_hikerY_0 ++ []
theorem dksX4_hikerY_0 : cX4_hikerY.data.toList.drop 0 = dktX4_hikerY_0 := by decide +kernel
theorem dX4_hikerY_0 : decode cX4_hikerY 0 = .ok (.aload_n 0, 1) := dk_42 (dk_at dksX4_hikerY_0 0 rfl rfl)
theorem dX4_hikerY_1 : decode cX4_hikerY 1 = .ok (.aload_n 0, 1) := dk_42 (dk_at dksX4_hikerY_0 1 rfl rfl)
theorem dX4_hikerY_2 : decode cX4_hikerY 2 = .ok (.getfield 9, 3) := dk_180 0 9 (dk_at dksX4_hikerY_0 2 rfl rfl)
theorem dX4_hikerY_5 : decode cX4_hikerY 5 = .ok (.iconst 4, 1) := dk_7 (dk_at dksX4_hikerY_0 5 rfl rfl)
theorem dX4_hikerY_6 : decode cX4_hikerY 6 = .ok (.iaload, 1) := dk_46 (dk_at dksX4_hikerY_0 6 rfl rfl)
theorem dX4_hikerY_7 : decode cX4_hikerY 7 = .ok (.invokevirtual 166, 3) := dk_182 0 166 (dk_at dksX4_hikerY_0 7 rfl rfl)
theorem dX4_hikerY_10 : decode cX4_hikerY 10 = .ok (.ireturn, 1) := dk_172 (dk_at dksX4_hikerY_0 10 rfl rfl)
def dkwX4_drift_2 : List UInt8 := [132, 1, 1, 167, 255, 231, 27, 172]
abbrev dktX4_drift_2 : List UInt8 := dkwX4_drift_2 ++ []
def dkwX4_drift_1 : List UInt8 := [42, 42, 180, 0, 9, 6, 46, 42, 180, 0, 9, 7, 46, 27, 4, 96, 182, 0, 175, 153, 0, 9]
abbrev dktX4_drift_1 : List UInt8 := dkwX4_drift_1 ++ dktX4_drift_2
def dkwX4_drift_0 : List UInt8 := [42, 42, 182, 0, 97, 154, 0, 7, 4, 167, 0, 4, 3, 4, 182, 0, 63, 153, 0, 5, 3, 172, 3, 60]
abbrev dktX4_drift_0 : List UInt8 := dkwX4_drift_0 ++ dktX4_drift_1
theorem dksX4_drift_0 : cX4_drift.data.toList.drop 0 = dktX4_drift_0 := by decide +kernel
theorem dksX4_drift_1 : cX4_drift.data.toList.drop 24 = dktX4_drift_1 := dk_seg dksX4_drift_0 24 rfl rfl
theorem dksX4_drift_2 : cX4_drift.data.toList.drop 46 = dktX4_drift_2 := dk_seg dksX4_drift_1 22 rfl rfl
theorem dX4_drift_0 : decode cX4_drift 0 = .ok (.aload_n 0, 1) := dk_42 (dk_at dksX4_drift_0 0 rfl rfl)
theorem dX4_drift_1 : decode cX4_drift 1 = .ok (.aload_n 0, 1) := dk_42 (dk_at dksX4_drift_0 1 rfl rfl)
theorem dX4_drift_2 : decode cX4_drift 2 = .ok (.invokevirtual 97, 3) := dk_182 0 97 (dk_at dksX4_drift_0 2 rfl rfl)
theorem dX4_drift_5 : decode cX4_drift 5 = .ok (.ifCond .ne 7, 3) := dk_154 0 7 (dk_at dksX4_drift_0 5 rfl rfl)
theorem dX4_drift_8 : decode cX4_drift 8 = .ok (.iconst 1, 1) := dk_4 (dk_at dksX4_drift_0 8 rfl rfl)
theorem dX4_drift_9 : decode cX4_drift 9 = .ok (.goto 4, 3) := dk_167 0 4 (dk_at dksX4_drift_0 9 rfl rfl)
theorem dX4_drift_12 : decode cX4_drift 12 = .ok (.iconst 0, 1) := dk_3 (dk_at dksX4_drift_0 12 rfl rfl)
theorem dX4_drift_13 : decode cX4_drift 13 = .ok (.iconst 1, 1) := dk_4 (dk_at dksX4_drift_0 13 rfl rfl)
theorem dX4_drift_14 : decode cX4_drift 14 = .ok (.invokevirtual 63, 3) := dk_182 0 63 (dk_at dksX4_drift_0 14 rfl rfl)
theorem dX4_drift_17 : decode cX4_drift 17 = .ok (.ifCond .eq 5, 3) := dk_153 0 5 (dk_at dksX4_drift_0 17 rfl rfl)
theorem dX4_drift_20 : decode cX4_drift 20 = .ok (.iconst 0, 1) := dk_3 (dk_at dksX4_drift_0 20 rfl rfl)
theorem dX4_drift_21 : decode cX4_drift 21 = .ok (.ireturn, 1) := dk_172 (dk_at dksX4_drift_0 21 rfl rfl)
theorem dX4_drift_22 : decode cX4_drift 22 = .ok (.iconst 0, 1) := dk_3 (dk_at dksX4_drift_0 22 rfl rfl)
theorem dX4_drift_23 : decode cX4_drift 23 = .ok (.istore_n 1, 1) := dk_60 (dk_at dksX4_drift_0 23 rfl rfl)
theorem dX4_drift_24 : decode cX4_drift 24 = .ok (.aload_n 0, 1) := dk_42 (dk_at dksX4_drift_1 0 rfl rfl)
theorem dX4_drift_25 : decode cX4_drift 25 = .ok (.aload_n 0, 1) := dk_42 (dk_at dksX4_drift_1 1 rfl rfl)
theorem dX4_drift_26 : decode cX4_drift 26 = .ok (.getfield 9, 3) := dk_180 0 9 (dk_at dksX4_drift_1 2 rfl rfl)
theorem dX4_drift_29 : decode cX4_drift 29 = .ok (.iconst 3, 1) := dk_6 (dk_at dksX4_drift_1 5 rfl rfl)
theorem dX4_drift_30 : decode cX4_drift 30 = .ok (.iaload, 1) := dk_46 (dk_at dksX4_drift_1 6 rfl rfl)
theorem dX4_drift_31 : decode cX4_drift 31 = .ok (.aload_n 0, 1) := dk_42 (dk_at dksX4_drift_1 7 rfl rfl)
theorem dX4_drift_32 : decode cX4_drift 32 = .ok (.getfield 9, 3) := dk_180 0 9 (dk_at dksX4_drift_1 8 rfl rfl)
theorem dX4_drift_35 : decode cX4_drift 35 = .ok (.iconst 4, 1) := dk_7 (dk_at dksX4_drift_1 11 rfl rfl)
theorem dX4_drift_36 : decode cX4_drift 36 = .ok (.iaload, 1) := dk_46 (dk_at dksX4_drift_1 12 rfl rfl)
theorem dX4_drift_37 : decode cX4_drift 37 = .ok (.iload_n 1, 1) := dk_27 (dk_at dksX4_drift_1 13 rfl rfl)
theorem dX4_drift_38 : decode cX4_drift 38 = .ok (.iconst 1, 1) := dk_4 (dk_at dksX4_drift_1 14 rfl rfl)
theorem dX4_drift_39 : decode cX4_drift 39 = .ok (.iadd, 1) := dk_96 (dk_at dksX4_drift_1 15 rfl rfl)
theorem dX4_drift_40 : decode cX4_drift 40 = .ok (.invokevirtual 175, 3) := dk_182 0 175 (dk_at dksX4_drift_1 16 rfl rfl)
theorem dX4_drift_43 : decode cX4_drift 43 = .ok (.ifCond .eq 9, 3) := dk_153 0 9 (dk_at dksX4_drift_1 19 rfl rfl)
theorem dX4_drift_46 : decode cX4_drift 46 = .ok (.iinc 1 1, 3) := dk_132 1 1 (dk_at dksX4_drift_2 0 rfl rfl)
theorem dX4_drift_49 : decode cX4_drift 49 = .ok (.goto (-25), 3) := dk_167 255 231 (dk_at dksX4_drift_2 3 rfl rfl)
theorem dX4_drift_52 : decode cX4_drift 52 = .ok (.iload_n 1, 1) := dk_27 (dk_at dksX4_drift_2 6 rfl rfl)
theorem dX4_drift_53 : decode cX4_drift 53 = .ok (.ireturn, 1) := dk_172 (dk_at dksX4_drift_2 7 rfl rfl)
def dkwX4_isBeyond_0 : List UInt8 := [42, 27, 28, 29, 182, 0, 126, 155, 0, 7, 4, 167, 0, 4, 3, 172]
abbrev dktX4_isBeyond_0 : List UInt8 := dkwX4_isBeyond_0 ++ []
theorem dksX4_isBeyond_0 : cX4_isBeyond.data.toList.drop 0 = dktX4_isBeyond_0 := by decide +kernel
theorem dX4_isBeyond_0 : decode cX4_isBeyond 0 = .ok (.aload_n 0, 1) := dk_42 (dk_at dksX4_isBeyond_0 0 rfl rfl)
theorem dX4_isBeyond_1 : decode cX4_isBeyond 1 = .ok (.iload_n 1, 1) := dk_27 (dk_at dksX4_isBeyond_0 1 rfl rfl)
theorem dX4_isBeyond_2 : decode cX4_isBeyond 2 = .ok (.iload_n 2, 1) := dk_28 (dk_at dksX4_isBeyond_0 2 rfl rfl)
theorem dX4_isBeyond_3 : decode cX4_isBeyond 3 = .ok (.iload_n 3, 1) := dk_29 (dk_at dksX4_isBeyond_0 3 rfl rfl)
theorem dX4_isBeyond_4 : decode cX4_isBeyond 4 = .ok (.invokevirtual 126, 3) := dk_182 0 126 (dk_at dksX4_isBeyond_0 4 rfl rfl)
theorem dX4_isBeyond_7 : decode cX4_isBeyond 7 = .ok (.ifCond .lt 7, 3) := dk_155 0 7 (dk_at dksX4_isBeyond_0 7 rfl rfl)
theorem dX4_isBeyond_10 : decode cX4_isBeyond 10 = .ok (.iconst 1, 1) := dk_4 (dk_at dksX4_isBeyond_0 10 rfl rfl)
theorem dX4_isBeyond_11 : decode cX4_isBeyond 11 = .ok (.goto 4, 3) := dk_167 0 4 (dk_at dksX4_isBeyond_0 11 rfl rfl)
theorem dX4_isBeyond_14 : decode cX4_isBeyond 14 = .ok (.iconst 0, 1) := dk_3 (dk_at dksX4_isBeyond_0 14 rfl rfl)
theorem dX4_isBeyond_15 : decode cX4_isBeyond 15 = .ok (.ireturn, 1) := dk_172 (dk_at dksX4_isBeyond_0 15 rfl rfl)
def dkwX4_isAlarm_0 : List UInt8 := [42, 3, 181, 0, 41, 42, 180, 0, 9, 8, 46, 4, 160, 0, 7, 4, 167, 0, 4, 3, 172]
abbrev dktX4_isAlarm_0 : List UInt8 := dkwX4_isAlarm_0 ++ []
theorem dksX4_isAlarm_0 : cX4_isAlarm.data.toList.drop 0 = dktX4_isAlarm_0 := by decide +kernel
theorem dX4_isAlarm_0 : decode cX4_isAlarm 0 = .ok (.aload_n 0, 1) := dk_42 (dk_at dksX4_isAlarm_0 0 rfl rfl)
theorem dX4_isAlarm_1 : decode cX4_isAlarm 1 = .ok (.iconst 0, 1) := dk_3 (dk_at dksX4_isAlarm_0 1 rfl rfl)
theorem dX4_isAlarm_2 : decode cX4_isAlarm 2 = .ok (.putfield 41, 3) := dk_181 0 41 (dk_at dksX4_isAlarm_0 2 rfl rfl)
theorem dX4_isAlarm_5 : decode cX4_isAlarm 5 = .ok (.aload_n 0, 1) := dk_42 (dk_at dksX4_isAlarm_0 5 rfl rfl)
theorem dX4_isAlarm_6 : decode cX4_isAlarm 6 = .ok (.getfield 9, 3) := dk_180 0 9 (dk_at dksX4_isAlarm_0 6 rfl rfl)
theorem dX4_isAlarm_9 : decode cX4_isAlarm 9 = .ok (.iconst 5, 1) := dk_8 (dk_at dksX4_isAlarm_0 9 rfl rfl)
theorem dX4_isAlarm_10 : decode cX4_isAlarm 10 = .ok (.iaload, 1) := dk_46 (dk_at dksX4_isAlarm_0 10 rfl rfl)
theorem dX4_isAlarm_11 : decode cX4_isAlarm 11 = .ok (.iconst 1, 1) := dk_4 (dk_at dksX4_isAlarm_0 11 rfl rfl)
theorem dX4_isAlarm_12 : decode cX4_isAlarm 12 = .ok (.if_icmp .ne 7, 3) := dk_160 0 7 (dk_at dksX4_isAlarm_0 12 rfl rfl)
theorem dX4_isAlarm_15 : decode cX4_isAlarm 15 = .ok (.iconst 1, 1) := dk_4 (dk_at dksX4_isAlarm_0 15 rfl rfl)
theorem dX4_isAlarm_16 : decode cX4_isAlarm 16 = .ok (.goto 4, 3) := dk_167 0 4 (dk_at dksX4_isAlarm_0 16 rfl rfl)
theorem dX4_isAlarm_19 : decode cX4_isAlarm 19 = .ok (.iconst 0, 1) := dk_3 (dk_at dksX4_isAlarm_0 19 rfl rfl)
theorem dX4_isAlarm_20 : decode cX4_isAlarm 20 = .ok (.ireturn, 1) := dk_172 (dk_at dksX4_isAlarm_0 20 rfl rfl)
def dkwX4_forecast_3 : List UInt8 := [153, 0, 8, 16, 113, 167, 0, 5, 16, 97, 172]
abbrev dktX4_forecast_3 : List UInt8 := dkwX4_forecast_3 ++ []
def dkwX4_forecast_2 : List UInt8 := [182, 0, 138, 153, 0, 8, 16, 116, 167, 0, 26, 42, 27, 28, 42, 180, 0, 9, 16, 8, 46, 182, 0, 129]
abbrev dktX4_forecast_2 : List UInt8 := dkwX4_forecast_2 ++ dktX4_forecast_3
def dkwX4_forecast_1 : List UInt8 := [182, 0, 97, 154, 0, 7, 4, 167, 0, 4, 3, 5, 182, 0, 63, 153, 0, 5, 3, 172, 42, 27, 28]
abbrev dktX4_forecast_1 : List UInt8 := dkwX4_forecast_1 ++ dktX4_forecast_2
def dkwX4_forecast_0 : List UInt8 := [42, 27, 28, 184, 0, 59, 154, 0, 7, 4, 167, 0, 4, 3, 4, 182, 0, 63, 154, 0, 23, 42, 42]
abbrev dktX4_forecast_0 : List UInt8 := dkwX4_forecast_0 ++ dktX4_forecast_1
theorem dksX4_forecast_0 : cX4_forecast.data.toList.drop 0 = dktX4_forecast_0 := by decide +kernel
theorem dksX4_forecast_1 : cX4_forecast.data.toList.drop 23 = dktX4_forecast_1 := dk_seg dksX4_forecast_0 23 rfl rfl
theorem dksX4_forecast_2 : cX4_forecast.data.toList.drop 46 = dktX4_forecast_2 := dk_seg dksX4_forecast_1 23 rfl rfl
theorem dksX4_forecast_3 : cX4_forecast.data.toList.drop 70 = dktX4_forecast_3 := dk_seg dksX4_forecast_2 24 rfl rfl
theorem dX4_forecast_0 : decode cX4_forecast 0 = .ok (.aload_n 0, 1) := dk_42 (dk_at dksX4_forecast_0 0 rfl rfl)
theorem dX4_forecast_1 : decode cX4_forecast 1 = .ok (.iload_n 1, 1) := dk_27 (dk_at dksX4_forecast_0 1 rfl rfl)
theorem dX4_forecast_2 : decode cX4_forecast 2 = .ok (.iload_n 2, 1) := dk_28 (dk_at dksX4_forecast_0 2 rfl rfl)
theorem dX4_forecast_3 : decode cX4_forecast 3 = .ok (.invokestatic 59, 3) := dk_184 0 59 (dk_at dksX4_forecast_0 3 rfl rfl)
theorem dX4_forecast_6 : decode cX4_forecast 6 = .ok (.ifCond .ne 7, 3) := dk_154 0 7 (dk_at dksX4_forecast_0 6 rfl rfl)
theorem dX4_forecast_9 : decode cX4_forecast 9 = .ok (.iconst 1, 1) := dk_4 (dk_at dksX4_forecast_0 9 rfl rfl)
theorem dX4_forecast_10 : decode cX4_forecast 10 = .ok (.goto 4, 3) := dk_167 0 4 (dk_at dksX4_forecast_0 10 rfl rfl)
theorem dX4_forecast_13 : decode cX4_forecast 13 = .ok (.iconst 0, 1) := dk_3 (dk_at dksX4_forecast_0 13 rfl rfl)
theorem dX4_forecast_14 : decode cX4_forecast 14 = .ok (.iconst 1, 1) := dk_4 (dk_at dksX4_forecast_0 14 rfl rfl)
theorem dX4_forecast_15 : decode cX4_forecast 15 = .ok (.invokevirtual 63, 3) := dk_182 0 63 (dk_at dksX4_forecast_0 15 rfl rfl)
theorem dX4_forecast_18 : decode cX4_forecast 18 = .ok (.ifCond .ne 23, 3) := dk_154 0 23 (dk_at dksX4_forecast_0 18 rfl rfl)
theorem dX4_forecast_21 : decode cX4_forecast 21 = .ok (.aload_n 0, 1) := dk_42 (dk_at dksX4_forecast_0 21 rfl rfl)
theorem dX4_forecast_22 : decode cX4_forecast 22 = .ok (.aload_n 0, 1) := dk_42 (dk_at dksX4_forecast_0 22 rfl rfl)
theorem dX4_forecast_23 : decode cX4_forecast 23 = .ok (.invokevirtual 97, 3) := dk_182 0 97 (dk_at dksX4_forecast_1 0 rfl rfl)
theorem dX4_forecast_26 : decode cX4_forecast 26 = .ok (.ifCond .ne 7, 3) := dk_154 0 7 (dk_at dksX4_forecast_1 3 rfl rfl)
theorem dX4_forecast_29 : decode cX4_forecast 29 = .ok (.iconst 1, 1) := dk_4 (dk_at dksX4_forecast_1 6 rfl rfl)
theorem dX4_forecast_30 : decode cX4_forecast 30 = .ok (.goto 4, 3) := dk_167 0 4 (dk_at dksX4_forecast_1 7 rfl rfl)
theorem dX4_forecast_33 : decode cX4_forecast 33 = .ok (.iconst 0, 1) := dk_3 (dk_at dksX4_forecast_1 10 rfl rfl)
theorem dX4_forecast_34 : decode cX4_forecast 34 = .ok (.iconst 2, 1) := dk_5 (dk_at dksX4_forecast_1 11 rfl rfl)
theorem dX4_forecast_35 : decode cX4_forecast 35 = .ok (.invokevirtual 63, 3) := dk_182 0 63 (dk_at dksX4_forecast_1 12 rfl rfl)
theorem dX4_forecast_38 : decode cX4_forecast 38 = .ok (.ifCond .eq 5, 3) := dk_153 0 5 (dk_at dksX4_forecast_1 15 rfl rfl)
theorem dX4_forecast_41 : decode cX4_forecast 41 = .ok (.iconst 0, 1) := dk_3 (dk_at dksX4_forecast_1 18 rfl rfl)
theorem dX4_forecast_42 : decode cX4_forecast 42 = .ok (.ireturn, 1) := dk_172 (dk_at dksX4_forecast_1 19 rfl rfl)
theorem dX4_forecast_43 : decode cX4_forecast 43 = .ok (.aload_n 0, 1) := dk_42 (dk_at dksX4_forecast_1 20 rfl rfl)
theorem dX4_forecast_44 : decode cX4_forecast 44 = .ok (.iload_n 1, 1) := dk_27 (dk_at dksX4_forecast_1 21 rfl rfl)
theorem dX4_forecast_45 : decode cX4_forecast 45 = .ok (.iload_n 2, 1) := dk_28 (dk_at dksX4_forecast_1 22 rfl rfl)
theorem dX4_forecast_46 : decode cX4_forecast 46 = .ok (.invokevirtual 138, 3) := dk_182 0 138 (dk_at dksX4_forecast_2 0 rfl rfl)
theorem dX4_forecast_49 : decode cX4_forecast 49 = .ok (.ifCond .eq 8, 3) := dk_153 0 8 (dk_at dksX4_forecast_2 3 rfl rfl)
theorem dX4_forecast_52 : decode cX4_forecast 52 = .ok (.bipush 116, 2) := dk_16 116 (dk_at dksX4_forecast_2 6 rfl rfl)
theorem dX4_forecast_54 : decode cX4_forecast 54 = .ok (.goto 26, 3) := dk_167 0 26 (dk_at dksX4_forecast_2 8 rfl rfl)
theorem dX4_forecast_57 : decode cX4_forecast 57 = .ok (.aload_n 0, 1) := dk_42 (dk_at dksX4_forecast_2 11 rfl rfl)
theorem dX4_forecast_58 : decode cX4_forecast 58 = .ok (.iload_n 1, 1) := dk_27 (dk_at dksX4_forecast_2 12 rfl rfl)
theorem dX4_forecast_59 : decode cX4_forecast 59 = .ok (.iload_n 2, 1) := dk_28 (dk_at dksX4_forecast_2 13 rfl rfl)
theorem dX4_forecast_60 : decode cX4_forecast 60 = .ok (.aload_n 0, 1) := dk_42 (dk_at dksX4_forecast_2 14 rfl rfl)
theorem dX4_forecast_61 : decode cX4_forecast 61 = .ok (.getfield 9, 3) := dk_180 0 9 (dk_at dksX4_forecast_2 15 rfl rfl)
theorem dX4_forecast_64 : decode cX4_forecast 64 = .ok (.bipush 8, 2) := dk_16 8 (dk_at dksX4_forecast_2 18 rfl rfl)
theorem dX4_forecast_66 : decode cX4_forecast 66 = .ok (.iaload, 1) := dk_46 (dk_at dksX4_forecast_2 20 rfl rfl)
theorem dX4_forecast_67 : decode cX4_forecast 67 = .ok (.invokevirtual 129, 3) := dk_182 0 129 (dk_at dksX4_forecast_2 21 rfl rfl)
theorem dX4_forecast_70 : decode cX4_forecast 70 = .ok (.ifCond .eq 8, 3) := dk_153 0 8 (dk_at dksX4_forecast_3 0 rfl rfl)
theorem dX4_forecast_73 : decode cX4_forecast 73 = .ok (.bipush 113, 2) := dk_16 113 (dk_at dksX4_forecast_3 3 rfl rfl)
theorem dX4_forecast_75 : decode cX4_forecast 75 = .ok (.goto 5, 3) := dk_167 0 5 (dk_at dksX4_forecast_3 5 rfl rfl)
theorem dX4_forecast_78 : decode cX4_forecast 78 = .ok (.bipush 97, 2) := dk_16 97 (dk_at dksX4_forecast_3 8 rfl rfl)
theorem dX4_forecast_80 : decode cX4_forecast 80 = .ok (.ireturn, 1) := dk_172 (dk_at dksX4_forecast_3 10 rfl rfl)
def dkwX4_battery_0 : List UInt8 := [42, 3, 181, 0, 41, 42, 180, 0, 9, 16, 6, 46, 172]
abbrev dktX4_battery_0 : List UInt8 := dkwX4_battery_0 ++ []
theorem dksX4_battery_0 : cX4_battery.data.toList.drop 0 = dktX4_battery_0 := by decide +kernel
theorem dX4_battery_0 : decode cX4_battery 0 = .ok (.aload_n 0, 1) := dk_42 (dk_at dksX4_battery_0 0 rfl rfl)
theorem dX4_battery_1 : decode cX4_battery 1 = .ok (.iconst 0, 1) := dk_3 (dk_at dksX4_battery_0 1 rfl rfl)
theorem dX4_battery_2 : decode cX4_battery 2 = .ok (.putfield 41, 3) := dk_181 0 41 (dk_at dksX4_battery_0 2 rfl rfl)
theorem dX4_battery_5 : decode cX4_battery 5 = .ok (.aload_n 0, 1) := dk_42 (dk_at dksX4_battery_0 5 rfl rfl)
theorem dX4_battery_6 : decode cX4_battery 6 = .ok (.getfield 9, 3) := dk_180 0 9 (dk_at dksX4_battery_0 6 rfl rfl)
theorem dX4_battery_9 : decode cX4_battery 9 = .ok (.bipush 6, 2) := dk_16 6 (dk_at dksX4_battery_0 9 rfl rfl)
theorem dX4_battery_11 : decode cX4_battery 11 = .ok (.iaload, 1) := dk_46 (dk_at dksX4_battery_0 11 rfl rfl)
theorem dX4_battery_12 : decode cX4_battery 12 = .ok (.ireturn, 1) := dk_172 (dk_at dksX4_battery_0 12 rfl rfl)
def dkwX4_mode_0 : List UInt8 := [42, 3, 181, 0, 41, 42, 180, 0, 9, 16, 7, 46, 172]
abbrev dktX4_mode_0 : List UInt8 := dkwX4_mode_0 ++ []
theorem dksX4_mode_0 : cX4_mode.data.toList.drop 0 = dktX4_mode_0 := by decide +kernel
theorem dX4_mode_0 : decode cX4_mode 0 = .ok (.aload_n 0, 1) := dk_42 (dk_at dksX4_mode_0 0 rfl rfl)
theorem dX4_mode_1 : decode cX4_mode 1 = .ok (.iconst 0, 1) := dk_3 (dk_at dksX4_mode_0 1 rfl rfl)
theorem dX4_mode_2 : decode cX4_mode 2 = .ok (.putfield 41, 3) := dk_181 0 41 (dk_at dksX4_mode_0 2 rfl rfl)
theorem dX4_mode_5 : decode cX4_mode 5 = .ok (.aload_n 0, 1) := dk_42 (dk_at dksX4_mode_0 5 rfl rfl)
theorem dX4_mode_6 : decode cX4_mode 6 = .ok (.getfield 9, 3) := dk_180 0 9 (dk_at dksX4_mode_0 6 rfl rfl)
theorem dX4_mode_9 : decode cX4_mode 9 = .ok (.bipush 7, 2) := dk_16 7 (dk_at dksX4_mode_0 9 rfl rfl)
theorem dX4_mode_11 : decode cX4_mode 11 = .ok (.iaload, 1) := dk_46 (dk_at dksX4_mode_0 11 rfl rfl)
theorem dX4_mode_12 : decode cX4_mode 12 = .ok (.ireturn, 1) := dk_172 (dk_at dksX4_mode_0 12 rfl rfl)
def dkwX4_tolerance_0 : List UInt8 := [42, 3, 181, 0, 41, 42, 180, 0, 9, 16, 8, 46, 172]
abbrev dktX4_tolerance_0 : List UInt8 := dkwX4_tolerance_0 ++ []
theorem dksX4_tolerance_0 : cX4_tolerance.data.toList.drop 0 = dktX4_tolerance_0 := by decide +kernel
theorem dX4_tolerance_0 : decode cX4_tolerance 0 = .ok (.aload_n 0, 1) := dk_42 (dk_at dksX4_tolerance_0 0 rfl rfl)
theorem dX4_tolerance_1 : decode cX4_tolerance 1 = .ok (.iconst 0, 1) := dk_3 (dk_at dksX4_tolerance_0 1 rfl rfl)
theorem dX4_tolerance_2 : decode cX4_tolerance 2 = .ok (.putfield 41, 3) := dk_181 0 41 (dk_at dksX4_tolerance_0 2 rfl rfl)
theorem dX4_tolerance_5 : decode cX4_tolerance 5 = .ok (.aload_n 0, 1) := dk_42 (dk_at dksX4_tolerance_0 5 rfl rfl)
theorem dX4_tolerance_6 : decode cX4_tolerance 6 = .ok (.getfield 9, 3) := dk_180 0 9 (dk_at dksX4_tolerance_0 6 rfl rfl)
theorem dX4_tolerance_9 : decode cX4_tolerance 9 = .ok (.bipush 8, 2) := dk_16 8 (dk_at dksX4_tolerance_0 9 rfl rfl)
theorem dX4_tolerance_11 : decode cX4_tolerance 11 = .ok (.iaload, 1) := dk_46 (dk_at dksX4_tolerance_0 11 rfl rfl)
theorem dX4_tolerance_12 : decode cX4_tolerance 12 = .ok (.ireturn, 1) := dk_172 (dk_at dksX4_tolerance_0 12 rfl rfl)
def dkwX4_updatesLeft_1 : List UInt8 := [96, 4, 100, 27, 108, 172]
abbrev dktX4_updatesLeft_1 : List UInt8 := dkwX4_updatesLeft_1 ++ []
def dkwX4_updatesLeft_0 : List UInt8 := [42, 3, 181, 0, 41, 42, 180, 0, 9, 16, 7, 46, 184, 0, 135, 60, 42, 180, 0, 9, 16, 6, 46, 27]
abbrev dktX4_updatesLeft_0 : List UInt8 := dkwX4_updatesLeft_0 ++ dktX4_updatesLeft_1
theorem dksX4_updatesLeft_0 : cX4_updatesLeft.data.toList.drop 0 = dktX4_updatesLeft_0 := by decide +kernel
theorem dksX4_updatesLeft_1 : cX4_updatesLeft.data.toList.drop 24 = dktX4_updatesLeft_1 := dk_seg dksX4_updatesLeft_0 24 rfl rfl
theorem dX4_updatesLeft_0 : decode cX4_updatesLeft 0 = .ok (.aload_n 0, 1) := dk_42 (dk_at dksX4_updatesLeft_0 0 rfl rfl)
theorem dX4_updatesLeft_1 : decode cX4_updatesLeft 1 = .ok (.iconst 0, 1) := dk_3 (dk_at dksX4_updatesLeft_0 1 rfl rfl)
theorem dX4_updatesLeft_2 : decode cX4_updatesLeft 2 = .ok (.putfield 41, 3) := dk_181 0 41 (dk_at dksX4_updatesLeft_0 2 rfl rfl)
theorem dX4_updatesLeft_5 : decode cX4_updatesLeft 5 = .ok (.aload_n 0, 1) := dk_42 (dk_at dksX4_updatesLeft_0 5 rfl rfl)
theorem dX4_updatesLeft_6 : decode cX4_updatesLeft 6 = .ok (.getfield 9, 3) := dk_180 0 9 (dk_at dksX4_updatesLeft_0 6 rfl rfl)
theorem dX4_updatesLeft_9 : decode cX4_updatesLeft 9 = .ok (.bipush 7, 2) := dk_16 7 (dk_at dksX4_updatesLeft_0 9 rfl rfl)
theorem dX4_updatesLeft_11 : decode cX4_updatesLeft 11 = .ok (.iaload, 1) := dk_46 (dk_at dksX4_updatesLeft_0 11 rfl rfl)
theorem dX4_updatesLeft_12 : decode cX4_updatesLeft 12 = .ok (.invokestatic 135, 3) := dk_184 0 135 (dk_at dksX4_updatesLeft_0 12 rfl rfl)
theorem dX4_updatesLeft_15 : decode cX4_updatesLeft 15 = .ok (.istore_n 1, 1) := dk_60 (dk_at dksX4_updatesLeft_0 15 rfl rfl)
theorem dX4_updatesLeft_16 : decode cX4_updatesLeft 16 = .ok (.aload_n 0, 1) := dk_42 (dk_at dksX4_updatesLeft_0 16 rfl rfl)
theorem dX4_updatesLeft_17 : decode cX4_updatesLeft 17 = .ok (.getfield 9, 3) := dk_180 0 9 (dk_at dksX4_updatesLeft_0 17 rfl rfl)
theorem dX4_updatesLeft_20 : decode cX4_updatesLeft 20 = .ok (.bipush 6, 2) := dk_16 6 (dk_at dksX4_updatesLeft_0 20 rfl rfl)
theorem dX4_updatesLeft_22 : decode cX4_updatesLeft 22 = .ok (.iaload, 1) := dk_46 (dk_at dksX4_updatesLeft_0 22 rfl rfl)
theorem dX4_updatesLeft_23 : decode cX4_updatesLeft 23 = .ok (.iload_n 1, 1) := dk_27 (dk_at dksX4_updatesLeft_0 23 rfl rfl)
theorem dX4_updatesLeft_24 : decode cX4_updatesLeft 24 = .ok (.iadd, 1) := dk_96 (dk_at dksX4_updatesLeft_1 0 rfl rfl)
theorem dX4_updatesLeft_25 : decode cX4_updatesLeft 25 = .ok (.iconst 1, 1) := dk_4 (dk_at dksX4_updatesLeft_1 1 rfl rfl)
theorem dX4_updatesLeft_26 : decode cX4_updatesLeft 26 = .ok (.isub, 1) := dk_100 (dk_at dksX4_updatesLeft_1 2 rfl rfl)
theorem dX4_updatesLeft_27 : decode cX4_updatesLeft 27 = .ok (.iload_n 1, 1) := dk_27 (dk_at dksX4_updatesLeft_1 3 rfl rfl)
theorem dX4_updatesLeft_28 : decode cX4_updatesLeft 28 = .ok (.idiv, 1) := dk_108 (dk_at dksX4_updatesLeft_1 4 rfl rfl)
theorem dX4_updatesLeft_29 : decode cX4_updatesLeft 29 = .ok (.ireturn, 1) := dk_172 (dk_at dksX4_updatesLeft_1 5 rfl rfl)
theorem dX4_updatesLeftByCounting_0 : decode cX4_updatesLeftByCounting 0 = .ok (.aload_n 0, 1) := by decide +kernel
theorem dX4_updatesLeftByCounting_1 : decode cX4_updatesLeftByCounting 1 = .ok (.invokevirtual 178, 3) := by decide +kernel
theorem dX4_updatesLeftByCounting_4 : decode cX4_updatesLeftByCounting 4 = .ok (.ireturn, 1) := by decide +kernel
def dkwX4_updates_0 : List UInt8 := [42, 3, 181, 0, 41, 42, 180, 0, 9, 16, 9, 46, 172]
abbrev dktX4_updates_0 : List UInt8 := dkwX4_updates_0 ++ []
theorem dksX4_updates_0 : cX4_updates.data.toList.drop 0 = dktX4_updates_0 := by decide +kernel
theorem dX4_updates_0 : decode cX4_updates 0 = .ok (.aload_n 0, 1) := dk_42 (dk_at dksX4_updates_0 0 rfl rfl)
theorem dX4_updates_1 : decode cX4_updates 1 = .ok (.iconst 0, 1) := dk_3 (dk_at dksX4_updates_0 1 rfl rfl)
theorem dX4_updates_2 : decode cX4_updates 2 = .ok (.putfield 41, 3) := dk_181 0 41 (dk_at dksX4_updates_0 2 rfl rfl)
theorem dX4_updates_5 : decode cX4_updates 5 = .ok (.aload_n 0, 1) := dk_42 (dk_at dksX4_updates_0 5 rfl rfl)
theorem dX4_updates_6 : decode cX4_updates 6 = .ok (.getfield 9, 3) := dk_180 0 9 (dk_at dksX4_updates_0 6 rfl rfl)
theorem dX4_updates_9 : decode cX4_updates 9 = .ok (.bipush 9, 2) := dk_16 9 (dk_at dksX4_updates_0 9 rfl rfl)
theorem dX4_updates_11 : decode cX4_updates 11 = .ok (.iaload, 1) := dk_46 (dk_at dksX4_updates_0 11 rfl rfl)
theorem dX4_updates_12 : decode cX4_updates 12 = .ok (.ireturn, 1) := dk_172 (dk_at dksX4_updates_0 12 rfl rfl)
def dkwX4_alarms_0 : List UInt8 := [42, 3, 181, 0, 41, 42, 180, 0, 9, 16, 10, 46, 172]
abbrev dktX4_alarms_0 : List UInt8 := dkwX4_alarms_0 ++ []
theorem dksX4_alarms_0 : cX4_alarms.data.toList.drop 0 = dktX4_alarms_0 := by decide +kernel
theorem dX4_alarms_0 : decode cX4_alarms 0 = .ok (.aload_n 0, 1) := dk_42 (dk_at dksX4_alarms_0 0 rfl rfl)
theorem dX4_alarms_1 : decode cX4_alarms 1 = .ok (.iconst 0, 1) := dk_3 (dk_at dksX4_alarms_0 1 rfl rfl)
theorem dX4_alarms_2 : decode cX4_alarms 2 = .ok (.putfield 41, 3) := dk_181 0 41 (dk_at dksX4_alarms_0 2 rfl rfl)
theorem dX4_alarms_5 : decode cX4_alarms 5 = .ok (.aload_n 0, 1) := dk_42 (dk_at dksX4_alarms_0 5 rfl rfl)
theorem dX4_alarms_6 : decode cX4_alarms 6 = .ok (.getfield 9, 3) := dk_180 0 9 (dk_at dksX4_alarms_0 6 rfl rfl)
theorem dX4_alarms_9 : decode cX4_alarms 9 = .ok (.bipush 10, 2) := dk_16 10 (dk_at dksX4_alarms_0 9 rfl rfl)
theorem dX4_alarms_11 : decode cX4_alarms 11 = .ok (.iaload, 1) := dk_46 (dk_at dksX4_alarms_0 11 rfl rfl)
theorem dX4_alarms_12 : decode cX4_alarms 12 = .ok (.ireturn, 1) := dk_172 (dk_at dksX4_alarms_0 12 rfl rfl)
def dkwX4_reached_0 : List UInt8 := [42, 3, 181, 0, 41, 42, 180, 0, 9, 16, 11, 46, 172]
abbrev dktX4_reached_0 : List UInt8 := dkwX4_reached_0 ++ []
theorem dksX4_reached_0 : cX4_reached.data.toList.drop 0 = dktX4_reached_0 := by decide +kernel
theorem dX4_reached_0 : decode cX4_reached 0 = .ok (.aload_n 0, 1) := dk_42 (dk_at dksX4_reached_0 0 rfl rfl)
theorem dX4_reached_1 : decode cX4_reached 1 = .ok (.iconst 0, 1) := dk_3 (dk_at dksX4_reached_0 1 rfl rfl)
theorem dX4_reached_2 : decode cX4_reached 2 = .ok (.putfield 41, 3) := dk_181 0 41 (dk_at dksX4_reached_0 2 rfl rfl)
theorem dX4_reached_5 : decode cX4_reached 5 = .ok (.aload_n 0, 1) := dk_42 (dk_at dksX4_reached_0 5 rfl rfl)
theorem dX4_reached_6 : decode cX4_reached 6 = .ok (.getfield 9, 3) := dk_180 0 9 (dk_at dksX4_reached_0 6 rfl rfl)
theorem dX4_reached_9 : decode cX4_reached 9 = .ok (.bipush 11, 2) := dk_16 11 (dk_at dksX4_reached_0 9 rfl rfl)
theorem dX4_reached_11 : decode cX4_reached 11 = .ok (.iaload, 1) := dk_46 (dk_at dksX4_reached_0 11 rfl rfl)
theorem dX4_reached_12 : decode cX4_reached 12 = .ok (.ireturn, 1) := dk_172 (dk_at dksX4_reached_0 12 rfl rfl)
def dkwX4_alarmRate_1 : List UInt8 := [167, 0, 20, 42, 180, 0, 9, 16, 10, 46, 134, 42, 180, 0, 9, 16, 9, 46, 134, 110, 174]
abbrev dktX4_alarmRate_1 : List UInt8 := dkwX4_alarmRate_1 ++ []
def dkwX4_alarmRate_0 : List UInt8 := [42, 42, 180, 0, 9, 16, 9, 46, 154, 0, 7, 4, 167, 0, 4, 3, 4, 182, 0, 63, 153, 0, 7, 11]
abbrev dktX4_alarmRate_0 : List UInt8 := dkwX4_alarmRate_0 ++ dktX4_alarmRate_1
theorem dksX4_alarmRate_0 : cX4_alarmRate.data.toList.drop 0 = dktX4_alarmRate_0 := by decide +kernel
theorem dksX4_alarmRate_1 : cX4_alarmRate.data.toList.drop 24 = dktX4_alarmRate_1 := dk_seg dksX4_alarmRate_0 24 rfl rfl
theorem dX4_alarmRate_0 : decode cX4_alarmRate 0 = .ok (.aload_n 0, 1) := dk_42 (dk_at dksX4_alarmRate_0 0 rfl rfl)
theorem dX4_alarmRate_1 : decode cX4_alarmRate 1 = .ok (.aload_n 0, 1) := dk_42 (dk_at dksX4_alarmRate_0 1 rfl rfl)
theorem dX4_alarmRate_2 : decode cX4_alarmRate 2 = .ok (.getfield 9, 3) := dk_180 0 9 (dk_at dksX4_alarmRate_0 2 rfl rfl)
theorem dX4_alarmRate_5 : decode cX4_alarmRate 5 = .ok (.bipush 9, 2) := dk_16 9 (dk_at dksX4_alarmRate_0 5 rfl rfl)
theorem dX4_alarmRate_7 : decode cX4_alarmRate 7 = .ok (.iaload, 1) := dk_46 (dk_at dksX4_alarmRate_0 7 rfl rfl)
theorem dX4_alarmRate_8 : decode cX4_alarmRate 8 = .ok (.ifCond .ne 7, 3) := dk_154 0 7 (dk_at dksX4_alarmRate_0 8 rfl rfl)
theorem dX4_alarmRate_11 : decode cX4_alarmRate 11 = .ok (.iconst 1, 1) := dk_4 (dk_at dksX4_alarmRate_0 11 rfl rfl)
theorem dX4_alarmRate_12 : decode cX4_alarmRate 12 = .ok (.goto 4, 3) := dk_167 0 4 (dk_at dksX4_alarmRate_0 12 rfl rfl)
theorem dX4_alarmRate_15 : decode cX4_alarmRate 15 = .ok (.iconst 0, 1) := dk_3 (dk_at dksX4_alarmRate_0 15 rfl rfl)
theorem dX4_alarmRate_16 : decode cX4_alarmRate 16 = .ok (.iconst 1, 1) := dk_4 (dk_at dksX4_alarmRate_0 16 rfl rfl)
theorem dX4_alarmRate_17 : decode cX4_alarmRate 17 = .ok (.invokevirtual 63, 3) := dk_182 0 63 (dk_at dksX4_alarmRate_0 17 rfl rfl)
theorem dX4_alarmRate_20 : decode cX4_alarmRate 20 = .ok (.ifCond .eq 7, 3) := dk_153 0 7 (dk_at dksX4_alarmRate_0 20 rfl rfl)
theorem dX4_alarmRate_23 : decode cX4_alarmRate 23 = .ok (.fconst 0, 1) := dk_11 (dk_at dksX4_alarmRate_0 23 rfl rfl)
theorem dX4_alarmRate_24 : decode cX4_alarmRate 24 = .ok (.goto 20, 3) := dk_167 0 20 (dk_at dksX4_alarmRate_1 0 rfl rfl)
theorem dX4_alarmRate_27 : decode cX4_alarmRate 27 = .ok (.aload_n 0, 1) := dk_42 (dk_at dksX4_alarmRate_1 3 rfl rfl)
theorem dX4_alarmRate_28 : decode cX4_alarmRate 28 = .ok (.getfield 9, 3) := dk_180 0 9 (dk_at dksX4_alarmRate_1 4 rfl rfl)
theorem dX4_alarmRate_31 : decode cX4_alarmRate 31 = .ok (.bipush 10, 2) := dk_16 10 (dk_at dksX4_alarmRate_1 7 rfl rfl)
theorem dX4_alarmRate_33 : decode cX4_alarmRate 33 = .ok (.iaload, 1) := dk_46 (dk_at dksX4_alarmRate_1 9 rfl rfl)
theorem dX4_alarmRate_34 : decode cX4_alarmRate 34 = .ok (.i2f, 1) := dk_134 (dk_at dksX4_alarmRate_1 10 rfl rfl)
theorem dX4_alarmRate_35 : decode cX4_alarmRate 35 = .ok (.aload_n 0, 1) := dk_42 (dk_at dksX4_alarmRate_1 11 rfl rfl)
theorem dX4_alarmRate_36 : decode cX4_alarmRate 36 = .ok (.getfield 9, 3) := dk_180 0 9 (dk_at dksX4_alarmRate_1 12 rfl rfl)
theorem dX4_alarmRate_39 : decode cX4_alarmRate 39 = .ok (.bipush 9, 2) := dk_16 9 (dk_at dksX4_alarmRate_1 15 rfl rfl)
theorem dX4_alarmRate_41 : decode cX4_alarmRate 41 = .ok (.iaload, 1) := dk_46 (dk_at dksX4_alarmRate_1 17 rfl rfl)
theorem dX4_alarmRate_42 : decode cX4_alarmRate 42 = .ok (.i2f, 1) := dk_134 (dk_at dksX4_alarmRate_1 18 rfl rfl)
theorem dX4_alarmRate_43 : decode cX4_alarmRate 43 = .ok (.fdiv, 1) := dk_110 (dk_at dksX4_alarmRate_1 19 rfl rfl)
theorem dX4_alarmRate_44 : decode cX4_alarmRate 44 = .ok (.freturn, 1) := dk_174 (dk_at dksX4_alarmRate_1 20 rfl rfl)
def dkwX4_meanTrailLength_2 : List UInt8 := [4, 182, 0, 63, 153, 0, 7, 14, 167, 0, 11, 27, 135, 42, 182, 0, 86, 135, 111, 175]
abbrev dktX4_meanTrailLength_2 : List UInt8 := dkwX4_meanTrailLength_2 ++ []
def dkwX4_meanTrailLength_1 : List UInt8 := [96, 60, 132, 3, 1, 167, 255, 239, 132, 2, 1, 167, 255, 225, 42, 27, 154, 0, 7, 4, 167, 0, 4, 3]
abbrev dktX4_meanTrailLength_1 : List UInt8 := dkwX4_meanTrailLength_1 ++ dktX4_meanTrailLength_2
def dkwX4_meanTrailLength_0 : List UInt8 := [3, 60, 3, 61, 28, 16, 12, 162, 0, 31, 3, 62, 29, 28, 162, 0, 18, 27, 42, 28, 29, 182, 0, 55]
abbrev dktX4_meanTrailLength_0 : List UInt8 := dkwX4_meanTrailLength_0 ++ dktX4_meanTrailLength_1
theorem dksX4_meanTrailLength_0 : cX4_meanTrailLength.data.toList.drop 0 = dktX4_meanTrailLength_0 := by decide +kernel
theorem dksX4_meanTrailLength_1 : cX4_meanTrailLength.data.toList.drop 24 = dktX4_meanTrailLength_1 := dk_seg dksX4_meanTrailLength_0 24 rfl rfl
theorem dksX4_meanTrailLength_2 : cX4_meanTrailLength.data.toList.drop 48 = dktX4_meanTrailLength_2 := dk_seg dksX4_meanTrailLength_1 24 rfl rfl
theorem dX4_meanTrailLength_0 : decode cX4_meanTrailLength 0 = .ok (.iconst 0, 1) := dk_3 (dk_at dksX4_meanTrailLength_0 0 rfl rfl)
theorem dX4_meanTrailLength_1 : decode cX4_meanTrailLength 1 = .ok (.istore_n 1, 1) := dk_60 (dk_at dksX4_meanTrailLength_0 1 rfl rfl)
theorem dX4_meanTrailLength_2 : decode cX4_meanTrailLength 2 = .ok (.iconst 0, 1) := dk_3 (dk_at dksX4_meanTrailLength_0 2 rfl rfl)
theorem dX4_meanTrailLength_3 : decode cX4_meanTrailLength 3 = .ok (.istore_n 2, 1) := dk_61 (dk_at dksX4_meanTrailLength_0 3 rfl rfl)
theorem dX4_meanTrailLength_4 : decode cX4_meanTrailLength 4 = .ok (.iload_n 2, 1) := dk_28 (dk_at dksX4_meanTrailLength_0 4 rfl rfl)
theorem dX4_meanTrailLength_5 : decode cX4_meanTrailLength 5 = .ok (.bipush 12, 2) := dk_16 12 (dk_at dksX4_meanTrailLength_0 5 rfl rfl)
theorem dX4_meanTrailLength_7 : decode cX4_meanTrailLength 7 = .ok (.if_icmp .ge 31, 3) := dk_162 0 31 (dk_at dksX4_meanTrailLength_0 7 rfl rfl)
theorem dX4_meanTrailLength_10 : decode cX4_meanTrailLength 10 = .ok (.iconst 0, 1) := dk_3 (dk_at dksX4_meanTrailLength_0 10 rfl rfl)
theorem dX4_meanTrailLength_11 : decode cX4_meanTrailLength 11 = .ok (.istore_n 3, 1) := dk_62 (dk_at dksX4_meanTrailLength_0 11 rfl rfl)
theorem dX4_meanTrailLength_12 : decode cX4_meanTrailLength 12 = .ok (.iload_n 3, 1) := dk_29 (dk_at dksX4_meanTrailLength_0 12 rfl rfl)
theorem dX4_meanTrailLength_13 : decode cX4_meanTrailLength 13 = .ok (.iload_n 2, 1) := dk_28 (dk_at dksX4_meanTrailLength_0 13 rfl rfl)
theorem dX4_meanTrailLength_14 : decode cX4_meanTrailLength 14 = .ok (.if_icmp .ge 18, 3) := dk_162 0 18 (dk_at dksX4_meanTrailLength_0 14 rfl rfl)
theorem dX4_meanTrailLength_17 : decode cX4_meanTrailLength 17 = .ok (.iload_n 1, 1) := dk_27 (dk_at dksX4_meanTrailLength_0 17 rfl rfl)
theorem dX4_meanTrailLength_18 : decode cX4_meanTrailLength 18 = .ok (.aload_n 0, 1) := dk_42 (dk_at dksX4_meanTrailLength_0 18 rfl rfl)
theorem dX4_meanTrailLength_19 : decode cX4_meanTrailLength 19 = .ok (.iload_n 2, 1) := dk_28 (dk_at dksX4_meanTrailLength_0 19 rfl rfl)
theorem dX4_meanTrailLength_20 : decode cX4_meanTrailLength 20 = .ok (.iload_n 3, 1) := dk_29 (dk_at dksX4_meanTrailLength_0 20 rfl rfl)
theorem dX4_meanTrailLength_21 : decode cX4_meanTrailLength 21 = .ok (.invokevirtual 55, 3) := dk_182 0 55 (dk_at dksX4_meanTrailLength_0 21 rfl rfl)
theorem dX4_meanTrailLength_24 : decode cX4_meanTrailLength 24 = .ok (.iadd, 1) := dk_96 (dk_at dksX4_meanTrailLength_1 0 rfl rfl)
theorem dX4_meanTrailLength_25 : decode cX4_meanTrailLength 25 = .ok (.istore_n 1, 1) := dk_60 (dk_at dksX4_meanTrailLength_1 1 rfl rfl)
theorem dX4_meanTrailLength_26 : decode cX4_meanTrailLength 26 = .ok (.iinc 3 1, 3) := dk_132 3 1 (dk_at dksX4_meanTrailLength_1 2 rfl rfl)
theorem dX4_meanTrailLength_29 : decode cX4_meanTrailLength 29 = .ok (.goto (-17), 3) := dk_167 255 239 (dk_at dksX4_meanTrailLength_1 5 rfl rfl)
theorem dX4_meanTrailLength_32 : decode cX4_meanTrailLength 32 = .ok (.iinc 2 1, 3) := dk_132 2 1 (dk_at dksX4_meanTrailLength_1 8 rfl rfl)
theorem dX4_meanTrailLength_35 : decode cX4_meanTrailLength 35 = .ok (.goto (-31), 3) := dk_167 255 225 (dk_at dksX4_meanTrailLength_1 11 rfl rfl)
theorem dX4_meanTrailLength_38 : decode cX4_meanTrailLength 38 = .ok (.aload_n 0, 1) := dk_42 (dk_at dksX4_meanTrailLength_1 14 rfl rfl)
theorem dX4_meanTrailLength_39 : decode cX4_meanTrailLength 39 = .ok (.iload_n 1, 1) := dk_27 (dk_at dksX4_meanTrailLength_1 15 rfl rfl)
theorem dX4_meanTrailLength_40 : decode cX4_meanTrailLength 40 = .ok (.ifCond .ne 7, 3) := dk_154 0 7 (dk_at dksX4_meanTrailLength_1 16 rfl rfl)
theorem dX4_meanTrailLength_43 : decode cX4_meanTrailLength 43 = .ok (.iconst 1, 1) := dk_4 (dk_at dksX4_meanTrailLength_1 19 rfl rfl)
theorem dX4_meanTrailLength_44 : decode cX4_meanTrailLength 44 = .ok (.goto 4, 3) := dk_167 0 4 (dk_at dksX4_meanTrailLength_1 20 rfl rfl)
theorem dX4_meanTrailLength_47 : decode cX4_meanTrailLength 47 = .ok (.iconst 0, 1) := dk_3 (dk_at dksX4_meanTrailLength_1 23 rfl rfl)
theorem dX4_meanTrailLength_48 : decode cX4_meanTrailLength 48 = .ok (.iconst 1, 1) := dk_4 (dk_at dksX4_meanTrailLength_2 0 rfl rfl)
theorem dX4_meanTrailLength_49 : decode cX4_meanTrailLength 49 = .ok (.invokevirtual 63, 3) := dk_182 0 63 (dk_at dksX4_meanTrailLength_2 1 rfl rfl)
theorem dX4_meanTrailLength_52 : decode cX4_meanTrailLength 52 = .ok (.ifCond .eq 7, 3) := dk_153 0 7 (dk_at dksX4_meanTrailLength_2 4 rfl rfl)
theorem dX4_meanTrailLength_55 : decode cX4_meanTrailLength 55 = .ok (.dconst 0, 1) := dk_14 (dk_at dksX4_meanTrailLength_2 7 rfl rfl)
theorem dX4_meanTrailLength_56 : decode cX4_meanTrailLength 56 = .ok (.goto 11, 3) := dk_167 0 11 (dk_at dksX4_meanTrailLength_2 8 rfl rfl)
theorem dX4_meanTrailLength_59 : decode cX4_meanTrailLength 59 = .ok (.iload_n 1, 1) := dk_27 (dk_at dksX4_meanTrailLength_2 11 rfl rfl)
theorem dX4_meanTrailLength_60 : decode cX4_meanTrailLength 60 = .ok (.i2d, 1) := dk_135 (dk_at dksX4_meanTrailLength_2 12 rfl rfl)
theorem dX4_meanTrailLength_61 : decode cX4_meanTrailLength 61 = .ok (.aload_n 0, 1) := dk_42 (dk_at dksX4_meanTrailLength_2 13 rfl rfl)
theorem dX4_meanTrailLength_62 : decode cX4_meanTrailLength 62 = .ok (.invokevirtual 86, 3) := dk_182 0 86 (dk_at dksX4_meanTrailLength_2 14 rfl rfl)
theorem dX4_meanTrailLength_65 : decode cX4_meanTrailLength 65 = .ok (.i2d, 1) := dk_135 (dk_at dksX4_meanTrailLength_2 17 rfl rfl)
theorem dX4_meanTrailLength_66 : decode cX4_meanTrailLength 66 = .ok (.ddiv, 1) := dk_111 (dk_at dksX4_meanTrailLength_2 18 rfl rfl)
theorem dX4_meanTrailLength_67 : decode cX4_meanTrailLength 67 = .ok (.dreturn, 1) := dk_175 (dk_at dksX4_meanTrailLength_2 19 rfl rfl)
def dkwX4_isConsistent_1 : List UInt8 := [167, 0, 4, 3, 172]
abbrev dktX4_isConsistent_1 : List UInt8 := dkwX4_isConsistent_1 ++ []
def dkwX4_isConsistent_0 : List UInt8 := [42, 3, 181, 0, 41, 42, 180, 0, 9, 8, 46, 153, 0, 10, 42, 182, 0, 97, 153, 0, 7, 4]
abbrev dktX4_isConsistent_0 : List UInt8 := dkwX4_isConsistent_0 ++ dktX4_isConsistent_1
theorem dksX4_isConsistent_0 : cX4_isConsistent.data.toList.drop 0 = dktX4_isConsistent_0 := by decide +kernel
theorem dksX4_isConsistent_1 : cX4_isConsistent.data.toList.drop 22 = dktX4_isConsistent_1 := dk_seg dksX4_isConsistent_0 22 rfl rfl
theorem dX4_isConsistent_0 : decode cX4_isConsistent 0 = .ok (.aload_n 0, 1) := dk_42 (dk_at dksX4_isConsistent_0 0 rfl rfl)
theorem dX4_isConsistent_1 : decode cX4_isConsistent 1 = .ok (.iconst 0, 1) := dk_3 (dk_at dksX4_isConsistent_0 1 rfl rfl)
theorem dX4_isConsistent_2 : decode cX4_isConsistent 2 = .ok (.putfield 41, 3) := dk_181 0 41 (dk_at dksX4_isConsistent_0 2 rfl rfl)
theorem dX4_isConsistent_5 : decode cX4_isConsistent 5 = .ok (.aload_n 0, 1) := dk_42 (dk_at dksX4_isConsistent_0 5 rfl rfl)
theorem dX4_isConsistent_6 : decode cX4_isConsistent 6 = .ok (.getfield 9, 3) := dk_180 0 9 (dk_at dksX4_isConsistent_0 6 rfl rfl)
theorem dX4_isConsistent_9 : decode cX4_isConsistent 9 = .ok (.iconst 5, 1) := dk_8 (dk_at dksX4_isConsistent_0 9 rfl rfl)
theorem dX4_isConsistent_10 : decode cX4_isConsistent 10 = .ok (.iaload, 1) := dk_46 (dk_at dksX4_isConsistent_0 10 rfl rfl)
theorem dX4_isConsistent_11 : decode cX4_isConsistent 11 = .ok (.ifCond .eq 10, 3) := dk_153 0 10 (dk_at dksX4_isConsistent_0 11 rfl rfl)
theorem dX4_isConsistent_14 : decode cX4_isConsistent 14 = .ok (.aload_n 0, 1) := dk_42 (dk_at dksX4_isConsistent_0 14 rfl rfl)
theorem dX4_isConsistent_15 : decode cX4_isConsistent 15 = .ok (.invokevirtual 97, 3) := dk_182 0 97 (dk_at dksX4_isConsistent_0 15 rfl rfl)
theorem dX4_isConsistent_18 : decode cX4_isConsistent 18 = .ok (.ifCond .eq 7, 3) := dk_153 0 7 (dk_at dksX4_isConsistent_0 18 rfl rfl)
theorem dX4_isConsistent_21 : decode cX4_isConsistent 21 = .ok (.iconst 1, 1) := dk_4 (dk_at dksX4_isConsistent_0 21 rfl rfl)
theorem dX4_isConsistent_22 : decode cX4_isConsistent 22 = .ok (.goto 4, 3) := dk_167 0 4 (dk_at dksX4_isConsistent_1 0 rfl rfl)
theorem dX4_isConsistent_25 : decode cX4_isConsistent 25 = .ok (.iconst 0, 1) := dk_3 (dk_at dksX4_isConsistent_1 3 rfl rfl)
theorem dX4_isConsistent_26 : decode cX4_isConsistent 26 = .ok (.ireturn, 1) := dk_172 (dk_at dksX4_isConsistent_1 4 rfl rfl)
def dkwX4_writeRoute_4 : List UInt8 := [167, 255, 178, 42, 180, 0, 181, 172]
abbrev dktX4_writeRoute_4 : List UInt8 := dkwX4_writeRoute_4 ++ []
def dkwX4_writeRoute_3 : List UInt8 := [180, 0, 9, 4, 46, 4, 100, 162, 0, 12, 42, 42, 27, 182, 0, 172, 182, 0, 187, 132, 1, 1]
abbrev dktX4_writeRoute_3 : List UInt8 := dkwX4_writeRoute_3 ++ dktX4_writeRoute_4
def dkwX4_writeRoute_2 : List UInt8 := [182, 0, 187, 42, 42, 180, 0, 9, 17, 0, 192, 27, 96, 46, 182, 0, 184, 27, 158, 0, 24, 27, 42]
abbrev dktX4_writeRoute_2 : List UInt8 := dkwX4_writeRoute_2 ++ dktX4_writeRoute_3
def dkwX4_writeRoute_1 : List UInt8 := [158, 0, 9, 42, 16, 32, 182, 0, 187, 27, 42, 180, 0, 9, 5, 46, 160, 0, 9, 42, 16, 42]
abbrev dktX4_writeRoute_1 : List UInt8 := dkwX4_writeRoute_1 ++ dktX4_writeRoute_2
def dkwX4_writeRoute_0 : List UInt8 := [42, 3, 181, 0, 41, 42, 3, 181, 0, 181, 3, 60, 27, 42, 180, 0, 9, 4, 46, 162, 0, 74, 27]
abbrev dktX4_writeRoute_0 : List UInt8 := dkwX4_writeRoute_0 ++ dktX4_writeRoute_1
theorem dksX4_writeRoute_0 : cX4_writeRoute.data.toList.drop 0 = dktX4_writeRoute_0 := by decide +kernel
theorem dksX4_writeRoute_1 : cX4_writeRoute.data.toList.drop 23 = dktX4_writeRoute_1 := dk_seg dksX4_writeRoute_0 23 rfl rfl
theorem dksX4_writeRoute_2 : cX4_writeRoute.data.toList.drop 45 = dktX4_writeRoute_2 := dk_seg dksX4_writeRoute_1 22 rfl rfl
theorem dksX4_writeRoute_3 : cX4_writeRoute.data.toList.drop 68 = dktX4_writeRoute_3 := dk_seg dksX4_writeRoute_2 23 rfl rfl
theorem dksX4_writeRoute_4 : cX4_writeRoute.data.toList.drop 90 = dktX4_writeRoute_4 := dk_seg dksX4_writeRoute_3 22 rfl rfl
theorem dX4_writeRoute_0 : decode cX4_writeRoute 0 = .ok (.aload_n 0, 1) := dk_42 (dk_at dksX4_writeRoute_0 0 rfl rfl)
theorem dX4_writeRoute_1 : decode cX4_writeRoute 1 = .ok (.iconst 0, 1) := dk_3 (dk_at dksX4_writeRoute_0 1 rfl rfl)
theorem dX4_writeRoute_2 : decode cX4_writeRoute 2 = .ok (.putfield 41, 3) := dk_181 0 41 (dk_at dksX4_writeRoute_0 2 rfl rfl)
theorem dX4_writeRoute_5 : decode cX4_writeRoute 5 = .ok (.aload_n 0, 1) := dk_42 (dk_at dksX4_writeRoute_0 5 rfl rfl)
theorem dX4_writeRoute_6 : decode cX4_writeRoute 6 = .ok (.iconst 0, 1) := dk_3 (dk_at dksX4_writeRoute_0 6 rfl rfl)
theorem dX4_writeRoute_7 : decode cX4_writeRoute 7 = .ok (.putfield 181, 3) := dk_181 0 181 (dk_at dksX4_writeRoute_0 7 rfl rfl)
theorem dX4_writeRoute_10 : decode cX4_writeRoute 10 = .ok (.iconst 0, 1) := dk_3 (dk_at dksX4_writeRoute_0 10 rfl rfl)
theorem dX4_writeRoute_11 : decode cX4_writeRoute 11 = .ok (.istore_n 1, 1) := dk_60 (dk_at dksX4_writeRoute_0 11 rfl rfl)
theorem dX4_writeRoute_12 : decode cX4_writeRoute 12 = .ok (.iload_n 1, 1) := dk_27 (dk_at dksX4_writeRoute_0 12 rfl rfl)
theorem dX4_writeRoute_13 : decode cX4_writeRoute 13 = .ok (.aload_n 0, 1) := dk_42 (dk_at dksX4_writeRoute_0 13 rfl rfl)
theorem dX4_writeRoute_14 : decode cX4_writeRoute 14 = .ok (.getfield 9, 3) := dk_180 0 9 (dk_at dksX4_writeRoute_0 14 rfl rfl)
theorem dX4_writeRoute_17 : decode cX4_writeRoute 17 = .ok (.iconst 1, 1) := dk_4 (dk_at dksX4_writeRoute_0 17 rfl rfl)
theorem dX4_writeRoute_18 : decode cX4_writeRoute 18 = .ok (.iaload, 1) := dk_46 (dk_at dksX4_writeRoute_0 18 rfl rfl)
theorem dX4_writeRoute_19 : decode cX4_writeRoute 19 = .ok (.if_icmp .ge 74, 3) := dk_162 0 74 (dk_at dksX4_writeRoute_0 19 rfl rfl)
theorem dX4_writeRoute_22 : decode cX4_writeRoute 22 = .ok (.iload_n 1, 1) := dk_27 (dk_at dksX4_writeRoute_0 22 rfl rfl)
theorem dX4_writeRoute_23 : decode cX4_writeRoute 23 = .ok (.ifCond .le 9, 3) := dk_158 0 9 (dk_at dksX4_writeRoute_1 0 rfl rfl)
theorem dX4_writeRoute_26 : decode cX4_writeRoute 26 = .ok (.aload_n 0, 1) := dk_42 (dk_at dksX4_writeRoute_1 3 rfl rfl)
theorem dX4_writeRoute_27 : decode cX4_writeRoute 27 = .ok (.bipush 32, 2) := dk_16 32 (dk_at dksX4_writeRoute_1 4 rfl rfl)
theorem dX4_writeRoute_29 : decode cX4_writeRoute 29 = .ok (.invokevirtual 187, 3) := dk_182 0 187 (dk_at dksX4_writeRoute_1 6 rfl rfl)
theorem dX4_writeRoute_32 : decode cX4_writeRoute 32 = .ok (.iload_n 1, 1) := dk_27 (dk_at dksX4_writeRoute_1 9 rfl rfl)
theorem dX4_writeRoute_33 : decode cX4_writeRoute 33 = .ok (.aload_n 0, 1) := dk_42 (dk_at dksX4_writeRoute_1 10 rfl rfl)
theorem dX4_writeRoute_34 : decode cX4_writeRoute 34 = .ok (.getfield 9, 3) := dk_180 0 9 (dk_at dksX4_writeRoute_1 11 rfl rfl)
theorem dX4_writeRoute_37 : decode cX4_writeRoute 37 = .ok (.iconst 2, 1) := dk_5 (dk_at dksX4_writeRoute_1 14 rfl rfl)
theorem dX4_writeRoute_38 : decode cX4_writeRoute 38 = .ok (.iaload, 1) := dk_46 (dk_at dksX4_writeRoute_1 15 rfl rfl)
theorem dX4_writeRoute_39 : decode cX4_writeRoute 39 = .ok (.if_icmp .ne 9, 3) := dk_160 0 9 (dk_at dksX4_writeRoute_1 16 rfl rfl)
theorem dX4_writeRoute_42 : decode cX4_writeRoute 42 = .ok (.aload_n 0, 1) := dk_42 (dk_at dksX4_writeRoute_1 19 rfl rfl)
theorem dX4_writeRoute_43 : decode cX4_writeRoute 43 = .ok (.bipush 42, 2) := dk_16 42 (dk_at dksX4_writeRoute_1 20 rfl rfl)
theorem dX4_writeRoute_45 : decode cX4_writeRoute 45 = .ok (.invokevirtual 187, 3) := dk_182 0 187 (dk_at dksX4_writeRoute_2 0 rfl rfl)
theorem dX4_writeRoute_48 : decode cX4_writeRoute 48 = .ok (.aload_n 0, 1) := dk_42 (dk_at dksX4_writeRoute_2 3 rfl rfl)
theorem dX4_writeRoute_49 : decode cX4_writeRoute 49 = .ok (.aload_n 0, 1) := dk_42 (dk_at dksX4_writeRoute_2 4 rfl rfl)
theorem dX4_writeRoute_50 : decode cX4_writeRoute 50 = .ok (.getfield 9, 3) := dk_180 0 9 (dk_at dksX4_writeRoute_2 5 rfl rfl)
theorem dX4_writeRoute_53 : decode cX4_writeRoute 53 = .ok (.sipush 192, 3) := dk_17 0 192 (dk_at dksX4_writeRoute_2 8 rfl rfl)
theorem dX4_writeRoute_56 : decode cX4_writeRoute 56 = .ok (.iload_n 1, 1) := dk_27 (dk_at dksX4_writeRoute_2 11 rfl rfl)
theorem dX4_writeRoute_57 : decode cX4_writeRoute 57 = .ok (.iadd, 1) := dk_96 (dk_at dksX4_writeRoute_2 12 rfl rfl)
theorem dX4_writeRoute_58 : decode cX4_writeRoute 58 = .ok (.iaload, 1) := dk_46 (dk_at dksX4_writeRoute_2 13 rfl rfl)
theorem dX4_writeRoute_59 : decode cX4_writeRoute 59 = .ok (.invokevirtual 184, 3) := dk_182 0 184 (dk_at dksX4_writeRoute_2 14 rfl rfl)
theorem dX4_writeRoute_62 : decode cX4_writeRoute 62 = .ok (.iload_n 1, 1) := dk_27 (dk_at dksX4_writeRoute_2 17 rfl rfl)
theorem dX4_writeRoute_63 : decode cX4_writeRoute 63 = .ok (.ifCond .le 24, 3) := dk_158 0 24 (dk_at dksX4_writeRoute_2 18 rfl rfl)
theorem dX4_writeRoute_66 : decode cX4_writeRoute 66 = .ok (.iload_n 1, 1) := dk_27 (dk_at dksX4_writeRoute_2 21 rfl rfl)
theorem dX4_writeRoute_67 : decode cX4_writeRoute 67 = .ok (.aload_n 0, 1) := dk_42 (dk_at dksX4_writeRoute_2 22 rfl rfl)
theorem dX4_writeRoute_68 : decode cX4_writeRoute 68 = .ok (.getfield 9, 3) := dk_180 0 9 (dk_at dksX4_writeRoute_3 0 rfl rfl)
theorem dX4_writeRoute_71 : decode cX4_writeRoute 71 = .ok (.iconst 1, 1) := dk_4 (dk_at dksX4_writeRoute_3 3 rfl rfl)
theorem dX4_writeRoute_72 : decode cX4_writeRoute 72 = .ok (.iaload, 1) := dk_46 (dk_at dksX4_writeRoute_3 4 rfl rfl)
theorem dX4_writeRoute_73 : decode cX4_writeRoute 73 = .ok (.iconst 1, 1) := dk_4 (dk_at dksX4_writeRoute_3 5 rfl rfl)
theorem dX4_writeRoute_74 : decode cX4_writeRoute 74 = .ok (.isub, 1) := dk_100 (dk_at dksX4_writeRoute_3 6 rfl rfl)
theorem dX4_writeRoute_75 : decode cX4_writeRoute 75 = .ok (.if_icmp .ge 12, 3) := dk_162 0 12 (dk_at dksX4_writeRoute_3 7 rfl rfl)
theorem dX4_writeRoute_78 : decode cX4_writeRoute 78 = .ok (.aload_n 0, 1) := dk_42 (dk_at dksX4_writeRoute_3 10 rfl rfl)
theorem dX4_writeRoute_79 : decode cX4_writeRoute 79 = .ok (.aload_n 0, 1) := dk_42 (dk_at dksX4_writeRoute_3 11 rfl rfl)
theorem dX4_writeRoute_80 : decode cX4_writeRoute 80 = .ok (.iload_n 1, 1) := dk_27 (dk_at dksX4_writeRoute_3 12 rfl rfl)
theorem dX4_writeRoute_81 : decode cX4_writeRoute 81 = .ok (.invokevirtual 172, 3) := dk_182 0 172 (dk_at dksX4_writeRoute_3 13 rfl rfl)
theorem dX4_writeRoute_84 : decode cX4_writeRoute 84 = .ok (.invokevirtual 187, 3) := dk_182 0 187 (dk_at dksX4_writeRoute_3 16 rfl rfl)
theorem dX4_writeRoute_87 : decode cX4_writeRoute 87 = .ok (.iinc 1 1, 3) := dk_132 1 1 (dk_at dksX4_writeRoute_3 19 rfl rfl)
theorem dX4_writeRoute_90 : decode cX4_writeRoute 90 = .ok (.goto (-78), 3) := dk_167 255 178 (dk_at dksX4_writeRoute_4 0 rfl rfl)
theorem dX4_writeRoute_93 : decode cX4_writeRoute 93 = .ok (.aload_n 0, 1) := dk_42 (dk_at dksX4_writeRoute_4 3 rfl rfl)
theorem dX4_writeRoute_94 : decode cX4_writeRoute 94 = .ok (.getfield 181, 3) := dk_180 0 181 (dk_at dksX4_writeRoute_4 4 rfl rfl)
theorem dX4_writeRoute_97 : decode cX4_writeRoute 97 = .ok (.ireturn, 1) := dk_172 (dk_at dksX4_writeRoute_4 7 rfl rfl)
def dkwX4_puts_0 : List UInt8 := [42, 180, 0, 32, 42, 180, 0, 181, 27, 79, 42, 89, 180, 0, 181, 4, 96, 181, 0, 181, 177]
abbrev dktX4_puts_0 : List UInt8 := dkwX4_puts_0 ++ []
theorem dksX4_puts_0 : cX4_puts.data.toList.drop 0 = dktX4_puts_0 := by decide +kernel
theorem dX4_puts_0 : decode cX4_puts 0 = .ok (.aload_n 0, 1) := dk_42 (dk_at dksX4_puts_0 0 rfl rfl)
theorem dX4_puts_1 : decode cX4_puts 1 = .ok (.getfield 32, 3) := dk_180 0 32 (dk_at dksX4_puts_0 1 rfl rfl)
theorem dX4_puts_4 : decode cX4_puts 4 = .ok (.aload_n 0, 1) := dk_42 (dk_at dksX4_puts_0 4 rfl rfl)
theorem dX4_puts_5 : decode cX4_puts 5 = .ok (.getfield 181, 3) := dk_180 0 181 (dk_at dksX4_puts_0 5 rfl rfl)
theorem dX4_puts_8 : decode cX4_puts 8 = .ok (.iload_n 1, 1) := dk_27 (dk_at dksX4_puts_0 8 rfl rfl)
theorem dX4_puts_9 : decode cX4_puts 9 = .ok (.iastore, 1) := dk_79 (dk_at dksX4_puts_0 9 rfl rfl)
theorem dX4_puts_10 : decode cX4_puts 10 = .ok (.aload_n 0, 1) := dk_42 (dk_at dksX4_puts_0 10 rfl rfl)
theorem dX4_puts_11 : decode cX4_puts 11 = .ok (.dup, 1) := dk_89 (dk_at dksX4_puts_0 11 rfl rfl)
theorem dX4_puts_12 : decode cX4_puts 12 = .ok (.getfield 181, 3) := dk_180 0 181 (dk_at dksX4_puts_0 12 rfl rfl)
theorem dX4_puts_15 : decode cX4_puts 15 = .ok (.iconst 1, 1) := dk_4 (dk_at dksX4_puts_0 15 rfl rfl)
theorem dX4_puts_16 : decode cX4_puts 16 = .ok (.iadd, 1) := dk_96 (dk_at dksX4_puts_0 16 rfl rfl)
theorem dX4_puts_17 : decode cX4_puts 17 = .ok (.putfield 181, 3) := dk_181 0 181 (dk_at dksX4_puts_0 17 rfl rfl)
theorem dX4_puts_20 : decode cX4_puts 20 = .ok (.return_, 1) := dk_177 (dk_at dksX4_puts_0 20 rfl rfl)
def dkwX4_number_1 : List UInt8 := [182, 0, 187, 177]
abbrev dktX4_number_1 : List UInt8 := dkwX4_number_1 ++ []
def dkwX4_number_0 : List UInt8 := [27, 16, 10, 161, 0, 11, 42, 27, 16, 10, 108, 182, 0, 184, 42, 16, 48, 27, 16, 10, 112, 96]
abbrev dktX4_number_0 : List UInt8 := dkwX4_number_0 ++ dktX4_number_1
theorem dksX4_number_0 : cX4_number.data.toList.drop 0 = dktX4_number_0 := by decide +kernel
theorem dksX4_number_1 : cX4_number.data.toList.drop 22 = dktX4_number_1 := dk_seg dksX4_number_0 22 rfl rfl
theorem dX4_number_0 : decode cX4_number 0 = .ok (.iload_n 1, 1) := dk_27 (dk_at dksX4_number_0 0 rfl rfl)
theorem dX4_number_1 : decode cX4_number 1 = .ok (.bipush 10, 2) := dk_16 10 (dk_at dksX4_number_0 1 rfl rfl)
theorem dX4_number_3 : decode cX4_number 3 = .ok (.if_icmp .lt 11, 3) := dk_161 0 11 (dk_at dksX4_number_0 3 rfl rfl)
theorem dX4_number_6 : decode cX4_number 6 = .ok (.aload_n 0, 1) := dk_42 (dk_at dksX4_number_0 6 rfl rfl)
theorem dX4_number_7 : decode cX4_number 7 = .ok (.iload_n 1, 1) := dk_27 (dk_at dksX4_number_0 7 rfl rfl)
theorem dX4_number_8 : decode cX4_number 8 = .ok (.bipush 10, 2) := dk_16 10 (dk_at dksX4_number_0 8 rfl rfl)
theorem dX4_number_10 : decode cX4_number 10 = .ok (.idiv, 1) := dk_108 (dk_at dksX4_number_0 10 rfl rfl)
theorem dX4_number_11 : decode cX4_number 11 = .ok (.invokevirtual 184, 3) := dk_182 0 184 (dk_at dksX4_number_0 11 rfl rfl)
theorem dX4_number_14 : decode cX4_number 14 = .ok (.aload_n 0, 1) := dk_42 (dk_at dksX4_number_0 14 rfl rfl)
theorem dX4_number_15 : decode cX4_number 15 = .ok (.bipush 48, 2) := dk_16 48 (dk_at dksX4_number_0 15 rfl rfl)
theorem dX4_number_17 : decode cX4_number 17 = .ok (.iload_n 1, 1) := dk_27 (dk_at dksX4_number_0 17 rfl rfl)
theorem dX4_number_18 : decode cX4_number 18 = .ok (.bipush 10, 2) := dk_16 10 (dk_at dksX4_number_0 18 rfl rfl)
theorem dX4_number_20 : decode cX4_number 20 = .ok (.irem, 1) := dk_112 (dk_at dksX4_number_0 20 rfl rfl)
theorem dX4_number_21 : decode cX4_number 21 = .ok (.iadd, 1) := dk_96 (dk_at dksX4_number_0 21 rfl rfl)
theorem dX4_number_22 : decode cX4_number 22 = .ok (.invokevirtual 187, 3) := dk_182 0 187 (dk_at dksX4_number_1 0 rfl rfl)
theorem dX4_number_25 : decode cX4_number 25 = .ok (.return_, 1) := dk_177 (dk_at dksX4_number_1 3 rfl rfl)
def dkwX4_writeTrails_3 : List UInt8 := [182, 0, 55, 182, 0, 184, 132, 2, 1, 167, 255, 207, 42, 180, 0, 181, 172]
abbrev dktX4_writeTrails_3 : List UInt8 := dkwX4_writeTrails_3 ++ []
def dkwX4_writeTrails_2 : List UInt8 := [158, 0, 30, 42, 16, 45, 182, 0, 187, 42, 28, 182, 0, 184, 42, 16, 61, 182, 0, 187, 42, 42, 27, 28]
abbrev dktX4_writeTrails_2 : List UInt8 := dkwX4_writeTrails_2 ++ dktX4_writeTrails_3
def dkwX4_writeTrails_1 : List UInt8 := [3, 181, 0, 181, 3, 61, 28, 42, 180, 0, 9, 3, 46, 162, 0, 45, 42, 27, 28, 182, 0, 55]
abbrev dktX4_writeTrails_1 : List UInt8 := dkwX4_writeTrails_1 ++ dktX4_writeTrails_2
def dkwX4_writeTrails_0 : List UInt8 := [42, 42, 27, 182, 0, 78, 154, 0, 7, 4, 167, 0, 4, 3, 4, 182, 0, 63, 153, 0, 5, 3, 172, 42]
abbrev dktX4_writeTrails_0 : List UInt8 := dkwX4_writeTrails_0 ++ dktX4_writeTrails_1
theorem dksX4_writeTrails_0 : cX4_writeTrails.data.toList.drop 0 = dktX4_writeTrails_0 := by decide +kernel
theorem dksX4_writeTrails_1 : cX4_writeTrails.data.toList.drop 24 = dktX4_writeTrails_1 := dk_seg dksX4_writeTrails_0 24 rfl rfl
theorem dksX4_writeTrails_2 : cX4_writeTrails.data.toList.drop 46 = dktX4_writeTrails_2 := dk_seg dksX4_writeTrails_1 22 rfl rfl
theorem dksX4_writeTrails_3 : cX4_writeTrails.data.toList.drop 70 = dktX4_writeTrails_3 := dk_seg dksX4_writeTrails_2 24 rfl rfl
theorem dX4_writeTrails_0 : decode cX4_writeTrails 0 = .ok (.aload_n 0, 1) := dk_42 (dk_at dksX4_writeTrails_0 0 rfl rfl)
theorem dX4_writeTrails_1 : decode cX4_writeTrails 1 = .ok (.aload_n 0, 1) := dk_42 (dk_at dksX4_writeTrails_0 1 rfl rfl)
theorem dX4_writeTrails_2 : decode cX4_writeTrails 2 = .ok (.iload_n 1, 1) := dk_27 (dk_at dksX4_writeTrails_0 2 rfl rfl)
theorem dX4_writeTrails_3 : decode cX4_writeTrails 3 = .ok (.invokevirtual 78, 3) := dk_182 0 78 (dk_at dksX4_writeTrails_0 3 rfl rfl)
theorem dX4_writeTrails_6 : decode cX4_writeTrails 6 = .ok (.ifCond .ne 7, 3) := dk_154 0 7 (dk_at dksX4_writeTrails_0 6 rfl rfl)
theorem dX4_writeTrails_9 : decode cX4_writeTrails 9 = .ok (.iconst 1, 1) := dk_4 (dk_at dksX4_writeTrails_0 9 rfl rfl)
theorem dX4_writeTrails_10 : decode cX4_writeTrails 10 = .ok (.goto 4, 3) := dk_167 0 4 (dk_at dksX4_writeTrails_0 10 rfl rfl)
theorem dX4_writeTrails_13 : decode cX4_writeTrails 13 = .ok (.iconst 0, 1) := dk_3 (dk_at dksX4_writeTrails_0 13 rfl rfl)
theorem dX4_writeTrails_14 : decode cX4_writeTrails 14 = .ok (.iconst 1, 1) := dk_4 (dk_at dksX4_writeTrails_0 14 rfl rfl)
theorem dX4_writeTrails_15 : decode cX4_writeTrails 15 = .ok (.invokevirtual 63, 3) := dk_182 0 63 (dk_at dksX4_writeTrails_0 15 rfl rfl)
theorem dX4_writeTrails_18 : decode cX4_writeTrails 18 = .ok (.ifCond .eq 5, 3) := dk_153 0 5 (dk_at dksX4_writeTrails_0 18 rfl rfl)
theorem dX4_writeTrails_21 : decode cX4_writeTrails 21 = .ok (.iconst 0, 1) := dk_3 (dk_at dksX4_writeTrails_0 21 rfl rfl)
theorem dX4_writeTrails_22 : decode cX4_writeTrails 22 = .ok (.ireturn, 1) := dk_172 (dk_at dksX4_writeTrails_0 22 rfl rfl)
theorem dX4_writeTrails_23 : decode cX4_writeTrails 23 = .ok (.aload_n 0, 1) := dk_42 (dk_at dksX4_writeTrails_0 23 rfl rfl)
theorem dX4_writeTrails_24 : decode cX4_writeTrails 24 = .ok (.iconst 0, 1) := dk_3 (dk_at dksX4_writeTrails_1 0 rfl rfl)
theorem dX4_writeTrails_25 : decode cX4_writeTrails 25 = .ok (.putfield 181, 3) := dk_181 0 181 (dk_at dksX4_writeTrails_1 1 rfl rfl)
theorem dX4_writeTrails_28 : decode cX4_writeTrails 28 = .ok (.iconst 0, 1) := dk_3 (dk_at dksX4_writeTrails_1 4 rfl rfl)
theorem dX4_writeTrails_29 : decode cX4_writeTrails 29 = .ok (.istore_n 2, 1) := dk_61 (dk_at dksX4_writeTrails_1 5 rfl rfl)
theorem dX4_writeTrails_30 : decode cX4_writeTrails 30 = .ok (.iload_n 2, 1) := dk_28 (dk_at dksX4_writeTrails_1 6 rfl rfl)
theorem dX4_writeTrails_31 : decode cX4_writeTrails 31 = .ok (.aload_n 0, 1) := dk_42 (dk_at dksX4_writeTrails_1 7 rfl rfl)
theorem dX4_writeTrails_32 : decode cX4_writeTrails 32 = .ok (.getfield 9, 3) := dk_180 0 9 (dk_at dksX4_writeTrails_1 8 rfl rfl)
theorem dX4_writeTrails_35 : decode cX4_writeTrails 35 = .ok (.iconst 0, 1) := dk_3 (dk_at dksX4_writeTrails_1 11 rfl rfl)
theorem dX4_writeTrails_36 : decode cX4_writeTrails 36 = .ok (.iaload, 1) := dk_46 (dk_at dksX4_writeTrails_1 12 rfl rfl)
theorem dX4_writeTrails_37 : decode cX4_writeTrails 37 = .ok (.if_icmp .ge 45, 3) := dk_162 0 45 (dk_at dksX4_writeTrails_1 13 rfl rfl)
theorem dX4_writeTrails_40 : decode cX4_writeTrails 40 = .ok (.aload_n 0, 1) := dk_42 (dk_at dksX4_writeTrails_1 16 rfl rfl)
theorem dX4_writeTrails_41 : decode cX4_writeTrails 41 = .ok (.iload_n 1, 1) := dk_27 (dk_at dksX4_writeTrails_1 17 rfl rfl)
theorem dX4_writeTrails_42 : decode cX4_writeTrails 42 = .ok (.iload_n 2, 1) := dk_28 (dk_at dksX4_writeTrails_1 18 rfl rfl)
theorem dX4_writeTrails_43 : decode cX4_writeTrails 43 = .ok (.invokevirtual 55, 3) := dk_182 0 55 (dk_at dksX4_writeTrails_1 19 rfl rfl)
theorem dX4_writeTrails_46 : decode cX4_writeTrails 46 = .ok (.ifCond .le 30, 3) := dk_158 0 30 (dk_at dksX4_writeTrails_2 0 rfl rfl)
theorem dX4_writeTrails_49 : decode cX4_writeTrails 49 = .ok (.aload_n 0, 1) := dk_42 (dk_at dksX4_writeTrails_2 3 rfl rfl)
theorem dX4_writeTrails_50 : decode cX4_writeTrails 50 = .ok (.bipush 45, 2) := dk_16 45 (dk_at dksX4_writeTrails_2 4 rfl rfl)
theorem dX4_writeTrails_52 : decode cX4_writeTrails 52 = .ok (.invokevirtual 187, 3) := dk_182 0 187 (dk_at dksX4_writeTrails_2 6 rfl rfl)
theorem dX4_writeTrails_55 : decode cX4_writeTrails 55 = .ok (.aload_n 0, 1) := dk_42 (dk_at dksX4_writeTrails_2 9 rfl rfl)
theorem dX4_writeTrails_56 : decode cX4_writeTrails 56 = .ok (.iload_n 2, 1) := dk_28 (dk_at dksX4_writeTrails_2 10 rfl rfl)
theorem dX4_writeTrails_57 : decode cX4_writeTrails 57 = .ok (.invokevirtual 184, 3) := dk_182 0 184 (dk_at dksX4_writeTrails_2 11 rfl rfl)
theorem dX4_writeTrails_60 : decode cX4_writeTrails 60 = .ok (.aload_n 0, 1) := dk_42 (dk_at dksX4_writeTrails_2 14 rfl rfl)
theorem dX4_writeTrails_61 : decode cX4_writeTrails 61 = .ok (.bipush 61, 2) := dk_16 61 (dk_at dksX4_writeTrails_2 15 rfl rfl)
theorem dX4_writeTrails_63 : decode cX4_writeTrails 63 = .ok (.invokevirtual 187, 3) := dk_182 0 187 (dk_at dksX4_writeTrails_2 17 rfl rfl)
theorem dX4_writeTrails_66 : decode cX4_writeTrails 66 = .ok (.aload_n 0, 1) := dk_42 (dk_at dksX4_writeTrails_2 20 rfl rfl)
theorem dX4_writeTrails_67 : decode cX4_writeTrails 67 = .ok (.aload_n 0, 1) := dk_42 (dk_at dksX4_writeTrails_2 21 rfl rfl)
theorem dX4_writeTrails_68 : decode cX4_writeTrails 68 = .ok (.iload_n 1, 1) := dk_27 (dk_at dksX4_writeTrails_2 22 rfl rfl)
theorem dX4_writeTrails_69 : decode cX4_writeTrails 69 = .ok (.iload_n 2, 1) := dk_28 (dk_at dksX4_writeTrails_2 23 rfl rfl)
theorem dX4_writeTrails_70 : decode cX4_writeTrails 70 = .ok (.invokevirtual 55, 3) := dk_182 0 55 (dk_at dksX4_writeTrails_3 0 rfl rfl)
theorem dX4_writeTrails_73 : decode cX4_writeTrails 73 = .ok (.invokevirtual 184, 3) := dk_182 0 184 (dk_at dksX4_writeTrails_3 3 rfl rfl)
theorem dX4_writeTrails_76 : decode cX4_writeTrails 76 = .ok (.iinc 2 1, 3) := dk_132 2 1 (dk_at dksX4_writeTrails_3 6 rfl rfl)
theorem dX4_writeTrails_79 : decode cX4_writeTrails 79 = .ok (.goto (-49), 3) := dk_167 255 207 (dk_at dksX4_writeTrails_3 9 rfl rfl)
theorem dX4_writeTrails_82 : decode cX4_writeTrails 82 = .ok (.aload_n 0, 1) := dk_42 (dk_at dksX4_writeTrails_3 12 rfl rfl)
theorem dX4_writeTrails_83 : decode cX4_writeTrails 83 = .ok (.getfield 181, 3) := dk_180 0 181 (dk_at dksX4_writeTrails_3 13 rfl rfl)
theorem dX4_writeTrails_86 : decode cX4_writeTrails 86 = .ok (.ireturn, 1) := dk_172 (dk_at dksX4_writeTrails_3 16 rfl rfl)
def dkwX4_charAt_1 : List UInt8 := [153, 0, 7, 3, 167, 0, 10, 42, 180, 0, 32, 27, 46, 146, 172]
abbrev dktX4_charAt_1 : List UInt8 := dkwX4_charAt_1 ++ []
def dkwX4_charAt_0 : List UInt8 := [42, 27, 3, 42, 180, 0, 181, 4, 100, 184, 0, 51, 154, 0, 7, 4, 167, 0, 4, 3, 4, 182, 0, 63]
abbrev dktX4_charAt_0 : List UInt8 := dkwX4_charAt_0 ++ dktX4_charAt_1
theorem dksX4_charAt_0 : cX4_charAt.data.toList.drop 0 = dktX4_charAt_0 := by decide +kernel
theorem dksX4_charAt_1 : cX4_charAt.data.toList.drop 24 = dktX4_charAt_1 := dk_seg dksX4_charAt_0 24 rfl rfl
theorem dX4_charAt_0 : decode cX4_charAt 0 = .ok (.aload_n 0, 1) := dk_42 (dk_at dksX4_charAt_0 0 rfl rfl)
theorem dX4_charAt_1 : decode cX4_charAt 1 = .ok (.iload_n 1, 1) := dk_27 (dk_at dksX4_charAt_0 1 rfl rfl)
theorem dX4_charAt_2 : decode cX4_charAt 2 = .ok (.iconst 0, 1) := dk_3 (dk_at dksX4_charAt_0 2 rfl rfl)
theorem dX4_charAt_3 : decode cX4_charAt 3 = .ok (.aload_n 0, 1) := dk_42 (dk_at dksX4_charAt_0 3 rfl rfl)
theorem dX4_charAt_4 : decode cX4_charAt 4 = .ok (.getfield 181, 3) := dk_180 0 181 (dk_at dksX4_charAt_0 4 rfl rfl)
theorem dX4_charAt_7 : decode cX4_charAt 7 = .ok (.iconst 1, 1) := dk_4 (dk_at dksX4_charAt_0 7 rfl rfl)
theorem dX4_charAt_8 : decode cX4_charAt 8 = .ok (.isub, 1) := dk_100 (dk_at dksX4_charAt_0 8 rfl rfl)
theorem dX4_charAt_9 : decode cX4_charAt 9 = .ok (.invokestatic 51, 3) := dk_184 0 51 (dk_at dksX4_charAt_0 9 rfl rfl)
theorem dX4_charAt_12 : decode cX4_charAt 12 = .ok (.ifCond .ne 7, 3) := dk_154 0 7 (dk_at dksX4_charAt_0 12 rfl rfl)
theorem dX4_charAt_15 : decode cX4_charAt 15 = .ok (.iconst 1, 1) := dk_4 (dk_at dksX4_charAt_0 15 rfl rfl)
theorem dX4_charAt_16 : decode cX4_charAt 16 = .ok (.goto 4, 3) := dk_167 0 4 (dk_at dksX4_charAt_0 16 rfl rfl)
theorem dX4_charAt_19 : decode cX4_charAt 19 = .ok (.iconst 0, 1) := dk_3 (dk_at dksX4_charAt_0 19 rfl rfl)
theorem dX4_charAt_20 : decode cX4_charAt 20 = .ok (.iconst 1, 1) := dk_4 (dk_at dksX4_charAt_0 20 rfl rfl)
theorem dX4_charAt_21 : decode cX4_charAt 21 = .ok (.invokevirtual 63, 3) := dk_182 0 63 (dk_at dksX4_charAt_0 21 rfl rfl)
theorem dX4_charAt_24 : decode cX4_charAt 24 = .ok (.ifCond .eq 7, 3) := dk_153 0 7 (dk_at dksX4_charAt_1 0 rfl rfl)
theorem dX4_charAt_27 : decode cX4_charAt 27 = .ok (.iconst 0, 1) := dk_3 (dk_at dksX4_charAt_1 3 rfl rfl)
theorem dX4_charAt_28 : decode cX4_charAt 28 = .ok (.goto 10, 3) := dk_167 0 10 (dk_at dksX4_charAt_1 4 rfl rfl)
theorem dX4_charAt_31 : decode cX4_charAt 31 = .ok (.aload_n 0, 1) := dk_42 (dk_at dksX4_charAt_1 7 rfl rfl)
theorem dX4_charAt_32 : decode cX4_charAt 32 = .ok (.getfield 32, 3) := dk_180 0 32 (dk_at dksX4_charAt_1 8 rfl rfl)
theorem dX4_charAt_35 : decode cX4_charAt 35 = .ok (.iload_n 1, 1) := dk_27 (dk_at dksX4_charAt_1 11 rfl rfl)
theorem dX4_charAt_36 : decode cX4_charAt 36 = .ok (.iaload, 1) := dk_46 (dk_at dksX4_charAt_1 12 rfl rfl)
theorem dX4_charAt_37 : decode cX4_charAt 37 = .ok (.i2c, 1) := dk_146 (dk_at dksX4_charAt_1 13 rfl rfl)
theorem dX4_charAt_38 : decode cX4_charAt 38 = .ok (.ireturn, 1) := dk_172 (dk_at dksX4_charAt_1 14 rfl rfl)
def dkwX4_type_2 : List UInt8 := [172]
abbrev dktX4_type_2 : List UInt8 := dkwX4_type_2 ++ []
def dkwX4_type_1 : List UInt8 := [42, 180, 0, 35, 42, 180, 0, 190, 27, 79, 42, 89, 180, 0, 190, 4, 96, 181, 0, 190, 42, 180, 0, 190]
abbrev dktX4_type_1 : List UInt8 := dkwX4_type_1 ++ dktX4_type_2
def dkwX4_type_0 : List UInt8 := [42, 42, 180, 0, 190, 16, 60, 160, 0, 7, 4, 167, 0, 4, 3, 4, 182, 0, 63, 153, 0, 5, 3, 172]
abbrev dktX4_type_0 : List UInt8 := dkwX4_type_0 ++ dktX4_type_1
theorem dksX4_type_0 : cX4_type.data.toList.drop 0 = dktX4_type_0 := by decide +kernel
theorem dksX4_type_1 : cX4_type.data.toList.drop 24 = dktX4_type_1 := dk_seg dksX4_type_0 24 rfl rfl
theorem dksX4_type_2 : cX4_type.data.toList.drop 48 = dktX4_type_2 := dk_seg dksX4_type_1 24 rfl rfl
theorem dX4_type_0 : decode cX4_type 0 = .ok (.aload_n 0, 1) := dk_42 (dk_at dksX4_type_0 0 rfl rfl)
theorem dX4_type_1 : decode cX4_type 1 = .ok (.aload_n 0, 1) := dk_42 (dk_at dksX4_type_0 1 rfl rfl)
theorem dX4_type_2 : decode cX4_type 2 = .ok (.getfield 190, 3) := dk_180 0 190 (dk_at dksX4_type_0 2 rfl rfl)
theorem dX4_type_5 : decode cX4_type 5 = .ok (.bipush 60, 2) := dk_16 60 (dk_at dksX4_type_0 5 rfl rfl)
theorem dX4_type_7 : decode cX4_type 7 = .ok (.if_icmp .ne 7, 3) := dk_160 0 7 (dk_at dksX4_type_0 7 rfl rfl)
theorem dX4_type_10 : decode cX4_type 10 = .ok (.iconst 1, 1) := dk_4 (dk_at dksX4_type_0 10 rfl rfl)
theorem dX4_type_11 : decode cX4_type 11 = .ok (.goto 4, 3) := dk_167 0 4 (dk_at dksX4_type_0 11 rfl rfl)
theorem dX4_type_14 : decode cX4_type 14 = .ok (.iconst 0, 1) := dk_3 (dk_at dksX4_type_0 14 rfl rfl)
theorem dX4_type_15 : decode cX4_type 15 = .ok (.iconst 1, 1) := dk_4 (dk_at dksX4_type_0 15 rfl rfl)
theorem dX4_type_16 : decode cX4_type 16 = .ok (.invokevirtual 63, 3) := dk_182 0 63 (dk_at dksX4_type_0 16 rfl rfl)
theorem dX4_type_19 : decode cX4_type 19 = .ok (.ifCond .eq 5, 3) := dk_153 0 5 (dk_at dksX4_type_0 19 rfl rfl)
theorem dX4_type_22 : decode cX4_type 22 = .ok (.iconst 0, 1) := dk_3 (dk_at dksX4_type_0 22 rfl rfl)
theorem dX4_type_23 : decode cX4_type 23 = .ok (.ireturn, 1) := dk_172 (dk_at dksX4_type_0 23 rfl rfl)
theorem dX4_type_24 : decode cX4_type 24 = .ok (.aload_n 0, 1) := dk_42 (dk_at dksX4_type_1 0 rfl rfl)
theorem dX4_type_25 : decode cX4_type 25 = .ok (.getfield 35, 3) := dk_180 0 35 (dk_at dksX4_type_1 1 rfl rfl)
theorem dX4_type_28 : decode cX4_type 28 = .ok (.aload_n 0, 1) := dk_42 (dk_at dksX4_type_1 4 rfl rfl)
theorem dX4_type_29 : decode cX4_type 29 = .ok (.getfield 190, 3) := dk_180 0 190 (dk_at dksX4_type_1 5 rfl rfl)
theorem dX4_type_32 : decode cX4_type 32 = .ok (.iload_n 1, 1) := dk_27 (dk_at dksX4_type_1 8 rfl rfl)
theorem dX4_type_33 : decode cX4_type 33 = .ok (.iastore, 1) := dk_79 (dk_at dksX4_type_1 9 rfl rfl)
theorem dX4_type_34 : decode cX4_type 34 = .ok (.aload_n 0, 1) := dk_42 (dk_at dksX4_type_1 10 rfl rfl)
theorem dX4_type_35 : decode cX4_type 35 = .ok (.dup, 1) := dk_89 (dk_at dksX4_type_1 11 rfl rfl)
theorem dX4_type_36 : decode cX4_type 36 = .ok (.getfield 190, 3) := dk_180 0 190 (dk_at dksX4_type_1 12 rfl rfl)
theorem dX4_type_39 : decode cX4_type 39 = .ok (.iconst 1, 1) := dk_4 (dk_at dksX4_type_1 15 rfl rfl)
theorem dX4_type_40 : decode cX4_type 40 = .ok (.iadd, 1) := dk_96 (dk_at dksX4_type_1 16 rfl rfl)
theorem dX4_type_41 : decode cX4_type 41 = .ok (.putfield 190, 3) := dk_181 0 190 (dk_at dksX4_type_1 17 rfl rfl)
theorem dX4_type_44 : decode cX4_type 44 = .ok (.aload_n 0, 1) := dk_42 (dk_at dksX4_type_1 20 rfl rfl)
theorem dX4_type_45 : decode cX4_type 45 = .ok (.getfield 190, 3) := dk_180 0 190 (dk_at dksX4_type_1 21 rfl rfl)
theorem dX4_type_48 : decode cX4_type 48 = .ok (.ireturn, 1) := dk_172 (dk_at dksX4_type_2 0 rfl rfl)
def dkwX4_run_4 : List UInt8 := [181, 0, 41, 3, 172, 132, 2, 1, 167, 255, 197, 42, 42, 180, 0, 253, 182, 0, 74, 172]
abbrev dktX4_run_4 : List UInt8 := dkwX4_run_4 ++ []
def dkwX4_run_3 : List UInt8 := [153, 0, 28, 42, 180, 0, 13, 3, 42, 180, 0, 9, 3, 184, 0, 44, 42, 28, 181, 0, 29, 42, 5]
abbrev dktX4_run_3 : List UInt8 := dkwX4_run_3 ++ dktX4_run_4
def dkwX4_run_2 : List UInt8 := [162, 0, 57, 42, 3, 181, 0, 41, 42, 42, 7, 28, 104, 182, 1, 12, 181, 1, 15, 42, 180, 0, 41]
abbrev dktX4_run_2 : List UInt8 := dkwX4_run_2 ++ dktX4_run_3
def dkwX4_run_1 : List UInt8 := [153, 0, 13, 42, 42, 180, 0, 193, 181, 0, 25, 3, 172, 42, 182, 0, 67, 3, 61, 28, 42, 180, 0, 253]
abbrev dktX4_run_1 : List UInt8 := dkwX4_run_1 ++ dktX4_run_2
def dkwX4_run_0 : List UInt8 := [42, 182, 1, 9, 60, 42, 3, 181, 0, 190, 42, 27, 154, 0, 7, 4, 167, 0, 4, 3, 4, 182, 0, 63]
abbrev dktX4_run_0 : List UInt8 := dkwX4_run_0 ++ dktX4_run_1
theorem dksX4_run_0 : cX4_run.data.toList.drop 0 = dktX4_run_0 := by decide +kernel
theorem dksX4_run_1 : cX4_run.data.toList.drop 24 = dktX4_run_1 := dk_seg dksX4_run_0 24 rfl rfl
theorem dksX4_run_2 : cX4_run.data.toList.drop 48 = dktX4_run_2 := dk_seg dksX4_run_1 24 rfl rfl
theorem dksX4_run_3 : cX4_run.data.toList.drop 71 = dktX4_run_3 := dk_seg dksX4_run_2 23 rfl rfl
theorem dksX4_run_4 : cX4_run.data.toList.drop 94 = dktX4_run_4 := dk_seg dksX4_run_3 23 rfl rfl
theorem dX4_run_0 : decode cX4_run 0 = .ok (.aload_n 0, 1) := dk_42 (dk_at dksX4_run_0 0 rfl rfl)
theorem dX4_run_1 : decode cX4_run 1 = .ok (.invokevirtual 265, 3) := dk_182 1 9 (dk_at dksX4_run_0 1 rfl rfl)
theorem dX4_run_4 : decode cX4_run 4 = .ok (.istore_n 1, 1) := dk_60 (dk_at dksX4_run_0 4 rfl rfl)
theorem dX4_run_5 : decode cX4_run 5 = .ok (.aload_n 0, 1) := dk_42 (dk_at dksX4_run_0 5 rfl rfl)
theorem dX4_run_6 : decode cX4_run 6 = .ok (.iconst 0, 1) := dk_3 (dk_at dksX4_run_0 6 rfl rfl)
theorem dX4_run_7 : decode cX4_run 7 = .ok (.putfield 190, 3) := dk_181 0 190 (dk_at dksX4_run_0 7 rfl rfl)
theorem dX4_run_10 : decode cX4_run 10 = .ok (.aload_n 0, 1) := dk_42 (dk_at dksX4_run_0 10 rfl rfl)
theorem dX4_run_11 : decode cX4_run 11 = .ok (.iload_n 1, 1) := dk_27 (dk_at dksX4_run_0 11 rfl rfl)
theorem dX4_run_12 : decode cX4_run 12 = .ok (.ifCond .ne 7, 3) := dk_154 0 7 (dk_at dksX4_run_0 12 rfl rfl)
theorem dX4_run_15 : decode cX4_run 15 = .ok (.iconst 1, 1) := dk_4 (dk_at dksX4_run_0 15 rfl rfl)
theorem dX4_run_16 : decode cX4_run 16 = .ok (.goto 4, 3) := dk_167 0 4 (dk_at dksX4_run_0 16 rfl rfl)
theorem dX4_run_19 : decode cX4_run 19 = .ok (.iconst 0, 1) := dk_3 (dk_at dksX4_run_0 19 rfl rfl)
theorem dX4_run_20 : decode cX4_run 20 = .ok (.iconst 1, 1) := dk_4 (dk_at dksX4_run_0 20 rfl rfl)
theorem dX4_run_21 : decode cX4_run 21 = .ok (.invokevirtual 63, 3) := dk_182 0 63 (dk_at dksX4_run_0 21 rfl rfl)
theorem dX4_run_24 : decode cX4_run 24 = .ok (.ifCond .eq 13, 3) := dk_153 0 13 (dk_at dksX4_run_1 0 rfl rfl)
theorem dX4_run_27 : decode cX4_run 27 = .ok (.aload_n 0, 1) := dk_42 (dk_at dksX4_run_1 3 rfl rfl)
theorem dX4_run_28 : decode cX4_run 28 = .ok (.aload_n 0, 1) := dk_42 (dk_at dksX4_run_1 4 rfl rfl)
theorem dX4_run_29 : decode cX4_run 29 = .ok (.getfield 193, 3) := dk_180 0 193 (dk_at dksX4_run_1 5 rfl rfl)
theorem dX4_run_32 : decode cX4_run 32 = .ok (.putfield 25, 3) := dk_181 0 25 (dk_at dksX4_run_1 8 rfl rfl)
theorem dX4_run_35 : decode cX4_run 35 = .ok (.iconst 0, 1) := dk_3 (dk_at dksX4_run_1 11 rfl rfl)
theorem dX4_run_36 : decode cX4_run 36 = .ok (.ireturn, 1) := dk_172 (dk_at dksX4_run_1 12 rfl rfl)
theorem dX4_run_37 : decode cX4_run 37 = .ok (.aload_n 0, 1) := dk_42 (dk_at dksX4_run_1 13 rfl rfl)
theorem dX4_run_38 : decode cX4_run 38 = .ok (.invokevirtual 67, 3) := dk_182 0 67 (dk_at dksX4_run_1 14 rfl rfl)
theorem dX4_run_41 : decode cX4_run 41 = .ok (.iconst 0, 1) := dk_3 (dk_at dksX4_run_1 17 rfl rfl)
theorem dX4_run_42 : decode cX4_run 42 = .ok (.istore_n 2, 1) := dk_61 (dk_at dksX4_run_1 18 rfl rfl)
theorem dX4_run_43 : decode cX4_run 43 = .ok (.iload_n 2, 1) := dk_28 (dk_at dksX4_run_1 19 rfl rfl)
theorem dX4_run_44 : decode cX4_run 44 = .ok (.aload_n 0, 1) := dk_42 (dk_at dksX4_run_1 20 rfl rfl)
theorem dX4_run_45 : decode cX4_run 45 = .ok (.getfield 253, 3) := dk_180 0 253 (dk_at dksX4_run_1 21 rfl rfl)
theorem dX4_run_48 : decode cX4_run 48 = .ok (.if_icmp .ge 57, 3) := dk_162 0 57 (dk_at dksX4_run_2 0 rfl rfl)
theorem dX4_run_51 : decode cX4_run 51 = .ok (.aload_n 0, 1) := dk_42 (dk_at dksX4_run_2 3 rfl rfl)
theorem dX4_run_52 : decode cX4_run 52 = .ok (.iconst 0, 1) := dk_3 (dk_at dksX4_run_2 4 rfl rfl)
theorem dX4_run_53 : decode cX4_run 53 = .ok (.putfield 41, 3) := dk_181 0 41 (dk_at dksX4_run_2 5 rfl rfl)
theorem dX4_run_56 : decode cX4_run 56 = .ok (.aload_n 0, 1) := dk_42 (dk_at dksX4_run_2 8 rfl rfl)
theorem dX4_run_57 : decode cX4_run 57 = .ok (.aload_n 0, 1) := dk_42 (dk_at dksX4_run_2 9 rfl rfl)
theorem dX4_run_58 : decode cX4_run 58 = .ok (.iconst 4, 1) := dk_7 (dk_at dksX4_run_2 10 rfl rfl)
theorem dX4_run_59 : decode cX4_run 59 = .ok (.iload_n 2, 1) := dk_28 (dk_at dksX4_run_2 11 rfl rfl)
theorem dX4_run_60 : decode cX4_run 60 = .ok (.imul, 1) := dk_104 (dk_at dksX4_run_2 12 rfl rfl)
theorem dX4_run_61 : decode cX4_run 61 = .ok (.invokevirtual 268, 3) := dk_182 1 12 (dk_at dksX4_run_2 13 rfl rfl)
theorem dX4_run_64 : decode cX4_run 64 = .ok (.putfield 271, 3) := dk_181 1 15 (dk_at dksX4_run_2 16 rfl rfl)
theorem dX4_run_67 : decode cX4_run 67 = .ok (.aload_n 0, 1) := dk_42 (dk_at dksX4_run_2 19 rfl rfl)
theorem dX4_run_68 : decode cX4_run 68 = .ok (.getfield 41, 3) := dk_180 0 41 (dk_at dksX4_run_2 20 rfl rfl)
theorem dX4_run_71 : decode cX4_run 71 = .ok (.ifCond .eq 28, 3) := dk_153 0 28 (dk_at dksX4_run_3 0 rfl rfl)
theorem dX4_run_74 : decode cX4_run 74 = .ok (.aload_n 0, 1) := dk_42 (dk_at dksX4_run_3 3 rfl rfl)
theorem dX4_run_75 : decode cX4_run 75 = .ok (.getfield 13, 3) := dk_180 0 13 (dk_at dksX4_run_3 4 rfl rfl)
theorem dX4_run_78 : decode cX4_run 78 = .ok (.iconst 0, 1) := dk_3 (dk_at dksX4_run_3 7 rfl rfl)
theorem dX4_run_79 : decode cX4_run 79 = .ok (.aload_n 0, 1) := dk_42 (dk_at dksX4_run_3 8 rfl rfl)
theorem dX4_run_80 : decode cX4_run 80 = .ok (.getfield 9, 3) := dk_180 0 9 (dk_at dksX4_run_3 9 rfl rfl)
theorem dX4_run_83 : decode cX4_run 83 = .ok (.iconst 0, 1) := dk_3 (dk_at dksX4_run_3 12 rfl rfl)
theorem dX4_run_84 : decode cX4_run 84 = .ok (.invokestatic 44, 3) := dk_184 0 44 (dk_at dksX4_run_3 13 rfl rfl)
theorem dX4_run_87 : decode cX4_run 87 = .ok (.aload_n 0, 1) := dk_42 (dk_at dksX4_run_3 16 rfl rfl)
theorem dX4_run_88 : decode cX4_run 88 = .ok (.iload_n 2, 1) := dk_28 (dk_at dksX4_run_3 17 rfl rfl)
theorem dX4_run_89 : decode cX4_run 89 = .ok (.putfield 29, 3) := dk_181 0 29 (dk_at dksX4_run_3 18 rfl rfl)
theorem dX4_run_92 : decode cX4_run 92 = .ok (.aload_n 0, 1) := dk_42 (dk_at dksX4_run_3 21 rfl rfl)
theorem dX4_run_93 : decode cX4_run 93 = .ok (.iconst 2, 1) := dk_5 (dk_at dksX4_run_3 22 rfl rfl)
theorem dX4_run_94 : decode cX4_run 94 = .ok (.putfield 41, 3) := dk_181 0 41 (dk_at dksX4_run_4 0 rfl rfl)
theorem dX4_run_97 : decode cX4_run 97 = .ok (.iconst 0, 1) := dk_3 (dk_at dksX4_run_4 3 rfl rfl)
theorem dX4_run_98 : decode cX4_run 98 = .ok (.ireturn, 1) := dk_172 (dk_at dksX4_run_4 4 rfl rfl)
theorem dX4_run_99 : decode cX4_run 99 = .ok (.iinc 2 1, 3) := dk_132 2 1 (dk_at dksX4_run_4 5 rfl rfl)
theorem dX4_run_102 : decode cX4_run 102 = .ok (.goto (-59), 3) := dk_167 255 197 (dk_at dksX4_run_4 8 rfl rfl)
theorem dX4_run_105 : decode cX4_run 105 = .ok (.aload_n 0, 1) := dk_42 (dk_at dksX4_run_4 11 rfl rfl)
theorem dX4_run_106 : decode cX4_run 106 = .ok (.aload_n 0, 1) := dk_42 (dk_at dksX4_run_4 12 rfl rfl)
theorem dX4_run_107 : decode cX4_run 107 = .ok (.getfield 253, 3) := dk_180 0 253 (dk_at dksX4_run_4 13 rfl rfl)
theorem dX4_run_110 : decode cX4_run 110 = .ok (.invokevirtual 74, 3) := dk_182 0 74 (dk_at dksX4_run_4 16 rfl rfl)
theorem dX4_run_113 : decode cX4_run 113 = .ok (.ireturn, 1) := dk_172 (dk_at dksX4_run_4 19 rfl rfl)
def dkwX4_isProgram_2 : List UInt8 := [180, 0, 190, 160, 0, 7, 4, 167, 0, 4, 3, 172]
abbrev dktX4_isProgram_2 : List UInt8 := dkwX4_isProgram_2 ++ []
def dkwX4_isProgram_1 : List UInt8 := [182, 0, 208, 153, 0, 11, 42, 182, 1, 6, 60, 167, 255, 238, 27, 153, 0, 18, 42, 180, 0, 193, 42]
abbrev dktX4_isProgram_1 : List UInt8 := dkwX4_isProgram_1 ++ dktX4_isProgram_2
def dkwX4_isProgram_0 : List UInt8 := [42, 3, 181, 0, 193, 42, 3, 181, 0, 253, 42, 182, 1, 6, 60, 27, 153, 0, 20, 42, 16, 59]
abbrev dktX4_isProgram_0 : List UInt8 := dkwX4_isProgram_0 ++ dktX4_isProgram_1
theorem dksX4_isProgram_0 : cX4_isProgram.data.toList.drop 0 = dktX4_isProgram_0 := by decide +kernel
theorem dksX4_isProgram_1 : cX4_isProgram.data.toList.drop 22 = dktX4_isProgram_1 := dk_seg dksX4_isProgram_0 22 rfl rfl
theorem dksX4_isProgram_2 : cX4_isProgram.data.toList.drop 45 = dktX4_isProgram_2 := dk_seg dksX4_isProgram_1 23 rfl rfl
theorem dX4_isProgram_0 : decode cX4_isProgram 0 = .ok (.aload_n 0, 1) := dk_42 (dk_at dksX4_isProgram_0 0 rfl rfl)
theorem dX4_isProgram_1 : decode cX4_isProgram 1 = .ok (.iconst 0, 1) := dk_3 (dk_at dksX4_isProgram_0 1 rfl rfl)
theorem dX4_isProgram_2 : decode cX4_isProgram 2 = .ok (.putfield 193, 3) := dk_181 0 193 (dk_at dksX4_isProgram_0 2 rfl rfl)
theorem dX4_isProgram_5 : decode cX4_isProgram 5 = .ok (.aload_n 0, 1) := dk_42 (dk_at dksX4_isProgram_0 5 rfl rfl)
theorem dX4_isProgram_6 : decode cX4_isProgram 6 = .ok (.iconst 0, 1) := dk_3 (dk_at dksX4_isProgram_0 6 rfl rfl)
theorem dX4_isProgram_7 : decode cX4_isProgram 7 = .ok (.putfield 253, 3) := dk_181 0 253 (dk_at dksX4_isProgram_0 7 rfl rfl)
theorem dX4_isProgram_10 : decode cX4_isProgram 10 = .ok (.aload_n 0, 1) := dk_42 (dk_at dksX4_isProgram_0 10 rfl rfl)
theorem dX4_isProgram_11 : decode cX4_isProgram 11 = .ok (.invokevirtual 262, 3) := dk_182 1 6 (dk_at dksX4_isProgram_0 11 rfl rfl)
theorem dX4_isProgram_14 : decode cX4_isProgram 14 = .ok (.istore_n 1, 1) := dk_60 (dk_at dksX4_isProgram_0 14 rfl rfl)
theorem dX4_isProgram_15 : decode cX4_isProgram 15 = .ok (.iload_n 1, 1) := dk_27 (dk_at dksX4_isProgram_0 15 rfl rfl)
theorem dX4_isProgram_16 : decode cX4_isProgram 16 = .ok (.ifCond .eq 20, 3) := dk_153 0 20 (dk_at dksX4_isProgram_0 16 rfl rfl)
theorem dX4_isProgram_19 : decode cX4_isProgram 19 = .ok (.aload_n 0, 1) := dk_42 (dk_at dksX4_isProgram_0 19 rfl rfl)
theorem dX4_isProgram_20 : decode cX4_isProgram 20 = .ok (.bipush 59, 2) := dk_16 59 (dk_at dksX4_isProgram_0 20 rfl rfl)
theorem dX4_isProgram_22 : decode cX4_isProgram 22 = .ok (.invokevirtual 208, 3) := dk_182 0 208 (dk_at dksX4_isProgram_1 0 rfl rfl)
theorem dX4_isProgram_25 : decode cX4_isProgram 25 = .ok (.ifCond .eq 11, 3) := dk_153 0 11 (dk_at dksX4_isProgram_1 3 rfl rfl)
theorem dX4_isProgram_28 : decode cX4_isProgram 28 = .ok (.aload_n 0, 1) := dk_42 (dk_at dksX4_isProgram_1 6 rfl rfl)
theorem dX4_isProgram_29 : decode cX4_isProgram 29 = .ok (.invokevirtual 262, 3) := dk_182 1 6 (dk_at dksX4_isProgram_1 7 rfl rfl)
theorem dX4_isProgram_32 : decode cX4_isProgram 32 = .ok (.istore_n 1, 1) := dk_60 (dk_at dksX4_isProgram_1 10 rfl rfl)
theorem dX4_isProgram_33 : decode cX4_isProgram 33 = .ok (.goto (-18), 3) := dk_167 255 238 (dk_at dksX4_isProgram_1 11 rfl rfl)
theorem dX4_isProgram_36 : decode cX4_isProgram 36 = .ok (.iload_n 1, 1) := dk_27 (dk_at dksX4_isProgram_1 14 rfl rfl)
theorem dX4_isProgram_37 : decode cX4_isProgram 37 = .ok (.ifCond .eq 18, 3) := dk_153 0 18 (dk_at dksX4_isProgram_1 15 rfl rfl)
theorem dX4_isProgram_40 : decode cX4_isProgram 40 = .ok (.aload_n 0, 1) := dk_42 (dk_at dksX4_isProgram_1 18 rfl rfl)
theorem dX4_isProgram_41 : decode cX4_isProgram 41 = .ok (.getfield 193, 3) := dk_180 0 193 (dk_at dksX4_isProgram_1 19 rfl rfl)
theorem dX4_isProgram_44 : decode cX4_isProgram 44 = .ok (.aload_n 0, 1) := dk_42 (dk_at dksX4_isProgram_1 22 rfl rfl)
theorem dX4_isProgram_45 : decode cX4_isProgram 45 = .ok (.getfield 190, 3) := dk_180 0 190 (dk_at dksX4_isProgram_2 0 rfl rfl)
theorem dX4_isProgram_48 : decode cX4_isProgram 48 = .ok (.if_icmp .ne 7, 3) := dk_160 0 7 (dk_at dksX4_isProgram_2 3 rfl rfl)
theorem dX4_isProgram_51 : decode cX4_isProgram 51 = .ok (.iconst 1, 1) := dk_4 (dk_at dksX4_isProgram_2 6 rfl rfl)
theorem dX4_isProgram_52 : decode cX4_isProgram 52 = .ok (.goto 4, 3) := dk_167 0 4 (dk_at dksX4_isProgram_2 7 rfl rfl)
theorem dX4_isProgram_55 : decode cX4_isProgram 55 = .ok (.iconst 0, 1) := dk_3 (dk_at dksX4_isProgram_2 10 rfl rfl)
theorem dX4_isProgram_56 : decode cX4_isProgram 56 = .ok (.ireturn, 1) := dk_172 (dk_at dksX4_isProgram_2 11 rfl rfl)
def dkwX4_readsCommand_2 : List UInt8 := [181, 0, 253, 42, 28, 27, 182, 1, 3, 172]
abbrev dktX4_readsCommand_2 : List UInt8 := dkwX4_readsCommand_2 ++ []
def dkwX4_readsCommand_1 : List UInt8 := [180, 0, 38, 27, 28, 79, 42, 89, 180, 0, 193, 4, 96, 181, 0, 193, 42, 89, 180, 0, 253, 4, 96]
abbrev dktX4_readsCommand_1 : List UInt8 := dkwX4_readsCommand_1 ++ dktX4_readsCommand_2
def dkwX4_readsCommand_0 : List UInt8 := [7, 42, 180, 0, 253, 104, 60, 42, 182, 0, 196, 61, 28, 184, 1, 0, 154, 0, 5, 3, 172, 42]
abbrev dktX4_readsCommand_0 : List UInt8 := dkwX4_readsCommand_0 ++ dktX4_readsCommand_1
theorem dksX4_readsCommand_0 : cX4_readsCommand.data.toList.drop 0 = dktX4_readsCommand_0 := by decide +kernel
theorem dksX4_readsCommand_1 : cX4_readsCommand.data.toList.drop 22 = dktX4_readsCommand_1 := dk_seg dksX4_readsCommand_0 22 rfl rfl
theorem dksX4_readsCommand_2 : cX4_readsCommand.data.toList.drop 45 = dktX4_readsCommand_2 := dk_seg dksX4_readsCommand_1 23 rfl rfl
theorem dX4_readsCommand_0 : decode cX4_readsCommand 0 = .ok (.iconst 4, 1) := dk_7 (dk_at dksX4_readsCommand_0 0 rfl rfl)
theorem dX4_readsCommand_1 : decode cX4_readsCommand 1 = .ok (.aload_n 0, 1) := dk_42 (dk_at dksX4_readsCommand_0 1 rfl rfl)
theorem dX4_readsCommand_2 : decode cX4_readsCommand 2 = .ok (.getfield 253, 3) := dk_180 0 253 (dk_at dksX4_readsCommand_0 2 rfl rfl)
theorem dX4_readsCommand_5 : decode cX4_readsCommand 5 = .ok (.imul, 1) := dk_104 (dk_at dksX4_readsCommand_0 5 rfl rfl)
theorem dX4_readsCommand_6 : decode cX4_readsCommand 6 = .ok (.istore_n 1, 1) := dk_60 (dk_at dksX4_readsCommand_0 6 rfl rfl)
theorem dX4_readsCommand_7 : decode cX4_readsCommand 7 = .ok (.aload_n 0, 1) := dk_42 (dk_at dksX4_readsCommand_0 7 rfl rfl)
theorem dX4_readsCommand_8 : decode cX4_readsCommand 8 = .ok (.invokevirtual 196, 3) := dk_182 0 196 (dk_at dksX4_readsCommand_0 8 rfl rfl)
theorem dX4_readsCommand_11 : decode cX4_readsCommand 11 = .ok (.istore_n 2, 1) := dk_61 (dk_at dksX4_readsCommand_0 11 rfl rfl)
theorem dX4_readsCommand_12 : decode cX4_readsCommand 12 = .ok (.iload_n 2, 1) := dk_28 (dk_at dksX4_readsCommand_0 12 rfl rfl)
theorem dX4_readsCommand_13 : decode cX4_readsCommand 13 = .ok (.invokestatic 256, 3) := dk_184 1 0 (dk_at dksX4_readsCommand_0 13 rfl rfl)
theorem dX4_readsCommand_16 : decode cX4_readsCommand 16 = .ok (.ifCond .ne 5, 3) := dk_154 0 5 (dk_at dksX4_readsCommand_0 16 rfl rfl)
theorem dX4_readsCommand_19 : decode cX4_readsCommand 19 = .ok (.iconst 0, 1) := dk_3 (dk_at dksX4_readsCommand_0 19 rfl rfl)
theorem dX4_readsCommand_20 : decode cX4_readsCommand 20 = .ok (.ireturn, 1) := dk_172 (dk_at dksX4_readsCommand_0 20 rfl rfl)
theorem dX4_readsCommand_21 : decode cX4_readsCommand 21 = .ok (.aload_n 0, 1) := dk_42 (dk_at dksX4_readsCommand_0 21 rfl rfl)
theorem dX4_readsCommand_22 : decode cX4_readsCommand 22 = .ok (.getfield 38, 3) := dk_180 0 38 (dk_at dksX4_readsCommand_1 0 rfl rfl)
theorem dX4_readsCommand_25 : decode cX4_readsCommand 25 = .ok (.iload_n 1, 1) := dk_27 (dk_at dksX4_readsCommand_1 3 rfl rfl)
theorem dX4_readsCommand_26 : decode cX4_readsCommand 26 = .ok (.iload_n 2, 1) := dk_28 (dk_at dksX4_readsCommand_1 4 rfl rfl)
theorem dX4_readsCommand_27 : decode cX4_readsCommand 27 = .ok (.iastore, 1) := dk_79 (dk_at dksX4_readsCommand_1 5 rfl rfl)
theorem dX4_readsCommand_28 : decode cX4_readsCommand 28 = .ok (.aload_n 0, 1) := dk_42 (dk_at dksX4_readsCommand_1 6 rfl rfl)
theorem dX4_readsCommand_29 : decode cX4_readsCommand 29 = .ok (.dup, 1) := dk_89 (dk_at dksX4_readsCommand_1 7 rfl rfl)
theorem dX4_readsCommand_30 : decode cX4_readsCommand 30 = .ok (.getfield 193, 3) := dk_180 0 193 (dk_at dksX4_readsCommand_1 8 rfl rfl)
theorem dX4_readsCommand_33 : decode cX4_readsCommand 33 = .ok (.iconst 1, 1) := dk_4 (dk_at dksX4_readsCommand_1 11 rfl rfl)
theorem dX4_readsCommand_34 : decode cX4_readsCommand 34 = .ok (.iadd, 1) := dk_96 (dk_at dksX4_readsCommand_1 12 rfl rfl)
theorem dX4_readsCommand_35 : decode cX4_readsCommand 35 = .ok (.putfield 193, 3) := dk_181 0 193 (dk_at dksX4_readsCommand_1 13 rfl rfl)
theorem dX4_readsCommand_38 : decode cX4_readsCommand 38 = .ok (.aload_n 0, 1) := dk_42 (dk_at dksX4_readsCommand_1 16 rfl rfl)
theorem dX4_readsCommand_39 : decode cX4_readsCommand 39 = .ok (.dup, 1) := dk_89 (dk_at dksX4_readsCommand_1 17 rfl rfl)
theorem dX4_readsCommand_40 : decode cX4_readsCommand 40 = .ok (.getfield 253, 3) := dk_180 0 253 (dk_at dksX4_readsCommand_1 18 rfl rfl)
theorem dX4_readsCommand_43 : decode cX4_readsCommand 43 = .ok (.iconst 1, 1) := dk_4 (dk_at dksX4_readsCommand_1 21 rfl rfl)
theorem dX4_readsCommand_44 : decode cX4_readsCommand 44 = .ok (.iadd, 1) := dk_96 (dk_at dksX4_readsCommand_1 22 rfl rfl)
theorem dX4_readsCommand_45 : decode cX4_readsCommand 45 = .ok (.putfield 253, 3) := dk_181 0 253 (dk_at dksX4_readsCommand_2 0 rfl rfl)
theorem dX4_readsCommand_48 : decode cX4_readsCommand 48 = .ok (.aload_n 0, 1) := dk_42 (dk_at dksX4_readsCommand_2 3 rfl rfl)
theorem dX4_readsCommand_49 : decode cX4_readsCommand 49 = .ok (.iload_n 2, 1) := dk_28 (dk_at dksX4_readsCommand_2 4 rfl rfl)
theorem dX4_readsCommand_50 : decode cX4_readsCommand 50 = .ok (.iload_n 1, 1) := dk_27 (dk_at dksX4_readsCommand_2 5 rfl rfl)
theorem dX4_readsCommand_51 : decode cX4_readsCommand 51 = .ok (.invokevirtual 259, 3) := dk_182 1 3 (dk_at dksX4_readsCommand_2 6 rfl rfl)
theorem dX4_readsCommand_54 : decode cX4_readsCommand 54 = .ok (.ireturn, 1) := dk_172 (dk_at dksX4_readsCommand_2 9 rfl rfl)
def dkwX4_sign_1 : List UInt8 := [172]
abbrev dktX4_sign_1 : List UInt8 := dkwX4_sign_1 ++ []
def dkwX4_sign_0 : List UInt8 := [42, 180, 0, 193, 42, 180, 0, 190, 162, 0, 15, 42, 180, 0, 35, 42, 180, 0, 193, 46, 167, 0, 4, 2]
abbrev dktX4_sign_0 : List UInt8 := dkwX4_sign_0 ++ dktX4_sign_1
theorem dksX4_sign_0 : cX4_sign.data.toList.drop 0 = dktX4_sign_0 := by decide +kernel
theorem dksX4_sign_1 : cX4_sign.data.toList.drop 24 = dktX4_sign_1 := dk_seg dksX4_sign_0 24 rfl rfl
theorem dX4_sign_0 : decode cX4_sign 0 = .ok (.aload_n 0, 1) := dk_42 (dk_at dksX4_sign_0 0 rfl rfl)
theorem dX4_sign_1 : decode cX4_sign 1 = .ok (.getfield 193, 3) := dk_180 0 193 (dk_at dksX4_sign_0 1 rfl rfl)
theorem dX4_sign_4 : decode cX4_sign 4 = .ok (.aload_n 0, 1) := dk_42 (dk_at dksX4_sign_0 4 rfl rfl)
theorem dX4_sign_5 : decode cX4_sign 5 = .ok (.getfield 190, 3) := dk_180 0 190 (dk_at dksX4_sign_0 5 rfl rfl)
theorem dX4_sign_8 : decode cX4_sign 8 = .ok (.if_icmp .ge 15, 3) := dk_162 0 15 (dk_at dksX4_sign_0 8 rfl rfl)
theorem dX4_sign_11 : decode cX4_sign 11 = .ok (.aload_n 0, 1) := dk_42 (dk_at dksX4_sign_0 11 rfl rfl)
theorem dX4_sign_12 : decode cX4_sign 12 = .ok (.getfield 35, 3) := dk_180 0 35 (dk_at dksX4_sign_0 12 rfl rfl)
theorem dX4_sign_15 : decode cX4_sign 15 = .ok (.aload_n 0, 1) := dk_42 (dk_at dksX4_sign_0 15 rfl rfl)
theorem dX4_sign_16 : decode cX4_sign 16 = .ok (.getfield 193, 3) := dk_180 0 193 (dk_at dksX4_sign_0 16 rfl rfl)
theorem dX4_sign_19 : decode cX4_sign 19 = .ok (.iaload, 1) := dk_46 (dk_at dksX4_sign_0 19 rfl rfl)
theorem dX4_sign_20 : decode cX4_sign 20 = .ok (.goto 4, 3) := dk_167 0 4 (dk_at dksX4_sign_0 20 rfl rfl)
theorem dX4_sign_23 : decode cX4_sign 23 = .ok (.iconst (-1), 1) := dk_2 (dk_at dksX4_sign_0 23 rfl rfl)
theorem dX4_sign_24 : decode cX4_sign 24 = .ok (.ireturn, 1) := dk_172 (dk_at dksX4_sign_1 0 rfl rfl)
def dkwX4_isFirst_1 : List UInt8 := [26, 16, 108, 159, 0, 9, 26, 16, 115, 160, 0, 7, 4, 167, 0, 4, 3, 172]
abbrev dktX4_isFirst_1 : List UInt8 := dkwX4_isFirst_1 ++ []
def dkwX4_isFirst_0 : List UInt8 := [26, 16, 112, 159, 0, 33, 26, 16, 116, 159, 0, 27, 26, 16, 99, 159, 0, 21, 26, 16, 109, 159, 0, 15]
abbrev dktX4_isFirst_0 : List UInt8 := dkwX4_isFirst_0 ++ dktX4_isFirst_1
theorem dksX4_isFirst_0 : cX4_isFirst.data.toList.drop 0 = dktX4_isFirst_0 := by decide +kernel
theorem dksX4_isFirst_1 : cX4_isFirst.data.toList.drop 24 = dktX4_isFirst_1 := dk_seg dksX4_isFirst_0 24 rfl rfl
theorem dX4_isFirst_0 : decode cX4_isFirst 0 = .ok (.iload_n 0, 1) := dk_26 (dk_at dksX4_isFirst_0 0 rfl rfl)
theorem dX4_isFirst_1 : decode cX4_isFirst 1 = .ok (.bipush 112, 2) := dk_16 112 (dk_at dksX4_isFirst_0 1 rfl rfl)
theorem dX4_isFirst_3 : decode cX4_isFirst 3 = .ok (.if_icmp .eq 33, 3) := dk_159 0 33 (dk_at dksX4_isFirst_0 3 rfl rfl)
theorem dX4_isFirst_6 : decode cX4_isFirst 6 = .ok (.iload_n 0, 1) := dk_26 (dk_at dksX4_isFirst_0 6 rfl rfl)
theorem dX4_isFirst_7 : decode cX4_isFirst 7 = .ok (.bipush 116, 2) := dk_16 116 (dk_at dksX4_isFirst_0 7 rfl rfl)
theorem dX4_isFirst_9 : decode cX4_isFirst 9 = .ok (.if_icmp .eq 27, 3) := dk_159 0 27 (dk_at dksX4_isFirst_0 9 rfl rfl)
theorem dX4_isFirst_12 : decode cX4_isFirst 12 = .ok (.iload_n 0, 1) := dk_26 (dk_at dksX4_isFirst_0 12 rfl rfl)
theorem dX4_isFirst_13 : decode cX4_isFirst 13 = .ok (.bipush 99, 2) := dk_16 99 (dk_at dksX4_isFirst_0 13 rfl rfl)
theorem dX4_isFirst_15 : decode cX4_isFirst 15 = .ok (.if_icmp .eq 21, 3) := dk_159 0 21 (dk_at dksX4_isFirst_0 15 rfl rfl)
theorem dX4_isFirst_18 : decode cX4_isFirst 18 = .ok (.iload_n 0, 1) := dk_26 (dk_at dksX4_isFirst_0 18 rfl rfl)
theorem dX4_isFirst_19 : decode cX4_isFirst 19 = .ok (.bipush 109, 2) := dk_16 109 (dk_at dksX4_isFirst_0 19 rfl rfl)
theorem dX4_isFirst_21 : decode cX4_isFirst 21 = .ok (.if_icmp .eq 15, 3) := dk_159 0 15 (dk_at dksX4_isFirst_0 21 rfl rfl)
theorem dX4_isFirst_24 : decode cX4_isFirst 24 = .ok (.iload_n 0, 1) := dk_26 (dk_at dksX4_isFirst_1 0 rfl rfl)
theorem dX4_isFirst_25 : decode cX4_isFirst 25 = .ok (.bipush 108, 2) := dk_16 108 (dk_at dksX4_isFirst_1 1 rfl rfl)
theorem dX4_isFirst_27 : decode cX4_isFirst 27 = .ok (.if_icmp .eq 9, 3) := dk_159 0 9 (dk_at dksX4_isFirst_1 3 rfl rfl)
theorem dX4_isFirst_30 : decode cX4_isFirst 30 = .ok (.iload_n 0, 1) := dk_26 (dk_at dksX4_isFirst_1 6 rfl rfl)
theorem dX4_isFirst_31 : decode cX4_isFirst 31 = .ok (.bipush 115, 2) := dk_16 115 (dk_at dksX4_isFirst_1 7 rfl rfl)
theorem dX4_isFirst_33 : decode cX4_isFirst 33 = .ok (.if_icmp .ne 7, 3) := dk_160 0 7 (dk_at dksX4_isFirst_1 9 rfl rfl)
theorem dX4_isFirst_36 : decode cX4_isFirst 36 = .ok (.iconst 1, 1) := dk_4 (dk_at dksX4_isFirst_1 12 rfl rfl)
theorem dX4_isFirst_37 : decode cX4_isFirst 37 = .ok (.goto 4, 3) := dk_167 0 4 (dk_at dksX4_isFirst_1 13 rfl rfl)
theorem dX4_isFirst_40 : decode cX4_isFirst 40 = .ok (.iconst 0, 1) := dk_3 (dk_at dksX4_isFirst_1 16 rfl rfl)
theorem dX4_isFirst_41 : decode cX4_isFirst 41 = .ok (.ireturn, 1) := dk_172 (dk_at dksX4_isFirst_1 17 rfl rfl)
def dkwX4_readsRest_6 : List UInt8 := [182, 0, 218, 172]
abbrev dktX4_readsRest_6 : List UInt8 := dkwX4_readsRest_6 ++ []
def dkwX4_readsRest_5 : List UInt8 := [153, 0, 18, 42, 6, 28, 4, 96, 182, 0, 213, 153, 0, 7, 4, 167, 0, 4, 3, 172, 42, 18, 251]
abbrev dktX4_readsRest_5 : List UInt8 := dkwX4_readsRest_5 ++ dktX4_readsRest_6
def dkwX4_readsRest_4 : List UInt8 := [28, 182, 0, 240, 172, 42, 28, 182, 0, 243, 172, 42, 28, 182, 0, 246, 172, 42, 18, 249, 182, 0, 218]
abbrev dktX4_readsRest_4 : List UInt8 := dkwX4_readsRest_4 ++ dktX4_readsRest_5
def dkwX4_readsRest_3 : List UInt8 := [182, 0, 208, 153, 0, 18, 42, 4, 28, 6, 96, 182, 0, 213, 153, 0, 7, 4, 167, 0, 4, 3, 172, 42]
abbrev dktX4_readsRest_3 : List UInt8 := dkwX4_readsRest_3 ++ dktX4_readsRest_4
def dkwX4_readsRest_2 : List UInt8 := [42, 18, 238, 182, 0, 218, 153, 0, 37, 42, 16, 44, 28, 182, 0, 222, 153, 0, 27, 42, 16, 44]
abbrev dktX4_readsRest_2 : List UInt8 := dkwX4_readsRest_2 ++ dktX4_readsRest_3
def dkwX4_readsRest_1 : List UInt8 := [171, 0, 0, 0, 0, 0, 140, 0, 0, 0, 5, 0, 0, 0, 99, 0, 0, 0, 102, 0, 0, 0, 108, 0, 0, 0, 114, 0, 0, 0, 109, 0, 0, 0, 108, 0, 0, 0, 112, 0, 0, 0, 51, 0, 0, 0, 116, 0, 0, 0, 96]
abbrev dktX4_readsRest_1 : List UInt8 := dkwX4_readsRest_1 ++ dktX4_readsRest_2
def dkwX4_readsRest_0 : List UInt8 := [27]
abbrev dktX4_readsRest_0 : List UInt8 := dkwX4_readsRest_0 ++ dktX4_readsRest_1
theorem dksX4_readsRest_0 : cX4_readsRest.data.toList.drop 0 = dktX4_readsRest_0 := by decide +kernel
theorem dksX4_readsRest_1 : cX4_readsRest.data.toList.drop 1 = dktX4_readsRest_1 := dk_seg dksX4_readsRest_0 1 rfl rfl
theorem dksX4_readsRest_2 : cX4_readsRest.data.toList.drop 52 = dktX4_readsRest_2 := dk_seg dksX4_readsRest_1 51 rfl rfl
theorem dksX4_readsRest_3 : cX4_readsRest.data.toList.drop 74 = dktX4_readsRest_3 := dk_seg dksX4_readsRest_2 22 rfl rfl
theorem dksX4_readsRest_4 : cX4_readsRest.data.toList.drop 98 = dktX4_readsRest_4 := dk_seg dksX4_readsRest_3 24 rfl rfl
theorem dksX4_readsRest_5 : cX4_readsRest.data.toList.drop 121 = dktX4_readsRest_5 := dk_seg dksX4_readsRest_4 23 rfl rfl
theorem dksX4_readsRest_6 : cX4_readsRest.data.toList.drop 144 = dktX4_readsRest_6 := dk_seg dksX4_readsRest_5 23 rfl rfl
theorem dX4_readsRest_0 : decode cX4_readsRest 0 = .ok (.iload_n 1, 1) := dk_27 (dk_at dksX4_readsRest_0 0 rfl rfl)
theorem dX4_readsRest_1 : decode cX4_readsRest 1 = .ok (.lookupswitch 140 #[(99, 102), (108, 114), (109, 108), (112, 51), (116, 96)], 51) := by decide +kernel
theorem dX4_readsRest_52 : decode cX4_readsRest 52 = .ok (.aload_n 0, 1) := dk_42 (dk_at dksX4_readsRest_2 0 rfl rfl)
theorem dX4_readsRest_53 : decode cX4_readsRest 53 = .ok (.ldc 238, 2) := dk_18 238 (dk_at dksX4_readsRest_2 1 rfl rfl)
theorem dX4_readsRest_55 : decode cX4_readsRest 55 = .ok (.invokevirtual 218, 3) := dk_182 0 218 (dk_at dksX4_readsRest_2 3 rfl rfl)
theorem dX4_readsRest_58 : decode cX4_readsRest 58 = .ok (.ifCond .eq 37, 3) := dk_153 0 37 (dk_at dksX4_readsRest_2 6 rfl rfl)
theorem dX4_readsRest_61 : decode cX4_readsRest 61 = .ok (.aload_n 0, 1) := dk_42 (dk_at dksX4_readsRest_2 9 rfl rfl)
theorem dX4_readsRest_62 : decode cX4_readsRest 62 = .ok (.bipush 44, 2) := dk_16 44 (dk_at dksX4_readsRest_2 10 rfl rfl)
theorem dX4_readsRest_64 : decode cX4_readsRest 64 = .ok (.iload_n 2, 1) := dk_28 (dk_at dksX4_readsRest_2 12 rfl rfl)
theorem dX4_readsRest_65 : decode cX4_readsRest 65 = .ok (.invokevirtual 222, 3) := dk_182 0 222 (dk_at dksX4_readsRest_2 13 rfl rfl)
theorem dX4_readsRest_68 : decode cX4_readsRest 68 = .ok (.ifCond .eq 27, 3) := dk_153 0 27 (dk_at dksX4_readsRest_2 16 rfl rfl)
theorem dX4_readsRest_71 : decode cX4_readsRest 71 = .ok (.aload_n 0, 1) := dk_42 (dk_at dksX4_readsRest_2 19 rfl rfl)
theorem dX4_readsRest_72 : decode cX4_readsRest 72 = .ok (.bipush 44, 2) := dk_16 44 (dk_at dksX4_readsRest_2 20 rfl rfl)
theorem dX4_readsRest_74 : decode cX4_readsRest 74 = .ok (.invokevirtual 208, 3) := dk_182 0 208 (dk_at dksX4_readsRest_3 0 rfl rfl)
theorem dX4_readsRest_77 : decode cX4_readsRest 77 = .ok (.ifCond .eq 18, 3) := dk_153 0 18 (dk_at dksX4_readsRest_3 3 rfl rfl)
theorem dX4_readsRest_80 : decode cX4_readsRest 80 = .ok (.aload_n 0, 1) := dk_42 (dk_at dksX4_readsRest_3 6 rfl rfl)
theorem dX4_readsRest_81 : decode cX4_readsRest 81 = .ok (.iconst 1, 1) := dk_4 (dk_at dksX4_readsRest_3 7 rfl rfl)
theorem dX4_readsRest_82 : decode cX4_readsRest 82 = .ok (.iload_n 2, 1) := dk_28 (dk_at dksX4_readsRest_3 8 rfl rfl)
theorem dX4_readsRest_83 : decode cX4_readsRest 83 = .ok (.iconst 3, 1) := dk_6 (dk_at dksX4_readsRest_3 9 rfl rfl)
theorem dX4_readsRest_84 : decode cX4_readsRest 84 = .ok (.iadd, 1) := dk_96 (dk_at dksX4_readsRest_3 10 rfl rfl)
theorem dX4_readsRest_85 : decode cX4_readsRest 85 = .ok (.invokevirtual 213, 3) := dk_182 0 213 (dk_at dksX4_readsRest_3 11 rfl rfl)
theorem dX4_readsRest_88 : decode cX4_readsRest 88 = .ok (.ifCond .eq 7, 3) := dk_153 0 7 (dk_at dksX4_readsRest_3 14 rfl rfl)
theorem dX4_readsRest_91 : decode cX4_readsRest 91 = .ok (.iconst 1, 1) := dk_4 (dk_at dksX4_readsRest_3 17 rfl rfl)
theorem dX4_readsRest_92 : decode cX4_readsRest 92 = .ok (.goto 4, 3) := dk_167 0 4 (dk_at dksX4_readsRest_3 18 rfl rfl)
theorem dX4_readsRest_95 : decode cX4_readsRest 95 = .ok (.iconst 0, 1) := dk_3 (dk_at dksX4_readsRest_3 21 rfl rfl)
theorem dX4_readsRest_96 : decode cX4_readsRest 96 = .ok (.ireturn, 1) := dk_172 (dk_at dksX4_readsRest_3 22 rfl rfl)
theorem dX4_readsRest_97 : decode cX4_readsRest 97 = .ok (.aload_n 0, 1) := dk_42 (dk_at dksX4_readsRest_3 23 rfl rfl)
theorem dX4_readsRest_98 : decode cX4_readsRest 98 = .ok (.iload_n 2, 1) := dk_28 (dk_at dksX4_readsRest_4 0 rfl rfl)
theorem dX4_readsRest_99 : decode cX4_readsRest 99 = .ok (.invokevirtual 240, 3) := dk_182 0 240 (dk_at dksX4_readsRest_4 1 rfl rfl)
theorem dX4_readsRest_102 : decode cX4_readsRest 102 = .ok (.ireturn, 1) := dk_172 (dk_at dksX4_readsRest_4 4 rfl rfl)
theorem dX4_readsRest_103 : decode cX4_readsRest 103 = .ok (.aload_n 0, 1) := dk_42 (dk_at dksX4_readsRest_4 5 rfl rfl)
theorem dX4_readsRest_104 : decode cX4_readsRest 104 = .ok (.iload_n 2, 1) := dk_28 (dk_at dksX4_readsRest_4 6 rfl rfl)
theorem dX4_readsRest_105 : decode cX4_readsRest 105 = .ok (.invokevirtual 243, 3) := dk_182 0 243 (dk_at dksX4_readsRest_4 7 rfl rfl)
theorem dX4_readsRest_108 : decode cX4_readsRest 108 = .ok (.ireturn, 1) := dk_172 (dk_at dksX4_readsRest_4 10 rfl rfl)
theorem dX4_readsRest_109 : decode cX4_readsRest 109 = .ok (.aload_n 0, 1) := dk_42 (dk_at dksX4_readsRest_4 11 rfl rfl)
theorem dX4_readsRest_110 : decode cX4_readsRest 110 = .ok (.iload_n 2, 1) := dk_28 (dk_at dksX4_readsRest_4 12 rfl rfl)
theorem dX4_readsRest_111 : decode cX4_readsRest 111 = .ok (.invokevirtual 246, 3) := dk_182 0 246 (dk_at dksX4_readsRest_4 13 rfl rfl)
theorem dX4_readsRest_114 : decode cX4_readsRest 114 = .ok (.ireturn, 1) := dk_172 (dk_at dksX4_readsRest_4 16 rfl rfl)
theorem dX4_readsRest_115 : decode cX4_readsRest 115 = .ok (.aload_n 0, 1) := dk_42 (dk_at dksX4_readsRest_4 17 rfl rfl)
theorem dX4_readsRest_116 : decode cX4_readsRest 116 = .ok (.ldc 249, 2) := dk_18 249 (dk_at dksX4_readsRest_4 18 rfl rfl)
theorem dX4_readsRest_118 : decode cX4_readsRest 118 = .ok (.invokevirtual 218, 3) := dk_182 0 218 (dk_at dksX4_readsRest_4 20 rfl rfl)
theorem dX4_readsRest_121 : decode cX4_readsRest 121 = .ok (.ifCond .eq 18, 3) := dk_153 0 18 (dk_at dksX4_readsRest_5 0 rfl rfl)
theorem dX4_readsRest_124 : decode cX4_readsRest 124 = .ok (.aload_n 0, 1) := dk_42 (dk_at dksX4_readsRest_5 3 rfl rfl)
theorem dX4_readsRest_125 : decode cX4_readsRest 125 = .ok (.iconst 3, 1) := dk_6 (dk_at dksX4_readsRest_5 4 rfl rfl)
theorem dX4_readsRest_126 : decode cX4_readsRest 126 = .ok (.iload_n 2, 1) := dk_28 (dk_at dksX4_readsRest_5 5 rfl rfl)
theorem dX4_readsRest_127 : decode cX4_readsRest 127 = .ok (.iconst 1, 1) := dk_4 (dk_at dksX4_readsRest_5 6 rfl rfl)
theorem dX4_readsRest_128 : decode cX4_readsRest 128 = .ok (.iadd, 1) := dk_96 (dk_at dksX4_readsRest_5 7 rfl rfl)
theorem dX4_readsRest_129 : decode cX4_readsRest 129 = .ok (.invokevirtual 213, 3) := dk_182 0 213 (dk_at dksX4_readsRest_5 8 rfl rfl)
theorem dX4_readsRest_132 : decode cX4_readsRest 132 = .ok (.ifCond .eq 7, 3) := dk_153 0 7 (dk_at dksX4_readsRest_5 11 rfl rfl)
theorem dX4_readsRest_135 : decode cX4_readsRest 135 = .ok (.iconst 1, 1) := dk_4 (dk_at dksX4_readsRest_5 14 rfl rfl)
theorem dX4_readsRest_136 : decode cX4_readsRest 136 = .ok (.goto 4, 3) := dk_167 0 4 (dk_at dksX4_readsRest_5 15 rfl rfl)
theorem dX4_readsRest_139 : decode cX4_readsRest 139 = .ok (.iconst 0, 1) := dk_3 (dk_at dksX4_readsRest_5 18 rfl rfl)
theorem dX4_readsRest_140 : decode cX4_readsRest 140 = .ok (.ireturn, 1) := dk_172 (dk_at dksX4_readsRest_5 19 rfl rfl)
theorem dX4_readsRest_141 : decode cX4_readsRest 141 = .ok (.aload_n 0, 1) := dk_42 (dk_at dksX4_readsRest_5 20 rfl rfl)
theorem dX4_readsRest_142 : decode cX4_readsRest 142 = .ok (.ldc 251, 2) := dk_18 251 (dk_at dksX4_readsRest_5 21 rfl rfl)
theorem dX4_readsRest_144 : decode cX4_readsRest 144 = .ok (.invokevirtual 218, 3) := dk_182 0 218 (dk_at dksX4_readsRest_6 0 rfl rfl)
theorem dX4_readsRest_147 : decode cX4_readsRest 147 = .ok (.ireturn, 1) := dk_172 (dk_at dksX4_readsRest_6 3 rfl rfl)
def dkwX4_isWord_1 : List UInt8 := [132, 2, 1, 167, 255, 231, 4, 172]
abbrev dktX4_isWord_1 : List UInt8 := dkwX4_isWord_1 ++ []
def dkwX4_isWord_0 : List UInt8 := [3, 61, 28, 43, 182, 0, 199, 162, 0, 23, 42, 43, 28, 182, 0, 204, 182, 0, 208, 154, 0, 5, 3, 172]
abbrev dktX4_isWord_0 : List UInt8 := dkwX4_isWord_0 ++ dktX4_isWord_1
theorem dksX4_isWord_0 : cX4_isWord.data.toList.drop 0 = dktX4_isWord_0 := by decide +kernel
theorem dksX4_isWord_1 : cX4_isWord.data.toList.drop 24 = dktX4_isWord_1 := dk_seg dksX4_isWord_0 24 rfl rfl
theorem dX4_isWord_0 : decode cX4_isWord 0 = .ok (.iconst 0, 1) := dk_3 (dk_at dksX4_isWord_0 0 rfl rfl)
theorem dX4_isWord_1 : decode cX4_isWord 1 = .ok (.istore_n 2, 1) := dk_61 (dk_at dksX4_isWord_0 1 rfl rfl)
theorem dX4_isWord_2 : decode cX4_isWord 2 = .ok (.iload_n 2, 1) := dk_28 (dk_at dksX4_isWord_0 2 rfl rfl)
theorem dX4_isWord_3 : decode cX4_isWord 3 = .ok (.aload_n 1, 1) := dk_43 (dk_at dksX4_isWord_0 3 rfl rfl)
theorem dX4_isWord_4 : decode cX4_isWord 4 = .ok (.invokevirtual 199, 3) := dk_182 0 199 (dk_at dksX4_isWord_0 4 rfl rfl)
theorem dX4_isWord_7 : decode cX4_isWord 7 = .ok (.if_icmp .ge 23, 3) := dk_162 0 23 (dk_at dksX4_isWord_0 7 rfl rfl)
theorem dX4_isWord_10 : decode cX4_isWord 10 = .ok (.aload_n 0, 1) := dk_42 (dk_at dksX4_isWord_0 10 rfl rfl)
theorem dX4_isWord_11 : decode cX4_isWord 11 = .ok (.aload_n 1, 1) := dk_43 (dk_at dksX4_isWord_0 11 rfl rfl)
theorem dX4_isWord_12 : decode cX4_isWord 12 = .ok (.iload_n 2, 1) := dk_28 (dk_at dksX4_isWord_0 12 rfl rfl)
theorem dX4_isWord_13 : decode cX4_isWord 13 = .ok (.invokevirtual 204, 3) := dk_182 0 204 (dk_at dksX4_isWord_0 13 rfl rfl)
theorem dX4_isWord_16 : decode cX4_isWord 16 = .ok (.invokevirtual 208, 3) := dk_182 0 208 (dk_at dksX4_isWord_0 16 rfl rfl)
theorem dX4_isWord_19 : decode cX4_isWord 19 = .ok (.ifCond .ne 5, 3) := dk_154 0 5 (dk_at dksX4_isWord_0 19 rfl rfl)
theorem dX4_isWord_22 : decode cX4_isWord 22 = .ok (.iconst 0, 1) := dk_3 (dk_at dksX4_isWord_0 22 rfl rfl)
theorem dX4_isWord_23 : decode cX4_isWord 23 = .ok (.ireturn, 1) := dk_172 (dk_at dksX4_isWord_0 23 rfl rfl)
theorem dX4_isWord_24 : decode cX4_isWord 24 = .ok (.iinc 2 1, 3) := dk_132 2 1 (dk_at dksX4_isWord_1 0 rfl rfl)
theorem dX4_isWord_27 : decode cX4_isWord 27 = .ok (.goto (-25), 3) := dk_167 255 231 (dk_at dksX4_isWord_1 3 rfl rfl)
theorem dX4_isWord_30 : decode cX4_isWord 30 = .ok (.iconst 1, 1) := dk_4 (dk_at dksX4_isWord_1 6 rfl rfl)
theorem dX4_isWord_31 : decode cX4_isWord 31 = .ok (.ireturn, 1) := dk_172 (dk_at dksX4_isWord_1 7 rfl rfl)
def dkwX4_isSign_1 : List UInt8 := [167, 0, 4, 3, 96, 181, 0, 193, 28, 172]
abbrev dktX4_isSign_1 : List UInt8 := dkwX4_isSign_1 ++ []
def dkwX4_isSign_0 : List UInt8 := [42, 182, 0, 196, 27, 160, 0, 7, 4, 167, 0, 4, 3, 61, 42, 89, 180, 0, 193, 28, 153, 0, 7, 4]
abbrev dktX4_isSign_0 : List UInt8 := dkwX4_isSign_0 ++ dktX4_isSign_1
theorem dksX4_isSign_0 : cX4_isSign.data.toList.drop 0 = dktX4_isSign_0 := by decide +kernel
theorem dksX4_isSign_1 : cX4_isSign.data.toList.drop 24 = dktX4_isSign_1 := dk_seg dksX4_isSign_0 24 rfl rfl
theorem dX4_isSign_0 : decode cX4_isSign 0 = .ok (.aload_n 0, 1) := dk_42 (dk_at dksX4_isSign_0 0 rfl rfl)
theorem dX4_isSign_1 : decode cX4_isSign 1 = .ok (.invokevirtual 196, 3) := dk_182 0 196 (dk_at dksX4_isSign_0 1 rfl rfl)
theorem dX4_isSign_4 : decode cX4_isSign 4 = .ok (.iload_n 1, 1) := dk_27 (dk_at dksX4_isSign_0 4 rfl rfl)
theorem dX4_isSign_5 : decode cX4_isSign 5 = .ok (.if_icmp .ne 7, 3) := dk_160 0 7 (dk_at dksX4_isSign_0 5 rfl rfl)
theorem dX4_isSign_8 : decode cX4_isSign 8 = .ok (.iconst 1, 1) := dk_4 (dk_at dksX4_isSign_0 8 rfl rfl)
theorem dX4_isSign_9 : decode cX4_isSign 9 = .ok (.goto 4, 3) := dk_167 0 4 (dk_at dksX4_isSign_0 9 rfl rfl)
theorem dX4_isSign_12 : decode cX4_isSign 12 = .ok (.iconst 0, 1) := dk_3 (dk_at dksX4_isSign_0 12 rfl rfl)
theorem dX4_isSign_13 : decode cX4_isSign 13 = .ok (.istore_n 2, 1) := dk_61 (dk_at dksX4_isSign_0 13 rfl rfl)
theorem dX4_isSign_14 : decode cX4_isSign 14 = .ok (.aload_n 0, 1) := dk_42 (dk_at dksX4_isSign_0 14 rfl rfl)
theorem dX4_isSign_15 : decode cX4_isSign 15 = .ok (.dup, 1) := dk_89 (dk_at dksX4_isSign_0 15 rfl rfl)
theorem dX4_isSign_16 : decode cX4_isSign 16 = .ok (.getfield 193, 3) := dk_180 0 193 (dk_at dksX4_isSign_0 16 rfl rfl)
theorem dX4_isSign_19 : decode cX4_isSign 19 = .ok (.iload_n 2, 1) := dk_28 (dk_at dksX4_isSign_0 19 rfl rfl)
theorem dX4_isSign_20 : decode cX4_isSign 20 = .ok (.ifCond .eq 7, 3) := dk_153 0 7 (dk_at dksX4_isSign_0 20 rfl rfl)
theorem dX4_isSign_23 : decode cX4_isSign 23 = .ok (.iconst 1, 1) := dk_4 (dk_at dksX4_isSign_0 23 rfl rfl)
theorem dX4_isSign_24 : decode cX4_isSign 24 = .ok (.goto 4, 3) := dk_167 0 4 (dk_at dksX4_isSign_1 0 rfl rfl)
theorem dX4_isSign_27 : decode cX4_isSign 27 = .ok (.iconst 0, 1) := dk_3 (dk_at dksX4_isSign_1 3 rfl rfl)
theorem dX4_isSign_28 : decode cX4_isSign 28 = .ok (.iadd, 1) := dk_96 (dk_at dksX4_isSign_1 4 rfl rfl)
theorem dX4_isSign_29 : decode cX4_isSign 29 = .ok (.putfield 193, 3) := dk_181 0 193 (dk_at dksX4_isSign_1 5 rfl rfl)
theorem dX4_isSign_32 : decode cX4_isSign 32 = .ok (.iload_n 2, 1) := dk_28 (dk_at dksX4_isSign_1 8 rfl rfl)
theorem dX4_isSign_33 : decode cX4_isSign 33 = .ok (.ireturn, 1) := dk_172 (dk_at dksX4_isSign_1 9 rfl rfl)
def dkwX4_isPair_1 : List UInt8 := [182, 0, 213, 153, 0, 7, 4, 167, 0, 4, 3, 172]
abbrev dktX4_isPair_1 : List UInt8 := dkwX4_isPair_1 ++ []
def dkwX4_isPair_0 : List UInt8 := [42, 6, 28, 4, 96, 182, 0, 213, 153, 0, 26, 42, 27, 182, 0, 208, 153, 0, 18, 42, 6, 28, 5, 96]
abbrev dktX4_isPair_0 : List UInt8 := dkwX4_isPair_0 ++ dktX4_isPair_1
theorem dksX4_isPair_0 : cX4_isPair.data.toList.drop 0 = dktX4_isPair_0 := by decide +kernel
theorem dksX4_isPair_1 : cX4_isPair.data.toList.drop 24 = dktX4_isPair_1 := dk_seg dksX4_isPair_0 24 rfl rfl
theorem dX4_isPair_0 : decode cX4_isPair 0 = .ok (.aload_n 0, 1) := dk_42 (dk_at dksX4_isPair_0 0 rfl rfl)
theorem dX4_isPair_1 : decode cX4_isPair 1 = .ok (.iconst 3, 1) := dk_6 (dk_at dksX4_isPair_0 1 rfl rfl)
theorem dX4_isPair_2 : decode cX4_isPair 2 = .ok (.iload_n 2, 1) := dk_28 (dk_at dksX4_isPair_0 2 rfl rfl)
theorem dX4_isPair_3 : decode cX4_isPair 3 = .ok (.iconst 1, 1) := dk_4 (dk_at dksX4_isPair_0 3 rfl rfl)
theorem dX4_isPair_4 : decode cX4_isPair 4 = .ok (.iadd, 1) := dk_96 (dk_at dksX4_isPair_0 4 rfl rfl)
theorem dX4_isPair_5 : decode cX4_isPair 5 = .ok (.invokevirtual 213, 3) := dk_182 0 213 (dk_at dksX4_isPair_0 5 rfl rfl)
theorem dX4_isPair_8 : decode cX4_isPair 8 = .ok (.ifCond .eq 26, 3) := dk_153 0 26 (dk_at dksX4_isPair_0 8 rfl rfl)
theorem dX4_isPair_11 : decode cX4_isPair 11 = .ok (.aload_n 0, 1) := dk_42 (dk_at dksX4_isPair_0 11 rfl rfl)
theorem dX4_isPair_12 : decode cX4_isPair 12 = .ok (.iload_n 1, 1) := dk_27 (dk_at dksX4_isPair_0 12 rfl rfl)
theorem dX4_isPair_13 : decode cX4_isPair 13 = .ok (.invokevirtual 208, 3) := dk_182 0 208 (dk_at dksX4_isPair_0 13 rfl rfl)
theorem dX4_isPair_16 : decode cX4_isPair 16 = .ok (.ifCond .eq 18, 3) := dk_153 0 18 (dk_at dksX4_isPair_0 16 rfl rfl)
theorem dX4_isPair_19 : decode cX4_isPair 19 = .ok (.aload_n 0, 1) := dk_42 (dk_at dksX4_isPair_0 19 rfl rfl)
theorem dX4_isPair_20 : decode cX4_isPair 20 = .ok (.iconst 3, 1) := dk_6 (dk_at dksX4_isPair_0 20 rfl rfl)
theorem dX4_isPair_21 : decode cX4_isPair 21 = .ok (.iload_n 2, 1) := dk_28 (dk_at dksX4_isPair_0 21 rfl rfl)
theorem dX4_isPair_22 : decode cX4_isPair 22 = .ok (.iconst 2, 1) := dk_5 (dk_at dksX4_isPair_0 22 rfl rfl)
theorem dX4_isPair_23 : decode cX4_isPair 23 = .ok (.iadd, 1) := dk_96 (dk_at dksX4_isPair_0 23 rfl rfl)
theorem dX4_isPair_24 : decode cX4_isPair 24 = .ok (.invokevirtual 213, 3) := dk_182 0 213 (dk_at dksX4_isPair_1 0 rfl rfl)
theorem dX4_isPair_27 : decode cX4_isPair 27 = .ok (.ifCond .eq 7, 3) := dk_153 0 7 (dk_at dksX4_isPair_1 3 rfl rfl)
theorem dX4_isPair_30 : decode cX4_isPair 30 = .ok (.iconst 1, 1) := dk_4 (dk_at dksX4_isPair_1 6 rfl rfl)
theorem dX4_isPair_31 : decode cX4_isPair 31 = .ok (.goto 4, 3) := dk_167 0 4 (dk_at dksX4_isPair_1 7 rfl rfl)
theorem dX4_isPair_34 : decode cX4_isPair 34 = .ok (.iconst 0, 1) := dk_3 (dk_at dksX4_isPair_1 10 rfl rfl)
theorem dX4_isPair_35 : decode cX4_isPair 35 = .ok (.ireturn, 1) := dk_172 (dk_at dksX4_isPair_1 11 rfl rfl)
def dkwX4_isNumber_3 : List UInt8 := [167, 0, 4, 3, 172]
abbrev dktX4_isNumber_3 : List UInt8 := dkwX4_isNumber_3 ++ []
def dkwX4_isNumber_2 : List UInt8 := [181, 0, 193, 132, 4, 1, 167, 255, 210, 42, 180, 0, 38, 28, 29, 79, 21, 4, 158, 0, 7, 4]
abbrev dktX4_isNumber_2 : List UInt8 := dkwX4_isNumber_2 ++ dktX4_isNumber_3
def dkwX4_isNumber_1 : List UInt8 := [153, 0, 32, 16, 10, 29, 104, 42, 182, 0, 196, 96, 16, 48, 100, 62, 42, 89, 180, 0, 193, 4, 96]
abbrev dktX4_isNumber_1 : List UInt8 := dkwX4_isNumber_1 ++ dktX4_isNumber_2
def dkwX4_isNumber_0 : List UInt8 := [3, 62, 3, 54, 4, 21, 4, 27, 162, 0, 46, 42, 182, 0, 196, 16, 48, 16, 57, 184, 0, 51]
abbrev dktX4_isNumber_0 : List UInt8 := dkwX4_isNumber_0 ++ dktX4_isNumber_1
theorem dksX4_isNumber_0 : cX4_isNumber.data.toList.drop 0 = dktX4_isNumber_0 := by decide +kernel
theorem dksX4_isNumber_1 : cX4_isNumber.data.toList.drop 22 = dktX4_isNumber_1 := dk_seg dksX4_isNumber_0 22 rfl rfl
theorem dksX4_isNumber_2 : cX4_isNumber.data.toList.drop 45 = dktX4_isNumber_2 := dk_seg dksX4_isNumber_1 23 rfl rfl
theorem dksX4_isNumber_3 : cX4_isNumber.data.toList.drop 67 = dktX4_isNumber_3 := dk_seg dksX4_isNumber_2 22 rfl rfl
theorem dX4_isNumber_0 : decode cX4_isNumber 0 = .ok (.iconst 0, 1) := dk_3 (dk_at dksX4_isNumber_0 0 rfl rfl)
theorem dX4_isNumber_1 : decode cX4_isNumber 1 = .ok (.istore_n 3, 1) := dk_62 (dk_at dksX4_isNumber_0 1 rfl rfl)
theorem dX4_isNumber_2 : decode cX4_isNumber 2 = .ok (.iconst 0, 1) := dk_3 (dk_at dksX4_isNumber_0 2 rfl rfl)
theorem dX4_isNumber_3 : decode cX4_isNumber 3 = .ok (.istore 4, 2) := dk_54 4 (dk_at dksX4_isNumber_0 3 rfl rfl)
theorem dX4_isNumber_5 : decode cX4_isNumber 5 = .ok (.iload 4, 2) := dk_21 4 (dk_at dksX4_isNumber_0 5 rfl rfl)
theorem dX4_isNumber_7 : decode cX4_isNumber 7 = .ok (.iload_n 1, 1) := dk_27 (dk_at dksX4_isNumber_0 7 rfl rfl)
theorem dX4_isNumber_8 : decode cX4_isNumber 8 = .ok (.if_icmp .ge 46, 3) := dk_162 0 46 (dk_at dksX4_isNumber_0 8 rfl rfl)
theorem dX4_isNumber_11 : decode cX4_isNumber 11 = .ok (.aload_n 0, 1) := dk_42 (dk_at dksX4_isNumber_0 11 rfl rfl)
theorem dX4_isNumber_12 : decode cX4_isNumber 12 = .ok (.invokevirtual 196, 3) := dk_182 0 196 (dk_at dksX4_isNumber_0 12 rfl rfl)
theorem dX4_isNumber_15 : decode cX4_isNumber 15 = .ok (.bipush 48, 2) := dk_16 48 (dk_at dksX4_isNumber_0 15 rfl rfl)
theorem dX4_isNumber_17 : decode cX4_isNumber 17 = .ok (.bipush 57, 2) := dk_16 57 (dk_at dksX4_isNumber_0 17 rfl rfl)
theorem dX4_isNumber_19 : decode cX4_isNumber 19 = .ok (.invokestatic 51, 3) := dk_184 0 51 (dk_at dksX4_isNumber_0 19 rfl rfl)
theorem dX4_isNumber_22 : decode cX4_isNumber 22 = .ok (.ifCond .eq 32, 3) := dk_153 0 32 (dk_at dksX4_isNumber_1 0 rfl rfl)
theorem dX4_isNumber_25 : decode cX4_isNumber 25 = .ok (.bipush 10, 2) := dk_16 10 (dk_at dksX4_isNumber_1 3 rfl rfl)
theorem dX4_isNumber_27 : decode cX4_isNumber 27 = .ok (.iload_n 3, 1) := dk_29 (dk_at dksX4_isNumber_1 5 rfl rfl)
theorem dX4_isNumber_28 : decode cX4_isNumber 28 = .ok (.imul, 1) := dk_104 (dk_at dksX4_isNumber_1 6 rfl rfl)
theorem dX4_isNumber_29 : decode cX4_isNumber 29 = .ok (.aload_n 0, 1) := dk_42 (dk_at dksX4_isNumber_1 7 rfl rfl)
theorem dX4_isNumber_30 : decode cX4_isNumber 30 = .ok (.invokevirtual 196, 3) := dk_182 0 196 (dk_at dksX4_isNumber_1 8 rfl rfl)
theorem dX4_isNumber_33 : decode cX4_isNumber 33 = .ok (.iadd, 1) := dk_96 (dk_at dksX4_isNumber_1 11 rfl rfl)
theorem dX4_isNumber_34 : decode cX4_isNumber 34 = .ok (.bipush 48, 2) := dk_16 48 (dk_at dksX4_isNumber_1 12 rfl rfl)
theorem dX4_isNumber_36 : decode cX4_isNumber 36 = .ok (.isub, 1) := dk_100 (dk_at dksX4_isNumber_1 14 rfl rfl)
theorem dX4_isNumber_37 : decode cX4_isNumber 37 = .ok (.istore_n 3, 1) := dk_62 (dk_at dksX4_isNumber_1 15 rfl rfl)
theorem dX4_isNumber_38 : decode cX4_isNumber 38 = .ok (.aload_n 0, 1) := dk_42 (dk_at dksX4_isNumber_1 16 rfl rfl)
theorem dX4_isNumber_39 : decode cX4_isNumber 39 = .ok (.dup, 1) := dk_89 (dk_at dksX4_isNumber_1 17 rfl rfl)
theorem dX4_isNumber_40 : decode cX4_isNumber 40 = .ok (.getfield 193, 3) := dk_180 0 193 (dk_at dksX4_isNumber_1 18 rfl rfl)
theorem dX4_isNumber_43 : decode cX4_isNumber 43 = .ok (.iconst 1, 1) := dk_4 (dk_at dksX4_isNumber_1 21 rfl rfl)
theorem dX4_isNumber_44 : decode cX4_isNumber 44 = .ok (.iadd, 1) := dk_96 (dk_at dksX4_isNumber_1 22 rfl rfl)
theorem dX4_isNumber_45 : decode cX4_isNumber 45 = .ok (.putfield 193, 3) := dk_181 0 193 (dk_at dksX4_isNumber_2 0 rfl rfl)
theorem dX4_isNumber_48 : decode cX4_isNumber 48 = .ok (.iinc 4 1, 3) := dk_132 4 1 (dk_at dksX4_isNumber_2 3 rfl rfl)
theorem dX4_isNumber_51 : decode cX4_isNumber 51 = .ok (.goto (-46), 3) := dk_167 255 210 (dk_at dksX4_isNumber_2 6 rfl rfl)
theorem dX4_isNumber_54 : decode cX4_isNumber 54 = .ok (.aload_n 0, 1) := dk_42 (dk_at dksX4_isNumber_2 9 rfl rfl)
theorem dX4_isNumber_55 : decode cX4_isNumber 55 = .ok (.getfield 38, 3) := dk_180 0 38 (dk_at dksX4_isNumber_2 10 rfl rfl)
theorem dX4_isNumber_58 : decode cX4_isNumber 58 = .ok (.iload_n 2, 1) := dk_28 (dk_at dksX4_isNumber_2 13 rfl rfl)
theorem dX4_isNumber_59 : decode cX4_isNumber 59 = .ok (.iload_n 3, 1) := dk_29 (dk_at dksX4_isNumber_2 14 rfl rfl)
theorem dX4_isNumber_60 : decode cX4_isNumber 60 = .ok (.iastore, 1) := dk_79 (dk_at dksX4_isNumber_2 15 rfl rfl)
theorem dX4_isNumber_61 : decode cX4_isNumber 61 = .ok (.iload 4, 2) := dk_21 4 (dk_at dksX4_isNumber_2 16 rfl rfl)
theorem dX4_isNumber_63 : decode cX4_isNumber 63 = .ok (.ifCond .le 7, 3) := dk_158 0 7 (dk_at dksX4_isNumber_2 18 rfl rfl)
theorem dX4_isNumber_66 : decode cX4_isNumber 66 = .ok (.iconst 1, 1) := dk_4 (dk_at dksX4_isNumber_2 21 rfl rfl)
theorem dX4_isNumber_67 : decode cX4_isNumber 67 = .ok (.goto 4, 3) := dk_167 0 4 (dk_at dksX4_isNumber_3 0 rfl rfl)
theorem dX4_isNumber_70 : decode cX4_isNumber 70 = .ok (.iconst 0, 1) := dk_3 (dk_at dksX4_isNumber_3 3 rfl rfl)
theorem dX4_isNumber_71 : decode cX4_isNumber 71 = .ok (.ireturn, 1) := dk_172 (dk_at dksX4_isNumber_3 4 rfl rfl)
def dkwX4_readsT_3 : List UInt8 := [153, 0, 17, 42, 16, 62, 27, 182, 0, 222, 153, 0, 7, 4, 167, 0, 4, 3, 172]
abbrev dktX4_readsT_3 : List UInt8 := dkwX4_readsT_3 ++ []
def dkwX4_readsT_2 : List UInt8 := [153, 0, 7, 4, 167, 0, 4, 3, 172, 42, 180, 0, 38, 27, 16, 111, 79, 42, 18, 225, 182, 0, 218]
abbrev dktX4_readsT_2 : List UInt8 := dkwX4_readsT_2 ++ dktX4_readsT_3
def dkwX4_readsT_1 : List UInt8 := [182, 0, 222, 153, 0, 27, 42, 16, 61, 182, 0, 208, 153, 0, 18, 42, 6, 27, 6, 96, 182, 0, 213]
abbrev dktX4_readsT_1 : List UInt8 := dkwX4_readsT_1 ++ dktX4_readsT_2
def dkwX4_readsT_0 : List UInt8 := [42, 16, 114, 182, 0, 208, 153, 0, 48, 42, 18, 216, 182, 0, 218, 153, 0, 37, 42, 16, 45, 27]
abbrev dktX4_readsT_0 : List UInt8 := dkwX4_readsT_0 ++ dktX4_readsT_1
theorem dksX4_readsT_0 : cX4_readsT.data.toList.drop 0 = dktX4_readsT_0 := by decide +kernel
theorem dksX4_readsT_1 : cX4_readsT.data.toList.drop 22 = dktX4_readsT_1 := dk_seg dksX4_readsT_0 22 rfl rfl
theorem dksX4_readsT_2 : cX4_readsT.data.toList.drop 45 = dktX4_readsT_2 := dk_seg dksX4_readsT_1 23 rfl rfl
theorem dksX4_readsT_3 : cX4_readsT.data.toList.drop 68 = dktX4_readsT_3 := dk_seg dksX4_readsT_2 23 rfl rfl
theorem dX4_readsT_0 : decode cX4_readsT 0 = .ok (.aload_n 0, 1) := dk_42 (dk_at dksX4_readsT_0 0 rfl rfl)
theorem dX4_readsT_1 : decode cX4_readsT 1 = .ok (.bipush 114, 2) := dk_16 114 (dk_at dksX4_readsT_0 1 rfl rfl)
theorem dX4_readsT_3 : decode cX4_readsT 3 = .ok (.invokevirtual 208, 3) := dk_182 0 208 (dk_at dksX4_readsT_0 3 rfl rfl)
theorem dX4_readsT_6 : decode cX4_readsT 6 = .ok (.ifCond .eq 48, 3) := dk_153 0 48 (dk_at dksX4_readsT_0 6 rfl rfl)
theorem dX4_readsT_9 : decode cX4_readsT 9 = .ok (.aload_n 0, 1) := dk_42 (dk_at dksX4_readsT_0 9 rfl rfl)
theorem dX4_readsT_10 : decode cX4_readsT 10 = .ok (.ldc 216, 2) := dk_18 216 (dk_at dksX4_readsT_0 10 rfl rfl)
theorem dX4_readsT_12 : decode cX4_readsT 12 = .ok (.invokevirtual 218, 3) := dk_182 0 218 (dk_at dksX4_readsT_0 12 rfl rfl)
theorem dX4_readsT_15 : decode cX4_readsT 15 = .ok (.ifCond .eq 37, 3) := dk_153 0 37 (dk_at dksX4_readsT_0 15 rfl rfl)
theorem dX4_readsT_18 : decode cX4_readsT 18 = .ok (.aload_n 0, 1) := dk_42 (dk_at dksX4_readsT_0 18 rfl rfl)
theorem dX4_readsT_19 : decode cX4_readsT 19 = .ok (.bipush 45, 2) := dk_16 45 (dk_at dksX4_readsT_0 19 rfl rfl)
theorem dX4_readsT_21 : decode cX4_readsT 21 = .ok (.iload_n 1, 1) := dk_27 (dk_at dksX4_readsT_0 21 rfl rfl)
theorem dX4_readsT_22 : decode cX4_readsT 22 = .ok (.invokevirtual 222, 3) := dk_182 0 222 (dk_at dksX4_readsT_1 0 rfl rfl)
theorem dX4_readsT_25 : decode cX4_readsT 25 = .ok (.ifCond .eq 27, 3) := dk_153 0 27 (dk_at dksX4_readsT_1 3 rfl rfl)
theorem dX4_readsT_28 : decode cX4_readsT 28 = .ok (.aload_n 0, 1) := dk_42 (dk_at dksX4_readsT_1 6 rfl rfl)
theorem dX4_readsT_29 : decode cX4_readsT 29 = .ok (.bipush 61, 2) := dk_16 61 (dk_at dksX4_readsT_1 7 rfl rfl)
theorem dX4_readsT_31 : decode cX4_readsT 31 = .ok (.invokevirtual 208, 3) := dk_182 0 208 (dk_at dksX4_readsT_1 9 rfl rfl)
theorem dX4_readsT_34 : decode cX4_readsT 34 = .ok (.ifCond .eq 18, 3) := dk_153 0 18 (dk_at dksX4_readsT_1 12 rfl rfl)
theorem dX4_readsT_37 : decode cX4_readsT 37 = .ok (.aload_n 0, 1) := dk_42 (dk_at dksX4_readsT_1 15 rfl rfl)
theorem dX4_readsT_38 : decode cX4_readsT 38 = .ok (.iconst 3, 1) := dk_6 (dk_at dksX4_readsT_1 16 rfl rfl)
theorem dX4_readsT_39 : decode cX4_readsT 39 = .ok (.iload_n 1, 1) := dk_27 (dk_at dksX4_readsT_1 17 rfl rfl)
theorem dX4_readsT_40 : decode cX4_readsT 40 = .ok (.iconst 3, 1) := dk_6 (dk_at dksX4_readsT_1 18 rfl rfl)
theorem dX4_readsT_41 : decode cX4_readsT 41 = .ok (.iadd, 1) := dk_96 (dk_at dksX4_readsT_1 19 rfl rfl)
theorem dX4_readsT_42 : decode cX4_readsT 42 = .ok (.invokevirtual 213, 3) := dk_182 0 213 (dk_at dksX4_readsT_1 20 rfl rfl)
theorem dX4_readsT_45 : decode cX4_readsT 45 = .ok (.ifCond .eq 7, 3) := dk_153 0 7 (dk_at dksX4_readsT_2 0 rfl rfl)
theorem dX4_readsT_48 : decode cX4_readsT 48 = .ok (.iconst 1, 1) := dk_4 (dk_at dksX4_readsT_2 3 rfl rfl)
theorem dX4_readsT_49 : decode cX4_readsT 49 = .ok (.goto 4, 3) := dk_167 0 4 (dk_at dksX4_readsT_2 4 rfl rfl)
theorem dX4_readsT_52 : decode cX4_readsT 52 = .ok (.iconst 0, 1) := dk_3 (dk_at dksX4_readsT_2 7 rfl rfl)
theorem dX4_readsT_53 : decode cX4_readsT 53 = .ok (.ireturn, 1) := dk_172 (dk_at dksX4_readsT_2 8 rfl rfl)
theorem dX4_readsT_54 : decode cX4_readsT 54 = .ok (.aload_n 0, 1) := dk_42 (dk_at dksX4_readsT_2 9 rfl rfl)
theorem dX4_readsT_55 : decode cX4_readsT 55 = .ok (.getfield 38, 3) := dk_180 0 38 (dk_at dksX4_readsT_2 10 rfl rfl)
theorem dX4_readsT_58 : decode cX4_readsT 58 = .ok (.iload_n 1, 1) := dk_27 (dk_at dksX4_readsT_2 13 rfl rfl)
theorem dX4_readsT_59 : decode cX4_readsT 59 = .ok (.bipush 111, 2) := dk_16 111 (dk_at dksX4_readsT_2 14 rfl rfl)
theorem dX4_readsT_61 : decode cX4_readsT 61 = .ok (.iastore, 1) := dk_79 (dk_at dksX4_readsT_2 16 rfl rfl)
theorem dX4_readsT_62 : decode cX4_readsT 62 = .ok (.aload_n 0, 1) := dk_42 (dk_at dksX4_readsT_2 17 rfl rfl)
theorem dX4_readsT_63 : decode cX4_readsT 63 = .ok (.ldc 225, 2) := dk_18 225 (dk_at dksX4_readsT_2 18 rfl rfl)
theorem dX4_readsT_65 : decode cX4_readsT 65 = .ok (.invokevirtual 218, 3) := dk_182 0 218 (dk_at dksX4_readsT_2 20 rfl rfl)
theorem dX4_readsT_68 : decode cX4_readsT 68 = .ok (.ifCond .eq 17, 3) := dk_153 0 17 (dk_at dksX4_readsT_3 0 rfl rfl)
theorem dX4_readsT_71 : decode cX4_readsT 71 = .ok (.aload_n 0, 1) := dk_42 (dk_at dksX4_readsT_3 3 rfl rfl)
theorem dX4_readsT_72 : decode cX4_readsT 72 = .ok (.bipush 62, 2) := dk_16 62 (dk_at dksX4_readsT_3 4 rfl rfl)
theorem dX4_readsT_74 : decode cX4_readsT 74 = .ok (.iload_n 1, 1) := dk_27 (dk_at dksX4_readsT_3 6 rfl rfl)
theorem dX4_readsT_75 : decode cX4_readsT 75 = .ok (.invokevirtual 222, 3) := dk_182 0 222 (dk_at dksX4_readsT_3 7 rfl rfl)
theorem dX4_readsT_78 : decode cX4_readsT 78 = .ok (.ifCond .eq 7, 3) := dk_153 0 7 (dk_at dksX4_readsT_3 10 rfl rfl)
theorem dX4_readsT_81 : decode cX4_readsT 81 = .ok (.iconst 1, 1) := dk_4 (dk_at dksX4_readsT_3 13 rfl rfl)
theorem dX4_readsT_82 : decode cX4_readsT 82 = .ok (.goto 4, 3) := dk_167 0 4 (dk_at dksX4_readsT_3 14 rfl rfl)
theorem dX4_readsT_85 : decode cX4_readsT 85 = .ok (.iconst 0, 1) := dk_3 (dk_at dksX4_readsT_3 17 rfl rfl)
theorem dX4_readsT_86 : decode cX4_readsT 86 = .ok (.ireturn, 1) := dk_172 (dk_at dksX4_readsT_3 18 rfl rfl)
def dkwX4_readsC_2 : List UInt8 := [182, 0, 218, 153, 0, 18, 42, 6, 27, 4, 96, 182, 0, 213, 153, 0, 7, 4, 167, 0, 4, 3, 172]
abbrev dktX4_readsC_2 : List UInt8 := dkwX4_readsC_2 ++ []
def dkwX4_readsC_1 : List UInt8 := [182, 0, 222, 153, 0, 7, 4, 167, 0, 4, 3, 172, 42, 180, 0, 38, 27, 16, 104, 79, 42, 18, 229]
abbrev dktX4_readsC_1 : List UInt8 := dkwX4_readsC_1 ++ dktX4_readsC_2
def dkwX4_readsC_0 : List UInt8 := [42, 16, 117, 182, 0, 208, 153, 0, 28, 42, 18, 227, 182, 0, 218, 153, 0, 17, 42, 16, 45, 27]
abbrev dktX4_readsC_0 : List UInt8 := dkwX4_readsC_0 ++ dktX4_readsC_1
theorem dksX4_readsC_0 : cX4_readsC.data.toList.drop 0 = dktX4_readsC_0 := by decide +kernel
theorem dksX4_readsC_1 : cX4_readsC.data.toList.drop 22 = dktX4_readsC_1 := dk_seg dksX4_readsC_0 22 rfl rfl
theorem dksX4_readsC_2 : cX4_readsC.data.toList.drop 45 = dktX4_readsC_2 := dk_seg dksX4_readsC_1 23 rfl rfl
theorem dX4_readsC_0 : decode cX4_readsC 0 = .ok (.aload_n 0, 1) := dk_42 (dk_at dksX4_readsC_0 0 rfl rfl)
theorem dX4_readsC_1 : decode cX4_readsC 1 = .ok (.bipush 117, 2) := dk_16 117 (dk_at dksX4_readsC_0 1 rfl rfl)
theorem dX4_readsC_3 : decode cX4_readsC 3 = .ok (.invokevirtual 208, 3) := dk_182 0 208 (dk_at dksX4_readsC_0 3 rfl rfl)
theorem dX4_readsC_6 : decode cX4_readsC 6 = .ok (.ifCond .eq 28, 3) := dk_153 0 28 (dk_at dksX4_readsC_0 6 rfl rfl)
theorem dX4_readsC_9 : decode cX4_readsC 9 = .ok (.aload_n 0, 1) := dk_42 (dk_at dksX4_readsC_0 9 rfl rfl)
theorem dX4_readsC_10 : decode cX4_readsC 10 = .ok (.ldc 227, 2) := dk_18 227 (dk_at dksX4_readsC_0 10 rfl rfl)
theorem dX4_readsC_12 : decode cX4_readsC 12 = .ok (.invokevirtual 218, 3) := dk_182 0 218 (dk_at dksX4_readsC_0 12 rfl rfl)
theorem dX4_readsC_15 : decode cX4_readsC 15 = .ok (.ifCond .eq 17, 3) := dk_153 0 17 (dk_at dksX4_readsC_0 15 rfl rfl)
theorem dX4_readsC_18 : decode cX4_readsC 18 = .ok (.aload_n 0, 1) := dk_42 (dk_at dksX4_readsC_0 18 rfl rfl)
theorem dX4_readsC_19 : decode cX4_readsC 19 = .ok (.bipush 45, 2) := dk_16 45 (dk_at dksX4_readsC_0 19 rfl rfl)
theorem dX4_readsC_21 : decode cX4_readsC 21 = .ok (.iload_n 1, 1) := dk_27 (dk_at dksX4_readsC_0 21 rfl rfl)
theorem dX4_readsC_22 : decode cX4_readsC 22 = .ok (.invokevirtual 222, 3) := dk_182 0 222 (dk_at dksX4_readsC_1 0 rfl rfl)
theorem dX4_readsC_25 : decode cX4_readsC 25 = .ok (.ifCond .eq 7, 3) := dk_153 0 7 (dk_at dksX4_readsC_1 3 rfl rfl)
theorem dX4_readsC_28 : decode cX4_readsC 28 = .ok (.iconst 1, 1) := dk_4 (dk_at dksX4_readsC_1 6 rfl rfl)
theorem dX4_readsC_29 : decode cX4_readsC 29 = .ok (.goto 4, 3) := dk_167 0 4 (dk_at dksX4_readsC_1 7 rfl rfl)
theorem dX4_readsC_32 : decode cX4_readsC 32 = .ok (.iconst 0, 1) := dk_3 (dk_at dksX4_readsC_1 10 rfl rfl)
theorem dX4_readsC_33 : decode cX4_readsC 33 = .ok (.ireturn, 1) := dk_172 (dk_at dksX4_readsC_1 11 rfl rfl)
theorem dX4_readsC_34 : decode cX4_readsC 34 = .ok (.aload_n 0, 1) := dk_42 (dk_at dksX4_readsC_1 12 rfl rfl)
theorem dX4_readsC_35 : decode cX4_readsC 35 = .ok (.getfield 38, 3) := dk_180 0 38 (dk_at dksX4_readsC_1 13 rfl rfl)
theorem dX4_readsC_38 : decode cX4_readsC 38 = .ok (.iload_n 1, 1) := dk_27 (dk_at dksX4_readsC_1 16 rfl rfl)
theorem dX4_readsC_39 : decode cX4_readsC 39 = .ok (.bipush 104, 2) := dk_16 104 (dk_at dksX4_readsC_1 17 rfl rfl)
theorem dX4_readsC_41 : decode cX4_readsC 41 = .ok (.iastore, 1) := dk_79 (dk_at dksX4_readsC_1 19 rfl rfl)
theorem dX4_readsC_42 : decode cX4_readsC 42 = .ok (.aload_n 0, 1) := dk_42 (dk_at dksX4_readsC_1 20 rfl rfl)
theorem dX4_readsC_43 : decode cX4_readsC 43 = .ok (.ldc 229, 2) := dk_18 229 (dk_at dksX4_readsC_1 21 rfl rfl)
theorem dX4_readsC_45 : decode cX4_readsC 45 = .ok (.invokevirtual 218, 3) := dk_182 0 218 (dk_at dksX4_readsC_2 0 rfl rfl)
theorem dX4_readsC_48 : decode cX4_readsC 48 = .ok (.ifCond .eq 18, 3) := dk_153 0 18 (dk_at dksX4_readsC_2 3 rfl rfl)
theorem dX4_readsC_51 : decode cX4_readsC 51 = .ok (.aload_n 0, 1) := dk_42 (dk_at dksX4_readsC_2 6 rfl rfl)
theorem dX4_readsC_52 : decode cX4_readsC 52 = .ok (.iconst 3, 1) := dk_6 (dk_at dksX4_readsC_2 7 rfl rfl)
theorem dX4_readsC_53 : decode cX4_readsC 53 = .ok (.iload_n 1, 1) := dk_27 (dk_at dksX4_readsC_2 8 rfl rfl)
theorem dX4_readsC_54 : decode cX4_readsC 54 = .ok (.iconst 1, 1) := dk_4 (dk_at dksX4_readsC_2 9 rfl rfl)
theorem dX4_readsC_55 : decode cX4_readsC 55 = .ok (.iadd, 1) := dk_96 (dk_at dksX4_readsC_2 10 rfl rfl)
theorem dX4_readsC_56 : decode cX4_readsC 56 = .ok (.invokevirtual 213, 3) := dk_182 0 213 (dk_at dksX4_readsC_2 11 rfl rfl)
theorem dX4_readsC_59 : decode cX4_readsC 59 = .ok (.ifCond .eq 7, 3) := dk_153 0 7 (dk_at dksX4_readsC_2 14 rfl rfl)
theorem dX4_readsC_62 : decode cX4_readsC 62 = .ok (.iconst 1, 1) := dk_4 (dk_at dksX4_readsC_2 17 rfl rfl)
theorem dX4_readsC_63 : decode cX4_readsC 63 = .ok (.goto 4, 3) := dk_167 0 4 (dk_at dksX4_readsC_2 18 rfl rfl)
theorem dX4_readsC_66 : decode cX4_readsC 66 = .ok (.iconst 0, 1) := dk_3 (dk_at dksX4_readsC_2 21 rfl rfl)
theorem dX4_readsC_67 : decode cX4_readsC 67 = .ok (.ireturn, 1) := dk_172 (dk_at dksX4_readsC_2 22 rfl rfl)
def dkwX4_readsM_3 : List UInt8 := [153, 0, 7, 4, 167, 0, 4, 3, 172]
abbrev dktX4_readsM_3 : List UInt8 := dkwX4_readsM_3 ++ []
def dkwX4_readsM_2 : List UInt8 := [180, 0, 38, 27, 16, 118, 79, 42, 18, 236, 182, 0, 218, 153, 0, 17, 42, 16, 44, 27, 182, 0, 222]
abbrev dktX4_readsM_2 : List UInt8 := dkwX4_readsM_2 ++ dktX4_readsM_3
def dkwX4_readsM_1 : List UInt8 := [182, 0, 218, 153, 0, 17, 42, 27, 4, 96, 182, 0, 233, 153, 0, 7, 4, 167, 0, 4, 3, 172, 42]
abbrev dktX4_readsM_1 : List UInt8 := dkwX4_readsM_1 ++ dktX4_readsM_2
def dkwX4_readsM_0 : List UInt8 := [42, 16, 111, 182, 0, 208, 154, 0, 5, 3, 172, 42, 16, 100, 182, 0, 208, 153, 0, 28, 42, 18, 231]
abbrev dktX4_readsM_0 : List UInt8 := dkwX4_readsM_0 ++ dktX4_readsM_1
theorem dksX4_readsM_0 : cX4_readsM.data.toList.drop 0 = dktX4_readsM_0 := by decide +kernel
theorem dksX4_readsM_1 : cX4_readsM.data.toList.drop 23 = dktX4_readsM_1 := dk_seg dksX4_readsM_0 23 rfl rfl
theorem dksX4_readsM_2 : cX4_readsM.data.toList.drop 46 = dktX4_readsM_2 := dk_seg dksX4_readsM_1 23 rfl rfl
theorem dksX4_readsM_3 : cX4_readsM.data.toList.drop 69 = dktX4_readsM_3 := dk_seg dksX4_readsM_2 23 rfl rfl
theorem dX4_readsM_0 : decode cX4_readsM 0 = .ok (.aload_n 0, 1) := dk_42 (dk_at dksX4_readsM_0 0 rfl rfl)
theorem dX4_readsM_1 : decode cX4_readsM 1 = .ok (.bipush 111, 2) := dk_16 111 (dk_at dksX4_readsM_0 1 rfl rfl)
theorem dX4_readsM_3 : decode cX4_readsM 3 = .ok (.invokevirtual 208, 3) := dk_182 0 208 (dk_at dksX4_readsM_0 3 rfl rfl)
theorem dX4_readsM_6 : decode cX4_readsM 6 = .ok (.ifCond .ne 5, 3) := dk_154 0 5 (dk_at dksX4_readsM_0 6 rfl rfl)
theorem dX4_readsM_9 : decode cX4_readsM 9 = .ok (.iconst 0, 1) := dk_3 (dk_at dksX4_readsM_0 9 rfl rfl)
theorem dX4_readsM_10 : decode cX4_readsM 10 = .ok (.ireturn, 1) := dk_172 (dk_at dksX4_readsM_0 10 rfl rfl)
theorem dX4_readsM_11 : decode cX4_readsM 11 = .ok (.aload_n 0, 1) := dk_42 (dk_at dksX4_readsM_0 11 rfl rfl)
theorem dX4_readsM_12 : decode cX4_readsM 12 = .ok (.bipush 100, 2) := dk_16 100 (dk_at dksX4_readsM_0 12 rfl rfl)
theorem dX4_readsM_14 : decode cX4_readsM 14 = .ok (.invokevirtual 208, 3) := dk_182 0 208 (dk_at dksX4_readsM_0 14 rfl rfl)
theorem dX4_readsM_17 : decode cX4_readsM 17 = .ok (.ifCond .eq 28, 3) := dk_153 0 28 (dk_at dksX4_readsM_0 17 rfl rfl)
theorem dX4_readsM_20 : decode cX4_readsM 20 = .ok (.aload_n 0, 1) := dk_42 (dk_at dksX4_readsM_0 20 rfl rfl)
theorem dX4_readsM_21 : decode cX4_readsM 21 = .ok (.ldc 231, 2) := dk_18 231 (dk_at dksX4_readsM_0 21 rfl rfl)
theorem dX4_readsM_23 : decode cX4_readsM 23 = .ok (.invokevirtual 218, 3) := dk_182 0 218 (dk_at dksX4_readsM_1 0 rfl rfl)
theorem dX4_readsM_26 : decode cX4_readsM 26 = .ok (.ifCond .eq 17, 3) := dk_153 0 17 (dk_at dksX4_readsM_1 3 rfl rfl)
theorem dX4_readsM_29 : decode cX4_readsM 29 = .ok (.aload_n 0, 1) := dk_42 (dk_at dksX4_readsM_1 6 rfl rfl)
theorem dX4_readsM_30 : decode cX4_readsM 30 = .ok (.iload_n 1, 1) := dk_27 (dk_at dksX4_readsM_1 7 rfl rfl)
theorem dX4_readsM_31 : decode cX4_readsM 31 = .ok (.iconst 1, 1) := dk_4 (dk_at dksX4_readsM_1 8 rfl rfl)
theorem dX4_readsM_32 : decode cX4_readsM 32 = .ok (.iadd, 1) := dk_96 (dk_at dksX4_readsM_1 9 rfl rfl)
theorem dX4_readsM_33 : decode cX4_readsM 33 = .ok (.invokevirtual 233, 3) := dk_182 0 233 (dk_at dksX4_readsM_1 10 rfl rfl)
theorem dX4_readsM_36 : decode cX4_readsM 36 = .ok (.ifCond .eq 7, 3) := dk_153 0 7 (dk_at dksX4_readsM_1 13 rfl rfl)
theorem dX4_readsM_39 : decode cX4_readsM 39 = .ok (.iconst 1, 1) := dk_4 (dk_at dksX4_readsM_1 16 rfl rfl)
theorem dX4_readsM_40 : decode cX4_readsM 40 = .ok (.goto 4, 3) := dk_167 0 4 (dk_at dksX4_readsM_1 17 rfl rfl)
theorem dX4_readsM_43 : decode cX4_readsM 43 = .ok (.iconst 0, 1) := dk_3 (dk_at dksX4_readsM_1 20 rfl rfl)
theorem dX4_readsM_44 : decode cX4_readsM 44 = .ok (.ireturn, 1) := dk_172 (dk_at dksX4_readsM_1 21 rfl rfl)
theorem dX4_readsM_45 : decode cX4_readsM 45 = .ok (.aload_n 0, 1) := dk_42 (dk_at dksX4_readsM_1 22 rfl rfl)
theorem dX4_readsM_46 : decode cX4_readsM 46 = .ok (.getfield 38, 3) := dk_180 0 38 (dk_at dksX4_readsM_2 0 rfl rfl)
theorem dX4_readsM_49 : decode cX4_readsM 49 = .ok (.iload_n 1, 1) := dk_27 (dk_at dksX4_readsM_2 3 rfl rfl)
theorem dX4_readsM_50 : decode cX4_readsM 50 = .ok (.bipush 118, 2) := dk_16 118 (dk_at dksX4_readsM_2 4 rfl rfl)
theorem dX4_readsM_52 : decode cX4_readsM 52 = .ok (.iastore, 1) := dk_79 (dk_at dksX4_readsM_2 6 rfl rfl)
theorem dX4_readsM_53 : decode cX4_readsM 53 = .ok (.aload_n 0, 1) := dk_42 (dk_at dksX4_readsM_2 7 rfl rfl)
theorem dX4_readsM_54 : decode cX4_readsM 54 = .ok (.ldc 236, 2) := dk_18 236 (dk_at dksX4_readsM_2 8 rfl rfl)
theorem dX4_readsM_56 : decode cX4_readsM 56 = .ok (.invokevirtual 218, 3) := dk_182 0 218 (dk_at dksX4_readsM_2 10 rfl rfl)
theorem dX4_readsM_59 : decode cX4_readsM 59 = .ok (.ifCond .eq 17, 3) := dk_153 0 17 (dk_at dksX4_readsM_2 13 rfl rfl)
theorem dX4_readsM_62 : decode cX4_readsM 62 = .ok (.aload_n 0, 1) := dk_42 (dk_at dksX4_readsM_2 16 rfl rfl)
theorem dX4_readsM_63 : decode cX4_readsM 63 = .ok (.bipush 44, 2) := dk_16 44 (dk_at dksX4_readsM_2 17 rfl rfl)
theorem dX4_readsM_65 : decode cX4_readsM 65 = .ok (.iload_n 1, 1) := dk_27 (dk_at dksX4_readsM_2 19 rfl rfl)
theorem dX4_readsM_66 : decode cX4_readsM 66 = .ok (.invokevirtual 222, 3) := dk_182 0 222 (dk_at dksX4_readsM_2 20 rfl rfl)
theorem dX4_readsM_69 : decode cX4_readsM 69 = .ok (.ifCond .eq 7, 3) := dk_153 0 7 (dk_at dksX4_readsM_3 0 rfl rfl)
theorem dX4_readsM_72 : decode cX4_readsM 72 = .ok (.iconst 1, 1) := dk_4 (dk_at dksX4_readsM_3 3 rfl rfl)
theorem dX4_readsM_73 : decode cX4_readsM 73 = .ok (.goto 4, 3) := dk_167 0 4 (dk_at dksX4_readsM_3 4 rfl rfl)
theorem dX4_readsM_76 : decode cX4_readsM 76 = .ok (.iconst 0, 1) := dk_3 (dk_at dksX4_readsM_3 7 rfl rfl)
theorem dX4_readsM_77 : decode cX4_readsM 77 = .ok (.ireturn, 1) := dk_172 (dk_at dksX4_readsM_3 8 rfl rfl)
def dkwX4_isMode_1 : List UInt8 := [27, 28, 79, 4, 172, 132, 2, 1, 167, 255, 226, 3, 172]
abbrev dktX4_isMode_1 : List UInt8 := dkwX4_isMode_1 ++ []
def dkwX4_isMode_0 : List UInt8 := [3, 61, 28, 6, 162, 0, 31, 42, 18, 211, 28, 182, 0, 204, 182, 0, 208, 153, 0, 12, 42, 180, 0, 38]
abbrev dktX4_isMode_0 : List UInt8 := dkwX4_isMode_0 ++ dktX4_isMode_1
theorem dksX4_isMode_0 : cX4_isMode.data.toList.drop 0 = dktX4_isMode_0 := by decide +kernel
theorem dksX4_isMode_1 : cX4_isMode.data.toList.drop 24 = dktX4_isMode_1 := dk_seg dksX4_isMode_0 24 rfl rfl
theorem dX4_isMode_0 : decode cX4_isMode 0 = .ok (.iconst 0, 1) := dk_3 (dk_at dksX4_isMode_0 0 rfl rfl)
theorem dX4_isMode_1 : decode cX4_isMode 1 = .ok (.istore_n 2, 1) := dk_61 (dk_at dksX4_isMode_0 1 rfl rfl)
theorem dX4_isMode_2 : decode cX4_isMode 2 = .ok (.iload_n 2, 1) := dk_28 (dk_at dksX4_isMode_0 2 rfl rfl)
theorem dX4_isMode_3 : decode cX4_isMode 3 = .ok (.iconst 3, 1) := dk_6 (dk_at dksX4_isMode_0 3 rfl rfl)
theorem dX4_isMode_4 : decode cX4_isMode 4 = .ok (.if_icmp .ge 31, 3) := dk_162 0 31 (dk_at dksX4_isMode_0 4 rfl rfl)
theorem dX4_isMode_7 : decode cX4_isMode 7 = .ok (.aload_n 0, 1) := dk_42 (dk_at dksX4_isMode_0 7 rfl rfl)
theorem dX4_isMode_8 : decode cX4_isMode 8 = .ok (.ldc 211, 2) := dk_18 211 (dk_at dksX4_isMode_0 8 rfl rfl)
theorem dX4_isMode_10 : decode cX4_isMode 10 = .ok (.iload_n 2, 1) := dk_28 (dk_at dksX4_isMode_0 10 rfl rfl)
theorem dX4_isMode_11 : decode cX4_isMode 11 = .ok (.invokevirtual 204, 3) := dk_182 0 204 (dk_at dksX4_isMode_0 11 rfl rfl)
theorem dX4_isMode_14 : decode cX4_isMode 14 = .ok (.invokevirtual 208, 3) := dk_182 0 208 (dk_at dksX4_isMode_0 14 rfl rfl)
theorem dX4_isMode_17 : decode cX4_isMode 17 = .ok (.ifCond .eq 12, 3) := dk_153 0 12 (dk_at dksX4_isMode_0 17 rfl rfl)
theorem dX4_isMode_20 : decode cX4_isMode 20 = .ok (.aload_n 0, 1) := dk_42 (dk_at dksX4_isMode_0 20 rfl rfl)
theorem dX4_isMode_21 : decode cX4_isMode 21 = .ok (.getfield 38, 3) := dk_180 0 38 (dk_at dksX4_isMode_0 21 rfl rfl)
theorem dX4_isMode_24 : decode cX4_isMode 24 = .ok (.iload_n 1, 1) := dk_27 (dk_at dksX4_isMode_1 0 rfl rfl)
theorem dX4_isMode_25 : decode cX4_isMode 25 = .ok (.iload_n 2, 1) := dk_28 (dk_at dksX4_isMode_1 1 rfl rfl)
theorem dX4_isMode_26 : decode cX4_isMode 26 = .ok (.iastore, 1) := dk_79 (dk_at dksX4_isMode_1 2 rfl rfl)
theorem dX4_isMode_27 : decode cX4_isMode 27 = .ok (.iconst 1, 1) := dk_4 (dk_at dksX4_isMode_1 3 rfl rfl)
theorem dX4_isMode_28 : decode cX4_isMode 28 = .ok (.ireturn, 1) := dk_172 (dk_at dksX4_isMode_1 4 rfl rfl)
theorem dX4_isMode_29 : decode cX4_isMode 29 = .ok (.iinc 2 1, 3) := dk_132 2 1 (dk_at dksX4_isMode_1 5 rfl rfl)
theorem dX4_isMode_32 : decode cX4_isMode 32 = .ok (.goto (-30), 3) := dk_167 255 226 (dk_at dksX4_isMode_1 8 rfl rfl)
theorem dX4_isMode_35 : decode cX4_isMode 35 = .ok (.iconst 0, 1) := dk_3 (dk_at dksX4_isMode_1 11 rfl rfl)
theorem dX4_isMode_36 : decode cX4_isMode 36 = .ok (.ireturn, 1) := dk_172 (dk_at dksX4_isMode_1 12 rfl rfl)
def dkwX4_does_5 : List UInt8 := [16, 30, 182, 0, 147, 172, 42, 28, 182, 0, 151, 172, 42, 28, 29, 182, 0, 144, 172, 42, 182, 0, 117, 172]
abbrev dktX4_does_5 : List UInt8 := dkwX4_does_5 ++ []
def dkwX4_does_4 : List UInt8 := [172, 42, 28, 29, 182, 0, 111, 172, 42, 16, 7, 28, 3, 5, 182, 0, 147, 172, 42, 16, 8, 28, 4]
abbrev dktX4_does_4 : List UInt8 := dkwX4_does_4 ++ dktX4_does_5
def dkwX4_does_3 : List UInt8 := [42, 28, 29, 21, 4, 182, 0, 70, 172, 42, 28, 29, 21, 4, 182, 0, 90, 172, 42, 28, 29, 182, 0, 93]
abbrev dktX4_does_3 : List UInt8 := dkwX4_does_3 ++ dktX4_does_4
def dkwX4_does_2 : List UInt8 := [170, 0, 0, 0, 0, 160, 0, 0, 0, 99, 0, 0, 0, 118, 0, 0, 0, 112, 0, 0, 0, 160, 0, 0, 0, 160, 0, 0, 0, 160, 0, 0, 0, 160, 0, 0, 0, 147, 0, 0, 0, 160, 0, 0, 0, 160, 0, 0, 0, 160, 0, 0, 0, 136, 0, 0, 0, 126, 0, 0, 0, 160, 0, 0, 0, 119, 0, 0, 0, 94, 0, 0, 0, 160, 0, 0, 0, 160, 0, 0, 0, 160, 0, 0, 0, 103, 0, 0, 0, 160, 0, 0, 0, 153]
abbrev dktX4_does_2 : List UInt8 := dkwX4_does_2 ++ dktX4_does_3
def dkwX4_does_1 : List UInt8 := [96, 46, 54, 4, 42, 180, 0, 38, 27, 46]
abbrev dktX4_does_1 : List UInt8 := dkwX4_does_1 ++ dktX4_does_2
def dkwX4_does_0 : List UInt8 := [42, 180, 0, 38, 27, 4, 96, 46, 61, 42, 180, 0, 38, 27, 5, 96, 46, 62, 42, 180, 0, 38, 27, 6]
abbrev dktX4_does_0 : List UInt8 := dkwX4_does_0 ++ dktX4_does_1
theorem dksX4_does_0 : cX4_does.data.toList.drop 0 = dktX4_does_0 := by decide +kernel
theorem dksX4_does_1 : cX4_does.data.toList.drop 24 = dktX4_does_1 := dk_seg dksX4_does_0 24 rfl rfl
theorem dksX4_does_2 : cX4_does.data.toList.drop 34 = dktX4_does_2 := dk_seg dksX4_does_1 10 rfl rfl
theorem dksX4_does_3 : cX4_does.data.toList.drop 128 = dktX4_does_3 := dk_seg dksX4_does_2 94 rfl rfl
theorem dksX4_does_4 : cX4_does.data.toList.drop 152 = dktX4_does_4 := dk_seg dksX4_does_3 24 rfl rfl
theorem dksX4_does_5 : cX4_does.data.toList.drop 175 = dktX4_does_5 := dk_seg dksX4_does_4 23 rfl rfl
theorem dX4_does_0 : decode cX4_does 0 = .ok (.aload_n 0, 1) := dk_42 (dk_at dksX4_does_0 0 rfl rfl)
theorem dX4_does_1 : decode cX4_does 1 = .ok (.getfield 38, 3) := dk_180 0 38 (dk_at dksX4_does_0 1 rfl rfl)
theorem dX4_does_4 : decode cX4_does 4 = .ok (.iload_n 1, 1) := dk_27 (dk_at dksX4_does_0 4 rfl rfl)
theorem dX4_does_5 : decode cX4_does 5 = .ok (.iconst 1, 1) := dk_4 (dk_at dksX4_does_0 5 rfl rfl)
theorem dX4_does_6 : decode cX4_does 6 = .ok (.iadd, 1) := dk_96 (dk_at dksX4_does_0 6 rfl rfl)
theorem dX4_does_7 : decode cX4_does 7 = .ok (.iaload, 1) := dk_46 (dk_at dksX4_does_0 7 rfl rfl)
theorem dX4_does_8 : decode cX4_does 8 = .ok (.istore_n 2, 1) := dk_61 (dk_at dksX4_does_0 8 rfl rfl)
theorem dX4_does_9 : decode cX4_does 9 = .ok (.aload_n 0, 1) := dk_42 (dk_at dksX4_does_0 9 rfl rfl)
theorem dX4_does_10 : decode cX4_does 10 = .ok (.getfield 38, 3) := dk_180 0 38 (dk_at dksX4_does_0 10 rfl rfl)
theorem dX4_does_13 : decode cX4_does 13 = .ok (.iload_n 1, 1) := dk_27 (dk_at dksX4_does_0 13 rfl rfl)
theorem dX4_does_14 : decode cX4_does 14 = .ok (.iconst 2, 1) := dk_5 (dk_at dksX4_does_0 14 rfl rfl)
theorem dX4_does_15 : decode cX4_does 15 = .ok (.iadd, 1) := dk_96 (dk_at dksX4_does_0 15 rfl rfl)
theorem dX4_does_16 : decode cX4_does 16 = .ok (.iaload, 1) := dk_46 (dk_at dksX4_does_0 16 rfl rfl)
theorem dX4_does_17 : decode cX4_does 17 = .ok (.istore_n 3, 1) := dk_62 (dk_at dksX4_does_0 17 rfl rfl)
theorem dX4_does_18 : decode cX4_does 18 = .ok (.aload_n 0, 1) := dk_42 (dk_at dksX4_does_0 18 rfl rfl)
theorem dX4_does_19 : decode cX4_does 19 = .ok (.getfield 38, 3) := dk_180 0 38 (dk_at dksX4_does_0 19 rfl rfl)
theorem dX4_does_22 : decode cX4_does 22 = .ok (.iload_n 1, 1) := dk_27 (dk_at dksX4_does_0 22 rfl rfl)
theorem dX4_does_23 : decode cX4_does 23 = .ok (.iconst 3, 1) := dk_6 (dk_at dksX4_does_0 23 rfl rfl)
theorem dX4_does_24 : decode cX4_does 24 = .ok (.iadd, 1) := dk_96 (dk_at dksX4_does_1 0 rfl rfl)
theorem dX4_does_25 : decode cX4_does 25 = .ok (.iaload, 1) := dk_46 (dk_at dksX4_does_1 1 rfl rfl)
theorem dX4_does_26 : decode cX4_does 26 = .ok (.istore 4, 2) := dk_54 4 (dk_at dksX4_does_1 2 rfl rfl)
theorem dX4_does_28 : decode cX4_does 28 = .ok (.aload_n 0, 1) := dk_42 (dk_at dksX4_does_1 4 rfl rfl)
theorem dX4_does_29 : decode cX4_does 29 = .ok (.getfield 38, 3) := dk_180 0 38 (dk_at dksX4_does_1 5 rfl rfl)
theorem dX4_does_32 : decode cX4_does 32 = .ok (.iload_n 1, 1) := dk_27 (dk_at dksX4_does_1 8 rfl rfl)
theorem dX4_does_33 : decode cX4_does 33 = .ok (.iaload, 1) := dk_46 (dk_at dksX4_does_1 9 rfl rfl)
theorem dX4_does_34 : decode cX4_does 34 = .ok (.tableswitch 160 99 118 #[112, 160, 160, 160, 160, 147, 160, 160, 160, 136, 126, 160, 119, 94, 160, 160, 160, 103, 160, 153], 94) := by decide +kernel
theorem dX4_does_128 : decode cX4_does 128 = .ok (.aload_n 0, 1) := dk_42 (dk_at dksX4_does_3 0 rfl rfl)
theorem dX4_does_129 : decode cX4_does 129 = .ok (.iload_n 2, 1) := dk_28 (dk_at dksX4_does_3 1 rfl rfl)
theorem dX4_does_130 : decode cX4_does 130 = .ok (.iload_n 3, 1) := dk_29 (dk_at dksX4_does_3 2 rfl rfl)
theorem dX4_does_131 : decode cX4_does 131 = .ok (.iload 4, 2) := dk_21 4 (dk_at dksX4_does_3 3 rfl rfl)
theorem dX4_does_133 : decode cX4_does 133 = .ok (.invokevirtual 70, 3) := dk_182 0 70 (dk_at dksX4_does_3 5 rfl rfl)
theorem dX4_does_136 : decode cX4_does 136 = .ok (.ireturn, 1) := dk_172 (dk_at dksX4_does_3 8 rfl rfl)
theorem dX4_does_137 : decode cX4_does 137 = .ok (.aload_n 0, 1) := dk_42 (dk_at dksX4_does_3 9 rfl rfl)
theorem dX4_does_138 : decode cX4_does 138 = .ok (.iload_n 2, 1) := dk_28 (dk_at dksX4_does_3 10 rfl rfl)
theorem dX4_does_139 : decode cX4_does 139 = .ok (.iload_n 3, 1) := dk_29 (dk_at dksX4_does_3 11 rfl rfl)
theorem dX4_does_140 : decode cX4_does 140 = .ok (.iload 4, 2) := dk_21 4 (dk_at dksX4_does_3 12 rfl rfl)
theorem dX4_does_142 : decode cX4_does 142 = .ok (.invokevirtual 90, 3) := dk_182 0 90 (dk_at dksX4_does_3 14 rfl rfl)
theorem dX4_does_145 : decode cX4_does 145 = .ok (.ireturn, 1) := dk_172 (dk_at dksX4_does_3 17 rfl rfl)
theorem dX4_does_146 : decode cX4_does 146 = .ok (.aload_n 0, 1) := dk_42 (dk_at dksX4_does_3 18 rfl rfl)
theorem dX4_does_147 : decode cX4_does 147 = .ok (.iload_n 2, 1) := dk_28 (dk_at dksX4_does_3 19 rfl rfl)
theorem dX4_does_148 : decode cX4_does 148 = .ok (.iload_n 3, 1) := dk_29 (dk_at dksX4_does_3 20 rfl rfl)
theorem dX4_does_149 : decode cX4_does 149 = .ok (.invokevirtual 93, 3) := dk_182 0 93 (dk_at dksX4_does_3 21 rfl rfl)
theorem dX4_does_152 : decode cX4_does 152 = .ok (.ireturn, 1) := dk_172 (dk_at dksX4_does_4 0 rfl rfl)
theorem dX4_does_153 : decode cX4_does 153 = .ok (.aload_n 0, 1) := dk_42 (dk_at dksX4_does_4 1 rfl rfl)
theorem dX4_does_154 : decode cX4_does 154 = .ok (.iload_n 2, 1) := dk_28 (dk_at dksX4_does_4 2 rfl rfl)
theorem dX4_does_155 : decode cX4_does 155 = .ok (.iload_n 3, 1) := dk_29 (dk_at dksX4_does_4 3 rfl rfl)
theorem dX4_does_156 : decode cX4_does 156 = .ok (.invokevirtual 111, 3) := dk_182 0 111 (dk_at dksX4_does_4 4 rfl rfl)
theorem dX4_does_159 : decode cX4_does 159 = .ok (.ireturn, 1) := dk_172 (dk_at dksX4_does_4 7 rfl rfl)
theorem dX4_does_160 : decode cX4_does 160 = .ok (.aload_n 0, 1) := dk_42 (dk_at dksX4_does_4 8 rfl rfl)
theorem dX4_does_161 : decode cX4_does 161 = .ok (.bipush 7, 2) := dk_16 7 (dk_at dksX4_does_4 9 rfl rfl)
theorem dX4_does_163 : decode cX4_does 163 = .ok (.iload_n 2, 1) := dk_28 (dk_at dksX4_does_4 11 rfl rfl)
theorem dX4_does_164 : decode cX4_does 164 = .ok (.iconst 0, 1) := dk_3 (dk_at dksX4_does_4 12 rfl rfl)
theorem dX4_does_165 : decode cX4_does 165 = .ok (.iconst 2, 1) := dk_5 (dk_at dksX4_does_4 13 rfl rfl)
theorem dX4_does_166 : decode cX4_does 166 = .ok (.invokevirtual 147, 3) := dk_182 0 147 (dk_at dksX4_does_4 14 rfl rfl)
theorem dX4_does_169 : decode cX4_does 169 = .ok (.ireturn, 1) := dk_172 (dk_at dksX4_does_4 17 rfl rfl)
theorem dX4_does_170 : decode cX4_does 170 = .ok (.aload_n 0, 1) := dk_42 (dk_at dksX4_does_4 18 rfl rfl)
theorem dX4_does_171 : decode cX4_does 171 = .ok (.bipush 8, 2) := dk_16 8 (dk_at dksX4_does_4 19 rfl rfl)
theorem dX4_does_173 : decode cX4_does 173 = .ok (.iload_n 2, 1) := dk_28 (dk_at dksX4_does_4 21 rfl rfl)
theorem dX4_does_174 : decode cX4_does 174 = .ok (.iconst 1, 1) := dk_4 (dk_at dksX4_does_4 22 rfl rfl)
theorem dX4_does_175 : decode cX4_does 175 = .ok (.bipush 30, 2) := dk_16 30 (dk_at dksX4_does_5 0 rfl rfl)
theorem dX4_does_177 : decode cX4_does 177 = .ok (.invokevirtual 147, 3) := dk_182 0 147 (dk_at dksX4_does_5 2 rfl rfl)
theorem dX4_does_180 : decode cX4_does 180 = .ok (.ireturn, 1) := dk_172 (dk_at dksX4_does_5 5 rfl rfl)
theorem dX4_does_181 : decode cX4_does 181 = .ok (.aload_n 0, 1) := dk_42 (dk_at dksX4_does_5 6 rfl rfl)
theorem dX4_does_182 : decode cX4_does 182 = .ok (.iload_n 2, 1) := dk_28 (dk_at dksX4_does_5 7 rfl rfl)
theorem dX4_does_183 : decode cX4_does 183 = .ok (.invokevirtual 151, 3) := dk_182 0 151 (dk_at dksX4_does_5 8 rfl rfl)
theorem dX4_does_186 : decode cX4_does 186 = .ok (.ireturn, 1) := dk_172 (dk_at dksX4_does_5 11 rfl rfl)
theorem dX4_does_187 : decode cX4_does 187 = .ok (.aload_n 0, 1) := dk_42 (dk_at dksX4_does_5 12 rfl rfl)
theorem dX4_does_188 : decode cX4_does 188 = .ok (.iload_n 2, 1) := dk_28 (dk_at dksX4_does_5 13 rfl rfl)
theorem dX4_does_189 : decode cX4_does 189 = .ok (.iload_n 3, 1) := dk_29 (dk_at dksX4_does_5 14 rfl rfl)
theorem dX4_does_190 : decode cX4_does 190 = .ok (.invokevirtual 144, 3) := dk_182 0 144 (dk_at dksX4_does_5 15 rfl rfl)
theorem dX4_does_193 : decode cX4_does 193 = .ok (.ireturn, 1) := dk_172 (dk_at dksX4_does_5 18 rfl rfl)
theorem dX4_does_194 : decode cX4_does 194 = .ok (.aload_n 0, 1) := dk_42 (dk_at dksX4_does_5 19 rfl rfl)
theorem dX4_does_195 : decode cX4_does 195 = .ok (.invokevirtual 117, 3) := dk_182 0 117 (dk_at dksX4_does_5 20 rfl rfl)
theorem dX4_does_198 : decode cX4_does 198 = .ok (.ireturn, 1) := dk_172 (dk_at dksX4_does_5 23 rfl rfl)
def dkwX4_errorPosition_1 : List UInt8 := [42, 180, 0, 25, 172]
abbrev dktX4_errorPosition_1 : List UInt8 := dkwX4_errorPosition_1 ++ []
def dkwX4_errorPosition_0 : List UInt8 := [42, 42, 180, 0, 25, 156, 0, 7, 4, 167, 0, 4, 3, 4, 182, 0, 63, 153, 0, 7, 3, 167, 0, 7]
abbrev dktX4_errorPosition_0 : List UInt8 := dkwX4_errorPosition_0 ++ dktX4_errorPosition_1
theorem dksX4_errorPosition_0 : cX4_errorPosition.data.toList.drop 0 = dktX4_errorPosition_0 := by decide +kernel
theorem dksX4_errorPosition_1 : cX4_errorPosition.data.toList.drop 24 = dktX4_errorPosition_1 := dk_seg dksX4_errorPosition_0 24 rfl rfl
theorem dX4_errorPosition_0 : decode cX4_errorPosition 0 = .ok (.aload_n 0, 1) := dk_42 (dk_at dksX4_errorPosition_0 0 rfl rfl)
theorem dX4_errorPosition_1 : decode cX4_errorPosition 1 = .ok (.aload_n 0, 1) := dk_42 (dk_at dksX4_errorPosition_0 1 rfl rfl)
theorem dX4_errorPosition_2 : decode cX4_errorPosition 2 = .ok (.getfield 25, 3) := dk_180 0 25 (dk_at dksX4_errorPosition_0 2 rfl rfl)
theorem dX4_errorPosition_5 : decode cX4_errorPosition 5 = .ok (.ifCond .ge 7, 3) := dk_156 0 7 (dk_at dksX4_errorPosition_0 5 rfl rfl)
theorem dX4_errorPosition_8 : decode cX4_errorPosition 8 = .ok (.iconst 1, 1) := dk_4 (dk_at dksX4_errorPosition_0 8 rfl rfl)
theorem dX4_errorPosition_9 : decode cX4_errorPosition 9 = .ok (.goto 4, 3) := dk_167 0 4 (dk_at dksX4_errorPosition_0 9 rfl rfl)
theorem dX4_errorPosition_12 : decode cX4_errorPosition 12 = .ok (.iconst 0, 1) := dk_3 (dk_at dksX4_errorPosition_0 12 rfl rfl)
theorem dX4_errorPosition_13 : decode cX4_errorPosition 13 = .ok (.iconst 1, 1) := dk_4 (dk_at dksX4_errorPosition_0 13 rfl rfl)
theorem dX4_errorPosition_14 : decode cX4_errorPosition 14 = .ok (.invokevirtual 63, 3) := dk_182 0 63 (dk_at dksX4_errorPosition_0 14 rfl rfl)
theorem dX4_errorPosition_17 : decode cX4_errorPosition 17 = .ok (.ifCond .eq 7, 3) := dk_153 0 7 (dk_at dksX4_errorPosition_0 17 rfl rfl)
theorem dX4_errorPosition_20 : decode cX4_errorPosition 20 = .ok (.iconst 0, 1) := dk_3 (dk_at dksX4_errorPosition_0 20 rfl rfl)
theorem dX4_errorPosition_21 : decode cX4_errorPosition 21 = .ok (.goto 7, 3) := dk_167 0 7 (dk_at dksX4_errorPosition_0 21 rfl rfl)
theorem dX4_errorPosition_24 : decode cX4_errorPosition 24 = .ok (.aload_n 0, 1) := dk_42 (dk_at dksX4_errorPosition_1 0 rfl rfl)
theorem dX4_errorPosition_25 : decode cX4_errorPosition 25 = .ok (.getfield 25, 3) := dk_180 0 25 (dk_at dksX4_errorPosition_1 1 rfl rfl)
theorem dX4_errorPosition_28 : decode cX4_errorPosition 28 = .ok (.ireturn, 1) := dk_172 (dk_at dksX4_errorPosition_1 4 rfl rfl)
def dkwX4_failedCommand_1 : List UInt8 := [42, 180, 0, 29, 172]
abbrev dktX4_failedCommand_1 : List UInt8 := dkwX4_failedCommand_1 ++ []
def dkwX4_failedCommand_0 : List UInt8 := [42, 42, 180, 0, 29, 156, 0, 7, 4, 167, 0, 4, 3, 4, 182, 0, 63, 153, 0, 7, 3, 167, 0, 7]
abbrev dktX4_failedCommand_0 : List UInt8 := dkwX4_failedCommand_0 ++ dktX4_failedCommand_1
theorem dksX4_failedCommand_0 : cX4_failedCommand.data.toList.drop 0 = dktX4_failedCommand_0 := by decide +kernel
theorem dksX4_failedCommand_1 : cX4_failedCommand.data.toList.drop 24 = dktX4_failedCommand_1 := dk_seg dksX4_failedCommand_0 24 rfl rfl
theorem dX4_failedCommand_0 : decode cX4_failedCommand 0 = .ok (.aload_n 0, 1) := dk_42 (dk_at dksX4_failedCommand_0 0 rfl rfl)
theorem dX4_failedCommand_1 : decode cX4_failedCommand 1 = .ok (.aload_n 0, 1) := dk_42 (dk_at dksX4_failedCommand_0 1 rfl rfl)
theorem dX4_failedCommand_2 : decode cX4_failedCommand 2 = .ok (.getfield 29, 3) := dk_180 0 29 (dk_at dksX4_failedCommand_0 2 rfl rfl)
theorem dX4_failedCommand_5 : decode cX4_failedCommand 5 = .ok (.ifCond .ge 7, 3) := dk_156 0 7 (dk_at dksX4_failedCommand_0 5 rfl rfl)
theorem dX4_failedCommand_8 : decode cX4_failedCommand 8 = .ok (.iconst 1, 1) := dk_4 (dk_at dksX4_failedCommand_0 8 rfl rfl)
theorem dX4_failedCommand_9 : decode cX4_failedCommand 9 = .ok (.goto 4, 3) := dk_167 0 4 (dk_at dksX4_failedCommand_0 9 rfl rfl)
theorem dX4_failedCommand_12 : decode cX4_failedCommand 12 = .ok (.iconst 0, 1) := dk_3 (dk_at dksX4_failedCommand_0 12 rfl rfl)
theorem dX4_failedCommand_13 : decode cX4_failedCommand 13 = .ok (.iconst 1, 1) := dk_4 (dk_at dksX4_failedCommand_0 13 rfl rfl)
theorem dX4_failedCommand_14 : decode cX4_failedCommand 14 = .ok (.invokevirtual 63, 3) := dk_182 0 63 (dk_at dksX4_failedCommand_0 14 rfl rfl)
theorem dX4_failedCommand_17 : decode cX4_failedCommand 17 = .ok (.ifCond .eq 7, 3) := dk_153 0 7 (dk_at dksX4_failedCommand_0 17 rfl rfl)
theorem dX4_failedCommand_20 : decode cX4_failedCommand 20 = .ok (.iconst 0, 1) := dk_3 (dk_at dksX4_failedCommand_0 20 rfl rfl)
theorem dX4_failedCommand_21 : decode cX4_failedCommand 21 = .ok (.goto 7, 3) := dk_167 0 7 (dk_at dksX4_failedCommand_0 21 rfl rfl)
theorem dX4_failedCommand_24 : decode cX4_failedCommand 24 = .ok (.aload_n 0, 1) := dk_42 (dk_at dksX4_failedCommand_1 0 rfl rfl)
theorem dX4_failedCommand_25 : decode cX4_failedCommand 25 = .ok (.getfield 29, 3) := dk_180 0 29 (dk_at dksX4_failedCommand_1 1 rfl rfl)
theorem dX4_failedCommand_28 : decode cX4_failedCommand 28 = .ok (.ireturn, 1) := dk_172 (dk_at dksX4_failedCommand_1 4 rfl rfl)
def dkwX4_undo_2 : List UInt8 := [3, 184, 0, 44, 42, 180, 0, 48, 172]
abbrev dktX4_undo_2 : List UInt8 := dkwX4_undo_2 ++ []
def dkwX4_undo_1 : List UInt8 := [180, 0, 48, 4, 100, 181, 0, 48, 42, 180, 0, 19, 17, 0, 204, 42, 180, 0, 48, 104, 42, 180, 0, 9]
abbrev dktX4_undo_1 : List UInt8 := dkwX4_undo_1 ++ dktX4_undo_2
def dkwX4_undo_0 : List UInt8 := [42, 42, 180, 0, 48, 154, 0, 7, 4, 167, 0, 4, 3, 4, 182, 0, 63, 153, 0, 5, 3, 172, 42, 89]
abbrev dktX4_undo_0 : List UInt8 := dkwX4_undo_0 ++ dktX4_undo_1
theorem dksX4_undo_0 : cX4_undo.data.toList.drop 0 = dktX4_undo_0 := by decide +kernel
theorem dksX4_undo_1 : cX4_undo.data.toList.drop 24 = dktX4_undo_1 := dk_seg dksX4_undo_0 24 rfl rfl
theorem dksX4_undo_2 : cX4_undo.data.toList.drop 48 = dktX4_undo_2 := dk_seg dksX4_undo_1 24 rfl rfl
theorem dX4_undo_0 : decode cX4_undo 0 = .ok (.aload_n 0, 1) := dk_42 (dk_at dksX4_undo_0 0 rfl rfl)
theorem dX4_undo_1 : decode cX4_undo 1 = .ok (.aload_n 0, 1) := dk_42 (dk_at dksX4_undo_0 1 rfl rfl)
theorem dX4_undo_2 : decode cX4_undo 2 = .ok (.getfield 48, 3) := dk_180 0 48 (dk_at dksX4_undo_0 2 rfl rfl)
theorem dX4_undo_5 : decode cX4_undo 5 = .ok (.ifCond .ne 7, 3) := dk_154 0 7 (dk_at dksX4_undo_0 5 rfl rfl)
theorem dX4_undo_8 : decode cX4_undo 8 = .ok (.iconst 1, 1) := dk_4 (dk_at dksX4_undo_0 8 rfl rfl)
theorem dX4_undo_9 : decode cX4_undo 9 = .ok (.goto 4, 3) := dk_167 0 4 (dk_at dksX4_undo_0 9 rfl rfl)
theorem dX4_undo_12 : decode cX4_undo 12 = .ok (.iconst 0, 1) := dk_3 (dk_at dksX4_undo_0 12 rfl rfl)
theorem dX4_undo_13 : decode cX4_undo 13 = .ok (.iconst 1, 1) := dk_4 (dk_at dksX4_undo_0 13 rfl rfl)
theorem dX4_undo_14 : decode cX4_undo 14 = .ok (.invokevirtual 63, 3) := dk_182 0 63 (dk_at dksX4_undo_0 14 rfl rfl)
theorem dX4_undo_17 : decode cX4_undo 17 = .ok (.ifCond .eq 5, 3) := dk_153 0 5 (dk_at dksX4_undo_0 17 rfl rfl)
theorem dX4_undo_20 : decode cX4_undo 20 = .ok (.iconst 0, 1) := dk_3 (dk_at dksX4_undo_0 20 rfl rfl)
theorem dX4_undo_21 : decode cX4_undo 21 = .ok (.ireturn, 1) := dk_172 (dk_at dksX4_undo_0 21 rfl rfl)
theorem dX4_undo_22 : decode cX4_undo 22 = .ok (.aload_n 0, 1) := dk_42 (dk_at dksX4_undo_0 22 rfl rfl)
theorem dX4_undo_23 : decode cX4_undo 23 = .ok (.dup, 1) := dk_89 (dk_at dksX4_undo_0 23 rfl rfl)
theorem dX4_undo_24 : decode cX4_undo 24 = .ok (.getfield 48, 3) := dk_180 0 48 (dk_at dksX4_undo_1 0 rfl rfl)
theorem dX4_undo_27 : decode cX4_undo 27 = .ok (.iconst 1, 1) := dk_4 (dk_at dksX4_undo_1 3 rfl rfl)
theorem dX4_undo_28 : decode cX4_undo 28 = .ok (.isub, 1) := dk_100 (dk_at dksX4_undo_1 4 rfl rfl)
theorem dX4_undo_29 : decode cX4_undo 29 = .ok (.putfield 48, 3) := dk_181 0 48 (dk_at dksX4_undo_1 5 rfl rfl)
theorem dX4_undo_32 : decode cX4_undo 32 = .ok (.aload_n 0, 1) := dk_42 (dk_at dksX4_undo_1 8 rfl rfl)
theorem dX4_undo_33 : decode cX4_undo 33 = .ok (.getfield 19, 3) := dk_180 0 19 (dk_at dksX4_undo_1 9 rfl rfl)
theorem dX4_undo_36 : decode cX4_undo 36 = .ok (.sipush 204, 3) := dk_17 0 204 (dk_at dksX4_undo_1 12 rfl rfl)
theorem dX4_undo_39 : decode cX4_undo 39 = .ok (.aload_n 0, 1) := dk_42 (dk_at dksX4_undo_1 15 rfl rfl)
theorem dX4_undo_40 : decode cX4_undo 40 = .ok (.getfield 48, 3) := dk_180 0 48 (dk_at dksX4_undo_1 16 rfl rfl)
theorem dX4_undo_43 : decode cX4_undo 43 = .ok (.imul, 1) := dk_104 (dk_at dksX4_undo_1 19 rfl rfl)
theorem dX4_undo_44 : decode cX4_undo 44 = .ok (.aload_n 0, 1) := dk_42 (dk_at dksX4_undo_1 20 rfl rfl)
theorem dX4_undo_45 : decode cX4_undo 45 = .ok (.getfield 9, 3) := dk_180 0 9 (dk_at dksX4_undo_1 21 rfl rfl)
theorem dX4_undo_48 : decode cX4_undo 48 = .ok (.iconst 0, 1) := dk_3 (dk_at dksX4_undo_2 0 rfl rfl)
theorem dX4_undo_49 : decode cX4_undo 49 = .ok (.invokestatic 44, 3) := dk_184 0 44 (dk_at dksX4_undo_2 1 rfl rfl)
theorem dX4_undo_52 : decode cX4_undo 52 = .ok (.aload_n 0, 1) := dk_42 (dk_at dksX4_undo_2 4 rfl rfl)
theorem dX4_undo_53 : decode cX4_undo 53 = .ok (.getfield 48, 3) := dk_180 0 48 (dk_at dksX4_undo_2 5 rfl rfl)
theorem dX4_undo_56 : decode cX4_undo 56 = .ok (.ireturn, 1) := dk_172 (dk_at dksX4_undo_2 8 rfl rfl)
def dkwX4_save_1 : List UInt8 := [180, 0, 9, 3, 46, 172]
abbrev dktX4_save_1 : List UInt8 := dkwX4_save_1 ++ []
def dkwX4_save_0 : List UInt8 := [42, 3, 181, 0, 41, 42, 180, 0, 9, 3, 42, 180, 0, 16, 3, 184, 0, 44, 42, 4, 181, 1, 18, 42]
abbrev dktX4_save_0 : List UInt8 := dkwX4_save_0 ++ dktX4_save_1
theorem dksX4_save_0 : cX4_save.data.toList.drop 0 = dktX4_save_0 := by decide +kernel
theorem dksX4_save_1 : cX4_save.data.toList.drop 24 = dktX4_save_1 := dk_seg dksX4_save_0 24 rfl rfl
theorem dX4_save_0 : decode cX4_save 0 = .ok (.aload_n 0, 1) := dk_42 (dk_at dksX4_save_0 0 rfl rfl)
theorem dX4_save_1 : decode cX4_save 1 = .ok (.iconst 0, 1) := dk_3 (dk_at dksX4_save_0 1 rfl rfl)
theorem dX4_save_2 : decode cX4_save 2 = .ok (.putfield 41, 3) := dk_181 0 41 (dk_at dksX4_save_0 2 rfl rfl)
theorem dX4_save_5 : decode cX4_save 5 = .ok (.aload_n 0, 1) := dk_42 (dk_at dksX4_save_0 5 rfl rfl)
theorem dX4_save_6 : decode cX4_save 6 = .ok (.getfield 9, 3) := dk_180 0 9 (dk_at dksX4_save_0 6 rfl rfl)
theorem dX4_save_9 : decode cX4_save 9 = .ok (.iconst 0, 1) := dk_3 (dk_at dksX4_save_0 9 rfl rfl)
theorem dX4_save_10 : decode cX4_save 10 = .ok (.aload_n 0, 1) := dk_42 (dk_at dksX4_save_0 10 rfl rfl)
theorem dX4_save_11 : decode cX4_save 11 = .ok (.getfield 16, 3) := dk_180 0 16 (dk_at dksX4_save_0 11 rfl rfl)
theorem dX4_save_14 : decode cX4_save 14 = .ok (.iconst 0, 1) := dk_3 (dk_at dksX4_save_0 14 rfl rfl)
theorem dX4_save_15 : decode cX4_save 15 = .ok (.invokestatic 44, 3) := dk_184 0 44 (dk_at dksX4_save_0 15 rfl rfl)
theorem dX4_save_18 : decode cX4_save 18 = .ok (.aload_n 0, 1) := dk_42 (dk_at dksX4_save_0 18 rfl rfl)
theorem dX4_save_19 : decode cX4_save 19 = .ok (.iconst 1, 1) := dk_4 (dk_at dksX4_save_0 19 rfl rfl)
theorem dX4_save_20 : decode cX4_save 20 = .ok (.putfield 274, 3) := dk_181 1 18 (dk_at dksX4_save_0 20 rfl rfl)
theorem dX4_save_23 : decode cX4_save 23 = .ok (.aload_n 0, 1) := dk_42 (dk_at dksX4_save_0 23 rfl rfl)
theorem dX4_save_24 : decode cX4_save 24 = .ok (.getfield 9, 3) := dk_180 0 9 (dk_at dksX4_save_1 0 rfl rfl)
theorem dX4_save_27 : decode cX4_save 27 = .ok (.iconst 0, 1) := dk_3 (dk_at dksX4_save_1 3 rfl rfl)
theorem dX4_save_28 : decode cX4_save 28 = .ok (.iaload, 1) := dk_46 (dk_at dksX4_save_1 4 rfl rfl)
theorem dX4_save_29 : decode cX4_save 29 = .ok (.ireturn, 1) := dk_172 (dk_at dksX4_save_1 5 rfl rfl)
def dkwX4_restore_1 : List UInt8 := [180, 0, 16, 3, 42, 180, 0, 9, 3, 184, 0, 44, 42, 3, 181, 0, 48, 42, 180, 0, 9, 3, 46, 172]
abbrev dktX4_restore_1 : List UInt8 := dkwX4_restore_1 ++ []
def dkwX4_restore_0 : List UInt8 := [42, 42, 180, 1, 18, 154, 0, 7, 4, 167, 0, 4, 3, 4, 182, 0, 63, 153, 0, 5, 3, 172, 42]
abbrev dktX4_restore_0 : List UInt8 := dkwX4_restore_0 ++ dktX4_restore_1
theorem dksX4_restore_0 : cX4_restore.data.toList.drop 0 = dktX4_restore_0 := by decide +kernel
theorem dksX4_restore_1 : cX4_restore.data.toList.drop 23 = dktX4_restore_1 := dk_seg dksX4_restore_0 23 rfl rfl
theorem dX4_restore_0 : decode cX4_restore 0 = .ok (.aload_n 0, 1) := dk_42 (dk_at dksX4_restore_0 0 rfl rfl)
theorem dX4_restore_1 : decode cX4_restore 1 = .ok (.aload_n 0, 1) := dk_42 (dk_at dksX4_restore_0 1 rfl rfl)
theorem dX4_restore_2 : decode cX4_restore 2 = .ok (.getfield 274, 3) := dk_180 1 18 (dk_at dksX4_restore_0 2 rfl rfl)
theorem dX4_restore_5 : decode cX4_restore 5 = .ok (.ifCond .ne 7, 3) := dk_154 0 7 (dk_at dksX4_restore_0 5 rfl rfl)
theorem dX4_restore_8 : decode cX4_restore 8 = .ok (.iconst 1, 1) := dk_4 (dk_at dksX4_restore_0 8 rfl rfl)
theorem dX4_restore_9 : decode cX4_restore 9 = .ok (.goto 4, 3) := dk_167 0 4 (dk_at dksX4_restore_0 9 rfl rfl)
theorem dX4_restore_12 : decode cX4_restore 12 = .ok (.iconst 0, 1) := dk_3 (dk_at dksX4_restore_0 12 rfl rfl)
theorem dX4_restore_13 : decode cX4_restore 13 = .ok (.iconst 1, 1) := dk_4 (dk_at dksX4_restore_0 13 rfl rfl)
theorem dX4_restore_14 : decode cX4_restore 14 = .ok (.invokevirtual 63, 3) := dk_182 0 63 (dk_at dksX4_restore_0 14 rfl rfl)
theorem dX4_restore_17 : decode cX4_restore 17 = .ok (.ifCond .eq 5, 3) := dk_153 0 5 (dk_at dksX4_restore_0 17 rfl rfl)
theorem dX4_restore_20 : decode cX4_restore 20 = .ok (.iconst 0, 1) := dk_3 (dk_at dksX4_restore_0 20 rfl rfl)
theorem dX4_restore_21 : decode cX4_restore 21 = .ok (.ireturn, 1) := dk_172 (dk_at dksX4_restore_0 21 rfl rfl)
theorem dX4_restore_22 : decode cX4_restore 22 = .ok (.aload_n 0, 1) := dk_42 (dk_at dksX4_restore_0 22 rfl rfl)
theorem dX4_restore_23 : decode cX4_restore 23 = .ok (.getfield 16, 3) := dk_180 0 16 (dk_at dksX4_restore_1 0 rfl rfl)
theorem dX4_restore_26 : decode cX4_restore 26 = .ok (.iconst 0, 1) := dk_3 (dk_at dksX4_restore_1 3 rfl rfl)
theorem dX4_restore_27 : decode cX4_restore 27 = .ok (.aload_n 0, 1) := dk_42 (dk_at dksX4_restore_1 4 rfl rfl)
theorem dX4_restore_28 : decode cX4_restore 28 = .ok (.getfield 9, 3) := dk_180 0 9 (dk_at dksX4_restore_1 5 rfl rfl)
theorem dX4_restore_31 : decode cX4_restore 31 = .ok (.iconst 0, 1) := dk_3 (dk_at dksX4_restore_1 8 rfl rfl)
theorem dX4_restore_32 : decode cX4_restore 32 = .ok (.invokestatic 44, 3) := dk_184 0 44 (dk_at dksX4_restore_1 9 rfl rfl)
theorem dX4_restore_35 : decode cX4_restore 35 = .ok (.aload_n 0, 1) := dk_42 (dk_at dksX4_restore_1 12 rfl rfl)
theorem dX4_restore_36 : decode cX4_restore 36 = .ok (.iconst 0, 1) := dk_3 (dk_at dksX4_restore_1 13 rfl rfl)
theorem dX4_restore_37 : decode cX4_restore 37 = .ok (.putfield 48, 3) := dk_181 0 48 (dk_at dksX4_restore_1 14 rfl rfl)
theorem dX4_restore_40 : decode cX4_restore 40 = .ok (.aload_n 0, 1) := dk_42 (dk_at dksX4_restore_1 17 rfl rfl)
theorem dX4_restore_41 : decode cX4_restore 41 = .ok (.getfield 9, 3) := dk_180 0 9 (dk_at dksX4_restore_1 18 rfl rfl)
theorem dX4_restore_44 : decode cX4_restore 44 = .ok (.iconst 0, 1) := dk_3 (dk_at dksX4_restore_1 21 rfl rfl)
theorem dX4_restore_45 : decode cX4_restore 45 = .ok (.iaload, 1) := dk_46 (dk_at dksX4_restore_1 22 rfl rfl)
theorem dX4_restore_46 : decode cX4_restore 46 = .ok (.ireturn, 1) := dk_172 (dk_at dksX4_restore_1 23 rfl rfl)
