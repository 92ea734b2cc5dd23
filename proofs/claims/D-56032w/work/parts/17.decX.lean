set_option maxRecDepth 100000
def dkwX1_init_2 : List UInt8 := [181, 0, 82, 42, 2, 181, 0, 86, 177]
abbrev dktX1_init_2 : List UInt8 := dkwX1_init_2 ++ []
def dkwX1_init_1 : List UInt8 := [181, 0, 67, 42, 187, 0, 71, 89, 183, 0, 73, 181, 0, 74, 42, 16, 60, 188, 5, 181, 0, 78, 42, 2]
abbrev dktX1_init_1 : List UInt8 := dkwX1_init_1 ++ dktX1_init_2
def dkwX1_init_0 : List UInt8 := [42, 183, 0, 54, 42, 187, 0, 57, 89, 183, 0, 59, 181, 0, 60, 42, 187, 0, 64, 89, 183, 0, 66]
abbrev dktX1_init_0 : List UInt8 := dkwX1_init_0 ++ dktX1_init_1
theorem dksX1_init_0 : cX1_init.data.toList.drop 0 = dktX1_init_0 := by decide +kernel
theorem dksX1_init_1 : cX1_init.data.toList.drop 23 = dktX1_init_1 := dk_seg dksX1_init_0 23 rfl rfl
theorem dksX1_init_2 : cX1_init.data.toList.drop 47 = dktX1_init_2 := dk_seg dksX1_init_1 24 rfl rfl
theorem dX1_init_0 : decode cX1_init 0 = .ok (.aload_n 0, 1) := dk_42 (dk_at dksX1_init_0 0 rfl rfl)
theorem dX1_init_1 : decode cX1_init 1 = .ok (.invokespecial 54, 3) := dk_183 0 54 (dk_at dksX1_init_0 1 rfl rfl)
theorem dX1_init_4 : decode cX1_init 4 = .ok (.aload_n 0, 1) := dk_42 (dk_at dksX1_init_0 4 rfl rfl)
theorem dX1_init_5 : decode cX1_init 5 = .ok (.new 57, 3) := dk_187 0 57 (dk_at dksX1_init_0 5 rfl rfl)
theorem dX1_init_8 : decode cX1_init 8 = .ok (.dup, 1) := dk_89 (dk_at dksX1_init_0 8 rfl rfl)
theorem dX1_init_9 : decode cX1_init 9 = .ok (.invokespecial 59, 3) := dk_183 0 59 (dk_at dksX1_init_0 9 rfl rfl)
theorem dX1_init_12 : decode cX1_init 12 = .ok (.putfield 60, 3) := dk_181 0 60 (dk_at dksX1_init_0 12 rfl rfl)
theorem dX1_init_15 : decode cX1_init 15 = .ok (.aload_n 0, 1) := dk_42 (dk_at dksX1_init_0 15 rfl rfl)
theorem dX1_init_16 : decode cX1_init 16 = .ok (.new 64, 3) := dk_187 0 64 (dk_at dksX1_init_0 16 rfl rfl)
theorem dX1_init_19 : decode cX1_init 19 = .ok (.dup, 1) := dk_89 (dk_at dksX1_init_0 19 rfl rfl)
theorem dX1_init_20 : decode cX1_init 20 = .ok (.invokespecial 66, 3) := dk_183 0 66 (dk_at dksX1_init_0 20 rfl rfl)
theorem dX1_init_23 : decode cX1_init 23 = .ok (.putfield 67, 3) := dk_181 0 67 (dk_at dksX1_init_1 0 rfl rfl)
theorem dX1_init_26 : decode cX1_init 26 = .ok (.aload_n 0, 1) := dk_42 (dk_at dksX1_init_1 3 rfl rfl)
theorem dX1_init_27 : decode cX1_init 27 = .ok (.new 71, 3) := dk_187 0 71 (dk_at dksX1_init_1 4 rfl rfl)
theorem dX1_init_30 : decode cX1_init 30 = .ok (.dup, 1) := dk_89 (dk_at dksX1_init_1 7 rfl rfl)
theorem dX1_init_31 : decode cX1_init 31 = .ok (.invokespecial 73, 3) := dk_183 0 73 (dk_at dksX1_init_1 8 rfl rfl)
theorem dX1_init_34 : decode cX1_init 34 = .ok (.putfield 74, 3) := dk_181 0 74 (dk_at dksX1_init_1 11 rfl rfl)
theorem dX1_init_37 : decode cX1_init 37 = .ok (.aload_n 0, 1) := dk_42 (dk_at dksX1_init_1 14 rfl rfl)
theorem dX1_init_38 : decode cX1_init 38 = .ok (.bipush 60, 2) := dk_16 60 (dk_at dksX1_init_1 15 rfl rfl)
theorem dX1_init_40 : decode cX1_init 40 = .ok (.newarray .char, 2) := dk_188_5 (dk_at dksX1_init_1 17 rfl rfl)
theorem dX1_init_42 : decode cX1_init 42 = .ok (.putfield 78, 3) := dk_181 0 78 (dk_at dksX1_init_1 19 rfl rfl)
theorem dX1_init_45 : decode cX1_init 45 = .ok (.aload_n 0, 1) := dk_42 (dk_at dksX1_init_1 22 rfl rfl)
theorem dX1_init_46 : decode cX1_init 46 = .ok (.iconst (-1), 1) := dk_2 (dk_at dksX1_init_1 23 rfl rfl)
theorem dX1_init_47 : decode cX1_init 47 = .ok (.putfield 82, 3) := dk_181 0 82 (dk_at dksX1_init_2 0 rfl rfl)
theorem dX1_init_50 : decode cX1_init 50 = .ok (.aload_n 0, 1) := dk_42 (dk_at dksX1_init_2 3 rfl rfl)
theorem dX1_init_51 : decode cX1_init 51 = .ok (.iconst (-1), 1) := dk_2 (dk_at dksX1_init_2 4 rfl rfl)
theorem dX1_init_52 : decode cX1_init 52 = .ok (.putfield 86, 3) := dk_181 0 86 (dk_at dksX1_init_2 5 rfl rfl)
theorem dX1_init_55 : decode cX1_init 55 = .ok (.return_, 1) := dk_177 (dk_at dksX1_init_2 8 rfl rfl)
def dkwX1_waypoints_0 : List UInt8 := [42, 180, 0, 60, 182, 0, 134, 172]
abbrev dktX1_waypoints_0 : List UInt8 := dkwX1_waypoints_0 ++ []
theorem dksX1_waypoints_0 : cX1_waypoints.data.toList.drop 0 = dktX1_waypoints_0 := by decide +kernel
theorem dX1_waypoints_0 : decode cX1_waypoints 0 = .ok (.aload_n 0, 1) := dk_42 (dk_at dksX1_waypoints_0 0 rfl rfl)
theorem dX1_waypoints_1 : decode cX1_waypoints 1 = .ok (.getfield 60, 3) := dk_180 0 60 (dk_at dksX1_waypoints_0 1 rfl rfl)
theorem dX1_waypoints_4 : decode cX1_waypoints 4 = .ok (.invokevirtual 134, 3) := dk_182 0 134 (dk_at dksX1_waypoints_0 4 rfl rfl)
theorem dX1_waypoints_7 : decode cX1_waypoints 7 = .ok (.ireturn, 1) := dk_172 (dk_at dksX1_waypoints_0 7 rfl rfl)
def dkwX1_trails_0 : List UInt8 := [42, 180, 0, 60, 182, 0, 154, 172]
abbrev dktX1_trails_0 : List UInt8 := dkwX1_trails_0 ++ []
theorem dksX1_trails_0 : cX1_trails.data.toList.drop 0 = dktX1_trails_0 := by decide +kernel
theorem dX1_trails_0 : decode cX1_trails 0 = .ok (.aload_n 0, 1) := dk_42 (dk_at dksX1_trails_0 0 rfl rfl)
theorem dX1_trails_1 : decode cX1_trails 1 = .ok (.getfield 60, 3) := dk_180 0 60 (dk_at dksX1_trails_0 1 rfl rfl)
theorem dX1_trails_4 : decode cX1_trails 4 = .ok (.invokevirtual 154, 3) := dk_182 0 154 (dk_at dksX1_trails_0 4 rfl rfl)
theorem dX1_trails_7 : decode cX1_trails 7 = .ok (.ireturn, 1) := dk_172 (dk_at dksX1_trails_0 7 rfl rfl)
def dkwX1_components_0 : List UInt8 := [42, 180, 0, 60, 182, 0, 180, 172]
abbrev dktX1_components_0 : List UInt8 := dkwX1_components_0 ++ []
theorem dksX1_components_0 : cX1_components.data.toList.drop 0 = dktX1_components_0 := by decide +kernel
theorem dX1_components_0 : decode cX1_components 0 = .ok (.aload_n 0, 1) := dk_42 (dk_at dksX1_components_0 0 rfl rfl)
theorem dX1_components_1 : decode cX1_components 1 = .ok (.getfield 60, 3) := dk_180 0 60 (dk_at dksX1_components_0 1 rfl rfl)
theorem dX1_components_4 : decode cX1_components 4 = .ok (.invokevirtual 180, 3) := dk_182 0 180 (dk_at dksX1_components_0 4 rfl rfl)
theorem dX1_components_7 : decode cX1_components 7 = .ok (.ireturn, 1) := dk_172 (dk_at dksX1_components_0 7 rfl rfl)
def dkwX1_componentsByMerging_0 : List UInt8 := [42, 180, 0, 60, 182, 0, 183, 172]
abbrev dktX1_componentsByMerging_0 : List UInt8 := dkwX1_componentsByMerging_0 ++ []
theorem dksX1_componentsByMerging_0 : cX1_componentsByMerging.data.toList.drop 0 = dktX1_componentsByMerging_0 := by decide +kernel
theorem dX1_componentsByMerging_0 : decode cX1_componentsByMerging 0 = .ok (.aload_n 0, 1) := dk_42 (dk_at dksX1_componentsByMerging_0 0 rfl rfl)
theorem dX1_componentsByMerging_1 : decode cX1_componentsByMerging 1 = .ok (.getfield 60, 3) := dk_180 0 60 (dk_at dksX1_componentsByMerging_0 1 rfl rfl)
theorem dX1_componentsByMerging_4 : decode cX1_componentsByMerging 4 = .ok (.invokevirtual 183, 3) := dk_182 0 183 (dk_at dksX1_componentsByMerging_0 4 rfl rfl)
theorem dX1_componentsByMerging_7 : decode cX1_componentsByMerging 7 = .ok (.ireturn, 1) := dk_172 (dk_at dksX1_componentsByMerging_0 7 rfl rfl)
def dkwX1_isTouring_0 : List UInt8 := [42, 180, 0, 60, 180, 0, 195, 198, 0, 7, 4, 167, 0, 4, 3, 172]
abbrev dktX1_isTouring_0 : List UInt8 := dkwX1_isTouring_0 ++ []
theorem dksX1_isTouring_0 : cX1_isTouring.data.toList.drop 0 = dktX1_isTouring_0 := by decide +kernel
theorem dX1_isTouring_0 : decode cX1_isTouring 0 = .ok (.aload_n 0, 1) := dk_42 (dk_at dksX1_isTouring_0 0 rfl rfl)
theorem dX1_isTouring_1 : decode cX1_isTouring 1 = .ok (.getfield 60, 3) := dk_180 0 60 (dk_at dksX1_isTouring_0 1 rfl rfl)
theorem dX1_isTouring_4 : decode cX1_isTouring 4 = .ok (.getfield 195, 3) := dk_180 0 195 (dk_at dksX1_isTouring_0 4 rfl rfl)
theorem dX1_isTouring_7 : decode cX1_isTouring 7 = .ok (.ifnull 7, 3) := dk_198 0 7 (dk_at dksX1_isTouring_0 7 rfl rfl)
theorem dX1_isTouring_10 : decode cX1_isTouring 10 = .ok (.iconst 1, 1) := dk_4 (dk_at dksX1_isTouring_0 10 rfl rfl)
theorem dX1_isTouring_11 : decode cX1_isTouring 11 = .ok (.goto 4, 3) := dk_167 0 4 (dk_at dksX1_isTouring_0 11 rfl rfl)
theorem dX1_isTouring_14 : decode cX1_isTouring 14 = .ok (.iconst 0, 1) := dk_3 (dk_at dksX1_isTouring_0 14 rfl rfl)
theorem dX1_isTouring_15 : decode cX1_isTouring 15 = .ok (.ireturn, 1) := dk_172 (dk_at dksX1_isTouring_0 15 rfl rfl)
def dkwX1_isAlarm_0 : List UInt8 := [42, 180, 0, 60, 180, 0, 241, 172]
abbrev dktX1_isAlarm_0 : List UInt8 := dkwX1_isAlarm_0 ++ []
theorem dksX1_isAlarm_0 : cX1_isAlarm.data.toList.drop 0 = dktX1_isAlarm_0 := by decide +kernel
theorem dX1_isAlarm_0 : decode cX1_isAlarm 0 = .ok (.aload_n 0, 1) := dk_42 (dk_at dksX1_isAlarm_0 0 rfl rfl)
theorem dX1_isAlarm_1 : decode cX1_isAlarm 1 = .ok (.getfield 60, 3) := dk_180 0 60 (dk_at dksX1_isAlarm_0 1 rfl rfl)
theorem dX1_isAlarm_4 : decode cX1_isAlarm 4 = .ok (.getfield 241, 3) := dk_180 0 241 (dk_at dksX1_isAlarm_0 4 rfl rfl)
theorem dX1_isAlarm_7 : decode cX1_isAlarm 7 = .ok (.ireturn, 1) := dk_172 (dk_at dksX1_isAlarm_0 7 rfl rfl)
def dkwX1_battery_0 : List UInt8 := [42, 180, 0, 60, 180, 0, 252, 172]
abbrev dktX1_battery_0 : List UInt8 := dkwX1_battery_0 ++ []
theorem dksX1_battery_0 : cX1_battery.data.toList.drop 0 = dktX1_battery_0 := by decide +kernel
theorem dX1_battery_0 : decode cX1_battery 0 = .ok (.aload_n 0, 1) := dk_42 (dk_at dksX1_battery_0 0 rfl rfl)
theorem dX1_battery_1 : decode cX1_battery 1 = .ok (.getfield 60, 3) := dk_180 0 60 (dk_at dksX1_battery_0 1 rfl rfl)
theorem dX1_battery_4 : decode cX1_battery 4 = .ok (.getfield 252, 3) := dk_180 0 252 (dk_at dksX1_battery_0 4 rfl rfl)
theorem dX1_battery_7 : decode cX1_battery 7 = .ok (.ireturn, 1) := dk_172 (dk_at dksX1_battery_0 7 rfl rfl)
def dkwX1_mode_0 : List UInt8 := [42, 180, 0, 60, 180, 0, 255, 182, 1, 3, 172]
abbrev dktX1_mode_0 : List UInt8 := dkwX1_mode_0 ++ []
theorem dksX1_mode_0 : cX1_mode.data.toList.drop 0 = dktX1_mode_0 := by decide +kernel
theorem dX1_mode_0 : decode cX1_mode 0 = .ok (.aload_n 0, 1) := dk_42 (dk_at dksX1_mode_0 0 rfl rfl)
theorem dX1_mode_1 : decode cX1_mode 1 = .ok (.getfield 60, 3) := dk_180 0 60 (dk_at dksX1_mode_0 1 rfl rfl)
theorem dX1_mode_4 : decode cX1_mode 4 = .ok (.getfield 255, 3) := dk_180 0 255 (dk_at dksX1_mode_0 4 rfl rfl)
theorem dX1_mode_7 : decode cX1_mode 7 = .ok (.invokevirtual 259, 3) := dk_182 1 3 (dk_at dksX1_mode_0 7 rfl rfl)
theorem dX1_mode_10 : decode cX1_mode 10 = .ok (.ireturn, 1) := dk_172 (dk_at dksX1_mode_0 10 rfl rfl)
def dkwX1_tolerance_0 : List UInt8 := [42, 180, 0, 60, 180, 1, 8, 172]
abbrev dktX1_tolerance_0 : List UInt8 := dkwX1_tolerance_0 ++ []
theorem dksX1_tolerance_0 : cX1_tolerance.data.toList.drop 0 = dktX1_tolerance_0 := by decide +kernel
theorem dX1_tolerance_0 : decode cX1_tolerance 0 = .ok (.aload_n 0, 1) := dk_42 (dk_at dksX1_tolerance_0 0 rfl rfl)
theorem dX1_tolerance_1 : decode cX1_tolerance 1 = .ok (.getfield 60, 3) := dk_180 0 60 (dk_at dksX1_tolerance_0 1 rfl rfl)
theorem dX1_tolerance_4 : decode cX1_tolerance 4 = .ok (.getfield 264, 3) := dk_180 1 8 (dk_at dksX1_tolerance_0 4 rfl rfl)
theorem dX1_tolerance_7 : decode cX1_tolerance 7 = .ok (.ireturn, 1) := dk_172 (dk_at dksX1_tolerance_0 7 rfl rfl)
def dkwX1_updatesLeft_1 : List UInt8 := [180, 0, 255, 180, 1, 11, 108, 172]
abbrev dktX1_updatesLeft_1 : List UInt8 := dkwX1_updatesLeft_1 ++ []
def dkwX1_updatesLeft_0 : List UInt8 := [42, 180, 0, 60, 180, 0, 252, 42, 180, 0, 60, 180, 0, 255, 180, 1, 11, 96, 4, 100, 42, 180, 0, 60]
abbrev dktX1_updatesLeft_0 : List UInt8 := dkwX1_updatesLeft_0 ++ dktX1_updatesLeft_1
theorem dksX1_updatesLeft_0 : cX1_updatesLeft.data.toList.drop 0 = dktX1_updatesLeft_0 := by decide +kernel
theorem dksX1_updatesLeft_1 : cX1_updatesLeft.data.toList.drop 24 = dktX1_updatesLeft_1 := dk_seg dksX1_updatesLeft_0 24 rfl rfl
theorem dX1_updatesLeft_0 : decode cX1_updatesLeft 0 = .ok (.aload_n 0, 1) := dk_42 (dk_at dksX1_updatesLeft_0 0 rfl rfl)
theorem dX1_updatesLeft_1 : decode cX1_updatesLeft 1 = .ok (.getfield 60, 3) := dk_180 0 60 (dk_at dksX1_updatesLeft_0 1 rfl rfl)
theorem dX1_updatesLeft_4 : decode cX1_updatesLeft 4 = .ok (.getfield 252, 3) := dk_180 0 252 (dk_at dksX1_updatesLeft_0 4 rfl rfl)
theorem dX1_updatesLeft_7 : decode cX1_updatesLeft 7 = .ok (.aload_n 0, 1) := dk_42 (dk_at dksX1_updatesLeft_0 7 rfl rfl)
theorem dX1_updatesLeft_8 : decode cX1_updatesLeft 8 = .ok (.getfield 60, 3) := dk_180 0 60 (dk_at dksX1_updatesLeft_0 8 rfl rfl)
theorem dX1_updatesLeft_11 : decode cX1_updatesLeft 11 = .ok (.getfield 255, 3) := dk_180 0 255 (dk_at dksX1_updatesLeft_0 11 rfl rfl)
theorem dX1_updatesLeft_14 : decode cX1_updatesLeft 14 = .ok (.getfield 267, 3) := dk_180 1 11 (dk_at dksX1_updatesLeft_0 14 rfl rfl)
theorem dX1_updatesLeft_17 : decode cX1_updatesLeft 17 = .ok (.iadd, 1) := dk_96 (dk_at dksX1_updatesLeft_0 17 rfl rfl)
theorem dX1_updatesLeft_18 : decode cX1_updatesLeft 18 = .ok (.iconst 1, 1) := dk_4 (dk_at dksX1_updatesLeft_0 18 rfl rfl)
theorem dX1_updatesLeft_19 : decode cX1_updatesLeft 19 = .ok (.isub, 1) := dk_100 (dk_at dksX1_updatesLeft_0 19 rfl rfl)
theorem dX1_updatesLeft_20 : decode cX1_updatesLeft 20 = .ok (.aload_n 0, 1) := dk_42 (dk_at dksX1_updatesLeft_0 20 rfl rfl)
theorem dX1_updatesLeft_21 : decode cX1_updatesLeft 21 = .ok (.getfield 60, 3) := dk_180 0 60 (dk_at dksX1_updatesLeft_0 21 rfl rfl)
theorem dX1_updatesLeft_24 : decode cX1_updatesLeft 24 = .ok (.getfield 255, 3) := dk_180 0 255 (dk_at dksX1_updatesLeft_1 0 rfl rfl)
theorem dX1_updatesLeft_27 : decode cX1_updatesLeft 27 = .ok (.getfield 267, 3) := dk_180 1 11 (dk_at dksX1_updatesLeft_1 3 rfl rfl)
theorem dX1_updatesLeft_30 : decode cX1_updatesLeft 30 = .ok (.idiv, 1) := dk_108 (dk_at dksX1_updatesLeft_1 6 rfl rfl)
theorem dX1_updatesLeft_31 : decode cX1_updatesLeft 31 = .ok (.ireturn, 1) := dk_172 (dk_at dksX1_updatesLeft_1 7 rfl rfl)
def dkwX1_updatesLeftByCounting_1 : List UInt8 := [180, 0, 255, 180, 1, 11, 100, 61, 167, 255, 236, 27, 172]
abbrev dktX1_updatesLeftByCounting_1 : List UInt8 := dkwX1_updatesLeftByCounting_1 ++ []
def dkwX1_updatesLeftByCounting_0 : List UInt8 := [3, 60, 42, 180, 0, 60, 180, 0, 252, 61, 28, 158, 0, 22, 132, 1, 1, 28, 42, 180, 0, 60]
abbrev dktX1_updatesLeftByCounting_0 : List UInt8 := dkwX1_updatesLeftByCounting_0 ++ dktX1_updatesLeftByCounting_1
theorem dksX1_updatesLeftByCounting_0 : cX1_updatesLeftByCounting.data.toList.drop 0 = dktX1_updatesLeftByCounting_0 := by decide +kernel
theorem dksX1_updatesLeftByCounting_1 : cX1_updatesLeftByCounting.data.toList.drop 22 = dktX1_updatesLeftByCounting_1 := dk_seg dksX1_updatesLeftByCounting_0 22 rfl rfl
theorem dX1_updatesLeftByCounting_0 : decode cX1_updatesLeftByCounting 0 = .ok (.iconst 0, 1) := dk_3 (dk_at dksX1_updatesLeftByCounting_0 0 rfl rfl)
theorem dX1_updatesLeftByCounting_1 : decode cX1_updatesLeftByCounting 1 = .ok (.istore_n 1, 1) := dk_60 (dk_at dksX1_updatesLeftByCounting_0 1 rfl rfl)
theorem dX1_updatesLeftByCounting_2 : decode cX1_updatesLeftByCounting 2 = .ok (.aload_n 0, 1) := dk_42 (dk_at dksX1_updatesLeftByCounting_0 2 rfl rfl)
theorem dX1_updatesLeftByCounting_3 : decode cX1_updatesLeftByCounting 3 = .ok (.getfield 60, 3) := dk_180 0 60 (dk_at dksX1_updatesLeftByCounting_0 3 rfl rfl)
theorem dX1_updatesLeftByCounting_6 : decode cX1_updatesLeftByCounting 6 = .ok (.getfield 252, 3) := dk_180 0 252 (dk_at dksX1_updatesLeftByCounting_0 6 rfl rfl)
theorem dX1_updatesLeftByCounting_9 : decode cX1_updatesLeftByCounting 9 = .ok (.istore_n 2, 1) := dk_61 (dk_at dksX1_updatesLeftByCounting_0 9 rfl rfl)
theorem dX1_updatesLeftByCounting_10 : decode cX1_updatesLeftByCounting 10 = .ok (.iload_n 2, 1) := dk_28 (dk_at dksX1_updatesLeftByCounting_0 10 rfl rfl)
theorem dX1_updatesLeftByCounting_11 : decode cX1_updatesLeftByCounting 11 = .ok (.ifCond .le 22, 3) := dk_158 0 22 (dk_at dksX1_updatesLeftByCounting_0 11 rfl rfl)
theorem dX1_updatesLeftByCounting_14 : decode cX1_updatesLeftByCounting 14 = .ok (.iinc 1 1, 3) := dk_132 1 1 (dk_at dksX1_updatesLeftByCounting_0 14 rfl rfl)
theorem dX1_updatesLeftByCounting_17 : decode cX1_updatesLeftByCounting 17 = .ok (.iload_n 2, 1) := dk_28 (dk_at dksX1_updatesLeftByCounting_0 17 rfl rfl)
theorem dX1_updatesLeftByCounting_18 : decode cX1_updatesLeftByCounting 18 = .ok (.aload_n 0, 1) := dk_42 (dk_at dksX1_updatesLeftByCounting_0 18 rfl rfl)
theorem dX1_updatesLeftByCounting_19 : decode cX1_updatesLeftByCounting 19 = .ok (.getfield 60, 3) := dk_180 0 60 (dk_at dksX1_updatesLeftByCounting_0 19 rfl rfl)
theorem dX1_updatesLeftByCounting_22 : decode cX1_updatesLeftByCounting 22 = .ok (.getfield 255, 3) := dk_180 0 255 (dk_at dksX1_updatesLeftByCounting_1 0 rfl rfl)
theorem dX1_updatesLeftByCounting_25 : decode cX1_updatesLeftByCounting 25 = .ok (.getfield 267, 3) := dk_180 1 11 (dk_at dksX1_updatesLeftByCounting_1 3 rfl rfl)
theorem dX1_updatesLeftByCounting_28 : decode cX1_updatesLeftByCounting 28 = .ok (.isub, 1) := dk_100 (dk_at dksX1_updatesLeftByCounting_1 6 rfl rfl)
theorem dX1_updatesLeftByCounting_29 : decode cX1_updatesLeftByCounting 29 = .ok (.istore_n 2, 1) := dk_61 (dk_at dksX1_updatesLeftByCounting_1 7 rfl rfl)
theorem dX1_updatesLeftByCounting_30 : decode cX1_updatesLeftByCounting 30 = .ok (.goto (-20), 3) := dk_167 255 236 (dk_at dksX1_updatesLeftByCounting_1 8 rfl rfl)
theorem dX1_updatesLeftByCounting_33 : decode cX1_updatesLeftByCounting 33 = .ok (.iload_n 1, 1) := dk_27 (dk_at dksX1_updatesLeftByCounting_1 11 rfl rfl)
theorem dX1_updatesLeftByCounting_34 : decode cX1_updatesLeftByCounting 34 = .ok (.ireturn, 1) := dk_172 (dk_at dksX1_updatesLeftByCounting_1 12 rfl rfl)
def dkwX1_updates_0 : List UInt8 := [42, 180, 0, 60, 180, 1, 14, 172]
abbrev dktX1_updates_0 : List UInt8 := dkwX1_updates_0 ++ []
theorem dksX1_updates_0 : cX1_updates.data.toList.drop 0 = dktX1_updates_0 := by decide +kernel
theorem dX1_updates_0 : decode cX1_updates 0 = .ok (.aload_n 0, 1) := dk_42 (dk_at dksX1_updates_0 0 rfl rfl)
theorem dX1_updates_1 : decode cX1_updates 1 = .ok (.getfield 60, 3) := dk_180 0 60 (dk_at dksX1_updates_0 1 rfl rfl)
theorem dX1_updates_4 : decode cX1_updates 4 = .ok (.getfield 270, 3) := dk_180 1 14 (dk_at dksX1_updates_0 4 rfl rfl)
theorem dX1_updates_7 : decode cX1_updates 7 = .ok (.ireturn, 1) := dk_172 (dk_at dksX1_updates_0 7 rfl rfl)
def dkwX1_alarms_0 : List UInt8 := [42, 180, 0, 60, 180, 1, 17, 172]
abbrev dktX1_alarms_0 : List UInt8 := dkwX1_alarms_0 ++ []
theorem dksX1_alarms_0 : cX1_alarms.data.toList.drop 0 = dktX1_alarms_0 := by decide +kernel
theorem dX1_alarms_0 : decode cX1_alarms 0 = .ok (.aload_n 0, 1) := dk_42 (dk_at dksX1_alarms_0 0 rfl rfl)
theorem dX1_alarms_1 : decode cX1_alarms 1 = .ok (.getfield 60, 3) := dk_180 0 60 (dk_at dksX1_alarms_0 1 rfl rfl)
theorem dX1_alarms_4 : decode cX1_alarms 4 = .ok (.getfield 273, 3) := dk_180 1 17 (dk_at dksX1_alarms_0 4 rfl rfl)
theorem dX1_alarms_7 : decode cX1_alarms 7 = .ok (.ireturn, 1) := dk_172 (dk_at dksX1_alarms_0 7 rfl rfl)
def dkwX1_reached_0 : List UInt8 := [42, 180, 0, 60, 180, 1, 20, 172]
abbrev dktX1_reached_0 : List UInt8 := dkwX1_reached_0 ++ []
theorem dksX1_reached_0 : cX1_reached.data.toList.drop 0 = dktX1_reached_0 := by decide +kernel
theorem dX1_reached_0 : decode cX1_reached 0 = .ok (.aload_n 0, 1) := dk_42 (dk_at dksX1_reached_0 0 rfl rfl)
theorem dX1_reached_1 : decode cX1_reached 1 = .ok (.getfield 60, 3) := dk_180 0 60 (dk_at dksX1_reached_0 1 rfl rfl)
theorem dX1_reached_4 : decode cX1_reached 4 = .ok (.getfield 276, 3) := dk_180 1 20 (dk_at dksX1_reached_0 4 rfl rfl)
theorem dX1_reached_7 : decode cX1_reached 7 = .ok (.ireturn, 1) := dk_172 (dk_at dksX1_reached_0 7 rfl rfl)
def dkwX1_isConsistent_4 : List UInt8 := [172]
abbrev dktX1_isConsistent_4 : List UInt8 := dkwX1_isConsistent_4 ++ []
def dkwX1_isConsistent_3 : List UInt8 := [180, 0, 60, 180, 0, 195, 199, 0, 13, 42, 180, 0, 60, 180, 0, 241, 154, 0, 7, 4, 167, 0, 4, 3]
abbrev dktX1_isConsistent_3 : List UInt8 := dkwX1_isConsistent_3 ++ dktX1_isConsistent_4
def dkwX1_isConsistent_2 : List UInt8 := [162, 0, 17, 27, 42, 28, 182, 1, 43, 126, 60, 132, 2, 1, 167, 255, 234, 27, 153, 0, 27, 42]
abbrev dktX1_isConsistent_2 : List UInt8 := dkwX1_isConsistent_2 ++ dktX1_isConsistent_3
def dkwX1_isConsistent_1 : List UInt8 := [182, 1, 40, 160, 0, 7, 4, 167, 0, 4, 3, 60, 3, 61, 28, 42, 180, 0, 60, 182, 0, 134]
abbrev dktX1_isConsistent_1 : List UInt8 := dkwX1_isConsistent_1 ++ dktX1_isConsistent_2
def dkwX1_isConsistent_0 : List UInt8 := [42, 180, 0, 60, 182, 0, 180, 42, 180, 0, 60, 182, 0, 183, 160, 0, 18, 42, 182, 1, 37, 42]
abbrev dktX1_isConsistent_0 : List UInt8 := dkwX1_isConsistent_0 ++ dktX1_isConsistent_1
theorem dksX1_isConsistent_0 : cX1_isConsistent.data.toList.drop 0 = dktX1_isConsistent_0 := by decide +kernel
theorem dksX1_isConsistent_1 : cX1_isConsistent.data.toList.drop 22 = dktX1_isConsistent_1 := dk_seg dksX1_isConsistent_0 22 rfl rfl
theorem dksX1_isConsistent_2 : cX1_isConsistent.data.toList.drop 44 = dktX1_isConsistent_2 := dk_seg dksX1_isConsistent_1 22 rfl rfl
theorem dksX1_isConsistent_3 : cX1_isConsistent.data.toList.drop 66 = dktX1_isConsistent_3 := dk_seg dksX1_isConsistent_2 22 rfl rfl
theorem dksX1_isConsistent_4 : cX1_isConsistent.data.toList.drop 90 = dktX1_isConsistent_4 := dk_seg dksX1_isConsistent_3 24 rfl rfl
theorem dX1_isConsistent_0 : decode cX1_isConsistent 0 = .ok (.aload_n 0, 1) := dk_42 (dk_at dksX1_isConsistent_0 0 rfl rfl)
theorem dX1_isConsistent_1 : decode cX1_isConsistent 1 = .ok (.getfield 60, 3) := dk_180 0 60 (dk_at dksX1_isConsistent_0 1 rfl rfl)
theorem dX1_isConsistent_4 : decode cX1_isConsistent 4 = .ok (.invokevirtual 180, 3) := dk_182 0 180 (dk_at dksX1_isConsistent_0 4 rfl rfl)
theorem dX1_isConsistent_7 : decode cX1_isConsistent 7 = .ok (.aload_n 0, 1) := dk_42 (dk_at dksX1_isConsistent_0 7 rfl rfl)
theorem dX1_isConsistent_8 : decode cX1_isConsistent 8 = .ok (.getfield 60, 3) := dk_180 0 60 (dk_at dksX1_isConsistent_0 8 rfl rfl)
theorem dX1_isConsistent_11 : decode cX1_isConsistent 11 = .ok (.invokevirtual 183, 3) := dk_182 0 183 (dk_at dksX1_isConsistent_0 11 rfl rfl)
theorem dX1_isConsistent_14 : decode cX1_isConsistent 14 = .ok (.if_icmp .ne 18, 3) := dk_160 0 18 (dk_at dksX1_isConsistent_0 14 rfl rfl)
theorem dX1_isConsistent_17 : decode cX1_isConsistent 17 = .ok (.aload_n 0, 1) := dk_42 (dk_at dksX1_isConsistent_0 17 rfl rfl)
theorem dX1_isConsistent_18 : decode cX1_isConsistent 18 = .ok (.invokevirtual 293, 3) := dk_182 1 37 (dk_at dksX1_isConsistent_0 18 rfl rfl)
theorem dX1_isConsistent_21 : decode cX1_isConsistent 21 = .ok (.aload_n 0, 1) := dk_42 (dk_at dksX1_isConsistent_0 21 rfl rfl)
theorem dX1_isConsistent_22 : decode cX1_isConsistent 22 = .ok (.invokevirtual 296, 3) := dk_182 1 40 (dk_at dksX1_isConsistent_1 0 rfl rfl)
theorem dX1_isConsistent_25 : decode cX1_isConsistent 25 = .ok (.if_icmp .ne 7, 3) := dk_160 0 7 (dk_at dksX1_isConsistent_1 3 rfl rfl)
theorem dX1_isConsistent_28 : decode cX1_isConsistent 28 = .ok (.iconst 1, 1) := dk_4 (dk_at dksX1_isConsistent_1 6 rfl rfl)
theorem dX1_isConsistent_29 : decode cX1_isConsistent 29 = .ok (.goto 4, 3) := dk_167 0 4 (dk_at dksX1_isConsistent_1 7 rfl rfl)
theorem dX1_isConsistent_32 : decode cX1_isConsistent 32 = .ok (.iconst 0, 1) := dk_3 (dk_at dksX1_isConsistent_1 10 rfl rfl)
theorem dX1_isConsistent_33 : decode cX1_isConsistent 33 = .ok (.istore_n 1, 1) := dk_60 (dk_at dksX1_isConsistent_1 11 rfl rfl)
theorem dX1_isConsistent_34 : decode cX1_isConsistent 34 = .ok (.iconst 0, 1) := dk_3 (dk_at dksX1_isConsistent_1 12 rfl rfl)
theorem dX1_isConsistent_35 : decode cX1_isConsistent 35 = .ok (.istore_n 2, 1) := dk_61 (dk_at dksX1_isConsistent_1 13 rfl rfl)
theorem dX1_isConsistent_36 : decode cX1_isConsistent 36 = .ok (.iload_n 2, 1) := dk_28 (dk_at dksX1_isConsistent_1 14 rfl rfl)
theorem dX1_isConsistent_37 : decode cX1_isConsistent 37 = .ok (.aload_n 0, 1) := dk_42 (dk_at dksX1_isConsistent_1 15 rfl rfl)
theorem dX1_isConsistent_38 : decode cX1_isConsistent 38 = .ok (.getfield 60, 3) := dk_180 0 60 (dk_at dksX1_isConsistent_1 16 rfl rfl)
theorem dX1_isConsistent_41 : decode cX1_isConsistent 41 = .ok (.invokevirtual 134, 3) := dk_182 0 134 (dk_at dksX1_isConsistent_1 19 rfl rfl)
theorem dX1_isConsistent_44 : decode cX1_isConsistent 44 = .ok (.if_icmp .ge 17, 3) := dk_162 0 17 (dk_at dksX1_isConsistent_2 0 rfl rfl)
theorem dX1_isConsistent_47 : decode cX1_isConsistent 47 = .ok (.iload_n 1, 1) := dk_27 (dk_at dksX1_isConsistent_2 3 rfl rfl)
theorem dX1_isConsistent_48 : decode cX1_isConsistent 48 = .ok (.aload_n 0, 1) := dk_42 (dk_at dksX1_isConsistent_2 4 rfl rfl)
theorem dX1_isConsistent_49 : decode cX1_isConsistent 49 = .ok (.iload_n 2, 1) := dk_28 (dk_at dksX1_isConsistent_2 5 rfl rfl)
theorem dX1_isConsistent_50 : decode cX1_isConsistent 50 = .ok (.invokevirtual 299, 3) := dk_182 1 43 (dk_at dksX1_isConsistent_2 6 rfl rfl)
theorem dX1_isConsistent_53 : decode cX1_isConsistent 53 = .ok (.iand, 1) := dk_126 (dk_at dksX1_isConsistent_2 9 rfl rfl)
theorem dX1_isConsistent_54 : decode cX1_isConsistent 54 = .ok (.istore_n 1, 1) := dk_60 (dk_at dksX1_isConsistent_2 10 rfl rfl)
theorem dX1_isConsistent_55 : decode cX1_isConsistent 55 = .ok (.iinc 2 1, 3) := dk_132 2 1 (dk_at dksX1_isConsistent_2 11 rfl rfl)
theorem dX1_isConsistent_58 : decode cX1_isConsistent 58 = .ok (.goto (-22), 3) := dk_167 255 234 (dk_at dksX1_isConsistent_2 14 rfl rfl)
theorem dX1_isConsistent_61 : decode cX1_isConsistent 61 = .ok (.iload_n 1, 1) := dk_27 (dk_at dksX1_isConsistent_2 17 rfl rfl)
theorem dX1_isConsistent_62 : decode cX1_isConsistent 62 = .ok (.ifCond .eq 27, 3) := dk_153 0 27 (dk_at dksX1_isConsistent_2 18 rfl rfl)
theorem dX1_isConsistent_65 : decode cX1_isConsistent 65 = .ok (.aload_n 0, 1) := dk_42 (dk_at dksX1_isConsistent_2 21 rfl rfl)
theorem dX1_isConsistent_66 : decode cX1_isConsistent 66 = .ok (.getfield 60, 3) := dk_180 0 60 (dk_at dksX1_isConsistent_3 0 rfl rfl)
theorem dX1_isConsistent_69 : decode cX1_isConsistent 69 = .ok (.getfield 195, 3) := dk_180 0 195 (dk_at dksX1_isConsistent_3 3 rfl rfl)
theorem dX1_isConsistent_72 : decode cX1_isConsistent 72 = .ok (.ifnonnull 13, 3) := dk_199 0 13 (dk_at dksX1_isConsistent_3 6 rfl rfl)
theorem dX1_isConsistent_75 : decode cX1_isConsistent 75 = .ok (.aload_n 0, 1) := dk_42 (dk_at dksX1_isConsistent_3 9 rfl rfl)
theorem dX1_isConsistent_76 : decode cX1_isConsistent 76 = .ok (.getfield 60, 3) := dk_180 0 60 (dk_at dksX1_isConsistent_3 10 rfl rfl)
theorem dX1_isConsistent_79 : decode cX1_isConsistent 79 = .ok (.getfield 241, 3) := dk_180 0 241 (dk_at dksX1_isConsistent_3 13 rfl rfl)
theorem dX1_isConsistent_82 : decode cX1_isConsistent 82 = .ok (.ifCond .ne 7, 3) := dk_154 0 7 (dk_at dksX1_isConsistent_3 16 rfl rfl)
theorem dX1_isConsistent_85 : decode cX1_isConsistent 85 = .ok (.iconst 1, 1) := dk_4 (dk_at dksX1_isConsistent_3 19 rfl rfl)
theorem dX1_isConsistent_86 : decode cX1_isConsistent 86 = .ok (.goto 4, 3) := dk_167 0 4 (dk_at dksX1_isConsistent_3 20 rfl rfl)
theorem dX1_isConsistent_89 : decode cX1_isConsistent 89 = .ok (.iconst 0, 1) := dk_3 (dk_at dksX1_isConsistent_3 23 rfl rfl)
theorem dX1_isConsistent_90 : decode cX1_isConsistent 90 = .ok (.ireturn, 1) := dk_172 (dk_at dksX1_isConsistent_4 0 rfl rfl)
def dkwX1_haveEqualDistances_1 : List UInt8 := [186, 1, 29, 0, 0, 182, 1, 33, 2, 160, 0, 7, 4, 167, 0, 4, 3, 172]
abbrev dktX1_haveEqualDistances_1 : List UInt8 := dkwX1_haveEqualDistances_1 ++ []
def dkwX1_haveEqualDistances_0 : List UInt8 := [42, 180, 0, 60, 27, 182, 0, 169, 77, 42, 180, 0, 60, 27, 182, 0, 177, 78, 42, 180, 0, 60, 44, 45]
abbrev dktX1_haveEqualDistances_0 : List UInt8 := dkwX1_haveEqualDistances_0 ++ dktX1_haveEqualDistances_1
theorem dksX1_haveEqualDistances_0 : cX1_haveEqualDistances.data.toList.drop 0 = dktX1_haveEqualDistances_0 := by decide +kernel
theorem dksX1_haveEqualDistances_1 : cX1_haveEqualDistances.data.toList.drop 24 = dktX1_haveEqualDistances_1 := dk_seg dksX1_haveEqualDistances_0 24 rfl rfl
theorem dX1_haveEqualDistances_0 : decode cX1_haveEqualDistances 0 = .ok (.aload_n 0, 1) := dk_42 (dk_at dksX1_haveEqualDistances_0 0 rfl rfl)
theorem dX1_haveEqualDistances_1 : decode cX1_haveEqualDistances 1 = .ok (.getfield 60, 3) := dk_180 0 60 (dk_at dksX1_haveEqualDistances_0 1 rfl rfl)
theorem dX1_haveEqualDistances_4 : decode cX1_haveEqualDistances 4 = .ok (.iload_n 1, 1) := dk_27 (dk_at dksX1_haveEqualDistances_0 4 rfl rfl)
theorem dX1_haveEqualDistances_5 : decode cX1_haveEqualDistances 5 = .ok (.invokevirtual 169, 3) := dk_182 0 169 (dk_at dksX1_haveEqualDistances_0 5 rfl rfl)
theorem dX1_haveEqualDistances_8 : decode cX1_haveEqualDistances 8 = .ok (.astore_n 2, 1) := dk_77 (dk_at dksX1_haveEqualDistances_0 8 rfl rfl)
theorem dX1_haveEqualDistances_9 : decode cX1_haveEqualDistances 9 = .ok (.aload_n 0, 1) := dk_42 (dk_at dksX1_haveEqualDistances_0 9 rfl rfl)
theorem dX1_haveEqualDistances_10 : decode cX1_haveEqualDistances 10 = .ok (.getfield 60, 3) := dk_180 0 60 (dk_at dksX1_haveEqualDistances_0 10 rfl rfl)
theorem dX1_haveEqualDistances_13 : decode cX1_haveEqualDistances 13 = .ok (.iload_n 1, 1) := dk_27 (dk_at dksX1_haveEqualDistances_0 13 rfl rfl)
theorem dX1_haveEqualDistances_14 : decode cX1_haveEqualDistances 14 = .ok (.invokevirtual 177, 3) := dk_182 0 177 (dk_at dksX1_haveEqualDistances_0 14 rfl rfl)
theorem dX1_haveEqualDistances_17 : decode cX1_haveEqualDistances 17 = .ok (.astore_n 3, 1) := dk_78 (dk_at dksX1_haveEqualDistances_0 17 rfl rfl)
theorem dX1_haveEqualDistances_18 : decode cX1_haveEqualDistances 18 = .ok (.aload_n 0, 1) := dk_42 (dk_at dksX1_haveEqualDistances_0 18 rfl rfl)
theorem dX1_haveEqualDistances_19 : decode cX1_haveEqualDistances 19 = .ok (.getfield 60, 3) := dk_180 0 60 (dk_at dksX1_haveEqualDistances_0 19 rfl rfl)
theorem dX1_haveEqualDistances_22 : decode cX1_haveEqualDistances 22 = .ok (.aload_n 2, 1) := dk_44 (dk_at dksX1_haveEqualDistances_0 22 rfl rfl)
theorem dX1_haveEqualDistances_23 : decode cX1_haveEqualDistances 23 = .ok (.aload_n 3, 1) := dk_45 (dk_at dksX1_haveEqualDistances_0 23 rfl rfl)
theorem dX1_haveEqualDistances_24 : decode cX1_haveEqualDistances 24 = .ok (.invokedynamic 285, 5) := by decide +kernel
theorem dX1_haveEqualDistances_29 : decode cX1_haveEqualDistances 29 = .ok (.invokevirtual 289, 3) := dk_182 1 33 (dk_at dksX1_haveEqualDistances_1 5 rfl rfl)
theorem dX1_haveEqualDistances_32 : decode cX1_haveEqualDistances 32 = .ok (.iconst (-1), 1) := dk_2 (dk_at dksX1_haveEqualDistances_1 8 rfl rfl)
theorem dX1_haveEqualDistances_33 : decode cX1_haveEqualDistances 33 = .ok (.if_icmp .ne 7, 3) := dk_160 0 7 (dk_at dksX1_haveEqualDistances_1 9 rfl rfl)
theorem dX1_haveEqualDistances_36 : decode cX1_haveEqualDistances 36 = .ok (.iconst 1, 1) := dk_4 (dk_at dksX1_haveEqualDistances_1 12 rfl rfl)
theorem dX1_haveEqualDistances_37 : decode cX1_haveEqualDistances 37 = .ok (.goto 4, 3) := dk_167 0 4 (dk_at dksX1_haveEqualDistances_1 13 rfl rfl)
theorem dX1_haveEqualDistances_40 : decode cX1_haveEqualDistances 40 = .ok (.iconst 0, 1) := dk_3 (dk_at dksX1_haveEqualDistances_1 16 rfl rfl)
theorem dX1_haveEqualDistances_41 : decode cX1_haveEqualDistances 41 = .ok (.ireturn, 1) := dk_172 (dk_at dksX1_haveEqualDistances_1 17 rfl rfl)
def dkwX1_lambda_haveEqualDistances_9_0 : List UInt8 := [42, 28, 46, 43, 28, 46, 159, 0, 7, 4, 167, 0, 4, 3, 172]
abbrev dktX1_lambda_haveEqualDistances_9_0 : List UInt8 := dkwX1_lambda_haveEqualDistances_9_0 ++ []
theorem dksX1_lambda_haveEqualDistances_9_0 : cX1_lambda_haveEqualDistances_9.data.toList.drop 0 = dktX1_lambda_haveEqualDistances_9_0 := by decide +kernel
theorem dX1_lambda_haveEqualDistances_9_0 : decode cX1_lambda_haveEqualDistances_9 0 = .ok (.aload_n 0, 1) := dk_42 (dk_at dksX1_lambda_haveEqualDistances_9_0 0 rfl rfl)
theorem dX1_lambda_haveEqualDistances_9_1 : decode cX1_lambda_haveEqualDistances_9 1 = .ok (.iload_n 2, 1) := dk_28 (dk_at dksX1_lambda_haveEqualDistances_9_0 1 rfl rfl)
theorem dX1_lambda_haveEqualDistances_9_2 : decode cX1_lambda_haveEqualDistances_9 2 = .ok (.iaload, 1) := dk_46 (dk_at dksX1_lambda_haveEqualDistances_9_0 2 rfl rfl)
theorem dX1_lambda_haveEqualDistances_9_3 : decode cX1_lambda_haveEqualDistances_9 3 = .ok (.aload_n 1, 1) := dk_43 (dk_at dksX1_lambda_haveEqualDistances_9_0 3 rfl rfl)
theorem dX1_lambda_haveEqualDistances_9_4 : decode cX1_lambda_haveEqualDistances_9 4 = .ok (.iload_n 2, 1) := dk_28 (dk_at dksX1_lambda_haveEqualDistances_9_0 4 rfl rfl)
theorem dX1_lambda_haveEqualDistances_9_5 : decode cX1_lambda_haveEqualDistances_9 5 = .ok (.iaload, 1) := dk_46 (dk_at dksX1_lambda_haveEqualDistances_9_0 5 rfl rfl)
theorem dX1_lambda_haveEqualDistances_9_6 : decode cX1_lambda_haveEqualDistances_9 6 = .ok (.if_icmp .eq 7, 3) := dk_159 0 7 (dk_at dksX1_lambda_haveEqualDistances_9_0 6 rfl rfl)
theorem dX1_lambda_haveEqualDistances_9_9 : decode cX1_lambda_haveEqualDistances_9 9 = .ok (.iconst 1, 1) := dk_4 (dk_at dksX1_lambda_haveEqualDistances_9_0 9 rfl rfl)
theorem dX1_lambda_haveEqualDistances_9_10 : decode cX1_lambda_haveEqualDistances_9 10 = .ok (.goto 4, 3) := dk_167 0 4 (dk_at dksX1_lambda_haveEqualDistances_9_0 10 rfl rfl)
theorem dX1_lambda_haveEqualDistances_9_13 : decode cX1_lambda_haveEqualDistances_9 13 = .ok (.iconst 0, 1) := dk_3 (dk_at dksX1_lambda_haveEqualDistances_9_0 13 rfl rfl)
theorem dX1_lambda_haveEqualDistances_9_14 : decode cX1_lambda_haveEqualDistances_9 14 = .ok (.ireturn, 1) := dk_172 (dk_at dksX1_lambda_haveEqualDistances_9_0 14 rfl rfl)
def dkwX1_writeRoute_7 : List UInt8 := [167, 255, 111, 43, 182, 1, 73, 172]
abbrev dktX1_writeRoute_7 : List UInt8 := dkwX1_writeRoute_7 ++ []
def dkwX1_writeRoute_6 : List UInt8 := [182, 0, 222, 182, 1, 66, 182, 1, 69, 167, 0, 6, 19, 1, 52, 182, 1, 54, 76, 132, 2, 1]
abbrev dktX1_writeRoute_6 : List UInt8 := dkwX1_writeRoute_6 ++ dktX1_writeRoute_7
def dkwX1_writeRoute_5 : List UInt8 := [153, 0, 36, 187, 0, 71, 89, 183, 0, 73, 19, 1, 52, 182, 1, 54, 42, 180, 0, 60, 28, 182, 0, 218]
abbrev dktX1_writeRoute_5 : List UInt8 := dkwX1_writeRoute_5 ++ dktX1_writeRoute_6
def dkwX1_writeRoute_4 : List UInt8 := [180, 0, 60, 180, 0, 195, 182, 0, 205, 28, 46, 182, 1, 63, 42, 180, 0, 60, 28, 182, 0, 214]
abbrev dktX1_writeRoute_4 : List UInt8 := dkwX1_writeRoute_4 ++ dktX1_writeRoute_5
def dkwX1_writeRoute_3 : List UInt8 := [182, 1, 58, 160, 0, 9, 19, 1, 61, 167, 0, 6, 19, 1, 52, 182, 1, 54, 76, 42, 180, 0, 74, 42]
abbrev dktX1_writeRoute_3 : List UInt8 := dkwX1_writeRoute_3 ++ dktX1_writeRoute_4
def dkwX1_writeRoute_2 : List UInt8 := [158, 0, 9, 19, 1, 50, 167, 0, 6, 19, 1, 52, 182, 1, 54, 28, 42, 180, 0, 60, 180, 0, 195]
abbrev dktX1_writeRoute_2 : List UInt8 := dkwX1_writeRoute_2 ++ dktX1_writeRoute_3
def dkwX1_writeRoute_1 : List UInt8 := [198, 0, 141, 28, 42, 180, 0, 60, 180, 0, 195, 182, 0, 205, 190, 162, 0, 126, 42, 180, 0, 74, 28]
abbrev dktX1_writeRoute_1 : List UInt8 := dkwX1_writeRoute_1 ++ dktX1_writeRoute_2
def dkwX1_writeRoute_0 : List UInt8 := [42, 180, 0, 74, 3, 182, 1, 46, 42, 180, 0, 74, 76, 3, 61, 42, 180, 0, 60, 180, 0, 195]
abbrev dktX1_writeRoute_0 : List UInt8 := dkwX1_writeRoute_0 ++ dktX1_writeRoute_1
theorem dksX1_writeRoute_0 : cX1_writeRoute.data.toList.drop 0 = dktX1_writeRoute_0 := by decide +kernel
theorem dksX1_writeRoute_1 : cX1_writeRoute.data.toList.drop 22 = dktX1_writeRoute_1 := dk_seg dksX1_writeRoute_0 22 rfl rfl
theorem dksX1_writeRoute_2 : cX1_writeRoute.data.toList.drop 45 = dktX1_writeRoute_2 := dk_seg dksX1_writeRoute_1 23 rfl rfl
theorem dksX1_writeRoute_3 : cX1_writeRoute.data.toList.drop 68 = dktX1_writeRoute_3 := dk_seg dksX1_writeRoute_2 23 rfl rfl
theorem dksX1_writeRoute_4 : cX1_writeRoute.data.toList.drop 92 = dktX1_writeRoute_4 := dk_seg dksX1_writeRoute_3 24 rfl rfl
theorem dksX1_writeRoute_5 : cX1_writeRoute.data.toList.drop 114 = dktX1_writeRoute_5 := dk_seg dksX1_writeRoute_4 22 rfl rfl
theorem dksX1_writeRoute_6 : cX1_writeRoute.data.toList.drop 138 = dktX1_writeRoute_6 := dk_seg dksX1_writeRoute_5 24 rfl rfl
theorem dksX1_writeRoute_7 : cX1_writeRoute.data.toList.drop 160 = dktX1_writeRoute_7 := dk_seg dksX1_writeRoute_6 22 rfl rfl
theorem dX1_writeRoute_0 : decode cX1_writeRoute 0 = .ok (.aload_n 0, 1) := dk_42 (dk_at dksX1_writeRoute_0 0 rfl rfl)
theorem dX1_writeRoute_1 : decode cX1_writeRoute 1 = .ok (.getfield 74, 3) := dk_180 0 74 (dk_at dksX1_writeRoute_0 1 rfl rfl)
theorem dX1_writeRoute_4 : decode cX1_writeRoute 4 = .ok (.iconst 0, 1) := dk_3 (dk_at dksX1_writeRoute_0 4 rfl rfl)
theorem dX1_writeRoute_5 : decode cX1_writeRoute 5 = .ok (.invokevirtual 302, 3) := dk_182 1 46 (dk_at dksX1_writeRoute_0 5 rfl rfl)
theorem dX1_writeRoute_8 : decode cX1_writeRoute 8 = .ok (.aload_n 0, 1) := dk_42 (dk_at dksX1_writeRoute_0 8 rfl rfl)
theorem dX1_writeRoute_9 : decode cX1_writeRoute 9 = .ok (.getfield 74, 3) := dk_180 0 74 (dk_at dksX1_writeRoute_0 9 rfl rfl)
theorem dX1_writeRoute_12 : decode cX1_writeRoute 12 = .ok (.astore_n 1, 1) := dk_76 (dk_at dksX1_writeRoute_0 12 rfl rfl)
theorem dX1_writeRoute_13 : decode cX1_writeRoute 13 = .ok (.iconst 0, 1) := dk_3 (dk_at dksX1_writeRoute_0 13 rfl rfl)
theorem dX1_writeRoute_14 : decode cX1_writeRoute 14 = .ok (.istore_n 2, 1) := dk_61 (dk_at dksX1_writeRoute_0 14 rfl rfl)
theorem dX1_writeRoute_15 : decode cX1_writeRoute 15 = .ok (.aload_n 0, 1) := dk_42 (dk_at dksX1_writeRoute_0 15 rfl rfl)
theorem dX1_writeRoute_16 : decode cX1_writeRoute 16 = .ok (.getfield 60, 3) := dk_180 0 60 (dk_at dksX1_writeRoute_0 16 rfl rfl)
theorem dX1_writeRoute_19 : decode cX1_writeRoute 19 = .ok (.getfield 195, 3) := dk_180 0 195 (dk_at dksX1_writeRoute_0 19 rfl rfl)
theorem dX1_writeRoute_22 : decode cX1_writeRoute 22 = .ok (.ifnull 141, 3) := dk_198 0 141 (dk_at dksX1_writeRoute_1 0 rfl rfl)
theorem dX1_writeRoute_25 : decode cX1_writeRoute 25 = .ok (.iload_n 2, 1) := dk_28 (dk_at dksX1_writeRoute_1 3 rfl rfl)
theorem dX1_writeRoute_26 : decode cX1_writeRoute 26 = .ok (.aload_n 0, 1) := dk_42 (dk_at dksX1_writeRoute_1 4 rfl rfl)
theorem dX1_writeRoute_27 : decode cX1_writeRoute 27 = .ok (.getfield 60, 3) := dk_180 0 60 (dk_at dksX1_writeRoute_1 5 rfl rfl)
theorem dX1_writeRoute_30 : decode cX1_writeRoute 30 = .ok (.getfield 195, 3) := dk_180 0 195 (dk_at dksX1_writeRoute_1 8 rfl rfl)
theorem dX1_writeRoute_33 : decode cX1_writeRoute 33 = .ok (.invokevirtual 205, 3) := dk_182 0 205 (dk_at dksX1_writeRoute_1 11 rfl rfl)
theorem dX1_writeRoute_36 : decode cX1_writeRoute 36 = .ok (.arraylength, 1) := dk_190 (dk_at dksX1_writeRoute_1 14 rfl rfl)
theorem dX1_writeRoute_37 : decode cX1_writeRoute 37 = .ok (.if_icmp .ge 126, 3) := dk_162 0 126 (dk_at dksX1_writeRoute_1 15 rfl rfl)
theorem dX1_writeRoute_40 : decode cX1_writeRoute 40 = .ok (.aload_n 0, 1) := dk_42 (dk_at dksX1_writeRoute_1 18 rfl rfl)
theorem dX1_writeRoute_41 : decode cX1_writeRoute 41 = .ok (.getfield 74, 3) := dk_180 0 74 (dk_at dksX1_writeRoute_1 19 rfl rfl)
theorem dX1_writeRoute_44 : decode cX1_writeRoute 44 = .ok (.iload_n 2, 1) := dk_28 (dk_at dksX1_writeRoute_1 22 rfl rfl)
theorem dX1_writeRoute_45 : decode cX1_writeRoute 45 = .ok (.ifCond .le 9, 3) := dk_158 0 9 (dk_at dksX1_writeRoute_2 0 rfl rfl)
theorem dX1_writeRoute_48 : decode cX1_writeRoute 48 = .ok (.ldc_w 306, 3) := dk_19 1 50 (dk_at dksX1_writeRoute_2 3 rfl rfl)
theorem dX1_writeRoute_51 : decode cX1_writeRoute 51 = .ok (.goto 6, 3) := dk_167 0 6 (dk_at dksX1_writeRoute_2 6 rfl rfl)
theorem dX1_writeRoute_54 : decode cX1_writeRoute 54 = .ok (.ldc_w 308, 3) := dk_19 1 52 (dk_at dksX1_writeRoute_2 9 rfl rfl)
theorem dX1_writeRoute_57 : decode cX1_writeRoute 57 = .ok (.invokevirtual 310, 3) := dk_182 1 54 (dk_at dksX1_writeRoute_2 12 rfl rfl)
theorem dX1_writeRoute_60 : decode cX1_writeRoute 60 = .ok (.iload_n 2, 1) := dk_28 (dk_at dksX1_writeRoute_2 15 rfl rfl)
theorem dX1_writeRoute_61 : decode cX1_writeRoute 61 = .ok (.aload_n 0, 1) := dk_42 (dk_at dksX1_writeRoute_2 16 rfl rfl)
theorem dX1_writeRoute_62 : decode cX1_writeRoute 62 = .ok (.getfield 60, 3) := dk_180 0 60 (dk_at dksX1_writeRoute_2 17 rfl rfl)
theorem dX1_writeRoute_65 : decode cX1_writeRoute 65 = .ok (.getfield 195, 3) := dk_180 0 195 (dk_at dksX1_writeRoute_2 20 rfl rfl)
theorem dX1_writeRoute_68 : decode cX1_writeRoute 68 = .ok (.invokevirtual 314, 3) := dk_182 1 58 (dk_at dksX1_writeRoute_3 0 rfl rfl)
theorem dX1_writeRoute_71 : decode cX1_writeRoute 71 = .ok (.if_icmp .ne 9, 3) := dk_160 0 9 (dk_at dksX1_writeRoute_3 3 rfl rfl)
theorem dX1_writeRoute_74 : decode cX1_writeRoute 74 = .ok (.ldc_w 317, 3) := dk_19 1 61 (dk_at dksX1_writeRoute_3 6 rfl rfl)
theorem dX1_writeRoute_77 : decode cX1_writeRoute 77 = .ok (.goto 6, 3) := dk_167 0 6 (dk_at dksX1_writeRoute_3 9 rfl rfl)
theorem dX1_writeRoute_80 : decode cX1_writeRoute 80 = .ok (.ldc_w 308, 3) := dk_19 1 52 (dk_at dksX1_writeRoute_3 12 rfl rfl)
theorem dX1_writeRoute_83 : decode cX1_writeRoute 83 = .ok (.invokevirtual 310, 3) := dk_182 1 54 (dk_at dksX1_writeRoute_3 15 rfl rfl)
theorem dX1_writeRoute_86 : decode cX1_writeRoute 86 = .ok (.astore_n 1, 1) := dk_76 (dk_at dksX1_writeRoute_3 18 rfl rfl)
theorem dX1_writeRoute_87 : decode cX1_writeRoute 87 = .ok (.aload_n 0, 1) := dk_42 (dk_at dksX1_writeRoute_3 19 rfl rfl)
theorem dX1_writeRoute_88 : decode cX1_writeRoute 88 = .ok (.getfield 74, 3) := dk_180 0 74 (dk_at dksX1_writeRoute_3 20 rfl rfl)
theorem dX1_writeRoute_91 : decode cX1_writeRoute 91 = .ok (.aload_n 0, 1) := dk_42 (dk_at dksX1_writeRoute_3 23 rfl rfl)
theorem dX1_writeRoute_92 : decode cX1_writeRoute 92 = .ok (.getfield 60, 3) := dk_180 0 60 (dk_at dksX1_writeRoute_4 0 rfl rfl)
theorem dX1_writeRoute_95 : decode cX1_writeRoute 95 = .ok (.getfield 195, 3) := dk_180 0 195 (dk_at dksX1_writeRoute_4 3 rfl rfl)
theorem dX1_writeRoute_98 : decode cX1_writeRoute 98 = .ok (.invokevirtual 205, 3) := dk_182 0 205 (dk_at dksX1_writeRoute_4 6 rfl rfl)
theorem dX1_writeRoute_101 : decode cX1_writeRoute 101 = .ok (.iload_n 2, 1) := dk_28 (dk_at dksX1_writeRoute_4 9 rfl rfl)
theorem dX1_writeRoute_102 : decode cX1_writeRoute 102 = .ok (.iaload, 1) := dk_46 (dk_at dksX1_writeRoute_4 10 rfl rfl)
theorem dX1_writeRoute_103 : decode cX1_writeRoute 103 = .ok (.invokevirtual 319, 3) := dk_182 1 63 (dk_at dksX1_writeRoute_4 11 rfl rfl)
theorem dX1_writeRoute_106 : decode cX1_writeRoute 106 = .ok (.aload_n 0, 1) := dk_42 (dk_at dksX1_writeRoute_4 14 rfl rfl)
theorem dX1_writeRoute_107 : decode cX1_writeRoute 107 = .ok (.getfield 60, 3) := dk_180 0 60 (dk_at dksX1_writeRoute_4 15 rfl rfl)
theorem dX1_writeRoute_110 : decode cX1_writeRoute 110 = .ok (.iload_n 2, 1) := dk_28 (dk_at dksX1_writeRoute_4 18 rfl rfl)
theorem dX1_writeRoute_111 : decode cX1_writeRoute 111 = .ok (.invokevirtual 214, 3) := dk_182 0 214 (dk_at dksX1_writeRoute_4 19 rfl rfl)
theorem dX1_writeRoute_114 : decode cX1_writeRoute 114 = .ok (.ifCond .eq 36, 3) := dk_153 0 36 (dk_at dksX1_writeRoute_5 0 rfl rfl)
theorem dX1_writeRoute_117 : decode cX1_writeRoute 117 = .ok (.new 71, 3) := dk_187 0 71 (dk_at dksX1_writeRoute_5 3 rfl rfl)
theorem dX1_writeRoute_120 : decode cX1_writeRoute 120 = .ok (.dup, 1) := dk_89 (dk_at dksX1_writeRoute_5 6 rfl rfl)
theorem dX1_writeRoute_121 : decode cX1_writeRoute 121 = .ok (.invokespecial 73, 3) := dk_183 0 73 (dk_at dksX1_writeRoute_5 7 rfl rfl)
theorem dX1_writeRoute_124 : decode cX1_writeRoute 124 = .ok (.ldc_w 308, 3) := dk_19 1 52 (dk_at dksX1_writeRoute_5 10 rfl rfl)
theorem dX1_writeRoute_127 : decode cX1_writeRoute 127 = .ok (.invokevirtual 310, 3) := dk_182 1 54 (dk_at dksX1_writeRoute_5 13 rfl rfl)
theorem dX1_writeRoute_130 : decode cX1_writeRoute 130 = .ok (.aload_n 0, 1) := dk_42 (dk_at dksX1_writeRoute_5 16 rfl rfl)
theorem dX1_writeRoute_131 : decode cX1_writeRoute 131 = .ok (.getfield 60, 3) := dk_180 0 60 (dk_at dksX1_writeRoute_5 17 rfl rfl)
theorem dX1_writeRoute_134 : decode cX1_writeRoute 134 = .ok (.iload_n 2, 1) := dk_28 (dk_at dksX1_writeRoute_5 20 rfl rfl)
theorem dX1_writeRoute_135 : decode cX1_writeRoute 135 = .ok (.invokevirtual 218, 3) := dk_182 0 218 (dk_at dksX1_writeRoute_5 21 rfl rfl)
theorem dX1_writeRoute_138 : decode cX1_writeRoute 138 = .ok (.invokevirtual 222, 3) := dk_182 0 222 (dk_at dksX1_writeRoute_6 0 rfl rfl)
theorem dX1_writeRoute_141 : decode cX1_writeRoute 141 = .ok (.invokevirtual 322, 3) := dk_182 1 66 (dk_at dksX1_writeRoute_6 3 rfl rfl)
theorem dX1_writeRoute_144 : decode cX1_writeRoute 144 = .ok (.invokevirtual 325, 3) := dk_182 1 69 (dk_at dksX1_writeRoute_6 6 rfl rfl)
theorem dX1_writeRoute_147 : decode cX1_writeRoute 147 = .ok (.goto 6, 3) := dk_167 0 6 (dk_at dksX1_writeRoute_6 9 rfl rfl)
theorem dX1_writeRoute_150 : decode cX1_writeRoute 150 = .ok (.ldc_w 308, 3) := dk_19 1 52 (dk_at dksX1_writeRoute_6 12 rfl rfl)
theorem dX1_writeRoute_153 : decode cX1_writeRoute 153 = .ok (.invokevirtual 310, 3) := dk_182 1 54 (dk_at dksX1_writeRoute_6 15 rfl rfl)
theorem dX1_writeRoute_156 : decode cX1_writeRoute 156 = .ok (.astore_n 1, 1) := dk_76 (dk_at dksX1_writeRoute_6 18 rfl rfl)
theorem dX1_writeRoute_157 : decode cX1_writeRoute 157 = .ok (.iinc 2 1, 3) := dk_132 2 1 (dk_at dksX1_writeRoute_6 19 rfl rfl)
theorem dX1_writeRoute_160 : decode cX1_writeRoute 160 = .ok (.goto (-145), 3) := dk_167 255 111 (dk_at dksX1_writeRoute_7 0 rfl rfl)
theorem dX1_writeRoute_163 : decode cX1_writeRoute 163 = .ok (.aload_n 1, 1) := dk_43 (dk_at dksX1_writeRoute_7 3 rfl rfl)
theorem dX1_writeRoute_164 : decode cX1_writeRoute 164 = .ok (.invokevirtual 329, 3) := dk_182 1 73 (dk_at dksX1_writeRoute_7 4 rfl rfl)
theorem dX1_writeRoute_167 : decode cX1_writeRoute 167 = .ok (.ireturn, 1) := dk_172 (dk_at dksX1_writeRoute_7 7 rfl rfl)
def dkwX1_inRange_0 : List UInt8 := [26, 27, 161, 0, 12, 26, 28, 163, 0, 7, 4, 167, 0, 4, 3, 172]
abbrev dktX1_inRange_0 : List UInt8 := dkwX1_inRange_0 ++ []
theorem dksX1_inRange_0 : cX1_inRange.data.toList.drop 0 = dktX1_inRange_0 := by decide +kernel
theorem dX1_inRange_0 : decode cX1_inRange 0 = .ok (.iload_n 0, 1) := dk_26 (dk_at dksX1_inRange_0 0 rfl rfl)
theorem dX1_inRange_1 : decode cX1_inRange 1 = .ok (.iload_n 1, 1) := dk_27 (dk_at dksX1_inRange_0 1 rfl rfl)
theorem dX1_inRange_2 : decode cX1_inRange 2 = .ok (.if_icmp .lt 12, 3) := dk_161 0 12 (dk_at dksX1_inRange_0 2 rfl rfl)
theorem dX1_inRange_5 : decode cX1_inRange 5 = .ok (.iload_n 0, 1) := dk_26 (dk_at dksX1_inRange_0 5 rfl rfl)
theorem dX1_inRange_6 : decode cX1_inRange 6 = .ok (.iload_n 2, 1) := dk_28 (dk_at dksX1_inRange_0 6 rfl rfl)
theorem dX1_inRange_7 : decode cX1_inRange 7 = .ok (.if_icmp .gt 7, 3) := dk_163 0 7 (dk_at dksX1_inRange_0 7 rfl rfl)
theorem dX1_inRange_10 : decode cX1_inRange 10 = .ok (.iconst 1, 1) := dk_4 (dk_at dksX1_inRange_0 10 rfl rfl)
theorem dX1_inRange_11 : decode cX1_inRange 11 = .ok (.goto 4, 3) := dk_167 0 4 (dk_at dksX1_inRange_0 11 rfl rfl)
theorem dX1_inRange_14 : decode cX1_inRange 14 = .ok (.iconst 0, 1) := dk_3 (dk_at dksX1_inRange_0 14 rfl rfl)
theorem dX1_inRange_15 : decode cX1_inRange 15 = .ok (.ireturn, 1) := dk_172 (dk_at dksX1_inRange_0 15 rfl rfl)
def dkwX1_save_0 : List UInt8 := [42, 187, 0, 57, 89, 42, 180, 0, 60, 183, 0, 101, 181, 1, 139, 42, 180, 0, 60, 182, 0, 134, 172]
abbrev dktX1_save_0 : List UInt8 := dkwX1_save_0 ++ []
theorem dksX1_save_0 : cX1_save.data.toList.drop 0 = dktX1_save_0 := by decide +kernel
theorem dX1_save_0 : decode cX1_save 0 = .ok (.aload_n 0, 1) := dk_42 (dk_at dksX1_save_0 0 rfl rfl)
theorem dX1_save_1 : decode cX1_save 1 = .ok (.new 57, 3) := dk_187 0 57 (dk_at dksX1_save_0 1 rfl rfl)
theorem dX1_save_4 : decode cX1_save 4 = .ok (.dup, 1) := dk_89 (dk_at dksX1_save_0 4 rfl rfl)
theorem dX1_save_5 : decode cX1_save 5 = .ok (.aload_n 0, 1) := dk_42 (dk_at dksX1_save_0 5 rfl rfl)
theorem dX1_save_6 : decode cX1_save 6 = .ok (.getfield 60, 3) := dk_180 0 60 (dk_at dksX1_save_0 6 rfl rfl)
theorem dX1_save_9 : decode cX1_save 9 = .ok (.invokespecial 101, 3) := dk_183 0 101 (dk_at dksX1_save_0 9 rfl rfl)
theorem dX1_save_12 : decode cX1_save 12 = .ok (.putfield 395, 3) := dk_181 1 139 (dk_at dksX1_save_0 12 rfl rfl)
theorem dX1_save_15 : decode cX1_save 15 = .ok (.aload_n 0, 1) := dk_42 (dk_at dksX1_save_0 15 rfl rfl)
theorem dX1_save_16 : decode cX1_save 16 = .ok (.getfield 60, 3) := dk_180 0 60 (dk_at dksX1_save_0 16 rfl rfl)
theorem dX1_save_19 : decode cX1_save 19 = .ok (.invokevirtual 134, 3) := dk_182 0 134 (dk_at dksX1_save_0 19 rfl rfl)
theorem dX1_save_22 : decode cX1_save 22 = .ok (.ireturn, 1) := dk_172 (dk_at dksX1_save_0 22 rfl rfl)
def dkwX1_addWaypoint_0 : List UInt8 := [42, 27, 28, 29, 186, 0, 113, 0, 0, 182, 0, 116, 172]
abbrev dktX1_addWaypoint_0 : List UInt8 := dkwX1_addWaypoint_0 ++ []
theorem dksX1_addWaypoint_0 : cX1_addWaypoint.data.toList.drop 0 = dktX1_addWaypoint_0 := by decide +kernel
theorem dX1_addWaypoint_0 : decode cX1_addWaypoint 0 = .ok (.aload_n 0, 1) := dk_42 (dk_at dksX1_addWaypoint_0 0 rfl rfl)
theorem dX1_addWaypoint_1 : decode cX1_addWaypoint 1 = .ok (.iload_n 1, 1) := dk_27 (dk_at dksX1_addWaypoint_0 1 rfl rfl)
theorem dX1_addWaypoint_2 : decode cX1_addWaypoint 2 = .ok (.iload_n 2, 1) := dk_28 (dk_at dksX1_addWaypoint_0 2 rfl rfl)
theorem dX1_addWaypoint_3 : decode cX1_addWaypoint 3 = .ok (.iload_n 3, 1) := dk_29 (dk_at dksX1_addWaypoint_0 3 rfl rfl)
theorem dX1_addWaypoint_4 : decode cX1_addWaypoint 4 = .ok (.invokedynamic 113, 5) := by decide +kernel
theorem dX1_addWaypoint_9 : decode cX1_addWaypoint 9 = .ok (.invokevirtual 116, 3) := dk_182 0 116 (dk_at dksX1_addWaypoint_0 9 rfl rfl)
theorem dX1_addWaypoint_12 : decode cX1_addWaypoint 12 = .ok (.ireturn, 1) := dk_172 (dk_at dksX1_addWaypoint_0 12 rfl rfl)
def dkwX1_lambda_addWaypoint_0_0 : List UInt8 := [45, 26, 27, 28, 182, 1, 173, 172]
abbrev dktX1_lambda_addWaypoint_0_0 : List UInt8 := dkwX1_lambda_addWaypoint_0_0 ++ []
theorem dksX1_lambda_addWaypoint_0_0 : cX1_lambda_addWaypoint_0.data.toList.drop 0 = dktX1_lambda_addWaypoint_0_0 := by decide +kernel
theorem dX1_lambda_addWaypoint_0_0 : decode cX1_lambda_addWaypoint_0 0 = .ok (.aload_n 3, 1) := dk_45 (dk_at dksX1_lambda_addWaypoint_0_0 0 rfl rfl)
theorem dX1_lambda_addWaypoint_0_1 : decode cX1_lambda_addWaypoint_0 1 = .ok (.iload_n 0, 1) := dk_26 (dk_at dksX1_lambda_addWaypoint_0_0 1 rfl rfl)
theorem dX1_lambda_addWaypoint_0_2 : decode cX1_lambda_addWaypoint_0 2 = .ok (.iload_n 1, 1) := dk_27 (dk_at dksX1_lambda_addWaypoint_0_0 2 rfl rfl)
theorem dX1_lambda_addWaypoint_0_3 : decode cX1_lambda_addWaypoint_0 3 = .ok (.iload_n 2, 1) := dk_28 (dk_at dksX1_lambda_addWaypoint_0_0 3 rfl rfl)
theorem dX1_lambda_addWaypoint_0_4 : decode cX1_lambda_addWaypoint_0 4 = .ok (.invokevirtual 429, 3) := dk_182 1 173 (dk_at dksX1_lambda_addWaypoint_0_0 4 rfl rfl)
theorem dX1_lambda_addWaypoint_0_7 : decode cX1_lambda_addWaypoint_0 7 = .ok (.ireturn, 1) := dk_172 (dk_at dksX1_lambda_addWaypoint_0_0 7 rfl rfl)
def dkwX1_checkCoordinates_1 : List UInt8 := [3, 184, 0, 25, 177]
abbrev dktX1_checkCoordinates_1 : List UInt8 := dkwX1_checkCoordinates_1 ++ []
def dkwX1_checkCoordinates_0 : List UInt8 := [26, 3, 16, 99, 184, 0, 10, 153, 0, 17, 27, 3, 16, 99, 184, 0, 10, 153, 0, 7, 4, 167, 0, 4]
abbrev dktX1_checkCoordinates_0 : List UInt8 := dkwX1_checkCoordinates_0 ++ dktX1_checkCoordinates_1
theorem dksX1_checkCoordinates_0 : cX1_checkCoordinates.data.toList.drop 0 = dktX1_checkCoordinates_0 := by decide +kernel
theorem dksX1_checkCoordinates_1 : cX1_checkCoordinates.data.toList.drop 24 = dktX1_checkCoordinates_1 := dk_seg dksX1_checkCoordinates_0 24 rfl rfl
theorem dX1_checkCoordinates_0 : decode cX1_checkCoordinates 0 = .ok (.iload_n 0, 1) := dk_26 (dk_at dksX1_checkCoordinates_0 0 rfl rfl)
theorem dX1_checkCoordinates_1 : decode cX1_checkCoordinates 1 = .ok (.iconst 0, 1) := dk_3 (dk_at dksX1_checkCoordinates_0 1 rfl rfl)
theorem dX1_checkCoordinates_2 : decode cX1_checkCoordinates 2 = .ok (.bipush 99, 2) := dk_16 99 (dk_at dksX1_checkCoordinates_0 2 rfl rfl)
theorem dX1_checkCoordinates_4 : decode cX1_checkCoordinates 4 = .ok (.invokestatic 10, 3) := dk_184 0 10 (dk_at dksX1_checkCoordinates_0 4 rfl rfl)
theorem dX1_checkCoordinates_7 : decode cX1_checkCoordinates 7 = .ok (.ifCond .eq 17, 3) := dk_153 0 17 (dk_at dksX1_checkCoordinates_0 7 rfl rfl)
theorem dX1_checkCoordinates_10 : decode cX1_checkCoordinates 10 = .ok (.iload_n 1, 1) := dk_27 (dk_at dksX1_checkCoordinates_0 10 rfl rfl)
theorem dX1_checkCoordinates_11 : decode cX1_checkCoordinates 11 = .ok (.iconst 0, 1) := dk_3 (dk_at dksX1_checkCoordinates_0 11 rfl rfl)
theorem dX1_checkCoordinates_12 : decode cX1_checkCoordinates 12 = .ok (.bipush 99, 2) := dk_16 99 (dk_at dksX1_checkCoordinates_0 12 rfl rfl)
theorem dX1_checkCoordinates_14 : decode cX1_checkCoordinates 14 = .ok (.invokestatic 10, 3) := dk_184 0 10 (dk_at dksX1_checkCoordinates_0 14 rfl rfl)
theorem dX1_checkCoordinates_17 : decode cX1_checkCoordinates 17 = .ok (.ifCond .eq 7, 3) := dk_153 0 7 (dk_at dksX1_checkCoordinates_0 17 rfl rfl)
theorem dX1_checkCoordinates_20 : decode cX1_checkCoordinates 20 = .ok (.iconst 1, 1) := dk_4 (dk_at dksX1_checkCoordinates_0 20 rfl rfl)
theorem dX1_checkCoordinates_21 : decode cX1_checkCoordinates 21 = .ok (.goto 4, 3) := dk_167 0 4 (dk_at dksX1_checkCoordinates_0 21 rfl rfl)
theorem dX1_checkCoordinates_24 : decode cX1_checkCoordinates 24 = .ok (.iconst 0, 1) := dk_3 (dk_at dksX1_checkCoordinates_1 0 rfl rfl)
theorem dX1_checkCoordinates_25 : decode cX1_checkCoordinates 25 = .ok (.invokestatic 25, 3) := dk_184 0 25 (dk_at dksX1_checkCoordinates_1 1 rfl rfl)
theorem dX1_checkCoordinates_28 : decode cX1_checkCoordinates 28 = .ok (.return_, 1) := dk_177 (dk_at dksX1_checkCoordinates_1 4 rfl rfl)
def dkwX1_checkArgument_0 : List UInt8 := [26, 154, 0, 11, 187, 0, 1, 89, 183, 0, 3, 191, 177]
abbrev dktX1_checkArgument_0 : List UInt8 := dkwX1_checkArgument_0 ++ []
theorem dksX1_checkArgument_0 : cX1_checkArgument.data.toList.drop 0 = dktX1_checkArgument_0 := by decide +kernel
theorem dX1_checkArgument_0 : decode cX1_checkArgument 0 = .ok (.iload_n 0, 1) := dk_26 (dk_at dksX1_checkArgument_0 0 rfl rfl)
theorem dX1_checkArgument_1 : decode cX1_checkArgument 1 = .ok (.ifCond .ne 11, 3) := dk_154 0 11 (dk_at dksX1_checkArgument_0 1 rfl rfl)
theorem dX1_checkArgument_4 : decode cX1_checkArgument 4 = .ok (.new 1, 3) := dk_187 0 1 (dk_at dksX1_checkArgument_0 4 rfl rfl)
theorem dX1_checkArgument_7 : decode cX1_checkArgument 7 = .ok (.dup, 1) := dk_89 (dk_at dksX1_checkArgument_0 7 rfl rfl)
theorem dX1_checkArgument_8 : decode cX1_checkArgument 8 = .ok (.invokespecial 3, 3) := dk_183 0 3 (dk_at dksX1_checkArgument_0 8 rfl rfl)
theorem dX1_checkArgument_11 : decode cX1_checkArgument 11 = .ok (.athrow, 1) := dk_191 (dk_at dksX1_checkArgument_0 11 rfl rfl)
theorem dX1_checkArgument_12 : decode cX1_checkArgument 12 = .ok (.return_, 1) := dk_177 (dk_at dksX1_checkArgument_0 12 rfl rfl)
def dkwX1_checkState_0 : List UInt8 := [26, 154, 0, 11, 187, 0, 7, 89, 183, 0, 9, 191, 177]
abbrev dktX1_checkState_0 : List UInt8 := dkwX1_checkState_0 ++ []
theorem dksX1_checkState_0 : cX1_checkState.data.toList.drop 0 = dktX1_checkState_0 := by decide +kernel
theorem dX1_checkState_0 : decode cX1_checkState 0 = .ok (.iload_n 0, 1) := dk_26 (dk_at dksX1_checkState_0 0 rfl rfl)
theorem dX1_checkState_1 : decode cX1_checkState 1 = .ok (.ifCond .ne 11, 3) := dk_154 0 11 (dk_at dksX1_checkState_0 1 rfl rfl)
theorem dX1_checkState_4 : decode cX1_checkState 4 = .ok (.new 7, 3) := dk_187 0 7 (dk_at dksX1_checkState_0 4 rfl rfl)
theorem dX1_checkState_7 : decode cX1_checkState 7 = .ok (.dup, 1) := dk_89 (dk_at dksX1_checkState_0 7 rfl rfl)
theorem dX1_checkState_8 : decode cX1_checkState 8 = .ok (.invokespecial 9, 3) := dk_183 0 9 (dk_at dksX1_checkState_0 8 rfl rfl)
theorem dX1_checkState_11 : decode cX1_checkState 11 = .ok (.athrow, 1) := dk_191 (dk_at dksX1_checkState_0 11 rfl rfl)
theorem dX1_checkState_12 : decode cX1_checkState 12 = .ok (.return_, 1) := dk_177 (dk_at dksX1_checkState_0 12 rfl rfl)
def dkwX1_apply_1 : List UInt8 := [182, 0, 110, 29, 172]
abbrev dktX1_apply_1 : List UInt8 := dkwX1_apply_1 ++ []
def dkwX1_apply_0 : List UInt8 := [187, 0, 57, 89, 42, 180, 0, 60, 183, 0, 101, 77, 43, 44, 185, 0, 104, 2, 0, 62, 42, 44]
abbrev dktX1_apply_0 : List UInt8 := dkwX1_apply_0 ++ dktX1_apply_1
theorem dksX1_apply_0 : cX1_apply.data.toList.drop 0 = dktX1_apply_0 := by decide +kernel
theorem dksX1_apply_1 : cX1_apply.data.toList.drop 22 = dktX1_apply_1 := dk_seg dksX1_apply_0 22 rfl rfl
theorem dX1_apply_0 : decode cX1_apply 0 = .ok (.new 57, 3) := dk_187 0 57 (dk_at dksX1_apply_0 0 rfl rfl)
theorem dX1_apply_3 : decode cX1_apply 3 = .ok (.dup, 1) := dk_89 (dk_at dksX1_apply_0 3 rfl rfl)
theorem dX1_apply_4 : decode cX1_apply 4 = .ok (.aload_n 0, 1) := dk_42 (dk_at dksX1_apply_0 4 rfl rfl)
theorem dX1_apply_5 : decode cX1_apply 5 = .ok (.getfield 60, 3) := dk_180 0 60 (dk_at dksX1_apply_0 5 rfl rfl)
theorem dX1_apply_8 : decode cX1_apply 8 = .ok (.invokespecial 101, 3) := dk_183 0 101 (dk_at dksX1_apply_0 8 rfl rfl)
theorem dX1_apply_11 : decode cX1_apply 11 = .ok (.astore_n 2, 1) := dk_77 (dk_at dksX1_apply_0 11 rfl rfl)
theorem dX1_apply_12 : decode cX1_apply 12 = .ok (.aload_n 1, 1) := dk_43 (dk_at dksX1_apply_0 12 rfl rfl)
theorem dX1_apply_13 : decode cX1_apply 13 = .ok (.aload_n 2, 1) := dk_44 (dk_at dksX1_apply_0 13 rfl rfl)
theorem dX1_apply_14 : decode cX1_apply 14 = .ok (.invokeinterface 104 2, 5) := by decide +kernel
theorem dX1_apply_19 : decode cX1_apply 19 = .ok (.istore_n 3, 1) := dk_62 (dk_at dksX1_apply_0 19 rfl rfl)
theorem dX1_apply_20 : decode cX1_apply 20 = .ok (.aload_n 0, 1) := dk_42 (dk_at dksX1_apply_0 20 rfl rfl)
theorem dX1_apply_21 : decode cX1_apply 21 = .ok (.aload_n 2, 1) := dk_44 (dk_at dksX1_apply_0 21 rfl rfl)
theorem dX1_apply_22 : decode cX1_apply 22 = .ok (.invokevirtual 110, 3) := dk_182 0 110 (dk_at dksX1_apply_1 0 rfl rfl)
theorem dX1_apply_25 : decode cX1_apply 25 = .ok (.iload_n 3, 1) := dk_29 (dk_at dksX1_apply_1 3 rfl rfl)
theorem dX1_apply_26 : decode cX1_apply 26 = .ok (.ireturn, 1) := dk_172 (dk_at dksX1_apply_1 4 rfl rfl)
def dkwX1_commit_1 : List UInt8 := [180, 0, 67, 42, 180, 0, 60, 182, 0, 97, 42, 43, 181, 0, 60, 177]
abbrev dktX1_commit_1 : List UInt8 := dkwX1_commit_1 ++ []
def dkwX1_commit_0 : List UInt8 := [42, 180, 0, 67, 182, 0, 89, 16, 8, 160, 0, 14, 42, 180, 0, 67, 182, 0, 93, 192, 0, 57, 77, 42]
abbrev dktX1_commit_0 : List UInt8 := dkwX1_commit_0 ++ dktX1_commit_1
theorem dksX1_commit_0 : cX1_commit.data.toList.drop 0 = dktX1_commit_0 := by decide +kernel
theorem dksX1_commit_1 : cX1_commit.data.toList.drop 24 = dktX1_commit_1 := dk_seg dksX1_commit_0 24 rfl rfl
theorem dX1_commit_0 : decode cX1_commit 0 = .ok (.aload_n 0, 1) := dk_42 (dk_at dksX1_commit_0 0 rfl rfl)
theorem dX1_commit_1 : decode cX1_commit 1 = .ok (.getfield 67, 3) := dk_180 0 67 (dk_at dksX1_commit_0 1 rfl rfl)
theorem dX1_commit_4 : decode cX1_commit 4 = .ok (.invokevirtual 89, 3) := dk_182 0 89 (dk_at dksX1_commit_0 4 rfl rfl)
theorem dX1_commit_7 : decode cX1_commit 7 = .ok (.bipush 8, 2) := dk_16 8 (dk_at dksX1_commit_0 7 rfl rfl)
theorem dX1_commit_9 : decode cX1_commit 9 = .ok (.if_icmp .ne 14, 3) := dk_160 0 14 (dk_at dksX1_commit_0 9 rfl rfl)
theorem dX1_commit_12 : decode cX1_commit 12 = .ok (.aload_n 0, 1) := dk_42 (dk_at dksX1_commit_0 12 rfl rfl)
theorem dX1_commit_13 : decode cX1_commit 13 = .ok (.getfield 67, 3) := dk_180 0 67 (dk_at dksX1_commit_0 13 rfl rfl)
theorem dX1_commit_16 : decode cX1_commit 16 = .ok (.invokevirtual 93, 3) := dk_182 0 93 (dk_at dksX1_commit_0 16 rfl rfl)
theorem dX1_commit_19 : decode cX1_commit 19 = .ok (.checkcast 57, 3) := dk_192 0 57 (dk_at dksX1_commit_0 19 rfl rfl)
theorem dX1_commit_22 : decode cX1_commit 22 = .ok (.astore_n 2, 1) := dk_77 (dk_at dksX1_commit_0 22 rfl rfl)
theorem dX1_commit_23 : decode cX1_commit 23 = .ok (.aload_n 0, 1) := dk_42 (dk_at dksX1_commit_0 23 rfl rfl)
theorem dX1_commit_24 : decode cX1_commit 24 = .ok (.getfield 67, 3) := dk_180 0 67 (dk_at dksX1_commit_1 0 rfl rfl)
theorem dX1_commit_27 : decode cX1_commit 27 = .ok (.aload_n 0, 1) := dk_42 (dk_at dksX1_commit_1 3 rfl rfl)
theorem dX1_commit_28 : decode cX1_commit 28 = .ok (.getfield 60, 3) := dk_180 0 60 (dk_at dksX1_commit_1 4 rfl rfl)
theorem dX1_commit_31 : decode cX1_commit 31 = .ok (.invokevirtual 97, 3) := dk_182 0 97 (dk_at dksX1_commit_1 7 rfl rfl)
theorem dX1_commit_34 : decode cX1_commit 34 = .ok (.aload_n 0, 1) := dk_42 (dk_at dksX1_commit_1 10 rfl rfl)
theorem dX1_commit_35 : decode cX1_commit 35 = .ok (.aload_n 1, 1) := dk_43 (dk_at dksX1_commit_1 11 rfl rfl)
theorem dX1_commit_36 : decode cX1_commit 36 = .ok (.putfield 60, 3) := dk_181 0 60 (dk_at dksX1_commit_1 12 rfl rfl)
theorem dX1_commit_39 : decode cX1_commit 39 = .ok (.return_, 1) := dk_177 (dk_at dksX1_commit_1 15 rfl rfl)
def dkwX1_addTrail_0 : List UInt8 := [42, 27, 28, 29, 186, 0, 120, 0, 0, 182, 0, 116, 172]
abbrev dktX1_addTrail_0 : List UInt8 := dkwX1_addTrail_0 ++ []
theorem dksX1_addTrail_0 : cX1_addTrail.data.toList.drop 0 = dktX1_addTrail_0 := by decide +kernel
theorem dX1_addTrail_0 : decode cX1_addTrail 0 = .ok (.aload_n 0, 1) := dk_42 (dk_at dksX1_addTrail_0 0 rfl rfl)
theorem dX1_addTrail_1 : decode cX1_addTrail 1 = .ok (.iload_n 1, 1) := dk_27 (dk_at dksX1_addTrail_0 1 rfl rfl)
theorem dX1_addTrail_2 : decode cX1_addTrail 2 = .ok (.iload_n 2, 1) := dk_28 (dk_at dksX1_addTrail_0 2 rfl rfl)
theorem dX1_addTrail_3 : decode cX1_addTrail 3 = .ok (.iload_n 3, 1) := dk_29 (dk_at dksX1_addTrail_0 3 rfl rfl)
theorem dX1_addTrail_4 : decode cX1_addTrail 4 = .ok (.invokedynamic 120, 5) := by decide +kernel
theorem dX1_addTrail_9 : decode cX1_addTrail 9 = .ok (.invokevirtual 116, 3) := dk_182 0 116 (dk_at dksX1_addTrail_0 9 rfl rfl)
theorem dX1_addTrail_12 : decode cX1_addTrail 12 = .ok (.ireturn, 1) := dk_172 (dk_at dksX1_addTrail_0 12 rfl rfl)
def dkwX1_lambda_addTrail_1_0 : List UInt8 := [45, 26, 27, 28, 182, 1, 169, 172]
abbrev dktX1_lambda_addTrail_1_0 : List UInt8 := dkwX1_lambda_addTrail_1_0 ++ []
theorem dksX1_lambda_addTrail_1_0 : cX1_lambda_addTrail_1.data.toList.drop 0 = dktX1_lambda_addTrail_1_0 := by decide +kernel
theorem dX1_lambda_addTrail_1_0 : decode cX1_lambda_addTrail_1 0 = .ok (.aload_n 3, 1) := dk_45 (dk_at dksX1_lambda_addTrail_1_0 0 rfl rfl)
theorem dX1_lambda_addTrail_1_1 : decode cX1_lambda_addTrail_1 1 = .ok (.iload_n 0, 1) := dk_26 (dk_at dksX1_lambda_addTrail_1_0 1 rfl rfl)
theorem dX1_lambda_addTrail_1_2 : decode cX1_lambda_addTrail_1 2 = .ok (.iload_n 1, 1) := dk_27 (dk_at dksX1_lambda_addTrail_1_0 2 rfl rfl)
theorem dX1_lambda_addTrail_1_3 : decode cX1_lambda_addTrail_1 3 = .ok (.iload_n 2, 1) := dk_28 (dk_at dksX1_lambda_addTrail_1_0 3 rfl rfl)
theorem dX1_lambda_addTrail_1_4 : decode cX1_lambda_addTrail_1 4 = .ok (.invokevirtual 425, 3) := dk_182 1 169 (dk_at dksX1_lambda_addTrail_1_0 4 rfl rfl)
theorem dX1_lambda_addTrail_1_7 : decode cX1_lambda_addTrail_1 7 = .ok (.ireturn, 1) := dk_172 (dk_at dksX1_lambda_addTrail_1_0 7 rfl rfl)
def dkwX1_checkIndex_0 : List UInt8 := [26, 3, 27, 4, 100, 184, 0, 10, 154, 0, 11, 187, 0, 16, 89, 183, 0, 18, 191, 177]
abbrev dktX1_checkIndex_0 : List UInt8 := dkwX1_checkIndex_0 ++ []
theorem dksX1_checkIndex_0 : cX1_checkIndex.data.toList.drop 0 = dktX1_checkIndex_0 := by decide +kernel
theorem dX1_checkIndex_0 : decode cX1_checkIndex 0 = .ok (.iload_n 0, 1) := dk_26 (dk_at dksX1_checkIndex_0 0 rfl rfl)
theorem dX1_checkIndex_1 : decode cX1_checkIndex 1 = .ok (.iconst 0, 1) := dk_3 (dk_at dksX1_checkIndex_0 1 rfl rfl)
theorem dX1_checkIndex_2 : decode cX1_checkIndex 2 = .ok (.iload_n 1, 1) := dk_27 (dk_at dksX1_checkIndex_0 2 rfl rfl)
theorem dX1_checkIndex_3 : decode cX1_checkIndex 3 = .ok (.iconst 1, 1) := dk_4 (dk_at dksX1_checkIndex_0 3 rfl rfl)
theorem dX1_checkIndex_4 : decode cX1_checkIndex 4 = .ok (.isub, 1) := dk_100 (dk_at dksX1_checkIndex_0 4 rfl rfl)
theorem dX1_checkIndex_5 : decode cX1_checkIndex 5 = .ok (.invokestatic 10, 3) := dk_184 0 10 (dk_at dksX1_checkIndex_0 5 rfl rfl)
theorem dX1_checkIndex_8 : decode cX1_checkIndex 8 = .ok (.ifCond .ne 11, 3) := dk_154 0 11 (dk_at dksX1_checkIndex_0 8 rfl rfl)
theorem dX1_checkIndex_11 : decode cX1_checkIndex 11 = .ok (.new 16, 3) := dk_187 0 16 (dk_at dksX1_checkIndex_0 11 rfl rfl)
theorem dX1_checkIndex_14 : decode cX1_checkIndex 14 = .ok (.dup, 1) := dk_89 (dk_at dksX1_checkIndex_0 14 rfl rfl)
theorem dX1_checkIndex_15 : decode cX1_checkIndex 15 = .ok (.invokespecial 18, 3) := dk_183 0 18 (dk_at dksX1_checkIndex_0 15 rfl rfl)
theorem dX1_checkIndex_18 : decode cX1_checkIndex 18 = .ok (.athrow, 1) := dk_191 (dk_at dksX1_checkIndex_0 18 rfl rfl)
theorem dX1_checkIndex_19 : decode cX1_checkIndex 19 = .ok (.return_, 1) := dk_177 (dk_at dksX1_checkIndex_0 19 rfl rfl)
def dkwX1_removeTrail_0 : List UInt8 := [42, 27, 28, 186, 0, 121, 0, 0, 182, 0, 116, 172]
abbrev dktX1_removeTrail_0 : List UInt8 := dkwX1_removeTrail_0 ++ []
theorem dksX1_removeTrail_0 : cX1_removeTrail.data.toList.drop 0 = dktX1_removeTrail_0 := by decide +kernel
theorem dX1_removeTrail_0 : decode cX1_removeTrail 0 = .ok (.aload_n 0, 1) := dk_42 (dk_at dksX1_removeTrail_0 0 rfl rfl)
theorem dX1_removeTrail_1 : decode cX1_removeTrail 1 = .ok (.iload_n 1, 1) := dk_27 (dk_at dksX1_removeTrail_0 1 rfl rfl)
theorem dX1_removeTrail_2 : decode cX1_removeTrail 2 = .ok (.iload_n 2, 1) := dk_28 (dk_at dksX1_removeTrail_0 2 rfl rfl)
theorem dX1_removeTrail_3 : decode cX1_removeTrail 3 = .ok (.invokedynamic 121, 5) := by decide +kernel
theorem dX1_removeTrail_8 : decode cX1_removeTrail 8 = .ok (.invokevirtual 116, 3) := dk_182 0 116 (dk_at dksX1_removeTrail_0 8 rfl rfl)
theorem dX1_removeTrail_11 : decode cX1_removeTrail 11 = .ok (.ireturn, 1) := dk_172 (dk_at dksX1_removeTrail_0 11 rfl rfl)
def dkwX1_lambda_removeTrail_2_0 : List UInt8 := [44, 26, 27, 182, 1, 166, 172]
abbrev dktX1_lambda_removeTrail_2_0 : List UInt8 := dkwX1_lambda_removeTrail_2_0 ++ []
theorem dksX1_lambda_removeTrail_2_0 : cX1_lambda_removeTrail_2.data.toList.drop 0 = dktX1_lambda_removeTrail_2_0 := by decide +kernel
theorem dX1_lambda_removeTrail_2_0 : decode cX1_lambda_removeTrail_2 0 = .ok (.aload_n 2, 1) := dk_44 (dk_at dksX1_lambda_removeTrail_2_0 0 rfl rfl)
theorem dX1_lambda_removeTrail_2_1 : decode cX1_lambda_removeTrail_2 1 = .ok (.iload_n 0, 1) := dk_26 (dk_at dksX1_lambda_removeTrail_2_0 1 rfl rfl)
theorem dX1_lambda_removeTrail_2_2 : decode cX1_lambda_removeTrail_2 2 = .ok (.iload_n 1, 1) := dk_27 (dk_at dksX1_lambda_removeTrail_2_0 2 rfl rfl)
theorem dX1_lambda_removeTrail_2_3 : decode cX1_lambda_removeTrail_2 3 = .ok (.invokevirtual 422, 3) := dk_182 1 166 (dk_at dksX1_lambda_removeTrail_2_0 3 rfl rfl)
theorem dX1_lambda_removeTrail_2_6 : decode cX1_lambda_removeTrail_2 6 = .ok (.ireturn, 1) := dk_172 (dk_at dksX1_lambda_removeTrail_2_0 6 rfl rfl)
def dkwX1_checkElement_0 : List UInt8 := [26, 154, 0, 11, 187, 0, 19, 89, 183, 0, 21, 191, 177]
abbrev dktX1_checkElement_0 : List UInt8 := dkwX1_checkElement_0 ++ []
theorem dksX1_checkElement_0 : cX1_checkElement.data.toList.drop 0 = dktX1_checkElement_0 := by decide +kernel
theorem dX1_checkElement_0 : decode cX1_checkElement 0 = .ok (.iload_n 0, 1) := dk_26 (dk_at dksX1_checkElement_0 0 rfl rfl)
theorem dX1_checkElement_1 : decode cX1_checkElement 1 = .ok (.ifCond .ne 11, 3) := dk_154 0 11 (dk_at dksX1_checkElement_0 1 rfl rfl)
theorem dX1_checkElement_4 : decode cX1_checkElement 4 = .ok (.new 19, 3) := dk_187 0 19 (dk_at dksX1_checkElement_0 4 rfl rfl)
theorem dX1_checkElement_7 : decode cX1_checkElement 7 = .ok (.dup, 1) := dk_89 (dk_at dksX1_checkElement_0 7 rfl rfl)
theorem dX1_checkElement_8 : decode cX1_checkElement 8 = .ok (.invokespecial 21, 3) := dk_183 0 21 (dk_at dksX1_checkElement_0 8 rfl rfl)
theorem dX1_checkElement_11 : decode cX1_checkElement 11 = .ok (.athrow, 1) := dk_191 (dk_at dksX1_checkElement_0 11 rfl rfl)
theorem dX1_checkElement_12 : decode cX1_checkElement 12 = .ok (.return_, 1) := dk_177 (dk_at dksX1_checkElement_0 12 rfl rfl)
def dkwX1_startTour_0 : List UInt8 := [42, 27, 28, 186, 0, 124, 0, 0, 182, 0, 116, 172]
abbrev dktX1_startTour_0 : List UInt8 := dkwX1_startTour_0 ++ []
theorem dksX1_startTour_0 : cX1_startTour.data.toList.drop 0 = dktX1_startTour_0 := by decide +kernel
theorem dX1_startTour_0 : decode cX1_startTour 0 = .ok (.aload_n 0, 1) := dk_42 (dk_at dksX1_startTour_0 0 rfl rfl)
theorem dX1_startTour_1 : decode cX1_startTour 1 = .ok (.iload_n 1, 1) := dk_27 (dk_at dksX1_startTour_0 1 rfl rfl)
theorem dX1_startTour_2 : decode cX1_startTour 2 = .ok (.iload_n 2, 1) := dk_28 (dk_at dksX1_startTour_0 2 rfl rfl)
theorem dX1_startTour_3 : decode cX1_startTour 3 = .ok (.invokedynamic 124, 5) := by decide +kernel
theorem dX1_startTour_8 : decode cX1_startTour 8 = .ok (.invokevirtual 116, 3) := dk_182 0 116 (dk_at dksX1_startTour_0 8 rfl rfl)
theorem dX1_startTour_11 : decode cX1_startTour 11 = .ok (.ireturn, 1) := dk_172 (dk_at dksX1_startTour_0 11 rfl rfl)
def dkwX1_lambda_startTour_3_0 : List UInt8 := [44, 26, 27, 182, 1, 163, 172]
abbrev dktX1_lambda_startTour_3_0 : List UInt8 := dkwX1_lambda_startTour_3_0 ++ []
theorem dksX1_lambda_startTour_3_0 : cX1_lambda_startTour_3.data.toList.drop 0 = dktX1_lambda_startTour_3_0 := by decide +kernel
theorem dX1_lambda_startTour_3_0 : decode cX1_lambda_startTour_3 0 = .ok (.aload_n 2, 1) := dk_44 (dk_at dksX1_lambda_startTour_3_0 0 rfl rfl)
theorem dX1_lambda_startTour_3_1 : decode cX1_lambda_startTour_3 1 = .ok (.iload_n 0, 1) := dk_26 (dk_at dksX1_lambda_startTour_3_0 1 rfl rfl)
theorem dX1_lambda_startTour_3_2 : decode cX1_lambda_startTour_3 2 = .ok (.iload_n 1, 1) := dk_27 (dk_at dksX1_lambda_startTour_3_0 2 rfl rfl)
theorem dX1_lambda_startTour_3_3 : decode cX1_lambda_startTour_3 3 = .ok (.invokevirtual 419, 3) := dk_182 1 163 (dk_at dksX1_lambda_startTour_3_0 3 rfl rfl)
theorem dX1_lambda_startTour_3_6 : decode cX1_lambda_startTour_3 6 = .ok (.ireturn, 1) := dk_172 (dk_at dksX1_lambda_startTour_3_0 6 rfl rfl)
def dkwX1_stopTour_0 : List UInt8 := [42, 186, 0, 125, 0, 0, 182, 0, 116, 172]
abbrev dktX1_stopTour_0 : List UInt8 := dkwX1_stopTour_0 ++ []
theorem dksX1_stopTour_0 : cX1_stopTour.data.toList.drop 0 = dktX1_stopTour_0 := by decide +kernel
theorem dX1_stopTour_0 : decode cX1_stopTour 0 = .ok (.aload_n 0, 1) := dk_42 (dk_at dksX1_stopTour_0 0 rfl rfl)
theorem dX1_stopTour_1 : decode cX1_stopTour 1 = .ok (.invokedynamic 125, 5) := by decide +kernel
theorem dX1_stopTour_6 : decode cX1_stopTour 6 = .ok (.invokevirtual 116, 3) := dk_182 0 116 (dk_at dksX1_stopTour_0 6 rfl rfl)
theorem dX1_stopTour_9 : decode cX1_stopTour 9 = .ok (.ireturn, 1) := dk_172 (dk_at dksX1_stopTour_0 9 rfl rfl)
theorem dX1_lambda_stopTour_4_0 : decode cX1_lambda_stopTour_4 0 = .ok (.aload_n 0, 1) := by decide +kernel
theorem dX1_lambda_stopTour_4_1 : decode cX1_lambda_stopTour_4 1 = .ok (.invokevirtual 416, 3) := by decide +kernel
theorem dX1_lambda_stopTour_4_4 : decode cX1_lambda_stopTour_4 4 = .ok (.ireturn, 1) := by decide +kernel
def dkwX1_update_0 : List UInt8 := [42, 27, 28, 186, 0, 128, 0, 0, 182, 0, 116, 4, 160, 0, 7, 4, 167, 0, 4, 3, 172]
abbrev dktX1_update_0 : List UInt8 := dkwX1_update_0 ++ []
theorem dksX1_update_0 : cX1_update.data.toList.drop 0 = dktX1_update_0 := by decide +kernel
theorem dX1_update_0 : decode cX1_update 0 = .ok (.aload_n 0, 1) := dk_42 (dk_at dksX1_update_0 0 rfl rfl)
theorem dX1_update_1 : decode cX1_update 1 = .ok (.iload_n 1, 1) := dk_27 (dk_at dksX1_update_0 1 rfl rfl)
theorem dX1_update_2 : decode cX1_update 2 = .ok (.iload_n 2, 1) := dk_28 (dk_at dksX1_update_0 2 rfl rfl)
theorem dX1_update_3 : decode cX1_update 3 = .ok (.invokedynamic 128, 5) := by decide +kernel
theorem dX1_update_8 : decode cX1_update 8 = .ok (.invokevirtual 116, 3) := dk_182 0 116 (dk_at dksX1_update_0 8 rfl rfl)
theorem dX1_update_11 : decode cX1_update 11 = .ok (.iconst 1, 1) := dk_4 (dk_at dksX1_update_0 11 rfl rfl)
theorem dX1_update_12 : decode cX1_update 12 = .ok (.if_icmp .ne 7, 3) := dk_160 0 7 (dk_at dksX1_update_0 12 rfl rfl)
theorem dX1_update_15 : decode cX1_update 15 = .ok (.iconst 1, 1) := dk_4 (dk_at dksX1_update_0 15 rfl rfl)
theorem dX1_update_16 : decode cX1_update 16 = .ok (.goto 4, 3) := dk_167 0 4 (dk_at dksX1_update_0 16 rfl rfl)
theorem dX1_update_19 : decode cX1_update 19 = .ok (.iconst 0, 1) := dk_3 (dk_at dksX1_update_0 19 rfl rfl)
theorem dX1_update_20 : decode cX1_update 20 = .ok (.ireturn, 1) := dk_172 (dk_at dksX1_update_0 20 rfl rfl)
def dkwX1_lambda_update_5_0 : List UInt8 := [44, 26, 27, 182, 1, 157, 172]
abbrev dktX1_lambda_update_5_0 : List UInt8 := dkwX1_lambda_update_5_0 ++ []
theorem dksX1_lambda_update_5_0 : cX1_lambda_update_5.data.toList.drop 0 = dktX1_lambda_update_5_0 := by decide +kernel
theorem dX1_lambda_update_5_0 : decode cX1_lambda_update_5 0 = .ok (.aload_n 2, 1) := dk_44 (dk_at dksX1_lambda_update_5_0 0 rfl rfl)
theorem dX1_lambda_update_5_1 : decode cX1_lambda_update_5 1 = .ok (.iload_n 0, 1) := dk_26 (dk_at dksX1_lambda_update_5_0 1 rfl rfl)
theorem dX1_lambda_update_5_2 : decode cX1_lambda_update_5 2 = .ok (.iload_n 1, 1) := dk_27 (dk_at dksX1_lambda_update_5_0 2 rfl rfl)
theorem dX1_lambda_update_5_3 : decode cX1_lambda_update_5 3 = .ok (.invokevirtual 413, 3) := dk_182 1 157 (dk_at dksX1_lambda_update_5_0 3 rfl rfl)
theorem dX1_lambda_update_5_6 : decode cX1_lambda_update_5 6 = .ok (.ireturn, 1) := dk_172 (dk_at dksX1_lambda_update_5_0 6 rfl rfl)
def dkwX1_checkSupported_0 : List UInt8 := [26, 154, 0, 11, 187, 0, 22, 89, 183, 0, 24, 191, 177]
abbrev dktX1_checkSupported_0 : List UInt8 := dkwX1_checkSupported_0 ++ []
theorem dksX1_checkSupported_0 : cX1_checkSupported.data.toList.drop 0 = dktX1_checkSupported_0 := by decide +kernel
theorem dX1_checkSupported_0 : decode cX1_checkSupported 0 = .ok (.iload_n 0, 1) := dk_26 (dk_at dksX1_checkSupported_0 0 rfl rfl)
theorem dX1_checkSupported_1 : decode cX1_checkSupported 1 = .ok (.ifCond .ne 11, 3) := dk_154 0 11 (dk_at dksX1_checkSupported_0 1 rfl rfl)
theorem dX1_checkSupported_4 : decode cX1_checkSupported 4 = .ok (.new 22, 3) := dk_187 0 22 (dk_at dksX1_checkSupported_0 4 rfl rfl)
theorem dX1_checkSupported_7 : decode cX1_checkSupported 7 = .ok (.dup, 1) := dk_89 (dk_at dksX1_checkSupported_0 7 rfl rfl)
theorem dX1_checkSupported_8 : decode cX1_checkSupported 8 = .ok (.invokespecial 24, 3) := dk_183 0 24 (dk_at dksX1_checkSupported_0 8 rfl rfl)
theorem dX1_checkSupported_11 : decode cX1_checkSupported 11 = .ok (.athrow, 1) := dk_191 (dk_at dksX1_checkSupported_0 11 rfl rfl)
theorem dX1_checkSupported_12 : decode cX1_checkSupported 12 = .ok (.return_, 1) := dk_177 (dk_at dksX1_checkSupported_0 12 rfl rfl)
def dkwX1_squaredDrift_3 : List UInt8 := [55, 7, 187, 0, 39, 89, 22, 7, 22, 7, 105, 45, 182, 0, 41, 183, 0, 45, 176]
abbrev dktX1_squaredDrift_3 : List UInt8 := dkwX1_squaredDrift_3 ++ []
def dkwX1_squaredDrift_2 : List UInt8 := [148, 155, 0, 17, 187, 0, 39, 89, 42, 44, 182, 0, 48, 10, 183, 0, 45, 176, 25, 4, 45, 182, 0, 51]
abbrev dktX1_squaredDrift_2 : List UInt8 := dkwX1_squaredDrift_2 ++ dktX1_squaredDrift_3
def dkwX1_squaredDrift_1 : List UInt8 := [148, 157, 0, 17, 187, 0, 39, 89, 25, 4, 182, 0, 41, 10, 183, 0, 45, 176, 22, 5, 45, 182, 0, 41]
abbrev dktX1_squaredDrift_1 : List UInt8 := dkwX1_squaredDrift_1 ++ dktX1_squaredDrift_2
def dkwX1_squaredDrift_0 : List UInt8 := [44, 43, 182, 0, 29, 78, 42, 43, 182, 0, 29, 58, 4, 25, 4, 45, 182, 0, 35, 55, 5, 22, 5, 9]
abbrev dktX1_squaredDrift_0 : List UInt8 := dkwX1_squaredDrift_0 ++ dktX1_squaredDrift_1
theorem dksX1_squaredDrift_0 : cX1_squaredDrift.data.toList.drop 0 = dktX1_squaredDrift_0 := by decide +kernel
theorem dksX1_squaredDrift_1 : cX1_squaredDrift.data.toList.drop 24 = dktX1_squaredDrift_1 := dk_seg dksX1_squaredDrift_0 24 rfl rfl
theorem dksX1_squaredDrift_2 : cX1_squaredDrift.data.toList.drop 48 = dktX1_squaredDrift_2 := dk_seg dksX1_squaredDrift_1 24 rfl rfl
theorem dksX1_squaredDrift_3 : cX1_squaredDrift.data.toList.drop 72 = dktX1_squaredDrift_3 := dk_seg dksX1_squaredDrift_2 24 rfl rfl
theorem dX1_squaredDrift_0 : decode cX1_squaredDrift 0 = .ok (.aload_n 2, 1) := dk_44 (dk_at dksX1_squaredDrift_0 0 rfl rfl)
theorem dX1_squaredDrift_1 : decode cX1_squaredDrift 1 = .ok (.aload_n 1, 1) := dk_43 (dk_at dksX1_squaredDrift_0 1 rfl rfl)
theorem dX1_squaredDrift_2 : decode cX1_squaredDrift 2 = .ok (.invokevirtual 29, 3) := dk_182 0 29 (dk_at dksX1_squaredDrift_0 2 rfl rfl)
theorem dX1_squaredDrift_5 : decode cX1_squaredDrift 5 = .ok (.astore_n 3, 1) := dk_78 (dk_at dksX1_squaredDrift_0 5 rfl rfl)
theorem dX1_squaredDrift_6 : decode cX1_squaredDrift 6 = .ok (.aload_n 0, 1) := dk_42 (dk_at dksX1_squaredDrift_0 6 rfl rfl)
theorem dX1_squaredDrift_7 : decode cX1_squaredDrift 7 = .ok (.aload_n 1, 1) := dk_43 (dk_at dksX1_squaredDrift_0 7 rfl rfl)
theorem dX1_squaredDrift_8 : decode cX1_squaredDrift 8 = .ok (.invokevirtual 29, 3) := dk_182 0 29 (dk_at dksX1_squaredDrift_0 8 rfl rfl)
theorem dX1_squaredDrift_11 : decode cX1_squaredDrift 11 = .ok (.astore 4, 2) := dk_58 4 (dk_at dksX1_squaredDrift_0 11 rfl rfl)
theorem dX1_squaredDrift_13 : decode cX1_squaredDrift 13 = .ok (.aload 4, 2) := dk_25 4 (dk_at dksX1_squaredDrift_0 13 rfl rfl)
theorem dX1_squaredDrift_15 : decode cX1_squaredDrift 15 = .ok (.aload_n 3, 1) := dk_45 (dk_at dksX1_squaredDrift_0 15 rfl rfl)
theorem dX1_squaredDrift_16 : decode cX1_squaredDrift 16 = .ok (.invokevirtual 35, 3) := dk_182 0 35 (dk_at dksX1_squaredDrift_0 16 rfl rfl)
theorem dX1_squaredDrift_19 : decode cX1_squaredDrift 19 = .ok (.lstore 5, 2) := dk_55 5 (dk_at dksX1_squaredDrift_0 19 rfl rfl)
theorem dX1_squaredDrift_21 : decode cX1_squaredDrift 21 = .ok (.lload 5, 2) := dk_22 5 (dk_at dksX1_squaredDrift_0 21 rfl rfl)
theorem dX1_squaredDrift_23 : decode cX1_squaredDrift 23 = .ok (.lconst 0, 1) := dk_9 (dk_at dksX1_squaredDrift_0 23 rfl rfl)
theorem dX1_squaredDrift_24 : decode cX1_squaredDrift 24 = .ok (.lcmp, 1) := dk_148 (dk_at dksX1_squaredDrift_1 0 rfl rfl)
theorem dX1_squaredDrift_25 : decode cX1_squaredDrift 25 = .ok (.ifCond .gt 17, 3) := dk_157 0 17 (dk_at dksX1_squaredDrift_1 1 rfl rfl)
theorem dX1_squaredDrift_28 : decode cX1_squaredDrift 28 = .ok (.new 39, 3) := dk_187 0 39 (dk_at dksX1_squaredDrift_1 4 rfl rfl)
theorem dX1_squaredDrift_31 : decode cX1_squaredDrift 31 = .ok (.dup, 1) := dk_89 (dk_at dksX1_squaredDrift_1 7 rfl rfl)
theorem dX1_squaredDrift_32 : decode cX1_squaredDrift 32 = .ok (.aload 4, 2) := dk_25 4 (dk_at dksX1_squaredDrift_1 8 rfl rfl)
theorem dX1_squaredDrift_34 : decode cX1_squaredDrift 34 = .ok (.invokevirtual 41, 3) := dk_182 0 41 (dk_at dksX1_squaredDrift_1 10 rfl rfl)
theorem dX1_squaredDrift_37 : decode cX1_squaredDrift 37 = .ok (.lconst 1, 1) := dk_10 (dk_at dksX1_squaredDrift_1 13 rfl rfl)
theorem dX1_squaredDrift_38 : decode cX1_squaredDrift 38 = .ok (.invokespecial 45, 3) := dk_183 0 45 (dk_at dksX1_squaredDrift_1 14 rfl rfl)
theorem dX1_squaredDrift_41 : decode cX1_squaredDrift 41 = .ok (.areturn, 1) := dk_176 (dk_at dksX1_squaredDrift_1 17 rfl rfl)
theorem dX1_squaredDrift_42 : decode cX1_squaredDrift 42 = .ok (.lload 5, 2) := dk_22 5 (dk_at dksX1_squaredDrift_1 18 rfl rfl)
theorem dX1_squaredDrift_44 : decode cX1_squaredDrift 44 = .ok (.aload_n 3, 1) := dk_45 (dk_at dksX1_squaredDrift_1 20 rfl rfl)
theorem dX1_squaredDrift_45 : decode cX1_squaredDrift 45 = .ok (.invokevirtual 41, 3) := dk_182 0 41 (dk_at dksX1_squaredDrift_1 21 rfl rfl)
theorem dX1_squaredDrift_48 : decode cX1_squaredDrift 48 = .ok (.lcmp, 1) := dk_148 (dk_at dksX1_squaredDrift_2 0 rfl rfl)
theorem dX1_squaredDrift_49 : decode cX1_squaredDrift 49 = .ok (.ifCond .lt 17, 3) := dk_155 0 17 (dk_at dksX1_squaredDrift_2 1 rfl rfl)
theorem dX1_squaredDrift_52 : decode cX1_squaredDrift 52 = .ok (.new 39, 3) := dk_187 0 39 (dk_at dksX1_squaredDrift_2 4 rfl rfl)
theorem dX1_squaredDrift_55 : decode cX1_squaredDrift 55 = .ok (.dup, 1) := dk_89 (dk_at dksX1_squaredDrift_2 7 rfl rfl)
theorem dX1_squaredDrift_56 : decode cX1_squaredDrift 56 = .ok (.aload_n 0, 1) := dk_42 (dk_at dksX1_squaredDrift_2 8 rfl rfl)
theorem dX1_squaredDrift_57 : decode cX1_squaredDrift 57 = .ok (.aload_n 2, 1) := dk_44 (dk_at dksX1_squaredDrift_2 9 rfl rfl)
theorem dX1_squaredDrift_58 : decode cX1_squaredDrift 58 = .ok (.invokevirtual 48, 3) := dk_182 0 48 (dk_at dksX1_squaredDrift_2 10 rfl rfl)
theorem dX1_squaredDrift_61 : decode cX1_squaredDrift 61 = .ok (.lconst 1, 1) := dk_10 (dk_at dksX1_squaredDrift_2 13 rfl rfl)
theorem dX1_squaredDrift_62 : decode cX1_squaredDrift 62 = .ok (.invokespecial 45, 3) := dk_183 0 45 (dk_at dksX1_squaredDrift_2 14 rfl rfl)
theorem dX1_squaredDrift_65 : decode cX1_squaredDrift 65 = .ok (.areturn, 1) := dk_176 (dk_at dksX1_squaredDrift_2 17 rfl rfl)
theorem dX1_squaredDrift_66 : decode cX1_squaredDrift 66 = .ok (.aload 4, 2) := dk_25 4 (dk_at dksX1_squaredDrift_2 18 rfl rfl)
theorem dX1_squaredDrift_68 : decode cX1_squaredDrift 68 = .ok (.aload_n 3, 1) := dk_45 (dk_at dksX1_squaredDrift_2 20 rfl rfl)
theorem dX1_squaredDrift_69 : decode cX1_squaredDrift 69 = .ok (.invokevirtual 51, 3) := dk_182 0 51 (dk_at dksX1_squaredDrift_2 21 rfl rfl)
theorem dX1_squaredDrift_72 : decode cX1_squaredDrift 72 = .ok (.lstore 7, 2) := dk_55 7 (dk_at dksX1_squaredDrift_3 0 rfl rfl)
theorem dX1_squaredDrift_74 : decode cX1_squaredDrift 74 = .ok (.new 39, 3) := dk_187 0 39 (dk_at dksX1_squaredDrift_3 2 rfl rfl)
theorem dX1_squaredDrift_77 : decode cX1_squaredDrift 77 = .ok (.dup, 1) := dk_89 (dk_at dksX1_squaredDrift_3 5 rfl rfl)
theorem dX1_squaredDrift_78 : decode cX1_squaredDrift 78 = .ok (.lload 7, 2) := dk_22 7 (dk_at dksX1_squaredDrift_3 6 rfl rfl)
theorem dX1_squaredDrift_80 : decode cX1_squaredDrift 80 = .ok (.lload 7, 2) := dk_22 7 (dk_at dksX1_squaredDrift_3 8 rfl rfl)
theorem dX1_squaredDrift_82 : decode cX1_squaredDrift 82 = .ok (.lmul, 1) := dk_105 (dk_at dksX1_squaredDrift_3 10 rfl rfl)
theorem dX1_squaredDrift_83 : decode cX1_squaredDrift 83 = .ok (.aload_n 3, 1) := dk_45 (dk_at dksX1_squaredDrift_3 11 rfl rfl)
theorem dX1_squaredDrift_84 : decode cX1_squaredDrift 84 = .ok (.invokevirtual 41, 3) := dk_182 0 41 (dk_at dksX1_squaredDrift_3 12 rfl rfl)
theorem dX1_squaredDrift_87 : decode cX1_squaredDrift 87 = .ok (.invokespecial 45, 3) := dk_183 0 45 (dk_at dksX1_squaredDrift_3 15 rfl rfl)
theorem dX1_squaredDrift_90 : decode cX1_squaredDrift 90 = .ok (.areturn, 1) := dk_176 (dk_at dksX1_squaredDrift_3 18 rfl rfl)
def dkwX1_setTolerance_0 : List UInt8 := [42, 27, 186, 0, 129, 0, 0, 182, 0, 116, 172]
abbrev dktX1_setTolerance_0 : List UInt8 := dkwX1_setTolerance_0 ++ []
theorem dksX1_setTolerance_0 : cX1_setTolerance.data.toList.drop 0 = dktX1_setTolerance_0 := by decide +kernel
theorem dX1_setTolerance_0 : decode cX1_setTolerance 0 = .ok (.aload_n 0, 1) := dk_42 (dk_at dksX1_setTolerance_0 0 rfl rfl)
theorem dX1_setTolerance_1 : decode cX1_setTolerance 1 = .ok (.iload_n 1, 1) := dk_27 (dk_at dksX1_setTolerance_0 1 rfl rfl)
theorem dX1_setTolerance_2 : decode cX1_setTolerance 2 = .ok (.invokedynamic 129, 5) := by decide +kernel
theorem dX1_setTolerance_7 : decode cX1_setTolerance 7 = .ok (.invokevirtual 116, 3) := dk_182 0 116 (dk_at dksX1_setTolerance_0 7 rfl rfl)
theorem dX1_setTolerance_10 : decode cX1_setTolerance 10 = .ok (.ireturn, 1) := dk_172 (dk_at dksX1_setTolerance_0 10 rfl rfl)
def dkwX1_lambda_setTolerance_6_0 : List UInt8 := [43, 26, 182, 1, 154, 172]
abbrev dktX1_lambda_setTolerance_6_0 : List UInt8 := dkwX1_lambda_setTolerance_6_0 ++ []
theorem dksX1_lambda_setTolerance_6_0 : cX1_lambda_setTolerance_6.data.toList.drop 0 = dktX1_lambda_setTolerance_6_0 := by decide +kernel
theorem dX1_lambda_setTolerance_6_0 : decode cX1_lambda_setTolerance_6 0 = .ok (.aload_n 1, 1) := dk_43 (dk_at dksX1_lambda_setTolerance_6_0 0 rfl rfl)
theorem dX1_lambda_setTolerance_6_1 : decode cX1_lambda_setTolerance_6 1 = .ok (.iload_n 0, 1) := dk_26 (dk_at dksX1_lambda_setTolerance_6_0 1 rfl rfl)
theorem dX1_lambda_setTolerance_6_2 : decode cX1_lambda_setTolerance_6 2 = .ok (.invokevirtual 410, 3) := dk_182 1 154 (dk_at dksX1_lambda_setTolerance_6_0 2 rfl rfl)
theorem dX1_lambda_setTolerance_6_5 : decode cX1_lambda_setTolerance_6 5 = .ok (.ireturn, 1) := dk_172 (dk_at dksX1_lambda_setTolerance_6_0 5 rfl rfl)
def dkwX1_setMode_0 : List UInt8 := [42, 27, 186, 0, 132, 0, 0, 182, 0, 116, 172]
abbrev dktX1_setMode_0 : List UInt8 := dkwX1_setMode_0 ++ []
theorem dksX1_setMode_0 : cX1_setMode.data.toList.drop 0 = dktX1_setMode_0 := by decide +kernel
theorem dX1_setMode_0 : decode cX1_setMode 0 = .ok (.aload_n 0, 1) := dk_42 (dk_at dksX1_setMode_0 0 rfl rfl)
theorem dX1_setMode_1 : decode cX1_setMode 1 = .ok (.iload_n 1, 1) := dk_27 (dk_at dksX1_setMode_0 1 rfl rfl)
theorem dX1_setMode_2 : decode cX1_setMode 2 = .ok (.invokedynamic 132, 5) := by decide +kernel
theorem dX1_setMode_7 : decode cX1_setMode 7 = .ok (.invokevirtual 116, 3) := dk_182 0 116 (dk_at dksX1_setMode_0 7 rfl rfl)
theorem dX1_setMode_10 : decode cX1_setMode 10 = .ok (.ireturn, 1) := dk_172 (dk_at dksX1_setMode_0 10 rfl rfl)
def dkwX1_lambda_setMode_7_0 : List UInt8 := [43, 26, 182, 1, 151, 172]
abbrev dktX1_lambda_setMode_7_0 : List UInt8 := dkwX1_lambda_setMode_7_0 ++ []
theorem dksX1_lambda_setMode_7_0 : cX1_lambda_setMode_7.data.toList.drop 0 = dktX1_lambda_setMode_7_0 := by decide +kernel
theorem dX1_lambda_setMode_7_0 : decode cX1_lambda_setMode_7 0 = .ok (.aload_n 1, 1) := dk_43 (dk_at dksX1_lambda_setMode_7_0 0 rfl rfl)
theorem dX1_lambda_setMode_7_1 : decode cX1_lambda_setMode_7 1 = .ok (.iload_n 0, 1) := dk_26 (dk_at dksX1_lambda_setMode_7_0 1 rfl rfl)
theorem dX1_lambda_setMode_7_2 : decode cX1_lambda_setMode_7 2 = .ok (.invokevirtual 407, 3) := dk_182 1 151 (dk_at dksX1_lambda_setMode_7_0 2 rfl rfl)
theorem dX1_lambda_setMode_7_5 : decode cX1_lambda_setMode_7 5 = .ok (.ireturn, 1) := dk_172 (dk_at dksX1_lambda_setMode_7_0 5 rfl rfl)
def dkwX1_charge_0 : List UInt8 := [42, 27, 186, 0, 133, 0, 0, 182, 0, 116, 172]
abbrev dktX1_charge_0 : List UInt8 := dkwX1_charge_0 ++ []
theorem dksX1_charge_0 : cX1_charge.data.toList.drop 0 = dktX1_charge_0 := by decide +kernel
theorem dX1_charge_0 : decode cX1_charge 0 = .ok (.aload_n 0, 1) := dk_42 (dk_at dksX1_charge_0 0 rfl rfl)
theorem dX1_charge_1 : decode cX1_charge 1 = .ok (.iload_n 1, 1) := dk_27 (dk_at dksX1_charge_0 1 rfl rfl)
theorem dX1_charge_2 : decode cX1_charge 2 = .ok (.invokedynamic 133, 5) := by decide +kernel
theorem dX1_charge_7 : decode cX1_charge 7 = .ok (.invokevirtual 116, 3) := dk_182 0 116 (dk_at dksX1_charge_0 7 rfl rfl)
theorem dX1_charge_10 : decode cX1_charge 10 = .ok (.ireturn, 1) := dk_172 (dk_at dksX1_charge_0 10 rfl rfl)
def dkwX1_lambda_charge_8_0 : List UInt8 := [43, 26, 182, 1, 148, 172]
abbrev dktX1_lambda_charge_8_0 : List UInt8 := dkwX1_lambda_charge_8_0 ++ []
theorem dksX1_lambda_charge_8_0 : cX1_lambda_charge_8.data.toList.drop 0 = dktX1_lambda_charge_8_0 := by decide +kernel
theorem dX1_lambda_charge_8_0 : decode cX1_lambda_charge_8 0 = .ok (.aload_n 1, 1) := dk_43 (dk_at dksX1_lambda_charge_8_0 0 rfl rfl)
theorem dX1_lambda_charge_8_1 : decode cX1_lambda_charge_8 1 = .ok (.iload_n 0, 1) := dk_26 (dk_at dksX1_lambda_charge_8_0 1 rfl rfl)
theorem dX1_lambda_charge_8_2 : decode cX1_lambda_charge_8 2 = .ok (.invokevirtual 404, 3) := dk_182 1 148 (dk_at dksX1_lambda_charge_8_0 2 rfl rfl)
theorem dX1_lambda_charge_8_5 : decode cX1_lambda_charge_8 5 = .ok (.ireturn, 1) := dk_172 (dk_at dksX1_lambda_charge_8_0 5 rfl rfl)
def dkwX1_waypointX_0 : List UInt8 := [42, 180, 0, 60, 27, 182, 0, 135, 182, 0, 139, 182, 0, 145, 172]
abbrev dktX1_waypointX_0 : List UInt8 := dkwX1_waypointX_0 ++ []
theorem dksX1_waypointX_0 : cX1_waypointX.data.toList.drop 0 = dktX1_waypointX_0 := by decide +kernel
theorem dX1_waypointX_0 : decode cX1_waypointX 0 = .ok (.aload_n 0, 1) := dk_42 (dk_at dksX1_waypointX_0 0 rfl rfl)
theorem dX1_waypointX_1 : decode cX1_waypointX 1 = .ok (.getfield 60, 3) := dk_180 0 60 (dk_at dksX1_waypointX_0 1 rfl rfl)
theorem dX1_waypointX_4 : decode cX1_waypointX 4 = .ok (.iload_n 1, 1) := dk_27 (dk_at dksX1_waypointX_0 4 rfl rfl)
theorem dX1_waypointX_5 : decode cX1_waypointX 5 = .ok (.invokevirtual 135, 3) := dk_182 0 135 (dk_at dksX1_waypointX_0 5 rfl rfl)
theorem dX1_waypointX_8 : decode cX1_waypointX 8 = .ok (.invokevirtual 139, 3) := dk_182 0 139 (dk_at dksX1_waypointX_0 8 rfl rfl)
theorem dX1_waypointX_11 : decode cX1_waypointX 11 = .ok (.invokevirtual 145, 3) := dk_182 0 145 (dk_at dksX1_waypointX_0 11 rfl rfl)
theorem dX1_waypointX_14 : decode cX1_waypointX 14 = .ok (.ireturn, 1) := dk_172 (dk_at dksX1_waypointX_0 14 rfl rfl)
def dkwX1_waypointY_0 : List UInt8 := [42, 180, 0, 60, 27, 182, 0, 135, 182, 0, 139, 182, 0, 148, 172]
abbrev dktX1_waypointY_0 : List UInt8 := dkwX1_waypointY_0 ++ []
theorem dksX1_waypointY_0 : cX1_waypointY.data.toList.drop 0 = dktX1_waypointY_0 := by decide +kernel
theorem dX1_waypointY_0 : decode cX1_waypointY 0 = .ok (.aload_n 0, 1) := dk_42 (dk_at dksX1_waypointY_0 0 rfl rfl)
theorem dX1_waypointY_1 : decode cX1_waypointY 1 = .ok (.getfield 60, 3) := dk_180 0 60 (dk_at dksX1_waypointY_0 1 rfl rfl)
theorem dX1_waypointY_4 : decode cX1_waypointY 4 = .ok (.iload_n 1, 1) := dk_27 (dk_at dksX1_waypointY_0 4 rfl rfl)
theorem dX1_waypointY_5 : decode cX1_waypointY 5 = .ok (.invokevirtual 135, 3) := dk_182 0 135 (dk_at dksX1_waypointY_0 5 rfl rfl)
theorem dX1_waypointY_8 : decode cX1_waypointY 8 = .ok (.invokevirtual 139, 3) := dk_182 0 139 (dk_at dksX1_waypointY_0 8 rfl rfl)
theorem dX1_waypointY_11 : decode cX1_waypointY 11 = .ok (.invokevirtual 148, 3) := dk_182 0 148 (dk_at dksX1_waypointY_0 11 rfl rfl)
theorem dX1_waypointY_14 : decode cX1_waypointY 14 = .ok (.ireturn, 1) := dk_172 (dk_at dksX1_waypointY_0 14 rfl rfl)
def dkwX1_radius_0 : List UInt8 := [42, 180, 0, 60, 27, 182, 0, 135, 182, 0, 151, 172]
abbrev dktX1_radius_0 : List UInt8 := dkwX1_radius_0 ++ []
theorem dksX1_radius_0 : cX1_radius.data.toList.drop 0 = dktX1_radius_0 := by decide +kernel
theorem dX1_radius_0 : decode cX1_radius 0 = .ok (.aload_n 0, 1) := dk_42 (dk_at dksX1_radius_0 0 rfl rfl)
theorem dX1_radius_1 : decode cX1_radius 1 = .ok (.getfield 60, 3) := dk_180 0 60 (dk_at dksX1_radius_0 1 rfl rfl)
theorem dX1_radius_4 : decode cX1_radius 4 = .ok (.iload_n 1, 1) := dk_27 (dk_at dksX1_radius_0 4 rfl rfl)
theorem dX1_radius_5 : decode cX1_radius 5 = .ok (.invokevirtual 135, 3) := dk_182 0 135 (dk_at dksX1_radius_0 5 rfl rfl)
theorem dX1_radius_8 : decode cX1_radius 8 = .ok (.invokevirtual 151, 3) := dk_182 0 151 (dk_at dksX1_radius_0 8 rfl rfl)
theorem dX1_radius_11 : decode cX1_radius 11 = .ok (.ireturn, 1) := dk_172 (dk_at dksX1_radius_0 11 rfl rfl)
def dkwX1_hasTrail_1 : List UInt8 := [167, 0, 4, 3, 172]
abbrev dktX1_hasTrail_1 : List UInt8 := dkwX1_hasTrail_1 ++ []
def dkwX1_hasTrail_0 : List UInt8 := [42, 180, 0, 60, 27, 28, 182, 0, 157, 42, 180, 0, 60, 27, 28, 182, 0, 161, 158, 0, 7, 4]
abbrev dktX1_hasTrail_0 : List UInt8 := dkwX1_hasTrail_0 ++ dktX1_hasTrail_1
theorem dksX1_hasTrail_0 : cX1_hasTrail.data.toList.drop 0 = dktX1_hasTrail_0 := by decide +kernel
theorem dksX1_hasTrail_1 : cX1_hasTrail.data.toList.drop 22 = dktX1_hasTrail_1 := dk_seg dksX1_hasTrail_0 22 rfl rfl
theorem dX1_hasTrail_0 : decode cX1_hasTrail 0 = .ok (.aload_n 0, 1) := dk_42 (dk_at dksX1_hasTrail_0 0 rfl rfl)
theorem dX1_hasTrail_1 : decode cX1_hasTrail 1 = .ok (.getfield 60, 3) := dk_180 0 60 (dk_at dksX1_hasTrail_0 1 rfl rfl)
theorem dX1_hasTrail_4 : decode cX1_hasTrail 4 = .ok (.iload_n 1, 1) := dk_27 (dk_at dksX1_hasTrail_0 4 rfl rfl)
theorem dX1_hasTrail_5 : decode cX1_hasTrail 5 = .ok (.iload_n 2, 1) := dk_28 (dk_at dksX1_hasTrail_0 5 rfl rfl)
theorem dX1_hasTrail_6 : decode cX1_hasTrail 6 = .ok (.invokevirtual 157, 3) := dk_182 0 157 (dk_at dksX1_hasTrail_0 6 rfl rfl)
theorem dX1_hasTrail_9 : decode cX1_hasTrail 9 = .ok (.aload_n 0, 1) := dk_42 (dk_at dksX1_hasTrail_0 9 rfl rfl)
theorem dX1_hasTrail_10 : decode cX1_hasTrail 10 = .ok (.getfield 60, 3) := dk_180 0 60 (dk_at dksX1_hasTrail_0 10 rfl rfl)
theorem dX1_hasTrail_13 : decode cX1_hasTrail 13 = .ok (.iload_n 1, 1) := dk_27 (dk_at dksX1_hasTrail_0 13 rfl rfl)
theorem dX1_hasTrail_14 : decode cX1_hasTrail 14 = .ok (.iload_n 2, 1) := dk_28 (dk_at dksX1_hasTrail_0 14 rfl rfl)
theorem dX1_hasTrail_15 : decode cX1_hasTrail 15 = .ok (.invokevirtual 161, 3) := dk_182 0 161 (dk_at dksX1_hasTrail_0 15 rfl rfl)
theorem dX1_hasTrail_18 : decode cX1_hasTrail 18 = .ok (.ifCond .le 7, 3) := dk_158 0 7 (dk_at dksX1_hasTrail_0 18 rfl rfl)
theorem dX1_hasTrail_21 : decode cX1_hasTrail 21 = .ok (.iconst 1, 1) := dk_4 (dk_at dksX1_hasTrail_0 21 rfl rfl)
theorem dX1_hasTrail_22 : decode cX1_hasTrail 22 = .ok (.goto 4, 3) := dk_167 0 4 (dk_at dksX1_hasTrail_1 0 rfl rfl)
theorem dX1_hasTrail_25 : decode cX1_hasTrail 25 = .ok (.iconst 0, 1) := dk_3 (dk_at dksX1_hasTrail_1 3 rfl rfl)
theorem dX1_hasTrail_26 : decode cX1_hasTrail 26 = .ok (.ireturn, 1) := dk_172 (dk_at dksX1_hasTrail_1 4 rfl rfl)
def dkwX1_trailLength_1 : List UInt8 := [167, 0, 4, 3, 184, 0, 165, 42, 180, 0, 60, 27, 28, 182, 0, 161, 172]
abbrev dktX1_trailLength_1 : List UInt8 := dkwX1_trailLength_1 ++ []
def dkwX1_trailLength_0 : List UInt8 := [42, 180, 0, 60, 27, 28, 182, 0, 157, 42, 180, 0, 60, 27, 28, 182, 0, 161, 158, 0, 7, 4]
abbrev dktX1_trailLength_0 : List UInt8 := dkwX1_trailLength_0 ++ dktX1_trailLength_1
theorem dksX1_trailLength_0 : cX1_trailLength.data.toList.drop 0 = dktX1_trailLength_0 := by decide +kernel
theorem dksX1_trailLength_1 : cX1_trailLength.data.toList.drop 22 = dktX1_trailLength_1 := dk_seg dksX1_trailLength_0 22 rfl rfl
theorem dX1_trailLength_0 : decode cX1_trailLength 0 = .ok (.aload_n 0, 1) := dk_42 (dk_at dksX1_trailLength_0 0 rfl rfl)
theorem dX1_trailLength_1 : decode cX1_trailLength 1 = .ok (.getfield 60, 3) := dk_180 0 60 (dk_at dksX1_trailLength_0 1 rfl rfl)
theorem dX1_trailLength_4 : decode cX1_trailLength 4 = .ok (.iload_n 1, 1) := dk_27 (dk_at dksX1_trailLength_0 4 rfl rfl)
theorem dX1_trailLength_5 : decode cX1_trailLength 5 = .ok (.iload_n 2, 1) := dk_28 (dk_at dksX1_trailLength_0 5 rfl rfl)
theorem dX1_trailLength_6 : decode cX1_trailLength 6 = .ok (.invokevirtual 157, 3) := dk_182 0 157 (dk_at dksX1_trailLength_0 6 rfl rfl)
theorem dX1_trailLength_9 : decode cX1_trailLength 9 = .ok (.aload_n 0, 1) := dk_42 (dk_at dksX1_trailLength_0 9 rfl rfl)
theorem dX1_trailLength_10 : decode cX1_trailLength 10 = .ok (.getfield 60, 3) := dk_180 0 60 (dk_at dksX1_trailLength_0 10 rfl rfl)
theorem dX1_trailLength_13 : decode cX1_trailLength 13 = .ok (.iload_n 1, 1) := dk_27 (dk_at dksX1_trailLength_0 13 rfl rfl)
theorem dX1_trailLength_14 : decode cX1_trailLength 14 = .ok (.iload_n 2, 1) := dk_28 (dk_at dksX1_trailLength_0 14 rfl rfl)
theorem dX1_trailLength_15 : decode cX1_trailLength 15 = .ok (.invokevirtual 161, 3) := dk_182 0 161 (dk_at dksX1_trailLength_0 15 rfl rfl)
theorem dX1_trailLength_18 : decode cX1_trailLength 18 = .ok (.ifCond .le 7, 3) := dk_158 0 7 (dk_at dksX1_trailLength_0 18 rfl rfl)
theorem dX1_trailLength_21 : decode cX1_trailLength 21 = .ok (.iconst 1, 1) := dk_4 (dk_at dksX1_trailLength_0 21 rfl rfl)
theorem dX1_trailLength_22 : decode cX1_trailLength 22 = .ok (.goto 4, 3) := dk_167 0 4 (dk_at dksX1_trailLength_1 0 rfl rfl)
theorem dX1_trailLength_25 : decode cX1_trailLength 25 = .ok (.iconst 0, 1) := dk_3 (dk_at dksX1_trailLength_1 3 rfl rfl)
theorem dX1_trailLength_26 : decode cX1_trailLength 26 = .ok (.invokestatic 165, 3) := dk_184 0 165 (dk_at dksX1_trailLength_1 4 rfl rfl)
theorem dX1_trailLength_29 : decode cX1_trailLength 29 = .ok (.aload_n 0, 1) := dk_42 (dk_at dksX1_trailLength_1 7 rfl rfl)
theorem dX1_trailLength_30 : decode cX1_trailLength 30 = .ok (.getfield 60, 3) := dk_180 0 60 (dk_at dksX1_trailLength_1 8 rfl rfl)
theorem dX1_trailLength_33 : decode cX1_trailLength 33 = .ok (.iload_n 1, 1) := dk_27 (dk_at dksX1_trailLength_1 11 rfl rfl)
theorem dX1_trailLength_34 : decode cX1_trailLength 34 = .ok (.iload_n 2, 1) := dk_28 (dk_at dksX1_trailLength_1 12 rfl rfl)
theorem dX1_trailLength_35 : decode cX1_trailLength 35 = .ok (.invokevirtual 161, 3) := dk_182 0 161 (dk_at dksX1_trailLength_1 13 rfl rfl)
theorem dX1_trailLength_38 : decode cX1_trailLength 38 = .ok (.ireturn, 1) := dk_172 (dk_at dksX1_trailLength_1 16 rfl rfl)
def dkwX1_distance_0 : List UInt8 := [42, 180, 0, 60, 27, 28, 182, 0, 157, 42, 180, 0, 60, 27, 182, 0, 169, 28, 46, 184, 0, 173, 172]
abbrev dktX1_distance_0 : List UInt8 := dkwX1_distance_0 ++ []
theorem dksX1_distance_0 : cX1_distance.data.toList.drop 0 = dktX1_distance_0 := by decide +kernel
theorem dX1_distance_0 : decode cX1_distance 0 = .ok (.aload_n 0, 1) := dk_42 (dk_at dksX1_distance_0 0 rfl rfl)
theorem dX1_distance_1 : decode cX1_distance 1 = .ok (.getfield 60, 3) := dk_180 0 60 (dk_at dksX1_distance_0 1 rfl rfl)
theorem dX1_distance_4 : decode cX1_distance 4 = .ok (.iload_n 1, 1) := dk_27 (dk_at dksX1_distance_0 4 rfl rfl)
theorem dX1_distance_5 : decode cX1_distance 5 = .ok (.iload_n 2, 1) := dk_28 (dk_at dksX1_distance_0 5 rfl rfl)
theorem dX1_distance_6 : decode cX1_distance 6 = .ok (.invokevirtual 157, 3) := dk_182 0 157 (dk_at dksX1_distance_0 6 rfl rfl)
theorem dX1_distance_9 : decode cX1_distance 9 = .ok (.aload_n 0, 1) := dk_42 (dk_at dksX1_distance_0 9 rfl rfl)
theorem dX1_distance_10 : decode cX1_distance 10 = .ok (.getfield 60, 3) := dk_180 0 60 (dk_at dksX1_distance_0 10 rfl rfl)
theorem dX1_distance_13 : decode cX1_distance 13 = .ok (.iload_n 1, 1) := dk_27 (dk_at dksX1_distance_0 13 rfl rfl)
theorem dX1_distance_14 : decode cX1_distance 14 = .ok (.invokevirtual 169, 3) := dk_182 0 169 (dk_at dksX1_distance_0 14 rfl rfl)
theorem dX1_distance_17 : decode cX1_distance 17 = .ok (.iload_n 2, 1) := dk_28 (dk_at dksX1_distance_0 17 rfl rfl)
theorem dX1_distance_18 : decode cX1_distance 18 = .ok (.iaload, 1) := dk_46 (dk_at dksX1_distance_0 18 rfl rfl)
theorem dX1_distance_19 : decode cX1_distance 19 = .ok (.invokestatic 173, 3) := dk_184 0 173 (dk_at dksX1_distance_0 19 rfl rfl)
theorem dX1_distance_22 : decode cX1_distance 22 = .ok (.ireturn, 1) := dk_172 (dk_at dksX1_distance_0 22 rfl rfl)
def dkwX1_reachable_0 : List UInt8 := [26, 18, 168, 162, 0, 7, 4, 167, 0, 4, 3, 184, 0, 165, 26, 172]
abbrev dktX1_reachable_0 : List UInt8 := dkwX1_reachable_0 ++ []
theorem dksX1_reachable_0 : cX1_reachable.data.toList.drop 0 = dktX1_reachable_0 := by decide +kernel
theorem dX1_reachable_0 : decode cX1_reachable 0 = .ok (.iload_n 0, 1) := dk_26 (dk_at dksX1_reachable_0 0 rfl rfl)
theorem dX1_reachable_1 : decode cX1_reachable 1 = .ok (.ldc 168, 2) := dk_18 168 (dk_at dksX1_reachable_0 1 rfl rfl)
theorem dX1_reachable_3 : decode cX1_reachable 3 = .ok (.if_icmp .ge 7, 3) := dk_162 0 7 (dk_at dksX1_reachable_0 3 rfl rfl)
theorem dX1_reachable_6 : decode cX1_reachable 6 = .ok (.iconst 1, 1) := dk_4 (dk_at dksX1_reachable_0 6 rfl rfl)
theorem dX1_reachable_7 : decode cX1_reachable 7 = .ok (.goto 4, 3) := dk_167 0 4 (dk_at dksX1_reachable_0 7 rfl rfl)
theorem dX1_reachable_10 : decode cX1_reachable 10 = .ok (.iconst 0, 1) := dk_3 (dk_at dksX1_reachable_0 10 rfl rfl)
theorem dX1_reachable_11 : decode cX1_reachable 11 = .ok (.invokestatic 165, 3) := dk_184 0 165 (dk_at dksX1_reachable_0 11 rfl rfl)
theorem dX1_reachable_14 : decode cX1_reachable 14 = .ok (.iload_n 0, 1) := dk_26 (dk_at dksX1_reachable_0 14 rfl rfl)
theorem dX1_reachable_15 : decode cX1_reachable 15 = .ok (.ireturn, 1) := dk_172 (dk_at dksX1_reachable_0 15 rfl rfl)
def dkwX1_distanceByRelaxation_0 : List UInt8 := [42, 180, 0, 60, 27, 28, 182, 0, 157, 42, 180, 0, 60, 27, 182, 0, 177, 28, 46, 184, 0, 173, 172]
abbrev dktX1_distanceByRelaxation_0 : List UInt8 := dkwX1_distanceByRelaxation_0 ++ []
theorem dksX1_distanceByRelaxation_0 : cX1_distanceByRelaxation.data.toList.drop 0 = dktX1_distanceByRelaxation_0 := by decide +kernel
theorem dX1_distanceByRelaxation_0 : decode cX1_distanceByRelaxation 0 = .ok (.aload_n 0, 1) := dk_42 (dk_at dksX1_distanceByRelaxation_0 0 rfl rfl)
theorem dX1_distanceByRelaxation_1 : decode cX1_distanceByRelaxation 1 = .ok (.getfield 60, 3) := dk_180 0 60 (dk_at dksX1_distanceByRelaxation_0 1 rfl rfl)
theorem dX1_distanceByRelaxation_4 : decode cX1_distanceByRelaxation 4 = .ok (.iload_n 1, 1) := dk_27 (dk_at dksX1_distanceByRelaxation_0 4 rfl rfl)
theorem dX1_distanceByRelaxation_5 : decode cX1_distanceByRelaxation 5 = .ok (.iload_n 2, 1) := dk_28 (dk_at dksX1_distanceByRelaxation_0 5 rfl rfl)
theorem dX1_distanceByRelaxation_6 : decode cX1_distanceByRelaxation 6 = .ok (.invokevirtual 157, 3) := dk_182 0 157 (dk_at dksX1_distanceByRelaxation_0 6 rfl rfl)
theorem dX1_distanceByRelaxation_9 : decode cX1_distanceByRelaxation 9 = .ok (.aload_n 0, 1) := dk_42 (dk_at dksX1_distanceByRelaxation_0 9 rfl rfl)
theorem dX1_distanceByRelaxation_10 : decode cX1_distanceByRelaxation 10 = .ok (.getfield 60, 3) := dk_180 0 60 (dk_at dksX1_distanceByRelaxation_0 10 rfl rfl)
theorem dX1_distanceByRelaxation_13 : decode cX1_distanceByRelaxation 13 = .ok (.iload_n 1, 1) := dk_27 (dk_at dksX1_distanceByRelaxation_0 13 rfl rfl)
theorem dX1_distanceByRelaxation_14 : decode cX1_distanceByRelaxation 14 = .ok (.invokevirtual 177, 3) := dk_182 0 177 (dk_at dksX1_distanceByRelaxation_0 14 rfl rfl)
theorem dX1_distanceByRelaxation_17 : decode cX1_distanceByRelaxation 17 = .ok (.iload_n 2, 1) := dk_28 (dk_at dksX1_distanceByRelaxation_0 17 rfl rfl)
theorem dX1_distanceByRelaxation_18 : decode cX1_distanceByRelaxation 18 = .ok (.iaload, 1) := dk_46 (dk_at dksX1_distanceByRelaxation_0 18 rfl rfl)
theorem dX1_distanceByRelaxation_19 : decode cX1_distanceByRelaxation 19 = .ok (.invokestatic 173, 3) := dk_184 0 173 (dk_at dksX1_distanceByRelaxation_0 19 rfl rfl)
theorem dX1_distanceByRelaxation_22 : decode cX1_distanceByRelaxation 22 = .ok (.ireturn, 1) := dk_172 (dk_at dksX1_distanceByRelaxation_0 22 rfl rfl)
def dkwX1_nearest_4 : List UInt8 := [153, 0, 8, 21, 5, 167, 0, 5, 21, 4, 54, 4, 132, 5, 1, 167, 255, 190, 21, 4, 172]
abbrev dktX1_nearest_4 : List UInt8 := dkwX1_nearest_4 ++ []
def dkwX1_nearest_3 : List UInt8 := [21, 4, 182, 0, 191, 45, 182, 0, 48, 148, 156, 0, 7, 4, 167, 0, 4, 3, 54, 6, 21, 6]
abbrev dktX1_nearest_3 : List UInt8 := dkwX1_nearest_3 ++ dktX1_nearest_4
def dkwX1_nearest_2 : List UInt8 := [182, 0, 134, 162, 0, 60, 42, 180, 0, 60, 21, 5, 182, 0, 191, 45, 182, 0, 48, 42, 180, 0, 60]
abbrev dktX1_nearest_2 : List UInt8 := dkwX1_nearest_2 ++ dktX1_nearest_3
def dkwX1_nearest_1 : List UInt8 := [187, 0, 30, 89, 27, 28, 183, 0, 189, 78, 3, 54, 4, 4, 54, 5, 21, 5, 42, 180, 0, 60]
abbrev dktX1_nearest_1 : List UInt8 := dkwX1_nearest_1 ++ dktX1_nearest_2
def dkwX1_nearest_0 : List UInt8 := [27, 28, 184, 0, 186, 42, 180, 0, 60, 182, 0, 134, 158, 0, 7, 4, 167, 0, 4, 3, 184, 0, 165]
abbrev dktX1_nearest_0 : List UInt8 := dkwX1_nearest_0 ++ dktX1_nearest_1
theorem dksX1_nearest_0 : cX1_nearest.data.toList.drop 0 = dktX1_nearest_0 := by decide +kernel
theorem dksX1_nearest_1 : cX1_nearest.data.toList.drop 23 = dktX1_nearest_1 := dk_seg dksX1_nearest_0 23 rfl rfl
theorem dksX1_nearest_2 : cX1_nearest.data.toList.drop 45 = dktX1_nearest_2 := dk_seg dksX1_nearest_1 22 rfl rfl
theorem dksX1_nearest_3 : cX1_nearest.data.toList.drop 68 = dktX1_nearest_3 := dk_seg dksX1_nearest_2 23 rfl rfl
theorem dksX1_nearest_4 : cX1_nearest.data.toList.drop 90 = dktX1_nearest_4 := dk_seg dksX1_nearest_3 22 rfl rfl
theorem dX1_nearest_0 : decode cX1_nearest 0 = .ok (.iload_n 1, 1) := dk_27 (dk_at dksX1_nearest_0 0 rfl rfl)
theorem dX1_nearest_1 : decode cX1_nearest 1 = .ok (.iload_n 2, 1) := dk_28 (dk_at dksX1_nearest_0 1 rfl rfl)
theorem dX1_nearest_2 : decode cX1_nearest 2 = .ok (.invokestatic 186, 3) := dk_184 0 186 (dk_at dksX1_nearest_0 2 rfl rfl)
theorem dX1_nearest_5 : decode cX1_nearest 5 = .ok (.aload_n 0, 1) := dk_42 (dk_at dksX1_nearest_0 5 rfl rfl)
theorem dX1_nearest_6 : decode cX1_nearest 6 = .ok (.getfield 60, 3) := dk_180 0 60 (dk_at dksX1_nearest_0 6 rfl rfl)
theorem dX1_nearest_9 : decode cX1_nearest 9 = .ok (.invokevirtual 134, 3) := dk_182 0 134 (dk_at dksX1_nearest_0 9 rfl rfl)
theorem dX1_nearest_12 : decode cX1_nearest 12 = .ok (.ifCond .le 7, 3) := dk_158 0 7 (dk_at dksX1_nearest_0 12 rfl rfl)
theorem dX1_nearest_15 : decode cX1_nearest 15 = .ok (.iconst 1, 1) := dk_4 (dk_at dksX1_nearest_0 15 rfl rfl)
theorem dX1_nearest_16 : decode cX1_nearest 16 = .ok (.goto 4, 3) := dk_167 0 4 (dk_at dksX1_nearest_0 16 rfl rfl)
theorem dX1_nearest_19 : decode cX1_nearest 19 = .ok (.iconst 0, 1) := dk_3 (dk_at dksX1_nearest_0 19 rfl rfl)
theorem dX1_nearest_20 : decode cX1_nearest 20 = .ok (.invokestatic 165, 3) := dk_184 0 165 (dk_at dksX1_nearest_0 20 rfl rfl)
theorem dX1_nearest_23 : decode cX1_nearest 23 = .ok (.new 30, 3) := dk_187 0 30 (dk_at dksX1_nearest_1 0 rfl rfl)
theorem dX1_nearest_26 : decode cX1_nearest 26 = .ok (.dup, 1) := dk_89 (dk_at dksX1_nearest_1 3 rfl rfl)
theorem dX1_nearest_27 : decode cX1_nearest 27 = .ok (.iload_n 1, 1) := dk_27 (dk_at dksX1_nearest_1 4 rfl rfl)
theorem dX1_nearest_28 : decode cX1_nearest 28 = .ok (.iload_n 2, 1) := dk_28 (dk_at dksX1_nearest_1 5 rfl rfl)
theorem dX1_nearest_29 : decode cX1_nearest 29 = .ok (.invokespecial 189, 3) := dk_183 0 189 (dk_at dksX1_nearest_1 6 rfl rfl)
theorem dX1_nearest_32 : decode cX1_nearest 32 = .ok (.astore_n 3, 1) := dk_78 (dk_at dksX1_nearest_1 9 rfl rfl)
theorem dX1_nearest_33 : decode cX1_nearest 33 = .ok (.iconst 0, 1) := dk_3 (dk_at dksX1_nearest_1 10 rfl rfl)
theorem dX1_nearest_34 : decode cX1_nearest 34 = .ok (.istore 4, 2) := dk_54 4 (dk_at dksX1_nearest_1 11 rfl rfl)
theorem dX1_nearest_36 : decode cX1_nearest 36 = .ok (.iconst 1, 1) := dk_4 (dk_at dksX1_nearest_1 13 rfl rfl)
theorem dX1_nearest_37 : decode cX1_nearest 37 = .ok (.istore 5, 2) := dk_54 5 (dk_at dksX1_nearest_1 14 rfl rfl)
theorem dX1_nearest_39 : decode cX1_nearest 39 = .ok (.iload 5, 2) := dk_21 5 (dk_at dksX1_nearest_1 16 rfl rfl)
theorem dX1_nearest_41 : decode cX1_nearest 41 = .ok (.aload_n 0, 1) := dk_42 (dk_at dksX1_nearest_1 18 rfl rfl)
theorem dX1_nearest_42 : decode cX1_nearest 42 = .ok (.getfield 60, 3) := dk_180 0 60 (dk_at dksX1_nearest_1 19 rfl rfl)
theorem dX1_nearest_45 : decode cX1_nearest 45 = .ok (.invokevirtual 134, 3) := dk_182 0 134 (dk_at dksX1_nearest_2 0 rfl rfl)
theorem dX1_nearest_48 : decode cX1_nearest 48 = .ok (.if_icmp .ge 60, 3) := dk_162 0 60 (dk_at dksX1_nearest_2 3 rfl rfl)
theorem dX1_nearest_51 : decode cX1_nearest 51 = .ok (.aload_n 0, 1) := dk_42 (dk_at dksX1_nearest_2 6 rfl rfl)
theorem dX1_nearest_52 : decode cX1_nearest 52 = .ok (.getfield 60, 3) := dk_180 0 60 (dk_at dksX1_nearest_2 7 rfl rfl)
theorem dX1_nearest_55 : decode cX1_nearest 55 = .ok (.iload 5, 2) := dk_21 5 (dk_at dksX1_nearest_2 10 rfl rfl)
theorem dX1_nearest_57 : decode cX1_nearest 57 = .ok (.invokevirtual 191, 3) := dk_182 0 191 (dk_at dksX1_nearest_2 12 rfl rfl)
theorem dX1_nearest_60 : decode cX1_nearest 60 = .ok (.aload_n 3, 1) := dk_45 (dk_at dksX1_nearest_2 15 rfl rfl)
theorem dX1_nearest_61 : decode cX1_nearest 61 = .ok (.invokevirtual 48, 3) := dk_182 0 48 (dk_at dksX1_nearest_2 16 rfl rfl)
theorem dX1_nearest_64 : decode cX1_nearest 64 = .ok (.aload_n 0, 1) := dk_42 (dk_at dksX1_nearest_2 19 rfl rfl)
theorem dX1_nearest_65 : decode cX1_nearest 65 = .ok (.getfield 60, 3) := dk_180 0 60 (dk_at dksX1_nearest_2 20 rfl rfl)
theorem dX1_nearest_68 : decode cX1_nearest 68 = .ok (.iload 4, 2) := dk_21 4 (dk_at dksX1_nearest_3 0 rfl rfl)
theorem dX1_nearest_70 : decode cX1_nearest 70 = .ok (.invokevirtual 191, 3) := dk_182 0 191 (dk_at dksX1_nearest_3 2 rfl rfl)
theorem dX1_nearest_73 : decode cX1_nearest 73 = .ok (.aload_n 3, 1) := dk_45 (dk_at dksX1_nearest_3 5 rfl rfl)
theorem dX1_nearest_74 : decode cX1_nearest 74 = .ok (.invokevirtual 48, 3) := dk_182 0 48 (dk_at dksX1_nearest_3 6 rfl rfl)
theorem dX1_nearest_77 : decode cX1_nearest 77 = .ok (.lcmp, 1) := dk_148 (dk_at dksX1_nearest_3 9 rfl rfl)
theorem dX1_nearest_78 : decode cX1_nearest 78 = .ok (.ifCond .ge 7, 3) := dk_156 0 7 (dk_at dksX1_nearest_3 10 rfl rfl)
theorem dX1_nearest_81 : decode cX1_nearest 81 = .ok (.iconst 1, 1) := dk_4 (dk_at dksX1_nearest_3 13 rfl rfl)
theorem dX1_nearest_82 : decode cX1_nearest 82 = .ok (.goto 4, 3) := dk_167 0 4 (dk_at dksX1_nearest_3 14 rfl rfl)
theorem dX1_nearest_85 : decode cX1_nearest 85 = .ok (.iconst 0, 1) := dk_3 (dk_at dksX1_nearest_3 17 rfl rfl)
theorem dX1_nearest_86 : decode cX1_nearest 86 = .ok (.istore 6, 2) := dk_54 6 (dk_at dksX1_nearest_3 18 rfl rfl)
theorem dX1_nearest_88 : decode cX1_nearest 88 = .ok (.iload 6, 2) := dk_21 6 (dk_at dksX1_nearest_3 20 rfl rfl)
theorem dX1_nearest_90 : decode cX1_nearest 90 = .ok (.ifCond .eq 8, 3) := dk_153 0 8 (dk_at dksX1_nearest_4 0 rfl rfl)
theorem dX1_nearest_93 : decode cX1_nearest 93 = .ok (.iload 5, 2) := dk_21 5 (dk_at dksX1_nearest_4 3 rfl rfl)
theorem dX1_nearest_95 : decode cX1_nearest 95 = .ok (.goto 5, 3) := dk_167 0 5 (dk_at dksX1_nearest_4 5 rfl rfl)
theorem dX1_nearest_98 : decode cX1_nearest 98 = .ok (.iload 4, 2) := dk_21 4 (dk_at dksX1_nearest_4 8 rfl rfl)
theorem dX1_nearest_100 : decode cX1_nearest 100 = .ok (.istore 4, 2) := dk_54 4 (dk_at dksX1_nearest_4 10 rfl rfl)
theorem dX1_nearest_102 : decode cX1_nearest 102 = .ok (.iinc 5 1, 3) := dk_132 5 1 (dk_at dksX1_nearest_4 12 rfl rfl)
theorem dX1_nearest_105 : decode cX1_nearest 105 = .ok (.goto (-66), 3) := dk_167 255 190 (dk_at dksX1_nearest_4 15 rfl rfl)
theorem dX1_nearest_108 : decode cX1_nearest 108 = .ok (.iload 4, 2) := dk_21 4 (dk_at dksX1_nearest_4 18 rfl rfl)
theorem dX1_nearest_110 : decode cX1_nearest 110 = .ok (.ireturn, 1) := dk_172 (dk_at dksX1_nearest_4 20 rfl rfl)
def dkwX1_routeLength_0 : List UInt8 := [42, 182, 0, 202, 182, 0, 205, 190, 172]
abbrev dktX1_routeLength_0 : List UInt8 := dkwX1_routeLength_0 ++ []
theorem dksX1_routeLength_0 : cX1_routeLength.data.toList.drop 0 = dktX1_routeLength_0 := by decide +kernel
theorem dX1_routeLength_0 : decode cX1_routeLength 0 = .ok (.aload_n 0, 1) := dk_42 (dk_at dksX1_routeLength_0 0 rfl rfl)
theorem dX1_routeLength_1 : decode cX1_routeLength 1 = .ok (.invokevirtual 202, 3) := dk_182 0 202 (dk_at dksX1_routeLength_0 1 rfl rfl)
theorem dX1_routeLength_4 : decode cX1_routeLength 4 = .ok (.invokevirtual 205, 3) := dk_182 0 205 (dk_at dksX1_routeLength_0 4 rfl rfl)
theorem dX1_routeLength_7 : decode cX1_routeLength 7 = .ok (.arraylength, 1) := dk_190 (dk_at dksX1_routeLength_0 7 rfl rfl)
theorem dX1_routeLength_8 : decode cX1_routeLength 8 = .ok (.ireturn, 1) := dk_172 (dk_at dksX1_routeLength_0 8 rfl rfl)
def dkwX1_tour_0 : List UInt8 := [42, 180, 0, 60, 182, 0, 199, 42, 180, 0, 60, 180, 0, 195, 176]
abbrev dktX1_tour_0 : List UInt8 := dkwX1_tour_0 ++ []
theorem dksX1_tour_0 : cX1_tour.data.toList.drop 0 = dktX1_tour_0 := by decide +kernel
theorem dX1_tour_0 : decode cX1_tour 0 = .ok (.aload_n 0, 1) := dk_42 (dk_at dksX1_tour_0 0 rfl rfl)
theorem dX1_tour_1 : decode cX1_tour 1 = .ok (.getfield 60, 3) := dk_180 0 60 (dk_at dksX1_tour_0 1 rfl rfl)
theorem dX1_tour_4 : decode cX1_tour 4 = .ok (.invokevirtual 199, 3) := dk_182 0 199 (dk_at dksX1_tour_0 4 rfl rfl)
theorem dX1_tour_7 : decode cX1_tour 7 = .ok (.aload_n 0, 1) := dk_42 (dk_at dksX1_tour_0 7 rfl rfl)
theorem dX1_tour_8 : decode cX1_tour 8 = .ok (.getfield 60, 3) := dk_180 0 60 (dk_at dksX1_tour_0 8 rfl rfl)
theorem dX1_tour_11 : decode cX1_tour 11 = .ok (.getfield 195, 3) := dk_180 0 195 (dk_at dksX1_tour_0 11 rfl rfl)
theorem dX1_tour_14 : decode cX1_tour 14 = .ok (.areturn, 1) := dk_176 (dk_at dksX1_tour_0 14 rfl rfl)
def dkwX1_routeWaypoint_1 : List UInt8 := [172]
abbrev dktX1_routeWaypoint_1 : List UInt8 := dkwX1_routeWaypoint_1 ++ []
def dkwX1_routeWaypoint_0 : List UInt8 := [27, 42, 182, 0, 202, 182, 0, 205, 190, 184, 0, 211, 42, 180, 0, 60, 180, 0, 195, 182, 0, 205, 27, 46]
abbrev dktX1_routeWaypoint_0 : List UInt8 := dkwX1_routeWaypoint_0 ++ dktX1_routeWaypoint_1
theorem dksX1_routeWaypoint_0 : cX1_routeWaypoint.data.toList.drop 0 = dktX1_routeWaypoint_0 := by decide +kernel
theorem dksX1_routeWaypoint_1 : cX1_routeWaypoint.data.toList.drop 24 = dktX1_routeWaypoint_1 := dk_seg dksX1_routeWaypoint_0 24 rfl rfl
theorem dX1_routeWaypoint_0 : decode cX1_routeWaypoint 0 = .ok (.iload_n 1, 1) := dk_27 (dk_at dksX1_routeWaypoint_0 0 rfl rfl)
theorem dX1_routeWaypoint_1 : decode cX1_routeWaypoint 1 = .ok (.aload_n 0, 1) := dk_42 (dk_at dksX1_routeWaypoint_0 1 rfl rfl)
theorem dX1_routeWaypoint_2 : decode cX1_routeWaypoint 2 = .ok (.invokevirtual 202, 3) := dk_182 0 202 (dk_at dksX1_routeWaypoint_0 2 rfl rfl)
theorem dX1_routeWaypoint_5 : decode cX1_routeWaypoint 5 = .ok (.invokevirtual 205, 3) := dk_182 0 205 (dk_at dksX1_routeWaypoint_0 5 rfl rfl)
theorem dX1_routeWaypoint_8 : decode cX1_routeWaypoint 8 = .ok (.arraylength, 1) := dk_190 (dk_at dksX1_routeWaypoint_0 8 rfl rfl)
theorem dX1_routeWaypoint_9 : decode cX1_routeWaypoint 9 = .ok (.invokestatic 211, 3) := dk_184 0 211 (dk_at dksX1_routeWaypoint_0 9 rfl rfl)
theorem dX1_routeWaypoint_12 : decode cX1_routeWaypoint 12 = .ok (.aload_n 0, 1) := dk_42 (dk_at dksX1_routeWaypoint_0 12 rfl rfl)
theorem dX1_routeWaypoint_13 : decode cX1_routeWaypoint 13 = .ok (.getfield 60, 3) := dk_180 0 60 (dk_at dksX1_routeWaypoint_0 13 rfl rfl)
theorem dX1_routeWaypoint_16 : decode cX1_routeWaypoint 16 = .ok (.getfield 195, 3) := dk_180 0 195 (dk_at dksX1_routeWaypoint_0 16 rfl rfl)
theorem dX1_routeWaypoint_19 : decode cX1_routeWaypoint 19 = .ok (.invokevirtual 205, 3) := dk_182 0 205 (dk_at dksX1_routeWaypoint_0 19 rfl rfl)
theorem dX1_routeWaypoint_22 : decode cX1_routeWaypoint 22 = .ok (.iload_n 1, 1) := dk_27 (dk_at dksX1_routeWaypoint_0 22 rfl rfl)
theorem dX1_routeWaypoint_23 : decode cX1_routeWaypoint 23 = .ok (.iaload, 1) := dk_46 (dk_at dksX1_routeWaypoint_0 23 rfl rfl)
theorem dX1_routeWaypoint_24 : decode cX1_routeWaypoint 24 = .ok (.ireturn, 1) := dk_172 (dk_at dksX1_routeWaypoint_1 0 rfl rfl)
def dkwX1_turn_1 : List UInt8 := [180, 0, 60, 27, 182, 0, 218, 182, 0, 222, 172]
abbrev dktX1_turn_1 : List UInt8 := dkwX1_turn_1 ++ []
def dkwX1_turn_0 : List UInt8 := [27, 42, 182, 0, 202, 182, 0, 205, 190, 184, 0, 211, 42, 180, 0, 60, 27, 182, 0, 214, 184, 0, 165, 42]
abbrev dktX1_turn_0 : List UInt8 := dkwX1_turn_0 ++ dktX1_turn_1
theorem dksX1_turn_0 : cX1_turn.data.toList.drop 0 = dktX1_turn_0 := by decide +kernel
theorem dksX1_turn_1 : cX1_turn.data.toList.drop 24 = dktX1_turn_1 := dk_seg dksX1_turn_0 24 rfl rfl
theorem dX1_turn_0 : decode cX1_turn 0 = .ok (.iload_n 1, 1) := dk_27 (dk_at dksX1_turn_0 0 rfl rfl)
theorem dX1_turn_1 : decode cX1_turn 1 = .ok (.aload_n 0, 1) := dk_42 (dk_at dksX1_turn_0 1 rfl rfl)
theorem dX1_turn_2 : decode cX1_turn 2 = .ok (.invokevirtual 202, 3) := dk_182 0 202 (dk_at dksX1_turn_0 2 rfl rfl)
theorem dX1_turn_5 : decode cX1_turn 5 = .ok (.invokevirtual 205, 3) := dk_182 0 205 (dk_at dksX1_turn_0 5 rfl rfl)
theorem dX1_turn_8 : decode cX1_turn 8 = .ok (.arraylength, 1) := dk_190 (dk_at dksX1_turn_0 8 rfl rfl)
theorem dX1_turn_9 : decode cX1_turn 9 = .ok (.invokestatic 211, 3) := dk_184 0 211 (dk_at dksX1_turn_0 9 rfl rfl)
theorem dX1_turn_12 : decode cX1_turn 12 = .ok (.aload_n 0, 1) := dk_42 (dk_at dksX1_turn_0 12 rfl rfl)
theorem dX1_turn_13 : decode cX1_turn 13 = .ok (.getfield 60, 3) := dk_180 0 60 (dk_at dksX1_turn_0 13 rfl rfl)
theorem dX1_turn_16 : decode cX1_turn 16 = .ok (.iload_n 1, 1) := dk_27 (dk_at dksX1_turn_0 16 rfl rfl)
theorem dX1_turn_17 : decode cX1_turn 17 = .ok (.invokevirtual 214, 3) := dk_182 0 214 (dk_at dksX1_turn_0 17 rfl rfl)
theorem dX1_turn_20 : decode cX1_turn 20 = .ok (.invokestatic 165, 3) := dk_184 0 165 (dk_at dksX1_turn_0 20 rfl rfl)
theorem dX1_turn_23 : decode cX1_turn 23 = .ok (.aload_n 0, 1) := dk_42 (dk_at dksX1_turn_0 23 rfl rfl)
theorem dX1_turn_24 : decode cX1_turn 24 = .ok (.getfield 60, 3) := dk_180 0 60 (dk_at dksX1_turn_1 0 rfl rfl)
theorem dX1_turn_27 : decode cX1_turn 27 = .ok (.iload_n 1, 1) := dk_27 (dk_at dksX1_turn_1 3 rfl rfl)
theorem dX1_turn_28 : decode cX1_turn 28 = .ok (.invokevirtual 218, 3) := dk_182 0 218 (dk_at dksX1_turn_1 4 rfl rfl)
theorem dX1_turn_31 : decode cX1_turn 31 = .ok (.invokevirtual 222, 3) := dk_182 0 222 (dk_at dksX1_turn_1 7 rfl rfl)
theorem dX1_turn_34 : decode cX1_turn 34 = .ok (.ireturn, 1) := dk_172 (dk_at dksX1_turn_1 10 rfl rfl)
def dkwX1_target_0 : List UInt8 := [42, 182, 0, 202, 182, 0, 228, 172]
abbrev dktX1_target_0 : List UInt8 := dkwX1_target_0 ++ []
theorem dksX1_target_0 : cX1_target.data.toList.drop 0 = dktX1_target_0 := by decide +kernel
theorem dX1_target_0 : decode cX1_target 0 = .ok (.aload_n 0, 1) := dk_42 (dk_at dksX1_target_0 0 rfl rfl)
theorem dX1_target_1 : decode cX1_target 1 = .ok (.invokevirtual 202, 3) := dk_182 0 202 (dk_at dksX1_target_0 1 rfl rfl)
theorem dX1_target_4 : decode cX1_target 4 = .ok (.invokevirtual 228, 3) := dk_182 0 228 (dk_at dksX1_target_0 4 rfl rfl)
theorem dX1_target_7 : decode cX1_target 7 = .ok (.ireturn, 1) := dk_172 (dk_at dksX1_target_0 7 rfl rfl)
def dkwX1_hikerX_0 : List UInt8 := [42, 182, 0, 202, 182, 0, 231, 182, 0, 145, 172]
abbrev dktX1_hikerX_0 : List UInt8 := dkwX1_hikerX_0 ++ []
theorem dksX1_hikerX_0 : cX1_hikerX.data.toList.drop 0 = dktX1_hikerX_0 := by decide +kernel
theorem dX1_hikerX_0 : decode cX1_hikerX 0 = .ok (.aload_n 0, 1) := dk_42 (dk_at dksX1_hikerX_0 0 rfl rfl)
theorem dX1_hikerX_1 : decode cX1_hikerX 1 = .ok (.invokevirtual 202, 3) := dk_182 0 202 (dk_at dksX1_hikerX_0 1 rfl rfl)
theorem dX1_hikerX_4 : decode cX1_hikerX 4 = .ok (.invokevirtual 231, 3) := dk_182 0 231 (dk_at dksX1_hikerX_0 4 rfl rfl)
theorem dX1_hikerX_7 : decode cX1_hikerX 7 = .ok (.invokevirtual 145, 3) := dk_182 0 145 (dk_at dksX1_hikerX_0 7 rfl rfl)
theorem dX1_hikerX_10 : decode cX1_hikerX 10 = .ok (.ireturn, 1) := dk_172 (dk_at dksX1_hikerX_0 10 rfl rfl)
def dkwX1_hikerY_0 : List UInt8 := [42, 182, 0, 202, 182, 0, 231, 182, 0, 148, 172]
abbrev dktX1_hikerY_0 : List UInt8 := dkwX1_hikerY_0 ++ []
theorem dksX1_hikerY_0 : cX1_hikerY.data.toList.drop 0 = dktX1_hikerY_0 := by decide +kernel
theorem dX1_hikerY_0 : decode cX1_hikerY 0 = .ok (.aload_n 0, 1) := dk_42 (dk_at dksX1_hikerY_0 0 rfl rfl)
theorem dX1_hikerY_1 : decode cX1_hikerY 1 = .ok (.invokevirtual 202, 3) := dk_182 0 202 (dk_at dksX1_hikerY_0 1 rfl rfl)
theorem dX1_hikerY_4 : decode cX1_hikerY 4 = .ok (.invokevirtual 231, 3) := dk_182 0 231 (dk_at dksX1_hikerY_0 4 rfl rfl)
theorem dX1_hikerY_7 : decode cX1_hikerY 7 = .ok (.invokevirtual 148, 3) := dk_182 0 148 (dk_at dksX1_hikerY_0 7 rfl rfl)
theorem dX1_hikerY_10 : decode cX1_hikerY 10 = .ok (.ireturn, 1) := dk_172 (dk_at dksX1_hikerY_0 10 rfl rfl)
def dkwX1_drift_0 : List UInt8 := [42, 180, 0, 60, 42, 182, 0, 202, 182, 0, 231, 182, 0, 234, 182, 0, 238, 172]
abbrev dktX1_drift_0 : List UInt8 := dkwX1_drift_0 ++ []
theorem dksX1_drift_0 : cX1_drift.data.toList.drop 0 = dktX1_drift_0 := by decide +kernel
theorem dX1_drift_0 : decode cX1_drift 0 = .ok (.aload_n 0, 1) := dk_42 (dk_at dksX1_drift_0 0 rfl rfl)
theorem dX1_drift_1 : decode cX1_drift 1 = .ok (.getfield 60, 3) := dk_180 0 60 (dk_at dksX1_drift_0 1 rfl rfl)
theorem dX1_drift_4 : decode cX1_drift 4 = .ok (.aload_n 0, 1) := dk_42 (dk_at dksX1_drift_0 4 rfl rfl)
theorem dX1_drift_5 : decode cX1_drift 5 = .ok (.invokevirtual 202, 3) := dk_182 0 202 (dk_at dksX1_drift_0 5 rfl rfl)
theorem dX1_drift_8 : decode cX1_drift 8 = .ok (.invokevirtual 231, 3) := dk_182 0 231 (dk_at dksX1_drift_0 8 rfl rfl)
theorem dX1_drift_11 : decode cX1_drift 11 = .ok (.invokevirtual 234, 3) := dk_182 0 234 (dk_at dksX1_drift_0 11 rfl rfl)
theorem dX1_drift_14 : decode cX1_drift 14 = .ok (.invokevirtual 238, 3) := dk_182 0 238 (dk_at dksX1_drift_0 14 rfl rfl)
theorem dX1_drift_17 : decode cX1_drift 17 = .ok (.ireturn, 1) := dk_172 (dk_at dksX1_drift_0 17 rfl rfl)
def dkwX1_forecast_1 : List UInt8 := [183, 0, 189, 182, 0, 245, 185, 0, 249, 1, 0, 172]
abbrev dktX1_forecast_1 : List UInt8 := dkwX1_forecast_1 ++ []
def dkwX1_forecast_0 : List UInt8 := [27, 28, 184, 0, 186, 42, 180, 0, 60, 182, 0, 199, 42, 180, 0, 60, 187, 0, 30, 89, 27, 28]
abbrev dktX1_forecast_0 : List UInt8 := dkwX1_forecast_0 ++ dktX1_forecast_1
theorem dksX1_forecast_0 : cX1_forecast.data.toList.drop 0 = dktX1_forecast_0 := by decide +kernel
theorem dksX1_forecast_1 : cX1_forecast.data.toList.drop 22 = dktX1_forecast_1 := dk_seg dksX1_forecast_0 22 rfl rfl
theorem dX1_forecast_0 : decode cX1_forecast 0 = .ok (.iload_n 1, 1) := dk_27 (dk_at dksX1_forecast_0 0 rfl rfl)
theorem dX1_forecast_1 : decode cX1_forecast 1 = .ok (.iload_n 2, 1) := dk_28 (dk_at dksX1_forecast_0 1 rfl rfl)
theorem dX1_forecast_2 : decode cX1_forecast 2 = .ok (.invokestatic 186, 3) := dk_184 0 186 (dk_at dksX1_forecast_0 2 rfl rfl)
theorem dX1_forecast_5 : decode cX1_forecast 5 = .ok (.aload_n 0, 1) := dk_42 (dk_at dksX1_forecast_0 5 rfl rfl)
theorem dX1_forecast_6 : decode cX1_forecast 6 = .ok (.getfield 60, 3) := dk_180 0 60 (dk_at dksX1_forecast_0 6 rfl rfl)
theorem dX1_forecast_9 : decode cX1_forecast 9 = .ok (.invokevirtual 199, 3) := dk_182 0 199 (dk_at dksX1_forecast_0 9 rfl rfl)
theorem dX1_forecast_12 : decode cX1_forecast 12 = .ok (.aload_n 0, 1) := dk_42 (dk_at dksX1_forecast_0 12 rfl rfl)
theorem dX1_forecast_13 : decode cX1_forecast 13 = .ok (.getfield 60, 3) := dk_180 0 60 (dk_at dksX1_forecast_0 13 rfl rfl)
theorem dX1_forecast_16 : decode cX1_forecast 16 = .ok (.new 30, 3) := dk_187 0 30 (dk_at dksX1_forecast_0 16 rfl rfl)
theorem dX1_forecast_19 : decode cX1_forecast 19 = .ok (.dup, 1) := dk_89 (dk_at dksX1_forecast_0 19 rfl rfl)
theorem dX1_forecast_20 : decode cX1_forecast 20 = .ok (.iload_n 1, 1) := dk_27 (dk_at dksX1_forecast_0 20 rfl rfl)
theorem dX1_forecast_21 : decode cX1_forecast 21 = .ok (.iload_n 2, 1) := dk_28 (dk_at dksX1_forecast_0 21 rfl rfl)
theorem dX1_forecast_22 : decode cX1_forecast 22 = .ok (.invokespecial 189, 3) := dk_183 0 189 (dk_at dksX1_forecast_1 0 rfl rfl)
theorem dX1_forecast_25 : decode cX1_forecast 25 = .ok (.invokevirtual 245, 3) := dk_182 0 245 (dk_at dksX1_forecast_1 3 rfl rfl)
theorem dX1_forecast_28 : decode cX1_forecast 28 = .ok (.invokeinterface 249 1, 5) := by decide +kernel
theorem dX1_forecast_33 : decode cX1_forecast 33 = .ok (.ireturn, 1) := dk_172 (dk_at dksX1_forecast_1 11 rfl rfl)
def dkwX1_alarmRate_1 : List UInt8 := [180, 1, 17, 134, 42, 180, 0, 60, 180, 1, 14, 134, 110, 174]
abbrev dktX1_alarmRate_1 : List UInt8 := dkwX1_alarmRate_1 ++ []
def dkwX1_alarmRate_0 : List UInt8 := [42, 180, 0, 60, 180, 1, 14, 154, 0, 11, 187, 1, 23, 89, 183, 1, 25, 191, 42, 180, 0, 60]
abbrev dktX1_alarmRate_0 : List UInt8 := dkwX1_alarmRate_0 ++ dktX1_alarmRate_1
theorem dksX1_alarmRate_0 : cX1_alarmRate.data.toList.drop 0 = dktX1_alarmRate_0 := by decide +kernel
theorem dksX1_alarmRate_1 : cX1_alarmRate.data.toList.drop 22 = dktX1_alarmRate_1 := dk_seg dksX1_alarmRate_0 22 rfl rfl
theorem dX1_alarmRate_0 : decode cX1_alarmRate 0 = .ok (.aload_n 0, 1) := dk_42 (dk_at dksX1_alarmRate_0 0 rfl rfl)
theorem dX1_alarmRate_1 : decode cX1_alarmRate 1 = .ok (.getfield 60, 3) := dk_180 0 60 (dk_at dksX1_alarmRate_0 1 rfl rfl)
theorem dX1_alarmRate_4 : decode cX1_alarmRate 4 = .ok (.getfield 270, 3) := dk_180 1 14 (dk_at dksX1_alarmRate_0 4 rfl rfl)
theorem dX1_alarmRate_7 : decode cX1_alarmRate 7 = .ok (.ifCond .ne 11, 3) := dk_154 0 11 (dk_at dksX1_alarmRate_0 7 rfl rfl)
theorem dX1_alarmRate_10 : decode cX1_alarmRate 10 = .ok (.new 279, 3) := dk_187 1 23 (dk_at dksX1_alarmRate_0 10 rfl rfl)
theorem dX1_alarmRate_13 : decode cX1_alarmRate 13 = .ok (.dup, 1) := dk_89 (dk_at dksX1_alarmRate_0 13 rfl rfl)
theorem dX1_alarmRate_14 : decode cX1_alarmRate 14 = .ok (.invokespecial 281, 3) := dk_183 1 25 (dk_at dksX1_alarmRate_0 14 rfl rfl)
theorem dX1_alarmRate_17 : decode cX1_alarmRate 17 = .ok (.athrow, 1) := dk_191 (dk_at dksX1_alarmRate_0 17 rfl rfl)
theorem dX1_alarmRate_18 : decode cX1_alarmRate 18 = .ok (.aload_n 0, 1) := dk_42 (dk_at dksX1_alarmRate_0 18 rfl rfl)
theorem dX1_alarmRate_19 : decode cX1_alarmRate 19 = .ok (.getfield 60, 3) := dk_180 0 60 (dk_at dksX1_alarmRate_0 19 rfl rfl)
theorem dX1_alarmRate_22 : decode cX1_alarmRate 22 = .ok (.getfield 273, 3) := dk_180 1 17 (dk_at dksX1_alarmRate_1 0 rfl rfl)
theorem dX1_alarmRate_25 : decode cX1_alarmRate 25 = .ok (.i2f, 1) := dk_134 (dk_at dksX1_alarmRate_1 3 rfl rfl)
theorem dX1_alarmRate_26 : decode cX1_alarmRate 26 = .ok (.aload_n 0, 1) := dk_42 (dk_at dksX1_alarmRate_1 4 rfl rfl)
theorem dX1_alarmRate_27 : decode cX1_alarmRate 27 = .ok (.getfield 60, 3) := dk_180 0 60 (dk_at dksX1_alarmRate_1 5 rfl rfl)
theorem dX1_alarmRate_30 : decode cX1_alarmRate 30 = .ok (.getfield 270, 3) := dk_180 1 14 (dk_at dksX1_alarmRate_1 8 rfl rfl)
theorem dX1_alarmRate_33 : decode cX1_alarmRate 33 = .ok (.i2f, 1) := dk_134 (dk_at dksX1_alarmRate_1 11 rfl rfl)
theorem dX1_alarmRate_34 : decode cX1_alarmRate 34 = .ok (.fdiv, 1) := dk_110 (dk_at dksX1_alarmRate_1 12 rfl rfl)
theorem dX1_alarmRate_35 : decode cX1_alarmRate 35 = .ok (.freturn, 1) := dk_174 (dk_at dksX1_alarmRate_1 13 rfl rfl)
def dkwX1_meanTrailLength_1 : List UInt8 := [182, 1, 26, 135, 42, 180, 0, 60, 182, 0, 154, 135, 111, 175]
abbrev dktX1_meanTrailLength_1 : List UInt8 := dkwX1_meanTrailLength_1 ++ []
def dkwX1_meanTrailLength_0 : List UInt8 := [42, 180, 0, 60, 182, 0, 154, 154, 0, 11, 187, 1, 23, 89, 183, 1, 25, 191, 42, 180, 0, 60]
abbrev dktX1_meanTrailLength_0 : List UInt8 := dkwX1_meanTrailLength_0 ++ dktX1_meanTrailLength_1
theorem dksX1_meanTrailLength_0 : cX1_meanTrailLength.data.toList.drop 0 = dktX1_meanTrailLength_0 := by decide +kernel
theorem dksX1_meanTrailLength_1 : cX1_meanTrailLength.data.toList.drop 22 = dktX1_meanTrailLength_1 := dk_seg dksX1_meanTrailLength_0 22 rfl rfl
theorem dX1_meanTrailLength_0 : decode cX1_meanTrailLength 0 = .ok (.aload_n 0, 1) := dk_42 (dk_at dksX1_meanTrailLength_0 0 rfl rfl)
theorem dX1_meanTrailLength_1 : decode cX1_meanTrailLength 1 = .ok (.getfield 60, 3) := dk_180 0 60 (dk_at dksX1_meanTrailLength_0 1 rfl rfl)
theorem dX1_meanTrailLength_4 : decode cX1_meanTrailLength 4 = .ok (.invokevirtual 154, 3) := dk_182 0 154 (dk_at dksX1_meanTrailLength_0 4 rfl rfl)
theorem dX1_meanTrailLength_7 : decode cX1_meanTrailLength 7 = .ok (.ifCond .ne 11, 3) := dk_154 0 11 (dk_at dksX1_meanTrailLength_0 7 rfl rfl)
theorem dX1_meanTrailLength_10 : decode cX1_meanTrailLength 10 = .ok (.new 279, 3) := dk_187 1 23 (dk_at dksX1_meanTrailLength_0 10 rfl rfl)
theorem dX1_meanTrailLength_13 : decode cX1_meanTrailLength 13 = .ok (.dup, 1) := dk_89 (dk_at dksX1_meanTrailLength_0 13 rfl rfl)
theorem dX1_meanTrailLength_14 : decode cX1_meanTrailLength 14 = .ok (.invokespecial 281, 3) := dk_183 1 25 (dk_at dksX1_meanTrailLength_0 14 rfl rfl)
theorem dX1_meanTrailLength_17 : decode cX1_meanTrailLength 17 = .ok (.athrow, 1) := dk_191 (dk_at dksX1_meanTrailLength_0 17 rfl rfl)
theorem dX1_meanTrailLength_18 : decode cX1_meanTrailLength 18 = .ok (.aload_n 0, 1) := dk_42 (dk_at dksX1_meanTrailLength_0 18 rfl rfl)
theorem dX1_meanTrailLength_19 : decode cX1_meanTrailLength 19 = .ok (.getfield 60, 3) := dk_180 0 60 (dk_at dksX1_meanTrailLength_0 19 rfl rfl)
theorem dX1_meanTrailLength_22 : decode cX1_meanTrailLength 22 = .ok (.invokevirtual 282, 3) := dk_182 1 26 (dk_at dksX1_meanTrailLength_1 0 rfl rfl)
theorem dX1_meanTrailLength_25 : decode cX1_meanTrailLength 25 = .ok (.i2d, 1) := dk_135 (dk_at dksX1_meanTrailLength_1 3 rfl rfl)
theorem dX1_meanTrailLength_26 : decode cX1_meanTrailLength 26 = .ok (.aload_n 0, 1) := dk_42 (dk_at dksX1_meanTrailLength_1 4 rfl rfl)
theorem dX1_meanTrailLength_27 : decode cX1_meanTrailLength 27 = .ok (.getfield 60, 3) := dk_180 0 60 (dk_at dksX1_meanTrailLength_1 5 rfl rfl)
theorem dX1_meanTrailLength_30 : decode cX1_meanTrailLength 30 = .ok (.invokevirtual 154, 3) := dk_182 0 154 (dk_at dksX1_meanTrailLength_1 8 rfl rfl)
theorem dX1_meanTrailLength_33 : decode cX1_meanTrailLength 33 = .ok (.i2d, 1) := dk_135 (dk_at dksX1_meanTrailLength_1 11 rfl rfl)
theorem dX1_meanTrailLength_34 : decode cX1_meanTrailLength 34 = .ok (.ddiv, 1) := dk_111 (dk_at dksX1_meanTrailLength_1 12 rfl rfl)
theorem dX1_meanTrailLength_35 : decode cX1_meanTrailLength 35 = .ok (.dreturn, 1) := dk_175 (dk_at dksX1_meanTrailLength_1 13 rfl rfl)
def dkwX1_writeTrails_1 : List UInt8 := [42, 186, 1, 76, 0, 0, 182, 1, 80, 42, 180, 0, 74, 182, 1, 73, 172]
abbrev dktX1_writeTrails_1 : List UInt8 := dkwX1_writeTrails_1 ++ []
def dkwX1_writeTrails_0 : List UInt8 := [27, 42, 180, 0, 60, 182, 0, 134, 184, 0, 211, 42, 180, 0, 74, 3, 182, 1, 46, 42, 180, 0, 60, 27]
abbrev dktX1_writeTrails_0 : List UInt8 := dkwX1_writeTrails_0 ++ dktX1_writeTrails_1
theorem dksX1_writeTrails_0 : cX1_writeTrails.data.toList.drop 0 = dktX1_writeTrails_0 := by decide +kernel
theorem dksX1_writeTrails_1 : cX1_writeTrails.data.toList.drop 24 = dktX1_writeTrails_1 := dk_seg dksX1_writeTrails_0 24 rfl rfl
theorem dX1_writeTrails_0 : decode cX1_writeTrails 0 = .ok (.iload_n 1, 1) := dk_27 (dk_at dksX1_writeTrails_0 0 rfl rfl)
theorem dX1_writeTrails_1 : decode cX1_writeTrails 1 = .ok (.aload_n 0, 1) := dk_42 (dk_at dksX1_writeTrails_0 1 rfl rfl)
theorem dX1_writeTrails_2 : decode cX1_writeTrails 2 = .ok (.getfield 60, 3) := dk_180 0 60 (dk_at dksX1_writeTrails_0 2 rfl rfl)
theorem dX1_writeTrails_5 : decode cX1_writeTrails 5 = .ok (.invokevirtual 134, 3) := dk_182 0 134 (dk_at dksX1_writeTrails_0 5 rfl rfl)
theorem dX1_writeTrails_8 : decode cX1_writeTrails 8 = .ok (.invokestatic 211, 3) := dk_184 0 211 (dk_at dksX1_writeTrails_0 8 rfl rfl)
theorem dX1_writeTrails_11 : decode cX1_writeTrails 11 = .ok (.aload_n 0, 1) := dk_42 (dk_at dksX1_writeTrails_0 11 rfl rfl)
theorem dX1_writeTrails_12 : decode cX1_writeTrails 12 = .ok (.getfield 74, 3) := dk_180 0 74 (dk_at dksX1_writeTrails_0 12 rfl rfl)
theorem dX1_writeTrails_15 : decode cX1_writeTrails 15 = .ok (.iconst 0, 1) := dk_3 (dk_at dksX1_writeTrails_0 15 rfl rfl)
theorem dX1_writeTrails_16 : decode cX1_writeTrails 16 = .ok (.invokevirtual 302, 3) := dk_182 1 46 (dk_at dksX1_writeTrails_0 16 rfl rfl)
theorem dX1_writeTrails_19 : decode cX1_writeTrails 19 = .ok (.aload_n 0, 1) := dk_42 (dk_at dksX1_writeTrails_0 19 rfl rfl)
theorem dX1_writeTrails_20 : decode cX1_writeTrails 20 = .ok (.getfield 60, 3) := dk_180 0 60 (dk_at dksX1_writeTrails_0 20 rfl rfl)
theorem dX1_writeTrails_23 : decode cX1_writeTrails 23 = .ok (.iload_n 1, 1) := dk_27 (dk_at dksX1_writeTrails_0 23 rfl rfl)
theorem dX1_writeTrails_24 : decode cX1_writeTrails 24 = .ok (.aload_n 0, 1) := dk_42 (dk_at dksX1_writeTrails_1 0 rfl rfl)
theorem dX1_writeTrails_25 : decode cX1_writeTrails 25 = .ok (.invokedynamic 332, 5) := by decide +kernel
theorem dX1_writeTrails_30 : decode cX1_writeTrails 30 = .ok (.invokevirtual 336, 3) := dk_182 1 80 (dk_at dksX1_writeTrails_1 6 rfl rfl)
theorem dX1_writeTrails_33 : decode cX1_writeTrails 33 = .ok (.aload_n 0, 1) := dk_42 (dk_at dksX1_writeTrails_1 9 rfl rfl)
theorem dX1_writeTrails_34 : decode cX1_writeTrails 34 = .ok (.getfield 74, 3) := dk_180 0 74 (dk_at dksX1_writeTrails_1 10 rfl rfl)
theorem dX1_writeTrails_37 : decode cX1_writeTrails 37 = .ok (.invokevirtual 329, 3) := dk_182 1 73 (dk_at dksX1_writeTrails_1 13 rfl rfl)
theorem dX1_writeTrails_40 : decode cX1_writeTrails 40 = .ok (.ireturn, 1) := dk_172 (dk_at dksX1_writeTrails_1 16 rfl rfl)
def dkwX1_lambda_writeTrails_10_0 : List UInt8 := [42, 27, 28, 182, 1, 145, 177]
abbrev dktX1_lambda_writeTrails_10_0 : List UInt8 := dkwX1_lambda_writeTrails_10_0 ++ []
theorem dksX1_lambda_writeTrails_10_0 : cX1_lambda_writeTrails_10.data.toList.drop 0 = dktX1_lambda_writeTrails_10_0 := by decide +kernel
theorem dX1_lambda_writeTrails_10_0 : decode cX1_lambda_writeTrails_10 0 = .ok (.aload_n 0, 1) := dk_42 (dk_at dksX1_lambda_writeTrails_10_0 0 rfl rfl)
theorem dX1_lambda_writeTrails_10_1 : decode cX1_lambda_writeTrails_10 1 = .ok (.iload_n 1, 1) := dk_27 (dk_at dksX1_lambda_writeTrails_10_0 1 rfl rfl)
theorem dX1_lambda_writeTrails_10_2 : decode cX1_lambda_writeTrails_10 2 = .ok (.iload_n 2, 1) := dk_28 (dk_at dksX1_lambda_writeTrails_10_0 2 rfl rfl)
theorem dX1_lambda_writeTrails_10_3 : decode cX1_lambda_writeTrails_10 3 = .ok (.invokevirtual 401, 3) := dk_182 1 145 (dk_at dksX1_lambda_writeTrails_10_0 3 rfl rfl)
theorem dX1_lambda_writeTrails_10_6 : decode cX1_lambda_writeTrails_10 6 = .ok (.return_, 1) := dk_177 (dk_at dksX1_lambda_writeTrails_10_0 6 rfl rfl)
def dkwX1_writeTrail_0 : List UInt8 := [42, 180, 0, 74, 16, 45, 182, 1, 66, 27, 182, 1, 63, 16, 61, 182, 1, 66, 28, 182, 1, 63, 78, 177]
abbrev dktX1_writeTrail_0 : List UInt8 := dkwX1_writeTrail_0 ++ []
theorem dksX1_writeTrail_0 : cX1_writeTrail.data.toList.drop 0 = dktX1_writeTrail_0 := by decide +kernel
theorem dX1_writeTrail_0 : decode cX1_writeTrail 0 = .ok (.aload_n 0, 1) := dk_42 (dk_at dksX1_writeTrail_0 0 rfl rfl)
theorem dX1_writeTrail_1 : decode cX1_writeTrail 1 = .ok (.getfield 74, 3) := dk_180 0 74 (dk_at dksX1_writeTrail_0 1 rfl rfl)
theorem dX1_writeTrail_4 : decode cX1_writeTrail 4 = .ok (.bipush 45, 2) := dk_16 45 (dk_at dksX1_writeTrail_0 4 rfl rfl)
theorem dX1_writeTrail_6 : decode cX1_writeTrail 6 = .ok (.invokevirtual 322, 3) := dk_182 1 66 (dk_at dksX1_writeTrail_0 6 rfl rfl)
theorem dX1_writeTrail_9 : decode cX1_writeTrail 9 = .ok (.iload_n 1, 1) := dk_27 (dk_at dksX1_writeTrail_0 9 rfl rfl)
theorem dX1_writeTrail_10 : decode cX1_writeTrail 10 = .ok (.invokevirtual 319, 3) := dk_182 1 63 (dk_at dksX1_writeTrail_0 10 rfl rfl)
theorem dX1_writeTrail_13 : decode cX1_writeTrail 13 = .ok (.bipush 61, 2) := dk_16 61 (dk_at dksX1_writeTrail_0 13 rfl rfl)
theorem dX1_writeTrail_15 : decode cX1_writeTrail 15 = .ok (.invokevirtual 322, 3) := dk_182 1 66 (dk_at dksX1_writeTrail_0 15 rfl rfl)
theorem dX1_writeTrail_18 : decode cX1_writeTrail 18 = .ok (.iload_n 2, 1) := dk_28 (dk_at dksX1_writeTrail_0 18 rfl rfl)
theorem dX1_writeTrail_19 : decode cX1_writeTrail 19 = .ok (.invokevirtual 319, 3) := dk_182 1 63 (dk_at dksX1_writeTrail_0 19 rfl rfl)
theorem dX1_writeTrail_22 : decode cX1_writeTrail 22 = .ok (.astore_n 3, 1) := dk_78 (dk_at dksX1_writeTrail_0 22 rfl rfl)
theorem dX1_writeTrail_23 : decode cX1_writeTrail 23 = .ok (.return_, 1) := dk_177 (dk_at dksX1_writeTrail_0 23 rfl rfl)
def dkwX1_charAt_0 : List UInt8 := [27, 42, 180, 0, 74, 182, 1, 73, 184, 0, 211, 42, 180, 0, 74, 27, 182, 1, 84, 172]
abbrev dktX1_charAt_0 : List UInt8 := dkwX1_charAt_0 ++ []
theorem dksX1_charAt_0 : cX1_charAt.data.toList.drop 0 = dktX1_charAt_0 := by decide +kernel
theorem dX1_charAt_0 : decode cX1_charAt 0 = .ok (.iload_n 1, 1) := dk_27 (dk_at dksX1_charAt_0 0 rfl rfl)
theorem dX1_charAt_1 : decode cX1_charAt 1 = .ok (.aload_n 0, 1) := dk_42 (dk_at dksX1_charAt_0 1 rfl rfl)
theorem dX1_charAt_2 : decode cX1_charAt 2 = .ok (.getfield 74, 3) := dk_180 0 74 (dk_at dksX1_charAt_0 2 rfl rfl)
theorem dX1_charAt_5 : decode cX1_charAt 5 = .ok (.invokevirtual 329, 3) := dk_182 1 73 (dk_at dksX1_charAt_0 5 rfl rfl)
theorem dX1_charAt_8 : decode cX1_charAt 8 = .ok (.invokestatic 211, 3) := dk_184 0 211 (dk_at dksX1_charAt_0 8 rfl rfl)
theorem dX1_charAt_11 : decode cX1_charAt 11 = .ok (.aload_n 0, 1) := dk_42 (dk_at dksX1_charAt_0 11 rfl rfl)
theorem dX1_charAt_12 : decode cX1_charAt 12 = .ok (.getfield 74, 3) := dk_180 0 74 (dk_at dksX1_charAt_0 12 rfl rfl)
theorem dX1_charAt_15 : decode cX1_charAt 15 = .ok (.iload_n 1, 1) := dk_27 (dk_at dksX1_charAt_0 15 rfl rfl)
theorem dX1_charAt_16 : decode cX1_charAt 16 = .ok (.invokevirtual 340, 3) := dk_182 1 84 (dk_at dksX1_charAt_0 16 rfl rfl)
theorem dX1_charAt_19 : decode cX1_charAt 19 = .ok (.ireturn, 1) := dk_172 (dk_at dksX1_charAt_0 19 rfl rfl)
def dkwX1_type_1 : List UInt8 := [180, 1, 88, 27, 85, 42, 89, 180, 1, 88, 4, 96, 181, 1, 88, 42, 180, 1, 88, 172]
abbrev dktX1_type_1 : List UInt8 := dkwX1_type_1 ++ []
def dkwX1_type_0 : List UInt8 := [42, 180, 1, 88, 16, 60, 162, 0, 7, 4, 167, 0, 4, 3, 184, 1, 91, 42, 180, 0, 78, 42]
abbrev dktX1_type_0 : List UInt8 := dkwX1_type_0 ++ dktX1_type_1
theorem dksX1_type_0 : cX1_type.data.toList.drop 0 = dktX1_type_0 := by decide +kernel
theorem dksX1_type_1 : cX1_type.data.toList.drop 22 = dktX1_type_1 := dk_seg dksX1_type_0 22 rfl rfl
theorem dX1_type_0 : decode cX1_type 0 = .ok (.aload_n 0, 1) := dk_42 (dk_at dksX1_type_0 0 rfl rfl)
theorem dX1_type_1 : decode cX1_type 1 = .ok (.getfield 344, 3) := dk_180 1 88 (dk_at dksX1_type_0 1 rfl rfl)
theorem dX1_type_4 : decode cX1_type 4 = .ok (.bipush 60, 2) := dk_16 60 (dk_at dksX1_type_0 4 rfl rfl)
theorem dX1_type_6 : decode cX1_type 6 = .ok (.if_icmp .ge 7, 3) := dk_162 0 7 (dk_at dksX1_type_0 6 rfl rfl)
theorem dX1_type_9 : decode cX1_type 9 = .ok (.iconst 1, 1) := dk_4 (dk_at dksX1_type_0 9 rfl rfl)
theorem dX1_type_10 : decode cX1_type 10 = .ok (.goto 4, 3) := dk_167 0 4 (dk_at dksX1_type_0 10 rfl rfl)
theorem dX1_type_13 : decode cX1_type 13 = .ok (.iconst 0, 1) := dk_3 (dk_at dksX1_type_0 13 rfl rfl)
theorem dX1_type_14 : decode cX1_type 14 = .ok (.invokestatic 347, 3) := dk_184 1 91 (dk_at dksX1_type_0 14 rfl rfl)
theorem dX1_type_17 : decode cX1_type 17 = .ok (.aload_n 0, 1) := dk_42 (dk_at dksX1_type_0 17 rfl rfl)
theorem dX1_type_18 : decode cX1_type 18 = .ok (.getfield 78, 3) := dk_180 0 78 (dk_at dksX1_type_0 18 rfl rfl)
theorem dX1_type_21 : decode cX1_type 21 = .ok (.aload_n 0, 1) := dk_42 (dk_at dksX1_type_0 21 rfl rfl)
theorem dX1_type_22 : decode cX1_type 22 = .ok (.getfield 344, 3) := dk_180 1 88 (dk_at dksX1_type_1 0 rfl rfl)
theorem dX1_type_25 : decode cX1_type 25 = .ok (.iload_n 1, 1) := dk_27 (dk_at dksX1_type_1 3 rfl rfl)
theorem dX1_type_26 : decode cX1_type 26 = .ok (.castore, 1) := dk_85 (dk_at dksX1_type_1 4 rfl rfl)
theorem dX1_type_27 : decode cX1_type 27 = .ok (.aload_n 0, 1) := dk_42 (dk_at dksX1_type_1 5 rfl rfl)
theorem dX1_type_28 : decode cX1_type 28 = .ok (.dup, 1) := dk_89 (dk_at dksX1_type_1 6 rfl rfl)
theorem dX1_type_29 : decode cX1_type 29 = .ok (.getfield 344, 3) := dk_180 1 88 (dk_at dksX1_type_1 7 rfl rfl)
theorem dX1_type_32 : decode cX1_type 32 = .ok (.iconst 1, 1) := dk_4 (dk_at dksX1_type_1 10 rfl rfl)
theorem dX1_type_33 : decode cX1_type 33 = .ok (.iadd, 1) := dk_96 (dk_at dksX1_type_1 11 rfl rfl)
theorem dX1_type_34 : decode cX1_type 34 = .ok (.putfield 344, 3) := dk_181 1 88 (dk_at dksX1_type_1 12 rfl rfl)
theorem dX1_type_37 : decode cX1_type 37 = .ok (.aload_n 0, 1) := dk_42 (dk_at dksX1_type_1 15 rfl rfl)
theorem dX1_type_38 : decode cX1_type 38 = .ok (.getfield 344, 3) := dk_180 1 88 (dk_at dksX1_type_1 16 rfl rfl)
theorem dX1_type_41 : decode cX1_type 41 = .ok (.ireturn, 1) := dk_172 (dk_at dksX1_type_1 19 rfl rfl)
def dkwX1_run_1 : List UInt8 := [42, 43, 180, 1, 130, 181, 0, 82, 187, 0, 1, 89, 183, 0, 3, 191, 77, 42, 3, 181, 1, 88, 44, 191]
abbrev dktX1_run_1 : List UInt8 := dkwX1_run_1 ++ []
def dkwX1_run_0 : List UInt8 := [42, 187, 1, 115, 89, 42, 183, 1, 117, 182, 1, 120, 182, 1, 124, 60, 42, 3, 181, 1, 88, 27, 172, 76]
abbrev dktX1_run_0 : List UInt8 := dkwX1_run_0 ++ dktX1_run_1
theorem dksX1_run_0 : cX1_run.data.toList.drop 0 = dktX1_run_0 := by decide +kernel
theorem dksX1_run_1 : cX1_run.data.toList.drop 24 = dktX1_run_1 := dk_seg dksX1_run_0 24 rfl rfl
theorem dX1_run_0 : decode cX1_run 0 = .ok (.aload_n 0, 1) := dk_42 (dk_at dksX1_run_0 0 rfl rfl)
theorem dX1_run_1 : decode cX1_run 1 = .ok (.new 371, 3) := dk_187 1 115 (dk_at dksX1_run_0 1 rfl rfl)
theorem dX1_run_4 : decode cX1_run 4 = .ok (.dup, 1) := dk_89 (dk_at dksX1_run_0 4 rfl rfl)
theorem dX1_run_5 : decode cX1_run 5 = .ok (.aload_n 0, 1) := dk_42 (dk_at dksX1_run_0 5 rfl rfl)
theorem dX1_run_6 : decode cX1_run 6 = .ok (.invokespecial 373, 3) := dk_183 1 117 (dk_at dksX1_run_0 6 rfl rfl)
theorem dX1_run_9 : decode cX1_run 9 = .ok (.invokevirtual 376, 3) := dk_182 1 120 (dk_at dksX1_run_0 9 rfl rfl)
theorem dX1_run_12 : decode cX1_run 12 = .ok (.invokevirtual 380, 3) := dk_182 1 124 (dk_at dksX1_run_0 12 rfl rfl)
theorem dX1_run_15 : decode cX1_run 15 = .ok (.istore_n 1, 1) := dk_60 (dk_at dksX1_run_0 15 rfl rfl)
theorem dX1_run_16 : decode cX1_run 16 = .ok (.aload_n 0, 1) := dk_42 (dk_at dksX1_run_0 16 rfl rfl)
theorem dX1_run_17 : decode cX1_run 17 = .ok (.iconst 0, 1) := dk_3 (dk_at dksX1_run_0 17 rfl rfl)
theorem dX1_run_18 : decode cX1_run 18 = .ok (.putfield 344, 3) := dk_181 1 88 (dk_at dksX1_run_0 18 rfl rfl)
theorem dX1_run_21 : decode cX1_run 21 = .ok (.iload_n 1, 1) := dk_27 (dk_at dksX1_run_0 21 rfl rfl)
theorem dX1_run_22 : decode cX1_run 22 = .ok (.ireturn, 1) := dk_172 (dk_at dksX1_run_0 22 rfl rfl)
theorem dX1_run_23 : decode cX1_run 23 = .ok (.astore_n 1, 1) := dk_76 (dk_at dksX1_run_0 23 rfl rfl)
theorem dX1_run_24 : decode cX1_run 24 = .ok (.aload_n 0, 1) := dk_42 (dk_at dksX1_run_1 0 rfl rfl)
theorem dX1_run_25 : decode cX1_run 25 = .ok (.aload_n 1, 1) := dk_43 (dk_at dksX1_run_1 1 rfl rfl)
theorem dX1_run_26 : decode cX1_run 26 = .ok (.getfield 386, 3) := dk_180 1 130 (dk_at dksX1_run_1 2 rfl rfl)
theorem dX1_run_29 : decode cX1_run 29 = .ok (.putfield 82, 3) := dk_181 0 82 (dk_at dksX1_run_1 5 rfl rfl)
theorem dX1_run_32 : decode cX1_run 32 = .ok (.new 1, 3) := dk_187 0 1 (dk_at dksX1_run_1 8 rfl rfl)
theorem dX1_run_35 : decode cX1_run 35 = .ok (.dup, 1) := dk_89 (dk_at dksX1_run_1 11 rfl rfl)
theorem dX1_run_36 : decode cX1_run 36 = .ok (.invokespecial 3, 3) := dk_183 0 3 (dk_at dksX1_run_1 12 rfl rfl)
theorem dX1_run_39 : decode cX1_run 39 = .ok (.athrow, 1) := dk_191 (dk_at dksX1_run_1 15 rfl rfl)
theorem dX1_run_40 : decode cX1_run 40 = .ok (.astore_n 2, 1) := dk_77 (dk_at dksX1_run_1 16 rfl rfl)
theorem dX1_run_41 : decode cX1_run 41 = .ok (.aload_n 0, 1) := dk_42 (dk_at dksX1_run_1 17 rfl rfl)
theorem dX1_run_42 : decode cX1_run 42 = .ok (.iconst 0, 1) := dk_3 (dk_at dksX1_run_1 18 rfl rfl)
theorem dX1_run_43 : decode cX1_run 43 = .ok (.putfield 344, 3) := dk_181 1 88 (dk_at dksX1_run_1 19 rfl rfl)
theorem dX1_run_46 : decode cX1_run 46 = .ok (.aload_n 2, 1) := dk_44 (dk_at dksX1_run_1 22 rfl rfl)
theorem dX1_run_47 : decode cX1_run 47 = .ok (.athrow, 1) := dk_191 (dk_at dksX1_run_1 23 rfl rfl)
def dkwX1_execute_3 : List UInt8 := [181, 0, 86, 187, 0, 22, 89, 183, 0, 24, 191, 42, 44, 182, 0, 110, 29, 172]
abbrev dktX1_execute_3 : List UInt8 := dkwX1_execute_3 ++ []
def dkwX1_execute_2 : List UInt8 := [180, 1, 111, 44, 185, 0, 104, 2, 0, 54, 4, 132, 3, 1, 167, 255, 218, 167, 0, 18, 58, 5, 42, 29]
abbrev dktX1_execute_2 : List UInt8 := dkwX1_execute_2 ++ dktX1_execute_3
def dkwX1_execute_1 : List UInt8 := [25, 5, 185, 1, 100, 1, 0, 153, 0, 34, 25, 5, 185, 1, 106, 1, 0, 192, 1, 109, 58, 6, 25, 6]
abbrev dktX1_execute_1 : List UInt8 := dkwX1_execute_1 ++ dktX1_execute_2
def dkwX1_execute_0 : List UInt8 := [187, 0, 57, 89, 42, 180, 0, 60, 183, 0, 101, 77, 3, 62, 3, 54, 4, 43, 182, 1, 94, 58, 5]
abbrev dktX1_execute_0 : List UInt8 := dkwX1_execute_0 ++ dktX1_execute_1
theorem dksX1_execute_0 : cX1_execute.data.toList.drop 0 = dktX1_execute_0 := by decide +kernel
theorem dksX1_execute_1 : cX1_execute.data.toList.drop 23 = dktX1_execute_1 := dk_seg dksX1_execute_0 23 rfl rfl
theorem dksX1_execute_2 : cX1_execute.data.toList.drop 47 = dktX1_execute_2 := dk_seg dksX1_execute_1 24 rfl rfl
theorem dksX1_execute_3 : cX1_execute.data.toList.drop 71 = dktX1_execute_3 := dk_seg dksX1_execute_2 24 rfl rfl
theorem dX1_execute_0 : decode cX1_execute 0 = .ok (.new 57, 3) := dk_187 0 57 (dk_at dksX1_execute_0 0 rfl rfl)
theorem dX1_execute_3 : decode cX1_execute 3 = .ok (.dup, 1) := dk_89 (dk_at dksX1_execute_0 3 rfl rfl)
theorem dX1_execute_4 : decode cX1_execute 4 = .ok (.aload_n 0, 1) := dk_42 (dk_at dksX1_execute_0 4 rfl rfl)
theorem dX1_execute_5 : decode cX1_execute 5 = .ok (.getfield 60, 3) := dk_180 0 60 (dk_at dksX1_execute_0 5 rfl rfl)
theorem dX1_execute_8 : decode cX1_execute 8 = .ok (.invokespecial 101, 3) := dk_183 0 101 (dk_at dksX1_execute_0 8 rfl rfl)
theorem dX1_execute_11 : decode cX1_execute 11 = .ok (.astore_n 2, 1) := dk_77 (dk_at dksX1_execute_0 11 rfl rfl)
theorem dX1_execute_12 : decode cX1_execute 12 = .ok (.iconst 0, 1) := dk_3 (dk_at dksX1_execute_0 12 rfl rfl)
theorem dX1_execute_13 : decode cX1_execute 13 = .ok (.istore_n 3, 1) := dk_62 (dk_at dksX1_execute_0 13 rfl rfl)
theorem dX1_execute_14 : decode cX1_execute 14 = .ok (.iconst 0, 1) := dk_3 (dk_at dksX1_execute_0 14 rfl rfl)
theorem dX1_execute_15 : decode cX1_execute 15 = .ok (.istore 4, 2) := dk_54 4 (dk_at dksX1_execute_0 15 rfl rfl)
theorem dX1_execute_17 : decode cX1_execute 17 = .ok (.aload_n 1, 1) := dk_43 (dk_at dksX1_execute_0 17 rfl rfl)
theorem dX1_execute_18 : decode cX1_execute 18 = .ok (.invokevirtual 350, 3) := dk_182 1 94 (dk_at dksX1_execute_0 18 rfl rfl)
theorem dX1_execute_21 : decode cX1_execute 21 = .ok (.astore 5, 2) := dk_58 5 (dk_at dksX1_execute_0 21 rfl rfl)
theorem dX1_execute_23 : decode cX1_execute 23 = .ok (.aload 5, 2) := dk_25 5 (dk_at dksX1_execute_1 0 rfl rfl)
theorem dX1_execute_25 : decode cX1_execute 25 = .ok (.invokeinterface 356 1, 5) := by decide +kernel
theorem dX1_execute_30 : decode cX1_execute 30 = .ok (.ifCond .eq 34, 3) := dk_153 0 34 (dk_at dksX1_execute_1 7 rfl rfl)
theorem dX1_execute_33 : decode cX1_execute 33 = .ok (.aload 5, 2) := dk_25 5 (dk_at dksX1_execute_1 10 rfl rfl)
theorem dX1_execute_35 : decode cX1_execute 35 = .ok (.invokeinterface 362 1, 5) := by decide +kernel
theorem dX1_execute_40 : decode cX1_execute 40 = .ok (.checkcast 365, 3) := dk_192 1 109 (dk_at dksX1_execute_1 17 rfl rfl)
theorem dX1_execute_43 : decode cX1_execute 43 = .ok (.astore 6, 2) := dk_58 6 (dk_at dksX1_execute_1 20 rfl rfl)
theorem dX1_execute_45 : decode cX1_execute 45 = .ok (.aload 6, 2) := dk_25 6 (dk_at dksX1_execute_1 22 rfl rfl)
theorem dX1_execute_47 : decode cX1_execute 47 = .ok (.getfield 367, 3) := dk_180 1 111 (dk_at dksX1_execute_2 0 rfl rfl)
theorem dX1_execute_50 : decode cX1_execute 50 = .ok (.aload_n 2, 1) := dk_44 (dk_at dksX1_execute_2 3 rfl rfl)
theorem dX1_execute_51 : decode cX1_execute 51 = .ok (.invokeinterface 104 2, 5) := by decide +kernel
theorem dX1_execute_56 : decode cX1_execute 56 = .ok (.istore 4, 2) := dk_54 4 (dk_at dksX1_execute_2 9 rfl rfl)
theorem dX1_execute_58 : decode cX1_execute 58 = .ok (.iinc 3 1, 3) := dk_132 3 1 (dk_at dksX1_execute_2 11 rfl rfl)
theorem dX1_execute_61 : decode cX1_execute 61 = .ok (.goto (-38), 3) := dk_167 255 218 (dk_at dksX1_execute_2 14 rfl rfl)
theorem dX1_execute_64 : decode cX1_execute 64 = .ok (.goto 18, 3) := dk_167 0 18 (dk_at dksX1_execute_2 17 rfl rfl)
theorem dX1_execute_67 : decode cX1_execute 67 = .ok (.astore 5, 2) := dk_58 5 (dk_at dksX1_execute_2 20 rfl rfl)
theorem dX1_execute_69 : decode cX1_execute 69 = .ok (.aload_n 0, 1) := dk_42 (dk_at dksX1_execute_2 22 rfl rfl)
theorem dX1_execute_70 : decode cX1_execute 70 = .ok (.iload_n 3, 1) := dk_29 (dk_at dksX1_execute_2 23 rfl rfl)
theorem dX1_execute_71 : decode cX1_execute 71 = .ok (.putfield 86, 3) := dk_181 0 86 (dk_at dksX1_execute_3 0 rfl rfl)
theorem dX1_execute_74 : decode cX1_execute 74 = .ok (.new 22, 3) := dk_187 0 22 (dk_at dksX1_execute_3 3 rfl rfl)
theorem dX1_execute_77 : decode cX1_execute 77 = .ok (.dup, 1) := dk_89 (dk_at dksX1_execute_3 6 rfl rfl)
theorem dX1_execute_78 : decode cX1_execute 78 = .ok (.invokespecial 24, 3) := dk_183 0 24 (dk_at dksX1_execute_3 7 rfl rfl)
theorem dX1_execute_81 : decode cX1_execute 81 = .ok (.athrow, 1) := dk_191 (dk_at dksX1_execute_3 10 rfl rfl)
theorem dX1_execute_82 : decode cX1_execute 82 = .ok (.aload_n 0, 1) := dk_42 (dk_at dksX1_execute_3 11 rfl rfl)
theorem dX1_execute_83 : decode cX1_execute 83 = .ok (.aload_n 2, 1) := dk_44 (dk_at dksX1_execute_3 12 rfl rfl)
theorem dX1_execute_84 : decode cX1_execute 84 = .ok (.invokevirtual 110, 3) := dk_182 0 110 (dk_at dksX1_execute_3 13 rfl rfl)
theorem dX1_execute_87 : decode cX1_execute 87 = .ok (.iload_n 3, 1) := dk_29 (dk_at dksX1_execute_3 16 rfl rfl)
theorem dX1_execute_88 : decode cX1_execute 88 = .ok (.ireturn, 1) := dk_172 (dk_at dksX1_execute_3 17 rfl rfl)
def dkwX1_errorPosition_0 : List UInt8 := [42, 180, 0, 82, 2, 159, 0, 7, 4, 167, 0, 4, 3, 184, 0, 165, 42, 180, 0, 82, 172]
abbrev dktX1_errorPosition_0 : List UInt8 := dkwX1_errorPosition_0 ++ []
theorem dksX1_errorPosition_0 : cX1_errorPosition.data.toList.drop 0 = dktX1_errorPosition_0 := by decide +kernel
theorem dX1_errorPosition_0 : decode cX1_errorPosition 0 = .ok (.aload_n 0, 1) := dk_42 (dk_at dksX1_errorPosition_0 0 rfl rfl)
theorem dX1_errorPosition_1 : decode cX1_errorPosition 1 = .ok (.getfield 82, 3) := dk_180 0 82 (dk_at dksX1_errorPosition_0 1 rfl rfl)
theorem dX1_errorPosition_4 : decode cX1_errorPosition 4 = .ok (.iconst (-1), 1) := dk_2 (dk_at dksX1_errorPosition_0 4 rfl rfl)
theorem dX1_errorPosition_5 : decode cX1_errorPosition 5 = .ok (.if_icmp .eq 7, 3) := dk_159 0 7 (dk_at dksX1_errorPosition_0 5 rfl rfl)
theorem dX1_errorPosition_8 : decode cX1_errorPosition 8 = .ok (.iconst 1, 1) := dk_4 (dk_at dksX1_errorPosition_0 8 rfl rfl)
theorem dX1_errorPosition_9 : decode cX1_errorPosition 9 = .ok (.goto 4, 3) := dk_167 0 4 (dk_at dksX1_errorPosition_0 9 rfl rfl)
theorem dX1_errorPosition_12 : decode cX1_errorPosition 12 = .ok (.iconst 0, 1) := dk_3 (dk_at dksX1_errorPosition_0 12 rfl rfl)
theorem dX1_errorPosition_13 : decode cX1_errorPosition 13 = .ok (.invokestatic 165, 3) := dk_184 0 165 (dk_at dksX1_errorPosition_0 13 rfl rfl)
theorem dX1_errorPosition_16 : decode cX1_errorPosition 16 = .ok (.aload_n 0, 1) := dk_42 (dk_at dksX1_errorPosition_0 16 rfl rfl)
theorem dX1_errorPosition_17 : decode cX1_errorPosition 17 = .ok (.getfield 82, 3) := dk_180 0 82 (dk_at dksX1_errorPosition_0 17 rfl rfl)
theorem dX1_errorPosition_20 : decode cX1_errorPosition 20 = .ok (.ireturn, 1) := dk_172 (dk_at dksX1_errorPosition_0 20 rfl rfl)
def dkwX1_failedCommand_0 : List UInt8 := [42, 180, 0, 86, 2, 159, 0, 7, 4, 167, 0, 4, 3, 184, 0, 165, 42, 180, 0, 86, 172]
abbrev dktX1_failedCommand_0 : List UInt8 := dkwX1_failedCommand_0 ++ []
theorem dksX1_failedCommand_0 : cX1_failedCommand.data.toList.drop 0 = dktX1_failedCommand_0 := by decide +kernel
theorem dX1_failedCommand_0 : decode cX1_failedCommand 0 = .ok (.aload_n 0, 1) := dk_42 (dk_at dksX1_failedCommand_0 0 rfl rfl)
theorem dX1_failedCommand_1 : decode cX1_failedCommand 1 = .ok (.getfield 86, 3) := dk_180 0 86 (dk_at dksX1_failedCommand_0 1 rfl rfl)
theorem dX1_failedCommand_4 : decode cX1_failedCommand 4 = .ok (.iconst (-1), 1) := dk_2 (dk_at dksX1_failedCommand_0 4 rfl rfl)
theorem dX1_failedCommand_5 : decode cX1_failedCommand 5 = .ok (.if_icmp .eq 7, 3) := dk_159 0 7 (dk_at dksX1_failedCommand_0 5 rfl rfl)
theorem dX1_failedCommand_8 : decode cX1_failedCommand 8 = .ok (.iconst 1, 1) := dk_4 (dk_at dksX1_failedCommand_0 8 rfl rfl)
theorem dX1_failedCommand_9 : decode cX1_failedCommand 9 = .ok (.goto 4, 3) := dk_167 0 4 (dk_at dksX1_failedCommand_0 9 rfl rfl)
theorem dX1_failedCommand_12 : decode cX1_failedCommand 12 = .ok (.iconst 0, 1) := dk_3 (dk_at dksX1_failedCommand_0 12 rfl rfl)
theorem dX1_failedCommand_13 : decode cX1_failedCommand 13 = .ok (.invokestatic 165, 3) := dk_184 0 165 (dk_at dksX1_failedCommand_0 13 rfl rfl)
theorem dX1_failedCommand_16 : decode cX1_failedCommand 16 = .ok (.aload_n 0, 1) := dk_42 (dk_at dksX1_failedCommand_0 16 rfl rfl)
theorem dX1_failedCommand_17 : decode cX1_failedCommand 17 = .ok (.getfield 86, 3) := dk_180 0 86 (dk_at dksX1_failedCommand_0 17 rfl rfl)
theorem dX1_failedCommand_20 : decode cX1_failedCommand 20 = .ok (.ireturn, 1) := dk_172 (dk_at dksX1_failedCommand_0 20 rfl rfl)
def dkwX1_undo_1 : List UInt8 := [182, 1, 136, 192, 0, 57, 181, 0, 60, 42, 180, 0, 67, 182, 0, 89, 172]
abbrev dktX1_undo_1 : List UInt8 := dkwX1_undo_1 ++ []
def dkwX1_undo_0 : List UInt8 := [42, 180, 0, 67, 182, 1, 133, 154, 0, 7, 4, 167, 0, 4, 3, 184, 1, 91, 42, 42, 180, 0, 67]
abbrev dktX1_undo_0 : List UInt8 := dkwX1_undo_0 ++ dktX1_undo_1
theorem dksX1_undo_0 : cX1_undo.data.toList.drop 0 = dktX1_undo_0 := by decide +kernel
theorem dksX1_undo_1 : cX1_undo.data.toList.drop 23 = dktX1_undo_1 := dk_seg dksX1_undo_0 23 rfl rfl
theorem dX1_undo_0 : decode cX1_undo 0 = .ok (.aload_n 0, 1) := dk_42 (dk_at dksX1_undo_0 0 rfl rfl)
theorem dX1_undo_1 : decode cX1_undo 1 = .ok (.getfield 67, 3) := dk_180 0 67 (dk_at dksX1_undo_0 1 rfl rfl)
theorem dX1_undo_4 : decode cX1_undo 4 = .ok (.invokevirtual 389, 3) := dk_182 1 133 (dk_at dksX1_undo_0 4 rfl rfl)
theorem dX1_undo_7 : decode cX1_undo 7 = .ok (.ifCond .ne 7, 3) := dk_154 0 7 (dk_at dksX1_undo_0 7 rfl rfl)
theorem dX1_undo_10 : decode cX1_undo 10 = .ok (.iconst 1, 1) := dk_4 (dk_at dksX1_undo_0 10 rfl rfl)
theorem dX1_undo_11 : decode cX1_undo 11 = .ok (.goto 4, 3) := dk_167 0 4 (dk_at dksX1_undo_0 11 rfl rfl)
theorem dX1_undo_14 : decode cX1_undo 14 = .ok (.iconst 0, 1) := dk_3 (dk_at dksX1_undo_0 14 rfl rfl)
theorem dX1_undo_15 : decode cX1_undo 15 = .ok (.invokestatic 347, 3) := dk_184 1 91 (dk_at dksX1_undo_0 15 rfl rfl)
theorem dX1_undo_18 : decode cX1_undo 18 = .ok (.aload_n 0, 1) := dk_42 (dk_at dksX1_undo_0 18 rfl rfl)
theorem dX1_undo_19 : decode cX1_undo 19 = .ok (.aload_n 0, 1) := dk_42 (dk_at dksX1_undo_0 19 rfl rfl)
theorem dX1_undo_20 : decode cX1_undo 20 = .ok (.getfield 67, 3) := dk_180 0 67 (dk_at dksX1_undo_0 20 rfl rfl)
theorem dX1_undo_23 : decode cX1_undo 23 = .ok (.invokevirtual 392, 3) := dk_182 1 136 (dk_at dksX1_undo_1 0 rfl rfl)
theorem dX1_undo_26 : decode cX1_undo 26 = .ok (.checkcast 57, 3) := dk_192 0 57 (dk_at dksX1_undo_1 3 rfl rfl)
theorem dX1_undo_29 : decode cX1_undo 29 = .ok (.putfield 60, 3) := dk_181 0 60 (dk_at dksX1_undo_1 6 rfl rfl)
theorem dX1_undo_32 : decode cX1_undo 32 = .ok (.aload_n 0, 1) := dk_42 (dk_at dksX1_undo_1 9 rfl rfl)
theorem dX1_undo_33 : decode cX1_undo 33 = .ok (.getfield 67, 3) := dk_180 0 67 (dk_at dksX1_undo_1 10 rfl rfl)
theorem dX1_undo_36 : decode cX1_undo 36 = .ok (.invokevirtual 89, 3) := dk_182 0 89 (dk_at dksX1_undo_1 13 rfl rfl)
theorem dX1_undo_39 : decode cX1_undo 39 = .ok (.ireturn, 1) := dk_172 (dk_at dksX1_undo_1 16 rfl rfl)
def dkwX1_restore_1 : List UInt8 := [183, 0, 101, 181, 0, 60, 42, 180, 0, 67, 182, 1, 142, 42, 180, 0, 60, 182, 0, 134, 172]
abbrev dktX1_restore_1 : List UInt8 := dkwX1_restore_1 ++ []
def dkwX1_restore_0 : List UInt8 := [42, 180, 1, 139, 198, 0, 7, 4, 167, 0, 4, 3, 184, 1, 91, 42, 187, 0, 57, 89, 42, 180, 1, 139]
abbrev dktX1_restore_0 : List UInt8 := dkwX1_restore_0 ++ dktX1_restore_1
theorem dksX1_restore_0 : cX1_restore.data.toList.drop 0 = dktX1_restore_0 := by decide +kernel
theorem dksX1_restore_1 : cX1_restore.data.toList.drop 24 = dktX1_restore_1 := dk_seg dksX1_restore_0 24 rfl rfl
theorem dX1_restore_0 : decode cX1_restore 0 = .ok (.aload_n 0, 1) := dk_42 (dk_at dksX1_restore_0 0 rfl rfl)
theorem dX1_restore_1 : decode cX1_restore 1 = .ok (.getfield 395, 3) := dk_180 1 139 (dk_at dksX1_restore_0 1 rfl rfl)
theorem dX1_restore_4 : decode cX1_restore 4 = .ok (.ifnull 7, 3) := dk_198 0 7 (dk_at dksX1_restore_0 4 rfl rfl)
theorem dX1_restore_7 : decode cX1_restore 7 = .ok (.iconst 1, 1) := dk_4 (dk_at dksX1_restore_0 7 rfl rfl)
theorem dX1_restore_8 : decode cX1_restore 8 = .ok (.goto 4, 3) := dk_167 0 4 (dk_at dksX1_restore_0 8 rfl rfl)
theorem dX1_restore_11 : decode cX1_restore 11 = .ok (.iconst 0, 1) := dk_3 (dk_at dksX1_restore_0 11 rfl rfl)
theorem dX1_restore_12 : decode cX1_restore 12 = .ok (.invokestatic 347, 3) := dk_184 1 91 (dk_at dksX1_restore_0 12 rfl rfl)
theorem dX1_restore_15 : decode cX1_restore 15 = .ok (.aload_n 0, 1) := dk_42 (dk_at dksX1_restore_0 15 rfl rfl)
theorem dX1_restore_16 : decode cX1_restore 16 = .ok (.new 57, 3) := dk_187 0 57 (dk_at dksX1_restore_0 16 rfl rfl)
theorem dX1_restore_19 : decode cX1_restore 19 = .ok (.dup, 1) := dk_89 (dk_at dksX1_restore_0 19 rfl rfl)
theorem dX1_restore_20 : decode cX1_restore 20 = .ok (.aload_n 0, 1) := dk_42 (dk_at dksX1_restore_0 20 rfl rfl)
theorem dX1_restore_21 : decode cX1_restore 21 = .ok (.getfield 395, 3) := dk_180 1 139 (dk_at dksX1_restore_0 21 rfl rfl)
theorem dX1_restore_24 : decode cX1_restore 24 = .ok (.invokespecial 101, 3) := dk_183 0 101 (dk_at dksX1_restore_1 0 rfl rfl)
theorem dX1_restore_27 : decode cX1_restore 27 = .ok (.putfield 60, 3) := dk_181 0 60 (dk_at dksX1_restore_1 3 rfl rfl)
theorem dX1_restore_30 : decode cX1_restore 30 = .ok (.aload_n 0, 1) := dk_42 (dk_at dksX1_restore_1 6 rfl rfl)
theorem dX1_restore_31 : decode cX1_restore 31 = .ok (.getfield 67, 3) := dk_180 0 67 (dk_at dksX1_restore_1 7 rfl rfl)
theorem dX1_restore_34 : decode cX1_restore 34 = .ok (.invokevirtual 398, 3) := dk_182 1 142 (dk_at dksX1_restore_1 10 rfl rfl)
theorem dX1_restore_37 : decode cX1_restore 37 = .ok (.aload_n 0, 1) := dk_42 (dk_at dksX1_restore_1 13 rfl rfl)
theorem dX1_restore_38 : decode cX1_restore 38 = .ok (.getfield 60, 3) := dk_180 0 60 (dk_at dksX1_restore_1 14 rfl rfl)
theorem dX1_restore_41 : decode cX1_restore 41 = .ok (.invokevirtual 134, 3) := dk_182 0 134 (dk_at dksX1_restore_1 17 rfl rfl)
theorem dX1_restore_44 : decode cX1_restore 44 = .ok (.ireturn, 1) := dk_172 (dk_at dksX1_restore_1 20 rfl rfl)
def dkwX10_init_0 : List UInt8 := [42, 183, 0, 3, 42, 27, 181, 0, 9, 177]
abbrev dktX10_init_0 : List UInt8 := dkwX10_init_0 ++ []
theorem dksX10_init_0 : cX10_init.data.toList.drop 0 = dktX10_init_0 := by decide +kernel
theorem dX10_init_0 : decode cX10_init 0 = .ok (.aload_n 0, 1) := dk_42 (dk_at dksX10_init_0 0 rfl rfl)
theorem dX10_init_1 : decode cX10_init 1 = .ok (.invokespecial 3, 3) := dk_183 0 3 (dk_at dksX10_init_0 1 rfl rfl)
theorem dX10_init_4 : decode cX10_init 4 = .ok (.aload_n 0, 1) := dk_42 (dk_at dksX10_init_0 4 rfl rfl)
theorem dX10_init_5 : decode cX10_init 5 = .ok (.iload_n 1, 1) := dk_27 (dk_at dksX10_init_0 5 rfl rfl)
theorem dX10_init_6 : decode cX10_init 6 = .ok (.putfield 9, 3) := dk_181 0 9 (dk_at dksX10_init_0 6 rfl rfl)
theorem dX10_init_9 : decode cX10_init 9 = .ok (.return_, 1) := dk_177 (dk_at dksX10_init_0 9 rfl rfl)
def dkwX10_cost_0 : List UInt8 := [42, 180, 0, 9, 153, 0, 7, 8, 167, 0, 4, 3, 172]
abbrev dktX10_cost_0 : List UInt8 := dkwX10_cost_0 ++ []
theorem dksX10_cost_0 : cX10_cost.data.toList.drop 0 = dktX10_cost_0 := by decide +kernel
theorem dX10_cost_0 : decode cX10_cost 0 = .ok (.aload_n 0, 1) := dk_42 (dk_at dksX10_cost_0 0 rfl rfl)
theorem dX10_cost_1 : decode cX10_cost 1 = .ok (.getfield 9, 3) := dk_180 0 9 (dk_at dksX10_cost_0 1 rfl rfl)
theorem dX10_cost_4 : decode cX10_cost 4 = .ok (.ifCond .eq 7, 3) := dk_153 0 7 (dk_at dksX10_cost_0 4 rfl rfl)
theorem dX10_cost_7 : decode cX10_cost 7 = .ok (.iconst 5, 1) := dk_8 (dk_at dksX10_cost_0 7 rfl rfl)
theorem dX10_cost_8 : decode cX10_cost 8 = .ok (.goto 4, 3) := dk_167 0 4 (dk_at dksX10_cost_0 8 rfl rfl)
theorem dX10_cost_11 : decode cX10_cost 11 = .ok (.iconst 0, 1) := dk_3 (dk_at dksX10_cost_0 11 rfl rfl)
theorem dX10_cost_12 : decode cX10_cost 12 = .ok (.ireturn, 1) := dk_172 (dk_at dksX10_cost_0 12 rfl rfl)
theorem dX10_isNew_0 : decode cX10_isNew 0 = .ok (.aload_n 0, 1) := by decide +kernel
theorem dX10_isNew_1 : decode cX10_isNew 1 = .ok (.getfield 9, 3) := by decide +kernel
theorem dX10_isNew_4 : decode cX10_isNew 4 = .ok (.ireturn, 1) := by decide +kernel
theorem dX10_letter_0 : decode cX10_letter 0 = .ok (.bipush 97, 2) := by decide +kernel
theorem dX10_letter_2 : decode cX10_letter 2 = .ok (.ireturn, 1) := by decide +kernel
theorem dX11_init_0 : decode cX11_init 0 = .ok (.aload_n 0, 1) := by decide +kernel
theorem dX11_init_1 : decode cX11_init 1 = .ok (.invokespecial 1, 3) := by decide +kernel
theorem dX11_init_4 : decode cX11_init 4 = .ok (.return_, 1) := by decide +kernel
theorem dX11_cost_0 : decode cX11_cost 0 = .ok (.iconst 0, 1) := by decide +kernel
theorem dX11_cost_1 : decode cX11_cost 1 = .ok (.ireturn, 1) := by decide +kernel
theorem dX11_letter_0 : decode cX11_letter 0 = .ok (.bipush 113, 2) := by decide +kernel
theorem dX11_letter_2 : decode cX11_letter 2 = .ok (.ireturn, 1) := by decide +kernel
def dkwX12_between_1 : List UInt8 := [178, 0, 7, 176, 42, 43, 182, 0, 41, 9, 148, 155, 0, 9, 178, 0, 10, 167, 0, 6, 178, 0, 13, 176]
abbrev dktX12_between_1 : List UInt8 := dkwX12_between_1 ++ []
def dkwX12_between_0 : List UInt8 := [42, 43, 182, 0, 35, 65, 32, 9, 148, 153, 0, 19, 32, 9, 148, 158, 0, 9, 178, 0, 3, 167, 0, 6]
abbrev dktX12_between_0 : List UInt8 := dkwX12_between_0 ++ dktX12_between_1
theorem dksX12_between_0 : cX12_between.data.toList.drop 0 = dktX12_between_0 := by decide +kernel
theorem dksX12_between_1 : cX12_between.data.toList.drop 24 = dktX12_between_1 := dk_seg dksX12_between_0 24 rfl rfl
theorem dX12_between_0 : decode cX12_between 0 = .ok (.aload_n 0, 1) := dk_42 (dk_at dksX12_between_0 0 rfl rfl)
theorem dX12_between_1 : decode cX12_between 1 = .ok (.aload_n 1, 1) := dk_43 (dk_at dksX12_between_0 1 rfl rfl)
theorem dX12_between_2 : decode cX12_between 2 = .ok (.invokevirtual 35, 3) := dk_182 0 35 (dk_at dksX12_between_0 2 rfl rfl)
theorem dX12_between_5 : decode cX12_between 5 = .ok (.lstore_n 2, 1) := dk_65 (dk_at dksX12_between_0 5 rfl rfl)
theorem dX12_between_6 : decode cX12_between 6 = .ok (.lload_n 2, 1) := dk_32 (dk_at dksX12_between_0 6 rfl rfl)
theorem dX12_between_7 : decode cX12_between 7 = .ok (.lconst 0, 1) := dk_9 (dk_at dksX12_between_0 7 rfl rfl)
theorem dX12_between_8 : decode cX12_between 8 = .ok (.lcmp, 1) := dk_148 (dk_at dksX12_between_0 8 rfl rfl)
theorem dX12_between_9 : decode cX12_between 9 = .ok (.ifCond .eq 19, 3) := dk_153 0 19 (dk_at dksX12_between_0 9 rfl rfl)
theorem dX12_between_12 : decode cX12_between 12 = .ok (.lload_n 2, 1) := dk_32 (dk_at dksX12_between_0 12 rfl rfl)
theorem dX12_between_13 : decode cX12_between 13 = .ok (.lconst 0, 1) := dk_9 (dk_at dksX12_between_0 13 rfl rfl)
theorem dX12_between_14 : decode cX12_between 14 = .ok (.lcmp, 1) := dk_148 (dk_at dksX12_between_0 14 rfl rfl)
theorem dX12_between_15 : decode cX12_between 15 = .ok (.ifCond .le 9, 3) := dk_158 0 9 (dk_at dksX12_between_0 15 rfl rfl)
theorem dX12_between_18 : decode cX12_between 18 = .ok (.getstatic 3, 3) := dk_178 0 3 (dk_at dksX12_between_0 18 rfl rfl)
theorem dX12_between_21 : decode cX12_between 21 = .ok (.goto 6, 3) := dk_167 0 6 (dk_at dksX12_between_0 21 rfl rfl)
theorem dX12_between_24 : decode cX12_between 24 = .ok (.getstatic 7, 3) := dk_178 0 7 (dk_at dksX12_between_1 0 rfl rfl)
theorem dX12_between_27 : decode cX12_between 27 = .ok (.areturn, 1) := dk_176 (dk_at dksX12_between_1 3 rfl rfl)
theorem dX12_between_28 : decode cX12_between 28 = .ok (.aload_n 0, 1) := dk_42 (dk_at dksX12_between_1 4 rfl rfl)
theorem dX12_between_29 : decode cX12_between 29 = .ok (.aload_n 1, 1) := dk_43 (dk_at dksX12_between_1 5 rfl rfl)
theorem dX12_between_30 : decode cX12_between 30 = .ok (.invokevirtual 41, 3) := dk_182 0 41 (dk_at dksX12_between_1 6 rfl rfl)
theorem dX12_between_33 : decode cX12_between 33 = .ok (.lconst 0, 1) := dk_9 (dk_at dksX12_between_1 9 rfl rfl)
theorem dX12_between_34 : decode cX12_between 34 = .ok (.lcmp, 1) := dk_148 (dk_at dksX12_between_1 10 rfl rfl)
theorem dX12_between_35 : decode cX12_between 35 = .ok (.ifCond .lt 9, 3) := dk_155 0 9 (dk_at dksX12_between_1 11 rfl rfl)
theorem dX12_between_38 : decode cX12_between 38 = .ok (.getstatic 10, 3) := dk_178 0 10 (dk_at dksX12_between_1 14 rfl rfl)
theorem dX12_between_41 : decode cX12_between 41 = .ok (.goto 6, 3) := dk_167 0 6 (dk_at dksX12_between_1 17 rfl rfl)
theorem dX12_between_44 : decode cX12_between 44 = .ok (.getstatic 13, 3) := dk_178 0 13 (dk_at dksX12_between_1 20 rfl rfl)
theorem dX12_between_47 : decode cX12_between 47 = .ok (.areturn, 1) := dk_176 (dk_at dksX12_between_1 23 rfl rfl)
def dkwX13_init_0 : List UInt8 := [42, 43, 181, 0, 3, 42, 183, 0, 9, 177]
abbrev dktX13_init_0 : List UInt8 := dkwX13_init_0 ++ []
theorem dksX13_init_0 : cX13_init.data.toList.drop 0 = dktX13_init_0 := by decide +kernel
theorem dX13_init_0 : decode cX13_init 0 = .ok (.aload_n 0, 1) := dk_42 (dk_at dksX13_init_0 0 rfl rfl)
theorem dX13_init_1 : decode cX13_init 1 = .ok (.aload_n 1, 1) := dk_43 (dk_at dksX13_init_0 1 rfl rfl)
theorem dX13_init_2 : decode cX13_init 2 = .ok (.putfield 3, 3) := dk_181 0 3 (dk_at dksX13_init_0 2 rfl rfl)
theorem dX13_init_5 : decode cX13_init 5 = .ok (.aload_n 0, 1) := dk_42 (dk_at dksX13_init_0 5 rfl rfl)
theorem dX13_init_6 : decode cX13_init 6 = .ok (.invokespecial 9, 3) := dk_183 0 9 (dk_at dksX13_init_0 6 rfl rfl)
theorem dX13_init_9 : decode cX13_init 9 = .ok (.return_, 1) := dk_177 (dk_at dksX13_init_0 9 rfl rfl)
def dkwX13_program_2 : List UInt8 := [180, 0, 24, 160, 0, 7, 4, 167, 0, 4, 3, 182, 0, 49, 43, 176]
abbrev dktX13_program_2 : List UInt8 := dkwX13_program_2 ++ []
def dkwX13_program_1 : List UInt8 := [153, 0, 15, 43, 42, 182, 0, 169, 182, 0, 172, 61, 167, 255, 238, 42, 42, 180, 0, 17, 42, 180, 0, 3]
abbrev dktX13_program_1 : List UInt8 := dkwX13_program_1 ++ dktX13_program_2
def dkwX13_program_0 : List UInt8 := [187, 0, 166, 89, 183, 0, 168, 76, 43, 42, 182, 0, 169, 182, 0, 172, 61, 42, 16, 59, 182, 0, 45]
abbrev dktX13_program_0 : List UInt8 := dkwX13_program_0 ++ dktX13_program_1
theorem dksX13_program_0 : cX13_program.data.toList.drop 0 = dktX13_program_0 := by decide +kernel
theorem dksX13_program_1 : cX13_program.data.toList.drop 23 = dktX13_program_1 := dk_seg dksX13_program_0 23 rfl rfl
theorem dksX13_program_2 : cX13_program.data.toList.drop 47 = dktX13_program_2 := dk_seg dksX13_program_1 24 rfl rfl
theorem dX13_program_0 : decode cX13_program 0 = .ok (.new 166, 3) := dk_187 0 166 (dk_at dksX13_program_0 0 rfl rfl)
theorem dX13_program_3 : decode cX13_program 3 = .ok (.dup, 1) := dk_89 (dk_at dksX13_program_0 3 rfl rfl)
theorem dX13_program_4 : decode cX13_program 4 = .ok (.invokespecial 168, 3) := dk_183 0 168 (dk_at dksX13_program_0 4 rfl rfl)
theorem dX13_program_7 : decode cX13_program 7 = .ok (.astore_n 1, 1) := dk_76 (dk_at dksX13_program_0 7 rfl rfl)
theorem dX13_program_8 : decode cX13_program 8 = .ok (.aload_n 1, 1) := dk_43 (dk_at dksX13_program_0 8 rfl rfl)
theorem dX13_program_9 : decode cX13_program 9 = .ok (.aload_n 0, 1) := dk_42 (dk_at dksX13_program_0 9 rfl rfl)
theorem dX13_program_10 : decode cX13_program 10 = .ok (.invokevirtual 169, 3) := dk_182 0 169 (dk_at dksX13_program_0 10 rfl rfl)
theorem dX13_program_13 : decode cX13_program 13 = .ok (.invokevirtual 172, 3) := dk_182 0 172 (dk_at dksX13_program_0 13 rfl rfl)
theorem dX13_program_16 : decode cX13_program 16 = .ok (.istore_n 2, 1) := dk_61 (dk_at dksX13_program_0 16 rfl rfl)
theorem dX13_program_17 : decode cX13_program 17 = .ok (.aload_n 0, 1) := dk_42 (dk_at dksX13_program_0 17 rfl rfl)
theorem dX13_program_18 : decode cX13_program 18 = .ok (.bipush 59, 2) := dk_16 59 (dk_at dksX13_program_0 18 rfl rfl)
theorem dX13_program_20 : decode cX13_program 20 = .ok (.invokevirtual 45, 3) := dk_182 0 45 (dk_at dksX13_program_0 20 rfl rfl)
theorem dX13_program_23 : decode cX13_program 23 = .ok (.ifCond .eq 15, 3) := dk_153 0 15 (dk_at dksX13_program_1 0 rfl rfl)
theorem dX13_program_26 : decode cX13_program 26 = .ok (.aload_n 1, 1) := dk_43 (dk_at dksX13_program_1 3 rfl rfl)
theorem dX13_program_27 : decode cX13_program 27 = .ok (.aload_n 0, 1) := dk_42 (dk_at dksX13_program_1 4 rfl rfl)
theorem dX13_program_28 : decode cX13_program 28 = .ok (.invokevirtual 169, 3) := dk_182 0 169 (dk_at dksX13_program_1 5 rfl rfl)
theorem dX13_program_31 : decode cX13_program 31 = .ok (.invokevirtual 172, 3) := dk_182 0 172 (dk_at dksX13_program_1 8 rfl rfl)
theorem dX13_program_34 : decode cX13_program 34 = .ok (.istore_n 2, 1) := dk_61 (dk_at dksX13_program_1 11 rfl rfl)
theorem dX13_program_35 : decode cX13_program 35 = .ok (.goto (-18), 3) := dk_167 255 238 (dk_at dksX13_program_1 12 rfl rfl)
theorem dX13_program_38 : decode cX13_program 38 = .ok (.aload_n 0, 1) := dk_42 (dk_at dksX13_program_1 15 rfl rfl)
theorem dX13_program_39 : decode cX13_program 39 = .ok (.aload_n 0, 1) := dk_42 (dk_at dksX13_program_1 16 rfl rfl)
theorem dX13_program_40 : decode cX13_program 40 = .ok (.getfield 17, 3) := dk_180 0 17 (dk_at dksX13_program_1 17 rfl rfl)
theorem dX13_program_43 : decode cX13_program 43 = .ok (.aload_n 0, 1) := dk_42 (dk_at dksX13_program_1 20 rfl rfl)
theorem dX13_program_44 : decode cX13_program 44 = .ok (.getfield 3, 3) := dk_180 0 3 (dk_at dksX13_program_1 21 rfl rfl)
theorem dX13_program_47 : decode cX13_program 47 = .ok (.getfield 24, 3) := dk_180 0 24 (dk_at dksX13_program_2 0 rfl rfl)
theorem dX13_program_50 : decode cX13_program 50 = .ok (.if_icmp .ne 7, 3) := dk_160 0 7 (dk_at dksX13_program_2 3 rfl rfl)
theorem dX13_program_53 : decode cX13_program 53 = .ok (.iconst 1, 1) := dk_4 (dk_at dksX13_program_2 6 rfl rfl)
theorem dX13_program_54 : decode cX13_program 54 = .ok (.goto 4, 3) := dk_167 0 4 (dk_at dksX13_program_2 7 rfl rfl)
theorem dX13_program_57 : decode cX13_program 57 = .ok (.iconst 0, 1) := dk_3 (dk_at dksX13_program_2 10 rfl rfl)
theorem dX13_program_58 : decode cX13_program 58 = .ok (.invokevirtual 49, 3) := dk_182 0 49 (dk_at dksX13_program_2 11 rfl rfl)
theorem dX13_program_61 : decode cX13_program 61 = .ok (.aload_n 1, 1) := dk_43 (dk_at dksX13_program_2 14 rfl rfl)
theorem dX13_program_62 : decode cX13_program 62 = .ok (.areturn, 1) := dk_176 (dk_at dksX13_program_2 15 rfl rfl)
def dkwX13_command_4 : List UInt8 := [182, 0, 157, 167, 0, 14, 42, 182, 0, 160, 167, 0, 7, 42, 182, 0, 163, 176]
abbrev dktX13_command_4 : List UInt8 := dkwX13_command_4 ++ []
def dkwX13_command_3 : List UInt8 := [42, 182, 0, 147, 167, 0, 35, 42, 182, 0, 151, 167, 0, 28, 42, 182, 0, 154, 167, 0, 21, 42]
abbrev dktX13_command_3 : List UInt8 := dkwX13_command_3 ++ dktX13_command_4
def dkwX13_command_2 : List UInt8 := [171, 0, 0, 0, 84, 0, 0, 0, 5, 0, 0, 0, 99, 0, 0, 0, 63, 0, 0, 0, 108, 0, 0, 0, 77, 0, 0, 0, 109, 0, 0, 0, 70, 0, 0, 0, 112, 0, 0, 0, 49, 0, 0, 0, 116, 0, 0, 0, 56]
abbrev dktX13_command_2 : List UInt8 := dkwX13_command_2 ++ dktX13_command_3
def dkwX13_command_1 : List UInt8 := [4, 167, 0, 4, 3, 182, 0, 49, 42, 89, 180, 0, 17, 4, 96, 181, 0, 17, 27]
abbrev dktX13_command_1 : List UInt8 := dkwX13_command_1 ++ dktX13_command_2
def dkwX13_command_0 : List UInt8 := [42, 42, 180, 0, 17, 182, 0, 31, 60, 42, 27, 2, 159, 0, 16, 18, 142, 27, 182, 0, 144, 155, 0, 7]
abbrev dktX13_command_0 : List UInt8 := dkwX13_command_0 ++ dktX13_command_1
theorem dksX13_command_0 : cX13_command.data.toList.drop 0 = dktX13_command_0 := by decide +kernel
theorem dksX13_command_1 : cX13_command.data.toList.drop 24 = dktX13_command_1 := dk_seg dksX13_command_0 24 rfl rfl
theorem dksX13_command_2 : cX13_command.data.toList.drop 43 = dktX13_command_2 := dk_seg dksX13_command_1 19 rfl rfl
theorem dksX13_command_3 : cX13_command.data.toList.drop 92 = dktX13_command_3 := dk_seg dksX13_command_2 49 rfl rfl
theorem dksX13_command_4 : cX13_command.data.toList.drop 114 = dktX13_command_4 := dk_seg dksX13_command_3 22 rfl rfl
theorem dX13_command_0 : decode cX13_command 0 = .ok (.aload_n 0, 1) := dk_42 (dk_at dksX13_command_0 0 rfl rfl)
theorem dX13_command_1 : decode cX13_command 1 = .ok (.aload_n 0, 1) := dk_42 (dk_at dksX13_command_0 1 rfl rfl)
theorem dX13_command_2 : decode cX13_command 2 = .ok (.getfield 17, 3) := dk_180 0 17 (dk_at dksX13_command_0 2 rfl rfl)
theorem dX13_command_5 : decode cX13_command 5 = .ok (.invokevirtual 31, 3) := dk_182 0 31 (dk_at dksX13_command_0 5 rfl rfl)
theorem dX13_command_8 : decode cX13_command 8 = .ok (.istore_n 1, 1) := dk_60 (dk_at dksX13_command_0 8 rfl rfl)
theorem dX13_command_9 : decode cX13_command 9 = .ok (.aload_n 0, 1) := dk_42 (dk_at dksX13_command_0 9 rfl rfl)
theorem dX13_command_10 : decode cX13_command 10 = .ok (.iload_n 1, 1) := dk_27 (dk_at dksX13_command_0 10 rfl rfl)
theorem dX13_command_11 : decode cX13_command 11 = .ok (.iconst (-1), 1) := dk_2 (dk_at dksX13_command_0 11 rfl rfl)
theorem dX13_command_12 : decode cX13_command 12 = .ok (.if_icmp .eq 16, 3) := dk_159 0 16 (dk_at dksX13_command_0 12 rfl rfl)
theorem dX13_command_15 : decode cX13_command 15 = .ok (.ldc 142, 2) := dk_18 142 (dk_at dksX13_command_0 15 rfl rfl)
theorem dX13_command_17 : decode cX13_command 17 = .ok (.iload_n 1, 1) := dk_27 (dk_at dksX13_command_0 17 rfl rfl)
theorem dX13_command_18 : decode cX13_command 18 = .ok (.invokevirtual 144, 3) := dk_182 0 144 (dk_at dksX13_command_0 18 rfl rfl)
theorem dX13_command_21 : decode cX13_command 21 = .ok (.ifCond .lt 7, 3) := dk_155 0 7 (dk_at dksX13_command_0 21 rfl rfl)
theorem dX13_command_24 : decode cX13_command 24 = .ok (.iconst 1, 1) := dk_4 (dk_at dksX13_command_1 0 rfl rfl)
theorem dX13_command_25 : decode cX13_command 25 = .ok (.goto 4, 3) := dk_167 0 4 (dk_at dksX13_command_1 1 rfl rfl)
theorem dX13_command_28 : decode cX13_command 28 = .ok (.iconst 0, 1) := dk_3 (dk_at dksX13_command_1 4 rfl rfl)
theorem dX13_command_29 : decode cX13_command 29 = .ok (.invokevirtual 49, 3) := dk_182 0 49 (dk_at dksX13_command_1 5 rfl rfl)
theorem dX13_command_32 : decode cX13_command 32 = .ok (.aload_n 0, 1) := dk_42 (dk_at dksX13_command_1 8 rfl rfl)
theorem dX13_command_33 : decode cX13_command 33 = .ok (.dup, 1) := dk_89 (dk_at dksX13_command_1 9 rfl rfl)
theorem dX13_command_34 : decode cX13_command 34 = .ok (.getfield 17, 3) := dk_180 0 17 (dk_at dksX13_command_1 10 rfl rfl)
theorem dX13_command_37 : decode cX13_command 37 = .ok (.iconst 1, 1) := dk_4 (dk_at dksX13_command_1 13 rfl rfl)
theorem dX13_command_38 : decode cX13_command 38 = .ok (.iadd, 1) := dk_96 (dk_at dksX13_command_1 14 rfl rfl)
theorem dX13_command_39 : decode cX13_command 39 = .ok (.putfield 17, 3) := dk_181 0 17 (dk_at dksX13_command_1 15 rfl rfl)
theorem dX13_command_42 : decode cX13_command 42 = .ok (.iload_n 1, 1) := dk_27 (dk_at dksX13_command_1 18 rfl rfl)
theorem dX13_command_43 : decode cX13_command 43 = .ok (.lookupswitch 84 #[(99, 63), (108, 77), (109, 70), (112, 49), (116, 56)], 49) := by decide +kernel
theorem dX13_command_92 : decode cX13_command 92 = .ok (.aload_n 0, 1) := dk_42 (dk_at dksX13_command_3 0 rfl rfl)
theorem dX13_command_93 : decode cX13_command 93 = .ok (.invokevirtual 147, 3) := dk_182 0 147 (dk_at dksX13_command_3 1 rfl rfl)
theorem dX13_command_96 : decode cX13_command 96 = .ok (.goto 35, 3) := dk_167 0 35 (dk_at dksX13_command_3 4 rfl rfl)
theorem dX13_command_99 : decode cX13_command 99 = .ok (.aload_n 0, 1) := dk_42 (dk_at dksX13_command_3 7 rfl rfl)
theorem dX13_command_100 : decode cX13_command 100 = .ok (.invokevirtual 151, 3) := dk_182 0 151 (dk_at dksX13_command_3 8 rfl rfl)
theorem dX13_command_103 : decode cX13_command 103 = .ok (.goto 28, 3) := dk_167 0 28 (dk_at dksX13_command_3 11 rfl rfl)
theorem dX13_command_106 : decode cX13_command 106 = .ok (.aload_n 0, 1) := dk_42 (dk_at dksX13_command_3 14 rfl rfl)
theorem dX13_command_107 : decode cX13_command 107 = .ok (.invokevirtual 154, 3) := dk_182 0 154 (dk_at dksX13_command_3 15 rfl rfl)
theorem dX13_command_110 : decode cX13_command 110 = .ok (.goto 21, 3) := dk_167 0 21 (dk_at dksX13_command_3 18 rfl rfl)
theorem dX13_command_113 : decode cX13_command 113 = .ok (.aload_n 0, 1) := dk_42 (dk_at dksX13_command_3 21 rfl rfl)
theorem dX13_command_114 : decode cX13_command 114 = .ok (.invokevirtual 157, 3) := dk_182 0 157 (dk_at dksX13_command_4 0 rfl rfl)
theorem dX13_command_117 : decode cX13_command 117 = .ok (.goto 14, 3) := dk_167 0 14 (dk_at dksX13_command_4 3 rfl rfl)
theorem dX13_command_120 : decode cX13_command 120 = .ok (.aload_n 0, 1) := dk_42 (dk_at dksX13_command_4 6 rfl rfl)
theorem dX13_command_121 : decode cX13_command 121 = .ok (.invokevirtual 160, 3) := dk_182 0 160 (dk_at dksX13_command_4 7 rfl rfl)
theorem dX13_command_124 : decode cX13_command 124 = .ok (.goto 7, 3) := dk_167 0 7 (dk_at dksX13_command_4 10 rfl rfl)
theorem dX13_command_127 : decode cX13_command 127 = .ok (.aload_n 0, 1) := dk_42 (dk_at dksX13_command_4 13 rfl rfl)
theorem dX13_command_128 : decode cX13_command 128 = .ok (.invokevirtual 163, 3) := dk_182 0 163 (dk_at dksX13_command_4 14 rfl rfl)
theorem dX13_command_131 : decode cX13_command 131 = .ok (.areturn, 1) := dk_176 (dk_at dksX13_command_4 17 rfl rfl)
def dkwX13_peekAt_1 : List UInt8 := [172]
abbrev dktX13_peekAt_1 : List UInt8 := dkwX13_peekAt_1 ++ []
def dkwX13_peekAt_0 : List UInt8 := [27, 42, 180, 0, 3, 180, 0, 24, 162, 0, 15, 42, 180, 0, 3, 180, 0, 27, 27, 52, 167, 0, 4, 2]
abbrev dktX13_peekAt_0 : List UInt8 := dkwX13_peekAt_0 ++ dktX13_peekAt_1
theorem dksX13_peekAt_0 : cX13_peekAt.data.toList.drop 0 = dktX13_peekAt_0 := by decide +kernel
theorem dksX13_peekAt_1 : cX13_peekAt.data.toList.drop 24 = dktX13_peekAt_1 := dk_seg dksX13_peekAt_0 24 rfl rfl
theorem dX13_peekAt_0 : decode cX13_peekAt 0 = .ok (.iload_n 1, 1) := dk_27 (dk_at dksX13_peekAt_0 0 rfl rfl)
theorem dX13_peekAt_1 : decode cX13_peekAt 1 = .ok (.aload_n 0, 1) := dk_42 (dk_at dksX13_peekAt_0 1 rfl rfl)
theorem dX13_peekAt_2 : decode cX13_peekAt 2 = .ok (.getfield 3, 3) := dk_180 0 3 (dk_at dksX13_peekAt_0 2 rfl rfl)
theorem dX13_peekAt_5 : decode cX13_peekAt 5 = .ok (.getfield 24, 3) := dk_180 0 24 (dk_at dksX13_peekAt_0 5 rfl rfl)
theorem dX13_peekAt_8 : decode cX13_peekAt 8 = .ok (.if_icmp .ge 15, 3) := dk_162 0 15 (dk_at dksX13_peekAt_0 8 rfl rfl)
theorem dX13_peekAt_11 : decode cX13_peekAt 11 = .ok (.aload_n 0, 1) := dk_42 (dk_at dksX13_peekAt_0 11 rfl rfl)
theorem dX13_peekAt_12 : decode cX13_peekAt 12 = .ok (.getfield 3, 3) := dk_180 0 3 (dk_at dksX13_peekAt_0 12 rfl rfl)
theorem dX13_peekAt_15 : decode cX13_peekAt 15 = .ok (.getfield 27, 3) := dk_180 0 27 (dk_at dksX13_peekAt_0 15 rfl rfl)
theorem dX13_peekAt_18 : decode cX13_peekAt 18 = .ok (.iload_n 1, 1) := dk_27 (dk_at dksX13_peekAt_0 18 rfl rfl)
theorem dX13_peekAt_19 : decode cX13_peekAt 19 = .ok (.caload, 1) := dk_52 (dk_at dksX13_peekAt_0 19 rfl rfl)
theorem dX13_peekAt_20 : decode cX13_peekAt 20 = .ok (.goto 4, 3) := dk_167 0 4 (dk_at dksX13_peekAt_0 20 rfl rfl)
theorem dX13_peekAt_23 : decode cX13_peekAt 23 = .ok (.iconst (-1), 1) := dk_2 (dk_at dksX13_peekAt_0 23 rfl rfl)
theorem dX13_peekAt_24 : decode cX13_peekAt 24 = .ok (.ireturn, 1) := dk_172 (dk_at dksX13_peekAt_1 0 rfl rfl)
def dkwX13_require_0 : List UInt8 := [27, 154, 0, 15, 187, 0, 15, 89, 42, 180, 0, 17, 183, 0, 21, 191, 177]
abbrev dktX13_require_0 : List UInt8 := dkwX13_require_0 ++ []
theorem dksX13_require_0 : cX13_require.data.toList.drop 0 = dktX13_require_0 := by decide +kernel
theorem dX13_require_0 : decode cX13_require 0 = .ok (.iload_n 1, 1) := dk_27 (dk_at dksX13_require_0 0 rfl rfl)
theorem dX13_require_1 : decode cX13_require 1 = .ok (.ifCond .ne 15, 3) := dk_154 0 15 (dk_at dksX13_require_0 1 rfl rfl)
theorem dX13_require_4 : decode cX13_require 4 = .ok (.new 15, 3) := dk_187 0 15 (dk_at dksX13_require_0 4 rfl rfl)
theorem dX13_require_7 : decode cX13_require 7 = .ok (.dup, 1) := dk_89 (dk_at dksX13_require_0 7 rfl rfl)
theorem dX13_require_8 : decode cX13_require 8 = .ok (.aload_n 0, 1) := dk_42 (dk_at dksX13_require_0 8 rfl rfl)
theorem dX13_require_9 : decode cX13_require 9 = .ok (.getfield 17, 3) := dk_180 0 17 (dk_at dksX13_require_0 9 rfl rfl)
theorem dX13_require_12 : decode cX13_require 12 = .ok (.invokespecial 21, 3) := dk_183 0 21 (dk_at dksX13_require_0 12 rfl rfl)
theorem dX13_require_15 : decode cX13_require 15 = .ok (.athrow, 1) := dk_191 (dk_at dksX13_require_0 15 rfl rfl)
theorem dX13_require_16 : decode cX13_require 16 = .ok (.return_, 1) := dk_177 (dk_at dksX13_require_0 16 rfl rfl)
def dkwX13_pointed_1 : List UInt8 := [62, 187, 0, 92, 89, 27, 28, 29, 186, 0, 94, 0, 0, 183, 0, 98, 176]
abbrev dktX13_pointed_1 : List UInt8 := dkwX13_pointed_1 ++ []
def dkwX13_pointed_0 : List UInt8 := [42, 18, 84, 182, 0, 86, 60, 42, 18, 90, 182, 0, 86, 61, 42, 18, 90, 182, 0, 64, 42, 182, 0, 61]
abbrev dktX13_pointed_0 : List UInt8 := dkwX13_pointed_0 ++ dktX13_pointed_1
theorem dksX13_pointed_0 : cX13_pointed.data.toList.drop 0 = dktX13_pointed_0 := by decide +kernel
theorem dksX13_pointed_1 : cX13_pointed.data.toList.drop 24 = dktX13_pointed_1 := dk_seg dksX13_pointed_0 24 rfl rfl
theorem dX13_pointed_0 : decode cX13_pointed 0 = .ok (.aload_n 0, 1) := dk_42 (dk_at dksX13_pointed_0 0 rfl rfl)
theorem dX13_pointed_1 : decode cX13_pointed 1 = .ok (.ldc 84, 2) := dk_18 84 (dk_at dksX13_pointed_0 1 rfl rfl)
theorem dX13_pointed_3 : decode cX13_pointed 3 = .ok (.invokevirtual 86, 3) := dk_182 0 86 (dk_at dksX13_pointed_0 3 rfl rfl)
theorem dX13_pointed_6 : decode cX13_pointed 6 = .ok (.istore_n 1, 1) := dk_60 (dk_at dksX13_pointed_0 6 rfl rfl)
theorem dX13_pointed_7 : decode cX13_pointed 7 = .ok (.aload_n 0, 1) := dk_42 (dk_at dksX13_pointed_0 7 rfl rfl)
theorem dX13_pointed_8 : decode cX13_pointed 8 = .ok (.ldc 90, 2) := dk_18 90 (dk_at dksX13_pointed_0 8 rfl rfl)
theorem dX13_pointed_10 : decode cX13_pointed 10 = .ok (.invokevirtual 86, 3) := dk_182 0 86 (dk_at dksX13_pointed_0 10 rfl rfl)
theorem dX13_pointed_13 : decode cX13_pointed 13 = .ok (.istore_n 2, 1) := dk_61 (dk_at dksX13_pointed_0 13 rfl rfl)
theorem dX13_pointed_14 : decode cX13_pointed 14 = .ok (.aload_n 0, 1) := dk_42 (dk_at dksX13_pointed_0 14 rfl rfl)
theorem dX13_pointed_15 : decode cX13_pointed 15 = .ok (.ldc 90, 2) := dk_18 90 (dk_at dksX13_pointed_0 15 rfl rfl)
theorem dX13_pointed_17 : decode cX13_pointed 17 = .ok (.invokevirtual 64, 3) := dk_182 0 64 (dk_at dksX13_pointed_0 17 rfl rfl)
theorem dX13_pointed_20 : decode cX13_pointed 20 = .ok (.aload_n 0, 1) := dk_42 (dk_at dksX13_pointed_0 20 rfl rfl)
theorem dX13_pointed_21 : decode cX13_pointed 21 = .ok (.invokevirtual 61, 3) := dk_182 0 61 (dk_at dksX13_pointed_0 21 rfl rfl)
theorem dX13_pointed_24 : decode cX13_pointed 24 = .ok (.istore_n 3, 1) := dk_62 (dk_at dksX13_pointed_1 0 rfl rfl)
theorem dX13_pointed_25 : decode cX13_pointed 25 = .ok (.new 92, 3) := dk_187 0 92 (dk_at dksX13_pointed_1 1 rfl rfl)
theorem dX13_pointed_28 : decode cX13_pointed 28 = .ok (.dup, 1) := dk_89 (dk_at dksX13_pointed_1 4 rfl rfl)
theorem dX13_pointed_29 : decode cX13_pointed 29 = .ok (.iload_n 1, 1) := dk_27 (dk_at dksX13_pointed_1 5 rfl rfl)
theorem dX13_pointed_30 : decode cX13_pointed 30 = .ok (.iload_n 2, 1) := dk_28 (dk_at dksX13_pointed_1 6 rfl rfl)
theorem dX13_pointed_31 : decode cX13_pointed 31 = .ok (.iload_n 3, 1) := dk_29 (dk_at dksX13_pointed_1 7 rfl rfl)
theorem dX13_pointed_32 : decode cX13_pointed 32 = .ok (.invokedynamic 94, 5) := by decide +kernel
theorem dX13_pointed_37 : decode cX13_pointed 37 = .ok (.invokespecial 98, 3) := dk_183 0 98 (dk_at dksX13_pointed_1 13 rfl rfl)
theorem dX13_pointed_40 : decode cX13_pointed 40 = .ok (.areturn, 1) := dk_176 (dk_at dksX13_pointed_1 16 rfl rfl)
def dkwX13_numberAfter_0 : List UInt8 := [42, 43, 182, 0, 64, 42, 182, 0, 68, 172]
abbrev dktX13_numberAfter_0 : List UInt8 := dkwX13_numberAfter_0 ++ []
theorem dksX13_numberAfter_0 : cX13_numberAfter.data.toList.drop 0 = dktX13_numberAfter_0 := by decide +kernel
theorem dX13_numberAfter_0 : decode cX13_numberAfter 0 = .ok (.aload_n 0, 1) := dk_42 (dk_at dksX13_numberAfter_0 0 rfl rfl)
theorem dX13_numberAfter_1 : decode cX13_numberAfter 1 = .ok (.aload_n 1, 1) := dk_43 (dk_at dksX13_numberAfter_0 1 rfl rfl)
theorem dX13_numberAfter_2 : decode cX13_numberAfter 2 = .ok (.invokevirtual 64, 3) := dk_182 0 64 (dk_at dksX13_numberAfter_0 2 rfl rfl)
theorem dX13_numberAfter_5 : decode cX13_numberAfter 5 = .ok (.aload_n 0, 1) := dk_42 (dk_at dksX13_numberAfter_0 5 rfl rfl)
theorem dX13_numberAfter_6 : decode cX13_numberAfter 6 = .ok (.invokevirtual 68, 3) := dk_182 0 68 (dk_at dksX13_numberAfter_0 6 rfl rfl)
theorem dX13_numberAfter_9 : decode cX13_numberAfter 9 = .ok (.ireturn, 1) := dk_172 (dk_at dksX13_numberAfter_0 9 rfl rfl)
def dkwX13_expect_1 : List UInt8 := [132, 2, 1, 167, 255, 232, 177]
abbrev dktX13_expect_1 : List UInt8 := dkwX13_expect_1 ++ []
def dkwX13_expect_0 : List UInt8 := [3, 61, 28, 43, 182, 0, 35, 162, 0, 22, 42, 42, 43, 28, 182, 0, 41, 182, 0, 45, 182, 0, 49]
abbrev dktX13_expect_0 : List UInt8 := dkwX13_expect_0 ++ dktX13_expect_1
theorem dksX13_expect_0 : cX13_expect.data.toList.drop 0 = dktX13_expect_0 := by decide +kernel
theorem dksX13_expect_1 : cX13_expect.data.toList.drop 23 = dktX13_expect_1 := dk_seg dksX13_expect_0 23 rfl rfl
theorem dX13_expect_0 : decode cX13_expect 0 = .ok (.iconst 0, 1) := dk_3 (dk_at dksX13_expect_0 0 rfl rfl)
theorem dX13_expect_1 : decode cX13_expect 1 = .ok (.istore_n 2, 1) := dk_61 (dk_at dksX13_expect_0 1 rfl rfl)
theorem dX13_expect_2 : decode cX13_expect 2 = .ok (.iload_n 2, 1) := dk_28 (dk_at dksX13_expect_0 2 rfl rfl)
theorem dX13_expect_3 : decode cX13_expect 3 = .ok (.aload_n 1, 1) := dk_43 (dk_at dksX13_expect_0 3 rfl rfl)
theorem dX13_expect_4 : decode cX13_expect 4 = .ok (.invokevirtual 35, 3) := dk_182 0 35 (dk_at dksX13_expect_0 4 rfl rfl)
theorem dX13_expect_7 : decode cX13_expect 7 = .ok (.if_icmp .ge 22, 3) := dk_162 0 22 (dk_at dksX13_expect_0 7 rfl rfl)
theorem dX13_expect_10 : decode cX13_expect 10 = .ok (.aload_n 0, 1) := dk_42 (dk_at dksX13_expect_0 10 rfl rfl)
theorem dX13_expect_11 : decode cX13_expect 11 = .ok (.aload_n 0, 1) := dk_42 (dk_at dksX13_expect_0 11 rfl rfl)
theorem dX13_expect_12 : decode cX13_expect 12 = .ok (.aload_n 1, 1) := dk_43 (dk_at dksX13_expect_0 12 rfl rfl)
theorem dX13_expect_13 : decode cX13_expect 13 = .ok (.iload_n 2, 1) := dk_28 (dk_at dksX13_expect_0 13 rfl rfl)
theorem dX13_expect_14 : decode cX13_expect 14 = .ok (.invokevirtual 41, 3) := dk_182 0 41 (dk_at dksX13_expect_0 14 rfl rfl)
theorem dX13_expect_17 : decode cX13_expect 17 = .ok (.invokevirtual 45, 3) := dk_182 0 45 (dk_at dksX13_expect_0 17 rfl rfl)
theorem dX13_expect_20 : decode cX13_expect 20 = .ok (.invokevirtual 49, 3) := dk_182 0 49 (dk_at dksX13_expect_0 20 rfl rfl)
theorem dX13_expect_23 : decode cX13_expect 23 = .ok (.iinc 2 1, 3) := dk_132 2 1 (dk_at dksX13_expect_1 0 rfl rfl)
theorem dX13_expect_26 : decode cX13_expect 26 = .ok (.goto (-24), 3) := dk_167 255 232 (dk_at dksX13_expect_1 3 rfl rfl)
theorem dX13_expect_29 : decode cX13_expect 29 = .ok (.return_, 1) := dk_177 (dk_at dksX13_expect_1 6 rfl rfl)
def dkwX13_accept_1 : List UInt8 := [153, 0, 7, 4, 167, 0, 4, 3, 96, 181, 0, 17, 28, 172]
abbrev dktX13_accept_1 : List UInt8 := dkwX13_accept_1 ++ []
def dkwX13_accept_0 : List UInt8 := [42, 42, 180, 0, 17, 182, 0, 31, 27, 160, 0, 7, 4, 167, 0, 4, 3, 61, 42, 89, 180, 0, 17, 28]
abbrev dktX13_accept_0 : List UInt8 := dkwX13_accept_0 ++ dktX13_accept_1
theorem dksX13_accept_0 : cX13_accept.data.toList.drop 0 = dktX13_accept_0 := by decide +kernel
theorem dksX13_accept_1 : cX13_accept.data.toList.drop 24 = dktX13_accept_1 := dk_seg dksX13_accept_0 24 rfl rfl
theorem dX13_accept_0 : decode cX13_accept 0 = .ok (.aload_n 0, 1) := dk_42 (dk_at dksX13_accept_0 0 rfl rfl)
theorem dX13_accept_1 : decode cX13_accept 1 = .ok (.aload_n 0, 1) := dk_42 (dk_at dksX13_accept_0 1 rfl rfl)
theorem dX13_accept_2 : decode cX13_accept 2 = .ok (.getfield 17, 3) := dk_180 0 17 (dk_at dksX13_accept_0 2 rfl rfl)
theorem dX13_accept_5 : decode cX13_accept 5 = .ok (.invokevirtual 31, 3) := dk_182 0 31 (dk_at dksX13_accept_0 5 rfl rfl)
theorem dX13_accept_8 : decode cX13_accept 8 = .ok (.iload_n 1, 1) := dk_27 (dk_at dksX13_accept_0 8 rfl rfl)
theorem dX13_accept_9 : decode cX13_accept 9 = .ok (.if_icmp .ne 7, 3) := dk_160 0 7 (dk_at dksX13_accept_0 9 rfl rfl)
theorem dX13_accept_12 : decode cX13_accept 12 = .ok (.iconst 1, 1) := dk_4 (dk_at dksX13_accept_0 12 rfl rfl)
theorem dX13_accept_13 : decode cX13_accept 13 = .ok (.goto 4, 3) := dk_167 0 4 (dk_at dksX13_accept_0 13 rfl rfl)
theorem dX13_accept_16 : decode cX13_accept 16 = .ok (.iconst 0, 1) := dk_3 (dk_at dksX13_accept_0 16 rfl rfl)
theorem dX13_accept_17 : decode cX13_accept 17 = .ok (.istore_n 2, 1) := dk_61 (dk_at dksX13_accept_0 17 rfl rfl)
theorem dX13_accept_18 : decode cX13_accept 18 = .ok (.aload_n 0, 1) := dk_42 (dk_at dksX13_accept_0 18 rfl rfl)
theorem dX13_accept_19 : decode cX13_accept 19 = .ok (.dup, 1) := dk_89 (dk_at dksX13_accept_0 19 rfl rfl)
theorem dX13_accept_20 : decode cX13_accept 20 = .ok (.getfield 17, 3) := dk_180 0 17 (dk_at dksX13_accept_0 20 rfl rfl)
theorem dX13_accept_23 : decode cX13_accept 23 = .ok (.iload_n 2, 1) := dk_28 (dk_at dksX13_accept_0 23 rfl rfl)
theorem dX13_accept_24 : decode cX13_accept 24 = .ok (.ifCond .eq 7, 3) := dk_153 0 7 (dk_at dksX13_accept_1 0 rfl rfl)
theorem dX13_accept_27 : decode cX13_accept 27 = .ok (.iconst 1, 1) := dk_4 (dk_at dksX13_accept_1 3 rfl rfl)
theorem dX13_accept_28 : decode cX13_accept 28 = .ok (.goto 4, 3) := dk_167 0 4 (dk_at dksX13_accept_1 4 rfl rfl)
theorem dX13_accept_31 : decode cX13_accept 31 = .ok (.iconst 0, 1) := dk_3 (dk_at dksX13_accept_1 7 rfl rfl)
theorem dX13_accept_32 : decode cX13_accept 32 = .ok (.iadd, 1) := dk_96 (dk_at dksX13_accept_1 8 rfl rfl)
theorem dX13_accept_33 : decode cX13_accept 33 = .ok (.putfield 17, 3) := dk_181 0 17 (dk_at dksX13_accept_1 9 rfl rfl)
theorem dX13_accept_36 : decode cX13_accept 36 = .ok (.iload_n 2, 1) := dk_28 (dk_at dksX13_accept_1 12 rfl rfl)
theorem dX13_accept_37 : decode cX13_accept 37 = .ok (.ireturn, 1) := dk_172 (dk_at dksX13_accept_1 13 rfl rfl)
def dkwX13_number_1 : List UInt8 := [182, 0, 61, 96, 60, 132, 2, 1, 167, 255, 231, 27, 172]
abbrev dktX13_number_1 : List UInt8 := dkwX13_number_1 ++ []
def dkwX13_number_0 : List UInt8 := [42, 182, 0, 61, 60, 4, 61, 28, 6, 162, 0, 26, 42, 182, 0, 57, 153, 0, 19, 16, 10, 27, 104, 42]
abbrev dktX13_number_0 : List UInt8 := dkwX13_number_0 ++ dktX13_number_1
theorem dksX13_number_0 : cX13_number.data.toList.drop 0 = dktX13_number_0 := by decide +kernel
theorem dksX13_number_1 : cX13_number.data.toList.drop 24 = dktX13_number_1 := dk_seg dksX13_number_0 24 rfl rfl
theorem dX13_number_0 : decode cX13_number 0 = .ok (.aload_n 0, 1) := dk_42 (dk_at dksX13_number_0 0 rfl rfl)
theorem dX13_number_1 : decode cX13_number 1 = .ok (.invokevirtual 61, 3) := dk_182 0 61 (dk_at dksX13_number_0 1 rfl rfl)
theorem dX13_number_4 : decode cX13_number 4 = .ok (.istore_n 1, 1) := dk_60 (dk_at dksX13_number_0 4 rfl rfl)
theorem dX13_number_5 : decode cX13_number 5 = .ok (.iconst 1, 1) := dk_4 (dk_at dksX13_number_0 5 rfl rfl)
theorem dX13_number_6 : decode cX13_number 6 = .ok (.istore_n 2, 1) := dk_61 (dk_at dksX13_number_0 6 rfl rfl)
theorem dX13_number_7 : decode cX13_number 7 = .ok (.iload_n 2, 1) := dk_28 (dk_at dksX13_number_0 7 rfl rfl)
theorem dX13_number_8 : decode cX13_number 8 = .ok (.iconst 3, 1) := dk_6 (dk_at dksX13_number_0 8 rfl rfl)
theorem dX13_number_9 : decode cX13_number 9 = .ok (.if_icmp .ge 26, 3) := dk_162 0 26 (dk_at dksX13_number_0 9 rfl rfl)
theorem dX13_number_12 : decode cX13_number 12 = .ok (.aload_n 0, 1) := dk_42 (dk_at dksX13_number_0 12 rfl rfl)
theorem dX13_number_13 : decode cX13_number 13 = .ok (.invokevirtual 57, 3) := dk_182 0 57 (dk_at dksX13_number_0 13 rfl rfl)
theorem dX13_number_16 : decode cX13_number 16 = .ok (.ifCond .eq 19, 3) := dk_153 0 19 (dk_at dksX13_number_0 16 rfl rfl)
theorem dX13_number_19 : decode cX13_number 19 = .ok (.bipush 10, 2) := dk_16 10 (dk_at dksX13_number_0 19 rfl rfl)
theorem dX13_number_21 : decode cX13_number 21 = .ok (.iload_n 1, 1) := dk_27 (dk_at dksX13_number_0 21 rfl rfl)
theorem dX13_number_22 : decode cX13_number 22 = .ok (.imul, 1) := dk_104 (dk_at dksX13_number_0 22 rfl rfl)
theorem dX13_number_23 : decode cX13_number 23 = .ok (.aload_n 0, 1) := dk_42 (dk_at dksX13_number_0 23 rfl rfl)
theorem dX13_number_24 : decode cX13_number 24 = .ok (.invokevirtual 61, 3) := dk_182 0 61 (dk_at dksX13_number_1 0 rfl rfl)
theorem dX13_number_27 : decode cX13_number 27 = .ok (.iadd, 1) := dk_96 (dk_at dksX13_number_1 3 rfl rfl)
theorem dX13_number_28 : decode cX13_number 28 = .ok (.istore_n 1, 1) := dk_60 (dk_at dksX13_number_1 4 rfl rfl)
theorem dX13_number_29 : decode cX13_number 29 = .ok (.iinc 2 1, 3) := dk_132 2 1 (dk_at dksX13_number_1 5 rfl rfl)
theorem dX13_number_32 : decode cX13_number 32 = .ok (.goto (-25), 3) := dk_167 255 231 (dk_at dksX13_number_1 8 rfl rfl)
theorem dX13_number_35 : decode cX13_number 35 = .ok (.iload_n 1, 1) := dk_27 (dk_at dksX13_number_1 11 rfl rfl)
theorem dX13_number_36 : decode cX13_number 36 = .ok (.ireturn, 1) := dk_172 (dk_at dksX13_number_1 12 rfl rfl)
def dkwX13_digit_1 : List UInt8 := [180, 0, 27, 42, 180, 0, 17, 4, 100, 52, 16, 48, 100, 172]
abbrev dktX13_digit_1 : List UInt8 := dkwX13_digit_1 ++ []
def dkwX13_digit_0 : List UInt8 := [42, 42, 182, 0, 57, 182, 0, 49, 42, 89, 180, 0, 17, 4, 96, 181, 0, 17, 42, 180, 0, 3]
abbrev dktX13_digit_0 : List UInt8 := dkwX13_digit_0 ++ dktX13_digit_1
theorem dksX13_digit_0 : cX13_digit.data.toList.drop 0 = dktX13_digit_0 := by decide +kernel
theorem dksX13_digit_1 : cX13_digit.data.toList.drop 22 = dktX13_digit_1 := dk_seg dksX13_digit_0 22 rfl rfl
theorem dX13_digit_0 : decode cX13_digit 0 = .ok (.aload_n 0, 1) := dk_42 (dk_at dksX13_digit_0 0 rfl rfl)
theorem dX13_digit_1 : decode cX13_digit 1 = .ok (.aload_n 0, 1) := dk_42 (dk_at dksX13_digit_0 1 rfl rfl)
theorem dX13_digit_2 : decode cX13_digit 2 = .ok (.invokevirtual 57, 3) := dk_182 0 57 (dk_at dksX13_digit_0 2 rfl rfl)
theorem dX13_digit_5 : decode cX13_digit 5 = .ok (.invokevirtual 49, 3) := dk_182 0 49 (dk_at dksX13_digit_0 5 rfl rfl)
theorem dX13_digit_8 : decode cX13_digit 8 = .ok (.aload_n 0, 1) := dk_42 (dk_at dksX13_digit_0 8 rfl rfl)
theorem dX13_digit_9 : decode cX13_digit 9 = .ok (.dup, 1) := dk_89 (dk_at dksX13_digit_0 9 rfl rfl)
theorem dX13_digit_10 : decode cX13_digit 10 = .ok (.getfield 17, 3) := dk_180 0 17 (dk_at dksX13_digit_0 10 rfl rfl)
theorem dX13_digit_13 : decode cX13_digit 13 = .ok (.iconst 1, 1) := dk_4 (dk_at dksX13_digit_0 13 rfl rfl)
theorem dX13_digit_14 : decode cX13_digit 14 = .ok (.iadd, 1) := dk_96 (dk_at dksX13_digit_0 14 rfl rfl)
theorem dX13_digit_15 : decode cX13_digit 15 = .ok (.putfield 17, 3) := dk_181 0 17 (dk_at dksX13_digit_0 15 rfl rfl)
theorem dX13_digit_18 : decode cX13_digit 18 = .ok (.aload_n 0, 1) := dk_42 (dk_at dksX13_digit_0 18 rfl rfl)
theorem dX13_digit_19 : decode cX13_digit 19 = .ok (.getfield 3, 3) := dk_180 0 3 (dk_at dksX13_digit_0 19 rfl rfl)
theorem dX13_digit_22 : decode cX13_digit 22 = .ok (.getfield 27, 3) := dk_180 0 27 (dk_at dksX13_digit_1 0 rfl rfl)
theorem dX13_digit_25 : decode cX13_digit 25 = .ok (.aload_n 0, 1) := dk_42 (dk_at dksX13_digit_1 3 rfl rfl)
theorem dX13_digit_26 : decode cX13_digit 26 = .ok (.getfield 17, 3) := dk_180 0 17 (dk_at dksX13_digit_1 4 rfl rfl)
theorem dX13_digit_29 : decode cX13_digit 29 = .ok (.iconst 1, 1) := dk_4 (dk_at dksX13_digit_1 7 rfl rfl)
theorem dX13_digit_30 : decode cX13_digit 30 = .ok (.isub, 1) := dk_100 (dk_at dksX13_digit_1 8 rfl rfl)
theorem dX13_digit_31 : decode cX13_digit 31 = .ok (.caload, 1) := dk_52 (dk_at dksX13_digit_1 9 rfl rfl)
theorem dX13_digit_32 : decode cX13_digit 32 = .ok (.bipush 48, 2) := dk_16 48 (dk_at dksX13_digit_1 10 rfl rfl)
theorem dX13_digit_34 : decode cX13_digit 34 = .ok (.isub, 1) := dk_100 (dk_at dksX13_digit_1 12 rfl rfl)
theorem dX13_digit_35 : decode cX13_digit 35 = .ok (.ireturn, 1) := dk_172 (dk_at dksX13_digit_1 13 rfl rfl)
def dkwX13_isDigit_0 : List UInt8 := [42, 42, 180, 0, 17, 182, 0, 31, 16, 48, 16, 57, 184, 0, 53, 172]
abbrev dktX13_isDigit_0 : List UInt8 := dkwX13_isDigit_0 ++ []
theorem dksX13_isDigit_0 : cX13_isDigit.data.toList.drop 0 = dktX13_isDigit_0 := by decide +kernel
theorem dX13_isDigit_0 : decode cX13_isDigit 0 = .ok (.aload_n 0, 1) := dk_42 (dk_at dksX13_isDigit_0 0 rfl rfl)
theorem dX13_isDigit_1 : decode cX13_isDigit 1 = .ok (.aload_n 0, 1) := dk_42 (dk_at dksX13_isDigit_0 1 rfl rfl)
theorem dX13_isDigit_2 : decode cX13_isDigit 2 = .ok (.getfield 17, 3) := dk_180 0 17 (dk_at dksX13_isDigit_0 2 rfl rfl)
theorem dX13_isDigit_5 : decode cX13_isDigit 5 = .ok (.invokevirtual 31, 3) := dk_182 0 31 (dk_at dksX13_isDigit_0 5 rfl rfl)
theorem dX13_isDigit_8 : decode cX13_isDigit 8 = .ok (.bipush 48, 2) := dk_16 48 (dk_at dksX13_isDigit_0 8 rfl rfl)
theorem dX13_isDigit_10 : decode cX13_isDigit 10 = .ok (.bipush 57, 2) := dk_16 57 (dk_at dksX13_isDigit_0 10 rfl rfl)
theorem dX13_isDigit_12 : decode cX13_isDigit 12 = .ok (.invokestatic 53, 3) := dk_184 0 53 (dk_at dksX13_isDigit_0 12 rfl rfl)
theorem dX13_isDigit_15 : decode cX13_isDigit 15 = .ok (.ireturn, 1) := dk_172 (dk_at dksX13_isDigit_0 15 rfl rfl)
def dkwX13_lambda_pointed_0_0 : List UInt8 := [45, 26, 27, 28, 182, 0, 204, 172]
abbrev dktX13_lambda_pointed_0_0 : List UInt8 := dkwX13_lambda_pointed_0_0 ++ []
theorem dksX13_lambda_pointed_0_0 : cX13_lambda_pointed_0.data.toList.drop 0 = dktX13_lambda_pointed_0_0 := by decide +kernel
theorem dX13_lambda_pointed_0_0 : decode cX13_lambda_pointed_0 0 = .ok (.aload_n 3, 1) := dk_45 (dk_at dksX13_lambda_pointed_0_0 0 rfl rfl)
theorem dX13_lambda_pointed_0_1 : decode cX13_lambda_pointed_0 1 = .ok (.iload_n 0, 1) := dk_26 (dk_at dksX13_lambda_pointed_0_0 1 rfl rfl)
theorem dX13_lambda_pointed_0_2 : decode cX13_lambda_pointed_0 2 = .ok (.iload_n 1, 1) := dk_27 (dk_at dksX13_lambda_pointed_0_0 2 rfl rfl)
theorem dX13_lambda_pointed_0_3 : decode cX13_lambda_pointed_0 3 = .ok (.iload_n 2, 1) := dk_28 (dk_at dksX13_lambda_pointed_0_0 3 rfl rfl)
theorem dX13_lambda_pointed_0_4 : decode cX13_lambda_pointed_0 4 = .ok (.invokevirtual 204, 3) := dk_182 0 204 (dk_at dksX13_lambda_pointed_0_0 4 rfl rfl)
theorem dX13_lambda_pointed_0_7 : decode cX13_lambda_pointed_0 7 = .ok (.ireturn, 1) := dk_172 (dk_at dksX13_lambda_pointed_0_0 7 rfl rfl)
def dkwX13_trailOrTour_3 : List UInt8 := [183, 0, 98, 176]
abbrev dktX13_trailOrTour_3 : List UInt8 := dkwX13_trailOrTour_3 ++ []
def dkwX13_trailOrTour_2 : List UInt8 := [18, 108, 182, 0, 86, 60, 42, 18, 110, 182, 0, 86, 61, 187, 0, 92, 89, 27, 28, 186, 0, 112, 0, 0]
abbrev dktX13_trailOrTour_2 : List UInt8 := dkwX13_trailOrTour_2 ++ dktX13_trailOrTour_3
def dkwX13_trailOrTour_1 : List UInt8 := [18, 105, 182, 0, 86, 62, 187, 0, 92, 89, 27, 28, 29, 186, 0, 107, 0, 0, 183, 0, 98, 176, 42]
abbrev dktX13_trailOrTour_1 : List UInt8 := dkwX13_trailOrTour_1 ++ dktX13_trailOrTour_2
def dkwX13_trailOrTour_0 : List UInt8 := [42, 16, 114, 182, 0, 45, 153, 0, 40, 42, 18, 101, 182, 0, 86, 60, 42, 18, 103, 182, 0, 86, 61, 42]
abbrev dktX13_trailOrTour_0 : List UInt8 := dkwX13_trailOrTour_0 ++ dktX13_trailOrTour_1
theorem dksX13_trailOrTour_0 : cX13_trailOrTour.data.toList.drop 0 = dktX13_trailOrTour_0 := by decide +kernel
theorem dksX13_trailOrTour_1 : cX13_trailOrTour.data.toList.drop 24 = dktX13_trailOrTour_1 := dk_seg dksX13_trailOrTour_0 24 rfl rfl
theorem dksX13_trailOrTour_2 : cX13_trailOrTour.data.toList.drop 47 = dktX13_trailOrTour_2 := dk_seg dksX13_trailOrTour_1 23 rfl rfl
theorem dksX13_trailOrTour_3 : cX13_trailOrTour.data.toList.drop 71 = dktX13_trailOrTour_3 := dk_seg dksX13_trailOrTour_2 24 rfl rfl
theorem dX13_trailOrTour_0 : decode cX13_trailOrTour 0 = .ok (.aload_n 0, 1) := dk_42 (dk_at dksX13_trailOrTour_0 0 rfl rfl)
theorem dX13_trailOrTour_1 : decode cX13_trailOrTour 1 = .ok (.bipush 114, 2) := dk_16 114 (dk_at dksX13_trailOrTour_0 1 rfl rfl)
theorem dX13_trailOrTour_3 : decode cX13_trailOrTour 3 = .ok (.invokevirtual 45, 3) := dk_182 0 45 (dk_at dksX13_trailOrTour_0 3 rfl rfl)
theorem dX13_trailOrTour_6 : decode cX13_trailOrTour 6 = .ok (.ifCond .eq 40, 3) := dk_153 0 40 (dk_at dksX13_trailOrTour_0 6 rfl rfl)
theorem dX13_trailOrTour_9 : decode cX13_trailOrTour 9 = .ok (.aload_n 0, 1) := dk_42 (dk_at dksX13_trailOrTour_0 9 rfl rfl)
theorem dX13_trailOrTour_10 : decode cX13_trailOrTour 10 = .ok (.ldc 101, 2) := dk_18 101 (dk_at dksX13_trailOrTour_0 10 rfl rfl)
theorem dX13_trailOrTour_12 : decode cX13_trailOrTour 12 = .ok (.invokevirtual 86, 3) := dk_182 0 86 (dk_at dksX13_trailOrTour_0 12 rfl rfl)
theorem dX13_trailOrTour_15 : decode cX13_trailOrTour 15 = .ok (.istore_n 1, 1) := dk_60 (dk_at dksX13_trailOrTour_0 15 rfl rfl)
theorem dX13_trailOrTour_16 : decode cX13_trailOrTour 16 = .ok (.aload_n 0, 1) := dk_42 (dk_at dksX13_trailOrTour_0 16 rfl rfl)
theorem dX13_trailOrTour_17 : decode cX13_trailOrTour 17 = .ok (.ldc 103, 2) := dk_18 103 (dk_at dksX13_trailOrTour_0 17 rfl rfl)
theorem dX13_trailOrTour_19 : decode cX13_trailOrTour 19 = .ok (.invokevirtual 86, 3) := dk_182 0 86 (dk_at dksX13_trailOrTour_0 19 rfl rfl)
theorem dX13_trailOrTour_22 : decode cX13_trailOrTour 22 = .ok (.istore_n 2, 1) := dk_61 (dk_at dksX13_trailOrTour_0 22 rfl rfl)
theorem dX13_trailOrTour_23 : decode cX13_trailOrTour 23 = .ok (.aload_n 0, 1) := dk_42 (dk_at dksX13_trailOrTour_0 23 rfl rfl)
theorem dX13_trailOrTour_24 : decode cX13_trailOrTour 24 = .ok (.ldc 105, 2) := dk_18 105 (dk_at dksX13_trailOrTour_1 0 rfl rfl)
theorem dX13_trailOrTour_26 : decode cX13_trailOrTour 26 = .ok (.invokevirtual 86, 3) := dk_182 0 86 (dk_at dksX13_trailOrTour_1 2 rfl rfl)
theorem dX13_trailOrTour_29 : decode cX13_trailOrTour 29 = .ok (.istore_n 3, 1) := dk_62 (dk_at dksX13_trailOrTour_1 5 rfl rfl)
theorem dX13_trailOrTour_30 : decode cX13_trailOrTour 30 = .ok (.new 92, 3) := dk_187 0 92 (dk_at dksX13_trailOrTour_1 6 rfl rfl)
theorem dX13_trailOrTour_33 : decode cX13_trailOrTour 33 = .ok (.dup, 1) := dk_89 (dk_at dksX13_trailOrTour_1 9 rfl rfl)
theorem dX13_trailOrTour_34 : decode cX13_trailOrTour 34 = .ok (.iload_n 1, 1) := dk_27 (dk_at dksX13_trailOrTour_1 10 rfl rfl)
theorem dX13_trailOrTour_35 : decode cX13_trailOrTour 35 = .ok (.iload_n 2, 1) := dk_28 (dk_at dksX13_trailOrTour_1 11 rfl rfl)
theorem dX13_trailOrTour_36 : decode cX13_trailOrTour 36 = .ok (.iload_n 3, 1) := dk_29 (dk_at dksX13_trailOrTour_1 12 rfl rfl)
theorem dX13_trailOrTour_37 : decode cX13_trailOrTour 37 = .ok (.invokedynamic 107, 5) := by decide +kernel
theorem dX13_trailOrTour_42 : decode cX13_trailOrTour 42 = .ok (.invokespecial 98, 3) := dk_183 0 98 (dk_at dksX13_trailOrTour_1 18 rfl rfl)
theorem dX13_trailOrTour_45 : decode cX13_trailOrTour 45 = .ok (.areturn, 1) := dk_176 (dk_at dksX13_trailOrTour_1 21 rfl rfl)
theorem dX13_trailOrTour_46 : decode cX13_trailOrTour 46 = .ok (.aload_n 0, 1) := dk_42 (dk_at dksX13_trailOrTour_1 22 rfl rfl)
theorem dX13_trailOrTour_47 : decode cX13_trailOrTour 47 = .ok (.ldc 108, 2) := dk_18 108 (dk_at dksX13_trailOrTour_2 0 rfl rfl)
theorem dX13_trailOrTour_49 : decode cX13_trailOrTour 49 = .ok (.invokevirtual 86, 3) := dk_182 0 86 (dk_at dksX13_trailOrTour_2 2 rfl rfl)
theorem dX13_trailOrTour_52 : decode cX13_trailOrTour 52 = .ok (.istore_n 1, 1) := dk_60 (dk_at dksX13_trailOrTour_2 5 rfl rfl)
theorem dX13_trailOrTour_53 : decode cX13_trailOrTour 53 = .ok (.aload_n 0, 1) := dk_42 (dk_at dksX13_trailOrTour_2 6 rfl rfl)
theorem dX13_trailOrTour_54 : decode cX13_trailOrTour 54 = .ok (.ldc 110, 2) := dk_18 110 (dk_at dksX13_trailOrTour_2 7 rfl rfl)
theorem dX13_trailOrTour_56 : decode cX13_trailOrTour 56 = .ok (.invokevirtual 86, 3) := dk_182 0 86 (dk_at dksX13_trailOrTour_2 9 rfl rfl)
theorem dX13_trailOrTour_59 : decode cX13_trailOrTour 59 = .ok (.istore_n 2, 1) := dk_61 (dk_at dksX13_trailOrTour_2 12 rfl rfl)
theorem dX13_trailOrTour_60 : decode cX13_trailOrTour 60 = .ok (.new 92, 3) := dk_187 0 92 (dk_at dksX13_trailOrTour_2 13 rfl rfl)
theorem dX13_trailOrTour_63 : decode cX13_trailOrTour 63 = .ok (.dup, 1) := dk_89 (dk_at dksX13_trailOrTour_2 16 rfl rfl)
theorem dX13_trailOrTour_64 : decode cX13_trailOrTour 64 = .ok (.iload_n 1, 1) := dk_27 (dk_at dksX13_trailOrTour_2 17 rfl rfl)
theorem dX13_trailOrTour_65 : decode cX13_trailOrTour 65 = .ok (.iload_n 2, 1) := dk_28 (dk_at dksX13_trailOrTour_2 18 rfl rfl)
theorem dX13_trailOrTour_66 : decode cX13_trailOrTour 66 = .ok (.invokedynamic 112, 5) := by decide +kernel
theorem dX13_trailOrTour_71 : decode cX13_trailOrTour 71 = .ok (.invokespecial 98, 3) := dk_183 0 98 (dk_at dksX13_trailOrTour_3 0 rfl rfl)
theorem dX13_trailOrTour_74 : decode cX13_trailOrTour 74 = .ok (.areturn, 1) := dk_176 (dk_at dksX13_trailOrTour_3 3 rfl rfl)
def dkwX13_lambda_trailOrTour_1_0 : List UInt8 := [45, 26, 27, 28, 182, 0, 200, 172]
abbrev dktX13_lambda_trailOrTour_1_0 : List UInt8 := dkwX13_lambda_trailOrTour_1_0 ++ []
theorem dksX13_lambda_trailOrTour_1_0 : cX13_lambda_trailOrTour_1.data.toList.drop 0 = dktX13_lambda_trailOrTour_1_0 := by decide +kernel
theorem dX13_lambda_trailOrTour_1_0 : decode cX13_lambda_trailOrTour_1 0 = .ok (.aload_n 3, 1) := dk_45 (dk_at dksX13_lambda_trailOrTour_1_0 0 rfl rfl)
theorem dX13_lambda_trailOrTour_1_1 : decode cX13_lambda_trailOrTour_1 1 = .ok (.iload_n 0, 1) := dk_26 (dk_at dksX13_lambda_trailOrTour_1_0 1 rfl rfl)
theorem dX13_lambda_trailOrTour_1_2 : decode cX13_lambda_trailOrTour_1 2 = .ok (.iload_n 1, 1) := dk_27 (dk_at dksX13_lambda_trailOrTour_1_0 2 rfl rfl)
theorem dX13_lambda_trailOrTour_1_3 : decode cX13_lambda_trailOrTour_1 3 = .ok (.iload_n 2, 1) := dk_28 (dk_at dksX13_lambda_trailOrTour_1_0 3 rfl rfl)
theorem dX13_lambda_trailOrTour_1_4 : decode cX13_lambda_trailOrTour_1 4 = .ok (.invokevirtual 200, 3) := dk_182 0 200 (dk_at dksX13_lambda_trailOrTour_1_0 4 rfl rfl)
theorem dX13_lambda_trailOrTour_1_7 : decode cX13_lambda_trailOrTour_1 7 = .ok (.ireturn, 1) := dk_172 (dk_at dksX13_lambda_trailOrTour_1_0 7 rfl rfl)
def dkwX13_lambda_trailOrTour_2_0 : List UInt8 := [44, 26, 27, 182, 0, 197, 172]
abbrev dktX13_lambda_trailOrTour_2_0 : List UInt8 := dkwX13_lambda_trailOrTour_2_0 ++ []
theorem dksX13_lambda_trailOrTour_2_0 : cX13_lambda_trailOrTour_2.data.toList.drop 0 = dktX13_lambda_trailOrTour_2_0 := by decide +kernel
theorem dX13_lambda_trailOrTour_2_0 : decode cX13_lambda_trailOrTour_2 0 = .ok (.aload_n 2, 1) := dk_44 (dk_at dksX13_lambda_trailOrTour_2_0 0 rfl rfl)
theorem dX13_lambda_trailOrTour_2_1 : decode cX13_lambda_trailOrTour_2 1 = .ok (.iload_n 0, 1) := dk_26 (dk_at dksX13_lambda_trailOrTour_2_0 1 rfl rfl)
theorem dX13_lambda_trailOrTour_2_2 : decode cX13_lambda_trailOrTour_2 2 = .ok (.iload_n 1, 1) := dk_27 (dk_at dksX13_lambda_trailOrTour_2_0 2 rfl rfl)
theorem dX13_lambda_trailOrTour_2_3 : decode cX13_lambda_trailOrTour_2 3 = .ok (.invokevirtual 197, 3) := dk_182 0 197 (dk_at dksX13_lambda_trailOrTour_2_0 3 rfl rfl)
theorem dX13_lambda_trailOrTour_2_6 : decode cX13_lambda_trailOrTour_2 6 = .ok (.ireturn, 1) := dk_172 (dk_at dksX13_lambda_trailOrTour_2_0 6 rfl rfl)
def dkwX13_cutOrCharge_2 : List UInt8 := [187, 0, 92, 89, 27, 186, 0, 120, 0, 0, 183, 0, 98, 176]
abbrev dktX13_cutOrCharge_2 : List UInt8 := dkwX13_cutOrCharge_2 ++ []
def dkwX13_cutOrCharge_1 : List UInt8 := [187, 0, 92, 89, 27, 28, 186, 0, 117, 0, 0, 183, 0, 98, 176, 42, 18, 118, 182, 0, 86, 60]
abbrev dktX13_cutOrCharge_1 : List UInt8 := dkwX13_cutOrCharge_1 ++ dktX13_cutOrCharge_2
def dkwX13_cutOrCharge_0 : List UInt8 := [42, 16, 117, 182, 0, 45, 153, 0, 32, 42, 18, 115, 182, 0, 86, 60, 42, 18, 103, 182, 0, 86, 61]
abbrev dktX13_cutOrCharge_0 : List UInt8 := dkwX13_cutOrCharge_0 ++ dktX13_cutOrCharge_1
theorem dksX13_cutOrCharge_0 : cX13_cutOrCharge.data.toList.drop 0 = dktX13_cutOrCharge_0 := by decide +kernel
theorem dksX13_cutOrCharge_1 : cX13_cutOrCharge.data.toList.drop 23 = dktX13_cutOrCharge_1 := dk_seg dksX13_cutOrCharge_0 23 rfl rfl
theorem dksX13_cutOrCharge_2 : cX13_cutOrCharge.data.toList.drop 45 = dktX13_cutOrCharge_2 := dk_seg dksX13_cutOrCharge_1 22 rfl rfl
theorem dX13_cutOrCharge_0 : decode cX13_cutOrCharge 0 = .ok (.aload_n 0, 1) := dk_42 (dk_at dksX13_cutOrCharge_0 0 rfl rfl)
theorem dX13_cutOrCharge_1 : decode cX13_cutOrCharge 1 = .ok (.bipush 117, 2) := dk_16 117 (dk_at dksX13_cutOrCharge_0 1 rfl rfl)
theorem dX13_cutOrCharge_3 : decode cX13_cutOrCharge 3 = .ok (.invokevirtual 45, 3) := dk_182 0 45 (dk_at dksX13_cutOrCharge_0 3 rfl rfl)
theorem dX13_cutOrCharge_6 : decode cX13_cutOrCharge 6 = .ok (.ifCond .eq 32, 3) := dk_153 0 32 (dk_at dksX13_cutOrCharge_0 6 rfl rfl)
theorem dX13_cutOrCharge_9 : decode cX13_cutOrCharge 9 = .ok (.aload_n 0, 1) := dk_42 (dk_at dksX13_cutOrCharge_0 9 rfl rfl)
theorem dX13_cutOrCharge_10 : decode cX13_cutOrCharge 10 = .ok (.ldc 115, 2) := dk_18 115 (dk_at dksX13_cutOrCharge_0 10 rfl rfl)
theorem dX13_cutOrCharge_12 : decode cX13_cutOrCharge 12 = .ok (.invokevirtual 86, 3) := dk_182 0 86 (dk_at dksX13_cutOrCharge_0 12 rfl rfl)
theorem dX13_cutOrCharge_15 : decode cX13_cutOrCharge 15 = .ok (.istore_n 1, 1) := dk_60 (dk_at dksX13_cutOrCharge_0 15 rfl rfl)
theorem dX13_cutOrCharge_16 : decode cX13_cutOrCharge 16 = .ok (.aload_n 0, 1) := dk_42 (dk_at dksX13_cutOrCharge_0 16 rfl rfl)
theorem dX13_cutOrCharge_17 : decode cX13_cutOrCharge 17 = .ok (.ldc 103, 2) := dk_18 103 (dk_at dksX13_cutOrCharge_0 17 rfl rfl)
theorem dX13_cutOrCharge_19 : decode cX13_cutOrCharge 19 = .ok (.invokevirtual 86, 3) := dk_182 0 86 (dk_at dksX13_cutOrCharge_0 19 rfl rfl)
theorem dX13_cutOrCharge_22 : decode cX13_cutOrCharge 22 = .ok (.istore_n 2, 1) := dk_61 (dk_at dksX13_cutOrCharge_0 22 rfl rfl)
theorem dX13_cutOrCharge_23 : decode cX13_cutOrCharge 23 = .ok (.new 92, 3) := dk_187 0 92 (dk_at dksX13_cutOrCharge_1 0 rfl rfl)
theorem dX13_cutOrCharge_26 : decode cX13_cutOrCharge 26 = .ok (.dup, 1) := dk_89 (dk_at dksX13_cutOrCharge_1 3 rfl rfl)
theorem dX13_cutOrCharge_27 : decode cX13_cutOrCharge 27 = .ok (.iload_n 1, 1) := dk_27 (dk_at dksX13_cutOrCharge_1 4 rfl rfl)
theorem dX13_cutOrCharge_28 : decode cX13_cutOrCharge 28 = .ok (.iload_n 2, 1) := dk_28 (dk_at dksX13_cutOrCharge_1 5 rfl rfl)
theorem dX13_cutOrCharge_29 : decode cX13_cutOrCharge 29 = .ok (.invokedynamic 117, 5) := by decide +kernel
theorem dX13_cutOrCharge_34 : decode cX13_cutOrCharge 34 = .ok (.invokespecial 98, 3) := dk_183 0 98 (dk_at dksX13_cutOrCharge_1 11 rfl rfl)
theorem dX13_cutOrCharge_37 : decode cX13_cutOrCharge 37 = .ok (.areturn, 1) := dk_176 (dk_at dksX13_cutOrCharge_1 14 rfl rfl)
theorem dX13_cutOrCharge_38 : decode cX13_cutOrCharge 38 = .ok (.aload_n 0, 1) := dk_42 (dk_at dksX13_cutOrCharge_1 15 rfl rfl)
theorem dX13_cutOrCharge_39 : decode cX13_cutOrCharge 39 = .ok (.ldc 118, 2) := dk_18 118 (dk_at dksX13_cutOrCharge_1 16 rfl rfl)
theorem dX13_cutOrCharge_41 : decode cX13_cutOrCharge 41 = .ok (.invokevirtual 86, 3) := dk_182 0 86 (dk_at dksX13_cutOrCharge_1 18 rfl rfl)
theorem dX13_cutOrCharge_44 : decode cX13_cutOrCharge 44 = .ok (.istore_n 1, 1) := dk_60 (dk_at dksX13_cutOrCharge_1 21 rfl rfl)
theorem dX13_cutOrCharge_45 : decode cX13_cutOrCharge 45 = .ok (.new 92, 3) := dk_187 0 92 (dk_at dksX13_cutOrCharge_2 0 rfl rfl)
theorem dX13_cutOrCharge_48 : decode cX13_cutOrCharge 48 = .ok (.dup, 1) := dk_89 (dk_at dksX13_cutOrCharge_2 3 rfl rfl)
theorem dX13_cutOrCharge_49 : decode cX13_cutOrCharge 49 = .ok (.iload_n 1, 1) := dk_27 (dk_at dksX13_cutOrCharge_2 4 rfl rfl)
theorem dX13_cutOrCharge_50 : decode cX13_cutOrCharge 50 = .ok (.invokedynamic 120, 5) := by decide +kernel
theorem dX13_cutOrCharge_55 : decode cX13_cutOrCharge 55 = .ok (.invokespecial 98, 3) := dk_183 0 98 (dk_at dksX13_cutOrCharge_2 10 rfl rfl)
theorem dX13_cutOrCharge_58 : decode cX13_cutOrCharge 58 = .ok (.areturn, 1) := dk_176 (dk_at dksX13_cutOrCharge_2 13 rfl rfl)
def dkwX13_lambda_cutOrCharge_3_0 : List UInt8 := [44, 26, 27, 182, 0, 194, 172]
abbrev dktX13_lambda_cutOrCharge_3_0 : List UInt8 := dkwX13_lambda_cutOrCharge_3_0 ++ []
theorem dksX13_lambda_cutOrCharge_3_0 : cX13_lambda_cutOrCharge_3.data.toList.drop 0 = dktX13_lambda_cutOrCharge_3_0 := by decide +kernel
theorem dX13_lambda_cutOrCharge_3_0 : decode cX13_lambda_cutOrCharge_3 0 = .ok (.aload_n 2, 1) := dk_44 (dk_at dksX13_lambda_cutOrCharge_3_0 0 rfl rfl)
theorem dX13_lambda_cutOrCharge_3_1 : decode cX13_lambda_cutOrCharge_3 1 = .ok (.iload_n 0, 1) := dk_26 (dk_at dksX13_lambda_cutOrCharge_3_0 1 rfl rfl)
theorem dX13_lambda_cutOrCharge_3_2 : decode cX13_lambda_cutOrCharge_3 2 = .ok (.iload_n 1, 1) := dk_27 (dk_at dksX13_lambda_cutOrCharge_3_0 2 rfl rfl)
theorem dX13_lambda_cutOrCharge_3_3 : decode cX13_lambda_cutOrCharge_3 3 = .ok (.invokevirtual 194, 3) := dk_182 0 194 (dk_at dksX13_lambda_cutOrCharge_3_0 3 rfl rfl)
theorem dX13_lambda_cutOrCharge_3_6 : decode cX13_lambda_cutOrCharge_3 6 = .ok (.ireturn, 1) := dk_172 (dk_at dksX13_lambda_cutOrCharge_3_0 6 rfl rfl)
def dkwX13_lambda_cutOrCharge_4_0 : List UInt8 := [43, 26, 182, 0, 191, 172]
abbrev dktX13_lambda_cutOrCharge_4_0 : List UInt8 := dkwX13_lambda_cutOrCharge_4_0 ++ []
theorem dksX13_lambda_cutOrCharge_4_0 : cX13_lambda_cutOrCharge_4.data.toList.drop 0 = dktX13_lambda_cutOrCharge_4_0 := by decide +kernel
theorem dX13_lambda_cutOrCharge_4_0 : decode cX13_lambda_cutOrCharge_4 0 = .ok (.aload_n 1, 1) := dk_43 (dk_at dksX13_lambda_cutOrCharge_4_0 0 rfl rfl)
theorem dX13_lambda_cutOrCharge_4_1 : decode cX13_lambda_cutOrCharge_4 1 = .ok (.iload_n 0, 1) := dk_26 (dk_at dksX13_lambda_cutOrCharge_4_0 1 rfl rfl)
theorem dX13_lambda_cutOrCharge_4_2 : decode cX13_lambda_cutOrCharge_4 2 = .ok (.invokevirtual 191, 3) := dk_182 0 191 (dk_at dksX13_lambda_cutOrCharge_4_0 2 rfl rfl)
theorem dX13_lambda_cutOrCharge_4_5 : decode cX13_lambda_cutOrCharge_4 5 = .ok (.ireturn, 1) := dk_172 (dk_at dksX13_lambda_cutOrCharge_4_0 5 rfl rfl)
def dkwX13_modeOrMove_2 : List UInt8 := [60, 42, 18, 90, 182, 0, 86, 61, 187, 0, 92, 89, 27, 28, 186, 0, 133, 0, 0, 183, 0, 98, 176]
abbrev dktX13_modeOrMove_2 : List UInt8 := dkwX13_modeOrMove_2 ++ []
def dkwX13_modeOrMove_1 : List UInt8 := [182, 0, 127, 60, 187, 0, 92, 89, 27, 186, 0, 130, 0, 0, 183, 0, 98, 176, 42, 18, 131, 182, 0, 86]
abbrev dktX13_modeOrMove_1 : List UInt8 := dkwX13_modeOrMove_1 ++ dktX13_modeOrMove_2
def dkwX13_modeOrMove_0 : List UInt8 := [42, 18, 123, 182, 0, 64, 42, 16, 100, 182, 0, 45, 153, 0, 28, 42, 18, 125, 182, 0, 64, 42]
abbrev dktX13_modeOrMove_0 : List UInt8 := dkwX13_modeOrMove_0 ++ dktX13_modeOrMove_1
theorem dksX13_modeOrMove_0 : cX13_modeOrMove.data.toList.drop 0 = dktX13_modeOrMove_0 := by decide +kernel
theorem dksX13_modeOrMove_1 : cX13_modeOrMove.data.toList.drop 22 = dktX13_modeOrMove_1 := dk_seg dksX13_modeOrMove_0 22 rfl rfl
theorem dksX13_modeOrMove_2 : cX13_modeOrMove.data.toList.drop 46 = dktX13_modeOrMove_2 := dk_seg dksX13_modeOrMove_1 24 rfl rfl
theorem dX13_modeOrMove_0 : decode cX13_modeOrMove 0 = .ok (.aload_n 0, 1) := dk_42 (dk_at dksX13_modeOrMove_0 0 rfl rfl)
theorem dX13_modeOrMove_1 : decode cX13_modeOrMove 1 = .ok (.ldc 123, 2) := dk_18 123 (dk_at dksX13_modeOrMove_0 1 rfl rfl)
theorem dX13_modeOrMove_3 : decode cX13_modeOrMove 3 = .ok (.invokevirtual 64, 3) := dk_182 0 64 (dk_at dksX13_modeOrMove_0 3 rfl rfl)
theorem dX13_modeOrMove_6 : decode cX13_modeOrMove 6 = .ok (.aload_n 0, 1) := dk_42 (dk_at dksX13_modeOrMove_0 6 rfl rfl)
theorem dX13_modeOrMove_7 : decode cX13_modeOrMove 7 = .ok (.bipush 100, 2) := dk_16 100 (dk_at dksX13_modeOrMove_0 7 rfl rfl)
theorem dX13_modeOrMove_9 : decode cX13_modeOrMove 9 = .ok (.invokevirtual 45, 3) := dk_182 0 45 (dk_at dksX13_modeOrMove_0 9 rfl rfl)
theorem dX13_modeOrMove_12 : decode cX13_modeOrMove 12 = .ok (.ifCond .eq 28, 3) := dk_153 0 28 (dk_at dksX13_modeOrMove_0 12 rfl rfl)
theorem dX13_modeOrMove_15 : decode cX13_modeOrMove 15 = .ok (.aload_n 0, 1) := dk_42 (dk_at dksX13_modeOrMove_0 15 rfl rfl)
theorem dX13_modeOrMove_16 : decode cX13_modeOrMove 16 = .ok (.ldc 125, 2) := dk_18 125 (dk_at dksX13_modeOrMove_0 16 rfl rfl)
theorem dX13_modeOrMove_18 : decode cX13_modeOrMove 18 = .ok (.invokevirtual 64, 3) := dk_182 0 64 (dk_at dksX13_modeOrMove_0 18 rfl rfl)
theorem dX13_modeOrMove_21 : decode cX13_modeOrMove 21 = .ok (.aload_n 0, 1) := dk_42 (dk_at dksX13_modeOrMove_0 21 rfl rfl)
theorem dX13_modeOrMove_22 : decode cX13_modeOrMove 22 = .ok (.invokevirtual 127, 3) := dk_182 0 127 (dk_at dksX13_modeOrMove_1 0 rfl rfl)
theorem dX13_modeOrMove_25 : decode cX13_modeOrMove 25 = .ok (.istore_n 1, 1) := dk_60 (dk_at dksX13_modeOrMove_1 3 rfl rfl)
theorem dX13_modeOrMove_26 : decode cX13_modeOrMove 26 = .ok (.new 92, 3) := dk_187 0 92 (dk_at dksX13_modeOrMove_1 4 rfl rfl)
theorem dX13_modeOrMove_29 : decode cX13_modeOrMove 29 = .ok (.dup, 1) := dk_89 (dk_at dksX13_modeOrMove_1 7 rfl rfl)
theorem dX13_modeOrMove_30 : decode cX13_modeOrMove 30 = .ok (.iload_n 1, 1) := dk_27 (dk_at dksX13_modeOrMove_1 8 rfl rfl)
theorem dX13_modeOrMove_31 : decode cX13_modeOrMove 31 = .ok (.invokedynamic 130, 5) := by decide +kernel
theorem dX13_modeOrMove_36 : decode cX13_modeOrMove 36 = .ok (.invokespecial 98, 3) := dk_183 0 98 (dk_at dksX13_modeOrMove_1 14 rfl rfl)
theorem dX13_modeOrMove_39 : decode cX13_modeOrMove 39 = .ok (.areturn, 1) := dk_176 (dk_at dksX13_modeOrMove_1 17 rfl rfl)
theorem dX13_modeOrMove_40 : decode cX13_modeOrMove 40 = .ok (.aload_n 0, 1) := dk_42 (dk_at dksX13_modeOrMove_1 18 rfl rfl)
theorem dX13_modeOrMove_41 : decode cX13_modeOrMove 41 = .ok (.ldc 131, 2) := dk_18 131 (dk_at dksX13_modeOrMove_1 19 rfl rfl)
theorem dX13_modeOrMove_43 : decode cX13_modeOrMove 43 = .ok (.invokevirtual 86, 3) := dk_182 0 86 (dk_at dksX13_modeOrMove_1 21 rfl rfl)
theorem dX13_modeOrMove_46 : decode cX13_modeOrMove 46 = .ok (.istore_n 1, 1) := dk_60 (dk_at dksX13_modeOrMove_2 0 rfl rfl)
theorem dX13_modeOrMove_47 : decode cX13_modeOrMove 47 = .ok (.aload_n 0, 1) := dk_42 (dk_at dksX13_modeOrMove_2 1 rfl rfl)
theorem dX13_modeOrMove_48 : decode cX13_modeOrMove 48 = .ok (.ldc 90, 2) := dk_18 90 (dk_at dksX13_modeOrMove_2 2 rfl rfl)
theorem dX13_modeOrMove_50 : decode cX13_modeOrMove 50 = .ok (.invokevirtual 86, 3) := dk_182 0 86 (dk_at dksX13_modeOrMove_2 4 rfl rfl)
theorem dX13_modeOrMove_53 : decode cX13_modeOrMove 53 = .ok (.istore_n 2, 1) := dk_61 (dk_at dksX13_modeOrMove_2 7 rfl rfl)
theorem dX13_modeOrMove_54 : decode cX13_modeOrMove 54 = .ok (.new 92, 3) := dk_187 0 92 (dk_at dksX13_modeOrMove_2 8 rfl rfl)
theorem dX13_modeOrMove_57 : decode cX13_modeOrMove 57 = .ok (.dup, 1) := dk_89 (dk_at dksX13_modeOrMove_2 11 rfl rfl)
theorem dX13_modeOrMove_58 : decode cX13_modeOrMove 58 = .ok (.iload_n 1, 1) := dk_27 (dk_at dksX13_modeOrMove_2 12 rfl rfl)
theorem dX13_modeOrMove_59 : decode cX13_modeOrMove 59 = .ok (.iload_n 2, 1) := dk_28 (dk_at dksX13_modeOrMove_2 13 rfl rfl)
theorem dX13_modeOrMove_60 : decode cX13_modeOrMove 60 = .ok (.invokedynamic 133, 5) := by decide +kernel
theorem dX13_modeOrMove_65 : decode cX13_modeOrMove 65 = .ok (.invokespecial 98, 3) := dk_183 0 98 (dk_at dksX13_modeOrMove_2 19 rfl rfl)
theorem dX13_modeOrMove_68 : decode cX13_modeOrMove 68 = .ok (.areturn, 1) := dk_176 (dk_at dksX13_modeOrMove_2 22 rfl rfl)
def dkwX13_mode_2 : List UInt8 := [89, 42, 180, 0, 17, 183, 0, 21, 191]
abbrev dktX13_mode_2 : List UInt8 := dkwX13_mode_2 ++ []
def dkwX13_mode_1 : List UInt8 := [180, 0, 77, 182, 0, 45, 153, 0, 9, 25, 4, 182, 0, 81, 172, 132, 3, 1, 167, 255, 225, 187, 0, 15]
abbrev dktX13_mode_1 : List UInt8 := dkwX13_mode_1 ++ dktX13_mode_2
def dkwX13_mode_0 : List UInt8 := [184, 0, 71, 76, 43, 190, 61, 3, 62, 29, 28, 162, 0, 32, 43, 29, 50, 58, 4, 42, 25, 4]
abbrev dktX13_mode_0 : List UInt8 := dkwX13_mode_0 ++ dktX13_mode_1
theorem dksX13_mode_0 : cX13_mode.data.toList.drop 0 = dktX13_mode_0 := by decide +kernel
theorem dksX13_mode_1 : cX13_mode.data.toList.drop 22 = dktX13_mode_1 := dk_seg dksX13_mode_0 22 rfl rfl
theorem dksX13_mode_2 : cX13_mode.data.toList.drop 46 = dktX13_mode_2 := dk_seg dksX13_mode_1 24 rfl rfl
theorem dX13_mode_0 : decode cX13_mode 0 = .ok (.invokestatic 71, 3) := dk_184 0 71 (dk_at dksX13_mode_0 0 rfl rfl)
theorem dX13_mode_3 : decode cX13_mode 3 = .ok (.astore_n 1, 1) := dk_76 (dk_at dksX13_mode_0 3 rfl rfl)
theorem dX13_mode_4 : decode cX13_mode 4 = .ok (.aload_n 1, 1) := dk_43 (dk_at dksX13_mode_0 4 rfl rfl)
theorem dX13_mode_5 : decode cX13_mode 5 = .ok (.arraylength, 1) := dk_190 (dk_at dksX13_mode_0 5 rfl rfl)
theorem dX13_mode_6 : decode cX13_mode 6 = .ok (.istore_n 2, 1) := dk_61 (dk_at dksX13_mode_0 6 rfl rfl)
theorem dX13_mode_7 : decode cX13_mode 7 = .ok (.iconst 0, 1) := dk_3 (dk_at dksX13_mode_0 7 rfl rfl)
theorem dX13_mode_8 : decode cX13_mode 8 = .ok (.istore_n 3, 1) := dk_62 (dk_at dksX13_mode_0 8 rfl rfl)
theorem dX13_mode_9 : decode cX13_mode 9 = .ok (.iload_n 3, 1) := dk_29 (dk_at dksX13_mode_0 9 rfl rfl)
theorem dX13_mode_10 : decode cX13_mode 10 = .ok (.iload_n 2, 1) := dk_28 (dk_at dksX13_mode_0 10 rfl rfl)
theorem dX13_mode_11 : decode cX13_mode 11 = .ok (.if_icmp .ge 32, 3) := dk_162 0 32 (dk_at dksX13_mode_0 11 rfl rfl)
theorem dX13_mode_14 : decode cX13_mode 14 = .ok (.aload_n 1, 1) := dk_43 (dk_at dksX13_mode_0 14 rfl rfl)
theorem dX13_mode_15 : decode cX13_mode 15 = .ok (.iload_n 3, 1) := dk_29 (dk_at dksX13_mode_0 15 rfl rfl)
theorem dX13_mode_16 : decode cX13_mode 16 = .ok (.aaload, 1) := dk_50 (dk_at dksX13_mode_0 16 rfl rfl)
theorem dX13_mode_17 : decode cX13_mode 17 = .ok (.astore 4, 2) := dk_58 4 (dk_at dksX13_mode_0 17 rfl rfl)
theorem dX13_mode_19 : decode cX13_mode 19 = .ok (.aload_n 0, 1) := dk_42 (dk_at dksX13_mode_0 19 rfl rfl)
theorem dX13_mode_20 : decode cX13_mode 20 = .ok (.aload 4, 2) := dk_25 4 (dk_at dksX13_mode_0 20 rfl rfl)
theorem dX13_mode_22 : decode cX13_mode 22 = .ok (.getfield 77, 3) := dk_180 0 77 (dk_at dksX13_mode_1 0 rfl rfl)
theorem dX13_mode_25 : decode cX13_mode 25 = .ok (.invokevirtual 45, 3) := dk_182 0 45 (dk_at dksX13_mode_1 3 rfl rfl)
theorem dX13_mode_28 : decode cX13_mode 28 = .ok (.ifCond .eq 9, 3) := dk_153 0 9 (dk_at dksX13_mode_1 6 rfl rfl)
theorem dX13_mode_31 : decode cX13_mode 31 = .ok (.aload 4, 2) := dk_25 4 (dk_at dksX13_mode_1 9 rfl rfl)
theorem dX13_mode_33 : decode cX13_mode 33 = .ok (.invokevirtual 81, 3) := dk_182 0 81 (dk_at dksX13_mode_1 11 rfl rfl)
theorem dX13_mode_36 : decode cX13_mode 36 = .ok (.ireturn, 1) := dk_172 (dk_at dksX13_mode_1 14 rfl rfl)
theorem dX13_mode_37 : decode cX13_mode 37 = .ok (.iinc 3 1, 3) := dk_132 3 1 (dk_at dksX13_mode_1 15 rfl rfl)
theorem dX13_mode_40 : decode cX13_mode 40 = .ok (.goto (-31), 3) := dk_167 255 225 (dk_at dksX13_mode_1 18 rfl rfl)
theorem dX13_mode_43 : decode cX13_mode 43 = .ok (.new 15, 3) := dk_187 0 15 (dk_at dksX13_mode_1 21 rfl rfl)
theorem dX13_mode_46 : decode cX13_mode 46 = .ok (.dup, 1) := dk_89 (dk_at dksX13_mode_2 0 rfl rfl)
theorem dX13_mode_47 : decode cX13_mode 47 = .ok (.aload_n 0, 1) := dk_42 (dk_at dksX13_mode_2 1 rfl rfl)
theorem dX13_mode_48 : decode cX13_mode 48 = .ok (.getfield 17, 3) := dk_180 0 17 (dk_at dksX13_mode_2 2 rfl rfl)
theorem dX13_mode_51 : decode cX13_mode 51 = .ok (.invokespecial 21, 3) := dk_183 0 21 (dk_at dksX13_mode_2 5 rfl rfl)
theorem dX13_mode_54 : decode cX13_mode 54 = .ok (.athrow, 1) := dk_191 (dk_at dksX13_mode_2 8 rfl rfl)
def dkwX13_lambda_modeOrMove_5_0 : List UInt8 := [43, 26, 182, 0, 188, 172]
abbrev dktX13_lambda_modeOrMove_5_0 : List UInt8 := dkwX13_lambda_modeOrMove_5_0 ++ []
theorem dksX13_lambda_modeOrMove_5_0 : cX13_lambda_modeOrMove_5.data.toList.drop 0 = dktX13_lambda_modeOrMove_5_0 := by decide +kernel
theorem dX13_lambda_modeOrMove_5_0 : decode cX13_lambda_modeOrMove_5 0 = .ok (.aload_n 1, 1) := dk_43 (dk_at dksX13_lambda_modeOrMove_5_0 0 rfl rfl)
theorem dX13_lambda_modeOrMove_5_1 : decode cX13_lambda_modeOrMove_5 1 = .ok (.iload_n 0, 1) := dk_26 (dk_at dksX13_lambda_modeOrMove_5_0 1 rfl rfl)
theorem dX13_lambda_modeOrMove_5_2 : decode cX13_lambda_modeOrMove_5 2 = .ok (.invokevirtual 188, 3) := dk_182 0 188 (dk_at dksX13_lambda_modeOrMove_5_0 2 rfl rfl)
theorem dX13_lambda_modeOrMove_5_5 : decode cX13_lambda_modeOrMove_5 5 = .ok (.ireturn, 1) := dk_172 (dk_at dksX13_lambda_modeOrMove_5_0 5 rfl rfl)
def dkwX13_lambda_modeOrMove_6_0 : List UInt8 := [44, 26, 27, 182, 0, 184, 172]
abbrev dktX13_lambda_modeOrMove_6_0 : List UInt8 := dkwX13_lambda_modeOrMove_6_0 ++ []
theorem dksX13_lambda_modeOrMove_6_0 : cX13_lambda_modeOrMove_6.data.toList.drop 0 = dktX13_lambda_modeOrMove_6_0 := by decide +kernel
theorem dX13_lambda_modeOrMove_6_0 : decode cX13_lambda_modeOrMove_6 0 = .ok (.aload_n 2, 1) := dk_44 (dk_at dksX13_lambda_modeOrMove_6_0 0 rfl rfl)
theorem dX13_lambda_modeOrMove_6_1 : decode cX13_lambda_modeOrMove_6 1 = .ok (.iload_n 0, 1) := dk_26 (dk_at dksX13_lambda_modeOrMove_6_0 1 rfl rfl)
theorem dX13_lambda_modeOrMove_6_2 : decode cX13_lambda_modeOrMove_6 2 = .ok (.iload_n 1, 1) := dk_27 (dk_at dksX13_lambda_modeOrMove_6_0 2 rfl rfl)
theorem dX13_lambda_modeOrMove_6_3 : decode cX13_lambda_modeOrMove_6 3 = .ok (.invokevirtual 184, 3) := dk_182 0 184 (dk_at dksX13_lambda_modeOrMove_6_0 3 rfl rfl)
theorem dX13_lambda_modeOrMove_6_6 : decode cX13_lambda_modeOrMove_6 6 = .ok (.ireturn, 1) := dk_172 (dk_at dksX13_lambda_modeOrMove_6_0 6 rfl rfl)
def dkwX13_limited_0 : List UInt8 := [42, 18, 134, 182, 0, 86, 60, 187, 0, 92, 89, 27, 186, 0, 136, 0, 0, 183, 0, 98, 176]
abbrev dktX13_limited_0 : List UInt8 := dkwX13_limited_0 ++ []
theorem dksX13_limited_0 : cX13_limited.data.toList.drop 0 = dktX13_limited_0 := by decide +kernel
theorem dX13_limited_0 : decode cX13_limited 0 = .ok (.aload_n 0, 1) := dk_42 (dk_at dksX13_limited_0 0 rfl rfl)
theorem dX13_limited_1 : decode cX13_limited 1 = .ok (.ldc 134, 2) := dk_18 134 (dk_at dksX13_limited_0 1 rfl rfl)
theorem dX13_limited_3 : decode cX13_limited 3 = .ok (.invokevirtual 86, 3) := dk_182 0 86 (dk_at dksX13_limited_0 3 rfl rfl)
theorem dX13_limited_6 : decode cX13_limited 6 = .ok (.istore_n 1, 1) := dk_60 (dk_at dksX13_limited_0 6 rfl rfl)
theorem dX13_limited_7 : decode cX13_limited 7 = .ok (.new 92, 3) := dk_187 0 92 (dk_at dksX13_limited_0 7 rfl rfl)
theorem dX13_limited_10 : decode cX13_limited 10 = .ok (.dup, 1) := dk_89 (dk_at dksX13_limited_0 10 rfl rfl)
theorem dX13_limited_11 : decode cX13_limited 11 = .ok (.iload_n 1, 1) := dk_27 (dk_at dksX13_limited_0 11 rfl rfl)
theorem dX13_limited_12 : decode cX13_limited 12 = .ok (.invokedynamic 136, 5) := by decide +kernel
theorem dX13_limited_17 : decode cX13_limited 17 = .ok (.invokespecial 98, 3) := dk_183 0 98 (dk_at dksX13_limited_0 17 rfl rfl)
theorem dX13_limited_20 : decode cX13_limited 20 = .ok (.areturn, 1) := dk_176 (dk_at dksX13_limited_0 20 rfl rfl)
def dkwX13_lambda_limited_7_0 : List UInt8 := [43, 26, 182, 0, 181, 172]
abbrev dktX13_lambda_limited_7_0 : List UInt8 := dkwX13_lambda_limited_7_0 ++ []
theorem dksX13_lambda_limited_7_0 : cX13_lambda_limited_7.data.toList.drop 0 = dktX13_lambda_limited_7_0 := by decide +kernel
theorem dX13_lambda_limited_7_0 : decode cX13_lambda_limited_7 0 = .ok (.aload_n 1, 1) := dk_43 (dk_at dksX13_lambda_limited_7_0 0 rfl rfl)
theorem dX13_lambda_limited_7_1 : decode cX13_lambda_limited_7 1 = .ok (.iload_n 0, 1) := dk_26 (dk_at dksX13_lambda_limited_7_0 1 rfl rfl)
theorem dX13_lambda_limited_7_2 : decode cX13_lambda_limited_7 2 = .ok (.invokevirtual 181, 3) := dk_182 0 181 (dk_at dksX13_lambda_limited_7_0 2 rfl rfl)
theorem dX13_lambda_limited_7_5 : decode cX13_lambda_limited_7 5 = .ok (.ireturn, 1) := dk_172 (dk_at dksX13_lambda_limited_7_0 5 rfl rfl)
def dkwX13_stopped_0 : List UInt8 := [42, 18, 137, 182, 0, 64, 187, 0, 92, 89, 186, 0, 139, 0, 0, 183, 0, 98, 176]
abbrev dktX13_stopped_0 : List UInt8 := dkwX13_stopped_0 ++ []
theorem dksX13_stopped_0 : cX13_stopped.data.toList.drop 0 = dktX13_stopped_0 := by decide +kernel
theorem dX13_stopped_0 : decode cX13_stopped 0 = .ok (.aload_n 0, 1) := dk_42 (dk_at dksX13_stopped_0 0 rfl rfl)
theorem dX13_stopped_1 : decode cX13_stopped 1 = .ok (.ldc 137, 2) := dk_18 137 (dk_at dksX13_stopped_0 1 rfl rfl)
theorem dX13_stopped_3 : decode cX13_stopped 3 = .ok (.invokevirtual 64, 3) := dk_182 0 64 (dk_at dksX13_stopped_0 3 rfl rfl)
theorem dX13_stopped_6 : decode cX13_stopped 6 = .ok (.new 92, 3) := dk_187 0 92 (dk_at dksX13_stopped_0 6 rfl rfl)
theorem dX13_stopped_9 : decode cX13_stopped 9 = .ok (.dup, 1) := dk_89 (dk_at dksX13_stopped_0 9 rfl rfl)
theorem dX13_stopped_10 : decode cX13_stopped 10 = .ok (.invokedynamic 139, 5) := by decide +kernel
theorem dX13_stopped_15 : decode cX13_stopped 15 = .ok (.invokespecial 98, 3) := dk_183 0 98 (dk_at dksX13_stopped_0 15 rfl rfl)
theorem dX13_stopped_18 : decode cX13_stopped 18 = .ok (.areturn, 1) := dk_176 (dk_at dksX13_stopped_0 18 rfl rfl)
theorem dX13_lambda_stopped_8_0 : decode cX13_lambda_stopped_8 0 = .ok (.aload_n 0, 1) := by decide +kernel
theorem dX13_lambda_stopped_8_1 : decode cX13_lambda_stopped_8 1 = .ok (.invokevirtual 176, 3) := by decide +kernel
theorem dX13_lambda_stopped_8_4 : decode cX13_lambda_stopped_8 4 = .ok (.ireturn, 1) := by decide +kernel
def dkwX14_init_0 : List UInt8 := [42, 1, 1, 3, 3, 183, 0, 1, 42, 27, 181, 0, 7, 177]
abbrev dktX14_init_0 : List UInt8 := dkwX14_init_0 ++ []
theorem dksX14_init_0 : cX14_init.data.toList.drop 0 = dktX14_init_0 := by decide +kernel
theorem dX14_init_0 : decode cX14_init 0 = .ok (.aload_n 0, 1) := dk_42 (dk_at dksX14_init_0 0 rfl rfl)
theorem dX14_init_1 : decode cX14_init 1 = .ok (.aconst_null, 1) := dk_1 (dk_at dksX14_init_0 1 rfl rfl)
theorem dX14_init_2 : decode cX14_init 2 = .ok (.aconst_null, 1) := dk_1 (dk_at dksX14_init_0 2 rfl rfl)
theorem dX14_init_3 : decode cX14_init 3 = .ok (.iconst 0, 1) := dk_3 (dk_at dksX14_init_0 3 rfl rfl)
theorem dX14_init_4 : decode cX14_init 4 = .ok (.iconst 0, 1) := dk_3 (dk_at dksX14_init_0 4 rfl rfl)
theorem dX14_init_5 : decode cX14_init 5 = .ok (.invokespecial 1, 3) := dk_183 0 1 (dk_at dksX14_init_0 5 rfl rfl)
theorem dX14_init_8 : decode cX14_init 8 = .ok (.aload_n 0, 1) := dk_42 (dk_at dksX14_init_0 8 rfl rfl)
theorem dX14_init_9 : decode cX14_init 9 = .ok (.iload_n 1, 1) := dk_27 (dk_at dksX14_init_0 9 rfl rfl)
theorem dX14_init_10 : decode cX14_init 10 = .ok (.putfield 7, 3) := dk_181 0 7 (dk_at dksX14_init_0 10 rfl rfl)
theorem dX14_init_13 : decode cX14_init 13 = .ok (.return_, 1) := dk_177 (dk_at dksX14_init_0 13 rfl rfl)
def dkwX15_init_0 : List UInt8 := [42, 183, 0, 1, 42, 43, 181, 0, 7, 177]
abbrev dktX15_init_0 : List UInt8 := dkwX15_init_0 ++ []
theorem dksX15_init_0 : cX15_init.data.toList.drop 0 = dktX15_init_0 := by decide +kernel
theorem dX15_init_0 : decode cX15_init 0 = .ok (.aload_n 0, 1) := dk_42 (dk_at dksX15_init_0 0 rfl rfl)
theorem dX15_init_1 : decode cX15_init 1 = .ok (.invokespecial 1, 3) := dk_183 0 1 (dk_at dksX15_init_0 1 rfl rfl)
theorem dX15_init_4 : decode cX15_init 4 = .ok (.aload_n 0, 1) := dk_42 (dk_at dksX15_init_0 4 rfl rfl)
theorem dX15_init_5 : decode cX15_init 5 = .ok (.aload_n 1, 1) := dk_43 (dk_at dksX15_init_0 5 rfl rfl)
theorem dX15_init_6 : decode cX15_init 6 = .ok (.putfield 7, 3) := dk_181 0 7 (dk_at dksX15_init_0 6 rfl rfl)
theorem dX15_init_9 : decode cX15_init 9 = .ok (.return_, 1) := dk_177 (dk_at dksX15_init_0 9 rfl rfl)
theorem dX16_letter_0 : decode cX16_letter 0 = .ok (.bipush 108, 2) := by decide +kernel
theorem dX16_letter_2 : decode cX16_letter 2 = .ok (.ireturn, 1) := by decide +kernel
theorem dX17_letter_0 : decode cX17_letter 0 = .ok (.bipush 114, 2) := by decide +kernel
theorem dX17_letter_2 : decode cX17_letter 2 = .ok (.ireturn, 1) := by decide +kernel
theorem dX18_letter_0 : decode cX18_letter 0 = .ok (.bipush 115, 2) := by decide +kernel
theorem dX18_letter_2 : decode cX18_letter 2 = .ok (.ireturn, 1) := by decide +kernel
theorem dX19_letter_0 : decode cX19_letter 0 = .ok (.bipush 98, 2) := by decide +kernel
theorem dX19_letter_2 : decode cX19_letter 2 = .ok (.ireturn, 1) := by decide +kernel
def dkwX2_init_1 : List UInt8 := [42, 17, 3, 232, 181, 0, 22, 42, 8, 181, 0, 26, 42, 178, 0, 29, 181, 0, 35, 177]
abbrev dktX2_init_1 : List UInt8 := dkwX2_init_1 ++ []
def dkwX2_init_0 : List UInt8 := [42, 183, 0, 3, 42, 187, 0, 9, 89, 183, 0, 11, 181, 0, 12, 42, 17, 0, 144, 188, 10, 181, 0, 18]
abbrev dktX2_init_0 : List UInt8 := dkwX2_init_0 ++ dktX2_init_1
theorem dksX2_init_0 : cX2_init.data.toList.drop 0 = dktX2_init_0 := by decide +kernel
theorem dksX2_init_1 : cX2_init.data.toList.drop 24 = dktX2_init_1 := dk_seg dksX2_init_0 24 rfl rfl
theorem dX2_init_0 : decode cX2_init 0 = .ok (.aload_n 0, 1) := dk_42 (dk_at dksX2_init_0 0 rfl rfl)
theorem dX2_init_1 : decode cX2_init 1 = .ok (.invokespecial 3, 3) := dk_183 0 3 (dk_at dksX2_init_0 1 rfl rfl)
theorem dX2_init_4 : decode cX2_init 4 = .ok (.aload_n 0, 1) := dk_42 (dk_at dksX2_init_0 4 rfl rfl)
theorem dX2_init_5 : decode cX2_init 5 = .ok (.new 9, 3) := dk_187 0 9 (dk_at dksX2_init_0 5 rfl rfl)
theorem dX2_init_8 : decode cX2_init 8 = .ok (.dup, 1) := dk_89 (dk_at dksX2_init_0 8 rfl rfl)
theorem dX2_init_9 : decode cX2_init 9 = .ok (.invokespecial 11, 3) := dk_183 0 11 (dk_at dksX2_init_0 9 rfl rfl)
theorem dX2_init_12 : decode cX2_init 12 = .ok (.putfield 12, 3) := dk_181 0 12 (dk_at dksX2_init_0 12 rfl rfl)
theorem dX2_init_15 : decode cX2_init 15 = .ok (.aload_n 0, 1) := dk_42 (dk_at dksX2_init_0 15 rfl rfl)
theorem dX2_init_16 : decode cX2_init 16 = .ok (.sipush 144, 3) := dk_17 0 144 (dk_at dksX2_init_0 16 rfl rfl)
theorem dX2_init_19 : decode cX2_init 19 = .ok (.newarray .int, 2) := dk_188_10 (dk_at dksX2_init_0 19 rfl rfl)
theorem dX2_init_21 : decode cX2_init 21 = .ok (.putfield 18, 3) := dk_181 0 18 (dk_at dksX2_init_0 21 rfl rfl)
theorem dX2_init_24 : decode cX2_init 24 = .ok (.aload_n 0, 1) := dk_42 (dk_at dksX2_init_1 0 rfl rfl)
theorem dX2_init_25 : decode cX2_init 25 = .ok (.sipush 1000, 3) := dk_17 3 232 (dk_at dksX2_init_1 1 rfl rfl)
theorem dX2_init_28 : decode cX2_init 28 = .ok (.putfield 22, 3) := dk_181 0 22 (dk_at dksX2_init_1 4 rfl rfl)
theorem dX2_init_31 : decode cX2_init 31 = .ok (.aload_n 0, 1) := dk_42 (dk_at dksX2_init_1 7 rfl rfl)
theorem dX2_init_32 : decode cX2_init 32 = .ok (.iconst 5, 1) := dk_8 (dk_at dksX2_init_1 8 rfl rfl)
theorem dX2_init_33 : decode cX2_init 33 = .ok (.putfield 26, 3) := dk_181 0 26 (dk_at dksX2_init_1 9 rfl rfl)
theorem dX2_init_36 : decode cX2_init 36 = .ok (.aload_n 0, 1) := dk_42 (dk_at dksX2_init_1 12 rfl rfl)
theorem dX2_init_37 : decode cX2_init 37 = .ok (.getstatic 29, 3) := dk_178 0 29 (dk_at dksX2_init_1 13 rfl rfl)
theorem dX2_init_40 : decode cX2_init 40 = .ok (.putfield 35, 3) := dk_181 0 35 (dk_at dksX2_init_1 16 rfl rfl)
theorem dX2_init_43 : decode cX2_init 43 = .ok (.return_, 1) := dk_177 (dk_at dksX2_init_1 19 rfl rfl)
def dkwX2_size_0 : List UInt8 := [42, 180, 0, 12, 182, 0, 65, 172]
abbrev dktX2_size_0 : List UInt8 := dkwX2_size_0 ++ []
theorem dksX2_size_0 : cX2_size.data.toList.drop 0 = dktX2_size_0 := by decide +kernel
theorem dX2_size_0 : decode cX2_size 0 = .ok (.aload_n 0, 1) := dk_42 (dk_at dksX2_size_0 0 rfl rfl)
theorem dX2_size_1 : decode cX2_size 1 = .ok (.getfield 12, 3) := dk_180 0 12 (dk_at dksX2_size_0 1 rfl rfl)
theorem dX2_size_4 : decode cX2_size 4 = .ok (.invokevirtual 65, 3) := dk_182 0 65 (dk_at dksX2_size_0 4 rfl rfl)
theorem dX2_size_7 : decode cX2_size 7 = .ok (.ireturn, 1) := dk_172 (dk_at dksX2_size_0 7 rfl rfl)
def dkwX2_countTrails_2 : List UInt8 := [172]
abbrev dktX2_countTrails_2 : List UInt8 := dkwX2_countTrails_2 ++ []
def dkwX2_countTrails_1 : List UInt8 := [54, 5, 27, 21, 5, 158, 0, 7, 4, 167, 0, 4, 3, 96, 60, 132, 4, 1, 167, 255, 228, 27, 5, 108]
abbrev dktX2_countTrails_1 : List UInt8 := dkwX2_countTrails_1 ++ dktX2_countTrails_2
def dkwX2_countTrails_0 : List UInt8 := [3, 60, 42, 180, 0, 18, 77, 44, 190, 62, 3, 54, 4, 21, 4, 29, 162, 0, 28, 44, 21, 4, 46]
abbrev dktX2_countTrails_0 : List UInt8 := dkwX2_countTrails_0 ++ dktX2_countTrails_1
theorem dksX2_countTrails_0 : cX2_countTrails.data.toList.drop 0 = dktX2_countTrails_0 := by decide +kernel
theorem dksX2_countTrails_1 : cX2_countTrails.data.toList.drop 23 = dktX2_countTrails_1 := dk_seg dksX2_countTrails_0 23 rfl rfl
theorem dksX2_countTrails_2 : cX2_countTrails.data.toList.drop 47 = dktX2_countTrails_2 := dk_seg dksX2_countTrails_1 24 rfl rfl
theorem dX2_countTrails_0 : decode cX2_countTrails 0 = .ok (.iconst 0, 1) := dk_3 (dk_at dksX2_countTrails_0 0 rfl rfl)
theorem dX2_countTrails_1 : decode cX2_countTrails 1 = .ok (.istore_n 1, 1) := dk_60 (dk_at dksX2_countTrails_0 1 rfl rfl)
theorem dX2_countTrails_2 : decode cX2_countTrails 2 = .ok (.aload_n 0, 1) := dk_42 (dk_at dksX2_countTrails_0 2 rfl rfl)
theorem dX2_countTrails_3 : decode cX2_countTrails 3 = .ok (.getfield 18, 3) := dk_180 0 18 (dk_at dksX2_countTrails_0 3 rfl rfl)
theorem dX2_countTrails_6 : decode cX2_countTrails 6 = .ok (.astore_n 2, 1) := dk_77 (dk_at dksX2_countTrails_0 6 rfl rfl)
theorem dX2_countTrails_7 : decode cX2_countTrails 7 = .ok (.aload_n 2, 1) := dk_44 (dk_at dksX2_countTrails_0 7 rfl rfl)
theorem dX2_countTrails_8 : decode cX2_countTrails 8 = .ok (.arraylength, 1) := dk_190 (dk_at dksX2_countTrails_0 8 rfl rfl)
theorem dX2_countTrails_9 : decode cX2_countTrails 9 = .ok (.istore_n 3, 1) := dk_62 (dk_at dksX2_countTrails_0 9 rfl rfl)
theorem dX2_countTrails_10 : decode cX2_countTrails 10 = .ok (.iconst 0, 1) := dk_3 (dk_at dksX2_countTrails_0 10 rfl rfl)
theorem dX2_countTrails_11 : decode cX2_countTrails 11 = .ok (.istore 4, 2) := dk_54 4 (dk_at dksX2_countTrails_0 11 rfl rfl)
theorem dX2_countTrails_13 : decode cX2_countTrails 13 = .ok (.iload 4, 2) := dk_21 4 (dk_at dksX2_countTrails_0 13 rfl rfl)
theorem dX2_countTrails_15 : decode cX2_countTrails 15 = .ok (.iload_n 3, 1) := dk_29 (dk_at dksX2_countTrails_0 15 rfl rfl)
theorem dX2_countTrails_16 : decode cX2_countTrails 16 = .ok (.if_icmp .ge 28, 3) := dk_162 0 28 (dk_at dksX2_countTrails_0 16 rfl rfl)
theorem dX2_countTrails_19 : decode cX2_countTrails 19 = .ok (.aload_n 2, 1) := dk_44 (dk_at dksX2_countTrails_0 19 rfl rfl)
theorem dX2_countTrails_20 : decode cX2_countTrails 20 = .ok (.iload 4, 2) := dk_21 4 (dk_at dksX2_countTrails_0 20 rfl rfl)
theorem dX2_countTrails_22 : decode cX2_countTrails 22 = .ok (.iaload, 1) := dk_46 (dk_at dksX2_countTrails_0 22 rfl rfl)
theorem dX2_countTrails_23 : decode cX2_countTrails 23 = .ok (.istore 5, 2) := dk_54 5 (dk_at dksX2_countTrails_1 0 rfl rfl)
theorem dX2_countTrails_25 : decode cX2_countTrails 25 = .ok (.iload_n 1, 1) := dk_27 (dk_at dksX2_countTrails_1 2 rfl rfl)
theorem dX2_countTrails_26 : decode cX2_countTrails 26 = .ok (.iload 5, 2) := dk_21 5 (dk_at dksX2_countTrails_1 3 rfl rfl)
theorem dX2_countTrails_28 : decode cX2_countTrails 28 = .ok (.ifCond .le 7, 3) := dk_158 0 7 (dk_at dksX2_countTrails_1 5 rfl rfl)
theorem dX2_countTrails_31 : decode cX2_countTrails 31 = .ok (.iconst 1, 1) := dk_4 (dk_at dksX2_countTrails_1 8 rfl rfl)
theorem dX2_countTrails_32 : decode cX2_countTrails 32 = .ok (.goto 4, 3) := dk_167 0 4 (dk_at dksX2_countTrails_1 9 rfl rfl)
theorem dX2_countTrails_35 : decode cX2_countTrails 35 = .ok (.iconst 0, 1) := dk_3 (dk_at dksX2_countTrails_1 12 rfl rfl)
theorem dX2_countTrails_36 : decode cX2_countTrails 36 = .ok (.iadd, 1) := dk_96 (dk_at dksX2_countTrails_1 13 rfl rfl)
theorem dX2_countTrails_37 : decode cX2_countTrails 37 = .ok (.istore_n 1, 1) := dk_60 (dk_at dksX2_countTrails_1 14 rfl rfl)
theorem dX2_countTrails_38 : decode cX2_countTrails 38 = .ok (.iinc 4 1, 3) := dk_132 4 1 (dk_at dksX2_countTrails_1 15 rfl rfl)
theorem dX2_countTrails_41 : decode cX2_countTrails 41 = .ok (.goto (-28), 3) := dk_167 255 228 (dk_at dksX2_countTrails_1 18 rfl rfl)
theorem dX2_countTrails_44 : decode cX2_countTrails 44 = .ok (.iload_n 1, 1) := dk_27 (dk_at dksX2_countTrails_1 21 rfl rfl)
theorem dX2_countTrails_45 : decode cX2_countTrails 45 = .ok (.iconst 2, 1) := dk_5 (dk_at dksX2_countTrails_1 22 rfl rfl)
theorem dX2_countTrails_46 : decode cX2_countTrails 46 = .ok (.idiv, 1) := dk_108 (dk_at dksX2_countTrails_1 23 rfl rfl)
theorem dX2_countTrails_47 : decode cX2_countTrails 47 = .ok (.ireturn, 1) := dk_172 (dk_at dksX2_countTrails_2 0 rfl rfl)
def dkwX2_components_1 : List UInt8 := [29, 43, 182, 0, 121, 132, 2, 1, 42, 43, 186, 0, 132, 0, 0, 182, 0, 128, 62, 167, 255, 231, 28, 172]
abbrev dktX2_components_1 : List UInt8 := dkwX2_components_1 ++ []
def dkwX2_components_0 : List UInt8 := [16, 12, 188, 4, 76, 3, 61, 42, 43, 186, 0, 125, 0, 0, 182, 0, 128, 62, 29, 2, 159, 0, 26, 42]
abbrev dktX2_components_0 : List UInt8 := dkwX2_components_0 ++ dktX2_components_1
theorem dksX2_components_0 : cX2_components.data.toList.drop 0 = dktX2_components_0 := by decide +kernel
theorem dksX2_components_1 : cX2_components.data.toList.drop 24 = dktX2_components_1 := dk_seg dksX2_components_0 24 rfl rfl
theorem dX2_components_0 : decode cX2_components 0 = .ok (.bipush 12, 2) := dk_16 12 (dk_at dksX2_components_0 0 rfl rfl)
theorem dX2_components_2 : decode cX2_components 2 = .ok (.newarray .boolean, 2) := dk_188_4 (dk_at dksX2_components_0 2 rfl rfl)
theorem dX2_components_4 : decode cX2_components 4 = .ok (.astore_n 1, 1) := dk_76 (dk_at dksX2_components_0 4 rfl rfl)
theorem dX2_components_5 : decode cX2_components 5 = .ok (.iconst 0, 1) := dk_3 (dk_at dksX2_components_0 5 rfl rfl)
theorem dX2_components_6 : decode cX2_components 6 = .ok (.istore_n 2, 1) := dk_61 (dk_at dksX2_components_0 6 rfl rfl)
theorem dX2_components_7 : decode cX2_components 7 = .ok (.aload_n 0, 1) := dk_42 (dk_at dksX2_components_0 7 rfl rfl)
theorem dX2_components_8 : decode cX2_components 8 = .ok (.aload_n 1, 1) := dk_43 (dk_at dksX2_components_0 8 rfl rfl)
theorem dX2_components_9 : decode cX2_components 9 = .ok (.invokedynamic 125, 5) := by decide +kernel
theorem dX2_components_14 : decode cX2_components 14 = .ok (.invokevirtual 128, 3) := dk_182 0 128 (dk_at dksX2_components_0 14 rfl rfl)
theorem dX2_components_17 : decode cX2_components 17 = .ok (.istore_n 3, 1) := dk_62 (dk_at dksX2_components_0 17 rfl rfl)
theorem dX2_components_18 : decode cX2_components 18 = .ok (.iload_n 3, 1) := dk_29 (dk_at dksX2_components_0 18 rfl rfl)
theorem dX2_components_19 : decode cX2_components 19 = .ok (.iconst (-1), 1) := dk_2 (dk_at dksX2_components_0 19 rfl rfl)
theorem dX2_components_20 : decode cX2_components 20 = .ok (.if_icmp .eq 26, 3) := dk_159 0 26 (dk_at dksX2_components_0 20 rfl rfl)
theorem dX2_components_23 : decode cX2_components 23 = .ok (.aload_n 0, 1) := dk_42 (dk_at dksX2_components_0 23 rfl rfl)
theorem dX2_components_24 : decode cX2_components 24 = .ok (.iload_n 3, 1) := dk_29 (dk_at dksX2_components_1 0 rfl rfl)
theorem dX2_components_25 : decode cX2_components 25 = .ok (.aload_n 1, 1) := dk_43 (dk_at dksX2_components_1 1 rfl rfl)
theorem dX2_components_26 : decode cX2_components 26 = .ok (.invokevirtual 121, 3) := dk_182 0 121 (dk_at dksX2_components_1 2 rfl rfl)
theorem dX2_components_29 : decode cX2_components 29 = .ok (.iinc 2 1, 3) := dk_132 2 1 (dk_at dksX2_components_1 5 rfl rfl)
theorem dX2_components_32 : decode cX2_components 32 = .ok (.aload_n 0, 1) := dk_42 (dk_at dksX2_components_1 8 rfl rfl)
theorem dX2_components_33 : decode cX2_components 33 = .ok (.aload_n 1, 1) := dk_43 (dk_at dksX2_components_1 9 rfl rfl)
theorem dX2_components_34 : decode cX2_components 34 = .ok (.invokedynamic 132, 5) := by decide +kernel
theorem dX2_components_39 : decode cX2_components 39 = .ok (.invokevirtual 128, 3) := dk_182 0 128 (dk_at dksX2_components_1 15 rfl rfl)
theorem dX2_components_42 : decode cX2_components 42 = .ok (.istore_n 3, 1) := dk_62 (dk_at dksX2_components_1 18 rfl rfl)
theorem dX2_components_43 : decode cX2_components 43 = .ok (.goto (-25), 3) := dk_167 255 231 (dk_at dksX2_components_1 19 rfl rfl)
theorem dX2_components_46 : decode cX2_components 46 = .ok (.iload_n 2, 1) := dk_28 (dk_at dksX2_components_1 22 rfl rfl)
theorem dX2_components_47 : decode cX2_components 47 = .ok (.ireturn, 1) := dk_172 (dk_at dksX2_components_1 23 rfl rfl)
def dkwX2_lambda_components_2_0 : List UInt8 := [42, 27, 51, 154, 0, 7, 4, 167, 0, 4, 3, 172]
abbrev dktX2_lambda_components_2_0 : List UInt8 := dkwX2_lambda_components_2_0 ++ []
theorem dksX2_lambda_components_2_0 : cX2_lambda_components_2.data.toList.drop 0 = dktX2_lambda_components_2_0 := by decide +kernel
theorem dX2_lambda_components_2_0 : decode cX2_lambda_components_2 0 = .ok (.aload_n 0, 1) := dk_42 (dk_at dksX2_lambda_components_2_0 0 rfl rfl)
theorem dX2_lambda_components_2_1 : decode cX2_lambda_components_2 1 = .ok (.iload_n 1, 1) := dk_27 (dk_at dksX2_lambda_components_2_0 1 rfl rfl)
theorem dX2_lambda_components_2_2 : decode cX2_lambda_components_2 2 = .ok (.baload, 1) := dk_51 (dk_at dksX2_lambda_components_2_0 2 rfl rfl)
theorem dX2_lambda_components_2_3 : decode cX2_lambda_components_2 3 = .ok (.ifCond .ne 7, 3) := dk_154 0 7 (dk_at dksX2_lambda_components_2_0 3 rfl rfl)
theorem dX2_lambda_components_2_6 : decode cX2_lambda_components_2 6 = .ok (.iconst 1, 1) := dk_4 (dk_at dksX2_lambda_components_2_0 6 rfl rfl)
theorem dX2_lambda_components_2_7 : decode cX2_lambda_components_2 7 = .ok (.goto 4, 3) := dk_167 0 4 (dk_at dksX2_lambda_components_2_0 7 rfl rfl)
theorem dX2_lambda_components_2_10 : decode cX2_lambda_components_2 10 = .ok (.iconst 0, 1) := dk_3 (dk_at dksX2_lambda_components_2_0 10 rfl rfl)
theorem dX2_lambda_components_2_11 : decode cX2_lambda_components_2 11 = .ok (.ireturn, 1) := dk_172 (dk_at dksX2_lambda_components_2_0 11 rfl rfl)
def dkwX2_firstWaypoint_1 : List UInt8 := [132, 2, 1, 167, 255, 233, 2, 172]
abbrev dktX2_firstWaypoint_1 : List UInt8 := dkwX2_firstWaypoint_1 ++ []
def dkwX2_firstWaypoint_0 : List UInt8 := [3, 61, 28, 42, 182, 0, 69, 162, 0, 21, 43, 28, 185, 0, 89, 2, 0, 153, 0, 5, 28, 172]
abbrev dktX2_firstWaypoint_0 : List UInt8 := dkwX2_firstWaypoint_0 ++ dktX2_firstWaypoint_1
theorem dksX2_firstWaypoint_0 : cX2_firstWaypoint.data.toList.drop 0 = dktX2_firstWaypoint_0 := by decide +kernel
theorem dksX2_firstWaypoint_1 : cX2_firstWaypoint.data.toList.drop 22 = dktX2_firstWaypoint_1 := dk_seg dksX2_firstWaypoint_0 22 rfl rfl
theorem dX2_firstWaypoint_0 : decode cX2_firstWaypoint 0 = .ok (.iconst 0, 1) := dk_3 (dk_at dksX2_firstWaypoint_0 0 rfl rfl)
theorem dX2_firstWaypoint_1 : decode cX2_firstWaypoint 1 = .ok (.istore_n 2, 1) := dk_61 (dk_at dksX2_firstWaypoint_0 1 rfl rfl)
theorem dX2_firstWaypoint_2 : decode cX2_firstWaypoint 2 = .ok (.iload_n 2, 1) := dk_28 (dk_at dksX2_firstWaypoint_0 2 rfl rfl)
theorem dX2_firstWaypoint_3 : decode cX2_firstWaypoint 3 = .ok (.aload_n 0, 1) := dk_42 (dk_at dksX2_firstWaypoint_0 3 rfl rfl)
theorem dX2_firstWaypoint_4 : decode cX2_firstWaypoint 4 = .ok (.invokevirtual 69, 3) := dk_182 0 69 (dk_at dksX2_firstWaypoint_0 4 rfl rfl)
theorem dX2_firstWaypoint_7 : decode cX2_firstWaypoint 7 = .ok (.if_icmp .ge 21, 3) := dk_162 0 21 (dk_at dksX2_firstWaypoint_0 7 rfl rfl)
theorem dX2_firstWaypoint_10 : decode cX2_firstWaypoint 10 = .ok (.aload_n 1, 1) := dk_43 (dk_at dksX2_firstWaypoint_0 10 rfl rfl)
theorem dX2_firstWaypoint_11 : decode cX2_firstWaypoint 11 = .ok (.iload_n 2, 1) := dk_28 (dk_at dksX2_firstWaypoint_0 11 rfl rfl)
theorem dX2_firstWaypoint_12 : decode cX2_firstWaypoint 12 = .ok (.invokeinterface 89 2, 5) := by decide +kernel
theorem dX2_firstWaypoint_17 : decode cX2_firstWaypoint 17 = .ok (.ifCond .eq 5, 3) := dk_153 0 5 (dk_at dksX2_firstWaypoint_0 17 rfl rfl)
theorem dX2_firstWaypoint_20 : decode cX2_firstWaypoint 20 = .ok (.iload_n 2, 1) := dk_28 (dk_at dksX2_firstWaypoint_0 20 rfl rfl)
theorem dX2_firstWaypoint_21 : decode cX2_firstWaypoint 21 = .ok (.ireturn, 1) := dk_172 (dk_at dksX2_firstWaypoint_0 21 rfl rfl)
theorem dX2_firstWaypoint_22 : decode cX2_firstWaypoint 22 = .ok (.iinc 2 1, 3) := dk_132 2 1 (dk_at dksX2_firstWaypoint_1 0 rfl rfl)
theorem dX2_firstWaypoint_25 : decode cX2_firstWaypoint 25 = .ok (.goto (-23), 3) := dk_167 255 233 (dk_at dksX2_firstWaypoint_1 3 rfl rfl)
theorem dX2_firstWaypoint_28 : decode cX2_firstWaypoint 28 = .ok (.iconst (-1), 1) := dk_2 (dk_at dksX2_firstWaypoint_1 6 rfl rfl)
theorem dX2_firstWaypoint_29 : decode cX2_firstWaypoint 29 = .ok (.ireturn, 1) := dk_172 (dk_at dksX2_firstWaypoint_1 7 rfl rfl)
def dkwX2_mark_1 : List UInt8 := [29, 51, 154, 0, 9, 42, 29, 44, 182, 0, 121, 132, 3, 1, 167, 255, 224, 177]
abbrev dktX2_mark_1 : List UInt8 := dkwX2_mark_1 ++ []
def dkwX2_mark_0 : List UInt8 := [44, 27, 4, 84, 3, 62, 29, 42, 182, 0, 69, 162, 0, 30, 42, 27, 29, 182, 0, 80, 158, 0, 15, 44]
abbrev dktX2_mark_0 : List UInt8 := dkwX2_mark_0 ++ dktX2_mark_1
theorem dksX2_mark_0 : cX2_mark.data.toList.drop 0 = dktX2_mark_0 := by decide +kernel
theorem dksX2_mark_1 : cX2_mark.data.toList.drop 24 = dktX2_mark_1 := dk_seg dksX2_mark_0 24 rfl rfl
theorem dX2_mark_0 : decode cX2_mark 0 = .ok (.aload_n 2, 1) := dk_44 (dk_at dksX2_mark_0 0 rfl rfl)
theorem dX2_mark_1 : decode cX2_mark 1 = .ok (.iload_n 1, 1) := dk_27 (dk_at dksX2_mark_0 1 rfl rfl)
theorem dX2_mark_2 : decode cX2_mark 2 = .ok (.iconst 1, 1) := dk_4 (dk_at dksX2_mark_0 2 rfl rfl)
theorem dX2_mark_3 : decode cX2_mark 3 = .ok (.bastore, 1) := dk_84 (dk_at dksX2_mark_0 3 rfl rfl)
theorem dX2_mark_4 : decode cX2_mark 4 = .ok (.iconst 0, 1) := dk_3 (dk_at dksX2_mark_0 4 rfl rfl)
theorem dX2_mark_5 : decode cX2_mark 5 = .ok (.istore_n 3, 1) := dk_62 (dk_at dksX2_mark_0 5 rfl rfl)
theorem dX2_mark_6 : decode cX2_mark 6 = .ok (.iload_n 3, 1) := dk_29 (dk_at dksX2_mark_0 6 rfl rfl)
theorem dX2_mark_7 : decode cX2_mark 7 = .ok (.aload_n 0, 1) := dk_42 (dk_at dksX2_mark_0 7 rfl rfl)
theorem dX2_mark_8 : decode cX2_mark 8 = .ok (.invokevirtual 69, 3) := dk_182 0 69 (dk_at dksX2_mark_0 8 rfl rfl)
theorem dX2_mark_11 : decode cX2_mark 11 = .ok (.if_icmp .ge 30, 3) := dk_162 0 30 (dk_at dksX2_mark_0 11 rfl rfl)
theorem dX2_mark_14 : decode cX2_mark 14 = .ok (.aload_n 0, 1) := dk_42 (dk_at dksX2_mark_0 14 rfl rfl)
theorem dX2_mark_15 : decode cX2_mark 15 = .ok (.iload_n 1, 1) := dk_27 (dk_at dksX2_mark_0 15 rfl rfl)
theorem dX2_mark_16 : decode cX2_mark 16 = .ok (.iload_n 3, 1) := dk_29 (dk_at dksX2_mark_0 16 rfl rfl)
theorem dX2_mark_17 : decode cX2_mark 17 = .ok (.invokevirtual 80, 3) := dk_182 0 80 (dk_at dksX2_mark_0 17 rfl rfl)
theorem dX2_mark_20 : decode cX2_mark 20 = .ok (.ifCond .le 15, 3) := dk_158 0 15 (dk_at dksX2_mark_0 20 rfl rfl)
theorem dX2_mark_23 : decode cX2_mark 23 = .ok (.aload_n 2, 1) := dk_44 (dk_at dksX2_mark_0 23 rfl rfl)
theorem dX2_mark_24 : decode cX2_mark 24 = .ok (.iload_n 3, 1) := dk_29 (dk_at dksX2_mark_1 0 rfl rfl)
theorem dX2_mark_25 : decode cX2_mark 25 = .ok (.baload, 1) := dk_51 (dk_at dksX2_mark_1 1 rfl rfl)
theorem dX2_mark_26 : decode cX2_mark 26 = .ok (.ifCond .ne 9, 3) := dk_154 0 9 (dk_at dksX2_mark_1 2 rfl rfl)
theorem dX2_mark_29 : decode cX2_mark 29 = .ok (.aload_n 0, 1) := dk_42 (dk_at dksX2_mark_1 5 rfl rfl)
theorem dX2_mark_30 : decode cX2_mark 30 = .ok (.iload_n 3, 1) := dk_29 (dk_at dksX2_mark_1 6 rfl rfl)
theorem dX2_mark_31 : decode cX2_mark 31 = .ok (.aload_n 2, 1) := dk_44 (dk_at dksX2_mark_1 7 rfl rfl)
theorem dX2_mark_32 : decode cX2_mark 32 = .ok (.invokevirtual 121, 3) := dk_182 0 121 (dk_at dksX2_mark_1 8 rfl rfl)
theorem dX2_mark_35 : decode cX2_mark 35 = .ok (.iinc 3 1, 3) := dk_132 3 1 (dk_at dksX2_mark_1 11 rfl rfl)
theorem dX2_mark_38 : decode cX2_mark 38 = .ok (.goto (-32), 3) := dk_167 255 224 (dk_at dksX2_mark_1 14 rfl rfl)
theorem dX2_mark_41 : decode cX2_mark 41 = .ok (.return_, 1) := dk_177 (dk_at dksX2_mark_1 17 rfl rfl)
def dkwX2_lengthOf_0 : List UInt8 := [42, 180, 0, 18, 16, 12, 27, 104, 28, 96, 46, 172]
abbrev dktX2_lengthOf_0 : List UInt8 := dkwX2_lengthOf_0 ++ []
theorem dksX2_lengthOf_0 : cX2_lengthOf.data.toList.drop 0 = dktX2_lengthOf_0 := by decide +kernel
theorem dX2_lengthOf_0 : decode cX2_lengthOf 0 = .ok (.aload_n 0, 1) := dk_42 (dk_at dksX2_lengthOf_0 0 rfl rfl)
theorem dX2_lengthOf_1 : decode cX2_lengthOf 1 = .ok (.getfield 18, 3) := dk_180 0 18 (dk_at dksX2_lengthOf_0 1 rfl rfl)
theorem dX2_lengthOf_4 : decode cX2_lengthOf 4 = .ok (.bipush 12, 2) := dk_16 12 (dk_at dksX2_lengthOf_0 4 rfl rfl)
theorem dX2_lengthOf_6 : decode cX2_lengthOf 6 = .ok (.iload_n 1, 1) := dk_27 (dk_at dksX2_lengthOf_0 6 rfl rfl)
theorem dX2_lengthOf_7 : decode cX2_lengthOf 7 = .ok (.imul, 1) := dk_104 (dk_at dksX2_lengthOf_0 7 rfl rfl)
theorem dX2_lengthOf_8 : decode cX2_lengthOf 8 = .ok (.iload_n 2, 1) := dk_28 (dk_at dksX2_lengthOf_0 8 rfl rfl)
theorem dX2_lengthOf_9 : decode cX2_lengthOf 9 = .ok (.iadd, 1) := dk_96 (dk_at dksX2_lengthOf_0 9 rfl rfl)
theorem dX2_lengthOf_10 : decode cX2_lengthOf 10 = .ok (.iaload, 1) := dk_46 (dk_at dksX2_lengthOf_0 10 rfl rfl)
theorem dX2_lengthOf_11 : decode cX2_lengthOf 11 = .ok (.ireturn, 1) := dk_172 (dk_at dksX2_lengthOf_0 11 rfl rfl)
def dkwX2_lambda_components_3_0 : List UInt8 := [42, 27, 51, 154, 0, 7, 4, 167, 0, 4, 3, 172]
abbrev dktX2_lambda_components_3_0 : List UInt8 := dkwX2_lambda_components_3_0 ++ []
theorem dksX2_lambda_components_3_0 : cX2_lambda_components_3.data.toList.drop 0 = dktX2_lambda_components_3_0 := by decide +kernel
theorem dX2_lambda_components_3_0 : decode cX2_lambda_components_3 0 = .ok (.aload_n 0, 1) := dk_42 (dk_at dksX2_lambda_components_3_0 0 rfl rfl)
theorem dX2_lambda_components_3_1 : decode cX2_lambda_components_3 1 = .ok (.iload_n 1, 1) := dk_27 (dk_at dksX2_lambda_components_3_0 1 rfl rfl)
theorem dX2_lambda_components_3_2 : decode cX2_lambda_components_3 2 = .ok (.baload, 1) := dk_51 (dk_at dksX2_lambda_components_3_0 2 rfl rfl)
theorem dX2_lambda_components_3_3 : decode cX2_lambda_components_3 3 = .ok (.ifCond .ne 7, 3) := dk_154 0 7 (dk_at dksX2_lambda_components_3_0 3 rfl rfl)
theorem dX2_lambda_components_3_6 : decode cX2_lambda_components_3 6 = .ok (.iconst 1, 1) := dk_4 (dk_at dksX2_lambda_components_3_0 6 rfl rfl)
theorem dX2_lambda_components_3_7 : decode cX2_lambda_components_3 7 = .ok (.goto 4, 3) := dk_167 0 4 (dk_at dksX2_lambda_components_3_0 7 rfl rfl)
theorem dX2_lambda_components_3_10 : decode cX2_lambda_components_3 10 = .ok (.iconst 0, 1) := dk_3 (dk_at dksX2_lambda_components_3_0 10 rfl rfl)
theorem dX2_lambda_components_3_11 : decode cX2_lambda_components_3 11 = .ok (.ireturn, 1) := dk_172 (dk_at dksX2_lambda_components_3_0 11 rfl rfl)
def dkwX2_componentsByMerging_5 : List UInt8 := [132, 4, 1, 167, 255, 177, 132, 3, 1, 167, 255, 160, 28, 172]
abbrev dktX2_componentsByMerging_5 : List UInt8 := dkwX2_componentsByMerging_5 ++ []
def dkwX2_componentsByMerging_4 : List UInt8 := [167, 0, 8, 43, 29, 184, 0, 133, 79, 28, 21, 5, 153, 0, 7, 4, 167, 0, 4, 3, 100, 61]
abbrev dktX2_componentsByMerging_4 : List UInt8 := dkwX2_componentsByMerging_4 ++ dktX2_componentsByMerging_5
def dkwX2_componentsByMerging_3 : List UInt8 := [167, 0, 4, 3, 54, 5, 43, 43, 29, 184, 0, 133, 21, 5, 153, 0, 12, 43, 21, 4, 184, 0, 133]
abbrev dktX2_componentsByMerging_3 : List UInt8 := dkwX2_componentsByMerging_3 ++ dktX2_componentsByMerging_4
def dkwX2_componentsByMerging_2 : List UInt8 := [29, 21, 4, 182, 0, 80, 158, 0, 21, 43, 29, 184, 0, 133, 43, 21, 4, 184, 0, 133, 159, 0, 7, 4]
abbrev dktX2_componentsByMerging_2 : List UInt8 := dkwX2_componentsByMerging_2 ++ dktX2_componentsByMerging_3
def dkwX2_componentsByMerging_1 : List UInt8 := [182, 0, 69, 61, 3, 62, 29, 42, 182, 0, 69, 162, 0, 94, 3, 54, 4, 21, 4, 29, 162, 0, 79, 42]
abbrev dktX2_componentsByMerging_1 : List UInt8 := dkwX2_componentsByMerging_1 ++ dktX2_componentsByMerging_2
def dkwX2_componentsByMerging_0 : List UInt8 := [16, 12, 188, 10, 76, 3, 61, 28, 16, 12, 162, 0, 13, 43, 28, 28, 79, 132, 2, 1, 167, 255, 243, 42]
abbrev dktX2_componentsByMerging_0 : List UInt8 := dkwX2_componentsByMerging_0 ++ dktX2_componentsByMerging_1
theorem dksX2_componentsByMerging_0 : cX2_componentsByMerging.data.toList.drop 0 = dktX2_componentsByMerging_0 := by decide +kernel
theorem dksX2_componentsByMerging_1 : cX2_componentsByMerging.data.toList.drop 24 = dktX2_componentsByMerging_1 := dk_seg dksX2_componentsByMerging_0 24 rfl rfl
theorem dksX2_componentsByMerging_2 : cX2_componentsByMerging.data.toList.drop 48 = dktX2_componentsByMerging_2 := dk_seg dksX2_componentsByMerging_1 24 rfl rfl
theorem dksX2_componentsByMerging_3 : cX2_componentsByMerging.data.toList.drop 72 = dktX2_componentsByMerging_3 := dk_seg dksX2_componentsByMerging_2 24 rfl rfl
theorem dksX2_componentsByMerging_4 : cX2_componentsByMerging.data.toList.drop 95 = dktX2_componentsByMerging_4 := dk_seg dksX2_componentsByMerging_3 23 rfl rfl
theorem dksX2_componentsByMerging_5 : cX2_componentsByMerging.data.toList.drop 117 = dktX2_componentsByMerging_5 := dk_seg dksX2_componentsByMerging_4 22 rfl rfl
theorem dX2_componentsByMerging_0 : decode cX2_componentsByMerging 0 = .ok (.bipush 12, 2) := dk_16 12 (dk_at dksX2_componentsByMerging_0 0 rfl rfl)
theorem dX2_componentsByMerging_2 : decode cX2_componentsByMerging 2 = .ok (.newarray .int, 2) := dk_188_10 (dk_at dksX2_componentsByMerging_0 2 rfl rfl)
theorem dX2_componentsByMerging_4 : decode cX2_componentsByMerging 4 = .ok (.astore_n 1, 1) := dk_76 (dk_at dksX2_componentsByMerging_0 4 rfl rfl)
theorem dX2_componentsByMerging_5 : decode cX2_componentsByMerging 5 = .ok (.iconst 0, 1) := dk_3 (dk_at dksX2_componentsByMerging_0 5 rfl rfl)
theorem dX2_componentsByMerging_6 : decode cX2_componentsByMerging 6 = .ok (.istore_n 2, 1) := dk_61 (dk_at dksX2_componentsByMerging_0 6 rfl rfl)
theorem dX2_componentsByMerging_7 : decode cX2_componentsByMerging 7 = .ok (.iload_n 2, 1) := dk_28 (dk_at dksX2_componentsByMerging_0 7 rfl rfl)
theorem dX2_componentsByMerging_8 : decode cX2_componentsByMerging 8 = .ok (.bipush 12, 2) := dk_16 12 (dk_at dksX2_componentsByMerging_0 8 rfl rfl)
theorem dX2_componentsByMerging_10 : decode cX2_componentsByMerging 10 = .ok (.if_icmp .ge 13, 3) := dk_162 0 13 (dk_at dksX2_componentsByMerging_0 10 rfl rfl)
theorem dX2_componentsByMerging_13 : decode cX2_componentsByMerging 13 = .ok (.aload_n 1, 1) := dk_43 (dk_at dksX2_componentsByMerging_0 13 rfl rfl)
theorem dX2_componentsByMerging_14 : decode cX2_componentsByMerging 14 = .ok (.iload_n 2, 1) := dk_28 (dk_at dksX2_componentsByMerging_0 14 rfl rfl)
theorem dX2_componentsByMerging_15 : decode cX2_componentsByMerging 15 = .ok (.iload_n 2, 1) := dk_28 (dk_at dksX2_componentsByMerging_0 15 rfl rfl)
theorem dX2_componentsByMerging_16 : decode cX2_componentsByMerging 16 = .ok (.iastore, 1) := dk_79 (dk_at dksX2_componentsByMerging_0 16 rfl rfl)
theorem dX2_componentsByMerging_17 : decode cX2_componentsByMerging 17 = .ok (.iinc 2 1, 3) := dk_132 2 1 (dk_at dksX2_componentsByMerging_0 17 rfl rfl)
theorem dX2_componentsByMerging_20 : decode cX2_componentsByMerging 20 = .ok (.goto (-13), 3) := dk_167 255 243 (dk_at dksX2_componentsByMerging_0 20 rfl rfl)
theorem dX2_componentsByMerging_23 : decode cX2_componentsByMerging 23 = .ok (.aload_n 0, 1) := dk_42 (dk_at dksX2_componentsByMerging_0 23 rfl rfl)
theorem dX2_componentsByMerging_24 : decode cX2_componentsByMerging 24 = .ok (.invokevirtual 69, 3) := dk_182 0 69 (dk_at dksX2_componentsByMerging_1 0 rfl rfl)
theorem dX2_componentsByMerging_27 : decode cX2_componentsByMerging 27 = .ok (.istore_n 2, 1) := dk_61 (dk_at dksX2_componentsByMerging_1 3 rfl rfl)
theorem dX2_componentsByMerging_28 : decode cX2_componentsByMerging 28 = .ok (.iconst 0, 1) := dk_3 (dk_at dksX2_componentsByMerging_1 4 rfl rfl)
theorem dX2_componentsByMerging_29 : decode cX2_componentsByMerging 29 = .ok (.istore_n 3, 1) := dk_62 (dk_at dksX2_componentsByMerging_1 5 rfl rfl)
theorem dX2_componentsByMerging_30 : decode cX2_componentsByMerging 30 = .ok (.iload_n 3, 1) := dk_29 (dk_at dksX2_componentsByMerging_1 6 rfl rfl)
theorem dX2_componentsByMerging_31 : decode cX2_componentsByMerging 31 = .ok (.aload_n 0, 1) := dk_42 (dk_at dksX2_componentsByMerging_1 7 rfl rfl)
theorem dX2_componentsByMerging_32 : decode cX2_componentsByMerging 32 = .ok (.invokevirtual 69, 3) := dk_182 0 69 (dk_at dksX2_componentsByMerging_1 8 rfl rfl)
theorem dX2_componentsByMerging_35 : decode cX2_componentsByMerging 35 = .ok (.if_icmp .ge 94, 3) := dk_162 0 94 (dk_at dksX2_componentsByMerging_1 11 rfl rfl)
theorem dX2_componentsByMerging_38 : decode cX2_componentsByMerging 38 = .ok (.iconst 0, 1) := dk_3 (dk_at dksX2_componentsByMerging_1 14 rfl rfl)
theorem dX2_componentsByMerging_39 : decode cX2_componentsByMerging 39 = .ok (.istore 4, 2) := dk_54 4 (dk_at dksX2_componentsByMerging_1 15 rfl rfl)
theorem dX2_componentsByMerging_41 : decode cX2_componentsByMerging 41 = .ok (.iload 4, 2) := dk_21 4 (dk_at dksX2_componentsByMerging_1 17 rfl rfl)
theorem dX2_componentsByMerging_43 : decode cX2_componentsByMerging 43 = .ok (.iload_n 3, 1) := dk_29 (dk_at dksX2_componentsByMerging_1 19 rfl rfl)
theorem dX2_componentsByMerging_44 : decode cX2_componentsByMerging 44 = .ok (.if_icmp .ge 79, 3) := dk_162 0 79 (dk_at dksX2_componentsByMerging_1 20 rfl rfl)
theorem dX2_componentsByMerging_47 : decode cX2_componentsByMerging 47 = .ok (.aload_n 0, 1) := dk_42 (dk_at dksX2_componentsByMerging_1 23 rfl rfl)
theorem dX2_componentsByMerging_48 : decode cX2_componentsByMerging 48 = .ok (.iload_n 3, 1) := dk_29 (dk_at dksX2_componentsByMerging_2 0 rfl rfl)
theorem dX2_componentsByMerging_49 : decode cX2_componentsByMerging 49 = .ok (.iload 4, 2) := dk_21 4 (dk_at dksX2_componentsByMerging_2 1 rfl rfl)
theorem dX2_componentsByMerging_51 : decode cX2_componentsByMerging 51 = .ok (.invokevirtual 80, 3) := dk_182 0 80 (dk_at dksX2_componentsByMerging_2 3 rfl rfl)
theorem dX2_componentsByMerging_54 : decode cX2_componentsByMerging 54 = .ok (.ifCond .le 21, 3) := dk_158 0 21 (dk_at dksX2_componentsByMerging_2 6 rfl rfl)
theorem dX2_componentsByMerging_57 : decode cX2_componentsByMerging 57 = .ok (.aload_n 1, 1) := dk_43 (dk_at dksX2_componentsByMerging_2 9 rfl rfl)
theorem dX2_componentsByMerging_58 : decode cX2_componentsByMerging 58 = .ok (.iload_n 3, 1) := dk_29 (dk_at dksX2_componentsByMerging_2 10 rfl rfl)
theorem dX2_componentsByMerging_59 : decode cX2_componentsByMerging 59 = .ok (.invokestatic 133, 3) := dk_184 0 133 (dk_at dksX2_componentsByMerging_2 11 rfl rfl)
theorem dX2_componentsByMerging_62 : decode cX2_componentsByMerging 62 = .ok (.aload_n 1, 1) := dk_43 (dk_at dksX2_componentsByMerging_2 14 rfl rfl)
theorem dX2_componentsByMerging_63 : decode cX2_componentsByMerging 63 = .ok (.iload 4, 2) := dk_21 4 (dk_at dksX2_componentsByMerging_2 15 rfl rfl)
theorem dX2_componentsByMerging_65 : decode cX2_componentsByMerging 65 = .ok (.invokestatic 133, 3) := dk_184 0 133 (dk_at dksX2_componentsByMerging_2 17 rfl rfl)
theorem dX2_componentsByMerging_68 : decode cX2_componentsByMerging 68 = .ok (.if_icmp .eq 7, 3) := dk_159 0 7 (dk_at dksX2_componentsByMerging_2 20 rfl rfl)
theorem dX2_componentsByMerging_71 : decode cX2_componentsByMerging 71 = .ok (.iconst 1, 1) := dk_4 (dk_at dksX2_componentsByMerging_2 23 rfl rfl)
theorem dX2_componentsByMerging_72 : decode cX2_componentsByMerging 72 = .ok (.goto 4, 3) := dk_167 0 4 (dk_at dksX2_componentsByMerging_3 0 rfl rfl)
theorem dX2_componentsByMerging_75 : decode cX2_componentsByMerging 75 = .ok (.iconst 0, 1) := dk_3 (dk_at dksX2_componentsByMerging_3 3 rfl rfl)
theorem dX2_componentsByMerging_76 : decode cX2_componentsByMerging 76 = .ok (.istore 5, 2) := dk_54 5 (dk_at dksX2_componentsByMerging_3 4 rfl rfl)
theorem dX2_componentsByMerging_78 : decode cX2_componentsByMerging 78 = .ok (.aload_n 1, 1) := dk_43 (dk_at dksX2_componentsByMerging_3 6 rfl rfl)
theorem dX2_componentsByMerging_79 : decode cX2_componentsByMerging 79 = .ok (.aload_n 1, 1) := dk_43 (dk_at dksX2_componentsByMerging_3 7 rfl rfl)
theorem dX2_componentsByMerging_80 : decode cX2_componentsByMerging 80 = .ok (.iload_n 3, 1) := dk_29 (dk_at dksX2_componentsByMerging_3 8 rfl rfl)
theorem dX2_componentsByMerging_81 : decode cX2_componentsByMerging 81 = .ok (.invokestatic 133, 3) := dk_184 0 133 (dk_at dksX2_componentsByMerging_3 9 rfl rfl)
theorem dX2_componentsByMerging_84 : decode cX2_componentsByMerging 84 = .ok (.iload 5, 2) := dk_21 5 (dk_at dksX2_componentsByMerging_3 12 rfl rfl)
theorem dX2_componentsByMerging_86 : decode cX2_componentsByMerging 86 = .ok (.ifCond .eq 12, 3) := dk_153 0 12 (dk_at dksX2_componentsByMerging_3 14 rfl rfl)
theorem dX2_componentsByMerging_89 : decode cX2_componentsByMerging 89 = .ok (.aload_n 1, 1) := dk_43 (dk_at dksX2_componentsByMerging_3 17 rfl rfl)
theorem dX2_componentsByMerging_90 : decode cX2_componentsByMerging 90 = .ok (.iload 4, 2) := dk_21 4 (dk_at dksX2_componentsByMerging_3 18 rfl rfl)
theorem dX2_componentsByMerging_92 : decode cX2_componentsByMerging 92 = .ok (.invokestatic 133, 3) := dk_184 0 133 (dk_at dksX2_componentsByMerging_3 20 rfl rfl)
theorem dX2_componentsByMerging_95 : decode cX2_componentsByMerging 95 = .ok (.goto 8, 3) := dk_167 0 8 (dk_at dksX2_componentsByMerging_4 0 rfl rfl)
theorem dX2_componentsByMerging_98 : decode cX2_componentsByMerging 98 = .ok (.aload_n 1, 1) := dk_43 (dk_at dksX2_componentsByMerging_4 3 rfl rfl)
theorem dX2_componentsByMerging_99 : decode cX2_componentsByMerging 99 = .ok (.iload_n 3, 1) := dk_29 (dk_at dksX2_componentsByMerging_4 4 rfl rfl)
theorem dX2_componentsByMerging_100 : decode cX2_componentsByMerging 100 = .ok (.invokestatic 133, 3) := dk_184 0 133 (dk_at dksX2_componentsByMerging_4 5 rfl rfl)
theorem dX2_componentsByMerging_103 : decode cX2_componentsByMerging 103 = .ok (.iastore, 1) := dk_79 (dk_at dksX2_componentsByMerging_4 8 rfl rfl)
theorem dX2_componentsByMerging_104 : decode cX2_componentsByMerging 104 = .ok (.iload_n 2, 1) := dk_28 (dk_at dksX2_componentsByMerging_4 9 rfl rfl)
theorem dX2_componentsByMerging_105 : decode cX2_componentsByMerging 105 = .ok (.iload 5, 2) := dk_21 5 (dk_at dksX2_componentsByMerging_4 10 rfl rfl)
theorem dX2_componentsByMerging_107 : decode cX2_componentsByMerging 107 = .ok (.ifCond .eq 7, 3) := dk_153 0 7 (dk_at dksX2_componentsByMerging_4 12 rfl rfl)
theorem dX2_componentsByMerging_110 : decode cX2_componentsByMerging 110 = .ok (.iconst 1, 1) := dk_4 (dk_at dksX2_componentsByMerging_4 15 rfl rfl)
theorem dX2_componentsByMerging_111 : decode cX2_componentsByMerging 111 = .ok (.goto 4, 3) := dk_167 0 4 (dk_at dksX2_componentsByMerging_4 16 rfl rfl)
theorem dX2_componentsByMerging_114 : decode cX2_componentsByMerging 114 = .ok (.iconst 0, 1) := dk_3 (dk_at dksX2_componentsByMerging_4 19 rfl rfl)
theorem dX2_componentsByMerging_115 : decode cX2_componentsByMerging 115 = .ok (.isub, 1) := dk_100 (dk_at dksX2_componentsByMerging_4 20 rfl rfl)
theorem dX2_componentsByMerging_116 : decode cX2_componentsByMerging 116 = .ok (.istore_n 2, 1) := dk_61 (dk_at dksX2_componentsByMerging_4 21 rfl rfl)
theorem dX2_componentsByMerging_117 : decode cX2_componentsByMerging 117 = .ok (.iinc 4 1, 3) := dk_132 4 1 (dk_at dksX2_componentsByMerging_5 0 rfl rfl)
theorem dX2_componentsByMerging_120 : decode cX2_componentsByMerging 120 = .ok (.goto (-79), 3) := dk_167 255 177 (dk_at dksX2_componentsByMerging_5 3 rfl rfl)
theorem dX2_componentsByMerging_123 : decode cX2_componentsByMerging 123 = .ok (.iinc 3 1, 3) := dk_132 3 1 (dk_at dksX2_componentsByMerging_5 6 rfl rfl)
theorem dX2_componentsByMerging_126 : decode cX2_componentsByMerging 126 = .ok (.goto (-96), 3) := dk_167 255 160 (dk_at dksX2_componentsByMerging_5 9 rfl rfl)
theorem dX2_componentsByMerging_129 : decode cX2_componentsByMerging 129 = .ok (.iload_n 2, 1) := dk_28 (dk_at dksX2_componentsByMerging_5 12 rfl rfl)
theorem dX2_componentsByMerging_130 : decode cX2_componentsByMerging 130 = .ok (.ireturn, 1) := dk_172 (dk_at dksX2_componentsByMerging_5 13 rfl rfl)
def dkwX2_leaderOf_0 : List UInt8 := [42, 27, 46, 27, 160, 0, 7, 27, 167, 0, 10, 42, 42, 27, 46, 184, 0, 133, 172]
abbrev dktX2_leaderOf_0 : List UInt8 := dkwX2_leaderOf_0 ++ []
theorem dksX2_leaderOf_0 : cX2_leaderOf.data.toList.drop 0 = dktX2_leaderOf_0 := by decide +kernel
theorem dX2_leaderOf_0 : decode cX2_leaderOf 0 = .ok (.aload_n 0, 1) := dk_42 (dk_at dksX2_leaderOf_0 0 rfl rfl)
theorem dX2_leaderOf_1 : decode cX2_leaderOf 1 = .ok (.iload_n 1, 1) := dk_27 (dk_at dksX2_leaderOf_0 1 rfl rfl)
theorem dX2_leaderOf_2 : decode cX2_leaderOf 2 = .ok (.iaload, 1) := dk_46 (dk_at dksX2_leaderOf_0 2 rfl rfl)
theorem dX2_leaderOf_3 : decode cX2_leaderOf 3 = .ok (.iload_n 1, 1) := dk_27 (dk_at dksX2_leaderOf_0 3 rfl rfl)
theorem dX2_leaderOf_4 : decode cX2_leaderOf 4 = .ok (.if_icmp .ne 7, 3) := dk_160 0 7 (dk_at dksX2_leaderOf_0 4 rfl rfl)
theorem dX2_leaderOf_7 : decode cX2_leaderOf 7 = .ok (.iload_n 1, 1) := dk_27 (dk_at dksX2_leaderOf_0 7 rfl rfl)
theorem dX2_leaderOf_8 : decode cX2_leaderOf 8 = .ok (.goto 10, 3) := dk_167 0 10 (dk_at dksX2_leaderOf_0 8 rfl rfl)
theorem dX2_leaderOf_11 : decode cX2_leaderOf 11 = .ok (.aload_n 0, 1) := dk_42 (dk_at dksX2_leaderOf_0 11 rfl rfl)
theorem dX2_leaderOf_12 : decode cX2_leaderOf 12 = .ok (.aload_n 0, 1) := dk_42 (dk_at dksX2_leaderOf_0 12 rfl rfl)
theorem dX2_leaderOf_13 : decode cX2_leaderOf 13 = .ok (.iload_n 1, 1) := dk_27 (dk_at dksX2_leaderOf_0 13 rfl rfl)
theorem dX2_leaderOf_14 : decode cX2_leaderOf 14 = .ok (.iaload, 1) := dk_46 (dk_at dksX2_leaderOf_0 14 rfl rfl)
theorem dX2_leaderOf_15 : decode cX2_leaderOf 15 = .ok (.invokestatic 133, 3) := dk_184 0 133 (dk_at dksX2_leaderOf_0 15 rfl rfl)
theorem dX2_leaderOf_18 : decode cX2_leaderOf 18 = .ok (.ireturn, 1) := dk_172 (dk_at dksX2_leaderOf_0 18 rfl rfl)
def dkwX2_distancesFrom_2 : List UInt8 := [182, 0, 112, 54, 4, 167, 255, 217, 44, 176]
abbrev dktX2_distancesFrom_2 : List UInt8 := dkwX2_distancesFrom_2 ++ []
def dkwX2_distancesFrom_1 : List UInt8 := [84, 44, 21, 4, 46, 54, 5, 42, 21, 4, 44, 21, 5, 186, 0, 105, 0, 0, 182, 0, 108, 42, 44, 45]
abbrev dktX2_distancesFrom_1 : List UInt8 := dkwX2_distancesFrom_1 ++ dktX2_distancesFrom_2
def dkwX2_distancesFrom_0 : List UInt8 := [42, 27, 182, 0, 101, 77, 16, 12, 188, 4, 78, 27, 54, 4, 21, 4, 2, 159, 0, 39, 45, 21, 4, 4]
abbrev dktX2_distancesFrom_0 : List UInt8 := dkwX2_distancesFrom_0 ++ dktX2_distancesFrom_1
theorem dksX2_distancesFrom_0 : cX2_distancesFrom.data.toList.drop 0 = dktX2_distancesFrom_0 := by decide +kernel
theorem dksX2_distancesFrom_1 : cX2_distancesFrom.data.toList.drop 24 = dktX2_distancesFrom_1 := dk_seg dksX2_distancesFrom_0 24 rfl rfl
theorem dksX2_distancesFrom_2 : cX2_distancesFrom.data.toList.drop 48 = dktX2_distancesFrom_2 := dk_seg dksX2_distancesFrom_1 24 rfl rfl
theorem dX2_distancesFrom_0 : decode cX2_distancesFrom 0 = .ok (.aload_n 0, 1) := dk_42 (dk_at dksX2_distancesFrom_0 0 rfl rfl)
theorem dX2_distancesFrom_1 : decode cX2_distancesFrom 1 = .ok (.iload_n 1, 1) := dk_27 (dk_at dksX2_distancesFrom_0 1 rfl rfl)
theorem dX2_distancesFrom_2 : decode cX2_distancesFrom 2 = .ok (.invokevirtual 101, 3) := dk_182 0 101 (dk_at dksX2_distancesFrom_0 2 rfl rfl)
theorem dX2_distancesFrom_5 : decode cX2_distancesFrom 5 = .ok (.astore_n 2, 1) := dk_77 (dk_at dksX2_distancesFrom_0 5 rfl rfl)
theorem dX2_distancesFrom_6 : decode cX2_distancesFrom 6 = .ok (.bipush 12, 2) := dk_16 12 (dk_at dksX2_distancesFrom_0 6 rfl rfl)
theorem dX2_distancesFrom_8 : decode cX2_distancesFrom 8 = .ok (.newarray .boolean, 2) := dk_188_4 (dk_at dksX2_distancesFrom_0 8 rfl rfl)
theorem dX2_distancesFrom_10 : decode cX2_distancesFrom 10 = .ok (.astore_n 3, 1) := dk_78 (dk_at dksX2_distancesFrom_0 10 rfl rfl)
theorem dX2_distancesFrom_11 : decode cX2_distancesFrom 11 = .ok (.iload_n 1, 1) := dk_27 (dk_at dksX2_distancesFrom_0 11 rfl rfl)
theorem dX2_distancesFrom_12 : decode cX2_distancesFrom 12 = .ok (.istore 4, 2) := dk_54 4 (dk_at dksX2_distancesFrom_0 12 rfl rfl)
theorem dX2_distancesFrom_14 : decode cX2_distancesFrom 14 = .ok (.iload 4, 2) := dk_21 4 (dk_at dksX2_distancesFrom_0 14 rfl rfl)
theorem dX2_distancesFrom_16 : decode cX2_distancesFrom 16 = .ok (.iconst (-1), 1) := dk_2 (dk_at dksX2_distancesFrom_0 16 rfl rfl)
theorem dX2_distancesFrom_17 : decode cX2_distancesFrom 17 = .ok (.if_icmp .eq 39, 3) := dk_159 0 39 (dk_at dksX2_distancesFrom_0 17 rfl rfl)
theorem dX2_distancesFrom_20 : decode cX2_distancesFrom 20 = .ok (.aload_n 3, 1) := dk_45 (dk_at dksX2_distancesFrom_0 20 rfl rfl)
theorem dX2_distancesFrom_21 : decode cX2_distancesFrom 21 = .ok (.iload 4, 2) := dk_21 4 (dk_at dksX2_distancesFrom_0 21 rfl rfl)
theorem dX2_distancesFrom_23 : decode cX2_distancesFrom 23 = .ok (.iconst 1, 1) := dk_4 (dk_at dksX2_distancesFrom_0 23 rfl rfl)
theorem dX2_distancesFrom_24 : decode cX2_distancesFrom 24 = .ok (.bastore, 1) := dk_84 (dk_at dksX2_distancesFrom_1 0 rfl rfl)
theorem dX2_distancesFrom_25 : decode cX2_distancesFrom 25 = .ok (.aload_n 2, 1) := dk_44 (dk_at dksX2_distancesFrom_1 1 rfl rfl)
theorem dX2_distancesFrom_26 : decode cX2_distancesFrom 26 = .ok (.iload 4, 2) := dk_21 4 (dk_at dksX2_distancesFrom_1 2 rfl rfl)
theorem dX2_distancesFrom_28 : decode cX2_distancesFrom 28 = .ok (.iaload, 1) := dk_46 (dk_at dksX2_distancesFrom_1 4 rfl rfl)
theorem dX2_distancesFrom_29 : decode cX2_distancesFrom 29 = .ok (.istore 5, 2) := dk_54 5 (dk_at dksX2_distancesFrom_1 5 rfl rfl)
theorem dX2_distancesFrom_31 : decode cX2_distancesFrom 31 = .ok (.aload_n 0, 1) := dk_42 (dk_at dksX2_distancesFrom_1 7 rfl rfl)
theorem dX2_distancesFrom_32 : decode cX2_distancesFrom 32 = .ok (.iload 4, 2) := dk_21 4 (dk_at dksX2_distancesFrom_1 8 rfl rfl)
theorem dX2_distancesFrom_34 : decode cX2_distancesFrom 34 = .ok (.aload_n 2, 1) := dk_44 (dk_at dksX2_distancesFrom_1 10 rfl rfl)
theorem dX2_distancesFrom_35 : decode cX2_distancesFrom 35 = .ok (.iload 5, 2) := dk_21 5 (dk_at dksX2_distancesFrom_1 11 rfl rfl)
theorem dX2_distancesFrom_37 : decode cX2_distancesFrom 37 = .ok (.invokedynamic 105, 5) := by decide +kernel
theorem dX2_distancesFrom_42 : decode cX2_distancesFrom 42 = .ok (.invokevirtual 108, 3) := dk_182 0 108 (dk_at dksX2_distancesFrom_1 18 rfl rfl)
theorem dX2_distancesFrom_45 : decode cX2_distancesFrom 45 = .ok (.aload_n 0, 1) := dk_42 (dk_at dksX2_distancesFrom_1 21 rfl rfl)
theorem dX2_distancesFrom_46 : decode cX2_distancesFrom 46 = .ok (.aload_n 2, 1) := dk_44 (dk_at dksX2_distancesFrom_1 22 rfl rfl)
theorem dX2_distancesFrom_47 : decode cX2_distancesFrom 47 = .ok (.aload_n 3, 1) := dk_45 (dk_at dksX2_distancesFrom_1 23 rfl rfl)
theorem dX2_distancesFrom_48 : decode cX2_distancesFrom 48 = .ok (.invokevirtual 112, 3) := dk_182 0 112 (dk_at dksX2_distancesFrom_2 0 rfl rfl)
theorem dX2_distancesFrom_51 : decode cX2_distancesFrom 51 = .ok (.istore 4, 2) := dk_54 4 (dk_at dksX2_distancesFrom_2 3 rfl rfl)
theorem dX2_distancesFrom_53 : decode cX2_distancesFrom 53 = .ok (.goto (-39), 3) := dk_167 255 217 (dk_at dksX2_distancesFrom_2 5 rfl rfl)
theorem dX2_distancesFrom_56 : decode cX2_distancesFrom 56 = .ok (.aload_n 2, 1) := dk_44 (dk_at dksX2_distancesFrom_2 8 rfl rfl)
theorem dX2_distancesFrom_57 : decode cX2_distancesFrom 57 = .ok (.areturn, 1) := dk_176 (dk_at dksX2_distancesFrom_2 9 rfl rfl)
def dkwX2_startingAt_1 : List UInt8 := [18, 100, 79, 132, 3, 1, 167, 255, 233, 44, 176]
abbrev dktX2_startingAt_1 : List UInt8 := dkwX2_startingAt_1 ++ []
def dkwX2_startingAt_0 : List UInt8 := [16, 12, 188, 10, 77, 3, 62, 29, 16, 12, 162, 0, 23, 44, 29, 29, 27, 160, 0, 7, 3, 167, 0, 5]
abbrev dktX2_startingAt_0 : List UInt8 := dkwX2_startingAt_0 ++ dktX2_startingAt_1
theorem dksX2_startingAt_0 : cX2_startingAt.data.toList.drop 0 = dktX2_startingAt_0 := by decide +kernel
theorem dksX2_startingAt_1 : cX2_startingAt.data.toList.drop 24 = dktX2_startingAt_1 := dk_seg dksX2_startingAt_0 24 rfl rfl
theorem dX2_startingAt_0 : decode cX2_startingAt 0 = .ok (.bipush 12, 2) := dk_16 12 (dk_at dksX2_startingAt_0 0 rfl rfl)
theorem dX2_startingAt_2 : decode cX2_startingAt 2 = .ok (.newarray .int, 2) := dk_188_10 (dk_at dksX2_startingAt_0 2 rfl rfl)
theorem dX2_startingAt_4 : decode cX2_startingAt 4 = .ok (.astore_n 2, 1) := dk_77 (dk_at dksX2_startingAt_0 4 rfl rfl)
theorem dX2_startingAt_5 : decode cX2_startingAt 5 = .ok (.iconst 0, 1) := dk_3 (dk_at dksX2_startingAt_0 5 rfl rfl)
theorem dX2_startingAt_6 : decode cX2_startingAt 6 = .ok (.istore_n 3, 1) := dk_62 (dk_at dksX2_startingAt_0 6 rfl rfl)
theorem dX2_startingAt_7 : decode cX2_startingAt 7 = .ok (.iload_n 3, 1) := dk_29 (dk_at dksX2_startingAt_0 7 rfl rfl)
theorem dX2_startingAt_8 : decode cX2_startingAt 8 = .ok (.bipush 12, 2) := dk_16 12 (dk_at dksX2_startingAt_0 8 rfl rfl)
theorem dX2_startingAt_10 : decode cX2_startingAt 10 = .ok (.if_icmp .ge 23, 3) := dk_162 0 23 (dk_at dksX2_startingAt_0 10 rfl rfl)
theorem dX2_startingAt_13 : decode cX2_startingAt 13 = .ok (.aload_n 2, 1) := dk_44 (dk_at dksX2_startingAt_0 13 rfl rfl)
theorem dX2_startingAt_14 : decode cX2_startingAt 14 = .ok (.iload_n 3, 1) := dk_29 (dk_at dksX2_startingAt_0 14 rfl rfl)
theorem dX2_startingAt_15 : decode cX2_startingAt 15 = .ok (.iload_n 3, 1) := dk_29 (dk_at dksX2_startingAt_0 15 rfl rfl)
theorem dX2_startingAt_16 : decode cX2_startingAt 16 = .ok (.iload_n 1, 1) := dk_27 (dk_at dksX2_startingAt_0 16 rfl rfl)
theorem dX2_startingAt_17 : decode cX2_startingAt 17 = .ok (.if_icmp .ne 7, 3) := dk_160 0 7 (dk_at dksX2_startingAt_0 17 rfl rfl)
theorem dX2_startingAt_20 : decode cX2_startingAt 20 = .ok (.iconst 0, 1) := dk_3 (dk_at dksX2_startingAt_0 20 rfl rfl)
theorem dX2_startingAt_21 : decode cX2_startingAt 21 = .ok (.goto 5, 3) := dk_167 0 5 (dk_at dksX2_startingAt_0 21 rfl rfl)
theorem dX2_startingAt_24 : decode cX2_startingAt 24 = .ok (.ldc 100, 2) := dk_18 100 (dk_at dksX2_startingAt_1 0 rfl rfl)
theorem dX2_startingAt_26 : decode cX2_startingAt 26 = .ok (.iastore, 1) := dk_79 (dk_at dksX2_startingAt_1 2 rfl rfl)
theorem dX2_startingAt_27 : decode cX2_startingAt 27 = .ok (.iinc 3 1, 3) := dk_132 3 1 (dk_at dksX2_startingAt_1 3 rfl rfl)
theorem dX2_startingAt_30 : decode cX2_startingAt 30 = .ok (.goto (-23), 3) := dk_167 255 233 (dk_at dksX2_startingAt_1 6 rfl rfl)
theorem dX2_startingAt_33 : decode cX2_startingAt 33 = .ok (.aload_n 2, 1) := dk_44 (dk_at dksX2_startingAt_1 9 rfl rfl)
theorem dX2_startingAt_34 : decode cX2_startingAt 34 = .ok (.areturn, 1) := dk_176 (dk_at dksX2_startingAt_1 10 rfl rfl)
def dkwX2_lambda_distancesFrom_0_0 : List UInt8 := [42, 28, 27, 29, 96, 184, 1, 50, 177]
abbrev dktX2_lambda_distancesFrom_0_0 : List UInt8 := dkwX2_lambda_distancesFrom_0_0 ++ []
theorem dksX2_lambda_distancesFrom_0_0 : cX2_lambda_distancesFrom_0.data.toList.drop 0 = dktX2_lambda_distancesFrom_0_0 := by decide +kernel
theorem dX2_lambda_distancesFrom_0_0 : decode cX2_lambda_distancesFrom_0 0 = .ok (.aload_n 0, 1) := dk_42 (dk_at dksX2_lambda_distancesFrom_0_0 0 rfl rfl)
theorem dX2_lambda_distancesFrom_0_1 : decode cX2_lambda_distancesFrom_0 1 = .ok (.iload_n 2, 1) := dk_28 (dk_at dksX2_lambda_distancesFrom_0_0 1 rfl rfl)
theorem dX2_lambda_distancesFrom_0_2 : decode cX2_lambda_distancesFrom_0 2 = .ok (.iload_n 1, 1) := dk_27 (dk_at dksX2_lambda_distancesFrom_0_0 2 rfl rfl)
theorem dX2_lambda_distancesFrom_0_3 : decode cX2_lambda_distancesFrom_0 3 = .ok (.iload_n 3, 1) := dk_29 (dk_at dksX2_lambda_distancesFrom_0_0 3 rfl rfl)
theorem dX2_lambda_distancesFrom_0_4 : decode cX2_lambda_distancesFrom_0 4 = .ok (.iadd, 1) := dk_96 (dk_at dksX2_lambda_distancesFrom_0_0 4 rfl rfl)
theorem dX2_lambda_distancesFrom_0_5 : decode cX2_lambda_distancesFrom_0 5 = .ok (.invokestatic 306, 3) := dk_184 1 50 (dk_at dksX2_lambda_distancesFrom_0_0 5 rfl rfl)
theorem dX2_lambda_distancesFrom_0_8 : decode cX2_lambda_distancesFrom_0 8 = .ok (.return_, 1) := dk_177 (dk_at dksX2_lambda_distancesFrom_0_0 8 rfl rfl)
def dkwX2_shorten_0 : List UInt8 := [42, 27, 42, 27, 46, 28, 184, 0, 95, 79, 177]
abbrev dktX2_shorten_0 : List UInt8 := dkwX2_shorten_0 ++ []
theorem dksX2_shorten_0 : cX2_shorten.data.toList.drop 0 = dktX2_shorten_0 := by decide +kernel
theorem dX2_shorten_0 : decode cX2_shorten 0 = .ok (.aload_n 0, 1) := dk_42 (dk_at dksX2_shorten_0 0 rfl rfl)
theorem dX2_shorten_1 : decode cX2_shorten 1 = .ok (.iload_n 1, 1) := dk_27 (dk_at dksX2_shorten_0 1 rfl rfl)
theorem dX2_shorten_2 : decode cX2_shorten 2 = .ok (.aload_n 0, 1) := dk_42 (dk_at dksX2_shorten_0 2 rfl rfl)
theorem dX2_shorten_3 : decode cX2_shorten 3 = .ok (.iload_n 1, 1) := dk_27 (dk_at dksX2_shorten_0 3 rfl rfl)
theorem dX2_shorten_4 : decode cX2_shorten 4 = .ok (.iaload, 1) := dk_46 (dk_at dksX2_shorten_0 4 rfl rfl)
theorem dX2_shorten_5 : decode cX2_shorten 5 = .ok (.iload_n 2, 1) := dk_28 (dk_at dksX2_shorten_0 5 rfl rfl)
theorem dX2_shorten_6 : decode cX2_shorten 6 = .ok (.invokestatic 95, 3) := dk_184 0 95 (dk_at dksX2_shorten_0 6 rfl rfl)
theorem dX2_shorten_9 : decode cX2_shorten 9 = .ok (.iastore, 1) := dk_79 (dk_at dksX2_shorten_0 9 rfl rfl)
theorem dX2_shorten_10 : decode cX2_shorten 10 = .ok (.return_, 1) := dk_177 (dk_at dksX2_shorten_0 10 rfl rfl)
def dkwX2_visitTrails_1 : List UInt8 := [182, 0, 80, 185, 0, 84, 3, 0, 132, 3, 1, 167, 255, 223, 177]
abbrev dktX2_visitTrails_1 : List UInt8 := dkwX2_visitTrails_1 ++ []
def dkwX2_visitTrails_0 : List UInt8 := [3, 62, 29, 42, 182, 0, 69, 162, 0, 31, 42, 27, 29, 182, 0, 80, 158, 0, 16, 44, 29, 42, 27, 29]
abbrev dktX2_visitTrails_0 : List UInt8 := dkwX2_visitTrails_0 ++ dktX2_visitTrails_1
theorem dksX2_visitTrails_0 : cX2_visitTrails.data.toList.drop 0 = dktX2_visitTrails_0 := by decide +kernel
theorem dksX2_visitTrails_1 : cX2_visitTrails.data.toList.drop 24 = dktX2_visitTrails_1 := dk_seg dksX2_visitTrails_0 24 rfl rfl
theorem dX2_visitTrails_0 : decode cX2_visitTrails 0 = .ok (.iconst 0, 1) := dk_3 (dk_at dksX2_visitTrails_0 0 rfl rfl)
theorem dX2_visitTrails_1 : decode cX2_visitTrails 1 = .ok (.istore_n 3, 1) := dk_62 (dk_at dksX2_visitTrails_0 1 rfl rfl)
theorem dX2_visitTrails_2 : decode cX2_visitTrails 2 = .ok (.iload_n 3, 1) := dk_29 (dk_at dksX2_visitTrails_0 2 rfl rfl)
theorem dX2_visitTrails_3 : decode cX2_visitTrails 3 = .ok (.aload_n 0, 1) := dk_42 (dk_at dksX2_visitTrails_0 3 rfl rfl)
theorem dX2_visitTrails_4 : decode cX2_visitTrails 4 = .ok (.invokevirtual 69, 3) := dk_182 0 69 (dk_at dksX2_visitTrails_0 4 rfl rfl)
theorem dX2_visitTrails_7 : decode cX2_visitTrails 7 = .ok (.if_icmp .ge 31, 3) := dk_162 0 31 (dk_at dksX2_visitTrails_0 7 rfl rfl)
theorem dX2_visitTrails_10 : decode cX2_visitTrails 10 = .ok (.aload_n 0, 1) := dk_42 (dk_at dksX2_visitTrails_0 10 rfl rfl)
theorem dX2_visitTrails_11 : decode cX2_visitTrails 11 = .ok (.iload_n 1, 1) := dk_27 (dk_at dksX2_visitTrails_0 11 rfl rfl)
theorem dX2_visitTrails_12 : decode cX2_visitTrails 12 = .ok (.iload_n 3, 1) := dk_29 (dk_at dksX2_visitTrails_0 12 rfl rfl)
theorem dX2_visitTrails_13 : decode cX2_visitTrails 13 = .ok (.invokevirtual 80, 3) := dk_182 0 80 (dk_at dksX2_visitTrails_0 13 rfl rfl)
theorem dX2_visitTrails_16 : decode cX2_visitTrails 16 = .ok (.ifCond .le 16, 3) := dk_158 0 16 (dk_at dksX2_visitTrails_0 16 rfl rfl)
theorem dX2_visitTrails_19 : decode cX2_visitTrails 19 = .ok (.aload_n 2, 1) := dk_44 (dk_at dksX2_visitTrails_0 19 rfl rfl)
theorem dX2_visitTrails_20 : decode cX2_visitTrails 20 = .ok (.iload_n 3, 1) := dk_29 (dk_at dksX2_visitTrails_0 20 rfl rfl)
theorem dX2_visitTrails_21 : decode cX2_visitTrails 21 = .ok (.aload_n 0, 1) := dk_42 (dk_at dksX2_visitTrails_0 21 rfl rfl)
theorem dX2_visitTrails_22 : decode cX2_visitTrails 22 = .ok (.iload_n 1, 1) := dk_27 (dk_at dksX2_visitTrails_0 22 rfl rfl)
theorem dX2_visitTrails_23 : decode cX2_visitTrails 23 = .ok (.iload_n 3, 1) := dk_29 (dk_at dksX2_visitTrails_0 23 rfl rfl)
theorem dX2_visitTrails_24 : decode cX2_visitTrails 24 = .ok (.invokevirtual 80, 3) := dk_182 0 80 (dk_at dksX2_visitTrails_1 0 rfl rfl)
theorem dX2_visitTrails_27 : decode cX2_visitTrails 27 = .ok (.invokeinterface 84 3, 5) := by decide +kernel
theorem dX2_visitTrails_32 : decode cX2_visitTrails 32 = .ok (.iinc 3 1, 3) := dk_132 3 1 (dk_at dksX2_visitTrails_1 8 rfl rfl)
theorem dX2_visitTrails_35 : decode cX2_visitTrails 35 = .ok (.goto (-33), 3) := dk_167 255 223 (dk_at dksX2_visitTrails_1 11 rfl rfl)
theorem dX2_visitTrails_38 : decode cX2_visitTrails 38 = .ok (.return_, 1) := dk_177 (dk_at dksX2_visitTrails_1 14 rfl rfl)
def dkwX2_closest_2 : List UInt8 := [21, 5, 153, 0, 8, 21, 4, 167, 0, 4, 29, 62, 132, 4, 1, 167, 255, 198, 29, 172]
abbrev dktX2_closest_2 : List UInt8 := dkwX2_closest_2 ++ []
def dkwX2_closest_1 : List UInt8 := [46, 29, 2, 160, 0, 8, 18, 100, 167, 0, 6, 43, 29, 46, 162, 0, 7, 4, 167, 0, 4, 3, 54, 5]
abbrev dktX2_closest_1 : List UInt8 := dkwX2_closest_1 ++ dktX2_closest_2
def dkwX2_closest_0 : List UInt8 := [2, 62, 3, 54, 4, 21, 4, 42, 182, 0, 69, 162, 0, 55, 44, 21, 4, 51, 154, 0, 27, 43, 21, 4]
abbrev dktX2_closest_0 : List UInt8 := dkwX2_closest_0 ++ dktX2_closest_1
theorem dksX2_closest_0 : cX2_closest.data.toList.drop 0 = dktX2_closest_0 := by decide +kernel
theorem dksX2_closest_1 : cX2_closest.data.toList.drop 24 = dktX2_closest_1 := dk_seg dksX2_closest_0 24 rfl rfl
theorem dksX2_closest_2 : cX2_closest.data.toList.drop 48 = dktX2_closest_2 := dk_seg dksX2_closest_1 24 rfl rfl
theorem dX2_closest_0 : decode cX2_closest 0 = .ok (.iconst (-1), 1) := dk_2 (dk_at dksX2_closest_0 0 rfl rfl)
theorem dX2_closest_1 : decode cX2_closest 1 = .ok (.istore_n 3, 1) := dk_62 (dk_at dksX2_closest_0 1 rfl rfl)
theorem dX2_closest_2 : decode cX2_closest 2 = .ok (.iconst 0, 1) := dk_3 (dk_at dksX2_closest_0 2 rfl rfl)
theorem dX2_closest_3 : decode cX2_closest 3 = .ok (.istore 4, 2) := dk_54 4 (dk_at dksX2_closest_0 3 rfl rfl)
theorem dX2_closest_5 : decode cX2_closest 5 = .ok (.iload 4, 2) := dk_21 4 (dk_at dksX2_closest_0 5 rfl rfl)
theorem dX2_closest_7 : decode cX2_closest 7 = .ok (.aload_n 0, 1) := dk_42 (dk_at dksX2_closest_0 7 rfl rfl)
theorem dX2_closest_8 : decode cX2_closest 8 = .ok (.invokevirtual 69, 3) := dk_182 0 69 (dk_at dksX2_closest_0 8 rfl rfl)
theorem dX2_closest_11 : decode cX2_closest 11 = .ok (.if_icmp .ge 55, 3) := dk_162 0 55 (dk_at dksX2_closest_0 11 rfl rfl)
theorem dX2_closest_14 : decode cX2_closest 14 = .ok (.aload_n 2, 1) := dk_44 (dk_at dksX2_closest_0 14 rfl rfl)
theorem dX2_closest_15 : decode cX2_closest 15 = .ok (.iload 4, 2) := dk_21 4 (dk_at dksX2_closest_0 15 rfl rfl)
theorem dX2_closest_17 : decode cX2_closest 17 = .ok (.baload, 1) := dk_51 (dk_at dksX2_closest_0 17 rfl rfl)
theorem dX2_closest_18 : decode cX2_closest 18 = .ok (.ifCond .ne 27, 3) := dk_154 0 27 (dk_at dksX2_closest_0 18 rfl rfl)
theorem dX2_closest_21 : decode cX2_closest 21 = .ok (.aload_n 1, 1) := dk_43 (dk_at dksX2_closest_0 21 rfl rfl)
theorem dX2_closest_22 : decode cX2_closest 22 = .ok (.iload 4, 2) := dk_21 4 (dk_at dksX2_closest_0 22 rfl rfl)
theorem dX2_closest_24 : decode cX2_closest 24 = .ok (.iaload, 1) := dk_46 (dk_at dksX2_closest_1 0 rfl rfl)
theorem dX2_closest_25 : decode cX2_closest 25 = .ok (.iload_n 3, 1) := dk_29 (dk_at dksX2_closest_1 1 rfl rfl)
theorem dX2_closest_26 : decode cX2_closest 26 = .ok (.iconst (-1), 1) := dk_2 (dk_at dksX2_closest_1 2 rfl rfl)
theorem dX2_closest_27 : decode cX2_closest 27 = .ok (.if_icmp .ne 8, 3) := dk_160 0 8 (dk_at dksX2_closest_1 3 rfl rfl)
theorem dX2_closest_30 : decode cX2_closest 30 = .ok (.ldc 100, 2) := dk_18 100 (dk_at dksX2_closest_1 6 rfl rfl)
theorem dX2_closest_32 : decode cX2_closest 32 = .ok (.goto 6, 3) := dk_167 0 6 (dk_at dksX2_closest_1 8 rfl rfl)
theorem dX2_closest_35 : decode cX2_closest 35 = .ok (.aload_n 1, 1) := dk_43 (dk_at dksX2_closest_1 11 rfl rfl)
theorem dX2_closest_36 : decode cX2_closest 36 = .ok (.iload_n 3, 1) := dk_29 (dk_at dksX2_closest_1 12 rfl rfl)
theorem dX2_closest_37 : decode cX2_closest 37 = .ok (.iaload, 1) := dk_46 (dk_at dksX2_closest_1 13 rfl rfl)
theorem dX2_closest_38 : decode cX2_closest 38 = .ok (.if_icmp .ge 7, 3) := dk_162 0 7 (dk_at dksX2_closest_1 14 rfl rfl)
theorem dX2_closest_41 : decode cX2_closest 41 = .ok (.iconst 1, 1) := dk_4 (dk_at dksX2_closest_1 17 rfl rfl)
theorem dX2_closest_42 : decode cX2_closest 42 = .ok (.goto 4, 3) := dk_167 0 4 (dk_at dksX2_closest_1 18 rfl rfl)
theorem dX2_closest_45 : decode cX2_closest 45 = .ok (.iconst 0, 1) := dk_3 (dk_at dksX2_closest_1 21 rfl rfl)
theorem dX2_closest_46 : decode cX2_closest 46 = .ok (.istore 5, 2) := dk_54 5 (dk_at dksX2_closest_1 22 rfl rfl)
theorem dX2_closest_48 : decode cX2_closest 48 = .ok (.iload 5, 2) := dk_21 5 (dk_at dksX2_closest_2 0 rfl rfl)
theorem dX2_closest_50 : decode cX2_closest 50 = .ok (.ifCond .eq 8, 3) := dk_153 0 8 (dk_at dksX2_closest_2 2 rfl rfl)
theorem dX2_closest_53 : decode cX2_closest 53 = .ok (.iload 4, 2) := dk_21 4 (dk_at dksX2_closest_2 5 rfl rfl)
theorem dX2_closest_55 : decode cX2_closest 55 = .ok (.goto 4, 3) := dk_167 0 4 (dk_at dksX2_closest_2 7 rfl rfl)
theorem dX2_closest_58 : decode cX2_closest 58 = .ok (.iload_n 3, 1) := dk_29 (dk_at dksX2_closest_2 10 rfl rfl)
theorem dX2_closest_59 : decode cX2_closest 59 = .ok (.istore_n 3, 1) := dk_62 (dk_at dksX2_closest_2 11 rfl rfl)
theorem dX2_closest_60 : decode cX2_closest 60 = .ok (.iinc 4 1, 3) := dk_132 4 1 (dk_at dksX2_closest_2 12 rfl rfl)
theorem dX2_closest_63 : decode cX2_closest 63 = .ok (.goto (-58), 3) := dk_167 255 198 (dk_at dksX2_closest_2 15 rfl rfl)
theorem dX2_closest_66 : decode cX2_closest 66 = .ok (.iload_n 3, 1) := dk_29 (dk_at dksX2_closest_2 18 rfl rfl)
theorem dX2_closest_67 : decode cX2_closest 67 = .ok (.ireturn, 1) := dk_172 (dk_at dksX2_closest_2 19 rfl rfl)
def dkwX2_distancesByRelaxation_2 : List UInt8 := [186, 0, 120, 0, 0, 182, 0, 108, 132, 4, 1, 167, 255, 224, 167, 255, 203, 44, 176]
abbrev dktX2_distancesByRelaxation_2 : List UInt8 := dkwX2_distancesByRelaxation_2 ++ []
def dkwX2_distancesByRelaxation_1 : List UInt8 := [54, 4, 21, 4, 42, 182, 0, 69, 162, 0, 29, 44, 21, 4, 46, 54, 5, 42, 21, 4, 44, 21, 5]
abbrev dktX2_distancesByRelaxation_1 : List UInt8 := dkwX2_distancesByRelaxation_1 ++ dktX2_distancesByRelaxation_2
def dkwX2_distancesByRelaxation_0 : List UInt8 := [42, 27, 182, 0, 101, 77, 3, 62, 42, 44, 182, 0, 116, 29, 159, 0, 50, 42, 44, 182, 0, 116, 62, 3]
abbrev dktX2_distancesByRelaxation_0 : List UInt8 := dkwX2_distancesByRelaxation_0 ++ dktX2_distancesByRelaxation_1
theorem dksX2_distancesByRelaxation_0 : cX2_distancesByRelaxation.data.toList.drop 0 = dktX2_distancesByRelaxation_0 := by decide +kernel
theorem dksX2_distancesByRelaxation_1 : cX2_distancesByRelaxation.data.toList.drop 24 = dktX2_distancesByRelaxation_1 := dk_seg dksX2_distancesByRelaxation_0 24 rfl rfl
theorem dksX2_distancesByRelaxation_2 : cX2_distancesByRelaxation.data.toList.drop 47 = dktX2_distancesByRelaxation_2 := dk_seg dksX2_distancesByRelaxation_1 23 rfl rfl
theorem dX2_distancesByRelaxation_0 : decode cX2_distancesByRelaxation 0 = .ok (.aload_n 0, 1) := dk_42 (dk_at dksX2_distancesByRelaxation_0 0 rfl rfl)
theorem dX2_distancesByRelaxation_1 : decode cX2_distancesByRelaxation 1 = .ok (.iload_n 1, 1) := dk_27 (dk_at dksX2_distancesByRelaxation_0 1 rfl rfl)
theorem dX2_distancesByRelaxation_2 : decode cX2_distancesByRelaxation 2 = .ok (.invokevirtual 101, 3) := dk_182 0 101 (dk_at dksX2_distancesByRelaxation_0 2 rfl rfl)
theorem dX2_distancesByRelaxation_5 : decode cX2_distancesByRelaxation 5 = .ok (.astore_n 2, 1) := dk_77 (dk_at dksX2_distancesByRelaxation_0 5 rfl rfl)
theorem dX2_distancesByRelaxation_6 : decode cX2_distancesByRelaxation 6 = .ok (.iconst 0, 1) := dk_3 (dk_at dksX2_distancesByRelaxation_0 6 rfl rfl)
theorem dX2_distancesByRelaxation_7 : decode cX2_distancesByRelaxation 7 = .ok (.istore_n 3, 1) := dk_62 (dk_at dksX2_distancesByRelaxation_0 7 rfl rfl)
theorem dX2_distancesByRelaxation_8 : decode cX2_distancesByRelaxation 8 = .ok (.aload_n 0, 1) := dk_42 (dk_at dksX2_distancesByRelaxation_0 8 rfl rfl)
theorem dX2_distancesByRelaxation_9 : decode cX2_distancesByRelaxation 9 = .ok (.aload_n 2, 1) := dk_44 (dk_at dksX2_distancesByRelaxation_0 9 rfl rfl)
theorem dX2_distancesByRelaxation_10 : decode cX2_distancesByRelaxation 10 = .ok (.invokevirtual 116, 3) := dk_182 0 116 (dk_at dksX2_distancesByRelaxation_0 10 rfl rfl)
theorem dX2_distancesByRelaxation_13 : decode cX2_distancesByRelaxation 13 = .ok (.iload_n 3, 1) := dk_29 (dk_at dksX2_distancesByRelaxation_0 13 rfl rfl)
theorem dX2_distancesByRelaxation_14 : decode cX2_distancesByRelaxation 14 = .ok (.if_icmp .eq 50, 3) := dk_159 0 50 (dk_at dksX2_distancesByRelaxation_0 14 rfl rfl)
theorem dX2_distancesByRelaxation_17 : decode cX2_distancesByRelaxation 17 = .ok (.aload_n 0, 1) := dk_42 (dk_at dksX2_distancesByRelaxation_0 17 rfl rfl)
theorem dX2_distancesByRelaxation_18 : decode cX2_distancesByRelaxation 18 = .ok (.aload_n 2, 1) := dk_44 (dk_at dksX2_distancesByRelaxation_0 18 rfl rfl)
theorem dX2_distancesByRelaxation_19 : decode cX2_distancesByRelaxation 19 = .ok (.invokevirtual 116, 3) := dk_182 0 116 (dk_at dksX2_distancesByRelaxation_0 19 rfl rfl)
theorem dX2_distancesByRelaxation_22 : decode cX2_distancesByRelaxation 22 = .ok (.istore_n 3, 1) := dk_62 (dk_at dksX2_distancesByRelaxation_0 22 rfl rfl)
theorem dX2_distancesByRelaxation_23 : decode cX2_distancesByRelaxation 23 = .ok (.iconst 0, 1) := dk_3 (dk_at dksX2_distancesByRelaxation_0 23 rfl rfl)
theorem dX2_distancesByRelaxation_24 : decode cX2_distancesByRelaxation 24 = .ok (.istore 4, 2) := dk_54 4 (dk_at dksX2_distancesByRelaxation_1 0 rfl rfl)
theorem dX2_distancesByRelaxation_26 : decode cX2_distancesByRelaxation 26 = .ok (.iload 4, 2) := dk_21 4 (dk_at dksX2_distancesByRelaxation_1 2 rfl rfl)
theorem dX2_distancesByRelaxation_28 : decode cX2_distancesByRelaxation 28 = .ok (.aload_n 0, 1) := dk_42 (dk_at dksX2_distancesByRelaxation_1 4 rfl rfl)
theorem dX2_distancesByRelaxation_29 : decode cX2_distancesByRelaxation 29 = .ok (.invokevirtual 69, 3) := dk_182 0 69 (dk_at dksX2_distancesByRelaxation_1 5 rfl rfl)
theorem dX2_distancesByRelaxation_32 : decode cX2_distancesByRelaxation 32 = .ok (.if_icmp .ge 29, 3) := dk_162 0 29 (dk_at dksX2_distancesByRelaxation_1 8 rfl rfl)
theorem dX2_distancesByRelaxation_35 : decode cX2_distancesByRelaxation 35 = .ok (.aload_n 2, 1) := dk_44 (dk_at dksX2_distancesByRelaxation_1 11 rfl rfl)
theorem dX2_distancesByRelaxation_36 : decode cX2_distancesByRelaxation 36 = .ok (.iload 4, 2) := dk_21 4 (dk_at dksX2_distancesByRelaxation_1 12 rfl rfl)
theorem dX2_distancesByRelaxation_38 : decode cX2_distancesByRelaxation 38 = .ok (.iaload, 1) := dk_46 (dk_at dksX2_distancesByRelaxation_1 14 rfl rfl)
theorem dX2_distancesByRelaxation_39 : decode cX2_distancesByRelaxation 39 = .ok (.istore 5, 2) := dk_54 5 (dk_at dksX2_distancesByRelaxation_1 15 rfl rfl)
theorem dX2_distancesByRelaxation_41 : decode cX2_distancesByRelaxation 41 = .ok (.aload_n 0, 1) := dk_42 (dk_at dksX2_distancesByRelaxation_1 17 rfl rfl)
theorem dX2_distancesByRelaxation_42 : decode cX2_distancesByRelaxation 42 = .ok (.iload 4, 2) := dk_21 4 (dk_at dksX2_distancesByRelaxation_1 18 rfl rfl)
theorem dX2_distancesByRelaxation_44 : decode cX2_distancesByRelaxation 44 = .ok (.aload_n 2, 1) := dk_44 (dk_at dksX2_distancesByRelaxation_1 20 rfl rfl)
theorem dX2_distancesByRelaxation_45 : decode cX2_distancesByRelaxation 45 = .ok (.iload 5, 2) := dk_21 5 (dk_at dksX2_distancesByRelaxation_1 21 rfl rfl)
theorem dX2_distancesByRelaxation_47 : decode cX2_distancesByRelaxation 47 = .ok (.invokedynamic 120, 5) := by decide +kernel
theorem dX2_distancesByRelaxation_52 : decode cX2_distancesByRelaxation 52 = .ok (.invokevirtual 108, 3) := dk_182 0 108 (dk_at dksX2_distancesByRelaxation_2 5 rfl rfl)
theorem dX2_distancesByRelaxation_55 : decode cX2_distancesByRelaxation 55 = .ok (.iinc 4 1, 3) := dk_132 4 1 (dk_at dksX2_distancesByRelaxation_2 8 rfl rfl)
theorem dX2_distancesByRelaxation_58 : decode cX2_distancesByRelaxation 58 = .ok (.goto (-32), 3) := dk_167 255 224 (dk_at dksX2_distancesByRelaxation_2 11 rfl rfl)
theorem dX2_distancesByRelaxation_61 : decode cX2_distancesByRelaxation 61 = .ok (.goto (-53), 3) := dk_167 255 203 (dk_at dksX2_distancesByRelaxation_2 14 rfl rfl)
theorem dX2_distancesByRelaxation_64 : decode cX2_distancesByRelaxation 64 = .ok (.aload_n 2, 1) := dk_44 (dk_at dksX2_distancesByRelaxation_2 17 rfl rfl)
theorem dX2_distancesByRelaxation_65 : decode cX2_distancesByRelaxation 65 = .ok (.areturn, 1) := dk_176 (dk_at dksX2_distancesByRelaxation_2 18 rfl rfl)
def dkwX2_sumOf_1 : List UInt8 := [28, 21, 6, 96, 61, 132, 5, 1, 167, 255, 235, 28, 172]
abbrev dktX2_sumOf_1 : List UInt8 := dkwX2_sumOf_1 ++ []
def dkwX2_sumOf_0 : List UInt8 := [3, 61, 43, 78, 45, 190, 54, 4, 3, 54, 5, 21, 5, 21, 4, 162, 0, 20, 45, 21, 5, 46, 54, 6]
abbrev dktX2_sumOf_0 : List UInt8 := dkwX2_sumOf_0 ++ dktX2_sumOf_1
theorem dksX2_sumOf_0 : cX2_sumOf.data.toList.drop 0 = dktX2_sumOf_0 := by decide +kernel
theorem dksX2_sumOf_1 : cX2_sumOf.data.toList.drop 24 = dktX2_sumOf_1 := dk_seg dksX2_sumOf_0 24 rfl rfl
theorem dX2_sumOf_0 : decode cX2_sumOf 0 = .ok (.iconst 0, 1) := dk_3 (dk_at dksX2_sumOf_0 0 rfl rfl)
theorem dX2_sumOf_1 : decode cX2_sumOf 1 = .ok (.istore_n 2, 1) := dk_61 (dk_at dksX2_sumOf_0 1 rfl rfl)
theorem dX2_sumOf_2 : decode cX2_sumOf 2 = .ok (.aload_n 1, 1) := dk_43 (dk_at dksX2_sumOf_0 2 rfl rfl)
theorem dX2_sumOf_3 : decode cX2_sumOf 3 = .ok (.astore_n 3, 1) := dk_78 (dk_at dksX2_sumOf_0 3 rfl rfl)
theorem dX2_sumOf_4 : decode cX2_sumOf 4 = .ok (.aload_n 3, 1) := dk_45 (dk_at dksX2_sumOf_0 4 rfl rfl)
theorem dX2_sumOf_5 : decode cX2_sumOf 5 = .ok (.arraylength, 1) := dk_190 (dk_at dksX2_sumOf_0 5 rfl rfl)
theorem dX2_sumOf_6 : decode cX2_sumOf 6 = .ok (.istore 4, 2) := dk_54 4 (dk_at dksX2_sumOf_0 6 rfl rfl)
theorem dX2_sumOf_8 : decode cX2_sumOf 8 = .ok (.iconst 0, 1) := dk_3 (dk_at dksX2_sumOf_0 8 rfl rfl)
theorem dX2_sumOf_9 : decode cX2_sumOf 9 = .ok (.istore 5, 2) := dk_54 5 (dk_at dksX2_sumOf_0 9 rfl rfl)
theorem dX2_sumOf_11 : decode cX2_sumOf 11 = .ok (.iload 5, 2) := dk_21 5 (dk_at dksX2_sumOf_0 11 rfl rfl)
theorem dX2_sumOf_13 : decode cX2_sumOf 13 = .ok (.iload 4, 2) := dk_21 4 (dk_at dksX2_sumOf_0 13 rfl rfl)
theorem dX2_sumOf_15 : decode cX2_sumOf 15 = .ok (.if_icmp .ge 20, 3) := dk_162 0 20 (dk_at dksX2_sumOf_0 15 rfl rfl)
theorem dX2_sumOf_18 : decode cX2_sumOf 18 = .ok (.aload_n 3, 1) := dk_45 (dk_at dksX2_sumOf_0 18 rfl rfl)
theorem dX2_sumOf_19 : decode cX2_sumOf 19 = .ok (.iload 5, 2) := dk_21 5 (dk_at dksX2_sumOf_0 19 rfl rfl)
theorem dX2_sumOf_21 : decode cX2_sumOf 21 = .ok (.iaload, 1) := dk_46 (dk_at dksX2_sumOf_0 21 rfl rfl)
theorem dX2_sumOf_22 : decode cX2_sumOf 22 = .ok (.istore 6, 2) := dk_54 6 (dk_at dksX2_sumOf_0 22 rfl rfl)
theorem dX2_sumOf_24 : decode cX2_sumOf 24 = .ok (.iload_n 2, 1) := dk_28 (dk_at dksX2_sumOf_1 0 rfl rfl)
theorem dX2_sumOf_25 : decode cX2_sumOf 25 = .ok (.iload 6, 2) := dk_21 6 (dk_at dksX2_sumOf_1 1 rfl rfl)
theorem dX2_sumOf_27 : decode cX2_sumOf 27 = .ok (.iadd, 1) := dk_96 (dk_at dksX2_sumOf_1 3 rfl rfl)
theorem dX2_sumOf_28 : decode cX2_sumOf 28 = .ok (.istore_n 2, 1) := dk_61 (dk_at dksX2_sumOf_1 4 rfl rfl)
theorem dX2_sumOf_29 : decode cX2_sumOf 29 = .ok (.iinc 5 1, 3) := dk_132 5 1 (dk_at dksX2_sumOf_1 5 rfl rfl)
theorem dX2_sumOf_32 : decode cX2_sumOf 32 = .ok (.goto (-21), 3) := dk_167 255 235 (dk_at dksX2_sumOf_1 8 rfl rfl)
theorem dX2_sumOf_35 : decode cX2_sumOf 35 = .ok (.iload_n 2, 1) := dk_28 (dk_at dksX2_sumOf_1 11 rfl rfl)
theorem dX2_sumOf_36 : decode cX2_sumOf 36 = .ok (.ireturn, 1) := dk_172 (dk_at dksX2_sumOf_1 12 rfl rfl)
def dkwX2_lambda_distancesByRelaxation_1_0 : List UInt8 := [42, 28, 27, 29, 96, 184, 1, 50, 177]
abbrev dktX2_lambda_distancesByRelaxation_1_0 : List UInt8 := dkwX2_lambda_distancesByRelaxation_1_0 ++ []
theorem dksX2_lambda_distancesByRelaxation_1_0 : cX2_lambda_distancesByRelaxation_1.data.toList.drop 0 = dktX2_lambda_distancesByRelaxation_1_0 := by decide +kernel
theorem dX2_lambda_distancesByRelaxation_1_0 : decode cX2_lambda_distancesByRelaxation_1 0 = .ok (.aload_n 0, 1) := dk_42 (dk_at dksX2_lambda_distancesByRelaxation_1_0 0 rfl rfl)
theorem dX2_lambda_distancesByRelaxation_1_1 : decode cX2_lambda_distancesByRelaxation_1 1 = .ok (.iload_n 2, 1) := dk_28 (dk_at dksX2_lambda_distancesByRelaxation_1_0 1 rfl rfl)
theorem dX2_lambda_distancesByRelaxation_1_2 : decode cX2_lambda_distancesByRelaxation_1 2 = .ok (.iload_n 1, 1) := dk_27 (dk_at dksX2_lambda_distancesByRelaxation_1_0 2 rfl rfl)
theorem dX2_lambda_distancesByRelaxation_1_3 : decode cX2_lambda_distancesByRelaxation_1 3 = .ok (.iload_n 3, 1) := dk_29 (dk_at dksX2_lambda_distancesByRelaxation_1_0 3 rfl rfl)
theorem dX2_lambda_distancesByRelaxation_1_4 : decode cX2_lambda_distancesByRelaxation_1 4 = .ok (.iadd, 1) := dk_96 (dk_at dksX2_lambda_distancesByRelaxation_1_0 4 rfl rfl)
theorem dX2_lambda_distancesByRelaxation_1_5 : decode cX2_lambda_distancesByRelaxation_1 5 = .ok (.invokestatic 306, 3) := dk_184 1 50 (dk_at dksX2_lambda_distancesByRelaxation_1_0 5 rfl rfl)
theorem dX2_lambda_distancesByRelaxation_1_8 : decode cX2_lambda_distancesByRelaxation_1 8 = .ok (.return_, 1) := dk_177 (dk_at dksX2_lambda_distancesByRelaxation_1_0 8 rfl rfl)
def dkwX2_hasTurn_0 : List UInt8 := [27, 4, 42, 180, 0, 48, 182, 0, 201, 190, 5, 100, 184, 0, 140, 172]
abbrev dktX2_hasTurn_0 : List UInt8 := dkwX2_hasTurn_0 ++ []
theorem dksX2_hasTurn_0 : cX2_hasTurn.data.toList.drop 0 = dktX2_hasTurn_0 := by decide +kernel
theorem dX2_hasTurn_0 : decode cX2_hasTurn 0 = .ok (.iload_n 1, 1) := dk_27 (dk_at dksX2_hasTurn_0 0 rfl rfl)
theorem dX2_hasTurn_1 : decode cX2_hasTurn 1 = .ok (.iconst 1, 1) := dk_4 (dk_at dksX2_hasTurn_0 1 rfl rfl)
theorem dX2_hasTurn_2 : decode cX2_hasTurn 2 = .ok (.aload_n 0, 1) := dk_42 (dk_at dksX2_hasTurn_0 2 rfl rfl)
theorem dX2_hasTurn_3 : decode cX2_hasTurn 3 = .ok (.getfield 48, 3) := dk_180 0 48 (dk_at dksX2_hasTurn_0 3 rfl rfl)
theorem dX2_hasTurn_6 : decode cX2_hasTurn 6 = .ok (.invokevirtual 201, 3) := dk_182 0 201 (dk_at dksX2_hasTurn_0 6 rfl rfl)
theorem dX2_hasTurn_9 : decode cX2_hasTurn 9 = .ok (.arraylength, 1) := dk_190 (dk_at dksX2_hasTurn_0 9 rfl rfl)
theorem dX2_hasTurn_10 : decode cX2_hasTurn 10 = .ok (.iconst 2, 1) := dk_5 (dk_at dksX2_hasTurn_0 10 rfl rfl)
theorem dX2_hasTurn_11 : decode cX2_hasTurn 11 = .ok (.isub, 1) := dk_100 (dk_at dksX2_hasTurn_0 11 rfl rfl)
theorem dX2_hasTurn_12 : decode cX2_hasTurn 12 = .ok (.invokestatic 140, 3) := dk_184 0 140 (dk_at dksX2_hasTurn_0 12 rfl rfl)
theorem dX2_hasTurn_15 : decode cX2_hasTurn 15 = .ok (.ireturn, 1) := dk_172 (dk_at dksX2_hasTurn_0 15 rfl rfl)
def dkwX2_turnAt_2 : List UInt8 := [44, 182, 1, 33, 184, 1, 37, 176]
abbrev dktX2_turnAt_2 : List UInt8 := dkwX2_turnAt_2 ++ []
def dkwX2_turnAt_1 : List UInt8 := [4, 100, 46, 182, 0, 191, 182, 1, 33, 42, 42, 180, 0, 48, 182, 0, 201, 27, 4, 96, 46, 182, 0, 191]
abbrev dktX2_turnAt_1 : List UInt8 := dkwX2_turnAt_1 ++ dktX2_turnAt_2
def dkwX2_turnAt_0 : List UInt8 := [42, 42, 180, 0, 48, 182, 0, 201, 27, 46, 182, 0, 191, 77, 44, 42, 42, 180, 0, 48, 182, 0, 201, 27]
abbrev dktX2_turnAt_0 : List UInt8 := dkwX2_turnAt_0 ++ dktX2_turnAt_1
theorem dksX2_turnAt_0 : cX2_turnAt.data.toList.drop 0 = dktX2_turnAt_0 := by decide +kernel
theorem dksX2_turnAt_1 : cX2_turnAt.data.toList.drop 24 = dktX2_turnAt_1 := dk_seg dksX2_turnAt_0 24 rfl rfl
theorem dksX2_turnAt_2 : cX2_turnAt.data.toList.drop 48 = dktX2_turnAt_2 := dk_seg dksX2_turnAt_1 24 rfl rfl
theorem dX2_turnAt_0 : decode cX2_turnAt 0 = .ok (.aload_n 0, 1) := dk_42 (dk_at dksX2_turnAt_0 0 rfl rfl)
theorem dX2_turnAt_1 : decode cX2_turnAt 1 = .ok (.aload_n 0, 1) := dk_42 (dk_at dksX2_turnAt_0 1 rfl rfl)
theorem dX2_turnAt_2 : decode cX2_turnAt 2 = .ok (.getfield 48, 3) := dk_180 0 48 (dk_at dksX2_turnAt_0 2 rfl rfl)
theorem dX2_turnAt_5 : decode cX2_turnAt 5 = .ok (.invokevirtual 201, 3) := dk_182 0 201 (dk_at dksX2_turnAt_0 5 rfl rfl)
theorem dX2_turnAt_8 : decode cX2_turnAt 8 = .ok (.iload_n 1, 1) := dk_27 (dk_at dksX2_turnAt_0 8 rfl rfl)
theorem dX2_turnAt_9 : decode cX2_turnAt 9 = .ok (.iaload, 1) := dk_46 (dk_at dksX2_turnAt_0 9 rfl rfl)
theorem dX2_turnAt_10 : decode cX2_turnAt 10 = .ok (.invokevirtual 191, 3) := dk_182 0 191 (dk_at dksX2_turnAt_0 10 rfl rfl)
theorem dX2_turnAt_13 : decode cX2_turnAt 13 = .ok (.astore_n 2, 1) := dk_77 (dk_at dksX2_turnAt_0 13 rfl rfl)
theorem dX2_turnAt_14 : decode cX2_turnAt 14 = .ok (.aload_n 2, 1) := dk_44 (dk_at dksX2_turnAt_0 14 rfl rfl)
theorem dX2_turnAt_15 : decode cX2_turnAt 15 = .ok (.aload_n 0, 1) := dk_42 (dk_at dksX2_turnAt_0 15 rfl rfl)
theorem dX2_turnAt_16 : decode cX2_turnAt 16 = .ok (.aload_n 0, 1) := dk_42 (dk_at dksX2_turnAt_0 16 rfl rfl)
theorem dX2_turnAt_17 : decode cX2_turnAt 17 = .ok (.getfield 48, 3) := dk_180 0 48 (dk_at dksX2_turnAt_0 17 rfl rfl)
theorem dX2_turnAt_20 : decode cX2_turnAt 20 = .ok (.invokevirtual 201, 3) := dk_182 0 201 (dk_at dksX2_turnAt_0 20 rfl rfl)
theorem dX2_turnAt_23 : decode cX2_turnAt 23 = .ok (.iload_n 1, 1) := dk_27 (dk_at dksX2_turnAt_0 23 rfl rfl)
theorem dX2_turnAt_24 : decode cX2_turnAt 24 = .ok (.iconst 1, 1) := dk_4 (dk_at dksX2_turnAt_1 0 rfl rfl)
theorem dX2_turnAt_25 : decode cX2_turnAt 25 = .ok (.isub, 1) := dk_100 (dk_at dksX2_turnAt_1 1 rfl rfl)
theorem dX2_turnAt_26 : decode cX2_turnAt 26 = .ok (.iaload, 1) := dk_46 (dk_at dksX2_turnAt_1 2 rfl rfl)
theorem dX2_turnAt_27 : decode cX2_turnAt 27 = .ok (.invokevirtual 191, 3) := dk_182 0 191 (dk_at dksX2_turnAt_1 3 rfl rfl)
theorem dX2_turnAt_30 : decode cX2_turnAt 30 = .ok (.invokevirtual 289, 3) := dk_182 1 33 (dk_at dksX2_turnAt_1 6 rfl rfl)
theorem dX2_turnAt_33 : decode cX2_turnAt 33 = .ok (.aload_n 0, 1) := dk_42 (dk_at dksX2_turnAt_1 9 rfl rfl)
theorem dX2_turnAt_34 : decode cX2_turnAt 34 = .ok (.aload_n 0, 1) := dk_42 (dk_at dksX2_turnAt_1 10 rfl rfl)
theorem dX2_turnAt_35 : decode cX2_turnAt 35 = .ok (.getfield 48, 3) := dk_180 0 48 (dk_at dksX2_turnAt_1 11 rfl rfl)
theorem dX2_turnAt_38 : decode cX2_turnAt 38 = .ok (.invokevirtual 201, 3) := dk_182 0 201 (dk_at dksX2_turnAt_1 14 rfl rfl)
theorem dX2_turnAt_41 : decode cX2_turnAt 41 = .ok (.iload_n 1, 1) := dk_27 (dk_at dksX2_turnAt_1 17 rfl rfl)
theorem dX2_turnAt_42 : decode cX2_turnAt 42 = .ok (.iconst 1, 1) := dk_4 (dk_at dksX2_turnAt_1 18 rfl rfl)
theorem dX2_turnAt_43 : decode cX2_turnAt 43 = .ok (.iadd, 1) := dk_96 (dk_at dksX2_turnAt_1 19 rfl rfl)
theorem dX2_turnAt_44 : decode cX2_turnAt 44 = .ok (.iaload, 1) := dk_46 (dk_at dksX2_turnAt_1 20 rfl rfl)
theorem dX2_turnAt_45 : decode cX2_turnAt 45 = .ok (.invokevirtual 191, 3) := dk_182 0 191 (dk_at dksX2_turnAt_1 21 rfl rfl)
theorem dX2_turnAt_48 : decode cX2_turnAt 48 = .ok (.aload_n 2, 1) := dk_44 (dk_at dksX2_turnAt_2 0 rfl rfl)
theorem dX2_turnAt_49 : decode cX2_turnAt 49 = .ok (.invokevirtual 289, 3) := dk_182 1 33 (dk_at dksX2_turnAt_2 1 rfl rfl)
theorem dX2_turnAt_52 : decode cX2_turnAt 52 = .ok (.invokestatic 293, 3) := dk_184 1 37 (dk_at dksX2_turnAt_2 4 rfl rfl)
theorem dX2_turnAt_55 : decode cX2_turnAt 55 = .ok (.areturn, 1) := dk_176 (dk_at dksX2_turnAt_2 7 rfl rfl)
def dkwX2_pointOf_0 : List UInt8 := [42, 180, 0, 12, 27, 182, 0, 74, 192, 0, 78, 182, 0, 175, 176]
abbrev dktX2_pointOf_0 : List UInt8 := dkwX2_pointOf_0 ++ []
theorem dksX2_pointOf_0 : cX2_pointOf.data.toList.drop 0 = dktX2_pointOf_0 := by decide +kernel
theorem dX2_pointOf_0 : decode cX2_pointOf 0 = .ok (.aload_n 0, 1) := dk_42 (dk_at dksX2_pointOf_0 0 rfl rfl)
theorem dX2_pointOf_1 : decode cX2_pointOf 1 = .ok (.getfield 12, 3) := dk_180 0 12 (dk_at dksX2_pointOf_0 1 rfl rfl)
theorem dX2_pointOf_4 : decode cX2_pointOf 4 = .ok (.iload_n 1, 1) := dk_27 (dk_at dksX2_pointOf_0 4 rfl rfl)
theorem dX2_pointOf_5 : decode cX2_pointOf 5 = .ok (.invokevirtual 74, 3) := dk_182 0 74 (dk_at dksX2_pointOf_0 5 rfl rfl)
theorem dX2_pointOf_8 : decode cX2_pointOf 8 = .ok (.checkcast 78, 3) := dk_192 0 78 (dk_at dksX2_pointOf_0 8 rfl rfl)
theorem dX2_pointOf_11 : decode cX2_pointOf 11 = .ok (.invokevirtual 175, 3) := dk_182 0 175 (dk_at dksX2_pointOf_0 11 rfl rfl)
theorem dX2_pointOf_14 : decode cX2_pointOf 14 = .ok (.areturn, 1) := dk_176 (dk_at dksX2_pointOf_0 14 rfl rfl)
def dkwX2_init_2_5 : List UInt8 := [181, 0, 56, 42, 43, 180, 0, 59, 181, 0, 59, 42, 43, 180, 0, 62, 181, 0, 62, 177]
abbrev dktX2_init_2_5 : List UInt8 := dkwX2_init_2_5 ++ []
def dkwX2_init_2_4 : List UInt8 := [181, 0, 22, 42, 43, 180, 0, 26, 181, 0, 26, 42, 43, 180, 0, 35, 181, 0, 35, 42, 43, 180, 0, 56]
abbrev dktX2_init_2_4 : List UInt8 := dkwX2_init_2_4 ++ dktX2_init_2_5
def dkwX2_init_2_3 : List UInt8 := [184, 0, 42, 42, 43, 180, 0, 48, 181, 0, 48, 42, 43, 180, 0, 52, 181, 0, 52, 42, 43, 180, 0, 22]
abbrev dktX2_init_2_3 : List UInt8 := dkwX2_init_2_3 ++ dktX2_init_2_4
def dkwX2_init_2_2 : List UInt8 := [180, 0, 12, 182, 0, 38, 61, 43, 180, 0, 18, 3, 42, 180, 0, 18, 3, 42, 180, 0, 18, 190]
abbrev dktX2_init_2_2 : List UInt8 := dkwX2_init_2_2 ++ dktX2_init_2_3
def dkwX2_init_2_1 : List UInt8 := [42, 17, 3, 232, 181, 0, 22, 42, 8, 181, 0, 26, 42, 178, 0, 29, 181, 0, 35, 42, 180, 0, 12, 43]
abbrev dktX2_init_2_1 : List UInt8 := dkwX2_init_2_1 ++ dktX2_init_2_2
def dkwX2_init_2_0 : List UInt8 := [42, 183, 0, 3, 42, 187, 0, 9, 89, 183, 0, 11, 181, 0, 12, 42, 17, 0, 144, 188, 10, 181, 0, 18]
abbrev dktX2_init_2_0 : List UInt8 := dkwX2_init_2_0 ++ dktX2_init_2_1
theorem dksX2_init_2_0 : cX2_init_2.data.toList.drop 0 = dktX2_init_2_0 := by decide +kernel
theorem dksX2_init_2_1 : cX2_init_2.data.toList.drop 24 = dktX2_init_2_1 := dk_seg dksX2_init_2_0 24 rfl rfl
theorem dksX2_init_2_2 : cX2_init_2.data.toList.drop 48 = dktX2_init_2_2 := dk_seg dksX2_init_2_1 24 rfl rfl
theorem dksX2_init_2_3 : cX2_init_2.data.toList.drop 70 = dktX2_init_2_3 := dk_seg dksX2_init_2_2 22 rfl rfl
theorem dksX2_init_2_4 : cX2_init_2.data.toList.drop 94 = dktX2_init_2_4 := dk_seg dksX2_init_2_3 24 rfl rfl
theorem dksX2_init_2_5 : cX2_init_2.data.toList.drop 118 = dktX2_init_2_5 := dk_seg dksX2_init_2_4 24 rfl rfl
theorem dX2_init_2_0 : decode cX2_init_2 0 = .ok (.aload_n 0, 1) := dk_42 (dk_at dksX2_init_2_0 0 rfl rfl)
theorem dX2_init_2_1 : decode cX2_init_2 1 = .ok (.invokespecial 3, 3) := dk_183 0 3 (dk_at dksX2_init_2_0 1 rfl rfl)
theorem dX2_init_2_4 : decode cX2_init_2 4 = .ok (.aload_n 0, 1) := dk_42 (dk_at dksX2_init_2_0 4 rfl rfl)
theorem dX2_init_2_5 : decode cX2_init_2 5 = .ok (.new 9, 3) := dk_187 0 9 (dk_at dksX2_init_2_0 5 rfl rfl)
theorem dX2_init_2_8 : decode cX2_init_2 8 = .ok (.dup, 1) := dk_89 (dk_at dksX2_init_2_0 8 rfl rfl)
theorem dX2_init_2_9 : decode cX2_init_2 9 = .ok (.invokespecial 11, 3) := dk_183 0 11 (dk_at dksX2_init_2_0 9 rfl rfl)
theorem dX2_init_2_12 : decode cX2_init_2 12 = .ok (.putfield 12, 3) := dk_181 0 12 (dk_at dksX2_init_2_0 12 rfl rfl)
theorem dX2_init_2_15 : decode cX2_init_2 15 = .ok (.aload_n 0, 1) := dk_42 (dk_at dksX2_init_2_0 15 rfl rfl)
theorem dX2_init_2_16 : decode cX2_init_2 16 = .ok (.sipush 144, 3) := dk_17 0 144 (dk_at dksX2_init_2_0 16 rfl rfl)
theorem dX2_init_2_19 : decode cX2_init_2 19 = .ok (.newarray .int, 2) := dk_188_10 (dk_at dksX2_init_2_0 19 rfl rfl)
theorem dX2_init_2_21 : decode cX2_init_2 21 = .ok (.putfield 18, 3) := dk_181 0 18 (dk_at dksX2_init_2_0 21 rfl rfl)
theorem dX2_init_2_24 : decode cX2_init_2 24 = .ok (.aload_n 0, 1) := dk_42 (dk_at dksX2_init_2_1 0 rfl rfl)
theorem dX2_init_2_25 : decode cX2_init_2 25 = .ok (.sipush 1000, 3) := dk_17 3 232 (dk_at dksX2_init_2_1 1 rfl rfl)
theorem dX2_init_2_28 : decode cX2_init_2 28 = .ok (.putfield 22, 3) := dk_181 0 22 (dk_at dksX2_init_2_1 4 rfl rfl)
theorem dX2_init_2_31 : decode cX2_init_2 31 = .ok (.aload_n 0, 1) := dk_42 (dk_at dksX2_init_2_1 7 rfl rfl)
theorem dX2_init_2_32 : decode cX2_init_2 32 = .ok (.iconst 5, 1) := dk_8 (dk_at dksX2_init_2_1 8 rfl rfl)
theorem dX2_init_2_33 : decode cX2_init_2 33 = .ok (.putfield 26, 3) := dk_181 0 26 (dk_at dksX2_init_2_1 9 rfl rfl)
theorem dX2_init_2_36 : decode cX2_init_2 36 = .ok (.aload_n 0, 1) := dk_42 (dk_at dksX2_init_2_1 12 rfl rfl)
theorem dX2_init_2_37 : decode cX2_init_2 37 = .ok (.getstatic 29, 3) := dk_178 0 29 (dk_at dksX2_init_2_1 13 rfl rfl)
theorem dX2_init_2_40 : decode cX2_init_2 40 = .ok (.putfield 35, 3) := dk_181 0 35 (dk_at dksX2_init_2_1 16 rfl rfl)
theorem dX2_init_2_43 : decode cX2_init_2 43 = .ok (.aload_n 0, 1) := dk_42 (dk_at dksX2_init_2_1 19 rfl rfl)
theorem dX2_init_2_44 : decode cX2_init_2 44 = .ok (.getfield 12, 3) := dk_180 0 12 (dk_at dksX2_init_2_1 20 rfl rfl)
theorem dX2_init_2_47 : decode cX2_init_2 47 = .ok (.aload_n 1, 1) := dk_43 (dk_at dksX2_init_2_1 23 rfl rfl)
theorem dX2_init_2_48 : decode cX2_init_2 48 = .ok (.getfield 12, 3) := dk_180 0 12 (dk_at dksX2_init_2_2 0 rfl rfl)
theorem dX2_init_2_51 : decode cX2_init_2 51 = .ok (.invokevirtual 38, 3) := dk_182 0 38 (dk_at dksX2_init_2_2 3 rfl rfl)
theorem dX2_init_2_54 : decode cX2_init_2 54 = .ok (.istore_n 2, 1) := dk_61 (dk_at dksX2_init_2_2 6 rfl rfl)
theorem dX2_init_2_55 : decode cX2_init_2 55 = .ok (.aload_n 1, 1) := dk_43 (dk_at dksX2_init_2_2 7 rfl rfl)
theorem dX2_init_2_56 : decode cX2_init_2 56 = .ok (.getfield 18, 3) := dk_180 0 18 (dk_at dksX2_init_2_2 8 rfl rfl)
theorem dX2_init_2_59 : decode cX2_init_2 59 = .ok (.iconst 0, 1) := dk_3 (dk_at dksX2_init_2_2 11 rfl rfl)
theorem dX2_init_2_60 : decode cX2_init_2 60 = .ok (.aload_n 0, 1) := dk_42 (dk_at dksX2_init_2_2 12 rfl rfl)
theorem dX2_init_2_61 : decode cX2_init_2 61 = .ok (.getfield 18, 3) := dk_180 0 18 (dk_at dksX2_init_2_2 13 rfl rfl)
theorem dX2_init_2_64 : decode cX2_init_2 64 = .ok (.iconst 0, 1) := dk_3 (dk_at dksX2_init_2_2 16 rfl rfl)
theorem dX2_init_2_65 : decode cX2_init_2 65 = .ok (.aload_n 0, 1) := dk_42 (dk_at dksX2_init_2_2 17 rfl rfl)
theorem dX2_init_2_66 : decode cX2_init_2 66 = .ok (.getfield 18, 3) := dk_180 0 18 (dk_at dksX2_init_2_2 18 rfl rfl)
theorem dX2_init_2_69 : decode cX2_init_2 69 = .ok (.arraylength, 1) := dk_190 (dk_at dksX2_init_2_2 21 rfl rfl)
theorem dX2_init_2_70 : decode cX2_init_2 70 = .ok (.invokestatic 42, 3) := dk_184 0 42 (dk_at dksX2_init_2_3 0 rfl rfl)
theorem dX2_init_2_73 : decode cX2_init_2 73 = .ok (.aload_n 0, 1) := dk_42 (dk_at dksX2_init_2_3 3 rfl rfl)
theorem dX2_init_2_74 : decode cX2_init_2 74 = .ok (.aload_n 1, 1) := dk_43 (dk_at dksX2_init_2_3 4 rfl rfl)
theorem dX2_init_2_75 : decode cX2_init_2 75 = .ok (.getfield 48, 3) := dk_180 0 48 (dk_at dksX2_init_2_3 5 rfl rfl)
theorem dX2_init_2_78 : decode cX2_init_2 78 = .ok (.putfield 48, 3) := dk_181 0 48 (dk_at dksX2_init_2_3 8 rfl rfl)
theorem dX2_init_2_81 : decode cX2_init_2 81 = .ok (.aload_n 0, 1) := dk_42 (dk_at dksX2_init_2_3 11 rfl rfl)
theorem dX2_init_2_82 : decode cX2_init_2 82 = .ok (.aload_n 1, 1) := dk_43 (dk_at dksX2_init_2_3 12 rfl rfl)
theorem dX2_init_2_83 : decode cX2_init_2 83 = .ok (.getfield 52, 3) := dk_180 0 52 (dk_at dksX2_init_2_3 13 rfl rfl)
theorem dX2_init_2_86 : decode cX2_init_2 86 = .ok (.putfield 52, 3) := dk_181 0 52 (dk_at dksX2_init_2_3 16 rfl rfl)
theorem dX2_init_2_89 : decode cX2_init_2 89 = .ok (.aload_n 0, 1) := dk_42 (dk_at dksX2_init_2_3 19 rfl rfl)
theorem dX2_init_2_90 : decode cX2_init_2 90 = .ok (.aload_n 1, 1) := dk_43 (dk_at dksX2_init_2_3 20 rfl rfl)
theorem dX2_init_2_91 : decode cX2_init_2 91 = .ok (.getfield 22, 3) := dk_180 0 22 (dk_at dksX2_init_2_3 21 rfl rfl)
theorem dX2_init_2_94 : decode cX2_init_2 94 = .ok (.putfield 22, 3) := dk_181 0 22 (dk_at dksX2_init_2_4 0 rfl rfl)
theorem dX2_init_2_97 : decode cX2_init_2 97 = .ok (.aload_n 0, 1) := dk_42 (dk_at dksX2_init_2_4 3 rfl rfl)
theorem dX2_init_2_98 : decode cX2_init_2 98 = .ok (.aload_n 1, 1) := dk_43 (dk_at dksX2_init_2_4 4 rfl rfl)
theorem dX2_init_2_99 : decode cX2_init_2 99 = .ok (.getfield 26, 3) := dk_180 0 26 (dk_at dksX2_init_2_4 5 rfl rfl)
theorem dX2_init_2_102 : decode cX2_init_2 102 = .ok (.putfield 26, 3) := dk_181 0 26 (dk_at dksX2_init_2_4 8 rfl rfl)
theorem dX2_init_2_105 : decode cX2_init_2 105 = .ok (.aload_n 0, 1) := dk_42 (dk_at dksX2_init_2_4 11 rfl rfl)
theorem dX2_init_2_106 : decode cX2_init_2 106 = .ok (.aload_n 1, 1) := dk_43 (dk_at dksX2_init_2_4 12 rfl rfl)
theorem dX2_init_2_107 : decode cX2_init_2 107 = .ok (.getfield 35, 3) := dk_180 0 35 (dk_at dksX2_init_2_4 13 rfl rfl)
theorem dX2_init_2_110 : decode cX2_init_2 110 = .ok (.putfield 35, 3) := dk_181 0 35 (dk_at dksX2_init_2_4 16 rfl rfl)
theorem dX2_init_2_113 : decode cX2_init_2 113 = .ok (.aload_n 0, 1) := dk_42 (dk_at dksX2_init_2_4 19 rfl rfl)
theorem dX2_init_2_114 : decode cX2_init_2 114 = .ok (.aload_n 1, 1) := dk_43 (dk_at dksX2_init_2_4 20 rfl rfl)
theorem dX2_init_2_115 : decode cX2_init_2 115 = .ok (.getfield 56, 3) := dk_180 0 56 (dk_at dksX2_init_2_4 21 rfl rfl)
theorem dX2_init_2_118 : decode cX2_init_2 118 = .ok (.putfield 56, 3) := dk_181 0 56 (dk_at dksX2_init_2_5 0 rfl rfl)
theorem dX2_init_2_121 : decode cX2_init_2 121 = .ok (.aload_n 0, 1) := dk_42 (dk_at dksX2_init_2_5 3 rfl rfl)
theorem dX2_init_2_122 : decode cX2_init_2 122 = .ok (.aload_n 1, 1) := dk_43 (dk_at dksX2_init_2_5 4 rfl rfl)
theorem dX2_init_2_123 : decode cX2_init_2 123 = .ok (.getfield 59, 3) := dk_180 0 59 (dk_at dksX2_init_2_5 5 rfl rfl)
theorem dX2_init_2_126 : decode cX2_init_2 126 = .ok (.putfield 59, 3) := dk_181 0 59 (dk_at dksX2_init_2_5 8 rfl rfl)
theorem dX2_init_2_129 : decode cX2_init_2 129 = .ok (.aload_n 0, 1) := dk_42 (dk_at dksX2_init_2_5 11 rfl rfl)
theorem dX2_init_2_130 : decode cX2_init_2 130 = .ok (.aload_n 1, 1) := dk_43 (dk_at dksX2_init_2_5 12 rfl rfl)
theorem dX2_init_2_131 : decode cX2_init_2 131 = .ok (.getfield 62, 3) := dk_180 0 62 (dk_at dksX2_init_2_5 13 rfl rfl)
theorem dX2_init_2_134 : decode cX2_init_2 134 = .ok (.putfield 62, 3) := dk_181 0 62 (dk_at dksX2_init_2_5 16 rfl rfl)
theorem dX2_init_2_137 : decode cX2_init_2 137 = .ok (.return_, 1) := dk_177 (dk_at dksX2_init_2_5 19 rfl rfl)
def dkwX2_addWaypoint_2 : List UInt8 := [183, 0, 153, 29, 183, 0, 155, 182, 0, 158, 54, 4, 42, 182, 0, 69, 4, 100, 172]
abbrev dktX2_addWaypoint_2 : List UInt8 := dkwX2_addWaypoint_2 ++ []
def dkwX2_addWaypoint_1 : List UInt8 := [4, 167, 0, 4, 3, 184, 0, 148, 42, 180, 0, 12, 187, 0, 78, 89, 187, 0, 151, 89, 27, 28]
abbrev dktX2_addWaypoint_1 : List UInt8 := dkwX2_addWaypoint_1 ++ dktX2_addWaypoint_2
def dkwX2_addWaypoint_0 : List UInt8 := [27, 28, 184, 0, 137, 29, 4, 16, 9, 184, 0, 140, 184, 0, 144, 42, 182, 0, 69, 16, 12, 162, 0, 7]
abbrev dktX2_addWaypoint_0 : List UInt8 := dkwX2_addWaypoint_0 ++ dktX2_addWaypoint_1
theorem dksX2_addWaypoint_0 : cX2_addWaypoint.data.toList.drop 0 = dktX2_addWaypoint_0 := by decide +kernel
theorem dksX2_addWaypoint_1 : cX2_addWaypoint.data.toList.drop 24 = dktX2_addWaypoint_1 := dk_seg dksX2_addWaypoint_0 24 rfl rfl
theorem dksX2_addWaypoint_2 : cX2_addWaypoint.data.toList.drop 46 = dktX2_addWaypoint_2 := dk_seg dksX2_addWaypoint_1 22 rfl rfl
theorem dX2_addWaypoint_0 : decode cX2_addWaypoint 0 = .ok (.iload_n 1, 1) := dk_27 (dk_at dksX2_addWaypoint_0 0 rfl rfl)
theorem dX2_addWaypoint_1 : decode cX2_addWaypoint 1 = .ok (.iload_n 2, 1) := dk_28 (dk_at dksX2_addWaypoint_0 1 rfl rfl)
theorem dX2_addWaypoint_2 : decode cX2_addWaypoint 2 = .ok (.invokestatic 137, 3) := dk_184 0 137 (dk_at dksX2_addWaypoint_0 2 rfl rfl)
theorem dX2_addWaypoint_5 : decode cX2_addWaypoint 5 = .ok (.iload_n 3, 1) := dk_29 (dk_at dksX2_addWaypoint_0 5 rfl rfl)
theorem dX2_addWaypoint_6 : decode cX2_addWaypoint 6 = .ok (.iconst 1, 1) := dk_4 (dk_at dksX2_addWaypoint_0 6 rfl rfl)
theorem dX2_addWaypoint_7 : decode cX2_addWaypoint 7 = .ok (.bipush 9, 2) := dk_16 9 (dk_at dksX2_addWaypoint_0 7 rfl rfl)
theorem dX2_addWaypoint_9 : decode cX2_addWaypoint 9 = .ok (.invokestatic 140, 3) := dk_184 0 140 (dk_at dksX2_addWaypoint_0 9 rfl rfl)
theorem dX2_addWaypoint_12 : decode cX2_addWaypoint 12 = .ok (.invokestatic 144, 3) := dk_184 0 144 (dk_at dksX2_addWaypoint_0 12 rfl rfl)
theorem dX2_addWaypoint_15 : decode cX2_addWaypoint 15 = .ok (.aload_n 0, 1) := dk_42 (dk_at dksX2_addWaypoint_0 15 rfl rfl)
theorem dX2_addWaypoint_16 : decode cX2_addWaypoint 16 = .ok (.invokevirtual 69, 3) := dk_182 0 69 (dk_at dksX2_addWaypoint_0 16 rfl rfl)
theorem dX2_addWaypoint_19 : decode cX2_addWaypoint 19 = .ok (.bipush 12, 2) := dk_16 12 (dk_at dksX2_addWaypoint_0 19 rfl rfl)
theorem dX2_addWaypoint_21 : decode cX2_addWaypoint 21 = .ok (.if_icmp .ge 7, 3) := dk_162 0 7 (dk_at dksX2_addWaypoint_0 21 rfl rfl)
theorem dX2_addWaypoint_24 : decode cX2_addWaypoint 24 = .ok (.iconst 1, 1) := dk_4 (dk_at dksX2_addWaypoint_1 0 rfl rfl)
theorem dX2_addWaypoint_25 : decode cX2_addWaypoint 25 = .ok (.goto 4, 3) := dk_167 0 4 (dk_at dksX2_addWaypoint_1 1 rfl rfl)
theorem dX2_addWaypoint_28 : decode cX2_addWaypoint 28 = .ok (.iconst 0, 1) := dk_3 (dk_at dksX2_addWaypoint_1 4 rfl rfl)
theorem dX2_addWaypoint_29 : decode cX2_addWaypoint 29 = .ok (.invokestatic 148, 3) := dk_184 0 148 (dk_at dksX2_addWaypoint_1 5 rfl rfl)
theorem dX2_addWaypoint_32 : decode cX2_addWaypoint 32 = .ok (.aload_n 0, 1) := dk_42 (dk_at dksX2_addWaypoint_1 8 rfl rfl)
theorem dX2_addWaypoint_33 : decode cX2_addWaypoint 33 = .ok (.getfield 12, 3) := dk_180 0 12 (dk_at dksX2_addWaypoint_1 9 rfl rfl)
theorem dX2_addWaypoint_36 : decode cX2_addWaypoint 36 = .ok (.new 78, 3) := dk_187 0 78 (dk_at dksX2_addWaypoint_1 12 rfl rfl)
theorem dX2_addWaypoint_39 : decode cX2_addWaypoint 39 = .ok (.dup, 1) := dk_89 (dk_at dksX2_addWaypoint_1 15 rfl rfl)
theorem dX2_addWaypoint_40 : decode cX2_addWaypoint 40 = .ok (.new 151, 3) := dk_187 0 151 (dk_at dksX2_addWaypoint_1 16 rfl rfl)
theorem dX2_addWaypoint_43 : decode cX2_addWaypoint 43 = .ok (.dup, 1) := dk_89 (dk_at dksX2_addWaypoint_1 19 rfl rfl)
theorem dX2_addWaypoint_44 : decode cX2_addWaypoint 44 = .ok (.iload_n 1, 1) := dk_27 (dk_at dksX2_addWaypoint_1 20 rfl rfl)
theorem dX2_addWaypoint_45 : decode cX2_addWaypoint 45 = .ok (.iload_n 2, 1) := dk_28 (dk_at dksX2_addWaypoint_1 21 rfl rfl)
theorem dX2_addWaypoint_46 : decode cX2_addWaypoint 46 = .ok (.invokespecial 153, 3) := dk_183 0 153 (dk_at dksX2_addWaypoint_2 0 rfl rfl)
theorem dX2_addWaypoint_49 : decode cX2_addWaypoint 49 = .ok (.iload_n 3, 1) := dk_29 (dk_at dksX2_addWaypoint_2 3 rfl rfl)
theorem dX2_addWaypoint_50 : decode cX2_addWaypoint 50 = .ok (.invokespecial 155, 3) := dk_183 0 155 (dk_at dksX2_addWaypoint_2 4 rfl rfl)
theorem dX2_addWaypoint_53 : decode cX2_addWaypoint 53 = .ok (.invokevirtual 158, 3) := dk_182 0 158 (dk_at dksX2_addWaypoint_2 7 rfl rfl)
theorem dX2_addWaypoint_56 : decode cX2_addWaypoint 56 = .ok (.istore 4, 2) := dk_54 4 (dk_at dksX2_addWaypoint_2 10 rfl rfl)
theorem dX2_addWaypoint_58 : decode cX2_addWaypoint 58 = .ok (.aload_n 0, 1) := dk_42 (dk_at dksX2_addWaypoint_2 12 rfl rfl)
theorem dX2_addWaypoint_59 : decode cX2_addWaypoint 59 = .ok (.invokevirtual 69, 3) := dk_182 0 69 (dk_at dksX2_addWaypoint_2 13 rfl rfl)
theorem dX2_addWaypoint_62 : decode cX2_addWaypoint 62 = .ok (.iconst 1, 1) := dk_4 (dk_at dksX2_addWaypoint_2 16 rfl rfl)
theorem dX2_addWaypoint_63 : decode cX2_addWaypoint 63 = .ok (.isub, 1) := dk_100 (dk_at dksX2_addWaypoint_2 17 rfl rfl)
theorem dX2_addWaypoint_64 : decode cX2_addWaypoint 64 = .ok (.ireturn, 1) := dk_172 (dk_at dksX2_addWaypoint_2 18 rfl rfl)
def dkwX2_addTrail_2 : List UInt8 := [42, 27, 28, 29, 182, 0, 165, 42, 182, 0, 169, 172]
abbrev dktX2_addTrail_2 : List UInt8 := dkwX2_addTrail_2 ++ []
def dkwX2_addTrail_1 : List UInt8 := [167, 0, 4, 3, 184, 0, 144, 42, 27, 28, 182, 0, 80, 154, 0, 7, 4, 167, 0, 4, 3, 184, 0, 148]
abbrev dktX2_addTrail_1 : List UInt8 := dkwX2_addTrail_1 ++ dktX2_addTrail_2
def dkwX2_addTrail_0 : List UInt8 := [42, 27, 28, 182, 0, 162, 27, 28, 159, 0, 17, 29, 4, 16, 99, 184, 0, 140, 153, 0, 7, 4]
abbrev dktX2_addTrail_0 : List UInt8 := dkwX2_addTrail_0 ++ dktX2_addTrail_1
theorem dksX2_addTrail_0 : cX2_addTrail.data.toList.drop 0 = dktX2_addTrail_0 := by decide +kernel
theorem dksX2_addTrail_1 : cX2_addTrail.data.toList.drop 22 = dktX2_addTrail_1 := dk_seg dksX2_addTrail_0 22 rfl rfl
theorem dksX2_addTrail_2 : cX2_addTrail.data.toList.drop 46 = dktX2_addTrail_2 := dk_seg dksX2_addTrail_1 24 rfl rfl
theorem dX2_addTrail_0 : decode cX2_addTrail 0 = .ok (.aload_n 0, 1) := dk_42 (dk_at dksX2_addTrail_0 0 rfl rfl)
theorem dX2_addTrail_1 : decode cX2_addTrail 1 = .ok (.iload_n 1, 1) := dk_27 (dk_at dksX2_addTrail_0 1 rfl rfl)
theorem dX2_addTrail_2 : decode cX2_addTrail 2 = .ok (.iload_n 2, 1) := dk_28 (dk_at dksX2_addTrail_0 2 rfl rfl)
theorem dX2_addTrail_3 : decode cX2_addTrail 3 = .ok (.invokevirtual 162, 3) := dk_182 0 162 (dk_at dksX2_addTrail_0 3 rfl rfl)
theorem dX2_addTrail_6 : decode cX2_addTrail 6 = .ok (.iload_n 1, 1) := dk_27 (dk_at dksX2_addTrail_0 6 rfl rfl)
theorem dX2_addTrail_7 : decode cX2_addTrail 7 = .ok (.iload_n 2, 1) := dk_28 (dk_at dksX2_addTrail_0 7 rfl rfl)
theorem dX2_addTrail_8 : decode cX2_addTrail 8 = .ok (.if_icmp .eq 17, 3) := dk_159 0 17 (dk_at dksX2_addTrail_0 8 rfl rfl)
theorem dX2_addTrail_11 : decode cX2_addTrail 11 = .ok (.iload_n 3, 1) := dk_29 (dk_at dksX2_addTrail_0 11 rfl rfl)
theorem dX2_addTrail_12 : decode cX2_addTrail 12 = .ok (.iconst 1, 1) := dk_4 (dk_at dksX2_addTrail_0 12 rfl rfl)
theorem dX2_addTrail_13 : decode cX2_addTrail 13 = .ok (.bipush 99, 2) := dk_16 99 (dk_at dksX2_addTrail_0 13 rfl rfl)
theorem dX2_addTrail_15 : decode cX2_addTrail 15 = .ok (.invokestatic 140, 3) := dk_184 0 140 (dk_at dksX2_addTrail_0 15 rfl rfl)
theorem dX2_addTrail_18 : decode cX2_addTrail 18 = .ok (.ifCond .eq 7, 3) := dk_153 0 7 (dk_at dksX2_addTrail_0 18 rfl rfl)
theorem dX2_addTrail_21 : decode cX2_addTrail 21 = .ok (.iconst 1, 1) := dk_4 (dk_at dksX2_addTrail_0 21 rfl rfl)
theorem dX2_addTrail_22 : decode cX2_addTrail 22 = .ok (.goto 4, 3) := dk_167 0 4 (dk_at dksX2_addTrail_1 0 rfl rfl)
theorem dX2_addTrail_25 : decode cX2_addTrail 25 = .ok (.iconst 0, 1) := dk_3 (dk_at dksX2_addTrail_1 3 rfl rfl)
theorem dX2_addTrail_26 : decode cX2_addTrail 26 = .ok (.invokestatic 144, 3) := dk_184 0 144 (dk_at dksX2_addTrail_1 4 rfl rfl)
theorem dX2_addTrail_29 : decode cX2_addTrail 29 = .ok (.aload_n 0, 1) := dk_42 (dk_at dksX2_addTrail_1 7 rfl rfl)
theorem dX2_addTrail_30 : decode cX2_addTrail 30 = .ok (.iload_n 1, 1) := dk_27 (dk_at dksX2_addTrail_1 8 rfl rfl)
theorem dX2_addTrail_31 : decode cX2_addTrail 31 = .ok (.iload_n 2, 1) := dk_28 (dk_at dksX2_addTrail_1 9 rfl rfl)
theorem dX2_addTrail_32 : decode cX2_addTrail 32 = .ok (.invokevirtual 80, 3) := dk_182 0 80 (dk_at dksX2_addTrail_1 10 rfl rfl)
theorem dX2_addTrail_35 : decode cX2_addTrail 35 = .ok (.ifCond .ne 7, 3) := dk_154 0 7 (dk_at dksX2_addTrail_1 13 rfl rfl)
theorem dX2_addTrail_38 : decode cX2_addTrail 38 = .ok (.iconst 1, 1) := dk_4 (dk_at dksX2_addTrail_1 16 rfl rfl)
theorem dX2_addTrail_39 : decode cX2_addTrail 39 = .ok (.goto 4, 3) := dk_167 0 4 (dk_at dksX2_addTrail_1 17 rfl rfl)
theorem dX2_addTrail_42 : decode cX2_addTrail 42 = .ok (.iconst 0, 1) := dk_3 (dk_at dksX2_addTrail_1 20 rfl rfl)
theorem dX2_addTrail_43 : decode cX2_addTrail 43 = .ok (.invokestatic 148, 3) := dk_184 0 148 (dk_at dksX2_addTrail_1 21 rfl rfl)
theorem dX2_addTrail_46 : decode cX2_addTrail 46 = .ok (.aload_n 0, 1) := dk_42 (dk_at dksX2_addTrail_2 0 rfl rfl)
theorem dX2_addTrail_47 : decode cX2_addTrail 47 = .ok (.iload_n 1, 1) := dk_27 (dk_at dksX2_addTrail_2 1 rfl rfl)
theorem dX2_addTrail_48 : decode cX2_addTrail 48 = .ok (.iload_n 2, 1) := dk_28 (dk_at dksX2_addTrail_2 2 rfl rfl)
theorem dX2_addTrail_49 : decode cX2_addTrail 49 = .ok (.iload_n 3, 1) := dk_29 (dk_at dksX2_addTrail_2 3 rfl rfl)
theorem dX2_addTrail_50 : decode cX2_addTrail 50 = .ok (.invokevirtual 165, 3) := dk_182 0 165 (dk_at dksX2_addTrail_2 4 rfl rfl)
theorem dX2_addTrail_53 : decode cX2_addTrail 53 = .ok (.aload_n 0, 1) := dk_42 (dk_at dksX2_addTrail_2 7 rfl rfl)
theorem dX2_addTrail_54 : decode cX2_addTrail 54 = .ok (.invokevirtual 169, 3) := dk_182 0 169 (dk_at dksX2_addTrail_2 8 rfl rfl)
theorem dX2_addTrail_57 : decode cX2_addTrail 57 = .ok (.ireturn, 1) := dk_172 (dk_at dksX2_addTrail_2 11 rfl rfl)
def dkwX2_checkPair_0 : List UInt8 := [27, 42, 182, 0, 69, 184, 0, 70, 28, 42, 182, 0, 69, 184, 0, 70, 177]
abbrev dktX2_checkPair_0 : List UInt8 := dkwX2_checkPair_0 ++ []
theorem dksX2_checkPair_0 : cX2_checkPair.data.toList.drop 0 = dktX2_checkPair_0 := by decide +kernel
theorem dX2_checkPair_0 : decode cX2_checkPair 0 = .ok (.iload_n 1, 1) := dk_27 (dk_at dksX2_checkPair_0 0 rfl rfl)
theorem dX2_checkPair_1 : decode cX2_checkPair 1 = .ok (.aload_n 0, 1) := dk_42 (dk_at dksX2_checkPair_0 1 rfl rfl)
theorem dX2_checkPair_2 : decode cX2_checkPair 2 = .ok (.invokevirtual 69, 3) := dk_182 0 69 (dk_at dksX2_checkPair_0 2 rfl rfl)
theorem dX2_checkPair_5 : decode cX2_checkPair 5 = .ok (.invokestatic 70, 3) := dk_184 0 70 (dk_at dksX2_checkPair_0 5 rfl rfl)
theorem dX2_checkPair_8 : decode cX2_checkPair 8 = .ok (.iload_n 2, 1) := dk_28 (dk_at dksX2_checkPair_0 8 rfl rfl)
theorem dX2_checkPair_9 : decode cX2_checkPair 9 = .ok (.aload_n 0, 1) := dk_42 (dk_at dksX2_checkPair_0 9 rfl rfl)
theorem dX2_checkPair_10 : decode cX2_checkPair 10 = .ok (.invokevirtual 69, 3) := dk_182 0 69 (dk_at dksX2_checkPair_0 10 rfl rfl)
theorem dX2_checkPair_13 : decode cX2_checkPair 13 = .ok (.invokestatic 70, 3) := dk_184 0 70 (dk_at dksX2_checkPair_0 13 rfl rfl)
theorem dX2_checkPair_16 : decode cX2_checkPair 16 = .ok (.return_, 1) := dk_177 (dk_at dksX2_checkPair_0 16 rfl rfl)
def dkwX2_setLength_1 : List UInt8 := [177]
abbrev dktX2_setLength_1 : List UInt8 := dkwX2_setLength_1 ++ []
def dkwX2_setLength_0 : List UInt8 := [42, 180, 0, 18, 16, 12, 27, 104, 28, 96, 29, 79, 42, 180, 0, 18, 16, 12, 28, 104, 27, 96, 29, 79]
abbrev dktX2_setLength_0 : List UInt8 := dkwX2_setLength_0 ++ dktX2_setLength_1
theorem dksX2_setLength_0 : cX2_setLength.data.toList.drop 0 = dktX2_setLength_0 := by decide +kernel
theorem dksX2_setLength_1 : cX2_setLength.data.toList.drop 24 = dktX2_setLength_1 := dk_seg dksX2_setLength_0 24 rfl rfl
theorem dX2_setLength_0 : decode cX2_setLength 0 = .ok (.aload_n 0, 1) := dk_42 (dk_at dksX2_setLength_0 0 rfl rfl)
theorem dX2_setLength_1 : decode cX2_setLength 1 = .ok (.getfield 18, 3) := dk_180 0 18 (dk_at dksX2_setLength_0 1 rfl rfl)
theorem dX2_setLength_4 : decode cX2_setLength 4 = .ok (.bipush 12, 2) := dk_16 12 (dk_at dksX2_setLength_0 4 rfl rfl)
theorem dX2_setLength_6 : decode cX2_setLength 6 = .ok (.iload_n 1, 1) := dk_27 (dk_at dksX2_setLength_0 6 rfl rfl)
theorem dX2_setLength_7 : decode cX2_setLength 7 = .ok (.imul, 1) := dk_104 (dk_at dksX2_setLength_0 7 rfl rfl)
theorem dX2_setLength_8 : decode cX2_setLength 8 = .ok (.iload_n 2, 1) := dk_28 (dk_at dksX2_setLength_0 8 rfl rfl)
theorem dX2_setLength_9 : decode cX2_setLength 9 = .ok (.iadd, 1) := dk_96 (dk_at dksX2_setLength_0 9 rfl rfl)
theorem dX2_setLength_10 : decode cX2_setLength 10 = .ok (.iload_n 3, 1) := dk_29 (dk_at dksX2_setLength_0 10 rfl rfl)
theorem dX2_setLength_11 : decode cX2_setLength 11 = .ok (.iastore, 1) := dk_79 (dk_at dksX2_setLength_0 11 rfl rfl)
theorem dX2_setLength_12 : decode cX2_setLength 12 = .ok (.aload_n 0, 1) := dk_42 (dk_at dksX2_setLength_0 12 rfl rfl)
theorem dX2_setLength_13 : decode cX2_setLength 13 = .ok (.getfield 18, 3) := dk_180 0 18 (dk_at dksX2_setLength_0 13 rfl rfl)
theorem dX2_setLength_16 : decode cX2_setLength 16 = .ok (.bipush 12, 2) := dk_16 12 (dk_at dksX2_setLength_0 16 rfl rfl)
theorem dX2_setLength_18 : decode cX2_setLength 18 = .ok (.iload_n 2, 1) := dk_28 (dk_at dksX2_setLength_0 18 rfl rfl)
theorem dX2_setLength_19 : decode cX2_setLength 19 = .ok (.imul, 1) := dk_104 (dk_at dksX2_setLength_0 19 rfl rfl)
theorem dX2_setLength_20 : decode cX2_setLength 20 = .ok (.iload_n 1, 1) := dk_27 (dk_at dksX2_setLength_0 20 rfl rfl)
theorem dX2_setLength_21 : decode cX2_setLength 21 = .ok (.iadd, 1) := dk_96 (dk_at dksX2_setLength_0 21 rfl rfl)
theorem dX2_setLength_22 : decode cX2_setLength 22 = .ok (.iload_n 3, 1) := dk_29 (dk_at dksX2_setLength_0 22 rfl rfl)
theorem dX2_setLength_23 : decode cX2_setLength 23 = .ok (.iastore, 1) := dk_79 (dk_at dksX2_setLength_0 23 rfl rfl)
theorem dX2_setLength_24 : decode cX2_setLength 24 = .ok (.return_, 1) := dk_177 (dk_at dksX2_setLength_1 0 rfl rfl)
def dkwX2_removeTrail_1 : List UInt8 := [184, 0, 172, 42, 27, 28, 3, 182, 0, 165, 29, 172]
abbrev dktX2_removeTrail_1 : List UInt8 := dkwX2_removeTrail_1 ++ []
def dkwX2_removeTrail_0 : List UInt8 := [42, 27, 28, 182, 0, 162, 42, 27, 28, 182, 0, 80, 62, 29, 158, 0, 7, 4, 167, 0, 4, 3]
abbrev dktX2_removeTrail_0 : List UInt8 := dkwX2_removeTrail_0 ++ dktX2_removeTrail_1
theorem dksX2_removeTrail_0 : cX2_removeTrail.data.toList.drop 0 = dktX2_removeTrail_0 := by decide +kernel
theorem dksX2_removeTrail_1 : cX2_removeTrail.data.toList.drop 22 = dktX2_removeTrail_1 := dk_seg dksX2_removeTrail_0 22 rfl rfl
theorem dX2_removeTrail_0 : decode cX2_removeTrail 0 = .ok (.aload_n 0, 1) := dk_42 (dk_at dksX2_removeTrail_0 0 rfl rfl)
theorem dX2_removeTrail_1 : decode cX2_removeTrail 1 = .ok (.iload_n 1, 1) := dk_27 (dk_at dksX2_removeTrail_0 1 rfl rfl)
theorem dX2_removeTrail_2 : decode cX2_removeTrail 2 = .ok (.iload_n 2, 1) := dk_28 (dk_at dksX2_removeTrail_0 2 rfl rfl)
theorem dX2_removeTrail_3 : decode cX2_removeTrail 3 = .ok (.invokevirtual 162, 3) := dk_182 0 162 (dk_at dksX2_removeTrail_0 3 rfl rfl)
theorem dX2_removeTrail_6 : decode cX2_removeTrail 6 = .ok (.aload_n 0, 1) := dk_42 (dk_at dksX2_removeTrail_0 6 rfl rfl)
theorem dX2_removeTrail_7 : decode cX2_removeTrail 7 = .ok (.iload_n 1, 1) := dk_27 (dk_at dksX2_removeTrail_0 7 rfl rfl)
theorem dX2_removeTrail_8 : decode cX2_removeTrail 8 = .ok (.iload_n 2, 1) := dk_28 (dk_at dksX2_removeTrail_0 8 rfl rfl)
theorem dX2_removeTrail_9 : decode cX2_removeTrail 9 = .ok (.invokevirtual 80, 3) := dk_182 0 80 (dk_at dksX2_removeTrail_0 9 rfl rfl)
theorem dX2_removeTrail_12 : decode cX2_removeTrail 12 = .ok (.istore_n 3, 1) := dk_62 (dk_at dksX2_removeTrail_0 12 rfl rfl)
theorem dX2_removeTrail_13 : decode cX2_removeTrail 13 = .ok (.iload_n 3, 1) := dk_29 (dk_at dksX2_removeTrail_0 13 rfl rfl)
theorem dX2_removeTrail_14 : decode cX2_removeTrail 14 = .ok (.ifCond .le 7, 3) := dk_158 0 7 (dk_at dksX2_removeTrail_0 14 rfl rfl)
theorem dX2_removeTrail_17 : decode cX2_removeTrail 17 = .ok (.iconst 1, 1) := dk_4 (dk_at dksX2_removeTrail_0 17 rfl rfl)
theorem dX2_removeTrail_18 : decode cX2_removeTrail 18 = .ok (.goto 4, 3) := dk_167 0 4 (dk_at dksX2_removeTrail_0 18 rfl rfl)
theorem dX2_removeTrail_21 : decode cX2_removeTrail 21 = .ok (.iconst 0, 1) := dk_3 (dk_at dksX2_removeTrail_0 21 rfl rfl)
theorem dX2_removeTrail_22 : decode cX2_removeTrail 22 = .ok (.invokestatic 172, 3) := dk_184 0 172 (dk_at dksX2_removeTrail_1 0 rfl rfl)
theorem dX2_removeTrail_25 : decode cX2_removeTrail 25 = .ok (.aload_n 0, 1) := dk_42 (dk_at dksX2_removeTrail_1 3 rfl rfl)
theorem dX2_removeTrail_26 : decode cX2_removeTrail 26 = .ok (.iload_n 1, 1) := dk_27 (dk_at dksX2_removeTrail_1 4 rfl rfl)
theorem dX2_removeTrail_27 : decode cX2_removeTrail 27 = .ok (.iload_n 2, 1) := dk_28 (dk_at dksX2_removeTrail_1 5 rfl rfl)
theorem dX2_removeTrail_28 : decode cX2_removeTrail 28 = .ok (.iconst 0, 1) := dk_3 (dk_at dksX2_removeTrail_1 6 rfl rfl)
theorem dX2_removeTrail_29 : decode cX2_removeTrail 29 = .ok (.invokevirtual 165, 3) := dk_182 0 165 (dk_at dksX2_removeTrail_1 7 rfl rfl)
theorem dX2_removeTrail_32 : decode cX2_removeTrail 32 = .ok (.iload_n 3, 1) := dk_29 (dk_at dksX2_removeTrail_1 10 rfl rfl)
theorem dX2_removeTrail_33 : decode cX2_removeTrail 33 = .ok (.ireturn, 1) := dk_172 (dk_at dksX2_removeTrail_1 11 rfl rfl)
def dkwX2_startTour_6 : List UInt8 := [21, 5, 172]
abbrev dktX2_startTour_6 : List UInt8 := dkwX2_startTour_6 ++ []
def dkwX2_startTour_5 : List UInt8 := [21, 5, 184, 0, 42, 42, 187, 0, 189, 89, 25, 6, 4, 42, 27, 182, 0, 191, 183, 0, 195, 181, 0, 48]
abbrev dktX2_startTour_5 : List UInt8 := dkwX2_startTour_5 ++ dktX2_startTour_6
def dkwX2_startTour_4 : List UInt8 := [45, 182, 0, 185, 79, 132, 5, 1, 167, 255, 225, 21, 5, 188, 10, 58, 6, 25, 4, 3, 25, 6, 3]
abbrev dktX2_startTour_4 : List UInt8 := dkwX2_startTour_4 ++ dktX2_startTour_5
def dkwX2_startTour_3 : List UInt8 := [79, 25, 4, 21, 5, 4, 100, 46, 28, 159, 0, 26, 25, 4, 21, 5, 42, 25, 4, 21, 5, 4, 100, 46]
abbrev dktX2_startTour_3 : List UInt8 := dkwX2_startTour_3 ++ dktX2_startTour_4
def dkwX2_startTour_2 : List UInt8 := [162, 0, 7, 4, 167, 0, 4, 3, 184, 0, 172, 16, 12, 188, 10, 58, 4, 4, 54, 5, 25, 4, 3, 27]
abbrev dktX2_startTour_2 : List UInt8 := dkwX2_startTour_2 ++ dktX2_startTour_3
def dkwX2_startTour_1 : List UInt8 := [199, 0, 7, 4, 167, 0, 4, 3, 184, 0, 148, 42, 28, 182, 0, 182, 78, 45, 27, 46, 18, 100]
abbrev dktX2_startTour_1 : List UInt8 := dkwX2_startTour_1 ++ dktX2_startTour_2
def dkwX2_startTour_0 : List UInt8 := [42, 27, 28, 182, 0, 162, 27, 28, 159, 0, 7, 4, 167, 0, 4, 3, 184, 0, 144, 42, 180, 0, 48]
abbrev dktX2_startTour_0 : List UInt8 := dkwX2_startTour_0 ++ dktX2_startTour_1
theorem dksX2_startTour_0 : cX2_startTour.data.toList.drop 0 = dktX2_startTour_0 := by decide +kernel
theorem dksX2_startTour_1 : cX2_startTour.data.toList.drop 23 = dktX2_startTour_1 := dk_seg dksX2_startTour_0 23 rfl rfl
theorem dksX2_startTour_2 : cX2_startTour.data.toList.drop 45 = dktX2_startTour_2 := dk_seg dksX2_startTour_1 22 rfl rfl
theorem dksX2_startTour_3 : cX2_startTour.data.toList.drop 69 = dktX2_startTour_3 := dk_seg dksX2_startTour_2 24 rfl rfl
theorem dksX2_startTour_4 : cX2_startTour.data.toList.drop 93 = dktX2_startTour_4 := dk_seg dksX2_startTour_3 24 rfl rfl
theorem dksX2_startTour_5 : cX2_startTour.data.toList.drop 116 = dktX2_startTour_5 := dk_seg dksX2_startTour_4 23 rfl rfl
theorem dksX2_startTour_6 : cX2_startTour.data.toList.drop 140 = dktX2_startTour_6 := dk_seg dksX2_startTour_5 24 rfl rfl
theorem dX2_startTour_0 : decode cX2_startTour 0 = .ok (.aload_n 0, 1) := dk_42 (dk_at dksX2_startTour_0 0 rfl rfl)
theorem dX2_startTour_1 : decode cX2_startTour 1 = .ok (.iload_n 1, 1) := dk_27 (dk_at dksX2_startTour_0 1 rfl rfl)
theorem dX2_startTour_2 : decode cX2_startTour 2 = .ok (.iload_n 2, 1) := dk_28 (dk_at dksX2_startTour_0 2 rfl rfl)
theorem dX2_startTour_3 : decode cX2_startTour 3 = .ok (.invokevirtual 162, 3) := dk_182 0 162 (dk_at dksX2_startTour_0 3 rfl rfl)
theorem dX2_startTour_6 : decode cX2_startTour 6 = .ok (.iload_n 1, 1) := dk_27 (dk_at dksX2_startTour_0 6 rfl rfl)
theorem dX2_startTour_7 : decode cX2_startTour 7 = .ok (.iload_n 2, 1) := dk_28 (dk_at dksX2_startTour_0 7 rfl rfl)
theorem dX2_startTour_8 : decode cX2_startTour 8 = .ok (.if_icmp .eq 7, 3) := dk_159 0 7 (dk_at dksX2_startTour_0 8 rfl rfl)
theorem dX2_startTour_11 : decode cX2_startTour 11 = .ok (.iconst 1, 1) := dk_4 (dk_at dksX2_startTour_0 11 rfl rfl)
theorem dX2_startTour_12 : decode cX2_startTour 12 = .ok (.goto 4, 3) := dk_167 0 4 (dk_at dksX2_startTour_0 12 rfl rfl)
theorem dX2_startTour_15 : decode cX2_startTour 15 = .ok (.iconst 0, 1) := dk_3 (dk_at dksX2_startTour_0 15 rfl rfl)
theorem dX2_startTour_16 : decode cX2_startTour 16 = .ok (.invokestatic 144, 3) := dk_184 0 144 (dk_at dksX2_startTour_0 16 rfl rfl)
theorem dX2_startTour_19 : decode cX2_startTour 19 = .ok (.aload_n 0, 1) := dk_42 (dk_at dksX2_startTour_0 19 rfl rfl)
theorem dX2_startTour_20 : decode cX2_startTour 20 = .ok (.getfield 48, 3) := dk_180 0 48 (dk_at dksX2_startTour_0 20 rfl rfl)
theorem dX2_startTour_23 : decode cX2_startTour 23 = .ok (.ifnonnull 7, 3) := dk_199 0 7 (dk_at dksX2_startTour_1 0 rfl rfl)
theorem dX2_startTour_26 : decode cX2_startTour 26 = .ok (.iconst 1, 1) := dk_4 (dk_at dksX2_startTour_1 3 rfl rfl)
theorem dX2_startTour_27 : decode cX2_startTour 27 = .ok (.goto 4, 3) := dk_167 0 4 (dk_at dksX2_startTour_1 4 rfl rfl)
theorem dX2_startTour_30 : decode cX2_startTour 30 = .ok (.iconst 0, 1) := dk_3 (dk_at dksX2_startTour_1 7 rfl rfl)
theorem dX2_startTour_31 : decode cX2_startTour 31 = .ok (.invokestatic 148, 3) := dk_184 0 148 (dk_at dksX2_startTour_1 8 rfl rfl)
theorem dX2_startTour_34 : decode cX2_startTour 34 = .ok (.aload_n 0, 1) := dk_42 (dk_at dksX2_startTour_1 11 rfl rfl)
theorem dX2_startTour_35 : decode cX2_startTour 35 = .ok (.iload_n 2, 1) := dk_28 (dk_at dksX2_startTour_1 12 rfl rfl)
theorem dX2_startTour_36 : decode cX2_startTour 36 = .ok (.invokevirtual 182, 3) := dk_182 0 182 (dk_at dksX2_startTour_1 13 rfl rfl)
theorem dX2_startTour_39 : decode cX2_startTour 39 = .ok (.astore_n 3, 1) := dk_78 (dk_at dksX2_startTour_1 16 rfl rfl)
theorem dX2_startTour_40 : decode cX2_startTour 40 = .ok (.aload_n 3, 1) := dk_45 (dk_at dksX2_startTour_1 17 rfl rfl)
theorem dX2_startTour_41 : decode cX2_startTour 41 = .ok (.iload_n 1, 1) := dk_27 (dk_at dksX2_startTour_1 18 rfl rfl)
theorem dX2_startTour_42 : decode cX2_startTour 42 = .ok (.iaload, 1) := dk_46 (dk_at dksX2_startTour_1 19 rfl rfl)
theorem dX2_startTour_43 : decode cX2_startTour 43 = .ok (.ldc 100, 2) := dk_18 100 (dk_at dksX2_startTour_1 20 rfl rfl)
theorem dX2_startTour_45 : decode cX2_startTour 45 = .ok (.if_icmp .ge 7, 3) := dk_162 0 7 (dk_at dksX2_startTour_2 0 rfl rfl)
theorem dX2_startTour_48 : decode cX2_startTour 48 = .ok (.iconst 1, 1) := dk_4 (dk_at dksX2_startTour_2 3 rfl rfl)
theorem dX2_startTour_49 : decode cX2_startTour 49 = .ok (.goto 4, 3) := dk_167 0 4 (dk_at dksX2_startTour_2 4 rfl rfl)
theorem dX2_startTour_52 : decode cX2_startTour 52 = .ok (.iconst 0, 1) := dk_3 (dk_at dksX2_startTour_2 7 rfl rfl)
theorem dX2_startTour_53 : decode cX2_startTour 53 = .ok (.invokestatic 172, 3) := dk_184 0 172 (dk_at dksX2_startTour_2 8 rfl rfl)
theorem dX2_startTour_56 : decode cX2_startTour 56 = .ok (.bipush 12, 2) := dk_16 12 (dk_at dksX2_startTour_2 11 rfl rfl)
theorem dX2_startTour_58 : decode cX2_startTour 58 = .ok (.newarray .int, 2) := dk_188_10 (dk_at dksX2_startTour_2 13 rfl rfl)
theorem dX2_startTour_60 : decode cX2_startTour 60 = .ok (.astore 4, 2) := dk_58 4 (dk_at dksX2_startTour_2 15 rfl rfl)
theorem dX2_startTour_62 : decode cX2_startTour 62 = .ok (.iconst 1, 1) := dk_4 (dk_at dksX2_startTour_2 17 rfl rfl)
theorem dX2_startTour_63 : decode cX2_startTour 63 = .ok (.istore 5, 2) := dk_54 5 (dk_at dksX2_startTour_2 18 rfl rfl)
theorem dX2_startTour_65 : decode cX2_startTour 65 = .ok (.aload 4, 2) := dk_25 4 (dk_at dksX2_startTour_2 20 rfl rfl)
theorem dX2_startTour_67 : decode cX2_startTour 67 = .ok (.iconst 0, 1) := dk_3 (dk_at dksX2_startTour_2 22 rfl rfl)
theorem dX2_startTour_68 : decode cX2_startTour 68 = .ok (.iload_n 1, 1) := dk_27 (dk_at dksX2_startTour_2 23 rfl rfl)
theorem dX2_startTour_69 : decode cX2_startTour 69 = .ok (.iastore, 1) := dk_79 (dk_at dksX2_startTour_3 0 rfl rfl)
theorem dX2_startTour_70 : decode cX2_startTour 70 = .ok (.aload 4, 2) := dk_25 4 (dk_at dksX2_startTour_3 1 rfl rfl)
theorem dX2_startTour_72 : decode cX2_startTour 72 = .ok (.iload 5, 2) := dk_21 5 (dk_at dksX2_startTour_3 3 rfl rfl)
theorem dX2_startTour_74 : decode cX2_startTour 74 = .ok (.iconst 1, 1) := dk_4 (dk_at dksX2_startTour_3 5 rfl rfl)
theorem dX2_startTour_75 : decode cX2_startTour 75 = .ok (.isub, 1) := dk_100 (dk_at dksX2_startTour_3 6 rfl rfl)
theorem dX2_startTour_76 : decode cX2_startTour 76 = .ok (.iaload, 1) := dk_46 (dk_at dksX2_startTour_3 7 rfl rfl)
theorem dX2_startTour_77 : decode cX2_startTour 77 = .ok (.iload_n 2, 1) := dk_28 (dk_at dksX2_startTour_3 8 rfl rfl)
theorem dX2_startTour_78 : decode cX2_startTour 78 = .ok (.if_icmp .eq 26, 3) := dk_159 0 26 (dk_at dksX2_startTour_3 9 rfl rfl)
theorem dX2_startTour_81 : decode cX2_startTour 81 = .ok (.aload 4, 2) := dk_25 4 (dk_at dksX2_startTour_3 12 rfl rfl)
theorem dX2_startTour_83 : decode cX2_startTour 83 = .ok (.iload 5, 2) := dk_21 5 (dk_at dksX2_startTour_3 14 rfl rfl)
theorem dX2_startTour_85 : decode cX2_startTour 85 = .ok (.aload_n 0, 1) := dk_42 (dk_at dksX2_startTour_3 16 rfl rfl)
theorem dX2_startTour_86 : decode cX2_startTour 86 = .ok (.aload 4, 2) := dk_25 4 (dk_at dksX2_startTour_3 17 rfl rfl)
theorem dX2_startTour_88 : decode cX2_startTour 88 = .ok (.iload 5, 2) := dk_21 5 (dk_at dksX2_startTour_3 19 rfl rfl)
theorem dX2_startTour_90 : decode cX2_startTour 90 = .ok (.iconst 1, 1) := dk_4 (dk_at dksX2_startTour_3 21 rfl rfl)
theorem dX2_startTour_91 : decode cX2_startTour 91 = .ok (.isub, 1) := dk_100 (dk_at dksX2_startTour_3 22 rfl rfl)
theorem dX2_startTour_92 : decode cX2_startTour 92 = .ok (.iaload, 1) := dk_46 (dk_at dksX2_startTour_3 23 rfl rfl)
theorem dX2_startTour_93 : decode cX2_startTour 93 = .ok (.aload_n 3, 1) := dk_45 (dk_at dksX2_startTour_4 0 rfl rfl)
theorem dX2_startTour_94 : decode cX2_startTour 94 = .ok (.invokevirtual 185, 3) := dk_182 0 185 (dk_at dksX2_startTour_4 1 rfl rfl)
theorem dX2_startTour_97 : decode cX2_startTour 97 = .ok (.iastore, 1) := dk_79 (dk_at dksX2_startTour_4 4 rfl rfl)
theorem dX2_startTour_98 : decode cX2_startTour 98 = .ok (.iinc 5 1, 3) := dk_132 5 1 (dk_at dksX2_startTour_4 5 rfl rfl)
theorem dX2_startTour_101 : decode cX2_startTour 101 = .ok (.goto (-31), 3) := dk_167 255 225 (dk_at dksX2_startTour_4 8 rfl rfl)
theorem dX2_startTour_104 : decode cX2_startTour 104 = .ok (.iload 5, 2) := dk_21 5 (dk_at dksX2_startTour_4 11 rfl rfl)
theorem dX2_startTour_106 : decode cX2_startTour 106 = .ok (.newarray .int, 2) := dk_188_10 (dk_at dksX2_startTour_4 13 rfl rfl)
theorem dX2_startTour_108 : decode cX2_startTour 108 = .ok (.astore 6, 2) := dk_58 6 (dk_at dksX2_startTour_4 15 rfl rfl)
theorem dX2_startTour_110 : decode cX2_startTour 110 = .ok (.aload 4, 2) := dk_25 4 (dk_at dksX2_startTour_4 17 rfl rfl)
theorem dX2_startTour_112 : decode cX2_startTour 112 = .ok (.iconst 0, 1) := dk_3 (dk_at dksX2_startTour_4 19 rfl rfl)
theorem dX2_startTour_113 : decode cX2_startTour 113 = .ok (.aload 6, 2) := dk_25 6 (dk_at dksX2_startTour_4 20 rfl rfl)
theorem dX2_startTour_115 : decode cX2_startTour 115 = .ok (.iconst 0, 1) := dk_3 (dk_at dksX2_startTour_4 22 rfl rfl)
theorem dX2_startTour_116 : decode cX2_startTour 116 = .ok (.iload 5, 2) := dk_21 5 (dk_at dksX2_startTour_5 0 rfl rfl)
theorem dX2_startTour_118 : decode cX2_startTour 118 = .ok (.invokestatic 42, 3) := dk_184 0 42 (dk_at dksX2_startTour_5 2 rfl rfl)
theorem dX2_startTour_121 : decode cX2_startTour 121 = .ok (.aload_n 0, 1) := dk_42 (dk_at dksX2_startTour_5 5 rfl rfl)
theorem dX2_startTour_122 : decode cX2_startTour 122 = .ok (.new 189, 3) := dk_187 0 189 (dk_at dksX2_startTour_5 6 rfl rfl)
theorem dX2_startTour_125 : decode cX2_startTour 125 = .ok (.dup, 1) := dk_89 (dk_at dksX2_startTour_5 9 rfl rfl)
theorem dX2_startTour_126 : decode cX2_startTour 126 = .ok (.aload 6, 2) := dk_25 6 (dk_at dksX2_startTour_5 10 rfl rfl)
theorem dX2_startTour_128 : decode cX2_startTour 128 = .ok (.iconst 1, 1) := dk_4 (dk_at dksX2_startTour_5 12 rfl rfl)
theorem dX2_startTour_129 : decode cX2_startTour 129 = .ok (.aload_n 0, 1) := dk_42 (dk_at dksX2_startTour_5 13 rfl rfl)
theorem dX2_startTour_130 : decode cX2_startTour 130 = .ok (.iload_n 1, 1) := dk_27 (dk_at dksX2_startTour_5 14 rfl rfl)
theorem dX2_startTour_131 : decode cX2_startTour 131 = .ok (.invokevirtual 191, 3) := dk_182 0 191 (dk_at dksX2_startTour_5 15 rfl rfl)
theorem dX2_startTour_134 : decode cX2_startTour 134 = .ok (.invokespecial 195, 3) := dk_183 0 195 (dk_at dksX2_startTour_5 18 rfl rfl)
theorem dX2_startTour_137 : decode cX2_startTour 137 = .ok (.putfield 48, 3) := dk_181 0 48 (dk_at dksX2_startTour_5 21 rfl rfl)
theorem dX2_startTour_140 : decode cX2_startTour 140 = .ok (.iload 5, 2) := dk_21 5 (dk_at dksX2_startTour_6 0 rfl rfl)
theorem dX2_startTour_142 : decode cX2_startTour 142 = .ok (.ireturn, 1) := dk_172 (dk_at dksX2_startTour_6 2 rfl rfl)
def dkwX2_successor_0 : List UInt8 := [42, 42, 27, 44, 186, 0, 179, 0, 0, 182, 0, 128, 172]
abbrev dktX2_successor_0 : List UInt8 := dkwX2_successor_0 ++ []
theorem dksX2_successor_0 : cX2_successor.data.toList.drop 0 = dktX2_successor_0 := by decide +kernel
theorem dX2_successor_0 : decode cX2_successor 0 = .ok (.aload_n 0, 1) := dk_42 (dk_at dksX2_successor_0 0 rfl rfl)
theorem dX2_successor_1 : decode cX2_successor 1 = .ok (.aload_n 0, 1) := dk_42 (dk_at dksX2_successor_0 1 rfl rfl)
theorem dX2_successor_2 : decode cX2_successor 2 = .ok (.iload_n 1, 1) := dk_27 (dk_at dksX2_successor_0 2 rfl rfl)
theorem dX2_successor_3 : decode cX2_successor 3 = .ok (.aload_n 2, 1) := dk_44 (dk_at dksX2_successor_0 3 rfl rfl)
theorem dX2_successor_4 : decode cX2_successor 4 = .ok (.invokedynamic 179, 5) := by decide +kernel
theorem dX2_successor_9 : decode cX2_successor 9 = .ok (.invokevirtual 128, 3) := dk_182 0 128 (dk_at dksX2_successor_0 9 rfl rfl)
theorem dX2_successor_12 : decode cX2_successor 12 = .ok (.ireturn, 1) := dk_172 (dk_at dksX2_successor_0 12 rfl rfl)
def dkwX2_lambda_successor_4_1 : List UInt8 := [160, 0, 7, 4, 167, 0, 4, 3, 172]
abbrev dktX2_lambda_successor_4_1 : List UInt8 := dkwX2_lambda_successor_4_1 ++ []
def dkwX2_lambda_successor_4_0 : List UInt8 := [42, 27, 29, 182, 0, 80, 158, 0, 23, 42, 27, 29, 182, 0, 80, 44, 29, 46, 96, 44, 27, 46]
abbrev dktX2_lambda_successor_4_0 : List UInt8 := dkwX2_lambda_successor_4_0 ++ dktX2_lambda_successor_4_1
theorem dksX2_lambda_successor_4_0 : cX2_lambda_successor_4.data.toList.drop 0 = dktX2_lambda_successor_4_0 := by decide +kernel
theorem dksX2_lambda_successor_4_1 : cX2_lambda_successor_4.data.toList.drop 22 = dktX2_lambda_successor_4_1 := dk_seg dksX2_lambda_successor_4_0 22 rfl rfl
theorem dX2_lambda_successor_4_0 : decode cX2_lambda_successor_4 0 = .ok (.aload_n 0, 1) := dk_42 (dk_at dksX2_lambda_successor_4_0 0 rfl rfl)
theorem dX2_lambda_successor_4_1 : decode cX2_lambda_successor_4 1 = .ok (.iload_n 1, 1) := dk_27 (dk_at dksX2_lambda_successor_4_0 1 rfl rfl)
theorem dX2_lambda_successor_4_2 : decode cX2_lambda_successor_4 2 = .ok (.iload_n 3, 1) := dk_29 (dk_at dksX2_lambda_successor_4_0 2 rfl rfl)
theorem dX2_lambda_successor_4_3 : decode cX2_lambda_successor_4 3 = .ok (.invokevirtual 80, 3) := dk_182 0 80 (dk_at dksX2_lambda_successor_4_0 3 rfl rfl)
theorem dX2_lambda_successor_4_6 : decode cX2_lambda_successor_4 6 = .ok (.ifCond .le 23, 3) := dk_158 0 23 (dk_at dksX2_lambda_successor_4_0 6 rfl rfl)
theorem dX2_lambda_successor_4_9 : decode cX2_lambda_successor_4 9 = .ok (.aload_n 0, 1) := dk_42 (dk_at dksX2_lambda_successor_4_0 9 rfl rfl)
theorem dX2_lambda_successor_4_10 : decode cX2_lambda_successor_4 10 = .ok (.iload_n 1, 1) := dk_27 (dk_at dksX2_lambda_successor_4_0 10 rfl rfl)
theorem dX2_lambda_successor_4_11 : decode cX2_lambda_successor_4 11 = .ok (.iload_n 3, 1) := dk_29 (dk_at dksX2_lambda_successor_4_0 11 rfl rfl)
theorem dX2_lambda_successor_4_12 : decode cX2_lambda_successor_4 12 = .ok (.invokevirtual 80, 3) := dk_182 0 80 (dk_at dksX2_lambda_successor_4_0 12 rfl rfl)
theorem dX2_lambda_successor_4_15 : decode cX2_lambda_successor_4 15 = .ok (.aload_n 2, 1) := dk_44 (dk_at dksX2_lambda_successor_4_0 15 rfl rfl)
theorem dX2_lambda_successor_4_16 : decode cX2_lambda_successor_4 16 = .ok (.iload_n 3, 1) := dk_29 (dk_at dksX2_lambda_successor_4_0 16 rfl rfl)
theorem dX2_lambda_successor_4_17 : decode cX2_lambda_successor_4 17 = .ok (.iaload, 1) := dk_46 (dk_at dksX2_lambda_successor_4_0 17 rfl rfl)
theorem dX2_lambda_successor_4_18 : decode cX2_lambda_successor_4 18 = .ok (.iadd, 1) := dk_96 (dk_at dksX2_lambda_successor_4_0 18 rfl rfl)
theorem dX2_lambda_successor_4_19 : decode cX2_lambda_successor_4 19 = .ok (.aload_n 2, 1) := dk_44 (dk_at dksX2_lambda_successor_4_0 19 rfl rfl)
theorem dX2_lambda_successor_4_20 : decode cX2_lambda_successor_4 20 = .ok (.iload_n 1, 1) := dk_27 (dk_at dksX2_lambda_successor_4_0 20 rfl rfl)
theorem dX2_lambda_successor_4_21 : decode cX2_lambda_successor_4 21 = .ok (.iaload, 1) := dk_46 (dk_at dksX2_lambda_successor_4_0 21 rfl rfl)
theorem dX2_lambda_successor_4_22 : decode cX2_lambda_successor_4 22 = .ok (.if_icmp .ne 7, 3) := dk_160 0 7 (dk_at dksX2_lambda_successor_4_1 0 rfl rfl)
theorem dX2_lambda_successor_4_25 : decode cX2_lambda_successor_4 25 = .ok (.iconst 1, 1) := dk_4 (dk_at dksX2_lambda_successor_4_1 3 rfl rfl)
theorem dX2_lambda_successor_4_26 : decode cX2_lambda_successor_4 26 = .ok (.goto 4, 3) := dk_167 0 4 (dk_at dksX2_lambda_successor_4_1 4 rfl rfl)
theorem dX2_lambda_successor_4_29 : decode cX2_lambda_successor_4 29 = .ok (.iconst 0, 1) := dk_3 (dk_at dksX2_lambda_successor_4_1 7 rfl rfl)
theorem dX2_lambda_successor_4_30 : decode cX2_lambda_successor_4 30 = .ok (.ireturn, 1) := dk_172 (dk_at dksX2_lambda_successor_4_1 8 rfl rfl)
def dkwX2_stopTour_1 : List UInt8 := [182, 0, 208, 27, 172]
abbrev dktX2_stopTour_1 : List UInt8 := dkwX2_stopTour_1 ++ []
def dkwX2_stopTour_0 : List UInt8 := [42, 182, 0, 198, 42, 180, 0, 48, 182, 0, 201, 190, 42, 180, 0, 48, 182, 0, 205, 100, 60, 42]
abbrev dktX2_stopTour_0 : List UInt8 := dkwX2_stopTour_0 ++ dktX2_stopTour_1
theorem dksX2_stopTour_0 : cX2_stopTour.data.toList.drop 0 = dktX2_stopTour_0 := by decide +kernel
theorem dksX2_stopTour_1 : cX2_stopTour.data.toList.drop 22 = dktX2_stopTour_1 := dk_seg dksX2_stopTour_0 22 rfl rfl
theorem dX2_stopTour_0 : decode cX2_stopTour 0 = .ok (.aload_n 0, 1) := dk_42 (dk_at dksX2_stopTour_0 0 rfl rfl)
theorem dX2_stopTour_1 : decode cX2_stopTour 1 = .ok (.invokevirtual 198, 3) := dk_182 0 198 (dk_at dksX2_stopTour_0 1 rfl rfl)
theorem dX2_stopTour_4 : decode cX2_stopTour 4 = .ok (.aload_n 0, 1) := dk_42 (dk_at dksX2_stopTour_0 4 rfl rfl)
theorem dX2_stopTour_5 : decode cX2_stopTour 5 = .ok (.getfield 48, 3) := dk_180 0 48 (dk_at dksX2_stopTour_0 5 rfl rfl)
theorem dX2_stopTour_8 : decode cX2_stopTour 8 = .ok (.invokevirtual 201, 3) := dk_182 0 201 (dk_at dksX2_stopTour_0 8 rfl rfl)
theorem dX2_stopTour_11 : decode cX2_stopTour 11 = .ok (.arraylength, 1) := dk_190 (dk_at dksX2_stopTour_0 11 rfl rfl)
theorem dX2_stopTour_12 : decode cX2_stopTour 12 = .ok (.aload_n 0, 1) := dk_42 (dk_at dksX2_stopTour_0 12 rfl rfl)
theorem dX2_stopTour_13 : decode cX2_stopTour 13 = .ok (.getfield 48, 3) := dk_180 0 48 (dk_at dksX2_stopTour_0 13 rfl rfl)
theorem dX2_stopTour_16 : decode cX2_stopTour 16 = .ok (.invokevirtual 205, 3) := dk_182 0 205 (dk_at dksX2_stopTour_0 16 rfl rfl)
theorem dX2_stopTour_19 : decode cX2_stopTour 19 = .ok (.isub, 1) := dk_100 (dk_at dksX2_stopTour_0 19 rfl rfl)
theorem dX2_stopTour_20 : decode cX2_stopTour 20 = .ok (.istore_n 1, 1) := dk_60 (dk_at dksX2_stopTour_0 20 rfl rfl)
theorem dX2_stopTour_21 : decode cX2_stopTour 21 = .ok (.aload_n 0, 1) := dk_42 (dk_at dksX2_stopTour_0 21 rfl rfl)
theorem dX2_stopTour_22 : decode cX2_stopTour 22 = .ok (.invokevirtual 208, 3) := dk_182 0 208 (dk_at dksX2_stopTour_1 0 rfl rfl)
theorem dX2_stopTour_25 : decode cX2_stopTour 25 = .ok (.iload_n 1, 1) := dk_27 (dk_at dksX2_stopTour_1 3 rfl rfl)
theorem dX2_stopTour_26 : decode cX2_stopTour 26 = .ok (.ireturn, 1) := dk_172 (dk_at dksX2_stopTour_1 4 rfl rfl)
def dkwX2_checkTour_0 : List UInt8 := [42, 180, 0, 48, 198, 0, 7, 4, 167, 0, 4, 3, 184, 0, 148, 177]
abbrev dktX2_checkTour_0 : List UInt8 := dkwX2_checkTour_0 ++ []
theorem dksX2_checkTour_0 : cX2_checkTour.data.toList.drop 0 = dktX2_checkTour_0 := by decide +kernel
theorem dX2_checkTour_0 : decode cX2_checkTour 0 = .ok (.aload_n 0, 1) := dk_42 (dk_at dksX2_checkTour_0 0 rfl rfl)
theorem dX2_checkTour_1 : decode cX2_checkTour 1 = .ok (.getfield 48, 3) := dk_180 0 48 (dk_at dksX2_checkTour_0 1 rfl rfl)
theorem dX2_checkTour_4 : decode cX2_checkTour 4 = .ok (.ifnull 7, 3) := dk_198 0 7 (dk_at dksX2_checkTour_0 4 rfl rfl)
theorem dX2_checkTour_7 : decode cX2_checkTour 7 = .ok (.iconst 1, 1) := dk_4 (dk_at dksX2_checkTour_0 7 rfl rfl)
theorem dX2_checkTour_8 : decode cX2_checkTour 8 = .ok (.goto 4, 3) := dk_167 0 4 (dk_at dksX2_checkTour_0 8 rfl rfl)
theorem dX2_checkTour_11 : decode cX2_checkTour 11 = .ok (.iconst 0, 1) := dk_3 (dk_at dksX2_checkTour_0 11 rfl rfl)
theorem dX2_checkTour_12 : decode cX2_checkTour 12 = .ok (.invokestatic 148, 3) := dk_184 0 148 (dk_at dksX2_checkTour_0 12 rfl rfl)
theorem dX2_checkTour_15 : decode cX2_checkTour 15 = .ok (.return_, 1) := dk_177 (dk_at dksX2_checkTour_0 15 rfl rfl)
def dkwX2_endTour_0 : List UInt8 := [42, 1, 181, 0, 48, 42, 3, 181, 0, 52, 177]
abbrev dktX2_endTour_0 : List UInt8 := dkwX2_endTour_0 ++ []
theorem dksX2_endTour_0 : cX2_endTour.data.toList.drop 0 = dktX2_endTour_0 := by decide +kernel
theorem dX2_endTour_0 : decode cX2_endTour 0 = .ok (.aload_n 0, 1) := dk_42 (dk_at dksX2_endTour_0 0 rfl rfl)
theorem dX2_endTour_1 : decode cX2_endTour 1 = .ok (.aconst_null, 1) := dk_1 (dk_at dksX2_endTour_0 1 rfl rfl)
theorem dX2_endTour_2 : decode cX2_endTour 2 = .ok (.putfield 48, 3) := dk_181 0 48 (dk_at dksX2_endTour_0 2 rfl rfl)
theorem dX2_endTour_5 : decode cX2_endTour 5 = .ok (.aload_n 0, 1) := dk_42 (dk_at dksX2_endTour_0 5 rfl rfl)
theorem dX2_endTour_6 : decode cX2_endTour 6 = .ok (.iconst 0, 1) := dk_3 (dk_at dksX2_endTour_0 6 rfl rfl)
theorem dX2_endTour_7 : decode cX2_endTour 7 = .ok (.putfield 52, 3) := dk_181 0 52 (dk_at dksX2_endTour_0 7 rfl rfl)
theorem dX2_endTour_10 : decode cX2_endTour 10 = .ok (.return_, 1) := dk_177 (dk_at dksX2_endTour_0 10 rfl rfl)
def dkwX2_update_4 : List UInt8 := [172]
abbrev dktX2_update_4 : List UInt8 := dkwX2_update_4 ++ []
def dkwX2_update_3 : List UInt8 := [182, 1, 11, 182, 1, 30, 78, 42, 45, 182, 1, 14, 45, 193, 0, 239, 153, 0, 7, 4, 167, 0, 4, 3]
abbrev dktX2_update_3 : List UInt8 := dkwX2_update_3 ++ dktX2_update_4
def dkwX2_update_2 : List UInt8 := [180, 0, 48, 187, 0, 151, 89, 27, 28, 183, 0, 153, 182, 1, 26, 181, 0, 48, 42, 42, 180, 0, 48]
abbrev dktX2_update_2 : List UInt8 := dkwX2_update_2 ++ dktX2_update_3
def dkwX2_update_1 : List UInt8 := [42, 42, 180, 0, 35, 180, 1, 24, 182, 1, 2, 42, 89, 180, 0, 56, 4, 96, 181, 0, 56, 42, 42]
abbrev dktX2_update_1 : List UInt8 := dkwX2_update_1 ++ dktX2_update_2
def dkwX2_update_0 : List UInt8 := [27, 28, 184, 0, 137, 42, 182, 0, 198, 42, 180, 0, 22, 158, 0, 7, 4, 167, 0, 4, 3, 184, 1, 21]
abbrev dktX2_update_0 : List UInt8 := dkwX2_update_0 ++ dktX2_update_1
theorem dksX2_update_0 : cX2_update.data.toList.drop 0 = dktX2_update_0 := by decide +kernel
theorem dksX2_update_1 : cX2_update.data.toList.drop 24 = dktX2_update_1 := dk_seg dksX2_update_0 24 rfl rfl
theorem dksX2_update_2 : cX2_update.data.toList.drop 47 = dktX2_update_2 := dk_seg dksX2_update_1 23 rfl rfl
theorem dksX2_update_3 : cX2_update.data.toList.drop 70 = dktX2_update_3 := dk_seg dksX2_update_2 23 rfl rfl
theorem dksX2_update_4 : cX2_update.data.toList.drop 94 = dktX2_update_4 := dk_seg dksX2_update_3 24 rfl rfl
theorem dX2_update_0 : decode cX2_update 0 = .ok (.iload_n 1, 1) := dk_27 (dk_at dksX2_update_0 0 rfl rfl)
theorem dX2_update_1 : decode cX2_update 1 = .ok (.iload_n 2, 1) := dk_28 (dk_at dksX2_update_0 1 rfl rfl)
theorem dX2_update_2 : decode cX2_update 2 = .ok (.invokestatic 137, 3) := dk_184 0 137 (dk_at dksX2_update_0 2 rfl rfl)
theorem dX2_update_5 : decode cX2_update 5 = .ok (.aload_n 0, 1) := dk_42 (dk_at dksX2_update_0 5 rfl rfl)
theorem dX2_update_6 : decode cX2_update 6 = .ok (.invokevirtual 198, 3) := dk_182 0 198 (dk_at dksX2_update_0 6 rfl rfl)
theorem dX2_update_9 : decode cX2_update 9 = .ok (.aload_n 0, 1) := dk_42 (dk_at dksX2_update_0 9 rfl rfl)
theorem dX2_update_10 : decode cX2_update 10 = .ok (.getfield 22, 3) := dk_180 0 22 (dk_at dksX2_update_0 10 rfl rfl)
theorem dX2_update_13 : decode cX2_update 13 = .ok (.ifCond .le 7, 3) := dk_158 0 7 (dk_at dksX2_update_0 13 rfl rfl)
theorem dX2_update_16 : decode cX2_update 16 = .ok (.iconst 1, 1) := dk_4 (dk_at dksX2_update_0 16 rfl rfl)
theorem dX2_update_17 : decode cX2_update 17 = .ok (.goto 4, 3) := dk_167 0 4 (dk_at dksX2_update_0 17 rfl rfl)
theorem dX2_update_20 : decode cX2_update 20 = .ok (.iconst 0, 1) := dk_3 (dk_at dksX2_update_0 20 rfl rfl)
theorem dX2_update_21 : decode cX2_update 21 = .ok (.invokestatic 277, 3) := dk_184 1 21 (dk_at dksX2_update_0 21 rfl rfl)
theorem dX2_update_24 : decode cX2_update 24 = .ok (.aload_n 0, 1) := dk_42 (dk_at dksX2_update_1 0 rfl rfl)
theorem dX2_update_25 : decode cX2_update 25 = .ok (.aload_n 0, 1) := dk_42 (dk_at dksX2_update_1 1 rfl rfl)
theorem dX2_update_26 : decode cX2_update 26 = .ok (.getfield 35, 3) := dk_180 0 35 (dk_at dksX2_update_1 2 rfl rfl)
theorem dX2_update_29 : decode cX2_update 29 = .ok (.getfield 280, 3) := dk_180 1 24 (dk_at dksX2_update_1 5 rfl rfl)
theorem dX2_update_32 : decode cX2_update 32 = .ok (.invokevirtual 258, 3) := dk_182 1 2 (dk_at dksX2_update_1 8 rfl rfl)
theorem dX2_update_35 : decode cX2_update 35 = .ok (.aload_n 0, 1) := dk_42 (dk_at dksX2_update_1 11 rfl rfl)
theorem dX2_update_36 : decode cX2_update 36 = .ok (.dup, 1) := dk_89 (dk_at dksX2_update_1 12 rfl rfl)
theorem dX2_update_37 : decode cX2_update 37 = .ok (.getfield 56, 3) := dk_180 0 56 (dk_at dksX2_update_1 13 rfl rfl)
theorem dX2_update_40 : decode cX2_update 40 = .ok (.iconst 1, 1) := dk_4 (dk_at dksX2_update_1 16 rfl rfl)
theorem dX2_update_41 : decode cX2_update 41 = .ok (.iadd, 1) := dk_96 (dk_at dksX2_update_1 17 rfl rfl)
theorem dX2_update_42 : decode cX2_update 42 = .ok (.putfield 56, 3) := dk_181 0 56 (dk_at dksX2_update_1 18 rfl rfl)
theorem dX2_update_45 : decode cX2_update 45 = .ok (.aload_n 0, 1) := dk_42 (dk_at dksX2_update_1 21 rfl rfl)
theorem dX2_update_46 : decode cX2_update 46 = .ok (.aload_n 0, 1) := dk_42 (dk_at dksX2_update_1 22 rfl rfl)
theorem dX2_update_47 : decode cX2_update 47 = .ok (.getfield 48, 3) := dk_180 0 48 (dk_at dksX2_update_2 0 rfl rfl)
theorem dX2_update_50 : decode cX2_update 50 = .ok (.new 151, 3) := dk_187 0 151 (dk_at dksX2_update_2 3 rfl rfl)
theorem dX2_update_53 : decode cX2_update 53 = .ok (.dup, 1) := dk_89 (dk_at dksX2_update_2 6 rfl rfl)
theorem dX2_update_54 : decode cX2_update 54 = .ok (.iload_n 1, 1) := dk_27 (dk_at dksX2_update_2 7 rfl rfl)
theorem dX2_update_55 : decode cX2_update 55 = .ok (.iload_n 2, 1) := dk_28 (dk_at dksX2_update_2 8 rfl rfl)
theorem dX2_update_56 : decode cX2_update 56 = .ok (.invokespecial 153, 3) := dk_183 0 153 (dk_at dksX2_update_2 9 rfl rfl)
theorem dX2_update_59 : decode cX2_update 59 = .ok (.invokevirtual 282, 3) := dk_182 1 26 (dk_at dksX2_update_2 12 rfl rfl)
theorem dX2_update_62 : decode cX2_update 62 = .ok (.putfield 48, 3) := dk_181 0 48 (dk_at dksX2_update_2 15 rfl rfl)
theorem dX2_update_65 : decode cX2_update 65 = .ok (.aload_n 0, 1) := dk_42 (dk_at dksX2_update_2 18 rfl rfl)
theorem dX2_update_66 : decode cX2_update 66 = .ok (.aload_n 0, 1) := dk_42 (dk_at dksX2_update_2 19 rfl rfl)
theorem dX2_update_67 : decode cX2_update 67 = .ok (.getfield 48, 3) := dk_180 0 48 (dk_at dksX2_update_2 20 rfl rfl)
theorem dX2_update_70 : decode cX2_update 70 = .ok (.invokevirtual 267, 3) := dk_182 1 11 (dk_at dksX2_update_3 0 rfl rfl)
theorem dX2_update_73 : decode cX2_update 73 = .ok (.invokevirtual 286, 3) := dk_182 1 30 (dk_at dksX2_update_3 3 rfl rfl)
theorem dX2_update_76 : decode cX2_update 76 = .ok (.astore_n 3, 1) := dk_78 (dk_at dksX2_update_3 6 rfl rfl)
theorem dX2_update_77 : decode cX2_update 77 = .ok (.aload_n 0, 1) := dk_42 (dk_at dksX2_update_3 7 rfl rfl)
theorem dX2_update_78 : decode cX2_update 78 = .ok (.aload_n 3, 1) := dk_45 (dk_at dksX2_update_3 8 rfl rfl)
theorem dX2_update_79 : decode cX2_update 79 = .ok (.invokevirtual 270, 3) := dk_182 1 14 (dk_at dksX2_update_3 9 rfl rfl)
theorem dX2_update_82 : decode cX2_update 82 = .ok (.aload_n 3, 1) := dk_45 (dk_at dksX2_update_3 12 rfl rfl)
theorem dX2_update_83 : decode cX2_update 83 = .ok (.instanceof 239, 3) := dk_193 0 239 (dk_at dksX2_update_3 13 rfl rfl)
theorem dX2_update_86 : decode cX2_update 86 = .ok (.ifCond .eq 7, 3) := dk_153 0 7 (dk_at dksX2_update_3 16 rfl rfl)
theorem dX2_update_89 : decode cX2_update 89 = .ok (.iconst 1, 1) := dk_4 (dk_at dksX2_update_3 19 rfl rfl)
theorem dX2_update_90 : decode cX2_update 90 = .ok (.goto 4, 3) := dk_167 0 4 (dk_at dksX2_update_3 20 rfl rfl)
theorem dX2_update_93 : decode cX2_update 93 = .ok (.iconst 0, 1) := dk_3 (dk_at dksX2_update_3 23 rfl rfl)
theorem dX2_update_94 : decode cX2_update 94 = .ok (.ireturn, 1) := dk_172 (dk_at dksX2_update_4 0 rfl rfl)
def dkwX2_consume_0 : List UInt8 := [42, 3, 42, 180, 0, 22, 27, 100, 184, 0, 250, 181, 0, 22, 177]
abbrev dktX2_consume_0 : List UInt8 := dkwX2_consume_0 ++ []
theorem dksX2_consume_0 : cX2_consume.data.toList.drop 0 = dktX2_consume_0 := by decide +kernel
theorem dX2_consume_0 : decode cX2_consume 0 = .ok (.aload_n 0, 1) := dk_42 (dk_at dksX2_consume_0 0 rfl rfl)
theorem dX2_consume_1 : decode cX2_consume 1 = .ok (.iconst 0, 1) := dk_3 (dk_at dksX2_consume_0 1 rfl rfl)
theorem dX2_consume_2 : decode cX2_consume 2 = .ok (.aload_n 0, 1) := dk_42 (dk_at dksX2_consume_0 2 rfl rfl)
theorem dX2_consume_3 : decode cX2_consume 3 = .ok (.getfield 22, 3) := dk_180 0 22 (dk_at dksX2_consume_0 3 rfl rfl)
theorem dX2_consume_6 : decode cX2_consume 6 = .ok (.iload_n 1, 1) := dk_27 (dk_at dksX2_consume_0 6 rfl rfl)
theorem dX2_consume_7 : decode cX2_consume 7 = .ok (.isub, 1) := dk_100 (dk_at dksX2_consume_0 7 rfl rfl)
theorem dX2_consume_8 : decode cX2_consume 8 = .ok (.invokestatic 250, 3) := dk_184 0 250 (dk_at dksX2_consume_0 8 rfl rfl)
theorem dX2_consume_11 : decode cX2_consume 11 = .ok (.putfield 22, 3) := dk_181 0 22 (dk_at dksX2_consume_0 11 rfl rfl)
theorem dX2_consume_14 : decode cX2_consume 14 = .ok (.return_, 1) := dk_177 (dk_at dksX2_consume_0 14 rfl rfl)
def dkwX2_eventAt_1 : List UInt8 := [187, 0, 239, 89, 42, 180, 0, 48, 182, 0, 241, 183, 0, 245, 167, 0, 8, 42, 43, 182, 0, 246, 176]
abbrev dktX2_eventAt_1 : List UInt8 := dkwX2_eventAt_1 ++ []
def dkwX2_eventAt_0 : List UInt8 := [42, 180, 0, 12, 42, 180, 0, 48, 182, 0, 211, 182, 0, 74, 192, 0, 78, 43, 182, 0, 235, 153, 0, 20]
abbrev dktX2_eventAt_0 : List UInt8 := dkwX2_eventAt_0 ++ dktX2_eventAt_1
theorem dksX2_eventAt_0 : cX2_eventAt.data.toList.drop 0 = dktX2_eventAt_0 := by decide +kernel
theorem dksX2_eventAt_1 : cX2_eventAt.data.toList.drop 24 = dktX2_eventAt_1 := dk_seg dksX2_eventAt_0 24 rfl rfl
theorem dX2_eventAt_0 : decode cX2_eventAt 0 = .ok (.aload_n 0, 1) := dk_42 (dk_at dksX2_eventAt_0 0 rfl rfl)
theorem dX2_eventAt_1 : decode cX2_eventAt 1 = .ok (.getfield 12, 3) := dk_180 0 12 (dk_at dksX2_eventAt_0 1 rfl rfl)
theorem dX2_eventAt_4 : decode cX2_eventAt 4 = .ok (.aload_n 0, 1) := dk_42 (dk_at dksX2_eventAt_0 4 rfl rfl)
theorem dX2_eventAt_5 : decode cX2_eventAt 5 = .ok (.getfield 48, 3) := dk_180 0 48 (dk_at dksX2_eventAt_0 5 rfl rfl)
theorem dX2_eventAt_8 : decode cX2_eventAt 8 = .ok (.invokevirtual 211, 3) := dk_182 0 211 (dk_at dksX2_eventAt_0 8 rfl rfl)
theorem dX2_eventAt_11 : decode cX2_eventAt 11 = .ok (.invokevirtual 74, 3) := dk_182 0 74 (dk_at dksX2_eventAt_0 11 rfl rfl)
theorem dX2_eventAt_14 : decode cX2_eventAt 14 = .ok (.checkcast 78, 3) := dk_192 0 78 (dk_at dksX2_eventAt_0 14 rfl rfl)
theorem dX2_eventAt_17 : decode cX2_eventAt 17 = .ok (.aload_n 1, 1) := dk_43 (dk_at dksX2_eventAt_0 17 rfl rfl)
theorem dX2_eventAt_18 : decode cX2_eventAt 18 = .ok (.invokevirtual 235, 3) := dk_182 0 235 (dk_at dksX2_eventAt_0 18 rfl rfl)
theorem dX2_eventAt_21 : decode cX2_eventAt 21 = .ok (.ifCond .eq 20, 3) := dk_153 0 20 (dk_at dksX2_eventAt_0 21 rfl rfl)
theorem dX2_eventAt_24 : decode cX2_eventAt 24 = .ok (.new 239, 3) := dk_187 0 239 (dk_at dksX2_eventAt_1 0 rfl rfl)
theorem dX2_eventAt_27 : decode cX2_eventAt 27 = .ok (.dup, 1) := dk_89 (dk_at dksX2_eventAt_1 3 rfl rfl)
theorem dX2_eventAt_28 : decode cX2_eventAt 28 = .ok (.aload_n 0, 1) := dk_42 (dk_at dksX2_eventAt_1 4 rfl rfl)
theorem dX2_eventAt_29 : decode cX2_eventAt 29 = .ok (.getfield 48, 3) := dk_180 0 48 (dk_at dksX2_eventAt_1 5 rfl rfl)
theorem dX2_eventAt_32 : decode cX2_eventAt 32 = .ok (.invokevirtual 241, 3) := dk_182 0 241 (dk_at dksX2_eventAt_1 8 rfl rfl)
theorem dX2_eventAt_35 : decode cX2_eventAt 35 = .ok (.invokespecial 245, 3) := dk_183 0 245 (dk_at dksX2_eventAt_1 11 rfl rfl)
theorem dX2_eventAt_38 : decode cX2_eventAt 38 = .ok (.goto 8, 3) := dk_167 0 8 (dk_at dksX2_eventAt_1 14 rfl rfl)
theorem dX2_eventAt_41 : decode cX2_eventAt 41 = .ok (.aload_n 0, 1) := dk_42 (dk_at dksX2_eventAt_1 17 rfl rfl)
theorem dX2_eventAt_42 : decode cX2_eventAt 42 = .ok (.aload_n 1, 1) := dk_43 (dk_at dksX2_eventAt_1 18 rfl rfl)
theorem dX2_eventAt_43 : decode cX2_eventAt 43 = .ok (.invokevirtual 246, 3) := dk_182 0 246 (dk_at dksX2_eventAt_1 19 rfl rfl)
theorem dX2_eventAt_46 : decode cX2_eventAt 46 = .ok (.areturn, 1) := dk_176 (dk_at dksX2_eventAt_1 22 rfl rfl)
def dkwX2_driftEvent_1 : List UInt8 := [154, 0, 7, 4, 167, 0, 4, 3, 183, 0, 230, 167, 0, 10, 187, 0, 232, 89, 183, 0, 234, 176]
abbrev dktX2_driftEvent_1 : List UInt8 := dkwX2_driftEvent_1 ++ []
def dkwX2_driftEvent_0 : List UInt8 := [42, 43, 182, 0, 218, 42, 180, 0, 26, 133, 182, 0, 222, 153, 0, 25, 187, 0, 228, 89, 42, 180, 0, 52]
abbrev dktX2_driftEvent_0 : List UInt8 := dkwX2_driftEvent_0 ++ dktX2_driftEvent_1
theorem dksX2_driftEvent_0 : cX2_driftEvent.data.toList.drop 0 = dktX2_driftEvent_0 := by decide +kernel
theorem dksX2_driftEvent_1 : cX2_driftEvent.data.toList.drop 24 = dktX2_driftEvent_1 := dk_seg dksX2_driftEvent_0 24 rfl rfl
theorem dX2_driftEvent_0 : decode cX2_driftEvent 0 = .ok (.aload_n 0, 1) := dk_42 (dk_at dksX2_driftEvent_0 0 rfl rfl)
theorem dX2_driftEvent_1 : decode cX2_driftEvent 1 = .ok (.aload_n 1, 1) := dk_43 (dk_at dksX2_driftEvent_0 1 rfl rfl)
theorem dX2_driftEvent_2 : decode cX2_driftEvent 2 = .ok (.invokevirtual 218, 3) := dk_182 0 218 (dk_at dksX2_driftEvent_0 2 rfl rfl)
theorem dX2_driftEvent_5 : decode cX2_driftEvent 5 = .ok (.aload_n 0, 1) := dk_42 (dk_at dksX2_driftEvent_0 5 rfl rfl)
theorem dX2_driftEvent_6 : decode cX2_driftEvent 6 = .ok (.getfield 26, 3) := dk_180 0 26 (dk_at dksX2_driftEvent_0 6 rfl rfl)
theorem dX2_driftEvent_9 : decode cX2_driftEvent 9 = .ok (.i2l, 1) := dk_133 (dk_at dksX2_driftEvent_0 9 rfl rfl)
theorem dX2_driftEvent_10 : decode cX2_driftEvent 10 = .ok (.invokevirtual 222, 3) := dk_182 0 222 (dk_at dksX2_driftEvent_0 10 rfl rfl)
theorem dX2_driftEvent_13 : decode cX2_driftEvent 13 = .ok (.ifCond .eq 25, 3) := dk_153 0 25 (dk_at dksX2_driftEvent_0 13 rfl rfl)
theorem dX2_driftEvent_16 : decode cX2_driftEvent 16 = .ok (.new 228, 3) := dk_187 0 228 (dk_at dksX2_driftEvent_0 16 rfl rfl)
theorem dX2_driftEvent_19 : decode cX2_driftEvent 19 = .ok (.dup, 1) := dk_89 (dk_at dksX2_driftEvent_0 19 rfl rfl)
theorem dX2_driftEvent_20 : decode cX2_driftEvent 20 = .ok (.aload_n 0, 1) := dk_42 (dk_at dksX2_driftEvent_0 20 rfl rfl)
theorem dX2_driftEvent_21 : decode cX2_driftEvent 21 = .ok (.getfield 52, 3) := dk_180 0 52 (dk_at dksX2_driftEvent_0 21 rfl rfl)
theorem dX2_driftEvent_24 : decode cX2_driftEvent 24 = .ok (.ifCond .ne 7, 3) := dk_154 0 7 (dk_at dksX2_driftEvent_1 0 rfl rfl)
theorem dX2_driftEvent_27 : decode cX2_driftEvent 27 = .ok (.iconst 1, 1) := dk_4 (dk_at dksX2_driftEvent_1 3 rfl rfl)
theorem dX2_driftEvent_28 : decode cX2_driftEvent 28 = .ok (.goto 4, 3) := dk_167 0 4 (dk_at dksX2_driftEvent_1 4 rfl rfl)
theorem dX2_driftEvent_31 : decode cX2_driftEvent 31 = .ok (.iconst 0, 1) := dk_3 (dk_at dksX2_driftEvent_1 7 rfl rfl)
theorem dX2_driftEvent_32 : decode cX2_driftEvent 32 = .ok (.invokespecial 230, 3) := dk_183 0 230 (dk_at dksX2_driftEvent_1 8 rfl rfl)
theorem dX2_driftEvent_35 : decode cX2_driftEvent 35 = .ok (.goto 10, 3) := dk_167 0 10 (dk_at dksX2_driftEvent_1 11 rfl rfl)
theorem dX2_driftEvent_38 : decode cX2_driftEvent 38 = .ok (.new 232, 3) := dk_187 0 232 (dk_at dksX2_driftEvent_1 14 rfl rfl)
theorem dX2_driftEvent_41 : decode cX2_driftEvent 41 = .ok (.dup, 1) := dk_89 (dk_at dksX2_driftEvent_1 17 rfl rfl)
theorem dX2_driftEvent_42 : decode cX2_driftEvent 42 = .ok (.invokespecial 234, 3) := dk_183 0 234 (dk_at dksX2_driftEvent_1 18 rfl rfl)
theorem dX2_driftEvent_45 : decode cX2_driftEvent 45 = .ok (.areturn, 1) := dk_176 (dk_at dksX2_driftEvent_1 21 rfl rfl)
def dkwX2_driftOf_1 : List UInt8 := [180, 0, 48, 182, 0, 211, 182, 0, 191, 184, 0, 214, 176]
abbrev dktX2_driftOf_1 : List UInt8 := dkwX2_driftOf_1 ++ []
def dkwX2_driftOf_0 : List UInt8 := [43, 42, 42, 180, 0, 48, 182, 0, 201, 42, 180, 0, 48, 182, 0, 205, 4, 100, 46, 182, 0, 191, 42, 42]
abbrev dktX2_driftOf_0 : List UInt8 := dkwX2_driftOf_0 ++ dktX2_driftOf_1
theorem dksX2_driftOf_0 : cX2_driftOf.data.toList.drop 0 = dktX2_driftOf_0 := by decide +kernel
theorem dksX2_driftOf_1 : cX2_driftOf.data.toList.drop 24 = dktX2_driftOf_1 := dk_seg dksX2_driftOf_0 24 rfl rfl
theorem dX2_driftOf_0 : decode cX2_driftOf 0 = .ok (.aload_n 1, 1) := dk_43 (dk_at dksX2_driftOf_0 0 rfl rfl)
theorem dX2_driftOf_1 : decode cX2_driftOf 1 = .ok (.aload_n 0, 1) := dk_42 (dk_at dksX2_driftOf_0 1 rfl rfl)
theorem dX2_driftOf_2 : decode cX2_driftOf 2 = .ok (.aload_n 0, 1) := dk_42 (dk_at dksX2_driftOf_0 2 rfl rfl)
theorem dX2_driftOf_3 : decode cX2_driftOf 3 = .ok (.getfield 48, 3) := dk_180 0 48 (dk_at dksX2_driftOf_0 3 rfl rfl)
theorem dX2_driftOf_6 : decode cX2_driftOf 6 = .ok (.invokevirtual 201, 3) := dk_182 0 201 (dk_at dksX2_driftOf_0 6 rfl rfl)
theorem dX2_driftOf_9 : decode cX2_driftOf 9 = .ok (.aload_n 0, 1) := dk_42 (dk_at dksX2_driftOf_0 9 rfl rfl)
theorem dX2_driftOf_10 : decode cX2_driftOf 10 = .ok (.getfield 48, 3) := dk_180 0 48 (dk_at dksX2_driftOf_0 10 rfl rfl)
theorem dX2_driftOf_13 : decode cX2_driftOf 13 = .ok (.invokevirtual 205, 3) := dk_182 0 205 (dk_at dksX2_driftOf_0 13 rfl rfl)
theorem dX2_driftOf_16 : decode cX2_driftOf 16 = .ok (.iconst 1, 1) := dk_4 (dk_at dksX2_driftOf_0 16 rfl rfl)
theorem dX2_driftOf_17 : decode cX2_driftOf 17 = .ok (.isub, 1) := dk_100 (dk_at dksX2_driftOf_0 17 rfl rfl)
theorem dX2_driftOf_18 : decode cX2_driftOf 18 = .ok (.iaload, 1) := dk_46 (dk_at dksX2_driftOf_0 18 rfl rfl)
theorem dX2_driftOf_19 : decode cX2_driftOf 19 = .ok (.invokevirtual 191, 3) := dk_182 0 191 (dk_at dksX2_driftOf_0 19 rfl rfl)
theorem dX2_driftOf_22 : decode cX2_driftOf 22 = .ok (.aload_n 0, 1) := dk_42 (dk_at dksX2_driftOf_0 22 rfl rfl)
theorem dX2_driftOf_23 : decode cX2_driftOf 23 = .ok (.aload_n 0, 1) := dk_42 (dk_at dksX2_driftOf_0 23 rfl rfl)
theorem dX2_driftOf_24 : decode cX2_driftOf 24 = .ok (.getfield 48, 3) := dk_180 0 48 (dk_at dksX2_driftOf_1 0 rfl rfl)
theorem dX2_driftOf_27 : decode cX2_driftOf 27 = .ok (.invokevirtual 211, 3) := dk_182 0 211 (dk_at dksX2_driftOf_1 3 rfl rfl)
theorem dX2_driftOf_30 : decode cX2_driftOf 30 = .ok (.invokevirtual 191, 3) := dk_182 0 191 (dk_at dksX2_driftOf_1 6 rfl rfl)
theorem dX2_driftOf_33 : decode cX2_driftOf 33 = .ok (.invokestatic 214, 3) := dk_184 0 214 (dk_at dksX2_driftOf_1 9 rfl rfl)
theorem dX2_driftOf_36 : decode cX2_driftOf 36 = .ok (.areturn, 1) := dk_176 (dk_at dksX2_driftOf_1 12 rfl rfl)
def dkwX2_happen_5 : List UInt8 := [181, 0, 52, 177]
abbrev dktX2_happen_5 : List UInt8 := dkwX2_happen_5 ++ []
def dkwX2_happen_4 : List UInt8 := [153, 0, 7, 4, 167, 0, 4, 3, 96, 181, 0, 59, 42, 4, 181, 0, 52, 167, 0, 8, 42, 3]
abbrev dktX2_happen_4 : List UInt8 := dkwX2_happen_4 ++ dktX2_happen_5
def dkwX2_happen_3 : List UInt8 := [167, 0, 49, 43, 193, 0, 228, 153, 0, 37, 43, 192, 0, 228, 78, 42, 89, 180, 0, 59, 45, 182, 1, 18]
abbrev dktX2_happen_3 : List UInt8 := dkwX2_happen_3 ++ dktX2_happen_4
def dkwX2_happen_2 : List UInt8 := [180, 0, 48, 182, 1, 7, 181, 0, 48, 42, 42, 42, 180, 0, 48, 182, 1, 11, 182, 0, 246, 182, 1, 14]
abbrev dktX2_happen_2 : List UInt8 := dkwX2_happen_2 ++ dktX2_happen_3
def dkwX2_happen_1 : List UInt8 := [180, 0, 62, 4, 96, 181, 0, 62, 44, 182, 1, 6, 153, 0, 10, 42, 182, 0, 208, 167, 0, 78, 42, 42]
abbrev dktX2_happen_1 : List UInt8 := dkwX2_happen_1 ++ dktX2_happen_2
def dkwX2_happen_0 : List UInt8 := [42, 43, 185, 0, 253, 1, 0, 182, 1, 2, 43, 193, 0, 239, 153, 0, 61, 43, 192, 0, 239, 77, 42, 89]
abbrev dktX2_happen_0 : List UInt8 := dkwX2_happen_0 ++ dktX2_happen_1
theorem dksX2_happen_0 : cX2_happen.data.toList.drop 0 = dktX2_happen_0 := by decide +kernel
theorem dksX2_happen_1 : cX2_happen.data.toList.drop 24 = dktX2_happen_1 := dk_seg dksX2_happen_0 24 rfl rfl
theorem dksX2_happen_2 : cX2_happen.data.toList.drop 48 = dktX2_happen_2 := dk_seg dksX2_happen_1 24 rfl rfl
theorem dksX2_happen_3 : cX2_happen.data.toList.drop 72 = dktX2_happen_3 := dk_seg dksX2_happen_2 24 rfl rfl
theorem dksX2_happen_4 : cX2_happen.data.toList.drop 96 = dktX2_happen_4 := dk_seg dksX2_happen_3 24 rfl rfl
theorem dksX2_happen_5 : cX2_happen.data.toList.drop 118 = dktX2_happen_5 := dk_seg dksX2_happen_4 22 rfl rfl
theorem dX2_happen_0 : decode cX2_happen 0 = .ok (.aload_n 0, 1) := dk_42 (dk_at dksX2_happen_0 0 rfl rfl)
theorem dX2_happen_1 : decode cX2_happen 1 = .ok (.aload_n 1, 1) := dk_43 (dk_at dksX2_happen_0 1 rfl rfl)
theorem dX2_happen_2 : decode cX2_happen 2 = .ok (.invokeinterface 253 1, 5) := by decide +kernel
theorem dX2_happen_7 : decode cX2_happen 7 = .ok (.invokevirtual 258, 3) := dk_182 1 2 (dk_at dksX2_happen_0 7 rfl rfl)
theorem dX2_happen_10 : decode cX2_happen 10 = .ok (.aload_n 1, 1) := dk_43 (dk_at dksX2_happen_0 10 rfl rfl)
theorem dX2_happen_11 : decode cX2_happen 11 = .ok (.instanceof 239, 3) := dk_193 0 239 (dk_at dksX2_happen_0 11 rfl rfl)
theorem dX2_happen_14 : decode cX2_happen 14 = .ok (.ifCond .eq 61, 3) := dk_153 0 61 (dk_at dksX2_happen_0 14 rfl rfl)
theorem dX2_happen_17 : decode cX2_happen 17 = .ok (.aload_n 1, 1) := dk_43 (dk_at dksX2_happen_0 17 rfl rfl)
theorem dX2_happen_18 : decode cX2_happen 18 = .ok (.checkcast 239, 3) := dk_192 0 239 (dk_at dksX2_happen_0 18 rfl rfl)
theorem dX2_happen_21 : decode cX2_happen 21 = .ok (.astore_n 2, 1) := dk_77 (dk_at dksX2_happen_0 21 rfl rfl)
theorem dX2_happen_22 : decode cX2_happen 22 = .ok (.aload_n 0, 1) := dk_42 (dk_at dksX2_happen_0 22 rfl rfl)
theorem dX2_happen_23 : decode cX2_happen 23 = .ok (.dup, 1) := dk_89 (dk_at dksX2_happen_0 23 rfl rfl)
theorem dX2_happen_24 : decode cX2_happen 24 = .ok (.getfield 62, 3) := dk_180 0 62 (dk_at dksX2_happen_1 0 rfl rfl)
theorem dX2_happen_27 : decode cX2_happen 27 = .ok (.iconst 1, 1) := dk_4 (dk_at dksX2_happen_1 3 rfl rfl)
theorem dX2_happen_28 : decode cX2_happen 28 = .ok (.iadd, 1) := dk_96 (dk_at dksX2_happen_1 4 rfl rfl)
theorem dX2_happen_29 : decode cX2_happen 29 = .ok (.putfield 62, 3) := dk_181 0 62 (dk_at dksX2_happen_1 5 rfl rfl)
theorem dX2_happen_32 : decode cX2_happen 32 = .ok (.aload_n 2, 1) := dk_44 (dk_at dksX2_happen_1 8 rfl rfl)
theorem dX2_happen_33 : decode cX2_happen 33 = .ok (.invokevirtual 262, 3) := dk_182 1 6 (dk_at dksX2_happen_1 9 rfl rfl)
theorem dX2_happen_36 : decode cX2_happen 36 = .ok (.ifCond .eq 10, 3) := dk_153 0 10 (dk_at dksX2_happen_1 12 rfl rfl)
theorem dX2_happen_39 : decode cX2_happen 39 = .ok (.aload_n 0, 1) := dk_42 (dk_at dksX2_happen_1 15 rfl rfl)
theorem dX2_happen_40 : decode cX2_happen 40 = .ok (.invokevirtual 208, 3) := dk_182 0 208 (dk_at dksX2_happen_1 16 rfl rfl)
theorem dX2_happen_43 : decode cX2_happen 43 = .ok (.goto 78, 3) := dk_167 0 78 (dk_at dksX2_happen_1 19 rfl rfl)
theorem dX2_happen_46 : decode cX2_happen 46 = .ok (.aload_n 0, 1) := dk_42 (dk_at dksX2_happen_1 22 rfl rfl)
theorem dX2_happen_47 : decode cX2_happen 47 = .ok (.aload_n 0, 1) := dk_42 (dk_at dksX2_happen_1 23 rfl rfl)
theorem dX2_happen_48 : decode cX2_happen 48 = .ok (.getfield 48, 3) := dk_180 0 48 (dk_at dksX2_happen_2 0 rfl rfl)
theorem dX2_happen_51 : decode cX2_happen 51 = .ok (.invokevirtual 263, 3) := dk_182 1 7 (dk_at dksX2_happen_2 3 rfl rfl)
theorem dX2_happen_54 : decode cX2_happen 54 = .ok (.putfield 48, 3) := dk_181 0 48 (dk_at dksX2_happen_2 6 rfl rfl)
theorem dX2_happen_57 : decode cX2_happen 57 = .ok (.aload_n 0, 1) := dk_42 (dk_at dksX2_happen_2 9 rfl rfl)
theorem dX2_happen_58 : decode cX2_happen 58 = .ok (.aload_n 0, 1) := dk_42 (dk_at dksX2_happen_2 10 rfl rfl)
theorem dX2_happen_59 : decode cX2_happen 59 = .ok (.aload_n 0, 1) := dk_42 (dk_at dksX2_happen_2 11 rfl rfl)
theorem dX2_happen_60 : decode cX2_happen 60 = .ok (.getfield 48, 3) := dk_180 0 48 (dk_at dksX2_happen_2 12 rfl rfl)
theorem dX2_happen_63 : decode cX2_happen 63 = .ok (.invokevirtual 267, 3) := dk_182 1 11 (dk_at dksX2_happen_2 15 rfl rfl)
theorem dX2_happen_66 : decode cX2_happen 66 = .ok (.invokevirtual 246, 3) := dk_182 0 246 (dk_at dksX2_happen_2 18 rfl rfl)
theorem dX2_happen_69 : decode cX2_happen 69 = .ok (.invokevirtual 270, 3) := dk_182 1 14 (dk_at dksX2_happen_2 21 rfl rfl)
theorem dX2_happen_72 : decode cX2_happen 72 = .ok (.goto 49, 3) := dk_167 0 49 (dk_at dksX2_happen_3 0 rfl rfl)
theorem dX2_happen_75 : decode cX2_happen 75 = .ok (.aload_n 1, 1) := dk_43 (dk_at dksX2_happen_3 3 rfl rfl)
theorem dX2_happen_76 : decode cX2_happen 76 = .ok (.instanceof 228, 3) := dk_193 0 228 (dk_at dksX2_happen_3 4 rfl rfl)
theorem dX2_happen_79 : decode cX2_happen 79 = .ok (.ifCond .eq 37, 3) := dk_153 0 37 (dk_at dksX2_happen_3 7 rfl rfl)
theorem dX2_happen_82 : decode cX2_happen 82 = .ok (.aload_n 1, 1) := dk_43 (dk_at dksX2_happen_3 10 rfl rfl)
theorem dX2_happen_83 : decode cX2_happen 83 = .ok (.checkcast 228, 3) := dk_192 0 228 (dk_at dksX2_happen_3 11 rfl rfl)
theorem dX2_happen_86 : decode cX2_happen 86 = .ok (.astore_n 3, 1) := dk_78 (dk_at dksX2_happen_3 14 rfl rfl)
theorem dX2_happen_87 : decode cX2_happen 87 = .ok (.aload_n 0, 1) := dk_42 (dk_at dksX2_happen_3 15 rfl rfl)
theorem dX2_happen_88 : decode cX2_happen 88 = .ok (.dup, 1) := dk_89 (dk_at dksX2_happen_3 16 rfl rfl)
theorem dX2_happen_89 : decode cX2_happen 89 = .ok (.getfield 59, 3) := dk_180 0 59 (dk_at dksX2_happen_3 17 rfl rfl)
theorem dX2_happen_92 : decode cX2_happen 92 = .ok (.aload_n 3, 1) := dk_45 (dk_at dksX2_happen_3 20 rfl rfl)
theorem dX2_happen_93 : decode cX2_happen 93 = .ok (.invokevirtual 274, 3) := dk_182 1 18 (dk_at dksX2_happen_3 21 rfl rfl)
theorem dX2_happen_96 : decode cX2_happen 96 = .ok (.ifCond .eq 7, 3) := dk_153 0 7 (dk_at dksX2_happen_4 0 rfl rfl)
theorem dX2_happen_99 : decode cX2_happen 99 = .ok (.iconst 1, 1) := dk_4 (dk_at dksX2_happen_4 3 rfl rfl)
theorem dX2_happen_100 : decode cX2_happen 100 = .ok (.goto 4, 3) := dk_167 0 4 (dk_at dksX2_happen_4 4 rfl rfl)
theorem dX2_happen_103 : decode cX2_happen 103 = .ok (.iconst 0, 1) := dk_3 (dk_at dksX2_happen_4 7 rfl rfl)
theorem dX2_happen_104 : decode cX2_happen 104 = .ok (.iadd, 1) := dk_96 (dk_at dksX2_happen_4 8 rfl rfl)
theorem dX2_happen_105 : decode cX2_happen 105 = .ok (.putfield 59, 3) := dk_181 0 59 (dk_at dksX2_happen_4 9 rfl rfl)
theorem dX2_happen_108 : decode cX2_happen 108 = .ok (.aload_n 0, 1) := dk_42 (dk_at dksX2_happen_4 12 rfl rfl)
theorem dX2_happen_109 : decode cX2_happen 109 = .ok (.iconst 1, 1) := dk_4 (dk_at dksX2_happen_4 13 rfl rfl)
theorem dX2_happen_110 : decode cX2_happen 110 = .ok (.putfield 52, 3) := dk_181 0 52 (dk_at dksX2_happen_4 14 rfl rfl)
theorem dX2_happen_113 : decode cX2_happen 113 = .ok (.goto 8, 3) := dk_167 0 8 (dk_at dksX2_happen_4 17 rfl rfl)
theorem dX2_happen_116 : decode cX2_happen 116 = .ok (.aload_n 0, 1) := dk_42 (dk_at dksX2_happen_4 20 rfl rfl)
theorem dX2_happen_117 : decode cX2_happen 117 = .ok (.iconst 0, 1) := dk_3 (dk_at dksX2_happen_4 21 rfl rfl)
theorem dX2_happen_118 : decode cX2_happen 118 = .ok (.putfield 52, 3) := dk_181 0 52 (dk_at dksX2_happen_5 0 rfl rfl)
theorem dX2_happen_121 : decode cX2_happen 121 = .ok (.return_, 1) := dk_177 (dk_at dksX2_happen_5 3 rfl rfl)
def dkwX2_setTolerance_0 : List UInt8 := [27, 4, 16, 30, 184, 0, 140, 184, 0, 144, 42, 180, 0, 26, 61, 42, 27, 181, 0, 26, 28, 172]
abbrev dktX2_setTolerance_0 : List UInt8 := dkwX2_setTolerance_0 ++ []
theorem dksX2_setTolerance_0 : cX2_setTolerance.data.toList.drop 0 = dktX2_setTolerance_0 := by decide +kernel
theorem dX2_setTolerance_0 : decode cX2_setTolerance 0 = .ok (.iload_n 1, 1) := dk_27 (dk_at dksX2_setTolerance_0 0 rfl rfl)
theorem dX2_setTolerance_1 : decode cX2_setTolerance 1 = .ok (.iconst 1, 1) := dk_4 (dk_at dksX2_setTolerance_0 1 rfl rfl)
theorem dX2_setTolerance_2 : decode cX2_setTolerance 2 = .ok (.bipush 30, 2) := dk_16 30 (dk_at dksX2_setTolerance_0 2 rfl rfl)
theorem dX2_setTolerance_4 : decode cX2_setTolerance 4 = .ok (.invokestatic 140, 3) := dk_184 0 140 (dk_at dksX2_setTolerance_0 4 rfl rfl)
theorem dX2_setTolerance_7 : decode cX2_setTolerance 7 = .ok (.invokestatic 144, 3) := dk_184 0 144 (dk_at dksX2_setTolerance_0 7 rfl rfl)
theorem dX2_setTolerance_10 : decode cX2_setTolerance 10 = .ok (.aload_n 0, 1) := dk_42 (dk_at dksX2_setTolerance_0 10 rfl rfl)
theorem dX2_setTolerance_11 : decode cX2_setTolerance 11 = .ok (.getfield 26, 3) := dk_180 0 26 (dk_at dksX2_setTolerance_0 11 rfl rfl)
theorem dX2_setTolerance_14 : decode cX2_setTolerance 14 = .ok (.istore_n 2, 1) := dk_61 (dk_at dksX2_setTolerance_0 14 rfl rfl)
theorem dX2_setTolerance_15 : decode cX2_setTolerance 15 = .ok (.aload_n 0, 1) := dk_42 (dk_at dksX2_setTolerance_0 15 rfl rfl)
theorem dX2_setTolerance_16 : decode cX2_setTolerance 16 = .ok (.iload_n 1, 1) := dk_27 (dk_at dksX2_setTolerance_0 16 rfl rfl)
theorem dX2_setTolerance_17 : decode cX2_setTolerance 17 = .ok (.putfield 26, 3) := dk_181 0 26 (dk_at dksX2_setTolerance_0 17 rfl rfl)
theorem dX2_setTolerance_20 : decode cX2_setTolerance 20 = .ok (.iload_n 2, 1) := dk_28 (dk_at dksX2_setTolerance_0 20 rfl rfl)
theorem dX2_setTolerance_21 : decode cX2_setTolerance 21 = .ok (.ireturn, 1) := dk_172 (dk_at dksX2_setTolerance_0 21 rfl rfl)
def dkwX2_setMode_0 : List UInt8 := [27, 184, 1, 43, 77, 42, 180, 0, 35, 182, 1, 47, 62, 42, 44, 181, 0, 35, 29, 172]
abbrev dktX2_setMode_0 : List UInt8 := dkwX2_setMode_0 ++ []
theorem dksX2_setMode_0 : cX2_setMode.data.toList.drop 0 = dktX2_setMode_0 := by decide +kernel
theorem dX2_setMode_0 : decode cX2_setMode 0 = .ok (.iload_n 1, 1) := dk_27 (dk_at dksX2_setMode_0 0 rfl rfl)
theorem dX2_setMode_1 : decode cX2_setMode 1 = .ok (.invokestatic 299, 3) := dk_184 1 43 (dk_at dksX2_setMode_0 1 rfl rfl)
theorem dX2_setMode_4 : decode cX2_setMode 4 = .ok (.astore_n 2, 1) := dk_77 (dk_at dksX2_setMode_0 4 rfl rfl)
theorem dX2_setMode_5 : decode cX2_setMode 5 = .ok (.aload_n 0, 1) := dk_42 (dk_at dksX2_setMode_0 5 rfl rfl)
theorem dX2_setMode_6 : decode cX2_setMode 6 = .ok (.getfield 35, 3) := dk_180 0 35 (dk_at dksX2_setMode_0 6 rfl rfl)
theorem dX2_setMode_9 : decode cX2_setMode 9 = .ok (.invokevirtual 303, 3) := dk_182 1 47 (dk_at dksX2_setMode_0 9 rfl rfl)
theorem dX2_setMode_12 : decode cX2_setMode 12 = .ok (.istore_n 3, 1) := dk_62 (dk_at dksX2_setMode_0 12 rfl rfl)
theorem dX2_setMode_13 : decode cX2_setMode 13 = .ok (.aload_n 0, 1) := dk_42 (dk_at dksX2_setMode_0 13 rfl rfl)
theorem dX2_setMode_14 : decode cX2_setMode 14 = .ok (.aload_n 2, 1) := dk_44 (dk_at dksX2_setMode_0 14 rfl rfl)
theorem dX2_setMode_15 : decode cX2_setMode 15 = .ok (.putfield 35, 3) := dk_181 0 35 (dk_at dksX2_setMode_0 15 rfl rfl)
theorem dX2_setMode_18 : decode cX2_setMode 18 = .ok (.iload_n 3, 1) := dk_29 (dk_at dksX2_setMode_0 18 rfl rfl)
theorem dX2_setMode_19 : decode cX2_setMode 19 = .ok (.ireturn, 1) := dk_172 (dk_at dksX2_setMode_0 19 rfl rfl)
def dkwX2_charge_1 : List UInt8 := [181, 0, 22, 42, 180, 0, 22, 172]
abbrev dktX2_charge_1 : List UInt8 := dkwX2_charge_1 ++ []
def dkwX2_charge_0 : List UInt8 := [27, 4, 17, 3, 231, 184, 0, 140, 184, 0, 144, 42, 17, 3, 232, 42, 180, 0, 22, 27, 96, 184, 0, 95]
abbrev dktX2_charge_0 : List UInt8 := dkwX2_charge_0 ++ dktX2_charge_1
theorem dksX2_charge_0 : cX2_charge.data.toList.drop 0 = dktX2_charge_0 := by decide +kernel
theorem dksX2_charge_1 : cX2_charge.data.toList.drop 24 = dktX2_charge_1 := dk_seg dksX2_charge_0 24 rfl rfl
theorem dX2_charge_0 : decode cX2_charge 0 = .ok (.iload_n 1, 1) := dk_27 (dk_at dksX2_charge_0 0 rfl rfl)
theorem dX2_charge_1 : decode cX2_charge 1 = .ok (.iconst 1, 1) := dk_4 (dk_at dksX2_charge_0 1 rfl rfl)
theorem dX2_charge_2 : decode cX2_charge 2 = .ok (.sipush 999, 3) := dk_17 3 231 (dk_at dksX2_charge_0 2 rfl rfl)
theorem dX2_charge_5 : decode cX2_charge 5 = .ok (.invokestatic 140, 3) := dk_184 0 140 (dk_at dksX2_charge_0 5 rfl rfl)
theorem dX2_charge_8 : decode cX2_charge 8 = .ok (.invokestatic 144, 3) := dk_184 0 144 (dk_at dksX2_charge_0 8 rfl rfl)
theorem dX2_charge_11 : decode cX2_charge 11 = .ok (.aload_n 0, 1) := dk_42 (dk_at dksX2_charge_0 11 rfl rfl)
theorem dX2_charge_12 : decode cX2_charge 12 = .ok (.sipush 1000, 3) := dk_17 3 232 (dk_at dksX2_charge_0 12 rfl rfl)
theorem dX2_charge_15 : decode cX2_charge 15 = .ok (.aload_n 0, 1) := dk_42 (dk_at dksX2_charge_0 15 rfl rfl)
theorem dX2_charge_16 : decode cX2_charge 16 = .ok (.getfield 22, 3) := dk_180 0 22 (dk_at dksX2_charge_0 16 rfl rfl)
theorem dX2_charge_19 : decode cX2_charge 19 = .ok (.iload_n 1, 1) := dk_27 (dk_at dksX2_charge_0 19 rfl rfl)
theorem dX2_charge_20 : decode cX2_charge 20 = .ok (.iadd, 1) := dk_96 (dk_at dksX2_charge_0 20 rfl rfl)
theorem dX2_charge_21 : decode cX2_charge 21 = .ok (.invokestatic 95, 3) := dk_184 0 95 (dk_at dksX2_charge_0 21 rfl rfl)
theorem dX2_charge_24 : decode cX2_charge 24 = .ok (.putfield 22, 3) := dk_181 0 22 (dk_at dksX2_charge_1 0 rfl rfl)
theorem dX2_charge_27 : decode cX2_charge 27 = .ok (.aload_n 0, 1) := dk_42 (dk_at dksX2_charge_1 3 rfl rfl)
theorem dX2_charge_28 : decode cX2_charge 28 = .ok (.getfield 22, 3) := dk_180 0 22 (dk_at dksX2_charge_1 4 rfl rfl)
theorem dX2_charge_31 : decode cX2_charge 31 = .ok (.ireturn, 1) := dk_172 (dk_at dksX2_charge_1 7 rfl rfl)
def dkwX2_waypoint_0 : List UInt8 := [27, 42, 182, 0, 69, 184, 0, 70, 42, 180, 0, 12, 27, 182, 0, 74, 192, 0, 78, 176]
abbrev dktX2_waypoint_0 : List UInt8 := dkwX2_waypoint_0 ++ []
theorem dksX2_waypoint_0 : cX2_waypoint.data.toList.drop 0 = dktX2_waypoint_0 := by decide +kernel
theorem dX2_waypoint_0 : decode cX2_waypoint 0 = .ok (.iload_n 1, 1) := dk_27 (dk_at dksX2_waypoint_0 0 rfl rfl)
theorem dX2_waypoint_1 : decode cX2_waypoint 1 = .ok (.aload_n 0, 1) := dk_42 (dk_at dksX2_waypoint_0 1 rfl rfl)
theorem dX2_waypoint_2 : decode cX2_waypoint 2 = .ok (.invokevirtual 69, 3) := dk_182 0 69 (dk_at dksX2_waypoint_0 2 rfl rfl)
theorem dX2_waypoint_5 : decode cX2_waypoint 5 = .ok (.invokestatic 70, 3) := dk_184 0 70 (dk_at dksX2_waypoint_0 5 rfl rfl)
theorem dX2_waypoint_8 : decode cX2_waypoint 8 = .ok (.aload_n 0, 1) := dk_42 (dk_at dksX2_waypoint_0 8 rfl rfl)
theorem dX2_waypoint_9 : decode cX2_waypoint 9 = .ok (.getfield 12, 3) := dk_180 0 12 (dk_at dksX2_waypoint_0 9 rfl rfl)
theorem dX2_waypoint_12 : decode cX2_waypoint 12 = .ok (.iload_n 1, 1) := dk_27 (dk_at dksX2_waypoint_0 12 rfl rfl)
theorem dX2_waypoint_13 : decode cX2_waypoint 13 = .ok (.invokevirtual 74, 3) := dk_182 0 74 (dk_at dksX2_waypoint_0 13 rfl rfl)
theorem dX2_waypoint_16 : decode cX2_waypoint 16 = .ok (.checkcast 78, 3) := dk_192 0 78 (dk_at dksX2_waypoint_0 16 rfl rfl)
theorem dX2_waypoint_19 : decode cX2_waypoint 19 = .ok (.areturn, 1) := dk_176 (dk_at dksX2_waypoint_0 19 rfl rfl)
def dkwX2_sumLengths_1 : List UInt8 := [54, 5, 27, 21, 5, 96, 60, 132, 4, 1, 167, 255, 236, 27, 5, 108, 172]
abbrev dktX2_sumLengths_1 : List UInt8 := dkwX2_sumLengths_1 ++ []
def dkwX2_sumLengths_0 : List UInt8 := [3, 60, 42, 180, 0, 18, 77, 44, 190, 62, 3, 54, 4, 21, 4, 29, 162, 0, 20, 44, 21, 4, 46]
abbrev dktX2_sumLengths_0 : List UInt8 := dkwX2_sumLengths_0 ++ dktX2_sumLengths_1
theorem dksX2_sumLengths_0 : cX2_sumLengths.data.toList.drop 0 = dktX2_sumLengths_0 := by decide +kernel
theorem dksX2_sumLengths_1 : cX2_sumLengths.data.toList.drop 23 = dktX2_sumLengths_1 := dk_seg dksX2_sumLengths_0 23 rfl rfl
theorem dX2_sumLengths_0 : decode cX2_sumLengths 0 = .ok (.iconst 0, 1) := dk_3 (dk_at dksX2_sumLengths_0 0 rfl rfl)
theorem dX2_sumLengths_1 : decode cX2_sumLengths 1 = .ok (.istore_n 1, 1) := dk_60 (dk_at dksX2_sumLengths_0 1 rfl rfl)
theorem dX2_sumLengths_2 : decode cX2_sumLengths 2 = .ok (.aload_n 0, 1) := dk_42 (dk_at dksX2_sumLengths_0 2 rfl rfl)
theorem dX2_sumLengths_3 : decode cX2_sumLengths 3 = .ok (.getfield 18, 3) := dk_180 0 18 (dk_at dksX2_sumLengths_0 3 rfl rfl)
theorem dX2_sumLengths_6 : decode cX2_sumLengths 6 = .ok (.astore_n 2, 1) := dk_77 (dk_at dksX2_sumLengths_0 6 rfl rfl)
theorem dX2_sumLengths_7 : decode cX2_sumLengths 7 = .ok (.aload_n 2, 1) := dk_44 (dk_at dksX2_sumLengths_0 7 rfl rfl)
theorem dX2_sumLengths_8 : decode cX2_sumLengths 8 = .ok (.arraylength, 1) := dk_190 (dk_at dksX2_sumLengths_0 8 rfl rfl)
theorem dX2_sumLengths_9 : decode cX2_sumLengths 9 = .ok (.istore_n 3, 1) := dk_62 (dk_at dksX2_sumLengths_0 9 rfl rfl)
theorem dX2_sumLengths_10 : decode cX2_sumLengths 10 = .ok (.iconst 0, 1) := dk_3 (dk_at dksX2_sumLengths_0 10 rfl rfl)
theorem dX2_sumLengths_11 : decode cX2_sumLengths 11 = .ok (.istore 4, 2) := dk_54 4 (dk_at dksX2_sumLengths_0 11 rfl rfl)
theorem dX2_sumLengths_13 : decode cX2_sumLengths 13 = .ok (.iload 4, 2) := dk_21 4 (dk_at dksX2_sumLengths_0 13 rfl rfl)
theorem dX2_sumLengths_15 : decode cX2_sumLengths 15 = .ok (.iload_n 3, 1) := dk_29 (dk_at dksX2_sumLengths_0 15 rfl rfl)
theorem dX2_sumLengths_16 : decode cX2_sumLengths 16 = .ok (.if_icmp .ge 20, 3) := dk_162 0 20 (dk_at dksX2_sumLengths_0 16 rfl rfl)
theorem dX2_sumLengths_19 : decode cX2_sumLengths 19 = .ok (.aload_n 2, 1) := dk_44 (dk_at dksX2_sumLengths_0 19 rfl rfl)
theorem dX2_sumLengths_20 : decode cX2_sumLengths 20 = .ok (.iload 4, 2) := dk_21 4 (dk_at dksX2_sumLengths_0 20 rfl rfl)
theorem dX2_sumLengths_22 : decode cX2_sumLengths 22 = .ok (.iaload, 1) := dk_46 (dk_at dksX2_sumLengths_0 22 rfl rfl)
theorem dX2_sumLengths_23 : decode cX2_sumLengths 23 = .ok (.istore 5, 2) := dk_54 5 (dk_at dksX2_sumLengths_1 0 rfl rfl)
theorem dX2_sumLengths_25 : decode cX2_sumLengths 25 = .ok (.iload_n 1, 1) := dk_27 (dk_at dksX2_sumLengths_1 2 rfl rfl)
theorem dX2_sumLengths_26 : decode cX2_sumLengths 26 = .ok (.iload 5, 2) := dk_21 5 (dk_at dksX2_sumLengths_1 3 rfl rfl)
theorem dX2_sumLengths_28 : decode cX2_sumLengths 28 = .ok (.iadd, 1) := dk_96 (dk_at dksX2_sumLengths_1 5 rfl rfl)
theorem dX2_sumLengths_29 : decode cX2_sumLengths 29 = .ok (.istore_n 1, 1) := dk_60 (dk_at dksX2_sumLengths_1 6 rfl rfl)
theorem dX2_sumLengths_30 : decode cX2_sumLengths 30 = .ok (.iinc 4 1, 3) := dk_132 4 1 (dk_at dksX2_sumLengths_1 7 rfl rfl)
theorem dX2_sumLengths_33 : decode cX2_sumLengths 33 = .ok (.goto (-20), 3) := dk_167 255 236 (dk_at dksX2_sumLengths_1 10 rfl rfl)
theorem dX2_sumLengths_36 : decode cX2_sumLengths 36 = .ok (.iload_n 1, 1) := dk_27 (dk_at dksX2_sumLengths_1 13 rfl rfl)
theorem dX2_sumLengths_37 : decode cX2_sumLengths 37 = .ok (.iconst 2, 1) := dk_5 (dk_at dksX2_sumLengths_1 14 rfl rfl)
theorem dX2_sumLengths_38 : decode cX2_sumLengths 38 = .ok (.idiv, 1) := dk_108 (dk_at dksX2_sumLengths_1 15 rfl rfl)
theorem dX2_sumLengths_39 : decode cX2_sumLengths 39 = .ok (.ireturn, 1) := dk_172 (dk_at dksX2_sumLengths_1 16 rfl rfl)
def dkwX3_of_1 : List UInt8 := [178, 0, 7, 167, 0, 6, 178, 0, 10, 176]
abbrev dktX3_of_1 : List UInt8 := dkwX3_of_1 ++ []
def dkwX3_of_0 : List UInt8 := [26, 3, 5, 184, 0, 40, 184, 0, 46, 26, 154, 0, 9, 178, 0, 3, 167, 0, 17, 26, 4, 160, 0, 9]
abbrev dktX3_of_0 : List UInt8 := dkwX3_of_0 ++ dktX3_of_1
theorem dksX3_of_0 : cX3_of.data.toList.drop 0 = dktX3_of_0 := by decide +kernel
theorem dksX3_of_1 : cX3_of.data.toList.drop 24 = dktX3_of_1 := dk_seg dksX3_of_0 24 rfl rfl
theorem dX3_of_0 : decode cX3_of 0 = .ok (.iload_n 0, 1) := dk_26 (dk_at dksX3_of_0 0 rfl rfl)
theorem dX3_of_1 : decode cX3_of 1 = .ok (.iconst 0, 1) := dk_3 (dk_at dksX3_of_0 1 rfl rfl)
theorem dX3_of_2 : decode cX3_of 2 = .ok (.iconst 2, 1) := dk_5 (dk_at dksX3_of_0 2 rfl rfl)
theorem dX3_of_3 : decode cX3_of 3 = .ok (.invokestatic 40, 3) := dk_184 0 40 (dk_at dksX3_of_0 3 rfl rfl)
theorem dX3_of_6 : decode cX3_of 6 = .ok (.invokestatic 46, 3) := dk_184 0 46 (dk_at dksX3_of_0 6 rfl rfl)
theorem dX3_of_9 : decode cX3_of 9 = .ok (.iload_n 0, 1) := dk_26 (dk_at dksX3_of_0 9 rfl rfl)
theorem dX3_of_10 : decode cX3_of 10 = .ok (.ifCond .ne 9, 3) := dk_154 0 9 (dk_at dksX3_of_0 10 rfl rfl)
theorem dX3_of_13 : decode cX3_of 13 = .ok (.getstatic 3, 3) := dk_178 0 3 (dk_at dksX3_of_0 13 rfl rfl)
theorem dX3_of_16 : decode cX3_of 16 = .ok (.goto 17, 3) := dk_167 0 17 (dk_at dksX3_of_0 16 rfl rfl)
theorem dX3_of_19 : decode cX3_of 19 = .ok (.iload_n 0, 1) := dk_26 (dk_at dksX3_of_0 19 rfl rfl)
theorem dX3_of_20 : decode cX3_of 20 = .ok (.iconst 1, 1) := dk_4 (dk_at dksX3_of_0 20 rfl rfl)
theorem dX3_of_21 : decode cX3_of 21 = .ok (.if_icmp .ne 9, 3) := dk_160 0 9 (dk_at dksX3_of_0 21 rfl rfl)
theorem dX3_of_24 : decode cX3_of 24 = .ok (.getstatic 7, 3) := dk_178 0 7 (dk_at dksX3_of_1 0 rfl rfl)
theorem dX3_of_27 : decode cX3_of 27 = .ok (.goto 6, 3) := dk_167 0 6 (dk_at dksX3_of_1 3 rfl rfl)
theorem dX3_of_30 : decode cX3_of 30 = .ok (.getstatic 10, 3) := dk_178 0 10 (dk_at dksX3_of_1 6 rfl rfl)
theorem dX3_of_33 : decode cX3_of 33 = .ok (.areturn, 1) := dk_176 (dk_at dksX3_of_1 9 rfl rfl)
def dkwX3_values_0 : List UInt8 := [178, 0, 13, 182, 0, 17, 192, 0, 18, 176]
abbrev dktX3_values_0 : List UInt8 := dkwX3_values_0 ++ []
theorem dksX3_values_0 : cX3_values.data.toList.drop 0 = dktX3_values_0 := by decide +kernel
theorem dX3_values_0 : decode cX3_values 0 = .ok (.getstatic 13, 3) := dk_178 0 13 (dk_at dksX3_values_0 0 rfl rfl)
theorem dX3_values_3 : decode cX3_values 3 = .ok (.invokevirtual 17, 3) := dk_182 0 17 (dk_at dksX3_values_0 3 rfl rfl)
theorem dX3_values_6 : decode cX3_values 6 = .ok (.checkcast 18, 3) := dk_192 0 18 (dk_at dksX3_values_0 6 rfl rfl)
theorem dX3_values_9 : decode cX3_values 9 = .ok (.areturn, 1) := dk_176 (dk_at dksX3_values_0 9 rfl rfl)
theorem dX5_point_0 : decode cX5_point 0 = .ok (.aload_n 0, 1) := by decide +kernel
theorem dX5_point_1 : decode cX5_point 1 = .ok (.getfield 7, 3) := by decide +kernel
theorem dX5_point_4 : decode cX5_point 4 = .ok (.areturn, 1) := by decide +kernel
def dkwX5_init_0 : List UInt8 := [42, 183, 0, 1, 42, 43, 181, 0, 7, 42, 28, 181, 0, 13, 177]
abbrev dktX5_init_0 : List UInt8 := dkwX5_init_0 ++ []
theorem dksX5_init_0 : cX5_init.data.toList.drop 0 = dktX5_init_0 := by decide +kernel
theorem dX5_init_0 : decode cX5_init 0 = .ok (.aload_n 0, 1) := dk_42 (dk_at dksX5_init_0 0 rfl rfl)
theorem dX5_init_1 : decode cX5_init 1 = .ok (.invokespecial 1, 3) := dk_183 0 1 (dk_at dksX5_init_0 1 rfl rfl)
theorem dX5_init_4 : decode cX5_init 4 = .ok (.aload_n 0, 1) := dk_42 (dk_at dksX5_init_0 4 rfl rfl)
theorem dX5_init_5 : decode cX5_init 5 = .ok (.aload_n 1, 1) := dk_43 (dk_at dksX5_init_0 5 rfl rfl)
theorem dX5_init_6 : decode cX5_init 6 = .ok (.putfield 7, 3) := dk_181 0 7 (dk_at dksX5_init_0 6 rfl rfl)
theorem dX5_init_9 : decode cX5_init 9 = .ok (.aload_n 0, 1) := dk_42 (dk_at dksX5_init_0 9 rfl rfl)
theorem dX5_init_10 : decode cX5_init 10 = .ok (.iload_n 2, 1) := dk_28 (dk_at dksX5_init_0 10 rfl rfl)
theorem dX5_init_11 : decode cX5_init 11 = .ok (.putfield 13, 3) := dk_181 0 13 (dk_at dksX5_init_0 11 rfl rfl)
theorem dX5_init_14 : decode cX5_init 14 = .ok (.return_, 1) := dk_177 (dk_at dksX5_init_0 14 rfl rfl)
def dkwX5_contains_1 : List UInt8 := [167, 0, 4, 3, 172]
abbrev dktX5_contains_1 : List UInt8 := dkwX5_contains_1 ++ []
def dkwX5_contains_0 : List UInt8 := [42, 180, 0, 7, 43, 182, 0, 17, 42, 180, 0, 13, 133, 42, 180, 0, 13, 133, 105, 148, 157, 0, 7, 4]
abbrev dktX5_contains_0 : List UInt8 := dkwX5_contains_0 ++ dktX5_contains_1
theorem dksX5_contains_0 : cX5_contains.data.toList.drop 0 = dktX5_contains_0 := by decide +kernel
theorem dksX5_contains_1 : cX5_contains.data.toList.drop 24 = dktX5_contains_1 := dk_seg dksX5_contains_0 24 rfl rfl
theorem dX5_contains_0 : decode cX5_contains 0 = .ok (.aload_n 0, 1) := dk_42 (dk_at dksX5_contains_0 0 rfl rfl)
theorem dX5_contains_1 : decode cX5_contains 1 = .ok (.getfield 7, 3) := dk_180 0 7 (dk_at dksX5_contains_0 1 rfl rfl)
theorem dX5_contains_4 : decode cX5_contains 4 = .ok (.aload_n 1, 1) := dk_43 (dk_at dksX5_contains_0 4 rfl rfl)
theorem dX5_contains_5 : decode cX5_contains 5 = .ok (.invokevirtual 17, 3) := dk_182 0 17 (dk_at dksX5_contains_0 5 rfl rfl)
theorem dX5_contains_8 : decode cX5_contains 8 = .ok (.aload_n 0, 1) := dk_42 (dk_at dksX5_contains_0 8 rfl rfl)
theorem dX5_contains_9 : decode cX5_contains 9 = .ok (.getfield 13, 3) := dk_180 0 13 (dk_at dksX5_contains_0 9 rfl rfl)
theorem dX5_contains_12 : decode cX5_contains 12 = .ok (.i2l, 1) := dk_133 (dk_at dksX5_contains_0 12 rfl rfl)
theorem dX5_contains_13 : decode cX5_contains 13 = .ok (.aload_n 0, 1) := dk_42 (dk_at dksX5_contains_0 13 rfl rfl)
theorem dX5_contains_14 : decode cX5_contains 14 = .ok (.getfield 13, 3) := dk_180 0 13 (dk_at dksX5_contains_0 14 rfl rfl)
theorem dX5_contains_17 : decode cX5_contains 17 = .ok (.i2l, 1) := dk_133 (dk_at dksX5_contains_0 17 rfl rfl)
theorem dX5_contains_18 : decode cX5_contains 18 = .ok (.lmul, 1) := dk_105 (dk_at dksX5_contains_0 18 rfl rfl)
theorem dX5_contains_19 : decode cX5_contains 19 = .ok (.lcmp, 1) := dk_148 (dk_at dksX5_contains_0 19 rfl rfl)
theorem dX5_contains_20 : decode cX5_contains 20 = .ok (.ifCond .gt 7, 3) := dk_157 0 7 (dk_at dksX5_contains_0 20 rfl rfl)
theorem dX5_contains_23 : decode cX5_contains 23 = .ok (.iconst 1, 1) := dk_4 (dk_at dksX5_contains_0 23 rfl rfl)
theorem dX5_contains_24 : decode cX5_contains 24 = .ok (.goto 4, 3) := dk_167 0 4 (dk_at dksX5_contains_1 0 rfl rfl)
theorem dX5_contains_27 : decode cX5_contains 27 = .ok (.iconst 0, 1) := dk_3 (dk_at dksX5_contains_1 3 rfl rfl)
theorem dX5_contains_28 : decode cX5_contains 28 = .ok (.ireturn, 1) := dk_172 (dk_at dksX5_contains_1 4 rfl rfl)
theorem dX5_radius_0 : decode cX5_radius 0 = .ok (.aload_n 0, 1) := by decide +kernel
theorem dX5_radius_1 : decode cX5_radius 1 = .ok (.getfield 13, 3) := by decide +kernel
theorem dX5_radius_4 : decode cX5_radius 4 = .ok (.ireturn, 1) := by decide +kernel
def dkwX6_minus_1 : List UInt8 := [183, 0, 16, 176]
abbrev dktX6_minus_1 : List UInt8 := dkwX6_minus_1 ++ []
def dkwX6_minus_0 : List UInt8 := [187, 0, 8, 89, 42, 180, 0, 7, 43, 180, 0, 7, 100, 42, 180, 0, 13, 43, 180, 0, 13, 100]
abbrev dktX6_minus_0 : List UInt8 := dkwX6_minus_0 ++ dktX6_minus_1
theorem dksX6_minus_0 : cX6_minus.data.toList.drop 0 = dktX6_minus_0 := by decide +kernel
theorem dksX6_minus_1 : cX6_minus.data.toList.drop 22 = dktX6_minus_1 := dk_seg dksX6_minus_0 22 rfl rfl
theorem dX6_minus_0 : decode cX6_minus 0 = .ok (.new 8, 3) := dk_187 0 8 (dk_at dksX6_minus_0 0 rfl rfl)
theorem dX6_minus_3 : decode cX6_minus 3 = .ok (.dup, 1) := dk_89 (dk_at dksX6_minus_0 3 rfl rfl)
theorem dX6_minus_4 : decode cX6_minus 4 = .ok (.aload_n 0, 1) := dk_42 (dk_at dksX6_minus_0 4 rfl rfl)
theorem dX6_minus_5 : decode cX6_minus 5 = .ok (.getfield 7, 3) := dk_180 0 7 (dk_at dksX6_minus_0 5 rfl rfl)
theorem dX6_minus_8 : decode cX6_minus 8 = .ok (.aload_n 1, 1) := dk_43 (dk_at dksX6_minus_0 8 rfl rfl)
theorem dX6_minus_9 : decode cX6_minus 9 = .ok (.getfield 7, 3) := dk_180 0 7 (dk_at dksX6_minus_0 9 rfl rfl)
theorem dX6_minus_12 : decode cX6_minus 12 = .ok (.isub, 1) := dk_100 (dk_at dksX6_minus_0 12 rfl rfl)
theorem dX6_minus_13 : decode cX6_minus 13 = .ok (.aload_n 0, 1) := dk_42 (dk_at dksX6_minus_0 13 rfl rfl)
theorem dX6_minus_14 : decode cX6_minus 14 = .ok (.getfield 13, 3) := dk_180 0 13 (dk_at dksX6_minus_0 14 rfl rfl)
theorem dX6_minus_17 : decode cX6_minus 17 = .ok (.aload_n 1, 1) := dk_43 (dk_at dksX6_minus_0 17 rfl rfl)
theorem dX6_minus_18 : decode cX6_minus 18 = .ok (.getfield 13, 3) := dk_180 0 13 (dk_at dksX6_minus_0 18 rfl rfl)
theorem dX6_minus_21 : decode cX6_minus 21 = .ok (.isub, 1) := dk_100 (dk_at dksX6_minus_0 21 rfl rfl)
theorem dX6_minus_22 : decode cX6_minus 22 = .ok (.invokespecial 16, 3) := dk_183 0 16 (dk_at dksX6_minus_1 0 rfl rfl)
theorem dX6_minus_25 : decode cX6_minus 25 = .ok (.areturn, 1) := dk_176 (dk_at dksX6_minus_1 3 rfl rfl)
def dkwX6_init_0 : List UInt8 := [42, 183, 0, 1, 42, 27, 181, 0, 7, 42, 28, 181, 0, 13, 177]
abbrev dktX6_init_0 : List UInt8 := dkwX6_init_0 ++ []
theorem dksX6_init_0 : cX6_init.data.toList.drop 0 = dktX6_init_0 := by decide +kernel
theorem dX6_init_0 : decode cX6_init 0 = .ok (.aload_n 0, 1) := dk_42 (dk_at dksX6_init_0 0 rfl rfl)
theorem dX6_init_1 : decode cX6_init 1 = .ok (.invokespecial 1, 3) := dk_183 0 1 (dk_at dksX6_init_0 1 rfl rfl)
theorem dX6_init_4 : decode cX6_init 4 = .ok (.aload_n 0, 1) := dk_42 (dk_at dksX6_init_0 4 rfl rfl)
theorem dX6_init_5 : decode cX6_init 5 = .ok (.iload_n 1, 1) := dk_27 (dk_at dksX6_init_0 5 rfl rfl)
theorem dX6_init_6 : decode cX6_init 6 = .ok (.putfield 7, 3) := dk_181 0 7 (dk_at dksX6_init_0 6 rfl rfl)
theorem dX6_init_9 : decode cX6_init 9 = .ok (.aload_n 0, 1) := dk_42 (dk_at dksX6_init_0 9 rfl rfl)
theorem dX6_init_10 : decode cX6_init 10 = .ok (.iload_n 2, 1) := dk_28 (dk_at dksX6_init_0 10 rfl rfl)
theorem dX6_init_11 : decode cX6_init 11 = .ok (.putfield 13, 3) := dk_181 0 13 (dk_at dksX6_init_0 11 rfl rfl)
theorem dX6_init_14 : decode cX6_init 14 = .ok (.return_, 1) := dk_177 (dk_at dksX6_init_0 14 rfl rfl)
def dkwX6_cross_0 : List UInt8 := [42, 180, 0, 7, 133, 43, 180, 0, 13, 133, 105, 42, 180, 0, 13, 133, 43, 180, 0, 7, 133, 105, 101, 173]
abbrev dktX6_cross_0 : List UInt8 := dkwX6_cross_0 ++ []
theorem dksX6_cross_0 : cX6_cross.data.toList.drop 0 = dktX6_cross_0 := by decide +kernel
theorem dX6_cross_0 : decode cX6_cross 0 = .ok (.aload_n 0, 1) := dk_42 (dk_at dksX6_cross_0 0 rfl rfl)
theorem dX6_cross_1 : decode cX6_cross 1 = .ok (.getfield 7, 3) := dk_180 0 7 (dk_at dksX6_cross_0 1 rfl rfl)
theorem dX6_cross_4 : decode cX6_cross 4 = .ok (.i2l, 1) := dk_133 (dk_at dksX6_cross_0 4 rfl rfl)
theorem dX6_cross_5 : decode cX6_cross 5 = .ok (.aload_n 1, 1) := dk_43 (dk_at dksX6_cross_0 5 rfl rfl)
theorem dX6_cross_6 : decode cX6_cross 6 = .ok (.getfield 13, 3) := dk_180 0 13 (dk_at dksX6_cross_0 6 rfl rfl)
theorem dX6_cross_9 : decode cX6_cross 9 = .ok (.i2l, 1) := dk_133 (dk_at dksX6_cross_0 9 rfl rfl)
theorem dX6_cross_10 : decode cX6_cross 10 = .ok (.lmul, 1) := dk_105 (dk_at dksX6_cross_0 10 rfl rfl)
theorem dX6_cross_11 : decode cX6_cross 11 = .ok (.aload_n 0, 1) := dk_42 (dk_at dksX6_cross_0 11 rfl rfl)
theorem dX6_cross_12 : decode cX6_cross 12 = .ok (.getfield 13, 3) := dk_180 0 13 (dk_at dksX6_cross_0 12 rfl rfl)
theorem dX6_cross_15 : decode cX6_cross 15 = .ok (.i2l, 1) := dk_133 (dk_at dksX6_cross_0 15 rfl rfl)
theorem dX6_cross_16 : decode cX6_cross 16 = .ok (.aload_n 1, 1) := dk_43 (dk_at dksX6_cross_0 16 rfl rfl)
theorem dX6_cross_17 : decode cX6_cross 17 = .ok (.getfield 7, 3) := dk_180 0 7 (dk_at dksX6_cross_0 17 rfl rfl)
theorem dX6_cross_20 : decode cX6_cross 20 = .ok (.i2l, 1) := dk_133 (dk_at dksX6_cross_0 20 rfl rfl)
theorem dX6_cross_21 : decode cX6_cross 21 = .ok (.lmul, 1) := dk_105 (dk_at dksX6_cross_0 21 rfl rfl)
theorem dX6_cross_22 : decode cX6_cross 22 = .ok (.lsub, 1) := dk_101 (dk_at dksX6_cross_0 22 rfl rfl)
theorem dX6_cross_23 : decode cX6_cross 23 = .ok (.lreturn, 1) := dk_173 (dk_at dksX6_cross_0 23 rfl rfl)
def dkwX6_dot_0 : List UInt8 := [42, 180, 0, 7, 133, 43, 180, 0, 7, 133, 105, 42, 180, 0, 13, 133, 43, 180, 0, 13, 133, 105, 97, 173]
abbrev dktX6_dot_0 : List UInt8 := dkwX6_dot_0 ++ []
theorem dksX6_dot_0 : cX6_dot.data.toList.drop 0 = dktX6_dot_0 := by decide +kernel
theorem dX6_dot_0 : decode cX6_dot 0 = .ok (.aload_n 0, 1) := dk_42 (dk_at dksX6_dot_0 0 rfl rfl)
theorem dX6_dot_1 : decode cX6_dot 1 = .ok (.getfield 7, 3) := dk_180 0 7 (dk_at dksX6_dot_0 1 rfl rfl)
theorem dX6_dot_4 : decode cX6_dot 4 = .ok (.i2l, 1) := dk_133 (dk_at dksX6_dot_0 4 rfl rfl)
theorem dX6_dot_5 : decode cX6_dot 5 = .ok (.aload_n 1, 1) := dk_43 (dk_at dksX6_dot_0 5 rfl rfl)
theorem dX6_dot_6 : decode cX6_dot 6 = .ok (.getfield 7, 3) := dk_180 0 7 (dk_at dksX6_dot_0 6 rfl rfl)
theorem dX6_dot_9 : decode cX6_dot 9 = .ok (.i2l, 1) := dk_133 (dk_at dksX6_dot_0 9 rfl rfl)
theorem dX6_dot_10 : decode cX6_dot 10 = .ok (.lmul, 1) := dk_105 (dk_at dksX6_dot_0 10 rfl rfl)
theorem dX6_dot_11 : decode cX6_dot 11 = .ok (.aload_n 0, 1) := dk_42 (dk_at dksX6_dot_0 11 rfl rfl)
theorem dX6_dot_12 : decode cX6_dot 12 = .ok (.getfield 13, 3) := dk_180 0 13 (dk_at dksX6_dot_0 12 rfl rfl)
theorem dX6_dot_15 : decode cX6_dot 15 = .ok (.i2l, 1) := dk_133 (dk_at dksX6_dot_0 15 rfl rfl)
theorem dX6_dot_16 : decode cX6_dot 16 = .ok (.aload_n 1, 1) := dk_43 (dk_at dksX6_dot_0 16 rfl rfl)
theorem dX6_dot_17 : decode cX6_dot 17 = .ok (.getfield 13, 3) := dk_180 0 13 (dk_at dksX6_dot_0 17 rfl rfl)
theorem dX6_dot_20 : decode cX6_dot 20 = .ok (.i2l, 1) := dk_133 (dk_at dksX6_dot_0 20 rfl rfl)
theorem dX6_dot_21 : decode cX6_dot 21 = .ok (.lmul, 1) := dk_105 (dk_at dksX6_dot_0 21 rfl rfl)
theorem dX6_dot_22 : decode cX6_dot 22 = .ok (.ladd, 1) := dk_97 (dk_at dksX6_dot_0 22 rfl rfl)
theorem dX6_dot_23 : decode cX6_dot 23 = .ok (.lreturn, 1) := dk_173 (dk_at dksX6_dot_0 23 rfl rfl)
def dkwX6_squaredDistance_0 : List UInt8 := [42, 43, 182, 0, 23, 182, 0, 27, 173]
abbrev dktX6_squaredDistance_0 : List UInt8 := dkwX6_squaredDistance_0 ++ []
theorem dksX6_squaredDistance_0 : cX6_squaredDistance.data.toList.drop 0 = dktX6_squaredDistance_0 := by decide +kernel
theorem dX6_squaredDistance_0 : decode cX6_squaredDistance 0 = .ok (.aload_n 0, 1) := dk_42 (dk_at dksX6_squaredDistance_0 0 rfl rfl)
theorem dX6_squaredDistance_1 : decode cX6_squaredDistance 1 = .ok (.aload_n 1, 1) := dk_43 (dk_at dksX6_squaredDistance_0 1 rfl rfl)
theorem dX6_squaredDistance_2 : decode cX6_squaredDistance 2 = .ok (.invokevirtual 23, 3) := dk_182 0 23 (dk_at dksX6_squaredDistance_0 2 rfl rfl)
theorem dX6_squaredDistance_5 : decode cX6_squaredDistance 5 = .ok (.invokevirtual 27, 3) := dk_182 0 27 (dk_at dksX6_squaredDistance_0 5 rfl rfl)
theorem dX6_squaredDistance_8 : decode cX6_squaredDistance 8 = .ok (.lreturn, 1) := dk_173 (dk_at dksX6_squaredDistance_0 8 rfl rfl)
def dkwX6_squared_0 : List UInt8 := [42, 42, 182, 0, 19, 173]
abbrev dktX6_squared_0 : List UInt8 := dkwX6_squared_0 ++ []
theorem dksX6_squared_0 : cX6_squared.data.toList.drop 0 = dktX6_squared_0 := by decide +kernel
theorem dX6_squared_0 : decode cX6_squared 0 = .ok (.aload_n 0, 1) := dk_42 (dk_at dksX6_squared_0 0 rfl rfl)
theorem dX6_squared_1 : decode cX6_squared 1 = .ok (.aload_n 0, 1) := dk_42 (dk_at dksX6_squared_0 1 rfl rfl)
theorem dX6_squared_2 : decode cX6_squared 2 = .ok (.invokevirtual 19, 3) := dk_182 0 19 (dk_at dksX6_squared_0 2 rfl rfl)
theorem dX6_squared_5 : decode cX6_squared 5 = .ok (.lreturn, 1) := dk_173 (dk_at dksX6_squared_0 5 rfl rfl)
theorem dX6_x_0 : decode cX6_x 0 = .ok (.aload_n 0, 1) := by decide +kernel
theorem dX6_x_1 : decode cX6_x 1 = .ok (.getfield 7, 3) := by decide +kernel
theorem dX6_x_4 : decode cX6_x 4 = .ok (.ireturn, 1) := by decide +kernel
theorem dX6_y_0 : decode cX6_y 0 = .ok (.aload_n 0, 1) := by decide +kernel
theorem dX6_y_1 : decode cX6_y 1 = .ok (.getfield 13, 3) := by decide +kernel
theorem dX6_y_4 : decode cX6_y 4 = .ok (.ireturn, 1) := by decide +kernel
theorem dX7_route_0 : decode cX7_route 0 = .ok (.aload_n 0, 1) := by decide +kernel
theorem dX7_route_1 : decode cX7_route 1 = .ok (.getfield 7, 3) := by decide +kernel
theorem dX7_route_4 : decode cX7_route 4 = .ok (.areturn, 1) := by decide +kernel
theorem dX7_targetIndex_0 : decode cX7_targetIndex 0 = .ok (.aload_n 0, 1) := by decide +kernel
theorem dX7_targetIndex_1 : decode cX7_targetIndex 1 = .ok (.getfield 13, 3) := by decide +kernel
theorem dX7_targetIndex_4 : decode cX7_targetIndex 4 = .ok (.ireturn, 1) := by decide +kernel
def dkwX7_init_0 : List UInt8 := [42, 183, 0, 1, 42, 43, 181, 0, 7, 42, 28, 181, 0, 13, 42, 45, 181, 0, 17, 177]
abbrev dktX7_init_0 : List UInt8 := dkwX7_init_0 ++ []
theorem dksX7_init_0 : cX7_init.data.toList.drop 0 = dktX7_init_0 := by decide +kernel
theorem dX7_init_0 : decode cX7_init 0 = .ok (.aload_n 0, 1) := dk_42 (dk_at dksX7_init_0 0 rfl rfl)
theorem dX7_init_1 : decode cX7_init 1 = .ok (.invokespecial 1, 3) := dk_183 0 1 (dk_at dksX7_init_0 1 rfl rfl)
theorem dX7_init_4 : decode cX7_init 4 = .ok (.aload_n 0, 1) := dk_42 (dk_at dksX7_init_0 4 rfl rfl)
theorem dX7_init_5 : decode cX7_init 5 = .ok (.aload_n 1, 1) := dk_43 (dk_at dksX7_init_0 5 rfl rfl)
theorem dX7_init_6 : decode cX7_init 6 = .ok (.putfield 7, 3) := dk_181 0 7 (dk_at dksX7_init_0 6 rfl rfl)
theorem dX7_init_9 : decode cX7_init 9 = .ok (.aload_n 0, 1) := dk_42 (dk_at dksX7_init_0 9 rfl rfl)
theorem dX7_init_10 : decode cX7_init 10 = .ok (.iload_n 2, 1) := dk_28 (dk_at dksX7_init_0 10 rfl rfl)
theorem dX7_init_11 : decode cX7_init 11 = .ok (.putfield 13, 3) := dk_181 0 13 (dk_at dksX7_init_0 11 rfl rfl)
theorem dX7_init_14 : decode cX7_init 14 = .ok (.aload_n 0, 1) := dk_42 (dk_at dksX7_init_0 14 rfl rfl)
theorem dX7_init_15 : decode cX7_init 15 = .ok (.aload_n 3, 1) := dk_45 (dk_at dksX7_init_0 15 rfl rfl)
theorem dX7_init_16 : decode cX7_init 16 = .ok (.putfield 17, 3) := dk_181 0 17 (dk_at dksX7_init_0 16 rfl rfl)
theorem dX7_init_19 : decode cX7_init 19 = .ok (.return_, 1) := dk_177 (dk_at dksX7_init_0 19 rfl rfl)
def dkwX7_withHiker_0 : List UInt8 := [187, 0, 8, 89, 42, 180, 0, 7, 42, 180, 0, 13, 43, 183, 0, 21, 176]
abbrev dktX7_withHiker_0 : List UInt8 := dkwX7_withHiker_0 ++ []
theorem dksX7_withHiker_0 : cX7_withHiker.data.toList.drop 0 = dktX7_withHiker_0 := by decide +kernel
theorem dX7_withHiker_0 : decode cX7_withHiker 0 = .ok (.new 8, 3) := dk_187 0 8 (dk_at dksX7_withHiker_0 0 rfl rfl)
theorem dX7_withHiker_3 : decode cX7_withHiker 3 = .ok (.dup, 1) := dk_89 (dk_at dksX7_withHiker_0 3 rfl rfl)
theorem dX7_withHiker_4 : decode cX7_withHiker 4 = .ok (.aload_n 0, 1) := dk_42 (dk_at dksX7_withHiker_0 4 rfl rfl)
theorem dX7_withHiker_5 : decode cX7_withHiker 5 = .ok (.getfield 7, 3) := dk_180 0 7 (dk_at dksX7_withHiker_0 5 rfl rfl)
theorem dX7_withHiker_8 : decode cX7_withHiker 8 = .ok (.aload_n 0, 1) := dk_42 (dk_at dksX7_withHiker_0 8 rfl rfl)
theorem dX7_withHiker_9 : decode cX7_withHiker 9 = .ok (.getfield 13, 3) := dk_180 0 13 (dk_at dksX7_withHiker_0 9 rfl rfl)
theorem dX7_withHiker_12 : decode cX7_withHiker 12 = .ok (.aload_n 1, 1) := dk_43 (dk_at dksX7_withHiker_0 12 rfl rfl)
theorem dX7_withHiker_13 : decode cX7_withHiker 13 = .ok (.invokespecial 21, 3) := dk_183 0 21 (dk_at dksX7_withHiker_0 13 rfl rfl)
theorem dX7_withHiker_16 : decode cX7_withHiker 16 = .ok (.areturn, 1) := dk_176 (dk_at dksX7_withHiker_0 16 rfl rfl)
theorem dX7_hiker_0 : decode cX7_hiker 0 = .ok (.aload_n 0, 1) := by decide +kernel
theorem dX7_hiker_1 : decode cX7_hiker 1 = .ok (.getfield 17, 3) := by decide +kernel
theorem dX7_hiker_4 : decode cX7_hiker 4 = .ok (.areturn, 1) := by decide +kernel
def dkwX7_target_0 : List UInt8 := [42, 180, 0, 7, 42, 180, 0, 13, 46, 172]
abbrev dktX7_target_0 : List UInt8 := dkwX7_target_0 ++ []
theorem dksX7_target_0 : cX7_target.data.toList.drop 0 = dktX7_target_0 := by decide +kernel
theorem dX7_target_0 : decode cX7_target 0 = .ok (.aload_n 0, 1) := dk_42 (dk_at dksX7_target_0 0 rfl rfl)
theorem dX7_target_1 : decode cX7_target 1 = .ok (.getfield 7, 3) := dk_180 0 7 (dk_at dksX7_target_0 1 rfl rfl)
theorem dX7_target_4 : decode cX7_target 4 = .ok (.aload_n 0, 1) := dk_42 (dk_at dksX7_target_0 4 rfl rfl)
theorem dX7_target_5 : decode cX7_target 5 = .ok (.getfield 13, 3) := dk_180 0 13 (dk_at dksX7_target_0 5 rfl rfl)
theorem dX7_target_8 : decode cX7_target 8 = .ok (.iaload, 1) := dk_46 (dk_at dksX7_target_0 8 rfl rfl)
theorem dX7_target_9 : decode cX7_target 9 = .ok (.ireturn, 1) := dk_172 (dk_at dksX7_target_0 9 rfl rfl)
def dkwX7_isLast_0 : List UInt8 := [42, 180, 0, 13, 42, 180, 0, 7, 190, 4, 100, 160, 0, 7, 4, 167, 0, 4, 3, 172]
abbrev dktX7_isLast_0 : List UInt8 := dkwX7_isLast_0 ++ []
theorem dksX7_isLast_0 : cX7_isLast.data.toList.drop 0 = dktX7_isLast_0 := by decide +kernel
theorem dX7_isLast_0 : decode cX7_isLast 0 = .ok (.aload_n 0, 1) := dk_42 (dk_at dksX7_isLast_0 0 rfl rfl)
theorem dX7_isLast_1 : decode cX7_isLast 1 = .ok (.getfield 13, 3) := dk_180 0 13 (dk_at dksX7_isLast_0 1 rfl rfl)
theorem dX7_isLast_4 : decode cX7_isLast 4 = .ok (.aload_n 0, 1) := dk_42 (dk_at dksX7_isLast_0 4 rfl rfl)
theorem dX7_isLast_5 : decode cX7_isLast 5 = .ok (.getfield 7, 3) := dk_180 0 7 (dk_at dksX7_isLast_0 5 rfl rfl)
theorem dX7_isLast_8 : decode cX7_isLast 8 = .ok (.arraylength, 1) := dk_190 (dk_at dksX7_isLast_0 8 rfl rfl)
theorem dX7_isLast_9 : decode cX7_isLast 9 = .ok (.iconst 1, 1) := dk_4 (dk_at dksX7_isLast_0 9 rfl rfl)
theorem dX7_isLast_10 : decode cX7_isLast 10 = .ok (.isub, 1) := dk_100 (dk_at dksX7_isLast_0 10 rfl rfl)
theorem dX7_isLast_11 : decode cX7_isLast 11 = .ok (.if_icmp .ne 7, 3) := dk_160 0 7 (dk_at dksX7_isLast_0 11 rfl rfl)
theorem dX7_isLast_14 : decode cX7_isLast 14 = .ok (.iconst 1, 1) := dk_4 (dk_at dksX7_isLast_0 14 rfl rfl)
theorem dX7_isLast_15 : decode cX7_isLast 15 = .ok (.goto 4, 3) := dk_167 0 4 (dk_at dksX7_isLast_0 15 rfl rfl)
theorem dX7_isLast_18 : decode cX7_isLast 18 = .ok (.iconst 0, 1) := dk_3 (dk_at dksX7_isLast_0 18 rfl rfl)
theorem dX7_isLast_19 : decode cX7_isLast 19 = .ok (.ireturn, 1) := dk_172 (dk_at dksX7_isLast_0 19 rfl rfl)
def dkwX7_withNextTarget_0 : List UInt8 := [187, 0, 8, 89, 42, 180, 0, 7, 42, 180, 0, 13, 4, 96, 42, 180, 0, 17, 183, 0, 21, 176]
abbrev dktX7_withNextTarget_0 : List UInt8 := dkwX7_withNextTarget_0 ++ []
theorem dksX7_withNextTarget_0 : cX7_withNextTarget.data.toList.drop 0 = dktX7_withNextTarget_0 := by decide +kernel
theorem dX7_withNextTarget_0 : decode cX7_withNextTarget 0 = .ok (.new 8, 3) := dk_187 0 8 (dk_at dksX7_withNextTarget_0 0 rfl rfl)
theorem dX7_withNextTarget_3 : decode cX7_withNextTarget 3 = .ok (.dup, 1) := dk_89 (dk_at dksX7_withNextTarget_0 3 rfl rfl)
theorem dX7_withNextTarget_4 : decode cX7_withNextTarget 4 = .ok (.aload_n 0, 1) := dk_42 (dk_at dksX7_withNextTarget_0 4 rfl rfl)
theorem dX7_withNextTarget_5 : decode cX7_withNextTarget 5 = .ok (.getfield 7, 3) := dk_180 0 7 (dk_at dksX7_withNextTarget_0 5 rfl rfl)
theorem dX7_withNextTarget_8 : decode cX7_withNextTarget 8 = .ok (.aload_n 0, 1) := dk_42 (dk_at dksX7_withNextTarget_0 8 rfl rfl)
theorem dX7_withNextTarget_9 : decode cX7_withNextTarget 9 = .ok (.getfield 13, 3) := dk_180 0 13 (dk_at dksX7_withNextTarget_0 9 rfl rfl)
theorem dX7_withNextTarget_12 : decode cX7_withNextTarget 12 = .ok (.iconst 1, 1) := dk_4 (dk_at dksX7_withNextTarget_0 12 rfl rfl)
theorem dX7_withNextTarget_13 : decode cX7_withNextTarget 13 = .ok (.iadd, 1) := dk_96 (dk_at dksX7_withNextTarget_0 13 rfl rfl)
theorem dX7_withNextTarget_14 : decode cX7_withNextTarget 14 = .ok (.aload_n 0, 1) := dk_42 (dk_at dksX7_withNextTarget_0 14 rfl rfl)
theorem dX7_withNextTarget_15 : decode cX7_withNextTarget 15 = .ok (.getfield 17, 3) := dk_180 0 17 (dk_at dksX7_withNextTarget_0 15 rfl rfl)
theorem dX7_withNextTarget_18 : decode cX7_withNextTarget 18 = .ok (.invokespecial 21, 3) := dk_183 0 21 (dk_at dksX7_withNextTarget_0 18 rfl rfl)
theorem dX7_withNextTarget_21 : decode cX7_withNextTarget 21 = .ok (.areturn, 1) := dk_176 (dk_at dksX7_withNextTarget_0 21 rfl rfl)
def dkwX8_init_0 : List UInt8 := [42, 183, 0, 3, 42, 27, 181, 0, 9, 177]
abbrev dktX8_init_0 : List UInt8 := dkwX8_init_0 ++ []
theorem dksX8_init_0 : cX8_init.data.toList.drop 0 = dktX8_init_0 := by decide +kernel
theorem dX8_init_0 : decode cX8_init 0 = .ok (.aload_n 0, 1) := dk_42 (dk_at dksX8_init_0 0 rfl rfl)
theorem dX8_init_1 : decode cX8_init 1 = .ok (.invokespecial 3, 3) := dk_183 0 3 (dk_at dksX8_init_0 1 rfl rfl)
theorem dX8_init_4 : decode cX8_init 4 = .ok (.aload_n 0, 1) := dk_42 (dk_at dksX8_init_0 4 rfl rfl)
theorem dX8_init_5 : decode cX8_init 5 = .ok (.iload_n 1, 1) := dk_27 (dk_at dksX8_init_0 5 rfl rfl)
theorem dX8_init_6 : decode cX8_init 6 = .ok (.putfield 9, 3) := dk_181 0 9 (dk_at dksX8_init_0 6 rfl rfl)
theorem dX8_init_9 : decode cX8_init 9 = .ok (.return_, 1) := dk_177 (dk_at dksX8_init_0 9 rfl rfl)
theorem dX8_cost_0 : decode cX8_cost 0 = .ok (.iconst 3, 1) := by decide +kernel
theorem dX8_cost_1 : decode cX8_cost 1 = .ok (.ireturn, 1) := by decide +kernel
theorem dX8_isLast_0 : decode cX8_isLast 0 = .ok (.aload_n 0, 1) := by decide +kernel
theorem dX8_isLast_1 : decode cX8_isLast 1 = .ok (.getfield 9, 3) := by decide +kernel
theorem dX8_isLast_4 : decode cX8_isLast 4 = .ok (.ireturn, 1) := by decide +kernel
theorem dX8_letter_0 : decode cX8_letter 0 = .ok (.bipush 116, 2) := by decide +kernel
theorem dX8_letter_2 : decode cX8_letter 2 = .ok (.ireturn, 1) := by decide +kernel
def dkwX9_init_0 : List UInt8 := [42, 183, 0, 1, 42, 31, 181, 0, 7, 42, 33, 181, 0, 13, 177]
abbrev dktX9_init_0 : List UInt8 := dkwX9_init_0 ++ []
theorem dksX9_init_0 : cX9_init.data.toList.drop 0 = dktX9_init_0 := by decide +kernel
theorem dX9_init_0 : decode cX9_init 0 = .ok (.aload_n 0, 1) := dk_42 (dk_at dksX9_init_0 0 rfl rfl)
theorem dX9_init_1 : decode cX9_init 1 = .ok (.invokespecial 1, 3) := dk_183 0 1 (dk_at dksX9_init_0 1 rfl rfl)
theorem dX9_init_4 : decode cX9_init 4 = .ok (.aload_n 0, 1) := dk_42 (dk_at dksX9_init_0 4 rfl rfl)
theorem dX9_init_5 : decode cX9_init 5 = .ok (.lload_n 1, 1) := dk_31 (dk_at dksX9_init_0 5 rfl rfl)
theorem dX9_init_6 : decode cX9_init 6 = .ok (.putfield 7, 3) := dk_181 0 7 (dk_at dksX9_init_0 6 rfl rfl)
theorem dX9_init_9 : decode cX9_init 9 = .ok (.aload_n 0, 1) := dk_42 (dk_at dksX9_init_0 9 rfl rfl)
theorem dX9_init_10 : decode cX9_init 10 = .ok (.lload_n 3, 1) := dk_33 (dk_at dksX9_init_0 10 rfl rfl)
theorem dX9_init_11 : decode cX9_init 11 = .ok (.putfield 13, 3) := dk_181 0 13 (dk_at dksX9_init_0 11 rfl rfl)
theorem dX9_init_14 : decode cX9_init 14 = .ok (.return_, 1) := dk_177 (dk_at dksX9_init_0 14 rfl rfl)
def dkwX9_isGreaterThan_0 : List UInt8 := [42, 180, 0, 7, 31, 31, 105, 42, 180, 0, 13, 105, 148, 158, 0, 7, 4, 167, 0, 4, 3, 172]
abbrev dktX9_isGreaterThan_0 : List UInt8 := dkwX9_isGreaterThan_0 ++ []
theorem dksX9_isGreaterThan_0 : cX9_isGreaterThan.data.toList.drop 0 = dktX9_isGreaterThan_0 := by decide +kernel
theorem dX9_isGreaterThan_0 : decode cX9_isGreaterThan 0 = .ok (.aload_n 0, 1) := dk_42 (dk_at dksX9_isGreaterThan_0 0 rfl rfl)
theorem dX9_isGreaterThan_1 : decode cX9_isGreaterThan 1 = .ok (.getfield 7, 3) := dk_180 0 7 (dk_at dksX9_isGreaterThan_0 1 rfl rfl)
theorem dX9_isGreaterThan_4 : decode cX9_isGreaterThan 4 = .ok (.lload_n 1, 1) := dk_31 (dk_at dksX9_isGreaterThan_0 4 rfl rfl)
theorem dX9_isGreaterThan_5 : decode cX9_isGreaterThan 5 = .ok (.lload_n 1, 1) := dk_31 (dk_at dksX9_isGreaterThan_0 5 rfl rfl)
theorem dX9_isGreaterThan_6 : decode cX9_isGreaterThan 6 = .ok (.lmul, 1) := dk_105 (dk_at dksX9_isGreaterThan_0 6 rfl rfl)
theorem dX9_isGreaterThan_7 : decode cX9_isGreaterThan 7 = .ok (.aload_n 0, 1) := dk_42 (dk_at dksX9_isGreaterThan_0 7 rfl rfl)
theorem dX9_isGreaterThan_8 : decode cX9_isGreaterThan 8 = .ok (.getfield 13, 3) := dk_180 0 13 (dk_at dksX9_isGreaterThan_0 8 rfl rfl)
theorem dX9_isGreaterThan_11 : decode cX9_isGreaterThan 11 = .ok (.lmul, 1) := dk_105 (dk_at dksX9_isGreaterThan_0 11 rfl rfl)
theorem dX9_isGreaterThan_12 : decode cX9_isGreaterThan 12 = .ok (.lcmp, 1) := dk_148 (dk_at dksX9_isGreaterThan_0 12 rfl rfl)
theorem dX9_isGreaterThan_13 : decode cX9_isGreaterThan 13 = .ok (.ifCond .le 7, 3) := dk_158 0 7 (dk_at dksX9_isGreaterThan_0 13 rfl rfl)
theorem dX9_isGreaterThan_16 : decode cX9_isGreaterThan 16 = .ok (.iconst 1, 1) := dk_4 (dk_at dksX9_isGreaterThan_0 16 rfl rfl)
theorem dX9_isGreaterThan_17 : decode cX9_isGreaterThan 17 = .ok (.goto 4, 3) := dk_167 0 4 (dk_at dksX9_isGreaterThan_0 17 rfl rfl)
theorem dX9_isGreaterThan_20 : decode cX9_isGreaterThan 20 = .ok (.iconst 0, 1) := dk_3 (dk_at dksX9_isGreaterThan_0 20 rfl rfl)
theorem dX9_isGreaterThan_21 : decode cX9_isGreaterThan 21 = .ok (.ireturn, 1) := dk_172 (dk_at dksX9_isGreaterThan_0 21 rfl rfl)
def dkwX9_root_0 : List UInt8 := [3, 60, 42, 27, 4, 96, 133, 182, 0, 16, 154, 0, 9, 132, 1, 1, 167, 255, 242, 27, 172]
abbrev dktX9_root_0 : List UInt8 := dkwX9_root_0 ++ []
theorem dksX9_root_0 : cX9_root.data.toList.drop 0 = dktX9_root_0 := by decide +kernel
theorem dX9_root_0 : decode cX9_root 0 = .ok (.iconst 0, 1) := dk_3 (dk_at dksX9_root_0 0 rfl rfl)
theorem dX9_root_1 : decode cX9_root 1 = .ok (.istore_n 1, 1) := dk_60 (dk_at dksX9_root_0 1 rfl rfl)
theorem dX9_root_2 : decode cX9_root 2 = .ok (.aload_n 0, 1) := dk_42 (dk_at dksX9_root_0 2 rfl rfl)
theorem dX9_root_3 : decode cX9_root 3 = .ok (.iload_n 1, 1) := dk_27 (dk_at dksX9_root_0 3 rfl rfl)
theorem dX9_root_4 : decode cX9_root 4 = .ok (.iconst 1, 1) := dk_4 (dk_at dksX9_root_0 4 rfl rfl)
theorem dX9_root_5 : decode cX9_root 5 = .ok (.iadd, 1) := dk_96 (dk_at dksX9_root_0 5 rfl rfl)
theorem dX9_root_6 : decode cX9_root 6 = .ok (.i2l, 1) := dk_133 (dk_at dksX9_root_0 6 rfl rfl)
theorem dX9_root_7 : decode cX9_root 7 = .ok (.invokevirtual 16, 3) := dk_182 0 16 (dk_at dksX9_root_0 7 rfl rfl)
theorem dX9_root_10 : decode cX9_root 10 = .ok (.ifCond .ne 9, 3) := dk_154 0 9 (dk_at dksX9_root_0 10 rfl rfl)
theorem dX9_root_13 : decode cX9_root 13 = .ok (.iinc 1 1, 3) := dk_132 1 1 (dk_at dksX9_root_0 13 rfl rfl)
theorem dX9_root_16 : decode cX9_root 16 = .ok (.goto (-14), 3) := dk_167 255 242 (dk_at dksX9_root_0 16 rfl rfl)
theorem dX9_root_19 : decode cX9_root 19 = .ok (.iload_n 1, 1) := dk_27 (dk_at dksX9_root_0 19 rfl rfl)
theorem dX9_root_20 : decode cX9_root 20 = .ok (.ireturn, 1) := dk_172 (dk_at dksX9_root_0 20 rfl rfl)
def dkwX9_isLessThan_0 : List UInt8 := [42, 180, 0, 7, 31, 31, 105, 42, 180, 0, 13, 105, 148, 156, 0, 7, 4, 167, 0, 4, 3, 172]
abbrev dktX9_isLessThan_0 : List UInt8 := dkwX9_isLessThan_0 ++ []
theorem dksX9_isLessThan_0 : cX9_isLessThan.data.toList.drop 0 = dktX9_isLessThan_0 := by decide +kernel
theorem dX9_isLessThan_0 : decode cX9_isLessThan 0 = .ok (.aload_n 0, 1) := dk_42 (dk_at dksX9_isLessThan_0 0 rfl rfl)
theorem dX9_isLessThan_1 : decode cX9_isLessThan 1 = .ok (.getfield 7, 3) := dk_180 0 7 (dk_at dksX9_isLessThan_0 1 rfl rfl)
theorem dX9_isLessThan_4 : decode cX9_isLessThan 4 = .ok (.lload_n 1, 1) := dk_31 (dk_at dksX9_isLessThan_0 4 rfl rfl)
theorem dX9_isLessThan_5 : decode cX9_isLessThan 5 = .ok (.lload_n 1, 1) := dk_31 (dk_at dksX9_isLessThan_0 5 rfl rfl)
theorem dX9_isLessThan_6 : decode cX9_isLessThan 6 = .ok (.lmul, 1) := dk_105 (dk_at dksX9_isLessThan_0 6 rfl rfl)
theorem dX9_isLessThan_7 : decode cX9_isLessThan 7 = .ok (.aload_n 0, 1) := dk_42 (dk_at dksX9_isLessThan_0 7 rfl rfl)
theorem dX9_isLessThan_8 : decode cX9_isLessThan 8 = .ok (.getfield 13, 3) := dk_180 0 13 (dk_at dksX9_isLessThan_0 8 rfl rfl)
theorem dX9_isLessThan_11 : decode cX9_isLessThan 11 = .ok (.lmul, 1) := dk_105 (dk_at dksX9_isLessThan_0 11 rfl rfl)
theorem dX9_isLessThan_12 : decode cX9_isLessThan 12 = .ok (.lcmp, 1) := dk_148 (dk_at dksX9_isLessThan_0 12 rfl rfl)
theorem dX9_isLessThan_13 : decode cX9_isLessThan 13 = .ok (.ifCond .ge 7, 3) := dk_156 0 7 (dk_at dksX9_isLessThan_0 13 rfl rfl)
theorem dX9_isLessThan_16 : decode cX9_isLessThan 16 = .ok (.iconst 1, 1) := dk_4 (dk_at dksX9_isLessThan_0 16 rfl rfl)
theorem dX9_isLessThan_17 : decode cX9_isLessThan 17 = .ok (.goto 4, 3) := dk_167 0 4 (dk_at dksX9_isLessThan_0 17 rfl rfl)
theorem dX9_isLessThan_20 : decode cX9_isLessThan 20 = .ok (.iconst 0, 1) := dk_3 (dk_at dksX9_isLessThan_0 20 rfl rfl)
theorem dX9_isLessThan_21 : decode cX9_isLessThan 21 = .ok (.ireturn, 1) := dk_172 (dk_at dksX9_isLessThan_0 21 rfl rfl)
