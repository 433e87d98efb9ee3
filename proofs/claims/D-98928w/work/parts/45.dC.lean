set_option maxRecDepth 100000
def dkwX0_house_0 : List UInt8 := [44, 3, 42, 27, 182, 0, 7, 133, 80, 167, 0, 6, 78, 4, 172, 3, 172]
abbrev dktX0_house_0 : List UInt8 := dkwX0_house_0 ++ []
theorem dksX0_house_0 : cX0_house.data.toList.drop 0 = dktX0_house_0 := by decide +kernel
theorem dX0_house_0 : decode cX0_house 0 = .ok (.aload_n 2, 1) := dk_44 (dk_at dksX0_house_0 0 rfl rfl)
theorem dX0_house_1 : decode cX0_house 1 = .ok (.iconst 0, 1) := dk_3 (dk_at dksX0_house_0 1 rfl rfl)
theorem dX0_house_2 : decode cX0_house 2 = .ok (.aload_n 0, 1) := dk_42 (dk_at dksX0_house_0 2 rfl rfl)
theorem dX0_house_3 : decode cX0_house 3 = .ok (.iload_n 1, 1) := dk_27 (dk_at dksX0_house_0 3 rfl rfl)
theorem dX0_house_4 : decode cX0_house 4 = .ok (.invokevirtual 7, 3) := dk_182 0 7 (dk_at dksX0_house_0 4 rfl rfl)
theorem dX0_house_7 : decode cX0_house 7 = .ok (.i2l, 1) := dk_133 (dk_at dksX0_house_0 7 rfl rfl)
theorem dX0_house_8 : decode cX0_house 8 = .ok (.lastore, 1) := dk_80 (dk_at dksX0_house_0 8 rfl rfl)
theorem dX0_house_9 : decode cX0_house 9 = .ok (.goto 6, 3) := dk_167 0 6 (dk_at dksX0_house_0 9 rfl rfl)
theorem dX0_house_12 : decode cX0_house 12 = .ok (.astore_n 3, 1) := dk_78 (dk_at dksX0_house_0 12 rfl rfl)
theorem dX0_house_13 : decode cX0_house 13 = .ok (.iconst 1, 1) := dk_4 (dk_at dksX0_house_0 13 rfl rfl)
theorem dX0_house_14 : decode cX0_house 14 = .ok (.ireturn, 1) := dk_172 (dk_at dksX0_house_0 14 rfl rfl)
theorem dX0_house_15 : decode cX0_house 15 = .ok (.iconst 0, 1) := dk_3 (dk_at dksX0_house_0 15 rfl rfl)
theorem dX0_house_16 : decode cX0_house 16 = .ok (.ireturn, 1) := dk_172 (dk_at dksX0_house_0 16 rfl rfl)
def dkwX0_law_0 : List UInt8 := [44, 3, 42, 27, 182, 0, 15, 133, 80, 167, 0, 6, 78, 4, 172, 3, 172]
abbrev dktX0_law_0 : List UInt8 := dkwX0_law_0 ++ []
theorem dksX0_law_0 : cX0_law.data.toList.drop 0 = dktX0_law_0 := by decide +kernel
theorem dX0_law_0 : decode cX0_law 0 = .ok (.aload_n 2, 1) := dk_44 (dk_at dksX0_law_0 0 rfl rfl)
theorem dX0_law_1 : decode cX0_law 1 = .ok (.iconst 0, 1) := dk_3 (dk_at dksX0_law_0 1 rfl rfl)
theorem dX0_law_2 : decode cX0_law 2 = .ok (.aload_n 0, 1) := dk_42 (dk_at dksX0_law_0 2 rfl rfl)
theorem dX0_law_3 : decode cX0_law 3 = .ok (.iload_n 1, 1) := dk_27 (dk_at dksX0_law_0 3 rfl rfl)
theorem dX0_law_4 : decode cX0_law 4 = .ok (.invokevirtual 15, 3) := dk_182 0 15 (dk_at dksX0_law_0 4 rfl rfl)
theorem dX0_law_7 : decode cX0_law 7 = .ok (.i2l, 1) := dk_133 (dk_at dksX0_law_0 7 rfl rfl)
theorem dX0_law_8 : decode cX0_law 8 = .ok (.lastore, 1) := dk_80 (dk_at dksX0_law_0 8 rfl rfl)
theorem dX0_law_9 : decode cX0_law 9 = .ok (.goto 6, 3) := dk_167 0 6 (dk_at dksX0_law_0 9 rfl rfl)
theorem dX0_law_12 : decode cX0_law 12 = .ok (.astore_n 3, 1) := dk_78 (dk_at dksX0_law_0 12 rfl rfl)
theorem dX0_law_13 : decode cX0_law 13 = .ok (.iconst 1, 1) := dk_4 (dk_at dksX0_law_0 13 rfl rfl)
theorem dX0_law_14 : decode cX0_law 14 = .ok (.ireturn, 1) := dk_172 (dk_at dksX0_law_0 14 rfl rfl)
theorem dX0_law_15 : decode cX0_law 15 = .ok (.iconst 0, 1) := dk_3 (dk_at dksX0_law_0 15 rfl rfl)
theorem dX0_law_16 : decode cX0_law 16 = .ok (.ireturn, 1) := dk_172 (dk_at dksX0_law_0 16 rfl rfl)
def dkwX0_work_0 : List UInt8 := [44, 3, 42, 27, 182, 0, 18, 133, 80, 167, 0, 6, 78, 4, 172, 3, 172]
abbrev dktX0_work_0 : List UInt8 := dkwX0_work_0 ++ []
theorem dksX0_work_0 : cX0_work.data.toList.drop 0 = dktX0_work_0 := by decide +kernel
theorem dX0_work_0 : decode cX0_work 0 = .ok (.aload_n 2, 1) := dk_44 (dk_at dksX0_work_0 0 rfl rfl)
theorem dX0_work_1 : decode cX0_work 1 = .ok (.iconst 0, 1) := dk_3 (dk_at dksX0_work_0 1 rfl rfl)
theorem dX0_work_2 : decode cX0_work 2 = .ok (.aload_n 0, 1) := dk_42 (dk_at dksX0_work_0 2 rfl rfl)
theorem dX0_work_3 : decode cX0_work 3 = .ok (.iload_n 1, 1) := dk_27 (dk_at dksX0_work_0 3 rfl rfl)
theorem dX0_work_4 : decode cX0_work 4 = .ok (.invokevirtual 18, 3) := dk_182 0 18 (dk_at dksX0_work_0 4 rfl rfl)
theorem dX0_work_7 : decode cX0_work 7 = .ok (.i2l, 1) := dk_133 (dk_at dksX0_work_0 7 rfl rfl)
theorem dX0_work_8 : decode cX0_work 8 = .ok (.lastore, 1) := dk_80 (dk_at dksX0_work_0 8 rfl rfl)
theorem dX0_work_9 : decode cX0_work 9 = .ok (.goto 6, 3) := dk_167 0 6 (dk_at dksX0_work_0 9 rfl rfl)
theorem dX0_work_12 : decode cX0_work 12 = .ok (.astore_n 3, 1) := dk_78 (dk_at dksX0_work_0 12 rfl rfl)
theorem dX0_work_13 : decode cX0_work 13 = .ok (.iconst 1, 1) := dk_4 (dk_at dksX0_work_0 13 rfl rfl)
theorem dX0_work_14 : decode cX0_work 14 = .ok (.ireturn, 1) := dk_172 (dk_at dksX0_work_0 14 rfl rfl)
theorem dX0_work_15 : decode cX0_work 15 = .ok (.iconst 0, 1) := dk_3 (dk_at dksX0_work_0 15 rfl rfl)
theorem dX0_work_16 : decode cX0_work 16 = .ok (.ireturn, 1) := dk_172 (dk_at dksX0_work_0 16 rfl rfl)
def dkwX0_seen_0 : List UInt8 := [44, 3, 42, 27, 182, 0, 21, 133, 80, 167, 0, 6, 78, 4, 172, 3, 172]
abbrev dktX0_seen_0 : List UInt8 := dkwX0_seen_0 ++ []
theorem dksX0_seen_0 : cX0_seen.data.toList.drop 0 = dktX0_seen_0 := by decide +kernel
theorem dX0_seen_0 : decode cX0_seen 0 = .ok (.aload_n 2, 1) := dk_44 (dk_at dksX0_seen_0 0 rfl rfl)
theorem dX0_seen_1 : decode cX0_seen 1 = .ok (.iconst 0, 1) := dk_3 (dk_at dksX0_seen_0 1 rfl rfl)
theorem dX0_seen_2 : decode cX0_seen 2 = .ok (.aload_n 0, 1) := dk_42 (dk_at dksX0_seen_0 2 rfl rfl)
theorem dX0_seen_3 : decode cX0_seen 3 = .ok (.iload_n 1, 1) := dk_27 (dk_at dksX0_seen_0 3 rfl rfl)
theorem dX0_seen_4 : decode cX0_seen 4 = .ok (.invokevirtual 21, 3) := dk_182 0 21 (dk_at dksX0_seen_0 4 rfl rfl)
theorem dX0_seen_7 : decode cX0_seen 7 = .ok (.i2l, 1) := dk_133 (dk_at dksX0_seen_0 7 rfl rfl)
theorem dX0_seen_8 : decode cX0_seen 8 = .ok (.lastore, 1) := dk_80 (dk_at dksX0_seen_0 8 rfl rfl)
theorem dX0_seen_9 : decode cX0_seen 9 = .ok (.goto 6, 3) := dk_167 0 6 (dk_at dksX0_seen_0 9 rfl rfl)
theorem dX0_seen_12 : decode cX0_seen 12 = .ok (.astore_n 3, 1) := dk_78 (dk_at dksX0_seen_0 12 rfl rfl)
theorem dX0_seen_13 : decode cX0_seen 13 = .ok (.iconst 1, 1) := dk_4 (dk_at dksX0_seen_0 13 rfl rfl)
theorem dX0_seen_14 : decode cX0_seen 14 = .ok (.ireturn, 1) := dk_172 (dk_at dksX0_seen_0 14 rfl rfl)
theorem dX0_seen_15 : decode cX0_seen 15 = .ok (.iconst 0, 1) := dk_3 (dk_at dksX0_seen_0 15 rfl rfl)
theorem dX0_seen_16 : decode cX0_seen 16 = .ok (.ireturn, 1) := dk_172 (dk_at dksX0_seen_0 16 rfl rfl)
def dkwX0_told_0 : List UInt8 := [44, 3, 42, 27, 182, 0, 24, 133, 80, 167, 0, 6, 78, 4, 172, 3, 172]
abbrev dktX0_told_0 : List UInt8 := dkwX0_told_0 ++ []
theorem dksX0_told_0 : cX0_told.data.toList.drop 0 = dktX0_told_0 := by decide +kernel
theorem dX0_told_0 : decode cX0_told 0 = .ok (.aload_n 2, 1) := dk_44 (dk_at dksX0_told_0 0 rfl rfl)
theorem dX0_told_1 : decode cX0_told 1 = .ok (.iconst 0, 1) := dk_3 (dk_at dksX0_told_0 1 rfl rfl)
theorem dX0_told_2 : decode cX0_told 2 = .ok (.aload_n 0, 1) := dk_42 (dk_at dksX0_told_0 2 rfl rfl)
theorem dX0_told_3 : decode cX0_told 3 = .ok (.iload_n 1, 1) := dk_27 (dk_at dksX0_told_0 3 rfl rfl)
theorem dX0_told_4 : decode cX0_told 4 = .ok (.invokevirtual 24, 3) := dk_182 0 24 (dk_at dksX0_told_0 4 rfl rfl)
theorem dX0_told_7 : decode cX0_told 7 = .ok (.i2l, 1) := dk_133 (dk_at dksX0_told_0 7 rfl rfl)
theorem dX0_told_8 : decode cX0_told 8 = .ok (.lastore, 1) := dk_80 (dk_at dksX0_told_0 8 rfl rfl)
theorem dX0_told_9 : decode cX0_told 9 = .ok (.goto 6, 3) := dk_167 0 6 (dk_at dksX0_told_0 9 rfl rfl)
theorem dX0_told_12 : decode cX0_told 12 = .ok (.astore_n 3, 1) := dk_78 (dk_at dksX0_told_0 12 rfl rfl)
theorem dX0_told_13 : decode cX0_told 13 = .ok (.iconst 1, 1) := dk_4 (dk_at dksX0_told_0 13 rfl rfl)
theorem dX0_told_14 : decode cX0_told 14 = .ok (.ireturn, 1) := dk_172 (dk_at dksX0_told_0 14 rfl rfl)
theorem dX0_told_15 : decode cX0_told 15 = .ok (.iconst 0, 1) := dk_3 (dk_at dksX0_told_0 15 rfl rfl)
theorem dX0_told_16 : decode cX0_told 16 = .ok (.ireturn, 1) := dk_172 (dk_at dksX0_told_0 16 rfl rfl)
def dkwX0_sister_0 : List UInt8 := [45, 3, 42, 27, 28, 182, 0, 27, 133, 80, 167, 0, 11, 58, 4, 4, 172, 58, 4, 5, 172, 3, 172]
abbrev dktX0_sister_0 : List UInt8 := dkwX0_sister_0 ++ []
theorem dksX0_sister_0 : cX0_sister.data.toList.drop 0 = dktX0_sister_0 := by decide +kernel
theorem dX0_sister_0 : decode cX0_sister 0 = .ok (.aload_n 3, 1) := dk_45 (dk_at dksX0_sister_0 0 rfl rfl)
theorem dX0_sister_1 : decode cX0_sister 1 = .ok (.iconst 0, 1) := dk_3 (dk_at dksX0_sister_0 1 rfl rfl)
theorem dX0_sister_2 : decode cX0_sister 2 = .ok (.aload_n 0, 1) := dk_42 (dk_at dksX0_sister_0 2 rfl rfl)
theorem dX0_sister_3 : decode cX0_sister 3 = .ok (.iload_n 1, 1) := dk_27 (dk_at dksX0_sister_0 3 rfl rfl)
theorem dX0_sister_4 : decode cX0_sister 4 = .ok (.iload_n 2, 1) := dk_28 (dk_at dksX0_sister_0 4 rfl rfl)
theorem dX0_sister_5 : decode cX0_sister 5 = .ok (.invokevirtual 27, 3) := dk_182 0 27 (dk_at dksX0_sister_0 5 rfl rfl)
theorem dX0_sister_8 : decode cX0_sister 8 = .ok (.i2l, 1) := dk_133 (dk_at dksX0_sister_0 8 rfl rfl)
theorem dX0_sister_9 : decode cX0_sister 9 = .ok (.lastore, 1) := dk_80 (dk_at dksX0_sister_0 9 rfl rfl)
theorem dX0_sister_10 : decode cX0_sister 10 = .ok (.goto 11, 3) := dk_167 0 11 (dk_at dksX0_sister_0 10 rfl rfl)
theorem dX0_sister_13 : decode cX0_sister 13 = .ok (.astore 4, 2) := dk_58 4 (dk_at dksX0_sister_0 13 rfl rfl)
theorem dX0_sister_15 : decode cX0_sister 15 = .ok (.iconst 1, 1) := dk_4 (dk_at dksX0_sister_0 15 rfl rfl)
theorem dX0_sister_16 : decode cX0_sister 16 = .ok (.ireturn, 1) := dk_172 (dk_at dksX0_sister_0 16 rfl rfl)
theorem dX0_sister_17 : decode cX0_sister 17 = .ok (.astore 4, 2) := dk_58 4 (dk_at dksX0_sister_0 17 rfl rfl)
theorem dX0_sister_19 : decode cX0_sister 19 = .ok (.iconst 2, 1) := dk_5 (dk_at dksX0_sister_0 19 rfl rfl)
theorem dX0_sister_20 : decode cX0_sister 20 = .ok (.ireturn, 1) := dk_172 (dk_at dksX0_sister_0 20 rfl rfl)
theorem dX0_sister_21 : decode cX0_sister 21 = .ok (.iconst 0, 1) := dk_3 (dk_at dksX0_sister_0 21 rfl rfl)
theorem dX0_sister_22 : decode cX0_sister 22 = .ok (.ireturn, 1) := dk_172 (dk_at dksX0_sister_0 22 rfl rfl)
def dkwX0_relic_0 : List UInt8 := [45, 3, 42, 27, 28, 182, 0, 33, 133, 80, 167, 0, 11, 58, 4, 4, 172, 58, 4, 5, 172, 3, 172]
abbrev dktX0_relic_0 : List UInt8 := dkwX0_relic_0 ++ []
theorem dksX0_relic_0 : cX0_relic.data.toList.drop 0 = dktX0_relic_0 := by decide +kernel
theorem dX0_relic_0 : decode cX0_relic 0 = .ok (.aload_n 3, 1) := dk_45 (dk_at dksX0_relic_0 0 rfl rfl)
theorem dX0_relic_1 : decode cX0_relic 1 = .ok (.iconst 0, 1) := dk_3 (dk_at dksX0_relic_0 1 rfl rfl)
theorem dX0_relic_2 : decode cX0_relic 2 = .ok (.aload_n 0, 1) := dk_42 (dk_at dksX0_relic_0 2 rfl rfl)
theorem dX0_relic_3 : decode cX0_relic 3 = .ok (.iload_n 1, 1) := dk_27 (dk_at dksX0_relic_0 3 rfl rfl)
theorem dX0_relic_4 : decode cX0_relic 4 = .ok (.iload_n 2, 1) := dk_28 (dk_at dksX0_relic_0 4 rfl rfl)
theorem dX0_relic_5 : decode cX0_relic 5 = .ok (.invokevirtual 33, 3) := dk_182 0 33 (dk_at dksX0_relic_0 5 rfl rfl)
theorem dX0_relic_8 : decode cX0_relic 8 = .ok (.i2l, 1) := dk_133 (dk_at dksX0_relic_0 8 rfl rfl)
theorem dX0_relic_9 : decode cX0_relic 9 = .ok (.lastore, 1) := dk_80 (dk_at dksX0_relic_0 9 rfl rfl)
theorem dX0_relic_10 : decode cX0_relic 10 = .ok (.goto 11, 3) := dk_167 0 11 (dk_at dksX0_relic_0 10 rfl rfl)
theorem dX0_relic_13 : decode cX0_relic 13 = .ok (.astore 4, 2) := dk_58 4 (dk_at dksX0_relic_0 13 rfl rfl)
theorem dX0_relic_15 : decode cX0_relic 15 = .ok (.iconst 1, 1) := dk_4 (dk_at dksX0_relic_0 15 rfl rfl)
theorem dX0_relic_16 : decode cX0_relic 16 = .ok (.ireturn, 1) := dk_172 (dk_at dksX0_relic_0 16 rfl rfl)
theorem dX0_relic_17 : decode cX0_relic 17 = .ok (.astore 4, 2) := dk_58 4 (dk_at dksX0_relic_0 17 rfl rfl)
theorem dX0_relic_19 : decode cX0_relic 19 = .ok (.iconst 2, 1) := dk_5 (dk_at dksX0_relic_0 19 rfl rfl)
theorem dX0_relic_20 : decode cX0_relic 20 = .ok (.ireturn, 1) := dk_172 (dk_at dksX0_relic_0 20 rfl rfl)
theorem dX0_relic_21 : decode cX0_relic 21 = .ok (.iconst 0, 1) := dk_3 (dk_at dksX0_relic_0 21 rfl rfl)
theorem dX0_relic_22 : decode cX0_relic 22 = .ok (.ireturn, 1) := dk_172 (dk_at dksX0_relic_0 22 rfl rfl)
def dkwX0_pilgrim_0 : List UInt8 := [45, 3, 42, 27, 28, 182, 0, 36, 133, 80, 167, 0, 11, 58, 4, 4, 172, 58, 4, 5, 172, 3, 172]
abbrev dktX0_pilgrim_0 : List UInt8 := dkwX0_pilgrim_0 ++ []
theorem dksX0_pilgrim_0 : cX0_pilgrim.data.toList.drop 0 = dktX0_pilgrim_0 := by decide +kernel
theorem dX0_pilgrim_0 : decode cX0_pilgrim 0 = .ok (.aload_n 3, 1) := dk_45 (dk_at dksX0_pilgrim_0 0 rfl rfl)
theorem dX0_pilgrim_1 : decode cX0_pilgrim 1 = .ok (.iconst 0, 1) := dk_3 (dk_at dksX0_pilgrim_0 1 rfl rfl)
theorem dX0_pilgrim_2 : decode cX0_pilgrim 2 = .ok (.aload_n 0, 1) := dk_42 (dk_at dksX0_pilgrim_0 2 rfl rfl)
theorem dX0_pilgrim_3 : decode cX0_pilgrim 3 = .ok (.iload_n 1, 1) := dk_27 (dk_at dksX0_pilgrim_0 3 rfl rfl)
theorem dX0_pilgrim_4 : decode cX0_pilgrim 4 = .ok (.iload_n 2, 1) := dk_28 (dk_at dksX0_pilgrim_0 4 rfl rfl)
theorem dX0_pilgrim_5 : decode cX0_pilgrim 5 = .ok (.invokevirtual 36, 3) := dk_182 0 36 (dk_at dksX0_pilgrim_0 5 rfl rfl)
theorem dX0_pilgrim_8 : decode cX0_pilgrim 8 = .ok (.i2l, 1) := dk_133 (dk_at dksX0_pilgrim_0 8 rfl rfl)
theorem dX0_pilgrim_9 : decode cX0_pilgrim 9 = .ok (.lastore, 1) := dk_80 (dk_at dksX0_pilgrim_0 9 rfl rfl)
theorem dX0_pilgrim_10 : decode cX0_pilgrim 10 = .ok (.goto 11, 3) := dk_167 0 11 (dk_at dksX0_pilgrim_0 10 rfl rfl)
theorem dX0_pilgrim_13 : decode cX0_pilgrim 13 = .ok (.astore 4, 2) := dk_58 4 (dk_at dksX0_pilgrim_0 13 rfl rfl)
theorem dX0_pilgrim_15 : decode cX0_pilgrim 15 = .ok (.iconst 1, 1) := dk_4 (dk_at dksX0_pilgrim_0 15 rfl rfl)
theorem dX0_pilgrim_16 : decode cX0_pilgrim 16 = .ok (.ireturn, 1) := dk_172 (dk_at dksX0_pilgrim_0 16 rfl rfl)
theorem dX0_pilgrim_17 : decode cX0_pilgrim 17 = .ok (.astore 4, 2) := dk_58 4 (dk_at dksX0_pilgrim_0 17 rfl rfl)
theorem dX0_pilgrim_19 : decode cX0_pilgrim 19 = .ok (.iconst 2, 1) := dk_5 (dk_at dksX0_pilgrim_0 19 rfl rfl)
theorem dX0_pilgrim_20 : decode cX0_pilgrim 20 = .ok (.ireturn, 1) := dk_172 (dk_at dksX0_pilgrim_0 20 rfl rfl)
theorem dX0_pilgrim_21 : decode cX0_pilgrim 21 = .ok (.iconst 0, 1) := dk_3 (dk_at dksX0_pilgrim_0 21 rfl rfl)
theorem dX0_pilgrim_22 : decode cX0_pilgrim 22 = .ok (.ireturn, 1) := dk_172 (dk_at dksX0_pilgrim_0 22 rfl rfl)
def dkwX0_would_1 : List UInt8 := [167, 0, 7, 58, 10, 4, 172, 3, 172]
abbrev dktX0_would_1 : List UInt8 := dkwX0_would_1 ++ []
def dkwX0_would_0 : List UInt8 := [25, 9, 3, 42, 27, 28, 29, 21, 4, 21, 5, 21, 6, 21, 7, 21, 8, 182, 0, 39, 133, 80]
abbrev dktX0_would_0 : List UInt8 := dkwX0_would_0 ++ dktX0_would_1
theorem dksX0_would_0 : cX0_would.data.toList.drop 0 = dktX0_would_0 := by decide +kernel
theorem dksX0_would_1 : cX0_would.data.toList.drop 22 = dktX0_would_1 := dk_seg dksX0_would_0 22 rfl rfl
theorem dX0_would_0 : decode cX0_would 0 = .ok (.aload 9, 2) := dk_25 9 (dk_at dksX0_would_0 0 rfl rfl)
theorem dX0_would_2 : decode cX0_would 2 = .ok (.iconst 0, 1) := dk_3 (dk_at dksX0_would_0 2 rfl rfl)
theorem dX0_would_3 : decode cX0_would 3 = .ok (.aload_n 0, 1) := dk_42 (dk_at dksX0_would_0 3 rfl rfl)
theorem dX0_would_4 : decode cX0_would 4 = .ok (.iload_n 1, 1) := dk_27 (dk_at dksX0_would_0 4 rfl rfl)
theorem dX0_would_5 : decode cX0_would 5 = .ok (.iload_n 2, 1) := dk_28 (dk_at dksX0_would_0 5 rfl rfl)
theorem dX0_would_6 : decode cX0_would 6 = .ok (.iload_n 3, 1) := dk_29 (dk_at dksX0_would_0 6 rfl rfl)
theorem dX0_would_7 : decode cX0_would 7 = .ok (.iload 4, 2) := dk_21 4 (dk_at dksX0_would_0 7 rfl rfl)
theorem dX0_would_9 : decode cX0_would 9 = .ok (.iload 5, 2) := dk_21 5 (dk_at dksX0_would_0 9 rfl rfl)
theorem dX0_would_11 : decode cX0_would 11 = .ok (.iload 6, 2) := dk_21 6 (dk_at dksX0_would_0 11 rfl rfl)
theorem dX0_would_13 : decode cX0_would 13 = .ok (.iload 7, 2) := dk_21 7 (dk_at dksX0_would_0 13 rfl rfl)
theorem dX0_would_15 : decode cX0_would 15 = .ok (.iload 8, 2) := dk_21 8 (dk_at dksX0_would_0 15 rfl rfl)
theorem dX0_would_17 : decode cX0_would 17 = .ok (.invokevirtual 39, 3) := dk_182 0 39 (dk_at dksX0_would_0 17 rfl rfl)
theorem dX0_would_20 : decode cX0_would 20 = .ok (.i2l, 1) := dk_133 (dk_at dksX0_would_0 20 rfl rfl)
theorem dX0_would_21 : decode cX0_would 21 = .ok (.lastore, 1) := dk_80 (dk_at dksX0_would_0 21 rfl rfl)
theorem dX0_would_22 : decode cX0_would 22 = .ok (.goto 7, 3) := dk_167 0 7 (dk_at dksX0_would_1 0 rfl rfl)
theorem dX0_would_25 : decode cX0_would 25 = .ok (.astore 10, 2) := dk_58 10 (dk_at dksX0_would_1 3 rfl rfl)
theorem dX0_would_27 : decode cX0_would 27 = .ok (.iconst 1, 1) := dk_4 (dk_at dksX0_would_1 5 rfl rfl)
theorem dX0_would_28 : decode cX0_would 28 = .ok (.ireturn, 1) := dk_172 (dk_at dksX0_would_1 6 rfl rfl)
theorem dX0_would_29 : decode cX0_would 29 = .ok (.iconst 0, 1) := dk_3 (dk_at dksX0_would_1 7 rfl rfl)
theorem dX0_would_30 : decode cX0_would 30 = .ok (.ireturn, 1) := dk_172 (dk_at dksX0_would_1 8 rfl rfl)
def dkwX0_can_1 : List UInt8 := [3, 172]
abbrev dktX0_can_1 : List UInt8 := dkwX0_can_1 ++ []
def dkwX0_can_0 : List UInt8 := [45, 3, 42, 27, 28, 182, 0, 43, 153, 0, 7, 10, 167, 0, 4, 9, 80, 167, 0, 7, 58, 4, 4, 172]
abbrev dktX0_can_0 : List UInt8 := dkwX0_can_0 ++ dktX0_can_1
theorem dksX0_can_0 : cX0_can.data.toList.drop 0 = dktX0_can_0 := by decide +kernel
theorem dksX0_can_1 : cX0_can.data.toList.drop 24 = dktX0_can_1 := dk_seg dksX0_can_0 24 rfl rfl
theorem dX0_can_0 : decode cX0_can 0 = .ok (.aload_n 3, 1) := dk_45 (dk_at dksX0_can_0 0 rfl rfl)
theorem dX0_can_1 : decode cX0_can 1 = .ok (.iconst 0, 1) := dk_3 (dk_at dksX0_can_0 1 rfl rfl)
theorem dX0_can_2 : decode cX0_can 2 = .ok (.aload_n 0, 1) := dk_42 (dk_at dksX0_can_0 2 rfl rfl)
theorem dX0_can_3 : decode cX0_can 3 = .ok (.iload_n 1, 1) := dk_27 (dk_at dksX0_can_0 3 rfl rfl)
theorem dX0_can_4 : decode cX0_can 4 = .ok (.iload_n 2, 1) := dk_28 (dk_at dksX0_can_0 4 rfl rfl)
theorem dX0_can_5 : decode cX0_can 5 = .ok (.invokevirtual 43, 3) := dk_182 0 43 (dk_at dksX0_can_0 5 rfl rfl)
theorem dX0_can_8 : decode cX0_can 8 = .ok (.ifCond .eq 7, 3) := dk_153 0 7 (dk_at dksX0_can_0 8 rfl rfl)
theorem dX0_can_11 : decode cX0_can 11 = .ok (.lconst 1, 1) := dk_10 (dk_at dksX0_can_0 11 rfl rfl)
theorem dX0_can_12 : decode cX0_can 12 = .ok (.goto 4, 3) := dk_167 0 4 (dk_at dksX0_can_0 12 rfl rfl)
theorem dX0_can_15 : decode cX0_can 15 = .ok (.lconst 0, 1) := dk_9 (dk_at dksX0_can_0 15 rfl rfl)
theorem dX0_can_16 : decode cX0_can 16 = .ok (.lastore, 1) := dk_80 (dk_at dksX0_can_0 16 rfl rfl)
theorem dX0_can_17 : decode cX0_can 17 = .ok (.goto 7, 3) := dk_167 0 7 (dk_at dksX0_can_0 17 rfl rfl)
theorem dX0_can_20 : decode cX0_can 20 = .ok (.astore 4, 2) := dk_58 4 (dk_at dksX0_can_0 20 rfl rfl)
theorem dX0_can_22 : decode cX0_can 22 = .ok (.iconst 1, 1) := dk_4 (dk_at dksX0_can_0 22 rfl rfl)
theorem dX0_can_23 : decode cX0_can 23 = .ok (.ireturn, 1) := dk_172 (dk_at dksX0_can_0 23 rfl rfl)
theorem dX0_can_24 : decode cX0_can 24 = .ok (.iconst 0, 1) := dk_3 (dk_at dksX0_can_1 0 rfl rfl)
theorem dX0_can_25 : decode cX0_can 25 = .ok (.ireturn, 1) := dk_172 (dk_at dksX0_can_1 1 rfl rfl)
def dkwX0_when_0 : List UInt8 := [45, 3, 42, 27, 28, 182, 0, 47, 133, 80, 167, 0, 7, 58, 4, 4, 172, 3, 172]
abbrev dktX0_when_0 : List UInt8 := dkwX0_when_0 ++ []
theorem dksX0_when_0 : cX0_when.data.toList.drop 0 = dktX0_when_0 := by decide +kernel
theorem dX0_when_0 : decode cX0_when 0 = .ok (.aload_n 3, 1) := dk_45 (dk_at dksX0_when_0 0 rfl rfl)
theorem dX0_when_1 : decode cX0_when 1 = .ok (.iconst 0, 1) := dk_3 (dk_at dksX0_when_0 1 rfl rfl)
theorem dX0_when_2 : decode cX0_when 2 = .ok (.aload_n 0, 1) := dk_42 (dk_at dksX0_when_0 2 rfl rfl)
theorem dX0_when_3 : decode cX0_when 3 = .ok (.iload_n 1, 1) := dk_27 (dk_at dksX0_when_0 3 rfl rfl)
theorem dX0_when_4 : decode cX0_when 4 = .ok (.iload_n 2, 1) := dk_28 (dk_at dksX0_when_0 4 rfl rfl)
theorem dX0_when_5 : decode cX0_when 5 = .ok (.invokevirtual 47, 3) := dk_182 0 47 (dk_at dksX0_when_0 5 rfl rfl)
theorem dX0_when_8 : decode cX0_when 8 = .ok (.i2l, 1) := dk_133 (dk_at dksX0_when_0 8 rfl rfl)
theorem dX0_when_9 : decode cX0_when 9 = .ok (.lastore, 1) := dk_80 (dk_at dksX0_when_0 9 rfl rfl)
theorem dX0_when_10 : decode cX0_when 10 = .ok (.goto 7, 3) := dk_167 0 7 (dk_at dksX0_when_0 10 rfl rfl)
theorem dX0_when_13 : decode cX0_when 13 = .ok (.astore 4, 2) := dk_58 4 (dk_at dksX0_when_0 13 rfl rfl)
theorem dX0_when_15 : decode cX0_when 15 = .ok (.iconst 1, 1) := dk_4 (dk_at dksX0_when_0 15 rfl rfl)
theorem dX0_when_16 : decode cX0_when 16 = .ok (.ireturn, 1) := dk_172 (dk_at dksX0_when_0 16 rfl rfl)
theorem dX0_when_17 : decode cX0_when 17 = .ok (.iconst 0, 1) := dk_3 (dk_at dksX0_when_0 17 rfl rfl)
theorem dX0_when_18 : decode cX0_when 18 = .ok (.ireturn, 1) := dk_172 (dk_at dksX0_when_0 18 rfl rfl)
def dkwX0_ahead_1 : List UInt8 := [172]
abbrev dktX0_ahead_1 : List UInt8 := dkwX0_ahead_1 ++ []
def dkwX0_ahead_0 : List UInt8 := [25, 4, 3, 42, 27, 28, 29, 182, 0, 50, 133, 80, 167, 0, 11, 58, 5, 4, 172, 58, 5, 5, 172, 3]
abbrev dktX0_ahead_0 : List UInt8 := dkwX0_ahead_0 ++ dktX0_ahead_1
theorem dksX0_ahead_0 : cX0_ahead.data.toList.drop 0 = dktX0_ahead_0 := by decide +kernel
theorem dksX0_ahead_1 : cX0_ahead.data.toList.drop 24 = dktX0_ahead_1 := dk_seg dksX0_ahead_0 24 rfl rfl
theorem dX0_ahead_0 : decode cX0_ahead 0 = .ok (.aload 4, 2) := dk_25 4 (dk_at dksX0_ahead_0 0 rfl rfl)
theorem dX0_ahead_2 : decode cX0_ahead 2 = .ok (.iconst 0, 1) := dk_3 (dk_at dksX0_ahead_0 2 rfl rfl)
theorem dX0_ahead_3 : decode cX0_ahead 3 = .ok (.aload_n 0, 1) := dk_42 (dk_at dksX0_ahead_0 3 rfl rfl)
theorem dX0_ahead_4 : decode cX0_ahead 4 = .ok (.iload_n 1, 1) := dk_27 (dk_at dksX0_ahead_0 4 rfl rfl)
theorem dX0_ahead_5 : decode cX0_ahead 5 = .ok (.iload_n 2, 1) := dk_28 (dk_at dksX0_ahead_0 5 rfl rfl)
theorem dX0_ahead_6 : decode cX0_ahead 6 = .ok (.iload_n 3, 1) := dk_29 (dk_at dksX0_ahead_0 6 rfl rfl)
theorem dX0_ahead_7 : decode cX0_ahead 7 = .ok (.invokevirtual 50, 3) := dk_182 0 50 (dk_at dksX0_ahead_0 7 rfl rfl)
theorem dX0_ahead_10 : decode cX0_ahead 10 = .ok (.i2l, 1) := dk_133 (dk_at dksX0_ahead_0 10 rfl rfl)
theorem dX0_ahead_11 : decode cX0_ahead 11 = .ok (.lastore, 1) := dk_80 (dk_at dksX0_ahead_0 11 rfl rfl)
theorem dX0_ahead_12 : decode cX0_ahead 12 = .ok (.goto 11, 3) := dk_167 0 11 (dk_at dksX0_ahead_0 12 rfl rfl)
theorem dX0_ahead_15 : decode cX0_ahead 15 = .ok (.astore 5, 2) := dk_58 5 (dk_at dksX0_ahead_0 15 rfl rfl)
theorem dX0_ahead_17 : decode cX0_ahead 17 = .ok (.iconst 1, 1) := dk_4 (dk_at dksX0_ahead_0 17 rfl rfl)
theorem dX0_ahead_18 : decode cX0_ahead 18 = .ok (.ireturn, 1) := dk_172 (dk_at dksX0_ahead_0 18 rfl rfl)
theorem dX0_ahead_19 : decode cX0_ahead 19 = .ok (.astore 5, 2) := dk_58 5 (dk_at dksX0_ahead_0 19 rfl rfl)
theorem dX0_ahead_21 : decode cX0_ahead 21 = .ok (.iconst 2, 1) := dk_5 (dk_at dksX0_ahead_0 21 rfl rfl)
theorem dX0_ahead_22 : decode cX0_ahead 22 = .ok (.ireturn, 1) := dk_172 (dk_at dksX0_ahead_0 22 rfl rfl)
theorem dX0_ahead_23 : decode cX0_ahead 23 = .ok (.iconst 0, 1) := dk_3 (dk_at dksX0_ahead_0 23 rfl rfl)
theorem dX0_ahead_24 : decode cX0_ahead 24 = .ok (.ireturn, 1) := dk_172 (dk_at dksX0_ahead_1 0 rfl rfl)
def dkwX0_matched_0 : List UInt8 := [44, 3, 42, 27, 182, 0, 54, 133, 80, 167, 0, 6, 78, 4, 172, 3, 172]
abbrev dktX0_matched_0 : List UInt8 := dkwX0_matched_0 ++ []
theorem dksX0_matched_0 : cX0_matched.data.toList.drop 0 = dktX0_matched_0 := by decide +kernel
theorem dX0_matched_0 : decode cX0_matched 0 = .ok (.aload_n 2, 1) := dk_44 (dk_at dksX0_matched_0 0 rfl rfl)
theorem dX0_matched_1 : decode cX0_matched 1 = .ok (.iconst 0, 1) := dk_3 (dk_at dksX0_matched_0 1 rfl rfl)
theorem dX0_matched_2 : decode cX0_matched 2 = .ok (.aload_n 0, 1) := dk_42 (dk_at dksX0_matched_0 2 rfl rfl)
theorem dX0_matched_3 : decode cX0_matched 3 = .ok (.iload_n 1, 1) := dk_27 (dk_at dksX0_matched_0 3 rfl rfl)
theorem dX0_matched_4 : decode cX0_matched 4 = .ok (.invokevirtual 54, 3) := dk_182 0 54 (dk_at dksX0_matched_0 4 rfl rfl)
theorem dX0_matched_7 : decode cX0_matched 7 = .ok (.i2l, 1) := dk_133 (dk_at dksX0_matched_0 7 rfl rfl)
theorem dX0_matched_8 : decode cX0_matched 8 = .ok (.lastore, 1) := dk_80 (dk_at dksX0_matched_0 8 rfl rfl)
theorem dX0_matched_9 : decode cX0_matched 9 = .ok (.goto 6, 3) := dk_167 0 6 (dk_at dksX0_matched_0 9 rfl rfl)
theorem dX0_matched_12 : decode cX0_matched 12 = .ok (.astore_n 3, 1) := dk_78 (dk_at dksX0_matched_0 12 rfl rfl)
theorem dX0_matched_13 : decode cX0_matched 13 = .ok (.iconst 1, 1) := dk_4 (dk_at dksX0_matched_0 13 rfl rfl)
theorem dX0_matched_14 : decode cX0_matched 14 = .ok (.ireturn, 1) := dk_172 (dk_at dksX0_matched_0 14 rfl rfl)
theorem dX0_matched_15 : decode cX0_matched 15 = .ok (.iconst 0, 1) := dk_3 (dk_at dksX0_matched_0 15 rfl rfl)
theorem dX0_matched_16 : decode cX0_matched 16 = .ok (.ireturn, 1) := dk_172 (dk_at dksX0_matched_0 16 rfl rfl)
def dkwX0_lapsed_0 : List UInt8 := [44, 3, 42, 27, 182, 0, 57, 133, 80, 167, 0, 6, 78, 4, 172, 3, 172]
abbrev dktX0_lapsed_0 : List UInt8 := dkwX0_lapsed_0 ++ []
theorem dksX0_lapsed_0 : cX0_lapsed.data.toList.drop 0 = dktX0_lapsed_0 := by decide +kernel
theorem dX0_lapsed_0 : decode cX0_lapsed 0 = .ok (.aload_n 2, 1) := dk_44 (dk_at dksX0_lapsed_0 0 rfl rfl)
theorem dX0_lapsed_1 : decode cX0_lapsed 1 = .ok (.iconst 0, 1) := dk_3 (dk_at dksX0_lapsed_0 1 rfl rfl)
theorem dX0_lapsed_2 : decode cX0_lapsed 2 = .ok (.aload_n 0, 1) := dk_42 (dk_at dksX0_lapsed_0 2 rfl rfl)
theorem dX0_lapsed_3 : decode cX0_lapsed 3 = .ok (.iload_n 1, 1) := dk_27 (dk_at dksX0_lapsed_0 3 rfl rfl)
theorem dX0_lapsed_4 : decode cX0_lapsed 4 = .ok (.invokevirtual 57, 3) := dk_182 0 57 (dk_at dksX0_lapsed_0 4 rfl rfl)
theorem dX0_lapsed_7 : decode cX0_lapsed 7 = .ok (.i2l, 1) := dk_133 (dk_at dksX0_lapsed_0 7 rfl rfl)
theorem dX0_lapsed_8 : decode cX0_lapsed 8 = .ok (.lastore, 1) := dk_80 (dk_at dksX0_lapsed_0 8 rfl rfl)
theorem dX0_lapsed_9 : decode cX0_lapsed 9 = .ok (.goto 6, 3) := dk_167 0 6 (dk_at dksX0_lapsed_0 9 rfl rfl)
theorem dX0_lapsed_12 : decode cX0_lapsed 12 = .ok (.astore_n 3, 1) := dk_78 (dk_at dksX0_lapsed_0 12 rfl rfl)
theorem dX0_lapsed_13 : decode cX0_lapsed 13 = .ok (.iconst 1, 1) := dk_4 (dk_at dksX0_lapsed_0 13 rfl rfl)
theorem dX0_lapsed_14 : decode cX0_lapsed 14 = .ok (.ireturn, 1) := dk_172 (dk_at dksX0_lapsed_0 14 rfl rfl)
theorem dX0_lapsed_15 : decode cX0_lapsed 15 = .ok (.iconst 0, 1) := dk_3 (dk_at dksX0_lapsed_0 15 rfl rfl)
theorem dX0_lapsed_16 : decode cX0_lapsed 16 = .ok (.ireturn, 1) := dk_172 (dk_at dksX0_lapsed_0 16 rfl rfl)
def dkwX0_ask_0 : List UInt8 := [44, 3, 42, 27, 182, 0, 60, 133, 80, 167, 0, 6, 78, 4, 172, 3, 172]
abbrev dktX0_ask_0 : List UInt8 := dkwX0_ask_0 ++ []
theorem dksX0_ask_0 : cX0_ask.data.toList.drop 0 = dktX0_ask_0 := by decide +kernel
theorem dX0_ask_0 : decode cX0_ask 0 = .ok (.aload_n 2, 1) := dk_44 (dk_at dksX0_ask_0 0 rfl rfl)
theorem dX0_ask_1 : decode cX0_ask 1 = .ok (.iconst 0, 1) := dk_3 (dk_at dksX0_ask_0 1 rfl rfl)
theorem dX0_ask_2 : decode cX0_ask 2 = .ok (.aload_n 0, 1) := dk_42 (dk_at dksX0_ask_0 2 rfl rfl)
theorem dX0_ask_3 : decode cX0_ask 3 = .ok (.iload_n 1, 1) := dk_27 (dk_at dksX0_ask_0 3 rfl rfl)
theorem dX0_ask_4 : decode cX0_ask 4 = .ok (.invokevirtual 60, 3) := dk_182 0 60 (dk_at dksX0_ask_0 4 rfl rfl)
theorem dX0_ask_7 : decode cX0_ask 7 = .ok (.i2l, 1) := dk_133 (dk_at dksX0_ask_0 7 rfl rfl)
theorem dX0_ask_8 : decode cX0_ask 8 = .ok (.lastore, 1) := dk_80 (dk_at dksX0_ask_0 8 rfl rfl)
theorem dX0_ask_9 : decode cX0_ask 9 = .ok (.goto 6, 3) := dk_167 0 6 (dk_at dksX0_ask_0 9 rfl rfl)
theorem dX0_ask_12 : decode cX0_ask 12 = .ok (.astore_n 3, 1) := dk_78 (dk_at dksX0_ask_0 12 rfl rfl)
theorem dX0_ask_13 : decode cX0_ask 13 = .ok (.iconst 1, 1) := dk_4 (dk_at dksX0_ask_0 13 rfl rfl)
theorem dX0_ask_14 : decode cX0_ask 14 = .ok (.ireturn, 1) := dk_172 (dk_at dksX0_ask_0 14 rfl rfl)
theorem dX0_ask_15 : decode cX0_ask 15 = .ok (.iconst 0, 1) := dk_3 (dk_at dksX0_ask_0 15 rfl rfl)
theorem dX0_ask_16 : decode cX0_ask 16 = .ok (.ireturn, 1) := dk_172 (dk_at dksX0_ask_0 16 rfl rfl)
def dkwX0_best_0 : List UInt8 := [25, 4, 3, 42, 27, 28, 29, 182, 0, 63, 80, 167, 0, 11, 58, 5, 4, 172, 58, 5, 5, 172, 3, 172]
abbrev dktX0_best_0 : List UInt8 := dkwX0_best_0 ++ []
theorem dksX0_best_0 : cX0_best.data.toList.drop 0 = dktX0_best_0 := by decide +kernel
theorem dX0_best_0 : decode cX0_best 0 = .ok (.aload 4, 2) := dk_25 4 (dk_at dksX0_best_0 0 rfl rfl)
theorem dX0_best_2 : decode cX0_best 2 = .ok (.iconst 0, 1) := dk_3 (dk_at dksX0_best_0 2 rfl rfl)
theorem dX0_best_3 : decode cX0_best 3 = .ok (.aload_n 0, 1) := dk_42 (dk_at dksX0_best_0 3 rfl rfl)
theorem dX0_best_4 : decode cX0_best 4 = .ok (.iload_n 1, 1) := dk_27 (dk_at dksX0_best_0 4 rfl rfl)
theorem dX0_best_5 : decode cX0_best 5 = .ok (.iload_n 2, 1) := dk_28 (dk_at dksX0_best_0 5 rfl rfl)
theorem dX0_best_6 : decode cX0_best 6 = .ok (.iload_n 3, 1) := dk_29 (dk_at dksX0_best_0 6 rfl rfl)
theorem dX0_best_7 : decode cX0_best 7 = .ok (.invokevirtual 63, 3) := dk_182 0 63 (dk_at dksX0_best_0 7 rfl rfl)
theorem dX0_best_10 : decode cX0_best 10 = .ok (.lastore, 1) := dk_80 (dk_at dksX0_best_0 10 rfl rfl)
theorem dX0_best_11 : decode cX0_best 11 = .ok (.goto 11, 3) := dk_167 0 11 (dk_at dksX0_best_0 11 rfl rfl)
theorem dX0_best_14 : decode cX0_best 14 = .ok (.astore 5, 2) := dk_58 5 (dk_at dksX0_best_0 14 rfl rfl)
theorem dX0_best_16 : decode cX0_best 16 = .ok (.iconst 1, 1) := dk_4 (dk_at dksX0_best_0 16 rfl rfl)
theorem dX0_best_17 : decode cX0_best 17 = .ok (.ireturn, 1) := dk_172 (dk_at dksX0_best_0 17 rfl rfl)
theorem dX0_best_18 : decode cX0_best 18 = .ok (.astore 5, 2) := dk_58 5 (dk_at dksX0_best_0 18 rfl rfl)
theorem dX0_best_20 : decode cX0_best 20 = .ok (.iconst 2, 1) := dk_5 (dk_at dksX0_best_0 20 rfl rfl)
theorem dX0_best_21 : decode cX0_best 21 = .ok (.ireturn, 1) := dk_172 (dk_at dksX0_best_0 21 rfl rfl)
theorem dX0_best_22 : decode cX0_best 22 = .ok (.iconst 0, 1) := dk_3 (dk_at dksX0_best_0 22 rfl rfl)
theorem dX0_best_23 : decode cX0_best 23 = .ok (.ireturn, 1) := dk_172 (dk_at dksX0_best_0 23 rfl rfl)
def dkwX0_without_0 : List UInt8 := [25, 4, 3, 42, 27, 28, 29, 182, 0, 67, 80, 167, 0, 11, 58, 5, 4, 172, 58, 5, 5, 172, 3, 172]
abbrev dktX0_without_0 : List UInt8 := dkwX0_without_0 ++ []
theorem dksX0_without_0 : cX0_without.data.toList.drop 0 = dktX0_without_0 := by decide +kernel
theorem dX0_without_0 : decode cX0_without 0 = .ok (.aload 4, 2) := dk_25 4 (dk_at dksX0_without_0 0 rfl rfl)
theorem dX0_without_2 : decode cX0_without 2 = .ok (.iconst 0, 1) := dk_3 (dk_at dksX0_without_0 2 rfl rfl)
theorem dX0_without_3 : decode cX0_without 3 = .ok (.aload_n 0, 1) := dk_42 (dk_at dksX0_without_0 3 rfl rfl)
theorem dX0_without_4 : decode cX0_without 4 = .ok (.iload_n 1, 1) := dk_27 (dk_at dksX0_without_0 4 rfl rfl)
theorem dX0_without_5 : decode cX0_without 5 = .ok (.iload_n 2, 1) := dk_28 (dk_at dksX0_without_0 5 rfl rfl)
theorem dX0_without_6 : decode cX0_without 6 = .ok (.iload_n 3, 1) := dk_29 (dk_at dksX0_without_0 6 rfl rfl)
theorem dX0_without_7 : decode cX0_without 7 = .ok (.invokevirtual 67, 3) := dk_182 0 67 (dk_at dksX0_without_0 7 rfl rfl)
theorem dX0_without_10 : decode cX0_without 10 = .ok (.lastore, 1) := dk_80 (dk_at dksX0_without_0 10 rfl rfl)
theorem dX0_without_11 : decode cX0_without 11 = .ok (.goto 11, 3) := dk_167 0 11 (dk_at dksX0_without_0 11 rfl rfl)
theorem dX0_without_14 : decode cX0_without 14 = .ok (.astore 5, 2) := dk_58 5 (dk_at dksX0_without_0 14 rfl rfl)
theorem dX0_without_16 : decode cX0_without 16 = .ok (.iconst 1, 1) := dk_4 (dk_at dksX0_without_0 16 rfl rfl)
theorem dX0_without_17 : decode cX0_without 17 = .ok (.ireturn, 1) := dk_172 (dk_at dksX0_without_0 17 rfl rfl)
theorem dX0_without_18 : decode cX0_without 18 = .ok (.astore 5, 2) := dk_58 5 (dk_at dksX0_without_0 18 rfl rfl)
theorem dX0_without_20 : decode cX0_without 20 = .ok (.iconst 2, 1) := dk_5 (dk_at dksX0_without_0 20 rfl rfl)
theorem dX0_without_21 : decode cX0_without 21 = .ok (.ireturn, 1) := dk_172 (dk_at dksX0_without_0 21 rfl rfl)
theorem dX0_without_22 : decode cX0_without 22 = .ok (.iconst 0, 1) := dk_3 (dk_at dksX0_without_0 22 rfl rfl)
theorem dX0_without_23 : decode cX0_without 23 = .ok (.ireturn, 1) := dk_172 (dk_at dksX0_without_0 23 rfl rfl)
def dkwX0_ring_0 : List UInt8 := [44, 3, 42, 27, 182, 0, 70, 133, 80, 167, 0, 6, 78, 4, 172, 3, 172]
abbrev dktX0_ring_0 : List UInt8 := dkwX0_ring_0 ++ []
theorem dksX0_ring_0 : cX0_ring.data.toList.drop 0 = dktX0_ring_0 := by decide +kernel
theorem dX0_ring_0 : decode cX0_ring 0 = .ok (.aload_n 2, 1) := dk_44 (dk_at dksX0_ring_0 0 rfl rfl)
theorem dX0_ring_1 : decode cX0_ring 1 = .ok (.iconst 0, 1) := dk_3 (dk_at dksX0_ring_0 1 rfl rfl)
theorem dX0_ring_2 : decode cX0_ring 2 = .ok (.aload_n 0, 1) := dk_42 (dk_at dksX0_ring_0 2 rfl rfl)
theorem dX0_ring_3 : decode cX0_ring 3 = .ok (.iload_n 1, 1) := dk_27 (dk_at dksX0_ring_0 3 rfl rfl)
theorem dX0_ring_4 : decode cX0_ring 4 = .ok (.invokevirtual 70, 3) := dk_182 0 70 (dk_at dksX0_ring_0 4 rfl rfl)
theorem dX0_ring_7 : decode cX0_ring 7 = .ok (.i2l, 1) := dk_133 (dk_at dksX0_ring_0 7 rfl rfl)
theorem dX0_ring_8 : decode cX0_ring 8 = .ok (.lastore, 1) := dk_80 (dk_at dksX0_ring_0 8 rfl rfl)
theorem dX0_ring_9 : decode cX0_ring 9 = .ok (.goto 6, 3) := dk_167 0 6 (dk_at dksX0_ring_0 9 rfl rfl)
theorem dX0_ring_12 : decode cX0_ring 12 = .ok (.astore_n 3, 1) := dk_78 (dk_at dksX0_ring_0 12 rfl rfl)
theorem dX0_ring_13 : decode cX0_ring 13 = .ok (.iconst 1, 1) := dk_4 (dk_at dksX0_ring_0 13 rfl rfl)
theorem dX0_ring_14 : decode cX0_ring 14 = .ok (.ireturn, 1) := dk_172 (dk_at dksX0_ring_0 14 rfl rfl)
theorem dX0_ring_15 : decode cX0_ring 15 = .ok (.iconst 0, 1) := dk_3 (dk_at dksX0_ring_0 15 rfl rfl)
theorem dX0_ring_16 : decode cX0_ring 16 = .ok (.ireturn, 1) := dk_172 (dk_at dksX0_ring_0 16 rfl rfl)
def dkwX0_follows_0 : List UInt8 := [45, 3, 42, 27, 28, 182, 0, 73, 133, 80, 167, 0, 11, 58, 4, 4, 172, 58, 4, 5, 172, 3, 172]
abbrev dktX0_follows_0 : List UInt8 := dkwX0_follows_0 ++ []
theorem dksX0_follows_0 : cX0_follows.data.toList.drop 0 = dktX0_follows_0 := by decide +kernel
theorem dX0_follows_0 : decode cX0_follows 0 = .ok (.aload_n 3, 1) := dk_45 (dk_at dksX0_follows_0 0 rfl rfl)
theorem dX0_follows_1 : decode cX0_follows 1 = .ok (.iconst 0, 1) := dk_3 (dk_at dksX0_follows_0 1 rfl rfl)
theorem dX0_follows_2 : decode cX0_follows 2 = .ok (.aload_n 0, 1) := dk_42 (dk_at dksX0_follows_0 2 rfl rfl)
theorem dX0_follows_3 : decode cX0_follows 3 = .ok (.iload_n 1, 1) := dk_27 (dk_at dksX0_follows_0 3 rfl rfl)
theorem dX0_follows_4 : decode cX0_follows 4 = .ok (.iload_n 2, 1) := dk_28 (dk_at dksX0_follows_0 4 rfl rfl)
theorem dX0_follows_5 : decode cX0_follows 5 = .ok (.invokevirtual 73, 3) := dk_182 0 73 (dk_at dksX0_follows_0 5 rfl rfl)
theorem dX0_follows_8 : decode cX0_follows 8 = .ok (.i2l, 1) := dk_133 (dk_at dksX0_follows_0 8 rfl rfl)
theorem dX0_follows_9 : decode cX0_follows 9 = .ok (.lastore, 1) := dk_80 (dk_at dksX0_follows_0 9 rfl rfl)
theorem dX0_follows_10 : decode cX0_follows 10 = .ok (.goto 11, 3) := dk_167 0 11 (dk_at dksX0_follows_0 10 rfl rfl)
theorem dX0_follows_13 : decode cX0_follows 13 = .ok (.astore 4, 2) := dk_58 4 (dk_at dksX0_follows_0 13 rfl rfl)
theorem dX0_follows_15 : decode cX0_follows 15 = .ok (.iconst 1, 1) := dk_4 (dk_at dksX0_follows_0 15 rfl rfl)
theorem dX0_follows_16 : decode cX0_follows 16 = .ok (.ireturn, 1) := dk_172 (dk_at dksX0_follows_0 16 rfl rfl)
theorem dX0_follows_17 : decode cX0_follows 17 = .ok (.astore 4, 2) := dk_58 4 (dk_at dksX0_follows_0 17 rfl rfl)
theorem dX0_follows_19 : decode cX0_follows 19 = .ok (.iconst 2, 1) := dk_5 (dk_at dksX0_follows_0 19 rfl rfl)
theorem dX0_follows_20 : decode cX0_follows 20 = .ok (.ireturn, 1) := dk_172 (dk_at dksX0_follows_0 20 rfl rfl)
theorem dX0_follows_21 : decode cX0_follows 21 = .ok (.iconst 0, 1) := dk_3 (dk_at dksX0_follows_0 21 rfl rfl)
theorem dX0_follows_22 : decode cX0_follows 22 = .ok (.ireturn, 1) := dk_172 (dk_at dksX0_follows_0 22 rfl rfl)
def dkwX0_tempted_0 : List UInt8 := [25, 4, 3, 42, 27, 28, 29, 182, 0, 76, 133, 80, 167, 0, 7, 58, 5, 4, 172, 3, 172]
abbrev dktX0_tempted_0 : List UInt8 := dkwX0_tempted_0 ++ []
theorem dksX0_tempted_0 : cX0_tempted.data.toList.drop 0 = dktX0_tempted_0 := by decide +kernel
theorem dX0_tempted_0 : decode cX0_tempted 0 = .ok (.aload 4, 2) := dk_25 4 (dk_at dksX0_tempted_0 0 rfl rfl)
theorem dX0_tempted_2 : decode cX0_tempted 2 = .ok (.iconst 0, 1) := dk_3 (dk_at dksX0_tempted_0 2 rfl rfl)
theorem dX0_tempted_3 : decode cX0_tempted 3 = .ok (.aload_n 0, 1) := dk_42 (dk_at dksX0_tempted_0 3 rfl rfl)
theorem dX0_tempted_4 : decode cX0_tempted 4 = .ok (.iload_n 1, 1) := dk_27 (dk_at dksX0_tempted_0 4 rfl rfl)
theorem dX0_tempted_5 : decode cX0_tempted 5 = .ok (.iload_n 2, 1) := dk_28 (dk_at dksX0_tempted_0 5 rfl rfl)
theorem dX0_tempted_6 : decode cX0_tempted 6 = .ok (.iload_n 3, 1) := dk_29 (dk_at dksX0_tempted_0 6 rfl rfl)
theorem dX0_tempted_7 : decode cX0_tempted 7 = .ok (.invokevirtual 76, 3) := dk_182 0 76 (dk_at dksX0_tempted_0 7 rfl rfl)
theorem dX0_tempted_10 : decode cX0_tempted 10 = .ok (.i2l, 1) := dk_133 (dk_at dksX0_tempted_0 10 rfl rfl)
theorem dX0_tempted_11 : decode cX0_tempted 11 = .ok (.lastore, 1) := dk_80 (dk_at dksX0_tempted_0 11 rfl rfl)
theorem dX0_tempted_12 : decode cX0_tempted 12 = .ok (.goto 7, 3) := dk_167 0 7 (dk_at dksX0_tempted_0 12 rfl rfl)
theorem dX0_tempted_15 : decode cX0_tempted 15 = .ok (.astore 5, 2) := dk_58 5 (dk_at dksX0_tempted_0 15 rfl rfl)
theorem dX0_tempted_17 : decode cX0_tempted 17 = .ok (.iconst 1, 1) := dk_4 (dk_at dksX0_tempted_0 17 rfl rfl)
theorem dX0_tempted_18 : decode cX0_tempted 18 = .ok (.ireturn, 1) := dk_172 (dk_at dksX0_tempted_0 18 rfl rfl)
theorem dX0_tempted_19 : decode cX0_tempted 19 = .ok (.iconst 0, 1) := dk_3 (dk_at dksX0_tempted_0 19 rfl rfl)
theorem dX0_tempted_20 : decode cX0_tempted 20 = .ok (.ireturn, 1) := dk_172 (dk_at dksX0_tempted_0 20 rfl rfl)
def dkwX0_alms_1 : List UInt8 := [172]
abbrev dktX0_alms_1 : List UInt8 := dkwX0_alms_1 ++ []
def dkwX0_alms_0 : List UInt8 := [25, 4, 3, 42, 27, 28, 29, 182, 0, 79, 133, 80, 167, 0, 11, 58, 5, 4, 172, 58, 5, 5, 172, 3]
abbrev dktX0_alms_0 : List UInt8 := dkwX0_alms_0 ++ dktX0_alms_1
theorem dksX0_alms_0 : cX0_alms.data.toList.drop 0 = dktX0_alms_0 := by decide +kernel
theorem dksX0_alms_1 : cX0_alms.data.toList.drop 24 = dktX0_alms_1 := dk_seg dksX0_alms_0 24 rfl rfl
theorem dX0_alms_0 : decode cX0_alms 0 = .ok (.aload 4, 2) := dk_25 4 (dk_at dksX0_alms_0 0 rfl rfl)
theorem dX0_alms_2 : decode cX0_alms 2 = .ok (.iconst 0, 1) := dk_3 (dk_at dksX0_alms_0 2 rfl rfl)
theorem dX0_alms_3 : decode cX0_alms 3 = .ok (.aload_n 0, 1) := dk_42 (dk_at dksX0_alms_0 3 rfl rfl)
theorem dX0_alms_4 : decode cX0_alms 4 = .ok (.iload_n 1, 1) := dk_27 (dk_at dksX0_alms_0 4 rfl rfl)
theorem dX0_alms_5 : decode cX0_alms 5 = .ok (.iload_n 2, 1) := dk_28 (dk_at dksX0_alms_0 5 rfl rfl)
theorem dX0_alms_6 : decode cX0_alms 6 = .ok (.iload_n 3, 1) := dk_29 (dk_at dksX0_alms_0 6 rfl rfl)
theorem dX0_alms_7 : decode cX0_alms 7 = .ok (.invokevirtual 79, 3) := dk_182 0 79 (dk_at dksX0_alms_0 7 rfl rfl)
theorem dX0_alms_10 : decode cX0_alms 10 = .ok (.i2l, 1) := dk_133 (dk_at dksX0_alms_0 10 rfl rfl)
theorem dX0_alms_11 : decode cX0_alms 11 = .ok (.lastore, 1) := dk_80 (dk_at dksX0_alms_0 11 rfl rfl)
theorem dX0_alms_12 : decode cX0_alms 12 = .ok (.goto 11, 3) := dk_167 0 11 (dk_at dksX0_alms_0 12 rfl rfl)
theorem dX0_alms_15 : decode cX0_alms 15 = .ok (.astore 5, 2) := dk_58 5 (dk_at dksX0_alms_0 15 rfl rfl)
theorem dX0_alms_17 : decode cX0_alms 17 = .ok (.iconst 1, 1) := dk_4 (dk_at dksX0_alms_0 17 rfl rfl)
theorem dX0_alms_18 : decode cX0_alms 18 = .ok (.ireturn, 1) := dk_172 (dk_at dksX0_alms_0 18 rfl rfl)
theorem dX0_alms_19 : decode cX0_alms 19 = .ok (.astore 5, 2) := dk_58 5 (dk_at dksX0_alms_0 19 rfl rfl)
theorem dX0_alms_21 : decode cX0_alms 21 = .ok (.iconst 2, 1) := dk_5 (dk_at dksX0_alms_0 21 rfl rfl)
theorem dX0_alms_22 : decode cX0_alms 22 = .ok (.ireturn, 1) := dk_172 (dk_at dksX0_alms_0 22 rfl rfl)
theorem dX0_alms_23 : decode cX0_alms 23 = .ok (.iconst 0, 1) := dk_3 (dk_at dksX0_alms_0 23 rfl rfl)
theorem dX0_alms_24 : decode cX0_alms 24 = .ok (.ireturn, 1) := dk_172 (dk_at dksX0_alms_1 0 rfl rfl)
def dkwX0_strongest_0 : List UInt8 := [44, 3, 42, 27, 182, 0, 82, 133, 80, 167, 0, 6, 78, 4, 172, 3, 172]
abbrev dktX0_strongest_0 : List UInt8 := dkwX0_strongest_0 ++ []
theorem dksX0_strongest_0 : cX0_strongest.data.toList.drop 0 = dktX0_strongest_0 := by decide +kernel
theorem dX0_strongest_0 : decode cX0_strongest 0 = .ok (.aload_n 2, 1) := dk_44 (dk_at dksX0_strongest_0 0 rfl rfl)
theorem dX0_strongest_1 : decode cX0_strongest 1 = .ok (.iconst 0, 1) := dk_3 (dk_at dksX0_strongest_0 1 rfl rfl)
theorem dX0_strongest_2 : decode cX0_strongest 2 = .ok (.aload_n 0, 1) := dk_42 (dk_at dksX0_strongest_0 2 rfl rfl)
theorem dX0_strongest_3 : decode cX0_strongest 3 = .ok (.iload_n 1, 1) := dk_27 (dk_at dksX0_strongest_0 3 rfl rfl)
theorem dX0_strongest_4 : decode cX0_strongest 4 = .ok (.invokevirtual 82, 3) := dk_182 0 82 (dk_at dksX0_strongest_0 4 rfl rfl)
theorem dX0_strongest_7 : decode cX0_strongest 7 = .ok (.i2l, 1) := dk_133 (dk_at dksX0_strongest_0 7 rfl rfl)
theorem dX0_strongest_8 : decode cX0_strongest 8 = .ok (.lastore, 1) := dk_80 (dk_at dksX0_strongest_0 8 rfl rfl)
theorem dX0_strongest_9 : decode cX0_strongest 9 = .ok (.goto 6, 3) := dk_167 0 6 (dk_at dksX0_strongest_0 9 rfl rfl)
theorem dX0_strongest_12 : decode cX0_strongest 12 = .ok (.astore_n 3, 1) := dk_78 (dk_at dksX0_strongest_0 12 rfl rfl)
theorem dX0_strongest_13 : decode cX0_strongest 13 = .ok (.iconst 1, 1) := dk_4 (dk_at dksX0_strongest_0 13 rfl rfl)
theorem dX0_strongest_14 : decode cX0_strongest 14 = .ok (.ireturn, 1) := dk_172 (dk_at dksX0_strongest_0 14 rfl rfl)
theorem dX0_strongest_15 : decode cX0_strongest 15 = .ok (.iconst 0, 1) := dk_3 (dk_at dksX0_strongest_0 15 rfl rfl)
theorem dX0_strongest_16 : decode cX0_strongest 16 = .ok (.ireturn, 1) := dk_172 (dk_at dksX0_strongest_0 16 rfl rfl)
def dkwX0_hopeless_0 : List UInt8 := [44, 3, 42, 27, 182, 0, 85, 133, 80, 167, 0, 6, 78, 4, 172, 3, 172]
abbrev dktX0_hopeless_0 : List UInt8 := dkwX0_hopeless_0 ++ []
theorem dksX0_hopeless_0 : cX0_hopeless.data.toList.drop 0 = dktX0_hopeless_0 := by decide +kernel
theorem dX0_hopeless_0 : decode cX0_hopeless 0 = .ok (.aload_n 2, 1) := dk_44 (dk_at dksX0_hopeless_0 0 rfl rfl)
theorem dX0_hopeless_1 : decode cX0_hopeless 1 = .ok (.iconst 0, 1) := dk_3 (dk_at dksX0_hopeless_0 1 rfl rfl)
theorem dX0_hopeless_2 : decode cX0_hopeless 2 = .ok (.aload_n 0, 1) := dk_42 (dk_at dksX0_hopeless_0 2 rfl rfl)
theorem dX0_hopeless_3 : decode cX0_hopeless 3 = .ok (.iload_n 1, 1) := dk_27 (dk_at dksX0_hopeless_0 3 rfl rfl)
theorem dX0_hopeless_4 : decode cX0_hopeless 4 = .ok (.invokevirtual 85, 3) := dk_182 0 85 (dk_at dksX0_hopeless_0 4 rfl rfl)
theorem dX0_hopeless_7 : decode cX0_hopeless 7 = .ok (.i2l, 1) := dk_133 (dk_at dksX0_hopeless_0 7 rfl rfl)
theorem dX0_hopeless_8 : decode cX0_hopeless 8 = .ok (.lastore, 1) := dk_80 (dk_at dksX0_hopeless_0 8 rfl rfl)
theorem dX0_hopeless_9 : decode cX0_hopeless 9 = .ok (.goto 6, 3) := dk_167 0 6 (dk_at dksX0_hopeless_0 9 rfl rfl)
theorem dX0_hopeless_12 : decode cX0_hopeless 12 = .ok (.astore_n 3, 1) := dk_78 (dk_at dksX0_hopeless_0 12 rfl rfl)
theorem dX0_hopeless_13 : decode cX0_hopeless 13 = .ok (.iconst 1, 1) := dk_4 (dk_at dksX0_hopeless_0 13 rfl rfl)
theorem dX0_hopeless_14 : decode cX0_hopeless 14 = .ok (.ireturn, 1) := dk_172 (dk_at dksX0_hopeless_0 14 rfl rfl)
theorem dX0_hopeless_15 : decode cX0_hopeless 15 = .ok (.iconst 0, 1) := dk_3 (dk_at dksX0_hopeless_0 15 rfl rfl)
theorem dX0_hopeless_16 : decode cX0_hopeless 16 = .ok (.ireturn, 1) := dk_172 (dk_at dksX0_hopeless_0 16 rfl rfl)
def dkwX0_eldest_0 : List UInt8 := [44, 3, 42, 27, 182, 0, 88, 133, 80, 167, 0, 6, 78, 4, 172, 3, 172]
abbrev dktX0_eldest_0 : List UInt8 := dkwX0_eldest_0 ++ []
theorem dksX0_eldest_0 : cX0_eldest.data.toList.drop 0 = dktX0_eldest_0 := by decide +kernel
theorem dX0_eldest_0 : decode cX0_eldest 0 = .ok (.aload_n 2, 1) := dk_44 (dk_at dksX0_eldest_0 0 rfl rfl)
theorem dX0_eldest_1 : decode cX0_eldest 1 = .ok (.iconst 0, 1) := dk_3 (dk_at dksX0_eldest_0 1 rfl rfl)
theorem dX0_eldest_2 : decode cX0_eldest 2 = .ok (.aload_n 0, 1) := dk_42 (dk_at dksX0_eldest_0 2 rfl rfl)
theorem dX0_eldest_3 : decode cX0_eldest 3 = .ok (.iload_n 1, 1) := dk_27 (dk_at dksX0_eldest_0 3 rfl rfl)
theorem dX0_eldest_4 : decode cX0_eldest 4 = .ok (.invokevirtual 88, 3) := dk_182 0 88 (dk_at dksX0_eldest_0 4 rfl rfl)
theorem dX0_eldest_7 : decode cX0_eldest 7 = .ok (.i2l, 1) := dk_133 (dk_at dksX0_eldest_0 7 rfl rfl)
theorem dX0_eldest_8 : decode cX0_eldest 8 = .ok (.lastore, 1) := dk_80 (dk_at dksX0_eldest_0 8 rfl rfl)
theorem dX0_eldest_9 : decode cX0_eldest 9 = .ok (.goto 6, 3) := dk_167 0 6 (dk_at dksX0_eldest_0 9 rfl rfl)
theorem dX0_eldest_12 : decode cX0_eldest 12 = .ok (.astore_n 3, 1) := dk_78 (dk_at dksX0_eldest_0 12 rfl rfl)
theorem dX0_eldest_13 : decode cX0_eldest 13 = .ok (.iconst 1, 1) := dk_4 (dk_at dksX0_eldest_0 13 rfl rfl)
theorem dX0_eldest_14 : decode cX0_eldest 14 = .ok (.ireturn, 1) := dk_172 (dk_at dksX0_eldest_0 14 rfl rfl)
theorem dX0_eldest_15 : decode cX0_eldest 15 = .ok (.iconst 0, 1) := dk_3 (dk_at dksX0_eldest_0 15 rfl rfl)
theorem dX0_eldest_16 : decode cX0_eldest 16 = .ok (.ireturn, 1) := dk_172 (dk_at dksX0_eldest_0 16 rfl rfl)
def dkwX0_needs_0 : List UInt8 := [44, 3, 42, 27, 182, 0, 91, 133, 80, 167, 0, 6, 78, 4, 172, 3, 172]
abbrev dktX0_needs_0 : List UInt8 := dkwX0_needs_0 ++ []
theorem dksX0_needs_0 : cX0_needs.data.toList.drop 0 = dktX0_needs_0 := by decide +kernel
theorem dX0_needs_0 : decode cX0_needs 0 = .ok (.aload_n 2, 1) := dk_44 (dk_at dksX0_needs_0 0 rfl rfl)
theorem dX0_needs_1 : decode cX0_needs 1 = .ok (.iconst 0, 1) := dk_3 (dk_at dksX0_needs_0 1 rfl rfl)
theorem dX0_needs_2 : decode cX0_needs 2 = .ok (.aload_n 0, 1) := dk_42 (dk_at dksX0_needs_0 2 rfl rfl)
theorem dX0_needs_3 : decode cX0_needs 3 = .ok (.iload_n 1, 1) := dk_27 (dk_at dksX0_needs_0 3 rfl rfl)
theorem dX0_needs_4 : decode cX0_needs 4 = .ok (.invokevirtual 91, 3) := dk_182 0 91 (dk_at dksX0_needs_0 4 rfl rfl)
theorem dX0_needs_7 : decode cX0_needs 7 = .ok (.i2l, 1) := dk_133 (dk_at dksX0_needs_0 7 rfl rfl)
theorem dX0_needs_8 : decode cX0_needs 8 = .ok (.lastore, 1) := dk_80 (dk_at dksX0_needs_0 8 rfl rfl)
theorem dX0_needs_9 : decode cX0_needs 9 = .ok (.goto 6, 3) := dk_167 0 6 (dk_at dksX0_needs_0 9 rfl rfl)
theorem dX0_needs_12 : decode cX0_needs 12 = .ok (.astore_n 3, 1) := dk_78 (dk_at dksX0_needs_0 12 rfl rfl)
theorem dX0_needs_13 : decode cX0_needs 13 = .ok (.iconst 1, 1) := dk_4 (dk_at dksX0_needs_0 13 rfl rfl)
theorem dX0_needs_14 : decode cX0_needs 14 = .ok (.ireturn, 1) := dk_172 (dk_at dksX0_needs_0 14 rfl rfl)
theorem dX0_needs_15 : decode cX0_needs 15 = .ok (.iconst 0, 1) := dk_3 (dk_at dksX0_needs_0 15 rfl rfl)
theorem dX0_needs_16 : decode cX0_needs 16 = .ok (.ireturn, 1) := dk_172 (dk_at dksX0_needs_0 16 rfl rfl)
def dkwX0_strength_0 : List UInt8 := [44, 3, 42, 27, 182, 0, 94, 133, 80, 167, 0, 6, 78, 4, 172, 3, 172]
abbrev dktX0_strength_0 : List UInt8 := dkwX0_strength_0 ++ []
theorem dksX0_strength_0 : cX0_strength.data.toList.drop 0 = dktX0_strength_0 := by decide +kernel
theorem dX0_strength_0 : decode cX0_strength 0 = .ok (.aload_n 2, 1) := dk_44 (dk_at dksX0_strength_0 0 rfl rfl)
theorem dX0_strength_1 : decode cX0_strength 1 = .ok (.iconst 0, 1) := dk_3 (dk_at dksX0_strength_0 1 rfl rfl)
theorem dX0_strength_2 : decode cX0_strength 2 = .ok (.aload_n 0, 1) := dk_42 (dk_at dksX0_strength_0 2 rfl rfl)
theorem dX0_strength_3 : decode cX0_strength 3 = .ok (.iload_n 1, 1) := dk_27 (dk_at dksX0_strength_0 3 rfl rfl)
theorem dX0_strength_4 : decode cX0_strength 4 = .ok (.invokevirtual 94, 3) := dk_182 0 94 (dk_at dksX0_strength_0 4 rfl rfl)
theorem dX0_strength_7 : decode cX0_strength 7 = .ok (.i2l, 1) := dk_133 (dk_at dksX0_strength_0 7 rfl rfl)
theorem dX0_strength_8 : decode cX0_strength 8 = .ok (.lastore, 1) := dk_80 (dk_at dksX0_strength_0 8 rfl rfl)
theorem dX0_strength_9 : decode cX0_strength 9 = .ok (.goto 6, 3) := dk_167 0 6 (dk_at dksX0_strength_0 9 rfl rfl)
theorem dX0_strength_12 : decode cX0_strength 12 = .ok (.astore_n 3, 1) := dk_78 (dk_at dksX0_strength_0 12 rfl rfl)
theorem dX0_strength_13 : decode cX0_strength 13 = .ok (.iconst 1, 1) := dk_4 (dk_at dksX0_strength_0 13 rfl rfl)
theorem dX0_strength_14 : decode cX0_strength 14 = .ok (.ireturn, 1) := dk_172 (dk_at dksX0_strength_0 14 rfl rfl)
theorem dX0_strength_15 : decode cX0_strength 15 = .ok (.iconst 0, 1) := dk_3 (dk_at dksX0_strength_0 15 rfl rfl)
theorem dX0_strength_16 : decode cX0_strength 16 = .ok (.ireturn, 1) := dk_172 (dk_at dksX0_strength_0 16 rfl rfl)
def dkwX0_weakest_0 : List UInt8 := [44, 3, 42, 27, 182, 0, 97, 133, 80, 167, 0, 6, 78, 4, 172, 3, 172]
abbrev dktX0_weakest_0 : List UInt8 := dkwX0_weakest_0 ++ []
theorem dksX0_weakest_0 : cX0_weakest.data.toList.drop 0 = dktX0_weakest_0 := by decide +kernel
theorem dX0_weakest_0 : decode cX0_weakest 0 = .ok (.aload_n 2, 1) := dk_44 (dk_at dksX0_weakest_0 0 rfl rfl)
theorem dX0_weakest_1 : decode cX0_weakest 1 = .ok (.iconst 0, 1) := dk_3 (dk_at dksX0_weakest_0 1 rfl rfl)
theorem dX0_weakest_2 : decode cX0_weakest 2 = .ok (.aload_n 0, 1) := dk_42 (dk_at dksX0_weakest_0 2 rfl rfl)
theorem dX0_weakest_3 : decode cX0_weakest 3 = .ok (.iload_n 1, 1) := dk_27 (dk_at dksX0_weakest_0 3 rfl rfl)
theorem dX0_weakest_4 : decode cX0_weakest 4 = .ok (.invokevirtual 97, 3) := dk_182 0 97 (dk_at dksX0_weakest_0 4 rfl rfl)
theorem dX0_weakest_7 : decode cX0_weakest 7 = .ok (.i2l, 1) := dk_133 (dk_at dksX0_weakest_0 7 rfl rfl)
theorem dX0_weakest_8 : decode cX0_weakest 8 = .ok (.lastore, 1) := dk_80 (dk_at dksX0_weakest_0 8 rfl rfl)
theorem dX0_weakest_9 : decode cX0_weakest 9 = .ok (.goto 6, 3) := dk_167 0 6 (dk_at dksX0_weakest_0 9 rfl rfl)
theorem dX0_weakest_12 : decode cX0_weakest 12 = .ok (.astore_n 3, 1) := dk_78 (dk_at dksX0_weakest_0 12 rfl rfl)
theorem dX0_weakest_13 : decode cX0_weakest 13 = .ok (.iconst 1, 1) := dk_4 (dk_at dksX0_weakest_0 13 rfl rfl)
theorem dX0_weakest_14 : decode cX0_weakest 14 = .ok (.ireturn, 1) := dk_172 (dk_at dksX0_weakest_0 14 rfl rfl)
theorem dX0_weakest_15 : decode cX0_weakest 15 = .ok (.iconst 0, 1) := dk_3 (dk_at dksX0_weakest_0 15 rfl rfl)
theorem dX0_weakest_16 : decode cX0_weakest 16 = .ok (.ireturn, 1) := dk_172 (dk_at dksX0_weakest_0 16 rfl rfl)
def dkwX0_year_0 : List UInt8 := [25, 4, 3, 42, 27, 28, 29, 182, 0, 100, 133, 80, 167, 0, 7, 58, 5, 4, 172, 3, 172]
abbrev dktX0_year_0 : List UInt8 := dkwX0_year_0 ++ []
theorem dksX0_year_0 : cX0_year.data.toList.drop 0 = dktX0_year_0 := by decide +kernel
theorem dX0_year_0 : decode cX0_year 0 = .ok (.aload 4, 2) := dk_25 4 (dk_at dksX0_year_0 0 rfl rfl)
theorem dX0_year_2 : decode cX0_year 2 = .ok (.iconst 0, 1) := dk_3 (dk_at dksX0_year_0 2 rfl rfl)
theorem dX0_year_3 : decode cX0_year 3 = .ok (.aload_n 0, 1) := dk_42 (dk_at dksX0_year_0 3 rfl rfl)
theorem dX0_year_4 : decode cX0_year 4 = .ok (.iload_n 1, 1) := dk_27 (dk_at dksX0_year_0 4 rfl rfl)
theorem dX0_year_5 : decode cX0_year 5 = .ok (.iload_n 2, 1) := dk_28 (dk_at dksX0_year_0 5 rfl rfl)
theorem dX0_year_6 : decode cX0_year 6 = .ok (.iload_n 3, 1) := dk_29 (dk_at dksX0_year_0 6 rfl rfl)
theorem dX0_year_7 : decode cX0_year 7 = .ok (.invokevirtual 100, 3) := dk_182 0 100 (dk_at dksX0_year_0 7 rfl rfl)
theorem dX0_year_10 : decode cX0_year 10 = .ok (.i2l, 1) := dk_133 (dk_at dksX0_year_0 10 rfl rfl)
theorem dX0_year_11 : decode cX0_year 11 = .ok (.lastore, 1) := dk_80 (dk_at dksX0_year_0 11 rfl rfl)
theorem dX0_year_12 : decode cX0_year 12 = .ok (.goto 7, 3) := dk_167 0 7 (dk_at dksX0_year_0 12 rfl rfl)
theorem dX0_year_15 : decode cX0_year 15 = .ok (.astore 5, 2) := dk_58 5 (dk_at dksX0_year_0 15 rfl rfl)
theorem dX0_year_17 : decode cX0_year 17 = .ok (.iconst 1, 1) := dk_4 (dk_at dksX0_year_0 17 rfl rfl)
theorem dX0_year_18 : decode cX0_year 18 = .ok (.ireturn, 1) := dk_172 (dk_at dksX0_year_0 18 rfl rfl)
theorem dX0_year_19 : decode cX0_year 19 = .ok (.iconst 0, 1) := dk_3 (dk_at dksX0_year_0 19 rfl rfl)
theorem dX0_year_20 : decode cX0_year 20 = .ok (.ireturn, 1) := dk_172 (dk_at dksX0_year_0 20 rfl rfl)
def dkwX0_span_1 : List UInt8 := [172]
abbrev dktX0_span_1 : List UInt8 := dkwX0_span_1 ++ []
def dkwX0_span_0 : List UInt8 := [25, 6, 3, 42, 27, 28, 29, 21, 4, 21, 5, 182, 0, 103, 133, 80, 167, 0, 7, 58, 7, 4, 172, 3]
abbrev dktX0_span_0 : List UInt8 := dkwX0_span_0 ++ dktX0_span_1
theorem dksX0_span_0 : cX0_span.data.toList.drop 0 = dktX0_span_0 := by decide +kernel
theorem dksX0_span_1 : cX0_span.data.toList.drop 24 = dktX0_span_1 := dk_seg dksX0_span_0 24 rfl rfl
theorem dX0_span_0 : decode cX0_span 0 = .ok (.aload 6, 2) := dk_25 6 (dk_at dksX0_span_0 0 rfl rfl)
theorem dX0_span_2 : decode cX0_span 2 = .ok (.iconst 0, 1) := dk_3 (dk_at dksX0_span_0 2 rfl rfl)
theorem dX0_span_3 : decode cX0_span 3 = .ok (.aload_n 0, 1) := dk_42 (dk_at dksX0_span_0 3 rfl rfl)
theorem dX0_span_4 : decode cX0_span 4 = .ok (.iload_n 1, 1) := dk_27 (dk_at dksX0_span_0 4 rfl rfl)
theorem dX0_span_5 : decode cX0_span 5 = .ok (.iload_n 2, 1) := dk_28 (dk_at dksX0_span_0 5 rfl rfl)
theorem dX0_span_6 : decode cX0_span 6 = .ok (.iload_n 3, 1) := dk_29 (dk_at dksX0_span_0 6 rfl rfl)
theorem dX0_span_7 : decode cX0_span 7 = .ok (.iload 4, 2) := dk_21 4 (dk_at dksX0_span_0 7 rfl rfl)
theorem dX0_span_9 : decode cX0_span 9 = .ok (.iload 5, 2) := dk_21 5 (dk_at dksX0_span_0 9 rfl rfl)
theorem dX0_span_11 : decode cX0_span 11 = .ok (.invokevirtual 103, 3) := dk_182 0 103 (dk_at dksX0_span_0 11 rfl rfl)
theorem dX0_span_14 : decode cX0_span 14 = .ok (.i2l, 1) := dk_133 (dk_at dksX0_span_0 14 rfl rfl)
theorem dX0_span_15 : decode cX0_span 15 = .ok (.lastore, 1) := dk_80 (dk_at dksX0_span_0 15 rfl rfl)
theorem dX0_span_16 : decode cX0_span 16 = .ok (.goto 7, 3) := dk_167 0 7 (dk_at dksX0_span_0 16 rfl rfl)
theorem dX0_span_19 : decode cX0_span 19 = .ok (.astore 7, 2) := dk_58 7 (dk_at dksX0_span_0 19 rfl rfl)
theorem dX0_span_21 : decode cX0_span 21 = .ok (.iconst 1, 1) := dk_4 (dk_at dksX0_span_0 21 rfl rfl)
theorem dX0_span_22 : decode cX0_span 22 = .ok (.ireturn, 1) := dk_172 (dk_at dksX0_span_0 22 rfl rfl)
theorem dX0_span_23 : decode cX0_span 23 = .ok (.iconst 0, 1) := dk_3 (dk_at dksX0_span_0 23 rfl rfl)
theorem dX0_span_24 : decode cX0_span 24 = .ok (.ireturn, 1) := dk_172 (dk_at dksX0_span_1 0 rfl rfl)

set_option maxRecDepth 100000
def dkwX1_init_6 : List UInt8 := [181, 0, 92, 42, 16, 100, 188, 10, 181, 0, 95, 42, 182, 0, 98, 177]
abbrev dktX1_init_6 : List UInt8 := dkwX1_init_6 ++ []
def dkwX1_init_5 : List UInt8 := [42, 17, 36, 0, 188, 10, 181, 0, 86, 42, 16, 8, 188, 10, 181, 0, 89, 42, 16, 8, 188, 10]
abbrev dktX1_init_5 : List UInt8 := dkwX1_init_5 ++ dktX1_init_6
def dkwX1_init_4 : List UInt8 := [181, 0, 72, 42, 6, 188, 10, 181, 0, 75, 42, 2, 181, 0, 78, 42, 17, 2, 88, 188, 8, 181, 0, 82]
abbrev dktX1_init_4 : List UInt8 := dkwX1_init_4 ++ dktX1_init_5
def dkwX1_init_3 : List UInt8 := [16, 16, 189, 0, 53, 181, 0, 65, 42, 6, 189, 0, 53, 181, 0, 69, 42, 16, 48, 189, 0, 53]
abbrev dktX1_init_3 : List UInt8 := dkwX1_init_3 ++ dktX1_init_4
def dkwX1_init_2 : List UInt8 := [187, 0, 53, 89, 42, 183, 0, 55, 181, 0, 58, 42, 187, 0, 53, 89, 42, 183, 0, 55, 181, 0, 62, 42]
abbrev dktX1_init_2 : List UInt8 := dkwX1_init_2 ++ dktX1_init_3
def dkwX1_init_1 : List UInt8 := [16, 8, 188, 10, 181, 0, 43, 42, 16, 10, 188, 10, 181, 0, 47, 42, 5, 188, 10, 181, 0, 50, 42]
abbrev dktX1_init_1 : List UInt8 := dkwX1_init_1 ++ dktX1_init_2
def dkwX1_init_0 : List UInt8 := [42, 183, 0, 23, 42, 187, 0, 28, 89, 183, 0, 30, 181, 0, 31, 42, 184, 0, 35, 181, 0, 39, 42]
abbrev dktX1_init_0 : List UInt8 := dkwX1_init_0 ++ dktX1_init_1
theorem dksX1_init_0 : cX1_init.data.toList.drop 0 = dktX1_init_0 := by decide +kernel
theorem dksX1_init_1 : cX1_init.data.toList.drop 23 = dktX1_init_1 := dk_seg dksX1_init_0 23 rfl rfl
theorem dksX1_init_2 : cX1_init.data.toList.drop 46 = dktX1_init_2 := dk_seg dksX1_init_1 23 rfl rfl
theorem dksX1_init_3 : cX1_init.data.toList.drop 70 = dktX1_init_3 := dk_seg dksX1_init_2 24 rfl rfl
theorem dksX1_init_4 : cX1_init.data.toList.drop 92 = dktX1_init_4 := dk_seg dksX1_init_3 22 rfl rfl
theorem dksX1_init_5 : cX1_init.data.toList.drop 116 = dktX1_init_5 := dk_seg dksX1_init_4 24 rfl rfl
theorem dksX1_init_6 : cX1_init.data.toList.drop 138 = dktX1_init_6 := dk_seg dksX1_init_5 22 rfl rfl
theorem dX1_init_0 : decode cX1_init 0 = .ok (.aload_n 0, 1) := dk_42 (dk_at dksX1_init_0 0 rfl rfl)
theorem dX1_init_1 : decode cX1_init 1 = .ok (.invokespecial 23, 3) := dk_183 0 23 (dk_at dksX1_init_0 1 rfl rfl)
theorem dX1_init_4 : decode cX1_init 4 = .ok (.aload_n 0, 1) := dk_42 (dk_at dksX1_init_0 4 rfl rfl)
theorem dX1_init_5 : decode cX1_init 5 = .ok (.new 28, 3) := dk_187 0 28 (dk_at dksX1_init_0 5 rfl rfl)
theorem dX1_init_8 : decode cX1_init 8 = .ok (.dup, 1) := dk_89 (dk_at dksX1_init_0 8 rfl rfl)
theorem dX1_init_9 : decode cX1_init 9 = .ok (.invokespecial 30, 3) := dk_183 0 30 (dk_at dksX1_init_0 9 rfl rfl)
theorem dX1_init_12 : decode cX1_init 12 = .ok (.putfield 31, 3) := dk_181 0 31 (dk_at dksX1_init_0 12 rfl rfl)
theorem dX1_init_15 : decode cX1_init 15 = .ok (.aload_n 0, 1) := dk_42 (dk_at dksX1_init_0 15 rfl rfl)
theorem dX1_init_16 : decode cX1_init 16 = .ok (.invokestatic 35, 3) := dk_184 0 35 (dk_at dksX1_init_0 16 rfl rfl)
theorem dX1_init_19 : decode cX1_init 19 = .ok (.putfield 39, 3) := dk_181 0 39 (dk_at dksX1_init_0 19 rfl rfl)
theorem dX1_init_22 : decode cX1_init 22 = .ok (.aload_n 0, 1) := dk_42 (dk_at dksX1_init_0 22 rfl rfl)
theorem dX1_init_23 : decode cX1_init 23 = .ok (.bipush 8, 2) := dk_16 8 (dk_at dksX1_init_1 0 rfl rfl)
theorem dX1_init_25 : decode cX1_init 25 = .ok (.newarray .int, 2) := dk_188_10 (dk_at dksX1_init_1 2 rfl rfl)
theorem dX1_init_27 : decode cX1_init 27 = .ok (.putfield 43, 3) := dk_181 0 43 (dk_at dksX1_init_1 4 rfl rfl)
theorem dX1_init_30 : decode cX1_init 30 = .ok (.aload_n 0, 1) := dk_42 (dk_at dksX1_init_1 7 rfl rfl)
theorem dX1_init_31 : decode cX1_init 31 = .ok (.bipush 10, 2) := dk_16 10 (dk_at dksX1_init_1 8 rfl rfl)
theorem dX1_init_33 : decode cX1_init 33 = .ok (.newarray .int, 2) := dk_188_10 (dk_at dksX1_init_1 10 rfl rfl)
theorem dX1_init_35 : decode cX1_init 35 = .ok (.putfield 47, 3) := dk_181 0 47 (dk_at dksX1_init_1 12 rfl rfl)
theorem dX1_init_38 : decode cX1_init 38 = .ok (.aload_n 0, 1) := dk_42 (dk_at dksX1_init_1 15 rfl rfl)
theorem dX1_init_39 : decode cX1_init 39 = .ok (.iconst 2, 1) := dk_5 (dk_at dksX1_init_1 16 rfl rfl)
theorem dX1_init_40 : decode cX1_init 40 = .ok (.newarray .int, 2) := dk_188_10 (dk_at dksX1_init_1 17 rfl rfl)
theorem dX1_init_42 : decode cX1_init 42 = .ok (.putfield 50, 3) := dk_181 0 50 (dk_at dksX1_init_1 19 rfl rfl)
theorem dX1_init_45 : decode cX1_init 45 = .ok (.aload_n 0, 1) := dk_42 (dk_at dksX1_init_1 22 rfl rfl)
theorem dX1_init_46 : decode cX1_init 46 = .ok (.new 53, 3) := dk_187 0 53 (dk_at dksX1_init_2 0 rfl rfl)
theorem dX1_init_49 : decode cX1_init 49 = .ok (.dup, 1) := dk_89 (dk_at dksX1_init_2 3 rfl rfl)
theorem dX1_init_50 : decode cX1_init 50 = .ok (.aload_n 0, 1) := dk_42 (dk_at dksX1_init_2 4 rfl rfl)
theorem dX1_init_51 : decode cX1_init 51 = .ok (.invokespecial 55, 3) := dk_183 0 55 (dk_at dksX1_init_2 5 rfl rfl)
theorem dX1_init_54 : decode cX1_init 54 = .ok (.putfield 58, 3) := dk_181 0 58 (dk_at dksX1_init_2 8 rfl rfl)
theorem dX1_init_57 : decode cX1_init 57 = .ok (.aload_n 0, 1) := dk_42 (dk_at dksX1_init_2 11 rfl rfl)
theorem dX1_init_58 : decode cX1_init 58 = .ok (.new 53, 3) := dk_187 0 53 (dk_at dksX1_init_2 12 rfl rfl)
theorem dX1_init_61 : decode cX1_init 61 = .ok (.dup, 1) := dk_89 (dk_at dksX1_init_2 15 rfl rfl)
theorem dX1_init_62 : decode cX1_init 62 = .ok (.aload_n 0, 1) := dk_42 (dk_at dksX1_init_2 16 rfl rfl)
theorem dX1_init_63 : decode cX1_init 63 = .ok (.invokespecial 55, 3) := dk_183 0 55 (dk_at dksX1_init_2 17 rfl rfl)
theorem dX1_init_66 : decode cX1_init 66 = .ok (.putfield 62, 3) := dk_181 0 62 (dk_at dksX1_init_2 20 rfl rfl)
theorem dX1_init_69 : decode cX1_init 69 = .ok (.aload_n 0, 1) := dk_42 (dk_at dksX1_init_2 23 rfl rfl)
theorem dX1_init_70 : decode cX1_init 70 = .ok (.bipush 16, 2) := dk_16 16 (dk_at dksX1_init_3 0 rfl rfl)
theorem dX1_init_72 : decode cX1_init 72 = .ok (.anewarray 53, 3) := dk_189 0 53 (dk_at dksX1_init_3 2 rfl rfl)
theorem dX1_init_75 : decode cX1_init 75 = .ok (.putfield 65, 3) := dk_181 0 65 (dk_at dksX1_init_3 5 rfl rfl)
theorem dX1_init_78 : decode cX1_init 78 = .ok (.aload_n 0, 1) := dk_42 (dk_at dksX1_init_3 8 rfl rfl)
theorem dX1_init_79 : decode cX1_init 79 = .ok (.iconst 3, 1) := dk_6 (dk_at dksX1_init_3 9 rfl rfl)
theorem dX1_init_80 : decode cX1_init 80 = .ok (.anewarray 53, 3) := dk_189 0 53 (dk_at dksX1_init_3 10 rfl rfl)
theorem dX1_init_83 : decode cX1_init 83 = .ok (.putfield 69, 3) := dk_181 0 69 (dk_at dksX1_init_3 13 rfl rfl)
theorem dX1_init_86 : decode cX1_init 86 = .ok (.aload_n 0, 1) := dk_42 (dk_at dksX1_init_3 16 rfl rfl)
theorem dX1_init_87 : decode cX1_init 87 = .ok (.bipush 48, 2) := dk_16 48 (dk_at dksX1_init_3 17 rfl rfl)
theorem dX1_init_89 : decode cX1_init 89 = .ok (.anewarray 53, 3) := dk_189 0 53 (dk_at dksX1_init_3 19 rfl rfl)
theorem dX1_init_92 : decode cX1_init 92 = .ok (.putfield 72, 3) := dk_181 0 72 (dk_at dksX1_init_4 0 rfl rfl)
theorem dX1_init_95 : decode cX1_init 95 = .ok (.aload_n 0, 1) := dk_42 (dk_at dksX1_init_4 3 rfl rfl)
theorem dX1_init_96 : decode cX1_init 96 = .ok (.iconst 3, 1) := dk_6 (dk_at dksX1_init_4 4 rfl rfl)
theorem dX1_init_97 : decode cX1_init 97 = .ok (.newarray .int, 2) := dk_188_10 (dk_at dksX1_init_4 5 rfl rfl)
theorem dX1_init_99 : decode cX1_init 99 = .ok (.putfield 75, 3) := dk_181 0 75 (dk_at dksX1_init_4 7 rfl rfl)
theorem dX1_init_102 : decode cX1_init 102 = .ok (.aload_n 0, 1) := dk_42 (dk_at dksX1_init_4 10 rfl rfl)
theorem dX1_init_103 : decode cX1_init 103 = .ok (.iconst (-1), 1) := dk_2 (dk_at dksX1_init_4 11 rfl rfl)
theorem dX1_init_104 : decode cX1_init 104 = .ok (.putfield 78, 3) := dk_181 0 78 (dk_at dksX1_init_4 12 rfl rfl)
theorem dX1_init_107 : decode cX1_init 107 = .ok (.aload_n 0, 1) := dk_42 (dk_at dksX1_init_4 15 rfl rfl)
theorem dX1_init_108 : decode cX1_init 108 = .ok (.sipush 600, 3) := dk_17 2 88 (dk_at dksX1_init_4 16 rfl rfl)
theorem dX1_init_111 : decode cX1_init 111 = .ok (.newarray .byte, 2) := dk_188_8 (dk_at dksX1_init_4 19 rfl rfl)
theorem dX1_init_113 : decode cX1_init 113 = .ok (.putfield 82, 3) := dk_181 0 82 (dk_at dksX1_init_4 21 rfl rfl)
theorem dX1_init_116 : decode cX1_init 116 = .ok (.aload_n 0, 1) := dk_42 (dk_at dksX1_init_5 0 rfl rfl)
theorem dX1_init_117 : decode cX1_init 117 = .ok (.sipush 9216, 3) := dk_17 36 0 (dk_at dksX1_init_5 1 rfl rfl)
theorem dX1_init_120 : decode cX1_init 120 = .ok (.newarray .int, 2) := dk_188_10 (dk_at dksX1_init_5 4 rfl rfl)
theorem dX1_init_122 : decode cX1_init 122 = .ok (.putfield 86, 3) := dk_181 0 86 (dk_at dksX1_init_5 6 rfl rfl)
theorem dX1_init_125 : decode cX1_init 125 = .ok (.aload_n 0, 1) := dk_42 (dk_at dksX1_init_5 9 rfl rfl)
theorem dX1_init_126 : decode cX1_init 126 = .ok (.bipush 8, 2) := dk_16 8 (dk_at dksX1_init_5 10 rfl rfl)
theorem dX1_init_128 : decode cX1_init 128 = .ok (.newarray .int, 2) := dk_188_10 (dk_at dksX1_init_5 12 rfl rfl)
theorem dX1_init_130 : decode cX1_init 130 = .ok (.putfield 89, 3) := dk_181 0 89 (dk_at dksX1_init_5 14 rfl rfl)
theorem dX1_init_133 : decode cX1_init 133 = .ok (.aload_n 0, 1) := dk_42 (dk_at dksX1_init_5 17 rfl rfl)
theorem dX1_init_134 : decode cX1_init 134 = .ok (.bipush 8, 2) := dk_16 8 (dk_at dksX1_init_5 18 rfl rfl)
theorem dX1_init_136 : decode cX1_init 136 = .ok (.newarray .int, 2) := dk_188_10 (dk_at dksX1_init_5 20 rfl rfl)
theorem dX1_init_138 : decode cX1_init 138 = .ok (.putfield 92, 3) := dk_181 0 92 (dk_at dksX1_init_6 0 rfl rfl)
theorem dX1_init_141 : decode cX1_init 141 = .ok (.aload_n 0, 1) := dk_42 (dk_at dksX1_init_6 3 rfl rfl)
theorem dX1_init_142 : decode cX1_init 142 = .ok (.bipush 100, 2) := dk_16 100 (dk_at dksX1_init_6 4 rfl rfl)
theorem dX1_init_144 : decode cX1_init 144 = .ok (.newarray .int, 2) := dk_188_10 (dk_at dksX1_init_6 6 rfl rfl)
theorem dX1_init_146 : decode cX1_init 146 = .ok (.putfield 95, 3) := dk_181 0 95 (dk_at dksX1_init_6 8 rfl rfl)
theorem dX1_init_149 : decode cX1_init 149 = .ok (.aload_n 0, 1) := dk_42 (dk_at dksX1_init_6 11 rfl rfl)
theorem dX1_init_150 : decode cX1_init 150 = .ok (.invokevirtual 98, 3) := dk_182 0 98 (dk_at dksX1_init_6 12 rfl rfl)
theorem dX1_init_153 : decode cX1_init 153 = .ok (.return_, 1) := dk_177 (dk_at dksX1_init_6 15 rfl rfl)
def dkwX1_custom_2 : List UInt8 := [183, 0, 21, 183, 0, 22, 176]
abbrev dktX1_custom_2 : List UInt8 := dkwX1_custom_2 ++ []
def dkwX1_custom_1 : List UInt8 := [183, 0, 13, 187, 0, 16, 89, 187, 0, 5, 89, 5, 183, 0, 9, 187, 0, 18, 89, 5, 183, 0, 20]
abbrev dktX1_custom_1 : List UInt8 := dkwX1_custom_1 ++ dktX1_custom_2
def dkwX1_custom_0 : List UInt8 := [187, 0, 1, 89, 187, 0, 3, 89, 187, 0, 5, 89, 3, 183, 0, 9, 187, 0, 5, 89, 4, 183, 0, 9]
abbrev dktX1_custom_0 : List UInt8 := dkwX1_custom_0 ++ dktX1_custom_1
theorem dksX1_custom_0 : cX1_custom.data.toList.drop 0 = dktX1_custom_0 := by decide +kernel
theorem dksX1_custom_1 : cX1_custom.data.toList.drop 24 = dktX1_custom_1 := dk_seg dksX1_custom_0 24 rfl rfl
theorem dksX1_custom_2 : cX1_custom.data.toList.drop 47 = dktX1_custom_2 := dk_seg dksX1_custom_1 23 rfl rfl
theorem dX1_custom_0 : decode cX1_custom 0 = .ok (.new 1, 3) := dk_187 0 1 (dk_at dksX1_custom_0 0 rfl rfl)
theorem dX1_custom_3 : decode cX1_custom 3 = .ok (.dup, 1) := dk_89 (dk_at dksX1_custom_0 3 rfl rfl)
theorem dX1_custom_4 : decode cX1_custom 4 = .ok (.new 3, 3) := dk_187 0 3 (dk_at dksX1_custom_0 4 rfl rfl)
theorem dX1_custom_7 : decode cX1_custom 7 = .ok (.dup, 1) := dk_89 (dk_at dksX1_custom_0 7 rfl rfl)
theorem dX1_custom_8 : decode cX1_custom 8 = .ok (.new 5, 3) := dk_187 0 5 (dk_at dksX1_custom_0 8 rfl rfl)
theorem dX1_custom_11 : decode cX1_custom 11 = .ok (.dup, 1) := dk_89 (dk_at dksX1_custom_0 11 rfl rfl)
theorem dX1_custom_12 : decode cX1_custom 12 = .ok (.iconst 0, 1) := dk_3 (dk_at dksX1_custom_0 12 rfl rfl)
theorem dX1_custom_13 : decode cX1_custom 13 = .ok (.invokespecial 9, 3) := dk_183 0 9 (dk_at dksX1_custom_0 13 rfl rfl)
theorem dX1_custom_16 : decode cX1_custom 16 = .ok (.new 5, 3) := dk_187 0 5 (dk_at dksX1_custom_0 16 rfl rfl)
theorem dX1_custom_19 : decode cX1_custom 19 = .ok (.dup, 1) := dk_89 (dk_at dksX1_custom_0 19 rfl rfl)
theorem dX1_custom_20 : decode cX1_custom 20 = .ok (.iconst 1, 1) := dk_4 (dk_at dksX1_custom_0 20 rfl rfl)
theorem dX1_custom_21 : decode cX1_custom 21 = .ok (.invokespecial 9, 3) := dk_183 0 9 (dk_at dksX1_custom_0 21 rfl rfl)
theorem dX1_custom_24 : decode cX1_custom 24 = .ok (.invokespecial 13, 3) := dk_183 0 13 (dk_at dksX1_custom_1 0 rfl rfl)
theorem dX1_custom_27 : decode cX1_custom 27 = .ok (.new 16, 3) := dk_187 0 16 (dk_at dksX1_custom_1 3 rfl rfl)
theorem dX1_custom_30 : decode cX1_custom 30 = .ok (.dup, 1) := dk_89 (dk_at dksX1_custom_1 6 rfl rfl)
theorem dX1_custom_31 : decode cX1_custom 31 = .ok (.new 5, 3) := dk_187 0 5 (dk_at dksX1_custom_1 7 rfl rfl)
theorem dX1_custom_34 : decode cX1_custom 34 = .ok (.dup, 1) := dk_89 (dk_at dksX1_custom_1 10 rfl rfl)
theorem dX1_custom_35 : decode cX1_custom 35 = .ok (.iconst 2, 1) := dk_5 (dk_at dksX1_custom_1 11 rfl rfl)
theorem dX1_custom_36 : decode cX1_custom 36 = .ok (.invokespecial 9, 3) := dk_183 0 9 (dk_at dksX1_custom_1 12 rfl rfl)
theorem dX1_custom_39 : decode cX1_custom 39 = .ok (.new 18, 3) := dk_187 0 18 (dk_at dksX1_custom_1 15 rfl rfl)
theorem dX1_custom_42 : decode cX1_custom 42 = .ok (.dup, 1) := dk_89 (dk_at dksX1_custom_1 18 rfl rfl)
theorem dX1_custom_43 : decode cX1_custom 43 = .ok (.iconst 2, 1) := dk_5 (dk_at dksX1_custom_1 19 rfl rfl)
theorem dX1_custom_44 : decode cX1_custom 44 = .ok (.invokespecial 20, 3) := dk_183 0 20 (dk_at dksX1_custom_1 20 rfl rfl)
theorem dX1_custom_47 : decode cX1_custom 47 = .ok (.invokespecial 21, 3) := dk_183 0 21 (dk_at dksX1_custom_2 0 rfl rfl)
theorem dX1_custom_50 : decode cX1_custom 50 = .ok (.invokespecial 22, 3) := dk_183 0 22 (dk_at dksX1_custom_2 3 rfl rfl)
theorem dX1_custom_53 : decode cX1_custom 53 = .ok (.areturn, 1) := dk_176 (dk_at dksX1_custom_2 6 rfl rfl)
def dkwX1_begins_2 : List UInt8 := [42, 3, 181, 0, 110, 42, 3, 181, 0, 113, 177]
abbrev dktX1_begins_2 : List UInt8 := dkwX1_begins_2 ++ []
def dkwX1_begins_1 : List UInt8 := [132, 1, 1, 167, 255, 240, 42, 180, 0, 58, 182, 0, 101, 87, 42, 3, 181, 0, 104, 42, 3, 181, 0, 107]
abbrev dktX1_begins_1 : List UInt8 := dkwX1_begins_1 ++ dktX1_begins_2
def dkwX1_begins_0 : List UInt8 := [42, 184, 0, 35, 181, 0, 39, 3, 60, 27, 16, 10, 162, 0, 16, 42, 180, 0, 47, 27, 2, 79]
abbrev dktX1_begins_0 : List UInt8 := dkwX1_begins_0 ++ dktX1_begins_1
theorem dksX1_begins_0 : cX1_begins.data.toList.drop 0 = dktX1_begins_0 := by decide +kernel
theorem dksX1_begins_1 : cX1_begins.data.toList.drop 22 = dktX1_begins_1 := dk_seg dksX1_begins_0 22 rfl rfl
theorem dksX1_begins_2 : cX1_begins.data.toList.drop 46 = dktX1_begins_2 := dk_seg dksX1_begins_1 24 rfl rfl
theorem dX1_begins_0 : decode cX1_begins 0 = .ok (.aload_n 0, 1) := dk_42 (dk_at dksX1_begins_0 0 rfl rfl)
theorem dX1_begins_1 : decode cX1_begins 1 = .ok (.invokestatic 35, 3) := dk_184 0 35 (dk_at dksX1_begins_0 1 rfl rfl)
theorem dX1_begins_4 : decode cX1_begins 4 = .ok (.putfield 39, 3) := dk_181 0 39 (dk_at dksX1_begins_0 4 rfl rfl)
theorem dX1_begins_7 : decode cX1_begins 7 = .ok (.iconst 0, 1) := dk_3 (dk_at dksX1_begins_0 7 rfl rfl)
theorem dX1_begins_8 : decode cX1_begins 8 = .ok (.istore_n 1, 1) := dk_60 (dk_at dksX1_begins_0 8 rfl rfl)
theorem dX1_begins_9 : decode cX1_begins 9 = .ok (.iload_n 1, 1) := dk_27 (dk_at dksX1_begins_0 9 rfl rfl)
theorem dX1_begins_10 : decode cX1_begins 10 = .ok (.bipush 10, 2) := dk_16 10 (dk_at dksX1_begins_0 10 rfl rfl)
theorem dX1_begins_12 : decode cX1_begins 12 = .ok (.if_icmp .ge 16, 3) := dk_162 0 16 (dk_at dksX1_begins_0 12 rfl rfl)
theorem dX1_begins_15 : decode cX1_begins 15 = .ok (.aload_n 0, 1) := dk_42 (dk_at dksX1_begins_0 15 rfl rfl)
theorem dX1_begins_16 : decode cX1_begins 16 = .ok (.getfield 47, 3) := dk_180 0 47 (dk_at dksX1_begins_0 16 rfl rfl)
theorem dX1_begins_19 : decode cX1_begins 19 = .ok (.iload_n 1, 1) := dk_27 (dk_at dksX1_begins_0 19 rfl rfl)
theorem dX1_begins_20 : decode cX1_begins 20 = .ok (.iconst (-1), 1) := dk_2 (dk_at dksX1_begins_0 20 rfl rfl)
theorem dX1_begins_21 : decode cX1_begins 21 = .ok (.iastore, 1) := dk_79 (dk_at dksX1_begins_0 21 rfl rfl)
theorem dX1_begins_22 : decode cX1_begins 22 = .ok (.iinc 1 1, 3) := dk_132 1 1 (dk_at dksX1_begins_1 0 rfl rfl)
theorem dX1_begins_25 : decode cX1_begins 25 = .ok (.goto (-16), 3) := dk_167 255 240 (dk_at dksX1_begins_1 3 rfl rfl)
theorem dX1_begins_28 : decode cX1_begins 28 = .ok (.aload_n 0, 1) := dk_42 (dk_at dksX1_begins_1 6 rfl rfl)
theorem dX1_begins_29 : decode cX1_begins 29 = .ok (.getfield 58, 3) := dk_180 0 58 (dk_at dksX1_begins_1 7 rfl rfl)
theorem dX1_begins_32 : decode cX1_begins 32 = .ok (.invokevirtual 101, 3) := dk_182 0 101 (dk_at dksX1_begins_1 10 rfl rfl)
theorem dX1_begins_35 : decode cX1_begins 35 = .ok (.pop, 1) := dk_87 (dk_at dksX1_begins_1 13 rfl rfl)
theorem dX1_begins_36 : decode cX1_begins 36 = .ok (.aload_n 0, 1) := dk_42 (dk_at dksX1_begins_1 14 rfl rfl)
theorem dX1_begins_37 : decode cX1_begins 37 = .ok (.iconst 0, 1) := dk_3 (dk_at dksX1_begins_1 15 rfl rfl)
theorem dX1_begins_38 : decode cX1_begins 38 = .ok (.putfield 104, 3) := dk_181 0 104 (dk_at dksX1_begins_1 16 rfl rfl)
theorem dX1_begins_41 : decode cX1_begins 41 = .ok (.aload_n 0, 1) := dk_42 (dk_at dksX1_begins_1 19 rfl rfl)
theorem dX1_begins_42 : decode cX1_begins 42 = .ok (.iconst 0, 1) := dk_3 (dk_at dksX1_begins_1 20 rfl rfl)
theorem dX1_begins_43 : decode cX1_begins 43 = .ok (.putfield 107, 3) := dk_181 0 107 (dk_at dksX1_begins_1 21 rfl rfl)
theorem dX1_begins_46 : decode cX1_begins 46 = .ok (.aload_n 0, 1) := dk_42 (dk_at dksX1_begins_2 0 rfl rfl)
theorem dX1_begins_47 : decode cX1_begins 47 = .ok (.iconst 0, 1) := dk_3 (dk_at dksX1_begins_2 1 rfl rfl)
theorem dX1_begins_48 : decode cX1_begins 48 = .ok (.putfield 110, 3) := dk_181 0 110 (dk_at dksX1_begins_2 2 rfl rfl)
theorem dX1_begins_51 : decode cX1_begins 51 = .ok (.aload_n 0, 1) := dk_42 (dk_at dksX1_begins_2 5 rfl rfl)
theorem dX1_begins_52 : decode cX1_begins 52 = .ok (.iconst 0, 1) := dk_3 (dk_at dksX1_begins_2 6 rfl rfl)
theorem dX1_begins_53 : decode cX1_begins 53 = .ok (.putfield 113, 3) := dk_181 0 113 (dk_at dksX1_begins_2 7 rfl rfl)
theorem dX1_begins_56 : decode cX1_begins 56 = .ok (.return_, 1) := dk_177 (dk_at dksX1_begins_2 10 rfl rfl)
def dkwX1_feed_2 : List UInt8 := [172]
abbrev dktX1_feed_2 : List UInt8 := dkwX1_feed_2 ++ []
def dkwX1_feed_1 : List UInt8 := [182, 0, 172, 42, 29, 182, 0, 172, 42, 21, 4, 182, 0, 172, 42, 21, 5, 182, 0, 172, 42, 180, 0, 169]
abbrev dktX1_feed_1 : List UInt8 := dkwX1_feed_1 ++ dktX1_feed_2
def dkwX1_feed_0 : List UInt8 := [42, 180, 0, 169, 16, 20, 96, 17, 2, 88, 164, 0, 5, 2, 172, 42, 27, 182, 0, 172, 42, 28]
abbrev dktX1_feed_0 : List UInt8 := dkwX1_feed_0 ++ dktX1_feed_1
theorem dksX1_feed_0 : cX1_feed.data.toList.drop 0 = dktX1_feed_0 := by decide +kernel
theorem dksX1_feed_1 : cX1_feed.data.toList.drop 22 = dktX1_feed_1 := dk_seg dksX1_feed_0 22 rfl rfl
theorem dksX1_feed_2 : cX1_feed.data.toList.drop 46 = dktX1_feed_2 := dk_seg dksX1_feed_1 24 rfl rfl
theorem dX1_feed_0 : decode cX1_feed 0 = .ok (.aload_n 0, 1) := dk_42 (dk_at dksX1_feed_0 0 rfl rfl)
theorem dX1_feed_1 : decode cX1_feed 1 = .ok (.getfield 169, 3) := dk_180 0 169 (dk_at dksX1_feed_0 1 rfl rfl)
theorem dX1_feed_4 : decode cX1_feed 4 = .ok (.bipush 20, 2) := dk_16 20 (dk_at dksX1_feed_0 4 rfl rfl)
theorem dX1_feed_6 : decode cX1_feed 6 = .ok (.iadd, 1) := dk_96 (dk_at dksX1_feed_0 6 rfl rfl)
theorem dX1_feed_7 : decode cX1_feed 7 = .ok (.sipush 600, 3) := dk_17 2 88 (dk_at dksX1_feed_0 7 rfl rfl)
theorem dX1_feed_10 : decode cX1_feed 10 = .ok (.if_icmp .le 5, 3) := dk_164 0 5 (dk_at dksX1_feed_0 10 rfl rfl)
theorem dX1_feed_13 : decode cX1_feed 13 = .ok (.iconst (-1), 1) := dk_2 (dk_at dksX1_feed_0 13 rfl rfl)
theorem dX1_feed_14 : decode cX1_feed 14 = .ok (.ireturn, 1) := dk_172 (dk_at dksX1_feed_0 14 rfl rfl)
theorem dX1_feed_15 : decode cX1_feed 15 = .ok (.aload_n 0, 1) := dk_42 (dk_at dksX1_feed_0 15 rfl rfl)
theorem dX1_feed_16 : decode cX1_feed 16 = .ok (.iload_n 1, 1) := dk_27 (dk_at dksX1_feed_0 16 rfl rfl)
theorem dX1_feed_17 : decode cX1_feed 17 = .ok (.invokevirtual 172, 3) := dk_182 0 172 (dk_at dksX1_feed_0 17 rfl rfl)
theorem dX1_feed_20 : decode cX1_feed 20 = .ok (.aload_n 0, 1) := dk_42 (dk_at dksX1_feed_0 20 rfl rfl)
theorem dX1_feed_21 : decode cX1_feed 21 = .ok (.iload_n 2, 1) := dk_28 (dk_at dksX1_feed_0 21 rfl rfl)
theorem dX1_feed_22 : decode cX1_feed 22 = .ok (.invokevirtual 172, 3) := dk_182 0 172 (dk_at dksX1_feed_1 0 rfl rfl)
theorem dX1_feed_25 : decode cX1_feed 25 = .ok (.aload_n 0, 1) := dk_42 (dk_at dksX1_feed_1 3 rfl rfl)
theorem dX1_feed_26 : decode cX1_feed 26 = .ok (.iload_n 3, 1) := dk_29 (dk_at dksX1_feed_1 4 rfl rfl)
theorem dX1_feed_27 : decode cX1_feed 27 = .ok (.invokevirtual 172, 3) := dk_182 0 172 (dk_at dksX1_feed_1 5 rfl rfl)
theorem dX1_feed_30 : decode cX1_feed 30 = .ok (.aload_n 0, 1) := dk_42 (dk_at dksX1_feed_1 8 rfl rfl)
theorem dX1_feed_31 : decode cX1_feed 31 = .ok (.iload 4, 2) := dk_21 4 (dk_at dksX1_feed_1 9 rfl rfl)
theorem dX1_feed_33 : decode cX1_feed 33 = .ok (.invokevirtual 172, 3) := dk_182 0 172 (dk_at dksX1_feed_1 11 rfl rfl)
theorem dX1_feed_36 : decode cX1_feed 36 = .ok (.aload_n 0, 1) := dk_42 (dk_at dksX1_feed_1 14 rfl rfl)
theorem dX1_feed_37 : decode cX1_feed 37 = .ok (.iload 5, 2) := dk_21 5 (dk_at dksX1_feed_1 15 rfl rfl)
theorem dX1_feed_39 : decode cX1_feed 39 = .ok (.invokevirtual 172, 3) := dk_182 0 172 (dk_at dksX1_feed_1 17 rfl rfl)
theorem dX1_feed_42 : decode cX1_feed 42 = .ok (.aload_n 0, 1) := dk_42 (dk_at dksX1_feed_1 20 rfl rfl)
theorem dX1_feed_43 : decode cX1_feed 43 = .ok (.getfield 169, 3) := dk_180 0 169 (dk_at dksX1_feed_1 21 rfl rfl)
theorem dX1_feed_46 : decode cX1_feed 46 = .ok (.ireturn, 1) := dk_172 (dk_at dksX1_feed_2 0 rfl rfl)
def dkwX1_put_1 : List UInt8 := [180, 0, 169, 4, 96, 181, 0, 169, 132, 2, 248, 167, 255, 226, 177]
abbrev dktX1_put_1 : List UInt8 := dkwX1_put_1 ++ []
def dkwX1_put_0 : List UInt8 := [16, 24, 61, 28, 155, 0, 32, 42, 180, 0, 82, 42, 180, 0, 169, 27, 28, 122, 145, 84, 42, 89]
abbrev dktX1_put_0 : List UInt8 := dkwX1_put_0 ++ dktX1_put_1
theorem dksX1_put_0 : cX1_put.data.toList.drop 0 = dktX1_put_0 := by decide +kernel
theorem dksX1_put_1 : cX1_put.data.toList.drop 22 = dktX1_put_1 := dk_seg dksX1_put_0 22 rfl rfl
theorem dX1_put_0 : decode cX1_put 0 = .ok (.bipush 24, 2) := dk_16 24 (dk_at dksX1_put_0 0 rfl rfl)
theorem dX1_put_2 : decode cX1_put 2 = .ok (.istore_n 2, 1) := dk_61 (dk_at dksX1_put_0 2 rfl rfl)
theorem dX1_put_3 : decode cX1_put 3 = .ok (.iload_n 2, 1) := dk_28 (dk_at dksX1_put_0 3 rfl rfl)
theorem dX1_put_4 : decode cX1_put 4 = .ok (.ifCond .lt 32, 3) := dk_155 0 32 (dk_at dksX1_put_0 4 rfl rfl)
theorem dX1_put_7 : decode cX1_put 7 = .ok (.aload_n 0, 1) := dk_42 (dk_at dksX1_put_0 7 rfl rfl)
theorem dX1_put_8 : decode cX1_put 8 = .ok (.getfield 82, 3) := dk_180 0 82 (dk_at dksX1_put_0 8 rfl rfl)
theorem dX1_put_11 : decode cX1_put 11 = .ok (.aload_n 0, 1) := dk_42 (dk_at dksX1_put_0 11 rfl rfl)
theorem dX1_put_12 : decode cX1_put 12 = .ok (.getfield 169, 3) := dk_180 0 169 (dk_at dksX1_put_0 12 rfl rfl)
theorem dX1_put_15 : decode cX1_put 15 = .ok (.iload_n 1, 1) := dk_27 (dk_at dksX1_put_0 15 rfl rfl)
theorem dX1_put_16 : decode cX1_put 16 = .ok (.iload_n 2, 1) := dk_28 (dk_at dksX1_put_0 16 rfl rfl)
theorem dX1_put_17 : decode cX1_put 17 = .ok (.ishr, 1) := dk_122 (dk_at dksX1_put_0 17 rfl rfl)
theorem dX1_put_18 : decode cX1_put 18 = .ok (.i2b, 1) := dk_145 (dk_at dksX1_put_0 18 rfl rfl)
theorem dX1_put_19 : decode cX1_put 19 = .ok (.bastore, 1) := dk_84 (dk_at dksX1_put_0 19 rfl rfl)
theorem dX1_put_20 : decode cX1_put 20 = .ok (.aload_n 0, 1) := dk_42 (dk_at dksX1_put_0 20 rfl rfl)
theorem dX1_put_21 : decode cX1_put 21 = .ok (.dup, 1) := dk_89 (dk_at dksX1_put_0 21 rfl rfl)
theorem dX1_put_22 : decode cX1_put 22 = .ok (.getfield 169, 3) := dk_180 0 169 (dk_at dksX1_put_1 0 rfl rfl)
theorem dX1_put_25 : decode cX1_put 25 = .ok (.iconst 1, 1) := dk_4 (dk_at dksX1_put_1 3 rfl rfl)
theorem dX1_put_26 : decode cX1_put 26 = .ok (.iadd, 1) := dk_96 (dk_at dksX1_put_1 4 rfl rfl)
theorem dX1_put_27 : decode cX1_put 27 = .ok (.putfield 169, 3) := dk_181 0 169 (dk_at dksX1_put_1 5 rfl rfl)
theorem dX1_put_30 : decode cX1_put 30 = .ok (.iinc 2 (-8), 3) := dk_132 2 248 (dk_at dksX1_put_1 8 rfl rfl)
theorem dX1_put_33 : decode cX1_put 33 = .ok (.goto (-30), 3) := dk_167 255 226 (dk_at dksX1_put_1 11 rfl rfl)
theorem dX1_put_36 : decode cX1_put 36 = .ok (.return_, 1) := dk_177 (dk_at dksX1_put_1 14 rfl rfl)
theorem dX1_fault_0 : decode cX1_fault 0 = .ok (.aload_n 0, 1) := by decide +kernel
theorem dX1_fault_1 : decode cX1_fault 1 = .ok (.getfield 78, 3) := by decide +kernel
theorem dX1_fault_4 : decode cX1_fault 4 = .ok (.ireturn, 1) := by decide +kernel
def dkwX1_undo_1 : List UInt8 := [180, 0, 65, 42, 180, 0, 104, 50, 182, 0, 248, 87, 42, 3, 181, 0, 107, 42, 180, 0, 104, 172]
abbrev dktX1_undo_1 : List UInt8 := dkwX1_undo_1 ++ []
def dkwX1_undo_0 : List UInt8 := [42, 180, 0, 104, 154, 0, 5, 2, 172, 42, 89, 180, 0, 104, 4, 100, 181, 0, 104, 42, 180, 0, 58, 42]
abbrev dktX1_undo_0 : List UInt8 := dkwX1_undo_0 ++ dktX1_undo_1
theorem dksX1_undo_0 : cX1_undo.data.toList.drop 0 = dktX1_undo_0 := by decide +kernel
theorem dksX1_undo_1 : cX1_undo.data.toList.drop 24 = dktX1_undo_1 := dk_seg dksX1_undo_0 24 rfl rfl
theorem dX1_undo_0 : decode cX1_undo 0 = .ok (.aload_n 0, 1) := dk_42 (dk_at dksX1_undo_0 0 rfl rfl)
theorem dX1_undo_1 : decode cX1_undo 1 = .ok (.getfield 104, 3) := dk_180 0 104 (dk_at dksX1_undo_0 1 rfl rfl)
theorem dX1_undo_4 : decode cX1_undo 4 = .ok (.ifCond .ne 5, 3) := dk_154 0 5 (dk_at dksX1_undo_0 4 rfl rfl)
theorem dX1_undo_7 : decode cX1_undo 7 = .ok (.iconst (-1), 1) := dk_2 (dk_at dksX1_undo_0 7 rfl rfl)
theorem dX1_undo_8 : decode cX1_undo 8 = .ok (.ireturn, 1) := dk_172 (dk_at dksX1_undo_0 8 rfl rfl)
theorem dX1_undo_9 : decode cX1_undo 9 = .ok (.aload_n 0, 1) := dk_42 (dk_at dksX1_undo_0 9 rfl rfl)
theorem dX1_undo_10 : decode cX1_undo 10 = .ok (.dup, 1) := dk_89 (dk_at dksX1_undo_0 10 rfl rfl)
theorem dX1_undo_11 : decode cX1_undo 11 = .ok (.getfield 104, 3) := dk_180 0 104 (dk_at dksX1_undo_0 11 rfl rfl)
theorem dX1_undo_14 : decode cX1_undo 14 = .ok (.iconst 1, 1) := dk_4 (dk_at dksX1_undo_0 14 rfl rfl)
theorem dX1_undo_15 : decode cX1_undo 15 = .ok (.isub, 1) := dk_100 (dk_at dksX1_undo_0 15 rfl rfl)
theorem dX1_undo_16 : decode cX1_undo 16 = .ok (.putfield 104, 3) := dk_181 0 104 (dk_at dksX1_undo_0 16 rfl rfl)
theorem dX1_undo_19 : decode cX1_undo 19 = .ok (.aload_n 0, 1) := dk_42 (dk_at dksX1_undo_0 19 rfl rfl)
theorem dX1_undo_20 : decode cX1_undo 20 = .ok (.getfield 58, 3) := dk_180 0 58 (dk_at dksX1_undo_0 20 rfl rfl)
theorem dX1_undo_23 : decode cX1_undo 23 = .ok (.aload_n 0, 1) := dk_42 (dk_at dksX1_undo_0 23 rfl rfl)
theorem dX1_undo_24 : decode cX1_undo 24 = .ok (.getfield 65, 3) := dk_180 0 65 (dk_at dksX1_undo_1 0 rfl rfl)
theorem dX1_undo_27 : decode cX1_undo 27 = .ok (.aload_n 0, 1) := dk_42 (dk_at dksX1_undo_1 3 rfl rfl)
theorem dX1_undo_28 : decode cX1_undo 28 = .ok (.getfield 104, 3) := dk_180 0 104 (dk_at dksX1_undo_1 4 rfl rfl)
theorem dX1_undo_31 : decode cX1_undo 31 = .ok (.aaload, 1) := dk_50 (dk_at dksX1_undo_1 7 rfl rfl)
theorem dX1_undo_32 : decode cX1_undo 32 = .ok (.invokevirtual 248, 3) := dk_182 0 248 (dk_at dksX1_undo_1 8 rfl rfl)
theorem dX1_undo_35 : decode cX1_undo 35 = .ok (.pop, 1) := dk_87 (dk_at dksX1_undo_1 11 rfl rfl)
theorem dX1_undo_36 : decode cX1_undo 36 = .ok (.aload_n 0, 1) := dk_42 (dk_at dksX1_undo_1 12 rfl rfl)
theorem dX1_undo_37 : decode cX1_undo 37 = .ok (.iconst 0, 1) := dk_3 (dk_at dksX1_undo_1 13 rfl rfl)
theorem dX1_undo_38 : decode cX1_undo 38 = .ok (.putfield 107, 3) := dk_181 0 107 (dk_at dksX1_undo_1 14 rfl rfl)
theorem dX1_undo_41 : decode cX1_undo 41 = .ok (.aload_n 0, 1) := dk_42 (dk_at dksX1_undo_1 17 rfl rfl)
theorem dX1_undo_42 : decode cX1_undo 42 = .ok (.getfield 104, 3) := dk_180 0 104 (dk_at dksX1_undo_1 18 rfl rfl)
theorem dX1_undo_45 : decode cX1_undo 45 = .ok (.ireturn, 1) := dk_172 (dk_at dksX1_undo_1 21 rfl rfl)
def dkwX1_bare_2 : List UInt8 := [167, 255, 213, 27, 172]
abbrev dktX1_bare_2 : List UInt8 := dkwX1_bare_2 ++ []
def dkwX1_bare_1 : List UInt8 := [160, 0, 7, 2, 167, 0, 15, 4, 42, 28, 182, 1, 42, 180, 1, 49, 120, 2, 130, 126, 60, 132, 2, 1]
abbrev dktX1_bare_1 : List UInt8 := dkwX1_bare_1 ++ dktX1_bare_2
def dkwX1_bare_0 : List UInt8 := [16, 63, 60, 3, 61, 28, 42, 182, 0, 165, 162, 0, 41, 27, 42, 180, 0, 58, 180, 1, 55, 28, 46, 2]
abbrev dktX1_bare_0 : List UInt8 := dkwX1_bare_0 ++ dktX1_bare_1
theorem dksX1_bare_0 : cX1_bare.data.toList.drop 0 = dktX1_bare_0 := by decide +kernel
theorem dksX1_bare_1 : cX1_bare.data.toList.drop 24 = dktX1_bare_1 := dk_seg dksX1_bare_0 24 rfl rfl
theorem dksX1_bare_2 : cX1_bare.data.toList.drop 48 = dktX1_bare_2 := dk_seg dksX1_bare_1 24 rfl rfl
theorem dX1_bare_0 : decode cX1_bare 0 = .ok (.bipush 63, 2) := dk_16 63 (dk_at dksX1_bare_0 0 rfl rfl)
theorem dX1_bare_2 : decode cX1_bare 2 = .ok (.istore_n 1, 1) := dk_60 (dk_at dksX1_bare_0 2 rfl rfl)
theorem dX1_bare_3 : decode cX1_bare 3 = .ok (.iconst 0, 1) := dk_3 (dk_at dksX1_bare_0 3 rfl rfl)
theorem dX1_bare_4 : decode cX1_bare 4 = .ok (.istore_n 2, 1) := dk_61 (dk_at dksX1_bare_0 4 rfl rfl)
theorem dX1_bare_5 : decode cX1_bare 5 = .ok (.iload_n 2, 1) := dk_28 (dk_at dksX1_bare_0 5 rfl rfl)
theorem dX1_bare_6 : decode cX1_bare 6 = .ok (.aload_n 0, 1) := dk_42 (dk_at dksX1_bare_0 6 rfl rfl)
theorem dX1_bare_7 : decode cX1_bare 7 = .ok (.invokevirtual 165, 3) := dk_182 0 165 (dk_at dksX1_bare_0 7 rfl rfl)
theorem dX1_bare_10 : decode cX1_bare 10 = .ok (.if_icmp .ge 41, 3) := dk_162 0 41 (dk_at dksX1_bare_0 10 rfl rfl)
theorem dX1_bare_13 : decode cX1_bare 13 = .ok (.iload_n 1, 1) := dk_27 (dk_at dksX1_bare_0 13 rfl rfl)
theorem dX1_bare_14 : decode cX1_bare 14 = .ok (.aload_n 0, 1) := dk_42 (dk_at dksX1_bare_0 14 rfl rfl)
theorem dX1_bare_15 : decode cX1_bare 15 = .ok (.getfield 58, 3) := dk_180 0 58 (dk_at dksX1_bare_0 15 rfl rfl)
theorem dX1_bare_18 : decode cX1_bare 18 = .ok (.getfield 311, 3) := dk_180 1 55 (dk_at dksX1_bare_0 18 rfl rfl)
theorem dX1_bare_21 : decode cX1_bare 21 = .ok (.iload_n 2, 1) := dk_28 (dk_at dksX1_bare_0 21 rfl rfl)
theorem dX1_bare_22 : decode cX1_bare 22 = .ok (.iaload, 1) := dk_46 (dk_at dksX1_bare_0 22 rfl rfl)
theorem dX1_bare_23 : decode cX1_bare 23 = .ok (.iconst (-1), 1) := dk_2 (dk_at dksX1_bare_0 23 rfl rfl)
theorem dX1_bare_24 : decode cX1_bare 24 = .ok (.if_icmp .ne 7, 3) := dk_160 0 7 (dk_at dksX1_bare_1 0 rfl rfl)
theorem dX1_bare_27 : decode cX1_bare 27 = .ok (.iconst (-1), 1) := dk_2 (dk_at dksX1_bare_1 3 rfl rfl)
theorem dX1_bare_28 : decode cX1_bare 28 = .ok (.goto 15, 3) := dk_167 0 15 (dk_at dksX1_bare_1 4 rfl rfl)
theorem dX1_bare_31 : decode cX1_bare 31 = .ok (.iconst 1, 1) := dk_4 (dk_at dksX1_bare_1 7 rfl rfl)
theorem dX1_bare_32 : decode cX1_bare 32 = .ok (.aload_n 0, 1) := dk_42 (dk_at dksX1_bare_1 8 rfl rfl)
theorem dX1_bare_33 : decode cX1_bare 33 = .ok (.iload_n 2, 1) := dk_28 (dk_at dksX1_bare_1 9 rfl rfl)
theorem dX1_bare_34 : decode cX1_bare 34 = .ok (.invokevirtual 298, 3) := dk_182 1 42 (dk_at dksX1_bare_1 10 rfl rfl)
theorem dX1_bare_37 : decode cX1_bare 37 = .ok (.getfield 305, 3) := dk_180 1 49 (dk_at dksX1_bare_1 13 rfl rfl)
theorem dX1_bare_40 : decode cX1_bare 40 = .ok (.ishl, 1) := dk_120 (dk_at dksX1_bare_1 16 rfl rfl)
theorem dX1_bare_41 : decode cX1_bare 41 = .ok (.iconst (-1), 1) := dk_2 (dk_at dksX1_bare_1 17 rfl rfl)
theorem dX1_bare_42 : decode cX1_bare 42 = .ok (.ixor, 1) := dk_130 (dk_at dksX1_bare_1 18 rfl rfl)
theorem dX1_bare_43 : decode cX1_bare 43 = .ok (.iand, 1) := dk_126 (dk_at dksX1_bare_1 19 rfl rfl)
theorem dX1_bare_44 : decode cX1_bare 44 = .ok (.istore_n 1, 1) := dk_60 (dk_at dksX1_bare_1 20 rfl rfl)
theorem dX1_bare_45 : decode cX1_bare 45 = .ok (.iinc 2 1, 3) := dk_132 2 1 (dk_at dksX1_bare_1 21 rfl rfl)
theorem dX1_bare_48 : decode cX1_bare 48 = .ok (.goto (-43), 3) := dk_167 255 213 (dk_at dksX1_bare_2 0 rfl rfl)
theorem dX1_bare_51 : decode cX1_bare 51 = .ok (.iload_n 1, 1) := dk_27 (dk_at dksX1_bare_2 3 rfl rfl)
theorem dX1_bare_52 : decode cX1_bare 52 = .ok (.ireturn, 1) := dk_172 (dk_at dksX1_bare_2 4 rfl rfl)
def dkwX1_relics_0 : List UInt8 := [42, 180, 0, 31, 180, 0, 116, 182, 0, 120, 172]
abbrev dktX1_relics_0 : List UInt8 := dkwX1_relics_0 ++ []
theorem dksX1_relics_0 : cX1_relics.data.toList.drop 0 = dktX1_relics_0 := by decide +kernel
theorem dX1_relics_0 : decode cX1_relics 0 = .ok (.aload_n 0, 1) := dk_42 (dk_at dksX1_relics_0 0 rfl rfl)
theorem dX1_relics_1 : decode cX1_relics 1 = .ok (.getfield 31, 3) := dk_180 0 31 (dk_at dksX1_relics_0 1 rfl rfl)
theorem dX1_relics_4 : decode cX1_relics 4 = .ok (.getfield 116, 3) := dk_180 0 116 (dk_at dksX1_relics_0 4 rfl rfl)
theorem dX1_relics_7 : decode cX1_relics 7 = .ok (.invokevirtual 120, 3) := dk_182 0 120 (dk_at dksX1_relics_0 7 rfl rfl)
theorem dX1_relics_10 : decode cX1_relics 10 = .ok (.ireturn, 1) := dk_172 (dk_at dksX1_relics_0 10 rfl rfl)
def dkwX1_relicOf_0 : List UInt8 := [42, 180, 0, 31, 180, 0, 116, 27, 182, 0, 129, 192, 0, 133, 176]
abbrev dktX1_relicOf_0 : List UInt8 := dkwX1_relicOf_0 ++ []
theorem dksX1_relicOf_0 : cX1_relicOf.data.toList.drop 0 = dktX1_relicOf_0 := by decide +kernel
theorem dX1_relicOf_0 : decode cX1_relicOf 0 = .ok (.aload_n 0, 1) := dk_42 (dk_at dksX1_relicOf_0 0 rfl rfl)
theorem dX1_relicOf_1 : decode cX1_relicOf 1 = .ok (.getfield 31, 3) := dk_180 0 31 (dk_at dksX1_relicOf_0 1 rfl rfl)
theorem dX1_relicOf_4 : decode cX1_relicOf 4 = .ok (.getfield 116, 3) := dk_180 0 116 (dk_at dksX1_relicOf_0 4 rfl rfl)
theorem dX1_relicOf_7 : decode cX1_relicOf 7 = .ok (.iload_n 1, 1) := dk_27 (dk_at dksX1_relicOf_0 7 rfl rfl)
theorem dX1_relicOf_8 : decode cX1_relicOf 8 = .ok (.invokevirtual 129, 3) := dk_182 0 129 (dk_at dksX1_relicOf_0 8 rfl rfl)
theorem dX1_relicOf_11 : decode cX1_relicOf 11 = .ok (.checkcast 133, 3) := dk_192 0 133 (dk_at dksX1_relicOf_0 11 rfl rfl)
theorem dX1_relicOf_14 : decode cX1_relicOf 14 = .ok (.areturn, 1) := dk_176 (dk_at dksX1_relicOf_0 14 rfl rfl)
def dkwX1_idle_2 : List UInt8 := [128, 60, 132, 2, 1, 167, 255, 207, 27, 172]
abbrev dktX1_idle_2 : List UInt8 := dkwX1_idle_2 ++ []
def dkwX1_idle_1 : List UInt8 := [184, 1, 94, 153, 0, 20, 42, 180, 0, 58, 28, 182, 1, 97, 154, 0, 9, 4, 28, 120, 167, 0, 4, 3]
abbrev dktX1_idle_1 : List UInt8 := dkwX1_idle_1 ++ dktX1_idle_2
def dkwX1_idle_0 : List UInt8 := [3, 60, 3, 61, 28, 42, 180, 0, 31, 180, 0, 158, 162, 0, 44, 27, 42, 180, 0, 58, 180, 1, 3, 28]
abbrev dktX1_idle_0 : List UInt8 := dkwX1_idle_0 ++ dktX1_idle_1
theorem dksX1_idle_0 : cX1_idle.data.toList.drop 0 = dktX1_idle_0 := by decide +kernel
theorem dksX1_idle_1 : cX1_idle.data.toList.drop 24 = dktX1_idle_1 := dk_seg dksX1_idle_0 24 rfl rfl
theorem dksX1_idle_2 : cX1_idle.data.toList.drop 48 = dktX1_idle_2 := dk_seg dksX1_idle_1 24 rfl rfl
theorem dX1_idle_0 : decode cX1_idle 0 = .ok (.iconst 0, 1) := dk_3 (dk_at dksX1_idle_0 0 rfl rfl)
theorem dX1_idle_1 : decode cX1_idle 1 = .ok (.istore_n 1, 1) := dk_60 (dk_at dksX1_idle_0 1 rfl rfl)
theorem dX1_idle_2 : decode cX1_idle 2 = .ok (.iconst 0, 1) := dk_3 (dk_at dksX1_idle_0 2 rfl rfl)
theorem dX1_idle_3 : decode cX1_idle 3 = .ok (.istore_n 2, 1) := dk_61 (dk_at dksX1_idle_0 3 rfl rfl)
theorem dX1_idle_4 : decode cX1_idle 4 = .ok (.iload_n 2, 1) := dk_28 (dk_at dksX1_idle_0 4 rfl rfl)
theorem dX1_idle_5 : decode cX1_idle 5 = .ok (.aload_n 0, 1) := dk_42 (dk_at dksX1_idle_0 5 rfl rfl)
theorem dX1_idle_6 : decode cX1_idle 6 = .ok (.getfield 31, 3) := dk_180 0 31 (dk_at dksX1_idle_0 6 rfl rfl)
theorem dX1_idle_9 : decode cX1_idle 9 = .ok (.getfield 158, 3) := dk_180 0 158 (dk_at dksX1_idle_0 9 rfl rfl)
theorem dX1_idle_12 : decode cX1_idle 12 = .ok (.if_icmp .ge 44, 3) := dk_162 0 44 (dk_at dksX1_idle_0 12 rfl rfl)
theorem dX1_idle_15 : decode cX1_idle 15 = .ok (.iload_n 1, 1) := dk_27 (dk_at dksX1_idle_0 15 rfl rfl)
theorem dX1_idle_16 : decode cX1_idle 16 = .ok (.aload_n 0, 1) := dk_42 (dk_at dksX1_idle_0 16 rfl rfl)
theorem dX1_idle_17 : decode cX1_idle 17 = .ok (.getfield 58, 3) := dk_180 0 58 (dk_at dksX1_idle_0 17 rfl rfl)
theorem dX1_idle_20 : decode cX1_idle 20 = .ok (.getfield 259, 3) := dk_180 1 3 (dk_at dksX1_idle_0 20 rfl rfl)
theorem dX1_idle_23 : decode cX1_idle 23 = .ok (.iload_n 2, 1) := dk_28 (dk_at dksX1_idle_0 23 rfl rfl)
theorem dX1_idle_24 : decode cX1_idle 24 = .ok (.invokestatic 350, 3) := dk_184 1 94 (dk_at dksX1_idle_1 0 rfl rfl)
theorem dX1_idle_27 : decode cX1_idle 27 = .ok (.ifCond .eq 20, 3) := dk_153 0 20 (dk_at dksX1_idle_1 3 rfl rfl)
theorem dX1_idle_30 : decode cX1_idle 30 = .ok (.aload_n 0, 1) := dk_42 (dk_at dksX1_idle_1 6 rfl rfl)
theorem dX1_idle_31 : decode cX1_idle 31 = .ok (.getfield 58, 3) := dk_180 0 58 (dk_at dksX1_idle_1 7 rfl rfl)
theorem dX1_idle_34 : decode cX1_idle 34 = .ok (.iload_n 2, 1) := dk_28 (dk_at dksX1_idle_1 10 rfl rfl)
theorem dX1_idle_35 : decode cX1_idle 35 = .ok (.invokevirtual 353, 3) := dk_182 1 97 (dk_at dksX1_idle_1 11 rfl rfl)
theorem dX1_idle_38 : decode cX1_idle 38 = .ok (.ifCond .ne 9, 3) := dk_154 0 9 (dk_at dksX1_idle_1 14 rfl rfl)
theorem dX1_idle_41 : decode cX1_idle 41 = .ok (.iconst 1, 1) := dk_4 (dk_at dksX1_idle_1 17 rfl rfl)
theorem dX1_idle_42 : decode cX1_idle 42 = .ok (.iload_n 2, 1) := dk_28 (dk_at dksX1_idle_1 18 rfl rfl)
theorem dX1_idle_43 : decode cX1_idle 43 = .ok (.ishl, 1) := dk_120 (dk_at dksX1_idle_1 19 rfl rfl)
theorem dX1_idle_44 : decode cX1_idle 44 = .ok (.goto 4, 3) := dk_167 0 4 (dk_at dksX1_idle_1 20 rfl rfl)
theorem dX1_idle_47 : decode cX1_idle 47 = .ok (.iconst 0, 1) := dk_3 (dk_at dksX1_idle_1 23 rfl rfl)
theorem dX1_idle_48 : decode cX1_idle 48 = .ok (.ior, 1) := dk_128 (dk_at dksX1_idle_2 0 rfl rfl)
theorem dX1_idle_49 : decode cX1_idle 49 = .ok (.istore_n 1, 1) := dk_60 (dk_at dksX1_idle_2 1 rfl rfl)
theorem dX1_idle_50 : decode cX1_idle 50 = .ok (.iinc 2 1, 3) := dk_132 2 1 (dk_at dksX1_idle_2 2 rfl rfl)
theorem dX1_idle_53 : decode cX1_idle 53 = .ok (.goto (-49), 3) := dk_167 255 207 (dk_at dksX1_idle_2 5 rfl rfl)
theorem dX1_idle_56 : decode cX1_idle 56 = .ok (.iload_n 1, 1) := dk_27 (dk_at dksX1_idle_2 8 rfl rfl)
theorem dX1_idle_57 : decode cX1_idle 57 = .ok (.ireturn, 1) := dk_172 (dk_at dksX1_idle_2 9 rfl rfl)
def dkwX1_has_0 : List UInt8 := [26, 27, 122, 4, 126, 4, 160, 0, 7, 4, 167, 0, 4, 3, 172]
abbrev dktX1_has_0 : List UInt8 := dkwX1_has_0 ++ []
theorem dksX1_has_0 : cX1_has.data.toList.drop 0 = dktX1_has_0 := by decide +kernel
theorem dX1_has_0 : decode cX1_has 0 = .ok (.iload_n 0, 1) := dk_26 (dk_at dksX1_has_0 0 rfl rfl)
theorem dX1_has_1 : decode cX1_has 1 = .ok (.iload_n 1, 1) := dk_27 (dk_at dksX1_has_0 1 rfl rfl)
theorem dX1_has_2 : decode cX1_has 2 = .ok (.ishr, 1) := dk_122 (dk_at dksX1_has_0 2 rfl rfl)
theorem dX1_has_3 : decode cX1_has 3 = .ok (.iconst 1, 1) := dk_4 (dk_at dksX1_has_0 3 rfl rfl)
theorem dX1_has_4 : decode cX1_has 4 = .ok (.iand, 1) := dk_126 (dk_at dksX1_has_0 4 rfl rfl)
theorem dX1_has_5 : decode cX1_has 5 = .ok (.iconst 1, 1) := dk_4 (dk_at dksX1_has_0 5 rfl rfl)
theorem dX1_has_6 : decode cX1_has 6 = .ok (.if_icmp .ne 7, 3) := dk_160 0 7 (dk_at dksX1_has_0 6 rfl rfl)
theorem dX1_has_9 : decode cX1_has 9 = .ok (.iconst 1, 1) := dk_4 (dk_at dksX1_has_0 9 rfl rfl)
theorem dX1_has_10 : decode cX1_has 10 = .ok (.goto 4, 3) := dk_167 0 4 (dk_at dksX1_has_0 10 rfl rfl)
theorem dX1_has_13 : decode cX1_has 13 = .ok (.iconst 0, 1) := dk_3 (dk_at dksX1_has_0 13 rfl rfl)
theorem dX1_has_14 : decode cX1_has 14 = .ok (.ireturn, 1) := dk_172 (dk_at dksX1_has_0 14 rfl rfl)
def dkwX1_match_0 : List UInt8 := [42, 182, 1, 100, 42, 180, 0, 86, 3, 46, 172]
abbrev dktX1_match_0 : List UInt8 := dkwX1_match_0 ++ []
theorem dksX1_match_0 : cX1_match.data.toList.drop 0 = dktX1_match_0 := by decide +kernel
theorem dX1_match_0 : decode cX1_match 0 = .ok (.aload_n 0, 1) := dk_42 (dk_at dksX1_match_0 0 rfl rfl)
theorem dX1_match_1 : decode cX1_match 1 = .ok (.invokevirtual 356, 3) := dk_182 1 100 (dk_at dksX1_match_0 1 rfl rfl)
theorem dX1_match_4 : decode cX1_match 4 = .ok (.aload_n 0, 1) := dk_42 (dk_at dksX1_match_0 4 rfl rfl)
theorem dX1_match_5 : decode cX1_match 5 = .ok (.getfield 86, 3) := dk_180 0 86 (dk_at dksX1_match_0 5 rfl rfl)
theorem dX1_match_8 : decode cX1_match 8 = .ok (.iconst 0, 1) := dk_3 (dk_at dksX1_match_0 8 rfl rfl)
theorem dX1_match_9 : decode cX1_match 9 = .ok (.iaload, 1) := dk_46 (dk_at dksX1_match_0 9 rfl rfl)
theorem dX1_match_10 : decode cX1_match 10 = .ok (.ireturn, 1) := dk_172 (dk_at dksX1_match_0 10 rfl rfl)
def dkwX1_findMatch_15 : List UInt8 := [132, 3, 1, 167, 255, 132, 177]
abbrev dktX1_findMatch_15 : List UInt8 := dkwX1_findMatch_15 ++ []
def dkwX1_findMatch_14 : List UInt8 := [180, 0, 89, 29, 21, 4, 79, 28, 21, 4, 2, 160, 0, 7, 3, 167, 0, 7, 4, 21, 4, 120, 128, 61]
abbrev dktX1_findMatch_14 : List UInt8 := dkwX1_findMatch_14 ++ dktX1_findMatch_15
def dkwX1_findMatch_13 : List UInt8 := [180, 0, 86, 29, 16, 10, 120, 28, 128, 46, 160, 0, 7, 21, 5, 54, 4, 132, 5, 1, 167, 255, 177, 42]
abbrev dktX1_findMatch_13 : List UInt8 := dkwX1_findMatch_13 ++ dktX1_findMatch_14
def dkwX1_findMatch_12 : List UInt8 := [153, 0, 41, 4, 42, 180, 0, 86, 29, 4, 96, 16, 10, 120, 28, 128, 4, 21, 5, 120, 128, 46, 96, 42]
abbrev dktX1_findMatch_12 : List UInt8 := dkwX1_findMatch_12 ++ dktX1_findMatch_13
def dkwX1_findMatch_11 : List UInt8 := [160, 0, 70, 28, 21, 5, 184, 1, 94, 154, 0, 55, 42, 180, 0, 92, 29, 46, 21, 5, 184, 1, 94]
abbrev dktX1_findMatch_11 : List UInt8 := dkwX1_findMatch_11 ++ dktX1_findMatch_12
def dkwX1_findMatch_10 : List UInt8 := [182, 0, 167, 162, 0, 122, 2, 54, 4, 3, 54, 5, 21, 5, 42, 182, 0, 165, 162, 0, 76, 21, 4, 2]
abbrev dktX1_findMatch_10 : List UInt8 := dkwX1_findMatch_10 ++ dktX1_findMatch_11
def dkwX1_findMatch_9 : List UInt8 := [128, 21, 4, 79, 132, 3, 1, 167, 255, 152, 132, 2, 255, 167, 255, 140, 3, 61, 3, 62, 29, 42]
abbrev dktX1_findMatch_9 : List UInt8 := dkwX1_findMatch_9 ++ dktX1_findMatch_10
def dkwX1_findMatch_8 : List UInt8 := [120, 128, 46, 96, 184, 0, 149, 54, 4, 132, 5, 1, 167, 255, 194, 42, 180, 0, 86, 28, 16, 10, 120, 29]
abbrev dktX1_findMatch_8 : List UInt8 := dkwX1_findMatch_8 ++ dktX1_findMatch_9
def dkwX1_findMatch_7 : List UInt8 := [184, 1, 94, 153, 0, 30, 21, 4, 4, 42, 180, 0, 86, 28, 4, 96, 16, 10, 120, 29, 128, 4, 21, 5]
abbrev dktX1_findMatch_7 : List UInt8 := dkwX1_findMatch_7 ++ dktX1_findMatch_8
def dkwX1_findMatch_6 : List UInt8 := [182, 0, 165, 162, 0, 59, 29, 21, 5, 184, 1, 94, 154, 0, 44, 42, 180, 0, 92, 28, 46, 21, 5]
abbrev dktX1_findMatch_6 : List UInt8 := dkwX1_findMatch_6 ++ dktX1_findMatch_7
def dkwX1_findMatch_5 : List UInt8 := [162, 0, 105, 42, 180, 0, 86, 28, 4, 96, 16, 10, 120, 29, 128, 46, 54, 4, 3, 54, 5, 21, 5, 42]
abbrev dktX1_findMatch_5 : List UInt8 := dkwX1_findMatch_5 ++ dktX1_findMatch_6
def dkwX1_findMatch_4 : List UInt8 := [79, 132, 2, 1, 167, 255, 233, 42, 182, 0, 167, 4, 100, 61, 28, 155, 0, 118, 3, 62, 29, 27]
abbrev dktX1_findMatch_4 : List UInt8 := dkwX1_findMatch_4 ++ dktX1_findMatch_5
def dkwX1_findMatch_3 : List UInt8 := [167, 255, 194, 3, 61, 28, 27, 162, 0, 24, 42, 180, 0, 86, 42, 182, 0, 167, 16, 10, 120, 28, 128, 3]
abbrev dktX1_findMatch_3 : List UInt8 := dkwX1_findMatch_3 ++ dktX1_findMatch_4
def dkwX1_findMatch_2 : List UInt8 := [182, 1, 82, 153, 0, 9, 4, 29, 120, 167, 0, 4, 3, 128, 79, 132, 3, 1, 167, 255, 217, 132, 2, 1]
abbrev dktX1_findMatch_2 : List UInt8 := dkwX1_findMatch_2 ++ dktX1_findMatch_3
def dkwX1_findMatch_1 : List UInt8 := [3, 62, 29, 42, 182, 0, 165, 162, 0, 37, 42, 180, 0, 92, 28, 92, 46, 42, 180, 0, 58, 29, 28]
abbrev dktX1_findMatch_1 : List UInt8 := dkwX1_findMatch_1 ++ dktX1_findMatch_2
def dkwX1_findMatch_0 : List UInt8 := [4, 42, 182, 0, 165, 120, 60, 3, 61, 28, 42, 182, 0, 167, 162, 0, 60, 42, 180, 0, 92, 28, 3, 79]
abbrev dktX1_findMatch_0 : List UInt8 := dkwX1_findMatch_0 ++ dktX1_findMatch_1
theorem dksX1_findMatch_0 : cX1_findMatch.data.toList.drop 0 = dktX1_findMatch_0 := by decide +kernel
theorem dksX1_findMatch_1 : cX1_findMatch.data.toList.drop 24 = dktX1_findMatch_1 := dk_seg dksX1_findMatch_0 24 rfl rfl
theorem dksX1_findMatch_2 : cX1_findMatch.data.toList.drop 47 = dktX1_findMatch_2 := dk_seg dksX1_findMatch_1 23 rfl rfl
theorem dksX1_findMatch_3 : cX1_findMatch.data.toList.drop 71 = dktX1_findMatch_3 := dk_seg dksX1_findMatch_2 24 rfl rfl
theorem dksX1_findMatch_4 : cX1_findMatch.data.toList.drop 95 = dktX1_findMatch_4 := dk_seg dksX1_findMatch_3 24 rfl rfl
theorem dksX1_findMatch_5 : cX1_findMatch.data.toList.drop 117 = dktX1_findMatch_5 := dk_seg dksX1_findMatch_4 22 rfl rfl
theorem dksX1_findMatch_6 : cX1_findMatch.data.toList.drop 141 = dktX1_findMatch_6 := dk_seg dksX1_findMatch_5 24 rfl rfl
theorem dksX1_findMatch_7 : cX1_findMatch.data.toList.drop 164 = dktX1_findMatch_7 := dk_seg dksX1_findMatch_6 23 rfl rfl
theorem dksX1_findMatch_8 : cX1_findMatch.data.toList.drop 188 = dktX1_findMatch_8 := dk_seg dksX1_findMatch_7 24 rfl rfl
theorem dksX1_findMatch_9 : cX1_findMatch.data.toList.drop 212 = dktX1_findMatch_9 := dk_seg dksX1_findMatch_8 24 rfl rfl
theorem dksX1_findMatch_10 : cX1_findMatch.data.toList.drop 234 = dktX1_findMatch_10 := dk_seg dksX1_findMatch_9 22 rfl rfl
theorem dksX1_findMatch_11 : cX1_findMatch.data.toList.drop 258 = dktX1_findMatch_11 := dk_seg dksX1_findMatch_10 24 rfl rfl
theorem dksX1_findMatch_12 : cX1_findMatch.data.toList.drop 281 = dktX1_findMatch_12 := dk_seg dksX1_findMatch_11 23 rfl rfl
theorem dksX1_findMatch_13 : cX1_findMatch.data.toList.drop 305 = dktX1_findMatch_13 := dk_seg dksX1_findMatch_12 24 rfl rfl
theorem dksX1_findMatch_14 : cX1_findMatch.data.toList.drop 329 = dktX1_findMatch_14 := dk_seg dksX1_findMatch_13 24 rfl rfl
theorem dksX1_findMatch_15 : cX1_findMatch.data.toList.drop 353 = dktX1_findMatch_15 := dk_seg dksX1_findMatch_14 24 rfl rfl
theorem dX1_findMatch_0 : decode cX1_findMatch 0 = .ok (.iconst 1, 1) := dk_4 (dk_at dksX1_findMatch_0 0 rfl rfl)
theorem dX1_findMatch_1 : decode cX1_findMatch 1 = .ok (.aload_n 0, 1) := dk_42 (dk_at dksX1_findMatch_0 1 rfl rfl)
theorem dX1_findMatch_2 : decode cX1_findMatch 2 = .ok (.invokevirtual 165, 3) := dk_182 0 165 (dk_at dksX1_findMatch_0 2 rfl rfl)
theorem dX1_findMatch_5 : decode cX1_findMatch 5 = .ok (.ishl, 1) := dk_120 (dk_at dksX1_findMatch_0 5 rfl rfl)
theorem dX1_findMatch_6 : decode cX1_findMatch 6 = .ok (.istore_n 1, 1) := dk_60 (dk_at dksX1_findMatch_0 6 rfl rfl)
theorem dX1_findMatch_7 : decode cX1_findMatch 7 = .ok (.iconst 0, 1) := dk_3 (dk_at dksX1_findMatch_0 7 rfl rfl)
theorem dX1_findMatch_8 : decode cX1_findMatch 8 = .ok (.istore_n 2, 1) := dk_61 (dk_at dksX1_findMatch_0 8 rfl rfl)
theorem dX1_findMatch_9 : decode cX1_findMatch 9 = .ok (.iload_n 2, 1) := dk_28 (dk_at dksX1_findMatch_0 9 rfl rfl)
theorem dX1_findMatch_10 : decode cX1_findMatch 10 = .ok (.aload_n 0, 1) := dk_42 (dk_at dksX1_findMatch_0 10 rfl rfl)
theorem dX1_findMatch_11 : decode cX1_findMatch 11 = .ok (.invokevirtual 167, 3) := dk_182 0 167 (dk_at dksX1_findMatch_0 11 rfl rfl)
theorem dX1_findMatch_14 : decode cX1_findMatch 14 = .ok (.if_icmp .ge 60, 3) := dk_162 0 60 (dk_at dksX1_findMatch_0 14 rfl rfl)
theorem dX1_findMatch_17 : decode cX1_findMatch 17 = .ok (.aload_n 0, 1) := dk_42 (dk_at dksX1_findMatch_0 17 rfl rfl)
theorem dX1_findMatch_18 : decode cX1_findMatch 18 = .ok (.getfield 92, 3) := dk_180 0 92 (dk_at dksX1_findMatch_0 18 rfl rfl)
theorem dX1_findMatch_21 : decode cX1_findMatch 21 = .ok (.iload_n 2, 1) := dk_28 (dk_at dksX1_findMatch_0 21 rfl rfl)
theorem dX1_findMatch_22 : decode cX1_findMatch 22 = .ok (.iconst 0, 1) := dk_3 (dk_at dksX1_findMatch_0 22 rfl rfl)
theorem dX1_findMatch_23 : decode cX1_findMatch 23 = .ok (.iastore, 1) := dk_79 (dk_at dksX1_findMatch_0 23 rfl rfl)
theorem dX1_findMatch_24 : decode cX1_findMatch 24 = .ok (.iconst 0, 1) := dk_3 (dk_at dksX1_findMatch_1 0 rfl rfl)
theorem dX1_findMatch_25 : decode cX1_findMatch 25 = .ok (.istore_n 3, 1) := dk_62 (dk_at dksX1_findMatch_1 1 rfl rfl)
theorem dX1_findMatch_26 : decode cX1_findMatch 26 = .ok (.iload_n 3, 1) := dk_29 (dk_at dksX1_findMatch_1 2 rfl rfl)
theorem dX1_findMatch_27 : decode cX1_findMatch 27 = .ok (.aload_n 0, 1) := dk_42 (dk_at dksX1_findMatch_1 3 rfl rfl)
theorem dX1_findMatch_28 : decode cX1_findMatch 28 = .ok (.invokevirtual 165, 3) := dk_182 0 165 (dk_at dksX1_findMatch_1 4 rfl rfl)
theorem dX1_findMatch_31 : decode cX1_findMatch 31 = .ok (.if_icmp .ge 37, 3) := dk_162 0 37 (dk_at dksX1_findMatch_1 7 rfl rfl)
theorem dX1_findMatch_34 : decode cX1_findMatch 34 = .ok (.aload_n 0, 1) := dk_42 (dk_at dksX1_findMatch_1 10 rfl rfl)
theorem dX1_findMatch_35 : decode cX1_findMatch 35 = .ok (.getfield 92, 3) := dk_180 0 92 (dk_at dksX1_findMatch_1 11 rfl rfl)
theorem dX1_findMatch_38 : decode cX1_findMatch 38 = .ok (.iload_n 2, 1) := dk_28 (dk_at dksX1_findMatch_1 14 rfl rfl)
theorem dX1_findMatch_39 : decode cX1_findMatch 39 = .ok (.dup2, 1) := dk_92 (dk_at dksX1_findMatch_1 15 rfl rfl)
theorem dX1_findMatch_40 : decode cX1_findMatch 40 = .ok (.iaload, 1) := dk_46 (dk_at dksX1_findMatch_1 16 rfl rfl)
theorem dX1_findMatch_41 : decode cX1_findMatch 41 = .ok (.aload_n 0, 1) := dk_42 (dk_at dksX1_findMatch_1 17 rfl rfl)
theorem dX1_findMatch_42 : decode cX1_findMatch 42 = .ok (.getfield 58, 3) := dk_180 0 58 (dk_at dksX1_findMatch_1 18 rfl rfl)
theorem dX1_findMatch_45 : decode cX1_findMatch 45 = .ok (.iload_n 3, 1) := dk_29 (dk_at dksX1_findMatch_1 21 rfl rfl)
theorem dX1_findMatch_46 : decode cX1_findMatch 46 = .ok (.iload_n 2, 1) := dk_28 (dk_at dksX1_findMatch_1 22 rfl rfl)
theorem dX1_findMatch_47 : decode cX1_findMatch 47 = .ok (.invokevirtual 338, 3) := dk_182 1 82 (dk_at dksX1_findMatch_2 0 rfl rfl)
theorem dX1_findMatch_50 : decode cX1_findMatch 50 = .ok (.ifCond .eq 9, 3) := dk_153 0 9 (dk_at dksX1_findMatch_2 3 rfl rfl)
theorem dX1_findMatch_53 : decode cX1_findMatch 53 = .ok (.iconst 1, 1) := dk_4 (dk_at dksX1_findMatch_2 6 rfl rfl)
theorem dX1_findMatch_54 : decode cX1_findMatch 54 = .ok (.iload_n 3, 1) := dk_29 (dk_at dksX1_findMatch_2 7 rfl rfl)
theorem dX1_findMatch_55 : decode cX1_findMatch 55 = .ok (.ishl, 1) := dk_120 (dk_at dksX1_findMatch_2 8 rfl rfl)
theorem dX1_findMatch_56 : decode cX1_findMatch 56 = .ok (.goto 4, 3) := dk_167 0 4 (dk_at dksX1_findMatch_2 9 rfl rfl)
theorem dX1_findMatch_59 : decode cX1_findMatch 59 = .ok (.iconst 0, 1) := dk_3 (dk_at dksX1_findMatch_2 12 rfl rfl)
theorem dX1_findMatch_60 : decode cX1_findMatch 60 = .ok (.ior, 1) := dk_128 (dk_at dksX1_findMatch_2 13 rfl rfl)
theorem dX1_findMatch_61 : decode cX1_findMatch 61 = .ok (.iastore, 1) := dk_79 (dk_at dksX1_findMatch_2 14 rfl rfl)
theorem dX1_findMatch_62 : decode cX1_findMatch 62 = .ok (.iinc 3 1, 3) := dk_132 3 1 (dk_at dksX1_findMatch_2 15 rfl rfl)
theorem dX1_findMatch_65 : decode cX1_findMatch 65 = .ok (.goto (-39), 3) := dk_167 255 217 (dk_at dksX1_findMatch_2 18 rfl rfl)
theorem dX1_findMatch_68 : decode cX1_findMatch 68 = .ok (.iinc 2 1, 3) := dk_132 2 1 (dk_at dksX1_findMatch_2 21 rfl rfl)
theorem dX1_findMatch_71 : decode cX1_findMatch 71 = .ok (.goto (-62), 3) := dk_167 255 194 (dk_at dksX1_findMatch_3 0 rfl rfl)
theorem dX1_findMatch_74 : decode cX1_findMatch 74 = .ok (.iconst 0, 1) := dk_3 (dk_at dksX1_findMatch_3 3 rfl rfl)
theorem dX1_findMatch_75 : decode cX1_findMatch 75 = .ok (.istore_n 2, 1) := dk_61 (dk_at dksX1_findMatch_3 4 rfl rfl)
theorem dX1_findMatch_76 : decode cX1_findMatch 76 = .ok (.iload_n 2, 1) := dk_28 (dk_at dksX1_findMatch_3 5 rfl rfl)
theorem dX1_findMatch_77 : decode cX1_findMatch 77 = .ok (.iload_n 1, 1) := dk_27 (dk_at dksX1_findMatch_3 6 rfl rfl)
theorem dX1_findMatch_78 : decode cX1_findMatch 78 = .ok (.if_icmp .ge 24, 3) := dk_162 0 24 (dk_at dksX1_findMatch_3 7 rfl rfl)
theorem dX1_findMatch_81 : decode cX1_findMatch 81 = .ok (.aload_n 0, 1) := dk_42 (dk_at dksX1_findMatch_3 10 rfl rfl)
theorem dX1_findMatch_82 : decode cX1_findMatch 82 = .ok (.getfield 86, 3) := dk_180 0 86 (dk_at dksX1_findMatch_3 11 rfl rfl)
theorem dX1_findMatch_85 : decode cX1_findMatch 85 = .ok (.aload_n 0, 1) := dk_42 (dk_at dksX1_findMatch_3 14 rfl rfl)
theorem dX1_findMatch_86 : decode cX1_findMatch 86 = .ok (.invokevirtual 167, 3) := dk_182 0 167 (dk_at dksX1_findMatch_3 15 rfl rfl)
theorem dX1_findMatch_89 : decode cX1_findMatch 89 = .ok (.bipush 10, 2) := dk_16 10 (dk_at dksX1_findMatch_3 18 rfl rfl)
theorem dX1_findMatch_91 : decode cX1_findMatch 91 = .ok (.ishl, 1) := dk_120 (dk_at dksX1_findMatch_3 20 rfl rfl)
theorem dX1_findMatch_92 : decode cX1_findMatch 92 = .ok (.iload_n 2, 1) := dk_28 (dk_at dksX1_findMatch_3 21 rfl rfl)
theorem dX1_findMatch_93 : decode cX1_findMatch 93 = .ok (.ior, 1) := dk_128 (dk_at dksX1_findMatch_3 22 rfl rfl)
theorem dX1_findMatch_94 : decode cX1_findMatch 94 = .ok (.iconst 0, 1) := dk_3 (dk_at dksX1_findMatch_3 23 rfl rfl)
theorem dX1_findMatch_95 : decode cX1_findMatch 95 = .ok (.iastore, 1) := dk_79 (dk_at dksX1_findMatch_4 0 rfl rfl)
theorem dX1_findMatch_96 : decode cX1_findMatch 96 = .ok (.iinc 2 1, 3) := dk_132 2 1 (dk_at dksX1_findMatch_4 1 rfl rfl)
theorem dX1_findMatch_99 : decode cX1_findMatch 99 = .ok (.goto (-23), 3) := dk_167 255 233 (dk_at dksX1_findMatch_4 4 rfl rfl)
theorem dX1_findMatch_102 : decode cX1_findMatch 102 = .ok (.aload_n 0, 1) := dk_42 (dk_at dksX1_findMatch_4 7 rfl rfl)
theorem dX1_findMatch_103 : decode cX1_findMatch 103 = .ok (.invokevirtual 167, 3) := dk_182 0 167 (dk_at dksX1_findMatch_4 8 rfl rfl)
theorem dX1_findMatch_106 : decode cX1_findMatch 106 = .ok (.iconst 1, 1) := dk_4 (dk_at dksX1_findMatch_4 11 rfl rfl)
theorem dX1_findMatch_107 : decode cX1_findMatch 107 = .ok (.isub, 1) := dk_100 (dk_at dksX1_findMatch_4 12 rfl rfl)
theorem dX1_findMatch_108 : decode cX1_findMatch 108 = .ok (.istore_n 2, 1) := dk_61 (dk_at dksX1_findMatch_4 13 rfl rfl)
theorem dX1_findMatch_109 : decode cX1_findMatch 109 = .ok (.iload_n 2, 1) := dk_28 (dk_at dksX1_findMatch_4 14 rfl rfl)
theorem dX1_findMatch_110 : decode cX1_findMatch 110 = .ok (.ifCond .lt 118, 3) := dk_155 0 118 (dk_at dksX1_findMatch_4 15 rfl rfl)
theorem dX1_findMatch_113 : decode cX1_findMatch 113 = .ok (.iconst 0, 1) := dk_3 (dk_at dksX1_findMatch_4 18 rfl rfl)
theorem dX1_findMatch_114 : decode cX1_findMatch 114 = .ok (.istore_n 3, 1) := dk_62 (dk_at dksX1_findMatch_4 19 rfl rfl)
theorem dX1_findMatch_115 : decode cX1_findMatch 115 = .ok (.iload_n 3, 1) := dk_29 (dk_at dksX1_findMatch_4 20 rfl rfl)
theorem dX1_findMatch_116 : decode cX1_findMatch 116 = .ok (.iload_n 1, 1) := dk_27 (dk_at dksX1_findMatch_4 21 rfl rfl)
theorem dX1_findMatch_117 : decode cX1_findMatch 117 = .ok (.if_icmp .ge 105, 3) := dk_162 0 105 (dk_at dksX1_findMatch_5 0 rfl rfl)
theorem dX1_findMatch_120 : decode cX1_findMatch 120 = .ok (.aload_n 0, 1) := dk_42 (dk_at dksX1_findMatch_5 3 rfl rfl)
theorem dX1_findMatch_121 : decode cX1_findMatch 121 = .ok (.getfield 86, 3) := dk_180 0 86 (dk_at dksX1_findMatch_5 4 rfl rfl)
theorem dX1_findMatch_124 : decode cX1_findMatch 124 = .ok (.iload_n 2, 1) := dk_28 (dk_at dksX1_findMatch_5 7 rfl rfl)
theorem dX1_findMatch_125 : decode cX1_findMatch 125 = .ok (.iconst 1, 1) := dk_4 (dk_at dksX1_findMatch_5 8 rfl rfl)
theorem dX1_findMatch_126 : decode cX1_findMatch 126 = .ok (.iadd, 1) := dk_96 (dk_at dksX1_findMatch_5 9 rfl rfl)
theorem dX1_findMatch_127 : decode cX1_findMatch 127 = .ok (.bipush 10, 2) := dk_16 10 (dk_at dksX1_findMatch_5 10 rfl rfl)
theorem dX1_findMatch_129 : decode cX1_findMatch 129 = .ok (.ishl, 1) := dk_120 (dk_at dksX1_findMatch_5 12 rfl rfl)
theorem dX1_findMatch_130 : decode cX1_findMatch 130 = .ok (.iload_n 3, 1) := dk_29 (dk_at dksX1_findMatch_5 13 rfl rfl)
theorem dX1_findMatch_131 : decode cX1_findMatch 131 = .ok (.ior, 1) := dk_128 (dk_at dksX1_findMatch_5 14 rfl rfl)
theorem dX1_findMatch_132 : decode cX1_findMatch 132 = .ok (.iaload, 1) := dk_46 (dk_at dksX1_findMatch_5 15 rfl rfl)
theorem dX1_findMatch_133 : decode cX1_findMatch 133 = .ok (.istore 4, 2) := dk_54 4 (dk_at dksX1_findMatch_5 16 rfl rfl)
theorem dX1_findMatch_135 : decode cX1_findMatch 135 = .ok (.iconst 0, 1) := dk_3 (dk_at dksX1_findMatch_5 18 rfl rfl)
theorem dX1_findMatch_136 : decode cX1_findMatch 136 = .ok (.istore 5, 2) := dk_54 5 (dk_at dksX1_findMatch_5 19 rfl rfl)
theorem dX1_findMatch_138 : decode cX1_findMatch 138 = .ok (.iload 5, 2) := dk_21 5 (dk_at dksX1_findMatch_5 21 rfl rfl)
theorem dX1_findMatch_140 : decode cX1_findMatch 140 = .ok (.aload_n 0, 1) := dk_42 (dk_at dksX1_findMatch_5 23 rfl rfl)
theorem dX1_findMatch_141 : decode cX1_findMatch 141 = .ok (.invokevirtual 165, 3) := dk_182 0 165 (dk_at dksX1_findMatch_6 0 rfl rfl)
theorem dX1_findMatch_144 : decode cX1_findMatch 144 = .ok (.if_icmp .ge 59, 3) := dk_162 0 59 (dk_at dksX1_findMatch_6 3 rfl rfl)
theorem dX1_findMatch_147 : decode cX1_findMatch 147 = .ok (.iload_n 3, 1) := dk_29 (dk_at dksX1_findMatch_6 6 rfl rfl)
theorem dX1_findMatch_148 : decode cX1_findMatch 148 = .ok (.iload 5, 2) := dk_21 5 (dk_at dksX1_findMatch_6 7 rfl rfl)
theorem dX1_findMatch_150 : decode cX1_findMatch 150 = .ok (.invokestatic 350, 3) := dk_184 1 94 (dk_at dksX1_findMatch_6 9 rfl rfl)
theorem dX1_findMatch_153 : decode cX1_findMatch 153 = .ok (.ifCond .ne 44, 3) := dk_154 0 44 (dk_at dksX1_findMatch_6 12 rfl rfl)
theorem dX1_findMatch_156 : decode cX1_findMatch 156 = .ok (.aload_n 0, 1) := dk_42 (dk_at dksX1_findMatch_6 15 rfl rfl)
theorem dX1_findMatch_157 : decode cX1_findMatch 157 = .ok (.getfield 92, 3) := dk_180 0 92 (dk_at dksX1_findMatch_6 16 rfl rfl)
theorem dX1_findMatch_160 : decode cX1_findMatch 160 = .ok (.iload_n 2, 1) := dk_28 (dk_at dksX1_findMatch_6 19 rfl rfl)
theorem dX1_findMatch_161 : decode cX1_findMatch 161 = .ok (.iaload, 1) := dk_46 (dk_at dksX1_findMatch_6 20 rfl rfl)
theorem dX1_findMatch_162 : decode cX1_findMatch 162 = .ok (.iload 5, 2) := dk_21 5 (dk_at dksX1_findMatch_6 21 rfl rfl)
theorem dX1_findMatch_164 : decode cX1_findMatch 164 = .ok (.invokestatic 350, 3) := dk_184 1 94 (dk_at dksX1_findMatch_7 0 rfl rfl)
theorem dX1_findMatch_167 : decode cX1_findMatch 167 = .ok (.ifCond .eq 30, 3) := dk_153 0 30 (dk_at dksX1_findMatch_7 3 rfl rfl)
theorem dX1_findMatch_170 : decode cX1_findMatch 170 = .ok (.iload 4, 2) := dk_21 4 (dk_at dksX1_findMatch_7 6 rfl rfl)
theorem dX1_findMatch_172 : decode cX1_findMatch 172 = .ok (.iconst 1, 1) := dk_4 (dk_at dksX1_findMatch_7 8 rfl rfl)
theorem dX1_findMatch_173 : decode cX1_findMatch 173 = .ok (.aload_n 0, 1) := dk_42 (dk_at dksX1_findMatch_7 9 rfl rfl)
theorem dX1_findMatch_174 : decode cX1_findMatch 174 = .ok (.getfield 86, 3) := dk_180 0 86 (dk_at dksX1_findMatch_7 10 rfl rfl)
theorem dX1_findMatch_177 : decode cX1_findMatch 177 = .ok (.iload_n 2, 1) := dk_28 (dk_at dksX1_findMatch_7 13 rfl rfl)
theorem dX1_findMatch_178 : decode cX1_findMatch 178 = .ok (.iconst 1, 1) := dk_4 (dk_at dksX1_findMatch_7 14 rfl rfl)
theorem dX1_findMatch_179 : decode cX1_findMatch 179 = .ok (.iadd, 1) := dk_96 (dk_at dksX1_findMatch_7 15 rfl rfl)
theorem dX1_findMatch_180 : decode cX1_findMatch 180 = .ok (.bipush 10, 2) := dk_16 10 (dk_at dksX1_findMatch_7 16 rfl rfl)
theorem dX1_findMatch_182 : decode cX1_findMatch 182 = .ok (.ishl, 1) := dk_120 (dk_at dksX1_findMatch_7 18 rfl rfl)
theorem dX1_findMatch_183 : decode cX1_findMatch 183 = .ok (.iload_n 3, 1) := dk_29 (dk_at dksX1_findMatch_7 19 rfl rfl)
theorem dX1_findMatch_184 : decode cX1_findMatch 184 = .ok (.ior, 1) := dk_128 (dk_at dksX1_findMatch_7 20 rfl rfl)
theorem dX1_findMatch_185 : decode cX1_findMatch 185 = .ok (.iconst 1, 1) := dk_4 (dk_at dksX1_findMatch_7 21 rfl rfl)
theorem dX1_findMatch_186 : decode cX1_findMatch 186 = .ok (.iload 5, 2) := dk_21 5 (dk_at dksX1_findMatch_7 22 rfl rfl)
theorem dX1_findMatch_188 : decode cX1_findMatch 188 = .ok (.ishl, 1) := dk_120 (dk_at dksX1_findMatch_8 0 rfl rfl)
theorem dX1_findMatch_189 : decode cX1_findMatch 189 = .ok (.ior, 1) := dk_128 (dk_at dksX1_findMatch_8 1 rfl rfl)
theorem dX1_findMatch_190 : decode cX1_findMatch 190 = .ok (.iaload, 1) := dk_46 (dk_at dksX1_findMatch_8 2 rfl rfl)
theorem dX1_findMatch_191 : decode cX1_findMatch 191 = .ok (.iadd, 1) := dk_96 (dk_at dksX1_findMatch_8 3 rfl rfl)
theorem dX1_findMatch_192 : decode cX1_findMatch 192 = .ok (.invokestatic 149, 3) := dk_184 0 149 (dk_at dksX1_findMatch_8 4 rfl rfl)
theorem dX1_findMatch_195 : decode cX1_findMatch 195 = .ok (.istore 4, 2) := dk_54 4 (dk_at dksX1_findMatch_8 7 rfl rfl)
theorem dX1_findMatch_197 : decode cX1_findMatch 197 = .ok (.iinc 5 1, 3) := dk_132 5 1 (dk_at dksX1_findMatch_8 9 rfl rfl)
theorem dX1_findMatch_200 : decode cX1_findMatch 200 = .ok (.goto (-62), 3) := dk_167 255 194 (dk_at dksX1_findMatch_8 12 rfl rfl)
theorem dX1_findMatch_203 : decode cX1_findMatch 203 = .ok (.aload_n 0, 1) := dk_42 (dk_at dksX1_findMatch_8 15 rfl rfl)
theorem dX1_findMatch_204 : decode cX1_findMatch 204 = .ok (.getfield 86, 3) := dk_180 0 86 (dk_at dksX1_findMatch_8 16 rfl rfl)
theorem dX1_findMatch_207 : decode cX1_findMatch 207 = .ok (.iload_n 2, 1) := dk_28 (dk_at dksX1_findMatch_8 19 rfl rfl)
theorem dX1_findMatch_208 : decode cX1_findMatch 208 = .ok (.bipush 10, 2) := dk_16 10 (dk_at dksX1_findMatch_8 20 rfl rfl)
theorem dX1_findMatch_210 : decode cX1_findMatch 210 = .ok (.ishl, 1) := dk_120 (dk_at dksX1_findMatch_8 22 rfl rfl)
theorem dX1_findMatch_211 : decode cX1_findMatch 211 = .ok (.iload_n 3, 1) := dk_29 (dk_at dksX1_findMatch_8 23 rfl rfl)
theorem dX1_findMatch_212 : decode cX1_findMatch 212 = .ok (.ior, 1) := dk_128 (dk_at dksX1_findMatch_9 0 rfl rfl)
theorem dX1_findMatch_213 : decode cX1_findMatch 213 = .ok (.iload 4, 2) := dk_21 4 (dk_at dksX1_findMatch_9 1 rfl rfl)
theorem dX1_findMatch_215 : decode cX1_findMatch 215 = .ok (.iastore, 1) := dk_79 (dk_at dksX1_findMatch_9 3 rfl rfl)
theorem dX1_findMatch_216 : decode cX1_findMatch 216 = .ok (.iinc 3 1, 3) := dk_132 3 1 (dk_at dksX1_findMatch_9 4 rfl rfl)
theorem dX1_findMatch_219 : decode cX1_findMatch 219 = .ok (.goto (-104), 3) := dk_167 255 152 (dk_at dksX1_findMatch_9 7 rfl rfl)
theorem dX1_findMatch_222 : decode cX1_findMatch 222 = .ok (.iinc 2 (-1), 3) := dk_132 2 255 (dk_at dksX1_findMatch_9 10 rfl rfl)
theorem dX1_findMatch_225 : decode cX1_findMatch 225 = .ok (.goto (-116), 3) := dk_167 255 140 (dk_at dksX1_findMatch_9 13 rfl rfl)
theorem dX1_findMatch_228 : decode cX1_findMatch 228 = .ok (.iconst 0, 1) := dk_3 (dk_at dksX1_findMatch_9 16 rfl rfl)
theorem dX1_findMatch_229 : decode cX1_findMatch 229 = .ok (.istore_n 2, 1) := dk_61 (dk_at dksX1_findMatch_9 17 rfl rfl)
theorem dX1_findMatch_230 : decode cX1_findMatch 230 = .ok (.iconst 0, 1) := dk_3 (dk_at dksX1_findMatch_9 18 rfl rfl)
theorem dX1_findMatch_231 : decode cX1_findMatch 231 = .ok (.istore_n 3, 1) := dk_62 (dk_at dksX1_findMatch_9 19 rfl rfl)
theorem dX1_findMatch_232 : decode cX1_findMatch 232 = .ok (.iload_n 3, 1) := dk_29 (dk_at dksX1_findMatch_9 20 rfl rfl)
theorem dX1_findMatch_233 : decode cX1_findMatch 233 = .ok (.aload_n 0, 1) := dk_42 (dk_at dksX1_findMatch_9 21 rfl rfl)
theorem dX1_findMatch_234 : decode cX1_findMatch 234 = .ok (.invokevirtual 167, 3) := dk_182 0 167 (dk_at dksX1_findMatch_10 0 rfl rfl)
theorem dX1_findMatch_237 : decode cX1_findMatch 237 = .ok (.if_icmp .ge 122, 3) := dk_162 0 122 (dk_at dksX1_findMatch_10 3 rfl rfl)
theorem dX1_findMatch_240 : decode cX1_findMatch 240 = .ok (.iconst (-1), 1) := dk_2 (dk_at dksX1_findMatch_10 6 rfl rfl)
theorem dX1_findMatch_241 : decode cX1_findMatch 241 = .ok (.istore 4, 2) := dk_54 4 (dk_at dksX1_findMatch_10 7 rfl rfl)
theorem dX1_findMatch_243 : decode cX1_findMatch 243 = .ok (.iconst 0, 1) := dk_3 (dk_at dksX1_findMatch_10 9 rfl rfl)
theorem dX1_findMatch_244 : decode cX1_findMatch 244 = .ok (.istore 5, 2) := dk_54 5 (dk_at dksX1_findMatch_10 10 rfl rfl)
theorem dX1_findMatch_246 : decode cX1_findMatch 246 = .ok (.iload 5, 2) := dk_21 5 (dk_at dksX1_findMatch_10 12 rfl rfl)
theorem dX1_findMatch_248 : decode cX1_findMatch 248 = .ok (.aload_n 0, 1) := dk_42 (dk_at dksX1_findMatch_10 14 rfl rfl)
theorem dX1_findMatch_249 : decode cX1_findMatch 249 = .ok (.invokevirtual 165, 3) := dk_182 0 165 (dk_at dksX1_findMatch_10 15 rfl rfl)
theorem dX1_findMatch_252 : decode cX1_findMatch 252 = .ok (.if_icmp .ge 76, 3) := dk_162 0 76 (dk_at dksX1_findMatch_10 18 rfl rfl)
theorem dX1_findMatch_255 : decode cX1_findMatch 255 = .ok (.iload 4, 2) := dk_21 4 (dk_at dksX1_findMatch_10 21 rfl rfl)
theorem dX1_findMatch_257 : decode cX1_findMatch 257 = .ok (.iconst (-1), 1) := dk_2 (dk_at dksX1_findMatch_10 23 rfl rfl)
theorem dX1_findMatch_258 : decode cX1_findMatch 258 = .ok (.if_icmp .ne 70, 3) := dk_160 0 70 (dk_at dksX1_findMatch_11 0 rfl rfl)
theorem dX1_findMatch_261 : decode cX1_findMatch 261 = .ok (.iload_n 2, 1) := dk_28 (dk_at dksX1_findMatch_11 3 rfl rfl)
theorem dX1_findMatch_262 : decode cX1_findMatch 262 = .ok (.iload 5, 2) := dk_21 5 (dk_at dksX1_findMatch_11 4 rfl rfl)
theorem dX1_findMatch_264 : decode cX1_findMatch 264 = .ok (.invokestatic 350, 3) := dk_184 1 94 (dk_at dksX1_findMatch_11 6 rfl rfl)
theorem dX1_findMatch_267 : decode cX1_findMatch 267 = .ok (.ifCond .ne 55, 3) := dk_154 0 55 (dk_at dksX1_findMatch_11 9 rfl rfl)
theorem dX1_findMatch_270 : decode cX1_findMatch 270 = .ok (.aload_n 0, 1) := dk_42 (dk_at dksX1_findMatch_11 12 rfl rfl)
theorem dX1_findMatch_271 : decode cX1_findMatch 271 = .ok (.getfield 92, 3) := dk_180 0 92 (dk_at dksX1_findMatch_11 13 rfl rfl)
theorem dX1_findMatch_274 : decode cX1_findMatch 274 = .ok (.iload_n 3, 1) := dk_29 (dk_at dksX1_findMatch_11 16 rfl rfl)
theorem dX1_findMatch_275 : decode cX1_findMatch 275 = .ok (.iaload, 1) := dk_46 (dk_at dksX1_findMatch_11 17 rfl rfl)
theorem dX1_findMatch_276 : decode cX1_findMatch 276 = .ok (.iload 5, 2) := dk_21 5 (dk_at dksX1_findMatch_11 18 rfl rfl)
theorem dX1_findMatch_278 : decode cX1_findMatch 278 = .ok (.invokestatic 350, 3) := dk_184 1 94 (dk_at dksX1_findMatch_11 20 rfl rfl)
theorem dX1_findMatch_281 : decode cX1_findMatch 281 = .ok (.ifCond .eq 41, 3) := dk_153 0 41 (dk_at dksX1_findMatch_12 0 rfl rfl)
theorem dX1_findMatch_284 : decode cX1_findMatch 284 = .ok (.iconst 1, 1) := dk_4 (dk_at dksX1_findMatch_12 3 rfl rfl)
theorem dX1_findMatch_285 : decode cX1_findMatch 285 = .ok (.aload_n 0, 1) := dk_42 (dk_at dksX1_findMatch_12 4 rfl rfl)
theorem dX1_findMatch_286 : decode cX1_findMatch 286 = .ok (.getfield 86, 3) := dk_180 0 86 (dk_at dksX1_findMatch_12 5 rfl rfl)
theorem dX1_findMatch_289 : decode cX1_findMatch 289 = .ok (.iload_n 3, 1) := dk_29 (dk_at dksX1_findMatch_12 8 rfl rfl)
theorem dX1_findMatch_290 : decode cX1_findMatch 290 = .ok (.iconst 1, 1) := dk_4 (dk_at dksX1_findMatch_12 9 rfl rfl)
theorem dX1_findMatch_291 : decode cX1_findMatch 291 = .ok (.iadd, 1) := dk_96 (dk_at dksX1_findMatch_12 10 rfl rfl)
theorem dX1_findMatch_292 : decode cX1_findMatch 292 = .ok (.bipush 10, 2) := dk_16 10 (dk_at dksX1_findMatch_12 11 rfl rfl)
theorem dX1_findMatch_294 : decode cX1_findMatch 294 = .ok (.ishl, 1) := dk_120 (dk_at dksX1_findMatch_12 13 rfl rfl)
theorem dX1_findMatch_295 : decode cX1_findMatch 295 = .ok (.iload_n 2, 1) := dk_28 (dk_at dksX1_findMatch_12 14 rfl rfl)
theorem dX1_findMatch_296 : decode cX1_findMatch 296 = .ok (.ior, 1) := dk_128 (dk_at dksX1_findMatch_12 15 rfl rfl)
theorem dX1_findMatch_297 : decode cX1_findMatch 297 = .ok (.iconst 1, 1) := dk_4 (dk_at dksX1_findMatch_12 16 rfl rfl)
theorem dX1_findMatch_298 : decode cX1_findMatch 298 = .ok (.iload 5, 2) := dk_21 5 (dk_at dksX1_findMatch_12 17 rfl rfl)
theorem dX1_findMatch_300 : decode cX1_findMatch 300 = .ok (.ishl, 1) := dk_120 (dk_at dksX1_findMatch_12 19 rfl rfl)
theorem dX1_findMatch_301 : decode cX1_findMatch 301 = .ok (.ior, 1) := dk_128 (dk_at dksX1_findMatch_12 20 rfl rfl)
theorem dX1_findMatch_302 : decode cX1_findMatch 302 = .ok (.iaload, 1) := dk_46 (dk_at dksX1_findMatch_12 21 rfl rfl)
theorem dX1_findMatch_303 : decode cX1_findMatch 303 = .ok (.iadd, 1) := dk_96 (dk_at dksX1_findMatch_12 22 rfl rfl)
theorem dX1_findMatch_304 : decode cX1_findMatch 304 = .ok (.aload_n 0, 1) := dk_42 (dk_at dksX1_findMatch_12 23 rfl rfl)
theorem dX1_findMatch_305 : decode cX1_findMatch 305 = .ok (.getfield 86, 3) := dk_180 0 86 (dk_at dksX1_findMatch_13 0 rfl rfl)
theorem dX1_findMatch_308 : decode cX1_findMatch 308 = .ok (.iload_n 3, 1) := dk_29 (dk_at dksX1_findMatch_13 3 rfl rfl)
theorem dX1_findMatch_309 : decode cX1_findMatch 309 = .ok (.bipush 10, 2) := dk_16 10 (dk_at dksX1_findMatch_13 4 rfl rfl)
theorem dX1_findMatch_311 : decode cX1_findMatch 311 = .ok (.ishl, 1) := dk_120 (dk_at dksX1_findMatch_13 6 rfl rfl)
theorem dX1_findMatch_312 : decode cX1_findMatch 312 = .ok (.iload_n 2, 1) := dk_28 (dk_at dksX1_findMatch_13 7 rfl rfl)
theorem dX1_findMatch_313 : decode cX1_findMatch 313 = .ok (.ior, 1) := dk_128 (dk_at dksX1_findMatch_13 8 rfl rfl)
theorem dX1_findMatch_314 : decode cX1_findMatch 314 = .ok (.iaload, 1) := dk_46 (dk_at dksX1_findMatch_13 9 rfl rfl)
theorem dX1_findMatch_315 : decode cX1_findMatch 315 = .ok (.if_icmp .ne 7, 3) := dk_160 0 7 (dk_at dksX1_findMatch_13 10 rfl rfl)
theorem dX1_findMatch_318 : decode cX1_findMatch 318 = .ok (.iload 5, 2) := dk_21 5 (dk_at dksX1_findMatch_13 13 rfl rfl)
theorem dX1_findMatch_320 : decode cX1_findMatch 320 = .ok (.istore 4, 2) := dk_54 4 (dk_at dksX1_findMatch_13 15 rfl rfl)
theorem dX1_findMatch_322 : decode cX1_findMatch 322 = .ok (.iinc 5 1, 3) := dk_132 5 1 (dk_at dksX1_findMatch_13 17 rfl rfl)
theorem dX1_findMatch_325 : decode cX1_findMatch 325 = .ok (.goto (-79), 3) := dk_167 255 177 (dk_at dksX1_findMatch_13 20 rfl rfl)
theorem dX1_findMatch_328 : decode cX1_findMatch 328 = .ok (.aload_n 0, 1) := dk_42 (dk_at dksX1_findMatch_13 23 rfl rfl)
theorem dX1_findMatch_329 : decode cX1_findMatch 329 = .ok (.getfield 89, 3) := dk_180 0 89 (dk_at dksX1_findMatch_14 0 rfl rfl)
theorem dX1_findMatch_332 : decode cX1_findMatch 332 = .ok (.iload_n 3, 1) := dk_29 (dk_at dksX1_findMatch_14 3 rfl rfl)
theorem dX1_findMatch_333 : decode cX1_findMatch 333 = .ok (.iload 4, 2) := dk_21 4 (dk_at dksX1_findMatch_14 4 rfl rfl)
theorem dX1_findMatch_335 : decode cX1_findMatch 335 = .ok (.iastore, 1) := dk_79 (dk_at dksX1_findMatch_14 6 rfl rfl)
theorem dX1_findMatch_336 : decode cX1_findMatch 336 = .ok (.iload_n 2, 1) := dk_28 (dk_at dksX1_findMatch_14 7 rfl rfl)
theorem dX1_findMatch_337 : decode cX1_findMatch 337 = .ok (.iload 4, 2) := dk_21 4 (dk_at dksX1_findMatch_14 8 rfl rfl)
theorem dX1_findMatch_339 : decode cX1_findMatch 339 = .ok (.iconst (-1), 1) := dk_2 (dk_at dksX1_findMatch_14 10 rfl rfl)
theorem dX1_findMatch_340 : decode cX1_findMatch 340 = .ok (.if_icmp .ne 7, 3) := dk_160 0 7 (dk_at dksX1_findMatch_14 11 rfl rfl)
theorem dX1_findMatch_343 : decode cX1_findMatch 343 = .ok (.iconst 0, 1) := dk_3 (dk_at dksX1_findMatch_14 14 rfl rfl)
theorem dX1_findMatch_344 : decode cX1_findMatch 344 = .ok (.goto 7, 3) := dk_167 0 7 (dk_at dksX1_findMatch_14 15 rfl rfl)
theorem dX1_findMatch_347 : decode cX1_findMatch 347 = .ok (.iconst 1, 1) := dk_4 (dk_at dksX1_findMatch_14 18 rfl rfl)
theorem dX1_findMatch_348 : decode cX1_findMatch 348 = .ok (.iload 4, 2) := dk_21 4 (dk_at dksX1_findMatch_14 19 rfl rfl)
theorem dX1_findMatch_350 : decode cX1_findMatch 350 = .ok (.ishl, 1) := dk_120 (dk_at dksX1_findMatch_14 21 rfl rfl)
theorem dX1_findMatch_351 : decode cX1_findMatch 351 = .ok (.ior, 1) := dk_128 (dk_at dksX1_findMatch_14 22 rfl rfl)
theorem dX1_findMatch_352 : decode cX1_findMatch 352 = .ok (.istore_n 2, 1) := dk_61 (dk_at dksX1_findMatch_14 23 rfl rfl)
theorem dX1_findMatch_353 : decode cX1_findMatch 353 = .ok (.iinc 3 1, 3) := dk_132 3 1 (dk_at dksX1_findMatch_15 0 rfl rfl)
theorem dX1_findMatch_356 : decode cX1_findMatch 356 = .ok (.goto (-124), 3) := dk_167 255 132 (dk_at dksX1_findMatch_15 3 rfl rfl)
theorem dX1_findMatch_359 : decode cX1_findMatch 359 = .ok (.return_, 1) := dk_177 (dk_at dksX1_findMatch_15 6 rfl rfl)
def dkwX1_pilgrims_0 : List UInt8 := [42, 180, 0, 31, 180, 0, 126, 182, 0, 120, 172]
abbrev dktX1_pilgrims_0 : List UInt8 := dkwX1_pilgrims_0 ++ []
theorem dksX1_pilgrims_0 : cX1_pilgrims.data.toList.drop 0 = dktX1_pilgrims_0 := by decide +kernel
theorem dX1_pilgrims_0 : decode cX1_pilgrims 0 = .ok (.aload_n 0, 1) := dk_42 (dk_at dksX1_pilgrims_0 0 rfl rfl)
theorem dX1_pilgrims_1 : decode cX1_pilgrims 1 = .ok (.getfield 31, 3) := dk_180 0 31 (dk_at dksX1_pilgrims_0 1 rfl rfl)
theorem dX1_pilgrims_4 : decode cX1_pilgrims 4 = .ok (.getfield 126, 3) := dk_180 0 126 (dk_at dksX1_pilgrims_0 4 rfl rfl)
theorem dX1_pilgrims_7 : decode cX1_pilgrims 7 = .ok (.invokevirtual 120, 3) := dk_182 0 120 (dk_at dksX1_pilgrims_0 7 rfl rfl)
theorem dX1_pilgrims_10 : decode cX1_pilgrims 10 = .ok (.ireturn, 1) := dk_172 (dk_at dksX1_pilgrims_0 10 rfl rfl)
def dkwX1_pilgrimOf_0 : List UInt8 := [42, 180, 0, 31, 180, 0, 126, 27, 182, 0, 129, 192, 0, 135, 176]
abbrev dktX1_pilgrimOf_0 : List UInt8 := dkwX1_pilgrimOf_0 ++ []
theorem dksX1_pilgrimOf_0 : cX1_pilgrimOf.data.toList.drop 0 = dktX1_pilgrimOf_0 := by decide +kernel
theorem dX1_pilgrimOf_0 : decode cX1_pilgrimOf 0 = .ok (.aload_n 0, 1) := dk_42 (dk_at dksX1_pilgrimOf_0 0 rfl rfl)
theorem dX1_pilgrimOf_1 : decode cX1_pilgrimOf 1 = .ok (.getfield 31, 3) := dk_180 0 31 (dk_at dksX1_pilgrimOf_0 1 rfl rfl)
theorem dX1_pilgrimOf_4 : decode cX1_pilgrimOf 4 = .ok (.getfield 126, 3) := dk_180 0 126 (dk_at dksX1_pilgrimOf_0 4 rfl rfl)
theorem dX1_pilgrimOf_7 : decode cX1_pilgrimOf 7 = .ok (.iload_n 1, 1) := dk_27 (dk_at dksX1_pilgrimOf_0 7 rfl rfl)
theorem dX1_pilgrimOf_8 : decode cX1_pilgrimOf 8 = .ok (.invokevirtual 129, 3) := dk_182 0 129 (dk_at dksX1_pilgrimOf_0 8 rfl rfl)
theorem dX1_pilgrimOf_11 : decode cX1_pilgrimOf 11 = .ok (.checkcast 135, 3) := dk_192 0 135 (dk_at dksX1_pilgrimOf_0 11 rfl rfl)
theorem dX1_pilgrimOf_14 : decode cX1_pilgrimOf 14 = .ok (.areturn, 1) := dk_176 (dk_at dksX1_pilgrimOf_0 14 rfl rfl)
def dkwX1_powerBy_3 : List UInt8 := [42, 180, 0, 43, 182, 0, 137, 184, 0, 143, 184, 0, 149, 172]
abbrev dktX1_powerBy_3 : List UInt8 := dkwX1_powerBy_3 ++ []
def dkwX1_powerBy_2 : List UInt8 := [180, 0, 43, 16, 6, 21, 7, 79, 42, 180, 0, 43, 16, 7, 21, 8, 79, 3, 16, 99, 42, 180, 0, 39]
abbrev dktX1_powerBy_2 : List UInt8 := dkwX1_powerBy_2 ++ dktX1_powerBy_3
def dkwX1_powerBy_1 : List UInt8 := [180, 0, 43, 6, 21, 4, 79, 42, 180, 0, 43, 7, 21, 5, 79, 42, 180, 0, 43, 8, 21, 6, 79, 42]
abbrev dktX1_powerBy_1 : List UInt8 := dkwX1_powerBy_1 ++ dktX1_powerBy_2
def dkwX1_powerBy_0 : List UInt8 := [42, 180, 0, 43, 3, 27, 79, 42, 180, 0, 43, 4, 28, 79, 42, 180, 0, 43, 5, 29, 79, 42]
abbrev dktX1_powerBy_0 : List UInt8 := dkwX1_powerBy_0 ++ dktX1_powerBy_1
theorem dksX1_powerBy_0 : cX1_powerBy.data.toList.drop 0 = dktX1_powerBy_0 := by decide +kernel
theorem dksX1_powerBy_1 : cX1_powerBy.data.toList.drop 22 = dktX1_powerBy_1 := dk_seg dksX1_powerBy_0 22 rfl rfl
theorem dksX1_powerBy_2 : cX1_powerBy.data.toList.drop 46 = dktX1_powerBy_2 := dk_seg dksX1_powerBy_1 24 rfl rfl
theorem dksX1_powerBy_3 : cX1_powerBy.data.toList.drop 70 = dktX1_powerBy_3 := dk_seg dksX1_powerBy_2 24 rfl rfl
theorem dX1_powerBy_0 : decode cX1_powerBy 0 = .ok (.aload_n 0, 1) := dk_42 (dk_at dksX1_powerBy_0 0 rfl rfl)
theorem dX1_powerBy_1 : decode cX1_powerBy 1 = .ok (.getfield 43, 3) := dk_180 0 43 (dk_at dksX1_powerBy_0 1 rfl rfl)
theorem dX1_powerBy_4 : decode cX1_powerBy 4 = .ok (.iconst 0, 1) := dk_3 (dk_at dksX1_powerBy_0 4 rfl rfl)
theorem dX1_powerBy_5 : decode cX1_powerBy 5 = .ok (.iload_n 1, 1) := dk_27 (dk_at dksX1_powerBy_0 5 rfl rfl)
theorem dX1_powerBy_6 : decode cX1_powerBy 6 = .ok (.iastore, 1) := dk_79 (dk_at dksX1_powerBy_0 6 rfl rfl)
theorem dX1_powerBy_7 : decode cX1_powerBy 7 = .ok (.aload_n 0, 1) := dk_42 (dk_at dksX1_powerBy_0 7 rfl rfl)
theorem dX1_powerBy_8 : decode cX1_powerBy 8 = .ok (.getfield 43, 3) := dk_180 0 43 (dk_at dksX1_powerBy_0 8 rfl rfl)
theorem dX1_powerBy_11 : decode cX1_powerBy 11 = .ok (.iconst 1, 1) := dk_4 (dk_at dksX1_powerBy_0 11 rfl rfl)
theorem dX1_powerBy_12 : decode cX1_powerBy 12 = .ok (.iload_n 2, 1) := dk_28 (dk_at dksX1_powerBy_0 12 rfl rfl)
theorem dX1_powerBy_13 : decode cX1_powerBy 13 = .ok (.iastore, 1) := dk_79 (dk_at dksX1_powerBy_0 13 rfl rfl)
theorem dX1_powerBy_14 : decode cX1_powerBy 14 = .ok (.aload_n 0, 1) := dk_42 (dk_at dksX1_powerBy_0 14 rfl rfl)
theorem dX1_powerBy_15 : decode cX1_powerBy 15 = .ok (.getfield 43, 3) := dk_180 0 43 (dk_at dksX1_powerBy_0 15 rfl rfl)
theorem dX1_powerBy_18 : decode cX1_powerBy 18 = .ok (.iconst 2, 1) := dk_5 (dk_at dksX1_powerBy_0 18 rfl rfl)
theorem dX1_powerBy_19 : decode cX1_powerBy 19 = .ok (.iload_n 3, 1) := dk_29 (dk_at dksX1_powerBy_0 19 rfl rfl)
theorem dX1_powerBy_20 : decode cX1_powerBy 20 = .ok (.iastore, 1) := dk_79 (dk_at dksX1_powerBy_0 20 rfl rfl)
theorem dX1_powerBy_21 : decode cX1_powerBy 21 = .ok (.aload_n 0, 1) := dk_42 (dk_at dksX1_powerBy_0 21 rfl rfl)
theorem dX1_powerBy_22 : decode cX1_powerBy 22 = .ok (.getfield 43, 3) := dk_180 0 43 (dk_at dksX1_powerBy_1 0 rfl rfl)
theorem dX1_powerBy_25 : decode cX1_powerBy 25 = .ok (.iconst 3, 1) := dk_6 (dk_at dksX1_powerBy_1 3 rfl rfl)
theorem dX1_powerBy_26 : decode cX1_powerBy 26 = .ok (.iload 4, 2) := dk_21 4 (dk_at dksX1_powerBy_1 4 rfl rfl)
theorem dX1_powerBy_28 : decode cX1_powerBy 28 = .ok (.iastore, 1) := dk_79 (dk_at dksX1_powerBy_1 6 rfl rfl)
theorem dX1_powerBy_29 : decode cX1_powerBy 29 = .ok (.aload_n 0, 1) := dk_42 (dk_at dksX1_powerBy_1 7 rfl rfl)
theorem dX1_powerBy_30 : decode cX1_powerBy 30 = .ok (.getfield 43, 3) := dk_180 0 43 (dk_at dksX1_powerBy_1 8 rfl rfl)
theorem dX1_powerBy_33 : decode cX1_powerBy 33 = .ok (.iconst 4, 1) := dk_7 (dk_at dksX1_powerBy_1 11 rfl rfl)
theorem dX1_powerBy_34 : decode cX1_powerBy 34 = .ok (.iload 5, 2) := dk_21 5 (dk_at dksX1_powerBy_1 12 rfl rfl)
theorem dX1_powerBy_36 : decode cX1_powerBy 36 = .ok (.iastore, 1) := dk_79 (dk_at dksX1_powerBy_1 14 rfl rfl)
theorem dX1_powerBy_37 : decode cX1_powerBy 37 = .ok (.aload_n 0, 1) := dk_42 (dk_at dksX1_powerBy_1 15 rfl rfl)
theorem dX1_powerBy_38 : decode cX1_powerBy 38 = .ok (.getfield 43, 3) := dk_180 0 43 (dk_at dksX1_powerBy_1 16 rfl rfl)
theorem dX1_powerBy_41 : decode cX1_powerBy 41 = .ok (.iconst 5, 1) := dk_8 (dk_at dksX1_powerBy_1 19 rfl rfl)
theorem dX1_powerBy_42 : decode cX1_powerBy 42 = .ok (.iload 6, 2) := dk_21 6 (dk_at dksX1_powerBy_1 20 rfl rfl)
theorem dX1_powerBy_44 : decode cX1_powerBy 44 = .ok (.iastore, 1) := dk_79 (dk_at dksX1_powerBy_1 22 rfl rfl)
theorem dX1_powerBy_45 : decode cX1_powerBy 45 = .ok (.aload_n 0, 1) := dk_42 (dk_at dksX1_powerBy_1 23 rfl rfl)
theorem dX1_powerBy_46 : decode cX1_powerBy 46 = .ok (.getfield 43, 3) := dk_180 0 43 (dk_at dksX1_powerBy_2 0 rfl rfl)
theorem dX1_powerBy_49 : decode cX1_powerBy 49 = .ok (.bipush 6, 2) := dk_16 6 (dk_at dksX1_powerBy_2 3 rfl rfl)
theorem dX1_powerBy_51 : decode cX1_powerBy 51 = .ok (.iload 7, 2) := dk_21 7 (dk_at dksX1_powerBy_2 5 rfl rfl)
theorem dX1_powerBy_53 : decode cX1_powerBy 53 = .ok (.iastore, 1) := dk_79 (dk_at dksX1_powerBy_2 7 rfl rfl)
theorem dX1_powerBy_54 : decode cX1_powerBy 54 = .ok (.aload_n 0, 1) := dk_42 (dk_at dksX1_powerBy_2 8 rfl rfl)
theorem dX1_powerBy_55 : decode cX1_powerBy 55 = .ok (.getfield 43, 3) := dk_180 0 43 (dk_at dksX1_powerBy_2 9 rfl rfl)
theorem dX1_powerBy_58 : decode cX1_powerBy 58 = .ok (.bipush 7, 2) := dk_16 7 (dk_at dksX1_powerBy_2 12 rfl rfl)
theorem dX1_powerBy_60 : decode cX1_powerBy 60 = .ok (.iload 8, 2) := dk_21 8 (dk_at dksX1_powerBy_2 14 rfl rfl)
theorem dX1_powerBy_62 : decode cX1_powerBy 62 = .ok (.iastore, 1) := dk_79 (dk_at dksX1_powerBy_2 16 rfl rfl)
theorem dX1_powerBy_63 : decode cX1_powerBy 63 = .ok (.iconst 0, 1) := dk_3 (dk_at dksX1_powerBy_2 17 rfl rfl)
theorem dX1_powerBy_64 : decode cX1_powerBy 64 = .ok (.bipush 99, 2) := dk_16 99 (dk_at dksX1_powerBy_2 18 rfl rfl)
theorem dX1_powerBy_66 : decode cX1_powerBy 66 = .ok (.aload_n 0, 1) := dk_42 (dk_at dksX1_powerBy_2 20 rfl rfl)
theorem dX1_powerBy_67 : decode cX1_powerBy 67 = .ok (.getfield 39, 3) := dk_180 0 39 (dk_at dksX1_powerBy_2 21 rfl rfl)
theorem dX1_powerBy_70 : decode cX1_powerBy 70 = .ok (.aload_n 0, 1) := dk_42 (dk_at dksX1_powerBy_3 0 rfl rfl)
theorem dX1_powerBy_71 : decode cX1_powerBy 71 = .ok (.getfield 43, 3) := dk_180 0 43 (dk_at dksX1_powerBy_3 1 rfl rfl)
theorem dX1_powerBy_74 : decode cX1_powerBy 74 = .ok (.invokevirtual 137, 3) := dk_182 0 137 (dk_at dksX1_powerBy_3 4 rfl rfl)
theorem dX1_powerBy_77 : decode cX1_powerBy 77 = .ok (.invokestatic 143, 3) := dk_184 0 143 (dk_at dksX1_powerBy_3 7 rfl rfl)
theorem dX1_powerBy_80 : decode cX1_powerBy 80 = .ok (.invokestatic 149, 3) := dk_184 0 149 (dk_at dksX1_powerBy_3 10 rfl rfl)
theorem dX1_powerBy_83 : decode cX1_powerBy 83 = .ok (.ireturn, 1) := dk_172 (dk_at dksX1_powerBy_3 13 rfl rfl)
def dkwX1_image_3 : List UInt8 := [180, 0, 113, 42, 180, 0, 104, 79, 42, 89, 180, 0, 113, 4, 96, 181, 0, 113, 42, 180, 0, 113, 172]
abbrev dktX1_image_3 : List UInt8 := dkwX1_image_3 ++ []
def dkwX1_image_2 : List UInt8 := [104, 27, 96, 42, 180, 0, 65, 27, 50, 182, 0, 213, 132, 1, 1, 167, 255, 222, 42, 180, 0, 75, 42]
abbrev dktX1_image_2 : List UInt8 := dkwX1_image_2 ++ dktX1_image_3
def dkwX1_image_1 : List UInt8 := [182, 0, 213, 3, 60, 27, 42, 180, 0, 104, 162, 0, 32, 42, 42, 180, 0, 72, 16, 16, 42, 180, 0, 113]
abbrev dktX1_image_1 : List UInt8 := dkwX1_image_1 ++ dktX1_image_2
def dkwX1_image_0 : List UInt8 := [42, 180, 0, 113, 6, 160, 0, 5, 2, 172, 42, 42, 180, 0, 69, 42, 180, 0, 113, 42, 180, 0, 58]
abbrev dktX1_image_0 : List UInt8 := dkwX1_image_0 ++ dktX1_image_1
theorem dksX1_image_0 : cX1_image.data.toList.drop 0 = dktX1_image_0 := by decide +kernel
theorem dksX1_image_1 : cX1_image.data.toList.drop 23 = dktX1_image_1 := dk_seg dksX1_image_0 23 rfl rfl
theorem dksX1_image_2 : cX1_image.data.toList.drop 47 = dktX1_image_2 := dk_seg dksX1_image_1 24 rfl rfl
theorem dksX1_image_3 : cX1_image.data.toList.drop 70 = dktX1_image_3 := dk_seg dksX1_image_2 23 rfl rfl
theorem dX1_image_0 : decode cX1_image 0 = .ok (.aload_n 0, 1) := dk_42 (dk_at dksX1_image_0 0 rfl rfl)
theorem dX1_image_1 : decode cX1_image 1 = .ok (.getfield 113, 3) := dk_180 0 113 (dk_at dksX1_image_0 1 rfl rfl)
theorem dX1_image_4 : decode cX1_image 4 = .ok (.iconst 3, 1) := dk_6 (dk_at dksX1_image_0 4 rfl rfl)
theorem dX1_image_5 : decode cX1_image 5 = .ok (.if_icmp .ne 5, 3) := dk_160 0 5 (dk_at dksX1_image_0 5 rfl rfl)
theorem dX1_image_8 : decode cX1_image 8 = .ok (.iconst (-1), 1) := dk_2 (dk_at dksX1_image_0 8 rfl rfl)
theorem dX1_image_9 : decode cX1_image 9 = .ok (.ireturn, 1) := dk_172 (dk_at dksX1_image_0 9 rfl rfl)
theorem dX1_image_10 : decode cX1_image 10 = .ok (.aload_n 0, 1) := dk_42 (dk_at dksX1_image_0 10 rfl rfl)
theorem dX1_image_11 : decode cX1_image 11 = .ok (.aload_n 0, 1) := dk_42 (dk_at dksX1_image_0 11 rfl rfl)
theorem dX1_image_12 : decode cX1_image 12 = .ok (.getfield 69, 3) := dk_180 0 69 (dk_at dksX1_image_0 12 rfl rfl)
theorem dX1_image_15 : decode cX1_image 15 = .ok (.aload_n 0, 1) := dk_42 (dk_at dksX1_image_0 15 rfl rfl)
theorem dX1_image_16 : decode cX1_image 16 = .ok (.getfield 113, 3) := dk_180 0 113 (dk_at dksX1_image_0 16 rfl rfl)
theorem dX1_image_19 : decode cX1_image 19 = .ok (.aload_n 0, 1) := dk_42 (dk_at dksX1_image_0 19 rfl rfl)
theorem dX1_image_20 : decode cX1_image 20 = .ok (.getfield 58, 3) := dk_180 0 58 (dk_at dksX1_image_0 20 rfl rfl)
theorem dX1_image_23 : decode cX1_image 23 = .ok (.invokevirtual 213, 3) := dk_182 0 213 (dk_at dksX1_image_1 0 rfl rfl)
theorem dX1_image_26 : decode cX1_image 26 = .ok (.iconst 0, 1) := dk_3 (dk_at dksX1_image_1 3 rfl rfl)
theorem dX1_image_27 : decode cX1_image 27 = .ok (.istore_n 1, 1) := dk_60 (dk_at dksX1_image_1 4 rfl rfl)
theorem dX1_image_28 : decode cX1_image 28 = .ok (.iload_n 1, 1) := dk_27 (dk_at dksX1_image_1 5 rfl rfl)
theorem dX1_image_29 : decode cX1_image 29 = .ok (.aload_n 0, 1) := dk_42 (dk_at dksX1_image_1 6 rfl rfl)
theorem dX1_image_30 : decode cX1_image 30 = .ok (.getfield 104, 3) := dk_180 0 104 (dk_at dksX1_image_1 7 rfl rfl)
theorem dX1_image_33 : decode cX1_image 33 = .ok (.if_icmp .ge 32, 3) := dk_162 0 32 (dk_at dksX1_image_1 10 rfl rfl)
theorem dX1_image_36 : decode cX1_image 36 = .ok (.aload_n 0, 1) := dk_42 (dk_at dksX1_image_1 13 rfl rfl)
theorem dX1_image_37 : decode cX1_image 37 = .ok (.aload_n 0, 1) := dk_42 (dk_at dksX1_image_1 14 rfl rfl)
theorem dX1_image_38 : decode cX1_image 38 = .ok (.getfield 72, 3) := dk_180 0 72 (dk_at dksX1_image_1 15 rfl rfl)
theorem dX1_image_41 : decode cX1_image 41 = .ok (.bipush 16, 2) := dk_16 16 (dk_at dksX1_image_1 18 rfl rfl)
theorem dX1_image_43 : decode cX1_image 43 = .ok (.aload_n 0, 1) := dk_42 (dk_at dksX1_image_1 20 rfl rfl)
theorem dX1_image_44 : decode cX1_image 44 = .ok (.getfield 113, 3) := dk_180 0 113 (dk_at dksX1_image_1 21 rfl rfl)
theorem dX1_image_47 : decode cX1_image 47 = .ok (.imul, 1) := dk_104 (dk_at dksX1_image_2 0 rfl rfl)
theorem dX1_image_48 : decode cX1_image 48 = .ok (.iload_n 1, 1) := dk_27 (dk_at dksX1_image_2 1 rfl rfl)
theorem dX1_image_49 : decode cX1_image 49 = .ok (.iadd, 1) := dk_96 (dk_at dksX1_image_2 2 rfl rfl)
theorem dX1_image_50 : decode cX1_image 50 = .ok (.aload_n 0, 1) := dk_42 (dk_at dksX1_image_2 3 rfl rfl)
theorem dX1_image_51 : decode cX1_image 51 = .ok (.getfield 65, 3) := dk_180 0 65 (dk_at dksX1_image_2 4 rfl rfl)
theorem dX1_image_54 : decode cX1_image 54 = .ok (.iload_n 1, 1) := dk_27 (dk_at dksX1_image_2 7 rfl rfl)
theorem dX1_image_55 : decode cX1_image 55 = .ok (.aaload, 1) := dk_50 (dk_at dksX1_image_2 8 rfl rfl)
theorem dX1_image_56 : decode cX1_image 56 = .ok (.invokevirtual 213, 3) := dk_182 0 213 (dk_at dksX1_image_2 9 rfl rfl)
theorem dX1_image_59 : decode cX1_image 59 = .ok (.iinc 1 1, 3) := dk_132 1 1 (dk_at dksX1_image_2 12 rfl rfl)
theorem dX1_image_62 : decode cX1_image 62 = .ok (.goto (-34), 3) := dk_167 255 222 (dk_at dksX1_image_2 15 rfl rfl)
theorem dX1_image_65 : decode cX1_image 65 = .ok (.aload_n 0, 1) := dk_42 (dk_at dksX1_image_2 18 rfl rfl)
theorem dX1_image_66 : decode cX1_image 66 = .ok (.getfield 75, 3) := dk_180 0 75 (dk_at dksX1_image_2 19 rfl rfl)
theorem dX1_image_69 : decode cX1_image 69 = .ok (.aload_n 0, 1) := dk_42 (dk_at dksX1_image_2 22 rfl rfl)
theorem dX1_image_70 : decode cX1_image 70 = .ok (.getfield 113, 3) := dk_180 0 113 (dk_at dksX1_image_3 0 rfl rfl)
theorem dX1_image_73 : decode cX1_image 73 = .ok (.aload_n 0, 1) := dk_42 (dk_at dksX1_image_3 3 rfl rfl)
theorem dX1_image_74 : decode cX1_image 74 = .ok (.getfield 104, 3) := dk_180 0 104 (dk_at dksX1_image_3 4 rfl rfl)
theorem dX1_image_77 : decode cX1_image 77 = .ok (.iastore, 1) := dk_79 (dk_at dksX1_image_3 7 rfl rfl)
theorem dX1_image_78 : decode cX1_image 78 = .ok (.aload_n 0, 1) := dk_42 (dk_at dksX1_image_3 8 rfl rfl)
theorem dX1_image_79 : decode cX1_image 79 = .ok (.dup, 1) := dk_89 (dk_at dksX1_image_3 9 rfl rfl)
theorem dX1_image_80 : decode cX1_image 80 = .ok (.getfield 113, 3) := dk_180 0 113 (dk_at dksX1_image_3 10 rfl rfl)
theorem dX1_image_83 : decode cX1_image 83 = .ok (.iconst 1, 1) := dk_4 (dk_at dksX1_image_3 13 rfl rfl)
theorem dX1_image_84 : decode cX1_image 84 = .ok (.iadd, 1) := dk_96 (dk_at dksX1_image_3 14 rfl rfl)
theorem dX1_image_85 : decode cX1_image 85 = .ok (.putfield 113, 3) := dk_181 0 113 (dk_at dksX1_image_3 15 rfl rfl)
theorem dX1_image_88 : decode cX1_image 88 = .ok (.aload_n 0, 1) := dk_42 (dk_at dksX1_image_3 18 rfl rfl)
theorem dX1_image_89 : decode cX1_image 89 = .ok (.getfield 113, 3) := dk_180 0 113 (dk_at dksX1_image_3 19 rfl rfl)
theorem dX1_image_92 : decode cX1_image 92 = .ok (.ireturn, 1) := dk_172 (dk_at dksX1_image_3 22 rfl rfl)
def dkwX1_kept_1 : List UInt8 := [87, 177]
abbrev dktX1_kept_1 : List UInt8 := dkwX1_kept_1 ++ []
def dkwX1_kept_0 : List UInt8 := [43, 28, 50, 199, 0, 14, 43, 28, 187, 0, 53, 89, 42, 183, 0, 55, 83, 43, 28, 50, 45, 182, 0, 248]
abbrev dktX1_kept_0 : List UInt8 := dkwX1_kept_0 ++ dktX1_kept_1
theorem dksX1_kept_0 : cX1_kept.data.toList.drop 0 = dktX1_kept_0 := by decide +kernel
theorem dksX1_kept_1 : cX1_kept.data.toList.drop 24 = dktX1_kept_1 := dk_seg dksX1_kept_0 24 rfl rfl
theorem dX1_kept_0 : decode cX1_kept 0 = .ok (.aload_n 1, 1) := dk_43 (dk_at dksX1_kept_0 0 rfl rfl)
theorem dX1_kept_1 : decode cX1_kept 1 = .ok (.iload_n 2, 1) := dk_28 (dk_at dksX1_kept_0 1 rfl rfl)
theorem dX1_kept_2 : decode cX1_kept 2 = .ok (.aaload, 1) := dk_50 (dk_at dksX1_kept_0 2 rfl rfl)
theorem dX1_kept_3 : decode cX1_kept 3 = .ok (.ifnonnull 14, 3) := dk_199 0 14 (dk_at dksX1_kept_0 3 rfl rfl)
theorem dX1_kept_6 : decode cX1_kept 6 = .ok (.aload_n 1, 1) := dk_43 (dk_at dksX1_kept_0 6 rfl rfl)
theorem dX1_kept_7 : decode cX1_kept 7 = .ok (.iload_n 2, 1) := dk_28 (dk_at dksX1_kept_0 7 rfl rfl)
theorem dX1_kept_8 : decode cX1_kept 8 = .ok (.new 53, 3) := dk_187 0 53 (dk_at dksX1_kept_0 8 rfl rfl)
theorem dX1_kept_11 : decode cX1_kept 11 = .ok (.dup, 1) := dk_89 (dk_at dksX1_kept_0 11 rfl rfl)
theorem dX1_kept_12 : decode cX1_kept 12 = .ok (.aload_n 0, 1) := dk_42 (dk_at dksX1_kept_0 12 rfl rfl)
theorem dX1_kept_13 : decode cX1_kept 13 = .ok (.invokespecial 55, 3) := dk_183 0 55 (dk_at dksX1_kept_0 13 rfl rfl)
theorem dX1_kept_16 : decode cX1_kept 16 = .ok (.aastore, 1) := dk_83 (dk_at dksX1_kept_0 16 rfl rfl)
theorem dX1_kept_17 : decode cX1_kept 17 = .ok (.aload_n 1, 1) := dk_43 (dk_at dksX1_kept_0 17 rfl rfl)
theorem dX1_kept_18 : decode cX1_kept 18 = .ok (.iload_n 2, 1) := dk_28 (dk_at dksX1_kept_0 18 rfl rfl)
theorem dX1_kept_19 : decode cX1_kept 19 = .ok (.aaload, 1) := dk_50 (dk_at dksX1_kept_0 19 rfl rfl)
theorem dX1_kept_20 : decode cX1_kept 20 = .ok (.aload_n 3, 1) := dk_45 (dk_at dksX1_kept_0 20 rfl rfl)
theorem dX1_kept_21 : decode cX1_kept 21 = .ok (.invokevirtual 248, 3) := dk_182 0 248 (dk_at dksX1_kept_0 21 rfl rfl)
theorem dX1_kept_24 : decode cX1_kept 24 = .ok (.pop, 1) := dk_87 (dk_at dksX1_kept_1 0 rfl rfl)
theorem dX1_kept_25 : decode cX1_kept 25 = .ok (.return_, 1) := dk_177 (dk_at dksX1_kept_1 1 rfl rfl)
def dkwX1_restore_4 : List UInt8 := [42, 180, 0, 113, 172]
abbrev dktX1_restore_4 : List UInt8 := dkwX1_restore_4 ++ []
def dkwX1_restore_3 : List UInt8 := [16, 16, 42, 180, 0, 113, 104, 27, 96, 50, 182, 0, 213, 132, 1, 1, 167, 255, 222, 42, 3, 181, 0, 107]
abbrev dktX1_restore_3 : List UInt8 := dkwX1_restore_3 ++ dktX1_restore_4
def dkwX1_restore_2 : List UInt8 := [181, 0, 104, 3, 60, 27, 42, 180, 0, 104, 162, 0, 32, 42, 42, 180, 0, 65, 27, 42, 180, 0, 72]
abbrev dktX1_restore_2 : List UInt8 := dkwX1_restore_2 ++ dktX1_restore_3
def dkwX1_restore_1 : List UInt8 := [180, 0, 69, 42, 180, 0, 113, 50, 182, 0, 248, 87, 42, 42, 180, 0, 75, 42, 180, 0, 113, 46]
abbrev dktX1_restore_1 : List UInt8 := dkwX1_restore_1 ++ dktX1_restore_2
def dkwX1_restore_0 : List UInt8 := [42, 180, 0, 113, 154, 0, 5, 2, 172, 42, 89, 180, 0, 113, 4, 100, 181, 0, 113, 42, 180, 0, 58, 42]
abbrev dktX1_restore_0 : List UInt8 := dkwX1_restore_0 ++ dktX1_restore_1
theorem dksX1_restore_0 : cX1_restore.data.toList.drop 0 = dktX1_restore_0 := by decide +kernel
theorem dksX1_restore_1 : cX1_restore.data.toList.drop 24 = dktX1_restore_1 := dk_seg dksX1_restore_0 24 rfl rfl
theorem dksX1_restore_2 : cX1_restore.data.toList.drop 46 = dktX1_restore_2 := dk_seg dksX1_restore_1 22 rfl rfl
theorem dksX1_restore_3 : cX1_restore.data.toList.drop 69 = dktX1_restore_3 := dk_seg dksX1_restore_2 23 rfl rfl
theorem dksX1_restore_4 : cX1_restore.data.toList.drop 93 = dktX1_restore_4 := dk_seg dksX1_restore_3 24 rfl rfl
theorem dX1_restore_0 : decode cX1_restore 0 = .ok (.aload_n 0, 1) := dk_42 (dk_at dksX1_restore_0 0 rfl rfl)
theorem dX1_restore_1 : decode cX1_restore 1 = .ok (.getfield 113, 3) := dk_180 0 113 (dk_at dksX1_restore_0 1 rfl rfl)
theorem dX1_restore_4 : decode cX1_restore 4 = .ok (.ifCond .ne 5, 3) := dk_154 0 5 (dk_at dksX1_restore_0 4 rfl rfl)
theorem dX1_restore_7 : decode cX1_restore 7 = .ok (.iconst (-1), 1) := dk_2 (dk_at dksX1_restore_0 7 rfl rfl)
theorem dX1_restore_8 : decode cX1_restore 8 = .ok (.ireturn, 1) := dk_172 (dk_at dksX1_restore_0 8 rfl rfl)
theorem dX1_restore_9 : decode cX1_restore 9 = .ok (.aload_n 0, 1) := dk_42 (dk_at dksX1_restore_0 9 rfl rfl)
theorem dX1_restore_10 : decode cX1_restore 10 = .ok (.dup, 1) := dk_89 (dk_at dksX1_restore_0 10 rfl rfl)
theorem dX1_restore_11 : decode cX1_restore 11 = .ok (.getfield 113, 3) := dk_180 0 113 (dk_at dksX1_restore_0 11 rfl rfl)
theorem dX1_restore_14 : decode cX1_restore 14 = .ok (.iconst 1, 1) := dk_4 (dk_at dksX1_restore_0 14 rfl rfl)
theorem dX1_restore_15 : decode cX1_restore 15 = .ok (.isub, 1) := dk_100 (dk_at dksX1_restore_0 15 rfl rfl)
theorem dX1_restore_16 : decode cX1_restore 16 = .ok (.putfield 113, 3) := dk_181 0 113 (dk_at dksX1_restore_0 16 rfl rfl)
theorem dX1_restore_19 : decode cX1_restore 19 = .ok (.aload_n 0, 1) := dk_42 (dk_at dksX1_restore_0 19 rfl rfl)
theorem dX1_restore_20 : decode cX1_restore 20 = .ok (.getfield 58, 3) := dk_180 0 58 (dk_at dksX1_restore_0 20 rfl rfl)
theorem dX1_restore_23 : decode cX1_restore 23 = .ok (.aload_n 0, 1) := dk_42 (dk_at dksX1_restore_0 23 rfl rfl)
theorem dX1_restore_24 : decode cX1_restore 24 = .ok (.getfield 69, 3) := dk_180 0 69 (dk_at dksX1_restore_1 0 rfl rfl)
theorem dX1_restore_27 : decode cX1_restore 27 = .ok (.aload_n 0, 1) := dk_42 (dk_at dksX1_restore_1 3 rfl rfl)
theorem dX1_restore_28 : decode cX1_restore 28 = .ok (.getfield 113, 3) := dk_180 0 113 (dk_at dksX1_restore_1 4 rfl rfl)
theorem dX1_restore_31 : decode cX1_restore 31 = .ok (.aaload, 1) := dk_50 (dk_at dksX1_restore_1 7 rfl rfl)
theorem dX1_restore_32 : decode cX1_restore 32 = .ok (.invokevirtual 248, 3) := dk_182 0 248 (dk_at dksX1_restore_1 8 rfl rfl)
theorem dX1_restore_35 : decode cX1_restore 35 = .ok (.pop, 1) := dk_87 (dk_at dksX1_restore_1 11 rfl rfl)
theorem dX1_restore_36 : decode cX1_restore 36 = .ok (.aload_n 0, 1) := dk_42 (dk_at dksX1_restore_1 12 rfl rfl)
theorem dX1_restore_37 : decode cX1_restore 37 = .ok (.aload_n 0, 1) := dk_42 (dk_at dksX1_restore_1 13 rfl rfl)
theorem dX1_restore_38 : decode cX1_restore 38 = .ok (.getfield 75, 3) := dk_180 0 75 (dk_at dksX1_restore_1 14 rfl rfl)
theorem dX1_restore_41 : decode cX1_restore 41 = .ok (.aload_n 0, 1) := dk_42 (dk_at dksX1_restore_1 17 rfl rfl)
theorem dX1_restore_42 : decode cX1_restore 42 = .ok (.getfield 113, 3) := dk_180 0 113 (dk_at dksX1_restore_1 18 rfl rfl)
theorem dX1_restore_45 : decode cX1_restore 45 = .ok (.iaload, 1) := dk_46 (dk_at dksX1_restore_1 21 rfl rfl)
theorem dX1_restore_46 : decode cX1_restore 46 = .ok (.putfield 104, 3) := dk_181 0 104 (dk_at dksX1_restore_2 0 rfl rfl)
theorem dX1_restore_49 : decode cX1_restore 49 = .ok (.iconst 0, 1) := dk_3 (dk_at dksX1_restore_2 3 rfl rfl)
theorem dX1_restore_50 : decode cX1_restore 50 = .ok (.istore_n 1, 1) := dk_60 (dk_at dksX1_restore_2 4 rfl rfl)
theorem dX1_restore_51 : decode cX1_restore 51 = .ok (.iload_n 1, 1) := dk_27 (dk_at dksX1_restore_2 5 rfl rfl)
theorem dX1_restore_52 : decode cX1_restore 52 = .ok (.aload_n 0, 1) := dk_42 (dk_at dksX1_restore_2 6 rfl rfl)
theorem dX1_restore_53 : decode cX1_restore 53 = .ok (.getfield 104, 3) := dk_180 0 104 (dk_at dksX1_restore_2 7 rfl rfl)
theorem dX1_restore_56 : decode cX1_restore 56 = .ok (.if_icmp .ge 32, 3) := dk_162 0 32 (dk_at dksX1_restore_2 10 rfl rfl)
theorem dX1_restore_59 : decode cX1_restore 59 = .ok (.aload_n 0, 1) := dk_42 (dk_at dksX1_restore_2 13 rfl rfl)
theorem dX1_restore_60 : decode cX1_restore 60 = .ok (.aload_n 0, 1) := dk_42 (dk_at dksX1_restore_2 14 rfl rfl)
theorem dX1_restore_61 : decode cX1_restore 61 = .ok (.getfield 65, 3) := dk_180 0 65 (dk_at dksX1_restore_2 15 rfl rfl)
theorem dX1_restore_64 : decode cX1_restore 64 = .ok (.iload_n 1, 1) := dk_27 (dk_at dksX1_restore_2 18 rfl rfl)
theorem dX1_restore_65 : decode cX1_restore 65 = .ok (.aload_n 0, 1) := dk_42 (dk_at dksX1_restore_2 19 rfl rfl)
theorem dX1_restore_66 : decode cX1_restore 66 = .ok (.getfield 72, 3) := dk_180 0 72 (dk_at dksX1_restore_2 20 rfl rfl)
theorem dX1_restore_69 : decode cX1_restore 69 = .ok (.bipush 16, 2) := dk_16 16 (dk_at dksX1_restore_3 0 rfl rfl)
theorem dX1_restore_71 : decode cX1_restore 71 = .ok (.aload_n 0, 1) := dk_42 (dk_at dksX1_restore_3 2 rfl rfl)
theorem dX1_restore_72 : decode cX1_restore 72 = .ok (.getfield 113, 3) := dk_180 0 113 (dk_at dksX1_restore_3 3 rfl rfl)
theorem dX1_restore_75 : decode cX1_restore 75 = .ok (.imul, 1) := dk_104 (dk_at dksX1_restore_3 6 rfl rfl)
theorem dX1_restore_76 : decode cX1_restore 76 = .ok (.iload_n 1, 1) := dk_27 (dk_at dksX1_restore_3 7 rfl rfl)
theorem dX1_restore_77 : decode cX1_restore 77 = .ok (.iadd, 1) := dk_96 (dk_at dksX1_restore_3 8 rfl rfl)
theorem dX1_restore_78 : decode cX1_restore 78 = .ok (.aaload, 1) := dk_50 (dk_at dksX1_restore_3 9 rfl rfl)
theorem dX1_restore_79 : decode cX1_restore 79 = .ok (.invokevirtual 213, 3) := dk_182 0 213 (dk_at dksX1_restore_3 10 rfl rfl)
theorem dX1_restore_82 : decode cX1_restore 82 = .ok (.iinc 1 1, 3) := dk_132 1 1 (dk_at dksX1_restore_3 13 rfl rfl)
theorem dX1_restore_85 : decode cX1_restore 85 = .ok (.goto (-34), 3) := dk_167 255 222 (dk_at dksX1_restore_3 16 rfl rfl)
theorem dX1_restore_88 : decode cX1_restore 88 = .ok (.aload_n 0, 1) := dk_42 (dk_at dksX1_restore_3 19 rfl rfl)
theorem dX1_restore_89 : decode cX1_restore 89 = .ok (.iconst 0, 1) := dk_3 (dk_at dksX1_restore_3 20 rfl rfl)
theorem dX1_restore_90 : decode cX1_restore 90 = .ok (.putfield 107, 3) := dk_181 0 107 (dk_at dksX1_restore_3 21 rfl rfl)
theorem dX1_restore_93 : decode cX1_restore 93 = .ok (.aload_n 0, 1) := dk_42 (dk_at dksX1_restore_4 0 rfl rfl)
theorem dX1_restore_94 : decode cX1_restore 94 = .ok (.getfield 113, 3) := dk_180 0 113 (dk_at dksX1_restore_4 1 rfl rfl)
theorem dX1_restore_97 : decode cX1_restore 97 = .ok (.ireturn, 1) := dk_172 (dk_at dksX1_restore_4 4 rfl rfl)
def dkwX1_status_0 : List UInt8 := [27, 184, 1, 88, 153, 0, 12, 42, 180, 0, 50, 27, 46, 167, 0, 4, 2, 172]
abbrev dktX1_status_0 : List UInt8 := dkwX1_status_0 ++ []
theorem dksX1_status_0 : cX1_status.data.toList.drop 0 = dktX1_status_0 := by decide +kernel
theorem dX1_status_0 : decode cX1_status 0 = .ok (.iload_n 1, 1) := dk_27 (dk_at dksX1_status_0 0 rfl rfl)
theorem dX1_status_1 : decode cX1_status 1 = .ok (.invokestatic 344, 3) := dk_184 1 88 (dk_at dksX1_status_0 1 rfl rfl)
theorem dX1_status_4 : decode cX1_status 4 = .ok (.ifCond .eq 12, 3) := dk_153 0 12 (dk_at dksX1_status_0 4 rfl rfl)
theorem dX1_status_7 : decode cX1_status 7 = .ok (.aload_n 0, 1) := dk_42 (dk_at dksX1_status_0 7 rfl rfl)
theorem dX1_status_8 : decode cX1_status 8 = .ok (.getfield 50, 3) := dk_180 0 50 (dk_at dksX1_status_0 8 rfl rfl)
theorem dX1_status_11 : decode cX1_status 11 = .ok (.iload_n 1, 1) := dk_27 (dk_at dksX1_status_0 11 rfl rfl)
theorem dX1_status_12 : decode cX1_status 12 = .ok (.iaload, 1) := dk_46 (dk_at dksX1_status_0 12 rfl rfl)
theorem dX1_status_13 : decode cX1_status 13 = .ok (.goto 4, 3) := dk_167 0 4 (dk_at dksX1_status_0 13 rfl rfl)
theorem dX1_status_16 : decode cX1_status 16 = .ok (.iconst (-1), 1) := dk_2 (dk_at dksX1_status_0 16 rfl rfl)
theorem dX1_status_17 : decode cX1_status 17 = .ok (.ireturn, 1) := dk_172 (dk_at dksX1_status_0 17 rfl rfl)
def dkwX1_isPart_0 : List UInt8 := [26, 153, 0, 8, 26, 4, 160, 0, 7, 4, 167, 0, 4, 3, 172]
abbrev dktX1_isPart_0 : List UInt8 := dkwX1_isPart_0 ++ []
theorem dksX1_isPart_0 : cX1_isPart.data.toList.drop 0 = dktX1_isPart_0 := by decide +kernel
theorem dX1_isPart_0 : decode cX1_isPart 0 = .ok (.iload_n 0, 1) := dk_26 (dk_at dksX1_isPart_0 0 rfl rfl)
theorem dX1_isPart_1 : decode cX1_isPart 1 = .ok (.ifCond .eq 8, 3) := dk_153 0 8 (dk_at dksX1_isPart_0 1 rfl rfl)
theorem dX1_isPart_4 : decode cX1_isPart 4 = .ok (.iload_n 0, 1) := dk_26 (dk_at dksX1_isPart_0 4 rfl rfl)
theorem dX1_isPart_5 : decode cX1_isPart 5 = .ok (.iconst 1, 1) := dk_4 (dk_at dksX1_isPart_0 5 rfl rfl)
theorem dX1_isPart_6 : decode cX1_isPart 6 = .ok (.if_icmp .ne 7, 3) := dk_160 0 7 (dk_at dksX1_isPart_0 6 rfl rfl)
theorem dX1_isPart_9 : decode cX1_isPart 9 = .ok (.iconst 1, 1) := dk_4 (dk_at dksX1_isPart_0 9 rfl rfl)
theorem dX1_isPart_10 : decode cX1_isPart 10 = .ok (.goto 4, 3) := dk_167 0 4 (dk_at dksX1_isPart_0 10 rfl rfl)
theorem dX1_isPart_13 : decode cX1_isPart 13 = .ok (.iconst 0, 1) := dk_3 (dk_at dksX1_isPart_0 13 rfl rfl)
theorem dX1_isPart_14 : decode cX1_isPart 14 = .ok (.ireturn, 1) := dk_172 (dk_at dksX1_isPart_0 14 rfl rfl)
def dkwX1_count_1 : List UInt8 := [5, 160, 0, 10, 42, 180, 0, 104, 167, 0, 4, 2, 172]
abbrev dktX1_count_1 : List UInt8 := dkwX1_count_1 ++ []
def dkwX1_count_0 : List UInt8 := [27, 154, 0, 10, 42, 180, 0, 113, 167, 0, 28, 27, 4, 160, 0, 10, 42, 180, 0, 169, 167, 0, 16, 27]
abbrev dktX1_count_0 : List UInt8 := dkwX1_count_0 ++ dktX1_count_1
theorem dksX1_count_0 : cX1_count.data.toList.drop 0 = dktX1_count_0 := by decide +kernel
theorem dksX1_count_1 : cX1_count.data.toList.drop 24 = dktX1_count_1 := dk_seg dksX1_count_0 24 rfl rfl
theorem dX1_count_0 : decode cX1_count 0 = .ok (.iload_n 1, 1) := dk_27 (dk_at dksX1_count_0 0 rfl rfl)
theorem dX1_count_1 : decode cX1_count 1 = .ok (.ifCond .ne 10, 3) := dk_154 0 10 (dk_at dksX1_count_0 1 rfl rfl)
theorem dX1_count_4 : decode cX1_count 4 = .ok (.aload_n 0, 1) := dk_42 (dk_at dksX1_count_0 4 rfl rfl)
theorem dX1_count_5 : decode cX1_count 5 = .ok (.getfield 113, 3) := dk_180 0 113 (dk_at dksX1_count_0 5 rfl rfl)
theorem dX1_count_8 : decode cX1_count 8 = .ok (.goto 28, 3) := dk_167 0 28 (dk_at dksX1_count_0 8 rfl rfl)
theorem dX1_count_11 : decode cX1_count 11 = .ok (.iload_n 1, 1) := dk_27 (dk_at dksX1_count_0 11 rfl rfl)
theorem dX1_count_12 : decode cX1_count 12 = .ok (.iconst 1, 1) := dk_4 (dk_at dksX1_count_0 12 rfl rfl)
theorem dX1_count_13 : decode cX1_count 13 = .ok (.if_icmp .ne 10, 3) := dk_160 0 10 (dk_at dksX1_count_0 13 rfl rfl)
theorem dX1_count_16 : decode cX1_count 16 = .ok (.aload_n 0, 1) := dk_42 (dk_at dksX1_count_0 16 rfl rfl)
theorem dX1_count_17 : decode cX1_count 17 = .ok (.getfield 169, 3) := dk_180 0 169 (dk_at dksX1_count_0 17 rfl rfl)
theorem dX1_count_20 : decode cX1_count 20 = .ok (.goto 16, 3) := dk_167 0 16 (dk_at dksX1_count_0 20 rfl rfl)
theorem dX1_count_23 : decode cX1_count 23 = .ok (.iload_n 1, 1) := dk_27 (dk_at dksX1_count_0 23 rfl rfl)
theorem dX1_count_24 : decode cX1_count 24 = .ok (.iconst 2, 1) := dk_5 (dk_at dksX1_count_1 0 rfl rfl)
theorem dX1_count_25 : decode cX1_count 25 = .ok (.if_icmp .ne 10, 3) := dk_160 0 10 (dk_at dksX1_count_1 1 rfl rfl)
theorem dX1_count_28 : decode cX1_count 28 = .ok (.aload_n 0, 1) := dk_42 (dk_at dksX1_count_1 4 rfl rfl)
theorem dX1_count_29 : decode cX1_count 29 = .ok (.getfield 104, 3) := dk_180 0 104 (dk_at dksX1_count_1 5 rfl rfl)
theorem dX1_count_32 : decode cX1_count 32 = .ok (.goto 4, 3) := dk_167 0 4 (dk_at dksX1_count_1 8 rfl rfl)
theorem dX1_count_35 : decode cX1_count 35 = .ok (.iconst (-1), 1) := dk_2 (dk_at dksX1_count_1 11 rfl rfl)
theorem dX1_count_36 : decode cX1_count 36 = .ok (.ireturn, 1) := dk_172 (dk_at dksX1_count_1 12 rfl rfl)
def dkwX1_house_3 : List UInt8 := [181, 0, 169, 29, 172, 58, 4, 42, 3, 181, 0, 169, 25, 4, 191]
abbrev dktX1_house_3 : List UInt8 := dkwX1_house_3 ++ []
def dkwX1_house_2 : List UInt8 := [182, 0, 98, 42, 182, 0, 165, 61, 42, 3, 181, 0, 169, 28, 172, 77, 42, 44, 182, 0, 196, 62, 42, 3]
abbrev dktX1_house_2 : List UInt8 := dkwX1_house_2 ++ dktX1_house_3
def dkwX1_house_1 : List UInt8 := [181, 0, 78, 42, 187, 0, 187, 89, 42, 180, 0, 82, 27, 183, 0, 189, 182, 0, 192, 181, 0, 31, 42]
abbrev dktX1_house_1 : List UInt8 := dkwX1_house_1 ++ dktX1_house_2
def dkwX1_house_0 : List UInt8 := [42, 27, 155, 0, 15, 27, 42, 180, 0, 169, 163, 0, 7, 4, 167, 0, 4, 3, 182, 0, 183, 42, 2]
abbrev dktX1_house_0 : List UInt8 := dkwX1_house_0 ++ dktX1_house_1
theorem dksX1_house_0 : cX1_house.data.toList.drop 0 = dktX1_house_0 := by decide +kernel
theorem dksX1_house_1 : cX1_house.data.toList.drop 23 = dktX1_house_1 := dk_seg dksX1_house_0 23 rfl rfl
theorem dksX1_house_2 : cX1_house.data.toList.drop 46 = dktX1_house_2 := dk_seg dksX1_house_1 23 rfl rfl
theorem dksX1_house_3 : cX1_house.data.toList.drop 70 = dktX1_house_3 := dk_seg dksX1_house_2 24 rfl rfl
theorem dX1_house_0 : decode cX1_house 0 = .ok (.aload_n 0, 1) := dk_42 (dk_at dksX1_house_0 0 rfl rfl)
theorem dX1_house_1 : decode cX1_house 1 = .ok (.iload_n 1, 1) := dk_27 (dk_at dksX1_house_0 1 rfl rfl)
theorem dX1_house_2 : decode cX1_house 2 = .ok (.ifCond .lt 15, 3) := dk_155 0 15 (dk_at dksX1_house_0 2 rfl rfl)
theorem dX1_house_5 : decode cX1_house 5 = .ok (.iload_n 1, 1) := dk_27 (dk_at dksX1_house_0 5 rfl rfl)
theorem dX1_house_6 : decode cX1_house 6 = .ok (.aload_n 0, 1) := dk_42 (dk_at dksX1_house_0 6 rfl rfl)
theorem dX1_house_7 : decode cX1_house 7 = .ok (.getfield 169, 3) := dk_180 0 169 (dk_at dksX1_house_0 7 rfl rfl)
theorem dX1_house_10 : decode cX1_house 10 = .ok (.if_icmp .gt 7, 3) := dk_163 0 7 (dk_at dksX1_house_0 10 rfl rfl)
theorem dX1_house_13 : decode cX1_house 13 = .ok (.iconst 1, 1) := dk_4 (dk_at dksX1_house_0 13 rfl rfl)
theorem dX1_house_14 : decode cX1_house 14 = .ok (.goto 4, 3) := dk_167 0 4 (dk_at dksX1_house_0 14 rfl rfl)
theorem dX1_house_17 : decode cX1_house 17 = .ok (.iconst 0, 1) := dk_3 (dk_at dksX1_house_0 17 rfl rfl)
theorem dX1_house_18 : decode cX1_house 18 = .ok (.invokevirtual 183, 3) := dk_182 0 183 (dk_at dksX1_house_0 18 rfl rfl)
theorem dX1_house_21 : decode cX1_house 21 = .ok (.aload_n 0, 1) := dk_42 (dk_at dksX1_house_0 21 rfl rfl)
theorem dX1_house_22 : decode cX1_house 22 = .ok (.iconst (-1), 1) := dk_2 (dk_at dksX1_house_0 22 rfl rfl)
theorem dX1_house_23 : decode cX1_house 23 = .ok (.putfield 78, 3) := dk_181 0 78 (dk_at dksX1_house_1 0 rfl rfl)
theorem dX1_house_26 : decode cX1_house 26 = .ok (.aload_n 0, 1) := dk_42 (dk_at dksX1_house_1 3 rfl rfl)
theorem dX1_house_27 : decode cX1_house 27 = .ok (.new 187, 3) := dk_187 0 187 (dk_at dksX1_house_1 4 rfl rfl)
theorem dX1_house_30 : decode cX1_house 30 = .ok (.dup, 1) := dk_89 (dk_at dksX1_house_1 7 rfl rfl)
theorem dX1_house_31 : decode cX1_house 31 = .ok (.aload_n 0, 1) := dk_42 (dk_at dksX1_house_1 8 rfl rfl)
theorem dX1_house_32 : decode cX1_house 32 = .ok (.getfield 82, 3) := dk_180 0 82 (dk_at dksX1_house_1 9 rfl rfl)
theorem dX1_house_35 : decode cX1_house 35 = .ok (.iload_n 1, 1) := dk_27 (dk_at dksX1_house_1 12 rfl rfl)
theorem dX1_house_36 : decode cX1_house 36 = .ok (.invokespecial 189, 3) := dk_183 0 189 (dk_at dksX1_house_1 13 rfl rfl)
theorem dX1_house_39 : decode cX1_house 39 = .ok (.invokevirtual 192, 3) := dk_182 0 192 (dk_at dksX1_house_1 16 rfl rfl)
theorem dX1_house_42 : decode cX1_house 42 = .ok (.putfield 31, 3) := dk_181 0 31 (dk_at dksX1_house_1 19 rfl rfl)
theorem dX1_house_45 : decode cX1_house 45 = .ok (.aload_n 0, 1) := dk_42 (dk_at dksX1_house_1 22 rfl rfl)
theorem dX1_house_46 : decode cX1_house 46 = .ok (.invokevirtual 98, 3) := dk_182 0 98 (dk_at dksX1_house_2 0 rfl rfl)
theorem dX1_house_49 : decode cX1_house 49 = .ok (.aload_n 0, 1) := dk_42 (dk_at dksX1_house_2 3 rfl rfl)
theorem dX1_house_50 : decode cX1_house 50 = .ok (.invokevirtual 165, 3) := dk_182 0 165 (dk_at dksX1_house_2 4 rfl rfl)
theorem dX1_house_53 : decode cX1_house 53 = .ok (.istore_n 2, 1) := dk_61 (dk_at dksX1_house_2 7 rfl rfl)
theorem dX1_house_54 : decode cX1_house 54 = .ok (.aload_n 0, 1) := dk_42 (dk_at dksX1_house_2 8 rfl rfl)
theorem dX1_house_55 : decode cX1_house 55 = .ok (.iconst 0, 1) := dk_3 (dk_at dksX1_house_2 9 rfl rfl)
theorem dX1_house_56 : decode cX1_house 56 = .ok (.putfield 169, 3) := dk_181 0 169 (dk_at dksX1_house_2 10 rfl rfl)
theorem dX1_house_59 : decode cX1_house 59 = .ok (.iload_n 2, 1) := dk_28 (dk_at dksX1_house_2 13 rfl rfl)
theorem dX1_house_60 : decode cX1_house 60 = .ok (.ireturn, 1) := dk_172 (dk_at dksX1_house_2 14 rfl rfl)
theorem dX1_house_61 : decode cX1_house 61 = .ok (.astore_n 2, 1) := dk_77 (dk_at dksX1_house_2 15 rfl rfl)
theorem dX1_house_62 : decode cX1_house 62 = .ok (.aload_n 0, 1) := dk_42 (dk_at dksX1_house_2 16 rfl rfl)
theorem dX1_house_63 : decode cX1_house 63 = .ok (.aload_n 2, 1) := dk_44 (dk_at dksX1_house_2 17 rfl rfl)
theorem dX1_house_64 : decode cX1_house 64 = .ok (.invokevirtual 196, 3) := dk_182 0 196 (dk_at dksX1_house_2 18 rfl rfl)
theorem dX1_house_67 : decode cX1_house 67 = .ok (.istore_n 3, 1) := dk_62 (dk_at dksX1_house_2 21 rfl rfl)
theorem dX1_house_68 : decode cX1_house 68 = .ok (.aload_n 0, 1) := dk_42 (dk_at dksX1_house_2 22 rfl rfl)
theorem dX1_house_69 : decode cX1_house 69 = .ok (.iconst 0, 1) := dk_3 (dk_at dksX1_house_2 23 rfl rfl)
theorem dX1_house_70 : decode cX1_house 70 = .ok (.putfield 169, 3) := dk_181 0 169 (dk_at dksX1_house_3 0 rfl rfl)
theorem dX1_house_73 : decode cX1_house 73 = .ok (.iload_n 3, 1) := dk_29 (dk_at dksX1_house_3 3 rfl rfl)
theorem dX1_house_74 : decode cX1_house 74 = .ok (.ireturn, 1) := dk_172 (dk_at dksX1_house_3 4 rfl rfl)
theorem dX1_house_75 : decode cX1_house 75 = .ok (.astore 4, 2) := dk_58 4 (dk_at dksX1_house_3 5 rfl rfl)
theorem dX1_house_77 : decode cX1_house 77 = .ok (.aload_n 0, 1) := dk_42 (dk_at dksX1_house_3 7 rfl rfl)
theorem dX1_house_78 : decode cX1_house 78 = .ok (.iconst 0, 1) := dk_3 (dk_at dksX1_house_3 8 rfl rfl)
theorem dX1_house_79 : decode cX1_house 79 = .ok (.putfield 169, 3) := dk_181 0 169 (dk_at dksX1_house_3 9 rfl rfl)
theorem dX1_house_82 : decode cX1_house 82 = .ok (.aload 4, 2) := dk_25 4 (dk_at dksX1_house_3 12 rfl rfl)
theorem dX1_house_84 : decode cX1_house 84 = .ok (.athrow, 1) := dk_191 (dk_at dksX1_house_3 14 rfl rfl)
def dkwX1_need_0 : List UInt8 := [27, 153, 0, 4, 177, 42, 180, 0, 50, 4, 92, 46, 4, 96, 79, 187, 0, 152, 89, 183, 0, 154, 191]
abbrev dktX1_need_0 : List UInt8 := dkwX1_need_0 ++ []
theorem dksX1_need_0 : cX1_need.data.toList.drop 0 = dktX1_need_0 := by decide +kernel
theorem dX1_need_0 : decode cX1_need 0 = .ok (.iload_n 1, 1) := dk_27 (dk_at dksX1_need_0 0 rfl rfl)
theorem dX1_need_1 : decode cX1_need 1 = .ok (.ifCond .eq 4, 3) := dk_153 0 4 (dk_at dksX1_need_0 1 rfl rfl)
theorem dX1_need_4 : decode cX1_need 4 = .ok (.return_, 1) := dk_177 (dk_at dksX1_need_0 4 rfl rfl)
theorem dX1_need_5 : decode cX1_need 5 = .ok (.aload_n 0, 1) := dk_42 (dk_at dksX1_need_0 5 rfl rfl)
theorem dX1_need_6 : decode cX1_need 6 = .ok (.getfield 50, 3) := dk_180 0 50 (dk_at dksX1_need_0 6 rfl rfl)
theorem dX1_need_9 : decode cX1_need 9 = .ok (.iconst 1, 1) := dk_4 (dk_at dksX1_need_0 9 rfl rfl)
theorem dX1_need_10 : decode cX1_need 10 = .ok (.dup2, 1) := dk_92 (dk_at dksX1_need_0 10 rfl rfl)
theorem dX1_need_11 : decode cX1_need 11 = .ok (.iaload, 1) := dk_46 (dk_at dksX1_need_0 11 rfl rfl)
theorem dX1_need_12 : decode cX1_need 12 = .ok (.iconst 1, 1) := dk_4 (dk_at dksX1_need_0 12 rfl rfl)
theorem dX1_need_13 : decode cX1_need 13 = .ok (.iadd, 1) := dk_96 (dk_at dksX1_need_0 13 rfl rfl)
theorem dX1_need_14 : decode cX1_need 14 = .ok (.iastore, 1) := dk_79 (dk_at dksX1_need_0 14 rfl rfl)
theorem dX1_need_15 : decode cX1_need 15 = .ok (.new 152, 3) := dk_187 0 152 (dk_at dksX1_need_0 15 rfl rfl)
theorem dX1_need_18 : decode cX1_need 18 = .ok (.dup, 1) := dk_89 (dk_at dksX1_need_0 18 rfl rfl)
theorem dX1_need_19 : decode cX1_need 19 = .ok (.invokespecial 154, 3) := dk_183 0 154 (dk_at dksX1_need_0 19 rfl rfl)
theorem dX1_need_22 : decode cX1_need 22 = .ok (.athrow, 1) := dk_191 (dk_at dksX1_need_0 22 rfl rfl)
def dkwX1_failed_0 : List UInt8 := [42, 43, 180, 0, 175, 181, 0, 78, 43, 180, 0, 180, 16, 10, 100, 172]
abbrev dktX1_failed_0 : List UInt8 := dkwX1_failed_0 ++ []
theorem dksX1_failed_0 : cX1_failed.data.toList.drop 0 = dktX1_failed_0 := by decide +kernel
theorem dX1_failed_0 : decode cX1_failed 0 = .ok (.aload_n 0, 1) := dk_42 (dk_at dksX1_failed_0 0 rfl rfl)
theorem dX1_failed_1 : decode cX1_failed 1 = .ok (.aload_n 1, 1) := dk_43 (dk_at dksX1_failed_0 1 rfl rfl)
theorem dX1_failed_2 : decode cX1_failed 2 = .ok (.getfield 175, 3) := dk_180 0 175 (dk_at dksX1_failed_0 2 rfl rfl)
theorem dX1_failed_5 : decode cX1_failed 5 = .ok (.putfield 78, 3) := dk_181 0 78 (dk_at dksX1_failed_0 5 rfl rfl)
theorem dX1_failed_8 : decode cX1_failed 8 = .ok (.aload_n 1, 1) := dk_43 (dk_at dksX1_failed_0 8 rfl rfl)
theorem dX1_failed_9 : decode cX1_failed 9 = .ok (.getfield 180, 3) := dk_180 0 180 (dk_at dksX1_failed_0 9 rfl rfl)
theorem dX1_failed_12 : decode cX1_failed 12 = .ok (.bipush 10, 2) := dk_16 10 (dk_at dksX1_failed_0 12 rfl rfl)
theorem dX1_failed_14 : decode cX1_failed 14 = .ok (.isub, 1) := dk_100 (dk_at dksX1_failed_0 14 rfl rfl)
theorem dX1_failed_15 : decode cX1_failed 15 = .ok (.ireturn, 1) := dk_172 (dk_at dksX1_failed_0 15 rfl rfl)
def dkwX1_law_3 : List UInt8 := [181, 0, 169, 29, 172, 58, 4, 42, 3, 181, 0, 169, 25, 4, 191]
abbrev dktX1_law_3 : List UInt8 := dkwX1_law_3 ++ []
def dkwX1_law_2 : List UInt8 := [182, 0, 203, 181, 0, 39, 4, 61, 42, 3, 181, 0, 169, 28, 172, 77, 42, 44, 182, 0, 196, 62, 42, 3]
abbrev dktX1_law_2 : List UInt8 := dkwX1_law_2 ++ dktX1_law_3
def dkwX1_law_1 : List UInt8 := [3, 182, 0, 183, 42, 2, 181, 0, 78, 42, 187, 0, 200, 89, 42, 180, 0, 82, 27, 183, 0, 202]
abbrev dktX1_law_1 : List UInt8 := dkwX1_law_1 ++ dktX1_law_2
def dkwX1_law_0 : List UInt8 := [42, 27, 155, 0, 22, 27, 42, 180, 0, 169, 163, 0, 14, 27, 17, 0, 150, 163, 0, 7, 4, 167, 0, 4]
abbrev dktX1_law_0 : List UInt8 := dkwX1_law_0 ++ dktX1_law_1
theorem dksX1_law_0 : cX1_law.data.toList.drop 0 = dktX1_law_0 := by decide +kernel
theorem dksX1_law_1 : cX1_law.data.toList.drop 24 = dktX1_law_1 := dk_seg dksX1_law_0 24 rfl rfl
theorem dksX1_law_2 : cX1_law.data.toList.drop 46 = dktX1_law_2 := dk_seg dksX1_law_1 22 rfl rfl
theorem dksX1_law_3 : cX1_law.data.toList.drop 70 = dktX1_law_3 := dk_seg dksX1_law_2 24 rfl rfl
theorem dX1_law_0 : decode cX1_law 0 = .ok (.aload_n 0, 1) := dk_42 (dk_at dksX1_law_0 0 rfl rfl)
theorem dX1_law_1 : decode cX1_law 1 = .ok (.iload_n 1, 1) := dk_27 (dk_at dksX1_law_0 1 rfl rfl)
theorem dX1_law_2 : decode cX1_law 2 = .ok (.ifCond .lt 22, 3) := dk_155 0 22 (dk_at dksX1_law_0 2 rfl rfl)
theorem dX1_law_5 : decode cX1_law 5 = .ok (.iload_n 1, 1) := dk_27 (dk_at dksX1_law_0 5 rfl rfl)
theorem dX1_law_6 : decode cX1_law 6 = .ok (.aload_n 0, 1) := dk_42 (dk_at dksX1_law_0 6 rfl rfl)
theorem dX1_law_7 : decode cX1_law 7 = .ok (.getfield 169, 3) := dk_180 0 169 (dk_at dksX1_law_0 7 rfl rfl)
theorem dX1_law_10 : decode cX1_law 10 = .ok (.if_icmp .gt 14, 3) := dk_163 0 14 (dk_at dksX1_law_0 10 rfl rfl)
theorem dX1_law_13 : decode cX1_law 13 = .ok (.iload_n 1, 1) := dk_27 (dk_at dksX1_law_0 13 rfl rfl)
theorem dX1_law_14 : decode cX1_law 14 = .ok (.sipush 150, 3) := dk_17 0 150 (dk_at dksX1_law_0 14 rfl rfl)
theorem dX1_law_17 : decode cX1_law 17 = .ok (.if_icmp .gt 7, 3) := dk_163 0 7 (dk_at dksX1_law_0 17 rfl rfl)
theorem dX1_law_20 : decode cX1_law 20 = .ok (.iconst 1, 1) := dk_4 (dk_at dksX1_law_0 20 rfl rfl)
theorem dX1_law_21 : decode cX1_law 21 = .ok (.goto 4, 3) := dk_167 0 4 (dk_at dksX1_law_0 21 rfl rfl)
theorem dX1_law_24 : decode cX1_law 24 = .ok (.iconst 0, 1) := dk_3 (dk_at dksX1_law_1 0 rfl rfl)
theorem dX1_law_25 : decode cX1_law 25 = .ok (.invokevirtual 183, 3) := dk_182 0 183 (dk_at dksX1_law_1 1 rfl rfl)
theorem dX1_law_28 : decode cX1_law 28 = .ok (.aload_n 0, 1) := dk_42 (dk_at dksX1_law_1 4 rfl rfl)
theorem dX1_law_29 : decode cX1_law 29 = .ok (.iconst (-1), 1) := dk_2 (dk_at dksX1_law_1 5 rfl rfl)
theorem dX1_law_30 : decode cX1_law 30 = .ok (.putfield 78, 3) := dk_181 0 78 (dk_at dksX1_law_1 6 rfl rfl)
theorem dX1_law_33 : decode cX1_law 33 = .ok (.aload_n 0, 1) := dk_42 (dk_at dksX1_law_1 9 rfl rfl)
theorem dX1_law_34 : decode cX1_law 34 = .ok (.new 200, 3) := dk_187 0 200 (dk_at dksX1_law_1 10 rfl rfl)
theorem dX1_law_37 : decode cX1_law 37 = .ok (.dup, 1) := dk_89 (dk_at dksX1_law_1 13 rfl rfl)
theorem dX1_law_38 : decode cX1_law 38 = .ok (.aload_n 0, 1) := dk_42 (dk_at dksX1_law_1 14 rfl rfl)
theorem dX1_law_39 : decode cX1_law 39 = .ok (.getfield 82, 3) := dk_180 0 82 (dk_at dksX1_law_1 15 rfl rfl)
theorem dX1_law_42 : decode cX1_law 42 = .ok (.iload_n 1, 1) := dk_27 (dk_at dksX1_law_1 18 rfl rfl)
theorem dX1_law_43 : decode cX1_law 43 = .ok (.invokespecial 202, 3) := dk_183 0 202 (dk_at dksX1_law_1 19 rfl rfl)
theorem dX1_law_46 : decode cX1_law 46 = .ok (.invokevirtual 203, 3) := dk_182 0 203 (dk_at dksX1_law_2 0 rfl rfl)
theorem dX1_law_49 : decode cX1_law 49 = .ok (.putfield 39, 3) := dk_181 0 39 (dk_at dksX1_law_2 3 rfl rfl)
theorem dX1_law_52 : decode cX1_law 52 = .ok (.iconst 1, 1) := dk_4 (dk_at dksX1_law_2 6 rfl rfl)
theorem dX1_law_53 : decode cX1_law 53 = .ok (.istore_n 2, 1) := dk_61 (dk_at dksX1_law_2 7 rfl rfl)
theorem dX1_law_54 : decode cX1_law 54 = .ok (.aload_n 0, 1) := dk_42 (dk_at dksX1_law_2 8 rfl rfl)
theorem dX1_law_55 : decode cX1_law 55 = .ok (.iconst 0, 1) := dk_3 (dk_at dksX1_law_2 9 rfl rfl)
theorem dX1_law_56 : decode cX1_law 56 = .ok (.putfield 169, 3) := dk_181 0 169 (dk_at dksX1_law_2 10 rfl rfl)
theorem dX1_law_59 : decode cX1_law 59 = .ok (.iload_n 2, 1) := dk_28 (dk_at dksX1_law_2 13 rfl rfl)
theorem dX1_law_60 : decode cX1_law 60 = .ok (.ireturn, 1) := dk_172 (dk_at dksX1_law_2 14 rfl rfl)
theorem dX1_law_61 : decode cX1_law 61 = .ok (.astore_n 2, 1) := dk_77 (dk_at dksX1_law_2 15 rfl rfl)
theorem dX1_law_62 : decode cX1_law 62 = .ok (.aload_n 0, 1) := dk_42 (dk_at dksX1_law_2 16 rfl rfl)
theorem dX1_law_63 : decode cX1_law 63 = .ok (.aload_n 2, 1) := dk_44 (dk_at dksX1_law_2 17 rfl rfl)
theorem dX1_law_64 : decode cX1_law 64 = .ok (.invokevirtual 196, 3) := dk_182 0 196 (dk_at dksX1_law_2 18 rfl rfl)
theorem dX1_law_67 : decode cX1_law 67 = .ok (.istore_n 3, 1) := dk_62 (dk_at dksX1_law_2 21 rfl rfl)
theorem dX1_law_68 : decode cX1_law 68 = .ok (.aload_n 0, 1) := dk_42 (dk_at dksX1_law_2 22 rfl rfl)
theorem dX1_law_69 : decode cX1_law 69 = .ok (.iconst 0, 1) := dk_3 (dk_at dksX1_law_2 23 rfl rfl)
theorem dX1_law_70 : decode cX1_law 70 = .ok (.putfield 169, 3) := dk_181 0 169 (dk_at dksX1_law_3 0 rfl rfl)
theorem dX1_law_73 : decode cX1_law 73 = .ok (.iload_n 3, 1) := dk_29 (dk_at dksX1_law_3 3 rfl rfl)
theorem dX1_law_74 : decode cX1_law 74 = .ok (.ireturn, 1) := dk_172 (dk_at dksX1_law_3 4 rfl rfl)
theorem dX1_law_75 : decode cX1_law 75 = .ok (.astore 4, 2) := dk_58 4 (dk_at dksX1_law_3 5 rfl rfl)
theorem dX1_law_77 : decode cX1_law 77 = .ok (.aload_n 0, 1) := dk_42 (dk_at dksX1_law_3 7 rfl rfl)
theorem dX1_law_78 : decode cX1_law 78 = .ok (.iconst 0, 1) := dk_3 (dk_at dksX1_law_3 8 rfl rfl)
theorem dX1_law_79 : decode cX1_law 79 = .ok (.putfield 169, 3) := dk_181 0 169 (dk_at dksX1_law_3 9 rfl rfl)
theorem dX1_law_82 : decode cX1_law 82 = .ok (.aload 4, 2) := dk_25 4 (dk_at dksX1_law_3 12 rfl rfl)
theorem dX1_law_84 : decode cX1_law 84 = .ok (.athrow, 1) := dk_191 (dk_at dksX1_law_3 14 rfl rfl)
def dkwX1_work_8 : List UInt8 := [181, 0, 169, 29, 172, 58, 4, 42, 3, 181, 0, 169, 25, 4, 191]
abbrev dktX1_work_8 : List UInt8 := dkwX1_work_8 ++ []
def dkwX1_work_7 : List UInt8 := [180, 0, 58, 180, 0, 220, 62, 42, 3, 181, 0, 169, 29, 172, 77, 42, 44, 182, 0, 196, 62, 42, 3]
abbrev dktX1_work_7 : List UInt8 := dkwX1_work_7 ++ dktX1_work_8
def dkwX1_work_6 : List UInt8 := [180, 0, 58, 182, 0, 227, 132, 3, 1, 167, 255, 230, 42, 42, 180, 0, 58, 180, 0, 223, 181, 0, 107, 42]
abbrev dktX1_work_6 : List UInt8 := dkwX1_work_6 ++ dktX1_work_7
def dkwX1_work_5 : List UInt8 := [181, 0, 223, 3, 62, 29, 44, 182, 0, 120, 162, 0, 24, 44, 29, 182, 0, 129, 192, 0, 225, 42]
abbrev dktX1_work_5 : List UInt8 := dkwX1_work_5 ++ dktX1_work_6
def dkwX1_work_4 : List UInt8 := [181, 0, 104, 42, 180, 0, 58, 3, 181, 0, 217, 42, 180, 0, 58, 3, 181, 0, 220, 42, 180, 0, 58, 3]
abbrev dktX1_work_4 : List UInt8 := dkwX1_work_4 ++ dktX1_work_5
def dkwX1_work_3 : List UInt8 := [77, 42, 42, 180, 0, 65, 42, 180, 0, 104, 42, 180, 0, 58, 182, 0, 213, 42, 89, 180, 0, 104, 4, 96]
abbrev dktX1_work_3 : List UInt8 := dkwX1_work_3 ++ dktX1_work_4
def dkwX1_work_2 : List UInt8 := [181, 0, 169, 28, 172, 187, 0, 205, 89, 42, 180, 0, 82, 27, 42, 180, 0, 31, 183, 0, 207, 182, 0, 210]
abbrev dktX1_work_2 : List UInt8 := dkwX1_work_2 ++ dktX1_work_3
def dkwX1_work_1 : List UInt8 := [3, 182, 0, 183, 42, 2, 181, 0, 78, 42, 180, 0, 104, 16, 16, 160, 0, 13, 16, 236, 61, 42, 3]
abbrev dktX1_work_1 : List UInt8 := dkwX1_work_1 ++ dktX1_work_2
def dkwX1_work_0 : List UInt8 := [42, 27, 155, 0, 22, 27, 42, 180, 0, 169, 163, 0, 14, 27, 17, 0, 150, 163, 0, 7, 4, 167, 0, 4]
abbrev dktX1_work_0 : List UInt8 := dkwX1_work_0 ++ dktX1_work_1
theorem dksX1_work_0 : cX1_work.data.toList.drop 0 = dktX1_work_0 := by decide +kernel
theorem dksX1_work_1 : cX1_work.data.toList.drop 24 = dktX1_work_1 := dk_seg dksX1_work_0 24 rfl rfl
theorem dksX1_work_2 : cX1_work.data.toList.drop 47 = dktX1_work_2 := dk_seg dksX1_work_1 23 rfl rfl
theorem dksX1_work_3 : cX1_work.data.toList.drop 71 = dktX1_work_3 := dk_seg dksX1_work_2 24 rfl rfl
theorem dksX1_work_4 : cX1_work.data.toList.drop 95 = dktX1_work_4 := dk_seg dksX1_work_3 24 rfl rfl
theorem dksX1_work_5 : cX1_work.data.toList.drop 119 = dktX1_work_5 := dk_seg dksX1_work_4 24 rfl rfl
theorem dksX1_work_6 : cX1_work.data.toList.drop 141 = dktX1_work_6 := dk_seg dksX1_work_5 22 rfl rfl
theorem dksX1_work_7 : cX1_work.data.toList.drop 165 = dktX1_work_7 := dk_seg dksX1_work_6 24 rfl rfl
theorem dksX1_work_8 : cX1_work.data.toList.drop 188 = dktX1_work_8 := dk_seg dksX1_work_7 23 rfl rfl
theorem dX1_work_0 : decode cX1_work 0 = .ok (.aload_n 0, 1) := dk_42 (dk_at dksX1_work_0 0 rfl rfl)
theorem dX1_work_1 : decode cX1_work 1 = .ok (.iload_n 1, 1) := dk_27 (dk_at dksX1_work_0 1 rfl rfl)
theorem dX1_work_2 : decode cX1_work 2 = .ok (.ifCond .lt 22, 3) := dk_155 0 22 (dk_at dksX1_work_0 2 rfl rfl)
theorem dX1_work_5 : decode cX1_work 5 = .ok (.iload_n 1, 1) := dk_27 (dk_at dksX1_work_0 5 rfl rfl)
theorem dX1_work_6 : decode cX1_work 6 = .ok (.aload_n 0, 1) := dk_42 (dk_at dksX1_work_0 6 rfl rfl)
theorem dX1_work_7 : decode cX1_work 7 = .ok (.getfield 169, 3) := dk_180 0 169 (dk_at dksX1_work_0 7 rfl rfl)
theorem dX1_work_10 : decode cX1_work 10 = .ok (.if_icmp .gt 14, 3) := dk_163 0 14 (dk_at dksX1_work_0 10 rfl rfl)
theorem dX1_work_13 : decode cX1_work 13 = .ok (.iload_n 1, 1) := dk_27 (dk_at dksX1_work_0 13 rfl rfl)
theorem dX1_work_14 : decode cX1_work 14 = .ok (.sipush 150, 3) := dk_17 0 150 (dk_at dksX1_work_0 14 rfl rfl)
theorem dX1_work_17 : decode cX1_work 17 = .ok (.if_icmp .gt 7, 3) := dk_163 0 7 (dk_at dksX1_work_0 17 rfl rfl)
theorem dX1_work_20 : decode cX1_work 20 = .ok (.iconst 1, 1) := dk_4 (dk_at dksX1_work_0 20 rfl rfl)
theorem dX1_work_21 : decode cX1_work 21 = .ok (.goto 4, 3) := dk_167 0 4 (dk_at dksX1_work_0 21 rfl rfl)
theorem dX1_work_24 : decode cX1_work 24 = .ok (.iconst 0, 1) := dk_3 (dk_at dksX1_work_1 0 rfl rfl)
theorem dX1_work_25 : decode cX1_work 25 = .ok (.invokevirtual 183, 3) := dk_182 0 183 (dk_at dksX1_work_1 1 rfl rfl)
theorem dX1_work_28 : decode cX1_work 28 = .ok (.aload_n 0, 1) := dk_42 (dk_at dksX1_work_1 4 rfl rfl)
theorem dX1_work_29 : decode cX1_work 29 = .ok (.iconst (-1), 1) := dk_2 (dk_at dksX1_work_1 5 rfl rfl)
theorem dX1_work_30 : decode cX1_work 30 = .ok (.putfield 78, 3) := dk_181 0 78 (dk_at dksX1_work_1 6 rfl rfl)
theorem dX1_work_33 : decode cX1_work 33 = .ok (.aload_n 0, 1) := dk_42 (dk_at dksX1_work_1 9 rfl rfl)
theorem dX1_work_34 : decode cX1_work 34 = .ok (.getfield 104, 3) := dk_180 0 104 (dk_at dksX1_work_1 10 rfl rfl)
theorem dX1_work_37 : decode cX1_work 37 = .ok (.bipush 16, 2) := dk_16 16 (dk_at dksX1_work_1 13 rfl rfl)
theorem dX1_work_39 : decode cX1_work 39 = .ok (.if_icmp .ne 13, 3) := dk_160 0 13 (dk_at dksX1_work_1 15 rfl rfl)
theorem dX1_work_42 : decode cX1_work 42 = .ok (.bipush (-20), 2) := dk_16 236 (dk_at dksX1_work_1 18 rfl rfl)
theorem dX1_work_44 : decode cX1_work 44 = .ok (.istore_n 2, 1) := dk_61 (dk_at dksX1_work_1 20 rfl rfl)
theorem dX1_work_45 : decode cX1_work 45 = .ok (.aload_n 0, 1) := dk_42 (dk_at dksX1_work_1 21 rfl rfl)
theorem dX1_work_46 : decode cX1_work 46 = .ok (.iconst 0, 1) := dk_3 (dk_at dksX1_work_1 22 rfl rfl)
theorem dX1_work_47 : decode cX1_work 47 = .ok (.putfield 169, 3) := dk_181 0 169 (dk_at dksX1_work_2 0 rfl rfl)
theorem dX1_work_50 : decode cX1_work 50 = .ok (.iload_n 2, 1) := dk_28 (dk_at dksX1_work_2 3 rfl rfl)
theorem dX1_work_51 : decode cX1_work 51 = .ok (.ireturn, 1) := dk_172 (dk_at dksX1_work_2 4 rfl rfl)
theorem dX1_work_52 : decode cX1_work 52 = .ok (.new 205, 3) := dk_187 0 205 (dk_at dksX1_work_2 5 rfl rfl)
theorem dX1_work_55 : decode cX1_work 55 = .ok (.dup, 1) := dk_89 (dk_at dksX1_work_2 8 rfl rfl)
theorem dX1_work_56 : decode cX1_work 56 = .ok (.aload_n 0, 1) := dk_42 (dk_at dksX1_work_2 9 rfl rfl)
theorem dX1_work_57 : decode cX1_work 57 = .ok (.getfield 82, 3) := dk_180 0 82 (dk_at dksX1_work_2 10 rfl rfl)
theorem dX1_work_60 : decode cX1_work 60 = .ok (.iload_n 1, 1) := dk_27 (dk_at dksX1_work_2 13 rfl rfl)
theorem dX1_work_61 : decode cX1_work 61 = .ok (.aload_n 0, 1) := dk_42 (dk_at dksX1_work_2 14 rfl rfl)
theorem dX1_work_62 : decode cX1_work 62 = .ok (.getfield 31, 3) := dk_180 0 31 (dk_at dksX1_work_2 15 rfl rfl)
theorem dX1_work_65 : decode cX1_work 65 = .ok (.invokespecial 207, 3) := dk_183 0 207 (dk_at dksX1_work_2 18 rfl rfl)
theorem dX1_work_68 : decode cX1_work 68 = .ok (.invokevirtual 210, 3) := dk_182 0 210 (dk_at dksX1_work_2 21 rfl rfl)
theorem dX1_work_71 : decode cX1_work 71 = .ok (.astore_n 2, 1) := dk_77 (dk_at dksX1_work_3 0 rfl rfl)
theorem dX1_work_72 : decode cX1_work 72 = .ok (.aload_n 0, 1) := dk_42 (dk_at dksX1_work_3 1 rfl rfl)
theorem dX1_work_73 : decode cX1_work 73 = .ok (.aload_n 0, 1) := dk_42 (dk_at dksX1_work_3 2 rfl rfl)
theorem dX1_work_74 : decode cX1_work 74 = .ok (.getfield 65, 3) := dk_180 0 65 (dk_at dksX1_work_3 3 rfl rfl)
theorem dX1_work_77 : decode cX1_work 77 = .ok (.aload_n 0, 1) := dk_42 (dk_at dksX1_work_3 6 rfl rfl)
theorem dX1_work_78 : decode cX1_work 78 = .ok (.getfield 104, 3) := dk_180 0 104 (dk_at dksX1_work_3 7 rfl rfl)
theorem dX1_work_81 : decode cX1_work 81 = .ok (.aload_n 0, 1) := dk_42 (dk_at dksX1_work_3 10 rfl rfl)
theorem dX1_work_82 : decode cX1_work 82 = .ok (.getfield 58, 3) := dk_180 0 58 (dk_at dksX1_work_3 11 rfl rfl)
theorem dX1_work_85 : decode cX1_work 85 = .ok (.invokevirtual 213, 3) := dk_182 0 213 (dk_at dksX1_work_3 14 rfl rfl)
theorem dX1_work_88 : decode cX1_work 88 = .ok (.aload_n 0, 1) := dk_42 (dk_at dksX1_work_3 17 rfl rfl)
theorem dX1_work_89 : decode cX1_work 89 = .ok (.dup, 1) := dk_89 (dk_at dksX1_work_3 18 rfl rfl)
theorem dX1_work_90 : decode cX1_work 90 = .ok (.getfield 104, 3) := dk_180 0 104 (dk_at dksX1_work_3 19 rfl rfl)
theorem dX1_work_93 : decode cX1_work 93 = .ok (.iconst 1, 1) := dk_4 (dk_at dksX1_work_3 22 rfl rfl)
theorem dX1_work_94 : decode cX1_work 94 = .ok (.iadd, 1) := dk_96 (dk_at dksX1_work_3 23 rfl rfl)
theorem dX1_work_95 : decode cX1_work 95 = .ok (.putfield 104, 3) := dk_181 0 104 (dk_at dksX1_work_4 0 rfl rfl)
theorem dX1_work_98 : decode cX1_work 98 = .ok (.aload_n 0, 1) := dk_42 (dk_at dksX1_work_4 3 rfl rfl)
theorem dX1_work_99 : decode cX1_work 99 = .ok (.getfield 58, 3) := dk_180 0 58 (dk_at dksX1_work_4 4 rfl rfl)
theorem dX1_work_102 : decode cX1_work 102 = .ok (.iconst 0, 1) := dk_3 (dk_at dksX1_work_4 7 rfl rfl)
theorem dX1_work_103 : decode cX1_work 103 = .ok (.putfield 217, 3) := dk_181 0 217 (dk_at dksX1_work_4 8 rfl rfl)
theorem dX1_work_106 : decode cX1_work 106 = .ok (.aload_n 0, 1) := dk_42 (dk_at dksX1_work_4 11 rfl rfl)
theorem dX1_work_107 : decode cX1_work 107 = .ok (.getfield 58, 3) := dk_180 0 58 (dk_at dksX1_work_4 12 rfl rfl)
theorem dX1_work_110 : decode cX1_work 110 = .ok (.iconst 0, 1) := dk_3 (dk_at dksX1_work_4 15 rfl rfl)
theorem dX1_work_111 : decode cX1_work 111 = .ok (.putfield 220, 3) := dk_181 0 220 (dk_at dksX1_work_4 16 rfl rfl)
theorem dX1_work_114 : decode cX1_work 114 = .ok (.aload_n 0, 1) := dk_42 (dk_at dksX1_work_4 19 rfl rfl)
theorem dX1_work_115 : decode cX1_work 115 = .ok (.getfield 58, 3) := dk_180 0 58 (dk_at dksX1_work_4 20 rfl rfl)
theorem dX1_work_118 : decode cX1_work 118 = .ok (.iconst 0, 1) := dk_3 (dk_at dksX1_work_4 23 rfl rfl)
theorem dX1_work_119 : decode cX1_work 119 = .ok (.putfield 223, 3) := dk_181 0 223 (dk_at dksX1_work_5 0 rfl rfl)
theorem dX1_work_122 : decode cX1_work 122 = .ok (.iconst 0, 1) := dk_3 (dk_at dksX1_work_5 3 rfl rfl)
theorem dX1_work_123 : decode cX1_work 123 = .ok (.istore_n 3, 1) := dk_62 (dk_at dksX1_work_5 4 rfl rfl)
theorem dX1_work_124 : decode cX1_work 124 = .ok (.iload_n 3, 1) := dk_29 (dk_at dksX1_work_5 5 rfl rfl)
theorem dX1_work_125 : decode cX1_work 125 = .ok (.aload_n 2, 1) := dk_44 (dk_at dksX1_work_5 6 rfl rfl)
theorem dX1_work_126 : decode cX1_work 126 = .ok (.invokevirtual 120, 3) := dk_182 0 120 (dk_at dksX1_work_5 7 rfl rfl)
theorem dX1_work_129 : decode cX1_work 129 = .ok (.if_icmp .ge 24, 3) := dk_162 0 24 (dk_at dksX1_work_5 10 rfl rfl)
theorem dX1_work_132 : decode cX1_work 132 = .ok (.aload_n 2, 1) := dk_44 (dk_at dksX1_work_5 13 rfl rfl)
theorem dX1_work_133 : decode cX1_work 133 = .ok (.iload_n 3, 1) := dk_29 (dk_at dksX1_work_5 14 rfl rfl)
theorem dX1_work_134 : decode cX1_work 134 = .ok (.invokevirtual 129, 3) := dk_182 0 129 (dk_at dksX1_work_5 15 rfl rfl)
theorem dX1_work_137 : decode cX1_work 137 = .ok (.checkcast 225, 3) := dk_192 0 225 (dk_at dksX1_work_5 18 rfl rfl)
theorem dX1_work_140 : decode cX1_work 140 = .ok (.aload_n 0, 1) := dk_42 (dk_at dksX1_work_5 21 rfl rfl)
theorem dX1_work_141 : decode cX1_work 141 = .ok (.getfield 58, 3) := dk_180 0 58 (dk_at dksX1_work_6 0 rfl rfl)
theorem dX1_work_144 : decode cX1_work 144 = .ok (.invokevirtual 227, 3) := dk_182 0 227 (dk_at dksX1_work_6 3 rfl rfl)
theorem dX1_work_147 : decode cX1_work 147 = .ok (.iinc 3 1, 3) := dk_132 3 1 (dk_at dksX1_work_6 6 rfl rfl)
theorem dX1_work_150 : decode cX1_work 150 = .ok (.goto (-26), 3) := dk_167 255 230 (dk_at dksX1_work_6 9 rfl rfl)
theorem dX1_work_153 : decode cX1_work 153 = .ok (.aload_n 0, 1) := dk_42 (dk_at dksX1_work_6 12 rfl rfl)
theorem dX1_work_154 : decode cX1_work 154 = .ok (.aload_n 0, 1) := dk_42 (dk_at dksX1_work_6 13 rfl rfl)
theorem dX1_work_155 : decode cX1_work 155 = .ok (.getfield 58, 3) := dk_180 0 58 (dk_at dksX1_work_6 14 rfl rfl)
theorem dX1_work_158 : decode cX1_work 158 = .ok (.getfield 223, 3) := dk_180 0 223 (dk_at dksX1_work_6 17 rfl rfl)
theorem dX1_work_161 : decode cX1_work 161 = .ok (.putfield 107, 3) := dk_181 0 107 (dk_at dksX1_work_6 20 rfl rfl)
theorem dX1_work_164 : decode cX1_work 164 = .ok (.aload_n 0, 1) := dk_42 (dk_at dksX1_work_6 23 rfl rfl)
theorem dX1_work_165 : decode cX1_work 165 = .ok (.getfield 58, 3) := dk_180 0 58 (dk_at dksX1_work_7 0 rfl rfl)
theorem dX1_work_168 : decode cX1_work 168 = .ok (.getfield 220, 3) := dk_180 0 220 (dk_at dksX1_work_7 3 rfl rfl)
theorem dX1_work_171 : decode cX1_work 171 = .ok (.istore_n 3, 1) := dk_62 (dk_at dksX1_work_7 6 rfl rfl)
theorem dX1_work_172 : decode cX1_work 172 = .ok (.aload_n 0, 1) := dk_42 (dk_at dksX1_work_7 7 rfl rfl)
theorem dX1_work_173 : decode cX1_work 173 = .ok (.iconst 0, 1) := dk_3 (dk_at dksX1_work_7 8 rfl rfl)
theorem dX1_work_174 : decode cX1_work 174 = .ok (.putfield 169, 3) := dk_181 0 169 (dk_at dksX1_work_7 9 rfl rfl)
theorem dX1_work_177 : decode cX1_work 177 = .ok (.iload_n 3, 1) := dk_29 (dk_at dksX1_work_7 12 rfl rfl)
theorem dX1_work_178 : decode cX1_work 178 = .ok (.ireturn, 1) := dk_172 (dk_at dksX1_work_7 13 rfl rfl)
theorem dX1_work_179 : decode cX1_work 179 = .ok (.astore_n 2, 1) := dk_77 (dk_at dksX1_work_7 14 rfl rfl)
theorem dX1_work_180 : decode cX1_work 180 = .ok (.aload_n 0, 1) := dk_42 (dk_at dksX1_work_7 15 rfl rfl)
theorem dX1_work_181 : decode cX1_work 181 = .ok (.aload_n 2, 1) := dk_44 (dk_at dksX1_work_7 16 rfl rfl)
theorem dX1_work_182 : decode cX1_work 182 = .ok (.invokevirtual 196, 3) := dk_182 0 196 (dk_at dksX1_work_7 17 rfl rfl)
theorem dX1_work_185 : decode cX1_work 185 = .ok (.istore_n 3, 1) := dk_62 (dk_at dksX1_work_7 20 rfl rfl)
theorem dX1_work_186 : decode cX1_work 186 = .ok (.aload_n 0, 1) := dk_42 (dk_at dksX1_work_7 21 rfl rfl)
theorem dX1_work_187 : decode cX1_work 187 = .ok (.iconst 0, 1) := dk_3 (dk_at dksX1_work_7 22 rfl rfl)
theorem dX1_work_188 : decode cX1_work 188 = .ok (.putfield 169, 3) := dk_181 0 169 (dk_at dksX1_work_8 0 rfl rfl)
theorem dX1_work_191 : decode cX1_work 191 = .ok (.iload_n 3, 1) := dk_29 (dk_at dksX1_work_8 3 rfl rfl)
theorem dX1_work_192 : decode cX1_work 192 = .ok (.ireturn, 1) := dk_172 (dk_at dksX1_work_8 4 rfl rfl)
theorem dX1_work_193 : decode cX1_work 193 = .ok (.astore 4, 2) := dk_58 4 (dk_at dksX1_work_8 5 rfl rfl)
theorem dX1_work_195 : decode cX1_work 195 = .ok (.aload_n 0, 1) := dk_42 (dk_at dksX1_work_8 7 rfl rfl)
theorem dX1_work_196 : decode cX1_work 196 = .ok (.iconst 0, 1) := dk_3 (dk_at dksX1_work_8 8 rfl rfl)
theorem dX1_work_197 : decode cX1_work 197 = .ok (.putfield 169, 3) := dk_181 0 169 (dk_at dksX1_work_8 9 rfl rfl)
theorem dX1_work_200 : decode cX1_work 200 = .ok (.aload 4, 2) := dk_25 4 (dk_at dksX1_work_8 12 rfl rfl)
theorem dX1_work_202 : decode cX1_work 202 = .ok (.athrow, 1) := dk_191 (dk_at dksX1_work_8 14 rfl rfl)
def dkwX1_seen_4 : List UInt8 := [29, 172, 58, 4, 42, 3, 181, 0, 169, 25, 4, 191]
abbrev dktX1_seen_4 : List UInt8 := dkwX1_seen_4 ++ []
def dkwX1_seen_3 : List UInt8 := [42, 180, 0, 110, 62, 42, 3, 181, 0, 169, 29, 172, 77, 42, 44, 182, 0, 196, 62, 42, 3, 181, 0, 169]
abbrev dktX1_seen_3 : List UInt8 := dkwX1_seen_3 ++ dktX1_seen_4
def dkwX1_seen_2 : List UInt8 := [77, 44, 182, 0, 236, 3, 42, 180, 0, 47, 3, 16, 10, 184, 0, 239, 42, 44, 180, 0, 245, 181, 0, 110]
abbrev dktX1_seen_2 : List UInt8 := dkwX1_seen_2 ++ dktX1_seen_3
def dkwX1_seen_1 : List UInt8 := [182, 0, 183, 42, 2, 181, 0, 78, 187, 0, 231, 89, 42, 180, 0, 82, 27, 42, 182, 0, 165, 183, 0, 233]
abbrev dktX1_seen_1 : List UInt8 := dkwX1_seen_1 ++ dktX1_seen_2
def dkwX1_seen_0 : List UInt8 := [42, 27, 155, 0, 21, 27, 42, 180, 0, 169, 163, 0, 13, 27, 16, 60, 163, 0, 7, 4, 167, 0, 4, 3]
abbrev dktX1_seen_0 : List UInt8 := dkwX1_seen_0 ++ dktX1_seen_1
theorem dksX1_seen_0 : cX1_seen.data.toList.drop 0 = dktX1_seen_0 := by decide +kernel
theorem dksX1_seen_1 : cX1_seen.data.toList.drop 24 = dktX1_seen_1 := dk_seg dksX1_seen_0 24 rfl rfl
theorem dksX1_seen_2 : cX1_seen.data.toList.drop 48 = dktX1_seen_2 := dk_seg dksX1_seen_1 24 rfl rfl
theorem dksX1_seen_3 : cX1_seen.data.toList.drop 72 = dktX1_seen_3 := dk_seg dksX1_seen_2 24 rfl rfl
theorem dksX1_seen_4 : cX1_seen.data.toList.drop 96 = dktX1_seen_4 := dk_seg dksX1_seen_3 24 rfl rfl
theorem dX1_seen_0 : decode cX1_seen 0 = .ok (.aload_n 0, 1) := dk_42 (dk_at dksX1_seen_0 0 rfl rfl)
theorem dX1_seen_1 : decode cX1_seen 1 = .ok (.iload_n 1, 1) := dk_27 (dk_at dksX1_seen_0 1 rfl rfl)
theorem dX1_seen_2 : decode cX1_seen 2 = .ok (.ifCond .lt 21, 3) := dk_155 0 21 (dk_at dksX1_seen_0 2 rfl rfl)
theorem dX1_seen_5 : decode cX1_seen 5 = .ok (.iload_n 1, 1) := dk_27 (dk_at dksX1_seen_0 5 rfl rfl)
theorem dX1_seen_6 : decode cX1_seen 6 = .ok (.aload_n 0, 1) := dk_42 (dk_at dksX1_seen_0 6 rfl rfl)
theorem dX1_seen_7 : decode cX1_seen 7 = .ok (.getfield 169, 3) := dk_180 0 169 (dk_at dksX1_seen_0 7 rfl rfl)
theorem dX1_seen_10 : decode cX1_seen 10 = .ok (.if_icmp .gt 13, 3) := dk_163 0 13 (dk_at dksX1_seen_0 10 rfl rfl)
theorem dX1_seen_13 : decode cX1_seen 13 = .ok (.iload_n 1, 1) := dk_27 (dk_at dksX1_seen_0 13 rfl rfl)
theorem dX1_seen_14 : decode cX1_seen 14 = .ok (.bipush 60, 2) := dk_16 60 (dk_at dksX1_seen_0 14 rfl rfl)
theorem dX1_seen_16 : decode cX1_seen 16 = .ok (.if_icmp .gt 7, 3) := dk_163 0 7 (dk_at dksX1_seen_0 16 rfl rfl)
theorem dX1_seen_19 : decode cX1_seen 19 = .ok (.iconst 1, 1) := dk_4 (dk_at dksX1_seen_0 19 rfl rfl)
theorem dX1_seen_20 : decode cX1_seen 20 = .ok (.goto 4, 3) := dk_167 0 4 (dk_at dksX1_seen_0 20 rfl rfl)
theorem dX1_seen_23 : decode cX1_seen 23 = .ok (.iconst 0, 1) := dk_3 (dk_at dksX1_seen_0 23 rfl rfl)
theorem dX1_seen_24 : decode cX1_seen 24 = .ok (.invokevirtual 183, 3) := dk_182 0 183 (dk_at dksX1_seen_1 0 rfl rfl)
theorem dX1_seen_27 : decode cX1_seen 27 = .ok (.aload_n 0, 1) := dk_42 (dk_at dksX1_seen_1 3 rfl rfl)
theorem dX1_seen_28 : decode cX1_seen 28 = .ok (.iconst (-1), 1) := dk_2 (dk_at dksX1_seen_1 4 rfl rfl)
theorem dX1_seen_29 : decode cX1_seen 29 = .ok (.putfield 78, 3) := dk_181 0 78 (dk_at dksX1_seen_1 5 rfl rfl)
theorem dX1_seen_32 : decode cX1_seen 32 = .ok (.new 231, 3) := dk_187 0 231 (dk_at dksX1_seen_1 8 rfl rfl)
theorem dX1_seen_35 : decode cX1_seen 35 = .ok (.dup, 1) := dk_89 (dk_at dksX1_seen_1 11 rfl rfl)
theorem dX1_seen_36 : decode cX1_seen 36 = .ok (.aload_n 0, 1) := dk_42 (dk_at dksX1_seen_1 12 rfl rfl)
theorem dX1_seen_37 : decode cX1_seen 37 = .ok (.getfield 82, 3) := dk_180 0 82 (dk_at dksX1_seen_1 13 rfl rfl)
theorem dX1_seen_40 : decode cX1_seen 40 = .ok (.iload_n 1, 1) := dk_27 (dk_at dksX1_seen_1 16 rfl rfl)
theorem dX1_seen_41 : decode cX1_seen 41 = .ok (.aload_n 0, 1) := dk_42 (dk_at dksX1_seen_1 17 rfl rfl)
theorem dX1_seen_42 : decode cX1_seen 42 = .ok (.invokevirtual 165, 3) := dk_182 0 165 (dk_at dksX1_seen_1 18 rfl rfl)
theorem dX1_seen_45 : decode cX1_seen 45 = .ok (.invokespecial 233, 3) := dk_183 0 233 (dk_at dksX1_seen_1 21 rfl rfl)
theorem dX1_seen_48 : decode cX1_seen 48 = .ok (.astore_n 2, 1) := dk_77 (dk_at dksX1_seen_2 0 rfl rfl)
theorem dX1_seen_49 : decode cX1_seen 49 = .ok (.aload_n 2, 1) := dk_44 (dk_at dksX1_seen_2 1 rfl rfl)
theorem dX1_seen_50 : decode cX1_seen 50 = .ok (.invokevirtual 236, 3) := dk_182 0 236 (dk_at dksX1_seen_2 2 rfl rfl)
theorem dX1_seen_53 : decode cX1_seen 53 = .ok (.iconst 0, 1) := dk_3 (dk_at dksX1_seen_2 5 rfl rfl)
theorem dX1_seen_54 : decode cX1_seen 54 = .ok (.aload_n 0, 1) := dk_42 (dk_at dksX1_seen_2 6 rfl rfl)
theorem dX1_seen_55 : decode cX1_seen 55 = .ok (.getfield 47, 3) := dk_180 0 47 (dk_at dksX1_seen_2 7 rfl rfl)
theorem dX1_seen_58 : decode cX1_seen 58 = .ok (.iconst 0, 1) := dk_3 (dk_at dksX1_seen_2 10 rfl rfl)
theorem dX1_seen_59 : decode cX1_seen 59 = .ok (.bipush 10, 2) := dk_16 10 (dk_at dksX1_seen_2 11 rfl rfl)
theorem dX1_seen_61 : decode cX1_seen 61 = .ok (.invokestatic 239, 3) := dk_184 0 239 (dk_at dksX1_seen_2 13 rfl rfl)
theorem dX1_seen_64 : decode cX1_seen 64 = .ok (.aload_n 0, 1) := dk_42 (dk_at dksX1_seen_2 16 rfl rfl)
theorem dX1_seen_65 : decode cX1_seen 65 = .ok (.aload_n 2, 1) := dk_44 (dk_at dksX1_seen_2 17 rfl rfl)
theorem dX1_seen_66 : decode cX1_seen 66 = .ok (.getfield 245, 3) := dk_180 0 245 (dk_at dksX1_seen_2 18 rfl rfl)
theorem dX1_seen_69 : decode cX1_seen 69 = .ok (.putfield 110, 3) := dk_181 0 110 (dk_at dksX1_seen_2 21 rfl rfl)
theorem dX1_seen_72 : decode cX1_seen 72 = .ok (.aload_n 0, 1) := dk_42 (dk_at dksX1_seen_3 0 rfl rfl)
theorem dX1_seen_73 : decode cX1_seen 73 = .ok (.getfield 110, 3) := dk_180 0 110 (dk_at dksX1_seen_3 1 rfl rfl)
theorem dX1_seen_76 : decode cX1_seen 76 = .ok (.istore_n 3, 1) := dk_62 (dk_at dksX1_seen_3 4 rfl rfl)
theorem dX1_seen_77 : decode cX1_seen 77 = .ok (.aload_n 0, 1) := dk_42 (dk_at dksX1_seen_3 5 rfl rfl)
theorem dX1_seen_78 : decode cX1_seen 78 = .ok (.iconst 0, 1) := dk_3 (dk_at dksX1_seen_3 6 rfl rfl)
theorem dX1_seen_79 : decode cX1_seen 79 = .ok (.putfield 169, 3) := dk_181 0 169 (dk_at dksX1_seen_3 7 rfl rfl)
theorem dX1_seen_82 : decode cX1_seen 82 = .ok (.iload_n 3, 1) := dk_29 (dk_at dksX1_seen_3 10 rfl rfl)
theorem dX1_seen_83 : decode cX1_seen 83 = .ok (.ireturn, 1) := dk_172 (dk_at dksX1_seen_3 11 rfl rfl)
theorem dX1_seen_84 : decode cX1_seen 84 = .ok (.astore_n 2, 1) := dk_77 (dk_at dksX1_seen_3 12 rfl rfl)
theorem dX1_seen_85 : decode cX1_seen 85 = .ok (.aload_n 0, 1) := dk_42 (dk_at dksX1_seen_3 13 rfl rfl)
theorem dX1_seen_86 : decode cX1_seen 86 = .ok (.aload_n 2, 1) := dk_44 (dk_at dksX1_seen_3 14 rfl rfl)
theorem dX1_seen_87 : decode cX1_seen 87 = .ok (.invokevirtual 196, 3) := dk_182 0 196 (dk_at dksX1_seen_3 15 rfl rfl)
theorem dX1_seen_90 : decode cX1_seen 90 = .ok (.istore_n 3, 1) := dk_62 (dk_at dksX1_seen_3 18 rfl rfl)
theorem dX1_seen_91 : decode cX1_seen 91 = .ok (.aload_n 0, 1) := dk_42 (dk_at dksX1_seen_3 19 rfl rfl)
theorem dX1_seen_92 : decode cX1_seen 92 = .ok (.iconst 0, 1) := dk_3 (dk_at dksX1_seen_3 20 rfl rfl)
theorem dX1_seen_93 : decode cX1_seen 93 = .ok (.putfield 169, 3) := dk_181 0 169 (dk_at dksX1_seen_3 21 rfl rfl)
theorem dX1_seen_96 : decode cX1_seen 96 = .ok (.iload_n 3, 1) := dk_29 (dk_at dksX1_seen_4 0 rfl rfl)
theorem dX1_seen_97 : decode cX1_seen 97 = .ok (.ireturn, 1) := dk_172 (dk_at dksX1_seen_4 1 rfl rfl)
theorem dX1_seen_98 : decode cX1_seen 98 = .ok (.astore 4, 2) := dk_58 4 (dk_at dksX1_seen_4 2 rfl rfl)
theorem dX1_seen_100 : decode cX1_seen 100 = .ok (.aload_n 0, 1) := dk_42 (dk_at dksX1_seen_4 4 rfl rfl)
theorem dX1_seen_101 : decode cX1_seen 101 = .ok (.iconst 0, 1) := dk_3 (dk_at dksX1_seen_4 5 rfl rfl)
theorem dX1_seen_102 : decode cX1_seen 102 = .ok (.putfield 169, 3) := dk_181 0 169 (dk_at dksX1_seen_4 6 rfl rfl)
theorem dX1_seen_105 : decode cX1_seen 105 = .ok (.aload 4, 2) := dk_25 4 (dk_at dksX1_seen_4 9 rfl rfl)
theorem dX1_seen_107 : decode cX1_seen 107 = .ok (.athrow, 1) := dk_191 (dk_at dksX1_seen_4 11 rfl rfl)
def dkwX1_told_5 : List UInt8 := [180, 0, 58, 182, 1, 14, 172]
abbrev dktX1_told_5 : List UInt8 := dkwX1_told_5 ++ []
def dkwX1_told_4 : List UInt8 := [182, 1, 8, 172, 42, 180, 0, 58, 180, 1, 11, 172, 42, 180, 0, 110, 172, 42, 180, 0, 107, 172, 42]
abbrev dktX1_told_4 : List UInt8 := dkwX1_told_4 ++ dktX1_told_5
def dkwX1_told_3 : List UInt8 := [180, 1, 0, 172, 42, 180, 0, 58, 180, 1, 3, 172, 42, 180, 0, 58, 182, 1, 6, 172, 42, 180, 0, 58]
abbrev dktX1_told_3 : List UInt8 := dkwX1_told_3 ++ dktX1_told_4
def dkwX1_told_2 : List UInt8 := [42, 180, 0, 31, 180, 0, 158, 172, 42, 182, 0, 165, 172, 42, 182, 0, 167, 172, 42, 180, 0, 58]
abbrev dktX1_told_2 : List UInt8 := dkwX1_told_2 ++ dktX1_told_3
def dkwX1_told_1 : List UInt8 := [170, 0, 0, 0, 0, 0, 0, 124, 0, 0, 0, 0, 0, 0, 0, 9, 0, 0, 0, 56, 0, 0, 0, 64, 0, 0, 0, 69, 0, 0, 0, 74, 0, 0, 0, 82, 0, 0, 0, 90, 0, 0, 0, 98, 0, 0, 0, 106, 0, 0, 0, 114, 0, 0, 0, 119]
abbrev dktX1_told_1 : List UInt8 := dkwX1_told_1 ++ dktX1_told_2
def dkwX1_told_0 : List UInt8 := [42, 27, 3, 16, 10, 184, 0, 252, 182, 0, 183, 27]
abbrev dktX1_told_0 : List UInt8 := dkwX1_told_0 ++ dktX1_told_1
theorem dksX1_told_0 : cX1_told.data.toList.drop 0 = dktX1_told_0 := by decide +kernel
theorem dksX1_told_1 : cX1_told.data.toList.drop 12 = dktX1_told_1 := dk_seg dksX1_told_0 12 rfl rfl
theorem dksX1_told_2 : cX1_told.data.toList.drop 68 = dktX1_told_2 := dk_seg dksX1_told_1 56 rfl rfl
theorem dksX1_told_3 : cX1_told.data.toList.drop 90 = dktX1_told_3 := dk_seg dksX1_told_2 22 rfl rfl
theorem dksX1_told_4 : cX1_told.data.toList.drop 114 = dktX1_told_4 := dk_seg dksX1_told_3 24 rfl rfl
theorem dksX1_told_5 : cX1_told.data.toList.drop 137 = dktX1_told_5 := dk_seg dksX1_told_4 23 rfl rfl
theorem dX1_told_0 : decode cX1_told 0 = .ok (.aload_n 0, 1) := dk_42 (dk_at dksX1_told_0 0 rfl rfl)
theorem dX1_told_1 : decode cX1_told 1 = .ok (.iload_n 1, 1) := dk_27 (dk_at dksX1_told_0 1 rfl rfl)
theorem dX1_told_2 : decode cX1_told 2 = .ok (.iconst 0, 1) := dk_3 (dk_at dksX1_told_0 2 rfl rfl)
theorem dX1_told_3 : decode cX1_told 3 = .ok (.bipush 10, 2) := dk_16 10 (dk_at dksX1_told_0 3 rfl rfl)
theorem dX1_told_5 : decode cX1_told 5 = .ok (.invokestatic 252, 3) := dk_184 0 252 (dk_at dksX1_told_0 5 rfl rfl)
theorem dX1_told_8 : decode cX1_told 8 = .ok (.invokevirtual 183, 3) := dk_182 0 183 (dk_at dksX1_told_0 8 rfl rfl)
theorem dX1_told_11 : decode cX1_told 11 = .ok (.iload_n 1, 1) := dk_27 (dk_at dksX1_told_0 11 rfl rfl)
theorem dX1_told_12 : decode cX1_told 12 = .ok (.tableswitch 124 0 9 #[56, 64, 69, 74, 82, 90, 98, 106, 114, 119], 56) := by decide +kernel
theorem dX1_told_68 : decode cX1_told 68 = .ok (.aload_n 0, 1) := dk_42 (dk_at dksX1_told_2 0 rfl rfl)
theorem dX1_told_69 : decode cX1_told 69 = .ok (.getfield 31, 3) := dk_180 0 31 (dk_at dksX1_told_2 1 rfl rfl)
theorem dX1_told_72 : decode cX1_told 72 = .ok (.getfield 158, 3) := dk_180 0 158 (dk_at dksX1_told_2 4 rfl rfl)
theorem dX1_told_75 : decode cX1_told 75 = .ok (.ireturn, 1) := dk_172 (dk_at dksX1_told_2 7 rfl rfl)
theorem dX1_told_76 : decode cX1_told 76 = .ok (.aload_n 0, 1) := dk_42 (dk_at dksX1_told_2 8 rfl rfl)
theorem dX1_told_77 : decode cX1_told 77 = .ok (.invokevirtual 165, 3) := dk_182 0 165 (dk_at dksX1_told_2 9 rfl rfl)
theorem dX1_told_80 : decode cX1_told 80 = .ok (.ireturn, 1) := dk_172 (dk_at dksX1_told_2 12 rfl rfl)
theorem dX1_told_81 : decode cX1_told 81 = .ok (.aload_n 0, 1) := dk_42 (dk_at dksX1_told_2 13 rfl rfl)
theorem dX1_told_82 : decode cX1_told 82 = .ok (.invokevirtual 167, 3) := dk_182 0 167 (dk_at dksX1_told_2 14 rfl rfl)
theorem dX1_told_85 : decode cX1_told 85 = .ok (.ireturn, 1) := dk_172 (dk_at dksX1_told_2 17 rfl rfl)
theorem dX1_told_86 : decode cX1_told 86 = .ok (.aload_n 0, 1) := dk_42 (dk_at dksX1_told_2 18 rfl rfl)
theorem dX1_told_87 : decode cX1_told 87 = .ok (.getfield 58, 3) := dk_180 0 58 (dk_at dksX1_told_2 19 rfl rfl)
theorem dX1_told_90 : decode cX1_told 90 = .ok (.getfield 256, 3) := dk_180 1 0 (dk_at dksX1_told_3 0 rfl rfl)
theorem dX1_told_93 : decode cX1_told 93 = .ok (.ireturn, 1) := dk_172 (dk_at dksX1_told_3 3 rfl rfl)
theorem dX1_told_94 : decode cX1_told 94 = .ok (.aload_n 0, 1) := dk_42 (dk_at dksX1_told_3 4 rfl rfl)
theorem dX1_told_95 : decode cX1_told 95 = .ok (.getfield 58, 3) := dk_180 0 58 (dk_at dksX1_told_3 5 rfl rfl)
theorem dX1_told_98 : decode cX1_told 98 = .ok (.getfield 259, 3) := dk_180 1 3 (dk_at dksX1_told_3 8 rfl rfl)
theorem dX1_told_101 : decode cX1_told 101 = .ok (.ireturn, 1) := dk_172 (dk_at dksX1_told_3 11 rfl rfl)
theorem dX1_told_102 : decode cX1_told 102 = .ok (.aload_n 0, 1) := dk_42 (dk_at dksX1_told_3 12 rfl rfl)
theorem dX1_told_103 : decode cX1_told 103 = .ok (.getfield 58, 3) := dk_180 0 58 (dk_at dksX1_told_3 13 rfl rfl)
theorem dX1_told_106 : decode cX1_told 106 = .ok (.invokevirtual 262, 3) := dk_182 1 6 (dk_at dksX1_told_3 16 rfl rfl)
theorem dX1_told_109 : decode cX1_told 109 = .ok (.ireturn, 1) := dk_172 (dk_at dksX1_told_3 19 rfl rfl)
theorem dX1_told_110 : decode cX1_told 110 = .ok (.aload_n 0, 1) := dk_42 (dk_at dksX1_told_3 20 rfl rfl)
theorem dX1_told_111 : decode cX1_told 111 = .ok (.getfield 58, 3) := dk_180 0 58 (dk_at dksX1_told_3 21 rfl rfl)
theorem dX1_told_114 : decode cX1_told 114 = .ok (.invokevirtual 264, 3) := dk_182 1 8 (dk_at dksX1_told_4 0 rfl rfl)
theorem dX1_told_117 : decode cX1_told 117 = .ok (.ireturn, 1) := dk_172 (dk_at dksX1_told_4 3 rfl rfl)
theorem dX1_told_118 : decode cX1_told 118 = .ok (.aload_n 0, 1) := dk_42 (dk_at dksX1_told_4 4 rfl rfl)
theorem dX1_told_119 : decode cX1_told 119 = .ok (.getfield 58, 3) := dk_180 0 58 (dk_at dksX1_told_4 5 rfl rfl)
theorem dX1_told_122 : decode cX1_told 122 = .ok (.getfield 267, 3) := dk_180 1 11 (dk_at dksX1_told_4 8 rfl rfl)
theorem dX1_told_125 : decode cX1_told 125 = .ok (.ireturn, 1) := dk_172 (dk_at dksX1_told_4 11 rfl rfl)
theorem dX1_told_126 : decode cX1_told 126 = .ok (.aload_n 0, 1) := dk_42 (dk_at dksX1_told_4 12 rfl rfl)
theorem dX1_told_127 : decode cX1_told 127 = .ok (.getfield 110, 3) := dk_180 0 110 (dk_at dksX1_told_4 13 rfl rfl)
theorem dX1_told_130 : decode cX1_told 130 = .ok (.ireturn, 1) := dk_172 (dk_at dksX1_told_4 16 rfl rfl)
theorem dX1_told_131 : decode cX1_told 131 = .ok (.aload_n 0, 1) := dk_42 (dk_at dksX1_told_4 17 rfl rfl)
theorem dX1_told_132 : decode cX1_told 132 = .ok (.getfield 107, 3) := dk_180 0 107 (dk_at dksX1_told_4 18 rfl rfl)
theorem dX1_told_135 : decode cX1_told 135 = .ok (.ireturn, 1) := dk_172 (dk_at dksX1_told_4 21 rfl rfl)
theorem dX1_told_136 : decode cX1_told 136 = .ok (.aload_n 0, 1) := dk_42 (dk_at dksX1_told_4 22 rfl rfl)
theorem dX1_told_137 : decode cX1_told 137 = .ok (.getfield 58, 3) := dk_180 0 58 (dk_at dksX1_told_5 0 rfl rfl)
theorem dX1_told_140 : decode cX1_told 140 = .ok (.invokevirtual 270, 3) := dk_182 1 14 (dk_at dksX1_told_5 3 rfl rfl)
theorem dX1_told_143 : decode cX1_told 143 = .ok (.ireturn, 1) := dk_172 (dk_at dksX1_told_5 6 rfl rfl)
def dkwX1_isIn_0 : List UInt8 := [26, 27, 161, 0, 12, 26, 28, 163, 0, 7, 4, 167, 0, 4, 3, 172]
abbrev dktX1_isIn_0 : List UInt8 := dkwX1_isIn_0 ++ []
theorem dksX1_isIn_0 : cX1_isIn.data.toList.drop 0 = dktX1_isIn_0 := by decide +kernel
theorem dX1_isIn_0 : decode cX1_isIn 0 = .ok (.iload_n 0, 1) := dk_26 (dk_at dksX1_isIn_0 0 rfl rfl)
theorem dX1_isIn_1 : decode cX1_isIn 1 = .ok (.iload_n 1, 1) := dk_27 (dk_at dksX1_isIn_0 1 rfl rfl)
theorem dX1_isIn_2 : decode cX1_isIn 2 = .ok (.if_icmp .lt 12, 3) := dk_161 0 12 (dk_at dksX1_isIn_0 2 rfl rfl)
theorem dX1_isIn_5 : decode cX1_isIn 5 = .ok (.iload_n 0, 1) := dk_26 (dk_at dksX1_isIn_0 5 rfl rfl)
theorem dX1_isIn_6 : decode cX1_isIn 6 = .ok (.iload_n 2, 1) := dk_28 (dk_at dksX1_isIn_0 6 rfl rfl)
theorem dX1_isIn_7 : decode cX1_isIn 7 = .ok (.if_icmp .gt 7, 3) := dk_163 0 7 (dk_at dksX1_isIn_0 7 rfl rfl)
theorem dX1_isIn_10 : decode cX1_isIn 10 = .ok (.iconst 1, 1) := dk_4 (dk_at dksX1_isIn_0 10 rfl rfl)
theorem dX1_isIn_11 : decode cX1_isIn 11 = .ok (.goto 4, 3) := dk_167 0 4 (dk_at dksX1_isIn_0 11 rfl rfl)
theorem dX1_isIn_14 : decode cX1_isIn 14 = .ok (.iconst 0, 1) := dk_3 (dk_at dksX1_isIn_0 14 rfl rfl)
theorem dX1_isIn_15 : decode cX1_isIn 15 = .ok (.ireturn, 1) := dk_172 (dk_at dksX1_isIn_0 15 rfl rfl)
def dkwX1_sister_4 : List UInt8 := [180, 0, 31, 180, 1, 29, 27, 46, 172]
abbrev dktX1_sister_4 : List UInt8 := dkwX1_sister_4 ++ []
def dkwX1_sister_3 : List UInt8 := [27, 182, 1, 26, 172, 42, 180, 0, 31, 27, 182, 1, 26, 42, 180, 0, 58, 182, 1, 6, 126, 172, 42]
abbrev dktX1_sister_3 : List UInt8 := dkwX1_sister_3 ++ dktX1_sister_4
def dkwX1_sister_2 : List UInt8 := [42, 180, 0, 31, 180, 1, 20, 27, 46, 172, 42, 180, 0, 58, 180, 1, 23, 27, 46, 172, 42, 180, 0, 31]
abbrev dktX1_sister_2 : List UInt8 := dkwX1_sister_2 ++ dktX1_sister_3
def dkwX1_sister_1 : List UInt8 := [170, 0, 0, 0, 0, 0, 0, 78, 0, 0, 0, 0, 0, 0, 0, 3, 0, 0, 0, 32, 0, 0, 0, 42, 0, 0, 0, 52, 0, 0, 0, 61]
abbrev dktX1_sister_1 : List UInt8 := dkwX1_sister_1 ++ dktX1_sister_2
def dkwX1_sister_0 : List UInt8 := [42, 27, 182, 1, 17, 42, 28, 3, 7, 184, 0, 252, 182, 0, 183, 28]
abbrev dktX1_sister_0 : List UInt8 := dkwX1_sister_0 ++ dktX1_sister_1
theorem dksX1_sister_0 : cX1_sister.data.toList.drop 0 = dktX1_sister_0 := by decide +kernel
theorem dksX1_sister_1 : cX1_sister.data.toList.drop 16 = dktX1_sister_1 := dk_seg dksX1_sister_0 16 rfl rfl
theorem dksX1_sister_2 : cX1_sister.data.toList.drop 48 = dktX1_sister_2 := dk_seg dksX1_sister_1 32 rfl rfl
theorem dksX1_sister_3 : cX1_sister.data.toList.drop 72 = dktX1_sister_3 := dk_seg dksX1_sister_2 24 rfl rfl
theorem dksX1_sister_4 : cX1_sister.data.toList.drop 95 = dktX1_sister_4 := dk_seg dksX1_sister_3 23 rfl rfl
theorem dX1_sister_0 : decode cX1_sister 0 = .ok (.aload_n 0, 1) := dk_42 (dk_at dksX1_sister_0 0 rfl rfl)
theorem dX1_sister_1 : decode cX1_sister 1 = .ok (.iload_n 1, 1) := dk_27 (dk_at dksX1_sister_0 1 rfl rfl)
theorem dX1_sister_2 : decode cX1_sister 2 = .ok (.invokevirtual 273, 3) := dk_182 1 17 (dk_at dksX1_sister_0 2 rfl rfl)
theorem dX1_sister_5 : decode cX1_sister 5 = .ok (.aload_n 0, 1) := dk_42 (dk_at dksX1_sister_0 5 rfl rfl)
theorem dX1_sister_6 : decode cX1_sister 6 = .ok (.iload_n 2, 1) := dk_28 (dk_at dksX1_sister_0 6 rfl rfl)
theorem dX1_sister_7 : decode cX1_sister 7 = .ok (.iconst 0, 1) := dk_3 (dk_at dksX1_sister_0 7 rfl rfl)
theorem dX1_sister_8 : decode cX1_sister 8 = .ok (.iconst 4, 1) := dk_7 (dk_at dksX1_sister_0 8 rfl rfl)
theorem dX1_sister_9 : decode cX1_sister 9 = .ok (.invokestatic 252, 3) := dk_184 0 252 (dk_at dksX1_sister_0 9 rfl rfl)
theorem dX1_sister_12 : decode cX1_sister 12 = .ok (.invokevirtual 183, 3) := dk_182 0 183 (dk_at dksX1_sister_0 12 rfl rfl)
theorem dX1_sister_15 : decode cX1_sister 15 = .ok (.iload_n 2, 1) := dk_28 (dk_at dksX1_sister_0 15 rfl rfl)
theorem dX1_sister_16 : decode cX1_sister 16 = .ok (.tableswitch 78 0 3 #[32, 42, 52, 61], 32) := by decide +kernel
theorem dX1_sister_48 : decode cX1_sister 48 = .ok (.aload_n 0, 1) := dk_42 (dk_at dksX1_sister_2 0 rfl rfl)
theorem dX1_sister_49 : decode cX1_sister 49 = .ok (.getfield 31, 3) := dk_180 0 31 (dk_at dksX1_sister_2 1 rfl rfl)
theorem dX1_sister_52 : decode cX1_sister 52 = .ok (.getfield 276, 3) := dk_180 1 20 (dk_at dksX1_sister_2 4 rfl rfl)
theorem dX1_sister_55 : decode cX1_sister 55 = .ok (.iload_n 1, 1) := dk_27 (dk_at dksX1_sister_2 7 rfl rfl)
theorem dX1_sister_56 : decode cX1_sister 56 = .ok (.iaload, 1) := dk_46 (dk_at dksX1_sister_2 8 rfl rfl)
theorem dX1_sister_57 : decode cX1_sister 57 = .ok (.ireturn, 1) := dk_172 (dk_at dksX1_sister_2 9 rfl rfl)
theorem dX1_sister_58 : decode cX1_sister 58 = .ok (.aload_n 0, 1) := dk_42 (dk_at dksX1_sister_2 10 rfl rfl)
theorem dX1_sister_59 : decode cX1_sister 59 = .ok (.getfield 58, 3) := dk_180 0 58 (dk_at dksX1_sister_2 11 rfl rfl)
theorem dX1_sister_62 : decode cX1_sister 62 = .ok (.getfield 279, 3) := dk_180 1 23 (dk_at dksX1_sister_2 14 rfl rfl)
theorem dX1_sister_65 : decode cX1_sister 65 = .ok (.iload_n 1, 1) := dk_27 (dk_at dksX1_sister_2 17 rfl rfl)
theorem dX1_sister_66 : decode cX1_sister 66 = .ok (.iaload, 1) := dk_46 (dk_at dksX1_sister_2 18 rfl rfl)
theorem dX1_sister_67 : decode cX1_sister 67 = .ok (.ireturn, 1) := dk_172 (dk_at dksX1_sister_2 19 rfl rfl)
theorem dX1_sister_68 : decode cX1_sister 68 = .ok (.aload_n 0, 1) := dk_42 (dk_at dksX1_sister_2 20 rfl rfl)
theorem dX1_sister_69 : decode cX1_sister 69 = .ok (.getfield 31, 3) := dk_180 0 31 (dk_at dksX1_sister_2 21 rfl rfl)
theorem dX1_sister_72 : decode cX1_sister 72 = .ok (.iload_n 1, 1) := dk_27 (dk_at dksX1_sister_3 0 rfl rfl)
theorem dX1_sister_73 : decode cX1_sister 73 = .ok (.invokevirtual 282, 3) := dk_182 1 26 (dk_at dksX1_sister_3 1 rfl rfl)
theorem dX1_sister_76 : decode cX1_sister 76 = .ok (.ireturn, 1) := dk_172 (dk_at dksX1_sister_3 4 rfl rfl)
theorem dX1_sister_77 : decode cX1_sister 77 = .ok (.aload_n 0, 1) := dk_42 (dk_at dksX1_sister_3 5 rfl rfl)
theorem dX1_sister_78 : decode cX1_sister 78 = .ok (.getfield 31, 3) := dk_180 0 31 (dk_at dksX1_sister_3 6 rfl rfl)
theorem dX1_sister_81 : decode cX1_sister 81 = .ok (.iload_n 1, 1) := dk_27 (dk_at dksX1_sister_3 9 rfl rfl)
theorem dX1_sister_82 : decode cX1_sister 82 = .ok (.invokevirtual 282, 3) := dk_182 1 26 (dk_at dksX1_sister_3 10 rfl rfl)
theorem dX1_sister_85 : decode cX1_sister 85 = .ok (.aload_n 0, 1) := dk_42 (dk_at dksX1_sister_3 13 rfl rfl)
theorem dX1_sister_86 : decode cX1_sister 86 = .ok (.getfield 58, 3) := dk_180 0 58 (dk_at dksX1_sister_3 14 rfl rfl)
theorem dX1_sister_89 : decode cX1_sister 89 = .ok (.invokevirtual 262, 3) := dk_182 1 6 (dk_at dksX1_sister_3 17 rfl rfl)
theorem dX1_sister_92 : decode cX1_sister 92 = .ok (.iand, 1) := dk_126 (dk_at dksX1_sister_3 20 rfl rfl)
theorem dX1_sister_93 : decode cX1_sister 93 = .ok (.ireturn, 1) := dk_172 (dk_at dksX1_sister_3 21 rfl rfl)
theorem dX1_sister_94 : decode cX1_sister 94 = .ok (.aload_n 0, 1) := dk_42 (dk_at dksX1_sister_3 22 rfl rfl)
theorem dX1_sister_95 : decode cX1_sister 95 = .ok (.getfield 31, 3) := dk_180 0 31 (dk_at dksX1_sister_4 0 rfl rfl)
theorem dX1_sister_98 : decode cX1_sister 98 = .ok (.getfield 285, 3) := dk_180 1 29 (dk_at dksX1_sister_4 3 rfl rfl)
theorem dX1_sister_101 : decode cX1_sister 101 = .ok (.iload_n 1, 1) := dk_27 (dk_at dksX1_sister_4 6 rfl rfl)
theorem dX1_sister_102 : decode cX1_sister 102 = .ok (.iaload, 1) := dk_46 (dk_at dksX1_sister_4 7 rfl rfl)
theorem dX1_sister_103 : decode cX1_sister 103 = .ok (.ireturn, 1) := dk_172 (dk_at dksX1_sister_4 8 rfl rfl)
def dkwX1_needSister_0 : List UInt8 := [42, 27, 42, 180, 0, 31, 180, 0, 158, 182, 0, 161, 177]
abbrev dktX1_needSister_0 : List UInt8 := dkwX1_needSister_0 ++ []
theorem dksX1_needSister_0 : cX1_needSister.data.toList.drop 0 = dktX1_needSister_0 := by decide +kernel
theorem dX1_needSister_0 : decode cX1_needSister 0 = .ok (.aload_n 0, 1) := dk_42 (dk_at dksX1_needSister_0 0 rfl rfl)
theorem dX1_needSister_1 : decode cX1_needSister 1 = .ok (.iload_n 1, 1) := dk_27 (dk_at dksX1_needSister_0 1 rfl rfl)
theorem dX1_needSister_2 : decode cX1_needSister 2 = .ok (.aload_n 0, 1) := dk_42 (dk_at dksX1_needSister_0 2 rfl rfl)
theorem dX1_needSister_3 : decode cX1_needSister 3 = .ok (.getfield 31, 3) := dk_180 0 31 (dk_at dksX1_needSister_0 3 rfl rfl)
theorem dX1_needSister_6 : decode cX1_needSister 6 = .ok (.getfield 158, 3) := dk_180 0 158 (dk_at dksX1_needSister_0 6 rfl rfl)
theorem dX1_needSister_9 : decode cX1_needSister 9 = .ok (.invokevirtual 161, 3) := dk_182 0 161 (dk_at dksX1_needSister_0 9 rfl rfl)
theorem dX1_needSister_12 : decode cX1_needSister 12 = .ok (.return_, 1) := dk_177 (dk_at dksX1_needSister_0 12 rfl rfl)
def dkwX1_needThere_1 : List UInt8 := [183, 0, 157, 191]
abbrev dktX1_needThere_1 : List UInt8 := dkwX1_needThere_1 ++ []
def dkwX1_needThere_0 : List UInt8 := [27, 155, 0, 9, 27, 28, 162, 0, 4, 177, 42, 180, 0, 50, 3, 92, 46, 4, 96, 79, 187, 0, 155, 89]
abbrev dktX1_needThere_0 : List UInt8 := dkwX1_needThere_0 ++ dktX1_needThere_1
theorem dksX1_needThere_0 : cX1_needThere.data.toList.drop 0 = dktX1_needThere_0 := by decide +kernel
theorem dksX1_needThere_1 : cX1_needThere.data.toList.drop 24 = dktX1_needThere_1 := dk_seg dksX1_needThere_0 24 rfl rfl
theorem dX1_needThere_0 : decode cX1_needThere 0 = .ok (.iload_n 1, 1) := dk_27 (dk_at dksX1_needThere_0 0 rfl rfl)
theorem dX1_needThere_1 : decode cX1_needThere 1 = .ok (.ifCond .lt 9, 3) := dk_155 0 9 (dk_at dksX1_needThere_0 1 rfl rfl)
theorem dX1_needThere_4 : decode cX1_needThere 4 = .ok (.iload_n 1, 1) := dk_27 (dk_at dksX1_needThere_0 4 rfl rfl)
theorem dX1_needThere_5 : decode cX1_needThere 5 = .ok (.iload_n 2, 1) := dk_28 (dk_at dksX1_needThere_0 5 rfl rfl)
theorem dX1_needThere_6 : decode cX1_needThere 6 = .ok (.if_icmp .ge 4, 3) := dk_162 0 4 (dk_at dksX1_needThere_0 6 rfl rfl)
theorem dX1_needThere_9 : decode cX1_needThere 9 = .ok (.return_, 1) := dk_177 (dk_at dksX1_needThere_0 9 rfl rfl)
theorem dX1_needThere_10 : decode cX1_needThere 10 = .ok (.aload_n 0, 1) := dk_42 (dk_at dksX1_needThere_0 10 rfl rfl)
theorem dX1_needThere_11 : decode cX1_needThere 11 = .ok (.getfield 50, 3) := dk_180 0 50 (dk_at dksX1_needThere_0 11 rfl rfl)
theorem dX1_needThere_14 : decode cX1_needThere 14 = .ok (.iconst 0, 1) := dk_3 (dk_at dksX1_needThere_0 14 rfl rfl)
theorem dX1_needThere_15 : decode cX1_needThere 15 = .ok (.dup2, 1) := dk_92 (dk_at dksX1_needThere_0 15 rfl rfl)
theorem dX1_needThere_16 : decode cX1_needThere 16 = .ok (.iaload, 1) := dk_46 (dk_at dksX1_needThere_0 16 rfl rfl)
theorem dX1_needThere_17 : decode cX1_needThere 17 = .ok (.iconst 1, 1) := dk_4 (dk_at dksX1_needThere_0 17 rfl rfl)
theorem dX1_needThere_18 : decode cX1_needThere 18 = .ok (.iadd, 1) := dk_96 (dk_at dksX1_needThere_0 18 rfl rfl)
theorem dX1_needThere_19 : decode cX1_needThere 19 = .ok (.iastore, 1) := dk_79 (dk_at dksX1_needThere_0 19 rfl rfl)
theorem dX1_needThere_20 : decode cX1_needThere 20 = .ok (.new 155, 3) := dk_187 0 155 (dk_at dksX1_needThere_0 20 rfl rfl)
theorem dX1_needThere_23 : decode cX1_needThere 23 = .ok (.dup, 1) := dk_89 (dk_at dksX1_needThere_0 23 rfl rfl)
theorem dX1_needThere_24 : decode cX1_needThere 24 = .ok (.invokespecial 157, 3) := dk_183 0 157 (dk_at dksX1_needThere_1 0 rfl rfl)
theorem dX1_needThere_27 : decode cX1_needThere 27 = .ok (.athrow, 1) := dk_191 (dk_at dksX1_needThere_1 3 rfl rfl)
def dkwX1_relic_4 : List UInt8 := [27, 182, 1, 61, 172]
abbrev dktX1_relic_4 : List UInt8 := dkwX1_relic_4 ++ []
def dkwX1_relic_3 : List UInt8 := [180, 1, 52, 172, 42, 180, 0, 58, 180, 1, 55, 27, 46, 172, 42, 180, 0, 58, 27, 182, 1, 58, 172, 42]
abbrev dktX1_relic_3 : List UInt8 := dkwX1_relic_3 ++ dktX1_relic_4
def dkwX1_relic_2 : List UInt8 := [42, 27, 182, 1, 42, 180, 1, 46, 172, 42, 27, 182, 1, 42, 180, 1, 49, 172, 42, 27, 182, 1, 42]
abbrev dktX1_relic_2 : List UInt8 := dkwX1_relic_2 ++ dktX1_relic_3
def dkwX1_relic_1 : List UInt8 := [170, 0, 0, 0, 0, 0, 0, 82, 0, 0, 0, 0, 0, 0, 0, 4, 0, 0, 0, 36, 0, 0, 0, 45, 0, 0, 0, 54, 0, 0, 0, 63, 0, 0, 0, 73]
abbrev dktX1_relic_1 : List UInt8 := dkwX1_relic_1 ++ dktX1_relic_2
def dkwX1_relic_0 : List UInt8 := [42, 27, 182, 1, 39, 42, 28, 3, 8, 184, 0, 252, 182, 0, 183, 28]
abbrev dktX1_relic_0 : List UInt8 := dkwX1_relic_0 ++ dktX1_relic_1
theorem dksX1_relic_0 : cX1_relic.data.toList.drop 0 = dktX1_relic_0 := by decide +kernel
theorem dksX1_relic_1 : cX1_relic.data.toList.drop 16 = dktX1_relic_1 := dk_seg dksX1_relic_0 16 rfl rfl
theorem dksX1_relic_2 : cX1_relic.data.toList.drop 52 = dktX1_relic_2 := dk_seg dksX1_relic_1 36 rfl rfl
theorem dksX1_relic_3 : cX1_relic.data.toList.drop 75 = dktX1_relic_3 := dk_seg dksX1_relic_2 23 rfl rfl
theorem dksX1_relic_4 : cX1_relic.data.toList.drop 99 = dktX1_relic_4 := dk_seg dksX1_relic_3 24 rfl rfl
theorem dX1_relic_0 : decode cX1_relic 0 = .ok (.aload_n 0, 1) := dk_42 (dk_at dksX1_relic_0 0 rfl rfl)
theorem dX1_relic_1 : decode cX1_relic 1 = .ok (.iload_n 1, 1) := dk_27 (dk_at dksX1_relic_0 1 rfl rfl)
theorem dX1_relic_2 : decode cX1_relic 2 = .ok (.invokevirtual 295, 3) := dk_182 1 39 (dk_at dksX1_relic_0 2 rfl rfl)
theorem dX1_relic_5 : decode cX1_relic 5 = .ok (.aload_n 0, 1) := dk_42 (dk_at dksX1_relic_0 5 rfl rfl)
theorem dX1_relic_6 : decode cX1_relic 6 = .ok (.iload_n 2, 1) := dk_28 (dk_at dksX1_relic_0 6 rfl rfl)
theorem dX1_relic_7 : decode cX1_relic 7 = .ok (.iconst 0, 1) := dk_3 (dk_at dksX1_relic_0 7 rfl rfl)
theorem dX1_relic_8 : decode cX1_relic 8 = .ok (.iconst 5, 1) := dk_8 (dk_at dksX1_relic_0 8 rfl rfl)
theorem dX1_relic_9 : decode cX1_relic 9 = .ok (.invokestatic 252, 3) := dk_184 0 252 (dk_at dksX1_relic_0 9 rfl rfl)
theorem dX1_relic_12 : decode cX1_relic 12 = .ok (.invokevirtual 183, 3) := dk_182 0 183 (dk_at dksX1_relic_0 12 rfl rfl)
theorem dX1_relic_15 : decode cX1_relic 15 = .ok (.iload_n 2, 1) := dk_28 (dk_at dksX1_relic_0 15 rfl rfl)
theorem dX1_relic_16 : decode cX1_relic 16 = .ok (.tableswitch 82 0 4 #[36, 45, 54, 63, 73], 36) := by decide +kernel
theorem dX1_relic_52 : decode cX1_relic 52 = .ok (.aload_n 0, 1) := dk_42 (dk_at dksX1_relic_2 0 rfl rfl)
theorem dX1_relic_53 : decode cX1_relic 53 = .ok (.iload_n 1, 1) := dk_27 (dk_at dksX1_relic_2 1 rfl rfl)
theorem dX1_relic_54 : decode cX1_relic 54 = .ok (.invokevirtual 298, 3) := dk_182 1 42 (dk_at dksX1_relic_2 2 rfl rfl)
theorem dX1_relic_57 : decode cX1_relic 57 = .ok (.getfield 302, 3) := dk_180 1 46 (dk_at dksX1_relic_2 5 rfl rfl)
theorem dX1_relic_60 : decode cX1_relic 60 = .ok (.ireturn, 1) := dk_172 (dk_at dksX1_relic_2 8 rfl rfl)
theorem dX1_relic_61 : decode cX1_relic 61 = .ok (.aload_n 0, 1) := dk_42 (dk_at dksX1_relic_2 9 rfl rfl)
theorem dX1_relic_62 : decode cX1_relic 62 = .ok (.iload_n 1, 1) := dk_27 (dk_at dksX1_relic_2 10 rfl rfl)
theorem dX1_relic_63 : decode cX1_relic 63 = .ok (.invokevirtual 298, 3) := dk_182 1 42 (dk_at dksX1_relic_2 11 rfl rfl)
theorem dX1_relic_66 : decode cX1_relic 66 = .ok (.getfield 305, 3) := dk_180 1 49 (dk_at dksX1_relic_2 14 rfl rfl)
theorem dX1_relic_69 : decode cX1_relic 69 = .ok (.ireturn, 1) := dk_172 (dk_at dksX1_relic_2 17 rfl rfl)
theorem dX1_relic_70 : decode cX1_relic 70 = .ok (.aload_n 0, 1) := dk_42 (dk_at dksX1_relic_2 18 rfl rfl)
theorem dX1_relic_71 : decode cX1_relic 71 = .ok (.iload_n 1, 1) := dk_27 (dk_at dksX1_relic_2 19 rfl rfl)
theorem dX1_relic_72 : decode cX1_relic 72 = .ok (.invokevirtual 298, 3) := dk_182 1 42 (dk_at dksX1_relic_2 20 rfl rfl)
theorem dX1_relic_75 : decode cX1_relic 75 = .ok (.getfield 308, 3) := dk_180 1 52 (dk_at dksX1_relic_3 0 rfl rfl)
theorem dX1_relic_78 : decode cX1_relic 78 = .ok (.ireturn, 1) := dk_172 (dk_at dksX1_relic_3 3 rfl rfl)
theorem dX1_relic_79 : decode cX1_relic 79 = .ok (.aload_n 0, 1) := dk_42 (dk_at dksX1_relic_3 4 rfl rfl)
theorem dX1_relic_80 : decode cX1_relic 80 = .ok (.getfield 58, 3) := dk_180 0 58 (dk_at dksX1_relic_3 5 rfl rfl)
theorem dX1_relic_83 : decode cX1_relic 83 = .ok (.getfield 311, 3) := dk_180 1 55 (dk_at dksX1_relic_3 8 rfl rfl)
theorem dX1_relic_86 : decode cX1_relic 86 = .ok (.iload_n 1, 1) := dk_27 (dk_at dksX1_relic_3 11 rfl rfl)
theorem dX1_relic_87 : decode cX1_relic 87 = .ok (.iaload, 1) := dk_46 (dk_at dksX1_relic_3 12 rfl rfl)
theorem dX1_relic_88 : decode cX1_relic 88 = .ok (.ireturn, 1) := dk_172 (dk_at dksX1_relic_3 13 rfl rfl)
theorem dX1_relic_89 : decode cX1_relic 89 = .ok (.aload_n 0, 1) := dk_42 (dk_at dksX1_relic_3 14 rfl rfl)
theorem dX1_relic_90 : decode cX1_relic 90 = .ok (.getfield 58, 3) := dk_180 0 58 (dk_at dksX1_relic_3 15 rfl rfl)
theorem dX1_relic_93 : decode cX1_relic 93 = .ok (.iload_n 1, 1) := dk_27 (dk_at dksX1_relic_3 18 rfl rfl)
theorem dX1_relic_94 : decode cX1_relic 94 = .ok (.invokevirtual 314, 3) := dk_182 1 58 (dk_at dksX1_relic_3 19 rfl rfl)
theorem dX1_relic_97 : decode cX1_relic 97 = .ok (.ireturn, 1) := dk_172 (dk_at dksX1_relic_3 22 rfl rfl)
theorem dX1_relic_98 : decode cX1_relic 98 = .ok (.aload_n 0, 1) := dk_42 (dk_at dksX1_relic_3 23 rfl rfl)
theorem dX1_relic_99 : decode cX1_relic 99 = .ok (.iload_n 1, 1) := dk_27 (dk_at dksX1_relic_4 0 rfl rfl)
theorem dX1_relic_100 : decode cX1_relic 100 = .ok (.invokevirtual 317, 3) := dk_182 1 61 (dk_at dksX1_relic_4 1 rfl rfl)
theorem dX1_relic_103 : decode cX1_relic 103 = .ok (.ireturn, 1) := dk_172 (dk_at dksX1_relic_4 4 rfl rfl)
def dkwX1_needRelic_0 : List UInt8 := [42, 27, 42, 182, 0, 165, 182, 0, 161, 177]
abbrev dktX1_needRelic_0 : List UInt8 := dkwX1_needRelic_0 ++ []
theorem dksX1_needRelic_0 : cX1_needRelic.data.toList.drop 0 = dktX1_needRelic_0 := by decide +kernel
theorem dX1_needRelic_0 : decode cX1_needRelic 0 = .ok (.aload_n 0, 1) := dk_42 (dk_at dksX1_needRelic_0 0 rfl rfl)
theorem dX1_needRelic_1 : decode cX1_needRelic 1 = .ok (.iload_n 1, 1) := dk_27 (dk_at dksX1_needRelic_0 1 rfl rfl)
theorem dX1_needRelic_2 : decode cX1_needRelic 2 = .ok (.aload_n 0, 1) := dk_42 (dk_at dksX1_needRelic_0 2 rfl rfl)
theorem dX1_needRelic_3 : decode cX1_needRelic 3 = .ok (.invokevirtual 165, 3) := dk_182 0 165 (dk_at dksX1_needRelic_0 3 rfl rfl)
theorem dX1_needRelic_6 : decode cX1_needRelic 6 = .ok (.invokevirtual 161, 3) := dk_182 0 161 (dk_at dksX1_needRelic_0 6 rfl rfl)
theorem dX1_needRelic_9 : decode cX1_needRelic 9 = .ok (.return_, 1) := dk_177 (dk_at dksX1_needRelic_0 9 rfl rfl)
def dkwX1_curable_2 : List UInt8 := [132, 3, 1, 167, 255, 210, 28, 172]
abbrev dktX1_curable_2 : List UInt8 := dkwX1_curable_2 ++ []
def dkwX1_curable_1 : List UInt8 := [160, 0, 21, 42, 180, 0, 58, 27, 29, 182, 1, 35, 153, 0, 9, 4, 29, 120, 167, 0, 4, 3, 128, 61]
abbrev dktX1_curable_1 : List UInt8 := dkwX1_curable_1 ++ dktX1_curable_2
def dkwX1_curable_0 : List UInt8 := [3, 61, 3, 62, 29, 42, 182, 0, 167, 162, 0, 44, 28, 42, 180, 0, 58, 180, 1, 32, 29, 46, 2]
abbrev dktX1_curable_0 : List UInt8 := dkwX1_curable_0 ++ dktX1_curable_1
theorem dksX1_curable_0 : cX1_curable.data.toList.drop 0 = dktX1_curable_0 := by decide +kernel
theorem dksX1_curable_1 : cX1_curable.data.toList.drop 23 = dktX1_curable_1 := dk_seg dksX1_curable_0 23 rfl rfl
theorem dksX1_curable_2 : cX1_curable.data.toList.drop 47 = dktX1_curable_2 := dk_seg dksX1_curable_1 24 rfl rfl
theorem dX1_curable_0 : decode cX1_curable 0 = .ok (.iconst 0, 1) := dk_3 (dk_at dksX1_curable_0 0 rfl rfl)
theorem dX1_curable_1 : decode cX1_curable 1 = .ok (.istore_n 2, 1) := dk_61 (dk_at dksX1_curable_0 1 rfl rfl)
theorem dX1_curable_2 : decode cX1_curable 2 = .ok (.iconst 0, 1) := dk_3 (dk_at dksX1_curable_0 2 rfl rfl)
theorem dX1_curable_3 : decode cX1_curable 3 = .ok (.istore_n 3, 1) := dk_62 (dk_at dksX1_curable_0 3 rfl rfl)
theorem dX1_curable_4 : decode cX1_curable 4 = .ok (.iload_n 3, 1) := dk_29 (dk_at dksX1_curable_0 4 rfl rfl)
theorem dX1_curable_5 : decode cX1_curable 5 = .ok (.aload_n 0, 1) := dk_42 (dk_at dksX1_curable_0 5 rfl rfl)
theorem dX1_curable_6 : decode cX1_curable 6 = .ok (.invokevirtual 167, 3) := dk_182 0 167 (dk_at dksX1_curable_0 6 rfl rfl)
theorem dX1_curable_9 : decode cX1_curable 9 = .ok (.if_icmp .ge 44, 3) := dk_162 0 44 (dk_at dksX1_curable_0 9 rfl rfl)
theorem dX1_curable_12 : decode cX1_curable 12 = .ok (.iload_n 2, 1) := dk_28 (dk_at dksX1_curable_0 12 rfl rfl)
theorem dX1_curable_13 : decode cX1_curable 13 = .ok (.aload_n 0, 1) := dk_42 (dk_at dksX1_curable_0 13 rfl rfl)
theorem dX1_curable_14 : decode cX1_curable 14 = .ok (.getfield 58, 3) := dk_180 0 58 (dk_at dksX1_curable_0 14 rfl rfl)
theorem dX1_curable_17 : decode cX1_curable 17 = .ok (.getfield 288, 3) := dk_180 1 32 (dk_at dksX1_curable_0 17 rfl rfl)
theorem dX1_curable_20 : decode cX1_curable 20 = .ok (.iload_n 3, 1) := dk_29 (dk_at dksX1_curable_0 20 rfl rfl)
theorem dX1_curable_21 : decode cX1_curable 21 = .ok (.iaload, 1) := dk_46 (dk_at dksX1_curable_0 21 rfl rfl)
theorem dX1_curable_22 : decode cX1_curable 22 = .ok (.iconst (-1), 1) := dk_2 (dk_at dksX1_curable_0 22 rfl rfl)
theorem dX1_curable_23 : decode cX1_curable 23 = .ok (.if_icmp .ne 21, 3) := dk_160 0 21 (dk_at dksX1_curable_1 0 rfl rfl)
theorem dX1_curable_26 : decode cX1_curable 26 = .ok (.aload_n 0, 1) := dk_42 (dk_at dksX1_curable_1 3 rfl rfl)
theorem dX1_curable_27 : decode cX1_curable 27 = .ok (.getfield 58, 3) := dk_180 0 58 (dk_at dksX1_curable_1 4 rfl rfl)
theorem dX1_curable_30 : decode cX1_curable 30 = .ok (.iload_n 1, 1) := dk_27 (dk_at dksX1_curable_1 7 rfl rfl)
theorem dX1_curable_31 : decode cX1_curable 31 = .ok (.iload_n 3, 1) := dk_29 (dk_at dksX1_curable_1 8 rfl rfl)
theorem dX1_curable_32 : decode cX1_curable 32 = .ok (.invokevirtual 291, 3) := dk_182 1 35 (dk_at dksX1_curable_1 9 rfl rfl)
theorem dX1_curable_35 : decode cX1_curable 35 = .ok (.ifCond .eq 9, 3) := dk_153 0 9 (dk_at dksX1_curable_1 12 rfl rfl)
theorem dX1_curable_38 : decode cX1_curable 38 = .ok (.iconst 1, 1) := dk_4 (dk_at dksX1_curable_1 15 rfl rfl)
theorem dX1_curable_39 : decode cX1_curable 39 = .ok (.iload_n 3, 1) := dk_29 (dk_at dksX1_curable_1 16 rfl rfl)
theorem dX1_curable_40 : decode cX1_curable 40 = .ok (.ishl, 1) := dk_120 (dk_at dksX1_curable_1 17 rfl rfl)
theorem dX1_curable_41 : decode cX1_curable 41 = .ok (.goto 4, 3) := dk_167 0 4 (dk_at dksX1_curable_1 18 rfl rfl)
theorem dX1_curable_44 : decode cX1_curable 44 = .ok (.iconst 0, 1) := dk_3 (dk_at dksX1_curable_1 21 rfl rfl)
theorem dX1_curable_45 : decode cX1_curable 45 = .ok (.ior, 1) := dk_128 (dk_at dksX1_curable_1 22 rfl rfl)
theorem dX1_curable_46 : decode cX1_curable 46 = .ok (.istore_n 2, 1) := dk_61 (dk_at dksX1_curable_1 23 rfl rfl)
theorem dX1_curable_47 : decode cX1_curable 47 = .ok (.iinc 3 1, 3) := dk_132 3 1 (dk_at dksX1_curable_2 0 rfl rfl)
theorem dX1_curable_50 : decode cX1_curable 50 = .ok (.goto (-46), 3) := dk_167 255 210 (dk_at dksX1_curable_2 3 rfl rfl)
theorem dX1_curable_53 : decode cX1_curable 53 = .ok (.iload_n 2, 1) := dk_28 (dk_at dksX1_curable_2 6 rfl rfl)
theorem dX1_curable_54 : decode cX1_curable 54 = .ok (.ireturn, 1) := dk_172 (dk_at dksX1_curable_2 7 rfl rfl)
def dkwX1_pilgrim_3 : List UInt8 := [180, 1, 32, 27, 46, 172, 42, 180, 0, 58, 42, 182, 0, 165, 27, 184, 1, 74, 172]
abbrev dktX1_pilgrim_3 : List UInt8 := dkwX1_pilgrim_3 ++ []
def dkwX1_pilgrim_2 : List UInt8 := [42, 27, 182, 1, 67, 180, 1, 71, 172, 42, 27, 182, 1, 67, 180, 1, 72, 172, 42, 180, 0, 58]
abbrev dktX1_pilgrim_2 : List UInt8 := dkwX1_pilgrim_2 ++ dktX1_pilgrim_3
def dkwX1_pilgrim_1 : List UInt8 := [170, 0, 0, 0, 0, 0, 0, 56, 0, 0, 0, 0, 0, 0, 0, 2, 0, 0, 0, 28, 0, 0, 0, 37, 0, 0, 0, 46]
abbrev dktX1_pilgrim_1 : List UInt8 := dkwX1_pilgrim_1 ++ dktX1_pilgrim_2
def dkwX1_pilgrim_0 : List UInt8 := [42, 27, 182, 1, 64, 42, 28, 3, 6, 184, 0, 252, 182, 0, 183, 28]
abbrev dktX1_pilgrim_0 : List UInt8 := dkwX1_pilgrim_0 ++ dktX1_pilgrim_1
theorem dksX1_pilgrim_0 : cX1_pilgrim.data.toList.drop 0 = dktX1_pilgrim_0 := by decide +kernel
theorem dksX1_pilgrim_1 : cX1_pilgrim.data.toList.drop 16 = dktX1_pilgrim_1 := dk_seg dksX1_pilgrim_0 16 rfl rfl
theorem dksX1_pilgrim_2 : cX1_pilgrim.data.toList.drop 44 = dktX1_pilgrim_2 := dk_seg dksX1_pilgrim_1 28 rfl rfl
theorem dksX1_pilgrim_3 : cX1_pilgrim.data.toList.drop 66 = dktX1_pilgrim_3 := dk_seg dksX1_pilgrim_2 22 rfl rfl
theorem dX1_pilgrim_0 : decode cX1_pilgrim 0 = .ok (.aload_n 0, 1) := dk_42 (dk_at dksX1_pilgrim_0 0 rfl rfl)
theorem dX1_pilgrim_1 : decode cX1_pilgrim 1 = .ok (.iload_n 1, 1) := dk_27 (dk_at dksX1_pilgrim_0 1 rfl rfl)
theorem dX1_pilgrim_2 : decode cX1_pilgrim 2 = .ok (.invokevirtual 320, 3) := dk_182 1 64 (dk_at dksX1_pilgrim_0 2 rfl rfl)
theorem dX1_pilgrim_5 : decode cX1_pilgrim 5 = .ok (.aload_n 0, 1) := dk_42 (dk_at dksX1_pilgrim_0 5 rfl rfl)
theorem dX1_pilgrim_6 : decode cX1_pilgrim 6 = .ok (.iload_n 2, 1) := dk_28 (dk_at dksX1_pilgrim_0 6 rfl rfl)
theorem dX1_pilgrim_7 : decode cX1_pilgrim 7 = .ok (.iconst 0, 1) := dk_3 (dk_at dksX1_pilgrim_0 7 rfl rfl)
theorem dX1_pilgrim_8 : decode cX1_pilgrim 8 = .ok (.iconst 3, 1) := dk_6 (dk_at dksX1_pilgrim_0 8 rfl rfl)
theorem dX1_pilgrim_9 : decode cX1_pilgrim 9 = .ok (.invokestatic 252, 3) := dk_184 0 252 (dk_at dksX1_pilgrim_0 9 rfl rfl)
theorem dX1_pilgrim_12 : decode cX1_pilgrim 12 = .ok (.invokevirtual 183, 3) := dk_182 0 183 (dk_at dksX1_pilgrim_0 12 rfl rfl)
theorem dX1_pilgrim_15 : decode cX1_pilgrim 15 = .ok (.iload_n 2, 1) := dk_28 (dk_at dksX1_pilgrim_0 15 rfl rfl)
theorem dX1_pilgrim_16 : decode cX1_pilgrim 16 = .ok (.tableswitch 56 0 2 #[28, 37, 46], 28) := by decide +kernel
theorem dX1_pilgrim_44 : decode cX1_pilgrim 44 = .ok (.aload_n 0, 1) := dk_42 (dk_at dksX1_pilgrim_2 0 rfl rfl)
theorem dX1_pilgrim_45 : decode cX1_pilgrim 45 = .ok (.iload_n 1, 1) := dk_27 (dk_at dksX1_pilgrim_2 1 rfl rfl)
theorem dX1_pilgrim_46 : decode cX1_pilgrim 46 = .ok (.invokevirtual 323, 3) := dk_182 1 67 (dk_at dksX1_pilgrim_2 2 rfl rfl)
theorem dX1_pilgrim_49 : decode cX1_pilgrim 49 = .ok (.getfield 327, 3) := dk_180 1 71 (dk_at dksX1_pilgrim_2 5 rfl rfl)
theorem dX1_pilgrim_52 : decode cX1_pilgrim 52 = .ok (.ireturn, 1) := dk_172 (dk_at dksX1_pilgrim_2 8 rfl rfl)
theorem dX1_pilgrim_53 : decode cX1_pilgrim 53 = .ok (.aload_n 0, 1) := dk_42 (dk_at dksX1_pilgrim_2 9 rfl rfl)
theorem dX1_pilgrim_54 : decode cX1_pilgrim 54 = .ok (.iload_n 1, 1) := dk_27 (dk_at dksX1_pilgrim_2 10 rfl rfl)
theorem dX1_pilgrim_55 : decode cX1_pilgrim 55 = .ok (.invokevirtual 323, 3) := dk_182 1 67 (dk_at dksX1_pilgrim_2 11 rfl rfl)
theorem dX1_pilgrim_58 : decode cX1_pilgrim 58 = .ok (.getfield 328, 3) := dk_180 1 72 (dk_at dksX1_pilgrim_2 14 rfl rfl)
theorem dX1_pilgrim_61 : decode cX1_pilgrim 61 = .ok (.ireturn, 1) := dk_172 (dk_at dksX1_pilgrim_2 17 rfl rfl)
theorem dX1_pilgrim_62 : decode cX1_pilgrim 62 = .ok (.aload_n 0, 1) := dk_42 (dk_at dksX1_pilgrim_2 18 rfl rfl)
theorem dX1_pilgrim_63 : decode cX1_pilgrim 63 = .ok (.getfield 58, 3) := dk_180 0 58 (dk_at dksX1_pilgrim_2 19 rfl rfl)
theorem dX1_pilgrim_66 : decode cX1_pilgrim 66 = .ok (.getfield 288, 3) := dk_180 1 32 (dk_at dksX1_pilgrim_3 0 rfl rfl)
theorem dX1_pilgrim_69 : decode cX1_pilgrim 69 = .ok (.iload_n 1, 1) := dk_27 (dk_at dksX1_pilgrim_3 3 rfl rfl)
theorem dX1_pilgrim_70 : decode cX1_pilgrim 70 = .ok (.iaload, 1) := dk_46 (dk_at dksX1_pilgrim_3 4 rfl rfl)
theorem dX1_pilgrim_71 : decode cX1_pilgrim 71 = .ok (.ireturn, 1) := dk_172 (dk_at dksX1_pilgrim_3 5 rfl rfl)
theorem dX1_pilgrim_72 : decode cX1_pilgrim 72 = .ok (.aload_n 0, 1) := dk_42 (dk_at dksX1_pilgrim_3 6 rfl rfl)
theorem dX1_pilgrim_73 : decode cX1_pilgrim 73 = .ok (.getfield 58, 3) := dk_180 0 58 (dk_at dksX1_pilgrim_3 7 rfl rfl)
theorem dX1_pilgrim_76 : decode cX1_pilgrim 76 = .ok (.aload_n 0, 1) := dk_42 (dk_at dksX1_pilgrim_3 10 rfl rfl)
theorem dX1_pilgrim_77 : decode cX1_pilgrim 77 = .ok (.invokevirtual 165, 3) := dk_182 0 165 (dk_at dksX1_pilgrim_3 11 rfl rfl)
theorem dX1_pilgrim_80 : decode cX1_pilgrim 80 = .ok (.iload_n 1, 1) := dk_27 (dk_at dksX1_pilgrim_3 14 rfl rfl)
theorem dX1_pilgrim_81 : decode cX1_pilgrim 81 = .ok (.invokestatic 330, 3) := dk_184 1 74 (dk_at dksX1_pilgrim_3 15 rfl rfl)
theorem dX1_pilgrim_84 : decode cX1_pilgrim 84 = .ok (.ireturn, 1) := dk_172 (dk_at dksX1_pilgrim_3 18 rfl rfl)
def dkwX1_needPilgrim_0 : List UInt8 := [42, 27, 42, 182, 0, 167, 182, 0, 161, 177]
abbrev dktX1_needPilgrim_0 : List UInt8 := dkwX1_needPilgrim_0 ++ []
theorem dksX1_needPilgrim_0 : cX1_needPilgrim.data.toList.drop 0 = dktX1_needPilgrim_0 := by decide +kernel
theorem dX1_needPilgrim_0 : decode cX1_needPilgrim 0 = .ok (.aload_n 0, 1) := dk_42 (dk_at dksX1_needPilgrim_0 0 rfl rfl)
theorem dX1_needPilgrim_1 : decode cX1_needPilgrim 1 = .ok (.iload_n 1, 1) := dk_27 (dk_at dksX1_needPilgrim_0 1 rfl rfl)
theorem dX1_needPilgrim_2 : decode cX1_needPilgrim 2 = .ok (.aload_n 0, 1) := dk_42 (dk_at dksX1_needPilgrim_0 2 rfl rfl)
theorem dX1_needPilgrim_3 : decode cX1_needPilgrim 3 = .ok (.invokevirtual 167, 3) := dk_182 0 167 (dk_at dksX1_needPilgrim_0 3 rfl rfl)
theorem dX1_needPilgrim_6 : decode cX1_needPilgrim 6 = .ok (.invokevirtual 161, 3) := dk_182 0 161 (dk_at dksX1_needPilgrim_0 6 rfl rfl)
theorem dX1_needPilgrim_9 : decode cX1_needPilgrim 9 = .ok (.return_, 1) := dk_177 (dk_at dksX1_needPilgrim_0 9 rfl rfl)
def dkwX1_able_1 : List UInt8 := [21, 4, 120, 167, 0, 4, 3, 128, 62, 132, 4, 1, 167, 255, 226, 29, 172]
abbrev dktX1_able_1 : List UInt8 := dkwX1_able_1 ++ []
def dkwX1_able_0 : List UInt8 := [3, 62, 3, 54, 4, 21, 4, 27, 162, 0, 30, 29, 42, 21, 4, 28, 182, 1, 35, 153, 0, 10, 4]
abbrev dktX1_able_0 : List UInt8 := dkwX1_able_0 ++ dktX1_able_1
theorem dksX1_able_0 : cX1_able.data.toList.drop 0 = dktX1_able_0 := by decide +kernel
theorem dksX1_able_1 : cX1_able.data.toList.drop 23 = dktX1_able_1 := dk_seg dksX1_able_0 23 rfl rfl
theorem dX1_able_0 : decode cX1_able 0 = .ok (.iconst 0, 1) := dk_3 (dk_at dksX1_able_0 0 rfl rfl)
theorem dX1_able_1 : decode cX1_able 1 = .ok (.istore_n 3, 1) := dk_62 (dk_at dksX1_able_0 1 rfl rfl)
theorem dX1_able_2 : decode cX1_able 2 = .ok (.iconst 0, 1) := dk_3 (dk_at dksX1_able_0 2 rfl rfl)
theorem dX1_able_3 : decode cX1_able 3 = .ok (.istore 4, 2) := dk_54 4 (dk_at dksX1_able_0 3 rfl rfl)
theorem dX1_able_5 : decode cX1_able 5 = .ok (.iload 4, 2) := dk_21 4 (dk_at dksX1_able_0 5 rfl rfl)
theorem dX1_able_7 : decode cX1_able 7 = .ok (.iload_n 1, 1) := dk_27 (dk_at dksX1_able_0 7 rfl rfl)
theorem dX1_able_8 : decode cX1_able 8 = .ok (.if_icmp .ge 30, 3) := dk_162 0 30 (dk_at dksX1_able_0 8 rfl rfl)
theorem dX1_able_11 : decode cX1_able 11 = .ok (.iload_n 3, 1) := dk_29 (dk_at dksX1_able_0 11 rfl rfl)
theorem dX1_able_12 : decode cX1_able 12 = .ok (.aload_n 0, 1) := dk_42 (dk_at dksX1_able_0 12 rfl rfl)
theorem dX1_able_13 : decode cX1_able 13 = .ok (.iload 4, 2) := dk_21 4 (dk_at dksX1_able_0 13 rfl rfl)
theorem dX1_able_15 : decode cX1_able 15 = .ok (.iload_n 2, 1) := dk_28 (dk_at dksX1_able_0 15 rfl rfl)
theorem dX1_able_16 : decode cX1_able 16 = .ok (.invokevirtual 291, 3) := dk_182 1 35 (dk_at dksX1_able_0 16 rfl rfl)
theorem dX1_able_19 : decode cX1_able 19 = .ok (.ifCond .eq 10, 3) := dk_153 0 10 (dk_at dksX1_able_0 19 rfl rfl)
theorem dX1_able_22 : decode cX1_able 22 = .ok (.iconst 1, 1) := dk_4 (dk_at dksX1_able_0 22 rfl rfl)
theorem dX1_able_23 : decode cX1_able 23 = .ok (.iload 4, 2) := dk_21 4 (dk_at dksX1_able_1 0 rfl rfl)
theorem dX1_able_25 : decode cX1_able 25 = .ok (.ishl, 1) := dk_120 (dk_at dksX1_able_1 2 rfl rfl)
theorem dX1_able_26 : decode cX1_able 26 = .ok (.goto 4, 3) := dk_167 0 4 (dk_at dksX1_able_1 3 rfl rfl)
theorem dX1_able_29 : decode cX1_able 29 = .ok (.iconst 0, 1) := dk_3 (dk_at dksX1_able_1 6 rfl rfl)
theorem dX1_able_30 : decode cX1_able 30 = .ok (.ior, 1) := dk_128 (dk_at dksX1_able_1 7 rfl rfl)
theorem dX1_able_31 : decode cX1_able 31 = .ok (.istore_n 3, 1) := dk_62 (dk_at dksX1_able_1 8 rfl rfl)
theorem dX1_able_32 : decode cX1_able 32 = .ok (.iinc 4 1, 3) := dk_132 4 1 (dk_at dksX1_able_1 9 rfl rfl)
theorem dX1_able_35 : decode cX1_able 35 = .ok (.goto (-30), 3) := dk_167 255 226 (dk_at dksX1_able_1 12 rfl rfl)
theorem dX1_able_38 : decode cX1_able 38 = .ok (.iload_n 3, 1) := dk_29 (dk_at dksX1_able_1 15 rfl rfl)
theorem dX1_able_39 : decode cX1_able 39 = .ok (.ireturn, 1) := dk_172 (dk_at dksX1_able_1 16 rfl rfl)
def dkwX1_would_4 : List UInt8 := [182, 0, 183, 42, 27, 28, 29, 21, 4, 21, 5, 21, 6, 21, 7, 21, 8, 182, 1, 78, 172]
abbrev dktX1_would_4 : List UInt8 := dkwX1_would_4 ++ []
def dkwX1_would_3 : List UInt8 := [184, 0, 252, 153, 0, 19, 21, 8, 3, 17, 1, 244, 184, 0, 252, 153, 0, 7, 4, 167, 0, 4, 3]
abbrev dktX1_would_3 : List UInt8 := dkwX1_would_3 ++ dktX1_would_4
def dkwX1_would_2 : List UInt8 := [184, 0, 252, 153, 0, 41, 21, 6, 3, 16, 9, 184, 0, 252, 153, 0, 30, 21, 7, 3, 16, 7]
abbrev dktX1_would_2 : List UInt8 := dkwX1_would_2 ++ dktX1_would_3
def dkwX1_would_1 : List UInt8 := [17, 3, 231, 184, 0, 252, 153, 0, 62, 21, 4, 3, 16, 15, 184, 0, 252, 153, 0, 51, 21, 5, 3, 8]
abbrev dktX1_would_1 : List UInt8 := dkwX1_would_1 ++ dktX1_would_2
def dkwX1_would_0 : List UInt8 := [42, 27, 4, 16, 30, 184, 0, 252, 153, 0, 84, 28, 3, 17, 3, 231, 184, 0, 252, 153, 0, 73, 29, 3]
abbrev dktX1_would_0 : List UInt8 := dkwX1_would_0 ++ dktX1_would_1
theorem dksX1_would_0 : cX1_would.data.toList.drop 0 = dktX1_would_0 := by decide +kernel
theorem dksX1_would_1 : cX1_would.data.toList.drop 24 = dktX1_would_1 := dk_seg dksX1_would_0 24 rfl rfl
theorem dksX1_would_2 : cX1_would.data.toList.drop 48 = dktX1_would_2 := dk_seg dksX1_would_1 24 rfl rfl
theorem dksX1_would_3 : cX1_would.data.toList.drop 70 = dktX1_would_3 := dk_seg dksX1_would_2 22 rfl rfl
theorem dksX1_would_4 : cX1_would.data.toList.drop 93 = dktX1_would_4 := dk_seg dksX1_would_3 23 rfl rfl
theorem dX1_would_0 : decode cX1_would 0 = .ok (.aload_n 0, 1) := dk_42 (dk_at dksX1_would_0 0 rfl rfl)
theorem dX1_would_1 : decode cX1_would 1 = .ok (.iload_n 1, 1) := dk_27 (dk_at dksX1_would_0 1 rfl rfl)
theorem dX1_would_2 : decode cX1_would 2 = .ok (.iconst 1, 1) := dk_4 (dk_at dksX1_would_0 2 rfl rfl)
theorem dX1_would_3 : decode cX1_would 3 = .ok (.bipush 30, 2) := dk_16 30 (dk_at dksX1_would_0 3 rfl rfl)
theorem dX1_would_5 : decode cX1_would 5 = .ok (.invokestatic 252, 3) := dk_184 0 252 (dk_at dksX1_would_0 5 rfl rfl)
theorem dX1_would_8 : decode cX1_would 8 = .ok (.ifCond .eq 84, 3) := dk_153 0 84 (dk_at dksX1_would_0 8 rfl rfl)
theorem dX1_would_11 : decode cX1_would 11 = .ok (.iload_n 2, 1) := dk_28 (dk_at dksX1_would_0 11 rfl rfl)
theorem dX1_would_12 : decode cX1_would 12 = .ok (.iconst 0, 1) := dk_3 (dk_at dksX1_would_0 12 rfl rfl)
theorem dX1_would_13 : decode cX1_would 13 = .ok (.sipush 999, 3) := dk_17 3 231 (dk_at dksX1_would_0 13 rfl rfl)
theorem dX1_would_16 : decode cX1_would 16 = .ok (.invokestatic 252, 3) := dk_184 0 252 (dk_at dksX1_would_0 16 rfl rfl)
theorem dX1_would_19 : decode cX1_would 19 = .ok (.ifCond .eq 73, 3) := dk_153 0 73 (dk_at dksX1_would_0 19 rfl rfl)
theorem dX1_would_22 : decode cX1_would 22 = .ok (.iload_n 3, 1) := dk_29 (dk_at dksX1_would_0 22 rfl rfl)
theorem dX1_would_23 : decode cX1_would 23 = .ok (.iconst 0, 1) := dk_3 (dk_at dksX1_would_0 23 rfl rfl)
theorem dX1_would_24 : decode cX1_would 24 = .ok (.sipush 999, 3) := dk_17 3 231 (dk_at dksX1_would_1 0 rfl rfl)
theorem dX1_would_27 : decode cX1_would 27 = .ok (.invokestatic 252, 3) := dk_184 0 252 (dk_at dksX1_would_1 3 rfl rfl)
theorem dX1_would_30 : decode cX1_would 30 = .ok (.ifCond .eq 62, 3) := dk_153 0 62 (dk_at dksX1_would_1 6 rfl rfl)
theorem dX1_would_33 : decode cX1_would 33 = .ok (.iload 4, 2) := dk_21 4 (dk_at dksX1_would_1 9 rfl rfl)
theorem dX1_would_35 : decode cX1_would 35 = .ok (.iconst 0, 1) := dk_3 (dk_at dksX1_would_1 11 rfl rfl)
theorem dX1_would_36 : decode cX1_would 36 = .ok (.bipush 15, 2) := dk_16 15 (dk_at dksX1_would_1 12 rfl rfl)
theorem dX1_would_38 : decode cX1_would 38 = .ok (.invokestatic 252, 3) := dk_184 0 252 (dk_at dksX1_would_1 14 rfl rfl)
theorem dX1_would_41 : decode cX1_would 41 = .ok (.ifCond .eq 51, 3) := dk_153 0 51 (dk_at dksX1_would_1 17 rfl rfl)
theorem dX1_would_44 : decode cX1_would 44 = .ok (.iload 5, 2) := dk_21 5 (dk_at dksX1_would_1 20 rfl rfl)
theorem dX1_would_46 : decode cX1_would 46 = .ok (.iconst 0, 1) := dk_3 (dk_at dksX1_would_1 22 rfl rfl)
theorem dX1_would_47 : decode cX1_would 47 = .ok (.iconst 5, 1) := dk_8 (dk_at dksX1_would_1 23 rfl rfl)
theorem dX1_would_48 : decode cX1_would 48 = .ok (.invokestatic 252, 3) := dk_184 0 252 (dk_at dksX1_would_2 0 rfl rfl)
theorem dX1_would_51 : decode cX1_would 51 = .ok (.ifCond .eq 41, 3) := dk_153 0 41 (dk_at dksX1_would_2 3 rfl rfl)
theorem dX1_would_54 : decode cX1_would 54 = .ok (.iload 6, 2) := dk_21 6 (dk_at dksX1_would_2 6 rfl rfl)
theorem dX1_would_56 : decode cX1_would 56 = .ok (.iconst 0, 1) := dk_3 (dk_at dksX1_would_2 8 rfl rfl)
theorem dX1_would_57 : decode cX1_would 57 = .ok (.bipush 9, 2) := dk_16 9 (dk_at dksX1_would_2 9 rfl rfl)
theorem dX1_would_59 : decode cX1_would 59 = .ok (.invokestatic 252, 3) := dk_184 0 252 (dk_at dksX1_would_2 11 rfl rfl)
theorem dX1_would_62 : decode cX1_would 62 = .ok (.ifCond .eq 30, 3) := dk_153 0 30 (dk_at dksX1_would_2 14 rfl rfl)
theorem dX1_would_65 : decode cX1_would 65 = .ok (.iload 7, 2) := dk_21 7 (dk_at dksX1_would_2 17 rfl rfl)
theorem dX1_would_67 : decode cX1_would 67 = .ok (.iconst 0, 1) := dk_3 (dk_at dksX1_would_2 19 rfl rfl)
theorem dX1_would_68 : decode cX1_would 68 = .ok (.bipush 7, 2) := dk_16 7 (dk_at dksX1_would_2 20 rfl rfl)
theorem dX1_would_70 : decode cX1_would 70 = .ok (.invokestatic 252, 3) := dk_184 0 252 (dk_at dksX1_would_3 0 rfl rfl)
theorem dX1_would_73 : decode cX1_would 73 = .ok (.ifCond .eq 19, 3) := dk_153 0 19 (dk_at dksX1_would_3 3 rfl rfl)
theorem dX1_would_76 : decode cX1_would 76 = .ok (.iload 8, 2) := dk_21 8 (dk_at dksX1_would_3 6 rfl rfl)
theorem dX1_would_78 : decode cX1_would 78 = .ok (.iconst 0, 1) := dk_3 (dk_at dksX1_would_3 8 rfl rfl)
theorem dX1_would_79 : decode cX1_would 79 = .ok (.sipush 500, 3) := dk_17 1 244 (dk_at dksX1_would_3 9 rfl rfl)
theorem dX1_would_82 : decode cX1_would 82 = .ok (.invokestatic 252, 3) := dk_184 0 252 (dk_at dksX1_would_3 12 rfl rfl)
theorem dX1_would_85 : decode cX1_would 85 = .ok (.ifCond .eq 7, 3) := dk_153 0 7 (dk_at dksX1_would_3 15 rfl rfl)
theorem dX1_would_88 : decode cX1_would 88 = .ok (.iconst 1, 1) := dk_4 (dk_at dksX1_would_3 18 rfl rfl)
theorem dX1_would_89 : decode cX1_would 89 = .ok (.goto 4, 3) := dk_167 0 4 (dk_at dksX1_would_3 19 rfl rfl)
theorem dX1_would_92 : decode cX1_would 92 = .ok (.iconst 0, 1) := dk_3 (dk_at dksX1_would_3 22 rfl rfl)
theorem dX1_would_93 : decode cX1_would 93 = .ok (.invokevirtual 183, 3) := dk_182 0 183 (dk_at dksX1_would_4 0 rfl rfl)
theorem dX1_would_96 : decode cX1_would 96 = .ok (.aload_n 0, 1) := dk_42 (dk_at dksX1_would_4 3 rfl rfl)
theorem dX1_would_97 : decode cX1_would 97 = .ok (.iload_n 1, 1) := dk_27 (dk_at dksX1_would_4 4 rfl rfl)
theorem dX1_would_98 : decode cX1_would 98 = .ok (.iload_n 2, 1) := dk_28 (dk_at dksX1_would_4 5 rfl rfl)
theorem dX1_would_99 : decode cX1_would 99 = .ok (.iload_n 3, 1) := dk_29 (dk_at dksX1_would_4 6 rfl rfl)
theorem dX1_would_100 : decode cX1_would 100 = .ok (.iload 4, 2) := dk_21 4 (dk_at dksX1_would_4 7 rfl rfl)
theorem dX1_would_102 : decode cX1_would 102 = .ok (.iload 5, 2) := dk_21 5 (dk_at dksX1_would_4 9 rfl rfl)
theorem dX1_would_104 : decode cX1_would 104 = .ok (.iload 6, 2) := dk_21 6 (dk_at dksX1_would_4 11 rfl rfl)
theorem dX1_would_106 : decode cX1_would 106 = .ok (.iload 7, 2) := dk_21 7 (dk_at dksX1_would_4 13 rfl rfl)
theorem dX1_would_108 : decode cX1_would 108 = .ok (.iload 8, 2) := dk_21 8 (dk_at dksX1_would_4 15 rfl rfl)
theorem dX1_would_110 : decode cX1_would 110 = .ok (.invokevirtual 334, 3) := dk_182 1 78 (dk_at dksX1_would_4 17 rfl rfl)
theorem dX1_would_113 : decode cX1_would 113 = .ok (.ireturn, 1) := dk_172 (dk_at dksX1_would_4 20 rfl rfl)
def dkwX1_can_0 : List UInt8 := [42, 27, 182, 1, 39, 42, 28, 182, 1, 64, 42, 180, 0, 58, 27, 28, 182, 1, 82, 172]
abbrev dktX1_can_0 : List UInt8 := dkwX1_can_0 ++ []
theorem dksX1_can_0 : cX1_can.data.toList.drop 0 = dktX1_can_0 := by decide +kernel
theorem dX1_can_0 : decode cX1_can 0 = .ok (.aload_n 0, 1) := dk_42 (dk_at dksX1_can_0 0 rfl rfl)
theorem dX1_can_1 : decode cX1_can 1 = .ok (.iload_n 1, 1) := dk_27 (dk_at dksX1_can_0 1 rfl rfl)
theorem dX1_can_2 : decode cX1_can 2 = .ok (.invokevirtual 295, 3) := dk_182 1 39 (dk_at dksX1_can_0 2 rfl rfl)
theorem dX1_can_5 : decode cX1_can 5 = .ok (.aload_n 0, 1) := dk_42 (dk_at dksX1_can_0 5 rfl rfl)
theorem dX1_can_6 : decode cX1_can 6 = .ok (.iload_n 2, 1) := dk_28 (dk_at dksX1_can_0 6 rfl rfl)
theorem dX1_can_7 : decode cX1_can 7 = .ok (.invokevirtual 320, 3) := dk_182 1 64 (dk_at dksX1_can_0 7 rfl rfl)
theorem dX1_can_10 : decode cX1_can 10 = .ok (.aload_n 0, 1) := dk_42 (dk_at dksX1_can_0 10 rfl rfl)
theorem dX1_can_11 : decode cX1_can 11 = .ok (.getfield 58, 3) := dk_180 0 58 (dk_at dksX1_can_0 11 rfl rfl)
theorem dX1_can_14 : decode cX1_can 14 = .ok (.iload_n 1, 1) := dk_27 (dk_at dksX1_can_0 14 rfl rfl)
theorem dX1_can_15 : decode cX1_can 15 = .ok (.iload_n 2, 1) := dk_28 (dk_at dksX1_can_0 15 rfl rfl)
theorem dX1_can_16 : decode cX1_can 16 = .ok (.invokevirtual 338, 3) := dk_182 1 82 (dk_at dksX1_can_0 16 rfl rfl)
theorem dX1_can_19 : decode cX1_can 19 = .ok (.ireturn, 1) := dk_172 (dk_at dksX1_can_0 19 rfl rfl)
def dkwX1_when_2 : List UInt8 := [182, 1, 85, 132, 4, 1, 167, 255, 229, 2, 172]
abbrev dktX1_when_2 : List UInt8 := dkwX1_when_2 ++ []
def dkwX1_when_1 : List UInt8 := [54, 4, 21, 4, 17, 0, 200, 163, 0, 25, 45, 27, 28, 182, 1, 35, 153, 0, 6, 21, 4, 172, 45]
abbrev dktX1_when_1 : List UInt8 := dkwX1_when_1 ++ dktX1_when_2
def dkwX1_when_0 : List UInt8 := [42, 27, 182, 1, 39, 42, 28, 182, 1, 64, 42, 180, 0, 62, 42, 180, 0, 58, 182, 0, 248, 78, 3]
abbrev dktX1_when_0 : List UInt8 := dkwX1_when_0 ++ dktX1_when_1
theorem dksX1_when_0 : cX1_when.data.toList.drop 0 = dktX1_when_0 := by decide +kernel
theorem dksX1_when_1 : cX1_when.data.toList.drop 23 = dktX1_when_1 := dk_seg dksX1_when_0 23 rfl rfl
theorem dksX1_when_2 : cX1_when.data.toList.drop 46 = dktX1_when_2 := dk_seg dksX1_when_1 23 rfl rfl
theorem dX1_when_0 : decode cX1_when 0 = .ok (.aload_n 0, 1) := dk_42 (dk_at dksX1_when_0 0 rfl rfl)
theorem dX1_when_1 : decode cX1_when 1 = .ok (.iload_n 1, 1) := dk_27 (dk_at dksX1_when_0 1 rfl rfl)
theorem dX1_when_2 : decode cX1_when 2 = .ok (.invokevirtual 295, 3) := dk_182 1 39 (dk_at dksX1_when_0 2 rfl rfl)
theorem dX1_when_5 : decode cX1_when 5 = .ok (.aload_n 0, 1) := dk_42 (dk_at dksX1_when_0 5 rfl rfl)
theorem dX1_when_6 : decode cX1_when 6 = .ok (.iload_n 2, 1) := dk_28 (dk_at dksX1_when_0 6 rfl rfl)
theorem dX1_when_7 : decode cX1_when 7 = .ok (.invokevirtual 320, 3) := dk_182 1 64 (dk_at dksX1_when_0 7 rfl rfl)
theorem dX1_when_10 : decode cX1_when 10 = .ok (.aload_n 0, 1) := dk_42 (dk_at dksX1_when_0 10 rfl rfl)
theorem dX1_when_11 : decode cX1_when 11 = .ok (.getfield 62, 3) := dk_180 0 62 (dk_at dksX1_when_0 11 rfl rfl)
theorem dX1_when_14 : decode cX1_when 14 = .ok (.aload_n 0, 1) := dk_42 (dk_at dksX1_when_0 14 rfl rfl)
theorem dX1_when_15 : decode cX1_when 15 = .ok (.getfield 58, 3) := dk_180 0 58 (dk_at dksX1_when_0 15 rfl rfl)
theorem dX1_when_18 : decode cX1_when 18 = .ok (.invokevirtual 248, 3) := dk_182 0 248 (dk_at dksX1_when_0 18 rfl rfl)
theorem dX1_when_21 : decode cX1_when 21 = .ok (.astore_n 3, 1) := dk_78 (dk_at dksX1_when_0 21 rfl rfl)
theorem dX1_when_22 : decode cX1_when 22 = .ok (.iconst 0, 1) := dk_3 (dk_at dksX1_when_0 22 rfl rfl)
theorem dX1_when_23 : decode cX1_when 23 = .ok (.istore 4, 2) := dk_54 4 (dk_at dksX1_when_1 0 rfl rfl)
theorem dX1_when_25 : decode cX1_when 25 = .ok (.iload 4, 2) := dk_21 4 (dk_at dksX1_when_1 2 rfl rfl)
theorem dX1_when_27 : decode cX1_when 27 = .ok (.sipush 200, 3) := dk_17 0 200 (dk_at dksX1_when_1 4 rfl rfl)
theorem dX1_when_30 : decode cX1_when 30 = .ok (.if_icmp .gt 25, 3) := dk_163 0 25 (dk_at dksX1_when_1 7 rfl rfl)
theorem dX1_when_33 : decode cX1_when 33 = .ok (.aload_n 3, 1) := dk_45 (dk_at dksX1_when_1 10 rfl rfl)
theorem dX1_when_34 : decode cX1_when 34 = .ok (.iload_n 1, 1) := dk_27 (dk_at dksX1_when_1 11 rfl rfl)
theorem dX1_when_35 : decode cX1_when 35 = .ok (.iload_n 2, 1) := dk_28 (dk_at dksX1_when_1 12 rfl rfl)
theorem dX1_when_36 : decode cX1_when 36 = .ok (.invokevirtual 291, 3) := dk_182 1 35 (dk_at dksX1_when_1 13 rfl rfl)
theorem dX1_when_39 : decode cX1_when 39 = .ok (.ifCond .eq 6, 3) := dk_153 0 6 (dk_at dksX1_when_1 16 rfl rfl)
theorem dX1_when_42 : decode cX1_when 42 = .ok (.iload 4, 2) := dk_21 4 (dk_at dksX1_when_1 19 rfl rfl)
theorem dX1_when_44 : decode cX1_when 44 = .ok (.ireturn, 1) := dk_172 (dk_at dksX1_when_1 21 rfl rfl)
theorem dX1_when_45 : decode cX1_when 45 = .ok (.aload_n 3, 1) := dk_45 (dk_at dksX1_when_1 22 rfl rfl)
theorem dX1_when_46 : decode cX1_when 46 = .ok (.invokevirtual 341, 3) := dk_182 1 85 (dk_at dksX1_when_2 0 rfl rfl)
theorem dX1_when_49 : decode cX1_when 49 = .ok (.iinc 4 1, 3) := dk_132 4 1 (dk_at dksX1_when_2 3 rfl rfl)
theorem dX1_when_52 : decode cX1_when 52 = .ok (.goto (-27), 3) := dk_167 255 229 (dk_at dksX1_when_2 6 rfl rfl)
theorem dX1_when_55 : decode cX1_when 55 = .ok (.iconst (-1), 1) := dk_2 (dk_at dksX1_when_2 9 rfl rfl)
theorem dX1_when_56 : decode cX1_when 56 = .ok (.ireturn, 1) := dk_172 (dk_at dksX1_when_2 10 rfl rfl)
def dkwX1_ahead_3 : List UInt8 := [162, 0, 14, 25, 4, 182, 1, 85, 132, 5, 1, 167, 255, 242, 25, 4, 27, 182, 1, 58, 172]
abbrev dktX1_ahead_3 : List UInt8 := dkwX1_ahead_3 ++ []
def dkwX1_ahead_2 : List UInt8 := [160, 0, 17, 25, 4, 42, 27, 182, 1, 42, 180, 1, 46, 182, 1, 92, 87, 3, 54, 5, 21, 5, 28]
abbrev dktX1_ahead_2 : List UInt8 := dkwX1_ahead_2 ++ dktX1_ahead_3
def dkwX1_ahead_1 : List UInt8 := [167, 0, 4, 3, 182, 0, 183, 42, 180, 0, 62, 42, 180, 0, 58, 182, 0, 248, 58, 4, 29, 4]
abbrev dktX1_ahead_1 : List UInt8 := dkwX1_ahead_1 ++ dktX1_ahead_2
def dkwX1_ahead_0 : List UInt8 := [42, 27, 182, 1, 39, 42, 28, 3, 16, 99, 184, 0, 252, 153, 0, 14, 29, 184, 1, 88, 153, 0, 7, 4]
abbrev dktX1_ahead_0 : List UInt8 := dkwX1_ahead_0 ++ dktX1_ahead_1
theorem dksX1_ahead_0 : cX1_ahead.data.toList.drop 0 = dktX1_ahead_0 := by decide +kernel
theorem dksX1_ahead_1 : cX1_ahead.data.toList.drop 24 = dktX1_ahead_1 := dk_seg dksX1_ahead_0 24 rfl rfl
theorem dksX1_ahead_2 : cX1_ahead.data.toList.drop 46 = dktX1_ahead_2 := dk_seg dksX1_ahead_1 22 rfl rfl
theorem dksX1_ahead_3 : cX1_ahead.data.toList.drop 69 = dktX1_ahead_3 := dk_seg dksX1_ahead_2 23 rfl rfl
theorem dX1_ahead_0 : decode cX1_ahead 0 = .ok (.aload_n 0, 1) := dk_42 (dk_at dksX1_ahead_0 0 rfl rfl)
theorem dX1_ahead_1 : decode cX1_ahead 1 = .ok (.iload_n 1, 1) := dk_27 (dk_at dksX1_ahead_0 1 rfl rfl)
theorem dX1_ahead_2 : decode cX1_ahead 2 = .ok (.invokevirtual 295, 3) := dk_182 1 39 (dk_at dksX1_ahead_0 2 rfl rfl)
theorem dX1_ahead_5 : decode cX1_ahead 5 = .ok (.aload_n 0, 1) := dk_42 (dk_at dksX1_ahead_0 5 rfl rfl)
theorem dX1_ahead_6 : decode cX1_ahead 6 = .ok (.iload_n 2, 1) := dk_28 (dk_at dksX1_ahead_0 6 rfl rfl)
theorem dX1_ahead_7 : decode cX1_ahead 7 = .ok (.iconst 0, 1) := dk_3 (dk_at dksX1_ahead_0 7 rfl rfl)
theorem dX1_ahead_8 : decode cX1_ahead 8 = .ok (.bipush 99, 2) := dk_16 99 (dk_at dksX1_ahead_0 8 rfl rfl)
theorem dX1_ahead_10 : decode cX1_ahead 10 = .ok (.invokestatic 252, 3) := dk_184 0 252 (dk_at dksX1_ahead_0 10 rfl rfl)
theorem dX1_ahead_13 : decode cX1_ahead 13 = .ok (.ifCond .eq 14, 3) := dk_153 0 14 (dk_at dksX1_ahead_0 13 rfl rfl)
theorem dX1_ahead_16 : decode cX1_ahead 16 = .ok (.iload_n 3, 1) := dk_29 (dk_at dksX1_ahead_0 16 rfl rfl)
theorem dX1_ahead_17 : decode cX1_ahead 17 = .ok (.invokestatic 344, 3) := dk_184 1 88 (dk_at dksX1_ahead_0 17 rfl rfl)
theorem dX1_ahead_20 : decode cX1_ahead 20 = .ok (.ifCond .eq 7, 3) := dk_153 0 7 (dk_at dksX1_ahead_0 20 rfl rfl)
theorem dX1_ahead_23 : decode cX1_ahead 23 = .ok (.iconst 1, 1) := dk_4 (dk_at dksX1_ahead_0 23 rfl rfl)
theorem dX1_ahead_24 : decode cX1_ahead 24 = .ok (.goto 4, 3) := dk_167 0 4 (dk_at dksX1_ahead_1 0 rfl rfl)
theorem dX1_ahead_27 : decode cX1_ahead 27 = .ok (.iconst 0, 1) := dk_3 (dk_at dksX1_ahead_1 3 rfl rfl)
theorem dX1_ahead_28 : decode cX1_ahead 28 = .ok (.invokevirtual 183, 3) := dk_182 0 183 (dk_at dksX1_ahead_1 4 rfl rfl)
theorem dX1_ahead_31 : decode cX1_ahead 31 = .ok (.aload_n 0, 1) := dk_42 (dk_at dksX1_ahead_1 7 rfl rfl)
theorem dX1_ahead_32 : decode cX1_ahead 32 = .ok (.getfield 62, 3) := dk_180 0 62 (dk_at dksX1_ahead_1 8 rfl rfl)
theorem dX1_ahead_35 : decode cX1_ahead 35 = .ok (.aload_n 0, 1) := dk_42 (dk_at dksX1_ahead_1 11 rfl rfl)
theorem dX1_ahead_36 : decode cX1_ahead 36 = .ok (.getfield 58, 3) := dk_180 0 58 (dk_at dksX1_ahead_1 12 rfl rfl)
theorem dX1_ahead_39 : decode cX1_ahead 39 = .ok (.invokevirtual 248, 3) := dk_182 0 248 (dk_at dksX1_ahead_1 15 rfl rfl)
theorem dX1_ahead_42 : decode cX1_ahead 42 = .ok (.astore 4, 2) := dk_58 4 (dk_at dksX1_ahead_1 18 rfl rfl)
theorem dX1_ahead_44 : decode cX1_ahead 44 = .ok (.iload_n 3, 1) := dk_29 (dk_at dksX1_ahead_1 20 rfl rfl)
theorem dX1_ahead_45 : decode cX1_ahead 45 = .ok (.iconst 1, 1) := dk_4 (dk_at dksX1_ahead_1 21 rfl rfl)
theorem dX1_ahead_46 : decode cX1_ahead 46 = .ok (.if_icmp .ne 17, 3) := dk_160 0 17 (dk_at dksX1_ahead_2 0 rfl rfl)
theorem dX1_ahead_49 : decode cX1_ahead 49 = .ok (.aload 4, 2) := dk_25 4 (dk_at dksX1_ahead_2 3 rfl rfl)
theorem dX1_ahead_51 : decode cX1_ahead 51 = .ok (.aload_n 0, 1) := dk_42 (dk_at dksX1_ahead_2 5 rfl rfl)
theorem dX1_ahead_52 : decode cX1_ahead 52 = .ok (.iload_n 1, 1) := dk_27 (dk_at dksX1_ahead_2 6 rfl rfl)
theorem dX1_ahead_53 : decode cX1_ahead 53 = .ok (.invokevirtual 298, 3) := dk_182 1 42 (dk_at dksX1_ahead_2 7 rfl rfl)
theorem dX1_ahead_56 : decode cX1_ahead 56 = .ok (.getfield 302, 3) := dk_180 1 46 (dk_at dksX1_ahead_2 10 rfl rfl)
theorem dX1_ahead_59 : decode cX1_ahead 59 = .ok (.invokevirtual 348, 3) := dk_182 1 92 (dk_at dksX1_ahead_2 13 rfl rfl)
theorem dX1_ahead_62 : decode cX1_ahead 62 = .ok (.pop, 1) := dk_87 (dk_at dksX1_ahead_2 16 rfl rfl)
theorem dX1_ahead_63 : decode cX1_ahead 63 = .ok (.iconst 0, 1) := dk_3 (dk_at dksX1_ahead_2 17 rfl rfl)
theorem dX1_ahead_64 : decode cX1_ahead 64 = .ok (.istore 5, 2) := dk_54 5 (dk_at dksX1_ahead_2 18 rfl rfl)
theorem dX1_ahead_66 : decode cX1_ahead 66 = .ok (.iload 5, 2) := dk_21 5 (dk_at dksX1_ahead_2 20 rfl rfl)
theorem dX1_ahead_68 : decode cX1_ahead 68 = .ok (.iload_n 2, 1) := dk_28 (dk_at dksX1_ahead_2 22 rfl rfl)
theorem dX1_ahead_69 : decode cX1_ahead 69 = .ok (.if_icmp .ge 14, 3) := dk_162 0 14 (dk_at dksX1_ahead_3 0 rfl rfl)
theorem dX1_ahead_72 : decode cX1_ahead 72 = .ok (.aload 4, 2) := dk_25 4 (dk_at dksX1_ahead_3 3 rfl rfl)
theorem dX1_ahead_74 : decode cX1_ahead 74 = .ok (.invokevirtual 341, 3) := dk_182 1 85 (dk_at dksX1_ahead_3 5 rfl rfl)
theorem dX1_ahead_77 : decode cX1_ahead 77 = .ok (.iinc 5 1, 3) := dk_132 5 1 (dk_at dksX1_ahead_3 8 rfl rfl)
theorem dX1_ahead_80 : decode cX1_ahead 80 = .ok (.goto (-14), 3) := dk_167 255 242 (dk_at dksX1_ahead_3 11 rfl rfl)
theorem dX1_ahead_83 : decode cX1_ahead 83 = .ok (.aload 4, 2) := dk_25 4 (dk_at dksX1_ahead_3 14 rfl rfl)
theorem dX1_ahead_85 : decode cX1_ahead 85 = .ok (.iload_n 1, 1) := dk_27 (dk_at dksX1_ahead_3 16 rfl rfl)
theorem dX1_ahead_86 : decode cX1_ahead 86 = .ok (.invokevirtual 314, 3) := dk_182 1 58 (dk_at dksX1_ahead_3 17 rfl rfl)
theorem dX1_ahead_89 : decode cX1_ahead 89 = .ok (.ireturn, 1) := dk_172 (dk_at dksX1_ahead_3 20 rfl rfl)
def dkwX1_matched_0 : List UInt8 := [42, 27, 182, 1, 64, 42, 182, 1, 100, 42, 180, 0, 89, 27, 46, 172]
abbrev dktX1_matched_0 : List UInt8 := dkwX1_matched_0 ++ []
theorem dksX1_matched_0 : cX1_matched.data.toList.drop 0 = dktX1_matched_0 := by decide +kernel
theorem dX1_matched_0 : decode cX1_matched 0 = .ok (.aload_n 0, 1) := dk_42 (dk_at dksX1_matched_0 0 rfl rfl)
theorem dX1_matched_1 : decode cX1_matched 1 = .ok (.iload_n 1, 1) := dk_27 (dk_at dksX1_matched_0 1 rfl rfl)
theorem dX1_matched_2 : decode cX1_matched 2 = .ok (.invokevirtual 320, 3) := dk_182 1 64 (dk_at dksX1_matched_0 2 rfl rfl)
theorem dX1_matched_5 : decode cX1_matched 5 = .ok (.aload_n 0, 1) := dk_42 (dk_at dksX1_matched_0 5 rfl rfl)
theorem dX1_matched_6 : decode cX1_matched 6 = .ok (.invokevirtual 356, 3) := dk_182 1 100 (dk_at dksX1_matched_0 6 rfl rfl)
theorem dX1_matched_9 : decode cX1_matched 9 = .ok (.aload_n 0, 1) := dk_42 (dk_at dksX1_matched_0 9 rfl rfl)
theorem dX1_matched_10 : decode cX1_matched 10 = .ok (.getfield 89, 3) := dk_180 0 89 (dk_at dksX1_matched_0 10 rfl rfl)
theorem dX1_matched_13 : decode cX1_matched 13 = .ok (.iload_n 1, 1) := dk_27 (dk_at dksX1_matched_0 13 rfl rfl)
theorem dX1_matched_14 : decode cX1_matched 14 = .ok (.iaload, 1) := dk_46 (dk_at dksX1_matched_0 14 rfl rfl)
theorem dX1_matched_15 : decode cX1_matched 15 = .ok (.ireturn, 1) := dk_172 (dk_at dksX1_matched_0 15 rfl rfl)
def dkwX1_lapsed_4 : List UInt8 := [167, 0, 13, 28, 154, 0, 7, 3, 167, 0, 5, 21, 4, 172]
abbrev dktX1_lapsed_4 : List UInt8 := dkwX1_lapsed_4 ++ []
def dkwX1_lapsed_3 : List UInt8 := [126, 54, 4, 132, 5, 1, 167, 255, 209, 27, 154, 0, 7, 28, 167, 0, 22, 27, 4, 160, 0, 7, 29]
abbrev dktX1_lapsed_3 : List UInt8 := dkwX1_lapsed_3 ++ dktX1_lapsed_4
def dkwX1_lapsed_2 : List UInt8 := [182, 1, 112, 154, 0, 6, 167, 0, 21, 132, 2, 1, 29, 2, 160, 0, 6, 21, 5, 62, 21, 4, 21, 5]
abbrev dktX1_lapsed_2 : List UInt8 := dkwX1_lapsed_2 ++ dktX1_lapsed_3
def dkwX1_lapsed_1 : List UInt8 := [100, 54, 4, 3, 54, 5, 21, 5, 4, 42, 180, 0, 31, 180, 0, 158, 120, 162, 0, 39, 42, 21, 5]
abbrev dktX1_lapsed_1 : List UInt8 := dkwX1_lapsed_1 ++ dktX1_lapsed_2
def dkwX1_lapsed_0 : List UInt8 := [42, 27, 3, 5, 184, 0, 252, 182, 0, 183, 3, 61, 2, 62, 4, 42, 180, 0, 31, 180, 0, 158, 120, 4]
abbrev dktX1_lapsed_0 : List UInt8 := dkwX1_lapsed_0 ++ dktX1_lapsed_1
theorem dksX1_lapsed_0 : cX1_lapsed.data.toList.drop 0 = dktX1_lapsed_0 := by decide +kernel
theorem dksX1_lapsed_1 : cX1_lapsed.data.toList.drop 24 = dktX1_lapsed_1 := dk_seg dksX1_lapsed_0 24 rfl rfl
theorem dksX1_lapsed_2 : cX1_lapsed.data.toList.drop 47 = dktX1_lapsed_2 := dk_seg dksX1_lapsed_1 23 rfl rfl
theorem dksX1_lapsed_3 : cX1_lapsed.data.toList.drop 71 = dktX1_lapsed_3 := dk_seg dksX1_lapsed_2 24 rfl rfl
theorem dksX1_lapsed_4 : cX1_lapsed.data.toList.drop 94 = dktX1_lapsed_4 := dk_seg dksX1_lapsed_3 23 rfl rfl
theorem dX1_lapsed_0 : decode cX1_lapsed 0 = .ok (.aload_n 0, 1) := dk_42 (dk_at dksX1_lapsed_0 0 rfl rfl)
theorem dX1_lapsed_1 : decode cX1_lapsed 1 = .ok (.iload_n 1, 1) := dk_27 (dk_at dksX1_lapsed_0 1 rfl rfl)
theorem dX1_lapsed_2 : decode cX1_lapsed 2 = .ok (.iconst 0, 1) := dk_3 (dk_at dksX1_lapsed_0 2 rfl rfl)
theorem dX1_lapsed_3 : decode cX1_lapsed 3 = .ok (.iconst 2, 1) := dk_5 (dk_at dksX1_lapsed_0 3 rfl rfl)
theorem dX1_lapsed_4 : decode cX1_lapsed 4 = .ok (.invokestatic 252, 3) := dk_184 0 252 (dk_at dksX1_lapsed_0 4 rfl rfl)
theorem dX1_lapsed_7 : decode cX1_lapsed 7 = .ok (.invokevirtual 183, 3) := dk_182 0 183 (dk_at dksX1_lapsed_0 7 rfl rfl)
theorem dX1_lapsed_10 : decode cX1_lapsed 10 = .ok (.iconst 0, 1) := dk_3 (dk_at dksX1_lapsed_0 10 rfl rfl)
theorem dX1_lapsed_11 : decode cX1_lapsed 11 = .ok (.istore_n 2, 1) := dk_61 (dk_at dksX1_lapsed_0 11 rfl rfl)
theorem dX1_lapsed_12 : decode cX1_lapsed 12 = .ok (.iconst (-1), 1) := dk_2 (dk_at dksX1_lapsed_0 12 rfl rfl)
theorem dX1_lapsed_13 : decode cX1_lapsed 13 = .ok (.istore_n 3, 1) := dk_62 (dk_at dksX1_lapsed_0 13 rfl rfl)
theorem dX1_lapsed_14 : decode cX1_lapsed 14 = .ok (.iconst 1, 1) := dk_4 (dk_at dksX1_lapsed_0 14 rfl rfl)
theorem dX1_lapsed_15 : decode cX1_lapsed 15 = .ok (.aload_n 0, 1) := dk_42 (dk_at dksX1_lapsed_0 15 rfl rfl)
theorem dX1_lapsed_16 : decode cX1_lapsed 16 = .ok (.getfield 31, 3) := dk_180 0 31 (dk_at dksX1_lapsed_0 16 rfl rfl)
theorem dX1_lapsed_19 : decode cX1_lapsed 19 = .ok (.getfield 158, 3) := dk_180 0 158 (dk_at dksX1_lapsed_0 19 rfl rfl)
theorem dX1_lapsed_22 : decode cX1_lapsed 22 = .ok (.ishl, 1) := dk_120 (dk_at dksX1_lapsed_0 22 rfl rfl)
theorem dX1_lapsed_23 : decode cX1_lapsed 23 = .ok (.iconst 1, 1) := dk_4 (dk_at dksX1_lapsed_0 23 rfl rfl)
theorem dX1_lapsed_24 : decode cX1_lapsed 24 = .ok (.isub, 1) := dk_100 (dk_at dksX1_lapsed_1 0 rfl rfl)
theorem dX1_lapsed_25 : decode cX1_lapsed 25 = .ok (.istore 4, 2) := dk_54 4 (dk_at dksX1_lapsed_1 1 rfl rfl)
theorem dX1_lapsed_27 : decode cX1_lapsed 27 = .ok (.iconst 0, 1) := dk_3 (dk_at dksX1_lapsed_1 3 rfl rfl)
theorem dX1_lapsed_28 : decode cX1_lapsed 28 = .ok (.istore 5, 2) := dk_54 5 (dk_at dksX1_lapsed_1 4 rfl rfl)
theorem dX1_lapsed_30 : decode cX1_lapsed 30 = .ok (.iload 5, 2) := dk_21 5 (dk_at dksX1_lapsed_1 6 rfl rfl)
theorem dX1_lapsed_32 : decode cX1_lapsed 32 = .ok (.iconst 1, 1) := dk_4 (dk_at dksX1_lapsed_1 8 rfl rfl)
theorem dX1_lapsed_33 : decode cX1_lapsed 33 = .ok (.aload_n 0, 1) := dk_42 (dk_at dksX1_lapsed_1 9 rfl rfl)
theorem dX1_lapsed_34 : decode cX1_lapsed 34 = .ok (.getfield 31, 3) := dk_180 0 31 (dk_at dksX1_lapsed_1 10 rfl rfl)
theorem dX1_lapsed_37 : decode cX1_lapsed 37 = .ok (.getfield 158, 3) := dk_180 0 158 (dk_at dksX1_lapsed_1 13 rfl rfl)
theorem dX1_lapsed_40 : decode cX1_lapsed 40 = .ok (.ishl, 1) := dk_120 (dk_at dksX1_lapsed_1 16 rfl rfl)
theorem dX1_lapsed_41 : decode cX1_lapsed 41 = .ok (.if_icmp .ge 39, 3) := dk_162 0 39 (dk_at dksX1_lapsed_1 17 rfl rfl)
theorem dX1_lapsed_44 : decode cX1_lapsed 44 = .ok (.aload_n 0, 1) := dk_42 (dk_at dksX1_lapsed_1 20 rfl rfl)
theorem dX1_lapsed_45 : decode cX1_lapsed 45 = .ok (.iload 5, 2) := dk_21 5 (dk_at dksX1_lapsed_1 21 rfl rfl)
theorem dX1_lapsed_47 : decode cX1_lapsed 47 = .ok (.invokevirtual 368, 3) := dk_182 1 112 (dk_at dksX1_lapsed_2 0 rfl rfl)
theorem dX1_lapsed_50 : decode cX1_lapsed 50 = .ok (.ifCond .ne 6, 3) := dk_154 0 6 (dk_at dksX1_lapsed_2 3 rfl rfl)
theorem dX1_lapsed_53 : decode cX1_lapsed 53 = .ok (.goto 21, 3) := dk_167 0 21 (dk_at dksX1_lapsed_2 6 rfl rfl)
theorem dX1_lapsed_56 : decode cX1_lapsed 56 = .ok (.iinc 2 1, 3) := dk_132 2 1 (dk_at dksX1_lapsed_2 9 rfl rfl)
theorem dX1_lapsed_59 : decode cX1_lapsed 59 = .ok (.iload_n 3, 1) := dk_29 (dk_at dksX1_lapsed_2 12 rfl rfl)
theorem dX1_lapsed_60 : decode cX1_lapsed 60 = .ok (.iconst (-1), 1) := dk_2 (dk_at dksX1_lapsed_2 13 rfl rfl)
theorem dX1_lapsed_61 : decode cX1_lapsed 61 = .ok (.if_icmp .ne 6, 3) := dk_160 0 6 (dk_at dksX1_lapsed_2 14 rfl rfl)
theorem dX1_lapsed_64 : decode cX1_lapsed 64 = .ok (.iload 5, 2) := dk_21 5 (dk_at dksX1_lapsed_2 17 rfl rfl)
theorem dX1_lapsed_66 : decode cX1_lapsed 66 = .ok (.istore_n 3, 1) := dk_62 (dk_at dksX1_lapsed_2 19 rfl rfl)
theorem dX1_lapsed_67 : decode cX1_lapsed 67 = .ok (.iload 4, 2) := dk_21 4 (dk_at dksX1_lapsed_2 20 rfl rfl)
theorem dX1_lapsed_69 : decode cX1_lapsed 69 = .ok (.iload 5, 2) := dk_21 5 (dk_at dksX1_lapsed_2 22 rfl rfl)
theorem dX1_lapsed_71 : decode cX1_lapsed 71 = .ok (.iand, 1) := dk_126 (dk_at dksX1_lapsed_3 0 rfl rfl)
theorem dX1_lapsed_72 : decode cX1_lapsed 72 = .ok (.istore 4, 2) := dk_54 4 (dk_at dksX1_lapsed_3 1 rfl rfl)
theorem dX1_lapsed_74 : decode cX1_lapsed 74 = .ok (.iinc 5 1, 3) := dk_132 5 1 (dk_at dksX1_lapsed_3 3 rfl rfl)
theorem dX1_lapsed_77 : decode cX1_lapsed 77 = .ok (.goto (-47), 3) := dk_167 255 209 (dk_at dksX1_lapsed_3 6 rfl rfl)
theorem dX1_lapsed_80 : decode cX1_lapsed 80 = .ok (.iload_n 1, 1) := dk_27 (dk_at dksX1_lapsed_3 9 rfl rfl)
theorem dX1_lapsed_81 : decode cX1_lapsed 81 = .ok (.ifCond .ne 7, 3) := dk_154 0 7 (dk_at dksX1_lapsed_3 10 rfl rfl)
theorem dX1_lapsed_84 : decode cX1_lapsed 84 = .ok (.iload_n 2, 1) := dk_28 (dk_at dksX1_lapsed_3 13 rfl rfl)
theorem dX1_lapsed_85 : decode cX1_lapsed 85 = .ok (.goto 22, 3) := dk_167 0 22 (dk_at dksX1_lapsed_3 14 rfl rfl)
theorem dX1_lapsed_88 : decode cX1_lapsed 88 = .ok (.iload_n 1, 1) := dk_27 (dk_at dksX1_lapsed_3 17 rfl rfl)
theorem dX1_lapsed_89 : decode cX1_lapsed 89 = .ok (.iconst 1, 1) := dk_4 (dk_at dksX1_lapsed_3 18 rfl rfl)
theorem dX1_lapsed_90 : decode cX1_lapsed 90 = .ok (.if_icmp .ne 7, 3) := dk_160 0 7 (dk_at dksX1_lapsed_3 19 rfl rfl)
theorem dX1_lapsed_93 : decode cX1_lapsed 93 = .ok (.iload_n 3, 1) := dk_29 (dk_at dksX1_lapsed_3 22 rfl rfl)
theorem dX1_lapsed_94 : decode cX1_lapsed 94 = .ok (.goto 13, 3) := dk_167 0 13 (dk_at dksX1_lapsed_4 0 rfl rfl)
theorem dX1_lapsed_97 : decode cX1_lapsed 97 = .ok (.iload_n 2, 1) := dk_28 (dk_at dksX1_lapsed_4 3 rfl rfl)
theorem dX1_lapsed_98 : decode cX1_lapsed 98 = .ok (.ifCond .ne 7, 3) := dk_154 0 7 (dk_at dksX1_lapsed_4 4 rfl rfl)
theorem dX1_lapsed_101 : decode cX1_lapsed 101 = .ok (.iconst 0, 1) := dk_3 (dk_at dksX1_lapsed_4 7 rfl rfl)
theorem dX1_lapsed_102 : decode cX1_lapsed 102 = .ok (.goto 5, 3) := dk_167 0 5 (dk_at dksX1_lapsed_4 8 rfl rfl)
theorem dX1_lapsed_105 : decode cX1_lapsed 105 = .ok (.iload 4, 2) := dk_21 4 (dk_at dksX1_lapsed_4 11 rfl rfl)
theorem dX1_lapsed_107 : decode cX1_lapsed 107 = .ok (.ireturn, 1) := dk_172 (dk_at dksX1_lapsed_4 13 rfl rfl)
def dkwX1_isSeen_2 : List UInt8 := [3, 172, 132, 2, 1, 167, 255, 218, 4, 172]
abbrev dktX1_isSeen_2 : List UInt8 := dkwX1_isSeen_2 ++ []
def dkwX1_isSeen_1 : List UInt8 := [180, 0, 47, 28, 46, 2, 159, 0, 20, 42, 28, 27, 182, 1, 109, 42, 180, 0, 47, 28, 46, 159, 0, 5]
abbrev dktX1_isSeen_1 : List UInt8 := dkwX1_isSeen_1 ++ dktX1_isSeen_2
def dkwX1_isSeen_0 : List UInt8 := [27, 42, 182, 1, 106, 2, 130, 126, 153, 0, 5, 3, 172, 3, 61, 28, 42, 182, 0, 165, 162, 0, 36, 42]
abbrev dktX1_isSeen_0 : List UInt8 := dkwX1_isSeen_0 ++ dktX1_isSeen_1
theorem dksX1_isSeen_0 : cX1_isSeen.data.toList.drop 0 = dktX1_isSeen_0 := by decide +kernel
theorem dksX1_isSeen_1 : cX1_isSeen.data.toList.drop 24 = dktX1_isSeen_1 := dk_seg dksX1_isSeen_0 24 rfl rfl
theorem dksX1_isSeen_2 : cX1_isSeen.data.toList.drop 48 = dktX1_isSeen_2 := dk_seg dksX1_isSeen_1 24 rfl rfl
theorem dX1_isSeen_0 : decode cX1_isSeen 0 = .ok (.iload_n 1, 1) := dk_27 (dk_at dksX1_isSeen_0 0 rfl rfl)
theorem dX1_isSeen_1 : decode cX1_isSeen 1 = .ok (.aload_n 0, 1) := dk_42 (dk_at dksX1_isSeen_0 1 rfl rfl)
theorem dX1_isSeen_2 : decode cX1_isSeen 2 = .ok (.invokevirtual 362, 3) := dk_182 1 106 (dk_at dksX1_isSeen_0 2 rfl rfl)
theorem dX1_isSeen_5 : decode cX1_isSeen 5 = .ok (.iconst (-1), 1) := dk_2 (dk_at dksX1_isSeen_0 5 rfl rfl)
theorem dX1_isSeen_6 : decode cX1_isSeen 6 = .ok (.ixor, 1) := dk_130 (dk_at dksX1_isSeen_0 6 rfl rfl)
theorem dX1_isSeen_7 : decode cX1_isSeen 7 = .ok (.iand, 1) := dk_126 (dk_at dksX1_isSeen_0 7 rfl rfl)
theorem dX1_isSeen_8 : decode cX1_isSeen 8 = .ok (.ifCond .eq 5, 3) := dk_153 0 5 (dk_at dksX1_isSeen_0 8 rfl rfl)
theorem dX1_isSeen_11 : decode cX1_isSeen 11 = .ok (.iconst 0, 1) := dk_3 (dk_at dksX1_isSeen_0 11 rfl rfl)
theorem dX1_isSeen_12 : decode cX1_isSeen 12 = .ok (.ireturn, 1) := dk_172 (dk_at dksX1_isSeen_0 12 rfl rfl)
theorem dX1_isSeen_13 : decode cX1_isSeen 13 = .ok (.iconst 0, 1) := dk_3 (dk_at dksX1_isSeen_0 13 rfl rfl)
theorem dX1_isSeen_14 : decode cX1_isSeen 14 = .ok (.istore_n 2, 1) := dk_61 (dk_at dksX1_isSeen_0 14 rfl rfl)
theorem dX1_isSeen_15 : decode cX1_isSeen 15 = .ok (.iload_n 2, 1) := dk_28 (dk_at dksX1_isSeen_0 15 rfl rfl)
theorem dX1_isSeen_16 : decode cX1_isSeen 16 = .ok (.aload_n 0, 1) := dk_42 (dk_at dksX1_isSeen_0 16 rfl rfl)
theorem dX1_isSeen_17 : decode cX1_isSeen 17 = .ok (.invokevirtual 165, 3) := dk_182 0 165 (dk_at dksX1_isSeen_0 17 rfl rfl)
theorem dX1_isSeen_20 : decode cX1_isSeen 20 = .ok (.if_icmp .ge 36, 3) := dk_162 0 36 (dk_at dksX1_isSeen_0 20 rfl rfl)
theorem dX1_isSeen_23 : decode cX1_isSeen 23 = .ok (.aload_n 0, 1) := dk_42 (dk_at dksX1_isSeen_0 23 rfl rfl)
theorem dX1_isSeen_24 : decode cX1_isSeen 24 = .ok (.getfield 47, 3) := dk_180 0 47 (dk_at dksX1_isSeen_1 0 rfl rfl)
theorem dX1_isSeen_27 : decode cX1_isSeen 27 = .ok (.iload_n 2, 1) := dk_28 (dk_at dksX1_isSeen_1 3 rfl rfl)
theorem dX1_isSeen_28 : decode cX1_isSeen 28 = .ok (.iaload, 1) := dk_46 (dk_at dksX1_isSeen_1 4 rfl rfl)
theorem dX1_isSeen_29 : decode cX1_isSeen 29 = .ok (.iconst (-1), 1) := dk_2 (dk_at dksX1_isSeen_1 5 rfl rfl)
theorem dX1_isSeen_30 : decode cX1_isSeen 30 = .ok (.if_icmp .eq 20, 3) := dk_159 0 20 (dk_at dksX1_isSeen_1 6 rfl rfl)
theorem dX1_isSeen_33 : decode cX1_isSeen 33 = .ok (.aload_n 0, 1) := dk_42 (dk_at dksX1_isSeen_1 9 rfl rfl)
theorem dX1_isSeen_34 : decode cX1_isSeen 34 = .ok (.iload_n 2, 1) := dk_28 (dk_at dksX1_isSeen_1 10 rfl rfl)
theorem dX1_isSeen_35 : decode cX1_isSeen 35 = .ok (.iload_n 1, 1) := dk_27 (dk_at dksX1_isSeen_1 11 rfl rfl)
theorem dX1_isSeen_36 : decode cX1_isSeen 36 = .ok (.invokevirtual 365, 3) := dk_182 1 109 (dk_at dksX1_isSeen_1 12 rfl rfl)
theorem dX1_isSeen_39 : decode cX1_isSeen 39 = .ok (.aload_n 0, 1) := dk_42 (dk_at dksX1_isSeen_1 15 rfl rfl)
theorem dX1_isSeen_40 : decode cX1_isSeen 40 = .ok (.getfield 47, 3) := dk_180 0 47 (dk_at dksX1_isSeen_1 16 rfl rfl)
theorem dX1_isSeen_43 : decode cX1_isSeen 43 = .ok (.iload_n 2, 1) := dk_28 (dk_at dksX1_isSeen_1 19 rfl rfl)
theorem dX1_isSeen_44 : decode cX1_isSeen 44 = .ok (.iaload, 1) := dk_46 (dk_at dksX1_isSeen_1 20 rfl rfl)
theorem dX1_isSeen_45 : decode cX1_isSeen 45 = .ok (.if_icmp .eq 5, 3) := dk_159 0 5 (dk_at dksX1_isSeen_1 21 rfl rfl)
theorem dX1_isSeen_48 : decode cX1_isSeen 48 = .ok (.iconst 0, 1) := dk_3 (dk_at dksX1_isSeen_2 0 rfl rfl)
theorem dX1_isSeen_49 : decode cX1_isSeen 49 = .ok (.ireturn, 1) := dk_172 (dk_at dksX1_isSeen_2 1 rfl rfl)
theorem dX1_isSeen_50 : decode cX1_isSeen 50 = .ok (.iinc 2 1, 3) := dk_132 2 1 (dk_at dksX1_isSeen_2 2 rfl rfl)
theorem dX1_isSeen_53 : decode cX1_isSeen 53 = .ok (.goto (-38), 3) := dk_167 255 218 (dk_at dksX1_isSeen_2 5 rfl rfl)
theorem dX1_isSeen_56 : decode cX1_isSeen 56 = .ok (.iconst 1, 1) := dk_4 (dk_at dksX1_isSeen_2 8 rfl rfl)
theorem dX1_isSeen_57 : decode cX1_isSeen 57 = .ok (.ireturn, 1) := dk_172 (dk_at dksX1_isSeen_2 9 rfl rfl)
def dkwX1_lapsable_1 : List UInt8 := [153, 0, 9, 4, 28, 120, 167, 0, 4, 3, 128, 60, 132, 2, 1, 167, 255, 221, 27, 172]
abbrev dktX1_lapsable_1 : List UInt8 := dkwX1_lapsable_1 ++ []
def dkwX1_lapsable_0 : List UInt8 := [3, 60, 3, 61, 28, 42, 180, 0, 31, 180, 0, 158, 162, 0, 30, 27, 42, 180, 0, 58, 28, 182, 1, 97]
abbrev dktX1_lapsable_0 : List UInt8 := dkwX1_lapsable_0 ++ dktX1_lapsable_1
theorem dksX1_lapsable_0 : cX1_lapsable.data.toList.drop 0 = dktX1_lapsable_0 := by decide +kernel
theorem dksX1_lapsable_1 : cX1_lapsable.data.toList.drop 24 = dktX1_lapsable_1 := dk_seg dksX1_lapsable_0 24 rfl rfl
theorem dX1_lapsable_0 : decode cX1_lapsable 0 = .ok (.iconst 0, 1) := dk_3 (dk_at dksX1_lapsable_0 0 rfl rfl)
theorem dX1_lapsable_1 : decode cX1_lapsable 1 = .ok (.istore_n 1, 1) := dk_60 (dk_at dksX1_lapsable_0 1 rfl rfl)
theorem dX1_lapsable_2 : decode cX1_lapsable 2 = .ok (.iconst 0, 1) := dk_3 (dk_at dksX1_lapsable_0 2 rfl rfl)
theorem dX1_lapsable_3 : decode cX1_lapsable 3 = .ok (.istore_n 2, 1) := dk_61 (dk_at dksX1_lapsable_0 3 rfl rfl)
theorem dX1_lapsable_4 : decode cX1_lapsable 4 = .ok (.iload_n 2, 1) := dk_28 (dk_at dksX1_lapsable_0 4 rfl rfl)
theorem dX1_lapsable_5 : decode cX1_lapsable 5 = .ok (.aload_n 0, 1) := dk_42 (dk_at dksX1_lapsable_0 5 rfl rfl)
theorem dX1_lapsable_6 : decode cX1_lapsable 6 = .ok (.getfield 31, 3) := dk_180 0 31 (dk_at dksX1_lapsable_0 6 rfl rfl)
theorem dX1_lapsable_9 : decode cX1_lapsable 9 = .ok (.getfield 158, 3) := dk_180 0 158 (dk_at dksX1_lapsable_0 9 rfl rfl)
theorem dX1_lapsable_12 : decode cX1_lapsable 12 = .ok (.if_icmp .ge 30, 3) := dk_162 0 30 (dk_at dksX1_lapsable_0 12 rfl rfl)
theorem dX1_lapsable_15 : decode cX1_lapsable 15 = .ok (.iload_n 1, 1) := dk_27 (dk_at dksX1_lapsable_0 15 rfl rfl)
theorem dX1_lapsable_16 : decode cX1_lapsable 16 = .ok (.aload_n 0, 1) := dk_42 (dk_at dksX1_lapsable_0 16 rfl rfl)
theorem dX1_lapsable_17 : decode cX1_lapsable 17 = .ok (.getfield 58, 3) := dk_180 0 58 (dk_at dksX1_lapsable_0 17 rfl rfl)
theorem dX1_lapsable_20 : decode cX1_lapsable 20 = .ok (.iload_n 2, 1) := dk_28 (dk_at dksX1_lapsable_0 20 rfl rfl)
theorem dX1_lapsable_21 : decode cX1_lapsable 21 = .ok (.invokevirtual 353, 3) := dk_182 1 97 (dk_at dksX1_lapsable_0 21 rfl rfl)
theorem dX1_lapsable_24 : decode cX1_lapsable 24 = .ok (.ifCond .eq 9, 3) := dk_153 0 9 (dk_at dksX1_lapsable_1 0 rfl rfl)
theorem dX1_lapsable_27 : decode cX1_lapsable 27 = .ok (.iconst 1, 1) := dk_4 (dk_at dksX1_lapsable_1 3 rfl rfl)
theorem dX1_lapsable_28 : decode cX1_lapsable 28 = .ok (.iload_n 2, 1) := dk_28 (dk_at dksX1_lapsable_1 4 rfl rfl)
theorem dX1_lapsable_29 : decode cX1_lapsable 29 = .ok (.ishl, 1) := dk_120 (dk_at dksX1_lapsable_1 5 rfl rfl)
theorem dX1_lapsable_30 : decode cX1_lapsable 30 = .ok (.goto 4, 3) := dk_167 0 4 (dk_at dksX1_lapsable_1 6 rfl rfl)
theorem dX1_lapsable_33 : decode cX1_lapsable 33 = .ok (.iconst 0, 1) := dk_3 (dk_at dksX1_lapsable_1 9 rfl rfl)
theorem dX1_lapsable_34 : decode cX1_lapsable 34 = .ok (.ior, 1) := dk_128 (dk_at dksX1_lapsable_1 10 rfl rfl)
theorem dX1_lapsable_35 : decode cX1_lapsable 35 = .ok (.istore_n 1, 1) := dk_60 (dk_at dksX1_lapsable_1 11 rfl rfl)
theorem dX1_lapsable_36 : decode cX1_lapsable 36 = .ok (.iinc 2 1, 3) := dk_132 2 1 (dk_at dksX1_lapsable_1 12 rfl rfl)
theorem dX1_lapsable_39 : decode cX1_lapsable 39 = .ok (.goto (-35), 3) := dk_167 255 221 (dk_at dksX1_lapsable_1 15 rfl rfl)
theorem dX1_lapsable_42 : decode cX1_lapsable 42 = .ok (.iload_n 1, 1) := dk_27 (dk_at dksX1_lapsable_1 18 rfl rfl)
theorem dX1_lapsable_43 : decode cX1_lapsable 43 = .ok (.ireturn, 1) := dk_172 (dk_at dksX1_lapsable_1 19 rfl rfl)
def dkwX1_powerIf_4 : List UInt8 := [182, 1, 103, 45, 180, 1, 46, 42, 180, 0, 58, 180, 1, 0, 182, 1, 78, 172]
abbrev dktX1_powerIf_4 : List UInt8 := dkwX1_powerIf_4 ++ []
def dkwX1_powerIf_3 : List UInt8 := [21, 4, 96, 42, 180, 0, 31, 180, 1, 20, 45, 180, 1, 46, 46, 45, 180, 1, 49, 42, 180, 0, 58, 27]
abbrev dktX1_powerIf_3 : List UInt8 := dkwX1_powerIf_3 ++ dktX1_powerIf_4
def dkwX1_powerIf_2 : List UInt8 := [180, 0, 58, 180, 1, 55, 27, 46, 21, 4, 122, 42, 180, 0, 58, 180, 1, 23, 45, 180, 1, 46, 46]
abbrev dktX1_powerIf_2 : List UInt8 := dkwX1_powerIf_2 ++ dktX1_powerIf_3
def dkwX1_powerIf_1 : List UInt8 := [180, 1, 46, 184, 1, 94, 153, 0, 7, 4, 167, 0, 4, 3, 54, 4, 42, 45, 180, 1, 52, 42]
abbrev dktX1_powerIf_1 : List UInt8 := dkwX1_powerIf_1 ++ dktX1_powerIf_2
def dkwX1_powerIf_0 : List UInt8 := [42, 180, 0, 58, 180, 1, 55, 27, 46, 2, 160, 0, 5, 3, 172, 42, 27, 182, 1, 42, 78, 28, 45]
abbrev dktX1_powerIf_0 : List UInt8 := dkwX1_powerIf_0 ++ dktX1_powerIf_1
theorem dksX1_powerIf_0 : cX1_powerIf.data.toList.drop 0 = dktX1_powerIf_0 := by decide +kernel
theorem dksX1_powerIf_1 : cX1_powerIf.data.toList.drop 23 = dktX1_powerIf_1 := dk_seg dksX1_powerIf_0 23 rfl rfl
theorem dksX1_powerIf_2 : cX1_powerIf.data.toList.drop 45 = dktX1_powerIf_2 := dk_seg dksX1_powerIf_1 22 rfl rfl
theorem dksX1_powerIf_3 : cX1_powerIf.data.toList.drop 68 = dktX1_powerIf_3 := dk_seg dksX1_powerIf_2 23 rfl rfl
theorem dksX1_powerIf_4 : cX1_powerIf.data.toList.drop 92 = dktX1_powerIf_4 := dk_seg dksX1_powerIf_3 24 rfl rfl
theorem dX1_powerIf_0 : decode cX1_powerIf 0 = .ok (.aload_n 0, 1) := dk_42 (dk_at dksX1_powerIf_0 0 rfl rfl)
theorem dX1_powerIf_1 : decode cX1_powerIf 1 = .ok (.getfield 58, 3) := dk_180 0 58 (dk_at dksX1_powerIf_0 1 rfl rfl)
theorem dX1_powerIf_4 : decode cX1_powerIf 4 = .ok (.getfield 311, 3) := dk_180 1 55 (dk_at dksX1_powerIf_0 4 rfl rfl)
theorem dX1_powerIf_7 : decode cX1_powerIf 7 = .ok (.iload_n 1, 1) := dk_27 (dk_at dksX1_powerIf_0 7 rfl rfl)
theorem dX1_powerIf_8 : decode cX1_powerIf 8 = .ok (.iaload, 1) := dk_46 (dk_at dksX1_powerIf_0 8 rfl rfl)
theorem dX1_powerIf_9 : decode cX1_powerIf 9 = .ok (.iconst (-1), 1) := dk_2 (dk_at dksX1_powerIf_0 9 rfl rfl)
theorem dX1_powerIf_10 : decode cX1_powerIf 10 = .ok (.if_icmp .ne 5, 3) := dk_160 0 5 (dk_at dksX1_powerIf_0 10 rfl rfl)
theorem dX1_powerIf_13 : decode cX1_powerIf 13 = .ok (.iconst 0, 1) := dk_3 (dk_at dksX1_powerIf_0 13 rfl rfl)
theorem dX1_powerIf_14 : decode cX1_powerIf 14 = .ok (.ireturn, 1) := dk_172 (dk_at dksX1_powerIf_0 14 rfl rfl)
theorem dX1_powerIf_15 : decode cX1_powerIf 15 = .ok (.aload_n 0, 1) := dk_42 (dk_at dksX1_powerIf_0 15 rfl rfl)
theorem dX1_powerIf_16 : decode cX1_powerIf 16 = .ok (.iload_n 1, 1) := dk_27 (dk_at dksX1_powerIf_0 16 rfl rfl)
theorem dX1_powerIf_17 : decode cX1_powerIf 17 = .ok (.invokevirtual 298, 3) := dk_182 1 42 (dk_at dksX1_powerIf_0 17 rfl rfl)
theorem dX1_powerIf_20 : decode cX1_powerIf 20 = .ok (.astore_n 3, 1) := dk_78 (dk_at dksX1_powerIf_0 20 rfl rfl)
theorem dX1_powerIf_21 : decode cX1_powerIf 21 = .ok (.iload_n 2, 1) := dk_28 (dk_at dksX1_powerIf_0 21 rfl rfl)
theorem dX1_powerIf_22 : decode cX1_powerIf 22 = .ok (.aload_n 3, 1) := dk_45 (dk_at dksX1_powerIf_0 22 rfl rfl)
theorem dX1_powerIf_23 : decode cX1_powerIf 23 = .ok (.getfield 302, 3) := dk_180 1 46 (dk_at dksX1_powerIf_1 0 rfl rfl)
theorem dX1_powerIf_26 : decode cX1_powerIf 26 = .ok (.invokestatic 350, 3) := dk_184 1 94 (dk_at dksX1_powerIf_1 3 rfl rfl)
theorem dX1_powerIf_29 : decode cX1_powerIf 29 = .ok (.ifCond .eq 7, 3) := dk_153 0 7 (dk_at dksX1_powerIf_1 6 rfl rfl)
theorem dX1_powerIf_32 : decode cX1_powerIf 32 = .ok (.iconst 1, 1) := dk_4 (dk_at dksX1_powerIf_1 9 rfl rfl)
theorem dX1_powerIf_33 : decode cX1_powerIf 33 = .ok (.goto 4, 3) := dk_167 0 4 (dk_at dksX1_powerIf_1 10 rfl rfl)
theorem dX1_powerIf_36 : decode cX1_powerIf 36 = .ok (.iconst 0, 1) := dk_3 (dk_at dksX1_powerIf_1 13 rfl rfl)
theorem dX1_powerIf_37 : decode cX1_powerIf 37 = .ok (.istore 4, 2) := dk_54 4 (dk_at dksX1_powerIf_1 14 rfl rfl)
theorem dX1_powerIf_39 : decode cX1_powerIf 39 = .ok (.aload_n 0, 1) := dk_42 (dk_at dksX1_powerIf_1 16 rfl rfl)
theorem dX1_powerIf_40 : decode cX1_powerIf 40 = .ok (.aload_n 3, 1) := dk_45 (dk_at dksX1_powerIf_1 17 rfl rfl)
theorem dX1_powerIf_41 : decode cX1_powerIf 41 = .ok (.getfield 308, 3) := dk_180 1 52 (dk_at dksX1_powerIf_1 18 rfl rfl)
theorem dX1_powerIf_44 : decode cX1_powerIf 44 = .ok (.aload_n 0, 1) := dk_42 (dk_at dksX1_powerIf_1 21 rfl rfl)
theorem dX1_powerIf_45 : decode cX1_powerIf 45 = .ok (.getfield 58, 3) := dk_180 0 58 (dk_at dksX1_powerIf_2 0 rfl rfl)
theorem dX1_powerIf_48 : decode cX1_powerIf 48 = .ok (.getfield 311, 3) := dk_180 1 55 (dk_at dksX1_powerIf_2 3 rfl rfl)
theorem dX1_powerIf_51 : decode cX1_powerIf 51 = .ok (.iload_n 1, 1) := dk_27 (dk_at dksX1_powerIf_2 6 rfl rfl)
theorem dX1_powerIf_52 : decode cX1_powerIf 52 = .ok (.iaload, 1) := dk_46 (dk_at dksX1_powerIf_2 7 rfl rfl)
theorem dX1_powerIf_53 : decode cX1_powerIf 53 = .ok (.iload 4, 2) := dk_21 4 (dk_at dksX1_powerIf_2 8 rfl rfl)
theorem dX1_powerIf_55 : decode cX1_powerIf 55 = .ok (.ishr, 1) := dk_122 (dk_at dksX1_powerIf_2 10 rfl rfl)
theorem dX1_powerIf_56 : decode cX1_powerIf 56 = .ok (.aload_n 0, 1) := dk_42 (dk_at dksX1_powerIf_2 11 rfl rfl)
theorem dX1_powerIf_57 : decode cX1_powerIf 57 = .ok (.getfield 58, 3) := dk_180 0 58 (dk_at dksX1_powerIf_2 12 rfl rfl)
theorem dX1_powerIf_60 : decode cX1_powerIf 60 = .ok (.getfield 279, 3) := dk_180 1 23 (dk_at dksX1_powerIf_2 15 rfl rfl)
theorem dX1_powerIf_63 : decode cX1_powerIf 63 = .ok (.aload_n 3, 1) := dk_45 (dk_at dksX1_powerIf_2 18 rfl rfl)
theorem dX1_powerIf_64 : decode cX1_powerIf 64 = .ok (.getfield 302, 3) := dk_180 1 46 (dk_at dksX1_powerIf_2 19 rfl rfl)
theorem dX1_powerIf_67 : decode cX1_powerIf 67 = .ok (.iaload, 1) := dk_46 (dk_at dksX1_powerIf_2 22 rfl rfl)
theorem dX1_powerIf_68 : decode cX1_powerIf 68 = .ok (.iload 4, 2) := dk_21 4 (dk_at dksX1_powerIf_3 0 rfl rfl)
theorem dX1_powerIf_70 : decode cX1_powerIf 70 = .ok (.iadd, 1) := dk_96 (dk_at dksX1_powerIf_3 2 rfl rfl)
theorem dX1_powerIf_71 : decode cX1_powerIf 71 = .ok (.aload_n 0, 1) := dk_42 (dk_at dksX1_powerIf_3 3 rfl rfl)
theorem dX1_powerIf_72 : decode cX1_powerIf 72 = .ok (.getfield 31, 3) := dk_180 0 31 (dk_at dksX1_powerIf_3 4 rfl rfl)
theorem dX1_powerIf_75 : decode cX1_powerIf 75 = .ok (.getfield 276, 3) := dk_180 1 20 (dk_at dksX1_powerIf_3 7 rfl rfl)
theorem dX1_powerIf_78 : decode cX1_powerIf 78 = .ok (.aload_n 3, 1) := dk_45 (dk_at dksX1_powerIf_3 10 rfl rfl)
theorem dX1_powerIf_79 : decode cX1_powerIf 79 = .ok (.getfield 302, 3) := dk_180 1 46 (dk_at dksX1_powerIf_3 11 rfl rfl)
theorem dX1_powerIf_82 : decode cX1_powerIf 82 = .ok (.iaload, 1) := dk_46 (dk_at dksX1_powerIf_3 14 rfl rfl)
theorem dX1_powerIf_83 : decode cX1_powerIf 83 = .ok (.aload_n 3, 1) := dk_45 (dk_at dksX1_powerIf_3 15 rfl rfl)
theorem dX1_powerIf_84 : decode cX1_powerIf 84 = .ok (.getfield 305, 3) := dk_180 1 49 (dk_at dksX1_powerIf_3 16 rfl rfl)
theorem dX1_powerIf_87 : decode cX1_powerIf 87 = .ok (.aload_n 0, 1) := dk_42 (dk_at dksX1_powerIf_3 19 rfl rfl)
theorem dX1_powerIf_88 : decode cX1_powerIf 88 = .ok (.getfield 58, 3) := dk_180 0 58 (dk_at dksX1_powerIf_3 20 rfl rfl)
theorem dX1_powerIf_91 : decode cX1_powerIf 91 = .ok (.iload_n 1, 1) := dk_27 (dk_at dksX1_powerIf_3 23 rfl rfl)
theorem dX1_powerIf_92 : decode cX1_powerIf 92 = .ok (.invokevirtual 359, 3) := dk_182 1 103 (dk_at dksX1_powerIf_4 0 rfl rfl)
theorem dX1_powerIf_95 : decode cX1_powerIf 95 = .ok (.aload_n 3, 1) := dk_45 (dk_at dksX1_powerIf_4 3 rfl rfl)
theorem dX1_powerIf_96 : decode cX1_powerIf 96 = .ok (.getfield 302, 3) := dk_180 1 46 (dk_at dksX1_powerIf_4 4 rfl rfl)
theorem dX1_powerIf_99 : decode cX1_powerIf 99 = .ok (.aload_n 0, 1) := dk_42 (dk_at dksX1_powerIf_4 7 rfl rfl)
theorem dX1_powerIf_100 : decode cX1_powerIf 100 = .ok (.getfield 58, 3) := dk_180 0 58 (dk_at dksX1_powerIf_4 8 rfl rfl)
theorem dX1_powerIf_103 : decode cX1_powerIf 103 = .ok (.getfield 256, 3) := dk_180 1 0 (dk_at dksX1_powerIf_4 11 rfl rfl)
theorem dX1_powerIf_106 : decode cX1_powerIf 106 = .ok (.invokevirtual 334, 3) := dk_182 1 78 (dk_at dksX1_powerIf_4 14 rfl rfl)
theorem dX1_powerIf_109 : decode cX1_powerIf 109 = .ok (.ireturn, 1) := dk_172 (dk_at dksX1_powerIf_4 17 rfl rfl)
def dkwX1_ask_3 : List UInt8 := [27, 154, 0, 7, 28, 167, 0, 4, 29, 172]
abbrev dktX1_ask_3 : List UInt8 := dkwX1_ask_3 ++ []
def dkwX1_ask_2 : List UInt8 := [159, 0, 12, 21, 5, 29, 161, 0, 6, 167, 0, 9, 21, 4, 61, 21, 5, 62, 132, 4, 1, 167, 255, 202]
abbrev dktX1_ask_2 : List UInt8 := dkwX1_ask_2 ++ dktX1_ask_3
def dkwX1_ask_1 : List UInt8 := [42, 180, 0, 47, 21, 4, 46, 2, 159, 0, 6, 167, 0, 31, 42, 21, 4, 182, 1, 115, 54, 5, 28, 2]
abbrev dktX1_ask_1 : List UInt8 := dkwX1_ask_1 ++ dktX1_ask_2
def dkwX1_ask_0 : List UInt8 := [42, 27, 184, 1, 88, 182, 0, 183, 2, 61, 2, 62, 3, 54, 4, 21, 4, 42, 182, 0, 165, 162, 0, 51]
abbrev dktX1_ask_0 : List UInt8 := dkwX1_ask_0 ++ dktX1_ask_1
theorem dksX1_ask_0 : cX1_ask.data.toList.drop 0 = dktX1_ask_0 := by decide +kernel
theorem dksX1_ask_1 : cX1_ask.data.toList.drop 24 = dktX1_ask_1 := dk_seg dksX1_ask_0 24 rfl rfl
theorem dksX1_ask_2 : cX1_ask.data.toList.drop 48 = dktX1_ask_2 := dk_seg dksX1_ask_1 24 rfl rfl
theorem dksX1_ask_3 : cX1_ask.data.toList.drop 72 = dktX1_ask_3 := dk_seg dksX1_ask_2 24 rfl rfl
theorem dX1_ask_0 : decode cX1_ask 0 = .ok (.aload_n 0, 1) := dk_42 (dk_at dksX1_ask_0 0 rfl rfl)
theorem dX1_ask_1 : decode cX1_ask 1 = .ok (.iload_n 1, 1) := dk_27 (dk_at dksX1_ask_0 1 rfl rfl)
theorem dX1_ask_2 : decode cX1_ask 2 = .ok (.invokestatic 344, 3) := dk_184 1 88 (dk_at dksX1_ask_0 2 rfl rfl)
theorem dX1_ask_5 : decode cX1_ask 5 = .ok (.invokevirtual 183, 3) := dk_182 0 183 (dk_at dksX1_ask_0 5 rfl rfl)
theorem dX1_ask_8 : decode cX1_ask 8 = .ok (.iconst (-1), 1) := dk_2 (dk_at dksX1_ask_0 8 rfl rfl)
theorem dX1_ask_9 : decode cX1_ask 9 = .ok (.istore_n 2, 1) := dk_61 (dk_at dksX1_ask_0 9 rfl rfl)
theorem dX1_ask_10 : decode cX1_ask 10 = .ok (.iconst (-1), 1) := dk_2 (dk_at dksX1_ask_0 10 rfl rfl)
theorem dX1_ask_11 : decode cX1_ask 11 = .ok (.istore_n 3, 1) := dk_62 (dk_at dksX1_ask_0 11 rfl rfl)
theorem dX1_ask_12 : decode cX1_ask 12 = .ok (.iconst 0, 1) := dk_3 (dk_at dksX1_ask_0 12 rfl rfl)
theorem dX1_ask_13 : decode cX1_ask 13 = .ok (.istore 4, 2) := dk_54 4 (dk_at dksX1_ask_0 13 rfl rfl)
theorem dX1_ask_15 : decode cX1_ask 15 = .ok (.iload 4, 2) := dk_21 4 (dk_at dksX1_ask_0 15 rfl rfl)
theorem dX1_ask_17 : decode cX1_ask 17 = .ok (.aload_n 0, 1) := dk_42 (dk_at dksX1_ask_0 17 rfl rfl)
theorem dX1_ask_18 : decode cX1_ask 18 = .ok (.invokevirtual 165, 3) := dk_182 0 165 (dk_at dksX1_ask_0 18 rfl rfl)
theorem dX1_ask_21 : decode cX1_ask 21 = .ok (.if_icmp .ge 51, 3) := dk_162 0 51 (dk_at dksX1_ask_0 21 rfl rfl)
theorem dX1_ask_24 : decode cX1_ask 24 = .ok (.aload_n 0, 1) := dk_42 (dk_at dksX1_ask_1 0 rfl rfl)
theorem dX1_ask_25 : decode cX1_ask 25 = .ok (.getfield 47, 3) := dk_180 0 47 (dk_at dksX1_ask_1 1 rfl rfl)
theorem dX1_ask_28 : decode cX1_ask 28 = .ok (.iload 4, 2) := dk_21 4 (dk_at dksX1_ask_1 4 rfl rfl)
theorem dX1_ask_30 : decode cX1_ask 30 = .ok (.iaload, 1) := dk_46 (dk_at dksX1_ask_1 6 rfl rfl)
theorem dX1_ask_31 : decode cX1_ask 31 = .ok (.iconst (-1), 1) := dk_2 (dk_at dksX1_ask_1 7 rfl rfl)
theorem dX1_ask_32 : decode cX1_ask 32 = .ok (.if_icmp .eq 6, 3) := dk_159 0 6 (dk_at dksX1_ask_1 8 rfl rfl)
theorem dX1_ask_35 : decode cX1_ask 35 = .ok (.goto 31, 3) := dk_167 0 31 (dk_at dksX1_ask_1 11 rfl rfl)
theorem dX1_ask_38 : decode cX1_ask 38 = .ok (.aload_n 0, 1) := dk_42 (dk_at dksX1_ask_1 14 rfl rfl)
theorem dX1_ask_39 : decode cX1_ask 39 = .ok (.iload 4, 2) := dk_21 4 (dk_at dksX1_ask_1 15 rfl rfl)
theorem dX1_ask_41 : decode cX1_ask 41 = .ok (.invokevirtual 371, 3) := dk_182 1 115 (dk_at dksX1_ask_1 17 rfl rfl)
theorem dX1_ask_44 : decode cX1_ask 44 = .ok (.istore 5, 2) := dk_54 5 (dk_at dksX1_ask_1 20 rfl rfl)
theorem dX1_ask_46 : decode cX1_ask 46 = .ok (.iload_n 2, 1) := dk_28 (dk_at dksX1_ask_1 22 rfl rfl)
theorem dX1_ask_47 : decode cX1_ask 47 = .ok (.iconst (-1), 1) := dk_2 (dk_at dksX1_ask_1 23 rfl rfl)
theorem dX1_ask_48 : decode cX1_ask 48 = .ok (.if_icmp .eq 12, 3) := dk_159 0 12 (dk_at dksX1_ask_2 0 rfl rfl)
theorem dX1_ask_51 : decode cX1_ask 51 = .ok (.iload 5, 2) := dk_21 5 (dk_at dksX1_ask_2 3 rfl rfl)
theorem dX1_ask_53 : decode cX1_ask 53 = .ok (.iload_n 3, 1) := dk_29 (dk_at dksX1_ask_2 5 rfl rfl)
theorem dX1_ask_54 : decode cX1_ask 54 = .ok (.if_icmp .lt 6, 3) := dk_161 0 6 (dk_at dksX1_ask_2 6 rfl rfl)
theorem dX1_ask_57 : decode cX1_ask 57 = .ok (.goto 9, 3) := dk_167 0 9 (dk_at dksX1_ask_2 9 rfl rfl)
theorem dX1_ask_60 : decode cX1_ask 60 = .ok (.iload 4, 2) := dk_21 4 (dk_at dksX1_ask_2 12 rfl rfl)
theorem dX1_ask_62 : decode cX1_ask 62 = .ok (.istore_n 2, 1) := dk_61 (dk_at dksX1_ask_2 14 rfl rfl)
theorem dX1_ask_63 : decode cX1_ask 63 = .ok (.iload 5, 2) := dk_21 5 (dk_at dksX1_ask_2 15 rfl rfl)
theorem dX1_ask_65 : decode cX1_ask 65 = .ok (.istore_n 3, 1) := dk_62 (dk_at dksX1_ask_2 17 rfl rfl)
theorem dX1_ask_66 : decode cX1_ask 66 = .ok (.iinc 4 1, 3) := dk_132 4 1 (dk_at dksX1_ask_2 18 rfl rfl)
theorem dX1_ask_69 : decode cX1_ask 69 = .ok (.goto (-54), 3) := dk_167 255 202 (dk_at dksX1_ask_2 21 rfl rfl)
theorem dX1_ask_72 : decode cX1_ask 72 = .ok (.iload_n 1, 1) := dk_27 (dk_at dksX1_ask_3 0 rfl rfl)
theorem dX1_ask_73 : decode cX1_ask 73 = .ok (.ifCond .ne 7, 3) := dk_154 0 7 (dk_at dksX1_ask_3 1 rfl rfl)
theorem dX1_ask_76 : decode cX1_ask 76 = .ok (.iload_n 2, 1) := dk_28 (dk_at dksX1_ask_3 4 rfl rfl)
theorem dX1_ask_77 : decode cX1_ask 77 = .ok (.goto 4, 3) := dk_167 0 4 (dk_at dksX1_ask_3 5 rfl rfl)
theorem dX1_ask_80 : decode cX1_ask 80 = .ok (.iload_n 3, 1) := dk_29 (dk_at dksX1_ask_3 8 rfl rfl)
theorem dX1_ask_81 : decode cX1_ask 81 = .ok (.ireturn, 1) := dk_172 (dk_at dksX1_ask_3 9 rfl rfl)
def dkwX1_worstAt_3 : List UInt8 := [180, 0, 95, 21, 4, 46, 184, 0, 149, 61, 132, 3, 1, 167, 255, 198, 28, 172]
abbrev dktX1_worstAt_3 : List UInt8 := dkwX1_worstAt_3 ++ []
def dkwX1_worstAt_2 : List UInt8 := [167, 0, 34, 42, 27, 29, 182, 1, 109, 54, 4, 42, 180, 0, 95, 21, 4, 92, 46, 4, 96, 79, 28, 42]
abbrev dktX1_worstAt_2 : List UInt8 := dkwX1_worstAt_2 ++ dktX1_worstAt_3
def dkwX1_worstAt_1 : List UInt8 := [62, 29, 4, 42, 180, 0, 31, 180, 0, 158, 120, 162, 0, 51, 42, 29, 182, 1, 112, 154, 0, 6]
abbrev dktX1_worstAt_1 : List UInt8 := dkwX1_worstAt_1 ++ dktX1_worstAt_2
def dkwX1_worstAt_0 : List UInt8 := [3, 61, 28, 16, 99, 163, 0, 16, 42, 180, 0, 95, 28, 3, 79, 132, 2, 1, 167, 255, 240, 3, 61, 3]
abbrev dktX1_worstAt_0 : List UInt8 := dkwX1_worstAt_0 ++ dktX1_worstAt_1
theorem dksX1_worstAt_0 : cX1_worstAt.data.toList.drop 0 = dktX1_worstAt_0 := by decide +kernel
theorem dksX1_worstAt_1 : cX1_worstAt.data.toList.drop 24 = dktX1_worstAt_1 := dk_seg dksX1_worstAt_0 24 rfl rfl
theorem dksX1_worstAt_2 : cX1_worstAt.data.toList.drop 46 = dktX1_worstAt_2 := dk_seg dksX1_worstAt_1 22 rfl rfl
theorem dksX1_worstAt_3 : cX1_worstAt.data.toList.drop 70 = dktX1_worstAt_3 := dk_seg dksX1_worstAt_2 24 rfl rfl
theorem dX1_worstAt_0 : decode cX1_worstAt 0 = .ok (.iconst 0, 1) := dk_3 (dk_at dksX1_worstAt_0 0 rfl rfl)
theorem dX1_worstAt_1 : decode cX1_worstAt 1 = .ok (.istore_n 2, 1) := dk_61 (dk_at dksX1_worstAt_0 1 rfl rfl)
theorem dX1_worstAt_2 : decode cX1_worstAt 2 = .ok (.iload_n 2, 1) := dk_28 (dk_at dksX1_worstAt_0 2 rfl rfl)
theorem dX1_worstAt_3 : decode cX1_worstAt 3 = .ok (.bipush 99, 2) := dk_16 99 (dk_at dksX1_worstAt_0 3 rfl rfl)
theorem dX1_worstAt_5 : decode cX1_worstAt 5 = .ok (.if_icmp .gt 16, 3) := dk_163 0 16 (dk_at dksX1_worstAt_0 5 rfl rfl)
theorem dX1_worstAt_8 : decode cX1_worstAt 8 = .ok (.aload_n 0, 1) := dk_42 (dk_at dksX1_worstAt_0 8 rfl rfl)
theorem dX1_worstAt_9 : decode cX1_worstAt 9 = .ok (.getfield 95, 3) := dk_180 0 95 (dk_at dksX1_worstAt_0 9 rfl rfl)
theorem dX1_worstAt_12 : decode cX1_worstAt 12 = .ok (.iload_n 2, 1) := dk_28 (dk_at dksX1_worstAt_0 12 rfl rfl)
theorem dX1_worstAt_13 : decode cX1_worstAt 13 = .ok (.iconst 0, 1) := dk_3 (dk_at dksX1_worstAt_0 13 rfl rfl)
theorem dX1_worstAt_14 : decode cX1_worstAt 14 = .ok (.iastore, 1) := dk_79 (dk_at dksX1_worstAt_0 14 rfl rfl)
theorem dX1_worstAt_15 : decode cX1_worstAt 15 = .ok (.iinc 2 1, 3) := dk_132 2 1 (dk_at dksX1_worstAt_0 15 rfl rfl)
theorem dX1_worstAt_18 : decode cX1_worstAt 18 = .ok (.goto (-16), 3) := dk_167 255 240 (dk_at dksX1_worstAt_0 18 rfl rfl)
theorem dX1_worstAt_21 : decode cX1_worstAt 21 = .ok (.iconst 0, 1) := dk_3 (dk_at dksX1_worstAt_0 21 rfl rfl)
theorem dX1_worstAt_22 : decode cX1_worstAt 22 = .ok (.istore_n 2, 1) := dk_61 (dk_at dksX1_worstAt_0 22 rfl rfl)
theorem dX1_worstAt_23 : decode cX1_worstAt 23 = .ok (.iconst 0, 1) := dk_3 (dk_at dksX1_worstAt_0 23 rfl rfl)
theorem dX1_worstAt_24 : decode cX1_worstAt 24 = .ok (.istore_n 3, 1) := dk_62 (dk_at dksX1_worstAt_1 0 rfl rfl)
theorem dX1_worstAt_25 : decode cX1_worstAt 25 = .ok (.iload_n 3, 1) := dk_29 (dk_at dksX1_worstAt_1 1 rfl rfl)
theorem dX1_worstAt_26 : decode cX1_worstAt 26 = .ok (.iconst 1, 1) := dk_4 (dk_at dksX1_worstAt_1 2 rfl rfl)
theorem dX1_worstAt_27 : decode cX1_worstAt 27 = .ok (.aload_n 0, 1) := dk_42 (dk_at dksX1_worstAt_1 3 rfl rfl)
theorem dX1_worstAt_28 : decode cX1_worstAt 28 = .ok (.getfield 31, 3) := dk_180 0 31 (dk_at dksX1_worstAt_1 4 rfl rfl)
theorem dX1_worstAt_31 : decode cX1_worstAt 31 = .ok (.getfield 158, 3) := dk_180 0 158 (dk_at dksX1_worstAt_1 7 rfl rfl)
theorem dX1_worstAt_34 : decode cX1_worstAt 34 = .ok (.ishl, 1) := dk_120 (dk_at dksX1_worstAt_1 10 rfl rfl)
theorem dX1_worstAt_35 : decode cX1_worstAt 35 = .ok (.if_icmp .ge 51, 3) := dk_162 0 51 (dk_at dksX1_worstAt_1 11 rfl rfl)
theorem dX1_worstAt_38 : decode cX1_worstAt 38 = .ok (.aload_n 0, 1) := dk_42 (dk_at dksX1_worstAt_1 14 rfl rfl)
theorem dX1_worstAt_39 : decode cX1_worstAt 39 = .ok (.iload_n 3, 1) := dk_29 (dk_at dksX1_worstAt_1 15 rfl rfl)
theorem dX1_worstAt_40 : decode cX1_worstAt 40 = .ok (.invokevirtual 368, 3) := dk_182 1 112 (dk_at dksX1_worstAt_1 16 rfl rfl)
theorem dX1_worstAt_43 : decode cX1_worstAt 43 = .ok (.ifCond .ne 6, 3) := dk_154 0 6 (dk_at dksX1_worstAt_1 19 rfl rfl)
theorem dX1_worstAt_46 : decode cX1_worstAt 46 = .ok (.goto 34, 3) := dk_167 0 34 (dk_at dksX1_worstAt_2 0 rfl rfl)
theorem dX1_worstAt_49 : decode cX1_worstAt 49 = .ok (.aload_n 0, 1) := dk_42 (dk_at dksX1_worstAt_2 3 rfl rfl)
theorem dX1_worstAt_50 : decode cX1_worstAt 50 = .ok (.iload_n 1, 1) := dk_27 (dk_at dksX1_worstAt_2 4 rfl rfl)
theorem dX1_worstAt_51 : decode cX1_worstAt 51 = .ok (.iload_n 3, 1) := dk_29 (dk_at dksX1_worstAt_2 5 rfl rfl)
theorem dX1_worstAt_52 : decode cX1_worstAt 52 = .ok (.invokevirtual 365, 3) := dk_182 1 109 (dk_at dksX1_worstAt_2 6 rfl rfl)
theorem dX1_worstAt_55 : decode cX1_worstAt 55 = .ok (.istore 4, 2) := dk_54 4 (dk_at dksX1_worstAt_2 9 rfl rfl)
theorem dX1_worstAt_57 : decode cX1_worstAt 57 = .ok (.aload_n 0, 1) := dk_42 (dk_at dksX1_worstAt_2 11 rfl rfl)
theorem dX1_worstAt_58 : decode cX1_worstAt 58 = .ok (.getfield 95, 3) := dk_180 0 95 (dk_at dksX1_worstAt_2 12 rfl rfl)
theorem dX1_worstAt_61 : decode cX1_worstAt 61 = .ok (.iload 4, 2) := dk_21 4 (dk_at dksX1_worstAt_2 15 rfl rfl)
theorem dX1_worstAt_63 : decode cX1_worstAt 63 = .ok (.dup2, 1) := dk_92 (dk_at dksX1_worstAt_2 17 rfl rfl)
theorem dX1_worstAt_64 : decode cX1_worstAt 64 = .ok (.iaload, 1) := dk_46 (dk_at dksX1_worstAt_2 18 rfl rfl)
theorem dX1_worstAt_65 : decode cX1_worstAt 65 = .ok (.iconst 1, 1) := dk_4 (dk_at dksX1_worstAt_2 19 rfl rfl)
theorem dX1_worstAt_66 : decode cX1_worstAt 66 = .ok (.iadd, 1) := dk_96 (dk_at dksX1_worstAt_2 20 rfl rfl)
theorem dX1_worstAt_67 : decode cX1_worstAt 67 = .ok (.iastore, 1) := dk_79 (dk_at dksX1_worstAt_2 21 rfl rfl)
theorem dX1_worstAt_68 : decode cX1_worstAt 68 = .ok (.iload_n 2, 1) := dk_28 (dk_at dksX1_worstAt_2 22 rfl rfl)
theorem dX1_worstAt_69 : decode cX1_worstAt 69 = .ok (.aload_n 0, 1) := dk_42 (dk_at dksX1_worstAt_2 23 rfl rfl)
theorem dX1_worstAt_70 : decode cX1_worstAt 70 = .ok (.getfield 95, 3) := dk_180 0 95 (dk_at dksX1_worstAt_3 0 rfl rfl)
theorem dX1_worstAt_73 : decode cX1_worstAt 73 = .ok (.iload 4, 2) := dk_21 4 (dk_at dksX1_worstAt_3 3 rfl rfl)
theorem dX1_worstAt_75 : decode cX1_worstAt 75 = .ok (.iaload, 1) := dk_46 (dk_at dksX1_worstAt_3 5 rfl rfl)
theorem dX1_worstAt_76 : decode cX1_worstAt 76 = .ok (.invokestatic 149, 3) := dk_184 0 149 (dk_at dksX1_worstAt_3 6 rfl rfl)
theorem dX1_worstAt_79 : decode cX1_worstAt 79 = .ok (.istore_n 2, 1) := dk_61 (dk_at dksX1_worstAt_3 9 rfl rfl)
theorem dX1_worstAt_80 : decode cX1_worstAt 80 = .ok (.iinc 3 1, 3) := dk_132 3 1 (dk_at dksX1_worstAt_3 10 rfl rfl)
theorem dX1_worstAt_83 : decode cX1_worstAt 83 = .ok (.goto (-58), 3) := dk_167 255 198 (dk_at dksX1_worstAt_3 13 rfl rfl)
theorem dX1_worstAt_86 : decode cX1_worstAt 86 = .ok (.iload_n 2, 1) := dk_28 (dk_at dksX1_worstAt_3 16 rfl rfl)
theorem dX1_worstAt_87 : decode cX1_worstAt 87 = .ok (.ireturn, 1) := dk_172 (dk_at dksX1_worstAt_3 17 rfl rfl)
def dkwX1_best_3 : List UInt8 := [180, 1, 46, 46, 42, 180, 0, 58, 180, 1, 0, 28, 182, 1, 124, 28, 184, 1, 120, 29, 184, 1, 131, 173]
abbrev dktX1_best_3 : List UInt8 := dkwX1_best_3 ++ []
def dkwX1_best_2 : List UInt8 := [27, 42, 180, 0, 58, 180, 1, 55, 27, 46, 42, 180, 0, 58, 180, 1, 23, 42, 27, 182, 1, 42]
abbrev dktX1_best_2 : List UInt8 := dkwX1_best_2 ++ dktX1_best_3
def dkwX1_best_1 : List UInt8 := [167, 0, 4, 3, 182, 0, 183, 42, 180, 0, 58, 180, 1, 55, 27, 46, 2, 160, 0, 6, 29, 133, 173, 42]
abbrev dktX1_best_1 : List UInt8 := dkwX1_best_1 ++ dktX1_best_2
def dkwX1_best_0 : List UInt8 := [42, 27, 182, 1, 39, 42, 28, 3, 16, 6, 184, 0, 252, 153, 0, 14, 29, 184, 1, 88, 153, 0, 7, 4]
abbrev dktX1_best_0 : List UInt8 := dkwX1_best_0 ++ dktX1_best_1
theorem dksX1_best_0 : cX1_best.data.toList.drop 0 = dktX1_best_0 := by decide +kernel
theorem dksX1_best_1 : cX1_best.data.toList.drop 24 = dktX1_best_1 := dk_seg dksX1_best_0 24 rfl rfl
theorem dksX1_best_2 : cX1_best.data.toList.drop 48 = dktX1_best_2 := dk_seg dksX1_best_1 24 rfl rfl
theorem dksX1_best_3 : cX1_best.data.toList.drop 70 = dktX1_best_3 := dk_seg dksX1_best_2 22 rfl rfl
theorem dX1_best_0 : decode cX1_best 0 = .ok (.aload_n 0, 1) := dk_42 (dk_at dksX1_best_0 0 rfl rfl)
theorem dX1_best_1 : decode cX1_best 1 = .ok (.iload_n 1, 1) := dk_27 (dk_at dksX1_best_0 1 rfl rfl)
theorem dX1_best_2 : decode cX1_best 2 = .ok (.invokevirtual 295, 3) := dk_182 1 39 (dk_at dksX1_best_0 2 rfl rfl)
theorem dX1_best_5 : decode cX1_best 5 = .ok (.aload_n 0, 1) := dk_42 (dk_at dksX1_best_0 5 rfl rfl)
theorem dX1_best_6 : decode cX1_best 6 = .ok (.iload_n 2, 1) := dk_28 (dk_at dksX1_best_0 6 rfl rfl)
theorem dX1_best_7 : decode cX1_best 7 = .ok (.iconst 0, 1) := dk_3 (dk_at dksX1_best_0 7 rfl rfl)
theorem dX1_best_8 : decode cX1_best 8 = .ok (.bipush 6, 2) := dk_16 6 (dk_at dksX1_best_0 8 rfl rfl)
theorem dX1_best_10 : decode cX1_best 10 = .ok (.invokestatic 252, 3) := dk_184 0 252 (dk_at dksX1_best_0 10 rfl rfl)
theorem dX1_best_13 : decode cX1_best 13 = .ok (.ifCond .eq 14, 3) := dk_153 0 14 (dk_at dksX1_best_0 13 rfl rfl)
theorem dX1_best_16 : decode cX1_best 16 = .ok (.iload_n 3, 1) := dk_29 (dk_at dksX1_best_0 16 rfl rfl)
theorem dX1_best_17 : decode cX1_best 17 = .ok (.invokestatic 344, 3) := dk_184 1 88 (dk_at dksX1_best_0 17 rfl rfl)
theorem dX1_best_20 : decode cX1_best 20 = .ok (.ifCond .eq 7, 3) := dk_153 0 7 (dk_at dksX1_best_0 20 rfl rfl)
theorem dX1_best_23 : decode cX1_best 23 = .ok (.iconst 1, 1) := dk_4 (dk_at dksX1_best_0 23 rfl rfl)
theorem dX1_best_24 : decode cX1_best 24 = .ok (.goto 4, 3) := dk_167 0 4 (dk_at dksX1_best_1 0 rfl rfl)
theorem dX1_best_27 : decode cX1_best 27 = .ok (.iconst 0, 1) := dk_3 (dk_at dksX1_best_1 3 rfl rfl)
theorem dX1_best_28 : decode cX1_best 28 = .ok (.invokevirtual 183, 3) := dk_182 0 183 (dk_at dksX1_best_1 4 rfl rfl)
theorem dX1_best_31 : decode cX1_best 31 = .ok (.aload_n 0, 1) := dk_42 (dk_at dksX1_best_1 7 rfl rfl)
theorem dX1_best_32 : decode cX1_best 32 = .ok (.getfield 58, 3) := dk_180 0 58 (dk_at dksX1_best_1 8 rfl rfl)
theorem dX1_best_35 : decode cX1_best 35 = .ok (.getfield 311, 3) := dk_180 1 55 (dk_at dksX1_best_1 11 rfl rfl)
theorem dX1_best_38 : decode cX1_best 38 = .ok (.iload_n 1, 1) := dk_27 (dk_at dksX1_best_1 14 rfl rfl)
theorem dX1_best_39 : decode cX1_best 39 = .ok (.iaload, 1) := dk_46 (dk_at dksX1_best_1 15 rfl rfl)
theorem dX1_best_40 : decode cX1_best 40 = .ok (.iconst (-1), 1) := dk_2 (dk_at dksX1_best_1 16 rfl rfl)
theorem dX1_best_41 : decode cX1_best 41 = .ok (.if_icmp .ne 6, 3) := dk_160 0 6 (dk_at dksX1_best_1 17 rfl rfl)
theorem dX1_best_44 : decode cX1_best 44 = .ok (.iload_n 3, 1) := dk_29 (dk_at dksX1_best_1 20 rfl rfl)
theorem dX1_best_45 : decode cX1_best 45 = .ok (.i2l, 1) := dk_133 (dk_at dksX1_best_1 21 rfl rfl)
theorem dX1_best_46 : decode cX1_best 46 = .ok (.lreturn, 1) := dk_173 (dk_at dksX1_best_1 22 rfl rfl)
theorem dX1_best_47 : decode cX1_best 47 = .ok (.aload_n 0, 1) := dk_42 (dk_at dksX1_best_1 23 rfl rfl)
theorem dX1_best_48 : decode cX1_best 48 = .ok (.iload_n 1, 1) := dk_27 (dk_at dksX1_best_2 0 rfl rfl)
theorem dX1_best_49 : decode cX1_best 49 = .ok (.aload_n 0, 1) := dk_42 (dk_at dksX1_best_2 1 rfl rfl)
theorem dX1_best_50 : decode cX1_best 50 = .ok (.getfield 58, 3) := dk_180 0 58 (dk_at dksX1_best_2 2 rfl rfl)
theorem dX1_best_53 : decode cX1_best 53 = .ok (.getfield 311, 3) := dk_180 1 55 (dk_at dksX1_best_2 5 rfl rfl)
theorem dX1_best_56 : decode cX1_best 56 = .ok (.iload_n 1, 1) := dk_27 (dk_at dksX1_best_2 8 rfl rfl)
theorem dX1_best_57 : decode cX1_best 57 = .ok (.iaload, 1) := dk_46 (dk_at dksX1_best_2 9 rfl rfl)
theorem dX1_best_58 : decode cX1_best 58 = .ok (.aload_n 0, 1) := dk_42 (dk_at dksX1_best_2 10 rfl rfl)
theorem dX1_best_59 : decode cX1_best 59 = .ok (.getfield 58, 3) := dk_180 0 58 (dk_at dksX1_best_2 11 rfl rfl)
theorem dX1_best_62 : decode cX1_best 62 = .ok (.getfield 279, 3) := dk_180 1 23 (dk_at dksX1_best_2 14 rfl rfl)
theorem dX1_best_65 : decode cX1_best 65 = .ok (.aload_n 0, 1) := dk_42 (dk_at dksX1_best_2 17 rfl rfl)
theorem dX1_best_66 : decode cX1_best 66 = .ok (.iload_n 1, 1) := dk_27 (dk_at dksX1_best_2 18 rfl rfl)
theorem dX1_best_67 : decode cX1_best 67 = .ok (.invokevirtual 298, 3) := dk_182 1 42 (dk_at dksX1_best_2 19 rfl rfl)
theorem dX1_best_70 : decode cX1_best 70 = .ok (.getfield 302, 3) := dk_180 1 46 (dk_at dksX1_best_3 0 rfl rfl)
theorem dX1_best_73 : decode cX1_best 73 = .ok (.iaload, 1) := dk_46 (dk_at dksX1_best_3 3 rfl rfl)
theorem dX1_best_74 : decode cX1_best 74 = .ok (.aload_n 0, 1) := dk_42 (dk_at dksX1_best_3 4 rfl rfl)
theorem dX1_best_75 : decode cX1_best 75 = .ok (.getfield 58, 3) := dk_180 0 58 (dk_at dksX1_best_3 5 rfl rfl)
theorem dX1_best_78 : decode cX1_best 78 = .ok (.getfield 256, 3) := dk_180 1 0 (dk_at dksX1_best_3 8 rfl rfl)
theorem dX1_best_81 : decode cX1_best 81 = .ok (.iload_n 2, 1) := dk_28 (dk_at dksX1_best_3 11 rfl rfl)
theorem dX1_best_82 : decode cX1_best 82 = .ok (.invokevirtual 380, 3) := dk_182 1 124 (dk_at dksX1_best_3 12 rfl rfl)
theorem dX1_best_85 : decode cX1_best 85 = .ok (.iload_n 2, 1) := dk_28 (dk_at dksX1_best_3 15 rfl rfl)
theorem dX1_best_86 : decode cX1_best 86 = .ok (.invokestatic 376, 3) := dk_184 1 120 (dk_at dksX1_best_3 16 rfl rfl)
theorem dX1_best_89 : decode cX1_best 89 = .ok (.iload_n 3, 1) := dk_29 (dk_at dksX1_best_3 19 rfl rfl)
theorem dX1_best_90 : decode cX1_best 90 = .ok (.invokestatic 387, 3) := dk_184 1 131 (dk_at dksX1_best_3 20 rfl rfl)
theorem dX1_best_93 : decode cX1_best 93 = .ok (.lreturn, 1) := dk_173 (dk_at dksX1_best_3 23 rfl rfl)
def dkwX1_bestOn_5 : List UInt8 := [182, 1, 124, 105, 97, 55, 10, 22, 8, 22, 10, 184, 1, 128, 173]
abbrev dktX1_bestOn_5 : List UInt8 := dkwX1_bestOn_5 ++ []
def dkwX1_bestOn_4 : List UInt8 := [182, 1, 124, 105, 16, 16, 21, 7, 100, 133, 42, 27, 28, 4, 96, 29, 21, 4, 4, 96, 21, 5, 4, 100]
abbrev dktX1_bestOn_4 : List UInt8 := dkwX1_bestOn_4 ++ dktX1_bestOn_5
def dkwX1_bestOn_3 : List UInt8 := [173, 21, 7, 133, 42, 27, 28, 5, 108, 4, 96, 29, 4, 96, 21, 4, 4, 96, 21, 5, 4, 100]
abbrev dktX1_bestOn_3 : List UInt8 := dkwX1_bestOn_3 ++ dktX1_bestOn_4
def dkwX1_bestOn_2 : List UInt8 := [182, 1, 103, 25, 6, 180, 1, 46, 21, 4, 182, 1, 78, 133, 105, 55, 8, 21, 5, 154, 0, 6, 22, 8]
abbrev dktX1_bestOn_2 : List UInt8 := dkwX1_bestOn_2 ++ dktX1_bestOn_3
def dkwX1_bestOn_1 : List UInt8 := [184, 1, 120, 42, 25, 6, 180, 1, 52, 28, 29, 21, 7, 25, 6, 180, 1, 49, 42, 180, 0, 58, 27]
abbrev dktX1_bestOn_1 : List UInt8 := dkwX1_bestOn_1 ++ dktX1_bestOn_2
def dkwX1_bestOn_0 : List UInt8 := [42, 27, 182, 1, 42, 58, 6, 42, 180, 0, 31, 180, 1, 20, 25, 6, 180, 1, 46, 46, 54, 7, 21, 5]
abbrev dktX1_bestOn_0 : List UInt8 := dkwX1_bestOn_0 ++ dktX1_bestOn_1
theorem dksX1_bestOn_0 : cX1_bestOn.data.toList.drop 0 = dktX1_bestOn_0 := by decide +kernel
theorem dksX1_bestOn_1 : cX1_bestOn.data.toList.drop 24 = dktX1_bestOn_1 := dk_seg dksX1_bestOn_0 24 rfl rfl
theorem dksX1_bestOn_2 : cX1_bestOn.data.toList.drop 47 = dktX1_bestOn_2 := dk_seg dksX1_bestOn_1 23 rfl rfl
theorem dksX1_bestOn_3 : cX1_bestOn.data.toList.drop 71 = dktX1_bestOn_3 := dk_seg dksX1_bestOn_2 24 rfl rfl
theorem dksX1_bestOn_4 : cX1_bestOn.data.toList.drop 93 = dktX1_bestOn_4 := dk_seg dksX1_bestOn_3 22 rfl rfl
theorem dksX1_bestOn_5 : cX1_bestOn.data.toList.drop 117 = dktX1_bestOn_5 := dk_seg dksX1_bestOn_4 24 rfl rfl
theorem dX1_bestOn_0 : decode cX1_bestOn 0 = .ok (.aload_n 0, 1) := dk_42 (dk_at dksX1_bestOn_0 0 rfl rfl)
theorem dX1_bestOn_1 : decode cX1_bestOn 1 = .ok (.iload_n 1, 1) := dk_27 (dk_at dksX1_bestOn_0 1 rfl rfl)
theorem dX1_bestOn_2 : decode cX1_bestOn 2 = .ok (.invokevirtual 298, 3) := dk_182 1 42 (dk_at dksX1_bestOn_0 2 rfl rfl)
theorem dX1_bestOn_5 : decode cX1_bestOn 5 = .ok (.astore 6, 2) := dk_58 6 (dk_at dksX1_bestOn_0 5 rfl rfl)
theorem dX1_bestOn_7 : decode cX1_bestOn 7 = .ok (.aload_n 0, 1) := dk_42 (dk_at dksX1_bestOn_0 7 rfl rfl)
theorem dX1_bestOn_8 : decode cX1_bestOn 8 = .ok (.getfield 31, 3) := dk_180 0 31 (dk_at dksX1_bestOn_0 8 rfl rfl)
theorem dX1_bestOn_11 : decode cX1_bestOn 11 = .ok (.getfield 276, 3) := dk_180 1 20 (dk_at dksX1_bestOn_0 11 rfl rfl)
theorem dX1_bestOn_14 : decode cX1_bestOn 14 = .ok (.aload 6, 2) := dk_25 6 (dk_at dksX1_bestOn_0 14 rfl rfl)
theorem dX1_bestOn_16 : decode cX1_bestOn 16 = .ok (.getfield 302, 3) := dk_180 1 46 (dk_at dksX1_bestOn_0 16 rfl rfl)
theorem dX1_bestOn_19 : decode cX1_bestOn 19 = .ok (.iaload, 1) := dk_46 (dk_at dksX1_bestOn_0 19 rfl rfl)
theorem dX1_bestOn_20 : decode cX1_bestOn 20 = .ok (.istore 7, 2) := dk_54 7 (dk_at dksX1_bestOn_0 20 rfl rfl)
theorem dX1_bestOn_22 : decode cX1_bestOn 22 = .ok (.iload 5, 2) := dk_21 5 (dk_at dksX1_bestOn_0 22 rfl rfl)
theorem dX1_bestOn_24 : decode cX1_bestOn 24 = .ok (.invokestatic 376, 3) := dk_184 1 120 (dk_at dksX1_bestOn_1 0 rfl rfl)
theorem dX1_bestOn_27 : decode cX1_bestOn 27 = .ok (.aload_n 0, 1) := dk_42 (dk_at dksX1_bestOn_1 3 rfl rfl)
theorem dX1_bestOn_28 : decode cX1_bestOn 28 = .ok (.aload 6, 2) := dk_25 6 (dk_at dksX1_bestOn_1 4 rfl rfl)
theorem dX1_bestOn_30 : decode cX1_bestOn 30 = .ok (.getfield 308, 3) := dk_180 1 52 (dk_at dksX1_bestOn_1 6 rfl rfl)
theorem dX1_bestOn_33 : decode cX1_bestOn 33 = .ok (.iload_n 2, 1) := dk_28 (dk_at dksX1_bestOn_1 9 rfl rfl)
theorem dX1_bestOn_34 : decode cX1_bestOn 34 = .ok (.iload_n 3, 1) := dk_29 (dk_at dksX1_bestOn_1 10 rfl rfl)
theorem dX1_bestOn_35 : decode cX1_bestOn 35 = .ok (.iload 7, 2) := dk_21 7 (dk_at dksX1_bestOn_1 11 rfl rfl)
theorem dX1_bestOn_37 : decode cX1_bestOn 37 = .ok (.aload 6, 2) := dk_25 6 (dk_at dksX1_bestOn_1 13 rfl rfl)
theorem dX1_bestOn_39 : decode cX1_bestOn 39 = .ok (.getfield 305, 3) := dk_180 1 49 (dk_at dksX1_bestOn_1 15 rfl rfl)
theorem dX1_bestOn_42 : decode cX1_bestOn 42 = .ok (.aload_n 0, 1) := dk_42 (dk_at dksX1_bestOn_1 18 rfl rfl)
theorem dX1_bestOn_43 : decode cX1_bestOn 43 = .ok (.getfield 58, 3) := dk_180 0 58 (dk_at dksX1_bestOn_1 19 rfl rfl)
theorem dX1_bestOn_46 : decode cX1_bestOn 46 = .ok (.iload_n 1, 1) := dk_27 (dk_at dksX1_bestOn_1 22 rfl rfl)
theorem dX1_bestOn_47 : decode cX1_bestOn 47 = .ok (.invokevirtual 359, 3) := dk_182 1 103 (dk_at dksX1_bestOn_2 0 rfl rfl)
theorem dX1_bestOn_50 : decode cX1_bestOn 50 = .ok (.aload 6, 2) := dk_25 6 (dk_at dksX1_bestOn_2 3 rfl rfl)
theorem dX1_bestOn_52 : decode cX1_bestOn 52 = .ok (.getfield 302, 3) := dk_180 1 46 (dk_at dksX1_bestOn_2 5 rfl rfl)
theorem dX1_bestOn_55 : decode cX1_bestOn 55 = .ok (.iload 4, 2) := dk_21 4 (dk_at dksX1_bestOn_2 8 rfl rfl)
theorem dX1_bestOn_57 : decode cX1_bestOn 57 = .ok (.invokevirtual 334, 3) := dk_182 1 78 (dk_at dksX1_bestOn_2 10 rfl rfl)
theorem dX1_bestOn_60 : decode cX1_bestOn 60 = .ok (.i2l, 1) := dk_133 (dk_at dksX1_bestOn_2 13 rfl rfl)
theorem dX1_bestOn_61 : decode cX1_bestOn 61 = .ok (.lmul, 1) := dk_105 (dk_at dksX1_bestOn_2 14 rfl rfl)
theorem dX1_bestOn_62 : decode cX1_bestOn 62 = .ok (.lstore 8, 2) := dk_55 8 (dk_at dksX1_bestOn_2 15 rfl rfl)
theorem dX1_bestOn_64 : decode cX1_bestOn 64 = .ok (.iload 5, 2) := dk_21 5 (dk_at dksX1_bestOn_2 17 rfl rfl)
theorem dX1_bestOn_66 : decode cX1_bestOn 66 = .ok (.ifCond .ne 6, 3) := dk_154 0 6 (dk_at dksX1_bestOn_2 19 rfl rfl)
theorem dX1_bestOn_69 : decode cX1_bestOn 69 = .ok (.lload 8, 2) := dk_22 8 (dk_at dksX1_bestOn_2 22 rfl rfl)
theorem dX1_bestOn_71 : decode cX1_bestOn 71 = .ok (.lreturn, 1) := dk_173 (dk_at dksX1_bestOn_3 0 rfl rfl)
theorem dX1_bestOn_72 : decode cX1_bestOn 72 = .ok (.iload 7, 2) := dk_21 7 (dk_at dksX1_bestOn_3 1 rfl rfl)
theorem dX1_bestOn_74 : decode cX1_bestOn 74 = .ok (.i2l, 1) := dk_133 (dk_at dksX1_bestOn_3 3 rfl rfl)
theorem dX1_bestOn_75 : decode cX1_bestOn 75 = .ok (.aload_n 0, 1) := dk_42 (dk_at dksX1_bestOn_3 4 rfl rfl)
theorem dX1_bestOn_76 : decode cX1_bestOn 76 = .ok (.iload_n 1, 1) := dk_27 (dk_at dksX1_bestOn_3 5 rfl rfl)
theorem dX1_bestOn_77 : decode cX1_bestOn 77 = .ok (.iload_n 2, 1) := dk_28 (dk_at dksX1_bestOn_3 6 rfl rfl)
theorem dX1_bestOn_78 : decode cX1_bestOn 78 = .ok (.iconst 2, 1) := dk_5 (dk_at dksX1_bestOn_3 7 rfl rfl)
theorem dX1_bestOn_79 : decode cX1_bestOn 79 = .ok (.idiv, 1) := dk_108 (dk_at dksX1_bestOn_3 8 rfl rfl)
theorem dX1_bestOn_80 : decode cX1_bestOn 80 = .ok (.iconst 1, 1) := dk_4 (dk_at dksX1_bestOn_3 9 rfl rfl)
theorem dX1_bestOn_81 : decode cX1_bestOn 81 = .ok (.iadd, 1) := dk_96 (dk_at dksX1_bestOn_3 10 rfl rfl)
theorem dX1_bestOn_82 : decode cX1_bestOn 82 = .ok (.iload_n 3, 1) := dk_29 (dk_at dksX1_bestOn_3 11 rfl rfl)
theorem dX1_bestOn_83 : decode cX1_bestOn 83 = .ok (.iconst 1, 1) := dk_4 (dk_at dksX1_bestOn_3 12 rfl rfl)
theorem dX1_bestOn_84 : decode cX1_bestOn 84 = .ok (.iadd, 1) := dk_96 (dk_at dksX1_bestOn_3 13 rfl rfl)
theorem dX1_bestOn_85 : decode cX1_bestOn 85 = .ok (.iload 4, 2) := dk_21 4 (dk_at dksX1_bestOn_3 14 rfl rfl)
theorem dX1_bestOn_87 : decode cX1_bestOn 87 = .ok (.iconst 1, 1) := dk_4 (dk_at dksX1_bestOn_3 16 rfl rfl)
theorem dX1_bestOn_88 : decode cX1_bestOn 88 = .ok (.iadd, 1) := dk_96 (dk_at dksX1_bestOn_3 17 rfl rfl)
theorem dX1_bestOn_89 : decode cX1_bestOn 89 = .ok (.iload 5, 2) := dk_21 5 (dk_at dksX1_bestOn_3 18 rfl rfl)
theorem dX1_bestOn_91 : decode cX1_bestOn 91 = .ok (.iconst 1, 1) := dk_4 (dk_at dksX1_bestOn_3 20 rfl rfl)
theorem dX1_bestOn_92 : decode cX1_bestOn 92 = .ok (.isub, 1) := dk_100 (dk_at dksX1_bestOn_3 21 rfl rfl)
theorem dX1_bestOn_93 : decode cX1_bestOn 93 = .ok (.invokevirtual 380, 3) := dk_182 1 124 (dk_at dksX1_bestOn_4 0 rfl rfl)
theorem dX1_bestOn_96 : decode cX1_bestOn 96 = .ok (.lmul, 1) := dk_105 (dk_at dksX1_bestOn_4 3 rfl rfl)
theorem dX1_bestOn_97 : decode cX1_bestOn 97 = .ok (.bipush 16, 2) := dk_16 16 (dk_at dksX1_bestOn_4 4 rfl rfl)
theorem dX1_bestOn_99 : decode cX1_bestOn 99 = .ok (.iload 7, 2) := dk_21 7 (dk_at dksX1_bestOn_4 6 rfl rfl)
theorem dX1_bestOn_101 : decode cX1_bestOn 101 = .ok (.isub, 1) := dk_100 (dk_at dksX1_bestOn_4 8 rfl rfl)
theorem dX1_bestOn_102 : decode cX1_bestOn 102 = .ok (.i2l, 1) := dk_133 (dk_at dksX1_bestOn_4 9 rfl rfl)
theorem dX1_bestOn_103 : decode cX1_bestOn 103 = .ok (.aload_n 0, 1) := dk_42 (dk_at dksX1_bestOn_4 10 rfl rfl)
theorem dX1_bestOn_104 : decode cX1_bestOn 104 = .ok (.iload_n 1, 1) := dk_27 (dk_at dksX1_bestOn_4 11 rfl rfl)
theorem dX1_bestOn_105 : decode cX1_bestOn 105 = .ok (.iload_n 2, 1) := dk_28 (dk_at dksX1_bestOn_4 12 rfl rfl)
theorem dX1_bestOn_106 : decode cX1_bestOn 106 = .ok (.iconst 1, 1) := dk_4 (dk_at dksX1_bestOn_4 13 rfl rfl)
theorem dX1_bestOn_107 : decode cX1_bestOn 107 = .ok (.iadd, 1) := dk_96 (dk_at dksX1_bestOn_4 14 rfl rfl)
theorem dX1_bestOn_108 : decode cX1_bestOn 108 = .ok (.iload_n 3, 1) := dk_29 (dk_at dksX1_bestOn_4 15 rfl rfl)
theorem dX1_bestOn_109 : decode cX1_bestOn 109 = .ok (.iload 4, 2) := dk_21 4 (dk_at dksX1_bestOn_4 16 rfl rfl)
theorem dX1_bestOn_111 : decode cX1_bestOn 111 = .ok (.iconst 1, 1) := dk_4 (dk_at dksX1_bestOn_4 18 rfl rfl)
theorem dX1_bestOn_112 : decode cX1_bestOn 112 = .ok (.iadd, 1) := dk_96 (dk_at dksX1_bestOn_4 19 rfl rfl)
theorem dX1_bestOn_113 : decode cX1_bestOn 113 = .ok (.iload 5, 2) := dk_21 5 (dk_at dksX1_bestOn_4 20 rfl rfl)
theorem dX1_bestOn_115 : decode cX1_bestOn 115 = .ok (.iconst 1, 1) := dk_4 (dk_at dksX1_bestOn_4 22 rfl rfl)
theorem dX1_bestOn_116 : decode cX1_bestOn 116 = .ok (.isub, 1) := dk_100 (dk_at dksX1_bestOn_4 23 rfl rfl)
theorem dX1_bestOn_117 : decode cX1_bestOn 117 = .ok (.invokevirtual 380, 3) := dk_182 1 124 (dk_at dksX1_bestOn_5 0 rfl rfl)
theorem dX1_bestOn_120 : decode cX1_bestOn 120 = .ok (.lmul, 1) := dk_105 (dk_at dksX1_bestOn_5 3 rfl rfl)
theorem dX1_bestOn_121 : decode cX1_bestOn 121 = .ok (.ladd, 1) := dk_97 (dk_at dksX1_bestOn_5 4 rfl rfl)
theorem dX1_bestOn_122 : decode cX1_bestOn 122 = .ok (.lstore 10, 2) := dk_55 10 (dk_at dksX1_bestOn_5 5 rfl rfl)
theorem dX1_bestOn_124 : decode cX1_bestOn 124 = .ok (.lload 8, 2) := dk_22 8 (dk_at dksX1_bestOn_5 7 rfl rfl)
theorem dX1_bestOn_126 : decode cX1_bestOn 126 = .ok (.lload 10, 2) := dk_22 10 (dk_at dksX1_bestOn_5 9 rfl rfl)
theorem dX1_bestOn_128 : decode cX1_bestOn 128 = .ok (.invokestatic 384, 3) := dk_184 1 128 (dk_at dksX1_bestOn_5 11 rfl rfl)
theorem dX1_bestOn_131 : decode cX1_bestOn 131 = .ok (.lreturn, 1) := dk_173 (dk_at dksX1_bestOn_5 14 rfl rfl)
def dkwX1_power_0 : List UInt8 := [10, 64, 3, 62, 29, 26, 162, 0, 15, 31, 20, 1, 118, 105, 64, 132, 3, 1, 167, 255, 242, 31, 173]
abbrev dktX1_power_0 : List UInt8 := dkwX1_power_0 ++ []
theorem dksX1_power_0 : cX1_power.data.toList.drop 0 = dktX1_power_0 := by decide +kernel
theorem dX1_power_0 : decode cX1_power 0 = .ok (.lconst 1, 1) := dk_10 (dk_at dksX1_power_0 0 rfl rfl)
theorem dX1_power_1 : decode cX1_power 1 = .ok (.lstore_n 1, 1) := dk_64 (dk_at dksX1_power_0 1 rfl rfl)
theorem dX1_power_2 : decode cX1_power 2 = .ok (.iconst 0, 1) := dk_3 (dk_at dksX1_power_0 2 rfl rfl)
theorem dX1_power_3 : decode cX1_power 3 = .ok (.istore_n 3, 1) := dk_62 (dk_at dksX1_power_0 3 rfl rfl)
theorem dX1_power_4 : decode cX1_power 4 = .ok (.iload_n 3, 1) := dk_29 (dk_at dksX1_power_0 4 rfl rfl)
theorem dX1_power_5 : decode cX1_power 5 = .ok (.iload_n 0, 1) := dk_26 (dk_at dksX1_power_0 5 rfl rfl)
theorem dX1_power_6 : decode cX1_power 6 = .ok (.if_icmp .ge 15, 3) := dk_162 0 15 (dk_at dksX1_power_0 6 rfl rfl)
theorem dX1_power_9 : decode cX1_power 9 = .ok (.lload_n 1, 1) := dk_31 (dk_at dksX1_power_0 9 rfl rfl)
theorem dX1_power_10 : decode cX1_power 10 = .ok (.ldc2_w 374, 3) := dk_20 1 118 (dk_at dksX1_power_0 10 rfl rfl)
theorem dX1_power_13 : decode cX1_power 13 = .ok (.lmul, 1) := dk_105 (dk_at dksX1_power_0 13 rfl rfl)
theorem dX1_power_14 : decode cX1_power 14 = .ok (.lstore_n 1, 1) := dk_64 (dk_at dksX1_power_0 14 rfl rfl)
theorem dX1_power_15 : decode cX1_power 15 = .ok (.iinc 3 1, 3) := dk_132 3 1 (dk_at dksX1_power_0 15 rfl rfl)
theorem dX1_power_18 : decode cX1_power 18 = .ok (.goto (-14), 3) := dk_167 255 242 (dk_at dksX1_power_0 18 rfl rfl)
theorem dX1_power_21 : decode cX1_power 21 = .ok (.lload_n 1, 1) := dk_31 (dk_at dksX1_power_0 21 rfl rfl)
theorem dX1_power_22 : decode cX1_power 22 = .ok (.lreturn, 1) := dk_173 (dk_at dksX1_power_0 22 rfl rfl)
def dkwX1_least_1 : List UInt8 := [22, 9, 55, 7, 167, 255, 234, 21, 4, 154, 0, 7, 30, 167, 0, 4, 32, 22, 5, 109, 173]
abbrev dktX1_least_1 : List UInt8 := dkwX1_least_1 ++ []
def dkwX1_least_0 : List UInt8 := [30, 55, 5, 32, 55, 7, 22, 7, 9, 148, 153, 0, 21, 22, 5, 22, 7, 113, 55, 9, 22, 7, 55, 5]
abbrev dktX1_least_0 : List UInt8 := dkwX1_least_0 ++ dktX1_least_1
theorem dksX1_least_0 : cX1_least.data.toList.drop 0 = dktX1_least_0 := by decide +kernel
theorem dksX1_least_1 : cX1_least.data.toList.drop 24 = dktX1_least_1 := dk_seg dksX1_least_0 24 rfl rfl
theorem dX1_least_0 : decode cX1_least 0 = .ok (.lload_n 0, 1) := dk_30 (dk_at dksX1_least_0 0 rfl rfl)
theorem dX1_least_1 : decode cX1_least 1 = .ok (.lstore 5, 2) := dk_55 5 (dk_at dksX1_least_0 1 rfl rfl)
theorem dX1_least_3 : decode cX1_least 3 = .ok (.lload_n 2, 1) := dk_32 (dk_at dksX1_least_0 3 rfl rfl)
theorem dX1_least_4 : decode cX1_least 4 = .ok (.lstore 7, 2) := dk_55 7 (dk_at dksX1_least_0 4 rfl rfl)
theorem dX1_least_6 : decode cX1_least 6 = .ok (.lload 7, 2) := dk_22 7 (dk_at dksX1_least_0 6 rfl rfl)
theorem dX1_least_8 : decode cX1_least 8 = .ok (.lconst 0, 1) := dk_9 (dk_at dksX1_least_0 8 rfl rfl)
theorem dX1_least_9 : decode cX1_least 9 = .ok (.lcmp, 1) := dk_148 (dk_at dksX1_least_0 9 rfl rfl)
theorem dX1_least_10 : decode cX1_least 10 = .ok (.ifCond .eq 21, 3) := dk_153 0 21 (dk_at dksX1_least_0 10 rfl rfl)
theorem dX1_least_13 : decode cX1_least 13 = .ok (.lload 5, 2) := dk_22 5 (dk_at dksX1_least_0 13 rfl rfl)
theorem dX1_least_15 : decode cX1_least 15 = .ok (.lload 7, 2) := dk_22 7 (dk_at dksX1_least_0 15 rfl rfl)
theorem dX1_least_17 : decode cX1_least 17 = .ok (.lrem, 1) := dk_113 (dk_at dksX1_least_0 17 rfl rfl)
theorem dX1_least_18 : decode cX1_least 18 = .ok (.lstore 9, 2) := dk_55 9 (dk_at dksX1_least_0 18 rfl rfl)
theorem dX1_least_20 : decode cX1_least 20 = .ok (.lload 7, 2) := dk_22 7 (dk_at dksX1_least_0 20 rfl rfl)
theorem dX1_least_22 : decode cX1_least 22 = .ok (.lstore 5, 2) := dk_55 5 (dk_at dksX1_least_0 22 rfl rfl)
theorem dX1_least_24 : decode cX1_least 24 = .ok (.lload 9, 2) := dk_22 9 (dk_at dksX1_least_1 0 rfl rfl)
theorem dX1_least_26 : decode cX1_least 26 = .ok (.lstore 7, 2) := dk_55 7 (dk_at dksX1_least_1 2 rfl rfl)
theorem dX1_least_28 : decode cX1_least 28 = .ok (.goto (-22), 3) := dk_167 255 234 (dk_at dksX1_least_1 4 rfl rfl)
theorem dX1_least_31 : decode cX1_least 31 = .ok (.iload 4, 2) := dk_21 4 (dk_at dksX1_least_1 7 rfl rfl)
theorem dX1_least_33 : decode cX1_least 33 = .ok (.ifCond .ne 7, 3) := dk_154 0 7 (dk_at dksX1_least_1 9 rfl rfl)
theorem dX1_least_36 : decode cX1_least 36 = .ok (.lload_n 0, 1) := dk_30 (dk_at dksX1_least_1 12 rfl rfl)
theorem dX1_least_37 : decode cX1_least 37 = .ok (.goto 4, 3) := dk_167 0 4 (dk_at dksX1_least_1 13 rfl rfl)
theorem dX1_least_40 : decode cX1_least 40 = .ok (.lload_n 2, 1) := dk_32 (dk_at dksX1_least_1 16 rfl rfl)
theorem dX1_least_41 : decode cX1_least 41 = .ok (.lload 5, 2) := dk_22 5 (dk_at dksX1_least_1 17 rfl rfl)
theorem dX1_least_43 : decode cX1_least 43 = .ok (.ldiv, 1) := dk_109 (dk_at dksX1_least_1 19 rfl rfl)
theorem dX1_least_44 : decode cX1_least 44 = .ok (.lreturn, 1) := dk_173 (dk_at dksX1_least_1 20 rfl rfl)
def dkwX1_without_3 : List UInt8 := [184, 1, 120, 29, 184, 1, 131, 173]
abbrev dktX1_without_3 : List UInt8 := dkwX1_without_3 ++ []
def dkwX1_without_2 : List UInt8 := [180, 0, 31, 180, 1, 20, 27, 46, 100, 133, 105, 55, 4, 132, 6, 1, 167, 255, 229, 22, 4, 28]
abbrev dktX1_without_2 : List UInt8 := dkwX1_without_2 ++ dktX1_without_3
def dkwX1_without_1 : List UInt8 := [167, 0, 4, 3, 182, 0, 183, 10, 55, 4, 3, 54, 6, 21, 6, 28, 162, 0, 27, 22, 4, 16, 16, 42]
abbrev dktX1_without_1 : List UInt8 := dkwX1_without_1 ++ dktX1_without_2
def dkwX1_without_0 : List UInt8 := [42, 27, 182, 1, 17, 42, 28, 3, 16, 12, 184, 0, 252, 153, 0, 14, 29, 184, 1, 88, 153, 0, 7, 4]
abbrev dktX1_without_0 : List UInt8 := dkwX1_without_0 ++ dktX1_without_1
theorem dksX1_without_0 : cX1_without.data.toList.drop 0 = dktX1_without_0 := by decide +kernel
theorem dksX1_without_1 : cX1_without.data.toList.drop 24 = dktX1_without_1 := dk_seg dksX1_without_0 24 rfl rfl
theorem dksX1_without_2 : cX1_without.data.toList.drop 48 = dktX1_without_2 := dk_seg dksX1_without_1 24 rfl rfl
theorem dksX1_without_3 : cX1_without.data.toList.drop 70 = dktX1_without_3 := dk_seg dksX1_without_2 22 rfl rfl
theorem dX1_without_0 : decode cX1_without 0 = .ok (.aload_n 0, 1) := dk_42 (dk_at dksX1_without_0 0 rfl rfl)
theorem dX1_without_1 : decode cX1_without 1 = .ok (.iload_n 1, 1) := dk_27 (dk_at dksX1_without_0 1 rfl rfl)
theorem dX1_without_2 : decode cX1_without 2 = .ok (.invokevirtual 273, 3) := dk_182 1 17 (dk_at dksX1_without_0 2 rfl rfl)
theorem dX1_without_5 : decode cX1_without 5 = .ok (.aload_n 0, 1) := dk_42 (dk_at dksX1_without_0 5 rfl rfl)
theorem dX1_without_6 : decode cX1_without 6 = .ok (.iload_n 2, 1) := dk_28 (dk_at dksX1_without_0 6 rfl rfl)
theorem dX1_without_7 : decode cX1_without 7 = .ok (.iconst 0, 1) := dk_3 (dk_at dksX1_without_0 7 rfl rfl)
theorem dX1_without_8 : decode cX1_without 8 = .ok (.bipush 12, 2) := dk_16 12 (dk_at dksX1_without_0 8 rfl rfl)
theorem dX1_without_10 : decode cX1_without 10 = .ok (.invokestatic 252, 3) := dk_184 0 252 (dk_at dksX1_without_0 10 rfl rfl)
theorem dX1_without_13 : decode cX1_without 13 = .ok (.ifCond .eq 14, 3) := dk_153 0 14 (dk_at dksX1_without_0 13 rfl rfl)
theorem dX1_without_16 : decode cX1_without 16 = .ok (.iload_n 3, 1) := dk_29 (dk_at dksX1_without_0 16 rfl rfl)
theorem dX1_without_17 : decode cX1_without 17 = .ok (.invokestatic 344, 3) := dk_184 1 88 (dk_at dksX1_without_0 17 rfl rfl)
theorem dX1_without_20 : decode cX1_without 20 = .ok (.ifCond .eq 7, 3) := dk_153 0 7 (dk_at dksX1_without_0 20 rfl rfl)
theorem dX1_without_23 : decode cX1_without 23 = .ok (.iconst 1, 1) := dk_4 (dk_at dksX1_without_0 23 rfl rfl)
theorem dX1_without_24 : decode cX1_without 24 = .ok (.goto 4, 3) := dk_167 0 4 (dk_at dksX1_without_1 0 rfl rfl)
theorem dX1_without_27 : decode cX1_without 27 = .ok (.iconst 0, 1) := dk_3 (dk_at dksX1_without_1 3 rfl rfl)
theorem dX1_without_28 : decode cX1_without 28 = .ok (.invokevirtual 183, 3) := dk_182 0 183 (dk_at dksX1_without_1 4 rfl rfl)
theorem dX1_without_31 : decode cX1_without 31 = .ok (.lconst 1, 1) := dk_10 (dk_at dksX1_without_1 7 rfl rfl)
theorem dX1_without_32 : decode cX1_without 32 = .ok (.lstore 4, 2) := dk_55 4 (dk_at dksX1_without_1 8 rfl rfl)
theorem dX1_without_34 : decode cX1_without 34 = .ok (.iconst 0, 1) := dk_3 (dk_at dksX1_without_1 10 rfl rfl)
theorem dX1_without_35 : decode cX1_without 35 = .ok (.istore 6, 2) := dk_54 6 (dk_at dksX1_without_1 11 rfl rfl)
theorem dX1_without_37 : decode cX1_without 37 = .ok (.iload 6, 2) := dk_21 6 (dk_at dksX1_without_1 13 rfl rfl)
theorem dX1_without_39 : decode cX1_without 39 = .ok (.iload_n 2, 1) := dk_28 (dk_at dksX1_without_1 15 rfl rfl)
theorem dX1_without_40 : decode cX1_without 40 = .ok (.if_icmp .ge 27, 3) := dk_162 0 27 (dk_at dksX1_without_1 16 rfl rfl)
theorem dX1_without_43 : decode cX1_without 43 = .ok (.lload 4, 2) := dk_22 4 (dk_at dksX1_without_1 19 rfl rfl)
theorem dX1_without_45 : decode cX1_without 45 = .ok (.bipush 16, 2) := dk_16 16 (dk_at dksX1_without_1 21 rfl rfl)
theorem dX1_without_47 : decode cX1_without 47 = .ok (.aload_n 0, 1) := dk_42 (dk_at dksX1_without_1 23 rfl rfl)
theorem dX1_without_48 : decode cX1_without 48 = .ok (.getfield 31, 3) := dk_180 0 31 (dk_at dksX1_without_2 0 rfl rfl)
theorem dX1_without_51 : decode cX1_without 51 = .ok (.getfield 276, 3) := dk_180 1 20 (dk_at dksX1_without_2 3 rfl rfl)
theorem dX1_without_54 : decode cX1_without 54 = .ok (.iload_n 1, 1) := dk_27 (dk_at dksX1_without_2 6 rfl rfl)
theorem dX1_without_55 : decode cX1_without 55 = .ok (.iaload, 1) := dk_46 (dk_at dksX1_without_2 7 rfl rfl)
theorem dX1_without_56 : decode cX1_without 56 = .ok (.isub, 1) := dk_100 (dk_at dksX1_without_2 8 rfl rfl)
theorem dX1_without_57 : decode cX1_without 57 = .ok (.i2l, 1) := dk_133 (dk_at dksX1_without_2 9 rfl rfl)
theorem dX1_without_58 : decode cX1_without 58 = .ok (.lmul, 1) := dk_105 (dk_at dksX1_without_2 10 rfl rfl)
theorem dX1_without_59 : decode cX1_without 59 = .ok (.lstore 4, 2) := dk_55 4 (dk_at dksX1_without_2 11 rfl rfl)
theorem dX1_without_61 : decode cX1_without 61 = .ok (.iinc 6 1, 3) := dk_132 6 1 (dk_at dksX1_without_2 13 rfl rfl)
theorem dX1_without_64 : decode cX1_without 64 = .ok (.goto (-27), 3) := dk_167 255 229 (dk_at dksX1_without_2 16 rfl rfl)
theorem dX1_without_67 : decode cX1_without 67 = .ok (.lload 4, 2) := dk_22 4 (dk_at dksX1_without_2 19 rfl rfl)
theorem dX1_without_69 : decode cX1_without 69 = .ok (.iload_n 2, 1) := dk_28 (dk_at dksX1_without_2 21 rfl rfl)
theorem dX1_without_70 : decode cX1_without 70 = .ok (.invokestatic 376, 3) := dk_184 1 120 (dk_at dksX1_without_3 0 rfl rfl)
theorem dX1_without_73 : decode cX1_without 73 = .ok (.iload_n 3, 1) := dk_29 (dk_at dksX1_without_3 3 rfl rfl)
theorem dX1_without_74 : decode cX1_without 74 = .ok (.invokestatic 387, 3) := dk_184 1 131 (dk_at dksX1_without_3 4 rfl rfl)
theorem dX1_without_77 : decode cX1_without 77 = .ok (.lreturn, 1) := dk_173 (dk_at dksX1_without_3 7 rfl rfl)
def dkwX1_ring_1 : List UInt8 := [61, 28, 2, 160, 0, 5, 2, 172, 28, 27, 160, 0, 5, 29, 172, 132, 3, 1, 167, 255, 223, 2, 172]
abbrev dktX1_ring_1 : List UInt8 := dkwX1_ring_1 ++ []
def dkwX1_ring_0 : List UInt8 := [42, 27, 182, 1, 17, 27, 61, 4, 62, 29, 16, 8, 163, 0, 33, 42, 180, 0, 31, 180, 1, 29, 28, 46]
abbrev dktX1_ring_0 : List UInt8 := dkwX1_ring_0 ++ dktX1_ring_1
theorem dksX1_ring_0 : cX1_ring.data.toList.drop 0 = dktX1_ring_0 := by decide +kernel
theorem dksX1_ring_1 : cX1_ring.data.toList.drop 24 = dktX1_ring_1 := dk_seg dksX1_ring_0 24 rfl rfl
theorem dX1_ring_0 : decode cX1_ring 0 = .ok (.aload_n 0, 1) := dk_42 (dk_at dksX1_ring_0 0 rfl rfl)
theorem dX1_ring_1 : decode cX1_ring 1 = .ok (.iload_n 1, 1) := dk_27 (dk_at dksX1_ring_0 1 rfl rfl)
theorem dX1_ring_2 : decode cX1_ring 2 = .ok (.invokevirtual 273, 3) := dk_182 1 17 (dk_at dksX1_ring_0 2 rfl rfl)
theorem dX1_ring_5 : decode cX1_ring 5 = .ok (.iload_n 1, 1) := dk_27 (dk_at dksX1_ring_0 5 rfl rfl)
theorem dX1_ring_6 : decode cX1_ring 6 = .ok (.istore_n 2, 1) := dk_61 (dk_at dksX1_ring_0 6 rfl rfl)
theorem dX1_ring_7 : decode cX1_ring 7 = .ok (.iconst 1, 1) := dk_4 (dk_at dksX1_ring_0 7 rfl rfl)
theorem dX1_ring_8 : decode cX1_ring 8 = .ok (.istore_n 3, 1) := dk_62 (dk_at dksX1_ring_0 8 rfl rfl)
theorem dX1_ring_9 : decode cX1_ring 9 = .ok (.iload_n 3, 1) := dk_29 (dk_at dksX1_ring_0 9 rfl rfl)
theorem dX1_ring_10 : decode cX1_ring 10 = .ok (.bipush 8, 2) := dk_16 8 (dk_at dksX1_ring_0 10 rfl rfl)
theorem dX1_ring_12 : decode cX1_ring 12 = .ok (.if_icmp .gt 33, 3) := dk_163 0 33 (dk_at dksX1_ring_0 12 rfl rfl)
theorem dX1_ring_15 : decode cX1_ring 15 = .ok (.aload_n 0, 1) := dk_42 (dk_at dksX1_ring_0 15 rfl rfl)
theorem dX1_ring_16 : decode cX1_ring 16 = .ok (.getfield 31, 3) := dk_180 0 31 (dk_at dksX1_ring_0 16 rfl rfl)
theorem dX1_ring_19 : decode cX1_ring 19 = .ok (.getfield 285, 3) := dk_180 1 29 (dk_at dksX1_ring_0 19 rfl rfl)
theorem dX1_ring_22 : decode cX1_ring 22 = .ok (.iload_n 2, 1) := dk_28 (dk_at dksX1_ring_0 22 rfl rfl)
theorem dX1_ring_23 : decode cX1_ring 23 = .ok (.iaload, 1) := dk_46 (dk_at dksX1_ring_0 23 rfl rfl)
theorem dX1_ring_24 : decode cX1_ring 24 = .ok (.istore_n 2, 1) := dk_61 (dk_at dksX1_ring_1 0 rfl rfl)
theorem dX1_ring_25 : decode cX1_ring 25 = .ok (.iload_n 2, 1) := dk_28 (dk_at dksX1_ring_1 1 rfl rfl)
theorem dX1_ring_26 : decode cX1_ring 26 = .ok (.iconst (-1), 1) := dk_2 (dk_at dksX1_ring_1 2 rfl rfl)
theorem dX1_ring_27 : decode cX1_ring 27 = .ok (.if_icmp .ne 5, 3) := dk_160 0 5 (dk_at dksX1_ring_1 3 rfl rfl)
theorem dX1_ring_30 : decode cX1_ring 30 = .ok (.iconst (-1), 1) := dk_2 (dk_at dksX1_ring_1 6 rfl rfl)
theorem dX1_ring_31 : decode cX1_ring 31 = .ok (.ireturn, 1) := dk_172 (dk_at dksX1_ring_1 7 rfl rfl)
theorem dX1_ring_32 : decode cX1_ring 32 = .ok (.iload_n 2, 1) := dk_28 (dk_at dksX1_ring_1 8 rfl rfl)
theorem dX1_ring_33 : decode cX1_ring 33 = .ok (.iload_n 1, 1) := dk_27 (dk_at dksX1_ring_1 9 rfl rfl)
theorem dX1_ring_34 : decode cX1_ring 34 = .ok (.if_icmp .ne 5, 3) := dk_160 0 5 (dk_at dksX1_ring_1 10 rfl rfl)
theorem dX1_ring_37 : decode cX1_ring 37 = .ok (.iload_n 3, 1) := dk_29 (dk_at dksX1_ring_1 13 rfl rfl)
theorem dX1_ring_38 : decode cX1_ring 38 = .ok (.ireturn, 1) := dk_172 (dk_at dksX1_ring_1 14 rfl rfl)
theorem dX1_ring_39 : decode cX1_ring 39 = .ok (.iinc 3 1, 3) := dk_132 3 1 (dk_at dksX1_ring_1 15 rfl rfl)
theorem dX1_ring_42 : decode cX1_ring 42 = .ok (.goto (-33), 3) := dk_167 255 223 (dk_at dksX1_ring_1 18 rfl rfl)
theorem dX1_ring_45 : decode cX1_ring 45 = .ok (.iconst (-1), 1) := dk_2 (dk_at dksX1_ring_1 21 rfl rfl)
theorem dX1_ring_46 : decode cX1_ring 46 = .ok (.ireturn, 1) := dk_172 (dk_at dksX1_ring_1 22 rfl rfl)
def dkwX1_follows_3 : List UInt8 := [172]
abbrev dktX1_follows_3 : List UInt8 := dkwX1_follows_3 ++ []
def dkwX1_follows_2 : List UInt8 := [2, 159, 0, 21, 42, 180, 0, 31, 180, 1, 29, 21, 4, 46, 54, 4, 132, 3, 255, 167, 255, 231, 21, 4]
abbrev dktX1_follows_2 : List UInt8 := dkwX1_follows_2 ++ dktX1_follows_3
def dkwX1_follows_1 : List UInt8 := [167, 0, 14, 16, 8, 28, 16, 8, 100, 17, 3, 72, 112, 96, 62, 27, 54, 4, 29, 158, 0, 27, 21, 4]
abbrev dktX1_follows_1 : List UInt8 := dkwX1_follows_1 ++ dktX1_follows_2
def dkwX1_follows_0 : List UInt8 := [42, 27, 182, 1, 17, 42, 28, 3, 19, 1, 135, 184, 0, 252, 182, 0, 183, 28, 16, 8, 163, 0, 7, 28]
abbrev dktX1_follows_0 : List UInt8 := dkwX1_follows_0 ++ dktX1_follows_1
theorem dksX1_follows_0 : cX1_follows.data.toList.drop 0 = dktX1_follows_0 := by decide +kernel
theorem dksX1_follows_1 : cX1_follows.data.toList.drop 24 = dktX1_follows_1 := dk_seg dksX1_follows_0 24 rfl rfl
theorem dksX1_follows_2 : cX1_follows.data.toList.drop 48 = dktX1_follows_2 := dk_seg dksX1_follows_1 24 rfl rfl
theorem dksX1_follows_3 : cX1_follows.data.toList.drop 72 = dktX1_follows_3 := dk_seg dksX1_follows_2 24 rfl rfl
theorem dX1_follows_0 : decode cX1_follows 0 = .ok (.aload_n 0, 1) := dk_42 (dk_at dksX1_follows_0 0 rfl rfl)
theorem dX1_follows_1 : decode cX1_follows 1 = .ok (.iload_n 1, 1) := dk_27 (dk_at dksX1_follows_0 1 rfl rfl)
theorem dX1_follows_2 : decode cX1_follows 2 = .ok (.invokevirtual 273, 3) := dk_182 1 17 (dk_at dksX1_follows_0 2 rfl rfl)
theorem dX1_follows_5 : decode cX1_follows 5 = .ok (.aload_n 0, 1) := dk_42 (dk_at dksX1_follows_0 5 rfl rfl)
theorem dX1_follows_6 : decode cX1_follows 6 = .ok (.iload_n 2, 1) := dk_28 (dk_at dksX1_follows_0 6 rfl rfl)
theorem dX1_follows_7 : decode cX1_follows 7 = .ok (.iconst 0, 1) := dk_3 (dk_at dksX1_follows_0 7 rfl rfl)
theorem dX1_follows_8 : decode cX1_follows 8 = .ok (.ldc_w 391, 3) := dk_19 1 135 (dk_at dksX1_follows_0 8 rfl rfl)
theorem dX1_follows_11 : decode cX1_follows 11 = .ok (.invokestatic 252, 3) := dk_184 0 252 (dk_at dksX1_follows_0 11 rfl rfl)
theorem dX1_follows_14 : decode cX1_follows 14 = .ok (.invokevirtual 183, 3) := dk_182 0 183 (dk_at dksX1_follows_0 14 rfl rfl)
theorem dX1_follows_17 : decode cX1_follows 17 = .ok (.iload_n 2, 1) := dk_28 (dk_at dksX1_follows_0 17 rfl rfl)
theorem dX1_follows_18 : decode cX1_follows 18 = .ok (.bipush 8, 2) := dk_16 8 (dk_at dksX1_follows_0 18 rfl rfl)
theorem dX1_follows_20 : decode cX1_follows 20 = .ok (.if_icmp .gt 7, 3) := dk_163 0 7 (dk_at dksX1_follows_0 20 rfl rfl)
theorem dX1_follows_23 : decode cX1_follows 23 = .ok (.iload_n 2, 1) := dk_28 (dk_at dksX1_follows_0 23 rfl rfl)
theorem dX1_follows_24 : decode cX1_follows 24 = .ok (.goto 14, 3) := dk_167 0 14 (dk_at dksX1_follows_1 0 rfl rfl)
theorem dX1_follows_27 : decode cX1_follows 27 = .ok (.bipush 8, 2) := dk_16 8 (dk_at dksX1_follows_1 3 rfl rfl)
theorem dX1_follows_29 : decode cX1_follows 29 = .ok (.iload_n 2, 1) := dk_28 (dk_at dksX1_follows_1 5 rfl rfl)
theorem dX1_follows_30 : decode cX1_follows 30 = .ok (.bipush 8, 2) := dk_16 8 (dk_at dksX1_follows_1 6 rfl rfl)
theorem dX1_follows_32 : decode cX1_follows 32 = .ok (.isub, 1) := dk_100 (dk_at dksX1_follows_1 8 rfl rfl)
theorem dX1_follows_33 : decode cX1_follows 33 = .ok (.sipush 840, 3) := dk_17 3 72 (dk_at dksX1_follows_1 9 rfl rfl)
theorem dX1_follows_36 : decode cX1_follows 36 = .ok (.irem, 1) := dk_112 (dk_at dksX1_follows_1 12 rfl rfl)
theorem dX1_follows_37 : decode cX1_follows 37 = .ok (.iadd, 1) := dk_96 (dk_at dksX1_follows_1 13 rfl rfl)
theorem dX1_follows_38 : decode cX1_follows 38 = .ok (.istore_n 3, 1) := dk_62 (dk_at dksX1_follows_1 14 rfl rfl)
theorem dX1_follows_39 : decode cX1_follows 39 = .ok (.iload_n 1, 1) := dk_27 (dk_at dksX1_follows_1 15 rfl rfl)
theorem dX1_follows_40 : decode cX1_follows 40 = .ok (.istore 4, 2) := dk_54 4 (dk_at dksX1_follows_1 16 rfl rfl)
theorem dX1_follows_42 : decode cX1_follows 42 = .ok (.iload_n 3, 1) := dk_29 (dk_at dksX1_follows_1 18 rfl rfl)
theorem dX1_follows_43 : decode cX1_follows 43 = .ok (.ifCond .le 27, 3) := dk_158 0 27 (dk_at dksX1_follows_1 19 rfl rfl)
theorem dX1_follows_46 : decode cX1_follows 46 = .ok (.iload 4, 2) := dk_21 4 (dk_at dksX1_follows_1 22 rfl rfl)
theorem dX1_follows_48 : decode cX1_follows 48 = .ok (.iconst (-1), 1) := dk_2 (dk_at dksX1_follows_2 0 rfl rfl)
theorem dX1_follows_49 : decode cX1_follows 49 = .ok (.if_icmp .eq 21, 3) := dk_159 0 21 (dk_at dksX1_follows_2 1 rfl rfl)
theorem dX1_follows_52 : decode cX1_follows 52 = .ok (.aload_n 0, 1) := dk_42 (dk_at dksX1_follows_2 4 rfl rfl)
theorem dX1_follows_53 : decode cX1_follows 53 = .ok (.getfield 31, 3) := dk_180 0 31 (dk_at dksX1_follows_2 5 rfl rfl)
theorem dX1_follows_56 : decode cX1_follows 56 = .ok (.getfield 285, 3) := dk_180 1 29 (dk_at dksX1_follows_2 8 rfl rfl)
theorem dX1_follows_59 : decode cX1_follows 59 = .ok (.iload 4, 2) := dk_21 4 (dk_at dksX1_follows_2 11 rfl rfl)
theorem dX1_follows_61 : decode cX1_follows 61 = .ok (.iaload, 1) := dk_46 (dk_at dksX1_follows_2 13 rfl rfl)
theorem dX1_follows_62 : decode cX1_follows 62 = .ok (.istore 4, 2) := dk_54 4 (dk_at dksX1_follows_2 14 rfl rfl)
theorem dX1_follows_64 : decode cX1_follows 64 = .ok (.iinc 3 (-1), 3) := dk_132 3 255 (dk_at dksX1_follows_2 16 rfl rfl)
theorem dX1_follows_67 : decode cX1_follows 67 = .ok (.goto (-25), 3) := dk_167 255 231 (dk_at dksX1_follows_2 19 rfl rfl)
theorem dX1_follows_70 : decode cX1_follows 70 = .ok (.iload 4, 2) := dk_21 4 (dk_at dksX1_follows_2 22 rfl rfl)
theorem dX1_follows_72 : decode cX1_follows 72 = .ok (.ireturn, 1) := dk_172 (dk_at dksX1_follows_3 0 rfl rfl)
def dkwX1_tempted_8 : List UInt8 := [21, 5, 16, 10, 112, 21, 5, 16, 10, 108, 27, 28, 184, 1, 136, 96, 172]
abbrev dktX1_tempted_8 : List UInt8 := dkwX1_tempted_8 ++ []
def dkwX1_tempted_7 : List UInt8 := [2, 160, 0, 7, 3, 167, 0, 34, 21, 5, 16, 10, 108, 21, 5, 16, 10, 112, 27, 28, 184, 1, 136]
abbrev dktX1_tempted_7 : List UInt8 := dkwX1_tempted_7 ++ dktX1_tempted_8
def dkwX1_tempted_6 : List UInt8 := [167, 255, 164, 29, 154, 0, 8, 21, 4, 167, 0, 54, 29, 4, 160, 0, 8, 21, 5, 167, 0, 44, 21, 5]
abbrev dktX1_tempted_6 : List UInt8 := dkwX1_tempted_6 ++ dktX1_tempted_7
def dkwX1_tempted_5 : List UInt8 := [160, 0, 13, 16, 10, 21, 6, 104, 21, 7, 96, 54, 5, 132, 7, 1, 167, 255, 179, 132, 6, 1]
abbrev dktX1_tempted_5 : List UInt8 := dkwX1_tempted_5 ++ dktX1_tempted_6
def dkwX1_tempted_4 : List UInt8 := [184, 1, 136, 21, 7, 21, 6, 27, 28, 184, 1, 136, 164, 0, 6, 167, 0, 22, 132, 4, 1, 21, 5, 2]
abbrev dktX1_tempted_4 : List UInt8 := dkwX1_tempted_4 ++ dktX1_tempted_5
def dkwX1_tempted_3 : List UInt8 := [184, 1, 136, 21, 6, 21, 7, 27, 28, 184, 1, 136, 163, 0, 48, 4, 21, 7, 100, 21, 6, 27, 28]
abbrev dktX1_tempted_3 : List UInt8 := dkwX1_tempted_3 ++ dktX1_tempted_4
def dkwX1_tempted_2 : List UInt8 := [21, 6, 4, 163, 0, 92, 3, 54, 7, 21, 7, 4, 163, 0, 77, 4, 21, 6, 100, 21, 7, 27, 28]
abbrev dktX1_tempted_2 : List UInt8 := dkwX1_tempted_2 ++ dktX1_tempted_3
def dkwX1_tempted_1 : List UInt8 := [184, 0, 252, 153, 0, 7, 4, 167, 0, 4, 3, 182, 0, 183, 3, 54, 4, 2, 54, 5, 3, 54, 6]
abbrev dktX1_tempted_1 : List UInt8 := dkwX1_tempted_1 ++ dktX1_tempted_2
def dkwX1_tempted_0 : List UInt8 := [42, 27, 3, 16, 99, 184, 0, 252, 153, 0, 26, 28, 3, 16, 99, 184, 0, 252, 153, 0, 16, 29, 3, 5]
abbrev dktX1_tempted_0 : List UInt8 := dkwX1_tempted_0 ++ dktX1_tempted_1
theorem dksX1_tempted_0 : cX1_tempted.data.toList.drop 0 = dktX1_tempted_0 := by decide +kernel
theorem dksX1_tempted_1 : cX1_tempted.data.toList.drop 24 = dktX1_tempted_1 := dk_seg dksX1_tempted_0 24 rfl rfl
theorem dksX1_tempted_2 : cX1_tempted.data.toList.drop 47 = dktX1_tempted_2 := dk_seg dksX1_tempted_1 23 rfl rfl
theorem dksX1_tempted_3 : cX1_tempted.data.toList.drop 70 = dktX1_tempted_3 := dk_seg dksX1_tempted_2 23 rfl rfl
theorem dksX1_tempted_4 : cX1_tempted.data.toList.drop 93 = dktX1_tempted_4 := dk_seg dksX1_tempted_3 23 rfl rfl
theorem dksX1_tempted_5 : cX1_tempted.data.toList.drop 117 = dktX1_tempted_5 := dk_seg dksX1_tempted_4 24 rfl rfl
theorem dksX1_tempted_6 : cX1_tempted.data.toList.drop 139 = dktX1_tempted_6 := dk_seg dksX1_tempted_5 22 rfl rfl
theorem dksX1_tempted_7 : cX1_tempted.data.toList.drop 163 = dktX1_tempted_7 := dk_seg dksX1_tempted_6 24 rfl rfl
theorem dksX1_tempted_8 : cX1_tempted.data.toList.drop 186 = dktX1_tempted_8 := dk_seg dksX1_tempted_7 23 rfl rfl
theorem dX1_tempted_0 : decode cX1_tempted 0 = .ok (.aload_n 0, 1) := dk_42 (dk_at dksX1_tempted_0 0 rfl rfl)
theorem dX1_tempted_1 : decode cX1_tempted 1 = .ok (.iload_n 1, 1) := dk_27 (dk_at dksX1_tempted_0 1 rfl rfl)
theorem dX1_tempted_2 : decode cX1_tempted 2 = .ok (.iconst 0, 1) := dk_3 (dk_at dksX1_tempted_0 2 rfl rfl)
theorem dX1_tempted_3 : decode cX1_tempted 3 = .ok (.bipush 99, 2) := dk_16 99 (dk_at dksX1_tempted_0 3 rfl rfl)
theorem dX1_tempted_5 : decode cX1_tempted 5 = .ok (.invokestatic 252, 3) := dk_184 0 252 (dk_at dksX1_tempted_0 5 rfl rfl)
theorem dX1_tempted_8 : decode cX1_tempted 8 = .ok (.ifCond .eq 26, 3) := dk_153 0 26 (dk_at dksX1_tempted_0 8 rfl rfl)
theorem dX1_tempted_11 : decode cX1_tempted 11 = .ok (.iload_n 2, 1) := dk_28 (dk_at dksX1_tempted_0 11 rfl rfl)
theorem dX1_tempted_12 : decode cX1_tempted 12 = .ok (.iconst 0, 1) := dk_3 (dk_at dksX1_tempted_0 12 rfl rfl)
theorem dX1_tempted_13 : decode cX1_tempted 13 = .ok (.bipush 99, 2) := dk_16 99 (dk_at dksX1_tempted_0 13 rfl rfl)
theorem dX1_tempted_15 : decode cX1_tempted 15 = .ok (.invokestatic 252, 3) := dk_184 0 252 (dk_at dksX1_tempted_0 15 rfl rfl)
theorem dX1_tempted_18 : decode cX1_tempted 18 = .ok (.ifCond .eq 16, 3) := dk_153 0 16 (dk_at dksX1_tempted_0 18 rfl rfl)
theorem dX1_tempted_21 : decode cX1_tempted 21 = .ok (.iload_n 3, 1) := dk_29 (dk_at dksX1_tempted_0 21 rfl rfl)
theorem dX1_tempted_22 : decode cX1_tempted 22 = .ok (.iconst 0, 1) := dk_3 (dk_at dksX1_tempted_0 22 rfl rfl)
theorem dX1_tempted_23 : decode cX1_tempted 23 = .ok (.iconst 2, 1) := dk_5 (dk_at dksX1_tempted_0 23 rfl rfl)
theorem dX1_tempted_24 : decode cX1_tempted 24 = .ok (.invokestatic 252, 3) := dk_184 0 252 (dk_at dksX1_tempted_1 0 rfl rfl)
theorem dX1_tempted_27 : decode cX1_tempted 27 = .ok (.ifCond .eq 7, 3) := dk_153 0 7 (dk_at dksX1_tempted_1 3 rfl rfl)
theorem dX1_tempted_30 : decode cX1_tempted 30 = .ok (.iconst 1, 1) := dk_4 (dk_at dksX1_tempted_1 6 rfl rfl)
theorem dX1_tempted_31 : decode cX1_tempted 31 = .ok (.goto 4, 3) := dk_167 0 4 (dk_at dksX1_tempted_1 7 rfl rfl)
theorem dX1_tempted_34 : decode cX1_tempted 34 = .ok (.iconst 0, 1) := dk_3 (dk_at dksX1_tempted_1 10 rfl rfl)
theorem dX1_tempted_35 : decode cX1_tempted 35 = .ok (.invokevirtual 183, 3) := dk_182 0 183 (dk_at dksX1_tempted_1 11 rfl rfl)
theorem dX1_tempted_38 : decode cX1_tempted 38 = .ok (.iconst 0, 1) := dk_3 (dk_at dksX1_tempted_1 14 rfl rfl)
theorem dX1_tempted_39 : decode cX1_tempted 39 = .ok (.istore 4, 2) := dk_54 4 (dk_at dksX1_tempted_1 15 rfl rfl)
theorem dX1_tempted_41 : decode cX1_tempted 41 = .ok (.iconst (-1), 1) := dk_2 (dk_at dksX1_tempted_1 17 rfl rfl)
theorem dX1_tempted_42 : decode cX1_tempted 42 = .ok (.istore 5, 2) := dk_54 5 (dk_at dksX1_tempted_1 18 rfl rfl)
theorem dX1_tempted_44 : decode cX1_tempted 44 = .ok (.iconst 0, 1) := dk_3 (dk_at dksX1_tempted_1 20 rfl rfl)
theorem dX1_tempted_45 : decode cX1_tempted 45 = .ok (.istore 6, 2) := dk_54 6 (dk_at dksX1_tempted_1 21 rfl rfl)
theorem dX1_tempted_47 : decode cX1_tempted 47 = .ok (.iload 6, 2) := dk_21 6 (dk_at dksX1_tempted_2 0 rfl rfl)
theorem dX1_tempted_49 : decode cX1_tempted 49 = .ok (.iconst 1, 1) := dk_4 (dk_at dksX1_tempted_2 2 rfl rfl)
theorem dX1_tempted_50 : decode cX1_tempted 50 = .ok (.if_icmp .gt 92, 3) := dk_163 0 92 (dk_at dksX1_tempted_2 3 rfl rfl)
theorem dX1_tempted_53 : decode cX1_tempted 53 = .ok (.iconst 0, 1) := dk_3 (dk_at dksX1_tempted_2 6 rfl rfl)
theorem dX1_tempted_54 : decode cX1_tempted 54 = .ok (.istore 7, 2) := dk_54 7 (dk_at dksX1_tempted_2 7 rfl rfl)
theorem dX1_tempted_56 : decode cX1_tempted 56 = .ok (.iload 7, 2) := dk_21 7 (dk_at dksX1_tempted_2 9 rfl rfl)
theorem dX1_tempted_58 : decode cX1_tempted 58 = .ok (.iconst 1, 1) := dk_4 (dk_at dksX1_tempted_2 11 rfl rfl)
theorem dX1_tempted_59 : decode cX1_tempted 59 = .ok (.if_icmp .gt 77, 3) := dk_163 0 77 (dk_at dksX1_tempted_2 12 rfl rfl)
theorem dX1_tempted_62 : decode cX1_tempted 62 = .ok (.iconst 1, 1) := dk_4 (dk_at dksX1_tempted_2 15 rfl rfl)
theorem dX1_tempted_63 : decode cX1_tempted 63 = .ok (.iload 6, 2) := dk_21 6 (dk_at dksX1_tempted_2 16 rfl rfl)
theorem dX1_tempted_65 : decode cX1_tempted 65 = .ok (.isub, 1) := dk_100 (dk_at dksX1_tempted_2 18 rfl rfl)
theorem dX1_tempted_66 : decode cX1_tempted 66 = .ok (.iload 7, 2) := dk_21 7 (dk_at dksX1_tempted_2 19 rfl rfl)
theorem dX1_tempted_68 : decode cX1_tempted 68 = .ok (.iload_n 1, 1) := dk_27 (dk_at dksX1_tempted_2 21 rfl rfl)
theorem dX1_tempted_69 : decode cX1_tempted 69 = .ok (.iload_n 2, 1) := dk_28 (dk_at dksX1_tempted_2 22 rfl rfl)
theorem dX1_tempted_70 : decode cX1_tempted 70 = .ok (.invokestatic 392, 3) := dk_184 1 136 (dk_at dksX1_tempted_3 0 rfl rfl)
theorem dX1_tempted_73 : decode cX1_tempted 73 = .ok (.iload 6, 2) := dk_21 6 (dk_at dksX1_tempted_3 3 rfl rfl)
theorem dX1_tempted_75 : decode cX1_tempted 75 = .ok (.iload 7, 2) := dk_21 7 (dk_at dksX1_tempted_3 5 rfl rfl)
theorem dX1_tempted_77 : decode cX1_tempted 77 = .ok (.iload_n 1, 1) := dk_27 (dk_at dksX1_tempted_3 7 rfl rfl)
theorem dX1_tempted_78 : decode cX1_tempted 78 = .ok (.iload_n 2, 1) := dk_28 (dk_at dksX1_tempted_3 8 rfl rfl)
theorem dX1_tempted_79 : decode cX1_tempted 79 = .ok (.invokestatic 392, 3) := dk_184 1 136 (dk_at dksX1_tempted_3 9 rfl rfl)
theorem dX1_tempted_82 : decode cX1_tempted 82 = .ok (.if_icmp .gt 48, 3) := dk_163 0 48 (dk_at dksX1_tempted_3 12 rfl rfl)
theorem dX1_tempted_85 : decode cX1_tempted 85 = .ok (.iconst 1, 1) := dk_4 (dk_at dksX1_tempted_3 15 rfl rfl)
theorem dX1_tempted_86 : decode cX1_tempted 86 = .ok (.iload 7, 2) := dk_21 7 (dk_at dksX1_tempted_3 16 rfl rfl)
theorem dX1_tempted_88 : decode cX1_tempted 88 = .ok (.isub, 1) := dk_100 (dk_at dksX1_tempted_3 18 rfl rfl)
theorem dX1_tempted_89 : decode cX1_tempted 89 = .ok (.iload 6, 2) := dk_21 6 (dk_at dksX1_tempted_3 19 rfl rfl)
theorem dX1_tempted_91 : decode cX1_tempted 91 = .ok (.iload_n 1, 1) := dk_27 (dk_at dksX1_tempted_3 21 rfl rfl)
theorem dX1_tempted_92 : decode cX1_tempted 92 = .ok (.iload_n 2, 1) := dk_28 (dk_at dksX1_tempted_3 22 rfl rfl)
theorem dX1_tempted_93 : decode cX1_tempted 93 = .ok (.invokestatic 392, 3) := dk_184 1 136 (dk_at dksX1_tempted_4 0 rfl rfl)
theorem dX1_tempted_96 : decode cX1_tempted 96 = .ok (.iload 7, 2) := dk_21 7 (dk_at dksX1_tempted_4 3 rfl rfl)
theorem dX1_tempted_98 : decode cX1_tempted 98 = .ok (.iload 6, 2) := dk_21 6 (dk_at dksX1_tempted_4 5 rfl rfl)
theorem dX1_tempted_100 : decode cX1_tempted 100 = .ok (.iload_n 1, 1) := dk_27 (dk_at dksX1_tempted_4 7 rfl rfl)
theorem dX1_tempted_101 : decode cX1_tempted 101 = .ok (.iload_n 2, 1) := dk_28 (dk_at dksX1_tempted_4 8 rfl rfl)
theorem dX1_tempted_102 : decode cX1_tempted 102 = .ok (.invokestatic 392, 3) := dk_184 1 136 (dk_at dksX1_tempted_4 9 rfl rfl)
theorem dX1_tempted_105 : decode cX1_tempted 105 = .ok (.if_icmp .le 6, 3) := dk_164 0 6 (dk_at dksX1_tempted_4 12 rfl rfl)
theorem dX1_tempted_108 : decode cX1_tempted 108 = .ok (.goto 22, 3) := dk_167 0 22 (dk_at dksX1_tempted_4 15 rfl rfl)
theorem dX1_tempted_111 : decode cX1_tempted 111 = .ok (.iinc 4 1, 3) := dk_132 4 1 (dk_at dksX1_tempted_4 18 rfl rfl)
theorem dX1_tempted_114 : decode cX1_tempted 114 = .ok (.iload 5, 2) := dk_21 5 (dk_at dksX1_tempted_4 21 rfl rfl)
theorem dX1_tempted_116 : decode cX1_tempted 116 = .ok (.iconst (-1), 1) := dk_2 (dk_at dksX1_tempted_4 23 rfl rfl)
theorem dX1_tempted_117 : decode cX1_tempted 117 = .ok (.if_icmp .ne 13, 3) := dk_160 0 13 (dk_at dksX1_tempted_5 0 rfl rfl)
theorem dX1_tempted_120 : decode cX1_tempted 120 = .ok (.bipush 10, 2) := dk_16 10 (dk_at dksX1_tempted_5 3 rfl rfl)
theorem dX1_tempted_122 : decode cX1_tempted 122 = .ok (.iload 6, 2) := dk_21 6 (dk_at dksX1_tempted_5 5 rfl rfl)
theorem dX1_tempted_124 : decode cX1_tempted 124 = .ok (.imul, 1) := dk_104 (dk_at dksX1_tempted_5 7 rfl rfl)
theorem dX1_tempted_125 : decode cX1_tempted 125 = .ok (.iload 7, 2) := dk_21 7 (dk_at dksX1_tempted_5 8 rfl rfl)
theorem dX1_tempted_127 : decode cX1_tempted 127 = .ok (.iadd, 1) := dk_96 (dk_at dksX1_tempted_5 10 rfl rfl)
theorem dX1_tempted_128 : decode cX1_tempted 128 = .ok (.istore 5, 2) := dk_54 5 (dk_at dksX1_tempted_5 11 rfl rfl)
theorem dX1_tempted_130 : decode cX1_tempted 130 = .ok (.iinc 7 1, 3) := dk_132 7 1 (dk_at dksX1_tempted_5 13 rfl rfl)
theorem dX1_tempted_133 : decode cX1_tempted 133 = .ok (.goto (-77), 3) := dk_167 255 179 (dk_at dksX1_tempted_5 16 rfl rfl)
theorem dX1_tempted_136 : decode cX1_tempted 136 = .ok (.iinc 6 1, 3) := dk_132 6 1 (dk_at dksX1_tempted_5 19 rfl rfl)
theorem dX1_tempted_139 : decode cX1_tempted 139 = .ok (.goto (-92), 3) := dk_167 255 164 (dk_at dksX1_tempted_6 0 rfl rfl)
theorem dX1_tempted_142 : decode cX1_tempted 142 = .ok (.iload_n 3, 1) := dk_29 (dk_at dksX1_tempted_6 3 rfl rfl)
theorem dX1_tempted_143 : decode cX1_tempted 143 = .ok (.ifCond .ne 8, 3) := dk_154 0 8 (dk_at dksX1_tempted_6 4 rfl rfl)
theorem dX1_tempted_146 : decode cX1_tempted 146 = .ok (.iload 4, 2) := dk_21 4 (dk_at dksX1_tempted_6 7 rfl rfl)
theorem dX1_tempted_148 : decode cX1_tempted 148 = .ok (.goto 54, 3) := dk_167 0 54 (dk_at dksX1_tempted_6 9 rfl rfl)
theorem dX1_tempted_151 : decode cX1_tempted 151 = .ok (.iload_n 3, 1) := dk_29 (dk_at dksX1_tempted_6 12 rfl rfl)
theorem dX1_tempted_152 : decode cX1_tempted 152 = .ok (.iconst 1, 1) := dk_4 (dk_at dksX1_tempted_6 13 rfl rfl)
theorem dX1_tempted_153 : decode cX1_tempted 153 = .ok (.if_icmp .ne 8, 3) := dk_160 0 8 (dk_at dksX1_tempted_6 14 rfl rfl)
theorem dX1_tempted_156 : decode cX1_tempted 156 = .ok (.iload 5, 2) := dk_21 5 (dk_at dksX1_tempted_6 17 rfl rfl)
theorem dX1_tempted_158 : decode cX1_tempted 158 = .ok (.goto 44, 3) := dk_167 0 44 (dk_at dksX1_tempted_6 19 rfl rfl)
theorem dX1_tempted_161 : decode cX1_tempted 161 = .ok (.iload 5, 2) := dk_21 5 (dk_at dksX1_tempted_6 22 rfl rfl)
theorem dX1_tempted_163 : decode cX1_tempted 163 = .ok (.iconst (-1), 1) := dk_2 (dk_at dksX1_tempted_7 0 rfl rfl)
theorem dX1_tempted_164 : decode cX1_tempted 164 = .ok (.if_icmp .ne 7, 3) := dk_160 0 7 (dk_at dksX1_tempted_7 1 rfl rfl)
theorem dX1_tempted_167 : decode cX1_tempted 167 = .ok (.iconst 0, 1) := dk_3 (dk_at dksX1_tempted_7 4 rfl rfl)
theorem dX1_tempted_168 : decode cX1_tempted 168 = .ok (.goto 34, 3) := dk_167 0 34 (dk_at dksX1_tempted_7 5 rfl rfl)
theorem dX1_tempted_171 : decode cX1_tempted 171 = .ok (.iload 5, 2) := dk_21 5 (dk_at dksX1_tempted_7 8 rfl rfl)
theorem dX1_tempted_173 : decode cX1_tempted 173 = .ok (.bipush 10, 2) := dk_16 10 (dk_at dksX1_tempted_7 10 rfl rfl)
theorem dX1_tempted_175 : decode cX1_tempted 175 = .ok (.idiv, 1) := dk_108 (dk_at dksX1_tempted_7 12 rfl rfl)
theorem dX1_tempted_176 : decode cX1_tempted 176 = .ok (.iload 5, 2) := dk_21 5 (dk_at dksX1_tempted_7 13 rfl rfl)
theorem dX1_tempted_178 : decode cX1_tempted 178 = .ok (.bipush 10, 2) := dk_16 10 (dk_at dksX1_tempted_7 15 rfl rfl)
theorem dX1_tempted_180 : decode cX1_tempted 180 = .ok (.irem, 1) := dk_112 (dk_at dksX1_tempted_7 17 rfl rfl)
theorem dX1_tempted_181 : decode cX1_tempted 181 = .ok (.iload_n 1, 1) := dk_27 (dk_at dksX1_tempted_7 18 rfl rfl)
theorem dX1_tempted_182 : decode cX1_tempted 182 = .ok (.iload_n 2, 1) := dk_28 (dk_at dksX1_tempted_7 19 rfl rfl)
theorem dX1_tempted_183 : decode cX1_tempted 183 = .ok (.invokestatic 392, 3) := dk_184 1 136 (dk_at dksX1_tempted_7 20 rfl rfl)
theorem dX1_tempted_186 : decode cX1_tempted 186 = .ok (.iload 5, 2) := dk_21 5 (dk_at dksX1_tempted_8 0 rfl rfl)
theorem dX1_tempted_188 : decode cX1_tempted 188 = .ok (.bipush 10, 2) := dk_16 10 (dk_at dksX1_tempted_8 2 rfl rfl)
theorem dX1_tempted_190 : decode cX1_tempted 190 = .ok (.irem, 1) := dk_112 (dk_at dksX1_tempted_8 4 rfl rfl)
theorem dX1_tempted_191 : decode cX1_tempted 191 = .ok (.iload 5, 2) := dk_21 5 (dk_at dksX1_tempted_8 5 rfl rfl)
theorem dX1_tempted_193 : decode cX1_tempted 193 = .ok (.bipush 10, 2) := dk_16 10 (dk_at dksX1_tempted_8 7 rfl rfl)
theorem dX1_tempted_195 : decode cX1_tempted 195 = .ok (.idiv, 1) := dk_108 (dk_at dksX1_tempted_8 9 rfl rfl)
theorem dX1_tempted_196 : decode cX1_tempted 196 = .ok (.iload_n 1, 1) := dk_27 (dk_at dksX1_tempted_8 10 rfl rfl)
theorem dX1_tempted_197 : decode cX1_tempted 197 = .ok (.iload_n 2, 1) := dk_28 (dk_at dksX1_tempted_8 11 rfl rfl)
theorem dX1_tempted_198 : decode cX1_tempted 198 = .ok (.invokestatic 392, 3) := dk_184 1 136 (dk_at dksX1_tempted_8 12 rfl rfl)
theorem dX1_tempted_201 : decode cX1_tempted 201 = .ok (.iadd, 1) := dk_96 (dk_at dksX1_tempted_8 15 rfl rfl)
theorem dX1_tempted_202 : decode cX1_tempted 202 = .ok (.ireturn, 1) := dk_172 (dk_at dksX1_tempted_8 16 rfl rfl)
def dkwX1_hasBy_1 : List UInt8 := [167, 0, 4, 28, 172]
abbrev dktX1_hasBy_1 : List UInt8 := dkwX1_hasBy_1 ++ []
def dkwX1_hasBy_0 : List UInt8 := [26, 4, 160, 0, 16, 27, 4, 160, 0, 7, 3, 167, 0, 17, 29, 167, 0, 13, 27, 4, 160, 0, 7, 2]
abbrev dktX1_hasBy_0 : List UInt8 := dkwX1_hasBy_0 ++ dktX1_hasBy_1
theorem dksX1_hasBy_0 : cX1_hasBy.data.toList.drop 0 = dktX1_hasBy_0 := by decide +kernel
theorem dksX1_hasBy_1 : cX1_hasBy.data.toList.drop 24 = dktX1_hasBy_1 := dk_seg dksX1_hasBy_0 24 rfl rfl
theorem dX1_hasBy_0 : decode cX1_hasBy 0 = .ok (.iload_n 0, 1) := dk_26 (dk_at dksX1_hasBy_0 0 rfl rfl)
theorem dX1_hasBy_1 : decode cX1_hasBy 1 = .ok (.iconst 1, 1) := dk_4 (dk_at dksX1_hasBy_0 1 rfl rfl)
theorem dX1_hasBy_2 : decode cX1_hasBy 2 = .ok (.if_icmp .ne 16, 3) := dk_160 0 16 (dk_at dksX1_hasBy_0 2 rfl rfl)
theorem dX1_hasBy_5 : decode cX1_hasBy 5 = .ok (.iload_n 1, 1) := dk_27 (dk_at dksX1_hasBy_0 5 rfl rfl)
theorem dX1_hasBy_6 : decode cX1_hasBy 6 = .ok (.iconst 1, 1) := dk_4 (dk_at dksX1_hasBy_0 6 rfl rfl)
theorem dX1_hasBy_7 : decode cX1_hasBy 7 = .ok (.if_icmp .ne 7, 3) := dk_160 0 7 (dk_at dksX1_hasBy_0 7 rfl rfl)
theorem dX1_hasBy_10 : decode cX1_hasBy 10 = .ok (.iconst 0, 1) := dk_3 (dk_at dksX1_hasBy_0 10 rfl rfl)
theorem dX1_hasBy_11 : decode cX1_hasBy 11 = .ok (.goto 17, 3) := dk_167 0 17 (dk_at dksX1_hasBy_0 11 rfl rfl)
theorem dX1_hasBy_14 : decode cX1_hasBy 14 = .ok (.iload_n 3, 1) := dk_29 (dk_at dksX1_hasBy_0 14 rfl rfl)
theorem dX1_hasBy_15 : decode cX1_hasBy 15 = .ok (.goto 13, 3) := dk_167 0 13 (dk_at dksX1_hasBy_0 15 rfl rfl)
theorem dX1_hasBy_18 : decode cX1_hasBy 18 = .ok (.iload_n 1, 1) := dk_27 (dk_at dksX1_hasBy_0 18 rfl rfl)
theorem dX1_hasBy_19 : decode cX1_hasBy 19 = .ok (.iconst 1, 1) := dk_4 (dk_at dksX1_hasBy_0 19 rfl rfl)
theorem dX1_hasBy_20 : decode cX1_hasBy 20 = .ok (.if_icmp .ne 7, 3) := dk_160 0 7 (dk_at dksX1_hasBy_0 20 rfl rfl)
theorem dX1_hasBy_23 : decode cX1_hasBy 23 = .ok (.iconst (-1), 1) := dk_2 (dk_at dksX1_hasBy_0 23 rfl rfl)
theorem dX1_hasBy_24 : decode cX1_hasBy 24 = .ok (.goto 4, 3) := dk_167 0 4 (dk_at dksX1_hasBy_1 0 rfl rfl)
theorem dX1_hasBy_27 : decode cX1_hasBy 27 = .ok (.iload_n 2, 1) := dk_28 (dk_at dksX1_hasBy_1 3 rfl rfl)
theorem dX1_hasBy_28 : decode cX1_hasBy 28 = .ok (.ireturn, 1) := dk_172 (dk_at dksX1_hasBy_1 4 rfl rfl)
def dkwX1_alms_3 : List UInt8 := [184, 1, 94, 153, 0, 19, 21, 4, 42, 27, 182, 1, 67, 180, 1, 72, 184, 0, 143, 167, 0, 4, 3, 172]
abbrev dktX1_alms_3 : List UInt8 := dkwX1_alms_3 ++ []
def dkwX1_alms_2 : List UInt8 := [162, 0, 22, 42, 28, 21, 4, 4, 96, 182, 1, 140, 29, 163, 0, 9, 132, 4, 1, 167, 255, 233, 28, 27]
abbrev dktX1_alms_2 : List UInt8 := dkwX1_alms_2 ++ dktX1_alms_3
def dkwX1_alms_1 : List UInt8 := [17, 3, 231, 184, 0, 252, 153, 0, 7, 4, 167, 0, 4, 3, 182, 0, 183, 3, 54, 4, 21, 4, 16, 99]
abbrev dktX1_alms_1 : List UInt8 := dkwX1_alms_1 ++ dktX1_alms_2
def dkwX1_alms_0 : List UInt8 := [42, 27, 182, 1, 64, 42, 28, 155, 0, 28, 28, 4, 42, 182, 0, 167, 120, 162, 0, 18, 29, 3]
abbrev dktX1_alms_0 : List UInt8 := dkwX1_alms_0 ++ dktX1_alms_1
theorem dksX1_alms_0 : cX1_alms.data.toList.drop 0 = dktX1_alms_0 := by decide +kernel
theorem dksX1_alms_1 : cX1_alms.data.toList.drop 22 = dktX1_alms_1 := dk_seg dksX1_alms_0 22 rfl rfl
theorem dksX1_alms_2 : cX1_alms.data.toList.drop 46 = dktX1_alms_2 := dk_seg dksX1_alms_1 24 rfl rfl
theorem dksX1_alms_3 : cX1_alms.data.toList.drop 70 = dktX1_alms_3 := dk_seg dksX1_alms_2 24 rfl rfl
theorem dX1_alms_0 : decode cX1_alms 0 = .ok (.aload_n 0, 1) := dk_42 (dk_at dksX1_alms_0 0 rfl rfl)
theorem dX1_alms_1 : decode cX1_alms 1 = .ok (.iload_n 1, 1) := dk_27 (dk_at dksX1_alms_0 1 rfl rfl)
theorem dX1_alms_2 : decode cX1_alms 2 = .ok (.invokevirtual 320, 3) := dk_182 1 64 (dk_at dksX1_alms_0 2 rfl rfl)
theorem dX1_alms_5 : decode cX1_alms 5 = .ok (.aload_n 0, 1) := dk_42 (dk_at dksX1_alms_0 5 rfl rfl)
theorem dX1_alms_6 : decode cX1_alms 6 = .ok (.iload_n 2, 1) := dk_28 (dk_at dksX1_alms_0 6 rfl rfl)
theorem dX1_alms_7 : decode cX1_alms 7 = .ok (.ifCond .lt 28, 3) := dk_155 0 28 (dk_at dksX1_alms_0 7 rfl rfl)
theorem dX1_alms_10 : decode cX1_alms 10 = .ok (.iload_n 2, 1) := dk_28 (dk_at dksX1_alms_0 10 rfl rfl)
theorem dX1_alms_11 : decode cX1_alms 11 = .ok (.iconst 1, 1) := dk_4 (dk_at dksX1_alms_0 11 rfl rfl)
theorem dX1_alms_12 : decode cX1_alms 12 = .ok (.aload_n 0, 1) := dk_42 (dk_at dksX1_alms_0 12 rfl rfl)
theorem dX1_alms_13 : decode cX1_alms 13 = .ok (.invokevirtual 167, 3) := dk_182 0 167 (dk_at dksX1_alms_0 13 rfl rfl)
theorem dX1_alms_16 : decode cX1_alms 16 = .ok (.ishl, 1) := dk_120 (dk_at dksX1_alms_0 16 rfl rfl)
theorem dX1_alms_17 : decode cX1_alms 17 = .ok (.if_icmp .ge 18, 3) := dk_162 0 18 (dk_at dksX1_alms_0 17 rfl rfl)
theorem dX1_alms_20 : decode cX1_alms 20 = .ok (.iload_n 3, 1) := dk_29 (dk_at dksX1_alms_0 20 rfl rfl)
theorem dX1_alms_21 : decode cX1_alms 21 = .ok (.iconst 0, 1) := dk_3 (dk_at dksX1_alms_0 21 rfl rfl)
theorem dX1_alms_22 : decode cX1_alms 22 = .ok (.sipush 999, 3) := dk_17 3 231 (dk_at dksX1_alms_1 0 rfl rfl)
theorem dX1_alms_25 : decode cX1_alms 25 = .ok (.invokestatic 252, 3) := dk_184 0 252 (dk_at dksX1_alms_1 3 rfl rfl)
theorem dX1_alms_28 : decode cX1_alms 28 = .ok (.ifCond .eq 7, 3) := dk_153 0 7 (dk_at dksX1_alms_1 6 rfl rfl)
theorem dX1_alms_31 : decode cX1_alms 31 = .ok (.iconst 1, 1) := dk_4 (dk_at dksX1_alms_1 9 rfl rfl)
theorem dX1_alms_32 : decode cX1_alms 32 = .ok (.goto 4, 3) := dk_167 0 4 (dk_at dksX1_alms_1 10 rfl rfl)
theorem dX1_alms_35 : decode cX1_alms 35 = .ok (.iconst 0, 1) := dk_3 (dk_at dksX1_alms_1 13 rfl rfl)
theorem dX1_alms_36 : decode cX1_alms 36 = .ok (.invokevirtual 183, 3) := dk_182 0 183 (dk_at dksX1_alms_1 14 rfl rfl)
theorem dX1_alms_39 : decode cX1_alms 39 = .ok (.iconst 0, 1) := dk_3 (dk_at dksX1_alms_1 17 rfl rfl)
theorem dX1_alms_40 : decode cX1_alms 40 = .ok (.istore 4, 2) := dk_54 4 (dk_at dksX1_alms_1 18 rfl rfl)
theorem dX1_alms_42 : decode cX1_alms 42 = .ok (.iload 4, 2) := dk_21 4 (dk_at dksX1_alms_1 20 rfl rfl)
theorem dX1_alms_44 : decode cX1_alms 44 = .ok (.bipush 99, 2) := dk_16 99 (dk_at dksX1_alms_1 22 rfl rfl)
theorem dX1_alms_46 : decode cX1_alms 46 = .ok (.if_icmp .ge 22, 3) := dk_162 0 22 (dk_at dksX1_alms_2 0 rfl rfl)
theorem dX1_alms_49 : decode cX1_alms 49 = .ok (.aload_n 0, 1) := dk_42 (dk_at dksX1_alms_2 3 rfl rfl)
theorem dX1_alms_50 : decode cX1_alms 50 = .ok (.iload_n 2, 1) := dk_28 (dk_at dksX1_alms_2 4 rfl rfl)
theorem dX1_alms_51 : decode cX1_alms 51 = .ok (.iload 4, 2) := dk_21 4 (dk_at dksX1_alms_2 5 rfl rfl)
theorem dX1_alms_53 : decode cX1_alms 53 = .ok (.iconst 1, 1) := dk_4 (dk_at dksX1_alms_2 7 rfl rfl)
theorem dX1_alms_54 : decode cX1_alms 54 = .ok (.iadd, 1) := dk_96 (dk_at dksX1_alms_2 8 rfl rfl)
theorem dX1_alms_55 : decode cX1_alms 55 = .ok (.invokevirtual 396, 3) := dk_182 1 140 (dk_at dksX1_alms_2 9 rfl rfl)
theorem dX1_alms_58 : decode cX1_alms 58 = .ok (.iload_n 3, 1) := dk_29 (dk_at dksX1_alms_2 12 rfl rfl)
theorem dX1_alms_59 : decode cX1_alms 59 = .ok (.if_icmp .gt 9, 3) := dk_163 0 9 (dk_at dksX1_alms_2 13 rfl rfl)
theorem dX1_alms_62 : decode cX1_alms 62 = .ok (.iinc 4 1, 3) := dk_132 4 1 (dk_at dksX1_alms_2 16 rfl rfl)
theorem dX1_alms_65 : decode cX1_alms 65 = .ok (.goto (-23), 3) := dk_167 255 233 (dk_at dksX1_alms_2 19 rfl rfl)
theorem dX1_alms_68 : decode cX1_alms 68 = .ok (.iload_n 2, 1) := dk_28 (dk_at dksX1_alms_2 22 rfl rfl)
theorem dX1_alms_69 : decode cX1_alms 69 = .ok (.iload_n 1, 1) := dk_27 (dk_at dksX1_alms_2 23 rfl rfl)
theorem dX1_alms_70 : decode cX1_alms 70 = .ok (.invokestatic 350, 3) := dk_184 1 94 (dk_at dksX1_alms_3 0 rfl rfl)
theorem dX1_alms_73 : decode cX1_alms 73 = .ok (.ifCond .eq 19, 3) := dk_153 0 19 (dk_at dksX1_alms_3 3 rfl rfl)
theorem dX1_alms_76 : decode cX1_alms 76 = .ok (.iload 4, 2) := dk_21 4 (dk_at dksX1_alms_3 6 rfl rfl)
theorem dX1_alms_78 : decode cX1_alms 78 = .ok (.aload_n 0, 1) := dk_42 (dk_at dksX1_alms_3 8 rfl rfl)
theorem dX1_alms_79 : decode cX1_alms 79 = .ok (.iload_n 1, 1) := dk_27 (dk_at dksX1_alms_3 9 rfl rfl)
theorem dX1_alms_80 : decode cX1_alms 80 = .ok (.invokevirtual 323, 3) := dk_182 1 67 (dk_at dksX1_alms_3 10 rfl rfl)
theorem dX1_alms_83 : decode cX1_alms 83 = .ok (.getfield 328, 3) := dk_180 1 72 (dk_at dksX1_alms_3 13 rfl rfl)
theorem dX1_alms_86 : decode cX1_alms 86 = .ok (.invokestatic 143, 3) := dk_184 0 143 (dk_at dksX1_alms_3 16 rfl rfl)
theorem dX1_alms_89 : decode cX1_alms 89 = .ok (.goto 4, 3) := dk_167 0 4 (dk_at dksX1_alms_3 19 rfl rfl)
theorem dX1_alms_92 : decode cX1_alms 92 = .ok (.iconst 0, 1) := dk_3 (dk_at dksX1_alms_3 22 rfl rfl)
theorem dX1_alms_93 : decode cX1_alms 93 = .ok (.ireturn, 1) := dk_172 (dk_at dksX1_alms_3 23 rfl rfl)
def dkwX1_given_2 : List UInt8 := [167, 255, 215, 29, 172]
abbrev dktX1_given_2 : List UInt8 := dkwX1_given_2 ++ []
def dkwX1_given_1 : List UInt8 := [28, 42, 21, 4, 182, 1, 67, 180, 1, 72, 184, 0, 143, 167, 0, 4, 3, 96, 62, 132, 4, 1]
abbrev dktX1_given_1 : List UInt8 := dkwX1_given_1 ++ dktX1_given_2
def dkwX1_given_0 : List UInt8 := [3, 62, 3, 54, 4, 21, 4, 42, 182, 0, 167, 162, 0, 38, 29, 27, 21, 4, 184, 1, 94, 153, 0, 19]
abbrev dktX1_given_0 : List UInt8 := dkwX1_given_0 ++ dktX1_given_1
theorem dksX1_given_0 : cX1_given.data.toList.drop 0 = dktX1_given_0 := by decide +kernel
theorem dksX1_given_1 : cX1_given.data.toList.drop 24 = dktX1_given_1 := dk_seg dksX1_given_0 24 rfl rfl
theorem dksX1_given_2 : cX1_given.data.toList.drop 46 = dktX1_given_2 := dk_seg dksX1_given_1 22 rfl rfl
theorem dX1_given_0 : decode cX1_given 0 = .ok (.iconst 0, 1) := dk_3 (dk_at dksX1_given_0 0 rfl rfl)
theorem dX1_given_1 : decode cX1_given 1 = .ok (.istore_n 3, 1) := dk_62 (dk_at dksX1_given_0 1 rfl rfl)
theorem dX1_given_2 : decode cX1_given 2 = .ok (.iconst 0, 1) := dk_3 (dk_at dksX1_given_0 2 rfl rfl)
theorem dX1_given_3 : decode cX1_given 3 = .ok (.istore 4, 2) := dk_54 4 (dk_at dksX1_given_0 3 rfl rfl)
theorem dX1_given_5 : decode cX1_given 5 = .ok (.iload 4, 2) := dk_21 4 (dk_at dksX1_given_0 5 rfl rfl)
theorem dX1_given_7 : decode cX1_given 7 = .ok (.aload_n 0, 1) := dk_42 (dk_at dksX1_given_0 7 rfl rfl)
theorem dX1_given_8 : decode cX1_given 8 = .ok (.invokevirtual 167, 3) := dk_182 0 167 (dk_at dksX1_given_0 8 rfl rfl)
theorem dX1_given_11 : decode cX1_given 11 = .ok (.if_icmp .ge 38, 3) := dk_162 0 38 (dk_at dksX1_given_0 11 rfl rfl)
theorem dX1_given_14 : decode cX1_given 14 = .ok (.iload_n 3, 1) := dk_29 (dk_at dksX1_given_0 14 rfl rfl)
theorem dX1_given_15 : decode cX1_given 15 = .ok (.iload_n 1, 1) := dk_27 (dk_at dksX1_given_0 15 rfl rfl)
theorem dX1_given_16 : decode cX1_given 16 = .ok (.iload 4, 2) := dk_21 4 (dk_at dksX1_given_0 16 rfl rfl)
theorem dX1_given_18 : decode cX1_given 18 = .ok (.invokestatic 350, 3) := dk_184 1 94 (dk_at dksX1_given_0 18 rfl rfl)
theorem dX1_given_21 : decode cX1_given 21 = .ok (.ifCond .eq 19, 3) := dk_153 0 19 (dk_at dksX1_given_0 21 rfl rfl)
theorem dX1_given_24 : decode cX1_given 24 = .ok (.iload_n 2, 1) := dk_28 (dk_at dksX1_given_1 0 rfl rfl)
theorem dX1_given_25 : decode cX1_given 25 = .ok (.aload_n 0, 1) := dk_42 (dk_at dksX1_given_1 1 rfl rfl)
theorem dX1_given_26 : decode cX1_given 26 = .ok (.iload 4, 2) := dk_21 4 (dk_at dksX1_given_1 2 rfl rfl)
theorem dX1_given_28 : decode cX1_given 28 = .ok (.invokevirtual 323, 3) := dk_182 1 67 (dk_at dksX1_given_1 4 rfl rfl)
theorem dX1_given_31 : decode cX1_given 31 = .ok (.getfield 328, 3) := dk_180 1 72 (dk_at dksX1_given_1 7 rfl rfl)
theorem dX1_given_34 : decode cX1_given 34 = .ok (.invokestatic 143, 3) := dk_184 0 143 (dk_at dksX1_given_1 10 rfl rfl)
theorem dX1_given_37 : decode cX1_given 37 = .ok (.goto 4, 3) := dk_167 0 4 (dk_at dksX1_given_1 13 rfl rfl)
theorem dX1_given_40 : decode cX1_given 40 = .ok (.iconst 0, 1) := dk_3 (dk_at dksX1_given_1 16 rfl rfl)
theorem dX1_given_41 : decode cX1_given 41 = .ok (.iadd, 1) := dk_96 (dk_at dksX1_given_1 17 rfl rfl)
theorem dX1_given_42 : decode cX1_given 42 = .ok (.istore_n 3, 1) := dk_62 (dk_at dksX1_given_1 18 rfl rfl)
theorem dX1_given_43 : decode cX1_given 43 = .ok (.iinc 4 1, 3) := dk_132 4 1 (dk_at dksX1_given_1 19 rfl rfl)
theorem dX1_given_46 : decode cX1_given 46 = .ok (.goto (-41), 3) := dk_167 255 215 (dk_at dksX1_given_2 0 rfl rfl)
theorem dX1_given_49 : decode cX1_given 49 = .ok (.iload_n 3, 1) := dk_29 (dk_at dksX1_given_2 3 rfl rfl)
theorem dX1_given_50 : decode cX1_given 50 = .ok (.ireturn, 1) := dk_172 (dk_at dksX1_given_2 4 rfl rfl)
def dkwX1_strongest_3 : List UInt8 := [160, 0, 7, 28, 167, 0, 11, 42, 180, 0, 58, 28, 182, 1, 58, 172]
abbrev dktX1_strongest_3 : List UInt8 := dkwX1_strongest_3 ++ []
def dkwX1_strongest_2 : List UInt8 := [180, 0, 58, 28, 182, 1, 58, 164, 0, 5, 29, 61, 132, 3, 1, 167, 255, 206, 27, 153, 0, 8, 28, 2]
abbrev dktX1_strongest_2 : List UInt8 := dkwX1_strongest_2 ++ dktX1_strongest_3
def dkwX1_strongest_1 : List UInt8 := [180, 1, 55, 29, 46, 2, 159, 0, 29, 28, 2, 159, 0, 22, 42, 180, 0, 58, 29, 182, 1, 58, 42]
abbrev dktX1_strongest_1 : List UInt8 := dkwX1_strongest_1 ++ dktX1_strongest_2
def dkwX1_strongest_0 : List UInt8 := [42, 27, 184, 1, 88, 182, 0, 183, 2, 61, 3, 62, 29, 42, 182, 0, 165, 162, 0, 48, 42, 180, 0, 58]
abbrev dktX1_strongest_0 : List UInt8 := dkwX1_strongest_0 ++ dktX1_strongest_1
theorem dksX1_strongest_0 : cX1_strongest.data.toList.drop 0 = dktX1_strongest_0 := by decide +kernel
theorem dksX1_strongest_1 : cX1_strongest.data.toList.drop 24 = dktX1_strongest_1 := dk_seg dksX1_strongest_0 24 rfl rfl
theorem dksX1_strongest_2 : cX1_strongest.data.toList.drop 47 = dktX1_strongest_2 := dk_seg dksX1_strongest_1 23 rfl rfl
theorem dksX1_strongest_3 : cX1_strongest.data.toList.drop 71 = dktX1_strongest_3 := dk_seg dksX1_strongest_2 24 rfl rfl
theorem dX1_strongest_0 : decode cX1_strongest 0 = .ok (.aload_n 0, 1) := dk_42 (dk_at dksX1_strongest_0 0 rfl rfl)
theorem dX1_strongest_1 : decode cX1_strongest 1 = .ok (.iload_n 1, 1) := dk_27 (dk_at dksX1_strongest_0 1 rfl rfl)
theorem dX1_strongest_2 : decode cX1_strongest 2 = .ok (.invokestatic 344, 3) := dk_184 1 88 (dk_at dksX1_strongest_0 2 rfl rfl)
theorem dX1_strongest_5 : decode cX1_strongest 5 = .ok (.invokevirtual 183, 3) := dk_182 0 183 (dk_at dksX1_strongest_0 5 rfl rfl)
theorem dX1_strongest_8 : decode cX1_strongest 8 = .ok (.iconst (-1), 1) := dk_2 (dk_at dksX1_strongest_0 8 rfl rfl)
theorem dX1_strongest_9 : decode cX1_strongest 9 = .ok (.istore_n 2, 1) := dk_61 (dk_at dksX1_strongest_0 9 rfl rfl)
theorem dX1_strongest_10 : decode cX1_strongest 10 = .ok (.iconst 0, 1) := dk_3 (dk_at dksX1_strongest_0 10 rfl rfl)
theorem dX1_strongest_11 : decode cX1_strongest 11 = .ok (.istore_n 3, 1) := dk_62 (dk_at dksX1_strongest_0 11 rfl rfl)
theorem dX1_strongest_12 : decode cX1_strongest 12 = .ok (.iload_n 3, 1) := dk_29 (dk_at dksX1_strongest_0 12 rfl rfl)
theorem dX1_strongest_13 : decode cX1_strongest 13 = .ok (.aload_n 0, 1) := dk_42 (dk_at dksX1_strongest_0 13 rfl rfl)
theorem dX1_strongest_14 : decode cX1_strongest 14 = .ok (.invokevirtual 165, 3) := dk_182 0 165 (dk_at dksX1_strongest_0 14 rfl rfl)
theorem dX1_strongest_17 : decode cX1_strongest 17 = .ok (.if_icmp .ge 48, 3) := dk_162 0 48 (dk_at dksX1_strongest_0 17 rfl rfl)
theorem dX1_strongest_20 : decode cX1_strongest 20 = .ok (.aload_n 0, 1) := dk_42 (dk_at dksX1_strongest_0 20 rfl rfl)
theorem dX1_strongest_21 : decode cX1_strongest 21 = .ok (.getfield 58, 3) := dk_180 0 58 (dk_at dksX1_strongest_0 21 rfl rfl)
theorem dX1_strongest_24 : decode cX1_strongest 24 = .ok (.getfield 311, 3) := dk_180 1 55 (dk_at dksX1_strongest_1 0 rfl rfl)
theorem dX1_strongest_27 : decode cX1_strongest 27 = .ok (.iload_n 3, 1) := dk_29 (dk_at dksX1_strongest_1 3 rfl rfl)
theorem dX1_strongest_28 : decode cX1_strongest 28 = .ok (.iaload, 1) := dk_46 (dk_at dksX1_strongest_1 4 rfl rfl)
theorem dX1_strongest_29 : decode cX1_strongest 29 = .ok (.iconst (-1), 1) := dk_2 (dk_at dksX1_strongest_1 5 rfl rfl)
theorem dX1_strongest_30 : decode cX1_strongest 30 = .ok (.if_icmp .eq 29, 3) := dk_159 0 29 (dk_at dksX1_strongest_1 6 rfl rfl)
theorem dX1_strongest_33 : decode cX1_strongest 33 = .ok (.iload_n 2, 1) := dk_28 (dk_at dksX1_strongest_1 9 rfl rfl)
theorem dX1_strongest_34 : decode cX1_strongest 34 = .ok (.iconst (-1), 1) := dk_2 (dk_at dksX1_strongest_1 10 rfl rfl)
theorem dX1_strongest_35 : decode cX1_strongest 35 = .ok (.if_icmp .eq 22, 3) := dk_159 0 22 (dk_at dksX1_strongest_1 11 rfl rfl)
theorem dX1_strongest_38 : decode cX1_strongest 38 = .ok (.aload_n 0, 1) := dk_42 (dk_at dksX1_strongest_1 14 rfl rfl)
theorem dX1_strongest_39 : decode cX1_strongest 39 = .ok (.getfield 58, 3) := dk_180 0 58 (dk_at dksX1_strongest_1 15 rfl rfl)
theorem dX1_strongest_42 : decode cX1_strongest 42 = .ok (.iload_n 3, 1) := dk_29 (dk_at dksX1_strongest_1 18 rfl rfl)
theorem dX1_strongest_43 : decode cX1_strongest 43 = .ok (.invokevirtual 314, 3) := dk_182 1 58 (dk_at dksX1_strongest_1 19 rfl rfl)
theorem dX1_strongest_46 : decode cX1_strongest 46 = .ok (.aload_n 0, 1) := dk_42 (dk_at dksX1_strongest_1 22 rfl rfl)
theorem dX1_strongest_47 : decode cX1_strongest 47 = .ok (.getfield 58, 3) := dk_180 0 58 (dk_at dksX1_strongest_2 0 rfl rfl)
theorem dX1_strongest_50 : decode cX1_strongest 50 = .ok (.iload_n 2, 1) := dk_28 (dk_at dksX1_strongest_2 3 rfl rfl)
theorem dX1_strongest_51 : decode cX1_strongest 51 = .ok (.invokevirtual 314, 3) := dk_182 1 58 (dk_at dksX1_strongest_2 4 rfl rfl)
theorem dX1_strongest_54 : decode cX1_strongest 54 = .ok (.if_icmp .le 5, 3) := dk_164 0 5 (dk_at dksX1_strongest_2 7 rfl rfl)
theorem dX1_strongest_57 : decode cX1_strongest 57 = .ok (.iload_n 3, 1) := dk_29 (dk_at dksX1_strongest_2 10 rfl rfl)
theorem dX1_strongest_58 : decode cX1_strongest 58 = .ok (.istore_n 2, 1) := dk_61 (dk_at dksX1_strongest_2 11 rfl rfl)
theorem dX1_strongest_59 : decode cX1_strongest 59 = .ok (.iinc 3 1, 3) := dk_132 3 1 (dk_at dksX1_strongest_2 12 rfl rfl)
theorem dX1_strongest_62 : decode cX1_strongest 62 = .ok (.goto (-50), 3) := dk_167 255 206 (dk_at dksX1_strongest_2 15 rfl rfl)
theorem dX1_strongest_65 : decode cX1_strongest 65 = .ok (.iload_n 1, 1) := dk_27 (dk_at dksX1_strongest_2 18 rfl rfl)
theorem dX1_strongest_66 : decode cX1_strongest 66 = .ok (.ifCond .eq 8, 3) := dk_153 0 8 (dk_at dksX1_strongest_2 19 rfl rfl)
theorem dX1_strongest_69 : decode cX1_strongest 69 = .ok (.iload_n 2, 1) := dk_28 (dk_at dksX1_strongest_2 22 rfl rfl)
theorem dX1_strongest_70 : decode cX1_strongest 70 = .ok (.iconst (-1), 1) := dk_2 (dk_at dksX1_strongest_2 23 rfl rfl)
theorem dX1_strongest_71 : decode cX1_strongest 71 = .ok (.if_icmp .ne 7, 3) := dk_160 0 7 (dk_at dksX1_strongest_3 0 rfl rfl)
theorem dX1_strongest_74 : decode cX1_strongest 74 = .ok (.iload_n 2, 1) := dk_28 (dk_at dksX1_strongest_3 3 rfl rfl)
theorem dX1_strongest_75 : decode cX1_strongest 75 = .ok (.goto 11, 3) := dk_167 0 11 (dk_at dksX1_strongest_3 4 rfl rfl)
theorem dX1_strongest_78 : decode cX1_strongest 78 = .ok (.aload_n 0, 1) := dk_42 (dk_at dksX1_strongest_3 7 rfl rfl)
theorem dX1_strongest_79 : decode cX1_strongest 79 = .ok (.getfield 58, 3) := dk_180 0 58 (dk_at dksX1_strongest_3 8 rfl rfl)
theorem dX1_strongest_82 : decode cX1_strongest 82 = .ok (.iload_n 2, 1) := dk_28 (dk_at dksX1_strongest_3 11 rfl rfl)
theorem dX1_strongest_83 : decode cX1_strongest 83 = .ok (.invokevirtual 314, 3) := dk_182 1 58 (dk_at dksX1_strongest_3 12 rfl rfl)
theorem dX1_strongest_86 : decode cX1_strongest 86 = .ok (.ireturn, 1) := dk_172 (dk_at dksX1_strongest_3 15 rfl rfl)
def dkwX1_hopeless_4 : List UInt8 := [29, 172]
abbrev dktX1_hopeless_4 : List UInt8 := dkwX1_hopeless_4 ++ []
def dkwX1_hopeless_3 : List UInt8 := [21, 4, 184, 1, 74, 154, 0, 10, 4, 21, 4, 120, 167, 0, 4, 3, 128, 62, 132, 4, 1, 167, 255, 209]
abbrev dktX1_hopeless_3 : List UInt8 := dkwX1_hopeless_3 ++ dktX1_hopeless_4
def dkwX1_hopeless_2 : List UInt8 := [182, 0, 167, 162, 0, 44, 29, 44, 180, 1, 32, 21, 4, 46, 2, 160, 0, 23, 44, 42, 182, 0, 165]
abbrev dktX1_hopeless_2 : List UInt8 := dkwX1_hopeless_2 ++ dktX1_hopeless_3
def dkwX1_hopeless_1 : List UInt8 := [62, 29, 27, 162, 0, 13, 44, 182, 1, 85, 132, 3, 1, 167, 255, 244, 3, 62, 3, 54, 4, 21, 4, 42]
abbrev dktX1_hopeless_1 : List UInt8 := dkwX1_hopeless_1 ++ dktX1_hopeless_2
def dkwX1_hopeless_0 : List UInt8 := [42, 27, 3, 16, 99, 184, 0, 252, 182, 0, 183, 42, 180, 0, 62, 42, 180, 0, 58, 182, 0, 248, 77, 3]
abbrev dktX1_hopeless_0 : List UInt8 := dkwX1_hopeless_0 ++ dktX1_hopeless_1
theorem dksX1_hopeless_0 : cX1_hopeless.data.toList.drop 0 = dktX1_hopeless_0 := by decide +kernel
theorem dksX1_hopeless_1 : cX1_hopeless.data.toList.drop 24 = dktX1_hopeless_1 := dk_seg dksX1_hopeless_0 24 rfl rfl
theorem dksX1_hopeless_2 : cX1_hopeless.data.toList.drop 48 = dktX1_hopeless_2 := dk_seg dksX1_hopeless_1 24 rfl rfl
theorem dksX1_hopeless_3 : cX1_hopeless.data.toList.drop 71 = dktX1_hopeless_3 := dk_seg dksX1_hopeless_2 23 rfl rfl
theorem dksX1_hopeless_4 : cX1_hopeless.data.toList.drop 95 = dktX1_hopeless_4 := dk_seg dksX1_hopeless_3 24 rfl rfl
theorem dX1_hopeless_0 : decode cX1_hopeless 0 = .ok (.aload_n 0, 1) := dk_42 (dk_at dksX1_hopeless_0 0 rfl rfl)
theorem dX1_hopeless_1 : decode cX1_hopeless 1 = .ok (.iload_n 1, 1) := dk_27 (dk_at dksX1_hopeless_0 1 rfl rfl)
theorem dX1_hopeless_2 : decode cX1_hopeless 2 = .ok (.iconst 0, 1) := dk_3 (dk_at dksX1_hopeless_0 2 rfl rfl)
theorem dX1_hopeless_3 : decode cX1_hopeless 3 = .ok (.bipush 99, 2) := dk_16 99 (dk_at dksX1_hopeless_0 3 rfl rfl)
theorem dX1_hopeless_5 : decode cX1_hopeless 5 = .ok (.invokestatic 252, 3) := dk_184 0 252 (dk_at dksX1_hopeless_0 5 rfl rfl)
theorem dX1_hopeless_8 : decode cX1_hopeless 8 = .ok (.invokevirtual 183, 3) := dk_182 0 183 (dk_at dksX1_hopeless_0 8 rfl rfl)
theorem dX1_hopeless_11 : decode cX1_hopeless 11 = .ok (.aload_n 0, 1) := dk_42 (dk_at dksX1_hopeless_0 11 rfl rfl)
theorem dX1_hopeless_12 : decode cX1_hopeless 12 = .ok (.getfield 62, 3) := dk_180 0 62 (dk_at dksX1_hopeless_0 12 rfl rfl)
theorem dX1_hopeless_15 : decode cX1_hopeless 15 = .ok (.aload_n 0, 1) := dk_42 (dk_at dksX1_hopeless_0 15 rfl rfl)
theorem dX1_hopeless_16 : decode cX1_hopeless 16 = .ok (.getfield 58, 3) := dk_180 0 58 (dk_at dksX1_hopeless_0 16 rfl rfl)
theorem dX1_hopeless_19 : decode cX1_hopeless 19 = .ok (.invokevirtual 248, 3) := dk_182 0 248 (dk_at dksX1_hopeless_0 19 rfl rfl)
theorem dX1_hopeless_22 : decode cX1_hopeless 22 = .ok (.astore_n 2, 1) := dk_77 (dk_at dksX1_hopeless_0 22 rfl rfl)
theorem dX1_hopeless_23 : decode cX1_hopeless 23 = .ok (.iconst 0, 1) := dk_3 (dk_at dksX1_hopeless_0 23 rfl rfl)
theorem dX1_hopeless_24 : decode cX1_hopeless 24 = .ok (.istore_n 3, 1) := dk_62 (dk_at dksX1_hopeless_1 0 rfl rfl)
theorem dX1_hopeless_25 : decode cX1_hopeless 25 = .ok (.iload_n 3, 1) := dk_29 (dk_at dksX1_hopeless_1 1 rfl rfl)
theorem dX1_hopeless_26 : decode cX1_hopeless 26 = .ok (.iload_n 1, 1) := dk_27 (dk_at dksX1_hopeless_1 2 rfl rfl)
theorem dX1_hopeless_27 : decode cX1_hopeless 27 = .ok (.if_icmp .ge 13, 3) := dk_162 0 13 (dk_at dksX1_hopeless_1 3 rfl rfl)
theorem dX1_hopeless_30 : decode cX1_hopeless 30 = .ok (.aload_n 2, 1) := dk_44 (dk_at dksX1_hopeless_1 6 rfl rfl)
theorem dX1_hopeless_31 : decode cX1_hopeless 31 = .ok (.invokevirtual 341, 3) := dk_182 1 85 (dk_at dksX1_hopeless_1 7 rfl rfl)
theorem dX1_hopeless_34 : decode cX1_hopeless 34 = .ok (.iinc 3 1, 3) := dk_132 3 1 (dk_at dksX1_hopeless_1 10 rfl rfl)
theorem dX1_hopeless_37 : decode cX1_hopeless 37 = .ok (.goto (-12), 3) := dk_167 255 244 (dk_at dksX1_hopeless_1 13 rfl rfl)
theorem dX1_hopeless_40 : decode cX1_hopeless 40 = .ok (.iconst 0, 1) := dk_3 (dk_at dksX1_hopeless_1 16 rfl rfl)
theorem dX1_hopeless_41 : decode cX1_hopeless 41 = .ok (.istore_n 3, 1) := dk_62 (dk_at dksX1_hopeless_1 17 rfl rfl)
theorem dX1_hopeless_42 : decode cX1_hopeless 42 = .ok (.iconst 0, 1) := dk_3 (dk_at dksX1_hopeless_1 18 rfl rfl)
theorem dX1_hopeless_43 : decode cX1_hopeless 43 = .ok (.istore 4, 2) := dk_54 4 (dk_at dksX1_hopeless_1 19 rfl rfl)
theorem dX1_hopeless_45 : decode cX1_hopeless 45 = .ok (.iload 4, 2) := dk_21 4 (dk_at dksX1_hopeless_1 21 rfl rfl)
theorem dX1_hopeless_47 : decode cX1_hopeless 47 = .ok (.aload_n 0, 1) := dk_42 (dk_at dksX1_hopeless_1 23 rfl rfl)
theorem dX1_hopeless_48 : decode cX1_hopeless 48 = .ok (.invokevirtual 167, 3) := dk_182 0 167 (dk_at dksX1_hopeless_2 0 rfl rfl)
theorem dX1_hopeless_51 : decode cX1_hopeless 51 = .ok (.if_icmp .ge 44, 3) := dk_162 0 44 (dk_at dksX1_hopeless_2 3 rfl rfl)
theorem dX1_hopeless_54 : decode cX1_hopeless 54 = .ok (.iload_n 3, 1) := dk_29 (dk_at dksX1_hopeless_2 6 rfl rfl)
theorem dX1_hopeless_55 : decode cX1_hopeless 55 = .ok (.aload_n 2, 1) := dk_44 (dk_at dksX1_hopeless_2 7 rfl rfl)
theorem dX1_hopeless_56 : decode cX1_hopeless 56 = .ok (.getfield 288, 3) := dk_180 1 32 (dk_at dksX1_hopeless_2 8 rfl rfl)
theorem dX1_hopeless_59 : decode cX1_hopeless 59 = .ok (.iload 4, 2) := dk_21 4 (dk_at dksX1_hopeless_2 11 rfl rfl)
theorem dX1_hopeless_61 : decode cX1_hopeless 61 = .ok (.iaload, 1) := dk_46 (dk_at dksX1_hopeless_2 13 rfl rfl)
theorem dX1_hopeless_62 : decode cX1_hopeless 62 = .ok (.iconst (-1), 1) := dk_2 (dk_at dksX1_hopeless_2 14 rfl rfl)
theorem dX1_hopeless_63 : decode cX1_hopeless 63 = .ok (.if_icmp .ne 23, 3) := dk_160 0 23 (dk_at dksX1_hopeless_2 15 rfl rfl)
theorem dX1_hopeless_66 : decode cX1_hopeless 66 = .ok (.aload_n 2, 1) := dk_44 (dk_at dksX1_hopeless_2 18 rfl rfl)
theorem dX1_hopeless_67 : decode cX1_hopeless 67 = .ok (.aload_n 0, 1) := dk_42 (dk_at dksX1_hopeless_2 19 rfl rfl)
theorem dX1_hopeless_68 : decode cX1_hopeless 68 = .ok (.invokevirtual 165, 3) := dk_182 0 165 (dk_at dksX1_hopeless_2 20 rfl rfl)
theorem dX1_hopeless_71 : decode cX1_hopeless 71 = .ok (.iload 4, 2) := dk_21 4 (dk_at dksX1_hopeless_3 0 rfl rfl)
theorem dX1_hopeless_73 : decode cX1_hopeless 73 = .ok (.invokestatic 330, 3) := dk_184 1 74 (dk_at dksX1_hopeless_3 2 rfl rfl)
theorem dX1_hopeless_76 : decode cX1_hopeless 76 = .ok (.ifCond .ne 10, 3) := dk_154 0 10 (dk_at dksX1_hopeless_3 5 rfl rfl)
theorem dX1_hopeless_79 : decode cX1_hopeless 79 = .ok (.iconst 1, 1) := dk_4 (dk_at dksX1_hopeless_3 8 rfl rfl)
theorem dX1_hopeless_80 : decode cX1_hopeless 80 = .ok (.iload 4, 2) := dk_21 4 (dk_at dksX1_hopeless_3 9 rfl rfl)
theorem dX1_hopeless_82 : decode cX1_hopeless 82 = .ok (.ishl, 1) := dk_120 (dk_at dksX1_hopeless_3 11 rfl rfl)
theorem dX1_hopeless_83 : decode cX1_hopeless 83 = .ok (.goto 4, 3) := dk_167 0 4 (dk_at dksX1_hopeless_3 12 rfl rfl)
theorem dX1_hopeless_86 : decode cX1_hopeless 86 = .ok (.iconst 0, 1) := dk_3 (dk_at dksX1_hopeless_3 15 rfl rfl)
theorem dX1_hopeless_87 : decode cX1_hopeless 87 = .ok (.ior, 1) := dk_128 (dk_at dksX1_hopeless_3 16 rfl rfl)
theorem dX1_hopeless_88 : decode cX1_hopeless 88 = .ok (.istore_n 3, 1) := dk_62 (dk_at dksX1_hopeless_3 17 rfl rfl)
theorem dX1_hopeless_89 : decode cX1_hopeless 89 = .ok (.iinc 4 1, 3) := dk_132 4 1 (dk_at dksX1_hopeless_3 18 rfl rfl)
theorem dX1_hopeless_92 : decode cX1_hopeless 92 = .ok (.goto (-47), 3) := dk_167 255 209 (dk_at dksX1_hopeless_3 21 rfl rfl)
theorem dX1_hopeless_95 : decode cX1_hopeless 95 = .ok (.iload_n 3, 1) := dk_29 (dk_at dksX1_hopeless_4 0 rfl rfl)
theorem dX1_hopeless_96 : decode cX1_hopeless 96 = .ok (.ireturn, 1) := dk_172 (dk_at dksX1_hopeless_4 1 rfl rfl)
def dkwX1_eldest_3 : List UInt8 := [42, 180, 0, 58, 180, 1, 55, 28, 46, 172]
abbrev dktX1_eldest_3 : List UInt8 := dkwX1_eldest_3 ++ []
def dkwX1_eldest_2 : List UInt8 := [164, 0, 5, 29, 61, 132, 3, 1, 167, 255, 213, 27, 153, 0, 8, 28, 2, 160, 0, 7, 28, 167, 0, 12]
abbrev dktX1_eldest_2 : List UInt8 := dkwX1_eldest_2 ++ dktX1_eldest_3
def dkwX1_eldest_1 : List UInt8 := [180, 1, 55, 29, 46, 28, 2, 160, 0, 7, 2, 167, 0, 12, 42, 180, 0, 58, 180, 1, 55, 28, 46]
abbrev dktX1_eldest_1 : List UInt8 := dkwX1_eldest_1 ++ dktX1_eldest_2
def dkwX1_eldest_0 : List UInt8 := [42, 27, 184, 1, 88, 182, 0, 183, 2, 61, 3, 62, 29, 42, 182, 0, 165, 162, 0, 41, 42, 180, 0, 58]
abbrev dktX1_eldest_0 : List UInt8 := dkwX1_eldest_0 ++ dktX1_eldest_1
theorem dksX1_eldest_0 : cX1_eldest.data.toList.drop 0 = dktX1_eldest_0 := by decide +kernel
theorem dksX1_eldest_1 : cX1_eldest.data.toList.drop 24 = dktX1_eldest_1 := dk_seg dksX1_eldest_0 24 rfl rfl
theorem dksX1_eldest_2 : cX1_eldest.data.toList.drop 47 = dktX1_eldest_2 := dk_seg dksX1_eldest_1 23 rfl rfl
theorem dksX1_eldest_3 : cX1_eldest.data.toList.drop 71 = dktX1_eldest_3 := dk_seg dksX1_eldest_2 24 rfl rfl
theorem dX1_eldest_0 : decode cX1_eldest 0 = .ok (.aload_n 0, 1) := dk_42 (dk_at dksX1_eldest_0 0 rfl rfl)
theorem dX1_eldest_1 : decode cX1_eldest 1 = .ok (.iload_n 1, 1) := dk_27 (dk_at dksX1_eldest_0 1 rfl rfl)
theorem dX1_eldest_2 : decode cX1_eldest 2 = .ok (.invokestatic 344, 3) := dk_184 1 88 (dk_at dksX1_eldest_0 2 rfl rfl)
theorem dX1_eldest_5 : decode cX1_eldest 5 = .ok (.invokevirtual 183, 3) := dk_182 0 183 (dk_at dksX1_eldest_0 5 rfl rfl)
theorem dX1_eldest_8 : decode cX1_eldest 8 = .ok (.iconst (-1), 1) := dk_2 (dk_at dksX1_eldest_0 8 rfl rfl)
theorem dX1_eldest_9 : decode cX1_eldest 9 = .ok (.istore_n 2, 1) := dk_61 (dk_at dksX1_eldest_0 9 rfl rfl)
theorem dX1_eldest_10 : decode cX1_eldest 10 = .ok (.iconst 0, 1) := dk_3 (dk_at dksX1_eldest_0 10 rfl rfl)
theorem dX1_eldest_11 : decode cX1_eldest 11 = .ok (.istore_n 3, 1) := dk_62 (dk_at dksX1_eldest_0 11 rfl rfl)
theorem dX1_eldest_12 : decode cX1_eldest 12 = .ok (.iload_n 3, 1) := dk_29 (dk_at dksX1_eldest_0 12 rfl rfl)
theorem dX1_eldest_13 : decode cX1_eldest 13 = .ok (.aload_n 0, 1) := dk_42 (dk_at dksX1_eldest_0 13 rfl rfl)
theorem dX1_eldest_14 : decode cX1_eldest 14 = .ok (.invokevirtual 165, 3) := dk_182 0 165 (dk_at dksX1_eldest_0 14 rfl rfl)
theorem dX1_eldest_17 : decode cX1_eldest 17 = .ok (.if_icmp .ge 41, 3) := dk_162 0 41 (dk_at dksX1_eldest_0 17 rfl rfl)
theorem dX1_eldest_20 : decode cX1_eldest 20 = .ok (.aload_n 0, 1) := dk_42 (dk_at dksX1_eldest_0 20 rfl rfl)
theorem dX1_eldest_21 : decode cX1_eldest 21 = .ok (.getfield 58, 3) := dk_180 0 58 (dk_at dksX1_eldest_0 21 rfl rfl)
theorem dX1_eldest_24 : decode cX1_eldest 24 = .ok (.getfield 311, 3) := dk_180 1 55 (dk_at dksX1_eldest_1 0 rfl rfl)
theorem dX1_eldest_27 : decode cX1_eldest 27 = .ok (.iload_n 3, 1) := dk_29 (dk_at dksX1_eldest_1 3 rfl rfl)
theorem dX1_eldest_28 : decode cX1_eldest 28 = .ok (.iaload, 1) := dk_46 (dk_at dksX1_eldest_1 4 rfl rfl)
theorem dX1_eldest_29 : decode cX1_eldest 29 = .ok (.iload_n 2, 1) := dk_28 (dk_at dksX1_eldest_1 5 rfl rfl)
theorem dX1_eldest_30 : decode cX1_eldest 30 = .ok (.iconst (-1), 1) := dk_2 (dk_at dksX1_eldest_1 6 rfl rfl)
theorem dX1_eldest_31 : decode cX1_eldest 31 = .ok (.if_icmp .ne 7, 3) := dk_160 0 7 (dk_at dksX1_eldest_1 7 rfl rfl)
theorem dX1_eldest_34 : decode cX1_eldest 34 = .ok (.iconst (-1), 1) := dk_2 (dk_at dksX1_eldest_1 10 rfl rfl)
theorem dX1_eldest_35 : decode cX1_eldest 35 = .ok (.goto 12, 3) := dk_167 0 12 (dk_at dksX1_eldest_1 11 rfl rfl)
theorem dX1_eldest_38 : decode cX1_eldest 38 = .ok (.aload_n 0, 1) := dk_42 (dk_at dksX1_eldest_1 14 rfl rfl)
theorem dX1_eldest_39 : decode cX1_eldest 39 = .ok (.getfield 58, 3) := dk_180 0 58 (dk_at dksX1_eldest_1 15 rfl rfl)
theorem dX1_eldest_42 : decode cX1_eldest 42 = .ok (.getfield 311, 3) := dk_180 1 55 (dk_at dksX1_eldest_1 18 rfl rfl)
theorem dX1_eldest_45 : decode cX1_eldest 45 = .ok (.iload_n 2, 1) := dk_28 (dk_at dksX1_eldest_1 21 rfl rfl)
theorem dX1_eldest_46 : decode cX1_eldest 46 = .ok (.iaload, 1) := dk_46 (dk_at dksX1_eldest_1 22 rfl rfl)
theorem dX1_eldest_47 : decode cX1_eldest 47 = .ok (.if_icmp .le 5, 3) := dk_164 0 5 (dk_at dksX1_eldest_2 0 rfl rfl)
theorem dX1_eldest_50 : decode cX1_eldest 50 = .ok (.iload_n 3, 1) := dk_29 (dk_at dksX1_eldest_2 3 rfl rfl)
theorem dX1_eldest_51 : decode cX1_eldest 51 = .ok (.istore_n 2, 1) := dk_61 (dk_at dksX1_eldest_2 4 rfl rfl)
theorem dX1_eldest_52 : decode cX1_eldest 52 = .ok (.iinc 3 1, 3) := dk_132 3 1 (dk_at dksX1_eldest_2 5 rfl rfl)
theorem dX1_eldest_55 : decode cX1_eldest 55 = .ok (.goto (-43), 3) := dk_167 255 213 (dk_at dksX1_eldest_2 8 rfl rfl)
theorem dX1_eldest_58 : decode cX1_eldest 58 = .ok (.iload_n 1, 1) := dk_27 (dk_at dksX1_eldest_2 11 rfl rfl)
theorem dX1_eldest_59 : decode cX1_eldest 59 = .ok (.ifCond .eq 8, 3) := dk_153 0 8 (dk_at dksX1_eldest_2 12 rfl rfl)
theorem dX1_eldest_62 : decode cX1_eldest 62 = .ok (.iload_n 2, 1) := dk_28 (dk_at dksX1_eldest_2 15 rfl rfl)
theorem dX1_eldest_63 : decode cX1_eldest 63 = .ok (.iconst (-1), 1) := dk_2 (dk_at dksX1_eldest_2 16 rfl rfl)
theorem dX1_eldest_64 : decode cX1_eldest 64 = .ok (.if_icmp .ne 7, 3) := dk_160 0 7 (dk_at dksX1_eldest_2 17 rfl rfl)
theorem dX1_eldest_67 : decode cX1_eldest 67 = .ok (.iload_n 2, 1) := dk_28 (dk_at dksX1_eldest_2 20 rfl rfl)
theorem dX1_eldest_68 : decode cX1_eldest 68 = .ok (.goto 12, 3) := dk_167 0 12 (dk_at dksX1_eldest_2 21 rfl rfl)
theorem dX1_eldest_71 : decode cX1_eldest 71 = .ok (.aload_n 0, 1) := dk_42 (dk_at dksX1_eldest_3 0 rfl rfl)
theorem dX1_eldest_72 : decode cX1_eldest 72 = .ok (.getfield 58, 3) := dk_180 0 58 (dk_at dksX1_eldest_3 1 rfl rfl)
theorem dX1_eldest_75 : decode cX1_eldest 75 = .ok (.getfield 311, 3) := dk_180 1 55 (dk_at dksX1_eldest_3 4 rfl rfl)
theorem dX1_eldest_78 : decode cX1_eldest 78 = .ok (.iload_n 2, 1) := dk_28 (dk_at dksX1_eldest_3 7 rfl rfl)
theorem dX1_eldest_79 : decode cX1_eldest 79 = .ok (.iaload, 1) := dk_46 (dk_at dksX1_eldest_3 8 rfl rfl)
theorem dX1_eldest_80 : decode cX1_eldest 80 = .ok (.ireturn, 1) := dk_172 (dk_at dksX1_eldest_3 9 rfl rfl)
def dkwX1_needs_2 : List UInt8 := [42, 29, 182, 1, 67, 180, 1, 72, 167, 0, 4, 3, 96, 61, 132, 3, 1, 167, 255, 205, 28, 172]
abbrev dktX1_needs_2 : List UInt8 := dkwX1_needs_2 ++ []
def dkwX1_needs_1 : List UInt8 := [180, 0, 58, 180, 1, 32, 29, 46, 2, 160, 0, 26, 42, 29, 182, 1, 67, 180, 1, 71, 27, 160, 0, 14]
abbrev dktX1_needs_1 : List UInt8 := dkwX1_needs_1 ++ dktX1_needs_2
def dkwX1_needs_0 : List UInt8 := [42, 27, 3, 8, 184, 0, 252, 182, 0, 183, 3, 61, 3, 62, 29, 42, 182, 0, 167, 162, 0, 49, 28, 42]
abbrev dktX1_needs_0 : List UInt8 := dkwX1_needs_0 ++ dktX1_needs_1
theorem dksX1_needs_0 : cX1_needs.data.toList.drop 0 = dktX1_needs_0 := by decide +kernel
theorem dksX1_needs_1 : cX1_needs.data.toList.drop 24 = dktX1_needs_1 := dk_seg dksX1_needs_0 24 rfl rfl
theorem dksX1_needs_2 : cX1_needs.data.toList.drop 48 = dktX1_needs_2 := dk_seg dksX1_needs_1 24 rfl rfl
theorem dX1_needs_0 : decode cX1_needs 0 = .ok (.aload_n 0, 1) := dk_42 (dk_at dksX1_needs_0 0 rfl rfl)
theorem dX1_needs_1 : decode cX1_needs 1 = .ok (.iload_n 1, 1) := dk_27 (dk_at dksX1_needs_0 1 rfl rfl)
theorem dX1_needs_2 : decode cX1_needs 2 = .ok (.iconst 0, 1) := dk_3 (dk_at dksX1_needs_0 2 rfl rfl)
theorem dX1_needs_3 : decode cX1_needs 3 = .ok (.iconst 5, 1) := dk_8 (dk_at dksX1_needs_0 3 rfl rfl)
theorem dX1_needs_4 : decode cX1_needs 4 = .ok (.invokestatic 252, 3) := dk_184 0 252 (dk_at dksX1_needs_0 4 rfl rfl)
theorem dX1_needs_7 : decode cX1_needs 7 = .ok (.invokevirtual 183, 3) := dk_182 0 183 (dk_at dksX1_needs_0 7 rfl rfl)
theorem dX1_needs_10 : decode cX1_needs 10 = .ok (.iconst 0, 1) := dk_3 (dk_at dksX1_needs_0 10 rfl rfl)
theorem dX1_needs_11 : decode cX1_needs 11 = .ok (.istore_n 2, 1) := dk_61 (dk_at dksX1_needs_0 11 rfl rfl)
theorem dX1_needs_12 : decode cX1_needs 12 = .ok (.iconst 0, 1) := dk_3 (dk_at dksX1_needs_0 12 rfl rfl)
theorem dX1_needs_13 : decode cX1_needs 13 = .ok (.istore_n 3, 1) := dk_62 (dk_at dksX1_needs_0 13 rfl rfl)
theorem dX1_needs_14 : decode cX1_needs 14 = .ok (.iload_n 3, 1) := dk_29 (dk_at dksX1_needs_0 14 rfl rfl)
theorem dX1_needs_15 : decode cX1_needs 15 = .ok (.aload_n 0, 1) := dk_42 (dk_at dksX1_needs_0 15 rfl rfl)
theorem dX1_needs_16 : decode cX1_needs 16 = .ok (.invokevirtual 167, 3) := dk_182 0 167 (dk_at dksX1_needs_0 16 rfl rfl)
theorem dX1_needs_19 : decode cX1_needs 19 = .ok (.if_icmp .ge 49, 3) := dk_162 0 49 (dk_at dksX1_needs_0 19 rfl rfl)
theorem dX1_needs_22 : decode cX1_needs 22 = .ok (.iload_n 2, 1) := dk_28 (dk_at dksX1_needs_0 22 rfl rfl)
theorem dX1_needs_23 : decode cX1_needs 23 = .ok (.aload_n 0, 1) := dk_42 (dk_at dksX1_needs_0 23 rfl rfl)
theorem dX1_needs_24 : decode cX1_needs 24 = .ok (.getfield 58, 3) := dk_180 0 58 (dk_at dksX1_needs_1 0 rfl rfl)
theorem dX1_needs_27 : decode cX1_needs 27 = .ok (.getfield 288, 3) := dk_180 1 32 (dk_at dksX1_needs_1 3 rfl rfl)
theorem dX1_needs_30 : decode cX1_needs 30 = .ok (.iload_n 3, 1) := dk_29 (dk_at dksX1_needs_1 6 rfl rfl)
theorem dX1_needs_31 : decode cX1_needs 31 = .ok (.iaload, 1) := dk_46 (dk_at dksX1_needs_1 7 rfl rfl)
theorem dX1_needs_32 : decode cX1_needs 32 = .ok (.iconst (-1), 1) := dk_2 (dk_at dksX1_needs_1 8 rfl rfl)
theorem dX1_needs_33 : decode cX1_needs 33 = .ok (.if_icmp .ne 26, 3) := dk_160 0 26 (dk_at dksX1_needs_1 9 rfl rfl)
theorem dX1_needs_36 : decode cX1_needs 36 = .ok (.aload_n 0, 1) := dk_42 (dk_at dksX1_needs_1 12 rfl rfl)
theorem dX1_needs_37 : decode cX1_needs 37 = .ok (.iload_n 3, 1) := dk_29 (dk_at dksX1_needs_1 13 rfl rfl)
theorem dX1_needs_38 : decode cX1_needs 38 = .ok (.invokevirtual 323, 3) := dk_182 1 67 (dk_at dksX1_needs_1 14 rfl rfl)
theorem dX1_needs_41 : decode cX1_needs 41 = .ok (.getfield 327, 3) := dk_180 1 71 (dk_at dksX1_needs_1 17 rfl rfl)
theorem dX1_needs_44 : decode cX1_needs 44 = .ok (.iload_n 1, 1) := dk_27 (dk_at dksX1_needs_1 20 rfl rfl)
theorem dX1_needs_45 : decode cX1_needs 45 = .ok (.if_icmp .ne 14, 3) := dk_160 0 14 (dk_at dksX1_needs_1 21 rfl rfl)
theorem dX1_needs_48 : decode cX1_needs 48 = .ok (.aload_n 0, 1) := dk_42 (dk_at dksX1_needs_2 0 rfl rfl)
theorem dX1_needs_49 : decode cX1_needs 49 = .ok (.iload_n 3, 1) := dk_29 (dk_at dksX1_needs_2 1 rfl rfl)
theorem dX1_needs_50 : decode cX1_needs 50 = .ok (.invokevirtual 323, 3) := dk_182 1 67 (dk_at dksX1_needs_2 2 rfl rfl)
theorem dX1_needs_53 : decode cX1_needs 53 = .ok (.getfield 328, 3) := dk_180 1 72 (dk_at dksX1_needs_2 5 rfl rfl)
theorem dX1_needs_56 : decode cX1_needs 56 = .ok (.goto 4, 3) := dk_167 0 4 (dk_at dksX1_needs_2 8 rfl rfl)
theorem dX1_needs_59 : decode cX1_needs 59 = .ok (.iconst 0, 1) := dk_3 (dk_at dksX1_needs_2 11 rfl rfl)
theorem dX1_needs_60 : decode cX1_needs 60 = .ok (.iadd, 1) := dk_96 (dk_at dksX1_needs_2 12 rfl rfl)
theorem dX1_needs_61 : decode cX1_needs 61 = .ok (.istore_n 2, 1) := dk_61 (dk_at dksX1_needs_2 13 rfl rfl)
theorem dX1_needs_62 : decode cX1_needs 62 = .ok (.iinc 3 1, 3) := dk_132 3 1 (dk_at dksX1_needs_2 14 rfl rfl)
theorem dX1_needs_65 : decode cX1_needs 65 = .ok (.goto (-51), 3) := dk_167 255 205 (dk_at dksX1_needs_2 17 rfl rfl)
theorem dX1_needs_68 : decode cX1_needs 68 = .ok (.iload_n 2, 1) := dk_28 (dk_at dksX1_needs_2 20 rfl rfl)
theorem dX1_needs_69 : decode cX1_needs 69 = .ok (.ireturn, 1) := dk_172 (dk_at dksX1_needs_2 21 rfl rfl)
def dkwX1_strength_2 : List UInt8 := [167, 255, 218, 28, 172]
abbrev dktX1_strength_2 : List UInt8 := dkwX1_strength_2 ++ []
def dkwX1_strength_1 : List UInt8 := [180, 1, 46, 27, 160, 0, 14, 42, 180, 0, 58, 29, 182, 1, 58, 167, 0, 4, 3, 96, 61, 132, 3, 1]
abbrev dktX1_strength_1 : List UInt8 := dkwX1_strength_1 ++ dktX1_strength_2
def dkwX1_strength_0 : List UInt8 := [42, 27, 182, 1, 17, 3, 61, 3, 62, 29, 42, 182, 0, 165, 162, 0, 36, 28, 42, 29, 182, 1, 42]
abbrev dktX1_strength_0 : List UInt8 := dkwX1_strength_0 ++ dktX1_strength_1
theorem dksX1_strength_0 : cX1_strength.data.toList.drop 0 = dktX1_strength_0 := by decide +kernel
theorem dksX1_strength_1 : cX1_strength.data.toList.drop 23 = dktX1_strength_1 := dk_seg dksX1_strength_0 23 rfl rfl
theorem dksX1_strength_2 : cX1_strength.data.toList.drop 47 = dktX1_strength_2 := dk_seg dksX1_strength_1 24 rfl rfl
theorem dX1_strength_0 : decode cX1_strength 0 = .ok (.aload_n 0, 1) := dk_42 (dk_at dksX1_strength_0 0 rfl rfl)
theorem dX1_strength_1 : decode cX1_strength 1 = .ok (.iload_n 1, 1) := dk_27 (dk_at dksX1_strength_0 1 rfl rfl)
theorem dX1_strength_2 : decode cX1_strength 2 = .ok (.invokevirtual 273, 3) := dk_182 1 17 (dk_at dksX1_strength_0 2 rfl rfl)
theorem dX1_strength_5 : decode cX1_strength 5 = .ok (.iconst 0, 1) := dk_3 (dk_at dksX1_strength_0 5 rfl rfl)
theorem dX1_strength_6 : decode cX1_strength 6 = .ok (.istore_n 2, 1) := dk_61 (dk_at dksX1_strength_0 6 rfl rfl)
theorem dX1_strength_7 : decode cX1_strength 7 = .ok (.iconst 0, 1) := dk_3 (dk_at dksX1_strength_0 7 rfl rfl)
theorem dX1_strength_8 : decode cX1_strength 8 = .ok (.istore_n 3, 1) := dk_62 (dk_at dksX1_strength_0 8 rfl rfl)
theorem dX1_strength_9 : decode cX1_strength 9 = .ok (.iload_n 3, 1) := dk_29 (dk_at dksX1_strength_0 9 rfl rfl)
theorem dX1_strength_10 : decode cX1_strength 10 = .ok (.aload_n 0, 1) := dk_42 (dk_at dksX1_strength_0 10 rfl rfl)
theorem dX1_strength_11 : decode cX1_strength 11 = .ok (.invokevirtual 165, 3) := dk_182 0 165 (dk_at dksX1_strength_0 11 rfl rfl)
theorem dX1_strength_14 : decode cX1_strength 14 = .ok (.if_icmp .ge 36, 3) := dk_162 0 36 (dk_at dksX1_strength_0 14 rfl rfl)
theorem dX1_strength_17 : decode cX1_strength 17 = .ok (.iload_n 2, 1) := dk_28 (dk_at dksX1_strength_0 17 rfl rfl)
theorem dX1_strength_18 : decode cX1_strength 18 = .ok (.aload_n 0, 1) := dk_42 (dk_at dksX1_strength_0 18 rfl rfl)
theorem dX1_strength_19 : decode cX1_strength 19 = .ok (.iload_n 3, 1) := dk_29 (dk_at dksX1_strength_0 19 rfl rfl)
theorem dX1_strength_20 : decode cX1_strength 20 = .ok (.invokevirtual 298, 3) := dk_182 1 42 (dk_at dksX1_strength_0 20 rfl rfl)
theorem dX1_strength_23 : decode cX1_strength 23 = .ok (.getfield 302, 3) := dk_180 1 46 (dk_at dksX1_strength_1 0 rfl rfl)
theorem dX1_strength_26 : decode cX1_strength 26 = .ok (.iload_n 1, 1) := dk_27 (dk_at dksX1_strength_1 3 rfl rfl)
theorem dX1_strength_27 : decode cX1_strength 27 = .ok (.if_icmp .ne 14, 3) := dk_160 0 14 (dk_at dksX1_strength_1 4 rfl rfl)
theorem dX1_strength_30 : decode cX1_strength 30 = .ok (.aload_n 0, 1) := dk_42 (dk_at dksX1_strength_1 7 rfl rfl)
theorem dX1_strength_31 : decode cX1_strength 31 = .ok (.getfield 58, 3) := dk_180 0 58 (dk_at dksX1_strength_1 8 rfl rfl)
theorem dX1_strength_34 : decode cX1_strength 34 = .ok (.iload_n 3, 1) := dk_29 (dk_at dksX1_strength_1 11 rfl rfl)
theorem dX1_strength_35 : decode cX1_strength 35 = .ok (.invokevirtual 314, 3) := dk_182 1 58 (dk_at dksX1_strength_1 12 rfl rfl)
theorem dX1_strength_38 : decode cX1_strength 38 = .ok (.goto 4, 3) := dk_167 0 4 (dk_at dksX1_strength_1 15 rfl rfl)
theorem dX1_strength_41 : decode cX1_strength 41 = .ok (.iconst 0, 1) := dk_3 (dk_at dksX1_strength_1 18 rfl rfl)
theorem dX1_strength_42 : decode cX1_strength 42 = .ok (.iadd, 1) := dk_96 (dk_at dksX1_strength_1 19 rfl rfl)
theorem dX1_strength_43 : decode cX1_strength 43 = .ok (.istore_n 2, 1) := dk_61 (dk_at dksX1_strength_1 20 rfl rfl)
theorem dX1_strength_44 : decode cX1_strength 44 = .ok (.iinc 3 1, 3) := dk_132 3 1 (dk_at dksX1_strength_1 21 rfl rfl)
theorem dX1_strength_47 : decode cX1_strength 47 = .ok (.goto (-38), 3) := dk_167 255 218 (dk_at dksX1_strength_2 0 rfl rfl)
theorem dX1_strength_50 : decode cX1_strength 50 = .ok (.iload_n 2, 1) := dk_28 (dk_at dksX1_strength_2 3 rfl rfl)
theorem dX1_strength_51 : decode cX1_strength 51 = .ok (.ireturn, 1) := dk_172 (dk_at dksX1_strength_2 4 rfl rfl)
def dkwX1_weakest_3 : List UInt8 := [167, 0, 12, 42, 180, 0, 58, 180, 1, 23, 28, 46, 172]
abbrev dktX1_weakest_3 : List UInt8 := dkwX1_weakest_3 ++ []
def dkwX1_weakest_2 : List UInt8 := [28, 46, 164, 0, 5, 29, 61, 132, 3, 1, 167, 255, 210, 27, 153, 0, 8, 28, 2, 160, 0, 7, 28]
abbrev dktX1_weakest_2 : List UInt8 := dkwX1_weakest_2 ++ dktX1_weakest_3
def dkwX1_weakest_1 : List UInt8 := [180, 0, 58, 180, 1, 23, 29, 46, 28, 2, 160, 0, 7, 3, 167, 0, 12, 42, 180, 0, 58, 180, 1, 23]
abbrev dktX1_weakest_1 : List UInt8 := dkwX1_weakest_1 ++ dktX1_weakest_2
def dkwX1_weakest_0 : List UInt8 := [42, 27, 184, 1, 88, 182, 0, 183, 2, 61, 3, 62, 29, 42, 180, 0, 31, 180, 0, 158, 162, 0, 41, 42]
abbrev dktX1_weakest_0 : List UInt8 := dkwX1_weakest_0 ++ dktX1_weakest_1
theorem dksX1_weakest_0 : cX1_weakest.data.toList.drop 0 = dktX1_weakest_0 := by decide +kernel
theorem dksX1_weakest_1 : cX1_weakest.data.toList.drop 24 = dktX1_weakest_1 := dk_seg dksX1_weakest_0 24 rfl rfl
theorem dksX1_weakest_2 : cX1_weakest.data.toList.drop 48 = dktX1_weakest_2 := dk_seg dksX1_weakest_1 24 rfl rfl
theorem dksX1_weakest_3 : cX1_weakest.data.toList.drop 71 = dktX1_weakest_3 := dk_seg dksX1_weakest_2 23 rfl rfl
theorem dX1_weakest_0 : decode cX1_weakest 0 = .ok (.aload_n 0, 1) := dk_42 (dk_at dksX1_weakest_0 0 rfl rfl)
theorem dX1_weakest_1 : decode cX1_weakest 1 = .ok (.iload_n 1, 1) := dk_27 (dk_at dksX1_weakest_0 1 rfl rfl)
theorem dX1_weakest_2 : decode cX1_weakest 2 = .ok (.invokestatic 344, 3) := dk_184 1 88 (dk_at dksX1_weakest_0 2 rfl rfl)
theorem dX1_weakest_5 : decode cX1_weakest 5 = .ok (.invokevirtual 183, 3) := dk_182 0 183 (dk_at dksX1_weakest_0 5 rfl rfl)
theorem dX1_weakest_8 : decode cX1_weakest 8 = .ok (.iconst (-1), 1) := dk_2 (dk_at dksX1_weakest_0 8 rfl rfl)
theorem dX1_weakest_9 : decode cX1_weakest 9 = .ok (.istore_n 2, 1) := dk_61 (dk_at dksX1_weakest_0 9 rfl rfl)
theorem dX1_weakest_10 : decode cX1_weakest 10 = .ok (.iconst 0, 1) := dk_3 (dk_at dksX1_weakest_0 10 rfl rfl)
theorem dX1_weakest_11 : decode cX1_weakest 11 = .ok (.istore_n 3, 1) := dk_62 (dk_at dksX1_weakest_0 11 rfl rfl)
theorem dX1_weakest_12 : decode cX1_weakest 12 = .ok (.iload_n 3, 1) := dk_29 (dk_at dksX1_weakest_0 12 rfl rfl)
theorem dX1_weakest_13 : decode cX1_weakest 13 = .ok (.aload_n 0, 1) := dk_42 (dk_at dksX1_weakest_0 13 rfl rfl)
theorem dX1_weakest_14 : decode cX1_weakest 14 = .ok (.getfield 31, 3) := dk_180 0 31 (dk_at dksX1_weakest_0 14 rfl rfl)
theorem dX1_weakest_17 : decode cX1_weakest 17 = .ok (.getfield 158, 3) := dk_180 0 158 (dk_at dksX1_weakest_0 17 rfl rfl)
theorem dX1_weakest_20 : decode cX1_weakest 20 = .ok (.if_icmp .ge 41, 3) := dk_162 0 41 (dk_at dksX1_weakest_0 20 rfl rfl)
theorem dX1_weakest_23 : decode cX1_weakest 23 = .ok (.aload_n 0, 1) := dk_42 (dk_at dksX1_weakest_0 23 rfl rfl)
theorem dX1_weakest_24 : decode cX1_weakest 24 = .ok (.getfield 58, 3) := dk_180 0 58 (dk_at dksX1_weakest_1 0 rfl rfl)
theorem dX1_weakest_27 : decode cX1_weakest 27 = .ok (.getfield 279, 3) := dk_180 1 23 (dk_at dksX1_weakest_1 3 rfl rfl)
theorem dX1_weakest_30 : decode cX1_weakest 30 = .ok (.iload_n 3, 1) := dk_29 (dk_at dksX1_weakest_1 6 rfl rfl)
theorem dX1_weakest_31 : decode cX1_weakest 31 = .ok (.iaload, 1) := dk_46 (dk_at dksX1_weakest_1 7 rfl rfl)
theorem dX1_weakest_32 : decode cX1_weakest 32 = .ok (.iload_n 2, 1) := dk_28 (dk_at dksX1_weakest_1 8 rfl rfl)
theorem dX1_weakest_33 : decode cX1_weakest 33 = .ok (.iconst (-1), 1) := dk_2 (dk_at dksX1_weakest_1 9 rfl rfl)
theorem dX1_weakest_34 : decode cX1_weakest 34 = .ok (.if_icmp .ne 7, 3) := dk_160 0 7 (dk_at dksX1_weakest_1 10 rfl rfl)
theorem dX1_weakest_37 : decode cX1_weakest 37 = .ok (.iconst 0, 1) := dk_3 (dk_at dksX1_weakest_1 13 rfl rfl)
theorem dX1_weakest_38 : decode cX1_weakest 38 = .ok (.goto 12, 3) := dk_167 0 12 (dk_at dksX1_weakest_1 14 rfl rfl)
theorem dX1_weakest_41 : decode cX1_weakest 41 = .ok (.aload_n 0, 1) := dk_42 (dk_at dksX1_weakest_1 17 rfl rfl)
theorem dX1_weakest_42 : decode cX1_weakest 42 = .ok (.getfield 58, 3) := dk_180 0 58 (dk_at dksX1_weakest_1 18 rfl rfl)
theorem dX1_weakest_45 : decode cX1_weakest 45 = .ok (.getfield 279, 3) := dk_180 1 23 (dk_at dksX1_weakest_1 21 rfl rfl)
theorem dX1_weakest_48 : decode cX1_weakest 48 = .ok (.iload_n 2, 1) := dk_28 (dk_at dksX1_weakest_2 0 rfl rfl)
theorem dX1_weakest_49 : decode cX1_weakest 49 = .ok (.iaload, 1) := dk_46 (dk_at dksX1_weakest_2 1 rfl rfl)
theorem dX1_weakest_50 : decode cX1_weakest 50 = .ok (.if_icmp .le 5, 3) := dk_164 0 5 (dk_at dksX1_weakest_2 2 rfl rfl)
theorem dX1_weakest_53 : decode cX1_weakest 53 = .ok (.iload_n 3, 1) := dk_29 (dk_at dksX1_weakest_2 5 rfl rfl)
theorem dX1_weakest_54 : decode cX1_weakest 54 = .ok (.istore_n 2, 1) := dk_61 (dk_at dksX1_weakest_2 6 rfl rfl)
theorem dX1_weakest_55 : decode cX1_weakest 55 = .ok (.iinc 3 1, 3) := dk_132 3 1 (dk_at dksX1_weakest_2 7 rfl rfl)
theorem dX1_weakest_58 : decode cX1_weakest 58 = .ok (.goto (-46), 3) := dk_167 255 210 (dk_at dksX1_weakest_2 10 rfl rfl)
theorem dX1_weakest_61 : decode cX1_weakest 61 = .ok (.iload_n 1, 1) := dk_27 (dk_at dksX1_weakest_2 13 rfl rfl)
theorem dX1_weakest_62 : decode cX1_weakest 62 = .ok (.ifCond .eq 8, 3) := dk_153 0 8 (dk_at dksX1_weakest_2 14 rfl rfl)
theorem dX1_weakest_65 : decode cX1_weakest 65 = .ok (.iload_n 2, 1) := dk_28 (dk_at dksX1_weakest_2 17 rfl rfl)
theorem dX1_weakest_66 : decode cX1_weakest 66 = .ok (.iconst (-1), 1) := dk_2 (dk_at dksX1_weakest_2 18 rfl rfl)
theorem dX1_weakest_67 : decode cX1_weakest 67 = .ok (.if_icmp .ne 7, 3) := dk_160 0 7 (dk_at dksX1_weakest_2 19 rfl rfl)
theorem dX1_weakest_70 : decode cX1_weakest 70 = .ok (.iload_n 2, 1) := dk_28 (dk_at dksX1_weakest_2 22 rfl rfl)
theorem dX1_weakest_71 : decode cX1_weakest 71 = .ok (.goto 12, 3) := dk_167 0 12 (dk_at dksX1_weakest_3 0 rfl rfl)
theorem dX1_weakest_74 : decode cX1_weakest 74 = .ok (.aload_n 0, 1) := dk_42 (dk_at dksX1_weakest_3 3 rfl rfl)
theorem dX1_weakest_75 : decode cX1_weakest 75 = .ok (.getfield 58, 3) := dk_180 0 58 (dk_at dksX1_weakest_3 4 rfl rfl)
theorem dX1_weakest_78 : decode cX1_weakest 78 = .ok (.getfield 279, 3) := dk_180 1 23 (dk_at dksX1_weakest_3 7 rfl rfl)
theorem dX1_weakest_81 : decode cX1_weakest 81 = .ok (.iload_n 2, 1) := dk_28 (dk_at dksX1_weakest_3 10 rfl rfl)
theorem dX1_weakest_82 : decode cX1_weakest 82 = .ok (.iaload, 1) := dk_46 (dk_at dksX1_weakest_3 11 rfl rfl)
theorem dX1_weakest_83 : decode cX1_weakest 83 = .ok (.ireturn, 1) := dk_172 (dk_at dksX1_weakest_3 12 rfl rfl)
def dkwX1_year_3 : List UInt8 := [25, 4, 182, 1, 8, 172]
abbrev dktX1_year_3 : List UInt8 := dkwX1_year_3 ++ []
def dkwX1_year_2 : List UInt8 := [4, 160, 0, 10, 42, 180, 1, 150, 167, 0, 21, 29, 5, 160, 0, 11, 25, 4, 182, 1, 14, 167, 0, 8]
abbrev dktX1_year_2 : List UInt8 := dkwX1_year_2 ++ dktX1_year_3
def dkwX1_year_1 : List UInt8 := [3, 182, 0, 183, 42, 27, 28, 182, 1, 159, 58, 4, 29, 154, 0, 10, 42, 180, 1, 147, 167, 0, 33, 29]
abbrev dktX1_year_1 : List UInt8 := dkwX1_year_1 ++ dktX1_year_2
def dkwX1_year_0 : List UInt8 := [42, 28, 4, 16, 96, 184, 0, 252, 153, 0, 16, 29, 3, 6, 184, 0, 252, 153, 0, 7, 4, 167, 0, 4]
abbrev dktX1_year_0 : List UInt8 := dkwX1_year_0 ++ dktX1_year_1
theorem dksX1_year_0 : cX1_year.data.toList.drop 0 = dktX1_year_0 := by decide +kernel
theorem dksX1_year_1 : cX1_year.data.toList.drop 24 = dktX1_year_1 := dk_seg dksX1_year_0 24 rfl rfl
theorem dksX1_year_2 : cX1_year.data.toList.drop 48 = dktX1_year_2 := dk_seg dksX1_year_1 24 rfl rfl
theorem dksX1_year_3 : cX1_year.data.toList.drop 72 = dktX1_year_3 := dk_seg dksX1_year_2 24 rfl rfl
theorem dX1_year_0 : decode cX1_year 0 = .ok (.aload_n 0, 1) := dk_42 (dk_at dksX1_year_0 0 rfl rfl)
theorem dX1_year_1 : decode cX1_year 1 = .ok (.iload_n 2, 1) := dk_28 (dk_at dksX1_year_0 1 rfl rfl)
theorem dX1_year_2 : decode cX1_year 2 = .ok (.iconst 1, 1) := dk_4 (dk_at dksX1_year_0 2 rfl rfl)
theorem dX1_year_3 : decode cX1_year 3 = .ok (.bipush 96, 2) := dk_16 96 (dk_at dksX1_year_0 3 rfl rfl)
theorem dX1_year_5 : decode cX1_year 5 = .ok (.invokestatic 252, 3) := dk_184 0 252 (dk_at dksX1_year_0 5 rfl rfl)
theorem dX1_year_8 : decode cX1_year 8 = .ok (.ifCond .eq 16, 3) := dk_153 0 16 (dk_at dksX1_year_0 8 rfl rfl)
theorem dX1_year_11 : decode cX1_year 11 = .ok (.iload_n 3, 1) := dk_29 (dk_at dksX1_year_0 11 rfl rfl)
theorem dX1_year_12 : decode cX1_year 12 = .ok (.iconst 0, 1) := dk_3 (dk_at dksX1_year_0 12 rfl rfl)
theorem dX1_year_13 : decode cX1_year 13 = .ok (.iconst 3, 1) := dk_6 (dk_at dksX1_year_0 13 rfl rfl)
theorem dX1_year_14 : decode cX1_year 14 = .ok (.invokestatic 252, 3) := dk_184 0 252 (dk_at dksX1_year_0 14 rfl rfl)
theorem dX1_year_17 : decode cX1_year 17 = .ok (.ifCond .eq 7, 3) := dk_153 0 7 (dk_at dksX1_year_0 17 rfl rfl)
theorem dX1_year_20 : decode cX1_year 20 = .ok (.iconst 1, 1) := dk_4 (dk_at dksX1_year_0 20 rfl rfl)
theorem dX1_year_21 : decode cX1_year 21 = .ok (.goto 4, 3) := dk_167 0 4 (dk_at dksX1_year_0 21 rfl rfl)
theorem dX1_year_24 : decode cX1_year 24 = .ok (.iconst 0, 1) := dk_3 (dk_at dksX1_year_1 0 rfl rfl)
theorem dX1_year_25 : decode cX1_year 25 = .ok (.invokevirtual 183, 3) := dk_182 0 183 (dk_at dksX1_year_1 1 rfl rfl)
theorem dX1_year_28 : decode cX1_year 28 = .ok (.aload_n 0, 1) := dk_42 (dk_at dksX1_year_1 4 rfl rfl)
theorem dX1_year_29 : decode cX1_year 29 = .ok (.iload_n 1, 1) := dk_27 (dk_at dksX1_year_1 5 rfl rfl)
theorem dX1_year_30 : decode cX1_year 30 = .ok (.iload_n 2, 1) := dk_28 (dk_at dksX1_year_1 6 rfl rfl)
theorem dX1_year_31 : decode cX1_year 31 = .ok (.invokevirtual 415, 3) := dk_182 1 159 (dk_at dksX1_year_1 7 rfl rfl)
theorem dX1_year_34 : decode cX1_year 34 = .ok (.astore 4, 2) := dk_58 4 (dk_at dksX1_year_1 10 rfl rfl)
theorem dX1_year_36 : decode cX1_year 36 = .ok (.iload_n 3, 1) := dk_29 (dk_at dksX1_year_1 12 rfl rfl)
theorem dX1_year_37 : decode cX1_year 37 = .ok (.ifCond .ne 10, 3) := dk_154 0 10 (dk_at dksX1_year_1 13 rfl rfl)
theorem dX1_year_40 : decode cX1_year 40 = .ok (.aload_n 0, 1) := dk_42 (dk_at dksX1_year_1 16 rfl rfl)
theorem dX1_year_41 : decode cX1_year 41 = .ok (.getfield 403, 3) := dk_180 1 147 (dk_at dksX1_year_1 17 rfl rfl)
theorem dX1_year_44 : decode cX1_year 44 = .ok (.goto 33, 3) := dk_167 0 33 (dk_at dksX1_year_1 20 rfl rfl)
theorem dX1_year_47 : decode cX1_year 47 = .ok (.iload_n 3, 1) := dk_29 (dk_at dksX1_year_1 23 rfl rfl)
theorem dX1_year_48 : decode cX1_year 48 = .ok (.iconst 1, 1) := dk_4 (dk_at dksX1_year_2 0 rfl rfl)
theorem dX1_year_49 : decode cX1_year 49 = .ok (.if_icmp .ne 10, 3) := dk_160 0 10 (dk_at dksX1_year_2 1 rfl rfl)
theorem dX1_year_52 : decode cX1_year 52 = .ok (.aload_n 0, 1) := dk_42 (dk_at dksX1_year_2 4 rfl rfl)
theorem dX1_year_53 : decode cX1_year 53 = .ok (.getfield 406, 3) := dk_180 1 150 (dk_at dksX1_year_2 5 rfl rfl)
theorem dX1_year_56 : decode cX1_year 56 = .ok (.goto 21, 3) := dk_167 0 21 (dk_at dksX1_year_2 8 rfl rfl)
theorem dX1_year_59 : decode cX1_year 59 = .ok (.iload_n 3, 1) := dk_29 (dk_at dksX1_year_2 11 rfl rfl)
theorem dX1_year_60 : decode cX1_year 60 = .ok (.iconst 2, 1) := dk_5 (dk_at dksX1_year_2 12 rfl rfl)
theorem dX1_year_61 : decode cX1_year 61 = .ok (.if_icmp .ne 11, 3) := dk_160 0 11 (dk_at dksX1_year_2 13 rfl rfl)
theorem dX1_year_64 : decode cX1_year 64 = .ok (.aload 4, 2) := dk_25 4 (dk_at dksX1_year_2 16 rfl rfl)
theorem dX1_year_66 : decode cX1_year 66 = .ok (.invokevirtual 270, 3) := dk_182 1 14 (dk_at dksX1_year_2 18 rfl rfl)
theorem dX1_year_69 : decode cX1_year 69 = .ok (.goto 8, 3) := dk_167 0 8 (dk_at dksX1_year_2 21 rfl rfl)
theorem dX1_year_72 : decode cX1_year 72 = .ok (.aload 4, 2) := dk_25 4 (dk_at dksX1_year_3 0 rfl rfl)
theorem dX1_year_74 : decode cX1_year 74 = .ok (.invokevirtual 264, 3) := dk_182 1 8 (dk_at dksX1_year_3 2 rfl rfl)
theorem dX1_year_77 : decode cX1_year 77 = .ok (.ireturn, 1) := dk_172 (dk_at dksX1_year_3 5 rfl rfl)
def dkwX1_yearBy_7 : List UInt8 := [182, 1, 85, 132, 4, 1, 167, 255, 116, 45, 176]
abbrev dktX1_yearBy_7 : List UInt8 := dkwX1_yearBy_7 ++ []
def dkwX1_yearBy_6 : List UInt8 := [42, 42, 182, 0, 167, 182, 1, 153, 182, 1, 156, 153, 0, 7, 4, 167, 0, 4, 3, 96, 181, 1, 147, 45]
abbrev dktX1_yearBy_6 : List UInt8 := dkwX1_yearBy_6 ++ dktX1_yearBy_7
def dkwX1_yearBy_5 : List UInt8 := [182, 0, 167, 158, 0, 44, 42, 42, 182, 0, 165, 182, 1, 153, 54, 5, 42, 89, 180, 1, 147, 45, 21, 5]
abbrev dktX1_yearBy_5 : List UInt8 := dkwX1_yearBy_5 ++ dktX1_yearBy_6
def dkwX1_yearBy_4 : List UInt8 := [167, 0, 4, 3, 96, 181, 1, 150, 132, 5, 1, 167, 255, 190, 42, 182, 0, 165, 158, 0, 51, 42]
abbrev dktX1_yearBy_4 : List UInt8 := dkwX1_yearBy_4 ++ dktX1_yearBy_5
def dkwX1_yearBy_3 : List UInt8 := [180, 1, 20, 21, 5, 46, 162, 0, 26, 42, 89, 180, 1, 150, 45, 21, 5, 182, 1, 92, 153, 0, 7, 4]
abbrev dktX1_yearBy_3 : List UInt8 := dkwX1_yearBy_3 ++ dktX1_yearBy_4
def dkwX1_yearBy_2 : List UInt8 := [162, 0, 60, 45, 21, 5, 182, 1, 97, 153, 0, 45, 42, 16, 16, 182, 1, 153, 42, 180, 0, 31]
abbrev dktX1_yearBy_2 : List UInt8 := dkwX1_yearBy_2 ++ dktX1_yearBy_3
def dkwX1_yearBy_1 : List UInt8 := [181, 1, 150, 3, 54, 4, 21, 4, 28, 162, 0, 140, 3, 54, 5, 21, 5, 42, 180, 0, 31, 180, 0, 158]
abbrev dktX1_yearBy_1 : List UInt8 := dkwX1_yearBy_1 ++ dktX1_yearBy_2
def dkwX1_yearBy_0 : List UInt8 := [42, 180, 0, 62, 42, 180, 0, 58, 182, 0, 248, 78, 42, 27, 181, 1, 143, 42, 3, 181, 1, 147, 42, 3]
abbrev dktX1_yearBy_0 : List UInt8 := dkwX1_yearBy_0 ++ dktX1_yearBy_1
theorem dksX1_yearBy_0 : cX1_yearBy.data.toList.drop 0 = dktX1_yearBy_0 := by decide +kernel
theorem dksX1_yearBy_1 : cX1_yearBy.data.toList.drop 24 = dktX1_yearBy_1 := dk_seg dksX1_yearBy_0 24 rfl rfl
theorem dksX1_yearBy_2 : cX1_yearBy.data.toList.drop 48 = dktX1_yearBy_2 := dk_seg dksX1_yearBy_1 24 rfl rfl
theorem dksX1_yearBy_3 : cX1_yearBy.data.toList.drop 70 = dktX1_yearBy_3 := dk_seg dksX1_yearBy_2 22 rfl rfl
theorem dksX1_yearBy_4 : cX1_yearBy.data.toList.drop 94 = dktX1_yearBy_4 := dk_seg dksX1_yearBy_3 24 rfl rfl
theorem dksX1_yearBy_5 : cX1_yearBy.data.toList.drop 116 = dktX1_yearBy_5 := dk_seg dksX1_yearBy_4 22 rfl rfl
theorem dksX1_yearBy_6 : cX1_yearBy.data.toList.drop 140 = dktX1_yearBy_6 := dk_seg dksX1_yearBy_5 24 rfl rfl
theorem dksX1_yearBy_7 : cX1_yearBy.data.toList.drop 164 = dktX1_yearBy_7 := dk_seg dksX1_yearBy_6 24 rfl rfl
theorem dX1_yearBy_0 : decode cX1_yearBy 0 = .ok (.aload_n 0, 1) := dk_42 (dk_at dksX1_yearBy_0 0 rfl rfl)
theorem dX1_yearBy_1 : decode cX1_yearBy 1 = .ok (.getfield 62, 3) := dk_180 0 62 (dk_at dksX1_yearBy_0 1 rfl rfl)
theorem dX1_yearBy_4 : decode cX1_yearBy 4 = .ok (.aload_n 0, 1) := dk_42 (dk_at dksX1_yearBy_0 4 rfl rfl)
theorem dX1_yearBy_5 : decode cX1_yearBy 5 = .ok (.getfield 58, 3) := dk_180 0 58 (dk_at dksX1_yearBy_0 5 rfl rfl)
theorem dX1_yearBy_8 : decode cX1_yearBy 8 = .ok (.invokevirtual 248, 3) := dk_182 0 248 (dk_at dksX1_yearBy_0 8 rfl rfl)
theorem dX1_yearBy_11 : decode cX1_yearBy 11 = .ok (.astore_n 3, 1) := dk_78 (dk_at dksX1_yearBy_0 11 rfl rfl)
theorem dX1_yearBy_12 : decode cX1_yearBy 12 = .ok (.aload_n 0, 1) := dk_42 (dk_at dksX1_yearBy_0 12 rfl rfl)
theorem dX1_yearBy_13 : decode cX1_yearBy 13 = .ok (.iload_n 1, 1) := dk_27 (dk_at dksX1_yearBy_0 13 rfl rfl)
theorem dX1_yearBy_14 : decode cX1_yearBy 14 = .ok (.putfield 399, 3) := dk_181 1 143 (dk_at dksX1_yearBy_0 14 rfl rfl)
theorem dX1_yearBy_17 : decode cX1_yearBy 17 = .ok (.aload_n 0, 1) := dk_42 (dk_at dksX1_yearBy_0 17 rfl rfl)
theorem dX1_yearBy_18 : decode cX1_yearBy 18 = .ok (.iconst 0, 1) := dk_3 (dk_at dksX1_yearBy_0 18 rfl rfl)
theorem dX1_yearBy_19 : decode cX1_yearBy 19 = .ok (.putfield 403, 3) := dk_181 1 147 (dk_at dksX1_yearBy_0 19 rfl rfl)
theorem dX1_yearBy_22 : decode cX1_yearBy 22 = .ok (.aload_n 0, 1) := dk_42 (dk_at dksX1_yearBy_0 22 rfl rfl)
theorem dX1_yearBy_23 : decode cX1_yearBy 23 = .ok (.iconst 0, 1) := dk_3 (dk_at dksX1_yearBy_0 23 rfl rfl)
theorem dX1_yearBy_24 : decode cX1_yearBy 24 = .ok (.putfield 406, 3) := dk_181 1 150 (dk_at dksX1_yearBy_1 0 rfl rfl)
theorem dX1_yearBy_27 : decode cX1_yearBy 27 = .ok (.iconst 0, 1) := dk_3 (dk_at dksX1_yearBy_1 3 rfl rfl)
theorem dX1_yearBy_28 : decode cX1_yearBy 28 = .ok (.istore 4, 2) := dk_54 4 (dk_at dksX1_yearBy_1 4 rfl rfl)
theorem dX1_yearBy_30 : decode cX1_yearBy 30 = .ok (.iload 4, 2) := dk_21 4 (dk_at dksX1_yearBy_1 6 rfl rfl)
theorem dX1_yearBy_32 : decode cX1_yearBy 32 = .ok (.iload_n 2, 1) := dk_28 (dk_at dksX1_yearBy_1 8 rfl rfl)
theorem dX1_yearBy_33 : decode cX1_yearBy 33 = .ok (.if_icmp .ge 140, 3) := dk_162 0 140 (dk_at dksX1_yearBy_1 9 rfl rfl)
theorem dX1_yearBy_36 : decode cX1_yearBy 36 = .ok (.iconst 0, 1) := dk_3 (dk_at dksX1_yearBy_1 12 rfl rfl)
theorem dX1_yearBy_37 : decode cX1_yearBy 37 = .ok (.istore 5, 2) := dk_54 5 (dk_at dksX1_yearBy_1 13 rfl rfl)
theorem dX1_yearBy_39 : decode cX1_yearBy 39 = .ok (.iload 5, 2) := dk_21 5 (dk_at dksX1_yearBy_1 15 rfl rfl)
theorem dX1_yearBy_41 : decode cX1_yearBy 41 = .ok (.aload_n 0, 1) := dk_42 (dk_at dksX1_yearBy_1 17 rfl rfl)
theorem dX1_yearBy_42 : decode cX1_yearBy 42 = .ok (.getfield 31, 3) := dk_180 0 31 (dk_at dksX1_yearBy_1 18 rfl rfl)
theorem dX1_yearBy_45 : decode cX1_yearBy 45 = .ok (.getfield 158, 3) := dk_180 0 158 (dk_at dksX1_yearBy_1 21 rfl rfl)
theorem dX1_yearBy_48 : decode cX1_yearBy 48 = .ok (.if_icmp .ge 60, 3) := dk_162 0 60 (dk_at dksX1_yearBy_2 0 rfl rfl)
theorem dX1_yearBy_51 : decode cX1_yearBy 51 = .ok (.aload_n 3, 1) := dk_45 (dk_at dksX1_yearBy_2 3 rfl rfl)
theorem dX1_yearBy_52 : decode cX1_yearBy 52 = .ok (.iload 5, 2) := dk_21 5 (dk_at dksX1_yearBy_2 4 rfl rfl)
theorem dX1_yearBy_54 : decode cX1_yearBy 54 = .ok (.invokevirtual 353, 3) := dk_182 1 97 (dk_at dksX1_yearBy_2 6 rfl rfl)
theorem dX1_yearBy_57 : decode cX1_yearBy 57 = .ok (.ifCond .eq 45, 3) := dk_153 0 45 (dk_at dksX1_yearBy_2 9 rfl rfl)
theorem dX1_yearBy_60 : decode cX1_yearBy 60 = .ok (.aload_n 0, 1) := dk_42 (dk_at dksX1_yearBy_2 12 rfl rfl)
theorem dX1_yearBy_61 : decode cX1_yearBy 61 = .ok (.bipush 16, 2) := dk_16 16 (dk_at dksX1_yearBy_2 13 rfl rfl)
theorem dX1_yearBy_63 : decode cX1_yearBy 63 = .ok (.invokevirtual 409, 3) := dk_182 1 153 (dk_at dksX1_yearBy_2 15 rfl rfl)
theorem dX1_yearBy_66 : decode cX1_yearBy 66 = .ok (.aload_n 0, 1) := dk_42 (dk_at dksX1_yearBy_2 18 rfl rfl)
theorem dX1_yearBy_67 : decode cX1_yearBy 67 = .ok (.getfield 31, 3) := dk_180 0 31 (dk_at dksX1_yearBy_2 19 rfl rfl)
theorem dX1_yearBy_70 : decode cX1_yearBy 70 = .ok (.getfield 276, 3) := dk_180 1 20 (dk_at dksX1_yearBy_3 0 rfl rfl)
theorem dX1_yearBy_73 : decode cX1_yearBy 73 = .ok (.iload 5, 2) := dk_21 5 (dk_at dksX1_yearBy_3 3 rfl rfl)
theorem dX1_yearBy_75 : decode cX1_yearBy 75 = .ok (.iaload, 1) := dk_46 (dk_at dksX1_yearBy_3 5 rfl rfl)
theorem dX1_yearBy_76 : decode cX1_yearBy 76 = .ok (.if_icmp .ge 26, 3) := dk_162 0 26 (dk_at dksX1_yearBy_3 6 rfl rfl)
theorem dX1_yearBy_79 : decode cX1_yearBy 79 = .ok (.aload_n 0, 1) := dk_42 (dk_at dksX1_yearBy_3 9 rfl rfl)
theorem dX1_yearBy_80 : decode cX1_yearBy 80 = .ok (.dup, 1) := dk_89 (dk_at dksX1_yearBy_3 10 rfl rfl)
theorem dX1_yearBy_81 : decode cX1_yearBy 81 = .ok (.getfield 406, 3) := dk_180 1 150 (dk_at dksX1_yearBy_3 11 rfl rfl)
theorem dX1_yearBy_84 : decode cX1_yearBy 84 = .ok (.aload_n 3, 1) := dk_45 (dk_at dksX1_yearBy_3 14 rfl rfl)
theorem dX1_yearBy_85 : decode cX1_yearBy 85 = .ok (.iload 5, 2) := dk_21 5 (dk_at dksX1_yearBy_3 15 rfl rfl)
theorem dX1_yearBy_87 : decode cX1_yearBy 87 = .ok (.invokevirtual 348, 3) := dk_182 1 92 (dk_at dksX1_yearBy_3 17 rfl rfl)
theorem dX1_yearBy_90 : decode cX1_yearBy 90 = .ok (.ifCond .eq 7, 3) := dk_153 0 7 (dk_at dksX1_yearBy_3 20 rfl rfl)
theorem dX1_yearBy_93 : decode cX1_yearBy 93 = .ok (.iconst 1, 1) := dk_4 (dk_at dksX1_yearBy_3 23 rfl rfl)
theorem dX1_yearBy_94 : decode cX1_yearBy 94 = .ok (.goto 4, 3) := dk_167 0 4 (dk_at dksX1_yearBy_4 0 rfl rfl)
theorem dX1_yearBy_97 : decode cX1_yearBy 97 = .ok (.iconst 0, 1) := dk_3 (dk_at dksX1_yearBy_4 3 rfl rfl)
theorem dX1_yearBy_98 : decode cX1_yearBy 98 = .ok (.iadd, 1) := dk_96 (dk_at dksX1_yearBy_4 4 rfl rfl)
theorem dX1_yearBy_99 : decode cX1_yearBy 99 = .ok (.putfield 406, 3) := dk_181 1 150 (dk_at dksX1_yearBy_4 5 rfl rfl)
theorem dX1_yearBy_102 : decode cX1_yearBy 102 = .ok (.iinc 5 1, 3) := dk_132 5 1 (dk_at dksX1_yearBy_4 8 rfl rfl)
theorem dX1_yearBy_105 : decode cX1_yearBy 105 = .ok (.goto (-66), 3) := dk_167 255 190 (dk_at dksX1_yearBy_4 11 rfl rfl)
theorem dX1_yearBy_108 : decode cX1_yearBy 108 = .ok (.aload_n 0, 1) := dk_42 (dk_at dksX1_yearBy_4 14 rfl rfl)
theorem dX1_yearBy_109 : decode cX1_yearBy 109 = .ok (.invokevirtual 165, 3) := dk_182 0 165 (dk_at dksX1_yearBy_4 15 rfl rfl)
theorem dX1_yearBy_112 : decode cX1_yearBy 112 = .ok (.ifCond .le 51, 3) := dk_158 0 51 (dk_at dksX1_yearBy_4 18 rfl rfl)
theorem dX1_yearBy_115 : decode cX1_yearBy 115 = .ok (.aload_n 0, 1) := dk_42 (dk_at dksX1_yearBy_4 21 rfl rfl)
theorem dX1_yearBy_116 : decode cX1_yearBy 116 = .ok (.invokevirtual 167, 3) := dk_182 0 167 (dk_at dksX1_yearBy_5 0 rfl rfl)
theorem dX1_yearBy_119 : decode cX1_yearBy 119 = .ok (.ifCond .le 44, 3) := dk_158 0 44 (dk_at dksX1_yearBy_5 3 rfl rfl)
theorem dX1_yearBy_122 : decode cX1_yearBy 122 = .ok (.aload_n 0, 1) := dk_42 (dk_at dksX1_yearBy_5 6 rfl rfl)
theorem dX1_yearBy_123 : decode cX1_yearBy 123 = .ok (.aload_n 0, 1) := dk_42 (dk_at dksX1_yearBy_5 7 rfl rfl)
theorem dX1_yearBy_124 : decode cX1_yearBy 124 = .ok (.invokevirtual 165, 3) := dk_182 0 165 (dk_at dksX1_yearBy_5 8 rfl rfl)
theorem dX1_yearBy_127 : decode cX1_yearBy 127 = .ok (.invokevirtual 409, 3) := dk_182 1 153 (dk_at dksX1_yearBy_5 11 rfl rfl)
theorem dX1_yearBy_130 : decode cX1_yearBy 130 = .ok (.istore 5, 2) := dk_54 5 (dk_at dksX1_yearBy_5 14 rfl rfl)
theorem dX1_yearBy_132 : decode cX1_yearBy 132 = .ok (.aload_n 0, 1) := dk_42 (dk_at dksX1_yearBy_5 16 rfl rfl)
theorem dX1_yearBy_133 : decode cX1_yearBy 133 = .ok (.dup, 1) := dk_89 (dk_at dksX1_yearBy_5 17 rfl rfl)
theorem dX1_yearBy_134 : decode cX1_yearBy 134 = .ok (.getfield 403, 3) := dk_180 1 147 (dk_at dksX1_yearBy_5 18 rfl rfl)
theorem dX1_yearBy_137 : decode cX1_yearBy 137 = .ok (.aload_n 3, 1) := dk_45 (dk_at dksX1_yearBy_5 21 rfl rfl)
theorem dX1_yearBy_138 : decode cX1_yearBy 138 = .ok (.iload 5, 2) := dk_21 5 (dk_at dksX1_yearBy_5 22 rfl rfl)
theorem dX1_yearBy_140 : decode cX1_yearBy 140 = .ok (.aload_n 0, 1) := dk_42 (dk_at dksX1_yearBy_6 0 rfl rfl)
theorem dX1_yearBy_141 : decode cX1_yearBy 141 = .ok (.aload_n 0, 1) := dk_42 (dk_at dksX1_yearBy_6 1 rfl rfl)
theorem dX1_yearBy_142 : decode cX1_yearBy 142 = .ok (.invokevirtual 167, 3) := dk_182 0 167 (dk_at dksX1_yearBy_6 2 rfl rfl)
theorem dX1_yearBy_145 : decode cX1_yearBy 145 = .ok (.invokevirtual 409, 3) := dk_182 1 153 (dk_at dksX1_yearBy_6 5 rfl rfl)
theorem dX1_yearBy_148 : decode cX1_yearBy 148 = .ok (.invokevirtual 412, 3) := dk_182 1 156 (dk_at dksX1_yearBy_6 8 rfl rfl)
theorem dX1_yearBy_151 : decode cX1_yearBy 151 = .ok (.ifCond .eq 7, 3) := dk_153 0 7 (dk_at dksX1_yearBy_6 11 rfl rfl)
theorem dX1_yearBy_154 : decode cX1_yearBy 154 = .ok (.iconst 1, 1) := dk_4 (dk_at dksX1_yearBy_6 14 rfl rfl)
theorem dX1_yearBy_155 : decode cX1_yearBy 155 = .ok (.goto 4, 3) := dk_167 0 4 (dk_at dksX1_yearBy_6 15 rfl rfl)
theorem dX1_yearBy_158 : decode cX1_yearBy 158 = .ok (.iconst 0, 1) := dk_3 (dk_at dksX1_yearBy_6 18 rfl rfl)
theorem dX1_yearBy_159 : decode cX1_yearBy 159 = .ok (.iadd, 1) := dk_96 (dk_at dksX1_yearBy_6 19 rfl rfl)
theorem dX1_yearBy_160 : decode cX1_yearBy 160 = .ok (.putfield 403, 3) := dk_181 1 147 (dk_at dksX1_yearBy_6 20 rfl rfl)
theorem dX1_yearBy_163 : decode cX1_yearBy 163 = .ok (.aload_n 3, 1) := dk_45 (dk_at dksX1_yearBy_6 23 rfl rfl)
theorem dX1_yearBy_164 : decode cX1_yearBy 164 = .ok (.invokevirtual 341, 3) := dk_182 1 85 (dk_at dksX1_yearBy_7 0 rfl rfl)
theorem dX1_yearBy_167 : decode cX1_yearBy 167 = .ok (.iinc 4 1, 3) := dk_132 4 1 (dk_at dksX1_yearBy_7 3 rfl rfl)
theorem dX1_yearBy_170 : decode cX1_yearBy 170 = .ok (.goto (-140), 3) := dk_167 255 116 (dk_at dksX1_yearBy_7 6 rfl rfl)
theorem dX1_yearBy_173 : decode cX1_yearBy 173 = .ok (.aload_n 3, 1) := dk_45 (dk_at dksX1_yearBy_7 9 rfl rfl)
theorem dX1_yearBy_174 : decode cX1_yearBy 174 = .ok (.areturn, 1) := dk_176 (dk_at dksX1_yearBy_7 10 rfl rfl)
def dkwX1_draw_1 : List UInt8 := [17, 127, 255, 126, 27, 112, 172]
abbrev dktX1_draw_1 : List UInt8 := dkwX1_draw_1 ++ []
def dkwX1_draw_0 : List UInt8 := [42, 42, 180, 1, 143, 19, 1, 146, 104, 17, 48, 57, 96, 181, 1, 143, 42, 180, 1, 143, 16, 16, 122]
abbrev dktX1_draw_0 : List UInt8 := dkwX1_draw_0 ++ dktX1_draw_1
theorem dksX1_draw_0 : cX1_draw.data.toList.drop 0 = dktX1_draw_0 := by decide +kernel
theorem dksX1_draw_1 : cX1_draw.data.toList.drop 23 = dktX1_draw_1 := dk_seg dksX1_draw_0 23 rfl rfl
theorem dX1_draw_0 : decode cX1_draw 0 = .ok (.aload_n 0, 1) := dk_42 (dk_at dksX1_draw_0 0 rfl rfl)
theorem dX1_draw_1 : decode cX1_draw 1 = .ok (.aload_n 0, 1) := dk_42 (dk_at dksX1_draw_0 1 rfl rfl)
theorem dX1_draw_2 : decode cX1_draw 2 = .ok (.getfield 399, 3) := dk_180 1 143 (dk_at dksX1_draw_0 2 rfl rfl)
theorem dX1_draw_5 : decode cX1_draw 5 = .ok (.ldc_w 402, 3) := dk_19 1 146 (dk_at dksX1_draw_0 5 rfl rfl)
theorem dX1_draw_8 : decode cX1_draw 8 = .ok (.imul, 1) := dk_104 (dk_at dksX1_draw_0 8 rfl rfl)
theorem dX1_draw_9 : decode cX1_draw 9 = .ok (.sipush 12345, 3) := dk_17 48 57 (dk_at dksX1_draw_0 9 rfl rfl)
theorem dX1_draw_12 : decode cX1_draw 12 = .ok (.iadd, 1) := dk_96 (dk_at dksX1_draw_0 12 rfl rfl)
theorem dX1_draw_13 : decode cX1_draw 13 = .ok (.putfield 399, 3) := dk_181 1 143 (dk_at dksX1_draw_0 13 rfl rfl)
theorem dX1_draw_16 : decode cX1_draw 16 = .ok (.aload_n 0, 1) := dk_42 (dk_at dksX1_draw_0 16 rfl rfl)
theorem dX1_draw_17 : decode cX1_draw 17 = .ok (.getfield 399, 3) := dk_180 1 143 (dk_at dksX1_draw_0 17 rfl rfl)
theorem dX1_draw_20 : decode cX1_draw 20 = .ok (.bipush 16, 2) := dk_16 16 (dk_at dksX1_draw_0 20 rfl rfl)
theorem dX1_draw_22 : decode cX1_draw 22 = .ok (.ishr, 1) := dk_122 (dk_at dksX1_draw_0 22 rfl rfl)
theorem dX1_draw_23 : decode cX1_draw 23 = .ok (.sipush 32767, 3) := dk_17 127 255 (dk_at dksX1_draw_1 0 rfl rfl)
theorem dX1_draw_26 : decode cX1_draw 26 = .ok (.iand, 1) := dk_126 (dk_at dksX1_draw_1 3 rfl rfl)
theorem dX1_draw_27 : decode cX1_draw 27 = .ok (.iload_n 1, 1) := dk_27 (dk_at dksX1_draw_1 4 rfl rfl)
theorem dX1_draw_28 : decode cX1_draw 28 = .ok (.irem, 1) := dk_112 (dk_at dksX1_draw_1 5 rfl rfl)
theorem dX1_draw_29 : decode cX1_draw 29 = .ok (.ireturn, 1) := dk_172 (dk_at dksX1_draw_1 6 rfl rfl)
def dkwX1_span_7 : List UInt8 := [21, 7, 167, 0, 5, 21, 8, 172]
abbrev dktX1_span_7 : List UInt8 := dkwX1_span_7 ++ []
def dkwX1_span_6 : List UInt8 := [54, 8, 132, 9, 1, 167, 255, 178, 21, 4, 154, 0, 8, 21, 6, 167, 0, 16, 21, 4, 4, 160, 0, 8]
abbrev dktX1_span_6 : List UInt8 := dkwX1_span_6 ++ dktX1_span_7
def dkwX1_span_5 : List UInt8 := [54, 7, 21, 8, 25, 10, 182, 1, 8, 21, 5, 184, 1, 94, 153, 0, 7, 4, 167, 0, 4, 3, 96]
abbrev dktX1_span_5 : List UInt8 := dkwX1_span_5 ++ dktX1_span_6
def dkwX1_span_4 : List UInt8 := [167, 0, 12, 21, 6, 42, 180, 1, 147, 184, 0, 143, 54, 6, 21, 7, 42, 180, 1, 147, 184, 0, 149]
abbrev dktX1_span_4 : List UInt8 := dkwX1_span_4 ++ dktX1_span_5
def dkwX1_span_3 : List UInt8 := [162, 0, 78, 42, 27, 21, 9, 96, 29, 182, 1, 159, 58, 10, 21, 6, 2, 160, 0, 10, 42, 180, 1, 147]
abbrev dktX1_span_3 : List UInt8 := dkwX1_span_3 ++ dktX1_span_4
def dkwX1_span_2 : List UInt8 := [167, 0, 4, 3, 182, 0, 183, 2, 54, 6, 3, 54, 7, 3, 54, 8, 3, 54, 9, 21, 9, 28]
abbrev dktX1_span_2 : List UInt8 := dkwX1_span_2 ++ dktX1_span_3
def dkwX1_span_1 : List UInt8 := [5, 184, 0, 252, 153, 0, 22, 21, 5, 3, 42, 182, 0, 167, 4, 100, 184, 0, 252, 153, 0, 7, 4]
abbrev dktX1_span_1 : List UInt8 := dkwX1_span_1 ++ dktX1_span_2
def dkwX1_span_0 : List UInt8 := [42, 28, 4, 16, 20, 184, 0, 252, 153, 0, 42, 29, 4, 16, 96, 184, 0, 252, 153, 0, 32, 21, 4, 3]
abbrev dktX1_span_0 : List UInt8 := dkwX1_span_0 ++ dktX1_span_1
theorem dksX1_span_0 : cX1_span.data.toList.drop 0 = dktX1_span_0 := by decide +kernel
theorem dksX1_span_1 : cX1_span.data.toList.drop 24 = dktX1_span_1 := dk_seg dksX1_span_0 24 rfl rfl
theorem dksX1_span_2 : cX1_span.data.toList.drop 47 = dktX1_span_2 := dk_seg dksX1_span_1 23 rfl rfl
theorem dksX1_span_3 : cX1_span.data.toList.drop 69 = dktX1_span_3 := dk_seg dksX1_span_2 22 rfl rfl
theorem dksX1_span_4 : cX1_span.data.toList.drop 93 = dktX1_span_4 := dk_seg dksX1_span_3 24 rfl rfl
theorem dksX1_span_5 : cX1_span.data.toList.drop 116 = dktX1_span_5 := dk_seg dksX1_span_4 23 rfl rfl
theorem dksX1_span_6 : cX1_span.data.toList.drop 139 = dktX1_span_6 := dk_seg dksX1_span_5 23 rfl rfl
theorem dksX1_span_7 : cX1_span.data.toList.drop 163 = dktX1_span_7 := dk_seg dksX1_span_6 24 rfl rfl
theorem dX1_span_0 : decode cX1_span 0 = .ok (.aload_n 0, 1) := dk_42 (dk_at dksX1_span_0 0 rfl rfl)
theorem dX1_span_1 : decode cX1_span 1 = .ok (.iload_n 2, 1) := dk_28 (dk_at dksX1_span_0 1 rfl rfl)
theorem dX1_span_2 : decode cX1_span 2 = .ok (.iconst 1, 1) := dk_4 (dk_at dksX1_span_0 2 rfl rfl)
theorem dX1_span_3 : decode cX1_span 3 = .ok (.bipush 20, 2) := dk_16 20 (dk_at dksX1_span_0 3 rfl rfl)
theorem dX1_span_5 : decode cX1_span 5 = .ok (.invokestatic 252, 3) := dk_184 0 252 (dk_at dksX1_span_0 5 rfl rfl)
theorem dX1_span_8 : decode cX1_span 8 = .ok (.ifCond .eq 42, 3) := dk_153 0 42 (dk_at dksX1_span_0 8 rfl rfl)
theorem dX1_span_11 : decode cX1_span 11 = .ok (.iload_n 3, 1) := dk_29 (dk_at dksX1_span_0 11 rfl rfl)
theorem dX1_span_12 : decode cX1_span 12 = .ok (.iconst 1, 1) := dk_4 (dk_at dksX1_span_0 12 rfl rfl)
theorem dX1_span_13 : decode cX1_span 13 = .ok (.bipush 96, 2) := dk_16 96 (dk_at dksX1_span_0 13 rfl rfl)
theorem dX1_span_15 : decode cX1_span 15 = .ok (.invokestatic 252, 3) := dk_184 0 252 (dk_at dksX1_span_0 15 rfl rfl)
theorem dX1_span_18 : decode cX1_span 18 = .ok (.ifCond .eq 32, 3) := dk_153 0 32 (dk_at dksX1_span_0 18 rfl rfl)
theorem dX1_span_21 : decode cX1_span 21 = .ok (.iload 4, 2) := dk_21 4 (dk_at dksX1_span_0 21 rfl rfl)
theorem dX1_span_23 : decode cX1_span 23 = .ok (.iconst 0, 1) := dk_3 (dk_at dksX1_span_0 23 rfl rfl)
theorem dX1_span_24 : decode cX1_span 24 = .ok (.iconst 2, 1) := dk_5 (dk_at dksX1_span_1 0 rfl rfl)
theorem dX1_span_25 : decode cX1_span 25 = .ok (.invokestatic 252, 3) := dk_184 0 252 (dk_at dksX1_span_1 1 rfl rfl)
theorem dX1_span_28 : decode cX1_span 28 = .ok (.ifCond .eq 22, 3) := dk_153 0 22 (dk_at dksX1_span_1 4 rfl rfl)
theorem dX1_span_31 : decode cX1_span 31 = .ok (.iload 5, 2) := dk_21 5 (dk_at dksX1_span_1 7 rfl rfl)
theorem dX1_span_33 : decode cX1_span 33 = .ok (.iconst 0, 1) := dk_3 (dk_at dksX1_span_1 9 rfl rfl)
theorem dX1_span_34 : decode cX1_span 34 = .ok (.aload_n 0, 1) := dk_42 (dk_at dksX1_span_1 10 rfl rfl)
theorem dX1_span_35 : decode cX1_span 35 = .ok (.invokevirtual 167, 3) := dk_182 0 167 (dk_at dksX1_span_1 11 rfl rfl)
theorem dX1_span_38 : decode cX1_span 38 = .ok (.iconst 1, 1) := dk_4 (dk_at dksX1_span_1 14 rfl rfl)
theorem dX1_span_39 : decode cX1_span 39 = .ok (.isub, 1) := dk_100 (dk_at dksX1_span_1 15 rfl rfl)
theorem dX1_span_40 : decode cX1_span 40 = .ok (.invokestatic 252, 3) := dk_184 0 252 (dk_at dksX1_span_1 16 rfl rfl)
theorem dX1_span_43 : decode cX1_span 43 = .ok (.ifCond .eq 7, 3) := dk_153 0 7 (dk_at dksX1_span_1 19 rfl rfl)
theorem dX1_span_46 : decode cX1_span 46 = .ok (.iconst 1, 1) := dk_4 (dk_at dksX1_span_1 22 rfl rfl)
theorem dX1_span_47 : decode cX1_span 47 = .ok (.goto 4, 3) := dk_167 0 4 (dk_at dksX1_span_2 0 rfl rfl)
theorem dX1_span_50 : decode cX1_span 50 = .ok (.iconst 0, 1) := dk_3 (dk_at dksX1_span_2 3 rfl rfl)
theorem dX1_span_51 : decode cX1_span 51 = .ok (.invokevirtual 183, 3) := dk_182 0 183 (dk_at dksX1_span_2 4 rfl rfl)
theorem dX1_span_54 : decode cX1_span 54 = .ok (.iconst (-1), 1) := dk_2 (dk_at dksX1_span_2 7 rfl rfl)
theorem dX1_span_55 : decode cX1_span 55 = .ok (.istore 6, 2) := dk_54 6 (dk_at dksX1_span_2 8 rfl rfl)
theorem dX1_span_57 : decode cX1_span 57 = .ok (.iconst 0, 1) := dk_3 (dk_at dksX1_span_2 10 rfl rfl)
theorem dX1_span_58 : decode cX1_span 58 = .ok (.istore 7, 2) := dk_54 7 (dk_at dksX1_span_2 11 rfl rfl)
theorem dX1_span_60 : decode cX1_span 60 = .ok (.iconst 0, 1) := dk_3 (dk_at dksX1_span_2 13 rfl rfl)
theorem dX1_span_61 : decode cX1_span 61 = .ok (.istore 8, 2) := dk_54 8 (dk_at dksX1_span_2 14 rfl rfl)
theorem dX1_span_63 : decode cX1_span 63 = .ok (.iconst 0, 1) := dk_3 (dk_at dksX1_span_2 16 rfl rfl)
theorem dX1_span_64 : decode cX1_span 64 = .ok (.istore 9, 2) := dk_54 9 (dk_at dksX1_span_2 17 rfl rfl)
theorem dX1_span_66 : decode cX1_span 66 = .ok (.iload 9, 2) := dk_21 9 (dk_at dksX1_span_2 19 rfl rfl)
theorem dX1_span_68 : decode cX1_span 68 = .ok (.iload_n 2, 1) := dk_28 (dk_at dksX1_span_2 21 rfl rfl)
theorem dX1_span_69 : decode cX1_span 69 = .ok (.if_icmp .ge 78, 3) := dk_162 0 78 (dk_at dksX1_span_3 0 rfl rfl)
theorem dX1_span_72 : decode cX1_span 72 = .ok (.aload_n 0, 1) := dk_42 (dk_at dksX1_span_3 3 rfl rfl)
theorem dX1_span_73 : decode cX1_span 73 = .ok (.iload_n 1, 1) := dk_27 (dk_at dksX1_span_3 4 rfl rfl)
theorem dX1_span_74 : decode cX1_span 74 = .ok (.iload 9, 2) := dk_21 9 (dk_at dksX1_span_3 5 rfl rfl)
theorem dX1_span_76 : decode cX1_span 76 = .ok (.iadd, 1) := dk_96 (dk_at dksX1_span_3 7 rfl rfl)
theorem dX1_span_77 : decode cX1_span 77 = .ok (.iload_n 3, 1) := dk_29 (dk_at dksX1_span_3 8 rfl rfl)
theorem dX1_span_78 : decode cX1_span 78 = .ok (.invokevirtual 415, 3) := dk_182 1 159 (dk_at dksX1_span_3 9 rfl rfl)
theorem dX1_span_81 : decode cX1_span 81 = .ok (.astore 10, 2) := dk_58 10 (dk_at dksX1_span_3 12 rfl rfl)
theorem dX1_span_83 : decode cX1_span 83 = .ok (.iload 6, 2) := dk_21 6 (dk_at dksX1_span_3 14 rfl rfl)
theorem dX1_span_85 : decode cX1_span 85 = .ok (.iconst (-1), 1) := dk_2 (dk_at dksX1_span_3 16 rfl rfl)
theorem dX1_span_86 : decode cX1_span 86 = .ok (.if_icmp .ne 10, 3) := dk_160 0 10 (dk_at dksX1_span_3 17 rfl rfl)
theorem dX1_span_89 : decode cX1_span 89 = .ok (.aload_n 0, 1) := dk_42 (dk_at dksX1_span_3 20 rfl rfl)
theorem dX1_span_90 : decode cX1_span 90 = .ok (.getfield 403, 3) := dk_180 1 147 (dk_at dksX1_span_3 21 rfl rfl)
theorem dX1_span_93 : decode cX1_span 93 = .ok (.goto 12, 3) := dk_167 0 12 (dk_at dksX1_span_4 0 rfl rfl)
theorem dX1_span_96 : decode cX1_span 96 = .ok (.iload 6, 2) := dk_21 6 (dk_at dksX1_span_4 3 rfl rfl)
theorem dX1_span_98 : decode cX1_span 98 = .ok (.aload_n 0, 1) := dk_42 (dk_at dksX1_span_4 5 rfl rfl)
theorem dX1_span_99 : decode cX1_span 99 = .ok (.getfield 403, 3) := dk_180 1 147 (dk_at dksX1_span_4 6 rfl rfl)
theorem dX1_span_102 : decode cX1_span 102 = .ok (.invokestatic 143, 3) := dk_184 0 143 (dk_at dksX1_span_4 9 rfl rfl)
theorem dX1_span_105 : decode cX1_span 105 = .ok (.istore 6, 2) := dk_54 6 (dk_at dksX1_span_4 12 rfl rfl)
theorem dX1_span_107 : decode cX1_span 107 = .ok (.iload 7, 2) := dk_21 7 (dk_at dksX1_span_4 14 rfl rfl)
theorem dX1_span_109 : decode cX1_span 109 = .ok (.aload_n 0, 1) := dk_42 (dk_at dksX1_span_4 16 rfl rfl)
theorem dX1_span_110 : decode cX1_span 110 = .ok (.getfield 403, 3) := dk_180 1 147 (dk_at dksX1_span_4 17 rfl rfl)
theorem dX1_span_113 : decode cX1_span 113 = .ok (.invokestatic 149, 3) := dk_184 0 149 (dk_at dksX1_span_4 20 rfl rfl)
theorem dX1_span_116 : decode cX1_span 116 = .ok (.istore 7, 2) := dk_54 7 (dk_at dksX1_span_5 0 rfl rfl)
theorem dX1_span_118 : decode cX1_span 118 = .ok (.iload 8, 2) := dk_21 8 (dk_at dksX1_span_5 2 rfl rfl)
theorem dX1_span_120 : decode cX1_span 120 = .ok (.aload 10, 2) := dk_25 10 (dk_at dksX1_span_5 4 rfl rfl)
theorem dX1_span_122 : decode cX1_span 122 = .ok (.invokevirtual 264, 3) := dk_182 1 8 (dk_at dksX1_span_5 6 rfl rfl)
theorem dX1_span_125 : decode cX1_span 125 = .ok (.iload 5, 2) := dk_21 5 (dk_at dksX1_span_5 9 rfl rfl)
theorem dX1_span_127 : decode cX1_span 127 = .ok (.invokestatic 350, 3) := dk_184 1 94 (dk_at dksX1_span_5 11 rfl rfl)
theorem dX1_span_130 : decode cX1_span 130 = .ok (.ifCond .eq 7, 3) := dk_153 0 7 (dk_at dksX1_span_5 14 rfl rfl)
theorem dX1_span_133 : decode cX1_span 133 = .ok (.iconst 1, 1) := dk_4 (dk_at dksX1_span_5 17 rfl rfl)
theorem dX1_span_134 : decode cX1_span 134 = .ok (.goto 4, 3) := dk_167 0 4 (dk_at dksX1_span_5 18 rfl rfl)
theorem dX1_span_137 : decode cX1_span 137 = .ok (.iconst 0, 1) := dk_3 (dk_at dksX1_span_5 21 rfl rfl)
theorem dX1_span_138 : decode cX1_span 138 = .ok (.iadd, 1) := dk_96 (dk_at dksX1_span_5 22 rfl rfl)
theorem dX1_span_139 : decode cX1_span 139 = .ok (.istore 8, 2) := dk_54 8 (dk_at dksX1_span_6 0 rfl rfl)
theorem dX1_span_141 : decode cX1_span 141 = .ok (.iinc 9 1, 3) := dk_132 9 1 (dk_at dksX1_span_6 2 rfl rfl)
theorem dX1_span_144 : decode cX1_span 144 = .ok (.goto (-78), 3) := dk_167 255 178 (dk_at dksX1_span_6 5 rfl rfl)
theorem dX1_span_147 : decode cX1_span 147 = .ok (.iload 4, 2) := dk_21 4 (dk_at dksX1_span_6 8 rfl rfl)
theorem dX1_span_149 : decode cX1_span 149 = .ok (.ifCond .ne 8, 3) := dk_154 0 8 (dk_at dksX1_span_6 10 rfl rfl)
theorem dX1_span_152 : decode cX1_span 152 = .ok (.iload 6, 2) := dk_21 6 (dk_at dksX1_span_6 13 rfl rfl)
theorem dX1_span_154 : decode cX1_span 154 = .ok (.goto 16, 3) := dk_167 0 16 (dk_at dksX1_span_6 15 rfl rfl)
theorem dX1_span_157 : decode cX1_span 157 = .ok (.iload 4, 2) := dk_21 4 (dk_at dksX1_span_6 18 rfl rfl)
theorem dX1_span_159 : decode cX1_span 159 = .ok (.iconst 1, 1) := dk_4 (dk_at dksX1_span_6 20 rfl rfl)
theorem dX1_span_160 : decode cX1_span 160 = .ok (.if_icmp .ne 8, 3) := dk_160 0 8 (dk_at dksX1_span_6 21 rfl rfl)
theorem dX1_span_163 : decode cX1_span 163 = .ok (.iload 7, 2) := dk_21 7 (dk_at dksX1_span_7 0 rfl rfl)
theorem dX1_span_165 : decode cX1_span 165 = .ok (.goto 5, 3) := dk_167 0 5 (dk_at dksX1_span_7 2 rfl rfl)
theorem dX1_span_168 : decode cX1_span 168 = .ok (.iload 8, 2) := dk_21 8 (dk_at dksX1_span_7 5 rfl rfl)
theorem dX1_span_170 : decode cX1_span 170 = .ok (.ireturn, 1) := dk_172 (dk_at dksX1_span_7 7 rfl rfl)

set_option maxRecDepth 100000
def dkwX2_init_2 : List UInt8 := [16, 8, 162, 0, 16, 42, 180, 0, 15, 27, 2, 79, 132, 1, 1, 167, 255, 240, 177]
abbrev dktX2_init_2 : List UInt8 := dkwX2_init_2 ++ []
def dkwX2_init_1 : List UInt8 := [89, 7, 183, 0, 20, 181, 0, 23, 42, 187, 0, 18, 89, 7, 183, 0, 20, 181, 0, 27, 3, 60, 27]
abbrev dktX2_init_1 : List UInt8 := dkwX2_init_1 ++ dktX2_init_2
def dkwX2_init_0 : List UInt8 := [42, 183, 0, 3, 42, 16, 8, 188, 10, 181, 0, 9, 42, 16, 8, 188, 10, 181, 0, 15, 42, 187, 0, 18]
abbrev dktX2_init_0 : List UInt8 := dkwX2_init_0 ++ dktX2_init_1
theorem dksX2_init_0 : cX2_init.data.toList.drop 0 = dktX2_init_0 := by decide +kernel
theorem dksX2_init_1 : cX2_init.data.toList.drop 24 = dktX2_init_1 := dk_seg dksX2_init_0 24 rfl rfl
theorem dksX2_init_2 : cX2_init.data.toList.drop 47 = dktX2_init_2 := dk_seg dksX2_init_1 23 rfl rfl
theorem dX2_init_0 : decode cX2_init 0 = .ok (.aload_n 0, 1) := dk_42 (dk_at dksX2_init_0 0 rfl rfl)
theorem dX2_init_1 : decode cX2_init 1 = .ok (.invokespecial 3, 3) := dk_183 0 3 (dk_at dksX2_init_0 1 rfl rfl)
theorem dX2_init_4 : decode cX2_init 4 = .ok (.aload_n 0, 1) := dk_42 (dk_at dksX2_init_0 4 rfl rfl)
theorem dX2_init_5 : decode cX2_init 5 = .ok (.bipush 8, 2) := dk_16 8 (dk_at dksX2_init_0 5 rfl rfl)
theorem dX2_init_7 : decode cX2_init 7 = .ok (.newarray .int, 2) := dk_188_10 (dk_at dksX2_init_0 7 rfl rfl)
theorem dX2_init_9 : decode cX2_init 9 = .ok (.putfield 9, 3) := dk_181 0 9 (dk_at dksX2_init_0 9 rfl rfl)
theorem dX2_init_12 : decode cX2_init 12 = .ok (.aload_n 0, 1) := dk_42 (dk_at dksX2_init_0 12 rfl rfl)
theorem dX2_init_13 : decode cX2_init 13 = .ok (.bipush 8, 2) := dk_16 8 (dk_at dksX2_init_0 13 rfl rfl)
theorem dX2_init_15 : decode cX2_init 15 = .ok (.newarray .int, 2) := dk_188_10 (dk_at dksX2_init_0 15 rfl rfl)
theorem dX2_init_17 : decode cX2_init 17 = .ok (.putfield 15, 3) := dk_181 0 15 (dk_at dksX2_init_0 17 rfl rfl)
theorem dX2_init_20 : decode cX2_init 20 = .ok (.aload_n 0, 1) := dk_42 (dk_at dksX2_init_0 20 rfl rfl)
theorem dX2_init_21 : decode cX2_init 21 = .ok (.new 18, 3) := dk_187 0 18 (dk_at dksX2_init_0 21 rfl rfl)
theorem dX2_init_24 : decode cX2_init 24 = .ok (.dup, 1) := dk_89 (dk_at dksX2_init_1 0 rfl rfl)
theorem dX2_init_25 : decode cX2_init 25 = .ok (.iconst 4, 1) := dk_7 (dk_at dksX2_init_1 1 rfl rfl)
theorem dX2_init_26 : decode cX2_init 26 = .ok (.invokespecial 20, 3) := dk_183 0 20 (dk_at dksX2_init_1 2 rfl rfl)
theorem dX2_init_29 : decode cX2_init 29 = .ok (.putfield 23, 3) := dk_181 0 23 (dk_at dksX2_init_1 5 rfl rfl)
theorem dX2_init_32 : decode cX2_init 32 = .ok (.aload_n 0, 1) := dk_42 (dk_at dksX2_init_1 8 rfl rfl)
theorem dX2_init_33 : decode cX2_init 33 = .ok (.new 18, 3) := dk_187 0 18 (dk_at dksX2_init_1 9 rfl rfl)
theorem dX2_init_36 : decode cX2_init 36 = .ok (.dup, 1) := dk_89 (dk_at dksX2_init_1 12 rfl rfl)
theorem dX2_init_37 : decode cX2_init 37 = .ok (.iconst 4, 1) := dk_7 (dk_at dksX2_init_1 13 rfl rfl)
theorem dX2_init_38 : decode cX2_init 38 = .ok (.invokespecial 20, 3) := dk_183 0 20 (dk_at dksX2_init_1 14 rfl rfl)
theorem dX2_init_41 : decode cX2_init 41 = .ok (.putfield 27, 3) := dk_181 0 27 (dk_at dksX2_init_1 17 rfl rfl)
theorem dX2_init_44 : decode cX2_init 44 = .ok (.iconst 0, 1) := dk_3 (dk_at dksX2_init_1 20 rfl rfl)
theorem dX2_init_45 : decode cX2_init 45 = .ok (.istore_n 1, 1) := dk_60 (dk_at dksX2_init_1 21 rfl rfl)
theorem dX2_init_46 : decode cX2_init 46 = .ok (.iload_n 1, 1) := dk_27 (dk_at dksX2_init_1 22 rfl rfl)
theorem dX2_init_47 : decode cX2_init 47 = .ok (.bipush 8, 2) := dk_16 8 (dk_at dksX2_init_2 0 rfl rfl)
theorem dX2_init_49 : decode cX2_init 49 = .ok (.if_icmp .ge 16, 3) := dk_162 0 16 (dk_at dksX2_init_2 2 rfl rfl)
theorem dX2_init_52 : decode cX2_init 52 = .ok (.aload_n 0, 1) := dk_42 (dk_at dksX2_init_2 5 rfl rfl)
theorem dX2_init_53 : decode cX2_init 53 = .ok (.getfield 15, 3) := dk_180 0 15 (dk_at dksX2_init_2 6 rfl rfl)
theorem dX2_init_56 : decode cX2_init 56 = .ok (.iload_n 1, 1) := dk_27 (dk_at dksX2_init_2 9 rfl rfl)
theorem dX2_init_57 : decode cX2_init 57 = .ok (.iconst (-1), 1) := dk_2 (dk_at dksX2_init_2 10 rfl rfl)
theorem dX2_init_58 : decode cX2_init 58 = .ok (.iastore, 1) := dk_79 (dk_at dksX2_init_2 11 rfl rfl)
theorem dX2_init_59 : decode cX2_init 59 = .ok (.iinc 1 1, 3) := dk_132 1 1 (dk_at dksX2_init_2 12 rfl rfl)
theorem dX2_init_62 : decode cX2_init 62 = .ok (.goto (-16), 3) := dk_167 255 240 (dk_at dksX2_init_2 15 rfl rfl)
theorem dX2_init_65 : decode cX2_init 65 = .ok (.return_, 1) := dk_177 (dk_at dksX2_init_2 18 rfl rfl)
def dkwX2_of_2 : List UInt8 := [167, 255, 214, 28, 172]
abbrev dktX2_of_2 : List UInt8 := dkwX2_of_2 ++ []
def dkwX2_of_1 : List UInt8 := [192, 0, 38, 180, 0, 40, 27, 160, 0, 9, 4, 29, 120, 167, 0, 4, 3, 128, 61, 132, 3, 1]
abbrev dktX2_of_1 : List UInt8 := dkwX2_of_1 ++ dktX2_of_2
def dkwX2_of_0 : List UInt8 := [3, 61, 3, 62, 29, 42, 180, 0, 23, 182, 0, 30, 162, 0, 37, 28, 42, 180, 0, 23, 29, 182, 0, 34]
abbrev dktX2_of_0 : List UInt8 := dkwX2_of_0 ++ dktX2_of_1
theorem dksX2_of_0 : cX2_of.data.toList.drop 0 = dktX2_of_0 := by decide +kernel
theorem dksX2_of_1 : cX2_of.data.toList.drop 24 = dktX2_of_1 := dk_seg dksX2_of_0 24 rfl rfl
theorem dksX2_of_2 : cX2_of.data.toList.drop 46 = dktX2_of_2 := dk_seg dksX2_of_1 22 rfl rfl
theorem dX2_of_0 : decode cX2_of 0 = .ok (.iconst 0, 1) := dk_3 (dk_at dksX2_of_0 0 rfl rfl)
theorem dX2_of_1 : decode cX2_of 1 = .ok (.istore_n 2, 1) := dk_61 (dk_at dksX2_of_0 1 rfl rfl)
theorem dX2_of_2 : decode cX2_of 2 = .ok (.iconst 0, 1) := dk_3 (dk_at dksX2_of_0 2 rfl rfl)
theorem dX2_of_3 : decode cX2_of 3 = .ok (.istore_n 3, 1) := dk_62 (dk_at dksX2_of_0 3 rfl rfl)
theorem dX2_of_4 : decode cX2_of 4 = .ok (.iload_n 3, 1) := dk_29 (dk_at dksX2_of_0 4 rfl rfl)
theorem dX2_of_5 : decode cX2_of 5 = .ok (.aload_n 0, 1) := dk_42 (dk_at dksX2_of_0 5 rfl rfl)
theorem dX2_of_6 : decode cX2_of 6 = .ok (.getfield 23, 3) := dk_180 0 23 (dk_at dksX2_of_0 6 rfl rfl)
theorem dX2_of_9 : decode cX2_of 9 = .ok (.invokevirtual 30, 3) := dk_182 0 30 (dk_at dksX2_of_0 9 rfl rfl)
theorem dX2_of_12 : decode cX2_of 12 = .ok (.if_icmp .ge 37, 3) := dk_162 0 37 (dk_at dksX2_of_0 12 rfl rfl)
theorem dX2_of_15 : decode cX2_of 15 = .ok (.iload_n 2, 1) := dk_28 (dk_at dksX2_of_0 15 rfl rfl)
theorem dX2_of_16 : decode cX2_of 16 = .ok (.aload_n 0, 1) := dk_42 (dk_at dksX2_of_0 16 rfl rfl)
theorem dX2_of_17 : decode cX2_of 17 = .ok (.getfield 23, 3) := dk_180 0 23 (dk_at dksX2_of_0 17 rfl rfl)
theorem dX2_of_20 : decode cX2_of 20 = .ok (.iload_n 3, 1) := dk_29 (dk_at dksX2_of_0 20 rfl rfl)
theorem dX2_of_21 : decode cX2_of 21 = .ok (.invokevirtual 34, 3) := dk_182 0 34 (dk_at dksX2_of_0 21 rfl rfl)
theorem dX2_of_24 : decode cX2_of 24 = .ok (.checkcast 38, 3) := dk_192 0 38 (dk_at dksX2_of_1 0 rfl rfl)
theorem dX2_of_27 : decode cX2_of 27 = .ok (.getfield 40, 3) := dk_180 0 40 (dk_at dksX2_of_1 3 rfl rfl)
theorem dX2_of_30 : decode cX2_of 30 = .ok (.iload_n 1, 1) := dk_27 (dk_at dksX2_of_1 6 rfl rfl)
theorem dX2_of_31 : decode cX2_of 31 = .ok (.if_icmp .ne 9, 3) := dk_160 0 9 (dk_at dksX2_of_1 7 rfl rfl)
theorem dX2_of_34 : decode cX2_of 34 = .ok (.iconst 1, 1) := dk_4 (dk_at dksX2_of_1 10 rfl rfl)
theorem dX2_of_35 : decode cX2_of 35 = .ok (.iload_n 3, 1) := dk_29 (dk_at dksX2_of_1 11 rfl rfl)
theorem dX2_of_36 : decode cX2_of 36 = .ok (.ishl, 1) := dk_120 (dk_at dksX2_of_1 12 rfl rfl)
theorem dX2_of_37 : decode cX2_of 37 = .ok (.goto 4, 3) := dk_167 0 4 (dk_at dksX2_of_1 13 rfl rfl)
theorem dX2_of_40 : decode cX2_of 40 = .ok (.iconst 0, 1) := dk_3 (dk_at dksX2_of_1 16 rfl rfl)
theorem dX2_of_41 : decode cX2_of 41 = .ok (.ior, 1) := dk_128 (dk_at dksX2_of_1 17 rfl rfl)
theorem dX2_of_42 : decode cX2_of 42 = .ok (.istore_n 2, 1) := dk_61 (dk_at dksX2_of_1 18 rfl rfl)
theorem dX2_of_43 : decode cX2_of 43 = .ok (.iinc 3 1, 3) := dk_132 3 1 (dk_at dksX2_of_1 19 rfl rfl)
theorem dX2_of_46 : decode cX2_of 46 = .ok (.goto (-42), 3) := dk_167 255 214 (dk_at dksX2_of_2 0 rfl rfl)
theorem dX2_of_49 : decode cX2_of 49 = .ok (.iload_n 2, 1) := dk_28 (dk_at dksX2_of_2 3 rfl rfl)
theorem dX2_of_50 : decode cX2_of 50 = .ok (.ireturn, 1) := dk_172 (dk_at dksX2_of_2 4 rfl rfl)

set_option maxRecDepth 100000
theorem dX3_init_0 : decode cX3_init 0 = .ok (.aload_n 0, 1) := by decide +kernel
theorem dX3_init_1 : decode cX3_init 1 = .ok (.invokespecial 1, 3) := by decide +kernel
theorem dX3_init_4 : decode cX3_init 4 = .ok (.return_, 1) := by decide +kernel

set_option maxRecDepth 100000
def dkwX4_init_0 : List UInt8 := [42, 183, 0, 1, 42, 43, 181, 0, 7, 42, 44, 181, 0, 13, 177]
abbrev dktX4_init_0 : List UInt8 := dkwX4_init_0 ++ []
theorem dksX4_init_0 : cX4_init.data.toList.drop 0 = dktX4_init_0 := by decide +kernel
theorem dX4_init_0 : decode cX4_init 0 = .ok (.aload_n 0, 1) := dk_42 (dk_at dksX4_init_0 0 rfl rfl)
theorem dX4_init_1 : decode cX4_init 1 = .ok (.invokespecial 1, 3) := dk_183 0 1 (dk_at dksX4_init_0 1 rfl rfl)
theorem dX4_init_4 : decode cX4_init 4 = .ok (.aload_n 0, 1) := dk_42 (dk_at dksX4_init_0 4 rfl rfl)
theorem dX4_init_5 : decode cX4_init 5 = .ok (.aload_n 1, 1) := dk_43 (dk_at dksX4_init_0 5 rfl rfl)
theorem dX4_init_6 : decode cX4_init 6 = .ok (.putfield 7, 3) := dk_181 0 7 (dk_at dksX4_init_0 6 rfl rfl)
theorem dX4_init_9 : decode cX4_init 9 = .ok (.aload_n 0, 1) := dk_42 (dk_at dksX4_init_0 9 rfl rfl)
theorem dX4_init_10 : decode cX4_init 10 = .ok (.aload_n 2, 1) := dk_44 (dk_at dksX4_init_0 10 rfl rfl)
theorem dX4_init_11 : decode cX4_init 11 = .ok (.putfield 13, 3) := dk_181 0 13 (dk_at dksX4_init_0 11 rfl rfl)
theorem dX4_init_14 : decode cX4_init 14 = .ok (.return_, 1) := dk_177 (dk_at dksX4_init_0 14 rfl rfl)
def dkwX4_of_0 : List UInt8 := [42, 42, 180, 0, 7, 43, 182, 0, 16, 42, 180, 0, 13, 43, 182, 0, 16, 182, 0, 20, 172]
abbrev dktX4_of_0 : List UInt8 := dkwX4_of_0 ++ []
theorem dksX4_of_0 : cX4_of.data.toList.drop 0 = dktX4_of_0 := by decide +kernel
theorem dX4_of_0 : decode cX4_of 0 = .ok (.aload_n 0, 1) := dk_42 (dk_at dksX4_of_0 0 rfl rfl)
theorem dX4_of_1 : decode cX4_of 1 = .ok (.aload_n 0, 1) := dk_42 (dk_at dksX4_of_0 1 rfl rfl)
theorem dX4_of_2 : decode cX4_of 2 = .ok (.getfield 7, 3) := dk_180 0 7 (dk_at dksX4_of_0 2 rfl rfl)
theorem dX4_of_5 : decode cX4_of 5 = .ok (.aload_n 1, 1) := dk_43 (dk_at dksX4_of_0 5 rfl rfl)
theorem dX4_of_6 : decode cX4_of 6 = .ok (.invokevirtual 16, 3) := dk_182 0 16 (dk_at dksX4_of_0 6 rfl rfl)
theorem dX4_of_9 : decode cX4_of 9 = .ok (.aload_n 0, 1) := dk_42 (dk_at dksX4_of_0 9 rfl rfl)
theorem dX4_of_10 : decode cX4_of 10 = .ok (.getfield 13, 3) := dk_180 0 13 (dk_at dksX4_of_0 10 rfl rfl)
theorem dX4_of_13 : decode cX4_of 13 = .ok (.aload_n 1, 1) := dk_43 (dk_at dksX4_of_0 13 rfl rfl)
theorem dX4_of_14 : decode cX4_of 14 = .ok (.invokevirtual 16, 3) := dk_182 0 16 (dk_at dksX4_of_0 14 rfl rfl)
theorem dX4_of_17 : decode cX4_of 17 = .ok (.invokevirtual 20, 3) := dk_182 0 20 (dk_at dksX4_of_0 17 rfl rfl)
theorem dX4_of_20 : decode cX4_of 20 = .ok (.ireturn, 1) := dk_172 (dk_at dksX4_of_0 20 rfl rfl)

set_option maxRecDepth 100000
def dkwX5_init_0 : List UInt8 := [42, 43, 44, 183, 0, 1, 177]
abbrev dktX5_init_0 : List UInt8 := dkwX5_init_0 ++ []
theorem dksX5_init_0 : cX5_init.data.toList.drop 0 = dktX5_init_0 := by decide +kernel
theorem dX5_init_0 : decode cX5_init 0 = .ok (.aload_n 0, 1) := dk_42 (dk_at dksX5_init_0 0 rfl rfl)
theorem dX5_init_1 : decode cX5_init 1 = .ok (.aload_n 1, 1) := dk_43 (dk_at dksX5_init_0 1 rfl rfl)
theorem dX5_init_2 : decode cX5_init 2 = .ok (.aload_n 2, 1) := dk_44 (dk_at dksX5_init_0 2 rfl rfl)
theorem dX5_init_3 : decode cX5_init 3 = .ok (.invokespecial 1, 3) := dk_183 0 1 (dk_at dksX5_init_0 3 rfl rfl)
theorem dX5_init_6 : decode cX5_init 6 = .ok (.return_, 1) := dk_177 (dk_at dksX5_init_0 6 rfl rfl)
def dkwX5_with_0 : List UInt8 := [27, 28, 100, 172]
abbrev dktX5_with_0 : List UInt8 := dkwX5_with_0 ++ []
theorem dksX5_with_0 : cX5_with.data.toList.drop 0 = dktX5_with_0 := by decide +kernel
theorem dX5_with_0 : decode cX5_with 0 = .ok (.iload_n 1, 1) := dk_27 (dk_at dksX5_with_0 0 rfl rfl)
theorem dX5_with_1 : decode cX5_with 1 = .ok (.iload_n 2, 1) := dk_28 (dk_at dksX5_with_0 1 rfl rfl)
theorem dX5_with_2 : decode cX5_with 2 = .ok (.isub, 1) := dk_100 (dk_at dksX5_with_0 2 rfl rfl)
theorem dX5_with_3 : decode cX5_with 3 = .ok (.ireturn, 1) := dk_172 (dk_at dksX5_with_0 3 rfl rfl)

set_option maxRecDepth 100000
def dkwX6_init_0 : List UInt8 := [42, 43, 44, 183, 0, 1, 177]
abbrev dktX6_init_0 : List UInt8 := dkwX6_init_0 ++ []
theorem dksX6_init_0 : cX6_init.data.toList.drop 0 = dktX6_init_0 := by decide +kernel
theorem dX6_init_0 : decode cX6_init 0 = .ok (.aload_n 0, 1) := dk_42 (dk_at dksX6_init_0 0 rfl rfl)
theorem dX6_init_1 : decode cX6_init 1 = .ok (.aload_n 1, 1) := dk_43 (dk_at dksX6_init_0 1 rfl rfl)
theorem dX6_init_2 : decode cX6_init 2 = .ok (.aload_n 2, 1) := dk_44 (dk_at dksX6_init_0 2 rfl rfl)
theorem dX6_init_3 : decode cX6_init 3 = .ok (.invokespecial 1, 3) := dk_183 0 1 (dk_at dksX6_init_0 3 rfl rfl)
theorem dX6_init_6 : decode cX6_init 6 = .ok (.return_, 1) := dk_177 (dk_at dksX6_init_0 6 rfl rfl)
def dkwX6_with_0 : List UInt8 := [27, 28, 96, 172]
abbrev dktX6_with_0 : List UInt8 := dkwX6_with_0 ++ []
theorem dksX6_with_0 : cX6_with.data.toList.drop 0 = dktX6_with_0 := by decide +kernel
theorem dX6_with_0 : decode cX6_with 0 = .ok (.iload_n 1, 1) := dk_27 (dk_at dksX6_with_0 0 rfl rfl)
theorem dX6_with_1 : decode cX6_with 1 = .ok (.iload_n 2, 1) := dk_28 (dk_at dksX6_with_0 1 rfl rfl)
theorem dX6_with_2 : decode cX6_with 2 = .ok (.iadd, 1) := dk_96 (dk_at dksX6_with_0 2 rfl rfl)
theorem dX6_with_3 : decode cX6_with 3 = .ok (.ireturn, 1) := dk_172 (dk_at dksX6_with_0 3 rfl rfl)

set_option maxRecDepth 100000
def dkwX7_init_0 : List UInt8 := [42, 183, 0, 1, 42, 27, 181, 0, 7, 177]
abbrev dktX7_init_0 : List UInt8 := dkwX7_init_0 ++ []
theorem dksX7_init_0 : cX7_init.data.toList.drop 0 = dktX7_init_0 := by decide +kernel
theorem dX7_init_0 : decode cX7_init 0 = .ok (.aload_n 0, 1) := dk_42 (dk_at dksX7_init_0 0 rfl rfl)
theorem dX7_init_1 : decode cX7_init 1 = .ok (.invokespecial 1, 3) := dk_183 0 1 (dk_at dksX7_init_0 1 rfl rfl)
theorem dX7_init_4 : decode cX7_init 4 = .ok (.aload_n 0, 1) := dk_42 (dk_at dksX7_init_0 4 rfl rfl)
theorem dX7_init_5 : decode cX7_init 5 = .ok (.iload_n 1, 1) := dk_27 (dk_at dksX7_init_0 5 rfl rfl)
theorem dX7_init_6 : decode cX7_init 6 = .ok (.putfield 7, 3) := dk_181 0 7 (dk_at dksX7_init_0 6 rfl rfl)
theorem dX7_init_9 : decode cX7_init 9 = .ok (.return_, 1) := dk_177 (dk_at dksX7_init_0 9 rfl rfl)
def dkwX7_of_0 : List UInt8 := [43, 42, 180, 0, 7, 46, 172]
abbrev dktX7_of_0 : List UInt8 := dkwX7_of_0 ++ []
theorem dksX7_of_0 : cX7_of.data.toList.drop 0 = dktX7_of_0 := by decide +kernel
theorem dX7_of_0 : decode cX7_of 0 = .ok (.aload_n 1, 1) := dk_43 (dk_at dksX7_of_0 0 rfl rfl)
theorem dX7_of_1 : decode cX7_of 1 = .ok (.aload_n 0, 1) := dk_42 (dk_at dksX7_of_0 1 rfl rfl)
theorem dX7_of_2 : decode cX7_of 2 = .ok (.getfield 7, 3) := dk_180 0 7 (dk_at dksX7_of_0 2 rfl rfl)
theorem dX7_of_5 : decode cX7_of 5 = .ok (.iaload, 1) := dk_46 (dk_at dksX7_of_0 5 rfl rfl)
theorem dX7_of_6 : decode cX7_of 6 = .ok (.ireturn, 1) := dk_172 (dk_at dksX7_of_0 6 rfl rfl)

set_option maxRecDepth 100000
def dkwX8_init_0 : List UInt8 := [42, 43, 44, 183, 0, 1, 177]
abbrev dktX8_init_0 : List UInt8 := dkwX8_init_0 ++ []
theorem dksX8_init_0 : cX8_init.data.toList.drop 0 = dktX8_init_0 := by decide +kernel
theorem dX8_init_0 : decode cX8_init 0 = .ok (.aload_n 0, 1) := dk_42 (dk_at dksX8_init_0 0 rfl rfl)
theorem dX8_init_1 : decode cX8_init 1 = .ok (.aload_n 1, 1) := dk_43 (dk_at dksX8_init_0 1 rfl rfl)
theorem dX8_init_2 : decode cX8_init 2 = .ok (.aload_n 2, 1) := dk_44 (dk_at dksX8_init_0 2 rfl rfl)
theorem dX8_init_3 : decode cX8_init 3 = .ok (.invokespecial 1, 3) := dk_183 0 1 (dk_at dksX8_init_0 3 rfl rfl)
theorem dX8_init_6 : decode cX8_init 6 = .ok (.return_, 1) := dk_177 (dk_at dksX8_init_0 6 rfl rfl)
def dkwX8_with_0 : List UInt8 := [27, 28, 104, 172]
abbrev dktX8_with_0 : List UInt8 := dkwX8_with_0 ++ []
theorem dksX8_with_0 : cX8_with.data.toList.drop 0 = dktX8_with_0 := by decide +kernel
theorem dX8_with_0 : decode cX8_with 0 = .ok (.iload_n 1, 1) := dk_27 (dk_at dksX8_with_0 0 rfl rfl)
theorem dX8_with_1 : decode cX8_with 1 = .ok (.iload_n 2, 1) := dk_28 (dk_at dksX8_with_0 1 rfl rfl)
theorem dX8_with_2 : decode cX8_with 2 = .ok (.imul, 1) := dk_104 (dk_at dksX8_with_0 2 rfl rfl)
theorem dX8_with_3 : decode cX8_with 3 = .ok (.ireturn, 1) := dk_172 (dk_at dksX8_with_0 3 rfl rfl)

set_option maxRecDepth 100000
def dkwX9_init_0 : List UInt8 := [42, 183, 0, 1, 42, 27, 181, 0, 7, 177]
abbrev dktX9_init_0 : List UInt8 := dkwX9_init_0 ++ []
theorem dksX9_init_0 : cX9_init.data.toList.drop 0 = dktX9_init_0 := by decide +kernel
theorem dX9_init_0 : decode cX9_init 0 = .ok (.aload_n 0, 1) := dk_42 (dk_at dksX9_init_0 0 rfl rfl)
theorem dX9_init_1 : decode cX9_init 1 = .ok (.invokespecial 1, 3) := dk_183 0 1 (dk_at dksX9_init_0 1 rfl rfl)
theorem dX9_init_4 : decode cX9_init 4 = .ok (.aload_n 0, 1) := dk_42 (dk_at dksX9_init_0 4 rfl rfl)
theorem dX9_init_5 : decode cX9_init 5 = .ok (.iload_n 1, 1) := dk_27 (dk_at dksX9_init_0 5 rfl rfl)
theorem dX9_init_6 : decode cX9_init 6 = .ok (.putfield 7, 3) := dk_181 0 7 (dk_at dksX9_init_0 6 rfl rfl)
theorem dX9_init_9 : decode cX9_init 9 = .ok (.return_, 1) := dk_177 (dk_at dksX9_init_0 9 rfl rfl)
theorem dX9_of_0 : decode cX9_of 0 = .ok (.aload_n 0, 1) := by decide +kernel
theorem dX9_of_1 : decode cX9_of 1 = .ok (.getfield 7, 3) := by decide +kernel
theorem dX9_of_4 : decode cX9_of 4 = .ok (.ireturn, 1) := by decide +kernel

set_option maxRecDepth 100000
def dkwX10_init_1 : List UInt8 := [181, 0, 19, 42, 16, 8, 188, 10, 181, 0, 22, 177]
abbrev dktX10_init_1 : List UInt8 := dkwX10_init_1 ++ []
def dkwX10_init_0 : List UInt8 := [42, 43, 181, 0, 3, 42, 183, 0, 9, 42, 16, 10, 188, 10, 181, 0, 15, 42, 16, 8, 188, 10]
abbrev dktX10_init_0 : List UInt8 := dkwX10_init_0 ++ dktX10_init_1
theorem dksX10_init_0 : cX10_init.data.toList.drop 0 = dktX10_init_0 := by decide +kernel
theorem dksX10_init_1 : cX10_init.data.toList.drop 22 = dktX10_init_1 := dk_seg dksX10_init_0 22 rfl rfl
theorem dX10_init_0 : decode cX10_init 0 = .ok (.aload_n 0, 1) := dk_42 (dk_at dksX10_init_0 0 rfl rfl)
theorem dX10_init_1 : decode cX10_init 1 = .ok (.aload_n 1, 1) := dk_43 (dk_at dksX10_init_0 1 rfl rfl)
theorem dX10_init_2 : decode cX10_init 2 = .ok (.putfield 3, 3) := dk_181 0 3 (dk_at dksX10_init_0 2 rfl rfl)
theorem dX10_init_5 : decode cX10_init 5 = .ok (.aload_n 0, 1) := dk_42 (dk_at dksX10_init_0 5 rfl rfl)
theorem dX10_init_6 : decode cX10_init 6 = .ok (.invokespecial 9, 3) := dk_183 0 9 (dk_at dksX10_init_0 6 rfl rfl)
theorem dX10_init_9 : decode cX10_init 9 = .ok (.aload_n 0, 1) := dk_42 (dk_at dksX10_init_0 9 rfl rfl)
theorem dX10_init_10 : decode cX10_init 10 = .ok (.bipush 10, 2) := dk_16 10 (dk_at dksX10_init_0 10 rfl rfl)
theorem dX10_init_12 : decode cX10_init 12 = .ok (.newarray .int, 2) := dk_188_10 (dk_at dksX10_init_0 12 rfl rfl)
theorem dX10_init_14 : decode cX10_init 14 = .ok (.putfield 15, 3) := dk_181 0 15 (dk_at dksX10_init_0 14 rfl rfl)
theorem dX10_init_17 : decode cX10_init 17 = .ok (.aload_n 0, 1) := dk_42 (dk_at dksX10_init_0 17 rfl rfl)
theorem dX10_init_18 : decode cX10_init 18 = .ok (.bipush 8, 2) := dk_16 8 (dk_at dksX10_init_0 18 rfl rfl)
theorem dX10_init_20 : decode cX10_init 20 = .ok (.newarray .int, 2) := dk_188_10 (dk_at dksX10_init_0 20 rfl rfl)
theorem dX10_init_22 : decode cX10_init 22 = .ok (.putfield 19, 3) := dk_181 0 19 (dk_at dksX10_init_1 0 rfl rfl)
theorem dX10_init_25 : decode cX10_init 25 = .ok (.aload_n 0, 1) := dk_42 (dk_at dksX10_init_1 3 rfl rfl)
theorem dX10_init_26 : decode cX10_init 26 = .ok (.bipush 8, 2) := dk_16 8 (dk_at dksX10_init_1 4 rfl rfl)
theorem dX10_init_28 : decode cX10_init 28 = .ok (.newarray .int, 2) := dk_188_10 (dk_at dksX10_init_1 6 rfl rfl)
theorem dX10_init_30 : decode cX10_init 30 = .ok (.putfield 22, 3) := dk_181 0 22 (dk_at dksX10_init_1 8 rfl rfl)
theorem dX10_init_33 : decode cX10_init 33 = .ok (.return_, 1) := dk_177 (dk_at dksX10_init_1 11 rfl rfl)
def dkwX10_begins_3 : List UInt8 := [180, 0, 25, 180, 0, 29, 120, 4, 100, 181, 0, 35, 42, 3, 181, 0, 38, 42, 3, 181, 0, 41, 42, 176]
abbrev dktX10_begins_3 : List UInt8 := dkwX10_begins_3 ++ []
def dkwX10_begins_2 : List UInt8 := [162, 0, 16, 42, 180, 0, 22, 27, 2, 79, 132, 1, 1, 167, 255, 240, 42, 4, 42, 180, 0, 3]
abbrev dktX10_begins_2 : List UInt8 := dkwX10_begins_2 ++ dktX10_begins_3
def dkwX10_begins_1 : List UInt8 := [16, 8, 162, 0, 16, 42, 180, 0, 19, 27, 3, 79, 132, 1, 1, 167, 255, 240, 3, 60, 27, 16, 8]
abbrev dktX10_begins_1 : List UInt8 := dkwX10_begins_1 ++ dktX10_begins_2
def dkwX10_begins_0 : List UInt8 := [3, 60, 27, 16, 10, 162, 0, 16, 42, 180, 0, 15, 27, 2, 79, 132, 1, 1, 167, 255, 240, 3, 60, 27]
abbrev dktX10_begins_0 : List UInt8 := dkwX10_begins_0 ++ dktX10_begins_1
theorem dksX10_begins_0 : cX10_begins.data.toList.drop 0 = dktX10_begins_0 := by decide +kernel
theorem dksX10_begins_1 : cX10_begins.data.toList.drop 24 = dktX10_begins_1 := dk_seg dksX10_begins_0 24 rfl rfl
theorem dksX10_begins_2 : cX10_begins.data.toList.drop 47 = dktX10_begins_2 := dk_seg dksX10_begins_1 23 rfl rfl
theorem dksX10_begins_3 : cX10_begins.data.toList.drop 69 = dktX10_begins_3 := dk_seg dksX10_begins_2 22 rfl rfl
theorem dX10_begins_0 : decode cX10_begins 0 = .ok (.iconst 0, 1) := dk_3 (dk_at dksX10_begins_0 0 rfl rfl)
theorem dX10_begins_1 : decode cX10_begins 1 = .ok (.istore_n 1, 1) := dk_60 (dk_at dksX10_begins_0 1 rfl rfl)
theorem dX10_begins_2 : decode cX10_begins 2 = .ok (.iload_n 1, 1) := dk_27 (dk_at dksX10_begins_0 2 rfl rfl)
theorem dX10_begins_3 : decode cX10_begins 3 = .ok (.bipush 10, 2) := dk_16 10 (dk_at dksX10_begins_0 3 rfl rfl)
theorem dX10_begins_5 : decode cX10_begins 5 = .ok (.if_icmp .ge 16, 3) := dk_162 0 16 (dk_at dksX10_begins_0 5 rfl rfl)
theorem dX10_begins_8 : decode cX10_begins 8 = .ok (.aload_n 0, 1) := dk_42 (dk_at dksX10_begins_0 8 rfl rfl)
theorem dX10_begins_9 : decode cX10_begins 9 = .ok (.getfield 15, 3) := dk_180 0 15 (dk_at dksX10_begins_0 9 rfl rfl)
theorem dX10_begins_12 : decode cX10_begins 12 = .ok (.iload_n 1, 1) := dk_27 (dk_at dksX10_begins_0 12 rfl rfl)
theorem dX10_begins_13 : decode cX10_begins 13 = .ok (.iconst (-1), 1) := dk_2 (dk_at dksX10_begins_0 13 rfl rfl)
theorem dX10_begins_14 : decode cX10_begins 14 = .ok (.iastore, 1) := dk_79 (dk_at dksX10_begins_0 14 rfl rfl)
theorem dX10_begins_15 : decode cX10_begins 15 = .ok (.iinc 1 1, 3) := dk_132 1 1 (dk_at dksX10_begins_0 15 rfl rfl)
theorem dX10_begins_18 : decode cX10_begins 18 = .ok (.goto (-16), 3) := dk_167 255 240 (dk_at dksX10_begins_0 18 rfl rfl)
theorem dX10_begins_21 : decode cX10_begins 21 = .ok (.iconst 0, 1) := dk_3 (dk_at dksX10_begins_0 21 rfl rfl)
theorem dX10_begins_22 : decode cX10_begins 22 = .ok (.istore_n 1, 1) := dk_60 (dk_at dksX10_begins_0 22 rfl rfl)
theorem dX10_begins_23 : decode cX10_begins 23 = .ok (.iload_n 1, 1) := dk_27 (dk_at dksX10_begins_0 23 rfl rfl)
theorem dX10_begins_24 : decode cX10_begins 24 = .ok (.bipush 8, 2) := dk_16 8 (dk_at dksX10_begins_1 0 rfl rfl)
theorem dX10_begins_26 : decode cX10_begins 26 = .ok (.if_icmp .ge 16, 3) := dk_162 0 16 (dk_at dksX10_begins_1 2 rfl rfl)
theorem dX10_begins_29 : decode cX10_begins 29 = .ok (.aload_n 0, 1) := dk_42 (dk_at dksX10_begins_1 5 rfl rfl)
theorem dX10_begins_30 : decode cX10_begins 30 = .ok (.getfield 19, 3) := dk_180 0 19 (dk_at dksX10_begins_1 6 rfl rfl)
theorem dX10_begins_33 : decode cX10_begins 33 = .ok (.iload_n 1, 1) := dk_27 (dk_at dksX10_begins_1 9 rfl rfl)
theorem dX10_begins_34 : decode cX10_begins 34 = .ok (.iconst 0, 1) := dk_3 (dk_at dksX10_begins_1 10 rfl rfl)
theorem dX10_begins_35 : decode cX10_begins 35 = .ok (.iastore, 1) := dk_79 (dk_at dksX10_begins_1 11 rfl rfl)
theorem dX10_begins_36 : decode cX10_begins 36 = .ok (.iinc 1 1, 3) := dk_132 1 1 (dk_at dksX10_begins_1 12 rfl rfl)
theorem dX10_begins_39 : decode cX10_begins 39 = .ok (.goto (-16), 3) := dk_167 255 240 (dk_at dksX10_begins_1 15 rfl rfl)
theorem dX10_begins_42 : decode cX10_begins 42 = .ok (.iconst 0, 1) := dk_3 (dk_at dksX10_begins_1 18 rfl rfl)
theorem dX10_begins_43 : decode cX10_begins 43 = .ok (.istore_n 1, 1) := dk_60 (dk_at dksX10_begins_1 19 rfl rfl)
theorem dX10_begins_44 : decode cX10_begins 44 = .ok (.iload_n 1, 1) := dk_27 (dk_at dksX10_begins_1 20 rfl rfl)
theorem dX10_begins_45 : decode cX10_begins 45 = .ok (.bipush 8, 2) := dk_16 8 (dk_at dksX10_begins_1 21 rfl rfl)
theorem dX10_begins_47 : decode cX10_begins 47 = .ok (.if_icmp .ge 16, 3) := dk_162 0 16 (dk_at dksX10_begins_2 0 rfl rfl)
theorem dX10_begins_50 : decode cX10_begins 50 = .ok (.aload_n 0, 1) := dk_42 (dk_at dksX10_begins_2 3 rfl rfl)
theorem dX10_begins_51 : decode cX10_begins 51 = .ok (.getfield 22, 3) := dk_180 0 22 (dk_at dksX10_begins_2 4 rfl rfl)
theorem dX10_begins_54 : decode cX10_begins 54 = .ok (.iload_n 1, 1) := dk_27 (dk_at dksX10_begins_2 7 rfl rfl)
theorem dX10_begins_55 : decode cX10_begins 55 = .ok (.iconst (-1), 1) := dk_2 (dk_at dksX10_begins_2 8 rfl rfl)
theorem dX10_begins_56 : decode cX10_begins 56 = .ok (.iastore, 1) := dk_79 (dk_at dksX10_begins_2 9 rfl rfl)
theorem dX10_begins_57 : decode cX10_begins 57 = .ok (.iinc 1 1, 3) := dk_132 1 1 (dk_at dksX10_begins_2 10 rfl rfl)
theorem dX10_begins_60 : decode cX10_begins 60 = .ok (.goto (-16), 3) := dk_167 255 240 (dk_at dksX10_begins_2 13 rfl rfl)
theorem dX10_begins_63 : decode cX10_begins 63 = .ok (.aload_n 0, 1) := dk_42 (dk_at dksX10_begins_2 16 rfl rfl)
theorem dX10_begins_64 : decode cX10_begins 64 = .ok (.iconst 1, 1) := dk_4 (dk_at dksX10_begins_2 17 rfl rfl)
theorem dX10_begins_65 : decode cX10_begins 65 = .ok (.aload_n 0, 1) := dk_42 (dk_at dksX10_begins_2 18 rfl rfl)
theorem dX10_begins_66 : decode cX10_begins 66 = .ok (.getfield 3, 3) := dk_180 0 3 (dk_at dksX10_begins_2 19 rfl rfl)
theorem dX10_begins_69 : decode cX10_begins 69 = .ok (.getfield 25, 3) := dk_180 0 25 (dk_at dksX10_begins_3 0 rfl rfl)
theorem dX10_begins_72 : decode cX10_begins 72 = .ok (.getfield 29, 3) := dk_180 0 29 (dk_at dksX10_begins_3 3 rfl rfl)
theorem dX10_begins_75 : decode cX10_begins 75 = .ok (.ishl, 1) := dk_120 (dk_at dksX10_begins_3 6 rfl rfl)
theorem dX10_begins_76 : decode cX10_begins 76 = .ok (.iconst 1, 1) := dk_4 (dk_at dksX10_begins_3 7 rfl rfl)
theorem dX10_begins_77 : decode cX10_begins 77 = .ok (.isub, 1) := dk_100 (dk_at dksX10_begins_3 8 rfl rfl)
theorem dX10_begins_78 : decode cX10_begins 78 = .ok (.putfield 35, 3) := dk_181 0 35 (dk_at dksX10_begins_3 9 rfl rfl)
theorem dX10_begins_81 : decode cX10_begins 81 = .ok (.aload_n 0, 1) := dk_42 (dk_at dksX10_begins_3 12 rfl rfl)
theorem dX10_begins_82 : decode cX10_begins 82 = .ok (.iconst 0, 1) := dk_3 (dk_at dksX10_begins_3 13 rfl rfl)
theorem dX10_begins_83 : decode cX10_begins 83 = .ok (.putfield 38, 3) := dk_181 0 38 (dk_at dksX10_begins_3 14 rfl rfl)
theorem dX10_begins_86 : decode cX10_begins 86 = .ok (.aload_n 0, 1) := dk_42 (dk_at dksX10_begins_3 17 rfl rfl)
theorem dX10_begins_87 : decode cX10_begins 87 = .ok (.iconst 0, 1) := dk_3 (dk_at dksX10_begins_3 18 rfl rfl)
theorem dX10_begins_88 : decode cX10_begins 88 = .ok (.putfield 41, 3) := dk_181 0 41 (dk_at dksX10_begins_3 19 rfl rfl)
theorem dX10_begins_91 : decode cX10_begins 91 = .ok (.aload_n 0, 1) := dk_42 (dk_at dksX10_begins_3 22 rfl rfl)
theorem dX10_begins_92 : decode cX10_begins 92 = .ok (.areturn, 1) := dk_176 (dk_at dksX10_begins_3 23 rfl rfl)
def dkwX10_becomes_2 : List UInt8 := [180, 0, 35, 181, 0, 35, 42, 43, 180, 0, 38, 181, 0, 38, 42, 43, 180, 0, 41, 181, 0, 41, 42, 176]
abbrev dktX10_becomes_2 : List UInt8 := dkwX10_becomes_2 ++ []
def dkwX10_becomes_1 : List UInt8 := [3, 16, 8, 184, 0, 44, 43, 180, 0, 22, 3, 42, 180, 0, 22, 3, 16, 8, 184, 0, 44, 42, 43]
abbrev dktX10_becomes_1 : List UInt8 := dkwX10_becomes_1 ++ dktX10_becomes_2
def dkwX10_becomes_0 : List UInt8 := [43, 180, 0, 15, 3, 42, 180, 0, 15, 3, 16, 10, 184, 0, 44, 43, 180, 0, 19, 3, 42, 180, 0, 19]
abbrev dktX10_becomes_0 : List UInt8 := dkwX10_becomes_0 ++ dktX10_becomes_1
theorem dksX10_becomes_0 : cX10_becomes.data.toList.drop 0 = dktX10_becomes_0 := by decide +kernel
theorem dksX10_becomes_1 : cX10_becomes.data.toList.drop 24 = dktX10_becomes_1 := dk_seg dksX10_becomes_0 24 rfl rfl
theorem dksX10_becomes_2 : cX10_becomes.data.toList.drop 47 = dktX10_becomes_2 := dk_seg dksX10_becomes_1 23 rfl rfl
theorem dX10_becomes_0 : decode cX10_becomes 0 = .ok (.aload_n 1, 1) := dk_43 (dk_at dksX10_becomes_0 0 rfl rfl)
theorem dX10_becomes_1 : decode cX10_becomes 1 = .ok (.getfield 15, 3) := dk_180 0 15 (dk_at dksX10_becomes_0 1 rfl rfl)
theorem dX10_becomes_4 : decode cX10_becomes 4 = .ok (.iconst 0, 1) := dk_3 (dk_at dksX10_becomes_0 4 rfl rfl)
theorem dX10_becomes_5 : decode cX10_becomes 5 = .ok (.aload_n 0, 1) := dk_42 (dk_at dksX10_becomes_0 5 rfl rfl)
theorem dX10_becomes_6 : decode cX10_becomes 6 = .ok (.getfield 15, 3) := dk_180 0 15 (dk_at dksX10_becomes_0 6 rfl rfl)
theorem dX10_becomes_9 : decode cX10_becomes 9 = .ok (.iconst 0, 1) := dk_3 (dk_at dksX10_becomes_0 9 rfl rfl)
theorem dX10_becomes_10 : decode cX10_becomes 10 = .ok (.bipush 10, 2) := dk_16 10 (dk_at dksX10_becomes_0 10 rfl rfl)
theorem dX10_becomes_12 : decode cX10_becomes 12 = .ok (.invokestatic 44, 3) := dk_184 0 44 (dk_at dksX10_becomes_0 12 rfl rfl)
theorem dX10_becomes_15 : decode cX10_becomes 15 = .ok (.aload_n 1, 1) := dk_43 (dk_at dksX10_becomes_0 15 rfl rfl)
theorem dX10_becomes_16 : decode cX10_becomes 16 = .ok (.getfield 19, 3) := dk_180 0 19 (dk_at dksX10_becomes_0 16 rfl rfl)
theorem dX10_becomes_19 : decode cX10_becomes 19 = .ok (.iconst 0, 1) := dk_3 (dk_at dksX10_becomes_0 19 rfl rfl)
theorem dX10_becomes_20 : decode cX10_becomes 20 = .ok (.aload_n 0, 1) := dk_42 (dk_at dksX10_becomes_0 20 rfl rfl)
theorem dX10_becomes_21 : decode cX10_becomes 21 = .ok (.getfield 19, 3) := dk_180 0 19 (dk_at dksX10_becomes_0 21 rfl rfl)
theorem dX10_becomes_24 : decode cX10_becomes 24 = .ok (.iconst 0, 1) := dk_3 (dk_at dksX10_becomes_1 0 rfl rfl)
theorem dX10_becomes_25 : decode cX10_becomes 25 = .ok (.bipush 8, 2) := dk_16 8 (dk_at dksX10_becomes_1 1 rfl rfl)
theorem dX10_becomes_27 : decode cX10_becomes 27 = .ok (.invokestatic 44, 3) := dk_184 0 44 (dk_at dksX10_becomes_1 3 rfl rfl)
theorem dX10_becomes_30 : decode cX10_becomes 30 = .ok (.aload_n 1, 1) := dk_43 (dk_at dksX10_becomes_1 6 rfl rfl)
theorem dX10_becomes_31 : decode cX10_becomes 31 = .ok (.getfield 22, 3) := dk_180 0 22 (dk_at dksX10_becomes_1 7 rfl rfl)
theorem dX10_becomes_34 : decode cX10_becomes 34 = .ok (.iconst 0, 1) := dk_3 (dk_at dksX10_becomes_1 10 rfl rfl)
theorem dX10_becomes_35 : decode cX10_becomes 35 = .ok (.aload_n 0, 1) := dk_42 (dk_at dksX10_becomes_1 11 rfl rfl)
theorem dX10_becomes_36 : decode cX10_becomes 36 = .ok (.getfield 22, 3) := dk_180 0 22 (dk_at dksX10_becomes_1 12 rfl rfl)
theorem dX10_becomes_39 : decode cX10_becomes 39 = .ok (.iconst 0, 1) := dk_3 (dk_at dksX10_becomes_1 15 rfl rfl)
theorem dX10_becomes_40 : decode cX10_becomes 40 = .ok (.bipush 8, 2) := dk_16 8 (dk_at dksX10_becomes_1 16 rfl rfl)
theorem dX10_becomes_42 : decode cX10_becomes 42 = .ok (.invokestatic 44, 3) := dk_184 0 44 (dk_at dksX10_becomes_1 18 rfl rfl)
theorem dX10_becomes_45 : decode cX10_becomes 45 = .ok (.aload_n 0, 1) := dk_42 (dk_at dksX10_becomes_1 21 rfl rfl)
theorem dX10_becomes_46 : decode cX10_becomes 46 = .ok (.aload_n 1, 1) := dk_43 (dk_at dksX10_becomes_1 22 rfl rfl)
theorem dX10_becomes_47 : decode cX10_becomes 47 = .ok (.getfield 35, 3) := dk_180 0 35 (dk_at dksX10_becomes_2 0 rfl rfl)
theorem dX10_becomes_50 : decode cX10_becomes 50 = .ok (.putfield 35, 3) := dk_181 0 35 (dk_at dksX10_becomes_2 3 rfl rfl)
theorem dX10_becomes_53 : decode cX10_becomes 53 = .ok (.aload_n 0, 1) := dk_42 (dk_at dksX10_becomes_2 6 rfl rfl)
theorem dX10_becomes_54 : decode cX10_becomes 54 = .ok (.aload_n 1, 1) := dk_43 (dk_at dksX10_becomes_2 7 rfl rfl)
theorem dX10_becomes_55 : decode cX10_becomes 55 = .ok (.getfield 38, 3) := dk_180 0 38 (dk_at dksX10_becomes_2 8 rfl rfl)
theorem dX10_becomes_58 : decode cX10_becomes 58 = .ok (.putfield 38, 3) := dk_181 0 38 (dk_at dksX10_becomes_2 11 rfl rfl)
theorem dX10_becomes_61 : decode cX10_becomes 61 = .ok (.aload_n 0, 1) := dk_42 (dk_at dksX10_becomes_2 14 rfl rfl)
theorem dX10_becomes_62 : decode cX10_becomes 62 = .ok (.aload_n 1, 1) := dk_43 (dk_at dksX10_becomes_2 15 rfl rfl)
theorem dX10_becomes_63 : decode cX10_becomes 63 = .ok (.getfield 41, 3) := dk_180 0 41 (dk_at dksX10_becomes_2 16 rfl rfl)
theorem dX10_becomes_66 : decode cX10_becomes 66 = .ok (.putfield 41, 3) := dk_181 0 41 (dk_at dksX10_becomes_2 19 rfl rfl)
theorem dX10_becomes_69 : decode cX10_becomes 69 = .ok (.aload_n 0, 1) := dk_42 (dk_at dksX10_becomes_2 22 rfl rfl)
theorem dX10_becomes_70 : decode cX10_becomes 70 = .ok (.areturn, 1) := dk_176 (dk_at dksX10_becomes_2 23 rfl rfl)
def dkwX10_canLapse_1 : List UInt8 := [182, 0, 69, 126, 153, 0, 7, 4, 167, 0, 4, 3, 172]
abbrev dktX10_canLapse_1 : List UInt8 := dkwX10_canLapse_1 ++ []
def dkwX10_canLapse_0 : List UInt8 := [42, 180, 0, 35, 27, 184, 0, 107, 153, 0, 26, 42, 182, 0, 57, 42, 180, 0, 3, 180, 0, 25, 27]
abbrev dktX10_canLapse_0 : List UInt8 := dkwX10_canLapse_0 ++ dktX10_canLapse_1
theorem dksX10_canLapse_0 : cX10_canLapse.data.toList.drop 0 = dktX10_canLapse_0 := by decide +kernel
theorem dksX10_canLapse_1 : cX10_canLapse.data.toList.drop 23 = dktX10_canLapse_1 := dk_seg dksX10_canLapse_0 23 rfl rfl
theorem dX10_canLapse_0 : decode cX10_canLapse 0 = .ok (.aload_n 0, 1) := dk_42 (dk_at dksX10_canLapse_0 0 rfl rfl)
theorem dX10_canLapse_1 : decode cX10_canLapse 1 = .ok (.getfield 35, 3) := dk_180 0 35 (dk_at dksX10_canLapse_0 1 rfl rfl)
theorem dX10_canLapse_4 : decode cX10_canLapse 4 = .ok (.iload_n 1, 1) := dk_27 (dk_at dksX10_canLapse_0 4 rfl rfl)
theorem dX10_canLapse_5 : decode cX10_canLapse 5 = .ok (.invokestatic 107, 3) := dk_184 0 107 (dk_at dksX10_canLapse_0 5 rfl rfl)
theorem dX10_canLapse_8 : decode cX10_canLapse 8 = .ok (.ifCond .eq 26, 3) := dk_153 0 26 (dk_at dksX10_canLapse_0 8 rfl rfl)
theorem dX10_canLapse_11 : decode cX10_canLapse 11 = .ok (.aload_n 0, 1) := dk_42 (dk_at dksX10_canLapse_0 11 rfl rfl)
theorem dX10_canLapse_12 : decode cX10_canLapse 12 = .ok (.invokevirtual 57, 3) := dk_182 0 57 (dk_at dksX10_canLapse_0 12 rfl rfl)
theorem dX10_canLapse_15 : decode cX10_canLapse 15 = .ok (.aload_n 0, 1) := dk_42 (dk_at dksX10_canLapse_0 15 rfl rfl)
theorem dX10_canLapse_16 : decode cX10_canLapse 16 = .ok (.getfield 3, 3) := dk_180 0 3 (dk_at dksX10_canLapse_0 16 rfl rfl)
theorem dX10_canLapse_19 : decode cX10_canLapse 19 = .ok (.getfield 25, 3) := dk_180 0 25 (dk_at dksX10_canLapse_0 19 rfl rfl)
theorem dX10_canLapse_22 : decode cX10_canLapse 22 = .ok (.iload_n 1, 1) := dk_27 (dk_at dksX10_canLapse_0 22 rfl rfl)
theorem dX10_canLapse_23 : decode cX10_canLapse 23 = .ok (.invokevirtual 69, 3) := dk_182 0 69 (dk_at dksX10_canLapse_1 0 rfl rfl)
theorem dX10_canLapse_26 : decode cX10_canLapse 26 = .ok (.iand, 1) := dk_126 (dk_at dksX10_canLapse_1 3 rfl rfl)
theorem dX10_canLapse_27 : decode cX10_canLapse 27 = .ok (.ifCond .eq 7, 3) := dk_153 0 7 (dk_at dksX10_canLapse_1 4 rfl rfl)
theorem dX10_canLapse_30 : decode cX10_canLapse 30 = .ok (.iconst 1, 1) := dk_4 (dk_at dksX10_canLapse_1 7 rfl rfl)
theorem dX10_canLapse_31 : decode cX10_canLapse 31 = .ok (.goto 4, 3) := dk_167 0 4 (dk_at dksX10_canLapse_1 8 rfl rfl)
theorem dX10_canLapse_34 : decode cX10_canLapse 34 = .ok (.iconst 0, 1) := dk_3 (dk_at dksX10_canLapse_1 11 rfl rfl)
theorem dX10_canLapse_35 : decode cX10_canLapse 35 = .ok (.ireturn, 1) := dk_172 (dk_at dksX10_canLapse_1 12 rfl rfl)
def dkwX10_kept_1 : List UInt8 := [160, 0, 7, 3, 167, 0, 6, 4, 28, 120, 128, 60, 132, 2, 1, 167, 255, 222, 27, 172]
abbrev dktX10_kept_1 : List UInt8 := dkwX10_kept_1 ++ []
def dkwX10_kept_0 : List UInt8 := [3, 60, 3, 61, 28, 42, 180, 0, 3, 182, 0, 50, 162, 0, 29, 27, 42, 180, 0, 15, 28, 46, 2]
abbrev dktX10_kept_0 : List UInt8 := dkwX10_kept_0 ++ dktX10_kept_1
theorem dksX10_kept_0 : cX10_kept.data.toList.drop 0 = dktX10_kept_0 := by decide +kernel
theorem dksX10_kept_1 : cX10_kept.data.toList.drop 23 = dktX10_kept_1 := dk_seg dksX10_kept_0 23 rfl rfl
theorem dX10_kept_0 : decode cX10_kept 0 = .ok (.iconst 0, 1) := dk_3 (dk_at dksX10_kept_0 0 rfl rfl)
theorem dX10_kept_1 : decode cX10_kept 1 = .ok (.istore_n 1, 1) := dk_60 (dk_at dksX10_kept_0 1 rfl rfl)
theorem dX10_kept_2 : decode cX10_kept 2 = .ok (.iconst 0, 1) := dk_3 (dk_at dksX10_kept_0 2 rfl rfl)
theorem dX10_kept_3 : decode cX10_kept 3 = .ok (.istore_n 2, 1) := dk_61 (dk_at dksX10_kept_0 3 rfl rfl)
theorem dX10_kept_4 : decode cX10_kept 4 = .ok (.iload_n 2, 1) := dk_28 (dk_at dksX10_kept_0 4 rfl rfl)
theorem dX10_kept_5 : decode cX10_kept 5 = .ok (.aload_n 0, 1) := dk_42 (dk_at dksX10_kept_0 5 rfl rfl)
theorem dX10_kept_6 : decode cX10_kept 6 = .ok (.getfield 3, 3) := dk_180 0 3 (dk_at dksX10_kept_0 6 rfl rfl)
theorem dX10_kept_9 : decode cX10_kept 9 = .ok (.invokevirtual 50, 3) := dk_182 0 50 (dk_at dksX10_kept_0 9 rfl rfl)
theorem dX10_kept_12 : decode cX10_kept 12 = .ok (.if_icmp .ge 29, 3) := dk_162 0 29 (dk_at dksX10_kept_0 12 rfl rfl)
theorem dX10_kept_15 : decode cX10_kept 15 = .ok (.iload_n 1, 1) := dk_27 (dk_at dksX10_kept_0 15 rfl rfl)
theorem dX10_kept_16 : decode cX10_kept 16 = .ok (.aload_n 0, 1) := dk_42 (dk_at dksX10_kept_0 16 rfl rfl)
theorem dX10_kept_17 : decode cX10_kept 17 = .ok (.getfield 15, 3) := dk_180 0 15 (dk_at dksX10_kept_0 17 rfl rfl)
theorem dX10_kept_20 : decode cX10_kept 20 = .ok (.iload_n 2, 1) := dk_28 (dk_at dksX10_kept_0 20 rfl rfl)
theorem dX10_kept_21 : decode cX10_kept 21 = .ok (.iaload, 1) := dk_46 (dk_at dksX10_kept_0 21 rfl rfl)
theorem dX10_kept_22 : decode cX10_kept 22 = .ok (.iconst (-1), 1) := dk_2 (dk_at dksX10_kept_0 22 rfl rfl)
theorem dX10_kept_23 : decode cX10_kept 23 = .ok (.if_icmp .ne 7, 3) := dk_160 0 7 (dk_at dksX10_kept_1 0 rfl rfl)
theorem dX10_kept_26 : decode cX10_kept 26 = .ok (.iconst 0, 1) := dk_3 (dk_at dksX10_kept_1 3 rfl rfl)
theorem dX10_kept_27 : decode cX10_kept 27 = .ok (.goto 6, 3) := dk_167 0 6 (dk_at dksX10_kept_1 4 rfl rfl)
theorem dX10_kept_30 : decode cX10_kept 30 = .ok (.iconst 1, 1) := dk_4 (dk_at dksX10_kept_1 7 rfl rfl)
theorem dX10_kept_31 : decode cX10_kept 31 = .ok (.iload_n 2, 1) := dk_28 (dk_at dksX10_kept_1 8 rfl rfl)
theorem dX10_kept_32 : decode cX10_kept 32 = .ok (.ishl, 1) := dk_120 (dk_at dksX10_kept_1 9 rfl rfl)
theorem dX10_kept_33 : decode cX10_kept 33 = .ok (.ior, 1) := dk_128 (dk_at dksX10_kept_1 10 rfl rfl)
theorem dX10_kept_34 : decode cX10_kept 34 = .ok (.istore_n 1, 1) := dk_60 (dk_at dksX10_kept_1 11 rfl rfl)
theorem dX10_kept_35 : decode cX10_kept 35 = .ok (.iinc 2 1, 3) := dk_132 2 1 (dk_at dksX10_kept_1 12 rfl rfl)
theorem dX10_kept_38 : decode cX10_kept 38 = .ok (.goto (-34), 3) := dk_167 255 222 (dk_at dksX10_kept_1 15 rfl rfl)
theorem dX10_kept_41 : decode cX10_kept 41 = .ok (.iload_n 1, 1) := dk_27 (dk_at dksX10_kept_1 18 rfl rfl)
theorem dX10_kept_42 : decode cX10_kept 42 = .ok (.ireturn, 1) := dk_172 (dk_at dksX10_kept_1 19 rfl rfl)
def dkwX10_canCure_1 : List UInt8 := [182, 0, 111, 153, 0, 7, 4, 167, 0, 4, 3, 172]
abbrev dktX10_canCure_1 : List UInt8 := dkwX10_canCure_1 ++ []
def dkwX10_canCure_0 : List UInt8 := [42, 180, 0, 22, 28, 46, 2, 160, 0, 27, 42, 180, 0, 38, 27, 184, 0, 107, 154, 0, 16, 42, 27, 28]
abbrev dktX10_canCure_0 : List UInt8 := dkwX10_canCure_0 ++ dktX10_canCure_1
theorem dksX10_canCure_0 : cX10_canCure.data.toList.drop 0 = dktX10_canCure_0 := by decide +kernel
theorem dksX10_canCure_1 : cX10_canCure.data.toList.drop 24 = dktX10_canCure_1 := dk_seg dksX10_canCure_0 24 rfl rfl
theorem dX10_canCure_0 : decode cX10_canCure 0 = .ok (.aload_n 0, 1) := dk_42 (dk_at dksX10_canCure_0 0 rfl rfl)
theorem dX10_canCure_1 : decode cX10_canCure 1 = .ok (.getfield 22, 3) := dk_180 0 22 (dk_at dksX10_canCure_0 1 rfl rfl)
theorem dX10_canCure_4 : decode cX10_canCure 4 = .ok (.iload_n 2, 1) := dk_28 (dk_at dksX10_canCure_0 4 rfl rfl)
theorem dX10_canCure_5 : decode cX10_canCure 5 = .ok (.iaload, 1) := dk_46 (dk_at dksX10_canCure_0 5 rfl rfl)
theorem dX10_canCure_6 : decode cX10_canCure 6 = .ok (.iconst (-1), 1) := dk_2 (dk_at dksX10_canCure_0 6 rfl rfl)
theorem dX10_canCure_7 : decode cX10_canCure 7 = .ok (.if_icmp .ne 27, 3) := dk_160 0 27 (dk_at dksX10_canCure_0 7 rfl rfl)
theorem dX10_canCure_10 : decode cX10_canCure 10 = .ok (.aload_n 0, 1) := dk_42 (dk_at dksX10_canCure_0 10 rfl rfl)
theorem dX10_canCure_11 : decode cX10_canCure 11 = .ok (.getfield 38, 3) := dk_180 0 38 (dk_at dksX10_canCure_0 11 rfl rfl)
theorem dX10_canCure_14 : decode cX10_canCure 14 = .ok (.iload_n 1, 1) := dk_27 (dk_at dksX10_canCure_0 14 rfl rfl)
theorem dX10_canCure_15 : decode cX10_canCure 15 = .ok (.invokestatic 107, 3) := dk_184 0 107 (dk_at dksX10_canCure_0 15 rfl rfl)
theorem dX10_canCure_18 : decode cX10_canCure 18 = .ok (.ifCond .ne 16, 3) := dk_154 0 16 (dk_at dksX10_canCure_0 18 rfl rfl)
theorem dX10_canCure_21 : decode cX10_canCure 21 = .ok (.aload_n 0, 1) := dk_42 (dk_at dksX10_canCure_0 21 rfl rfl)
theorem dX10_canCure_22 : decode cX10_canCure 22 = .ok (.iload_n 1, 1) := dk_27 (dk_at dksX10_canCure_0 22 rfl rfl)
theorem dX10_canCure_23 : decode cX10_canCure 23 = .ok (.iload_n 2, 1) := dk_28 (dk_at dksX10_canCure_0 23 rfl rfl)
theorem dX10_canCure_24 : decode cX10_canCure 24 = .ok (.invokevirtual 111, 3) := dk_182 0 111 (dk_at dksX10_canCure_1 0 rfl rfl)
theorem dX10_canCure_27 : decode cX10_canCure 27 = .ok (.ifCond .eq 7, 3) := dk_153 0 7 (dk_at dksX10_canCure_1 3 rfl rfl)
theorem dX10_canCure_30 : decode cX10_canCure 30 = .ok (.iconst 1, 1) := dk_4 (dk_at dksX10_canCure_1 6 rfl rfl)
theorem dX10_canCure_31 : decode cX10_canCure 31 = .ok (.goto 4, 3) := dk_167 0 4 (dk_at dksX10_canCure_1 7 rfl rfl)
theorem dX10_canCure_34 : decode cX10_canCure 34 = .ok (.iconst 0, 1) := dk_3 (dk_at dksX10_canCure_1 10 rfl rfl)
theorem dX10_canCure_35 : decode cX10_canCure 35 = .ok (.ireturn, 1) := dk_172 (dk_at dksX10_canCure_1 11 rfl rfl)
def dkwX10_isAble_2 : List UInt8 := [167, 0, 4, 3, 172]
abbrev dktX10_isAble_2 : List UInt8 := dkwX10_isAble_2 ++ []
def dkwX10_isAble_1 : List UInt8 := [160, 0, 26, 42, 27, 182, 0, 94, 42, 180, 0, 3, 28, 182, 0, 97, 180, 0, 104, 161, 0, 7, 4]
abbrev dktX10_isAble_1 : List UInt8 := dkwX10_isAble_1 ++ dktX10_isAble_2
def dkwX10_isAble_0 : List UInt8 := [42, 180, 0, 3, 27, 182, 0, 60, 180, 0, 84, 42, 180, 0, 3, 28, 182, 0, 97, 180, 0, 101]
abbrev dktX10_isAble_0 : List UInt8 := dkwX10_isAble_0 ++ dktX10_isAble_1
theorem dksX10_isAble_0 : cX10_isAble.data.toList.drop 0 = dktX10_isAble_0 := by decide +kernel
theorem dksX10_isAble_1 : cX10_isAble.data.toList.drop 22 = dktX10_isAble_1 := dk_seg dksX10_isAble_0 22 rfl rfl
theorem dksX10_isAble_2 : cX10_isAble.data.toList.drop 45 = dktX10_isAble_2 := dk_seg dksX10_isAble_1 23 rfl rfl
theorem dX10_isAble_0 : decode cX10_isAble 0 = .ok (.aload_n 0, 1) := dk_42 (dk_at dksX10_isAble_0 0 rfl rfl)
theorem dX10_isAble_1 : decode cX10_isAble 1 = .ok (.getfield 3, 3) := dk_180 0 3 (dk_at dksX10_isAble_0 1 rfl rfl)
theorem dX10_isAble_4 : decode cX10_isAble 4 = .ok (.iload_n 1, 1) := dk_27 (dk_at dksX10_isAble_0 4 rfl rfl)
theorem dX10_isAble_5 : decode cX10_isAble 5 = .ok (.invokevirtual 60, 3) := dk_182 0 60 (dk_at dksX10_isAble_0 5 rfl rfl)
theorem dX10_isAble_8 : decode cX10_isAble 8 = .ok (.getfield 84, 3) := dk_180 0 84 (dk_at dksX10_isAble_0 8 rfl rfl)
theorem dX10_isAble_11 : decode cX10_isAble 11 = .ok (.aload_n 0, 1) := dk_42 (dk_at dksX10_isAble_0 11 rfl rfl)
theorem dX10_isAble_12 : decode cX10_isAble 12 = .ok (.getfield 3, 3) := dk_180 0 3 (dk_at dksX10_isAble_0 12 rfl rfl)
theorem dX10_isAble_15 : decode cX10_isAble 15 = .ok (.iload_n 2, 1) := dk_28 (dk_at dksX10_isAble_0 15 rfl rfl)
theorem dX10_isAble_16 : decode cX10_isAble 16 = .ok (.invokevirtual 97, 3) := dk_182 0 97 (dk_at dksX10_isAble_0 16 rfl rfl)
theorem dX10_isAble_19 : decode cX10_isAble 19 = .ok (.getfield 101, 3) := dk_180 0 101 (dk_at dksX10_isAble_0 19 rfl rfl)
theorem dX10_isAble_22 : decode cX10_isAble 22 = .ok (.if_icmp .ne 26, 3) := dk_160 0 26 (dk_at dksX10_isAble_1 0 rfl rfl)
theorem dX10_isAble_25 : decode cX10_isAble 25 = .ok (.aload_n 0, 1) := dk_42 (dk_at dksX10_isAble_1 3 rfl rfl)
theorem dX10_isAble_26 : decode cX10_isAble 26 = .ok (.iload_n 1, 1) := dk_27 (dk_at dksX10_isAble_1 4 rfl rfl)
theorem dX10_isAble_27 : decode cX10_isAble 27 = .ok (.invokevirtual 94, 3) := dk_182 0 94 (dk_at dksX10_isAble_1 5 rfl rfl)
theorem dX10_isAble_30 : decode cX10_isAble 30 = .ok (.aload_n 0, 1) := dk_42 (dk_at dksX10_isAble_1 8 rfl rfl)
theorem dX10_isAble_31 : decode cX10_isAble 31 = .ok (.getfield 3, 3) := dk_180 0 3 (dk_at dksX10_isAble_1 9 rfl rfl)
theorem dX10_isAble_34 : decode cX10_isAble 34 = .ok (.iload_n 2, 1) := dk_28 (dk_at dksX10_isAble_1 12 rfl rfl)
theorem dX10_isAble_35 : decode cX10_isAble 35 = .ok (.invokevirtual 97, 3) := dk_182 0 97 (dk_at dksX10_isAble_1 13 rfl rfl)
theorem dX10_isAble_38 : decode cX10_isAble 38 = .ok (.getfield 104, 3) := dk_180 0 104 (dk_at dksX10_isAble_1 16 rfl rfl)
theorem dX10_isAble_41 : decode cX10_isAble 41 = .ok (.if_icmp .lt 7, 3) := dk_161 0 7 (dk_at dksX10_isAble_1 19 rfl rfl)
theorem dX10_isAble_44 : decode cX10_isAble 44 = .ok (.iconst 1, 1) := dk_4 (dk_at dksX10_isAble_1 22 rfl rfl)
theorem dX10_isAble_45 : decode cX10_isAble 45 = .ok (.goto 4, 3) := dk_167 0 4 (dk_at dksX10_isAble_2 0 rfl rfl)
theorem dX10_isAble_48 : decode cX10_isAble 48 = .ok (.iconst 0, 1) := dk_3 (dk_at dksX10_isAble_2 3 rfl rfl)
theorem dX10_isAble_49 : decode cX10_isAble 49 = .ok (.ireturn, 1) := dk_172 (dk_at dksX10_isAble_2 4 rfl rfl)
def dkwX10_powerOf_3 : List UInt8 := [180, 0, 64, 42, 180, 0, 41, 182, 0, 90, 172]
abbrev dktX10_powerOf_3 : List UInt8 := dkwX10_powerOf_3 ++ []
def dkwX10_powerOf_2 : List UInt8 := [180, 0, 3, 180, 0, 25, 180, 0, 81, 44, 180, 0, 64, 46, 44, 180, 0, 84, 42, 27, 182, 0, 87, 44]
abbrev dktX10_powerOf_2 : List UInt8 := dkwX10_powerOf_2 ++ dktX10_powerOf_3
def dkwX10_powerOf_1 : List UInt8 := [180, 0, 3, 44, 180, 0, 78, 42, 180, 0, 15, 27, 46, 42, 180, 0, 19, 44, 180, 0, 64, 46, 42]
abbrev dktX10_powerOf_1 : List UInt8 := dkwX10_powerOf_1 ++ dktX10_powerOf_2
def dkwX10_powerOf_0 : List UInt8 := [42, 180, 0, 15, 27, 46, 2, 160, 0, 5, 3, 172, 42, 180, 0, 3, 27, 182, 0, 60, 77, 42]
abbrev dktX10_powerOf_0 : List UInt8 := dkwX10_powerOf_0 ++ dktX10_powerOf_1
theorem dksX10_powerOf_0 : cX10_powerOf.data.toList.drop 0 = dktX10_powerOf_0 := by decide +kernel
theorem dksX10_powerOf_1 : cX10_powerOf.data.toList.drop 22 = dktX10_powerOf_1 := dk_seg dksX10_powerOf_0 22 rfl rfl
theorem dksX10_powerOf_2 : cX10_powerOf.data.toList.drop 45 = dktX10_powerOf_2 := dk_seg dksX10_powerOf_1 23 rfl rfl
theorem dksX10_powerOf_3 : cX10_powerOf.data.toList.drop 69 = dktX10_powerOf_3 := dk_seg dksX10_powerOf_2 24 rfl rfl
theorem dX10_powerOf_0 : decode cX10_powerOf 0 = .ok (.aload_n 0, 1) := dk_42 (dk_at dksX10_powerOf_0 0 rfl rfl)
theorem dX10_powerOf_1 : decode cX10_powerOf 1 = .ok (.getfield 15, 3) := dk_180 0 15 (dk_at dksX10_powerOf_0 1 rfl rfl)
theorem dX10_powerOf_4 : decode cX10_powerOf 4 = .ok (.iload_n 1, 1) := dk_27 (dk_at dksX10_powerOf_0 4 rfl rfl)
theorem dX10_powerOf_5 : decode cX10_powerOf 5 = .ok (.iaload, 1) := dk_46 (dk_at dksX10_powerOf_0 5 rfl rfl)
theorem dX10_powerOf_6 : decode cX10_powerOf 6 = .ok (.iconst (-1), 1) := dk_2 (dk_at dksX10_powerOf_0 6 rfl rfl)
theorem dX10_powerOf_7 : decode cX10_powerOf 7 = .ok (.if_icmp .ne 5, 3) := dk_160 0 5 (dk_at dksX10_powerOf_0 7 rfl rfl)
theorem dX10_powerOf_10 : decode cX10_powerOf 10 = .ok (.iconst 0, 1) := dk_3 (dk_at dksX10_powerOf_0 10 rfl rfl)
theorem dX10_powerOf_11 : decode cX10_powerOf 11 = .ok (.ireturn, 1) := dk_172 (dk_at dksX10_powerOf_0 11 rfl rfl)
theorem dX10_powerOf_12 : decode cX10_powerOf 12 = .ok (.aload_n 0, 1) := dk_42 (dk_at dksX10_powerOf_0 12 rfl rfl)
theorem dX10_powerOf_13 : decode cX10_powerOf 13 = .ok (.getfield 3, 3) := dk_180 0 3 (dk_at dksX10_powerOf_0 13 rfl rfl)
theorem dX10_powerOf_16 : decode cX10_powerOf 16 = .ok (.iload_n 1, 1) := dk_27 (dk_at dksX10_powerOf_0 16 rfl rfl)
theorem dX10_powerOf_17 : decode cX10_powerOf 17 = .ok (.invokevirtual 60, 3) := dk_182 0 60 (dk_at dksX10_powerOf_0 17 rfl rfl)
theorem dX10_powerOf_20 : decode cX10_powerOf 20 = .ok (.astore_n 2, 1) := dk_77 (dk_at dksX10_powerOf_0 20 rfl rfl)
theorem dX10_powerOf_21 : decode cX10_powerOf 21 = .ok (.aload_n 0, 1) := dk_42 (dk_at dksX10_powerOf_0 21 rfl rfl)
theorem dX10_powerOf_22 : decode cX10_powerOf 22 = .ok (.getfield 3, 3) := dk_180 0 3 (dk_at dksX10_powerOf_1 0 rfl rfl)
theorem dX10_powerOf_25 : decode cX10_powerOf 25 = .ok (.aload_n 2, 1) := dk_44 (dk_at dksX10_powerOf_1 3 rfl rfl)
theorem dX10_powerOf_26 : decode cX10_powerOf 26 = .ok (.getfield 78, 3) := dk_180 0 78 (dk_at dksX10_powerOf_1 4 rfl rfl)
theorem dX10_powerOf_29 : decode cX10_powerOf 29 = .ok (.aload_n 0, 1) := dk_42 (dk_at dksX10_powerOf_1 7 rfl rfl)
theorem dX10_powerOf_30 : decode cX10_powerOf 30 = .ok (.getfield 15, 3) := dk_180 0 15 (dk_at dksX10_powerOf_1 8 rfl rfl)
theorem dX10_powerOf_33 : decode cX10_powerOf 33 = .ok (.iload_n 1, 1) := dk_27 (dk_at dksX10_powerOf_1 11 rfl rfl)
theorem dX10_powerOf_34 : decode cX10_powerOf 34 = .ok (.iaload, 1) := dk_46 (dk_at dksX10_powerOf_1 12 rfl rfl)
theorem dX10_powerOf_35 : decode cX10_powerOf 35 = .ok (.aload_n 0, 1) := dk_42 (dk_at dksX10_powerOf_1 13 rfl rfl)
theorem dX10_powerOf_36 : decode cX10_powerOf 36 = .ok (.getfield 19, 3) := dk_180 0 19 (dk_at dksX10_powerOf_1 14 rfl rfl)
theorem dX10_powerOf_39 : decode cX10_powerOf 39 = .ok (.aload_n 2, 1) := dk_44 (dk_at dksX10_powerOf_1 17 rfl rfl)
theorem dX10_powerOf_40 : decode cX10_powerOf 40 = .ok (.getfield 64, 3) := dk_180 0 64 (dk_at dksX10_powerOf_1 18 rfl rfl)
theorem dX10_powerOf_43 : decode cX10_powerOf 43 = .ok (.iaload, 1) := dk_46 (dk_at dksX10_powerOf_1 21 rfl rfl)
theorem dX10_powerOf_44 : decode cX10_powerOf 44 = .ok (.aload_n 0, 1) := dk_42 (dk_at dksX10_powerOf_1 22 rfl rfl)
theorem dX10_powerOf_45 : decode cX10_powerOf 45 = .ok (.getfield 3, 3) := dk_180 0 3 (dk_at dksX10_powerOf_2 0 rfl rfl)
theorem dX10_powerOf_48 : decode cX10_powerOf 48 = .ok (.getfield 25, 3) := dk_180 0 25 (dk_at dksX10_powerOf_2 3 rfl rfl)
theorem dX10_powerOf_51 : decode cX10_powerOf 51 = .ok (.getfield 81, 3) := dk_180 0 81 (dk_at dksX10_powerOf_2 6 rfl rfl)
theorem dX10_powerOf_54 : decode cX10_powerOf 54 = .ok (.aload_n 2, 1) := dk_44 (dk_at dksX10_powerOf_2 9 rfl rfl)
theorem dX10_powerOf_55 : decode cX10_powerOf 55 = .ok (.getfield 64, 3) := dk_180 0 64 (dk_at dksX10_powerOf_2 10 rfl rfl)
theorem dX10_powerOf_58 : decode cX10_powerOf 58 = .ok (.iaload, 1) := dk_46 (dk_at dksX10_powerOf_2 13 rfl rfl)
theorem dX10_powerOf_59 : decode cX10_powerOf 59 = .ok (.aload_n 2, 1) := dk_44 (dk_at dksX10_powerOf_2 14 rfl rfl)
theorem dX10_powerOf_60 : decode cX10_powerOf 60 = .ok (.getfield 84, 3) := dk_180 0 84 (dk_at dksX10_powerOf_2 15 rfl rfl)
theorem dX10_powerOf_63 : decode cX10_powerOf 63 = .ok (.aload_n 0, 1) := dk_42 (dk_at dksX10_powerOf_2 18 rfl rfl)
theorem dX10_powerOf_64 : decode cX10_powerOf 64 = .ok (.iload_n 1, 1) := dk_27 (dk_at dksX10_powerOf_2 19 rfl rfl)
theorem dX10_powerOf_65 : decode cX10_powerOf 65 = .ok (.invokevirtual 87, 3) := dk_182 0 87 (dk_at dksX10_powerOf_2 20 rfl rfl)
theorem dX10_powerOf_68 : decode cX10_powerOf 68 = .ok (.aload_n 2, 1) := dk_44 (dk_at dksX10_powerOf_2 23 rfl rfl)
theorem dX10_powerOf_69 : decode cX10_powerOf 69 = .ok (.getfield 64, 3) := dk_180 0 64 (dk_at dksX10_powerOf_3 0 rfl rfl)
theorem dX10_powerOf_72 : decode cX10_powerOf 72 = .ok (.aload_n 0, 1) := dk_42 (dk_at dksX10_powerOf_3 3 rfl rfl)
theorem dX10_powerOf_73 : decode cX10_powerOf 73 = .ok (.getfield 41, 3) := dk_180 0 41 (dk_at dksX10_powerOf_3 4 rfl rfl)
theorem dX10_powerOf_76 : decode cX10_powerOf 76 = .ok (.invokevirtual 90, 3) := dk_182 0 90 (dk_at dksX10_powerOf_3 7 rfl rfl)
theorem dX10_powerOf_79 : decode cX10_powerOf 79 = .ok (.ireturn, 1) := dk_172 (dk_at dksX10_powerOf_3 10 rfl rfl)
def dkwX10_othersOf_1 : List UInt8 := [182, 0, 69, 126, 4, 27, 120, 2, 130, 126, 184, 0, 73, 172]
abbrev dktX10_othersOf_1 : List UInt8 := dkwX10_othersOf_1 ++ []
def dkwX10_othersOf_0 : List UInt8 := [42, 182, 0, 57, 42, 180, 0, 3, 180, 0, 25, 42, 180, 0, 3, 27, 182, 0, 60, 180, 0, 64]
abbrev dktX10_othersOf_0 : List UInt8 := dkwX10_othersOf_0 ++ dktX10_othersOf_1
theorem dksX10_othersOf_0 : cX10_othersOf.data.toList.drop 0 = dktX10_othersOf_0 := by decide +kernel
theorem dksX10_othersOf_1 : cX10_othersOf.data.toList.drop 22 = dktX10_othersOf_1 := dk_seg dksX10_othersOf_0 22 rfl rfl
theorem dX10_othersOf_0 : decode cX10_othersOf 0 = .ok (.aload_n 0, 1) := dk_42 (dk_at dksX10_othersOf_0 0 rfl rfl)
theorem dX10_othersOf_1 : decode cX10_othersOf 1 = .ok (.invokevirtual 57, 3) := dk_182 0 57 (dk_at dksX10_othersOf_0 1 rfl rfl)
theorem dX10_othersOf_4 : decode cX10_othersOf 4 = .ok (.aload_n 0, 1) := dk_42 (dk_at dksX10_othersOf_0 4 rfl rfl)
theorem dX10_othersOf_5 : decode cX10_othersOf 5 = .ok (.getfield 3, 3) := dk_180 0 3 (dk_at dksX10_othersOf_0 5 rfl rfl)
theorem dX10_othersOf_8 : decode cX10_othersOf 8 = .ok (.getfield 25, 3) := dk_180 0 25 (dk_at dksX10_othersOf_0 8 rfl rfl)
theorem dX10_othersOf_11 : decode cX10_othersOf 11 = .ok (.aload_n 0, 1) := dk_42 (dk_at dksX10_othersOf_0 11 rfl rfl)
theorem dX10_othersOf_12 : decode cX10_othersOf 12 = .ok (.getfield 3, 3) := dk_180 0 3 (dk_at dksX10_othersOf_0 12 rfl rfl)
theorem dX10_othersOf_15 : decode cX10_othersOf 15 = .ok (.iload_n 1, 1) := dk_27 (dk_at dksX10_othersOf_0 15 rfl rfl)
theorem dX10_othersOf_16 : decode cX10_othersOf 16 = .ok (.invokevirtual 60, 3) := dk_182 0 60 (dk_at dksX10_othersOf_0 16 rfl rfl)
theorem dX10_othersOf_19 : decode cX10_othersOf 19 = .ok (.getfield 64, 3) := dk_180 0 64 (dk_at dksX10_othersOf_0 19 rfl rfl)
theorem dX10_othersOf_22 : decode cX10_othersOf 22 = .ok (.invokevirtual 69, 3) := dk_182 0 69 (dk_at dksX10_othersOf_1 0 rfl rfl)
theorem dX10_othersOf_25 : decode cX10_othersOf 25 = .ok (.iand, 1) := dk_126 (dk_at dksX10_othersOf_1 3 rfl rfl)
theorem dX10_othersOf_26 : decode cX10_othersOf 26 = .ok (.iconst 1, 1) := dk_4 (dk_at dksX10_othersOf_1 4 rfl rfl)
theorem dX10_othersOf_27 : decode cX10_othersOf 27 = .ok (.iload_n 1, 1) := dk_27 (dk_at dksX10_othersOf_1 5 rfl rfl)
theorem dX10_othersOf_28 : decode cX10_othersOf 28 = .ok (.ishl, 1) := dk_120 (dk_at dksX10_othersOf_1 6 rfl rfl)
theorem dX10_othersOf_29 : decode cX10_othersOf 29 = .ok (.iconst (-1), 1) := dk_2 (dk_at dksX10_othersOf_1 7 rfl rfl)
theorem dX10_othersOf_30 : decode cX10_othersOf 30 = .ok (.ixor, 1) := dk_130 (dk_at dksX10_othersOf_1 8 rfl rfl)
theorem dX10_othersOf_31 : decode cX10_othersOf 31 = .ok (.iand, 1) := dk_126 (dk_at dksX10_othersOf_1 9 rfl rfl)
theorem dX10_othersOf_32 : decode cX10_othersOf 32 = .ok (.invokestatic 73, 3) := dk_184 0 73 (dk_at dksX10_othersOf_1 10 rfl rfl)
theorem dX10_othersOf_35 : decode cX10_othersOf 35 = .ok (.ireturn, 1) := dk_172 (dk_at dksX10_othersOf_1 13 rfl rfl)
def dkwX10_backs_0 : List UInt8 := [42, 180, 0, 15, 27, 46, 2, 160, 0, 5, 3, 172, 42, 180, 0, 15, 27, 2, 79, 4, 172]
abbrev dktX10_backs_0 : List UInt8 := dkwX10_backs_0 ++ []
theorem dksX10_backs_0 : cX10_backs.data.toList.drop 0 = dktX10_backs_0 := by decide +kernel
theorem dX10_backs_0 : decode cX10_backs 0 = .ok (.aload_n 0, 1) := dk_42 (dk_at dksX10_backs_0 0 rfl rfl)
theorem dX10_backs_1 : decode cX10_backs 1 = .ok (.getfield 15, 3) := dk_180 0 15 (dk_at dksX10_backs_0 1 rfl rfl)
theorem dX10_backs_4 : decode cX10_backs 4 = .ok (.iload_n 1, 1) := dk_27 (dk_at dksX10_backs_0 4 rfl rfl)
theorem dX10_backs_5 : decode cX10_backs 5 = .ok (.iaload, 1) := dk_46 (dk_at dksX10_backs_0 5 rfl rfl)
theorem dX10_backs_6 : decode cX10_backs 6 = .ok (.iconst (-1), 1) := dk_2 (dk_at dksX10_backs_0 6 rfl rfl)
theorem dX10_backs_7 : decode cX10_backs 7 = .ok (.if_icmp .ne 5, 3) := dk_160 0 5 (dk_at dksX10_backs_0 7 rfl rfl)
theorem dX10_backs_10 : decode cX10_backs 10 = .ok (.iconst 0, 1) := dk_3 (dk_at dksX10_backs_0 10 rfl rfl)
theorem dX10_backs_11 : decode cX10_backs 11 = .ok (.ireturn, 1) := dk_172 (dk_at dksX10_backs_0 11 rfl rfl)
theorem dX10_backs_12 : decode cX10_backs 12 = .ok (.aload_n 0, 1) := dk_42 (dk_at dksX10_backs_0 12 rfl rfl)
theorem dX10_backs_13 : decode cX10_backs 13 = .ok (.getfield 15, 3) := dk_180 0 15 (dk_at dksX10_backs_0 13 rfl rfl)
theorem dX10_backs_16 : decode cX10_backs 16 = .ok (.iload_n 1, 1) := dk_27 (dk_at dksX10_backs_0 16 rfl rfl)
theorem dX10_backs_17 : decode cX10_backs 17 = .ok (.iconst (-1), 1) := dk_2 (dk_at dksX10_backs_0 17 rfl rfl)
theorem dX10_backs_18 : decode cX10_backs 18 = .ok (.iastore, 1) := dk_79 (dk_at dksX10_backs_0 18 rfl rfl)
theorem dX10_backs_19 : decode cX10_backs 19 = .ok (.iconst 1, 1) := dk_4 (dk_at dksX10_backs_0 19 rfl rfl)
theorem dX10_backs_20 : decode cX10_backs 20 = .ok (.ireturn, 1) := dk_172 (dk_at dksX10_backs_0 20 rfl rfl)
def dkwX10_cures_1 : List UInt8 := [27, 120, 128, 181, 0, 38, 4, 172]
abbrev dktX10_cures_1 : List UInt8 := dkwX10_cures_1 ++ []
def dkwX10_cures_0 : List UInt8 := [42, 27, 28, 182, 0, 118, 154, 0, 5, 3, 172, 42, 180, 0, 22, 28, 27, 79, 42, 89, 180, 0, 38, 4]
abbrev dktX10_cures_0 : List UInt8 := dkwX10_cures_0 ++ dktX10_cures_1
theorem dksX10_cures_0 : cX10_cures.data.toList.drop 0 = dktX10_cures_0 := by decide +kernel
theorem dksX10_cures_1 : cX10_cures.data.toList.drop 24 = dktX10_cures_1 := dk_seg dksX10_cures_0 24 rfl rfl
theorem dX10_cures_0 : decode cX10_cures 0 = .ok (.aload_n 0, 1) := dk_42 (dk_at dksX10_cures_0 0 rfl rfl)
theorem dX10_cures_1 : decode cX10_cures 1 = .ok (.iload_n 1, 1) := dk_27 (dk_at dksX10_cures_0 1 rfl rfl)
theorem dX10_cures_2 : decode cX10_cures 2 = .ok (.iload_n 2, 1) := dk_28 (dk_at dksX10_cures_0 2 rfl rfl)
theorem dX10_cures_3 : decode cX10_cures 3 = .ok (.invokevirtual 118, 3) := dk_182 0 118 (dk_at dksX10_cures_0 3 rfl rfl)
theorem dX10_cures_6 : decode cX10_cures 6 = .ok (.ifCond .ne 5, 3) := dk_154 0 5 (dk_at dksX10_cures_0 6 rfl rfl)
theorem dX10_cures_9 : decode cX10_cures 9 = .ok (.iconst 0, 1) := dk_3 (dk_at dksX10_cures_0 9 rfl rfl)
theorem dX10_cures_10 : decode cX10_cures 10 = .ok (.ireturn, 1) := dk_172 (dk_at dksX10_cures_0 10 rfl rfl)
theorem dX10_cures_11 : decode cX10_cures 11 = .ok (.aload_n 0, 1) := dk_42 (dk_at dksX10_cures_0 11 rfl rfl)
theorem dX10_cures_12 : decode cX10_cures 12 = .ok (.getfield 22, 3) := dk_180 0 22 (dk_at dksX10_cures_0 12 rfl rfl)
theorem dX10_cures_15 : decode cX10_cures 15 = .ok (.iload_n 2, 1) := dk_28 (dk_at dksX10_cures_0 15 rfl rfl)
theorem dX10_cures_16 : decode cX10_cures 16 = .ok (.iload_n 1, 1) := dk_27 (dk_at dksX10_cures_0 16 rfl rfl)
theorem dX10_cures_17 : decode cX10_cures 17 = .ok (.iastore, 1) := dk_79 (dk_at dksX10_cures_0 17 rfl rfl)
theorem dX10_cures_18 : decode cX10_cures 18 = .ok (.aload_n 0, 1) := dk_42 (dk_at dksX10_cures_0 18 rfl rfl)
theorem dX10_cures_19 : decode cX10_cures 19 = .ok (.dup, 1) := dk_89 (dk_at dksX10_cures_0 19 rfl rfl)
theorem dX10_cures_20 : decode cX10_cures 20 = .ok (.getfield 38, 3) := dk_180 0 38 (dk_at dksX10_cures_0 20 rfl rfl)
theorem dX10_cures_23 : decode cX10_cures 23 = .ok (.iconst 1, 1) := dk_4 (dk_at dksX10_cures_0 23 rfl rfl)
theorem dX10_cures_24 : decode cX10_cures 24 = .ok (.iload_n 1, 1) := dk_27 (dk_at dksX10_cures_1 0 rfl rfl)
theorem dX10_cures_25 : decode cX10_cures 25 = .ok (.ishl, 1) := dk_120 (dk_at dksX10_cures_1 1 rfl rfl)
theorem dX10_cures_26 : decode cX10_cures 26 = .ok (.ior, 1) := dk_128 (dk_at dksX10_cures_1 2 rfl rfl)
theorem dX10_cures_27 : decode cX10_cures 27 = .ok (.putfield 38, 3) := dk_181 0 38 (dk_at dksX10_cures_1 3 rfl rfl)
theorem dX10_cures_30 : decode cX10_cures 30 = .ok (.iconst 1, 1) := dk_4 (dk_at dksX10_cures_1 6 rfl rfl)
theorem dX10_cures_31 : decode cX10_cures 31 = .ok (.ireturn, 1) := dk_172 (dk_at dksX10_cures_1 7 rfl rfl)
def dkwX10_dies_2 : List UInt8 := [180, 0, 64, 27, 160, 0, 10, 42, 180, 0, 15, 28, 2, 79, 132, 2, 1, 167, 255, 220, 4, 172]
abbrev dktX10_dies_2 : List UInt8 := dkwX10_dies_2 ++ []
def dkwX10_dies_1 : List UInt8 := [181, 0, 35, 3, 61, 28, 42, 180, 0, 3, 182, 0, 50, 162, 0, 31, 42, 180, 0, 3, 28, 182, 0, 60]
abbrev dktX10_dies_1 : List UInt8 := dkwX10_dies_1 ++ dktX10_dies_2
def dkwX10_dies_0 : List UInt8 := [42, 180, 0, 35, 27, 184, 0, 107, 154, 0, 5, 3, 172, 42, 89, 180, 0, 35, 4, 27, 120, 2, 130, 126]
abbrev dktX10_dies_0 : List UInt8 := dkwX10_dies_0 ++ dktX10_dies_1
theorem dksX10_dies_0 : cX10_dies.data.toList.drop 0 = dktX10_dies_0 := by decide +kernel
theorem dksX10_dies_1 : cX10_dies.data.toList.drop 24 = dktX10_dies_1 := dk_seg dksX10_dies_0 24 rfl rfl
theorem dksX10_dies_2 : cX10_dies.data.toList.drop 48 = dktX10_dies_2 := dk_seg dksX10_dies_1 24 rfl rfl
theorem dX10_dies_0 : decode cX10_dies 0 = .ok (.aload_n 0, 1) := dk_42 (dk_at dksX10_dies_0 0 rfl rfl)
theorem dX10_dies_1 : decode cX10_dies 1 = .ok (.getfield 35, 3) := dk_180 0 35 (dk_at dksX10_dies_0 1 rfl rfl)
theorem dX10_dies_4 : decode cX10_dies 4 = .ok (.iload_n 1, 1) := dk_27 (dk_at dksX10_dies_0 4 rfl rfl)
theorem dX10_dies_5 : decode cX10_dies 5 = .ok (.invokestatic 107, 3) := dk_184 0 107 (dk_at dksX10_dies_0 5 rfl rfl)
theorem dX10_dies_8 : decode cX10_dies 8 = .ok (.ifCond .ne 5, 3) := dk_154 0 5 (dk_at dksX10_dies_0 8 rfl rfl)
theorem dX10_dies_11 : decode cX10_dies 11 = .ok (.iconst 0, 1) := dk_3 (dk_at dksX10_dies_0 11 rfl rfl)
theorem dX10_dies_12 : decode cX10_dies 12 = .ok (.ireturn, 1) := dk_172 (dk_at dksX10_dies_0 12 rfl rfl)
theorem dX10_dies_13 : decode cX10_dies 13 = .ok (.aload_n 0, 1) := dk_42 (dk_at dksX10_dies_0 13 rfl rfl)
theorem dX10_dies_14 : decode cX10_dies 14 = .ok (.dup, 1) := dk_89 (dk_at dksX10_dies_0 14 rfl rfl)
theorem dX10_dies_15 : decode cX10_dies 15 = .ok (.getfield 35, 3) := dk_180 0 35 (dk_at dksX10_dies_0 15 rfl rfl)
theorem dX10_dies_18 : decode cX10_dies 18 = .ok (.iconst 1, 1) := dk_4 (dk_at dksX10_dies_0 18 rfl rfl)
theorem dX10_dies_19 : decode cX10_dies 19 = .ok (.iload_n 1, 1) := dk_27 (dk_at dksX10_dies_0 19 rfl rfl)
theorem dX10_dies_20 : decode cX10_dies 20 = .ok (.ishl, 1) := dk_120 (dk_at dksX10_dies_0 20 rfl rfl)
theorem dX10_dies_21 : decode cX10_dies 21 = .ok (.iconst (-1), 1) := dk_2 (dk_at dksX10_dies_0 21 rfl rfl)
theorem dX10_dies_22 : decode cX10_dies 22 = .ok (.ixor, 1) := dk_130 (dk_at dksX10_dies_0 22 rfl rfl)
theorem dX10_dies_23 : decode cX10_dies 23 = .ok (.iand, 1) := dk_126 (dk_at dksX10_dies_0 23 rfl rfl)
theorem dX10_dies_24 : decode cX10_dies 24 = .ok (.putfield 35, 3) := dk_181 0 35 (dk_at dksX10_dies_1 0 rfl rfl)
theorem dX10_dies_27 : decode cX10_dies 27 = .ok (.iconst 0, 1) := dk_3 (dk_at dksX10_dies_1 3 rfl rfl)
theorem dX10_dies_28 : decode cX10_dies 28 = .ok (.istore_n 2, 1) := dk_61 (dk_at dksX10_dies_1 4 rfl rfl)
theorem dX10_dies_29 : decode cX10_dies 29 = .ok (.iload_n 2, 1) := dk_28 (dk_at dksX10_dies_1 5 rfl rfl)
theorem dX10_dies_30 : decode cX10_dies 30 = .ok (.aload_n 0, 1) := dk_42 (dk_at dksX10_dies_1 6 rfl rfl)
theorem dX10_dies_31 : decode cX10_dies 31 = .ok (.getfield 3, 3) := dk_180 0 3 (dk_at dksX10_dies_1 7 rfl rfl)
theorem dX10_dies_34 : decode cX10_dies 34 = .ok (.invokevirtual 50, 3) := dk_182 0 50 (dk_at dksX10_dies_1 10 rfl rfl)
theorem dX10_dies_37 : decode cX10_dies 37 = .ok (.if_icmp .ge 31, 3) := dk_162 0 31 (dk_at dksX10_dies_1 13 rfl rfl)
theorem dX10_dies_40 : decode cX10_dies 40 = .ok (.aload_n 0, 1) := dk_42 (dk_at dksX10_dies_1 16 rfl rfl)
theorem dX10_dies_41 : decode cX10_dies 41 = .ok (.getfield 3, 3) := dk_180 0 3 (dk_at dksX10_dies_1 17 rfl rfl)
theorem dX10_dies_44 : decode cX10_dies 44 = .ok (.iload_n 2, 1) := dk_28 (dk_at dksX10_dies_1 20 rfl rfl)
theorem dX10_dies_45 : decode cX10_dies 45 = .ok (.invokevirtual 60, 3) := dk_182 0 60 (dk_at dksX10_dies_1 21 rfl rfl)
theorem dX10_dies_48 : decode cX10_dies 48 = .ok (.getfield 64, 3) := dk_180 0 64 (dk_at dksX10_dies_2 0 rfl rfl)
theorem dX10_dies_51 : decode cX10_dies 51 = .ok (.iload_n 1, 1) := dk_27 (dk_at dksX10_dies_2 3 rfl rfl)
theorem dX10_dies_52 : decode cX10_dies 52 = .ok (.if_icmp .ne 10, 3) := dk_160 0 10 (dk_at dksX10_dies_2 4 rfl rfl)
theorem dX10_dies_55 : decode cX10_dies 55 = .ok (.aload_n 0, 1) := dk_42 (dk_at dksX10_dies_2 7 rfl rfl)
theorem dX10_dies_56 : decode cX10_dies 56 = .ok (.getfield 15, 3) := dk_180 0 15 (dk_at dksX10_dies_2 8 rfl rfl)
theorem dX10_dies_59 : decode cX10_dies 59 = .ok (.iload_n 2, 1) := dk_28 (dk_at dksX10_dies_2 11 rfl rfl)
theorem dX10_dies_60 : decode cX10_dies 60 = .ok (.iconst (-1), 1) := dk_2 (dk_at dksX10_dies_2 12 rfl rfl)
theorem dX10_dies_61 : decode cX10_dies 61 = .ok (.iastore, 1) := dk_79 (dk_at dksX10_dies_2 13 rfl rfl)
theorem dX10_dies_62 : decode cX10_dies 62 = .ok (.iinc 2 1, 3) := dk_132 2 1 (dk_at dksX10_dies_2 14 rfl rfl)
theorem dX10_dies_65 : decode cX10_dies 65 = .ok (.goto (-36), 3) := dk_167 255 220 (dk_at dksX10_dies_2 17 rfl rfl)
theorem dX10_dies_68 : decode cX10_dies 68 = .ok (.iconst 1, 1) := dk_4 (dk_at dksX10_dies_2 20 rfl rfl)
theorem dX10_dies_69 : decode cX10_dies 69 = .ok (.ireturn, 1) := dk_172 (dk_at dksX10_dies_2 21 rfl rfl)
def dkwX10_gives_1 : List UInt8 := [180, 0, 64, 184, 0, 107, 154, 0, 5, 3, 172, 42, 180, 0, 15, 27, 3, 79, 4, 172]
abbrev dktX10_gives_1 : List UInt8 := dkwX10_gives_1 ++ []
def dkwX10_gives_0 : List UInt8 := [42, 180, 0, 15, 27, 46, 2, 160, 0, 24, 42, 180, 0, 35, 42, 180, 0, 3, 27, 182, 0, 60]
abbrev dktX10_gives_0 : List UInt8 := dkwX10_gives_0 ++ dktX10_gives_1
theorem dksX10_gives_0 : cX10_gives.data.toList.drop 0 = dktX10_gives_0 := by decide +kernel
theorem dksX10_gives_1 : cX10_gives.data.toList.drop 22 = dktX10_gives_1 := dk_seg dksX10_gives_0 22 rfl rfl
theorem dX10_gives_0 : decode cX10_gives 0 = .ok (.aload_n 0, 1) := dk_42 (dk_at dksX10_gives_0 0 rfl rfl)
theorem dX10_gives_1 : decode cX10_gives 1 = .ok (.getfield 15, 3) := dk_180 0 15 (dk_at dksX10_gives_0 1 rfl rfl)
theorem dX10_gives_4 : decode cX10_gives 4 = .ok (.iload_n 1, 1) := dk_27 (dk_at dksX10_gives_0 4 rfl rfl)
theorem dX10_gives_5 : decode cX10_gives 5 = .ok (.iaload, 1) := dk_46 (dk_at dksX10_gives_0 5 rfl rfl)
theorem dX10_gives_6 : decode cX10_gives 6 = .ok (.iconst (-1), 1) := dk_2 (dk_at dksX10_gives_0 6 rfl rfl)
theorem dX10_gives_7 : decode cX10_gives 7 = .ok (.if_icmp .ne 24, 3) := dk_160 0 24 (dk_at dksX10_gives_0 7 rfl rfl)
theorem dX10_gives_10 : decode cX10_gives 10 = .ok (.aload_n 0, 1) := dk_42 (dk_at dksX10_gives_0 10 rfl rfl)
theorem dX10_gives_11 : decode cX10_gives 11 = .ok (.getfield 35, 3) := dk_180 0 35 (dk_at dksX10_gives_0 11 rfl rfl)
theorem dX10_gives_14 : decode cX10_gives 14 = .ok (.aload_n 0, 1) := dk_42 (dk_at dksX10_gives_0 14 rfl rfl)
theorem dX10_gives_15 : decode cX10_gives 15 = .ok (.getfield 3, 3) := dk_180 0 3 (dk_at dksX10_gives_0 15 rfl rfl)
theorem dX10_gives_18 : decode cX10_gives 18 = .ok (.iload_n 1, 1) := dk_27 (dk_at dksX10_gives_0 18 rfl rfl)
theorem dX10_gives_19 : decode cX10_gives 19 = .ok (.invokevirtual 60, 3) := dk_182 0 60 (dk_at dksX10_gives_0 19 rfl rfl)
theorem dX10_gives_22 : decode cX10_gives 22 = .ok (.getfield 64, 3) := dk_180 0 64 (dk_at dksX10_gives_1 0 rfl rfl)
theorem dX10_gives_25 : decode cX10_gives 25 = .ok (.invokestatic 107, 3) := dk_184 0 107 (dk_at dksX10_gives_1 3 rfl rfl)
theorem dX10_gives_28 : decode cX10_gives 28 = .ok (.ifCond .ne 5, 3) := dk_154 0 5 (dk_at dksX10_gives_1 6 rfl rfl)
theorem dX10_gives_31 : decode cX10_gives 31 = .ok (.iconst 0, 1) := dk_3 (dk_at dksX10_gives_1 9 rfl rfl)
theorem dX10_gives_32 : decode cX10_gives 32 = .ok (.ireturn, 1) := dk_172 (dk_at dksX10_gives_1 10 rfl rfl)
theorem dX10_gives_33 : decode cX10_gives 33 = .ok (.aload_n 0, 1) := dk_42 (dk_at dksX10_gives_1 11 rfl rfl)
theorem dX10_gives_34 : decode cX10_gives 34 = .ok (.getfield 15, 3) := dk_180 0 15 (dk_at dksX10_gives_1 12 rfl rfl)
theorem dX10_gives_37 : decode cX10_gives 37 = .ok (.iload_n 1, 1) := dk_27 (dk_at dksX10_gives_1 15 rfl rfl)
theorem dX10_gives_38 : decode cX10_gives 38 = .ok (.iconst 0, 1) := dk_3 (dk_at dksX10_gives_1 16 rfl rfl)
theorem dX10_gives_39 : decode cX10_gives 39 = .ok (.iastore, 1) := dk_79 (dk_at dksX10_gives_1 17 rfl rfl)
theorem dX10_gives_40 : decode cX10_gives 40 = .ok (.iconst 1, 1) := dk_4 (dk_at dksX10_gives_1 18 rfl rfl)
theorem dX10_gives_41 : decode cX10_gives 41 = .ok (.ireturn, 1) := dk_172 (dk_at dksX10_gives_1 19 rfl rfl)
def dkwX10_lapses_3 : List UInt8 := [167, 255, 207, 4, 172]
abbrev dktX10_lapses_3 : List UInt8 := dkwX10_lapses_3 ++ []
def dkwX10_lapses_2 : List UInt8 := [42, 180, 0, 15, 28, 46, 2, 159, 0, 13, 42, 180, 0, 15, 28, 92, 46, 5, 108, 79, 132, 2, 1]
abbrev dktX10_lapses_2 : List UInt8 := dkwX10_lapses_2 ++ dktX10_lapses_3
def dkwX10_lapses_1 : List UInt8 := [180, 0, 3, 182, 0, 50, 162, 0, 44, 42, 180, 0, 3, 28, 182, 0, 60, 180, 0, 64, 27, 160, 0, 23]
abbrev dktX10_lapses_1 : List UInt8 := dkwX10_lapses_1 ++ dktX10_lapses_2
def dkwX10_lapses_0 : List UInt8 := [42, 27, 182, 0, 114, 154, 0, 5, 3, 172, 42, 180, 0, 19, 27, 92, 46, 4, 96, 79, 3, 61, 28, 42]
abbrev dktX10_lapses_0 : List UInt8 := dkwX10_lapses_0 ++ dktX10_lapses_1
theorem dksX10_lapses_0 : cX10_lapses.data.toList.drop 0 = dktX10_lapses_0 := by decide +kernel
theorem dksX10_lapses_1 : cX10_lapses.data.toList.drop 24 = dktX10_lapses_1 := dk_seg dksX10_lapses_0 24 rfl rfl
theorem dksX10_lapses_2 : cX10_lapses.data.toList.drop 48 = dktX10_lapses_2 := dk_seg dksX10_lapses_1 24 rfl rfl
theorem dksX10_lapses_3 : cX10_lapses.data.toList.drop 71 = dktX10_lapses_3 := dk_seg dksX10_lapses_2 23 rfl rfl
theorem dX10_lapses_0 : decode cX10_lapses 0 = .ok (.aload_n 0, 1) := dk_42 (dk_at dksX10_lapses_0 0 rfl rfl)
theorem dX10_lapses_1 : decode cX10_lapses 1 = .ok (.iload_n 1, 1) := dk_27 (dk_at dksX10_lapses_0 1 rfl rfl)
theorem dX10_lapses_2 : decode cX10_lapses 2 = .ok (.invokevirtual 114, 3) := dk_182 0 114 (dk_at dksX10_lapses_0 2 rfl rfl)
theorem dX10_lapses_5 : decode cX10_lapses 5 = .ok (.ifCond .ne 5, 3) := dk_154 0 5 (dk_at dksX10_lapses_0 5 rfl rfl)
theorem dX10_lapses_8 : decode cX10_lapses 8 = .ok (.iconst 0, 1) := dk_3 (dk_at dksX10_lapses_0 8 rfl rfl)
theorem dX10_lapses_9 : decode cX10_lapses 9 = .ok (.ireturn, 1) := dk_172 (dk_at dksX10_lapses_0 9 rfl rfl)
theorem dX10_lapses_10 : decode cX10_lapses 10 = .ok (.aload_n 0, 1) := dk_42 (dk_at dksX10_lapses_0 10 rfl rfl)
theorem dX10_lapses_11 : decode cX10_lapses 11 = .ok (.getfield 19, 3) := dk_180 0 19 (dk_at dksX10_lapses_0 11 rfl rfl)
theorem dX10_lapses_14 : decode cX10_lapses 14 = .ok (.iload_n 1, 1) := dk_27 (dk_at dksX10_lapses_0 14 rfl rfl)
theorem dX10_lapses_15 : decode cX10_lapses 15 = .ok (.dup2, 1) := dk_92 (dk_at dksX10_lapses_0 15 rfl rfl)
theorem dX10_lapses_16 : decode cX10_lapses 16 = .ok (.iaload, 1) := dk_46 (dk_at dksX10_lapses_0 16 rfl rfl)
theorem dX10_lapses_17 : decode cX10_lapses 17 = .ok (.iconst 1, 1) := dk_4 (dk_at dksX10_lapses_0 17 rfl rfl)
theorem dX10_lapses_18 : decode cX10_lapses 18 = .ok (.iadd, 1) := dk_96 (dk_at dksX10_lapses_0 18 rfl rfl)
theorem dX10_lapses_19 : decode cX10_lapses 19 = .ok (.iastore, 1) := dk_79 (dk_at dksX10_lapses_0 19 rfl rfl)
theorem dX10_lapses_20 : decode cX10_lapses 20 = .ok (.iconst 0, 1) := dk_3 (dk_at dksX10_lapses_0 20 rfl rfl)
theorem dX10_lapses_21 : decode cX10_lapses 21 = .ok (.istore_n 2, 1) := dk_61 (dk_at dksX10_lapses_0 21 rfl rfl)
theorem dX10_lapses_22 : decode cX10_lapses 22 = .ok (.iload_n 2, 1) := dk_28 (dk_at dksX10_lapses_0 22 rfl rfl)
theorem dX10_lapses_23 : decode cX10_lapses 23 = .ok (.aload_n 0, 1) := dk_42 (dk_at dksX10_lapses_0 23 rfl rfl)
theorem dX10_lapses_24 : decode cX10_lapses 24 = .ok (.getfield 3, 3) := dk_180 0 3 (dk_at dksX10_lapses_1 0 rfl rfl)
theorem dX10_lapses_27 : decode cX10_lapses 27 = .ok (.invokevirtual 50, 3) := dk_182 0 50 (dk_at dksX10_lapses_1 3 rfl rfl)
theorem dX10_lapses_30 : decode cX10_lapses 30 = .ok (.if_icmp .ge 44, 3) := dk_162 0 44 (dk_at dksX10_lapses_1 6 rfl rfl)
theorem dX10_lapses_33 : decode cX10_lapses 33 = .ok (.aload_n 0, 1) := dk_42 (dk_at dksX10_lapses_1 9 rfl rfl)
theorem dX10_lapses_34 : decode cX10_lapses 34 = .ok (.getfield 3, 3) := dk_180 0 3 (dk_at dksX10_lapses_1 10 rfl rfl)
theorem dX10_lapses_37 : decode cX10_lapses 37 = .ok (.iload_n 2, 1) := dk_28 (dk_at dksX10_lapses_1 13 rfl rfl)
theorem dX10_lapses_38 : decode cX10_lapses 38 = .ok (.invokevirtual 60, 3) := dk_182 0 60 (dk_at dksX10_lapses_1 14 rfl rfl)
theorem dX10_lapses_41 : decode cX10_lapses 41 = .ok (.getfield 64, 3) := dk_180 0 64 (dk_at dksX10_lapses_1 17 rfl rfl)
theorem dX10_lapses_44 : decode cX10_lapses 44 = .ok (.iload_n 1, 1) := dk_27 (dk_at dksX10_lapses_1 20 rfl rfl)
theorem dX10_lapses_45 : decode cX10_lapses 45 = .ok (.if_icmp .ne 23, 3) := dk_160 0 23 (dk_at dksX10_lapses_1 21 rfl rfl)
theorem dX10_lapses_48 : decode cX10_lapses 48 = .ok (.aload_n 0, 1) := dk_42 (dk_at dksX10_lapses_2 0 rfl rfl)
theorem dX10_lapses_49 : decode cX10_lapses 49 = .ok (.getfield 15, 3) := dk_180 0 15 (dk_at dksX10_lapses_2 1 rfl rfl)
theorem dX10_lapses_52 : decode cX10_lapses 52 = .ok (.iload_n 2, 1) := dk_28 (dk_at dksX10_lapses_2 4 rfl rfl)
theorem dX10_lapses_53 : decode cX10_lapses 53 = .ok (.iaload, 1) := dk_46 (dk_at dksX10_lapses_2 5 rfl rfl)
theorem dX10_lapses_54 : decode cX10_lapses 54 = .ok (.iconst (-1), 1) := dk_2 (dk_at dksX10_lapses_2 6 rfl rfl)
theorem dX10_lapses_55 : decode cX10_lapses 55 = .ok (.if_icmp .eq 13, 3) := dk_159 0 13 (dk_at dksX10_lapses_2 7 rfl rfl)
theorem dX10_lapses_58 : decode cX10_lapses 58 = .ok (.aload_n 0, 1) := dk_42 (dk_at dksX10_lapses_2 10 rfl rfl)
theorem dX10_lapses_59 : decode cX10_lapses 59 = .ok (.getfield 15, 3) := dk_180 0 15 (dk_at dksX10_lapses_2 11 rfl rfl)
theorem dX10_lapses_62 : decode cX10_lapses 62 = .ok (.iload_n 2, 1) := dk_28 (dk_at dksX10_lapses_2 14 rfl rfl)
theorem dX10_lapses_63 : decode cX10_lapses 63 = .ok (.dup2, 1) := dk_92 (dk_at dksX10_lapses_2 15 rfl rfl)
theorem dX10_lapses_64 : decode cX10_lapses 64 = .ok (.iaload, 1) := dk_46 (dk_at dksX10_lapses_2 16 rfl rfl)
theorem dX10_lapses_65 : decode cX10_lapses 65 = .ok (.iconst 2, 1) := dk_5 (dk_at dksX10_lapses_2 17 rfl rfl)
theorem dX10_lapses_66 : decode cX10_lapses 66 = .ok (.idiv, 1) := dk_108 (dk_at dksX10_lapses_2 18 rfl rfl)
theorem dX10_lapses_67 : decode cX10_lapses 67 = .ok (.iastore, 1) := dk_79 (dk_at dksX10_lapses_2 19 rfl rfl)
theorem dX10_lapses_68 : decode cX10_lapses 68 = .ok (.iinc 2 1, 3) := dk_132 2 1 (dk_at dksX10_lapses_2 20 rfl rfl)
theorem dX10_lapses_71 : decode cX10_lapses 71 = .ok (.goto (-49), 3) := dk_167 255 207 (dk_at dksX10_lapses_3 0 rfl rfl)
theorem dX10_lapses_74 : decode cX10_lapses 74 = .ok (.iconst 1, 1) := dk_4 (dk_at dksX10_lapses_3 3 rfl rfl)
theorem dX10_lapses_75 : decode cX10_lapses 75 = .ok (.ireturn, 1) := dk_172 (dk_at dksX10_lapses_3 4 rfl rfl)
def dkwX10_day_0 : List UInt8 := [42, 180, 0, 41, 17, 1, 244, 160, 0, 5, 3, 172, 42, 182, 0, 121, 4, 172]
abbrev dktX10_day_0 : List UInt8 := dkwX10_day_0 ++ []
theorem dksX10_day_0 : cX10_day.data.toList.drop 0 = dktX10_day_0 := by decide +kernel
theorem dX10_day_0 : decode cX10_day 0 = .ok (.aload_n 0, 1) := dk_42 (dk_at dksX10_day_0 0 rfl rfl)
theorem dX10_day_1 : decode cX10_day 1 = .ok (.getfield 41, 3) := dk_180 0 41 (dk_at dksX10_day_0 1 rfl rfl)
theorem dX10_day_4 : decode cX10_day 4 = .ok (.sipush 500, 3) := dk_17 1 244 (dk_at dksX10_day_0 4 rfl rfl)
theorem dX10_day_7 : decode cX10_day 7 = .ok (.if_icmp .ne 5, 3) := dk_160 0 5 (dk_at dksX10_day_0 7 rfl rfl)
theorem dX10_day_10 : decode cX10_day 10 = .ok (.iconst 0, 1) := dk_3 (dk_at dksX10_day_0 10 rfl rfl)
theorem dX10_day_11 : decode cX10_day 11 = .ok (.ireturn, 1) := dk_172 (dk_at dksX10_day_0 11 rfl rfl)
theorem dX10_day_12 : decode cX10_day 12 = .ok (.aload_n 0, 1) := dk_42 (dk_at dksX10_day_0 12 rfl rfl)
theorem dX10_day_13 : decode cX10_day 13 = .ok (.invokevirtual 121, 3) := dk_182 0 121 (dk_at dksX10_day_0 13 rfl rfl)
theorem dX10_day_16 : decode cX10_day 16 = .ok (.iconst 1, 1) := dk_4 (dk_at dksX10_day_0 16 rfl rfl)
theorem dX10_day_17 : decode cX10_day 17 = .ok (.ireturn, 1) := dk_172 (dk_at dksX10_day_0 17 rfl rfl)
def dkwX10_passes_2 : List UInt8 := [42, 89, 180, 0, 41, 4, 96, 181, 0, 41, 177]
abbrev dktX10_passes_2 : List UInt8 := dkwX10_passes_2 ++ []
def dkwX10_passes_1 : List UInt8 := [27, 46, 2, 160, 0, 7, 3, 167, 0, 4, 4, 96, 79, 132, 1, 1, 167, 255, 218, 42, 3, 181, 0, 38]
abbrev dktX10_passes_1 : List UInt8 := dkwX10_passes_1 ++ dktX10_passes_2
def dkwX10_passes_0 : List UInt8 := [3, 60, 27, 42, 180, 0, 3, 182, 0, 50, 162, 0, 33, 42, 180, 0, 15, 27, 92, 46, 42, 180, 0, 15]
abbrev dktX10_passes_0 : List UInt8 := dkwX10_passes_0 ++ dktX10_passes_1
theorem dksX10_passes_0 : cX10_passes.data.toList.drop 0 = dktX10_passes_0 := by decide +kernel
theorem dksX10_passes_1 : cX10_passes.data.toList.drop 24 = dktX10_passes_1 := dk_seg dksX10_passes_0 24 rfl rfl
theorem dksX10_passes_2 : cX10_passes.data.toList.drop 48 = dktX10_passes_2 := dk_seg dksX10_passes_1 24 rfl rfl
theorem dX10_passes_0 : decode cX10_passes 0 = .ok (.iconst 0, 1) := dk_3 (dk_at dksX10_passes_0 0 rfl rfl)
theorem dX10_passes_1 : decode cX10_passes 1 = .ok (.istore_n 1, 1) := dk_60 (dk_at dksX10_passes_0 1 rfl rfl)
theorem dX10_passes_2 : decode cX10_passes 2 = .ok (.iload_n 1, 1) := dk_27 (dk_at dksX10_passes_0 2 rfl rfl)
theorem dX10_passes_3 : decode cX10_passes 3 = .ok (.aload_n 0, 1) := dk_42 (dk_at dksX10_passes_0 3 rfl rfl)
theorem dX10_passes_4 : decode cX10_passes 4 = .ok (.getfield 3, 3) := dk_180 0 3 (dk_at dksX10_passes_0 4 rfl rfl)
theorem dX10_passes_7 : decode cX10_passes 7 = .ok (.invokevirtual 50, 3) := dk_182 0 50 (dk_at dksX10_passes_0 7 rfl rfl)
theorem dX10_passes_10 : decode cX10_passes 10 = .ok (.if_icmp .ge 33, 3) := dk_162 0 33 (dk_at dksX10_passes_0 10 rfl rfl)
theorem dX10_passes_13 : decode cX10_passes 13 = .ok (.aload_n 0, 1) := dk_42 (dk_at dksX10_passes_0 13 rfl rfl)
theorem dX10_passes_14 : decode cX10_passes 14 = .ok (.getfield 15, 3) := dk_180 0 15 (dk_at dksX10_passes_0 14 rfl rfl)
theorem dX10_passes_17 : decode cX10_passes 17 = .ok (.iload_n 1, 1) := dk_27 (dk_at dksX10_passes_0 17 rfl rfl)
theorem dX10_passes_18 : decode cX10_passes 18 = .ok (.dup2, 1) := dk_92 (dk_at dksX10_passes_0 18 rfl rfl)
theorem dX10_passes_19 : decode cX10_passes 19 = .ok (.iaload, 1) := dk_46 (dk_at dksX10_passes_0 19 rfl rfl)
theorem dX10_passes_20 : decode cX10_passes 20 = .ok (.aload_n 0, 1) := dk_42 (dk_at dksX10_passes_0 20 rfl rfl)
theorem dX10_passes_21 : decode cX10_passes 21 = .ok (.getfield 15, 3) := dk_180 0 15 (dk_at dksX10_passes_0 21 rfl rfl)
theorem dX10_passes_24 : decode cX10_passes 24 = .ok (.iload_n 1, 1) := dk_27 (dk_at dksX10_passes_1 0 rfl rfl)
theorem dX10_passes_25 : decode cX10_passes 25 = .ok (.iaload, 1) := dk_46 (dk_at dksX10_passes_1 1 rfl rfl)
theorem dX10_passes_26 : decode cX10_passes 26 = .ok (.iconst (-1), 1) := dk_2 (dk_at dksX10_passes_1 2 rfl rfl)
theorem dX10_passes_27 : decode cX10_passes 27 = .ok (.if_icmp .ne 7, 3) := dk_160 0 7 (dk_at dksX10_passes_1 3 rfl rfl)
theorem dX10_passes_30 : decode cX10_passes 30 = .ok (.iconst 0, 1) := dk_3 (dk_at dksX10_passes_1 6 rfl rfl)
theorem dX10_passes_31 : decode cX10_passes 31 = .ok (.goto 4, 3) := dk_167 0 4 (dk_at dksX10_passes_1 7 rfl rfl)
theorem dX10_passes_34 : decode cX10_passes 34 = .ok (.iconst 1, 1) := dk_4 (dk_at dksX10_passes_1 10 rfl rfl)
theorem dX10_passes_35 : decode cX10_passes 35 = .ok (.iadd, 1) := dk_96 (dk_at dksX10_passes_1 11 rfl rfl)
theorem dX10_passes_36 : decode cX10_passes 36 = .ok (.iastore, 1) := dk_79 (dk_at dksX10_passes_1 12 rfl rfl)
theorem dX10_passes_37 : decode cX10_passes 37 = .ok (.iinc 1 1, 3) := dk_132 1 1 (dk_at dksX10_passes_1 13 rfl rfl)
theorem dX10_passes_40 : decode cX10_passes 40 = .ok (.goto (-38), 3) := dk_167 255 218 (dk_at dksX10_passes_1 16 rfl rfl)
theorem dX10_passes_43 : decode cX10_passes 43 = .ok (.aload_n 0, 1) := dk_42 (dk_at dksX10_passes_1 19 rfl rfl)
theorem dX10_passes_44 : decode cX10_passes 44 = .ok (.iconst 0, 1) := dk_3 (dk_at dksX10_passes_1 20 rfl rfl)
theorem dX10_passes_45 : decode cX10_passes 45 = .ok (.putfield 38, 3) := dk_181 0 38 (dk_at dksX10_passes_1 21 rfl rfl)
theorem dX10_passes_48 : decode cX10_passes 48 = .ok (.aload_n 0, 1) := dk_42 (dk_at dksX10_passes_2 0 rfl rfl)
theorem dX10_passes_49 : decode cX10_passes 49 = .ok (.dup, 1) := dk_89 (dk_at dksX10_passes_2 1 rfl rfl)
theorem dX10_passes_50 : decode cX10_passes 50 = .ok (.getfield 41, 3) := dk_180 0 41 (dk_at dksX10_passes_2 2 rfl rfl)
theorem dX10_passes_53 : decode cX10_passes 53 = .ok (.iconst 1, 1) := dk_4 (dk_at dksX10_passes_2 5 rfl rfl)
theorem dX10_passes_54 : decode cX10_passes 54 = .ok (.iadd, 1) := dk_96 (dk_at dksX10_passes_2 6 rfl rfl)
theorem dX10_passes_55 : decode cX10_passes 55 = .ok (.putfield 41, 3) := dk_181 0 41 (dk_at dksX10_passes_2 7 rfl rfl)
theorem dX10_passes_58 : decode cX10_passes 58 = .ok (.return_, 1) := dk_177 (dk_at dksX10_passes_2 10 rfl rfl)
def dkwX10_cured_1 : List UInt8 := [160, 0, 7, 3, 167, 0, 6, 4, 28, 120, 128, 60, 132, 2, 1, 167, 255, 222, 27, 172]
abbrev dktX10_cured_1 : List UInt8 := dkwX10_cured_1 ++ []
def dkwX10_cured_0 : List UInt8 := [3, 60, 3, 61, 28, 42, 180, 0, 3, 182, 0, 54, 162, 0, 29, 27, 42, 180, 0, 22, 28, 46, 2]
abbrev dktX10_cured_0 : List UInt8 := dkwX10_cured_0 ++ dktX10_cured_1
theorem dksX10_cured_0 : cX10_cured.data.toList.drop 0 = dktX10_cured_0 := by decide +kernel
theorem dksX10_cured_1 : cX10_cured.data.toList.drop 23 = dktX10_cured_1 := dk_seg dksX10_cured_0 23 rfl rfl
theorem dX10_cured_0 : decode cX10_cured 0 = .ok (.iconst 0, 1) := dk_3 (dk_at dksX10_cured_0 0 rfl rfl)
theorem dX10_cured_1 : decode cX10_cured 1 = .ok (.istore_n 1, 1) := dk_60 (dk_at dksX10_cured_0 1 rfl rfl)
theorem dX10_cured_2 : decode cX10_cured 2 = .ok (.iconst 0, 1) := dk_3 (dk_at dksX10_cured_0 2 rfl rfl)
theorem dX10_cured_3 : decode cX10_cured 3 = .ok (.istore_n 2, 1) := dk_61 (dk_at dksX10_cured_0 3 rfl rfl)
theorem dX10_cured_4 : decode cX10_cured 4 = .ok (.iload_n 2, 1) := dk_28 (dk_at dksX10_cured_0 4 rfl rfl)
theorem dX10_cured_5 : decode cX10_cured 5 = .ok (.aload_n 0, 1) := dk_42 (dk_at dksX10_cured_0 5 rfl rfl)
theorem dX10_cured_6 : decode cX10_cured 6 = .ok (.getfield 3, 3) := dk_180 0 3 (dk_at dksX10_cured_0 6 rfl rfl)
theorem dX10_cured_9 : decode cX10_cured 9 = .ok (.invokevirtual 54, 3) := dk_182 0 54 (dk_at dksX10_cured_0 9 rfl rfl)
theorem dX10_cured_12 : decode cX10_cured 12 = .ok (.if_icmp .ge 29, 3) := dk_162 0 29 (dk_at dksX10_cured_0 12 rfl rfl)
theorem dX10_cured_15 : decode cX10_cured 15 = .ok (.iload_n 1, 1) := dk_27 (dk_at dksX10_cured_0 15 rfl rfl)
theorem dX10_cured_16 : decode cX10_cured 16 = .ok (.aload_n 0, 1) := dk_42 (dk_at dksX10_cured_0 16 rfl rfl)
theorem dX10_cured_17 : decode cX10_cured 17 = .ok (.getfield 22, 3) := dk_180 0 22 (dk_at dksX10_cured_0 17 rfl rfl)
theorem dX10_cured_20 : decode cX10_cured 20 = .ok (.iload_n 2, 1) := dk_28 (dk_at dksX10_cured_0 20 rfl rfl)
theorem dX10_cured_21 : decode cX10_cured 21 = .ok (.iaload, 1) := dk_46 (dk_at dksX10_cured_0 21 rfl rfl)
theorem dX10_cured_22 : decode cX10_cured 22 = .ok (.iconst (-1), 1) := dk_2 (dk_at dksX10_cured_0 22 rfl rfl)
theorem dX10_cured_23 : decode cX10_cured 23 = .ok (.if_icmp .ne 7, 3) := dk_160 0 7 (dk_at dksX10_cured_1 0 rfl rfl)
theorem dX10_cured_26 : decode cX10_cured 26 = .ok (.iconst 0, 1) := dk_3 (dk_at dksX10_cured_1 3 rfl rfl)
theorem dX10_cured_27 : decode cX10_cured 27 = .ok (.goto 6, 3) := dk_167 0 6 (dk_at dksX10_cured_1 4 rfl rfl)
theorem dX10_cured_30 : decode cX10_cured 30 = .ok (.iconst 1, 1) := dk_4 (dk_at dksX10_cured_1 7 rfl rfl)
theorem dX10_cured_31 : decode cX10_cured 31 = .ok (.iload_n 2, 1) := dk_28 (dk_at dksX10_cured_1 8 rfl rfl)
theorem dX10_cured_32 : decode cX10_cured 32 = .ok (.ishl, 1) := dk_120 (dk_at dksX10_cured_1 9 rfl rfl)
theorem dX10_cured_33 : decode cX10_cured 33 = .ok (.ior, 1) := dk_128 (dk_at dksX10_cured_1 10 rfl rfl)
theorem dX10_cured_34 : decode cX10_cured 34 = .ok (.istore_n 1, 1) := dk_60 (dk_at dksX10_cured_1 11 rfl rfl)
theorem dX10_cured_35 : decode cX10_cured 35 = .ok (.iinc 2 1, 3) := dk_132 2 1 (dk_at dksX10_cured_1 12 rfl rfl)
theorem dX10_cured_38 : decode cX10_cured 38 = .ok (.goto (-34), 3) := dk_167 255 222 (dk_at dksX10_cured_1 15 rfl rfl)
theorem dX10_cured_41 : decode cX10_cured 41 = .ok (.iload_n 1, 1) := dk_27 (dk_at dksX10_cured_1 18 rfl rfl)
theorem dX10_cured_42 : decode cX10_cured 42 = .ok (.ireturn, 1) := dk_172 (dk_at dksX10_cured_1 19 rfl rfl)
def dkwX10_powerAll_1 : List UInt8 := [132, 2, 1, 167, 255, 234, 27, 172]
abbrev dktX10_powerAll_1 : List UInt8 := dkwX10_powerAll_1 ++ []
def dkwX10_powerAll_0 : List UInt8 := [3, 60, 3, 61, 28, 42, 180, 0, 3, 182, 0, 50, 162, 0, 17, 27, 42, 28, 182, 0, 94, 96, 60]
abbrev dktX10_powerAll_0 : List UInt8 := dkwX10_powerAll_0 ++ dktX10_powerAll_1
theorem dksX10_powerAll_0 : cX10_powerAll.data.toList.drop 0 = dktX10_powerAll_0 := by decide +kernel
theorem dksX10_powerAll_1 : cX10_powerAll.data.toList.drop 23 = dktX10_powerAll_1 := dk_seg dksX10_powerAll_0 23 rfl rfl
theorem dX10_powerAll_0 : decode cX10_powerAll 0 = .ok (.iconst 0, 1) := dk_3 (dk_at dksX10_powerAll_0 0 rfl rfl)
theorem dX10_powerAll_1 : decode cX10_powerAll 1 = .ok (.istore_n 1, 1) := dk_60 (dk_at dksX10_powerAll_0 1 rfl rfl)
theorem dX10_powerAll_2 : decode cX10_powerAll 2 = .ok (.iconst 0, 1) := dk_3 (dk_at dksX10_powerAll_0 2 rfl rfl)
theorem dX10_powerAll_3 : decode cX10_powerAll 3 = .ok (.istore_n 2, 1) := dk_61 (dk_at dksX10_powerAll_0 3 rfl rfl)
theorem dX10_powerAll_4 : decode cX10_powerAll 4 = .ok (.iload_n 2, 1) := dk_28 (dk_at dksX10_powerAll_0 4 rfl rfl)
theorem dX10_powerAll_5 : decode cX10_powerAll 5 = .ok (.aload_n 0, 1) := dk_42 (dk_at dksX10_powerAll_0 5 rfl rfl)
theorem dX10_powerAll_6 : decode cX10_powerAll 6 = .ok (.getfield 3, 3) := dk_180 0 3 (dk_at dksX10_powerAll_0 6 rfl rfl)
theorem dX10_powerAll_9 : decode cX10_powerAll 9 = .ok (.invokevirtual 50, 3) := dk_182 0 50 (dk_at dksX10_powerAll_0 9 rfl rfl)
theorem dX10_powerAll_12 : decode cX10_powerAll 12 = .ok (.if_icmp .ge 17, 3) := dk_162 0 17 (dk_at dksX10_powerAll_0 12 rfl rfl)
theorem dX10_powerAll_15 : decode cX10_powerAll 15 = .ok (.iload_n 1, 1) := dk_27 (dk_at dksX10_powerAll_0 15 rfl rfl)
theorem dX10_powerAll_16 : decode cX10_powerAll 16 = .ok (.aload_n 0, 1) := dk_42 (dk_at dksX10_powerAll_0 16 rfl rfl)
theorem dX10_powerAll_17 : decode cX10_powerAll 17 = .ok (.iload_n 2, 1) := dk_28 (dk_at dksX10_powerAll_0 17 rfl rfl)
theorem dX10_powerAll_18 : decode cX10_powerAll 18 = .ok (.invokevirtual 94, 3) := dk_182 0 94 (dk_at dksX10_powerAll_0 18 rfl rfl)
theorem dX10_powerAll_21 : decode cX10_powerAll 21 = .ok (.iadd, 1) := dk_96 (dk_at dksX10_powerAll_0 21 rfl rfl)
theorem dX10_powerAll_22 : decode cX10_powerAll 22 = .ok (.istore_n 1, 1) := dk_60 (dk_at dksX10_powerAll_0 22 rfl rfl)
theorem dX10_powerAll_23 : decode cX10_powerAll 23 = .ok (.iinc 2 1, 3) := dk_132 2 1 (dk_at dksX10_powerAll_1 0 rfl rfl)
theorem dX10_powerAll_26 : decode cX10_powerAll 26 = .ok (.goto (-22), 3) := dk_167 255 234 (dk_at dksX10_powerAll_1 3 rfl rfl)
theorem dX10_powerAll_29 : decode cX10_powerAll 29 = .ok (.iload_n 1, 1) := dk_27 (dk_at dksX10_powerAll_1 6 rfl rfl)
theorem dX10_powerAll_30 : decode cX10_powerAll 30 = .ok (.ireturn, 1) := dk_172 (dk_at dksX10_powerAll_1 7 rfl rfl)

set_option maxRecDepth 100000
def dkwX12_init_0 : List UInt8 := [42, 183, 0, 3, 42, 43, 181, 0, 9, 42, 28, 181, 0, 15, 177]
abbrev dktX12_init_0 : List UInt8 := dkwX12_init_0 ++ []
theorem dksX12_init_0 : cX12_init.data.toList.drop 0 = dktX12_init_0 := by decide +kernel
theorem dX12_init_0 : decode cX12_init 0 = .ok (.aload_n 0, 1) := dk_42 (dk_at dksX12_init_0 0 rfl rfl)
theorem dX12_init_1 : decode cX12_init 1 = .ok (.invokespecial 3, 3) := dk_183 0 3 (dk_at dksX12_init_0 1 rfl rfl)
theorem dX12_init_4 : decode cX12_init 4 = .ok (.aload_n 0, 1) := dk_42 (dk_at dksX12_init_0 4 rfl rfl)
theorem dX12_init_5 : decode cX12_init 5 = .ok (.aload_n 1, 1) := dk_43 (dk_at dksX12_init_0 5 rfl rfl)
theorem dX12_init_6 : decode cX12_init 6 = .ok (.putfield 9, 3) := dk_181 0 9 (dk_at dksX12_init_0 6 rfl rfl)
theorem dX12_init_9 : decode cX12_init 9 = .ok (.aload_n 0, 1) := dk_42 (dk_at dksX12_init_0 9 rfl rfl)
theorem dX12_init_10 : decode cX12_init 10 = .ok (.iload_n 2, 1) := dk_28 (dk_at dksX12_init_0 10 rfl rfl)
theorem dX12_init_11 : decode cX12_init 11 = .ok (.putfield 15, 3) := dk_181 0 15 (dk_at dksX12_init_0 11 rfl rfl)
theorem dX12_init_14 : decode cX12_init 14 = .ok (.return_, 1) := dk_177 (dk_at dksX12_init_0 14 rfl rfl)
def dkwX12_sign_2 : List UInt8 := [162, 0, 15, 42, 180, 0, 9, 42, 180, 0, 19, 51, 167, 0, 4, 3, 172]
abbrev dktX12_sign_2 : List UInt8 := dkwX12_sign_2 ++ []
def dkwX12_sign_1 : List UInt8 := [160, 0, 16, 42, 89, 180, 0, 19, 4, 96, 181, 0, 19, 167, 255, 221, 42, 180, 0, 19, 42, 180, 0, 15]
abbrev dktX12_sign_1 : List UInt8 := dkwX12_sign_1 ++ dktX12_sign_2
def dkwX12_sign_0 : List UInt8 := [42, 180, 0, 19, 42, 180, 0, 15, 162, 0, 30, 42, 180, 0, 9, 42, 180, 0, 19, 51, 16, 32]
abbrev dktX12_sign_0 : List UInt8 := dkwX12_sign_0 ++ dktX12_sign_1
theorem dksX12_sign_0 : cX12_sign.data.toList.drop 0 = dktX12_sign_0 := by decide +kernel
theorem dksX12_sign_1 : cX12_sign.data.toList.drop 22 = dktX12_sign_1 := dk_seg dksX12_sign_0 22 rfl rfl
theorem dksX12_sign_2 : cX12_sign.data.toList.drop 46 = dktX12_sign_2 := dk_seg dksX12_sign_1 24 rfl rfl
theorem dX12_sign_0 : decode cX12_sign 0 = .ok (.aload_n 0, 1) := dk_42 (dk_at dksX12_sign_0 0 rfl rfl)
theorem dX12_sign_1 : decode cX12_sign 1 = .ok (.getfield 19, 3) := dk_180 0 19 (dk_at dksX12_sign_0 1 rfl rfl)
theorem dX12_sign_4 : decode cX12_sign 4 = .ok (.aload_n 0, 1) := dk_42 (dk_at dksX12_sign_0 4 rfl rfl)
theorem dX12_sign_5 : decode cX12_sign 5 = .ok (.getfield 15, 3) := dk_180 0 15 (dk_at dksX12_sign_0 5 rfl rfl)
theorem dX12_sign_8 : decode cX12_sign 8 = .ok (.if_icmp .ge 30, 3) := dk_162 0 30 (dk_at dksX12_sign_0 8 rfl rfl)
theorem dX12_sign_11 : decode cX12_sign 11 = .ok (.aload_n 0, 1) := dk_42 (dk_at dksX12_sign_0 11 rfl rfl)
theorem dX12_sign_12 : decode cX12_sign 12 = .ok (.getfield 9, 3) := dk_180 0 9 (dk_at dksX12_sign_0 12 rfl rfl)
theorem dX12_sign_15 : decode cX12_sign 15 = .ok (.aload_n 0, 1) := dk_42 (dk_at dksX12_sign_0 15 rfl rfl)
theorem dX12_sign_16 : decode cX12_sign 16 = .ok (.getfield 19, 3) := dk_180 0 19 (dk_at dksX12_sign_0 16 rfl rfl)
theorem dX12_sign_19 : decode cX12_sign 19 = .ok (.baload, 1) := dk_51 (dk_at dksX12_sign_0 19 rfl rfl)
theorem dX12_sign_20 : decode cX12_sign 20 = .ok (.bipush 32, 2) := dk_16 32 (dk_at dksX12_sign_0 20 rfl rfl)
theorem dX12_sign_22 : decode cX12_sign 22 = .ok (.if_icmp .ne 16, 3) := dk_160 0 16 (dk_at dksX12_sign_1 0 rfl rfl)
theorem dX12_sign_25 : decode cX12_sign 25 = .ok (.aload_n 0, 1) := dk_42 (dk_at dksX12_sign_1 3 rfl rfl)
theorem dX12_sign_26 : decode cX12_sign 26 = .ok (.dup, 1) := dk_89 (dk_at dksX12_sign_1 4 rfl rfl)
theorem dX12_sign_27 : decode cX12_sign 27 = .ok (.getfield 19, 3) := dk_180 0 19 (dk_at dksX12_sign_1 5 rfl rfl)
theorem dX12_sign_30 : decode cX12_sign 30 = .ok (.iconst 1, 1) := dk_4 (dk_at dksX12_sign_1 8 rfl rfl)
theorem dX12_sign_31 : decode cX12_sign 31 = .ok (.iadd, 1) := dk_96 (dk_at dksX12_sign_1 9 rfl rfl)
theorem dX12_sign_32 : decode cX12_sign 32 = .ok (.putfield 19, 3) := dk_181 0 19 (dk_at dksX12_sign_1 10 rfl rfl)
theorem dX12_sign_35 : decode cX12_sign 35 = .ok (.goto (-35), 3) := dk_167 255 221 (dk_at dksX12_sign_1 13 rfl rfl)
theorem dX12_sign_38 : decode cX12_sign 38 = .ok (.aload_n 0, 1) := dk_42 (dk_at dksX12_sign_1 16 rfl rfl)
theorem dX12_sign_39 : decode cX12_sign 39 = .ok (.getfield 19, 3) := dk_180 0 19 (dk_at dksX12_sign_1 17 rfl rfl)
theorem dX12_sign_42 : decode cX12_sign 42 = .ok (.aload_n 0, 1) := dk_42 (dk_at dksX12_sign_1 20 rfl rfl)
theorem dX12_sign_43 : decode cX12_sign 43 = .ok (.getfield 15, 3) := dk_180 0 15 (dk_at dksX12_sign_1 21 rfl rfl)
theorem dX12_sign_46 : decode cX12_sign 46 = .ok (.if_icmp .ge 15, 3) := dk_162 0 15 (dk_at dksX12_sign_2 0 rfl rfl)
theorem dX12_sign_49 : decode cX12_sign 49 = .ok (.aload_n 0, 1) := dk_42 (dk_at dksX12_sign_2 3 rfl rfl)
theorem dX12_sign_50 : decode cX12_sign 50 = .ok (.getfield 9, 3) := dk_180 0 9 (dk_at dksX12_sign_2 4 rfl rfl)
theorem dX12_sign_53 : decode cX12_sign 53 = .ok (.aload_n 0, 1) := dk_42 (dk_at dksX12_sign_2 7 rfl rfl)
theorem dX12_sign_54 : decode cX12_sign 54 = .ok (.getfield 19, 3) := dk_180 0 19 (dk_at dksX12_sign_2 8 rfl rfl)
theorem dX12_sign_57 : decode cX12_sign 57 = .ok (.baload, 1) := dk_51 (dk_at dksX12_sign_2 11 rfl rfl)
theorem dX12_sign_58 : decode cX12_sign 58 = .ok (.goto 4, 3) := dk_167 0 4 (dk_at dksX12_sign_2 12 rfl rfl)
theorem dX12_sign_61 : decode cX12_sign 61 = .ok (.iconst 0, 1) := dk_3 (dk_at dksX12_sign_2 15 rfl rfl)
theorem dX12_sign_62 : decode cX12_sign 62 = .ok (.ireturn, 1) := dk_172 (dk_at dksX12_sign_2 16 rfl rfl)
def dkwX12_word_3 : List UInt8 := [132, 2, 1, 167, 255, 202, 43, 182, 0, 36, 176]
abbrev dktX12_word_3 : List UInt8 := dkwX12_word_3 ++ []
def dkwX12_word_2 : List UInt8 := [163, 0, 30, 43, 182, 0, 29, 16, 10, 162, 0, 21, 43, 42, 180, 0, 9, 28, 51, 146, 182, 0, 32, 87]
abbrev dktX12_word_2 : List UInt8 := dkwX12_word_2 ++ dktX12_word_3
def dkwX12_word_1 : List UInt8 := [162, 0, 52, 42, 180, 0, 9, 28, 51, 16, 97, 161, 0, 41, 42, 180, 0, 9, 28, 51, 16, 122]
abbrev dktX12_word_1 : List UInt8 := dkwX12_word_1 ++ dktX12_word_2
def dkwX12_word_0 : List UInt8 := [42, 182, 0, 22, 87, 187, 0, 26, 89, 183, 0, 28, 76, 42, 180, 0, 19, 61, 28, 42, 180, 0, 15]
abbrev dktX12_word_0 : List UInt8 := dkwX12_word_0 ++ dktX12_word_1
theorem dksX12_word_0 : cX12_word.data.toList.drop 0 = dktX12_word_0 := by decide +kernel
theorem dksX12_word_1 : cX12_word.data.toList.drop 23 = dktX12_word_1 := dk_seg dksX12_word_0 23 rfl rfl
theorem dksX12_word_2 : cX12_word.data.toList.drop 45 = dktX12_word_2 := dk_seg dksX12_word_1 22 rfl rfl
theorem dksX12_word_3 : cX12_word.data.toList.drop 69 = dktX12_word_3 := dk_seg dksX12_word_2 24 rfl rfl
theorem dX12_word_0 : decode cX12_word 0 = .ok (.aload_n 0, 1) := dk_42 (dk_at dksX12_word_0 0 rfl rfl)
theorem dX12_word_1 : decode cX12_word 1 = .ok (.invokevirtual 22, 3) := dk_182 0 22 (dk_at dksX12_word_0 1 rfl rfl)
theorem dX12_word_4 : decode cX12_word 4 = .ok (.pop, 1) := dk_87 (dk_at dksX12_word_0 4 rfl rfl)
theorem dX12_word_5 : decode cX12_word 5 = .ok (.new 26, 3) := dk_187 0 26 (dk_at dksX12_word_0 5 rfl rfl)
theorem dX12_word_8 : decode cX12_word 8 = .ok (.dup, 1) := dk_89 (dk_at dksX12_word_0 8 rfl rfl)
theorem dX12_word_9 : decode cX12_word 9 = .ok (.invokespecial 28, 3) := dk_183 0 28 (dk_at dksX12_word_0 9 rfl rfl)
theorem dX12_word_12 : decode cX12_word 12 = .ok (.astore_n 1, 1) := dk_76 (dk_at dksX12_word_0 12 rfl rfl)
theorem dX12_word_13 : decode cX12_word 13 = .ok (.aload_n 0, 1) := dk_42 (dk_at dksX12_word_0 13 rfl rfl)
theorem dX12_word_14 : decode cX12_word 14 = .ok (.getfield 19, 3) := dk_180 0 19 (dk_at dksX12_word_0 14 rfl rfl)
theorem dX12_word_17 : decode cX12_word 17 = .ok (.istore_n 2, 1) := dk_61 (dk_at dksX12_word_0 17 rfl rfl)
theorem dX12_word_18 : decode cX12_word 18 = .ok (.iload_n 2, 1) := dk_28 (dk_at dksX12_word_0 18 rfl rfl)
theorem dX12_word_19 : decode cX12_word 19 = .ok (.aload_n 0, 1) := dk_42 (dk_at dksX12_word_0 19 rfl rfl)
theorem dX12_word_20 : decode cX12_word 20 = .ok (.getfield 15, 3) := dk_180 0 15 (dk_at dksX12_word_0 20 rfl rfl)
theorem dX12_word_23 : decode cX12_word 23 = .ok (.if_icmp .ge 52, 3) := dk_162 0 52 (dk_at dksX12_word_1 0 rfl rfl)
theorem dX12_word_26 : decode cX12_word 26 = .ok (.aload_n 0, 1) := dk_42 (dk_at dksX12_word_1 3 rfl rfl)
theorem dX12_word_27 : decode cX12_word 27 = .ok (.getfield 9, 3) := dk_180 0 9 (dk_at dksX12_word_1 4 rfl rfl)
theorem dX12_word_30 : decode cX12_word 30 = .ok (.iload_n 2, 1) := dk_28 (dk_at dksX12_word_1 7 rfl rfl)
theorem dX12_word_31 : decode cX12_word 31 = .ok (.baload, 1) := dk_51 (dk_at dksX12_word_1 8 rfl rfl)
theorem dX12_word_32 : decode cX12_word 32 = .ok (.bipush 97, 2) := dk_16 97 (dk_at dksX12_word_1 9 rfl rfl)
theorem dX12_word_34 : decode cX12_word 34 = .ok (.if_icmp .lt 41, 3) := dk_161 0 41 (dk_at dksX12_word_1 11 rfl rfl)
theorem dX12_word_37 : decode cX12_word 37 = .ok (.aload_n 0, 1) := dk_42 (dk_at dksX12_word_1 14 rfl rfl)
theorem dX12_word_38 : decode cX12_word 38 = .ok (.getfield 9, 3) := dk_180 0 9 (dk_at dksX12_word_1 15 rfl rfl)
theorem dX12_word_41 : decode cX12_word 41 = .ok (.iload_n 2, 1) := dk_28 (dk_at dksX12_word_1 18 rfl rfl)
theorem dX12_word_42 : decode cX12_word 42 = .ok (.baload, 1) := dk_51 (dk_at dksX12_word_1 19 rfl rfl)
theorem dX12_word_43 : decode cX12_word 43 = .ok (.bipush 122, 2) := dk_16 122 (dk_at dksX12_word_1 20 rfl rfl)
theorem dX12_word_45 : decode cX12_word 45 = .ok (.if_icmp .gt 30, 3) := dk_163 0 30 (dk_at dksX12_word_2 0 rfl rfl)
theorem dX12_word_48 : decode cX12_word 48 = .ok (.aload_n 1, 1) := dk_43 (dk_at dksX12_word_2 3 rfl rfl)
theorem dX12_word_49 : decode cX12_word 49 = .ok (.invokevirtual 29, 3) := dk_182 0 29 (dk_at dksX12_word_2 4 rfl rfl)
theorem dX12_word_52 : decode cX12_word 52 = .ok (.bipush 10, 2) := dk_16 10 (dk_at dksX12_word_2 7 rfl rfl)
theorem dX12_word_54 : decode cX12_word 54 = .ok (.if_icmp .ge 21, 3) := dk_162 0 21 (dk_at dksX12_word_2 9 rfl rfl)
theorem dX12_word_57 : decode cX12_word 57 = .ok (.aload_n 1, 1) := dk_43 (dk_at dksX12_word_2 12 rfl rfl)
theorem dX12_word_58 : decode cX12_word 58 = .ok (.aload_n 0, 1) := dk_42 (dk_at dksX12_word_2 13 rfl rfl)
theorem dX12_word_59 : decode cX12_word 59 = .ok (.getfield 9, 3) := dk_180 0 9 (dk_at dksX12_word_2 14 rfl rfl)
theorem dX12_word_62 : decode cX12_word 62 = .ok (.iload_n 2, 1) := dk_28 (dk_at dksX12_word_2 17 rfl rfl)
theorem dX12_word_63 : decode cX12_word 63 = .ok (.baload, 1) := dk_51 (dk_at dksX12_word_2 18 rfl rfl)
theorem dX12_word_64 : decode cX12_word 64 = .ok (.i2c, 1) := dk_146 (dk_at dksX12_word_2 19 rfl rfl)
theorem dX12_word_65 : decode cX12_word 65 = .ok (.invokevirtual 32, 3) := dk_182 0 32 (dk_at dksX12_word_2 20 rfl rfl)
theorem dX12_word_68 : decode cX12_word 68 = .ok (.pop, 1) := dk_87 (dk_at dksX12_word_2 23 rfl rfl)
theorem dX12_word_69 : decode cX12_word 69 = .ok (.iinc 2 1, 3) := dk_132 2 1 (dk_at dksX12_word_3 0 rfl rfl)
theorem dX12_word_72 : decode cX12_word 72 = .ok (.goto (-54), 3) := dk_167 255 202 (dk_at dksX12_word_3 3 rfl rfl)
theorem dX12_word_75 : decode cX12_word 75 = .ok (.aload_n 1, 1) := dk_43 (dk_at dksX12_word_3 6 rfl rfl)
theorem dX12_word_76 : decode cX12_word 76 = .ok (.invokevirtual 36, 3) := dk_182 0 36 (dk_at dksX12_word_3 7 rfl rfl)
theorem dX12_word_79 : decode cX12_word 79 = .ok (.areturn, 1) := dk_176 (dk_at dksX12_word_3 10 rfl rfl)
def dkwX12_wrong_0 : List UInt8 := [187, 0, 40, 89, 4, 42, 180, 0, 19, 183, 0, 42, 176]
abbrev dktX12_wrong_0 : List UInt8 := dkwX12_wrong_0 ++ []
theorem dksX12_wrong_0 : cX12_wrong.data.toList.drop 0 = dktX12_wrong_0 := by decide +kernel
theorem dX12_wrong_0 : decode cX12_wrong 0 = .ok (.new 40, 3) := dk_187 0 40 (dk_at dksX12_wrong_0 0 rfl rfl)
theorem dX12_wrong_3 : decode cX12_wrong 3 = .ok (.dup, 1) := dk_89 (dk_at dksX12_wrong_0 3 rfl rfl)
theorem dX12_wrong_4 : decode cX12_wrong 4 = .ok (.iconst 1, 1) := dk_4 (dk_at dksX12_wrong_0 4 rfl rfl)
theorem dX12_wrong_5 : decode cX12_wrong 5 = .ok (.aload_n 0, 1) := dk_42 (dk_at dksX12_wrong_0 5 rfl rfl)
theorem dX12_wrong_6 : decode cX12_wrong 6 = .ok (.getfield 19, 3) := dk_180 0 19 (dk_at dksX12_wrong_0 6 rfl rfl)
theorem dX12_wrong_9 : decode cX12_wrong 9 = .ok (.invokespecial 42, 3) := dk_183 0 42 (dk_at dksX12_wrong_0 9 rfl rfl)
theorem dX12_wrong_12 : decode cX12_wrong 12 = .ok (.areturn, 1) := dk_176 (dk_at dksX12_wrong_0 12 rfl rfl)
def dkwX12_number_5 : List UInt8 := [164, 0, 16, 187, 0, 40, 89, 5, 42, 180, 0, 52, 183, 0, 42, 191, 21, 4, 172]
abbrev dktX12_number_5 : List UInt8 := dkwX12_number_5 ++ []
def dkwX12_number_4 : List UInt8 := [54, 4, 42, 89, 180, 0, 19, 4, 96, 181, 0, 19, 167, 255, 182, 21, 4, 27, 161, 0, 9, 21, 4, 28]
abbrev dktX12_number_4 : List UInt8 := dkwX12_number_4 ++ dktX12_number_5
def dkwX12_number_3 : List UInt8 := [16, 10, 21, 4, 104, 42, 180, 0, 9, 42, 180, 0, 19, 51, 96, 16, 48, 100, 18, 55, 184, 0, 56]
abbrev dktX12_number_3 : List UInt8 := dkwX12_number_3 ++ dktX12_number_4
def dkwX12_number_2 : List UInt8 := [42, 180, 0, 19, 51, 16, 48, 161, 0, 55, 42, 180, 0, 9, 42, 180, 0, 19, 51, 16, 57, 163, 0, 41]
abbrev dktX12_number_2 : List UInt8 := dkwX12_number_2 ++ dktX12_number_3
def dkwX12_number_1 : List UInt8 := [180, 0, 19, 181, 0, 52, 3, 54, 4, 42, 180, 0, 19, 42, 180, 0, 15, 162, 0, 69, 42, 180, 0, 9]
abbrev dktX12_number_1 : List UInt8 := dkwX12_number_1 ++ dktX12_number_2
def dkwX12_number_0 : List UInt8 := [42, 182, 0, 22, 62, 29, 16, 48, 161, 0, 9, 29, 16, 57, 164, 0, 8, 42, 182, 0, 45, 191, 42, 42]
abbrev dktX12_number_0 : List UInt8 := dkwX12_number_0 ++ dktX12_number_1
theorem dksX12_number_0 : cX12_number.data.toList.drop 0 = dktX12_number_0 := by decide +kernel
theorem dksX12_number_1 : cX12_number.data.toList.drop 24 = dktX12_number_1 := dk_seg dksX12_number_0 24 rfl rfl
theorem dksX12_number_2 : cX12_number.data.toList.drop 48 = dktX12_number_2 := dk_seg dksX12_number_1 24 rfl rfl
theorem dksX12_number_3 : cX12_number.data.toList.drop 72 = dktX12_number_3 := dk_seg dksX12_number_2 24 rfl rfl
theorem dksX12_number_4 : cX12_number.data.toList.drop 95 = dktX12_number_4 := dk_seg dksX12_number_3 23 rfl rfl
theorem dksX12_number_5 : cX12_number.data.toList.drop 119 = dktX12_number_5 := dk_seg dksX12_number_4 24 rfl rfl
theorem dX12_number_0 : decode cX12_number 0 = .ok (.aload_n 0, 1) := dk_42 (dk_at dksX12_number_0 0 rfl rfl)
theorem dX12_number_1 : decode cX12_number 1 = .ok (.invokevirtual 22, 3) := dk_182 0 22 (dk_at dksX12_number_0 1 rfl rfl)
theorem dX12_number_4 : decode cX12_number 4 = .ok (.istore_n 3, 1) := dk_62 (dk_at dksX12_number_0 4 rfl rfl)
theorem dX12_number_5 : decode cX12_number 5 = .ok (.iload_n 3, 1) := dk_29 (dk_at dksX12_number_0 5 rfl rfl)
theorem dX12_number_6 : decode cX12_number 6 = .ok (.bipush 48, 2) := dk_16 48 (dk_at dksX12_number_0 6 rfl rfl)
theorem dX12_number_8 : decode cX12_number 8 = .ok (.if_icmp .lt 9, 3) := dk_161 0 9 (dk_at dksX12_number_0 8 rfl rfl)
theorem dX12_number_11 : decode cX12_number 11 = .ok (.iload_n 3, 1) := dk_29 (dk_at dksX12_number_0 11 rfl rfl)
theorem dX12_number_12 : decode cX12_number 12 = .ok (.bipush 57, 2) := dk_16 57 (dk_at dksX12_number_0 12 rfl rfl)
theorem dX12_number_14 : decode cX12_number 14 = .ok (.if_icmp .le 8, 3) := dk_164 0 8 (dk_at dksX12_number_0 14 rfl rfl)
theorem dX12_number_17 : decode cX12_number 17 = .ok (.aload_n 0, 1) := dk_42 (dk_at dksX12_number_0 17 rfl rfl)
theorem dX12_number_18 : decode cX12_number 18 = .ok (.invokevirtual 45, 3) := dk_182 0 45 (dk_at dksX12_number_0 18 rfl rfl)
theorem dX12_number_21 : decode cX12_number 21 = .ok (.athrow, 1) := dk_191 (dk_at dksX12_number_0 21 rfl rfl)
theorem dX12_number_22 : decode cX12_number 22 = .ok (.aload_n 0, 1) := dk_42 (dk_at dksX12_number_0 22 rfl rfl)
theorem dX12_number_23 : decode cX12_number 23 = .ok (.aload_n 0, 1) := dk_42 (dk_at dksX12_number_0 23 rfl rfl)
theorem dX12_number_24 : decode cX12_number 24 = .ok (.getfield 19, 3) := dk_180 0 19 (dk_at dksX12_number_1 0 rfl rfl)
theorem dX12_number_27 : decode cX12_number 27 = .ok (.putfield 52, 3) := dk_181 0 52 (dk_at dksX12_number_1 3 rfl rfl)
theorem dX12_number_30 : decode cX12_number 30 = .ok (.iconst 0, 1) := dk_3 (dk_at dksX12_number_1 6 rfl rfl)
theorem dX12_number_31 : decode cX12_number 31 = .ok (.istore 4, 2) := dk_54 4 (dk_at dksX12_number_1 7 rfl rfl)
theorem dX12_number_33 : decode cX12_number 33 = .ok (.aload_n 0, 1) := dk_42 (dk_at dksX12_number_1 9 rfl rfl)
theorem dX12_number_34 : decode cX12_number 34 = .ok (.getfield 19, 3) := dk_180 0 19 (dk_at dksX12_number_1 10 rfl rfl)
theorem dX12_number_37 : decode cX12_number 37 = .ok (.aload_n 0, 1) := dk_42 (dk_at dksX12_number_1 13 rfl rfl)
theorem dX12_number_38 : decode cX12_number 38 = .ok (.getfield 15, 3) := dk_180 0 15 (dk_at dksX12_number_1 14 rfl rfl)
theorem dX12_number_41 : decode cX12_number 41 = .ok (.if_icmp .ge 69, 3) := dk_162 0 69 (dk_at dksX12_number_1 17 rfl rfl)
theorem dX12_number_44 : decode cX12_number 44 = .ok (.aload_n 0, 1) := dk_42 (dk_at dksX12_number_1 20 rfl rfl)
theorem dX12_number_45 : decode cX12_number 45 = .ok (.getfield 9, 3) := dk_180 0 9 (dk_at dksX12_number_1 21 rfl rfl)
theorem dX12_number_48 : decode cX12_number 48 = .ok (.aload_n 0, 1) := dk_42 (dk_at dksX12_number_2 0 rfl rfl)
theorem dX12_number_49 : decode cX12_number 49 = .ok (.getfield 19, 3) := dk_180 0 19 (dk_at dksX12_number_2 1 rfl rfl)
theorem dX12_number_52 : decode cX12_number 52 = .ok (.baload, 1) := dk_51 (dk_at dksX12_number_2 4 rfl rfl)
theorem dX12_number_53 : decode cX12_number 53 = .ok (.bipush 48, 2) := dk_16 48 (dk_at dksX12_number_2 5 rfl rfl)
theorem dX12_number_55 : decode cX12_number 55 = .ok (.if_icmp .lt 55, 3) := dk_161 0 55 (dk_at dksX12_number_2 7 rfl rfl)
theorem dX12_number_58 : decode cX12_number 58 = .ok (.aload_n 0, 1) := dk_42 (dk_at dksX12_number_2 10 rfl rfl)
theorem dX12_number_59 : decode cX12_number 59 = .ok (.getfield 9, 3) := dk_180 0 9 (dk_at dksX12_number_2 11 rfl rfl)
theorem dX12_number_62 : decode cX12_number 62 = .ok (.aload_n 0, 1) := dk_42 (dk_at dksX12_number_2 14 rfl rfl)
theorem dX12_number_63 : decode cX12_number 63 = .ok (.getfield 19, 3) := dk_180 0 19 (dk_at dksX12_number_2 15 rfl rfl)
theorem dX12_number_66 : decode cX12_number 66 = .ok (.baload, 1) := dk_51 (dk_at dksX12_number_2 18 rfl rfl)
theorem dX12_number_67 : decode cX12_number 67 = .ok (.bipush 57, 2) := dk_16 57 (dk_at dksX12_number_2 19 rfl rfl)
theorem dX12_number_69 : decode cX12_number 69 = .ok (.if_icmp .gt 41, 3) := dk_163 0 41 (dk_at dksX12_number_2 21 rfl rfl)
theorem dX12_number_72 : decode cX12_number 72 = .ok (.bipush 10, 2) := dk_16 10 (dk_at dksX12_number_3 0 rfl rfl)
theorem dX12_number_74 : decode cX12_number 74 = .ok (.iload 4, 2) := dk_21 4 (dk_at dksX12_number_3 2 rfl rfl)
theorem dX12_number_76 : decode cX12_number 76 = .ok (.imul, 1) := dk_104 (dk_at dksX12_number_3 4 rfl rfl)
theorem dX12_number_77 : decode cX12_number 77 = .ok (.aload_n 0, 1) := dk_42 (dk_at dksX12_number_3 5 rfl rfl)
theorem dX12_number_78 : decode cX12_number 78 = .ok (.getfield 9, 3) := dk_180 0 9 (dk_at dksX12_number_3 6 rfl rfl)
theorem dX12_number_81 : decode cX12_number 81 = .ok (.aload_n 0, 1) := dk_42 (dk_at dksX12_number_3 9 rfl rfl)
theorem dX12_number_82 : decode cX12_number 82 = .ok (.getfield 19, 3) := dk_180 0 19 (dk_at dksX12_number_3 10 rfl rfl)
theorem dX12_number_85 : decode cX12_number 85 = .ok (.baload, 1) := dk_51 (dk_at dksX12_number_3 13 rfl rfl)
theorem dX12_number_86 : decode cX12_number 86 = .ok (.iadd, 1) := dk_96 (dk_at dksX12_number_3 14 rfl rfl)
theorem dX12_number_87 : decode cX12_number 87 = .ok (.bipush 48, 2) := dk_16 48 (dk_at dksX12_number_3 15 rfl rfl)
theorem dX12_number_89 : decode cX12_number 89 = .ok (.isub, 1) := dk_100 (dk_at dksX12_number_3 17 rfl rfl)
theorem dX12_number_90 : decode cX12_number 90 = .ok (.ldc 55, 2) := dk_18 55 (dk_at dksX12_number_3 18 rfl rfl)
theorem dX12_number_92 : decode cX12_number 92 = .ok (.invokestatic 56, 3) := dk_184 0 56 (dk_at dksX12_number_3 20 rfl rfl)
theorem dX12_number_95 : decode cX12_number 95 = .ok (.istore 4, 2) := dk_54 4 (dk_at dksX12_number_4 0 rfl rfl)
theorem dX12_number_97 : decode cX12_number 97 = .ok (.aload_n 0, 1) := dk_42 (dk_at dksX12_number_4 2 rfl rfl)
theorem dX12_number_98 : decode cX12_number 98 = .ok (.dup, 1) := dk_89 (dk_at dksX12_number_4 3 rfl rfl)
theorem dX12_number_99 : decode cX12_number 99 = .ok (.getfield 19, 3) := dk_180 0 19 (dk_at dksX12_number_4 4 rfl rfl)
theorem dX12_number_102 : decode cX12_number 102 = .ok (.iconst 1, 1) := dk_4 (dk_at dksX12_number_4 7 rfl rfl)
theorem dX12_number_103 : decode cX12_number 103 = .ok (.iadd, 1) := dk_96 (dk_at dksX12_number_4 8 rfl rfl)
theorem dX12_number_104 : decode cX12_number 104 = .ok (.putfield 19, 3) := dk_181 0 19 (dk_at dksX12_number_4 9 rfl rfl)
theorem dX12_number_107 : decode cX12_number 107 = .ok (.goto (-74), 3) := dk_167 255 182 (dk_at dksX12_number_4 12 rfl rfl)
theorem dX12_number_110 : decode cX12_number 110 = .ok (.iload 4, 2) := dk_21 4 (dk_at dksX12_number_4 15 rfl rfl)
theorem dX12_number_112 : decode cX12_number 112 = .ok (.iload_n 1, 1) := dk_27 (dk_at dksX12_number_4 17 rfl rfl)
theorem dX12_number_113 : decode cX12_number 113 = .ok (.if_icmp .lt 9, 3) := dk_161 0 9 (dk_at dksX12_number_4 18 rfl rfl)
theorem dX12_number_116 : decode cX12_number 116 = .ok (.iload 4, 2) := dk_21 4 (dk_at dksX12_number_4 21 rfl rfl)
theorem dX12_number_118 : decode cX12_number 118 = .ok (.iload_n 2, 1) := dk_28 (dk_at dksX12_number_4 23 rfl rfl)
theorem dX12_number_119 : decode cX12_number 119 = .ok (.if_icmp .le 16, 3) := dk_164 0 16 (dk_at dksX12_number_5 0 rfl rfl)
theorem dX12_number_122 : decode cX12_number 122 = .ok (.new 40, 3) := dk_187 0 40 (dk_at dksX12_number_5 3 rfl rfl)
theorem dX12_number_125 : decode cX12_number 125 = .ok (.dup, 1) := dk_89 (dk_at dksX12_number_5 6 rfl rfl)
theorem dX12_number_126 : decode cX12_number 126 = .ok (.iconst 2, 1) := dk_5 (dk_at dksX12_number_5 7 rfl rfl)
theorem dX12_number_127 : decode cX12_number 127 = .ok (.aload_n 0, 1) := dk_42 (dk_at dksX12_number_5 8 rfl rfl)
theorem dX12_number_128 : decode cX12_number 128 = .ok (.getfield 52, 3) := dk_180 0 52 (dk_at dksX12_number_5 9 rfl rfl)
theorem dX12_number_131 : decode cX12_number 131 = .ok (.invokespecial 42, 3) := dk_183 0 42 (dk_at dksX12_number_5 12 rfl rfl)
theorem dX12_number_134 : decode cX12_number 134 = .ok (.athrow, 1) := dk_191 (dk_at dksX12_number_5 15 rfl rfl)
theorem dX12_number_135 : decode cX12_number 135 = .ok (.iload 4, 2) := dk_21 4 (dk_at dksX12_number_5 16 rfl rfl)
theorem dX12_number_137 : decode cX12_number 137 = .ok (.ireturn, 1) := dk_172 (dk_at dksX12_number_5 18 rfl rfl)
def dkwX12_need_0 : List UInt8 := [42, 182, 0, 22, 27, 159, 0, 8, 42, 182, 0, 45, 191, 42, 89, 180, 0, 19, 4, 96, 181, 0, 19, 177]
abbrev dktX12_need_0 : List UInt8 := dkwX12_need_0 ++ []
theorem dksX12_need_0 : cX12_need.data.toList.drop 0 = dktX12_need_0 := by decide +kernel
theorem dX12_need_0 : decode cX12_need 0 = .ok (.aload_n 0, 1) := dk_42 (dk_at dksX12_need_0 0 rfl rfl)
theorem dX12_need_1 : decode cX12_need 1 = .ok (.invokevirtual 22, 3) := dk_182 0 22 (dk_at dksX12_need_0 1 rfl rfl)
theorem dX12_need_4 : decode cX12_need 4 = .ok (.iload_n 1, 1) := dk_27 (dk_at dksX12_need_0 4 rfl rfl)
theorem dX12_need_5 : decode cX12_need 5 = .ok (.if_icmp .eq 8, 3) := dk_159 0 8 (dk_at dksX12_need_0 5 rfl rfl)
theorem dX12_need_8 : decode cX12_need 8 = .ok (.aload_n 0, 1) := dk_42 (dk_at dksX12_need_0 8 rfl rfl)
theorem dX12_need_9 : decode cX12_need 9 = .ok (.invokevirtual 45, 3) := dk_182 0 45 (dk_at dksX12_need_0 9 rfl rfl)
theorem dX12_need_12 : decode cX12_need 12 = .ok (.athrow, 1) := dk_191 (dk_at dksX12_need_0 12 rfl rfl)
theorem dX12_need_13 : decode cX12_need 13 = .ok (.aload_n 0, 1) := dk_42 (dk_at dksX12_need_0 13 rfl rfl)
theorem dX12_need_14 : decode cX12_need 14 = .ok (.dup, 1) := dk_89 (dk_at dksX12_need_0 14 rfl rfl)
theorem dX12_need_15 : decode cX12_need 15 = .ok (.getfield 19, 3) := dk_180 0 19 (dk_at dksX12_need_0 15 rfl rfl)
theorem dX12_need_18 : decode cX12_need 18 = .ok (.iconst 1, 1) := dk_4 (dk_at dksX12_need_0 18 rfl rfl)
theorem dX12_need_19 : decode cX12_need 19 = .ok (.iadd, 1) := dk_96 (dk_at dksX12_need_0 19 rfl rfl)
theorem dX12_need_20 : decode cX12_need 20 = .ok (.putfield 19, 3) := dk_181 0 19 (dk_at dksX12_need_0 20 rfl rfl)
theorem dX12_need_23 : decode cX12_need 23 = .ok (.return_, 1) := dk_177 (dk_at dksX12_need_0 23 rfl rfl)
def dkwX12_opens_1 : List UInt8 := [180, 0, 19, 27, 96, 181, 0, 19, 42, 89, 180, 0, 49, 4, 96, 181, 0, 49, 177]
abbrev dktX12_opens_1 : List UInt8 := dkwX12_opens_1 ++ []
def dkwX12_opens_0 : List UInt8 := [42, 180, 0, 49, 16, 6, 160, 0, 16, 187, 0, 40, 89, 6, 42, 180, 0, 19, 183, 0, 42, 191, 42, 89]
abbrev dktX12_opens_0 : List UInt8 := dkwX12_opens_0 ++ dktX12_opens_1
theorem dksX12_opens_0 : cX12_opens.data.toList.drop 0 = dktX12_opens_0 := by decide +kernel
theorem dksX12_opens_1 : cX12_opens.data.toList.drop 24 = dktX12_opens_1 := dk_seg dksX12_opens_0 24 rfl rfl
theorem dX12_opens_0 : decode cX12_opens 0 = .ok (.aload_n 0, 1) := dk_42 (dk_at dksX12_opens_0 0 rfl rfl)
theorem dX12_opens_1 : decode cX12_opens 1 = .ok (.getfield 49, 3) := dk_180 0 49 (dk_at dksX12_opens_0 1 rfl rfl)
theorem dX12_opens_4 : decode cX12_opens 4 = .ok (.bipush 6, 2) := dk_16 6 (dk_at dksX12_opens_0 4 rfl rfl)
theorem dX12_opens_6 : decode cX12_opens 6 = .ok (.if_icmp .ne 16, 3) := dk_160 0 16 (dk_at dksX12_opens_0 6 rfl rfl)
theorem dX12_opens_9 : decode cX12_opens 9 = .ok (.new 40, 3) := dk_187 0 40 (dk_at dksX12_opens_0 9 rfl rfl)
theorem dX12_opens_12 : decode cX12_opens 12 = .ok (.dup, 1) := dk_89 (dk_at dksX12_opens_0 12 rfl rfl)
theorem dX12_opens_13 : decode cX12_opens 13 = .ok (.iconst 3, 1) := dk_6 (dk_at dksX12_opens_0 13 rfl rfl)
theorem dX12_opens_14 : decode cX12_opens 14 = .ok (.aload_n 0, 1) := dk_42 (dk_at dksX12_opens_0 14 rfl rfl)
theorem dX12_opens_15 : decode cX12_opens 15 = .ok (.getfield 19, 3) := dk_180 0 19 (dk_at dksX12_opens_0 15 rfl rfl)
theorem dX12_opens_18 : decode cX12_opens 18 = .ok (.invokespecial 42, 3) := dk_183 0 42 (dk_at dksX12_opens_0 18 rfl rfl)
theorem dX12_opens_21 : decode cX12_opens 21 = .ok (.athrow, 1) := dk_191 (dk_at dksX12_opens_0 21 rfl rfl)
theorem dX12_opens_22 : decode cX12_opens 22 = .ok (.aload_n 0, 1) := dk_42 (dk_at dksX12_opens_0 22 rfl rfl)
theorem dX12_opens_23 : decode cX12_opens 23 = .ok (.dup, 1) := dk_89 (dk_at dksX12_opens_0 23 rfl rfl)
theorem dX12_opens_24 : decode cX12_opens 24 = .ok (.getfield 19, 3) := dk_180 0 19 (dk_at dksX12_opens_1 0 rfl rfl)
theorem dX12_opens_27 : decode cX12_opens 27 = .ok (.iload_n 1, 1) := dk_27 (dk_at dksX12_opens_1 3 rfl rfl)
theorem dX12_opens_28 : decode cX12_opens 28 = .ok (.iadd, 1) := dk_96 (dk_at dksX12_opens_1 4 rfl rfl)
theorem dX12_opens_29 : decode cX12_opens 29 = .ok (.putfield 19, 3) := dk_181 0 19 (dk_at dksX12_opens_1 5 rfl rfl)
theorem dX12_opens_32 : decode cX12_opens 32 = .ok (.aload_n 0, 1) := dk_42 (dk_at dksX12_opens_1 8 rfl rfl)
theorem dX12_opens_33 : decode cX12_opens 33 = .ok (.dup, 1) := dk_89 (dk_at dksX12_opens_1 9 rfl rfl)
theorem dX12_opens_34 : decode cX12_opens 34 = .ok (.getfield 49, 3) := dk_180 0 49 (dk_at dksX12_opens_1 10 rfl rfl)
theorem dX12_opens_37 : decode cX12_opens 37 = .ok (.iconst 1, 1) := dk_4 (dk_at dksX12_opens_1 13 rfl rfl)
theorem dX12_opens_38 : decode cX12_opens 38 = .ok (.iadd, 1) := dk_96 (dk_at dksX12_opens_1 14 rfl rfl)
theorem dX12_opens_39 : decode cX12_opens 39 = .ok (.putfield 49, 3) := dk_181 0 49 (dk_at dksX12_opens_1 15 rfl rfl)
theorem dX12_opens_42 : decode cX12_opens 42 = .ok (.return_, 1) := dk_177 (dk_at dksX12_opens_1 18 rfl rfl)

set_option maxRecDepth 100000
def dkwX13_init_0 : List UInt8 := [42, 43, 28, 183, 0, 3, 42, 187, 0, 9, 89, 183, 0, 11, 181, 0, 14, 177]
abbrev dktX13_init_0 : List UInt8 := dkwX13_init_0 ++ []
theorem dksX13_init_0 : cX13_init.data.toList.drop 0 = dktX13_init_0 := by decide +kernel
theorem dX13_init_0 : decode cX13_init 0 = .ok (.aload_n 0, 1) := dk_42 (dk_at dksX13_init_0 0 rfl rfl)
theorem dX13_init_1 : decode cX13_init 1 = .ok (.aload_n 1, 1) := dk_43 (dk_at dksX13_init_0 1 rfl rfl)
theorem dX13_init_2 : decode cX13_init 2 = .ok (.iload_n 2, 1) := dk_28 (dk_at dksX13_init_0 2 rfl rfl)
theorem dX13_init_3 : decode cX13_init 3 = .ok (.invokespecial 3, 3) := dk_183 0 3 (dk_at dksX13_init_0 3 rfl rfl)
theorem dX13_init_6 : decode cX13_init 6 = .ok (.aload_n 0, 1) := dk_42 (dk_at dksX13_init_0 6 rfl rfl)
theorem dX13_init_7 : decode cX13_init 7 = .ok (.new 9, 3) := dk_187 0 9 (dk_at dksX13_init_0 7 rfl rfl)
theorem dX13_init_10 : decode cX13_init 10 = .ok (.dup, 1) := dk_89 (dk_at dksX13_init_0 10 rfl rfl)
theorem dX13_init_11 : decode cX13_init 11 = .ok (.invokespecial 11, 3) := dk_183 0 11 (dk_at dksX13_init_0 11 rfl rfl)
theorem dX13_init_14 : decode cX13_init 14 = .ok (.putfield 14, 3) := dk_181 0 14 (dk_at dksX13_init_0 14 rfl rfl)
theorem dX13_init_17 : decode cX13_init 17 = .ok (.return_, 1) := dk_177 (dk_at dksX13_init_0 17 rfl rfl)
def dkwX13_reads_2 : List UInt8 := [167, 255, 213, 42, 180, 0, 14, 176]
abbrev dktX13_reads_2 : List UInt8 := dkwX13_reads_2 ++ []
def dkwX13_reads_1 : List UInt8 := [42, 16, 59, 182, 0, 39, 42, 180, 0, 14, 89, 180, 0, 43, 4, 96, 181, 0, 43, 42, 182, 0, 20, 87]
abbrev dktX13_reads_1 : List UInt8 := dkwX13_reads_1 ++ dktX13_reads_2
def dkwX13_reads_0 : List UInt8 := [42, 182, 0, 20, 87, 42, 180, 0, 24, 42, 180, 0, 28, 162, 0, 38, 42, 42, 182, 0, 31, 182, 0, 35]
abbrev dktX13_reads_0 : List UInt8 := dkwX13_reads_0 ++ dktX13_reads_1
theorem dksX13_reads_0 : cX13_reads.data.toList.drop 0 = dktX13_reads_0 := by decide +kernel
theorem dksX13_reads_1 : cX13_reads.data.toList.drop 24 = dktX13_reads_1 := dk_seg dksX13_reads_0 24 rfl rfl
theorem dksX13_reads_2 : cX13_reads.data.toList.drop 48 = dktX13_reads_2 := dk_seg dksX13_reads_1 24 rfl rfl
theorem dX13_reads_0 : decode cX13_reads 0 = .ok (.aload_n 0, 1) := dk_42 (dk_at dksX13_reads_0 0 rfl rfl)
theorem dX13_reads_1 : decode cX13_reads 1 = .ok (.invokevirtual 20, 3) := dk_182 0 20 (dk_at dksX13_reads_0 1 rfl rfl)
theorem dX13_reads_4 : decode cX13_reads 4 = .ok (.pop, 1) := dk_87 (dk_at dksX13_reads_0 4 rfl rfl)
theorem dX13_reads_5 : decode cX13_reads 5 = .ok (.aload_n 0, 1) := dk_42 (dk_at dksX13_reads_0 5 rfl rfl)
theorem dX13_reads_6 : decode cX13_reads 6 = .ok (.getfield 24, 3) := dk_180 0 24 (dk_at dksX13_reads_0 6 rfl rfl)
theorem dX13_reads_9 : decode cX13_reads 9 = .ok (.aload_n 0, 1) := dk_42 (dk_at dksX13_reads_0 9 rfl rfl)
theorem dX13_reads_10 : decode cX13_reads 10 = .ok (.getfield 28, 3) := dk_180 0 28 (dk_at dksX13_reads_0 10 rfl rfl)
theorem dX13_reads_13 : decode cX13_reads 13 = .ok (.if_icmp .ge 38, 3) := dk_162 0 38 (dk_at dksX13_reads_0 13 rfl rfl)
theorem dX13_reads_16 : decode cX13_reads 16 = .ok (.aload_n 0, 1) := dk_42 (dk_at dksX13_reads_0 16 rfl rfl)
theorem dX13_reads_17 : decode cX13_reads 17 = .ok (.aload_n 0, 1) := dk_42 (dk_at dksX13_reads_0 17 rfl rfl)
theorem dX13_reads_18 : decode cX13_reads 18 = .ok (.invokevirtual 31, 3) := dk_182 0 31 (dk_at dksX13_reads_0 18 rfl rfl)
theorem dX13_reads_21 : decode cX13_reads 21 = .ok (.invokevirtual 35, 3) := dk_182 0 35 (dk_at dksX13_reads_0 21 rfl rfl)
theorem dX13_reads_24 : decode cX13_reads 24 = .ok (.aload_n 0, 1) := dk_42 (dk_at dksX13_reads_1 0 rfl rfl)
theorem dX13_reads_25 : decode cX13_reads 25 = .ok (.bipush 59, 2) := dk_16 59 (dk_at dksX13_reads_1 1 rfl rfl)
theorem dX13_reads_27 : decode cX13_reads 27 = .ok (.invokevirtual 39, 3) := dk_182 0 39 (dk_at dksX13_reads_1 3 rfl rfl)
theorem dX13_reads_30 : decode cX13_reads 30 = .ok (.aload_n 0, 1) := dk_42 (dk_at dksX13_reads_1 6 rfl rfl)
theorem dX13_reads_31 : decode cX13_reads 31 = .ok (.getfield 14, 3) := dk_180 0 14 (dk_at dksX13_reads_1 7 rfl rfl)
theorem dX13_reads_34 : decode cX13_reads 34 = .ok (.dup, 1) := dk_89 (dk_at dksX13_reads_1 10 rfl rfl)
theorem dX13_reads_35 : decode cX13_reads 35 = .ok (.getfield 43, 3) := dk_180 0 43 (dk_at dksX13_reads_1 11 rfl rfl)
theorem dX13_reads_38 : decode cX13_reads 38 = .ok (.iconst 1, 1) := dk_4 (dk_at dksX13_reads_1 14 rfl rfl)
theorem dX13_reads_39 : decode cX13_reads 39 = .ok (.iadd, 1) := dk_96 (dk_at dksX13_reads_1 15 rfl rfl)
theorem dX13_reads_40 : decode cX13_reads 40 = .ok (.putfield 43, 3) := dk_181 0 43 (dk_at dksX13_reads_1 16 rfl rfl)
theorem dX13_reads_43 : decode cX13_reads 43 = .ok (.aload_n 0, 1) := dk_42 (dk_at dksX13_reads_1 19 rfl rfl)
theorem dX13_reads_44 : decode cX13_reads 44 = .ok (.invokevirtual 20, 3) := dk_182 0 20 (dk_at dksX13_reads_1 20 rfl rfl)
theorem dX13_reads_47 : decode cX13_reads 47 = .ok (.pop, 1) := dk_87 (dk_at dksX13_reads_1 23 rfl rfl)
theorem dX13_reads_48 : decode cX13_reads 48 = .ok (.goto (-43), 3) := dk_167 255 213 (dk_at dksX13_reads_2 0 rfl rfl)
theorem dX13_reads_51 : decode cX13_reads 51 = .ok (.aload_n 0, 1) := dk_42 (dk_at dksX13_reads_2 3 rfl rfl)
theorem dX13_reads_52 : decode cX13_reads 52 = .ok (.getfield 14, 3) := dk_180 0 14 (dk_at dksX13_reads_2 4 rfl rfl)
theorem dX13_reads_55 : decode cX13_reads 55 = .ok (.areturn, 1) := dk_176 (dk_at dksX13_reads_2 7 rfl rfl)
def dkwX13_clause_18 : List UInt8 := [42, 182, 0, 101, 54, 4, 42, 180, 0, 14, 180, 0, 114, 21, 4, 42, 182, 0, 101, 79, 177]
abbrev dktX13_clause_18 : List UInt8 := dkwX13_clause_18 ++ []
def dkwX13_clause_17 : List UInt8 := [180, 0, 72, 187, 0, 111, 89, 21, 4, 42, 4, 16, 99, 182, 0, 75, 183, 0, 113, 182, 0, 108, 87, 177]
abbrev dktX13_clause_17 : List UInt8 := dkwX13_clause_17 ++ dktX13_clause_18
def dkwX13_clause_16 : List UInt8 := [182, 0, 75, 183, 0, 105, 182, 0, 108, 87, 177, 42, 3, 8, 182, 0, 75, 54, 4, 42, 180, 0, 14]
abbrev dktX13_clause_16 : List UInt8 := dkwX13_clause_16 ++ dktX13_clause_17
def dkwX13_clause_15 : List UInt8 := [182, 0, 75, 54, 5, 42, 180, 0, 14, 180, 0, 64, 187, 0, 103, 89, 21, 4, 21, 5, 42, 4, 16, 30]
abbrev dktX13_clause_15 : List UInt8 := dkwX13_clause_15 ++ dktX13_clause_16
def dkwX13_clause_14 : List UInt8 := [180, 0, 14, 89, 180, 0, 61, 4, 96, 181, 0, 61, 177, 42, 182, 0, 101, 54, 4, 42, 3, 8]
abbrev dktX13_clause_14 : List UInt8 := dkwX13_clause_14 ++ dktX13_clause_15
def dkwX13_clause_13 : List UInt8 := [42, 180, 0, 14, 180, 0, 97, 42, 180, 0, 14, 180, 0, 61, 42, 3, 16, 15, 182, 0, 75, 79, 42]
abbrev dktX13_clause_13 : List UInt8 := dkwX13_clause_13 ++ dktX13_clause_14
def dkwX13_clause_12 : List UInt8 := [170, 0, 0, 0, 0, 0, 0, 144, 0, 0, 0, 0, 0, 0, 0, 2, 0, 0, 0, 28, 0, 0, 0, 64, 0, 0, 0, 108]
abbrev dktX13_clause_12 : List UInt8 := dkwX13_clause_12 ++ dktX13_clause_13
def dkwX13_clause_11 : List UInt8 := [62, 167, 0, 14, 44, 18, 59, 182, 0, 53, 153, 0, 5, 5, 62, 29]
abbrev dktX13_clause_11 : List UInt8 := dkwX13_clause_11 ++ dktX13_clause_12
def dkwX13_clause_10 : List UInt8 := [44, 18, 51, 182, 0, 53, 153, 0, 33, 3, 62, 167, 0, 28, 44, 18, 57, 182, 0, 53, 153, 0, 19, 4]
abbrev dktX13_clause_10 : List UInt8 := dkwX13_clause_10 ++ dktX13_clause_11
def dkwX13_clause_9 : List UInt8 := [171, 0, 0, 0, 0, 73, 0, 0, 0, 3, 202, 58, 250, 36, 0, 0, 0, 34, 222, 9, 59, 98, 0, 0, 0, 62, 6, 118, 3, 115, 0, 0, 0, 48]
abbrev dktX13_clause_9 : List UInt8 := dkwX13_clause_9 ++ dktX13_clause_10
def dkwX13_clause_8 : List UInt8 := [44, 182, 0, 46]
abbrev dktX13_clause_8 : List UInt8 := dkwX13_clause_8 ++ dktX13_clause_9
def dkwX13_clause_7 : List UInt8 := [180, 0, 24, 183, 0, 91, 191, 42, 89, 180, 0, 24, 43, 182, 0, 94, 96, 181, 0, 24, 43, 77, 2, 62]
abbrev dktX13_clause_7 : List UInt8 := dkwX13_clause_7 ++ dktX13_clause_8
def dkwX13_clause_6 : List UInt8 := [167, 0, 8, 42, 182, 0, 81, 191, 42, 43, 182, 0, 85, 153, 0, 16, 187, 0, 89, 89, 6, 42]
abbrev dktX13_clause_6 : List UInt8 := dkwX13_clause_6 ++ dktX13_clause_7
def dkwX13_clause_5 : List UInt8 := [170, 0, 0, 0, 0, 33, 0, 0, 0, 0, 0, 0, 0, 3, 0, 0, 0, 30, 0, 0, 0, 30, 0, 0, 0, 30, 0, 0, 0, 30]
abbrev dktX13_clause_5 : List UInt8 := dkwX13_clause_5 ++ dktX13_clause_6
def dkwX13_clause_4 : List UInt8 := [153, 0, 5, 6, 62, 29]
abbrev dktX13_clause_4 : List UInt8 := dkwX13_clause_4 ++ dktX13_clause_5
def dkwX13_clause_3 : List UInt8 := [62, 167, 0, 28, 44, 18, 59, 182, 0, 53, 153, 0, 19, 5, 62, 167, 0, 14, 44, 18, 79, 182, 0, 53]
abbrev dktX13_clause_3 : List UInt8 := dkwX13_clause_3 ++ dktX13_clause_4
def dkwX13_clause_2 : List UInt8 := [44, 18, 51, 182, 0, 53, 153, 0, 47, 3, 62, 167, 0, 42, 44, 18, 57, 182, 0, 53, 153, 0, 33, 4]
abbrev dktX13_clause_2 : List UInt8 := dkwX13_clause_2 ++ dktX13_clause_3
def dkwX13_clause_1 : List UInt8 := [171, 0, 0, 0, 0, 0, 0, 97, 0, 0, 0, 4, 202, 58, 250, 36, 0, 0, 0, 44, 222, 9, 59, 98, 0, 0, 0, 72, 0, 1, 200, 222, 0, 0, 0, 86, 6, 118, 3, 115, 0, 0, 0, 58]
abbrev dktX13_clause_1 : List UInt8 := dkwX13_clause_1 ++ dktX13_clause_2
def dkwX13_clause_0 : List UInt8 := [43, 77, 2, 62, 44, 182, 0, 46]
abbrev dktX13_clause_0 : List UInt8 := dkwX13_clause_0 ++ dktX13_clause_1
theorem dksX13_clause_0 : cX13_clause.data.toList.drop 0 = dktX13_clause_0 := by decide +kernel
theorem dksX13_clause_1 : cX13_clause.data.toList.drop 8 = dktX13_clause_1 := dk_seg dksX13_clause_0 8 rfl rfl
theorem dksX13_clause_2 : cX13_clause.data.toList.drop 52 = dktX13_clause_2 := dk_seg dksX13_clause_1 44 rfl rfl
theorem dksX13_clause_3 : cX13_clause.data.toList.drop 76 = dktX13_clause_3 := dk_seg dksX13_clause_2 24 rfl rfl
theorem dksX13_clause_4 : cX13_clause.data.toList.drop 100 = dktX13_clause_4 := dk_seg dksX13_clause_3 24 rfl rfl
theorem dksX13_clause_5 : cX13_clause.data.toList.drop 106 = dktX13_clause_5 := dk_seg dksX13_clause_4 6 rfl rfl
theorem dksX13_clause_6 : cX13_clause.data.toList.drop 136 = dktX13_clause_6 := dk_seg dksX13_clause_5 30 rfl rfl
theorem dksX13_clause_7 : cX13_clause.data.toList.drop 158 = dktX13_clause_7 := dk_seg dksX13_clause_6 22 rfl rfl
theorem dksX13_clause_8 : cX13_clause.data.toList.drop 182 = dktX13_clause_8 := dk_seg dksX13_clause_7 24 rfl rfl
theorem dksX13_clause_9 : cX13_clause.data.toList.drop 186 = dktX13_clause_9 := dk_seg dksX13_clause_8 4 rfl rfl
theorem dksX13_clause_10 : cX13_clause.data.toList.drop 220 = dktX13_clause_10 := dk_seg dksX13_clause_9 34 rfl rfl
theorem dksX13_clause_11 : cX13_clause.data.toList.drop 244 = dktX13_clause_11 := dk_seg dksX13_clause_10 24 rfl rfl
theorem dksX13_clause_12 : cX13_clause.data.toList.drop 260 = dktX13_clause_12 := dk_seg dksX13_clause_11 16 rfl rfl
theorem dksX13_clause_13 : cX13_clause.data.toList.drop 288 = dktX13_clause_13 := dk_seg dksX13_clause_12 28 rfl rfl
theorem dksX13_clause_14 : cX13_clause.data.toList.drop 311 = dktX13_clause_14 := dk_seg dksX13_clause_13 23 rfl rfl
theorem dksX13_clause_15 : cX13_clause.data.toList.drop 333 = dktX13_clause_15 := dk_seg dksX13_clause_14 22 rfl rfl
theorem dksX13_clause_16 : cX13_clause.data.toList.drop 357 = dktX13_clause_16 := dk_seg dksX13_clause_15 24 rfl rfl
theorem dksX13_clause_17 : cX13_clause.data.toList.drop 380 = dktX13_clause_17 := dk_seg dksX13_clause_16 23 rfl rfl
theorem dksX13_clause_18 : cX13_clause.data.toList.drop 404 = dktX13_clause_18 := dk_seg dksX13_clause_17 24 rfl rfl
theorem dX13_clause_0 : decode cX13_clause 0 = .ok (.aload_n 1, 1) := dk_43 (dk_at dksX13_clause_0 0 rfl rfl)
theorem dX13_clause_1 : decode cX13_clause 1 = .ok (.astore_n 2, 1) := dk_77 (dk_at dksX13_clause_0 1 rfl rfl)
theorem dX13_clause_2 : decode cX13_clause 2 = .ok (.iconst (-1), 1) := dk_2 (dk_at dksX13_clause_0 2 rfl rfl)
theorem dX13_clause_3 : decode cX13_clause 3 = .ok (.istore_n 3, 1) := dk_62 (dk_at dksX13_clause_0 3 rfl rfl)
theorem dX13_clause_4 : decode cX13_clause 4 = .ok (.aload_n 2, 1) := dk_44 (dk_at dksX13_clause_0 4 rfl rfl)
theorem dX13_clause_5 : decode cX13_clause 5 = .ok (.invokevirtual 46, 3) := dk_182 0 46 (dk_at dksX13_clause_0 5 rfl rfl)
theorem dX13_clause_8 : decode cX13_clause 8 = .ok (.lookupswitch 97 #[(-902104540, 44), (-569820318, 72), (116958, 86), (108397427, 58)], 44) := by decide +kernel
theorem dX13_clause_52 : decode cX13_clause 52 = .ok (.aload_n 2, 1) := dk_44 (dk_at dksX13_clause_2 0 rfl rfl)
theorem dX13_clause_53 : decode cX13_clause 53 = .ok (.ldc 51, 2) := dk_18 51 (dk_at dksX13_clause_2 1 rfl rfl)
theorem dX13_clause_55 : decode cX13_clause 55 = .ok (.invokevirtual 53, 3) := dk_182 0 53 (dk_at dksX13_clause_2 3 rfl rfl)
theorem dX13_clause_58 : decode cX13_clause 58 = .ok (.ifCond .eq 47, 3) := dk_153 0 47 (dk_at dksX13_clause_2 6 rfl rfl)
theorem dX13_clause_61 : decode cX13_clause 61 = .ok (.iconst 0, 1) := dk_3 (dk_at dksX13_clause_2 9 rfl rfl)
theorem dX13_clause_62 : decode cX13_clause 62 = .ok (.istore_n 3, 1) := dk_62 (dk_at dksX13_clause_2 10 rfl rfl)
theorem dX13_clause_63 : decode cX13_clause 63 = .ok (.goto 42, 3) := dk_167 0 42 (dk_at dksX13_clause_2 11 rfl rfl)
theorem dX13_clause_66 : decode cX13_clause 66 = .ok (.aload_n 2, 1) := dk_44 (dk_at dksX13_clause_2 14 rfl rfl)
theorem dX13_clause_67 : decode cX13_clause 67 = .ok (.ldc 57, 2) := dk_18 57 (dk_at dksX13_clause_2 15 rfl rfl)
theorem dX13_clause_69 : decode cX13_clause 69 = .ok (.invokevirtual 53, 3) := dk_182 0 53 (dk_at dksX13_clause_2 17 rfl rfl)
theorem dX13_clause_72 : decode cX13_clause 72 = .ok (.ifCond .eq 33, 3) := dk_153 0 33 (dk_at dksX13_clause_2 20 rfl rfl)
theorem dX13_clause_75 : decode cX13_clause 75 = .ok (.iconst 1, 1) := dk_4 (dk_at dksX13_clause_2 23 rfl rfl)
theorem dX13_clause_76 : decode cX13_clause 76 = .ok (.istore_n 3, 1) := dk_62 (dk_at dksX13_clause_3 0 rfl rfl)
theorem dX13_clause_77 : decode cX13_clause 77 = .ok (.goto 28, 3) := dk_167 0 28 (dk_at dksX13_clause_3 1 rfl rfl)
theorem dX13_clause_80 : decode cX13_clause 80 = .ok (.aload_n 2, 1) := dk_44 (dk_at dksX13_clause_3 4 rfl rfl)
theorem dX13_clause_81 : decode cX13_clause 81 = .ok (.ldc 59, 2) := dk_18 59 (dk_at dksX13_clause_3 5 rfl rfl)
theorem dX13_clause_83 : decode cX13_clause 83 = .ok (.invokevirtual 53, 3) := dk_182 0 53 (dk_at dksX13_clause_3 7 rfl rfl)
theorem dX13_clause_86 : decode cX13_clause 86 = .ok (.ifCond .eq 19, 3) := dk_153 0 19 (dk_at dksX13_clause_3 10 rfl rfl)
theorem dX13_clause_89 : decode cX13_clause 89 = .ok (.iconst 2, 1) := dk_5 (dk_at dksX13_clause_3 13 rfl rfl)
theorem dX13_clause_90 : decode cX13_clause 90 = .ok (.istore_n 3, 1) := dk_62 (dk_at dksX13_clause_3 14 rfl rfl)
theorem dX13_clause_91 : decode cX13_clause 91 = .ok (.goto 14, 3) := dk_167 0 14 (dk_at dksX13_clause_3 15 rfl rfl)
theorem dX13_clause_94 : decode cX13_clause 94 = .ok (.aload_n 2, 1) := dk_44 (dk_at dksX13_clause_3 18 rfl rfl)
theorem dX13_clause_95 : decode cX13_clause 95 = .ok (.ldc 79, 2) := dk_18 79 (dk_at dksX13_clause_3 19 rfl rfl)
theorem dX13_clause_97 : decode cX13_clause 97 = .ok (.invokevirtual 53, 3) := dk_182 0 53 (dk_at dksX13_clause_3 21 rfl rfl)
theorem dX13_clause_100 : decode cX13_clause 100 = .ok (.ifCond .eq 5, 3) := dk_153 0 5 (dk_at dksX13_clause_4 0 rfl rfl)
theorem dX13_clause_103 : decode cX13_clause 103 = .ok (.iconst 3, 1) := dk_6 (dk_at dksX13_clause_4 3 rfl rfl)
theorem dX13_clause_104 : decode cX13_clause 104 = .ok (.istore_n 3, 1) := dk_62 (dk_at dksX13_clause_4 4 rfl rfl)
theorem dX13_clause_105 : decode cX13_clause 105 = .ok (.iload_n 3, 1) := dk_29 (dk_at dksX13_clause_4 5 rfl rfl)
theorem dX13_clause_106 : decode cX13_clause 106 = .ok (.tableswitch 33 0 3 #[30, 30, 30, 30], 30) := by decide +kernel
theorem dX13_clause_136 : decode cX13_clause 136 = .ok (.goto 8, 3) := dk_167 0 8 (dk_at dksX13_clause_6 0 rfl rfl)
theorem dX13_clause_139 : decode cX13_clause 139 = .ok (.aload_n 0, 1) := dk_42 (dk_at dksX13_clause_6 3 rfl rfl)
theorem dX13_clause_140 : decode cX13_clause 140 = .ok (.invokevirtual 81, 3) := dk_182 0 81 (dk_at dksX13_clause_6 4 rfl rfl)
theorem dX13_clause_143 : decode cX13_clause 143 = .ok (.athrow, 1) := dk_191 (dk_at dksX13_clause_6 7 rfl rfl)
theorem dX13_clause_144 : decode cX13_clause 144 = .ok (.aload_n 0, 1) := dk_42 (dk_at dksX13_clause_6 8 rfl rfl)
theorem dX13_clause_145 : decode cX13_clause 145 = .ok (.aload_n 1, 1) := dk_43 (dk_at dksX13_clause_6 9 rfl rfl)
theorem dX13_clause_146 : decode cX13_clause 146 = .ok (.invokevirtual 85, 3) := dk_182 0 85 (dk_at dksX13_clause_6 10 rfl rfl)
theorem dX13_clause_149 : decode cX13_clause 149 = .ok (.ifCond .eq 16, 3) := dk_153 0 16 (dk_at dksX13_clause_6 13 rfl rfl)
theorem dX13_clause_152 : decode cX13_clause 152 = .ok (.new 89, 3) := dk_187 0 89 (dk_at dksX13_clause_6 16 rfl rfl)
theorem dX13_clause_155 : decode cX13_clause 155 = .ok (.dup, 1) := dk_89 (dk_at dksX13_clause_6 19 rfl rfl)
theorem dX13_clause_156 : decode cX13_clause 156 = .ok (.iconst 3, 1) := dk_6 (dk_at dksX13_clause_6 20 rfl rfl)
theorem dX13_clause_157 : decode cX13_clause 157 = .ok (.aload_n 0, 1) := dk_42 (dk_at dksX13_clause_6 21 rfl rfl)
theorem dX13_clause_158 : decode cX13_clause 158 = .ok (.getfield 24, 3) := dk_180 0 24 (dk_at dksX13_clause_7 0 rfl rfl)
theorem dX13_clause_161 : decode cX13_clause 161 = .ok (.invokespecial 91, 3) := dk_183 0 91 (dk_at dksX13_clause_7 3 rfl rfl)
theorem dX13_clause_164 : decode cX13_clause 164 = .ok (.athrow, 1) := dk_191 (dk_at dksX13_clause_7 6 rfl rfl)
theorem dX13_clause_165 : decode cX13_clause 165 = .ok (.aload_n 0, 1) := dk_42 (dk_at dksX13_clause_7 7 rfl rfl)
theorem dX13_clause_166 : decode cX13_clause 166 = .ok (.dup, 1) := dk_89 (dk_at dksX13_clause_7 8 rfl rfl)
theorem dX13_clause_167 : decode cX13_clause 167 = .ok (.getfield 24, 3) := dk_180 0 24 (dk_at dksX13_clause_7 9 rfl rfl)
theorem dX13_clause_170 : decode cX13_clause 170 = .ok (.aload_n 1, 1) := dk_43 (dk_at dksX13_clause_7 12 rfl rfl)
theorem dX13_clause_171 : decode cX13_clause 171 = .ok (.invokevirtual 94, 3) := dk_182 0 94 (dk_at dksX13_clause_7 13 rfl rfl)
theorem dX13_clause_174 : decode cX13_clause 174 = .ok (.iadd, 1) := dk_96 (dk_at dksX13_clause_7 16 rfl rfl)
theorem dX13_clause_175 : decode cX13_clause 175 = .ok (.putfield 24, 3) := dk_181 0 24 (dk_at dksX13_clause_7 17 rfl rfl)
theorem dX13_clause_178 : decode cX13_clause 178 = .ok (.aload_n 1, 1) := dk_43 (dk_at dksX13_clause_7 20 rfl rfl)
theorem dX13_clause_179 : decode cX13_clause 179 = .ok (.astore_n 2, 1) := dk_77 (dk_at dksX13_clause_7 21 rfl rfl)
theorem dX13_clause_180 : decode cX13_clause 180 = .ok (.iconst (-1), 1) := dk_2 (dk_at dksX13_clause_7 22 rfl rfl)
theorem dX13_clause_181 : decode cX13_clause 181 = .ok (.istore_n 3, 1) := dk_62 (dk_at dksX13_clause_7 23 rfl rfl)
theorem dX13_clause_182 : decode cX13_clause 182 = .ok (.aload_n 2, 1) := dk_44 (dk_at dksX13_clause_8 0 rfl rfl)
theorem dX13_clause_183 : decode cX13_clause 183 = .ok (.invokevirtual 46, 3) := dk_182 0 46 (dk_at dksX13_clause_8 1 rfl rfl)
theorem dX13_clause_186 : decode cX13_clause 186 = .ok (.lookupswitch 73 #[(-902104540, 34), (-569820318, 62), (108397427, 48)], 34) := by decide +kernel
theorem dX13_clause_220 : decode cX13_clause 220 = .ok (.aload_n 2, 1) := dk_44 (dk_at dksX13_clause_10 0 rfl rfl)
theorem dX13_clause_221 : decode cX13_clause 221 = .ok (.ldc 51, 2) := dk_18 51 (dk_at dksX13_clause_10 1 rfl rfl)
theorem dX13_clause_223 : decode cX13_clause 223 = .ok (.invokevirtual 53, 3) := dk_182 0 53 (dk_at dksX13_clause_10 3 rfl rfl)
theorem dX13_clause_226 : decode cX13_clause 226 = .ok (.ifCond .eq 33, 3) := dk_153 0 33 (dk_at dksX13_clause_10 6 rfl rfl)
theorem dX13_clause_229 : decode cX13_clause 229 = .ok (.iconst 0, 1) := dk_3 (dk_at dksX13_clause_10 9 rfl rfl)
theorem dX13_clause_230 : decode cX13_clause 230 = .ok (.istore_n 3, 1) := dk_62 (dk_at dksX13_clause_10 10 rfl rfl)
theorem dX13_clause_231 : decode cX13_clause 231 = .ok (.goto 28, 3) := dk_167 0 28 (dk_at dksX13_clause_10 11 rfl rfl)
theorem dX13_clause_234 : decode cX13_clause 234 = .ok (.aload_n 2, 1) := dk_44 (dk_at dksX13_clause_10 14 rfl rfl)
theorem dX13_clause_235 : decode cX13_clause 235 = .ok (.ldc 57, 2) := dk_18 57 (dk_at dksX13_clause_10 15 rfl rfl)
theorem dX13_clause_237 : decode cX13_clause 237 = .ok (.invokevirtual 53, 3) := dk_182 0 53 (dk_at dksX13_clause_10 17 rfl rfl)
theorem dX13_clause_240 : decode cX13_clause 240 = .ok (.ifCond .eq 19, 3) := dk_153 0 19 (dk_at dksX13_clause_10 20 rfl rfl)
theorem dX13_clause_243 : decode cX13_clause 243 = .ok (.iconst 1, 1) := dk_4 (dk_at dksX13_clause_10 23 rfl rfl)
theorem dX13_clause_244 : decode cX13_clause 244 = .ok (.istore_n 3, 1) := dk_62 (dk_at dksX13_clause_11 0 rfl rfl)
theorem dX13_clause_245 : decode cX13_clause 245 = .ok (.goto 14, 3) := dk_167 0 14 (dk_at dksX13_clause_11 1 rfl rfl)
theorem dX13_clause_248 : decode cX13_clause 248 = .ok (.aload_n 2, 1) := dk_44 (dk_at dksX13_clause_11 4 rfl rfl)
theorem dX13_clause_249 : decode cX13_clause 249 = .ok (.ldc 59, 2) := dk_18 59 (dk_at dksX13_clause_11 5 rfl rfl)
theorem dX13_clause_251 : decode cX13_clause 251 = .ok (.invokevirtual 53, 3) := dk_182 0 53 (dk_at dksX13_clause_11 7 rfl rfl)
theorem dX13_clause_254 : decode cX13_clause 254 = .ok (.ifCond .eq 5, 3) := dk_153 0 5 (dk_at dksX13_clause_11 10 rfl rfl)
theorem dX13_clause_257 : decode cX13_clause 257 = .ok (.iconst 2, 1) := dk_5 (dk_at dksX13_clause_11 13 rfl rfl)
theorem dX13_clause_258 : decode cX13_clause 258 = .ok (.istore_n 3, 1) := dk_62 (dk_at dksX13_clause_11 14 rfl rfl)
theorem dX13_clause_259 : decode cX13_clause 259 = .ok (.iload_n 3, 1) := dk_29 (dk_at dksX13_clause_11 15 rfl rfl)
theorem dX13_clause_260 : decode cX13_clause 260 = .ok (.tableswitch 144 0 2 #[28, 64, 108], 28) := by decide +kernel
theorem dX13_clause_288 : decode cX13_clause 288 = .ok (.aload_n 0, 1) := dk_42 (dk_at dksX13_clause_13 0 rfl rfl)
theorem dX13_clause_289 : decode cX13_clause 289 = .ok (.getfield 14, 3) := dk_180 0 14 (dk_at dksX13_clause_13 1 rfl rfl)
theorem dX13_clause_292 : decode cX13_clause 292 = .ok (.getfield 97, 3) := dk_180 0 97 (dk_at dksX13_clause_13 4 rfl rfl)
theorem dX13_clause_295 : decode cX13_clause 295 = .ok (.aload_n 0, 1) := dk_42 (dk_at dksX13_clause_13 7 rfl rfl)
theorem dX13_clause_296 : decode cX13_clause 296 = .ok (.getfield 14, 3) := dk_180 0 14 (dk_at dksX13_clause_13 8 rfl rfl)
theorem dX13_clause_299 : decode cX13_clause 299 = .ok (.getfield 61, 3) := dk_180 0 61 (dk_at dksX13_clause_13 11 rfl rfl)
theorem dX13_clause_302 : decode cX13_clause 302 = .ok (.aload_n 0, 1) := dk_42 (dk_at dksX13_clause_13 14 rfl rfl)
theorem dX13_clause_303 : decode cX13_clause 303 = .ok (.iconst 0, 1) := dk_3 (dk_at dksX13_clause_13 15 rfl rfl)
theorem dX13_clause_304 : decode cX13_clause 304 = .ok (.bipush 15, 2) := dk_16 15 (dk_at dksX13_clause_13 16 rfl rfl)
theorem dX13_clause_306 : decode cX13_clause 306 = .ok (.invokevirtual 75, 3) := dk_182 0 75 (dk_at dksX13_clause_13 18 rfl rfl)
theorem dX13_clause_309 : decode cX13_clause 309 = .ok (.iastore, 1) := dk_79 (dk_at dksX13_clause_13 21 rfl rfl)
theorem dX13_clause_310 : decode cX13_clause 310 = .ok (.aload_n 0, 1) := dk_42 (dk_at dksX13_clause_13 22 rfl rfl)
theorem dX13_clause_311 : decode cX13_clause 311 = .ok (.getfield 14, 3) := dk_180 0 14 (dk_at dksX13_clause_14 0 rfl rfl)
theorem dX13_clause_314 : decode cX13_clause 314 = .ok (.dup, 1) := dk_89 (dk_at dksX13_clause_14 3 rfl rfl)
theorem dX13_clause_315 : decode cX13_clause 315 = .ok (.getfield 61, 3) := dk_180 0 61 (dk_at dksX13_clause_14 4 rfl rfl)
theorem dX13_clause_318 : decode cX13_clause 318 = .ok (.iconst 1, 1) := dk_4 (dk_at dksX13_clause_14 7 rfl rfl)
theorem dX13_clause_319 : decode cX13_clause 319 = .ok (.iadd, 1) := dk_96 (dk_at dksX13_clause_14 8 rfl rfl)
theorem dX13_clause_320 : decode cX13_clause 320 = .ok (.putfield 61, 3) := dk_181 0 61 (dk_at dksX13_clause_14 9 rfl rfl)
theorem dX13_clause_323 : decode cX13_clause 323 = .ok (.return_, 1) := dk_177 (dk_at dksX13_clause_14 12 rfl rfl)
theorem dX13_clause_324 : decode cX13_clause 324 = .ok (.aload_n 0, 1) := dk_42 (dk_at dksX13_clause_14 13 rfl rfl)
theorem dX13_clause_325 : decode cX13_clause 325 = .ok (.invokevirtual 101, 3) := dk_182 0 101 (dk_at dksX13_clause_14 14 rfl rfl)
theorem dX13_clause_328 : decode cX13_clause 328 = .ok (.istore 4, 2) := dk_54 4 (dk_at dksX13_clause_14 17 rfl rfl)
theorem dX13_clause_330 : decode cX13_clause 330 = .ok (.aload_n 0, 1) := dk_42 (dk_at dksX13_clause_14 19 rfl rfl)
theorem dX13_clause_331 : decode cX13_clause 331 = .ok (.iconst 0, 1) := dk_3 (dk_at dksX13_clause_14 20 rfl rfl)
theorem dX13_clause_332 : decode cX13_clause 332 = .ok (.iconst 5, 1) := dk_8 (dk_at dksX13_clause_14 21 rfl rfl)
theorem dX13_clause_333 : decode cX13_clause 333 = .ok (.invokevirtual 75, 3) := dk_182 0 75 (dk_at dksX13_clause_15 0 rfl rfl)
theorem dX13_clause_336 : decode cX13_clause 336 = .ok (.istore 5, 2) := dk_54 5 (dk_at dksX13_clause_15 3 rfl rfl)
theorem dX13_clause_338 : decode cX13_clause 338 = .ok (.aload_n 0, 1) := dk_42 (dk_at dksX13_clause_15 5 rfl rfl)
theorem dX13_clause_339 : decode cX13_clause 339 = .ok (.getfield 14, 3) := dk_180 0 14 (dk_at dksX13_clause_15 6 rfl rfl)
theorem dX13_clause_342 : decode cX13_clause 342 = .ok (.getfield 64, 3) := dk_180 0 64 (dk_at dksX13_clause_15 9 rfl rfl)
theorem dX13_clause_345 : decode cX13_clause 345 = .ok (.new 103, 3) := dk_187 0 103 (dk_at dksX13_clause_15 12 rfl rfl)
theorem dX13_clause_348 : decode cX13_clause 348 = .ok (.dup, 1) := dk_89 (dk_at dksX13_clause_15 15 rfl rfl)
theorem dX13_clause_349 : decode cX13_clause 349 = .ok (.iload 4, 2) := dk_21 4 (dk_at dksX13_clause_15 16 rfl rfl)
theorem dX13_clause_351 : decode cX13_clause 351 = .ok (.iload 5, 2) := dk_21 5 (dk_at dksX13_clause_15 18 rfl rfl)
theorem dX13_clause_353 : decode cX13_clause 353 = .ok (.aload_n 0, 1) := dk_42 (dk_at dksX13_clause_15 20 rfl rfl)
theorem dX13_clause_354 : decode cX13_clause 354 = .ok (.iconst 1, 1) := dk_4 (dk_at dksX13_clause_15 21 rfl rfl)
theorem dX13_clause_355 : decode cX13_clause 355 = .ok (.bipush 30, 2) := dk_16 30 (dk_at dksX13_clause_15 22 rfl rfl)
theorem dX13_clause_357 : decode cX13_clause 357 = .ok (.invokevirtual 75, 3) := dk_182 0 75 (dk_at dksX13_clause_16 0 rfl rfl)
theorem dX13_clause_360 : decode cX13_clause 360 = .ok (.invokespecial 105, 3) := dk_183 0 105 (dk_at dksX13_clause_16 3 rfl rfl)
theorem dX13_clause_363 : decode cX13_clause 363 = .ok (.invokevirtual 108, 3) := dk_182 0 108 (dk_at dksX13_clause_16 6 rfl rfl)
theorem dX13_clause_366 : decode cX13_clause 366 = .ok (.pop, 1) := dk_87 (dk_at dksX13_clause_16 9 rfl rfl)
theorem dX13_clause_367 : decode cX13_clause 367 = .ok (.return_, 1) := dk_177 (dk_at dksX13_clause_16 10 rfl rfl)
theorem dX13_clause_368 : decode cX13_clause 368 = .ok (.aload_n 0, 1) := dk_42 (dk_at dksX13_clause_16 11 rfl rfl)
theorem dX13_clause_369 : decode cX13_clause 369 = .ok (.iconst 0, 1) := dk_3 (dk_at dksX13_clause_16 12 rfl rfl)
theorem dX13_clause_370 : decode cX13_clause 370 = .ok (.iconst 5, 1) := dk_8 (dk_at dksX13_clause_16 13 rfl rfl)
theorem dX13_clause_371 : decode cX13_clause 371 = .ok (.invokevirtual 75, 3) := dk_182 0 75 (dk_at dksX13_clause_16 14 rfl rfl)
theorem dX13_clause_374 : decode cX13_clause 374 = .ok (.istore 4, 2) := dk_54 4 (dk_at dksX13_clause_16 17 rfl rfl)
theorem dX13_clause_376 : decode cX13_clause 376 = .ok (.aload_n 0, 1) := dk_42 (dk_at dksX13_clause_16 19 rfl rfl)
theorem dX13_clause_377 : decode cX13_clause 377 = .ok (.getfield 14, 3) := dk_180 0 14 (dk_at dksX13_clause_16 20 rfl rfl)
theorem dX13_clause_380 : decode cX13_clause 380 = .ok (.getfield 72, 3) := dk_180 0 72 (dk_at dksX13_clause_17 0 rfl rfl)
theorem dX13_clause_383 : decode cX13_clause 383 = .ok (.new 111, 3) := dk_187 0 111 (dk_at dksX13_clause_17 3 rfl rfl)
theorem dX13_clause_386 : decode cX13_clause 386 = .ok (.dup, 1) := dk_89 (dk_at dksX13_clause_17 6 rfl rfl)
theorem dX13_clause_387 : decode cX13_clause 387 = .ok (.iload 4, 2) := dk_21 4 (dk_at dksX13_clause_17 7 rfl rfl)
theorem dX13_clause_389 : decode cX13_clause 389 = .ok (.aload_n 0, 1) := dk_42 (dk_at dksX13_clause_17 9 rfl rfl)
theorem dX13_clause_390 : decode cX13_clause 390 = .ok (.iconst 1, 1) := dk_4 (dk_at dksX13_clause_17 10 rfl rfl)
theorem dX13_clause_391 : decode cX13_clause 391 = .ok (.bipush 99, 2) := dk_16 99 (dk_at dksX13_clause_17 11 rfl rfl)
theorem dX13_clause_393 : decode cX13_clause 393 = .ok (.invokevirtual 75, 3) := dk_182 0 75 (dk_at dksX13_clause_17 13 rfl rfl)
theorem dX13_clause_396 : decode cX13_clause 396 = .ok (.invokespecial 113, 3) := dk_183 0 113 (dk_at dksX13_clause_17 16 rfl rfl)
theorem dX13_clause_399 : decode cX13_clause 399 = .ok (.invokevirtual 108, 3) := dk_182 0 108 (dk_at dksX13_clause_17 19 rfl rfl)
theorem dX13_clause_402 : decode cX13_clause 402 = .ok (.pop, 1) := dk_87 (dk_at dksX13_clause_17 22 rfl rfl)
theorem dX13_clause_403 : decode cX13_clause 403 = .ok (.return_, 1) := dk_177 (dk_at dksX13_clause_17 23 rfl rfl)
theorem dX13_clause_404 : decode cX13_clause 404 = .ok (.aload_n 0, 1) := dk_42 (dk_at dksX13_clause_18 0 rfl rfl)
theorem dX13_clause_405 : decode cX13_clause 405 = .ok (.invokevirtual 101, 3) := dk_182 0 101 (dk_at dksX13_clause_18 1 rfl rfl)
theorem dX13_clause_408 : decode cX13_clause 408 = .ok (.istore 4, 2) := dk_54 4 (dk_at dksX13_clause_18 4 rfl rfl)
theorem dX13_clause_410 : decode cX13_clause 410 = .ok (.aload_n 0, 1) := dk_42 (dk_at dksX13_clause_18 6 rfl rfl)
theorem dX13_clause_411 : decode cX13_clause 411 = .ok (.getfield 14, 3) := dk_180 0 14 (dk_at dksX13_clause_18 7 rfl rfl)
theorem dX13_clause_414 : decode cX13_clause 414 = .ok (.getfield 114, 3) := dk_180 0 114 (dk_at dksX13_clause_18 10 rfl rfl)
theorem dX13_clause_417 : decode cX13_clause 417 = .ok (.iload 4, 2) := dk_21 4 (dk_at dksX13_clause_18 13 rfl rfl)
theorem dX13_clause_419 : decode cX13_clause 419 = .ok (.aload_n 0, 1) := dk_42 (dk_at dksX13_clause_18 15 rfl rfl)
theorem dX13_clause_420 : decode cX13_clause 420 = .ok (.invokevirtual 101, 3) := dk_182 0 101 (dk_at dksX13_clause_18 16 rfl rfl)
theorem dX13_clause_423 : decode cX13_clause 423 = .ok (.iastore, 1) := dk_79 (dk_at dksX13_clause_18 19 rfl rfl)
theorem dX13_clause_424 : decode cX13_clause 424 = .ok (.return_, 1) := dk_177 (dk_at dksX13_clause_18 20 rfl rfl)
def dkwX13_isFull_7 : List UInt8 := [182, 0, 68, 16, 8, 160, 0, 7, 4, 167, 0, 4, 3, 172, 3, 172]
abbrev dktX13_isFull_7 : List UInt8 := dkwX13_isFull_7 ++ []
def dkwX13_isFull_6 : List UInt8 := [180, 0, 64, 182, 0, 68, 16, 10, 160, 0, 7, 4, 167, 0, 4, 3, 172, 42, 180, 0, 14, 180, 0, 72]
abbrev dktX13_isFull_6 : List UInt8 := dkwX13_isFull_6 ++ dktX13_isFull_7
def dkwX13_isFull_5 : List UInt8 := [42, 180, 0, 14, 180, 0, 61, 16, 8, 160, 0, 7, 4, 167, 0, 4, 3, 172, 42, 180, 0, 14]
abbrev dktX13_isFull_5 : List UInt8 := dkwX13_isFull_5 ++ dktX13_isFull_6
def dkwX13_isFull_4 : List UInt8 := [170, 0, 0, 0, 0, 0, 0, 88, 0, 0, 0, 0, 0, 0, 0, 2, 0, 0, 0, 28, 0, 0, 0, 46, 0, 0, 0, 67]
abbrev dktX13_isFull_4 : List UInt8 := dkwX13_isFull_4 ++ dktX13_isFull_5
def dkwX13_isFull_3 : List UInt8 := [62, 167, 0, 14, 44, 18, 59, 182, 0, 53, 153, 0, 5, 5, 62, 29]
abbrev dktX13_isFull_3 : List UInt8 := dkwX13_isFull_3 ++ dktX13_isFull_4
def dkwX13_isFull_2 : List UInt8 := [44, 18, 51, 182, 0, 53, 153, 0, 33, 3, 62, 167, 0, 28, 44, 18, 57, 182, 0, 53, 153, 0, 19, 4]
abbrev dktX13_isFull_2 : List UInt8 := dkwX13_isFull_2 ++ dktX13_isFull_3
def dkwX13_isFull_1 : List UInt8 := [171, 0, 0, 0, 0, 73, 0, 0, 0, 3, 202, 58, 250, 36, 0, 0, 0, 34, 222, 9, 59, 98, 0, 0, 0, 62, 6, 118, 3, 115, 0, 0, 0, 48]
abbrev dktX13_isFull_1 : List UInt8 := dkwX13_isFull_1 ++ dktX13_isFull_2
def dkwX13_isFull_0 : List UInt8 := [42, 180, 0, 14, 180, 0, 43, 16, 60, 160, 0, 5, 4, 172, 43, 77, 2, 62, 44, 182, 0, 46]
abbrev dktX13_isFull_0 : List UInt8 := dkwX13_isFull_0 ++ dktX13_isFull_1
theorem dksX13_isFull_0 : cX13_isFull.data.toList.drop 0 = dktX13_isFull_0 := by decide +kernel
theorem dksX13_isFull_1 : cX13_isFull.data.toList.drop 22 = dktX13_isFull_1 := dk_seg dksX13_isFull_0 22 rfl rfl
theorem dksX13_isFull_2 : cX13_isFull.data.toList.drop 56 = dktX13_isFull_2 := dk_seg dksX13_isFull_1 34 rfl rfl
theorem dksX13_isFull_3 : cX13_isFull.data.toList.drop 80 = dktX13_isFull_3 := dk_seg dksX13_isFull_2 24 rfl rfl
theorem dksX13_isFull_4 : cX13_isFull.data.toList.drop 96 = dktX13_isFull_4 := dk_seg dksX13_isFull_3 16 rfl rfl
theorem dksX13_isFull_5 : cX13_isFull.data.toList.drop 124 = dktX13_isFull_5 := dk_seg dksX13_isFull_4 28 rfl rfl
theorem dksX13_isFull_6 : cX13_isFull.data.toList.drop 146 = dktX13_isFull_6 := dk_seg dksX13_isFull_5 22 rfl rfl
theorem dksX13_isFull_7 : cX13_isFull.data.toList.drop 170 = dktX13_isFull_7 := dk_seg dksX13_isFull_6 24 rfl rfl
theorem dX13_isFull_0 : decode cX13_isFull 0 = .ok (.aload_n 0, 1) := dk_42 (dk_at dksX13_isFull_0 0 rfl rfl)
theorem dX13_isFull_1 : decode cX13_isFull 1 = .ok (.getfield 14, 3) := dk_180 0 14 (dk_at dksX13_isFull_0 1 rfl rfl)
theorem dX13_isFull_4 : decode cX13_isFull 4 = .ok (.getfield 43, 3) := dk_180 0 43 (dk_at dksX13_isFull_0 4 rfl rfl)
theorem dX13_isFull_7 : decode cX13_isFull 7 = .ok (.bipush 60, 2) := dk_16 60 (dk_at dksX13_isFull_0 7 rfl rfl)
theorem dX13_isFull_9 : decode cX13_isFull 9 = .ok (.if_icmp .ne 5, 3) := dk_160 0 5 (dk_at dksX13_isFull_0 9 rfl rfl)
theorem dX13_isFull_12 : decode cX13_isFull 12 = .ok (.iconst 1, 1) := dk_4 (dk_at dksX13_isFull_0 12 rfl rfl)
theorem dX13_isFull_13 : decode cX13_isFull 13 = .ok (.ireturn, 1) := dk_172 (dk_at dksX13_isFull_0 13 rfl rfl)
theorem dX13_isFull_14 : decode cX13_isFull 14 = .ok (.aload_n 1, 1) := dk_43 (dk_at dksX13_isFull_0 14 rfl rfl)
theorem dX13_isFull_15 : decode cX13_isFull 15 = .ok (.astore_n 2, 1) := dk_77 (dk_at dksX13_isFull_0 15 rfl rfl)
theorem dX13_isFull_16 : decode cX13_isFull 16 = .ok (.iconst (-1), 1) := dk_2 (dk_at dksX13_isFull_0 16 rfl rfl)
theorem dX13_isFull_17 : decode cX13_isFull 17 = .ok (.istore_n 3, 1) := dk_62 (dk_at dksX13_isFull_0 17 rfl rfl)
theorem dX13_isFull_18 : decode cX13_isFull 18 = .ok (.aload_n 2, 1) := dk_44 (dk_at dksX13_isFull_0 18 rfl rfl)
theorem dX13_isFull_19 : decode cX13_isFull 19 = .ok (.invokevirtual 46, 3) := dk_182 0 46 (dk_at dksX13_isFull_0 19 rfl rfl)
theorem dX13_isFull_22 : decode cX13_isFull 22 = .ok (.lookupswitch 73 #[(-902104540, 34), (-569820318, 62), (108397427, 48)], 34) := by decide +kernel
theorem dX13_isFull_56 : decode cX13_isFull 56 = .ok (.aload_n 2, 1) := dk_44 (dk_at dksX13_isFull_2 0 rfl rfl)
theorem dX13_isFull_57 : decode cX13_isFull 57 = .ok (.ldc 51, 2) := dk_18 51 (dk_at dksX13_isFull_2 1 rfl rfl)
theorem dX13_isFull_59 : decode cX13_isFull 59 = .ok (.invokevirtual 53, 3) := dk_182 0 53 (dk_at dksX13_isFull_2 3 rfl rfl)
theorem dX13_isFull_62 : decode cX13_isFull 62 = .ok (.ifCond .eq 33, 3) := dk_153 0 33 (dk_at dksX13_isFull_2 6 rfl rfl)
theorem dX13_isFull_65 : decode cX13_isFull 65 = .ok (.iconst 0, 1) := dk_3 (dk_at dksX13_isFull_2 9 rfl rfl)
theorem dX13_isFull_66 : decode cX13_isFull 66 = .ok (.istore_n 3, 1) := dk_62 (dk_at dksX13_isFull_2 10 rfl rfl)
theorem dX13_isFull_67 : decode cX13_isFull 67 = .ok (.goto 28, 3) := dk_167 0 28 (dk_at dksX13_isFull_2 11 rfl rfl)
theorem dX13_isFull_70 : decode cX13_isFull 70 = .ok (.aload_n 2, 1) := dk_44 (dk_at dksX13_isFull_2 14 rfl rfl)
theorem dX13_isFull_71 : decode cX13_isFull 71 = .ok (.ldc 57, 2) := dk_18 57 (dk_at dksX13_isFull_2 15 rfl rfl)
theorem dX13_isFull_73 : decode cX13_isFull 73 = .ok (.invokevirtual 53, 3) := dk_182 0 53 (dk_at dksX13_isFull_2 17 rfl rfl)
theorem dX13_isFull_76 : decode cX13_isFull 76 = .ok (.ifCond .eq 19, 3) := dk_153 0 19 (dk_at dksX13_isFull_2 20 rfl rfl)
theorem dX13_isFull_79 : decode cX13_isFull 79 = .ok (.iconst 1, 1) := dk_4 (dk_at dksX13_isFull_2 23 rfl rfl)
theorem dX13_isFull_80 : decode cX13_isFull 80 = .ok (.istore_n 3, 1) := dk_62 (dk_at dksX13_isFull_3 0 rfl rfl)
theorem dX13_isFull_81 : decode cX13_isFull 81 = .ok (.goto 14, 3) := dk_167 0 14 (dk_at dksX13_isFull_3 1 rfl rfl)
theorem dX13_isFull_84 : decode cX13_isFull 84 = .ok (.aload_n 2, 1) := dk_44 (dk_at dksX13_isFull_3 4 rfl rfl)
theorem dX13_isFull_85 : decode cX13_isFull 85 = .ok (.ldc 59, 2) := dk_18 59 (dk_at dksX13_isFull_3 5 rfl rfl)
theorem dX13_isFull_87 : decode cX13_isFull 87 = .ok (.invokevirtual 53, 3) := dk_182 0 53 (dk_at dksX13_isFull_3 7 rfl rfl)
theorem dX13_isFull_90 : decode cX13_isFull 90 = .ok (.ifCond .eq 5, 3) := dk_153 0 5 (dk_at dksX13_isFull_3 10 rfl rfl)
theorem dX13_isFull_93 : decode cX13_isFull 93 = .ok (.iconst 2, 1) := dk_5 (dk_at dksX13_isFull_3 13 rfl rfl)
theorem dX13_isFull_94 : decode cX13_isFull 94 = .ok (.istore_n 3, 1) := dk_62 (dk_at dksX13_isFull_3 14 rfl rfl)
theorem dX13_isFull_95 : decode cX13_isFull 95 = .ok (.iload_n 3, 1) := dk_29 (dk_at dksX13_isFull_3 15 rfl rfl)
theorem dX13_isFull_96 : decode cX13_isFull 96 = .ok (.tableswitch 88 0 2 #[28, 46, 67], 28) := by decide +kernel
theorem dX13_isFull_124 : decode cX13_isFull 124 = .ok (.aload_n 0, 1) := dk_42 (dk_at dksX13_isFull_5 0 rfl rfl)
theorem dX13_isFull_125 : decode cX13_isFull 125 = .ok (.getfield 14, 3) := dk_180 0 14 (dk_at dksX13_isFull_5 1 rfl rfl)
theorem dX13_isFull_128 : decode cX13_isFull 128 = .ok (.getfield 61, 3) := dk_180 0 61 (dk_at dksX13_isFull_5 4 rfl rfl)
theorem dX13_isFull_131 : decode cX13_isFull 131 = .ok (.bipush 8, 2) := dk_16 8 (dk_at dksX13_isFull_5 7 rfl rfl)
theorem dX13_isFull_133 : decode cX13_isFull 133 = .ok (.if_icmp .ne 7, 3) := dk_160 0 7 (dk_at dksX13_isFull_5 9 rfl rfl)
theorem dX13_isFull_136 : decode cX13_isFull 136 = .ok (.iconst 1, 1) := dk_4 (dk_at dksX13_isFull_5 12 rfl rfl)
theorem dX13_isFull_137 : decode cX13_isFull 137 = .ok (.goto 4, 3) := dk_167 0 4 (dk_at dksX13_isFull_5 13 rfl rfl)
theorem dX13_isFull_140 : decode cX13_isFull 140 = .ok (.iconst 0, 1) := dk_3 (dk_at dksX13_isFull_5 16 rfl rfl)
theorem dX13_isFull_141 : decode cX13_isFull 141 = .ok (.ireturn, 1) := dk_172 (dk_at dksX13_isFull_5 17 rfl rfl)
theorem dX13_isFull_142 : decode cX13_isFull 142 = .ok (.aload_n 0, 1) := dk_42 (dk_at dksX13_isFull_5 18 rfl rfl)
theorem dX13_isFull_143 : decode cX13_isFull 143 = .ok (.getfield 14, 3) := dk_180 0 14 (dk_at dksX13_isFull_5 19 rfl rfl)
theorem dX13_isFull_146 : decode cX13_isFull 146 = .ok (.getfield 64, 3) := dk_180 0 64 (dk_at dksX13_isFull_6 0 rfl rfl)
theorem dX13_isFull_149 : decode cX13_isFull 149 = .ok (.invokevirtual 68, 3) := dk_182 0 68 (dk_at dksX13_isFull_6 3 rfl rfl)
theorem dX13_isFull_152 : decode cX13_isFull 152 = .ok (.bipush 10, 2) := dk_16 10 (dk_at dksX13_isFull_6 6 rfl rfl)
theorem dX13_isFull_154 : decode cX13_isFull 154 = .ok (.if_icmp .ne 7, 3) := dk_160 0 7 (dk_at dksX13_isFull_6 8 rfl rfl)
theorem dX13_isFull_157 : decode cX13_isFull 157 = .ok (.iconst 1, 1) := dk_4 (dk_at dksX13_isFull_6 11 rfl rfl)
theorem dX13_isFull_158 : decode cX13_isFull 158 = .ok (.goto 4, 3) := dk_167 0 4 (dk_at dksX13_isFull_6 12 rfl rfl)
theorem dX13_isFull_161 : decode cX13_isFull 161 = .ok (.iconst 0, 1) := dk_3 (dk_at dksX13_isFull_6 15 rfl rfl)
theorem dX13_isFull_162 : decode cX13_isFull 162 = .ok (.ireturn, 1) := dk_172 (dk_at dksX13_isFull_6 16 rfl rfl)
theorem dX13_isFull_163 : decode cX13_isFull 163 = .ok (.aload_n 0, 1) := dk_42 (dk_at dksX13_isFull_6 17 rfl rfl)
theorem dX13_isFull_164 : decode cX13_isFull 164 = .ok (.getfield 14, 3) := dk_180 0 14 (dk_at dksX13_isFull_6 18 rfl rfl)
theorem dX13_isFull_167 : decode cX13_isFull 167 = .ok (.getfield 72, 3) := dk_180 0 72 (dk_at dksX13_isFull_6 21 rfl rfl)
theorem dX13_isFull_170 : decode cX13_isFull 170 = .ok (.invokevirtual 68, 3) := dk_182 0 68 (dk_at dksX13_isFull_7 0 rfl rfl)
theorem dX13_isFull_173 : decode cX13_isFull 173 = .ok (.bipush 8, 2) := dk_16 8 (dk_at dksX13_isFull_7 3 rfl rfl)
theorem dX13_isFull_175 : decode cX13_isFull 175 = .ok (.if_icmp .ne 7, 3) := dk_160 0 7 (dk_at dksX13_isFull_7 5 rfl rfl)
theorem dX13_isFull_178 : decode cX13_isFull 178 = .ok (.iconst 1, 1) := dk_4 (dk_at dksX13_isFull_7 8 rfl rfl)
theorem dX13_isFull_179 : decode cX13_isFull 179 = .ok (.goto 4, 3) := dk_167 0 4 (dk_at dksX13_isFull_7 9 rfl rfl)
theorem dX13_isFull_182 : decode cX13_isFull 182 = .ok (.iconst 0, 1) := dk_3 (dk_at dksX13_isFull_7 12 rfl rfl)
theorem dX13_isFull_183 : decode cX13_isFull 183 = .ok (.ireturn, 1) := dk_172 (dk_at dksX13_isFull_7 13 rfl rfl)
theorem dX13_isFull_184 : decode cX13_isFull 184 = .ok (.iconst 0, 1) := dk_3 (dk_at dksX13_isFull_7 14 rfl rfl)
theorem dX13_isFull_185 : decode cX13_isFull 185 = .ok (.ireturn, 1) := dk_172 (dk_at dksX13_isFull_7 15 rfl rfl)
def dkwX13_sister_0 : List UInt8 := [42, 3, 42, 180, 0, 14, 180, 0, 61, 4, 100, 182, 0, 75, 172]
abbrev dktX13_sister_0 : List UInt8 := dkwX13_sister_0 ++ []
theorem dksX13_sister_0 : cX13_sister.data.toList.drop 0 = dktX13_sister_0 := by decide +kernel
theorem dX13_sister_0 : decode cX13_sister 0 = .ok (.aload_n 0, 1) := dk_42 (dk_at dksX13_sister_0 0 rfl rfl)
theorem dX13_sister_1 : decode cX13_sister 1 = .ok (.iconst 0, 1) := dk_3 (dk_at dksX13_sister_0 1 rfl rfl)
theorem dX13_sister_2 : decode cX13_sister 2 = .ok (.aload_n 0, 1) := dk_42 (dk_at dksX13_sister_0 2 rfl rfl)
theorem dX13_sister_3 : decode cX13_sister 3 = .ok (.getfield 14, 3) := dk_180 0 14 (dk_at dksX13_sister_0 3 rfl rfl)
theorem dX13_sister_6 : decode cX13_sister 6 = .ok (.getfield 61, 3) := dk_180 0 61 (dk_at dksX13_sister_0 6 rfl rfl)
theorem dX13_sister_9 : decode cX13_sister 9 = .ok (.iconst 1, 1) := dk_4 (dk_at dksX13_sister_0 9 rfl rfl)
theorem dX13_sister_10 : decode cX13_sister 10 = .ok (.isub, 1) := dk_100 (dk_at dksX13_sister_0 10 rfl rfl)
theorem dX13_sister_11 : decode cX13_sister 11 = .ok (.invokevirtual 75, 3) := dk_182 0 75 (dk_at dksX13_sister_0 11 rfl rfl)
theorem dX13_sister_14 : decode cX13_sister 14 = .ok (.ireturn, 1) := dk_172 (dk_at dksX13_sister_0 14 rfl rfl)

set_option maxRecDepth 100000
def dkwX14_init_0 : List UInt8 := [42, 1, 1, 3, 3, 183, 0, 1, 42, 27, 181, 0, 7, 42, 28, 181, 0, 13, 177]
abbrev dktX14_init_0 : List UInt8 := dkwX14_init_0 ++ []
theorem dksX14_init_0 : cX14_init.data.toList.drop 0 = dktX14_init_0 := by decide +kernel
theorem dX14_init_0 : decode cX14_init 0 = .ok (.aload_n 0, 1) := dk_42 (dk_at dksX14_init_0 0 rfl rfl)
theorem dX14_init_1 : decode cX14_init 1 = .ok (.aconst_null, 1) := dk_1 (dk_at dksX14_init_0 1 rfl rfl)
theorem dX14_init_2 : decode cX14_init 2 = .ok (.aconst_null, 1) := dk_1 (dk_at dksX14_init_0 2 rfl rfl)
theorem dX14_init_3 : decode cX14_init 3 = .ok (.iconst 0, 1) := dk_3 (dk_at dksX14_init_0 3 rfl rfl)
theorem dX14_init_4 : decode cX14_init 4 = .ok (.iconst 0, 1) := dk_3 (dk_at dksX14_init_0 4 rfl rfl)
theorem dX14_init_5 : decode cX14_init 5 = .ok (.invokespecial 1, 3) := dk_183 0 1 (dk_at dksX14_init_0 5 rfl rfl)
theorem dX14_init_8 : decode cX14_init 8 = .ok (.aload_n 0, 1) := dk_42 (dk_at dksX14_init_0 8 rfl rfl)
theorem dX14_init_9 : decode cX14_init 9 = .ok (.iload_n 1, 1) := dk_27 (dk_at dksX14_init_0 9 rfl rfl)
theorem dX14_init_10 : decode cX14_init 10 = .ok (.putfield 7, 3) := dk_181 0 7 (dk_at dksX14_init_0 10 rfl rfl)
theorem dX14_init_13 : decode cX14_init 13 = .ok (.aload_n 0, 1) := dk_42 (dk_at dksX14_init_0 13 rfl rfl)
theorem dX14_init_14 : decode cX14_init 14 = .ok (.iload_n 2, 1) := dk_28 (dk_at dksX14_init_0 14 rfl rfl)
theorem dX14_init_15 : decode cX14_init 15 = .ok (.putfield 13, 3) := dk_181 0 13 (dk_at dksX14_init_0 15 rfl rfl)
theorem dX14_init_18 : decode cX14_init 18 = .ok (.return_, 1) := dk_177 (dk_at dksX14_init_0 18 rfl rfl)

set_option maxRecDepth 100000
def dkwX15_init_0 : List UInt8 := [42, 183, 0, 1, 42, 27, 181, 0, 7, 42, 28, 181, 0, 13, 42, 29, 181, 0, 16, 177]
abbrev dktX15_init_0 : List UInt8 := dkwX15_init_0 ++ []
theorem dksX15_init_0 : cX15_init.data.toList.drop 0 = dktX15_init_0 := by decide +kernel
theorem dX15_init_0 : decode cX15_init 0 = .ok (.aload_n 0, 1) := dk_42 (dk_at dksX15_init_0 0 rfl rfl)
theorem dX15_init_1 : decode cX15_init 1 = .ok (.invokespecial 1, 3) := dk_183 0 1 (dk_at dksX15_init_0 1 rfl rfl)
theorem dX15_init_4 : decode cX15_init 4 = .ok (.aload_n 0, 1) := dk_42 (dk_at dksX15_init_0 4 rfl rfl)
theorem dX15_init_5 : decode cX15_init 5 = .ok (.iload_n 1, 1) := dk_27 (dk_at dksX15_init_0 5 rfl rfl)
theorem dX15_init_6 : decode cX15_init 6 = .ok (.putfield 7, 3) := dk_181 0 7 (dk_at dksX15_init_0 6 rfl rfl)
theorem dX15_init_9 : decode cX15_init 9 = .ok (.aload_n 0, 1) := dk_42 (dk_at dksX15_init_0 9 rfl rfl)
theorem dX15_init_10 : decode cX15_init 10 = .ok (.iload_n 2, 1) := dk_28 (dk_at dksX15_init_0 10 rfl rfl)
theorem dX15_init_11 : decode cX15_init 11 = .ok (.putfield 13, 3) := dk_181 0 13 (dk_at dksX15_init_0 11 rfl rfl)
theorem dX15_init_14 : decode cX15_init 14 = .ok (.aload_n 0, 1) := dk_42 (dk_at dksX15_init_0 14 rfl rfl)
theorem dX15_init_15 : decode cX15_init 15 = .ok (.iload_n 3, 1) := dk_29 (dk_at dksX15_init_0 15 rfl rfl)
theorem dX15_init_16 : decode cX15_init 16 = .ok (.putfield 16, 3) := dk_181 0 16 (dk_at dksX15_init_0 16 rfl rfl)
theorem dX15_init_19 : decode cX15_init 19 = .ok (.return_, 1) := dk_177 (dk_at dksX15_init_0 19 rfl rfl)

set_option maxRecDepth 100000
def dkwX16_init_0 : List UInt8 := [42, 183, 0, 1, 42, 27, 181, 0, 7, 42, 28, 181, 0, 13, 177]
abbrev dktX16_init_0 : List UInt8 := dkwX16_init_0 ++ []
theorem dksX16_init_0 : cX16_init.data.toList.drop 0 = dktX16_init_0 := by decide +kernel
theorem dX16_init_0 : decode cX16_init 0 = .ok (.aload_n 0, 1) := dk_42 (dk_at dksX16_init_0 0 rfl rfl)
theorem dX16_init_1 : decode cX16_init 1 = .ok (.invokespecial 1, 3) := dk_183 0 1 (dk_at dksX16_init_0 1 rfl rfl)
theorem dX16_init_4 : decode cX16_init 4 = .ok (.aload_n 0, 1) := dk_42 (dk_at dksX16_init_0 4 rfl rfl)
theorem dX16_init_5 : decode cX16_init 5 = .ok (.iload_n 1, 1) := dk_27 (dk_at dksX16_init_0 5 rfl rfl)
theorem dX16_init_6 : decode cX16_init 6 = .ok (.putfield 7, 3) := dk_181 0 7 (dk_at dksX16_init_0 6 rfl rfl)
theorem dX16_init_9 : decode cX16_init 9 = .ok (.aload_n 0, 1) := dk_42 (dk_at dksX16_init_0 9 rfl rfl)
theorem dX16_init_10 : decode cX16_init 10 = .ok (.iload_n 2, 1) := dk_28 (dk_at dksX16_init_0 10 rfl rfl)
theorem dX16_init_11 : decode cX16_init 11 = .ok (.putfield 13, 3) := dk_181 0 13 (dk_at dksX16_init_0 11 rfl rfl)
theorem dX16_init_14 : decode cX16_init 14 = .ok (.return_, 1) := dk_177 (dk_at dksX16_init_0 14 rfl rfl)

set_option maxRecDepth 100000
def dkwX17_init_0 : List UInt8 := [42, 43, 28, 183, 0, 3, 177]
abbrev dktX17_init_0 : List UInt8 := dkwX17_init_0 ++ []
theorem dksX17_init_0 : cX17_init.data.toList.drop 0 = dktX17_init_0 := by decide +kernel
theorem dX17_init_0 : decode cX17_init 0 = .ok (.aload_n 0, 1) := dk_42 (dk_at dksX17_init_0 0 rfl rfl)
theorem dX17_init_1 : decode cX17_init 1 = .ok (.aload_n 1, 1) := dk_43 (dk_at dksX17_init_0 1 rfl rfl)
theorem dX17_init_2 : decode cX17_init 2 = .ok (.iload_n 2, 1) := dk_28 (dk_at dksX17_init_0 2 rfl rfl)
theorem dX17_init_3 : decode cX17_init 3 = .ok (.invokespecial 3, 3) := dk_183 0 3 (dk_at dksX17_init_0 3 rfl rfl)
theorem dX17_init_6 : decode cX17_init 6 = .ok (.return_, 1) := dk_177 (dk_at dksX17_init_0 6 rfl rfl)
def dkwX17_reads_1 : List UInt8 := [182, 0, 26, 191, 43, 176]
abbrev dktX17_reads_1 : List UInt8 := dkwX17_reads_1 ++ []
def dkwX17_reads_0 : List UInt8 := [42, 182, 0, 9, 76, 42, 182, 0, 15, 87, 42, 180, 0, 19, 42, 180, 0, 23, 162, 0, 8, 42]
abbrev dktX17_reads_0 : List UInt8 := dkwX17_reads_0 ++ dktX17_reads_1
theorem dksX17_reads_0 : cX17_reads.data.toList.drop 0 = dktX17_reads_0 := by decide +kernel
theorem dksX17_reads_1 : cX17_reads.data.toList.drop 22 = dktX17_reads_1 := dk_seg dksX17_reads_0 22 rfl rfl
theorem dX17_reads_0 : decode cX17_reads 0 = .ok (.aload_n 0, 1) := dk_42 (dk_at dksX17_reads_0 0 rfl rfl)
theorem dX17_reads_1 : decode cX17_reads 1 = .ok (.invokevirtual 9, 3) := dk_182 0 9 (dk_at dksX17_reads_0 1 rfl rfl)
theorem dX17_reads_4 : decode cX17_reads 4 = .ok (.astore_n 1, 1) := dk_76 (dk_at dksX17_reads_0 4 rfl rfl)
theorem dX17_reads_5 : decode cX17_reads 5 = .ok (.aload_n 0, 1) := dk_42 (dk_at dksX17_reads_0 5 rfl rfl)
theorem dX17_reads_6 : decode cX17_reads 6 = .ok (.invokevirtual 15, 3) := dk_182 0 15 (dk_at dksX17_reads_0 6 rfl rfl)
theorem dX17_reads_9 : decode cX17_reads 9 = .ok (.pop, 1) := dk_87 (dk_at dksX17_reads_0 9 rfl rfl)
theorem dX17_reads_10 : decode cX17_reads 10 = .ok (.aload_n 0, 1) := dk_42 (dk_at dksX17_reads_0 10 rfl rfl)
theorem dX17_reads_11 : decode cX17_reads 11 = .ok (.getfield 19, 3) := dk_180 0 19 (dk_at dksX17_reads_0 11 rfl rfl)
theorem dX17_reads_14 : decode cX17_reads 14 = .ok (.aload_n 0, 1) := dk_42 (dk_at dksX17_reads_0 14 rfl rfl)
theorem dX17_reads_15 : decode cX17_reads 15 = .ok (.getfield 23, 3) := dk_180 0 23 (dk_at dksX17_reads_0 15 rfl rfl)
theorem dX17_reads_18 : decode cX17_reads 18 = .ok (.if_icmp .ge 8, 3) := dk_162 0 8 (dk_at dksX17_reads_0 18 rfl rfl)
theorem dX17_reads_21 : decode cX17_reads 21 = .ok (.aload_n 0, 1) := dk_42 (dk_at dksX17_reads_0 21 rfl rfl)
theorem dX17_reads_22 : decode cX17_reads 22 = .ok (.invokevirtual 26, 3) := dk_182 0 26 (dk_at dksX17_reads_1 0 rfl rfl)
theorem dX17_reads_25 : decode cX17_reads 25 = .ok (.athrow, 1) := dk_191 (dk_at dksX17_reads_1 3 rfl rfl)
theorem dX17_reads_26 : decode cX17_reads 26 = .ok (.aload_n 1, 1) := dk_43 (dk_at dksX17_reads_1 4 rfl rfl)
theorem dX17_reads_27 : decode cX17_reads 27 = .ok (.areturn, 1) := dk_176 (dk_at dksX17_reads_1 5 rfl rfl)
def dkwX17_sum_3 : List UInt8 := [89, 43, 45, 183, 0, 40, 76, 167, 255, 182, 43, 176]
abbrev dktX17_sum_3 : List UInt8 := dkwX17_sum_3 ++ []
def dkwX17_sum_2 : List UInt8 := [42, 182, 0, 30, 78, 28, 153, 0, 15, 187, 0, 33, 89, 43, 45, 183, 0, 35, 167, 0, 12, 187, 0, 38]
abbrev dktX17_sum_2 : List UInt8 := dkwX17_sum_2 ++ dktX17_sum_3
def dkwX17_sum_1 : List UInt8 := [182, 0, 15, 16, 43, 160, 0, 7, 4, 167, 0, 4, 3, 61, 42, 89, 180, 0, 19, 4, 96, 181, 0, 19]
abbrev dktX17_sum_1 : List UInt8 := dkwX17_sum_1 ++ dktX17_sum_2
def dkwX17_sum_0 : List UInt8 := [42, 182, 0, 30, 76, 42, 182, 0, 15, 16, 43, 159, 0, 12, 42, 182, 0, 15, 16, 45, 160, 0, 62, 42]
abbrev dktX17_sum_0 : List UInt8 := dkwX17_sum_0 ++ dktX17_sum_1
theorem dksX17_sum_0 : cX17_sum.data.toList.drop 0 = dktX17_sum_0 := by decide +kernel
theorem dksX17_sum_1 : cX17_sum.data.toList.drop 24 = dktX17_sum_1 := dk_seg dksX17_sum_0 24 rfl rfl
theorem dksX17_sum_2 : cX17_sum.data.toList.drop 48 = dktX17_sum_2 := dk_seg dksX17_sum_1 24 rfl rfl
theorem dksX17_sum_3 : cX17_sum.data.toList.drop 72 = dktX17_sum_3 := dk_seg dksX17_sum_2 24 rfl rfl
theorem dX17_sum_0 : decode cX17_sum 0 = .ok (.aload_n 0, 1) := dk_42 (dk_at dksX17_sum_0 0 rfl rfl)
theorem dX17_sum_1 : decode cX17_sum 1 = .ok (.invokevirtual 30, 3) := dk_182 0 30 (dk_at dksX17_sum_0 1 rfl rfl)
theorem dX17_sum_4 : decode cX17_sum 4 = .ok (.astore_n 1, 1) := dk_76 (dk_at dksX17_sum_0 4 rfl rfl)
theorem dX17_sum_5 : decode cX17_sum 5 = .ok (.aload_n 0, 1) := dk_42 (dk_at dksX17_sum_0 5 rfl rfl)
theorem dX17_sum_6 : decode cX17_sum 6 = .ok (.invokevirtual 15, 3) := dk_182 0 15 (dk_at dksX17_sum_0 6 rfl rfl)
theorem dX17_sum_9 : decode cX17_sum 9 = .ok (.bipush 43, 2) := dk_16 43 (dk_at dksX17_sum_0 9 rfl rfl)
theorem dX17_sum_11 : decode cX17_sum 11 = .ok (.if_icmp .eq 12, 3) := dk_159 0 12 (dk_at dksX17_sum_0 11 rfl rfl)
theorem dX17_sum_14 : decode cX17_sum 14 = .ok (.aload_n 0, 1) := dk_42 (dk_at dksX17_sum_0 14 rfl rfl)
theorem dX17_sum_15 : decode cX17_sum 15 = .ok (.invokevirtual 15, 3) := dk_182 0 15 (dk_at dksX17_sum_0 15 rfl rfl)
theorem dX17_sum_18 : decode cX17_sum 18 = .ok (.bipush 45, 2) := dk_16 45 (dk_at dksX17_sum_0 18 rfl rfl)
theorem dX17_sum_20 : decode cX17_sum 20 = .ok (.if_icmp .ne 62, 3) := dk_160 0 62 (dk_at dksX17_sum_0 20 rfl rfl)
theorem dX17_sum_23 : decode cX17_sum 23 = .ok (.aload_n 0, 1) := dk_42 (dk_at dksX17_sum_0 23 rfl rfl)
theorem dX17_sum_24 : decode cX17_sum 24 = .ok (.invokevirtual 15, 3) := dk_182 0 15 (dk_at dksX17_sum_1 0 rfl rfl)
theorem dX17_sum_27 : decode cX17_sum 27 = .ok (.bipush 43, 2) := dk_16 43 (dk_at dksX17_sum_1 3 rfl rfl)
theorem dX17_sum_29 : decode cX17_sum 29 = .ok (.if_icmp .ne 7, 3) := dk_160 0 7 (dk_at dksX17_sum_1 5 rfl rfl)
theorem dX17_sum_32 : decode cX17_sum 32 = .ok (.iconst 1, 1) := dk_4 (dk_at dksX17_sum_1 8 rfl rfl)
theorem dX17_sum_33 : decode cX17_sum 33 = .ok (.goto 4, 3) := dk_167 0 4 (dk_at dksX17_sum_1 9 rfl rfl)
theorem dX17_sum_36 : decode cX17_sum 36 = .ok (.iconst 0, 1) := dk_3 (dk_at dksX17_sum_1 12 rfl rfl)
theorem dX17_sum_37 : decode cX17_sum 37 = .ok (.istore_n 2, 1) := dk_61 (dk_at dksX17_sum_1 13 rfl rfl)
theorem dX17_sum_38 : decode cX17_sum 38 = .ok (.aload_n 0, 1) := dk_42 (dk_at dksX17_sum_1 14 rfl rfl)
theorem dX17_sum_39 : decode cX17_sum 39 = .ok (.dup, 1) := dk_89 (dk_at dksX17_sum_1 15 rfl rfl)
theorem dX17_sum_40 : decode cX17_sum 40 = .ok (.getfield 19, 3) := dk_180 0 19 (dk_at dksX17_sum_1 16 rfl rfl)
theorem dX17_sum_43 : decode cX17_sum 43 = .ok (.iconst 1, 1) := dk_4 (dk_at dksX17_sum_1 19 rfl rfl)
theorem dX17_sum_44 : decode cX17_sum 44 = .ok (.iadd, 1) := dk_96 (dk_at dksX17_sum_1 20 rfl rfl)
theorem dX17_sum_45 : decode cX17_sum 45 = .ok (.putfield 19, 3) := dk_181 0 19 (dk_at dksX17_sum_1 21 rfl rfl)
theorem dX17_sum_48 : decode cX17_sum 48 = .ok (.aload_n 0, 1) := dk_42 (dk_at dksX17_sum_2 0 rfl rfl)
theorem dX17_sum_49 : decode cX17_sum 49 = .ok (.invokevirtual 30, 3) := dk_182 0 30 (dk_at dksX17_sum_2 1 rfl rfl)
theorem dX17_sum_52 : decode cX17_sum 52 = .ok (.astore_n 3, 1) := dk_78 (dk_at dksX17_sum_2 4 rfl rfl)
theorem dX17_sum_53 : decode cX17_sum 53 = .ok (.iload_n 2, 1) := dk_28 (dk_at dksX17_sum_2 5 rfl rfl)
theorem dX17_sum_54 : decode cX17_sum 54 = .ok (.ifCond .eq 15, 3) := dk_153 0 15 (dk_at dksX17_sum_2 6 rfl rfl)
theorem dX17_sum_57 : decode cX17_sum 57 = .ok (.new 33, 3) := dk_187 0 33 (dk_at dksX17_sum_2 9 rfl rfl)
theorem dX17_sum_60 : decode cX17_sum 60 = .ok (.dup, 1) := dk_89 (dk_at dksX17_sum_2 12 rfl rfl)
theorem dX17_sum_61 : decode cX17_sum 61 = .ok (.aload_n 1, 1) := dk_43 (dk_at dksX17_sum_2 13 rfl rfl)
theorem dX17_sum_62 : decode cX17_sum 62 = .ok (.aload_n 3, 1) := dk_45 (dk_at dksX17_sum_2 14 rfl rfl)
theorem dX17_sum_63 : decode cX17_sum 63 = .ok (.invokespecial 35, 3) := dk_183 0 35 (dk_at dksX17_sum_2 15 rfl rfl)
theorem dX17_sum_66 : decode cX17_sum 66 = .ok (.goto 12, 3) := dk_167 0 12 (dk_at dksX17_sum_2 18 rfl rfl)
theorem dX17_sum_69 : decode cX17_sum 69 = .ok (.new 38, 3) := dk_187 0 38 (dk_at dksX17_sum_2 21 rfl rfl)
theorem dX17_sum_72 : decode cX17_sum 72 = .ok (.dup, 1) := dk_89 (dk_at dksX17_sum_3 0 rfl rfl)
theorem dX17_sum_73 : decode cX17_sum 73 = .ok (.aload_n 1, 1) := dk_43 (dk_at dksX17_sum_3 1 rfl rfl)
theorem dX17_sum_74 : decode cX17_sum 74 = .ok (.aload_n 3, 1) := dk_45 (dk_at dksX17_sum_3 2 rfl rfl)
theorem dX17_sum_75 : decode cX17_sum 75 = .ok (.invokespecial 40, 3) := dk_183 0 40 (dk_at dksX17_sum_3 3 rfl rfl)
theorem dX17_sum_78 : decode cX17_sum 78 = .ok (.astore_n 1, 1) := dk_76 (dk_at dksX17_sum_3 6 rfl rfl)
theorem dX17_sum_79 : decode cX17_sum 79 = .ok (.goto (-74), 3) := dk_167 255 182 (dk_at dksX17_sum_3 7 rfl rfl)
theorem dX17_sum_82 : decode cX17_sum 82 = .ok (.aload_n 1, 1) := dk_43 (dk_at dksX17_sum_3 10 rfl rfl)
theorem dX17_sum_83 : decode cX17_sum 83 = .ok (.areturn, 1) := dk_176 (dk_at dksX17_sum_3 11 rfl rfl)
def dkwX17_product_4 : List UInt8 := [183, 0, 52, 76, 167, 255, 163, 43, 176]
abbrev dktX17_product_4 : List UInt8 := dkwX17_product_4 ++ []
def dkwX17_product_3 : List UInt8 := [16, 47, 160, 0, 15, 187, 0, 47, 89, 43, 45, 183, 0, 49, 167, 0, 12, 187, 0, 50, 89, 43, 45]
abbrev dktX17_product_3 : List UInt8 := dkwX17_product_3 ++ dktX17_product_4
def dkwX17_product_2 : List UInt8 := [182, 0, 41, 78, 28, 16, 42, 160, 0, 15, 187, 0, 44, 89, 43, 45, 183, 0, 46, 167, 0, 30, 28]
abbrev dktX17_product_2 : List UInt8 := dkwX17_product_2 ++ dktX17_product_3
def dkwX17_product_1 : List UInt8 := [182, 0, 15, 16, 37, 160, 0, 72, 42, 182, 0, 15, 61, 42, 89, 180, 0, 19, 4, 96, 181, 0, 19, 42]
abbrev dktX17_product_1 : List UInt8 := dkwX17_product_1 ++ dktX17_product_2
def dkwX17_product_0 : List UInt8 := [42, 182, 0, 41, 76, 42, 182, 0, 15, 16, 42, 159, 0, 21, 42, 182, 0, 15, 16, 47, 159, 0, 12, 42]
abbrev dktX17_product_0 : List UInt8 := dkwX17_product_0 ++ dktX17_product_1
theorem dksX17_product_0 : cX17_product.data.toList.drop 0 = dktX17_product_0 := by decide +kernel
theorem dksX17_product_1 : cX17_product.data.toList.drop 24 = dktX17_product_1 := dk_seg dksX17_product_0 24 rfl rfl
theorem dksX17_product_2 : cX17_product.data.toList.drop 48 = dktX17_product_2 := dk_seg dksX17_product_1 24 rfl rfl
theorem dksX17_product_3 : cX17_product.data.toList.drop 71 = dktX17_product_3 := dk_seg dksX17_product_2 23 rfl rfl
theorem dksX17_product_4 : cX17_product.data.toList.drop 94 = dktX17_product_4 := dk_seg dksX17_product_3 23 rfl rfl
theorem dX17_product_0 : decode cX17_product 0 = .ok (.aload_n 0, 1) := dk_42 (dk_at dksX17_product_0 0 rfl rfl)
theorem dX17_product_1 : decode cX17_product 1 = .ok (.invokevirtual 41, 3) := dk_182 0 41 (dk_at dksX17_product_0 1 rfl rfl)
theorem dX17_product_4 : decode cX17_product 4 = .ok (.astore_n 1, 1) := dk_76 (dk_at dksX17_product_0 4 rfl rfl)
theorem dX17_product_5 : decode cX17_product 5 = .ok (.aload_n 0, 1) := dk_42 (dk_at dksX17_product_0 5 rfl rfl)
theorem dX17_product_6 : decode cX17_product 6 = .ok (.invokevirtual 15, 3) := dk_182 0 15 (dk_at dksX17_product_0 6 rfl rfl)
theorem dX17_product_9 : decode cX17_product 9 = .ok (.bipush 42, 2) := dk_16 42 (dk_at dksX17_product_0 9 rfl rfl)
theorem dX17_product_11 : decode cX17_product 11 = .ok (.if_icmp .eq 21, 3) := dk_159 0 21 (dk_at dksX17_product_0 11 rfl rfl)
theorem dX17_product_14 : decode cX17_product 14 = .ok (.aload_n 0, 1) := dk_42 (dk_at dksX17_product_0 14 rfl rfl)
theorem dX17_product_15 : decode cX17_product 15 = .ok (.invokevirtual 15, 3) := dk_182 0 15 (dk_at dksX17_product_0 15 rfl rfl)
theorem dX17_product_18 : decode cX17_product 18 = .ok (.bipush 47, 2) := dk_16 47 (dk_at dksX17_product_0 18 rfl rfl)
theorem dX17_product_20 : decode cX17_product 20 = .ok (.if_icmp .eq 12, 3) := dk_159 0 12 (dk_at dksX17_product_0 20 rfl rfl)
theorem dX17_product_23 : decode cX17_product 23 = .ok (.aload_n 0, 1) := dk_42 (dk_at dksX17_product_0 23 rfl rfl)
theorem dX17_product_24 : decode cX17_product 24 = .ok (.invokevirtual 15, 3) := dk_182 0 15 (dk_at dksX17_product_1 0 rfl rfl)
theorem dX17_product_27 : decode cX17_product 27 = .ok (.bipush 37, 2) := dk_16 37 (dk_at dksX17_product_1 3 rfl rfl)
theorem dX17_product_29 : decode cX17_product 29 = .ok (.if_icmp .ne 72, 3) := dk_160 0 72 (dk_at dksX17_product_1 5 rfl rfl)
theorem dX17_product_32 : decode cX17_product 32 = .ok (.aload_n 0, 1) := dk_42 (dk_at dksX17_product_1 8 rfl rfl)
theorem dX17_product_33 : decode cX17_product 33 = .ok (.invokevirtual 15, 3) := dk_182 0 15 (dk_at dksX17_product_1 9 rfl rfl)
theorem dX17_product_36 : decode cX17_product 36 = .ok (.istore_n 2, 1) := dk_61 (dk_at dksX17_product_1 12 rfl rfl)
theorem dX17_product_37 : decode cX17_product 37 = .ok (.aload_n 0, 1) := dk_42 (dk_at dksX17_product_1 13 rfl rfl)
theorem dX17_product_38 : decode cX17_product 38 = .ok (.dup, 1) := dk_89 (dk_at dksX17_product_1 14 rfl rfl)
theorem dX17_product_39 : decode cX17_product 39 = .ok (.getfield 19, 3) := dk_180 0 19 (dk_at dksX17_product_1 15 rfl rfl)
theorem dX17_product_42 : decode cX17_product 42 = .ok (.iconst 1, 1) := dk_4 (dk_at dksX17_product_1 18 rfl rfl)
theorem dX17_product_43 : decode cX17_product 43 = .ok (.iadd, 1) := dk_96 (dk_at dksX17_product_1 19 rfl rfl)
theorem dX17_product_44 : decode cX17_product 44 = .ok (.putfield 19, 3) := dk_181 0 19 (dk_at dksX17_product_1 20 rfl rfl)
theorem dX17_product_47 : decode cX17_product 47 = .ok (.aload_n 0, 1) := dk_42 (dk_at dksX17_product_1 23 rfl rfl)
theorem dX17_product_48 : decode cX17_product 48 = .ok (.invokevirtual 41, 3) := dk_182 0 41 (dk_at dksX17_product_2 0 rfl rfl)
theorem dX17_product_51 : decode cX17_product 51 = .ok (.astore_n 3, 1) := dk_78 (dk_at dksX17_product_2 3 rfl rfl)
theorem dX17_product_52 : decode cX17_product 52 = .ok (.iload_n 2, 1) := dk_28 (dk_at dksX17_product_2 4 rfl rfl)
theorem dX17_product_53 : decode cX17_product 53 = .ok (.bipush 42, 2) := dk_16 42 (dk_at dksX17_product_2 5 rfl rfl)
theorem dX17_product_55 : decode cX17_product 55 = .ok (.if_icmp .ne 15, 3) := dk_160 0 15 (dk_at dksX17_product_2 7 rfl rfl)
theorem dX17_product_58 : decode cX17_product 58 = .ok (.new 44, 3) := dk_187 0 44 (dk_at dksX17_product_2 10 rfl rfl)
theorem dX17_product_61 : decode cX17_product 61 = .ok (.dup, 1) := dk_89 (dk_at dksX17_product_2 13 rfl rfl)
theorem dX17_product_62 : decode cX17_product 62 = .ok (.aload_n 1, 1) := dk_43 (dk_at dksX17_product_2 14 rfl rfl)
theorem dX17_product_63 : decode cX17_product 63 = .ok (.aload_n 3, 1) := dk_45 (dk_at dksX17_product_2 15 rfl rfl)
theorem dX17_product_64 : decode cX17_product 64 = .ok (.invokespecial 46, 3) := dk_183 0 46 (dk_at dksX17_product_2 16 rfl rfl)
theorem dX17_product_67 : decode cX17_product 67 = .ok (.goto 30, 3) := dk_167 0 30 (dk_at dksX17_product_2 19 rfl rfl)
theorem dX17_product_70 : decode cX17_product 70 = .ok (.iload_n 2, 1) := dk_28 (dk_at dksX17_product_2 22 rfl rfl)
theorem dX17_product_71 : decode cX17_product 71 = .ok (.bipush 47, 2) := dk_16 47 (dk_at dksX17_product_3 0 rfl rfl)
theorem dX17_product_73 : decode cX17_product 73 = .ok (.if_icmp .ne 15, 3) := dk_160 0 15 (dk_at dksX17_product_3 2 rfl rfl)
theorem dX17_product_76 : decode cX17_product 76 = .ok (.new 47, 3) := dk_187 0 47 (dk_at dksX17_product_3 5 rfl rfl)
theorem dX17_product_79 : decode cX17_product 79 = .ok (.dup, 1) := dk_89 (dk_at dksX17_product_3 8 rfl rfl)
theorem dX17_product_80 : decode cX17_product 80 = .ok (.aload_n 1, 1) := dk_43 (dk_at dksX17_product_3 9 rfl rfl)
theorem dX17_product_81 : decode cX17_product 81 = .ok (.aload_n 3, 1) := dk_45 (dk_at dksX17_product_3 10 rfl rfl)
theorem dX17_product_82 : decode cX17_product 82 = .ok (.invokespecial 49, 3) := dk_183 0 49 (dk_at dksX17_product_3 11 rfl rfl)
theorem dX17_product_85 : decode cX17_product 85 = .ok (.goto 12, 3) := dk_167 0 12 (dk_at dksX17_product_3 14 rfl rfl)
theorem dX17_product_88 : decode cX17_product 88 = .ok (.new 50, 3) := dk_187 0 50 (dk_at dksX17_product_3 17 rfl rfl)
theorem dX17_product_91 : decode cX17_product 91 = .ok (.dup, 1) := dk_89 (dk_at dksX17_product_3 20 rfl rfl)
theorem dX17_product_92 : decode cX17_product 92 = .ok (.aload_n 1, 1) := dk_43 (dk_at dksX17_product_3 21 rfl rfl)
theorem dX17_product_93 : decode cX17_product 93 = .ok (.aload_n 3, 1) := dk_45 (dk_at dksX17_product_3 22 rfl rfl)
theorem dX17_product_94 : decode cX17_product 94 = .ok (.invokespecial 52, 3) := dk_183 0 52 (dk_at dksX17_product_4 0 rfl rfl)
theorem dX17_product_97 : decode cX17_product 97 = .ok (.astore_n 1, 1) := dk_76 (dk_at dksX17_product_4 3 rfl rfl)
theorem dX17_product_98 : decode cX17_product 98 = .ok (.goto (-93), 3) := dk_167 255 163 (dk_at dksX17_product_4 4 rfl rfl)
theorem dX17_product_101 : decode cX17_product 101 = .ok (.aload_n 1, 1) := dk_43 (dk_at dksX17_product_4 7 rfl rfl)
theorem dX17_product_102 : decode cX17_product 102 = .ok (.areturn, 1) := dk_176 (dk_at dksX17_product_4 8 rfl rfl)
def dkwX17_unit_15 : List UInt8 := [182, 0, 104, 176, 42, 44, 16, 7, 182, 0, 104, 176, 42, 44, 182, 0, 108, 176, 42, 182, 0, 26, 191]
abbrev dktX17_unit_15 : List UInt8 := dkwX17_unit_15 ++ []
def dkwX17_unit_14 : List UInt8 := [182, 0, 104, 176, 42, 44, 7, 182, 0, 104, 176, 42, 44, 8, 182, 0, 104, 176, 42, 44, 16, 6]
abbrev dktX17_unit_14 : List UInt8 := dkwX17_unit_14 ++ dktX17_unit_15
def dkwX17_unit_13 : List UInt8 := [42, 44, 3, 182, 0, 104, 176, 42, 44, 4, 182, 0, 104, 176, 42, 44, 5, 182, 0, 104, 176, 42, 44, 6]
abbrev dktX17_unit_13 : List UInt8 := dkwX17_unit_13 ++ dktX17_unit_14
def dkwX17_unit_12 : List UInt8 := [170, 0, 0, 0, 0, 0, 119, 0, 0, 0, 0, 0, 0, 0, 9, 0, 0, 0, 55, 0, 0, 0, 62, 0, 0, 0, 69, 0, 0, 0, 76, 0, 0, 0, 83, 0, 0, 0, 90, 0, 0, 0, 97, 0, 0, 0, 105, 0, 0, 0, 113, 0, 0, 0, 113]
abbrev dktX17_unit_12 : List UInt8 := dkwX17_unit_12 ++ dktX17_unit_13
def dkwX17_unit_11 : List UInt8 := [182, 0, 82, 153, 0, 7, 16, 9, 54, 4, 21, 4]
abbrev dktX17_unit_11 : List UInt8 := dkwX17_unit_11 ++ dktX17_unit_12
def dkwX17_unit_10 : List UInt8 := [167, 0, 32, 45, 18, 100, 182, 0, 82, 153, 0, 23, 16, 8, 54, 4, 167, 0, 16, 45, 18, 102]
abbrev dktX17_unit_10 : List UInt8 := dkwX17_unit_10 ++ dktX17_unit_11
def dkwX17_unit_9 : List UInt8 := [153, 0, 55, 16, 6, 54, 4, 167, 0, 48, 45, 18, 98, 182, 0, 82, 153, 0, 39, 16, 7, 54, 4]
abbrev dktX17_unit_9 : List UInt8 := dkwX17_unit_9 ++ dktX17_unit_10
def dkwX17_unit_8 : List UInt8 := [167, 0, 79, 45, 18, 94, 182, 0, 82, 153, 0, 70, 8, 54, 4, 167, 0, 64, 45, 18, 96, 182, 0, 82]
abbrev dktX17_unit_8 : List UInt8 := dkwX17_unit_8 ++ dktX17_unit_9
def dkwX17_unit_7 : List UInt8 := [182, 0, 82, 153, 0, 100, 6, 54, 4, 167, 0, 94, 45, 18, 92, 182, 0, 82, 153, 0, 85, 7, 54, 4]
abbrev dktX17_unit_7 : List UInt8 := dkwX17_unit_7 ++ dktX17_unit_8
def dkwX17_unit_6 : List UInt8 := [4, 54, 4, 167, 0, 124, 45, 18, 88, 182, 0, 82, 153, 0, 115, 5, 54, 4, 167, 0, 109, 45, 18, 90]
abbrev dktX17_unit_6 : List UInt8 := dkwX17_unit_6 ++ dktX17_unit_7
def dkwX17_unit_5 : List UInt8 := [45, 18, 80, 182, 0, 82, 153, 0, 145, 3, 54, 4, 167, 0, 139, 45, 18, 86, 182, 0, 82, 153, 0, 130]
abbrev dktX17_unit_5 : List UInt8 := dkwX17_unit_5 ++ dktX17_unit_6
def dkwX17_unit_4 : List UInt8 := [171, 0, 0, 0, 0, 0, 242, 0, 0, 0, 10, 170, 224, 251, 191, 0, 0, 0, 136, 189, 214, 240, 230, 0, 0, 0, 121, 195, 253, 99, 99, 0, 0, 0, 166, 202, 58, 250, 36, 0, 0, 0, 181, 0, 1, 131, 156, 0, 0, 0, 197, 0, 1, 151, 169, 0, 0, 0, 151, 0, 46, 240, 87, 0, 0, 0, 106, 0, 51, 59, 131, 0, 0, 0, 229, 6, 33, 78, 105, 0, 0, 0, 213, 6, 193, 28, 142, 0, 0, 0, 91]
abbrev dktX17_unit_4 : List UInt8 := dkwX17_unit_4 ++ dktX17_unit_5
def dkwX17_unit_3 : List UInt8 := [44, 78, 2, 54, 4, 45, 182, 0, 75]
abbrev dktX17_unit_3 : List UInt8 := dkwX17_unit_3 ++ dktX17_unit_4
def dkwX17_unit_2 : List UInt8 := [163, 0, 19, 187, 0, 63, 89, 42, 3, 17, 3, 231, 182, 0, 65, 183, 0, 69, 176, 42, 182, 0, 71, 77]
abbrev dktX17_unit_2 : List UInt8 := dkwX17_unit_2 ++ dktX17_unit_3
def dkwX17_unit_1 : List UInt8 := [182, 0, 57, 42, 89, 180, 0, 60, 4, 100, 181, 0, 60, 44, 176, 27, 16, 48, 161, 0, 25, 27, 16, 57]
abbrev dktX17_unit_1 : List UInt8 := dkwX17_unit_1 ++ dktX17_unit_2
def dkwX17_unit_0 : List UInt8 := [42, 182, 0, 15, 60, 27, 16, 40, 160, 0, 31, 42, 4, 182, 0, 53, 42, 182, 0, 9, 77, 42, 16, 41]
abbrev dktX17_unit_0 : List UInt8 := dkwX17_unit_0 ++ dktX17_unit_1
theorem dksX17_unit_0 : cX17_unit.data.toList.drop 0 = dktX17_unit_0 := by decide +kernel
theorem dksX17_unit_1 : cX17_unit.data.toList.drop 24 = dktX17_unit_1 := dk_seg dksX17_unit_0 24 rfl rfl
theorem dksX17_unit_2 : cX17_unit.data.toList.drop 48 = dktX17_unit_2 := dk_seg dksX17_unit_1 24 rfl rfl
theorem dksX17_unit_3 : cX17_unit.data.toList.drop 72 = dktX17_unit_3 := dk_seg dksX17_unit_2 24 rfl rfl
theorem dksX17_unit_4 : cX17_unit.data.toList.drop 81 = dktX17_unit_4 := dk_seg dksX17_unit_3 9 rfl rfl
theorem dksX17_unit_5 : cX17_unit.data.toList.drop 172 = dktX17_unit_5 := dk_seg dksX17_unit_4 91 rfl rfl
theorem dksX17_unit_6 : cX17_unit.data.toList.drop 196 = dktX17_unit_6 := dk_seg dksX17_unit_5 24 rfl rfl
theorem dksX17_unit_7 : cX17_unit.data.toList.drop 220 = dktX17_unit_7 := dk_seg dksX17_unit_6 24 rfl rfl
theorem dksX17_unit_8 : cX17_unit.data.toList.drop 244 = dktX17_unit_8 := dk_seg dksX17_unit_7 24 rfl rfl
theorem dksX17_unit_9 : cX17_unit.data.toList.drop 268 = dktX17_unit_9 := dk_seg dksX17_unit_8 24 rfl rfl
theorem dksX17_unit_10 : cX17_unit.data.toList.drop 291 = dktX17_unit_10 := dk_seg dksX17_unit_9 23 rfl rfl
theorem dksX17_unit_11 : cX17_unit.data.toList.drop 313 = dktX17_unit_11 := dk_seg dksX17_unit_10 22 rfl rfl
theorem dksX17_unit_12 : cX17_unit.data.toList.drop 325 = dktX17_unit_12 := dk_seg dksX17_unit_11 12 rfl rfl
theorem dksX17_unit_13 : cX17_unit.data.toList.drop 380 = dktX17_unit_13 := dk_seg dksX17_unit_12 55 rfl rfl
theorem dksX17_unit_14 : cX17_unit.data.toList.drop 404 = dktX17_unit_14 := dk_seg dksX17_unit_13 24 rfl rfl
theorem dksX17_unit_15 : cX17_unit.data.toList.drop 426 = dktX17_unit_15 := dk_seg dksX17_unit_14 22 rfl rfl
theorem dX17_unit_0 : decode cX17_unit 0 = .ok (.aload_n 0, 1) := dk_42 (dk_at dksX17_unit_0 0 rfl rfl)
theorem dX17_unit_1 : decode cX17_unit 1 = .ok (.invokevirtual 15, 3) := dk_182 0 15 (dk_at dksX17_unit_0 1 rfl rfl)
theorem dX17_unit_4 : decode cX17_unit 4 = .ok (.istore_n 1, 1) := dk_60 (dk_at dksX17_unit_0 4 rfl rfl)
theorem dX17_unit_5 : decode cX17_unit 5 = .ok (.iload_n 1, 1) := dk_27 (dk_at dksX17_unit_0 5 rfl rfl)
theorem dX17_unit_6 : decode cX17_unit 6 = .ok (.bipush 40, 2) := dk_16 40 (dk_at dksX17_unit_0 6 rfl rfl)
theorem dX17_unit_8 : decode cX17_unit 8 = .ok (.if_icmp .ne 31, 3) := dk_160 0 31 (dk_at dksX17_unit_0 8 rfl rfl)
theorem dX17_unit_11 : decode cX17_unit 11 = .ok (.aload_n 0, 1) := dk_42 (dk_at dksX17_unit_0 11 rfl rfl)
theorem dX17_unit_12 : decode cX17_unit 12 = .ok (.iconst 1, 1) := dk_4 (dk_at dksX17_unit_0 12 rfl rfl)
theorem dX17_unit_13 : decode cX17_unit 13 = .ok (.invokevirtual 53, 3) := dk_182 0 53 (dk_at dksX17_unit_0 13 rfl rfl)
theorem dX17_unit_16 : decode cX17_unit 16 = .ok (.aload_n 0, 1) := dk_42 (dk_at dksX17_unit_0 16 rfl rfl)
theorem dX17_unit_17 : decode cX17_unit 17 = .ok (.invokevirtual 9, 3) := dk_182 0 9 (dk_at dksX17_unit_0 17 rfl rfl)
theorem dX17_unit_20 : decode cX17_unit 20 = .ok (.astore_n 2, 1) := dk_77 (dk_at dksX17_unit_0 20 rfl rfl)
theorem dX17_unit_21 : decode cX17_unit 21 = .ok (.aload_n 0, 1) := dk_42 (dk_at dksX17_unit_0 21 rfl rfl)
theorem dX17_unit_22 : decode cX17_unit 22 = .ok (.bipush 41, 2) := dk_16 41 (dk_at dksX17_unit_0 22 rfl rfl)
theorem dX17_unit_24 : decode cX17_unit 24 = .ok (.invokevirtual 57, 3) := dk_182 0 57 (dk_at dksX17_unit_1 0 rfl rfl)
theorem dX17_unit_27 : decode cX17_unit 27 = .ok (.aload_n 0, 1) := dk_42 (dk_at dksX17_unit_1 3 rfl rfl)
theorem dX17_unit_28 : decode cX17_unit 28 = .ok (.dup, 1) := dk_89 (dk_at dksX17_unit_1 4 rfl rfl)
theorem dX17_unit_29 : decode cX17_unit 29 = .ok (.getfield 60, 3) := dk_180 0 60 (dk_at dksX17_unit_1 5 rfl rfl)
theorem dX17_unit_32 : decode cX17_unit 32 = .ok (.iconst 1, 1) := dk_4 (dk_at dksX17_unit_1 8 rfl rfl)
theorem dX17_unit_33 : decode cX17_unit 33 = .ok (.isub, 1) := dk_100 (dk_at dksX17_unit_1 9 rfl rfl)
theorem dX17_unit_34 : decode cX17_unit 34 = .ok (.putfield 60, 3) := dk_181 0 60 (dk_at dksX17_unit_1 10 rfl rfl)
theorem dX17_unit_37 : decode cX17_unit 37 = .ok (.aload_n 2, 1) := dk_44 (dk_at dksX17_unit_1 13 rfl rfl)
theorem dX17_unit_38 : decode cX17_unit 38 = .ok (.areturn, 1) := dk_176 (dk_at dksX17_unit_1 14 rfl rfl)
theorem dX17_unit_39 : decode cX17_unit 39 = .ok (.iload_n 1, 1) := dk_27 (dk_at dksX17_unit_1 15 rfl rfl)
theorem dX17_unit_40 : decode cX17_unit 40 = .ok (.bipush 48, 2) := dk_16 48 (dk_at dksX17_unit_1 16 rfl rfl)
theorem dX17_unit_42 : decode cX17_unit 42 = .ok (.if_icmp .lt 25, 3) := dk_161 0 25 (dk_at dksX17_unit_1 18 rfl rfl)
theorem dX17_unit_45 : decode cX17_unit 45 = .ok (.iload_n 1, 1) := dk_27 (dk_at dksX17_unit_1 21 rfl rfl)
theorem dX17_unit_46 : decode cX17_unit 46 = .ok (.bipush 57, 2) := dk_16 57 (dk_at dksX17_unit_1 22 rfl rfl)
theorem dX17_unit_48 : decode cX17_unit 48 = .ok (.if_icmp .gt 19, 3) := dk_163 0 19 (dk_at dksX17_unit_2 0 rfl rfl)
theorem dX17_unit_51 : decode cX17_unit 51 = .ok (.new 63, 3) := dk_187 0 63 (dk_at dksX17_unit_2 3 rfl rfl)
theorem dX17_unit_54 : decode cX17_unit 54 = .ok (.dup, 1) := dk_89 (dk_at dksX17_unit_2 6 rfl rfl)
theorem dX17_unit_55 : decode cX17_unit 55 = .ok (.aload_n 0, 1) := dk_42 (dk_at dksX17_unit_2 7 rfl rfl)
theorem dX17_unit_56 : decode cX17_unit 56 = .ok (.iconst 0, 1) := dk_3 (dk_at dksX17_unit_2 8 rfl rfl)
theorem dX17_unit_57 : decode cX17_unit 57 = .ok (.sipush 999, 3) := dk_17 3 231 (dk_at dksX17_unit_2 9 rfl rfl)
theorem dX17_unit_60 : decode cX17_unit 60 = .ok (.invokevirtual 65, 3) := dk_182 0 65 (dk_at dksX17_unit_2 12 rfl rfl)
theorem dX17_unit_63 : decode cX17_unit 63 = .ok (.invokespecial 69, 3) := dk_183 0 69 (dk_at dksX17_unit_2 15 rfl rfl)
theorem dX17_unit_66 : decode cX17_unit 66 = .ok (.areturn, 1) := dk_176 (dk_at dksX17_unit_2 18 rfl rfl)
theorem dX17_unit_67 : decode cX17_unit 67 = .ok (.aload_n 0, 1) := dk_42 (dk_at dksX17_unit_2 19 rfl rfl)
theorem dX17_unit_68 : decode cX17_unit 68 = .ok (.invokevirtual 71, 3) := dk_182 0 71 (dk_at dksX17_unit_2 20 rfl rfl)
theorem dX17_unit_71 : decode cX17_unit 71 = .ok (.astore_n 2, 1) := dk_77 (dk_at dksX17_unit_2 23 rfl rfl)
theorem dX17_unit_72 : decode cX17_unit 72 = .ok (.aload_n 2, 1) := dk_44 (dk_at dksX17_unit_3 0 rfl rfl)
theorem dX17_unit_73 : decode cX17_unit 73 = .ok (.astore_n 3, 1) := dk_78 (dk_at dksX17_unit_3 1 rfl rfl)
theorem dX17_unit_74 : decode cX17_unit 74 = .ok (.iconst (-1), 1) := dk_2 (dk_at dksX17_unit_3 2 rfl rfl)
theorem dX17_unit_75 : decode cX17_unit 75 = .ok (.istore 4, 2) := dk_54 4 (dk_at dksX17_unit_3 3 rfl rfl)
theorem dX17_unit_77 : decode cX17_unit 77 = .ok (.aload_n 3, 1) := dk_45 (dk_at dksX17_unit_3 5 rfl rfl)
theorem dX17_unit_78 : decode cX17_unit 78 = .ok (.invokevirtual 75, 3) := dk_182 0 75 (dk_at dksX17_unit_3 6 rfl rfl)
theorem dX17_unit_81 : decode cX17_unit 81 = .ok (.lookupswitch 242 #[(-1428096065, 136), (-1109987098, 121), (-1006804125, 166), (-902104540, 181), (99228, 197), (104361, 151), (3076183, 106), (3357571, 229), (102846057, 213), (113319054, 91)], 91) := by decide +kernel
theorem dX17_unit_172 : decode cX17_unit 172 = .ok (.aload_n 3, 1) := dk_45 (dk_at dksX17_unit_5 0 rfl rfl)
theorem dX17_unit_173 : decode cX17_unit 173 = .ok (.ldc 80, 2) := dk_18 80 (dk_at dksX17_unit_5 1 rfl rfl)
theorem dX17_unit_175 : decode cX17_unit 175 = .ok (.invokevirtual 82, 3) := dk_182 0 82 (dk_at dksX17_unit_5 3 rfl rfl)
theorem dX17_unit_178 : decode cX17_unit 178 = .ok (.ifCond .eq 145, 3) := dk_153 0 145 (dk_at dksX17_unit_5 6 rfl rfl)
theorem dX17_unit_181 : decode cX17_unit 181 = .ok (.iconst 0, 1) := dk_3 (dk_at dksX17_unit_5 9 rfl rfl)
theorem dX17_unit_182 : decode cX17_unit 182 = .ok (.istore 4, 2) := dk_54 4 (dk_at dksX17_unit_5 10 rfl rfl)
theorem dX17_unit_184 : decode cX17_unit 184 = .ok (.goto 139, 3) := dk_167 0 139 (dk_at dksX17_unit_5 12 rfl rfl)
theorem dX17_unit_187 : decode cX17_unit 187 = .ok (.aload_n 3, 1) := dk_45 (dk_at dksX17_unit_5 15 rfl rfl)
theorem dX17_unit_188 : decode cX17_unit 188 = .ok (.ldc 86, 2) := dk_18 86 (dk_at dksX17_unit_5 16 rfl rfl)
theorem dX17_unit_190 : decode cX17_unit 190 = .ok (.invokevirtual 82, 3) := dk_182 0 82 (dk_at dksX17_unit_5 18 rfl rfl)
theorem dX17_unit_193 : decode cX17_unit 193 = .ok (.ifCond .eq 130, 3) := dk_153 0 130 (dk_at dksX17_unit_5 21 rfl rfl)
theorem dX17_unit_196 : decode cX17_unit 196 = .ok (.iconst 1, 1) := dk_4 (dk_at dksX17_unit_6 0 rfl rfl)
theorem dX17_unit_197 : decode cX17_unit 197 = .ok (.istore 4, 2) := dk_54 4 (dk_at dksX17_unit_6 1 rfl rfl)
theorem dX17_unit_199 : decode cX17_unit 199 = .ok (.goto 124, 3) := dk_167 0 124 (dk_at dksX17_unit_6 3 rfl rfl)
theorem dX17_unit_202 : decode cX17_unit 202 = .ok (.aload_n 3, 1) := dk_45 (dk_at dksX17_unit_6 6 rfl rfl)
theorem dX17_unit_203 : decode cX17_unit 203 = .ok (.ldc 88, 2) := dk_18 88 (dk_at dksX17_unit_6 7 rfl rfl)
theorem dX17_unit_205 : decode cX17_unit 205 = .ok (.invokevirtual 82, 3) := dk_182 0 82 (dk_at dksX17_unit_6 9 rfl rfl)
theorem dX17_unit_208 : decode cX17_unit 208 = .ok (.ifCond .eq 115, 3) := dk_153 0 115 (dk_at dksX17_unit_6 12 rfl rfl)
theorem dX17_unit_211 : decode cX17_unit 211 = .ok (.iconst 2, 1) := dk_5 (dk_at dksX17_unit_6 15 rfl rfl)
theorem dX17_unit_212 : decode cX17_unit 212 = .ok (.istore 4, 2) := dk_54 4 (dk_at dksX17_unit_6 16 rfl rfl)
theorem dX17_unit_214 : decode cX17_unit 214 = .ok (.goto 109, 3) := dk_167 0 109 (dk_at dksX17_unit_6 18 rfl rfl)
theorem dX17_unit_217 : decode cX17_unit 217 = .ok (.aload_n 3, 1) := dk_45 (dk_at dksX17_unit_6 21 rfl rfl)
theorem dX17_unit_218 : decode cX17_unit 218 = .ok (.ldc 90, 2) := dk_18 90 (dk_at dksX17_unit_6 22 rfl rfl)
theorem dX17_unit_220 : decode cX17_unit 220 = .ok (.invokevirtual 82, 3) := dk_182 0 82 (dk_at dksX17_unit_7 0 rfl rfl)
theorem dX17_unit_223 : decode cX17_unit 223 = .ok (.ifCond .eq 100, 3) := dk_153 0 100 (dk_at dksX17_unit_7 3 rfl rfl)
theorem dX17_unit_226 : decode cX17_unit 226 = .ok (.iconst 3, 1) := dk_6 (dk_at dksX17_unit_7 6 rfl rfl)
theorem dX17_unit_227 : decode cX17_unit 227 = .ok (.istore 4, 2) := dk_54 4 (dk_at dksX17_unit_7 7 rfl rfl)
theorem dX17_unit_229 : decode cX17_unit 229 = .ok (.goto 94, 3) := dk_167 0 94 (dk_at dksX17_unit_7 9 rfl rfl)
theorem dX17_unit_232 : decode cX17_unit 232 = .ok (.aload_n 3, 1) := dk_45 (dk_at dksX17_unit_7 12 rfl rfl)
theorem dX17_unit_233 : decode cX17_unit 233 = .ok (.ldc 92, 2) := dk_18 92 (dk_at dksX17_unit_7 13 rfl rfl)
theorem dX17_unit_235 : decode cX17_unit 235 = .ok (.invokevirtual 82, 3) := dk_182 0 82 (dk_at dksX17_unit_7 15 rfl rfl)
theorem dX17_unit_238 : decode cX17_unit 238 = .ok (.ifCond .eq 85, 3) := dk_153 0 85 (dk_at dksX17_unit_7 18 rfl rfl)
theorem dX17_unit_241 : decode cX17_unit 241 = .ok (.iconst 4, 1) := dk_7 (dk_at dksX17_unit_7 21 rfl rfl)
theorem dX17_unit_242 : decode cX17_unit 242 = .ok (.istore 4, 2) := dk_54 4 (dk_at dksX17_unit_7 22 rfl rfl)
theorem dX17_unit_244 : decode cX17_unit 244 = .ok (.goto 79, 3) := dk_167 0 79 (dk_at dksX17_unit_8 0 rfl rfl)
theorem dX17_unit_247 : decode cX17_unit 247 = .ok (.aload_n 3, 1) := dk_45 (dk_at dksX17_unit_8 3 rfl rfl)
theorem dX17_unit_248 : decode cX17_unit 248 = .ok (.ldc 94, 2) := dk_18 94 (dk_at dksX17_unit_8 4 rfl rfl)
theorem dX17_unit_250 : decode cX17_unit 250 = .ok (.invokevirtual 82, 3) := dk_182 0 82 (dk_at dksX17_unit_8 6 rfl rfl)
theorem dX17_unit_253 : decode cX17_unit 253 = .ok (.ifCond .eq 70, 3) := dk_153 0 70 (dk_at dksX17_unit_8 9 rfl rfl)
theorem dX17_unit_256 : decode cX17_unit 256 = .ok (.iconst 5, 1) := dk_8 (dk_at dksX17_unit_8 12 rfl rfl)
theorem dX17_unit_257 : decode cX17_unit 257 = .ok (.istore 4, 2) := dk_54 4 (dk_at dksX17_unit_8 13 rfl rfl)
theorem dX17_unit_259 : decode cX17_unit 259 = .ok (.goto 64, 3) := dk_167 0 64 (dk_at dksX17_unit_8 15 rfl rfl)
theorem dX17_unit_262 : decode cX17_unit 262 = .ok (.aload_n 3, 1) := dk_45 (dk_at dksX17_unit_8 18 rfl rfl)
theorem dX17_unit_263 : decode cX17_unit 263 = .ok (.ldc 96, 2) := dk_18 96 (dk_at dksX17_unit_8 19 rfl rfl)
theorem dX17_unit_265 : decode cX17_unit 265 = .ok (.invokevirtual 82, 3) := dk_182 0 82 (dk_at dksX17_unit_8 21 rfl rfl)
theorem dX17_unit_268 : decode cX17_unit 268 = .ok (.ifCond .eq 55, 3) := dk_153 0 55 (dk_at dksX17_unit_9 0 rfl rfl)
theorem dX17_unit_271 : decode cX17_unit 271 = .ok (.bipush 6, 2) := dk_16 6 (dk_at dksX17_unit_9 3 rfl rfl)
theorem dX17_unit_273 : decode cX17_unit 273 = .ok (.istore 4, 2) := dk_54 4 (dk_at dksX17_unit_9 5 rfl rfl)
theorem dX17_unit_275 : decode cX17_unit 275 = .ok (.goto 48, 3) := dk_167 0 48 (dk_at dksX17_unit_9 7 rfl rfl)
theorem dX17_unit_278 : decode cX17_unit 278 = .ok (.aload_n 3, 1) := dk_45 (dk_at dksX17_unit_9 10 rfl rfl)
theorem dX17_unit_279 : decode cX17_unit 279 = .ok (.ldc 98, 2) := dk_18 98 (dk_at dksX17_unit_9 11 rfl rfl)
theorem dX17_unit_281 : decode cX17_unit 281 = .ok (.invokevirtual 82, 3) := dk_182 0 82 (dk_at dksX17_unit_9 13 rfl rfl)
theorem dX17_unit_284 : decode cX17_unit 284 = .ok (.ifCond .eq 39, 3) := dk_153 0 39 (dk_at dksX17_unit_9 16 rfl rfl)
theorem dX17_unit_287 : decode cX17_unit 287 = .ok (.bipush 7, 2) := dk_16 7 (dk_at dksX17_unit_9 19 rfl rfl)
theorem dX17_unit_289 : decode cX17_unit 289 = .ok (.istore 4, 2) := dk_54 4 (dk_at dksX17_unit_9 21 rfl rfl)
theorem dX17_unit_291 : decode cX17_unit 291 = .ok (.goto 32, 3) := dk_167 0 32 (dk_at dksX17_unit_10 0 rfl rfl)
theorem dX17_unit_294 : decode cX17_unit 294 = .ok (.aload_n 3, 1) := dk_45 (dk_at dksX17_unit_10 3 rfl rfl)
theorem dX17_unit_295 : decode cX17_unit 295 = .ok (.ldc 100, 2) := dk_18 100 (dk_at dksX17_unit_10 4 rfl rfl)
theorem dX17_unit_297 : decode cX17_unit 297 = .ok (.invokevirtual 82, 3) := dk_182 0 82 (dk_at dksX17_unit_10 6 rfl rfl)
theorem dX17_unit_300 : decode cX17_unit 300 = .ok (.ifCond .eq 23, 3) := dk_153 0 23 (dk_at dksX17_unit_10 9 rfl rfl)
theorem dX17_unit_303 : decode cX17_unit 303 = .ok (.bipush 8, 2) := dk_16 8 (dk_at dksX17_unit_10 12 rfl rfl)
theorem dX17_unit_305 : decode cX17_unit 305 = .ok (.istore 4, 2) := dk_54 4 (dk_at dksX17_unit_10 14 rfl rfl)
theorem dX17_unit_307 : decode cX17_unit 307 = .ok (.goto 16, 3) := dk_167 0 16 (dk_at dksX17_unit_10 16 rfl rfl)
theorem dX17_unit_310 : decode cX17_unit 310 = .ok (.aload_n 3, 1) := dk_45 (dk_at dksX17_unit_10 19 rfl rfl)
theorem dX17_unit_311 : decode cX17_unit 311 = .ok (.ldc 102, 2) := dk_18 102 (dk_at dksX17_unit_10 20 rfl rfl)
theorem dX17_unit_313 : decode cX17_unit 313 = .ok (.invokevirtual 82, 3) := dk_182 0 82 (dk_at dksX17_unit_11 0 rfl rfl)
theorem dX17_unit_316 : decode cX17_unit 316 = .ok (.ifCond .eq 7, 3) := dk_153 0 7 (dk_at dksX17_unit_11 3 rfl rfl)
theorem dX17_unit_319 : decode cX17_unit 319 = .ok (.bipush 9, 2) := dk_16 9 (dk_at dksX17_unit_11 6 rfl rfl)
theorem dX17_unit_321 : decode cX17_unit 321 = .ok (.istore 4, 2) := dk_54 4 (dk_at dksX17_unit_11 8 rfl rfl)
theorem dX17_unit_323 : decode cX17_unit 323 = .ok (.iload 4, 2) := dk_21 4 (dk_at dksX17_unit_11 10 rfl rfl)
theorem dX17_unit_325 : decode cX17_unit 325 = .ok (.tableswitch 119 0 9 #[55, 62, 69, 76, 83, 90, 97, 105, 113, 113], 55) := by decide +kernel
theorem dX17_unit_380 : decode cX17_unit 380 = .ok (.aload_n 0, 1) := dk_42 (dk_at dksX17_unit_13 0 rfl rfl)
theorem dX17_unit_381 : decode cX17_unit 381 = .ok (.aload_n 2, 1) := dk_44 (dk_at dksX17_unit_13 1 rfl rfl)
theorem dX17_unit_382 : decode cX17_unit 382 = .ok (.iconst 0, 1) := dk_3 (dk_at dksX17_unit_13 2 rfl rfl)
theorem dX17_unit_383 : decode cX17_unit 383 = .ok (.invokevirtual 104, 3) := dk_182 0 104 (dk_at dksX17_unit_13 3 rfl rfl)
theorem dX17_unit_386 : decode cX17_unit 386 = .ok (.areturn, 1) := dk_176 (dk_at dksX17_unit_13 6 rfl rfl)
theorem dX17_unit_387 : decode cX17_unit 387 = .ok (.aload_n 0, 1) := dk_42 (dk_at dksX17_unit_13 7 rfl rfl)
theorem dX17_unit_388 : decode cX17_unit 388 = .ok (.aload_n 2, 1) := dk_44 (dk_at dksX17_unit_13 8 rfl rfl)
theorem dX17_unit_389 : decode cX17_unit 389 = .ok (.iconst 1, 1) := dk_4 (dk_at dksX17_unit_13 9 rfl rfl)
theorem dX17_unit_390 : decode cX17_unit 390 = .ok (.invokevirtual 104, 3) := dk_182 0 104 (dk_at dksX17_unit_13 10 rfl rfl)
theorem dX17_unit_393 : decode cX17_unit 393 = .ok (.areturn, 1) := dk_176 (dk_at dksX17_unit_13 13 rfl rfl)
theorem dX17_unit_394 : decode cX17_unit 394 = .ok (.aload_n 0, 1) := dk_42 (dk_at dksX17_unit_13 14 rfl rfl)
theorem dX17_unit_395 : decode cX17_unit 395 = .ok (.aload_n 2, 1) := dk_44 (dk_at dksX17_unit_13 15 rfl rfl)
theorem dX17_unit_396 : decode cX17_unit 396 = .ok (.iconst 2, 1) := dk_5 (dk_at dksX17_unit_13 16 rfl rfl)
theorem dX17_unit_397 : decode cX17_unit 397 = .ok (.invokevirtual 104, 3) := dk_182 0 104 (dk_at dksX17_unit_13 17 rfl rfl)
theorem dX17_unit_400 : decode cX17_unit 400 = .ok (.areturn, 1) := dk_176 (dk_at dksX17_unit_13 20 rfl rfl)
theorem dX17_unit_401 : decode cX17_unit 401 = .ok (.aload_n 0, 1) := dk_42 (dk_at dksX17_unit_13 21 rfl rfl)
theorem dX17_unit_402 : decode cX17_unit 402 = .ok (.aload_n 2, 1) := dk_44 (dk_at dksX17_unit_13 22 rfl rfl)
theorem dX17_unit_403 : decode cX17_unit 403 = .ok (.iconst 3, 1) := dk_6 (dk_at dksX17_unit_13 23 rfl rfl)
theorem dX17_unit_404 : decode cX17_unit 404 = .ok (.invokevirtual 104, 3) := dk_182 0 104 (dk_at dksX17_unit_14 0 rfl rfl)
theorem dX17_unit_407 : decode cX17_unit 407 = .ok (.areturn, 1) := dk_176 (dk_at dksX17_unit_14 3 rfl rfl)
theorem dX17_unit_408 : decode cX17_unit 408 = .ok (.aload_n 0, 1) := dk_42 (dk_at dksX17_unit_14 4 rfl rfl)
theorem dX17_unit_409 : decode cX17_unit 409 = .ok (.aload_n 2, 1) := dk_44 (dk_at dksX17_unit_14 5 rfl rfl)
theorem dX17_unit_410 : decode cX17_unit 410 = .ok (.iconst 4, 1) := dk_7 (dk_at dksX17_unit_14 6 rfl rfl)
theorem dX17_unit_411 : decode cX17_unit 411 = .ok (.invokevirtual 104, 3) := dk_182 0 104 (dk_at dksX17_unit_14 7 rfl rfl)
theorem dX17_unit_414 : decode cX17_unit 414 = .ok (.areturn, 1) := dk_176 (dk_at dksX17_unit_14 10 rfl rfl)
theorem dX17_unit_415 : decode cX17_unit 415 = .ok (.aload_n 0, 1) := dk_42 (dk_at dksX17_unit_14 11 rfl rfl)
theorem dX17_unit_416 : decode cX17_unit 416 = .ok (.aload_n 2, 1) := dk_44 (dk_at dksX17_unit_14 12 rfl rfl)
theorem dX17_unit_417 : decode cX17_unit 417 = .ok (.iconst 5, 1) := dk_8 (dk_at dksX17_unit_14 13 rfl rfl)
theorem dX17_unit_418 : decode cX17_unit 418 = .ok (.invokevirtual 104, 3) := dk_182 0 104 (dk_at dksX17_unit_14 14 rfl rfl)
theorem dX17_unit_421 : decode cX17_unit 421 = .ok (.areturn, 1) := dk_176 (dk_at dksX17_unit_14 17 rfl rfl)
theorem dX17_unit_422 : decode cX17_unit 422 = .ok (.aload_n 0, 1) := dk_42 (dk_at dksX17_unit_14 18 rfl rfl)
theorem dX17_unit_423 : decode cX17_unit 423 = .ok (.aload_n 2, 1) := dk_44 (dk_at dksX17_unit_14 19 rfl rfl)
theorem dX17_unit_424 : decode cX17_unit 424 = .ok (.bipush 6, 2) := dk_16 6 (dk_at dksX17_unit_14 20 rfl rfl)
theorem dX17_unit_426 : decode cX17_unit 426 = .ok (.invokevirtual 104, 3) := dk_182 0 104 (dk_at dksX17_unit_15 0 rfl rfl)
theorem dX17_unit_429 : decode cX17_unit 429 = .ok (.areturn, 1) := dk_176 (dk_at dksX17_unit_15 3 rfl rfl)
theorem dX17_unit_430 : decode cX17_unit 430 = .ok (.aload_n 0, 1) := dk_42 (dk_at dksX17_unit_15 4 rfl rfl)
theorem dX17_unit_431 : decode cX17_unit 431 = .ok (.aload_n 2, 1) := dk_44 (dk_at dksX17_unit_15 5 rfl rfl)
theorem dX17_unit_432 : decode cX17_unit 432 = .ok (.bipush 7, 2) := dk_16 7 (dk_at dksX17_unit_15 6 rfl rfl)
theorem dX17_unit_434 : decode cX17_unit 434 = .ok (.invokevirtual 104, 3) := dk_182 0 104 (dk_at dksX17_unit_15 8 rfl rfl)
theorem dX17_unit_437 : decode cX17_unit 437 = .ok (.areturn, 1) := dk_176 (dk_at dksX17_unit_15 11 rfl rfl)
theorem dX17_unit_438 : decode cX17_unit 438 = .ok (.aload_n 0, 1) := dk_42 (dk_at dksX17_unit_15 12 rfl rfl)
theorem dX17_unit_439 : decode cX17_unit 439 = .ok (.aload_n 2, 1) := dk_44 (dk_at dksX17_unit_15 13 rfl rfl)
theorem dX17_unit_440 : decode cX17_unit 440 = .ok (.invokevirtual 108, 3) := dk_182 0 108 (dk_at dksX17_unit_15 14 rfl rfl)
theorem dX17_unit_443 : decode cX17_unit 443 = .ok (.areturn, 1) := dk_176 (dk_at dksX17_unit_15 17 rfl rfl)
theorem dX17_unit_444 : decode cX17_unit 444 = .ok (.aload_n 0, 1) := dk_42 (dk_at dksX17_unit_15 18 rfl rfl)
theorem dX17_unit_445 : decode cX17_unit 445 = .ok (.invokevirtual 26, 3) := dk_182 0 26 (dk_at dksX17_unit_15 19 rfl rfl)
theorem dX17_unit_448 : decode cX17_unit 448 = .ok (.athrow, 1) := dk_191 (dk_at dksX17_unit_15 22 rfl rfl)
def dkwX17_fact_0 : List UInt8 := [42, 89, 180, 0, 19, 43, 182, 0, 112, 96, 181, 0, 19, 187, 0, 115, 89, 28, 183, 0, 117, 176]
abbrev dktX17_fact_0 : List UInt8 := dkwX17_fact_0 ++ []
theorem dksX17_fact_0 : cX17_fact.data.toList.drop 0 = dktX17_fact_0 := by decide +kernel
theorem dX17_fact_0 : decode cX17_fact 0 = .ok (.aload_n 0, 1) := dk_42 (dk_at dksX17_fact_0 0 rfl rfl)
theorem dX17_fact_1 : decode cX17_fact 1 = .ok (.dup, 1) := dk_89 (dk_at dksX17_fact_0 1 rfl rfl)
theorem dX17_fact_2 : decode cX17_fact 2 = .ok (.getfield 19, 3) := dk_180 0 19 (dk_at dksX17_fact_0 2 rfl rfl)
theorem dX17_fact_5 : decode cX17_fact 5 = .ok (.aload_n 1, 1) := dk_43 (dk_at dksX17_fact_0 5 rfl rfl)
theorem dX17_fact_6 : decode cX17_fact 6 = .ok (.invokevirtual 112, 3) := dk_182 0 112 (dk_at dksX17_fact_0 6 rfl rfl)
theorem dX17_fact_9 : decode cX17_fact 9 = .ok (.iadd, 1) := dk_96 (dk_at dksX17_fact_0 9 rfl rfl)
theorem dX17_fact_10 : decode cX17_fact 10 = .ok (.putfield 19, 3) := dk_181 0 19 (dk_at dksX17_fact_0 10 rfl rfl)
theorem dX17_fact_13 : decode cX17_fact 13 = .ok (.new 115, 3) := dk_187 0 115 (dk_at dksX17_fact_0 13 rfl rfl)
theorem dX17_fact_16 : decode cX17_fact 16 = .ok (.dup, 1) := dk_89 (dk_at dksX17_fact_0 16 rfl rfl)
theorem dX17_fact_17 : decode cX17_fact 17 = .ok (.iload_n 2, 1) := dk_28 (dk_at dksX17_fact_0 17 rfl rfl)
theorem dX17_fact_18 : decode cX17_fact 18 = .ok (.invokespecial 117, 3) := dk_183 0 117 (dk_at dksX17_fact_0 18 rfl rfl)
theorem dX17_fact_21 : decode cX17_fact 21 = .ok (.areturn, 1) := dk_176 (dk_at dksX17_fact_0 21 rfl rfl)
def dkwX17_two_3 : List UInt8 := [89, 44, 45, 183, 0, 123, 176]
abbrev dktX17_two_3 : List UInt8 := dkwX17_two_3 ++ []
def dkwX17_two_2 : List UInt8 := [43, 18, 100, 182, 0, 82, 153, 0, 15, 187, 0, 118, 89, 44, 45, 183, 0, 120, 167, 0, 12, 187, 0, 121]
abbrev dktX17_two_2 : List UInt8 := dkwX17_two_2 ++ dktX17_two_3
def dkwX17_two_1 : List UInt8 := [182, 0, 57, 42, 182, 0, 9, 78, 42, 16, 93, 182, 0, 57, 42, 89, 180, 0, 60, 4, 100, 181, 0, 60]
abbrev dktX17_two_1 : List UInt8 := dkwX17_two_1 ++ dktX17_two_2
def dkwX17_two_0 : List UInt8 := [42, 43, 182, 0, 112, 182, 0, 53, 42, 16, 91, 182, 0, 57, 42, 182, 0, 9, 77, 42, 16, 44]
abbrev dktX17_two_0 : List UInt8 := dkwX17_two_0 ++ dktX17_two_1
theorem dksX17_two_0 : cX17_two.data.toList.drop 0 = dktX17_two_0 := by decide +kernel
theorem dksX17_two_1 : cX17_two.data.toList.drop 22 = dktX17_two_1 := dk_seg dksX17_two_0 22 rfl rfl
theorem dksX17_two_2 : cX17_two.data.toList.drop 46 = dktX17_two_2 := dk_seg dksX17_two_1 24 rfl rfl
theorem dksX17_two_3 : cX17_two.data.toList.drop 70 = dktX17_two_3 := dk_seg dksX17_two_2 24 rfl rfl
theorem dX17_two_0 : decode cX17_two 0 = .ok (.aload_n 0, 1) := dk_42 (dk_at dksX17_two_0 0 rfl rfl)
theorem dX17_two_1 : decode cX17_two 1 = .ok (.aload_n 1, 1) := dk_43 (dk_at dksX17_two_0 1 rfl rfl)
theorem dX17_two_2 : decode cX17_two 2 = .ok (.invokevirtual 112, 3) := dk_182 0 112 (dk_at dksX17_two_0 2 rfl rfl)
theorem dX17_two_5 : decode cX17_two 5 = .ok (.invokevirtual 53, 3) := dk_182 0 53 (dk_at dksX17_two_0 5 rfl rfl)
theorem dX17_two_8 : decode cX17_two 8 = .ok (.aload_n 0, 1) := dk_42 (dk_at dksX17_two_0 8 rfl rfl)
theorem dX17_two_9 : decode cX17_two 9 = .ok (.bipush 91, 2) := dk_16 91 (dk_at dksX17_two_0 9 rfl rfl)
theorem dX17_two_11 : decode cX17_two 11 = .ok (.invokevirtual 57, 3) := dk_182 0 57 (dk_at dksX17_two_0 11 rfl rfl)
theorem dX17_two_14 : decode cX17_two 14 = .ok (.aload_n 0, 1) := dk_42 (dk_at dksX17_two_0 14 rfl rfl)
theorem dX17_two_15 : decode cX17_two 15 = .ok (.invokevirtual 9, 3) := dk_182 0 9 (dk_at dksX17_two_0 15 rfl rfl)
theorem dX17_two_18 : decode cX17_two 18 = .ok (.astore_n 2, 1) := dk_77 (dk_at dksX17_two_0 18 rfl rfl)
theorem dX17_two_19 : decode cX17_two 19 = .ok (.aload_n 0, 1) := dk_42 (dk_at dksX17_two_0 19 rfl rfl)
theorem dX17_two_20 : decode cX17_two 20 = .ok (.bipush 44, 2) := dk_16 44 (dk_at dksX17_two_0 20 rfl rfl)
theorem dX17_two_22 : decode cX17_two 22 = .ok (.invokevirtual 57, 3) := dk_182 0 57 (dk_at dksX17_two_1 0 rfl rfl)
theorem dX17_two_25 : decode cX17_two 25 = .ok (.aload_n 0, 1) := dk_42 (dk_at dksX17_two_1 3 rfl rfl)
theorem dX17_two_26 : decode cX17_two 26 = .ok (.invokevirtual 9, 3) := dk_182 0 9 (dk_at dksX17_two_1 4 rfl rfl)
theorem dX17_two_29 : decode cX17_two 29 = .ok (.astore_n 3, 1) := dk_78 (dk_at dksX17_two_1 7 rfl rfl)
theorem dX17_two_30 : decode cX17_two 30 = .ok (.aload_n 0, 1) := dk_42 (dk_at dksX17_two_1 8 rfl rfl)
theorem dX17_two_31 : decode cX17_two 31 = .ok (.bipush 93, 2) := dk_16 93 (dk_at dksX17_two_1 9 rfl rfl)
theorem dX17_two_33 : decode cX17_two 33 = .ok (.invokevirtual 57, 3) := dk_182 0 57 (dk_at dksX17_two_1 11 rfl rfl)
theorem dX17_two_36 : decode cX17_two 36 = .ok (.aload_n 0, 1) := dk_42 (dk_at dksX17_two_1 14 rfl rfl)
theorem dX17_two_37 : decode cX17_two 37 = .ok (.dup, 1) := dk_89 (dk_at dksX17_two_1 15 rfl rfl)
theorem dX17_two_38 : decode cX17_two 38 = .ok (.getfield 60, 3) := dk_180 0 60 (dk_at dksX17_two_1 16 rfl rfl)
theorem dX17_two_41 : decode cX17_two 41 = .ok (.iconst 1, 1) := dk_4 (dk_at dksX17_two_1 19 rfl rfl)
theorem dX17_two_42 : decode cX17_two 42 = .ok (.isub, 1) := dk_100 (dk_at dksX17_two_1 20 rfl rfl)
theorem dX17_two_43 : decode cX17_two 43 = .ok (.putfield 60, 3) := dk_181 0 60 (dk_at dksX17_two_1 21 rfl rfl)
theorem dX17_two_46 : decode cX17_two 46 = .ok (.aload_n 1, 1) := dk_43 (dk_at dksX17_two_2 0 rfl rfl)
theorem dX17_two_47 : decode cX17_two 47 = .ok (.ldc 100, 2) := dk_18 100 (dk_at dksX17_two_2 1 rfl rfl)
theorem dX17_two_49 : decode cX17_two 49 = .ok (.invokevirtual 82, 3) := dk_182 0 82 (dk_at dksX17_two_2 3 rfl rfl)
theorem dX17_two_52 : decode cX17_two 52 = .ok (.ifCond .eq 15, 3) := dk_153 0 15 (dk_at dksX17_two_2 6 rfl rfl)
theorem dX17_two_55 : decode cX17_two 55 = .ok (.new 118, 3) := dk_187 0 118 (dk_at dksX17_two_2 9 rfl rfl)
theorem dX17_two_58 : decode cX17_two 58 = .ok (.dup, 1) := dk_89 (dk_at dksX17_two_2 12 rfl rfl)
theorem dX17_two_59 : decode cX17_two 59 = .ok (.aload_n 2, 1) := dk_44 (dk_at dksX17_two_2 13 rfl rfl)
theorem dX17_two_60 : decode cX17_two 60 = .ok (.aload_n 3, 1) := dk_45 (dk_at dksX17_two_2 14 rfl rfl)
theorem dX17_two_61 : decode cX17_two 61 = .ok (.invokespecial 120, 3) := dk_183 0 120 (dk_at dksX17_two_2 15 rfl rfl)
theorem dX17_two_64 : decode cX17_two 64 = .ok (.goto 12, 3) := dk_167 0 12 (dk_at dksX17_two_2 18 rfl rfl)
theorem dX17_two_67 : decode cX17_two 67 = .ok (.new 121, 3) := dk_187 0 121 (dk_at dksX17_two_2 21 rfl rfl)
theorem dX17_two_70 : decode cX17_two 70 = .ok (.dup, 1) := dk_89 (dk_at dksX17_two_3 0 rfl rfl)
theorem dX17_two_71 : decode cX17_two 71 = .ok (.aload_n 2, 1) := dk_44 (dk_at dksX17_two_3 1 rfl rfl)
theorem dX17_two_72 : decode cX17_two 72 = .ok (.aload_n 3, 1) := dk_45 (dk_at dksX17_two_3 2 rfl rfl)
theorem dX17_two_73 : decode cX17_two 73 = .ok (.invokespecial 123, 3) := dk_183 0 123 (dk_at dksX17_two_3 3 rfl rfl)
theorem dX17_two_76 : decode cX17_two 76 = .ok (.areturn, 1) := dk_176 (dk_at dksX17_two_3 6 rfl rfl)

set_option maxRecDepth 100000
def dkwX18_with_0 : List UInt8 := [27, 28, 184, 0, 7, 172]
abbrev dktX18_with_0 : List UInt8 := dkwX18_with_0 ++ []
theorem dksX18_with_0 : cX18_with.data.toList.drop 0 = dktX18_with_0 := by decide +kernel
theorem dX18_with_0 : decode cX18_with 0 = .ok (.iload_n 1, 1) := dk_27 (dk_at dksX18_with_0 0 rfl rfl)
theorem dX18_with_1 : decode cX18_with 1 = .ok (.iload_n 2, 1) := dk_28 (dk_at dksX18_with_0 1 rfl rfl)
theorem dX18_with_2 : decode cX18_with 2 = .ok (.invokestatic 7, 3) := dk_184 0 7 (dk_at dksX18_with_0 2 rfl rfl)
theorem dX18_with_5 : decode cX18_with 5 = .ok (.ireturn, 1) := dk_172 (dk_at dksX18_with_0 5 rfl rfl)
def dkwX18_init_0 : List UInt8 := [42, 43, 44, 183, 0, 1, 177]
abbrev dktX18_init_0 : List UInt8 := dkwX18_init_0 ++ []
theorem dksX18_init_0 : cX18_init.data.toList.drop 0 = dktX18_init_0 := by decide +kernel
theorem dX18_init_0 : decode cX18_init 0 = .ok (.aload_n 0, 1) := dk_42 (dk_at dksX18_init_0 0 rfl rfl)
theorem dX18_init_1 : decode cX18_init 1 = .ok (.aload_n 1, 1) := dk_43 (dk_at dksX18_init_0 1 rfl rfl)
theorem dX18_init_2 : decode cX18_init 2 = .ok (.aload_n 2, 1) := dk_44 (dk_at dksX18_init_0 2 rfl rfl)
theorem dX18_init_3 : decode cX18_init 3 = .ok (.invokespecial 1, 3) := dk_183 0 1 (dk_at dksX18_init_0 3 rfl rfl)
theorem dX18_init_6 : decode cX18_init 6 = .ok (.return_, 1) := dk_177 (dk_at dksX18_init_0 6 rfl rfl)

set_option maxRecDepth 100000
def dkwX19_with_0 : List UInt8 := [27, 28, 184, 0, 7, 172]
abbrev dktX19_with_0 : List UInt8 := dkwX19_with_0 ++ []
theorem dksX19_with_0 : cX19_with.data.toList.drop 0 = dktX19_with_0 := by decide +kernel
theorem dX19_with_0 : decode cX19_with 0 = .ok (.iload_n 1, 1) := dk_27 (dk_at dksX19_with_0 0 rfl rfl)
theorem dX19_with_1 : decode cX19_with 1 = .ok (.iload_n 2, 1) := dk_28 (dk_at dksX19_with_0 1 rfl rfl)
theorem dX19_with_2 : decode cX19_with 2 = .ok (.invokestatic 7, 3) := dk_184 0 7 (dk_at dksX19_with_0 2 rfl rfl)
theorem dX19_with_5 : decode cX19_with 5 = .ok (.ireturn, 1) := dk_172 (dk_at dksX19_with_0 5 rfl rfl)
def dkwX19_init_0 : List UInt8 := [42, 43, 44, 183, 0, 1, 177]
abbrev dktX19_init_0 : List UInt8 := dkwX19_init_0 ++ []
theorem dksX19_init_0 : cX19_init.data.toList.drop 0 = dktX19_init_0 := by decide +kernel
theorem dX19_init_0 : decode cX19_init 0 = .ok (.aload_n 0, 1) := dk_42 (dk_at dksX19_init_0 0 rfl rfl)
theorem dX19_init_1 : decode cX19_init 1 = .ok (.aload_n 1, 1) := dk_43 (dk_at dksX19_init_0 1 rfl rfl)
theorem dX19_init_2 : decode cX19_init 2 = .ok (.aload_n 2, 1) := dk_44 (dk_at dksX19_init_0 2 rfl rfl)
theorem dX19_init_3 : decode cX19_init 3 = .ok (.invokespecial 1, 3) := dk_183 0 1 (dk_at dksX19_init_0 3 rfl rfl)
theorem dX19_init_6 : decode cX19_init 6 = .ok (.return_, 1) := dk_177 (dk_at dksX19_init_0 6 rfl rfl)

set_option maxRecDepth 100000
def dkwX20_with_0 : List UInt8 := [28, 154, 0, 7, 3, 167, 0, 6, 27, 28, 108, 172]
abbrev dktX20_with_0 : List UInt8 := dkwX20_with_0 ++ []
theorem dksX20_with_0 : cX20_with.data.toList.drop 0 = dktX20_with_0 := by decide +kernel
theorem dX20_with_0 : decode cX20_with 0 = .ok (.iload_n 2, 1) := dk_28 (dk_at dksX20_with_0 0 rfl rfl)
theorem dX20_with_1 : decode cX20_with 1 = .ok (.ifCond .ne 7, 3) := dk_154 0 7 (dk_at dksX20_with_0 1 rfl rfl)
theorem dX20_with_4 : decode cX20_with 4 = .ok (.iconst 0, 1) := dk_3 (dk_at dksX20_with_0 4 rfl rfl)
theorem dX20_with_5 : decode cX20_with 5 = .ok (.goto 6, 3) := dk_167 0 6 (dk_at dksX20_with_0 5 rfl rfl)
theorem dX20_with_8 : decode cX20_with 8 = .ok (.iload_n 1, 1) := dk_27 (dk_at dksX20_with_0 8 rfl rfl)
theorem dX20_with_9 : decode cX20_with 9 = .ok (.iload_n 2, 1) := dk_28 (dk_at dksX20_with_0 9 rfl rfl)
theorem dX20_with_10 : decode cX20_with 10 = .ok (.idiv, 1) := dk_108 (dk_at dksX20_with_0 10 rfl rfl)
theorem dX20_with_11 : decode cX20_with 11 = .ok (.ireturn, 1) := dk_172 (dk_at dksX20_with_0 11 rfl rfl)
def dkwX20_init_0 : List UInt8 := [42, 43, 44, 183, 0, 1, 177]
abbrev dktX20_init_0 : List UInt8 := dkwX20_init_0 ++ []
theorem dksX20_init_0 : cX20_init.data.toList.drop 0 = dktX20_init_0 := by decide +kernel
theorem dX20_init_0 : decode cX20_init 0 = .ok (.aload_n 0, 1) := dk_42 (dk_at dksX20_init_0 0 rfl rfl)
theorem dX20_init_1 : decode cX20_init 1 = .ok (.aload_n 1, 1) := dk_43 (dk_at dksX20_init_0 1 rfl rfl)
theorem dX20_init_2 : decode cX20_init 2 = .ok (.aload_n 2, 1) := dk_44 (dk_at dksX20_init_0 2 rfl rfl)
theorem dX20_init_3 : decode cX20_init 3 = .ok (.invokespecial 1, 3) := dk_183 0 1 (dk_at dksX20_init_0 3 rfl rfl)
theorem dX20_init_6 : decode cX20_init 6 = .ok (.return_, 1) := dk_177 (dk_at dksX20_init_0 6 rfl rfl)

set_option maxRecDepth 100000
def dkwX21_with_0 : List UInt8 := [28, 154, 0, 7, 3, 167, 0, 6, 27, 28, 112, 172]
abbrev dktX21_with_0 : List UInt8 := dkwX21_with_0 ++ []
theorem dksX21_with_0 : cX21_with.data.toList.drop 0 = dktX21_with_0 := by decide +kernel
theorem dX21_with_0 : decode cX21_with 0 = .ok (.iload_n 2, 1) := dk_28 (dk_at dksX21_with_0 0 rfl rfl)
theorem dX21_with_1 : decode cX21_with 1 = .ok (.ifCond .ne 7, 3) := dk_154 0 7 (dk_at dksX21_with_0 1 rfl rfl)
theorem dX21_with_4 : decode cX21_with 4 = .ok (.iconst 0, 1) := dk_3 (dk_at dksX21_with_0 4 rfl rfl)
theorem dX21_with_5 : decode cX21_with 5 = .ok (.goto 6, 3) := dk_167 0 6 (dk_at dksX21_with_0 5 rfl rfl)
theorem dX21_with_8 : decode cX21_with 8 = .ok (.iload_n 1, 1) := dk_27 (dk_at dksX21_with_0 8 rfl rfl)
theorem dX21_with_9 : decode cX21_with 9 = .ok (.iload_n 2, 1) := dk_28 (dk_at dksX21_with_0 9 rfl rfl)
theorem dX21_with_10 : decode cX21_with 10 = .ok (.irem, 1) := dk_112 (dk_at dksX21_with_0 10 rfl rfl)
theorem dX21_with_11 : decode cX21_with 11 = .ok (.ireturn, 1) := dk_172 (dk_at dksX21_with_0 11 rfl rfl)
def dkwX21_init_0 : List UInt8 := [42, 43, 44, 183, 0, 1, 177]
abbrev dktX21_init_0 : List UInt8 := dkwX21_init_0 ++ []
theorem dksX21_init_0 : cX21_init.data.toList.drop 0 = dktX21_init_0 := by decide +kernel
theorem dX21_init_0 : decode cX21_init 0 = .ok (.aload_n 0, 1) := dk_42 (dk_at dksX21_init_0 0 rfl rfl)
theorem dX21_init_1 : decode cX21_init 1 = .ok (.aload_n 1, 1) := dk_43 (dk_at dksX21_init_0 1 rfl rfl)
theorem dX21_init_2 : decode cX21_init 2 = .ok (.aload_n 2, 1) := dk_44 (dk_at dksX21_init_0 2 rfl rfl)
theorem dX21_init_3 : decode cX21_init 3 = .ok (.invokespecial 1, 3) := dk_183 0 1 (dk_at dksX21_init_0 3 rfl rfl)
theorem dX21_init_6 : decode cX21_init 6 = .ok (.return_, 1) := dk_177 (dk_at dksX21_init_0 6 rfl rfl)

set_option maxRecDepth 100000
def dkwX22_init_0 : List UInt8 := [42, 43, 28, 183, 0, 3, 42, 45, 181, 0, 9, 177]
abbrev dktX22_init_0 : List UInt8 := dkwX22_init_0 ++ []
theorem dksX22_init_0 : cX22_init.data.toList.drop 0 = dktX22_init_0 := by decide +kernel
theorem dX22_init_0 : decode cX22_init 0 = .ok (.aload_n 0, 1) := dk_42 (dk_at dksX22_init_0 0 rfl rfl)
theorem dX22_init_1 : decode cX22_init 1 = .ok (.aload_n 1, 1) := dk_43 (dk_at dksX22_init_0 1 rfl rfl)
theorem dX22_init_2 : decode cX22_init 2 = .ok (.iload_n 2, 1) := dk_28 (dk_at dksX22_init_0 2 rfl rfl)
theorem dX22_init_3 : decode cX22_init 3 = .ok (.invokespecial 3, 3) := dk_183 0 3 (dk_at dksX22_init_0 3 rfl rfl)
theorem dX22_init_6 : decode cX22_init 6 = .ok (.aload_n 0, 1) := dk_42 (dk_at dksX22_init_0 6 rfl rfl)
theorem dX22_init_7 : decode cX22_init 7 = .ok (.aload_n 3, 1) := dk_45 (dk_at dksX22_init_0 7 rfl rfl)
theorem dX22_init_8 : decode cX22_init 8 = .ok (.putfield 9, 3) := dk_181 0 9 (dk_at dksX22_init_0 8 rfl rfl)
theorem dX22_init_11 : decode cX22_init 11 = .ok (.return_, 1) := dk_177 (dk_at dksX22_init_0 11 rfl rfl)
def dkwX22_reads_1 : List UInt8 := [162, 0, 20, 43, 42, 182, 0, 31, 182, 0, 35, 87, 42, 182, 0, 20, 87, 167, 255, 231, 43, 176]
abbrev dktX22_reads_1 : List UInt8 := dkwX22_reads_1 ++ []
def dkwX22_reads_0 : List UInt8 := [187, 0, 15, 89, 5, 183, 0, 17, 76, 42, 182, 0, 20, 87, 42, 180, 0, 24, 42, 180, 0, 28]
abbrev dktX22_reads_0 : List UInt8 := dkwX22_reads_0 ++ dktX22_reads_1
theorem dksX22_reads_0 : cX22_reads.data.toList.drop 0 = dktX22_reads_0 := by decide +kernel
theorem dksX22_reads_1 : cX22_reads.data.toList.drop 22 = dktX22_reads_1 := dk_seg dksX22_reads_0 22 rfl rfl
theorem dX22_reads_0 : decode cX22_reads 0 = .ok (.new 15, 3) := dk_187 0 15 (dk_at dksX22_reads_0 0 rfl rfl)
theorem dX22_reads_3 : decode cX22_reads 3 = .ok (.dup, 1) := dk_89 (dk_at dksX22_reads_0 3 rfl rfl)
theorem dX22_reads_4 : decode cX22_reads 4 = .ok (.iconst 2, 1) := dk_5 (dk_at dksX22_reads_0 4 rfl rfl)
theorem dX22_reads_5 : decode cX22_reads 5 = .ok (.invokespecial 17, 3) := dk_183 0 17 (dk_at dksX22_reads_0 5 rfl rfl)
theorem dX22_reads_8 : decode cX22_reads 8 = .ok (.astore_n 1, 1) := dk_76 (dk_at dksX22_reads_0 8 rfl rfl)
theorem dX22_reads_9 : decode cX22_reads 9 = .ok (.aload_n 0, 1) := dk_42 (dk_at dksX22_reads_0 9 rfl rfl)
theorem dX22_reads_10 : decode cX22_reads 10 = .ok (.invokevirtual 20, 3) := dk_182 0 20 (dk_at dksX22_reads_0 10 rfl rfl)
theorem dX22_reads_13 : decode cX22_reads 13 = .ok (.pop, 1) := dk_87 (dk_at dksX22_reads_0 13 rfl rfl)
theorem dX22_reads_14 : decode cX22_reads 14 = .ok (.aload_n 0, 1) := dk_42 (dk_at dksX22_reads_0 14 rfl rfl)
theorem dX22_reads_15 : decode cX22_reads 15 = .ok (.getfield 24, 3) := dk_180 0 24 (dk_at dksX22_reads_0 15 rfl rfl)
theorem dX22_reads_18 : decode cX22_reads 18 = .ok (.aload_n 0, 1) := dk_42 (dk_at dksX22_reads_0 18 rfl rfl)
theorem dX22_reads_19 : decode cX22_reads 19 = .ok (.getfield 28, 3) := dk_180 0 28 (dk_at dksX22_reads_0 19 rfl rfl)
theorem dX22_reads_22 : decode cX22_reads 22 = .ok (.if_icmp .ge 20, 3) := dk_162 0 20 (dk_at dksX22_reads_1 0 rfl rfl)
theorem dX22_reads_25 : decode cX22_reads 25 = .ok (.aload_n 1, 1) := dk_43 (dk_at dksX22_reads_1 3 rfl rfl)
theorem dX22_reads_26 : decode cX22_reads 26 = .ok (.aload_n 0, 1) := dk_42 (dk_at dksX22_reads_1 4 rfl rfl)
theorem dX22_reads_27 : decode cX22_reads 27 = .ok (.invokevirtual 31, 3) := dk_182 0 31 (dk_at dksX22_reads_1 5 rfl rfl)
theorem dX22_reads_30 : decode cX22_reads 30 = .ok (.invokevirtual 35, 3) := dk_182 0 35 (dk_at dksX22_reads_1 8 rfl rfl)
theorem dX22_reads_33 : decode cX22_reads 33 = .ok (.pop, 1) := dk_87 (dk_at dksX22_reads_1 11 rfl rfl)
theorem dX22_reads_34 : decode cX22_reads 34 = .ok (.aload_n 0, 1) := dk_42 (dk_at dksX22_reads_1 12 rfl rfl)
theorem dX22_reads_35 : decode cX22_reads 35 = .ok (.invokevirtual 20, 3) := dk_182 0 20 (dk_at dksX22_reads_1 13 rfl rfl)
theorem dX22_reads_38 : decode cX22_reads 38 = .ok (.pop, 1) := dk_87 (dk_at dksX22_reads_1 16 rfl rfl)
theorem dX22_reads_39 : decode cX22_reads 39 = .ok (.goto (-25), 3) := dk_167 255 231 (dk_at dksX22_reads_1 17 rfl rfl)
theorem dX22_reads_42 : decode cX22_reads 42 = .ok (.aload_n 1, 1) := dk_43 (dk_at dksX22_reads_1 20 rfl rfl)
theorem dX22_reads_43 : decode cX22_reads 43 = .ok (.areturn, 1) := dk_176 (dk_at dksX22_reads_1 21 rfl rfl)
def dkwX22_step_9 : List UInt8 := [182, 0, 87, 77, 167, 0, 8, 42, 182, 0, 89, 191, 42, 16, 59, 182, 0, 93, 44, 176]
abbrev dktX22_step_9 : List UInt8 := dkwX22_step_9 ++ []
def dkwX22_step_8 : List UInt8 := [42, 89, 180, 0, 24, 43, 182, 0, 80, 96, 181, 0, 24, 42, 43, 182, 0, 83, 77, 167, 0, 16, 42]
abbrev dktX22_step_8 : List UInt8 := dkwX22_step_8 ++ dktX22_step_9
def dkwX22_step_7 : List UInt8 := [170, 0, 0, 0, 0, 0, 73, 0, 0, 0, 0, 0, 0, 0, 6, 0, 0, 0, 43, 0, 0, 0, 43, 0, 0, 0, 43, 0, 0, 0, 43, 0, 0, 0, 43, 0, 0, 0, 43, 0, 0, 0, 65]
abbrev dktX22_step_7 : List UInt8 := dkwX22_step_7 ++ dktX22_step_8
def dkwX22_step_6 : List UInt8 := [153, 0, 7, 16, 6, 54, 4, 21, 4]
abbrev dktX22_step_6 : List UInt8 := dkwX22_step_6 ++ dktX22_step_7
def dkwX22_step_5 : List UInt8 := [167, 0, 31, 45, 18, 76, 182, 0, 65, 153, 0, 22, 8, 54, 4, 167, 0, 16, 45, 18, 78, 182, 0, 65]
abbrev dktX22_step_5 : List UInt8 := dkwX22_step_5 ++ dktX22_step_6
def dkwX22_step_4 : List UInt8 := [182, 0, 65, 153, 0, 52, 6, 54, 4, 167, 0, 46, 45, 18, 74, 182, 0, 65, 153, 0, 37, 7, 54, 4]
abbrev dktX22_step_4 : List UInt8 := dkwX22_step_4 ++ dktX22_step_5
def dkwX22_step_3 : List UInt8 := [4, 54, 4, 167, 0, 76, 45, 18, 70, 182, 0, 65, 153, 0, 67, 5, 54, 4, 167, 0, 61, 45, 18, 72]
abbrev dktX22_step_3 : List UInt8 := dkwX22_step_3 ++ dktX22_step_4
def dkwX22_step_2 : List UInt8 := [45, 18, 63, 182, 0, 65, 153, 0, 97, 3, 54, 4, 167, 0, 91, 45, 18, 68, 182, 0, 65, 153, 0, 82]
abbrev dktX22_step_2 : List UInt8 := dkwX22_step_2 ++ dktX22_step_3
def dkwX22_step_1 : List UInt8 := [171, 0, 0, 0, 0, 169, 0, 0, 0, 7, 0, 1, 131, 156, 0, 0, 0, 141, 0, 1, 132, 128, 0, 0, 0, 126, 0, 46, 4, 231, 0, 0, 0, 81, 0, 46, 198, 37, 0, 0, 0, 111, 0, 48, 107, 17, 0, 0, 0, 66, 5, 135, 51, 96, 0, 0, 0, 156, 6, 31, 181, 45, 0, 0, 0, 96]
abbrev dktX22_step_1 : List UInt8 := dkwX22_step_1 ++ dktX22_step_2
def dkwX22_step_0 : List UInt8 := [42, 182, 0, 54, 76, 43, 78, 2, 54, 4, 45, 182, 0, 58]
abbrev dktX22_step_0 : List UInt8 := dkwX22_step_0 ++ dktX22_step_1
theorem dksX22_step_0 : cX22_step.data.toList.drop 0 = dktX22_step_0 := by decide +kernel
theorem dksX22_step_1 : cX22_step.data.toList.drop 14 = dktX22_step_1 := dk_seg dksX22_step_0 14 rfl rfl
theorem dksX22_step_2 : cX22_step.data.toList.drop 80 = dktX22_step_2 := dk_seg dksX22_step_1 66 rfl rfl
theorem dksX22_step_3 : cX22_step.data.toList.drop 104 = dktX22_step_3 := dk_seg dksX22_step_2 24 rfl rfl
theorem dksX22_step_4 : cX22_step.data.toList.drop 128 = dktX22_step_4 := dk_seg dksX22_step_3 24 rfl rfl
theorem dksX22_step_5 : cX22_step.data.toList.drop 152 = dktX22_step_5 := dk_seg dksX22_step_4 24 rfl rfl
theorem dksX22_step_6 : cX22_step.data.toList.drop 176 = dktX22_step_6 := dk_seg dksX22_step_5 24 rfl rfl
theorem dksX22_step_7 : cX22_step.data.toList.drop 185 = dktX22_step_7 := dk_seg dksX22_step_6 9 rfl rfl
theorem dksX22_step_8 : cX22_step.data.toList.drop 228 = dktX22_step_8 := dk_seg dksX22_step_7 43 rfl rfl
theorem dksX22_step_9 : cX22_step.data.toList.drop 251 = dktX22_step_9 := dk_seg dksX22_step_8 23 rfl rfl
theorem dX22_step_0 : decode cX22_step 0 = .ok (.aload_n 0, 1) := dk_42 (dk_at dksX22_step_0 0 rfl rfl)
theorem dX22_step_1 : decode cX22_step 1 = .ok (.invokevirtual 54, 3) := dk_182 0 54 (dk_at dksX22_step_0 1 rfl rfl)
theorem dX22_step_4 : decode cX22_step 4 = .ok (.astore_n 1, 1) := dk_76 (dk_at dksX22_step_0 4 rfl rfl)
theorem dX22_step_5 : decode cX22_step 5 = .ok (.aload_n 1, 1) := dk_43 (dk_at dksX22_step_0 5 rfl rfl)
theorem dX22_step_6 : decode cX22_step 6 = .ok (.astore_n 3, 1) := dk_78 (dk_at dksX22_step_0 6 rfl rfl)
theorem dX22_step_7 : decode cX22_step 7 = .ok (.iconst (-1), 1) := dk_2 (dk_at dksX22_step_0 7 rfl rfl)
theorem dX22_step_8 : decode cX22_step 8 = .ok (.istore 4, 2) := dk_54 4 (dk_at dksX22_step_0 8 rfl rfl)
theorem dX22_step_10 : decode cX22_step 10 = .ok (.aload_n 3, 1) := dk_45 (dk_at dksX22_step_0 10 rfl rfl)
theorem dX22_step_11 : decode cX22_step 11 = .ok (.invokevirtual 58, 3) := dk_182 0 58 (dk_at dksX22_step_0 11 rfl rfl)
theorem dX22_step_14 : decode cX22_step 14 = .ok (.lookupswitch 169 #[(99228, 141), (99456, 126), (3015911, 81), (3065381, 111), (3173137, 66), (92746592, 156), (102741293, 96)], 66) := by decide +kernel
theorem dX22_step_80 : decode cX22_step 80 = .ok (.aload_n 3, 1) := dk_45 (dk_at dksX22_step_2 0 rfl rfl)
theorem dX22_step_81 : decode cX22_step 81 = .ok (.ldc 63, 2) := dk_18 63 (dk_at dksX22_step_2 1 rfl rfl)
theorem dX22_step_83 : decode cX22_step 83 = .ok (.invokevirtual 65, 3) := dk_182 0 65 (dk_at dksX22_step_2 3 rfl rfl)
theorem dX22_step_86 : decode cX22_step 86 = .ok (.ifCond .eq 97, 3) := dk_153 0 97 (dk_at dksX22_step_2 6 rfl rfl)
theorem dX22_step_89 : decode cX22_step 89 = .ok (.iconst 0, 1) := dk_3 (dk_at dksX22_step_2 9 rfl rfl)
theorem dX22_step_90 : decode cX22_step 90 = .ok (.istore 4, 2) := dk_54 4 (dk_at dksX22_step_2 10 rfl rfl)
theorem dX22_step_92 : decode cX22_step 92 = .ok (.goto 91, 3) := dk_167 0 91 (dk_at dksX22_step_2 12 rfl rfl)
theorem dX22_step_95 : decode cX22_step 95 = .ok (.aload_n 3, 1) := dk_45 (dk_at dksX22_step_2 15 rfl rfl)
theorem dX22_step_96 : decode cX22_step 96 = .ok (.ldc 68, 2) := dk_18 68 (dk_at dksX22_step_2 16 rfl rfl)
theorem dX22_step_98 : decode cX22_step 98 = .ok (.invokevirtual 65, 3) := dk_182 0 65 (dk_at dksX22_step_2 18 rfl rfl)
theorem dX22_step_101 : decode cX22_step 101 = .ok (.ifCond .eq 82, 3) := dk_153 0 82 (dk_at dksX22_step_2 21 rfl rfl)
theorem dX22_step_104 : decode cX22_step 104 = .ok (.iconst 1, 1) := dk_4 (dk_at dksX22_step_3 0 rfl rfl)
theorem dX22_step_105 : decode cX22_step 105 = .ok (.istore 4, 2) := dk_54 4 (dk_at dksX22_step_3 1 rfl rfl)
theorem dX22_step_107 : decode cX22_step 107 = .ok (.goto 76, 3) := dk_167 0 76 (dk_at dksX22_step_3 3 rfl rfl)
theorem dX22_step_110 : decode cX22_step 110 = .ok (.aload_n 3, 1) := dk_45 (dk_at dksX22_step_3 6 rfl rfl)
theorem dX22_step_111 : decode cX22_step 111 = .ok (.ldc 70, 2) := dk_18 70 (dk_at dksX22_step_3 7 rfl rfl)
theorem dX22_step_113 : decode cX22_step 113 = .ok (.invokevirtual 65, 3) := dk_182 0 65 (dk_at dksX22_step_3 9 rfl rfl)
theorem dX22_step_116 : decode cX22_step 116 = .ok (.ifCond .eq 67, 3) := dk_153 0 67 (dk_at dksX22_step_3 12 rfl rfl)
theorem dX22_step_119 : decode cX22_step 119 = .ok (.iconst 2, 1) := dk_5 (dk_at dksX22_step_3 15 rfl rfl)
theorem dX22_step_120 : decode cX22_step 120 = .ok (.istore 4, 2) := dk_54 4 (dk_at dksX22_step_3 16 rfl rfl)
theorem dX22_step_122 : decode cX22_step 122 = .ok (.goto 61, 3) := dk_167 0 61 (dk_at dksX22_step_3 18 rfl rfl)
theorem dX22_step_125 : decode cX22_step 125 = .ok (.aload_n 3, 1) := dk_45 (dk_at dksX22_step_3 21 rfl rfl)
theorem dX22_step_126 : decode cX22_step 126 = .ok (.ldc 72, 2) := dk_18 72 (dk_at dksX22_step_3 22 rfl rfl)
theorem dX22_step_128 : decode cX22_step 128 = .ok (.invokevirtual 65, 3) := dk_182 0 65 (dk_at dksX22_step_4 0 rfl rfl)
theorem dX22_step_131 : decode cX22_step 131 = .ok (.ifCond .eq 52, 3) := dk_153 0 52 (dk_at dksX22_step_4 3 rfl rfl)
theorem dX22_step_134 : decode cX22_step 134 = .ok (.iconst 3, 1) := dk_6 (dk_at dksX22_step_4 6 rfl rfl)
theorem dX22_step_135 : decode cX22_step 135 = .ok (.istore 4, 2) := dk_54 4 (dk_at dksX22_step_4 7 rfl rfl)
theorem dX22_step_137 : decode cX22_step 137 = .ok (.goto 46, 3) := dk_167 0 46 (dk_at dksX22_step_4 9 rfl rfl)
theorem dX22_step_140 : decode cX22_step 140 = .ok (.aload_n 3, 1) := dk_45 (dk_at dksX22_step_4 12 rfl rfl)
theorem dX22_step_141 : decode cX22_step 141 = .ok (.ldc 74, 2) := dk_18 74 (dk_at dksX22_step_4 13 rfl rfl)
theorem dX22_step_143 : decode cX22_step 143 = .ok (.invokevirtual 65, 3) := dk_182 0 65 (dk_at dksX22_step_4 15 rfl rfl)
theorem dX22_step_146 : decode cX22_step 146 = .ok (.ifCond .eq 37, 3) := dk_153 0 37 (dk_at dksX22_step_4 18 rfl rfl)
theorem dX22_step_149 : decode cX22_step 149 = .ok (.iconst 4, 1) := dk_7 (dk_at dksX22_step_4 21 rfl rfl)
theorem dX22_step_150 : decode cX22_step 150 = .ok (.istore 4, 2) := dk_54 4 (dk_at dksX22_step_4 22 rfl rfl)
theorem dX22_step_152 : decode cX22_step 152 = .ok (.goto 31, 3) := dk_167 0 31 (dk_at dksX22_step_5 0 rfl rfl)
theorem dX22_step_155 : decode cX22_step 155 = .ok (.aload_n 3, 1) := dk_45 (dk_at dksX22_step_5 3 rfl rfl)
theorem dX22_step_156 : decode cX22_step 156 = .ok (.ldc 76, 2) := dk_18 76 (dk_at dksX22_step_5 4 rfl rfl)
theorem dX22_step_158 : decode cX22_step 158 = .ok (.invokevirtual 65, 3) := dk_182 0 65 (dk_at dksX22_step_5 6 rfl rfl)
theorem dX22_step_161 : decode cX22_step 161 = .ok (.ifCond .eq 22, 3) := dk_153 0 22 (dk_at dksX22_step_5 9 rfl rfl)
theorem dX22_step_164 : decode cX22_step 164 = .ok (.iconst 5, 1) := dk_8 (dk_at dksX22_step_5 12 rfl rfl)
theorem dX22_step_165 : decode cX22_step 165 = .ok (.istore 4, 2) := dk_54 4 (dk_at dksX22_step_5 13 rfl rfl)
theorem dX22_step_167 : decode cX22_step 167 = .ok (.goto 16, 3) := dk_167 0 16 (dk_at dksX22_step_5 15 rfl rfl)
theorem dX22_step_170 : decode cX22_step 170 = .ok (.aload_n 3, 1) := dk_45 (dk_at dksX22_step_5 18 rfl rfl)
theorem dX22_step_171 : decode cX22_step 171 = .ok (.ldc 78, 2) := dk_18 78 (dk_at dksX22_step_5 19 rfl rfl)
theorem dX22_step_173 : decode cX22_step 173 = .ok (.invokevirtual 65, 3) := dk_182 0 65 (dk_at dksX22_step_5 21 rfl rfl)
theorem dX22_step_176 : decode cX22_step 176 = .ok (.ifCond .eq 7, 3) := dk_153 0 7 (dk_at dksX22_step_6 0 rfl rfl)
theorem dX22_step_179 : decode cX22_step 179 = .ok (.bipush 6, 2) := dk_16 6 (dk_at dksX22_step_6 3 rfl rfl)
theorem dX22_step_181 : decode cX22_step 181 = .ok (.istore 4, 2) := dk_54 4 (dk_at dksX22_step_6 5 rfl rfl)
theorem dX22_step_183 : decode cX22_step 183 = .ok (.iload 4, 2) := dk_21 4 (dk_at dksX22_step_6 7 rfl rfl)
theorem dX22_step_185 : decode cX22_step 185 = .ok (.tableswitch 73 0 6 #[43, 43, 43, 43, 43, 43, 65], 43) := by decide +kernel
theorem dX22_step_228 : decode cX22_step 228 = .ok (.aload_n 0, 1) := dk_42 (dk_at dksX22_step_8 0 rfl rfl)
theorem dX22_step_229 : decode cX22_step 229 = .ok (.dup, 1) := dk_89 (dk_at dksX22_step_8 1 rfl rfl)
theorem dX22_step_230 : decode cX22_step 230 = .ok (.getfield 24, 3) := dk_180 0 24 (dk_at dksX22_step_8 2 rfl rfl)
theorem dX22_step_233 : decode cX22_step 233 = .ok (.aload_n 1, 1) := dk_43 (dk_at dksX22_step_8 5 rfl rfl)
theorem dX22_step_234 : decode cX22_step 234 = .ok (.invokevirtual 80, 3) := dk_182 0 80 (dk_at dksX22_step_8 6 rfl rfl)
theorem dX22_step_237 : decode cX22_step 237 = .ok (.iadd, 1) := dk_96 (dk_at dksX22_step_8 9 rfl rfl)
theorem dX22_step_238 : decode cX22_step 238 = .ok (.putfield 24, 3) := dk_181 0 24 (dk_at dksX22_step_8 10 rfl rfl)
theorem dX22_step_241 : decode cX22_step 241 = .ok (.aload_n 0, 1) := dk_42 (dk_at dksX22_step_8 13 rfl rfl)
theorem dX22_step_242 : decode cX22_step 242 = .ok (.aload_n 1, 1) := dk_43 (dk_at dksX22_step_8 14 rfl rfl)
theorem dX22_step_243 : decode cX22_step 243 = .ok (.invokevirtual 83, 3) := dk_182 0 83 (dk_at dksX22_step_8 15 rfl rfl)
theorem dX22_step_246 : decode cX22_step 246 = .ok (.astore_n 2, 1) := dk_77 (dk_at dksX22_step_8 18 rfl rfl)
theorem dX22_step_247 : decode cX22_step 247 = .ok (.goto 16, 3) := dk_167 0 16 (dk_at dksX22_step_8 19 rfl rfl)
theorem dX22_step_250 : decode cX22_step 250 = .ok (.aload_n 0, 1) := dk_42 (dk_at dksX22_step_8 22 rfl rfl)
theorem dX22_step_251 : decode cX22_step 251 = .ok (.invokevirtual 87, 3) := dk_182 0 87 (dk_at dksX22_step_9 0 rfl rfl)
theorem dX22_step_254 : decode cX22_step 254 = .ok (.astore_n 2, 1) := dk_77 (dk_at dksX22_step_9 3 rfl rfl)
theorem dX22_step_255 : decode cX22_step 255 = .ok (.goto 8, 3) := dk_167 0 8 (dk_at dksX22_step_9 4 rfl rfl)
theorem dX22_step_258 : decode cX22_step 258 = .ok (.aload_n 0, 1) := dk_42 (dk_at dksX22_step_9 7 rfl rfl)
theorem dX22_step_259 : decode cX22_step 259 = .ok (.invokevirtual 89, 3) := dk_182 0 89 (dk_at dksX22_step_9 8 rfl rfl)
theorem dX22_step_262 : decode cX22_step 262 = .ok (.athrow, 1) := dk_191 (dk_at dksX22_step_9 11 rfl rfl)
theorem dX22_step_263 : decode cX22_step 263 = .ok (.aload_n 0, 1) := dk_42 (dk_at dksX22_step_9 12 rfl rfl)
theorem dX22_step_264 : decode cX22_step 264 = .ok (.bipush 59, 2) := dk_16 59 (dk_at dksX22_step_9 13 rfl rfl)
theorem dX22_step_266 : decode cX22_step 266 = .ok (.invokevirtual 93, 3) := dk_182 0 93 (dk_at dksX22_step_9 15 rfl rfl)
theorem dX22_step_269 : decode cX22_step 269 = .ok (.aload_n 2, 1) := dk_44 (dk_at dksX22_step_9 18 rfl rfl)
theorem dX22_step_270 : decode cX22_step 270 = .ok (.areturn, 1) := dk_176 (dk_at dksX22_step_9 19 rfl rfl)
def dkwX22_act_9 : List UInt8 := [89, 42, 182, 0, 107, 183, 0, 121, 176, 187, 0, 122, 89, 183, 0, 124, 176]
abbrev dktX22_act_9 : List UInt8 := dkwX22_act_9 ++ []
def dkwX22_act_8 : List UInt8 := [42, 3, 42, 180, 0, 9, 180, 0, 113, 182, 0, 45, 4, 100, 182, 0, 47, 183, 0, 116, 176, 187, 0, 119]
abbrev dktX22_act_8 : List UInt8 := dkwX22_act_8 ++ dktX22_act_9
def dkwX22_act_7 : List UInt8 := [187, 0, 105, 89, 42, 182, 0, 107, 183, 0, 110, 176, 42, 182, 0, 98, 54, 4, 187, 0, 111, 89, 21, 4]
abbrev dktX22_act_7 : List UInt8 := dkwX22_act_7 ++ dktX22_act_8
def dkwX22_act_6 : List UInt8 := [187, 0, 96, 89, 42, 182, 0, 98, 183, 0, 101, 176, 187, 0, 102, 89, 42, 182, 0, 98, 183, 0, 104, 176]
abbrev dktX22_act_6 : List UInt8 := dkwX22_act_6 ++ dktX22_act_7
def dkwX22_act_5 : List UInt8 := [170, 0, 0, 0, 0, 0, 0, 117, 0, 0, 0, 0, 0, 0, 0, 4, 0, 0, 0, 36, 0, 0, 0, 48, 0, 0, 0, 60, 0, 0, 0, 72, 0, 0, 0, 105]
abbrev dktX22_act_5 : List UInt8 := dkwX22_act_5 ++ dktX22_act_6
def dkwX22_act_4 : List UInt8 := [153, 0, 19, 6, 62, 167, 0, 14, 44, 18, 74, 182, 0, 65, 153, 0, 5, 7, 62, 29]
abbrev dktX22_act_4 : List UInt8 := dkwX22_act_4 ++ dktX22_act_5
def dkwX22_act_3 : List UInt8 := [62, 167, 0, 42, 44, 18, 70, 182, 0, 65, 153, 0, 33, 5, 62, 167, 0, 28, 44, 18, 72, 182, 0, 65]
abbrev dktX22_act_3 : List UInt8 := dkwX22_act_3 ++ dktX22_act_4
def dkwX22_act_2 : List UInt8 := [44, 18, 63, 182, 0, 65, 153, 0, 61, 3, 62, 167, 0, 56, 44, 18, 68, 182, 0, 65, 153, 0, 47, 4]
abbrev dktX22_act_2 : List UInt8 := dkwX22_act_2 ++ dktX22_act_3
def dkwX22_act_1 : List UInt8 := [171, 0, 0, 0, 0, 0, 0, 119, 0, 0, 0, 5, 0, 1, 132, 128, 0, 0, 0, 108, 0, 46, 4, 231, 0, 0, 0, 66, 0, 46, 198, 37, 0, 0, 0, 94, 0, 48, 107, 17, 0, 0, 0, 52, 6, 31, 181, 45, 0, 0, 0, 80]
abbrev dktX22_act_1 : List UInt8 := dkwX22_act_1 ++ dktX22_act_2
def dkwX22_act_0 : List UInt8 := [43, 77, 2, 62, 44, 182, 0, 58]
abbrev dktX22_act_0 : List UInt8 := dkwX22_act_0 ++ dktX22_act_1
theorem dksX22_act_0 : cX22_act.data.toList.drop 0 = dktX22_act_0 := by decide +kernel
theorem dksX22_act_1 : cX22_act.data.toList.drop 8 = dktX22_act_1 := dk_seg dksX22_act_0 8 rfl rfl
theorem dksX22_act_2 : cX22_act.data.toList.drop 60 = dktX22_act_2 := dk_seg dksX22_act_1 52 rfl rfl
theorem dksX22_act_3 : cX22_act.data.toList.drop 84 = dktX22_act_3 := dk_seg dksX22_act_2 24 rfl rfl
theorem dksX22_act_4 : cX22_act.data.toList.drop 108 = dktX22_act_4 := dk_seg dksX22_act_3 24 rfl rfl
theorem dksX22_act_5 : cX22_act.data.toList.drop 128 = dktX22_act_5 := dk_seg dksX22_act_4 20 rfl rfl
theorem dksX22_act_6 : cX22_act.data.toList.drop 164 = dktX22_act_6 := dk_seg dksX22_act_5 36 rfl rfl
theorem dksX22_act_7 : cX22_act.data.toList.drop 188 = dktX22_act_7 := dk_seg dksX22_act_6 24 rfl rfl
theorem dksX22_act_8 : cX22_act.data.toList.drop 212 = dktX22_act_8 := dk_seg dksX22_act_7 24 rfl rfl
theorem dksX22_act_9 : cX22_act.data.toList.drop 236 = dktX22_act_9 := dk_seg dksX22_act_8 24 rfl rfl
theorem dX22_act_0 : decode cX22_act 0 = .ok (.aload_n 1, 1) := dk_43 (dk_at dksX22_act_0 0 rfl rfl)
theorem dX22_act_1 : decode cX22_act 1 = .ok (.astore_n 2, 1) := dk_77 (dk_at dksX22_act_0 1 rfl rfl)
theorem dX22_act_2 : decode cX22_act 2 = .ok (.iconst (-1), 1) := dk_2 (dk_at dksX22_act_0 2 rfl rfl)
theorem dX22_act_3 : decode cX22_act 3 = .ok (.istore_n 3, 1) := dk_62 (dk_at dksX22_act_0 3 rfl rfl)
theorem dX22_act_4 : decode cX22_act 4 = .ok (.aload_n 2, 1) := dk_44 (dk_at dksX22_act_0 4 rfl rfl)
theorem dX22_act_5 : decode cX22_act 5 = .ok (.invokevirtual 58, 3) := dk_182 0 58 (dk_at dksX22_act_0 5 rfl rfl)
theorem dX22_act_8 : decode cX22_act 8 = .ok (.lookupswitch 119 #[(99456, 108), (3015911, 66), (3065381, 94), (3173137, 52), (102741293, 80)], 52) := by decide +kernel
theorem dX22_act_60 : decode cX22_act 60 = .ok (.aload_n 2, 1) := dk_44 (dk_at dksX22_act_2 0 rfl rfl)
theorem dX22_act_61 : decode cX22_act 61 = .ok (.ldc 63, 2) := dk_18 63 (dk_at dksX22_act_2 1 rfl rfl)
theorem dX22_act_63 : decode cX22_act 63 = .ok (.invokevirtual 65, 3) := dk_182 0 65 (dk_at dksX22_act_2 3 rfl rfl)
theorem dX22_act_66 : decode cX22_act 66 = .ok (.ifCond .eq 61, 3) := dk_153 0 61 (dk_at dksX22_act_2 6 rfl rfl)
theorem dX22_act_69 : decode cX22_act 69 = .ok (.iconst 0, 1) := dk_3 (dk_at dksX22_act_2 9 rfl rfl)
theorem dX22_act_70 : decode cX22_act 70 = .ok (.istore_n 3, 1) := dk_62 (dk_at dksX22_act_2 10 rfl rfl)
theorem dX22_act_71 : decode cX22_act 71 = .ok (.goto 56, 3) := dk_167 0 56 (dk_at dksX22_act_2 11 rfl rfl)
theorem dX22_act_74 : decode cX22_act 74 = .ok (.aload_n 2, 1) := dk_44 (dk_at dksX22_act_2 14 rfl rfl)
theorem dX22_act_75 : decode cX22_act 75 = .ok (.ldc 68, 2) := dk_18 68 (dk_at dksX22_act_2 15 rfl rfl)
theorem dX22_act_77 : decode cX22_act 77 = .ok (.invokevirtual 65, 3) := dk_182 0 65 (dk_at dksX22_act_2 17 rfl rfl)
theorem dX22_act_80 : decode cX22_act 80 = .ok (.ifCond .eq 47, 3) := dk_153 0 47 (dk_at dksX22_act_2 20 rfl rfl)
theorem dX22_act_83 : decode cX22_act 83 = .ok (.iconst 1, 1) := dk_4 (dk_at dksX22_act_2 23 rfl rfl)
theorem dX22_act_84 : decode cX22_act 84 = .ok (.istore_n 3, 1) := dk_62 (dk_at dksX22_act_3 0 rfl rfl)
theorem dX22_act_85 : decode cX22_act 85 = .ok (.goto 42, 3) := dk_167 0 42 (dk_at dksX22_act_3 1 rfl rfl)
theorem dX22_act_88 : decode cX22_act 88 = .ok (.aload_n 2, 1) := dk_44 (dk_at dksX22_act_3 4 rfl rfl)
theorem dX22_act_89 : decode cX22_act 89 = .ok (.ldc 70, 2) := dk_18 70 (dk_at dksX22_act_3 5 rfl rfl)
theorem dX22_act_91 : decode cX22_act 91 = .ok (.invokevirtual 65, 3) := dk_182 0 65 (dk_at dksX22_act_3 7 rfl rfl)
theorem dX22_act_94 : decode cX22_act 94 = .ok (.ifCond .eq 33, 3) := dk_153 0 33 (dk_at dksX22_act_3 10 rfl rfl)
theorem dX22_act_97 : decode cX22_act 97 = .ok (.iconst 2, 1) := dk_5 (dk_at dksX22_act_3 13 rfl rfl)
theorem dX22_act_98 : decode cX22_act 98 = .ok (.istore_n 3, 1) := dk_62 (dk_at dksX22_act_3 14 rfl rfl)
theorem dX22_act_99 : decode cX22_act 99 = .ok (.goto 28, 3) := dk_167 0 28 (dk_at dksX22_act_3 15 rfl rfl)
theorem dX22_act_102 : decode cX22_act 102 = .ok (.aload_n 2, 1) := dk_44 (dk_at dksX22_act_3 18 rfl rfl)
theorem dX22_act_103 : decode cX22_act 103 = .ok (.ldc 72, 2) := dk_18 72 (dk_at dksX22_act_3 19 rfl rfl)
theorem dX22_act_105 : decode cX22_act 105 = .ok (.invokevirtual 65, 3) := dk_182 0 65 (dk_at dksX22_act_3 21 rfl rfl)
theorem dX22_act_108 : decode cX22_act 108 = .ok (.ifCond .eq 19, 3) := dk_153 0 19 (dk_at dksX22_act_4 0 rfl rfl)
theorem dX22_act_111 : decode cX22_act 111 = .ok (.iconst 3, 1) := dk_6 (dk_at dksX22_act_4 3 rfl rfl)
theorem dX22_act_112 : decode cX22_act 112 = .ok (.istore_n 3, 1) := dk_62 (dk_at dksX22_act_4 4 rfl rfl)
theorem dX22_act_113 : decode cX22_act 113 = .ok (.goto 14, 3) := dk_167 0 14 (dk_at dksX22_act_4 5 rfl rfl)
theorem dX22_act_116 : decode cX22_act 116 = .ok (.aload_n 2, 1) := dk_44 (dk_at dksX22_act_4 8 rfl rfl)
theorem dX22_act_117 : decode cX22_act 117 = .ok (.ldc 74, 2) := dk_18 74 (dk_at dksX22_act_4 9 rfl rfl)
theorem dX22_act_119 : decode cX22_act 119 = .ok (.invokevirtual 65, 3) := dk_182 0 65 (dk_at dksX22_act_4 11 rfl rfl)
theorem dX22_act_122 : decode cX22_act 122 = .ok (.ifCond .eq 5, 3) := dk_153 0 5 (dk_at dksX22_act_4 14 rfl rfl)
theorem dX22_act_125 : decode cX22_act 125 = .ok (.iconst 4, 1) := dk_7 (dk_at dksX22_act_4 17 rfl rfl)
theorem dX22_act_126 : decode cX22_act 126 = .ok (.istore_n 3, 1) := dk_62 (dk_at dksX22_act_4 18 rfl rfl)
theorem dX22_act_127 : decode cX22_act 127 = .ok (.iload_n 3, 1) := dk_29 (dk_at dksX22_act_4 19 rfl rfl)
theorem dX22_act_128 : decode cX22_act 128 = .ok (.tableswitch 117 0 4 #[36, 48, 60, 72, 105], 36) := by decide +kernel
theorem dX22_act_164 : decode cX22_act 164 = .ok (.new 96, 3) := dk_187 0 96 (dk_at dksX22_act_6 0 rfl rfl)
theorem dX22_act_167 : decode cX22_act 167 = .ok (.dup, 1) := dk_89 (dk_at dksX22_act_6 3 rfl rfl)
theorem dX22_act_168 : decode cX22_act 168 = .ok (.aload_n 0, 1) := dk_42 (dk_at dksX22_act_6 4 rfl rfl)
theorem dX22_act_169 : decode cX22_act 169 = .ok (.invokevirtual 98, 3) := dk_182 0 98 (dk_at dksX22_act_6 5 rfl rfl)
theorem dX22_act_172 : decode cX22_act 172 = .ok (.invokespecial 101, 3) := dk_183 0 101 (dk_at dksX22_act_6 8 rfl rfl)
theorem dX22_act_175 : decode cX22_act 175 = .ok (.areturn, 1) := dk_176 (dk_at dksX22_act_6 11 rfl rfl)
theorem dX22_act_176 : decode cX22_act 176 = .ok (.new 102, 3) := dk_187 0 102 (dk_at dksX22_act_6 12 rfl rfl)
theorem dX22_act_179 : decode cX22_act 179 = .ok (.dup, 1) := dk_89 (dk_at dksX22_act_6 15 rfl rfl)
theorem dX22_act_180 : decode cX22_act 180 = .ok (.aload_n 0, 1) := dk_42 (dk_at dksX22_act_6 16 rfl rfl)
theorem dX22_act_181 : decode cX22_act 181 = .ok (.invokevirtual 98, 3) := dk_182 0 98 (dk_at dksX22_act_6 17 rfl rfl)
theorem dX22_act_184 : decode cX22_act 184 = .ok (.invokespecial 104, 3) := dk_183 0 104 (dk_at dksX22_act_6 20 rfl rfl)
theorem dX22_act_187 : decode cX22_act 187 = .ok (.areturn, 1) := dk_176 (dk_at dksX22_act_6 23 rfl rfl)
theorem dX22_act_188 : decode cX22_act 188 = .ok (.new 105, 3) := dk_187 0 105 (dk_at dksX22_act_7 0 rfl rfl)
theorem dX22_act_191 : decode cX22_act 191 = .ok (.dup, 1) := dk_89 (dk_at dksX22_act_7 3 rfl rfl)
theorem dX22_act_192 : decode cX22_act 192 = .ok (.aload_n 0, 1) := dk_42 (dk_at dksX22_act_7 4 rfl rfl)
theorem dX22_act_193 : decode cX22_act 193 = .ok (.invokevirtual 107, 3) := dk_182 0 107 (dk_at dksX22_act_7 5 rfl rfl)
theorem dX22_act_196 : decode cX22_act 196 = .ok (.invokespecial 110, 3) := dk_183 0 110 (dk_at dksX22_act_7 8 rfl rfl)
theorem dX22_act_199 : decode cX22_act 199 = .ok (.areturn, 1) := dk_176 (dk_at dksX22_act_7 11 rfl rfl)
theorem dX22_act_200 : decode cX22_act 200 = .ok (.aload_n 0, 1) := dk_42 (dk_at dksX22_act_7 12 rfl rfl)
theorem dX22_act_201 : decode cX22_act 201 = .ok (.invokevirtual 98, 3) := dk_182 0 98 (dk_at dksX22_act_7 13 rfl rfl)
theorem dX22_act_204 : decode cX22_act 204 = .ok (.istore 4, 2) := dk_54 4 (dk_at dksX22_act_7 16 rfl rfl)
theorem dX22_act_206 : decode cX22_act 206 = .ok (.new 111, 3) := dk_187 0 111 (dk_at dksX22_act_7 18 rfl rfl)
theorem dX22_act_209 : decode cX22_act 209 = .ok (.dup, 1) := dk_89 (dk_at dksX22_act_7 21 rfl rfl)
theorem dX22_act_210 : decode cX22_act 210 = .ok (.iload 4, 2) := dk_21 4 (dk_at dksX22_act_7 22 rfl rfl)
theorem dX22_act_212 : decode cX22_act 212 = .ok (.aload_n 0, 1) := dk_42 (dk_at dksX22_act_8 0 rfl rfl)
theorem dX22_act_213 : decode cX22_act 213 = .ok (.iconst 0, 1) := dk_3 (dk_at dksX22_act_8 1 rfl rfl)
theorem dX22_act_214 : decode cX22_act 214 = .ok (.aload_n 0, 1) := dk_42 (dk_at dksX22_act_8 2 rfl rfl)
theorem dX22_act_215 : decode cX22_act 215 = .ok (.getfield 9, 3) := dk_180 0 9 (dk_at dksX22_act_8 3 rfl rfl)
theorem dX22_act_218 : decode cX22_act 218 = .ok (.getfield 113, 3) := dk_180 0 113 (dk_at dksX22_act_8 6 rfl rfl)
theorem dX22_act_221 : decode cX22_act 221 = .ok (.invokevirtual 45, 3) := dk_182 0 45 (dk_at dksX22_act_8 9 rfl rfl)
theorem dX22_act_224 : decode cX22_act 224 = .ok (.iconst 1, 1) := dk_4 (dk_at dksX22_act_8 12 rfl rfl)
theorem dX22_act_225 : decode cX22_act 225 = .ok (.isub, 1) := dk_100 (dk_at dksX22_act_8 13 rfl rfl)
theorem dX22_act_226 : decode cX22_act 226 = .ok (.invokevirtual 47, 3) := dk_182 0 47 (dk_at dksX22_act_8 14 rfl rfl)
theorem dX22_act_229 : decode cX22_act 229 = .ok (.invokespecial 116, 3) := dk_183 0 116 (dk_at dksX22_act_8 17 rfl rfl)
theorem dX22_act_232 : decode cX22_act 232 = .ok (.areturn, 1) := dk_176 (dk_at dksX22_act_8 20 rfl rfl)
theorem dX22_act_233 : decode cX22_act 233 = .ok (.new 119, 3) := dk_187 0 119 (dk_at dksX22_act_8 21 rfl rfl)
theorem dX22_act_236 : decode cX22_act 236 = .ok (.dup, 1) := dk_89 (dk_at dksX22_act_9 0 rfl rfl)
theorem dX22_act_237 : decode cX22_act 237 = .ok (.aload_n 0, 1) := dk_42 (dk_at dksX22_act_9 1 rfl rfl)
theorem dX22_act_238 : decode cX22_act 238 = .ok (.invokevirtual 107, 3) := dk_182 0 107 (dk_at dksX22_act_9 2 rfl rfl)
theorem dX22_act_241 : decode cX22_act 241 = .ok (.invokespecial 121, 3) := dk_183 0 121 (dk_at dksX22_act_9 5 rfl rfl)
theorem dX22_act_244 : decode cX22_act 244 = .ok (.areturn, 1) := dk_176 (dk_at dksX22_act_9 8 rfl rfl)
theorem dX22_act_245 : decode cX22_act 245 = .ok (.new 122, 3) := dk_187 0 122 (dk_at dksX22_act_9 9 rfl rfl)
theorem dX22_act_248 : decode cX22_act 248 = .ok (.dup, 1) := dk_89 (dk_at dksX22_act_9 12 rfl rfl)
theorem dX22_act_249 : decode cX22_act 249 = .ok (.invokespecial 124, 3) := dk_183 0 124 (dk_at dksX22_act_9 13 rfl rfl)
theorem dX22_act_252 : decode cX22_act 252 = .ok (.areturn, 1) := dk_176 (dk_at dksX22_act_9 16 rfl rfl)
def dkwX22_relic_0 : List UInt8 := [42, 3, 42, 180, 0, 9, 180, 0, 39, 182, 0, 45, 4, 100, 182, 0, 47, 172]
abbrev dktX22_relic_0 : List UInt8 := dkwX22_relic_0 ++ []
theorem dksX22_relic_0 : cX22_relic.data.toList.drop 0 = dktX22_relic_0 := by decide +kernel
theorem dX22_relic_0 : decode cX22_relic 0 = .ok (.aload_n 0, 1) := dk_42 (dk_at dksX22_relic_0 0 rfl rfl)
theorem dX22_relic_1 : decode cX22_relic 1 = .ok (.iconst 0, 1) := dk_3 (dk_at dksX22_relic_0 1 rfl rfl)
theorem dX22_relic_2 : decode cX22_relic 2 = .ok (.aload_n 0, 1) := dk_42 (dk_at dksX22_relic_0 2 rfl rfl)
theorem dX22_relic_3 : decode cX22_relic 3 = .ok (.getfield 9, 3) := dk_180 0 9 (dk_at dksX22_relic_0 3 rfl rfl)
theorem dX22_relic_6 : decode cX22_relic 6 = .ok (.getfield 39, 3) := dk_180 0 39 (dk_at dksX22_relic_0 6 rfl rfl)
theorem dX22_relic_9 : decode cX22_relic 9 = .ok (.invokevirtual 45, 3) := dk_182 0 45 (dk_at dksX22_relic_0 9 rfl rfl)
theorem dX22_relic_12 : decode cX22_relic 12 = .ok (.iconst 1, 1) := dk_4 (dk_at dksX22_relic_0 12 rfl rfl)
theorem dX22_relic_13 : decode cX22_relic 13 = .ok (.isub, 1) := dk_100 (dk_at dksX22_relic_0 13 rfl rfl)
theorem dX22_relic_14 : decode cX22_relic 14 = .ok (.invokevirtual 47, 3) := dk_182 0 47 (dk_at dksX22_relic_0 14 rfl rfl)
theorem dX22_relic_17 : decode cX22_relic 17 = .ok (.ireturn, 1) := dk_172 (dk_at dksX22_relic_0 17 rfl rfl)
def dkwX22_sister_0 : List UInt8 := [42, 3, 42, 180, 0, 9, 180, 0, 51, 4, 100, 182, 0, 47, 172]
abbrev dktX22_sister_0 : List UInt8 := dkwX22_sister_0 ++ []
theorem dksX22_sister_0 : cX22_sister.data.toList.drop 0 = dktX22_sister_0 := by decide +kernel
theorem dX22_sister_0 : decode cX22_sister 0 = .ok (.aload_n 0, 1) := dk_42 (dk_at dksX22_sister_0 0 rfl rfl)
theorem dX22_sister_1 : decode cX22_sister 1 = .ok (.iconst 0, 1) := dk_3 (dk_at dksX22_sister_0 1 rfl rfl)
theorem dX22_sister_2 : decode cX22_sister 2 = .ok (.aload_n 0, 1) := dk_42 (dk_at dksX22_sister_0 2 rfl rfl)
theorem dX22_sister_3 : decode cX22_sister 3 = .ok (.getfield 9, 3) := dk_180 0 9 (dk_at dksX22_sister_0 3 rfl rfl)
theorem dX22_sister_6 : decode cX22_sister 6 = .ok (.getfield 51, 3) := dk_180 0 51 (dk_at dksX22_sister_0 6 rfl rfl)
theorem dX22_sister_9 : decode cX22_sister 9 = .ok (.iconst 1, 1) := dk_4 (dk_at dksX22_sister_0 9 rfl rfl)
theorem dX22_sister_10 : decode cX22_sister 10 = .ok (.isub, 1) := dk_100 (dk_at dksX22_sister_0 10 rfl rfl)
theorem dX22_sister_11 : decode cX22_sister 11 = .ok (.invokevirtual 47, 3) := dk_182 0 47 (dk_at dksX22_sister_0 11 rfl rfl)
theorem dX22_sister_14 : decode cX22_sister 14 = .ok (.ireturn, 1) := dk_172 (dk_at dksX22_sister_0 14 rfl rfl)
def dkwX22_again_3 : List UInt8 := [176]
abbrev dktX22_again_3 : List UInt8 := dkwX22_again_3 ++ []
def dkwX22_again_2 : List UInt8 := [167, 255, 235, 42, 89, 180, 0, 24, 4, 96, 181, 0, 24, 42, 89, 180, 0, 136, 4, 100, 181, 0, 136, 43]
abbrev dktX22_again_2 : List UInt8 := dkwX22_again_2 ++ dktX22_again_3
def dkwX22_again_1 : List UInt8 := [182, 0, 93, 42, 182, 0, 20, 16, 93, 159, 0, 18, 43, 180, 0, 133, 42, 182, 0, 31, 182, 0, 35, 87]
abbrev dktX22_again_1 : List UInt8 := dkwX22_again_1 ++ dktX22_again_2
def dkwX22_again_0 : List UInt8 := [42, 8, 182, 0, 127, 187, 0, 130, 89, 42, 3, 16, 40, 182, 0, 47, 183, 0, 132, 76, 42, 16, 91]
abbrev dktX22_again_0 : List UInt8 := dkwX22_again_0 ++ dktX22_again_1
theorem dksX22_again_0 : cX22_again.data.toList.drop 0 = dktX22_again_0 := by decide +kernel
theorem dksX22_again_1 : cX22_again.data.toList.drop 23 = dktX22_again_1 := dk_seg dksX22_again_0 23 rfl rfl
theorem dksX22_again_2 : cX22_again.data.toList.drop 47 = dktX22_again_2 := dk_seg dksX22_again_1 24 rfl rfl
theorem dksX22_again_3 : cX22_again.data.toList.drop 71 = dktX22_again_3 := dk_seg dksX22_again_2 24 rfl rfl
theorem dX22_again_0 : decode cX22_again 0 = .ok (.aload_n 0, 1) := dk_42 (dk_at dksX22_again_0 0 rfl rfl)
theorem dX22_again_1 : decode cX22_again 1 = .ok (.iconst 5, 1) := dk_8 (dk_at dksX22_again_0 1 rfl rfl)
theorem dX22_again_2 : decode cX22_again 2 = .ok (.invokevirtual 127, 3) := dk_182 0 127 (dk_at dksX22_again_0 2 rfl rfl)
theorem dX22_again_5 : decode cX22_again 5 = .ok (.new 130, 3) := dk_187 0 130 (dk_at dksX22_again_0 5 rfl rfl)
theorem dX22_again_8 : decode cX22_again 8 = .ok (.dup, 1) := dk_89 (dk_at dksX22_again_0 8 rfl rfl)
theorem dX22_again_9 : decode cX22_again 9 = .ok (.aload_n 0, 1) := dk_42 (dk_at dksX22_again_0 9 rfl rfl)
theorem dX22_again_10 : decode cX22_again 10 = .ok (.iconst 0, 1) := dk_3 (dk_at dksX22_again_0 10 rfl rfl)
theorem dX22_again_11 : decode cX22_again 11 = .ok (.bipush 40, 2) := dk_16 40 (dk_at dksX22_again_0 11 rfl rfl)
theorem dX22_again_13 : decode cX22_again 13 = .ok (.invokevirtual 47, 3) := dk_182 0 47 (dk_at dksX22_again_0 13 rfl rfl)
theorem dX22_again_16 : decode cX22_again 16 = .ok (.invokespecial 132, 3) := dk_183 0 132 (dk_at dksX22_again_0 16 rfl rfl)
theorem dX22_again_19 : decode cX22_again 19 = .ok (.astore_n 1, 1) := dk_76 (dk_at dksX22_again_0 19 rfl rfl)
theorem dX22_again_20 : decode cX22_again 20 = .ok (.aload_n 0, 1) := dk_42 (dk_at dksX22_again_0 20 rfl rfl)
theorem dX22_again_21 : decode cX22_again 21 = .ok (.bipush 91, 2) := dk_16 91 (dk_at dksX22_again_0 21 rfl rfl)
theorem dX22_again_23 : decode cX22_again 23 = .ok (.invokevirtual 93, 3) := dk_182 0 93 (dk_at dksX22_again_1 0 rfl rfl)
theorem dX22_again_26 : decode cX22_again 26 = .ok (.aload_n 0, 1) := dk_42 (dk_at dksX22_again_1 3 rfl rfl)
theorem dX22_again_27 : decode cX22_again 27 = .ok (.invokevirtual 20, 3) := dk_182 0 20 (dk_at dksX22_again_1 4 rfl rfl)
theorem dX22_again_30 : decode cX22_again 30 = .ok (.bipush 93, 2) := dk_16 93 (dk_at dksX22_again_1 7 rfl rfl)
theorem dX22_again_32 : decode cX22_again 32 = .ok (.if_icmp .eq 18, 3) := dk_159 0 18 (dk_at dksX22_again_1 9 rfl rfl)
theorem dX22_again_35 : decode cX22_again 35 = .ok (.aload_n 1, 1) := dk_43 (dk_at dksX22_again_1 12 rfl rfl)
theorem dX22_again_36 : decode cX22_again 36 = .ok (.getfield 133, 3) := dk_180 0 133 (dk_at dksX22_again_1 13 rfl rfl)
theorem dX22_again_39 : decode cX22_again 39 = .ok (.aload_n 0, 1) := dk_42 (dk_at dksX22_again_1 16 rfl rfl)
theorem dX22_again_40 : decode cX22_again 40 = .ok (.invokevirtual 31, 3) := dk_182 0 31 (dk_at dksX22_again_1 17 rfl rfl)
theorem dX22_again_43 : decode cX22_again 43 = .ok (.invokevirtual 35, 3) := dk_182 0 35 (dk_at dksX22_again_1 20 rfl rfl)
theorem dX22_again_46 : decode cX22_again 46 = .ok (.pop, 1) := dk_87 (dk_at dksX22_again_1 23 rfl rfl)
theorem dX22_again_47 : decode cX22_again 47 = .ok (.goto (-21), 3) := dk_167 255 235 (dk_at dksX22_again_2 0 rfl rfl)
theorem dX22_again_50 : decode cX22_again 50 = .ok (.aload_n 0, 1) := dk_42 (dk_at dksX22_again_2 3 rfl rfl)
theorem dX22_again_51 : decode cX22_again 51 = .ok (.dup, 1) := dk_89 (dk_at dksX22_again_2 4 rfl rfl)
theorem dX22_again_52 : decode cX22_again 52 = .ok (.getfield 24, 3) := dk_180 0 24 (dk_at dksX22_again_2 5 rfl rfl)
theorem dX22_again_55 : decode cX22_again 55 = .ok (.iconst 1, 1) := dk_4 (dk_at dksX22_again_2 8 rfl rfl)
theorem dX22_again_56 : decode cX22_again 56 = .ok (.iadd, 1) := dk_96 (dk_at dksX22_again_2 9 rfl rfl)
theorem dX22_again_57 : decode cX22_again 57 = .ok (.putfield 24, 3) := dk_181 0 24 (dk_at dksX22_again_2 10 rfl rfl)
theorem dX22_again_60 : decode cX22_again 60 = .ok (.aload_n 0, 1) := dk_42 (dk_at dksX22_again_2 13 rfl rfl)
theorem dX22_again_61 : decode cX22_again 61 = .ok (.dup, 1) := dk_89 (dk_at dksX22_again_2 14 rfl rfl)
theorem dX22_again_62 : decode cX22_again 62 = .ok (.getfield 136, 3) := dk_180 0 136 (dk_at dksX22_again_2 15 rfl rfl)
theorem dX22_again_65 : decode cX22_again 65 = .ok (.iconst 1, 1) := dk_4 (dk_at dksX22_again_2 18 rfl rfl)
theorem dX22_again_66 : decode cX22_again 66 = .ok (.isub, 1) := dk_100 (dk_at dksX22_again_2 19 rfl rfl)
theorem dX22_again_67 : decode cX22_again 67 = .ok (.putfield 136, 3) := dk_181 0 136 (dk_at dksX22_again_2 20 rfl rfl)
theorem dX22_again_70 : decode cX22_again 70 = .ok (.aload_n 1, 1) := dk_43 (dk_at dksX22_again_2 23 rfl rfl)
theorem dX22_again_71 : decode cX22_again 71 = .ok (.areturn, 1) := dk_176 (dk_at dksX22_again_3 0 rfl rfl)

set_option maxRecDepth 100000
theorem dX23_init_0 : decode cX23_init 0 = .ok (.aload_n 0, 1) := by decide +kernel
theorem dX23_init_1 : decode cX23_init 1 = .ok (.invokespecial 3, 3) := by decide +kernel
theorem dX23_init_4 : decode cX23_init 4 = .ok (.return_, 1) := by decide +kernel
def dkwX23_may_0 : List UInt8 := [42, 180, 0, 9, 17, 0, 200, 160, 0, 5, 3, 172, 42, 89, 180, 0, 9, 4, 96, 181, 0, 9, 4, 172]
abbrev dktX23_may_0 : List UInt8 := dkwX23_may_0 ++ []
theorem dksX23_may_0 : cX23_may.data.toList.drop 0 = dktX23_may_0 := by decide +kernel
theorem dX23_may_0 : decode cX23_may 0 = .ok (.aload_n 0, 1) := dk_42 (dk_at dksX23_may_0 0 rfl rfl)
theorem dX23_may_1 : decode cX23_may 1 = .ok (.getfield 9, 3) := dk_180 0 9 (dk_at dksX23_may_0 1 rfl rfl)
theorem dX23_may_4 : decode cX23_may 4 = .ok (.sipush 200, 3) := dk_17 0 200 (dk_at dksX23_may_0 4 rfl rfl)
theorem dX23_may_7 : decode cX23_may 7 = .ok (.if_icmp .ne 5, 3) := dk_160 0 5 (dk_at dksX23_may_0 7 rfl rfl)
theorem dX23_may_10 : decode cX23_may 10 = .ok (.iconst 0, 1) := dk_3 (dk_at dksX23_may_0 10 rfl rfl)
theorem dX23_may_11 : decode cX23_may 11 = .ok (.ireturn, 1) := dk_172 (dk_at dksX23_may_0 11 rfl rfl)
theorem dX23_may_12 : decode cX23_may 12 = .ok (.aload_n 0, 1) := dk_42 (dk_at dksX23_may_0 12 rfl rfl)
theorem dX23_may_13 : decode cX23_may 13 = .ok (.dup, 1) := dk_89 (dk_at dksX23_may_0 13 rfl rfl)
theorem dX23_may_14 : decode cX23_may 14 = .ok (.getfield 9, 3) := dk_180 0 9 (dk_at dksX23_may_0 14 rfl rfl)
theorem dX23_may_17 : decode cX23_may 17 = .ok (.iconst 1, 1) := dk_4 (dk_at dksX23_may_0 17 rfl rfl)
theorem dX23_may_18 : decode cX23_may 18 = .ok (.iadd, 1) := dk_96 (dk_at dksX23_may_0 18 rfl rfl)
theorem dX23_may_19 : decode cX23_may 19 = .ok (.putfield 9, 3) := dk_181 0 9 (dk_at dksX23_may_0 19 rfl rfl)
theorem dX23_may_22 : decode cX23_may 22 = .ok (.iconst 1, 1) := dk_4 (dk_at dksX23_may_0 22 rfl rfl)
theorem dX23_may_23 : decode cX23_may 23 = .ok (.ireturn, 1) := dk_172 (dk_at dksX23_may_0 23 rfl rfl)

set_option maxRecDepth 100000
theorem dX24_init_0 : decode cX24_init 0 = .ok (.aload_n 0, 1) := by decide +kernel
theorem dX24_init_1 : decode cX24_init 1 = .ok (.invokespecial 1, 3) := by decide +kernel
theorem dX24_init_4 : decode cX24_init 4 = .ok (.return_, 1) := by decide +kernel
def dkwX24_goes_2 : List UInt8 := [181, 0, 22, 177]
abbrev dktX24_goes_2 : List UInt8 := dkwX24_goes_2 ++ []
def dkwX24_goes_1 : List UInt8 := [167, 0, 4, 3, 96, 181, 0, 16, 43, 89, 180, 0, 22, 28, 153, 0, 7, 3, 167, 0, 4, 4, 96]
abbrev dktX24_goes_1 : List UInt8 := dkwX24_goes_1 ++ dktX24_goes_2
def dkwX24_goes_0 : List UInt8 := [43, 184, 0, 7, 154, 0, 4, 177, 42, 43, 182, 0, 13, 61, 43, 89, 180, 0, 16, 28, 153, 0, 7, 4]
abbrev dktX24_goes_0 : List UInt8 := dkwX24_goes_0 ++ dktX24_goes_1
theorem dksX24_goes_0 : cX24_goes.data.toList.drop 0 = dktX24_goes_0 := by decide +kernel
theorem dksX24_goes_1 : cX24_goes.data.toList.drop 24 = dktX24_goes_1 := dk_seg dksX24_goes_0 24 rfl rfl
theorem dksX24_goes_2 : cX24_goes.data.toList.drop 47 = dktX24_goes_2 := dk_seg dksX24_goes_1 23 rfl rfl
theorem dX24_goes_0 : decode cX24_goes 0 = .ok (.aload_n 1, 1) := dk_43 (dk_at dksX24_goes_0 0 rfl rfl)
theorem dX24_goes_1 : decode cX24_goes 1 = .ok (.invokestatic 7, 3) := dk_184 0 7 (dk_at dksX24_goes_0 1 rfl rfl)
theorem dX24_goes_4 : decode cX24_goes 4 = .ok (.ifCond .ne 4, 3) := dk_154 0 4 (dk_at dksX24_goes_0 4 rfl rfl)
theorem dX24_goes_7 : decode cX24_goes 7 = .ok (.return_, 1) := dk_177 (dk_at dksX24_goes_0 7 rfl rfl)
theorem dX24_goes_8 : decode cX24_goes 8 = .ok (.aload_n 0, 1) := dk_42 (dk_at dksX24_goes_0 8 rfl rfl)
theorem dX24_goes_9 : decode cX24_goes 9 = .ok (.aload_n 1, 1) := dk_43 (dk_at dksX24_goes_0 9 rfl rfl)
theorem dX24_goes_10 : decode cX24_goes 10 = .ok (.invokevirtual 13, 3) := dk_182 0 13 (dk_at dksX24_goes_0 10 rfl rfl)
theorem dX24_goes_13 : decode cX24_goes 13 = .ok (.istore_n 2, 1) := dk_61 (dk_at dksX24_goes_0 13 rfl rfl)
theorem dX24_goes_14 : decode cX24_goes 14 = .ok (.aload_n 1, 1) := dk_43 (dk_at dksX24_goes_0 14 rfl rfl)
theorem dX24_goes_15 : decode cX24_goes 15 = .ok (.dup, 1) := dk_89 (dk_at dksX24_goes_0 15 rfl rfl)
theorem dX24_goes_16 : decode cX24_goes 16 = .ok (.getfield 16, 3) := dk_180 0 16 (dk_at dksX24_goes_0 16 rfl rfl)
theorem dX24_goes_19 : decode cX24_goes 19 = .ok (.iload_n 2, 1) := dk_28 (dk_at dksX24_goes_0 19 rfl rfl)
theorem dX24_goes_20 : decode cX24_goes 20 = .ok (.ifCond .eq 7, 3) := dk_153 0 7 (dk_at dksX24_goes_0 20 rfl rfl)
theorem dX24_goes_23 : decode cX24_goes 23 = .ok (.iconst 1, 1) := dk_4 (dk_at dksX24_goes_0 23 rfl rfl)
theorem dX24_goes_24 : decode cX24_goes 24 = .ok (.goto 4, 3) := dk_167 0 4 (dk_at dksX24_goes_1 0 rfl rfl)
theorem dX24_goes_27 : decode cX24_goes 27 = .ok (.iconst 0, 1) := dk_3 (dk_at dksX24_goes_1 3 rfl rfl)
theorem dX24_goes_28 : decode cX24_goes 28 = .ok (.iadd, 1) := dk_96 (dk_at dksX24_goes_1 4 rfl rfl)
theorem dX24_goes_29 : decode cX24_goes 29 = .ok (.putfield 16, 3) := dk_181 0 16 (dk_at dksX24_goes_1 5 rfl rfl)
theorem dX24_goes_32 : decode cX24_goes 32 = .ok (.aload_n 1, 1) := dk_43 (dk_at dksX24_goes_1 8 rfl rfl)
theorem dX24_goes_33 : decode cX24_goes 33 = .ok (.dup, 1) := dk_89 (dk_at dksX24_goes_1 9 rfl rfl)
theorem dX24_goes_34 : decode cX24_goes 34 = .ok (.getfield 22, 3) := dk_180 0 22 (dk_at dksX24_goes_1 10 rfl rfl)
theorem dX24_goes_37 : decode cX24_goes 37 = .ok (.iload_n 2, 1) := dk_28 (dk_at dksX24_goes_1 13 rfl rfl)
theorem dX24_goes_38 : decode cX24_goes 38 = .ok (.ifCond .eq 7, 3) := dk_153 0 7 (dk_at dksX24_goes_1 14 rfl rfl)
theorem dX24_goes_41 : decode cX24_goes 41 = .ok (.iconst 0, 1) := dk_3 (dk_at dksX24_goes_1 17 rfl rfl)
theorem dX24_goes_42 : decode cX24_goes 42 = .ok (.goto 4, 3) := dk_167 0 4 (dk_at dksX24_goes_1 18 rfl rfl)
theorem dX24_goes_45 : decode cX24_goes 45 = .ok (.iconst 1, 1) := dk_4 (dk_at dksX24_goes_1 21 rfl rfl)
theorem dX24_goes_46 : decode cX24_goes 46 = .ok (.iadd, 1) := dk_96 (dk_at dksX24_goes_1 22 rfl rfl)
theorem dX24_goes_47 : decode cX24_goes 47 = .ok (.putfield 22, 3) := dk_181 0 22 (dk_at dksX24_goes_2 0 rfl rfl)
theorem dX24_goes_50 : decode cX24_goes 50 = .ok (.return_, 1) := dk_177 (dk_at dksX24_goes_2 3 rfl rfl)

set_option maxRecDepth 100000
def dkwX25_init_0 : List UInt8 := [42, 183, 0, 1, 42, 27, 181, 0, 7, 177]
abbrev dktX25_init_0 : List UInt8 := dkwX25_init_0 ++ []
theorem dksX25_init_0 : cX25_init.data.toList.drop 0 = dktX25_init_0 := by decide +kernel
theorem dX25_init_0 : decode cX25_init 0 = .ok (.aload_n 0, 1) := dk_42 (dk_at dksX25_init_0 0 rfl rfl)
theorem dX25_init_1 : decode cX25_init 1 = .ok (.invokespecial 1, 3) := dk_183 0 1 (dk_at dksX25_init_0 1 rfl rfl)
theorem dX25_init_4 : decode cX25_init 4 = .ok (.aload_n 0, 1) := dk_42 (dk_at dksX25_init_0 4 rfl rfl)
theorem dX25_init_5 : decode cX25_init 5 = .ok (.iload_n 1, 1) := dk_27 (dk_at dksX25_init_0 5 rfl rfl)
theorem dX25_init_6 : decode cX25_init 6 = .ok (.putfield 7, 3) := dk_181 0 7 (dk_at dksX25_init_0 6 rfl rfl)
theorem dX25_init_9 : decode cX25_init 9 = .ok (.return_, 1) := dk_177 (dk_at dksX25_init_0 9 rfl rfl)
def dkwX25_isDone_0 : List UInt8 := [43, 42, 180, 0, 7, 182, 0, 13, 172]
abbrev dktX25_isDone_0 : List UInt8 := dkwX25_isDone_0 ++ []
theorem dksX25_isDone_0 : cX25_isDone.data.toList.drop 0 = dktX25_isDone_0 := by decide +kernel
theorem dX25_isDone_0 : decode cX25_isDone 0 = .ok (.aload_n 1, 1) := dk_43 (dk_at dksX25_isDone_0 0 rfl rfl)
theorem dX25_isDone_1 : decode cX25_isDone 1 = .ok (.aload_n 0, 1) := dk_42 (dk_at dksX25_isDone_0 1 rfl rfl)
theorem dX25_isDone_2 : decode cX25_isDone 2 = .ok (.getfield 7, 3) := dk_180 0 7 (dk_at dksX25_isDone_0 2 rfl rfl)
theorem dX25_isDone_5 : decode cX25_isDone 5 = .ok (.invokevirtual 13, 3) := dk_182 0 13 (dk_at dksX25_isDone_0 5 rfl rfl)
theorem dX25_isDone_8 : decode cX25_isDone 8 = .ok (.ireturn, 1) := dk_172 (dk_at dksX25_isDone_0 8 rfl rfl)

set_option maxRecDepth 100000
def dkwX26_init_0 : List UInt8 := [42, 183, 0, 1, 42, 27, 181, 0, 7, 177]
abbrev dktX26_init_0 : List UInt8 := dkwX26_init_0 ++ []
theorem dksX26_init_0 : cX26_init.data.toList.drop 0 = dktX26_init_0 := by decide +kernel
theorem dX26_init_0 : decode cX26_init 0 = .ok (.aload_n 0, 1) := dk_42 (dk_at dksX26_init_0 0 rfl rfl)
theorem dX26_init_1 : decode cX26_init 1 = .ok (.invokespecial 1, 3) := dk_183 0 1 (dk_at dksX26_init_0 1 rfl rfl)
theorem dX26_init_4 : decode cX26_init 4 = .ok (.aload_n 0, 1) := dk_42 (dk_at dksX26_init_0 4 rfl rfl)
theorem dX26_init_5 : decode cX26_init 5 = .ok (.iload_n 1, 1) := dk_27 (dk_at dksX26_init_0 5 rfl rfl)
theorem dX26_init_6 : decode cX26_init 6 = .ok (.putfield 7, 3) := dk_181 0 7 (dk_at dksX26_init_0 6 rfl rfl)
theorem dX26_init_9 : decode cX26_init 9 = .ok (.return_, 1) := dk_177 (dk_at dksX26_init_0 9 rfl rfl)
def dkwX26_isDone_0 : List UInt8 := [43, 42, 180, 0, 7, 182, 0, 13, 172]
abbrev dktX26_isDone_0 : List UInt8 := dkwX26_isDone_0 ++ []
theorem dksX26_isDone_0 : cX26_isDone.data.toList.drop 0 = dktX26_isDone_0 := by decide +kernel
theorem dX26_isDone_0 : decode cX26_isDone 0 = .ok (.aload_n 1, 1) := dk_43 (dk_at dksX26_isDone_0 0 rfl rfl)
theorem dX26_isDone_1 : decode cX26_isDone 1 = .ok (.aload_n 0, 1) := dk_42 (dk_at dksX26_isDone_0 1 rfl rfl)
theorem dX26_isDone_2 : decode cX26_isDone 2 = .ok (.getfield 7, 3) := dk_180 0 7 (dk_at dksX26_isDone_0 2 rfl rfl)
theorem dX26_isDone_5 : decode cX26_isDone 5 = .ok (.invokevirtual 13, 3) := dk_182 0 13 (dk_at dksX26_isDone_0 5 rfl rfl)
theorem dX26_isDone_8 : decode cX26_isDone 8 = .ok (.ireturn, 1) := dk_172 (dk_at dksX26_isDone_0 8 rfl rfl)

set_option maxRecDepth 100000
def dkwX27_init_0 : List UInt8 := [42, 183, 0, 1, 42, 27, 181, 0, 7, 177]
abbrev dktX27_init_0 : List UInt8 := dkwX27_init_0 ++ []
theorem dksX27_init_0 : cX27_init.data.toList.drop 0 = dktX27_init_0 := by decide +kernel
theorem dX27_init_0 : decode cX27_init 0 = .ok (.aload_n 0, 1) := dk_42 (dk_at dksX27_init_0 0 rfl rfl)
theorem dX27_init_1 : decode cX27_init 1 = .ok (.invokespecial 1, 3) := dk_183 0 1 (dk_at dksX27_init_0 1 rfl rfl)
theorem dX27_init_4 : decode cX27_init 4 = .ok (.aload_n 0, 1) := dk_42 (dk_at dksX27_init_0 4 rfl rfl)
theorem dX27_init_5 : decode cX27_init 5 = .ok (.iload_n 1, 1) := dk_27 (dk_at dksX27_init_0 5 rfl rfl)
theorem dX27_init_6 : decode cX27_init 6 = .ok (.putfield 7, 3) := dk_181 0 7 (dk_at dksX27_init_0 6 rfl rfl)
theorem dX27_init_9 : decode cX27_init 9 = .ok (.return_, 1) := dk_177 (dk_at dksX27_init_0 9 rfl rfl)
def dkwX27_isDone_0 : List UInt8 := [43, 42, 180, 0, 7, 182, 0, 13, 172]
abbrev dktX27_isDone_0 : List UInt8 := dkwX27_isDone_0 ++ []
theorem dksX27_isDone_0 : cX27_isDone.data.toList.drop 0 = dktX27_isDone_0 := by decide +kernel
theorem dX27_isDone_0 : decode cX27_isDone 0 = .ok (.aload_n 1, 1) := dk_43 (dk_at dksX27_isDone_0 0 rfl rfl)
theorem dX27_isDone_1 : decode cX27_isDone 1 = .ok (.aload_n 0, 1) := dk_42 (dk_at dksX27_isDone_0 1 rfl rfl)
theorem dX27_isDone_2 : decode cX27_isDone 2 = .ok (.getfield 7, 3) := dk_180 0 7 (dk_at dksX27_isDone_0 2 rfl rfl)
theorem dX27_isDone_5 : decode cX27_isDone 5 = .ok (.invokevirtual 13, 3) := dk_182 0 13 (dk_at dksX27_isDone_0 5 rfl rfl)
theorem dX27_isDone_8 : decode cX27_isDone 8 = .ok (.ireturn, 1) := dk_172 (dk_at dksX27_isDone_0 8 rfl rfl)

set_option maxRecDepth 100000
def dkwX28_init_0 : List UInt8 := [42, 183, 0, 1, 42, 27, 181, 0, 7, 42, 28, 181, 0, 13, 177]
abbrev dktX28_init_0 : List UInt8 := dkwX28_init_0 ++ []
theorem dksX28_init_0 : cX28_init.data.toList.drop 0 = dktX28_init_0 := by decide +kernel
theorem dX28_init_0 : decode cX28_init 0 = .ok (.aload_n 0, 1) := dk_42 (dk_at dksX28_init_0 0 rfl rfl)
theorem dX28_init_1 : decode cX28_init 1 = .ok (.invokespecial 1, 3) := dk_183 0 1 (dk_at dksX28_init_0 1 rfl rfl)
theorem dX28_init_4 : decode cX28_init 4 = .ok (.aload_n 0, 1) := dk_42 (dk_at dksX28_init_0 4 rfl rfl)
theorem dX28_init_5 : decode cX28_init 5 = .ok (.iload_n 1, 1) := dk_27 (dk_at dksX28_init_0 5 rfl rfl)
theorem dX28_init_6 : decode cX28_init 6 = .ok (.putfield 7, 3) := dk_181 0 7 (dk_at dksX28_init_0 6 rfl rfl)
theorem dX28_init_9 : decode cX28_init 9 = .ok (.aload_n 0, 1) := dk_42 (dk_at dksX28_init_0 9 rfl rfl)
theorem dX28_init_10 : decode cX28_init 10 = .ok (.iload_n 2, 1) := dk_28 (dk_at dksX28_init_0 10 rfl rfl)
theorem dX28_init_11 : decode cX28_init 11 = .ok (.putfield 13, 3) := dk_181 0 13 (dk_at dksX28_init_0 11 rfl rfl)
theorem dX28_init_14 : decode cX28_init 14 = .ok (.return_, 1) := dk_177 (dk_at dksX28_init_0 14 rfl rfl)
def dkwX28_isDone_0 : List UInt8 := [43, 42, 180, 0, 7, 42, 180, 0, 13, 182, 0, 16, 172]
abbrev dktX28_isDone_0 : List UInt8 := dkwX28_isDone_0 ++ []
theorem dksX28_isDone_0 : cX28_isDone.data.toList.drop 0 = dktX28_isDone_0 := by decide +kernel
theorem dX28_isDone_0 : decode cX28_isDone 0 = .ok (.aload_n 1, 1) := dk_43 (dk_at dksX28_isDone_0 0 rfl rfl)
theorem dX28_isDone_1 : decode cX28_isDone 1 = .ok (.aload_n 0, 1) := dk_42 (dk_at dksX28_isDone_0 1 rfl rfl)
theorem dX28_isDone_2 : decode cX28_isDone 2 = .ok (.getfield 7, 3) := dk_180 0 7 (dk_at dksX28_isDone_0 2 rfl rfl)
theorem dX28_isDone_5 : decode cX28_isDone 5 = .ok (.aload_n 0, 1) := dk_42 (dk_at dksX28_isDone_0 5 rfl rfl)
theorem dX28_isDone_6 : decode cX28_isDone 6 = .ok (.getfield 13, 3) := dk_180 0 13 (dk_at dksX28_isDone_0 6 rfl rfl)
theorem dX28_isDone_9 : decode cX28_isDone 9 = .ok (.invokevirtual 16, 3) := dk_182 0 16 (dk_at dksX28_isDone_0 9 rfl rfl)
theorem dX28_isDone_12 : decode cX28_isDone 12 = .ok (.ireturn, 1) := dk_172 (dk_at dksX28_isDone_0 12 rfl rfl)

set_option maxRecDepth 100000
def dkwX29_init_0 : List UInt8 := [42, 183, 0, 1, 42, 27, 181, 0, 7, 177]
abbrev dktX29_init_0 : List UInt8 := dkwX29_init_0 ++ []
theorem dksX29_init_0 : cX29_init.data.toList.drop 0 = dktX29_init_0 := by decide +kernel
theorem dX29_init_0 : decode cX29_init 0 = .ok (.aload_n 0, 1) := dk_42 (dk_at dksX29_init_0 0 rfl rfl)
theorem dX29_init_1 : decode cX29_init 1 = .ok (.invokespecial 1, 3) := dk_183 0 1 (dk_at dksX29_init_0 1 rfl rfl)
theorem dX29_init_4 : decode cX29_init 4 = .ok (.aload_n 0, 1) := dk_42 (dk_at dksX29_init_0 4 rfl rfl)
theorem dX29_init_5 : decode cX29_init 5 = .ok (.iload_n 1, 1) := dk_27 (dk_at dksX29_init_0 5 rfl rfl)
theorem dX29_init_6 : decode cX29_init 6 = .ok (.putfield 7, 3) := dk_181 0 7 (dk_at dksX29_init_0 6 rfl rfl)
theorem dX29_init_9 : decode cX29_init 9 = .ok (.return_, 1) := dk_177 (dk_at dksX29_init_0 9 rfl rfl)
def dkwX29_isDone_0 : List UInt8 := [43, 42, 180, 0, 7, 182, 0, 13, 172]
abbrev dktX29_isDone_0 : List UInt8 := dkwX29_isDone_0 ++ []
theorem dksX29_isDone_0 : cX29_isDone.data.toList.drop 0 = dktX29_isDone_0 := by decide +kernel
theorem dX29_isDone_0 : decode cX29_isDone 0 = .ok (.aload_n 1, 1) := dk_43 (dk_at dksX29_isDone_0 0 rfl rfl)
theorem dX29_isDone_1 : decode cX29_isDone 1 = .ok (.aload_n 0, 1) := dk_42 (dk_at dksX29_isDone_0 1 rfl rfl)
theorem dX29_isDone_2 : decode cX29_isDone 2 = .ok (.getfield 7, 3) := dk_180 0 7 (dk_at dksX29_isDone_0 2 rfl rfl)
theorem dX29_isDone_5 : decode cX29_isDone 5 = .ok (.invokevirtual 13, 3) := dk_182 0 13 (dk_at dksX29_isDone_0 5 rfl rfl)
theorem dX29_isDone_8 : decode cX29_isDone 8 = .ok (.ireturn, 1) := dk_172 (dk_at dksX29_isDone_0 8 rfl rfl)

set_option maxRecDepth 100000
theorem dX30_init_0 : decode cX30_init 0 = .ok (.aload_n 0, 1) := by decide +kernel
theorem dX30_init_1 : decode cX30_init 1 = .ok (.invokespecial 1, 3) := by decide +kernel
theorem dX30_init_4 : decode cX30_init 4 = .ok (.return_, 1) := by decide +kernel
theorem dX30_isDone_0 : decode cX30_isDone 0 = .ok (.aload_n 1, 1) := by decide +kernel
theorem dX30_isDone_1 : decode cX30_isDone 1 = .ok (.invokevirtual 7, 3) := by decide +kernel
theorem dX30_isDone_4 : decode cX30_isDone 4 = .ok (.ireturn, 1) := by decide +kernel

set_option maxRecDepth 100000
def dkwX31_init_0 : List UInt8 := [42, 183, 0, 3, 42, 187, 0, 9, 89, 4, 183, 0, 11, 181, 0, 14, 42, 27, 181, 0, 20, 177]
abbrev dktX31_init_0 : List UInt8 := dkwX31_init_0 ++ []
theorem dksX31_init_0 : cX31_init.data.toList.drop 0 = dktX31_init_0 := by decide +kernel
theorem dX31_init_0 : decode cX31_init 0 = .ok (.aload_n 0, 1) := dk_42 (dk_at dksX31_init_0 0 rfl rfl)
theorem dX31_init_1 : decode cX31_init 1 = .ok (.invokespecial 3, 3) := dk_183 0 3 (dk_at dksX31_init_0 1 rfl rfl)
theorem dX31_init_4 : decode cX31_init 4 = .ok (.aload_n 0, 1) := dk_42 (dk_at dksX31_init_0 4 rfl rfl)
theorem dX31_init_5 : decode cX31_init 5 = .ok (.new 9, 3) := dk_187 0 9 (dk_at dksX31_init_0 5 rfl rfl)
theorem dX31_init_8 : decode cX31_init 8 = .ok (.dup, 1) := dk_89 (dk_at dksX31_init_0 8 rfl rfl)
theorem dX31_init_9 : decode cX31_init 9 = .ok (.iconst 1, 1) := dk_4 (dk_at dksX31_init_0 9 rfl rfl)
theorem dX31_init_10 : decode cX31_init 10 = .ok (.invokespecial 11, 3) := dk_183 0 11 (dk_at dksX31_init_0 10 rfl rfl)
theorem dX31_init_13 : decode cX31_init 13 = .ok (.putfield 14, 3) := dk_181 0 14 (dk_at dksX31_init_0 13 rfl rfl)
theorem dX31_init_16 : decode cX31_init 16 = .ok (.aload_n 0, 1) := dk_42 (dk_at dksX31_init_0 16 rfl rfl)
theorem dX31_init_17 : decode cX31_init 17 = .ok (.iload_n 1, 1) := dk_27 (dk_at dksX31_init_0 17 rfl rfl)
theorem dX31_init_18 : decode cX31_init 18 = .ok (.putfield 20, 3) := dk_181 0 20 (dk_at dksX31_init_0 18 rfl rfl)
theorem dX31_init_21 : decode cX31_init 21 = .ok (.return_, 1) := dk_177 (dk_at dksX31_init_0 21 rfl rfl)
def dkwX31_goes_2 : List UInt8 := [182, 0, 36, 192, 0, 4, 43, 182, 0, 40, 132, 3, 1, 167, 255, 227, 132, 2, 1, 167, 255, 201, 177]
abbrev dktX31_goes_2 : List UInt8 := dkwX31_goes_2 ++ []
def dkwX31_goes_1 : List UInt8 := [17, 0, 200, 162, 0, 43, 3, 62, 29, 42, 180, 0, 14, 182, 0, 32, 162, 0, 24, 42, 180, 0, 14, 29]
abbrev dktX31_goes_1 : List UInt8 := dkwX31_goes_1 ++ dktX31_goes_2
def dkwX31_goes_0 : List UInt8 := [43, 184, 0, 24, 154, 0, 4, 177, 3, 61, 28, 42, 180, 0, 20, 162, 0, 53, 43, 180, 0, 28]
abbrev dktX31_goes_0 : List UInt8 := dkwX31_goes_0 ++ dktX31_goes_1
theorem dksX31_goes_0 : cX31_goes.data.toList.drop 0 = dktX31_goes_0 := by decide +kernel
theorem dksX31_goes_1 : cX31_goes.data.toList.drop 22 = dktX31_goes_1 := dk_seg dksX31_goes_0 22 rfl rfl
theorem dksX31_goes_2 : cX31_goes.data.toList.drop 46 = dktX31_goes_2 := dk_seg dksX31_goes_1 24 rfl rfl
theorem dX31_goes_0 : decode cX31_goes 0 = .ok (.aload_n 1, 1) := dk_43 (dk_at dksX31_goes_0 0 rfl rfl)
theorem dX31_goes_1 : decode cX31_goes 1 = .ok (.invokestatic 24, 3) := dk_184 0 24 (dk_at dksX31_goes_0 1 rfl rfl)
theorem dX31_goes_4 : decode cX31_goes 4 = .ok (.ifCond .ne 4, 3) := dk_154 0 4 (dk_at dksX31_goes_0 4 rfl rfl)
theorem dX31_goes_7 : decode cX31_goes 7 = .ok (.return_, 1) := dk_177 (dk_at dksX31_goes_0 7 rfl rfl)
theorem dX31_goes_8 : decode cX31_goes 8 = .ok (.iconst 0, 1) := dk_3 (dk_at dksX31_goes_0 8 rfl rfl)
theorem dX31_goes_9 : decode cX31_goes 9 = .ok (.istore_n 2, 1) := dk_61 (dk_at dksX31_goes_0 9 rfl rfl)
theorem dX31_goes_10 : decode cX31_goes 10 = .ok (.iload_n 2, 1) := dk_28 (dk_at dksX31_goes_0 10 rfl rfl)
theorem dX31_goes_11 : decode cX31_goes 11 = .ok (.aload_n 0, 1) := dk_42 (dk_at dksX31_goes_0 11 rfl rfl)
theorem dX31_goes_12 : decode cX31_goes 12 = .ok (.getfield 20, 3) := dk_180 0 20 (dk_at dksX31_goes_0 12 rfl rfl)
theorem dX31_goes_15 : decode cX31_goes 15 = .ok (.if_icmp .ge 53, 3) := dk_162 0 53 (dk_at dksX31_goes_0 15 rfl rfl)
theorem dX31_goes_18 : decode cX31_goes 18 = .ok (.aload_n 1, 1) := dk_43 (dk_at dksX31_goes_0 18 rfl rfl)
theorem dX31_goes_19 : decode cX31_goes 19 = .ok (.getfield 28, 3) := dk_180 0 28 (dk_at dksX31_goes_0 19 rfl rfl)
theorem dX31_goes_22 : decode cX31_goes 22 = .ok (.sipush 200, 3) := dk_17 0 200 (dk_at dksX31_goes_1 0 rfl rfl)
theorem dX31_goes_25 : decode cX31_goes 25 = .ok (.if_icmp .ge 43, 3) := dk_162 0 43 (dk_at dksX31_goes_1 3 rfl rfl)
theorem dX31_goes_28 : decode cX31_goes 28 = .ok (.iconst 0, 1) := dk_3 (dk_at dksX31_goes_1 6 rfl rfl)
theorem dX31_goes_29 : decode cX31_goes 29 = .ok (.istore_n 3, 1) := dk_62 (dk_at dksX31_goes_1 7 rfl rfl)
theorem dX31_goes_30 : decode cX31_goes 30 = .ok (.iload_n 3, 1) := dk_29 (dk_at dksX31_goes_1 8 rfl rfl)
theorem dX31_goes_31 : decode cX31_goes 31 = .ok (.aload_n 0, 1) := dk_42 (dk_at dksX31_goes_1 9 rfl rfl)
theorem dX31_goes_32 : decode cX31_goes 32 = .ok (.getfield 14, 3) := dk_180 0 14 (dk_at dksX31_goes_1 10 rfl rfl)
theorem dX31_goes_35 : decode cX31_goes 35 = .ok (.invokevirtual 32, 3) := dk_182 0 32 (dk_at dksX31_goes_1 13 rfl rfl)
theorem dX31_goes_38 : decode cX31_goes 38 = .ok (.if_icmp .ge 24, 3) := dk_162 0 24 (dk_at dksX31_goes_1 16 rfl rfl)
theorem dX31_goes_41 : decode cX31_goes 41 = .ok (.aload_n 0, 1) := dk_42 (dk_at dksX31_goes_1 19 rfl rfl)
theorem dX31_goes_42 : decode cX31_goes 42 = .ok (.getfield 14, 3) := dk_180 0 14 (dk_at dksX31_goes_1 20 rfl rfl)
theorem dX31_goes_45 : decode cX31_goes 45 = .ok (.iload_n 3, 1) := dk_29 (dk_at dksX31_goes_1 23 rfl rfl)
theorem dX31_goes_46 : decode cX31_goes 46 = .ok (.invokevirtual 36, 3) := dk_182 0 36 (dk_at dksX31_goes_2 0 rfl rfl)
theorem dX31_goes_49 : decode cX31_goes 49 = .ok (.checkcast 4, 3) := dk_192 0 4 (dk_at dksX31_goes_2 3 rfl rfl)
theorem dX31_goes_52 : decode cX31_goes 52 = .ok (.aload_n 1, 1) := dk_43 (dk_at dksX31_goes_2 6 rfl rfl)
theorem dX31_goes_53 : decode cX31_goes 53 = .ok (.invokevirtual 40, 3) := dk_182 0 40 (dk_at dksX31_goes_2 7 rfl rfl)
theorem dX31_goes_56 : decode cX31_goes 56 = .ok (.iinc 3 1, 3) := dk_132 3 1 (dk_at dksX31_goes_2 10 rfl rfl)
theorem dX31_goes_59 : decode cX31_goes 59 = .ok (.goto (-29), 3) := dk_167 255 227 (dk_at dksX31_goes_2 13 rfl rfl)
theorem dX31_goes_62 : decode cX31_goes 62 = .ok (.iinc 2 1, 3) := dk_132 2 1 (dk_at dksX31_goes_2 16 rfl rfl)
theorem dX31_goes_65 : decode cX31_goes 65 = .ok (.goto (-55), 3) := dk_167 255 201 (dk_at dksX31_goes_2 19 rfl rfl)
theorem dX31_goes_68 : decode cX31_goes 68 = .ok (.return_, 1) := dk_177 (dk_at dksX31_goes_2 22 rfl rfl)

set_option maxRecDepth 100000
def dkwX32_init_0 : List UInt8 := [42, 43, 28, 183, 0, 3, 42, 16, 10, 188, 10, 181, 0, 9, 42, 29, 181, 0, 15, 177]
abbrev dktX32_init_0 : List UInt8 := dkwX32_init_0 ++ []
theorem dksX32_init_0 : cX32_init.data.toList.drop 0 = dktX32_init_0 := by decide +kernel
theorem dX32_init_0 : decode cX32_init 0 = .ok (.aload_n 0, 1) := dk_42 (dk_at dksX32_init_0 0 rfl rfl)
theorem dX32_init_1 : decode cX32_init 1 = .ok (.aload_n 1, 1) := dk_43 (dk_at dksX32_init_0 1 rfl rfl)
theorem dX32_init_2 : decode cX32_init 2 = .ok (.iload_n 2, 1) := dk_28 (dk_at dksX32_init_0 2 rfl rfl)
theorem dX32_init_3 : decode cX32_init 3 = .ok (.invokespecial 3, 3) := dk_183 0 3 (dk_at dksX32_init_0 3 rfl rfl)
theorem dX32_init_6 : decode cX32_init 6 = .ok (.aload_n 0, 1) := dk_42 (dk_at dksX32_init_0 6 rfl rfl)
theorem dX32_init_7 : decode cX32_init 7 = .ok (.bipush 10, 2) := dk_16 10 (dk_at dksX32_init_0 7 rfl rfl)
theorem dX32_init_9 : decode cX32_init 9 = .ok (.newarray .int, 2) := dk_188_10 (dk_at dksX32_init_0 9 rfl rfl)
theorem dX32_init_11 : decode cX32_init 11 = .ok (.putfield 9, 3) := dk_181 0 9 (dk_at dksX32_init_0 11 rfl rfl)
theorem dX32_init_14 : decode cX32_init 14 = .ok (.aload_n 0, 1) := dk_42 (dk_at dksX32_init_0 14 rfl rfl)
theorem dX32_init_15 : decode cX32_init 15 = .ok (.iload_n 3, 1) := dk_29 (dk_at dksX32_init_0 15 rfl rfl)
theorem dX32_init_16 : decode cX32_init 16 = .ok (.putfield 15, 3) := dk_181 0 15 (dk_at dksX32_init_0 16 rfl rfl)
theorem dX32_init_19 : decode cX32_init 19 = .ok (.return_, 1) := dk_177 (dk_at dksX32_init_0 19 rfl rfl)
def dkwX32_reads_4 : List UInt8 := [89, 180, 0, 45, 4, 96, 181, 0, 45, 42, 182, 0, 19, 87, 167, 255, 176, 42, 180, 0, 9, 176]
abbrev dktX32_reads_4 : List UInt8 := dkwX32_reads_4 ++ []
def dkwX32_reads_3 : List UInt8 := [183, 0, 38, 191, 42, 180, 0, 9, 27, 42, 3, 16, 99, 182, 0, 29, 79, 42, 16, 59, 182, 0, 41, 42]
abbrev dktX32_reads_3 : List UInt8 := dkwX32_reads_3 ++ dktX32_reads_4
def dkwX32_reads_2 : List UInt8 := [182, 0, 29, 60, 42, 180, 0, 9, 27, 46, 2, 159, 0, 16, 187, 0, 33, 89, 5, 42, 180, 0, 35]
abbrev dktX32_reads_2 : List UInt8 := dkwX32_reads_2 ++ dktX32_reads_3
def dkwX32_reads_1 : List UInt8 := [182, 0, 19, 87, 42, 180, 0, 23, 42, 180, 0, 26, 162, 0, 75, 42, 3, 42, 180, 0, 15, 4, 100]
abbrev dktX32_reads_1 : List UInt8 := dkwX32_reads_1 ++ dktX32_reads_2
def dkwX32_reads_0 : List UInt8 := [3, 60, 27, 16, 10, 162, 0, 16, 42, 180, 0, 9, 27, 2, 79, 132, 1, 1, 167, 255, 240, 42]
abbrev dktX32_reads_0 : List UInt8 := dkwX32_reads_0 ++ dktX32_reads_1
theorem dksX32_reads_0 : cX32_reads.data.toList.drop 0 = dktX32_reads_0 := by decide +kernel
theorem dksX32_reads_1 : cX32_reads.data.toList.drop 22 = dktX32_reads_1 := dk_seg dksX32_reads_0 22 rfl rfl
theorem dksX32_reads_2 : cX32_reads.data.toList.drop 45 = dktX32_reads_2 := dk_seg dksX32_reads_1 23 rfl rfl
theorem dksX32_reads_3 : cX32_reads.data.toList.drop 68 = dktX32_reads_3 := dk_seg dksX32_reads_2 23 rfl rfl
theorem dksX32_reads_4 : cX32_reads.data.toList.drop 92 = dktX32_reads_4 := dk_seg dksX32_reads_3 24 rfl rfl
theorem dX32_reads_0 : decode cX32_reads 0 = .ok (.iconst 0, 1) := dk_3 (dk_at dksX32_reads_0 0 rfl rfl)
theorem dX32_reads_1 : decode cX32_reads 1 = .ok (.istore_n 1, 1) := dk_60 (dk_at dksX32_reads_0 1 rfl rfl)
theorem dX32_reads_2 : decode cX32_reads 2 = .ok (.iload_n 1, 1) := dk_27 (dk_at dksX32_reads_0 2 rfl rfl)
theorem dX32_reads_3 : decode cX32_reads 3 = .ok (.bipush 10, 2) := dk_16 10 (dk_at dksX32_reads_0 3 rfl rfl)
theorem dX32_reads_5 : decode cX32_reads 5 = .ok (.if_icmp .ge 16, 3) := dk_162 0 16 (dk_at dksX32_reads_0 5 rfl rfl)
theorem dX32_reads_8 : decode cX32_reads 8 = .ok (.aload_n 0, 1) := dk_42 (dk_at dksX32_reads_0 8 rfl rfl)
theorem dX32_reads_9 : decode cX32_reads 9 = .ok (.getfield 9, 3) := dk_180 0 9 (dk_at dksX32_reads_0 9 rfl rfl)
theorem dX32_reads_12 : decode cX32_reads 12 = .ok (.iload_n 1, 1) := dk_27 (dk_at dksX32_reads_0 12 rfl rfl)
theorem dX32_reads_13 : decode cX32_reads 13 = .ok (.iconst (-1), 1) := dk_2 (dk_at dksX32_reads_0 13 rfl rfl)
theorem dX32_reads_14 : decode cX32_reads 14 = .ok (.iastore, 1) := dk_79 (dk_at dksX32_reads_0 14 rfl rfl)
theorem dX32_reads_15 : decode cX32_reads 15 = .ok (.iinc 1 1, 3) := dk_132 1 1 (dk_at dksX32_reads_0 15 rfl rfl)
theorem dX32_reads_18 : decode cX32_reads 18 = .ok (.goto (-16), 3) := dk_167 255 240 (dk_at dksX32_reads_0 18 rfl rfl)
theorem dX32_reads_21 : decode cX32_reads 21 = .ok (.aload_n 0, 1) := dk_42 (dk_at dksX32_reads_0 21 rfl rfl)
theorem dX32_reads_22 : decode cX32_reads 22 = .ok (.invokevirtual 19, 3) := dk_182 0 19 (dk_at dksX32_reads_1 0 rfl rfl)
theorem dX32_reads_25 : decode cX32_reads 25 = .ok (.pop, 1) := dk_87 (dk_at dksX32_reads_1 3 rfl rfl)
theorem dX32_reads_26 : decode cX32_reads 26 = .ok (.aload_n 0, 1) := dk_42 (dk_at dksX32_reads_1 4 rfl rfl)
theorem dX32_reads_27 : decode cX32_reads 27 = .ok (.getfield 23, 3) := dk_180 0 23 (dk_at dksX32_reads_1 5 rfl rfl)
theorem dX32_reads_30 : decode cX32_reads 30 = .ok (.aload_n 0, 1) := dk_42 (dk_at dksX32_reads_1 8 rfl rfl)
theorem dX32_reads_31 : decode cX32_reads 31 = .ok (.getfield 26, 3) := dk_180 0 26 (dk_at dksX32_reads_1 9 rfl rfl)
theorem dX32_reads_34 : decode cX32_reads 34 = .ok (.if_icmp .ge 75, 3) := dk_162 0 75 (dk_at dksX32_reads_1 12 rfl rfl)
theorem dX32_reads_37 : decode cX32_reads 37 = .ok (.aload_n 0, 1) := dk_42 (dk_at dksX32_reads_1 15 rfl rfl)
theorem dX32_reads_38 : decode cX32_reads 38 = .ok (.iconst 0, 1) := dk_3 (dk_at dksX32_reads_1 16 rfl rfl)
theorem dX32_reads_39 : decode cX32_reads 39 = .ok (.aload_n 0, 1) := dk_42 (dk_at dksX32_reads_1 17 rfl rfl)
theorem dX32_reads_40 : decode cX32_reads 40 = .ok (.getfield 15, 3) := dk_180 0 15 (dk_at dksX32_reads_1 18 rfl rfl)
theorem dX32_reads_43 : decode cX32_reads 43 = .ok (.iconst 1, 1) := dk_4 (dk_at dksX32_reads_1 21 rfl rfl)
theorem dX32_reads_44 : decode cX32_reads 44 = .ok (.isub, 1) := dk_100 (dk_at dksX32_reads_1 22 rfl rfl)
theorem dX32_reads_45 : decode cX32_reads 45 = .ok (.invokevirtual 29, 3) := dk_182 0 29 (dk_at dksX32_reads_2 0 rfl rfl)
theorem dX32_reads_48 : decode cX32_reads 48 = .ok (.istore_n 1, 1) := dk_60 (dk_at dksX32_reads_2 3 rfl rfl)
theorem dX32_reads_49 : decode cX32_reads 49 = .ok (.aload_n 0, 1) := dk_42 (dk_at dksX32_reads_2 4 rfl rfl)
theorem dX32_reads_50 : decode cX32_reads 50 = .ok (.getfield 9, 3) := dk_180 0 9 (dk_at dksX32_reads_2 5 rfl rfl)
theorem dX32_reads_53 : decode cX32_reads 53 = .ok (.iload_n 1, 1) := dk_27 (dk_at dksX32_reads_2 8 rfl rfl)
theorem dX32_reads_54 : decode cX32_reads 54 = .ok (.iaload, 1) := dk_46 (dk_at dksX32_reads_2 9 rfl rfl)
theorem dX32_reads_55 : decode cX32_reads 55 = .ok (.iconst (-1), 1) := dk_2 (dk_at dksX32_reads_2 10 rfl rfl)
theorem dX32_reads_56 : decode cX32_reads 56 = .ok (.if_icmp .eq 16, 3) := dk_159 0 16 (dk_at dksX32_reads_2 11 rfl rfl)
theorem dX32_reads_59 : decode cX32_reads 59 = .ok (.new 33, 3) := dk_187 0 33 (dk_at dksX32_reads_2 14 rfl rfl)
theorem dX32_reads_62 : decode cX32_reads 62 = .ok (.dup, 1) := dk_89 (dk_at dksX32_reads_2 17 rfl rfl)
theorem dX32_reads_63 : decode cX32_reads 63 = .ok (.iconst 2, 1) := dk_5 (dk_at dksX32_reads_2 18 rfl rfl)
theorem dX32_reads_64 : decode cX32_reads 64 = .ok (.aload_n 0, 1) := dk_42 (dk_at dksX32_reads_2 19 rfl rfl)
theorem dX32_reads_65 : decode cX32_reads 65 = .ok (.getfield 35, 3) := dk_180 0 35 (dk_at dksX32_reads_2 20 rfl rfl)
theorem dX32_reads_68 : decode cX32_reads 68 = .ok (.invokespecial 38, 3) := dk_183 0 38 (dk_at dksX32_reads_3 0 rfl rfl)
theorem dX32_reads_71 : decode cX32_reads 71 = .ok (.athrow, 1) := dk_191 (dk_at dksX32_reads_3 3 rfl rfl)
theorem dX32_reads_72 : decode cX32_reads 72 = .ok (.aload_n 0, 1) := dk_42 (dk_at dksX32_reads_3 4 rfl rfl)
theorem dX32_reads_73 : decode cX32_reads 73 = .ok (.getfield 9, 3) := dk_180 0 9 (dk_at dksX32_reads_3 5 rfl rfl)
theorem dX32_reads_76 : decode cX32_reads 76 = .ok (.iload_n 1, 1) := dk_27 (dk_at dksX32_reads_3 8 rfl rfl)
theorem dX32_reads_77 : decode cX32_reads 77 = .ok (.aload_n 0, 1) := dk_42 (dk_at dksX32_reads_3 9 rfl rfl)
theorem dX32_reads_78 : decode cX32_reads 78 = .ok (.iconst 0, 1) := dk_3 (dk_at dksX32_reads_3 10 rfl rfl)
theorem dX32_reads_79 : decode cX32_reads 79 = .ok (.bipush 99, 2) := dk_16 99 (dk_at dksX32_reads_3 11 rfl rfl)
theorem dX32_reads_81 : decode cX32_reads 81 = .ok (.invokevirtual 29, 3) := dk_182 0 29 (dk_at dksX32_reads_3 13 rfl rfl)
theorem dX32_reads_84 : decode cX32_reads 84 = .ok (.iastore, 1) := dk_79 (dk_at dksX32_reads_3 16 rfl rfl)
theorem dX32_reads_85 : decode cX32_reads 85 = .ok (.aload_n 0, 1) := dk_42 (dk_at dksX32_reads_3 17 rfl rfl)
theorem dX32_reads_86 : decode cX32_reads 86 = .ok (.bipush 59, 2) := dk_16 59 (dk_at dksX32_reads_3 18 rfl rfl)
theorem dX32_reads_88 : decode cX32_reads 88 = .ok (.invokevirtual 41, 3) := dk_182 0 41 (dk_at dksX32_reads_3 20 rfl rfl)
theorem dX32_reads_91 : decode cX32_reads 91 = .ok (.aload_n 0, 1) := dk_42 (dk_at dksX32_reads_3 23 rfl rfl)
theorem dX32_reads_92 : decode cX32_reads 92 = .ok (.dup, 1) := dk_89 (dk_at dksX32_reads_4 0 rfl rfl)
theorem dX32_reads_93 : decode cX32_reads 93 = .ok (.getfield 45, 3) := dk_180 0 45 (dk_at dksX32_reads_4 1 rfl rfl)
theorem dX32_reads_96 : decode cX32_reads 96 = .ok (.iconst 1, 1) := dk_4 (dk_at dksX32_reads_4 4 rfl rfl)
theorem dX32_reads_97 : decode cX32_reads 97 = .ok (.iadd, 1) := dk_96 (dk_at dksX32_reads_4 5 rfl rfl)
theorem dX32_reads_98 : decode cX32_reads 98 = .ok (.putfield 45, 3) := dk_181 0 45 (dk_at dksX32_reads_4 6 rfl rfl)
theorem dX32_reads_101 : decode cX32_reads 101 = .ok (.aload_n 0, 1) := dk_42 (dk_at dksX32_reads_4 9 rfl rfl)
theorem dX32_reads_102 : decode cX32_reads 102 = .ok (.invokevirtual 19, 3) := dk_182 0 19 (dk_at dksX32_reads_4 10 rfl rfl)
theorem dX32_reads_105 : decode cX32_reads 105 = .ok (.pop, 1) := dk_87 (dk_at dksX32_reads_4 13 rfl rfl)
theorem dX32_reads_106 : decode cX32_reads 106 = .ok (.goto (-80), 3) := dk_167 255 176 (dk_at dksX32_reads_4 14 rfl rfl)
theorem dX32_reads_109 : decode cX32_reads 109 = .ok (.aload_n 0, 1) := dk_42 (dk_at dksX32_reads_4 17 rfl rfl)
theorem dX32_reads_110 : decode cX32_reads 110 = .ok (.getfield 9, 3) := dk_180 0 9 (dk_at dksX32_reads_4 18 rfl rfl)
theorem dX32_reads_113 : decode cX32_reads 113 = .ok (.areturn, 1) := dk_176 (dk_at dksX32_reads_4 21 rfl rfl)
