/-! TrackArrayLaw -/
set_option maxRecDepth 100000
def RX0 : String := "TrackArrayLaw"
abbrev cX0_setSound : ByteArray := method_3_code
def yX0_setSound : MethodName := ⟨RX0, "setSound", "(LTrackArray;I[J)I"⟩
def dkwX0_setSound_0 : List UInt8 := [44, 3, 42, 27, 182, 0, 7, 133, 80, 167, 0, 6, 78, 4, 172, 3, 172]
abbrev dktX0_setSound_0 : List UInt8 := dkwX0_setSound_0 ++ []
theorem dksX0_setSound_0 : cX0_setSound.data.toList.drop 0 = dktX0_setSound_0 := by decide +kernel
theorem dX0_setSound_0 : decode cX0_setSound 0 = .ok (.aload_n 2, 1) := dk_44 (dk_at dksX0_setSound_0 0 rfl rfl)
theorem dX0_setSound_1 : decode cX0_setSound 1 = .ok (.iconst 0, 1) := dk_3 (dk_at dksX0_setSound_0 1 rfl rfl)
theorem dX0_setSound_2 : decode cX0_setSound 2 = .ok (.aload_n 0, 1) := dk_42 (dk_at dksX0_setSound_0 2 rfl rfl)
theorem dX0_setSound_3 : decode cX0_setSound 3 = .ok (.iload_n 1, 1) := dk_27 (dk_at dksX0_setSound_0 3 rfl rfl)
theorem dX0_setSound_4 : decode cX0_setSound 4 = .ok (.invokevirtual 7, 3) := dk_182 0 7 (dk_at dksX0_setSound_0 4 rfl rfl)
theorem dX0_setSound_7 : decode cX0_setSound 7 = .ok (.i2l, 1) := dk_133 (dk_at dksX0_setSound_0 7 rfl rfl)
theorem dX0_setSound_8 : decode cX0_setSound 8 = .ok (.lastore, 1) := dk_80 (dk_at dksX0_setSound_0 8 rfl rfl)
theorem dX0_setSound_9 : decode cX0_setSound 9 = .ok (.goto 6, 3) := dk_167 0 6 (dk_at dksX0_setSound_0 9 rfl rfl)
theorem dX0_setSound_12 : decode cX0_setSound 12 = .ok (.astore_n 3, 1) := dk_78 (dk_at dksX0_setSound_0 12 rfl rfl)
theorem dX0_setSound_13 : decode cX0_setSound 13 = .ok (.iconst 1, 1) := dk_4 (dk_at dksX0_setSound_0 13 rfl rfl)
theorem dX0_setSound_14 : decode cX0_setSound 14 = .ok (.ireturn, 1) := dk_172 (dk_at dksX0_setSound_0 14 rfl rfl)
theorem dX0_setSound_15 : decode cX0_setSound 15 = .ok (.iconst 0, 1) := dk_3 (dk_at dksX0_setSound_0 15 rfl rfl)
theorem dX0_setSound_16 : decode cX0_setSound 16 = .ok (.ireturn, 1) := dk_172 (dk_at dksX0_setSound_0 16 rfl rfl)
abbrev cX0_setGround : ByteArray := method_4_code
def yX0_setGround : MethodName := ⟨RX0, "setGround", "(LTrackArray;I[J)I"⟩
def dkwX0_setGround_0 : List UInt8 := [44, 3, 42, 27, 182, 0, 15, 133, 80, 167, 0, 6, 78, 4, 172, 3, 172]
abbrev dktX0_setGround_0 : List UInt8 := dkwX0_setGround_0 ++ []
theorem dksX0_setGround_0 : cX0_setGround.data.toList.drop 0 = dktX0_setGround_0 := by decide +kernel
theorem dX0_setGround_0 : decode cX0_setGround 0 = .ok (.aload_n 2, 1) := dk_44 (dk_at dksX0_setGround_0 0 rfl rfl)
theorem dX0_setGround_1 : decode cX0_setGround 1 = .ok (.iconst 0, 1) := dk_3 (dk_at dksX0_setGround_0 1 rfl rfl)
theorem dX0_setGround_2 : decode cX0_setGround 2 = .ok (.aload_n 0, 1) := dk_42 (dk_at dksX0_setGround_0 2 rfl rfl)
theorem dX0_setGround_3 : decode cX0_setGround 3 = .ok (.iload_n 1, 1) := dk_27 (dk_at dksX0_setGround_0 3 rfl rfl)
theorem dX0_setGround_4 : decode cX0_setGround 4 = .ok (.invokevirtual 15, 3) := dk_182 0 15 (dk_at dksX0_setGround_0 4 rfl rfl)
theorem dX0_setGround_7 : decode cX0_setGround 7 = .ok (.i2l, 1) := dk_133 (dk_at dksX0_setGround_0 7 rfl rfl)
theorem dX0_setGround_8 : decode cX0_setGround 8 = .ok (.lastore, 1) := dk_80 (dk_at dksX0_setGround_0 8 rfl rfl)
theorem dX0_setGround_9 : decode cX0_setGround 9 = .ok (.goto 6, 3) := dk_167 0 6 (dk_at dksX0_setGround_0 9 rfl rfl)
theorem dX0_setGround_12 : decode cX0_setGround 12 = .ok (.astore_n 3, 1) := dk_78 (dk_at dksX0_setGround_0 12 rfl rfl)
theorem dX0_setGround_13 : decode cX0_setGround 13 = .ok (.iconst 1, 1) := dk_4 (dk_at dksX0_setGround_0 13 rfl rfl)
theorem dX0_setGround_14 : decode cX0_setGround 14 = .ok (.ireturn, 1) := dk_172 (dk_at dksX0_setGround_0 14 rfl rfl)
theorem dX0_setGround_15 : decode cX0_setGround 15 = .ok (.iconst 0, 1) := dk_3 (dk_at dksX0_setGround_0 15 rfl rfl)
theorem dX0_setGround_16 : decode cX0_setGround 16 = .ok (.ireturn, 1) := dk_172 (dk_at dksX0_setGround_0 16 rfl rfl)
abbrev cX0_setNoise : ByteArray := method_5_code
def yX0_setNoise : MethodName := ⟨RX0, "setNoise", "(LTrackArray;II)I"⟩
def dkwX0_setNoise_0 : List UInt8 := [42, 27, 28, 182, 0, 18, 167, 0, 6, 78, 4, 172, 3, 172]
abbrev dktX0_setNoise_0 : List UInt8 := dkwX0_setNoise_0 ++ []
theorem dksX0_setNoise_0 : cX0_setNoise.data.toList.drop 0 = dktX0_setNoise_0 := by decide +kernel
theorem dX0_setNoise_0 : decode cX0_setNoise 0 = .ok (.aload_n 0, 1) := dk_42 (dk_at dksX0_setNoise_0 0 rfl rfl)
theorem dX0_setNoise_1 : decode cX0_setNoise 1 = .ok (.iload_n 1, 1) := dk_27 (dk_at dksX0_setNoise_0 1 rfl rfl)
theorem dX0_setNoise_2 : decode cX0_setNoise 2 = .ok (.iload_n 2, 1) := dk_28 (dk_at dksX0_setNoise_0 2 rfl rfl)
theorem dX0_setNoise_3 : decode cX0_setNoise 3 = .ok (.invokevirtual 18, 3) := dk_182 0 18 (dk_at dksX0_setNoise_0 3 rfl rfl)
theorem dX0_setNoise_6 : decode cX0_setNoise 6 = .ok (.goto 6, 3) := dk_167 0 6 (dk_at dksX0_setNoise_0 6 rfl rfl)
theorem dX0_setNoise_9 : decode cX0_setNoise 9 = .ok (.astore_n 3, 1) := dk_78 (dk_at dksX0_setNoise_0 9 rfl rfl)
theorem dX0_setNoise_10 : decode cX0_setNoise 10 = .ok (.iconst 1, 1) := dk_4 (dk_at dksX0_setNoise_0 10 rfl rfl)
theorem dX0_setNoise_11 : decode cX0_setNoise 11 = .ok (.ireturn, 1) := dk_172 (dk_at dksX0_setNoise_0 11 rfl rfl)
theorem dX0_setNoise_12 : decode cX0_setNoise 12 = .ok (.iconst 0, 1) := dk_3 (dk_at dksX0_setNoise_0 12 rfl rfl)
theorem dX0_setNoise_13 : decode cX0_setNoise 13 = .ok (.ireturn, 1) := dk_172 (dk_at dksX0_setNoise_0 13 rfl rfl)
abbrev cX0_addVehicle : ByteArray := method_6_code
def yX0_addVehicle : MethodName := ⟨RX0, "addVehicle", "(LTrackArray;III[J)I"⟩
def dkwX0_addVehicle_1 : List UInt8 := [172]
abbrev dktX0_addVehicle_1 : List UInt8 := dkwX0_addVehicle_1 ++ []
def dkwX0_addVehicle_0 : List UInt8 := [25, 4, 3, 42, 27, 28, 29, 182, 0, 22, 133, 80, 167, 0, 11, 58, 5, 4, 172, 58, 5, 5, 172, 3]
abbrev dktX0_addVehicle_0 : List UInt8 := dkwX0_addVehicle_0 ++ dktX0_addVehicle_1
theorem dksX0_addVehicle_0 : cX0_addVehicle.data.toList.drop 0 = dktX0_addVehicle_0 := by decide +kernel
theorem dksX0_addVehicle_1 : cX0_addVehicle.data.toList.drop 24 = dktX0_addVehicle_1 := dk_seg dksX0_addVehicle_0 24 rfl rfl
theorem dX0_addVehicle_0 : decode cX0_addVehicle 0 = .ok (.aload 4, 2) := dk_25 4 (dk_at dksX0_addVehicle_0 0 rfl rfl)
theorem dX0_addVehicle_2 : decode cX0_addVehicle 2 = .ok (.iconst 0, 1) := dk_3 (dk_at dksX0_addVehicle_0 2 rfl rfl)
theorem dX0_addVehicle_3 : decode cX0_addVehicle 3 = .ok (.aload_n 0, 1) := dk_42 (dk_at dksX0_addVehicle_0 3 rfl rfl)
theorem dX0_addVehicle_4 : decode cX0_addVehicle 4 = .ok (.iload_n 1, 1) := dk_27 (dk_at dksX0_addVehicle_0 4 rfl rfl)
theorem dX0_addVehicle_5 : decode cX0_addVehicle 5 = .ok (.iload_n 2, 1) := dk_28 (dk_at dksX0_addVehicle_0 5 rfl rfl)
theorem dX0_addVehicle_6 : decode cX0_addVehicle 6 = .ok (.iload_n 3, 1) := dk_29 (dk_at dksX0_addVehicle_0 6 rfl rfl)
theorem dX0_addVehicle_7 : decode cX0_addVehicle 7 = .ok (.invokevirtual 22, 3) := dk_182 0 22 (dk_at dksX0_addVehicle_0 7 rfl rfl)
theorem dX0_addVehicle_10 : decode cX0_addVehicle 10 = .ok (.i2l, 1) := dk_133 (dk_at dksX0_addVehicle_0 10 rfl rfl)
theorem dX0_addVehicle_11 : decode cX0_addVehicle 11 = .ok (.lastore, 1) := dk_80 (dk_at dksX0_addVehicle_0 11 rfl rfl)
theorem dX0_addVehicle_12 : decode cX0_addVehicle 12 = .ok (.goto 11, 3) := dk_167 0 11 (dk_at dksX0_addVehicle_0 12 rfl rfl)
theorem dX0_addVehicle_15 : decode cX0_addVehicle 15 = .ok (.astore 5, 2) := dk_58 5 (dk_at dksX0_addVehicle_0 15 rfl rfl)
theorem dX0_addVehicle_17 : decode cX0_addVehicle 17 = .ok (.iconst 1, 1) := dk_4 (dk_at dksX0_addVehicle_0 17 rfl rfl)
theorem dX0_addVehicle_18 : decode cX0_addVehicle 18 = .ok (.ireturn, 1) := dk_172 (dk_at dksX0_addVehicle_0 18 rfl rfl)
theorem dX0_addVehicle_19 : decode cX0_addVehicle 19 = .ok (.astore 5, 2) := dk_58 5 (dk_at dksX0_addVehicle_0 19 rfl rfl)
theorem dX0_addVehicle_21 : decode cX0_addVehicle 21 = .ok (.iconst 2, 1) := dk_5 (dk_at dksX0_addVehicle_0 21 rfl rfl)
theorem dX0_addVehicle_22 : decode cX0_addVehicle 22 = .ok (.ireturn, 1) := dk_172 (dk_at dksX0_addVehicle_0 22 rfl rfl)
theorem dX0_addVehicle_23 : decode cX0_addVehicle 23 = .ok (.iconst 0, 1) := dk_3 (dk_at dksX0_addVehicle_0 23 rfl rfl)
theorem dX0_addVehicle_24 : decode cX0_addVehicle 24 = .ok (.ireturn, 1) := dk_172 (dk_at dksX0_addVehicle_1 0 rfl rfl)
abbrev cX0_addSource : ByteArray := method_7_code
def yX0_addSource : MethodName := ⟨RX0, "addSource", "(LTrackArray;IIIII[J)I"⟩
def dkwX0_addSource_1 : List UInt8 := [58, 7, 5, 172, 58, 7, 6, 172, 3, 172]
abbrev dktX0_addSource_1 : List UInt8 := dkwX0_addSource_1 ++ []
def dkwX0_addSource_0 : List UInt8 := [25, 6, 3, 42, 27, 28, 29, 21, 4, 21, 5, 182, 0, 28, 133, 80, 167, 0, 15, 58, 7, 4, 172]
abbrev dktX0_addSource_0 : List UInt8 := dkwX0_addSource_0 ++ dktX0_addSource_1
theorem dksX0_addSource_0 : cX0_addSource.data.toList.drop 0 = dktX0_addSource_0 := by decide +kernel
theorem dksX0_addSource_1 : cX0_addSource.data.toList.drop 23 = dktX0_addSource_1 := dk_seg dksX0_addSource_0 23 rfl rfl
theorem dX0_addSource_0 : decode cX0_addSource 0 = .ok (.aload 6, 2) := dk_25 6 (dk_at dksX0_addSource_0 0 rfl rfl)
theorem dX0_addSource_2 : decode cX0_addSource 2 = .ok (.iconst 0, 1) := dk_3 (dk_at dksX0_addSource_0 2 rfl rfl)
theorem dX0_addSource_3 : decode cX0_addSource 3 = .ok (.aload_n 0, 1) := dk_42 (dk_at dksX0_addSource_0 3 rfl rfl)
theorem dX0_addSource_4 : decode cX0_addSource 4 = .ok (.iload_n 1, 1) := dk_27 (dk_at dksX0_addSource_0 4 rfl rfl)
theorem dX0_addSource_5 : decode cX0_addSource 5 = .ok (.iload_n 2, 1) := dk_28 (dk_at dksX0_addSource_0 5 rfl rfl)
theorem dX0_addSource_6 : decode cX0_addSource 6 = .ok (.iload_n 3, 1) := dk_29 (dk_at dksX0_addSource_0 6 rfl rfl)
theorem dX0_addSource_7 : decode cX0_addSource 7 = .ok (.iload 4, 2) := dk_21 4 (dk_at dksX0_addSource_0 7 rfl rfl)
theorem dX0_addSource_9 : decode cX0_addSource 9 = .ok (.iload 5, 2) := dk_21 5 (dk_at dksX0_addSource_0 9 rfl rfl)
theorem dX0_addSource_11 : decode cX0_addSource 11 = .ok (.invokevirtual 28, 3) := dk_182 0 28 (dk_at dksX0_addSource_0 11 rfl rfl)
theorem dX0_addSource_14 : decode cX0_addSource 14 = .ok (.i2l, 1) := dk_133 (dk_at dksX0_addSource_0 14 rfl rfl)
theorem dX0_addSource_15 : decode cX0_addSource 15 = .ok (.lastore, 1) := dk_80 (dk_at dksX0_addSource_0 15 rfl rfl)
theorem dX0_addSource_16 : decode cX0_addSource 16 = .ok (.goto 15, 3) := dk_167 0 15 (dk_at dksX0_addSource_0 16 rfl rfl)
theorem dX0_addSource_19 : decode cX0_addSource 19 = .ok (.astore 7, 2) := dk_58 7 (dk_at dksX0_addSource_0 19 rfl rfl)
theorem dX0_addSource_21 : decode cX0_addSource 21 = .ok (.iconst 1, 1) := dk_4 (dk_at dksX0_addSource_0 21 rfl rfl)
theorem dX0_addSource_22 : decode cX0_addSource 22 = .ok (.ireturn, 1) := dk_172 (dk_at dksX0_addSource_0 22 rfl rfl)
theorem dX0_addSource_23 : decode cX0_addSource 23 = .ok (.astore 7, 2) := dk_58 7 (dk_at dksX0_addSource_1 0 rfl rfl)
theorem dX0_addSource_25 : decode cX0_addSource 25 = .ok (.iconst 2, 1) := dk_5 (dk_at dksX0_addSource_1 2 rfl rfl)
theorem dX0_addSource_26 : decode cX0_addSource 26 = .ok (.ireturn, 1) := dk_172 (dk_at dksX0_addSource_1 3 rfl rfl)
theorem dX0_addSource_27 : decode cX0_addSource 27 = .ok (.astore 7, 2) := dk_58 7 (dk_at dksX0_addSource_1 4 rfl rfl)
theorem dX0_addSource_29 : decode cX0_addSource 29 = .ok (.iconst 3, 1) := dk_6 (dk_at dksX0_addSource_1 6 rfl rfl)
theorem dX0_addSource_30 : decode cX0_addSource 30 = .ok (.ireturn, 1) := dk_172 (dk_at dksX0_addSource_1 7 rfl rfl)
theorem dX0_addSource_31 : decode cX0_addSource 31 = .ok (.iconst 0, 1) := dk_3 (dk_at dksX0_addSource_1 8 rfl rfl)
theorem dX0_addSource_32 : decode cX0_addSource 32 = .ok (.ireturn, 1) := dk_172 (dk_at dksX0_addSource_1 9 rfl rfl)
abbrev cX0_addValue : ByteArray := method_8_code
def yX0_addValue : MethodName := ⟨RX0, "addValue", "(LTrackArray;II[J)I"⟩
def dkwX0_addValue_1 : List UInt8 := [172, 3, 172]
abbrev dktX0_addValue_1 : List UInt8 := dkwX0_addValue_1 ++ []
def dkwX0_addValue_0 : List UInt8 := [45, 3, 42, 27, 28, 182, 0, 34, 133, 80, 167, 0, 15, 58, 4, 4, 172, 58, 4, 5, 172, 58, 4, 6]
abbrev dktX0_addValue_0 : List UInt8 := dkwX0_addValue_0 ++ dktX0_addValue_1
theorem dksX0_addValue_0 : cX0_addValue.data.toList.drop 0 = dktX0_addValue_0 := by decide +kernel
theorem dksX0_addValue_1 : cX0_addValue.data.toList.drop 24 = dktX0_addValue_1 := dk_seg dksX0_addValue_0 24 rfl rfl
theorem dX0_addValue_0 : decode cX0_addValue 0 = .ok (.aload_n 3, 1) := dk_45 (dk_at dksX0_addValue_0 0 rfl rfl)
theorem dX0_addValue_1 : decode cX0_addValue 1 = .ok (.iconst 0, 1) := dk_3 (dk_at dksX0_addValue_0 1 rfl rfl)
theorem dX0_addValue_2 : decode cX0_addValue 2 = .ok (.aload_n 0, 1) := dk_42 (dk_at dksX0_addValue_0 2 rfl rfl)
theorem dX0_addValue_3 : decode cX0_addValue 3 = .ok (.iload_n 1, 1) := dk_27 (dk_at dksX0_addValue_0 3 rfl rfl)
theorem dX0_addValue_4 : decode cX0_addValue 4 = .ok (.iload_n 2, 1) := dk_28 (dk_at dksX0_addValue_0 4 rfl rfl)
theorem dX0_addValue_5 : decode cX0_addValue 5 = .ok (.invokevirtual 34, 3) := dk_182 0 34 (dk_at dksX0_addValue_0 5 rfl rfl)
theorem dX0_addValue_8 : decode cX0_addValue 8 = .ok (.i2l, 1) := dk_133 (dk_at dksX0_addValue_0 8 rfl rfl)
theorem dX0_addValue_9 : decode cX0_addValue 9 = .ok (.lastore, 1) := dk_80 (dk_at dksX0_addValue_0 9 rfl rfl)
theorem dX0_addValue_10 : decode cX0_addValue 10 = .ok (.goto 15, 3) := dk_167 0 15 (dk_at dksX0_addValue_0 10 rfl rfl)
theorem dX0_addValue_13 : decode cX0_addValue 13 = .ok (.astore 4, 2) := dk_58 4 (dk_at dksX0_addValue_0 13 rfl rfl)
theorem dX0_addValue_15 : decode cX0_addValue 15 = .ok (.iconst 1, 1) := dk_4 (dk_at dksX0_addValue_0 15 rfl rfl)
theorem dX0_addValue_16 : decode cX0_addValue 16 = .ok (.ireturn, 1) := dk_172 (dk_at dksX0_addValue_0 16 rfl rfl)
theorem dX0_addValue_17 : decode cX0_addValue 17 = .ok (.astore 4, 2) := dk_58 4 (dk_at dksX0_addValue_0 17 rfl rfl)
theorem dX0_addValue_19 : decode cX0_addValue 19 = .ok (.iconst 2, 1) := dk_5 (dk_at dksX0_addValue_0 19 rfl rfl)
theorem dX0_addValue_20 : decode cX0_addValue 20 = .ok (.ireturn, 1) := dk_172 (dk_at dksX0_addValue_0 20 rfl rfl)
theorem dX0_addValue_21 : decode cX0_addValue 21 = .ok (.astore 4, 2) := dk_58 4 (dk_at dksX0_addValue_0 21 rfl rfl)
theorem dX0_addValue_23 : decode cX0_addValue 23 = .ok (.iconst 3, 1) := dk_6 (dk_at dksX0_addValue_0 23 rfl rfl)
theorem dX0_addValue_24 : decode cX0_addValue 24 = .ok (.ireturn, 1) := dk_172 (dk_at dksX0_addValue_1 0 rfl rfl)
theorem dX0_addValue_25 : decode cX0_addValue 25 = .ok (.iconst 0, 1) := dk_3 (dk_at dksX0_addValue_1 1 rfl rfl)
theorem dX0_addValue_26 : decode cX0_addValue 26 = .ok (.ireturn, 1) := dk_172 (dk_at dksX0_addValue_1 2 rfl rfl)
abbrev cX0_addMicrophone : ByteArray := method_9_code
def yX0_addMicrophone : MethodName := ⟨RX0, "addMicrophone", "(LTrackArray;IIII[J)I"⟩
def dkwX0_addMicrophone_1 : List UInt8 := [172, 3, 172]
abbrev dktX0_addMicrophone_1 : List UInt8 := dkwX0_addMicrophone_1 ++ []
def dkwX0_addMicrophone_0 : List UInt8 := [25, 5, 3, 42, 27, 28, 29, 21, 4, 182, 0, 38, 133, 80, 167, 0, 11, 58, 6, 4, 172, 58, 6, 5]
abbrev dktX0_addMicrophone_0 : List UInt8 := dkwX0_addMicrophone_0 ++ dktX0_addMicrophone_1
theorem dksX0_addMicrophone_0 : cX0_addMicrophone.data.toList.drop 0 = dktX0_addMicrophone_0 := by decide +kernel
theorem dksX0_addMicrophone_1 : cX0_addMicrophone.data.toList.drop 24 = dktX0_addMicrophone_1 := dk_seg dksX0_addMicrophone_0 24 rfl rfl
theorem dX0_addMicrophone_0 : decode cX0_addMicrophone 0 = .ok (.aload 5, 2) := dk_25 5 (dk_at dksX0_addMicrophone_0 0 rfl rfl)
theorem dX0_addMicrophone_2 : decode cX0_addMicrophone 2 = .ok (.iconst 0, 1) := dk_3 (dk_at dksX0_addMicrophone_0 2 rfl rfl)
theorem dX0_addMicrophone_3 : decode cX0_addMicrophone 3 = .ok (.aload_n 0, 1) := dk_42 (dk_at dksX0_addMicrophone_0 3 rfl rfl)
theorem dX0_addMicrophone_4 : decode cX0_addMicrophone 4 = .ok (.iload_n 1, 1) := dk_27 (dk_at dksX0_addMicrophone_0 4 rfl rfl)
theorem dX0_addMicrophone_5 : decode cX0_addMicrophone 5 = .ok (.iload_n 2, 1) := dk_28 (dk_at dksX0_addMicrophone_0 5 rfl rfl)
theorem dX0_addMicrophone_6 : decode cX0_addMicrophone 6 = .ok (.iload_n 3, 1) := dk_29 (dk_at dksX0_addMicrophone_0 6 rfl rfl)
theorem dX0_addMicrophone_7 : decode cX0_addMicrophone 7 = .ok (.iload 4, 2) := dk_21 4 (dk_at dksX0_addMicrophone_0 7 rfl rfl)
theorem dX0_addMicrophone_9 : decode cX0_addMicrophone 9 = .ok (.invokevirtual 38, 3) := dk_182 0 38 (dk_at dksX0_addMicrophone_0 9 rfl rfl)
theorem dX0_addMicrophone_12 : decode cX0_addMicrophone 12 = .ok (.i2l, 1) := dk_133 (dk_at dksX0_addMicrophone_0 12 rfl rfl)
theorem dX0_addMicrophone_13 : decode cX0_addMicrophone 13 = .ok (.lastore, 1) := dk_80 (dk_at dksX0_addMicrophone_0 13 rfl rfl)
theorem dX0_addMicrophone_14 : decode cX0_addMicrophone 14 = .ok (.goto 11, 3) := dk_167 0 11 (dk_at dksX0_addMicrophone_0 14 rfl rfl)
theorem dX0_addMicrophone_17 : decode cX0_addMicrophone 17 = .ok (.astore 6, 2) := dk_58 6 (dk_at dksX0_addMicrophone_0 17 rfl rfl)
theorem dX0_addMicrophone_19 : decode cX0_addMicrophone 19 = .ok (.iconst 1, 1) := dk_4 (dk_at dksX0_addMicrophone_0 19 rfl rfl)
theorem dX0_addMicrophone_20 : decode cX0_addMicrophone 20 = .ok (.ireturn, 1) := dk_172 (dk_at dksX0_addMicrophone_0 20 rfl rfl)
theorem dX0_addMicrophone_21 : decode cX0_addMicrophone 21 = .ok (.astore 6, 2) := dk_58 6 (dk_at dksX0_addMicrophone_0 21 rfl rfl)
theorem dX0_addMicrophone_23 : decode cX0_addMicrophone 23 = .ok (.iconst 2, 1) := dk_5 (dk_at dksX0_addMicrophone_0 23 rfl rfl)
theorem dX0_addMicrophone_24 : decode cX0_addMicrophone 24 = .ok (.ireturn, 1) := dk_172 (dk_at dksX0_addMicrophone_1 0 rfl rfl)
theorem dX0_addMicrophone_25 : decode cX0_addMicrophone 25 = .ok (.iconst 0, 1) := dk_3 (dk_at dksX0_addMicrophone_1 1 rfl rfl)
theorem dX0_addMicrophone_26 : decode cX0_addMicrophone 26 = .ok (.ireturn, 1) := dk_172 (dk_at dksX0_addMicrophone_1 2 rfl rfl)
abbrev cX0_setWeight : ByteArray := method_10_code
def yX0_setWeight : MethodName := ⟨RX0, "setWeight", "(LTrackArray;II[J)I"⟩
def dkwX0_setWeight_0 : List UInt8 := [45, 3, 42, 27, 28, 182, 0, 42, 133, 80, 167, 0, 11, 58, 4, 4, 172, 58, 4, 5, 172, 3, 172]
abbrev dktX0_setWeight_0 : List UInt8 := dkwX0_setWeight_0 ++ []
theorem dksX0_setWeight_0 : cX0_setWeight.data.toList.drop 0 = dktX0_setWeight_0 := by decide +kernel
theorem dX0_setWeight_0 : decode cX0_setWeight 0 = .ok (.aload_n 3, 1) := dk_45 (dk_at dksX0_setWeight_0 0 rfl rfl)
theorem dX0_setWeight_1 : decode cX0_setWeight 1 = .ok (.iconst 0, 1) := dk_3 (dk_at dksX0_setWeight_0 1 rfl rfl)
theorem dX0_setWeight_2 : decode cX0_setWeight 2 = .ok (.aload_n 0, 1) := dk_42 (dk_at dksX0_setWeight_0 2 rfl rfl)
theorem dX0_setWeight_3 : decode cX0_setWeight 3 = .ok (.iload_n 1, 1) := dk_27 (dk_at dksX0_setWeight_0 3 rfl rfl)
theorem dX0_setWeight_4 : decode cX0_setWeight 4 = .ok (.iload_n 2, 1) := dk_28 (dk_at dksX0_setWeight_0 4 rfl rfl)
theorem dX0_setWeight_5 : decode cX0_setWeight 5 = .ok (.invokevirtual 42, 3) := dk_182 0 42 (dk_at dksX0_setWeight_0 5 rfl rfl)
theorem dX0_setWeight_8 : decode cX0_setWeight 8 = .ok (.i2l, 1) := dk_133 (dk_at dksX0_setWeight_0 8 rfl rfl)
theorem dX0_setWeight_9 : decode cX0_setWeight 9 = .ok (.lastore, 1) := dk_80 (dk_at dksX0_setWeight_0 9 rfl rfl)
theorem dX0_setWeight_10 : decode cX0_setWeight 10 = .ok (.goto 11, 3) := dk_167 0 11 (dk_at dksX0_setWeight_0 10 rfl rfl)
theorem dX0_setWeight_13 : decode cX0_setWeight 13 = .ok (.astore 4, 2) := dk_58 4 (dk_at dksX0_setWeight_0 13 rfl rfl)
theorem dX0_setWeight_15 : decode cX0_setWeight 15 = .ok (.iconst 1, 1) := dk_4 (dk_at dksX0_setWeight_0 15 rfl rfl)
theorem dX0_setWeight_16 : decode cX0_setWeight 16 = .ok (.ireturn, 1) := dk_172 (dk_at dksX0_setWeight_0 16 rfl rfl)
theorem dX0_setWeight_17 : decode cX0_setWeight 17 = .ok (.astore 4, 2) := dk_58 4 (dk_at dksX0_setWeight_0 17 rfl rfl)
theorem dX0_setWeight_19 : decode cX0_setWeight 19 = .ok (.iconst 2, 1) := dk_5 (dk_at dksX0_setWeight_0 19 rfl rfl)
theorem dX0_setWeight_20 : decode cX0_setWeight 20 = .ok (.ireturn, 1) := dk_172 (dk_at dksX0_setWeight_0 20 rfl rfl)
theorem dX0_setWeight_21 : decode cX0_setWeight 21 = .ok (.iconst 0, 1) := dk_3 (dk_at dksX0_setWeight_0 21 rfl rfl)
theorem dX0_setWeight_22 : decode cX0_setWeight 22 = .ok (.ireturn, 1) := dk_172 (dk_at dksX0_setWeight_0 22 rfl rfl)
abbrev cX0_count : ByteArray := method_11_code
def yX0_count : MethodName := ⟨RX0, "count", "(LTrackArray;I[J)I"⟩
def dkwX0_count_0 : List UInt8 := [44, 3, 42, 27, 182, 0, 45, 133, 80, 167, 0, 6, 78, 4, 172, 3, 172]
abbrev dktX0_count_0 : List UInt8 := dkwX0_count_0 ++ []
theorem dksX0_count_0 : cX0_count.data.toList.drop 0 = dktX0_count_0 := by decide +kernel
theorem dX0_count_0 : decode cX0_count 0 = .ok (.aload_n 2, 1) := dk_44 (dk_at dksX0_count_0 0 rfl rfl)
theorem dX0_count_1 : decode cX0_count 1 = .ok (.iconst 0, 1) := dk_3 (dk_at dksX0_count_0 1 rfl rfl)
theorem dX0_count_2 : decode cX0_count 2 = .ok (.aload_n 0, 1) := dk_42 (dk_at dksX0_count_0 2 rfl rfl)
theorem dX0_count_3 : decode cX0_count 3 = .ok (.iload_n 1, 1) := dk_27 (dk_at dksX0_count_0 3 rfl rfl)
theorem dX0_count_4 : decode cX0_count 4 = .ok (.invokevirtual 45, 3) := dk_182 0 45 (dk_at dksX0_count_0 4 rfl rfl)
theorem dX0_count_7 : decode cX0_count 7 = .ok (.i2l, 1) := dk_133 (dk_at dksX0_count_0 7 rfl rfl)
theorem dX0_count_8 : decode cX0_count 8 = .ok (.lastore, 1) := dk_80 (dk_at dksX0_count_0 8 rfl rfl)
theorem dX0_count_9 : decode cX0_count 9 = .ok (.goto 6, 3) := dk_167 0 6 (dk_at dksX0_count_0 9 rfl rfl)
theorem dX0_count_12 : decode cX0_count 12 = .ok (.astore_n 3, 1) := dk_78 (dk_at dksX0_count_0 12 rfl rfl)
theorem dX0_count_13 : decode cX0_count 13 = .ok (.iconst 1, 1) := dk_4 (dk_at dksX0_count_0 13 rfl rfl)
theorem dX0_count_14 : decode cX0_count 14 = .ok (.ireturn, 1) := dk_172 (dk_at dksX0_count_0 14 rfl rfl)
theorem dX0_count_15 : decode cX0_count 15 = .ok (.iconst 0, 1) := dk_3 (dk_at dksX0_count_0 15 rfl rfl)
theorem dX0_count_16 : decode cX0_count 16 = .ok (.ireturn, 1) := dk_172 (dk_at dksX0_count_0 16 rfl rfl)
abbrev cX0_emitted : ByteArray := method_12_code
def yX0_emitted : MethodName := ⟨RX0, "emitted", "(LTrackArray;II[J)I"⟩
def dkwX0_emitted_0 : List UInt8 := [45, 3, 42, 27, 28, 182, 0, 48, 133, 80, 167, 0, 11, 58, 4, 4, 172, 58, 4, 5, 172, 3, 172]
abbrev dktX0_emitted_0 : List UInt8 := dkwX0_emitted_0 ++ []
theorem dksX0_emitted_0 : cX0_emitted.data.toList.drop 0 = dktX0_emitted_0 := by decide +kernel
theorem dX0_emitted_0 : decode cX0_emitted 0 = .ok (.aload_n 3, 1) := dk_45 (dk_at dksX0_emitted_0 0 rfl rfl)
theorem dX0_emitted_1 : decode cX0_emitted 1 = .ok (.iconst 0, 1) := dk_3 (dk_at dksX0_emitted_0 1 rfl rfl)
theorem dX0_emitted_2 : decode cX0_emitted 2 = .ok (.aload_n 0, 1) := dk_42 (dk_at dksX0_emitted_0 2 rfl rfl)
theorem dX0_emitted_3 : decode cX0_emitted 3 = .ok (.iload_n 1, 1) := dk_27 (dk_at dksX0_emitted_0 3 rfl rfl)
theorem dX0_emitted_4 : decode cX0_emitted 4 = .ok (.iload_n 2, 1) := dk_28 (dk_at dksX0_emitted_0 4 rfl rfl)
theorem dX0_emitted_5 : decode cX0_emitted 5 = .ok (.invokevirtual 48, 3) := dk_182 0 48 (dk_at dksX0_emitted_0 5 rfl rfl)
theorem dX0_emitted_8 : decode cX0_emitted 8 = .ok (.i2l, 1) := dk_133 (dk_at dksX0_emitted_0 8 rfl rfl)
theorem dX0_emitted_9 : decode cX0_emitted 9 = .ok (.lastore, 1) := dk_80 (dk_at dksX0_emitted_0 9 rfl rfl)
theorem dX0_emitted_10 : decode cX0_emitted 10 = .ok (.goto 11, 3) := dk_167 0 11 (dk_at dksX0_emitted_0 10 rfl rfl)
theorem dX0_emitted_13 : decode cX0_emitted 13 = .ok (.astore 4, 2) := dk_58 4 (dk_at dksX0_emitted_0 13 rfl rfl)
theorem dX0_emitted_15 : decode cX0_emitted 15 = .ok (.iconst 1, 1) := dk_4 (dk_at dksX0_emitted_0 15 rfl rfl)
theorem dX0_emitted_16 : decode cX0_emitted 16 = .ok (.ireturn, 1) := dk_172 (dk_at dksX0_emitted_0 16 rfl rfl)
theorem dX0_emitted_17 : decode cX0_emitted 17 = .ok (.astore 4, 2) := dk_58 4 (dk_at dksX0_emitted_0 17 rfl rfl)
theorem dX0_emitted_19 : decode cX0_emitted 19 = .ok (.iconst 2, 1) := dk_5 (dk_at dksX0_emitted_0 19 rfl rfl)
theorem dX0_emitted_20 : decode cX0_emitted 20 = .ok (.ireturn, 1) := dk_172 (dk_at dksX0_emitted_0 20 rfl rfl)
theorem dX0_emitted_21 : decode cX0_emitted 21 = .ok (.iconst 0, 1) := dk_3 (dk_at dksX0_emitted_0 21 rfl rfl)
theorem dX0_emitted_22 : decode cX0_emitted 22 = .ok (.ireturn, 1) := dk_172 (dk_at dksX0_emitted_0 22 rfl rfl)
abbrev cX0_distance : ByteArray := method_13_code
def yX0_distance : MethodName := ⟨RX0, "distance", "(LTrackArray;IIIZ[J)I"⟩
def dkwX0_distance_1 : List UInt8 := [172, 3, 172]
abbrev dktX0_distance_1 : List UInt8 := dkwX0_distance_1 ++ []
def dkwX0_distance_0 : List UInt8 := [25, 5, 3, 42, 27, 28, 29, 21, 4, 182, 0, 51, 133, 80, 167, 0, 11, 58, 6, 4, 172, 58, 6, 5]
abbrev dktX0_distance_0 : List UInt8 := dkwX0_distance_0 ++ dktX0_distance_1
theorem dksX0_distance_0 : cX0_distance.data.toList.drop 0 = dktX0_distance_0 := by decide +kernel
theorem dksX0_distance_1 : cX0_distance.data.toList.drop 24 = dktX0_distance_1 := dk_seg dksX0_distance_0 24 rfl rfl
theorem dX0_distance_0 : decode cX0_distance 0 = .ok (.aload 5, 2) := dk_25 5 (dk_at dksX0_distance_0 0 rfl rfl)
theorem dX0_distance_2 : decode cX0_distance 2 = .ok (.iconst 0, 1) := dk_3 (dk_at dksX0_distance_0 2 rfl rfl)
theorem dX0_distance_3 : decode cX0_distance 3 = .ok (.aload_n 0, 1) := dk_42 (dk_at dksX0_distance_0 3 rfl rfl)
theorem dX0_distance_4 : decode cX0_distance 4 = .ok (.iload_n 1, 1) := dk_27 (dk_at dksX0_distance_0 4 rfl rfl)
theorem dX0_distance_5 : decode cX0_distance 5 = .ok (.iload_n 2, 1) := dk_28 (dk_at dksX0_distance_0 5 rfl rfl)
theorem dX0_distance_6 : decode cX0_distance 6 = .ok (.iload_n 3, 1) := dk_29 (dk_at dksX0_distance_0 6 rfl rfl)
theorem dX0_distance_7 : decode cX0_distance 7 = .ok (.iload 4, 2) := dk_21 4 (dk_at dksX0_distance_0 7 rfl rfl)
theorem dX0_distance_9 : decode cX0_distance 9 = .ok (.invokevirtual 51, 3) := dk_182 0 51 (dk_at dksX0_distance_0 9 rfl rfl)
theorem dX0_distance_12 : decode cX0_distance 12 = .ok (.i2l, 1) := dk_133 (dk_at dksX0_distance_0 12 rfl rfl)
theorem dX0_distance_13 : decode cX0_distance 13 = .ok (.lastore, 1) := dk_80 (dk_at dksX0_distance_0 13 rfl rfl)
theorem dX0_distance_14 : decode cX0_distance 14 = .ok (.goto 11, 3) := dk_167 0 11 (dk_at dksX0_distance_0 14 rfl rfl)
theorem dX0_distance_17 : decode cX0_distance 17 = .ok (.astore 6, 2) := dk_58 6 (dk_at dksX0_distance_0 17 rfl rfl)
theorem dX0_distance_19 : decode cX0_distance 19 = .ok (.iconst 1, 1) := dk_4 (dk_at dksX0_distance_0 19 rfl rfl)
theorem dX0_distance_20 : decode cX0_distance 20 = .ok (.ireturn, 1) := dk_172 (dk_at dksX0_distance_0 20 rfl rfl)
theorem dX0_distance_21 : decode cX0_distance 21 = .ok (.astore 6, 2) := dk_58 6 (dk_at dksX0_distance_0 21 rfl rfl)
theorem dX0_distance_23 : decode cX0_distance 23 = .ok (.iconst 2, 1) := dk_5 (dk_at dksX0_distance_0 23 rfl rfl)
theorem dX0_distance_24 : decode cX0_distance 24 = .ok (.ireturn, 1) := dk_172 (dk_at dksX0_distance_1 0 rfl rfl)
theorem dX0_distance_25 : decode cX0_distance 25 = .ok (.iconst 0, 1) := dk_3 (dk_at dksX0_distance_1 1 rfl rfl)
theorem dX0_distance_26 : decode cX0_distance 26 = .ok (.ireturn, 1) := dk_172 (dk_at dksX0_distance_1 2 rfl rfl)
abbrev cX0_emissionTime : ByteArray := method_14_code
def yX0_emissionTime : MethodName := ⟨RX0, "emissionTime", "(LTrackArray;IIIZ[J)I"⟩
def dkwX0_emissionTime_1 : List UInt8 := [172, 3, 172]
abbrev dktX0_emissionTime_1 : List UInt8 := dkwX0_emissionTime_1 ++ []
def dkwX0_emissionTime_0 : List UInt8 := [25, 5, 3, 42, 27, 28, 29, 21, 4, 182, 0, 55, 133, 80, 167, 0, 11, 58, 6, 4, 172, 58, 6, 5]
abbrev dktX0_emissionTime_0 : List UInt8 := dkwX0_emissionTime_0 ++ dktX0_emissionTime_1
theorem dksX0_emissionTime_0 : cX0_emissionTime.data.toList.drop 0 = dktX0_emissionTime_0 := by decide +kernel
theorem dksX0_emissionTime_1 : cX0_emissionTime.data.toList.drop 24 = dktX0_emissionTime_1 := dk_seg dksX0_emissionTime_0 24 rfl rfl
theorem dX0_emissionTime_0 : decode cX0_emissionTime 0 = .ok (.aload 5, 2) := dk_25 5 (dk_at dksX0_emissionTime_0 0 rfl rfl)
theorem dX0_emissionTime_2 : decode cX0_emissionTime 2 = .ok (.iconst 0, 1) := dk_3 (dk_at dksX0_emissionTime_0 2 rfl rfl)
theorem dX0_emissionTime_3 : decode cX0_emissionTime 3 = .ok (.aload_n 0, 1) := dk_42 (dk_at dksX0_emissionTime_0 3 rfl rfl)
theorem dX0_emissionTime_4 : decode cX0_emissionTime 4 = .ok (.iload_n 1, 1) := dk_27 (dk_at dksX0_emissionTime_0 4 rfl rfl)
theorem dX0_emissionTime_5 : decode cX0_emissionTime 5 = .ok (.iload_n 2, 1) := dk_28 (dk_at dksX0_emissionTime_0 5 rfl rfl)
theorem dX0_emissionTime_6 : decode cX0_emissionTime 6 = .ok (.iload_n 3, 1) := dk_29 (dk_at dksX0_emissionTime_0 6 rfl rfl)
theorem dX0_emissionTime_7 : decode cX0_emissionTime 7 = .ok (.iload 4, 2) := dk_21 4 (dk_at dksX0_emissionTime_0 7 rfl rfl)
theorem dX0_emissionTime_9 : decode cX0_emissionTime 9 = .ok (.invokevirtual 55, 3) := dk_182 0 55 (dk_at dksX0_emissionTime_0 9 rfl rfl)
theorem dX0_emissionTime_12 : decode cX0_emissionTime 12 = .ok (.i2l, 1) := dk_133 (dk_at dksX0_emissionTime_0 12 rfl rfl)
theorem dX0_emissionTime_13 : decode cX0_emissionTime 13 = .ok (.lastore, 1) := dk_80 (dk_at dksX0_emissionTime_0 13 rfl rfl)
theorem dX0_emissionTime_14 : decode cX0_emissionTime 14 = .ok (.goto 11, 3) := dk_167 0 11 (dk_at dksX0_emissionTime_0 14 rfl rfl)
theorem dX0_emissionTime_17 : decode cX0_emissionTime 17 = .ok (.astore 6, 2) := dk_58 6 (dk_at dksX0_emissionTime_0 17 rfl rfl)
theorem dX0_emissionTime_19 : decode cX0_emissionTime 19 = .ok (.iconst 1, 1) := dk_4 (dk_at dksX0_emissionTime_0 19 rfl rfl)
theorem dX0_emissionTime_20 : decode cX0_emissionTime 20 = .ok (.ireturn, 1) := dk_172 (dk_at dksX0_emissionTime_0 20 rfl rfl)
theorem dX0_emissionTime_21 : decode cX0_emissionTime 21 = .ok (.astore 6, 2) := dk_58 6 (dk_at dksX0_emissionTime_0 21 rfl rfl)
theorem dX0_emissionTime_23 : decode cX0_emissionTime 23 = .ok (.iconst 2, 1) := dk_5 (dk_at dksX0_emissionTime_0 23 rfl rfl)
theorem dX0_emissionTime_24 : decode cX0_emissionTime 24 = .ok (.ireturn, 1) := dk_172 (dk_at dksX0_emissionTime_1 0 rfl rfl)
theorem dX0_emissionTime_25 : decode cX0_emissionTime 25 = .ok (.iconst 0, 1) := dk_3 (dk_at dksX0_emissionTime_1 1 rfl rfl)
theorem dX0_emissionTime_26 : decode cX0_emissionTime 26 = .ok (.ireturn, 1) := dk_172 (dk_at dksX0_emissionTime_1 2 rfl rfl)
abbrev cX0_passTime : ByteArray := method_15_code
def yX0_passTime : MethodName := ⟨RX0, "passTime", "(LTrackArray;II[J)I"⟩
def dkwX0_passTime_0 : List UInt8 := [45, 3, 42, 27, 28, 182, 0, 58, 133, 80, 167, 0, 7, 58, 4, 4, 172, 3, 172]
abbrev dktX0_passTime_0 : List UInt8 := dkwX0_passTime_0 ++ []
theorem dksX0_passTime_0 : cX0_passTime.data.toList.drop 0 = dktX0_passTime_0 := by decide +kernel
theorem dX0_passTime_0 : decode cX0_passTime 0 = .ok (.aload_n 3, 1) := dk_45 (dk_at dksX0_passTime_0 0 rfl rfl)
theorem dX0_passTime_1 : decode cX0_passTime 1 = .ok (.iconst 0, 1) := dk_3 (dk_at dksX0_passTime_0 1 rfl rfl)
theorem dX0_passTime_2 : decode cX0_passTime 2 = .ok (.aload_n 0, 1) := dk_42 (dk_at dksX0_passTime_0 2 rfl rfl)
theorem dX0_passTime_3 : decode cX0_passTime 3 = .ok (.iload_n 1, 1) := dk_27 (dk_at dksX0_passTime_0 3 rfl rfl)
theorem dX0_passTime_4 : decode cX0_passTime 4 = .ok (.iload_n 2, 1) := dk_28 (dk_at dksX0_passTime_0 4 rfl rfl)
theorem dX0_passTime_5 : decode cX0_passTime 5 = .ok (.invokevirtual 58, 3) := dk_182 0 58 (dk_at dksX0_passTime_0 5 rfl rfl)
theorem dX0_passTime_8 : decode cX0_passTime 8 = .ok (.i2l, 1) := dk_133 (dk_at dksX0_passTime_0 8 rfl rfl)
theorem dX0_passTime_9 : decode cX0_passTime 9 = .ok (.lastore, 1) := dk_80 (dk_at dksX0_passTime_0 9 rfl rfl)
theorem dX0_passTime_10 : decode cX0_passTime 10 = .ok (.goto 7, 3) := dk_167 0 7 (dk_at dksX0_passTime_0 10 rfl rfl)
theorem dX0_passTime_13 : decode cX0_passTime 13 = .ok (.astore 4, 2) := dk_58 4 (dk_at dksX0_passTime_0 13 rfl rfl)
theorem dX0_passTime_15 : decode cX0_passTime 15 = .ok (.iconst 1, 1) := dk_4 (dk_at dksX0_passTime_0 15 rfl rfl)
theorem dX0_passTime_16 : decode cX0_passTime 16 = .ok (.ireturn, 1) := dk_172 (dk_at dksX0_passTime_0 16 rfl rfl)
theorem dX0_passTime_17 : decode cX0_passTime 17 = .ok (.iconst 0, 1) := dk_3 (dk_at dksX0_passTime_0 17 rfl rfl)
theorem dX0_passTime_18 : decode cX0_passTime 18 = .ok (.ireturn, 1) := dk_172 (dk_at dksX0_passTime_0 18 rfl rfl)
abbrev cX0_sample : ByteArray := method_16_code
def yX0_sample : MethodName := ⟨RX0, "sample", "(LTrackArray;II[J)I"⟩
def dkwX0_sample_0 : List UInt8 := [45, 3, 42, 27, 28, 182, 0, 61, 133, 80, 167, 0, 11, 58, 4, 4, 172, 58, 4, 5, 172, 3, 172]
abbrev dktX0_sample_0 : List UInt8 := dkwX0_sample_0 ++ []
theorem dksX0_sample_0 : cX0_sample.data.toList.drop 0 = dktX0_sample_0 := by decide +kernel
theorem dX0_sample_0 : decode cX0_sample 0 = .ok (.aload_n 3, 1) := dk_45 (dk_at dksX0_sample_0 0 rfl rfl)
theorem dX0_sample_1 : decode cX0_sample 1 = .ok (.iconst 0, 1) := dk_3 (dk_at dksX0_sample_0 1 rfl rfl)
theorem dX0_sample_2 : decode cX0_sample 2 = .ok (.aload_n 0, 1) := dk_42 (dk_at dksX0_sample_0 2 rfl rfl)
theorem dX0_sample_3 : decode cX0_sample 3 = .ok (.iload_n 1, 1) := dk_27 (dk_at dksX0_sample_0 3 rfl rfl)
theorem dX0_sample_4 : decode cX0_sample 4 = .ok (.iload_n 2, 1) := dk_28 (dk_at dksX0_sample_0 4 rfl rfl)
theorem dX0_sample_5 : decode cX0_sample 5 = .ok (.invokevirtual 61, 3) := dk_182 0 61 (dk_at dksX0_sample_0 5 rfl rfl)
theorem dX0_sample_8 : decode cX0_sample 8 = .ok (.i2l, 1) := dk_133 (dk_at dksX0_sample_0 8 rfl rfl)
theorem dX0_sample_9 : decode cX0_sample 9 = .ok (.lastore, 1) := dk_80 (dk_at dksX0_sample_0 9 rfl rfl)
theorem dX0_sample_10 : decode cX0_sample 10 = .ok (.goto 11, 3) := dk_167 0 11 (dk_at dksX0_sample_0 10 rfl rfl)
theorem dX0_sample_13 : decode cX0_sample 13 = .ok (.astore 4, 2) := dk_58 4 (dk_at dksX0_sample_0 13 rfl rfl)
theorem dX0_sample_15 : decode cX0_sample 15 = .ok (.iconst 1, 1) := dk_4 (dk_at dksX0_sample_0 15 rfl rfl)
theorem dX0_sample_16 : decode cX0_sample 16 = .ok (.ireturn, 1) := dk_172 (dk_at dksX0_sample_0 16 rfl rfl)
theorem dX0_sample_17 : decode cX0_sample 17 = .ok (.astore 4, 2) := dk_58 4 (dk_at dksX0_sample_0 17 rfl rfl)
theorem dX0_sample_19 : decode cX0_sample 19 = .ok (.iconst 2, 1) := dk_5 (dk_at dksX0_sample_0 19 rfl rfl)
theorem dX0_sample_20 : decode cX0_sample 20 = .ok (.ireturn, 1) := dk_172 (dk_at dksX0_sample_0 20 rfl rfl)
theorem dX0_sample_21 : decode cX0_sample 21 = .ok (.iconst 0, 1) := dk_3 (dk_at dksX0_sample_0 21 rfl rfl)
theorem dX0_sample_22 : decode cX0_sample 22 = .ok (.ireturn, 1) := dk_172 (dk_at dksX0_sample_0 22 rfl rfl)
abbrev cX0_measureRecord : ByteArray := method_17_code
def yX0_measureRecord : MethodName := ⟨RX0, "measureRecord", "(LTrackArray;IIII[J)I"⟩
def dkwX0_measureRecord_1 : List UInt8 := [3, 172]
abbrev dktX0_measureRecord_1 : List UInt8 := dkwX0_measureRecord_1 ++ []
def dkwX0_measureRecord_0 : List UInt8 := [25, 5, 3, 42, 27, 28, 29, 21, 4, 182, 0, 64, 80, 167, 0, 11, 58, 6, 4, 172, 58, 6, 5, 172]
abbrev dktX0_measureRecord_0 : List UInt8 := dkwX0_measureRecord_0 ++ dktX0_measureRecord_1
theorem dksX0_measureRecord_0 : cX0_measureRecord.data.toList.drop 0 = dktX0_measureRecord_0 := by decide +kernel
theorem dksX0_measureRecord_1 : cX0_measureRecord.data.toList.drop 24 = dktX0_measureRecord_1 := dk_seg dksX0_measureRecord_0 24 rfl rfl
theorem dX0_measureRecord_0 : decode cX0_measureRecord 0 = .ok (.aload 5, 2) := dk_25 5 (dk_at dksX0_measureRecord_0 0 rfl rfl)
theorem dX0_measureRecord_2 : decode cX0_measureRecord 2 = .ok (.iconst 0, 1) := dk_3 (dk_at dksX0_measureRecord_0 2 rfl rfl)
theorem dX0_measureRecord_3 : decode cX0_measureRecord 3 = .ok (.aload_n 0, 1) := dk_42 (dk_at dksX0_measureRecord_0 3 rfl rfl)
theorem dX0_measureRecord_4 : decode cX0_measureRecord 4 = .ok (.iload_n 1, 1) := dk_27 (dk_at dksX0_measureRecord_0 4 rfl rfl)
theorem dX0_measureRecord_5 : decode cX0_measureRecord 5 = .ok (.iload_n 2, 1) := dk_28 (dk_at dksX0_measureRecord_0 5 rfl rfl)
theorem dX0_measureRecord_6 : decode cX0_measureRecord 6 = .ok (.iload_n 3, 1) := dk_29 (dk_at dksX0_measureRecord_0 6 rfl rfl)
theorem dX0_measureRecord_7 : decode cX0_measureRecord 7 = .ok (.iload 4, 2) := dk_21 4 (dk_at dksX0_measureRecord_0 7 rfl rfl)
theorem dX0_measureRecord_9 : decode cX0_measureRecord 9 = .ok (.invokevirtual 64, 3) := dk_182 0 64 (dk_at dksX0_measureRecord_0 9 rfl rfl)
theorem dX0_measureRecord_12 : decode cX0_measureRecord 12 = .ok (.lastore, 1) := dk_80 (dk_at dksX0_measureRecord_0 12 rfl rfl)
theorem dX0_measureRecord_13 : decode cX0_measureRecord 13 = .ok (.goto 11, 3) := dk_167 0 11 (dk_at dksX0_measureRecord_0 13 rfl rfl)
theorem dX0_measureRecord_16 : decode cX0_measureRecord 16 = .ok (.astore 6, 2) := dk_58 6 (dk_at dksX0_measureRecord_0 16 rfl rfl)
theorem dX0_measureRecord_18 : decode cX0_measureRecord 18 = .ok (.iconst 1, 1) := dk_4 (dk_at dksX0_measureRecord_0 18 rfl rfl)
theorem dX0_measureRecord_19 : decode cX0_measureRecord 19 = .ok (.ireturn, 1) := dk_172 (dk_at dksX0_measureRecord_0 19 rfl rfl)
theorem dX0_measureRecord_20 : decode cX0_measureRecord 20 = .ok (.astore 6, 2) := dk_58 6 (dk_at dksX0_measureRecord_0 20 rfl rfl)
theorem dX0_measureRecord_22 : decode cX0_measureRecord 22 = .ok (.iconst 2, 1) := dk_5 (dk_at dksX0_measureRecord_0 22 rfl rfl)
theorem dX0_measureRecord_23 : decode cX0_measureRecord 23 = .ok (.ireturn, 1) := dk_172 (dk_at dksX0_measureRecord_0 23 rfl rfl)
theorem dX0_measureRecord_24 : decode cX0_measureRecord 24 = .ok (.iconst 0, 1) := dk_3 (dk_at dksX0_measureRecord_1 0 rfl rfl)
theorem dX0_measureRecord_25 : decode cX0_measureRecord 25 = .ok (.ireturn, 1) := dk_172 (dk_at dksX0_measureRecord_1 1 rfl rfl)
abbrev cX0_loudestMicrophone : ByteArray := method_18_code
def yX0_loudestMicrophone : MethodName := ⟨RX0, "loudestMicrophone", "(LTrackArray;II[J)I"⟩
def dkwX0_loudestMicrophone_0 : List UInt8 := [45, 3, 42, 27, 28, 182, 0, 68, 133, 80, 167, 0, 7, 58, 4, 4, 172, 3, 172]
abbrev dktX0_loudestMicrophone_0 : List UInt8 := dkwX0_loudestMicrophone_0 ++ []
theorem dksX0_loudestMicrophone_0 : cX0_loudestMicrophone.data.toList.drop 0 = dktX0_loudestMicrophone_0 := by decide +kernel
theorem dX0_loudestMicrophone_0 : decode cX0_loudestMicrophone 0 = .ok (.aload_n 3, 1) := dk_45 (dk_at dksX0_loudestMicrophone_0 0 rfl rfl)
theorem dX0_loudestMicrophone_1 : decode cX0_loudestMicrophone 1 = .ok (.iconst 0, 1) := dk_3 (dk_at dksX0_loudestMicrophone_0 1 rfl rfl)
theorem dX0_loudestMicrophone_2 : decode cX0_loudestMicrophone 2 = .ok (.aload_n 0, 1) := dk_42 (dk_at dksX0_loudestMicrophone_0 2 rfl rfl)
theorem dX0_loudestMicrophone_3 : decode cX0_loudestMicrophone 3 = .ok (.iload_n 1, 1) := dk_27 (dk_at dksX0_loudestMicrophone_0 3 rfl rfl)
theorem dX0_loudestMicrophone_4 : decode cX0_loudestMicrophone 4 = .ok (.iload_n 2, 1) := dk_28 (dk_at dksX0_loudestMicrophone_0 4 rfl rfl)
theorem dX0_loudestMicrophone_5 : decode cX0_loudestMicrophone 5 = .ok (.invokevirtual 68, 3) := dk_182 0 68 (dk_at dksX0_loudestMicrophone_0 5 rfl rfl)
theorem dX0_loudestMicrophone_8 : decode cX0_loudestMicrophone 8 = .ok (.i2l, 1) := dk_133 (dk_at dksX0_loudestMicrophone_0 8 rfl rfl)
theorem dX0_loudestMicrophone_9 : decode cX0_loudestMicrophone 9 = .ok (.lastore, 1) := dk_80 (dk_at dksX0_loudestMicrophone_0 9 rfl rfl)
theorem dX0_loudestMicrophone_10 : decode cX0_loudestMicrophone 10 = .ok (.goto 7, 3) := dk_167 0 7 (dk_at dksX0_loudestMicrophone_0 10 rfl rfl)
theorem dX0_loudestMicrophone_13 : decode cX0_loudestMicrophone 13 = .ok (.astore 4, 2) := dk_58 4 (dk_at dksX0_loudestMicrophone_0 13 rfl rfl)
theorem dX0_loudestMicrophone_15 : decode cX0_loudestMicrophone 15 = .ok (.iconst 1, 1) := dk_4 (dk_at dksX0_loudestMicrophone_0 15 rfl rfl)
theorem dX0_loudestMicrophone_16 : decode cX0_loudestMicrophone 16 = .ok (.ireturn, 1) := dk_172 (dk_at dksX0_loudestMicrophone_0 16 rfl rfl)
theorem dX0_loudestMicrophone_17 : decode cX0_loudestMicrophone 17 = .ok (.iconst 0, 1) := dk_3 (dk_at dksX0_loudestMicrophone_0 17 rfl rfl)
theorem dX0_loudestMicrophone_18 : decode cX0_loudestMicrophone 18 = .ok (.ireturn, 1) := dk_172 (dk_at dksX0_loudestMicrophone_0 18 rfl rfl)
abbrev cX0_loudestWindow : ByteArray := method_19_code
def yX0_loudestWindow : MethodName := ⟨RX0, "loudestWindow", "(LTrackArray;II[J)I"⟩
def dkwX0_loudestWindow_0 : List UInt8 := [45, 3, 42, 27, 28, 182, 0, 71, 133, 80, 167, 0, 11, 58, 4, 4, 172, 58, 4, 5, 172, 3, 172]
abbrev dktX0_loudestWindow_0 : List UInt8 := dkwX0_loudestWindow_0 ++ []
theorem dksX0_loudestWindow_0 : cX0_loudestWindow.data.toList.drop 0 = dktX0_loudestWindow_0 := by decide +kernel
theorem dX0_loudestWindow_0 : decode cX0_loudestWindow 0 = .ok (.aload_n 3, 1) := dk_45 (dk_at dksX0_loudestWindow_0 0 rfl rfl)
theorem dX0_loudestWindow_1 : decode cX0_loudestWindow 1 = .ok (.iconst 0, 1) := dk_3 (dk_at dksX0_loudestWindow_0 1 rfl rfl)
theorem dX0_loudestWindow_2 : decode cX0_loudestWindow 2 = .ok (.aload_n 0, 1) := dk_42 (dk_at dksX0_loudestWindow_0 2 rfl rfl)
theorem dX0_loudestWindow_3 : decode cX0_loudestWindow 3 = .ok (.iload_n 1, 1) := dk_27 (dk_at dksX0_loudestWindow_0 3 rfl rfl)
theorem dX0_loudestWindow_4 : decode cX0_loudestWindow 4 = .ok (.iload_n 2, 1) := dk_28 (dk_at dksX0_loudestWindow_0 4 rfl rfl)
theorem dX0_loudestWindow_5 : decode cX0_loudestWindow 5 = .ok (.invokevirtual 71, 3) := dk_182 0 71 (dk_at dksX0_loudestWindow_0 5 rfl rfl)
theorem dX0_loudestWindow_8 : decode cX0_loudestWindow 8 = .ok (.i2l, 1) := dk_133 (dk_at dksX0_loudestWindow_0 8 rfl rfl)
theorem dX0_loudestWindow_9 : decode cX0_loudestWindow 9 = .ok (.lastore, 1) := dk_80 (dk_at dksX0_loudestWindow_0 9 rfl rfl)
theorem dX0_loudestWindow_10 : decode cX0_loudestWindow 10 = .ok (.goto 11, 3) := dk_167 0 11 (dk_at dksX0_loudestWindow_0 10 rfl rfl)
theorem dX0_loudestWindow_13 : decode cX0_loudestWindow 13 = .ok (.astore 4, 2) := dk_58 4 (dk_at dksX0_loudestWindow_0 13 rfl rfl)
theorem dX0_loudestWindow_15 : decode cX0_loudestWindow 15 = .ok (.iconst 1, 1) := dk_4 (dk_at dksX0_loudestWindow_0 15 rfl rfl)
theorem dX0_loudestWindow_16 : decode cX0_loudestWindow 16 = .ok (.ireturn, 1) := dk_172 (dk_at dksX0_loudestWindow_0 16 rfl rfl)
theorem dX0_loudestWindow_17 : decode cX0_loudestWindow 17 = .ok (.astore 4, 2) := dk_58 4 (dk_at dksX0_loudestWindow_0 17 rfl rfl)
theorem dX0_loudestWindow_19 : decode cX0_loudestWindow 19 = .ok (.iconst 2, 1) := dk_5 (dk_at dksX0_loudestWindow_0 19 rfl rfl)
theorem dX0_loudestWindow_20 : decode cX0_loudestWindow 20 = .ok (.ireturn, 1) := dk_172 (dk_at dksX0_loudestWindow_0 20 rfl rfl)
theorem dX0_loudestWindow_21 : decode cX0_loudestWindow 21 = .ok (.iconst 0, 1) := dk_3 (dk_at dksX0_loudestWindow_0 21 rfl rfl)
theorem dX0_loudestWindow_22 : decode cX0_loudestWindow 22 = .ok (.ireturn, 1) := dk_172 (dk_at dksX0_loudestWindow_0 22 rfl rfl)
abbrev cX0_correlation : ByteArray := method_20_code
def yX0_correlation : MethodName := ⟨RX0, "correlation", "(LTrackArray;III[J)I"⟩
def dkwX0_correlation_0 : List UInt8 := [25, 4, 3, 42, 27, 28, 29, 182, 0, 74, 80, 167, 0, 11, 58, 5, 4, 172, 58, 5, 5, 172, 3, 172]
abbrev dktX0_correlation_0 : List UInt8 := dkwX0_correlation_0 ++ []
theorem dksX0_correlation_0 : cX0_correlation.data.toList.drop 0 = dktX0_correlation_0 := by decide +kernel
theorem dX0_correlation_0 : decode cX0_correlation 0 = .ok (.aload 4, 2) := dk_25 4 (dk_at dksX0_correlation_0 0 rfl rfl)
theorem dX0_correlation_2 : decode cX0_correlation 2 = .ok (.iconst 0, 1) := dk_3 (dk_at dksX0_correlation_0 2 rfl rfl)
theorem dX0_correlation_3 : decode cX0_correlation 3 = .ok (.aload_n 0, 1) := dk_42 (dk_at dksX0_correlation_0 3 rfl rfl)
theorem dX0_correlation_4 : decode cX0_correlation 4 = .ok (.iload_n 1, 1) := dk_27 (dk_at dksX0_correlation_0 4 rfl rfl)
theorem dX0_correlation_5 : decode cX0_correlation 5 = .ok (.iload_n 2, 1) := dk_28 (dk_at dksX0_correlation_0 5 rfl rfl)
theorem dX0_correlation_6 : decode cX0_correlation 6 = .ok (.iload_n 3, 1) := dk_29 (dk_at dksX0_correlation_0 6 rfl rfl)
theorem dX0_correlation_7 : decode cX0_correlation 7 = .ok (.invokevirtual 74, 3) := dk_182 0 74 (dk_at dksX0_correlation_0 7 rfl rfl)
theorem dX0_correlation_10 : decode cX0_correlation 10 = .ok (.lastore, 1) := dk_80 (dk_at dksX0_correlation_0 10 rfl rfl)
theorem dX0_correlation_11 : decode cX0_correlation 11 = .ok (.goto 11, 3) := dk_167 0 11 (dk_at dksX0_correlation_0 11 rfl rfl)
theorem dX0_correlation_14 : decode cX0_correlation 14 = .ok (.astore 5, 2) := dk_58 5 (dk_at dksX0_correlation_0 14 rfl rfl)
theorem dX0_correlation_16 : decode cX0_correlation 16 = .ok (.iconst 1, 1) := dk_4 (dk_at dksX0_correlation_0 16 rfl rfl)
theorem dX0_correlation_17 : decode cX0_correlation 17 = .ok (.ireturn, 1) := dk_172 (dk_at dksX0_correlation_0 17 rfl rfl)
theorem dX0_correlation_18 : decode cX0_correlation 18 = .ok (.astore 5, 2) := dk_58 5 (dk_at dksX0_correlation_0 18 rfl rfl)
theorem dX0_correlation_20 : decode cX0_correlation 20 = .ok (.iconst 2, 1) := dk_5 (dk_at dksX0_correlation_0 20 rfl rfl)
theorem dX0_correlation_21 : decode cX0_correlation 21 = .ok (.ireturn, 1) := dk_172 (dk_at dksX0_correlation_0 21 rfl rfl)
theorem dX0_correlation_22 : decode cX0_correlation 22 = .ok (.iconst 0, 1) := dk_3 (dk_at dksX0_correlation_0 22 rfl rfl)
theorem dX0_correlation_23 : decode cX0_correlation 23 = .ok (.ireturn, 1) := dk_172 (dk_at dksX0_correlation_0 23 rfl rfl)
abbrev cX0_bestLag : ByteArray := method_21_code
def yX0_bestLag : MethodName := ⟨RX0, "bestLag", "(LTrackArray;III[J)I"⟩
def dkwX0_bestLag_1 : List UInt8 := [172]
abbrev dktX0_bestLag_1 : List UInt8 := dkwX0_bestLag_1 ++ []
def dkwX0_bestLag_0 : List UInt8 := [25, 4, 3, 42, 27, 28, 29, 182, 0, 78, 133, 80, 167, 0, 11, 58, 5, 4, 172, 58, 5, 5, 172, 3]
abbrev dktX0_bestLag_0 : List UInt8 := dkwX0_bestLag_0 ++ dktX0_bestLag_1
theorem dksX0_bestLag_0 : cX0_bestLag.data.toList.drop 0 = dktX0_bestLag_0 := by decide +kernel
theorem dksX0_bestLag_1 : cX0_bestLag.data.toList.drop 24 = dktX0_bestLag_1 := dk_seg dksX0_bestLag_0 24 rfl rfl
theorem dX0_bestLag_0 : decode cX0_bestLag 0 = .ok (.aload 4, 2) := dk_25 4 (dk_at dksX0_bestLag_0 0 rfl rfl)
theorem dX0_bestLag_2 : decode cX0_bestLag 2 = .ok (.iconst 0, 1) := dk_3 (dk_at dksX0_bestLag_0 2 rfl rfl)
theorem dX0_bestLag_3 : decode cX0_bestLag 3 = .ok (.aload_n 0, 1) := dk_42 (dk_at dksX0_bestLag_0 3 rfl rfl)
theorem dX0_bestLag_4 : decode cX0_bestLag 4 = .ok (.iload_n 1, 1) := dk_27 (dk_at dksX0_bestLag_0 4 rfl rfl)
theorem dX0_bestLag_5 : decode cX0_bestLag 5 = .ok (.iload_n 2, 1) := dk_28 (dk_at dksX0_bestLag_0 5 rfl rfl)
theorem dX0_bestLag_6 : decode cX0_bestLag 6 = .ok (.iload_n 3, 1) := dk_29 (dk_at dksX0_bestLag_0 6 rfl rfl)
theorem dX0_bestLag_7 : decode cX0_bestLag 7 = .ok (.invokevirtual 78, 3) := dk_182 0 78 (dk_at dksX0_bestLag_0 7 rfl rfl)
theorem dX0_bestLag_10 : decode cX0_bestLag 10 = .ok (.i2l, 1) := dk_133 (dk_at dksX0_bestLag_0 10 rfl rfl)
theorem dX0_bestLag_11 : decode cX0_bestLag 11 = .ok (.lastore, 1) := dk_80 (dk_at dksX0_bestLag_0 11 rfl rfl)
theorem dX0_bestLag_12 : decode cX0_bestLag 12 = .ok (.goto 11, 3) := dk_167 0 11 (dk_at dksX0_bestLag_0 12 rfl rfl)
theorem dX0_bestLag_15 : decode cX0_bestLag 15 = .ok (.astore 5, 2) := dk_58 5 (dk_at dksX0_bestLag_0 15 rfl rfl)
theorem dX0_bestLag_17 : decode cX0_bestLag 17 = .ok (.iconst 1, 1) := dk_4 (dk_at dksX0_bestLag_0 17 rfl rfl)
theorem dX0_bestLag_18 : decode cX0_bestLag 18 = .ok (.ireturn, 1) := dk_172 (dk_at dksX0_bestLag_0 18 rfl rfl)
theorem dX0_bestLag_19 : decode cX0_bestLag 19 = .ok (.astore 5, 2) := dk_58 5 (dk_at dksX0_bestLag_0 19 rfl rfl)
theorem dX0_bestLag_21 : decode cX0_bestLag 21 = .ok (.iconst 2, 1) := dk_5 (dk_at dksX0_bestLag_0 21 rfl rfl)
theorem dX0_bestLag_22 : decode cX0_bestLag 22 = .ok (.ireturn, 1) := dk_172 (dk_at dksX0_bestLag_0 22 rfl rfl)
theorem dX0_bestLag_23 : decode cX0_bestLag 23 = .ok (.iconst 0, 1) := dk_3 (dk_at dksX0_bestLag_0 23 rfl rfl)
theorem dX0_bestLag_24 : decode cX0_bestLag 24 = .ok (.ireturn, 1) := dk_172 (dk_at dksX0_bestLag_1 0 rfl rfl)
abbrev cX0_focusOnVehicle : ByteArray := method_22_code
def yX0_focusOnVehicle : MethodName := ⟨RX0, "focusOnVehicle", "(LTrackArray;III)I"⟩
def dkwX0_focusOnVehicle_0 : List UInt8 := [42, 27, 28, 29, 182, 0, 81, 167, 0, 11, 58, 4, 4, 172, 58, 4, 5, 172, 3, 172]
abbrev dktX0_focusOnVehicle_0 : List UInt8 := dkwX0_focusOnVehicle_0 ++ []
theorem dksX0_focusOnVehicle_0 : cX0_focusOnVehicle.data.toList.drop 0 = dktX0_focusOnVehicle_0 := by decide +kernel
theorem dX0_focusOnVehicle_0 : decode cX0_focusOnVehicle 0 = .ok (.aload_n 0, 1) := dk_42 (dk_at dksX0_focusOnVehicle_0 0 rfl rfl)
theorem dX0_focusOnVehicle_1 : decode cX0_focusOnVehicle 1 = .ok (.iload_n 1, 1) := dk_27 (dk_at dksX0_focusOnVehicle_0 1 rfl rfl)
theorem dX0_focusOnVehicle_2 : decode cX0_focusOnVehicle 2 = .ok (.iload_n 2, 1) := dk_28 (dk_at dksX0_focusOnVehicle_0 2 rfl rfl)
theorem dX0_focusOnVehicle_3 : decode cX0_focusOnVehicle 3 = .ok (.iload_n 3, 1) := dk_29 (dk_at dksX0_focusOnVehicle_0 3 rfl rfl)
theorem dX0_focusOnVehicle_4 : decode cX0_focusOnVehicle 4 = .ok (.invokevirtual 81, 3) := dk_182 0 81 (dk_at dksX0_focusOnVehicle_0 4 rfl rfl)
theorem dX0_focusOnVehicle_7 : decode cX0_focusOnVehicle 7 = .ok (.goto 11, 3) := dk_167 0 11 (dk_at dksX0_focusOnVehicle_0 7 rfl rfl)
theorem dX0_focusOnVehicle_10 : decode cX0_focusOnVehicle 10 = .ok (.astore 4, 2) := dk_58 4 (dk_at dksX0_focusOnVehicle_0 10 rfl rfl)
theorem dX0_focusOnVehicle_12 : decode cX0_focusOnVehicle 12 = .ok (.iconst 1, 1) := dk_4 (dk_at dksX0_focusOnVehicle_0 12 rfl rfl)
theorem dX0_focusOnVehicle_13 : decode cX0_focusOnVehicle 13 = .ok (.ireturn, 1) := dk_172 (dk_at dksX0_focusOnVehicle_0 13 rfl rfl)
theorem dX0_focusOnVehicle_14 : decode cX0_focusOnVehicle 14 = .ok (.astore 4, 2) := dk_58 4 (dk_at dksX0_focusOnVehicle_0 14 rfl rfl)
theorem dX0_focusOnVehicle_16 : decode cX0_focusOnVehicle 16 = .ok (.iconst 2, 1) := dk_5 (dk_at dksX0_focusOnVehicle_0 16 rfl rfl)
theorem dX0_focusOnVehicle_17 : decode cX0_focusOnVehicle 17 = .ok (.ireturn, 1) := dk_172 (dk_at dksX0_focusOnVehicle_0 17 rfl rfl)
theorem dX0_focusOnVehicle_18 : decode cX0_focusOnVehicle 18 = .ok (.iconst 0, 1) := dk_3 (dk_at dksX0_focusOnVehicle_0 18 rfl rfl)
theorem dX0_focusOnVehicle_19 : decode cX0_focusOnVehicle 19 = .ok (.ireturn, 1) := dk_172 (dk_at dksX0_focusOnVehicle_0 19 rfl rfl)
abbrev cX0_focusOnPlace : ByteArray := method_23_code
def yX0_focusOnPlace : MethodName := ⟨RX0, "focusOnPlace", "(LTrackArray;III)I"⟩
def dkwX0_focusOnPlace_0 : List UInt8 := [42, 27, 28, 29, 182, 0, 85, 167, 0, 7, 58, 4, 4, 172, 3, 172]
abbrev dktX0_focusOnPlace_0 : List UInt8 := dkwX0_focusOnPlace_0 ++ []
theorem dksX0_focusOnPlace_0 : cX0_focusOnPlace.data.toList.drop 0 = dktX0_focusOnPlace_0 := by decide +kernel
theorem dX0_focusOnPlace_0 : decode cX0_focusOnPlace 0 = .ok (.aload_n 0, 1) := dk_42 (dk_at dksX0_focusOnPlace_0 0 rfl rfl)
theorem dX0_focusOnPlace_1 : decode cX0_focusOnPlace 1 = .ok (.iload_n 1, 1) := dk_27 (dk_at dksX0_focusOnPlace_0 1 rfl rfl)
theorem dX0_focusOnPlace_2 : decode cX0_focusOnPlace 2 = .ok (.iload_n 2, 1) := dk_28 (dk_at dksX0_focusOnPlace_0 2 rfl rfl)
theorem dX0_focusOnPlace_3 : decode cX0_focusOnPlace 3 = .ok (.iload_n 3, 1) := dk_29 (dk_at dksX0_focusOnPlace_0 3 rfl rfl)
theorem dX0_focusOnPlace_4 : decode cX0_focusOnPlace 4 = .ok (.invokevirtual 85, 3) := dk_182 0 85 (dk_at dksX0_focusOnPlace_0 4 rfl rfl)
theorem dX0_focusOnPlace_7 : decode cX0_focusOnPlace 7 = .ok (.goto 7, 3) := dk_167 0 7 (dk_at dksX0_focusOnPlace_0 7 rfl rfl)
theorem dX0_focusOnPlace_10 : decode cX0_focusOnPlace 10 = .ok (.astore 4, 2) := dk_58 4 (dk_at dksX0_focusOnPlace_0 10 rfl rfl)
theorem dX0_focusOnPlace_12 : decode cX0_focusOnPlace 12 = .ok (.iconst 1, 1) := dk_4 (dk_at dksX0_focusOnPlace_0 12 rfl rfl)
theorem dX0_focusOnPlace_13 : decode cX0_focusOnPlace 13 = .ok (.ireturn, 1) := dk_172 (dk_at dksX0_focusOnPlace_0 13 rfl rfl)
theorem dX0_focusOnPlace_14 : decode cX0_focusOnPlace 14 = .ok (.iconst 0, 1) := dk_3 (dk_at dksX0_focusOnPlace_0 14 rfl rfl)
theorem dX0_focusOnPlace_15 : decode cX0_focusOnPlace 15 = .ok (.ireturn, 1) := dk_172 (dk_at dksX0_focusOnPlace_0 15 rfl rfl)
abbrev cX0_focusOnDirection : ByteArray := method_24_code
def yX0_focusOnDirection : MethodName := ⟨RX0, "focusOnDirection", "(LTrackArray;I)I"⟩
def dkwX0_focusOnDirection_0 : List UInt8 := [42, 27, 182, 0, 88, 167, 0, 6, 77, 4, 172, 3, 172]
abbrev dktX0_focusOnDirection_0 : List UInt8 := dkwX0_focusOnDirection_0 ++ []
theorem dksX0_focusOnDirection_0 : cX0_focusOnDirection.data.toList.drop 0 = dktX0_focusOnDirection_0 := by decide +kernel
theorem dX0_focusOnDirection_0 : decode cX0_focusOnDirection 0 = .ok (.aload_n 0, 1) := dk_42 (dk_at dksX0_focusOnDirection_0 0 rfl rfl)
theorem dX0_focusOnDirection_1 : decode cX0_focusOnDirection 1 = .ok (.iload_n 1, 1) := dk_27 (dk_at dksX0_focusOnDirection_0 1 rfl rfl)
theorem dX0_focusOnDirection_2 : decode cX0_focusOnDirection 2 = .ok (.invokevirtual 88, 3) := dk_182 0 88 (dk_at dksX0_focusOnDirection_0 2 rfl rfl)
theorem dX0_focusOnDirection_5 : decode cX0_focusOnDirection 5 = .ok (.goto 6, 3) := dk_167 0 6 (dk_at dksX0_focusOnDirection_0 5 rfl rfl)
theorem dX0_focusOnDirection_8 : decode cX0_focusOnDirection 8 = .ok (.astore_n 2, 1) := dk_77 (dk_at dksX0_focusOnDirection_0 8 rfl rfl)
theorem dX0_focusOnDirection_9 : decode cX0_focusOnDirection 9 = .ok (.iconst 1, 1) := dk_4 (dk_at dksX0_focusOnDirection_0 9 rfl rfl)
theorem dX0_focusOnDirection_10 : decode cX0_focusOnDirection 10 = .ok (.ireturn, 1) := dk_172 (dk_at dksX0_focusOnDirection_0 10 rfl rfl)
theorem dX0_focusOnDirection_11 : decode cX0_focusOnDirection 11 = .ok (.iconst 0, 1) := dk_3 (dk_at dksX0_focusOnDirection_0 11 rfl rfl)
theorem dX0_focusOnDirection_12 : decode cX0_focusOnDirection 12 = .ok (.ireturn, 1) := dk_172 (dk_at dksX0_focusOnDirection_0 12 rfl rfl)
abbrev cX0_sampleNumber : ByteArray := method_25_code
def yX0_sampleNumber : MethodName := ⟨RX0, "sampleNumber", "(LTrackArray;II[J)I"⟩
def dkwX0_sampleNumber_0 : List UInt8 := [45, 3, 42, 27, 28, 182, 0, 92, 133, 80, 167, 0, 11, 58, 4, 4, 172, 58, 4, 5, 172, 3, 172]
abbrev dktX0_sampleNumber_0 : List UInt8 := dkwX0_sampleNumber_0 ++ []
theorem dksX0_sampleNumber_0 : cX0_sampleNumber.data.toList.drop 0 = dktX0_sampleNumber_0 := by decide +kernel
theorem dX0_sampleNumber_0 : decode cX0_sampleNumber 0 = .ok (.aload_n 3, 1) := dk_45 (dk_at dksX0_sampleNumber_0 0 rfl rfl)
theorem dX0_sampleNumber_1 : decode cX0_sampleNumber 1 = .ok (.iconst 0, 1) := dk_3 (dk_at dksX0_sampleNumber_0 1 rfl rfl)
theorem dX0_sampleNumber_2 : decode cX0_sampleNumber 2 = .ok (.aload_n 0, 1) := dk_42 (dk_at dksX0_sampleNumber_0 2 rfl rfl)
theorem dX0_sampleNumber_3 : decode cX0_sampleNumber 3 = .ok (.iload_n 1, 1) := dk_27 (dk_at dksX0_sampleNumber_0 3 rfl rfl)
theorem dX0_sampleNumber_4 : decode cX0_sampleNumber 4 = .ok (.iload_n 2, 1) := dk_28 (dk_at dksX0_sampleNumber_0 4 rfl rfl)
theorem dX0_sampleNumber_5 : decode cX0_sampleNumber 5 = .ok (.invokevirtual 92, 3) := dk_182 0 92 (dk_at dksX0_sampleNumber_0 5 rfl rfl)
theorem dX0_sampleNumber_8 : decode cX0_sampleNumber 8 = .ok (.i2l, 1) := dk_133 (dk_at dksX0_sampleNumber_0 8 rfl rfl)
theorem dX0_sampleNumber_9 : decode cX0_sampleNumber 9 = .ok (.lastore, 1) := dk_80 (dk_at dksX0_sampleNumber_0 9 rfl rfl)
theorem dX0_sampleNumber_10 : decode cX0_sampleNumber 10 = .ok (.goto 11, 3) := dk_167 0 11 (dk_at dksX0_sampleNumber_0 10 rfl rfl)
theorem dX0_sampleNumber_13 : decode cX0_sampleNumber 13 = .ok (.astore 4, 2) := dk_58 4 (dk_at dksX0_sampleNumber_0 13 rfl rfl)
theorem dX0_sampleNumber_15 : decode cX0_sampleNumber 15 = .ok (.iconst 1, 1) := dk_4 (dk_at dksX0_sampleNumber_0 15 rfl rfl)
theorem dX0_sampleNumber_16 : decode cX0_sampleNumber 16 = .ok (.ireturn, 1) := dk_172 (dk_at dksX0_sampleNumber_0 16 rfl rfl)
theorem dX0_sampleNumber_17 : decode cX0_sampleNumber 17 = .ok (.astore 4, 2) := dk_58 4 (dk_at dksX0_sampleNumber_0 17 rfl rfl)
theorem dX0_sampleNumber_19 : decode cX0_sampleNumber 19 = .ok (.iconst 2, 1) := dk_5 (dk_at dksX0_sampleNumber_0 19 rfl rfl)
theorem dX0_sampleNumber_20 : decode cX0_sampleNumber 20 = .ok (.ireturn, 1) := dk_172 (dk_at dksX0_sampleNumber_0 20 rfl rfl)
theorem dX0_sampleNumber_21 : decode cX0_sampleNumber 21 = .ok (.iconst 0, 1) := dk_3 (dk_at dksX0_sampleNumber_0 21 rfl rfl)
theorem dX0_sampleNumber_22 : decode cX0_sampleNumber 22 = .ok (.ireturn, 1) := dk_172 (dk_at dksX0_sampleNumber_0 22 rfl rfl)
abbrev cX0_part : ByteArray := method_26_code
def yX0_part : MethodName := ⟨RX0, "part", "(LTrackArray;II[J)I"⟩
def dkwX0_part_0 : List UInt8 := [45, 3, 42, 27, 28, 182, 0, 95, 133, 80, 167, 0, 11, 58, 4, 4, 172, 58, 4, 5, 172, 3, 172]
abbrev dktX0_part_0 : List UInt8 := dkwX0_part_0 ++ []
theorem dksX0_part_0 : cX0_part.data.toList.drop 0 = dktX0_part_0 := by decide +kernel
theorem dX0_part_0 : decode cX0_part 0 = .ok (.aload_n 3, 1) := dk_45 (dk_at dksX0_part_0 0 rfl rfl)
theorem dX0_part_1 : decode cX0_part 1 = .ok (.iconst 0, 1) := dk_3 (dk_at dksX0_part_0 1 rfl rfl)
theorem dX0_part_2 : decode cX0_part 2 = .ok (.aload_n 0, 1) := dk_42 (dk_at dksX0_part_0 2 rfl rfl)
theorem dX0_part_3 : decode cX0_part 3 = .ok (.iload_n 1, 1) := dk_27 (dk_at dksX0_part_0 3 rfl rfl)
theorem dX0_part_4 : decode cX0_part 4 = .ok (.iload_n 2, 1) := dk_28 (dk_at dksX0_part_0 4 rfl rfl)
theorem dX0_part_5 : decode cX0_part 5 = .ok (.invokevirtual 95, 3) := dk_182 0 95 (dk_at dksX0_part_0 5 rfl rfl)
theorem dX0_part_8 : decode cX0_part 8 = .ok (.i2l, 1) := dk_133 (dk_at dksX0_part_0 8 rfl rfl)
theorem dX0_part_9 : decode cX0_part 9 = .ok (.lastore, 1) := dk_80 (dk_at dksX0_part_0 9 rfl rfl)
theorem dX0_part_10 : decode cX0_part 10 = .ok (.goto 11, 3) := dk_167 0 11 (dk_at dksX0_part_0 10 rfl rfl)
theorem dX0_part_13 : decode cX0_part 13 = .ok (.astore 4, 2) := dk_58 4 (dk_at dksX0_part_0 13 rfl rfl)
theorem dX0_part_15 : decode cX0_part 15 = .ok (.iconst 1, 1) := dk_4 (dk_at dksX0_part_0 15 rfl rfl)
theorem dX0_part_16 : decode cX0_part 16 = .ok (.ireturn, 1) := dk_172 (dk_at dksX0_part_0 16 rfl rfl)
theorem dX0_part_17 : decode cX0_part 17 = .ok (.astore 4, 2) := dk_58 4 (dk_at dksX0_part_0 17 rfl rfl)
theorem dX0_part_19 : decode cX0_part 19 = .ok (.iconst 2, 1) := dk_5 (dk_at dksX0_part_0 19 rfl rfl)
theorem dX0_part_20 : decode cX0_part 20 = .ok (.ireturn, 1) := dk_172 (dk_at dksX0_part_0 20 rfl rfl)
theorem dX0_part_21 : decode cX0_part 21 = .ok (.iconst 0, 1) := dk_3 (dk_at dksX0_part_0 21 rfl rfl)
theorem dX0_part_22 : decode cX0_part 22 = .ok (.ireturn, 1) := dk_172 (dk_at dksX0_part_0 22 rfl rfl)
abbrev cX0_beam : ByteArray := method_27_code
def yX0_beam : MethodName := ⟨RX0, "beam", "(LTrackArray;I[J)I"⟩
def dkwX0_beam_0 : List UInt8 := [44, 3, 42, 27, 182, 0, 98, 133, 80, 167, 0, 6, 78, 4, 172, 3, 172]
abbrev dktX0_beam_0 : List UInt8 := dkwX0_beam_0 ++ []
theorem dksX0_beam_0 : cX0_beam.data.toList.drop 0 = dktX0_beam_0 := by decide +kernel
theorem dX0_beam_0 : decode cX0_beam 0 = .ok (.aload_n 2, 1) := dk_44 (dk_at dksX0_beam_0 0 rfl rfl)
theorem dX0_beam_1 : decode cX0_beam 1 = .ok (.iconst 0, 1) := dk_3 (dk_at dksX0_beam_0 1 rfl rfl)
theorem dX0_beam_2 : decode cX0_beam 2 = .ok (.aload_n 0, 1) := dk_42 (dk_at dksX0_beam_0 2 rfl rfl)
theorem dX0_beam_3 : decode cX0_beam 3 = .ok (.iload_n 1, 1) := dk_27 (dk_at dksX0_beam_0 3 rfl rfl)
theorem dX0_beam_4 : decode cX0_beam 4 = .ok (.invokevirtual 98, 3) := dk_182 0 98 (dk_at dksX0_beam_0 4 rfl rfl)
theorem dX0_beam_7 : decode cX0_beam 7 = .ok (.i2l, 1) := dk_133 (dk_at dksX0_beam_0 7 rfl rfl)
theorem dX0_beam_8 : decode cX0_beam 8 = .ok (.lastore, 1) := dk_80 (dk_at dksX0_beam_0 8 rfl rfl)
theorem dX0_beam_9 : decode cX0_beam 9 = .ok (.goto 6, 3) := dk_167 0 6 (dk_at dksX0_beam_0 9 rfl rfl)
theorem dX0_beam_12 : decode cX0_beam 12 = .ok (.astore_n 3, 1) := dk_78 (dk_at dksX0_beam_0 12 rfl rfl)
theorem dX0_beam_13 : decode cX0_beam 13 = .ok (.iconst 1, 1) := dk_4 (dk_at dksX0_beam_0 13 rfl rfl)
theorem dX0_beam_14 : decode cX0_beam 14 = .ok (.ireturn, 1) := dk_172 (dk_at dksX0_beam_0 14 rfl rfl)
theorem dX0_beam_15 : decode cX0_beam 15 = .ok (.iconst 0, 1) := dk_3 (dk_at dksX0_beam_0 15 rfl rfl)
theorem dX0_beam_16 : decode cX0_beam 16 = .ok (.ireturn, 1) := dk_172 (dk_at dksX0_beam_0 16 rfl rfl)
abbrev cX0_measureBeam : ByteArray := method_28_code
def yX0_measureBeam : MethodName := ⟨RX0, "measureBeam", "(LTrackArray;III[J)I"⟩
def dkwX0_measureBeam_0 : List UInt8 := [25, 4, 3, 42, 27, 28, 29, 182, 0, 101, 80, 167, 0, 7, 58, 5, 4, 172, 3, 172]
abbrev dktX0_measureBeam_0 : List UInt8 := dkwX0_measureBeam_0 ++ []
theorem dksX0_measureBeam_0 : cX0_measureBeam.data.toList.drop 0 = dktX0_measureBeam_0 := by decide +kernel
theorem dX0_measureBeam_0 : decode cX0_measureBeam 0 = .ok (.aload 4, 2) := dk_25 4 (dk_at dksX0_measureBeam_0 0 rfl rfl)
theorem dX0_measureBeam_2 : decode cX0_measureBeam 2 = .ok (.iconst 0, 1) := dk_3 (dk_at dksX0_measureBeam_0 2 rfl rfl)
theorem dX0_measureBeam_3 : decode cX0_measureBeam 3 = .ok (.aload_n 0, 1) := dk_42 (dk_at dksX0_measureBeam_0 3 rfl rfl)
theorem dX0_measureBeam_4 : decode cX0_measureBeam 4 = .ok (.iload_n 1, 1) := dk_27 (dk_at dksX0_measureBeam_0 4 rfl rfl)
theorem dX0_measureBeam_5 : decode cX0_measureBeam 5 = .ok (.iload_n 2, 1) := dk_28 (dk_at dksX0_measureBeam_0 5 rfl rfl)
theorem dX0_measureBeam_6 : decode cX0_measureBeam 6 = .ok (.iload_n 3, 1) := dk_29 (dk_at dksX0_measureBeam_0 6 rfl rfl)
theorem dX0_measureBeam_7 : decode cX0_measureBeam 7 = .ok (.invokevirtual 101, 3) := dk_182 0 101 (dk_at dksX0_measureBeam_0 7 rfl rfl)
theorem dX0_measureBeam_10 : decode cX0_measureBeam 10 = .ok (.lastore, 1) := dk_80 (dk_at dksX0_measureBeam_0 10 rfl rfl)
theorem dX0_measureBeam_11 : decode cX0_measureBeam 11 = .ok (.goto 7, 3) := dk_167 0 7 (dk_at dksX0_measureBeam_0 11 rfl rfl)
theorem dX0_measureBeam_14 : decode cX0_measureBeam 14 = .ok (.astore 5, 2) := dk_58 5 (dk_at dksX0_measureBeam_0 14 rfl rfl)
theorem dX0_measureBeam_16 : decode cX0_measureBeam 16 = .ok (.iconst 1, 1) := dk_4 (dk_at dksX0_measureBeam_0 16 rfl rfl)
theorem dX0_measureBeam_17 : decode cX0_measureBeam 17 = .ok (.ireturn, 1) := dk_172 (dk_at dksX0_measureBeam_0 17 rfl rfl)
theorem dX0_measureBeam_18 : decode cX0_measureBeam 18 = .ok (.iconst 0, 1) := dk_3 (dk_at dksX0_measureBeam_0 18 rfl rfl)
theorem dX0_measureBeam_19 : decode cX0_measureBeam 19 = .ok (.ireturn, 1) := dk_172 (dk_at dksX0_measureBeam_0 19 rfl rfl)
abbrev cX0_periodPower : ByteArray := method_29_code
def yX0_periodPower : MethodName := ⟨RX0, "periodPower", "(LTrackArray;III[J)I"⟩
def dkwX0_periodPower_0 : List UInt8 := [25, 4, 3, 42, 27, 28, 29, 182, 0, 104, 80, 167, 0, 7, 58, 5, 4, 172, 3, 172]
abbrev dktX0_periodPower_0 : List UInt8 := dkwX0_periodPower_0 ++ []
theorem dksX0_periodPower_0 : cX0_periodPower.data.toList.drop 0 = dktX0_periodPower_0 := by decide +kernel
theorem dX0_periodPower_0 : decode cX0_periodPower 0 = .ok (.aload 4, 2) := dk_25 4 (dk_at dksX0_periodPower_0 0 rfl rfl)
theorem dX0_periodPower_2 : decode cX0_periodPower 2 = .ok (.iconst 0, 1) := dk_3 (dk_at dksX0_periodPower_0 2 rfl rfl)
theorem dX0_periodPower_3 : decode cX0_periodPower 3 = .ok (.aload_n 0, 1) := dk_42 (dk_at dksX0_periodPower_0 3 rfl rfl)
theorem dX0_periodPower_4 : decode cX0_periodPower 4 = .ok (.iload_n 1, 1) := dk_27 (dk_at dksX0_periodPower_0 4 rfl rfl)
theorem dX0_periodPower_5 : decode cX0_periodPower 5 = .ok (.iload_n 2, 1) := dk_28 (dk_at dksX0_periodPower_0 5 rfl rfl)
theorem dX0_periodPower_6 : decode cX0_periodPower 6 = .ok (.iload_n 3, 1) := dk_29 (dk_at dksX0_periodPower_0 6 rfl rfl)
theorem dX0_periodPower_7 : decode cX0_periodPower 7 = .ok (.invokevirtual 104, 3) := dk_182 0 104 (dk_at dksX0_periodPower_0 7 rfl rfl)
theorem dX0_periodPower_10 : decode cX0_periodPower 10 = .ok (.lastore, 1) := dk_80 (dk_at dksX0_periodPower_0 10 rfl rfl)
theorem dX0_periodPower_11 : decode cX0_periodPower 11 = .ok (.goto 7, 3) := dk_167 0 7 (dk_at dksX0_periodPower_0 11 rfl rfl)
theorem dX0_periodPower_14 : decode cX0_periodPower 14 = .ok (.astore 5, 2) := dk_58 5 (dk_at dksX0_periodPower_0 14 rfl rfl)
theorem dX0_periodPower_16 : decode cX0_periodPower 16 = .ok (.iconst 1, 1) := dk_4 (dk_at dksX0_periodPower_0 16 rfl rfl)
theorem dX0_periodPower_17 : decode cX0_periodPower 17 = .ok (.ireturn, 1) := dk_172 (dk_at dksX0_periodPower_0 17 rfl rfl)
theorem dX0_periodPower_18 : decode cX0_periodPower 18 = .ok (.iconst 0, 1) := dk_3 (dk_at dksX0_periodPower_0 18 rfl rfl)
theorem dX0_periodPower_19 : decode cX0_periodPower 19 = .ok (.ireturn, 1) := dk_172 (dk_at dksX0_periodPower_0 19 rfl rfl)
abbrev cX0_bestPeriod : ByteArray := method_30_code
def yX0_bestPeriod : MethodName := ⟨RX0, "bestPeriod", "(LTrackArray;III[J)I"⟩
def dkwX0_bestPeriod_0 : List UInt8 := [25, 4, 3, 42, 27, 28, 29, 182, 0, 107, 133, 80, 167, 0, 7, 58, 5, 4, 172, 3, 172]
abbrev dktX0_bestPeriod_0 : List UInt8 := dkwX0_bestPeriod_0 ++ []
theorem dksX0_bestPeriod_0 : cX0_bestPeriod.data.toList.drop 0 = dktX0_bestPeriod_0 := by decide +kernel
theorem dX0_bestPeriod_0 : decode cX0_bestPeriod 0 = .ok (.aload 4, 2) := dk_25 4 (dk_at dksX0_bestPeriod_0 0 rfl rfl)
theorem dX0_bestPeriod_2 : decode cX0_bestPeriod 2 = .ok (.iconst 0, 1) := dk_3 (dk_at dksX0_bestPeriod_0 2 rfl rfl)
theorem dX0_bestPeriod_3 : decode cX0_bestPeriod 3 = .ok (.aload_n 0, 1) := dk_42 (dk_at dksX0_bestPeriod_0 3 rfl rfl)
theorem dX0_bestPeriod_4 : decode cX0_bestPeriod 4 = .ok (.iload_n 1, 1) := dk_27 (dk_at dksX0_bestPeriod_0 4 rfl rfl)
theorem dX0_bestPeriod_5 : decode cX0_bestPeriod 5 = .ok (.iload_n 2, 1) := dk_28 (dk_at dksX0_bestPeriod_0 5 rfl rfl)
theorem dX0_bestPeriod_6 : decode cX0_bestPeriod 6 = .ok (.iload_n 3, 1) := dk_29 (dk_at dksX0_bestPeriod_0 6 rfl rfl)
theorem dX0_bestPeriod_7 : decode cX0_bestPeriod 7 = .ok (.invokevirtual 107, 3) := dk_182 0 107 (dk_at dksX0_bestPeriod_0 7 rfl rfl)
theorem dX0_bestPeriod_10 : decode cX0_bestPeriod 10 = .ok (.i2l, 1) := dk_133 (dk_at dksX0_bestPeriod_0 10 rfl rfl)
theorem dX0_bestPeriod_11 : decode cX0_bestPeriod 11 = .ok (.lastore, 1) := dk_80 (dk_at dksX0_bestPeriod_0 11 rfl rfl)
theorem dX0_bestPeriod_12 : decode cX0_bestPeriod 12 = .ok (.goto 7, 3) := dk_167 0 7 (dk_at dksX0_bestPeriod_0 12 rfl rfl)
theorem dX0_bestPeriod_15 : decode cX0_bestPeriod 15 = .ok (.astore 5, 2) := dk_58 5 (dk_at dksX0_bestPeriod_0 15 rfl rfl)
theorem dX0_bestPeriod_17 : decode cX0_bestPeriod 17 = .ok (.iconst 1, 1) := dk_4 (dk_at dksX0_bestPeriod_0 17 rfl rfl)
theorem dX0_bestPeriod_18 : decode cX0_bestPeriod 18 = .ok (.ireturn, 1) := dk_172 (dk_at dksX0_bestPeriod_0 18 rfl rfl)
theorem dX0_bestPeriod_19 : decode cX0_bestPeriod 19 = .ok (.iconst 0, 1) := dk_3 (dk_at dksX0_bestPeriod_0 19 rfl rfl)
theorem dX0_bestPeriod_20 : decode cX0_bestPeriod 20 = .ok (.ireturn, 1) := dk_172 (dk_at dksX0_bestPeriod_0 20 rfl rfl)
abbrev cX0_energyBeside : ByteArray := method_31_code
def yX0_energyBeside : MethodName := ⟨RX0, "energyBeside", "(LTrackArray;III[J)I"⟩
def dkwX0_energyBeside_0 : List UInt8 := [25, 4, 3, 42, 27, 28, 29, 182, 0, 110, 80, 167, 0, 7, 58, 5, 4, 172, 3, 172]
abbrev dktX0_energyBeside_0 : List UInt8 := dkwX0_energyBeside_0 ++ []
theorem dksX0_energyBeside_0 : cX0_energyBeside.data.toList.drop 0 = dktX0_energyBeside_0 := by decide +kernel
theorem dX0_energyBeside_0 : decode cX0_energyBeside 0 = .ok (.aload 4, 2) := dk_25 4 (dk_at dksX0_energyBeside_0 0 rfl rfl)
theorem dX0_energyBeside_2 : decode cX0_energyBeside 2 = .ok (.iconst 0, 1) := dk_3 (dk_at dksX0_energyBeside_0 2 rfl rfl)
theorem dX0_energyBeside_3 : decode cX0_energyBeside 3 = .ok (.aload_n 0, 1) := dk_42 (dk_at dksX0_energyBeside_0 3 rfl rfl)
theorem dX0_energyBeside_4 : decode cX0_energyBeside 4 = .ok (.iload_n 1, 1) := dk_27 (dk_at dksX0_energyBeside_0 4 rfl rfl)
theorem dX0_energyBeside_5 : decode cX0_energyBeside 5 = .ok (.iload_n 2, 1) := dk_28 (dk_at dksX0_energyBeside_0 5 rfl rfl)
theorem dX0_energyBeside_6 : decode cX0_energyBeside 6 = .ok (.iload_n 3, 1) := dk_29 (dk_at dksX0_energyBeside_0 6 rfl rfl)
theorem dX0_energyBeside_7 : decode cX0_energyBeside 7 = .ok (.invokevirtual 110, 3) := dk_182 0 110 (dk_at dksX0_energyBeside_0 7 rfl rfl)
theorem dX0_energyBeside_10 : decode cX0_energyBeside 10 = .ok (.lastore, 1) := dk_80 (dk_at dksX0_energyBeside_0 10 rfl rfl)
theorem dX0_energyBeside_11 : decode cX0_energyBeside 11 = .ok (.goto 7, 3) := dk_167 0 7 (dk_at dksX0_energyBeside_0 11 rfl rfl)
theorem dX0_energyBeside_14 : decode cX0_energyBeside 14 = .ok (.astore 5, 2) := dk_58 5 (dk_at dksX0_energyBeside_0 14 rfl rfl)
theorem dX0_energyBeside_16 : decode cX0_energyBeside 16 = .ok (.iconst 1, 1) := dk_4 (dk_at dksX0_energyBeside_0 16 rfl rfl)
theorem dX0_energyBeside_17 : decode cX0_energyBeside 17 = .ok (.ireturn, 1) := dk_172 (dk_at dksX0_energyBeside_0 17 rfl rfl)
theorem dX0_energyBeside_18 : decode cX0_energyBeside 18 = .ok (.iconst 0, 1) := dk_3 (dk_at dksX0_energyBeside_0 18 rfl rfl)
theorem dX0_energyBeside_19 : decode cX0_energyBeside 19 = .ok (.ireturn, 1) := dk_172 (dk_at dksX0_energyBeside_0 19 rfl rfl)
abbrev cX0_scan : ByteArray := method_32_code
def yX0_scan : MethodName := ⟨RX0, "scan", "(LTrackArray;IIII[J)I"⟩
def dkwX0_scan_0 : List UInt8 := [25, 5, 3, 42, 27, 28, 29, 21, 4, 182, 0, 113, 133, 80, 167, 0, 7, 58, 6, 4, 172, 3, 172]
abbrev dktX0_scan_0 : List UInt8 := dkwX0_scan_0 ++ []
theorem dksX0_scan_0 : cX0_scan.data.toList.drop 0 = dktX0_scan_0 := by decide +kernel
theorem dX0_scan_0 : decode cX0_scan 0 = .ok (.aload 5, 2) := dk_25 5 (dk_at dksX0_scan_0 0 rfl rfl)
theorem dX0_scan_2 : decode cX0_scan 2 = .ok (.iconst 0, 1) := dk_3 (dk_at dksX0_scan_0 2 rfl rfl)
theorem dX0_scan_3 : decode cX0_scan 3 = .ok (.aload_n 0, 1) := dk_42 (dk_at dksX0_scan_0 3 rfl rfl)
theorem dX0_scan_4 : decode cX0_scan 4 = .ok (.iload_n 1, 1) := dk_27 (dk_at dksX0_scan_0 4 rfl rfl)
theorem dX0_scan_5 : decode cX0_scan 5 = .ok (.iload_n 2, 1) := dk_28 (dk_at dksX0_scan_0 5 rfl rfl)
theorem dX0_scan_6 : decode cX0_scan 6 = .ok (.iload_n 3, 1) := dk_29 (dk_at dksX0_scan_0 6 rfl rfl)
theorem dX0_scan_7 : decode cX0_scan 7 = .ok (.iload 4, 2) := dk_21 4 (dk_at dksX0_scan_0 7 rfl rfl)
theorem dX0_scan_9 : decode cX0_scan 9 = .ok (.invokevirtual 113, 3) := dk_182 0 113 (dk_at dksX0_scan_0 9 rfl rfl)
theorem dX0_scan_12 : decode cX0_scan 12 = .ok (.i2l, 1) := dk_133 (dk_at dksX0_scan_0 12 rfl rfl)
theorem dX0_scan_13 : decode cX0_scan 13 = .ok (.lastore, 1) := dk_80 (dk_at dksX0_scan_0 13 rfl rfl)
theorem dX0_scan_14 : decode cX0_scan 14 = .ok (.goto 7, 3) := dk_167 0 7 (dk_at dksX0_scan_0 14 rfl rfl)
theorem dX0_scan_17 : decode cX0_scan 17 = .ok (.astore 6, 2) := dk_58 6 (dk_at dksX0_scan_0 17 rfl rfl)
theorem dX0_scan_19 : decode cX0_scan 19 = .ok (.iconst 1, 1) := dk_4 (dk_at dksX0_scan_0 19 rfl rfl)
theorem dX0_scan_20 : decode cX0_scan 20 = .ok (.ireturn, 1) := dk_172 (dk_at dksX0_scan_0 20 rfl rfl)
theorem dX0_scan_21 : decode cX0_scan 21 = .ok (.iconst 0, 1) := dk_3 (dk_at dksX0_scan_0 21 rfl rfl)
theorem dX0_scan_22 : decode cX0_scan 22 = .ok (.ireturn, 1) := dk_172 (dk_at dksX0_scan_0 22 rfl rfl)
abbrev cX0_bestDirection : ByteArray := method_33_code
def yX0_bestDirection : MethodName := ⟨RX0, "bestDirection", "(LTrackArray;III[J)I"⟩
def dkwX0_bestDirection_0 : List UInt8 := [25, 4, 3, 42, 27, 28, 29, 182, 0, 116, 133, 80, 167, 0, 7, 58, 5, 4, 172, 3, 172]
abbrev dktX0_bestDirection_0 : List UInt8 := dkwX0_bestDirection_0 ++ []
theorem dksX0_bestDirection_0 : cX0_bestDirection.data.toList.drop 0 = dktX0_bestDirection_0 := by decide +kernel
theorem dX0_bestDirection_0 : decode cX0_bestDirection 0 = .ok (.aload 4, 2) := dk_25 4 (dk_at dksX0_bestDirection_0 0 rfl rfl)
theorem dX0_bestDirection_2 : decode cX0_bestDirection 2 = .ok (.iconst 0, 1) := dk_3 (dk_at dksX0_bestDirection_0 2 rfl rfl)
theorem dX0_bestDirection_3 : decode cX0_bestDirection 3 = .ok (.aload_n 0, 1) := dk_42 (dk_at dksX0_bestDirection_0 3 rfl rfl)
theorem dX0_bestDirection_4 : decode cX0_bestDirection 4 = .ok (.iload_n 1, 1) := dk_27 (dk_at dksX0_bestDirection_0 4 rfl rfl)
theorem dX0_bestDirection_5 : decode cX0_bestDirection 5 = .ok (.iload_n 2, 1) := dk_28 (dk_at dksX0_bestDirection_0 5 rfl rfl)
theorem dX0_bestDirection_6 : decode cX0_bestDirection 6 = .ok (.iload_n 3, 1) := dk_29 (dk_at dksX0_bestDirection_0 6 rfl rfl)
theorem dX0_bestDirection_7 : decode cX0_bestDirection 7 = .ok (.invokevirtual 116, 3) := dk_182 0 116 (dk_at dksX0_bestDirection_0 7 rfl rfl)
theorem dX0_bestDirection_10 : decode cX0_bestDirection 10 = .ok (.i2l, 1) := dk_133 (dk_at dksX0_bestDirection_0 10 rfl rfl)
theorem dX0_bestDirection_11 : decode cX0_bestDirection 11 = .ok (.lastore, 1) := dk_80 (dk_at dksX0_bestDirection_0 11 rfl rfl)
theorem dX0_bestDirection_12 : decode cX0_bestDirection 12 = .ok (.goto 7, 3) := dk_167 0 7 (dk_at dksX0_bestDirection_0 12 rfl rfl)
theorem dX0_bestDirection_15 : decode cX0_bestDirection 15 = .ok (.astore 5, 2) := dk_58 5 (dk_at dksX0_bestDirection_0 15 rfl rfl)
theorem dX0_bestDirection_17 : decode cX0_bestDirection 17 = .ok (.iconst 1, 1) := dk_4 (dk_at dksX0_bestDirection_0 17 rfl rfl)
theorem dX0_bestDirection_18 : decode cX0_bestDirection 18 = .ok (.ireturn, 1) := dk_172 (dk_at dksX0_bestDirection_0 18 rfl rfl)
theorem dX0_bestDirection_19 : decode cX0_bestDirection 19 = .ok (.iconst 0, 1) := dk_3 (dk_at dksX0_bestDirection_0 19 rfl rfl)
theorem dX0_bestDirection_20 : decode cX0_bestDirection 20 = .ok (.ireturn, 1) := dk_172 (dk_at dksX0_bestDirection_0 20 rfl rfl)
abbrev cX0_spectrum : ByteArray := method_34_code
def yX0_spectrum : MethodName := ⟨RX0, "spectrum", "(LTrackArray;IIII[J)I"⟩
def dkwX0_spectrum_0 : List UInt8 := [25, 5, 3, 42, 27, 28, 29, 21, 4, 182, 0, 119, 80, 167, 0, 7, 58, 6, 4, 172, 3, 172]
abbrev dktX0_spectrum_0 : List UInt8 := dkwX0_spectrum_0 ++ []
theorem dksX0_spectrum_0 : cX0_spectrum.data.toList.drop 0 = dktX0_spectrum_0 := by decide +kernel
theorem dX0_spectrum_0 : decode cX0_spectrum 0 = .ok (.aload 5, 2) := dk_25 5 (dk_at dksX0_spectrum_0 0 rfl rfl)
theorem dX0_spectrum_2 : decode cX0_spectrum 2 = .ok (.iconst 0, 1) := dk_3 (dk_at dksX0_spectrum_0 2 rfl rfl)
theorem dX0_spectrum_3 : decode cX0_spectrum 3 = .ok (.aload_n 0, 1) := dk_42 (dk_at dksX0_spectrum_0 3 rfl rfl)
theorem dX0_spectrum_4 : decode cX0_spectrum 4 = .ok (.iload_n 1, 1) := dk_27 (dk_at dksX0_spectrum_0 4 rfl rfl)
theorem dX0_spectrum_5 : decode cX0_spectrum 5 = .ok (.iload_n 2, 1) := dk_28 (dk_at dksX0_spectrum_0 5 rfl rfl)
theorem dX0_spectrum_6 : decode cX0_spectrum 6 = .ok (.iload_n 3, 1) := dk_29 (dk_at dksX0_spectrum_0 6 rfl rfl)
theorem dX0_spectrum_7 : decode cX0_spectrum 7 = .ok (.iload 4, 2) := dk_21 4 (dk_at dksX0_spectrum_0 7 rfl rfl)
theorem dX0_spectrum_9 : decode cX0_spectrum 9 = .ok (.invokevirtual 119, 3) := dk_182 0 119 (dk_at dksX0_spectrum_0 9 rfl rfl)
theorem dX0_spectrum_12 : decode cX0_spectrum 12 = .ok (.lastore, 1) := dk_80 (dk_at dksX0_spectrum_0 12 rfl rfl)
theorem dX0_spectrum_13 : decode cX0_spectrum 13 = .ok (.goto 7, 3) := dk_167 0 7 (dk_at dksX0_spectrum_0 13 rfl rfl)
theorem dX0_spectrum_16 : decode cX0_spectrum 16 = .ok (.astore 6, 2) := dk_58 6 (dk_at dksX0_spectrum_0 16 rfl rfl)
theorem dX0_spectrum_18 : decode cX0_spectrum 18 = .ok (.iconst 1, 1) := dk_4 (dk_at dksX0_spectrum_0 18 rfl rfl)
theorem dX0_spectrum_19 : decode cX0_spectrum 19 = .ok (.ireturn, 1) := dk_172 (dk_at dksX0_spectrum_0 19 rfl rfl)
theorem dX0_spectrum_20 : decode cX0_spectrum 20 = .ok (.iconst 0, 1) := dk_3 (dk_at dksX0_spectrum_0 20 rfl rfl)
theorem dX0_spectrum_21 : decode cX0_spectrum 21 = .ok (.ireturn, 1) := dk_172 (dk_at dksX0_spectrum_0 21 rfl rfl)
abbrev cX0_meanPower : ByteArray := method_35_code
def yX0_meanPower : MethodName := ⟨RX0, "meanPower", "(LTrackArray;II[D)I"⟩
def dkwX0_meanPower_0 : List UInt8 := [45, 3, 42, 27, 28, 182, 0, 122, 82, 167, 0, 7, 58, 4, 4, 172, 3, 172]
abbrev dktX0_meanPower_0 : List UInt8 := dkwX0_meanPower_0 ++ []
theorem dksX0_meanPower_0 : cX0_meanPower.data.toList.drop 0 = dktX0_meanPower_0 := by decide +kernel
theorem dX0_meanPower_0 : decode cX0_meanPower 0 = .ok (.aload_n 3, 1) := dk_45 (dk_at dksX0_meanPower_0 0 rfl rfl)
theorem dX0_meanPower_1 : decode cX0_meanPower 1 = .ok (.iconst 0, 1) := dk_3 (dk_at dksX0_meanPower_0 1 rfl rfl)
theorem dX0_meanPower_2 : decode cX0_meanPower 2 = .ok (.aload_n 0, 1) := dk_42 (dk_at dksX0_meanPower_0 2 rfl rfl)
theorem dX0_meanPower_3 : decode cX0_meanPower 3 = .ok (.iload_n 1, 1) := dk_27 (dk_at dksX0_meanPower_0 3 rfl rfl)
theorem dX0_meanPower_4 : decode cX0_meanPower 4 = .ok (.iload_n 2, 1) := dk_28 (dk_at dksX0_meanPower_0 4 rfl rfl)
theorem dX0_meanPower_5 : decode cX0_meanPower 5 = .ok (.invokevirtual 122, 3) := dk_182 0 122 (dk_at dksX0_meanPower_0 5 rfl rfl)
theorem dX0_meanPower_8 : decode cX0_meanPower 8 = .ok (.dastore, 1) := dk_82 (dk_at dksX0_meanPower_0 8 rfl rfl)
theorem dX0_meanPower_9 : decode cX0_meanPower 9 = .ok (.goto 7, 3) := dk_167 0 7 (dk_at dksX0_meanPower_0 9 rfl rfl)
theorem dX0_meanPower_12 : decode cX0_meanPower 12 = .ok (.astore 4, 2) := dk_58 4 (dk_at dksX0_meanPower_0 12 rfl rfl)
theorem dX0_meanPower_14 : decode cX0_meanPower 14 = .ok (.iconst 1, 1) := dk_4 (dk_at dksX0_meanPower_0 14 rfl rfl)
theorem dX0_meanPower_15 : decode cX0_meanPower 15 = .ok (.ireturn, 1) := dk_172 (dk_at dksX0_meanPower_0 15 rfl rfl)
theorem dX0_meanPower_16 : decode cX0_meanPower 16 = .ok (.iconst 0, 1) := dk_3 (dk_at dksX0_meanPower_0 16 rfl rfl)
theorem dX0_meanPower_17 : decode cX0_meanPower 17 = .ok (.ireturn, 1) := dk_172 (dk_at dksX0_meanPower_0 17 rfl rfl)
abbrev cX0_crest : ByteArray := method_36_code
def yX0_crest : MethodName := ⟨RX0, "crest", "(LTrackArray;II[D)I"⟩
def dkwX0_crest_0 : List UInt8 := [45, 3, 42, 27, 28, 182, 0, 126, 141, 82, 167, 0, 7, 58, 4, 4, 172, 3, 172]
abbrev dktX0_crest_0 : List UInt8 := dkwX0_crest_0 ++ []
theorem dksX0_crest_0 : cX0_crest.data.toList.drop 0 = dktX0_crest_0 := by decide +kernel
theorem dX0_crest_0 : decode cX0_crest 0 = .ok (.aload_n 3, 1) := dk_45 (dk_at dksX0_crest_0 0 rfl rfl)
theorem dX0_crest_1 : decode cX0_crest 1 = .ok (.iconst 0, 1) := dk_3 (dk_at dksX0_crest_0 1 rfl rfl)
theorem dX0_crest_2 : decode cX0_crest 2 = .ok (.aload_n 0, 1) := dk_42 (dk_at dksX0_crest_0 2 rfl rfl)
theorem dX0_crest_3 : decode cX0_crest 3 = .ok (.iload_n 1, 1) := dk_27 (dk_at dksX0_crest_0 3 rfl rfl)
theorem dX0_crest_4 : decode cX0_crest 4 = .ok (.iload_n 2, 1) := dk_28 (dk_at dksX0_crest_0 4 rfl rfl)
theorem dX0_crest_5 : decode cX0_crest 5 = .ok (.invokevirtual 126, 3) := dk_182 0 126 (dk_at dksX0_crest_0 5 rfl rfl)
theorem dX0_crest_8 : decode cX0_crest 8 = .ok (.f2d, 1) := dk_141 (dk_at dksX0_crest_0 8 rfl rfl)
theorem dX0_crest_9 : decode cX0_crest 9 = .ok (.dastore, 1) := dk_82 (dk_at dksX0_crest_0 9 rfl rfl)
theorem dX0_crest_10 : decode cX0_crest 10 = .ok (.goto 7, 3) := dk_167 0 7 (dk_at dksX0_crest_0 10 rfl rfl)
theorem dX0_crest_13 : decode cX0_crest 13 = .ok (.astore 4, 2) := dk_58 4 (dk_at dksX0_crest_0 13 rfl rfl)
theorem dX0_crest_15 : decode cX0_crest 15 = .ok (.iconst 1, 1) := dk_4 (dk_at dksX0_crest_0 15 rfl rfl)
theorem dX0_crest_16 : decode cX0_crest 16 = .ok (.ireturn, 1) := dk_172 (dk_at dksX0_crest_0 16 rfl rfl)
theorem dX0_crest_17 : decode cX0_crest 17 = .ok (.iconst 0, 1) := dk_3 (dk_at dksX0_crest_0 17 rfl rfl)
theorem dX0_crest_18 : decode cX0_crest 18 = .ok (.ireturn, 1) := dk_172 (dk_at dksX0_crest_0 18 rfl rfl)
abbrev cX0_appendText : ByteArray := method_37_code
def yX0_appendText : MethodName := ⟨RX0, "appendText", "(LTrackArray;I[J)I"⟩
def dkwX0_appendText_0 : List UInt8 := [44, 3, 42, 27, 182, 0, 130, 133, 80, 167, 0, 6, 78, 4, 172, 3, 172]
abbrev dktX0_appendText_0 : List UInt8 := dkwX0_appendText_0 ++ []
theorem dksX0_appendText_0 : cX0_appendText.data.toList.drop 0 = dktX0_appendText_0 := by decide +kernel
theorem dX0_appendText_0 : decode cX0_appendText 0 = .ok (.aload_n 2, 1) := dk_44 (dk_at dksX0_appendText_0 0 rfl rfl)
theorem dX0_appendText_1 : decode cX0_appendText 1 = .ok (.iconst 0, 1) := dk_3 (dk_at dksX0_appendText_0 1 rfl rfl)
theorem dX0_appendText_2 : decode cX0_appendText 2 = .ok (.aload_n 0, 1) := dk_42 (dk_at dksX0_appendText_0 2 rfl rfl)
theorem dX0_appendText_3 : decode cX0_appendText 3 = .ok (.iload_n 1, 1) := dk_27 (dk_at dksX0_appendText_0 3 rfl rfl)
theorem dX0_appendText_4 : decode cX0_appendText 4 = .ok (.invokevirtual 130, 3) := dk_182 0 130 (dk_at dksX0_appendText_0 4 rfl rfl)
theorem dX0_appendText_7 : decode cX0_appendText 7 = .ok (.i2l, 1) := dk_133 (dk_at dksX0_appendText_0 7 rfl rfl)
theorem dX0_appendText_8 : decode cX0_appendText 8 = .ok (.lastore, 1) := dk_80 (dk_at dksX0_appendText_0 8 rfl rfl)
theorem dX0_appendText_9 : decode cX0_appendText 9 = .ok (.goto 6, 3) := dk_167 0 6 (dk_at dksX0_appendText_0 9 rfl rfl)
theorem dX0_appendText_12 : decode cX0_appendText 12 = .ok (.astore_n 3, 1) := dk_78 (dk_at dksX0_appendText_0 12 rfl rfl)
theorem dX0_appendText_13 : decode cX0_appendText 13 = .ok (.iconst 1, 1) := dk_4 (dk_at dksX0_appendText_0 13 rfl rfl)
theorem dX0_appendText_14 : decode cX0_appendText 14 = .ok (.ireturn, 1) := dk_172 (dk_at dksX0_appendText_0 14 rfl rfl)
theorem dX0_appendText_15 : decode cX0_appendText 15 = .ok (.iconst 0, 1) := dk_3 (dk_at dksX0_appendText_0 15 rfl rfl)
theorem dX0_appendText_16 : decode cX0_appendText 16 = .ok (.ireturn, 1) := dk_172 (dk_at dksX0_appendText_0 16 rfl rfl)
abbrev cX0_truncateText : ByteArray := method_38_code
def yX0_truncateText : MethodName := ⟨RX0, "truncateText", "(LTrackArray;I[J)I"⟩
def dkwX0_truncateText_0 : List UInt8 := [44, 3, 42, 27, 182, 0, 133, 133, 80, 167, 0, 6, 78, 4, 172, 3, 172]
abbrev dktX0_truncateText_0 : List UInt8 := dkwX0_truncateText_0 ++ []
theorem dksX0_truncateText_0 : cX0_truncateText.data.toList.drop 0 = dktX0_truncateText_0 := by decide +kernel
theorem dX0_truncateText_0 : decode cX0_truncateText 0 = .ok (.aload_n 2, 1) := dk_44 (dk_at dksX0_truncateText_0 0 rfl rfl)
theorem dX0_truncateText_1 : decode cX0_truncateText 1 = .ok (.iconst 0, 1) := dk_3 (dk_at dksX0_truncateText_0 1 rfl rfl)
theorem dX0_truncateText_2 : decode cX0_truncateText 2 = .ok (.aload_n 0, 1) := dk_42 (dk_at dksX0_truncateText_0 2 rfl rfl)
theorem dX0_truncateText_3 : decode cX0_truncateText 3 = .ok (.iload_n 1, 1) := dk_27 (dk_at dksX0_truncateText_0 3 rfl rfl)
theorem dX0_truncateText_4 : decode cX0_truncateText 4 = .ok (.invokevirtual 133, 3) := dk_182 0 133 (dk_at dksX0_truncateText_0 4 rfl rfl)
theorem dX0_truncateText_7 : decode cX0_truncateText 7 = .ok (.i2l, 1) := dk_133 (dk_at dksX0_truncateText_0 7 rfl rfl)
theorem dX0_truncateText_8 : decode cX0_truncateText 8 = .ok (.lastore, 1) := dk_80 (dk_at dksX0_truncateText_0 8 rfl rfl)
theorem dX0_truncateText_9 : decode cX0_truncateText 9 = .ok (.goto 6, 3) := dk_167 0 6 (dk_at dksX0_truncateText_0 9 rfl rfl)
theorem dX0_truncateText_12 : decode cX0_truncateText 12 = .ok (.astore_n 3, 1) := dk_78 (dk_at dksX0_truncateText_0 12 rfl rfl)
theorem dX0_truncateText_13 : decode cX0_truncateText 13 = .ok (.iconst 1, 1) := dk_4 (dk_at dksX0_truncateText_0 13 rfl rfl)
theorem dX0_truncateText_14 : decode cX0_truncateText 14 = .ok (.ireturn, 1) := dk_172 (dk_at dksX0_truncateText_0 14 rfl rfl)
theorem dX0_truncateText_15 : decode cX0_truncateText 15 = .ok (.iconst 0, 1) := dk_3 (dk_at dksX0_truncateText_0 15 rfl rfl)
theorem dX0_truncateText_16 : decode cX0_truncateText 16 = .ok (.ireturn, 1) := dk_172 (dk_at dksX0_truncateText_0 16 rfl rfl)
abbrev cX0_save : ByteArray := method_39_code
def yX0_save : MethodName := ⟨RX0, "save", "(LTrackArray;I)I"⟩
def dkwX0_save_0 : List UInt8 := [42, 27, 182, 0, 136, 167, 0, 6, 77, 4, 172, 3, 172]
abbrev dktX0_save_0 : List UInt8 := dkwX0_save_0 ++ []
theorem dksX0_save_0 : cX0_save.data.toList.drop 0 = dktX0_save_0 := by decide +kernel
theorem dX0_save_0 : decode cX0_save 0 = .ok (.aload_n 0, 1) := dk_42 (dk_at dksX0_save_0 0 rfl rfl)
theorem dX0_save_1 : decode cX0_save 1 = .ok (.iload_n 1, 1) := dk_27 (dk_at dksX0_save_0 1 rfl rfl)
theorem dX0_save_2 : decode cX0_save 2 = .ok (.invokevirtual 136, 3) := dk_182 0 136 (dk_at dksX0_save_0 2 rfl rfl)
theorem dX0_save_5 : decode cX0_save 5 = .ok (.goto 6, 3) := dk_167 0 6 (dk_at dksX0_save_0 5 rfl rfl)
theorem dX0_save_8 : decode cX0_save 8 = .ok (.astore_n 2, 1) := dk_77 (dk_at dksX0_save_0 8 rfl rfl)
theorem dX0_save_9 : decode cX0_save 9 = .ok (.iconst 1, 1) := dk_4 (dk_at dksX0_save_0 9 rfl rfl)
theorem dX0_save_10 : decode cX0_save 10 = .ok (.ireturn, 1) := dk_172 (dk_at dksX0_save_0 10 rfl rfl)
theorem dX0_save_11 : decode cX0_save 11 = .ok (.iconst 0, 1) := dk_3 (dk_at dksX0_save_0 11 rfl rfl)
theorem dX0_save_12 : decode cX0_save 12 = .ok (.ireturn, 1) := dk_172 (dk_at dksX0_save_0 12 rfl rfl)
abbrev cX0_restore : ByteArray := method_40_code
def yX0_restore : MethodName := ⟨RX0, "restore", "(LTrackArray;I)I"⟩
def dkwX0_restore_0 : List UInt8 := [42, 27, 182, 0, 139, 167, 0, 9, 77, 4, 172, 77, 5, 172, 3, 172]
abbrev dktX0_restore_0 : List UInt8 := dkwX0_restore_0 ++ []
theorem dksX0_restore_0 : cX0_restore.data.toList.drop 0 = dktX0_restore_0 := by decide +kernel
theorem dX0_restore_0 : decode cX0_restore 0 = .ok (.aload_n 0, 1) := dk_42 (dk_at dksX0_restore_0 0 rfl rfl)
theorem dX0_restore_1 : decode cX0_restore 1 = .ok (.iload_n 1, 1) := dk_27 (dk_at dksX0_restore_0 1 rfl rfl)
theorem dX0_restore_2 : decode cX0_restore 2 = .ok (.invokevirtual 139, 3) := dk_182 0 139 (dk_at dksX0_restore_0 2 rfl rfl)
theorem dX0_restore_5 : decode cX0_restore 5 = .ok (.goto 9, 3) := dk_167 0 9 (dk_at dksX0_restore_0 5 rfl rfl)
theorem dX0_restore_8 : decode cX0_restore 8 = .ok (.astore_n 2, 1) := dk_77 (dk_at dksX0_restore_0 8 rfl rfl)
theorem dX0_restore_9 : decode cX0_restore 9 = .ok (.iconst 1, 1) := dk_4 (dk_at dksX0_restore_0 9 rfl rfl)
theorem dX0_restore_10 : decode cX0_restore 10 = .ok (.ireturn, 1) := dk_172 (dk_at dksX0_restore_0 10 rfl rfl)
theorem dX0_restore_11 : decode cX0_restore 11 = .ok (.astore_n 2, 1) := dk_77 (dk_at dksX0_restore_0 11 rfl rfl)
theorem dX0_restore_12 : decode cX0_restore 12 = .ok (.iconst 2, 1) := dk_5 (dk_at dksX0_restore_0 12 rfl rfl)
theorem dX0_restore_13 : decode cX0_restore 13 = .ok (.ireturn, 1) := dk_172 (dk_at dksX0_restore_0 13 rfl rfl)
theorem dX0_restore_14 : decode cX0_restore 14 = .ok (.iconst 0, 1) := dk_3 (dk_at dksX0_restore_0 14 rfl rfl)
theorem dX0_restore_15 : decode cX0_restore 15 = .ok (.ireturn, 1) := dk_172 (dk_at dksX0_restore_0 15 rfl rfl)
theorem q82 : (Jvm.Cond.initialized "TrackArrayLaw") ∈ lw_all := lw_g (lw_at lw_m1 0 rfl) rfl
theorem q126 : (Jvm.Cond.classLink "TrackArrayLaw" (8 : Nat) "TrackArray") ∈ lw_all := lw_g (lw_at lw_m1 44 rfl) rfl
theorem q128 : (Jvm.Cond.methodLink "TrackArrayLaw" (142 : Nat) ({ cls := "TrackArray", name := "<init>", desc := "()V" } : Jvm.MethodName)) ∈ lw_all := lw_g (lw_at lw_m1 46 rfl) rfl
theorem q590 : (Jvm.Cond.methodLink "TrackArrayLaw" (159 : Nat) ({ cls := "TrackArray", name := "setSpreading", desc := "(Z)Z" } : Jvm.MethodName)) ∈ lw_all := lw_g (lw_at lw_m3 28 rfl) rfl
theorem q594 : (Jvm.Cond.methodLink "TrackArrayLaw" (203 : Nat) ({ cls := "TrackArray", name := "makeRecording", desc := "()I" } : Jvm.MethodName)) ∈ lw_all := lw_g (lw_at lw_m3 32 rfl) rfl
theorem q758 : (Jvm.Cond.methodLink "TrackArrayLaw" (236 : Nat) ({ cls := "TrackArray", name := "setCut", desc := "(Z)Z" } : Jvm.MethodName)) ∈ lw_all := lw_g (lw_at lw_m3 196 rfl) rfl
theorem q762 : (Jvm.Cond.methodLink "TrackArrayLaw" (283 : Nat) ({ cls := "TrackArray", name := "load", desc := "()I" } : Jvm.MethodName)) ∈ lw_all := lw_g (lw_at lw_m3 200 rfl) rfl
theorem q1202 : (Jvm.Cond.methodLink "TrackArrayLaw" (287 : Nat) ({ cls := "TrackArray", name := "errorCode", desc := "()I" } : Jvm.MethodName)) ∈ lw_all := lw_g (lw_at lw_m5 160 rfl) rfl
theorem q1206 : (Jvm.Cond.methodLink "TrackArrayLaw" (291 : Nat) ({ cls := "TrackArray", name := "errorPosition", desc := "()I" } : Jvm.MethodName)) ∈ lw_all := lw_g (lw_at lw_m5 164 rfl) rfl
theorem q1210 : (Jvm.Cond.methodLink "TrackArrayLaw" (146 : Nat) ({ cls := "TrackArrayLaw", name := "setSound", desc := "(LTrackArray;I[J)I" } : Jvm.MethodName)) ∈ lw_all := lw_g (lw_at lw_m5 168 rfl) rfl
theorem q1211 : (Jvm.Cond.static ({ cls := "TrackArrayLaw", name := "setSound", desc := "(LTrackArray;I[J)I" } : Jvm.MethodName)) ∈ lw_all := lw_g (lw_at lw_m5 169 rfl) rfl
theorem q1212 : (Jvm.Cond.codeWith ({ cls := "TrackArrayLaw", name := "setSound", desc := "(LTrackArray;I[J)I" } : Jvm.MethodName) method_3_code (4 : Nat) (Option.some Jvm.ClassFile.FieldType.int) [((0 : Nat), (9 : Nat), (12 : Nat), (13 : Nat))]) ∈ lw_all := lw_g (lw_at lw_m5 170 rfl) rfl
theorem q1213 : (Jvm.Cond.classLink "TrackArrayLaw" (13 : Nat) "java/lang/IllegalArgumentException") ∈ lw_all := lw_g (lw_at lw_m5 171 rfl) rfl
theorem q1214 : (Jvm.Cond.methodLink "TrackArrayLaw" (7 : Nat) ({ cls := "TrackArray", name := "setSound", desc := "(I)I" } : Jvm.MethodName)) ∈ lw_all := lw_g (lw_at lw_m5 172 rfl) rfl
theorem q1235 : (Jvm.Cond.methodLink "TrackArrayLaw" (156 : Nat) ({ cls := "TrackArrayLaw", name := "setGround", desc := "(LTrackArray;I[J)I" } : Jvm.MethodName)) ∈ lw_all := lw_g (lw_at lw_m5 193 rfl) rfl
theorem q1236 : (Jvm.Cond.static ({ cls := "TrackArrayLaw", name := "setGround", desc := "(LTrackArray;I[J)I" } : Jvm.MethodName)) ∈ lw_all := lw_g (lw_at lw_m5 194 rfl) rfl
theorem q1237 : (Jvm.Cond.codeWith ({ cls := "TrackArrayLaw", name := "setGround", desc := "(LTrackArray;I[J)I" } : Jvm.MethodName) method_4_code (4 : Nat) (Option.some Jvm.ClassFile.FieldType.int) [((0 : Nat), (9 : Nat), (12 : Nat), (13 : Nat))]) ∈ lw_all := lw_g (lw_at lw_m5 195 rfl) rfl
theorem q1238 : (Jvm.Cond.methodLink "TrackArrayLaw" (15 : Nat) ({ cls := "TrackArray", name := "setGround", desc := "(I)I" } : Jvm.MethodName)) ∈ lw_all := lw_g (lw_at lw_m5 196 rfl) rfl
theorem q1244 : (Jvm.Cond.methodLink "TrackArrayLaw" (164 : Nat) ({ cls := "TrackArrayLaw", name := "setNoise", desc := "(LTrackArray;II)I" } : Jvm.MethodName)) ∈ lw_all := lw_g (lw_at lw_m5 202 rfl) rfl
theorem q1245 : (Jvm.Cond.static ({ cls := "TrackArrayLaw", name := "setNoise", desc := "(LTrackArray;II)I" } : Jvm.MethodName)) ∈ lw_all := lw_g (lw_at lw_m5 203 rfl) rfl
theorem q1246 : (Jvm.Cond.codeWith ({ cls := "TrackArrayLaw", name := "setNoise", desc := "(LTrackArray;II)I" } : Jvm.MethodName) method_5_code (4 : Nat) (Option.some Jvm.ClassFile.FieldType.int) [((0 : Nat), (6 : Nat), (9 : Nat), (13 : Nat))]) ∈ lw_all := lw_g (lw_at lw_m5 204 rfl) rfl
theorem q1247 : (Jvm.Cond.methodLink "TrackArrayLaw" (18 : Nat) ({ cls := "TrackArray", name := "setNoise", desc := "(II)V" } : Jvm.MethodName)) ∈ lw_all := lw_g (lw_at lw_m5 205 rfl) rfl
theorem q1252 : (Jvm.Cond.methodLink "TrackArrayLaw" (168 : Nat) ({ cls := "TrackArrayLaw", name := "addVehicle", desc := "(LTrackArray;III[J)I" } : Jvm.MethodName)) ∈ lw_all := lw_g (lw_at lw_m5 210 rfl) rfl
theorem q1253 : (Jvm.Cond.static ({ cls := "TrackArrayLaw", name := "addVehicle", desc := "(LTrackArray;III[J)I" } : Jvm.MethodName)) ∈ lw_all := lw_g (lw_at lw_m5 211 rfl) rfl
theorem q1254 : (Jvm.Cond.codeWith ({ cls := "TrackArrayLaw", name := "addVehicle", desc := "(LTrackArray;III[J)I" } : Jvm.MethodName) method_6_code (6 : Nat) (Option.some Jvm.ClassFile.FieldType.int) [((0 : Nat), (12 : Nat), (15 : Nat), (13 : Nat)), ((0 : Nat), (12 : Nat), (19 : Nat), (26 : Nat))]) ∈ lw_all := lw_g (lw_at lw_m5 212 rfl) rfl
theorem q1255 : (Jvm.Cond.classLink "TrackArrayLaw" (26 : Nat) "java/lang/IllegalStateException") ∈ lw_all := lw_g (lw_at lw_m5 213 rfl) rfl
theorem q1256 : (Jvm.Cond.methodLink "TrackArrayLaw" (22 : Nat) ({ cls := "TrackArray", name := "addVehicle", desc := "(III)I" } : Jvm.MethodName)) ∈ lw_all := lw_g (lw_at lw_m5 214 rfl) rfl
theorem q1285 : (Jvm.Cond.methodLink "TrackArrayLaw" (172 : Nat) ({ cls := "TrackArrayLaw", name := "addSource", desc := "(LTrackArray;IIIII[J)I" } : Jvm.MethodName)) ∈ lw_all := lw_g (lw_at lw_m6 3 rfl) rfl
theorem q1286 : (Jvm.Cond.static ({ cls := "TrackArrayLaw", name := "addSource", desc := "(LTrackArray;IIIII[J)I" } : Jvm.MethodName)) ∈ lw_all := lw_g (lw_at lw_m6 4 rfl) rfl
theorem q1287 : (Jvm.Cond.codeWith ({ cls := "TrackArrayLaw", name := "addSource", desc := "(LTrackArray;IIIII[J)I" } : Jvm.MethodName) method_7_code (8 : Nat) (Option.some Jvm.ClassFile.FieldType.int) [((0 : Nat), (16 : Nat), (19 : Nat), (32 : Nat)), ((0 : Nat), (16 : Nat), (23 : Nat), (13 : Nat)), ((0 : Nat), (16 : Nat), (27 : Nat), (26 : Nat))]) ∈ lw_all := lw_g (lw_at lw_m6 5 rfl) rfl
theorem q1288 : (Jvm.Cond.classLink "TrackArrayLaw" (32 : Nat) "java/lang/IndexOutOfBoundsException") ∈ lw_all := lw_g (lw_at lw_m6 6 rfl) rfl
theorem q1307 : (Jvm.Cond.methodLink "TrackArrayLaw" (28 : Nat) ({ cls := "TrackArray", name := "addSource", desc := "(IIIII)I" } : Jvm.MethodName)) ∈ lw_all := lw_g (lw_at lw_m6 25 rfl) rfl
theorem q1340 : (Jvm.Cond.methodLink "TrackArrayLaw" (176 : Nat) ({ cls := "TrackArrayLaw", name := "addValue", desc := "(LTrackArray;II[J)I" } : Jvm.MethodName)) ∈ lw_all := lw_g (lw_at lw_m6 58 rfl) rfl
theorem q1341 : (Jvm.Cond.static ({ cls := "TrackArrayLaw", name := "addValue", desc := "(LTrackArray;II[J)I" } : Jvm.MethodName)) ∈ lw_all := lw_g (lw_at lw_m6 59 rfl) rfl
theorem q1342 : (Jvm.Cond.codeWith ({ cls := "TrackArrayLaw", name := "addValue", desc := "(LTrackArray;II[J)I" } : Jvm.MethodName) method_8_code (5 : Nat) (Option.some Jvm.ClassFile.FieldType.int) [((0 : Nat), (10 : Nat), (13 : Nat), (32 : Nat)), ((0 : Nat), (10 : Nat), (17 : Nat), (13 : Nat)), ((0 : Nat), (10 : Nat), (21 : Nat), (26 : Nat))]) ∈ lw_all := lw_g (lw_at lw_m6 60 rfl) rfl
theorem q1343 : (Jvm.Cond.methodLink "TrackArrayLaw" (34 : Nat) ({ cls := "TrackArray", name := "addValue", desc := "(II)I" } : Jvm.MethodName)) ∈ lw_all := lw_g (lw_at lw_m6 61 rfl) rfl
theorem q1354 : (Jvm.Cond.methodLink "TrackArrayLaw" (180 : Nat) ({ cls := "TrackArrayLaw", name := "addMicrophone", desc := "(LTrackArray;IIII[J)I" } : Jvm.MethodName)) ∈ lw_all := lw_g (lw_at lw_m6 72 rfl) rfl
theorem q1355 : (Jvm.Cond.static ({ cls := "TrackArrayLaw", name := "addMicrophone", desc := "(LTrackArray;IIII[J)I" } : Jvm.MethodName)) ∈ lw_all := lw_g (lw_at lw_m6 73 rfl) rfl
theorem q1356 : (Jvm.Cond.codeWith ({ cls := "TrackArrayLaw", name := "addMicrophone", desc := "(LTrackArray;IIII[J)I" } : Jvm.MethodName) method_9_code (7 : Nat) (Option.some Jvm.ClassFile.FieldType.int) [((0 : Nat), (14 : Nat), (17 : Nat), (13 : Nat)), ((0 : Nat), (14 : Nat), (21 : Nat), (26 : Nat))]) ∈ lw_all := lw_g (lw_at lw_m6 74 rfl) rfl
theorem q1357 : (Jvm.Cond.methodLink "TrackArrayLaw" (38 : Nat) ({ cls := "TrackArray", name := "addMicrophone", desc := "(IIII)I" } : Jvm.MethodName)) ∈ lw_all := lw_g (lw_at lw_m6 75 rfl) rfl
theorem q1368 : (Jvm.Cond.methodLink "TrackArrayLaw" (184 : Nat) ({ cls := "TrackArrayLaw", name := "setWeight", desc := "(LTrackArray;II[J)I" } : Jvm.MethodName)) ∈ lw_all := lw_g (lw_at lw_m6 86 rfl) rfl
theorem q1369 : (Jvm.Cond.static ({ cls := "TrackArrayLaw", name := "setWeight", desc := "(LTrackArray;II[J)I" } : Jvm.MethodName)) ∈ lw_all := lw_g (lw_at lw_m6 87 rfl) rfl
theorem q1370 : (Jvm.Cond.codeWith ({ cls := "TrackArrayLaw", name := "setWeight", desc := "(LTrackArray;II[J)I" } : Jvm.MethodName) method_10_code (5 : Nat) (Option.some Jvm.ClassFile.FieldType.int) [((0 : Nat), (10 : Nat), (13 : Nat), (32 : Nat)), ((0 : Nat), (10 : Nat), (17 : Nat), (13 : Nat))]) ∈ lw_all := lw_g (lw_at lw_m6 88 rfl) rfl
theorem q1371 : (Jvm.Cond.methodLink "TrackArrayLaw" (42 : Nat) ({ cls := "TrackArray", name := "setWeight", desc := "(II)I" } : Jvm.MethodName)) ∈ lw_all := lw_g (lw_at lw_m6 89 rfl) rfl
theorem q1380 : (Jvm.Cond.methodLink "TrackArrayLaw" (187 : Nat) ({ cls := "TrackArrayLaw", name := "count", desc := "(LTrackArray;I[J)I" } : Jvm.MethodName)) ∈ lw_all := lw_g (lw_at lw_m6 98 rfl) rfl
theorem q1381 : (Jvm.Cond.static ({ cls := "TrackArrayLaw", name := "count", desc := "(LTrackArray;I[J)I" } : Jvm.MethodName)) ∈ lw_all := lw_g (lw_at lw_m6 99 rfl) rfl
theorem q1382 : (Jvm.Cond.codeWith ({ cls := "TrackArrayLaw", name := "count", desc := "(LTrackArray;I[J)I" } : Jvm.MethodName) method_11_code (4 : Nat) (Option.some Jvm.ClassFile.FieldType.int) [((0 : Nat), (9 : Nat), (12 : Nat), (13 : Nat))]) ∈ lw_all := lw_g (lw_at lw_m6 100 rfl) rfl
theorem q1383 : (Jvm.Cond.methodLink "TrackArrayLaw" (45 : Nat) ({ cls := "TrackArray", name := "count", desc := "(I)I" } : Jvm.MethodName)) ∈ lw_all := lw_g (lw_at lw_m6 101 rfl) rfl
theorem q1388 : (Jvm.Cond.methodLink "TrackArrayLaw" (190 : Nat) ({ cls := "TrackArrayLaw", name := "emitted", desc := "(LTrackArray;II[J)I" } : Jvm.MethodName)) ∈ lw_all := lw_g (lw_at lw_m6 106 rfl) rfl
theorem q1389 : (Jvm.Cond.static ({ cls := "TrackArrayLaw", name := "emitted", desc := "(LTrackArray;II[J)I" } : Jvm.MethodName)) ∈ lw_all := lw_g (lw_at lw_m6 107 rfl) rfl
theorem q1390 : (Jvm.Cond.codeWith ({ cls := "TrackArrayLaw", name := "emitted", desc := "(LTrackArray;II[J)I" } : Jvm.MethodName) method_12_code (5 : Nat) (Option.some Jvm.ClassFile.FieldType.int) [((0 : Nat), (10 : Nat), (13 : Nat), (32 : Nat)), ((0 : Nat), (10 : Nat), (17 : Nat), (13 : Nat))]) ∈ lw_all := lw_g (lw_at lw_m6 108 rfl) rfl
theorem q1391 : (Jvm.Cond.methodLink "TrackArrayLaw" (48 : Nat) ({ cls := "TrackArray", name := "emitted", desc := "(II)I" } : Jvm.MethodName)) ∈ lw_all := lw_g (lw_at lw_m6 109 rfl) rfl
theorem q1400 : (Jvm.Cond.methodLink "TrackArrayLaw" (193 : Nat) ({ cls := "TrackArrayLaw", name := "distance", desc := "(LTrackArray;IIIZ[J)I" } : Jvm.MethodName)) ∈ lw_all := lw_g (lw_at lw_m6 118 rfl) rfl
theorem q1401 : (Jvm.Cond.static ({ cls := "TrackArrayLaw", name := "distance", desc := "(LTrackArray;IIIZ[J)I" } : Jvm.MethodName)) ∈ lw_all := lw_g (lw_at lw_m6 119 rfl) rfl
theorem q1402 : (Jvm.Cond.codeWith ({ cls := "TrackArrayLaw", name := "distance", desc := "(LTrackArray;IIIZ[J)I" } : Jvm.MethodName) method_13_code (7 : Nat) (Option.some Jvm.ClassFile.FieldType.int) [((0 : Nat), (14 : Nat), (17 : Nat), (32 : Nat)), ((0 : Nat), (14 : Nat), (21 : Nat), (13 : Nat))]) ∈ lw_all := lw_g (lw_at lw_m6 120 rfl) rfl
theorem q1403 : (Jvm.Cond.methodLink "TrackArrayLaw" (51 : Nat) ({ cls := "TrackArray", name := "distance", desc := "(IIIZ)I" } : Jvm.MethodName)) ∈ lw_all := lw_g (lw_at lw_m6 121 rfl) rfl
theorem q1409 : (Jvm.Cond.methodLink "TrackArrayLaw" (197 : Nat) ({ cls := "TrackArrayLaw", name := "emissionTime", desc := "(LTrackArray;IIIZ[J)I" } : Jvm.MethodName)) ∈ lw_all := lw_g (lw_at lw_m6 127 rfl) rfl
theorem q1410 : (Jvm.Cond.static ({ cls := "TrackArrayLaw", name := "emissionTime", desc := "(LTrackArray;IIIZ[J)I" } : Jvm.MethodName)) ∈ lw_all := lw_g (lw_at lw_m6 128 rfl) rfl
theorem q1411 : (Jvm.Cond.codeWith ({ cls := "TrackArrayLaw", name := "emissionTime", desc := "(LTrackArray;IIIZ[J)I" } : Jvm.MethodName) method_14_code (7 : Nat) (Option.some Jvm.ClassFile.FieldType.int) [((0 : Nat), (14 : Nat), (17 : Nat), (32 : Nat)), ((0 : Nat), (14 : Nat), (21 : Nat), (13 : Nat))]) ∈ lw_all := lw_g (lw_at lw_m6 129 rfl) rfl
theorem q1412 : (Jvm.Cond.methodLink "TrackArrayLaw" (55 : Nat) ({ cls := "TrackArray", name := "emissionTime", desc := "(IIIZ)I" } : Jvm.MethodName)) ∈ lw_all := lw_g (lw_at lw_m6 130 rfl) rfl
theorem q1417 : (Jvm.Cond.methodLink "TrackArrayLaw" (200 : Nat) ({ cls := "TrackArrayLaw", name := "passTime", desc := "(LTrackArray;II[J)I" } : Jvm.MethodName)) ∈ lw_all := lw_g (lw_at lw_m6 135 rfl) rfl
theorem q1418 : (Jvm.Cond.static ({ cls := "TrackArrayLaw", name := "passTime", desc := "(LTrackArray;II[J)I" } : Jvm.MethodName)) ∈ lw_all := lw_g (lw_at lw_m6 136 rfl) rfl
theorem q1419 : (Jvm.Cond.codeWith ({ cls := "TrackArrayLaw", name := "passTime", desc := "(LTrackArray;II[J)I" } : Jvm.MethodName) method_15_code (5 : Nat) (Option.some Jvm.ClassFile.FieldType.int) [((0 : Nat), (10 : Nat), (13 : Nat), (32 : Nat))]) ∈ lw_all := lw_g (lw_at lw_m6 137 rfl) rfl
theorem q1420 : (Jvm.Cond.methodLink "TrackArrayLaw" (58 : Nat) ({ cls := "TrackArray", name := "passTime", desc := "(II)I" } : Jvm.MethodName)) ∈ lw_all := lw_g (lw_at lw_m6 138 rfl) rfl
theorem q1433 : (Jvm.Cond.methodLink "TrackArrayLaw" (207 : Nat) ({ cls := "TrackArrayLaw", name := "sample", desc := "(LTrackArray;II[J)I" } : Jvm.MethodName)) ∈ lw_all := lw_g (lw_at lw_m6 151 rfl) rfl
theorem q1434 : (Jvm.Cond.static ({ cls := "TrackArrayLaw", name := "sample", desc := "(LTrackArray;II[J)I" } : Jvm.MethodName)) ∈ lw_all := lw_g (lw_at lw_m6 152 rfl) rfl
theorem q1435 : (Jvm.Cond.codeWith ({ cls := "TrackArrayLaw", name := "sample", desc := "(LTrackArray;II[J)I" } : Jvm.MethodName) method_16_code (5 : Nat) (Option.some Jvm.ClassFile.FieldType.int) [((0 : Nat), (10 : Nat), (13 : Nat), (32 : Nat)), ((0 : Nat), (10 : Nat), (17 : Nat), (13 : Nat))]) ∈ lw_all := lw_g (lw_at lw_m6 153 rfl) rfl
theorem q1436 : (Jvm.Cond.methodLink "TrackArrayLaw" (61 : Nat) ({ cls := "TrackArray", name := "sample", desc := "(II)I" } : Jvm.MethodName)) ∈ lw_all := lw_g (lw_at lw_m6 154 rfl) rfl
theorem q1440 : (Jvm.Cond.methodLink "TrackArrayLaw" (210 : Nat) ({ cls := "TrackArrayLaw", name := "measureRecord", desc := "(LTrackArray;IIII[J)I" } : Jvm.MethodName)) ∈ lw_all := lw_g (lw_at lw_m6 158 rfl) rfl
theorem q1441 : (Jvm.Cond.static ({ cls := "TrackArrayLaw", name := "measureRecord", desc := "(LTrackArray;IIII[J)I" } : Jvm.MethodName)) ∈ lw_all := lw_g (lw_at lw_m6 159 rfl) rfl
theorem q1442 : (Jvm.Cond.codeWith ({ cls := "TrackArrayLaw", name := "measureRecord", desc := "(LTrackArray;IIII[J)I" } : Jvm.MethodName) method_17_code (7 : Nat) (Option.some Jvm.ClassFile.FieldType.int) [((0 : Nat), (13 : Nat), (16 : Nat), (32 : Nat)), ((0 : Nat), (13 : Nat), (20 : Nat), (13 : Nat))]) ∈ lw_all := lw_g (lw_at lw_m6 160 rfl) rfl
theorem q1443 : (Jvm.Cond.methodLink "TrackArrayLaw" (64 : Nat) ({ cls := "TrackArray", name := "measureRecord", desc := "(IIII)J" } : Jvm.MethodName)) ∈ lw_all := lw_g (lw_at lw_m6 161 rfl) rfl
theorem q1522 : (Jvm.Cond.methodLink "TrackArrayLaw" (213 : Nat) ({ cls := "TrackArrayLaw", name := "loudestMicrophone", desc := "(LTrackArray;II[J)I" } : Jvm.MethodName)) ∈ lw_all := lw_g (lw_at lw_m7 0 rfl) rfl
theorem q1523 : (Jvm.Cond.static ({ cls := "TrackArrayLaw", name := "loudestMicrophone", desc := "(LTrackArray;II[J)I" } : Jvm.MethodName)) ∈ lw_all := lw_g (lw_at lw_m7 1 rfl) rfl
theorem q1524 : (Jvm.Cond.codeWith ({ cls := "TrackArrayLaw", name := "loudestMicrophone", desc := "(LTrackArray;II[J)I" } : Jvm.MethodName) method_18_code (5 : Nat) (Option.some Jvm.ClassFile.FieldType.int) [((0 : Nat), (10 : Nat), (13 : Nat), (13 : Nat))]) ∈ lw_all := lw_g (lw_at lw_m7 2 rfl) rfl
theorem q1525 : (Jvm.Cond.methodLink "TrackArrayLaw" (68 : Nat) ({ cls := "TrackArray", name := "loudestMicrophone", desc := "(II)I" } : Jvm.MethodName)) ∈ lw_all := lw_g (lw_at lw_m7 3 rfl) rfl
theorem q1531 : (Jvm.Cond.methodLink "TrackArrayLaw" (216 : Nat) ({ cls := "TrackArrayLaw", name := "loudestWindow", desc := "(LTrackArray;II[J)I" } : Jvm.MethodName)) ∈ lw_all := lw_g (lw_at lw_m7 9 rfl) rfl
theorem q1532 : (Jvm.Cond.static ({ cls := "TrackArrayLaw", name := "loudestWindow", desc := "(LTrackArray;II[J)I" } : Jvm.MethodName)) ∈ lw_all := lw_g (lw_at lw_m7 10 rfl) rfl
theorem q1533 : (Jvm.Cond.codeWith ({ cls := "TrackArrayLaw", name := "loudestWindow", desc := "(LTrackArray;II[J)I" } : Jvm.MethodName) method_19_code (5 : Nat) (Option.some Jvm.ClassFile.FieldType.int) [((0 : Nat), (10 : Nat), (13 : Nat), (32 : Nat)), ((0 : Nat), (10 : Nat), (17 : Nat), (13 : Nat))]) ∈ lw_all := lw_g (lw_at lw_m7 11 rfl) rfl
theorem q1534 : (Jvm.Cond.methodLink "TrackArrayLaw" (71 : Nat) ({ cls := "TrackArray", name := "loudestWindow", desc := "(II)I" } : Jvm.MethodName)) ∈ lw_all := lw_g (lw_at lw_m7 12 rfl) rfl
theorem q1541 : (Jvm.Cond.methodLink "TrackArrayLaw" (219 : Nat) ({ cls := "TrackArrayLaw", name := "correlation", desc := "(LTrackArray;III[J)I" } : Jvm.MethodName)) ∈ lw_all := lw_g (lw_at lw_m7 19 rfl) rfl
theorem q1542 : (Jvm.Cond.static ({ cls := "TrackArrayLaw", name := "correlation", desc := "(LTrackArray;III[J)I" } : Jvm.MethodName)) ∈ lw_all := lw_g (lw_at lw_m7 20 rfl) rfl
theorem q1543 : (Jvm.Cond.codeWith ({ cls := "TrackArrayLaw", name := "correlation", desc := "(LTrackArray;III[J)I" } : Jvm.MethodName) method_20_code (6 : Nat) (Option.some Jvm.ClassFile.FieldType.int) [((0 : Nat), (11 : Nat), (14 : Nat), (32 : Nat)), ((0 : Nat), (11 : Nat), (18 : Nat), (13 : Nat))]) ∈ lw_all := lw_g (lw_at lw_m7 21 rfl) rfl
theorem q1544 : (Jvm.Cond.methodLink "TrackArrayLaw" (74 : Nat) ({ cls := "TrackArray", name := "correlation", desc := "(III)J" } : Jvm.MethodName)) ∈ lw_all := lw_g (lw_at lw_m7 22 rfl) rfl
theorem q1558 : (Jvm.Cond.methodLink "TrackArrayLaw" (222 : Nat) ({ cls := "TrackArrayLaw", name := "bestLag", desc := "(LTrackArray;III[J)I" } : Jvm.MethodName)) ∈ lw_all := lw_g (lw_at lw_m7 36 rfl) rfl
theorem q1559 : (Jvm.Cond.static ({ cls := "TrackArrayLaw", name := "bestLag", desc := "(LTrackArray;III[J)I" } : Jvm.MethodName)) ∈ lw_all := lw_g (lw_at lw_m7 37 rfl) rfl
theorem q1560 : (Jvm.Cond.codeWith ({ cls := "TrackArrayLaw", name := "bestLag", desc := "(LTrackArray;III[J)I" } : Jvm.MethodName) method_21_code (6 : Nat) (Option.some Jvm.ClassFile.FieldType.int) [((0 : Nat), (12 : Nat), (15 : Nat), (32 : Nat)), ((0 : Nat), (12 : Nat), (19 : Nat), (13 : Nat))]) ∈ lw_all := lw_g (lw_at lw_m7 38 rfl) rfl
theorem q1561 : (Jvm.Cond.methodLink "TrackArrayLaw" (78 : Nat) ({ cls := "TrackArray", name := "bestLag", desc := "(III)I" } : Jvm.MethodName)) ∈ lw_all := lw_g (lw_at lw_m7 39 rfl) rfl
theorem q1574 : (Jvm.Cond.methodLink "TrackArrayLaw" (225 : Nat) ({ cls := "TrackArrayLaw", name := "focusOnVehicle", desc := "(LTrackArray;III)I" } : Jvm.MethodName)) ∈ lw_all := lw_g (lw_at lw_m7 52 rfl) rfl
theorem q1575 : (Jvm.Cond.static ({ cls := "TrackArrayLaw", name := "focusOnVehicle", desc := "(LTrackArray;III)I" } : Jvm.MethodName)) ∈ lw_all := lw_g (lw_at lw_m7 53 rfl) rfl
theorem q1576 : (Jvm.Cond.codeWith ({ cls := "TrackArrayLaw", name := "focusOnVehicle", desc := "(LTrackArray;III)I" } : Jvm.MethodName) method_22_code (5 : Nat) (Option.some Jvm.ClassFile.FieldType.int) [((0 : Nat), (7 : Nat), (10 : Nat), (32 : Nat)), ((0 : Nat), (7 : Nat), (14 : Nat), (13 : Nat))]) ∈ lw_all := lw_g (lw_at lw_m7 54 rfl) rfl
theorem q1577 : (Jvm.Cond.methodLink "TrackArrayLaw" (81 : Nat) ({ cls := "TrackArray", name := "focusOnVehicle", desc := "(III)V" } : Jvm.MethodName)) ∈ lw_all := lw_g (lw_at lw_m7 55 rfl) rfl
theorem q1583 : (Jvm.Cond.methodLink "TrackArrayLaw" (229 : Nat) ({ cls := "TrackArrayLaw", name := "focusOnPlace", desc := "(LTrackArray;III)I" } : Jvm.MethodName)) ∈ lw_all := lw_g (lw_at lw_m7 61 rfl) rfl
theorem q1584 : (Jvm.Cond.static ({ cls := "TrackArrayLaw", name := "focusOnPlace", desc := "(LTrackArray;III)I" } : Jvm.MethodName)) ∈ lw_all := lw_g (lw_at lw_m7 62 rfl) rfl
theorem q1585 : (Jvm.Cond.codeWith ({ cls := "TrackArrayLaw", name := "focusOnPlace", desc := "(LTrackArray;III)I" } : Jvm.MethodName) method_23_code (5 : Nat) (Option.some Jvm.ClassFile.FieldType.int) [((0 : Nat), (7 : Nat), (10 : Nat), (13 : Nat))]) ∈ lw_all := lw_g (lw_at lw_m7 63 rfl) rfl
theorem q1586 : (Jvm.Cond.methodLink "TrackArrayLaw" (85 : Nat) ({ cls := "TrackArray", name := "focusOnPlace", desc := "(III)V" } : Jvm.MethodName)) ∈ lw_all := lw_g (lw_at lw_m7 64 rfl) rfl
theorem q1592 : (Jvm.Cond.methodLink "TrackArrayLaw" (232 : Nat) ({ cls := "TrackArrayLaw", name := "focusOnDirection", desc := "(LTrackArray;I)I" } : Jvm.MethodName)) ∈ lw_all := lw_g (lw_at lw_m7 70 rfl) rfl
theorem q1593 : (Jvm.Cond.static ({ cls := "TrackArrayLaw", name := "focusOnDirection", desc := "(LTrackArray;I)I" } : Jvm.MethodName)) ∈ lw_all := lw_g (lw_at lw_m7 71 rfl) rfl
theorem q1594 : (Jvm.Cond.codeWith ({ cls := "TrackArrayLaw", name := "focusOnDirection", desc := "(LTrackArray;I)I" } : Jvm.MethodName) method_24_code (3 : Nat) (Option.some Jvm.ClassFile.FieldType.int) [((0 : Nat), (5 : Nat), (8 : Nat), (13 : Nat))]) ∈ lw_all := lw_g (lw_at lw_m7 72 rfl) rfl
theorem q1595 : (Jvm.Cond.methodLink "TrackArrayLaw" (88 : Nat) ({ cls := "TrackArray", name := "focusOnDirection", desc := "(I)V" } : Jvm.MethodName)) ∈ lw_all := lw_g (lw_at lw_m7 73 rfl) rfl
theorem q1612 : (Jvm.Cond.methodLink "TrackArrayLaw" (240 : Nat) ({ cls := "TrackArrayLaw", name := "sampleNumber", desc := "(LTrackArray;II[J)I" } : Jvm.MethodName)) ∈ lw_all := lw_g (lw_at lw_m7 90 rfl) rfl
theorem q1613 : (Jvm.Cond.static ({ cls := "TrackArrayLaw", name := "sampleNumber", desc := "(LTrackArray;II[J)I" } : Jvm.MethodName)) ∈ lw_all := lw_g (lw_at lw_m7 91 rfl) rfl
theorem q1614 : (Jvm.Cond.codeWith ({ cls := "TrackArrayLaw", name := "sampleNumber", desc := "(LTrackArray;II[J)I" } : Jvm.MethodName) method_25_code (5 : Nat) (Option.some Jvm.ClassFile.FieldType.int) [((0 : Nat), (10 : Nat), (13 : Nat), (32 : Nat)), ((0 : Nat), (10 : Nat), (17 : Nat), (13 : Nat))]) ∈ lw_all := lw_g (lw_at lw_m7 92 rfl) rfl
theorem q1615 : (Jvm.Cond.methodLink "TrackArrayLaw" (92 : Nat) ({ cls := "TrackArray", name := "sampleNumber", desc := "(II)I" } : Jvm.MethodName)) ∈ lw_all := lw_g (lw_at lw_m7 93 rfl) rfl
theorem q1632 : (Jvm.Cond.methodLink "TrackArrayLaw" (243 : Nat) ({ cls := "TrackArrayLaw", name := "part", desc := "(LTrackArray;II[J)I" } : Jvm.MethodName)) ∈ lw_all := lw_g (lw_at lw_m7 110 rfl) rfl
theorem q1633 : (Jvm.Cond.static ({ cls := "TrackArrayLaw", name := "part", desc := "(LTrackArray;II[J)I" } : Jvm.MethodName)) ∈ lw_all := lw_g (lw_at lw_m7 111 rfl) rfl
theorem q1634 : (Jvm.Cond.codeWith ({ cls := "TrackArrayLaw", name := "part", desc := "(LTrackArray;II[J)I" } : Jvm.MethodName) method_26_code (5 : Nat) (Option.some Jvm.ClassFile.FieldType.int) [((0 : Nat), (10 : Nat), (13 : Nat), (32 : Nat)), ((0 : Nat), (10 : Nat), (17 : Nat), (13 : Nat))]) ∈ lw_all := lw_g (lw_at lw_m7 112 rfl) rfl
theorem q1635 : (Jvm.Cond.methodLink "TrackArrayLaw" (95 : Nat) ({ cls := "TrackArray", name := "part", desc := "(II)I" } : Jvm.MethodName)) ∈ lw_all := lw_g (lw_at lw_m7 113 rfl) rfl
theorem q1650 : (Jvm.Cond.methodLink "TrackArrayLaw" (246 : Nat) ({ cls := "TrackArrayLaw", name := "beam", desc := "(LTrackArray;I[J)I" } : Jvm.MethodName)) ∈ lw_all := lw_g (lw_at lw_m7 128 rfl) rfl
theorem q1651 : (Jvm.Cond.static ({ cls := "TrackArrayLaw", name := "beam", desc := "(LTrackArray;I[J)I" } : Jvm.MethodName)) ∈ lw_all := lw_g (lw_at lw_m7 129 rfl) rfl
theorem q1652 : (Jvm.Cond.codeWith ({ cls := "TrackArrayLaw", name := "beam", desc := "(LTrackArray;I[J)I" } : Jvm.MethodName) method_27_code (4 : Nat) (Option.some Jvm.ClassFile.FieldType.int) [((0 : Nat), (9 : Nat), (12 : Nat), (13 : Nat))]) ∈ lw_all := lw_g (lw_at lw_m7 130 rfl) rfl
theorem q1653 : (Jvm.Cond.methodLink "TrackArrayLaw" (98 : Nat) ({ cls := "TrackArray", name := "beam", desc := "(I)I" } : Jvm.MethodName)) ∈ lw_all := lw_g (lw_at lw_m7 131 rfl) rfl
theorem q1665 : (Jvm.Cond.methodLink "TrackArrayLaw" (249 : Nat) ({ cls := "TrackArrayLaw", name := "measureBeam", desc := "(LTrackArray;III[J)I" } : Jvm.MethodName)) ∈ lw_all := lw_g (lw_at lw_m7 143 rfl) rfl
theorem q1666 : (Jvm.Cond.static ({ cls := "TrackArrayLaw", name := "measureBeam", desc := "(LTrackArray;III[J)I" } : Jvm.MethodName)) ∈ lw_all := lw_g (lw_at lw_m7 144 rfl) rfl
theorem q1667 : (Jvm.Cond.codeWith ({ cls := "TrackArrayLaw", name := "measureBeam", desc := "(LTrackArray;III[J)I" } : Jvm.MethodName) method_28_code (6 : Nat) (Option.some Jvm.ClassFile.FieldType.int) [((0 : Nat), (11 : Nat), (14 : Nat), (13 : Nat))]) ∈ lw_all := lw_g (lw_at lw_m7 145 rfl) rfl
theorem q1668 : (Jvm.Cond.methodLink "TrackArrayLaw" (101 : Nat) ({ cls := "TrackArray", name := "measureBeam", desc := "(III)J" } : Jvm.MethodName)) ∈ lw_all := lw_g (lw_at lw_m7 146 rfl) rfl
theorem q1675 : (Jvm.Cond.methodLink "TrackArrayLaw" (252 : Nat) ({ cls := "TrackArrayLaw", name := "periodPower", desc := "(LTrackArray;III[J)I" } : Jvm.MethodName)) ∈ lw_all := lw_g (lw_at lw_m7 153 rfl) rfl
theorem q1676 : (Jvm.Cond.static ({ cls := "TrackArrayLaw", name := "periodPower", desc := "(LTrackArray;III[J)I" } : Jvm.MethodName)) ∈ lw_all := lw_g (lw_at lw_m7 154 rfl) rfl
theorem q1677 : (Jvm.Cond.codeWith ({ cls := "TrackArrayLaw", name := "periodPower", desc := "(LTrackArray;III[J)I" } : Jvm.MethodName) method_29_code (6 : Nat) (Option.some Jvm.ClassFile.FieldType.int) [((0 : Nat), (11 : Nat), (14 : Nat), (13 : Nat))]) ∈ lw_all := lw_g (lw_at lw_m7 155 rfl) rfl
theorem q1678 : (Jvm.Cond.methodLink "TrackArrayLaw" (104 : Nat) ({ cls := "TrackArray", name := "periodPower", desc := "(III)J" } : Jvm.MethodName)) ∈ lw_all := lw_g (lw_at lw_m7 156 rfl) rfl
theorem q1689 : (Jvm.Cond.methodLink "TrackArrayLaw" (255 : Nat) ({ cls := "TrackArrayLaw", name := "bestPeriod", desc := "(LTrackArray;III[J)I" } : Jvm.MethodName)) ∈ lw_all := lw_g (lw_at lw_m7 167 rfl) rfl
theorem q1690 : (Jvm.Cond.static ({ cls := "TrackArrayLaw", name := "bestPeriod", desc := "(LTrackArray;III[J)I" } : Jvm.MethodName)) ∈ lw_all := lw_g (lw_at lw_m7 168 rfl) rfl
theorem q1691 : (Jvm.Cond.codeWith ({ cls := "TrackArrayLaw", name := "bestPeriod", desc := "(LTrackArray;III[J)I" } : Jvm.MethodName) method_30_code (6 : Nat) (Option.some Jvm.ClassFile.FieldType.int) [((0 : Nat), (12 : Nat), (15 : Nat), (13 : Nat))]) ∈ lw_all := lw_g (lw_at lw_m7 169 rfl) rfl
theorem q1692 : (Jvm.Cond.methodLink "TrackArrayLaw" (107 : Nat) ({ cls := "TrackArray", name := "bestPeriod", desc := "(III)I" } : Jvm.MethodName)) ∈ lw_all := lw_g (lw_at lw_m7 170 rfl) rfl
theorem q1699 : (Jvm.Cond.methodLink "TrackArrayLaw" (258 : Nat) ({ cls := "TrackArrayLaw", name := "energyBeside", desc := "(LTrackArray;III[J)I" } : Jvm.MethodName)) ∈ lw_all := lw_g (lw_at lw_m7 177 rfl) rfl
theorem q1700 : (Jvm.Cond.static ({ cls := "TrackArrayLaw", name := "energyBeside", desc := "(LTrackArray;III[J)I" } : Jvm.MethodName)) ∈ lw_all := lw_g (lw_at lw_m7 178 rfl) rfl
theorem q1701 : (Jvm.Cond.codeWith ({ cls := "TrackArrayLaw", name := "energyBeside", desc := "(LTrackArray;III[J)I" } : Jvm.MethodName) method_31_code (6 : Nat) (Option.some Jvm.ClassFile.FieldType.int) [((0 : Nat), (11 : Nat), (14 : Nat), (13 : Nat))]) ∈ lw_all := lw_g (lw_at lw_m7 179 rfl) rfl
theorem q1702 : (Jvm.Cond.methodLink "TrackArrayLaw" (110 : Nat) ({ cls := "TrackArray", name := "energyBeside", desc := "(III)J" } : Jvm.MethodName)) ∈ lw_all := lw_g (lw_at lw_m7 180 rfl) rfl
theorem q1743 : (Jvm.Cond.methodLink "TrackArrayLaw" (261 : Nat) ({ cls := "TrackArrayLaw", name := "scan", desc := "(LTrackArray;IIII[J)I" } : Jvm.MethodName)) ∈ lw_all := lw_g (lw_at lw_m7 221 rfl) rfl
theorem q1744 : (Jvm.Cond.static ({ cls := "TrackArrayLaw", name := "scan", desc := "(LTrackArray;IIII[J)I" } : Jvm.MethodName)) ∈ lw_all := lw_g (lw_at lw_m7 222 rfl) rfl
theorem q1745 : (Jvm.Cond.codeWith ({ cls := "TrackArrayLaw", name := "scan", desc := "(LTrackArray;IIII[J)I" } : Jvm.MethodName) method_32_code (7 : Nat) (Option.some Jvm.ClassFile.FieldType.int) [((0 : Nat), (14 : Nat), (17 : Nat), (13 : Nat))]) ∈ lw_all := lw_g (lw_at lw_m7 223 rfl) rfl
theorem q1746 : (Jvm.Cond.methodLink "TrackArrayLaw" (113 : Nat) ({ cls := "TrackArray", name := "scan", desc := "(IIII)I" } : Jvm.MethodName)) ∈ lw_all := lw_g (lw_at lw_m7 224 rfl) rfl
theorem q1754 : (Jvm.Cond.methodLink "TrackArrayLaw" (264 : Nat) ({ cls := "TrackArrayLaw", name := "bestDirection", desc := "(LTrackArray;III[J)I" } : Jvm.MethodName)) ∈ lw_all := lw_g (lw_at lw_m7 232 rfl) rfl
theorem q1755 : (Jvm.Cond.static ({ cls := "TrackArrayLaw", name := "bestDirection", desc := "(LTrackArray;III[J)I" } : Jvm.MethodName)) ∈ lw_all := lw_g (lw_at lw_m7 233 rfl) rfl
theorem q1756 : (Jvm.Cond.codeWith ({ cls := "TrackArrayLaw", name := "bestDirection", desc := "(LTrackArray;III[J)I" } : Jvm.MethodName) method_33_code (6 : Nat) (Option.some Jvm.ClassFile.FieldType.int) [((0 : Nat), (12 : Nat), (15 : Nat), (13 : Nat))]) ∈ lw_all := lw_g (lw_at lw_m7 234 rfl) rfl
theorem q1757 : (Jvm.Cond.methodLink "TrackArrayLaw" (116 : Nat) ({ cls := "TrackArray", name := "bestDirection", desc := "(III)I" } : Jvm.MethodName)) ∈ lw_all := lw_g (lw_at lw_m7 235 rfl) rfl
theorem q1761 : (Jvm.Cond.methodLink "TrackArrayLaw" (267 : Nat) ({ cls := "TrackArrayLaw", name := "spectrum", desc := "(LTrackArray;IIII[J)I" } : Jvm.MethodName)) ∈ lw_all := lw_g (lw_at lw_m7 239 rfl) rfl
theorem q1762 : (Jvm.Cond.static ({ cls := "TrackArrayLaw", name := "spectrum", desc := "(LTrackArray;IIII[J)I" } : Jvm.MethodName)) ∈ lw_all := lw_g (lw_at lw_m8 0 rfl) rfl
theorem q1763 : (Jvm.Cond.codeWith ({ cls := "TrackArrayLaw", name := "spectrum", desc := "(LTrackArray;IIII[J)I" } : Jvm.MethodName) method_34_code (7 : Nat) (Option.some Jvm.ClassFile.FieldType.int) [((0 : Nat), (13 : Nat), (16 : Nat), (13 : Nat))]) ∈ lw_all := lw_g (lw_at lw_m8 1 rfl) rfl
theorem q1764 : (Jvm.Cond.methodLink "TrackArrayLaw" (119 : Nat) ({ cls := "TrackArray", name := "spectrum", desc := "(IIII)J" } : Jvm.MethodName)) ∈ lw_all := lw_g (lw_at lw_m8 2 rfl) rfl
theorem q1768 : (Jvm.Cond.methodLink "TrackArrayLaw" (270 : Nat) ({ cls := "TrackArrayLaw", name := "meanPower", desc := "(LTrackArray;II[D)I" } : Jvm.MethodName)) ∈ lw_all := lw_g (lw_at lw_m8 6 rfl) rfl
theorem q1769 : (Jvm.Cond.static ({ cls := "TrackArrayLaw", name := "meanPower", desc := "(LTrackArray;II[D)I" } : Jvm.MethodName)) ∈ lw_all := lw_g (lw_at lw_m8 7 rfl) rfl
theorem q1770 : (Jvm.Cond.codeWith ({ cls := "TrackArrayLaw", name := "meanPower", desc := "(LTrackArray;II[D)I" } : Jvm.MethodName) method_35_code (5 : Nat) (Option.some Jvm.ClassFile.FieldType.int) [((0 : Nat), (9 : Nat), (12 : Nat), (13 : Nat))]) ∈ lw_all := lw_g (lw_at lw_m8 8 rfl) rfl
theorem q1771 : (Jvm.Cond.methodLink "TrackArrayLaw" (122 : Nat) ({ cls := "TrackArray", name := "meanPower", desc := "(II)D" } : Jvm.MethodName)) ∈ lw_all := lw_g (lw_at lw_m8 9 rfl) rfl
theorem q1778 : (Jvm.Cond.methodLink "TrackArrayLaw" (274 : Nat) ({ cls := "TrackArrayLaw", name := "crest", desc := "(LTrackArray;II[D)I" } : Jvm.MethodName)) ∈ lw_all := lw_g (lw_at lw_m8 16 rfl) rfl
theorem q1779 : (Jvm.Cond.static ({ cls := "TrackArrayLaw", name := "crest", desc := "(LTrackArray;II[D)I" } : Jvm.MethodName)) ∈ lw_all := lw_g (lw_at lw_m8 17 rfl) rfl
theorem q1780 : (Jvm.Cond.codeWith ({ cls := "TrackArrayLaw", name := "crest", desc := "(LTrackArray;II[D)I" } : Jvm.MethodName) method_36_code (5 : Nat) (Option.some Jvm.ClassFile.FieldType.int) [((0 : Nat), (10 : Nat), (13 : Nat), (13 : Nat))]) ∈ lw_all := lw_g (lw_at lw_m8 18 rfl) rfl
theorem q1781 : (Jvm.Cond.methodLink "TrackArrayLaw" (126 : Nat) ({ cls := "TrackArray", name := "crest", desc := "(II)F" } : Jvm.MethodName)) ∈ lw_all := lw_g (lw_at lw_m8 19 rfl) rfl
theorem q1787 : (Jvm.Cond.methodLink "TrackArrayLaw" (277 : Nat) ({ cls := "TrackArrayLaw", name := "appendText", desc := "(LTrackArray;I[J)I" } : Jvm.MethodName)) ∈ lw_all := lw_g (lw_at lw_m8 25 rfl) rfl
theorem q1788 : (Jvm.Cond.static ({ cls := "TrackArrayLaw", name := "appendText", desc := "(LTrackArray;I[J)I" } : Jvm.MethodName)) ∈ lw_all := lw_g (lw_at lw_m8 26 rfl) rfl
theorem q1789 : (Jvm.Cond.codeWith ({ cls := "TrackArrayLaw", name := "appendText", desc := "(LTrackArray;I[J)I" } : Jvm.MethodName) method_37_code (4 : Nat) (Option.some Jvm.ClassFile.FieldType.int) [((0 : Nat), (9 : Nat), (12 : Nat), (26 : Nat))]) ∈ lw_all := lw_g (lw_at lw_m8 27 rfl) rfl
theorem q1790 : (Jvm.Cond.methodLink "TrackArrayLaw" (130 : Nat) ({ cls := "TrackArray", name := "appendText", desc := "(I)I" } : Jvm.MethodName)) ∈ lw_all := lw_g (lw_at lw_m8 28 rfl) rfl
theorem q1794 : (Jvm.Cond.methodLink "TrackArrayLaw" (280 : Nat) ({ cls := "TrackArrayLaw", name := "truncateText", desc := "(LTrackArray;I[J)I" } : Jvm.MethodName)) ∈ lw_all := lw_g (lw_at lw_m8 32 rfl) rfl
theorem q1795 : (Jvm.Cond.static ({ cls := "TrackArrayLaw", name := "truncateText", desc := "(LTrackArray;I[J)I" } : Jvm.MethodName)) ∈ lw_all := lw_g (lw_at lw_m8 33 rfl) rfl
theorem q1796 : (Jvm.Cond.codeWith ({ cls := "TrackArrayLaw", name := "truncateText", desc := "(LTrackArray;I[J)I" } : Jvm.MethodName) method_38_code (4 : Nat) (Option.some Jvm.ClassFile.FieldType.int) [((0 : Nat), (9 : Nat), (12 : Nat), (13 : Nat))]) ∈ lw_all := lw_g (lw_at lw_m8 34 rfl) rfl
theorem q1797 : (Jvm.Cond.methodLink "TrackArrayLaw" (133 : Nat) ({ cls := "TrackArray", name := "truncateText", desc := "(I)I" } : Jvm.MethodName)) ∈ lw_all := lw_g (lw_at lw_m8 35 rfl) rfl
theorem q1801 : (Jvm.Cond.methodLink "TrackArrayLaw" (295 : Nat) ({ cls := "TrackArrayLaw", name := "save", desc := "(LTrackArray;I)I" } : Jvm.MethodName)) ∈ lw_all := lw_g (lw_at lw_m8 39 rfl) rfl
theorem q1802 : (Jvm.Cond.static ({ cls := "TrackArrayLaw", name := "save", desc := "(LTrackArray;I)I" } : Jvm.MethodName)) ∈ lw_all := lw_g (lw_at lw_m8 40 rfl) rfl
theorem q1803 : (Jvm.Cond.codeWith ({ cls := "TrackArrayLaw", name := "save", desc := "(LTrackArray;I)I" } : Jvm.MethodName) method_39_code (3 : Nat) (Option.some Jvm.ClassFile.FieldType.int) [((0 : Nat), (5 : Nat), (8 : Nat), (13 : Nat))]) ∈ lw_all := lw_g (lw_at lw_m8 41 rfl) rfl
theorem q1804 : (Jvm.Cond.methodLink "TrackArrayLaw" (136 : Nat) ({ cls := "TrackArray", name := "save", desc := "(I)V" } : Jvm.MethodName)) ∈ lw_all := lw_g (lw_at lw_m8 42 rfl) rfl
theorem q1847 : (Jvm.Cond.methodLink "TrackArrayLaw" (298 : Nat) ({ cls := "TrackArrayLaw", name := "restore", desc := "(LTrackArray;I)I" } : Jvm.MethodName)) ∈ lw_all := lw_g (lw_at lw_m8 85 rfl) rfl
theorem q1848 : (Jvm.Cond.static ({ cls := "TrackArrayLaw", name := "restore", desc := "(LTrackArray;I)I" } : Jvm.MethodName)) ∈ lw_all := lw_g (lw_at lw_m8 86 rfl) rfl
theorem q1849 : (Jvm.Cond.codeWith ({ cls := "TrackArrayLaw", name := "restore", desc := "(LTrackArray;I)I" } : Jvm.MethodName) method_40_code (3 : Nat) (Option.some Jvm.ClassFile.FieldType.int) [((0 : Nat), (5 : Nat), (8 : Nat), (13 : Nat)), ((0 : Nat), (5 : Nat), (11 : Nat), (26 : Nat))]) ∈ lw_all := lw_g (lw_at lw_m8 87 rfl) rfl
theorem q1850 : (Jvm.Cond.methodLink "TrackArrayLaw" (139 : Nat) ({ cls := "TrackArray", name := "restore", desc := "(I)V" } : Jvm.MethodName)) ∈ lw_all := lw_g (lw_at lw_m8 88 rfl) rfl
theorem q1854 : (Jvm.Cond.classLink "TrackArrayLaw" (143 : Nat) "TrackArrayModel") ∈ lw_all := lw_g (lw_at lw_m8 92 rfl) rfl
theorem q1856 : (Jvm.Cond.methodLink "TrackArrayLaw" (145 : Nat) ({ cls := "TrackArrayModel", name := "<init>", desc := "()V" } : Jvm.MethodName)) ∈ lw_all := lw_g (lw_at lw_m8 94 rfl) rfl
theorem q1926 : (Jvm.Cond.methodLink "TrackArrayLaw" (152 : Nat) ({ cls := "TrackArrayModel", name := "thrown", desc := "()I" } : Jvm.MethodName)) ∈ lw_all := lw_g (lw_at lw_m8 164 rfl) rfl
theorem q1930 : (Jvm.Cond.methodLink "TrackArrayLaw" (151 : Nat) ({ cls := "TrackArrayModel", name := "setSound", desc := "(I)I" } : Jvm.MethodName)) ∈ lw_all := lw_g (lw_at lw_m8 168 rfl) rfl
theorem q1945 : (Jvm.Cond.methodLink "TrackArrayLaw" (158 : Nat) ({ cls := "TrackArrayModel", name := "setGround", desc := "(I)I" } : Jvm.MethodName)) ∈ lw_all := lw_g (lw_at lw_m8 183 rfl) rfl
theorem q1949 : (Jvm.Cond.methodLink "TrackArrayLaw" (163 : Nat) ({ cls := "TrackArrayModel", name := "setSpreading", desc := "(Z)Z" } : Jvm.MethodName)) ∈ lw_all := lw_g (lw_at lw_m8 187 rfl) rfl
theorem q1953 : (Jvm.Cond.methodLink "TrackArrayLaw" (167 : Nat) ({ cls := "TrackArrayModel", name := "setNoise", desc := "(II)V" } : Jvm.MethodName)) ∈ lw_all := lw_g (lw_at lw_m8 191 rfl) rfl
theorem q1957 : (Jvm.Cond.methodLink "TrackArrayLaw" (171 : Nat) ({ cls := "TrackArrayModel", name := "addVehicle", desc := "(III)I" } : Jvm.MethodName)) ∈ lw_all := lw_g (lw_at lw_m8 195 rfl) rfl
theorem q1968 : (Jvm.Cond.methodLink "TrackArrayLaw" (175 : Nat) ({ cls := "TrackArrayModel", name := "addSource", desc := "(IIIII)I" } : Jvm.MethodName)) ∈ lw_all := lw_g (lw_at lw_m8 206 rfl) rfl
theorem q1993 : (Jvm.Cond.methodLink "TrackArrayLaw" (179 : Nat) ({ cls := "TrackArrayModel", name := "addValue", desc := "(II)I" } : Jvm.MethodName)) ∈ lw_all := lw_g (lw_at lw_m8 231 rfl) rfl
theorem q2005 : (Jvm.Cond.methodLink "TrackArrayLaw" (183 : Nat) ({ cls := "TrackArrayModel", name := "addMicrophone", desc := "(IIII)I" } : Jvm.MethodName)) ∈ lw_all := lw_g (lw_at lw_m9 3 rfl) rfl
theorem q2016 : (Jvm.Cond.methodLink "TrackArrayLaw" (186 : Nat) ({ cls := "TrackArrayModel", name := "setWeight", desc := "(II)I" } : Jvm.MethodName)) ∈ lw_all := lw_g (lw_at lw_m9 14 rfl) rfl
theorem q2024 : (Jvm.Cond.methodLink "TrackArrayLaw" (189 : Nat) ({ cls := "TrackArrayModel", name := "count", desc := "(I)I" } : Jvm.MethodName)) ∈ lw_all := lw_g (lw_at lw_m9 22 rfl) rfl
theorem q2028 : (Jvm.Cond.methodLink "TrackArrayLaw" (192 : Nat) ({ cls := "TrackArrayModel", name := "emitted", desc := "(II)I" } : Jvm.MethodName)) ∈ lw_all := lw_g (lw_at lw_m9 26 rfl) rfl
theorem q2039 : (Jvm.Cond.methodLink "TrackArrayLaw" (196 : Nat) ({ cls := "TrackArrayModel", name := "distance", desc := "(IIIZ)I" } : Jvm.MethodName)) ∈ lw_all := lw_g (lw_at lw_m9 37 rfl) rfl
theorem q2072 : (Jvm.Cond.methodLink "TrackArrayLaw" (199 : Nat) ({ cls := "TrackArrayModel", name := "emissionTime", desc := "(IIIZ)I" } : Jvm.MethodName)) ∈ lw_all := lw_g (lw_at lw_m9 70 rfl) rfl
theorem q2084 : (Jvm.Cond.methodLink "TrackArrayLaw" (202 : Nat) ({ cls := "TrackArrayModel", name := "passTime", desc := "(II)I" } : Jvm.MethodName)) ∈ lw_all := lw_g (lw_at lw_m9 82 rfl) rfl
theorem q2089 : (Jvm.Cond.methodLink "TrackArrayLaw" (206 : Nat) ({ cls := "TrackArrayModel", name := "makeRecording", desc := "()I" } : Jvm.MethodName)) ∈ lw_all := lw_g (lw_at lw_m9 87 rfl) rfl
theorem q2113 : (Jvm.Cond.methodLink "TrackArrayLaw" (209 : Nat) ({ cls := "TrackArrayModel", name := "sample", desc := "(II)I" } : Jvm.MethodName)) ∈ lw_all := lw_g (lw_at lw_m9 111 rfl) rfl
theorem q2121 : (Jvm.Cond.methodLink "TrackArrayLaw" (212 : Nat) ({ cls := "TrackArrayModel", name := "measureRecord", desc := "(IIII)J" } : Jvm.MethodName)) ∈ lw_all := lw_g (lw_at lw_m9 119 rfl) rfl
theorem q2159 : (Jvm.Cond.methodLink "TrackArrayLaw" (215 : Nat) ({ cls := "TrackArrayModel", name := "loudestMicrophone", desc := "(II)I" } : Jvm.MethodName)) ∈ lw_all := lw_g (lw_at lw_m9 157 rfl) rfl
theorem q2163 : (Jvm.Cond.methodLink "TrackArrayLaw" (218 : Nat) ({ cls := "TrackArrayModel", name := "loudestWindow", desc := "(II)I" } : Jvm.MethodName)) ∈ lw_all := lw_g (lw_at lw_m9 161 rfl) rfl
theorem q2168 : (Jvm.Cond.methodLink "TrackArrayLaw" (221 : Nat) ({ cls := "TrackArrayModel", name := "correlation", desc := "(III)J" } : Jvm.MethodName)) ∈ lw_all := lw_g (lw_at lw_m9 166 rfl) rfl
theorem q2176 : (Jvm.Cond.methodLink "TrackArrayLaw" (224 : Nat) ({ cls := "TrackArrayModel", name := "bestLag", desc := "(III)I" } : Jvm.MethodName)) ∈ lw_all := lw_g (lw_at lw_m9 174 rfl) rfl
theorem q2180 : (Jvm.Cond.methodLink "TrackArrayLaw" (228 : Nat) ({ cls := "TrackArrayModel", name := "focusOnVehicle", desc := "(III)V" } : Jvm.MethodName)) ∈ lw_all := lw_g (lw_at lw_m9 178 rfl) rfl
theorem q2188 : (Jvm.Cond.methodLink "TrackArrayLaw" (231 : Nat) ({ cls := "TrackArrayModel", name := "focusOnPlace", desc := "(III)V" } : Jvm.MethodName)) ∈ lw_all := lw_g (lw_at lw_m9 186 rfl) rfl
theorem q2192 : (Jvm.Cond.methodLink "TrackArrayLaw" (235 : Nat) ({ cls := "TrackArrayModel", name := "focusOnDirection", desc := "(I)V" } : Jvm.MethodName)) ∈ lw_all := lw_g (lw_at lw_m9 190 rfl) rfl
theorem q2196 : (Jvm.Cond.methodLink "TrackArrayLaw" (239 : Nat) ({ cls := "TrackArrayModel", name := "setCut", desc := "(Z)Z" } : Jvm.MethodName)) ∈ lw_all := lw_g (lw_at lw_m9 194 rfl) rfl
theorem q2200 : (Jvm.Cond.methodLink "TrackArrayLaw" (242 : Nat) ({ cls := "TrackArrayModel", name := "sampleNumber", desc := "(II)I" } : Jvm.MethodName)) ∈ lw_all := lw_g (lw_at lw_m9 198 rfl) rfl
theorem q2217 : (Jvm.Cond.methodLink "TrackArrayLaw" (245 : Nat) ({ cls := "TrackArrayModel", name := "part", desc := "(II)I" } : Jvm.MethodName)) ∈ lw_all := lw_g (lw_at lw_m9 215 rfl) rfl
theorem q2235 : (Jvm.Cond.methodLink "TrackArrayLaw" (248 : Nat) ({ cls := "TrackArrayModel", name := "beam", desc := "(I)I" } : Jvm.MethodName)) ∈ lw_all := lw_g (lw_at lw_m9 233 rfl) rfl
theorem q2251 : (Jvm.Cond.methodLink "TrackArrayLaw" (251 : Nat) ({ cls := "TrackArrayModel", name := "measureBeam", desc := "(III)J" } : Jvm.MethodName)) ∈ lw_all := lw_g (lw_at lw_m10 9 rfl) rfl
theorem q2255 : (Jvm.Cond.methodLink "TrackArrayLaw" (254 : Nat) ({ cls := "TrackArrayModel", name := "periodPower", desc := "(III)J" } : Jvm.MethodName)) ∈ lw_all := lw_g (lw_at lw_m10 13 rfl) rfl
theorem q2266 : (Jvm.Cond.methodLink "TrackArrayLaw" (257 : Nat) ({ cls := "TrackArrayModel", name := "bestPeriod", desc := "(III)I" } : Jvm.MethodName)) ∈ lw_all := lw_g (lw_at lw_m10 24 rfl) rfl
theorem q2274 : (Jvm.Cond.methodLink "TrackArrayLaw" (260 : Nat) ({ cls := "TrackArrayModel", name := "energyBeside", desc := "(III)J" } : Jvm.MethodName)) ∈ lw_all := lw_g (lw_at lw_m10 32 rfl) rfl
theorem q2282 : (Jvm.Cond.methodLink "TrackArrayLaw" (263 : Nat) ({ cls := "TrackArrayModel", name := "scan", desc := "(IIII)I" } : Jvm.MethodName)) ∈ lw_all := lw_g (lw_at lw_m10 40 rfl) rfl
theorem q2286 : (Jvm.Cond.methodLink "TrackArrayLaw" (266 : Nat) ({ cls := "TrackArrayModel", name := "bestDirection", desc := "(III)I" } : Jvm.MethodName)) ∈ lw_all := lw_g (lw_at lw_m10 44 rfl) rfl
theorem q2294 : (Jvm.Cond.methodLink "TrackArrayLaw" (269 : Nat) ({ cls := "TrackArrayModel", name := "spectrum", desc := "(IIII)J" } : Jvm.MethodName)) ∈ lw_all := lw_g (lw_at lw_m10 52 rfl) rfl
theorem q2298 : (Jvm.Cond.methodLink "TrackArrayLaw" (273 : Nat) ({ cls := "TrackArrayModel", name := "meanPower", desc := "(II)D" } : Jvm.MethodName)) ∈ lw_all := lw_g (lw_at lw_m10 56 rfl) rfl
theorem q2306 : (Jvm.Cond.methodLink "TrackArrayLaw" (276 : Nat) ({ cls := "TrackArrayModel", name := "crest", desc := "(II)F" } : Jvm.MethodName)) ∈ lw_all := lw_g (lw_at lw_m10 64 rfl) rfl
theorem q2310 : (Jvm.Cond.methodLink "TrackArrayLaw" (279 : Nat) ({ cls := "TrackArrayModel", name := "appendText", desc := "(I)I" } : Jvm.MethodName)) ∈ lw_all := lw_g (lw_at lw_m10 68 rfl) rfl
theorem q2314 : (Jvm.Cond.methodLink "TrackArrayLaw" (282 : Nat) ({ cls := "TrackArrayModel", name := "truncateText", desc := "(I)I" } : Jvm.MethodName)) ∈ lw_all := lw_g (lw_at lw_m10 72 rfl) rfl
theorem q2318 : (Jvm.Cond.methodLink "TrackArrayLaw" (286 : Nat) ({ cls := "TrackArrayModel", name := "load", desc := "()I" } : Jvm.MethodName)) ∈ lw_all := lw_g (lw_at lw_m10 76 rfl) rfl
theorem q2396 : (Jvm.Cond.methodLink "TrackArrayLaw" (290 : Nat) ({ cls := "TrackArrayModel", name := "errorCode", desc := "()I" } : Jvm.MethodName)) ∈ lw_all := lw_g (lw_at lw_m10 154 rfl) rfl
theorem q2400 : (Jvm.Cond.methodLink "TrackArrayLaw" (294 : Nat) ({ cls := "TrackArrayModel", name := "errorPosition", desc := "()I" } : Jvm.MethodName)) ∈ lw_all := lw_g (lw_at lw_m10 158 rfl) rfl
theorem q2404 : (Jvm.Cond.methodLink "TrackArrayLaw" (297 : Nat) ({ cls := "TrackArrayModel", name := "save", desc := "(I)V" } : Jvm.MethodName)) ∈ lw_all := lw_g (lw_at lw_m10 162 rfl) rfl
theorem q2408 : (Jvm.Cond.methodLink "TrackArrayLaw" (300 : Nat) ({ cls := "TrackArrayModel", name := "restore", desc := "(I)V" } : Jvm.MethodName)) ∈ lw_all := lw_g (lw_at lw_m10 166 rfl) rfl
/-! TrackArray$Track -/
set_option maxRecDepth 100000
def RX2 : String := "TrackArray$Track"
def TX2 : u_T := fun k => match k with
  | 0 => ("TrackArray$Track", "vehicles", "Ljava/util/ArrayList;", true)
  | 1 => ("TrackArray$Track", "sources", "Ljava/util/ArrayList;", true)
  | 2 => ("TrackArray$Track", "microphones", "Ljava/util/ArrayList;", true)
  | 3 => ("TrackArray$Track", "sound", "I", false)
  | 4 => ("TrackArray$Track", "ground", "I", false)
  | 5 => ("TrackArray$Track", "spreads", "Z", false)
  | 6 => ("TrackArray$Track", "random", "J", false)
  | 7 => ("TrackArray$Track", "noise", "I", false)
  | 8 => ("TrackArray$Track", "recordings", "I", false)
  | 9 => ("TrackArray$Track", "focus", "LTrackArray$Focus;", false)
  | 10 => ("TrackArray$Track", "cuts", "Z", false)
  | 11 => ("TrackArray$Track", "parts", "[I", true)
  | _ => ("TrackArray$Track", "sums", "[J", true)
def tyX2 : Nat → FieldType := fun k => match k with
  | 0 => .object "java/util/ArrayList"
  | 1 => .object "java/util/ArrayList"
  | 2 => .object "java/util/ArrayList"
  | 3 => .int
  | 4 => .int
  | 5 => .boolean
  | 6 => .long
  | 7 => .int
  | 8 => .int
  | 9 => .object "TrackArray$Focus"
  | 10 => .boolean
  | 11 => .array .int
  | _ => .array .long
abbrev wsX20 : List Cond := u_ws RX2 TX2 13
set_option maxRecDepth 100000 in
theorem nmX2 : ∀ a, a < 13 → ∀ b, b < 13 → a ≠ b → (TX2 a).2.1 ≠ (TX2 b).2.1 := by decide +kernel
set_option maxRecDepth 100000 in
theorem tyX2_ok : ∀ k, k < 13 → parseFieldDescriptor (TX2 k).2.2.1 = some (tyX2 k) := by decide +kernel
abbrev cX2_init : ByteArray := prog_19_method_1_code
def yX2_init : MethodName := ⟨RX2, "<init>", "()V"⟩
def dkwX2_init_3 : List UInt8 := [17, 1, 0, 188, 10, 181, 0, 43, 42, 17, 1, 0, 188, 11, 181, 0, 47, 177]
abbrev dktX2_init_3 : List UInt8 := dkwX2_init_3 ++ []
def dkwX2_init_2 : List UInt8 := [181, 0, 26, 42, 10, 181, 0, 30, 42, 187, 0, 34, 89, 3, 16, 100, 3, 183, 0, 36, 181, 0, 39, 42]
abbrev dktX2_init_2 : List UInt8 := dkwX2_init_2 ++ dktX2_init_3
def dkwX2_init_1 : List UInt8 := [183, 0, 11, 181, 0, 20, 42, 187, 0, 9, 89, 7, 183, 0, 11, 181, 0, 23, 42, 17, 1, 84]
abbrev dktX2_init_1 : List UInt8 := dkwX2_init_1 ++ dktX2_init_2
def dkwX2_init_0 : List UInt8 := [42, 183, 0, 3, 42, 187, 0, 9, 89, 5, 183, 0, 11, 181, 0, 14, 42, 187, 0, 9, 89, 5]
abbrev dktX2_init_0 : List UInt8 := dkwX2_init_0 ++ dktX2_init_1
theorem dksX2_init_0 : cX2_init.data.toList.drop 0 = dktX2_init_0 := by decide +kernel
theorem dksX2_init_1 : cX2_init.data.toList.drop 22 = dktX2_init_1 := dk_seg dksX2_init_0 22 rfl rfl
theorem dksX2_init_2 : cX2_init.data.toList.drop 44 = dktX2_init_2 := dk_seg dksX2_init_1 22 rfl rfl
theorem dksX2_init_3 : cX2_init.data.toList.drop 68 = dktX2_init_3 := dk_seg dksX2_init_2 24 rfl rfl
theorem dX2_init_0 : decode cX2_init 0 = .ok (.aload_n 0, 1) := dk_42 (dk_at dksX2_init_0 0 rfl rfl)
theorem dX2_init_1 : decode cX2_init 1 = .ok (.invokespecial 3, 3) := dk_183 0 3 (dk_at dksX2_init_0 1 rfl rfl)
theorem dX2_init_4 : decode cX2_init 4 = .ok (.aload_n 0, 1) := dk_42 (dk_at dksX2_init_0 4 rfl rfl)
theorem dX2_init_5 : decode cX2_init 5 = .ok (.new 9, 3) := dk_187 0 9 (dk_at dksX2_init_0 5 rfl rfl)
theorem dX2_init_8 : decode cX2_init 8 = .ok (.dup, 1) := dk_89 (dk_at dksX2_init_0 8 rfl rfl)
theorem dX2_init_9 : decode cX2_init 9 = .ok (.iconst 2, 1) := dk_5 (dk_at dksX2_init_0 9 rfl rfl)
theorem dX2_init_10 : decode cX2_init 10 = .ok (.invokespecial 11, 3) := dk_183 0 11 (dk_at dksX2_init_0 10 rfl rfl)
theorem dX2_init_13 : decode cX2_init 13 = .ok (.putfield 14, 3) := dk_181 0 14 (dk_at dksX2_init_0 13 rfl rfl)
theorem dX2_init_16 : decode cX2_init 16 = .ok (.aload_n 0, 1) := dk_42 (dk_at dksX2_init_0 16 rfl rfl)
theorem dX2_init_17 : decode cX2_init 17 = .ok (.new 9, 3) := dk_187 0 9 (dk_at dksX2_init_0 17 rfl rfl)
theorem dX2_init_20 : decode cX2_init 20 = .ok (.dup, 1) := dk_89 (dk_at dksX2_init_0 20 rfl rfl)
theorem dX2_init_21 : decode cX2_init 21 = .ok (.iconst 2, 1) := dk_5 (dk_at dksX2_init_0 21 rfl rfl)
theorem dX2_init_22 : decode cX2_init 22 = .ok (.invokespecial 11, 3) := dk_183 0 11 (dk_at dksX2_init_1 0 rfl rfl)
theorem dX2_init_25 : decode cX2_init 25 = .ok (.putfield 20, 3) := dk_181 0 20 (dk_at dksX2_init_1 3 rfl rfl)
theorem dX2_init_28 : decode cX2_init 28 = .ok (.aload_n 0, 1) := dk_42 (dk_at dksX2_init_1 6 rfl rfl)
theorem dX2_init_29 : decode cX2_init 29 = .ok (.new 9, 3) := dk_187 0 9 (dk_at dksX2_init_1 7 rfl rfl)
theorem dX2_init_32 : decode cX2_init 32 = .ok (.dup, 1) := dk_89 (dk_at dksX2_init_1 10 rfl rfl)
theorem dX2_init_33 : decode cX2_init 33 = .ok (.iconst 4, 1) := dk_7 (dk_at dksX2_init_1 11 rfl rfl)
theorem dX2_init_34 : decode cX2_init 34 = .ok (.invokespecial 11, 3) := dk_183 0 11 (dk_at dksX2_init_1 12 rfl rfl)
theorem dX2_init_37 : decode cX2_init 37 = .ok (.putfield 23, 3) := dk_181 0 23 (dk_at dksX2_init_1 15 rfl rfl)
theorem dX2_init_40 : decode cX2_init 40 = .ok (.aload_n 0, 1) := dk_42 (dk_at dksX2_init_1 18 rfl rfl)
theorem dX2_init_41 : decode cX2_init 41 = .ok (.sipush 340, 3) := dk_17 1 84 (dk_at dksX2_init_1 19 rfl rfl)
theorem dX2_init_44 : decode cX2_init 44 = .ok (.putfield 26, 3) := dk_181 0 26 (dk_at dksX2_init_2 0 rfl rfl)
theorem dX2_init_47 : decode cX2_init 47 = .ok (.aload_n 0, 1) := dk_42 (dk_at dksX2_init_2 3 rfl rfl)
theorem dX2_init_48 : decode cX2_init 48 = .ok (.lconst 1, 1) := dk_10 (dk_at dksX2_init_2 4 rfl rfl)
theorem dX2_init_49 : decode cX2_init 49 = .ok (.putfield 30, 3) := dk_181 0 30 (dk_at dksX2_init_2 5 rfl rfl)
theorem dX2_init_52 : decode cX2_init 52 = .ok (.aload_n 0, 1) := dk_42 (dk_at dksX2_init_2 8 rfl rfl)
theorem dX2_init_53 : decode cX2_init 53 = .ok (.new 34, 3) := dk_187 0 34 (dk_at dksX2_init_2 9 rfl rfl)
theorem dX2_init_56 : decode cX2_init 56 = .ok (.dup, 1) := dk_89 (dk_at dksX2_init_2 12 rfl rfl)
theorem dX2_init_57 : decode cX2_init 57 = .ok (.iconst 0, 1) := dk_3 (dk_at dksX2_init_2 13 rfl rfl)
theorem dX2_init_58 : decode cX2_init 58 = .ok (.bipush 100, 2) := dk_16 100 (dk_at dksX2_init_2 14 rfl rfl)
theorem dX2_init_60 : decode cX2_init 60 = .ok (.iconst 0, 1) := dk_3 (dk_at dksX2_init_2 16 rfl rfl)
theorem dX2_init_61 : decode cX2_init 61 = .ok (.invokespecial 36, 3) := dk_183 0 36 (dk_at dksX2_init_2 17 rfl rfl)
theorem dX2_init_64 : decode cX2_init 64 = .ok (.putfield 39, 3) := dk_181 0 39 (dk_at dksX2_init_2 20 rfl rfl)
theorem dX2_init_67 : decode cX2_init 67 = .ok (.aload_n 0, 1) := dk_42 (dk_at dksX2_init_2 23 rfl rfl)
theorem dX2_init_68 : decode cX2_init 68 = .ok (.sipush 256, 3) := dk_17 1 0 (dk_at dksX2_init_3 0 rfl rfl)
theorem dX2_init_71 : decode cX2_init 71 = .ok (.newarray .int, 2) := dk_188_10 (dk_at dksX2_init_3 3 rfl rfl)
theorem dX2_init_73 : decode cX2_init 73 = .ok (.putfield 43, 3) := dk_181 0 43 (dk_at dksX2_init_3 5 rfl rfl)
theorem dX2_init_76 : decode cX2_init 76 = .ok (.aload_n 0, 1) := dk_42 (dk_at dksX2_init_3 8 rfl rfl)
theorem dX2_init_77 : decode cX2_init 77 = .ok (.sipush 256, 3) := dk_17 1 0 (dk_at dksX2_init_3 9 rfl rfl)
theorem dX2_init_80 : decode cX2_init 80 = .ok (.newarray .long, 2) := dk_188_11 (dk_at dksX2_init_3 12 rfl rfl)
theorem dX2_init_82 : decode cX2_init 82 = .ok (.putfield 47, 3) := dk_181 0 47 (dk_at dksX2_init_3 14 rfl rfl)
theorem dX2_init_85 : decode cX2_init 85 = .ok (.return_, 1) := dk_177 (dk_at dksX2_init_3 17 rfl rfl)
abbrev cX2_makeRecording : ByteArray := prog_19_method_12_code
def yX2_makeRecording : MethodName := ⟨RX2, "makeRecording", "()I"⟩
def dkwX2_makeRecording_6 : List UInt8 := [4, 96, 181, 0, 95, 42, 180, 0, 95, 172]
abbrev dktX2_makeRecording_6 : List UInt8 := dkwX2_makeRecording_6 ++ []
def dkwX2_makeRecording_5 : List UInt8 := [182, 0, 174, 42, 180, 0, 92, 100, 96, 79, 132, 3, 1, 167, 255, 213, 167, 255, 133, 42, 89, 180, 0, 95]
abbrev dktX2_makeRecording_5 : List UInt8 := dkwX2_makeRecording_5 ++ dktX2_makeRecording_6
def dkwX2_makeRecording_4 : List UInt8 := [180, 0, 92, 158, 0, 35, 44, 180, 0, 152, 29, 92, 46, 42, 5, 42, 180, 0, 92, 104, 4, 96]
abbrev dktX2_makeRecording_4 : List UInt8 := dkwX2_makeRecording_4 ++ dktX2_makeRecording_5
def dkwX2_makeRecording_3 : List UInt8 := [182, 0, 170, 42, 44, 25, 4, 4, 182, 0, 170, 167, 255, 220, 3, 62, 29, 17, 1, 0, 162, 0, 42, 42]
abbrev dktX2_makeRecording_3 : List UInt8 := dkwX2_makeRecording_3 ++ dktX2_makeRecording_4
def dkwX2_makeRecording_2 : List UInt8 := [185, 0, 60, 1, 0, 153, 0, 33, 45, 185, 0, 66, 1, 0, 192, 0, 70, 58, 4, 42, 44, 25, 4, 3]
abbrev dktX2_makeRecording_2 : List UInt8 := dkwX2_makeRecording_2 ++ dktX2_makeRecording_3
def dkwX2_makeRecording_1 : List UInt8 := [192, 0, 80, 77, 44, 17, 1, 0, 188, 10, 181, 0, 152, 42, 180, 0, 20, 182, 0, 56, 78, 45]
abbrev dktX2_makeRecording_1 : List UInt8 := dkwX2_makeRecording_1 ++ dktX2_makeRecording_2
def dkwX2_makeRecording_0 : List UInt8 := [42, 180, 0, 23, 182, 0, 56, 76, 43, 185, 0, 60, 1, 0, 153, 0, 120, 43, 185, 0, 66, 1, 0]
abbrev dktX2_makeRecording_0 : List UInt8 := dkwX2_makeRecording_0 ++ dktX2_makeRecording_1
theorem dksX2_makeRecording_0 : cX2_makeRecording.data.toList.drop 0 = dktX2_makeRecording_0 := by decide +kernel
theorem dksX2_makeRecording_1 : cX2_makeRecording.data.toList.drop 23 = dktX2_makeRecording_1 := dk_seg dksX2_makeRecording_0 23 rfl rfl
theorem dksX2_makeRecording_2 : cX2_makeRecording.data.toList.drop 45 = dktX2_makeRecording_2 := dk_seg dksX2_makeRecording_1 22 rfl rfl
theorem dksX2_makeRecording_3 : cX2_makeRecording.data.toList.drop 69 = dktX2_makeRecording_3 := dk_seg dksX2_makeRecording_2 24 rfl rfl
theorem dksX2_makeRecording_4 : cX2_makeRecording.data.toList.drop 93 = dktX2_makeRecording_4 := dk_seg dksX2_makeRecording_3 24 rfl rfl
theorem dksX2_makeRecording_5 : cX2_makeRecording.data.toList.drop 115 = dktX2_makeRecording_5 := dk_seg dksX2_makeRecording_4 22 rfl rfl
theorem dksX2_makeRecording_6 : cX2_makeRecording.data.toList.drop 139 = dktX2_makeRecording_6 := dk_seg dksX2_makeRecording_5 24 rfl rfl
theorem dX2_makeRecording_0 : decode cX2_makeRecording 0 = .ok (.aload_n 0, 1) := dk_42 (dk_at dksX2_makeRecording_0 0 rfl rfl)
theorem dX2_makeRecording_1 : decode cX2_makeRecording 1 = .ok (.getfield 23, 3) := dk_180 0 23 (dk_at dksX2_makeRecording_0 1 rfl rfl)
theorem dX2_makeRecording_4 : decode cX2_makeRecording 4 = .ok (.invokevirtual 56, 3) := dk_182 0 56 (dk_at dksX2_makeRecording_0 4 rfl rfl)
theorem dX2_makeRecording_7 : decode cX2_makeRecording 7 = .ok (.astore_n 1, 1) := dk_76 (dk_at dksX2_makeRecording_0 7 rfl rfl)
theorem dX2_makeRecording_8 : decode cX2_makeRecording 8 = .ok (.aload_n 1, 1) := dk_43 (dk_at dksX2_makeRecording_0 8 rfl rfl)
theorem dX2_makeRecording_9 : decode cX2_makeRecording 9 = .ok (.invokeinterface 60 1, 5) := by decide +kernel
theorem dX2_makeRecording_14 : decode cX2_makeRecording 14 = .ok (.ifCond .eq 120, 3) := dk_153 0 120 (dk_at dksX2_makeRecording_0 14 rfl rfl)
theorem dX2_makeRecording_17 : decode cX2_makeRecording 17 = .ok (.aload_n 1, 1) := dk_43 (dk_at dksX2_makeRecording_0 17 rfl rfl)
theorem dX2_makeRecording_18 : decode cX2_makeRecording 18 = .ok (.invokeinterface 66 1, 5) := by decide +kernel
theorem dX2_makeRecording_23 : decode cX2_makeRecording 23 = .ok (.checkcast 80, 3) := dk_192 0 80 (dk_at dksX2_makeRecording_1 0 rfl rfl)
theorem dX2_makeRecording_26 : decode cX2_makeRecording 26 = .ok (.astore_n 2, 1) := dk_77 (dk_at dksX2_makeRecording_1 3 rfl rfl)
theorem dX2_makeRecording_27 : decode cX2_makeRecording 27 = .ok (.aload_n 2, 1) := dk_44 (dk_at dksX2_makeRecording_1 4 rfl rfl)
theorem dX2_makeRecording_28 : decode cX2_makeRecording 28 = .ok (.sipush 256, 3) := dk_17 1 0 (dk_at dksX2_makeRecording_1 5 rfl rfl)
theorem dX2_makeRecording_31 : decode cX2_makeRecording 31 = .ok (.newarray .int, 2) := dk_188_10 (dk_at dksX2_makeRecording_1 8 rfl rfl)
theorem dX2_makeRecording_33 : decode cX2_makeRecording 33 = .ok (.putfield 152, 3) := dk_181 0 152 (dk_at dksX2_makeRecording_1 10 rfl rfl)
theorem dX2_makeRecording_36 : decode cX2_makeRecording 36 = .ok (.aload_n 0, 1) := dk_42 (dk_at dksX2_makeRecording_1 13 rfl rfl)
theorem dX2_makeRecording_37 : decode cX2_makeRecording 37 = .ok (.getfield 20, 3) := dk_180 0 20 (dk_at dksX2_makeRecording_1 14 rfl rfl)
theorem dX2_makeRecording_40 : decode cX2_makeRecording 40 = .ok (.invokevirtual 56, 3) := dk_182 0 56 (dk_at dksX2_makeRecording_1 17 rfl rfl)
theorem dX2_makeRecording_43 : decode cX2_makeRecording 43 = .ok (.astore_n 3, 1) := dk_78 (dk_at dksX2_makeRecording_1 20 rfl rfl)
theorem dX2_makeRecording_44 : decode cX2_makeRecording 44 = .ok (.aload_n 3, 1) := dk_45 (dk_at dksX2_makeRecording_1 21 rfl rfl)
theorem dX2_makeRecording_45 : decode cX2_makeRecording 45 = .ok (.invokeinterface 60 1, 5) := by decide +kernel
theorem dX2_makeRecording_50 : decode cX2_makeRecording 50 = .ok (.ifCond .eq 33, 3) := dk_153 0 33 (dk_at dksX2_makeRecording_2 5 rfl rfl)
theorem dX2_makeRecording_53 : decode cX2_makeRecording 53 = .ok (.aload_n 3, 1) := dk_45 (dk_at dksX2_makeRecording_2 8 rfl rfl)
theorem dX2_makeRecording_54 : decode cX2_makeRecording 54 = .ok (.invokeinterface 66 1, 5) := by decide +kernel
theorem dX2_makeRecording_59 : decode cX2_makeRecording 59 = .ok (.checkcast 70, 3) := dk_192 0 70 (dk_at dksX2_makeRecording_2 14 rfl rfl)
theorem dX2_makeRecording_62 : decode cX2_makeRecording 62 = .ok (.astore 4, 2) := dk_58 4 (dk_at dksX2_makeRecording_2 17 rfl rfl)
theorem dX2_makeRecording_64 : decode cX2_makeRecording 64 = .ok (.aload_n 0, 1) := dk_42 (dk_at dksX2_makeRecording_2 19 rfl rfl)
theorem dX2_makeRecording_65 : decode cX2_makeRecording 65 = .ok (.aload_n 2, 1) := dk_44 (dk_at dksX2_makeRecording_2 20 rfl rfl)
theorem dX2_makeRecording_66 : decode cX2_makeRecording 66 = .ok (.aload 4, 2) := dk_25 4 (dk_at dksX2_makeRecording_2 21 rfl rfl)
theorem dX2_makeRecording_68 : decode cX2_makeRecording 68 = .ok (.iconst 0, 1) := dk_3 (dk_at dksX2_makeRecording_2 23 rfl rfl)
theorem dX2_makeRecording_69 : decode cX2_makeRecording 69 = .ok (.invokevirtual 170, 3) := dk_182 0 170 (dk_at dksX2_makeRecording_3 0 rfl rfl)
theorem dX2_makeRecording_72 : decode cX2_makeRecording 72 = .ok (.aload_n 0, 1) := dk_42 (dk_at dksX2_makeRecording_3 3 rfl rfl)
theorem dX2_makeRecording_73 : decode cX2_makeRecording 73 = .ok (.aload_n 2, 1) := dk_44 (dk_at dksX2_makeRecording_3 4 rfl rfl)
theorem dX2_makeRecording_74 : decode cX2_makeRecording 74 = .ok (.aload 4, 2) := dk_25 4 (dk_at dksX2_makeRecording_3 5 rfl rfl)
theorem dX2_makeRecording_76 : decode cX2_makeRecording 76 = .ok (.iconst 1, 1) := dk_4 (dk_at dksX2_makeRecording_3 7 rfl rfl)
theorem dX2_makeRecording_77 : decode cX2_makeRecording 77 = .ok (.invokevirtual 170, 3) := dk_182 0 170 (dk_at dksX2_makeRecording_3 8 rfl rfl)
theorem dX2_makeRecording_80 : decode cX2_makeRecording 80 = .ok (.goto (-36), 3) := dk_167 255 220 (dk_at dksX2_makeRecording_3 11 rfl rfl)
theorem dX2_makeRecording_83 : decode cX2_makeRecording 83 = .ok (.iconst 0, 1) := dk_3 (dk_at dksX2_makeRecording_3 14 rfl rfl)
theorem dX2_makeRecording_84 : decode cX2_makeRecording 84 = .ok (.istore_n 3, 1) := dk_62 (dk_at dksX2_makeRecording_3 15 rfl rfl)
theorem dX2_makeRecording_85 : decode cX2_makeRecording 85 = .ok (.iload_n 3, 1) := dk_29 (dk_at dksX2_makeRecording_3 16 rfl rfl)
theorem dX2_makeRecording_86 : decode cX2_makeRecording 86 = .ok (.sipush 256, 3) := dk_17 1 0 (dk_at dksX2_makeRecording_3 17 rfl rfl)
theorem dX2_makeRecording_89 : decode cX2_makeRecording 89 = .ok (.if_icmp .ge 42, 3) := dk_162 0 42 (dk_at dksX2_makeRecording_3 20 rfl rfl)
theorem dX2_makeRecording_92 : decode cX2_makeRecording 92 = .ok (.aload_n 0, 1) := dk_42 (dk_at dksX2_makeRecording_3 23 rfl rfl)
theorem dX2_makeRecording_93 : decode cX2_makeRecording 93 = .ok (.getfield 92, 3) := dk_180 0 92 (dk_at dksX2_makeRecording_4 0 rfl rfl)
theorem dX2_makeRecording_96 : decode cX2_makeRecording 96 = .ok (.ifCond .le 35, 3) := dk_158 0 35 (dk_at dksX2_makeRecording_4 3 rfl rfl)
theorem dX2_makeRecording_99 : decode cX2_makeRecording 99 = .ok (.aload_n 2, 1) := dk_44 (dk_at dksX2_makeRecording_4 6 rfl rfl)
theorem dX2_makeRecording_100 : decode cX2_makeRecording 100 = .ok (.getfield 152, 3) := dk_180 0 152 (dk_at dksX2_makeRecording_4 7 rfl rfl)
theorem dX2_makeRecording_103 : decode cX2_makeRecording 103 = .ok (.iload_n 3, 1) := dk_29 (dk_at dksX2_makeRecording_4 10 rfl rfl)
theorem dX2_makeRecording_104 : decode cX2_makeRecording 104 = .ok (.dup2, 1) := dk_92 (dk_at dksX2_makeRecording_4 11 rfl rfl)
theorem dX2_makeRecording_105 : decode cX2_makeRecording 105 = .ok (.iaload, 1) := dk_46 (dk_at dksX2_makeRecording_4 12 rfl rfl)
theorem dX2_makeRecording_106 : decode cX2_makeRecording 106 = .ok (.aload_n 0, 1) := dk_42 (dk_at dksX2_makeRecording_4 13 rfl rfl)
theorem dX2_makeRecording_107 : decode cX2_makeRecording 107 = .ok (.iconst 2, 1) := dk_5 (dk_at dksX2_makeRecording_4 14 rfl rfl)
theorem dX2_makeRecording_108 : decode cX2_makeRecording 108 = .ok (.aload_n 0, 1) := dk_42 (dk_at dksX2_makeRecording_4 15 rfl rfl)
theorem dX2_makeRecording_109 : decode cX2_makeRecording 109 = .ok (.getfield 92, 3) := dk_180 0 92 (dk_at dksX2_makeRecording_4 16 rfl rfl)
theorem dX2_makeRecording_112 : decode cX2_makeRecording 112 = .ok (.imul, 1) := dk_104 (dk_at dksX2_makeRecording_4 19 rfl rfl)
theorem dX2_makeRecording_113 : decode cX2_makeRecording 113 = .ok (.iconst 1, 1) := dk_4 (dk_at dksX2_makeRecording_4 20 rfl rfl)
theorem dX2_makeRecording_114 : decode cX2_makeRecording 114 = .ok (.iadd, 1) := dk_96 (dk_at dksX2_makeRecording_4 21 rfl rfl)
theorem dX2_makeRecording_115 : decode cX2_makeRecording 115 = .ok (.invokevirtual 174, 3) := dk_182 0 174 (dk_at dksX2_makeRecording_5 0 rfl rfl)
theorem dX2_makeRecording_118 : decode cX2_makeRecording 118 = .ok (.aload_n 0, 1) := dk_42 (dk_at dksX2_makeRecording_5 3 rfl rfl)
theorem dX2_makeRecording_119 : decode cX2_makeRecording 119 = .ok (.getfield 92, 3) := dk_180 0 92 (dk_at dksX2_makeRecording_5 4 rfl rfl)
theorem dX2_makeRecording_122 : decode cX2_makeRecording 122 = .ok (.isub, 1) := dk_100 (dk_at dksX2_makeRecording_5 7 rfl rfl)
theorem dX2_makeRecording_123 : decode cX2_makeRecording 123 = .ok (.iadd, 1) := dk_96 (dk_at dksX2_makeRecording_5 8 rfl rfl)
theorem dX2_makeRecording_124 : decode cX2_makeRecording 124 = .ok (.iastore, 1) := dk_79 (dk_at dksX2_makeRecording_5 9 rfl rfl)
theorem dX2_makeRecording_125 : decode cX2_makeRecording 125 = .ok (.iinc 3 1, 3) := dk_132 3 1 (dk_at dksX2_makeRecording_5 10 rfl rfl)
theorem dX2_makeRecording_128 : decode cX2_makeRecording 128 = .ok (.goto (-43), 3) := dk_167 255 213 (dk_at dksX2_makeRecording_5 13 rfl rfl)
theorem dX2_makeRecording_131 : decode cX2_makeRecording 131 = .ok (.goto (-123), 3) := dk_167 255 133 (dk_at dksX2_makeRecording_5 16 rfl rfl)
theorem dX2_makeRecording_134 : decode cX2_makeRecording 134 = .ok (.aload_n 0, 1) := dk_42 (dk_at dksX2_makeRecording_5 19 rfl rfl)
theorem dX2_makeRecording_135 : decode cX2_makeRecording 135 = .ok (.dup, 1) := dk_89 (dk_at dksX2_makeRecording_5 20 rfl rfl)
theorem dX2_makeRecording_136 : decode cX2_makeRecording 136 = .ok (.getfield 95, 3) := dk_180 0 95 (dk_at dksX2_makeRecording_5 21 rfl rfl)
theorem dX2_makeRecording_139 : decode cX2_makeRecording 139 = .ok (.iconst 1, 1) := dk_4 (dk_at dksX2_makeRecording_6 0 rfl rfl)
theorem dX2_makeRecording_140 : decode cX2_makeRecording 140 = .ok (.iadd, 1) := dk_96 (dk_at dksX2_makeRecording_6 1 rfl rfl)
theorem dX2_makeRecording_141 : decode cX2_makeRecording 141 = .ok (.putfield 95, 3) := dk_181 0 95 (dk_at dksX2_makeRecording_6 2 rfl rfl)
theorem dX2_makeRecording_144 : decode cX2_makeRecording 144 = .ok (.aload_n 0, 1) := dk_42 (dk_at dksX2_makeRecording_6 5 rfl rfl)
theorem dX2_makeRecording_145 : decode cX2_makeRecording 145 = .ok (.getfield 95, 3) := dk_180 0 95 (dk_at dksX2_makeRecording_6 6 rfl rfl)
theorem dX2_makeRecording_148 : decode cX2_makeRecording 148 = .ok (.ireturn, 1) := dk_172 (dk_at dksX2_makeRecording_6 9 rfl rfl)
abbrev cX2_hear : ByteArray := prog_19_method_10_code
def yX2_hear : MethodName := ⟨RX2, "hear", "(LTrackArray$Microphone;LTrackArray$Source;Z)V"⟩
def dkwX2_hear_3 : List UInt8 := [132, 6, 1, 167, 255, 195, 177]
abbrev dktX2_hear_3 : List UInt8 := dkwX2_hear_3 ++ []
def dkwX2_hear_2 : List UInt8 := [92, 46, 42, 44, 21, 5, 182, 0, 155, 43, 25, 4, 21, 5, 29, 182, 0, 121, 29, 182, 0, 158, 96, 79]
abbrev dktX2_hear_2 : List UInt8 := dkwX2_hear_2 ++ dktX2_hear_3
def dkwX2_hear_1 : List UInt8 := [25, 4, 21, 6, 29, 21, 5, 182, 0, 148, 54, 5, 21, 5, 2, 159, 0, 33, 43, 180, 0, 152, 21, 6]
abbrev dktX2_hear_1 : List UInt8 := dkwX2_hear_1 ++ dktX2_hear_2
def dkwX2_hear_0 : List UInt8 := [42, 44, 182, 0, 144, 58, 4, 2, 54, 5, 3, 54, 6, 21, 6, 17, 1, 0, 162, 0, 59, 42, 43]
abbrev dktX2_hear_0 : List UInt8 := dkwX2_hear_0 ++ dktX2_hear_1
theorem dksX2_hear_0 : cX2_hear.data.toList.drop 0 = dktX2_hear_0 := by decide +kernel
theorem dksX2_hear_1 : cX2_hear.data.toList.drop 23 = dktX2_hear_1 := dk_seg dksX2_hear_0 23 rfl rfl
theorem dksX2_hear_2 : cX2_hear.data.toList.drop 47 = dktX2_hear_2 := dk_seg dksX2_hear_1 24 rfl rfl
theorem dksX2_hear_3 : cX2_hear.data.toList.drop 71 = dktX2_hear_3 := dk_seg dksX2_hear_2 24 rfl rfl
theorem dX2_hear_0 : decode cX2_hear 0 = .ok (.aload_n 0, 1) := dk_42 (dk_at dksX2_hear_0 0 rfl rfl)
theorem dX2_hear_1 : decode cX2_hear 1 = .ok (.aload_n 2, 1) := dk_44 (dk_at dksX2_hear_0 1 rfl rfl)
theorem dX2_hear_2 : decode cX2_hear 2 = .ok (.invokevirtual 144, 3) := dk_182 0 144 (dk_at dksX2_hear_0 2 rfl rfl)
theorem dX2_hear_5 : decode cX2_hear 5 = .ok (.astore 4, 2) := dk_58 4 (dk_at dksX2_hear_0 5 rfl rfl)
theorem dX2_hear_7 : decode cX2_hear 7 = .ok (.iconst (-1), 1) := dk_2 (dk_at dksX2_hear_0 7 rfl rfl)
theorem dX2_hear_8 : decode cX2_hear 8 = .ok (.istore 5, 2) := dk_54 5 (dk_at dksX2_hear_0 8 rfl rfl)
theorem dX2_hear_10 : decode cX2_hear 10 = .ok (.iconst 0, 1) := dk_3 (dk_at dksX2_hear_0 10 rfl rfl)
theorem dX2_hear_11 : decode cX2_hear 11 = .ok (.istore 6, 2) := dk_54 6 (dk_at dksX2_hear_0 11 rfl rfl)
theorem dX2_hear_13 : decode cX2_hear 13 = .ok (.iload 6, 2) := dk_21 6 (dk_at dksX2_hear_0 13 rfl rfl)
theorem dX2_hear_15 : decode cX2_hear 15 = .ok (.sipush 256, 3) := dk_17 1 0 (dk_at dksX2_hear_0 15 rfl rfl)
theorem dX2_hear_18 : decode cX2_hear 18 = .ok (.if_icmp .ge 59, 3) := dk_162 0 59 (dk_at dksX2_hear_0 18 rfl rfl)
theorem dX2_hear_21 : decode cX2_hear 21 = .ok (.aload_n 0, 1) := dk_42 (dk_at dksX2_hear_0 21 rfl rfl)
theorem dX2_hear_22 : decode cX2_hear 22 = .ok (.aload_n 1, 1) := dk_43 (dk_at dksX2_hear_0 22 rfl rfl)
theorem dX2_hear_23 : decode cX2_hear 23 = .ok (.aload 4, 2) := dk_25 4 (dk_at dksX2_hear_1 0 rfl rfl)
theorem dX2_hear_25 : decode cX2_hear 25 = .ok (.iload 6, 2) := dk_21 6 (dk_at dksX2_hear_1 2 rfl rfl)
theorem dX2_hear_27 : decode cX2_hear 27 = .ok (.iload_n 3, 1) := dk_29 (dk_at dksX2_hear_1 4 rfl rfl)
theorem dX2_hear_28 : decode cX2_hear 28 = .ok (.iload 5, 2) := dk_21 5 (dk_at dksX2_hear_1 5 rfl rfl)
theorem dX2_hear_30 : decode cX2_hear 30 = .ok (.invokevirtual 148, 3) := dk_182 0 148 (dk_at dksX2_hear_1 7 rfl rfl)
theorem dX2_hear_33 : decode cX2_hear 33 = .ok (.istore 5, 2) := dk_54 5 (dk_at dksX2_hear_1 10 rfl rfl)
theorem dX2_hear_35 : decode cX2_hear 35 = .ok (.iload 5, 2) := dk_21 5 (dk_at dksX2_hear_1 12 rfl rfl)
theorem dX2_hear_37 : decode cX2_hear 37 = .ok (.iconst (-1), 1) := dk_2 (dk_at dksX2_hear_1 14 rfl rfl)
theorem dX2_hear_38 : decode cX2_hear 38 = .ok (.if_icmp .eq 33, 3) := dk_159 0 33 (dk_at dksX2_hear_1 15 rfl rfl)
theorem dX2_hear_41 : decode cX2_hear 41 = .ok (.aload_n 1, 1) := dk_43 (dk_at dksX2_hear_1 18 rfl rfl)
theorem dX2_hear_42 : decode cX2_hear 42 = .ok (.getfield 152, 3) := dk_180 0 152 (dk_at dksX2_hear_1 19 rfl rfl)
theorem dX2_hear_45 : decode cX2_hear 45 = .ok (.iload 6, 2) := dk_21 6 (dk_at dksX2_hear_1 22 rfl rfl)
theorem dX2_hear_47 : decode cX2_hear 47 = .ok (.dup2, 1) := dk_92 (dk_at dksX2_hear_2 0 rfl rfl)
theorem dX2_hear_48 : decode cX2_hear 48 = .ok (.iaload, 1) := dk_46 (dk_at dksX2_hear_2 1 rfl rfl)
theorem dX2_hear_49 : decode cX2_hear 49 = .ok (.aload_n 0, 1) := dk_42 (dk_at dksX2_hear_2 2 rfl rfl)
theorem dX2_hear_50 : decode cX2_hear 50 = .ok (.aload_n 2, 1) := dk_44 (dk_at dksX2_hear_2 3 rfl rfl)
theorem dX2_hear_51 : decode cX2_hear 51 = .ok (.iload 5, 2) := dk_21 5 (dk_at dksX2_hear_2 4 rfl rfl)
theorem dX2_hear_53 : decode cX2_hear 53 = .ok (.invokevirtual 155, 3) := dk_182 0 155 (dk_at dksX2_hear_2 6 rfl rfl)
theorem dX2_hear_56 : decode cX2_hear 56 = .ok (.aload_n 1, 1) := dk_43 (dk_at dksX2_hear_2 9 rfl rfl)
theorem dX2_hear_57 : decode cX2_hear 57 = .ok (.aload 4, 2) := dk_25 4 (dk_at dksX2_hear_2 10 rfl rfl)
theorem dX2_hear_59 : decode cX2_hear 59 = .ok (.iload 5, 2) := dk_21 5 (dk_at dksX2_hear_2 12 rfl rfl)
theorem dX2_hear_61 : decode cX2_hear 61 = .ok (.iload_n 3, 1) := dk_29 (dk_at dksX2_hear_2 14 rfl rfl)
theorem dX2_hear_62 : decode cX2_hear 62 = .ok (.invokevirtual 121, 3) := dk_182 0 121 (dk_at dksX2_hear_2 15 rfl rfl)
theorem dX2_hear_65 : decode cX2_hear 65 = .ok (.iload_n 3, 1) := dk_29 (dk_at dksX2_hear_2 18 rfl rfl)
theorem dX2_hear_66 : decode cX2_hear 66 = .ok (.invokevirtual 158, 3) := dk_182 0 158 (dk_at dksX2_hear_2 19 rfl rfl)
theorem dX2_hear_69 : decode cX2_hear 69 = .ok (.iadd, 1) := dk_96 (dk_at dksX2_hear_2 22 rfl rfl)
theorem dX2_hear_70 : decode cX2_hear 70 = .ok (.iastore, 1) := dk_79 (dk_at dksX2_hear_2 23 rfl rfl)
theorem dX2_hear_71 : decode cX2_hear 71 = .ok (.iinc 6 1, 3) := dk_132 6 1 (dk_at dksX2_hear_3 0 rfl rfl)
theorem dX2_hear_74 : decode cX2_hear 74 = .ok (.goto (-61), 3) := dk_167 255 195 (dk_at dksX2_hear_3 3 rfl rfl)
theorem dX2_hear_77 : decode cX2_hear 77 = .ok (.return_, 1) := dk_177 (dk_at dksX2_hear_3 6 rfl rfl)
abbrev cX2_placeOf : ByteArray := prog_19_method_9_code
def yX2_placeOf : MethodName := ⟨RX2, "placeOf", "(LTrackArray$Source;)LTrackArray$Place;"⟩
def dkwX2_placeOf_0 : List UInt8 := [187, 0, 129, 89, 43, 180, 0, 131, 43, 180, 0, 135, 43, 180, 0, 138, 183, 0, 141, 176]
abbrev dktX2_placeOf_0 : List UInt8 := dkwX2_placeOf_0 ++ []
theorem dksX2_placeOf_0 : cX2_placeOf.data.toList.drop 0 = dktX2_placeOf_0 := by decide +kernel
theorem dX2_placeOf_0 : decode cX2_placeOf 0 = .ok (.new 129, 3) := dk_187 0 129 (dk_at dksX2_placeOf_0 0 rfl rfl)
theorem dX2_placeOf_3 : decode cX2_placeOf 3 = .ok (.dup, 1) := dk_89 (dk_at dksX2_placeOf_0 3 rfl rfl)
theorem dX2_placeOf_4 : decode cX2_placeOf 4 = .ok (.aload_n 1, 1) := dk_43 (dk_at dksX2_placeOf_0 4 rfl rfl)
theorem dX2_placeOf_5 : decode cX2_placeOf 5 = .ok (.getfield 131, 3) := dk_180 0 131 (dk_at dksX2_placeOf_0 5 rfl rfl)
theorem dX2_placeOf_8 : decode cX2_placeOf 8 = .ok (.aload_n 1, 1) := dk_43 (dk_at dksX2_placeOf_0 8 rfl rfl)
theorem dX2_placeOf_9 : decode cX2_placeOf 9 = .ok (.getfield 135, 3) := dk_180 0 135 (dk_at dksX2_placeOf_0 9 rfl rfl)
theorem dX2_placeOf_12 : decode cX2_placeOf 12 = .ok (.aload_n 1, 1) := dk_43 (dk_at dksX2_placeOf_0 12 rfl rfl)
theorem dX2_placeOf_13 : decode cX2_placeOf 13 = .ok (.getfield 138, 3) := dk_180 0 138 (dk_at dksX2_placeOf_0 13 rfl rfl)
theorem dX2_placeOf_16 : decode cX2_placeOf 16 = .ok (.invokespecial 141, 3) := dk_183 0 141 (dk_at dksX2_placeOf_0 16 rfl rfl)
theorem dX2_placeOf_19 : decode cX2_placeOf 19 = .ok (.areturn, 1) := dk_176 (dk_at dksX2_placeOf_0 19 rfl rfl)
abbrev cX2_heard : ByteArray := prog_19_method_7_code
def yX2_heard : MethodName := ⟨RX2, "heard", "(LTrackArray$Microphone;LTrackArray$Place;IZI)I"⟩
def dkwX2_heard_1 : List UInt8 := [29, 42, 180, 0, 26, 104, 163, 0, 9, 132, 6, 1, 167, 255, 224, 21, 6, 172]
abbrev dktX2_heard_1 : List UInt8 := dkwX2_heard_1 ++ []
def dkwX2_heard_0 : List UInt8 := [21, 5, 54, 6, 21, 6, 17, 0, 255, 162, 0, 30, 42, 43, 44, 21, 6, 4, 96, 21, 4, 182, 0, 125]
abbrev dktX2_heard_0 : List UInt8 := dkwX2_heard_0 ++ dktX2_heard_1
theorem dksX2_heard_0 : cX2_heard.data.toList.drop 0 = dktX2_heard_0 := by decide +kernel
theorem dksX2_heard_1 : cX2_heard.data.toList.drop 24 = dktX2_heard_1 := dk_seg dksX2_heard_0 24 rfl rfl
theorem dX2_heard_0 : decode cX2_heard 0 = .ok (.iload 5, 2) := dk_21 5 (dk_at dksX2_heard_0 0 rfl rfl)
theorem dX2_heard_2 : decode cX2_heard 2 = .ok (.istore 6, 2) := dk_54 6 (dk_at dksX2_heard_0 2 rfl rfl)
theorem dX2_heard_4 : decode cX2_heard 4 = .ok (.iload 6, 2) := dk_21 6 (dk_at dksX2_heard_0 4 rfl rfl)
theorem dX2_heard_6 : decode cX2_heard 6 = .ok (.sipush 255, 3) := dk_17 0 255 (dk_at dksX2_heard_0 6 rfl rfl)
theorem dX2_heard_9 : decode cX2_heard 9 = .ok (.if_icmp .ge 30, 3) := dk_162 0 30 (dk_at dksX2_heard_0 9 rfl rfl)
theorem dX2_heard_12 : decode cX2_heard 12 = .ok (.aload_n 0, 1) := dk_42 (dk_at dksX2_heard_0 12 rfl rfl)
theorem dX2_heard_13 : decode cX2_heard 13 = .ok (.aload_n 1, 1) := dk_43 (dk_at dksX2_heard_0 13 rfl rfl)
theorem dX2_heard_14 : decode cX2_heard 14 = .ok (.aload_n 2, 1) := dk_44 (dk_at dksX2_heard_0 14 rfl rfl)
theorem dX2_heard_15 : decode cX2_heard 15 = .ok (.iload 6, 2) := dk_21 6 (dk_at dksX2_heard_0 15 rfl rfl)
theorem dX2_heard_17 : decode cX2_heard 17 = .ok (.iconst 1, 1) := dk_4 (dk_at dksX2_heard_0 17 rfl rfl)
theorem dX2_heard_18 : decode cX2_heard 18 = .ok (.iadd, 1) := dk_96 (dk_at dksX2_heard_0 18 rfl rfl)
theorem dX2_heard_19 : decode cX2_heard 19 = .ok (.iload 4, 2) := dk_21 4 (dk_at dksX2_heard_0 19 rfl rfl)
theorem dX2_heard_21 : decode cX2_heard 21 = .ok (.invokevirtual 125, 3) := dk_182 0 125 (dk_at dksX2_heard_0 21 rfl rfl)
theorem dX2_heard_24 : decode cX2_heard 24 = .ok (.iload_n 3, 1) := dk_29 (dk_at dksX2_heard_1 0 rfl rfl)
theorem dX2_heard_25 : decode cX2_heard 25 = .ok (.aload_n 0, 1) := dk_42 (dk_at dksX2_heard_1 1 rfl rfl)
theorem dX2_heard_26 : decode cX2_heard 26 = .ok (.getfield 26, 3) := dk_180 0 26 (dk_at dksX2_heard_1 2 rfl rfl)
theorem dX2_heard_29 : decode cX2_heard 29 = .ok (.imul, 1) := dk_104 (dk_at dksX2_heard_1 5 rfl rfl)
theorem dX2_heard_30 : decode cX2_heard 30 = .ok (.if_icmp .gt 9, 3) := dk_163 0 9 (dk_at dksX2_heard_1 6 rfl rfl)
theorem dX2_heard_33 : decode cX2_heard 33 = .ok (.iinc 6 1, 3) := dk_132 6 1 (dk_at dksX2_heard_1 9 rfl rfl)
theorem dX2_heard_36 : decode cX2_heard 36 = .ok (.goto (-32), 3) := dk_167 255 224 (dk_at dksX2_heard_1 12 rfl rfl)
theorem dX2_heard_39 : decode cX2_heard 39 = .ok (.iload 6, 2) := dk_21 6 (dk_at dksX2_heard_1 15 rfl rfl)
theorem dX2_heard_41 : decode cX2_heard 41 = .ok (.ireturn, 1) := dk_172 (dk_at dksX2_heard_1 17 rfl rfl)
abbrev cX2_mark : ByteArray := prog_19_method_6_code
def yX2_mark : MethodName := ⟨RX2, "mark", "(LTrackArray$Microphone;LTrackArray$Place;IZ)I"⟩
def dkwX2_mark_0 : List UInt8 := [29, 42, 180, 0, 26, 104, 43, 44, 29, 21, 4, 182, 0, 121, 96, 172]
abbrev dktX2_mark_0 : List UInt8 := dkwX2_mark_0 ++ []
theorem dksX2_mark_0 : cX2_mark.data.toList.drop 0 = dktX2_mark_0 := by decide +kernel
theorem dX2_mark_0 : decode cX2_mark 0 = .ok (.iload_n 3, 1) := dk_29 (dk_at dksX2_mark_0 0 rfl rfl)
theorem dX2_mark_1 : decode cX2_mark 1 = .ok (.aload_n 0, 1) := dk_42 (dk_at dksX2_mark_0 1 rfl rfl)
theorem dX2_mark_2 : decode cX2_mark 2 = .ok (.getfield 26, 3) := dk_180 0 26 (dk_at dksX2_mark_0 2 rfl rfl)
theorem dX2_mark_5 : decode cX2_mark 5 = .ok (.imul, 1) := dk_104 (dk_at dksX2_mark_0 5 rfl rfl)
theorem dX2_mark_6 : decode cX2_mark 6 = .ok (.aload_n 1, 1) := dk_43 (dk_at dksX2_mark_0 6 rfl rfl)
theorem dX2_mark_7 : decode cX2_mark 7 = .ok (.aload_n 2, 1) := dk_44 (dk_at dksX2_mark_0 7 rfl rfl)
theorem dX2_mark_8 : decode cX2_mark 8 = .ok (.iload_n 3, 1) := dk_29 (dk_at dksX2_mark_0 8 rfl rfl)
theorem dX2_mark_9 : decode cX2_mark 9 = .ok (.iload 4, 2) := dk_21 4 (dk_at dksX2_mark_0 9 rfl rfl)
theorem dX2_mark_11 : decode cX2_mark 11 = .ok (.invokevirtual 121, 3) := dk_182 0 121 (dk_at dksX2_mark_0 11 rfl rfl)
theorem dX2_mark_14 : decode cX2_mark 14 = .ok (.iadd, 1) := dk_96 (dk_at dksX2_mark_0 14 rfl rfl)
theorem dX2_mark_15 : decode cX2_mark 15 = .ok (.ireturn, 1) := dk_172 (dk_at dksX2_mark_0 15 rfl rfl)
abbrev cX2_amount : ByteArray := prog_19_method_8_code
def yX2_amount : MethodName := ⟨RX2, "amount", "(IIZ)I"⟩
def dkwX2_amount_1 : List UInt8 := [29, 153, 0, 16, 21, 4, 42, 180, 0, 85, 104, 16, 100, 108, 167, 0, 5, 21, 4, 172]
abbrev dktX2_amount_1 : List UInt8 := dkwX2_amount_1 ++ []
def dkwX2_amount_0 : List UInt8 := [42, 180, 0, 88, 153, 0, 17, 27, 17, 3, 232, 104, 17, 3, 232, 28, 96, 108, 167, 0, 4, 27, 54, 4]
abbrev dktX2_amount_0 : List UInt8 := dkwX2_amount_0 ++ dktX2_amount_1
theorem dksX2_amount_0 : cX2_amount.data.toList.drop 0 = dktX2_amount_0 := by decide +kernel
theorem dksX2_amount_1 : cX2_amount.data.toList.drop 24 = dktX2_amount_1 := dk_seg dksX2_amount_0 24 rfl rfl
theorem dX2_amount_0 : decode cX2_amount 0 = .ok (.aload_n 0, 1) := dk_42 (dk_at dksX2_amount_0 0 rfl rfl)
theorem dX2_amount_1 : decode cX2_amount 1 = .ok (.getfield 88, 3) := dk_180 0 88 (dk_at dksX2_amount_0 1 rfl rfl)
theorem dX2_amount_4 : decode cX2_amount 4 = .ok (.ifCond .eq 17, 3) := dk_153 0 17 (dk_at dksX2_amount_0 4 rfl rfl)
theorem dX2_amount_7 : decode cX2_amount 7 = .ok (.iload_n 1, 1) := dk_27 (dk_at dksX2_amount_0 7 rfl rfl)
theorem dX2_amount_8 : decode cX2_amount 8 = .ok (.sipush 1000, 3) := dk_17 3 232 (dk_at dksX2_amount_0 8 rfl rfl)
theorem dX2_amount_11 : decode cX2_amount 11 = .ok (.imul, 1) := dk_104 (dk_at dksX2_amount_0 11 rfl rfl)
theorem dX2_amount_12 : decode cX2_amount 12 = .ok (.sipush 1000, 3) := dk_17 3 232 (dk_at dksX2_amount_0 12 rfl rfl)
theorem dX2_amount_15 : decode cX2_amount 15 = .ok (.iload_n 2, 1) := dk_28 (dk_at dksX2_amount_0 15 rfl rfl)
theorem dX2_amount_16 : decode cX2_amount 16 = .ok (.iadd, 1) := dk_96 (dk_at dksX2_amount_0 16 rfl rfl)
theorem dX2_amount_17 : decode cX2_amount 17 = .ok (.idiv, 1) := dk_108 (dk_at dksX2_amount_0 17 rfl rfl)
theorem dX2_amount_18 : decode cX2_amount 18 = .ok (.goto 4, 3) := dk_167 0 4 (dk_at dksX2_amount_0 18 rfl rfl)
theorem dX2_amount_21 : decode cX2_amount 21 = .ok (.iload_n 1, 1) := dk_27 (dk_at dksX2_amount_0 21 rfl rfl)
theorem dX2_amount_22 : decode cX2_amount 22 = .ok (.istore 4, 2) := dk_54 4 (dk_at dksX2_amount_0 22 rfl rfl)
theorem dX2_amount_24 : decode cX2_amount 24 = .ok (.iload_n 3, 1) := dk_29 (dk_at dksX2_amount_1 0 rfl rfl)
theorem dX2_amount_25 : decode cX2_amount 25 = .ok (.ifCond .eq 16, 3) := dk_153 0 16 (dk_at dksX2_amount_1 1 rfl rfl)
theorem dX2_amount_28 : decode cX2_amount 28 = .ok (.iload 4, 2) := dk_21 4 (dk_at dksX2_amount_1 4 rfl rfl)
theorem dX2_amount_30 : decode cX2_amount 30 = .ok (.aload_n 0, 1) := dk_42 (dk_at dksX2_amount_1 6 rfl rfl)
theorem dX2_amount_31 : decode cX2_amount 31 = .ok (.getfield 85, 3) := dk_180 0 85 (dk_at dksX2_amount_1 7 rfl rfl)
theorem dX2_amount_34 : decode cX2_amount 34 = .ok (.imul, 1) := dk_104 (dk_at dksX2_amount_1 10 rfl rfl)
theorem dX2_amount_35 : decode cX2_amount 35 = .ok (.bipush 100, 2) := dk_16 100 (dk_at dksX2_amount_1 11 rfl rfl)
theorem dX2_amount_37 : decode cX2_amount 37 = .ok (.idiv, 1) := dk_108 (dk_at dksX2_amount_1 13 rfl rfl)
theorem dX2_amount_38 : decode cX2_amount 38 = .ok (.goto 5, 3) := dk_167 0 5 (dk_at dksX2_amount_1 14 rfl rfl)
theorem dX2_amount_41 : decode cX2_amount 41 = .ok (.iload 4, 2) := dk_21 4 (dk_at dksX2_amount_1 17 rfl rfl)
theorem dX2_amount_43 : decode cX2_amount 43 = .ok (.ireturn, 1) := dk_172 (dk_at dksX2_amount_1 19 rfl rfl)
abbrev cX2_draw : ByteArray := prog_19_method_11_code
def yX2_draw : MethodName := ⟨RX2, "draw", "(I)I"⟩
def dkwX2_draw_1 : List UInt8 := [20, 0, 168, 109, 27, 133, 113, 136, 172]
abbrev dktX2_draw_1 : List UInt8 := dkwX2_draw_1 ++ []
def dkwX2_draw_0 : List UInt8 := [42, 42, 180, 0, 30, 20, 0, 162, 105, 20, 0, 164, 97, 20, 0, 166, 113, 181, 0, 30, 42, 180, 0, 30]
abbrev dktX2_draw_0 : List UInt8 := dkwX2_draw_0 ++ dktX2_draw_1
theorem dksX2_draw_0 : cX2_draw.data.toList.drop 0 = dktX2_draw_0 := by decide +kernel
theorem dksX2_draw_1 : cX2_draw.data.toList.drop 24 = dktX2_draw_1 := dk_seg dksX2_draw_0 24 rfl rfl
theorem dX2_draw_0 : decode cX2_draw 0 = .ok (.aload_n 0, 1) := dk_42 (dk_at dksX2_draw_0 0 rfl rfl)
theorem dX2_draw_1 : decode cX2_draw 1 = .ok (.aload_n 0, 1) := dk_42 (dk_at dksX2_draw_0 1 rfl rfl)
theorem dX2_draw_2 : decode cX2_draw 2 = .ok (.getfield 30, 3) := dk_180 0 30 (dk_at dksX2_draw_0 2 rfl rfl)
theorem dX2_draw_5 : decode cX2_draw 5 = .ok (.ldc2_w 162, 3) := dk_20 0 162 (dk_at dksX2_draw_0 5 rfl rfl)
theorem dX2_draw_8 : decode cX2_draw 8 = .ok (.lmul, 1) := dk_105 (dk_at dksX2_draw_0 8 rfl rfl)
theorem dX2_draw_9 : decode cX2_draw 9 = .ok (.ldc2_w 164, 3) := dk_20 0 164 (dk_at dksX2_draw_0 9 rfl rfl)
theorem dX2_draw_12 : decode cX2_draw 12 = .ok (.ladd, 1) := dk_97 (dk_at dksX2_draw_0 12 rfl rfl)
theorem dX2_draw_13 : decode cX2_draw 13 = .ok (.ldc2_w 166, 3) := dk_20 0 166 (dk_at dksX2_draw_0 13 rfl rfl)
theorem dX2_draw_16 : decode cX2_draw 16 = .ok (.lrem, 1) := dk_113 (dk_at dksX2_draw_0 16 rfl rfl)
theorem dX2_draw_17 : decode cX2_draw 17 = .ok (.putfield 30, 3) := dk_181 0 30 (dk_at dksX2_draw_0 17 rfl rfl)
theorem dX2_draw_20 : decode cX2_draw 20 = .ok (.aload_n 0, 1) := dk_42 (dk_at dksX2_draw_0 20 rfl rfl)
theorem dX2_draw_21 : decode cX2_draw 21 = .ok (.getfield 30, 3) := dk_180 0 30 (dk_at dksX2_draw_0 21 rfl rfl)
theorem dX2_draw_24 : decode cX2_draw 24 = .ok (.ldc2_w 168, 3) := dk_20 0 168 (dk_at dksX2_draw_1 0 rfl rfl)
theorem dX2_draw_27 : decode cX2_draw 27 = .ok (.ldiv, 1) := dk_109 (dk_at dksX2_draw_1 3 rfl rfl)
theorem dX2_draw_28 : decode cX2_draw 28 = .ok (.iload_n 1, 1) := dk_27 (dk_at dksX2_draw_1 4 rfl rfl)
theorem dX2_draw_29 : decode cX2_draw 29 = .ok (.i2l, 1) := dk_133 (dk_at dksX2_draw_1 5 rfl rfl)
theorem dX2_draw_30 : decode cX2_draw 30 = .ok (.lrem, 1) := dk_113 (dk_at dksX2_draw_1 6 rfl rfl)
theorem dX2_draw_31 : decode cX2_draw 31 = .ok (.l2i, 1) := dk_136 (dk_at dksX2_draw_1 7 rfl rfl)
theorem dX2_draw_32 : decode cX2_draw 32 = .ok (.ireturn, 1) := dk_172 (dk_at dksX2_draw_1 8 rfl rfl)
abbrev cX2_addMicrophone : ByteArray := prog_19_method_5_code
def yX2_addMicrophone : MethodName := ⟨RX2, "addMicrophone", "(IIII)I"⟩
def dkwX2_addMicrophone_1 : List UInt8 := [182, 0, 104, 4, 100, 172]
abbrev dktX2_addMicrophone_1 : List UInt8 := dkwX2_addMicrophone_1 ++ []
def dkwX2_addMicrophone_0 : List UInt8 := [42, 180, 0, 23, 187, 0, 80, 89, 27, 28, 29, 21, 4, 183, 0, 118, 182, 0, 76, 87, 42, 180, 0, 23]
abbrev dktX2_addMicrophone_0 : List UInt8 := dkwX2_addMicrophone_0 ++ dktX2_addMicrophone_1
theorem dksX2_addMicrophone_0 : cX2_addMicrophone.data.toList.drop 0 = dktX2_addMicrophone_0 := by decide +kernel
theorem dksX2_addMicrophone_1 : cX2_addMicrophone.data.toList.drop 24 = dktX2_addMicrophone_1 := dk_seg dksX2_addMicrophone_0 24 rfl rfl
theorem dX2_addMicrophone_0 : decode cX2_addMicrophone 0 = .ok (.aload_n 0, 1) := dk_42 (dk_at dksX2_addMicrophone_0 0 rfl rfl)
theorem dX2_addMicrophone_1 : decode cX2_addMicrophone 1 = .ok (.getfield 23, 3) := dk_180 0 23 (dk_at dksX2_addMicrophone_0 1 rfl rfl)
theorem dX2_addMicrophone_4 : decode cX2_addMicrophone 4 = .ok (.new 80, 3) := dk_187 0 80 (dk_at dksX2_addMicrophone_0 4 rfl rfl)
theorem dX2_addMicrophone_7 : decode cX2_addMicrophone 7 = .ok (.dup, 1) := dk_89 (dk_at dksX2_addMicrophone_0 7 rfl rfl)
theorem dX2_addMicrophone_8 : decode cX2_addMicrophone 8 = .ok (.iload_n 1, 1) := dk_27 (dk_at dksX2_addMicrophone_0 8 rfl rfl)
theorem dX2_addMicrophone_9 : decode cX2_addMicrophone 9 = .ok (.iload_n 2, 1) := dk_28 (dk_at dksX2_addMicrophone_0 9 rfl rfl)
theorem dX2_addMicrophone_10 : decode cX2_addMicrophone 10 = .ok (.iload_n 3, 1) := dk_29 (dk_at dksX2_addMicrophone_0 10 rfl rfl)
theorem dX2_addMicrophone_11 : decode cX2_addMicrophone 11 = .ok (.iload 4, 2) := dk_21 4 (dk_at dksX2_addMicrophone_0 11 rfl rfl)
theorem dX2_addMicrophone_13 : decode cX2_addMicrophone 13 = .ok (.invokespecial 118, 3) := dk_183 0 118 (dk_at dksX2_addMicrophone_0 13 rfl rfl)
theorem dX2_addMicrophone_16 : decode cX2_addMicrophone 16 = .ok (.invokevirtual 76, 3) := dk_182 0 76 (dk_at dksX2_addMicrophone_0 16 rfl rfl)
theorem dX2_addMicrophone_19 : decode cX2_addMicrophone 19 = .ok (.pop, 1) := dk_87 (dk_at dksX2_addMicrophone_0 19 rfl rfl)
theorem dX2_addMicrophone_20 : decode cX2_addMicrophone 20 = .ok (.aload_n 0, 1) := dk_42 (dk_at dksX2_addMicrophone_0 20 rfl rfl)
theorem dX2_addMicrophone_21 : decode cX2_addMicrophone 21 = .ok (.getfield 23, 3) := dk_180 0 23 (dk_at dksX2_addMicrophone_0 21 rfl rfl)
theorem dX2_addMicrophone_24 : decode cX2_addMicrophone 24 = .ok (.invokevirtual 104, 3) := dk_182 0 104 (dk_at dksX2_addMicrophone_1 0 rfl rfl)
theorem dX2_addMicrophone_27 : decode cX2_addMicrophone 27 = .ok (.iconst 1, 1) := dk_4 (dk_at dksX2_addMicrophone_1 3 rfl rfl)
theorem dX2_addMicrophone_28 : decode cX2_addMicrophone 28 = .ok (.isub, 1) := dk_100 (dk_at dksX2_addMicrophone_1 4 rfl rfl)
theorem dX2_addMicrophone_29 : decode cX2_addMicrophone 29 = .ok (.ireturn, 1) := dk_172 (dk_at dksX2_addMicrophone_1 5 rfl rfl)
abbrev cX2_addVehicle : ByteArray := prog_19_method_3_code
def yX2_addVehicle : MethodName := ⟨RX2, "addVehicle", "(III)I"⟩
def dkwX2_addVehicle_1 : List UInt8 := [182, 0, 104, 4, 100, 172]
abbrev dktX2_addVehicle_1 : List UInt8 := dkwX2_addVehicle_1 ++ []
def dkwX2_addVehicle_0 : List UInt8 := [42, 180, 0, 14, 187, 0, 101, 89, 27, 28, 29, 183, 0, 103, 182, 0, 76, 87, 42, 180, 0, 14]
abbrev dktX2_addVehicle_0 : List UInt8 := dkwX2_addVehicle_0 ++ dktX2_addVehicle_1
theorem dksX2_addVehicle_0 : cX2_addVehicle.data.toList.drop 0 = dktX2_addVehicle_0 := by decide +kernel
theorem dksX2_addVehicle_1 : cX2_addVehicle.data.toList.drop 22 = dktX2_addVehicle_1 := dk_seg dksX2_addVehicle_0 22 rfl rfl
theorem dX2_addVehicle_0 : decode cX2_addVehicle 0 = .ok (.aload_n 0, 1) := dk_42 (dk_at dksX2_addVehicle_0 0 rfl rfl)
theorem dX2_addVehicle_1 : decode cX2_addVehicle 1 = .ok (.getfield 14, 3) := dk_180 0 14 (dk_at dksX2_addVehicle_0 1 rfl rfl)
theorem dX2_addVehicle_4 : decode cX2_addVehicle 4 = .ok (.new 101, 3) := dk_187 0 101 (dk_at dksX2_addVehicle_0 4 rfl rfl)
theorem dX2_addVehicle_7 : decode cX2_addVehicle 7 = .ok (.dup, 1) := dk_89 (dk_at dksX2_addVehicle_0 7 rfl rfl)
theorem dX2_addVehicle_8 : decode cX2_addVehicle 8 = .ok (.iload_n 1, 1) := dk_27 (dk_at dksX2_addVehicle_0 8 rfl rfl)
theorem dX2_addVehicle_9 : decode cX2_addVehicle 9 = .ok (.iload_n 2, 1) := dk_28 (dk_at dksX2_addVehicle_0 9 rfl rfl)
theorem dX2_addVehicle_10 : decode cX2_addVehicle 10 = .ok (.iload_n 3, 1) := dk_29 (dk_at dksX2_addVehicle_0 10 rfl rfl)
theorem dX2_addVehicle_11 : decode cX2_addVehicle 11 = .ok (.invokespecial 103, 3) := dk_183 0 103 (dk_at dksX2_addVehicle_0 11 rfl rfl)
theorem dX2_addVehicle_14 : decode cX2_addVehicle 14 = .ok (.invokevirtual 76, 3) := dk_182 0 76 (dk_at dksX2_addVehicle_0 14 rfl rfl)
theorem dX2_addVehicle_17 : decode cX2_addVehicle 17 = .ok (.pop, 1) := dk_87 (dk_at dksX2_addVehicle_0 17 rfl rfl)
theorem dX2_addVehicle_18 : decode cX2_addVehicle 18 = .ok (.aload_n 0, 1) := dk_42 (dk_at dksX2_addVehicle_0 18 rfl rfl)
theorem dX2_addVehicle_19 : decode cX2_addVehicle 19 = .ok (.getfield 14, 3) := dk_180 0 14 (dk_at dksX2_addVehicle_0 19 rfl rfl)
theorem dX2_addVehicle_22 : decode cX2_addVehicle 22 = .ok (.invokevirtual 104, 3) := dk_182 0 104 (dk_at dksX2_addVehicle_1 0 rfl rfl)
theorem dX2_addVehicle_25 : decode cX2_addVehicle 25 = .ok (.iconst 1, 1) := dk_4 (dk_at dksX2_addVehicle_1 3 rfl rfl)
theorem dX2_addVehicle_26 : decode cX2_addVehicle 26 = .ok (.isub, 1) := dk_100 (dk_at dksX2_addVehicle_1 4 rfl rfl)
theorem dX2_addVehicle_27 : decode cX2_addVehicle 27 = .ok (.ireturn, 1) := dk_172 (dk_at dksX2_addVehicle_1 5 rfl rfl)
abbrev cX2_addSource : ByteArray := prog_19_method_4_code
def yX2_addSource : MethodName := ⟨RX2, "addSource", "(IIIII)I"⟩
def dkwX2_addSource_2 : List UInt8 := [182, 0, 104, 21, 7, 100, 172]
abbrev dktX2_addSource_2 : List UInt8 := dkwX2_addSource_2 ++ []
def dkwX2_addSource_1 : List UInt8 := [42, 180, 0, 20, 25, 6, 182, 0, 76, 87, 25, 6, 21, 5, 182, 0, 115, 54, 7, 42, 180, 0, 20]
abbrev dktX2_addSource_1 : List UInt8 := dkwX2_addSource_1 ++ dktX2_addSource_2
def dkwX2_addSource_0 : List UInt8 := [187, 0, 70, 89, 42, 180, 0, 14, 27, 182, 0, 108, 192, 0, 101, 28, 29, 21, 4, 183, 0, 112, 58, 6]
abbrev dktX2_addSource_0 : List UInt8 := dkwX2_addSource_0 ++ dktX2_addSource_1
theorem dksX2_addSource_0 : cX2_addSource.data.toList.drop 0 = dktX2_addSource_0 := by decide +kernel
theorem dksX2_addSource_1 : cX2_addSource.data.toList.drop 24 = dktX2_addSource_1 := dk_seg dksX2_addSource_0 24 rfl rfl
theorem dksX2_addSource_2 : cX2_addSource.data.toList.drop 47 = dktX2_addSource_2 := dk_seg dksX2_addSource_1 23 rfl rfl
theorem dX2_addSource_0 : decode cX2_addSource 0 = .ok (.new 70, 3) := dk_187 0 70 (dk_at dksX2_addSource_0 0 rfl rfl)
theorem dX2_addSource_3 : decode cX2_addSource 3 = .ok (.dup, 1) := dk_89 (dk_at dksX2_addSource_0 3 rfl rfl)
theorem dX2_addSource_4 : decode cX2_addSource 4 = .ok (.aload_n 0, 1) := dk_42 (dk_at dksX2_addSource_0 4 rfl rfl)
theorem dX2_addSource_5 : decode cX2_addSource 5 = .ok (.getfield 14, 3) := dk_180 0 14 (dk_at dksX2_addSource_0 5 rfl rfl)
theorem dX2_addSource_8 : decode cX2_addSource 8 = .ok (.iload_n 1, 1) := dk_27 (dk_at dksX2_addSource_0 8 rfl rfl)
theorem dX2_addSource_9 : decode cX2_addSource 9 = .ok (.invokevirtual 108, 3) := dk_182 0 108 (dk_at dksX2_addSource_0 9 rfl rfl)
theorem dX2_addSource_12 : decode cX2_addSource 12 = .ok (.checkcast 101, 3) := dk_192 0 101 (dk_at dksX2_addSource_0 12 rfl rfl)
theorem dX2_addSource_15 : decode cX2_addSource 15 = .ok (.iload_n 2, 1) := dk_28 (dk_at dksX2_addSource_0 15 rfl rfl)
theorem dX2_addSource_16 : decode cX2_addSource 16 = .ok (.iload_n 3, 1) := dk_29 (dk_at dksX2_addSource_0 16 rfl rfl)
theorem dX2_addSource_17 : decode cX2_addSource 17 = .ok (.iload 4, 2) := dk_21 4 (dk_at dksX2_addSource_0 17 rfl rfl)
theorem dX2_addSource_19 : decode cX2_addSource 19 = .ok (.invokespecial 112, 3) := dk_183 0 112 (dk_at dksX2_addSource_0 19 rfl rfl)
theorem dX2_addSource_22 : decode cX2_addSource 22 = .ok (.astore 6, 2) := dk_58 6 (dk_at dksX2_addSource_0 22 rfl rfl)
theorem dX2_addSource_24 : decode cX2_addSource 24 = .ok (.aload_n 0, 1) := dk_42 (dk_at dksX2_addSource_1 0 rfl rfl)
theorem dX2_addSource_25 : decode cX2_addSource 25 = .ok (.getfield 20, 3) := dk_180 0 20 (dk_at dksX2_addSource_1 1 rfl rfl)
theorem dX2_addSource_28 : decode cX2_addSource 28 = .ok (.aload 6, 2) := dk_25 6 (dk_at dksX2_addSource_1 4 rfl rfl)
theorem dX2_addSource_30 : decode cX2_addSource 30 = .ok (.invokevirtual 76, 3) := dk_182 0 76 (dk_at dksX2_addSource_1 6 rfl rfl)
theorem dX2_addSource_33 : decode cX2_addSource 33 = .ok (.pop, 1) := dk_87 (dk_at dksX2_addSource_1 9 rfl rfl)
theorem dX2_addSource_34 : decode cX2_addSource 34 = .ok (.aload 6, 2) := dk_25 6 (dk_at dksX2_addSource_1 10 rfl rfl)
theorem dX2_addSource_36 : decode cX2_addSource 36 = .ok (.iload 5, 2) := dk_21 5 (dk_at dksX2_addSource_1 12 rfl rfl)
theorem dX2_addSource_38 : decode cX2_addSource 38 = .ok (.invokevirtual 115, 3) := dk_182 0 115 (dk_at dksX2_addSource_1 14 rfl rfl)
theorem dX2_addSource_41 : decode cX2_addSource 41 = .ok (.istore 7, 2) := dk_54 7 (dk_at dksX2_addSource_1 17 rfl rfl)
theorem dX2_addSource_43 : decode cX2_addSource 43 = .ok (.aload_n 0, 1) := dk_42 (dk_at dksX2_addSource_1 19 rfl rfl)
theorem dX2_addSource_44 : decode cX2_addSource 44 = .ok (.getfield 20, 3) := dk_180 0 20 (dk_at dksX2_addSource_1 20 rfl rfl)
theorem dX2_addSource_47 : decode cX2_addSource 47 = .ok (.invokevirtual 104, 3) := dk_182 0 104 (dk_at dksX2_addSource_2 0 rfl rfl)
theorem dX2_addSource_50 : decode cX2_addSource 50 = .ok (.iload 7, 2) := dk_21 7 (dk_at dksX2_addSource_2 3 rfl rfl)
theorem dX2_addSource_52 : decode cX2_addSource 52 = .ok (.isub, 1) := dk_100 (dk_at dksX2_addSource_2 5 rfl rfl)
theorem dX2_addSource_53 : decode cX2_addSource 53 = .ok (.ireturn, 1) := dk_172 (dk_at dksX2_addSource_2 6 rfl rfl)
abbrev cX2_record : ByteArray := prog_19_method_17_code
def yX2_record : MethodName := ⟨RX2, "record", "(I)LTrackArray$Signal;"⟩
def dkwX2_record_0 : List UInt8 := [42, 180, 0, 23, 27, 182, 0, 108, 192, 0, 80, 77, 44, 186, 0, 216, 0, 0, 176]
abbrev dktX2_record_0 : List UInt8 := dkwX2_record_0 ++ []
theorem dksX2_record_0 : cX2_record.data.toList.drop 0 = dktX2_record_0 := by decide +kernel
theorem dX2_record_0 : decode cX2_record 0 = .ok (.aload_n 0, 1) := dk_42 (dk_at dksX2_record_0 0 rfl rfl)
theorem dX2_record_1 : decode cX2_record 1 = .ok (.getfield 23, 3) := dk_180 0 23 (dk_at dksX2_record_0 1 rfl rfl)
theorem dX2_record_4 : decode cX2_record 4 = .ok (.iload_n 1, 1) := dk_27 (dk_at dksX2_record_0 4 rfl rfl)
theorem dX2_record_5 : decode cX2_record 5 = .ok (.invokevirtual 108, 3) := dk_182 0 108 (dk_at dksX2_record_0 5 rfl rfl)
theorem dX2_record_8 : decode cX2_record 8 = .ok (.checkcast 80, 3) := dk_192 0 80 (dk_at dksX2_record_0 8 rfl rfl)
theorem dX2_record_11 : decode cX2_record 11 = .ok (.astore_n 2, 1) := dk_77 (dk_at dksX2_record_0 11 rfl rfl)
theorem dX2_record_12 : decode cX2_record 12 = .ok (.aload_n 2, 1) := dk_44 (dk_at dksX2_record_0 12 rfl rfl)
theorem dX2_record_13 : decode cX2_record 13 = .ok (.invokedynamic 216, 5) := by decide +kernel
theorem dX2_record_18 : decode cX2_record 18 = .ok (.areturn, 1) := dk_176 (dk_at dksX2_record_0 18 rfl rfl)
abbrev cX2_lambda_record_1 : ByteArray := prog_19_method_19_code
def yX2_lambda_record_1 : MethodName := ⟨RX2, "lambda$record$1", "(LTrackArray$Microphone;I)J"⟩
def dkwX2_lambda_record_1_0 : List UInt8 := [42, 180, 0, 152, 27, 46, 133, 173]
abbrev dktX2_lambda_record_1_0 : List UInt8 := dkwX2_lambda_record_1_0 ++ []
theorem dksX2_lambda_record_1_0 : cX2_lambda_record_1.data.toList.drop 0 = dktX2_lambda_record_1_0 := by decide +kernel
theorem dX2_lambda_record_1_0 : decode cX2_lambda_record_1 0 = .ok (.aload_n 0, 1) := dk_42 (dk_at dksX2_lambda_record_1_0 0 rfl rfl)
theorem dX2_lambda_record_1_1 : decode cX2_lambda_record_1 1 = .ok (.getfield 152, 3) := dk_180 0 152 (dk_at dksX2_lambda_record_1_0 1 rfl rfl)
theorem dX2_lambda_record_1_4 : decode cX2_lambda_record_1 4 = .ok (.iload_n 1, 1) := dk_27 (dk_at dksX2_lambda_record_1_0 4 rfl rfl)
theorem dX2_lambda_record_1_5 : decode cX2_lambda_record_1 5 = .ok (.iaload, 1) := dk_46 (dk_at dksX2_lambda_record_1_0 5 rfl rfl)
theorem dX2_lambda_record_1_6 : decode cX2_lambda_record_1 6 = .ok (.i2l, 1) := dk_133 (dk_at dksX2_lambda_record_1_0 6 rfl rfl)
theorem dX2_lambda_record_1_7 : decode cX2_lambda_record_1 7 = .ok (.lreturn, 1) := dk_173 (dk_at dksX2_lambda_record_1_0 7 rfl rfl)
abbrev cX2_sampleNumber : ByteArray := prog_19_method_13_code
def yX2_sampleNumber : MethodName := ⟨RX2, "sampleNumber", "(LTrackArray$Microphone;LTrackArray$Focus;I)I"⟩
def dkwX2_sampleNumber_2 : List UInt8 := [182, 0, 125, 42, 180, 0, 26, 96, 4, 100, 42, 180, 0, 26, 108, 172]
abbrev dktX2_sampleNumber_2 : List UInt8 := dkwX2_sampleNumber_2 ++ []
def dkwX2_sampleNumber_1 : List UInt8 := [16, 100, 42, 180, 0, 26, 104, 184, 0, 185, 96, 172, 44, 192, 0, 191, 58, 4, 42, 43, 25, 4, 29, 3]
abbrev dktX2_sampleNumber_1 : List UInt8 := dkwX2_sampleNumber_1 ++ dktX2_sampleNumber_2
def dkwX2_sampleNumber_0 : List UInt8 := [44, 193, 0, 177, 153, 0, 32, 44, 192, 0, 177, 58, 4, 29, 43, 180, 0, 179, 25, 4, 182, 0, 182, 104]
abbrev dktX2_sampleNumber_0 : List UInt8 := dkwX2_sampleNumber_0 ++ dktX2_sampleNumber_1
theorem dksX2_sampleNumber_0 : cX2_sampleNumber.data.toList.drop 0 = dktX2_sampleNumber_0 := by decide +kernel
theorem dksX2_sampleNumber_1 : cX2_sampleNumber.data.toList.drop 24 = dktX2_sampleNumber_1 := dk_seg dksX2_sampleNumber_0 24 rfl rfl
theorem dksX2_sampleNumber_2 : cX2_sampleNumber.data.toList.drop 48 = dktX2_sampleNumber_2 := dk_seg dksX2_sampleNumber_1 24 rfl rfl
theorem dX2_sampleNumber_0 : decode cX2_sampleNumber 0 = .ok (.aload_n 2, 1) := dk_44 (dk_at dksX2_sampleNumber_0 0 rfl rfl)
theorem dX2_sampleNumber_1 : decode cX2_sampleNumber 1 = .ok (.instanceof 177, 3) := dk_193 0 177 (dk_at dksX2_sampleNumber_0 1 rfl rfl)
theorem dX2_sampleNumber_4 : decode cX2_sampleNumber 4 = .ok (.ifCond .eq 32, 3) := dk_153 0 32 (dk_at dksX2_sampleNumber_0 4 rfl rfl)
theorem dX2_sampleNumber_7 : decode cX2_sampleNumber 7 = .ok (.aload_n 2, 1) := dk_44 (dk_at dksX2_sampleNumber_0 7 rfl rfl)
theorem dX2_sampleNumber_8 : decode cX2_sampleNumber 8 = .ok (.checkcast 177, 3) := dk_192 0 177 (dk_at dksX2_sampleNumber_0 8 rfl rfl)
theorem dX2_sampleNumber_11 : decode cX2_sampleNumber 11 = .ok (.astore 4, 2) := dk_58 4 (dk_at dksX2_sampleNumber_0 11 rfl rfl)
theorem dX2_sampleNumber_13 : decode cX2_sampleNumber 13 = .ok (.iload_n 3, 1) := dk_29 (dk_at dksX2_sampleNumber_0 13 rfl rfl)
theorem dX2_sampleNumber_14 : decode cX2_sampleNumber 14 = .ok (.aload_n 1, 1) := dk_43 (dk_at dksX2_sampleNumber_0 14 rfl rfl)
theorem dX2_sampleNumber_15 : decode cX2_sampleNumber 15 = .ok (.getfield 179, 3) := dk_180 0 179 (dk_at dksX2_sampleNumber_0 15 rfl rfl)
theorem dX2_sampleNumber_18 : decode cX2_sampleNumber 18 = .ok (.aload 4, 2) := dk_25 4 (dk_at dksX2_sampleNumber_0 18 rfl rfl)
theorem dX2_sampleNumber_20 : decode cX2_sampleNumber 20 = .ok (.invokevirtual 182, 3) := dk_182 0 182 (dk_at dksX2_sampleNumber_0 20 rfl rfl)
theorem dX2_sampleNumber_23 : decode cX2_sampleNumber 23 = .ok (.imul, 1) := dk_104 (dk_at dksX2_sampleNumber_0 23 rfl rfl)
theorem dX2_sampleNumber_24 : decode cX2_sampleNumber 24 = .ok (.bipush 100, 2) := dk_16 100 (dk_at dksX2_sampleNumber_1 0 rfl rfl)
theorem dX2_sampleNumber_26 : decode cX2_sampleNumber 26 = .ok (.aload_n 0, 1) := dk_42 (dk_at dksX2_sampleNumber_1 2 rfl rfl)
theorem dX2_sampleNumber_27 : decode cX2_sampleNumber 27 = .ok (.getfield 26, 3) := dk_180 0 26 (dk_at dksX2_sampleNumber_1 3 rfl rfl)
theorem dX2_sampleNumber_30 : decode cX2_sampleNumber 30 = .ok (.imul, 1) := dk_104 (dk_at dksX2_sampleNumber_1 6 rfl rfl)
theorem dX2_sampleNumber_31 : decode cX2_sampleNumber 31 = .ok (.invokestatic 185, 3) := dk_184 0 185 (dk_at dksX2_sampleNumber_1 7 rfl rfl)
theorem dX2_sampleNumber_34 : decode cX2_sampleNumber 34 = .ok (.iadd, 1) := dk_96 (dk_at dksX2_sampleNumber_1 10 rfl rfl)
theorem dX2_sampleNumber_35 : decode cX2_sampleNumber 35 = .ok (.ireturn, 1) := dk_172 (dk_at dksX2_sampleNumber_1 11 rfl rfl)
theorem dX2_sampleNumber_36 : decode cX2_sampleNumber 36 = .ok (.aload_n 2, 1) := dk_44 (dk_at dksX2_sampleNumber_1 12 rfl rfl)
theorem dX2_sampleNumber_37 : decode cX2_sampleNumber 37 = .ok (.checkcast 191, 3) := dk_192 0 191 (dk_at dksX2_sampleNumber_1 13 rfl rfl)
theorem dX2_sampleNumber_40 : decode cX2_sampleNumber 40 = .ok (.astore 4, 2) := dk_58 4 (dk_at dksX2_sampleNumber_1 16 rfl rfl)
theorem dX2_sampleNumber_42 : decode cX2_sampleNumber 42 = .ok (.aload_n 0, 1) := dk_42 (dk_at dksX2_sampleNumber_1 18 rfl rfl)
theorem dX2_sampleNumber_43 : decode cX2_sampleNumber 43 = .ok (.aload_n 1, 1) := dk_43 (dk_at dksX2_sampleNumber_1 19 rfl rfl)
theorem dX2_sampleNumber_44 : decode cX2_sampleNumber 44 = .ok (.aload 4, 2) := dk_25 4 (dk_at dksX2_sampleNumber_1 20 rfl rfl)
theorem dX2_sampleNumber_46 : decode cX2_sampleNumber 46 = .ok (.iload_n 3, 1) := dk_29 (dk_at dksX2_sampleNumber_1 22 rfl rfl)
theorem dX2_sampleNumber_47 : decode cX2_sampleNumber 47 = .ok (.iconst 0, 1) := dk_3 (dk_at dksX2_sampleNumber_1 23 rfl rfl)
theorem dX2_sampleNumber_48 : decode cX2_sampleNumber 48 = .ok (.invokevirtual 125, 3) := dk_182 0 125 (dk_at dksX2_sampleNumber_2 0 rfl rfl)
theorem dX2_sampleNumber_51 : decode cX2_sampleNumber 51 = .ok (.aload_n 0, 1) := dk_42 (dk_at dksX2_sampleNumber_2 3 rfl rfl)
theorem dX2_sampleNumber_52 : decode cX2_sampleNumber 52 = .ok (.getfield 26, 3) := dk_180 0 26 (dk_at dksX2_sampleNumber_2 4 rfl rfl)
theorem dX2_sampleNumber_55 : decode cX2_sampleNumber 55 = .ok (.iadd, 1) := dk_96 (dk_at dksX2_sampleNumber_2 7 rfl rfl)
theorem dX2_sampleNumber_56 : decode cX2_sampleNumber 56 = .ok (.iconst 1, 1) := dk_4 (dk_at dksX2_sampleNumber_2 8 rfl rfl)
theorem dX2_sampleNumber_57 : decode cX2_sampleNumber 57 = .ok (.isub, 1) := dk_100 (dk_at dksX2_sampleNumber_2 9 rfl rfl)
theorem dX2_sampleNumber_58 : decode cX2_sampleNumber 58 = .ok (.aload_n 0, 1) := dk_42 (dk_at dksX2_sampleNumber_2 10 rfl rfl)
theorem dX2_sampleNumber_59 : decode cX2_sampleNumber 59 = .ok (.getfield 26, 3) := dk_180 0 26 (dk_at dksX2_sampleNumber_2 11 rfl rfl)
theorem dX2_sampleNumber_62 : decode cX2_sampleNumber 62 = .ok (.idiv, 1) := dk_108 (dk_at dksX2_sampleNumber_2 14 rfl rfl)
theorem dX2_sampleNumber_63 : decode cX2_sampleNumber 63 = .ok (.ireturn, 1) := dk_172 (dk_at dksX2_sampleNumber_2 15 rfl rfl)
abbrev cX2_layParts : ByteArray := prog_19_method_15_code
def yX2_layParts : MethodName := ⟨RX2, "layParts", "(LTrackArray$Microphone;LTrackArray$Focus;I)V"⟩
def dkwX2_layParts_5 : List UInt8 := [132, 5, 1, 167, 255, 143, 177]
abbrev dktX2_layParts_5 : List UInt8 := dkwX2_layParts_5 ++ []
def dkwX2_layParts_4 : List UInt8 := [21, 5, 92, 46, 42, 43, 25, 7, 42, 180, 0, 43, 21, 4, 46, 21, 4, 182, 0, 202, 100, 79]
abbrev dktX2_layParts_4 : List UInt8 := dkwX2_layParts_4 ++ dktX2_layParts_5
def dkwX2_layParts_3 : List UInt8 := [21, 4, 182, 0, 148, 54, 4, 21, 4, 2, 159, 0, 36, 21, 4, 21, 5, 162, 0, 29, 42, 180, 0, 43]
abbrev dktX2_layParts_3 : List UInt8 := dkwX2_layParts_3 ++ dktX2_layParts_4
def dkwX2_layParts_2 : List UInt8 := [163, 0, 69, 44, 193, 0, 191, 153, 0, 62, 44, 192, 0, 191, 58, 7, 42, 43, 25, 7, 21, 6, 4]
abbrev dktX2_layParts_2 : List UInt8 := dkwX2_layParts_2 ++ dktX2_layParts_3
def dkwX2_layParts_1 : List UInt8 := [180, 0, 43, 21, 5, 43, 21, 6, 182, 0, 199, 79, 42, 180, 0, 98, 153, 0, 77, 21, 6, 17, 0, 255]
abbrev dktX2_layParts_1 : List UInt8 := dkwX2_layParts_1 ++ dktX2_layParts_2
def dkwX2_layParts_0 : List UInt8 := [2, 54, 4, 3, 54, 5, 21, 5, 29, 163, 0, 113, 42, 43, 44, 21, 5, 182, 0, 195, 54, 6, 42]
abbrev dktX2_layParts_0 : List UInt8 := dkwX2_layParts_0 ++ dktX2_layParts_1
theorem dksX2_layParts_0 : cX2_layParts.data.toList.drop 0 = dktX2_layParts_0 := by decide +kernel
theorem dksX2_layParts_1 : cX2_layParts.data.toList.drop 23 = dktX2_layParts_1 := dk_seg dksX2_layParts_0 23 rfl rfl
theorem dksX2_layParts_2 : cX2_layParts.data.toList.drop 47 = dktX2_layParts_2 := dk_seg dksX2_layParts_1 24 rfl rfl
theorem dksX2_layParts_3 : cX2_layParts.data.toList.drop 70 = dktX2_layParts_3 := dk_seg dksX2_layParts_2 23 rfl rfl
theorem dksX2_layParts_4 : cX2_layParts.data.toList.drop 94 = dktX2_layParts_4 := dk_seg dksX2_layParts_3 24 rfl rfl
theorem dksX2_layParts_5 : cX2_layParts.data.toList.drop 116 = dktX2_layParts_5 := dk_seg dksX2_layParts_4 22 rfl rfl
theorem dX2_layParts_0 : decode cX2_layParts 0 = .ok (.iconst (-1), 1) := dk_2 (dk_at dksX2_layParts_0 0 rfl rfl)
theorem dX2_layParts_1 : decode cX2_layParts 1 = .ok (.istore 4, 2) := dk_54 4 (dk_at dksX2_layParts_0 1 rfl rfl)
theorem dX2_layParts_3 : decode cX2_layParts 3 = .ok (.iconst 0, 1) := dk_3 (dk_at dksX2_layParts_0 3 rfl rfl)
theorem dX2_layParts_4 : decode cX2_layParts 4 = .ok (.istore 5, 2) := dk_54 5 (dk_at dksX2_layParts_0 4 rfl rfl)
theorem dX2_layParts_6 : decode cX2_layParts 6 = .ok (.iload 5, 2) := dk_21 5 (dk_at dksX2_layParts_0 6 rfl rfl)
theorem dX2_layParts_8 : decode cX2_layParts 8 = .ok (.iload_n 3, 1) := dk_29 (dk_at dksX2_layParts_0 8 rfl rfl)
theorem dX2_layParts_9 : decode cX2_layParts 9 = .ok (.if_icmp .gt 113, 3) := dk_163 0 113 (dk_at dksX2_layParts_0 9 rfl rfl)
theorem dX2_layParts_12 : decode cX2_layParts 12 = .ok (.aload_n 0, 1) := dk_42 (dk_at dksX2_layParts_0 12 rfl rfl)
theorem dX2_layParts_13 : decode cX2_layParts 13 = .ok (.aload_n 1, 1) := dk_43 (dk_at dksX2_layParts_0 13 rfl rfl)
theorem dX2_layParts_14 : decode cX2_layParts 14 = .ok (.aload_n 2, 1) := dk_44 (dk_at dksX2_layParts_0 14 rfl rfl)
theorem dX2_layParts_15 : decode cX2_layParts 15 = .ok (.iload 5, 2) := dk_21 5 (dk_at dksX2_layParts_0 15 rfl rfl)
theorem dX2_layParts_17 : decode cX2_layParts 17 = .ok (.invokevirtual 195, 3) := dk_182 0 195 (dk_at dksX2_layParts_0 17 rfl rfl)
theorem dX2_layParts_20 : decode cX2_layParts 20 = .ok (.istore 6, 2) := dk_54 6 (dk_at dksX2_layParts_0 20 rfl rfl)
theorem dX2_layParts_22 : decode cX2_layParts 22 = .ok (.aload_n 0, 1) := dk_42 (dk_at dksX2_layParts_0 22 rfl rfl)
theorem dX2_layParts_23 : decode cX2_layParts 23 = .ok (.getfield 43, 3) := dk_180 0 43 (dk_at dksX2_layParts_1 0 rfl rfl)
theorem dX2_layParts_26 : decode cX2_layParts 26 = .ok (.iload 5, 2) := dk_21 5 (dk_at dksX2_layParts_1 3 rfl rfl)
theorem dX2_layParts_28 : decode cX2_layParts 28 = .ok (.aload_n 1, 1) := dk_43 (dk_at dksX2_layParts_1 5 rfl rfl)
theorem dX2_layParts_29 : decode cX2_layParts 29 = .ok (.iload 6, 2) := dk_21 6 (dk_at dksX2_layParts_1 6 rfl rfl)
theorem dX2_layParts_31 : decode cX2_layParts 31 = .ok (.invokevirtual 199, 3) := dk_182 0 199 (dk_at dksX2_layParts_1 8 rfl rfl)
theorem dX2_layParts_34 : decode cX2_layParts 34 = .ok (.iastore, 1) := dk_79 (dk_at dksX2_layParts_1 11 rfl rfl)
theorem dX2_layParts_35 : decode cX2_layParts 35 = .ok (.aload_n 0, 1) := dk_42 (dk_at dksX2_layParts_1 12 rfl rfl)
theorem dX2_layParts_36 : decode cX2_layParts 36 = .ok (.getfield 98, 3) := dk_180 0 98 (dk_at dksX2_layParts_1 13 rfl rfl)
theorem dX2_layParts_39 : decode cX2_layParts 39 = .ok (.ifCond .eq 77, 3) := dk_153 0 77 (dk_at dksX2_layParts_1 16 rfl rfl)
theorem dX2_layParts_42 : decode cX2_layParts 42 = .ok (.iload 6, 2) := dk_21 6 (dk_at dksX2_layParts_1 19 rfl rfl)
theorem dX2_layParts_44 : decode cX2_layParts 44 = .ok (.sipush 255, 3) := dk_17 0 255 (dk_at dksX2_layParts_1 21 rfl rfl)
theorem dX2_layParts_47 : decode cX2_layParts 47 = .ok (.if_icmp .gt 69, 3) := dk_163 0 69 (dk_at dksX2_layParts_2 0 rfl rfl)
theorem dX2_layParts_50 : decode cX2_layParts 50 = .ok (.aload_n 2, 1) := dk_44 (dk_at dksX2_layParts_2 3 rfl rfl)
theorem dX2_layParts_51 : decode cX2_layParts 51 = .ok (.instanceof 191, 3) := dk_193 0 191 (dk_at dksX2_layParts_2 4 rfl rfl)
theorem dX2_layParts_54 : decode cX2_layParts 54 = .ok (.ifCond .eq 62, 3) := dk_153 0 62 (dk_at dksX2_layParts_2 7 rfl rfl)
theorem dX2_layParts_57 : decode cX2_layParts 57 = .ok (.aload_n 2, 1) := dk_44 (dk_at dksX2_layParts_2 10 rfl rfl)
theorem dX2_layParts_58 : decode cX2_layParts 58 = .ok (.checkcast 191, 3) := dk_192 0 191 (dk_at dksX2_layParts_2 11 rfl rfl)
theorem dX2_layParts_61 : decode cX2_layParts 61 = .ok (.astore 7, 2) := dk_58 7 (dk_at dksX2_layParts_2 14 rfl rfl)
theorem dX2_layParts_63 : decode cX2_layParts 63 = .ok (.aload_n 0, 1) := dk_42 (dk_at dksX2_layParts_2 16 rfl rfl)
theorem dX2_layParts_64 : decode cX2_layParts 64 = .ok (.aload_n 1, 1) := dk_43 (dk_at dksX2_layParts_2 17 rfl rfl)
theorem dX2_layParts_65 : decode cX2_layParts 65 = .ok (.aload 7, 2) := dk_25 7 (dk_at dksX2_layParts_2 18 rfl rfl)
theorem dX2_layParts_67 : decode cX2_layParts 67 = .ok (.iload 6, 2) := dk_21 6 (dk_at dksX2_layParts_2 20 rfl rfl)
theorem dX2_layParts_69 : decode cX2_layParts 69 = .ok (.iconst 1, 1) := dk_4 (dk_at dksX2_layParts_2 22 rfl rfl)
theorem dX2_layParts_70 : decode cX2_layParts 70 = .ok (.iload 4, 2) := dk_21 4 (dk_at dksX2_layParts_3 0 rfl rfl)
theorem dX2_layParts_72 : decode cX2_layParts 72 = .ok (.invokevirtual 148, 3) := dk_182 0 148 (dk_at dksX2_layParts_3 2 rfl rfl)
theorem dX2_layParts_75 : decode cX2_layParts 75 = .ok (.istore 4, 2) := dk_54 4 (dk_at dksX2_layParts_3 5 rfl rfl)
theorem dX2_layParts_77 : decode cX2_layParts 77 = .ok (.iload 4, 2) := dk_21 4 (dk_at dksX2_layParts_3 7 rfl rfl)
theorem dX2_layParts_79 : decode cX2_layParts 79 = .ok (.iconst (-1), 1) := dk_2 (dk_at dksX2_layParts_3 9 rfl rfl)
theorem dX2_layParts_80 : decode cX2_layParts 80 = .ok (.if_icmp .eq 36, 3) := dk_159 0 36 (dk_at dksX2_layParts_3 10 rfl rfl)
theorem dX2_layParts_83 : decode cX2_layParts 83 = .ok (.iload 4, 2) := dk_21 4 (dk_at dksX2_layParts_3 13 rfl rfl)
theorem dX2_layParts_85 : decode cX2_layParts 85 = .ok (.iload 5, 2) := dk_21 5 (dk_at dksX2_layParts_3 15 rfl rfl)
theorem dX2_layParts_87 : decode cX2_layParts 87 = .ok (.if_icmp .ge 29, 3) := dk_162 0 29 (dk_at dksX2_layParts_3 17 rfl rfl)
theorem dX2_layParts_90 : decode cX2_layParts 90 = .ok (.aload_n 0, 1) := dk_42 (dk_at dksX2_layParts_3 20 rfl rfl)
theorem dX2_layParts_91 : decode cX2_layParts 91 = .ok (.getfield 43, 3) := dk_180 0 43 (dk_at dksX2_layParts_3 21 rfl rfl)
theorem dX2_layParts_94 : decode cX2_layParts 94 = .ok (.iload 5, 2) := dk_21 5 (dk_at dksX2_layParts_4 0 rfl rfl)
theorem dX2_layParts_96 : decode cX2_layParts 96 = .ok (.dup2, 1) := dk_92 (dk_at dksX2_layParts_4 2 rfl rfl)
theorem dX2_layParts_97 : decode cX2_layParts 97 = .ok (.iaload, 1) := dk_46 (dk_at dksX2_layParts_4 3 rfl rfl)
theorem dX2_layParts_98 : decode cX2_layParts 98 = .ok (.aload_n 0, 1) := dk_42 (dk_at dksX2_layParts_4 4 rfl rfl)
theorem dX2_layParts_99 : decode cX2_layParts 99 = .ok (.aload_n 1, 1) := dk_43 (dk_at dksX2_layParts_4 5 rfl rfl)
theorem dX2_layParts_100 : decode cX2_layParts 100 = .ok (.aload 7, 2) := dk_25 7 (dk_at dksX2_layParts_4 6 rfl rfl)
theorem dX2_layParts_102 : decode cX2_layParts 102 = .ok (.aload_n 0, 1) := dk_42 (dk_at dksX2_layParts_4 8 rfl rfl)
theorem dX2_layParts_103 : decode cX2_layParts 103 = .ok (.getfield 43, 3) := dk_180 0 43 (dk_at dksX2_layParts_4 9 rfl rfl)
theorem dX2_layParts_106 : decode cX2_layParts 106 = .ok (.iload 4, 2) := dk_21 4 (dk_at dksX2_layParts_4 12 rfl rfl)
theorem dX2_layParts_108 : decode cX2_layParts 108 = .ok (.iaload, 1) := dk_46 (dk_at dksX2_layParts_4 14 rfl rfl)
theorem dX2_layParts_109 : decode cX2_layParts 109 = .ok (.iload 4, 2) := dk_21 4 (dk_at dksX2_layParts_4 15 rfl rfl)
theorem dX2_layParts_111 : decode cX2_layParts 111 = .ok (.invokevirtual 202, 3) := dk_182 0 202 (dk_at dksX2_layParts_4 17 rfl rfl)
theorem dX2_layParts_114 : decode cX2_layParts 114 = .ok (.isub, 1) := dk_100 (dk_at dksX2_layParts_4 20 rfl rfl)
theorem dX2_layParts_115 : decode cX2_layParts 115 = .ok (.iastore, 1) := dk_79 (dk_at dksX2_layParts_4 21 rfl rfl)
theorem dX2_layParts_116 : decode cX2_layParts 116 = .ok (.iinc 5 1, 3) := dk_132 5 1 (dk_at dksX2_layParts_5 0 rfl rfl)
theorem dX2_layParts_119 : decode cX2_layParts 119 = .ok (.goto (-113), 3) := dk_167 255 143 (dk_at dksX2_layParts_5 3 rfl rfl)
theorem dX2_layParts_122 : decode cX2_layParts 122 = .ok (.return_, 1) := dk_177 (dk_at dksX2_layParts_5 6 rfl rfl)
abbrev cX2_reduction : ByteArray := prog_19_method_14_code
def yX2_reduction : MethodName := ⟨RX2, "reduction", "(LTrackArray$Microphone;LTrackArray$Place;II)I"⟩
def dkwX2_reduction_2 : List UInt8 := [180, 0, 85, 133, 105, 20, 0, 193, 109, 136, 172]
abbrev dktX2_reduction_2 : List UInt8 := dkwX2_reduction_2 ++ []
def dkwX2_reduction_1 : List UInt8 := [96, 133, 105, 17, 3, 232, 43, 44, 21, 4, 4, 182, 0, 121, 96, 133, 109, 55, 5, 22, 5, 42]
abbrev dktX2_reduction_1 : List UInt8 := dkwX2_reduction_1 ++ dktX2_reduction_2
def dkwX2_reduction_0 : List UInt8 := [29, 133, 55, 5, 42, 180, 0, 88, 153, 0, 35, 22, 5, 17, 3, 232, 43, 44, 21, 4, 3, 182, 0, 121]
abbrev dktX2_reduction_0 : List UInt8 := dkwX2_reduction_0 ++ dktX2_reduction_1
theorem dksX2_reduction_0 : cX2_reduction.data.toList.drop 0 = dktX2_reduction_0 := by decide +kernel
theorem dksX2_reduction_1 : cX2_reduction.data.toList.drop 24 = dktX2_reduction_1 := dk_seg dksX2_reduction_0 24 rfl rfl
theorem dksX2_reduction_2 : cX2_reduction.data.toList.drop 46 = dktX2_reduction_2 := dk_seg dksX2_reduction_1 22 rfl rfl
theorem dX2_reduction_0 : decode cX2_reduction 0 = .ok (.iload_n 3, 1) := dk_29 (dk_at dksX2_reduction_0 0 rfl rfl)
theorem dX2_reduction_1 : decode cX2_reduction 1 = .ok (.i2l, 1) := dk_133 (dk_at dksX2_reduction_0 1 rfl rfl)
theorem dX2_reduction_2 : decode cX2_reduction 2 = .ok (.lstore 5, 2) := dk_55 5 (dk_at dksX2_reduction_0 2 rfl rfl)
theorem dX2_reduction_4 : decode cX2_reduction 4 = .ok (.aload_n 0, 1) := dk_42 (dk_at dksX2_reduction_0 4 rfl rfl)
theorem dX2_reduction_5 : decode cX2_reduction 5 = .ok (.getfield 88, 3) := dk_180 0 88 (dk_at dksX2_reduction_0 5 rfl rfl)
theorem dX2_reduction_8 : decode cX2_reduction 8 = .ok (.ifCond .eq 35, 3) := dk_153 0 35 (dk_at dksX2_reduction_0 8 rfl rfl)
theorem dX2_reduction_11 : decode cX2_reduction 11 = .ok (.lload 5, 2) := dk_22 5 (dk_at dksX2_reduction_0 11 rfl rfl)
theorem dX2_reduction_13 : decode cX2_reduction 13 = .ok (.sipush 1000, 3) := dk_17 3 232 (dk_at dksX2_reduction_0 13 rfl rfl)
theorem dX2_reduction_16 : decode cX2_reduction 16 = .ok (.aload_n 1, 1) := dk_43 (dk_at dksX2_reduction_0 16 rfl rfl)
theorem dX2_reduction_17 : decode cX2_reduction 17 = .ok (.aload_n 2, 1) := dk_44 (dk_at dksX2_reduction_0 17 rfl rfl)
theorem dX2_reduction_18 : decode cX2_reduction 18 = .ok (.iload 4, 2) := dk_21 4 (dk_at dksX2_reduction_0 18 rfl rfl)
theorem dX2_reduction_20 : decode cX2_reduction 20 = .ok (.iconst 0, 1) := dk_3 (dk_at dksX2_reduction_0 20 rfl rfl)
theorem dX2_reduction_21 : decode cX2_reduction 21 = .ok (.invokevirtual 121, 3) := dk_182 0 121 (dk_at dksX2_reduction_0 21 rfl rfl)
theorem dX2_reduction_24 : decode cX2_reduction 24 = .ok (.iadd, 1) := dk_96 (dk_at dksX2_reduction_1 0 rfl rfl)
theorem dX2_reduction_25 : decode cX2_reduction 25 = .ok (.i2l, 1) := dk_133 (dk_at dksX2_reduction_1 1 rfl rfl)
theorem dX2_reduction_26 : decode cX2_reduction 26 = .ok (.lmul, 1) := dk_105 (dk_at dksX2_reduction_1 2 rfl rfl)
theorem dX2_reduction_27 : decode cX2_reduction 27 = .ok (.sipush 1000, 3) := dk_17 3 232 (dk_at dksX2_reduction_1 3 rfl rfl)
theorem dX2_reduction_30 : decode cX2_reduction 30 = .ok (.aload_n 1, 1) := dk_43 (dk_at dksX2_reduction_1 6 rfl rfl)
theorem dX2_reduction_31 : decode cX2_reduction 31 = .ok (.aload_n 2, 1) := dk_44 (dk_at dksX2_reduction_1 7 rfl rfl)
theorem dX2_reduction_32 : decode cX2_reduction 32 = .ok (.iload 4, 2) := dk_21 4 (dk_at dksX2_reduction_1 8 rfl rfl)
theorem dX2_reduction_34 : decode cX2_reduction 34 = .ok (.iconst 1, 1) := dk_4 (dk_at dksX2_reduction_1 10 rfl rfl)
theorem dX2_reduction_35 : decode cX2_reduction 35 = .ok (.invokevirtual 121, 3) := dk_182 0 121 (dk_at dksX2_reduction_1 11 rfl rfl)
theorem dX2_reduction_38 : decode cX2_reduction 38 = .ok (.iadd, 1) := dk_96 (dk_at dksX2_reduction_1 14 rfl rfl)
theorem dX2_reduction_39 : decode cX2_reduction 39 = .ok (.i2l, 1) := dk_133 (dk_at dksX2_reduction_1 15 rfl rfl)
theorem dX2_reduction_40 : decode cX2_reduction 40 = .ok (.ldiv, 1) := dk_109 (dk_at dksX2_reduction_1 16 rfl rfl)
theorem dX2_reduction_41 : decode cX2_reduction 41 = .ok (.lstore 5, 2) := dk_55 5 (dk_at dksX2_reduction_1 17 rfl rfl)
theorem dX2_reduction_43 : decode cX2_reduction 43 = .ok (.lload 5, 2) := dk_22 5 (dk_at dksX2_reduction_1 19 rfl rfl)
theorem dX2_reduction_45 : decode cX2_reduction 45 = .ok (.aload_n 0, 1) := dk_42 (dk_at dksX2_reduction_1 21 rfl rfl)
theorem dX2_reduction_46 : decode cX2_reduction 46 = .ok (.getfield 85, 3) := dk_180 0 85 (dk_at dksX2_reduction_2 0 rfl rfl)
theorem dX2_reduction_49 : decode cX2_reduction 49 = .ok (.i2l, 1) := dk_133 (dk_at dksX2_reduction_2 3 rfl rfl)
theorem dX2_reduction_50 : decode cX2_reduction 50 = .ok (.lmul, 1) := dk_105 (dk_at dksX2_reduction_2 4 rfl rfl)
theorem dX2_reduction_51 : decode cX2_reduction 51 = .ok (.ldc2_w 193, 3) := dk_20 0 193 (dk_at dksX2_reduction_2 5 rfl rfl)
theorem dX2_reduction_54 : decode cX2_reduction 54 = .ok (.ldiv, 1) := dk_109 (dk_at dksX2_reduction_2 8 rfl rfl)
theorem dX2_reduction_55 : decode cX2_reduction 55 = .ok (.l2i, 1) := dk_136 (dk_at dksX2_reduction_2 9 rfl rfl)
theorem dX2_reduction_56 : decode cX2_reduction 56 = .ok (.ireturn, 1) := dk_172 (dk_at dksX2_reduction_2 10 rfl rfl)
abbrev cX2_beam : ByteArray := prog_19_method_16_code
def yX2_beam : MethodName := ⟨RX2, "beam", "(LTrackArray$Focus;I)LTrackArray$Signal;"⟩
def dkwX2_beam_4 : List UInt8 := [167, 255, 188, 42, 186, 0, 213, 0, 0, 176]
abbrev dktX2_beam_4 : List UInt8 := dkwX2_beam_4 ++ []
def dkwX2_beam_3 : List UInt8 := [47, 25, 4, 180, 0, 210, 133, 42, 180, 0, 43, 21, 5, 46, 133, 105, 97, 80, 132, 5, 1, 167, 255, 222]
abbrev dktX2_beam_3 : List UInt8 := dkwX2_beam_3 ++ dktX2_beam_4
def dkwX2_beam_2 : List UInt8 := [42, 25, 4, 43, 28, 182, 0, 206, 3, 54, 5, 21, 5, 28, 163, 0, 34, 42, 180, 0, 47, 21, 5, 92]
abbrev dktX2_beam_2 : List UInt8 := dkwX2_beam_2 ++ dktX2_beam_3
def dkwX2_beam_1 : List UInt8 := [182, 0, 56, 78, 45, 185, 0, 60, 1, 0, 153, 0, 65, 45, 185, 0, 66, 1, 0, 192, 0, 80, 58, 4]
abbrev dktX2_beam_1 : List UInt8 := dkwX2_beam_1 ++ dktX2_beam_2
def dkwX2_beam_0 : List UInt8 := [3, 62, 29, 28, 163, 0, 16, 42, 180, 0, 47, 29, 9, 80, 132, 3, 1, 167, 255, 241, 42, 180, 0, 23]
abbrev dktX2_beam_0 : List UInt8 := dkwX2_beam_0 ++ dktX2_beam_1
theorem dksX2_beam_0 : cX2_beam.data.toList.drop 0 = dktX2_beam_0 := by decide +kernel
theorem dksX2_beam_1 : cX2_beam.data.toList.drop 24 = dktX2_beam_1 := dk_seg dksX2_beam_0 24 rfl rfl
theorem dksX2_beam_2 : cX2_beam.data.toList.drop 48 = dktX2_beam_2 := dk_seg dksX2_beam_1 24 rfl rfl
theorem dksX2_beam_3 : cX2_beam.data.toList.drop 72 = dktX2_beam_3 := dk_seg dksX2_beam_2 24 rfl rfl
theorem dksX2_beam_4 : cX2_beam.data.toList.drop 96 = dktX2_beam_4 := dk_seg dksX2_beam_3 24 rfl rfl
theorem dX2_beam_0 : decode cX2_beam 0 = .ok (.iconst 0, 1) := dk_3 (dk_at dksX2_beam_0 0 rfl rfl)
theorem dX2_beam_1 : decode cX2_beam 1 = .ok (.istore_n 3, 1) := dk_62 (dk_at dksX2_beam_0 1 rfl rfl)
theorem dX2_beam_2 : decode cX2_beam 2 = .ok (.iload_n 3, 1) := dk_29 (dk_at dksX2_beam_0 2 rfl rfl)
theorem dX2_beam_3 : decode cX2_beam 3 = .ok (.iload_n 2, 1) := dk_28 (dk_at dksX2_beam_0 3 rfl rfl)
theorem dX2_beam_4 : decode cX2_beam 4 = .ok (.if_icmp .gt 16, 3) := dk_163 0 16 (dk_at dksX2_beam_0 4 rfl rfl)
theorem dX2_beam_7 : decode cX2_beam 7 = .ok (.aload_n 0, 1) := dk_42 (dk_at dksX2_beam_0 7 rfl rfl)
theorem dX2_beam_8 : decode cX2_beam 8 = .ok (.getfield 47, 3) := dk_180 0 47 (dk_at dksX2_beam_0 8 rfl rfl)
theorem dX2_beam_11 : decode cX2_beam 11 = .ok (.iload_n 3, 1) := dk_29 (dk_at dksX2_beam_0 11 rfl rfl)
theorem dX2_beam_12 : decode cX2_beam 12 = .ok (.lconst 0, 1) := dk_9 (dk_at dksX2_beam_0 12 rfl rfl)
theorem dX2_beam_13 : decode cX2_beam 13 = .ok (.lastore, 1) := dk_80 (dk_at dksX2_beam_0 13 rfl rfl)
theorem dX2_beam_14 : decode cX2_beam 14 = .ok (.iinc 3 1, 3) := dk_132 3 1 (dk_at dksX2_beam_0 14 rfl rfl)
theorem dX2_beam_17 : decode cX2_beam 17 = .ok (.goto (-15), 3) := dk_167 255 241 (dk_at dksX2_beam_0 17 rfl rfl)
theorem dX2_beam_20 : decode cX2_beam 20 = .ok (.aload_n 0, 1) := dk_42 (dk_at dksX2_beam_0 20 rfl rfl)
theorem dX2_beam_21 : decode cX2_beam 21 = .ok (.getfield 23, 3) := dk_180 0 23 (dk_at dksX2_beam_0 21 rfl rfl)
theorem dX2_beam_24 : decode cX2_beam 24 = .ok (.invokevirtual 56, 3) := dk_182 0 56 (dk_at dksX2_beam_1 0 rfl rfl)
theorem dX2_beam_27 : decode cX2_beam 27 = .ok (.astore_n 3, 1) := dk_78 (dk_at dksX2_beam_1 3 rfl rfl)
theorem dX2_beam_28 : decode cX2_beam 28 = .ok (.aload_n 3, 1) := dk_45 (dk_at dksX2_beam_1 4 rfl rfl)
theorem dX2_beam_29 : decode cX2_beam 29 = .ok (.invokeinterface 60 1, 5) := by decide +kernel
theorem dX2_beam_34 : decode cX2_beam 34 = .ok (.ifCond .eq 65, 3) := dk_153 0 65 (dk_at dksX2_beam_1 10 rfl rfl)
theorem dX2_beam_37 : decode cX2_beam 37 = .ok (.aload_n 3, 1) := dk_45 (dk_at dksX2_beam_1 13 rfl rfl)
theorem dX2_beam_38 : decode cX2_beam 38 = .ok (.invokeinterface 66 1, 5) := by decide +kernel
theorem dX2_beam_43 : decode cX2_beam 43 = .ok (.checkcast 80, 3) := dk_192 0 80 (dk_at dksX2_beam_1 19 rfl rfl)
theorem dX2_beam_46 : decode cX2_beam 46 = .ok (.astore 4, 2) := dk_58 4 (dk_at dksX2_beam_1 22 rfl rfl)
theorem dX2_beam_48 : decode cX2_beam 48 = .ok (.aload_n 0, 1) := dk_42 (dk_at dksX2_beam_2 0 rfl rfl)
theorem dX2_beam_49 : decode cX2_beam 49 = .ok (.aload 4, 2) := dk_25 4 (dk_at dksX2_beam_2 1 rfl rfl)
theorem dX2_beam_51 : decode cX2_beam 51 = .ok (.aload_n 1, 1) := dk_43 (dk_at dksX2_beam_2 3 rfl rfl)
theorem dX2_beam_52 : decode cX2_beam 52 = .ok (.iload_n 2, 1) := dk_28 (dk_at dksX2_beam_2 4 rfl rfl)
theorem dX2_beam_53 : decode cX2_beam 53 = .ok (.invokevirtual 206, 3) := dk_182 0 206 (dk_at dksX2_beam_2 5 rfl rfl)
theorem dX2_beam_56 : decode cX2_beam 56 = .ok (.iconst 0, 1) := dk_3 (dk_at dksX2_beam_2 8 rfl rfl)
theorem dX2_beam_57 : decode cX2_beam 57 = .ok (.istore 5, 2) := dk_54 5 (dk_at dksX2_beam_2 9 rfl rfl)
theorem dX2_beam_59 : decode cX2_beam 59 = .ok (.iload 5, 2) := dk_21 5 (dk_at dksX2_beam_2 11 rfl rfl)
theorem dX2_beam_61 : decode cX2_beam 61 = .ok (.iload_n 2, 1) := dk_28 (dk_at dksX2_beam_2 13 rfl rfl)
theorem dX2_beam_62 : decode cX2_beam 62 = .ok (.if_icmp .gt 34, 3) := dk_163 0 34 (dk_at dksX2_beam_2 14 rfl rfl)
theorem dX2_beam_65 : decode cX2_beam 65 = .ok (.aload_n 0, 1) := dk_42 (dk_at dksX2_beam_2 17 rfl rfl)
theorem dX2_beam_66 : decode cX2_beam 66 = .ok (.getfield 47, 3) := dk_180 0 47 (dk_at dksX2_beam_2 18 rfl rfl)
theorem dX2_beam_69 : decode cX2_beam 69 = .ok (.iload 5, 2) := dk_21 5 (dk_at dksX2_beam_2 21 rfl rfl)
theorem dX2_beam_71 : decode cX2_beam 71 = .ok (.dup2, 1) := dk_92 (dk_at dksX2_beam_2 23 rfl rfl)
theorem dX2_beam_72 : decode cX2_beam 72 = .ok (.laload, 1) := dk_47 (dk_at dksX2_beam_3 0 rfl rfl)
theorem dX2_beam_73 : decode cX2_beam 73 = .ok (.aload 4, 2) := dk_25 4 (dk_at dksX2_beam_3 1 rfl rfl)
theorem dX2_beam_75 : decode cX2_beam 75 = .ok (.getfield 210, 3) := dk_180 0 210 (dk_at dksX2_beam_3 3 rfl rfl)
theorem dX2_beam_78 : decode cX2_beam 78 = .ok (.i2l, 1) := dk_133 (dk_at dksX2_beam_3 6 rfl rfl)
theorem dX2_beam_79 : decode cX2_beam 79 = .ok (.aload_n 0, 1) := dk_42 (dk_at dksX2_beam_3 7 rfl rfl)
theorem dX2_beam_80 : decode cX2_beam 80 = .ok (.getfield 43, 3) := dk_180 0 43 (dk_at dksX2_beam_3 8 rfl rfl)
theorem dX2_beam_83 : decode cX2_beam 83 = .ok (.iload 5, 2) := dk_21 5 (dk_at dksX2_beam_3 11 rfl rfl)
theorem dX2_beam_85 : decode cX2_beam 85 = .ok (.iaload, 1) := dk_46 (dk_at dksX2_beam_3 13 rfl rfl)
theorem dX2_beam_86 : decode cX2_beam 86 = .ok (.i2l, 1) := dk_133 (dk_at dksX2_beam_3 14 rfl rfl)
theorem dX2_beam_87 : decode cX2_beam 87 = .ok (.lmul, 1) := dk_105 (dk_at dksX2_beam_3 15 rfl rfl)
theorem dX2_beam_88 : decode cX2_beam 88 = .ok (.ladd, 1) := dk_97 (dk_at dksX2_beam_3 16 rfl rfl)
theorem dX2_beam_89 : decode cX2_beam 89 = .ok (.lastore, 1) := dk_80 (dk_at dksX2_beam_3 17 rfl rfl)
theorem dX2_beam_90 : decode cX2_beam 90 = .ok (.iinc 5 1, 3) := dk_132 5 1 (dk_at dksX2_beam_3 18 rfl rfl)
theorem dX2_beam_93 : decode cX2_beam 93 = .ok (.goto (-34), 3) := dk_167 255 222 (dk_at dksX2_beam_3 21 rfl rfl)
theorem dX2_beam_96 : decode cX2_beam 96 = .ok (.goto (-68), 3) := dk_167 255 188 (dk_at dksX2_beam_4 0 rfl rfl)
theorem dX2_beam_99 : decode cX2_beam 99 = .ok (.aload_n 0, 1) := dk_42 (dk_at dksX2_beam_4 3 rfl rfl)
theorem dX2_beam_100 : decode cX2_beam 100 = .ok (.invokedynamic 213, 5) := by decide +kernel
theorem dX2_beam_105 : decode cX2_beam 105 = .ok (.areturn, 1) := dk_176 (dk_at dksX2_beam_4 9 rfl rfl)
abbrev cX2_lambda_beam_0 : ByteArray := prog_19_method_20_code
def yX2_lambda_beam_0 : MethodName := ⟨RX2, "lambda$beam$0", "(I)J"⟩
def dkwX2_lambda_beam_0_0 : List UInt8 := [42, 180, 0, 47, 27, 47, 173]
abbrev dktX2_lambda_beam_0_0 : List UInt8 := dkwX2_lambda_beam_0_0 ++ []
theorem dksX2_lambda_beam_0_0 : cX2_lambda_beam_0.data.toList.drop 0 = dktX2_lambda_beam_0_0 := by decide +kernel
theorem dX2_lambda_beam_0_0 : decode cX2_lambda_beam_0 0 = .ok (.aload_n 0, 1) := dk_42 (dk_at dksX2_lambda_beam_0_0 0 rfl rfl)
theorem dX2_lambda_beam_0_1 : decode cX2_lambda_beam_0 1 = .ok (.getfield 47, 3) := dk_180 0 47 (dk_at dksX2_lambda_beam_0_0 1 rfl rfl)
theorem dX2_lambda_beam_0_4 : decode cX2_lambda_beam_0 4 = .ok (.iload_n 1, 1) := dk_27 (dk_at dksX2_lambda_beam_0_0 4 rfl rfl)
theorem dX2_lambda_beam_0_5 : decode cX2_lambda_beam_0 5 = .ok (.laload, 1) := dk_47 (dk_at dksX2_lambda_beam_0_0 5 rfl rfl)
theorem dX2_lambda_beam_0_6 : decode cX2_lambda_beam_0 6 = .ok (.lreturn, 1) := dk_173 (dk_at dksX2_lambda_beam_0_0 6 rfl rfl)
abbrev cX2_energyBeside : ByteArray := prog_19_method_18_code
def yX2_energyBeside : MethodName := ⟨RX2, "energyBeside", "(III)J"⟩
def dkwX2_energyBeside_0 : List UInt8 := [178, 0, 219, 42, 42, 180, 0, 39, 27, 185, 0, 225, 2, 0, 29, 182, 0, 231, 28, 29, 182, 0, 235, 173]
abbrev dktX2_energyBeside_0 : List UInt8 := dkwX2_energyBeside_0 ++ []
theorem dksX2_energyBeside_0 : cX2_energyBeside.data.toList.drop 0 = dktX2_energyBeside_0 := by decide +kernel
theorem dX2_energyBeside_0 : decode cX2_energyBeside 0 = .ok (.getstatic 219, 3) := dk_178 0 219 (dk_at dksX2_energyBeside_0 0 rfl rfl)
theorem dX2_energyBeside_3 : decode cX2_energyBeside 3 = .ok (.aload_n 0, 1) := dk_42 (dk_at dksX2_energyBeside_0 3 rfl rfl)
theorem dX2_energyBeside_4 : decode cX2_energyBeside 4 = .ok (.aload_n 0, 1) := dk_42 (dk_at dksX2_energyBeside_0 4 rfl rfl)
theorem dX2_energyBeside_5 : decode cX2_energyBeside 5 = .ok (.getfield 39, 3) := dk_180 0 39 (dk_at dksX2_energyBeside_0 5 rfl rfl)
theorem dX2_energyBeside_8 : decode cX2_energyBeside 8 = .ok (.iload_n 1, 1) := dk_27 (dk_at dksX2_energyBeside_0 8 rfl rfl)
theorem dX2_energyBeside_9 : decode cX2_energyBeside 9 = .ok (.invokeinterface 225 2, 5) := by decide +kernel
theorem dX2_energyBeside_14 : decode cX2_energyBeside 14 = .ok (.iload_n 3, 1) := dk_29 (dk_at dksX2_energyBeside_0 14 rfl rfl)
theorem dX2_energyBeside_15 : decode cX2_energyBeside 15 = .ok (.invokevirtual 231, 3) := dk_182 0 231 (dk_at dksX2_energyBeside_0 15 rfl rfl)
theorem dX2_energyBeside_18 : decode cX2_energyBeside 18 = .ok (.iload_n 2, 1) := dk_28 (dk_at dksX2_energyBeside_0 18 rfl rfl)
theorem dX2_energyBeside_19 : decode cX2_energyBeside 19 = .ok (.iload_n 3, 1) := dk_29 (dk_at dksX2_energyBeside_0 19 rfl rfl)
theorem dX2_energyBeside_20 : decode cX2_energyBeside 20 = .ok (.invokevirtual 235, 3) := dk_182 0 235 (dk_at dksX2_energyBeside_0 20 rfl rfl)
theorem dX2_energyBeside_23 : decode cX2_energyBeside 23 = .ok (.lreturn, 1) := dk_173 (dk_at dksX2_energyBeside_0 23 rfl rfl)
abbrev cX2_copy : ByteArray := prog_19_method_2_code
def yX2_copy : MethodName := ⟨RX2, "copy", "()LTrackArray$Track;"⟩
def dkwX2_copy_7 : List UInt8 := [181, 0, 98, 43, 176]
abbrev dktX2_copy_7 : List UInt8 := dkwX2_copy_7 ++ []
def dkwX2_copy_6 : List UInt8 := [181, 0, 92, 43, 42, 180, 0, 95, 181, 0, 95, 43, 42, 180, 0, 39, 181, 0, 39, 43, 42, 180, 0, 98]
abbrev dktX2_copy_6 : List UInt8 := dkwX2_copy_6 ++ dktX2_copy_7
def dkwX2_copy_5 : List UInt8 := [181, 0, 85, 43, 42, 180, 0, 88, 181, 0, 88, 43, 42, 180, 0, 30, 181, 0, 30, 43, 42, 180, 0, 92]
abbrev dktX2_copy_5 : List UInt8 := dkwX2_copy_5 ++ dktX2_copy_6
def dkwX2_copy_4 : List UInt8 := [182, 0, 82, 182, 0, 76, 87, 167, 255, 225, 43, 42, 180, 0, 26, 181, 0, 26, 43, 42, 180, 0, 85]
abbrev dktX2_copy_4 : List UInt8 := dkwX2_copy_4 ++ dktX2_copy_5
def dkwX2_copy_3 : List UInt8 := [185, 0, 60, 1, 0, 153, 0, 28, 44, 185, 0, 66, 1, 0, 192, 0, 80, 78, 43, 180, 0, 23, 45]
abbrev dktX2_copy_3 : List UInt8 := dkwX2_copy_3 ++ dktX2_copy_4
def dkwX2_copy_2 : List UInt8 := [180, 0, 20, 45, 182, 0, 72, 182, 0, 76, 87, 167, 255, 225, 42, 180, 0, 23, 182, 0, 56, 77, 44]
abbrev dktX2_copy_2 : List UInt8 := dkwX2_copy_2 ++ dktX2_copy_3
def dkwX2_copy_1 : List UInt8 := [182, 0, 56, 77, 44, 185, 0, 60, 1, 0, 153, 0, 28, 44, 185, 0, 66, 1, 0, 192, 0, 70, 78, 43]
abbrev dktX2_copy_1 : List UInt8 := dkwX2_copy_1 ++ dktX2_copy_2
def dkwX2_copy_0 : List UInt8 := [187, 0, 15, 89, 183, 0, 51, 76, 43, 180, 0, 14, 42, 180, 0, 14, 182, 0, 52, 87, 42, 180, 0, 20]
abbrev dktX2_copy_0 : List UInt8 := dkwX2_copy_0 ++ dktX2_copy_1
theorem dksX2_copy_0 : cX2_copy.data.toList.drop 0 = dktX2_copy_0 := by decide +kernel
theorem dksX2_copy_1 : cX2_copy.data.toList.drop 24 = dktX2_copy_1 := dk_seg dksX2_copy_0 24 rfl rfl
theorem dksX2_copy_2 : cX2_copy.data.toList.drop 48 = dktX2_copy_2 := dk_seg dksX2_copy_1 24 rfl rfl
theorem dksX2_copy_3 : cX2_copy.data.toList.drop 71 = dktX2_copy_3 := dk_seg dksX2_copy_2 23 rfl rfl
theorem dksX2_copy_4 : cX2_copy.data.toList.drop 94 = dktX2_copy_4 := dk_seg dksX2_copy_3 23 rfl rfl
theorem dksX2_copy_5 : cX2_copy.data.toList.drop 117 = dktX2_copy_5 := dk_seg dksX2_copy_4 23 rfl rfl
theorem dksX2_copy_6 : cX2_copy.data.toList.drop 141 = dktX2_copy_6 := dk_seg dksX2_copy_5 24 rfl rfl
theorem dksX2_copy_7 : cX2_copy.data.toList.drop 165 = dktX2_copy_7 := dk_seg dksX2_copy_6 24 rfl rfl
theorem dX2_copy_0 : decode cX2_copy 0 = .ok (.new 15, 3) := dk_187 0 15 (dk_at dksX2_copy_0 0 rfl rfl)
theorem dX2_copy_3 : decode cX2_copy 3 = .ok (.dup, 1) := dk_89 (dk_at dksX2_copy_0 3 rfl rfl)
theorem dX2_copy_4 : decode cX2_copy 4 = .ok (.invokespecial 51, 3) := dk_183 0 51 (dk_at dksX2_copy_0 4 rfl rfl)
theorem dX2_copy_7 : decode cX2_copy 7 = .ok (.astore_n 1, 1) := dk_76 (dk_at dksX2_copy_0 7 rfl rfl)
theorem dX2_copy_8 : decode cX2_copy 8 = .ok (.aload_n 1, 1) := dk_43 (dk_at dksX2_copy_0 8 rfl rfl)
theorem dX2_copy_9 : decode cX2_copy 9 = .ok (.getfield 14, 3) := dk_180 0 14 (dk_at dksX2_copy_0 9 rfl rfl)
theorem dX2_copy_12 : decode cX2_copy 12 = .ok (.aload_n 0, 1) := dk_42 (dk_at dksX2_copy_0 12 rfl rfl)
theorem dX2_copy_13 : decode cX2_copy 13 = .ok (.getfield 14, 3) := dk_180 0 14 (dk_at dksX2_copy_0 13 rfl rfl)
theorem dX2_copy_16 : decode cX2_copy 16 = .ok (.invokevirtual 52, 3) := dk_182 0 52 (dk_at dksX2_copy_0 16 rfl rfl)
theorem dX2_copy_19 : decode cX2_copy 19 = .ok (.pop, 1) := dk_87 (dk_at dksX2_copy_0 19 rfl rfl)
theorem dX2_copy_20 : decode cX2_copy 20 = .ok (.aload_n 0, 1) := dk_42 (dk_at dksX2_copy_0 20 rfl rfl)
theorem dX2_copy_21 : decode cX2_copy 21 = .ok (.getfield 20, 3) := dk_180 0 20 (dk_at dksX2_copy_0 21 rfl rfl)
theorem dX2_copy_24 : decode cX2_copy 24 = .ok (.invokevirtual 56, 3) := dk_182 0 56 (dk_at dksX2_copy_1 0 rfl rfl)
theorem dX2_copy_27 : decode cX2_copy 27 = .ok (.astore_n 2, 1) := dk_77 (dk_at dksX2_copy_1 3 rfl rfl)
theorem dX2_copy_28 : decode cX2_copy 28 = .ok (.aload_n 2, 1) := dk_44 (dk_at dksX2_copy_1 4 rfl rfl)
theorem dX2_copy_29 : decode cX2_copy 29 = .ok (.invokeinterface 60 1, 5) := by decide +kernel
theorem dX2_copy_34 : decode cX2_copy 34 = .ok (.ifCond .eq 28, 3) := dk_153 0 28 (dk_at dksX2_copy_1 10 rfl rfl)
theorem dX2_copy_37 : decode cX2_copy 37 = .ok (.aload_n 2, 1) := dk_44 (dk_at dksX2_copy_1 13 rfl rfl)
theorem dX2_copy_38 : decode cX2_copy 38 = .ok (.invokeinterface 66 1, 5) := by decide +kernel
theorem dX2_copy_43 : decode cX2_copy 43 = .ok (.checkcast 70, 3) := dk_192 0 70 (dk_at dksX2_copy_1 19 rfl rfl)
theorem dX2_copy_46 : decode cX2_copy 46 = .ok (.astore_n 3, 1) := dk_78 (dk_at dksX2_copy_1 22 rfl rfl)
theorem dX2_copy_47 : decode cX2_copy 47 = .ok (.aload_n 1, 1) := dk_43 (dk_at dksX2_copy_1 23 rfl rfl)
theorem dX2_copy_48 : decode cX2_copy 48 = .ok (.getfield 20, 3) := dk_180 0 20 (dk_at dksX2_copy_2 0 rfl rfl)
theorem dX2_copy_51 : decode cX2_copy 51 = .ok (.aload_n 3, 1) := dk_45 (dk_at dksX2_copy_2 3 rfl rfl)
theorem dX2_copy_52 : decode cX2_copy 52 = .ok (.invokevirtual 72, 3) := dk_182 0 72 (dk_at dksX2_copy_2 4 rfl rfl)
theorem dX2_copy_55 : decode cX2_copy 55 = .ok (.invokevirtual 76, 3) := dk_182 0 76 (dk_at dksX2_copy_2 7 rfl rfl)
theorem dX2_copy_58 : decode cX2_copy 58 = .ok (.pop, 1) := dk_87 (dk_at dksX2_copy_2 10 rfl rfl)
theorem dX2_copy_59 : decode cX2_copy 59 = .ok (.goto (-31), 3) := dk_167 255 225 (dk_at dksX2_copy_2 11 rfl rfl)
theorem dX2_copy_62 : decode cX2_copy 62 = .ok (.aload_n 0, 1) := dk_42 (dk_at dksX2_copy_2 14 rfl rfl)
theorem dX2_copy_63 : decode cX2_copy 63 = .ok (.getfield 23, 3) := dk_180 0 23 (dk_at dksX2_copy_2 15 rfl rfl)
theorem dX2_copy_66 : decode cX2_copy 66 = .ok (.invokevirtual 56, 3) := dk_182 0 56 (dk_at dksX2_copy_2 18 rfl rfl)
theorem dX2_copy_69 : decode cX2_copy 69 = .ok (.astore_n 2, 1) := dk_77 (dk_at dksX2_copy_2 21 rfl rfl)
theorem dX2_copy_70 : decode cX2_copy 70 = .ok (.aload_n 2, 1) := dk_44 (dk_at dksX2_copy_2 22 rfl rfl)
theorem dX2_copy_71 : decode cX2_copy 71 = .ok (.invokeinterface 60 1, 5) := by decide +kernel
theorem dX2_copy_76 : decode cX2_copy 76 = .ok (.ifCond .eq 28, 3) := dk_153 0 28 (dk_at dksX2_copy_3 5 rfl rfl)
theorem dX2_copy_79 : decode cX2_copy 79 = .ok (.aload_n 2, 1) := dk_44 (dk_at dksX2_copy_3 8 rfl rfl)
theorem dX2_copy_80 : decode cX2_copy 80 = .ok (.invokeinterface 66 1, 5) := by decide +kernel
theorem dX2_copy_85 : decode cX2_copy 85 = .ok (.checkcast 80, 3) := dk_192 0 80 (dk_at dksX2_copy_3 14 rfl rfl)
theorem dX2_copy_88 : decode cX2_copy 88 = .ok (.astore_n 3, 1) := dk_78 (dk_at dksX2_copy_3 17 rfl rfl)
theorem dX2_copy_89 : decode cX2_copy 89 = .ok (.aload_n 1, 1) := dk_43 (dk_at dksX2_copy_3 18 rfl rfl)
theorem dX2_copy_90 : decode cX2_copy 90 = .ok (.getfield 23, 3) := dk_180 0 23 (dk_at dksX2_copy_3 19 rfl rfl)
theorem dX2_copy_93 : decode cX2_copy 93 = .ok (.aload_n 3, 1) := dk_45 (dk_at dksX2_copy_3 22 rfl rfl)
theorem dX2_copy_94 : decode cX2_copy 94 = .ok (.invokevirtual 82, 3) := dk_182 0 82 (dk_at dksX2_copy_4 0 rfl rfl)
theorem dX2_copy_97 : decode cX2_copy 97 = .ok (.invokevirtual 76, 3) := dk_182 0 76 (dk_at dksX2_copy_4 3 rfl rfl)
theorem dX2_copy_100 : decode cX2_copy 100 = .ok (.pop, 1) := dk_87 (dk_at dksX2_copy_4 6 rfl rfl)
theorem dX2_copy_101 : decode cX2_copy 101 = .ok (.goto (-31), 3) := dk_167 255 225 (dk_at dksX2_copy_4 7 rfl rfl)
theorem dX2_copy_104 : decode cX2_copy 104 = .ok (.aload_n 1, 1) := dk_43 (dk_at dksX2_copy_4 10 rfl rfl)
theorem dX2_copy_105 : decode cX2_copy 105 = .ok (.aload_n 0, 1) := dk_42 (dk_at dksX2_copy_4 11 rfl rfl)
theorem dX2_copy_106 : decode cX2_copy 106 = .ok (.getfield 26, 3) := dk_180 0 26 (dk_at dksX2_copy_4 12 rfl rfl)
theorem dX2_copy_109 : decode cX2_copy 109 = .ok (.putfield 26, 3) := dk_181 0 26 (dk_at dksX2_copy_4 15 rfl rfl)
theorem dX2_copy_112 : decode cX2_copy 112 = .ok (.aload_n 1, 1) := dk_43 (dk_at dksX2_copy_4 18 rfl rfl)
theorem dX2_copy_113 : decode cX2_copy 113 = .ok (.aload_n 0, 1) := dk_42 (dk_at dksX2_copy_4 19 rfl rfl)
theorem dX2_copy_114 : decode cX2_copy 114 = .ok (.getfield 85, 3) := dk_180 0 85 (dk_at dksX2_copy_4 20 rfl rfl)
theorem dX2_copy_117 : decode cX2_copy 117 = .ok (.putfield 85, 3) := dk_181 0 85 (dk_at dksX2_copy_5 0 rfl rfl)
theorem dX2_copy_120 : decode cX2_copy 120 = .ok (.aload_n 1, 1) := dk_43 (dk_at dksX2_copy_5 3 rfl rfl)
theorem dX2_copy_121 : decode cX2_copy 121 = .ok (.aload_n 0, 1) := dk_42 (dk_at dksX2_copy_5 4 rfl rfl)
theorem dX2_copy_122 : decode cX2_copy 122 = .ok (.getfield 88, 3) := dk_180 0 88 (dk_at dksX2_copy_5 5 rfl rfl)
theorem dX2_copy_125 : decode cX2_copy 125 = .ok (.putfield 88, 3) := dk_181 0 88 (dk_at dksX2_copy_5 8 rfl rfl)
theorem dX2_copy_128 : decode cX2_copy 128 = .ok (.aload_n 1, 1) := dk_43 (dk_at dksX2_copy_5 11 rfl rfl)
theorem dX2_copy_129 : decode cX2_copy 129 = .ok (.aload_n 0, 1) := dk_42 (dk_at dksX2_copy_5 12 rfl rfl)
theorem dX2_copy_130 : decode cX2_copy 130 = .ok (.getfield 30, 3) := dk_180 0 30 (dk_at dksX2_copy_5 13 rfl rfl)
theorem dX2_copy_133 : decode cX2_copy 133 = .ok (.putfield 30, 3) := dk_181 0 30 (dk_at dksX2_copy_5 16 rfl rfl)
theorem dX2_copy_136 : decode cX2_copy 136 = .ok (.aload_n 1, 1) := dk_43 (dk_at dksX2_copy_5 19 rfl rfl)
theorem dX2_copy_137 : decode cX2_copy 137 = .ok (.aload_n 0, 1) := dk_42 (dk_at dksX2_copy_5 20 rfl rfl)
theorem dX2_copy_138 : decode cX2_copy 138 = .ok (.getfield 92, 3) := dk_180 0 92 (dk_at dksX2_copy_5 21 rfl rfl)
theorem dX2_copy_141 : decode cX2_copy 141 = .ok (.putfield 92, 3) := dk_181 0 92 (dk_at dksX2_copy_6 0 rfl rfl)
theorem dX2_copy_144 : decode cX2_copy 144 = .ok (.aload_n 1, 1) := dk_43 (dk_at dksX2_copy_6 3 rfl rfl)
theorem dX2_copy_145 : decode cX2_copy 145 = .ok (.aload_n 0, 1) := dk_42 (dk_at dksX2_copy_6 4 rfl rfl)
theorem dX2_copy_146 : decode cX2_copy 146 = .ok (.getfield 95, 3) := dk_180 0 95 (dk_at dksX2_copy_6 5 rfl rfl)
theorem dX2_copy_149 : decode cX2_copy 149 = .ok (.putfield 95, 3) := dk_181 0 95 (dk_at dksX2_copy_6 8 rfl rfl)
theorem dX2_copy_152 : decode cX2_copy 152 = .ok (.aload_n 1, 1) := dk_43 (dk_at dksX2_copy_6 11 rfl rfl)
theorem dX2_copy_153 : decode cX2_copy 153 = .ok (.aload_n 0, 1) := dk_42 (dk_at dksX2_copy_6 12 rfl rfl)
theorem dX2_copy_154 : decode cX2_copy 154 = .ok (.getfield 39, 3) := dk_180 0 39 (dk_at dksX2_copy_6 13 rfl rfl)
theorem dX2_copy_157 : decode cX2_copy 157 = .ok (.putfield 39, 3) := dk_181 0 39 (dk_at dksX2_copy_6 16 rfl rfl)
theorem dX2_copy_160 : decode cX2_copy 160 = .ok (.aload_n 1, 1) := dk_43 (dk_at dksX2_copy_6 19 rfl rfl)
theorem dX2_copy_161 : decode cX2_copy 161 = .ok (.aload_n 0, 1) := dk_42 (dk_at dksX2_copy_6 20 rfl rfl)
theorem dX2_copy_162 : decode cX2_copy 162 = .ok (.getfield 98, 3) := dk_180 0 98 (dk_at dksX2_copy_6 21 rfl rfl)
theorem dX2_copy_165 : decode cX2_copy 165 = .ok (.putfield 98, 3) := dk_181 0 98 (dk_at dksX2_copy_7 0 rfl rfl)
theorem dX2_copy_168 : decode cX2_copy 168 = .ok (.aload_n 1, 1) := dk_43 (dk_at dksX2_copy_7 3 rfl rfl)
theorem dX2_copy_169 : decode cX2_copy 169 = .ok (.areturn, 1) := dk_176 (dk_at dksX2_copy_7 4 rfl rfl)
theorem q84 : (Jvm.Cond.initialized "TrackArray$Track") ∈ lw_all := lw_g (lw_at lw_m1 2 rfl) rfl
theorem q135 : (Jvm.Cond.instantiable "TrackArray$Track" (13 : Nat)) ∈ lw_all := lw_g (lw_at lw_m1 53 rfl) rfl
theorem q137 : (Jvm.Cond.instanceMethod ({ cls := "TrackArray$Track", name := "<init>", desc := "()V" } : Jvm.MethodName)) ∈ lw_all := lw_g (lw_at lw_m1 55 rfl) rfl
theorem q138 : (Jvm.Cond.code ({ cls := "TrackArray$Track", name := "<init>", desc := "()V" } : Jvm.MethodName) prog_19_method_1_code (1 : Nat) (Option.none : Option Jvm.ClassFile.FieldType)) ∈ lw_all := lw_g (lw_at lw_m1 56 rfl) rfl
theorem q139 : (Jvm.Cond.methodLink "TrackArray$Track" (3 : Nat) ({ cls := "java/lang/Object", name := "<init>", desc := "()V" } : Jvm.MethodName)) ∈ lw_all := lw_g (lw_at lw_m1 57 rfl) rfl
theorem q140 : (Jvm.Cond.classLink "TrackArray$Track" (9 : Nat) "java/util/ArrayList") ∈ lw_all := lw_g (lw_at lw_m1 58 rfl) rfl
theorem q142 : (Jvm.Cond.methodLink "TrackArray$Track" (11 : Nat) ({ cls := "java/util/ArrayList", name := "<init>", desc := "(I)V" } : Jvm.MethodName)) ∈ lw_all := lw_g (lw_at lw_m1 60 rfl) rfl
theorem q489 : (Jvm.Cond.classLink "TrackArray$Track" (34 : Nat) "TrackArray$Fixed") ∈ lw_all := lw_g (lw_at lw_m2 167 rfl) rfl
theorem q491 : (Jvm.Cond.methodLinkNest "TrackArray$Track" (36 : Nat) ({ cls := "TrackArray$Fixed", name := "<init>", desc := "(III)V" } : Jvm.MethodName) "TrackArray") ∈ lw_tbl := lw_at lw_m2 169 rfl
theorem q508 : (Jvm.Cond.fieldLink "TrackArray$Track" (14 : Nat) "TrackArray$Track" "vehicles" "Ljava/util/ArrayList;") ∈ lw_all := lw_g (lw_at lw_m2 186 rfl) rfl
theorem q511 : (Jvm.Cond.fieldLink "TrackArray$Track" (20 : Nat) "TrackArray$Track" "sources" "Ljava/util/ArrayList;") ∈ lw_all := lw_g (lw_at lw_m2 189 rfl) rfl
theorem q514 : (Jvm.Cond.fieldLink "TrackArray$Track" (23 : Nat) "TrackArray$Track" "microphones" "Ljava/util/ArrayList;") ∈ lw_all := lw_g (lw_at lw_m2 192 rfl) rfl
theorem q517 : (Jvm.Cond.fieldLink "TrackArray$Track" (26 : Nat) "TrackArray$Track" "sound" "I") ∈ lw_all := lw_g (lw_at lw_m2 195 rfl) rfl
theorem q520 : (Jvm.Cond.fieldLink "TrackArray$Track" (85 : Nat) "TrackArray$Track" "ground" "I") ∈ lw_all := lw_g (lw_at lw_m2 198 rfl) rfl
theorem q523 : (Jvm.Cond.fieldLink "TrackArray$Track" (88 : Nat) "TrackArray$Track" "spreads" "Z") ∈ lw_all := lw_g (lw_at lw_m2 201 rfl) rfl
theorem q526 : (Jvm.Cond.fieldLink "TrackArray$Track" (30 : Nat) "TrackArray$Track" "random" "J") ∈ lw_all := lw_g (lw_at lw_m2 204 rfl) rfl
theorem q528 : (Jvm.Cond.fieldLink "TrackArray$Track" (92 : Nat) "TrackArray$Track" "noise" "I") ∈ lw_all := lw_g (lw_at lw_m2 206 rfl) rfl
theorem q531 : (Jvm.Cond.fieldLink "TrackArray$Track" (95 : Nat) "TrackArray$Track" "recordings" "I") ∈ lw_all := lw_g (lw_at lw_m2 209 rfl) rfl
theorem q533 : (Jvm.Cond.fieldLink "TrackArray$Track" (39 : Nat) "TrackArray$Track" "focus" "LTrackArray$Focus;") ∈ lw_all := lw_g (lw_at lw_m2 211 rfl) rfl
theorem q535 : (Jvm.Cond.fieldLink "TrackArray$Track" (98 : Nat) "TrackArray$Track" "cuts" "Z") ∈ lw_all := lw_g (lw_at lw_m2 213 rfl) rfl
theorem q537 : (Jvm.Cond.fieldLink "TrackArray$Track" (43 : Nat) "TrackArray$Track" "parts" "[I") ∈ lw_all := lw_g (lw_at lw_m2 215 rfl) rfl
theorem q539 : (Jvm.Cond.fieldLink "TrackArray$Track" (47 : Nat) "TrackArray$Track" "sums" "[J") ∈ lw_all := lw_g (lw_at lw_m2 217 rfl) rfl
theorem q540 : (Jvm.Cond.laysFinal "TrackArray$Track" "TrackArray$Track" "vehicles" "Ljava/util/ArrayList;") ∈ lw_all := lw_g (lw_at lw_m2 218 rfl) rfl
theorem q541 : (Jvm.Cond.soleField "TrackArray$Track" "vehicles") ∈ lw_all := lw_g (lw_at lw_m2 219 rfl) rfl
theorem q542 : (Jvm.Cond.laysFinal "TrackArray$Track" "TrackArray$Track" "sources" "Ljava/util/ArrayList;") ∈ lw_all := lw_g (lw_at lw_m2 220 rfl) rfl
theorem q543 : (Jvm.Cond.soleField "TrackArray$Track" "sources") ∈ lw_all := lw_g (lw_at lw_m2 221 rfl) rfl
theorem q544 : (Jvm.Cond.laysFinal "TrackArray$Track" "TrackArray$Track" "microphones" "Ljava/util/ArrayList;") ∈ lw_all := lw_g (lw_at lw_m2 222 rfl) rfl
theorem q545 : (Jvm.Cond.soleField "TrackArray$Track" "microphones") ∈ lw_all := lw_g (lw_at lw_m2 223 rfl) rfl
theorem q546 : (Jvm.Cond.lays "TrackArray$Track" "TrackArray$Track" "sound" "I") ∈ lw_all := lw_g (lw_at lw_m2 224 rfl) rfl
theorem q547 : (Jvm.Cond.soleField "TrackArray$Track" "sound") ∈ lw_all := lw_g (lw_at lw_m2 225 rfl) rfl
theorem q548 : (Jvm.Cond.lays "TrackArray$Track" "TrackArray$Track" "ground" "I") ∈ lw_all := lw_g (lw_at lw_m2 226 rfl) rfl
theorem q549 : (Jvm.Cond.soleField "TrackArray$Track" "ground") ∈ lw_all := lw_g (lw_at lw_m2 227 rfl) rfl
theorem q550 : (Jvm.Cond.lays "TrackArray$Track" "TrackArray$Track" "spreads" "Z") ∈ lw_all := lw_g (lw_at lw_m2 228 rfl) rfl
theorem q551 : (Jvm.Cond.soleField "TrackArray$Track" "spreads") ∈ lw_all := lw_g (lw_at lw_m2 229 rfl) rfl
theorem q552 : (Jvm.Cond.lays "TrackArray$Track" "TrackArray$Track" "random" "J") ∈ lw_all := lw_g (lw_at lw_m2 230 rfl) rfl
theorem q553 : (Jvm.Cond.soleField "TrackArray$Track" "random") ∈ lw_all := lw_g (lw_at lw_m2 231 rfl) rfl
theorem q554 : (Jvm.Cond.lays "TrackArray$Track" "TrackArray$Track" "noise" "I") ∈ lw_all := lw_g (lw_at lw_m2 232 rfl) rfl
theorem q555 : (Jvm.Cond.soleField "TrackArray$Track" "noise") ∈ lw_all := lw_g (lw_at lw_m2 233 rfl) rfl
theorem q556 : (Jvm.Cond.lays "TrackArray$Track" "TrackArray$Track" "recordings" "I") ∈ lw_all := lw_g (lw_at lw_m2 234 rfl) rfl
theorem q557 : (Jvm.Cond.soleField "TrackArray$Track" "recordings") ∈ lw_all := lw_g (lw_at lw_m2 235 rfl) rfl
theorem q558 : (Jvm.Cond.lays "TrackArray$Track" "TrackArray$Track" "focus" "LTrackArray$Focus;") ∈ lw_all := lw_g (lw_at lw_m2 236 rfl) rfl
theorem q559 : (Jvm.Cond.soleField "TrackArray$Track" "focus") ∈ lw_all := lw_g (lw_at lw_m2 237 rfl) rfl
theorem q560 : (Jvm.Cond.lays "TrackArray$Track" "TrackArray$Track" "cuts" "Z") ∈ lw_all := lw_g (lw_at lw_m2 238 rfl) rfl
theorem q561 : (Jvm.Cond.soleField "TrackArray$Track" "cuts") ∈ lw_all := lw_g (lw_at lw_m2 239 rfl) rfl
theorem q562 : (Jvm.Cond.laysFinal "TrackArray$Track" "TrackArray$Track" "parts" "[I") ∈ lw_all := lw_g (lw_at lw_m3 0 rfl) rfl
theorem q563 : (Jvm.Cond.soleField "TrackArray$Track" "parts") ∈ lw_all := lw_g (lw_at lw_m3 1 rfl) rfl
theorem q564 : (Jvm.Cond.laysFinal "TrackArray$Track" "TrackArray$Track" "sums" "[J") ∈ lw_all := lw_g (lw_at lw_m3 2 rfl) rfl
theorem q565 : (Jvm.Cond.soleField "TrackArray$Track" "sums") ∈ lw_all := lw_g (lw_at lw_m3 3 rfl) rfl
theorem q566 : (Jvm.Cond.superclass "TrackArray$Track" "java/lang/Object") ∈ lw_all := lw_g (lw_at lw_m3 4 rfl) rfl
theorem q599 : (Jvm.Cond.instanceMethod ({ cls := "TrackArray$Track", name := "makeRecording", desc := "()I" } : Jvm.MethodName)) ∈ lw_all := lw_g (lw_at lw_m3 37 rfl) rfl
theorem q600 : (Jvm.Cond.selects "TrackArray$Track" ({ cls := "TrackArray$Track", name := "makeRecording", desc := "()I" } : Jvm.MethodName) ({ cls := "TrackArray$Track", name := "makeRecording", desc := "()I" } : Jvm.MethodName)) ∈ lw_all := lw_g (lw_at lw_m3 38 rfl) rfl
theorem q601 : (Jvm.Cond.code ({ cls := "TrackArray$Track", name := "makeRecording", desc := "()I" } : Jvm.MethodName) prog_19_method_12_code (5 : Nat) (Option.some Jvm.ClassFile.FieldType.int)) ∈ lw_all := lw_g (lw_at lw_m3 39 rfl) rfl
theorem q602 : (Jvm.Cond.methodLink "TrackArray$Track" (56 : Nat) ({ cls := "java/util/ArrayList", name := "iterator", desc := "()Ljava/util/Iterator;" } : Jvm.MethodName)) ∈ lw_all := lw_g (lw_at lw_m3 40 rfl) rfl
theorem q625 : (Jvm.Cond.interfaceEntry "TrackArray$Track" (60 : Nat)) ∈ lw_tbl := lw_at lw_m3 63 rfl
theorem q626 : (Jvm.Cond.methodLink "TrackArray$Track" (60 : Nat) ({ cls := "java/util/Iterator", name := "hasNext", desc := "()Z" } : Jvm.MethodName)) ∈ lw_all := lw_g (lw_at lw_m3 64 rfl) rfl
theorem q635 : (Jvm.Cond.interfaceEntry "TrackArray$Track" (66 : Nat)) ∈ lw_tbl := lw_at lw_m3 73 rfl
theorem q636 : (Jvm.Cond.methodLink "TrackArray$Track" (66 : Nat) ({ cls := "java/util/Iterator", name := "next", desc := "()Ljava/lang/Object;" } : Jvm.MethodName)) ∈ lw_all := lw_g (lw_at lw_m3 74 rfl) rfl
theorem q648 : (Jvm.Cond.classLink "TrackArray$Track" (80 : Nat) "TrackArray$Microphone") ∈ lw_all := lw_g (lw_at lw_m3 86 rfl) rfl
theorem q649 : (Jvm.Cond.classLink "TrackArray$Track" (70 : Nat) "TrackArray$Source") ∈ lw_all := lw_g (lw_at lw_m3 87 rfl) rfl
theorem q650 : (Jvm.Cond.methodLink "TrackArray$Track" (170 : Nat) ({ cls := "TrackArray$Track", name := "hear", desc := "(LTrackArray$Microphone;LTrackArray$Source;Z)V" } : Jvm.MethodName)) ∈ lw_all := lw_g (lw_at lw_m3 88 rfl) rfl
theorem q651 : (Jvm.Cond.privateMethod ({ cls := "TrackArray$Track", name := "hear", desc := "(LTrackArray$Microphone;LTrackArray$Source;Z)V" } : Jvm.MethodName)) ∈ lw_tbl := lw_at lw_m3 89 rfl
theorem q652 : (Jvm.Cond.instanceMethod ({ cls := "TrackArray$Track", name := "hear", desc := "(LTrackArray$Microphone;LTrackArray$Source;Z)V" } : Jvm.MethodName)) ∈ lw_all := lw_g (lw_at lw_m3 90 rfl) rfl
theorem q653 : (Jvm.Cond.code ({ cls := "TrackArray$Track", name := "hear", desc := "(LTrackArray$Microphone;LTrackArray$Source;Z)V" } : Jvm.MethodName) prog_19_method_10_code (7 : Nat) (Option.none : Option Jvm.ClassFile.FieldType)) ∈ lw_all := lw_g (lw_at lw_m3 91 rfl) rfl
theorem q654 : (Jvm.Cond.methodLink "TrackArray$Track" (144 : Nat) ({ cls := "TrackArray$Track", name := "placeOf", desc := "(LTrackArray$Source;)LTrackArray$Place;" } : Jvm.MethodName)) ∈ lw_all := lw_g (lw_at lw_m3 92 rfl) rfl
theorem q655 : (Jvm.Cond.privateMethod ({ cls := "TrackArray$Track", name := "placeOf", desc := "(LTrackArray$Source;)LTrackArray$Place;" } : Jvm.MethodName)) ∈ lw_tbl := lw_at lw_m3 93 rfl
theorem q656 : (Jvm.Cond.instanceMethod ({ cls := "TrackArray$Track", name := "placeOf", desc := "(LTrackArray$Source;)LTrackArray$Place;" } : Jvm.MethodName)) ∈ lw_all := lw_g (lw_at lw_m3 94 rfl) rfl
theorem q657 : (Jvm.Cond.code ({ cls := "TrackArray$Track", name := "placeOf", desc := "(LTrackArray$Source;)LTrackArray$Place;" } : Jvm.MethodName) prog_19_method_9_code (2 : Nat) (Option.some (Jvm.ClassFile.FieldType.object "TrackArray$Place"))) ∈ lw_all := lw_g (lw_at lw_m3 95 rfl) rfl
theorem q658 : (Jvm.Cond.classLink "TrackArray$Track" (129 : Nat) "TrackArray$Riding") ∈ lw_all := lw_g (lw_at lw_m3 96 rfl) rfl
theorem q660 : (Jvm.Cond.methodLinkNest "TrackArray$Track" (141 : Nat) ({ cls := "TrackArray$Riding", name := "<init>", desc := "(LTrackArray$Vehicle;II)V" } : Jvm.MethodName) "TrackArray") ∈ lw_tbl := lw_at lw_m3 98 rfl
theorem q674 : (Jvm.Cond.methodLink "TrackArray$Track" (148 : Nat) ({ cls := "TrackArray$Track", name := "heard", desc := "(LTrackArray$Microphone;LTrackArray$Place;IZI)I" } : Jvm.MethodName)) ∈ lw_all := lw_g (lw_at lw_m3 112 rfl) rfl
theorem q675 : (Jvm.Cond.instanceMethod ({ cls := "TrackArray$Track", name := "heard", desc := "(LTrackArray$Microphone;LTrackArray$Place;IZI)I" } : Jvm.MethodName)) ∈ lw_all := lw_g (lw_at lw_m3 113 rfl) rfl
theorem q676 : (Jvm.Cond.selects "TrackArray$Track" ({ cls := "TrackArray$Track", name := "heard", desc := "(LTrackArray$Microphone;LTrackArray$Place;IZI)I" } : Jvm.MethodName) ({ cls := "TrackArray$Track", name := "heard", desc := "(LTrackArray$Microphone;LTrackArray$Place;IZI)I" } : Jvm.MethodName)) ∈ lw_all := lw_g (lw_at lw_m3 114 rfl) rfl
theorem q677 : (Jvm.Cond.code ({ cls := "TrackArray$Track", name := "heard", desc := "(LTrackArray$Microphone;LTrackArray$Place;IZI)I" } : Jvm.MethodName) prog_19_method_7_code (7 : Nat) (Option.some Jvm.ClassFile.FieldType.int)) ∈ lw_all := lw_g (lw_at lw_m3 115 rfl) rfl
theorem q678 : (Jvm.Cond.methodLink "TrackArray$Track" (125 : Nat) ({ cls := "TrackArray$Track", name := "mark", desc := "(LTrackArray$Microphone;LTrackArray$Place;IZ)I" } : Jvm.MethodName)) ∈ lw_all := lw_g (lw_at lw_m3 116 rfl) rfl
theorem q679 : (Jvm.Cond.instanceMethod ({ cls := "TrackArray$Track", name := "mark", desc := "(LTrackArray$Microphone;LTrackArray$Place;IZ)I" } : Jvm.MethodName)) ∈ lw_all := lw_g (lw_at lw_m3 117 rfl) rfl
theorem q680 : (Jvm.Cond.selects "TrackArray$Track" ({ cls := "TrackArray$Track", name := "mark", desc := "(LTrackArray$Microphone;LTrackArray$Place;IZ)I" } : Jvm.MethodName) ({ cls := "TrackArray$Track", name := "mark", desc := "(LTrackArray$Microphone;LTrackArray$Place;IZ)I" } : Jvm.MethodName)) ∈ lw_all := lw_g (lw_at lw_m3 118 rfl) rfl
theorem q681 : (Jvm.Cond.code ({ cls := "TrackArray$Track", name := "mark", desc := "(LTrackArray$Microphone;LTrackArray$Place;IZ)I" } : Jvm.MethodName) prog_19_method_6_code (5 : Nat) (Option.some Jvm.ClassFile.FieldType.int)) ∈ lw_all := lw_g (lw_at lw_m3 119 rfl) rfl
theorem q682 : (Jvm.Cond.methodLink "TrackArray$Track" (121 : Nat) ({ cls := "TrackArray$Microphone", name := "distance", desc := "(LTrackArray$Place;IZ)I" } : Jvm.MethodName)) ∈ lw_all := lw_g (lw_at lw_m3 120 rfl) rfl
theorem q742 : (Jvm.Cond.methodLink "TrackArray$Track" (155 : Nat) ({ cls := "TrackArray$Source", name := "emitted", desc := "(I)I" } : Jvm.MethodName)) ∈ lw_all := lw_g (lw_at lw_m3 180 rfl) rfl
theorem q746 : (Jvm.Cond.methodLink "TrackArray$Track" (158 : Nat) ({ cls := "TrackArray$Track", name := "amount", desc := "(IIZ)I" } : Jvm.MethodName)) ∈ lw_all := lw_g (lw_at lw_m3 184 rfl) rfl
theorem q747 : (Jvm.Cond.instanceMethod ({ cls := "TrackArray$Track", name := "amount", desc := "(IIZ)I" } : Jvm.MethodName)) ∈ lw_all := lw_g (lw_at lw_m3 185 rfl) rfl
theorem q748 : (Jvm.Cond.selects "TrackArray$Track" ({ cls := "TrackArray$Track", name := "amount", desc := "(IIZ)I" } : Jvm.MethodName) ({ cls := "TrackArray$Track", name := "amount", desc := "(IIZ)I" } : Jvm.MethodName)) ∈ lw_all := lw_g (lw_at lw_m3 186 rfl) rfl
theorem q749 : (Jvm.Cond.code ({ cls := "TrackArray$Track", name := "amount", desc := "(IIZ)I" } : Jvm.MethodName) prog_19_method_8_code (5 : Nat) (Option.some Jvm.ClassFile.FieldType.int)) ∈ lw_all := lw_g (lw_at lw_m3 187 rfl) rfl
theorem q750 : (Jvm.Cond.methodLink "TrackArray$Track" (174 : Nat) ({ cls := "TrackArray$Track", name := "draw", desc := "(I)I" } : Jvm.MethodName)) ∈ lw_all := lw_g (lw_at lw_m3 188 rfl) rfl
theorem q751 : (Jvm.Cond.privateMethod ({ cls := "TrackArray$Track", name := "draw", desc := "(I)I" } : Jvm.MethodName)) ∈ lw_tbl := lw_at lw_m3 189 rfl
theorem q752 : (Jvm.Cond.instanceMethod ({ cls := "TrackArray$Track", name := "draw", desc := "(I)I" } : Jvm.MethodName)) ∈ lw_all := lw_g (lw_at lw_m3 190 rfl) rfl
theorem q753 : (Jvm.Cond.code ({ cls := "TrackArray$Track", name := "draw", desc := "(I)I" } : Jvm.MethodName) prog_19_method_11_code (2 : Nat) (Option.some Jvm.ClassFile.FieldType.int)) ∈ lw_all := lw_g (lw_at lw_m3 191 rfl) rfl
theorem q754 : (Jvm.Cond.constantLong "TrackArray$Track" (162 : Nat) (1103515245 : Int64)) ∈ lw_all := lw_g (lw_at lw_m3 192 rfl) rfl
theorem q755 : (Jvm.Cond.constantLong "TrackArray$Track" (164 : Nat) (12345 : Int64)) ∈ lw_all := lw_g (lw_at lw_m3 193 rfl) rfl
theorem q756 : (Jvm.Cond.constantLong "TrackArray$Track" (166 : Nat) (2147483648 : Int64)) ∈ lw_all := lw_g (lw_at lw_m3 194 rfl) rfl
theorem q757 : (Jvm.Cond.constantLong "TrackArray$Track" (168 : Nat) (65536 : Int64)) ∈ lw_all := lw_g (lw_at lw_m3 195 rfl) rfl
theorem q1015 : (Jvm.Cond.instanceMethod ({ cls := "TrackArray$Track", name := "addMicrophone", desc := "(IIII)I" } : Jvm.MethodName)) ∈ lw_all := lw_g (lw_at lw_m4 213 rfl) rfl
theorem q1016 : (Jvm.Cond.selects "TrackArray$Track" ({ cls := "TrackArray$Track", name := "addMicrophone", desc := "(IIII)I" } : Jvm.MethodName) ({ cls := "TrackArray$Track", name := "addMicrophone", desc := "(IIII)I" } : Jvm.MethodName)) ∈ lw_all := lw_g (lw_at lw_m4 214 rfl) rfl
theorem q1017 : (Jvm.Cond.code ({ cls := "TrackArray$Track", name := "addMicrophone", desc := "(IIII)I" } : Jvm.MethodName) prog_19_method_5_code (5 : Nat) (Option.some Jvm.ClassFile.FieldType.int)) ∈ lw_all := lw_g (lw_at lw_m4 215 rfl) rfl
theorem q1019 : (Jvm.Cond.methodLink "TrackArray$Track" (118 : Nat) ({ cls := "TrackArray$Microphone", name := "<init>", desc := "(IIII)V" } : Jvm.MethodName)) ∈ lw_all := lw_g (lw_at lw_m4 217 rfl) rfl
theorem q1024 : (Jvm.Cond.fieldLinkNest "TrackArray$Track" (179 : Nat) "TrackArray$Microphone" "x" "I" "TrackArray") ∈ lw_tbl := lw_at lw_m4 222 rfl
theorem q1029 : (Jvm.Cond.fieldLinkNest "TrackArray$Track" (210 : Nat) "TrackArray$Microphone" "weight" "I" "TrackArray") ∈ lw_tbl := lw_at lw_m4 227 rfl
theorem q1032 : (Jvm.Cond.fieldLinkNest "TrackArray$Track" (152 : Nat) "TrackArray$Microphone" "record" "[I" "TrackArray") ∈ lw_tbl := lw_at lw_m4 230 rfl
theorem q1045 : (Jvm.Cond.methodLink "TrackArray$Track" (76 : Nat) ({ cls := "java/util/ArrayList", name := "add", desc := "(Ljava/lang/Object;)Z" } : Jvm.MethodName)) ∈ lw_all := lw_g (lw_at lw_m5 3 rfl) rfl
theorem q1083 : (Jvm.Cond.selects "TrackArray$Track" ({ cls := "java/lang/Object", name := "getClass", desc := "()Ljava/lang/Class;" } : Jvm.MethodName) ({ cls := "java/lang/Object", name := "getClass", desc := "()Ljava/lang/Class;" } : Jvm.MethodName)) ∈ lw_all := lw_g (lw_at lw_m5 41 rfl) rfl
theorem q1104 : (Jvm.Cond.methodLink "TrackArray$Track" (104 : Nat) ({ cls := "java/util/ArrayList", name := "size", desc := "()I" } : Jvm.MethodName)) ∈ lw_all := lw_g (lw_at lw_m5 62 rfl) rfl
theorem q1110 : (Jvm.Cond.instanceMethod ({ cls := "TrackArray$Track", name := "addVehicle", desc := "(III)I" } : Jvm.MethodName)) ∈ lw_all := lw_g (lw_at lw_m5 68 rfl) rfl
theorem q1111 : (Jvm.Cond.selects "TrackArray$Track" ({ cls := "TrackArray$Track", name := "addVehicle", desc := "(III)I" } : Jvm.MethodName) ({ cls := "TrackArray$Track", name := "addVehicle", desc := "(III)I" } : Jvm.MethodName)) ∈ lw_all := lw_g (lw_at lw_m5 69 rfl) rfl
theorem q1112 : (Jvm.Cond.code ({ cls := "TrackArray$Track", name := "addVehicle", desc := "(III)I" } : Jvm.MethodName) prog_19_method_3_code (4 : Nat) (Option.some Jvm.ClassFile.FieldType.int)) ∈ lw_all := lw_g (lw_at lw_m5 70 rfl) rfl
theorem q1113 : (Jvm.Cond.classLink "TrackArray$Track" (101 : Nat) "TrackArray$Vehicle") ∈ lw_all := lw_g (lw_at lw_m5 71 rfl) rfl
theorem q1115 : (Jvm.Cond.methodLinkNest "TrackArray$Track" (103 : Nat) ({ cls := "TrackArray$Vehicle", name := "<init>", desc := "(III)V" } : Jvm.MethodName) "TrackArray") ∈ lw_tbl := lw_at lw_m5 73 rfl
theorem q1134 : (Jvm.Cond.instanceMethod ({ cls := "TrackArray$Track", name := "addSource", desc := "(IIIII)I" } : Jvm.MethodName)) ∈ lw_all := lw_g (lw_at lw_m5 92 rfl) rfl
theorem q1135 : (Jvm.Cond.selects "TrackArray$Track" ({ cls := "TrackArray$Track", name := "addSource", desc := "(IIIII)I" } : Jvm.MethodName) ({ cls := "TrackArray$Track", name := "addSource", desc := "(IIIII)I" } : Jvm.MethodName)) ∈ lw_all := lw_g (lw_at lw_m5 93 rfl) rfl
theorem q1136 : (Jvm.Cond.code ({ cls := "TrackArray$Track", name := "addSource", desc := "(IIIII)I" } : Jvm.MethodName) prog_19_method_4_code (8 : Nat) (Option.some Jvm.ClassFile.FieldType.int)) ∈ lw_all := lw_g (lw_at lw_m5 94 rfl) rfl
theorem q1138 : (Jvm.Cond.methodLink "TrackArray$Track" (108 : Nat) ({ cls := "java/util/ArrayList", name := "get", desc := "(I)Ljava/lang/Object;" } : Jvm.MethodName)) ∈ lw_all := lw_g (lw_at lw_m5 96 rfl) rfl
theorem q1150 : (Jvm.Cond.methodLink "TrackArray$Track" (112 : Nat) ({ cls := "TrackArray$Source", name := "<init>", desc := "(LTrackArray$Vehicle;III)V" } : Jvm.MethodName)) ∈ lw_all := lw_g (lw_at lw_m5 108 rfl) rfl
theorem q1155 : (Jvm.Cond.fieldLinkNest "TrackArray$Track" (131 : Nat) "TrackArray$Source" "vehicle" "LTrackArray$Vehicle;" "TrackArray") ∈ lw_tbl := lw_at lw_m5 113 rfl
theorem q1157 : (Jvm.Cond.fieldLinkNest "TrackArray$Track" (135 : Nat) "TrackArray$Source" "offset" "I" "TrackArray") ∈ lw_tbl := lw_at lw_m5 115 rfl
theorem q1159 : (Jvm.Cond.fieldLinkNest "TrackArray$Track" (138 : Nat) "TrackArray$Source" "height" "I" "TrackArray") ∈ lw_tbl := lw_at lw_m5 117 rfl
theorem q1178 : (Jvm.Cond.methodLink "TrackArray$Track" (115 : Nat) ({ cls := "TrackArray$Source", name := "add", desc := "(I)I" } : Jvm.MethodName)) ∈ lw_all := lw_g (lw_at lw_m5 136 rfl) rfl
theorem q1469 : (Jvm.Cond.instanceMethod ({ cls := "TrackArray$Track", name := "record", desc := "(I)LTrackArray$Signal;" } : Jvm.MethodName)) ∈ lw_all := lw_g (lw_at lw_m6 187 rfl) rfl
theorem q1470 : (Jvm.Cond.selects "TrackArray$Track" ({ cls := "TrackArray$Track", name := "record", desc := "(I)LTrackArray$Signal;" } : Jvm.MethodName) ({ cls := "TrackArray$Track", name := "record", desc := "(I)LTrackArray$Signal;" } : Jvm.MethodName)) ∈ lw_all := lw_g (lw_at lw_m6 188 rfl) rfl
theorem q1471 : (Jvm.Cond.code ({ cls := "TrackArray$Track", name := "record", desc := "(I)LTrackArray$Signal;" } : Jvm.MethodName) prog_19_method_17_code (3 : Nat) (Option.some (Jvm.ClassFile.FieldType.object "TrackArray$Signal"))) ∈ lw_all := lw_g (lw_at lw_m6 189 rfl) rfl
theorem q1472 : (Jvm.Cond.static ({ cls := "TrackArray$Track", name := "lambda$record$1", desc := "(LTrackArray$Microphone;I)J" } : Jvm.MethodName)) ∈ lw_all := lw_g (lw_at lw_m6 190 rfl) rfl
theorem q1473 : (Jvm.Cond.code ({ cls := "TrackArray$Track", name := "lambda$record$1", desc := "(LTrackArray$Microphone;I)J" } : Jvm.MethodName) prog_19_method_19_code (2 : Nat) (Option.some Jvm.ClassFile.FieldType.long)) ∈ lw_all := lw_g (lw_at lw_m6 191 rfl) rfl
theorem q1620 : (Jvm.Cond.instanceMethod ({ cls := "TrackArray$Track", name := "sampleNumber", desc := "(LTrackArray$Microphone;LTrackArray$Focus;I)I" } : Jvm.MethodName)) ∈ lw_all := lw_g (lw_at lw_m7 98 rfl) rfl
theorem q1621 : (Jvm.Cond.selects "TrackArray$Track" ({ cls := "TrackArray$Track", name := "sampleNumber", desc := "(LTrackArray$Microphone;LTrackArray$Focus;I)I" } : Jvm.MethodName) ({ cls := "TrackArray$Track", name := "sampleNumber", desc := "(LTrackArray$Microphone;LTrackArray$Focus;I)I" } : Jvm.MethodName)) ∈ lw_all := lw_g (lw_at lw_m7 99 rfl) rfl
theorem q1622 : (Jvm.Cond.code ({ cls := "TrackArray$Track", name := "sampleNumber", desc := "(LTrackArray$Microphone;LTrackArray$Focus;I)I" } : Jvm.MethodName) prog_19_method_13_code (5 : Nat) (Option.some Jvm.ClassFile.FieldType.int)) ∈ lw_all := lw_g (lw_at lw_m7 100 rfl) rfl
theorem q1623 : (Jvm.Cond.classLink "TrackArray$Track" (177 : Nat) "TrackArray$Direction") ∈ lw_all := lw_g (lw_at lw_m7 101 rfl) rfl
theorem q1624 : (Jvm.Cond.methodLink "TrackArray$Track" (182 : Nat) ({ cls := "TrackArray$Direction", name := "percent", desc := "()I" } : Jvm.MethodName)) ∈ lw_all := lw_g (lw_at lw_m7 102 rfl) rfl
theorem q1628 : (Jvm.Cond.methodLink "TrackArray$Track" (185 : Nat) ({ cls := "java/lang/Math", name := "floorDiv", desc := "(II)I" } : Jvm.MethodName)) ∈ lw_all := lw_g (lw_at lw_m7 106 rfl) rfl
theorem q1631 : (Jvm.Cond.classLink "TrackArray$Track" (191 : Nat) "TrackArray$Place") ∈ lw_all := lw_g (lw_at lw_m7 109 rfl) rfl
theorem q1640 : (Jvm.Cond.instanceMethod ({ cls := "TrackArray$Track", name := "layParts", desc := "(LTrackArray$Microphone;LTrackArray$Focus;I)V" } : Jvm.MethodName)) ∈ lw_all := lw_g (lw_at lw_m7 118 rfl) rfl
theorem q1641 : (Jvm.Cond.selects "TrackArray$Track" ({ cls := "TrackArray$Track", name := "layParts", desc := "(LTrackArray$Microphone;LTrackArray$Focus;I)V" } : Jvm.MethodName) ({ cls := "TrackArray$Track", name := "layParts", desc := "(LTrackArray$Microphone;LTrackArray$Focus;I)V" } : Jvm.MethodName)) ∈ lw_all := lw_g (lw_at lw_m7 119 rfl) rfl
theorem q1642 : (Jvm.Cond.code ({ cls := "TrackArray$Track", name := "layParts", desc := "(LTrackArray$Microphone;LTrackArray$Focus;I)V" } : Jvm.MethodName) prog_19_method_15_code (8 : Nat) (Option.none : Option Jvm.ClassFile.FieldType)) ∈ lw_all := lw_g (lw_at lw_m7 120 rfl) rfl
theorem q1643 : (Jvm.Cond.methodLink "TrackArray$Track" (195 : Nat) ({ cls := "TrackArray$Track", name := "sampleNumber", desc := "(LTrackArray$Microphone;LTrackArray$Focus;I)I" } : Jvm.MethodName)) ∈ lw_all := lw_g (lw_at lw_m7 121 rfl) rfl
theorem q1644 : (Jvm.Cond.methodLink "TrackArray$Track" (199 : Nat) ({ cls := "TrackArray$Microphone", name := "at", desc := "(I)I" } : Jvm.MethodName)) ∈ lw_all := lw_g (lw_at lw_m7 122 rfl) rfl
theorem q1645 : (Jvm.Cond.methodLink "TrackArray$Track" (202 : Nat) ({ cls := "TrackArray$Track", name := "reduction", desc := "(LTrackArray$Microphone;LTrackArray$Place;II)I" } : Jvm.MethodName)) ∈ lw_all := lw_g (lw_at lw_m7 123 rfl) rfl
theorem q1646 : (Jvm.Cond.privateMethod ({ cls := "TrackArray$Track", name := "reduction", desc := "(LTrackArray$Microphone;LTrackArray$Place;II)I" } : Jvm.MethodName)) ∈ lw_tbl := lw_at lw_m7 124 rfl
theorem q1647 : (Jvm.Cond.instanceMethod ({ cls := "TrackArray$Track", name := "reduction", desc := "(LTrackArray$Microphone;LTrackArray$Place;II)I" } : Jvm.MethodName)) ∈ lw_all := lw_g (lw_at lw_m7 125 rfl) rfl
theorem q1648 : (Jvm.Cond.code ({ cls := "TrackArray$Track", name := "reduction", desc := "(LTrackArray$Microphone;LTrackArray$Place;II)I" } : Jvm.MethodName) prog_19_method_14_code (7 : Nat) (Option.some Jvm.ClassFile.FieldType.int)) ∈ lw_all := lw_g (lw_at lw_m7 126 rfl) rfl
theorem q1649 : (Jvm.Cond.constantLong "TrackArray$Track" (193 : Nat) (100 : Int64)) ∈ lw_all := lw_g (lw_at lw_m7 127 rfl) rfl
theorem q1658 : (Jvm.Cond.instanceMethod ({ cls := "TrackArray$Track", name := "beam", desc := "(LTrackArray$Focus;I)LTrackArray$Signal;" } : Jvm.MethodName)) ∈ lw_all := lw_g (lw_at lw_m7 136 rfl) rfl
theorem q1659 : (Jvm.Cond.selects "TrackArray$Track" ({ cls := "TrackArray$Track", name := "beam", desc := "(LTrackArray$Focus;I)LTrackArray$Signal;" } : Jvm.MethodName) ({ cls := "TrackArray$Track", name := "beam", desc := "(LTrackArray$Focus;I)LTrackArray$Signal;" } : Jvm.MethodName)) ∈ lw_all := lw_g (lw_at lw_m7 137 rfl) rfl
theorem q1660 : (Jvm.Cond.code ({ cls := "TrackArray$Track", name := "beam", desc := "(LTrackArray$Focus;I)LTrackArray$Signal;" } : Jvm.MethodName) prog_19_method_16_code (6 : Nat) (Option.some (Jvm.ClassFile.FieldType.object "TrackArray$Signal"))) ∈ lw_all := lw_g (lw_at lw_m7 138 rfl) rfl
theorem q1661 : (Jvm.Cond.methodLink "TrackArray$Track" (206 : Nat) ({ cls := "TrackArray$Track", name := "layParts", desc := "(LTrackArray$Microphone;LTrackArray$Focus;I)V" } : Jvm.MethodName)) ∈ lw_all := lw_g (lw_at lw_m7 139 rfl) rfl
theorem q1662 : (Jvm.Cond.privateMethod ({ cls := "TrackArray$Track", name := "lambda$beam$0", desc := "(I)J" } : Jvm.MethodName)) ∈ lw_tbl := lw_at lw_m7 140 rfl
theorem q1663 : (Jvm.Cond.instanceMethod ({ cls := "TrackArray$Track", name := "lambda$beam$0", desc := "(I)J" } : Jvm.MethodName)) ∈ lw_all := lw_g (lw_at lw_m7 141 rfl) rfl
theorem q1664 : (Jvm.Cond.code ({ cls := "TrackArray$Track", name := "lambda$beam$0", desc := "(I)J" } : Jvm.MethodName) prog_19_method_20_code (2 : Nat) (Option.some Jvm.ClassFile.FieldType.long)) ∈ lw_all := lw_g (lw_at lw_m7 142 rfl) rfl
theorem q1709 : (Jvm.Cond.instanceMethod ({ cls := "TrackArray$Track", name := "energyBeside", desc := "(III)J" } : Jvm.MethodName)) ∈ lw_all := lw_g (lw_at lw_m7 187 rfl) rfl
theorem q1710 : (Jvm.Cond.selects "TrackArray$Track" ({ cls := "TrackArray$Track", name := "energyBeside", desc := "(III)J" } : Jvm.MethodName) ({ cls := "TrackArray$Track", name := "energyBeside", desc := "(III)J" } : Jvm.MethodName)) ∈ lw_all := lw_g (lw_at lw_m7 188 rfl) rfl
theorem q1711 : (Jvm.Cond.code ({ cls := "TrackArray$Track", name := "energyBeside", desc := "(III)J" } : Jvm.MethodName) prog_19_method_18_code (4 : Nat) (Option.some Jvm.ClassFile.FieldType.long)) ∈ lw_all := lw_g (lw_at lw_m7 189 rfl) rfl
theorem q1712 : (Jvm.Cond.fieldLink "TrackArray$Track" (219 : Nat) "TrackArray$Measure" "ENERGY" "LTrackArray$Measure;") ∈ lw_all := lw_g (lw_at lw_m7 190 rfl) rfl
theorem q1713 : (Jvm.Cond.interfaceEntry "TrackArray$Track" (225 : Nat)) ∈ lw_tbl := lw_at lw_m7 191 rfl
theorem q1714 : (Jvm.Cond.methodLink "TrackArray$Track" (225 : Nat) ({ cls := "TrackArray$Focus", name := "beside", desc := "(I)LTrackArray$Focus;" } : Jvm.MethodName)) ∈ lw_all := lw_g (lw_at lw_m7 192 rfl) rfl
theorem q1741 : (Jvm.Cond.methodLink "TrackArray$Track" (231 : Nat) ({ cls := "TrackArray$Track", name := "beam", desc := "(LTrackArray$Focus;I)LTrackArray$Signal;" } : Jvm.MethodName)) ∈ lw_all := lw_g (lw_at lw_m7 219 rfl) rfl
theorem q1742 : (Jvm.Cond.methodLink "TrackArray$Track" (235 : Nat) ({ cls := "TrackArray$Measure", name := "of", desc := "(LTrackArray$Signal;II)J" } : Jvm.MethodName)) ∈ lw_all := lw_g (lw_at lw_m7 220 rfl) rfl
theorem q1809 : (Jvm.Cond.instanceMethod ({ cls := "TrackArray$Track", name := "copy", desc := "()LTrackArray$Track;" } : Jvm.MethodName)) ∈ lw_all := lw_g (lw_at lw_m8 47 rfl) rfl
theorem q1810 : (Jvm.Cond.selects "TrackArray$Track" ({ cls := "TrackArray$Track", name := "copy", desc := "()LTrackArray$Track;" } : Jvm.MethodName) ({ cls := "TrackArray$Track", name := "copy", desc := "()LTrackArray$Track;" } : Jvm.MethodName)) ∈ lw_all := lw_g (lw_at lw_m8 48 rfl) rfl
theorem q1811 : (Jvm.Cond.code ({ cls := "TrackArray$Track", name := "copy", desc := "()LTrackArray$Track;" } : Jvm.MethodName) prog_19_method_2_code (4 : Nat) (Option.some (Jvm.ClassFile.FieldType.object "TrackArray$Track"))) ∈ lw_all := lw_g (lw_at lw_m8 49 rfl) rfl
theorem q1812 : (Jvm.Cond.classLink "TrackArray$Track" (15 : Nat) "TrackArray$Track") ∈ lw_all := lw_g (lw_at lw_m8 50 rfl) rfl
theorem q1813 : (Jvm.Cond.methodLink "TrackArray$Track" (51 : Nat) ({ cls := "TrackArray$Track", name := "<init>", desc := "()V" } : Jvm.MethodName)) ∈ lw_all := lw_g (lw_at lw_m8 51 rfl) rfl
theorem q1814 : (Jvm.Cond.methodLink "TrackArray$Track" (52 : Nat) ({ cls := "java/util/ArrayList", name := "addAll", desc := "(Ljava/util/Collection;)Z" } : Jvm.MethodName)) ∈ lw_all := lw_g (lw_at lw_m8 52 rfl) rfl
theorem q1829 : (Jvm.Cond.methodLink "TrackArray$Track" (72 : Nat) ({ cls := "TrackArray$Source", name := "copy", desc := "()LTrackArray$Source;" } : Jvm.MethodName)) ∈ lw_all := lw_g (lw_at lw_m8 67 rfl) rfl
theorem q1836 : (Jvm.Cond.methodLink "TrackArray$Track" (82 : Nat) ({ cls := "TrackArray$Microphone", name := "copy", desc := "()LTrackArray$Microphone;" } : Jvm.MethodName)) ∈ lw_all := lw_g (lw_at lw_m8 74 rfl) rfl
theorem q2425 : (Jvm.Cond.castable "TrackArray$Track" "java/lang/Object") ∈ lw_tbl := lw_at lw_m10 183 rfl
theorem in_X2 : ∀ w ∈ wsX20, w ∈ lw_all := lw_in wsX20 [540, 542, 544, 546, 548, 550, 552, 554, 556, 558, 560, 562, 564] (by decide +kernel) (by decide +kernel)
