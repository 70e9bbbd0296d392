/-! TrackArray -/
set_option maxRecDepth 100000
def RX1 : String := "TrackArray"
def TX1 : u_T := fun k => match k with
  | 0 => ("TrackArray", "now", "LTrackArray$Track;", false)
  | 1 => ("TrackArray", "saved", "[LTrackArray$Track;", true)
  | 2 => ("TrackArray", "text", "[B", true)
  | 3 => ("TrackArray", "textLength", "I", false)
  | 4 => ("TrackArray", "errorCode", "I", false)
  | _ => ("TrackArray", "errorPosition", "I", false)
def tyX1 : Nat → FieldType := fun k => match k with
  | 0 => .object "TrackArray$Track"
  | 1 => .array (.object "TrackArray$Track")
  | 2 => .array .byte
  | 3 => .int
  | 4 => .int
  | _ => .int
abbrev wsX10 : List Cond := u_ws RX1 TX1 6
theorem nmX1 : ∀ a, a < 6 → ∀ b, b < 6 → a ≠ b → (TX1 a).2.1 ≠ (TX1 b).2.1 := by decide +kernel
theorem tyX1_ok : ∀ k, k < 6 → parseFieldDescriptor (TX1 k).2.2.1 = some (tyX1 k) := by decide +kernel
abbrev cX1_init : ByteArray := prog_1_method_10_code
def yX1_init : MethodName := ⟨RX1, "<init>", "()V"⟩
def dkwX1_init_1 : List UInt8 := [17, 1, 244, 188, 8, 181, 0, 51, 42, 2, 181, 0, 55, 177]
abbrev dktX1_init_1 : List UInt8 := dkwX1_init_1 ++ []
def dkwX1_init_0 : List UInt8 := [42, 183, 0, 37, 42, 187, 0, 40, 89, 183, 0, 42, 181, 0, 43, 42, 5, 189, 0, 40, 181, 0, 47, 42]
abbrev dktX1_init_0 : List UInt8 := dkwX1_init_0 ++ dktX1_init_1
theorem dksX1_init_0 : cX1_init.data.toList.drop 0 = dktX1_init_0 := by decide +kernel
theorem dksX1_init_1 : cX1_init.data.toList.drop 24 = dktX1_init_1 := dk_seg dksX1_init_0 24 rfl rfl
theorem dX1_init_0 : decode cX1_init 0 = .ok (.aload_n 0, 1) := dk_42 (dk_at dksX1_init_0 0 rfl rfl)
theorem dX1_init_1 : decode cX1_init 1 = .ok (.invokespecial 37, 3) := dk_183 0 37 (dk_at dksX1_init_0 1 rfl rfl)
theorem dX1_init_4 : decode cX1_init 4 = .ok (.aload_n 0, 1) := dk_42 (dk_at dksX1_init_0 4 rfl rfl)
theorem dX1_init_5 : decode cX1_init 5 = .ok (.new 40, 3) := dk_187 0 40 (dk_at dksX1_init_0 5 rfl rfl)
theorem dX1_init_8 : decode cX1_init 8 = .ok (.dup, 1) := dk_89 (dk_at dksX1_init_0 8 rfl rfl)
theorem dX1_init_9 : decode cX1_init 9 = .ok (.invokespecial 42, 3) := dk_183 0 42 (dk_at dksX1_init_0 9 rfl rfl)
theorem dX1_init_12 : decode cX1_init 12 = .ok (.putfield 43, 3) := dk_181 0 43 (dk_at dksX1_init_0 12 rfl rfl)
theorem dX1_init_15 : decode cX1_init 15 = .ok (.aload_n 0, 1) := dk_42 (dk_at dksX1_init_0 15 rfl rfl)
theorem dX1_init_16 : decode cX1_init 16 = .ok (.iconst 2, 1) := dk_5 (dk_at dksX1_init_0 16 rfl rfl)
theorem dX1_init_17 : decode cX1_init 17 = .ok (.anewarray 40, 3) := dk_189 0 40 (dk_at dksX1_init_0 17 rfl rfl)
theorem dX1_init_20 : decode cX1_init 20 = .ok (.putfield 47, 3) := dk_181 0 47 (dk_at dksX1_init_0 20 rfl rfl)
theorem dX1_init_23 : decode cX1_init 23 = .ok (.aload_n 0, 1) := dk_42 (dk_at dksX1_init_0 23 rfl rfl)
theorem dX1_init_24 : decode cX1_init 24 = .ok (.sipush 500, 3) := dk_17 1 244 (dk_at dksX1_init_1 0 rfl rfl)
theorem dX1_init_27 : decode cX1_init 27 = .ok (.newarray .byte, 2) := dk_188_8 (dk_at dksX1_init_1 3 rfl rfl)
theorem dX1_init_29 : decode cX1_init 29 = .ok (.putfield 51, 3) := dk_181 0 51 (dk_at dksX1_init_1 5 rfl rfl)
theorem dX1_init_32 : decode cX1_init 32 = .ok (.aload_n 0, 1) := dk_42 (dk_at dksX1_init_1 8 rfl rfl)
theorem dX1_init_33 : decode cX1_init 33 = .ok (.iconst (-1), 1) := dk_2 (dk_at dksX1_init_1 9 rfl rfl)
theorem dX1_init_34 : decode cX1_init 34 = .ok (.putfield 55, 3) := dk_181 0 55 (dk_at dksX1_init_1 10 rfl rfl)
theorem dX1_init_37 : decode cX1_init 37 = .ok (.return_, 1) := dk_177 (dk_at dksX1_init_1 13 rfl rfl)
abbrev cX1_setSpreading : ByteArray := prog_1_method_16_code
def yX1_setSpreading : MethodName := ⟨RX1, "setSpreading", "(Z)Z"⟩
def dkwX1_setSpreading_0 : List UInt8 := [42, 180, 0, 43, 180, 0, 102, 61, 42, 180, 0, 43, 27, 181, 0, 102, 28, 172]
abbrev dktX1_setSpreading_0 : List UInt8 := dkwX1_setSpreading_0 ++ []
theorem dksX1_setSpreading_0 : cX1_setSpreading.data.toList.drop 0 = dktX1_setSpreading_0 := by decide +kernel
theorem dX1_setSpreading_0 : decode cX1_setSpreading 0 = .ok (.aload_n 0, 1) := dk_42 (dk_at dksX1_setSpreading_0 0 rfl rfl)
theorem dX1_setSpreading_1 : decode cX1_setSpreading 1 = .ok (.getfield 43, 3) := dk_180 0 43 (dk_at dksX1_setSpreading_0 1 rfl rfl)
theorem dX1_setSpreading_4 : decode cX1_setSpreading 4 = .ok (.getfield 102, 3) := dk_180 0 102 (dk_at dksX1_setSpreading_0 4 rfl rfl)
theorem dX1_setSpreading_7 : decode cX1_setSpreading 7 = .ok (.istore_n 2, 1) := dk_61 (dk_at dksX1_setSpreading_0 7 rfl rfl)
theorem dX1_setSpreading_8 : decode cX1_setSpreading 8 = .ok (.aload_n 0, 1) := dk_42 (dk_at dksX1_setSpreading_0 8 rfl rfl)
theorem dX1_setSpreading_9 : decode cX1_setSpreading 9 = .ok (.getfield 43, 3) := dk_180 0 43 (dk_at dksX1_setSpreading_0 9 rfl rfl)
theorem dX1_setSpreading_12 : decode cX1_setSpreading 12 = .ok (.iload_n 1, 1) := dk_27 (dk_at dksX1_setSpreading_0 12 rfl rfl)
theorem dX1_setSpreading_13 : decode cX1_setSpreading 13 = .ok (.putfield 102, 3) := dk_181 0 102 (dk_at dksX1_setSpreading_0 13 rfl rfl)
theorem dX1_setSpreading_16 : decode cX1_setSpreading 16 = .ok (.iload_n 2, 1) := dk_28 (dk_at dksX1_setSpreading_0 16 rfl rfl)
theorem dX1_setSpreading_17 : decode cX1_setSpreading 17 = .ok (.ireturn, 1) := dk_172 (dk_at dksX1_setSpreading_0 17 rfl rfl)
abbrev cX1_makeRecording : ByteArray := prog_1_method_31_code
def yX1_makeRecording : MethodName := ⟨RX1, "makeRecording", "()I"⟩
def dkwX1_makeRecording_0 : List UInt8 := [42, 180, 0, 43, 182, 0, 222, 172]
abbrev dktX1_makeRecording_0 : List UInt8 := dkwX1_makeRecording_0 ++ []
theorem dksX1_makeRecording_0 : cX1_makeRecording.data.toList.drop 0 = dktX1_makeRecording_0 := by decide +kernel
theorem dX1_makeRecording_0 : decode cX1_makeRecording 0 = .ok (.aload_n 0, 1) := dk_42 (dk_at dksX1_makeRecording_0 0 rfl rfl)
theorem dX1_makeRecording_1 : decode cX1_makeRecording 1 = .ok (.getfield 43, 3) := dk_180 0 43 (dk_at dksX1_makeRecording_0 1 rfl rfl)
theorem dX1_makeRecording_4 : decode cX1_makeRecording 4 = .ok (.invokevirtual 222, 3) := dk_182 0 222 (dk_at dksX1_makeRecording_0 4 rfl rfl)
theorem dX1_makeRecording_7 : decode cX1_makeRecording 7 = .ok (.ireturn, 1) := dk_172 (dk_at dksX1_makeRecording_0 7 rfl rfl)
abbrev cX1_rootOf : ByteArray := prog_1_method_7_code
def yX1_rootOf : MethodName := ⟨RX1, "rootOf", "(J)I"⟩
def dkwX1_rootOf_1 : List UInt8 := [148, 157, 0, 8, 32, 22, 4, 97, 65, 22, 4, 4, 123, 55, 4, 167, 255, 224, 32, 136, 172]
abbrev dktX1_rootOf_1 : List UInt8 := dkwX1_rootOf_1 ++ []
def dkwX1_rootOf_0 : List UInt8 := [9, 65, 20, 0, 25, 55, 4, 22, 4, 9, 148, 158, 0, 31, 32, 22, 4, 97, 32, 22, 4, 97, 105, 30]
abbrev dktX1_rootOf_0 : List UInt8 := dkwX1_rootOf_0 ++ dktX1_rootOf_1
theorem dksX1_rootOf_0 : cX1_rootOf.data.toList.drop 0 = dktX1_rootOf_0 := by decide +kernel
theorem dksX1_rootOf_1 : cX1_rootOf.data.toList.drop 24 = dktX1_rootOf_1 := dk_seg dksX1_rootOf_0 24 rfl rfl
theorem dX1_rootOf_0 : decode cX1_rootOf 0 = .ok (.lconst 0, 1) := dk_9 (dk_at dksX1_rootOf_0 0 rfl rfl)
theorem dX1_rootOf_1 : decode cX1_rootOf 1 = .ok (.lstore_n 2, 1) := dk_65 (dk_at dksX1_rootOf_0 1 rfl rfl)
theorem dX1_rootOf_2 : decode cX1_rootOf 2 = .ok (.ldc2_w 25, 3) := dk_20 0 25 (dk_at dksX1_rootOf_0 2 rfl rfl)
theorem dX1_rootOf_5 : decode cX1_rootOf 5 = .ok (.lstore 4, 2) := dk_55 4 (dk_at dksX1_rootOf_0 5 rfl rfl)
theorem dX1_rootOf_7 : decode cX1_rootOf 7 = .ok (.lload 4, 2) := dk_22 4 (dk_at dksX1_rootOf_0 7 rfl rfl)
theorem dX1_rootOf_9 : decode cX1_rootOf 9 = .ok (.lconst 0, 1) := dk_9 (dk_at dksX1_rootOf_0 9 rfl rfl)
theorem dX1_rootOf_10 : decode cX1_rootOf 10 = .ok (.lcmp, 1) := dk_148 (dk_at dksX1_rootOf_0 10 rfl rfl)
theorem dX1_rootOf_11 : decode cX1_rootOf 11 = .ok (.ifCond .le 31, 3) := dk_158 0 31 (dk_at dksX1_rootOf_0 11 rfl rfl)
theorem dX1_rootOf_14 : decode cX1_rootOf 14 = .ok (.lload_n 2, 1) := dk_32 (dk_at dksX1_rootOf_0 14 rfl rfl)
theorem dX1_rootOf_15 : decode cX1_rootOf 15 = .ok (.lload 4, 2) := dk_22 4 (dk_at dksX1_rootOf_0 15 rfl rfl)
theorem dX1_rootOf_17 : decode cX1_rootOf 17 = .ok (.ladd, 1) := dk_97 (dk_at dksX1_rootOf_0 17 rfl rfl)
theorem dX1_rootOf_18 : decode cX1_rootOf 18 = .ok (.lload_n 2, 1) := dk_32 (dk_at dksX1_rootOf_0 18 rfl rfl)
theorem dX1_rootOf_19 : decode cX1_rootOf 19 = .ok (.lload 4, 2) := dk_22 4 (dk_at dksX1_rootOf_0 19 rfl rfl)
theorem dX1_rootOf_21 : decode cX1_rootOf 21 = .ok (.ladd, 1) := dk_97 (dk_at dksX1_rootOf_0 21 rfl rfl)
theorem dX1_rootOf_22 : decode cX1_rootOf 22 = .ok (.lmul, 1) := dk_105 (dk_at dksX1_rootOf_0 22 rfl rfl)
theorem dX1_rootOf_23 : decode cX1_rootOf 23 = .ok (.lload_n 0, 1) := dk_30 (dk_at dksX1_rootOf_0 23 rfl rfl)
theorem dX1_rootOf_24 : decode cX1_rootOf 24 = .ok (.lcmp, 1) := dk_148 (dk_at dksX1_rootOf_1 0 rfl rfl)
theorem dX1_rootOf_25 : decode cX1_rootOf 25 = .ok (.ifCond .gt 8, 3) := dk_157 0 8 (dk_at dksX1_rootOf_1 1 rfl rfl)
theorem dX1_rootOf_28 : decode cX1_rootOf 28 = .ok (.lload_n 2, 1) := dk_32 (dk_at dksX1_rootOf_1 4 rfl rfl)
theorem dX1_rootOf_29 : decode cX1_rootOf 29 = .ok (.lload 4, 2) := dk_22 4 (dk_at dksX1_rootOf_1 5 rfl rfl)
theorem dX1_rootOf_31 : decode cX1_rootOf 31 = .ok (.ladd, 1) := dk_97 (dk_at dksX1_rootOf_1 7 rfl rfl)
theorem dX1_rootOf_32 : decode cX1_rootOf 32 = .ok (.lstore_n 2, 1) := dk_65 (dk_at dksX1_rootOf_1 8 rfl rfl)
theorem dX1_rootOf_33 : decode cX1_rootOf 33 = .ok (.lload 4, 2) := dk_22 4 (dk_at dksX1_rootOf_1 9 rfl rfl)
theorem dX1_rootOf_35 : decode cX1_rootOf 35 = .ok (.iconst 1, 1) := dk_4 (dk_at dksX1_rootOf_1 11 rfl rfl)
theorem dX1_rootOf_36 : decode cX1_rootOf 36 = .ok (.lshr, 1) := dk_123 (dk_at dksX1_rootOf_1 12 rfl rfl)
theorem dX1_rootOf_37 : decode cX1_rootOf 37 = .ok (.lstore 4, 2) := dk_55 4 (dk_at dksX1_rootOf_1 13 rfl rfl)
theorem dX1_rootOf_39 : decode cX1_rootOf 39 = .ok (.goto (-32), 3) := dk_167 255 224 (dk_at dksX1_rootOf_1 15 rfl rfl)
theorem dX1_rootOf_42 : decode cX1_rootOf 42 = .ok (.lload_n 2, 1) := dk_32 (dk_at dksX1_rootOf_1 18 rfl rfl)
theorem dX1_rootOf_43 : decode cX1_rootOf 43 = .ok (.l2i, 1) := dk_136 (dk_at dksX1_rootOf_1 19 rfl rfl)
theorem dX1_rootOf_44 : decode cX1_rootOf 44 = .ok (.ireturn, 1) := dk_172 (dk_at dksX1_rootOf_1 20 rfl rfl)
abbrev cX1_setCut : ByteArray := prog_1_method_44_code
def yX1_setCut : MethodName := ⟨RX1, "setCut", "(Z)Z"⟩
def dkwX1_setCut_0 : List UInt8 := [42, 180, 0, 43, 180, 1, 40, 61, 42, 180, 0, 43, 27, 181, 1, 40, 28, 172]
abbrev dktX1_setCut_0 : List UInt8 := dkwX1_setCut_0 ++ []
theorem dksX1_setCut_0 : cX1_setCut.data.toList.drop 0 = dktX1_setCut_0 := by decide +kernel
theorem dX1_setCut_0 : decode cX1_setCut 0 = .ok (.aload_n 0, 1) := dk_42 (dk_at dksX1_setCut_0 0 rfl rfl)
theorem dX1_setCut_1 : decode cX1_setCut 1 = .ok (.getfield 43, 3) := dk_180 0 43 (dk_at dksX1_setCut_0 1 rfl rfl)
theorem dX1_setCut_4 : decode cX1_setCut 4 = .ok (.getfield 296, 3) := dk_180 1 40 (dk_at dksX1_setCut_0 4 rfl rfl)
theorem dX1_setCut_7 : decode cX1_setCut 7 = .ok (.istore_n 2, 1) := dk_61 (dk_at dksX1_setCut_0 7 rfl rfl)
theorem dX1_setCut_8 : decode cX1_setCut 8 = .ok (.aload_n 0, 1) := dk_42 (dk_at dksX1_setCut_0 8 rfl rfl)
theorem dX1_setCut_9 : decode cX1_setCut 9 = .ok (.getfield 43, 3) := dk_180 0 43 (dk_at dksX1_setCut_0 9 rfl rfl)
theorem dX1_setCut_12 : decode cX1_setCut 12 = .ok (.iload_n 1, 1) := dk_27 (dk_at dksX1_setCut_0 12 rfl rfl)
theorem dX1_setCut_13 : decode cX1_setCut 13 = .ok (.putfield 296, 3) := dk_181 1 40 (dk_at dksX1_setCut_0 13 rfl rfl)
theorem dX1_setCut_16 : decode cX1_setCut 16 = .ok (.iload_n 2, 1) := dk_28 (dk_at dksX1_setCut_0 16 rfl rfl)
theorem dX1_setCut_17 : decode cX1_setCut 17 = .ok (.ireturn, 1) := dk_172 (dk_at dksX1_setCut_0 17 rfl rfl)
abbrev cX1_load : ByteArray := prog_1_method_63_code
def yX1_load : MethodName := ⟨RX1, "load", "()I"⟩
def dkwX1_load_2 : List UInt8 := [182, 1, 119, 172, 77, 42, 44, 182, 1, 119, 172]
abbrev dktX1_load_2 : List UInt8 := dkwX1_load_2 ++ []
def dkwX1_load_1 : List UInt8 := [2, 181, 0, 55, 43, 182, 1, 109, 61, 42, 43, 180, 1, 112, 181, 0, 43, 28, 172, 77, 42, 44]
abbrev dktX1_load_1 : List UInt8 := dkwX1_load_1 ++ dktX1_load_2
def dkwX1_load_0 : List UInt8 := [187, 1, 104, 89, 42, 42, 180, 1, 90, 183, 1, 106, 76, 42, 3, 181, 1, 90, 42, 3, 181, 1, 98, 42]
abbrev dktX1_load_0 : List UInt8 := dkwX1_load_0 ++ dktX1_load_1
theorem dksX1_load_0 : cX1_load.data.toList.drop 0 = dktX1_load_0 := by decide +kernel
theorem dksX1_load_1 : cX1_load.data.toList.drop 24 = dktX1_load_1 := dk_seg dksX1_load_0 24 rfl rfl
theorem dksX1_load_2 : cX1_load.data.toList.drop 46 = dktX1_load_2 := dk_seg dksX1_load_1 22 rfl rfl
theorem dX1_load_0 : decode cX1_load 0 = .ok (.new 360, 3) := dk_187 1 104 (dk_at dksX1_load_0 0 rfl rfl)
theorem dX1_load_3 : decode cX1_load 3 = .ok (.dup, 1) := dk_89 (dk_at dksX1_load_0 3 rfl rfl)
theorem dX1_load_4 : decode cX1_load 4 = .ok (.aload_n 0, 1) := dk_42 (dk_at dksX1_load_0 4 rfl rfl)
theorem dX1_load_5 : decode cX1_load 5 = .ok (.aload_n 0, 1) := dk_42 (dk_at dksX1_load_0 5 rfl rfl)
theorem dX1_load_6 : decode cX1_load 6 = .ok (.getfield 346, 3) := dk_180 1 90 (dk_at dksX1_load_0 6 rfl rfl)
theorem dX1_load_9 : decode cX1_load 9 = .ok (.invokespecial 362, 3) := dk_183 1 106 (dk_at dksX1_load_0 9 rfl rfl)
theorem dX1_load_12 : decode cX1_load 12 = .ok (.astore_n 1, 1) := dk_76 (dk_at dksX1_load_0 12 rfl rfl)
theorem dX1_load_13 : decode cX1_load 13 = .ok (.aload_n 0, 1) := dk_42 (dk_at dksX1_load_0 13 rfl rfl)
theorem dX1_load_14 : decode cX1_load 14 = .ok (.iconst 0, 1) := dk_3 (dk_at dksX1_load_0 14 rfl rfl)
theorem dX1_load_15 : decode cX1_load 15 = .ok (.putfield 346, 3) := dk_181 1 90 (dk_at dksX1_load_0 15 rfl rfl)
theorem dX1_load_18 : decode cX1_load 18 = .ok (.aload_n 0, 1) := dk_42 (dk_at dksX1_load_0 18 rfl rfl)
theorem dX1_load_19 : decode cX1_load 19 = .ok (.iconst 0, 1) := dk_3 (dk_at dksX1_load_0 19 rfl rfl)
theorem dX1_load_20 : decode cX1_load 20 = .ok (.putfield 354, 3) := dk_181 1 98 (dk_at dksX1_load_0 20 rfl rfl)
theorem dX1_load_23 : decode cX1_load 23 = .ok (.aload_n 0, 1) := dk_42 (dk_at dksX1_load_0 23 rfl rfl)
theorem dX1_load_24 : decode cX1_load 24 = .ok (.iconst (-1), 1) := dk_2 (dk_at dksX1_load_1 0 rfl rfl)
theorem dX1_load_25 : decode cX1_load 25 = .ok (.putfield 55, 3) := dk_181 0 55 (dk_at dksX1_load_1 1 rfl rfl)
theorem dX1_load_28 : decode cX1_load 28 = .ok (.aload_n 1, 1) := dk_43 (dk_at dksX1_load_1 4 rfl rfl)
theorem dX1_load_29 : decode cX1_load 29 = .ok (.invokevirtual 365, 3) := dk_182 1 109 (dk_at dksX1_load_1 5 rfl rfl)
theorem dX1_load_32 : decode cX1_load 32 = .ok (.istore_n 2, 1) := dk_61 (dk_at dksX1_load_1 8 rfl rfl)
theorem dX1_load_33 : decode cX1_load 33 = .ok (.aload_n 0, 1) := dk_42 (dk_at dksX1_load_1 9 rfl rfl)
theorem dX1_load_34 : decode cX1_load 34 = .ok (.aload_n 1, 1) := dk_43 (dk_at dksX1_load_1 10 rfl rfl)
theorem dX1_load_35 : decode cX1_load 35 = .ok (.getfield 368, 3) := dk_180 1 112 (dk_at dksX1_load_1 11 rfl rfl)
theorem dX1_load_38 : decode cX1_load 38 = .ok (.putfield 43, 3) := dk_181 0 43 (dk_at dksX1_load_1 14 rfl rfl)
theorem dX1_load_41 : decode cX1_load 41 = .ok (.iload_n 2, 1) := dk_28 (dk_at dksX1_load_1 17 rfl rfl)
theorem dX1_load_42 : decode cX1_load 42 = .ok (.ireturn, 1) := dk_172 (dk_at dksX1_load_1 18 rfl rfl)
theorem dX1_load_43 : decode cX1_load 43 = .ok (.astore_n 2, 1) := dk_77 (dk_at dksX1_load_1 19 rfl rfl)
theorem dX1_load_44 : decode cX1_load 44 = .ok (.aload_n 0, 1) := dk_42 (dk_at dksX1_load_1 20 rfl rfl)
theorem dX1_load_45 : decode cX1_load 45 = .ok (.aload_n 2, 1) := dk_44 (dk_at dksX1_load_1 21 rfl rfl)
theorem dX1_load_46 : decode cX1_load 46 = .ok (.invokevirtual 375, 3) := dk_182 1 119 (dk_at dksX1_load_2 0 rfl rfl)
theorem dX1_load_49 : decode cX1_load 49 = .ok (.ireturn, 1) := dk_172 (dk_at dksX1_load_2 3 rfl rfl)
theorem dX1_load_50 : decode cX1_load 50 = .ok (.astore_n 2, 1) := dk_77 (dk_at dksX1_load_2 4 rfl rfl)
theorem dX1_load_51 : decode cX1_load 51 = .ok (.aload_n 0, 1) := dk_42 (dk_at dksX1_load_2 5 rfl rfl)
theorem dX1_load_52 : decode cX1_load 52 = .ok (.aload_n 2, 1) := dk_44 (dk_at dksX1_load_2 6 rfl rfl)
theorem dX1_load_53 : decode cX1_load 53 = .ok (.invokevirtual 375, 3) := dk_182 1 119 (dk_at dksX1_load_2 7 rfl rfl)
theorem dX1_load_56 : decode cX1_load 56 = .ok (.ireturn, 1) := dk_172 (dk_at dksX1_load_2 10 rfl rfl)
abbrev cX1_isBetween : ByteArray := prog_1_method_1_code
def yX1_isBetween : MethodName := ⟨RX1, "isBetween", "(JJJ)Z"⟩
def dkwX1_isBetween_0 : List UInt8 := [30, 32, 148, 155, 0, 14, 30, 22, 4, 148, 157, 0, 7, 4, 167, 0, 4, 3, 172]
abbrev dktX1_isBetween_0 : List UInt8 := dkwX1_isBetween_0 ++ []
theorem dksX1_isBetween_0 : cX1_isBetween.data.toList.drop 0 = dktX1_isBetween_0 := by decide +kernel
theorem dX1_isBetween_0 : decode cX1_isBetween 0 = .ok (.lload_n 0, 1) := dk_30 (dk_at dksX1_isBetween_0 0 rfl rfl)
theorem dX1_isBetween_1 : decode cX1_isBetween 1 = .ok (.lload_n 2, 1) := dk_32 (dk_at dksX1_isBetween_0 1 rfl rfl)
theorem dX1_isBetween_2 : decode cX1_isBetween 2 = .ok (.lcmp, 1) := dk_148 (dk_at dksX1_isBetween_0 2 rfl rfl)
theorem dX1_isBetween_3 : decode cX1_isBetween 3 = .ok (.ifCond .lt 14, 3) := dk_155 0 14 (dk_at dksX1_isBetween_0 3 rfl rfl)
theorem dX1_isBetween_6 : decode cX1_isBetween 6 = .ok (.lload_n 0, 1) := dk_30 (dk_at dksX1_isBetween_0 6 rfl rfl)
theorem dX1_isBetween_7 : decode cX1_isBetween 7 = .ok (.lload 4, 2) := dk_22 4 (dk_at dksX1_isBetween_0 7 rfl rfl)
theorem dX1_isBetween_9 : decode cX1_isBetween 9 = .ok (.lcmp, 1) := dk_148 (dk_at dksX1_isBetween_0 9 rfl rfl)
theorem dX1_isBetween_10 : decode cX1_isBetween 10 = .ok (.ifCond .gt 7, 3) := dk_157 0 7 (dk_at dksX1_isBetween_0 10 rfl rfl)
theorem dX1_isBetween_13 : decode cX1_isBetween 13 = .ok (.iconst 1, 1) := dk_4 (dk_at dksX1_isBetween_0 13 rfl rfl)
theorem dX1_isBetween_14 : decode cX1_isBetween 14 = .ok (.goto 4, 3) := dk_167 0 4 (dk_at dksX1_isBetween_0 14 rfl rfl)
theorem dX1_isBetween_17 : decode cX1_isBetween 17 = .ok (.iconst 0, 1) := dk_3 (dk_at dksX1_isBetween_0 17 rfl rfl)
theorem dX1_isBetween_18 : decode cX1_isBetween 18 = .ok (.ireturn, 1) := dk_172 (dk_at dksX1_isBetween_0 18 rfl rfl)
abbrev cX1_failed : ByteArray := prog_1_method_62_code
def yX1_failed : MethodName := ⟨RX1, "failed", "(LTrackArray$SetupError;)I"⟩
def dkwX1_failed_0 : List UInt8 := [42, 43, 182, 1, 93, 181, 1, 98, 42, 43, 180, 1, 101, 181, 0, 55, 2, 172]
abbrev dktX1_failed_0 : List UInt8 := dkwX1_failed_0 ++ []
theorem dksX1_failed_0 : cX1_failed.data.toList.drop 0 = dktX1_failed_0 := by decide +kernel
theorem dX1_failed_0 : decode cX1_failed 0 = .ok (.aload_n 0, 1) := dk_42 (dk_at dksX1_failed_0 0 rfl rfl)
theorem dX1_failed_1 : decode cX1_failed 1 = .ok (.aload_n 1, 1) := dk_43 (dk_at dksX1_failed_0 1 rfl rfl)
theorem dX1_failed_2 : decode cX1_failed 2 = .ok (.invokevirtual 349, 3) := dk_182 1 93 (dk_at dksX1_failed_0 2 rfl rfl)
theorem dX1_failed_5 : decode cX1_failed 5 = .ok (.putfield 354, 3) := dk_181 1 98 (dk_at dksX1_failed_0 5 rfl rfl)
theorem dX1_failed_8 : decode cX1_failed 8 = .ok (.aload_n 0, 1) := dk_42 (dk_at dksX1_failed_0 8 rfl rfl)
theorem dX1_failed_9 : decode cX1_failed 9 = .ok (.aload_n 1, 1) := dk_43 (dk_at dksX1_failed_0 9 rfl rfl)
theorem dX1_failed_10 : decode cX1_failed 10 = .ok (.getfield 357, 3) := dk_180 1 101 (dk_at dksX1_failed_0 10 rfl rfl)
theorem dX1_failed_13 : decode cX1_failed 13 = .ok (.putfield 55, 3) := dk_181 0 55 (dk_at dksX1_failed_0 13 rfl rfl)
theorem dX1_failed_16 : decode cX1_failed 16 = .ok (.iconst (-1), 1) := dk_2 (dk_at dksX1_failed_0 16 rfl rfl)
theorem dX1_failed_17 : decode cX1_failed 17 = .ok (.ireturn, 1) := dk_172 (dk_at dksX1_failed_0 17 rfl rfl)
abbrev cX1_errorCode : ByteArray := prog_1_method_64_code
def yX1_errorCode : MethodName := ⟨RX1, "errorCode", "()I"⟩
theorem dX1_errorCode_0 : decode cX1_errorCode 0 = .ok (.aload_n 0, 1) := by decide +kernel
theorem dX1_errorCode_1 : decode cX1_errorCode 1 = .ok (.getfield 354, 3) := by decide +kernel
theorem dX1_errorCode_4 : decode cX1_errorCode 4 = .ok (.ireturn, 1) := by decide +kernel
abbrev cX1_errorPosition : ByteArray := prog_1_method_65_code
def yX1_errorPosition : MethodName := ⟨RX1, "errorPosition", "()I"⟩
theorem dX1_errorPosition_0 : decode cX1_errorPosition 0 = .ok (.aload_n 0, 1) := by decide +kernel
theorem dX1_errorPosition_1 : decode cX1_errorPosition 1 = .ok (.getfield 55, 3) := by decide +kernel
theorem dX1_errorPosition_4 : decode cX1_errorPosition 4 = .ok (.ireturn, 1) := by decide +kernel
abbrev cX1_setSound : ByteArray := prog_1_method_14_code
def yX1_setSound : MethodName := ⟨RX1, "setSound", "(I)I"⟩
def dkwX1_setSound_1 : List UInt8 := [180, 0, 43, 27, 181, 0, 92, 28, 172]
abbrev dktX1_setSound_1 : List UInt8 := dkwX1_setSound_1 ++ []
def dkwX1_setSound_0 : List UInt8 := [27, 133, 20, 0, 88, 20, 0, 90, 184, 0, 17, 184, 0, 21, 42, 180, 0, 43, 180, 0, 92, 61, 42]
abbrev dktX1_setSound_0 : List UInt8 := dkwX1_setSound_0 ++ dktX1_setSound_1
theorem dksX1_setSound_0 : cX1_setSound.data.toList.drop 0 = dktX1_setSound_0 := by decide +kernel
theorem dksX1_setSound_1 : cX1_setSound.data.toList.drop 23 = dktX1_setSound_1 := dk_seg dksX1_setSound_0 23 rfl rfl
theorem dX1_setSound_0 : decode cX1_setSound 0 = .ok (.iload_n 1, 1) := dk_27 (dk_at dksX1_setSound_0 0 rfl rfl)
theorem dX1_setSound_1 : decode cX1_setSound 1 = .ok (.i2l, 1) := dk_133 (dk_at dksX1_setSound_0 1 rfl rfl)
theorem dX1_setSound_2 : decode cX1_setSound 2 = .ok (.ldc2_w 88, 3) := dk_20 0 88 (dk_at dksX1_setSound_0 2 rfl rfl)
theorem dX1_setSound_5 : decode cX1_setSound 5 = .ok (.ldc2_w 90, 3) := dk_20 0 90 (dk_at dksX1_setSound_0 5 rfl rfl)
theorem dX1_setSound_8 : decode cX1_setSound 8 = .ok (.invokestatic 17, 3) := dk_184 0 17 (dk_at dksX1_setSound_0 8 rfl rfl)
theorem dX1_setSound_11 : decode cX1_setSound 11 = .ok (.invokestatic 21, 3) := dk_184 0 21 (dk_at dksX1_setSound_0 11 rfl rfl)
theorem dX1_setSound_14 : decode cX1_setSound 14 = .ok (.aload_n 0, 1) := dk_42 (dk_at dksX1_setSound_0 14 rfl rfl)
theorem dX1_setSound_15 : decode cX1_setSound 15 = .ok (.getfield 43, 3) := dk_180 0 43 (dk_at dksX1_setSound_0 15 rfl rfl)
theorem dX1_setSound_18 : decode cX1_setSound 18 = .ok (.getfield 92, 3) := dk_180 0 92 (dk_at dksX1_setSound_0 18 rfl rfl)
theorem dX1_setSound_21 : decode cX1_setSound 21 = .ok (.istore_n 2, 1) := dk_61 (dk_at dksX1_setSound_0 21 rfl rfl)
theorem dX1_setSound_22 : decode cX1_setSound 22 = .ok (.aload_n 0, 1) := dk_42 (dk_at dksX1_setSound_0 22 rfl rfl)
theorem dX1_setSound_23 : decode cX1_setSound 23 = .ok (.getfield 43, 3) := dk_180 0 43 (dk_at dksX1_setSound_1 0 rfl rfl)
theorem dX1_setSound_26 : decode cX1_setSound 26 = .ok (.iload_n 1, 1) := dk_27 (dk_at dksX1_setSound_1 3 rfl rfl)
theorem dX1_setSound_27 : decode cX1_setSound 27 = .ok (.putfield 92, 3) := dk_181 0 92 (dk_at dksX1_setSound_1 4 rfl rfl)
theorem dX1_setSound_30 : decode cX1_setSound 30 = .ok (.iload_n 2, 1) := dk_28 (dk_at dksX1_setSound_1 7 rfl rfl)
theorem dX1_setSound_31 : decode cX1_setSound 31 = .ok (.ireturn, 1) := dk_172 (dk_at dksX1_setSound_1 8 rfl rfl)
abbrev cX1_checkArgument : ByteArray := prog_1_method_3_code
def yX1_checkArgument : MethodName := ⟨RX1, "checkArgument", "(Z)V"⟩
def dkwX1_checkArgument_0 : List UInt8 := [26, 154, 0, 11, 187, 0, 7, 89, 183, 0, 9, 191, 177]
abbrev dktX1_checkArgument_0 : List UInt8 := dkwX1_checkArgument_0 ++ []
theorem dksX1_checkArgument_0 : cX1_checkArgument.data.toList.drop 0 = dktX1_checkArgument_0 := by decide +kernel
theorem dX1_checkArgument_0 : decode cX1_checkArgument 0 = .ok (.iload_n 0, 1) := dk_26 (dk_at dksX1_checkArgument_0 0 rfl rfl)
theorem dX1_checkArgument_1 : decode cX1_checkArgument 1 = .ok (.ifCond .ne 11, 3) := dk_154 0 11 (dk_at dksX1_checkArgument_0 1 rfl rfl)
theorem dX1_checkArgument_4 : decode cX1_checkArgument 4 = .ok (.new 7, 3) := dk_187 0 7 (dk_at dksX1_checkArgument_0 4 rfl rfl)
theorem dX1_checkArgument_7 : decode cX1_checkArgument 7 = .ok (.dup, 1) := dk_89 (dk_at dksX1_checkArgument_0 7 rfl rfl)
theorem dX1_checkArgument_8 : decode cX1_checkArgument 8 = .ok (.invokespecial 9, 3) := dk_183 0 9 (dk_at dksX1_checkArgument_0 8 rfl rfl)
theorem dX1_checkArgument_11 : decode cX1_checkArgument 11 = .ok (.athrow, 1) := dk_191 (dk_at dksX1_checkArgument_0 11 rfl rfl)
theorem dX1_checkArgument_12 : decode cX1_checkArgument 12 = .ok (.return_, 1) := dk_177 (dk_at dksX1_checkArgument_0 12 rfl rfl)
abbrev cX1_setGround : ByteArray := prog_1_method_15_code
def yX1_setGround : MethodName := ⟨RX1, "setGround", "(I)I"⟩
def dkwX1_setGround_1 : List UInt8 := [180, 0, 43, 27, 181, 0, 99, 28, 172]
abbrev dktX1_setGround_1 : List UInt8 := dkwX1_setGround_1 ++ []
def dkwX1_setGround_0 : List UInt8 := [27, 133, 20, 0, 95, 20, 0, 97, 184, 0, 17, 184, 0, 21, 42, 180, 0, 43, 180, 0, 99, 61, 42]
abbrev dktX1_setGround_0 : List UInt8 := dkwX1_setGround_0 ++ dktX1_setGround_1
theorem dksX1_setGround_0 : cX1_setGround.data.toList.drop 0 = dktX1_setGround_0 := by decide +kernel
theorem dksX1_setGround_1 : cX1_setGround.data.toList.drop 23 = dktX1_setGround_1 := dk_seg dksX1_setGround_0 23 rfl rfl
theorem dX1_setGround_0 : decode cX1_setGround 0 = .ok (.iload_n 1, 1) := dk_27 (dk_at dksX1_setGround_0 0 rfl rfl)
theorem dX1_setGround_1 : decode cX1_setGround 1 = .ok (.i2l, 1) := dk_133 (dk_at dksX1_setGround_0 1 rfl rfl)
theorem dX1_setGround_2 : decode cX1_setGround 2 = .ok (.ldc2_w 95, 3) := dk_20 0 95 (dk_at dksX1_setGround_0 2 rfl rfl)
theorem dX1_setGround_5 : decode cX1_setGround 5 = .ok (.ldc2_w 97, 3) := dk_20 0 97 (dk_at dksX1_setGround_0 5 rfl rfl)
theorem dX1_setGround_8 : decode cX1_setGround 8 = .ok (.invokestatic 17, 3) := dk_184 0 17 (dk_at dksX1_setGround_0 8 rfl rfl)
theorem dX1_setGround_11 : decode cX1_setGround 11 = .ok (.invokestatic 21, 3) := dk_184 0 21 (dk_at dksX1_setGround_0 11 rfl rfl)
theorem dX1_setGround_14 : decode cX1_setGround 14 = .ok (.aload_n 0, 1) := dk_42 (dk_at dksX1_setGround_0 14 rfl rfl)
theorem dX1_setGround_15 : decode cX1_setGround 15 = .ok (.getfield 43, 3) := dk_180 0 43 (dk_at dksX1_setGround_0 15 rfl rfl)
theorem dX1_setGround_18 : decode cX1_setGround 18 = .ok (.getfield 99, 3) := dk_180 0 99 (dk_at dksX1_setGround_0 18 rfl rfl)
theorem dX1_setGround_21 : decode cX1_setGround 21 = .ok (.istore_n 2, 1) := dk_61 (dk_at dksX1_setGround_0 21 rfl rfl)
theorem dX1_setGround_22 : decode cX1_setGround 22 = .ok (.aload_n 0, 1) := dk_42 (dk_at dksX1_setGround_0 22 rfl rfl)
theorem dX1_setGround_23 : decode cX1_setGround 23 = .ok (.getfield 43, 3) := dk_180 0 43 (dk_at dksX1_setGround_1 0 rfl rfl)
theorem dX1_setGround_26 : decode cX1_setGround 26 = .ok (.iload_n 1, 1) := dk_27 (dk_at dksX1_setGround_1 3 rfl rfl)
theorem dX1_setGround_27 : decode cX1_setGround 27 = .ok (.putfield 99, 3) := dk_181 0 99 (dk_at dksX1_setGround_1 4 rfl rfl)
theorem dX1_setGround_30 : decode cX1_setGround 30 = .ok (.iload_n 2, 1) := dk_28 (dk_at dksX1_setGround_1 7 rfl rfl)
theorem dX1_setGround_31 : decode cX1_setGround 31 = .ok (.ireturn, 1) := dk_172 (dk_at dksX1_setGround_1 8 rfl rfl)
abbrev cX1_setNoise : ByteArray := prog_1_method_17_code
def yX1_setNoise : MethodName := ⟨RX1, "setNoise", "(II)V"⟩
def dkwX1_setNoise_1 : List UInt8 := [42, 180, 0, 43, 27, 133, 181, 0, 108, 42, 180, 0, 43, 28, 181, 0, 112, 177]
abbrev dktX1_setNoise_1 : List UInt8 := dkwX1_setNoise_1 ++ []
def dkwX1_setNoise_0 : List UInt8 := [27, 155, 0, 19, 28, 133, 9, 20, 0, 106, 184, 0, 17, 153, 0, 7, 4, 167, 0, 4, 3, 184, 0, 21]
abbrev dktX1_setNoise_0 : List UInt8 := dkwX1_setNoise_0 ++ dktX1_setNoise_1
theorem dksX1_setNoise_0 : cX1_setNoise.data.toList.drop 0 = dktX1_setNoise_0 := by decide +kernel
theorem dksX1_setNoise_1 : cX1_setNoise.data.toList.drop 24 = dktX1_setNoise_1 := dk_seg dksX1_setNoise_0 24 rfl rfl
theorem dX1_setNoise_0 : decode cX1_setNoise 0 = .ok (.iload_n 1, 1) := dk_27 (dk_at dksX1_setNoise_0 0 rfl rfl)
theorem dX1_setNoise_1 : decode cX1_setNoise 1 = .ok (.ifCond .lt 19, 3) := dk_155 0 19 (dk_at dksX1_setNoise_0 1 rfl rfl)
theorem dX1_setNoise_4 : decode cX1_setNoise 4 = .ok (.iload_n 2, 1) := dk_28 (dk_at dksX1_setNoise_0 4 rfl rfl)
theorem dX1_setNoise_5 : decode cX1_setNoise 5 = .ok (.i2l, 1) := dk_133 (dk_at dksX1_setNoise_0 5 rfl rfl)
theorem dX1_setNoise_6 : decode cX1_setNoise 6 = .ok (.lconst 0, 1) := dk_9 (dk_at dksX1_setNoise_0 6 rfl rfl)
theorem dX1_setNoise_7 : decode cX1_setNoise 7 = .ok (.ldc2_w 106, 3) := dk_20 0 106 (dk_at dksX1_setNoise_0 7 rfl rfl)
theorem dX1_setNoise_10 : decode cX1_setNoise 10 = .ok (.invokestatic 17, 3) := dk_184 0 17 (dk_at dksX1_setNoise_0 10 rfl rfl)
theorem dX1_setNoise_13 : decode cX1_setNoise 13 = .ok (.ifCond .eq 7, 3) := dk_153 0 7 (dk_at dksX1_setNoise_0 13 rfl rfl)
theorem dX1_setNoise_16 : decode cX1_setNoise 16 = .ok (.iconst 1, 1) := dk_4 (dk_at dksX1_setNoise_0 16 rfl rfl)
theorem dX1_setNoise_17 : decode cX1_setNoise 17 = .ok (.goto 4, 3) := dk_167 0 4 (dk_at dksX1_setNoise_0 17 rfl rfl)
theorem dX1_setNoise_20 : decode cX1_setNoise 20 = .ok (.iconst 0, 1) := dk_3 (dk_at dksX1_setNoise_0 20 rfl rfl)
theorem dX1_setNoise_21 : decode cX1_setNoise 21 = .ok (.invokestatic 21, 3) := dk_184 0 21 (dk_at dksX1_setNoise_0 21 rfl rfl)
theorem dX1_setNoise_24 : decode cX1_setNoise 24 = .ok (.aload_n 0, 1) := dk_42 (dk_at dksX1_setNoise_1 0 rfl rfl)
theorem dX1_setNoise_25 : decode cX1_setNoise 25 = .ok (.getfield 43, 3) := dk_180 0 43 (dk_at dksX1_setNoise_1 1 rfl rfl)
theorem dX1_setNoise_28 : decode cX1_setNoise 28 = .ok (.iload_n 1, 1) := dk_27 (dk_at dksX1_setNoise_1 4 rfl rfl)
theorem dX1_setNoise_29 : decode cX1_setNoise 29 = .ok (.i2l, 1) := dk_133 (dk_at dksX1_setNoise_1 5 rfl rfl)
theorem dX1_setNoise_30 : decode cX1_setNoise 30 = .ok (.putfield 108, 3) := dk_181 0 108 (dk_at dksX1_setNoise_1 6 rfl rfl)
theorem dX1_setNoise_33 : decode cX1_setNoise 33 = .ok (.aload_n 0, 1) := dk_42 (dk_at dksX1_setNoise_1 9 rfl rfl)
theorem dX1_setNoise_34 : decode cX1_setNoise 34 = .ok (.getfield 43, 3) := dk_180 0 43 (dk_at dksX1_setNoise_1 10 rfl rfl)
theorem dX1_setNoise_37 : decode cX1_setNoise 37 = .ok (.iload_n 2, 1) := dk_28 (dk_at dksX1_setNoise_1 13 rfl rfl)
theorem dX1_setNoise_38 : decode cX1_setNoise 38 = .ok (.putfield 112, 3) := dk_181 0 112 (dk_at dksX1_setNoise_1 14 rfl rfl)
theorem dX1_setNoise_41 : decode cX1_setNoise 41 = .ok (.return_, 1) := dk_177 (dk_at dksX1_setNoise_1 17 rfl rfl)
abbrev cX1_addVehicle : ByteArray := prog_1_method_18_code
def yX1_addVehicle : MethodName := ⟨RX1, "addVehicle", "(III)I"⟩
def dkwX1_addVehicle_3 : List UInt8 := [184, 0, 125, 42, 180, 0, 43, 27, 28, 29, 182, 0, 128, 172]
abbrev dktX1_addVehicle_3 : List UInt8 := dkwX1_addVehicle_3 ++ []
def dkwX1_addVehicle_2 : List UInt8 := [3, 184, 0, 21, 42, 180, 0, 43, 180, 0, 59, 182, 0, 63, 7, 162, 0, 7, 4, 167, 0, 4, 3]
abbrev dktX1_addVehicle_2 : List UInt8 := dkwX1_addVehicle_2 ++ dktX1_addVehicle_3
def dkwX1_addVehicle_1 : List UInt8 := [184, 0, 17, 153, 0, 21, 29, 133, 20, 0, 88, 20, 0, 123, 184, 0, 17, 153, 0, 7, 4, 167, 0, 4]
abbrev dktX1_addVehicle_1 : List UInt8 := dkwX1_addVehicle_1 ++ dktX1_addVehicle_2
def dkwX1_addVehicle_0 : List UInt8 := [27, 133, 20, 0, 115, 20, 0, 117, 184, 0, 17, 153, 0, 35, 28, 133, 20, 0, 119, 20, 0, 121]
abbrev dktX1_addVehicle_0 : List UInt8 := dkwX1_addVehicle_0 ++ dktX1_addVehicle_1
theorem dksX1_addVehicle_0 : cX1_addVehicle.data.toList.drop 0 = dktX1_addVehicle_0 := by decide +kernel
theorem dksX1_addVehicle_1 : cX1_addVehicle.data.toList.drop 22 = dktX1_addVehicle_1 := dk_seg dksX1_addVehicle_0 22 rfl rfl
theorem dksX1_addVehicle_2 : cX1_addVehicle.data.toList.drop 46 = dktX1_addVehicle_2 := dk_seg dksX1_addVehicle_1 24 rfl rfl
theorem dksX1_addVehicle_3 : cX1_addVehicle.data.toList.drop 69 = dktX1_addVehicle_3 := dk_seg dksX1_addVehicle_2 23 rfl rfl
theorem dX1_addVehicle_0 : decode cX1_addVehicle 0 = .ok (.iload_n 1, 1) := dk_27 (dk_at dksX1_addVehicle_0 0 rfl rfl)
theorem dX1_addVehicle_1 : decode cX1_addVehicle 1 = .ok (.i2l, 1) := dk_133 (dk_at dksX1_addVehicle_0 1 rfl rfl)
theorem dX1_addVehicle_2 : decode cX1_addVehicle 2 = .ok (.ldc2_w 115, 3) := dk_20 0 115 (dk_at dksX1_addVehicle_0 2 rfl rfl)
theorem dX1_addVehicle_5 : decode cX1_addVehicle 5 = .ok (.ldc2_w 117, 3) := dk_20 0 117 (dk_at dksX1_addVehicle_0 5 rfl rfl)
theorem dX1_addVehicle_8 : decode cX1_addVehicle 8 = .ok (.invokestatic 17, 3) := dk_184 0 17 (dk_at dksX1_addVehicle_0 8 rfl rfl)
theorem dX1_addVehicle_11 : decode cX1_addVehicle 11 = .ok (.ifCond .eq 35, 3) := dk_153 0 35 (dk_at dksX1_addVehicle_0 11 rfl rfl)
theorem dX1_addVehicle_14 : decode cX1_addVehicle 14 = .ok (.iload_n 2, 1) := dk_28 (dk_at dksX1_addVehicle_0 14 rfl rfl)
theorem dX1_addVehicle_15 : decode cX1_addVehicle 15 = .ok (.i2l, 1) := dk_133 (dk_at dksX1_addVehicle_0 15 rfl rfl)
theorem dX1_addVehicle_16 : decode cX1_addVehicle 16 = .ok (.ldc2_w 119, 3) := dk_20 0 119 (dk_at dksX1_addVehicle_0 16 rfl rfl)
theorem dX1_addVehicle_19 : decode cX1_addVehicle 19 = .ok (.ldc2_w 121, 3) := dk_20 0 121 (dk_at dksX1_addVehicle_0 19 rfl rfl)
theorem dX1_addVehicle_22 : decode cX1_addVehicle 22 = .ok (.invokestatic 17, 3) := dk_184 0 17 (dk_at dksX1_addVehicle_1 0 rfl rfl)
theorem dX1_addVehicle_25 : decode cX1_addVehicle 25 = .ok (.ifCond .eq 21, 3) := dk_153 0 21 (dk_at dksX1_addVehicle_1 3 rfl rfl)
theorem dX1_addVehicle_28 : decode cX1_addVehicle 28 = .ok (.iload_n 3, 1) := dk_29 (dk_at dksX1_addVehicle_1 6 rfl rfl)
theorem dX1_addVehicle_29 : decode cX1_addVehicle 29 = .ok (.i2l, 1) := dk_133 (dk_at dksX1_addVehicle_1 7 rfl rfl)
theorem dX1_addVehicle_30 : decode cX1_addVehicle 30 = .ok (.ldc2_w 88, 3) := dk_20 0 88 (dk_at dksX1_addVehicle_1 8 rfl rfl)
theorem dX1_addVehicle_33 : decode cX1_addVehicle 33 = .ok (.ldc2_w 123, 3) := dk_20 0 123 (dk_at dksX1_addVehicle_1 11 rfl rfl)
theorem dX1_addVehicle_36 : decode cX1_addVehicle 36 = .ok (.invokestatic 17, 3) := dk_184 0 17 (dk_at dksX1_addVehicle_1 14 rfl rfl)
theorem dX1_addVehicle_39 : decode cX1_addVehicle 39 = .ok (.ifCond .eq 7, 3) := dk_153 0 7 (dk_at dksX1_addVehicle_1 17 rfl rfl)
theorem dX1_addVehicle_42 : decode cX1_addVehicle 42 = .ok (.iconst 1, 1) := dk_4 (dk_at dksX1_addVehicle_1 20 rfl rfl)
theorem dX1_addVehicle_43 : decode cX1_addVehicle 43 = .ok (.goto 4, 3) := dk_167 0 4 (dk_at dksX1_addVehicle_1 21 rfl rfl)
theorem dX1_addVehicle_46 : decode cX1_addVehicle 46 = .ok (.iconst 0, 1) := dk_3 (dk_at dksX1_addVehicle_2 0 rfl rfl)
theorem dX1_addVehicle_47 : decode cX1_addVehicle 47 = .ok (.invokestatic 21, 3) := dk_184 0 21 (dk_at dksX1_addVehicle_2 1 rfl rfl)
theorem dX1_addVehicle_50 : decode cX1_addVehicle 50 = .ok (.aload_n 0, 1) := dk_42 (dk_at dksX1_addVehicle_2 4 rfl rfl)
theorem dX1_addVehicle_51 : decode cX1_addVehicle 51 = .ok (.getfield 43, 3) := dk_180 0 43 (dk_at dksX1_addVehicle_2 5 rfl rfl)
theorem dX1_addVehicle_54 : decode cX1_addVehicle 54 = .ok (.getfield 59, 3) := dk_180 0 59 (dk_at dksX1_addVehicle_2 8 rfl rfl)
theorem dX1_addVehicle_57 : decode cX1_addVehicle 57 = .ok (.invokevirtual 63, 3) := dk_182 0 63 (dk_at dksX1_addVehicle_2 11 rfl rfl)
theorem dX1_addVehicle_60 : decode cX1_addVehicle 60 = .ok (.iconst 4, 1) := dk_7 (dk_at dksX1_addVehicle_2 14 rfl rfl)
theorem dX1_addVehicle_61 : decode cX1_addVehicle 61 = .ok (.if_icmp .ge 7, 3) := dk_162 0 7 (dk_at dksX1_addVehicle_2 15 rfl rfl)
theorem dX1_addVehicle_64 : decode cX1_addVehicle 64 = .ok (.iconst 1, 1) := dk_4 (dk_at dksX1_addVehicle_2 18 rfl rfl)
theorem dX1_addVehicle_65 : decode cX1_addVehicle 65 = .ok (.goto 4, 3) := dk_167 0 4 (dk_at dksX1_addVehicle_2 19 rfl rfl)
theorem dX1_addVehicle_68 : decode cX1_addVehicle 68 = .ok (.iconst 0, 1) := dk_3 (dk_at dksX1_addVehicle_2 22 rfl rfl)
theorem dX1_addVehicle_69 : decode cX1_addVehicle 69 = .ok (.invokestatic 125, 3) := dk_184 0 125 (dk_at dksX1_addVehicle_3 0 rfl rfl)
theorem dX1_addVehicle_72 : decode cX1_addVehicle 72 = .ok (.aload_n 0, 1) := dk_42 (dk_at dksX1_addVehicle_3 3 rfl rfl)
theorem dX1_addVehicle_73 : decode cX1_addVehicle 73 = .ok (.getfield 43, 3) := dk_180 0 43 (dk_at dksX1_addVehicle_3 4 rfl rfl)
theorem dX1_addVehicle_76 : decode cX1_addVehicle 76 = .ok (.iload_n 1, 1) := dk_27 (dk_at dksX1_addVehicle_3 7 rfl rfl)
theorem dX1_addVehicle_77 : decode cX1_addVehicle 77 = .ok (.iload_n 2, 1) := dk_28 (dk_at dksX1_addVehicle_3 8 rfl rfl)
theorem dX1_addVehicle_78 : decode cX1_addVehicle 78 = .ok (.iload_n 3, 1) := dk_29 (dk_at dksX1_addVehicle_3 9 rfl rfl)
theorem dX1_addVehicle_79 : decode cX1_addVehicle 79 = .ok (.invokevirtual 128, 3) := dk_182 0 128 (dk_at dksX1_addVehicle_3 10 rfl rfl)
theorem dX1_addVehicle_82 : decode cX1_addVehicle 82 = .ok (.ireturn, 1) := dk_172 (dk_at dksX1_addVehicle_3 13 rfl rfl)
abbrev cX1_checkState : ByteArray := prog_1_method_4_code
def yX1_checkState : MethodName := ⟨RX1, "checkState", "(Z)V"⟩
def dkwX1_checkState_0 : List UInt8 := [26, 154, 0, 11, 187, 0, 10, 89, 183, 0, 12, 191, 177]
abbrev dktX1_checkState_0 : List UInt8 := dkwX1_checkState_0 ++ []
theorem dksX1_checkState_0 : cX1_checkState.data.toList.drop 0 = dktX1_checkState_0 := by decide +kernel
theorem dX1_checkState_0 : decode cX1_checkState 0 = .ok (.iload_n 0, 1) := dk_26 (dk_at dksX1_checkState_0 0 rfl rfl)
theorem dX1_checkState_1 : decode cX1_checkState 1 = .ok (.ifCond .ne 11, 3) := dk_154 0 11 (dk_at dksX1_checkState_0 1 rfl rfl)
theorem dX1_checkState_4 : decode cX1_checkState 4 = .ok (.new 10, 3) := dk_187 0 10 (dk_at dksX1_checkState_0 4 rfl rfl)
theorem dX1_checkState_7 : decode cX1_checkState 7 = .ok (.dup, 1) := dk_89 (dk_at dksX1_checkState_0 7 rfl rfl)
theorem dX1_checkState_8 : decode cX1_checkState 8 = .ok (.invokespecial 12, 3) := dk_183 0 12 (dk_at dksX1_checkState_0 8 rfl rfl)
theorem dX1_checkState_11 : decode cX1_checkState 11 = .ok (.athrow, 1) := dk_191 (dk_at dksX1_checkState_0 11 rfl rfl)
theorem dX1_checkState_12 : decode cX1_checkState 12 = .ok (.return_, 1) := dk_177 (dk_at dksX1_checkState_0 12 rfl rfl)
abbrev cX1_addSource : ByteArray := prog_1_method_21_code
def yX1_addSource : MethodName := ⟨RX1, "addSource", "(IIIII)I"⟩
def dkwX1_addSource_4 : List UInt8 := [182, 0, 148, 172]
abbrev dktX1_addSource_4 : List UInt8 := dkwX1_addSource_4 ++ []
def dkwX1_addSource_3 : List UInt8 := [162, 0, 7, 4, 167, 0, 4, 3, 184, 0, 125, 42, 180, 0, 43, 27, 28, 29, 21, 4, 21, 5]
abbrev dktX1_addSource_3 : List UInt8 := dkwX1_addSource_3 ++ dktX1_addSource_4
def dkwX1_addSource_2 : List UInt8 := [153, 0, 7, 4, 167, 0, 4, 3, 184, 0, 21, 42, 180, 0, 43, 180, 0, 78, 182, 0, 63, 16, 6]
abbrev dktX1_addSource_2 : List UInt8 := dkwX1_addSource_2 ++ dktX1_addSource_3
def dkwX1_addSource_1 : List UInt8 := [184, 0, 138, 153, 0, 28, 21, 4, 133, 10, 20, 0, 142, 184, 0, 17, 153, 0, 15, 21, 5, 184, 0, 144]
abbrev dktX1_addSource_1 : List UInt8 := dkwX1_addSource_1 ++ dktX1_addSource_2
def dkwX1_addSource_0 : List UInt8 := [27, 133, 9, 42, 180, 0, 43, 180, 0, 59, 182, 0, 63, 4, 100, 133, 184, 0, 17, 184, 0, 69, 28, 29]
abbrev dktX1_addSource_0 : List UInt8 := dkwX1_addSource_0 ++ dktX1_addSource_1
theorem dksX1_addSource_0 : cX1_addSource.data.toList.drop 0 = dktX1_addSource_0 := by decide +kernel
theorem dksX1_addSource_1 : cX1_addSource.data.toList.drop 24 = dktX1_addSource_1 := dk_seg dksX1_addSource_0 24 rfl rfl
theorem dksX1_addSource_2 : cX1_addSource.data.toList.drop 48 = dktX1_addSource_2 := dk_seg dksX1_addSource_1 24 rfl rfl
theorem dksX1_addSource_3 : cX1_addSource.data.toList.drop 71 = dktX1_addSource_3 := dk_seg dksX1_addSource_2 23 rfl rfl
theorem dksX1_addSource_4 : cX1_addSource.data.toList.drop 93 = dktX1_addSource_4 := dk_seg dksX1_addSource_3 22 rfl rfl
theorem dX1_addSource_0 : decode cX1_addSource 0 = .ok (.iload_n 1, 1) := dk_27 (dk_at dksX1_addSource_0 0 rfl rfl)
theorem dX1_addSource_1 : decode cX1_addSource 1 = .ok (.i2l, 1) := dk_133 (dk_at dksX1_addSource_0 1 rfl rfl)
theorem dX1_addSource_2 : decode cX1_addSource 2 = .ok (.lconst 0, 1) := dk_9 (dk_at dksX1_addSource_0 2 rfl rfl)
theorem dX1_addSource_3 : decode cX1_addSource 3 = .ok (.aload_n 0, 1) := dk_42 (dk_at dksX1_addSource_0 3 rfl rfl)
theorem dX1_addSource_4 : decode cX1_addSource 4 = .ok (.getfield 43, 3) := dk_180 0 43 (dk_at dksX1_addSource_0 4 rfl rfl)
theorem dX1_addSource_7 : decode cX1_addSource 7 = .ok (.getfield 59, 3) := dk_180 0 59 (dk_at dksX1_addSource_0 7 rfl rfl)
theorem dX1_addSource_10 : decode cX1_addSource 10 = .ok (.invokevirtual 63, 3) := dk_182 0 63 (dk_at dksX1_addSource_0 10 rfl rfl)
theorem dX1_addSource_13 : decode cX1_addSource 13 = .ok (.iconst 1, 1) := dk_4 (dk_at dksX1_addSource_0 13 rfl rfl)
theorem dX1_addSource_14 : decode cX1_addSource 14 = .ok (.isub, 1) := dk_100 (dk_at dksX1_addSource_0 14 rfl rfl)
theorem dX1_addSource_15 : decode cX1_addSource 15 = .ok (.i2l, 1) := dk_133 (dk_at dksX1_addSource_0 15 rfl rfl)
theorem dX1_addSource_16 : decode cX1_addSource 16 = .ok (.invokestatic 17, 3) := dk_184 0 17 (dk_at dksX1_addSource_0 16 rfl rfl)
theorem dX1_addSource_19 : decode cX1_addSource 19 = .ok (.invokestatic 69, 3) := dk_184 0 69 (dk_at dksX1_addSource_0 19 rfl rfl)
theorem dX1_addSource_22 : decode cX1_addSource 22 = .ok (.iload_n 2, 1) := dk_28 (dk_at dksX1_addSource_0 22 rfl rfl)
theorem dX1_addSource_23 : decode cX1_addSource 23 = .ok (.iload_n 3, 1) := dk_29 (dk_at dksX1_addSource_0 23 rfl rfl)
theorem dX1_addSource_24 : decode cX1_addSource 24 = .ok (.invokestatic 138, 3) := dk_184 0 138 (dk_at dksX1_addSource_1 0 rfl rfl)
theorem dX1_addSource_27 : decode cX1_addSource 27 = .ok (.ifCond .eq 28, 3) := dk_153 0 28 (dk_at dksX1_addSource_1 3 rfl rfl)
theorem dX1_addSource_30 : decode cX1_addSource 30 = .ok (.iload 4, 2) := dk_21 4 (dk_at dksX1_addSource_1 6 rfl rfl)
theorem dX1_addSource_32 : decode cX1_addSource 32 = .ok (.i2l, 1) := dk_133 (dk_at dksX1_addSource_1 8 rfl rfl)
theorem dX1_addSource_33 : decode cX1_addSource 33 = .ok (.lconst 1, 1) := dk_10 (dk_at dksX1_addSource_1 9 rfl rfl)
theorem dX1_addSource_34 : decode cX1_addSource 34 = .ok (.ldc2_w 142, 3) := dk_20 0 142 (dk_at dksX1_addSource_1 10 rfl rfl)
theorem dX1_addSource_37 : decode cX1_addSource 37 = .ok (.invokestatic 17, 3) := dk_184 0 17 (dk_at dksX1_addSource_1 13 rfl rfl)
theorem dX1_addSource_40 : decode cX1_addSource 40 = .ok (.ifCond .eq 15, 3) := dk_153 0 15 (dk_at dksX1_addSource_1 16 rfl rfl)
theorem dX1_addSource_43 : decode cX1_addSource 43 = .ok (.iload 5, 2) := dk_21 5 (dk_at dksX1_addSource_1 19 rfl rfl)
theorem dX1_addSource_45 : decode cX1_addSource 45 = .ok (.invokestatic 144, 3) := dk_184 0 144 (dk_at dksX1_addSource_1 21 rfl rfl)
theorem dX1_addSource_48 : decode cX1_addSource 48 = .ok (.ifCond .eq 7, 3) := dk_153 0 7 (dk_at dksX1_addSource_2 0 rfl rfl)
theorem dX1_addSource_51 : decode cX1_addSource 51 = .ok (.iconst 1, 1) := dk_4 (dk_at dksX1_addSource_2 3 rfl rfl)
theorem dX1_addSource_52 : decode cX1_addSource 52 = .ok (.goto 4, 3) := dk_167 0 4 (dk_at dksX1_addSource_2 4 rfl rfl)
theorem dX1_addSource_55 : decode cX1_addSource 55 = .ok (.iconst 0, 1) := dk_3 (dk_at dksX1_addSource_2 7 rfl rfl)
theorem dX1_addSource_56 : decode cX1_addSource 56 = .ok (.invokestatic 21, 3) := dk_184 0 21 (dk_at dksX1_addSource_2 8 rfl rfl)
theorem dX1_addSource_59 : decode cX1_addSource 59 = .ok (.aload_n 0, 1) := dk_42 (dk_at dksX1_addSource_2 11 rfl rfl)
theorem dX1_addSource_60 : decode cX1_addSource 60 = .ok (.getfield 43, 3) := dk_180 0 43 (dk_at dksX1_addSource_2 12 rfl rfl)
theorem dX1_addSource_63 : decode cX1_addSource 63 = .ok (.getfield 78, 3) := dk_180 0 78 (dk_at dksX1_addSource_2 15 rfl rfl)
theorem dX1_addSource_66 : decode cX1_addSource 66 = .ok (.invokevirtual 63, 3) := dk_182 0 63 (dk_at dksX1_addSource_2 18 rfl rfl)
theorem dX1_addSource_69 : decode cX1_addSource 69 = .ok (.bipush 6, 2) := dk_16 6 (dk_at dksX1_addSource_2 21 rfl rfl)
theorem dX1_addSource_71 : decode cX1_addSource 71 = .ok (.if_icmp .ge 7, 3) := dk_162 0 7 (dk_at dksX1_addSource_3 0 rfl rfl)
theorem dX1_addSource_74 : decode cX1_addSource 74 = .ok (.iconst 1, 1) := dk_4 (dk_at dksX1_addSource_3 3 rfl rfl)
theorem dX1_addSource_75 : decode cX1_addSource 75 = .ok (.goto 4, 3) := dk_167 0 4 (dk_at dksX1_addSource_3 4 rfl rfl)
theorem dX1_addSource_78 : decode cX1_addSource 78 = .ok (.iconst 0, 1) := dk_3 (dk_at dksX1_addSource_3 7 rfl rfl)
theorem dX1_addSource_79 : decode cX1_addSource 79 = .ok (.invokestatic 125, 3) := dk_184 0 125 (dk_at dksX1_addSource_3 8 rfl rfl)
theorem dX1_addSource_82 : decode cX1_addSource 82 = .ok (.aload_n 0, 1) := dk_42 (dk_at dksX1_addSource_3 11 rfl rfl)
theorem dX1_addSource_83 : decode cX1_addSource 83 = .ok (.getfield 43, 3) := dk_180 0 43 (dk_at dksX1_addSource_3 12 rfl rfl)
theorem dX1_addSource_86 : decode cX1_addSource 86 = .ok (.iload_n 1, 1) := dk_27 (dk_at dksX1_addSource_3 15 rfl rfl)
theorem dX1_addSource_87 : decode cX1_addSource 87 = .ok (.iload_n 2, 1) := dk_28 (dk_at dksX1_addSource_3 16 rfl rfl)
theorem dX1_addSource_88 : decode cX1_addSource 88 = .ok (.iload_n 3, 1) := dk_29 (dk_at dksX1_addSource_3 17 rfl rfl)
theorem dX1_addSource_89 : decode cX1_addSource 89 = .ok (.iload 4, 2) := dk_21 4 (dk_at dksX1_addSource_3 18 rfl rfl)
theorem dX1_addSource_91 : decode cX1_addSource 91 = .ok (.iload 5, 2) := dk_21 5 (dk_at dksX1_addSource_3 20 rfl rfl)
theorem dX1_addSource_93 : decode cX1_addSource 93 = .ok (.invokevirtual 148, 3) := dk_182 0 148 (dk_at dksX1_addSource_4 0 rfl rfl)
theorem dX1_addSource_96 : decode cX1_addSource 96 = .ok (.ireturn, 1) := dk_172 (dk_at dksX1_addSource_4 3 rfl rfl)
abbrev cX1_checkIndex : ByteArray := prog_1_method_2_code
def yX1_checkIndex : MethodName := ⟨RX1, "checkIndex", "(Z)V"⟩
def dkwX1_checkIndex_0 : List UInt8 := [26, 154, 0, 11, 187, 0, 1, 89, 183, 0, 3, 191, 177]
abbrev dktX1_checkIndex_0 : List UInt8 := dkwX1_checkIndex_0 ++ []
theorem dksX1_checkIndex_0 : cX1_checkIndex.data.toList.drop 0 = dktX1_checkIndex_0 := by decide +kernel
theorem dX1_checkIndex_0 : decode cX1_checkIndex 0 = .ok (.iload_n 0, 1) := dk_26 (dk_at dksX1_checkIndex_0 0 rfl rfl)
theorem dX1_checkIndex_1 : decode cX1_checkIndex 1 = .ok (.ifCond .ne 11, 3) := dk_154 0 11 (dk_at dksX1_checkIndex_0 1 rfl rfl)
theorem dX1_checkIndex_4 : decode cX1_checkIndex 4 = .ok (.new 1, 3) := dk_187 0 1 (dk_at dksX1_checkIndex_0 4 rfl rfl)
theorem dX1_checkIndex_7 : decode cX1_checkIndex 7 = .ok (.dup, 1) := dk_89 (dk_at dksX1_checkIndex_0 7 rfl rfl)
theorem dX1_checkIndex_8 : decode cX1_checkIndex 8 = .ok (.invokespecial 3, 3) := dk_183 0 3 (dk_at dksX1_checkIndex_0 8 rfl rfl)
theorem dX1_checkIndex_11 : decode cX1_checkIndex 11 = .ok (.athrow, 1) := dk_191 (dk_at dksX1_checkIndex_0 11 rfl rfl)
theorem dX1_checkIndex_12 : decode cX1_checkIndex 12 = .ok (.return_, 1) := dk_177 (dk_at dksX1_checkIndex_0 12 rfl rfl)
abbrev cX1_isOnVehicle : ByteArray := prog_1_method_19_code
def yX1_isOnVehicle : MethodName := ⟨RX1, "isOnVehicle", "(II)Z"⟩
def dkwX1_isOnVehicle_1 : List UInt8 := [153, 0, 7, 4, 167, 0, 4, 3, 172]
abbrev dktX1_isOnVehicle_1 : List UInt8 := dkwX1_isOnVehicle_1 ++ []
def dkwX1_isOnVehicle_0 : List UInt8 := [26, 133, 20, 0, 132, 20, 0, 90, 184, 0, 17, 153, 0, 19, 27, 133, 9, 20, 0, 134, 184, 0, 17]
abbrev dktX1_isOnVehicle_0 : List UInt8 := dkwX1_isOnVehicle_0 ++ dktX1_isOnVehicle_1
theorem dksX1_isOnVehicle_0 : cX1_isOnVehicle.data.toList.drop 0 = dktX1_isOnVehicle_0 := by decide +kernel
theorem dksX1_isOnVehicle_1 : cX1_isOnVehicle.data.toList.drop 23 = dktX1_isOnVehicle_1 := dk_seg dksX1_isOnVehicle_0 23 rfl rfl
theorem dX1_isOnVehicle_0 : decode cX1_isOnVehicle 0 = .ok (.iload_n 0, 1) := dk_26 (dk_at dksX1_isOnVehicle_0 0 rfl rfl)
theorem dX1_isOnVehicle_1 : decode cX1_isOnVehicle 1 = .ok (.i2l, 1) := dk_133 (dk_at dksX1_isOnVehicle_0 1 rfl rfl)
theorem dX1_isOnVehicle_2 : decode cX1_isOnVehicle 2 = .ok (.ldc2_w 132, 3) := dk_20 0 132 (dk_at dksX1_isOnVehicle_0 2 rfl rfl)
theorem dX1_isOnVehicle_5 : decode cX1_isOnVehicle 5 = .ok (.ldc2_w 90, 3) := dk_20 0 90 (dk_at dksX1_isOnVehicle_0 5 rfl rfl)
theorem dX1_isOnVehicle_8 : decode cX1_isOnVehicle 8 = .ok (.invokestatic 17, 3) := dk_184 0 17 (dk_at dksX1_isOnVehicle_0 8 rfl rfl)
theorem dX1_isOnVehicle_11 : decode cX1_isOnVehicle 11 = .ok (.ifCond .eq 19, 3) := dk_153 0 19 (dk_at dksX1_isOnVehicle_0 11 rfl rfl)
theorem dX1_isOnVehicle_14 : decode cX1_isOnVehicle 14 = .ok (.iload_n 1, 1) := dk_27 (dk_at dksX1_isOnVehicle_0 14 rfl rfl)
theorem dX1_isOnVehicle_15 : decode cX1_isOnVehicle 15 = .ok (.i2l, 1) := dk_133 (dk_at dksX1_isOnVehicle_0 15 rfl rfl)
theorem dX1_isOnVehicle_16 : decode cX1_isOnVehicle 16 = .ok (.lconst 0, 1) := dk_9 (dk_at dksX1_isOnVehicle_0 16 rfl rfl)
theorem dX1_isOnVehicle_17 : decode cX1_isOnVehicle 17 = .ok (.ldc2_w 134, 3) := dk_20 0 134 (dk_at dksX1_isOnVehicle_0 17 rfl rfl)
theorem dX1_isOnVehicle_20 : decode cX1_isOnVehicle 20 = .ok (.invokestatic 17, 3) := dk_184 0 17 (dk_at dksX1_isOnVehicle_0 20 rfl rfl)
theorem dX1_isOnVehicle_23 : decode cX1_isOnVehicle 23 = .ok (.ifCond .eq 7, 3) := dk_153 0 7 (dk_at dksX1_isOnVehicle_1 0 rfl rfl)
theorem dX1_isOnVehicle_26 : decode cX1_isOnVehicle 26 = .ok (.iconst 1, 1) := dk_4 (dk_at dksX1_isOnVehicle_1 3 rfl rfl)
theorem dX1_isOnVehicle_27 : decode cX1_isOnVehicle 27 = .ok (.goto 4, 3) := dk_167 0 4 (dk_at dksX1_isOnVehicle_1 4 rfl rfl)
theorem dX1_isOnVehicle_30 : decode cX1_isOnVehicle 30 = .ok (.iconst 0, 1) := dk_3 (dk_at dksX1_isOnVehicle_1 7 rfl rfl)
theorem dX1_isOnVehicle_31 : decode cX1_isOnVehicle 31 = .ok (.ireturn, 1) := dk_172 (dk_at dksX1_isOnVehicle_1 8 rfl rfl)
abbrev cX1_isValue : ByteArray := prog_1_method_20_code
def yX1_isValue : MethodName := ⟨RX1, "isValue", "(I)Z"⟩
def dkwX1_isValue_0 : List UInt8 := [26, 133, 20, 0, 136, 20, 0, 106, 184, 0, 17, 172]
abbrev dktX1_isValue_0 : List UInt8 := dkwX1_isValue_0 ++ []
theorem dksX1_isValue_0 : cX1_isValue.data.toList.drop 0 = dktX1_isValue_0 := by decide +kernel
theorem dX1_isValue_0 : decode cX1_isValue 0 = .ok (.iload_n 0, 1) := dk_26 (dk_at dksX1_isValue_0 0 rfl rfl)
theorem dX1_isValue_1 : decode cX1_isValue 1 = .ok (.i2l, 1) := dk_133 (dk_at dksX1_isValue_0 1 rfl rfl)
theorem dX1_isValue_2 : decode cX1_isValue 2 = .ok (.ldc2_w 136, 3) := dk_20 0 136 (dk_at dksX1_isValue_0 2 rfl rfl)
theorem dX1_isValue_5 : decode cX1_isValue 5 = .ok (.ldc2_w 106, 3) := dk_20 0 106 (dk_at dksX1_isValue_0 5 rfl rfl)
theorem dX1_isValue_8 : decode cX1_isValue 8 = .ok (.invokestatic 17, 3) := dk_184 0 17 (dk_at dksX1_isValue_0 8 rfl rfl)
theorem dX1_isValue_11 : decode cX1_isValue 11 = .ok (.ireturn, 1) := dk_172 (dk_at dksX1_isValue_0 11 rfl rfl)
abbrev cX1_addValue : ByteArray := prog_1_method_22_code
def yX1_addValue : MethodName := ⟨RX1, "addValue", "(II)I"⟩
def dkwX1_addValue_1 : List UInt8 := [167, 0, 4, 3, 184, 0, 125, 45, 28, 182, 0, 159, 172]
abbrev dktX1_addValue_1 : List UInt8 := dkwX1_addValue_1 ++ []
def dkwX1_addValue_0 : List UInt8 := [42, 27, 182, 0, 152, 78, 28, 184, 0, 144, 184, 0, 21, 45, 180, 0, 156, 16, 16, 162, 0, 7, 4]
abbrev dktX1_addValue_0 : List UInt8 := dkwX1_addValue_0 ++ dktX1_addValue_1
theorem dksX1_addValue_0 : cX1_addValue.data.toList.drop 0 = dktX1_addValue_0 := by decide +kernel
theorem dksX1_addValue_1 : cX1_addValue.data.toList.drop 23 = dktX1_addValue_1 := dk_seg dksX1_addValue_0 23 rfl rfl
theorem dX1_addValue_0 : decode cX1_addValue 0 = .ok (.aload_n 0, 1) := dk_42 (dk_at dksX1_addValue_0 0 rfl rfl)
theorem dX1_addValue_1 : decode cX1_addValue 1 = .ok (.iload_n 1, 1) := dk_27 (dk_at dksX1_addValue_0 1 rfl rfl)
theorem dX1_addValue_2 : decode cX1_addValue 2 = .ok (.invokevirtual 152, 3) := dk_182 0 152 (dk_at dksX1_addValue_0 2 rfl rfl)
theorem dX1_addValue_5 : decode cX1_addValue 5 = .ok (.astore_n 3, 1) := dk_78 (dk_at dksX1_addValue_0 5 rfl rfl)
theorem dX1_addValue_6 : decode cX1_addValue 6 = .ok (.iload_n 2, 1) := dk_28 (dk_at dksX1_addValue_0 6 rfl rfl)
theorem dX1_addValue_7 : decode cX1_addValue 7 = .ok (.invokestatic 144, 3) := dk_184 0 144 (dk_at dksX1_addValue_0 7 rfl rfl)
theorem dX1_addValue_10 : decode cX1_addValue 10 = .ok (.invokestatic 21, 3) := dk_184 0 21 (dk_at dksX1_addValue_0 10 rfl rfl)
theorem dX1_addValue_13 : decode cX1_addValue 13 = .ok (.aload_n 3, 1) := dk_45 (dk_at dksX1_addValue_0 13 rfl rfl)
theorem dX1_addValue_14 : decode cX1_addValue 14 = .ok (.getfield 156, 3) := dk_180 0 156 (dk_at dksX1_addValue_0 14 rfl rfl)
theorem dX1_addValue_17 : decode cX1_addValue 17 = .ok (.bipush 16, 2) := dk_16 16 (dk_at dksX1_addValue_0 17 rfl rfl)
theorem dX1_addValue_19 : decode cX1_addValue 19 = .ok (.if_icmp .ge 7, 3) := dk_162 0 7 (dk_at dksX1_addValue_0 19 rfl rfl)
theorem dX1_addValue_22 : decode cX1_addValue 22 = .ok (.iconst 1, 1) := dk_4 (dk_at dksX1_addValue_0 22 rfl rfl)
theorem dX1_addValue_23 : decode cX1_addValue 23 = .ok (.goto 4, 3) := dk_167 0 4 (dk_at dksX1_addValue_1 0 rfl rfl)
theorem dX1_addValue_26 : decode cX1_addValue 26 = .ok (.iconst 0, 1) := dk_3 (dk_at dksX1_addValue_1 3 rfl rfl)
theorem dX1_addValue_27 : decode cX1_addValue 27 = .ok (.invokestatic 125, 3) := dk_184 0 125 (dk_at dksX1_addValue_1 4 rfl rfl)
theorem dX1_addValue_30 : decode cX1_addValue 30 = .ok (.aload_n 3, 1) := dk_45 (dk_at dksX1_addValue_1 7 rfl rfl)
theorem dX1_addValue_31 : decode cX1_addValue 31 = .ok (.iload_n 2, 1) := dk_28 (dk_at dksX1_addValue_1 8 rfl rfl)
theorem dX1_addValue_32 : decode cX1_addValue 32 = .ok (.invokevirtual 159, 3) := dk_182 0 159 (dk_at dksX1_addValue_1 9 rfl rfl)
theorem dX1_addValue_35 : decode cX1_addValue 35 = .ok (.ireturn, 1) := dk_172 (dk_at dksX1_addValue_1 12 rfl rfl)
abbrev cX1_source : ByteArray := prog_1_method_12_code
def yX1_source : MethodName := ⟨RX1, "source", "(I)LTrackArray$Source;"⟩
def dkwX1_source_1 : List UInt8 := [180, 0, 43, 180, 0, 78, 27, 182, 0, 72, 192, 0, 81, 176]
abbrev dktX1_source_1 : List UInt8 := dkwX1_source_1 ++ []
def dkwX1_source_0 : List UInt8 := [27, 133, 9, 42, 180, 0, 43, 180, 0, 78, 182, 0, 63, 4, 100, 133, 184, 0, 17, 184, 0, 69, 42]
abbrev dktX1_source_0 : List UInt8 := dkwX1_source_0 ++ dktX1_source_1
theorem dksX1_source_0 : cX1_source.data.toList.drop 0 = dktX1_source_0 := by decide +kernel
theorem dksX1_source_1 : cX1_source.data.toList.drop 23 = dktX1_source_1 := dk_seg dksX1_source_0 23 rfl rfl
theorem dX1_source_0 : decode cX1_source 0 = .ok (.iload_n 1, 1) := dk_27 (dk_at dksX1_source_0 0 rfl rfl)
theorem dX1_source_1 : decode cX1_source 1 = .ok (.i2l, 1) := dk_133 (dk_at dksX1_source_0 1 rfl rfl)
theorem dX1_source_2 : decode cX1_source 2 = .ok (.lconst 0, 1) := dk_9 (dk_at dksX1_source_0 2 rfl rfl)
theorem dX1_source_3 : decode cX1_source 3 = .ok (.aload_n 0, 1) := dk_42 (dk_at dksX1_source_0 3 rfl rfl)
theorem dX1_source_4 : decode cX1_source 4 = .ok (.getfield 43, 3) := dk_180 0 43 (dk_at dksX1_source_0 4 rfl rfl)
theorem dX1_source_7 : decode cX1_source 7 = .ok (.getfield 78, 3) := dk_180 0 78 (dk_at dksX1_source_0 7 rfl rfl)
theorem dX1_source_10 : decode cX1_source 10 = .ok (.invokevirtual 63, 3) := dk_182 0 63 (dk_at dksX1_source_0 10 rfl rfl)
theorem dX1_source_13 : decode cX1_source 13 = .ok (.iconst 1, 1) := dk_4 (dk_at dksX1_source_0 13 rfl rfl)
theorem dX1_source_14 : decode cX1_source 14 = .ok (.isub, 1) := dk_100 (dk_at dksX1_source_0 14 rfl rfl)
theorem dX1_source_15 : decode cX1_source 15 = .ok (.i2l, 1) := dk_133 (dk_at dksX1_source_0 15 rfl rfl)
theorem dX1_source_16 : decode cX1_source 16 = .ok (.invokestatic 17, 3) := dk_184 0 17 (dk_at dksX1_source_0 16 rfl rfl)
theorem dX1_source_19 : decode cX1_source 19 = .ok (.invokestatic 69, 3) := dk_184 0 69 (dk_at dksX1_source_0 19 rfl rfl)
theorem dX1_source_22 : decode cX1_source 22 = .ok (.aload_n 0, 1) := dk_42 (dk_at dksX1_source_0 22 rfl rfl)
theorem dX1_source_23 : decode cX1_source 23 = .ok (.getfield 43, 3) := dk_180 0 43 (dk_at dksX1_source_1 0 rfl rfl)
theorem dX1_source_26 : decode cX1_source 26 = .ok (.getfield 78, 3) := dk_180 0 78 (dk_at dksX1_source_1 3 rfl rfl)
theorem dX1_source_29 : decode cX1_source 29 = .ok (.iload_n 1, 1) := dk_27 (dk_at dksX1_source_1 6 rfl rfl)
theorem dX1_source_30 : decode cX1_source 30 = .ok (.invokevirtual 72, 3) := dk_182 0 72 (dk_at dksX1_source_1 7 rfl rfl)
theorem dX1_source_33 : decode cX1_source 33 = .ok (.checkcast 81, 3) := dk_192 0 81 (dk_at dksX1_source_1 10 rfl rfl)
theorem dX1_source_36 : decode cX1_source 36 = .ok (.areturn, 1) := dk_176 (dk_at dksX1_source_1 13 rfl rfl)
abbrev cX1_addMicrophone : ByteArray := prog_1_method_24_code
def yX1_addMicrophone : MethodName := ⟨RX1, "addMicrophone", "(IIII)I"⟩
def dkwX1_addMicrophone_3 : List UInt8 := [162, 0, 7, 4, 167, 0, 4, 3, 184, 0, 125, 42, 180, 0, 43, 27, 28, 29, 21, 4, 182, 0, 172, 172]
abbrev dktX1_addMicrophone_3 : List UInt8 := dkwX1_addMicrophone_3 ++ []
def dkwX1_addMicrophone_2 : List UInt8 := [153, 0, 7, 4, 167, 0, 4, 3, 184, 0, 21, 42, 180, 0, 43, 180, 0, 83, 182, 0, 63, 16, 8]
abbrev dktX1_addMicrophone_2 : List UInt8 := dkwX1_addMicrophone_2 ++ dktX1_addMicrophone_3
def dkwX1_addMicrophone_1 : List UInt8 := [184, 0, 17, 153, 0, 27, 29, 133, 9, 20, 0, 134, 184, 0, 17, 153, 0, 15, 21, 4, 184, 0, 169]
abbrev dktX1_addMicrophone_1 : List UInt8 := dkwX1_addMicrophone_1 ++ dktX1_addMicrophone_2
def dkwX1_addMicrophone_0 : List UInt8 := [27, 133, 20, 0, 165, 20, 0, 123, 184, 0, 17, 153, 0, 41, 28, 133, 20, 0, 167, 20, 0, 106]
abbrev dktX1_addMicrophone_0 : List UInt8 := dkwX1_addMicrophone_0 ++ dktX1_addMicrophone_1
theorem dksX1_addMicrophone_0 : cX1_addMicrophone.data.toList.drop 0 = dktX1_addMicrophone_0 := by decide +kernel
theorem dksX1_addMicrophone_1 : cX1_addMicrophone.data.toList.drop 22 = dktX1_addMicrophone_1 := dk_seg dksX1_addMicrophone_0 22 rfl rfl
theorem dksX1_addMicrophone_2 : cX1_addMicrophone.data.toList.drop 45 = dktX1_addMicrophone_2 := dk_seg dksX1_addMicrophone_1 23 rfl rfl
theorem dksX1_addMicrophone_3 : cX1_addMicrophone.data.toList.drop 68 = dktX1_addMicrophone_3 := dk_seg dksX1_addMicrophone_2 23 rfl rfl
theorem dX1_addMicrophone_0 : decode cX1_addMicrophone 0 = .ok (.iload_n 1, 1) := dk_27 (dk_at dksX1_addMicrophone_0 0 rfl rfl)
theorem dX1_addMicrophone_1 : decode cX1_addMicrophone 1 = .ok (.i2l, 1) := dk_133 (dk_at dksX1_addMicrophone_0 1 rfl rfl)
theorem dX1_addMicrophone_2 : decode cX1_addMicrophone 2 = .ok (.ldc2_w 165, 3) := dk_20 0 165 (dk_at dksX1_addMicrophone_0 2 rfl rfl)
theorem dX1_addMicrophone_5 : decode cX1_addMicrophone 5 = .ok (.ldc2_w 123, 3) := dk_20 0 123 (dk_at dksX1_addMicrophone_0 5 rfl rfl)
theorem dX1_addMicrophone_8 : decode cX1_addMicrophone 8 = .ok (.invokestatic 17, 3) := dk_184 0 17 (dk_at dksX1_addMicrophone_0 8 rfl rfl)
theorem dX1_addMicrophone_11 : decode cX1_addMicrophone 11 = .ok (.ifCond .eq 41, 3) := dk_153 0 41 (dk_at dksX1_addMicrophone_0 11 rfl rfl)
theorem dX1_addMicrophone_14 : decode cX1_addMicrophone 14 = .ok (.iload_n 2, 1) := dk_28 (dk_at dksX1_addMicrophone_0 14 rfl rfl)
theorem dX1_addMicrophone_15 : decode cX1_addMicrophone 15 = .ok (.i2l, 1) := dk_133 (dk_at dksX1_addMicrophone_0 15 rfl rfl)
theorem dX1_addMicrophone_16 : decode cX1_addMicrophone 16 = .ok (.ldc2_w 167, 3) := dk_20 0 167 (dk_at dksX1_addMicrophone_0 16 rfl rfl)
theorem dX1_addMicrophone_19 : decode cX1_addMicrophone 19 = .ok (.ldc2_w 106, 3) := dk_20 0 106 (dk_at dksX1_addMicrophone_0 19 rfl rfl)
theorem dX1_addMicrophone_22 : decode cX1_addMicrophone 22 = .ok (.invokestatic 17, 3) := dk_184 0 17 (dk_at dksX1_addMicrophone_1 0 rfl rfl)
theorem dX1_addMicrophone_25 : decode cX1_addMicrophone 25 = .ok (.ifCond .eq 27, 3) := dk_153 0 27 (dk_at dksX1_addMicrophone_1 3 rfl rfl)
theorem dX1_addMicrophone_28 : decode cX1_addMicrophone 28 = .ok (.iload_n 3, 1) := dk_29 (dk_at dksX1_addMicrophone_1 6 rfl rfl)
theorem dX1_addMicrophone_29 : decode cX1_addMicrophone 29 = .ok (.i2l, 1) := dk_133 (dk_at dksX1_addMicrophone_1 7 rfl rfl)
theorem dX1_addMicrophone_30 : decode cX1_addMicrophone 30 = .ok (.lconst 0, 1) := dk_9 (dk_at dksX1_addMicrophone_1 8 rfl rfl)
theorem dX1_addMicrophone_31 : decode cX1_addMicrophone 31 = .ok (.ldc2_w 134, 3) := dk_20 0 134 (dk_at dksX1_addMicrophone_1 9 rfl rfl)
theorem dX1_addMicrophone_34 : decode cX1_addMicrophone 34 = .ok (.invokestatic 17, 3) := dk_184 0 17 (dk_at dksX1_addMicrophone_1 12 rfl rfl)
theorem dX1_addMicrophone_37 : decode cX1_addMicrophone 37 = .ok (.ifCond .eq 15, 3) := dk_153 0 15 (dk_at dksX1_addMicrophone_1 15 rfl rfl)
theorem dX1_addMicrophone_40 : decode cX1_addMicrophone 40 = .ok (.iload 4, 2) := dk_21 4 (dk_at dksX1_addMicrophone_1 18 rfl rfl)
theorem dX1_addMicrophone_42 : decode cX1_addMicrophone 42 = .ok (.invokestatic 169, 3) := dk_184 0 169 (dk_at dksX1_addMicrophone_1 20 rfl rfl)
theorem dX1_addMicrophone_45 : decode cX1_addMicrophone 45 = .ok (.ifCond .eq 7, 3) := dk_153 0 7 (dk_at dksX1_addMicrophone_2 0 rfl rfl)
theorem dX1_addMicrophone_48 : decode cX1_addMicrophone 48 = .ok (.iconst 1, 1) := dk_4 (dk_at dksX1_addMicrophone_2 3 rfl rfl)
theorem dX1_addMicrophone_49 : decode cX1_addMicrophone 49 = .ok (.goto 4, 3) := dk_167 0 4 (dk_at dksX1_addMicrophone_2 4 rfl rfl)
theorem dX1_addMicrophone_52 : decode cX1_addMicrophone 52 = .ok (.iconst 0, 1) := dk_3 (dk_at dksX1_addMicrophone_2 7 rfl rfl)
theorem dX1_addMicrophone_53 : decode cX1_addMicrophone 53 = .ok (.invokestatic 21, 3) := dk_184 0 21 (dk_at dksX1_addMicrophone_2 8 rfl rfl)
theorem dX1_addMicrophone_56 : decode cX1_addMicrophone 56 = .ok (.aload_n 0, 1) := dk_42 (dk_at dksX1_addMicrophone_2 11 rfl rfl)
theorem dX1_addMicrophone_57 : decode cX1_addMicrophone 57 = .ok (.getfield 43, 3) := dk_180 0 43 (dk_at dksX1_addMicrophone_2 12 rfl rfl)
theorem dX1_addMicrophone_60 : decode cX1_addMicrophone 60 = .ok (.getfield 83, 3) := dk_180 0 83 (dk_at dksX1_addMicrophone_2 15 rfl rfl)
theorem dX1_addMicrophone_63 : decode cX1_addMicrophone 63 = .ok (.invokevirtual 63, 3) := dk_182 0 63 (dk_at dksX1_addMicrophone_2 18 rfl rfl)
theorem dX1_addMicrophone_66 : decode cX1_addMicrophone 66 = .ok (.bipush 8, 2) := dk_16 8 (dk_at dksX1_addMicrophone_2 21 rfl rfl)
theorem dX1_addMicrophone_68 : decode cX1_addMicrophone 68 = .ok (.if_icmp .ge 7, 3) := dk_162 0 7 (dk_at dksX1_addMicrophone_3 0 rfl rfl)
theorem dX1_addMicrophone_71 : decode cX1_addMicrophone 71 = .ok (.iconst 1, 1) := dk_4 (dk_at dksX1_addMicrophone_3 3 rfl rfl)
theorem dX1_addMicrophone_72 : decode cX1_addMicrophone 72 = .ok (.goto 4, 3) := dk_167 0 4 (dk_at dksX1_addMicrophone_3 4 rfl rfl)
theorem dX1_addMicrophone_75 : decode cX1_addMicrophone 75 = .ok (.iconst 0, 1) := dk_3 (dk_at dksX1_addMicrophone_3 7 rfl rfl)
theorem dX1_addMicrophone_76 : decode cX1_addMicrophone 76 = .ok (.invokestatic 125, 3) := dk_184 0 125 (dk_at dksX1_addMicrophone_3 8 rfl rfl)
theorem dX1_addMicrophone_79 : decode cX1_addMicrophone 79 = .ok (.aload_n 0, 1) := dk_42 (dk_at dksX1_addMicrophone_3 11 rfl rfl)
theorem dX1_addMicrophone_80 : decode cX1_addMicrophone 80 = .ok (.getfield 43, 3) := dk_180 0 43 (dk_at dksX1_addMicrophone_3 12 rfl rfl)
theorem dX1_addMicrophone_83 : decode cX1_addMicrophone 83 = .ok (.iload_n 1, 1) := dk_27 (dk_at dksX1_addMicrophone_3 15 rfl rfl)
theorem dX1_addMicrophone_84 : decode cX1_addMicrophone 84 = .ok (.iload_n 2, 1) := dk_28 (dk_at dksX1_addMicrophone_3 16 rfl rfl)
theorem dX1_addMicrophone_85 : decode cX1_addMicrophone 85 = .ok (.iload_n 3, 1) := dk_29 (dk_at dksX1_addMicrophone_3 17 rfl rfl)
theorem dX1_addMicrophone_86 : decode cX1_addMicrophone 86 = .ok (.iload 4, 2) := dk_21 4 (dk_at dksX1_addMicrophone_3 18 rfl rfl)
theorem dX1_addMicrophone_88 : decode cX1_addMicrophone 88 = .ok (.invokevirtual 172, 3) := dk_182 0 172 (dk_at dksX1_addMicrophone_3 20 rfl rfl)
theorem dX1_addMicrophone_91 : decode cX1_addMicrophone 91 = .ok (.ireturn, 1) := dk_172 (dk_at dksX1_addMicrophone_3 23 rfl rfl)
abbrev cX1_isWeight : ByteArray := prog_1_method_23_code
def yX1_isWeight : MethodName := ⟨RX1, "isWeight", "(I)Z"⟩
def dkwX1_isWeight_0 : List UInt8 := [26, 133, 9, 20, 0, 163, 184, 0, 17, 172]
abbrev dktX1_isWeight_0 : List UInt8 := dkwX1_isWeight_0 ++ []
theorem dksX1_isWeight_0 : cX1_isWeight.data.toList.drop 0 = dktX1_isWeight_0 := by decide +kernel
theorem dX1_isWeight_0 : decode cX1_isWeight 0 = .ok (.iload_n 0, 1) := dk_26 (dk_at dksX1_isWeight_0 0 rfl rfl)
theorem dX1_isWeight_1 : decode cX1_isWeight 1 = .ok (.i2l, 1) := dk_133 (dk_at dksX1_isWeight_0 1 rfl rfl)
theorem dX1_isWeight_2 : decode cX1_isWeight 2 = .ok (.lconst 0, 1) := dk_9 (dk_at dksX1_isWeight_0 2 rfl rfl)
theorem dX1_isWeight_3 : decode cX1_isWeight 3 = .ok (.ldc2_w 163, 3) := dk_20 0 163 (dk_at dksX1_isWeight_0 3 rfl rfl)
theorem dX1_isWeight_6 : decode cX1_isWeight 6 = .ok (.invokestatic 17, 3) := dk_184 0 17 (dk_at dksX1_isWeight_0 6 rfl rfl)
theorem dX1_isWeight_9 : decode cX1_isWeight 9 = .ok (.ireturn, 1) := dk_172 (dk_at dksX1_isWeight_0 9 rfl rfl)
abbrev cX1_setWeight : ByteArray := prog_1_method_25_code
def yX1_setWeight : MethodName := ⟨RX1, "setWeight", "(II)I"⟩
def dkwX1_setWeight_1 : List UInt8 := [21, 4, 172]
abbrev dktX1_setWeight_1 : List UInt8 := dkwX1_setWeight_1 ++ []
def dkwX1_setWeight_0 : List UInt8 := [42, 27, 182, 0, 176, 78, 28, 184, 0, 169, 184, 0, 21, 45, 180, 0, 180, 54, 4, 45, 28, 181, 0, 180]
abbrev dktX1_setWeight_0 : List UInt8 := dkwX1_setWeight_0 ++ dktX1_setWeight_1
theorem dksX1_setWeight_0 : cX1_setWeight.data.toList.drop 0 = dktX1_setWeight_0 := by decide +kernel
theorem dksX1_setWeight_1 : cX1_setWeight.data.toList.drop 24 = dktX1_setWeight_1 := dk_seg dksX1_setWeight_0 24 rfl rfl
theorem dX1_setWeight_0 : decode cX1_setWeight 0 = .ok (.aload_n 0, 1) := dk_42 (dk_at dksX1_setWeight_0 0 rfl rfl)
theorem dX1_setWeight_1 : decode cX1_setWeight 1 = .ok (.iload_n 1, 1) := dk_27 (dk_at dksX1_setWeight_0 1 rfl rfl)
theorem dX1_setWeight_2 : decode cX1_setWeight 2 = .ok (.invokevirtual 176, 3) := dk_182 0 176 (dk_at dksX1_setWeight_0 2 rfl rfl)
theorem dX1_setWeight_5 : decode cX1_setWeight 5 = .ok (.astore_n 3, 1) := dk_78 (dk_at dksX1_setWeight_0 5 rfl rfl)
theorem dX1_setWeight_6 : decode cX1_setWeight 6 = .ok (.iload_n 2, 1) := dk_28 (dk_at dksX1_setWeight_0 6 rfl rfl)
theorem dX1_setWeight_7 : decode cX1_setWeight 7 = .ok (.invokestatic 169, 3) := dk_184 0 169 (dk_at dksX1_setWeight_0 7 rfl rfl)
theorem dX1_setWeight_10 : decode cX1_setWeight 10 = .ok (.invokestatic 21, 3) := dk_184 0 21 (dk_at dksX1_setWeight_0 10 rfl rfl)
theorem dX1_setWeight_13 : decode cX1_setWeight 13 = .ok (.aload_n 3, 1) := dk_45 (dk_at dksX1_setWeight_0 13 rfl rfl)
theorem dX1_setWeight_14 : decode cX1_setWeight 14 = .ok (.getfield 180, 3) := dk_180 0 180 (dk_at dksX1_setWeight_0 14 rfl rfl)
theorem dX1_setWeight_17 : decode cX1_setWeight 17 = .ok (.istore 4, 2) := dk_54 4 (dk_at dksX1_setWeight_0 17 rfl rfl)
theorem dX1_setWeight_19 : decode cX1_setWeight 19 = .ok (.aload_n 3, 1) := dk_45 (dk_at dksX1_setWeight_0 19 rfl rfl)
theorem dX1_setWeight_20 : decode cX1_setWeight 20 = .ok (.iload_n 2, 1) := dk_28 (dk_at dksX1_setWeight_0 20 rfl rfl)
theorem dX1_setWeight_21 : decode cX1_setWeight 21 = .ok (.putfield 180, 3) := dk_181 0 180 (dk_at dksX1_setWeight_0 21 rfl rfl)
theorem dX1_setWeight_24 : decode cX1_setWeight 24 = .ok (.iload 4, 2) := dk_21 4 (dk_at dksX1_setWeight_1 0 rfl rfl)
theorem dX1_setWeight_26 : decode cX1_setWeight 26 = .ok (.ireturn, 1) := dk_172 (dk_at dksX1_setWeight_1 2 rfl rfl)
abbrev cX1_microphone : ByteArray := prog_1_method_13_code
def yX1_microphone : MethodName := ⟨RX1, "microphone", "(I)LTrackArray$Microphone;"⟩
def dkwX1_microphone_1 : List UInt8 := [180, 0, 43, 180, 0, 83, 27, 182, 0, 72, 192, 0, 86, 176]
abbrev dktX1_microphone_1 : List UInt8 := dkwX1_microphone_1 ++ []
def dkwX1_microphone_0 : List UInt8 := [27, 133, 9, 42, 180, 0, 43, 180, 0, 83, 182, 0, 63, 4, 100, 133, 184, 0, 17, 184, 0, 69, 42]
abbrev dktX1_microphone_0 : List UInt8 := dkwX1_microphone_0 ++ dktX1_microphone_1
theorem dksX1_microphone_0 : cX1_microphone.data.toList.drop 0 = dktX1_microphone_0 := by decide +kernel
theorem dksX1_microphone_1 : cX1_microphone.data.toList.drop 23 = dktX1_microphone_1 := dk_seg dksX1_microphone_0 23 rfl rfl
theorem dX1_microphone_0 : decode cX1_microphone 0 = .ok (.iload_n 1, 1) := dk_27 (dk_at dksX1_microphone_0 0 rfl rfl)
theorem dX1_microphone_1 : decode cX1_microphone 1 = .ok (.i2l, 1) := dk_133 (dk_at dksX1_microphone_0 1 rfl rfl)
theorem dX1_microphone_2 : decode cX1_microphone 2 = .ok (.lconst 0, 1) := dk_9 (dk_at dksX1_microphone_0 2 rfl rfl)
theorem dX1_microphone_3 : decode cX1_microphone 3 = .ok (.aload_n 0, 1) := dk_42 (dk_at dksX1_microphone_0 3 rfl rfl)
theorem dX1_microphone_4 : decode cX1_microphone 4 = .ok (.getfield 43, 3) := dk_180 0 43 (dk_at dksX1_microphone_0 4 rfl rfl)
theorem dX1_microphone_7 : decode cX1_microphone 7 = .ok (.getfield 83, 3) := dk_180 0 83 (dk_at dksX1_microphone_0 7 rfl rfl)
theorem dX1_microphone_10 : decode cX1_microphone 10 = .ok (.invokevirtual 63, 3) := dk_182 0 63 (dk_at dksX1_microphone_0 10 rfl rfl)
theorem dX1_microphone_13 : decode cX1_microphone 13 = .ok (.iconst 1, 1) := dk_4 (dk_at dksX1_microphone_0 13 rfl rfl)
theorem dX1_microphone_14 : decode cX1_microphone 14 = .ok (.isub, 1) := dk_100 (dk_at dksX1_microphone_0 14 rfl rfl)
theorem dX1_microphone_15 : decode cX1_microphone 15 = .ok (.i2l, 1) := dk_133 (dk_at dksX1_microphone_0 15 rfl rfl)
theorem dX1_microphone_16 : decode cX1_microphone 16 = .ok (.invokestatic 17, 3) := dk_184 0 17 (dk_at dksX1_microphone_0 16 rfl rfl)
theorem dX1_microphone_19 : decode cX1_microphone 19 = .ok (.invokestatic 69, 3) := dk_184 0 69 (dk_at dksX1_microphone_0 19 rfl rfl)
theorem dX1_microphone_22 : decode cX1_microphone 22 = .ok (.aload_n 0, 1) := dk_42 (dk_at dksX1_microphone_0 22 rfl rfl)
theorem dX1_microphone_23 : decode cX1_microphone 23 = .ok (.getfield 43, 3) := dk_180 0 43 (dk_at dksX1_microphone_1 0 rfl rfl)
theorem dX1_microphone_26 : decode cX1_microphone 26 = .ok (.getfield 83, 3) := dk_180 0 83 (dk_at dksX1_microphone_1 3 rfl rfl)
theorem dX1_microphone_29 : decode cX1_microphone 29 = .ok (.iload_n 1, 1) := dk_27 (dk_at dksX1_microphone_1 6 rfl rfl)
theorem dX1_microphone_30 : decode cX1_microphone 30 = .ok (.invokevirtual 72, 3) := dk_182 0 72 (dk_at dksX1_microphone_1 7 rfl rfl)
theorem dX1_microphone_33 : decode cX1_microphone 33 = .ok (.checkcast 86, 3) := dk_192 0 86 (dk_at dksX1_microphone_1 10 rfl rfl)
theorem dX1_microphone_36 : decode cX1_microphone 36 = .ok (.areturn, 1) := dk_176 (dk_at dksX1_microphone_1 13 rfl rfl)
abbrev cX1_count : ByteArray := prog_1_method_26_code
def yX1_count : MethodName := ⟨RX1, "count", "(I)I"⟩
def dkwX1_count_3 : List UInt8 := [180, 0, 43, 180, 0, 83, 182, 0, 63, 172, 42, 180, 0, 43, 180, 0, 185, 172]
abbrev dktX1_count_3 : List UInt8 := dkwX1_count_3 ++ []
def dkwX1_count_2 : List UInt8 := [42, 180, 0, 43, 180, 0, 59, 182, 0, 63, 172, 42, 180, 0, 43, 180, 0, 78, 182, 0, 63, 172, 42]
abbrev dktX1_count_2 : List UInt8 := dkwX1_count_2 ++ dktX1_count_3
def dkwX1_count_1 : List UInt8 := [170, 0, 0, 0, 0, 0, 60, 0, 0, 0, 0, 0, 0, 0, 2, 0, 0, 0, 27, 0, 0, 0, 38, 0, 0, 0, 49]
abbrev dktX1_count_1 : List UInt8 := dkwX1_count_1 ++ dktX1_count_2
def dkwX1_count_0 : List UInt8 := [27, 133, 9, 20, 0, 183, 184, 0, 17, 184, 0, 21, 27]
abbrev dktX1_count_0 : List UInt8 := dkwX1_count_0 ++ dktX1_count_1
theorem dksX1_count_0 : cX1_count.data.toList.drop 0 = dktX1_count_0 := by decide +kernel
theorem dksX1_count_1 : cX1_count.data.toList.drop 13 = dktX1_count_1 := dk_seg dksX1_count_0 13 rfl rfl
theorem dksX1_count_2 : cX1_count.data.toList.drop 40 = dktX1_count_2 := dk_seg dksX1_count_1 27 rfl rfl
theorem dksX1_count_3 : cX1_count.data.toList.drop 63 = dktX1_count_3 := dk_seg dksX1_count_2 23 rfl rfl
theorem dX1_count_0 : decode cX1_count 0 = .ok (.iload_n 1, 1) := dk_27 (dk_at dksX1_count_0 0 rfl rfl)
theorem dX1_count_1 : decode cX1_count 1 = .ok (.i2l, 1) := dk_133 (dk_at dksX1_count_0 1 rfl rfl)
theorem dX1_count_2 : decode cX1_count 2 = .ok (.lconst 0, 1) := dk_9 (dk_at dksX1_count_0 2 rfl rfl)
theorem dX1_count_3 : decode cX1_count 3 = .ok (.ldc2_w 183, 3) := dk_20 0 183 (dk_at dksX1_count_0 3 rfl rfl)
theorem dX1_count_6 : decode cX1_count 6 = .ok (.invokestatic 17, 3) := dk_184 0 17 (dk_at dksX1_count_0 6 rfl rfl)
theorem dX1_count_9 : decode cX1_count 9 = .ok (.invokestatic 21, 3) := dk_184 0 21 (dk_at dksX1_count_0 9 rfl rfl)
theorem dX1_count_12 : decode cX1_count 12 = .ok (.iload_n 1, 1) := dk_27 (dk_at dksX1_count_0 12 rfl rfl)
theorem dX1_count_13 : decode cX1_count 13 = .ok (.tableswitch 60 0 2 #[27, 38, 49], 27) := by decide +kernel
theorem dX1_count_40 : decode cX1_count 40 = .ok (.aload_n 0, 1) := dk_42 (dk_at dksX1_count_2 0 rfl rfl)
theorem dX1_count_41 : decode cX1_count 41 = .ok (.getfield 43, 3) := dk_180 0 43 (dk_at dksX1_count_2 1 rfl rfl)
theorem dX1_count_44 : decode cX1_count 44 = .ok (.getfield 59, 3) := dk_180 0 59 (dk_at dksX1_count_2 4 rfl rfl)
theorem dX1_count_47 : decode cX1_count 47 = .ok (.invokevirtual 63, 3) := dk_182 0 63 (dk_at dksX1_count_2 7 rfl rfl)
theorem dX1_count_50 : decode cX1_count 50 = .ok (.ireturn, 1) := dk_172 (dk_at dksX1_count_2 10 rfl rfl)
theorem dX1_count_51 : decode cX1_count 51 = .ok (.aload_n 0, 1) := dk_42 (dk_at dksX1_count_2 11 rfl rfl)
theorem dX1_count_52 : decode cX1_count 52 = .ok (.getfield 43, 3) := dk_180 0 43 (dk_at dksX1_count_2 12 rfl rfl)
theorem dX1_count_55 : decode cX1_count 55 = .ok (.getfield 78, 3) := dk_180 0 78 (dk_at dksX1_count_2 15 rfl rfl)
theorem dX1_count_58 : decode cX1_count 58 = .ok (.invokevirtual 63, 3) := dk_182 0 63 (dk_at dksX1_count_2 18 rfl rfl)
theorem dX1_count_61 : decode cX1_count 61 = .ok (.ireturn, 1) := dk_172 (dk_at dksX1_count_2 21 rfl rfl)
theorem dX1_count_62 : decode cX1_count 62 = .ok (.aload_n 0, 1) := dk_42 (dk_at dksX1_count_2 22 rfl rfl)
theorem dX1_count_63 : decode cX1_count 63 = .ok (.getfield 43, 3) := dk_180 0 43 (dk_at dksX1_count_3 0 rfl rfl)
theorem dX1_count_66 : decode cX1_count 66 = .ok (.getfield 83, 3) := dk_180 0 83 (dk_at dksX1_count_3 3 rfl rfl)
theorem dX1_count_69 : decode cX1_count 69 = .ok (.invokevirtual 63, 3) := dk_182 0 63 (dk_at dksX1_count_3 6 rfl rfl)
theorem dX1_count_72 : decode cX1_count 72 = .ok (.ireturn, 1) := dk_172 (dk_at dksX1_count_3 9 rfl rfl)
theorem dX1_count_73 : decode cX1_count 73 = .ok (.aload_n 0, 1) := dk_42 (dk_at dksX1_count_3 10 rfl rfl)
theorem dX1_count_74 : decode cX1_count 74 = .ok (.getfield 43, 3) := dk_180 0 43 (dk_at dksX1_count_3 11 rfl rfl)
theorem dX1_count_77 : decode cX1_count 77 = .ok (.getfield 185, 3) := dk_180 0 185 (dk_at dksX1_count_3 14 rfl rfl)
theorem dX1_count_80 : decode cX1_count 80 = .ok (.ireturn, 1) := dk_172 (dk_at dksX1_count_3 17 rfl rfl)
abbrev cX1_emitted : ByteArray := prog_1_method_27_code
def yX1_emitted : MethodName := ⟨RX1, "emitted", "(II)I"⟩
def dkwX1_emitted_0 : List UInt8 := [42, 27, 182, 0, 152, 78, 28, 184, 0, 188, 45, 28, 182, 0, 192, 172]
abbrev dktX1_emitted_0 : List UInt8 := dkwX1_emitted_0 ++ []
theorem dksX1_emitted_0 : cX1_emitted.data.toList.drop 0 = dktX1_emitted_0 := by decide +kernel
theorem dX1_emitted_0 : decode cX1_emitted 0 = .ok (.aload_n 0, 1) := dk_42 (dk_at dksX1_emitted_0 0 rfl rfl)
theorem dX1_emitted_1 : decode cX1_emitted 1 = .ok (.iload_n 1, 1) := dk_27 (dk_at dksX1_emitted_0 1 rfl rfl)
theorem dX1_emitted_2 : decode cX1_emitted 2 = .ok (.invokevirtual 152, 3) := dk_182 0 152 (dk_at dksX1_emitted_0 2 rfl rfl)
theorem dX1_emitted_5 : decode cX1_emitted 5 = .ok (.astore_n 3, 1) := dk_78 (dk_at dksX1_emitted_0 5 rfl rfl)
theorem dX1_emitted_6 : decode cX1_emitted 6 = .ok (.iload_n 2, 1) := dk_28 (dk_at dksX1_emitted_0 6 rfl rfl)
theorem dX1_emitted_7 : decode cX1_emitted 7 = .ok (.invokestatic 188, 3) := dk_184 0 188 (dk_at dksX1_emitted_0 7 rfl rfl)
theorem dX1_emitted_10 : decode cX1_emitted 10 = .ok (.aload_n 3, 1) := dk_45 (dk_at dksX1_emitted_0 10 rfl rfl)
theorem dX1_emitted_11 : decode cX1_emitted 11 = .ok (.iload_n 2, 1) := dk_28 (dk_at dksX1_emitted_0 11 rfl rfl)
theorem dX1_emitted_12 : decode cX1_emitted 12 = .ok (.invokevirtual 192, 3) := dk_182 0 192 (dk_at dksX1_emitted_0 12 rfl rfl)
theorem dX1_emitted_15 : decode cX1_emitted 15 = .ok (.ireturn, 1) := dk_172 (dk_at dksX1_emitted_0 15 rfl rfl)
abbrev cX1_checkTime : ByteArray := prog_1_method_5_code
def yX1_checkTime : MethodName := ⟨RX1, "checkTime", "(I)V"⟩
def dkwX1_checkTime_0 : List UInt8 := [26, 133, 9, 20, 0, 15, 184, 0, 17, 184, 0, 21, 177]
abbrev dktX1_checkTime_0 : List UInt8 := dkwX1_checkTime_0 ++ []
theorem dksX1_checkTime_0 : cX1_checkTime.data.toList.drop 0 = dktX1_checkTime_0 := by decide +kernel
theorem dX1_checkTime_0 : decode cX1_checkTime 0 = .ok (.iload_n 0, 1) := dk_26 (dk_at dksX1_checkTime_0 0 rfl rfl)
theorem dX1_checkTime_1 : decode cX1_checkTime 1 = .ok (.i2l, 1) := dk_133 (dk_at dksX1_checkTime_0 1 rfl rfl)
theorem dX1_checkTime_2 : decode cX1_checkTime 2 = .ok (.lconst 0, 1) := dk_9 (dk_at dksX1_checkTime_0 2 rfl rfl)
theorem dX1_checkTime_3 : decode cX1_checkTime 3 = .ok (.ldc2_w 15, 3) := dk_20 0 15 (dk_at dksX1_checkTime_0 3 rfl rfl)
theorem dX1_checkTime_6 : decode cX1_checkTime 6 = .ok (.invokestatic 17, 3) := dk_184 0 17 (dk_at dksX1_checkTime_0 6 rfl rfl)
theorem dX1_checkTime_9 : decode cX1_checkTime 9 = .ok (.invokestatic 21, 3) := dk_184 0 21 (dk_at dksX1_checkTime_0 9 rfl rfl)
theorem dX1_checkTime_12 : decode cX1_checkTime 12 = .ok (.return_, 1) := dk_177 (dk_at dksX1_checkTime_0 12 rfl rfl)
abbrev cX1_distance : ByteArray := prog_1_method_28_code
def yX1_distance : MethodName := ⟨RX1, "distance", "(IIIZ)I"⟩
def dkwX1_distance_1 : List UInt8 := [25, 6, 182, 0, 195, 29, 21, 4, 182, 0, 199, 172]
abbrev dktX1_distance_1 : List UInt8 := dkwX1_distance_1 ++ []
def dkwX1_distance_0 : List UInt8 := [42, 27, 182, 0, 176, 58, 5, 42, 28, 182, 0, 152, 58, 6, 29, 184, 0, 188, 25, 5, 42, 180, 0, 43]
abbrev dktX1_distance_0 : List UInt8 := dkwX1_distance_0 ++ dktX1_distance_1
theorem dksX1_distance_0 : cX1_distance.data.toList.drop 0 = dktX1_distance_0 := by decide +kernel
theorem dksX1_distance_1 : cX1_distance.data.toList.drop 24 = dktX1_distance_1 := dk_seg dksX1_distance_0 24 rfl rfl
theorem dX1_distance_0 : decode cX1_distance 0 = .ok (.aload_n 0, 1) := dk_42 (dk_at dksX1_distance_0 0 rfl rfl)
theorem dX1_distance_1 : decode cX1_distance 1 = .ok (.iload_n 1, 1) := dk_27 (dk_at dksX1_distance_0 1 rfl rfl)
theorem dX1_distance_2 : decode cX1_distance 2 = .ok (.invokevirtual 176, 3) := dk_182 0 176 (dk_at dksX1_distance_0 2 rfl rfl)
theorem dX1_distance_5 : decode cX1_distance 5 = .ok (.astore 5, 2) := dk_58 5 (dk_at dksX1_distance_0 5 rfl rfl)
theorem dX1_distance_7 : decode cX1_distance 7 = .ok (.aload_n 0, 1) := dk_42 (dk_at dksX1_distance_0 7 rfl rfl)
theorem dX1_distance_8 : decode cX1_distance 8 = .ok (.iload_n 2, 1) := dk_28 (dk_at dksX1_distance_0 8 rfl rfl)
theorem dX1_distance_9 : decode cX1_distance 9 = .ok (.invokevirtual 152, 3) := dk_182 0 152 (dk_at dksX1_distance_0 9 rfl rfl)
theorem dX1_distance_12 : decode cX1_distance 12 = .ok (.astore 6, 2) := dk_58 6 (dk_at dksX1_distance_0 12 rfl rfl)
theorem dX1_distance_14 : decode cX1_distance 14 = .ok (.iload_n 3, 1) := dk_29 (dk_at dksX1_distance_0 14 rfl rfl)
theorem dX1_distance_15 : decode cX1_distance 15 = .ok (.invokestatic 188, 3) := dk_184 0 188 (dk_at dksX1_distance_0 15 rfl rfl)
theorem dX1_distance_18 : decode cX1_distance 18 = .ok (.aload 5, 2) := dk_25 5 (dk_at dksX1_distance_0 18 rfl rfl)
theorem dX1_distance_20 : decode cX1_distance 20 = .ok (.aload_n 0, 1) := dk_42 (dk_at dksX1_distance_0 20 rfl rfl)
theorem dX1_distance_21 : decode cX1_distance 21 = .ok (.getfield 43, 3) := dk_180 0 43 (dk_at dksX1_distance_0 21 rfl rfl)
theorem dX1_distance_24 : decode cX1_distance 24 = .ok (.aload 6, 2) := dk_25 6 (dk_at dksX1_distance_1 0 rfl rfl)
theorem dX1_distance_26 : decode cX1_distance 26 = .ok (.invokevirtual 195, 3) := dk_182 0 195 (dk_at dksX1_distance_1 2 rfl rfl)
theorem dX1_distance_29 : decode cX1_distance 29 = .ok (.iload_n 3, 1) := dk_29 (dk_at dksX1_distance_1 5 rfl rfl)
theorem dX1_distance_30 : decode cX1_distance 30 = .ok (.iload 4, 2) := dk_21 4 (dk_at dksX1_distance_1 6 rfl rfl)
theorem dX1_distance_32 : decode cX1_distance 32 = .ok (.invokevirtual 199, 3) := dk_182 0 199 (dk_at dksX1_distance_1 8 rfl rfl)
theorem dX1_distance_35 : decode cX1_distance 35 = .ok (.ireturn, 1) := dk_172 (dk_at dksX1_distance_1 11 rfl rfl)
abbrev cX1_emissionTime : ByteArray := prog_1_method_29_code
def yX1_emissionTime : MethodName := ⟨RX1, "emissionTime", "(IIIZ)I"⟩
def dkwX1_emissionTime_1 : List UInt8 := [42, 180, 0, 43, 25, 6, 182, 0, 195, 29, 21, 4, 2, 182, 0, 203, 172]
abbrev dktX1_emissionTime_1 : List UInt8 := dkwX1_emissionTime_1 ++ []
def dkwX1_emissionTime_0 : List UInt8 := [42, 27, 182, 0, 176, 58, 5, 42, 28, 182, 0, 152, 58, 6, 29, 184, 0, 188, 42, 180, 0, 43, 25, 5]
abbrev dktX1_emissionTime_0 : List UInt8 := dkwX1_emissionTime_0 ++ dktX1_emissionTime_1
theorem dksX1_emissionTime_0 : cX1_emissionTime.data.toList.drop 0 = dktX1_emissionTime_0 := by decide +kernel
theorem dksX1_emissionTime_1 : cX1_emissionTime.data.toList.drop 24 = dktX1_emissionTime_1 := dk_seg dksX1_emissionTime_0 24 rfl rfl
theorem dX1_emissionTime_0 : decode cX1_emissionTime 0 = .ok (.aload_n 0, 1) := dk_42 (dk_at dksX1_emissionTime_0 0 rfl rfl)
theorem dX1_emissionTime_1 : decode cX1_emissionTime 1 = .ok (.iload_n 1, 1) := dk_27 (dk_at dksX1_emissionTime_0 1 rfl rfl)
theorem dX1_emissionTime_2 : decode cX1_emissionTime 2 = .ok (.invokevirtual 176, 3) := dk_182 0 176 (dk_at dksX1_emissionTime_0 2 rfl rfl)
theorem dX1_emissionTime_5 : decode cX1_emissionTime 5 = .ok (.astore 5, 2) := dk_58 5 (dk_at dksX1_emissionTime_0 5 rfl rfl)
theorem dX1_emissionTime_7 : decode cX1_emissionTime 7 = .ok (.aload_n 0, 1) := dk_42 (dk_at dksX1_emissionTime_0 7 rfl rfl)
theorem dX1_emissionTime_8 : decode cX1_emissionTime 8 = .ok (.iload_n 2, 1) := dk_28 (dk_at dksX1_emissionTime_0 8 rfl rfl)
theorem dX1_emissionTime_9 : decode cX1_emissionTime 9 = .ok (.invokevirtual 152, 3) := dk_182 0 152 (dk_at dksX1_emissionTime_0 9 rfl rfl)
theorem dX1_emissionTime_12 : decode cX1_emissionTime 12 = .ok (.astore 6, 2) := dk_58 6 (dk_at dksX1_emissionTime_0 12 rfl rfl)
theorem dX1_emissionTime_14 : decode cX1_emissionTime 14 = .ok (.iload_n 3, 1) := dk_29 (dk_at dksX1_emissionTime_0 14 rfl rfl)
theorem dX1_emissionTime_15 : decode cX1_emissionTime 15 = .ok (.invokestatic 188, 3) := dk_184 0 188 (dk_at dksX1_emissionTime_0 15 rfl rfl)
theorem dX1_emissionTime_18 : decode cX1_emissionTime 18 = .ok (.aload_n 0, 1) := dk_42 (dk_at dksX1_emissionTime_0 18 rfl rfl)
theorem dX1_emissionTime_19 : decode cX1_emissionTime 19 = .ok (.getfield 43, 3) := dk_180 0 43 (dk_at dksX1_emissionTime_0 19 rfl rfl)
theorem dX1_emissionTime_22 : decode cX1_emissionTime 22 = .ok (.aload 5, 2) := dk_25 5 (dk_at dksX1_emissionTime_0 22 rfl rfl)
theorem dX1_emissionTime_24 : decode cX1_emissionTime 24 = .ok (.aload_n 0, 1) := dk_42 (dk_at dksX1_emissionTime_1 0 rfl rfl)
theorem dX1_emissionTime_25 : decode cX1_emissionTime 25 = .ok (.getfield 43, 3) := dk_180 0 43 (dk_at dksX1_emissionTime_1 1 rfl rfl)
theorem dX1_emissionTime_28 : decode cX1_emissionTime 28 = .ok (.aload 6, 2) := dk_25 6 (dk_at dksX1_emissionTime_1 4 rfl rfl)
theorem dX1_emissionTime_30 : decode cX1_emissionTime 30 = .ok (.invokevirtual 195, 3) := dk_182 0 195 (dk_at dksX1_emissionTime_1 6 rfl rfl)
theorem dX1_emissionTime_33 : decode cX1_emissionTime 33 = .ok (.iload_n 3, 1) := dk_29 (dk_at dksX1_emissionTime_1 9 rfl rfl)
theorem dX1_emissionTime_34 : decode cX1_emissionTime 34 = .ok (.iload 4, 2) := dk_21 4 (dk_at dksX1_emissionTime_1 10 rfl rfl)
theorem dX1_emissionTime_36 : decode cX1_emissionTime 36 = .ok (.iconst (-1), 1) := dk_2 (dk_at dksX1_emissionTime_1 12 rfl rfl)
theorem dX1_emissionTime_37 : decode cX1_emissionTime 37 = .ok (.invokevirtual 203, 3) := dk_182 0 203 (dk_at dksX1_emissionTime_1 13 rfl rfl)
theorem dX1_emissionTime_40 : decode cX1_emissionTime 40 = .ok (.ireturn, 1) := dk_172 (dk_at dksX1_emissionTime_1 16 rfl rfl)
abbrev cX1_passTime : ByteArray := prog_1_method_30_code
def yX1_passTime : MethodName := ⟨RX1, "passTime", "(II)I"⟩
def dkwX1_passTime_3 : List UInt8 := [167, 255, 203, 21, 5, 172]
abbrev dktX1_passTime_3 : List UInt8 := dkwX1_passTime_3 ++ []
def dkwX1_passTime_2 : List UInt8 := [25, 4, 180, 0, 214, 100, 184, 0, 217, 162, 0, 8, 21, 6, 167, 0, 5, 21, 5, 54, 5, 132, 6, 1]
abbrev dktX1_passTime_2 : List UInt8 := dkwX1_passTime_2 ++ dktX1_passTime_3
def dkwX1_passTime_1 : List UInt8 := [162, 0, 51, 45, 21, 6, 182, 0, 211, 25, 4, 180, 0, 214, 100, 184, 0, 217, 45, 21, 5, 182, 0, 211]
abbrev dktX1_passTime_1 : List UInt8 := dkwX1_passTime_1 ++ dktX1_passTime_2
def dkwX1_passTime_0 : List UInt8 := [42, 27, 182, 0, 207, 78, 42, 28, 182, 0, 176, 58, 4, 3, 54, 5, 4, 54, 6, 21, 6, 17, 1, 0]
abbrev dktX1_passTime_0 : List UInt8 := dkwX1_passTime_0 ++ dktX1_passTime_1
theorem dksX1_passTime_0 : cX1_passTime.data.toList.drop 0 = dktX1_passTime_0 := by decide +kernel
theorem dksX1_passTime_1 : cX1_passTime.data.toList.drop 24 = dktX1_passTime_1 := dk_seg dksX1_passTime_0 24 rfl rfl
theorem dksX1_passTime_2 : cX1_passTime.data.toList.drop 48 = dktX1_passTime_2 := dk_seg dksX1_passTime_1 24 rfl rfl
theorem dksX1_passTime_3 : cX1_passTime.data.toList.drop 72 = dktX1_passTime_3 := dk_seg dksX1_passTime_2 24 rfl rfl
theorem dX1_passTime_0 : decode cX1_passTime 0 = .ok (.aload_n 0, 1) := dk_42 (dk_at dksX1_passTime_0 0 rfl rfl)
theorem dX1_passTime_1 : decode cX1_passTime 1 = .ok (.iload_n 1, 1) := dk_27 (dk_at dksX1_passTime_0 1 rfl rfl)
theorem dX1_passTime_2 : decode cX1_passTime 2 = .ok (.invokevirtual 207, 3) := dk_182 0 207 (dk_at dksX1_passTime_0 2 rfl rfl)
theorem dX1_passTime_5 : decode cX1_passTime 5 = .ok (.astore_n 3, 1) := dk_78 (dk_at dksX1_passTime_0 5 rfl rfl)
theorem dX1_passTime_6 : decode cX1_passTime 6 = .ok (.aload_n 0, 1) := dk_42 (dk_at dksX1_passTime_0 6 rfl rfl)
theorem dX1_passTime_7 : decode cX1_passTime 7 = .ok (.iload_n 2, 1) := dk_28 (dk_at dksX1_passTime_0 7 rfl rfl)
theorem dX1_passTime_8 : decode cX1_passTime 8 = .ok (.invokevirtual 176, 3) := dk_182 0 176 (dk_at dksX1_passTime_0 8 rfl rfl)
theorem dX1_passTime_11 : decode cX1_passTime 11 = .ok (.astore 4, 2) := dk_58 4 (dk_at dksX1_passTime_0 11 rfl rfl)
theorem dX1_passTime_13 : decode cX1_passTime 13 = .ok (.iconst 0, 1) := dk_3 (dk_at dksX1_passTime_0 13 rfl rfl)
theorem dX1_passTime_14 : decode cX1_passTime 14 = .ok (.istore 5, 2) := dk_54 5 (dk_at dksX1_passTime_0 14 rfl rfl)
theorem dX1_passTime_16 : decode cX1_passTime 16 = .ok (.iconst 1, 1) := dk_4 (dk_at dksX1_passTime_0 16 rfl rfl)
theorem dX1_passTime_17 : decode cX1_passTime 17 = .ok (.istore 6, 2) := dk_54 6 (dk_at dksX1_passTime_0 17 rfl rfl)
theorem dX1_passTime_19 : decode cX1_passTime 19 = .ok (.iload 6, 2) := dk_21 6 (dk_at dksX1_passTime_0 19 rfl rfl)
theorem dX1_passTime_21 : decode cX1_passTime 21 = .ok (.sipush 256, 3) := dk_17 1 0 (dk_at dksX1_passTime_0 21 rfl rfl)
theorem dX1_passTime_24 : decode cX1_passTime 24 = .ok (.if_icmp .ge 51, 3) := dk_162 0 51 (dk_at dksX1_passTime_1 0 rfl rfl)
theorem dX1_passTime_27 : decode cX1_passTime 27 = .ok (.aload_n 3, 1) := dk_45 (dk_at dksX1_passTime_1 3 rfl rfl)
theorem dX1_passTime_28 : decode cX1_passTime 28 = .ok (.iload 6, 2) := dk_21 6 (dk_at dksX1_passTime_1 4 rfl rfl)
theorem dX1_passTime_30 : decode cX1_passTime 30 = .ok (.invokevirtual 211, 3) := dk_182 0 211 (dk_at dksX1_passTime_1 6 rfl rfl)
theorem dX1_passTime_33 : decode cX1_passTime 33 = .ok (.aload 4, 2) := dk_25 4 (dk_at dksX1_passTime_1 9 rfl rfl)
theorem dX1_passTime_35 : decode cX1_passTime 35 = .ok (.getfield 214, 3) := dk_180 0 214 (dk_at dksX1_passTime_1 11 rfl rfl)
theorem dX1_passTime_38 : decode cX1_passTime 38 = .ok (.isub, 1) := dk_100 (dk_at dksX1_passTime_1 14 rfl rfl)
theorem dX1_passTime_39 : decode cX1_passTime 39 = .ok (.invokestatic 217, 3) := dk_184 0 217 (dk_at dksX1_passTime_1 15 rfl rfl)
theorem dX1_passTime_42 : decode cX1_passTime 42 = .ok (.aload_n 3, 1) := dk_45 (dk_at dksX1_passTime_1 18 rfl rfl)
theorem dX1_passTime_43 : decode cX1_passTime 43 = .ok (.iload 5, 2) := dk_21 5 (dk_at dksX1_passTime_1 19 rfl rfl)
theorem dX1_passTime_45 : decode cX1_passTime 45 = .ok (.invokevirtual 211, 3) := dk_182 0 211 (dk_at dksX1_passTime_1 21 rfl rfl)
theorem dX1_passTime_48 : decode cX1_passTime 48 = .ok (.aload 4, 2) := dk_25 4 (dk_at dksX1_passTime_2 0 rfl rfl)
theorem dX1_passTime_50 : decode cX1_passTime 50 = .ok (.getfield 214, 3) := dk_180 0 214 (dk_at dksX1_passTime_2 2 rfl rfl)
theorem dX1_passTime_53 : decode cX1_passTime 53 = .ok (.isub, 1) := dk_100 (dk_at dksX1_passTime_2 5 rfl rfl)
theorem dX1_passTime_54 : decode cX1_passTime 54 = .ok (.invokestatic 217, 3) := dk_184 0 217 (dk_at dksX1_passTime_2 6 rfl rfl)
theorem dX1_passTime_57 : decode cX1_passTime 57 = .ok (.if_icmp .ge 8, 3) := dk_162 0 8 (dk_at dksX1_passTime_2 9 rfl rfl)
theorem dX1_passTime_60 : decode cX1_passTime 60 = .ok (.iload 6, 2) := dk_21 6 (dk_at dksX1_passTime_2 12 rfl rfl)
theorem dX1_passTime_62 : decode cX1_passTime 62 = .ok (.goto 5, 3) := dk_167 0 5 (dk_at dksX1_passTime_2 14 rfl rfl)
theorem dX1_passTime_65 : decode cX1_passTime 65 = .ok (.iload 5, 2) := dk_21 5 (dk_at dksX1_passTime_2 17 rfl rfl)
theorem dX1_passTime_67 : decode cX1_passTime 67 = .ok (.istore 5, 2) := dk_54 5 (dk_at dksX1_passTime_2 19 rfl rfl)
theorem dX1_passTime_69 : decode cX1_passTime 69 = .ok (.iinc 6 1, 3) := dk_132 6 1 (dk_at dksX1_passTime_2 21 rfl rfl)
theorem dX1_passTime_72 : decode cX1_passTime 72 = .ok (.goto (-53), 3) := dk_167 255 203 (dk_at dksX1_passTime_3 0 rfl rfl)
theorem dX1_passTime_75 : decode cX1_passTime 75 = .ok (.iload 5, 2) := dk_21 5 (dk_at dksX1_passTime_3 3 rfl rfl)
theorem dX1_passTime_77 : decode cX1_passTime 77 = .ok (.ireturn, 1) := dk_172 (dk_at dksX1_passTime_3 5 rfl rfl)
abbrev cX1_vehicle : ByteArray := prog_1_method_11_code
def yX1_vehicle : MethodName := ⟨RX1, "vehicle", "(I)LTrackArray$Vehicle;"⟩
def dkwX1_vehicle_1 : List UInt8 := [180, 0, 43, 180, 0, 59, 27, 182, 0, 72, 192, 0, 76, 176]
abbrev dktX1_vehicle_1 : List UInt8 := dkwX1_vehicle_1 ++ []
def dkwX1_vehicle_0 : List UInt8 := [27, 133, 9, 42, 180, 0, 43, 180, 0, 59, 182, 0, 63, 4, 100, 133, 184, 0, 17, 184, 0, 69, 42]
abbrev dktX1_vehicle_0 : List UInt8 := dkwX1_vehicle_0 ++ dktX1_vehicle_1
theorem dksX1_vehicle_0 : cX1_vehicle.data.toList.drop 0 = dktX1_vehicle_0 := by decide +kernel
theorem dksX1_vehicle_1 : cX1_vehicle.data.toList.drop 23 = dktX1_vehicle_1 := dk_seg dksX1_vehicle_0 23 rfl rfl
theorem dX1_vehicle_0 : decode cX1_vehicle 0 = .ok (.iload_n 1, 1) := dk_27 (dk_at dksX1_vehicle_0 0 rfl rfl)
theorem dX1_vehicle_1 : decode cX1_vehicle 1 = .ok (.i2l, 1) := dk_133 (dk_at dksX1_vehicle_0 1 rfl rfl)
theorem dX1_vehicle_2 : decode cX1_vehicle 2 = .ok (.lconst 0, 1) := dk_9 (dk_at dksX1_vehicle_0 2 rfl rfl)
theorem dX1_vehicle_3 : decode cX1_vehicle 3 = .ok (.aload_n 0, 1) := dk_42 (dk_at dksX1_vehicle_0 3 rfl rfl)
theorem dX1_vehicle_4 : decode cX1_vehicle 4 = .ok (.getfield 43, 3) := dk_180 0 43 (dk_at dksX1_vehicle_0 4 rfl rfl)
theorem dX1_vehicle_7 : decode cX1_vehicle 7 = .ok (.getfield 59, 3) := dk_180 0 59 (dk_at dksX1_vehicle_0 7 rfl rfl)
theorem dX1_vehicle_10 : decode cX1_vehicle 10 = .ok (.invokevirtual 63, 3) := dk_182 0 63 (dk_at dksX1_vehicle_0 10 rfl rfl)
theorem dX1_vehicle_13 : decode cX1_vehicle 13 = .ok (.iconst 1, 1) := dk_4 (dk_at dksX1_vehicle_0 13 rfl rfl)
theorem dX1_vehicle_14 : decode cX1_vehicle 14 = .ok (.isub, 1) := dk_100 (dk_at dksX1_vehicle_0 14 rfl rfl)
theorem dX1_vehicle_15 : decode cX1_vehicle 15 = .ok (.i2l, 1) := dk_133 (dk_at dksX1_vehicle_0 15 rfl rfl)
theorem dX1_vehicle_16 : decode cX1_vehicle 16 = .ok (.invokestatic 17, 3) := dk_184 0 17 (dk_at dksX1_vehicle_0 16 rfl rfl)
theorem dX1_vehicle_19 : decode cX1_vehicle 19 = .ok (.invokestatic 69, 3) := dk_184 0 69 (dk_at dksX1_vehicle_0 19 rfl rfl)
theorem dX1_vehicle_22 : decode cX1_vehicle 22 = .ok (.aload_n 0, 1) := dk_42 (dk_at dksX1_vehicle_0 22 rfl rfl)
theorem dX1_vehicle_23 : decode cX1_vehicle 23 = .ok (.getfield 43, 3) := dk_180 0 43 (dk_at dksX1_vehicle_1 0 rfl rfl)
theorem dX1_vehicle_26 : decode cX1_vehicle 26 = .ok (.getfield 59, 3) := dk_180 0 59 (dk_at dksX1_vehicle_1 3 rfl rfl)
theorem dX1_vehicle_29 : decode cX1_vehicle 29 = .ok (.iload_n 1, 1) := dk_27 (dk_at dksX1_vehicle_1 6 rfl rfl)
theorem dX1_vehicle_30 : decode cX1_vehicle 30 = .ok (.invokevirtual 72, 3) := dk_182 0 72 (dk_at dksX1_vehicle_1 7 rfl rfl)
theorem dX1_vehicle_33 : decode cX1_vehicle 33 = .ok (.checkcast 76, 3) := dk_192 0 76 (dk_at dksX1_vehicle_1 10 rfl rfl)
theorem dX1_vehicle_36 : decode cX1_vehicle 36 = .ok (.areturn, 1) := dk_176 (dk_at dksX1_vehicle_1 13 rfl rfl)
abbrev cX1_sample : ByteArray := prog_1_method_32_code
def yX1_sample : MethodName := ⟨RX1, "sample", "(II)I"⟩
def dkwX1_sample_0 : List UInt8 := [42, 27, 182, 0, 176, 78, 28, 184, 0, 188, 45, 180, 0, 225, 28, 46, 172]
abbrev dktX1_sample_0 : List UInt8 := dkwX1_sample_0 ++ []
theorem dksX1_sample_0 : cX1_sample.data.toList.drop 0 = dktX1_sample_0 := by decide +kernel
theorem dX1_sample_0 : decode cX1_sample 0 = .ok (.aload_n 0, 1) := dk_42 (dk_at dksX1_sample_0 0 rfl rfl)
theorem dX1_sample_1 : decode cX1_sample 1 = .ok (.iload_n 1, 1) := dk_27 (dk_at dksX1_sample_0 1 rfl rfl)
theorem dX1_sample_2 : decode cX1_sample 2 = .ok (.invokevirtual 176, 3) := dk_182 0 176 (dk_at dksX1_sample_0 2 rfl rfl)
theorem dX1_sample_5 : decode cX1_sample 5 = .ok (.astore_n 3, 1) := dk_78 (dk_at dksX1_sample_0 5 rfl rfl)
theorem dX1_sample_6 : decode cX1_sample 6 = .ok (.iload_n 2, 1) := dk_28 (dk_at dksX1_sample_0 6 rfl rfl)
theorem dX1_sample_7 : decode cX1_sample 7 = .ok (.invokestatic 188, 3) := dk_184 0 188 (dk_at dksX1_sample_0 7 rfl rfl)
theorem dX1_sample_10 : decode cX1_sample 10 = .ok (.aload_n 3, 1) := dk_45 (dk_at dksX1_sample_0 10 rfl rfl)
theorem dX1_sample_11 : decode cX1_sample 11 = .ok (.getfield 225, 3) := dk_180 0 225 (dk_at dksX1_sample_0 11 rfl rfl)
theorem dX1_sample_14 : decode cX1_sample 14 = .ok (.iload_n 2, 1) := dk_28 (dk_at dksX1_sample_0 14 rfl rfl)
theorem dX1_sample_15 : decode cX1_sample 15 = .ok (.iaload, 1) := dk_46 (dk_at dksX1_sample_0 15 rfl rfl)
theorem dX1_sample_16 : decode cX1_sample 16 = .ok (.ireturn, 1) := dk_172 (dk_at dksX1_sample_0 16 rfl rfl)
abbrev cX1_measureRecord : ByteArray := prog_1_method_33_code
def yX1_measureRecord : MethodName := ⟨RX1, "measureRecord", "(IIII)J"⟩
def dkwX1_measureRecord_2 : List UInt8 := [184, 0, 237, 42, 180, 0, 43, 27, 182, 0, 241, 29, 21, 4, 182, 0, 244, 173]
abbrev dktX1_measureRecord_2 : List UInt8 := dkwX1_measureRecord_2 ++ []
def dkwX1_measureRecord_1 : List UInt8 := [184, 0, 229, 153, 0, 16, 29, 21, 4, 184, 0, 234, 153, 0, 7, 4, 167, 0, 4, 3, 184, 0, 21, 28]
abbrev dktX1_measureRecord_1 : List UInt8 := dkwX1_measureRecord_1 ++ dktX1_measureRecord_2
def dkwX1_measureRecord_0 : List UInt8 := [27, 133, 9, 42, 180, 0, 43, 180, 0, 83, 182, 0, 63, 4, 100, 133, 184, 0, 17, 184, 0, 69, 28]
abbrev dktX1_measureRecord_0 : List UInt8 := dkwX1_measureRecord_0 ++ dktX1_measureRecord_1
theorem dksX1_measureRecord_0 : cX1_measureRecord.data.toList.drop 0 = dktX1_measureRecord_0 := by decide +kernel
theorem dksX1_measureRecord_1 : cX1_measureRecord.data.toList.drop 23 = dktX1_measureRecord_1 := dk_seg dksX1_measureRecord_0 23 rfl rfl
theorem dksX1_measureRecord_2 : cX1_measureRecord.data.toList.drop 47 = dktX1_measureRecord_2 := dk_seg dksX1_measureRecord_1 24 rfl rfl
theorem dX1_measureRecord_0 : decode cX1_measureRecord 0 = .ok (.iload_n 1, 1) := dk_27 (dk_at dksX1_measureRecord_0 0 rfl rfl)
theorem dX1_measureRecord_1 : decode cX1_measureRecord 1 = .ok (.i2l, 1) := dk_133 (dk_at dksX1_measureRecord_0 1 rfl rfl)
theorem dX1_measureRecord_2 : decode cX1_measureRecord 2 = .ok (.lconst 0, 1) := dk_9 (dk_at dksX1_measureRecord_0 2 rfl rfl)
theorem dX1_measureRecord_3 : decode cX1_measureRecord 3 = .ok (.aload_n 0, 1) := dk_42 (dk_at dksX1_measureRecord_0 3 rfl rfl)
theorem dX1_measureRecord_4 : decode cX1_measureRecord 4 = .ok (.getfield 43, 3) := dk_180 0 43 (dk_at dksX1_measureRecord_0 4 rfl rfl)
theorem dX1_measureRecord_7 : decode cX1_measureRecord 7 = .ok (.getfield 83, 3) := dk_180 0 83 (dk_at dksX1_measureRecord_0 7 rfl rfl)
theorem dX1_measureRecord_10 : decode cX1_measureRecord 10 = .ok (.invokevirtual 63, 3) := dk_182 0 63 (dk_at dksX1_measureRecord_0 10 rfl rfl)
theorem dX1_measureRecord_13 : decode cX1_measureRecord 13 = .ok (.iconst 1, 1) := dk_4 (dk_at dksX1_measureRecord_0 13 rfl rfl)
theorem dX1_measureRecord_14 : decode cX1_measureRecord 14 = .ok (.isub, 1) := dk_100 (dk_at dksX1_measureRecord_0 14 rfl rfl)
theorem dX1_measureRecord_15 : decode cX1_measureRecord 15 = .ok (.i2l, 1) := dk_133 (dk_at dksX1_measureRecord_0 15 rfl rfl)
theorem dX1_measureRecord_16 : decode cX1_measureRecord 16 = .ok (.invokestatic 17, 3) := dk_184 0 17 (dk_at dksX1_measureRecord_0 16 rfl rfl)
theorem dX1_measureRecord_19 : decode cX1_measureRecord 19 = .ok (.invokestatic 69, 3) := dk_184 0 69 (dk_at dksX1_measureRecord_0 19 rfl rfl)
theorem dX1_measureRecord_22 : decode cX1_measureRecord 22 = .ok (.iload_n 2, 1) := dk_28 (dk_at dksX1_measureRecord_0 22 rfl rfl)
theorem dX1_measureRecord_23 : decode cX1_measureRecord 23 = .ok (.invokestatic 229, 3) := dk_184 0 229 (dk_at dksX1_measureRecord_1 0 rfl rfl)
theorem dX1_measureRecord_26 : decode cX1_measureRecord 26 = .ok (.ifCond .eq 16, 3) := dk_153 0 16 (dk_at dksX1_measureRecord_1 3 rfl rfl)
theorem dX1_measureRecord_29 : decode cX1_measureRecord 29 = .ok (.iload_n 3, 1) := dk_29 (dk_at dksX1_measureRecord_1 6 rfl rfl)
theorem dX1_measureRecord_30 : decode cX1_measureRecord 30 = .ok (.iload 4, 2) := dk_21 4 (dk_at dksX1_measureRecord_1 7 rfl rfl)
theorem dX1_measureRecord_32 : decode cX1_measureRecord 32 = .ok (.invokestatic 234, 3) := dk_184 0 234 (dk_at dksX1_measureRecord_1 9 rfl rfl)
theorem dX1_measureRecord_35 : decode cX1_measureRecord 35 = .ok (.ifCond .eq 7, 3) := dk_153 0 7 (dk_at dksX1_measureRecord_1 12 rfl rfl)
theorem dX1_measureRecord_38 : decode cX1_measureRecord 38 = .ok (.iconst 1, 1) := dk_4 (dk_at dksX1_measureRecord_1 15 rfl rfl)
theorem dX1_measureRecord_39 : decode cX1_measureRecord 39 = .ok (.goto 4, 3) := dk_167 0 4 (dk_at dksX1_measureRecord_1 16 rfl rfl)
theorem dX1_measureRecord_42 : decode cX1_measureRecord 42 = .ok (.iconst 0, 1) := dk_3 (dk_at dksX1_measureRecord_1 19 rfl rfl)
theorem dX1_measureRecord_43 : decode cX1_measureRecord 43 = .ok (.invokestatic 21, 3) := dk_184 0 21 (dk_at dksX1_measureRecord_1 20 rfl rfl)
theorem dX1_measureRecord_46 : decode cX1_measureRecord 46 = .ok (.iload_n 2, 1) := dk_28 (dk_at dksX1_measureRecord_1 23 rfl rfl)
theorem dX1_measureRecord_47 : decode cX1_measureRecord 47 = .ok (.invokestatic 237, 3) := dk_184 0 237 (dk_at dksX1_measureRecord_2 0 rfl rfl)
theorem dX1_measureRecord_50 : decode cX1_measureRecord 50 = .ok (.aload_n 0, 1) := dk_42 (dk_at dksX1_measureRecord_2 3 rfl rfl)
theorem dX1_measureRecord_51 : decode cX1_measureRecord 51 = .ok (.getfield 43, 3) := dk_180 0 43 (dk_at dksX1_measureRecord_2 4 rfl rfl)
theorem dX1_measureRecord_54 : decode cX1_measureRecord 54 = .ok (.iload_n 1, 1) := dk_27 (dk_at dksX1_measureRecord_2 7 rfl rfl)
theorem dX1_measureRecord_55 : decode cX1_measureRecord 55 = .ok (.invokevirtual 241, 3) := dk_182 0 241 (dk_at dksX1_measureRecord_2 8 rfl rfl)
theorem dX1_measureRecord_58 : decode cX1_measureRecord 58 = .ok (.iload_n 3, 1) := dk_29 (dk_at dksX1_measureRecord_2 11 rfl rfl)
theorem dX1_measureRecord_59 : decode cX1_measureRecord 59 = .ok (.iload 4, 2) := dk_21 4 (dk_at dksX1_measureRecord_2 12 rfl rfl)
theorem dX1_measureRecord_61 : decode cX1_measureRecord 61 = .ok (.invokevirtual 244, 3) := dk_182 0 244 (dk_at dksX1_measureRecord_2 14 rfl rfl)
theorem dX1_measureRecord_64 : decode cX1_measureRecord 64 = .ok (.lreturn, 1) := dk_173 (dk_at dksX1_measureRecord_2 17 rfl rfl)
abbrev cX1_isWindow : ByteArray := prog_1_method_6_code
def yX1_isWindow : MethodName := ⟨RX1, "isWindow", "(II)Z"⟩
def dkwX1_isWindow_0 : List UInt8 := [26, 155, 0, 19, 27, 17, 0, 255, 163, 0, 12, 26, 27, 163, 0, 7, 4, 167, 0, 4, 3, 172]
abbrev dktX1_isWindow_0 : List UInt8 := dkwX1_isWindow_0 ++ []
theorem dksX1_isWindow_0 : cX1_isWindow.data.toList.drop 0 = dktX1_isWindow_0 := by decide +kernel
theorem dX1_isWindow_0 : decode cX1_isWindow 0 = .ok (.iload_n 0, 1) := dk_26 (dk_at dksX1_isWindow_0 0 rfl rfl)
theorem dX1_isWindow_1 : decode cX1_isWindow 1 = .ok (.ifCond .lt 19, 3) := dk_155 0 19 (dk_at dksX1_isWindow_0 1 rfl rfl)
theorem dX1_isWindow_4 : decode cX1_isWindow 4 = .ok (.iload_n 1, 1) := dk_27 (dk_at dksX1_isWindow_0 4 rfl rfl)
theorem dX1_isWindow_5 : decode cX1_isWindow 5 = .ok (.sipush 255, 3) := dk_17 0 255 (dk_at dksX1_isWindow_0 5 rfl rfl)
theorem dX1_isWindow_8 : decode cX1_isWindow 8 = .ok (.if_icmp .gt 12, 3) := dk_163 0 12 (dk_at dksX1_isWindow_0 8 rfl rfl)
theorem dX1_isWindow_11 : decode cX1_isWindow 11 = .ok (.iload_n 0, 1) := dk_26 (dk_at dksX1_isWindow_0 11 rfl rfl)
theorem dX1_isWindow_12 : decode cX1_isWindow 12 = .ok (.iload_n 1, 1) := dk_27 (dk_at dksX1_isWindow_0 12 rfl rfl)
theorem dX1_isWindow_13 : decode cX1_isWindow 13 = .ok (.if_icmp .gt 7, 3) := dk_163 0 7 (dk_at dksX1_isWindow_0 13 rfl rfl)
theorem dX1_isWindow_16 : decode cX1_isWindow 16 = .ok (.iconst 1, 1) := dk_4 (dk_at dksX1_isWindow_0 16 rfl rfl)
theorem dX1_isWindow_17 : decode cX1_isWindow 17 = .ok (.goto 4, 3) := dk_167 0 4 (dk_at dksX1_isWindow_0 17 rfl rfl)
theorem dX1_isWindow_20 : decode cX1_isWindow 20 = .ok (.iconst 0, 1) := dk_3 (dk_at dksX1_isWindow_0 20 rfl rfl)
theorem dX1_isWindow_21 : decode cX1_isWindow 21 = .ok (.ireturn, 1) := dk_172 (dk_at dksX1_isWindow_0 21 rfl rfl)
abbrev cX1_loudestMicrophone : ByteArray := prog_1_method_34_code
def yX1_loudestMicrophone : MethodName := ⟨RX1, "loudestMicrophone", "(II)I"⟩
def dkwX1_loudestMicrophone_3 : List UInt8 := [167, 255, 204, 29, 172]
abbrev dktX1_loudestMicrophone_3 : List UInt8 := dkwX1_loudestMicrophone_3 ++ []
def dkwX1_loudestMicrophone_2 : List UInt8 := [182, 0, 244, 55, 7, 22, 7, 22, 4, 148, 158, 0, 10, 21, 6, 62, 22, 7, 55, 4, 132, 6, 1]
abbrev dktX1_loudestMicrophone_2 : List UInt8 := dkwX1_loudestMicrophone_2 ++ dktX1_loudestMicrophone_3
def dkwX1_loudestMicrophone_1 : List UInt8 := [180, 0, 83, 182, 0, 63, 162, 0, 43, 178, 0, 250, 42, 180, 0, 43, 21, 6, 182, 0, 241, 27, 28]
abbrev dktX1_loudestMicrophone_1 : List UInt8 := dkwX1_loudestMicrophone_1 ++ dktX1_loudestMicrophone_2
def dkwX1_loudestMicrophone_0 : List UInt8 := [27, 28, 184, 0, 234, 184, 0, 21, 2, 62, 20, 0, 248, 55, 4, 3, 54, 6, 21, 6, 42, 180, 0, 43]
abbrev dktX1_loudestMicrophone_0 : List UInt8 := dkwX1_loudestMicrophone_0 ++ dktX1_loudestMicrophone_1
theorem dksX1_loudestMicrophone_0 : cX1_loudestMicrophone.data.toList.drop 0 = dktX1_loudestMicrophone_0 := by decide +kernel
theorem dksX1_loudestMicrophone_1 : cX1_loudestMicrophone.data.toList.drop 24 = dktX1_loudestMicrophone_1 := dk_seg dksX1_loudestMicrophone_0 24 rfl rfl
theorem dksX1_loudestMicrophone_2 : cX1_loudestMicrophone.data.toList.drop 47 = dktX1_loudestMicrophone_2 := dk_seg dksX1_loudestMicrophone_1 23 rfl rfl
theorem dksX1_loudestMicrophone_3 : cX1_loudestMicrophone.data.toList.drop 70 = dktX1_loudestMicrophone_3 := dk_seg dksX1_loudestMicrophone_2 23 rfl rfl
theorem dX1_loudestMicrophone_0 : decode cX1_loudestMicrophone 0 = .ok (.iload_n 1, 1) := dk_27 (dk_at dksX1_loudestMicrophone_0 0 rfl rfl)
theorem dX1_loudestMicrophone_1 : decode cX1_loudestMicrophone 1 = .ok (.iload_n 2, 1) := dk_28 (dk_at dksX1_loudestMicrophone_0 1 rfl rfl)
theorem dX1_loudestMicrophone_2 : decode cX1_loudestMicrophone 2 = .ok (.invokestatic 234, 3) := dk_184 0 234 (dk_at dksX1_loudestMicrophone_0 2 rfl rfl)
theorem dX1_loudestMicrophone_5 : decode cX1_loudestMicrophone 5 = .ok (.invokestatic 21, 3) := dk_184 0 21 (dk_at dksX1_loudestMicrophone_0 5 rfl rfl)
theorem dX1_loudestMicrophone_8 : decode cX1_loudestMicrophone 8 = .ok (.iconst (-1), 1) := dk_2 (dk_at dksX1_loudestMicrophone_0 8 rfl rfl)
theorem dX1_loudestMicrophone_9 : decode cX1_loudestMicrophone 9 = .ok (.istore_n 3, 1) := dk_62 (dk_at dksX1_loudestMicrophone_0 9 rfl rfl)
theorem dX1_loudestMicrophone_10 : decode cX1_loudestMicrophone 10 = .ok (.ldc2_w 248, 3) := dk_20 0 248 (dk_at dksX1_loudestMicrophone_0 10 rfl rfl)
theorem dX1_loudestMicrophone_13 : decode cX1_loudestMicrophone 13 = .ok (.lstore 4, 2) := dk_55 4 (dk_at dksX1_loudestMicrophone_0 13 rfl rfl)
theorem dX1_loudestMicrophone_15 : decode cX1_loudestMicrophone 15 = .ok (.iconst 0, 1) := dk_3 (dk_at dksX1_loudestMicrophone_0 15 rfl rfl)
theorem dX1_loudestMicrophone_16 : decode cX1_loudestMicrophone 16 = .ok (.istore 6, 2) := dk_54 6 (dk_at dksX1_loudestMicrophone_0 16 rfl rfl)
theorem dX1_loudestMicrophone_18 : decode cX1_loudestMicrophone 18 = .ok (.iload 6, 2) := dk_21 6 (dk_at dksX1_loudestMicrophone_0 18 rfl rfl)
theorem dX1_loudestMicrophone_20 : decode cX1_loudestMicrophone 20 = .ok (.aload_n 0, 1) := dk_42 (dk_at dksX1_loudestMicrophone_0 20 rfl rfl)
theorem dX1_loudestMicrophone_21 : decode cX1_loudestMicrophone 21 = .ok (.getfield 43, 3) := dk_180 0 43 (dk_at dksX1_loudestMicrophone_0 21 rfl rfl)
theorem dX1_loudestMicrophone_24 : decode cX1_loudestMicrophone 24 = .ok (.getfield 83, 3) := dk_180 0 83 (dk_at dksX1_loudestMicrophone_1 0 rfl rfl)
theorem dX1_loudestMicrophone_27 : decode cX1_loudestMicrophone 27 = .ok (.invokevirtual 63, 3) := dk_182 0 63 (dk_at dksX1_loudestMicrophone_1 3 rfl rfl)
theorem dX1_loudestMicrophone_30 : decode cX1_loudestMicrophone 30 = .ok (.if_icmp .ge 43, 3) := dk_162 0 43 (dk_at dksX1_loudestMicrophone_1 6 rfl rfl)
theorem dX1_loudestMicrophone_33 : decode cX1_loudestMicrophone 33 = .ok (.getstatic 250, 3) := dk_178 0 250 (dk_at dksX1_loudestMicrophone_1 9 rfl rfl)
theorem dX1_loudestMicrophone_36 : decode cX1_loudestMicrophone 36 = .ok (.aload_n 0, 1) := dk_42 (dk_at dksX1_loudestMicrophone_1 12 rfl rfl)
theorem dX1_loudestMicrophone_37 : decode cX1_loudestMicrophone 37 = .ok (.getfield 43, 3) := dk_180 0 43 (dk_at dksX1_loudestMicrophone_1 13 rfl rfl)
theorem dX1_loudestMicrophone_40 : decode cX1_loudestMicrophone 40 = .ok (.iload 6, 2) := dk_21 6 (dk_at dksX1_loudestMicrophone_1 16 rfl rfl)
theorem dX1_loudestMicrophone_42 : decode cX1_loudestMicrophone 42 = .ok (.invokevirtual 241, 3) := dk_182 0 241 (dk_at dksX1_loudestMicrophone_1 18 rfl rfl)
theorem dX1_loudestMicrophone_45 : decode cX1_loudestMicrophone 45 = .ok (.iload_n 1, 1) := dk_27 (dk_at dksX1_loudestMicrophone_1 21 rfl rfl)
theorem dX1_loudestMicrophone_46 : decode cX1_loudestMicrophone 46 = .ok (.iload_n 2, 1) := dk_28 (dk_at dksX1_loudestMicrophone_1 22 rfl rfl)
theorem dX1_loudestMicrophone_47 : decode cX1_loudestMicrophone 47 = .ok (.invokevirtual 244, 3) := dk_182 0 244 (dk_at dksX1_loudestMicrophone_2 0 rfl rfl)
theorem dX1_loudestMicrophone_50 : decode cX1_loudestMicrophone 50 = .ok (.lstore 7, 2) := dk_55 7 (dk_at dksX1_loudestMicrophone_2 3 rfl rfl)
theorem dX1_loudestMicrophone_52 : decode cX1_loudestMicrophone 52 = .ok (.lload 7, 2) := dk_22 7 (dk_at dksX1_loudestMicrophone_2 5 rfl rfl)
theorem dX1_loudestMicrophone_54 : decode cX1_loudestMicrophone 54 = .ok (.lload 4, 2) := dk_22 4 (dk_at dksX1_loudestMicrophone_2 7 rfl rfl)
theorem dX1_loudestMicrophone_56 : decode cX1_loudestMicrophone 56 = .ok (.lcmp, 1) := dk_148 (dk_at dksX1_loudestMicrophone_2 9 rfl rfl)
theorem dX1_loudestMicrophone_57 : decode cX1_loudestMicrophone 57 = .ok (.ifCond .le 10, 3) := dk_158 0 10 (dk_at dksX1_loudestMicrophone_2 10 rfl rfl)
theorem dX1_loudestMicrophone_60 : decode cX1_loudestMicrophone 60 = .ok (.iload 6, 2) := dk_21 6 (dk_at dksX1_loudestMicrophone_2 13 rfl rfl)
theorem dX1_loudestMicrophone_62 : decode cX1_loudestMicrophone 62 = .ok (.istore_n 3, 1) := dk_62 (dk_at dksX1_loudestMicrophone_2 15 rfl rfl)
theorem dX1_loudestMicrophone_63 : decode cX1_loudestMicrophone 63 = .ok (.lload 7, 2) := dk_22 7 (dk_at dksX1_loudestMicrophone_2 16 rfl rfl)
theorem dX1_loudestMicrophone_65 : decode cX1_loudestMicrophone 65 = .ok (.lstore 4, 2) := dk_55 4 (dk_at dksX1_loudestMicrophone_2 18 rfl rfl)
theorem dX1_loudestMicrophone_67 : decode cX1_loudestMicrophone 67 = .ok (.iinc 6 1, 3) := dk_132 6 1 (dk_at dksX1_loudestMicrophone_2 20 rfl rfl)
theorem dX1_loudestMicrophone_70 : decode cX1_loudestMicrophone 70 = .ok (.goto (-52), 3) := dk_167 255 204 (dk_at dksX1_loudestMicrophone_3 0 rfl rfl)
theorem dX1_loudestMicrophone_73 : decode cX1_loudestMicrophone 73 = .ok (.iload_n 3, 1) := dk_29 (dk_at dksX1_loudestMicrophone_3 3 rfl rfl)
theorem dX1_loudestMicrophone_74 : decode cX1_loudestMicrophone 74 = .ok (.ireturn, 1) := dk_172 (dk_at dksX1_loudestMicrophone_3 4 rfl rfl)
abbrev cX1_loudestWindow : ByteArray := prog_1_method_35_code
def yX1_loudestWindow : MethodName := ⟨RX1, "loudestWindow", "(II)I"⟩
def dkwX1_loudestWindow_6 : List UInt8 := [172]
abbrev dktX1_loudestWindow_6 : List UInt8 := dkwX1_loudestWindow_6 ++ []
def dkwX1_loudestWindow_5 : List UInt8 := [22, 5, 22, 7, 148, 158, 0, 11, 21, 10, 54, 9, 22, 5, 55, 7, 132, 10, 1, 167, 255, 171, 21, 9]
abbrev dktX1_loudestWindow_5 : List UInt8 := dkwX1_loudestWindow_5 ++ dktX1_loudestWindow_6
def dkwX1_loudestWindow_4 : List UInt8 := [4, 100, 185, 0, 27, 2, 0, 25, 4, 21, 10, 4, 100, 185, 0, 27, 2, 0, 105, 101, 97, 55, 5]
abbrev dktX1_loudestWindow_4 : List UInt8 := dkwX1_loudestWindow_4 ++ dktX1_loudestWindow_5
def dkwX1_loudestWindow_3 : List UInt8 := [100, 185, 0, 27, 2, 0, 25, 4, 21, 10, 28, 96, 4, 100, 185, 0, 27, 2, 0, 105, 25, 4, 21, 10]
abbrev dktX1_loudestWindow_3 : List UInt8 := dkwX1_loudestWindow_3 ++ dktX1_loudestWindow_4
def dkwX1_loudestWindow_2 : List UInt8 := [54, 9, 4, 54, 10, 21, 10, 28, 96, 17, 1, 0, 163, 0, 81, 22, 5, 25, 4, 21, 10, 28, 96, 4]
abbrev dktX1_loudestWindow_2 : List UInt8 := dkwX1_loudestWindow_2 ++ dktX1_loudestWindow_3
def dkwX1_loudestWindow_1 : List UInt8 := [182, 0, 241, 58, 4, 178, 0, 250, 25, 4, 3, 28, 4, 100, 182, 0, 244, 55, 5, 22, 5, 55, 7, 3]
abbrev dktX1_loudestWindow_1 : List UInt8 := dkwX1_loudestWindow_1 ++ dktX1_loudestWindow_2
def dkwX1_loudestWindow_0 : List UInt8 := [42, 27, 182, 0, 176, 78, 28, 133, 10, 20, 0, 254, 184, 0, 17, 184, 0, 21, 42, 180, 0, 43, 27]
abbrev dktX1_loudestWindow_0 : List UInt8 := dkwX1_loudestWindow_0 ++ dktX1_loudestWindow_1
theorem dksX1_loudestWindow_0 : cX1_loudestWindow.data.toList.drop 0 = dktX1_loudestWindow_0 := by decide +kernel
theorem dksX1_loudestWindow_1 : cX1_loudestWindow.data.toList.drop 23 = dktX1_loudestWindow_1 := dk_seg dksX1_loudestWindow_0 23 rfl rfl
theorem dksX1_loudestWindow_2 : cX1_loudestWindow.data.toList.drop 47 = dktX1_loudestWindow_2 := dk_seg dksX1_loudestWindow_1 24 rfl rfl
theorem dksX1_loudestWindow_3 : cX1_loudestWindow.data.toList.drop 71 = dktX1_loudestWindow_3 := dk_seg dksX1_loudestWindow_2 24 rfl rfl
theorem dksX1_loudestWindow_4 : cX1_loudestWindow.data.toList.drop 95 = dktX1_loudestWindow_4 := dk_seg dksX1_loudestWindow_3 24 rfl rfl
theorem dksX1_loudestWindow_5 : cX1_loudestWindow.data.toList.drop 118 = dktX1_loudestWindow_5 := dk_seg dksX1_loudestWindow_4 23 rfl rfl
theorem dksX1_loudestWindow_6 : cX1_loudestWindow.data.toList.drop 142 = dktX1_loudestWindow_6 := dk_seg dksX1_loudestWindow_5 24 rfl rfl
theorem dX1_loudestWindow_0 : decode cX1_loudestWindow 0 = .ok (.aload_n 0, 1) := dk_42 (dk_at dksX1_loudestWindow_0 0 rfl rfl)
theorem dX1_loudestWindow_1 : decode cX1_loudestWindow 1 = .ok (.iload_n 1, 1) := dk_27 (dk_at dksX1_loudestWindow_0 1 rfl rfl)
theorem dX1_loudestWindow_2 : decode cX1_loudestWindow 2 = .ok (.invokevirtual 176, 3) := dk_182 0 176 (dk_at dksX1_loudestWindow_0 2 rfl rfl)
theorem dX1_loudestWindow_5 : decode cX1_loudestWindow 5 = .ok (.astore_n 3, 1) := dk_78 (dk_at dksX1_loudestWindow_0 5 rfl rfl)
theorem dX1_loudestWindow_6 : decode cX1_loudestWindow 6 = .ok (.iload_n 2, 1) := dk_28 (dk_at dksX1_loudestWindow_0 6 rfl rfl)
theorem dX1_loudestWindow_7 : decode cX1_loudestWindow 7 = .ok (.i2l, 1) := dk_133 (dk_at dksX1_loudestWindow_0 7 rfl rfl)
theorem dX1_loudestWindow_8 : decode cX1_loudestWindow 8 = .ok (.lconst 1, 1) := dk_10 (dk_at dksX1_loudestWindow_0 8 rfl rfl)
theorem dX1_loudestWindow_9 : decode cX1_loudestWindow 9 = .ok (.ldc2_w 254, 3) := dk_20 0 254 (dk_at dksX1_loudestWindow_0 9 rfl rfl)
theorem dX1_loudestWindow_12 : decode cX1_loudestWindow 12 = .ok (.invokestatic 17, 3) := dk_184 0 17 (dk_at dksX1_loudestWindow_0 12 rfl rfl)
theorem dX1_loudestWindow_15 : decode cX1_loudestWindow 15 = .ok (.invokestatic 21, 3) := dk_184 0 21 (dk_at dksX1_loudestWindow_0 15 rfl rfl)
theorem dX1_loudestWindow_18 : decode cX1_loudestWindow 18 = .ok (.aload_n 0, 1) := dk_42 (dk_at dksX1_loudestWindow_0 18 rfl rfl)
theorem dX1_loudestWindow_19 : decode cX1_loudestWindow 19 = .ok (.getfield 43, 3) := dk_180 0 43 (dk_at dksX1_loudestWindow_0 19 rfl rfl)
theorem dX1_loudestWindow_22 : decode cX1_loudestWindow 22 = .ok (.iload_n 1, 1) := dk_27 (dk_at dksX1_loudestWindow_0 22 rfl rfl)
theorem dX1_loudestWindow_23 : decode cX1_loudestWindow 23 = .ok (.invokevirtual 241, 3) := dk_182 0 241 (dk_at dksX1_loudestWindow_1 0 rfl rfl)
theorem dX1_loudestWindow_26 : decode cX1_loudestWindow 26 = .ok (.astore 4, 2) := dk_58 4 (dk_at dksX1_loudestWindow_1 3 rfl rfl)
theorem dX1_loudestWindow_28 : decode cX1_loudestWindow 28 = .ok (.getstatic 250, 3) := dk_178 0 250 (dk_at dksX1_loudestWindow_1 5 rfl rfl)
theorem dX1_loudestWindow_31 : decode cX1_loudestWindow 31 = .ok (.aload 4, 2) := dk_25 4 (dk_at dksX1_loudestWindow_1 8 rfl rfl)
theorem dX1_loudestWindow_33 : decode cX1_loudestWindow 33 = .ok (.iconst 0, 1) := dk_3 (dk_at dksX1_loudestWindow_1 10 rfl rfl)
theorem dX1_loudestWindow_34 : decode cX1_loudestWindow 34 = .ok (.iload_n 2, 1) := dk_28 (dk_at dksX1_loudestWindow_1 11 rfl rfl)
theorem dX1_loudestWindow_35 : decode cX1_loudestWindow 35 = .ok (.iconst 1, 1) := dk_4 (dk_at dksX1_loudestWindow_1 12 rfl rfl)
theorem dX1_loudestWindow_36 : decode cX1_loudestWindow 36 = .ok (.isub, 1) := dk_100 (dk_at dksX1_loudestWindow_1 13 rfl rfl)
theorem dX1_loudestWindow_37 : decode cX1_loudestWindow 37 = .ok (.invokevirtual 244, 3) := dk_182 0 244 (dk_at dksX1_loudestWindow_1 14 rfl rfl)
theorem dX1_loudestWindow_40 : decode cX1_loudestWindow 40 = .ok (.lstore 5, 2) := dk_55 5 (dk_at dksX1_loudestWindow_1 17 rfl rfl)
theorem dX1_loudestWindow_42 : decode cX1_loudestWindow 42 = .ok (.lload 5, 2) := dk_22 5 (dk_at dksX1_loudestWindow_1 19 rfl rfl)
theorem dX1_loudestWindow_44 : decode cX1_loudestWindow 44 = .ok (.lstore 7, 2) := dk_55 7 (dk_at dksX1_loudestWindow_1 21 rfl rfl)
theorem dX1_loudestWindow_46 : decode cX1_loudestWindow 46 = .ok (.iconst 0, 1) := dk_3 (dk_at dksX1_loudestWindow_1 23 rfl rfl)
theorem dX1_loudestWindow_47 : decode cX1_loudestWindow 47 = .ok (.istore 9, 2) := dk_54 9 (dk_at dksX1_loudestWindow_2 0 rfl rfl)
theorem dX1_loudestWindow_49 : decode cX1_loudestWindow 49 = .ok (.iconst 1, 1) := dk_4 (dk_at dksX1_loudestWindow_2 2 rfl rfl)
theorem dX1_loudestWindow_50 : decode cX1_loudestWindow 50 = .ok (.istore 10, 2) := dk_54 10 (dk_at dksX1_loudestWindow_2 3 rfl rfl)
theorem dX1_loudestWindow_52 : decode cX1_loudestWindow 52 = .ok (.iload 10, 2) := dk_21 10 (dk_at dksX1_loudestWindow_2 5 rfl rfl)
theorem dX1_loudestWindow_54 : decode cX1_loudestWindow 54 = .ok (.iload_n 2, 1) := dk_28 (dk_at dksX1_loudestWindow_2 7 rfl rfl)
theorem dX1_loudestWindow_55 : decode cX1_loudestWindow 55 = .ok (.iadd, 1) := dk_96 (dk_at dksX1_loudestWindow_2 8 rfl rfl)
theorem dX1_loudestWindow_56 : decode cX1_loudestWindow 56 = .ok (.sipush 256, 3) := dk_17 1 0 (dk_at dksX1_loudestWindow_2 9 rfl rfl)
theorem dX1_loudestWindow_59 : decode cX1_loudestWindow 59 = .ok (.if_icmp .gt 81, 3) := dk_163 0 81 (dk_at dksX1_loudestWindow_2 12 rfl rfl)
theorem dX1_loudestWindow_62 : decode cX1_loudestWindow 62 = .ok (.lload 5, 2) := dk_22 5 (dk_at dksX1_loudestWindow_2 15 rfl rfl)
theorem dX1_loudestWindow_64 : decode cX1_loudestWindow 64 = .ok (.aload 4, 2) := dk_25 4 (dk_at dksX1_loudestWindow_2 17 rfl rfl)
theorem dX1_loudestWindow_66 : decode cX1_loudestWindow 66 = .ok (.iload 10, 2) := dk_21 10 (dk_at dksX1_loudestWindow_2 19 rfl rfl)
theorem dX1_loudestWindow_68 : decode cX1_loudestWindow 68 = .ok (.iload_n 2, 1) := dk_28 (dk_at dksX1_loudestWindow_2 21 rfl rfl)
theorem dX1_loudestWindow_69 : decode cX1_loudestWindow 69 = .ok (.iadd, 1) := dk_96 (dk_at dksX1_loudestWindow_2 22 rfl rfl)
theorem dX1_loudestWindow_70 : decode cX1_loudestWindow 70 = .ok (.iconst 1, 1) := dk_4 (dk_at dksX1_loudestWindow_2 23 rfl rfl)
theorem dX1_loudestWindow_71 : decode cX1_loudestWindow 71 = .ok (.isub, 1) := dk_100 (dk_at dksX1_loudestWindow_3 0 rfl rfl)
theorem dX1_loudestWindow_72 : decode cX1_loudestWindow 72 = .ok (.invokeinterface 27 2, 5) := by decide +kernel
theorem dX1_loudestWindow_77 : decode cX1_loudestWindow 77 = .ok (.aload 4, 2) := dk_25 4 (dk_at dksX1_loudestWindow_3 6 rfl rfl)
theorem dX1_loudestWindow_79 : decode cX1_loudestWindow 79 = .ok (.iload 10, 2) := dk_21 10 (dk_at dksX1_loudestWindow_3 8 rfl rfl)
theorem dX1_loudestWindow_81 : decode cX1_loudestWindow 81 = .ok (.iload_n 2, 1) := dk_28 (dk_at dksX1_loudestWindow_3 10 rfl rfl)
theorem dX1_loudestWindow_82 : decode cX1_loudestWindow 82 = .ok (.iadd, 1) := dk_96 (dk_at dksX1_loudestWindow_3 11 rfl rfl)
theorem dX1_loudestWindow_83 : decode cX1_loudestWindow 83 = .ok (.iconst 1, 1) := dk_4 (dk_at dksX1_loudestWindow_3 12 rfl rfl)
theorem dX1_loudestWindow_84 : decode cX1_loudestWindow 84 = .ok (.isub, 1) := dk_100 (dk_at dksX1_loudestWindow_3 13 rfl rfl)
theorem dX1_loudestWindow_85 : decode cX1_loudestWindow 85 = .ok (.invokeinterface 27 2, 5) := by decide +kernel
theorem dX1_loudestWindow_90 : decode cX1_loudestWindow 90 = .ok (.lmul, 1) := dk_105 (dk_at dksX1_loudestWindow_3 19 rfl rfl)
theorem dX1_loudestWindow_91 : decode cX1_loudestWindow 91 = .ok (.aload 4, 2) := dk_25 4 (dk_at dksX1_loudestWindow_3 20 rfl rfl)
theorem dX1_loudestWindow_93 : decode cX1_loudestWindow 93 = .ok (.iload 10, 2) := dk_21 10 (dk_at dksX1_loudestWindow_3 22 rfl rfl)
theorem dX1_loudestWindow_95 : decode cX1_loudestWindow 95 = .ok (.iconst 1, 1) := dk_4 (dk_at dksX1_loudestWindow_4 0 rfl rfl)
theorem dX1_loudestWindow_96 : decode cX1_loudestWindow 96 = .ok (.isub, 1) := dk_100 (dk_at dksX1_loudestWindow_4 1 rfl rfl)
theorem dX1_loudestWindow_97 : decode cX1_loudestWindow 97 = .ok (.invokeinterface 27 2, 5) := by decide +kernel
theorem dX1_loudestWindow_102 : decode cX1_loudestWindow 102 = .ok (.aload 4, 2) := dk_25 4 (dk_at dksX1_loudestWindow_4 7 rfl rfl)
theorem dX1_loudestWindow_104 : decode cX1_loudestWindow 104 = .ok (.iload 10, 2) := dk_21 10 (dk_at dksX1_loudestWindow_4 9 rfl rfl)
theorem dX1_loudestWindow_106 : decode cX1_loudestWindow 106 = .ok (.iconst 1, 1) := dk_4 (dk_at dksX1_loudestWindow_4 11 rfl rfl)
theorem dX1_loudestWindow_107 : decode cX1_loudestWindow 107 = .ok (.isub, 1) := dk_100 (dk_at dksX1_loudestWindow_4 12 rfl rfl)
theorem dX1_loudestWindow_108 : decode cX1_loudestWindow 108 = .ok (.invokeinterface 27 2, 5) := by decide +kernel
theorem dX1_loudestWindow_113 : decode cX1_loudestWindow 113 = .ok (.lmul, 1) := dk_105 (dk_at dksX1_loudestWindow_4 18 rfl rfl)
theorem dX1_loudestWindow_114 : decode cX1_loudestWindow 114 = .ok (.lsub, 1) := dk_101 (dk_at dksX1_loudestWindow_4 19 rfl rfl)
theorem dX1_loudestWindow_115 : decode cX1_loudestWindow 115 = .ok (.ladd, 1) := dk_97 (dk_at dksX1_loudestWindow_4 20 rfl rfl)
theorem dX1_loudestWindow_116 : decode cX1_loudestWindow 116 = .ok (.lstore 5, 2) := dk_55 5 (dk_at dksX1_loudestWindow_4 21 rfl rfl)
theorem dX1_loudestWindow_118 : decode cX1_loudestWindow 118 = .ok (.lload 5, 2) := dk_22 5 (dk_at dksX1_loudestWindow_5 0 rfl rfl)
theorem dX1_loudestWindow_120 : decode cX1_loudestWindow 120 = .ok (.lload 7, 2) := dk_22 7 (dk_at dksX1_loudestWindow_5 2 rfl rfl)
theorem dX1_loudestWindow_122 : decode cX1_loudestWindow 122 = .ok (.lcmp, 1) := dk_148 (dk_at dksX1_loudestWindow_5 4 rfl rfl)
theorem dX1_loudestWindow_123 : decode cX1_loudestWindow 123 = .ok (.ifCond .le 11, 3) := dk_158 0 11 (dk_at dksX1_loudestWindow_5 5 rfl rfl)
theorem dX1_loudestWindow_126 : decode cX1_loudestWindow 126 = .ok (.iload 10, 2) := dk_21 10 (dk_at dksX1_loudestWindow_5 8 rfl rfl)
theorem dX1_loudestWindow_128 : decode cX1_loudestWindow 128 = .ok (.istore 9, 2) := dk_54 9 (dk_at dksX1_loudestWindow_5 10 rfl rfl)
theorem dX1_loudestWindow_130 : decode cX1_loudestWindow 130 = .ok (.lload 5, 2) := dk_22 5 (dk_at dksX1_loudestWindow_5 12 rfl rfl)
theorem dX1_loudestWindow_132 : decode cX1_loudestWindow 132 = .ok (.lstore 7, 2) := dk_55 7 (dk_at dksX1_loudestWindow_5 14 rfl rfl)
theorem dX1_loudestWindow_134 : decode cX1_loudestWindow 134 = .ok (.iinc 10 1, 3) := dk_132 10 1 (dk_at dksX1_loudestWindow_5 16 rfl rfl)
theorem dX1_loudestWindow_137 : decode cX1_loudestWindow 137 = .ok (.goto (-85), 3) := dk_167 255 171 (dk_at dksX1_loudestWindow_5 19 rfl rfl)
theorem dX1_loudestWindow_140 : decode cX1_loudestWindow 140 = .ok (.iload 9, 2) := dk_21 9 (dk_at dksX1_loudestWindow_5 22 rfl rfl)
theorem dX1_loudestWindow_142 : decode cX1_loudestWindow 142 = .ok (.ireturn, 1) := dk_172 (dk_at dksX1_loudestWindow_6 0 rfl rfl)
abbrev cX1_correlation : ByteArray := prog_1_method_37_code
def yX1_correlation : MethodName := ⟨RX1, "correlation", "(III)J"⟩
def dkwX1_correlation_1 : List UInt8 := [184, 0, 17, 184, 0, 21, 25, 4, 25, 5, 29, 184, 1, 4, 173]
abbrev dktX1_correlation_1 : List UInt8 := dkwX1_correlation_1 ++ []
def dkwX1_correlation_0 : List UInt8 := [42, 27, 182, 0, 176, 58, 4, 42, 28, 182, 0, 176, 58, 5, 29, 133, 20, 1, 2, 20, 0, 15]
abbrev dktX1_correlation_0 : List UInt8 := dkwX1_correlation_0 ++ dktX1_correlation_1
theorem dksX1_correlation_0 : cX1_correlation.data.toList.drop 0 = dktX1_correlation_0 := by decide +kernel
theorem dksX1_correlation_1 : cX1_correlation.data.toList.drop 22 = dktX1_correlation_1 := dk_seg dksX1_correlation_0 22 rfl rfl
theorem dX1_correlation_0 : decode cX1_correlation 0 = .ok (.aload_n 0, 1) := dk_42 (dk_at dksX1_correlation_0 0 rfl rfl)
theorem dX1_correlation_1 : decode cX1_correlation 1 = .ok (.iload_n 1, 1) := dk_27 (dk_at dksX1_correlation_0 1 rfl rfl)
theorem dX1_correlation_2 : decode cX1_correlation 2 = .ok (.invokevirtual 176, 3) := dk_182 0 176 (dk_at dksX1_correlation_0 2 rfl rfl)
theorem dX1_correlation_5 : decode cX1_correlation 5 = .ok (.astore 4, 2) := dk_58 4 (dk_at dksX1_correlation_0 5 rfl rfl)
theorem dX1_correlation_7 : decode cX1_correlation 7 = .ok (.aload_n 0, 1) := dk_42 (dk_at dksX1_correlation_0 7 rfl rfl)
theorem dX1_correlation_8 : decode cX1_correlation 8 = .ok (.iload_n 2, 1) := dk_28 (dk_at dksX1_correlation_0 8 rfl rfl)
theorem dX1_correlation_9 : decode cX1_correlation 9 = .ok (.invokevirtual 176, 3) := dk_182 0 176 (dk_at dksX1_correlation_0 9 rfl rfl)
theorem dX1_correlation_12 : decode cX1_correlation 12 = .ok (.astore 5, 2) := dk_58 5 (dk_at dksX1_correlation_0 12 rfl rfl)
theorem dX1_correlation_14 : decode cX1_correlation 14 = .ok (.iload_n 3, 1) := dk_29 (dk_at dksX1_correlation_0 14 rfl rfl)
theorem dX1_correlation_15 : decode cX1_correlation 15 = .ok (.i2l, 1) := dk_133 (dk_at dksX1_correlation_0 15 rfl rfl)
theorem dX1_correlation_16 : decode cX1_correlation 16 = .ok (.ldc2_w 258, 3) := dk_20 1 2 (dk_at dksX1_correlation_0 16 rfl rfl)
theorem dX1_correlation_19 : decode cX1_correlation 19 = .ok (.ldc2_w 15, 3) := dk_20 0 15 (dk_at dksX1_correlation_0 19 rfl rfl)
theorem dX1_correlation_22 : decode cX1_correlation 22 = .ok (.invokestatic 17, 3) := dk_184 0 17 (dk_at dksX1_correlation_1 0 rfl rfl)
theorem dX1_correlation_25 : decode cX1_correlation 25 = .ok (.invokestatic 21, 3) := dk_184 0 21 (dk_at dksX1_correlation_1 3 rfl rfl)
theorem dX1_correlation_28 : decode cX1_correlation 28 = .ok (.aload 4, 2) := dk_25 4 (dk_at dksX1_correlation_1 6 rfl rfl)
theorem dX1_correlation_30 : decode cX1_correlation 30 = .ok (.aload 5, 2) := dk_25 5 (dk_at dksX1_correlation_1 8 rfl rfl)
theorem dX1_correlation_32 : decode cX1_correlation 32 = .ok (.iload_n 3, 1) := dk_29 (dk_at dksX1_correlation_1 10 rfl rfl)
theorem dX1_correlation_33 : decode cX1_correlation 33 = .ok (.invokestatic 260, 3) := dk_184 1 4 (dk_at dksX1_correlation_1 11 rfl rfl)
theorem dX1_correlation_36 : decode cX1_correlation 36 = .ok (.lreturn, 1) := dk_173 (dk_at dksX1_correlation_1 14 rfl rfl)
abbrev cX1_correlated : ByteArray := prog_1_method_36_code
def yX1_correlated : MethodName := ⟨RX1, "correlated", "(LTrackArray$Microphone;LTrackArray$Microphone;I)J"⟩
def dkwX1_correlated_1 : List UInt8 := [28, 96, 182, 1, 0, 133, 105, 97, 66, 132, 5, 1, 167, 255, 225, 33, 173]
abbrev dktX1_correlated_1 : List UInt8 := dkwX1_correlated_1 ++ []
def dkwX1_correlated_0 : List UInt8 := [9, 66, 3, 54, 5, 21, 5, 17, 1, 0, 162, 0, 29, 33, 42, 21, 5, 182, 1, 0, 133, 43, 21, 5]
abbrev dktX1_correlated_0 : List UInt8 := dkwX1_correlated_0 ++ dktX1_correlated_1
theorem dksX1_correlated_0 : cX1_correlated.data.toList.drop 0 = dktX1_correlated_0 := by decide +kernel
theorem dksX1_correlated_1 : cX1_correlated.data.toList.drop 24 = dktX1_correlated_1 := dk_seg dksX1_correlated_0 24 rfl rfl
theorem dX1_correlated_0 : decode cX1_correlated 0 = .ok (.lconst 0, 1) := dk_9 (dk_at dksX1_correlated_0 0 rfl rfl)
theorem dX1_correlated_1 : decode cX1_correlated 1 = .ok (.lstore_n 3, 1) := dk_66 (dk_at dksX1_correlated_0 1 rfl rfl)
theorem dX1_correlated_2 : decode cX1_correlated 2 = .ok (.iconst 0, 1) := dk_3 (dk_at dksX1_correlated_0 2 rfl rfl)
theorem dX1_correlated_3 : decode cX1_correlated 3 = .ok (.istore 5, 2) := dk_54 5 (dk_at dksX1_correlated_0 3 rfl rfl)
theorem dX1_correlated_5 : decode cX1_correlated 5 = .ok (.iload 5, 2) := dk_21 5 (dk_at dksX1_correlated_0 5 rfl rfl)
theorem dX1_correlated_7 : decode cX1_correlated 7 = .ok (.sipush 256, 3) := dk_17 1 0 (dk_at dksX1_correlated_0 7 rfl rfl)
theorem dX1_correlated_10 : decode cX1_correlated 10 = .ok (.if_icmp .ge 29, 3) := dk_162 0 29 (dk_at dksX1_correlated_0 10 rfl rfl)
theorem dX1_correlated_13 : decode cX1_correlated 13 = .ok (.lload_n 3, 1) := dk_33 (dk_at dksX1_correlated_0 13 rfl rfl)
theorem dX1_correlated_14 : decode cX1_correlated 14 = .ok (.aload_n 0, 1) := dk_42 (dk_at dksX1_correlated_0 14 rfl rfl)
theorem dX1_correlated_15 : decode cX1_correlated 15 = .ok (.iload 5, 2) := dk_21 5 (dk_at dksX1_correlated_0 15 rfl rfl)
theorem dX1_correlated_17 : decode cX1_correlated 17 = .ok (.invokevirtual 256, 3) := dk_182 1 0 (dk_at dksX1_correlated_0 17 rfl rfl)
theorem dX1_correlated_20 : decode cX1_correlated 20 = .ok (.i2l, 1) := dk_133 (dk_at dksX1_correlated_0 20 rfl rfl)
theorem dX1_correlated_21 : decode cX1_correlated 21 = .ok (.aload_n 1, 1) := dk_43 (dk_at dksX1_correlated_0 21 rfl rfl)
theorem dX1_correlated_22 : decode cX1_correlated 22 = .ok (.iload 5, 2) := dk_21 5 (dk_at dksX1_correlated_0 22 rfl rfl)
theorem dX1_correlated_24 : decode cX1_correlated 24 = .ok (.iload_n 2, 1) := dk_28 (dk_at dksX1_correlated_1 0 rfl rfl)
theorem dX1_correlated_25 : decode cX1_correlated 25 = .ok (.iadd, 1) := dk_96 (dk_at dksX1_correlated_1 1 rfl rfl)
theorem dX1_correlated_26 : decode cX1_correlated 26 = .ok (.invokevirtual 256, 3) := dk_182 1 0 (dk_at dksX1_correlated_1 2 rfl rfl)
theorem dX1_correlated_29 : decode cX1_correlated 29 = .ok (.i2l, 1) := dk_133 (dk_at dksX1_correlated_1 5 rfl rfl)
theorem dX1_correlated_30 : decode cX1_correlated 30 = .ok (.lmul, 1) := dk_105 (dk_at dksX1_correlated_1 6 rfl rfl)
theorem dX1_correlated_31 : decode cX1_correlated 31 = .ok (.ladd, 1) := dk_97 (dk_at dksX1_correlated_1 7 rfl rfl)
theorem dX1_correlated_32 : decode cX1_correlated 32 = .ok (.lstore_n 3, 1) := dk_66 (dk_at dksX1_correlated_1 8 rfl rfl)
theorem dX1_correlated_33 : decode cX1_correlated 33 = .ok (.iinc 5 1, 3) := dk_132 5 1 (dk_at dksX1_correlated_1 9 rfl rfl)
theorem dX1_correlated_36 : decode cX1_correlated 36 = .ok (.goto (-31), 3) := dk_167 255 225 (dk_at dksX1_correlated_1 12 rfl rfl)
theorem dX1_correlated_39 : decode cX1_correlated 39 = .ok (.lload_n 3, 1) := dk_33 (dk_at dksX1_correlated_1 15 rfl rfl)
theorem dX1_correlated_40 : decode cX1_correlated 40 = .ok (.lreturn, 1) := dk_173 (dk_at dksX1_correlated_1 16 rfl rfl)
abbrev cX1_bestLag : ByteArray := prog_1_method_39_code
def yX1_bestLag : MethodName := ⟨RX1, "bestLag", "(III)I"⟩
def dkwX1_bestLag_1 : List UInt8 := [184, 0, 21, 29, 25, 4, 25, 5, 186, 1, 12, 0, 0, 184, 1, 15, 172]
abbrev dktX1_bestLag_1 : List UInt8 := dkwX1_bestLag_1 ++ []
def dkwX1_bestLag_0 : List UInt8 := [42, 27, 182, 0, 176, 58, 4, 42, 28, 182, 0, 176, 58, 5, 29, 133, 9, 20, 0, 15, 184, 0, 17]
abbrev dktX1_bestLag_0 : List UInt8 := dkwX1_bestLag_0 ++ dktX1_bestLag_1
theorem dksX1_bestLag_0 : cX1_bestLag.data.toList.drop 0 = dktX1_bestLag_0 := by decide +kernel
theorem dksX1_bestLag_1 : cX1_bestLag.data.toList.drop 23 = dktX1_bestLag_1 := dk_seg dksX1_bestLag_0 23 rfl rfl
theorem dX1_bestLag_0 : decode cX1_bestLag 0 = .ok (.aload_n 0, 1) := dk_42 (dk_at dksX1_bestLag_0 0 rfl rfl)
theorem dX1_bestLag_1 : decode cX1_bestLag 1 = .ok (.iload_n 1, 1) := dk_27 (dk_at dksX1_bestLag_0 1 rfl rfl)
theorem dX1_bestLag_2 : decode cX1_bestLag 2 = .ok (.invokevirtual 176, 3) := dk_182 0 176 (dk_at dksX1_bestLag_0 2 rfl rfl)
theorem dX1_bestLag_5 : decode cX1_bestLag 5 = .ok (.astore 4, 2) := dk_58 4 (dk_at dksX1_bestLag_0 5 rfl rfl)
theorem dX1_bestLag_7 : decode cX1_bestLag 7 = .ok (.aload_n 0, 1) := dk_42 (dk_at dksX1_bestLag_0 7 rfl rfl)
theorem dX1_bestLag_8 : decode cX1_bestLag 8 = .ok (.iload_n 2, 1) := dk_28 (dk_at dksX1_bestLag_0 8 rfl rfl)
theorem dX1_bestLag_9 : decode cX1_bestLag 9 = .ok (.invokevirtual 176, 3) := dk_182 0 176 (dk_at dksX1_bestLag_0 9 rfl rfl)
theorem dX1_bestLag_12 : decode cX1_bestLag 12 = .ok (.astore 5, 2) := dk_58 5 (dk_at dksX1_bestLag_0 12 rfl rfl)
theorem dX1_bestLag_14 : decode cX1_bestLag 14 = .ok (.iload_n 3, 1) := dk_29 (dk_at dksX1_bestLag_0 14 rfl rfl)
theorem dX1_bestLag_15 : decode cX1_bestLag 15 = .ok (.i2l, 1) := dk_133 (dk_at dksX1_bestLag_0 15 rfl rfl)
theorem dX1_bestLag_16 : decode cX1_bestLag 16 = .ok (.lconst 0, 1) := dk_9 (dk_at dksX1_bestLag_0 16 rfl rfl)
theorem dX1_bestLag_17 : decode cX1_bestLag 17 = .ok (.ldc2_w 15, 3) := dk_20 0 15 (dk_at dksX1_bestLag_0 17 rfl rfl)
theorem dX1_bestLag_20 : decode cX1_bestLag 20 = .ok (.invokestatic 17, 3) := dk_184 0 17 (dk_at dksX1_bestLag_0 20 rfl rfl)
theorem dX1_bestLag_23 : decode cX1_bestLag 23 = .ok (.invokestatic 21, 3) := dk_184 0 21 (dk_at dksX1_bestLag_1 0 rfl rfl)
theorem dX1_bestLag_26 : decode cX1_bestLag 26 = .ok (.iload_n 3, 1) := dk_29 (dk_at dksX1_bestLag_1 3 rfl rfl)
theorem dX1_bestLag_27 : decode cX1_bestLag 27 = .ok (.aload 4, 2) := dk_25 4 (dk_at dksX1_bestLag_1 4 rfl rfl)
theorem dX1_bestLag_29 : decode cX1_bestLag 29 = .ok (.aload 5, 2) := dk_25 5 (dk_at dksX1_bestLag_1 6 rfl rfl)
theorem dX1_bestLag_31 : decode cX1_bestLag 31 = .ok (.invokedynamic 268, 5) := by decide +kernel
theorem dX1_bestLag_36 : decode cX1_bestLag 36 = .ok (.invokestatic 271, 3) := dk_184 1 15 (dk_at dksX1_bestLag_1 13 rfl rfl)
theorem dX1_bestLag_39 : decode cX1_bestLag 39 = .ok (.ireturn, 1) := dk_172 (dk_at dksX1_bestLag_1 16 rfl rfl)
abbrev cX1_lambda_bestLag_0 : ByteArray := prog_1_method_69_code
def yX1_lambda_bestLag_0 : MethodName := ⟨RX1, "lambda$bestLag$0", "(LTrackArray$Microphone;LTrackArray$Microphone;I)J"⟩
def dkwX1_lambda_bestLag_0_0 : List UInt8 := [42, 43, 28, 184, 1, 4, 173]
abbrev dktX1_lambda_bestLag_0_0 : List UInt8 := dkwX1_lambda_bestLag_0_0 ++ []
theorem dksX1_lambda_bestLag_0_0 : cX1_lambda_bestLag_0.data.toList.drop 0 = dktX1_lambda_bestLag_0_0 := by decide +kernel
theorem dX1_lambda_bestLag_0_0 : decode cX1_lambda_bestLag_0 0 = .ok (.aload_n 0, 1) := dk_42 (dk_at dksX1_lambda_bestLag_0_0 0 rfl rfl)
theorem dX1_lambda_bestLag_0_1 : decode cX1_lambda_bestLag_0 1 = .ok (.aload_n 1, 1) := dk_43 (dk_at dksX1_lambda_bestLag_0_0 1 rfl rfl)
theorem dX1_lambda_bestLag_0_2 : decode cX1_lambda_bestLag_0 2 = .ok (.iload_n 2, 1) := dk_28 (dk_at dksX1_lambda_bestLag_0_0 2 rfl rfl)
theorem dX1_lambda_bestLag_0_3 : decode cX1_lambda_bestLag_0 3 = .ok (.invokestatic 260, 3) := dk_184 1 4 (dk_at dksX1_lambda_bestLag_0_0 3 rfl rfl)
theorem dX1_lambda_bestLag_0_6 : decode cX1_lambda_bestLag_0 6 = .ok (.lreturn, 1) := dk_173 (dk_at dksX1_lambda_bestLag_0_0 6 rfl rfl)
abbrev cX1_bestAround : ByteArray := prog_1_method_38_code
def yX1_bestAround : MethodName := ⟨RX1, "bestAround", "(ILTrackArray$Worth;)I"⟩
def dkwX1_bestAround_3 : List UInt8 := [167, 255, 199, 28, 172]
abbrev dktX1_bestAround_3 : List UInt8 := dkwX1_bestAround_3 ++ []
def dkwX1_bestAround_2 : List UInt8 := [21, 5, 116, 61, 22, 6, 66, 22, 8, 33, 148, 158, 0, 9, 21, 5, 61, 22, 8, 66, 132, 5, 1]
abbrev dktX1_bestAround_2 : List UInt8 := dkwX1_bestAround_2 ++ dktX1_bestAround_3
def dkwX1_bestAround_1 : List UInt8 := [185, 1, 8, 2, 0, 55, 6, 43, 21, 5, 185, 1, 8, 2, 0, 55, 8, 22, 6, 33, 148, 158, 0, 10]
abbrev dktX1_bestAround_1 : List UInt8 := dkwX1_bestAround_1 ++ dktX1_bestAround_2
def dkwX1_bestAround_0 : List UInt8 := [3, 61, 43, 3, 185, 1, 8, 2, 0, 66, 4, 54, 5, 21, 5, 26, 163, 0, 57, 43, 21, 5, 116]
abbrev dktX1_bestAround_0 : List UInt8 := dkwX1_bestAround_0 ++ dktX1_bestAround_1
theorem dksX1_bestAround_0 : cX1_bestAround.data.toList.drop 0 = dktX1_bestAround_0 := by decide +kernel
theorem dksX1_bestAround_1 : cX1_bestAround.data.toList.drop 23 = dktX1_bestAround_1 := dk_seg dksX1_bestAround_0 23 rfl rfl
theorem dksX1_bestAround_2 : cX1_bestAround.data.toList.drop 47 = dktX1_bestAround_2 := dk_seg dksX1_bestAround_1 24 rfl rfl
theorem dksX1_bestAround_3 : cX1_bestAround.data.toList.drop 70 = dktX1_bestAround_3 := dk_seg dksX1_bestAround_2 23 rfl rfl
theorem dX1_bestAround_0 : decode cX1_bestAround 0 = .ok (.iconst 0, 1) := dk_3 (dk_at dksX1_bestAround_0 0 rfl rfl)
theorem dX1_bestAround_1 : decode cX1_bestAround 1 = .ok (.istore_n 2, 1) := dk_61 (dk_at dksX1_bestAround_0 1 rfl rfl)
theorem dX1_bestAround_2 : decode cX1_bestAround 2 = .ok (.aload_n 1, 1) := dk_43 (dk_at dksX1_bestAround_0 2 rfl rfl)
theorem dX1_bestAround_3 : decode cX1_bestAround 3 = .ok (.iconst 0, 1) := dk_3 (dk_at dksX1_bestAround_0 3 rfl rfl)
theorem dX1_bestAround_4 : decode cX1_bestAround 4 = .ok (.invokeinterface 264 2, 5) := by decide +kernel
theorem dX1_bestAround_9 : decode cX1_bestAround 9 = .ok (.lstore_n 3, 1) := dk_66 (dk_at dksX1_bestAround_0 9 rfl rfl)
theorem dX1_bestAround_10 : decode cX1_bestAround 10 = .ok (.iconst 1, 1) := dk_4 (dk_at dksX1_bestAround_0 10 rfl rfl)
theorem dX1_bestAround_11 : decode cX1_bestAround 11 = .ok (.istore 5, 2) := dk_54 5 (dk_at dksX1_bestAround_0 11 rfl rfl)
theorem dX1_bestAround_13 : decode cX1_bestAround 13 = .ok (.iload 5, 2) := dk_21 5 (dk_at dksX1_bestAround_0 13 rfl rfl)
theorem dX1_bestAround_15 : decode cX1_bestAround 15 = .ok (.iload_n 0, 1) := dk_26 (dk_at dksX1_bestAround_0 15 rfl rfl)
theorem dX1_bestAround_16 : decode cX1_bestAround 16 = .ok (.if_icmp .gt 57, 3) := dk_163 0 57 (dk_at dksX1_bestAround_0 16 rfl rfl)
theorem dX1_bestAround_19 : decode cX1_bestAround 19 = .ok (.aload_n 1, 1) := dk_43 (dk_at dksX1_bestAround_0 19 rfl rfl)
theorem dX1_bestAround_20 : decode cX1_bestAround 20 = .ok (.iload 5, 2) := dk_21 5 (dk_at dksX1_bestAround_0 20 rfl rfl)
theorem dX1_bestAround_22 : decode cX1_bestAround 22 = .ok (.ineg, 1) := dk_116 (dk_at dksX1_bestAround_0 22 rfl rfl)
theorem dX1_bestAround_23 : decode cX1_bestAround 23 = .ok (.invokeinterface 264 2, 5) := by decide +kernel
theorem dX1_bestAround_28 : decode cX1_bestAround 28 = .ok (.lstore 6, 2) := dk_55 6 (dk_at dksX1_bestAround_1 5 rfl rfl)
theorem dX1_bestAround_30 : decode cX1_bestAround 30 = .ok (.aload_n 1, 1) := dk_43 (dk_at dksX1_bestAround_1 7 rfl rfl)
theorem dX1_bestAround_31 : decode cX1_bestAround 31 = .ok (.iload 5, 2) := dk_21 5 (dk_at dksX1_bestAround_1 8 rfl rfl)
theorem dX1_bestAround_33 : decode cX1_bestAround 33 = .ok (.invokeinterface 264 2, 5) := by decide +kernel
theorem dX1_bestAround_38 : decode cX1_bestAround 38 = .ok (.lstore 8, 2) := dk_55 8 (dk_at dksX1_bestAround_1 15 rfl rfl)
theorem dX1_bestAround_40 : decode cX1_bestAround 40 = .ok (.lload 6, 2) := dk_22 6 (dk_at dksX1_bestAround_1 17 rfl rfl)
theorem dX1_bestAround_42 : decode cX1_bestAround 42 = .ok (.lload_n 3, 1) := dk_33 (dk_at dksX1_bestAround_1 19 rfl rfl)
theorem dX1_bestAround_43 : decode cX1_bestAround 43 = .ok (.lcmp, 1) := dk_148 (dk_at dksX1_bestAround_1 20 rfl rfl)
theorem dX1_bestAround_44 : decode cX1_bestAround 44 = .ok (.ifCond .le 10, 3) := dk_158 0 10 (dk_at dksX1_bestAround_1 21 rfl rfl)
theorem dX1_bestAround_47 : decode cX1_bestAround 47 = .ok (.iload 5, 2) := dk_21 5 (dk_at dksX1_bestAround_2 0 rfl rfl)
theorem dX1_bestAround_49 : decode cX1_bestAround 49 = .ok (.ineg, 1) := dk_116 (dk_at dksX1_bestAround_2 2 rfl rfl)
theorem dX1_bestAround_50 : decode cX1_bestAround 50 = .ok (.istore_n 2, 1) := dk_61 (dk_at dksX1_bestAround_2 3 rfl rfl)
theorem dX1_bestAround_51 : decode cX1_bestAround 51 = .ok (.lload 6, 2) := dk_22 6 (dk_at dksX1_bestAround_2 4 rfl rfl)
theorem dX1_bestAround_53 : decode cX1_bestAround 53 = .ok (.lstore_n 3, 1) := dk_66 (dk_at dksX1_bestAround_2 6 rfl rfl)
theorem dX1_bestAround_54 : decode cX1_bestAround 54 = .ok (.lload 8, 2) := dk_22 8 (dk_at dksX1_bestAround_2 7 rfl rfl)
theorem dX1_bestAround_56 : decode cX1_bestAround 56 = .ok (.lload_n 3, 1) := dk_33 (dk_at dksX1_bestAround_2 9 rfl rfl)
theorem dX1_bestAround_57 : decode cX1_bestAround 57 = .ok (.lcmp, 1) := dk_148 (dk_at dksX1_bestAround_2 10 rfl rfl)
theorem dX1_bestAround_58 : decode cX1_bestAround 58 = .ok (.ifCond .le 9, 3) := dk_158 0 9 (dk_at dksX1_bestAround_2 11 rfl rfl)
theorem dX1_bestAround_61 : decode cX1_bestAround 61 = .ok (.iload 5, 2) := dk_21 5 (dk_at dksX1_bestAround_2 14 rfl rfl)
theorem dX1_bestAround_63 : decode cX1_bestAround 63 = .ok (.istore_n 2, 1) := dk_61 (dk_at dksX1_bestAround_2 16 rfl rfl)
theorem dX1_bestAround_64 : decode cX1_bestAround 64 = .ok (.lload 8, 2) := dk_22 8 (dk_at dksX1_bestAround_2 17 rfl rfl)
theorem dX1_bestAround_66 : decode cX1_bestAround 66 = .ok (.lstore_n 3, 1) := dk_66 (dk_at dksX1_bestAround_2 19 rfl rfl)
theorem dX1_bestAround_67 : decode cX1_bestAround 67 = .ok (.iinc 5 1, 3) := dk_132 5 1 (dk_at dksX1_bestAround_2 20 rfl rfl)
theorem dX1_bestAround_70 : decode cX1_bestAround 70 = .ok (.goto (-57), 3) := dk_167 255 199 (dk_at dksX1_bestAround_3 0 rfl rfl)
theorem dX1_bestAround_73 : decode cX1_bestAround 73 = .ok (.iload_n 2, 1) := dk_28 (dk_at dksX1_bestAround_3 3 rfl rfl)
theorem dX1_bestAround_74 : decode cX1_bestAround 74 = .ok (.ireturn, 1) := dk_172 (dk_at dksX1_bestAround_3 4 rfl rfl)
abbrev cX1_focusOnVehicle : ByteArray := prog_1_method_40_code
def yX1_focusOnVehicle : MethodName := ⟨RX1, "focusOnVehicle", "(III)V"⟩
def dkwX1_focusOnVehicle_1 : List UInt8 := [25, 4, 28, 29, 183, 1, 21, 181, 1, 24, 177]
abbrev dktX1_focusOnVehicle_1 : List UInt8 := dkwX1_focusOnVehicle_1 ++ []
def dkwX1_focusOnVehicle_0 : List UInt8 := [42, 27, 182, 0, 207, 58, 4, 28, 29, 184, 0, 138, 184, 0, 21, 42, 180, 0, 43, 187, 1, 19, 89]
abbrev dktX1_focusOnVehicle_0 : List UInt8 := dkwX1_focusOnVehicle_0 ++ dktX1_focusOnVehicle_1
theorem dksX1_focusOnVehicle_0 : cX1_focusOnVehicle.data.toList.drop 0 = dktX1_focusOnVehicle_0 := by decide +kernel
theorem dksX1_focusOnVehicle_1 : cX1_focusOnVehicle.data.toList.drop 23 = dktX1_focusOnVehicle_1 := dk_seg dksX1_focusOnVehicle_0 23 rfl rfl
theorem dX1_focusOnVehicle_0 : decode cX1_focusOnVehicle 0 = .ok (.aload_n 0, 1) := dk_42 (dk_at dksX1_focusOnVehicle_0 0 rfl rfl)
theorem dX1_focusOnVehicle_1 : decode cX1_focusOnVehicle 1 = .ok (.iload_n 1, 1) := dk_27 (dk_at dksX1_focusOnVehicle_0 1 rfl rfl)
theorem dX1_focusOnVehicle_2 : decode cX1_focusOnVehicle 2 = .ok (.invokevirtual 207, 3) := dk_182 0 207 (dk_at dksX1_focusOnVehicle_0 2 rfl rfl)
theorem dX1_focusOnVehicle_5 : decode cX1_focusOnVehicle 5 = .ok (.astore 4, 2) := dk_58 4 (dk_at dksX1_focusOnVehicle_0 5 rfl rfl)
theorem dX1_focusOnVehicle_7 : decode cX1_focusOnVehicle 7 = .ok (.iload_n 2, 1) := dk_28 (dk_at dksX1_focusOnVehicle_0 7 rfl rfl)
theorem dX1_focusOnVehicle_8 : decode cX1_focusOnVehicle 8 = .ok (.iload_n 3, 1) := dk_29 (dk_at dksX1_focusOnVehicle_0 8 rfl rfl)
theorem dX1_focusOnVehicle_9 : decode cX1_focusOnVehicle 9 = .ok (.invokestatic 138, 3) := dk_184 0 138 (dk_at dksX1_focusOnVehicle_0 9 rfl rfl)
theorem dX1_focusOnVehicle_12 : decode cX1_focusOnVehicle 12 = .ok (.invokestatic 21, 3) := dk_184 0 21 (dk_at dksX1_focusOnVehicle_0 12 rfl rfl)
theorem dX1_focusOnVehicle_15 : decode cX1_focusOnVehicle 15 = .ok (.aload_n 0, 1) := dk_42 (dk_at dksX1_focusOnVehicle_0 15 rfl rfl)
theorem dX1_focusOnVehicle_16 : decode cX1_focusOnVehicle 16 = .ok (.getfield 43, 3) := dk_180 0 43 (dk_at dksX1_focusOnVehicle_0 16 rfl rfl)
theorem dX1_focusOnVehicle_19 : decode cX1_focusOnVehicle 19 = .ok (.new 275, 3) := dk_187 1 19 (dk_at dksX1_focusOnVehicle_0 19 rfl rfl)
theorem dX1_focusOnVehicle_22 : decode cX1_focusOnVehicle 22 = .ok (.dup, 1) := dk_89 (dk_at dksX1_focusOnVehicle_0 22 rfl rfl)
theorem dX1_focusOnVehicle_23 : decode cX1_focusOnVehicle 23 = .ok (.aload 4, 2) := dk_25 4 (dk_at dksX1_focusOnVehicle_1 0 rfl rfl)
theorem dX1_focusOnVehicle_25 : decode cX1_focusOnVehicle 25 = .ok (.iload_n 2, 1) := dk_28 (dk_at dksX1_focusOnVehicle_1 2 rfl rfl)
theorem dX1_focusOnVehicle_26 : decode cX1_focusOnVehicle 26 = .ok (.iload_n 3, 1) := dk_29 (dk_at dksX1_focusOnVehicle_1 3 rfl rfl)
theorem dX1_focusOnVehicle_27 : decode cX1_focusOnVehicle 27 = .ok (.invokespecial 277, 3) := dk_183 1 21 (dk_at dksX1_focusOnVehicle_1 4 rfl rfl)
theorem dX1_focusOnVehicle_30 : decode cX1_focusOnVehicle 30 = .ok (.putfield 280, 3) := dk_181 1 24 (dk_at dksX1_focusOnVehicle_1 7 rfl rfl)
theorem dX1_focusOnVehicle_33 : decode cX1_focusOnVehicle 33 = .ok (.return_, 1) := dk_177 (dk_at dksX1_focusOnVehicle_1 10 rfl rfl)
abbrev cX1_focusOnPlace : ByteArray := prog_1_method_41_code
def yX1_focusOnPlace : MethodName := ⟨RX1, "focusOnPlace", "(III)V"⟩
def dkwX1_focusOnPlace_2 : List UInt8 := [184, 0, 21, 42, 180, 0, 43, 187, 1, 28, 89, 27, 28, 29, 183, 1, 30, 181, 1, 24, 177]
abbrev dktX1_focusOnPlace_2 : List UInt8 := dkwX1_focusOnPlace_2 ++ []
def dkwX1_focusOnPlace_1 : List UInt8 := [184, 0, 17, 153, 0, 19, 29, 133, 9, 20, 0, 134, 184, 0, 17, 153, 0, 7, 4, 167, 0, 4, 3]
abbrev dktX1_focusOnPlace_1 : List UInt8 := dkwX1_focusOnPlace_1 ++ dktX1_focusOnPlace_2
def dkwX1_focusOnPlace_0 : List UInt8 := [27, 133, 20, 0, 115, 20, 0, 117, 184, 0, 17, 153, 0, 33, 28, 133, 20, 0, 88, 20, 0, 123]
abbrev dktX1_focusOnPlace_0 : List UInt8 := dkwX1_focusOnPlace_0 ++ dktX1_focusOnPlace_1
theorem dksX1_focusOnPlace_0 : cX1_focusOnPlace.data.toList.drop 0 = dktX1_focusOnPlace_0 := by decide +kernel
theorem dksX1_focusOnPlace_1 : cX1_focusOnPlace.data.toList.drop 22 = dktX1_focusOnPlace_1 := dk_seg dksX1_focusOnPlace_0 22 rfl rfl
theorem dksX1_focusOnPlace_2 : cX1_focusOnPlace.data.toList.drop 45 = dktX1_focusOnPlace_2 := dk_seg dksX1_focusOnPlace_1 23 rfl rfl
theorem dX1_focusOnPlace_0 : decode cX1_focusOnPlace 0 = .ok (.iload_n 1, 1) := dk_27 (dk_at dksX1_focusOnPlace_0 0 rfl rfl)
theorem dX1_focusOnPlace_1 : decode cX1_focusOnPlace 1 = .ok (.i2l, 1) := dk_133 (dk_at dksX1_focusOnPlace_0 1 rfl rfl)
theorem dX1_focusOnPlace_2 : decode cX1_focusOnPlace 2 = .ok (.ldc2_w 115, 3) := dk_20 0 115 (dk_at dksX1_focusOnPlace_0 2 rfl rfl)
theorem dX1_focusOnPlace_5 : decode cX1_focusOnPlace 5 = .ok (.ldc2_w 117, 3) := dk_20 0 117 (dk_at dksX1_focusOnPlace_0 5 rfl rfl)
theorem dX1_focusOnPlace_8 : decode cX1_focusOnPlace 8 = .ok (.invokestatic 17, 3) := dk_184 0 17 (dk_at dksX1_focusOnPlace_0 8 rfl rfl)
theorem dX1_focusOnPlace_11 : decode cX1_focusOnPlace 11 = .ok (.ifCond .eq 33, 3) := dk_153 0 33 (dk_at dksX1_focusOnPlace_0 11 rfl rfl)
theorem dX1_focusOnPlace_14 : decode cX1_focusOnPlace 14 = .ok (.iload_n 2, 1) := dk_28 (dk_at dksX1_focusOnPlace_0 14 rfl rfl)
theorem dX1_focusOnPlace_15 : decode cX1_focusOnPlace 15 = .ok (.i2l, 1) := dk_133 (dk_at dksX1_focusOnPlace_0 15 rfl rfl)
theorem dX1_focusOnPlace_16 : decode cX1_focusOnPlace 16 = .ok (.ldc2_w 88, 3) := dk_20 0 88 (dk_at dksX1_focusOnPlace_0 16 rfl rfl)
theorem dX1_focusOnPlace_19 : decode cX1_focusOnPlace 19 = .ok (.ldc2_w 123, 3) := dk_20 0 123 (dk_at dksX1_focusOnPlace_0 19 rfl rfl)
theorem dX1_focusOnPlace_22 : decode cX1_focusOnPlace 22 = .ok (.invokestatic 17, 3) := dk_184 0 17 (dk_at dksX1_focusOnPlace_1 0 rfl rfl)
theorem dX1_focusOnPlace_25 : decode cX1_focusOnPlace 25 = .ok (.ifCond .eq 19, 3) := dk_153 0 19 (dk_at dksX1_focusOnPlace_1 3 rfl rfl)
theorem dX1_focusOnPlace_28 : decode cX1_focusOnPlace 28 = .ok (.iload_n 3, 1) := dk_29 (dk_at dksX1_focusOnPlace_1 6 rfl rfl)
theorem dX1_focusOnPlace_29 : decode cX1_focusOnPlace 29 = .ok (.i2l, 1) := dk_133 (dk_at dksX1_focusOnPlace_1 7 rfl rfl)
theorem dX1_focusOnPlace_30 : decode cX1_focusOnPlace 30 = .ok (.lconst 0, 1) := dk_9 (dk_at dksX1_focusOnPlace_1 8 rfl rfl)
theorem dX1_focusOnPlace_31 : decode cX1_focusOnPlace 31 = .ok (.ldc2_w 134, 3) := dk_20 0 134 (dk_at dksX1_focusOnPlace_1 9 rfl rfl)
theorem dX1_focusOnPlace_34 : decode cX1_focusOnPlace 34 = .ok (.invokestatic 17, 3) := dk_184 0 17 (dk_at dksX1_focusOnPlace_1 12 rfl rfl)
theorem dX1_focusOnPlace_37 : decode cX1_focusOnPlace 37 = .ok (.ifCond .eq 7, 3) := dk_153 0 7 (dk_at dksX1_focusOnPlace_1 15 rfl rfl)
theorem dX1_focusOnPlace_40 : decode cX1_focusOnPlace 40 = .ok (.iconst 1, 1) := dk_4 (dk_at dksX1_focusOnPlace_1 18 rfl rfl)
theorem dX1_focusOnPlace_41 : decode cX1_focusOnPlace 41 = .ok (.goto 4, 3) := dk_167 0 4 (dk_at dksX1_focusOnPlace_1 19 rfl rfl)
theorem dX1_focusOnPlace_44 : decode cX1_focusOnPlace 44 = .ok (.iconst 0, 1) := dk_3 (dk_at dksX1_focusOnPlace_1 22 rfl rfl)
theorem dX1_focusOnPlace_45 : decode cX1_focusOnPlace 45 = .ok (.invokestatic 21, 3) := dk_184 0 21 (dk_at dksX1_focusOnPlace_2 0 rfl rfl)
theorem dX1_focusOnPlace_48 : decode cX1_focusOnPlace 48 = .ok (.aload_n 0, 1) := dk_42 (dk_at dksX1_focusOnPlace_2 3 rfl rfl)
theorem dX1_focusOnPlace_49 : decode cX1_focusOnPlace 49 = .ok (.getfield 43, 3) := dk_180 0 43 (dk_at dksX1_focusOnPlace_2 4 rfl rfl)
theorem dX1_focusOnPlace_52 : decode cX1_focusOnPlace 52 = .ok (.new 284, 3) := dk_187 1 28 (dk_at dksX1_focusOnPlace_2 7 rfl rfl)
theorem dX1_focusOnPlace_55 : decode cX1_focusOnPlace 55 = .ok (.dup, 1) := dk_89 (dk_at dksX1_focusOnPlace_2 10 rfl rfl)
theorem dX1_focusOnPlace_56 : decode cX1_focusOnPlace 56 = .ok (.iload_n 1, 1) := dk_27 (dk_at dksX1_focusOnPlace_2 11 rfl rfl)
theorem dX1_focusOnPlace_57 : decode cX1_focusOnPlace 57 = .ok (.iload_n 2, 1) := dk_28 (dk_at dksX1_focusOnPlace_2 12 rfl rfl)
theorem dX1_focusOnPlace_58 : decode cX1_focusOnPlace 58 = .ok (.iload_n 3, 1) := dk_29 (dk_at dksX1_focusOnPlace_2 13 rfl rfl)
theorem dX1_focusOnPlace_59 : decode cX1_focusOnPlace 59 = .ok (.invokespecial 286, 3) := dk_183 1 30 (dk_at dksX1_focusOnPlace_2 14 rfl rfl)
theorem dX1_focusOnPlace_62 : decode cX1_focusOnPlace 62 = .ok (.putfield 280, 3) := dk_181 1 24 (dk_at dksX1_focusOnPlace_2 17 rfl rfl)
theorem dX1_focusOnPlace_65 : decode cX1_focusOnPlace 65 = .ok (.return_, 1) := dk_177 (dk_at dksX1_focusOnPlace_2 20 rfl rfl)
abbrev cX1_focusOnDirection : ByteArray := prog_1_method_43_code
def yX1_focusOnDirection : MethodName := ⟨RX1, "focusOnDirection", "(I)V"⟩
def dkwX1_focusOnDirection_0 : List UInt8 := [27, 184, 1, 33, 184, 0, 21, 42, 180, 0, 43, 187, 1, 36, 89, 27, 183, 1, 38, 181, 1, 24, 177]
abbrev dktX1_focusOnDirection_0 : List UInt8 := dkwX1_focusOnDirection_0 ++ []
theorem dksX1_focusOnDirection_0 : cX1_focusOnDirection.data.toList.drop 0 = dktX1_focusOnDirection_0 := by decide +kernel
theorem dX1_focusOnDirection_0 : decode cX1_focusOnDirection 0 = .ok (.iload_n 1, 1) := dk_27 (dk_at dksX1_focusOnDirection_0 0 rfl rfl)
theorem dX1_focusOnDirection_1 : decode cX1_focusOnDirection 1 = .ok (.invokestatic 289, 3) := dk_184 1 33 (dk_at dksX1_focusOnDirection_0 1 rfl rfl)
theorem dX1_focusOnDirection_4 : decode cX1_focusOnDirection 4 = .ok (.invokestatic 21, 3) := dk_184 0 21 (dk_at dksX1_focusOnDirection_0 4 rfl rfl)
theorem dX1_focusOnDirection_7 : decode cX1_focusOnDirection 7 = .ok (.aload_n 0, 1) := dk_42 (dk_at dksX1_focusOnDirection_0 7 rfl rfl)
theorem dX1_focusOnDirection_8 : decode cX1_focusOnDirection 8 = .ok (.getfield 43, 3) := dk_180 0 43 (dk_at dksX1_focusOnDirection_0 8 rfl rfl)
theorem dX1_focusOnDirection_11 : decode cX1_focusOnDirection 11 = .ok (.new 292, 3) := dk_187 1 36 (dk_at dksX1_focusOnDirection_0 11 rfl rfl)
theorem dX1_focusOnDirection_14 : decode cX1_focusOnDirection 14 = .ok (.dup, 1) := dk_89 (dk_at dksX1_focusOnDirection_0 14 rfl rfl)
theorem dX1_focusOnDirection_15 : decode cX1_focusOnDirection 15 = .ok (.iload_n 1, 1) := dk_27 (dk_at dksX1_focusOnDirection_0 15 rfl rfl)
theorem dX1_focusOnDirection_16 : decode cX1_focusOnDirection 16 = .ok (.invokespecial 294, 3) := dk_183 1 38 (dk_at dksX1_focusOnDirection_0 16 rfl rfl)
theorem dX1_focusOnDirection_19 : decode cX1_focusOnDirection 19 = .ok (.putfield 280, 3) := dk_181 1 24 (dk_at dksX1_focusOnDirection_0 19 rfl rfl)
theorem dX1_focusOnDirection_22 : decode cX1_focusOnDirection 22 = .ok (.return_, 1) := dk_177 (dk_at dksX1_focusOnDirection_0 22 rfl rfl)
abbrev cX1_isDirection : ByteArray := prog_1_method_42_code
def yX1_isDirection : MethodName := ⟨RX1, "isDirection", "(I)Z"⟩
def dkwX1_isDirection_0 : List UInt8 := [26, 133, 20, 0, 167, 20, 0, 88, 184, 0, 17, 172]
abbrev dktX1_isDirection_0 : List UInt8 := dkwX1_isDirection_0 ++ []
theorem dksX1_isDirection_0 : cX1_isDirection.data.toList.drop 0 = dktX1_isDirection_0 := by decide +kernel
theorem dX1_isDirection_0 : decode cX1_isDirection 0 = .ok (.iload_n 0, 1) := dk_26 (dk_at dksX1_isDirection_0 0 rfl rfl)
theorem dX1_isDirection_1 : decode cX1_isDirection 1 = .ok (.i2l, 1) := dk_133 (dk_at dksX1_isDirection_0 1 rfl rfl)
theorem dX1_isDirection_2 : decode cX1_isDirection 2 = .ok (.ldc2_w 167, 3) := dk_20 0 167 (dk_at dksX1_isDirection_0 2 rfl rfl)
theorem dX1_isDirection_5 : decode cX1_isDirection 5 = .ok (.ldc2_w 88, 3) := dk_20 0 88 (dk_at dksX1_isDirection_0 5 rfl rfl)
theorem dX1_isDirection_8 : decode cX1_isDirection 8 = .ok (.invokestatic 17, 3) := dk_184 0 17 (dk_at dksX1_isDirection_0 8 rfl rfl)
theorem dX1_isDirection_11 : decode cX1_isDirection 11 = .ok (.ireturn, 1) := dk_172 (dk_at dksX1_isDirection_0 11 rfl rfl)
abbrev cX1_sampleNumber : ByteArray := prog_1_method_45_code
def yX1_sampleNumber : MethodName := ⟨RX1, "sampleNumber", "(II)I"⟩
def dkwX1_sampleNumber_1 : List UInt8 := [182, 1, 43, 172]
abbrev dktX1_sampleNumber_1 : List UInt8 := dkwX1_sampleNumber_1 ++ []
def dkwX1_sampleNumber_0 : List UInt8 := [42, 27, 182, 0, 176, 78, 28, 184, 0, 188, 42, 180, 0, 43, 45, 42, 180, 0, 43, 180, 1, 24, 28]
abbrev dktX1_sampleNumber_0 : List UInt8 := dkwX1_sampleNumber_0 ++ dktX1_sampleNumber_1
theorem dksX1_sampleNumber_0 : cX1_sampleNumber.data.toList.drop 0 = dktX1_sampleNumber_0 := by decide +kernel
theorem dksX1_sampleNumber_1 : cX1_sampleNumber.data.toList.drop 23 = dktX1_sampleNumber_1 := dk_seg dksX1_sampleNumber_0 23 rfl rfl
theorem dX1_sampleNumber_0 : decode cX1_sampleNumber 0 = .ok (.aload_n 0, 1) := dk_42 (dk_at dksX1_sampleNumber_0 0 rfl rfl)
theorem dX1_sampleNumber_1 : decode cX1_sampleNumber 1 = .ok (.iload_n 1, 1) := dk_27 (dk_at dksX1_sampleNumber_0 1 rfl rfl)
theorem dX1_sampleNumber_2 : decode cX1_sampleNumber 2 = .ok (.invokevirtual 176, 3) := dk_182 0 176 (dk_at dksX1_sampleNumber_0 2 rfl rfl)
theorem dX1_sampleNumber_5 : decode cX1_sampleNumber 5 = .ok (.astore_n 3, 1) := dk_78 (dk_at dksX1_sampleNumber_0 5 rfl rfl)
theorem dX1_sampleNumber_6 : decode cX1_sampleNumber 6 = .ok (.iload_n 2, 1) := dk_28 (dk_at dksX1_sampleNumber_0 6 rfl rfl)
theorem dX1_sampleNumber_7 : decode cX1_sampleNumber 7 = .ok (.invokestatic 188, 3) := dk_184 0 188 (dk_at dksX1_sampleNumber_0 7 rfl rfl)
theorem dX1_sampleNumber_10 : decode cX1_sampleNumber 10 = .ok (.aload_n 0, 1) := dk_42 (dk_at dksX1_sampleNumber_0 10 rfl rfl)
theorem dX1_sampleNumber_11 : decode cX1_sampleNumber 11 = .ok (.getfield 43, 3) := dk_180 0 43 (dk_at dksX1_sampleNumber_0 11 rfl rfl)
theorem dX1_sampleNumber_14 : decode cX1_sampleNumber 14 = .ok (.aload_n 3, 1) := dk_45 (dk_at dksX1_sampleNumber_0 14 rfl rfl)
theorem dX1_sampleNumber_15 : decode cX1_sampleNumber 15 = .ok (.aload_n 0, 1) := dk_42 (dk_at dksX1_sampleNumber_0 15 rfl rfl)
theorem dX1_sampleNumber_16 : decode cX1_sampleNumber 16 = .ok (.getfield 43, 3) := dk_180 0 43 (dk_at dksX1_sampleNumber_0 16 rfl rfl)
theorem dX1_sampleNumber_19 : decode cX1_sampleNumber 19 = .ok (.getfield 280, 3) := dk_180 1 24 (dk_at dksX1_sampleNumber_0 19 rfl rfl)
theorem dX1_sampleNumber_22 : decode cX1_sampleNumber 22 = .ok (.iload_n 2, 1) := dk_28 (dk_at dksX1_sampleNumber_0 22 rfl rfl)
theorem dX1_sampleNumber_23 : decode cX1_sampleNumber 23 = .ok (.invokevirtual 299, 3) := dk_182 1 43 (dk_at dksX1_sampleNumber_1 0 rfl rfl)
theorem dX1_sampleNumber_26 : decode cX1_sampleNumber 26 = .ok (.ireturn, 1) := dk_172 (dk_at dksX1_sampleNumber_1 3 rfl rfl)
abbrev cX1_part : ByteArray := prog_1_method_46_code
def yX1_part : MethodName := ⟨RX1, "part", "(II)I"⟩
def dkwX1_part_1 : List UInt8 := [182, 1, 47, 42, 180, 0, 43, 180, 1, 51, 28, 46, 172]
abbrev dktX1_part_1 : List UInt8 := dkwX1_part_1 ++ []
def dkwX1_part_0 : List UInt8 := [42, 27, 182, 0, 176, 78, 28, 184, 0, 188, 42, 180, 0, 43, 45, 42, 180, 0, 43, 180, 1, 24, 28]
abbrev dktX1_part_0 : List UInt8 := dkwX1_part_0 ++ dktX1_part_1
theorem dksX1_part_0 : cX1_part.data.toList.drop 0 = dktX1_part_0 := by decide +kernel
theorem dksX1_part_1 : cX1_part.data.toList.drop 23 = dktX1_part_1 := dk_seg dksX1_part_0 23 rfl rfl
theorem dX1_part_0 : decode cX1_part 0 = .ok (.aload_n 0, 1) := dk_42 (dk_at dksX1_part_0 0 rfl rfl)
theorem dX1_part_1 : decode cX1_part 1 = .ok (.iload_n 1, 1) := dk_27 (dk_at dksX1_part_0 1 rfl rfl)
theorem dX1_part_2 : decode cX1_part 2 = .ok (.invokevirtual 176, 3) := dk_182 0 176 (dk_at dksX1_part_0 2 rfl rfl)
theorem dX1_part_5 : decode cX1_part 5 = .ok (.astore_n 3, 1) := dk_78 (dk_at dksX1_part_0 5 rfl rfl)
theorem dX1_part_6 : decode cX1_part 6 = .ok (.iload_n 2, 1) := dk_28 (dk_at dksX1_part_0 6 rfl rfl)
theorem dX1_part_7 : decode cX1_part 7 = .ok (.invokestatic 188, 3) := dk_184 0 188 (dk_at dksX1_part_0 7 rfl rfl)
theorem dX1_part_10 : decode cX1_part 10 = .ok (.aload_n 0, 1) := dk_42 (dk_at dksX1_part_0 10 rfl rfl)
theorem dX1_part_11 : decode cX1_part 11 = .ok (.getfield 43, 3) := dk_180 0 43 (dk_at dksX1_part_0 11 rfl rfl)
theorem dX1_part_14 : decode cX1_part 14 = .ok (.aload_n 3, 1) := dk_45 (dk_at dksX1_part_0 14 rfl rfl)
theorem dX1_part_15 : decode cX1_part 15 = .ok (.aload_n 0, 1) := dk_42 (dk_at dksX1_part_0 15 rfl rfl)
theorem dX1_part_16 : decode cX1_part 16 = .ok (.getfield 43, 3) := dk_180 0 43 (dk_at dksX1_part_0 16 rfl rfl)
theorem dX1_part_19 : decode cX1_part 19 = .ok (.getfield 280, 3) := dk_180 1 24 (dk_at dksX1_part_0 19 rfl rfl)
theorem dX1_part_22 : decode cX1_part 22 = .ok (.iload_n 2, 1) := dk_28 (dk_at dksX1_part_0 22 rfl rfl)
theorem dX1_part_23 : decode cX1_part 23 = .ok (.invokevirtual 303, 3) := dk_182 1 47 (dk_at dksX1_part_1 0 rfl rfl)
theorem dX1_part_26 : decode cX1_part 26 = .ok (.aload_n 0, 1) := dk_42 (dk_at dksX1_part_1 3 rfl rfl)
theorem dX1_part_27 : decode cX1_part 27 = .ok (.getfield 43, 3) := dk_180 0 43 (dk_at dksX1_part_1 4 rfl rfl)
theorem dX1_part_30 : decode cX1_part 30 = .ok (.getfield 307, 3) := dk_180 1 51 (dk_at dksX1_part_1 7 rfl rfl)
theorem dX1_part_33 : decode cX1_part 33 = .ok (.iload_n 2, 1) := dk_28 (dk_at dksX1_part_1 10 rfl rfl)
theorem dX1_part_34 : decode cX1_part 34 = .ok (.iaload, 1) := dk_46 (dk_at dksX1_part_1 11 rfl rfl)
theorem dX1_part_35 : decode cX1_part 35 = .ok (.ireturn, 1) := dk_172 (dk_at dksX1_part_1 12 rfl rfl)
abbrev cX1_beam : ByteArray := prog_1_method_49_code
def yX1_beam : MethodName := ⟨RX1, "beam", "(I)I"⟩
def dkwX1_beam_1 : List UInt8 := [185, 0, 27, 2, 0, 136, 172]
abbrev dktX1_beam_1 : List UInt8 := dkwX1_beam_1 ++ []
def dkwX1_beam_0 : List UInt8 := [27, 184, 0, 188, 42, 180, 0, 43, 42, 180, 0, 43, 180, 1, 24, 27, 182, 1, 56, 27]
abbrev dktX1_beam_0 : List UInt8 := dkwX1_beam_0 ++ dktX1_beam_1
theorem dksX1_beam_0 : cX1_beam.data.toList.drop 0 = dktX1_beam_0 := by decide +kernel
theorem dksX1_beam_1 : cX1_beam.data.toList.drop 20 = dktX1_beam_1 := dk_seg dksX1_beam_0 20 rfl rfl
theorem dX1_beam_0 : decode cX1_beam 0 = .ok (.iload_n 1, 1) := dk_27 (dk_at dksX1_beam_0 0 rfl rfl)
theorem dX1_beam_1 : decode cX1_beam 1 = .ok (.invokestatic 188, 3) := dk_184 0 188 (dk_at dksX1_beam_0 1 rfl rfl)
theorem dX1_beam_4 : decode cX1_beam 4 = .ok (.aload_n 0, 1) := dk_42 (dk_at dksX1_beam_0 4 rfl rfl)
theorem dX1_beam_5 : decode cX1_beam 5 = .ok (.getfield 43, 3) := dk_180 0 43 (dk_at dksX1_beam_0 5 rfl rfl)
theorem dX1_beam_8 : decode cX1_beam 8 = .ok (.aload_n 0, 1) := dk_42 (dk_at dksX1_beam_0 8 rfl rfl)
theorem dX1_beam_9 : decode cX1_beam 9 = .ok (.getfield 43, 3) := dk_180 0 43 (dk_at dksX1_beam_0 9 rfl rfl)
theorem dX1_beam_12 : decode cX1_beam 12 = .ok (.getfield 280, 3) := dk_180 1 24 (dk_at dksX1_beam_0 12 rfl rfl)
theorem dX1_beam_15 : decode cX1_beam 15 = .ok (.iload_n 1, 1) := dk_27 (dk_at dksX1_beam_0 15 rfl rfl)
theorem dX1_beam_16 : decode cX1_beam 16 = .ok (.invokevirtual 312, 3) := dk_182 1 56 (dk_at dksX1_beam_0 16 rfl rfl)
theorem dX1_beam_19 : decode cX1_beam 19 = .ok (.iload_n 1, 1) := dk_27 (dk_at dksX1_beam_0 19 rfl rfl)
theorem dX1_beam_20 : decode cX1_beam 20 = .ok (.invokeinterface 27 2, 5) := by decide +kernel
theorem dX1_beam_25 : decode cX1_beam 25 = .ok (.l2i, 1) := dk_136 (dk_at dksX1_beam_1 5 rfl rfl)
theorem dX1_beam_26 : decode cX1_beam 26 = .ok (.ireturn, 1) := dk_172 (dk_at dksX1_beam_1 6 rfl rfl)
abbrev cX1_measureBeam : ByteArray := prog_1_method_50_code
def yX1_measureBeam : MethodName := ⟨RX1, "measureBeam", "(III)J"⟩
def dkwX1_measureBeam_1 : List UInt8 := [29, 182, 1, 56, 28, 29, 182, 0, 244, 173]
abbrev dktX1_measureBeam_1 : List UInt8 := dkwX1_measureBeam_1 ++ []
def dkwX1_measureBeam_0 : List UInt8 := [27, 184, 0, 229, 28, 29, 184, 1, 60, 27, 184, 0, 237, 42, 180, 0, 43, 42, 180, 0, 43, 180, 1, 24]
abbrev dktX1_measureBeam_0 : List UInt8 := dkwX1_measureBeam_0 ++ dktX1_measureBeam_1
theorem dksX1_measureBeam_0 : cX1_measureBeam.data.toList.drop 0 = dktX1_measureBeam_0 := by decide +kernel
theorem dksX1_measureBeam_1 : cX1_measureBeam.data.toList.drop 24 = dktX1_measureBeam_1 := dk_seg dksX1_measureBeam_0 24 rfl rfl
theorem dX1_measureBeam_0 : decode cX1_measureBeam 0 = .ok (.iload_n 1, 1) := dk_27 (dk_at dksX1_measureBeam_0 0 rfl rfl)
theorem dX1_measureBeam_1 : decode cX1_measureBeam 1 = .ok (.invokestatic 229, 3) := dk_184 0 229 (dk_at dksX1_measureBeam_0 1 rfl rfl)
theorem dX1_measureBeam_4 : decode cX1_measureBeam 4 = .ok (.iload_n 2, 1) := dk_28 (dk_at dksX1_measureBeam_0 4 rfl rfl)
theorem dX1_measureBeam_5 : decode cX1_measureBeam 5 = .ok (.iload_n 3, 1) := dk_29 (dk_at dksX1_measureBeam_0 5 rfl rfl)
theorem dX1_measureBeam_6 : decode cX1_measureBeam 6 = .ok (.invokestatic 316, 3) := dk_184 1 60 (dk_at dksX1_measureBeam_0 6 rfl rfl)
theorem dX1_measureBeam_9 : decode cX1_measureBeam 9 = .ok (.iload_n 1, 1) := dk_27 (dk_at dksX1_measureBeam_0 9 rfl rfl)
theorem dX1_measureBeam_10 : decode cX1_measureBeam 10 = .ok (.invokestatic 237, 3) := dk_184 0 237 (dk_at dksX1_measureBeam_0 10 rfl rfl)
theorem dX1_measureBeam_13 : decode cX1_measureBeam 13 = .ok (.aload_n 0, 1) := dk_42 (dk_at dksX1_measureBeam_0 13 rfl rfl)
theorem dX1_measureBeam_14 : decode cX1_measureBeam 14 = .ok (.getfield 43, 3) := dk_180 0 43 (dk_at dksX1_measureBeam_0 14 rfl rfl)
theorem dX1_measureBeam_17 : decode cX1_measureBeam 17 = .ok (.aload_n 0, 1) := dk_42 (dk_at dksX1_measureBeam_0 17 rfl rfl)
theorem dX1_measureBeam_18 : decode cX1_measureBeam 18 = .ok (.getfield 43, 3) := dk_180 0 43 (dk_at dksX1_measureBeam_0 18 rfl rfl)
theorem dX1_measureBeam_21 : decode cX1_measureBeam 21 = .ok (.getfield 280, 3) := dk_180 1 24 (dk_at dksX1_measureBeam_0 21 rfl rfl)
theorem dX1_measureBeam_24 : decode cX1_measureBeam 24 = .ok (.iload_n 3, 1) := dk_29 (dk_at dksX1_measureBeam_1 0 rfl rfl)
theorem dX1_measureBeam_25 : decode cX1_measureBeam 25 = .ok (.invokevirtual 312, 3) := dk_182 1 56 (dk_at dksX1_measureBeam_1 1 rfl rfl)
theorem dX1_measureBeam_28 : decode cX1_measureBeam 28 = .ok (.iload_n 2, 1) := dk_28 (dk_at dksX1_measureBeam_1 4 rfl rfl)
theorem dX1_measureBeam_29 : decode cX1_measureBeam 29 = .ok (.iload_n 3, 1) := dk_29 (dk_at dksX1_measureBeam_1 5 rfl rfl)
theorem dX1_measureBeam_30 : decode cX1_measureBeam 30 = .ok (.invokevirtual 244, 3) := dk_182 0 244 (dk_at dksX1_measureBeam_1 6 rfl rfl)
theorem dX1_measureBeam_33 : decode cX1_measureBeam 33 = .ok (.lreturn, 1) := dk_173 (dk_at dksX1_measureBeam_1 9 rfl rfl)
abbrev cX1_checkWindow : ByteArray := prog_1_method_47_code
def yX1_checkWindow : MethodName := ⟨RX1, "checkWindow", "(ZII)V"⟩
def dkwX1_checkWindow_0 : List UInt8 := [26, 153, 0, 15, 27, 28, 184, 0, 234, 153, 0, 7, 4, 167, 0, 4, 3, 184, 0, 21, 177]
abbrev dktX1_checkWindow_0 : List UInt8 := dkwX1_checkWindow_0 ++ []
theorem dksX1_checkWindow_0 : cX1_checkWindow.data.toList.drop 0 = dktX1_checkWindow_0 := by decide +kernel
theorem dX1_checkWindow_0 : decode cX1_checkWindow 0 = .ok (.iload_n 0, 1) := dk_26 (dk_at dksX1_checkWindow_0 0 rfl rfl)
theorem dX1_checkWindow_1 : decode cX1_checkWindow 1 = .ok (.ifCond .eq 15, 3) := dk_153 0 15 (dk_at dksX1_checkWindow_0 1 rfl rfl)
theorem dX1_checkWindow_4 : decode cX1_checkWindow 4 = .ok (.iload_n 1, 1) := dk_27 (dk_at dksX1_checkWindow_0 4 rfl rfl)
theorem dX1_checkWindow_5 : decode cX1_checkWindow 5 = .ok (.iload_n 2, 1) := dk_28 (dk_at dksX1_checkWindow_0 5 rfl rfl)
theorem dX1_checkWindow_6 : decode cX1_checkWindow 6 = .ok (.invokestatic 234, 3) := dk_184 0 234 (dk_at dksX1_checkWindow_0 6 rfl rfl)
theorem dX1_checkWindow_9 : decode cX1_checkWindow 9 = .ok (.ifCond .eq 7, 3) := dk_153 0 7 (dk_at dksX1_checkWindow_0 9 rfl rfl)
theorem dX1_checkWindow_12 : decode cX1_checkWindow 12 = .ok (.iconst 1, 1) := dk_4 (dk_at dksX1_checkWindow_0 12 rfl rfl)
theorem dX1_checkWindow_13 : decode cX1_checkWindow 13 = .ok (.goto 4, 3) := dk_167 0 4 (dk_at dksX1_checkWindow_0 13 rfl rfl)
theorem dX1_checkWindow_16 : decode cX1_checkWindow 16 = .ok (.iconst 0, 1) := dk_3 (dk_at dksX1_checkWindow_0 16 rfl rfl)
theorem dX1_checkWindow_17 : decode cX1_checkWindow 17 = .ok (.invokestatic 21, 3) := dk_184 0 21 (dk_at dksX1_checkWindow_0 17 rfl rfl)
theorem dX1_checkWindow_20 : decode cX1_checkWindow 20 = .ok (.return_, 1) := dk_177 (dk_at dksX1_checkWindow_0 20 rfl rfl)
abbrev cX1_periodPower : ByteArray := prog_1_method_51_code
def yX1_periodPower : MethodName := ⟨RX1, "periodPower", "(III)J"⟩
def dkwX1_periodPower_1 : List UInt8 := [27, 28, 29, 184, 0, 33, 173]
abbrev dktX1_periodPower_1 : List UInt8 := dkwX1_periodPower_1 ++ []
def dkwX1_periodPower_0 : List UInt8 := [27, 184, 1, 64, 28, 29, 184, 1, 60, 42, 180, 0, 43, 42, 180, 0, 43, 180, 1, 24, 29, 182, 1, 56]
abbrev dktX1_periodPower_0 : List UInt8 := dkwX1_periodPower_0 ++ dktX1_periodPower_1
theorem dksX1_periodPower_0 : cX1_periodPower.data.toList.drop 0 = dktX1_periodPower_0 := by decide +kernel
theorem dksX1_periodPower_1 : cX1_periodPower.data.toList.drop 24 = dktX1_periodPower_1 := dk_seg dksX1_periodPower_0 24 rfl rfl
theorem dX1_periodPower_0 : decode cX1_periodPower 0 = .ok (.iload_n 1, 1) := dk_27 (dk_at dksX1_periodPower_0 0 rfl rfl)
theorem dX1_periodPower_1 : decode cX1_periodPower 1 = .ok (.invokestatic 320, 3) := dk_184 1 64 (dk_at dksX1_periodPower_0 1 rfl rfl)
theorem dX1_periodPower_4 : decode cX1_periodPower 4 = .ok (.iload_n 2, 1) := dk_28 (dk_at dksX1_periodPower_0 4 rfl rfl)
theorem dX1_periodPower_5 : decode cX1_periodPower 5 = .ok (.iload_n 3, 1) := dk_29 (dk_at dksX1_periodPower_0 5 rfl rfl)
theorem dX1_periodPower_6 : decode cX1_periodPower 6 = .ok (.invokestatic 316, 3) := dk_184 1 60 (dk_at dksX1_periodPower_0 6 rfl rfl)
theorem dX1_periodPower_9 : decode cX1_periodPower 9 = .ok (.aload_n 0, 1) := dk_42 (dk_at dksX1_periodPower_0 9 rfl rfl)
theorem dX1_periodPower_10 : decode cX1_periodPower 10 = .ok (.getfield 43, 3) := dk_180 0 43 (dk_at dksX1_periodPower_0 10 rfl rfl)
theorem dX1_periodPower_13 : decode cX1_periodPower 13 = .ok (.aload_n 0, 1) := dk_42 (dk_at dksX1_periodPower_0 13 rfl rfl)
theorem dX1_periodPower_14 : decode cX1_periodPower 14 = .ok (.getfield 43, 3) := dk_180 0 43 (dk_at dksX1_periodPower_0 14 rfl rfl)
theorem dX1_periodPower_17 : decode cX1_periodPower 17 = .ok (.getfield 280, 3) := dk_180 1 24 (dk_at dksX1_periodPower_0 17 rfl rfl)
theorem dX1_periodPower_20 : decode cX1_periodPower 20 = .ok (.iload_n 3, 1) := dk_29 (dk_at dksX1_periodPower_0 20 rfl rfl)
theorem dX1_periodPower_21 : decode cX1_periodPower 21 = .ok (.invokevirtual 312, 3) := dk_182 1 56 (dk_at dksX1_periodPower_0 21 rfl rfl)
theorem dX1_periodPower_24 : decode cX1_periodPower 24 = .ok (.iload_n 1, 1) := dk_27 (dk_at dksX1_periodPower_1 0 rfl rfl)
theorem dX1_periodPower_25 : decode cX1_periodPower 25 = .ok (.iload_n 2, 1) := dk_28 (dk_at dksX1_periodPower_1 1 rfl rfl)
theorem dX1_periodPower_26 : decode cX1_periodPower 26 = .ok (.iload_n 3, 1) := dk_29 (dk_at dksX1_periodPower_1 2 rfl rfl)
theorem dX1_periodPower_27 : decode cX1_periodPower 27 = .ok (.invokestatic 33, 3) := dk_184 0 33 (dk_at dksX1_periodPower_1 3 rfl rfl)
theorem dX1_periodPower_30 : decode cX1_periodPower 30 = .ok (.lreturn, 1) := dk_173 (dk_at dksX1_periodPower_1 6 rfl rfl)
abbrev cX1_isPeriod : ByteArray := prog_1_method_48_code
def yX1_isPeriod : MethodName := ⟨RX1, "isPeriod", "(I)Z"⟩
def dkwX1_isPeriod_0 : List UInt8 := [26, 133, 10, 20, 1, 54, 184, 0, 17, 172]
abbrev dktX1_isPeriod_0 : List UInt8 := dkwX1_isPeriod_0 ++ []
theorem dksX1_isPeriod_0 : cX1_isPeriod.data.toList.drop 0 = dktX1_isPeriod_0 := by decide +kernel
theorem dX1_isPeriod_0 : decode cX1_isPeriod 0 = .ok (.iload_n 0, 1) := dk_26 (dk_at dksX1_isPeriod_0 0 rfl rfl)
theorem dX1_isPeriod_1 : decode cX1_isPeriod 1 = .ok (.i2l, 1) := dk_133 (dk_at dksX1_isPeriod_0 1 rfl rfl)
theorem dX1_isPeriod_2 : decode cX1_isPeriod 2 = .ok (.lconst 1, 1) := dk_10 (dk_at dksX1_isPeriod_0 2 rfl rfl)
theorem dX1_isPeriod_3 : decode cX1_isPeriod 3 = .ok (.ldc2_w 310, 3) := dk_20 1 54 (dk_at dksX1_isPeriod_0 3 rfl rfl)
theorem dX1_isPeriod_6 : decode cX1_isPeriod 6 = .ok (.invokestatic 17, 3) := dk_184 0 17 (dk_at dksX1_isPeriod_0 6 rfl rfl)
theorem dX1_isPeriod_9 : decode cX1_isPeriod 9 = .ok (.ireturn, 1) := dk_172 (dk_at dksX1_isPeriod_0 9 rfl rfl)
abbrev cX1_power : ByteArray := prog_1_method_8_code
def yX1_power : MethodName := ⟨RX1, "power", "(LTrackArray$Signal;III)J"⟩
def dkwX1_power_2 : List UInt8 := [167, 255, 231, 22, 4, 22, 7, 22, 7, 105, 97, 55, 4, 132, 6, 1, 167, 255, 200, 22, 4, 173]
abbrev dktX1_power_2 : List UInt8 := dkwX1_power_2 ++ []
def dkwX1_power_1 : List UInt8 := [163, 0, 25, 22, 7, 42, 21, 9, 185, 0, 27, 2, 0, 97, 55, 7, 21, 9, 27, 96, 54, 9]
abbrev dktX1_power_1 : List UInt8 := dkwX1_power_1 ++ dktX1_power_2
def dkwX1_power_0 : List UInt8 := [9, 55, 4, 3, 54, 6, 21, 6, 27, 162, 0, 56, 9, 55, 7, 28, 21, 6, 96, 54, 9, 21, 9, 29]
abbrev dktX1_power_0 : List UInt8 := dkwX1_power_0 ++ dktX1_power_1
theorem dksX1_power_0 : cX1_power.data.toList.drop 0 = dktX1_power_0 := by decide +kernel
theorem dksX1_power_1 : cX1_power.data.toList.drop 24 = dktX1_power_1 := dk_seg dksX1_power_0 24 rfl rfl
theorem dksX1_power_2 : cX1_power.data.toList.drop 46 = dktX1_power_2 := dk_seg dksX1_power_1 22 rfl rfl
theorem dX1_power_0 : decode cX1_power 0 = .ok (.lconst 0, 1) := dk_9 (dk_at dksX1_power_0 0 rfl rfl)
theorem dX1_power_1 : decode cX1_power 1 = .ok (.lstore 4, 2) := dk_55 4 (dk_at dksX1_power_0 1 rfl rfl)
theorem dX1_power_3 : decode cX1_power 3 = .ok (.iconst 0, 1) := dk_3 (dk_at dksX1_power_0 3 rfl rfl)
theorem dX1_power_4 : decode cX1_power 4 = .ok (.istore 6, 2) := dk_54 6 (dk_at dksX1_power_0 4 rfl rfl)
theorem dX1_power_6 : decode cX1_power 6 = .ok (.iload 6, 2) := dk_21 6 (dk_at dksX1_power_0 6 rfl rfl)
theorem dX1_power_8 : decode cX1_power 8 = .ok (.iload_n 1, 1) := dk_27 (dk_at dksX1_power_0 8 rfl rfl)
theorem dX1_power_9 : decode cX1_power 9 = .ok (.if_icmp .ge 56, 3) := dk_162 0 56 (dk_at dksX1_power_0 9 rfl rfl)
theorem dX1_power_12 : decode cX1_power 12 = .ok (.lconst 0, 1) := dk_9 (dk_at dksX1_power_0 12 rfl rfl)
theorem dX1_power_13 : decode cX1_power 13 = .ok (.lstore 7, 2) := dk_55 7 (dk_at dksX1_power_0 13 rfl rfl)
theorem dX1_power_15 : decode cX1_power 15 = .ok (.iload_n 2, 1) := dk_28 (dk_at dksX1_power_0 15 rfl rfl)
theorem dX1_power_16 : decode cX1_power 16 = .ok (.iload 6, 2) := dk_21 6 (dk_at dksX1_power_0 16 rfl rfl)
theorem dX1_power_18 : decode cX1_power 18 = .ok (.iadd, 1) := dk_96 (dk_at dksX1_power_0 18 rfl rfl)
theorem dX1_power_19 : decode cX1_power 19 = .ok (.istore 9, 2) := dk_54 9 (dk_at dksX1_power_0 19 rfl rfl)
theorem dX1_power_21 : decode cX1_power 21 = .ok (.iload 9, 2) := dk_21 9 (dk_at dksX1_power_0 21 rfl rfl)
theorem dX1_power_23 : decode cX1_power 23 = .ok (.iload_n 3, 1) := dk_29 (dk_at dksX1_power_0 23 rfl rfl)
theorem dX1_power_24 : decode cX1_power 24 = .ok (.if_icmp .gt 25, 3) := dk_163 0 25 (dk_at dksX1_power_1 0 rfl rfl)
theorem dX1_power_27 : decode cX1_power 27 = .ok (.lload 7, 2) := dk_22 7 (dk_at dksX1_power_1 3 rfl rfl)
theorem dX1_power_29 : decode cX1_power 29 = .ok (.aload_n 0, 1) := dk_42 (dk_at dksX1_power_1 5 rfl rfl)
theorem dX1_power_30 : decode cX1_power 30 = .ok (.iload 9, 2) := dk_21 9 (dk_at dksX1_power_1 6 rfl rfl)
theorem dX1_power_32 : decode cX1_power 32 = .ok (.invokeinterface 27 2, 5) := by decide +kernel
theorem dX1_power_37 : decode cX1_power 37 = .ok (.ladd, 1) := dk_97 (dk_at dksX1_power_1 13 rfl rfl)
theorem dX1_power_38 : decode cX1_power 38 = .ok (.lstore 7, 2) := dk_55 7 (dk_at dksX1_power_1 14 rfl rfl)
theorem dX1_power_40 : decode cX1_power 40 = .ok (.iload 9, 2) := dk_21 9 (dk_at dksX1_power_1 16 rfl rfl)
theorem dX1_power_42 : decode cX1_power 42 = .ok (.iload_n 1, 1) := dk_27 (dk_at dksX1_power_1 18 rfl rfl)
theorem dX1_power_43 : decode cX1_power 43 = .ok (.iadd, 1) := dk_96 (dk_at dksX1_power_1 19 rfl rfl)
theorem dX1_power_44 : decode cX1_power 44 = .ok (.istore 9, 2) := dk_54 9 (dk_at dksX1_power_1 20 rfl rfl)
theorem dX1_power_46 : decode cX1_power 46 = .ok (.goto (-25), 3) := dk_167 255 231 (dk_at dksX1_power_2 0 rfl rfl)
theorem dX1_power_49 : decode cX1_power 49 = .ok (.lload 4, 2) := dk_22 4 (dk_at dksX1_power_2 3 rfl rfl)
theorem dX1_power_51 : decode cX1_power 51 = .ok (.lload 7, 2) := dk_22 7 (dk_at dksX1_power_2 5 rfl rfl)
theorem dX1_power_53 : decode cX1_power 53 = .ok (.lload 7, 2) := dk_22 7 (dk_at dksX1_power_2 7 rfl rfl)
theorem dX1_power_55 : decode cX1_power 55 = .ok (.lmul, 1) := dk_105 (dk_at dksX1_power_2 9 rfl rfl)
theorem dX1_power_56 : decode cX1_power 56 = .ok (.ladd, 1) := dk_97 (dk_at dksX1_power_2 10 rfl rfl)
theorem dX1_power_57 : decode cX1_power 57 = .ok (.lstore 4, 2) := dk_55 4 (dk_at dksX1_power_2 11 rfl rfl)
theorem dX1_power_59 : decode cX1_power 59 = .ok (.iinc 6 1, 3) := dk_132 6 1 (dk_at dksX1_power_2 13 rfl rfl)
theorem dX1_power_62 : decode cX1_power 62 = .ok (.goto (-56), 3) := dk_167 255 200 (dk_at dksX1_power_2 16 rfl rfl)
theorem dX1_power_65 : decode cX1_power 65 = .ok (.lload 4, 2) := dk_22 4 (dk_at dksX1_power_2 19 rfl rfl)
theorem dX1_power_67 : decode cX1_power 67 = .ok (.lreturn, 1) := dk_173 (dk_at dksX1_power_2 21 rfl rfl)
abbrev cX1_bestPeriod : ByteArray := prog_1_method_52_code
def yX1_bestPeriod : MethodName := ⟨RX1, "bestPeriod", "(III)I"⟩
def dkwX1_bestPeriod_3 : List UInt8 := [22, 9, 55, 6, 132, 8, 1, 167, 255, 220, 21, 5, 172]
abbrev dktX1_bestPeriod_3 : List UInt8 := dkwX1_bestPeriod_3 ++ []
def dkwX1_bestPeriod_2 : List UInt8 := [25, 4, 21, 8, 28, 29, 184, 1, 67, 55, 9, 22, 9, 22, 6, 148, 158, 0, 11, 21, 8, 54, 5]
abbrev dktX1_bestPeriod_2 : List UInt8 := dkwX1_bestPeriod_2 ++ dktX1_bestPeriod_3
def dkwX1_bestPeriod_1 : List UInt8 := [58, 4, 4, 54, 5, 25, 4, 4, 28, 29, 184, 1, 67, 55, 6, 5, 54, 8, 21, 8, 27, 163, 0, 36]
abbrev dktX1_bestPeriod_1 : List UInt8 := dkwX1_bestPeriod_1 ++ dktX1_bestPeriod_2
def dkwX1_bestPeriod_0 : List UInt8 := [27, 184, 1, 64, 28, 29, 184, 1, 60, 42, 180, 0, 43, 42, 180, 0, 43, 180, 1, 24, 29, 182, 1, 56]
abbrev dktX1_bestPeriod_0 : List UInt8 := dkwX1_bestPeriod_0 ++ dktX1_bestPeriod_1
theorem dksX1_bestPeriod_0 : cX1_bestPeriod.data.toList.drop 0 = dktX1_bestPeriod_0 := by decide +kernel
theorem dksX1_bestPeriod_1 : cX1_bestPeriod.data.toList.drop 24 = dktX1_bestPeriod_1 := dk_seg dksX1_bestPeriod_0 24 rfl rfl
theorem dksX1_bestPeriod_2 : cX1_bestPeriod.data.toList.drop 48 = dktX1_bestPeriod_2 := dk_seg dksX1_bestPeriod_1 24 rfl rfl
theorem dksX1_bestPeriod_3 : cX1_bestPeriod.data.toList.drop 71 = dktX1_bestPeriod_3 := dk_seg dksX1_bestPeriod_2 23 rfl rfl
theorem dX1_bestPeriod_0 : decode cX1_bestPeriod 0 = .ok (.iload_n 1, 1) := dk_27 (dk_at dksX1_bestPeriod_0 0 rfl rfl)
theorem dX1_bestPeriod_1 : decode cX1_bestPeriod 1 = .ok (.invokestatic 320, 3) := dk_184 1 64 (dk_at dksX1_bestPeriod_0 1 rfl rfl)
theorem dX1_bestPeriod_4 : decode cX1_bestPeriod 4 = .ok (.iload_n 2, 1) := dk_28 (dk_at dksX1_bestPeriod_0 4 rfl rfl)
theorem dX1_bestPeriod_5 : decode cX1_bestPeriod 5 = .ok (.iload_n 3, 1) := dk_29 (dk_at dksX1_bestPeriod_0 5 rfl rfl)
theorem dX1_bestPeriod_6 : decode cX1_bestPeriod 6 = .ok (.invokestatic 316, 3) := dk_184 1 60 (dk_at dksX1_bestPeriod_0 6 rfl rfl)
theorem dX1_bestPeriod_9 : decode cX1_bestPeriod 9 = .ok (.aload_n 0, 1) := dk_42 (dk_at dksX1_bestPeriod_0 9 rfl rfl)
theorem dX1_bestPeriod_10 : decode cX1_bestPeriod 10 = .ok (.getfield 43, 3) := dk_180 0 43 (dk_at dksX1_bestPeriod_0 10 rfl rfl)
theorem dX1_bestPeriod_13 : decode cX1_bestPeriod 13 = .ok (.aload_n 0, 1) := dk_42 (dk_at dksX1_bestPeriod_0 13 rfl rfl)
theorem dX1_bestPeriod_14 : decode cX1_bestPeriod 14 = .ok (.getfield 43, 3) := dk_180 0 43 (dk_at dksX1_bestPeriod_0 14 rfl rfl)
theorem dX1_bestPeriod_17 : decode cX1_bestPeriod 17 = .ok (.getfield 280, 3) := dk_180 1 24 (dk_at dksX1_bestPeriod_0 17 rfl rfl)
theorem dX1_bestPeriod_20 : decode cX1_bestPeriod 20 = .ok (.iload_n 3, 1) := dk_29 (dk_at dksX1_bestPeriod_0 20 rfl rfl)
theorem dX1_bestPeriod_21 : decode cX1_bestPeriod 21 = .ok (.invokevirtual 312, 3) := dk_182 1 56 (dk_at dksX1_bestPeriod_0 21 rfl rfl)
theorem dX1_bestPeriod_24 : decode cX1_bestPeriod 24 = .ok (.astore 4, 2) := dk_58 4 (dk_at dksX1_bestPeriod_1 0 rfl rfl)
theorem dX1_bestPeriod_26 : decode cX1_bestPeriod 26 = .ok (.iconst 1, 1) := dk_4 (dk_at dksX1_bestPeriod_1 2 rfl rfl)
theorem dX1_bestPeriod_27 : decode cX1_bestPeriod 27 = .ok (.istore 5, 2) := dk_54 5 (dk_at dksX1_bestPeriod_1 3 rfl rfl)
theorem dX1_bestPeriod_29 : decode cX1_bestPeriod 29 = .ok (.aload 4, 2) := dk_25 4 (dk_at dksX1_bestPeriod_1 5 rfl rfl)
theorem dX1_bestPeriod_31 : decode cX1_bestPeriod 31 = .ok (.iconst 1, 1) := dk_4 (dk_at dksX1_bestPeriod_1 7 rfl rfl)
theorem dX1_bestPeriod_32 : decode cX1_bestPeriod 32 = .ok (.iload_n 2, 1) := dk_28 (dk_at dksX1_bestPeriod_1 8 rfl rfl)
theorem dX1_bestPeriod_33 : decode cX1_bestPeriod 33 = .ok (.iload_n 3, 1) := dk_29 (dk_at dksX1_bestPeriod_1 9 rfl rfl)
theorem dX1_bestPeriod_34 : decode cX1_bestPeriod 34 = .ok (.invokestatic 323, 3) := dk_184 1 67 (dk_at dksX1_bestPeriod_1 10 rfl rfl)
theorem dX1_bestPeriod_37 : decode cX1_bestPeriod 37 = .ok (.lstore 6, 2) := dk_55 6 (dk_at dksX1_bestPeriod_1 13 rfl rfl)
theorem dX1_bestPeriod_39 : decode cX1_bestPeriod 39 = .ok (.iconst 2, 1) := dk_5 (dk_at dksX1_bestPeriod_1 15 rfl rfl)
theorem dX1_bestPeriod_40 : decode cX1_bestPeriod 40 = .ok (.istore 8, 2) := dk_54 8 (dk_at dksX1_bestPeriod_1 16 rfl rfl)
theorem dX1_bestPeriod_42 : decode cX1_bestPeriod 42 = .ok (.iload 8, 2) := dk_21 8 (dk_at dksX1_bestPeriod_1 18 rfl rfl)
theorem dX1_bestPeriod_44 : decode cX1_bestPeriod 44 = .ok (.iload_n 1, 1) := dk_27 (dk_at dksX1_bestPeriod_1 20 rfl rfl)
theorem dX1_bestPeriod_45 : decode cX1_bestPeriod 45 = .ok (.if_icmp .gt 36, 3) := dk_163 0 36 (dk_at dksX1_bestPeriod_1 21 rfl rfl)
theorem dX1_bestPeriod_48 : decode cX1_bestPeriod 48 = .ok (.aload 4, 2) := dk_25 4 (dk_at dksX1_bestPeriod_2 0 rfl rfl)
theorem dX1_bestPeriod_50 : decode cX1_bestPeriod 50 = .ok (.iload 8, 2) := dk_21 8 (dk_at dksX1_bestPeriod_2 2 rfl rfl)
theorem dX1_bestPeriod_52 : decode cX1_bestPeriod 52 = .ok (.iload_n 2, 1) := dk_28 (dk_at dksX1_bestPeriod_2 4 rfl rfl)
theorem dX1_bestPeriod_53 : decode cX1_bestPeriod 53 = .ok (.iload_n 3, 1) := dk_29 (dk_at dksX1_bestPeriod_2 5 rfl rfl)
theorem dX1_bestPeriod_54 : decode cX1_bestPeriod 54 = .ok (.invokestatic 323, 3) := dk_184 1 67 (dk_at dksX1_bestPeriod_2 6 rfl rfl)
theorem dX1_bestPeriod_57 : decode cX1_bestPeriod 57 = .ok (.lstore 9, 2) := dk_55 9 (dk_at dksX1_bestPeriod_2 9 rfl rfl)
theorem dX1_bestPeriod_59 : decode cX1_bestPeriod 59 = .ok (.lload 9, 2) := dk_22 9 (dk_at dksX1_bestPeriod_2 11 rfl rfl)
theorem dX1_bestPeriod_61 : decode cX1_bestPeriod 61 = .ok (.lload 6, 2) := dk_22 6 (dk_at dksX1_bestPeriod_2 13 rfl rfl)
theorem dX1_bestPeriod_63 : decode cX1_bestPeriod 63 = .ok (.lcmp, 1) := dk_148 (dk_at dksX1_bestPeriod_2 15 rfl rfl)
theorem dX1_bestPeriod_64 : decode cX1_bestPeriod 64 = .ok (.ifCond .le 11, 3) := dk_158 0 11 (dk_at dksX1_bestPeriod_2 16 rfl rfl)
theorem dX1_bestPeriod_67 : decode cX1_bestPeriod 67 = .ok (.iload 8, 2) := dk_21 8 (dk_at dksX1_bestPeriod_2 19 rfl rfl)
theorem dX1_bestPeriod_69 : decode cX1_bestPeriod 69 = .ok (.istore 5, 2) := dk_54 5 (dk_at dksX1_bestPeriod_2 21 rfl rfl)
theorem dX1_bestPeriod_71 : decode cX1_bestPeriod 71 = .ok (.lload 9, 2) := dk_22 9 (dk_at dksX1_bestPeriod_3 0 rfl rfl)
theorem dX1_bestPeriod_73 : decode cX1_bestPeriod 73 = .ok (.lstore 6, 2) := dk_55 6 (dk_at dksX1_bestPeriod_3 2 rfl rfl)
theorem dX1_bestPeriod_75 : decode cX1_bestPeriod 75 = .ok (.iinc 8 1, 3) := dk_132 8 1 (dk_at dksX1_bestPeriod_3 4 rfl rfl)
theorem dX1_bestPeriod_78 : decode cX1_bestPeriod 78 = .ok (.goto (-36), 3) := dk_167 255 220 (dk_at dksX1_bestPeriod_3 7 rfl rfl)
theorem dX1_bestPeriod_81 : decode cX1_bestPeriod 81 = .ok (.iload 5, 2) := dk_21 5 (dk_at dksX1_bestPeriod_3 10 rfl rfl)
theorem dX1_bestPeriod_83 : decode cX1_bestPeriod 83 = .ok (.ireturn, 1) := dk_172 (dk_at dksX1_bestPeriod_3 12 rfl rfl)
abbrev cX1_strength : ByteArray := prog_1_method_9_code
def yX1_strength : MethodName := ⟨RX1, "strength", "(LTrackArray$Signal;III)J"⟩
def dkwX1_strength_0 : List UInt8 := [42, 27, 28, 29, 184, 0, 33, 27, 133, 105, 29, 28, 100, 4, 96, 133, 109, 173]
abbrev dktX1_strength_0 : List UInt8 := dkwX1_strength_0 ++ []
theorem dksX1_strength_0 : cX1_strength.data.toList.drop 0 = dktX1_strength_0 := by decide +kernel
theorem dX1_strength_0 : decode cX1_strength 0 = .ok (.aload_n 0, 1) := dk_42 (dk_at dksX1_strength_0 0 rfl rfl)
theorem dX1_strength_1 : decode cX1_strength 1 = .ok (.iload_n 1, 1) := dk_27 (dk_at dksX1_strength_0 1 rfl rfl)
theorem dX1_strength_2 : decode cX1_strength 2 = .ok (.iload_n 2, 1) := dk_28 (dk_at dksX1_strength_0 2 rfl rfl)
theorem dX1_strength_3 : decode cX1_strength 3 = .ok (.iload_n 3, 1) := dk_29 (dk_at dksX1_strength_0 3 rfl rfl)
theorem dX1_strength_4 : decode cX1_strength 4 = .ok (.invokestatic 33, 3) := dk_184 0 33 (dk_at dksX1_strength_0 4 rfl rfl)
theorem dX1_strength_7 : decode cX1_strength 7 = .ok (.iload_n 1, 1) := dk_27 (dk_at dksX1_strength_0 7 rfl rfl)
theorem dX1_strength_8 : decode cX1_strength 8 = .ok (.i2l, 1) := dk_133 (dk_at dksX1_strength_0 8 rfl rfl)
theorem dX1_strength_9 : decode cX1_strength 9 = .ok (.lmul, 1) := dk_105 (dk_at dksX1_strength_0 9 rfl rfl)
theorem dX1_strength_10 : decode cX1_strength 10 = .ok (.iload_n 3, 1) := dk_29 (dk_at dksX1_strength_0 10 rfl rfl)
theorem dX1_strength_11 : decode cX1_strength 11 = .ok (.iload_n 2, 1) := dk_28 (dk_at dksX1_strength_0 11 rfl rfl)
theorem dX1_strength_12 : decode cX1_strength 12 = .ok (.isub, 1) := dk_100 (dk_at dksX1_strength_0 12 rfl rfl)
theorem dX1_strength_13 : decode cX1_strength 13 = .ok (.iconst 1, 1) := dk_4 (dk_at dksX1_strength_0 13 rfl rfl)
theorem dX1_strength_14 : decode cX1_strength 14 = .ok (.iadd, 1) := dk_96 (dk_at dksX1_strength_0 14 rfl rfl)
theorem dX1_strength_15 : decode cX1_strength 15 = .ok (.i2l, 1) := dk_133 (dk_at dksX1_strength_0 15 rfl rfl)
theorem dX1_strength_16 : decode cX1_strength 16 = .ok (.ldiv, 1) := dk_109 (dk_at dksX1_strength_0 16 rfl rfl)
theorem dX1_strength_17 : decode cX1_strength 17 = .ok (.lreturn, 1) := dk_173 (dk_at dksX1_strength_0 17 rfl rfl)
abbrev cX1_energyBeside : ByteArray := prog_1_method_53_code
def yX1_energyBeside : MethodName := ⟨RX1, "energyBeside", "(III)J"⟩
def dkwX1_energyBeside_1 : List UInt8 := [182, 1, 74, 173]
abbrev dktX1_energyBeside_1 : List UInt8 := dkwX1_energyBeside_1 ++ []
def dkwX1_energyBeside_0 : List UInt8 := [27, 133, 20, 1, 70, 20, 1, 72, 184, 0, 17, 28, 29, 184, 1, 60, 42, 180, 0, 43, 27, 28, 29]
abbrev dktX1_energyBeside_0 : List UInt8 := dkwX1_energyBeside_0 ++ dktX1_energyBeside_1
theorem dksX1_energyBeside_0 : cX1_energyBeside.data.toList.drop 0 = dktX1_energyBeside_0 := by decide +kernel
theorem dksX1_energyBeside_1 : cX1_energyBeside.data.toList.drop 23 = dktX1_energyBeside_1 := dk_seg dksX1_energyBeside_0 23 rfl rfl
theorem dX1_energyBeside_0 : decode cX1_energyBeside 0 = .ok (.iload_n 1, 1) := dk_27 (dk_at dksX1_energyBeside_0 0 rfl rfl)
theorem dX1_energyBeside_1 : decode cX1_energyBeside 1 = .ok (.i2l, 1) := dk_133 (dk_at dksX1_energyBeside_0 1 rfl rfl)
theorem dX1_energyBeside_2 : decode cX1_energyBeside 2 = .ok (.ldc2_w 326, 3) := dk_20 1 70 (dk_at dksX1_energyBeside_0 2 rfl rfl)
theorem dX1_energyBeside_5 : decode cX1_energyBeside 5 = .ok (.ldc2_w 328, 3) := dk_20 1 72 (dk_at dksX1_energyBeside_0 5 rfl rfl)
theorem dX1_energyBeside_8 : decode cX1_energyBeside 8 = .ok (.invokestatic 17, 3) := dk_184 0 17 (dk_at dksX1_energyBeside_0 8 rfl rfl)
theorem dX1_energyBeside_11 : decode cX1_energyBeside 11 = .ok (.iload_n 2, 1) := dk_28 (dk_at dksX1_energyBeside_0 11 rfl rfl)
theorem dX1_energyBeside_12 : decode cX1_energyBeside 12 = .ok (.iload_n 3, 1) := dk_29 (dk_at dksX1_energyBeside_0 12 rfl rfl)
theorem dX1_energyBeside_13 : decode cX1_energyBeside 13 = .ok (.invokestatic 316, 3) := dk_184 1 60 (dk_at dksX1_energyBeside_0 13 rfl rfl)
theorem dX1_energyBeside_16 : decode cX1_energyBeside 16 = .ok (.aload_n 0, 1) := dk_42 (dk_at dksX1_energyBeside_0 16 rfl rfl)
theorem dX1_energyBeside_17 : decode cX1_energyBeside 17 = .ok (.getfield 43, 3) := dk_180 0 43 (dk_at dksX1_energyBeside_0 17 rfl rfl)
theorem dX1_energyBeside_20 : decode cX1_energyBeside 20 = .ok (.iload_n 1, 1) := dk_27 (dk_at dksX1_energyBeside_0 20 rfl rfl)
theorem dX1_energyBeside_21 : decode cX1_energyBeside 21 = .ok (.iload_n 2, 1) := dk_28 (dk_at dksX1_energyBeside_0 21 rfl rfl)
theorem dX1_energyBeside_22 : decode cX1_energyBeside 22 = .ok (.iload_n 3, 1) := dk_29 (dk_at dksX1_energyBeside_0 22 rfl rfl)
theorem dX1_energyBeside_23 : decode cX1_energyBeside 23 = .ok (.invokevirtual 330, 3) := dk_182 1 74 (dk_at dksX1_energyBeside_1 0 rfl rfl)
theorem dX1_energyBeside_26 : decode cX1_energyBeside 26 = .ok (.lreturn, 1) := dk_173 (dk_at dksX1_energyBeside_1 3 rfl rfl)
abbrev cX1_scan : ByteArray := prog_1_method_54_code
def yX1_scan : MethodName := ⟨RX1, "scan", "(IIII)I"⟩
def dkwX1_scan_2 : List UInt8 := [184, 1, 15, 172]
abbrev dktX1_scan_2 : List UInt8 := dkwX1_scan_2 ++ []
def dkwX1_scan_1 : List UInt8 := [4, 167, 0, 4, 3, 29, 21, 4, 184, 1, 60, 28, 42, 27, 29, 21, 4, 186, 1, 80, 0, 0]
abbrev dktX1_scan_1 : List UInt8 := dkwX1_scan_1 ++ dktX1_scan_2
def dkwX1_scan_0 : List UInt8 := [27, 133, 10, 20, 0, 88, 184, 0, 17, 153, 0, 19, 28, 133, 9, 20, 1, 78, 184, 0, 17, 153, 0, 7]
abbrev dktX1_scan_0 : List UInt8 := dkwX1_scan_0 ++ dktX1_scan_1
theorem dksX1_scan_0 : cX1_scan.data.toList.drop 0 = dktX1_scan_0 := by decide +kernel
theorem dksX1_scan_1 : cX1_scan.data.toList.drop 24 = dktX1_scan_1 := dk_seg dksX1_scan_0 24 rfl rfl
theorem dksX1_scan_2 : cX1_scan.data.toList.drop 46 = dktX1_scan_2 := dk_seg dksX1_scan_1 22 rfl rfl
theorem dX1_scan_0 : decode cX1_scan 0 = .ok (.iload_n 1, 1) := dk_27 (dk_at dksX1_scan_0 0 rfl rfl)
theorem dX1_scan_1 : decode cX1_scan 1 = .ok (.i2l, 1) := dk_133 (dk_at dksX1_scan_0 1 rfl rfl)
theorem dX1_scan_2 : decode cX1_scan 2 = .ok (.lconst 1, 1) := dk_10 (dk_at dksX1_scan_0 2 rfl rfl)
theorem dX1_scan_3 : decode cX1_scan 3 = .ok (.ldc2_w 88, 3) := dk_20 0 88 (dk_at dksX1_scan_0 3 rfl rfl)
theorem dX1_scan_6 : decode cX1_scan 6 = .ok (.invokestatic 17, 3) := dk_184 0 17 (dk_at dksX1_scan_0 6 rfl rfl)
theorem dX1_scan_9 : decode cX1_scan 9 = .ok (.ifCond .eq 19, 3) := dk_153 0 19 (dk_at dksX1_scan_0 9 rfl rfl)
theorem dX1_scan_12 : decode cX1_scan 12 = .ok (.iload_n 2, 1) := dk_28 (dk_at dksX1_scan_0 12 rfl rfl)
theorem dX1_scan_13 : decode cX1_scan 13 = .ok (.i2l, 1) := dk_133 (dk_at dksX1_scan_0 13 rfl rfl)
theorem dX1_scan_14 : decode cX1_scan 14 = .ok (.lconst 0, 1) := dk_9 (dk_at dksX1_scan_0 14 rfl rfl)
theorem dX1_scan_15 : decode cX1_scan 15 = .ok (.ldc2_w 334, 3) := dk_20 1 78 (dk_at dksX1_scan_0 15 rfl rfl)
theorem dX1_scan_18 : decode cX1_scan 18 = .ok (.invokestatic 17, 3) := dk_184 0 17 (dk_at dksX1_scan_0 18 rfl rfl)
theorem dX1_scan_21 : decode cX1_scan 21 = .ok (.ifCond .eq 7, 3) := dk_153 0 7 (dk_at dksX1_scan_0 21 rfl rfl)
theorem dX1_scan_24 : decode cX1_scan 24 = .ok (.iconst 1, 1) := dk_4 (dk_at dksX1_scan_1 0 rfl rfl)
theorem dX1_scan_25 : decode cX1_scan 25 = .ok (.goto 4, 3) := dk_167 0 4 (dk_at dksX1_scan_1 1 rfl rfl)
theorem dX1_scan_28 : decode cX1_scan 28 = .ok (.iconst 0, 1) := dk_3 (dk_at dksX1_scan_1 4 rfl rfl)
theorem dX1_scan_29 : decode cX1_scan 29 = .ok (.iload_n 3, 1) := dk_29 (dk_at dksX1_scan_1 5 rfl rfl)
theorem dX1_scan_30 : decode cX1_scan 30 = .ok (.iload 4, 2) := dk_21 4 (dk_at dksX1_scan_1 6 rfl rfl)
theorem dX1_scan_32 : decode cX1_scan 32 = .ok (.invokestatic 316, 3) := dk_184 1 60 (dk_at dksX1_scan_1 8 rfl rfl)
theorem dX1_scan_35 : decode cX1_scan 35 = .ok (.iload_n 2, 1) := dk_28 (dk_at dksX1_scan_1 11 rfl rfl)
theorem dX1_scan_36 : decode cX1_scan 36 = .ok (.aload_n 0, 1) := dk_42 (dk_at dksX1_scan_1 12 rfl rfl)
theorem dX1_scan_37 : decode cX1_scan 37 = .ok (.iload_n 1, 1) := dk_27 (dk_at dksX1_scan_1 13 rfl rfl)
theorem dX1_scan_38 : decode cX1_scan 38 = .ok (.iload_n 3, 1) := dk_29 (dk_at dksX1_scan_1 14 rfl rfl)
theorem dX1_scan_39 : decode cX1_scan 39 = .ok (.iload 4, 2) := dk_21 4 (dk_at dksX1_scan_1 15 rfl rfl)
theorem dX1_scan_41 : decode cX1_scan 41 = .ok (.invokedynamic 336, 5) := by decide +kernel
theorem dX1_scan_46 : decode cX1_scan 46 = .ok (.invokestatic 271, 3) := dk_184 1 15 (dk_at dksX1_scan_2 0 rfl rfl)
theorem dX1_scan_49 : decode cX1_scan 49 = .ok (.ireturn, 1) := dk_172 (dk_at dksX1_scan_2 3 rfl rfl)
abbrev cX1_lambda_scan_1 : ByteArray := prog_1_method_68_code
def yX1_lambda_scan_1 : MethodName := ⟨RX1, "lambda$scan$1", "(IIII)J"⟩
def dkwX1_lambda_scan_1_0 : List UInt8 := [42, 180, 0, 43, 21, 4, 27, 104, 28, 29, 182, 1, 74, 173]
abbrev dktX1_lambda_scan_1_0 : List UInt8 := dkwX1_lambda_scan_1_0 ++ []
theorem dksX1_lambda_scan_1_0 : cX1_lambda_scan_1.data.toList.drop 0 = dktX1_lambda_scan_1_0 := by decide +kernel
theorem dX1_lambda_scan_1_0 : decode cX1_lambda_scan_1 0 = .ok (.aload_n 0, 1) := dk_42 (dk_at dksX1_lambda_scan_1_0 0 rfl rfl)
theorem dX1_lambda_scan_1_1 : decode cX1_lambda_scan_1 1 = .ok (.getfield 43, 3) := dk_180 0 43 (dk_at dksX1_lambda_scan_1_0 1 rfl rfl)
theorem dX1_lambda_scan_1_4 : decode cX1_lambda_scan_1 4 = .ok (.iload 4, 2) := dk_21 4 (dk_at dksX1_lambda_scan_1_0 4 rfl rfl)
theorem dX1_lambda_scan_1_6 : decode cX1_lambda_scan_1 6 = .ok (.iload_n 1, 1) := dk_27 (dk_at dksX1_lambda_scan_1_0 6 rfl rfl)
theorem dX1_lambda_scan_1_7 : decode cX1_lambda_scan_1 7 = .ok (.imul, 1) := dk_104 (dk_at dksX1_lambda_scan_1_0 7 rfl rfl)
theorem dX1_lambda_scan_1_8 : decode cX1_lambda_scan_1 8 = .ok (.iload_n 2, 1) := dk_28 (dk_at dksX1_lambda_scan_1_0 8 rfl rfl)
theorem dX1_lambda_scan_1_9 : decode cX1_lambda_scan_1 9 = .ok (.iload_n 3, 1) := dk_29 (dk_at dksX1_lambda_scan_1_0 9 rfl rfl)
theorem dX1_lambda_scan_1_10 : decode cX1_lambda_scan_1 10 = .ok (.invokevirtual 330, 3) := dk_182 1 74 (dk_at dksX1_lambda_scan_1_0 10 rfl rfl)
theorem dX1_lambda_scan_1_13 : decode cX1_lambda_scan_1 13 = .ok (.lreturn, 1) := dk_173 (dk_at dksX1_lambda_scan_1_0 13 rfl rfl)
abbrev cX1_bestDirection : ByteArray := prog_1_method_55_code
def yX1_bestDirection : MethodName := ⟨RX1, "bestDirection", "(III)I"⟩
def dkwX1_bestDirection_3 : List UInt8 := [54, 4, 22, 8, 55, 5, 21, 7, 27, 96, 54, 7, 167, 255, 200, 21, 4, 172]
abbrev dktX1_bestDirection_3 : List UInt8 := dkwX1_bestDirection_3 ++ []
def dkwX1_bestDirection_2 : List UInt8 := [183, 1, 38, 29, 182, 1, 56, 28, 29, 182, 0, 244, 55, 8, 22, 8, 22, 5, 148, 158, 0, 11, 21, 7]
abbrev dktX1_bestDirection_2 : List UInt8 := dkwX1_bestDirection_2 ++ dktX1_bestDirection_3
def dkwX1_bestDirection_1 : List UInt8 := [16, 156, 54, 7, 21, 7, 16, 100, 163, 0, 55, 178, 0, 250, 42, 180, 0, 43, 187, 1, 36, 89, 21, 7]
abbrev dktX1_bestDirection_1 : List UInt8 := dkwX1_bestDirection_1 ++ dktX1_bestDirection_2
def dkwX1_bestDirection_0 : List UInt8 := [27, 133, 10, 20, 0, 88, 184, 0, 17, 28, 29, 184, 1, 60, 16, 156, 54, 4, 20, 0, 248, 55, 5]
abbrev dktX1_bestDirection_0 : List UInt8 := dkwX1_bestDirection_0 ++ dktX1_bestDirection_1
theorem dksX1_bestDirection_0 : cX1_bestDirection.data.toList.drop 0 = dktX1_bestDirection_0 := by decide +kernel
theorem dksX1_bestDirection_1 : cX1_bestDirection.data.toList.drop 23 = dktX1_bestDirection_1 := dk_seg dksX1_bestDirection_0 23 rfl rfl
theorem dksX1_bestDirection_2 : cX1_bestDirection.data.toList.drop 47 = dktX1_bestDirection_2 := dk_seg dksX1_bestDirection_1 24 rfl rfl
theorem dksX1_bestDirection_3 : cX1_bestDirection.data.toList.drop 71 = dktX1_bestDirection_3 := dk_seg dksX1_bestDirection_2 24 rfl rfl
theorem dX1_bestDirection_0 : decode cX1_bestDirection 0 = .ok (.iload_n 1, 1) := dk_27 (dk_at dksX1_bestDirection_0 0 rfl rfl)
theorem dX1_bestDirection_1 : decode cX1_bestDirection 1 = .ok (.i2l, 1) := dk_133 (dk_at dksX1_bestDirection_0 1 rfl rfl)
theorem dX1_bestDirection_2 : decode cX1_bestDirection 2 = .ok (.lconst 1, 1) := dk_10 (dk_at dksX1_bestDirection_0 2 rfl rfl)
theorem dX1_bestDirection_3 : decode cX1_bestDirection 3 = .ok (.ldc2_w 88, 3) := dk_20 0 88 (dk_at dksX1_bestDirection_0 3 rfl rfl)
theorem dX1_bestDirection_6 : decode cX1_bestDirection 6 = .ok (.invokestatic 17, 3) := dk_184 0 17 (dk_at dksX1_bestDirection_0 6 rfl rfl)
theorem dX1_bestDirection_9 : decode cX1_bestDirection 9 = .ok (.iload_n 2, 1) := dk_28 (dk_at dksX1_bestDirection_0 9 rfl rfl)
theorem dX1_bestDirection_10 : decode cX1_bestDirection 10 = .ok (.iload_n 3, 1) := dk_29 (dk_at dksX1_bestDirection_0 10 rfl rfl)
theorem dX1_bestDirection_11 : decode cX1_bestDirection 11 = .ok (.invokestatic 316, 3) := dk_184 1 60 (dk_at dksX1_bestDirection_0 11 rfl rfl)
theorem dX1_bestDirection_14 : decode cX1_bestDirection 14 = .ok (.bipush (-100), 2) := dk_16 156 (dk_at dksX1_bestDirection_0 14 rfl rfl)
theorem dX1_bestDirection_16 : decode cX1_bestDirection 16 = .ok (.istore 4, 2) := dk_54 4 (dk_at dksX1_bestDirection_0 16 rfl rfl)
theorem dX1_bestDirection_18 : decode cX1_bestDirection 18 = .ok (.ldc2_w 248, 3) := dk_20 0 248 (dk_at dksX1_bestDirection_0 18 rfl rfl)
theorem dX1_bestDirection_21 : decode cX1_bestDirection 21 = .ok (.lstore 5, 2) := dk_55 5 (dk_at dksX1_bestDirection_0 21 rfl rfl)
theorem dX1_bestDirection_23 : decode cX1_bestDirection 23 = .ok (.bipush (-100), 2) := dk_16 156 (dk_at dksX1_bestDirection_1 0 rfl rfl)
theorem dX1_bestDirection_25 : decode cX1_bestDirection 25 = .ok (.istore 7, 2) := dk_54 7 (dk_at dksX1_bestDirection_1 2 rfl rfl)
theorem dX1_bestDirection_27 : decode cX1_bestDirection 27 = .ok (.iload 7, 2) := dk_21 7 (dk_at dksX1_bestDirection_1 4 rfl rfl)
theorem dX1_bestDirection_29 : decode cX1_bestDirection 29 = .ok (.bipush 100, 2) := dk_16 100 (dk_at dksX1_bestDirection_1 6 rfl rfl)
theorem dX1_bestDirection_31 : decode cX1_bestDirection 31 = .ok (.if_icmp .gt 55, 3) := dk_163 0 55 (dk_at dksX1_bestDirection_1 8 rfl rfl)
theorem dX1_bestDirection_34 : decode cX1_bestDirection 34 = .ok (.getstatic 250, 3) := dk_178 0 250 (dk_at dksX1_bestDirection_1 11 rfl rfl)
theorem dX1_bestDirection_37 : decode cX1_bestDirection 37 = .ok (.aload_n 0, 1) := dk_42 (dk_at dksX1_bestDirection_1 14 rfl rfl)
theorem dX1_bestDirection_38 : decode cX1_bestDirection 38 = .ok (.getfield 43, 3) := dk_180 0 43 (dk_at dksX1_bestDirection_1 15 rfl rfl)
theorem dX1_bestDirection_41 : decode cX1_bestDirection 41 = .ok (.new 292, 3) := dk_187 1 36 (dk_at dksX1_bestDirection_1 18 rfl rfl)
theorem dX1_bestDirection_44 : decode cX1_bestDirection 44 = .ok (.dup, 1) := dk_89 (dk_at dksX1_bestDirection_1 21 rfl rfl)
theorem dX1_bestDirection_45 : decode cX1_bestDirection 45 = .ok (.iload 7, 2) := dk_21 7 (dk_at dksX1_bestDirection_1 22 rfl rfl)
theorem dX1_bestDirection_47 : decode cX1_bestDirection 47 = .ok (.invokespecial 294, 3) := dk_183 1 38 (dk_at dksX1_bestDirection_2 0 rfl rfl)
theorem dX1_bestDirection_50 : decode cX1_bestDirection 50 = .ok (.iload_n 3, 1) := dk_29 (dk_at dksX1_bestDirection_2 3 rfl rfl)
theorem dX1_bestDirection_51 : decode cX1_bestDirection 51 = .ok (.invokevirtual 312, 3) := dk_182 1 56 (dk_at dksX1_bestDirection_2 4 rfl rfl)
theorem dX1_bestDirection_54 : decode cX1_bestDirection 54 = .ok (.iload_n 2, 1) := dk_28 (dk_at dksX1_bestDirection_2 7 rfl rfl)
theorem dX1_bestDirection_55 : decode cX1_bestDirection 55 = .ok (.iload_n 3, 1) := dk_29 (dk_at dksX1_bestDirection_2 8 rfl rfl)
theorem dX1_bestDirection_56 : decode cX1_bestDirection 56 = .ok (.invokevirtual 244, 3) := dk_182 0 244 (dk_at dksX1_bestDirection_2 9 rfl rfl)
theorem dX1_bestDirection_59 : decode cX1_bestDirection 59 = .ok (.lstore 8, 2) := dk_55 8 (dk_at dksX1_bestDirection_2 12 rfl rfl)
theorem dX1_bestDirection_61 : decode cX1_bestDirection 61 = .ok (.lload 8, 2) := dk_22 8 (dk_at dksX1_bestDirection_2 14 rfl rfl)
theorem dX1_bestDirection_63 : decode cX1_bestDirection 63 = .ok (.lload 5, 2) := dk_22 5 (dk_at dksX1_bestDirection_2 16 rfl rfl)
theorem dX1_bestDirection_65 : decode cX1_bestDirection 65 = .ok (.lcmp, 1) := dk_148 (dk_at dksX1_bestDirection_2 18 rfl rfl)
theorem dX1_bestDirection_66 : decode cX1_bestDirection 66 = .ok (.ifCond .le 11, 3) := dk_158 0 11 (dk_at dksX1_bestDirection_2 19 rfl rfl)
theorem dX1_bestDirection_69 : decode cX1_bestDirection 69 = .ok (.iload 7, 2) := dk_21 7 (dk_at dksX1_bestDirection_2 22 rfl rfl)
theorem dX1_bestDirection_71 : decode cX1_bestDirection 71 = .ok (.istore 4, 2) := dk_54 4 (dk_at dksX1_bestDirection_3 0 rfl rfl)
theorem dX1_bestDirection_73 : decode cX1_bestDirection 73 = .ok (.lload 8, 2) := dk_22 8 (dk_at dksX1_bestDirection_3 2 rfl rfl)
theorem dX1_bestDirection_75 : decode cX1_bestDirection 75 = .ok (.lstore 5, 2) := dk_55 5 (dk_at dksX1_bestDirection_3 4 rfl rfl)
theorem dX1_bestDirection_77 : decode cX1_bestDirection 77 = .ok (.iload 7, 2) := dk_21 7 (dk_at dksX1_bestDirection_3 6 rfl rfl)
theorem dX1_bestDirection_79 : decode cX1_bestDirection 79 = .ok (.iload_n 1, 1) := dk_27 (dk_at dksX1_bestDirection_3 8 rfl rfl)
theorem dX1_bestDirection_80 : decode cX1_bestDirection 80 = .ok (.iadd, 1) := dk_96 (dk_at dksX1_bestDirection_3 9 rfl rfl)
theorem dX1_bestDirection_81 : decode cX1_bestDirection 81 = .ok (.istore 7, 2) := dk_54 7 (dk_at dksX1_bestDirection_3 10 rfl rfl)
theorem dX1_bestDirection_83 : decode cX1_bestDirection 83 = .ok (.goto (-56), 3) := dk_167 255 200 (dk_at dksX1_bestDirection_3 12 rfl rfl)
theorem dX1_bestDirection_86 : decode cX1_bestDirection 86 = .ok (.iload 4, 2) := dk_21 4 (dk_at dksX1_bestDirection_3 15 rfl rfl)
theorem dX1_bestDirection_88 : decode cX1_bestDirection 88 = .ok (.ireturn, 1) := dk_172 (dk_at dksX1_bestDirection_3 17 rfl rfl)
abbrev cX1_spectrum : ByteArray := prog_1_method_56_code
def yX1_spectrum : MethodName := ⟨RX1, "spectrum", "(IIII)J"⟩
def dkwX1_spectrum_2 : List UInt8 := [184, 1, 67, 173]
abbrev dktX1_spectrum_2 : List UInt8 := dkwX1_spectrum_2 ++ []
def dkwX1_spectrum_1 : List UInt8 := [184, 1, 60, 42, 180, 0, 43, 187, 1, 36, 89, 27, 183, 1, 38, 21, 4, 182, 1, 56, 28, 29, 21, 4]
abbrev dktX1_spectrum_1 : List UInt8 := dkwX1_spectrum_1 ++ dktX1_spectrum_2
def dkwX1_spectrum_0 : List UInt8 := [27, 184, 1, 33, 153, 0, 14, 28, 184, 1, 64, 153, 0, 7, 4, 167, 0, 4, 3, 29, 21, 4]
abbrev dktX1_spectrum_0 : List UInt8 := dkwX1_spectrum_0 ++ dktX1_spectrum_1
theorem dksX1_spectrum_0 : cX1_spectrum.data.toList.drop 0 = dktX1_spectrum_0 := by decide +kernel
theorem dksX1_spectrum_1 : cX1_spectrum.data.toList.drop 22 = dktX1_spectrum_1 := dk_seg dksX1_spectrum_0 22 rfl rfl
theorem dksX1_spectrum_2 : cX1_spectrum.data.toList.drop 46 = dktX1_spectrum_2 := dk_seg dksX1_spectrum_1 24 rfl rfl
theorem dX1_spectrum_0 : decode cX1_spectrum 0 = .ok (.iload_n 1, 1) := dk_27 (dk_at dksX1_spectrum_0 0 rfl rfl)
theorem dX1_spectrum_1 : decode cX1_spectrum 1 = .ok (.invokestatic 289, 3) := dk_184 1 33 (dk_at dksX1_spectrum_0 1 rfl rfl)
theorem dX1_spectrum_4 : decode cX1_spectrum 4 = .ok (.ifCond .eq 14, 3) := dk_153 0 14 (dk_at dksX1_spectrum_0 4 rfl rfl)
theorem dX1_spectrum_7 : decode cX1_spectrum 7 = .ok (.iload_n 2, 1) := dk_28 (dk_at dksX1_spectrum_0 7 rfl rfl)
theorem dX1_spectrum_8 : decode cX1_spectrum 8 = .ok (.invokestatic 320, 3) := dk_184 1 64 (dk_at dksX1_spectrum_0 8 rfl rfl)
theorem dX1_spectrum_11 : decode cX1_spectrum 11 = .ok (.ifCond .eq 7, 3) := dk_153 0 7 (dk_at dksX1_spectrum_0 11 rfl rfl)
theorem dX1_spectrum_14 : decode cX1_spectrum 14 = .ok (.iconst 1, 1) := dk_4 (dk_at dksX1_spectrum_0 14 rfl rfl)
theorem dX1_spectrum_15 : decode cX1_spectrum 15 = .ok (.goto 4, 3) := dk_167 0 4 (dk_at dksX1_spectrum_0 15 rfl rfl)
theorem dX1_spectrum_18 : decode cX1_spectrum 18 = .ok (.iconst 0, 1) := dk_3 (dk_at dksX1_spectrum_0 18 rfl rfl)
theorem dX1_spectrum_19 : decode cX1_spectrum 19 = .ok (.iload_n 3, 1) := dk_29 (dk_at dksX1_spectrum_0 19 rfl rfl)
theorem dX1_spectrum_20 : decode cX1_spectrum 20 = .ok (.iload 4, 2) := dk_21 4 (dk_at dksX1_spectrum_0 20 rfl rfl)
theorem dX1_spectrum_22 : decode cX1_spectrum 22 = .ok (.invokestatic 316, 3) := dk_184 1 60 (dk_at dksX1_spectrum_1 0 rfl rfl)
theorem dX1_spectrum_25 : decode cX1_spectrum 25 = .ok (.aload_n 0, 1) := dk_42 (dk_at dksX1_spectrum_1 3 rfl rfl)
theorem dX1_spectrum_26 : decode cX1_spectrum 26 = .ok (.getfield 43, 3) := dk_180 0 43 (dk_at dksX1_spectrum_1 4 rfl rfl)
theorem dX1_spectrum_29 : decode cX1_spectrum 29 = .ok (.new 292, 3) := dk_187 1 36 (dk_at dksX1_spectrum_1 7 rfl rfl)
theorem dX1_spectrum_32 : decode cX1_spectrum 32 = .ok (.dup, 1) := dk_89 (dk_at dksX1_spectrum_1 10 rfl rfl)
theorem dX1_spectrum_33 : decode cX1_spectrum 33 = .ok (.iload_n 1, 1) := dk_27 (dk_at dksX1_spectrum_1 11 rfl rfl)
theorem dX1_spectrum_34 : decode cX1_spectrum 34 = .ok (.invokespecial 294, 3) := dk_183 1 38 (dk_at dksX1_spectrum_1 12 rfl rfl)
theorem dX1_spectrum_37 : decode cX1_spectrum 37 = .ok (.iload 4, 2) := dk_21 4 (dk_at dksX1_spectrum_1 15 rfl rfl)
theorem dX1_spectrum_39 : decode cX1_spectrum 39 = .ok (.invokevirtual 312, 3) := dk_182 1 56 (dk_at dksX1_spectrum_1 17 rfl rfl)
theorem dX1_spectrum_42 : decode cX1_spectrum 42 = .ok (.iload_n 2, 1) := dk_28 (dk_at dksX1_spectrum_1 20 rfl rfl)
theorem dX1_spectrum_43 : decode cX1_spectrum 43 = .ok (.iload_n 3, 1) := dk_29 (dk_at dksX1_spectrum_1 21 rfl rfl)
theorem dX1_spectrum_44 : decode cX1_spectrum 44 = .ok (.iload 4, 2) := dk_21 4 (dk_at dksX1_spectrum_1 22 rfl rfl)
theorem dX1_spectrum_46 : decode cX1_spectrum 46 = .ok (.invokestatic 323, 3) := dk_184 1 67 (dk_at dksX1_spectrum_2 0 rfl rfl)
theorem dX1_spectrum_49 : decode cX1_spectrum 49 = .ok (.lreturn, 1) := dk_173 (dk_at dksX1_spectrum_2 3 rfl rfl)
abbrev cX1_meanPower : ByteArray := prog_1_method_58_code
def yX1_meanPower : MethodName := ⟨RX1, "meanPower", "(II)D"⟩
def dkwX1_meanPower_1 : List UInt8 := [184, 1, 83, 175]
abbrev dktX1_meanPower_1 : List UInt8 := dkwX1_meanPower_1 ++ []
def dkwX1_meanPower_0 : List UInt8 := [4, 27, 28, 184, 1, 60, 42, 180, 0, 43, 42, 180, 0, 43, 180, 1, 24, 28, 182, 1, 56, 27, 28]
abbrev dktX1_meanPower_0 : List UInt8 := dkwX1_meanPower_0 ++ dktX1_meanPower_1
theorem dksX1_meanPower_0 : cX1_meanPower.data.toList.drop 0 = dktX1_meanPower_0 := by decide +kernel
theorem dksX1_meanPower_1 : cX1_meanPower.data.toList.drop 23 = dktX1_meanPower_1 := dk_seg dksX1_meanPower_0 23 rfl rfl
theorem dX1_meanPower_0 : decode cX1_meanPower 0 = .ok (.iconst 1, 1) := dk_4 (dk_at dksX1_meanPower_0 0 rfl rfl)
theorem dX1_meanPower_1 : decode cX1_meanPower 1 = .ok (.iload_n 1, 1) := dk_27 (dk_at dksX1_meanPower_0 1 rfl rfl)
theorem dX1_meanPower_2 : decode cX1_meanPower 2 = .ok (.iload_n 2, 1) := dk_28 (dk_at dksX1_meanPower_0 2 rfl rfl)
theorem dX1_meanPower_3 : decode cX1_meanPower 3 = .ok (.invokestatic 316, 3) := dk_184 1 60 (dk_at dksX1_meanPower_0 3 rfl rfl)
theorem dX1_meanPower_6 : decode cX1_meanPower 6 = .ok (.aload_n 0, 1) := dk_42 (dk_at dksX1_meanPower_0 6 rfl rfl)
theorem dX1_meanPower_7 : decode cX1_meanPower 7 = .ok (.getfield 43, 3) := dk_180 0 43 (dk_at dksX1_meanPower_0 7 rfl rfl)
theorem dX1_meanPower_10 : decode cX1_meanPower 10 = .ok (.aload_n 0, 1) := dk_42 (dk_at dksX1_meanPower_0 10 rfl rfl)
theorem dX1_meanPower_11 : decode cX1_meanPower 11 = .ok (.getfield 43, 3) := dk_180 0 43 (dk_at dksX1_meanPower_0 11 rfl rfl)
theorem dX1_meanPower_14 : decode cX1_meanPower 14 = .ok (.getfield 280, 3) := dk_180 1 24 (dk_at dksX1_meanPower_0 14 rfl rfl)
theorem dX1_meanPower_17 : decode cX1_meanPower 17 = .ok (.iload_n 2, 1) := dk_28 (dk_at dksX1_meanPower_0 17 rfl rfl)
theorem dX1_meanPower_18 : decode cX1_meanPower 18 = .ok (.invokevirtual 312, 3) := dk_182 1 56 (dk_at dksX1_meanPower_0 18 rfl rfl)
theorem dX1_meanPower_21 : decode cX1_meanPower 21 = .ok (.iload_n 1, 1) := dk_27 (dk_at dksX1_meanPower_0 21 rfl rfl)
theorem dX1_meanPower_22 : decode cX1_meanPower 22 = .ok (.iload_n 2, 1) := dk_28 (dk_at dksX1_meanPower_0 22 rfl rfl)
theorem dX1_meanPower_23 : decode cX1_meanPower 23 = .ok (.invokestatic 339, 3) := dk_184 1 83 (dk_at dksX1_meanPower_1 0 rfl rfl)
theorem dX1_meanPower_26 : decode cX1_meanPower 26 = .ok (.dreturn, 1) := dk_175 (dk_at dksX1_meanPower_1 3 rfl rfl)
abbrev cX1_mean : ByteArray := prog_1_method_57_code
def yX1_mean : MethodName := ⟨RX1, "mean", "(LTrackArray$Signal;II)D"⟩
def dkwX1_mean_0 : List UInt8 := [178, 0, 250, 42, 27, 28, 182, 0, 244, 138, 28, 27, 100, 4, 96, 135, 111, 175]
abbrev dktX1_mean_0 : List UInt8 := dkwX1_mean_0 ++ []
theorem dksX1_mean_0 : cX1_mean.data.toList.drop 0 = dktX1_mean_0 := by decide +kernel
theorem dX1_mean_0 : decode cX1_mean 0 = .ok (.getstatic 250, 3) := dk_178 0 250 (dk_at dksX1_mean_0 0 rfl rfl)
theorem dX1_mean_3 : decode cX1_mean 3 = .ok (.aload_n 0, 1) := dk_42 (dk_at dksX1_mean_0 3 rfl rfl)
theorem dX1_mean_4 : decode cX1_mean 4 = .ok (.iload_n 1, 1) := dk_27 (dk_at dksX1_mean_0 4 rfl rfl)
theorem dX1_mean_5 : decode cX1_mean 5 = .ok (.iload_n 2, 1) := dk_28 (dk_at dksX1_mean_0 5 rfl rfl)
theorem dX1_mean_6 : decode cX1_mean 6 = .ok (.invokevirtual 244, 3) := dk_182 0 244 (dk_at dksX1_mean_0 6 rfl rfl)
theorem dX1_mean_9 : decode cX1_mean 9 = .ok (.l2d, 1) := dk_138 (dk_at dksX1_mean_0 9 rfl rfl)
theorem dX1_mean_10 : decode cX1_mean 10 = .ok (.iload_n 2, 1) := dk_28 (dk_at dksX1_mean_0 10 rfl rfl)
theorem dX1_mean_11 : decode cX1_mean 11 = .ok (.iload_n 1, 1) := dk_27 (dk_at dksX1_mean_0 11 rfl rfl)
theorem dX1_mean_12 : decode cX1_mean 12 = .ok (.isub, 1) := dk_100 (dk_at dksX1_mean_0 12 rfl rfl)
theorem dX1_mean_13 : decode cX1_mean 13 = .ok (.iconst 1, 1) := dk_4 (dk_at dksX1_mean_0 13 rfl rfl)
theorem dX1_mean_14 : decode cX1_mean 14 = .ok (.iadd, 1) := dk_96 (dk_at dksX1_mean_0 14 rfl rfl)
theorem dX1_mean_15 : decode cX1_mean 15 = .ok (.i2d, 1) := dk_135 (dk_at dksX1_mean_0 15 rfl rfl)
theorem dX1_mean_16 : decode cX1_mean 16 = .ok (.ddiv, 1) := dk_111 (dk_at dksX1_mean_0 16 rfl rfl)
theorem dX1_mean_17 : decode cX1_mean 17 = .ok (.dreturn, 1) := dk_175 (dk_at dksX1_mean_0 17 rfl rfl)
abbrev cX1_crest : ByteArray := prog_1_method_59_code
def yX1_crest : MethodName := ⟨RX1, "crest", "(II)F"⟩
def dkwX1_crest_2 : List UInt8 := [154, 0, 7, 11, 167, 0, 12, 24, 6, 24, 6, 107, 24, 4, 111, 144, 174]
abbrev dktX1_crest_2 : List UInt8 := dkwX1_crest_2 ++ []
def dkwX1_crest_1 : List UInt8 := [28, 184, 1, 83, 57, 4, 178, 1, 87, 45, 27, 28, 182, 0, 244, 138, 57, 6, 24, 4, 14, 151]
abbrev dktX1_crest_1 : List UInt8 := dkwX1_crest_1 ++ dktX1_crest_2
def dkwX1_crest_0 : List UInt8 := [4, 27, 28, 184, 1, 60, 42, 180, 0, 43, 42, 180, 0, 43, 180, 1, 24, 28, 182, 1, 56, 78, 45, 27]
abbrev dktX1_crest_0 : List UInt8 := dkwX1_crest_0 ++ dktX1_crest_1
theorem dksX1_crest_0 : cX1_crest.data.toList.drop 0 = dktX1_crest_0 := by decide +kernel
theorem dksX1_crest_1 : cX1_crest.data.toList.drop 24 = dktX1_crest_1 := dk_seg dksX1_crest_0 24 rfl rfl
theorem dksX1_crest_2 : cX1_crest.data.toList.drop 46 = dktX1_crest_2 := dk_seg dksX1_crest_1 22 rfl rfl
theorem dX1_crest_0 : decode cX1_crest 0 = .ok (.iconst 1, 1) := dk_4 (dk_at dksX1_crest_0 0 rfl rfl)
theorem dX1_crest_1 : decode cX1_crest 1 = .ok (.iload_n 1, 1) := dk_27 (dk_at dksX1_crest_0 1 rfl rfl)
theorem dX1_crest_2 : decode cX1_crest 2 = .ok (.iload_n 2, 1) := dk_28 (dk_at dksX1_crest_0 2 rfl rfl)
theorem dX1_crest_3 : decode cX1_crest 3 = .ok (.invokestatic 316, 3) := dk_184 1 60 (dk_at dksX1_crest_0 3 rfl rfl)
theorem dX1_crest_6 : decode cX1_crest 6 = .ok (.aload_n 0, 1) := dk_42 (dk_at dksX1_crest_0 6 rfl rfl)
theorem dX1_crest_7 : decode cX1_crest 7 = .ok (.getfield 43, 3) := dk_180 0 43 (dk_at dksX1_crest_0 7 rfl rfl)
theorem dX1_crest_10 : decode cX1_crest 10 = .ok (.aload_n 0, 1) := dk_42 (dk_at dksX1_crest_0 10 rfl rfl)
theorem dX1_crest_11 : decode cX1_crest 11 = .ok (.getfield 43, 3) := dk_180 0 43 (dk_at dksX1_crest_0 11 rfl rfl)
theorem dX1_crest_14 : decode cX1_crest 14 = .ok (.getfield 280, 3) := dk_180 1 24 (dk_at dksX1_crest_0 14 rfl rfl)
theorem dX1_crest_17 : decode cX1_crest 17 = .ok (.iload_n 2, 1) := dk_28 (dk_at dksX1_crest_0 17 rfl rfl)
theorem dX1_crest_18 : decode cX1_crest 18 = .ok (.invokevirtual 312, 3) := dk_182 1 56 (dk_at dksX1_crest_0 18 rfl rfl)
theorem dX1_crest_21 : decode cX1_crest 21 = .ok (.astore_n 3, 1) := dk_78 (dk_at dksX1_crest_0 21 rfl rfl)
theorem dX1_crest_22 : decode cX1_crest 22 = .ok (.aload_n 3, 1) := dk_45 (dk_at dksX1_crest_0 22 rfl rfl)
theorem dX1_crest_23 : decode cX1_crest 23 = .ok (.iload_n 1, 1) := dk_27 (dk_at dksX1_crest_0 23 rfl rfl)
theorem dX1_crest_24 : decode cX1_crest 24 = .ok (.iload_n 2, 1) := dk_28 (dk_at dksX1_crest_1 0 rfl rfl)
theorem dX1_crest_25 : decode cX1_crest 25 = .ok (.invokestatic 339, 3) := dk_184 1 83 (dk_at dksX1_crest_1 1 rfl rfl)
theorem dX1_crest_28 : decode cX1_crest 28 = .ok (.dstore 4, 2) := dk_57 4 (dk_at dksX1_crest_1 4 rfl rfl)
theorem dX1_crest_30 : decode cX1_crest 30 = .ok (.getstatic 343, 3) := dk_178 1 87 (dk_at dksX1_crest_1 6 rfl rfl)
theorem dX1_crest_33 : decode cX1_crest 33 = .ok (.aload_n 3, 1) := dk_45 (dk_at dksX1_crest_1 9 rfl rfl)
theorem dX1_crest_34 : decode cX1_crest 34 = .ok (.iload_n 1, 1) := dk_27 (dk_at dksX1_crest_1 10 rfl rfl)
theorem dX1_crest_35 : decode cX1_crest 35 = .ok (.iload_n 2, 1) := dk_28 (dk_at dksX1_crest_1 11 rfl rfl)
theorem dX1_crest_36 : decode cX1_crest 36 = .ok (.invokevirtual 244, 3) := dk_182 0 244 (dk_at dksX1_crest_1 12 rfl rfl)
theorem dX1_crest_39 : decode cX1_crest 39 = .ok (.l2d, 1) := dk_138 (dk_at dksX1_crest_1 15 rfl rfl)
theorem dX1_crest_40 : decode cX1_crest 40 = .ok (.dstore 6, 2) := dk_57 6 (dk_at dksX1_crest_1 16 rfl rfl)
theorem dX1_crest_42 : decode cX1_crest 42 = .ok (.dload 4, 2) := dk_24 4 (dk_at dksX1_crest_1 18 rfl rfl)
theorem dX1_crest_44 : decode cX1_crest 44 = .ok (.dconst 0, 1) := dk_14 (dk_at dksX1_crest_1 20 rfl rfl)
theorem dX1_crest_45 : decode cX1_crest 45 = .ok (.dcmp .l, 1) := dk_151 (dk_at dksX1_crest_1 21 rfl rfl)
theorem dX1_crest_46 : decode cX1_crest 46 = .ok (.ifCond .ne 7, 3) := dk_154 0 7 (dk_at dksX1_crest_2 0 rfl rfl)
theorem dX1_crest_49 : decode cX1_crest 49 = .ok (.fconst 0, 1) := dk_11 (dk_at dksX1_crest_2 3 rfl rfl)
theorem dX1_crest_50 : decode cX1_crest 50 = .ok (.goto 12, 3) := dk_167 0 12 (dk_at dksX1_crest_2 4 rfl rfl)
theorem dX1_crest_53 : decode cX1_crest 53 = .ok (.dload 6, 2) := dk_24 6 (dk_at dksX1_crest_2 7 rfl rfl)
theorem dX1_crest_55 : decode cX1_crest 55 = .ok (.dload 6, 2) := dk_24 6 (dk_at dksX1_crest_2 9 rfl rfl)
theorem dX1_crest_57 : decode cX1_crest 57 = .ok (.dmul, 1) := dk_107 (dk_at dksX1_crest_2 11 rfl rfl)
theorem dX1_crest_58 : decode cX1_crest 58 = .ok (.dload 4, 2) := dk_24 4 (dk_at dksX1_crest_2 12 rfl rfl)
theorem dX1_crest_60 : decode cX1_crest 60 = .ok (.ddiv, 1) := dk_111 (dk_at dksX1_crest_2 14 rfl rfl)
theorem dX1_crest_61 : decode cX1_crest 61 = .ok (.d2f, 1) := dk_144 (dk_at dksX1_crest_2 15 rfl rfl)
theorem dX1_crest_62 : decode cX1_crest 62 = .ok (.freturn, 1) := dk_174 (dk_at dksX1_crest_2 16 rfl rfl)
abbrev cX1_appendText : ByteArray := prog_1_method_60_code
def yX1_appendText : MethodName := ⟨RX1, "appendText", "(I)I"⟩
def dkwX1_appendText_2 : List UInt8 := [181, 1, 90, 132, 2, 248, 167, 255, 226, 42, 180, 1, 90, 172]
abbrev dktX1_appendText_2 : List UInt8 := dkwX1_appendText_2 ++ []
def dkwX1_appendText_1 : List UInt8 := [155, 0, 32, 42, 180, 0, 51, 42, 180, 1, 90, 27, 28, 122, 145, 84, 42, 89, 180, 1, 90, 4, 96]
abbrev dktX1_appendText_1 : List UInt8 := dkwX1_appendText_1 ++ dktX1_appendText_2
def dkwX1_appendText_0 : List UInt8 := [42, 180, 1, 90, 7, 96, 17, 1, 244, 163, 0, 7, 4, 167, 0, 4, 3, 184, 0, 125, 16, 24, 61, 28]
abbrev dktX1_appendText_0 : List UInt8 := dkwX1_appendText_0 ++ dktX1_appendText_1
theorem dksX1_appendText_0 : cX1_appendText.data.toList.drop 0 = dktX1_appendText_0 := by decide +kernel
theorem dksX1_appendText_1 : cX1_appendText.data.toList.drop 24 = dktX1_appendText_1 := dk_seg dksX1_appendText_0 24 rfl rfl
theorem dksX1_appendText_2 : cX1_appendText.data.toList.drop 47 = dktX1_appendText_2 := dk_seg dksX1_appendText_1 23 rfl rfl
theorem dX1_appendText_0 : decode cX1_appendText 0 = .ok (.aload_n 0, 1) := dk_42 (dk_at dksX1_appendText_0 0 rfl rfl)
theorem dX1_appendText_1 : decode cX1_appendText 1 = .ok (.getfield 346, 3) := dk_180 1 90 (dk_at dksX1_appendText_0 1 rfl rfl)
theorem dX1_appendText_4 : decode cX1_appendText 4 = .ok (.iconst 4, 1) := dk_7 (dk_at dksX1_appendText_0 4 rfl rfl)
theorem dX1_appendText_5 : decode cX1_appendText 5 = .ok (.iadd, 1) := dk_96 (dk_at dksX1_appendText_0 5 rfl rfl)
theorem dX1_appendText_6 : decode cX1_appendText 6 = .ok (.sipush 500, 3) := dk_17 1 244 (dk_at dksX1_appendText_0 6 rfl rfl)
theorem dX1_appendText_9 : decode cX1_appendText 9 = .ok (.if_icmp .gt 7, 3) := dk_163 0 7 (dk_at dksX1_appendText_0 9 rfl rfl)
theorem dX1_appendText_12 : decode cX1_appendText 12 = .ok (.iconst 1, 1) := dk_4 (dk_at dksX1_appendText_0 12 rfl rfl)
theorem dX1_appendText_13 : decode cX1_appendText 13 = .ok (.goto 4, 3) := dk_167 0 4 (dk_at dksX1_appendText_0 13 rfl rfl)
theorem dX1_appendText_16 : decode cX1_appendText 16 = .ok (.iconst 0, 1) := dk_3 (dk_at dksX1_appendText_0 16 rfl rfl)
theorem dX1_appendText_17 : decode cX1_appendText 17 = .ok (.invokestatic 125, 3) := dk_184 0 125 (dk_at dksX1_appendText_0 17 rfl rfl)
theorem dX1_appendText_20 : decode cX1_appendText 20 = .ok (.bipush 24, 2) := dk_16 24 (dk_at dksX1_appendText_0 20 rfl rfl)
theorem dX1_appendText_22 : decode cX1_appendText 22 = .ok (.istore_n 2, 1) := dk_61 (dk_at dksX1_appendText_0 22 rfl rfl)
theorem dX1_appendText_23 : decode cX1_appendText 23 = .ok (.iload_n 2, 1) := dk_28 (dk_at dksX1_appendText_0 23 rfl rfl)
theorem dX1_appendText_24 : decode cX1_appendText 24 = .ok (.ifCond .lt 32, 3) := dk_155 0 32 (dk_at dksX1_appendText_1 0 rfl rfl)
theorem dX1_appendText_27 : decode cX1_appendText 27 = .ok (.aload_n 0, 1) := dk_42 (dk_at dksX1_appendText_1 3 rfl rfl)
theorem dX1_appendText_28 : decode cX1_appendText 28 = .ok (.getfield 51, 3) := dk_180 0 51 (dk_at dksX1_appendText_1 4 rfl rfl)
theorem dX1_appendText_31 : decode cX1_appendText 31 = .ok (.aload_n 0, 1) := dk_42 (dk_at dksX1_appendText_1 7 rfl rfl)
theorem dX1_appendText_32 : decode cX1_appendText 32 = .ok (.getfield 346, 3) := dk_180 1 90 (dk_at dksX1_appendText_1 8 rfl rfl)
theorem dX1_appendText_35 : decode cX1_appendText 35 = .ok (.iload_n 1, 1) := dk_27 (dk_at dksX1_appendText_1 11 rfl rfl)
theorem dX1_appendText_36 : decode cX1_appendText 36 = .ok (.iload_n 2, 1) := dk_28 (dk_at dksX1_appendText_1 12 rfl rfl)
theorem dX1_appendText_37 : decode cX1_appendText 37 = .ok (.ishr, 1) := dk_122 (dk_at dksX1_appendText_1 13 rfl rfl)
theorem dX1_appendText_38 : decode cX1_appendText 38 = .ok (.i2b, 1) := dk_145 (dk_at dksX1_appendText_1 14 rfl rfl)
theorem dX1_appendText_39 : decode cX1_appendText 39 = .ok (.bastore, 1) := dk_84 (dk_at dksX1_appendText_1 15 rfl rfl)
theorem dX1_appendText_40 : decode cX1_appendText 40 = .ok (.aload_n 0, 1) := dk_42 (dk_at dksX1_appendText_1 16 rfl rfl)
theorem dX1_appendText_41 : decode cX1_appendText 41 = .ok (.dup, 1) := dk_89 (dk_at dksX1_appendText_1 17 rfl rfl)
theorem dX1_appendText_42 : decode cX1_appendText 42 = .ok (.getfield 346, 3) := dk_180 1 90 (dk_at dksX1_appendText_1 18 rfl rfl)
theorem dX1_appendText_45 : decode cX1_appendText 45 = .ok (.iconst 1, 1) := dk_4 (dk_at dksX1_appendText_1 21 rfl rfl)
theorem dX1_appendText_46 : decode cX1_appendText 46 = .ok (.iadd, 1) := dk_96 (dk_at dksX1_appendText_1 22 rfl rfl)
theorem dX1_appendText_47 : decode cX1_appendText 47 = .ok (.putfield 346, 3) := dk_181 1 90 (dk_at dksX1_appendText_2 0 rfl rfl)
theorem dX1_appendText_50 : decode cX1_appendText 50 = .ok (.iinc 2 (-8), 3) := dk_132 2 248 (dk_at dksX1_appendText_2 3 rfl rfl)
theorem dX1_appendText_53 : decode cX1_appendText 53 = .ok (.goto (-30), 3) := dk_167 255 226 (dk_at dksX1_appendText_2 6 rfl rfl)
theorem dX1_appendText_56 : decode cX1_appendText 56 = .ok (.aload_n 0, 1) := dk_42 (dk_at dksX1_appendText_2 9 rfl rfl)
theorem dX1_appendText_57 : decode cX1_appendText 57 = .ok (.getfield 346, 3) := dk_180 1 90 (dk_at dksX1_appendText_2 10 rfl rfl)
theorem dX1_appendText_60 : decode cX1_appendText 60 = .ok (.ireturn, 1) := dk_172 (dk_at dksX1_appendText_2 13 rfl rfl)
abbrev cX1_truncateText : ByteArray := prog_1_method_61_code
def yX1_truncateText : MethodName := ⟨RX1, "truncateText", "(I)I"⟩
def dkwX1_truncateText_0 : List UInt8 := [27, 133, 9, 42, 180, 1, 90, 133, 184, 0, 17, 184, 0, 21, 42, 27, 181, 1, 90, 27, 172]
abbrev dktX1_truncateText_0 : List UInt8 := dkwX1_truncateText_0 ++ []
theorem dksX1_truncateText_0 : cX1_truncateText.data.toList.drop 0 = dktX1_truncateText_0 := by decide +kernel
theorem dX1_truncateText_0 : decode cX1_truncateText 0 = .ok (.iload_n 1, 1) := dk_27 (dk_at dksX1_truncateText_0 0 rfl rfl)
theorem dX1_truncateText_1 : decode cX1_truncateText 1 = .ok (.i2l, 1) := dk_133 (dk_at dksX1_truncateText_0 1 rfl rfl)
theorem dX1_truncateText_2 : decode cX1_truncateText 2 = .ok (.lconst 0, 1) := dk_9 (dk_at dksX1_truncateText_0 2 rfl rfl)
theorem dX1_truncateText_3 : decode cX1_truncateText 3 = .ok (.aload_n 0, 1) := dk_42 (dk_at dksX1_truncateText_0 3 rfl rfl)
theorem dX1_truncateText_4 : decode cX1_truncateText 4 = .ok (.getfield 346, 3) := dk_180 1 90 (dk_at dksX1_truncateText_0 4 rfl rfl)
theorem dX1_truncateText_7 : decode cX1_truncateText 7 = .ok (.i2l, 1) := dk_133 (dk_at dksX1_truncateText_0 7 rfl rfl)
theorem dX1_truncateText_8 : decode cX1_truncateText 8 = .ok (.invokestatic 17, 3) := dk_184 0 17 (dk_at dksX1_truncateText_0 8 rfl rfl)
theorem dX1_truncateText_11 : decode cX1_truncateText 11 = .ok (.invokestatic 21, 3) := dk_184 0 21 (dk_at dksX1_truncateText_0 11 rfl rfl)
theorem dX1_truncateText_14 : decode cX1_truncateText 14 = .ok (.aload_n 0, 1) := dk_42 (dk_at dksX1_truncateText_0 14 rfl rfl)
theorem dX1_truncateText_15 : decode cX1_truncateText 15 = .ok (.iload_n 1, 1) := dk_27 (dk_at dksX1_truncateText_0 15 rfl rfl)
theorem dX1_truncateText_16 : decode cX1_truncateText 16 = .ok (.putfield 346, 3) := dk_181 1 90 (dk_at dksX1_truncateText_0 16 rfl rfl)
theorem dX1_truncateText_19 : decode cX1_truncateText 19 = .ok (.iload_n 1, 1) := dk_27 (dk_at dksX1_truncateText_0 19 rfl rfl)
theorem dX1_truncateText_20 : decode cX1_truncateText 20 = .ok (.ireturn, 1) := dk_172 (dk_at dksX1_truncateText_0 20 rfl rfl)
abbrev cX1_save : ByteArray := prog_1_method_66_code
def yX1_save : MethodName := ⟨RX1, "save", "(I)V"⟩
def dkwX1_save_0 : List UInt8 := [27, 133, 9, 10, 184, 0, 17, 184, 0, 21, 42, 180, 0, 47, 27, 42, 180, 0, 43, 182, 1, 125, 83, 177]
abbrev dktX1_save_0 : List UInt8 := dkwX1_save_0 ++ []
theorem dksX1_save_0 : cX1_save.data.toList.drop 0 = dktX1_save_0 := by decide +kernel
theorem dX1_save_0 : decode cX1_save 0 = .ok (.iload_n 1, 1) := dk_27 (dk_at dksX1_save_0 0 rfl rfl)
theorem dX1_save_1 : decode cX1_save 1 = .ok (.i2l, 1) := dk_133 (dk_at dksX1_save_0 1 rfl rfl)
theorem dX1_save_2 : decode cX1_save 2 = .ok (.lconst 0, 1) := dk_9 (dk_at dksX1_save_0 2 rfl rfl)
theorem dX1_save_3 : decode cX1_save 3 = .ok (.lconst 1, 1) := dk_10 (dk_at dksX1_save_0 3 rfl rfl)
theorem dX1_save_4 : decode cX1_save 4 = .ok (.invokestatic 17, 3) := dk_184 0 17 (dk_at dksX1_save_0 4 rfl rfl)
theorem dX1_save_7 : decode cX1_save 7 = .ok (.invokestatic 21, 3) := dk_184 0 21 (dk_at dksX1_save_0 7 rfl rfl)
theorem dX1_save_10 : decode cX1_save 10 = .ok (.aload_n 0, 1) := dk_42 (dk_at dksX1_save_0 10 rfl rfl)
theorem dX1_save_11 : decode cX1_save 11 = .ok (.getfield 47, 3) := dk_180 0 47 (dk_at dksX1_save_0 11 rfl rfl)
theorem dX1_save_14 : decode cX1_save 14 = .ok (.iload_n 1, 1) := dk_27 (dk_at dksX1_save_0 14 rfl rfl)
theorem dX1_save_15 : decode cX1_save 15 = .ok (.aload_n 0, 1) := dk_42 (dk_at dksX1_save_0 15 rfl rfl)
theorem dX1_save_16 : decode cX1_save 16 = .ok (.getfield 43, 3) := dk_180 0 43 (dk_at dksX1_save_0 16 rfl rfl)
theorem dX1_save_19 : decode cX1_save 19 = .ok (.invokevirtual 381, 3) := dk_182 1 125 (dk_at dksX1_save_0 19 rfl rfl)
theorem dX1_save_22 : decode cX1_save 22 = .ok (.aastore, 1) := dk_83 (dk_at dksX1_save_0 22 rfl rfl)
theorem dX1_save_23 : decode cX1_save 23 = .ok (.return_, 1) := dk_177 (dk_at dksX1_save_0 23 rfl rfl)
abbrev cX1_restore : ByteArray := prog_1_method_67_code
def yX1_restore : MethodName := ⟨RX1, "restore", "(I)V"⟩
def dkwX1_restore_1 : List UInt8 := [184, 0, 125, 42, 42, 180, 0, 47, 27, 50, 182, 1, 125, 181, 0, 43, 177]
abbrev dktX1_restore_1 : List UInt8 := dkwX1_restore_1 ++ []
def dkwX1_restore_0 : List UInt8 := [27, 133, 9, 10, 184, 0, 17, 184, 0, 21, 42, 180, 0, 47, 27, 50, 198, 0, 7, 4, 167, 0, 4, 3]
abbrev dktX1_restore_0 : List UInt8 := dkwX1_restore_0 ++ dktX1_restore_1
theorem dksX1_restore_0 : cX1_restore.data.toList.drop 0 = dktX1_restore_0 := by decide +kernel
theorem dksX1_restore_1 : cX1_restore.data.toList.drop 24 = dktX1_restore_1 := dk_seg dksX1_restore_0 24 rfl rfl
theorem dX1_restore_0 : decode cX1_restore 0 = .ok (.iload_n 1, 1) := dk_27 (dk_at dksX1_restore_0 0 rfl rfl)
theorem dX1_restore_1 : decode cX1_restore 1 = .ok (.i2l, 1) := dk_133 (dk_at dksX1_restore_0 1 rfl rfl)
theorem dX1_restore_2 : decode cX1_restore 2 = .ok (.lconst 0, 1) := dk_9 (dk_at dksX1_restore_0 2 rfl rfl)
theorem dX1_restore_3 : decode cX1_restore 3 = .ok (.lconst 1, 1) := dk_10 (dk_at dksX1_restore_0 3 rfl rfl)
theorem dX1_restore_4 : decode cX1_restore 4 = .ok (.invokestatic 17, 3) := dk_184 0 17 (dk_at dksX1_restore_0 4 rfl rfl)
theorem dX1_restore_7 : decode cX1_restore 7 = .ok (.invokestatic 21, 3) := dk_184 0 21 (dk_at dksX1_restore_0 7 rfl rfl)
theorem dX1_restore_10 : decode cX1_restore 10 = .ok (.aload_n 0, 1) := dk_42 (dk_at dksX1_restore_0 10 rfl rfl)
theorem dX1_restore_11 : decode cX1_restore 11 = .ok (.getfield 47, 3) := dk_180 0 47 (dk_at dksX1_restore_0 11 rfl rfl)
theorem dX1_restore_14 : decode cX1_restore 14 = .ok (.iload_n 1, 1) := dk_27 (dk_at dksX1_restore_0 14 rfl rfl)
theorem dX1_restore_15 : decode cX1_restore 15 = .ok (.aaload, 1) := dk_50 (dk_at dksX1_restore_0 15 rfl rfl)
theorem dX1_restore_16 : decode cX1_restore 16 = .ok (.ifnull 7, 3) := dk_198 0 7 (dk_at dksX1_restore_0 16 rfl rfl)
theorem dX1_restore_19 : decode cX1_restore 19 = .ok (.iconst 1, 1) := dk_4 (dk_at dksX1_restore_0 19 rfl rfl)
theorem dX1_restore_20 : decode cX1_restore 20 = .ok (.goto 4, 3) := dk_167 0 4 (dk_at dksX1_restore_0 20 rfl rfl)
theorem dX1_restore_23 : decode cX1_restore 23 = .ok (.iconst 0, 1) := dk_3 (dk_at dksX1_restore_0 23 rfl rfl)
theorem dX1_restore_24 : decode cX1_restore 24 = .ok (.invokestatic 125, 3) := dk_184 0 125 (dk_at dksX1_restore_1 0 rfl rfl)
theorem dX1_restore_27 : decode cX1_restore 27 = .ok (.aload_n 0, 1) := dk_42 (dk_at dksX1_restore_1 3 rfl rfl)
theorem dX1_restore_28 : decode cX1_restore 28 = .ok (.aload_n 0, 1) := dk_42 (dk_at dksX1_restore_1 4 rfl rfl)
theorem dX1_restore_29 : decode cX1_restore 29 = .ok (.getfield 47, 3) := dk_180 0 47 (dk_at dksX1_restore_1 5 rfl rfl)
theorem dX1_restore_32 : decode cX1_restore 32 = .ok (.iload_n 1, 1) := dk_27 (dk_at dksX1_restore_1 8 rfl rfl)
theorem dX1_restore_33 : decode cX1_restore 33 = .ok (.aaload, 1) := dk_50 (dk_at dksX1_restore_1 9 rfl rfl)
theorem dX1_restore_34 : decode cX1_restore 34 = .ok (.invokevirtual 381, 3) := dk_182 1 125 (dk_at dksX1_restore_1 10 rfl rfl)
theorem dX1_restore_37 : decode cX1_restore 37 = .ok (.putfield 43, 3) := dk_181 0 43 (dk_at dksX1_restore_1 13 rfl rfl)
theorem dX1_restore_40 : decode cX1_restore 40 = .ok (.return_, 1) := dk_177 (dk_at dksX1_restore_1 16 rfl rfl)
theorem q83 : (Jvm.Cond.initialized "TrackArray") ∈ lw_all := lw_g (lw_at lw_m1 1 rfl) rfl
theorem q127 : (Jvm.Cond.instantiable "TrackArray" (6 : Nat)) ∈ lw_all := lw_g (lw_at lw_m1 45 rfl) rfl
theorem q129 : (Jvm.Cond.instanceMethod ({ cls := "TrackArray", name := "<init>", desc := "()V" } : Jvm.MethodName)) ∈ lw_all := lw_g (lw_at lw_m1 47 rfl) rfl
theorem q130 : (Jvm.Cond.code ({ cls := "TrackArray", name := "<init>", desc := "()V" } : Jvm.MethodName) prog_1_method_10_code (1 : Nat) (Option.none : Option Jvm.ClassFile.FieldType)) ∈ lw_all := lw_g (lw_at lw_m1 48 rfl) rfl
theorem q131 : (Jvm.Cond.methodLink "TrackArray" (37 : Nat) ({ cls := "java/lang/Object", name := "<init>", desc := "()V" } : Jvm.MethodName)) ∈ lw_all := lw_g (lw_at lw_m1 49 rfl) rfl
theorem q134 : (Jvm.Cond.classLink "TrackArray" (40 : Nat) "TrackArray$Track") ∈ lw_all := lw_g (lw_at lw_m1 52 rfl) rfl
theorem q136 : (Jvm.Cond.methodLinkNest "TrackArray" (42 : Nat) ({ cls := "TrackArray$Track", name := "<init>", desc := "()V" } : Jvm.MethodName) "TrackArray") ∈ lw_tbl := lw_at lw_m1 54 rfl
theorem q510 : (Jvm.Cond.fieldLinkNest "TrackArray" (59 : Nat) "TrackArray$Track" "vehicles" "Ljava/util/ArrayList;" "TrackArray") ∈ lw_tbl := lw_at lw_m2 188 rfl
theorem q513 : (Jvm.Cond.fieldLinkNest "TrackArray" (78 : Nat) "TrackArray$Track" "sources" "Ljava/util/ArrayList;" "TrackArray") ∈ lw_tbl := lw_at lw_m2 191 rfl
theorem q516 : (Jvm.Cond.fieldLinkNest "TrackArray" (83 : Nat) "TrackArray$Track" "microphones" "Ljava/util/ArrayList;" "TrackArray") ∈ lw_tbl := lw_at lw_m2 194 rfl
theorem q519 : (Jvm.Cond.fieldLinkNest "TrackArray" (92 : Nat) "TrackArray$Track" "sound" "I" "TrackArray") ∈ lw_tbl := lw_at lw_m2 197 rfl
theorem q522 : (Jvm.Cond.fieldLinkNest "TrackArray" (99 : Nat) "TrackArray$Track" "ground" "I" "TrackArray") ∈ lw_tbl := lw_at lw_m2 200 rfl
theorem q525 : (Jvm.Cond.fieldLinkNest "TrackArray" (102 : Nat) "TrackArray$Track" "spreads" "Z" "TrackArray") ∈ lw_tbl := lw_at lw_m2 203 rfl
theorem q527 : (Jvm.Cond.fieldLinkNest "TrackArray" (108 : Nat) "TrackArray$Track" "random" "J" "TrackArray") ∈ lw_tbl := lw_at lw_m2 205 rfl
theorem q530 : (Jvm.Cond.fieldLinkNest "TrackArray" (112 : Nat) "TrackArray$Track" "noise" "I" "TrackArray") ∈ lw_tbl := lw_at lw_m2 208 rfl
theorem q532 : (Jvm.Cond.fieldLinkNest "TrackArray" (185 : Nat) "TrackArray$Track" "recordings" "I" "TrackArray") ∈ lw_tbl := lw_at lw_m2 210 rfl
theorem q534 : (Jvm.Cond.fieldLinkNest "TrackArray" (280 : Nat) "TrackArray$Track" "focus" "LTrackArray$Focus;" "TrackArray") ∈ lw_tbl := lw_at lw_m2 212 rfl
theorem q536 : (Jvm.Cond.fieldLinkNest "TrackArray" (296 : Nat) "TrackArray$Track" "cuts" "Z" "TrackArray") ∈ lw_tbl := lw_at lw_m2 214 rfl
theorem q538 : (Jvm.Cond.fieldLinkNest "TrackArray" (307 : Nat) "TrackArray$Track" "parts" "[I" "TrackArray") ∈ lw_tbl := lw_at lw_m2 216 rfl
theorem q570 : (Jvm.Cond.fieldLink "TrackArray" (43 : Nat) "TrackArray" "now" "LTrackArray$Track;") ∈ lw_all := lw_g (lw_at lw_m3 8 rfl) rfl
theorem q571 : (Jvm.Cond.fieldLink "TrackArray" (47 : Nat) "TrackArray" "saved" "[LTrackArray$Track;") ∈ lw_all := lw_g (lw_at lw_m3 9 rfl) rfl
theorem q573 : (Jvm.Cond.fieldLink "TrackArray" (51 : Nat) "TrackArray" "text" "[B") ∈ lw_all := lw_g (lw_at lw_m3 11 rfl) rfl
theorem q574 : (Jvm.Cond.fieldLink "TrackArray" (346 : Nat) "TrackArray" "textLength" "I") ∈ lw_all := lw_g (lw_at lw_m3 12 rfl) rfl
theorem q575 : (Jvm.Cond.fieldLink "TrackArray" (354 : Nat) "TrackArray" "errorCode" "I") ∈ lw_all := lw_g (lw_at lw_m3 13 rfl) rfl
theorem q576 : (Jvm.Cond.fieldLink "TrackArray" (55 : Nat) "TrackArray" "errorPosition" "I") ∈ lw_all := lw_g (lw_at lw_m3 14 rfl) rfl
theorem q577 : (Jvm.Cond.lays "TrackArray" "TrackArray" "now" "LTrackArray$Track;") ∈ lw_all := lw_g (lw_at lw_m3 15 rfl) rfl
theorem q578 : (Jvm.Cond.soleField "TrackArray" "now") ∈ lw_all := lw_g (lw_at lw_m3 16 rfl) rfl
theorem q579 : (Jvm.Cond.laysFinal "TrackArray" "TrackArray" "saved" "[LTrackArray$Track;") ∈ lw_all := lw_g (lw_at lw_m3 17 rfl) rfl
theorem q580 : (Jvm.Cond.soleField "TrackArray" "saved") ∈ lw_all := lw_g (lw_at lw_m3 18 rfl) rfl
theorem q581 : (Jvm.Cond.laysFinal "TrackArray" "TrackArray" "text" "[B") ∈ lw_all := lw_g (lw_at lw_m3 19 rfl) rfl
theorem q582 : (Jvm.Cond.soleField "TrackArray" "text") ∈ lw_all := lw_g (lw_at lw_m3 20 rfl) rfl
theorem q583 : (Jvm.Cond.lays "TrackArray" "TrackArray" "textLength" "I") ∈ lw_all := lw_g (lw_at lw_m3 21 rfl) rfl
theorem q584 : (Jvm.Cond.soleField "TrackArray" "textLength") ∈ lw_all := lw_g (lw_at lw_m3 22 rfl) rfl
theorem q585 : (Jvm.Cond.lays "TrackArray" "TrackArray" "errorCode" "I") ∈ lw_all := lw_g (lw_at lw_m3 23 rfl) rfl
theorem q586 : (Jvm.Cond.soleField "TrackArray" "errorCode") ∈ lw_all := lw_g (lw_at lw_m3 24 rfl) rfl
theorem q587 : (Jvm.Cond.lays "TrackArray" "TrackArray" "errorPosition" "I") ∈ lw_all := lw_g (lw_at lw_m3 25 rfl) rfl
theorem q588 : (Jvm.Cond.soleField "TrackArray" "errorPosition") ∈ lw_all := lw_g (lw_at lw_m3 26 rfl) rfl
theorem q589 : (Jvm.Cond.superclass "TrackArray" "java/lang/Object") ∈ lw_all := lw_g (lw_at lw_m3 27 rfl) rfl
theorem q591 : (Jvm.Cond.instanceMethod ({ cls := "TrackArray", name := "setSpreading", desc := "(Z)Z" } : Jvm.MethodName)) ∈ lw_all := lw_g (lw_at lw_m3 29 rfl) rfl
theorem q592 : (Jvm.Cond.selects "TrackArray" ({ cls := "TrackArray", name := "setSpreading", desc := "(Z)Z" } : Jvm.MethodName) ({ cls := "TrackArray", name := "setSpreading", desc := "(Z)Z" } : Jvm.MethodName)) ∈ lw_all := lw_g (lw_at lw_m3 30 rfl) rfl
theorem q593 : (Jvm.Cond.code ({ cls := "TrackArray", name := "setSpreading", desc := "(Z)Z" } : Jvm.MethodName) prog_1_method_16_code (3 : Nat) (Option.some Jvm.ClassFile.FieldType.boolean)) ∈ lw_all := lw_g (lw_at lw_m3 31 rfl) rfl
theorem q595 : (Jvm.Cond.instanceMethod ({ cls := "TrackArray", name := "makeRecording", desc := "()I" } : Jvm.MethodName)) ∈ lw_all := lw_g (lw_at lw_m3 33 rfl) rfl
theorem q596 : (Jvm.Cond.selects "TrackArray" ({ cls := "TrackArray", name := "makeRecording", desc := "()I" } : Jvm.MethodName) ({ cls := "TrackArray", name := "makeRecording", desc := "()I" } : Jvm.MethodName)) ∈ lw_all := lw_g (lw_at lw_m3 34 rfl) rfl
theorem q597 : (Jvm.Cond.code ({ cls := "TrackArray", name := "makeRecording", desc := "()I" } : Jvm.MethodName) prog_1_method_31_code (1 : Nat) (Option.some Jvm.ClassFile.FieldType.int)) ∈ lw_all := lw_g (lw_at lw_m3 35 rfl) rfl
theorem q598 : (Jvm.Cond.methodLink "TrackArray" (222 : Nat) ({ cls := "TrackArray$Track", name := "makeRecording", desc := "()I" } : Jvm.MethodName)) ∈ lw_all := lw_g (lw_at lw_m3 36 rfl) rfl
theorem q739 : (Jvm.Cond.static ({ cls := "TrackArray", name := "rootOf", desc := "(J)I" } : Jvm.MethodName)) ∈ lw_all := lw_g (lw_at lw_m3 177 rfl) rfl
theorem q740 : (Jvm.Cond.code ({ cls := "TrackArray", name := "rootOf", desc := "(J)I" } : Jvm.MethodName) prog_1_method_7_code (6 : Nat) (Option.some Jvm.ClassFile.FieldType.int)) ∈ lw_all := lw_g (lw_at lw_m3 178 rfl) rfl
theorem q741 : (Jvm.Cond.constantLong "TrackArray" (25 : Nat) (1048576 : Int64)) ∈ lw_all := lw_g (lw_at lw_m3 179 rfl) rfl
theorem q759 : (Jvm.Cond.instanceMethod ({ cls := "TrackArray", name := "setCut", desc := "(Z)Z" } : Jvm.MethodName)) ∈ lw_all := lw_g (lw_at lw_m3 197 rfl) rfl
theorem q760 : (Jvm.Cond.selects "TrackArray" ({ cls := "TrackArray", name := "setCut", desc := "(Z)Z" } : Jvm.MethodName) ({ cls := "TrackArray", name := "setCut", desc := "(Z)Z" } : Jvm.MethodName)) ∈ lw_all := lw_g (lw_at lw_m3 198 rfl) rfl
theorem q761 : (Jvm.Cond.code ({ cls := "TrackArray", name := "setCut", desc := "(Z)Z" } : Jvm.MethodName) prog_1_method_44_code (3 : Nat) (Option.some Jvm.ClassFile.FieldType.boolean)) ∈ lw_all := lw_g (lw_at lw_m3 199 rfl) rfl
theorem q763 : (Jvm.Cond.instanceMethod ({ cls := "TrackArray", name := "load", desc := "()I" } : Jvm.MethodName)) ∈ lw_all := lw_g (lw_at lw_m3 201 rfl) rfl
theorem q764 : (Jvm.Cond.selects "TrackArray" ({ cls := "TrackArray", name := "load", desc := "()I" } : Jvm.MethodName) ({ cls := "TrackArray", name := "load", desc := "()I" } : Jvm.MethodName)) ∈ lw_all := lw_g (lw_at lw_m3 202 rfl) rfl
theorem q765 : (Jvm.Cond.codeWith ({ cls := "TrackArray", name := "load", desc := "()I" } : Jvm.MethodName) prog_1_method_63_code (3 : Nat) (Option.some Jvm.ClassFile.FieldType.int) [((28 : Nat), (42 : Nat), (43 : Nat), (371 : Nat)), ((28 : Nat), (42 : Nat), (43 : Nat), (373 : Nat)), ((28 : Nat), (42 : Nat), (50 : Nat), (379 : Nat))]) ∈ lw_all := lw_g (lw_at lw_m3 203 rfl) rfl
theorem q766 : (Jvm.Cond.classLink "TrackArray" (371 : Nat) "TrackArray$WrongToken") ∈ lw_all := lw_g (lw_at lw_m3 204 rfl) rfl
theorem q767 : (Jvm.Cond.classLink "TrackArray" (373 : Nat) "TrackArray$WrongNumber") ∈ lw_all := lw_g (lw_at lw_m3 205 rfl) rfl
theorem q768 : (Jvm.Cond.classLink "TrackArray" (379 : Nat) "TrackArray$TooMany") ∈ lw_all := lw_g (lw_at lw_m3 206 rfl) rfl
theorem q769 : (Jvm.Cond.classLink "TrackArray" (360 : Nat) "TrackArray$Parser") ∈ lw_all := lw_g (lw_at lw_m3 207 rfl) rfl
theorem q771 : (Jvm.Cond.methodLink "TrackArray" (362 : Nat) ({ cls := "TrackArray$Parser", name := "<init>", desc := "(LTrackArray;I)V" } : Jvm.MethodName)) ∈ lw_all := lw_g (lw_at lw_m3 209 rfl) rfl
theorem q789 : (Jvm.Cond.static ({ cls := "TrackArray", name := "isBetween", desc := "(JJJ)Z" } : Jvm.MethodName)) ∈ lw_all := lw_g (lw_at lw_m3 227 rfl) rfl
theorem q790 : (Jvm.Cond.code ({ cls := "TrackArray", name := "isBetween", desc := "(JJJ)Z" } : Jvm.MethodName) prog_1_method_1_code (6 : Nat) (Option.some Jvm.ClassFile.FieldType.boolean)) ∈ lw_all := lw_g (lw_at lw_m3 228 rfl) rfl
theorem q822 : (Jvm.Cond.fieldLinkNest "TrackArray" (368 : Nat) "TrackArray$Parser" "track" "LTrackArray$Track;" "TrackArray") ∈ lw_tbl := lw_at lw_m4 20 rfl
theorem q846 : (Jvm.Cond.methodLink "TrackArray" (365 : Nat) ({ cls := "TrackArray$Parser", name := "setup", desc := "()I" } : Jvm.MethodName)) ∈ lw_all := lw_g (lw_at lw_m4 44 rfl) rfl
theorem q960 : (Jvm.Cond.fieldLinkNest "TrackArray" (357 : Nat) "TrackArray$SetupError" "position" "I" "TrackArray") ∈ lw_tbl := lw_at lw_m4 158 rfl
theorem q1025 : (Jvm.Cond.fieldLinkNest "TrackArray" (214 : Nat) "TrackArray$Microphone" "x" "I" "TrackArray") ∈ lw_tbl := lw_at lw_m4 223 rfl
theorem q1030 : (Jvm.Cond.fieldLinkNest "TrackArray" (180 : Nat) "TrackArray$Microphone" "weight" "I" "TrackArray") ∈ lw_tbl := lw_at lw_m4 228 rfl
theorem q1033 : (Jvm.Cond.fieldLinkNest "TrackArray" (225 : Nat) "TrackArray$Microphone" "record" "[I" "TrackArray") ∈ lw_tbl := lw_at lw_m4 231 rfl
theorem q1070 : (Jvm.Cond.selects "TrackArray" ({ cls := "java/lang/Object", name := "getClass", desc := "()Ljava/lang/Class;" } : Jvm.MethodName) ({ cls := "java/lang/Object", name := "getClass", desc := "()Ljava/lang/Class;" } : Jvm.MethodName)) ∈ lw_all := lw_g (lw_at lw_m5 28 rfl) rfl
theorem q1164 : (Jvm.Cond.fieldLinkNest "TrackArray" (156 : Nat) "TrackArray$Source" "length" "I" "TrackArray") ∈ lw_tbl := lw_at lw_m5 122 rfl
theorem q1186 : (Jvm.Cond.methodLink "TrackArray" (375 : Nat) ({ cls := "TrackArray", name := "failed", desc := "(LTrackArray$SetupError;)I" } : Jvm.MethodName)) ∈ lw_all := lw_g (lw_at lw_m5 144 rfl) rfl
theorem q1187 : (Jvm.Cond.privateMethod ({ cls := "TrackArray", name := "failed", desc := "(LTrackArray$SetupError;)I" } : Jvm.MethodName)) ∈ lw_tbl := lw_at lw_m5 145 rfl
theorem q1188 : (Jvm.Cond.instanceMethod ({ cls := "TrackArray", name := "failed", desc := "(LTrackArray$SetupError;)I" } : Jvm.MethodName)) ∈ lw_all := lw_g (lw_at lw_m5 146 rfl) rfl
theorem q1189 : (Jvm.Cond.code ({ cls := "TrackArray", name := "failed", desc := "(LTrackArray$SetupError;)I" } : Jvm.MethodName) prog_1_method_62_code (2 : Nat) (Option.some Jvm.ClassFile.FieldType.int)) ∈ lw_all := lw_g (lw_at lw_m5 147 rfl) rfl
theorem q1190 : (Jvm.Cond.methodLink "TrackArray" (349 : Nat) ({ cls := "TrackArray$SetupError", name := "code", desc := "()I" } : Jvm.MethodName)) ∈ lw_all := lw_g (lw_at lw_m5 148 rfl) rfl
theorem q1203 : (Jvm.Cond.instanceMethod ({ cls := "TrackArray", name := "errorCode", desc := "()I" } : Jvm.MethodName)) ∈ lw_all := lw_g (lw_at lw_m5 161 rfl) rfl
theorem q1204 : (Jvm.Cond.selects "TrackArray" ({ cls := "TrackArray", name := "errorCode", desc := "()I" } : Jvm.MethodName) ({ cls := "TrackArray", name := "errorCode", desc := "()I" } : Jvm.MethodName)) ∈ lw_all := lw_g (lw_at lw_m5 162 rfl) rfl
theorem q1205 : (Jvm.Cond.code ({ cls := "TrackArray", name := "errorCode", desc := "()I" } : Jvm.MethodName) prog_1_method_64_code (1 : Nat) (Option.some Jvm.ClassFile.FieldType.int)) ∈ lw_all := lw_g (lw_at lw_m5 163 rfl) rfl
theorem q1207 : (Jvm.Cond.instanceMethod ({ cls := "TrackArray", name := "errorPosition", desc := "()I" } : Jvm.MethodName)) ∈ lw_all := lw_g (lw_at lw_m5 165 rfl) rfl
theorem q1208 : (Jvm.Cond.selects "TrackArray" ({ cls := "TrackArray", name := "errorPosition", desc := "()I" } : Jvm.MethodName) ({ cls := "TrackArray", name := "errorPosition", desc := "()I" } : Jvm.MethodName)) ∈ lw_all := lw_g (lw_at lw_m5 166 rfl) rfl
theorem q1209 : (Jvm.Cond.code ({ cls := "TrackArray", name := "errorPosition", desc := "()I" } : Jvm.MethodName) prog_1_method_65_code (1 : Nat) (Option.some Jvm.ClassFile.FieldType.int)) ∈ lw_all := lw_g (lw_at lw_m5 167 rfl) rfl
theorem q1215 : (Jvm.Cond.instanceMethod ({ cls := "TrackArray", name := "setSound", desc := "(I)I" } : Jvm.MethodName)) ∈ lw_all := lw_g (lw_at lw_m5 173 rfl) rfl
theorem q1216 : (Jvm.Cond.selects "TrackArray" ({ cls := "TrackArray", name := "setSound", desc := "(I)I" } : Jvm.MethodName) ({ cls := "TrackArray", name := "setSound", desc := "(I)I" } : Jvm.MethodName)) ∈ lw_all := lw_g (lw_at lw_m5 174 rfl) rfl
theorem q1217 : (Jvm.Cond.code ({ cls := "TrackArray", name := "setSound", desc := "(I)I" } : Jvm.MethodName) prog_1_method_14_code (3 : Nat) (Option.some Jvm.ClassFile.FieldType.int)) ∈ lw_all := lw_g (lw_at lw_m5 175 rfl) rfl
theorem q1218 : (Jvm.Cond.constantLong "TrackArray" (88 : Nat) (100 : Int64)) ∈ lw_all := lw_g (lw_at lw_m5 176 rfl) rfl
theorem q1219 : (Jvm.Cond.constantLong "TrackArray" (90 : Nat) (1000 : Int64)) ∈ lw_all := lw_g (lw_at lw_m5 177 rfl) rfl
theorem q1220 : (Jvm.Cond.methodLink "TrackArray" (17 : Nat) ({ cls := "TrackArray", name := "isBetween", desc := "(JJJ)Z" } : Jvm.MethodName)) ∈ lw_all := lw_g (lw_at lw_m5 178 rfl) rfl
theorem q1221 : (Jvm.Cond.methodLink "TrackArray" (21 : Nat) ({ cls := "TrackArray", name := "checkArgument", desc := "(Z)V" } : Jvm.MethodName)) ∈ lw_all := lw_g (lw_at lw_m5 179 rfl) rfl
theorem q1222 : (Jvm.Cond.static ({ cls := "TrackArray", name := "checkArgument", desc := "(Z)V" } : Jvm.MethodName)) ∈ lw_all := lw_g (lw_at lw_m5 180 rfl) rfl
theorem q1223 : (Jvm.Cond.code ({ cls := "TrackArray", name := "checkArgument", desc := "(Z)V" } : Jvm.MethodName) prog_1_method_3_code (1 : Nat) (Option.none : Option Jvm.ClassFile.FieldType)) ∈ lw_all := lw_g (lw_at lw_m5 181 rfl) rfl
theorem q1224 : (Jvm.Cond.classLink "TrackArray" (7 : Nat) "java/lang/IllegalArgumentException") ∈ lw_all := lw_g (lw_at lw_m5 182 rfl) rfl
theorem q1225 : (Jvm.Cond.methodLink "TrackArray" (9 : Nat) ({ cls := "java/lang/IllegalArgumentException", name := "<init>", desc := "()V" } : Jvm.MethodName)) ∈ lw_all := lw_g (lw_at lw_m5 183 rfl) rfl
theorem q1239 : (Jvm.Cond.instanceMethod ({ cls := "TrackArray", name := "setGround", desc := "(I)I" } : Jvm.MethodName)) ∈ lw_all := lw_g (lw_at lw_m5 197 rfl) rfl
theorem q1240 : (Jvm.Cond.selects "TrackArray" ({ cls := "TrackArray", name := "setGround", desc := "(I)I" } : Jvm.MethodName) ({ cls := "TrackArray", name := "setGround", desc := "(I)I" } : Jvm.MethodName)) ∈ lw_all := lw_g (lw_at lw_m5 198 rfl) rfl
theorem q1241 : (Jvm.Cond.code ({ cls := "TrackArray", name := "setGround", desc := "(I)I" } : Jvm.MethodName) prog_1_method_15_code (3 : Nat) (Option.some Jvm.ClassFile.FieldType.int)) ∈ lw_all := lw_g (lw_at lw_m5 199 rfl) rfl
theorem q1242 : (Jvm.Cond.constantLong "TrackArray" (95 : Nat) (-90 : Int64)) ∈ lw_all := lw_g (lw_at lw_m5 200 rfl) rfl
theorem q1243 : (Jvm.Cond.constantLong "TrackArray" (97 : Nat) (90 : Int64)) ∈ lw_all := lw_g (lw_at lw_m5 201 rfl) rfl
theorem q1248 : (Jvm.Cond.instanceMethod ({ cls := "TrackArray", name := "setNoise", desc := "(II)V" } : Jvm.MethodName)) ∈ lw_all := lw_g (lw_at lw_m5 206 rfl) rfl
theorem q1249 : (Jvm.Cond.selects "TrackArray" ({ cls := "TrackArray", name := "setNoise", desc := "(II)V" } : Jvm.MethodName) ({ cls := "TrackArray", name := "setNoise", desc := "(II)V" } : Jvm.MethodName)) ∈ lw_all := lw_g (lw_at lw_m5 207 rfl) rfl
theorem q1250 : (Jvm.Cond.code ({ cls := "TrackArray", name := "setNoise", desc := "(II)V" } : Jvm.MethodName) prog_1_method_17_code (3 : Nat) (Option.none : Option Jvm.ClassFile.FieldType)) ∈ lw_all := lw_g (lw_at lw_m5 208 rfl) rfl
theorem q1251 : (Jvm.Cond.constantLong "TrackArray" (106 : Nat) (99 : Int64)) ∈ lw_all := lw_g (lw_at lw_m5 209 rfl) rfl
theorem q1257 : (Jvm.Cond.instanceMethod ({ cls := "TrackArray", name := "addVehicle", desc := "(III)I" } : Jvm.MethodName)) ∈ lw_all := lw_g (lw_at lw_m5 215 rfl) rfl
theorem q1258 : (Jvm.Cond.selects "TrackArray" ({ cls := "TrackArray", name := "addVehicle", desc := "(III)I" } : Jvm.MethodName) ({ cls := "TrackArray", name := "addVehicle", desc := "(III)I" } : Jvm.MethodName)) ∈ lw_all := lw_g (lw_at lw_m5 216 rfl) rfl
theorem q1259 : (Jvm.Cond.code ({ cls := "TrackArray", name := "addVehicle", desc := "(III)I" } : Jvm.MethodName) prog_1_method_18_code (4 : Nat) (Option.some Jvm.ClassFile.FieldType.int)) ∈ lw_all := lw_g (lw_at lw_m5 217 rfl) rfl
theorem q1260 : (Jvm.Cond.constantLong "TrackArray" (115 : Nat) (-20000 : Int64)) ∈ lw_all := lw_g (lw_at lw_m5 218 rfl) rfl
theorem q1261 : (Jvm.Cond.constantLong "TrackArray" (117 : Nat) (20000 : Int64)) ∈ lw_all := lw_g (lw_at lw_m5 219 rfl) rfl
theorem q1262 : (Jvm.Cond.constantLong "TrackArray" (119 : Nat) (-50 : Int64)) ∈ lw_all := lw_g (lw_at lw_m5 220 rfl) rfl
theorem q1263 : (Jvm.Cond.constantLong "TrackArray" (121 : Nat) (50 : Int64)) ∈ lw_all := lw_g (lw_at lw_m5 221 rfl) rfl
theorem q1264 : (Jvm.Cond.constantLong "TrackArray" (123 : Nat) (5000 : Int64)) ∈ lw_all := lw_g (lw_at lw_m5 222 rfl) rfl
theorem q1265 : (Jvm.Cond.methodLink "TrackArray" (63 : Nat) ({ cls := "java/util/ArrayList", name := "size", desc := "()I" } : Jvm.MethodName)) ∈ lw_all := lw_g (lw_at lw_m5 223 rfl) rfl
theorem q1266 : (Jvm.Cond.methodLink "TrackArray" (125 : Nat) ({ cls := "TrackArray", name := "checkState", desc := "(Z)V" } : Jvm.MethodName)) ∈ lw_all := lw_g (lw_at lw_m5 224 rfl) rfl
theorem q1267 : (Jvm.Cond.static ({ cls := "TrackArray", name := "checkState", desc := "(Z)V" } : Jvm.MethodName)) ∈ lw_all := lw_g (lw_at lw_m5 225 rfl) rfl
theorem q1268 : (Jvm.Cond.code ({ cls := "TrackArray", name := "checkState", desc := "(Z)V" } : Jvm.MethodName) prog_1_method_4_code (1 : Nat) (Option.none : Option Jvm.ClassFile.FieldType)) ∈ lw_all := lw_g (lw_at lw_m5 226 rfl) rfl
theorem q1269 : (Jvm.Cond.classLink "TrackArray" (10 : Nat) "java/lang/IllegalStateException") ∈ lw_all := lw_g (lw_at lw_m5 227 rfl) rfl
theorem q1278 : (Jvm.Cond.methodLink "TrackArray" (12 : Nat) ({ cls := "java/lang/IllegalStateException", name := "<init>", desc := "()V" } : Jvm.MethodName)) ∈ lw_all := lw_g (lw_at lw_m5 236 rfl) rfl
theorem q1284 : (Jvm.Cond.methodLink "TrackArray" (128 : Nat) ({ cls := "TrackArray$Track", name := "addVehicle", desc := "(III)I" } : Jvm.MethodName)) ∈ lw_all := lw_g (lw_at lw_m6 2 rfl) rfl
theorem q1308 : (Jvm.Cond.instanceMethod ({ cls := "TrackArray", name := "addSource", desc := "(IIIII)I" } : Jvm.MethodName)) ∈ lw_all := lw_g (lw_at lw_m6 26 rfl) rfl
theorem q1309 : (Jvm.Cond.selects "TrackArray" ({ cls := "TrackArray", name := "addSource", desc := "(IIIII)I" } : Jvm.MethodName) ({ cls := "TrackArray", name := "addSource", desc := "(IIIII)I" } : Jvm.MethodName)) ∈ lw_all := lw_g (lw_at lw_m6 27 rfl) rfl
theorem q1310 : (Jvm.Cond.code ({ cls := "TrackArray", name := "addSource", desc := "(IIIII)I" } : Jvm.MethodName) prog_1_method_21_code (6 : Nat) (Option.some Jvm.ClassFile.FieldType.int)) ∈ lw_all := lw_g (lw_at lw_m6 28 rfl) rfl
theorem q1311 : (Jvm.Cond.methodLink "TrackArray" (69 : Nat) ({ cls := "TrackArray", name := "checkIndex", desc := "(Z)V" } : Jvm.MethodName)) ∈ lw_all := lw_g (lw_at lw_m6 29 rfl) rfl
theorem q1312 : (Jvm.Cond.static ({ cls := "TrackArray", name := "checkIndex", desc := "(Z)V" } : Jvm.MethodName)) ∈ lw_all := lw_g (lw_at lw_m6 30 rfl) rfl
theorem q1313 : (Jvm.Cond.code ({ cls := "TrackArray", name := "checkIndex", desc := "(Z)V" } : Jvm.MethodName) prog_1_method_2_code (1 : Nat) (Option.none : Option Jvm.ClassFile.FieldType)) ∈ lw_all := lw_g (lw_at lw_m6 31 rfl) rfl
theorem q1314 : (Jvm.Cond.classLink "TrackArray" (1 : Nat) "java/lang/IndexOutOfBoundsException") ∈ lw_all := lw_g (lw_at lw_m6 32 rfl) rfl
theorem q1323 : (Jvm.Cond.methodLink "TrackArray" (3 : Nat) ({ cls := "java/lang/IndexOutOfBoundsException", name := "<init>", desc := "()V" } : Jvm.MethodName)) ∈ lw_all := lw_g (lw_at lw_m6 41 rfl) rfl
theorem q1329 : (Jvm.Cond.methodLink "TrackArray" (138 : Nat) ({ cls := "TrackArray", name := "isOnVehicle", desc := "(II)Z" } : Jvm.MethodName)) ∈ lw_all := lw_g (lw_at lw_m6 47 rfl) rfl
theorem q1330 : (Jvm.Cond.static ({ cls := "TrackArray", name := "isOnVehicle", desc := "(II)Z" } : Jvm.MethodName)) ∈ lw_all := lw_g (lw_at lw_m6 48 rfl) rfl
theorem q1331 : (Jvm.Cond.code ({ cls := "TrackArray", name := "isOnVehicle", desc := "(II)Z" } : Jvm.MethodName) prog_1_method_19_code (2 : Nat) (Option.some Jvm.ClassFile.FieldType.boolean)) ∈ lw_all := lw_g (lw_at lw_m6 49 rfl) rfl
theorem q1332 : (Jvm.Cond.constantLong "TrackArray" (132 : Nat) (-1000 : Int64)) ∈ lw_all := lw_g (lw_at lw_m6 50 rfl) rfl
theorem q1333 : (Jvm.Cond.constantLong "TrackArray" (134 : Nat) (500 : Int64)) ∈ lw_all := lw_g (lw_at lw_m6 51 rfl) rfl
theorem q1334 : (Jvm.Cond.constantLong "TrackArray" (142 : Nat) (10 : Int64)) ∈ lw_all := lw_g (lw_at lw_m6 52 rfl) rfl
theorem q1335 : (Jvm.Cond.methodLink "TrackArray" (144 : Nat) ({ cls := "TrackArray", name := "isValue", desc := "(I)Z" } : Jvm.MethodName)) ∈ lw_all := lw_g (lw_at lw_m6 53 rfl) rfl
theorem q1336 : (Jvm.Cond.static ({ cls := "TrackArray", name := "isValue", desc := "(I)Z" } : Jvm.MethodName)) ∈ lw_all := lw_g (lw_at lw_m6 54 rfl) rfl
theorem q1337 : (Jvm.Cond.code ({ cls := "TrackArray", name := "isValue", desc := "(I)Z" } : Jvm.MethodName) prog_1_method_20_code (1 : Nat) (Option.some Jvm.ClassFile.FieldType.boolean)) ∈ lw_all := lw_g (lw_at lw_m6 55 rfl) rfl
theorem q1338 : (Jvm.Cond.constantLong "TrackArray" (136 : Nat) (-99 : Int64)) ∈ lw_all := lw_g (lw_at lw_m6 56 rfl) rfl
theorem q1339 : (Jvm.Cond.methodLink "TrackArray" (148 : Nat) ({ cls := "TrackArray$Track", name := "addSource", desc := "(IIIII)I" } : Jvm.MethodName)) ∈ lw_all := lw_g (lw_at lw_m6 57 rfl) rfl
theorem q1344 : (Jvm.Cond.instanceMethod ({ cls := "TrackArray", name := "addValue", desc := "(II)I" } : Jvm.MethodName)) ∈ lw_all := lw_g (lw_at lw_m6 62 rfl) rfl
theorem q1345 : (Jvm.Cond.selects "TrackArray" ({ cls := "TrackArray", name := "addValue", desc := "(II)I" } : Jvm.MethodName) ({ cls := "TrackArray", name := "addValue", desc := "(II)I" } : Jvm.MethodName)) ∈ lw_all := lw_g (lw_at lw_m6 63 rfl) rfl
theorem q1346 : (Jvm.Cond.code ({ cls := "TrackArray", name := "addValue", desc := "(II)I" } : Jvm.MethodName) prog_1_method_22_code (4 : Nat) (Option.some Jvm.ClassFile.FieldType.int)) ∈ lw_all := lw_g (lw_at lw_m6 64 rfl) rfl
theorem q1347 : (Jvm.Cond.methodLink "TrackArray" (152 : Nat) ({ cls := "TrackArray", name := "source", desc := "(I)LTrackArray$Source;" } : Jvm.MethodName)) ∈ lw_all := lw_g (lw_at lw_m6 65 rfl) rfl
theorem q1348 : (Jvm.Cond.privateMethod ({ cls := "TrackArray", name := "source", desc := "(I)LTrackArray$Source;" } : Jvm.MethodName)) ∈ lw_tbl := lw_at lw_m6 66 rfl
theorem q1349 : (Jvm.Cond.instanceMethod ({ cls := "TrackArray", name := "source", desc := "(I)LTrackArray$Source;" } : Jvm.MethodName)) ∈ lw_all := lw_g (lw_at lw_m6 67 rfl) rfl
theorem q1350 : (Jvm.Cond.code ({ cls := "TrackArray", name := "source", desc := "(I)LTrackArray$Source;" } : Jvm.MethodName) prog_1_method_12_code (2 : Nat) (Option.some (Jvm.ClassFile.FieldType.object "TrackArray$Source"))) ∈ lw_all := lw_g (lw_at lw_m6 68 rfl) rfl
theorem q1351 : (Jvm.Cond.methodLink "TrackArray" (72 : Nat) ({ cls := "java/util/ArrayList", name := "get", desc := "(I)Ljava/lang/Object;" } : Jvm.MethodName)) ∈ lw_all := lw_g (lw_at lw_m6 69 rfl) rfl
theorem q1352 : (Jvm.Cond.classLink "TrackArray" (81 : Nat) "TrackArray$Source") ∈ lw_all := lw_g (lw_at lw_m6 70 rfl) rfl
theorem q1353 : (Jvm.Cond.methodLink "TrackArray" (159 : Nat) ({ cls := "TrackArray$Source", name := "add", desc := "(I)I" } : Jvm.MethodName)) ∈ lw_all := lw_g (lw_at lw_m6 71 rfl) rfl
theorem q1358 : (Jvm.Cond.instanceMethod ({ cls := "TrackArray", name := "addMicrophone", desc := "(IIII)I" } : Jvm.MethodName)) ∈ lw_all := lw_g (lw_at lw_m6 76 rfl) rfl
theorem q1359 : (Jvm.Cond.selects "TrackArray" ({ cls := "TrackArray", name := "addMicrophone", desc := "(IIII)I" } : Jvm.MethodName) ({ cls := "TrackArray", name := "addMicrophone", desc := "(IIII)I" } : Jvm.MethodName)) ∈ lw_all := lw_g (lw_at lw_m6 77 rfl) rfl
theorem q1360 : (Jvm.Cond.code ({ cls := "TrackArray", name := "addMicrophone", desc := "(IIII)I" } : Jvm.MethodName) prog_1_method_24_code (5 : Nat) (Option.some Jvm.ClassFile.FieldType.int)) ∈ lw_all := lw_g (lw_at lw_m6 78 rfl) rfl
theorem q1361 : (Jvm.Cond.constantLong "TrackArray" (165 : Nat) (-5000 : Int64)) ∈ lw_all := lw_g (lw_at lw_m6 79 rfl) rfl
theorem q1362 : (Jvm.Cond.constantLong "TrackArray" (167 : Nat) (-100 : Int64)) ∈ lw_all := lw_g (lw_at lw_m6 80 rfl) rfl
theorem q1363 : (Jvm.Cond.methodLink "TrackArray" (169 : Nat) ({ cls := "TrackArray", name := "isWeight", desc := "(I)Z" } : Jvm.MethodName)) ∈ lw_all := lw_g (lw_at lw_m6 81 rfl) rfl
theorem q1364 : (Jvm.Cond.static ({ cls := "TrackArray", name := "isWeight", desc := "(I)Z" } : Jvm.MethodName)) ∈ lw_all := lw_g (lw_at lw_m6 82 rfl) rfl
theorem q1365 : (Jvm.Cond.code ({ cls := "TrackArray", name := "isWeight", desc := "(I)Z" } : Jvm.MethodName) prog_1_method_23_code (1 : Nat) (Option.some Jvm.ClassFile.FieldType.boolean)) ∈ lw_all := lw_g (lw_at lw_m6 83 rfl) rfl
theorem q1366 : (Jvm.Cond.constantLong "TrackArray" (163 : Nat) (9 : Int64)) ∈ lw_all := lw_g (lw_at lw_m6 84 rfl) rfl
theorem q1367 : (Jvm.Cond.methodLink "TrackArray" (172 : Nat) ({ cls := "TrackArray$Track", name := "addMicrophone", desc := "(IIII)I" } : Jvm.MethodName)) ∈ lw_all := lw_g (lw_at lw_m6 85 rfl) rfl
theorem q1372 : (Jvm.Cond.instanceMethod ({ cls := "TrackArray", name := "setWeight", desc := "(II)I" } : Jvm.MethodName)) ∈ lw_all := lw_g (lw_at lw_m6 90 rfl) rfl
theorem q1373 : (Jvm.Cond.selects "TrackArray" ({ cls := "TrackArray", name := "setWeight", desc := "(II)I" } : Jvm.MethodName) ({ cls := "TrackArray", name := "setWeight", desc := "(II)I" } : Jvm.MethodName)) ∈ lw_all := lw_g (lw_at lw_m6 91 rfl) rfl
theorem q1374 : (Jvm.Cond.code ({ cls := "TrackArray", name := "setWeight", desc := "(II)I" } : Jvm.MethodName) prog_1_method_25_code (5 : Nat) (Option.some Jvm.ClassFile.FieldType.int)) ∈ lw_all := lw_g (lw_at lw_m6 92 rfl) rfl
theorem q1375 : (Jvm.Cond.methodLink "TrackArray" (176 : Nat) ({ cls := "TrackArray", name := "microphone", desc := "(I)LTrackArray$Microphone;" } : Jvm.MethodName)) ∈ lw_all := lw_g (lw_at lw_m6 93 rfl) rfl
theorem q1376 : (Jvm.Cond.privateMethod ({ cls := "TrackArray", name := "microphone", desc := "(I)LTrackArray$Microphone;" } : Jvm.MethodName)) ∈ lw_tbl := lw_at lw_m6 94 rfl
theorem q1377 : (Jvm.Cond.instanceMethod ({ cls := "TrackArray", name := "microphone", desc := "(I)LTrackArray$Microphone;" } : Jvm.MethodName)) ∈ lw_all := lw_g (lw_at lw_m6 95 rfl) rfl
theorem q1378 : (Jvm.Cond.code ({ cls := "TrackArray", name := "microphone", desc := "(I)LTrackArray$Microphone;" } : Jvm.MethodName) prog_1_method_13_code (2 : Nat) (Option.some (Jvm.ClassFile.FieldType.object "TrackArray$Microphone"))) ∈ lw_all := lw_g (lw_at lw_m6 96 rfl) rfl
theorem q1379 : (Jvm.Cond.classLink "TrackArray" (86 : Nat) "TrackArray$Microphone") ∈ lw_all := lw_g (lw_at lw_m6 97 rfl) rfl
theorem q1384 : (Jvm.Cond.instanceMethod ({ cls := "TrackArray", name := "count", desc := "(I)I" } : Jvm.MethodName)) ∈ lw_all := lw_g (lw_at lw_m6 102 rfl) rfl
theorem q1385 : (Jvm.Cond.selects "TrackArray" ({ cls := "TrackArray", name := "count", desc := "(I)I" } : Jvm.MethodName) ({ cls := "TrackArray", name := "count", desc := "(I)I" } : Jvm.MethodName)) ∈ lw_all := lw_g (lw_at lw_m6 103 rfl) rfl
theorem q1386 : (Jvm.Cond.code ({ cls := "TrackArray", name := "count", desc := "(I)I" } : Jvm.MethodName) prog_1_method_26_code (2 : Nat) (Option.some Jvm.ClassFile.FieldType.int)) ∈ lw_all := lw_g (lw_at lw_m6 104 rfl) rfl
theorem q1387 : (Jvm.Cond.constantLong "TrackArray" (183 : Nat) (3 : Int64)) ∈ lw_all := lw_g (lw_at lw_m6 105 rfl) rfl
theorem q1392 : (Jvm.Cond.instanceMethod ({ cls := "TrackArray", name := "emitted", desc := "(II)I" } : Jvm.MethodName)) ∈ lw_all := lw_g (lw_at lw_m6 110 rfl) rfl
theorem q1393 : (Jvm.Cond.selects "TrackArray" ({ cls := "TrackArray", name := "emitted", desc := "(II)I" } : Jvm.MethodName) ({ cls := "TrackArray", name := "emitted", desc := "(II)I" } : Jvm.MethodName)) ∈ lw_all := lw_g (lw_at lw_m6 111 rfl) rfl
theorem q1394 : (Jvm.Cond.code ({ cls := "TrackArray", name := "emitted", desc := "(II)I" } : Jvm.MethodName) prog_1_method_27_code (4 : Nat) (Option.some Jvm.ClassFile.FieldType.int)) ∈ lw_all := lw_g (lw_at lw_m6 112 rfl) rfl
theorem q1395 : (Jvm.Cond.methodLink "TrackArray" (188 : Nat) ({ cls := "TrackArray", name := "checkTime", desc := "(I)V" } : Jvm.MethodName)) ∈ lw_all := lw_g (lw_at lw_m6 113 rfl) rfl
theorem q1396 : (Jvm.Cond.static ({ cls := "TrackArray", name := "checkTime", desc := "(I)V" } : Jvm.MethodName)) ∈ lw_all := lw_g (lw_at lw_m6 114 rfl) rfl
theorem q1397 : (Jvm.Cond.code ({ cls := "TrackArray", name := "checkTime", desc := "(I)V" } : Jvm.MethodName) prog_1_method_5_code (1 : Nat) (Option.none : Option Jvm.ClassFile.FieldType)) ∈ lw_all := lw_g (lw_at lw_m6 115 rfl) rfl
theorem q1398 : (Jvm.Cond.constantLong "TrackArray" (15 : Nat) (255 : Int64)) ∈ lw_all := lw_g (lw_at lw_m6 116 rfl) rfl
theorem q1399 : (Jvm.Cond.methodLink "TrackArray" (192 : Nat) ({ cls := "TrackArray$Source", name := "emitted", desc := "(I)I" } : Jvm.MethodName)) ∈ lw_all := lw_g (lw_at lw_m6 117 rfl) rfl
theorem q1404 : (Jvm.Cond.instanceMethod ({ cls := "TrackArray", name := "distance", desc := "(IIIZ)I" } : Jvm.MethodName)) ∈ lw_all := lw_g (lw_at lw_m6 122 rfl) rfl
theorem q1405 : (Jvm.Cond.selects "TrackArray" ({ cls := "TrackArray", name := "distance", desc := "(IIIZ)I" } : Jvm.MethodName) ({ cls := "TrackArray", name := "distance", desc := "(IIIZ)I" } : Jvm.MethodName)) ∈ lw_all := lw_g (lw_at lw_m6 123 rfl) rfl
theorem q1406 : (Jvm.Cond.code ({ cls := "TrackArray", name := "distance", desc := "(IIIZ)I" } : Jvm.MethodName) prog_1_method_28_code (7 : Nat) (Option.some Jvm.ClassFile.FieldType.int)) ∈ lw_all := lw_g (lw_at lw_m6 124 rfl) rfl
theorem q1407 : (Jvm.Cond.methodLinkNest "TrackArray" (195 : Nat) ({ cls := "TrackArray$Track", name := "placeOf", desc := "(LTrackArray$Source;)LTrackArray$Place;" } : Jvm.MethodName) "TrackArray") ∈ lw_tbl := lw_at lw_m6 125 rfl
theorem q1408 : (Jvm.Cond.methodLink "TrackArray" (199 : Nat) ({ cls := "TrackArray$Microphone", name := "distance", desc := "(LTrackArray$Place;IZ)I" } : Jvm.MethodName)) ∈ lw_all := lw_g (lw_at lw_m6 126 rfl) rfl
theorem q1413 : (Jvm.Cond.instanceMethod ({ cls := "TrackArray", name := "emissionTime", desc := "(IIIZ)I" } : Jvm.MethodName)) ∈ lw_all := lw_g (lw_at lw_m6 131 rfl) rfl
theorem q1414 : (Jvm.Cond.selects "TrackArray" ({ cls := "TrackArray", name := "emissionTime", desc := "(IIIZ)I" } : Jvm.MethodName) ({ cls := "TrackArray", name := "emissionTime", desc := "(IIIZ)I" } : Jvm.MethodName)) ∈ lw_all := lw_g (lw_at lw_m6 132 rfl) rfl
theorem q1415 : (Jvm.Cond.code ({ cls := "TrackArray", name := "emissionTime", desc := "(IIIZ)I" } : Jvm.MethodName) prog_1_method_29_code (7 : Nat) (Option.some Jvm.ClassFile.FieldType.int)) ∈ lw_all := lw_g (lw_at lw_m6 133 rfl) rfl
theorem q1416 : (Jvm.Cond.methodLink "TrackArray" (203 : Nat) ({ cls := "TrackArray$Track", name := "heard", desc := "(LTrackArray$Microphone;LTrackArray$Place;IZI)I" } : Jvm.MethodName)) ∈ lw_all := lw_g (lw_at lw_m6 134 rfl) rfl
theorem q1421 : (Jvm.Cond.instanceMethod ({ cls := "TrackArray", name := "passTime", desc := "(II)I" } : Jvm.MethodName)) ∈ lw_all := lw_g (lw_at lw_m6 139 rfl) rfl
theorem q1422 : (Jvm.Cond.selects "TrackArray" ({ cls := "TrackArray", name := "passTime", desc := "(II)I" } : Jvm.MethodName) ({ cls := "TrackArray", name := "passTime", desc := "(II)I" } : Jvm.MethodName)) ∈ lw_all := lw_g (lw_at lw_m6 140 rfl) rfl
theorem q1423 : (Jvm.Cond.code ({ cls := "TrackArray", name := "passTime", desc := "(II)I" } : Jvm.MethodName) prog_1_method_30_code (7 : Nat) (Option.some Jvm.ClassFile.FieldType.int)) ∈ lw_all := lw_g (lw_at lw_m6 141 rfl) rfl
theorem q1424 : (Jvm.Cond.methodLink "TrackArray" (207 : Nat) ({ cls := "TrackArray", name := "vehicle", desc := "(I)LTrackArray$Vehicle;" } : Jvm.MethodName)) ∈ lw_all := lw_g (lw_at lw_m6 142 rfl) rfl
theorem q1425 : (Jvm.Cond.privateMethod ({ cls := "TrackArray", name := "vehicle", desc := "(I)LTrackArray$Vehicle;" } : Jvm.MethodName)) ∈ lw_tbl := lw_at lw_m6 143 rfl
theorem q1426 : (Jvm.Cond.instanceMethod ({ cls := "TrackArray", name := "vehicle", desc := "(I)LTrackArray$Vehicle;" } : Jvm.MethodName)) ∈ lw_all := lw_g (lw_at lw_m6 144 rfl) rfl
theorem q1427 : (Jvm.Cond.code ({ cls := "TrackArray", name := "vehicle", desc := "(I)LTrackArray$Vehicle;" } : Jvm.MethodName) prog_1_method_11_code (2 : Nat) (Option.some (Jvm.ClassFile.FieldType.object "TrackArray$Vehicle"))) ∈ lw_all := lw_g (lw_at lw_m6 145 rfl) rfl
theorem q1428 : (Jvm.Cond.classLink "TrackArray" (76 : Nat) "TrackArray$Vehicle") ∈ lw_all := lw_g (lw_at lw_m6 146 rfl) rfl
theorem q1429 : (Jvm.Cond.methodLink "TrackArray" (211 : Nat) ({ cls := "TrackArray$Vehicle", name := "xAt", desc := "(I)I" } : Jvm.MethodName)) ∈ lw_all := lw_g (lw_at lw_m6 147 rfl) rfl
theorem q1430 : (Jvm.Cond.methodLink "TrackArray" (217 : Nat) ({ cls := "java/lang/Math", name := "abs", desc := "(I)I" } : Jvm.MethodName)) ∈ lw_all := lw_g (lw_at lw_m6 148 rfl) rfl
theorem q1437 : (Jvm.Cond.instanceMethod ({ cls := "TrackArray", name := "sample", desc := "(II)I" } : Jvm.MethodName)) ∈ lw_all := lw_g (lw_at lw_m6 155 rfl) rfl
theorem q1438 : (Jvm.Cond.selects "TrackArray" ({ cls := "TrackArray", name := "sample", desc := "(II)I" } : Jvm.MethodName) ({ cls := "TrackArray", name := "sample", desc := "(II)I" } : Jvm.MethodName)) ∈ lw_all := lw_g (lw_at lw_m6 156 rfl) rfl
theorem q1439 : (Jvm.Cond.code ({ cls := "TrackArray", name := "sample", desc := "(II)I" } : Jvm.MethodName) prog_1_method_32_code (4 : Nat) (Option.some Jvm.ClassFile.FieldType.int)) ∈ lw_all := lw_g (lw_at lw_m6 157 rfl) rfl
theorem q1444 : (Jvm.Cond.instanceMethod ({ cls := "TrackArray", name := "measureRecord", desc := "(IIII)J" } : Jvm.MethodName)) ∈ lw_all := lw_g (lw_at lw_m6 162 rfl) rfl
theorem q1445 : (Jvm.Cond.selects "TrackArray" ({ cls := "TrackArray", name := "measureRecord", desc := "(IIII)J" } : Jvm.MethodName) ({ cls := "TrackArray", name := "measureRecord", desc := "(IIII)J" } : Jvm.MethodName)) ∈ lw_all := lw_g (lw_at lw_m6 163 rfl) rfl
theorem q1446 : (Jvm.Cond.code ({ cls := "TrackArray", name := "measureRecord", desc := "(IIII)J" } : Jvm.MethodName) prog_1_method_33_code (5 : Nat) (Option.some Jvm.ClassFile.FieldType.long)) ∈ lw_all := lw_g (lw_at lw_m6 164 rfl) rfl
theorem q1447 : (Jvm.Cond.methodLink "TrackArray" (229 : Nat) ({ cls := "TrackArray$Measure", name := "isNumber", desc := "(I)Z" } : Jvm.MethodName)) ∈ lw_all := lw_g (lw_at lw_m6 165 rfl) rfl
theorem q1462 : (Jvm.Cond.methodLink "TrackArray" (234 : Nat) ({ cls := "TrackArray", name := "isWindow", desc := "(II)Z" } : Jvm.MethodName)) ∈ lw_all := lw_g (lw_at lw_m6 180 rfl) rfl
theorem q1463 : (Jvm.Cond.static ({ cls := "TrackArray", name := "isWindow", desc := "(II)Z" } : Jvm.MethodName)) ∈ lw_all := lw_g (lw_at lw_m6 181 rfl) rfl
theorem q1464 : (Jvm.Cond.code ({ cls := "TrackArray", name := "isWindow", desc := "(II)Z" } : Jvm.MethodName) prog_1_method_6_code (2 : Nat) (Option.some Jvm.ClassFile.FieldType.boolean)) ∈ lw_all := lw_g (lw_at lw_m6 182 rfl) rfl
theorem q1465 : (Jvm.Cond.methodLink "TrackArray" (237 : Nat) ({ cls := "TrackArray$Measure", name := "numbered", desc := "(I)LTrackArray$Measure;" } : Jvm.MethodName)) ∈ lw_all := lw_g (lw_at lw_m6 183 rfl) rfl
theorem q1468 : (Jvm.Cond.methodLink "TrackArray" (241 : Nat) ({ cls := "TrackArray$Track", name := "record", desc := "(I)LTrackArray$Signal;" } : Jvm.MethodName)) ∈ lw_all := lw_g (lw_at lw_m6 186 rfl) rfl
theorem q1474 : (Jvm.Cond.methodLink "TrackArray" (244 : Nat) ({ cls := "TrackArray$Measure", name := "of", desc := "(LTrackArray$Signal;II)J" } : Jvm.MethodName)) ∈ lw_all := lw_g (lw_at lw_m6 192 rfl) rfl
theorem q1526 : (Jvm.Cond.instanceMethod ({ cls := "TrackArray", name := "loudestMicrophone", desc := "(II)I" } : Jvm.MethodName)) ∈ lw_all := lw_g (lw_at lw_m7 4 rfl) rfl
theorem q1527 : (Jvm.Cond.selects "TrackArray" ({ cls := "TrackArray", name := "loudestMicrophone", desc := "(II)I" } : Jvm.MethodName) ({ cls := "TrackArray", name := "loudestMicrophone", desc := "(II)I" } : Jvm.MethodName)) ∈ lw_all := lw_g (lw_at lw_m7 5 rfl) rfl
theorem q1528 : (Jvm.Cond.code ({ cls := "TrackArray", name := "loudestMicrophone", desc := "(II)I" } : Jvm.MethodName) prog_1_method_34_code (9 : Nat) (Option.some Jvm.ClassFile.FieldType.int)) ∈ lw_all := lw_g (lw_at lw_m7 6 rfl) rfl
theorem q1529 : (Jvm.Cond.constantLong "TrackArray" (248 : Nat) (-1 : Int64)) ∈ lw_all := lw_g (lw_at lw_m7 7 rfl) rfl
theorem q1530 : (Jvm.Cond.fieldLink "TrackArray" (250 : Nat) "TrackArray$Measure" "ENERGY" "LTrackArray$Measure;") ∈ lw_all := lw_g (lw_at lw_m7 8 rfl) rfl
theorem q1535 : (Jvm.Cond.instanceMethod ({ cls := "TrackArray", name := "loudestWindow", desc := "(II)I" } : Jvm.MethodName)) ∈ lw_all := lw_g (lw_at lw_m7 13 rfl) rfl
theorem q1536 : (Jvm.Cond.selects "TrackArray" ({ cls := "TrackArray", name := "loudestWindow", desc := "(II)I" } : Jvm.MethodName) ({ cls := "TrackArray", name := "loudestWindow", desc := "(II)I" } : Jvm.MethodName)) ∈ lw_all := lw_g (lw_at lw_m7 14 rfl) rfl
theorem q1537 : (Jvm.Cond.code ({ cls := "TrackArray", name := "loudestWindow", desc := "(II)I" } : Jvm.MethodName) prog_1_method_35_code (11 : Nat) (Option.some Jvm.ClassFile.FieldType.int)) ∈ lw_all := lw_g (lw_at lw_m7 15 rfl) rfl
theorem q1538 : (Jvm.Cond.constantLong "TrackArray" (254 : Nat) (256 : Int64)) ∈ lw_all := lw_g (lw_at lw_m7 16 rfl) rfl
theorem q1539 : (Jvm.Cond.interfaceEntry "TrackArray" (27 : Nat)) ∈ lw_tbl := lw_at lw_m7 17 rfl
theorem q1540 : (Jvm.Cond.methodLink "TrackArray" (27 : Nat) ({ cls := "TrackArray$Signal", name := "at", desc := "(I)J" } : Jvm.MethodName)) ∈ lw_all := lw_g (lw_at lw_m7 18 rfl) rfl
theorem q1545 : (Jvm.Cond.instanceMethod ({ cls := "TrackArray", name := "correlation", desc := "(III)J" } : Jvm.MethodName)) ∈ lw_all := lw_g (lw_at lw_m7 23 rfl) rfl
theorem q1546 : (Jvm.Cond.selects "TrackArray" ({ cls := "TrackArray", name := "correlation", desc := "(III)J" } : Jvm.MethodName) ({ cls := "TrackArray", name := "correlation", desc := "(III)J" } : Jvm.MethodName)) ∈ lw_all := lw_g (lw_at lw_m7 24 rfl) rfl
theorem q1547 : (Jvm.Cond.code ({ cls := "TrackArray", name := "correlation", desc := "(III)J" } : Jvm.MethodName) prog_1_method_37_code (6 : Nat) (Option.some Jvm.ClassFile.FieldType.long)) ∈ lw_all := lw_g (lw_at lw_m7 25 rfl) rfl
theorem q1548 : (Jvm.Cond.constantLong "TrackArray" (258 : Nat) (-255 : Int64)) ∈ lw_all := lw_g (lw_at lw_m7 26 rfl) rfl
theorem q1549 : (Jvm.Cond.methodLink "TrackArray" (260 : Nat) ({ cls := "TrackArray", name := "correlated", desc := "(LTrackArray$Microphone;LTrackArray$Microphone;I)J" } : Jvm.MethodName)) ∈ lw_all := lw_g (lw_at lw_m7 27 rfl) rfl
theorem q1550 : (Jvm.Cond.static ({ cls := "TrackArray", name := "correlated", desc := "(LTrackArray$Microphone;LTrackArray$Microphone;I)J" } : Jvm.MethodName)) ∈ lw_all := lw_g (lw_at lw_m7 28 rfl) rfl
theorem q1551 : (Jvm.Cond.code ({ cls := "TrackArray", name := "correlated", desc := "(LTrackArray$Microphone;LTrackArray$Microphone;I)J" } : Jvm.MethodName) prog_1_method_36_code (6 : Nat) (Option.some Jvm.ClassFile.FieldType.long)) ∈ lw_all := lw_g (lw_at lw_m7 29 rfl) rfl
theorem q1552 : (Jvm.Cond.methodLink "TrackArray" (256 : Nat) ({ cls := "TrackArray$Microphone", name := "at", desc := "(I)I" } : Jvm.MethodName)) ∈ lw_all := lw_g (lw_at lw_m7 30 rfl) rfl
theorem q1562 : (Jvm.Cond.instanceMethod ({ cls := "TrackArray", name := "bestLag", desc := "(III)I" } : Jvm.MethodName)) ∈ lw_all := lw_g (lw_at lw_m7 40 rfl) rfl
theorem q1563 : (Jvm.Cond.selects "TrackArray" ({ cls := "TrackArray", name := "bestLag", desc := "(III)I" } : Jvm.MethodName) ({ cls := "TrackArray", name := "bestLag", desc := "(III)I" } : Jvm.MethodName)) ∈ lw_all := lw_g (lw_at lw_m7 41 rfl) rfl
theorem q1564 : (Jvm.Cond.code ({ cls := "TrackArray", name := "bestLag", desc := "(III)I" } : Jvm.MethodName) prog_1_method_39_code (6 : Nat) (Option.some Jvm.ClassFile.FieldType.int)) ∈ lw_all := lw_g (lw_at lw_m7 42 rfl) rfl
theorem q1565 : (Jvm.Cond.static ({ cls := "TrackArray", name := "lambda$bestLag$0", desc := "(LTrackArray$Microphone;LTrackArray$Microphone;I)J" } : Jvm.MethodName)) ∈ lw_all := lw_g (lw_at lw_m7 43 rfl) rfl
theorem q1566 : (Jvm.Cond.code ({ cls := "TrackArray", name := "lambda$bestLag$0", desc := "(LTrackArray$Microphone;LTrackArray$Microphone;I)J" } : Jvm.MethodName) prog_1_method_69_code (3 : Nat) (Option.some Jvm.ClassFile.FieldType.long)) ∈ lw_all := lw_g (lw_at lw_m7 44 rfl) rfl
theorem q1567 : (Jvm.Cond.methodLink "TrackArray" (271 : Nat) ({ cls := "TrackArray", name := "bestAround", desc := "(ILTrackArray$Worth;)I" } : Jvm.MethodName)) ∈ lw_all := lw_g (lw_at lw_m7 45 rfl) rfl
theorem q1568 : (Jvm.Cond.static ({ cls := "TrackArray", name := "bestAround", desc := "(ILTrackArray$Worth;)I" } : Jvm.MethodName)) ∈ lw_all := lw_g (lw_at lw_m7 46 rfl) rfl
theorem q1569 : (Jvm.Cond.code ({ cls := "TrackArray", name := "bestAround", desc := "(ILTrackArray$Worth;)I" } : Jvm.MethodName) prog_1_method_38_code (10 : Nat) (Option.some Jvm.ClassFile.FieldType.int)) ∈ lw_all := lw_g (lw_at lw_m7 47 rfl) rfl
theorem q1570 : (Jvm.Cond.interfaceEntry "TrackArray" (264 : Nat)) ∈ lw_tbl := lw_at lw_m7 48 rfl
theorem q1571 : (Jvm.Cond.methodLink "TrackArray" (264 : Nat) ({ cls := "TrackArray$Worth", name := "of", desc := "(I)J" } : Jvm.MethodName)) ∈ lw_all := lw_g (lw_at lw_m7 49 rfl) rfl
theorem q1578 : (Jvm.Cond.instanceMethod ({ cls := "TrackArray", name := "focusOnVehicle", desc := "(III)V" } : Jvm.MethodName)) ∈ lw_all := lw_g (lw_at lw_m7 56 rfl) rfl
theorem q1579 : (Jvm.Cond.selects "TrackArray" ({ cls := "TrackArray", name := "focusOnVehicle", desc := "(III)V" } : Jvm.MethodName) ({ cls := "TrackArray", name := "focusOnVehicle", desc := "(III)V" } : Jvm.MethodName)) ∈ lw_all := lw_g (lw_at lw_m7 57 rfl) rfl
theorem q1580 : (Jvm.Cond.code ({ cls := "TrackArray", name := "focusOnVehicle", desc := "(III)V" } : Jvm.MethodName) prog_1_method_40_code (5 : Nat) (Option.none : Option Jvm.ClassFile.FieldType)) ∈ lw_all := lw_g (lw_at lw_m7 58 rfl) rfl
theorem q1581 : (Jvm.Cond.classLink "TrackArray" (275 : Nat) "TrackArray$Riding") ∈ lw_all := lw_g (lw_at lw_m7 59 rfl) rfl
theorem q1582 : (Jvm.Cond.methodLinkNest "TrackArray" (277 : Nat) ({ cls := "TrackArray$Riding", name := "<init>", desc := "(LTrackArray$Vehicle;II)V" } : Jvm.MethodName) "TrackArray") ∈ lw_tbl := lw_at lw_m7 60 rfl
theorem q1587 : (Jvm.Cond.instanceMethod ({ cls := "TrackArray", name := "focusOnPlace", desc := "(III)V" } : Jvm.MethodName)) ∈ lw_all := lw_g (lw_at lw_m7 65 rfl) rfl
theorem q1588 : (Jvm.Cond.selects "TrackArray" ({ cls := "TrackArray", name := "focusOnPlace", desc := "(III)V" } : Jvm.MethodName) ({ cls := "TrackArray", name := "focusOnPlace", desc := "(III)V" } : Jvm.MethodName)) ∈ lw_all := lw_g (lw_at lw_m7 66 rfl) rfl
theorem q1589 : (Jvm.Cond.code ({ cls := "TrackArray", name := "focusOnPlace", desc := "(III)V" } : Jvm.MethodName) prog_1_method_41_code (4 : Nat) (Option.none : Option Jvm.ClassFile.FieldType)) ∈ lw_all := lw_g (lw_at lw_m7 67 rfl) rfl
theorem q1590 : (Jvm.Cond.classLink "TrackArray" (284 : Nat) "TrackArray$Fixed") ∈ lw_all := lw_g (lw_at lw_m7 68 rfl) rfl
theorem q1591 : (Jvm.Cond.methodLinkNest "TrackArray" (286 : Nat) ({ cls := "TrackArray$Fixed", name := "<init>", desc := "(III)V" } : Jvm.MethodName) "TrackArray") ∈ lw_tbl := lw_at lw_m7 69 rfl
theorem q1596 : (Jvm.Cond.instanceMethod ({ cls := "TrackArray", name := "focusOnDirection", desc := "(I)V" } : Jvm.MethodName)) ∈ lw_all := lw_g (lw_at lw_m7 74 rfl) rfl
theorem q1597 : (Jvm.Cond.selects "TrackArray" ({ cls := "TrackArray", name := "focusOnDirection", desc := "(I)V" } : Jvm.MethodName) ({ cls := "TrackArray", name := "focusOnDirection", desc := "(I)V" } : Jvm.MethodName)) ∈ lw_all := lw_g (lw_at lw_m7 75 rfl) rfl
theorem q1598 : (Jvm.Cond.code ({ cls := "TrackArray", name := "focusOnDirection", desc := "(I)V" } : Jvm.MethodName) prog_1_method_43_code (2 : Nat) (Option.none : Option Jvm.ClassFile.FieldType)) ∈ lw_all := lw_g (lw_at lw_m7 76 rfl) rfl
theorem q1599 : (Jvm.Cond.methodLink "TrackArray" (289 : Nat) ({ cls := "TrackArray", name := "isDirection", desc := "(I)Z" } : Jvm.MethodName)) ∈ lw_all := lw_g (lw_at lw_m7 77 rfl) rfl
theorem q1600 : (Jvm.Cond.static ({ cls := "TrackArray", name := "isDirection", desc := "(I)Z" } : Jvm.MethodName)) ∈ lw_all := lw_g (lw_at lw_m7 78 rfl) rfl
theorem q1601 : (Jvm.Cond.code ({ cls := "TrackArray", name := "isDirection", desc := "(I)Z" } : Jvm.MethodName) prog_1_method_42_code (1 : Nat) (Option.some Jvm.ClassFile.FieldType.boolean)) ∈ lw_all := lw_g (lw_at lw_m7 79 rfl) rfl
theorem q1602 : (Jvm.Cond.classLink "TrackArray" (292 : Nat) "TrackArray$Direction") ∈ lw_all := lw_g (lw_at lw_m7 80 rfl) rfl
theorem q1604 : (Jvm.Cond.methodLinkNest "TrackArray" (294 : Nat) ({ cls := "TrackArray$Direction", name := "<init>", desc := "(I)V" } : Jvm.MethodName) "TrackArray") ∈ lw_tbl := lw_at lw_m7 82 rfl
theorem q1616 : (Jvm.Cond.instanceMethod ({ cls := "TrackArray", name := "sampleNumber", desc := "(II)I" } : Jvm.MethodName)) ∈ lw_all := lw_g (lw_at lw_m7 94 rfl) rfl
theorem q1617 : (Jvm.Cond.selects "TrackArray" ({ cls := "TrackArray", name := "sampleNumber", desc := "(II)I" } : Jvm.MethodName) ({ cls := "TrackArray", name := "sampleNumber", desc := "(II)I" } : Jvm.MethodName)) ∈ lw_all := lw_g (lw_at lw_m7 95 rfl) rfl
theorem q1618 : (Jvm.Cond.code ({ cls := "TrackArray", name := "sampleNumber", desc := "(II)I" } : Jvm.MethodName) prog_1_method_45_code (4 : Nat) (Option.some Jvm.ClassFile.FieldType.int)) ∈ lw_all := lw_g (lw_at lw_m7 96 rfl) rfl
theorem q1619 : (Jvm.Cond.methodLink "TrackArray" (299 : Nat) ({ cls := "TrackArray$Track", name := "sampleNumber", desc := "(LTrackArray$Microphone;LTrackArray$Focus;I)I" } : Jvm.MethodName)) ∈ lw_all := lw_g (lw_at lw_m7 97 rfl) rfl
theorem q1636 : (Jvm.Cond.instanceMethod ({ cls := "TrackArray", name := "part", desc := "(II)I" } : Jvm.MethodName)) ∈ lw_all := lw_g (lw_at lw_m7 114 rfl) rfl
theorem q1637 : (Jvm.Cond.selects "TrackArray" ({ cls := "TrackArray", name := "part", desc := "(II)I" } : Jvm.MethodName) ({ cls := "TrackArray", name := "part", desc := "(II)I" } : Jvm.MethodName)) ∈ lw_all := lw_g (lw_at lw_m7 115 rfl) rfl
theorem q1638 : (Jvm.Cond.code ({ cls := "TrackArray", name := "part", desc := "(II)I" } : Jvm.MethodName) prog_1_method_46_code (4 : Nat) (Option.some Jvm.ClassFile.FieldType.int)) ∈ lw_all := lw_g (lw_at lw_m7 116 rfl) rfl
theorem q1639 : (Jvm.Cond.methodLink "TrackArray" (303 : Nat) ({ cls := "TrackArray$Track", name := "layParts", desc := "(LTrackArray$Microphone;LTrackArray$Focus;I)V" } : Jvm.MethodName)) ∈ lw_all := lw_g (lw_at lw_m7 117 rfl) rfl
theorem q1654 : (Jvm.Cond.instanceMethod ({ cls := "TrackArray", name := "beam", desc := "(I)I" } : Jvm.MethodName)) ∈ lw_all := lw_g (lw_at lw_m7 132 rfl) rfl
theorem q1655 : (Jvm.Cond.selects "TrackArray" ({ cls := "TrackArray", name := "beam", desc := "(I)I" } : Jvm.MethodName) ({ cls := "TrackArray", name := "beam", desc := "(I)I" } : Jvm.MethodName)) ∈ lw_all := lw_g (lw_at lw_m7 133 rfl) rfl
theorem q1656 : (Jvm.Cond.code ({ cls := "TrackArray", name := "beam", desc := "(I)I" } : Jvm.MethodName) prog_1_method_49_code (2 : Nat) (Option.some Jvm.ClassFile.FieldType.int)) ∈ lw_all := lw_g (lw_at lw_m7 134 rfl) rfl
theorem q1657 : (Jvm.Cond.methodLink "TrackArray" (312 : Nat) ({ cls := "TrackArray$Track", name := "beam", desc := "(LTrackArray$Focus;I)LTrackArray$Signal;" } : Jvm.MethodName)) ∈ lw_all := lw_g (lw_at lw_m7 135 rfl) rfl
theorem q1669 : (Jvm.Cond.instanceMethod ({ cls := "TrackArray", name := "measureBeam", desc := "(III)J" } : Jvm.MethodName)) ∈ lw_all := lw_g (lw_at lw_m7 147 rfl) rfl
theorem q1670 : (Jvm.Cond.selects "TrackArray" ({ cls := "TrackArray", name := "measureBeam", desc := "(III)J" } : Jvm.MethodName) ({ cls := "TrackArray", name := "measureBeam", desc := "(III)J" } : Jvm.MethodName)) ∈ lw_all := lw_g (lw_at lw_m7 148 rfl) rfl
theorem q1671 : (Jvm.Cond.code ({ cls := "TrackArray", name := "measureBeam", desc := "(III)J" } : Jvm.MethodName) prog_1_method_50_code (4 : Nat) (Option.some Jvm.ClassFile.FieldType.long)) ∈ lw_all := lw_g (lw_at lw_m7 149 rfl) rfl
theorem q1672 : (Jvm.Cond.methodLink "TrackArray" (316 : Nat) ({ cls := "TrackArray", name := "checkWindow", desc := "(ZII)V" } : Jvm.MethodName)) ∈ lw_all := lw_g (lw_at lw_m7 150 rfl) rfl
theorem q1673 : (Jvm.Cond.static ({ cls := "TrackArray", name := "checkWindow", desc := "(ZII)V" } : Jvm.MethodName)) ∈ lw_all := lw_g (lw_at lw_m7 151 rfl) rfl
theorem q1674 : (Jvm.Cond.code ({ cls := "TrackArray", name := "checkWindow", desc := "(ZII)V" } : Jvm.MethodName) prog_1_method_47_code (3 : Nat) (Option.none : Option Jvm.ClassFile.FieldType)) ∈ lw_all := lw_g (lw_at lw_m7 152 rfl) rfl
theorem q1679 : (Jvm.Cond.instanceMethod ({ cls := "TrackArray", name := "periodPower", desc := "(III)J" } : Jvm.MethodName)) ∈ lw_all := lw_g (lw_at lw_m7 157 rfl) rfl
theorem q1680 : (Jvm.Cond.selects "TrackArray" ({ cls := "TrackArray", name := "periodPower", desc := "(III)J" } : Jvm.MethodName) ({ cls := "TrackArray", name := "periodPower", desc := "(III)J" } : Jvm.MethodName)) ∈ lw_all := lw_g (lw_at lw_m7 158 rfl) rfl
theorem q1681 : (Jvm.Cond.code ({ cls := "TrackArray", name := "periodPower", desc := "(III)J" } : Jvm.MethodName) prog_1_method_51_code (4 : Nat) (Option.some Jvm.ClassFile.FieldType.long)) ∈ lw_all := lw_g (lw_at lw_m7 159 rfl) rfl
theorem q1682 : (Jvm.Cond.methodLink "TrackArray" (320 : Nat) ({ cls := "TrackArray", name := "isPeriod", desc := "(I)Z" } : Jvm.MethodName)) ∈ lw_all := lw_g (lw_at lw_m7 160 rfl) rfl
theorem q1683 : (Jvm.Cond.static ({ cls := "TrackArray", name := "isPeriod", desc := "(I)Z" } : Jvm.MethodName)) ∈ lw_all := lw_g (lw_at lw_m7 161 rfl) rfl
theorem q1684 : (Jvm.Cond.code ({ cls := "TrackArray", name := "isPeriod", desc := "(I)Z" } : Jvm.MethodName) prog_1_method_48_code (1 : Nat) (Option.some Jvm.ClassFile.FieldType.boolean)) ∈ lw_all := lw_g (lw_at lw_m7 162 rfl) rfl
theorem q1685 : (Jvm.Cond.constantLong "TrackArray" (310 : Nat) (64 : Int64)) ∈ lw_all := lw_g (lw_at lw_m7 163 rfl) rfl
theorem q1686 : (Jvm.Cond.methodLink "TrackArray" (33 : Nat) ({ cls := "TrackArray", name := "power", desc := "(LTrackArray$Signal;III)J" } : Jvm.MethodName)) ∈ lw_all := lw_g (lw_at lw_m7 164 rfl) rfl
theorem q1687 : (Jvm.Cond.static ({ cls := "TrackArray", name := "power", desc := "(LTrackArray$Signal;III)J" } : Jvm.MethodName)) ∈ lw_all := lw_g (lw_at lw_m7 165 rfl) rfl
theorem q1688 : (Jvm.Cond.code ({ cls := "TrackArray", name := "power", desc := "(LTrackArray$Signal;III)J" } : Jvm.MethodName) prog_1_method_8_code (10 : Nat) (Option.some Jvm.ClassFile.FieldType.long)) ∈ lw_all := lw_g (lw_at lw_m7 166 rfl) rfl
theorem q1693 : (Jvm.Cond.instanceMethod ({ cls := "TrackArray", name := "bestPeriod", desc := "(III)I" } : Jvm.MethodName)) ∈ lw_all := lw_g (lw_at lw_m7 171 rfl) rfl
theorem q1694 : (Jvm.Cond.selects "TrackArray" ({ cls := "TrackArray", name := "bestPeriod", desc := "(III)I" } : Jvm.MethodName) ({ cls := "TrackArray", name := "bestPeriod", desc := "(III)I" } : Jvm.MethodName)) ∈ lw_all := lw_g (lw_at lw_m7 172 rfl) rfl
theorem q1695 : (Jvm.Cond.code ({ cls := "TrackArray", name := "bestPeriod", desc := "(III)I" } : Jvm.MethodName) prog_1_method_52_code (11 : Nat) (Option.some Jvm.ClassFile.FieldType.int)) ∈ lw_all := lw_g (lw_at lw_m7 173 rfl) rfl
theorem q1696 : (Jvm.Cond.methodLink "TrackArray" (323 : Nat) ({ cls := "TrackArray", name := "strength", desc := "(LTrackArray$Signal;III)J" } : Jvm.MethodName)) ∈ lw_all := lw_g (lw_at lw_m7 174 rfl) rfl
theorem q1697 : (Jvm.Cond.static ({ cls := "TrackArray", name := "strength", desc := "(LTrackArray$Signal;III)J" } : Jvm.MethodName)) ∈ lw_all := lw_g (lw_at lw_m7 175 rfl) rfl
theorem q1698 : (Jvm.Cond.code ({ cls := "TrackArray", name := "strength", desc := "(LTrackArray$Signal;III)J" } : Jvm.MethodName) prog_1_method_9_code (4 : Nat) (Option.some Jvm.ClassFile.FieldType.long)) ∈ lw_all := lw_g (lw_at lw_m7 176 rfl) rfl
theorem q1703 : (Jvm.Cond.instanceMethod ({ cls := "TrackArray", name := "energyBeside", desc := "(III)J" } : Jvm.MethodName)) ∈ lw_all := lw_g (lw_at lw_m7 181 rfl) rfl
theorem q1704 : (Jvm.Cond.selects "TrackArray" ({ cls := "TrackArray", name := "energyBeside", desc := "(III)J" } : Jvm.MethodName) ({ cls := "TrackArray", name := "energyBeside", desc := "(III)J" } : Jvm.MethodName)) ∈ lw_all := lw_g (lw_at lw_m7 182 rfl) rfl
theorem q1705 : (Jvm.Cond.code ({ cls := "TrackArray", name := "energyBeside", desc := "(III)J" } : Jvm.MethodName) prog_1_method_53_code (4 : Nat) (Option.some Jvm.ClassFile.FieldType.long)) ∈ lw_all := lw_g (lw_at lw_m7 183 rfl) rfl
theorem q1706 : (Jvm.Cond.constantLong "TrackArray" (326 : Nat) (-2000 : Int64)) ∈ lw_all := lw_g (lw_at lw_m7 184 rfl) rfl
theorem q1707 : (Jvm.Cond.constantLong "TrackArray" (328 : Nat) (2000 : Int64)) ∈ lw_all := lw_g (lw_at lw_m7 185 rfl) rfl
theorem q1708 : (Jvm.Cond.methodLink "TrackArray" (330 : Nat) ({ cls := "TrackArray$Track", name := "energyBeside", desc := "(III)J" } : Jvm.MethodName)) ∈ lw_all := lw_g (lw_at lw_m7 186 rfl) rfl
theorem q1747 : (Jvm.Cond.instanceMethod ({ cls := "TrackArray", name := "scan", desc := "(IIII)I" } : Jvm.MethodName)) ∈ lw_all := lw_g (lw_at lw_m7 225 rfl) rfl
theorem q1748 : (Jvm.Cond.selects "TrackArray" ({ cls := "TrackArray", name := "scan", desc := "(IIII)I" } : Jvm.MethodName) ({ cls := "TrackArray", name := "scan", desc := "(IIII)I" } : Jvm.MethodName)) ∈ lw_all := lw_g (lw_at lw_m7 226 rfl) rfl
theorem q1749 : (Jvm.Cond.code ({ cls := "TrackArray", name := "scan", desc := "(IIII)I" } : Jvm.MethodName) prog_1_method_54_code (5 : Nat) (Option.some Jvm.ClassFile.FieldType.int)) ∈ lw_all := lw_g (lw_at lw_m7 227 rfl) rfl
theorem q1750 : (Jvm.Cond.constantLong "TrackArray" (334 : Nat) (20 : Int64)) ∈ lw_all := lw_g (lw_at lw_m7 228 rfl) rfl
theorem q1751 : (Jvm.Cond.privateMethod ({ cls := "TrackArray", name := "lambda$scan$1", desc := "(IIII)J" } : Jvm.MethodName)) ∈ lw_tbl := lw_at lw_m7 229 rfl
theorem q1752 : (Jvm.Cond.instanceMethod ({ cls := "TrackArray", name := "lambda$scan$1", desc := "(IIII)J" } : Jvm.MethodName)) ∈ lw_all := lw_g (lw_at lw_m7 230 rfl) rfl
theorem q1753 : (Jvm.Cond.code ({ cls := "TrackArray", name := "lambda$scan$1", desc := "(IIII)J" } : Jvm.MethodName) prog_1_method_68_code (5 : Nat) (Option.some Jvm.ClassFile.FieldType.long)) ∈ lw_all := lw_g (lw_at lw_m7 231 rfl) rfl
theorem q1758 : (Jvm.Cond.instanceMethod ({ cls := "TrackArray", name := "bestDirection", desc := "(III)I" } : Jvm.MethodName)) ∈ lw_all := lw_g (lw_at lw_m7 236 rfl) rfl
theorem q1759 : (Jvm.Cond.selects "TrackArray" ({ cls := "TrackArray", name := "bestDirection", desc := "(III)I" } : Jvm.MethodName) ({ cls := "TrackArray", name := "bestDirection", desc := "(III)I" } : Jvm.MethodName)) ∈ lw_all := lw_g (lw_at lw_m7 237 rfl) rfl
theorem q1760 : (Jvm.Cond.code ({ cls := "TrackArray", name := "bestDirection", desc := "(III)I" } : Jvm.MethodName) prog_1_method_55_code (10 : Nat) (Option.some Jvm.ClassFile.FieldType.int)) ∈ lw_all := lw_g (lw_at lw_m7 238 rfl) rfl
theorem q1765 : (Jvm.Cond.instanceMethod ({ cls := "TrackArray", name := "spectrum", desc := "(IIII)J" } : Jvm.MethodName)) ∈ lw_all := lw_g (lw_at lw_m8 3 rfl) rfl
theorem q1766 : (Jvm.Cond.selects "TrackArray" ({ cls := "TrackArray", name := "spectrum", desc := "(IIII)J" } : Jvm.MethodName) ({ cls := "TrackArray", name := "spectrum", desc := "(IIII)J" } : Jvm.MethodName)) ∈ lw_all := lw_g (lw_at lw_m8 4 rfl) rfl
theorem q1767 : (Jvm.Cond.code ({ cls := "TrackArray", name := "spectrum", desc := "(IIII)J" } : Jvm.MethodName) prog_1_method_56_code (5 : Nat) (Option.some Jvm.ClassFile.FieldType.long)) ∈ lw_all := lw_g (lw_at lw_m8 5 rfl) rfl
theorem q1772 : (Jvm.Cond.instanceMethod ({ cls := "TrackArray", name := "meanPower", desc := "(II)D" } : Jvm.MethodName)) ∈ lw_all := lw_g (lw_at lw_m8 10 rfl) rfl
theorem q1773 : (Jvm.Cond.selects "TrackArray" ({ cls := "TrackArray", name := "meanPower", desc := "(II)D" } : Jvm.MethodName) ({ cls := "TrackArray", name := "meanPower", desc := "(II)D" } : Jvm.MethodName)) ∈ lw_all := lw_g (lw_at lw_m8 11 rfl) rfl
theorem q1774 : (Jvm.Cond.code ({ cls := "TrackArray", name := "meanPower", desc := "(II)D" } : Jvm.MethodName) prog_1_method_58_code (3 : Nat) (Option.some Jvm.ClassFile.FieldType.double)) ∈ lw_all := lw_g (lw_at lw_m8 12 rfl) rfl
theorem q1775 : (Jvm.Cond.methodLink "TrackArray" (339 : Nat) ({ cls := "TrackArray", name := "mean", desc := "(LTrackArray$Signal;II)D" } : Jvm.MethodName)) ∈ lw_all := lw_g (lw_at lw_m8 13 rfl) rfl
theorem q1776 : (Jvm.Cond.static ({ cls := "TrackArray", name := "mean", desc := "(LTrackArray$Signal;II)D" } : Jvm.MethodName)) ∈ lw_all := lw_g (lw_at lw_m8 14 rfl) rfl
theorem q1777 : (Jvm.Cond.code ({ cls := "TrackArray", name := "mean", desc := "(LTrackArray$Signal;II)D" } : Jvm.MethodName) prog_1_method_57_code (3 : Nat) (Option.some Jvm.ClassFile.FieldType.double)) ∈ lw_all := lw_g (lw_at lw_m8 15 rfl) rfl
theorem q1782 : (Jvm.Cond.instanceMethod ({ cls := "TrackArray", name := "crest", desc := "(II)F" } : Jvm.MethodName)) ∈ lw_all := lw_g (lw_at lw_m8 20 rfl) rfl
theorem q1783 : (Jvm.Cond.selects "TrackArray" ({ cls := "TrackArray", name := "crest", desc := "(II)F" } : Jvm.MethodName) ({ cls := "TrackArray", name := "crest", desc := "(II)F" } : Jvm.MethodName)) ∈ lw_all := lw_g (lw_at lw_m8 21 rfl) rfl
theorem q1784 : (Jvm.Cond.code ({ cls := "TrackArray", name := "crest", desc := "(II)F" } : Jvm.MethodName) prog_1_method_59_code (8 : Nat) (Option.some Jvm.ClassFile.FieldType.float)) ∈ lw_all := lw_g (lw_at lw_m8 22 rfl) rfl
theorem q1785 : (Jvm.Cond.fieldLink "TrackArray" (343 : Nat) "TrackArray$Measure" "PEAK" "LTrackArray$Measure;") ∈ lw_all := lw_g (lw_at lw_m8 23 rfl) rfl
theorem q1791 : (Jvm.Cond.instanceMethod ({ cls := "TrackArray", name := "appendText", desc := "(I)I" } : Jvm.MethodName)) ∈ lw_all := lw_g (lw_at lw_m8 29 rfl) rfl
theorem q1792 : (Jvm.Cond.selects "TrackArray" ({ cls := "TrackArray", name := "appendText", desc := "(I)I" } : Jvm.MethodName) ({ cls := "TrackArray", name := "appendText", desc := "(I)I" } : Jvm.MethodName)) ∈ lw_all := lw_g (lw_at lw_m8 30 rfl) rfl
theorem q1793 : (Jvm.Cond.code ({ cls := "TrackArray", name := "appendText", desc := "(I)I" } : Jvm.MethodName) prog_1_method_60_code (3 : Nat) (Option.some Jvm.ClassFile.FieldType.int)) ∈ lw_all := lw_g (lw_at lw_m8 31 rfl) rfl
theorem q1798 : (Jvm.Cond.instanceMethod ({ cls := "TrackArray", name := "truncateText", desc := "(I)I" } : Jvm.MethodName)) ∈ lw_all := lw_g (lw_at lw_m8 36 rfl) rfl
theorem q1799 : (Jvm.Cond.selects "TrackArray" ({ cls := "TrackArray", name := "truncateText", desc := "(I)I" } : Jvm.MethodName) ({ cls := "TrackArray", name := "truncateText", desc := "(I)I" } : Jvm.MethodName)) ∈ lw_all := lw_g (lw_at lw_m8 37 rfl) rfl
theorem q1800 : (Jvm.Cond.code ({ cls := "TrackArray", name := "truncateText", desc := "(I)I" } : Jvm.MethodName) prog_1_method_61_code (2 : Nat) (Option.some Jvm.ClassFile.FieldType.int)) ∈ lw_all := lw_g (lw_at lw_m8 38 rfl) rfl
theorem q1805 : (Jvm.Cond.instanceMethod ({ cls := "TrackArray", name := "save", desc := "(I)V" } : Jvm.MethodName)) ∈ lw_all := lw_g (lw_at lw_m8 43 rfl) rfl
theorem q1806 : (Jvm.Cond.selects "TrackArray" ({ cls := "TrackArray", name := "save", desc := "(I)V" } : Jvm.MethodName) ({ cls := "TrackArray", name := "save", desc := "(I)V" } : Jvm.MethodName)) ∈ lw_all := lw_g (lw_at lw_m8 44 rfl) rfl
theorem q1807 : (Jvm.Cond.code ({ cls := "TrackArray", name := "save", desc := "(I)V" } : Jvm.MethodName) prog_1_method_66_code (2 : Nat) (Option.none : Option Jvm.ClassFile.FieldType)) ∈ lw_all := lw_g (lw_at lw_m8 45 rfl) rfl
theorem q1808 : (Jvm.Cond.methodLink "TrackArray" (381 : Nat) ({ cls := "TrackArray$Track", name := "copy", desc := "()LTrackArray$Track;" } : Jvm.MethodName)) ∈ lw_all := lw_g (lw_at lw_m8 46 rfl) rfl
theorem q1851 : (Jvm.Cond.instanceMethod ({ cls := "TrackArray", name := "restore", desc := "(I)V" } : Jvm.MethodName)) ∈ lw_all := lw_g (lw_at lw_m8 89 rfl) rfl
theorem q1852 : (Jvm.Cond.selects "TrackArray" ({ cls := "TrackArray", name := "restore", desc := "(I)V" } : Jvm.MethodName) ({ cls := "TrackArray", name := "restore", desc := "(I)V" } : Jvm.MethodName)) ∈ lw_all := lw_g (lw_at lw_m8 90 rfl) rfl
theorem q1853 : (Jvm.Cond.code ({ cls := "TrackArray", name := "restore", desc := "(I)V" } : Jvm.MethodName) prog_1_method_67_code (2 : Nat) (Option.none : Option Jvm.ClassFile.FieldType)) ∈ lw_all := lw_g (lw_at lw_m8 91 rfl) rfl
theorem q2427 : (Jvm.Cond.castable "TrackArray" "java/lang/Object") ∈ lw_tbl := lw_at lw_m10 185 rfl
theorem in_X1 : ∀ w ∈ wsX10, w ∈ lw_all := lw_in wsX10 [577, 579, 581, 583, 585, 587] (by decide +kernel) (by decide +kernel)
