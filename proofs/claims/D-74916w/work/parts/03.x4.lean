/-! TrackArrayModel -/
set_option maxRecDepth 100000
def RX4 : String := "TrackArrayModel"
def TX4 : u_T := fun k => match k with
  | 0 => ("TrackArrayModel", "state", "[I", true)
  | 1 => ("TrackArrayModel", "backup", "[I", true)
  | 2 => ("TrackArrayModel", "saved", "[I", true)
  | 3 => ("TrackArrayModel", "isSaved", "[Z", true)
  | 4 => ("TrackArrayModel", "thrown", "I", false)
  | 5 => ("TrackArrayModel", "distances", "[I", true)
  | 6 => ("TrackArrayModel", "reflections", "[I", true)
  | 7 => ("TrackArrayModel", "signal", "[I", true)
  | 8 => ("TrackArrayModel", "parts", "[I", true)
  | 9 => ("TrackArrayModel", "folded", "[J", true)
  | 10 => ("TrackArrayModel", "text", "[I", true)
  | 11 => ("TrackArrayModel", "textLength", "I", false)
  | 12 => ("TrackArrayModel", "position", "I", false)
  | 13 => ("TrackArrayModel", "tokenStart", "I", false)
  | 14 => ("TrackArrayModel", "token", "I", false)
  | 15 => ("TrackArrayModel", "letters", "I", false)
  | 16 => ("TrackArrayModel", "number", "I", false)
  | 17 => ("TrackArrayModel", "errorCode", "I", false)
  | 18 => ("TrackArrayModel", "errorPosition", "I", false)
  | _ => ("TrackArrayModel", "word", "J", false)
def tyX4 : Nat → FieldType := fun k => match k with
  | 0 => .array .int
  | 1 => .array .int
  | 2 => .array .int
  | 3 => .array .boolean
  | 4 => .int
  | 5 => .array .int
  | 6 => .array .int
  | 7 => .array .int
  | 8 => .array .int
  | 9 => .array .long
  | 10 => .array .int
  | 11 => .int
  | 12 => .int
  | 13 => .int
  | 14 => .int
  | 15 => .int
  | 16 => .int
  | 17 => .int
  | 18 => .int
  | _ => .long
abbrev wsX40 : List Cond := u_ws RX4 TX4 20
set_option maxRecDepth 100000 in
theorem nmX4 : ∀ a, a < 20 → ∀ b, b < 20 → a ≠ b → (TX4 a).2.1 ≠ (TX4 b).2.1 := by decide +kernel
set_option maxRecDepth 100000 in
theorem tyX4_ok : ∀ k, k < 20 → parseFieldDescriptor (TX4 k).2.2.1 = some (tyX4 k) := by decide +kernel
abbrev cX4_init : ByteArray := prog_25_method_1_code
def yX4_init : MethodName := ⟨RX4, "<init>", "()V"⟩
def dkwX4_init_4 : List UInt8 := [181, 0, 42, 42, 182, 0, 46, 177]
abbrev dktX4_init_4 : List UInt8 := dkwX4_init_4 ++ []
def dkwX4_init_3 : List UInt8 := [181, 0, 32, 42, 16, 64, 188, 11, 181, 0, 35, 42, 17, 1, 244, 188, 10, 181, 0, 39, 42, 2]
abbrev dktX4_init_3 : List UInt8 := dkwX4_init_3 ++ dktX4_init_4
def dkwX4_init_2 : List UInt8 := [42, 17, 1, 0, 188, 10, 181, 0, 26, 42, 17, 1, 0, 188, 10, 181, 0, 29, 42, 17, 1, 0, 188, 10]
abbrev dktX4_init_2 : List UInt8 := dkwX4_init_2 ++ dktX4_init_3
def dkwX4_init_1 : List UInt8 := [17, 17, 116, 188, 10, 181, 0, 16, 42, 5, 188, 4, 181, 0, 19, 42, 17, 1, 0, 188, 10, 181, 0, 23]
abbrev dktX4_init_1 : List UInt8 := dkwX4_init_1 ++ dktX4_init_2
def dkwX4_init_0 : List UInt8 := [42, 183, 0, 1, 42, 17, 8, 186, 188, 10, 181, 0, 7, 42, 17, 8, 186, 188, 10, 181, 0, 13, 42]
abbrev dktX4_init_0 : List UInt8 := dkwX4_init_0 ++ dktX4_init_1
theorem dksX4_init_0 : cX4_init.data.toList.drop 0 = dktX4_init_0 := by decide +kernel
theorem dksX4_init_1 : cX4_init.data.toList.drop 23 = dktX4_init_1 := dk_seg dksX4_init_0 23 rfl rfl
theorem dksX4_init_2 : cX4_init.data.toList.drop 47 = dktX4_init_2 := dk_seg dksX4_init_1 24 rfl rfl
theorem dksX4_init_3 : cX4_init.data.toList.drop 71 = dktX4_init_3 := dk_seg dksX4_init_2 24 rfl rfl
theorem dksX4_init_4 : cX4_init.data.toList.drop 93 = dktX4_init_4 := dk_seg dksX4_init_3 22 rfl rfl
theorem dX4_init_0 : decode cX4_init 0 = .ok (.aload_n 0, 1) := dk_42 (dk_at dksX4_init_0 0 rfl rfl)
theorem dX4_init_1 : decode cX4_init 1 = .ok (.invokespecial 1, 3) := dk_183 0 1 (dk_at dksX4_init_0 1 rfl rfl)
theorem dX4_init_4 : decode cX4_init 4 = .ok (.aload_n 0, 1) := dk_42 (dk_at dksX4_init_0 4 rfl rfl)
theorem dX4_init_5 : decode cX4_init 5 = .ok (.sipush 2234, 3) := dk_17 8 186 (dk_at dksX4_init_0 5 rfl rfl)
theorem dX4_init_8 : decode cX4_init 8 = .ok (.newarray .int, 2) := dk_188_10 (dk_at dksX4_init_0 8 rfl rfl)
theorem dX4_init_10 : decode cX4_init 10 = .ok (.putfield 7, 3) := dk_181 0 7 (dk_at dksX4_init_0 10 rfl rfl)
theorem dX4_init_13 : decode cX4_init 13 = .ok (.aload_n 0, 1) := dk_42 (dk_at dksX4_init_0 13 rfl rfl)
theorem dX4_init_14 : decode cX4_init 14 = .ok (.sipush 2234, 3) := dk_17 8 186 (dk_at dksX4_init_0 14 rfl rfl)
theorem dX4_init_17 : decode cX4_init 17 = .ok (.newarray .int, 2) := dk_188_10 (dk_at dksX4_init_0 17 rfl rfl)
theorem dX4_init_19 : decode cX4_init 19 = .ok (.putfield 13, 3) := dk_181 0 13 (dk_at dksX4_init_0 19 rfl rfl)
theorem dX4_init_22 : decode cX4_init 22 = .ok (.aload_n 0, 1) := dk_42 (dk_at dksX4_init_0 22 rfl rfl)
theorem dX4_init_23 : decode cX4_init 23 = .ok (.sipush 4468, 3) := dk_17 17 116 (dk_at dksX4_init_1 0 rfl rfl)
theorem dX4_init_26 : decode cX4_init 26 = .ok (.newarray .int, 2) := dk_188_10 (dk_at dksX4_init_1 3 rfl rfl)
theorem dX4_init_28 : decode cX4_init 28 = .ok (.putfield 16, 3) := dk_181 0 16 (dk_at dksX4_init_1 5 rfl rfl)
theorem dX4_init_31 : decode cX4_init 31 = .ok (.aload_n 0, 1) := dk_42 (dk_at dksX4_init_1 8 rfl rfl)
theorem dX4_init_32 : decode cX4_init 32 = .ok (.iconst 2, 1) := dk_5 (dk_at dksX4_init_1 9 rfl rfl)
theorem dX4_init_33 : decode cX4_init 33 = .ok (.newarray .boolean, 2) := dk_188_4 (dk_at dksX4_init_1 10 rfl rfl)
theorem dX4_init_35 : decode cX4_init 35 = .ok (.putfield 19, 3) := dk_181 0 19 (dk_at dksX4_init_1 12 rfl rfl)
theorem dX4_init_38 : decode cX4_init 38 = .ok (.aload_n 0, 1) := dk_42 (dk_at dksX4_init_1 15 rfl rfl)
theorem dX4_init_39 : decode cX4_init 39 = .ok (.sipush 256, 3) := dk_17 1 0 (dk_at dksX4_init_1 16 rfl rfl)
theorem dX4_init_42 : decode cX4_init 42 = .ok (.newarray .int, 2) := dk_188_10 (dk_at dksX4_init_1 19 rfl rfl)
theorem dX4_init_44 : decode cX4_init 44 = .ok (.putfield 23, 3) := dk_181 0 23 (dk_at dksX4_init_1 21 rfl rfl)
theorem dX4_init_47 : decode cX4_init 47 = .ok (.aload_n 0, 1) := dk_42 (dk_at dksX4_init_2 0 rfl rfl)
theorem dX4_init_48 : decode cX4_init 48 = .ok (.sipush 256, 3) := dk_17 1 0 (dk_at dksX4_init_2 1 rfl rfl)
theorem dX4_init_51 : decode cX4_init 51 = .ok (.newarray .int, 2) := dk_188_10 (dk_at dksX4_init_2 4 rfl rfl)
theorem dX4_init_53 : decode cX4_init 53 = .ok (.putfield 26, 3) := dk_181 0 26 (dk_at dksX4_init_2 6 rfl rfl)
theorem dX4_init_56 : decode cX4_init 56 = .ok (.aload_n 0, 1) := dk_42 (dk_at dksX4_init_2 9 rfl rfl)
theorem dX4_init_57 : decode cX4_init 57 = .ok (.sipush 256, 3) := dk_17 1 0 (dk_at dksX4_init_2 10 rfl rfl)
theorem dX4_init_60 : decode cX4_init 60 = .ok (.newarray .int, 2) := dk_188_10 (dk_at dksX4_init_2 13 rfl rfl)
theorem dX4_init_62 : decode cX4_init 62 = .ok (.putfield 29, 3) := dk_181 0 29 (dk_at dksX4_init_2 15 rfl rfl)
theorem dX4_init_65 : decode cX4_init 65 = .ok (.aload_n 0, 1) := dk_42 (dk_at dksX4_init_2 18 rfl rfl)
theorem dX4_init_66 : decode cX4_init 66 = .ok (.sipush 256, 3) := dk_17 1 0 (dk_at dksX4_init_2 19 rfl rfl)
theorem dX4_init_69 : decode cX4_init 69 = .ok (.newarray .int, 2) := dk_188_10 (dk_at dksX4_init_2 22 rfl rfl)
theorem dX4_init_71 : decode cX4_init 71 = .ok (.putfield 32, 3) := dk_181 0 32 (dk_at dksX4_init_3 0 rfl rfl)
theorem dX4_init_74 : decode cX4_init 74 = .ok (.aload_n 0, 1) := dk_42 (dk_at dksX4_init_3 3 rfl rfl)
theorem dX4_init_75 : decode cX4_init 75 = .ok (.bipush 64, 2) := dk_16 64 (dk_at dksX4_init_3 4 rfl rfl)
theorem dX4_init_77 : decode cX4_init 77 = .ok (.newarray .long, 2) := dk_188_11 (dk_at dksX4_init_3 6 rfl rfl)
theorem dX4_init_79 : decode cX4_init 79 = .ok (.putfield 35, 3) := dk_181 0 35 (dk_at dksX4_init_3 8 rfl rfl)
theorem dX4_init_82 : decode cX4_init 82 = .ok (.aload_n 0, 1) := dk_42 (dk_at dksX4_init_3 11 rfl rfl)
theorem dX4_init_83 : decode cX4_init 83 = .ok (.sipush 500, 3) := dk_17 1 244 (dk_at dksX4_init_3 12 rfl rfl)
theorem dX4_init_86 : decode cX4_init 86 = .ok (.newarray .int, 2) := dk_188_10 (dk_at dksX4_init_3 15 rfl rfl)
theorem dX4_init_88 : decode cX4_init 88 = .ok (.putfield 39, 3) := dk_181 0 39 (dk_at dksX4_init_3 17 rfl rfl)
theorem dX4_init_91 : decode cX4_init 91 = .ok (.aload_n 0, 1) := dk_42 (dk_at dksX4_init_3 20 rfl rfl)
theorem dX4_init_92 : decode cX4_init 92 = .ok (.iconst (-1), 1) := dk_2 (dk_at dksX4_init_3 21 rfl rfl)
theorem dX4_init_93 : decode cX4_init 93 = .ok (.putfield 42, 3) := dk_181 0 42 (dk_at dksX4_init_4 0 rfl rfl)
theorem dX4_init_96 : decode cX4_init 96 = .ok (.aload_n 0, 1) := dk_42 (dk_at dksX4_init_4 3 rfl rfl)
theorem dX4_init_97 : decode cX4_init 97 = .ok (.invokevirtual 46, 3) := dk_182 0 46 (dk_at dksX4_init_4 4 rfl rfl)
theorem dX4_init_100 : decode cX4_init 100 = .ok (.return_, 1) := dk_177 (dk_at dksX4_init_4 7 rfl rfl)
abbrev cX4_clear : ByteArray := prog_25_method_5_code
def yX4_clear : MethodName := ⟨RX4, "clear", "()V"⟩
def dkwX4_clear_2 : List UInt8 := [180, 0, 7, 16, 13, 16, 100, 79, 177]
abbrev dktX4_clear_2 : List UInt8 := dkwX4_clear_2 ++ []
def dkwX4_clear_1 : List UInt8 := [180, 0, 7, 3, 17, 1, 84, 79, 42, 180, 0, 7, 6, 4, 79, 42, 180, 0, 7, 16, 10, 4, 79, 42]
abbrev dktX4_clear_1 : List UInt8 := dkwX4_clear_1 ++ dktX4_clear_2
def dkwX4_clear_0 : List UInt8 := [3, 60, 27, 17, 8, 186, 162, 0, 16, 42, 180, 0, 7, 27, 3, 79, 132, 1, 1, 167, 255, 239, 42]
abbrev dktX4_clear_0 : List UInt8 := dkwX4_clear_0 ++ dktX4_clear_1
theorem dksX4_clear_0 : cX4_clear.data.toList.drop 0 = dktX4_clear_0 := by decide +kernel
theorem dksX4_clear_1 : cX4_clear.data.toList.drop 23 = dktX4_clear_1 := dk_seg dksX4_clear_0 23 rfl rfl
theorem dksX4_clear_2 : cX4_clear.data.toList.drop 47 = dktX4_clear_2 := dk_seg dksX4_clear_1 24 rfl rfl
theorem dX4_clear_0 : decode cX4_clear 0 = .ok (.iconst 0, 1) := dk_3 (dk_at dksX4_clear_0 0 rfl rfl)
theorem dX4_clear_1 : decode cX4_clear 1 = .ok (.istore_n 1, 1) := dk_60 (dk_at dksX4_clear_0 1 rfl rfl)
theorem dX4_clear_2 : decode cX4_clear 2 = .ok (.iload_n 1, 1) := dk_27 (dk_at dksX4_clear_0 2 rfl rfl)
theorem dX4_clear_3 : decode cX4_clear 3 = .ok (.sipush 2234, 3) := dk_17 8 186 (dk_at dksX4_clear_0 3 rfl rfl)
theorem dX4_clear_6 : decode cX4_clear 6 = .ok (.if_icmp .ge 16, 3) := dk_162 0 16 (dk_at dksX4_clear_0 6 rfl rfl)
theorem dX4_clear_9 : decode cX4_clear 9 = .ok (.aload_n 0, 1) := dk_42 (dk_at dksX4_clear_0 9 rfl rfl)
theorem dX4_clear_10 : decode cX4_clear 10 = .ok (.getfield 7, 3) := dk_180 0 7 (dk_at dksX4_clear_0 10 rfl rfl)
theorem dX4_clear_13 : decode cX4_clear 13 = .ok (.iload_n 1, 1) := dk_27 (dk_at dksX4_clear_0 13 rfl rfl)
theorem dX4_clear_14 : decode cX4_clear 14 = .ok (.iconst 0, 1) := dk_3 (dk_at dksX4_clear_0 14 rfl rfl)
theorem dX4_clear_15 : decode cX4_clear 15 = .ok (.iastore, 1) := dk_79 (dk_at dksX4_clear_0 15 rfl rfl)
theorem dX4_clear_16 : decode cX4_clear 16 = .ok (.iinc 1 1, 3) := dk_132 1 1 (dk_at dksX4_clear_0 16 rfl rfl)
theorem dX4_clear_19 : decode cX4_clear 19 = .ok (.goto (-17), 3) := dk_167 255 239 (dk_at dksX4_clear_0 19 rfl rfl)
theorem dX4_clear_22 : decode cX4_clear 22 = .ok (.aload_n 0, 1) := dk_42 (dk_at dksX4_clear_0 22 rfl rfl)
theorem dX4_clear_23 : decode cX4_clear 23 = .ok (.getfield 7, 3) := dk_180 0 7 (dk_at dksX4_clear_1 0 rfl rfl)
theorem dX4_clear_26 : decode cX4_clear 26 = .ok (.iconst 0, 1) := dk_3 (dk_at dksX4_clear_1 3 rfl rfl)
theorem dX4_clear_27 : decode cX4_clear 27 = .ok (.sipush 340, 3) := dk_17 1 84 (dk_at dksX4_clear_1 4 rfl rfl)
theorem dX4_clear_30 : decode cX4_clear 30 = .ok (.iastore, 1) := dk_79 (dk_at dksX4_clear_1 7 rfl rfl)
theorem dX4_clear_31 : decode cX4_clear 31 = .ok (.aload_n 0, 1) := dk_42 (dk_at dksX4_clear_1 8 rfl rfl)
theorem dX4_clear_32 : decode cX4_clear 32 = .ok (.getfield 7, 3) := dk_180 0 7 (dk_at dksX4_clear_1 9 rfl rfl)
theorem dX4_clear_35 : decode cX4_clear 35 = .ok (.iconst 3, 1) := dk_6 (dk_at dksX4_clear_1 12 rfl rfl)
theorem dX4_clear_36 : decode cX4_clear 36 = .ok (.iconst 1, 1) := dk_4 (dk_at dksX4_clear_1 13 rfl rfl)
theorem dX4_clear_37 : decode cX4_clear 37 = .ok (.iastore, 1) := dk_79 (dk_at dksX4_clear_1 14 rfl rfl)
theorem dX4_clear_38 : decode cX4_clear 38 = .ok (.aload_n 0, 1) := dk_42 (dk_at dksX4_clear_1 15 rfl rfl)
theorem dX4_clear_39 : decode cX4_clear 39 = .ok (.getfield 7, 3) := dk_180 0 7 (dk_at dksX4_clear_1 16 rfl rfl)
theorem dX4_clear_42 : decode cX4_clear 42 = .ok (.bipush 10, 2) := dk_16 10 (dk_at dksX4_clear_1 19 rfl rfl)
theorem dX4_clear_44 : decode cX4_clear 44 = .ok (.iconst 1, 1) := dk_4 (dk_at dksX4_clear_1 21 rfl rfl)
theorem dX4_clear_45 : decode cX4_clear 45 = .ok (.iastore, 1) := dk_79 (dk_at dksX4_clear_1 22 rfl rfl)
theorem dX4_clear_46 : decode cX4_clear 46 = .ok (.aload_n 0, 1) := dk_42 (dk_at dksX4_clear_1 23 rfl rfl)
theorem dX4_clear_47 : decode cX4_clear 47 = .ok (.getfield 7, 3) := dk_180 0 7 (dk_at dksX4_clear_2 0 rfl rfl)
theorem dX4_clear_50 : decode cX4_clear 50 = .ok (.bipush 13, 2) := dk_16 13 (dk_at dksX4_clear_2 3 rfl rfl)
theorem dX4_clear_52 : decode cX4_clear 52 = .ok (.bipush 100, 2) := dk_16 100 (dk_at dksX4_clear_2 5 rfl rfl)
theorem dX4_clear_54 : decode cX4_clear 54 = .ok (.iastore, 1) := dk_79 (dk_at dksX4_clear_2 7 rfl rfl)
theorem dX4_clear_55 : decode cX4_clear 55 = .ok (.return_, 1) := dk_177 (dk_at dksX4_clear_2 8 rfl rfl)
abbrev cX4_thrown : ByteArray := prog_25_method_2_code
def yX4_thrown : MethodName := ⟨RX4, "thrown", "()I"⟩
theorem dX4_thrown_0 : decode cX4_thrown 0 = .ok (.aload_n 0, 1) := by decide +kernel
theorem dX4_thrown_1 : decode cX4_thrown 1 = .ok (.getfield 49, 3) := by decide +kernel
theorem dX4_thrown_4 : decode cX4_thrown 4 = .ok (.ireturn, 1) := by decide +kernel
abbrev cX4_setSound : ByteArray := prog_25_method_16_code
def yX4_setSound : MethodName := ⟨RX4, "setSound", "(I)I"⟩
def dkwX4_setSound_1 : List UInt8 := [167, 0, 8, 42, 4, 182, 0, 64, 172]
abbrev dktX4_setSound_1 : List UInt8 := dkwX4_setSound_1 ++ []
def dkwX4_setSound_0 : List UInt8 := [42, 3, 181, 0, 49, 27, 16, 100, 17, 3, 232, 184, 0, 52, 153, 0, 12, 42, 3, 27, 182, 0, 60]
abbrev dktX4_setSound_0 : List UInt8 := dkwX4_setSound_0 ++ dktX4_setSound_1
theorem dksX4_setSound_0 : cX4_setSound.data.toList.drop 0 = dktX4_setSound_0 := by decide +kernel
theorem dksX4_setSound_1 : cX4_setSound.data.toList.drop 23 = dktX4_setSound_1 := dk_seg dksX4_setSound_0 23 rfl rfl
theorem dX4_setSound_0 : decode cX4_setSound 0 = .ok (.aload_n 0, 1) := dk_42 (dk_at dksX4_setSound_0 0 rfl rfl)
theorem dX4_setSound_1 : decode cX4_setSound 1 = .ok (.iconst 0, 1) := dk_3 (dk_at dksX4_setSound_0 1 rfl rfl)
theorem dX4_setSound_2 : decode cX4_setSound 2 = .ok (.putfield 49, 3) := dk_181 0 49 (dk_at dksX4_setSound_0 2 rfl rfl)
theorem dX4_setSound_5 : decode cX4_setSound 5 = .ok (.iload_n 1, 1) := dk_27 (dk_at dksX4_setSound_0 5 rfl rfl)
theorem dX4_setSound_6 : decode cX4_setSound 6 = .ok (.bipush 100, 2) := dk_16 100 (dk_at dksX4_setSound_0 6 rfl rfl)
theorem dX4_setSound_8 : decode cX4_setSound 8 = .ok (.sipush 1000, 3) := dk_17 3 232 (dk_at dksX4_setSound_0 8 rfl rfl)
theorem dX4_setSound_11 : decode cX4_setSound 11 = .ok (.invokestatic 52, 3) := dk_184 0 52 (dk_at dksX4_setSound_0 11 rfl rfl)
theorem dX4_setSound_14 : decode cX4_setSound 14 = .ok (.ifCond .eq 12, 3) := dk_153 0 12 (dk_at dksX4_setSound_0 14 rfl rfl)
theorem dX4_setSound_17 : decode cX4_setSound 17 = .ok (.aload_n 0, 1) := dk_42 (dk_at dksX4_setSound_0 17 rfl rfl)
theorem dX4_setSound_18 : decode cX4_setSound 18 = .ok (.iconst 0, 1) := dk_3 (dk_at dksX4_setSound_0 18 rfl rfl)
theorem dX4_setSound_19 : decode cX4_setSound 19 = .ok (.iload_n 1, 1) := dk_27 (dk_at dksX4_setSound_0 19 rfl rfl)
theorem dX4_setSound_20 : decode cX4_setSound 20 = .ok (.invokevirtual 60, 3) := dk_182 0 60 (dk_at dksX4_setSound_0 20 rfl rfl)
theorem dX4_setSound_23 : decode cX4_setSound 23 = .ok (.goto 8, 3) := dk_167 0 8 (dk_at dksX4_setSound_1 0 rfl rfl)
theorem dX4_setSound_26 : decode cX4_setSound 26 = .ok (.aload_n 0, 1) := dk_42 (dk_at dksX4_setSound_1 3 rfl rfl)
theorem dX4_setSound_27 : decode cX4_setSound 27 = .ok (.iconst 1, 1) := dk_4 (dk_at dksX4_setSound_1 4 rfl rfl)
theorem dX4_setSound_28 : decode cX4_setSound 28 = .ok (.invokevirtual 64, 3) := dk_182 0 64 (dk_at dksX4_setSound_1 5 rfl rfl)
theorem dX4_setSound_31 : decode cX4_setSound 31 = .ok (.ireturn, 1) := dk_172 (dk_at dksX4_setSound_1 8 rfl rfl)
abbrev cX4_isBetween : ByteArray := prog_25_method_4_code
def yX4_isBetween : MethodName := ⟨RX4, "isBetween", "(III)Z"⟩
def dkwX4_isBetween_0 : List UInt8 := [26, 27, 161, 0, 12, 26, 28, 163, 0, 7, 4, 167, 0, 4, 3, 172]
abbrev dktX4_isBetween_0 : List UInt8 := dkwX4_isBetween_0 ++ []
theorem dksX4_isBetween_0 : cX4_isBetween.data.toList.drop 0 = dktX4_isBetween_0 := by decide +kernel
theorem dX4_isBetween_0 : decode cX4_isBetween 0 = .ok (.iload_n 0, 1) := dk_26 (dk_at dksX4_isBetween_0 0 rfl rfl)
theorem dX4_isBetween_1 : decode cX4_isBetween 1 = .ok (.iload_n 1, 1) := dk_27 (dk_at dksX4_isBetween_0 1 rfl rfl)
theorem dX4_isBetween_2 : decode cX4_isBetween 2 = .ok (.if_icmp .lt 12, 3) := dk_161 0 12 (dk_at dksX4_isBetween_0 2 rfl rfl)
theorem dX4_isBetween_5 : decode cX4_isBetween 5 = .ok (.iload_n 0, 1) := dk_26 (dk_at dksX4_isBetween_0 5 rfl rfl)
theorem dX4_isBetween_6 : decode cX4_isBetween 6 = .ok (.iload_n 2, 1) := dk_28 (dk_at dksX4_isBetween_0 6 rfl rfl)
theorem dX4_isBetween_7 : decode cX4_isBetween 7 = .ok (.if_icmp .gt 7, 3) := dk_163 0 7 (dk_at dksX4_isBetween_0 7 rfl rfl)
theorem dX4_isBetween_10 : decode cX4_isBetween 10 = .ok (.iconst 1, 1) := dk_4 (dk_at dksX4_isBetween_0 10 rfl rfl)
theorem dX4_isBetween_11 : decode cX4_isBetween 11 = .ok (.goto 4, 3) := dk_167 0 4 (dk_at dksX4_isBetween_0 11 rfl rfl)
theorem dX4_isBetween_14 : decode cX4_isBetween 14 = .ok (.iconst 0, 1) := dk_3 (dk_at dksX4_isBetween_0 14 rfl rfl)
theorem dX4_isBetween_15 : decode cX4_isBetween 15 = .ok (.ireturn, 1) := dk_172 (dk_at dksX4_isBetween_0 15 rfl rfl)
abbrev cX4_replace : ByteArray := prog_25_method_15_code
def yX4_replace : MethodName := ⟨RX4, "replace", "(II)I"⟩
def dkwX4_replace_0 : List UInt8 := [42, 180, 0, 7, 27, 46, 62, 42, 180, 0, 7, 27, 28, 79, 29, 172]
abbrev dktX4_replace_0 : List UInt8 := dkwX4_replace_0 ++ []
theorem dksX4_replace_0 : cX4_replace.data.toList.drop 0 = dktX4_replace_0 := by decide +kernel
theorem dX4_replace_0 : decode cX4_replace 0 = .ok (.aload_n 0, 1) := dk_42 (dk_at dksX4_replace_0 0 rfl rfl)
theorem dX4_replace_1 : decode cX4_replace 1 = .ok (.getfield 7, 3) := dk_180 0 7 (dk_at dksX4_replace_0 1 rfl rfl)
theorem dX4_replace_4 : decode cX4_replace 4 = .ok (.iload_n 1, 1) := dk_27 (dk_at dksX4_replace_0 4 rfl rfl)
theorem dX4_replace_5 : decode cX4_replace 5 = .ok (.iaload, 1) := dk_46 (dk_at dksX4_replace_0 5 rfl rfl)
theorem dX4_replace_6 : decode cX4_replace 6 = .ok (.istore_n 3, 1) := dk_62 (dk_at dksX4_replace_0 6 rfl rfl)
theorem dX4_replace_7 : decode cX4_replace 7 = .ok (.aload_n 0, 1) := dk_42 (dk_at dksX4_replace_0 7 rfl rfl)
theorem dX4_replace_8 : decode cX4_replace 8 = .ok (.getfield 7, 3) := dk_180 0 7 (dk_at dksX4_replace_0 8 rfl rfl)
theorem dX4_replace_11 : decode cX4_replace 11 = .ok (.iload_n 1, 1) := dk_27 (dk_at dksX4_replace_0 11 rfl rfl)
theorem dX4_replace_12 : decode cX4_replace 12 = .ok (.iload_n 2, 1) := dk_28 (dk_at dksX4_replace_0 12 rfl rfl)
theorem dX4_replace_13 : decode cX4_replace 13 = .ok (.iastore, 1) := dk_79 (dk_at dksX4_replace_0 13 rfl rfl)
theorem dX4_replace_14 : decode cX4_replace 14 = .ok (.iload_n 3, 1) := dk_29 (dk_at dksX4_replace_0 14 rfl rfl)
theorem dX4_replace_15 : decode cX4_replace 15 = .ok (.ireturn, 1) := dk_172 (dk_at dksX4_replace_0 15 rfl rfl)
abbrev cX4_fail : ByteArray := prog_25_method_3_code
def yX4_fail : MethodName := ⟨RX4, "fail", "(I)I"⟩
def dkwX4_fail_0 : List UInt8 := [42, 27, 181, 0, 49, 3, 172]
abbrev dktX4_fail_0 : List UInt8 := dkwX4_fail_0 ++ []
theorem dksX4_fail_0 : cX4_fail.data.toList.drop 0 = dktX4_fail_0 := by decide +kernel
theorem dX4_fail_0 : decode cX4_fail 0 = .ok (.aload_n 0, 1) := dk_42 (dk_at dksX4_fail_0 0 rfl rfl)
theorem dX4_fail_1 : decode cX4_fail 1 = .ok (.iload_n 1, 1) := dk_27 (dk_at dksX4_fail_0 1 rfl rfl)
theorem dX4_fail_2 : decode cX4_fail 2 = .ok (.putfield 49, 3) := dk_181 0 49 (dk_at dksX4_fail_0 2 rfl rfl)
theorem dX4_fail_5 : decode cX4_fail 5 = .ok (.iconst 0, 1) := dk_3 (dk_at dksX4_fail_0 5 rfl rfl)
theorem dX4_fail_6 : decode cX4_fail 6 = .ok (.ireturn, 1) := dk_172 (dk_at dksX4_fail_0 6 rfl rfl)
abbrev cX4_setGround : ByteArray := prog_25_method_17_code
def yX4_setGround : MethodName := ⟨RX4, "setGround", "(I)I"⟩
def dkwX4_setGround_1 : List UInt8 := [167, 0, 8, 42, 4, 182, 0, 64, 172]
abbrev dktX4_setGround_1 : List UInt8 := dkwX4_setGround_1 ++ []
def dkwX4_setGround_0 : List UInt8 := [42, 3, 181, 0, 49, 27, 16, 166, 16, 90, 184, 0, 52, 153, 0, 12, 42, 4, 27, 182, 0, 60]
abbrev dktX4_setGround_0 : List UInt8 := dkwX4_setGround_0 ++ dktX4_setGround_1
theorem dksX4_setGround_0 : cX4_setGround.data.toList.drop 0 = dktX4_setGround_0 := by decide +kernel
theorem dksX4_setGround_1 : cX4_setGround.data.toList.drop 22 = dktX4_setGround_1 := dk_seg dksX4_setGround_0 22 rfl rfl
theorem dX4_setGround_0 : decode cX4_setGround 0 = .ok (.aload_n 0, 1) := dk_42 (dk_at dksX4_setGround_0 0 rfl rfl)
theorem dX4_setGround_1 : decode cX4_setGround 1 = .ok (.iconst 0, 1) := dk_3 (dk_at dksX4_setGround_0 1 rfl rfl)
theorem dX4_setGround_2 : decode cX4_setGround 2 = .ok (.putfield 49, 3) := dk_181 0 49 (dk_at dksX4_setGround_0 2 rfl rfl)
theorem dX4_setGround_5 : decode cX4_setGround 5 = .ok (.iload_n 1, 1) := dk_27 (dk_at dksX4_setGround_0 5 rfl rfl)
theorem dX4_setGround_6 : decode cX4_setGround 6 = .ok (.bipush (-90), 2) := dk_16 166 (dk_at dksX4_setGround_0 6 rfl rfl)
theorem dX4_setGround_8 : decode cX4_setGround 8 = .ok (.bipush 90, 2) := dk_16 90 (dk_at dksX4_setGround_0 8 rfl rfl)
theorem dX4_setGround_10 : decode cX4_setGround 10 = .ok (.invokestatic 52, 3) := dk_184 0 52 (dk_at dksX4_setGround_0 10 rfl rfl)
theorem dX4_setGround_13 : decode cX4_setGround 13 = .ok (.ifCond .eq 12, 3) := dk_153 0 12 (dk_at dksX4_setGround_0 13 rfl rfl)
theorem dX4_setGround_16 : decode cX4_setGround 16 = .ok (.aload_n 0, 1) := dk_42 (dk_at dksX4_setGround_0 16 rfl rfl)
theorem dX4_setGround_17 : decode cX4_setGround 17 = .ok (.iconst 1, 1) := dk_4 (dk_at dksX4_setGround_0 17 rfl rfl)
theorem dX4_setGround_18 : decode cX4_setGround 18 = .ok (.iload_n 1, 1) := dk_27 (dk_at dksX4_setGround_0 18 rfl rfl)
theorem dX4_setGround_19 : decode cX4_setGround 19 = .ok (.invokevirtual 60, 3) := dk_182 0 60 (dk_at dksX4_setGround_0 19 rfl rfl)
theorem dX4_setGround_22 : decode cX4_setGround 22 = .ok (.goto 8, 3) := dk_167 0 8 (dk_at dksX4_setGround_1 0 rfl rfl)
theorem dX4_setGround_25 : decode cX4_setGround 25 = .ok (.aload_n 0, 1) := dk_42 (dk_at dksX4_setGround_1 3 rfl rfl)
theorem dX4_setGround_26 : decode cX4_setGround 26 = .ok (.iconst 1, 1) := dk_4 (dk_at dksX4_setGround_1 4 rfl rfl)
theorem dX4_setGround_27 : decode cX4_setGround 27 = .ok (.invokevirtual 64, 3) := dk_182 0 64 (dk_at dksX4_setGround_1 5 rfl rfl)
theorem dX4_setGround_30 : decode cX4_setGround 30 = .ok (.ireturn, 1) := dk_172 (dk_at dksX4_setGround_1 8 rfl rfl)
abbrev cX4_setSpreading : ByteArray := prog_25_method_18_code
def yX4_setSpreading : MethodName := ⟨RX4, "setSpreading", "(Z)Z"⟩
def dkwX4_setSpreading_1 : List UInt8 := [167, 0, 4, 3, 172]
abbrev dktX4_setSpreading_1 : List UInt8 := dkwX4_setSpreading_1 ++ []
def dkwX4_setSpreading_0 : List UInt8 := [42, 3, 181, 0, 49, 42, 5, 27, 153, 0, 7, 4, 167, 0, 4, 3, 182, 0, 60, 4, 160, 0, 7, 4]
abbrev dktX4_setSpreading_0 : List UInt8 := dkwX4_setSpreading_0 ++ dktX4_setSpreading_1
theorem dksX4_setSpreading_0 : cX4_setSpreading.data.toList.drop 0 = dktX4_setSpreading_0 := by decide +kernel
theorem dksX4_setSpreading_1 : cX4_setSpreading.data.toList.drop 24 = dktX4_setSpreading_1 := dk_seg dksX4_setSpreading_0 24 rfl rfl
theorem dX4_setSpreading_0 : decode cX4_setSpreading 0 = .ok (.aload_n 0, 1) := dk_42 (dk_at dksX4_setSpreading_0 0 rfl rfl)
theorem dX4_setSpreading_1 : decode cX4_setSpreading 1 = .ok (.iconst 0, 1) := dk_3 (dk_at dksX4_setSpreading_0 1 rfl rfl)
theorem dX4_setSpreading_2 : decode cX4_setSpreading 2 = .ok (.putfield 49, 3) := dk_181 0 49 (dk_at dksX4_setSpreading_0 2 rfl rfl)
theorem dX4_setSpreading_5 : decode cX4_setSpreading 5 = .ok (.aload_n 0, 1) := dk_42 (dk_at dksX4_setSpreading_0 5 rfl rfl)
theorem dX4_setSpreading_6 : decode cX4_setSpreading 6 = .ok (.iconst 2, 1) := dk_5 (dk_at dksX4_setSpreading_0 6 rfl rfl)
theorem dX4_setSpreading_7 : decode cX4_setSpreading 7 = .ok (.iload_n 1, 1) := dk_27 (dk_at dksX4_setSpreading_0 7 rfl rfl)
theorem dX4_setSpreading_8 : decode cX4_setSpreading 8 = .ok (.ifCond .eq 7, 3) := dk_153 0 7 (dk_at dksX4_setSpreading_0 8 rfl rfl)
theorem dX4_setSpreading_11 : decode cX4_setSpreading 11 = .ok (.iconst 1, 1) := dk_4 (dk_at dksX4_setSpreading_0 11 rfl rfl)
theorem dX4_setSpreading_12 : decode cX4_setSpreading 12 = .ok (.goto 4, 3) := dk_167 0 4 (dk_at dksX4_setSpreading_0 12 rfl rfl)
theorem dX4_setSpreading_15 : decode cX4_setSpreading 15 = .ok (.iconst 0, 1) := dk_3 (dk_at dksX4_setSpreading_0 15 rfl rfl)
theorem dX4_setSpreading_16 : decode cX4_setSpreading 16 = .ok (.invokevirtual 60, 3) := dk_182 0 60 (dk_at dksX4_setSpreading_0 16 rfl rfl)
theorem dX4_setSpreading_19 : decode cX4_setSpreading 19 = .ok (.iconst 1, 1) := dk_4 (dk_at dksX4_setSpreading_0 19 rfl rfl)
theorem dX4_setSpreading_20 : decode cX4_setSpreading 20 = .ok (.if_icmp .ne 7, 3) := dk_160 0 7 (dk_at dksX4_setSpreading_0 20 rfl rfl)
theorem dX4_setSpreading_23 : decode cX4_setSpreading 23 = .ok (.iconst 1, 1) := dk_4 (dk_at dksX4_setSpreading_0 23 rfl rfl)
theorem dX4_setSpreading_24 : decode cX4_setSpreading 24 = .ok (.goto 4, 3) := dk_167 0 4 (dk_at dksX4_setSpreading_1 0 rfl rfl)
theorem dX4_setSpreading_27 : decode cX4_setSpreading 27 = .ok (.iconst 0, 1) := dk_3 (dk_at dksX4_setSpreading_1 3 rfl rfl)
theorem dX4_setSpreading_28 : decode cX4_setSpreading 28 = .ok (.ireturn, 1) := dk_172 (dk_at dksX4_setSpreading_1 4 rfl rfl)
abbrev cX4_setNoise : ByteArray := prog_25_method_19_code
def yX4_setNoise : MethodName := ⟨RX4, "setNoise", "(II)V"⟩
def dkwX4_setNoise_1 : List UInt8 := [180, 0, 49, 154, 0, 17, 42, 180, 0, 7, 6, 27, 79, 42, 180, 0, 7, 7, 28, 79, 177]
abbrev dktX4_setNoise_1 : List UInt8 := dkwX4_setNoise_1 ++ []
def dkwX4_setNoise_0 : List UInt8 := [42, 27, 155, 0, 13, 28, 3, 16, 99, 184, 0, 52, 154, 0, 7, 4, 167, 0, 4, 3, 181, 0, 49, 42]
abbrev dktX4_setNoise_0 : List UInt8 := dkwX4_setNoise_0 ++ dktX4_setNoise_1
theorem dksX4_setNoise_0 : cX4_setNoise.data.toList.drop 0 = dktX4_setNoise_0 := by decide +kernel
theorem dksX4_setNoise_1 : cX4_setNoise.data.toList.drop 24 = dktX4_setNoise_1 := dk_seg dksX4_setNoise_0 24 rfl rfl
theorem dX4_setNoise_0 : decode cX4_setNoise 0 = .ok (.aload_n 0, 1) := dk_42 (dk_at dksX4_setNoise_0 0 rfl rfl)
theorem dX4_setNoise_1 : decode cX4_setNoise 1 = .ok (.iload_n 1, 1) := dk_27 (dk_at dksX4_setNoise_0 1 rfl rfl)
theorem dX4_setNoise_2 : decode cX4_setNoise 2 = .ok (.ifCond .lt 13, 3) := dk_155 0 13 (dk_at dksX4_setNoise_0 2 rfl rfl)
theorem dX4_setNoise_5 : decode cX4_setNoise 5 = .ok (.iload_n 2, 1) := dk_28 (dk_at dksX4_setNoise_0 5 rfl rfl)
theorem dX4_setNoise_6 : decode cX4_setNoise 6 = .ok (.iconst 0, 1) := dk_3 (dk_at dksX4_setNoise_0 6 rfl rfl)
theorem dX4_setNoise_7 : decode cX4_setNoise 7 = .ok (.bipush 99, 2) := dk_16 99 (dk_at dksX4_setNoise_0 7 rfl rfl)
theorem dX4_setNoise_9 : decode cX4_setNoise 9 = .ok (.invokestatic 52, 3) := dk_184 0 52 (dk_at dksX4_setNoise_0 9 rfl rfl)
theorem dX4_setNoise_12 : decode cX4_setNoise 12 = .ok (.ifCond .ne 7, 3) := dk_154 0 7 (dk_at dksX4_setNoise_0 12 rfl rfl)
theorem dX4_setNoise_15 : decode cX4_setNoise 15 = .ok (.iconst 1, 1) := dk_4 (dk_at dksX4_setNoise_0 15 rfl rfl)
theorem dX4_setNoise_16 : decode cX4_setNoise 16 = .ok (.goto 4, 3) := dk_167 0 4 (dk_at dksX4_setNoise_0 16 rfl rfl)
theorem dX4_setNoise_19 : decode cX4_setNoise 19 = .ok (.iconst 0, 1) := dk_3 (dk_at dksX4_setNoise_0 19 rfl rfl)
theorem dX4_setNoise_20 : decode cX4_setNoise 20 = .ok (.putfield 49, 3) := dk_181 0 49 (dk_at dksX4_setNoise_0 20 rfl rfl)
theorem dX4_setNoise_23 : decode cX4_setNoise 23 = .ok (.aload_n 0, 1) := dk_42 (dk_at dksX4_setNoise_0 23 rfl rfl)
theorem dX4_setNoise_24 : decode cX4_setNoise 24 = .ok (.getfield 49, 3) := dk_180 0 49 (dk_at dksX4_setNoise_1 0 rfl rfl)
theorem dX4_setNoise_27 : decode cX4_setNoise 27 = .ok (.ifCond .ne 17, 3) := dk_154 0 17 (dk_at dksX4_setNoise_1 3 rfl rfl)
theorem dX4_setNoise_30 : decode cX4_setNoise 30 = .ok (.aload_n 0, 1) := dk_42 (dk_at dksX4_setNoise_1 6 rfl rfl)
theorem dX4_setNoise_31 : decode cX4_setNoise 31 = .ok (.getfield 7, 3) := dk_180 0 7 (dk_at dksX4_setNoise_1 7 rfl rfl)
theorem dX4_setNoise_34 : decode cX4_setNoise 34 = .ok (.iconst 3, 1) := dk_6 (dk_at dksX4_setNoise_1 10 rfl rfl)
theorem dX4_setNoise_35 : decode cX4_setNoise 35 = .ok (.iload_n 1, 1) := dk_27 (dk_at dksX4_setNoise_1 11 rfl rfl)
theorem dX4_setNoise_36 : decode cX4_setNoise 36 = .ok (.iastore, 1) := dk_79 (dk_at dksX4_setNoise_1 12 rfl rfl)
theorem dX4_setNoise_37 : decode cX4_setNoise 37 = .ok (.aload_n 0, 1) := dk_42 (dk_at dksX4_setNoise_1 13 rfl rfl)
theorem dX4_setNoise_38 : decode cX4_setNoise 38 = .ok (.getfield 7, 3) := dk_180 0 7 (dk_at dksX4_setNoise_1 14 rfl rfl)
theorem dX4_setNoise_41 : decode cX4_setNoise 41 = .ok (.iconst 4, 1) := dk_7 (dk_at dksX4_setNoise_1 17 rfl rfl)
theorem dX4_setNoise_42 : decode cX4_setNoise 42 = .ok (.iload_n 2, 1) := dk_28 (dk_at dksX4_setNoise_1 18 rfl rfl)
theorem dX4_setNoise_43 : decode cX4_setNoise 43 = .ok (.iastore, 1) := dk_79 (dk_at dksX4_setNoise_1 19 rfl rfl)
theorem dX4_setNoise_44 : decode cX4_setNoise 44 = .ok (.return_, 1) := dk_177 (dk_at dksX4_setNoise_1 20 rfl rfl)
abbrev cX4_addVehicle : ByteArray := prog_25_method_22_code
def yX4_addVehicle : MethodName := ⟨RX4, "addVehicle", "(III)I"⟩
def dkwX4_addVehicle_1 : List UInt8 := [16, 6, 46, 7, 160, 0, 11, 42, 5, 182, 0, 64, 167, 0, 10, 42, 27, 28, 29, 182, 0, 71, 172]
abbrev dktX4_addVehicle_1 : List UInt8 := dkwX4_addVehicle_1 ++ []
def dkwX4_addVehicle_0 : List UInt8 := [42, 3, 181, 0, 49, 27, 28, 29, 184, 0, 68, 154, 0, 9, 42, 4, 182, 0, 64, 172, 42, 180, 0, 7]
abbrev dktX4_addVehicle_0 : List UInt8 := dkwX4_addVehicle_0 ++ dktX4_addVehicle_1
theorem dksX4_addVehicle_0 : cX4_addVehicle.data.toList.drop 0 = dktX4_addVehicle_0 := by decide +kernel
theorem dksX4_addVehicle_1 : cX4_addVehicle.data.toList.drop 24 = dktX4_addVehicle_1 := dk_seg dksX4_addVehicle_0 24 rfl rfl
theorem dX4_addVehicle_0 : decode cX4_addVehicle 0 = .ok (.aload_n 0, 1) := dk_42 (dk_at dksX4_addVehicle_0 0 rfl rfl)
theorem dX4_addVehicle_1 : decode cX4_addVehicle 1 = .ok (.iconst 0, 1) := dk_3 (dk_at dksX4_addVehicle_0 1 rfl rfl)
theorem dX4_addVehicle_2 : decode cX4_addVehicle 2 = .ok (.putfield 49, 3) := dk_181 0 49 (dk_at dksX4_addVehicle_0 2 rfl rfl)
theorem dX4_addVehicle_5 : decode cX4_addVehicle 5 = .ok (.iload_n 1, 1) := dk_27 (dk_at dksX4_addVehicle_0 5 rfl rfl)
theorem dX4_addVehicle_6 : decode cX4_addVehicle 6 = .ok (.iload_n 2, 1) := dk_28 (dk_at dksX4_addVehicle_0 6 rfl rfl)
theorem dX4_addVehicle_7 : decode cX4_addVehicle 7 = .ok (.iload_n 3, 1) := dk_29 (dk_at dksX4_addVehicle_0 7 rfl rfl)
theorem dX4_addVehicle_8 : decode cX4_addVehicle 8 = .ok (.invokestatic 68, 3) := dk_184 0 68 (dk_at dksX4_addVehicle_0 8 rfl rfl)
theorem dX4_addVehicle_11 : decode cX4_addVehicle 11 = .ok (.ifCond .ne 9, 3) := dk_154 0 9 (dk_at dksX4_addVehicle_0 11 rfl rfl)
theorem dX4_addVehicle_14 : decode cX4_addVehicle 14 = .ok (.aload_n 0, 1) := dk_42 (dk_at dksX4_addVehicle_0 14 rfl rfl)
theorem dX4_addVehicle_15 : decode cX4_addVehicle 15 = .ok (.iconst 1, 1) := dk_4 (dk_at dksX4_addVehicle_0 15 rfl rfl)
theorem dX4_addVehicle_16 : decode cX4_addVehicle 16 = .ok (.invokevirtual 64, 3) := dk_182 0 64 (dk_at dksX4_addVehicle_0 16 rfl rfl)
theorem dX4_addVehicle_19 : decode cX4_addVehicle 19 = .ok (.ireturn, 1) := dk_172 (dk_at dksX4_addVehicle_0 19 rfl rfl)
theorem dX4_addVehicle_20 : decode cX4_addVehicle 20 = .ok (.aload_n 0, 1) := dk_42 (dk_at dksX4_addVehicle_0 20 rfl rfl)
theorem dX4_addVehicle_21 : decode cX4_addVehicle 21 = .ok (.getfield 7, 3) := dk_180 0 7 (dk_at dksX4_addVehicle_0 21 rfl rfl)
theorem dX4_addVehicle_24 : decode cX4_addVehicle 24 = .ok (.bipush 6, 2) := dk_16 6 (dk_at dksX4_addVehicle_1 0 rfl rfl)
theorem dX4_addVehicle_26 : decode cX4_addVehicle 26 = .ok (.iaload, 1) := dk_46 (dk_at dksX4_addVehicle_1 2 rfl rfl)
theorem dX4_addVehicle_27 : decode cX4_addVehicle 27 = .ok (.iconst 4, 1) := dk_7 (dk_at dksX4_addVehicle_1 3 rfl rfl)
theorem dX4_addVehicle_28 : decode cX4_addVehicle 28 = .ok (.if_icmp .ne 11, 3) := dk_160 0 11 (dk_at dksX4_addVehicle_1 4 rfl rfl)
theorem dX4_addVehicle_31 : decode cX4_addVehicle 31 = .ok (.aload_n 0, 1) := dk_42 (dk_at dksX4_addVehicle_1 7 rfl rfl)
theorem dX4_addVehicle_32 : decode cX4_addVehicle 32 = .ok (.iconst 2, 1) := dk_5 (dk_at dksX4_addVehicle_1 8 rfl rfl)
theorem dX4_addVehicle_33 : decode cX4_addVehicle 33 = .ok (.invokevirtual 64, 3) := dk_182 0 64 (dk_at dksX4_addVehicle_1 9 rfl rfl)
theorem dX4_addVehicle_36 : decode cX4_addVehicle 36 = .ok (.goto 10, 3) := dk_167 0 10 (dk_at dksX4_addVehicle_1 12 rfl rfl)
theorem dX4_addVehicle_39 : decode cX4_addVehicle 39 = .ok (.aload_n 0, 1) := dk_42 (dk_at dksX4_addVehicle_1 15 rfl rfl)
theorem dX4_addVehicle_40 : decode cX4_addVehicle 40 = .ok (.iload_n 1, 1) := dk_27 (dk_at dksX4_addVehicle_1 16 rfl rfl)
theorem dX4_addVehicle_41 : decode cX4_addVehicle 41 = .ok (.iload_n 2, 1) := dk_28 (dk_at dksX4_addVehicle_1 17 rfl rfl)
theorem dX4_addVehicle_42 : decode cX4_addVehicle 42 = .ok (.iload_n 3, 1) := dk_29 (dk_at dksX4_addVehicle_1 18 rfl rfl)
theorem dX4_addVehicle_43 : decode cX4_addVehicle 43 = .ok (.invokevirtual 71, 3) := dk_182 0 71 (dk_at dksX4_addVehicle_1 19 rfl rfl)
theorem dX4_addVehicle_46 : decode cX4_addVehicle 46 = .ok (.ireturn, 1) := dk_172 (dk_at dksX4_addVehicle_1 22 rfl rfl)
abbrev cX4_isVehiclePlace : ByteArray := prog_25_method_20_code
def yX4_isVehiclePlace : MethodName := ⟨RX4, "isVehiclePlace", "(III)Z"⟩
def dkwX4_isVehiclePlace_1 : List UInt8 := [28, 16, 100, 17, 19, 136, 184, 0, 52, 153, 0, 7, 4, 167, 0, 4, 3, 172]
abbrev dktX4_isVehiclePlace_1 : List UInt8 := dkwX4_isVehiclePlace_1 ++ []
def dkwX4_isVehiclePlace_0 : List UInt8 := [26, 17, 177, 224, 17, 78, 32, 184, 0, 52, 153, 0, 30, 27, 16, 206, 16, 50, 184, 0, 52, 153, 0, 19]
abbrev dktX4_isVehiclePlace_0 : List UInt8 := dkwX4_isVehiclePlace_0 ++ dktX4_isVehiclePlace_1
theorem dksX4_isVehiclePlace_0 : cX4_isVehiclePlace.data.toList.drop 0 = dktX4_isVehiclePlace_0 := by decide +kernel
theorem dksX4_isVehiclePlace_1 : cX4_isVehiclePlace.data.toList.drop 24 = dktX4_isVehiclePlace_1 := dk_seg dksX4_isVehiclePlace_0 24 rfl rfl
theorem dX4_isVehiclePlace_0 : decode cX4_isVehiclePlace 0 = .ok (.iload_n 0, 1) := dk_26 (dk_at dksX4_isVehiclePlace_0 0 rfl rfl)
theorem dX4_isVehiclePlace_1 : decode cX4_isVehiclePlace 1 = .ok (.sipush (-20000), 3) := dk_17 177 224 (dk_at dksX4_isVehiclePlace_0 1 rfl rfl)
theorem dX4_isVehiclePlace_4 : decode cX4_isVehiclePlace 4 = .ok (.sipush 20000, 3) := dk_17 78 32 (dk_at dksX4_isVehiclePlace_0 4 rfl rfl)
theorem dX4_isVehiclePlace_7 : decode cX4_isVehiclePlace 7 = .ok (.invokestatic 52, 3) := dk_184 0 52 (dk_at dksX4_isVehiclePlace_0 7 rfl rfl)
theorem dX4_isVehiclePlace_10 : decode cX4_isVehiclePlace 10 = .ok (.ifCond .eq 30, 3) := dk_153 0 30 (dk_at dksX4_isVehiclePlace_0 10 rfl rfl)
theorem dX4_isVehiclePlace_13 : decode cX4_isVehiclePlace 13 = .ok (.iload_n 1, 1) := dk_27 (dk_at dksX4_isVehiclePlace_0 13 rfl rfl)
theorem dX4_isVehiclePlace_14 : decode cX4_isVehiclePlace 14 = .ok (.bipush (-50), 2) := dk_16 206 (dk_at dksX4_isVehiclePlace_0 14 rfl rfl)
theorem dX4_isVehiclePlace_16 : decode cX4_isVehiclePlace 16 = .ok (.bipush 50, 2) := dk_16 50 (dk_at dksX4_isVehiclePlace_0 16 rfl rfl)
theorem dX4_isVehiclePlace_18 : decode cX4_isVehiclePlace 18 = .ok (.invokestatic 52, 3) := dk_184 0 52 (dk_at dksX4_isVehiclePlace_0 18 rfl rfl)
theorem dX4_isVehiclePlace_21 : decode cX4_isVehiclePlace 21 = .ok (.ifCond .eq 19, 3) := dk_153 0 19 (dk_at dksX4_isVehiclePlace_0 21 rfl rfl)
theorem dX4_isVehiclePlace_24 : decode cX4_isVehiclePlace 24 = .ok (.iload_n 2, 1) := dk_28 (dk_at dksX4_isVehiclePlace_1 0 rfl rfl)
theorem dX4_isVehiclePlace_25 : decode cX4_isVehiclePlace 25 = .ok (.bipush 100, 2) := dk_16 100 (dk_at dksX4_isVehiclePlace_1 1 rfl rfl)
theorem dX4_isVehiclePlace_27 : decode cX4_isVehiclePlace 27 = .ok (.sipush 5000, 3) := dk_17 19 136 (dk_at dksX4_isVehiclePlace_1 3 rfl rfl)
theorem dX4_isVehiclePlace_30 : decode cX4_isVehiclePlace 30 = .ok (.invokestatic 52, 3) := dk_184 0 52 (dk_at dksX4_isVehiclePlace_1 6 rfl rfl)
theorem dX4_isVehiclePlace_33 : decode cX4_isVehiclePlace 33 = .ok (.ifCond .eq 7, 3) := dk_153 0 7 (dk_at dksX4_isVehiclePlace_1 9 rfl rfl)
theorem dX4_isVehiclePlace_36 : decode cX4_isVehiclePlace 36 = .ok (.iconst 1, 1) := dk_4 (dk_at dksX4_isVehiclePlace_1 12 rfl rfl)
theorem dX4_isVehiclePlace_37 : decode cX4_isVehiclePlace 37 = .ok (.goto 4, 3) := dk_167 0 4 (dk_at dksX4_isVehiclePlace_1 13 rfl rfl)
theorem dX4_isVehiclePlace_40 : decode cX4_isVehiclePlace 40 = .ok (.iconst 0, 1) := dk_3 (dk_at dksX4_isVehiclePlace_1 16 rfl rfl)
theorem dX4_isVehiclePlace_41 : decode cX4_isVehiclePlace 41 = .ok (.ireturn, 1) := dk_172 (dk_at dksX4_isVehiclePlace_1 17 rfl rfl)
abbrev cX4_appendVehicle : ByteArray := prog_25_method_21_code
def yX4_appendVehicle : MethodName := ⟨RX4, "appendVehicle", "(III)I"⟩
def dkwX4_appendVehicle_2 : List UInt8 := [16, 6, 92, 46, 4, 96, 79, 42, 180, 0, 7, 16, 6, 46, 4, 100, 172]
abbrev dktX4_appendVehicle_2 : List UInt8 := dkwX4_appendVehicle_2 ++ []
def dkwX4_appendVehicle_1 : List UInt8 := [42, 180, 0, 7, 21, 4, 4, 96, 28, 79, 42, 180, 0, 7, 21, 4, 5, 96, 29, 79, 42, 180, 0, 7]
abbrev dktX4_appendVehicle_1 : List UInt8 := dkwX4_appendVehicle_1 ++ dktX4_appendVehicle_2
def dkwX4_appendVehicle_0 : List UInt8 := [16, 16, 6, 42, 180, 0, 7, 16, 6, 46, 104, 96, 54, 4, 42, 180, 0, 7, 21, 4, 3, 96, 27, 79]
abbrev dktX4_appendVehicle_0 : List UInt8 := dkwX4_appendVehicle_0 ++ dktX4_appendVehicle_1
theorem dksX4_appendVehicle_0 : cX4_appendVehicle.data.toList.drop 0 = dktX4_appendVehicle_0 := by decide +kernel
theorem dksX4_appendVehicle_1 : cX4_appendVehicle.data.toList.drop 24 = dktX4_appendVehicle_1 := dk_seg dksX4_appendVehicle_0 24 rfl rfl
theorem dksX4_appendVehicle_2 : cX4_appendVehicle.data.toList.drop 48 = dktX4_appendVehicle_2 := dk_seg dksX4_appendVehicle_1 24 rfl rfl
theorem dX4_appendVehicle_0 : decode cX4_appendVehicle 0 = .ok (.bipush 16, 2) := dk_16 16 (dk_at dksX4_appendVehicle_0 0 rfl rfl)
theorem dX4_appendVehicle_2 : decode cX4_appendVehicle 2 = .ok (.iconst 3, 1) := dk_6 (dk_at dksX4_appendVehicle_0 2 rfl rfl)
theorem dX4_appendVehicle_3 : decode cX4_appendVehicle 3 = .ok (.aload_n 0, 1) := dk_42 (dk_at dksX4_appendVehicle_0 3 rfl rfl)
theorem dX4_appendVehicle_4 : decode cX4_appendVehicle 4 = .ok (.getfield 7, 3) := dk_180 0 7 (dk_at dksX4_appendVehicle_0 4 rfl rfl)
theorem dX4_appendVehicle_7 : decode cX4_appendVehicle 7 = .ok (.bipush 6, 2) := dk_16 6 (dk_at dksX4_appendVehicle_0 7 rfl rfl)
theorem dX4_appendVehicle_9 : decode cX4_appendVehicle 9 = .ok (.iaload, 1) := dk_46 (dk_at dksX4_appendVehicle_0 9 rfl rfl)
theorem dX4_appendVehicle_10 : decode cX4_appendVehicle 10 = .ok (.imul, 1) := dk_104 (dk_at dksX4_appendVehicle_0 10 rfl rfl)
theorem dX4_appendVehicle_11 : decode cX4_appendVehicle 11 = .ok (.iadd, 1) := dk_96 (dk_at dksX4_appendVehicle_0 11 rfl rfl)
theorem dX4_appendVehicle_12 : decode cX4_appendVehicle 12 = .ok (.istore 4, 2) := dk_54 4 (dk_at dksX4_appendVehicle_0 12 rfl rfl)
theorem dX4_appendVehicle_14 : decode cX4_appendVehicle 14 = .ok (.aload_n 0, 1) := dk_42 (dk_at dksX4_appendVehicle_0 14 rfl rfl)
theorem dX4_appendVehicle_15 : decode cX4_appendVehicle 15 = .ok (.getfield 7, 3) := dk_180 0 7 (dk_at dksX4_appendVehicle_0 15 rfl rfl)
theorem dX4_appendVehicle_18 : decode cX4_appendVehicle 18 = .ok (.iload 4, 2) := dk_21 4 (dk_at dksX4_appendVehicle_0 18 rfl rfl)
theorem dX4_appendVehicle_20 : decode cX4_appendVehicle 20 = .ok (.iconst 0, 1) := dk_3 (dk_at dksX4_appendVehicle_0 20 rfl rfl)
theorem dX4_appendVehicle_21 : decode cX4_appendVehicle 21 = .ok (.iadd, 1) := dk_96 (dk_at dksX4_appendVehicle_0 21 rfl rfl)
theorem dX4_appendVehicle_22 : decode cX4_appendVehicle 22 = .ok (.iload_n 1, 1) := dk_27 (dk_at dksX4_appendVehicle_0 22 rfl rfl)
theorem dX4_appendVehicle_23 : decode cX4_appendVehicle 23 = .ok (.iastore, 1) := dk_79 (dk_at dksX4_appendVehicle_0 23 rfl rfl)
theorem dX4_appendVehicle_24 : decode cX4_appendVehicle 24 = .ok (.aload_n 0, 1) := dk_42 (dk_at dksX4_appendVehicle_1 0 rfl rfl)
theorem dX4_appendVehicle_25 : decode cX4_appendVehicle 25 = .ok (.getfield 7, 3) := dk_180 0 7 (dk_at dksX4_appendVehicle_1 1 rfl rfl)
theorem dX4_appendVehicle_28 : decode cX4_appendVehicle 28 = .ok (.iload 4, 2) := dk_21 4 (dk_at dksX4_appendVehicle_1 4 rfl rfl)
theorem dX4_appendVehicle_30 : decode cX4_appendVehicle 30 = .ok (.iconst 1, 1) := dk_4 (dk_at dksX4_appendVehicle_1 6 rfl rfl)
theorem dX4_appendVehicle_31 : decode cX4_appendVehicle 31 = .ok (.iadd, 1) := dk_96 (dk_at dksX4_appendVehicle_1 7 rfl rfl)
theorem dX4_appendVehicle_32 : decode cX4_appendVehicle 32 = .ok (.iload_n 2, 1) := dk_28 (dk_at dksX4_appendVehicle_1 8 rfl rfl)
theorem dX4_appendVehicle_33 : decode cX4_appendVehicle 33 = .ok (.iastore, 1) := dk_79 (dk_at dksX4_appendVehicle_1 9 rfl rfl)
theorem dX4_appendVehicle_34 : decode cX4_appendVehicle 34 = .ok (.aload_n 0, 1) := dk_42 (dk_at dksX4_appendVehicle_1 10 rfl rfl)
theorem dX4_appendVehicle_35 : decode cX4_appendVehicle 35 = .ok (.getfield 7, 3) := dk_180 0 7 (dk_at dksX4_appendVehicle_1 11 rfl rfl)
theorem dX4_appendVehicle_38 : decode cX4_appendVehicle 38 = .ok (.iload 4, 2) := dk_21 4 (dk_at dksX4_appendVehicle_1 14 rfl rfl)
theorem dX4_appendVehicle_40 : decode cX4_appendVehicle 40 = .ok (.iconst 2, 1) := dk_5 (dk_at dksX4_appendVehicle_1 16 rfl rfl)
theorem dX4_appendVehicle_41 : decode cX4_appendVehicle 41 = .ok (.iadd, 1) := dk_96 (dk_at dksX4_appendVehicle_1 17 rfl rfl)
theorem dX4_appendVehicle_42 : decode cX4_appendVehicle 42 = .ok (.iload_n 3, 1) := dk_29 (dk_at dksX4_appendVehicle_1 18 rfl rfl)
theorem dX4_appendVehicle_43 : decode cX4_appendVehicle 43 = .ok (.iastore, 1) := dk_79 (dk_at dksX4_appendVehicle_1 19 rfl rfl)
theorem dX4_appendVehicle_44 : decode cX4_appendVehicle 44 = .ok (.aload_n 0, 1) := dk_42 (dk_at dksX4_appendVehicle_1 20 rfl rfl)
theorem dX4_appendVehicle_45 : decode cX4_appendVehicle 45 = .ok (.getfield 7, 3) := dk_180 0 7 (dk_at dksX4_appendVehicle_1 21 rfl rfl)
theorem dX4_appendVehicle_48 : decode cX4_appendVehicle 48 = .ok (.bipush 6, 2) := dk_16 6 (dk_at dksX4_appendVehicle_2 0 rfl rfl)
theorem dX4_appendVehicle_50 : decode cX4_appendVehicle 50 = .ok (.dup2, 1) := dk_92 (dk_at dksX4_appendVehicle_2 2 rfl rfl)
theorem dX4_appendVehicle_51 : decode cX4_appendVehicle 51 = .ok (.iaload, 1) := dk_46 (dk_at dksX4_appendVehicle_2 3 rfl rfl)
theorem dX4_appendVehicle_52 : decode cX4_appendVehicle 52 = .ok (.iconst 1, 1) := dk_4 (dk_at dksX4_appendVehicle_2 4 rfl rfl)
theorem dX4_appendVehicle_53 : decode cX4_appendVehicle 53 = .ok (.iadd, 1) := dk_96 (dk_at dksX4_appendVehicle_2 5 rfl rfl)
theorem dX4_appendVehicle_54 : decode cX4_appendVehicle 54 = .ok (.iastore, 1) := dk_79 (dk_at dksX4_appendVehicle_2 6 rfl rfl)
theorem dX4_appendVehicle_55 : decode cX4_appendVehicle 55 = .ok (.aload_n 0, 1) := dk_42 (dk_at dksX4_appendVehicle_2 7 rfl rfl)
theorem dX4_appendVehicle_56 : decode cX4_appendVehicle 56 = .ok (.getfield 7, 3) := dk_180 0 7 (dk_at dksX4_appendVehicle_2 8 rfl rfl)
theorem dX4_appendVehicle_59 : decode cX4_appendVehicle 59 = .ok (.bipush 6, 2) := dk_16 6 (dk_at dksX4_appendVehicle_2 11 rfl rfl)
theorem dX4_appendVehicle_61 : decode cX4_appendVehicle 61 = .ok (.iaload, 1) := dk_46 (dk_at dksX4_appendVehicle_2 13 rfl rfl)
theorem dX4_appendVehicle_62 : decode cX4_appendVehicle 62 = .ok (.iconst 1, 1) := dk_4 (dk_at dksX4_appendVehicle_2 14 rfl rfl)
theorem dX4_appendVehicle_63 : decode cX4_appendVehicle 63 = .ok (.isub, 1) := dk_100 (dk_at dksX4_appendVehicle_2 15 rfl rfl)
theorem dX4_appendVehicle_64 : decode cX4_appendVehicle 64 = .ok (.ireturn, 1) := dk_172 (dk_at dksX4_appendVehicle_2 16 rfl rfl)
abbrev cX4_addSource : ByteArray := prog_25_method_28_code
def yX4_addSource : MethodName := ⟨RX4, "addSource", "(IIIII)I"⟩
def dkwX4_addSource_4 : List UInt8 := [182, 0, 91, 54, 7, 21, 6, 172]
abbrev dktX4_addSource_4 : List UInt8 := dkwX4_addSource_4 ++ []
def dkwX4_addSource_3 : List UInt8 := [42, 6, 182, 0, 64, 172, 42, 27, 28, 29, 21, 4, 182, 0, 87, 54, 6, 42, 21, 6, 21, 5]
abbrev dktX4_addSource_3 : List UInt8 := dkwX4_addSource_3 ++ dktX4_addSource_4
def dkwX4_addSource_2 : List UInt8 := [184, 0, 84, 154, 0, 9, 42, 5, 182, 0, 64, 172, 42, 180, 0, 7, 16, 7, 46, 16, 6, 160, 0, 9]
abbrev dktX4_addSource_2 : List UInt8 := dkwX4_addSource_2 ++ dktX4_addSource_3
def dkwX4_addSource_1 : List UInt8 := [153, 0, 29, 29, 184, 0, 81, 153, 0, 22, 21, 4, 4, 16, 10, 184, 0, 52, 153, 0, 11, 21, 5]
abbrev dktX4_addSource_1 : List UInt8 := dkwX4_addSource_1 ++ dktX4_addSource_2
def dkwX4_addSource_0 : List UInt8 := [42, 3, 181, 0, 49, 42, 27, 182, 0, 75, 154, 0, 9, 42, 4, 182, 0, 64, 172, 28, 184, 0, 78]
abbrev dktX4_addSource_0 : List UInt8 := dkwX4_addSource_0 ++ dktX4_addSource_1
theorem dksX4_addSource_0 : cX4_addSource.data.toList.drop 0 = dktX4_addSource_0 := by decide +kernel
theorem dksX4_addSource_1 : cX4_addSource.data.toList.drop 23 = dktX4_addSource_1 := dk_seg dksX4_addSource_0 23 rfl rfl
theorem dksX4_addSource_2 : cX4_addSource.data.toList.drop 46 = dktX4_addSource_2 := dk_seg dksX4_addSource_1 23 rfl rfl
theorem dksX4_addSource_3 : cX4_addSource.data.toList.drop 70 = dktX4_addSource_3 := dk_seg dksX4_addSource_2 24 rfl rfl
theorem dksX4_addSource_4 : cX4_addSource.data.toList.drop 92 = dktX4_addSource_4 := dk_seg dksX4_addSource_3 22 rfl rfl
theorem dX4_addSource_0 : decode cX4_addSource 0 = .ok (.aload_n 0, 1) := dk_42 (dk_at dksX4_addSource_0 0 rfl rfl)
theorem dX4_addSource_1 : decode cX4_addSource 1 = .ok (.iconst 0, 1) := dk_3 (dk_at dksX4_addSource_0 1 rfl rfl)
theorem dX4_addSource_2 : decode cX4_addSource 2 = .ok (.putfield 49, 3) := dk_181 0 49 (dk_at dksX4_addSource_0 2 rfl rfl)
theorem dX4_addSource_5 : decode cX4_addSource 5 = .ok (.aload_n 0, 1) := dk_42 (dk_at dksX4_addSource_0 5 rfl rfl)
theorem dX4_addSource_6 : decode cX4_addSource 6 = .ok (.iload_n 1, 1) := dk_27 (dk_at dksX4_addSource_0 6 rfl rfl)
theorem dX4_addSource_7 : decode cX4_addSource 7 = .ok (.invokevirtual 75, 3) := dk_182 0 75 (dk_at dksX4_addSource_0 7 rfl rfl)
theorem dX4_addSource_10 : decode cX4_addSource 10 = .ok (.ifCond .ne 9, 3) := dk_154 0 9 (dk_at dksX4_addSource_0 10 rfl rfl)
theorem dX4_addSource_13 : decode cX4_addSource 13 = .ok (.aload_n 0, 1) := dk_42 (dk_at dksX4_addSource_0 13 rfl rfl)
theorem dX4_addSource_14 : decode cX4_addSource 14 = .ok (.iconst 1, 1) := dk_4 (dk_at dksX4_addSource_0 14 rfl rfl)
theorem dX4_addSource_15 : decode cX4_addSource 15 = .ok (.invokevirtual 64, 3) := dk_182 0 64 (dk_at dksX4_addSource_0 15 rfl rfl)
theorem dX4_addSource_18 : decode cX4_addSource 18 = .ok (.ireturn, 1) := dk_172 (dk_at dksX4_addSource_0 18 rfl rfl)
theorem dX4_addSource_19 : decode cX4_addSource 19 = .ok (.iload_n 2, 1) := dk_28 (dk_at dksX4_addSource_0 19 rfl rfl)
theorem dX4_addSource_20 : decode cX4_addSource 20 = .ok (.invokestatic 78, 3) := dk_184 0 78 (dk_at dksX4_addSource_0 20 rfl rfl)
theorem dX4_addSource_23 : decode cX4_addSource 23 = .ok (.ifCond .eq 29, 3) := dk_153 0 29 (dk_at dksX4_addSource_1 0 rfl rfl)
theorem dX4_addSource_26 : decode cX4_addSource 26 = .ok (.iload_n 3, 1) := dk_29 (dk_at dksX4_addSource_1 3 rfl rfl)
theorem dX4_addSource_27 : decode cX4_addSource 27 = .ok (.invokestatic 81, 3) := dk_184 0 81 (dk_at dksX4_addSource_1 4 rfl rfl)
theorem dX4_addSource_30 : decode cX4_addSource 30 = .ok (.ifCond .eq 22, 3) := dk_153 0 22 (dk_at dksX4_addSource_1 7 rfl rfl)
theorem dX4_addSource_33 : decode cX4_addSource 33 = .ok (.iload 4, 2) := dk_21 4 (dk_at dksX4_addSource_1 10 rfl rfl)
theorem dX4_addSource_35 : decode cX4_addSource 35 = .ok (.iconst 1, 1) := dk_4 (dk_at dksX4_addSource_1 12 rfl rfl)
theorem dX4_addSource_36 : decode cX4_addSource 36 = .ok (.bipush 10, 2) := dk_16 10 (dk_at dksX4_addSource_1 13 rfl rfl)
theorem dX4_addSource_38 : decode cX4_addSource 38 = .ok (.invokestatic 52, 3) := dk_184 0 52 (dk_at dksX4_addSource_1 15 rfl rfl)
theorem dX4_addSource_41 : decode cX4_addSource 41 = .ok (.ifCond .eq 11, 3) := dk_153 0 11 (dk_at dksX4_addSource_1 18 rfl rfl)
theorem dX4_addSource_44 : decode cX4_addSource 44 = .ok (.iload 5, 2) := dk_21 5 (dk_at dksX4_addSource_1 21 rfl rfl)
theorem dX4_addSource_46 : decode cX4_addSource 46 = .ok (.invokestatic 84, 3) := dk_184 0 84 (dk_at dksX4_addSource_2 0 rfl rfl)
theorem dX4_addSource_49 : decode cX4_addSource 49 = .ok (.ifCond .ne 9, 3) := dk_154 0 9 (dk_at dksX4_addSource_2 3 rfl rfl)
theorem dX4_addSource_52 : decode cX4_addSource 52 = .ok (.aload_n 0, 1) := dk_42 (dk_at dksX4_addSource_2 6 rfl rfl)
theorem dX4_addSource_53 : decode cX4_addSource 53 = .ok (.iconst 2, 1) := dk_5 (dk_at dksX4_addSource_2 7 rfl rfl)
theorem dX4_addSource_54 : decode cX4_addSource 54 = .ok (.invokevirtual 64, 3) := dk_182 0 64 (dk_at dksX4_addSource_2 8 rfl rfl)
theorem dX4_addSource_57 : decode cX4_addSource 57 = .ok (.ireturn, 1) := dk_172 (dk_at dksX4_addSource_2 11 rfl rfl)
theorem dX4_addSource_58 : decode cX4_addSource 58 = .ok (.aload_n 0, 1) := dk_42 (dk_at dksX4_addSource_2 12 rfl rfl)
theorem dX4_addSource_59 : decode cX4_addSource 59 = .ok (.getfield 7, 3) := dk_180 0 7 (dk_at dksX4_addSource_2 13 rfl rfl)
theorem dX4_addSource_62 : decode cX4_addSource 62 = .ok (.bipush 7, 2) := dk_16 7 (dk_at dksX4_addSource_2 16 rfl rfl)
theorem dX4_addSource_64 : decode cX4_addSource 64 = .ok (.iaload, 1) := dk_46 (dk_at dksX4_addSource_2 18 rfl rfl)
theorem dX4_addSource_65 : decode cX4_addSource 65 = .ok (.bipush 6, 2) := dk_16 6 (dk_at dksX4_addSource_2 19 rfl rfl)
theorem dX4_addSource_67 : decode cX4_addSource 67 = .ok (.if_icmp .ne 9, 3) := dk_160 0 9 (dk_at dksX4_addSource_2 21 rfl rfl)
theorem dX4_addSource_70 : decode cX4_addSource 70 = .ok (.aload_n 0, 1) := dk_42 (dk_at dksX4_addSource_3 0 rfl rfl)
theorem dX4_addSource_71 : decode cX4_addSource 71 = .ok (.iconst 3, 1) := dk_6 (dk_at dksX4_addSource_3 1 rfl rfl)
theorem dX4_addSource_72 : decode cX4_addSource 72 = .ok (.invokevirtual 64, 3) := dk_182 0 64 (dk_at dksX4_addSource_3 2 rfl rfl)
theorem dX4_addSource_75 : decode cX4_addSource 75 = .ok (.ireturn, 1) := dk_172 (dk_at dksX4_addSource_3 5 rfl rfl)
theorem dX4_addSource_76 : decode cX4_addSource 76 = .ok (.aload_n 0, 1) := dk_42 (dk_at dksX4_addSource_3 6 rfl rfl)
theorem dX4_addSource_77 : decode cX4_addSource 77 = .ok (.iload_n 1, 1) := dk_27 (dk_at dksX4_addSource_3 7 rfl rfl)
theorem dX4_addSource_78 : decode cX4_addSource 78 = .ok (.iload_n 2, 1) := dk_28 (dk_at dksX4_addSource_3 8 rfl rfl)
theorem dX4_addSource_79 : decode cX4_addSource 79 = .ok (.iload_n 3, 1) := dk_29 (dk_at dksX4_addSource_3 9 rfl rfl)
theorem dX4_addSource_80 : decode cX4_addSource 80 = .ok (.iload 4, 2) := dk_21 4 (dk_at dksX4_addSource_3 10 rfl rfl)
theorem dX4_addSource_82 : decode cX4_addSource 82 = .ok (.invokevirtual 87, 3) := dk_182 0 87 (dk_at dksX4_addSource_3 12 rfl rfl)
theorem dX4_addSource_85 : decode cX4_addSource 85 = .ok (.istore 6, 2) := dk_54 6 (dk_at dksX4_addSource_3 15 rfl rfl)
theorem dX4_addSource_87 : decode cX4_addSource 87 = .ok (.aload_n 0, 1) := dk_42 (dk_at dksX4_addSource_3 17 rfl rfl)
theorem dX4_addSource_88 : decode cX4_addSource 88 = .ok (.iload 6, 2) := dk_21 6 (dk_at dksX4_addSource_3 18 rfl rfl)
theorem dX4_addSource_90 : decode cX4_addSource 90 = .ok (.iload 5, 2) := dk_21 5 (dk_at dksX4_addSource_3 20 rfl rfl)
theorem dX4_addSource_92 : decode cX4_addSource 92 = .ok (.invokevirtual 91, 3) := dk_182 0 91 (dk_at dksX4_addSource_4 0 rfl rfl)
theorem dX4_addSource_95 : decode cX4_addSource 95 = .ok (.istore 7, 2) := dk_54 7 (dk_at dksX4_addSource_4 3 rfl rfl)
theorem dX4_addSource_97 : decode cX4_addSource 97 = .ok (.iload 6, 2) := dk_21 6 (dk_at dksX4_addSource_4 5 rfl rfl)
theorem dX4_addSource_99 : decode cX4_addSource 99 = .ok (.ireturn, 1) := dk_172 (dk_at dksX4_addSource_4 7 rfl rfl)
abbrev cX4_isVehicle : ByteArray := prog_25_method_9_code
def yX4_isVehicle : MethodName := ⟨RX4, "isVehicle", "(I)Z"⟩
def dkwX4_isVehicle_0 : List UInt8 := [27, 3, 42, 180, 0, 7, 16, 6, 46, 4, 100, 184, 0, 52, 172]
abbrev dktX4_isVehicle_0 : List UInt8 := dkwX4_isVehicle_0 ++ []
theorem dksX4_isVehicle_0 : cX4_isVehicle.data.toList.drop 0 = dktX4_isVehicle_0 := by decide +kernel
theorem dX4_isVehicle_0 : decode cX4_isVehicle 0 = .ok (.iload_n 1, 1) := dk_27 (dk_at dksX4_isVehicle_0 0 rfl rfl)
theorem dX4_isVehicle_1 : decode cX4_isVehicle 1 = .ok (.iconst 0, 1) := dk_3 (dk_at dksX4_isVehicle_0 1 rfl rfl)
theorem dX4_isVehicle_2 : decode cX4_isVehicle 2 = .ok (.aload_n 0, 1) := dk_42 (dk_at dksX4_isVehicle_0 2 rfl rfl)
theorem dX4_isVehicle_3 : decode cX4_isVehicle 3 = .ok (.getfield 7, 3) := dk_180 0 7 (dk_at dksX4_isVehicle_0 3 rfl rfl)
theorem dX4_isVehicle_6 : decode cX4_isVehicle 6 = .ok (.bipush 6, 2) := dk_16 6 (dk_at dksX4_isVehicle_0 6 rfl rfl)
theorem dX4_isVehicle_8 : decode cX4_isVehicle 8 = .ok (.iaload, 1) := dk_46 (dk_at dksX4_isVehicle_0 8 rfl rfl)
theorem dX4_isVehicle_9 : decode cX4_isVehicle 9 = .ok (.iconst 1, 1) := dk_4 (dk_at dksX4_isVehicle_0 9 rfl rfl)
theorem dX4_isVehicle_10 : decode cX4_isVehicle 10 = .ok (.isub, 1) := dk_100 (dk_at dksX4_isVehicle_0 10 rfl rfl)
theorem dX4_isVehicle_11 : decode cX4_isVehicle 11 = .ok (.invokestatic 52, 3) := dk_184 0 52 (dk_at dksX4_isVehicle_0 11 rfl rfl)
theorem dX4_isVehicle_14 : decode cX4_isVehicle 14 = .ok (.ireturn, 1) := dk_172 (dk_at dksX4_isVehicle_0 14 rfl rfl)
abbrev cX4_isOffset : ByteArray := prog_25_method_24_code
def yX4_isOffset : MethodName := ⟨RX4, "isOffset", "(I)Z"⟩
def dkwX4_isOffset_0 : List UInt8 := [26, 17, 252, 24, 17, 3, 232, 184, 0, 52, 172]
abbrev dktX4_isOffset_0 : List UInt8 := dkwX4_isOffset_0 ++ []
theorem dksX4_isOffset_0 : cX4_isOffset.data.toList.drop 0 = dktX4_isOffset_0 := by decide +kernel
theorem dX4_isOffset_0 : decode cX4_isOffset 0 = .ok (.iload_n 0, 1) := dk_26 (dk_at dksX4_isOffset_0 0 rfl rfl)
theorem dX4_isOffset_1 : decode cX4_isOffset 1 = .ok (.sipush (-1000), 3) := dk_17 252 24 (dk_at dksX4_isOffset_0 1 rfl rfl)
theorem dX4_isOffset_4 : decode cX4_isOffset 4 = .ok (.sipush 1000, 3) := dk_17 3 232 (dk_at dksX4_isOffset_0 4 rfl rfl)
theorem dX4_isOffset_7 : decode cX4_isOffset 7 = .ok (.invokestatic 52, 3) := dk_184 0 52 (dk_at dksX4_isOffset_0 7 rfl rfl)
theorem dX4_isOffset_10 : decode cX4_isOffset 10 = .ok (.ireturn, 1) := dk_172 (dk_at dksX4_isOffset_0 10 rfl rfl)
abbrev cX4_isHeight : ByteArray := prog_25_method_23_code
def yX4_isHeight : MethodName := ⟨RX4, "isHeight", "(I)Z"⟩
def dkwX4_isHeight_0 : List UInt8 := [26, 3, 17, 1, 244, 184, 0, 52, 172]
abbrev dktX4_isHeight_0 : List UInt8 := dkwX4_isHeight_0 ++ []
theorem dksX4_isHeight_0 : cX4_isHeight.data.toList.drop 0 = dktX4_isHeight_0 := by decide +kernel
theorem dX4_isHeight_0 : decode cX4_isHeight 0 = .ok (.iload_n 0, 1) := dk_26 (dk_at dksX4_isHeight_0 0 rfl rfl)
theorem dX4_isHeight_1 : decode cX4_isHeight 1 = .ok (.iconst 0, 1) := dk_3 (dk_at dksX4_isHeight_0 1 rfl rfl)
theorem dX4_isHeight_2 : decode cX4_isHeight 2 = .ok (.sipush 500, 3) := dk_17 1 244 (dk_at dksX4_isHeight_0 2 rfl rfl)
theorem dX4_isHeight_5 : decode cX4_isHeight 5 = .ok (.invokestatic 52, 3) := dk_184 0 52 (dk_at dksX4_isHeight_0 5 rfl rfl)
theorem dX4_isHeight_8 : decode cX4_isHeight 8 = .ok (.ireturn, 1) := dk_172 (dk_at dksX4_isHeight_0 8 rfl rfl)
abbrev cX4_isValue : ByteArray := prog_25_method_25_code
def yX4_isValue : MethodName := ⟨RX4, "isValue", "(I)Z"⟩
def dkwX4_isValue_0 : List UInt8 := [26, 16, 157, 16, 99, 184, 0, 52, 172]
abbrev dktX4_isValue_0 : List UInt8 := dkwX4_isValue_0 ++ []
theorem dksX4_isValue_0 : cX4_isValue.data.toList.drop 0 = dktX4_isValue_0 := by decide +kernel
theorem dX4_isValue_0 : decode cX4_isValue 0 = .ok (.iload_n 0, 1) := dk_26 (dk_at dksX4_isValue_0 0 rfl rfl)
theorem dX4_isValue_1 : decode cX4_isValue 1 = .ok (.bipush (-99), 2) := dk_16 157 (dk_at dksX4_isValue_0 1 rfl rfl)
theorem dX4_isValue_3 : decode cX4_isValue 3 = .ok (.bipush 99, 2) := dk_16 99 (dk_at dksX4_isValue_0 3 rfl rfl)
theorem dX4_isValue_5 : decode cX4_isValue 5 = .ok (.invokestatic 52, 3) := dk_184 0 52 (dk_at dksX4_isValue_0 5 rfl rfl)
theorem dX4_isValue_8 : decode cX4_isValue 8 = .ok (.ireturn, 1) := dk_172 (dk_at dksX4_isValue_0 8 rfl rfl)
abbrev cX4_appendSource : ByteArray := prog_25_method_26_code
def yX4_appendSource : MethodName := ⟨RX4, "appendSource", "(IIII)I"⟩
def dkwX4_appendSource_3 : List UInt8 := [16, 7, 92, 46, 4, 96, 79, 42, 180, 0, 7, 16, 7, 46, 4, 100, 172]
abbrev dktX4_appendSource_3 : List UInt8 := dkwX4_appendSource_3 ++ []
def dkwX4_appendSource_2 : List UInt8 := [180, 0, 7, 21, 5, 6, 96, 21, 4, 79, 42, 180, 0, 7, 21, 5, 7, 96, 3, 79, 42, 180, 0, 7]
abbrev dktX4_appendSource_2 : List UInt8 := dkwX4_appendSource_2 ++ dktX4_appendSource_3
def dkwX4_appendSource_1 : List UInt8 := [79, 42, 180, 0, 7, 21, 5, 4, 96, 28, 79, 42, 180, 0, 7, 21, 5, 5, 96, 29, 79, 42]
abbrev dktX4_appendSource_1 : List UInt8 := dkwX4_appendSource_1 ++ dktX4_appendSource_2
def dkwX4_appendSource_0 : List UInt8 := [16, 28, 16, 21, 42, 180, 0, 7, 16, 7, 46, 104, 96, 54, 5, 42, 180, 0, 7, 21, 5, 3, 96, 27]
abbrev dktX4_appendSource_0 : List UInt8 := dkwX4_appendSource_0 ++ dktX4_appendSource_1
theorem dksX4_appendSource_0 : cX4_appendSource.data.toList.drop 0 = dktX4_appendSource_0 := by decide +kernel
theorem dksX4_appendSource_1 : cX4_appendSource.data.toList.drop 24 = dktX4_appendSource_1 := dk_seg dksX4_appendSource_0 24 rfl rfl
theorem dksX4_appendSource_2 : cX4_appendSource.data.toList.drop 46 = dktX4_appendSource_2 := dk_seg dksX4_appendSource_1 22 rfl rfl
theorem dksX4_appendSource_3 : cX4_appendSource.data.toList.drop 70 = dktX4_appendSource_3 := dk_seg dksX4_appendSource_2 24 rfl rfl
theorem dX4_appendSource_0 : decode cX4_appendSource 0 = .ok (.bipush 28, 2) := dk_16 28 (dk_at dksX4_appendSource_0 0 rfl rfl)
theorem dX4_appendSource_2 : decode cX4_appendSource 2 = .ok (.bipush 21, 2) := dk_16 21 (dk_at dksX4_appendSource_0 2 rfl rfl)
theorem dX4_appendSource_4 : decode cX4_appendSource 4 = .ok (.aload_n 0, 1) := dk_42 (dk_at dksX4_appendSource_0 4 rfl rfl)
theorem dX4_appendSource_5 : decode cX4_appendSource 5 = .ok (.getfield 7, 3) := dk_180 0 7 (dk_at dksX4_appendSource_0 5 rfl rfl)
theorem dX4_appendSource_8 : decode cX4_appendSource 8 = .ok (.bipush 7, 2) := dk_16 7 (dk_at dksX4_appendSource_0 8 rfl rfl)
theorem dX4_appendSource_10 : decode cX4_appendSource 10 = .ok (.iaload, 1) := dk_46 (dk_at dksX4_appendSource_0 10 rfl rfl)
theorem dX4_appendSource_11 : decode cX4_appendSource 11 = .ok (.imul, 1) := dk_104 (dk_at dksX4_appendSource_0 11 rfl rfl)
theorem dX4_appendSource_12 : decode cX4_appendSource 12 = .ok (.iadd, 1) := dk_96 (dk_at dksX4_appendSource_0 12 rfl rfl)
theorem dX4_appendSource_13 : decode cX4_appendSource 13 = .ok (.istore 5, 2) := dk_54 5 (dk_at dksX4_appendSource_0 13 rfl rfl)
theorem dX4_appendSource_15 : decode cX4_appendSource 15 = .ok (.aload_n 0, 1) := dk_42 (dk_at dksX4_appendSource_0 15 rfl rfl)
theorem dX4_appendSource_16 : decode cX4_appendSource 16 = .ok (.getfield 7, 3) := dk_180 0 7 (dk_at dksX4_appendSource_0 16 rfl rfl)
theorem dX4_appendSource_19 : decode cX4_appendSource 19 = .ok (.iload 5, 2) := dk_21 5 (dk_at dksX4_appendSource_0 19 rfl rfl)
theorem dX4_appendSource_21 : decode cX4_appendSource 21 = .ok (.iconst 0, 1) := dk_3 (dk_at dksX4_appendSource_0 21 rfl rfl)
theorem dX4_appendSource_22 : decode cX4_appendSource 22 = .ok (.iadd, 1) := dk_96 (dk_at dksX4_appendSource_0 22 rfl rfl)
theorem dX4_appendSource_23 : decode cX4_appendSource 23 = .ok (.iload_n 1, 1) := dk_27 (dk_at dksX4_appendSource_0 23 rfl rfl)
theorem dX4_appendSource_24 : decode cX4_appendSource 24 = .ok (.iastore, 1) := dk_79 (dk_at dksX4_appendSource_1 0 rfl rfl)
theorem dX4_appendSource_25 : decode cX4_appendSource 25 = .ok (.aload_n 0, 1) := dk_42 (dk_at dksX4_appendSource_1 1 rfl rfl)
theorem dX4_appendSource_26 : decode cX4_appendSource 26 = .ok (.getfield 7, 3) := dk_180 0 7 (dk_at dksX4_appendSource_1 2 rfl rfl)
theorem dX4_appendSource_29 : decode cX4_appendSource 29 = .ok (.iload 5, 2) := dk_21 5 (dk_at dksX4_appendSource_1 5 rfl rfl)
theorem dX4_appendSource_31 : decode cX4_appendSource 31 = .ok (.iconst 1, 1) := dk_4 (dk_at dksX4_appendSource_1 7 rfl rfl)
theorem dX4_appendSource_32 : decode cX4_appendSource 32 = .ok (.iadd, 1) := dk_96 (dk_at dksX4_appendSource_1 8 rfl rfl)
theorem dX4_appendSource_33 : decode cX4_appendSource 33 = .ok (.iload_n 2, 1) := dk_28 (dk_at dksX4_appendSource_1 9 rfl rfl)
theorem dX4_appendSource_34 : decode cX4_appendSource 34 = .ok (.iastore, 1) := dk_79 (dk_at dksX4_appendSource_1 10 rfl rfl)
theorem dX4_appendSource_35 : decode cX4_appendSource 35 = .ok (.aload_n 0, 1) := dk_42 (dk_at dksX4_appendSource_1 11 rfl rfl)
theorem dX4_appendSource_36 : decode cX4_appendSource 36 = .ok (.getfield 7, 3) := dk_180 0 7 (dk_at dksX4_appendSource_1 12 rfl rfl)
theorem dX4_appendSource_39 : decode cX4_appendSource 39 = .ok (.iload 5, 2) := dk_21 5 (dk_at dksX4_appendSource_1 15 rfl rfl)
theorem dX4_appendSource_41 : decode cX4_appendSource 41 = .ok (.iconst 2, 1) := dk_5 (dk_at dksX4_appendSource_1 17 rfl rfl)
theorem dX4_appendSource_42 : decode cX4_appendSource 42 = .ok (.iadd, 1) := dk_96 (dk_at dksX4_appendSource_1 18 rfl rfl)
theorem dX4_appendSource_43 : decode cX4_appendSource 43 = .ok (.iload_n 3, 1) := dk_29 (dk_at dksX4_appendSource_1 19 rfl rfl)
theorem dX4_appendSource_44 : decode cX4_appendSource 44 = .ok (.iastore, 1) := dk_79 (dk_at dksX4_appendSource_1 20 rfl rfl)
theorem dX4_appendSource_45 : decode cX4_appendSource 45 = .ok (.aload_n 0, 1) := dk_42 (dk_at dksX4_appendSource_1 21 rfl rfl)
theorem dX4_appendSource_46 : decode cX4_appendSource 46 = .ok (.getfield 7, 3) := dk_180 0 7 (dk_at dksX4_appendSource_2 0 rfl rfl)
theorem dX4_appendSource_49 : decode cX4_appendSource 49 = .ok (.iload 5, 2) := dk_21 5 (dk_at dksX4_appendSource_2 3 rfl rfl)
theorem dX4_appendSource_51 : decode cX4_appendSource 51 = .ok (.iconst 3, 1) := dk_6 (dk_at dksX4_appendSource_2 5 rfl rfl)
theorem dX4_appendSource_52 : decode cX4_appendSource 52 = .ok (.iadd, 1) := dk_96 (dk_at dksX4_appendSource_2 6 rfl rfl)
theorem dX4_appendSource_53 : decode cX4_appendSource 53 = .ok (.iload 4, 2) := dk_21 4 (dk_at dksX4_appendSource_2 7 rfl rfl)
theorem dX4_appendSource_55 : decode cX4_appendSource 55 = .ok (.iastore, 1) := dk_79 (dk_at dksX4_appendSource_2 9 rfl rfl)
theorem dX4_appendSource_56 : decode cX4_appendSource 56 = .ok (.aload_n 0, 1) := dk_42 (dk_at dksX4_appendSource_2 10 rfl rfl)
theorem dX4_appendSource_57 : decode cX4_appendSource 57 = .ok (.getfield 7, 3) := dk_180 0 7 (dk_at dksX4_appendSource_2 11 rfl rfl)
theorem dX4_appendSource_60 : decode cX4_appendSource 60 = .ok (.iload 5, 2) := dk_21 5 (dk_at dksX4_appendSource_2 14 rfl rfl)
theorem dX4_appendSource_62 : decode cX4_appendSource 62 = .ok (.iconst 4, 1) := dk_7 (dk_at dksX4_appendSource_2 16 rfl rfl)
theorem dX4_appendSource_63 : decode cX4_appendSource 63 = .ok (.iadd, 1) := dk_96 (dk_at dksX4_appendSource_2 17 rfl rfl)
theorem dX4_appendSource_64 : decode cX4_appendSource 64 = .ok (.iconst 0, 1) := dk_3 (dk_at dksX4_appendSource_2 18 rfl rfl)
theorem dX4_appendSource_65 : decode cX4_appendSource 65 = .ok (.iastore, 1) := dk_79 (dk_at dksX4_appendSource_2 19 rfl rfl)
theorem dX4_appendSource_66 : decode cX4_appendSource 66 = .ok (.aload_n 0, 1) := dk_42 (dk_at dksX4_appendSource_2 20 rfl rfl)
theorem dX4_appendSource_67 : decode cX4_appendSource 67 = .ok (.getfield 7, 3) := dk_180 0 7 (dk_at dksX4_appendSource_2 21 rfl rfl)
theorem dX4_appendSource_70 : decode cX4_appendSource 70 = .ok (.bipush 7, 2) := dk_16 7 (dk_at dksX4_appendSource_3 0 rfl rfl)
theorem dX4_appendSource_72 : decode cX4_appendSource 72 = .ok (.dup2, 1) := dk_92 (dk_at dksX4_appendSource_3 2 rfl rfl)
theorem dX4_appendSource_73 : decode cX4_appendSource 73 = .ok (.iaload, 1) := dk_46 (dk_at dksX4_appendSource_3 3 rfl rfl)
theorem dX4_appendSource_74 : decode cX4_appendSource 74 = .ok (.iconst 1, 1) := dk_4 (dk_at dksX4_appendSource_3 4 rfl rfl)
theorem dX4_appendSource_75 : decode cX4_appendSource 75 = .ok (.iadd, 1) := dk_96 (dk_at dksX4_appendSource_3 5 rfl rfl)
theorem dX4_appendSource_76 : decode cX4_appendSource 76 = .ok (.iastore, 1) := dk_79 (dk_at dksX4_appendSource_3 6 rfl rfl)
theorem dX4_appendSource_77 : decode cX4_appendSource 77 = .ok (.aload_n 0, 1) := dk_42 (dk_at dksX4_appendSource_3 7 rfl rfl)
theorem dX4_appendSource_78 : decode cX4_appendSource 78 = .ok (.getfield 7, 3) := dk_180 0 7 (dk_at dksX4_appendSource_3 8 rfl rfl)
theorem dX4_appendSource_81 : decode cX4_appendSource 81 = .ok (.bipush 7, 2) := dk_16 7 (dk_at dksX4_appendSource_3 11 rfl rfl)
theorem dX4_appendSource_83 : decode cX4_appendSource 83 = .ok (.iaload, 1) := dk_46 (dk_at dksX4_appendSource_3 13 rfl rfl)
theorem dX4_appendSource_84 : decode cX4_appendSource 84 = .ok (.iconst 1, 1) := dk_4 (dk_at dksX4_appendSource_3 14 rfl rfl)
theorem dX4_appendSource_85 : decode cX4_appendSource 85 = .ok (.isub, 1) := dk_100 (dk_at dksX4_appendSource_3 15 rfl rfl)
theorem dX4_appendSource_86 : decode cX4_appendSource 86 = .ok (.ireturn, 1) := dk_172 (dk_at dksX4_appendSource_3 16 rfl rfl)
abbrev cX4_appendValue : ByteArray := prog_25_method_27_code
def yX4_appendValue : MethodName := ⟨RX4, "appendValue", "(II)I"⟩
def dkwX4_appendValue_1 : List UInt8 := [28, 79, 42, 180, 0, 7, 29, 7, 96, 92, 46, 4, 96, 79, 42, 180, 0, 7, 29, 7, 96, 46, 172]
abbrev dktX4_appendValue_1 : List UInt8 := dkwX4_appendValue_1 ++ []
def dkwX4_appendValue_0 : List UInt8 := [16, 28, 16, 21, 27, 104, 96, 62, 42, 180, 0, 7, 29, 8, 96, 42, 180, 0, 7, 29, 7, 96, 46, 96]
abbrev dktX4_appendValue_0 : List UInt8 := dkwX4_appendValue_0 ++ dktX4_appendValue_1
theorem dksX4_appendValue_0 : cX4_appendValue.data.toList.drop 0 = dktX4_appendValue_0 := by decide +kernel
theorem dksX4_appendValue_1 : cX4_appendValue.data.toList.drop 24 = dktX4_appendValue_1 := dk_seg dksX4_appendValue_0 24 rfl rfl
theorem dX4_appendValue_0 : decode cX4_appendValue 0 = .ok (.bipush 28, 2) := dk_16 28 (dk_at dksX4_appendValue_0 0 rfl rfl)
theorem dX4_appendValue_2 : decode cX4_appendValue 2 = .ok (.bipush 21, 2) := dk_16 21 (dk_at dksX4_appendValue_0 2 rfl rfl)
theorem dX4_appendValue_4 : decode cX4_appendValue 4 = .ok (.iload_n 1, 1) := dk_27 (dk_at dksX4_appendValue_0 4 rfl rfl)
theorem dX4_appendValue_5 : decode cX4_appendValue 5 = .ok (.imul, 1) := dk_104 (dk_at dksX4_appendValue_0 5 rfl rfl)
theorem dX4_appendValue_6 : decode cX4_appendValue 6 = .ok (.iadd, 1) := dk_96 (dk_at dksX4_appendValue_0 6 rfl rfl)
theorem dX4_appendValue_7 : decode cX4_appendValue 7 = .ok (.istore_n 3, 1) := dk_62 (dk_at dksX4_appendValue_0 7 rfl rfl)
theorem dX4_appendValue_8 : decode cX4_appendValue 8 = .ok (.aload_n 0, 1) := dk_42 (dk_at dksX4_appendValue_0 8 rfl rfl)
theorem dX4_appendValue_9 : decode cX4_appendValue 9 = .ok (.getfield 7, 3) := dk_180 0 7 (dk_at dksX4_appendValue_0 9 rfl rfl)
theorem dX4_appendValue_12 : decode cX4_appendValue 12 = .ok (.iload_n 3, 1) := dk_29 (dk_at dksX4_appendValue_0 12 rfl rfl)
theorem dX4_appendValue_13 : decode cX4_appendValue 13 = .ok (.iconst 5, 1) := dk_8 (dk_at dksX4_appendValue_0 13 rfl rfl)
theorem dX4_appendValue_14 : decode cX4_appendValue 14 = .ok (.iadd, 1) := dk_96 (dk_at dksX4_appendValue_0 14 rfl rfl)
theorem dX4_appendValue_15 : decode cX4_appendValue 15 = .ok (.aload_n 0, 1) := dk_42 (dk_at dksX4_appendValue_0 15 rfl rfl)
theorem dX4_appendValue_16 : decode cX4_appendValue 16 = .ok (.getfield 7, 3) := dk_180 0 7 (dk_at dksX4_appendValue_0 16 rfl rfl)
theorem dX4_appendValue_19 : decode cX4_appendValue 19 = .ok (.iload_n 3, 1) := dk_29 (dk_at dksX4_appendValue_0 19 rfl rfl)
theorem dX4_appendValue_20 : decode cX4_appendValue 20 = .ok (.iconst 4, 1) := dk_7 (dk_at dksX4_appendValue_0 20 rfl rfl)
theorem dX4_appendValue_21 : decode cX4_appendValue 21 = .ok (.iadd, 1) := dk_96 (dk_at dksX4_appendValue_0 21 rfl rfl)
theorem dX4_appendValue_22 : decode cX4_appendValue 22 = .ok (.iaload, 1) := dk_46 (dk_at dksX4_appendValue_0 22 rfl rfl)
theorem dX4_appendValue_23 : decode cX4_appendValue 23 = .ok (.iadd, 1) := dk_96 (dk_at dksX4_appendValue_0 23 rfl rfl)
theorem dX4_appendValue_24 : decode cX4_appendValue 24 = .ok (.iload_n 2, 1) := dk_28 (dk_at dksX4_appendValue_1 0 rfl rfl)
theorem dX4_appendValue_25 : decode cX4_appendValue 25 = .ok (.iastore, 1) := dk_79 (dk_at dksX4_appendValue_1 1 rfl rfl)
theorem dX4_appendValue_26 : decode cX4_appendValue 26 = .ok (.aload_n 0, 1) := dk_42 (dk_at dksX4_appendValue_1 2 rfl rfl)
theorem dX4_appendValue_27 : decode cX4_appendValue 27 = .ok (.getfield 7, 3) := dk_180 0 7 (dk_at dksX4_appendValue_1 3 rfl rfl)
theorem dX4_appendValue_30 : decode cX4_appendValue 30 = .ok (.iload_n 3, 1) := dk_29 (dk_at dksX4_appendValue_1 6 rfl rfl)
theorem dX4_appendValue_31 : decode cX4_appendValue 31 = .ok (.iconst 4, 1) := dk_7 (dk_at dksX4_appendValue_1 7 rfl rfl)
theorem dX4_appendValue_32 : decode cX4_appendValue 32 = .ok (.iadd, 1) := dk_96 (dk_at dksX4_appendValue_1 8 rfl rfl)
theorem dX4_appendValue_33 : decode cX4_appendValue 33 = .ok (.dup2, 1) := dk_92 (dk_at dksX4_appendValue_1 9 rfl rfl)
theorem dX4_appendValue_34 : decode cX4_appendValue 34 = .ok (.iaload, 1) := dk_46 (dk_at dksX4_appendValue_1 10 rfl rfl)
theorem dX4_appendValue_35 : decode cX4_appendValue 35 = .ok (.iconst 1, 1) := dk_4 (dk_at dksX4_appendValue_1 11 rfl rfl)
theorem dX4_appendValue_36 : decode cX4_appendValue 36 = .ok (.iadd, 1) := dk_96 (dk_at dksX4_appendValue_1 12 rfl rfl)
theorem dX4_appendValue_37 : decode cX4_appendValue 37 = .ok (.iastore, 1) := dk_79 (dk_at dksX4_appendValue_1 13 rfl rfl)
theorem dX4_appendValue_38 : decode cX4_appendValue 38 = .ok (.aload_n 0, 1) := dk_42 (dk_at dksX4_appendValue_1 14 rfl rfl)
theorem dX4_appendValue_39 : decode cX4_appendValue 39 = .ok (.getfield 7, 3) := dk_180 0 7 (dk_at dksX4_appendValue_1 15 rfl rfl)
theorem dX4_appendValue_42 : decode cX4_appendValue 42 = .ok (.iload_n 3, 1) := dk_29 (dk_at dksX4_appendValue_1 18 rfl rfl)
theorem dX4_appendValue_43 : decode cX4_appendValue 43 = .ok (.iconst 4, 1) := dk_7 (dk_at dksX4_appendValue_1 19 rfl rfl)
theorem dX4_appendValue_44 : decode cX4_appendValue 44 = .ok (.iadd, 1) := dk_96 (dk_at dksX4_appendValue_1 20 rfl rfl)
theorem dX4_appendValue_45 : decode cX4_appendValue 45 = .ok (.iaload, 1) := dk_46 (dk_at dksX4_appendValue_1 21 rfl rfl)
theorem dX4_appendValue_46 : decode cX4_appendValue 46 = .ok (.ireturn, 1) := dk_172 (dk_at dksX4_appendValue_1 22 rfl rfl)
abbrev cX4_addValue : ByteArray := prog_25_method_29_code
def yX4_addValue : MethodName := ⟨RX4, "addValue", "(II)I"⟩
def dkwX4_addValue_2 : List UInt8 := [182, 0, 64, 167, 0, 9, 42, 27, 28, 182, 0, 91, 172]
abbrev dktX4_addValue_2 : List UInt8 := dkwX4_addValue_2 ++ []
def dkwX4_addValue_1 : List UInt8 := [154, 0, 9, 42, 5, 182, 0, 64, 172, 42, 27, 7, 182, 0, 97, 16, 16, 160, 0, 11, 42, 6]
abbrev dktX4_addValue_1 : List UInt8 := dkwX4_addValue_1 ++ dktX4_addValue_2
def dkwX4_addValue_0 : List UInt8 := [42, 3, 181, 0, 49, 42, 27, 182, 0, 94, 154, 0, 9, 42, 4, 182, 0, 64, 172, 28, 184, 0, 84]
abbrev dktX4_addValue_0 : List UInt8 := dkwX4_addValue_0 ++ dktX4_addValue_1
theorem dksX4_addValue_0 : cX4_addValue.data.toList.drop 0 = dktX4_addValue_0 := by decide +kernel
theorem dksX4_addValue_1 : cX4_addValue.data.toList.drop 23 = dktX4_addValue_1 := dk_seg dksX4_addValue_0 23 rfl rfl
theorem dksX4_addValue_2 : cX4_addValue.data.toList.drop 45 = dktX4_addValue_2 := dk_seg dksX4_addValue_1 22 rfl rfl
theorem dX4_addValue_0 : decode cX4_addValue 0 = .ok (.aload_n 0, 1) := dk_42 (dk_at dksX4_addValue_0 0 rfl rfl)
theorem dX4_addValue_1 : decode cX4_addValue 1 = .ok (.iconst 0, 1) := dk_3 (dk_at dksX4_addValue_0 1 rfl rfl)
theorem dX4_addValue_2 : decode cX4_addValue 2 = .ok (.putfield 49, 3) := dk_181 0 49 (dk_at dksX4_addValue_0 2 rfl rfl)
theorem dX4_addValue_5 : decode cX4_addValue 5 = .ok (.aload_n 0, 1) := dk_42 (dk_at dksX4_addValue_0 5 rfl rfl)
theorem dX4_addValue_6 : decode cX4_addValue 6 = .ok (.iload_n 1, 1) := dk_27 (dk_at dksX4_addValue_0 6 rfl rfl)
theorem dX4_addValue_7 : decode cX4_addValue 7 = .ok (.invokevirtual 94, 3) := dk_182 0 94 (dk_at dksX4_addValue_0 7 rfl rfl)
theorem dX4_addValue_10 : decode cX4_addValue 10 = .ok (.ifCond .ne 9, 3) := dk_154 0 9 (dk_at dksX4_addValue_0 10 rfl rfl)
theorem dX4_addValue_13 : decode cX4_addValue 13 = .ok (.aload_n 0, 1) := dk_42 (dk_at dksX4_addValue_0 13 rfl rfl)
theorem dX4_addValue_14 : decode cX4_addValue 14 = .ok (.iconst 1, 1) := dk_4 (dk_at dksX4_addValue_0 14 rfl rfl)
theorem dX4_addValue_15 : decode cX4_addValue 15 = .ok (.invokevirtual 64, 3) := dk_182 0 64 (dk_at dksX4_addValue_0 15 rfl rfl)
theorem dX4_addValue_18 : decode cX4_addValue 18 = .ok (.ireturn, 1) := dk_172 (dk_at dksX4_addValue_0 18 rfl rfl)
theorem dX4_addValue_19 : decode cX4_addValue 19 = .ok (.iload_n 2, 1) := dk_28 (dk_at dksX4_addValue_0 19 rfl rfl)
theorem dX4_addValue_20 : decode cX4_addValue 20 = .ok (.invokestatic 84, 3) := dk_184 0 84 (dk_at dksX4_addValue_0 20 rfl rfl)
theorem dX4_addValue_23 : decode cX4_addValue 23 = .ok (.ifCond .ne 9, 3) := dk_154 0 9 (dk_at dksX4_addValue_1 0 rfl rfl)
theorem dX4_addValue_26 : decode cX4_addValue 26 = .ok (.aload_n 0, 1) := dk_42 (dk_at dksX4_addValue_1 3 rfl rfl)
theorem dX4_addValue_27 : decode cX4_addValue 27 = .ok (.iconst 2, 1) := dk_5 (dk_at dksX4_addValue_1 4 rfl rfl)
theorem dX4_addValue_28 : decode cX4_addValue 28 = .ok (.invokevirtual 64, 3) := dk_182 0 64 (dk_at dksX4_addValue_1 5 rfl rfl)
theorem dX4_addValue_31 : decode cX4_addValue 31 = .ok (.ireturn, 1) := dk_172 (dk_at dksX4_addValue_1 8 rfl rfl)
theorem dX4_addValue_32 : decode cX4_addValue 32 = .ok (.aload_n 0, 1) := dk_42 (dk_at dksX4_addValue_1 9 rfl rfl)
theorem dX4_addValue_33 : decode cX4_addValue 33 = .ok (.iload_n 1, 1) := dk_27 (dk_at dksX4_addValue_1 10 rfl rfl)
theorem dX4_addValue_34 : decode cX4_addValue 34 = .ok (.iconst 4, 1) := dk_7 (dk_at dksX4_addValue_1 11 rfl rfl)
theorem dX4_addValue_35 : decode cX4_addValue 35 = .ok (.invokevirtual 97, 3) := dk_182 0 97 (dk_at dksX4_addValue_1 12 rfl rfl)
theorem dX4_addValue_38 : decode cX4_addValue 38 = .ok (.bipush 16, 2) := dk_16 16 (dk_at dksX4_addValue_1 15 rfl rfl)
theorem dX4_addValue_40 : decode cX4_addValue 40 = .ok (.if_icmp .ne 11, 3) := dk_160 0 11 (dk_at dksX4_addValue_1 17 rfl rfl)
theorem dX4_addValue_43 : decode cX4_addValue 43 = .ok (.aload_n 0, 1) := dk_42 (dk_at dksX4_addValue_1 20 rfl rfl)
theorem dX4_addValue_44 : decode cX4_addValue 44 = .ok (.iconst 3, 1) := dk_6 (dk_at dksX4_addValue_1 21 rfl rfl)
theorem dX4_addValue_45 : decode cX4_addValue 45 = .ok (.invokevirtual 64, 3) := dk_182 0 64 (dk_at dksX4_addValue_2 0 rfl rfl)
theorem dX4_addValue_48 : decode cX4_addValue 48 = .ok (.goto 9, 3) := dk_167 0 9 (dk_at dksX4_addValue_2 3 rfl rfl)
theorem dX4_addValue_51 : decode cX4_addValue 51 = .ok (.aload_n 0, 1) := dk_42 (dk_at dksX4_addValue_2 6 rfl rfl)
theorem dX4_addValue_52 : decode cX4_addValue 52 = .ok (.iload_n 1, 1) := dk_27 (dk_at dksX4_addValue_2 7 rfl rfl)
theorem dX4_addValue_53 : decode cX4_addValue 53 = .ok (.iload_n 2, 1) := dk_28 (dk_at dksX4_addValue_2 8 rfl rfl)
theorem dX4_addValue_54 : decode cX4_addValue 54 = .ok (.invokevirtual 91, 3) := dk_182 0 91 (dk_at dksX4_addValue_2 9 rfl rfl)
theorem dX4_addValue_57 : decode cX4_addValue 57 = .ok (.ireturn, 1) := dk_172 (dk_at dksX4_addValue_2 12 rfl rfl)
abbrev cX4_isSource : ByteArray := prog_25_method_10_code
def yX4_isSource : MethodName := ⟨RX4, "isSource", "(I)Z"⟩
def dkwX4_isSource_0 : List UInt8 := [27, 3, 42, 180, 0, 7, 16, 7, 46, 4, 100, 184, 0, 52, 172]
abbrev dktX4_isSource_0 : List UInt8 := dkwX4_isSource_0 ++ []
theorem dksX4_isSource_0 : cX4_isSource.data.toList.drop 0 = dktX4_isSource_0 := by decide +kernel
theorem dX4_isSource_0 : decode cX4_isSource 0 = .ok (.iload_n 1, 1) := dk_27 (dk_at dksX4_isSource_0 0 rfl rfl)
theorem dX4_isSource_1 : decode cX4_isSource 1 = .ok (.iconst 0, 1) := dk_3 (dk_at dksX4_isSource_0 1 rfl rfl)
theorem dX4_isSource_2 : decode cX4_isSource 2 = .ok (.aload_n 0, 1) := dk_42 (dk_at dksX4_isSource_0 2 rfl rfl)
theorem dX4_isSource_3 : decode cX4_isSource 3 = .ok (.getfield 7, 3) := dk_180 0 7 (dk_at dksX4_isSource_0 3 rfl rfl)
theorem dX4_isSource_6 : decode cX4_isSource 6 = .ok (.bipush 7, 2) := dk_16 7 (dk_at dksX4_isSource_0 6 rfl rfl)
theorem dX4_isSource_8 : decode cX4_isSource 8 = .ok (.iaload, 1) := dk_46 (dk_at dksX4_isSource_0 8 rfl rfl)
theorem dX4_isSource_9 : decode cX4_isSource 9 = .ok (.iconst 1, 1) := dk_4 (dk_at dksX4_isSource_0 9 rfl rfl)
theorem dX4_isSource_10 : decode cX4_isSource 10 = .ok (.isub, 1) := dk_100 (dk_at dksX4_isSource_0 10 rfl rfl)
theorem dX4_isSource_11 : decode cX4_isSource 11 = .ok (.invokestatic 52, 3) := dk_184 0 52 (dk_at dksX4_isSource_0 11 rfl rfl)
theorem dX4_isSource_14 : decode cX4_isSource 14 = .ok (.ireturn, 1) := dk_172 (dk_at dksX4_isSource_0 14 rfl rfl)
abbrev cX4_source : ByteArray := prog_25_method_13_code
def yX4_source : MethodName := ⟨RX4, "source", "(II)I"⟩
def dkwX4_source_0 : List UInt8 := [42, 180, 0, 7, 16, 28, 16, 21, 27, 104, 96, 28, 96, 46, 172]
abbrev dktX4_source_0 : List UInt8 := dkwX4_source_0 ++ []
theorem dksX4_source_0 : cX4_source.data.toList.drop 0 = dktX4_source_0 := by decide +kernel
theorem dX4_source_0 : decode cX4_source 0 = .ok (.aload_n 0, 1) := dk_42 (dk_at dksX4_source_0 0 rfl rfl)
theorem dX4_source_1 : decode cX4_source 1 = .ok (.getfield 7, 3) := dk_180 0 7 (dk_at dksX4_source_0 1 rfl rfl)
theorem dX4_source_4 : decode cX4_source 4 = .ok (.bipush 28, 2) := dk_16 28 (dk_at dksX4_source_0 4 rfl rfl)
theorem dX4_source_6 : decode cX4_source 6 = .ok (.bipush 21, 2) := dk_16 21 (dk_at dksX4_source_0 6 rfl rfl)
theorem dX4_source_8 : decode cX4_source 8 = .ok (.iload_n 1, 1) := dk_27 (dk_at dksX4_source_0 8 rfl rfl)
theorem dX4_source_9 : decode cX4_source 9 = .ok (.imul, 1) := dk_104 (dk_at dksX4_source_0 9 rfl rfl)
theorem dX4_source_10 : decode cX4_source 10 = .ok (.iadd, 1) := dk_96 (dk_at dksX4_source_0 10 rfl rfl)
theorem dX4_source_11 : decode cX4_source 11 = .ok (.iload_n 2, 1) := dk_28 (dk_at dksX4_source_0 11 rfl rfl)
theorem dX4_source_12 : decode cX4_source 12 = .ok (.iadd, 1) := dk_96 (dk_at dksX4_source_0 12 rfl rfl)
theorem dX4_source_13 : decode cX4_source 13 = .ok (.iaload, 1) := dk_46 (dk_at dksX4_source_0 13 rfl rfl)
theorem dX4_source_14 : decode cX4_source 14 = .ok (.ireturn, 1) := dk_172 (dk_at dksX4_source_0 14 rfl rfl)
abbrev cX4_addMicrophone : ByteArray := prog_25_method_32_code
def yX4_addMicrophone : MethodName := ⟨RX4, "addMicrophone", "(IIII)I"⟩
def dkwX4_addMicrophone_2 : List UInt8 := [182, 0, 64, 167, 0, 12, 42, 27, 28, 29, 21, 4, 182, 0, 103, 172]
abbrev dktX4_addMicrophone_2 : List UInt8 := dkwX4_addMicrophone_2 ++ []
def dkwX4_addMicrophone_1 : List UInt8 := [154, 0, 9, 42, 4, 182, 0, 64, 172, 42, 180, 0, 7, 16, 8, 46, 16, 8, 160, 0, 11, 42, 5]
abbrev dktX4_addMicrophone_1 : List UInt8 := dkwX4_addMicrophone_1 ++ dktX4_addMicrophone_2
def dkwX4_addMicrophone_0 : List UInt8 := [42, 3, 181, 0, 49, 27, 28, 29, 184, 0, 100, 153, 0, 14, 21, 4, 3, 16, 9, 184, 0, 52]
abbrev dktX4_addMicrophone_0 : List UInt8 := dkwX4_addMicrophone_0 ++ dktX4_addMicrophone_1
theorem dksX4_addMicrophone_0 : cX4_addMicrophone.data.toList.drop 0 = dktX4_addMicrophone_0 := by decide +kernel
theorem dksX4_addMicrophone_1 : cX4_addMicrophone.data.toList.drop 22 = dktX4_addMicrophone_1 := dk_seg dksX4_addMicrophone_0 22 rfl rfl
theorem dksX4_addMicrophone_2 : cX4_addMicrophone.data.toList.drop 45 = dktX4_addMicrophone_2 := dk_seg dksX4_addMicrophone_1 23 rfl rfl
theorem dX4_addMicrophone_0 : decode cX4_addMicrophone 0 = .ok (.aload_n 0, 1) := dk_42 (dk_at dksX4_addMicrophone_0 0 rfl rfl)
theorem dX4_addMicrophone_1 : decode cX4_addMicrophone 1 = .ok (.iconst 0, 1) := dk_3 (dk_at dksX4_addMicrophone_0 1 rfl rfl)
theorem dX4_addMicrophone_2 : decode cX4_addMicrophone 2 = .ok (.putfield 49, 3) := dk_181 0 49 (dk_at dksX4_addMicrophone_0 2 rfl rfl)
theorem dX4_addMicrophone_5 : decode cX4_addMicrophone 5 = .ok (.iload_n 1, 1) := dk_27 (dk_at dksX4_addMicrophone_0 5 rfl rfl)
theorem dX4_addMicrophone_6 : decode cX4_addMicrophone 6 = .ok (.iload_n 2, 1) := dk_28 (dk_at dksX4_addMicrophone_0 6 rfl rfl)
theorem dX4_addMicrophone_7 : decode cX4_addMicrophone 7 = .ok (.iload_n 3, 1) := dk_29 (dk_at dksX4_addMicrophone_0 7 rfl rfl)
theorem dX4_addMicrophone_8 : decode cX4_addMicrophone 8 = .ok (.invokestatic 100, 3) := dk_184 0 100 (dk_at dksX4_addMicrophone_0 8 rfl rfl)
theorem dX4_addMicrophone_11 : decode cX4_addMicrophone 11 = .ok (.ifCond .eq 14, 3) := dk_153 0 14 (dk_at dksX4_addMicrophone_0 11 rfl rfl)
theorem dX4_addMicrophone_14 : decode cX4_addMicrophone 14 = .ok (.iload 4, 2) := dk_21 4 (dk_at dksX4_addMicrophone_0 14 rfl rfl)
theorem dX4_addMicrophone_16 : decode cX4_addMicrophone 16 = .ok (.iconst 0, 1) := dk_3 (dk_at dksX4_addMicrophone_0 16 rfl rfl)
theorem dX4_addMicrophone_17 : decode cX4_addMicrophone 17 = .ok (.bipush 9, 2) := dk_16 9 (dk_at dksX4_addMicrophone_0 17 rfl rfl)
theorem dX4_addMicrophone_19 : decode cX4_addMicrophone 19 = .ok (.invokestatic 52, 3) := dk_184 0 52 (dk_at dksX4_addMicrophone_0 19 rfl rfl)
theorem dX4_addMicrophone_22 : decode cX4_addMicrophone 22 = .ok (.ifCond .ne 9, 3) := dk_154 0 9 (dk_at dksX4_addMicrophone_1 0 rfl rfl)
theorem dX4_addMicrophone_25 : decode cX4_addMicrophone 25 = .ok (.aload_n 0, 1) := dk_42 (dk_at dksX4_addMicrophone_1 3 rfl rfl)
theorem dX4_addMicrophone_26 : decode cX4_addMicrophone 26 = .ok (.iconst 1, 1) := dk_4 (dk_at dksX4_addMicrophone_1 4 rfl rfl)
theorem dX4_addMicrophone_27 : decode cX4_addMicrophone 27 = .ok (.invokevirtual 64, 3) := dk_182 0 64 (dk_at dksX4_addMicrophone_1 5 rfl rfl)
theorem dX4_addMicrophone_30 : decode cX4_addMicrophone 30 = .ok (.ireturn, 1) := dk_172 (dk_at dksX4_addMicrophone_1 8 rfl rfl)
theorem dX4_addMicrophone_31 : decode cX4_addMicrophone 31 = .ok (.aload_n 0, 1) := dk_42 (dk_at dksX4_addMicrophone_1 9 rfl rfl)
theorem dX4_addMicrophone_32 : decode cX4_addMicrophone 32 = .ok (.getfield 7, 3) := dk_180 0 7 (dk_at dksX4_addMicrophone_1 10 rfl rfl)
theorem dX4_addMicrophone_35 : decode cX4_addMicrophone 35 = .ok (.bipush 8, 2) := dk_16 8 (dk_at dksX4_addMicrophone_1 13 rfl rfl)
theorem dX4_addMicrophone_37 : decode cX4_addMicrophone 37 = .ok (.iaload, 1) := dk_46 (dk_at dksX4_addMicrophone_1 15 rfl rfl)
theorem dX4_addMicrophone_38 : decode cX4_addMicrophone 38 = .ok (.bipush 8, 2) := dk_16 8 (dk_at dksX4_addMicrophone_1 16 rfl rfl)
theorem dX4_addMicrophone_40 : decode cX4_addMicrophone 40 = .ok (.if_icmp .ne 11, 3) := dk_160 0 11 (dk_at dksX4_addMicrophone_1 18 rfl rfl)
theorem dX4_addMicrophone_43 : decode cX4_addMicrophone 43 = .ok (.aload_n 0, 1) := dk_42 (dk_at dksX4_addMicrophone_1 21 rfl rfl)
theorem dX4_addMicrophone_44 : decode cX4_addMicrophone 44 = .ok (.iconst 2, 1) := dk_5 (dk_at dksX4_addMicrophone_1 22 rfl rfl)
theorem dX4_addMicrophone_45 : decode cX4_addMicrophone 45 = .ok (.invokevirtual 64, 3) := dk_182 0 64 (dk_at dksX4_addMicrophone_2 0 rfl rfl)
theorem dX4_addMicrophone_48 : decode cX4_addMicrophone 48 = .ok (.goto 12, 3) := dk_167 0 12 (dk_at dksX4_addMicrophone_2 3 rfl rfl)
theorem dX4_addMicrophone_51 : decode cX4_addMicrophone 51 = .ok (.aload_n 0, 1) := dk_42 (dk_at dksX4_addMicrophone_2 6 rfl rfl)
theorem dX4_addMicrophone_52 : decode cX4_addMicrophone 52 = .ok (.iload_n 1, 1) := dk_27 (dk_at dksX4_addMicrophone_2 7 rfl rfl)
theorem dX4_addMicrophone_53 : decode cX4_addMicrophone 53 = .ok (.iload_n 2, 1) := dk_28 (dk_at dksX4_addMicrophone_2 8 rfl rfl)
theorem dX4_addMicrophone_54 : decode cX4_addMicrophone 54 = .ok (.iload_n 3, 1) := dk_29 (dk_at dksX4_addMicrophone_2 9 rfl rfl)
theorem dX4_addMicrophone_55 : decode cX4_addMicrophone 55 = .ok (.iload 4, 2) := dk_21 4 (dk_at dksX4_addMicrophone_2 10 rfl rfl)
theorem dX4_addMicrophone_57 : decode cX4_addMicrophone 57 = .ok (.invokevirtual 103, 3) := dk_182 0 103 (dk_at dksX4_addMicrophone_2 12 rfl rfl)
theorem dX4_addMicrophone_60 : decode cX4_addMicrophone 60 = .ok (.ireturn, 1) := dk_172 (dk_at dksX4_addMicrophone_2 15 rfl rfl)
abbrev cX4_isMicrophonePlace : ByteArray := prog_25_method_30_code
def yX4_isMicrophonePlace : MethodName := ⟨RX4, "isMicrophonePlace", "(III)Z"⟩
def dkwX4_isMicrophonePlace_1 : List UInt8 := [28, 184, 0, 81, 153, 0, 7, 4, 167, 0, 4, 3, 172]
abbrev dktX4_isMicrophonePlace_1 : List UInt8 := dkwX4_isMicrophonePlace_1 ++ []
def dkwX4_isMicrophonePlace_0 : List UInt8 := [26, 17, 236, 120, 17, 19, 136, 184, 0, 52, 153, 0, 25, 27, 16, 156, 16, 99, 184, 0, 52, 153, 0, 14]
abbrev dktX4_isMicrophonePlace_0 : List UInt8 := dkwX4_isMicrophonePlace_0 ++ dktX4_isMicrophonePlace_1
theorem dksX4_isMicrophonePlace_0 : cX4_isMicrophonePlace.data.toList.drop 0 = dktX4_isMicrophonePlace_0 := by decide +kernel
theorem dksX4_isMicrophonePlace_1 : cX4_isMicrophonePlace.data.toList.drop 24 = dktX4_isMicrophonePlace_1 := dk_seg dksX4_isMicrophonePlace_0 24 rfl rfl
theorem dX4_isMicrophonePlace_0 : decode cX4_isMicrophonePlace 0 = .ok (.iload_n 0, 1) := dk_26 (dk_at dksX4_isMicrophonePlace_0 0 rfl rfl)
theorem dX4_isMicrophonePlace_1 : decode cX4_isMicrophonePlace 1 = .ok (.sipush (-5000), 3) := dk_17 236 120 (dk_at dksX4_isMicrophonePlace_0 1 rfl rfl)
theorem dX4_isMicrophonePlace_4 : decode cX4_isMicrophonePlace 4 = .ok (.sipush 5000, 3) := dk_17 19 136 (dk_at dksX4_isMicrophonePlace_0 4 rfl rfl)
theorem dX4_isMicrophonePlace_7 : decode cX4_isMicrophonePlace 7 = .ok (.invokestatic 52, 3) := dk_184 0 52 (dk_at dksX4_isMicrophonePlace_0 7 rfl rfl)
theorem dX4_isMicrophonePlace_10 : decode cX4_isMicrophonePlace 10 = .ok (.ifCond .eq 25, 3) := dk_153 0 25 (dk_at dksX4_isMicrophonePlace_0 10 rfl rfl)
theorem dX4_isMicrophonePlace_13 : decode cX4_isMicrophonePlace 13 = .ok (.iload_n 1, 1) := dk_27 (dk_at dksX4_isMicrophonePlace_0 13 rfl rfl)
theorem dX4_isMicrophonePlace_14 : decode cX4_isMicrophonePlace 14 = .ok (.bipush (-100), 2) := dk_16 156 (dk_at dksX4_isMicrophonePlace_0 14 rfl rfl)
theorem dX4_isMicrophonePlace_16 : decode cX4_isMicrophonePlace 16 = .ok (.bipush 99, 2) := dk_16 99 (dk_at dksX4_isMicrophonePlace_0 16 rfl rfl)
theorem dX4_isMicrophonePlace_18 : decode cX4_isMicrophonePlace 18 = .ok (.invokestatic 52, 3) := dk_184 0 52 (dk_at dksX4_isMicrophonePlace_0 18 rfl rfl)
theorem dX4_isMicrophonePlace_21 : decode cX4_isMicrophonePlace 21 = .ok (.ifCond .eq 14, 3) := dk_153 0 14 (dk_at dksX4_isMicrophonePlace_0 21 rfl rfl)
theorem dX4_isMicrophonePlace_24 : decode cX4_isMicrophonePlace 24 = .ok (.iload_n 2, 1) := dk_28 (dk_at dksX4_isMicrophonePlace_1 0 rfl rfl)
theorem dX4_isMicrophonePlace_25 : decode cX4_isMicrophonePlace 25 = .ok (.invokestatic 81, 3) := dk_184 0 81 (dk_at dksX4_isMicrophonePlace_1 1 rfl rfl)
theorem dX4_isMicrophonePlace_28 : decode cX4_isMicrophonePlace 28 = .ok (.ifCond .eq 7, 3) := dk_153 0 7 (dk_at dksX4_isMicrophonePlace_1 4 rfl rfl)
theorem dX4_isMicrophonePlace_31 : decode cX4_isMicrophonePlace 31 = .ok (.iconst 1, 1) := dk_4 (dk_at dksX4_isMicrophonePlace_1 7 rfl rfl)
theorem dX4_isMicrophonePlace_32 : decode cX4_isMicrophonePlace 32 = .ok (.goto 4, 3) := dk_167 0 4 (dk_at dksX4_isMicrophonePlace_1 8 rfl rfl)
theorem dX4_isMicrophonePlace_35 : decode cX4_isMicrophonePlace 35 = .ok (.iconst 0, 1) := dk_3 (dk_at dksX4_isMicrophonePlace_1 11 rfl rfl)
theorem dX4_isMicrophonePlace_36 : decode cX4_isMicrophonePlace 36 = .ok (.ireturn, 1) := dk_172 (dk_at dksX4_isMicrophonePlace_1 12 rfl rfl)
abbrev cX4_appendMicrophone : ByteArray := prog_25_method_31_code
def yX4_appendMicrophone : MethodName := ⟨RX4, "appendMicrophone", "(IIII)I"⟩
def dkwX4_appendMicrophone_3 : List UInt8 := [180, 0, 7, 16, 8, 46, 4, 100, 172]
abbrev dktX4_appendMicrophone_3 : List UInt8 := dkwX4_appendMicrophone_3 ++ []
def dkwX4_appendMicrophone_2 : List UInt8 := [180, 0, 7, 21, 5, 6, 96, 21, 4, 79, 42, 180, 0, 7, 16, 8, 92, 46, 4, 96, 79, 42]
abbrev dktX4_appendMicrophone_2 : List UInt8 := dkwX4_appendMicrophone_2 ++ dktX4_appendMicrophone_3
def dkwX4_appendMicrophone_1 : List UInt8 := [79, 42, 180, 0, 7, 21, 5, 4, 96, 28, 79, 42, 180, 0, 7, 21, 5, 5, 96, 29, 79, 42]
abbrev dktX4_appendMicrophone_1 : List UInt8 := dkwX4_appendMicrophone_1 ++ dktX4_appendMicrophone_2
def dkwX4_appendMicrophone_0 : List UInt8 := [17, 0, 154, 7, 42, 180, 0, 7, 16, 8, 46, 104, 96, 54, 5, 42, 180, 0, 7, 21, 5, 3, 96, 27]
abbrev dktX4_appendMicrophone_0 : List UInt8 := dkwX4_appendMicrophone_0 ++ dktX4_appendMicrophone_1
theorem dksX4_appendMicrophone_0 : cX4_appendMicrophone.data.toList.drop 0 = dktX4_appendMicrophone_0 := by decide +kernel
theorem dksX4_appendMicrophone_1 : cX4_appendMicrophone.data.toList.drop 24 = dktX4_appendMicrophone_1 := dk_seg dksX4_appendMicrophone_0 24 rfl rfl
theorem dksX4_appendMicrophone_2 : cX4_appendMicrophone.data.toList.drop 46 = dktX4_appendMicrophone_2 := dk_seg dksX4_appendMicrophone_1 22 rfl rfl
theorem dksX4_appendMicrophone_3 : cX4_appendMicrophone.data.toList.drop 68 = dktX4_appendMicrophone_3 := dk_seg dksX4_appendMicrophone_2 22 rfl rfl
theorem dX4_appendMicrophone_0 : decode cX4_appendMicrophone 0 = .ok (.sipush 154, 3) := dk_17 0 154 (dk_at dksX4_appendMicrophone_0 0 rfl rfl)
theorem dX4_appendMicrophone_3 : decode cX4_appendMicrophone 3 = .ok (.iconst 4, 1) := dk_7 (dk_at dksX4_appendMicrophone_0 3 rfl rfl)
theorem dX4_appendMicrophone_4 : decode cX4_appendMicrophone 4 = .ok (.aload_n 0, 1) := dk_42 (dk_at dksX4_appendMicrophone_0 4 rfl rfl)
theorem dX4_appendMicrophone_5 : decode cX4_appendMicrophone 5 = .ok (.getfield 7, 3) := dk_180 0 7 (dk_at dksX4_appendMicrophone_0 5 rfl rfl)
theorem dX4_appendMicrophone_8 : decode cX4_appendMicrophone 8 = .ok (.bipush 8, 2) := dk_16 8 (dk_at dksX4_appendMicrophone_0 8 rfl rfl)
theorem dX4_appendMicrophone_10 : decode cX4_appendMicrophone 10 = .ok (.iaload, 1) := dk_46 (dk_at dksX4_appendMicrophone_0 10 rfl rfl)
theorem dX4_appendMicrophone_11 : decode cX4_appendMicrophone 11 = .ok (.imul, 1) := dk_104 (dk_at dksX4_appendMicrophone_0 11 rfl rfl)
theorem dX4_appendMicrophone_12 : decode cX4_appendMicrophone 12 = .ok (.iadd, 1) := dk_96 (dk_at dksX4_appendMicrophone_0 12 rfl rfl)
theorem dX4_appendMicrophone_13 : decode cX4_appendMicrophone 13 = .ok (.istore 5, 2) := dk_54 5 (dk_at dksX4_appendMicrophone_0 13 rfl rfl)
theorem dX4_appendMicrophone_15 : decode cX4_appendMicrophone 15 = .ok (.aload_n 0, 1) := dk_42 (dk_at dksX4_appendMicrophone_0 15 rfl rfl)
theorem dX4_appendMicrophone_16 : decode cX4_appendMicrophone 16 = .ok (.getfield 7, 3) := dk_180 0 7 (dk_at dksX4_appendMicrophone_0 16 rfl rfl)
theorem dX4_appendMicrophone_19 : decode cX4_appendMicrophone 19 = .ok (.iload 5, 2) := dk_21 5 (dk_at dksX4_appendMicrophone_0 19 rfl rfl)
theorem dX4_appendMicrophone_21 : decode cX4_appendMicrophone 21 = .ok (.iconst 0, 1) := dk_3 (dk_at dksX4_appendMicrophone_0 21 rfl rfl)
theorem dX4_appendMicrophone_22 : decode cX4_appendMicrophone 22 = .ok (.iadd, 1) := dk_96 (dk_at dksX4_appendMicrophone_0 22 rfl rfl)
theorem dX4_appendMicrophone_23 : decode cX4_appendMicrophone 23 = .ok (.iload_n 1, 1) := dk_27 (dk_at dksX4_appendMicrophone_0 23 rfl rfl)
theorem dX4_appendMicrophone_24 : decode cX4_appendMicrophone 24 = .ok (.iastore, 1) := dk_79 (dk_at dksX4_appendMicrophone_1 0 rfl rfl)
theorem dX4_appendMicrophone_25 : decode cX4_appendMicrophone 25 = .ok (.aload_n 0, 1) := dk_42 (dk_at dksX4_appendMicrophone_1 1 rfl rfl)
theorem dX4_appendMicrophone_26 : decode cX4_appendMicrophone 26 = .ok (.getfield 7, 3) := dk_180 0 7 (dk_at dksX4_appendMicrophone_1 2 rfl rfl)
theorem dX4_appendMicrophone_29 : decode cX4_appendMicrophone 29 = .ok (.iload 5, 2) := dk_21 5 (dk_at dksX4_appendMicrophone_1 5 rfl rfl)
theorem dX4_appendMicrophone_31 : decode cX4_appendMicrophone 31 = .ok (.iconst 1, 1) := dk_4 (dk_at dksX4_appendMicrophone_1 7 rfl rfl)
theorem dX4_appendMicrophone_32 : decode cX4_appendMicrophone 32 = .ok (.iadd, 1) := dk_96 (dk_at dksX4_appendMicrophone_1 8 rfl rfl)
theorem dX4_appendMicrophone_33 : decode cX4_appendMicrophone 33 = .ok (.iload_n 2, 1) := dk_28 (dk_at dksX4_appendMicrophone_1 9 rfl rfl)
theorem dX4_appendMicrophone_34 : decode cX4_appendMicrophone 34 = .ok (.iastore, 1) := dk_79 (dk_at dksX4_appendMicrophone_1 10 rfl rfl)
theorem dX4_appendMicrophone_35 : decode cX4_appendMicrophone 35 = .ok (.aload_n 0, 1) := dk_42 (dk_at dksX4_appendMicrophone_1 11 rfl rfl)
theorem dX4_appendMicrophone_36 : decode cX4_appendMicrophone 36 = .ok (.getfield 7, 3) := dk_180 0 7 (dk_at dksX4_appendMicrophone_1 12 rfl rfl)
theorem dX4_appendMicrophone_39 : decode cX4_appendMicrophone 39 = .ok (.iload 5, 2) := dk_21 5 (dk_at dksX4_appendMicrophone_1 15 rfl rfl)
theorem dX4_appendMicrophone_41 : decode cX4_appendMicrophone 41 = .ok (.iconst 2, 1) := dk_5 (dk_at dksX4_appendMicrophone_1 17 rfl rfl)
theorem dX4_appendMicrophone_42 : decode cX4_appendMicrophone 42 = .ok (.iadd, 1) := dk_96 (dk_at dksX4_appendMicrophone_1 18 rfl rfl)
theorem dX4_appendMicrophone_43 : decode cX4_appendMicrophone 43 = .ok (.iload_n 3, 1) := dk_29 (dk_at dksX4_appendMicrophone_1 19 rfl rfl)
theorem dX4_appendMicrophone_44 : decode cX4_appendMicrophone 44 = .ok (.iastore, 1) := dk_79 (dk_at dksX4_appendMicrophone_1 20 rfl rfl)
theorem dX4_appendMicrophone_45 : decode cX4_appendMicrophone 45 = .ok (.aload_n 0, 1) := dk_42 (dk_at dksX4_appendMicrophone_1 21 rfl rfl)
theorem dX4_appendMicrophone_46 : decode cX4_appendMicrophone 46 = .ok (.getfield 7, 3) := dk_180 0 7 (dk_at dksX4_appendMicrophone_2 0 rfl rfl)
theorem dX4_appendMicrophone_49 : decode cX4_appendMicrophone 49 = .ok (.iload 5, 2) := dk_21 5 (dk_at dksX4_appendMicrophone_2 3 rfl rfl)
theorem dX4_appendMicrophone_51 : decode cX4_appendMicrophone 51 = .ok (.iconst 3, 1) := dk_6 (dk_at dksX4_appendMicrophone_2 5 rfl rfl)
theorem dX4_appendMicrophone_52 : decode cX4_appendMicrophone 52 = .ok (.iadd, 1) := dk_96 (dk_at dksX4_appendMicrophone_2 6 rfl rfl)
theorem dX4_appendMicrophone_53 : decode cX4_appendMicrophone 53 = .ok (.iload 4, 2) := dk_21 4 (dk_at dksX4_appendMicrophone_2 7 rfl rfl)
theorem dX4_appendMicrophone_55 : decode cX4_appendMicrophone 55 = .ok (.iastore, 1) := dk_79 (dk_at dksX4_appendMicrophone_2 9 rfl rfl)
theorem dX4_appendMicrophone_56 : decode cX4_appendMicrophone 56 = .ok (.aload_n 0, 1) := dk_42 (dk_at dksX4_appendMicrophone_2 10 rfl rfl)
theorem dX4_appendMicrophone_57 : decode cX4_appendMicrophone 57 = .ok (.getfield 7, 3) := dk_180 0 7 (dk_at dksX4_appendMicrophone_2 11 rfl rfl)
theorem dX4_appendMicrophone_60 : decode cX4_appendMicrophone 60 = .ok (.bipush 8, 2) := dk_16 8 (dk_at dksX4_appendMicrophone_2 14 rfl rfl)
theorem dX4_appendMicrophone_62 : decode cX4_appendMicrophone 62 = .ok (.dup2, 1) := dk_92 (dk_at dksX4_appendMicrophone_2 16 rfl rfl)
theorem dX4_appendMicrophone_63 : decode cX4_appendMicrophone 63 = .ok (.iaload, 1) := dk_46 (dk_at dksX4_appendMicrophone_2 17 rfl rfl)
theorem dX4_appendMicrophone_64 : decode cX4_appendMicrophone 64 = .ok (.iconst 1, 1) := dk_4 (dk_at dksX4_appendMicrophone_2 18 rfl rfl)
theorem dX4_appendMicrophone_65 : decode cX4_appendMicrophone 65 = .ok (.iadd, 1) := dk_96 (dk_at dksX4_appendMicrophone_2 19 rfl rfl)
theorem dX4_appendMicrophone_66 : decode cX4_appendMicrophone 66 = .ok (.iastore, 1) := dk_79 (dk_at dksX4_appendMicrophone_2 20 rfl rfl)
theorem dX4_appendMicrophone_67 : decode cX4_appendMicrophone 67 = .ok (.aload_n 0, 1) := dk_42 (dk_at dksX4_appendMicrophone_2 21 rfl rfl)
theorem dX4_appendMicrophone_68 : decode cX4_appendMicrophone 68 = .ok (.getfield 7, 3) := dk_180 0 7 (dk_at dksX4_appendMicrophone_3 0 rfl rfl)
theorem dX4_appendMicrophone_71 : decode cX4_appendMicrophone 71 = .ok (.bipush 8, 2) := dk_16 8 (dk_at dksX4_appendMicrophone_3 3 rfl rfl)
theorem dX4_appendMicrophone_73 : decode cX4_appendMicrophone 73 = .ok (.iaload, 1) := dk_46 (dk_at dksX4_appendMicrophone_3 5 rfl rfl)
theorem dX4_appendMicrophone_74 : decode cX4_appendMicrophone 74 = .ok (.iconst 1, 1) := dk_4 (dk_at dksX4_appendMicrophone_3 6 rfl rfl)
theorem dX4_appendMicrophone_75 : decode cX4_appendMicrophone 75 = .ok (.isub, 1) := dk_100 (dk_at dksX4_appendMicrophone_3 7 rfl rfl)
theorem dX4_appendMicrophone_76 : decode cX4_appendMicrophone 76 = .ok (.ireturn, 1) := dk_172 (dk_at dksX4_appendMicrophone_3 8 rfl rfl)
abbrev cX4_setWeight : ByteArray := prog_25_method_33_code
def yX4_setWeight : MethodName := ⟨RX4, "setWeight", "(II)I"⟩
def dkwX4_setWeight_2 : List UInt8 := [5, 182, 0, 64, 172]
abbrev dktX4_setWeight_2 : List UInt8 := dkwX4_setWeight_2 ++ []
def dkwX4_setWeight_1 : List UInt8 := [184, 0, 52, 153, 0, 20, 42, 17, 0, 154, 7, 27, 104, 96, 6, 96, 28, 182, 0, 60, 167, 0, 8, 42]
abbrev dktX4_setWeight_1 : List UInt8 := dkwX4_setWeight_1 ++ dktX4_setWeight_2
def dkwX4_setWeight_0 : List UInt8 := [42, 3, 181, 0, 49, 42, 27, 182, 0, 106, 154, 0, 9, 42, 4, 182, 0, 64, 172, 28, 3, 16, 9]
abbrev dktX4_setWeight_0 : List UInt8 := dkwX4_setWeight_0 ++ dktX4_setWeight_1
theorem dksX4_setWeight_0 : cX4_setWeight.data.toList.drop 0 = dktX4_setWeight_0 := by decide +kernel
theorem dksX4_setWeight_1 : cX4_setWeight.data.toList.drop 23 = dktX4_setWeight_1 := dk_seg dksX4_setWeight_0 23 rfl rfl
theorem dksX4_setWeight_2 : cX4_setWeight.data.toList.drop 47 = dktX4_setWeight_2 := dk_seg dksX4_setWeight_1 24 rfl rfl
theorem dX4_setWeight_0 : decode cX4_setWeight 0 = .ok (.aload_n 0, 1) := dk_42 (dk_at dksX4_setWeight_0 0 rfl rfl)
theorem dX4_setWeight_1 : decode cX4_setWeight 1 = .ok (.iconst 0, 1) := dk_3 (dk_at dksX4_setWeight_0 1 rfl rfl)
theorem dX4_setWeight_2 : decode cX4_setWeight 2 = .ok (.putfield 49, 3) := dk_181 0 49 (dk_at dksX4_setWeight_0 2 rfl rfl)
theorem dX4_setWeight_5 : decode cX4_setWeight 5 = .ok (.aload_n 0, 1) := dk_42 (dk_at dksX4_setWeight_0 5 rfl rfl)
theorem dX4_setWeight_6 : decode cX4_setWeight 6 = .ok (.iload_n 1, 1) := dk_27 (dk_at dksX4_setWeight_0 6 rfl rfl)
theorem dX4_setWeight_7 : decode cX4_setWeight 7 = .ok (.invokevirtual 106, 3) := dk_182 0 106 (dk_at dksX4_setWeight_0 7 rfl rfl)
theorem dX4_setWeight_10 : decode cX4_setWeight 10 = .ok (.ifCond .ne 9, 3) := dk_154 0 9 (dk_at dksX4_setWeight_0 10 rfl rfl)
theorem dX4_setWeight_13 : decode cX4_setWeight 13 = .ok (.aload_n 0, 1) := dk_42 (dk_at dksX4_setWeight_0 13 rfl rfl)
theorem dX4_setWeight_14 : decode cX4_setWeight 14 = .ok (.iconst 1, 1) := dk_4 (dk_at dksX4_setWeight_0 14 rfl rfl)
theorem dX4_setWeight_15 : decode cX4_setWeight 15 = .ok (.invokevirtual 64, 3) := dk_182 0 64 (dk_at dksX4_setWeight_0 15 rfl rfl)
theorem dX4_setWeight_18 : decode cX4_setWeight 18 = .ok (.ireturn, 1) := dk_172 (dk_at dksX4_setWeight_0 18 rfl rfl)
theorem dX4_setWeight_19 : decode cX4_setWeight 19 = .ok (.iload_n 2, 1) := dk_28 (dk_at dksX4_setWeight_0 19 rfl rfl)
theorem dX4_setWeight_20 : decode cX4_setWeight 20 = .ok (.iconst 0, 1) := dk_3 (dk_at dksX4_setWeight_0 20 rfl rfl)
theorem dX4_setWeight_21 : decode cX4_setWeight 21 = .ok (.bipush 9, 2) := dk_16 9 (dk_at dksX4_setWeight_0 21 rfl rfl)
theorem dX4_setWeight_23 : decode cX4_setWeight 23 = .ok (.invokestatic 52, 3) := dk_184 0 52 (dk_at dksX4_setWeight_1 0 rfl rfl)
theorem dX4_setWeight_26 : decode cX4_setWeight 26 = .ok (.ifCond .eq 20, 3) := dk_153 0 20 (dk_at dksX4_setWeight_1 3 rfl rfl)
theorem dX4_setWeight_29 : decode cX4_setWeight 29 = .ok (.aload_n 0, 1) := dk_42 (dk_at dksX4_setWeight_1 6 rfl rfl)
theorem dX4_setWeight_30 : decode cX4_setWeight 30 = .ok (.sipush 154, 3) := dk_17 0 154 (dk_at dksX4_setWeight_1 7 rfl rfl)
theorem dX4_setWeight_33 : decode cX4_setWeight 33 = .ok (.iconst 4, 1) := dk_7 (dk_at dksX4_setWeight_1 10 rfl rfl)
theorem dX4_setWeight_34 : decode cX4_setWeight 34 = .ok (.iload_n 1, 1) := dk_27 (dk_at dksX4_setWeight_1 11 rfl rfl)
theorem dX4_setWeight_35 : decode cX4_setWeight 35 = .ok (.imul, 1) := dk_104 (dk_at dksX4_setWeight_1 12 rfl rfl)
theorem dX4_setWeight_36 : decode cX4_setWeight 36 = .ok (.iadd, 1) := dk_96 (dk_at dksX4_setWeight_1 13 rfl rfl)
theorem dX4_setWeight_37 : decode cX4_setWeight 37 = .ok (.iconst 3, 1) := dk_6 (dk_at dksX4_setWeight_1 14 rfl rfl)
theorem dX4_setWeight_38 : decode cX4_setWeight 38 = .ok (.iadd, 1) := dk_96 (dk_at dksX4_setWeight_1 15 rfl rfl)
theorem dX4_setWeight_39 : decode cX4_setWeight 39 = .ok (.iload_n 2, 1) := dk_28 (dk_at dksX4_setWeight_1 16 rfl rfl)
theorem dX4_setWeight_40 : decode cX4_setWeight 40 = .ok (.invokevirtual 60, 3) := dk_182 0 60 (dk_at dksX4_setWeight_1 17 rfl rfl)
theorem dX4_setWeight_43 : decode cX4_setWeight 43 = .ok (.goto 8, 3) := dk_167 0 8 (dk_at dksX4_setWeight_1 20 rfl rfl)
theorem dX4_setWeight_46 : decode cX4_setWeight 46 = .ok (.aload_n 0, 1) := dk_42 (dk_at dksX4_setWeight_1 23 rfl rfl)
theorem dX4_setWeight_47 : decode cX4_setWeight 47 = .ok (.iconst 2, 1) := dk_5 (dk_at dksX4_setWeight_2 0 rfl rfl)
theorem dX4_setWeight_48 : decode cX4_setWeight 48 = .ok (.invokevirtual 64, 3) := dk_182 0 64 (dk_at dksX4_setWeight_2 1 rfl rfl)
theorem dX4_setWeight_51 : decode cX4_setWeight 51 = .ok (.ireturn, 1) := dk_172 (dk_at dksX4_setWeight_2 4 rfl rfl)
abbrev cX4_isMicrophone : ByteArray := prog_25_method_11_code
def yX4_isMicrophone : MethodName := ⟨RX4, "isMicrophone", "(I)Z"⟩
def dkwX4_isMicrophone_0 : List UInt8 := [27, 3, 42, 180, 0, 7, 16, 8, 46, 4, 100, 184, 0, 52, 172]
abbrev dktX4_isMicrophone_0 : List UInt8 := dkwX4_isMicrophone_0 ++ []
theorem dksX4_isMicrophone_0 : cX4_isMicrophone.data.toList.drop 0 = dktX4_isMicrophone_0 := by decide +kernel
theorem dX4_isMicrophone_0 : decode cX4_isMicrophone 0 = .ok (.iload_n 1, 1) := dk_27 (dk_at dksX4_isMicrophone_0 0 rfl rfl)
theorem dX4_isMicrophone_1 : decode cX4_isMicrophone 1 = .ok (.iconst 0, 1) := dk_3 (dk_at dksX4_isMicrophone_0 1 rfl rfl)
theorem dX4_isMicrophone_2 : decode cX4_isMicrophone 2 = .ok (.aload_n 0, 1) := dk_42 (dk_at dksX4_isMicrophone_0 2 rfl rfl)
theorem dX4_isMicrophone_3 : decode cX4_isMicrophone 3 = .ok (.getfield 7, 3) := dk_180 0 7 (dk_at dksX4_isMicrophone_0 3 rfl rfl)
theorem dX4_isMicrophone_6 : decode cX4_isMicrophone 6 = .ok (.bipush 8, 2) := dk_16 8 (dk_at dksX4_isMicrophone_0 6 rfl rfl)
theorem dX4_isMicrophone_8 : decode cX4_isMicrophone 8 = .ok (.iaload, 1) := dk_46 (dk_at dksX4_isMicrophone_0 8 rfl rfl)
theorem dX4_isMicrophone_9 : decode cX4_isMicrophone 9 = .ok (.iconst 1, 1) := dk_4 (dk_at dksX4_isMicrophone_0 9 rfl rfl)
theorem dX4_isMicrophone_10 : decode cX4_isMicrophone 10 = .ok (.isub, 1) := dk_100 (dk_at dksX4_isMicrophone_0 10 rfl rfl)
theorem dX4_isMicrophone_11 : decode cX4_isMicrophone 11 = .ok (.invokestatic 52, 3) := dk_184 0 52 (dk_at dksX4_isMicrophone_0 11 rfl rfl)
theorem dX4_isMicrophone_14 : decode cX4_isMicrophone 14 = .ok (.ireturn, 1) := dk_172 (dk_at dksX4_isMicrophone_0 14 rfl rfl)
abbrev cX4_count : ByteArray := prog_25_method_34_code
def yX4_count : MethodName := ⟨RX4, "count", "(I)I"⟩
def dkwX4_count_1 : List UInt8 := [167, 0, 8, 42, 4, 182, 0, 64, 172]
abbrev dktX4_count_1 : List UInt8 := dkwX4_count_1 ++ []
def dkwX4_count_0 : List UInt8 := [42, 3, 181, 0, 49, 27, 3, 6, 184, 0, 52, 153, 0, 15, 42, 180, 0, 7, 16, 6, 27, 96, 46]
abbrev dktX4_count_0 : List UInt8 := dkwX4_count_0 ++ dktX4_count_1
theorem dksX4_count_0 : cX4_count.data.toList.drop 0 = dktX4_count_0 := by decide +kernel
theorem dksX4_count_1 : cX4_count.data.toList.drop 23 = dktX4_count_1 := dk_seg dksX4_count_0 23 rfl rfl
theorem dX4_count_0 : decode cX4_count 0 = .ok (.aload_n 0, 1) := dk_42 (dk_at dksX4_count_0 0 rfl rfl)
theorem dX4_count_1 : decode cX4_count 1 = .ok (.iconst 0, 1) := dk_3 (dk_at dksX4_count_0 1 rfl rfl)
theorem dX4_count_2 : decode cX4_count 2 = .ok (.putfield 49, 3) := dk_181 0 49 (dk_at dksX4_count_0 2 rfl rfl)
theorem dX4_count_5 : decode cX4_count 5 = .ok (.iload_n 1, 1) := dk_27 (dk_at dksX4_count_0 5 rfl rfl)
theorem dX4_count_6 : decode cX4_count 6 = .ok (.iconst 0, 1) := dk_3 (dk_at dksX4_count_0 6 rfl rfl)
theorem dX4_count_7 : decode cX4_count 7 = .ok (.iconst 3, 1) := dk_6 (dk_at dksX4_count_0 7 rfl rfl)
theorem dX4_count_8 : decode cX4_count 8 = .ok (.invokestatic 52, 3) := dk_184 0 52 (dk_at dksX4_count_0 8 rfl rfl)
theorem dX4_count_11 : decode cX4_count 11 = .ok (.ifCond .eq 15, 3) := dk_153 0 15 (dk_at dksX4_count_0 11 rfl rfl)
theorem dX4_count_14 : decode cX4_count 14 = .ok (.aload_n 0, 1) := dk_42 (dk_at dksX4_count_0 14 rfl rfl)
theorem dX4_count_15 : decode cX4_count 15 = .ok (.getfield 7, 3) := dk_180 0 7 (dk_at dksX4_count_0 15 rfl rfl)
theorem dX4_count_18 : decode cX4_count 18 = .ok (.bipush 6, 2) := dk_16 6 (dk_at dksX4_count_0 18 rfl rfl)
theorem dX4_count_20 : decode cX4_count 20 = .ok (.iload_n 1, 1) := dk_27 (dk_at dksX4_count_0 20 rfl rfl)
theorem dX4_count_21 : decode cX4_count 21 = .ok (.iadd, 1) := dk_96 (dk_at dksX4_count_0 21 rfl rfl)
theorem dX4_count_22 : decode cX4_count 22 = .ok (.iaload, 1) := dk_46 (dk_at dksX4_count_0 22 rfl rfl)
theorem dX4_count_23 : decode cX4_count 23 = .ok (.goto 8, 3) := dk_167 0 8 (dk_at dksX4_count_1 0 rfl rfl)
theorem dX4_count_26 : decode cX4_count 26 = .ok (.aload_n 0, 1) := dk_42 (dk_at dksX4_count_1 3 rfl rfl)
theorem dX4_count_27 : decode cX4_count 27 = .ok (.iconst 1, 1) := dk_4 (dk_at dksX4_count_1 4 rfl rfl)
theorem dX4_count_28 : decode cX4_count 28 = .ok (.invokevirtual 64, 3) := dk_182 0 64 (dk_at dksX4_count_1 5 rfl rfl)
theorem dX4_count_31 : decode cX4_count 31 = .ok (.ireturn, 1) := dk_172 (dk_at dksX4_count_1 8 rfl rfl)
abbrev cX4_emitted : ByteArray := prog_25_method_43_code
def yX4_emitted : MethodName := ⟨RX4, "emitted", "(II)I"⟩
def dkwX4_emitted_1 : List UInt8 := [153, 0, 12, 42, 27, 28, 182, 0, 137, 167, 0, 8, 42, 5, 182, 0, 64, 172]
abbrev dktX4_emitted_1 : List UInt8 := dkwX4_emitted_1 ++ []
def dkwX4_emitted_0 : List UInt8 := [42, 3, 181, 0, 49, 42, 27, 182, 0, 94, 154, 0, 9, 42, 4, 182, 0, 64, 172, 28, 184, 0, 56]
abbrev dktX4_emitted_0 : List UInt8 := dkwX4_emitted_0 ++ dktX4_emitted_1
theorem dksX4_emitted_0 : cX4_emitted.data.toList.drop 0 = dktX4_emitted_0 := by decide +kernel
theorem dksX4_emitted_1 : cX4_emitted.data.toList.drop 23 = dktX4_emitted_1 := dk_seg dksX4_emitted_0 23 rfl rfl
theorem dX4_emitted_0 : decode cX4_emitted 0 = .ok (.aload_n 0, 1) := dk_42 (dk_at dksX4_emitted_0 0 rfl rfl)
theorem dX4_emitted_1 : decode cX4_emitted 1 = .ok (.iconst 0, 1) := dk_3 (dk_at dksX4_emitted_0 1 rfl rfl)
theorem dX4_emitted_2 : decode cX4_emitted 2 = .ok (.putfield 49, 3) := dk_181 0 49 (dk_at dksX4_emitted_0 2 rfl rfl)
theorem dX4_emitted_5 : decode cX4_emitted 5 = .ok (.aload_n 0, 1) := dk_42 (dk_at dksX4_emitted_0 5 rfl rfl)
theorem dX4_emitted_6 : decode cX4_emitted 6 = .ok (.iload_n 1, 1) := dk_27 (dk_at dksX4_emitted_0 6 rfl rfl)
theorem dX4_emitted_7 : decode cX4_emitted 7 = .ok (.invokevirtual 94, 3) := dk_182 0 94 (dk_at dksX4_emitted_0 7 rfl rfl)
theorem dX4_emitted_10 : decode cX4_emitted 10 = .ok (.ifCond .ne 9, 3) := dk_154 0 9 (dk_at dksX4_emitted_0 10 rfl rfl)
theorem dX4_emitted_13 : decode cX4_emitted 13 = .ok (.aload_n 0, 1) := dk_42 (dk_at dksX4_emitted_0 13 rfl rfl)
theorem dX4_emitted_14 : decode cX4_emitted 14 = .ok (.iconst 1, 1) := dk_4 (dk_at dksX4_emitted_0 14 rfl rfl)
theorem dX4_emitted_15 : decode cX4_emitted 15 = .ok (.invokevirtual 64, 3) := dk_182 0 64 (dk_at dksX4_emitted_0 15 rfl rfl)
theorem dX4_emitted_18 : decode cX4_emitted 18 = .ok (.ireturn, 1) := dk_172 (dk_at dksX4_emitted_0 18 rfl rfl)
theorem dX4_emitted_19 : decode cX4_emitted 19 = .ok (.iload_n 2, 1) := dk_28 (dk_at dksX4_emitted_0 19 rfl rfl)
theorem dX4_emitted_20 : decode cX4_emitted 20 = .ok (.invokestatic 56, 3) := dk_184 0 56 (dk_at dksX4_emitted_0 20 rfl rfl)
theorem dX4_emitted_23 : decode cX4_emitted 23 = .ok (.ifCond .eq 12, 3) := dk_153 0 12 (dk_at dksX4_emitted_1 0 rfl rfl)
theorem dX4_emitted_26 : decode cX4_emitted 26 = .ok (.aload_n 0, 1) := dk_42 (dk_at dksX4_emitted_1 3 rfl rfl)
theorem dX4_emitted_27 : decode cX4_emitted 27 = .ok (.iload_n 1, 1) := dk_27 (dk_at dksX4_emitted_1 4 rfl rfl)
theorem dX4_emitted_28 : decode cX4_emitted 28 = .ok (.iload_n 2, 1) := dk_28 (dk_at dksX4_emitted_1 5 rfl rfl)
theorem dX4_emitted_29 : decode cX4_emitted 29 = .ok (.invokevirtual 137, 3) := dk_182 0 137 (dk_at dksX4_emitted_1 6 rfl rfl)
theorem dX4_emitted_32 : decode cX4_emitted 32 = .ok (.goto 8, 3) := dk_167 0 8 (dk_at dksX4_emitted_1 9 rfl rfl)
theorem dX4_emitted_35 : decode cX4_emitted 35 = .ok (.aload_n 0, 1) := dk_42 (dk_at dksX4_emitted_1 12 rfl rfl)
theorem dX4_emitted_36 : decode cX4_emitted 36 = .ok (.iconst 2, 1) := dk_5 (dk_at dksX4_emitted_1 13 rfl rfl)
theorem dX4_emitted_37 : decode cX4_emitted 37 = .ok (.invokevirtual 64, 3) := dk_182 0 64 (dk_at dksX4_emitted_1 14 rfl rfl)
theorem dX4_emitted_40 : decode cX4_emitted 40 = .ok (.ireturn, 1) := dk_172 (dk_at dksX4_emitted_1 17 rfl rfl)
abbrev cX4_isTime : ByteArray := prog_25_method_7_code
def yX4_isTime : MethodName := ⟨RX4, "isTime", "(I)Z"⟩
def dkwX4_isTime_0 : List UInt8 := [26, 3, 17, 0, 255, 184, 0, 52, 172]
abbrev dktX4_isTime_0 : List UInt8 := dkwX4_isTime_0 ++ []
theorem dksX4_isTime_0 : cX4_isTime.data.toList.drop 0 = dktX4_isTime_0 := by decide +kernel
theorem dX4_isTime_0 : decode cX4_isTime 0 = .ok (.iload_n 0, 1) := dk_26 (dk_at dksX4_isTime_0 0 rfl rfl)
theorem dX4_isTime_1 : decode cX4_isTime 1 = .ok (.iconst 0, 1) := dk_3 (dk_at dksX4_isTime_0 1 rfl rfl)
theorem dX4_isTime_2 : decode cX4_isTime 2 = .ok (.sipush 255, 3) := dk_17 0 255 (dk_at dksX4_isTime_0 2 rfl rfl)
theorem dX4_isTime_5 : decode cX4_isTime 5 = .ok (.invokestatic 52, 3) := dk_184 0 52 (dk_at dksX4_isTime_0 5 rfl rfl)
theorem dX4_isTime_8 : decode cX4_isTime 8 = .ok (.ireturn, 1) := dk_172 (dk_at dksX4_isTime_0 8 rfl rfl)
abbrev cX4_emittedBy : ByteArray := prog_25_method_42_code
def yX4_emittedBy : MethodName := ⟨RX4, "emittedBy", "(II)I"⟩
def dkwX4_emittedBy_0 : List UInt8 := [42, 27, 8, 28, 42, 27, 7, 182, 0, 97, 112, 96, 182, 0, 97, 42, 27, 6, 182, 0, 97, 104, 172]
abbrev dktX4_emittedBy_0 : List UInt8 := dkwX4_emittedBy_0 ++ []
theorem dksX4_emittedBy_0 : cX4_emittedBy.data.toList.drop 0 = dktX4_emittedBy_0 := by decide +kernel
theorem dX4_emittedBy_0 : decode cX4_emittedBy 0 = .ok (.aload_n 0, 1) := dk_42 (dk_at dksX4_emittedBy_0 0 rfl rfl)
theorem dX4_emittedBy_1 : decode cX4_emittedBy 1 = .ok (.iload_n 1, 1) := dk_27 (dk_at dksX4_emittedBy_0 1 rfl rfl)
theorem dX4_emittedBy_2 : decode cX4_emittedBy 2 = .ok (.iconst 5, 1) := dk_8 (dk_at dksX4_emittedBy_0 2 rfl rfl)
theorem dX4_emittedBy_3 : decode cX4_emittedBy 3 = .ok (.iload_n 2, 1) := dk_28 (dk_at dksX4_emittedBy_0 3 rfl rfl)
theorem dX4_emittedBy_4 : decode cX4_emittedBy 4 = .ok (.aload_n 0, 1) := dk_42 (dk_at dksX4_emittedBy_0 4 rfl rfl)
theorem dX4_emittedBy_5 : decode cX4_emittedBy 5 = .ok (.iload_n 1, 1) := dk_27 (dk_at dksX4_emittedBy_0 5 rfl rfl)
theorem dX4_emittedBy_6 : decode cX4_emittedBy 6 = .ok (.iconst 4, 1) := dk_7 (dk_at dksX4_emittedBy_0 6 rfl rfl)
theorem dX4_emittedBy_7 : decode cX4_emittedBy 7 = .ok (.invokevirtual 97, 3) := dk_182 0 97 (dk_at dksX4_emittedBy_0 7 rfl rfl)
theorem dX4_emittedBy_10 : decode cX4_emittedBy 10 = .ok (.irem, 1) := dk_112 (dk_at dksX4_emittedBy_0 10 rfl rfl)
theorem dX4_emittedBy_11 : decode cX4_emittedBy 11 = .ok (.iadd, 1) := dk_96 (dk_at dksX4_emittedBy_0 11 rfl rfl)
theorem dX4_emittedBy_12 : decode cX4_emittedBy 12 = .ok (.invokevirtual 97, 3) := dk_182 0 97 (dk_at dksX4_emittedBy_0 12 rfl rfl)
theorem dX4_emittedBy_15 : decode cX4_emittedBy 15 = .ok (.aload_n 0, 1) := dk_42 (dk_at dksX4_emittedBy_0 15 rfl rfl)
theorem dX4_emittedBy_16 : decode cX4_emittedBy 16 = .ok (.iload_n 1, 1) := dk_27 (dk_at dksX4_emittedBy_0 16 rfl rfl)
theorem dX4_emittedBy_17 : decode cX4_emittedBy 17 = .ok (.iconst 3, 1) := dk_6 (dk_at dksX4_emittedBy_0 17 rfl rfl)
theorem dX4_emittedBy_18 : decode cX4_emittedBy 18 = .ok (.invokevirtual 97, 3) := dk_182 0 97 (dk_at dksX4_emittedBy_0 18 rfl rfl)
theorem dX4_emittedBy_21 : decode cX4_emittedBy 21 = .ok (.imul, 1) := dk_104 (dk_at dksX4_emittedBy_0 21 rfl rfl)
theorem dX4_emittedBy_22 : decode cX4_emittedBy 22 = .ok (.ireturn, 1) := dk_172 (dk_at dksX4_emittedBy_0 22 rfl rfl)
abbrev cX4_distance : ByteArray := prog_25_method_44_code
def yX4_distance : MethodName := ⟨RX4, "distance", "(IIIZ)I"⟩
def dkwX4_distance_2 : List UInt8 := [21, 4, 153, 0, 12, 42, 180, 0, 26, 29, 46, 167, 0, 9, 42, 180, 0, 23, 29, 46, 172]
abbrev dktX4_distance_2 : List UInt8 := dkwX4_distance_2 ++ []
def dkwX4_distance_1 : List UInt8 := [182, 0, 64, 172, 29, 184, 0, 56, 154, 0, 9, 42, 5, 182, 0, 64, 172, 42, 27, 28, 182, 0, 140]
abbrev dktX4_distance_1 : List UInt8 := dkwX4_distance_1 ++ dktX4_distance_2
def dkwX4_distance_0 : List UInt8 := [42, 3, 181, 0, 49, 42, 27, 182, 0, 106, 153, 0, 11, 42, 28, 182, 0, 94, 154, 0, 9, 42, 4]
abbrev dktX4_distance_0 : List UInt8 := dkwX4_distance_0 ++ dktX4_distance_1
theorem dksX4_distance_0 : cX4_distance.data.toList.drop 0 = dktX4_distance_0 := by decide +kernel
theorem dksX4_distance_1 : cX4_distance.data.toList.drop 23 = dktX4_distance_1 := dk_seg dksX4_distance_0 23 rfl rfl
theorem dksX4_distance_2 : cX4_distance.data.toList.drop 46 = dktX4_distance_2 := dk_seg dksX4_distance_1 23 rfl rfl
theorem dX4_distance_0 : decode cX4_distance 0 = .ok (.aload_n 0, 1) := dk_42 (dk_at dksX4_distance_0 0 rfl rfl)
theorem dX4_distance_1 : decode cX4_distance 1 = .ok (.iconst 0, 1) := dk_3 (dk_at dksX4_distance_0 1 rfl rfl)
theorem dX4_distance_2 : decode cX4_distance 2 = .ok (.putfield 49, 3) := dk_181 0 49 (dk_at dksX4_distance_0 2 rfl rfl)
theorem dX4_distance_5 : decode cX4_distance 5 = .ok (.aload_n 0, 1) := dk_42 (dk_at dksX4_distance_0 5 rfl rfl)
theorem dX4_distance_6 : decode cX4_distance 6 = .ok (.iload_n 1, 1) := dk_27 (dk_at dksX4_distance_0 6 rfl rfl)
theorem dX4_distance_7 : decode cX4_distance 7 = .ok (.invokevirtual 106, 3) := dk_182 0 106 (dk_at dksX4_distance_0 7 rfl rfl)
theorem dX4_distance_10 : decode cX4_distance 10 = .ok (.ifCond .eq 11, 3) := dk_153 0 11 (dk_at dksX4_distance_0 10 rfl rfl)
theorem dX4_distance_13 : decode cX4_distance 13 = .ok (.aload_n 0, 1) := dk_42 (dk_at dksX4_distance_0 13 rfl rfl)
theorem dX4_distance_14 : decode cX4_distance 14 = .ok (.iload_n 2, 1) := dk_28 (dk_at dksX4_distance_0 14 rfl rfl)
theorem dX4_distance_15 : decode cX4_distance 15 = .ok (.invokevirtual 94, 3) := dk_182 0 94 (dk_at dksX4_distance_0 15 rfl rfl)
theorem dX4_distance_18 : decode cX4_distance 18 = .ok (.ifCond .ne 9, 3) := dk_154 0 9 (dk_at dksX4_distance_0 18 rfl rfl)
theorem dX4_distance_21 : decode cX4_distance 21 = .ok (.aload_n 0, 1) := dk_42 (dk_at dksX4_distance_0 21 rfl rfl)
theorem dX4_distance_22 : decode cX4_distance 22 = .ok (.iconst 1, 1) := dk_4 (dk_at dksX4_distance_0 22 rfl rfl)
theorem dX4_distance_23 : decode cX4_distance 23 = .ok (.invokevirtual 64, 3) := dk_182 0 64 (dk_at dksX4_distance_1 0 rfl rfl)
theorem dX4_distance_26 : decode cX4_distance 26 = .ok (.ireturn, 1) := dk_172 (dk_at dksX4_distance_1 3 rfl rfl)
theorem dX4_distance_27 : decode cX4_distance 27 = .ok (.iload_n 3, 1) := dk_29 (dk_at dksX4_distance_1 4 rfl rfl)
theorem dX4_distance_28 : decode cX4_distance 28 = .ok (.invokestatic 56, 3) := dk_184 0 56 (dk_at dksX4_distance_1 5 rfl rfl)
theorem dX4_distance_31 : decode cX4_distance 31 = .ok (.ifCond .ne 9, 3) := dk_154 0 9 (dk_at dksX4_distance_1 8 rfl rfl)
theorem dX4_distance_34 : decode cX4_distance 34 = .ok (.aload_n 0, 1) := dk_42 (dk_at dksX4_distance_1 11 rfl rfl)
theorem dX4_distance_35 : decode cX4_distance 35 = .ok (.iconst 2, 1) := dk_5 (dk_at dksX4_distance_1 12 rfl rfl)
theorem dX4_distance_36 : decode cX4_distance 36 = .ok (.invokevirtual 64, 3) := dk_182 0 64 (dk_at dksX4_distance_1 13 rfl rfl)
theorem dX4_distance_39 : decode cX4_distance 39 = .ok (.ireturn, 1) := dk_172 (dk_at dksX4_distance_1 16 rfl rfl)
theorem dX4_distance_40 : decode cX4_distance 40 = .ok (.aload_n 0, 1) := dk_42 (dk_at dksX4_distance_1 17 rfl rfl)
theorem dX4_distance_41 : decode cX4_distance 41 = .ok (.iload_n 1, 1) := dk_27 (dk_at dksX4_distance_1 18 rfl rfl)
theorem dX4_distance_42 : decode cX4_distance 42 = .ok (.iload_n 2, 1) := dk_28 (dk_at dksX4_distance_1 19 rfl rfl)
theorem dX4_distance_43 : decode cX4_distance 43 = .ok (.invokevirtual 140, 3) := dk_182 0 140 (dk_at dksX4_distance_1 20 rfl rfl)
theorem dX4_distance_46 : decode cX4_distance 46 = .ok (.iload 4, 2) := dk_21 4 (dk_at dksX4_distance_2 0 rfl rfl)
theorem dX4_distance_48 : decode cX4_distance 48 = .ok (.ifCond .eq 12, 3) := dk_153 0 12 (dk_at dksX4_distance_2 2 rfl rfl)
theorem dX4_distance_51 : decode cX4_distance 51 = .ok (.aload_n 0, 1) := dk_42 (dk_at dksX4_distance_2 5 rfl rfl)
theorem dX4_distance_52 : decode cX4_distance 52 = .ok (.getfield 26, 3) := dk_180 0 26 (dk_at dksX4_distance_2 6 rfl rfl)
theorem dX4_distance_55 : decode cX4_distance 55 = .ok (.iload_n 3, 1) := dk_29 (dk_at dksX4_distance_2 9 rfl rfl)
theorem dX4_distance_56 : decode cX4_distance 56 = .ok (.iaload, 1) := dk_46 (dk_at dksX4_distance_2 10 rfl rfl)
theorem dX4_distance_57 : decode cX4_distance 57 = .ok (.goto 9, 3) := dk_167 0 9 (dk_at dksX4_distance_2 11 rfl rfl)
theorem dX4_distance_60 : decode cX4_distance 60 = .ok (.aload_n 0, 1) := dk_42 (dk_at dksX4_distance_2 14 rfl rfl)
theorem dX4_distance_61 : decode cX4_distance 61 = .ok (.getfield 23, 3) := dk_180 0 23 (dk_at dksX4_distance_2 15 rfl rfl)
theorem dX4_distance_64 : decode cX4_distance 64 = .ok (.iload_n 3, 1) := dk_29 (dk_at dksX4_distance_2 18 rfl rfl)
theorem dX4_distance_65 : decode cX4_distance 65 = .ok (.iaload, 1) := dk_46 (dk_at dksX4_distance_2 19 rfl rfl)
theorem dX4_distance_66 : decode cX4_distance 66 = .ok (.ireturn, 1) := dk_172 (dk_at dksX4_distance_2 20 rfl rfl)
abbrev cX4_laySource : ByteArray := prog_25_method_39_code
def yX4_laySource : MethodName := ⟨RX4, "laySource", "(II)V"⟩
def dkwX4_laySource_1 : List UInt8 := [5, 182, 0, 97, 182, 0, 129, 177]
abbrev dktX4_laySource_1 : List UInt8 := dkwX4_laySource_1 ++ []
def dkwX4_laySource_0 : List UInt8 := [42, 28, 3, 182, 0, 97, 62, 42, 27, 29, 42, 28, 4, 182, 0, 97, 42, 29, 5, 182, 0, 109, 42, 28]
abbrev dktX4_laySource_0 : List UInt8 := dkwX4_laySource_0 ++ dktX4_laySource_1
theorem dksX4_laySource_0 : cX4_laySource.data.toList.drop 0 = dktX4_laySource_0 := by decide +kernel
theorem dksX4_laySource_1 : cX4_laySource.data.toList.drop 24 = dktX4_laySource_1 := dk_seg dksX4_laySource_0 24 rfl rfl
theorem dX4_laySource_0 : decode cX4_laySource 0 = .ok (.aload_n 0, 1) := dk_42 (dk_at dksX4_laySource_0 0 rfl rfl)
theorem dX4_laySource_1 : decode cX4_laySource 1 = .ok (.iload_n 2, 1) := dk_28 (dk_at dksX4_laySource_0 1 rfl rfl)
theorem dX4_laySource_2 : decode cX4_laySource 2 = .ok (.iconst 0, 1) := dk_3 (dk_at dksX4_laySource_0 2 rfl rfl)
theorem dX4_laySource_3 : decode cX4_laySource 3 = .ok (.invokevirtual 97, 3) := dk_182 0 97 (dk_at dksX4_laySource_0 3 rfl rfl)
theorem dX4_laySource_6 : decode cX4_laySource 6 = .ok (.istore_n 3, 1) := dk_62 (dk_at dksX4_laySource_0 6 rfl rfl)
theorem dX4_laySource_7 : decode cX4_laySource 7 = .ok (.aload_n 0, 1) := dk_42 (dk_at dksX4_laySource_0 7 rfl rfl)
theorem dX4_laySource_8 : decode cX4_laySource 8 = .ok (.iload_n 1, 1) := dk_27 (dk_at dksX4_laySource_0 8 rfl rfl)
theorem dX4_laySource_9 : decode cX4_laySource 9 = .ok (.iload_n 3, 1) := dk_29 (dk_at dksX4_laySource_0 9 rfl rfl)
theorem dX4_laySource_10 : decode cX4_laySource 10 = .ok (.aload_n 0, 1) := dk_42 (dk_at dksX4_laySource_0 10 rfl rfl)
theorem dX4_laySource_11 : decode cX4_laySource 11 = .ok (.iload_n 2, 1) := dk_28 (dk_at dksX4_laySource_0 11 rfl rfl)
theorem dX4_laySource_12 : decode cX4_laySource 12 = .ok (.iconst 1, 1) := dk_4 (dk_at dksX4_laySource_0 12 rfl rfl)
theorem dX4_laySource_13 : decode cX4_laySource 13 = .ok (.invokevirtual 97, 3) := dk_182 0 97 (dk_at dksX4_laySource_0 13 rfl rfl)
theorem dX4_laySource_16 : decode cX4_laySource 16 = .ok (.aload_n 0, 1) := dk_42 (dk_at dksX4_laySource_0 16 rfl rfl)
theorem dX4_laySource_17 : decode cX4_laySource 17 = .ok (.iload_n 3, 1) := dk_29 (dk_at dksX4_laySource_0 17 rfl rfl)
theorem dX4_laySource_18 : decode cX4_laySource 18 = .ok (.iconst 2, 1) := dk_5 (dk_at dksX4_laySource_0 18 rfl rfl)
theorem dX4_laySource_19 : decode cX4_laySource 19 = .ok (.invokevirtual 109, 3) := dk_182 0 109 (dk_at dksX4_laySource_0 19 rfl rfl)
theorem dX4_laySource_22 : decode cX4_laySource 22 = .ok (.aload_n 0, 1) := dk_42 (dk_at dksX4_laySource_0 22 rfl rfl)
theorem dX4_laySource_23 : decode cX4_laySource 23 = .ok (.iload_n 2, 1) := dk_28 (dk_at dksX4_laySource_0 23 rfl rfl)
theorem dX4_laySource_24 : decode cX4_laySource 24 = .ok (.iconst 2, 1) := dk_5 (dk_at dksX4_laySource_1 0 rfl rfl)
theorem dX4_laySource_25 : decode cX4_laySource 25 = .ok (.invokevirtual 97, 3) := dk_182 0 97 (dk_at dksX4_laySource_1 1 rfl rfl)
theorem dX4_laySource_28 : decode cX4_laySource 28 = .ok (.invokevirtual 129, 3) := dk_182 0 129 (dk_at dksX4_laySource_1 4 rfl rfl)
theorem dX4_laySource_31 : decode cX4_laySource 31 = .ok (.return_, 1) := dk_177 (dk_at dksX4_laySource_1 7 rfl rfl)
abbrev cX4_vehicle : ByteArray := prog_25_method_12_code
def yX4_vehicle : MethodName := ⟨RX4, "vehicle", "(II)I"⟩
def dkwX4_vehicle_0 : List UInt8 := [42, 180, 0, 7, 16, 16, 6, 27, 104, 96, 28, 96, 46, 172]
abbrev dktX4_vehicle_0 : List UInt8 := dkwX4_vehicle_0 ++ []
theorem dksX4_vehicle_0 : cX4_vehicle.data.toList.drop 0 = dktX4_vehicle_0 := by decide +kernel
theorem dX4_vehicle_0 : decode cX4_vehicle 0 = .ok (.aload_n 0, 1) := dk_42 (dk_at dksX4_vehicle_0 0 rfl rfl)
theorem dX4_vehicle_1 : decode cX4_vehicle 1 = .ok (.getfield 7, 3) := dk_180 0 7 (dk_at dksX4_vehicle_0 1 rfl rfl)
theorem dX4_vehicle_4 : decode cX4_vehicle 4 = .ok (.bipush 16, 2) := dk_16 16 (dk_at dksX4_vehicle_0 4 rfl rfl)
theorem dX4_vehicle_6 : decode cX4_vehicle 6 = .ok (.iconst 3, 1) := dk_6 (dk_at dksX4_vehicle_0 6 rfl rfl)
theorem dX4_vehicle_7 : decode cX4_vehicle 7 = .ok (.iload_n 1, 1) := dk_27 (dk_at dksX4_vehicle_0 7 rfl rfl)
theorem dX4_vehicle_8 : decode cX4_vehicle 8 = .ok (.imul, 1) := dk_104 (dk_at dksX4_vehicle_0 8 rfl rfl)
theorem dX4_vehicle_9 : decode cX4_vehicle 9 = .ok (.iadd, 1) := dk_96 (dk_at dksX4_vehicle_0 9 rfl rfl)
theorem dX4_vehicle_10 : decode cX4_vehicle 10 = .ok (.iload_n 2, 1) := dk_28 (dk_at dksX4_vehicle_0 10 rfl rfl)
theorem dX4_vehicle_11 : decode cX4_vehicle 11 = .ok (.iadd, 1) := dk_96 (dk_at dksX4_vehicle_0 11 rfl rfl)
theorem dX4_vehicle_12 : decode cX4_vehicle 12 = .ok (.iaload, 1) := dk_46 (dk_at dksX4_vehicle_0 12 rfl rfl)
theorem dX4_vehicle_13 : decode cX4_vehicle 13 = .ok (.ireturn, 1) := dk_172 (dk_at dksX4_vehicle_0 13 rfl rfl)
abbrev cX4_layDistances : ByteArray := prog_25_method_38_code
def yX4_layDistances : MethodName := ⟨RX4, "layDistances", "(IIIII)V"⟩
def dkwX4_layDistances_2 : List UInt8 := [27, 21, 7, 21, 4, 21, 5, 116, 182, 0, 126, 79, 132, 6, 1, 167, 255, 198, 177]
abbrev dktX4_layDistances_2 : List UInt8 := dkwX4_layDistances_2 ++ []
def dkwX4_layDistances_1 : List UInt8 := [180, 0, 23, 21, 6, 42, 27, 21, 7, 21, 4, 21, 5, 182, 0, 126, 79, 42, 180, 0, 26, 21, 6, 42]
abbrev dktX4_layDistances_1 : List UInt8 := dkwX4_layDistances_1 ++ dktX4_layDistances_2
def dkwX4_layDistances_0 : List UInt8 := [3, 54, 6, 21, 6, 17, 1, 0, 162, 0, 56, 42, 28, 29, 21, 6, 182, 0, 123, 54, 7, 42]
abbrev dktX4_layDistances_0 : List UInt8 := dkwX4_layDistances_0 ++ dktX4_layDistances_1
theorem dksX4_layDistances_0 : cX4_layDistances.data.toList.drop 0 = dktX4_layDistances_0 := by decide +kernel
theorem dksX4_layDistances_1 : cX4_layDistances.data.toList.drop 22 = dktX4_layDistances_1 := dk_seg dksX4_layDistances_0 22 rfl rfl
theorem dksX4_layDistances_2 : cX4_layDistances.data.toList.drop 46 = dktX4_layDistances_2 := dk_seg dksX4_layDistances_1 24 rfl rfl
theorem dX4_layDistances_0 : decode cX4_layDistances 0 = .ok (.iconst 0, 1) := dk_3 (dk_at dksX4_layDistances_0 0 rfl rfl)
theorem dX4_layDistances_1 : decode cX4_layDistances 1 = .ok (.istore 6, 2) := dk_54 6 (dk_at dksX4_layDistances_0 1 rfl rfl)
theorem dX4_layDistances_3 : decode cX4_layDistances 3 = .ok (.iload 6, 2) := dk_21 6 (dk_at dksX4_layDistances_0 3 rfl rfl)
theorem dX4_layDistances_5 : decode cX4_layDistances 5 = .ok (.sipush 256, 3) := dk_17 1 0 (dk_at dksX4_layDistances_0 5 rfl rfl)
theorem dX4_layDistances_8 : decode cX4_layDistances 8 = .ok (.if_icmp .ge 56, 3) := dk_162 0 56 (dk_at dksX4_layDistances_0 8 rfl rfl)
theorem dX4_layDistances_11 : decode cX4_layDistances 11 = .ok (.aload_n 0, 1) := dk_42 (dk_at dksX4_layDistances_0 11 rfl rfl)
theorem dX4_layDistances_12 : decode cX4_layDistances 12 = .ok (.iload_n 2, 1) := dk_28 (dk_at dksX4_layDistances_0 12 rfl rfl)
theorem dX4_layDistances_13 : decode cX4_layDistances 13 = .ok (.iload_n 3, 1) := dk_29 (dk_at dksX4_layDistances_0 13 rfl rfl)
theorem dX4_layDistances_14 : decode cX4_layDistances 14 = .ok (.iload 6, 2) := dk_21 6 (dk_at dksX4_layDistances_0 14 rfl rfl)
theorem dX4_layDistances_16 : decode cX4_layDistances 16 = .ok (.invokevirtual 123, 3) := dk_182 0 123 (dk_at dksX4_layDistances_0 16 rfl rfl)
theorem dX4_layDistances_19 : decode cX4_layDistances 19 = .ok (.istore 7, 2) := dk_54 7 (dk_at dksX4_layDistances_0 19 rfl rfl)
theorem dX4_layDistances_21 : decode cX4_layDistances 21 = .ok (.aload_n 0, 1) := dk_42 (dk_at dksX4_layDistances_0 21 rfl rfl)
theorem dX4_layDistances_22 : decode cX4_layDistances 22 = .ok (.getfield 23, 3) := dk_180 0 23 (dk_at dksX4_layDistances_1 0 rfl rfl)
theorem dX4_layDistances_25 : decode cX4_layDistances 25 = .ok (.iload 6, 2) := dk_21 6 (dk_at dksX4_layDistances_1 3 rfl rfl)
theorem dX4_layDistances_27 : decode cX4_layDistances 27 = .ok (.aload_n 0, 1) := dk_42 (dk_at dksX4_layDistances_1 5 rfl rfl)
theorem dX4_layDistances_28 : decode cX4_layDistances 28 = .ok (.iload_n 1, 1) := dk_27 (dk_at dksX4_layDistances_1 6 rfl rfl)
theorem dX4_layDistances_29 : decode cX4_layDistances 29 = .ok (.iload 7, 2) := dk_21 7 (dk_at dksX4_layDistances_1 7 rfl rfl)
theorem dX4_layDistances_31 : decode cX4_layDistances 31 = .ok (.iload 4, 2) := dk_21 4 (dk_at dksX4_layDistances_1 9 rfl rfl)
theorem dX4_layDistances_33 : decode cX4_layDistances 33 = .ok (.iload 5, 2) := dk_21 5 (dk_at dksX4_layDistances_1 11 rfl rfl)
theorem dX4_layDistances_35 : decode cX4_layDistances 35 = .ok (.invokevirtual 126, 3) := dk_182 0 126 (dk_at dksX4_layDistances_1 13 rfl rfl)
theorem dX4_layDistances_38 : decode cX4_layDistances 38 = .ok (.iastore, 1) := dk_79 (dk_at dksX4_layDistances_1 16 rfl rfl)
theorem dX4_layDistances_39 : decode cX4_layDistances 39 = .ok (.aload_n 0, 1) := dk_42 (dk_at dksX4_layDistances_1 17 rfl rfl)
theorem dX4_layDistances_40 : decode cX4_layDistances 40 = .ok (.getfield 26, 3) := dk_180 0 26 (dk_at dksX4_layDistances_1 18 rfl rfl)
theorem dX4_layDistances_43 : decode cX4_layDistances 43 = .ok (.iload 6, 2) := dk_21 6 (dk_at dksX4_layDistances_1 21 rfl rfl)
theorem dX4_layDistances_45 : decode cX4_layDistances 45 = .ok (.aload_n 0, 1) := dk_42 (dk_at dksX4_layDistances_1 23 rfl rfl)
theorem dX4_layDistances_46 : decode cX4_layDistances 46 = .ok (.iload_n 1, 1) := dk_27 (dk_at dksX4_layDistances_2 0 rfl rfl)
theorem dX4_layDistances_47 : decode cX4_layDistances 47 = .ok (.iload 7, 2) := dk_21 7 (dk_at dksX4_layDistances_2 1 rfl rfl)
theorem dX4_layDistances_49 : decode cX4_layDistances 49 = .ok (.iload 4, 2) := dk_21 4 (dk_at dksX4_layDistances_2 3 rfl rfl)
theorem dX4_layDistances_51 : decode cX4_layDistances 51 = .ok (.iload 5, 2) := dk_21 5 (dk_at dksX4_layDistances_2 5 rfl rfl)
theorem dX4_layDistances_53 : decode cX4_layDistances 53 = .ok (.ineg, 1) := dk_116 (dk_at dksX4_layDistances_2 7 rfl rfl)
theorem dX4_layDistances_54 : decode cX4_layDistances 54 = .ok (.invokevirtual 126, 3) := dk_182 0 126 (dk_at dksX4_layDistances_2 8 rfl rfl)
theorem dX4_layDistances_57 : decode cX4_layDistances 57 = .ok (.iastore, 1) := dk_79 (dk_at dksX4_layDistances_2 11 rfl rfl)
theorem dX4_layDistances_58 : decode cX4_layDistances 58 = .ok (.iinc 6 1, 3) := dk_132 6 1 (dk_at dksX4_layDistances_2 12 rfl rfl)
theorem dX4_layDistances_61 : decode cX4_layDistances 61 = .ok (.goto (-58), 3) := dk_167 255 198 (dk_at dksX4_layDistances_2 15 rfl rfl)
theorem dX4_layDistances_64 : decode cX4_layDistances 64 = .ok (.return_, 1) := dk_177 (dk_at dksX4_layDistances_2 18 rfl rfl)
abbrev cX4_placeX : ByteArray := prog_25_method_35_code
def yX4_placeX : MethodName := ⟨RX4, "placeX", "(III)I"⟩
def dkwX4_placeX_1 : List UInt8 := [28, 96, 172]
abbrev dktX4_placeX_1 : List UInt8 := dkwX4_placeX_1 ++ []
def dkwX4_placeX_0 : List UInt8 := [27, 2, 160, 0, 7, 28, 167, 0, 20, 42, 27, 3, 182, 0, 109, 42, 27, 4, 182, 0, 109, 29, 104, 96]
abbrev dktX4_placeX_0 : List UInt8 := dkwX4_placeX_0 ++ dktX4_placeX_1
theorem dksX4_placeX_0 : cX4_placeX.data.toList.drop 0 = dktX4_placeX_0 := by decide +kernel
theorem dksX4_placeX_1 : cX4_placeX.data.toList.drop 24 = dktX4_placeX_1 := dk_seg dksX4_placeX_0 24 rfl rfl
theorem dX4_placeX_0 : decode cX4_placeX 0 = .ok (.iload_n 1, 1) := dk_27 (dk_at dksX4_placeX_0 0 rfl rfl)
theorem dX4_placeX_1 : decode cX4_placeX 1 = .ok (.iconst (-1), 1) := dk_2 (dk_at dksX4_placeX_0 1 rfl rfl)
theorem dX4_placeX_2 : decode cX4_placeX 2 = .ok (.if_icmp .ne 7, 3) := dk_160 0 7 (dk_at dksX4_placeX_0 2 rfl rfl)
theorem dX4_placeX_5 : decode cX4_placeX 5 = .ok (.iload_n 2, 1) := dk_28 (dk_at dksX4_placeX_0 5 rfl rfl)
theorem dX4_placeX_6 : decode cX4_placeX 6 = .ok (.goto 20, 3) := dk_167 0 20 (dk_at dksX4_placeX_0 6 rfl rfl)
theorem dX4_placeX_9 : decode cX4_placeX 9 = .ok (.aload_n 0, 1) := dk_42 (dk_at dksX4_placeX_0 9 rfl rfl)
theorem dX4_placeX_10 : decode cX4_placeX 10 = .ok (.iload_n 1, 1) := dk_27 (dk_at dksX4_placeX_0 10 rfl rfl)
theorem dX4_placeX_11 : decode cX4_placeX 11 = .ok (.iconst 0, 1) := dk_3 (dk_at dksX4_placeX_0 11 rfl rfl)
theorem dX4_placeX_12 : decode cX4_placeX 12 = .ok (.invokevirtual 109, 3) := dk_182 0 109 (dk_at dksX4_placeX_0 12 rfl rfl)
theorem dX4_placeX_15 : decode cX4_placeX 15 = .ok (.aload_n 0, 1) := dk_42 (dk_at dksX4_placeX_0 15 rfl rfl)
theorem dX4_placeX_16 : decode cX4_placeX 16 = .ok (.iload_n 1, 1) := dk_27 (dk_at dksX4_placeX_0 16 rfl rfl)
theorem dX4_placeX_17 : decode cX4_placeX 17 = .ok (.iconst 1, 1) := dk_4 (dk_at dksX4_placeX_0 17 rfl rfl)
theorem dX4_placeX_18 : decode cX4_placeX 18 = .ok (.invokevirtual 109, 3) := dk_182 0 109 (dk_at dksX4_placeX_0 18 rfl rfl)
theorem dX4_placeX_21 : decode cX4_placeX 21 = .ok (.iload_n 3, 1) := dk_29 (dk_at dksX4_placeX_0 21 rfl rfl)
theorem dX4_placeX_22 : decode cX4_placeX 22 = .ok (.imul, 1) := dk_104 (dk_at dksX4_placeX_0 22 rfl rfl)
theorem dX4_placeX_23 : decode cX4_placeX 23 = .ok (.iadd, 1) := dk_96 (dk_at dksX4_placeX_0 23 rfl rfl)
theorem dX4_placeX_24 : decode cX4_placeX 24 = .ok (.iload_n 2, 1) := dk_28 (dk_at dksX4_placeX_1 0 rfl rfl)
theorem dX4_placeX_25 : decode cX4_placeX 25 = .ok (.iadd, 1) := dk_96 (dk_at dksX4_placeX_1 1 rfl rfl)
theorem dX4_placeX_26 : decode cX4_placeX 26 = .ok (.ireturn, 1) := dk_172 (dk_at dksX4_placeX_1 2 rfl rfl)
abbrev cX4_distanceTo : ByteArray := prog_25_method_37_code
def yX4_distanceTo : MethodName := ⟨RX4, "distanceTo", "(IIII)I"⟩
def dkwX4_distanceTo_2 : List UInt8 := [22, 9, 105, 97, 184, 0, 119, 172]
abbrev dktX4_distanceTo_2 : List UInt8 := dkwX4_distanceTo_2 ++ []
def dkwX4_distanceTo_1 : List UInt8 := [42, 27, 5, 182, 0, 116, 100, 133, 55, 9, 22, 5, 22, 5, 105, 22, 7, 22, 7, 105, 97, 22, 9]
abbrev dktX4_distanceTo_1 : List UInt8 := dkwX4_distanceTo_1 ++ dktX4_distanceTo_2
def dkwX4_distanceTo_0 : List UInt8 := [28, 42, 27, 3, 182, 0, 116, 100, 133, 55, 5, 29, 42, 27, 4, 182, 0, 116, 100, 133, 55, 7, 21, 4]
abbrev dktX4_distanceTo_0 : List UInt8 := dkwX4_distanceTo_0 ++ dktX4_distanceTo_1
theorem dksX4_distanceTo_0 : cX4_distanceTo.data.toList.drop 0 = dktX4_distanceTo_0 := by decide +kernel
theorem dksX4_distanceTo_1 : cX4_distanceTo.data.toList.drop 24 = dktX4_distanceTo_1 := dk_seg dksX4_distanceTo_0 24 rfl rfl
theorem dksX4_distanceTo_2 : cX4_distanceTo.data.toList.drop 47 = dktX4_distanceTo_2 := dk_seg dksX4_distanceTo_1 23 rfl rfl
theorem dX4_distanceTo_0 : decode cX4_distanceTo 0 = .ok (.iload_n 2, 1) := dk_28 (dk_at dksX4_distanceTo_0 0 rfl rfl)
theorem dX4_distanceTo_1 : decode cX4_distanceTo 1 = .ok (.aload_n 0, 1) := dk_42 (dk_at dksX4_distanceTo_0 1 rfl rfl)
theorem dX4_distanceTo_2 : decode cX4_distanceTo 2 = .ok (.iload_n 1, 1) := dk_27 (dk_at dksX4_distanceTo_0 2 rfl rfl)
theorem dX4_distanceTo_3 : decode cX4_distanceTo 3 = .ok (.iconst 0, 1) := dk_3 (dk_at dksX4_distanceTo_0 3 rfl rfl)
theorem dX4_distanceTo_4 : decode cX4_distanceTo 4 = .ok (.invokevirtual 116, 3) := dk_182 0 116 (dk_at dksX4_distanceTo_0 4 rfl rfl)
theorem dX4_distanceTo_7 : decode cX4_distanceTo 7 = .ok (.isub, 1) := dk_100 (dk_at dksX4_distanceTo_0 7 rfl rfl)
theorem dX4_distanceTo_8 : decode cX4_distanceTo 8 = .ok (.i2l, 1) := dk_133 (dk_at dksX4_distanceTo_0 8 rfl rfl)
theorem dX4_distanceTo_9 : decode cX4_distanceTo 9 = .ok (.lstore 5, 2) := dk_55 5 (dk_at dksX4_distanceTo_0 9 rfl rfl)
theorem dX4_distanceTo_11 : decode cX4_distanceTo 11 = .ok (.iload_n 3, 1) := dk_29 (dk_at dksX4_distanceTo_0 11 rfl rfl)
theorem dX4_distanceTo_12 : decode cX4_distanceTo 12 = .ok (.aload_n 0, 1) := dk_42 (dk_at dksX4_distanceTo_0 12 rfl rfl)
theorem dX4_distanceTo_13 : decode cX4_distanceTo 13 = .ok (.iload_n 1, 1) := dk_27 (dk_at dksX4_distanceTo_0 13 rfl rfl)
theorem dX4_distanceTo_14 : decode cX4_distanceTo 14 = .ok (.iconst 1, 1) := dk_4 (dk_at dksX4_distanceTo_0 14 rfl rfl)
theorem dX4_distanceTo_15 : decode cX4_distanceTo 15 = .ok (.invokevirtual 116, 3) := dk_182 0 116 (dk_at dksX4_distanceTo_0 15 rfl rfl)
theorem dX4_distanceTo_18 : decode cX4_distanceTo 18 = .ok (.isub, 1) := dk_100 (dk_at dksX4_distanceTo_0 18 rfl rfl)
theorem dX4_distanceTo_19 : decode cX4_distanceTo 19 = .ok (.i2l, 1) := dk_133 (dk_at dksX4_distanceTo_0 19 rfl rfl)
theorem dX4_distanceTo_20 : decode cX4_distanceTo 20 = .ok (.lstore 7, 2) := dk_55 7 (dk_at dksX4_distanceTo_0 20 rfl rfl)
theorem dX4_distanceTo_22 : decode cX4_distanceTo 22 = .ok (.iload 4, 2) := dk_21 4 (dk_at dksX4_distanceTo_0 22 rfl rfl)
theorem dX4_distanceTo_24 : decode cX4_distanceTo 24 = .ok (.aload_n 0, 1) := dk_42 (dk_at dksX4_distanceTo_1 0 rfl rfl)
theorem dX4_distanceTo_25 : decode cX4_distanceTo 25 = .ok (.iload_n 1, 1) := dk_27 (dk_at dksX4_distanceTo_1 1 rfl rfl)
theorem dX4_distanceTo_26 : decode cX4_distanceTo 26 = .ok (.iconst 2, 1) := dk_5 (dk_at dksX4_distanceTo_1 2 rfl rfl)
theorem dX4_distanceTo_27 : decode cX4_distanceTo 27 = .ok (.invokevirtual 116, 3) := dk_182 0 116 (dk_at dksX4_distanceTo_1 3 rfl rfl)
theorem dX4_distanceTo_30 : decode cX4_distanceTo 30 = .ok (.isub, 1) := dk_100 (dk_at dksX4_distanceTo_1 6 rfl rfl)
theorem dX4_distanceTo_31 : decode cX4_distanceTo 31 = .ok (.i2l, 1) := dk_133 (dk_at dksX4_distanceTo_1 7 rfl rfl)
theorem dX4_distanceTo_32 : decode cX4_distanceTo 32 = .ok (.lstore 9, 2) := dk_55 9 (dk_at dksX4_distanceTo_1 8 rfl rfl)
theorem dX4_distanceTo_34 : decode cX4_distanceTo 34 = .ok (.lload 5, 2) := dk_22 5 (dk_at dksX4_distanceTo_1 10 rfl rfl)
theorem dX4_distanceTo_36 : decode cX4_distanceTo 36 = .ok (.lload 5, 2) := dk_22 5 (dk_at dksX4_distanceTo_1 12 rfl rfl)
theorem dX4_distanceTo_38 : decode cX4_distanceTo 38 = .ok (.lmul, 1) := dk_105 (dk_at dksX4_distanceTo_1 14 rfl rfl)
theorem dX4_distanceTo_39 : decode cX4_distanceTo 39 = .ok (.lload 7, 2) := dk_22 7 (dk_at dksX4_distanceTo_1 15 rfl rfl)
theorem dX4_distanceTo_41 : decode cX4_distanceTo 41 = .ok (.lload 7, 2) := dk_22 7 (dk_at dksX4_distanceTo_1 17 rfl rfl)
theorem dX4_distanceTo_43 : decode cX4_distanceTo 43 = .ok (.lmul, 1) := dk_105 (dk_at dksX4_distanceTo_1 19 rfl rfl)
theorem dX4_distanceTo_44 : decode cX4_distanceTo 44 = .ok (.ladd, 1) := dk_97 (dk_at dksX4_distanceTo_1 20 rfl rfl)
theorem dX4_distanceTo_45 : decode cX4_distanceTo 45 = .ok (.lload 9, 2) := dk_22 9 (dk_at dksX4_distanceTo_1 21 rfl rfl)
theorem dX4_distanceTo_47 : decode cX4_distanceTo 47 = .ok (.lload 9, 2) := dk_22 9 (dk_at dksX4_distanceTo_2 0 rfl rfl)
theorem dX4_distanceTo_49 : decode cX4_distanceTo 49 = .ok (.lmul, 1) := dk_105 (dk_at dksX4_distanceTo_2 2 rfl rfl)
theorem dX4_distanceTo_50 : decode cX4_distanceTo 50 = .ok (.ladd, 1) := dk_97 (dk_at dksX4_distanceTo_2 3 rfl rfl)
theorem dX4_distanceTo_51 : decode cX4_distanceTo 51 = .ok (.invokestatic 119, 3) := dk_184 0 119 (dk_at dksX4_distanceTo_2 4 rfl rfl)
theorem dX4_distanceTo_54 : decode cX4_distanceTo 54 = .ok (.ireturn, 1) := dk_172 (dk_at dksX4_distanceTo_2 7 rfl rfl)
abbrev cX4_microphone : ByteArray := prog_25_method_14_code
def yX4_microphone : MethodName := ⟨RX4, "microphone", "(II)I"⟩
def dkwX4_microphone_0 : List UInt8 := [42, 180, 0, 7, 17, 0, 154, 7, 27, 104, 96, 28, 96, 46, 172]
abbrev dktX4_microphone_0 : List UInt8 := dkwX4_microphone_0 ++ []
theorem dksX4_microphone_0 : cX4_microphone.data.toList.drop 0 = dktX4_microphone_0 := by decide +kernel
theorem dX4_microphone_0 : decode cX4_microphone 0 = .ok (.aload_n 0, 1) := dk_42 (dk_at dksX4_microphone_0 0 rfl rfl)
theorem dX4_microphone_1 : decode cX4_microphone 1 = .ok (.getfield 7, 3) := dk_180 0 7 (dk_at dksX4_microphone_0 1 rfl rfl)
theorem dX4_microphone_4 : decode cX4_microphone 4 = .ok (.sipush 154, 3) := dk_17 0 154 (dk_at dksX4_microphone_0 4 rfl rfl)
theorem dX4_microphone_7 : decode cX4_microphone 7 = .ok (.iconst 4, 1) := dk_7 (dk_at dksX4_microphone_0 7 rfl rfl)
theorem dX4_microphone_8 : decode cX4_microphone 8 = .ok (.iload_n 1, 1) := dk_27 (dk_at dksX4_microphone_0 8 rfl rfl)
theorem dX4_microphone_9 : decode cX4_microphone 9 = .ok (.imul, 1) := dk_104 (dk_at dksX4_microphone_0 9 rfl rfl)
theorem dX4_microphone_10 : decode cX4_microphone 10 = .ok (.iadd, 1) := dk_96 (dk_at dksX4_microphone_0 10 rfl rfl)
theorem dX4_microphone_11 : decode cX4_microphone 11 = .ok (.iload_n 2, 1) := dk_28 (dk_at dksX4_microphone_0 11 rfl rfl)
theorem dX4_microphone_12 : decode cX4_microphone 12 = .ok (.iadd, 1) := dk_96 (dk_at dksX4_microphone_0 12 rfl rfl)
theorem dX4_microphone_13 : decode cX4_microphone 13 = .ok (.iaload, 1) := dk_46 (dk_at dksX4_microphone_0 13 rfl rfl)
theorem dX4_microphone_14 : decode cX4_microphone 14 = .ok (.ireturn, 1) := dk_172 (dk_at dksX4_microphone_0 14 rfl rfl)
abbrev cX4_root : ByteArray := prog_25_method_36_code
def yX4_root : MethodName := ⟨RX4, "root", "(J)I"⟩
def dkwX4_root_2 : List UInt8 := [167, 255, 215, 32, 136, 172]
abbrev dktX4_root_2 : List UInt8 := dkwX4_root_2 ++ []
def dkwX4_root_1 : List UInt8 := [55, 6, 22, 6, 22, 6, 105, 30, 148, 157, 0, 9, 22, 6, 65, 167, 0, 9, 22, 6, 10, 101, 55, 4]
abbrev dktX4_root_1 : List UInt8 := dkwX4_root_1 ++ dktX4_root_2
def dkwX4_root_0 : List UInt8 := [9, 65, 20, 0, 112, 55, 4, 32, 22, 4, 148, 156, 0, 40, 32, 22, 4, 97, 10, 97, 20, 0, 114, 109]
abbrev dktX4_root_0 : List UInt8 := dkwX4_root_0 ++ dktX4_root_1
theorem dksX4_root_0 : cX4_root.data.toList.drop 0 = dktX4_root_0 := by decide +kernel
theorem dksX4_root_1 : cX4_root.data.toList.drop 24 = dktX4_root_1 := dk_seg dksX4_root_0 24 rfl rfl
theorem dksX4_root_2 : cX4_root.data.toList.drop 48 = dktX4_root_2 := dk_seg dksX4_root_1 24 rfl rfl
theorem dX4_root_0 : decode cX4_root 0 = .ok (.lconst 0, 1) := dk_9 (dk_at dksX4_root_0 0 rfl rfl)
theorem dX4_root_1 : decode cX4_root 1 = .ok (.lstore_n 2, 1) := dk_65 (dk_at dksX4_root_0 1 rfl rfl)
theorem dX4_root_2 : decode cX4_root 2 = .ok (.ldc2_w 112, 3) := dk_20 0 112 (dk_at dksX4_root_0 2 rfl rfl)
theorem dX4_root_5 : decode cX4_root 5 = .ok (.lstore 4, 2) := dk_55 4 (dk_at dksX4_root_0 5 rfl rfl)
theorem dX4_root_7 : decode cX4_root 7 = .ok (.lload_n 2, 1) := dk_32 (dk_at dksX4_root_0 7 rfl rfl)
theorem dX4_root_8 : decode cX4_root 8 = .ok (.lload 4, 2) := dk_22 4 (dk_at dksX4_root_0 8 rfl rfl)
theorem dX4_root_10 : decode cX4_root 10 = .ok (.lcmp, 1) := dk_148 (dk_at dksX4_root_0 10 rfl rfl)
theorem dX4_root_11 : decode cX4_root 11 = .ok (.ifCond .ge 40, 3) := dk_156 0 40 (dk_at dksX4_root_0 11 rfl rfl)
theorem dX4_root_14 : decode cX4_root 14 = .ok (.lload_n 2, 1) := dk_32 (dk_at dksX4_root_0 14 rfl rfl)
theorem dX4_root_15 : decode cX4_root 15 = .ok (.lload 4, 2) := dk_22 4 (dk_at dksX4_root_0 15 rfl rfl)
theorem dX4_root_17 : decode cX4_root 17 = .ok (.ladd, 1) := dk_97 (dk_at dksX4_root_0 17 rfl rfl)
theorem dX4_root_18 : decode cX4_root 18 = .ok (.lconst 1, 1) := dk_10 (dk_at dksX4_root_0 18 rfl rfl)
theorem dX4_root_19 : decode cX4_root 19 = .ok (.ladd, 1) := dk_97 (dk_at dksX4_root_0 19 rfl rfl)
theorem dX4_root_20 : decode cX4_root 20 = .ok (.ldc2_w 114, 3) := dk_20 0 114 (dk_at dksX4_root_0 20 rfl rfl)
theorem dX4_root_23 : decode cX4_root 23 = .ok (.ldiv, 1) := dk_109 (dk_at dksX4_root_0 23 rfl rfl)
theorem dX4_root_24 : decode cX4_root 24 = .ok (.lstore 6, 2) := dk_55 6 (dk_at dksX4_root_1 0 rfl rfl)
theorem dX4_root_26 : decode cX4_root 26 = .ok (.lload 6, 2) := dk_22 6 (dk_at dksX4_root_1 2 rfl rfl)
theorem dX4_root_28 : decode cX4_root 28 = .ok (.lload 6, 2) := dk_22 6 (dk_at dksX4_root_1 4 rfl rfl)
theorem dX4_root_30 : decode cX4_root 30 = .ok (.lmul, 1) := dk_105 (dk_at dksX4_root_1 6 rfl rfl)
theorem dX4_root_31 : decode cX4_root 31 = .ok (.lload_n 0, 1) := dk_30 (dk_at dksX4_root_1 7 rfl rfl)
theorem dX4_root_32 : decode cX4_root 32 = .ok (.lcmp, 1) := dk_148 (dk_at dksX4_root_1 8 rfl rfl)
theorem dX4_root_33 : decode cX4_root 33 = .ok (.ifCond .gt 9, 3) := dk_157 0 9 (dk_at dksX4_root_1 9 rfl rfl)
theorem dX4_root_36 : decode cX4_root 36 = .ok (.lload 6, 2) := dk_22 6 (dk_at dksX4_root_1 12 rfl rfl)
theorem dX4_root_38 : decode cX4_root 38 = .ok (.lstore_n 2, 1) := dk_65 (dk_at dksX4_root_1 14 rfl rfl)
theorem dX4_root_39 : decode cX4_root 39 = .ok (.goto 9, 3) := dk_167 0 9 (dk_at dksX4_root_1 15 rfl rfl)
theorem dX4_root_42 : decode cX4_root 42 = .ok (.lload 6, 2) := dk_22 6 (dk_at dksX4_root_1 18 rfl rfl)
theorem dX4_root_44 : decode cX4_root 44 = .ok (.lconst 1, 1) := dk_10 (dk_at dksX4_root_1 20 rfl rfl)
theorem dX4_root_45 : decode cX4_root 45 = .ok (.lsub, 1) := dk_101 (dk_at dksX4_root_1 21 rfl rfl)
theorem dX4_root_46 : decode cX4_root 46 = .ok (.lstore 4, 2) := dk_55 4 (dk_at dksX4_root_1 22 rfl rfl)
theorem dX4_root_48 : decode cX4_root 48 = .ok (.goto (-41), 3) := dk_167 255 215 (dk_at dksX4_root_2 0 rfl rfl)
theorem dX4_root_51 : decode cX4_root 51 = .ok (.lload_n 2, 1) := dk_32 (dk_at dksX4_root_2 3 rfl rfl)
theorem dX4_root_52 : decode cX4_root 52 = .ok (.l2i, 1) := dk_136 (dk_at dksX4_root_2 4 rfl rfl)
theorem dX4_root_53 : decode cX4_root 53 = .ok (.ireturn, 1) := dk_172 (dk_at dksX4_root_2 5 rfl rfl)
abbrev cX4_emissionTime : ByteArray := prog_25_method_45_code
def yX4_emissionTime : MethodName := ⟨RX4, "emissionTime", "(IIIZ)I"⟩
def dkwX4_emissionTime_2 : List UInt8 := [29, 21, 4, 182, 0, 144, 172]
abbrev dktX4_emissionTime_2 : List UInt8 := dkwX4_emissionTime_2 ++ []
def dkwX4_emissionTime_1 : List UInt8 := [182, 0, 64, 172, 29, 184, 0, 56, 154, 0, 9, 42, 5, 182, 0, 64, 172, 42, 27, 28, 182, 0, 140, 42]
abbrev dktX4_emissionTime_1 : List UInt8 := dkwX4_emissionTime_1 ++ dktX4_emissionTime_2
def dkwX4_emissionTime_0 : List UInt8 := [42, 3, 181, 0, 49, 42, 27, 182, 0, 106, 153, 0, 11, 42, 28, 182, 0, 94, 154, 0, 9, 42, 4]
abbrev dktX4_emissionTime_0 : List UInt8 := dkwX4_emissionTime_0 ++ dktX4_emissionTime_1
theorem dksX4_emissionTime_0 : cX4_emissionTime.data.toList.drop 0 = dktX4_emissionTime_0 := by decide +kernel
theorem dksX4_emissionTime_1 : cX4_emissionTime.data.toList.drop 23 = dktX4_emissionTime_1 := dk_seg dksX4_emissionTime_0 23 rfl rfl
theorem dksX4_emissionTime_2 : cX4_emissionTime.data.toList.drop 47 = dktX4_emissionTime_2 := dk_seg dksX4_emissionTime_1 24 rfl rfl
theorem dX4_emissionTime_0 : decode cX4_emissionTime 0 = .ok (.aload_n 0, 1) := dk_42 (dk_at dksX4_emissionTime_0 0 rfl rfl)
theorem dX4_emissionTime_1 : decode cX4_emissionTime 1 = .ok (.iconst 0, 1) := dk_3 (dk_at dksX4_emissionTime_0 1 rfl rfl)
theorem dX4_emissionTime_2 : decode cX4_emissionTime 2 = .ok (.putfield 49, 3) := dk_181 0 49 (dk_at dksX4_emissionTime_0 2 rfl rfl)
theorem dX4_emissionTime_5 : decode cX4_emissionTime 5 = .ok (.aload_n 0, 1) := dk_42 (dk_at dksX4_emissionTime_0 5 rfl rfl)
theorem dX4_emissionTime_6 : decode cX4_emissionTime 6 = .ok (.iload_n 1, 1) := dk_27 (dk_at dksX4_emissionTime_0 6 rfl rfl)
theorem dX4_emissionTime_7 : decode cX4_emissionTime 7 = .ok (.invokevirtual 106, 3) := dk_182 0 106 (dk_at dksX4_emissionTime_0 7 rfl rfl)
theorem dX4_emissionTime_10 : decode cX4_emissionTime 10 = .ok (.ifCond .eq 11, 3) := dk_153 0 11 (dk_at dksX4_emissionTime_0 10 rfl rfl)
theorem dX4_emissionTime_13 : decode cX4_emissionTime 13 = .ok (.aload_n 0, 1) := dk_42 (dk_at dksX4_emissionTime_0 13 rfl rfl)
theorem dX4_emissionTime_14 : decode cX4_emissionTime 14 = .ok (.iload_n 2, 1) := dk_28 (dk_at dksX4_emissionTime_0 14 rfl rfl)
theorem dX4_emissionTime_15 : decode cX4_emissionTime 15 = .ok (.invokevirtual 94, 3) := dk_182 0 94 (dk_at dksX4_emissionTime_0 15 rfl rfl)
theorem dX4_emissionTime_18 : decode cX4_emissionTime 18 = .ok (.ifCond .ne 9, 3) := dk_154 0 9 (dk_at dksX4_emissionTime_0 18 rfl rfl)
theorem dX4_emissionTime_21 : decode cX4_emissionTime 21 = .ok (.aload_n 0, 1) := dk_42 (dk_at dksX4_emissionTime_0 21 rfl rfl)
theorem dX4_emissionTime_22 : decode cX4_emissionTime 22 = .ok (.iconst 1, 1) := dk_4 (dk_at dksX4_emissionTime_0 22 rfl rfl)
theorem dX4_emissionTime_23 : decode cX4_emissionTime 23 = .ok (.invokevirtual 64, 3) := dk_182 0 64 (dk_at dksX4_emissionTime_1 0 rfl rfl)
theorem dX4_emissionTime_26 : decode cX4_emissionTime 26 = .ok (.ireturn, 1) := dk_172 (dk_at dksX4_emissionTime_1 3 rfl rfl)
theorem dX4_emissionTime_27 : decode cX4_emissionTime 27 = .ok (.iload_n 3, 1) := dk_29 (dk_at dksX4_emissionTime_1 4 rfl rfl)
theorem dX4_emissionTime_28 : decode cX4_emissionTime 28 = .ok (.invokestatic 56, 3) := dk_184 0 56 (dk_at dksX4_emissionTime_1 5 rfl rfl)
theorem dX4_emissionTime_31 : decode cX4_emissionTime 31 = .ok (.ifCond .ne 9, 3) := dk_154 0 9 (dk_at dksX4_emissionTime_1 8 rfl rfl)
theorem dX4_emissionTime_34 : decode cX4_emissionTime 34 = .ok (.aload_n 0, 1) := dk_42 (dk_at dksX4_emissionTime_1 11 rfl rfl)
theorem dX4_emissionTime_35 : decode cX4_emissionTime 35 = .ok (.iconst 2, 1) := dk_5 (dk_at dksX4_emissionTime_1 12 rfl rfl)
theorem dX4_emissionTime_36 : decode cX4_emissionTime 36 = .ok (.invokevirtual 64, 3) := dk_182 0 64 (dk_at dksX4_emissionTime_1 13 rfl rfl)
theorem dX4_emissionTime_39 : decode cX4_emissionTime 39 = .ok (.ireturn, 1) := dk_172 (dk_at dksX4_emissionTime_1 16 rfl rfl)
theorem dX4_emissionTime_40 : decode cX4_emissionTime 40 = .ok (.aload_n 0, 1) := dk_42 (dk_at dksX4_emissionTime_1 17 rfl rfl)
theorem dX4_emissionTime_41 : decode cX4_emissionTime 41 = .ok (.iload_n 1, 1) := dk_27 (dk_at dksX4_emissionTime_1 18 rfl rfl)
theorem dX4_emissionTime_42 : decode cX4_emissionTime 42 = .ok (.iload_n 2, 1) := dk_28 (dk_at dksX4_emissionTime_1 19 rfl rfl)
theorem dX4_emissionTime_43 : decode cX4_emissionTime 43 = .ok (.invokevirtual 140, 3) := dk_182 0 140 (dk_at dksX4_emissionTime_1 20 rfl rfl)
theorem dX4_emissionTime_46 : decode cX4_emissionTime 46 = .ok (.aload_n 0, 1) := dk_42 (dk_at dksX4_emissionTime_1 23 rfl rfl)
theorem dX4_emissionTime_47 : decode cX4_emissionTime 47 = .ok (.iload_n 3, 1) := dk_29 (dk_at dksX4_emissionTime_2 0 rfl rfl)
theorem dX4_emissionTime_48 : decode cX4_emissionTime 48 = .ok (.iload 4, 2) := dk_21 4 (dk_at dksX4_emissionTime_2 1 rfl rfl)
theorem dX4_emissionTime_50 : decode cX4_emissionTime 50 = .ok (.invokevirtual 144, 3) := dk_182 0 144 (dk_at dksX4_emissionTime_2 3 rfl rfl)
theorem dX4_emissionTime_53 : decode cX4_emissionTime 53 = .ok (.ireturn, 1) := dk_172 (dk_at dksX4_emissionTime_2 6 rfl rfl)
abbrev cX4_latest : ByteArray := prog_25_method_41_code
def yX4_latest : MethodName := ⟨RX4, "latest", "(IZ)I"⟩
def dkwX4_latest_1 : List UInt8 := [180, 0, 7, 3, 46, 104, 163, 0, 8, 21, 4, 167, 0, 4, 29, 62, 132, 4, 1, 167, 255, 220, 29, 172]
abbrev dktX4_latest_1 : List UInt8 := dkwX4_latest_1 ++ []
def dkwX4_latest_0 : List UInt8 := [2, 62, 3, 54, 4, 21, 4, 17, 1, 0, 162, 0, 34, 42, 21, 4, 28, 182, 0, 133, 27, 42]
abbrev dktX4_latest_0 : List UInt8 := dkwX4_latest_0 ++ dktX4_latest_1
theorem dksX4_latest_0 : cX4_latest.data.toList.drop 0 = dktX4_latest_0 := by decide +kernel
theorem dksX4_latest_1 : cX4_latest.data.toList.drop 22 = dktX4_latest_1 := dk_seg dksX4_latest_0 22 rfl rfl
theorem dX4_latest_0 : decode cX4_latest 0 = .ok (.iconst (-1), 1) := dk_2 (dk_at dksX4_latest_0 0 rfl rfl)
theorem dX4_latest_1 : decode cX4_latest 1 = .ok (.istore_n 3, 1) := dk_62 (dk_at dksX4_latest_0 1 rfl rfl)
theorem dX4_latest_2 : decode cX4_latest 2 = .ok (.iconst 0, 1) := dk_3 (dk_at dksX4_latest_0 2 rfl rfl)
theorem dX4_latest_3 : decode cX4_latest 3 = .ok (.istore 4, 2) := dk_54 4 (dk_at dksX4_latest_0 3 rfl rfl)
theorem dX4_latest_5 : decode cX4_latest 5 = .ok (.iload 4, 2) := dk_21 4 (dk_at dksX4_latest_0 5 rfl rfl)
theorem dX4_latest_7 : decode cX4_latest 7 = .ok (.sipush 256, 3) := dk_17 1 0 (dk_at dksX4_latest_0 7 rfl rfl)
theorem dX4_latest_10 : decode cX4_latest 10 = .ok (.if_icmp .ge 34, 3) := dk_162 0 34 (dk_at dksX4_latest_0 10 rfl rfl)
theorem dX4_latest_13 : decode cX4_latest 13 = .ok (.aload_n 0, 1) := dk_42 (dk_at dksX4_latest_0 13 rfl rfl)
theorem dX4_latest_14 : decode cX4_latest 14 = .ok (.iload 4, 2) := dk_21 4 (dk_at dksX4_latest_0 14 rfl rfl)
theorem dX4_latest_16 : decode cX4_latest 16 = .ok (.iload_n 2, 1) := dk_28 (dk_at dksX4_latest_0 16 rfl rfl)
theorem dX4_latest_17 : decode cX4_latest 17 = .ok (.invokevirtual 133, 3) := dk_182 0 133 (dk_at dksX4_latest_0 17 rfl rfl)
theorem dX4_latest_20 : decode cX4_latest 20 = .ok (.iload_n 1, 1) := dk_27 (dk_at dksX4_latest_0 20 rfl rfl)
theorem dX4_latest_21 : decode cX4_latest 21 = .ok (.aload_n 0, 1) := dk_42 (dk_at dksX4_latest_0 21 rfl rfl)
theorem dX4_latest_22 : decode cX4_latest 22 = .ok (.getfield 7, 3) := dk_180 0 7 (dk_at dksX4_latest_1 0 rfl rfl)
theorem dX4_latest_25 : decode cX4_latest 25 = .ok (.iconst 0, 1) := dk_3 (dk_at dksX4_latest_1 3 rfl rfl)
theorem dX4_latest_26 : decode cX4_latest 26 = .ok (.iaload, 1) := dk_46 (dk_at dksX4_latest_1 4 rfl rfl)
theorem dX4_latest_27 : decode cX4_latest 27 = .ok (.imul, 1) := dk_104 (dk_at dksX4_latest_1 5 rfl rfl)
theorem dX4_latest_28 : decode cX4_latest 28 = .ok (.if_icmp .gt 8, 3) := dk_163 0 8 (dk_at dksX4_latest_1 6 rfl rfl)
theorem dX4_latest_31 : decode cX4_latest 31 = .ok (.iload 4, 2) := dk_21 4 (dk_at dksX4_latest_1 9 rfl rfl)
theorem dX4_latest_33 : decode cX4_latest 33 = .ok (.goto 4, 3) := dk_167 0 4 (dk_at dksX4_latest_1 11 rfl rfl)
theorem dX4_latest_36 : decode cX4_latest 36 = .ok (.iload_n 3, 1) := dk_29 (dk_at dksX4_latest_1 14 rfl rfl)
theorem dX4_latest_37 : decode cX4_latest 37 = .ok (.istore_n 3, 1) := dk_62 (dk_at dksX4_latest_1 15 rfl rfl)
theorem dX4_latest_38 : decode cX4_latest 38 = .ok (.iinc 4 1, 3) := dk_132 4 1 (dk_at dksX4_latest_1 16 rfl rfl)
theorem dX4_latest_41 : decode cX4_latest 41 = .ok (.goto (-36), 3) := dk_167 255 220 (dk_at dksX4_latest_1 19 rfl rfl)
theorem dX4_latest_44 : decode cX4_latest 44 = .ok (.iload_n 3, 1) := dk_29 (dk_at dksX4_latest_1 22 rfl rfl)
theorem dX4_latest_45 : decode cX4_latest 45 = .ok (.ireturn, 1) := dk_172 (dk_at dksX4_latest_1 23 rfl rfl)
abbrev cX4_markOf : ByteArray := prog_25_method_40_code
def yX4_markOf : MethodName := ⟨RX4, "markOf", "(IZ)I"⟩
def dkwX4_markOf_1 : List UInt8 := [180, 0, 23, 27, 46, 96, 172]
abbrev dktX4_markOf_1 : List UInt8 := dkwX4_markOf_1 ++ []
def dkwX4_markOf_0 : List UInt8 := [27, 42, 180, 0, 7, 3, 46, 104, 28, 153, 0, 12, 42, 180, 0, 26, 27, 46, 167, 0, 9, 42]
abbrev dktX4_markOf_0 : List UInt8 := dkwX4_markOf_0 ++ dktX4_markOf_1
theorem dksX4_markOf_0 : cX4_markOf.data.toList.drop 0 = dktX4_markOf_0 := by decide +kernel
theorem dksX4_markOf_1 : cX4_markOf.data.toList.drop 22 = dktX4_markOf_1 := dk_seg dksX4_markOf_0 22 rfl rfl
theorem dX4_markOf_0 : decode cX4_markOf 0 = .ok (.iload_n 1, 1) := dk_27 (dk_at dksX4_markOf_0 0 rfl rfl)
theorem dX4_markOf_1 : decode cX4_markOf 1 = .ok (.aload_n 0, 1) := dk_42 (dk_at dksX4_markOf_0 1 rfl rfl)
theorem dX4_markOf_2 : decode cX4_markOf 2 = .ok (.getfield 7, 3) := dk_180 0 7 (dk_at dksX4_markOf_0 2 rfl rfl)
theorem dX4_markOf_5 : decode cX4_markOf 5 = .ok (.iconst 0, 1) := dk_3 (dk_at dksX4_markOf_0 5 rfl rfl)
theorem dX4_markOf_6 : decode cX4_markOf 6 = .ok (.iaload, 1) := dk_46 (dk_at dksX4_markOf_0 6 rfl rfl)
theorem dX4_markOf_7 : decode cX4_markOf 7 = .ok (.imul, 1) := dk_104 (dk_at dksX4_markOf_0 7 rfl rfl)
theorem dX4_markOf_8 : decode cX4_markOf 8 = .ok (.iload_n 2, 1) := dk_28 (dk_at dksX4_markOf_0 8 rfl rfl)
theorem dX4_markOf_9 : decode cX4_markOf 9 = .ok (.ifCond .eq 12, 3) := dk_153 0 12 (dk_at dksX4_markOf_0 9 rfl rfl)
theorem dX4_markOf_12 : decode cX4_markOf 12 = .ok (.aload_n 0, 1) := dk_42 (dk_at dksX4_markOf_0 12 rfl rfl)
theorem dX4_markOf_13 : decode cX4_markOf 13 = .ok (.getfield 26, 3) := dk_180 0 26 (dk_at dksX4_markOf_0 13 rfl rfl)
theorem dX4_markOf_16 : decode cX4_markOf 16 = .ok (.iload_n 1, 1) := dk_27 (dk_at dksX4_markOf_0 16 rfl rfl)
theorem dX4_markOf_17 : decode cX4_markOf 17 = .ok (.iaload, 1) := dk_46 (dk_at dksX4_markOf_0 17 rfl rfl)
theorem dX4_markOf_18 : decode cX4_markOf 18 = .ok (.goto 9, 3) := dk_167 0 9 (dk_at dksX4_markOf_0 18 rfl rfl)
theorem dX4_markOf_21 : decode cX4_markOf 21 = .ok (.aload_n 0, 1) := dk_42 (dk_at dksX4_markOf_0 21 rfl rfl)
theorem dX4_markOf_22 : decode cX4_markOf 22 = .ok (.getfield 23, 3) := dk_180 0 23 (dk_at dksX4_markOf_1 0 rfl rfl)
theorem dX4_markOf_25 : decode cX4_markOf 25 = .ok (.iload_n 1, 1) := dk_27 (dk_at dksX4_markOf_1 3 rfl rfl)
theorem dX4_markOf_26 : decode cX4_markOf 26 = .ok (.iaload, 1) := dk_46 (dk_at dksX4_markOf_1 4 rfl rfl)
theorem dX4_markOf_27 : decode cX4_markOf 27 = .ok (.iadd, 1) := dk_96 (dk_at dksX4_markOf_1 5 rfl rfl)
theorem dX4_markOf_28 : decode cX4_markOf 28 = .ok (.ireturn, 1) := dk_172 (dk_at dksX4_markOf_1 6 rfl rfl)
abbrev cX4_passTime : ByteArray := prog_25_method_46_code
def yX4_passTime : MethodName := ⟨RX4, "passTime", "(II)I"⟩
def dkwX4_passTime_3 : List UInt8 := [21, 4, 162, 0, 10, 21, 5, 62, 21, 6, 54, 4, 132, 5, 1, 167, 255, 206, 29, 172]
abbrev dktX4_passTime_3 : List UInt8 := dkwX4_passTime_3 ++ []
def dkwX4_passTime_2 : List UInt8 := [21, 5, 182, 0, 123, 42, 28, 3, 182, 0, 116, 100, 184, 0, 147, 54, 6, 21, 5, 153, 0, 10, 21, 6]
abbrev dktX4_passTime_2 : List UInt8 := dkwX4_passTime_2 ++ dktX4_passTime_3
def dkwX4_passTime_1 : List UInt8 := [182, 0, 64, 172, 3, 62, 3, 54, 4, 3, 54, 5, 21, 5, 17, 1, 0, 162, 0, 48, 42, 27, 3]
abbrev dktX4_passTime_1 : List UInt8 := dkwX4_passTime_1 ++ dktX4_passTime_2
def dkwX4_passTime_0 : List UInt8 := [42, 3, 181, 0, 49, 42, 27, 182, 0, 75, 153, 0, 11, 42, 28, 182, 0, 106, 154, 0, 9, 42, 4]
abbrev dktX4_passTime_0 : List UInt8 := dkwX4_passTime_0 ++ dktX4_passTime_1
theorem dksX4_passTime_0 : cX4_passTime.data.toList.drop 0 = dktX4_passTime_0 := by decide +kernel
theorem dksX4_passTime_1 : cX4_passTime.data.toList.drop 23 = dktX4_passTime_1 := dk_seg dksX4_passTime_0 23 rfl rfl
theorem dksX4_passTime_2 : cX4_passTime.data.toList.drop 46 = dktX4_passTime_2 := dk_seg dksX4_passTime_1 23 rfl rfl
theorem dksX4_passTime_3 : cX4_passTime.data.toList.drop 70 = dktX4_passTime_3 := dk_seg dksX4_passTime_2 24 rfl rfl
theorem dX4_passTime_0 : decode cX4_passTime 0 = .ok (.aload_n 0, 1) := dk_42 (dk_at dksX4_passTime_0 0 rfl rfl)
theorem dX4_passTime_1 : decode cX4_passTime 1 = .ok (.iconst 0, 1) := dk_3 (dk_at dksX4_passTime_0 1 rfl rfl)
theorem dX4_passTime_2 : decode cX4_passTime 2 = .ok (.putfield 49, 3) := dk_181 0 49 (dk_at dksX4_passTime_0 2 rfl rfl)
theorem dX4_passTime_5 : decode cX4_passTime 5 = .ok (.aload_n 0, 1) := dk_42 (dk_at dksX4_passTime_0 5 rfl rfl)
theorem dX4_passTime_6 : decode cX4_passTime 6 = .ok (.iload_n 1, 1) := dk_27 (dk_at dksX4_passTime_0 6 rfl rfl)
theorem dX4_passTime_7 : decode cX4_passTime 7 = .ok (.invokevirtual 75, 3) := dk_182 0 75 (dk_at dksX4_passTime_0 7 rfl rfl)
theorem dX4_passTime_10 : decode cX4_passTime 10 = .ok (.ifCond .eq 11, 3) := dk_153 0 11 (dk_at dksX4_passTime_0 10 rfl rfl)
theorem dX4_passTime_13 : decode cX4_passTime 13 = .ok (.aload_n 0, 1) := dk_42 (dk_at dksX4_passTime_0 13 rfl rfl)
theorem dX4_passTime_14 : decode cX4_passTime 14 = .ok (.iload_n 2, 1) := dk_28 (dk_at dksX4_passTime_0 14 rfl rfl)
theorem dX4_passTime_15 : decode cX4_passTime 15 = .ok (.invokevirtual 106, 3) := dk_182 0 106 (dk_at dksX4_passTime_0 15 rfl rfl)
theorem dX4_passTime_18 : decode cX4_passTime 18 = .ok (.ifCond .ne 9, 3) := dk_154 0 9 (dk_at dksX4_passTime_0 18 rfl rfl)
theorem dX4_passTime_21 : decode cX4_passTime 21 = .ok (.aload_n 0, 1) := dk_42 (dk_at dksX4_passTime_0 21 rfl rfl)
theorem dX4_passTime_22 : decode cX4_passTime 22 = .ok (.iconst 1, 1) := dk_4 (dk_at dksX4_passTime_0 22 rfl rfl)
theorem dX4_passTime_23 : decode cX4_passTime 23 = .ok (.invokevirtual 64, 3) := dk_182 0 64 (dk_at dksX4_passTime_1 0 rfl rfl)
theorem dX4_passTime_26 : decode cX4_passTime 26 = .ok (.ireturn, 1) := dk_172 (dk_at dksX4_passTime_1 3 rfl rfl)
theorem dX4_passTime_27 : decode cX4_passTime 27 = .ok (.iconst 0, 1) := dk_3 (dk_at dksX4_passTime_1 4 rfl rfl)
theorem dX4_passTime_28 : decode cX4_passTime 28 = .ok (.istore_n 3, 1) := dk_62 (dk_at dksX4_passTime_1 5 rfl rfl)
theorem dX4_passTime_29 : decode cX4_passTime 29 = .ok (.iconst 0, 1) := dk_3 (dk_at dksX4_passTime_1 6 rfl rfl)
theorem dX4_passTime_30 : decode cX4_passTime 30 = .ok (.istore 4, 2) := dk_54 4 (dk_at dksX4_passTime_1 7 rfl rfl)
theorem dX4_passTime_32 : decode cX4_passTime 32 = .ok (.iconst 0, 1) := dk_3 (dk_at dksX4_passTime_1 9 rfl rfl)
theorem dX4_passTime_33 : decode cX4_passTime 33 = .ok (.istore 5, 2) := dk_54 5 (dk_at dksX4_passTime_1 10 rfl rfl)
theorem dX4_passTime_35 : decode cX4_passTime 35 = .ok (.iload 5, 2) := dk_21 5 (dk_at dksX4_passTime_1 12 rfl rfl)
theorem dX4_passTime_37 : decode cX4_passTime 37 = .ok (.sipush 256, 3) := dk_17 1 0 (dk_at dksX4_passTime_1 14 rfl rfl)
theorem dX4_passTime_40 : decode cX4_passTime 40 = .ok (.if_icmp .ge 48, 3) := dk_162 0 48 (dk_at dksX4_passTime_1 17 rfl rfl)
theorem dX4_passTime_43 : decode cX4_passTime 43 = .ok (.aload_n 0, 1) := dk_42 (dk_at dksX4_passTime_1 20 rfl rfl)
theorem dX4_passTime_44 : decode cX4_passTime 44 = .ok (.iload_n 1, 1) := dk_27 (dk_at dksX4_passTime_1 21 rfl rfl)
theorem dX4_passTime_45 : decode cX4_passTime 45 = .ok (.iconst 0, 1) := dk_3 (dk_at dksX4_passTime_1 22 rfl rfl)
theorem dX4_passTime_46 : decode cX4_passTime 46 = .ok (.iload 5, 2) := dk_21 5 (dk_at dksX4_passTime_2 0 rfl rfl)
theorem dX4_passTime_48 : decode cX4_passTime 48 = .ok (.invokevirtual 123, 3) := dk_182 0 123 (dk_at dksX4_passTime_2 2 rfl rfl)
theorem dX4_passTime_51 : decode cX4_passTime 51 = .ok (.aload_n 0, 1) := dk_42 (dk_at dksX4_passTime_2 5 rfl rfl)
theorem dX4_passTime_52 : decode cX4_passTime 52 = .ok (.iload_n 2, 1) := dk_28 (dk_at dksX4_passTime_2 6 rfl rfl)
theorem dX4_passTime_53 : decode cX4_passTime 53 = .ok (.iconst 0, 1) := dk_3 (dk_at dksX4_passTime_2 7 rfl rfl)
theorem dX4_passTime_54 : decode cX4_passTime 54 = .ok (.invokevirtual 116, 3) := dk_182 0 116 (dk_at dksX4_passTime_2 8 rfl rfl)
theorem dX4_passTime_57 : decode cX4_passTime 57 = .ok (.isub, 1) := dk_100 (dk_at dksX4_passTime_2 11 rfl rfl)
theorem dX4_passTime_58 : decode cX4_passTime 58 = .ok (.invokestatic 147, 3) := dk_184 0 147 (dk_at dksX4_passTime_2 12 rfl rfl)
theorem dX4_passTime_61 : decode cX4_passTime 61 = .ok (.istore 6, 2) := dk_54 6 (dk_at dksX4_passTime_2 15 rfl rfl)
theorem dX4_passTime_63 : decode cX4_passTime 63 = .ok (.iload 5, 2) := dk_21 5 (dk_at dksX4_passTime_2 17 rfl rfl)
theorem dX4_passTime_65 : decode cX4_passTime 65 = .ok (.ifCond .eq 10, 3) := dk_153 0 10 (dk_at dksX4_passTime_2 19 rfl rfl)
theorem dX4_passTime_68 : decode cX4_passTime 68 = .ok (.iload 6, 2) := dk_21 6 (dk_at dksX4_passTime_2 22 rfl rfl)
theorem dX4_passTime_70 : decode cX4_passTime 70 = .ok (.iload 4, 2) := dk_21 4 (dk_at dksX4_passTime_3 0 rfl rfl)
theorem dX4_passTime_72 : decode cX4_passTime 72 = .ok (.if_icmp .ge 10, 3) := dk_162 0 10 (dk_at dksX4_passTime_3 2 rfl rfl)
theorem dX4_passTime_75 : decode cX4_passTime 75 = .ok (.iload 5, 2) := dk_21 5 (dk_at dksX4_passTime_3 5 rfl rfl)
theorem dX4_passTime_77 : decode cX4_passTime 77 = .ok (.istore_n 3, 1) := dk_62 (dk_at dksX4_passTime_3 7 rfl rfl)
theorem dX4_passTime_78 : decode cX4_passTime 78 = .ok (.iload 6, 2) := dk_21 6 (dk_at dksX4_passTime_3 8 rfl rfl)
theorem dX4_passTime_80 : decode cX4_passTime 80 = .ok (.istore 4, 2) := dk_54 4 (dk_at dksX4_passTime_3 10 rfl rfl)
theorem dX4_passTime_82 : decode cX4_passTime 82 = .ok (.iinc 5 1, 3) := dk_132 5 1 (dk_at dksX4_passTime_3 12 rfl rfl)
theorem dX4_passTime_85 : decode cX4_passTime 85 = .ok (.goto (-50), 3) := dk_167 255 206 (dk_at dksX4_passTime_3 15 rfl rfl)
theorem dX4_passTime_88 : decode cX4_passTime 88 = .ok (.iload_n 3, 1) := dk_29 (dk_at dksX4_passTime_3 18 rfl rfl)
theorem dX4_passTime_89 : decode cX4_passTime 89 = .ok (.ireturn, 1) := dk_172 (dk_at dksX4_passTime_3 19 rfl rfl)
abbrev cX4_makeRecording : ByteArray := prog_25_method_51_code
def yX4_makeRecording : MethodName := ⟨RX4, "makeRecording", "()I"⟩
def dkwX4_makeRecording_5 : List UInt8 := [172]
abbrev dktX4_makeRecording_5 : List UInt8 := dkwX4_makeRecording_5 ++ []
def dkwX4_makeRecording_4 : List UInt8 := [132, 1, 1, 167, 255, 166, 42, 180, 0, 7, 16, 9, 92, 46, 4, 96, 79, 42, 180, 0, 7, 16, 9, 46]
abbrev dktX4_makeRecording_4 : List UInt8 := dkwX4_makeRecording_4 ++ dktX4_makeRecording_5
def dkwX4_makeRecording_3 : List UInt8 := [28, 3, 182, 0, 167, 42, 27, 28, 4, 182, 0, 167, 132, 2, 1, 167, 255, 222, 42, 27, 182, 0, 171]
abbrev dktX4_makeRecording_3 : List UInt8 := dkwX4_makeRecording_3 ++ dktX4_makeRecording_4
def dkwX4_makeRecording_2 : List UInt8 := [167, 255, 229, 3, 61, 28, 42, 180, 0, 7, 16, 7, 46, 162, 0, 29, 42, 27, 28, 182, 0, 140, 42, 27]
abbrev dktX4_makeRecording_2 : List UInt8 := dkwX4_makeRecording_2 ++ dktX4_makeRecording_3
def dkwX4_makeRecording_1 : List UInt8 := [162, 0, 26, 42, 180, 0, 7, 17, 0, 186, 17, 1, 0, 27, 104, 96, 28, 96, 3, 79, 132, 2, 1]
abbrev dktX4_makeRecording_1 : List UInt8 := dkwX4_makeRecording_1 ++ dktX4_makeRecording_2
def dkwX4_makeRecording_0 : List UInt8 := [42, 3, 181, 0, 49, 3, 60, 27, 42, 180, 0, 7, 16, 8, 46, 162, 0, 85, 3, 61, 28, 17, 1, 0]
abbrev dktX4_makeRecording_0 : List UInt8 := dkwX4_makeRecording_0 ++ dktX4_makeRecording_1
theorem dksX4_makeRecording_0 : cX4_makeRecording.data.toList.drop 0 = dktX4_makeRecording_0 := by decide +kernel
theorem dksX4_makeRecording_1 : cX4_makeRecording.data.toList.drop 24 = dktX4_makeRecording_1 := dk_seg dksX4_makeRecording_0 24 rfl rfl
theorem dksX4_makeRecording_2 : cX4_makeRecording.data.toList.drop 47 = dktX4_makeRecording_2 := dk_seg dksX4_makeRecording_1 23 rfl rfl
theorem dksX4_makeRecording_3 : cX4_makeRecording.data.toList.drop 71 = dktX4_makeRecording_3 := dk_seg dksX4_makeRecording_2 24 rfl rfl
theorem dksX4_makeRecording_4 : cX4_makeRecording.data.toList.drop 94 = dktX4_makeRecording_4 := dk_seg dksX4_makeRecording_3 23 rfl rfl
theorem dksX4_makeRecording_5 : cX4_makeRecording.data.toList.drop 118 = dktX4_makeRecording_5 := dk_seg dksX4_makeRecording_4 24 rfl rfl
theorem dX4_makeRecording_0 : decode cX4_makeRecording 0 = .ok (.aload_n 0, 1) := dk_42 (dk_at dksX4_makeRecording_0 0 rfl rfl)
theorem dX4_makeRecording_1 : decode cX4_makeRecording 1 = .ok (.iconst 0, 1) := dk_3 (dk_at dksX4_makeRecording_0 1 rfl rfl)
theorem dX4_makeRecording_2 : decode cX4_makeRecording 2 = .ok (.putfield 49, 3) := dk_181 0 49 (dk_at dksX4_makeRecording_0 2 rfl rfl)
theorem dX4_makeRecording_5 : decode cX4_makeRecording 5 = .ok (.iconst 0, 1) := dk_3 (dk_at dksX4_makeRecording_0 5 rfl rfl)
theorem dX4_makeRecording_6 : decode cX4_makeRecording 6 = .ok (.istore_n 1, 1) := dk_60 (dk_at dksX4_makeRecording_0 6 rfl rfl)
theorem dX4_makeRecording_7 : decode cX4_makeRecording 7 = .ok (.iload_n 1, 1) := dk_27 (dk_at dksX4_makeRecording_0 7 rfl rfl)
theorem dX4_makeRecording_8 : decode cX4_makeRecording 8 = .ok (.aload_n 0, 1) := dk_42 (dk_at dksX4_makeRecording_0 8 rfl rfl)
theorem dX4_makeRecording_9 : decode cX4_makeRecording 9 = .ok (.getfield 7, 3) := dk_180 0 7 (dk_at dksX4_makeRecording_0 9 rfl rfl)
theorem dX4_makeRecording_12 : decode cX4_makeRecording 12 = .ok (.bipush 8, 2) := dk_16 8 (dk_at dksX4_makeRecording_0 12 rfl rfl)
theorem dX4_makeRecording_14 : decode cX4_makeRecording 14 = .ok (.iaload, 1) := dk_46 (dk_at dksX4_makeRecording_0 14 rfl rfl)
theorem dX4_makeRecording_15 : decode cX4_makeRecording 15 = .ok (.if_icmp .ge 85, 3) := dk_162 0 85 (dk_at dksX4_makeRecording_0 15 rfl rfl)
theorem dX4_makeRecording_18 : decode cX4_makeRecording 18 = .ok (.iconst 0, 1) := dk_3 (dk_at dksX4_makeRecording_0 18 rfl rfl)
theorem dX4_makeRecording_19 : decode cX4_makeRecording 19 = .ok (.istore_n 2, 1) := dk_61 (dk_at dksX4_makeRecording_0 19 rfl rfl)
theorem dX4_makeRecording_20 : decode cX4_makeRecording 20 = .ok (.iload_n 2, 1) := dk_28 (dk_at dksX4_makeRecording_0 20 rfl rfl)
theorem dX4_makeRecording_21 : decode cX4_makeRecording 21 = .ok (.sipush 256, 3) := dk_17 1 0 (dk_at dksX4_makeRecording_0 21 rfl rfl)
theorem dX4_makeRecording_24 : decode cX4_makeRecording 24 = .ok (.if_icmp .ge 26, 3) := dk_162 0 26 (dk_at dksX4_makeRecording_1 0 rfl rfl)
theorem dX4_makeRecording_27 : decode cX4_makeRecording 27 = .ok (.aload_n 0, 1) := dk_42 (dk_at dksX4_makeRecording_1 3 rfl rfl)
theorem dX4_makeRecording_28 : decode cX4_makeRecording 28 = .ok (.getfield 7, 3) := dk_180 0 7 (dk_at dksX4_makeRecording_1 4 rfl rfl)
theorem dX4_makeRecording_31 : decode cX4_makeRecording 31 = .ok (.sipush 186, 3) := dk_17 0 186 (dk_at dksX4_makeRecording_1 7 rfl rfl)
theorem dX4_makeRecording_34 : decode cX4_makeRecording 34 = .ok (.sipush 256, 3) := dk_17 1 0 (dk_at dksX4_makeRecording_1 10 rfl rfl)
theorem dX4_makeRecording_37 : decode cX4_makeRecording 37 = .ok (.iload_n 1, 1) := dk_27 (dk_at dksX4_makeRecording_1 13 rfl rfl)
theorem dX4_makeRecording_38 : decode cX4_makeRecording 38 = .ok (.imul, 1) := dk_104 (dk_at dksX4_makeRecording_1 14 rfl rfl)
theorem dX4_makeRecording_39 : decode cX4_makeRecording 39 = .ok (.iadd, 1) := dk_96 (dk_at dksX4_makeRecording_1 15 rfl rfl)
theorem dX4_makeRecording_40 : decode cX4_makeRecording 40 = .ok (.iload_n 2, 1) := dk_28 (dk_at dksX4_makeRecording_1 16 rfl rfl)
theorem dX4_makeRecording_41 : decode cX4_makeRecording 41 = .ok (.iadd, 1) := dk_96 (dk_at dksX4_makeRecording_1 17 rfl rfl)
theorem dX4_makeRecording_42 : decode cX4_makeRecording 42 = .ok (.iconst 0, 1) := dk_3 (dk_at dksX4_makeRecording_1 18 rfl rfl)
theorem dX4_makeRecording_43 : decode cX4_makeRecording 43 = .ok (.iastore, 1) := dk_79 (dk_at dksX4_makeRecording_1 19 rfl rfl)
theorem dX4_makeRecording_44 : decode cX4_makeRecording 44 = .ok (.iinc 2 1, 3) := dk_132 2 1 (dk_at dksX4_makeRecording_1 20 rfl rfl)
theorem dX4_makeRecording_47 : decode cX4_makeRecording 47 = .ok (.goto (-27), 3) := dk_167 255 229 (dk_at dksX4_makeRecording_2 0 rfl rfl)
theorem dX4_makeRecording_50 : decode cX4_makeRecording 50 = .ok (.iconst 0, 1) := dk_3 (dk_at dksX4_makeRecording_2 3 rfl rfl)
theorem dX4_makeRecording_51 : decode cX4_makeRecording 51 = .ok (.istore_n 2, 1) := dk_61 (dk_at dksX4_makeRecording_2 4 rfl rfl)
theorem dX4_makeRecording_52 : decode cX4_makeRecording 52 = .ok (.iload_n 2, 1) := dk_28 (dk_at dksX4_makeRecording_2 5 rfl rfl)
theorem dX4_makeRecording_53 : decode cX4_makeRecording 53 = .ok (.aload_n 0, 1) := dk_42 (dk_at dksX4_makeRecording_2 6 rfl rfl)
theorem dX4_makeRecording_54 : decode cX4_makeRecording 54 = .ok (.getfield 7, 3) := dk_180 0 7 (dk_at dksX4_makeRecording_2 7 rfl rfl)
theorem dX4_makeRecording_57 : decode cX4_makeRecording 57 = .ok (.bipush 7, 2) := dk_16 7 (dk_at dksX4_makeRecording_2 10 rfl rfl)
theorem dX4_makeRecording_59 : decode cX4_makeRecording 59 = .ok (.iaload, 1) := dk_46 (dk_at dksX4_makeRecording_2 12 rfl rfl)
theorem dX4_makeRecording_60 : decode cX4_makeRecording 60 = .ok (.if_icmp .ge 29, 3) := dk_162 0 29 (dk_at dksX4_makeRecording_2 13 rfl rfl)
theorem dX4_makeRecording_63 : decode cX4_makeRecording 63 = .ok (.aload_n 0, 1) := dk_42 (dk_at dksX4_makeRecording_2 16 rfl rfl)
theorem dX4_makeRecording_64 : decode cX4_makeRecording 64 = .ok (.iload_n 1, 1) := dk_27 (dk_at dksX4_makeRecording_2 17 rfl rfl)
theorem dX4_makeRecording_65 : decode cX4_makeRecording 65 = .ok (.iload_n 2, 1) := dk_28 (dk_at dksX4_makeRecording_2 18 rfl rfl)
theorem dX4_makeRecording_66 : decode cX4_makeRecording 66 = .ok (.invokevirtual 140, 3) := dk_182 0 140 (dk_at dksX4_makeRecording_2 19 rfl rfl)
theorem dX4_makeRecording_69 : decode cX4_makeRecording 69 = .ok (.aload_n 0, 1) := dk_42 (dk_at dksX4_makeRecording_2 22 rfl rfl)
theorem dX4_makeRecording_70 : decode cX4_makeRecording 70 = .ok (.iload_n 1, 1) := dk_27 (dk_at dksX4_makeRecording_2 23 rfl rfl)
theorem dX4_makeRecording_71 : decode cX4_makeRecording 71 = .ok (.iload_n 2, 1) := dk_28 (dk_at dksX4_makeRecording_3 0 rfl rfl)
theorem dX4_makeRecording_72 : decode cX4_makeRecording 72 = .ok (.iconst 0, 1) := dk_3 (dk_at dksX4_makeRecording_3 1 rfl rfl)
theorem dX4_makeRecording_73 : decode cX4_makeRecording 73 = .ok (.invokevirtual 167, 3) := dk_182 0 167 (dk_at dksX4_makeRecording_3 2 rfl rfl)
theorem dX4_makeRecording_76 : decode cX4_makeRecording 76 = .ok (.aload_n 0, 1) := dk_42 (dk_at dksX4_makeRecording_3 5 rfl rfl)
theorem dX4_makeRecording_77 : decode cX4_makeRecording 77 = .ok (.iload_n 1, 1) := dk_27 (dk_at dksX4_makeRecording_3 6 rfl rfl)
theorem dX4_makeRecording_78 : decode cX4_makeRecording 78 = .ok (.iload_n 2, 1) := dk_28 (dk_at dksX4_makeRecording_3 7 rfl rfl)
theorem dX4_makeRecording_79 : decode cX4_makeRecording 79 = .ok (.iconst 1, 1) := dk_4 (dk_at dksX4_makeRecording_3 8 rfl rfl)
theorem dX4_makeRecording_80 : decode cX4_makeRecording 80 = .ok (.invokevirtual 167, 3) := dk_182 0 167 (dk_at dksX4_makeRecording_3 9 rfl rfl)
theorem dX4_makeRecording_83 : decode cX4_makeRecording 83 = .ok (.iinc 2 1, 3) := dk_132 2 1 (dk_at dksX4_makeRecording_3 12 rfl rfl)
theorem dX4_makeRecording_86 : decode cX4_makeRecording 86 = .ok (.goto (-34), 3) := dk_167 255 222 (dk_at dksX4_makeRecording_3 15 rfl rfl)
theorem dX4_makeRecording_89 : decode cX4_makeRecording 89 = .ok (.aload_n 0, 1) := dk_42 (dk_at dksX4_makeRecording_3 18 rfl rfl)
theorem dX4_makeRecording_90 : decode cX4_makeRecording 90 = .ok (.iload_n 1, 1) := dk_27 (dk_at dksX4_makeRecording_3 19 rfl rfl)
theorem dX4_makeRecording_91 : decode cX4_makeRecording 91 = .ok (.invokevirtual 171, 3) := dk_182 0 171 (dk_at dksX4_makeRecording_3 20 rfl rfl)
theorem dX4_makeRecording_94 : decode cX4_makeRecording 94 = .ok (.iinc 1 1, 3) := dk_132 1 1 (dk_at dksX4_makeRecording_4 0 rfl rfl)
theorem dX4_makeRecording_97 : decode cX4_makeRecording 97 = .ok (.goto (-90), 3) := dk_167 255 166 (dk_at dksX4_makeRecording_4 3 rfl rfl)
theorem dX4_makeRecording_100 : decode cX4_makeRecording 100 = .ok (.aload_n 0, 1) := dk_42 (dk_at dksX4_makeRecording_4 6 rfl rfl)
theorem dX4_makeRecording_101 : decode cX4_makeRecording 101 = .ok (.getfield 7, 3) := dk_180 0 7 (dk_at dksX4_makeRecording_4 7 rfl rfl)
theorem dX4_makeRecording_104 : decode cX4_makeRecording 104 = .ok (.bipush 9, 2) := dk_16 9 (dk_at dksX4_makeRecording_4 10 rfl rfl)
theorem dX4_makeRecording_106 : decode cX4_makeRecording 106 = .ok (.dup2, 1) := dk_92 (dk_at dksX4_makeRecording_4 12 rfl rfl)
theorem dX4_makeRecording_107 : decode cX4_makeRecording 107 = .ok (.iaload, 1) := dk_46 (dk_at dksX4_makeRecording_4 13 rfl rfl)
theorem dX4_makeRecording_108 : decode cX4_makeRecording 108 = .ok (.iconst 1, 1) := dk_4 (dk_at dksX4_makeRecording_4 14 rfl rfl)
theorem dX4_makeRecording_109 : decode cX4_makeRecording 109 = .ok (.iadd, 1) := dk_96 (dk_at dksX4_makeRecording_4 15 rfl rfl)
theorem dX4_makeRecording_110 : decode cX4_makeRecording 110 = .ok (.iastore, 1) := dk_79 (dk_at dksX4_makeRecording_4 16 rfl rfl)
theorem dX4_makeRecording_111 : decode cX4_makeRecording 111 = .ok (.aload_n 0, 1) := dk_42 (dk_at dksX4_makeRecording_4 17 rfl rfl)
theorem dX4_makeRecording_112 : decode cX4_makeRecording 112 = .ok (.getfield 7, 3) := dk_180 0 7 (dk_at dksX4_makeRecording_4 18 rfl rfl)
theorem dX4_makeRecording_115 : decode cX4_makeRecording 115 = .ok (.bipush 9, 2) := dk_16 9 (dk_at dksX4_makeRecording_4 21 rfl rfl)
theorem dX4_makeRecording_117 : decode cX4_makeRecording 117 = .ok (.iaload, 1) := dk_46 (dk_at dksX4_makeRecording_4 23 rfl rfl)
theorem dX4_makeRecording_118 : decode cX4_makeRecording 118 = .ok (.ireturn, 1) := dk_172 (dk_at dksX4_makeRecording_5 0 rfl rfl)
abbrev cX4_hear : ByteArray := prog_25_method_48_code
def yX4_hear : MethodName := ⟨RX4, "hear", "(IIZ)V"⟩
def dkwX4_hear_5 : List UInt8 := [177]
abbrev dktX4_hear_5 : List UInt8 := dkwX4_hear_5 ++ []
def dkwX4_hear_4 : List UInt8 := [92, 46, 42, 42, 28, 21, 4, 182, 0, 137, 21, 6, 29, 182, 0, 152, 96, 79, 132, 5, 1, 167, 255, 147]
abbrev dktX4_hear_4 : List UInt8 := dkwX4_hear_4 ++ dktX4_hear_5
def dkwX4_hear_3 : List UInt8 := [180, 0, 23, 21, 4, 46, 54, 6, 42, 180, 0, 7, 17, 0, 186, 17, 1, 0, 27, 104, 96, 21, 5, 96]
abbrev dktX4_hear_3 : List UInt8 := dkwX4_hear_3 ++ dktX4_hear_4
def dkwX4_hear_2 : List UInt8 := [167, 255, 224, 21, 4, 2, 159, 0, 60, 29, 153, 0, 13, 42, 180, 0, 26, 21, 4, 46, 167, 0, 10, 42]
abbrev dktX4_hear_2 : List UInt8 := dkwX4_hear_2 ++ dktX4_hear_3
def dkwX4_hear_1 : List UInt8 := [21, 4, 4, 96, 29, 182, 0, 133, 21, 5, 42, 180, 0, 7, 3, 46, 104, 163, 0, 9, 132, 4, 1]
abbrev dktX4_hear_1 : List UInt8 := dkwX4_hear_1 ++ dktX4_hear_2
def dkwX4_hear_0 : List UInt8 := [2, 54, 4, 3, 54, 5, 21, 5, 17, 1, 0, 162, 0, 107, 21, 4, 17, 0, 255, 162, 0, 30, 42]
abbrev dktX4_hear_0 : List UInt8 := dkwX4_hear_0 ++ dktX4_hear_1
theorem dksX4_hear_0 : cX4_hear.data.toList.drop 0 = dktX4_hear_0 := by decide +kernel
theorem dksX4_hear_1 : cX4_hear.data.toList.drop 23 = dktX4_hear_1 := dk_seg dksX4_hear_0 23 rfl rfl
theorem dksX4_hear_2 : cX4_hear.data.toList.drop 46 = dktX4_hear_2 := dk_seg dksX4_hear_1 23 rfl rfl
theorem dksX4_hear_3 : cX4_hear.data.toList.drop 70 = dktX4_hear_3 := dk_seg dksX4_hear_2 24 rfl rfl
theorem dksX4_hear_4 : cX4_hear.data.toList.drop 94 = dktX4_hear_4 := dk_seg dksX4_hear_3 24 rfl rfl
theorem dksX4_hear_5 : cX4_hear.data.toList.drop 118 = dktX4_hear_5 := dk_seg dksX4_hear_4 24 rfl rfl
theorem dX4_hear_0 : decode cX4_hear 0 = .ok (.iconst (-1), 1) := dk_2 (dk_at dksX4_hear_0 0 rfl rfl)
theorem dX4_hear_1 : decode cX4_hear 1 = .ok (.istore 4, 2) := dk_54 4 (dk_at dksX4_hear_0 1 rfl rfl)
theorem dX4_hear_3 : decode cX4_hear 3 = .ok (.iconst 0, 1) := dk_3 (dk_at dksX4_hear_0 3 rfl rfl)
theorem dX4_hear_4 : decode cX4_hear 4 = .ok (.istore 5, 2) := dk_54 5 (dk_at dksX4_hear_0 4 rfl rfl)
theorem dX4_hear_6 : decode cX4_hear 6 = .ok (.iload 5, 2) := dk_21 5 (dk_at dksX4_hear_0 6 rfl rfl)
theorem dX4_hear_8 : decode cX4_hear 8 = .ok (.sipush 256, 3) := dk_17 1 0 (dk_at dksX4_hear_0 8 rfl rfl)
theorem dX4_hear_11 : decode cX4_hear 11 = .ok (.if_icmp .ge 107, 3) := dk_162 0 107 (dk_at dksX4_hear_0 11 rfl rfl)
theorem dX4_hear_14 : decode cX4_hear 14 = .ok (.iload 4, 2) := dk_21 4 (dk_at dksX4_hear_0 14 rfl rfl)
theorem dX4_hear_16 : decode cX4_hear 16 = .ok (.sipush 255, 3) := dk_17 0 255 (dk_at dksX4_hear_0 16 rfl rfl)
theorem dX4_hear_19 : decode cX4_hear 19 = .ok (.if_icmp .ge 30, 3) := dk_162 0 30 (dk_at dksX4_hear_0 19 rfl rfl)
theorem dX4_hear_22 : decode cX4_hear 22 = .ok (.aload_n 0, 1) := dk_42 (dk_at dksX4_hear_0 22 rfl rfl)
theorem dX4_hear_23 : decode cX4_hear 23 = .ok (.iload 4, 2) := dk_21 4 (dk_at dksX4_hear_1 0 rfl rfl)
theorem dX4_hear_25 : decode cX4_hear 25 = .ok (.iconst 1, 1) := dk_4 (dk_at dksX4_hear_1 2 rfl rfl)
theorem dX4_hear_26 : decode cX4_hear 26 = .ok (.iadd, 1) := dk_96 (dk_at dksX4_hear_1 3 rfl rfl)
theorem dX4_hear_27 : decode cX4_hear 27 = .ok (.iload_n 3, 1) := dk_29 (dk_at dksX4_hear_1 4 rfl rfl)
theorem dX4_hear_28 : decode cX4_hear 28 = .ok (.invokevirtual 133, 3) := dk_182 0 133 (dk_at dksX4_hear_1 5 rfl rfl)
theorem dX4_hear_31 : decode cX4_hear 31 = .ok (.iload 5, 2) := dk_21 5 (dk_at dksX4_hear_1 8 rfl rfl)
theorem dX4_hear_33 : decode cX4_hear 33 = .ok (.aload_n 0, 1) := dk_42 (dk_at dksX4_hear_1 10 rfl rfl)
theorem dX4_hear_34 : decode cX4_hear 34 = .ok (.getfield 7, 3) := dk_180 0 7 (dk_at dksX4_hear_1 11 rfl rfl)
theorem dX4_hear_37 : decode cX4_hear 37 = .ok (.iconst 0, 1) := dk_3 (dk_at dksX4_hear_1 14 rfl rfl)
theorem dX4_hear_38 : decode cX4_hear 38 = .ok (.iaload, 1) := dk_46 (dk_at dksX4_hear_1 15 rfl rfl)
theorem dX4_hear_39 : decode cX4_hear 39 = .ok (.imul, 1) := dk_104 (dk_at dksX4_hear_1 16 rfl rfl)
theorem dX4_hear_40 : decode cX4_hear 40 = .ok (.if_icmp .gt 9, 3) := dk_163 0 9 (dk_at dksX4_hear_1 17 rfl rfl)
theorem dX4_hear_43 : decode cX4_hear 43 = .ok (.iinc 4 1, 3) := dk_132 4 1 (dk_at dksX4_hear_1 20 rfl rfl)
theorem dX4_hear_46 : decode cX4_hear 46 = .ok (.goto (-32), 3) := dk_167 255 224 (dk_at dksX4_hear_2 0 rfl rfl)
theorem dX4_hear_49 : decode cX4_hear 49 = .ok (.iload 4, 2) := dk_21 4 (dk_at dksX4_hear_2 3 rfl rfl)
theorem dX4_hear_51 : decode cX4_hear 51 = .ok (.iconst (-1), 1) := dk_2 (dk_at dksX4_hear_2 5 rfl rfl)
theorem dX4_hear_52 : decode cX4_hear 52 = .ok (.if_icmp .eq 60, 3) := dk_159 0 60 (dk_at dksX4_hear_2 6 rfl rfl)
theorem dX4_hear_55 : decode cX4_hear 55 = .ok (.iload_n 3, 1) := dk_29 (dk_at dksX4_hear_2 9 rfl rfl)
theorem dX4_hear_56 : decode cX4_hear 56 = .ok (.ifCond .eq 13, 3) := dk_153 0 13 (dk_at dksX4_hear_2 10 rfl rfl)
theorem dX4_hear_59 : decode cX4_hear 59 = .ok (.aload_n 0, 1) := dk_42 (dk_at dksX4_hear_2 13 rfl rfl)
theorem dX4_hear_60 : decode cX4_hear 60 = .ok (.getfield 26, 3) := dk_180 0 26 (dk_at dksX4_hear_2 14 rfl rfl)
theorem dX4_hear_63 : decode cX4_hear 63 = .ok (.iload 4, 2) := dk_21 4 (dk_at dksX4_hear_2 17 rfl rfl)
theorem dX4_hear_65 : decode cX4_hear 65 = .ok (.iaload, 1) := dk_46 (dk_at dksX4_hear_2 19 rfl rfl)
theorem dX4_hear_66 : decode cX4_hear 66 = .ok (.goto 10, 3) := dk_167 0 10 (dk_at dksX4_hear_2 20 rfl rfl)
theorem dX4_hear_69 : decode cX4_hear 69 = .ok (.aload_n 0, 1) := dk_42 (dk_at dksX4_hear_2 23 rfl rfl)
theorem dX4_hear_70 : decode cX4_hear 70 = .ok (.getfield 23, 3) := dk_180 0 23 (dk_at dksX4_hear_3 0 rfl rfl)
theorem dX4_hear_73 : decode cX4_hear 73 = .ok (.iload 4, 2) := dk_21 4 (dk_at dksX4_hear_3 3 rfl rfl)
theorem dX4_hear_75 : decode cX4_hear 75 = .ok (.iaload, 1) := dk_46 (dk_at dksX4_hear_3 5 rfl rfl)
theorem dX4_hear_76 : decode cX4_hear 76 = .ok (.istore 6, 2) := dk_54 6 (dk_at dksX4_hear_3 6 rfl rfl)
theorem dX4_hear_78 : decode cX4_hear 78 = .ok (.aload_n 0, 1) := dk_42 (dk_at dksX4_hear_3 8 rfl rfl)
theorem dX4_hear_79 : decode cX4_hear 79 = .ok (.getfield 7, 3) := dk_180 0 7 (dk_at dksX4_hear_3 9 rfl rfl)
theorem dX4_hear_82 : decode cX4_hear 82 = .ok (.sipush 186, 3) := dk_17 0 186 (dk_at dksX4_hear_3 12 rfl rfl)
theorem dX4_hear_85 : decode cX4_hear 85 = .ok (.sipush 256, 3) := dk_17 1 0 (dk_at dksX4_hear_3 15 rfl rfl)
theorem dX4_hear_88 : decode cX4_hear 88 = .ok (.iload_n 1, 1) := dk_27 (dk_at dksX4_hear_3 18 rfl rfl)
theorem dX4_hear_89 : decode cX4_hear 89 = .ok (.imul, 1) := dk_104 (dk_at dksX4_hear_3 19 rfl rfl)
theorem dX4_hear_90 : decode cX4_hear 90 = .ok (.iadd, 1) := dk_96 (dk_at dksX4_hear_3 20 rfl rfl)
theorem dX4_hear_91 : decode cX4_hear 91 = .ok (.iload 5, 2) := dk_21 5 (dk_at dksX4_hear_3 21 rfl rfl)
theorem dX4_hear_93 : decode cX4_hear 93 = .ok (.iadd, 1) := dk_96 (dk_at dksX4_hear_3 23 rfl rfl)
theorem dX4_hear_94 : decode cX4_hear 94 = .ok (.dup2, 1) := dk_92 (dk_at dksX4_hear_4 0 rfl rfl)
theorem dX4_hear_95 : decode cX4_hear 95 = .ok (.iaload, 1) := dk_46 (dk_at dksX4_hear_4 1 rfl rfl)
theorem dX4_hear_96 : decode cX4_hear 96 = .ok (.aload_n 0, 1) := dk_42 (dk_at dksX4_hear_4 2 rfl rfl)
theorem dX4_hear_97 : decode cX4_hear 97 = .ok (.aload_n 0, 1) := dk_42 (dk_at dksX4_hear_4 3 rfl rfl)
theorem dX4_hear_98 : decode cX4_hear 98 = .ok (.iload_n 2, 1) := dk_28 (dk_at dksX4_hear_4 4 rfl rfl)
theorem dX4_hear_99 : decode cX4_hear 99 = .ok (.iload 4, 2) := dk_21 4 (dk_at dksX4_hear_4 5 rfl rfl)
theorem dX4_hear_101 : decode cX4_hear 101 = .ok (.invokevirtual 137, 3) := dk_182 0 137 (dk_at dksX4_hear_4 7 rfl rfl)
theorem dX4_hear_104 : decode cX4_hear 104 = .ok (.iload 6, 2) := dk_21 6 (dk_at dksX4_hear_4 10 rfl rfl)
theorem dX4_hear_106 : decode cX4_hear 106 = .ok (.iload_n 3, 1) := dk_29 (dk_at dksX4_hear_4 12 rfl rfl)
theorem dX4_hear_107 : decode cX4_hear 107 = .ok (.invokevirtual 152, 3) := dk_182 0 152 (dk_at dksX4_hear_4 13 rfl rfl)
theorem dX4_hear_110 : decode cX4_hear 110 = .ok (.iadd, 1) := dk_96 (dk_at dksX4_hear_4 16 rfl rfl)
theorem dX4_hear_111 : decode cX4_hear 111 = .ok (.iastore, 1) := dk_79 (dk_at dksX4_hear_4 17 rfl rfl)
theorem dX4_hear_112 : decode cX4_hear 112 = .ok (.iinc 5 1, 3) := dk_132 5 1 (dk_at dksX4_hear_4 18 rfl rfl)
theorem dX4_hear_115 : decode cX4_hear 115 = .ok (.goto (-109), 3) := dk_167 255 147 (dk_at dksX4_hear_4 21 rfl rfl)
theorem dX4_hear_118 : decode cX4_hear 118 = .ok (.return_, 1) := dk_177 (dk_at dksX4_hear_5 0 rfl rfl)
abbrev cX4_amountOf : ByteArray := prog_25_method_47_code
def yX4_amountOf : MethodName := ⟨RX4, "amountOf", "(IIZ)I"⟩
def dkwX4_amountOf_2 : List UInt8 := [172]
abbrev dktX4_amountOf_2 : List UInt8 := dkwX4_amountOf_2 ++ []
def dkwX4_amountOf_1 : List UInt8 := [27, 54, 4, 29, 153, 0, 18, 21, 4, 42, 180, 0, 7, 4, 46, 104, 16, 100, 108, 167, 0, 5, 21, 4]
abbrev dktX4_amountOf_1 : List UInt8 := dkwX4_amountOf_1 ++ dktX4_amountOf_2
def dkwX4_amountOf_0 : List UInt8 := [42, 180, 0, 7, 5, 46, 4, 160, 0, 17, 27, 17, 3, 232, 104, 17, 3, 232, 28, 96, 108, 167, 0, 4]
abbrev dktX4_amountOf_0 : List UInt8 := dkwX4_amountOf_0 ++ dktX4_amountOf_1
theorem dksX4_amountOf_0 : cX4_amountOf.data.toList.drop 0 = dktX4_amountOf_0 := by decide +kernel
theorem dksX4_amountOf_1 : cX4_amountOf.data.toList.drop 24 = dktX4_amountOf_1 := dk_seg dksX4_amountOf_0 24 rfl rfl
theorem dksX4_amountOf_2 : cX4_amountOf.data.toList.drop 48 = dktX4_amountOf_2 := dk_seg dksX4_amountOf_1 24 rfl rfl
theorem dX4_amountOf_0 : decode cX4_amountOf 0 = .ok (.aload_n 0, 1) := dk_42 (dk_at dksX4_amountOf_0 0 rfl rfl)
theorem dX4_amountOf_1 : decode cX4_amountOf 1 = .ok (.getfield 7, 3) := dk_180 0 7 (dk_at dksX4_amountOf_0 1 rfl rfl)
theorem dX4_amountOf_4 : decode cX4_amountOf 4 = .ok (.iconst 2, 1) := dk_5 (dk_at dksX4_amountOf_0 4 rfl rfl)
theorem dX4_amountOf_5 : decode cX4_amountOf 5 = .ok (.iaload, 1) := dk_46 (dk_at dksX4_amountOf_0 5 rfl rfl)
theorem dX4_amountOf_6 : decode cX4_amountOf 6 = .ok (.iconst 1, 1) := dk_4 (dk_at dksX4_amountOf_0 6 rfl rfl)
theorem dX4_amountOf_7 : decode cX4_amountOf 7 = .ok (.if_icmp .ne 17, 3) := dk_160 0 17 (dk_at dksX4_amountOf_0 7 rfl rfl)
theorem dX4_amountOf_10 : decode cX4_amountOf 10 = .ok (.iload_n 1, 1) := dk_27 (dk_at dksX4_amountOf_0 10 rfl rfl)
theorem dX4_amountOf_11 : decode cX4_amountOf 11 = .ok (.sipush 1000, 3) := dk_17 3 232 (dk_at dksX4_amountOf_0 11 rfl rfl)
theorem dX4_amountOf_14 : decode cX4_amountOf 14 = .ok (.imul, 1) := dk_104 (dk_at dksX4_amountOf_0 14 rfl rfl)
theorem dX4_amountOf_15 : decode cX4_amountOf 15 = .ok (.sipush 1000, 3) := dk_17 3 232 (dk_at dksX4_amountOf_0 15 rfl rfl)
theorem dX4_amountOf_18 : decode cX4_amountOf 18 = .ok (.iload_n 2, 1) := dk_28 (dk_at dksX4_amountOf_0 18 rfl rfl)
theorem dX4_amountOf_19 : decode cX4_amountOf 19 = .ok (.iadd, 1) := dk_96 (dk_at dksX4_amountOf_0 19 rfl rfl)
theorem dX4_amountOf_20 : decode cX4_amountOf 20 = .ok (.idiv, 1) := dk_108 (dk_at dksX4_amountOf_0 20 rfl rfl)
theorem dX4_amountOf_21 : decode cX4_amountOf 21 = .ok (.goto 4, 3) := dk_167 0 4 (dk_at dksX4_amountOf_0 21 rfl rfl)
theorem dX4_amountOf_24 : decode cX4_amountOf 24 = .ok (.iload_n 1, 1) := dk_27 (dk_at dksX4_amountOf_1 0 rfl rfl)
theorem dX4_amountOf_25 : decode cX4_amountOf 25 = .ok (.istore 4, 2) := dk_54 4 (dk_at dksX4_amountOf_1 1 rfl rfl)
theorem dX4_amountOf_27 : decode cX4_amountOf 27 = .ok (.iload_n 3, 1) := dk_29 (dk_at dksX4_amountOf_1 3 rfl rfl)
theorem dX4_amountOf_28 : decode cX4_amountOf 28 = .ok (.ifCond .eq 18, 3) := dk_153 0 18 (dk_at dksX4_amountOf_1 4 rfl rfl)
theorem dX4_amountOf_31 : decode cX4_amountOf 31 = .ok (.iload 4, 2) := dk_21 4 (dk_at dksX4_amountOf_1 7 rfl rfl)
theorem dX4_amountOf_33 : decode cX4_amountOf 33 = .ok (.aload_n 0, 1) := dk_42 (dk_at dksX4_amountOf_1 9 rfl rfl)
theorem dX4_amountOf_34 : decode cX4_amountOf 34 = .ok (.getfield 7, 3) := dk_180 0 7 (dk_at dksX4_amountOf_1 10 rfl rfl)
theorem dX4_amountOf_37 : decode cX4_amountOf 37 = .ok (.iconst 1, 1) := dk_4 (dk_at dksX4_amountOf_1 13 rfl rfl)
theorem dX4_amountOf_38 : decode cX4_amountOf 38 = .ok (.iaload, 1) := dk_46 (dk_at dksX4_amountOf_1 14 rfl rfl)
theorem dX4_amountOf_39 : decode cX4_amountOf 39 = .ok (.imul, 1) := dk_104 (dk_at dksX4_amountOf_1 15 rfl rfl)
theorem dX4_amountOf_40 : decode cX4_amountOf 40 = .ok (.bipush 100, 2) := dk_16 100 (dk_at dksX4_amountOf_1 16 rfl rfl)
theorem dX4_amountOf_42 : decode cX4_amountOf 42 = .ok (.idiv, 1) := dk_108 (dk_at dksX4_amountOf_1 18 rfl rfl)
theorem dX4_amountOf_43 : decode cX4_amountOf 43 = .ok (.goto 5, 3) := dk_167 0 5 (dk_at dksX4_amountOf_1 19 rfl rfl)
theorem dX4_amountOf_46 : decode cX4_amountOf 46 = .ok (.iload 4, 2) := dk_21 4 (dk_at dksX4_amountOf_1 22 rfl rfl)
theorem dX4_amountOf_48 : decode cX4_amountOf 48 = .ok (.ireturn, 1) := dk_172 (dk_at dksX4_amountOf_2 0 rfl rfl)
abbrev cX4_addNoise : ByteArray := prog_25_method_50_code
def yX4_addNoise : MethodName := ⟨RX4, "addNoise", "(I)V"⟩
def dkwX4_addNoise_2 : List UInt8 := [96, 79, 132, 3, 1, 167, 255, 212, 177]
abbrev dktX4_addNoise_2 : List UInt8 := dkwX4_addNoise_2 ++ []
def dkwX4_addNoise_1 : List UInt8 := [17, 0, 186, 17, 1, 0, 27, 104, 96, 29, 96, 92, 46, 42, 5, 28, 104, 4, 96, 182, 0, 164, 28, 100]
abbrev dktX4_addNoise_1 : List UInt8 := dkwX4_addNoise_1 ++ dktX4_addNoise_2
def dkwX4_addNoise_0 : List UInt8 := [42, 180, 0, 7, 7, 46, 61, 3, 62, 29, 17, 1, 0, 162, 0, 43, 28, 158, 0, 39, 42, 180, 0, 7]
abbrev dktX4_addNoise_0 : List UInt8 := dkwX4_addNoise_0 ++ dktX4_addNoise_1
theorem dksX4_addNoise_0 : cX4_addNoise.data.toList.drop 0 = dktX4_addNoise_0 := by decide +kernel
theorem dksX4_addNoise_1 : cX4_addNoise.data.toList.drop 24 = dktX4_addNoise_1 := dk_seg dksX4_addNoise_0 24 rfl rfl
theorem dksX4_addNoise_2 : cX4_addNoise.data.toList.drop 48 = dktX4_addNoise_2 := dk_seg dksX4_addNoise_1 24 rfl rfl
theorem dX4_addNoise_0 : decode cX4_addNoise 0 = .ok (.aload_n 0, 1) := dk_42 (dk_at dksX4_addNoise_0 0 rfl rfl)
theorem dX4_addNoise_1 : decode cX4_addNoise 1 = .ok (.getfield 7, 3) := dk_180 0 7 (dk_at dksX4_addNoise_0 1 rfl rfl)
theorem dX4_addNoise_4 : decode cX4_addNoise 4 = .ok (.iconst 4, 1) := dk_7 (dk_at dksX4_addNoise_0 4 rfl rfl)
theorem dX4_addNoise_5 : decode cX4_addNoise 5 = .ok (.iaload, 1) := dk_46 (dk_at dksX4_addNoise_0 5 rfl rfl)
theorem dX4_addNoise_6 : decode cX4_addNoise 6 = .ok (.istore_n 2, 1) := dk_61 (dk_at dksX4_addNoise_0 6 rfl rfl)
theorem dX4_addNoise_7 : decode cX4_addNoise 7 = .ok (.iconst 0, 1) := dk_3 (dk_at dksX4_addNoise_0 7 rfl rfl)
theorem dX4_addNoise_8 : decode cX4_addNoise 8 = .ok (.istore_n 3, 1) := dk_62 (dk_at dksX4_addNoise_0 8 rfl rfl)
theorem dX4_addNoise_9 : decode cX4_addNoise 9 = .ok (.iload_n 3, 1) := dk_29 (dk_at dksX4_addNoise_0 9 rfl rfl)
theorem dX4_addNoise_10 : decode cX4_addNoise 10 = .ok (.sipush 256, 3) := dk_17 1 0 (dk_at dksX4_addNoise_0 10 rfl rfl)
theorem dX4_addNoise_13 : decode cX4_addNoise 13 = .ok (.if_icmp .ge 43, 3) := dk_162 0 43 (dk_at dksX4_addNoise_0 13 rfl rfl)
theorem dX4_addNoise_16 : decode cX4_addNoise 16 = .ok (.iload_n 2, 1) := dk_28 (dk_at dksX4_addNoise_0 16 rfl rfl)
theorem dX4_addNoise_17 : decode cX4_addNoise 17 = .ok (.ifCond .le 39, 3) := dk_158 0 39 (dk_at dksX4_addNoise_0 17 rfl rfl)
theorem dX4_addNoise_20 : decode cX4_addNoise 20 = .ok (.aload_n 0, 1) := dk_42 (dk_at dksX4_addNoise_0 20 rfl rfl)
theorem dX4_addNoise_21 : decode cX4_addNoise 21 = .ok (.getfield 7, 3) := dk_180 0 7 (dk_at dksX4_addNoise_0 21 rfl rfl)
theorem dX4_addNoise_24 : decode cX4_addNoise 24 = .ok (.sipush 186, 3) := dk_17 0 186 (dk_at dksX4_addNoise_1 0 rfl rfl)
theorem dX4_addNoise_27 : decode cX4_addNoise 27 = .ok (.sipush 256, 3) := dk_17 1 0 (dk_at dksX4_addNoise_1 3 rfl rfl)
theorem dX4_addNoise_30 : decode cX4_addNoise 30 = .ok (.iload_n 1, 1) := dk_27 (dk_at dksX4_addNoise_1 6 rfl rfl)
theorem dX4_addNoise_31 : decode cX4_addNoise 31 = .ok (.imul, 1) := dk_104 (dk_at dksX4_addNoise_1 7 rfl rfl)
theorem dX4_addNoise_32 : decode cX4_addNoise 32 = .ok (.iadd, 1) := dk_96 (dk_at dksX4_addNoise_1 8 rfl rfl)
theorem dX4_addNoise_33 : decode cX4_addNoise 33 = .ok (.iload_n 3, 1) := dk_29 (dk_at dksX4_addNoise_1 9 rfl rfl)
theorem dX4_addNoise_34 : decode cX4_addNoise 34 = .ok (.iadd, 1) := dk_96 (dk_at dksX4_addNoise_1 10 rfl rfl)
theorem dX4_addNoise_35 : decode cX4_addNoise 35 = .ok (.dup2, 1) := dk_92 (dk_at dksX4_addNoise_1 11 rfl rfl)
theorem dX4_addNoise_36 : decode cX4_addNoise 36 = .ok (.iaload, 1) := dk_46 (dk_at dksX4_addNoise_1 12 rfl rfl)
theorem dX4_addNoise_37 : decode cX4_addNoise 37 = .ok (.aload_n 0, 1) := dk_42 (dk_at dksX4_addNoise_1 13 rfl rfl)
theorem dX4_addNoise_38 : decode cX4_addNoise 38 = .ok (.iconst 2, 1) := dk_5 (dk_at dksX4_addNoise_1 14 rfl rfl)
theorem dX4_addNoise_39 : decode cX4_addNoise 39 = .ok (.iload_n 2, 1) := dk_28 (dk_at dksX4_addNoise_1 15 rfl rfl)
theorem dX4_addNoise_40 : decode cX4_addNoise 40 = .ok (.imul, 1) := dk_104 (dk_at dksX4_addNoise_1 16 rfl rfl)
theorem dX4_addNoise_41 : decode cX4_addNoise 41 = .ok (.iconst 1, 1) := dk_4 (dk_at dksX4_addNoise_1 17 rfl rfl)
theorem dX4_addNoise_42 : decode cX4_addNoise 42 = .ok (.iadd, 1) := dk_96 (dk_at dksX4_addNoise_1 18 rfl rfl)
theorem dX4_addNoise_43 : decode cX4_addNoise 43 = .ok (.invokevirtual 164, 3) := dk_182 0 164 (dk_at dksX4_addNoise_1 19 rfl rfl)
theorem dX4_addNoise_46 : decode cX4_addNoise 46 = .ok (.iload_n 2, 1) := dk_28 (dk_at dksX4_addNoise_1 22 rfl rfl)
theorem dX4_addNoise_47 : decode cX4_addNoise 47 = .ok (.isub, 1) := dk_100 (dk_at dksX4_addNoise_1 23 rfl rfl)
theorem dX4_addNoise_48 : decode cX4_addNoise 48 = .ok (.iadd, 1) := dk_96 (dk_at dksX4_addNoise_2 0 rfl rfl)
theorem dX4_addNoise_49 : decode cX4_addNoise 49 = .ok (.iastore, 1) := dk_79 (dk_at dksX4_addNoise_2 1 rfl rfl)
theorem dX4_addNoise_50 : decode cX4_addNoise 50 = .ok (.iinc 3 1, 3) := dk_132 3 1 (dk_at dksX4_addNoise_2 2 rfl rfl)
theorem dX4_addNoise_53 : decode cX4_addNoise 53 = .ok (.goto (-44), 3) := dk_167 255 212 (dk_at dksX4_addNoise_2 5 rfl rfl)
theorem dX4_addNoise_56 : decode cX4_addNoise 56 = .ok (.return_, 1) := dk_177 (dk_at dksX4_addNoise_2 8 rfl rfl)
abbrev cX4_draw : ByteArray := prog_25_method_49_code
def yX4_draw : MethodName := ⟨RX4, "draw", "(I)I"⟩
def dkwX4_draw_1 : List UInt8 := [6, 32, 136, 79, 32, 20, 0, 162, 109, 27, 133, 113, 136, 172]
abbrev dktX4_draw_1 : List UInt8 := dkwX4_draw_1 ++ []
def dkwX4_draw_0 : List UInt8 := [42, 180, 0, 7, 6, 46, 133, 20, 0, 156, 105, 20, 0, 158, 97, 20, 0, 160, 113, 65, 42, 180, 0, 7]
abbrev dktX4_draw_0 : List UInt8 := dkwX4_draw_0 ++ dktX4_draw_1
theorem dksX4_draw_0 : cX4_draw.data.toList.drop 0 = dktX4_draw_0 := by decide +kernel
theorem dksX4_draw_1 : cX4_draw.data.toList.drop 24 = dktX4_draw_1 := dk_seg dksX4_draw_0 24 rfl rfl
theorem dX4_draw_0 : decode cX4_draw 0 = .ok (.aload_n 0, 1) := dk_42 (dk_at dksX4_draw_0 0 rfl rfl)
theorem dX4_draw_1 : decode cX4_draw 1 = .ok (.getfield 7, 3) := dk_180 0 7 (dk_at dksX4_draw_0 1 rfl rfl)
theorem dX4_draw_4 : decode cX4_draw 4 = .ok (.iconst 3, 1) := dk_6 (dk_at dksX4_draw_0 4 rfl rfl)
theorem dX4_draw_5 : decode cX4_draw 5 = .ok (.iaload, 1) := dk_46 (dk_at dksX4_draw_0 5 rfl rfl)
theorem dX4_draw_6 : decode cX4_draw 6 = .ok (.i2l, 1) := dk_133 (dk_at dksX4_draw_0 6 rfl rfl)
theorem dX4_draw_7 : decode cX4_draw 7 = .ok (.ldc2_w 156, 3) := dk_20 0 156 (dk_at dksX4_draw_0 7 rfl rfl)
theorem dX4_draw_10 : decode cX4_draw 10 = .ok (.lmul, 1) := dk_105 (dk_at dksX4_draw_0 10 rfl rfl)
theorem dX4_draw_11 : decode cX4_draw 11 = .ok (.ldc2_w 158, 3) := dk_20 0 158 (dk_at dksX4_draw_0 11 rfl rfl)
theorem dX4_draw_14 : decode cX4_draw 14 = .ok (.ladd, 1) := dk_97 (dk_at dksX4_draw_0 14 rfl rfl)
theorem dX4_draw_15 : decode cX4_draw 15 = .ok (.ldc2_w 160, 3) := dk_20 0 160 (dk_at dksX4_draw_0 15 rfl rfl)
theorem dX4_draw_18 : decode cX4_draw 18 = .ok (.lrem, 1) := dk_113 (dk_at dksX4_draw_0 18 rfl rfl)
theorem dX4_draw_19 : decode cX4_draw 19 = .ok (.lstore_n 2, 1) := dk_65 (dk_at dksX4_draw_0 19 rfl rfl)
theorem dX4_draw_20 : decode cX4_draw 20 = .ok (.aload_n 0, 1) := dk_42 (dk_at dksX4_draw_0 20 rfl rfl)
theorem dX4_draw_21 : decode cX4_draw 21 = .ok (.getfield 7, 3) := dk_180 0 7 (dk_at dksX4_draw_0 21 rfl rfl)
theorem dX4_draw_24 : decode cX4_draw 24 = .ok (.iconst 3, 1) := dk_6 (dk_at dksX4_draw_1 0 rfl rfl)
theorem dX4_draw_25 : decode cX4_draw 25 = .ok (.lload_n 2, 1) := dk_32 (dk_at dksX4_draw_1 1 rfl rfl)
theorem dX4_draw_26 : decode cX4_draw 26 = .ok (.l2i, 1) := dk_136 (dk_at dksX4_draw_1 2 rfl rfl)
theorem dX4_draw_27 : decode cX4_draw 27 = .ok (.iastore, 1) := dk_79 (dk_at dksX4_draw_1 3 rfl rfl)
theorem dX4_draw_28 : decode cX4_draw 28 = .ok (.lload_n 2, 1) := dk_32 (dk_at dksX4_draw_1 4 rfl rfl)
theorem dX4_draw_29 : decode cX4_draw 29 = .ok (.ldc2_w 162, 3) := dk_20 0 162 (dk_at dksX4_draw_1 5 rfl rfl)
theorem dX4_draw_32 : decode cX4_draw 32 = .ok (.ldiv, 1) := dk_109 (dk_at dksX4_draw_1 8 rfl rfl)
theorem dX4_draw_33 : decode cX4_draw 33 = .ok (.iload_n 1, 1) := dk_27 (dk_at dksX4_draw_1 9 rfl rfl)
theorem dX4_draw_34 : decode cX4_draw 34 = .ok (.i2l, 1) := dk_133 (dk_at dksX4_draw_1 10 rfl rfl)
theorem dX4_draw_35 : decode cX4_draw 35 = .ok (.lrem, 1) := dk_113 (dk_at dksX4_draw_1 11 rfl rfl)
theorem dX4_draw_36 : decode cX4_draw 36 = .ok (.l2i, 1) := dk_136 (dk_at dksX4_draw_1 12 rfl rfl)
theorem dX4_draw_37 : decode cX4_draw 37 = .ok (.ireturn, 1) := dk_172 (dk_at dksX4_draw_1 13 rfl rfl)
abbrev cX4_sample : ByteArray := prog_25_method_53_code
def yX4_sample : MethodName := ⟨RX4, "sample", "(II)I"⟩
def dkwX4_sample_1 : List UInt8 := [153, 0, 12, 42, 27, 28, 182, 0, 175, 167, 0, 8, 42, 5, 182, 0, 64, 172]
abbrev dktX4_sample_1 : List UInt8 := dkwX4_sample_1 ++ []
def dkwX4_sample_0 : List UInt8 := [42, 3, 181, 0, 49, 42, 27, 182, 0, 106, 154, 0, 9, 42, 4, 182, 0, 64, 172, 28, 184, 0, 56]
abbrev dktX4_sample_0 : List UInt8 := dkwX4_sample_0 ++ dktX4_sample_1
theorem dksX4_sample_0 : cX4_sample.data.toList.drop 0 = dktX4_sample_0 := by decide +kernel
theorem dksX4_sample_1 : cX4_sample.data.toList.drop 23 = dktX4_sample_1 := dk_seg dksX4_sample_0 23 rfl rfl
theorem dX4_sample_0 : decode cX4_sample 0 = .ok (.aload_n 0, 1) := dk_42 (dk_at dksX4_sample_0 0 rfl rfl)
theorem dX4_sample_1 : decode cX4_sample 1 = .ok (.iconst 0, 1) := dk_3 (dk_at dksX4_sample_0 1 rfl rfl)
theorem dX4_sample_2 : decode cX4_sample 2 = .ok (.putfield 49, 3) := dk_181 0 49 (dk_at dksX4_sample_0 2 rfl rfl)
theorem dX4_sample_5 : decode cX4_sample 5 = .ok (.aload_n 0, 1) := dk_42 (dk_at dksX4_sample_0 5 rfl rfl)
theorem dX4_sample_6 : decode cX4_sample 6 = .ok (.iload_n 1, 1) := dk_27 (dk_at dksX4_sample_0 6 rfl rfl)
theorem dX4_sample_7 : decode cX4_sample 7 = .ok (.invokevirtual 106, 3) := dk_182 0 106 (dk_at dksX4_sample_0 7 rfl rfl)
theorem dX4_sample_10 : decode cX4_sample 10 = .ok (.ifCond .ne 9, 3) := dk_154 0 9 (dk_at dksX4_sample_0 10 rfl rfl)
theorem dX4_sample_13 : decode cX4_sample 13 = .ok (.aload_n 0, 1) := dk_42 (dk_at dksX4_sample_0 13 rfl rfl)
theorem dX4_sample_14 : decode cX4_sample 14 = .ok (.iconst 1, 1) := dk_4 (dk_at dksX4_sample_0 14 rfl rfl)
theorem dX4_sample_15 : decode cX4_sample 15 = .ok (.invokevirtual 64, 3) := dk_182 0 64 (dk_at dksX4_sample_0 15 rfl rfl)
theorem dX4_sample_18 : decode cX4_sample 18 = .ok (.ireturn, 1) := dk_172 (dk_at dksX4_sample_0 18 rfl rfl)
theorem dX4_sample_19 : decode cX4_sample 19 = .ok (.iload_n 2, 1) := dk_28 (dk_at dksX4_sample_0 19 rfl rfl)
theorem dX4_sample_20 : decode cX4_sample 20 = .ok (.invokestatic 56, 3) := dk_184 0 56 (dk_at dksX4_sample_0 20 rfl rfl)
theorem dX4_sample_23 : decode cX4_sample 23 = .ok (.ifCond .eq 12, 3) := dk_153 0 12 (dk_at dksX4_sample_1 0 rfl rfl)
theorem dX4_sample_26 : decode cX4_sample 26 = .ok (.aload_n 0, 1) := dk_42 (dk_at dksX4_sample_1 3 rfl rfl)
theorem dX4_sample_27 : decode cX4_sample 27 = .ok (.iload_n 1, 1) := dk_27 (dk_at dksX4_sample_1 4 rfl rfl)
theorem dX4_sample_28 : decode cX4_sample 28 = .ok (.iload_n 2, 1) := dk_28 (dk_at dksX4_sample_1 5 rfl rfl)
theorem dX4_sample_29 : decode cX4_sample 29 = .ok (.invokevirtual 175, 3) := dk_182 0 175 (dk_at dksX4_sample_1 6 rfl rfl)
theorem dX4_sample_32 : decode cX4_sample 32 = .ok (.goto 8, 3) := dk_167 0 8 (dk_at dksX4_sample_1 9 rfl rfl)
theorem dX4_sample_35 : decode cX4_sample 35 = .ok (.aload_n 0, 1) := dk_42 (dk_at dksX4_sample_1 12 rfl rfl)
theorem dX4_sample_36 : decode cX4_sample 36 = .ok (.iconst 2, 1) := dk_5 (dk_at dksX4_sample_1 13 rfl rfl)
theorem dX4_sample_37 : decode cX4_sample 37 = .ok (.invokevirtual 64, 3) := dk_182 0 64 (dk_at dksX4_sample_1 14 rfl rfl)
theorem dX4_sample_40 : decode cX4_sample 40 = .ok (.ireturn, 1) := dk_172 (dk_at dksX4_sample_1 17 rfl rfl)
abbrev cX4_recorded : ByteArray := prog_25_method_52_code
def yX4_recorded : MethodName := ⟨RX4, "recorded", "(II)I"⟩
def dkwX4_recorded_1 : List UInt8 := [167, 0, 4, 3, 172]
abbrev dktX4_recorded_1 : List UInt8 := dkwX4_recorded_1 ++ []
def dkwX4_recorded_0 : List UInt8 := [28, 184, 0, 56, 153, 0, 22, 42, 180, 0, 7, 17, 0, 186, 17, 1, 0, 27, 104, 96, 28, 96, 46]
abbrev dktX4_recorded_0 : List UInt8 := dkwX4_recorded_0 ++ dktX4_recorded_1
theorem dksX4_recorded_0 : cX4_recorded.data.toList.drop 0 = dktX4_recorded_0 := by decide +kernel
theorem dksX4_recorded_1 : cX4_recorded.data.toList.drop 23 = dktX4_recorded_1 := dk_seg dksX4_recorded_0 23 rfl rfl
theorem dX4_recorded_0 : decode cX4_recorded 0 = .ok (.iload_n 2, 1) := dk_28 (dk_at dksX4_recorded_0 0 rfl rfl)
theorem dX4_recorded_1 : decode cX4_recorded 1 = .ok (.invokestatic 56, 3) := dk_184 0 56 (dk_at dksX4_recorded_0 1 rfl rfl)
theorem dX4_recorded_4 : decode cX4_recorded 4 = .ok (.ifCond .eq 22, 3) := dk_153 0 22 (dk_at dksX4_recorded_0 4 rfl rfl)
theorem dX4_recorded_7 : decode cX4_recorded 7 = .ok (.aload_n 0, 1) := dk_42 (dk_at dksX4_recorded_0 7 rfl rfl)
theorem dX4_recorded_8 : decode cX4_recorded 8 = .ok (.getfield 7, 3) := dk_180 0 7 (dk_at dksX4_recorded_0 8 rfl rfl)
theorem dX4_recorded_11 : decode cX4_recorded 11 = .ok (.sipush 186, 3) := dk_17 0 186 (dk_at dksX4_recorded_0 11 rfl rfl)
theorem dX4_recorded_14 : decode cX4_recorded 14 = .ok (.sipush 256, 3) := dk_17 1 0 (dk_at dksX4_recorded_0 14 rfl rfl)
theorem dX4_recorded_17 : decode cX4_recorded 17 = .ok (.iload_n 1, 1) := dk_27 (dk_at dksX4_recorded_0 17 rfl rfl)
theorem dX4_recorded_18 : decode cX4_recorded 18 = .ok (.imul, 1) := dk_104 (dk_at dksX4_recorded_0 18 rfl rfl)
theorem dX4_recorded_19 : decode cX4_recorded 19 = .ok (.iadd, 1) := dk_96 (dk_at dksX4_recorded_0 19 rfl rfl)
theorem dX4_recorded_20 : decode cX4_recorded 20 = .ok (.iload_n 2, 1) := dk_28 (dk_at dksX4_recorded_0 20 rfl rfl)
theorem dX4_recorded_21 : decode cX4_recorded 21 = .ok (.iadd, 1) := dk_96 (dk_at dksX4_recorded_0 21 rfl rfl)
theorem dX4_recorded_22 : decode cX4_recorded 22 = .ok (.iaload, 1) := dk_46 (dk_at dksX4_recorded_0 22 rfl rfl)
theorem dX4_recorded_23 : decode cX4_recorded 23 = .ok (.goto 4, 3) := dk_167 0 4 (dk_at dksX4_recorded_1 0 rfl rfl)
theorem dX4_recorded_26 : decode cX4_recorded 26 = .ok (.iconst 0, 1) := dk_3 (dk_at dksX4_recorded_1 3 rfl rfl)
theorem dX4_recorded_27 : decode cX4_recorded 27 = .ok (.ireturn, 1) := dk_172 (dk_at dksX4_recorded_1 4 rfl rfl)
abbrev cX4_measureRecord : ByteArray := prog_25_method_62_code
def yX4_measureRecord : MethodName := ⟨RX4, "measureRecord", "(IIII)J"⟩
def dkwX4_measureRecord_2 : List UInt8 := [182, 0, 204, 42, 28, 29, 21, 4, 182, 0, 207, 173]
abbrev dktX4_measureRecord_2 : List UInt8 := dkwX4_measureRecord_2 ++ []
def dkwX4_measureRecord_1 : List UInt8 := [184, 0, 52, 153, 0, 12, 29, 21, 4, 184, 0, 200, 154, 0, 10, 42, 5, 182, 0, 64, 133, 173, 42, 27]
abbrev dktX4_measureRecord_1 : List UInt8 := dkwX4_measureRecord_1 ++ dktX4_measureRecord_2
def dkwX4_measureRecord_0 : List UInt8 := [42, 3, 181, 0, 49, 42, 27, 182, 0, 106, 154, 0, 10, 42, 4, 182, 0, 64, 133, 173, 28, 3, 7]
abbrev dktX4_measureRecord_0 : List UInt8 := dkwX4_measureRecord_0 ++ dktX4_measureRecord_1
theorem dksX4_measureRecord_0 : cX4_measureRecord.data.toList.drop 0 = dktX4_measureRecord_0 := by decide +kernel
theorem dksX4_measureRecord_1 : cX4_measureRecord.data.toList.drop 23 = dktX4_measureRecord_1 := dk_seg dksX4_measureRecord_0 23 rfl rfl
theorem dksX4_measureRecord_2 : cX4_measureRecord.data.toList.drop 47 = dktX4_measureRecord_2 := dk_seg dksX4_measureRecord_1 24 rfl rfl
theorem dX4_measureRecord_0 : decode cX4_measureRecord 0 = .ok (.aload_n 0, 1) := dk_42 (dk_at dksX4_measureRecord_0 0 rfl rfl)
theorem dX4_measureRecord_1 : decode cX4_measureRecord 1 = .ok (.iconst 0, 1) := dk_3 (dk_at dksX4_measureRecord_0 1 rfl rfl)
theorem dX4_measureRecord_2 : decode cX4_measureRecord 2 = .ok (.putfield 49, 3) := dk_181 0 49 (dk_at dksX4_measureRecord_0 2 rfl rfl)
theorem dX4_measureRecord_5 : decode cX4_measureRecord 5 = .ok (.aload_n 0, 1) := dk_42 (dk_at dksX4_measureRecord_0 5 rfl rfl)
theorem dX4_measureRecord_6 : decode cX4_measureRecord 6 = .ok (.iload_n 1, 1) := dk_27 (dk_at dksX4_measureRecord_0 6 rfl rfl)
theorem dX4_measureRecord_7 : decode cX4_measureRecord 7 = .ok (.invokevirtual 106, 3) := dk_182 0 106 (dk_at dksX4_measureRecord_0 7 rfl rfl)
theorem dX4_measureRecord_10 : decode cX4_measureRecord 10 = .ok (.ifCond .ne 10, 3) := dk_154 0 10 (dk_at dksX4_measureRecord_0 10 rfl rfl)
theorem dX4_measureRecord_13 : decode cX4_measureRecord 13 = .ok (.aload_n 0, 1) := dk_42 (dk_at dksX4_measureRecord_0 13 rfl rfl)
theorem dX4_measureRecord_14 : decode cX4_measureRecord 14 = .ok (.iconst 1, 1) := dk_4 (dk_at dksX4_measureRecord_0 14 rfl rfl)
theorem dX4_measureRecord_15 : decode cX4_measureRecord 15 = .ok (.invokevirtual 64, 3) := dk_182 0 64 (dk_at dksX4_measureRecord_0 15 rfl rfl)
theorem dX4_measureRecord_18 : decode cX4_measureRecord 18 = .ok (.i2l, 1) := dk_133 (dk_at dksX4_measureRecord_0 18 rfl rfl)
theorem dX4_measureRecord_19 : decode cX4_measureRecord 19 = .ok (.lreturn, 1) := dk_173 (dk_at dksX4_measureRecord_0 19 rfl rfl)
theorem dX4_measureRecord_20 : decode cX4_measureRecord 20 = .ok (.iload_n 2, 1) := dk_28 (dk_at dksX4_measureRecord_0 20 rfl rfl)
theorem dX4_measureRecord_21 : decode cX4_measureRecord 21 = .ok (.iconst 0, 1) := dk_3 (dk_at dksX4_measureRecord_0 21 rfl rfl)
theorem dX4_measureRecord_22 : decode cX4_measureRecord 22 = .ok (.iconst 4, 1) := dk_7 (dk_at dksX4_measureRecord_0 22 rfl rfl)
theorem dX4_measureRecord_23 : decode cX4_measureRecord 23 = .ok (.invokestatic 52, 3) := dk_184 0 52 (dk_at dksX4_measureRecord_1 0 rfl rfl)
theorem dX4_measureRecord_26 : decode cX4_measureRecord 26 = .ok (.ifCond .eq 12, 3) := dk_153 0 12 (dk_at dksX4_measureRecord_1 3 rfl rfl)
theorem dX4_measureRecord_29 : decode cX4_measureRecord 29 = .ok (.iload_n 3, 1) := dk_29 (dk_at dksX4_measureRecord_1 6 rfl rfl)
theorem dX4_measureRecord_30 : decode cX4_measureRecord 30 = .ok (.iload 4, 2) := dk_21 4 (dk_at dksX4_measureRecord_1 7 rfl rfl)
theorem dX4_measureRecord_32 : decode cX4_measureRecord 32 = .ok (.invokestatic 200, 3) := dk_184 0 200 (dk_at dksX4_measureRecord_1 9 rfl rfl)
theorem dX4_measureRecord_35 : decode cX4_measureRecord 35 = .ok (.ifCond .ne 10, 3) := dk_154 0 10 (dk_at dksX4_measureRecord_1 12 rfl rfl)
theorem dX4_measureRecord_38 : decode cX4_measureRecord 38 = .ok (.aload_n 0, 1) := dk_42 (dk_at dksX4_measureRecord_1 15 rfl rfl)
theorem dX4_measureRecord_39 : decode cX4_measureRecord 39 = .ok (.iconst 2, 1) := dk_5 (dk_at dksX4_measureRecord_1 16 rfl rfl)
theorem dX4_measureRecord_40 : decode cX4_measureRecord 40 = .ok (.invokevirtual 64, 3) := dk_182 0 64 (dk_at dksX4_measureRecord_1 17 rfl rfl)
theorem dX4_measureRecord_43 : decode cX4_measureRecord 43 = .ok (.i2l, 1) := dk_133 (dk_at dksX4_measureRecord_1 20 rfl rfl)
theorem dX4_measureRecord_44 : decode cX4_measureRecord 44 = .ok (.lreturn, 1) := dk_173 (dk_at dksX4_measureRecord_1 21 rfl rfl)
theorem dX4_measureRecord_45 : decode cX4_measureRecord 45 = .ok (.aload_n 0, 1) := dk_42 (dk_at dksX4_measureRecord_1 22 rfl rfl)
theorem dX4_measureRecord_46 : decode cX4_measureRecord 46 = .ok (.iload_n 1, 1) := dk_27 (dk_at dksX4_measureRecord_1 23 rfl rfl)
theorem dX4_measureRecord_47 : decode cX4_measureRecord 47 = .ok (.invokevirtual 204, 3) := dk_182 0 204 (dk_at dksX4_measureRecord_2 0 rfl rfl)
theorem dX4_measureRecord_50 : decode cX4_measureRecord 50 = .ok (.aload_n 0, 1) := dk_42 (dk_at dksX4_measureRecord_2 3 rfl rfl)
theorem dX4_measureRecord_51 : decode cX4_measureRecord 51 = .ok (.iload_n 2, 1) := dk_28 (dk_at dksX4_measureRecord_2 4 rfl rfl)
theorem dX4_measureRecord_52 : decode cX4_measureRecord 52 = .ok (.iload_n 3, 1) := dk_29 (dk_at dksX4_measureRecord_2 5 rfl rfl)
theorem dX4_measureRecord_53 : decode cX4_measureRecord 53 = .ok (.iload 4, 2) := dk_21 4 (dk_at dksX4_measureRecord_2 6 rfl rfl)
theorem dX4_measureRecord_55 : decode cX4_measureRecord 55 = .ok (.invokevirtual 207, 3) := dk_182 0 207 (dk_at dksX4_measureRecord_2 8 rfl rfl)
theorem dX4_measureRecord_58 : decode cX4_measureRecord 58 = .ok (.lreturn, 1) := dk_173 (dk_at dksX4_measureRecord_2 11 rfl rfl)
abbrev cX4_isWindow : ByteArray := prog_25_method_8_code
def yX4_isWindow : MethodName := ⟨RX4, "isWindow", "(II)Z"⟩
def dkwX4_isWindow_0 : List UInt8 := [26, 184, 0, 56, 153, 0, 18, 27, 26, 17, 0, 255, 184, 0, 52, 153, 0, 7, 4, 167, 0, 4, 3, 172]
abbrev dktX4_isWindow_0 : List UInt8 := dkwX4_isWindow_0 ++ []
theorem dksX4_isWindow_0 : cX4_isWindow.data.toList.drop 0 = dktX4_isWindow_0 := by decide +kernel
theorem dX4_isWindow_0 : decode cX4_isWindow 0 = .ok (.iload_n 0, 1) := dk_26 (dk_at dksX4_isWindow_0 0 rfl rfl)
theorem dX4_isWindow_1 : decode cX4_isWindow 1 = .ok (.invokestatic 56, 3) := dk_184 0 56 (dk_at dksX4_isWindow_0 1 rfl rfl)
theorem dX4_isWindow_4 : decode cX4_isWindow 4 = .ok (.ifCond .eq 18, 3) := dk_153 0 18 (dk_at dksX4_isWindow_0 4 rfl rfl)
theorem dX4_isWindow_7 : decode cX4_isWindow 7 = .ok (.iload_n 1, 1) := dk_27 (dk_at dksX4_isWindow_0 7 rfl rfl)
theorem dX4_isWindow_8 : decode cX4_isWindow 8 = .ok (.iload_n 0, 1) := dk_26 (dk_at dksX4_isWindow_0 8 rfl rfl)
theorem dX4_isWindow_9 : decode cX4_isWindow 9 = .ok (.sipush 255, 3) := dk_17 0 255 (dk_at dksX4_isWindow_0 9 rfl rfl)
theorem dX4_isWindow_12 : decode cX4_isWindow 12 = .ok (.invokestatic 52, 3) := dk_184 0 52 (dk_at dksX4_isWindow_0 12 rfl rfl)
theorem dX4_isWindow_15 : decode cX4_isWindow 15 = .ok (.ifCond .eq 7, 3) := dk_153 0 7 (dk_at dksX4_isWindow_0 15 rfl rfl)
theorem dX4_isWindow_18 : decode cX4_isWindow 18 = .ok (.iconst 1, 1) := dk_4 (dk_at dksX4_isWindow_0 18 rfl rfl)
theorem dX4_isWindow_19 : decode cX4_isWindow 19 = .ok (.goto 4, 3) := dk_167 0 4 (dk_at dksX4_isWindow_0 19 rfl rfl)
theorem dX4_isWindow_22 : decode cX4_isWindow 22 = .ok (.iconst 0, 1) := dk_3 (dk_at dksX4_isWindow_0 22 rfl rfl)
theorem dX4_isWindow_23 : decode cX4_isWindow 23 = .ok (.ireturn, 1) := dk_172 (dk_at dksX4_isWindow_0 23 rfl rfl)
abbrev cX4_layRecord : ByteArray := prog_25_method_54_code
def yX4_layRecord : MethodName := ⟨RX4, "layRecord", "(I)V"⟩
def dkwX4_layRecord_1 : List UInt8 := [167, 255, 234, 177]
abbrev dktX4_layRecord_1 : List UInt8 := dkwX4_layRecord_1 ++ []
def dkwX4_layRecord_0 : List UInt8 := [3, 61, 28, 17, 1, 0, 162, 0, 21, 42, 180, 0, 29, 28, 42, 27, 28, 182, 0, 175, 79, 132, 2, 1]
abbrev dktX4_layRecord_0 : List UInt8 := dkwX4_layRecord_0 ++ dktX4_layRecord_1
theorem dksX4_layRecord_0 : cX4_layRecord.data.toList.drop 0 = dktX4_layRecord_0 := by decide +kernel
theorem dksX4_layRecord_1 : cX4_layRecord.data.toList.drop 24 = dktX4_layRecord_1 := dk_seg dksX4_layRecord_0 24 rfl rfl
theorem dX4_layRecord_0 : decode cX4_layRecord 0 = .ok (.iconst 0, 1) := dk_3 (dk_at dksX4_layRecord_0 0 rfl rfl)
theorem dX4_layRecord_1 : decode cX4_layRecord 1 = .ok (.istore_n 2, 1) := dk_61 (dk_at dksX4_layRecord_0 1 rfl rfl)
theorem dX4_layRecord_2 : decode cX4_layRecord 2 = .ok (.iload_n 2, 1) := dk_28 (dk_at dksX4_layRecord_0 2 rfl rfl)
theorem dX4_layRecord_3 : decode cX4_layRecord 3 = .ok (.sipush 256, 3) := dk_17 1 0 (dk_at dksX4_layRecord_0 3 rfl rfl)
theorem dX4_layRecord_6 : decode cX4_layRecord 6 = .ok (.if_icmp .ge 21, 3) := dk_162 0 21 (dk_at dksX4_layRecord_0 6 rfl rfl)
theorem dX4_layRecord_9 : decode cX4_layRecord 9 = .ok (.aload_n 0, 1) := dk_42 (dk_at dksX4_layRecord_0 9 rfl rfl)
theorem dX4_layRecord_10 : decode cX4_layRecord 10 = .ok (.getfield 29, 3) := dk_180 0 29 (dk_at dksX4_layRecord_0 10 rfl rfl)
theorem dX4_layRecord_13 : decode cX4_layRecord 13 = .ok (.iload_n 2, 1) := dk_28 (dk_at dksX4_layRecord_0 13 rfl rfl)
theorem dX4_layRecord_14 : decode cX4_layRecord 14 = .ok (.aload_n 0, 1) := dk_42 (dk_at dksX4_layRecord_0 14 rfl rfl)
theorem dX4_layRecord_15 : decode cX4_layRecord 15 = .ok (.iload_n 1, 1) := dk_27 (dk_at dksX4_layRecord_0 15 rfl rfl)
theorem dX4_layRecord_16 : decode cX4_layRecord 16 = .ok (.iload_n 2, 1) := dk_28 (dk_at dksX4_layRecord_0 16 rfl rfl)
theorem dX4_layRecord_17 : decode cX4_layRecord 17 = .ok (.invokevirtual 175, 3) := dk_182 0 175 (dk_at dksX4_layRecord_0 17 rfl rfl)
theorem dX4_layRecord_20 : decode cX4_layRecord 20 = .ok (.iastore, 1) := dk_79 (dk_at dksX4_layRecord_0 20 rfl rfl)
theorem dX4_layRecord_21 : decode cX4_layRecord 21 = .ok (.iinc 2 1, 3) := dk_132 2 1 (dk_at dksX4_layRecord_0 21 rfl rfl)
theorem dX4_layRecord_24 : decode cX4_layRecord 24 = .ok (.goto (-22), 3) := dk_167 255 234 (dk_at dksX4_layRecord_1 0 rfl rfl)
theorem dX4_layRecord_27 : decode cX4_layRecord 27 = .ok (.return_, 1) := dk_177 (dk_at dksX4_layRecord_1 3 rfl rfl)
abbrev cX4_measureOf : ByteArray := prog_25_method_61_code
def yX4_measureOf : MethodName := ⟨RX4, "measureOf", "(III)J"⟩
def dkwX4_measureOf_3 : List UInt8 := [133, 173, 42, 28, 29, 182, 0, 194, 173, 42, 28, 29, 182, 0, 197, 133, 173]
abbrev dktX4_measureOf_3 : List UInt8 := dkwX4_measureOf_3 ++ []
def dkwX4_measureOf_2 : List UInt8 := [42, 28, 29, 182, 0, 184, 173, 42, 28, 29, 182, 0, 188, 133, 173, 42, 28, 29, 182, 0, 184, 184, 0, 191]
abbrev dktX4_measureOf_2 : List UInt8 := dkwX4_measureOf_2 ++ dktX4_measureOf_3
def dkwX4_measureOf_1 : List UInt8 := [170, 0, 0, 0, 0, 0, 64, 0, 0, 0, 0, 0, 0, 0, 3, 0, 0, 0, 31, 0, 0, 0, 38, 0, 0, 0, 46, 0, 0, 0, 57]
abbrev dktX4_measureOf_1 : List UInt8 := dkwX4_measureOf_1 ++ dktX4_measureOf_2
def dkwX4_measureOf_0 : List UInt8 := [27]
abbrev dktX4_measureOf_0 : List UInt8 := dkwX4_measureOf_0 ++ dktX4_measureOf_1
theorem dksX4_measureOf_0 : cX4_measureOf.data.toList.drop 0 = dktX4_measureOf_0 := by decide +kernel
theorem dksX4_measureOf_1 : cX4_measureOf.data.toList.drop 1 = dktX4_measureOf_1 := dk_seg dksX4_measureOf_0 1 rfl rfl
theorem dksX4_measureOf_2 : cX4_measureOf.data.toList.drop 32 = dktX4_measureOf_2 := dk_seg dksX4_measureOf_1 31 rfl rfl
theorem dksX4_measureOf_3 : cX4_measureOf.data.toList.drop 56 = dktX4_measureOf_3 := dk_seg dksX4_measureOf_2 24 rfl rfl
theorem dX4_measureOf_0 : decode cX4_measureOf 0 = .ok (.iload_n 1, 1) := dk_27 (dk_at dksX4_measureOf_0 0 rfl rfl)
theorem dX4_measureOf_1 : decode cX4_measureOf 1 = .ok (.tableswitch 64 0 3 #[31, 38, 46, 57], 31) := by decide +kernel
theorem dX4_measureOf_32 : decode cX4_measureOf 32 = .ok (.aload_n 0, 1) := dk_42 (dk_at dksX4_measureOf_2 0 rfl rfl)
theorem dX4_measureOf_33 : decode cX4_measureOf 33 = .ok (.iload_n 2, 1) := dk_28 (dk_at dksX4_measureOf_2 1 rfl rfl)
theorem dX4_measureOf_34 : decode cX4_measureOf 34 = .ok (.iload_n 3, 1) := dk_29 (dk_at dksX4_measureOf_2 2 rfl rfl)
theorem dX4_measureOf_35 : decode cX4_measureOf 35 = .ok (.invokevirtual 184, 3) := dk_182 0 184 (dk_at dksX4_measureOf_2 3 rfl rfl)
theorem dX4_measureOf_38 : decode cX4_measureOf 38 = .ok (.lreturn, 1) := dk_173 (dk_at dksX4_measureOf_2 6 rfl rfl)
theorem dX4_measureOf_39 : decode cX4_measureOf 39 = .ok (.aload_n 0, 1) := dk_42 (dk_at dksX4_measureOf_2 7 rfl rfl)
theorem dX4_measureOf_40 : decode cX4_measureOf 40 = .ok (.iload_n 2, 1) := dk_28 (dk_at dksX4_measureOf_2 8 rfl rfl)
theorem dX4_measureOf_41 : decode cX4_measureOf 41 = .ok (.iload_n 3, 1) := dk_29 (dk_at dksX4_measureOf_2 9 rfl rfl)
theorem dX4_measureOf_42 : decode cX4_measureOf 42 = .ok (.invokevirtual 188, 3) := dk_182 0 188 (dk_at dksX4_measureOf_2 10 rfl rfl)
theorem dX4_measureOf_45 : decode cX4_measureOf 45 = .ok (.i2l, 1) := dk_133 (dk_at dksX4_measureOf_2 13 rfl rfl)
theorem dX4_measureOf_46 : decode cX4_measureOf 46 = .ok (.lreturn, 1) := dk_173 (dk_at dksX4_measureOf_2 14 rfl rfl)
theorem dX4_measureOf_47 : decode cX4_measureOf 47 = .ok (.aload_n 0, 1) := dk_42 (dk_at dksX4_measureOf_2 15 rfl rfl)
theorem dX4_measureOf_48 : decode cX4_measureOf 48 = .ok (.iload_n 2, 1) := dk_28 (dk_at dksX4_measureOf_2 16 rfl rfl)
theorem dX4_measureOf_49 : decode cX4_measureOf 49 = .ok (.iload_n 3, 1) := dk_29 (dk_at dksX4_measureOf_2 17 rfl rfl)
theorem dX4_measureOf_50 : decode cX4_measureOf 50 = .ok (.invokevirtual 184, 3) := dk_182 0 184 (dk_at dksX4_measureOf_2 18 rfl rfl)
theorem dX4_measureOf_53 : decode cX4_measureOf 53 = .ok (.invokestatic 191, 3) := dk_184 0 191 (dk_at dksX4_measureOf_2 21 rfl rfl)
theorem dX4_measureOf_56 : decode cX4_measureOf 56 = .ok (.i2l, 1) := dk_133 (dk_at dksX4_measureOf_3 0 rfl rfl)
theorem dX4_measureOf_57 : decode cX4_measureOf 57 = .ok (.lreturn, 1) := dk_173 (dk_at dksX4_measureOf_3 1 rfl rfl)
theorem dX4_measureOf_58 : decode cX4_measureOf 58 = .ok (.aload_n 0, 1) := dk_42 (dk_at dksX4_measureOf_3 2 rfl rfl)
theorem dX4_measureOf_59 : decode cX4_measureOf 59 = .ok (.iload_n 2, 1) := dk_28 (dk_at dksX4_measureOf_3 3 rfl rfl)
theorem dX4_measureOf_60 : decode cX4_measureOf 60 = .ok (.iload_n 3, 1) := dk_29 (dk_at dksX4_measureOf_3 4 rfl rfl)
theorem dX4_measureOf_61 : decode cX4_measureOf 61 = .ok (.invokevirtual 194, 3) := dk_182 0 194 (dk_at dksX4_measureOf_3 5 rfl rfl)
theorem dX4_measureOf_64 : decode cX4_measureOf 64 = .ok (.lreturn, 1) := dk_173 (dk_at dksX4_measureOf_3 8 rfl rfl)
theorem dX4_measureOf_65 : decode cX4_measureOf 65 = .ok (.aload_n 0, 1) := dk_42 (dk_at dksX4_measureOf_3 9 rfl rfl)
theorem dX4_measureOf_66 : decode cX4_measureOf 66 = .ok (.iload_n 2, 1) := dk_28 (dk_at dksX4_measureOf_3 10 rfl rfl)
theorem dX4_measureOf_67 : decode cX4_measureOf 67 = .ok (.iload_n 3, 1) := dk_29 (dk_at dksX4_measureOf_3 11 rfl rfl)
theorem dX4_measureOf_68 : decode cX4_measureOf 68 = .ok (.invokevirtual 197, 3) := dk_182 0 197 (dk_at dksX4_measureOf_3 12 rfl rfl)
theorem dX4_measureOf_71 : decode cX4_measureOf 71 = .ok (.i2l, 1) := dk_133 (dk_at dksX4_measureOf_3 15 rfl rfl)
theorem dX4_measureOf_72 : decode cX4_measureOf 72 = .ok (.lreturn, 1) := dk_173 (dk_at dksX4_measureOf_3 16 rfl rfl)
abbrev cX4_energyOf : ByteArray := prog_25_method_55_code
def yX4_energyOf : MethodName := ⟨RX4, "energyOf", "(II)J"⟩
def dkwX4_energyOf_1 : List UInt8 := [21, 5, 46, 133, 105, 97, 66, 132, 5, 1, 167, 255, 227, 33, 173]
abbrev dktX4_energyOf_1 : List UInt8 := dkwX4_energyOf_1 ++ []
def dkwX4_energyOf_0 : List UInt8 := [9, 66, 27, 54, 5, 21, 5, 28, 163, 0, 29, 33, 42, 180, 0, 29, 21, 5, 46, 133, 42, 180, 0, 29]
abbrev dktX4_energyOf_0 : List UInt8 := dkwX4_energyOf_0 ++ dktX4_energyOf_1
theorem dksX4_energyOf_0 : cX4_energyOf.data.toList.drop 0 = dktX4_energyOf_0 := by decide +kernel
theorem dksX4_energyOf_1 : cX4_energyOf.data.toList.drop 24 = dktX4_energyOf_1 := dk_seg dksX4_energyOf_0 24 rfl rfl
theorem dX4_energyOf_0 : decode cX4_energyOf 0 = .ok (.lconst 0, 1) := dk_9 (dk_at dksX4_energyOf_0 0 rfl rfl)
theorem dX4_energyOf_1 : decode cX4_energyOf 1 = .ok (.lstore_n 3, 1) := dk_66 (dk_at dksX4_energyOf_0 1 rfl rfl)
theorem dX4_energyOf_2 : decode cX4_energyOf 2 = .ok (.iload_n 1, 1) := dk_27 (dk_at dksX4_energyOf_0 2 rfl rfl)
theorem dX4_energyOf_3 : decode cX4_energyOf 3 = .ok (.istore 5, 2) := dk_54 5 (dk_at dksX4_energyOf_0 3 rfl rfl)
theorem dX4_energyOf_5 : decode cX4_energyOf 5 = .ok (.iload 5, 2) := dk_21 5 (dk_at dksX4_energyOf_0 5 rfl rfl)
theorem dX4_energyOf_7 : decode cX4_energyOf 7 = .ok (.iload_n 2, 1) := dk_28 (dk_at dksX4_energyOf_0 7 rfl rfl)
theorem dX4_energyOf_8 : decode cX4_energyOf 8 = .ok (.if_icmp .gt 29, 3) := dk_163 0 29 (dk_at dksX4_energyOf_0 8 rfl rfl)
theorem dX4_energyOf_11 : decode cX4_energyOf 11 = .ok (.lload_n 3, 1) := dk_33 (dk_at dksX4_energyOf_0 11 rfl rfl)
theorem dX4_energyOf_12 : decode cX4_energyOf 12 = .ok (.aload_n 0, 1) := dk_42 (dk_at dksX4_energyOf_0 12 rfl rfl)
theorem dX4_energyOf_13 : decode cX4_energyOf 13 = .ok (.getfield 29, 3) := dk_180 0 29 (dk_at dksX4_energyOf_0 13 rfl rfl)
theorem dX4_energyOf_16 : decode cX4_energyOf 16 = .ok (.iload 5, 2) := dk_21 5 (dk_at dksX4_energyOf_0 16 rfl rfl)
theorem dX4_energyOf_18 : decode cX4_energyOf 18 = .ok (.iaload, 1) := dk_46 (dk_at dksX4_energyOf_0 18 rfl rfl)
theorem dX4_energyOf_19 : decode cX4_energyOf 19 = .ok (.i2l, 1) := dk_133 (dk_at dksX4_energyOf_0 19 rfl rfl)
theorem dX4_energyOf_20 : decode cX4_energyOf 20 = .ok (.aload_n 0, 1) := dk_42 (dk_at dksX4_energyOf_0 20 rfl rfl)
theorem dX4_energyOf_21 : decode cX4_energyOf 21 = .ok (.getfield 29, 3) := dk_180 0 29 (dk_at dksX4_energyOf_0 21 rfl rfl)
theorem dX4_energyOf_24 : decode cX4_energyOf 24 = .ok (.iload 5, 2) := dk_21 5 (dk_at dksX4_energyOf_1 0 rfl rfl)
theorem dX4_energyOf_26 : decode cX4_energyOf 26 = .ok (.iaload, 1) := dk_46 (dk_at dksX4_energyOf_1 2 rfl rfl)
theorem dX4_energyOf_27 : decode cX4_energyOf 27 = .ok (.i2l, 1) := dk_133 (dk_at dksX4_energyOf_1 3 rfl rfl)
theorem dX4_energyOf_28 : decode cX4_energyOf 28 = .ok (.lmul, 1) := dk_105 (dk_at dksX4_energyOf_1 4 rfl rfl)
theorem dX4_energyOf_29 : decode cX4_energyOf 29 = .ok (.ladd, 1) := dk_97 (dk_at dksX4_energyOf_1 5 rfl rfl)
theorem dX4_energyOf_30 : decode cX4_energyOf 30 = .ok (.lstore_n 3, 1) := dk_66 (dk_at dksX4_energyOf_1 6 rfl rfl)
theorem dX4_energyOf_31 : decode cX4_energyOf 31 = .ok (.iinc 5 1, 3) := dk_132 5 1 (dk_at dksX4_energyOf_1 7 rfl rfl)
theorem dX4_energyOf_34 : decode cX4_energyOf 34 = .ok (.goto (-29), 3) := dk_167 255 227 (dk_at dksX4_energyOf_1 10 rfl rfl)
theorem dX4_energyOf_37 : decode cX4_energyOf 37 = .ok (.lload_n 3, 1) := dk_33 (dk_at dksX4_energyOf_1 13 rfl rfl)
theorem dX4_energyOf_38 : decode cX4_energyOf 38 = .ok (.lreturn, 1) := dk_173 (dk_at dksX4_energyOf_1 14 rfl rfl)
abbrev cX4_peakOf : ByteArray := prog_25_method_56_code
def yX4_peakOf : MethodName := ⟨RX4, "peakOf", "(II)I"⟩
def dkwX4_peakOf_1 : List UInt8 := [184, 0, 178, 62, 132, 4, 1, 167, 255, 232, 29, 172]
abbrev dktX4_peakOf_1 : List UInt8 := dkwX4_peakOf_1 ++ []
def dkwX4_peakOf_0 : List UInt8 := [3, 62, 27, 54, 4, 21, 4, 28, 163, 0, 24, 29, 42, 180, 0, 29, 21, 4, 46, 184, 0, 147]
abbrev dktX4_peakOf_0 : List UInt8 := dkwX4_peakOf_0 ++ dktX4_peakOf_1
theorem dksX4_peakOf_0 : cX4_peakOf.data.toList.drop 0 = dktX4_peakOf_0 := by decide +kernel
theorem dksX4_peakOf_1 : cX4_peakOf.data.toList.drop 22 = dktX4_peakOf_1 := dk_seg dksX4_peakOf_0 22 rfl rfl
theorem dX4_peakOf_0 : decode cX4_peakOf 0 = .ok (.iconst 0, 1) := dk_3 (dk_at dksX4_peakOf_0 0 rfl rfl)
theorem dX4_peakOf_1 : decode cX4_peakOf 1 = .ok (.istore_n 3, 1) := dk_62 (dk_at dksX4_peakOf_0 1 rfl rfl)
theorem dX4_peakOf_2 : decode cX4_peakOf 2 = .ok (.iload_n 1, 1) := dk_27 (dk_at dksX4_peakOf_0 2 rfl rfl)
theorem dX4_peakOf_3 : decode cX4_peakOf 3 = .ok (.istore 4, 2) := dk_54 4 (dk_at dksX4_peakOf_0 3 rfl rfl)
theorem dX4_peakOf_5 : decode cX4_peakOf 5 = .ok (.iload 4, 2) := dk_21 4 (dk_at dksX4_peakOf_0 5 rfl rfl)
theorem dX4_peakOf_7 : decode cX4_peakOf 7 = .ok (.iload_n 2, 1) := dk_28 (dk_at dksX4_peakOf_0 7 rfl rfl)
theorem dX4_peakOf_8 : decode cX4_peakOf 8 = .ok (.if_icmp .gt 24, 3) := dk_163 0 24 (dk_at dksX4_peakOf_0 8 rfl rfl)
theorem dX4_peakOf_11 : decode cX4_peakOf 11 = .ok (.iload_n 3, 1) := dk_29 (dk_at dksX4_peakOf_0 11 rfl rfl)
theorem dX4_peakOf_12 : decode cX4_peakOf 12 = .ok (.aload_n 0, 1) := dk_42 (dk_at dksX4_peakOf_0 12 rfl rfl)
theorem dX4_peakOf_13 : decode cX4_peakOf 13 = .ok (.getfield 29, 3) := dk_180 0 29 (dk_at dksX4_peakOf_0 13 rfl rfl)
theorem dX4_peakOf_16 : decode cX4_peakOf 16 = .ok (.iload 4, 2) := dk_21 4 (dk_at dksX4_peakOf_0 16 rfl rfl)
theorem dX4_peakOf_18 : decode cX4_peakOf 18 = .ok (.iaload, 1) := dk_46 (dk_at dksX4_peakOf_0 18 rfl rfl)
theorem dX4_peakOf_19 : decode cX4_peakOf 19 = .ok (.invokestatic 147, 3) := dk_184 0 147 (dk_at dksX4_peakOf_0 19 rfl rfl)
theorem dX4_peakOf_22 : decode cX4_peakOf 22 = .ok (.invokestatic 178, 3) := dk_184 0 178 (dk_at dksX4_peakOf_1 0 rfl rfl)
theorem dX4_peakOf_25 : decode cX4_peakOf 25 = .ok (.istore_n 3, 1) := dk_62 (dk_at dksX4_peakOf_1 3 rfl rfl)
theorem dX4_peakOf_26 : decode cX4_peakOf 26 = .ok (.iinc 4 1, 3) := dk_132 4 1 (dk_at dksX4_peakOf_1 4 rfl rfl)
theorem dX4_peakOf_29 : decode cX4_peakOf 29 = .ok (.goto (-24), 3) := dk_167 255 232 (dk_at dksX4_peakOf_1 7 rfl rfl)
theorem dX4_peakOf_32 : decode cX4_peakOf 32 = .ok (.iload_n 3, 1) := dk_29 (dk_at dksX4_peakOf_1 10 rfl rfl)
theorem dX4_peakOf_33 : decode cX4_peakOf 33 = .ok (.ireturn, 1) := dk_172 (dk_at dksX4_peakOf_1 11 rfl rfl)
abbrev cX4_digitsOf : ByteArray := prog_25_method_57_code
def yX4_digitsOf : MethodName := ⟨RX4, "digitsOf", "(J)I"⟩
def dkwX4_digitsOf_0 : List UInt8 := [3, 61, 30, 66, 33, 9, 148, 158, 0, 15, 132, 2, 1, 33, 20, 0, 114, 109, 66, 167, 255, 241, 28, 172]
abbrev dktX4_digitsOf_0 : List UInt8 := dkwX4_digitsOf_0 ++ []
theorem dksX4_digitsOf_0 : cX4_digitsOf.data.toList.drop 0 = dktX4_digitsOf_0 := by decide +kernel
theorem dX4_digitsOf_0 : decode cX4_digitsOf 0 = .ok (.iconst 0, 1) := dk_3 (dk_at dksX4_digitsOf_0 0 rfl rfl)
theorem dX4_digitsOf_1 : decode cX4_digitsOf 1 = .ok (.istore_n 2, 1) := dk_61 (dk_at dksX4_digitsOf_0 1 rfl rfl)
theorem dX4_digitsOf_2 : decode cX4_digitsOf 2 = .ok (.lload_n 0, 1) := dk_30 (dk_at dksX4_digitsOf_0 2 rfl rfl)
theorem dX4_digitsOf_3 : decode cX4_digitsOf 3 = .ok (.lstore_n 3, 1) := dk_66 (dk_at dksX4_digitsOf_0 3 rfl rfl)
theorem dX4_digitsOf_4 : decode cX4_digitsOf 4 = .ok (.lload_n 3, 1) := dk_33 (dk_at dksX4_digitsOf_0 4 rfl rfl)
theorem dX4_digitsOf_5 : decode cX4_digitsOf 5 = .ok (.lconst 0, 1) := dk_9 (dk_at dksX4_digitsOf_0 5 rfl rfl)
theorem dX4_digitsOf_6 : decode cX4_digitsOf 6 = .ok (.lcmp, 1) := dk_148 (dk_at dksX4_digitsOf_0 6 rfl rfl)
theorem dX4_digitsOf_7 : decode cX4_digitsOf 7 = .ok (.ifCond .le 15, 3) := dk_158 0 15 (dk_at dksX4_digitsOf_0 7 rfl rfl)
theorem dX4_digitsOf_10 : decode cX4_digitsOf 10 = .ok (.iinc 2 1, 3) := dk_132 2 1 (dk_at dksX4_digitsOf_0 10 rfl rfl)
theorem dX4_digitsOf_13 : decode cX4_digitsOf 13 = .ok (.lload_n 3, 1) := dk_33 (dk_at dksX4_digitsOf_0 13 rfl rfl)
theorem dX4_digitsOf_14 : decode cX4_digitsOf 14 = .ok (.ldc2_w 114, 3) := dk_20 0 114 (dk_at dksX4_digitsOf_0 14 rfl rfl)
theorem dX4_digitsOf_17 : decode cX4_digitsOf 17 = .ok (.ldiv, 1) := dk_109 (dk_at dksX4_digitsOf_0 17 rfl rfl)
theorem dX4_digitsOf_18 : decode cX4_digitsOf 18 = .ok (.lstore_n 3, 1) := dk_66 (dk_at dksX4_digitsOf_0 18 rfl rfl)
theorem dX4_digitsOf_19 : decode cX4_digitsOf 19 = .ok (.goto (-15), 3) := dk_167 255 241 (dk_at dksX4_digitsOf_0 19 rfl rfl)
theorem dX4_digitsOf_22 : decode cX4_digitsOf 22 = .ok (.iload_n 2, 1) := dk_28 (dk_at dksX4_digitsOf_0 22 rfl rfl)
theorem dX4_digitsOf_23 : decode cX4_digitsOf 23 = .ok (.ireturn, 1) := dk_172 (dk_at dksX4_digitsOf_0 23 rfl rfl)
abbrev cX4_sumOf : ByteArray := prog_25_method_59_code
def yX4_sumOf : MethodName := ⟨RX4, "sumOf", "(II)J"⟩
def dkwX4_sumOf_1 : List UInt8 := [132, 5, 1, 167, 255, 236, 33, 173]
abbrev dktX4_sumOf_1 : List UInt8 := dkwX4_sumOf_1 ++ []
def dkwX4_sumOf_0 : List UInt8 := [9, 66, 27, 54, 5, 21, 5, 28, 163, 0, 20, 33, 42, 180, 0, 29, 21, 5, 46, 133, 97, 66]
abbrev dktX4_sumOf_0 : List UInt8 := dkwX4_sumOf_0 ++ dktX4_sumOf_1
theorem dksX4_sumOf_0 : cX4_sumOf.data.toList.drop 0 = dktX4_sumOf_0 := by decide +kernel
theorem dksX4_sumOf_1 : cX4_sumOf.data.toList.drop 22 = dktX4_sumOf_1 := dk_seg dksX4_sumOf_0 22 rfl rfl
theorem dX4_sumOf_0 : decode cX4_sumOf 0 = .ok (.lconst 0, 1) := dk_9 (dk_at dksX4_sumOf_0 0 rfl rfl)
theorem dX4_sumOf_1 : decode cX4_sumOf 1 = .ok (.lstore_n 3, 1) := dk_66 (dk_at dksX4_sumOf_0 1 rfl rfl)
theorem dX4_sumOf_2 : decode cX4_sumOf 2 = .ok (.iload_n 1, 1) := dk_27 (dk_at dksX4_sumOf_0 2 rfl rfl)
theorem dX4_sumOf_3 : decode cX4_sumOf 3 = .ok (.istore 5, 2) := dk_54 5 (dk_at dksX4_sumOf_0 3 rfl rfl)
theorem dX4_sumOf_5 : decode cX4_sumOf 5 = .ok (.iload 5, 2) := dk_21 5 (dk_at dksX4_sumOf_0 5 rfl rfl)
theorem dX4_sumOf_7 : decode cX4_sumOf 7 = .ok (.iload_n 2, 1) := dk_28 (dk_at dksX4_sumOf_0 7 rfl rfl)
theorem dX4_sumOf_8 : decode cX4_sumOf 8 = .ok (.if_icmp .gt 20, 3) := dk_163 0 20 (dk_at dksX4_sumOf_0 8 rfl rfl)
theorem dX4_sumOf_11 : decode cX4_sumOf 11 = .ok (.lload_n 3, 1) := dk_33 (dk_at dksX4_sumOf_0 11 rfl rfl)
theorem dX4_sumOf_12 : decode cX4_sumOf 12 = .ok (.aload_n 0, 1) := dk_42 (dk_at dksX4_sumOf_0 12 rfl rfl)
theorem dX4_sumOf_13 : decode cX4_sumOf 13 = .ok (.getfield 29, 3) := dk_180 0 29 (dk_at dksX4_sumOf_0 13 rfl rfl)
theorem dX4_sumOf_16 : decode cX4_sumOf 16 = .ok (.iload 5, 2) := dk_21 5 (dk_at dksX4_sumOf_0 16 rfl rfl)
theorem dX4_sumOf_18 : decode cX4_sumOf 18 = .ok (.iaload, 1) := dk_46 (dk_at dksX4_sumOf_0 18 rfl rfl)
theorem dX4_sumOf_19 : decode cX4_sumOf 19 = .ok (.i2l, 1) := dk_133 (dk_at dksX4_sumOf_0 19 rfl rfl)
theorem dX4_sumOf_20 : decode cX4_sumOf 20 = .ok (.ladd, 1) := dk_97 (dk_at dksX4_sumOf_0 20 rfl rfl)
theorem dX4_sumOf_21 : decode cX4_sumOf 21 = .ok (.lstore_n 3, 1) := dk_66 (dk_at dksX4_sumOf_0 21 rfl rfl)
theorem dX4_sumOf_22 : decode cX4_sumOf 22 = .ok (.iinc 5 1, 3) := dk_132 5 1 (dk_at dksX4_sumOf_1 0 rfl rfl)
theorem dX4_sumOf_25 : decode cX4_sumOf 25 = .ok (.goto (-20), 3) := dk_167 255 236 (dk_at dksX4_sumOf_1 3 rfl rfl)
theorem dX4_sumOf_28 : decode cX4_sumOf 28 = .ok (.lload_n 3, 1) := dk_33 (dk_at dksX4_sumOf_1 6 rfl rfl)
theorem dX4_sumOf_29 : decode cX4_sumOf 29 = .ok (.lreturn, 1) := dk_173 (dk_at dksX4_sumOf_1 7 rfl rfl)
abbrev cX4_crossingsOf : ByteArray := prog_25_method_60_code
def yX4_crossingsOf : MethodName := ⟨RX4, "crossingsOf", "(II)I"⟩
def dkwX4_crossingsOf_2 : List UInt8 := [132, 4, 1, 167, 255, 214, 29, 172]
abbrev dktX4_crossingsOf_2 : List UInt8 := dkwX4_crossingsOf_2 ++ []
def dkwX4_crossingsOf_1 : List UInt8 := [42, 180, 0, 29, 21, 4, 4, 100, 46, 184, 0, 181, 160, 0, 7, 3, 167, 0, 4, 4, 96, 62]
abbrev dktX4_crossingsOf_1 : List UInt8 := dkwX4_crossingsOf_1 ++ dktX4_crossingsOf_2
def dkwX4_crossingsOf_0 : List UInt8 := [3, 62, 27, 4, 96, 54, 4, 21, 4, 28, 163, 0, 42, 29, 42, 180, 0, 29, 21, 4, 46, 184, 0, 181]
abbrev dktX4_crossingsOf_0 : List UInt8 := dkwX4_crossingsOf_0 ++ dktX4_crossingsOf_1
theorem dksX4_crossingsOf_0 : cX4_crossingsOf.data.toList.drop 0 = dktX4_crossingsOf_0 := by decide +kernel
theorem dksX4_crossingsOf_1 : cX4_crossingsOf.data.toList.drop 24 = dktX4_crossingsOf_1 := dk_seg dksX4_crossingsOf_0 24 rfl rfl
theorem dksX4_crossingsOf_2 : cX4_crossingsOf.data.toList.drop 46 = dktX4_crossingsOf_2 := dk_seg dksX4_crossingsOf_1 22 rfl rfl
theorem dX4_crossingsOf_0 : decode cX4_crossingsOf 0 = .ok (.iconst 0, 1) := dk_3 (dk_at dksX4_crossingsOf_0 0 rfl rfl)
theorem dX4_crossingsOf_1 : decode cX4_crossingsOf 1 = .ok (.istore_n 3, 1) := dk_62 (dk_at dksX4_crossingsOf_0 1 rfl rfl)
theorem dX4_crossingsOf_2 : decode cX4_crossingsOf 2 = .ok (.iload_n 1, 1) := dk_27 (dk_at dksX4_crossingsOf_0 2 rfl rfl)
theorem dX4_crossingsOf_3 : decode cX4_crossingsOf 3 = .ok (.iconst 1, 1) := dk_4 (dk_at dksX4_crossingsOf_0 3 rfl rfl)
theorem dX4_crossingsOf_4 : decode cX4_crossingsOf 4 = .ok (.iadd, 1) := dk_96 (dk_at dksX4_crossingsOf_0 4 rfl rfl)
theorem dX4_crossingsOf_5 : decode cX4_crossingsOf 5 = .ok (.istore 4, 2) := dk_54 4 (dk_at dksX4_crossingsOf_0 5 rfl rfl)
theorem dX4_crossingsOf_7 : decode cX4_crossingsOf 7 = .ok (.iload 4, 2) := dk_21 4 (dk_at dksX4_crossingsOf_0 7 rfl rfl)
theorem dX4_crossingsOf_9 : decode cX4_crossingsOf 9 = .ok (.iload_n 2, 1) := dk_28 (dk_at dksX4_crossingsOf_0 9 rfl rfl)
theorem dX4_crossingsOf_10 : decode cX4_crossingsOf 10 = .ok (.if_icmp .gt 42, 3) := dk_163 0 42 (dk_at dksX4_crossingsOf_0 10 rfl rfl)
theorem dX4_crossingsOf_13 : decode cX4_crossingsOf 13 = .ok (.iload_n 3, 1) := dk_29 (dk_at dksX4_crossingsOf_0 13 rfl rfl)
theorem dX4_crossingsOf_14 : decode cX4_crossingsOf 14 = .ok (.aload_n 0, 1) := dk_42 (dk_at dksX4_crossingsOf_0 14 rfl rfl)
theorem dX4_crossingsOf_15 : decode cX4_crossingsOf 15 = .ok (.getfield 29, 3) := dk_180 0 29 (dk_at dksX4_crossingsOf_0 15 rfl rfl)
theorem dX4_crossingsOf_18 : decode cX4_crossingsOf 18 = .ok (.iload 4, 2) := dk_21 4 (dk_at dksX4_crossingsOf_0 18 rfl rfl)
theorem dX4_crossingsOf_20 : decode cX4_crossingsOf 20 = .ok (.iaload, 1) := dk_46 (dk_at dksX4_crossingsOf_0 20 rfl rfl)
theorem dX4_crossingsOf_21 : decode cX4_crossingsOf 21 = .ok (.invokestatic 181, 3) := dk_184 0 181 (dk_at dksX4_crossingsOf_0 21 rfl rfl)
theorem dX4_crossingsOf_24 : decode cX4_crossingsOf 24 = .ok (.aload_n 0, 1) := dk_42 (dk_at dksX4_crossingsOf_1 0 rfl rfl)
theorem dX4_crossingsOf_25 : decode cX4_crossingsOf 25 = .ok (.getfield 29, 3) := dk_180 0 29 (dk_at dksX4_crossingsOf_1 1 rfl rfl)
theorem dX4_crossingsOf_28 : decode cX4_crossingsOf 28 = .ok (.iload 4, 2) := dk_21 4 (dk_at dksX4_crossingsOf_1 4 rfl rfl)
theorem dX4_crossingsOf_30 : decode cX4_crossingsOf 30 = .ok (.iconst 1, 1) := dk_4 (dk_at dksX4_crossingsOf_1 6 rfl rfl)
theorem dX4_crossingsOf_31 : decode cX4_crossingsOf 31 = .ok (.isub, 1) := dk_100 (dk_at dksX4_crossingsOf_1 7 rfl rfl)
theorem dX4_crossingsOf_32 : decode cX4_crossingsOf 32 = .ok (.iaload, 1) := dk_46 (dk_at dksX4_crossingsOf_1 8 rfl rfl)
theorem dX4_crossingsOf_33 : decode cX4_crossingsOf 33 = .ok (.invokestatic 181, 3) := dk_184 0 181 (dk_at dksX4_crossingsOf_1 9 rfl rfl)
theorem dX4_crossingsOf_36 : decode cX4_crossingsOf 36 = .ok (.if_icmp .ne 7, 3) := dk_160 0 7 (dk_at dksX4_crossingsOf_1 12 rfl rfl)
theorem dX4_crossingsOf_39 : decode cX4_crossingsOf 39 = .ok (.iconst 0, 1) := dk_3 (dk_at dksX4_crossingsOf_1 15 rfl rfl)
theorem dX4_crossingsOf_40 : decode cX4_crossingsOf 40 = .ok (.goto 4, 3) := dk_167 0 4 (dk_at dksX4_crossingsOf_1 16 rfl rfl)
theorem dX4_crossingsOf_43 : decode cX4_crossingsOf 43 = .ok (.iconst 1, 1) := dk_4 (dk_at dksX4_crossingsOf_1 19 rfl rfl)
theorem dX4_crossingsOf_44 : decode cX4_crossingsOf 44 = .ok (.iadd, 1) := dk_96 (dk_at dksX4_crossingsOf_1 20 rfl rfl)
theorem dX4_crossingsOf_45 : decode cX4_crossingsOf 45 = .ok (.istore_n 3, 1) := dk_62 (dk_at dksX4_crossingsOf_1 21 rfl rfl)
theorem dX4_crossingsOf_46 : decode cX4_crossingsOf 46 = .ok (.iinc 4 1, 3) := dk_132 4 1 (dk_at dksX4_crossingsOf_2 0 rfl rfl)
theorem dX4_crossingsOf_49 : decode cX4_crossingsOf 49 = .ok (.goto (-42), 3) := dk_167 255 214 (dk_at dksX4_crossingsOf_2 3 rfl rfl)
theorem dX4_crossingsOf_52 : decode cX4_crossingsOf 52 = .ok (.iload_n 3, 1) := dk_29 (dk_at dksX4_crossingsOf_2 6 rfl rfl)
theorem dX4_crossingsOf_53 : decode cX4_crossingsOf 53 = .ok (.ireturn, 1) := dk_172 (dk_at dksX4_crossingsOf_2 7 rfl rfl)
abbrev cX4_signOf : ByteArray := prog_25_method_58_code
def yX4_signOf : MethodName := ⟨RX4, "signOf", "(I)I"⟩
def dkwX4_signOf_0 : List UInt8 := [26, 158, 0, 7, 4, 167, 0, 12, 26, 156, 0, 7, 2, 167, 0, 4, 3, 172]
abbrev dktX4_signOf_0 : List UInt8 := dkwX4_signOf_0 ++ []
theorem dksX4_signOf_0 : cX4_signOf.data.toList.drop 0 = dktX4_signOf_0 := by decide +kernel
theorem dX4_signOf_0 : decode cX4_signOf 0 = .ok (.iload_n 0, 1) := dk_26 (dk_at dksX4_signOf_0 0 rfl rfl)
theorem dX4_signOf_1 : decode cX4_signOf 1 = .ok (.ifCond .le 7, 3) := dk_158 0 7 (dk_at dksX4_signOf_0 1 rfl rfl)
theorem dX4_signOf_4 : decode cX4_signOf 4 = .ok (.iconst 1, 1) := dk_4 (dk_at dksX4_signOf_0 4 rfl rfl)
theorem dX4_signOf_5 : decode cX4_signOf 5 = .ok (.goto 12, 3) := dk_167 0 12 (dk_at dksX4_signOf_0 5 rfl rfl)
theorem dX4_signOf_8 : decode cX4_signOf 8 = .ok (.iload_n 0, 1) := dk_26 (dk_at dksX4_signOf_0 8 rfl rfl)
theorem dX4_signOf_9 : decode cX4_signOf 9 = .ok (.ifCond .ge 7, 3) := dk_156 0 7 (dk_at dksX4_signOf_0 9 rfl rfl)
theorem dX4_signOf_12 : decode cX4_signOf 12 = .ok (.iconst (-1), 1) := dk_2 (dk_at dksX4_signOf_0 12 rfl rfl)
theorem dX4_signOf_13 : decode cX4_signOf 13 = .ok (.goto 4, 3) := dk_167 0 4 (dk_at dksX4_signOf_0 13 rfl rfl)
theorem dX4_signOf_16 : decode cX4_signOf 16 = .ok (.iconst 0, 1) := dk_3 (dk_at dksX4_signOf_0 16 rfl rfl)
theorem dX4_signOf_17 : decode cX4_signOf 17 = .ok (.ireturn, 1) := dk_172 (dk_at dksX4_signOf_0 17 rfl rfl)
abbrev cX4_loudestMicrophone : ByteArray := prog_25_method_63_code
def yX4_loudestMicrophone : MethodName := ⟨RX4, "loudestMicrophone", "(II)I"⟩
def dkwX4_loudestMicrophone_3 : List UInt8 := [55, 4, 132, 6, 1, 167, 255, 207, 29, 172]
abbrev dktX4_loudestMicrophone_3 : List UInt8 := dkwX4_loudestMicrophone_3 ++ []
def dkwX4_loudestMicrophone_2 : List UInt8 := [182, 0, 184, 55, 7, 29, 2, 159, 0, 11, 22, 7, 22, 4, 148, 158, 0, 10, 21, 6, 62, 22, 7]
abbrev dktX4_loudestMicrophone_2 : List UInt8 := dkwX4_loudestMicrophone_2 ++ dktX4_loudestMicrophone_3
def dkwX4_loudestMicrophone_1 : List UInt8 := [3, 54, 6, 21, 6, 42, 180, 0, 7, 16, 8, 46, 162, 0, 43, 42, 21, 6, 182, 0, 204, 42, 27, 28]
abbrev dktX4_loudestMicrophone_1 : List UInt8 := dkwX4_loudestMicrophone_1 ++ dktX4_loudestMicrophone_2
def dkwX4_loudestMicrophone_0 : List UInt8 := [42, 3, 181, 0, 49, 27, 28, 184, 0, 200, 154, 0, 9, 42, 4, 182, 0, 64, 172, 2, 62, 9, 55, 4]
abbrev dktX4_loudestMicrophone_0 : List UInt8 := dkwX4_loudestMicrophone_0 ++ dktX4_loudestMicrophone_1
theorem dksX4_loudestMicrophone_0 : cX4_loudestMicrophone.data.toList.drop 0 = dktX4_loudestMicrophone_0 := by decide +kernel
theorem dksX4_loudestMicrophone_1 : cX4_loudestMicrophone.data.toList.drop 24 = dktX4_loudestMicrophone_1 := dk_seg dksX4_loudestMicrophone_0 24 rfl rfl
theorem dksX4_loudestMicrophone_2 : cX4_loudestMicrophone.data.toList.drop 48 = dktX4_loudestMicrophone_2 := dk_seg dksX4_loudestMicrophone_1 24 rfl rfl
theorem dksX4_loudestMicrophone_3 : cX4_loudestMicrophone.data.toList.drop 71 = dktX4_loudestMicrophone_3 := dk_seg dksX4_loudestMicrophone_2 23 rfl rfl
theorem dX4_loudestMicrophone_0 : decode cX4_loudestMicrophone 0 = .ok (.aload_n 0, 1) := dk_42 (dk_at dksX4_loudestMicrophone_0 0 rfl rfl)
theorem dX4_loudestMicrophone_1 : decode cX4_loudestMicrophone 1 = .ok (.iconst 0, 1) := dk_3 (dk_at dksX4_loudestMicrophone_0 1 rfl rfl)
theorem dX4_loudestMicrophone_2 : decode cX4_loudestMicrophone 2 = .ok (.putfield 49, 3) := dk_181 0 49 (dk_at dksX4_loudestMicrophone_0 2 rfl rfl)
theorem dX4_loudestMicrophone_5 : decode cX4_loudestMicrophone 5 = .ok (.iload_n 1, 1) := dk_27 (dk_at dksX4_loudestMicrophone_0 5 rfl rfl)
theorem dX4_loudestMicrophone_6 : decode cX4_loudestMicrophone 6 = .ok (.iload_n 2, 1) := dk_28 (dk_at dksX4_loudestMicrophone_0 6 rfl rfl)
theorem dX4_loudestMicrophone_7 : decode cX4_loudestMicrophone 7 = .ok (.invokestatic 200, 3) := dk_184 0 200 (dk_at dksX4_loudestMicrophone_0 7 rfl rfl)
theorem dX4_loudestMicrophone_10 : decode cX4_loudestMicrophone 10 = .ok (.ifCond .ne 9, 3) := dk_154 0 9 (dk_at dksX4_loudestMicrophone_0 10 rfl rfl)
theorem dX4_loudestMicrophone_13 : decode cX4_loudestMicrophone 13 = .ok (.aload_n 0, 1) := dk_42 (dk_at dksX4_loudestMicrophone_0 13 rfl rfl)
theorem dX4_loudestMicrophone_14 : decode cX4_loudestMicrophone 14 = .ok (.iconst 1, 1) := dk_4 (dk_at dksX4_loudestMicrophone_0 14 rfl rfl)
theorem dX4_loudestMicrophone_15 : decode cX4_loudestMicrophone 15 = .ok (.invokevirtual 64, 3) := dk_182 0 64 (dk_at dksX4_loudestMicrophone_0 15 rfl rfl)
theorem dX4_loudestMicrophone_18 : decode cX4_loudestMicrophone 18 = .ok (.ireturn, 1) := dk_172 (dk_at dksX4_loudestMicrophone_0 18 rfl rfl)
theorem dX4_loudestMicrophone_19 : decode cX4_loudestMicrophone 19 = .ok (.iconst (-1), 1) := dk_2 (dk_at dksX4_loudestMicrophone_0 19 rfl rfl)
theorem dX4_loudestMicrophone_20 : decode cX4_loudestMicrophone 20 = .ok (.istore_n 3, 1) := dk_62 (dk_at dksX4_loudestMicrophone_0 20 rfl rfl)
theorem dX4_loudestMicrophone_21 : decode cX4_loudestMicrophone 21 = .ok (.lconst 0, 1) := dk_9 (dk_at dksX4_loudestMicrophone_0 21 rfl rfl)
theorem dX4_loudestMicrophone_22 : decode cX4_loudestMicrophone 22 = .ok (.lstore 4, 2) := dk_55 4 (dk_at dksX4_loudestMicrophone_0 22 rfl rfl)
theorem dX4_loudestMicrophone_24 : decode cX4_loudestMicrophone 24 = .ok (.iconst 0, 1) := dk_3 (dk_at dksX4_loudestMicrophone_1 0 rfl rfl)
theorem dX4_loudestMicrophone_25 : decode cX4_loudestMicrophone 25 = .ok (.istore 6, 2) := dk_54 6 (dk_at dksX4_loudestMicrophone_1 1 rfl rfl)
theorem dX4_loudestMicrophone_27 : decode cX4_loudestMicrophone 27 = .ok (.iload 6, 2) := dk_21 6 (dk_at dksX4_loudestMicrophone_1 3 rfl rfl)
theorem dX4_loudestMicrophone_29 : decode cX4_loudestMicrophone 29 = .ok (.aload_n 0, 1) := dk_42 (dk_at dksX4_loudestMicrophone_1 5 rfl rfl)
theorem dX4_loudestMicrophone_30 : decode cX4_loudestMicrophone 30 = .ok (.getfield 7, 3) := dk_180 0 7 (dk_at dksX4_loudestMicrophone_1 6 rfl rfl)
theorem dX4_loudestMicrophone_33 : decode cX4_loudestMicrophone 33 = .ok (.bipush 8, 2) := dk_16 8 (dk_at dksX4_loudestMicrophone_1 9 rfl rfl)
theorem dX4_loudestMicrophone_35 : decode cX4_loudestMicrophone 35 = .ok (.iaload, 1) := dk_46 (dk_at dksX4_loudestMicrophone_1 11 rfl rfl)
theorem dX4_loudestMicrophone_36 : decode cX4_loudestMicrophone 36 = .ok (.if_icmp .ge 43, 3) := dk_162 0 43 (dk_at dksX4_loudestMicrophone_1 12 rfl rfl)
theorem dX4_loudestMicrophone_39 : decode cX4_loudestMicrophone 39 = .ok (.aload_n 0, 1) := dk_42 (dk_at dksX4_loudestMicrophone_1 15 rfl rfl)
theorem dX4_loudestMicrophone_40 : decode cX4_loudestMicrophone 40 = .ok (.iload 6, 2) := dk_21 6 (dk_at dksX4_loudestMicrophone_1 16 rfl rfl)
theorem dX4_loudestMicrophone_42 : decode cX4_loudestMicrophone 42 = .ok (.invokevirtual 204, 3) := dk_182 0 204 (dk_at dksX4_loudestMicrophone_1 18 rfl rfl)
theorem dX4_loudestMicrophone_45 : decode cX4_loudestMicrophone 45 = .ok (.aload_n 0, 1) := dk_42 (dk_at dksX4_loudestMicrophone_1 21 rfl rfl)
theorem dX4_loudestMicrophone_46 : decode cX4_loudestMicrophone 46 = .ok (.iload_n 1, 1) := dk_27 (dk_at dksX4_loudestMicrophone_1 22 rfl rfl)
theorem dX4_loudestMicrophone_47 : decode cX4_loudestMicrophone 47 = .ok (.iload_n 2, 1) := dk_28 (dk_at dksX4_loudestMicrophone_1 23 rfl rfl)
theorem dX4_loudestMicrophone_48 : decode cX4_loudestMicrophone 48 = .ok (.invokevirtual 184, 3) := dk_182 0 184 (dk_at dksX4_loudestMicrophone_2 0 rfl rfl)
theorem dX4_loudestMicrophone_51 : decode cX4_loudestMicrophone 51 = .ok (.lstore 7, 2) := dk_55 7 (dk_at dksX4_loudestMicrophone_2 3 rfl rfl)
theorem dX4_loudestMicrophone_53 : decode cX4_loudestMicrophone 53 = .ok (.iload_n 3, 1) := dk_29 (dk_at dksX4_loudestMicrophone_2 5 rfl rfl)
theorem dX4_loudestMicrophone_54 : decode cX4_loudestMicrophone 54 = .ok (.iconst (-1), 1) := dk_2 (dk_at dksX4_loudestMicrophone_2 6 rfl rfl)
theorem dX4_loudestMicrophone_55 : decode cX4_loudestMicrophone 55 = .ok (.if_icmp .eq 11, 3) := dk_159 0 11 (dk_at dksX4_loudestMicrophone_2 7 rfl rfl)
theorem dX4_loudestMicrophone_58 : decode cX4_loudestMicrophone 58 = .ok (.lload 7, 2) := dk_22 7 (dk_at dksX4_loudestMicrophone_2 10 rfl rfl)
theorem dX4_loudestMicrophone_60 : decode cX4_loudestMicrophone 60 = .ok (.lload 4, 2) := dk_22 4 (dk_at dksX4_loudestMicrophone_2 12 rfl rfl)
theorem dX4_loudestMicrophone_62 : decode cX4_loudestMicrophone 62 = .ok (.lcmp, 1) := dk_148 (dk_at dksX4_loudestMicrophone_2 14 rfl rfl)
theorem dX4_loudestMicrophone_63 : decode cX4_loudestMicrophone 63 = .ok (.ifCond .le 10, 3) := dk_158 0 10 (dk_at dksX4_loudestMicrophone_2 15 rfl rfl)
theorem dX4_loudestMicrophone_66 : decode cX4_loudestMicrophone 66 = .ok (.iload 6, 2) := dk_21 6 (dk_at dksX4_loudestMicrophone_2 18 rfl rfl)
theorem dX4_loudestMicrophone_68 : decode cX4_loudestMicrophone 68 = .ok (.istore_n 3, 1) := dk_62 (dk_at dksX4_loudestMicrophone_2 20 rfl rfl)
theorem dX4_loudestMicrophone_69 : decode cX4_loudestMicrophone 69 = .ok (.lload 7, 2) := dk_22 7 (dk_at dksX4_loudestMicrophone_2 21 rfl rfl)
theorem dX4_loudestMicrophone_71 : decode cX4_loudestMicrophone 71 = .ok (.lstore 4, 2) := dk_55 4 (dk_at dksX4_loudestMicrophone_3 0 rfl rfl)
theorem dX4_loudestMicrophone_73 : decode cX4_loudestMicrophone 73 = .ok (.iinc 6 1, 3) := dk_132 6 1 (dk_at dksX4_loudestMicrophone_3 2 rfl rfl)
theorem dX4_loudestMicrophone_76 : decode cX4_loudestMicrophone 76 = .ok (.goto (-49), 3) := dk_167 255 207 (dk_at dksX4_loudestMicrophone_3 5 rfl rfl)
theorem dX4_loudestMicrophone_79 : decode cX4_loudestMicrophone 79 = .ok (.iload_n 3, 1) := dk_29 (dk_at dksX4_loudestMicrophone_3 8 rfl rfl)
theorem dX4_loudestMicrophone_80 : decode cX4_loudestMicrophone 80 = .ok (.ireturn, 1) := dk_172 (dk_at dksX4_loudestMicrophone_3 9 rfl rfl)
abbrev cX4_loudestWindow : ByteArray := prog_25_method_64_code
def yX4_loudestWindow : MethodName := ⟨RX4, "loudestWindow", "(II)I"⟩
def dkwX4_loudestWindow_4 : List UInt8 := [167, 255, 214, 29, 172]
abbrev dktX4_loudestWindow_4 : List UInt8 := dkwX4_loudestWindow_4 ++ []
def dkwX4_loudestWindow_3 : List UInt8 := [182, 0, 184, 55, 7, 22, 7, 22, 4, 148, 158, 0, 10, 21, 6, 62, 22, 7, 55, 4, 132, 6, 1]
abbrev dktX4_loudestWindow_3 : List UInt8 := dkwX4_loudestWindow_3 ++ dktX4_loudestWindow_4
def dkwX4_loudestWindow_2 : List UInt8 := [3, 54, 6, 21, 6, 28, 96, 17, 1, 0, 163, 0, 38, 42, 21, 6, 21, 6, 28, 96, 4, 100]
abbrev dktX4_loudestWindow_2 : List UInt8 := dkwX4_loudestWindow_2 ++ dktX4_loudestWindow_3
def dkwX4_loudestWindow_1 : List UInt8 := [184, 0, 52, 154, 0, 9, 42, 5, 182, 0, 64, 172, 42, 27, 182, 0, 204, 3, 62, 20, 0, 211, 55, 4]
abbrev dktX4_loudestWindow_1 : List UInt8 := dkwX4_loudestWindow_1 ++ dktX4_loudestWindow_2
def dkwX4_loudestWindow_0 : List UInt8 := [42, 3, 181, 0, 49, 42, 27, 182, 0, 106, 154, 0, 9, 42, 4, 182, 0, 64, 172, 28, 4, 17, 1, 0]
abbrev dktX4_loudestWindow_0 : List UInt8 := dkwX4_loudestWindow_0 ++ dktX4_loudestWindow_1
theorem dksX4_loudestWindow_0 : cX4_loudestWindow.data.toList.drop 0 = dktX4_loudestWindow_0 := by decide +kernel
theorem dksX4_loudestWindow_1 : cX4_loudestWindow.data.toList.drop 24 = dktX4_loudestWindow_1 := dk_seg dksX4_loudestWindow_0 24 rfl rfl
theorem dksX4_loudestWindow_2 : cX4_loudestWindow.data.toList.drop 48 = dktX4_loudestWindow_2 := dk_seg dksX4_loudestWindow_1 24 rfl rfl
theorem dksX4_loudestWindow_3 : cX4_loudestWindow.data.toList.drop 70 = dktX4_loudestWindow_3 := dk_seg dksX4_loudestWindow_2 22 rfl rfl
theorem dksX4_loudestWindow_4 : cX4_loudestWindow.data.toList.drop 93 = dktX4_loudestWindow_4 := dk_seg dksX4_loudestWindow_3 23 rfl rfl
theorem dX4_loudestWindow_0 : decode cX4_loudestWindow 0 = .ok (.aload_n 0, 1) := dk_42 (dk_at dksX4_loudestWindow_0 0 rfl rfl)
theorem dX4_loudestWindow_1 : decode cX4_loudestWindow 1 = .ok (.iconst 0, 1) := dk_3 (dk_at dksX4_loudestWindow_0 1 rfl rfl)
theorem dX4_loudestWindow_2 : decode cX4_loudestWindow 2 = .ok (.putfield 49, 3) := dk_181 0 49 (dk_at dksX4_loudestWindow_0 2 rfl rfl)
theorem dX4_loudestWindow_5 : decode cX4_loudestWindow 5 = .ok (.aload_n 0, 1) := dk_42 (dk_at dksX4_loudestWindow_0 5 rfl rfl)
theorem dX4_loudestWindow_6 : decode cX4_loudestWindow 6 = .ok (.iload_n 1, 1) := dk_27 (dk_at dksX4_loudestWindow_0 6 rfl rfl)
theorem dX4_loudestWindow_7 : decode cX4_loudestWindow 7 = .ok (.invokevirtual 106, 3) := dk_182 0 106 (dk_at dksX4_loudestWindow_0 7 rfl rfl)
theorem dX4_loudestWindow_10 : decode cX4_loudestWindow 10 = .ok (.ifCond .ne 9, 3) := dk_154 0 9 (dk_at dksX4_loudestWindow_0 10 rfl rfl)
theorem dX4_loudestWindow_13 : decode cX4_loudestWindow 13 = .ok (.aload_n 0, 1) := dk_42 (dk_at dksX4_loudestWindow_0 13 rfl rfl)
theorem dX4_loudestWindow_14 : decode cX4_loudestWindow 14 = .ok (.iconst 1, 1) := dk_4 (dk_at dksX4_loudestWindow_0 14 rfl rfl)
theorem dX4_loudestWindow_15 : decode cX4_loudestWindow 15 = .ok (.invokevirtual 64, 3) := dk_182 0 64 (dk_at dksX4_loudestWindow_0 15 rfl rfl)
theorem dX4_loudestWindow_18 : decode cX4_loudestWindow 18 = .ok (.ireturn, 1) := dk_172 (dk_at dksX4_loudestWindow_0 18 rfl rfl)
theorem dX4_loudestWindow_19 : decode cX4_loudestWindow 19 = .ok (.iload_n 2, 1) := dk_28 (dk_at dksX4_loudestWindow_0 19 rfl rfl)
theorem dX4_loudestWindow_20 : decode cX4_loudestWindow 20 = .ok (.iconst 1, 1) := dk_4 (dk_at dksX4_loudestWindow_0 20 rfl rfl)
theorem dX4_loudestWindow_21 : decode cX4_loudestWindow 21 = .ok (.sipush 256, 3) := dk_17 1 0 (dk_at dksX4_loudestWindow_0 21 rfl rfl)
theorem dX4_loudestWindow_24 : decode cX4_loudestWindow 24 = .ok (.invokestatic 52, 3) := dk_184 0 52 (dk_at dksX4_loudestWindow_1 0 rfl rfl)
theorem dX4_loudestWindow_27 : decode cX4_loudestWindow 27 = .ok (.ifCond .ne 9, 3) := dk_154 0 9 (dk_at dksX4_loudestWindow_1 3 rfl rfl)
theorem dX4_loudestWindow_30 : decode cX4_loudestWindow 30 = .ok (.aload_n 0, 1) := dk_42 (dk_at dksX4_loudestWindow_1 6 rfl rfl)
theorem dX4_loudestWindow_31 : decode cX4_loudestWindow 31 = .ok (.iconst 2, 1) := dk_5 (dk_at dksX4_loudestWindow_1 7 rfl rfl)
theorem dX4_loudestWindow_32 : decode cX4_loudestWindow 32 = .ok (.invokevirtual 64, 3) := dk_182 0 64 (dk_at dksX4_loudestWindow_1 8 rfl rfl)
theorem dX4_loudestWindow_35 : decode cX4_loudestWindow 35 = .ok (.ireturn, 1) := dk_172 (dk_at dksX4_loudestWindow_1 11 rfl rfl)
theorem dX4_loudestWindow_36 : decode cX4_loudestWindow 36 = .ok (.aload_n 0, 1) := dk_42 (dk_at dksX4_loudestWindow_1 12 rfl rfl)
theorem dX4_loudestWindow_37 : decode cX4_loudestWindow 37 = .ok (.iload_n 1, 1) := dk_27 (dk_at dksX4_loudestWindow_1 13 rfl rfl)
theorem dX4_loudestWindow_38 : decode cX4_loudestWindow 38 = .ok (.invokevirtual 204, 3) := dk_182 0 204 (dk_at dksX4_loudestWindow_1 14 rfl rfl)
theorem dX4_loudestWindow_41 : decode cX4_loudestWindow 41 = .ok (.iconst 0, 1) := dk_3 (dk_at dksX4_loudestWindow_1 17 rfl rfl)
theorem dX4_loudestWindow_42 : decode cX4_loudestWindow 42 = .ok (.istore_n 3, 1) := dk_62 (dk_at dksX4_loudestWindow_1 18 rfl rfl)
theorem dX4_loudestWindow_43 : decode cX4_loudestWindow 43 = .ok (.ldc2_w 211, 3) := dk_20 0 211 (dk_at dksX4_loudestWindow_1 19 rfl rfl)
theorem dX4_loudestWindow_46 : decode cX4_loudestWindow 46 = .ok (.lstore 4, 2) := dk_55 4 (dk_at dksX4_loudestWindow_1 22 rfl rfl)
theorem dX4_loudestWindow_48 : decode cX4_loudestWindow 48 = .ok (.iconst 0, 1) := dk_3 (dk_at dksX4_loudestWindow_2 0 rfl rfl)
theorem dX4_loudestWindow_49 : decode cX4_loudestWindow 49 = .ok (.istore 6, 2) := dk_54 6 (dk_at dksX4_loudestWindow_2 1 rfl rfl)
theorem dX4_loudestWindow_51 : decode cX4_loudestWindow 51 = .ok (.iload 6, 2) := dk_21 6 (dk_at dksX4_loudestWindow_2 3 rfl rfl)
theorem dX4_loudestWindow_53 : decode cX4_loudestWindow 53 = .ok (.iload_n 2, 1) := dk_28 (dk_at dksX4_loudestWindow_2 5 rfl rfl)
theorem dX4_loudestWindow_54 : decode cX4_loudestWindow 54 = .ok (.iadd, 1) := dk_96 (dk_at dksX4_loudestWindow_2 6 rfl rfl)
theorem dX4_loudestWindow_55 : decode cX4_loudestWindow 55 = .ok (.sipush 256, 3) := dk_17 1 0 (dk_at dksX4_loudestWindow_2 7 rfl rfl)
theorem dX4_loudestWindow_58 : decode cX4_loudestWindow 58 = .ok (.if_icmp .gt 38, 3) := dk_163 0 38 (dk_at dksX4_loudestWindow_2 10 rfl rfl)
theorem dX4_loudestWindow_61 : decode cX4_loudestWindow 61 = .ok (.aload_n 0, 1) := dk_42 (dk_at dksX4_loudestWindow_2 13 rfl rfl)
theorem dX4_loudestWindow_62 : decode cX4_loudestWindow 62 = .ok (.iload 6, 2) := dk_21 6 (dk_at dksX4_loudestWindow_2 14 rfl rfl)
theorem dX4_loudestWindow_64 : decode cX4_loudestWindow 64 = .ok (.iload 6, 2) := dk_21 6 (dk_at dksX4_loudestWindow_2 16 rfl rfl)
theorem dX4_loudestWindow_66 : decode cX4_loudestWindow 66 = .ok (.iload_n 2, 1) := dk_28 (dk_at dksX4_loudestWindow_2 18 rfl rfl)
theorem dX4_loudestWindow_67 : decode cX4_loudestWindow 67 = .ok (.iadd, 1) := dk_96 (dk_at dksX4_loudestWindow_2 19 rfl rfl)
theorem dX4_loudestWindow_68 : decode cX4_loudestWindow 68 = .ok (.iconst 1, 1) := dk_4 (dk_at dksX4_loudestWindow_2 20 rfl rfl)
theorem dX4_loudestWindow_69 : decode cX4_loudestWindow 69 = .ok (.isub, 1) := dk_100 (dk_at dksX4_loudestWindow_2 21 rfl rfl)
theorem dX4_loudestWindow_70 : decode cX4_loudestWindow 70 = .ok (.invokevirtual 184, 3) := dk_182 0 184 (dk_at dksX4_loudestWindow_3 0 rfl rfl)
theorem dX4_loudestWindow_73 : decode cX4_loudestWindow 73 = .ok (.lstore 7, 2) := dk_55 7 (dk_at dksX4_loudestWindow_3 3 rfl rfl)
theorem dX4_loudestWindow_75 : decode cX4_loudestWindow 75 = .ok (.lload 7, 2) := dk_22 7 (dk_at dksX4_loudestWindow_3 5 rfl rfl)
theorem dX4_loudestWindow_77 : decode cX4_loudestWindow 77 = .ok (.lload 4, 2) := dk_22 4 (dk_at dksX4_loudestWindow_3 7 rfl rfl)
theorem dX4_loudestWindow_79 : decode cX4_loudestWindow 79 = .ok (.lcmp, 1) := dk_148 (dk_at dksX4_loudestWindow_3 9 rfl rfl)
theorem dX4_loudestWindow_80 : decode cX4_loudestWindow 80 = .ok (.ifCond .le 10, 3) := dk_158 0 10 (dk_at dksX4_loudestWindow_3 10 rfl rfl)
theorem dX4_loudestWindow_83 : decode cX4_loudestWindow 83 = .ok (.iload 6, 2) := dk_21 6 (dk_at dksX4_loudestWindow_3 13 rfl rfl)
theorem dX4_loudestWindow_85 : decode cX4_loudestWindow 85 = .ok (.istore_n 3, 1) := dk_62 (dk_at dksX4_loudestWindow_3 15 rfl rfl)
theorem dX4_loudestWindow_86 : decode cX4_loudestWindow 86 = .ok (.lload 7, 2) := dk_22 7 (dk_at dksX4_loudestWindow_3 16 rfl rfl)
theorem dX4_loudestWindow_88 : decode cX4_loudestWindow 88 = .ok (.lstore 4, 2) := dk_55 4 (dk_at dksX4_loudestWindow_3 18 rfl rfl)
theorem dX4_loudestWindow_90 : decode cX4_loudestWindow 90 = .ok (.iinc 6 1, 3) := dk_132 6 1 (dk_at dksX4_loudestWindow_3 20 rfl rfl)
theorem dX4_loudestWindow_93 : decode cX4_loudestWindow 93 = .ok (.goto (-42), 3) := dk_167 255 214 (dk_at dksX4_loudestWindow_4 0 rfl rfl)
theorem dX4_loudestWindow_96 : decode cX4_loudestWindow 96 = .ok (.iload_n 3, 1) := dk_29 (dk_at dksX4_loudestWindow_4 3 rfl rfl)
theorem dX4_loudestWindow_97 : decode cX4_loudestWindow 97 = .ok (.ireturn, 1) := dk_172 (dk_at dksX4_loudestWindow_4 4 rfl rfl)
abbrev cX4_correlation : ByteArray := prog_25_method_66_code
def yX4_correlation : MethodName := ⟨RX4, "correlation", "(III)J"⟩
def dkwX4_correlation_2 : List UInt8 := [182, 0, 213, 167, 0, 9, 42, 5, 182, 0, 64, 133, 173]
abbrev dktX4_correlation_2 : List UInt8 := dkwX4_correlation_2 ++ []
def dkwX4_correlation_1 : List UInt8 := [182, 0, 64, 133, 173, 29, 17, 255, 1, 17, 0, 255, 184, 0, 52, 153, 0, 13, 42, 27, 28, 29]
abbrev dktX4_correlation_1 : List UInt8 := dkwX4_correlation_1 ++ dktX4_correlation_2
def dkwX4_correlation_0 : List UInt8 := [42, 3, 181, 0, 49, 42, 27, 182, 0, 106, 153, 0, 11, 42, 28, 182, 0, 106, 154, 0, 10, 42, 4]
abbrev dktX4_correlation_0 : List UInt8 := dkwX4_correlation_0 ++ dktX4_correlation_1
theorem dksX4_correlation_0 : cX4_correlation.data.toList.drop 0 = dktX4_correlation_0 := by decide +kernel
theorem dksX4_correlation_1 : cX4_correlation.data.toList.drop 23 = dktX4_correlation_1 := dk_seg dksX4_correlation_0 23 rfl rfl
theorem dksX4_correlation_2 : cX4_correlation.data.toList.drop 45 = dktX4_correlation_2 := dk_seg dksX4_correlation_1 22 rfl rfl
theorem dX4_correlation_0 : decode cX4_correlation 0 = .ok (.aload_n 0, 1) := dk_42 (dk_at dksX4_correlation_0 0 rfl rfl)
theorem dX4_correlation_1 : decode cX4_correlation 1 = .ok (.iconst 0, 1) := dk_3 (dk_at dksX4_correlation_0 1 rfl rfl)
theorem dX4_correlation_2 : decode cX4_correlation 2 = .ok (.putfield 49, 3) := dk_181 0 49 (dk_at dksX4_correlation_0 2 rfl rfl)
theorem dX4_correlation_5 : decode cX4_correlation 5 = .ok (.aload_n 0, 1) := dk_42 (dk_at dksX4_correlation_0 5 rfl rfl)
theorem dX4_correlation_6 : decode cX4_correlation 6 = .ok (.iload_n 1, 1) := dk_27 (dk_at dksX4_correlation_0 6 rfl rfl)
theorem dX4_correlation_7 : decode cX4_correlation 7 = .ok (.invokevirtual 106, 3) := dk_182 0 106 (dk_at dksX4_correlation_0 7 rfl rfl)
theorem dX4_correlation_10 : decode cX4_correlation 10 = .ok (.ifCond .eq 11, 3) := dk_153 0 11 (dk_at dksX4_correlation_0 10 rfl rfl)
theorem dX4_correlation_13 : decode cX4_correlation 13 = .ok (.aload_n 0, 1) := dk_42 (dk_at dksX4_correlation_0 13 rfl rfl)
theorem dX4_correlation_14 : decode cX4_correlation 14 = .ok (.iload_n 2, 1) := dk_28 (dk_at dksX4_correlation_0 14 rfl rfl)
theorem dX4_correlation_15 : decode cX4_correlation 15 = .ok (.invokevirtual 106, 3) := dk_182 0 106 (dk_at dksX4_correlation_0 15 rfl rfl)
theorem dX4_correlation_18 : decode cX4_correlation 18 = .ok (.ifCond .ne 10, 3) := dk_154 0 10 (dk_at dksX4_correlation_0 18 rfl rfl)
theorem dX4_correlation_21 : decode cX4_correlation 21 = .ok (.aload_n 0, 1) := dk_42 (dk_at dksX4_correlation_0 21 rfl rfl)
theorem dX4_correlation_22 : decode cX4_correlation 22 = .ok (.iconst 1, 1) := dk_4 (dk_at dksX4_correlation_0 22 rfl rfl)
theorem dX4_correlation_23 : decode cX4_correlation 23 = .ok (.invokevirtual 64, 3) := dk_182 0 64 (dk_at dksX4_correlation_1 0 rfl rfl)
theorem dX4_correlation_26 : decode cX4_correlation 26 = .ok (.i2l, 1) := dk_133 (dk_at dksX4_correlation_1 3 rfl rfl)
theorem dX4_correlation_27 : decode cX4_correlation 27 = .ok (.lreturn, 1) := dk_173 (dk_at dksX4_correlation_1 4 rfl rfl)
theorem dX4_correlation_28 : decode cX4_correlation 28 = .ok (.iload_n 3, 1) := dk_29 (dk_at dksX4_correlation_1 5 rfl rfl)
theorem dX4_correlation_29 : decode cX4_correlation 29 = .ok (.sipush (-255), 3) := dk_17 255 1 (dk_at dksX4_correlation_1 6 rfl rfl)
theorem dX4_correlation_32 : decode cX4_correlation 32 = .ok (.sipush 255, 3) := dk_17 0 255 (dk_at dksX4_correlation_1 9 rfl rfl)
theorem dX4_correlation_35 : decode cX4_correlation 35 = .ok (.invokestatic 52, 3) := dk_184 0 52 (dk_at dksX4_correlation_1 12 rfl rfl)
theorem dX4_correlation_38 : decode cX4_correlation 38 = .ok (.ifCond .eq 13, 3) := dk_153 0 13 (dk_at dksX4_correlation_1 15 rfl rfl)
theorem dX4_correlation_41 : decode cX4_correlation 41 = .ok (.aload_n 0, 1) := dk_42 (dk_at dksX4_correlation_1 18 rfl rfl)
theorem dX4_correlation_42 : decode cX4_correlation 42 = .ok (.iload_n 1, 1) := dk_27 (dk_at dksX4_correlation_1 19 rfl rfl)
theorem dX4_correlation_43 : decode cX4_correlation 43 = .ok (.iload_n 2, 1) := dk_28 (dk_at dksX4_correlation_1 20 rfl rfl)
theorem dX4_correlation_44 : decode cX4_correlation 44 = .ok (.iload_n 3, 1) := dk_29 (dk_at dksX4_correlation_1 21 rfl rfl)
theorem dX4_correlation_45 : decode cX4_correlation 45 = .ok (.invokevirtual 213, 3) := dk_182 0 213 (dk_at dksX4_correlation_2 0 rfl rfl)
theorem dX4_correlation_48 : decode cX4_correlation 48 = .ok (.goto 9, 3) := dk_167 0 9 (dk_at dksX4_correlation_2 3 rfl rfl)
theorem dX4_correlation_51 : decode cX4_correlation 51 = .ok (.aload_n 0, 1) := dk_42 (dk_at dksX4_correlation_2 6 rfl rfl)
theorem dX4_correlation_52 : decode cX4_correlation 52 = .ok (.iconst 2, 1) := dk_5 (dk_at dksX4_correlation_2 7 rfl rfl)
theorem dX4_correlation_53 : decode cX4_correlation 53 = .ok (.invokevirtual 64, 3) := dk_182 0 64 (dk_at dksX4_correlation_2 8 rfl rfl)
theorem dX4_correlation_56 : decode cX4_correlation 56 = .ok (.i2l, 1) := dk_133 (dk_at dksX4_correlation_2 11 rfl rfl)
theorem dX4_correlation_57 : decode cX4_correlation 57 = .ok (.lreturn, 1) := dk_173 (dk_at dksX4_correlation_2 12 rfl rfl)
abbrev cX4_correlationOf : ByteArray := prog_25_method_65_code
def yX4_correlationOf : MethodName := ⟨RX4, "correlationOf", "(III)J"⟩
def dkwX4_correlationOf_2 : List UInt8 := [167, 0, 4, 9, 97, 55, 4, 132, 6, 1, 167, 255, 207, 22, 4, 173]
abbrev dktX4_correlationOf_2 : List UInt8 := dkwX4_correlationOf_2 ++ []
def dkwX4_correlationOf_1 : List UInt8 := [153, 0, 25, 42, 27, 21, 6, 182, 0, 175, 133, 42, 28, 21, 6, 29, 96, 182, 0, 175, 133, 105]
abbrev dktX4_correlationOf_1 : List UInt8 := dkwX4_correlationOf_1 ++ dktX4_correlationOf_2
def dkwX4_correlationOf_0 : List UInt8 := [9, 55, 4, 3, 54, 6, 21, 6, 17, 1, 0, 162, 0, 47, 22, 4, 21, 6, 29, 96, 184, 0, 56]
abbrev dktX4_correlationOf_0 : List UInt8 := dkwX4_correlationOf_0 ++ dktX4_correlationOf_1
theorem dksX4_correlationOf_0 : cX4_correlationOf.data.toList.drop 0 = dktX4_correlationOf_0 := by decide +kernel
theorem dksX4_correlationOf_1 : cX4_correlationOf.data.toList.drop 23 = dktX4_correlationOf_1 := dk_seg dksX4_correlationOf_0 23 rfl rfl
theorem dksX4_correlationOf_2 : cX4_correlationOf.data.toList.drop 45 = dktX4_correlationOf_2 := dk_seg dksX4_correlationOf_1 22 rfl rfl
theorem dX4_correlationOf_0 : decode cX4_correlationOf 0 = .ok (.lconst 0, 1) := dk_9 (dk_at dksX4_correlationOf_0 0 rfl rfl)
theorem dX4_correlationOf_1 : decode cX4_correlationOf 1 = .ok (.lstore 4, 2) := dk_55 4 (dk_at dksX4_correlationOf_0 1 rfl rfl)
theorem dX4_correlationOf_3 : decode cX4_correlationOf 3 = .ok (.iconst 0, 1) := dk_3 (dk_at dksX4_correlationOf_0 3 rfl rfl)
theorem dX4_correlationOf_4 : decode cX4_correlationOf 4 = .ok (.istore 6, 2) := dk_54 6 (dk_at dksX4_correlationOf_0 4 rfl rfl)
theorem dX4_correlationOf_6 : decode cX4_correlationOf 6 = .ok (.iload 6, 2) := dk_21 6 (dk_at dksX4_correlationOf_0 6 rfl rfl)
theorem dX4_correlationOf_8 : decode cX4_correlationOf 8 = .ok (.sipush 256, 3) := dk_17 1 0 (dk_at dksX4_correlationOf_0 8 rfl rfl)
theorem dX4_correlationOf_11 : decode cX4_correlationOf 11 = .ok (.if_icmp .ge 47, 3) := dk_162 0 47 (dk_at dksX4_correlationOf_0 11 rfl rfl)
theorem dX4_correlationOf_14 : decode cX4_correlationOf 14 = .ok (.lload 4, 2) := dk_22 4 (dk_at dksX4_correlationOf_0 14 rfl rfl)
theorem dX4_correlationOf_16 : decode cX4_correlationOf 16 = .ok (.iload 6, 2) := dk_21 6 (dk_at dksX4_correlationOf_0 16 rfl rfl)
theorem dX4_correlationOf_18 : decode cX4_correlationOf 18 = .ok (.iload_n 3, 1) := dk_29 (dk_at dksX4_correlationOf_0 18 rfl rfl)
theorem dX4_correlationOf_19 : decode cX4_correlationOf 19 = .ok (.iadd, 1) := dk_96 (dk_at dksX4_correlationOf_0 19 rfl rfl)
theorem dX4_correlationOf_20 : decode cX4_correlationOf 20 = .ok (.invokestatic 56, 3) := dk_184 0 56 (dk_at dksX4_correlationOf_0 20 rfl rfl)
theorem dX4_correlationOf_23 : decode cX4_correlationOf 23 = .ok (.ifCond .eq 25, 3) := dk_153 0 25 (dk_at dksX4_correlationOf_1 0 rfl rfl)
theorem dX4_correlationOf_26 : decode cX4_correlationOf 26 = .ok (.aload_n 0, 1) := dk_42 (dk_at dksX4_correlationOf_1 3 rfl rfl)
theorem dX4_correlationOf_27 : decode cX4_correlationOf 27 = .ok (.iload_n 1, 1) := dk_27 (dk_at dksX4_correlationOf_1 4 rfl rfl)
theorem dX4_correlationOf_28 : decode cX4_correlationOf 28 = .ok (.iload 6, 2) := dk_21 6 (dk_at dksX4_correlationOf_1 5 rfl rfl)
theorem dX4_correlationOf_30 : decode cX4_correlationOf 30 = .ok (.invokevirtual 175, 3) := dk_182 0 175 (dk_at dksX4_correlationOf_1 7 rfl rfl)
theorem dX4_correlationOf_33 : decode cX4_correlationOf 33 = .ok (.i2l, 1) := dk_133 (dk_at dksX4_correlationOf_1 10 rfl rfl)
theorem dX4_correlationOf_34 : decode cX4_correlationOf 34 = .ok (.aload_n 0, 1) := dk_42 (dk_at dksX4_correlationOf_1 11 rfl rfl)
theorem dX4_correlationOf_35 : decode cX4_correlationOf 35 = .ok (.iload_n 2, 1) := dk_28 (dk_at dksX4_correlationOf_1 12 rfl rfl)
theorem dX4_correlationOf_36 : decode cX4_correlationOf 36 = .ok (.iload 6, 2) := dk_21 6 (dk_at dksX4_correlationOf_1 13 rfl rfl)
theorem dX4_correlationOf_38 : decode cX4_correlationOf 38 = .ok (.iload_n 3, 1) := dk_29 (dk_at dksX4_correlationOf_1 15 rfl rfl)
theorem dX4_correlationOf_39 : decode cX4_correlationOf 39 = .ok (.iadd, 1) := dk_96 (dk_at dksX4_correlationOf_1 16 rfl rfl)
theorem dX4_correlationOf_40 : decode cX4_correlationOf 40 = .ok (.invokevirtual 175, 3) := dk_182 0 175 (dk_at dksX4_correlationOf_1 17 rfl rfl)
theorem dX4_correlationOf_43 : decode cX4_correlationOf 43 = .ok (.i2l, 1) := dk_133 (dk_at dksX4_correlationOf_1 20 rfl rfl)
theorem dX4_correlationOf_44 : decode cX4_correlationOf 44 = .ok (.lmul, 1) := dk_105 (dk_at dksX4_correlationOf_1 21 rfl rfl)
theorem dX4_correlationOf_45 : decode cX4_correlationOf 45 = .ok (.goto 4, 3) := dk_167 0 4 (dk_at dksX4_correlationOf_2 0 rfl rfl)
theorem dX4_correlationOf_48 : decode cX4_correlationOf 48 = .ok (.lconst 0, 1) := dk_9 (dk_at dksX4_correlationOf_2 3 rfl rfl)
theorem dX4_correlationOf_49 : decode cX4_correlationOf 49 = .ok (.ladd, 1) := dk_97 (dk_at dksX4_correlationOf_2 4 rfl rfl)
theorem dX4_correlationOf_50 : decode cX4_correlationOf 50 = .ok (.lstore 4, 2) := dk_55 4 (dk_at dksX4_correlationOf_2 5 rfl rfl)
theorem dX4_correlationOf_52 : decode cX4_correlationOf 52 = .ok (.iinc 6 1, 3) := dk_132 6 1 (dk_at dksX4_correlationOf_2 7 rfl rfl)
theorem dX4_correlationOf_55 : decode cX4_correlationOf 55 = .ok (.goto (-49), 3) := dk_167 255 207 (dk_at dksX4_correlationOf_2 10 rfl rfl)
theorem dX4_correlationOf_58 : decode cX4_correlationOf 58 = .ok (.lload 4, 2) := dk_22 4 (dk_at dksX4_correlationOf_2 13 rfl rfl)
theorem dX4_correlationOf_60 : decode cX4_correlationOf 60 = .ok (.lreturn, 1) := dk_173 (dk_at dksX4_correlationOf_2 15 rfl rfl)
abbrev cX4_bestLag : ByteArray := prog_25_method_67_code
def yX4_bestLag : MethodName := ⟨RX4, "bestLag", "(III)I"⟩
def dkwX4_bestLag_5 : List UInt8 := [21, 4, 172]
abbrev dktX4_bestLag_5 : List UInt8 := dkwX4_bestLag_5 ++ []
def dkwX4_bestLag_4 : List UInt8 := [54, 4, 22, 9, 55, 5, 21, 8, 5, 21, 7, 104, 96, 54, 8, 167, 255, 214, 132, 7, 1, 167, 255, 197]
abbrev dktX4_bestLag_4 : List UInt8 := dkwX4_bestLag_4 ++ dktX4_bestLag_5
def dkwX4_bestLag_3 : List UInt8 := [163, 0, 41, 42, 27, 28, 21, 8, 182, 0, 213, 55, 9, 22, 9, 22, 5, 148, 158, 0, 11, 21, 8]
abbrev dktX4_bestLag_3 : List UInt8 := dkwX4_bestLag_3 ++ dktX4_bestLag_4
def dkwX4_bestLag_2 : List UInt8 := [182, 0, 213, 55, 5, 4, 54, 7, 21, 7, 29, 163, 0, 59, 21, 7, 116, 54, 8, 21, 8, 21, 7]
abbrev dktX4_bestLag_2 : List UInt8 := dkwX4_bestLag_2 ++ dktX4_bestLag_3
def dkwX4_bestLag_1 : List UInt8 := [182, 0, 64, 172, 29, 184, 0, 56, 154, 0, 9, 42, 5, 182, 0, 64, 172, 3, 54, 4, 42, 27, 28, 3]
abbrev dktX4_bestLag_1 : List UInt8 := dkwX4_bestLag_1 ++ dktX4_bestLag_2
def dkwX4_bestLag_0 : List UInt8 := [42, 3, 181, 0, 49, 42, 27, 182, 0, 106, 153, 0, 11, 42, 28, 182, 0, 106, 154, 0, 9, 42, 4]
abbrev dktX4_bestLag_0 : List UInt8 := dkwX4_bestLag_0 ++ dktX4_bestLag_1
theorem dksX4_bestLag_0 : cX4_bestLag.data.toList.drop 0 = dktX4_bestLag_0 := by decide +kernel
theorem dksX4_bestLag_1 : cX4_bestLag.data.toList.drop 23 = dktX4_bestLag_1 := dk_seg dksX4_bestLag_0 23 rfl rfl
theorem dksX4_bestLag_2 : cX4_bestLag.data.toList.drop 47 = dktX4_bestLag_2 := dk_seg dksX4_bestLag_1 24 rfl rfl
theorem dksX4_bestLag_3 : cX4_bestLag.data.toList.drop 70 = dktX4_bestLag_3 := dk_seg dksX4_bestLag_2 23 rfl rfl
theorem dksX4_bestLag_4 : cX4_bestLag.data.toList.drop 93 = dktX4_bestLag_4 := dk_seg dksX4_bestLag_3 23 rfl rfl
theorem dksX4_bestLag_5 : cX4_bestLag.data.toList.drop 117 = dktX4_bestLag_5 := dk_seg dksX4_bestLag_4 24 rfl rfl
theorem dX4_bestLag_0 : decode cX4_bestLag 0 = .ok (.aload_n 0, 1) := dk_42 (dk_at dksX4_bestLag_0 0 rfl rfl)
theorem dX4_bestLag_1 : decode cX4_bestLag 1 = .ok (.iconst 0, 1) := dk_3 (dk_at dksX4_bestLag_0 1 rfl rfl)
theorem dX4_bestLag_2 : decode cX4_bestLag 2 = .ok (.putfield 49, 3) := dk_181 0 49 (dk_at dksX4_bestLag_0 2 rfl rfl)
theorem dX4_bestLag_5 : decode cX4_bestLag 5 = .ok (.aload_n 0, 1) := dk_42 (dk_at dksX4_bestLag_0 5 rfl rfl)
theorem dX4_bestLag_6 : decode cX4_bestLag 6 = .ok (.iload_n 1, 1) := dk_27 (dk_at dksX4_bestLag_0 6 rfl rfl)
theorem dX4_bestLag_7 : decode cX4_bestLag 7 = .ok (.invokevirtual 106, 3) := dk_182 0 106 (dk_at dksX4_bestLag_0 7 rfl rfl)
theorem dX4_bestLag_10 : decode cX4_bestLag 10 = .ok (.ifCond .eq 11, 3) := dk_153 0 11 (dk_at dksX4_bestLag_0 10 rfl rfl)
theorem dX4_bestLag_13 : decode cX4_bestLag 13 = .ok (.aload_n 0, 1) := dk_42 (dk_at dksX4_bestLag_0 13 rfl rfl)
theorem dX4_bestLag_14 : decode cX4_bestLag 14 = .ok (.iload_n 2, 1) := dk_28 (dk_at dksX4_bestLag_0 14 rfl rfl)
theorem dX4_bestLag_15 : decode cX4_bestLag 15 = .ok (.invokevirtual 106, 3) := dk_182 0 106 (dk_at dksX4_bestLag_0 15 rfl rfl)
theorem dX4_bestLag_18 : decode cX4_bestLag 18 = .ok (.ifCond .ne 9, 3) := dk_154 0 9 (dk_at dksX4_bestLag_0 18 rfl rfl)
theorem dX4_bestLag_21 : decode cX4_bestLag 21 = .ok (.aload_n 0, 1) := dk_42 (dk_at dksX4_bestLag_0 21 rfl rfl)
theorem dX4_bestLag_22 : decode cX4_bestLag 22 = .ok (.iconst 1, 1) := dk_4 (dk_at dksX4_bestLag_0 22 rfl rfl)
theorem dX4_bestLag_23 : decode cX4_bestLag 23 = .ok (.invokevirtual 64, 3) := dk_182 0 64 (dk_at dksX4_bestLag_1 0 rfl rfl)
theorem dX4_bestLag_26 : decode cX4_bestLag 26 = .ok (.ireturn, 1) := dk_172 (dk_at dksX4_bestLag_1 3 rfl rfl)
theorem dX4_bestLag_27 : decode cX4_bestLag 27 = .ok (.iload_n 3, 1) := dk_29 (dk_at dksX4_bestLag_1 4 rfl rfl)
theorem dX4_bestLag_28 : decode cX4_bestLag 28 = .ok (.invokestatic 56, 3) := dk_184 0 56 (dk_at dksX4_bestLag_1 5 rfl rfl)
theorem dX4_bestLag_31 : decode cX4_bestLag 31 = .ok (.ifCond .ne 9, 3) := dk_154 0 9 (dk_at dksX4_bestLag_1 8 rfl rfl)
theorem dX4_bestLag_34 : decode cX4_bestLag 34 = .ok (.aload_n 0, 1) := dk_42 (dk_at dksX4_bestLag_1 11 rfl rfl)
theorem dX4_bestLag_35 : decode cX4_bestLag 35 = .ok (.iconst 2, 1) := dk_5 (dk_at dksX4_bestLag_1 12 rfl rfl)
theorem dX4_bestLag_36 : decode cX4_bestLag 36 = .ok (.invokevirtual 64, 3) := dk_182 0 64 (dk_at dksX4_bestLag_1 13 rfl rfl)
theorem dX4_bestLag_39 : decode cX4_bestLag 39 = .ok (.ireturn, 1) := dk_172 (dk_at dksX4_bestLag_1 16 rfl rfl)
theorem dX4_bestLag_40 : decode cX4_bestLag 40 = .ok (.iconst 0, 1) := dk_3 (dk_at dksX4_bestLag_1 17 rfl rfl)
theorem dX4_bestLag_41 : decode cX4_bestLag 41 = .ok (.istore 4, 2) := dk_54 4 (dk_at dksX4_bestLag_1 18 rfl rfl)
theorem dX4_bestLag_43 : decode cX4_bestLag 43 = .ok (.aload_n 0, 1) := dk_42 (dk_at dksX4_bestLag_1 20 rfl rfl)
theorem dX4_bestLag_44 : decode cX4_bestLag 44 = .ok (.iload_n 1, 1) := dk_27 (dk_at dksX4_bestLag_1 21 rfl rfl)
theorem dX4_bestLag_45 : decode cX4_bestLag 45 = .ok (.iload_n 2, 1) := dk_28 (dk_at dksX4_bestLag_1 22 rfl rfl)
theorem dX4_bestLag_46 : decode cX4_bestLag 46 = .ok (.iconst 0, 1) := dk_3 (dk_at dksX4_bestLag_1 23 rfl rfl)
theorem dX4_bestLag_47 : decode cX4_bestLag 47 = .ok (.invokevirtual 213, 3) := dk_182 0 213 (dk_at dksX4_bestLag_2 0 rfl rfl)
theorem dX4_bestLag_50 : decode cX4_bestLag 50 = .ok (.lstore 5, 2) := dk_55 5 (dk_at dksX4_bestLag_2 3 rfl rfl)
theorem dX4_bestLag_52 : decode cX4_bestLag 52 = .ok (.iconst 1, 1) := dk_4 (dk_at dksX4_bestLag_2 5 rfl rfl)
theorem dX4_bestLag_53 : decode cX4_bestLag 53 = .ok (.istore 7, 2) := dk_54 7 (dk_at dksX4_bestLag_2 6 rfl rfl)
theorem dX4_bestLag_55 : decode cX4_bestLag 55 = .ok (.iload 7, 2) := dk_21 7 (dk_at dksX4_bestLag_2 8 rfl rfl)
theorem dX4_bestLag_57 : decode cX4_bestLag 57 = .ok (.iload_n 3, 1) := dk_29 (dk_at dksX4_bestLag_2 10 rfl rfl)
theorem dX4_bestLag_58 : decode cX4_bestLag 58 = .ok (.if_icmp .gt 59, 3) := dk_163 0 59 (dk_at dksX4_bestLag_2 11 rfl rfl)
theorem dX4_bestLag_61 : decode cX4_bestLag 61 = .ok (.iload 7, 2) := dk_21 7 (dk_at dksX4_bestLag_2 14 rfl rfl)
theorem dX4_bestLag_63 : decode cX4_bestLag 63 = .ok (.ineg, 1) := dk_116 (dk_at dksX4_bestLag_2 16 rfl rfl)
theorem dX4_bestLag_64 : decode cX4_bestLag 64 = .ok (.istore 8, 2) := dk_54 8 (dk_at dksX4_bestLag_2 17 rfl rfl)
theorem dX4_bestLag_66 : decode cX4_bestLag 66 = .ok (.iload 8, 2) := dk_21 8 (dk_at dksX4_bestLag_2 19 rfl rfl)
theorem dX4_bestLag_68 : decode cX4_bestLag 68 = .ok (.iload 7, 2) := dk_21 7 (dk_at dksX4_bestLag_2 21 rfl rfl)
theorem dX4_bestLag_70 : decode cX4_bestLag 70 = .ok (.if_icmp .gt 41, 3) := dk_163 0 41 (dk_at dksX4_bestLag_3 0 rfl rfl)
theorem dX4_bestLag_73 : decode cX4_bestLag 73 = .ok (.aload_n 0, 1) := dk_42 (dk_at dksX4_bestLag_3 3 rfl rfl)
theorem dX4_bestLag_74 : decode cX4_bestLag 74 = .ok (.iload_n 1, 1) := dk_27 (dk_at dksX4_bestLag_3 4 rfl rfl)
theorem dX4_bestLag_75 : decode cX4_bestLag 75 = .ok (.iload_n 2, 1) := dk_28 (dk_at dksX4_bestLag_3 5 rfl rfl)
theorem dX4_bestLag_76 : decode cX4_bestLag 76 = .ok (.iload 8, 2) := dk_21 8 (dk_at dksX4_bestLag_3 6 rfl rfl)
theorem dX4_bestLag_78 : decode cX4_bestLag 78 = .ok (.invokevirtual 213, 3) := dk_182 0 213 (dk_at dksX4_bestLag_3 8 rfl rfl)
theorem dX4_bestLag_81 : decode cX4_bestLag 81 = .ok (.lstore 9, 2) := dk_55 9 (dk_at dksX4_bestLag_3 11 rfl rfl)
theorem dX4_bestLag_83 : decode cX4_bestLag 83 = .ok (.lload 9, 2) := dk_22 9 (dk_at dksX4_bestLag_3 13 rfl rfl)
theorem dX4_bestLag_85 : decode cX4_bestLag 85 = .ok (.lload 5, 2) := dk_22 5 (dk_at dksX4_bestLag_3 15 rfl rfl)
theorem dX4_bestLag_87 : decode cX4_bestLag 87 = .ok (.lcmp, 1) := dk_148 (dk_at dksX4_bestLag_3 17 rfl rfl)
theorem dX4_bestLag_88 : decode cX4_bestLag 88 = .ok (.ifCond .le 11, 3) := dk_158 0 11 (dk_at dksX4_bestLag_3 18 rfl rfl)
theorem dX4_bestLag_91 : decode cX4_bestLag 91 = .ok (.iload 8, 2) := dk_21 8 (dk_at dksX4_bestLag_3 21 rfl rfl)
theorem dX4_bestLag_93 : decode cX4_bestLag 93 = .ok (.istore 4, 2) := dk_54 4 (dk_at dksX4_bestLag_4 0 rfl rfl)
theorem dX4_bestLag_95 : decode cX4_bestLag 95 = .ok (.lload 9, 2) := dk_22 9 (dk_at dksX4_bestLag_4 2 rfl rfl)
theorem dX4_bestLag_97 : decode cX4_bestLag 97 = .ok (.lstore 5, 2) := dk_55 5 (dk_at dksX4_bestLag_4 4 rfl rfl)
theorem dX4_bestLag_99 : decode cX4_bestLag 99 = .ok (.iload 8, 2) := dk_21 8 (dk_at dksX4_bestLag_4 6 rfl rfl)
theorem dX4_bestLag_101 : decode cX4_bestLag 101 = .ok (.iconst 2, 1) := dk_5 (dk_at dksX4_bestLag_4 8 rfl rfl)
theorem dX4_bestLag_102 : decode cX4_bestLag 102 = .ok (.iload 7, 2) := dk_21 7 (dk_at dksX4_bestLag_4 9 rfl rfl)
theorem dX4_bestLag_104 : decode cX4_bestLag 104 = .ok (.imul, 1) := dk_104 (dk_at dksX4_bestLag_4 11 rfl rfl)
theorem dX4_bestLag_105 : decode cX4_bestLag 105 = .ok (.iadd, 1) := dk_96 (dk_at dksX4_bestLag_4 12 rfl rfl)
theorem dX4_bestLag_106 : decode cX4_bestLag 106 = .ok (.istore 8, 2) := dk_54 8 (dk_at dksX4_bestLag_4 13 rfl rfl)
theorem dX4_bestLag_108 : decode cX4_bestLag 108 = .ok (.goto (-42), 3) := dk_167 255 214 (dk_at dksX4_bestLag_4 15 rfl rfl)
theorem dX4_bestLag_111 : decode cX4_bestLag 111 = .ok (.iinc 7 1, 3) := dk_132 7 1 (dk_at dksX4_bestLag_4 18 rfl rfl)
theorem dX4_bestLag_114 : decode cX4_bestLag 114 = .ok (.goto (-59), 3) := dk_167 255 197 (dk_at dksX4_bestLag_4 21 rfl rfl)
theorem dX4_bestLag_117 : decode cX4_bestLag 117 = .ok (.iload 4, 2) := dk_21 4 (dk_at dksX4_bestLag_5 0 rfl rfl)
theorem dX4_bestLag_119 : decode cX4_bestLag 119 = .ok (.ireturn, 1) := dk_172 (dk_at dksX4_bestLag_5 2 rfl rfl)
abbrev cX4_focusOnVehicle : ByteArray := prog_25_method_69_code
def yX4_focusOnVehicle : MethodName := ⟨RX4, "focusOnVehicle", "(III)V"⟩
def dkwX4_focusOnVehicle_2 : List UInt8 := [182, 0, 216, 177]
abbrev dktX4_focusOnVehicle_2 : List UInt8 := dkwX4_focusOnVehicle_2 ++ []
def dkwX4_focusOnVehicle_1 : List UInt8 := [154, 0, 7, 5, 167, 0, 4, 3, 181, 0, 49, 42, 180, 0, 49, 154, 0, 12, 42, 3, 27, 28, 3, 29]
abbrev dktX4_focusOnVehicle_1 : List UInt8 := dkwX4_focusOnVehicle_1 ++ dktX4_focusOnVehicle_2
def dkwX4_focusOnVehicle_0 : List UInt8 := [42, 42, 27, 182, 0, 75, 154, 0, 7, 4, 167, 0, 22, 28, 184, 0, 78, 153, 0, 10, 29, 184, 0, 81]
abbrev dktX4_focusOnVehicle_0 : List UInt8 := dkwX4_focusOnVehicle_0 ++ dktX4_focusOnVehicle_1
theorem dksX4_focusOnVehicle_0 : cX4_focusOnVehicle.data.toList.drop 0 = dktX4_focusOnVehicle_0 := by decide +kernel
theorem dksX4_focusOnVehicle_1 : cX4_focusOnVehicle.data.toList.drop 24 = dktX4_focusOnVehicle_1 := dk_seg dksX4_focusOnVehicle_0 24 rfl rfl
theorem dksX4_focusOnVehicle_2 : cX4_focusOnVehicle.data.toList.drop 48 = dktX4_focusOnVehicle_2 := dk_seg dksX4_focusOnVehicle_1 24 rfl rfl
theorem dX4_focusOnVehicle_0 : decode cX4_focusOnVehicle 0 = .ok (.aload_n 0, 1) := dk_42 (dk_at dksX4_focusOnVehicle_0 0 rfl rfl)
theorem dX4_focusOnVehicle_1 : decode cX4_focusOnVehicle 1 = .ok (.aload_n 0, 1) := dk_42 (dk_at dksX4_focusOnVehicle_0 1 rfl rfl)
theorem dX4_focusOnVehicle_2 : decode cX4_focusOnVehicle 2 = .ok (.iload_n 1, 1) := dk_27 (dk_at dksX4_focusOnVehicle_0 2 rfl rfl)
theorem dX4_focusOnVehicle_3 : decode cX4_focusOnVehicle 3 = .ok (.invokevirtual 75, 3) := dk_182 0 75 (dk_at dksX4_focusOnVehicle_0 3 rfl rfl)
theorem dX4_focusOnVehicle_6 : decode cX4_focusOnVehicle 6 = .ok (.ifCond .ne 7, 3) := dk_154 0 7 (dk_at dksX4_focusOnVehicle_0 6 rfl rfl)
theorem dX4_focusOnVehicle_9 : decode cX4_focusOnVehicle 9 = .ok (.iconst 1, 1) := dk_4 (dk_at dksX4_focusOnVehicle_0 9 rfl rfl)
theorem dX4_focusOnVehicle_10 : decode cX4_focusOnVehicle 10 = .ok (.goto 22, 3) := dk_167 0 22 (dk_at dksX4_focusOnVehicle_0 10 rfl rfl)
theorem dX4_focusOnVehicle_13 : decode cX4_focusOnVehicle 13 = .ok (.iload_n 2, 1) := dk_28 (dk_at dksX4_focusOnVehicle_0 13 rfl rfl)
theorem dX4_focusOnVehicle_14 : decode cX4_focusOnVehicle 14 = .ok (.invokestatic 78, 3) := dk_184 0 78 (dk_at dksX4_focusOnVehicle_0 14 rfl rfl)
theorem dX4_focusOnVehicle_17 : decode cX4_focusOnVehicle 17 = .ok (.ifCond .eq 10, 3) := dk_153 0 10 (dk_at dksX4_focusOnVehicle_0 17 rfl rfl)
theorem dX4_focusOnVehicle_20 : decode cX4_focusOnVehicle 20 = .ok (.iload_n 3, 1) := dk_29 (dk_at dksX4_focusOnVehicle_0 20 rfl rfl)
theorem dX4_focusOnVehicle_21 : decode cX4_focusOnVehicle 21 = .ok (.invokestatic 81, 3) := dk_184 0 81 (dk_at dksX4_focusOnVehicle_0 21 rfl rfl)
theorem dX4_focusOnVehicle_24 : decode cX4_focusOnVehicle 24 = .ok (.ifCond .ne 7, 3) := dk_154 0 7 (dk_at dksX4_focusOnVehicle_1 0 rfl rfl)
theorem dX4_focusOnVehicle_27 : decode cX4_focusOnVehicle 27 = .ok (.iconst 2, 1) := dk_5 (dk_at dksX4_focusOnVehicle_1 3 rfl rfl)
theorem dX4_focusOnVehicle_28 : decode cX4_focusOnVehicle 28 = .ok (.goto 4, 3) := dk_167 0 4 (dk_at dksX4_focusOnVehicle_1 4 rfl rfl)
theorem dX4_focusOnVehicle_31 : decode cX4_focusOnVehicle 31 = .ok (.iconst 0, 1) := dk_3 (dk_at dksX4_focusOnVehicle_1 7 rfl rfl)
theorem dX4_focusOnVehicle_32 : decode cX4_focusOnVehicle 32 = .ok (.putfield 49, 3) := dk_181 0 49 (dk_at dksX4_focusOnVehicle_1 8 rfl rfl)
theorem dX4_focusOnVehicle_35 : decode cX4_focusOnVehicle 35 = .ok (.aload_n 0, 1) := dk_42 (dk_at dksX4_focusOnVehicle_1 11 rfl rfl)
theorem dX4_focusOnVehicle_36 : decode cX4_focusOnVehicle 36 = .ok (.getfield 49, 3) := dk_180 0 49 (dk_at dksX4_focusOnVehicle_1 12 rfl rfl)
theorem dX4_focusOnVehicle_39 : decode cX4_focusOnVehicle 39 = .ok (.ifCond .ne 12, 3) := dk_154 0 12 (dk_at dksX4_focusOnVehicle_1 15 rfl rfl)
theorem dX4_focusOnVehicle_42 : decode cX4_focusOnVehicle 42 = .ok (.aload_n 0, 1) := dk_42 (dk_at dksX4_focusOnVehicle_1 18 rfl rfl)
theorem dX4_focusOnVehicle_43 : decode cX4_focusOnVehicle 43 = .ok (.iconst 0, 1) := dk_3 (dk_at dksX4_focusOnVehicle_1 19 rfl rfl)
theorem dX4_focusOnVehicle_44 : decode cX4_focusOnVehicle 44 = .ok (.iload_n 1, 1) := dk_27 (dk_at dksX4_focusOnVehicle_1 20 rfl rfl)
theorem dX4_focusOnVehicle_45 : decode cX4_focusOnVehicle 45 = .ok (.iload_n 2, 1) := dk_28 (dk_at dksX4_focusOnVehicle_1 21 rfl rfl)
theorem dX4_focusOnVehicle_46 : decode cX4_focusOnVehicle 46 = .ok (.iconst 0, 1) := dk_3 (dk_at dksX4_focusOnVehicle_1 22 rfl rfl)
theorem dX4_focusOnVehicle_47 : decode cX4_focusOnVehicle 47 = .ok (.iload_n 3, 1) := dk_29 (dk_at dksX4_focusOnVehicle_1 23 rfl rfl)
theorem dX4_focusOnVehicle_48 : decode cX4_focusOnVehicle 48 = .ok (.invokevirtual 216, 3) := dk_182 0 216 (dk_at dksX4_focusOnVehicle_2 0 rfl rfl)
theorem dX4_focusOnVehicle_51 : decode cX4_focusOnVehicle 51 = .ok (.return_, 1) := dk_177 (dk_at dksX4_focusOnVehicle_2 3 rfl rfl)
abbrev cX4_setFocus : ByteArray := prog_25_method_68_code
def yX4_setFocus : MethodName := ⟨RX4, "setFocus", "(IIIII)V"⟩
def dkwX4_setFocus_1 : List UInt8 := [42, 180, 0, 7, 16, 13, 21, 4, 79, 42, 180, 0, 7, 16, 14, 21, 5, 79, 177]
abbrev dktX4_setFocus_1 : List UInt8 := dkwX4_setFocus_1 ++ []
def dkwX4_setFocus_0 : List UInt8 := [42, 180, 0, 7, 16, 10, 27, 79, 42, 180, 0, 7, 16, 11, 28, 79, 42, 180, 0, 7, 16, 12, 29, 79]
abbrev dktX4_setFocus_0 : List UInt8 := dkwX4_setFocus_0 ++ dktX4_setFocus_1
theorem dksX4_setFocus_0 : cX4_setFocus.data.toList.drop 0 = dktX4_setFocus_0 := by decide +kernel
theorem dksX4_setFocus_1 : cX4_setFocus.data.toList.drop 24 = dktX4_setFocus_1 := dk_seg dksX4_setFocus_0 24 rfl rfl
theorem dX4_setFocus_0 : decode cX4_setFocus 0 = .ok (.aload_n 0, 1) := dk_42 (dk_at dksX4_setFocus_0 0 rfl rfl)
theorem dX4_setFocus_1 : decode cX4_setFocus 1 = .ok (.getfield 7, 3) := dk_180 0 7 (dk_at dksX4_setFocus_0 1 rfl rfl)
theorem dX4_setFocus_4 : decode cX4_setFocus 4 = .ok (.bipush 10, 2) := dk_16 10 (dk_at dksX4_setFocus_0 4 rfl rfl)
theorem dX4_setFocus_6 : decode cX4_setFocus 6 = .ok (.iload_n 1, 1) := dk_27 (dk_at dksX4_setFocus_0 6 rfl rfl)
theorem dX4_setFocus_7 : decode cX4_setFocus 7 = .ok (.iastore, 1) := dk_79 (dk_at dksX4_setFocus_0 7 rfl rfl)
theorem dX4_setFocus_8 : decode cX4_setFocus 8 = .ok (.aload_n 0, 1) := dk_42 (dk_at dksX4_setFocus_0 8 rfl rfl)
theorem dX4_setFocus_9 : decode cX4_setFocus 9 = .ok (.getfield 7, 3) := dk_180 0 7 (dk_at dksX4_setFocus_0 9 rfl rfl)
theorem dX4_setFocus_12 : decode cX4_setFocus 12 = .ok (.bipush 11, 2) := dk_16 11 (dk_at dksX4_setFocus_0 12 rfl rfl)
theorem dX4_setFocus_14 : decode cX4_setFocus 14 = .ok (.iload_n 2, 1) := dk_28 (dk_at dksX4_setFocus_0 14 rfl rfl)
theorem dX4_setFocus_15 : decode cX4_setFocus 15 = .ok (.iastore, 1) := dk_79 (dk_at dksX4_setFocus_0 15 rfl rfl)
theorem dX4_setFocus_16 : decode cX4_setFocus 16 = .ok (.aload_n 0, 1) := dk_42 (dk_at dksX4_setFocus_0 16 rfl rfl)
theorem dX4_setFocus_17 : decode cX4_setFocus 17 = .ok (.getfield 7, 3) := dk_180 0 7 (dk_at dksX4_setFocus_0 17 rfl rfl)
theorem dX4_setFocus_20 : decode cX4_setFocus 20 = .ok (.bipush 12, 2) := dk_16 12 (dk_at dksX4_setFocus_0 20 rfl rfl)
theorem dX4_setFocus_22 : decode cX4_setFocus 22 = .ok (.iload_n 3, 1) := dk_29 (dk_at dksX4_setFocus_0 22 rfl rfl)
theorem dX4_setFocus_23 : decode cX4_setFocus 23 = .ok (.iastore, 1) := dk_79 (dk_at dksX4_setFocus_0 23 rfl rfl)
theorem dX4_setFocus_24 : decode cX4_setFocus 24 = .ok (.aload_n 0, 1) := dk_42 (dk_at dksX4_setFocus_1 0 rfl rfl)
theorem dX4_setFocus_25 : decode cX4_setFocus 25 = .ok (.getfield 7, 3) := dk_180 0 7 (dk_at dksX4_setFocus_1 1 rfl rfl)
theorem dX4_setFocus_28 : decode cX4_setFocus 28 = .ok (.bipush 13, 2) := dk_16 13 (dk_at dksX4_setFocus_1 4 rfl rfl)
theorem dX4_setFocus_30 : decode cX4_setFocus 30 = .ok (.iload 4, 2) := dk_21 4 (dk_at dksX4_setFocus_1 6 rfl rfl)
theorem dX4_setFocus_32 : decode cX4_setFocus 32 = .ok (.iastore, 1) := dk_79 (dk_at dksX4_setFocus_1 8 rfl rfl)
theorem dX4_setFocus_33 : decode cX4_setFocus 33 = .ok (.aload_n 0, 1) := dk_42 (dk_at dksX4_setFocus_1 9 rfl rfl)
theorem dX4_setFocus_34 : decode cX4_setFocus 34 = .ok (.getfield 7, 3) := dk_180 0 7 (dk_at dksX4_setFocus_1 10 rfl rfl)
theorem dX4_setFocus_37 : decode cX4_setFocus 37 = .ok (.bipush 14, 2) := dk_16 14 (dk_at dksX4_setFocus_1 13 rfl rfl)
theorem dX4_setFocus_39 : decode cX4_setFocus 39 = .ok (.iload 5, 2) := dk_21 5 (dk_at dksX4_setFocus_1 15 rfl rfl)
theorem dX4_setFocus_41 : decode cX4_setFocus 41 = .ok (.iastore, 1) := dk_79 (dk_at dksX4_setFocus_1 17 rfl rfl)
theorem dX4_setFocus_42 : decode cX4_setFocus 42 = .ok (.return_, 1) := dk_177 (dk_at dksX4_setFocus_1 18 rfl rfl)
abbrev cX4_focusOnPlace : ByteArray := prog_25_method_70_code
def yX4_focusOnPlace : MethodName := ⟨RX4, "focusOnPlace", "(III)V"⟩
def dkwX4_focusOnPlace_1 : List UInt8 := [181, 0, 49, 42, 180, 0, 49, 154, 0, 12, 42, 4, 3, 27, 28, 29, 182, 0, 216, 177]
abbrev dktX4_focusOnPlace_1 : List UInt8 := dkwX4_focusOnPlace_1 ++ []
def dkwX4_focusOnPlace_0 : List UInt8 := [42, 27, 3, 28, 184, 0, 68, 153, 0, 14, 29, 184, 0, 81, 153, 0, 7, 3, 167, 0, 4, 4]
abbrev dktX4_focusOnPlace_0 : List UInt8 := dkwX4_focusOnPlace_0 ++ dktX4_focusOnPlace_1
theorem dksX4_focusOnPlace_0 : cX4_focusOnPlace.data.toList.drop 0 = dktX4_focusOnPlace_0 := by decide +kernel
theorem dksX4_focusOnPlace_1 : cX4_focusOnPlace.data.toList.drop 22 = dktX4_focusOnPlace_1 := dk_seg dksX4_focusOnPlace_0 22 rfl rfl
theorem dX4_focusOnPlace_0 : decode cX4_focusOnPlace 0 = .ok (.aload_n 0, 1) := dk_42 (dk_at dksX4_focusOnPlace_0 0 rfl rfl)
theorem dX4_focusOnPlace_1 : decode cX4_focusOnPlace 1 = .ok (.iload_n 1, 1) := dk_27 (dk_at dksX4_focusOnPlace_0 1 rfl rfl)
theorem dX4_focusOnPlace_2 : decode cX4_focusOnPlace 2 = .ok (.iconst 0, 1) := dk_3 (dk_at dksX4_focusOnPlace_0 2 rfl rfl)
theorem dX4_focusOnPlace_3 : decode cX4_focusOnPlace 3 = .ok (.iload_n 2, 1) := dk_28 (dk_at dksX4_focusOnPlace_0 3 rfl rfl)
theorem dX4_focusOnPlace_4 : decode cX4_focusOnPlace 4 = .ok (.invokestatic 68, 3) := dk_184 0 68 (dk_at dksX4_focusOnPlace_0 4 rfl rfl)
theorem dX4_focusOnPlace_7 : decode cX4_focusOnPlace 7 = .ok (.ifCond .eq 14, 3) := dk_153 0 14 (dk_at dksX4_focusOnPlace_0 7 rfl rfl)
theorem dX4_focusOnPlace_10 : decode cX4_focusOnPlace 10 = .ok (.iload_n 3, 1) := dk_29 (dk_at dksX4_focusOnPlace_0 10 rfl rfl)
theorem dX4_focusOnPlace_11 : decode cX4_focusOnPlace 11 = .ok (.invokestatic 81, 3) := dk_184 0 81 (dk_at dksX4_focusOnPlace_0 11 rfl rfl)
theorem dX4_focusOnPlace_14 : decode cX4_focusOnPlace 14 = .ok (.ifCond .eq 7, 3) := dk_153 0 7 (dk_at dksX4_focusOnPlace_0 14 rfl rfl)
theorem dX4_focusOnPlace_17 : decode cX4_focusOnPlace 17 = .ok (.iconst 0, 1) := dk_3 (dk_at dksX4_focusOnPlace_0 17 rfl rfl)
theorem dX4_focusOnPlace_18 : decode cX4_focusOnPlace 18 = .ok (.goto 4, 3) := dk_167 0 4 (dk_at dksX4_focusOnPlace_0 18 rfl rfl)
theorem dX4_focusOnPlace_21 : decode cX4_focusOnPlace 21 = .ok (.iconst 1, 1) := dk_4 (dk_at dksX4_focusOnPlace_0 21 rfl rfl)
theorem dX4_focusOnPlace_22 : decode cX4_focusOnPlace 22 = .ok (.putfield 49, 3) := dk_181 0 49 (dk_at dksX4_focusOnPlace_1 0 rfl rfl)
theorem dX4_focusOnPlace_25 : decode cX4_focusOnPlace 25 = .ok (.aload_n 0, 1) := dk_42 (dk_at dksX4_focusOnPlace_1 3 rfl rfl)
theorem dX4_focusOnPlace_26 : decode cX4_focusOnPlace 26 = .ok (.getfield 49, 3) := dk_180 0 49 (dk_at dksX4_focusOnPlace_1 4 rfl rfl)
theorem dX4_focusOnPlace_29 : decode cX4_focusOnPlace 29 = .ok (.ifCond .ne 12, 3) := dk_154 0 12 (dk_at dksX4_focusOnPlace_1 7 rfl rfl)
theorem dX4_focusOnPlace_32 : decode cX4_focusOnPlace 32 = .ok (.aload_n 0, 1) := dk_42 (dk_at dksX4_focusOnPlace_1 10 rfl rfl)
theorem dX4_focusOnPlace_33 : decode cX4_focusOnPlace 33 = .ok (.iconst 1, 1) := dk_4 (dk_at dksX4_focusOnPlace_1 11 rfl rfl)
theorem dX4_focusOnPlace_34 : decode cX4_focusOnPlace 34 = .ok (.iconst 0, 1) := dk_3 (dk_at dksX4_focusOnPlace_1 12 rfl rfl)
theorem dX4_focusOnPlace_35 : decode cX4_focusOnPlace 35 = .ok (.iload_n 1, 1) := dk_27 (dk_at dksX4_focusOnPlace_1 13 rfl rfl)
theorem dX4_focusOnPlace_36 : decode cX4_focusOnPlace 36 = .ok (.iload_n 2, 1) := dk_28 (dk_at dksX4_focusOnPlace_1 14 rfl rfl)
theorem dX4_focusOnPlace_37 : decode cX4_focusOnPlace 37 = .ok (.iload_n 3, 1) := dk_29 (dk_at dksX4_focusOnPlace_1 15 rfl rfl)
theorem dX4_focusOnPlace_38 : decode cX4_focusOnPlace 38 = .ok (.invokevirtual 216, 3) := dk_182 0 216 (dk_at dksX4_focusOnPlace_1 16 rfl rfl)
theorem dX4_focusOnPlace_41 : decode cX4_focusOnPlace 41 = .ok (.return_, 1) := dk_177 (dk_at dksX4_focusOnPlace_1 19 rfl rfl)
abbrev cX4_focusOnDirection : ByteArray := prog_25_method_71_code
def yX4_focusOnDirection : MethodName := ⟨RX4, "focusOnDirection", "(I)V"⟩
def dkwX4_focusOnDirection_1 : List UInt8 := [154, 0, 12, 42, 5, 3, 27, 3, 3, 182, 0, 216, 177]
abbrev dktX4_focusOnDirection_1 : List UInt8 := dkwX4_focusOnDirection_1 ++ []
def dkwX4_focusOnDirection_0 : List UInt8 := [42, 27, 16, 156, 16, 100, 184, 0, 52, 153, 0, 7, 3, 167, 0, 4, 4, 181, 0, 49, 42, 180, 0, 49]
abbrev dktX4_focusOnDirection_0 : List UInt8 := dkwX4_focusOnDirection_0 ++ dktX4_focusOnDirection_1
theorem dksX4_focusOnDirection_0 : cX4_focusOnDirection.data.toList.drop 0 = dktX4_focusOnDirection_0 := by decide +kernel
theorem dksX4_focusOnDirection_1 : cX4_focusOnDirection.data.toList.drop 24 = dktX4_focusOnDirection_1 := dk_seg dksX4_focusOnDirection_0 24 rfl rfl
theorem dX4_focusOnDirection_0 : decode cX4_focusOnDirection 0 = .ok (.aload_n 0, 1) := dk_42 (dk_at dksX4_focusOnDirection_0 0 rfl rfl)
theorem dX4_focusOnDirection_1 : decode cX4_focusOnDirection 1 = .ok (.iload_n 1, 1) := dk_27 (dk_at dksX4_focusOnDirection_0 1 rfl rfl)
theorem dX4_focusOnDirection_2 : decode cX4_focusOnDirection 2 = .ok (.bipush (-100), 2) := dk_16 156 (dk_at dksX4_focusOnDirection_0 2 rfl rfl)
theorem dX4_focusOnDirection_4 : decode cX4_focusOnDirection 4 = .ok (.bipush 100, 2) := dk_16 100 (dk_at dksX4_focusOnDirection_0 4 rfl rfl)
theorem dX4_focusOnDirection_6 : decode cX4_focusOnDirection 6 = .ok (.invokestatic 52, 3) := dk_184 0 52 (dk_at dksX4_focusOnDirection_0 6 rfl rfl)
theorem dX4_focusOnDirection_9 : decode cX4_focusOnDirection 9 = .ok (.ifCond .eq 7, 3) := dk_153 0 7 (dk_at dksX4_focusOnDirection_0 9 rfl rfl)
theorem dX4_focusOnDirection_12 : decode cX4_focusOnDirection 12 = .ok (.iconst 0, 1) := dk_3 (dk_at dksX4_focusOnDirection_0 12 rfl rfl)
theorem dX4_focusOnDirection_13 : decode cX4_focusOnDirection 13 = .ok (.goto 4, 3) := dk_167 0 4 (dk_at dksX4_focusOnDirection_0 13 rfl rfl)
theorem dX4_focusOnDirection_16 : decode cX4_focusOnDirection 16 = .ok (.iconst 1, 1) := dk_4 (dk_at dksX4_focusOnDirection_0 16 rfl rfl)
theorem dX4_focusOnDirection_17 : decode cX4_focusOnDirection 17 = .ok (.putfield 49, 3) := dk_181 0 49 (dk_at dksX4_focusOnDirection_0 17 rfl rfl)
theorem dX4_focusOnDirection_20 : decode cX4_focusOnDirection 20 = .ok (.aload_n 0, 1) := dk_42 (dk_at dksX4_focusOnDirection_0 20 rfl rfl)
theorem dX4_focusOnDirection_21 : decode cX4_focusOnDirection 21 = .ok (.getfield 49, 3) := dk_180 0 49 (dk_at dksX4_focusOnDirection_0 21 rfl rfl)
theorem dX4_focusOnDirection_24 : decode cX4_focusOnDirection 24 = .ok (.ifCond .ne 12, 3) := dk_154 0 12 (dk_at dksX4_focusOnDirection_1 0 rfl rfl)
theorem dX4_focusOnDirection_27 : decode cX4_focusOnDirection 27 = .ok (.aload_n 0, 1) := dk_42 (dk_at dksX4_focusOnDirection_1 3 rfl rfl)
theorem dX4_focusOnDirection_28 : decode cX4_focusOnDirection 28 = .ok (.iconst 2, 1) := dk_5 (dk_at dksX4_focusOnDirection_1 4 rfl rfl)
theorem dX4_focusOnDirection_29 : decode cX4_focusOnDirection 29 = .ok (.iconst 0, 1) := dk_3 (dk_at dksX4_focusOnDirection_1 5 rfl rfl)
theorem dX4_focusOnDirection_30 : decode cX4_focusOnDirection 30 = .ok (.iload_n 1, 1) := dk_27 (dk_at dksX4_focusOnDirection_1 6 rfl rfl)
theorem dX4_focusOnDirection_31 : decode cX4_focusOnDirection 31 = .ok (.iconst 0, 1) := dk_3 (dk_at dksX4_focusOnDirection_1 7 rfl rfl)
theorem dX4_focusOnDirection_32 : decode cX4_focusOnDirection 32 = .ok (.iconst 0, 1) := dk_3 (dk_at dksX4_focusOnDirection_1 8 rfl rfl)
theorem dX4_focusOnDirection_33 : decode cX4_focusOnDirection 33 = .ok (.invokevirtual 216, 3) := dk_182 0 216 (dk_at dksX4_focusOnDirection_1 9 rfl rfl)
theorem dX4_focusOnDirection_36 : decode cX4_focusOnDirection 36 = .ok (.return_, 1) := dk_177 (dk_at dksX4_focusOnDirection_1 12 rfl rfl)
abbrev cX4_setCut : ByteArray := prog_25_method_72_code
def yX4_setCut : MethodName := ⟨RX4, "setCut", "(Z)Z"⟩
def dkwX4_setCut_1 : List UInt8 := [167, 0, 4, 3, 172]
abbrev dktX4_setCut_1 : List UInt8 := dkwX4_setCut_1 ++ []
def dkwX4_setCut_0 : List UInt8 := [42, 3, 181, 0, 49, 42, 8, 27, 153, 0, 7, 4, 167, 0, 4, 3, 182, 0, 60, 4, 160, 0, 7, 4]
abbrev dktX4_setCut_0 : List UInt8 := dkwX4_setCut_0 ++ dktX4_setCut_1
theorem dksX4_setCut_0 : cX4_setCut.data.toList.drop 0 = dktX4_setCut_0 := by decide +kernel
theorem dksX4_setCut_1 : cX4_setCut.data.toList.drop 24 = dktX4_setCut_1 := dk_seg dksX4_setCut_0 24 rfl rfl
theorem dX4_setCut_0 : decode cX4_setCut 0 = .ok (.aload_n 0, 1) := dk_42 (dk_at dksX4_setCut_0 0 rfl rfl)
theorem dX4_setCut_1 : decode cX4_setCut 1 = .ok (.iconst 0, 1) := dk_3 (dk_at dksX4_setCut_0 1 rfl rfl)
theorem dX4_setCut_2 : decode cX4_setCut 2 = .ok (.putfield 49, 3) := dk_181 0 49 (dk_at dksX4_setCut_0 2 rfl rfl)
theorem dX4_setCut_5 : decode cX4_setCut 5 = .ok (.aload_n 0, 1) := dk_42 (dk_at dksX4_setCut_0 5 rfl rfl)
theorem dX4_setCut_6 : decode cX4_setCut 6 = .ok (.iconst 5, 1) := dk_8 (dk_at dksX4_setCut_0 6 rfl rfl)
theorem dX4_setCut_7 : decode cX4_setCut 7 = .ok (.iload_n 1, 1) := dk_27 (dk_at dksX4_setCut_0 7 rfl rfl)
theorem dX4_setCut_8 : decode cX4_setCut 8 = .ok (.ifCond .eq 7, 3) := dk_153 0 7 (dk_at dksX4_setCut_0 8 rfl rfl)
theorem dX4_setCut_11 : decode cX4_setCut 11 = .ok (.iconst 1, 1) := dk_4 (dk_at dksX4_setCut_0 11 rfl rfl)
theorem dX4_setCut_12 : decode cX4_setCut 12 = .ok (.goto 4, 3) := dk_167 0 4 (dk_at dksX4_setCut_0 12 rfl rfl)
theorem dX4_setCut_15 : decode cX4_setCut 15 = .ok (.iconst 0, 1) := dk_3 (dk_at dksX4_setCut_0 15 rfl rfl)
theorem dX4_setCut_16 : decode cX4_setCut 16 = .ok (.invokevirtual 60, 3) := dk_182 0 60 (dk_at dksX4_setCut_0 16 rfl rfl)
theorem dX4_setCut_19 : decode cX4_setCut 19 = .ok (.iconst 1, 1) := dk_4 (dk_at dksX4_setCut_0 19 rfl rfl)
theorem dX4_setCut_20 : decode cX4_setCut 20 = .ok (.if_icmp .ne 7, 3) := dk_160 0 7 (dk_at dksX4_setCut_0 20 rfl rfl)
theorem dX4_setCut_23 : decode cX4_setCut 23 = .ok (.iconst 1, 1) := dk_4 (dk_at dksX4_setCut_0 23 rfl rfl)
theorem dX4_setCut_24 : decode cX4_setCut 24 = .ok (.goto 4, 3) := dk_167 0 4 (dk_at dksX4_setCut_1 0 rfl rfl)
theorem dX4_setCut_27 : decode cX4_setCut 27 = .ok (.iconst 0, 1) := dk_3 (dk_at dksX4_setCut_1 3 rfl rfl)
theorem dX4_setCut_28 : decode cX4_setCut 28 = .ok (.ireturn, 1) := dk_172 (dk_at dksX4_setCut_1 4 rfl rfl)
abbrev cX4_sampleNumber : ByteArray := prog_25_method_79_code
def yX4_sampleNumber : MethodName := ⟨RX4, "sampleNumber", "(II)I"⟩
def dkwX4_sampleNumber_3 : List UInt8 := [182, 0, 232, 172]
abbrev dktX4_sampleNumber_3 : List UInt8 := dkwX4_sampleNumber_3 ++ []
def dkwX4_sampleNumber_2 : List UInt8 := [180, 0, 7, 16, 12, 46, 182, 0, 238, 96, 172, 42, 27, 3, 182, 0, 229, 42, 42, 28, 3, 182, 0, 133]
abbrev dktX4_sampleNumber_2 : List UInt8 := dkwX4_sampleNumber_2 ++ dktX4_sampleNumber_3
def dkwX4_sampleNumber_1 : List UInt8 := [154, 0, 9, 42, 5, 182, 0, 64, 172, 42, 180, 0, 7, 16, 10, 46, 5, 160, 0, 18, 28, 42, 27, 42]
abbrev dktX4_sampleNumber_1 : List UInt8 := dkwX4_sampleNumber_1 ++ dktX4_sampleNumber_2
def dkwX4_sampleNumber_0 : List UInt8 := [42, 3, 181, 0, 49, 42, 27, 182, 0, 106, 154, 0, 9, 42, 4, 182, 0, 64, 172, 28, 184, 0, 56]
abbrev dktX4_sampleNumber_0 : List UInt8 := dkwX4_sampleNumber_0 ++ dktX4_sampleNumber_1
theorem dksX4_sampleNumber_0 : cX4_sampleNumber.data.toList.drop 0 = dktX4_sampleNumber_0 := by decide +kernel
theorem dksX4_sampleNumber_1 : cX4_sampleNumber.data.toList.drop 23 = dktX4_sampleNumber_1 := dk_seg dksX4_sampleNumber_0 23 rfl rfl
theorem dksX4_sampleNumber_2 : cX4_sampleNumber.data.toList.drop 47 = dktX4_sampleNumber_2 := dk_seg dksX4_sampleNumber_1 24 rfl rfl
theorem dksX4_sampleNumber_3 : cX4_sampleNumber.data.toList.drop 71 = dktX4_sampleNumber_3 := dk_seg dksX4_sampleNumber_2 24 rfl rfl
theorem dX4_sampleNumber_0 : decode cX4_sampleNumber 0 = .ok (.aload_n 0, 1) := dk_42 (dk_at dksX4_sampleNumber_0 0 rfl rfl)
theorem dX4_sampleNumber_1 : decode cX4_sampleNumber 1 = .ok (.iconst 0, 1) := dk_3 (dk_at dksX4_sampleNumber_0 1 rfl rfl)
theorem dX4_sampleNumber_2 : decode cX4_sampleNumber 2 = .ok (.putfield 49, 3) := dk_181 0 49 (dk_at dksX4_sampleNumber_0 2 rfl rfl)
theorem dX4_sampleNumber_5 : decode cX4_sampleNumber 5 = .ok (.aload_n 0, 1) := dk_42 (dk_at dksX4_sampleNumber_0 5 rfl rfl)
theorem dX4_sampleNumber_6 : decode cX4_sampleNumber 6 = .ok (.iload_n 1, 1) := dk_27 (dk_at dksX4_sampleNumber_0 6 rfl rfl)
theorem dX4_sampleNumber_7 : decode cX4_sampleNumber 7 = .ok (.invokevirtual 106, 3) := dk_182 0 106 (dk_at dksX4_sampleNumber_0 7 rfl rfl)
theorem dX4_sampleNumber_10 : decode cX4_sampleNumber 10 = .ok (.ifCond .ne 9, 3) := dk_154 0 9 (dk_at dksX4_sampleNumber_0 10 rfl rfl)
theorem dX4_sampleNumber_13 : decode cX4_sampleNumber 13 = .ok (.aload_n 0, 1) := dk_42 (dk_at dksX4_sampleNumber_0 13 rfl rfl)
theorem dX4_sampleNumber_14 : decode cX4_sampleNumber 14 = .ok (.iconst 1, 1) := dk_4 (dk_at dksX4_sampleNumber_0 14 rfl rfl)
theorem dX4_sampleNumber_15 : decode cX4_sampleNumber 15 = .ok (.invokevirtual 64, 3) := dk_182 0 64 (dk_at dksX4_sampleNumber_0 15 rfl rfl)
theorem dX4_sampleNumber_18 : decode cX4_sampleNumber 18 = .ok (.ireturn, 1) := dk_172 (dk_at dksX4_sampleNumber_0 18 rfl rfl)
theorem dX4_sampleNumber_19 : decode cX4_sampleNumber 19 = .ok (.iload_n 2, 1) := dk_28 (dk_at dksX4_sampleNumber_0 19 rfl rfl)
theorem dX4_sampleNumber_20 : decode cX4_sampleNumber 20 = .ok (.invokestatic 56, 3) := dk_184 0 56 (dk_at dksX4_sampleNumber_0 20 rfl rfl)
theorem dX4_sampleNumber_23 : decode cX4_sampleNumber 23 = .ok (.ifCond .ne 9, 3) := dk_154 0 9 (dk_at dksX4_sampleNumber_1 0 rfl rfl)
theorem dX4_sampleNumber_26 : decode cX4_sampleNumber 26 = .ok (.aload_n 0, 1) := dk_42 (dk_at dksX4_sampleNumber_1 3 rfl rfl)
theorem dX4_sampleNumber_27 : decode cX4_sampleNumber 27 = .ok (.iconst 2, 1) := dk_5 (dk_at dksX4_sampleNumber_1 4 rfl rfl)
theorem dX4_sampleNumber_28 : decode cX4_sampleNumber 28 = .ok (.invokevirtual 64, 3) := dk_182 0 64 (dk_at dksX4_sampleNumber_1 5 rfl rfl)
theorem dX4_sampleNumber_31 : decode cX4_sampleNumber 31 = .ok (.ireturn, 1) := dk_172 (dk_at dksX4_sampleNumber_1 8 rfl rfl)
theorem dX4_sampleNumber_32 : decode cX4_sampleNumber 32 = .ok (.aload_n 0, 1) := dk_42 (dk_at dksX4_sampleNumber_1 9 rfl rfl)
theorem dX4_sampleNumber_33 : decode cX4_sampleNumber 33 = .ok (.getfield 7, 3) := dk_180 0 7 (dk_at dksX4_sampleNumber_1 10 rfl rfl)
theorem dX4_sampleNumber_36 : decode cX4_sampleNumber 36 = .ok (.bipush 10, 2) := dk_16 10 (dk_at dksX4_sampleNumber_1 13 rfl rfl)
theorem dX4_sampleNumber_38 : decode cX4_sampleNumber 38 = .ok (.iaload, 1) := dk_46 (dk_at dksX4_sampleNumber_1 15 rfl rfl)
theorem dX4_sampleNumber_39 : decode cX4_sampleNumber 39 = .ok (.iconst 2, 1) := dk_5 (dk_at dksX4_sampleNumber_1 16 rfl rfl)
theorem dX4_sampleNumber_40 : decode cX4_sampleNumber 40 = .ok (.if_icmp .ne 18, 3) := dk_160 0 18 (dk_at dksX4_sampleNumber_1 17 rfl rfl)
theorem dX4_sampleNumber_43 : decode cX4_sampleNumber 43 = .ok (.iload_n 2, 1) := dk_28 (dk_at dksX4_sampleNumber_1 20 rfl rfl)
theorem dX4_sampleNumber_44 : decode cX4_sampleNumber 44 = .ok (.aload_n 0, 1) := dk_42 (dk_at dksX4_sampleNumber_1 21 rfl rfl)
theorem dX4_sampleNumber_45 : decode cX4_sampleNumber 45 = .ok (.iload_n 1, 1) := dk_27 (dk_at dksX4_sampleNumber_1 22 rfl rfl)
theorem dX4_sampleNumber_46 : decode cX4_sampleNumber 46 = .ok (.aload_n 0, 1) := dk_42 (dk_at dksX4_sampleNumber_1 23 rfl rfl)
theorem dX4_sampleNumber_47 : decode cX4_sampleNumber 47 = .ok (.getfield 7, 3) := dk_180 0 7 (dk_at dksX4_sampleNumber_2 0 rfl rfl)
theorem dX4_sampleNumber_50 : decode cX4_sampleNumber 50 = .ok (.bipush 12, 2) := dk_16 12 (dk_at dksX4_sampleNumber_2 3 rfl rfl)
theorem dX4_sampleNumber_52 : decode cX4_sampleNumber 52 = .ok (.iaload, 1) := dk_46 (dk_at dksX4_sampleNumber_2 5 rfl rfl)
theorem dX4_sampleNumber_53 : decode cX4_sampleNumber 53 = .ok (.invokevirtual 238, 3) := dk_182 0 238 (dk_at dksX4_sampleNumber_2 6 rfl rfl)
theorem dX4_sampleNumber_56 : decode cX4_sampleNumber 56 = .ok (.iadd, 1) := dk_96 (dk_at dksX4_sampleNumber_2 9 rfl rfl)
theorem dX4_sampleNumber_57 : decode cX4_sampleNumber 57 = .ok (.ireturn, 1) := dk_172 (dk_at dksX4_sampleNumber_2 10 rfl rfl)
theorem dX4_sampleNumber_58 : decode cX4_sampleNumber 58 = .ok (.aload_n 0, 1) := dk_42 (dk_at dksX4_sampleNumber_2 11 rfl rfl)
theorem dX4_sampleNumber_59 : decode cX4_sampleNumber 59 = .ok (.iload_n 1, 1) := dk_27 (dk_at dksX4_sampleNumber_2 12 rfl rfl)
theorem dX4_sampleNumber_60 : decode cX4_sampleNumber 60 = .ok (.iconst 0, 1) := dk_3 (dk_at dksX4_sampleNumber_2 13 rfl rfl)
theorem dX4_sampleNumber_61 : decode cX4_sampleNumber 61 = .ok (.invokevirtual 229, 3) := dk_182 0 229 (dk_at dksX4_sampleNumber_2 14 rfl rfl)
theorem dX4_sampleNumber_64 : decode cX4_sampleNumber 64 = .ok (.aload_n 0, 1) := dk_42 (dk_at dksX4_sampleNumber_2 17 rfl rfl)
theorem dX4_sampleNumber_65 : decode cX4_sampleNumber 65 = .ok (.aload_n 0, 1) := dk_42 (dk_at dksX4_sampleNumber_2 18 rfl rfl)
theorem dX4_sampleNumber_66 : decode cX4_sampleNumber 66 = .ok (.iload_n 2, 1) := dk_28 (dk_at dksX4_sampleNumber_2 19 rfl rfl)
theorem dX4_sampleNumber_67 : decode cX4_sampleNumber 67 = .ok (.iconst 0, 1) := dk_3 (dk_at dksX4_sampleNumber_2 20 rfl rfl)
theorem dX4_sampleNumber_68 : decode cX4_sampleNumber 68 = .ok (.invokevirtual 133, 3) := dk_182 0 133 (dk_at dksX4_sampleNumber_2 21 rfl rfl)
theorem dX4_sampleNumber_71 : decode cX4_sampleNumber 71 = .ok (.invokevirtual 232, 3) := dk_182 0 232 (dk_at dksX4_sampleNumber_3 0 rfl rfl)
theorem dX4_sampleNumber_74 : decode cX4_sampleNumber 74 = .ok (.ireturn, 1) := dk_172 (dk_at dksX4_sampleNumber_3 3 rfl rfl)
abbrev cX4_shiftOf : ByteArray := prog_25_method_74_code
def yX4_shiftOf : MethodName := ⟨RX4, "shiftOf", "(II)I"⟩
def dkwX4_shiftOf_0 : List UInt8 := [42, 27, 3, 182, 0, 116, 28, 104, 16, 100, 42, 180, 0, 7, 3, 46, 104, 184, 0, 219, 172]
abbrev dktX4_shiftOf_0 : List UInt8 := dkwX4_shiftOf_0 ++ []
theorem dksX4_shiftOf_0 : cX4_shiftOf.data.toList.drop 0 = dktX4_shiftOf_0 := by decide +kernel
theorem dX4_shiftOf_0 : decode cX4_shiftOf 0 = .ok (.aload_n 0, 1) := dk_42 (dk_at dksX4_shiftOf_0 0 rfl rfl)
theorem dX4_shiftOf_1 : decode cX4_shiftOf 1 = .ok (.iload_n 1, 1) := dk_27 (dk_at dksX4_shiftOf_0 1 rfl rfl)
theorem dX4_shiftOf_2 : decode cX4_shiftOf 2 = .ok (.iconst 0, 1) := dk_3 (dk_at dksX4_shiftOf_0 2 rfl rfl)
theorem dX4_shiftOf_3 : decode cX4_shiftOf 3 = .ok (.invokevirtual 116, 3) := dk_182 0 116 (dk_at dksX4_shiftOf_0 3 rfl rfl)
theorem dX4_shiftOf_6 : decode cX4_shiftOf 6 = .ok (.iload_n 2, 1) := dk_28 (dk_at dksX4_shiftOf_0 6 rfl rfl)
theorem dX4_shiftOf_7 : decode cX4_shiftOf 7 = .ok (.imul, 1) := dk_104 (dk_at dksX4_shiftOf_0 7 rfl rfl)
theorem dX4_shiftOf_8 : decode cX4_shiftOf 8 = .ok (.bipush 100, 2) := dk_16 100 (dk_at dksX4_shiftOf_0 8 rfl rfl)
theorem dX4_shiftOf_10 : decode cX4_shiftOf 10 = .ok (.aload_n 0, 1) := dk_42 (dk_at dksX4_shiftOf_0 10 rfl rfl)
theorem dX4_shiftOf_11 : decode cX4_shiftOf 11 = .ok (.getfield 7, 3) := dk_180 0 7 (dk_at dksX4_shiftOf_0 11 rfl rfl)
theorem dX4_shiftOf_14 : decode cX4_shiftOf 14 = .ok (.iconst 0, 1) := dk_3 (dk_at dksX4_shiftOf_0 14 rfl rfl)
theorem dX4_shiftOf_15 : decode cX4_shiftOf 15 = .ok (.iaload, 1) := dk_46 (dk_at dksX4_shiftOf_0 15 rfl rfl)
theorem dX4_shiftOf_16 : decode cX4_shiftOf 16 = .ok (.imul, 1) := dk_104 (dk_at dksX4_shiftOf_0 16 rfl rfl)
theorem dX4_shiftOf_17 : decode cX4_shiftOf 17 = .ok (.invokestatic 219, 3) := dk_184 0 219 (dk_at dksX4_shiftOf_0 17 rfl rfl)
theorem dX4_shiftOf_20 : decode cX4_shiftOf 20 = .ok (.ireturn, 1) := dk_172 (dk_at dksX4_shiftOf_0 20 rfl rfl)
abbrev cX4_layFocus : ByteArray := prog_25_method_73_code
def yX4_layFocus : MethodName := ⟨RX4, "layFocus", "(II)V"⟩
def dkwX4_layFocus_3 : List UInt8 := [180, 0, 7, 16, 14, 46, 182, 0, 129, 177]
abbrev dktX4_layFocus_3 : List UInt8 := dkwX4_layFocus_3 ++ []
def dkwX4_layFocus_2 : List UInt8 := [180, 0, 7, 16, 13, 46, 54, 5, 42, 27, 21, 4, 42, 180, 0, 7, 16, 12, 46, 28, 96, 21, 5, 42]
abbrev dktX4_layFocus_2 : List UInt8 := dkwX4_layFocus_2 ++ dktX4_layFocus_3
def dkwX4_layFocus_1 : List UInt8 := [16, 11, 46, 167, 0, 4, 2, 54, 4, 29, 153, 0, 13, 42, 21, 4, 5, 182, 0, 109, 167, 0, 10, 42]
abbrev dktX4_layFocus_1 : List UInt8 := dkwX4_layFocus_1 ++ dktX4_layFocus_2
def dkwX4_layFocus_0 : List UInt8 := [42, 180, 0, 7, 16, 10, 46, 154, 0, 7, 4, 167, 0, 4, 3, 62, 29, 153, 0, 13, 42, 180, 0, 7]
abbrev dktX4_layFocus_0 : List UInt8 := dkwX4_layFocus_0 ++ dktX4_layFocus_1
theorem dksX4_layFocus_0 : cX4_layFocus.data.toList.drop 0 = dktX4_layFocus_0 := by decide +kernel
theorem dksX4_layFocus_1 : cX4_layFocus.data.toList.drop 24 = dktX4_layFocus_1 := dk_seg dksX4_layFocus_0 24 rfl rfl
theorem dksX4_layFocus_2 : cX4_layFocus.data.toList.drop 48 = dktX4_layFocus_2 := dk_seg dksX4_layFocus_1 24 rfl rfl
theorem dksX4_layFocus_3 : cX4_layFocus.data.toList.drop 72 = dktX4_layFocus_3 := dk_seg dksX4_layFocus_2 24 rfl rfl
theorem dX4_layFocus_0 : decode cX4_layFocus 0 = .ok (.aload_n 0, 1) := dk_42 (dk_at dksX4_layFocus_0 0 rfl rfl)
theorem dX4_layFocus_1 : decode cX4_layFocus 1 = .ok (.getfield 7, 3) := dk_180 0 7 (dk_at dksX4_layFocus_0 1 rfl rfl)
theorem dX4_layFocus_4 : decode cX4_layFocus 4 = .ok (.bipush 10, 2) := dk_16 10 (dk_at dksX4_layFocus_0 4 rfl rfl)
theorem dX4_layFocus_6 : decode cX4_layFocus 6 = .ok (.iaload, 1) := dk_46 (dk_at dksX4_layFocus_0 6 rfl rfl)
theorem dX4_layFocus_7 : decode cX4_layFocus 7 = .ok (.ifCond .ne 7, 3) := dk_154 0 7 (dk_at dksX4_layFocus_0 7 rfl rfl)
theorem dX4_layFocus_10 : decode cX4_layFocus 10 = .ok (.iconst 1, 1) := dk_4 (dk_at dksX4_layFocus_0 10 rfl rfl)
theorem dX4_layFocus_11 : decode cX4_layFocus 11 = .ok (.goto 4, 3) := dk_167 0 4 (dk_at dksX4_layFocus_0 11 rfl rfl)
theorem dX4_layFocus_14 : decode cX4_layFocus 14 = .ok (.iconst 0, 1) := dk_3 (dk_at dksX4_layFocus_0 14 rfl rfl)
theorem dX4_layFocus_15 : decode cX4_layFocus 15 = .ok (.istore_n 3, 1) := dk_62 (dk_at dksX4_layFocus_0 15 rfl rfl)
theorem dX4_layFocus_16 : decode cX4_layFocus 16 = .ok (.iload_n 3, 1) := dk_29 (dk_at dksX4_layFocus_0 16 rfl rfl)
theorem dX4_layFocus_17 : decode cX4_layFocus 17 = .ok (.ifCond .eq 13, 3) := dk_153 0 13 (dk_at dksX4_layFocus_0 17 rfl rfl)
theorem dX4_layFocus_20 : decode cX4_layFocus 20 = .ok (.aload_n 0, 1) := dk_42 (dk_at dksX4_layFocus_0 20 rfl rfl)
theorem dX4_layFocus_21 : decode cX4_layFocus 21 = .ok (.getfield 7, 3) := dk_180 0 7 (dk_at dksX4_layFocus_0 21 rfl rfl)
theorem dX4_layFocus_24 : decode cX4_layFocus 24 = .ok (.bipush 11, 2) := dk_16 11 (dk_at dksX4_layFocus_1 0 rfl rfl)
theorem dX4_layFocus_26 : decode cX4_layFocus 26 = .ok (.iaload, 1) := dk_46 (dk_at dksX4_layFocus_1 2 rfl rfl)
theorem dX4_layFocus_27 : decode cX4_layFocus 27 = .ok (.goto 4, 3) := dk_167 0 4 (dk_at dksX4_layFocus_1 3 rfl rfl)
theorem dX4_layFocus_30 : decode cX4_layFocus 30 = .ok (.iconst (-1), 1) := dk_2 (dk_at dksX4_layFocus_1 6 rfl rfl)
theorem dX4_layFocus_31 : decode cX4_layFocus 31 = .ok (.istore 4, 2) := dk_54 4 (dk_at dksX4_layFocus_1 7 rfl rfl)
theorem dX4_layFocus_33 : decode cX4_layFocus 33 = .ok (.iload_n 3, 1) := dk_29 (dk_at dksX4_layFocus_1 9 rfl rfl)
theorem dX4_layFocus_34 : decode cX4_layFocus 34 = .ok (.ifCond .eq 13, 3) := dk_153 0 13 (dk_at dksX4_layFocus_1 10 rfl rfl)
theorem dX4_layFocus_37 : decode cX4_layFocus 37 = .ok (.aload_n 0, 1) := dk_42 (dk_at dksX4_layFocus_1 13 rfl rfl)
theorem dX4_layFocus_38 : decode cX4_layFocus 38 = .ok (.iload 4, 2) := dk_21 4 (dk_at dksX4_layFocus_1 14 rfl rfl)
theorem dX4_layFocus_40 : decode cX4_layFocus 40 = .ok (.iconst 2, 1) := dk_5 (dk_at dksX4_layFocus_1 16 rfl rfl)
theorem dX4_layFocus_41 : decode cX4_layFocus 41 = .ok (.invokevirtual 109, 3) := dk_182 0 109 (dk_at dksX4_layFocus_1 17 rfl rfl)
theorem dX4_layFocus_44 : decode cX4_layFocus 44 = .ok (.goto 10, 3) := dk_167 0 10 (dk_at dksX4_layFocus_1 20 rfl rfl)
theorem dX4_layFocus_47 : decode cX4_layFocus 47 = .ok (.aload_n 0, 1) := dk_42 (dk_at dksX4_layFocus_1 23 rfl rfl)
theorem dX4_layFocus_48 : decode cX4_layFocus 48 = .ok (.getfield 7, 3) := dk_180 0 7 (dk_at dksX4_layFocus_2 0 rfl rfl)
theorem dX4_layFocus_51 : decode cX4_layFocus 51 = .ok (.bipush 13, 2) := dk_16 13 (dk_at dksX4_layFocus_2 3 rfl rfl)
theorem dX4_layFocus_53 : decode cX4_layFocus 53 = .ok (.iaload, 1) := dk_46 (dk_at dksX4_layFocus_2 5 rfl rfl)
theorem dX4_layFocus_54 : decode cX4_layFocus 54 = .ok (.istore 5, 2) := dk_54 5 (dk_at dksX4_layFocus_2 6 rfl rfl)
theorem dX4_layFocus_56 : decode cX4_layFocus 56 = .ok (.aload_n 0, 1) := dk_42 (dk_at dksX4_layFocus_2 8 rfl rfl)
theorem dX4_layFocus_57 : decode cX4_layFocus 57 = .ok (.iload_n 1, 1) := dk_27 (dk_at dksX4_layFocus_2 9 rfl rfl)
theorem dX4_layFocus_58 : decode cX4_layFocus 58 = .ok (.iload 4, 2) := dk_21 4 (dk_at dksX4_layFocus_2 10 rfl rfl)
theorem dX4_layFocus_60 : decode cX4_layFocus 60 = .ok (.aload_n 0, 1) := dk_42 (dk_at dksX4_layFocus_2 12 rfl rfl)
theorem dX4_layFocus_61 : decode cX4_layFocus 61 = .ok (.getfield 7, 3) := dk_180 0 7 (dk_at dksX4_layFocus_2 13 rfl rfl)
theorem dX4_layFocus_64 : decode cX4_layFocus 64 = .ok (.bipush 12, 2) := dk_16 12 (dk_at dksX4_layFocus_2 16 rfl rfl)
theorem dX4_layFocus_66 : decode cX4_layFocus 66 = .ok (.iaload, 1) := dk_46 (dk_at dksX4_layFocus_2 18 rfl rfl)
theorem dX4_layFocus_67 : decode cX4_layFocus 67 = .ok (.iload_n 2, 1) := dk_28 (dk_at dksX4_layFocus_2 19 rfl rfl)
theorem dX4_layFocus_68 : decode cX4_layFocus 68 = .ok (.iadd, 1) := dk_96 (dk_at dksX4_layFocus_2 20 rfl rfl)
theorem dX4_layFocus_69 : decode cX4_layFocus 69 = .ok (.iload 5, 2) := dk_21 5 (dk_at dksX4_layFocus_2 21 rfl rfl)
theorem dX4_layFocus_71 : decode cX4_layFocus 71 = .ok (.aload_n 0, 1) := dk_42 (dk_at dksX4_layFocus_2 23 rfl rfl)
theorem dX4_layFocus_72 : decode cX4_layFocus 72 = .ok (.getfield 7, 3) := dk_180 0 7 (dk_at dksX4_layFocus_3 0 rfl rfl)
theorem dX4_layFocus_75 : decode cX4_layFocus 75 = .ok (.bipush 14, 2) := dk_16 14 (dk_at dksX4_layFocus_3 3 rfl rfl)
theorem dX4_layFocus_77 : decode cX4_layFocus 77 = .ok (.iaload, 1) := dk_46 (dk_at dksX4_layFocus_3 5 rfl rfl)
theorem dX4_layFocus_78 : decode cX4_layFocus 78 = .ok (.invokevirtual 129, 3) := dk_182 0 129 (dk_at dksX4_layFocus_3 6 rfl rfl)
theorem dX4_layFocus_81 : decode cX4_layFocus 81 = .ok (.return_, 1) := dk_177 (dk_at dksX4_layFocus_3 9 rfl rfl)
abbrev cX4_firstSample : ByteArray := prog_25_method_75_code
def yX4_firstSample : MethodName := ⟨RX4, "firstSample", "(I)I"⟩
def dkwX4_firstSample_0 : List UInt8 := [27, 42, 180, 0, 7, 3, 46, 96, 4, 100, 42, 180, 0, 7, 3, 46, 108, 172]
abbrev dktX4_firstSample_0 : List UInt8 := dkwX4_firstSample_0 ++ []
theorem dksX4_firstSample_0 : cX4_firstSample.data.toList.drop 0 = dktX4_firstSample_0 := by decide +kernel
theorem dX4_firstSample_0 : decode cX4_firstSample 0 = .ok (.iload_n 1, 1) := dk_27 (dk_at dksX4_firstSample_0 0 rfl rfl)
theorem dX4_firstSample_1 : decode cX4_firstSample 1 = .ok (.aload_n 0, 1) := dk_42 (dk_at dksX4_firstSample_0 1 rfl rfl)
theorem dX4_firstSample_2 : decode cX4_firstSample 2 = .ok (.getfield 7, 3) := dk_180 0 7 (dk_at dksX4_firstSample_0 2 rfl rfl)
theorem dX4_firstSample_5 : decode cX4_firstSample 5 = .ok (.iconst 0, 1) := dk_3 (dk_at dksX4_firstSample_0 5 rfl rfl)
theorem dX4_firstSample_6 : decode cX4_firstSample 6 = .ok (.iaload, 1) := dk_46 (dk_at dksX4_firstSample_0 6 rfl rfl)
theorem dX4_firstSample_7 : decode cX4_firstSample 7 = .ok (.iadd, 1) := dk_96 (dk_at dksX4_firstSample_0 7 rfl rfl)
theorem dX4_firstSample_8 : decode cX4_firstSample 8 = .ok (.iconst 1, 1) := dk_4 (dk_at dksX4_firstSample_0 8 rfl rfl)
theorem dX4_firstSample_9 : decode cX4_firstSample 9 = .ok (.isub, 1) := dk_100 (dk_at dksX4_firstSample_0 9 rfl rfl)
theorem dX4_firstSample_10 : decode cX4_firstSample 10 = .ok (.aload_n 0, 1) := dk_42 (dk_at dksX4_firstSample_0 10 rfl rfl)
theorem dX4_firstSample_11 : decode cX4_firstSample 11 = .ok (.getfield 7, 3) := dk_180 0 7 (dk_at dksX4_firstSample_0 11 rfl rfl)
theorem dX4_firstSample_14 : decode cX4_firstSample 14 = .ok (.iconst 0, 1) := dk_3 (dk_at dksX4_firstSample_0 14 rfl rfl)
theorem dX4_firstSample_15 : decode cX4_firstSample 15 = .ok (.iaload, 1) := dk_46 (dk_at dksX4_firstSample_0 15 rfl rfl)
theorem dX4_firstSample_16 : decode cX4_firstSample 16 = .ok (.idiv, 1) := dk_108 (dk_at dksX4_firstSample_0 16 rfl rfl)
theorem dX4_firstSample_17 : decode cX4_firstSample 17 = .ok (.ireturn, 1) := dk_172 (dk_at dksX4_firstSample_0 17 rfl rfl)
abbrev cX4_part : ByteArray := prog_25_method_80_code
def yX4_part : MethodName := ⟨RX4, "part", "(II)I"⟩
def dkwX4_part_1 : List UInt8 := [154, 0, 9, 42, 5, 182, 0, 64, 172, 42, 27, 3, 182, 0, 241, 42, 180, 0, 32, 28, 46, 172]
abbrev dktX4_part_1 : List UInt8 := dkwX4_part_1 ++ []
def dkwX4_part_0 : List UInt8 := [42, 3, 181, 0, 49, 42, 27, 182, 0, 106, 154, 0, 9, 42, 4, 182, 0, 64, 172, 28, 184, 0, 56]
abbrev dktX4_part_0 : List UInt8 := dkwX4_part_0 ++ dktX4_part_1
theorem dksX4_part_0 : cX4_part.data.toList.drop 0 = dktX4_part_0 := by decide +kernel
theorem dksX4_part_1 : cX4_part.data.toList.drop 23 = dktX4_part_1 := dk_seg dksX4_part_0 23 rfl rfl
theorem dX4_part_0 : decode cX4_part 0 = .ok (.aload_n 0, 1) := dk_42 (dk_at dksX4_part_0 0 rfl rfl)
theorem dX4_part_1 : decode cX4_part 1 = .ok (.iconst 0, 1) := dk_3 (dk_at dksX4_part_0 1 rfl rfl)
theorem dX4_part_2 : decode cX4_part 2 = .ok (.putfield 49, 3) := dk_181 0 49 (dk_at dksX4_part_0 2 rfl rfl)
theorem dX4_part_5 : decode cX4_part 5 = .ok (.aload_n 0, 1) := dk_42 (dk_at dksX4_part_0 5 rfl rfl)
theorem dX4_part_6 : decode cX4_part 6 = .ok (.iload_n 1, 1) := dk_27 (dk_at dksX4_part_0 6 rfl rfl)
theorem dX4_part_7 : decode cX4_part 7 = .ok (.invokevirtual 106, 3) := dk_182 0 106 (dk_at dksX4_part_0 7 rfl rfl)
theorem dX4_part_10 : decode cX4_part 10 = .ok (.ifCond .ne 9, 3) := dk_154 0 9 (dk_at dksX4_part_0 10 rfl rfl)
theorem dX4_part_13 : decode cX4_part 13 = .ok (.aload_n 0, 1) := dk_42 (dk_at dksX4_part_0 13 rfl rfl)
theorem dX4_part_14 : decode cX4_part 14 = .ok (.iconst 1, 1) := dk_4 (dk_at dksX4_part_0 14 rfl rfl)
theorem dX4_part_15 : decode cX4_part 15 = .ok (.invokevirtual 64, 3) := dk_182 0 64 (dk_at dksX4_part_0 15 rfl rfl)
theorem dX4_part_18 : decode cX4_part 18 = .ok (.ireturn, 1) := dk_172 (dk_at dksX4_part_0 18 rfl rfl)
theorem dX4_part_19 : decode cX4_part 19 = .ok (.iload_n 2, 1) := dk_28 (dk_at dksX4_part_0 19 rfl rfl)
theorem dX4_part_20 : decode cX4_part 20 = .ok (.invokestatic 56, 3) := dk_184 0 56 (dk_at dksX4_part_0 20 rfl rfl)
theorem dX4_part_23 : decode cX4_part 23 = .ok (.ifCond .ne 9, 3) := dk_154 0 9 (dk_at dksX4_part_1 0 rfl rfl)
theorem dX4_part_26 : decode cX4_part 26 = .ok (.aload_n 0, 1) := dk_42 (dk_at dksX4_part_1 3 rfl rfl)
theorem dX4_part_27 : decode cX4_part 27 = .ok (.iconst 2, 1) := dk_5 (dk_at dksX4_part_1 4 rfl rfl)
theorem dX4_part_28 : decode cX4_part 28 = .ok (.invokevirtual 64, 3) := dk_182 0 64 (dk_at dksX4_part_1 5 rfl rfl)
theorem dX4_part_31 : decode cX4_part 31 = .ok (.ireturn, 1) := dk_172 (dk_at dksX4_part_1 8 rfl rfl)
theorem dX4_part_32 : decode cX4_part 32 = .ok (.aload_n 0, 1) := dk_42 (dk_at dksX4_part_1 9 rfl rfl)
theorem dX4_part_33 : decode cX4_part 33 = .ok (.iload_n 1, 1) := dk_27 (dk_at dksX4_part_1 10 rfl rfl)
theorem dX4_part_34 : decode cX4_part 34 = .ok (.iconst 0, 1) := dk_3 (dk_at dksX4_part_1 11 rfl rfl)
theorem dX4_part_35 : decode cX4_part 35 = .ok (.invokevirtual 241, 3) := dk_182 0 241 (dk_at dksX4_part_1 12 rfl rfl)
theorem dX4_part_38 : decode cX4_part 38 = .ok (.aload_n 0, 1) := dk_42 (dk_at dksX4_part_1 15 rfl rfl)
theorem dX4_part_39 : decode cX4_part 39 = .ok (.getfield 32, 3) := dk_180 0 32 (dk_at dksX4_part_1 16 rfl rfl)
theorem dX4_part_42 : decode cX4_part 42 = .ok (.iload_n 2, 1) := dk_28 (dk_at dksX4_part_1 19 rfl rfl)
theorem dX4_part_43 : decode cX4_part 43 = .ok (.iaload, 1) := dk_46 (dk_at dksX4_part_1 20 rfl rfl)
theorem dX4_part_44 : decode cX4_part 44 = .ok (.ireturn, 1) := dk_172 (dk_at dksX4_part_1 21 rfl rfl)
abbrev cX4_layParts : ByteArray := prog_25_method_77_code
def yX4_layParts : MethodName := ⟨RX4, "layParts", "(II)V"⟩
def dkwX4_layParts_4 : List UInt8 := [42, 29, 21, 4, 182, 0, 235, 100, 79, 132, 3, 1, 167, 255, 187, 177]
abbrev dktX4_layParts_4 : List UInt8 := dkwX4_layParts_4 ++ []
def dkwX4_layParts_3 : List UInt8 := [180, 0, 7, 8, 46, 4, 160, 0, 27, 21, 4, 17, 0, 255, 163, 0, 19, 42, 180, 0, 32, 29, 92, 46]
abbrev dktX4_layParts_3 : List UInt8 := dkwX4_layParts_3 ++ dktX4_layParts_4
def dkwX4_layParts_2 : List UInt8 := [182, 0, 133, 182, 0, 232, 54, 4, 42, 180, 0, 32, 29, 42, 27, 21, 4, 182, 0, 175, 79, 42]
abbrev dktX4_layParts_2 : List UInt8 := dkwX4_layParts_2 ++ dktX4_layParts_3
def dkwX4_layParts_1 : List UInt8 := [182, 0, 226, 177, 42, 27, 28, 182, 0, 229, 3, 62, 29, 17, 1, 0, 162, 0, 68, 42, 42, 29, 3]
abbrev dktX4_layParts_1 : List UInt8 := dkwX4_layParts_1 ++ dktX4_layParts_2
def dkwX4_layParts_0 : List UInt8 := [42, 180, 0, 7, 16, 10, 46, 5, 160, 0, 18, 42, 27, 42, 180, 0, 7, 16, 12, 46, 28, 96]
abbrev dktX4_layParts_0 : List UInt8 := dkwX4_layParts_0 ++ dktX4_layParts_1
theorem dksX4_layParts_0 : cX4_layParts.data.toList.drop 0 = dktX4_layParts_0 := by decide +kernel
theorem dksX4_layParts_1 : cX4_layParts.data.toList.drop 22 = dktX4_layParts_1 := dk_seg dksX4_layParts_0 22 rfl rfl
theorem dksX4_layParts_2 : cX4_layParts.data.toList.drop 45 = dktX4_layParts_2 := dk_seg dksX4_layParts_1 23 rfl rfl
theorem dksX4_layParts_3 : cX4_layParts.data.toList.drop 67 = dktX4_layParts_3 := dk_seg dksX4_layParts_2 22 rfl rfl
theorem dksX4_layParts_4 : cX4_layParts.data.toList.drop 91 = dktX4_layParts_4 := dk_seg dksX4_layParts_3 24 rfl rfl
theorem dX4_layParts_0 : decode cX4_layParts 0 = .ok (.aload_n 0, 1) := dk_42 (dk_at dksX4_layParts_0 0 rfl rfl)
theorem dX4_layParts_1 : decode cX4_layParts 1 = .ok (.getfield 7, 3) := dk_180 0 7 (dk_at dksX4_layParts_0 1 rfl rfl)
theorem dX4_layParts_4 : decode cX4_layParts 4 = .ok (.bipush 10, 2) := dk_16 10 (dk_at dksX4_layParts_0 4 rfl rfl)
theorem dX4_layParts_6 : decode cX4_layParts 6 = .ok (.iaload, 1) := dk_46 (dk_at dksX4_layParts_0 6 rfl rfl)
theorem dX4_layParts_7 : decode cX4_layParts 7 = .ok (.iconst 2, 1) := dk_5 (dk_at dksX4_layParts_0 7 rfl rfl)
theorem dX4_layParts_8 : decode cX4_layParts 8 = .ok (.if_icmp .ne 18, 3) := dk_160 0 18 (dk_at dksX4_layParts_0 8 rfl rfl)
theorem dX4_layParts_11 : decode cX4_layParts 11 = .ok (.aload_n 0, 1) := dk_42 (dk_at dksX4_layParts_0 11 rfl rfl)
theorem dX4_layParts_12 : decode cX4_layParts 12 = .ok (.iload_n 1, 1) := dk_27 (dk_at dksX4_layParts_0 12 rfl rfl)
theorem dX4_layParts_13 : decode cX4_layParts 13 = .ok (.aload_n 0, 1) := dk_42 (dk_at dksX4_layParts_0 13 rfl rfl)
theorem dX4_layParts_14 : decode cX4_layParts 14 = .ok (.getfield 7, 3) := dk_180 0 7 (dk_at dksX4_layParts_0 14 rfl rfl)
theorem dX4_layParts_17 : decode cX4_layParts 17 = .ok (.bipush 12, 2) := dk_16 12 (dk_at dksX4_layParts_0 17 rfl rfl)
theorem dX4_layParts_19 : decode cX4_layParts 19 = .ok (.iaload, 1) := dk_46 (dk_at dksX4_layParts_0 19 rfl rfl)
theorem dX4_layParts_20 : decode cX4_layParts 20 = .ok (.iload_n 2, 1) := dk_28 (dk_at dksX4_layParts_0 20 rfl rfl)
theorem dX4_layParts_21 : decode cX4_layParts 21 = .ok (.iadd, 1) := dk_96 (dk_at dksX4_layParts_0 21 rfl rfl)
theorem dX4_layParts_22 : decode cX4_layParts 22 = .ok (.invokevirtual 226, 3) := dk_182 0 226 (dk_at dksX4_layParts_1 0 rfl rfl)
theorem dX4_layParts_25 : decode cX4_layParts 25 = .ok (.return_, 1) := dk_177 (dk_at dksX4_layParts_1 3 rfl rfl)
theorem dX4_layParts_26 : decode cX4_layParts 26 = .ok (.aload_n 0, 1) := dk_42 (dk_at dksX4_layParts_1 4 rfl rfl)
theorem dX4_layParts_27 : decode cX4_layParts 27 = .ok (.iload_n 1, 1) := dk_27 (dk_at dksX4_layParts_1 5 rfl rfl)
theorem dX4_layParts_28 : decode cX4_layParts 28 = .ok (.iload_n 2, 1) := dk_28 (dk_at dksX4_layParts_1 6 rfl rfl)
theorem dX4_layParts_29 : decode cX4_layParts 29 = .ok (.invokevirtual 229, 3) := dk_182 0 229 (dk_at dksX4_layParts_1 7 rfl rfl)
theorem dX4_layParts_32 : decode cX4_layParts 32 = .ok (.iconst 0, 1) := dk_3 (dk_at dksX4_layParts_1 10 rfl rfl)
theorem dX4_layParts_33 : decode cX4_layParts 33 = .ok (.istore_n 3, 1) := dk_62 (dk_at dksX4_layParts_1 11 rfl rfl)
theorem dX4_layParts_34 : decode cX4_layParts 34 = .ok (.iload_n 3, 1) := dk_29 (dk_at dksX4_layParts_1 12 rfl rfl)
theorem dX4_layParts_35 : decode cX4_layParts 35 = .ok (.sipush 256, 3) := dk_17 1 0 (dk_at dksX4_layParts_1 13 rfl rfl)
theorem dX4_layParts_38 : decode cX4_layParts 38 = .ok (.if_icmp .ge 68, 3) := dk_162 0 68 (dk_at dksX4_layParts_1 16 rfl rfl)
theorem dX4_layParts_41 : decode cX4_layParts 41 = .ok (.aload_n 0, 1) := dk_42 (dk_at dksX4_layParts_1 19 rfl rfl)
theorem dX4_layParts_42 : decode cX4_layParts 42 = .ok (.aload_n 0, 1) := dk_42 (dk_at dksX4_layParts_1 20 rfl rfl)
theorem dX4_layParts_43 : decode cX4_layParts 43 = .ok (.iload_n 3, 1) := dk_29 (dk_at dksX4_layParts_1 21 rfl rfl)
theorem dX4_layParts_44 : decode cX4_layParts 44 = .ok (.iconst 0, 1) := dk_3 (dk_at dksX4_layParts_1 22 rfl rfl)
theorem dX4_layParts_45 : decode cX4_layParts 45 = .ok (.invokevirtual 133, 3) := dk_182 0 133 (dk_at dksX4_layParts_2 0 rfl rfl)
theorem dX4_layParts_48 : decode cX4_layParts 48 = .ok (.invokevirtual 232, 3) := dk_182 0 232 (dk_at dksX4_layParts_2 3 rfl rfl)
theorem dX4_layParts_51 : decode cX4_layParts 51 = .ok (.istore 4, 2) := dk_54 4 (dk_at dksX4_layParts_2 6 rfl rfl)
theorem dX4_layParts_53 : decode cX4_layParts 53 = .ok (.aload_n 0, 1) := dk_42 (dk_at dksX4_layParts_2 8 rfl rfl)
theorem dX4_layParts_54 : decode cX4_layParts 54 = .ok (.getfield 32, 3) := dk_180 0 32 (dk_at dksX4_layParts_2 9 rfl rfl)
theorem dX4_layParts_57 : decode cX4_layParts 57 = .ok (.iload_n 3, 1) := dk_29 (dk_at dksX4_layParts_2 12 rfl rfl)
theorem dX4_layParts_58 : decode cX4_layParts 58 = .ok (.aload_n 0, 1) := dk_42 (dk_at dksX4_layParts_2 13 rfl rfl)
theorem dX4_layParts_59 : decode cX4_layParts 59 = .ok (.iload_n 1, 1) := dk_27 (dk_at dksX4_layParts_2 14 rfl rfl)
theorem dX4_layParts_60 : decode cX4_layParts 60 = .ok (.iload 4, 2) := dk_21 4 (dk_at dksX4_layParts_2 15 rfl rfl)
theorem dX4_layParts_62 : decode cX4_layParts 62 = .ok (.invokevirtual 175, 3) := dk_182 0 175 (dk_at dksX4_layParts_2 17 rfl rfl)
theorem dX4_layParts_65 : decode cX4_layParts 65 = .ok (.iastore, 1) := dk_79 (dk_at dksX4_layParts_2 20 rfl rfl)
theorem dX4_layParts_66 : decode cX4_layParts 66 = .ok (.aload_n 0, 1) := dk_42 (dk_at dksX4_layParts_2 21 rfl rfl)
theorem dX4_layParts_67 : decode cX4_layParts 67 = .ok (.getfield 7, 3) := dk_180 0 7 (dk_at dksX4_layParts_3 0 rfl rfl)
theorem dX4_layParts_70 : decode cX4_layParts 70 = .ok (.iconst 5, 1) := dk_8 (dk_at dksX4_layParts_3 3 rfl rfl)
theorem dX4_layParts_71 : decode cX4_layParts 71 = .ok (.iaload, 1) := dk_46 (dk_at dksX4_layParts_3 4 rfl rfl)
theorem dX4_layParts_72 : decode cX4_layParts 72 = .ok (.iconst 1, 1) := dk_4 (dk_at dksX4_layParts_3 5 rfl rfl)
theorem dX4_layParts_73 : decode cX4_layParts 73 = .ok (.if_icmp .ne 27, 3) := dk_160 0 27 (dk_at dksX4_layParts_3 6 rfl rfl)
theorem dX4_layParts_76 : decode cX4_layParts 76 = .ok (.iload 4, 2) := dk_21 4 (dk_at dksX4_layParts_3 9 rfl rfl)
theorem dX4_layParts_78 : decode cX4_layParts 78 = .ok (.sipush 255, 3) := dk_17 0 255 (dk_at dksX4_layParts_3 11 rfl rfl)
theorem dX4_layParts_81 : decode cX4_layParts 81 = .ok (.if_icmp .gt 19, 3) := dk_163 0 19 (dk_at dksX4_layParts_3 14 rfl rfl)
theorem dX4_layParts_84 : decode cX4_layParts 84 = .ok (.aload_n 0, 1) := dk_42 (dk_at dksX4_layParts_3 17 rfl rfl)
theorem dX4_layParts_85 : decode cX4_layParts 85 = .ok (.getfield 32, 3) := dk_180 0 32 (dk_at dksX4_layParts_3 18 rfl rfl)
theorem dX4_layParts_88 : decode cX4_layParts 88 = .ok (.iload_n 3, 1) := dk_29 (dk_at dksX4_layParts_3 21 rfl rfl)
theorem dX4_layParts_89 : decode cX4_layParts 89 = .ok (.dup2, 1) := dk_92 (dk_at dksX4_layParts_3 22 rfl rfl)
theorem dX4_layParts_90 : decode cX4_layParts 90 = .ok (.iaload, 1) := dk_46 (dk_at dksX4_layParts_3 23 rfl rfl)
theorem dX4_layParts_91 : decode cX4_layParts 91 = .ok (.aload_n 0, 1) := dk_42 (dk_at dksX4_layParts_4 0 rfl rfl)
theorem dX4_layParts_92 : decode cX4_layParts 92 = .ok (.iload_n 3, 1) := dk_29 (dk_at dksX4_layParts_4 1 rfl rfl)
theorem dX4_layParts_93 : decode cX4_layParts 93 = .ok (.iload 4, 2) := dk_21 4 (dk_at dksX4_layParts_4 2 rfl rfl)
theorem dX4_layParts_95 : decode cX4_layParts 95 = .ok (.invokevirtual 235, 3) := dk_182 0 235 (dk_at dksX4_layParts_4 4 rfl rfl)
theorem dX4_layParts_98 : decode cX4_layParts 98 = .ok (.isub, 1) := dk_100 (dk_at dksX4_layParts_4 7 rfl rfl)
theorem dX4_layParts_99 : decode cX4_layParts 99 = .ok (.iastore, 1) := dk_79 (dk_at dksX4_layParts_4 8 rfl rfl)
theorem dX4_layParts_100 : decode cX4_layParts 100 = .ok (.iinc 3 1, 3) := dk_132 3 1 (dk_at dksX4_layParts_4 9 rfl rfl)
theorem dX4_layParts_103 : decode cX4_layParts 103 = .ok (.goto (-69), 3) := dk_167 255 187 (dk_at dksX4_layParts_4 12 rfl rfl)
theorem dX4_layParts_106 : decode cX4_layParts 106 = .ok (.return_, 1) := dk_177 (dk_at dksX4_layParts_4 15 rfl rfl)
abbrev cX4_layDirectedParts : ByteArray := prog_25_method_78_code
def yX4_layDirectedParts : MethodName := ⟨RX4, "layDirectedParts", "(II)V"⟩
def dkwX4_layDirectedParts_1 : List UInt8 := [42, 27, 21, 4, 29, 96, 182, 0, 175, 79, 132, 4, 1, 167, 255, 229, 177]
abbrev dktX4_layDirectedParts_1 : List UInt8 := dkwX4_layDirectedParts_1 ++ []
def dkwX4_layDirectedParts_0 : List UInt8 := [42, 27, 28, 182, 0, 238, 62, 3, 54, 4, 21, 4, 17, 1, 0, 162, 0, 25, 42, 180, 0, 32, 21, 4]
abbrev dktX4_layDirectedParts_0 : List UInt8 := dkwX4_layDirectedParts_0 ++ dktX4_layDirectedParts_1
theorem dksX4_layDirectedParts_0 : cX4_layDirectedParts.data.toList.drop 0 = dktX4_layDirectedParts_0 := by decide +kernel
theorem dksX4_layDirectedParts_1 : cX4_layDirectedParts.data.toList.drop 24 = dktX4_layDirectedParts_1 := dk_seg dksX4_layDirectedParts_0 24 rfl rfl
theorem dX4_layDirectedParts_0 : decode cX4_layDirectedParts 0 = .ok (.aload_n 0, 1) := dk_42 (dk_at dksX4_layDirectedParts_0 0 rfl rfl)
theorem dX4_layDirectedParts_1 : decode cX4_layDirectedParts 1 = .ok (.iload_n 1, 1) := dk_27 (dk_at dksX4_layDirectedParts_0 1 rfl rfl)
theorem dX4_layDirectedParts_2 : decode cX4_layDirectedParts 2 = .ok (.iload_n 2, 1) := dk_28 (dk_at dksX4_layDirectedParts_0 2 rfl rfl)
theorem dX4_layDirectedParts_3 : decode cX4_layDirectedParts 3 = .ok (.invokevirtual 238, 3) := dk_182 0 238 (dk_at dksX4_layDirectedParts_0 3 rfl rfl)
theorem dX4_layDirectedParts_6 : decode cX4_layDirectedParts 6 = .ok (.istore_n 3, 1) := dk_62 (dk_at dksX4_layDirectedParts_0 6 rfl rfl)
theorem dX4_layDirectedParts_7 : decode cX4_layDirectedParts 7 = .ok (.iconst 0, 1) := dk_3 (dk_at dksX4_layDirectedParts_0 7 rfl rfl)
theorem dX4_layDirectedParts_8 : decode cX4_layDirectedParts 8 = .ok (.istore 4, 2) := dk_54 4 (dk_at dksX4_layDirectedParts_0 8 rfl rfl)
theorem dX4_layDirectedParts_10 : decode cX4_layDirectedParts 10 = .ok (.iload 4, 2) := dk_21 4 (dk_at dksX4_layDirectedParts_0 10 rfl rfl)
theorem dX4_layDirectedParts_12 : decode cX4_layDirectedParts 12 = .ok (.sipush 256, 3) := dk_17 1 0 (dk_at dksX4_layDirectedParts_0 12 rfl rfl)
theorem dX4_layDirectedParts_15 : decode cX4_layDirectedParts 15 = .ok (.if_icmp .ge 25, 3) := dk_162 0 25 (dk_at dksX4_layDirectedParts_0 15 rfl rfl)
theorem dX4_layDirectedParts_18 : decode cX4_layDirectedParts 18 = .ok (.aload_n 0, 1) := dk_42 (dk_at dksX4_layDirectedParts_0 18 rfl rfl)
theorem dX4_layDirectedParts_19 : decode cX4_layDirectedParts 19 = .ok (.getfield 32, 3) := dk_180 0 32 (dk_at dksX4_layDirectedParts_0 19 rfl rfl)
theorem dX4_layDirectedParts_22 : decode cX4_layDirectedParts 22 = .ok (.iload 4, 2) := dk_21 4 (dk_at dksX4_layDirectedParts_0 22 rfl rfl)
theorem dX4_layDirectedParts_24 : decode cX4_layDirectedParts 24 = .ok (.aload_n 0, 1) := dk_42 (dk_at dksX4_layDirectedParts_1 0 rfl rfl)
theorem dX4_layDirectedParts_25 : decode cX4_layDirectedParts 25 = .ok (.iload_n 1, 1) := dk_27 (dk_at dksX4_layDirectedParts_1 1 rfl rfl)
theorem dX4_layDirectedParts_26 : decode cX4_layDirectedParts 26 = .ok (.iload 4, 2) := dk_21 4 (dk_at dksX4_layDirectedParts_1 2 rfl rfl)
theorem dX4_layDirectedParts_28 : decode cX4_layDirectedParts 28 = .ok (.iload_n 3, 1) := dk_29 (dk_at dksX4_layDirectedParts_1 4 rfl rfl)
theorem dX4_layDirectedParts_29 : decode cX4_layDirectedParts 29 = .ok (.iadd, 1) := dk_96 (dk_at dksX4_layDirectedParts_1 5 rfl rfl)
theorem dX4_layDirectedParts_30 : decode cX4_layDirectedParts 30 = .ok (.invokevirtual 175, 3) := dk_182 0 175 (dk_at dksX4_layDirectedParts_1 6 rfl rfl)
theorem dX4_layDirectedParts_33 : decode cX4_layDirectedParts 33 = .ok (.iastore, 1) := dk_79 (dk_at dksX4_layDirectedParts_1 9 rfl rfl)
theorem dX4_layDirectedParts_34 : decode cX4_layDirectedParts 34 = .ok (.iinc 4 1, 3) := dk_132 4 1 (dk_at dksX4_layDirectedParts_1 10 rfl rfl)
theorem dX4_layDirectedParts_37 : decode cX4_layDirectedParts 37 = .ok (.goto (-27), 3) := dk_167 255 229 (dk_at dksX4_layDirectedParts_1 13 rfl rfl)
theorem dX4_layDirectedParts_40 : decode cX4_layDirectedParts 40 = .ok (.return_, 1) := dk_177 (dk_at dksX4_layDirectedParts_1 16 rfl rfl)
abbrev cX4_reflectedPart : ByteArray := prog_25_method_76_code
def yX4_reflectedPart : MethodName := ⟨RX4, "reflectedPart", "(II)I"⟩
def dkwX4_reflectedPart_3 : List UInt8 := [4, 46, 133, 105, 20, 0, 224, 109, 136, 172]
abbrev dktX4_reflectedPart_3 : List UInt8 := dkwX4_reflectedPart_3 ++ []
def dkwX4_reflectedPart_2 : List UInt8 := [46, 133, 97, 105, 20, 0, 222, 42, 180, 0, 26, 29, 46, 133, 97, 109, 55, 4, 22, 4, 42, 180, 0, 7]
abbrev dktX4_reflectedPart_2 : List UInt8 := dkwX4_reflectedPart_2 ++ dktX4_reflectedPart_3
def dkwX4_reflectedPart_1 : List UInt8 := [46, 133, 55, 4, 42, 180, 0, 7, 5, 46, 4, 160, 0, 31, 22, 4, 20, 0, 222, 42, 180, 0, 23, 29]
abbrev dktX4_reflectedPart_1 : List UInt8 := dkwX4_reflectedPart_1 ++ dktX4_reflectedPart_2
def dkwX4_reflectedPart_0 : List UInt8 := [42, 28, 4, 182, 0, 144, 62, 29, 2, 159, 0, 8, 29, 27, 161, 0, 5, 3, 172, 42, 180, 0, 32, 29]
abbrev dktX4_reflectedPart_0 : List UInt8 := dkwX4_reflectedPart_0 ++ dktX4_reflectedPart_1
theorem dksX4_reflectedPart_0 : cX4_reflectedPart.data.toList.drop 0 = dktX4_reflectedPart_0 := by decide +kernel
theorem dksX4_reflectedPart_1 : cX4_reflectedPart.data.toList.drop 24 = dktX4_reflectedPart_1 := dk_seg dksX4_reflectedPart_0 24 rfl rfl
theorem dksX4_reflectedPart_2 : cX4_reflectedPart.data.toList.drop 48 = dktX4_reflectedPart_2 := dk_seg dksX4_reflectedPart_1 24 rfl rfl
theorem dksX4_reflectedPart_3 : cX4_reflectedPart.data.toList.drop 72 = dktX4_reflectedPart_3 := dk_seg dksX4_reflectedPart_2 24 rfl rfl
theorem dX4_reflectedPart_0 : decode cX4_reflectedPart 0 = .ok (.aload_n 0, 1) := dk_42 (dk_at dksX4_reflectedPart_0 0 rfl rfl)
theorem dX4_reflectedPart_1 : decode cX4_reflectedPart 1 = .ok (.iload_n 2, 1) := dk_28 (dk_at dksX4_reflectedPart_0 1 rfl rfl)
theorem dX4_reflectedPart_2 : decode cX4_reflectedPart 2 = .ok (.iconst 1, 1) := dk_4 (dk_at dksX4_reflectedPart_0 2 rfl rfl)
theorem dX4_reflectedPart_3 : decode cX4_reflectedPart 3 = .ok (.invokevirtual 144, 3) := dk_182 0 144 (dk_at dksX4_reflectedPart_0 3 rfl rfl)
theorem dX4_reflectedPart_6 : decode cX4_reflectedPart 6 = .ok (.istore_n 3, 1) := dk_62 (dk_at dksX4_reflectedPart_0 6 rfl rfl)
theorem dX4_reflectedPart_7 : decode cX4_reflectedPart 7 = .ok (.iload_n 3, 1) := dk_29 (dk_at dksX4_reflectedPart_0 7 rfl rfl)
theorem dX4_reflectedPart_8 : decode cX4_reflectedPart 8 = .ok (.iconst (-1), 1) := dk_2 (dk_at dksX4_reflectedPart_0 8 rfl rfl)
theorem dX4_reflectedPart_9 : decode cX4_reflectedPart 9 = .ok (.if_icmp .eq 8, 3) := dk_159 0 8 (dk_at dksX4_reflectedPart_0 9 rfl rfl)
theorem dX4_reflectedPart_12 : decode cX4_reflectedPart 12 = .ok (.iload_n 3, 1) := dk_29 (dk_at dksX4_reflectedPart_0 12 rfl rfl)
theorem dX4_reflectedPart_13 : decode cX4_reflectedPart 13 = .ok (.iload_n 1, 1) := dk_27 (dk_at dksX4_reflectedPart_0 13 rfl rfl)
theorem dX4_reflectedPart_14 : decode cX4_reflectedPart 14 = .ok (.if_icmp .lt 5, 3) := dk_161 0 5 (dk_at dksX4_reflectedPart_0 14 rfl rfl)
theorem dX4_reflectedPart_17 : decode cX4_reflectedPart 17 = .ok (.iconst 0, 1) := dk_3 (dk_at dksX4_reflectedPart_0 17 rfl rfl)
theorem dX4_reflectedPart_18 : decode cX4_reflectedPart 18 = .ok (.ireturn, 1) := dk_172 (dk_at dksX4_reflectedPart_0 18 rfl rfl)
theorem dX4_reflectedPart_19 : decode cX4_reflectedPart 19 = .ok (.aload_n 0, 1) := dk_42 (dk_at dksX4_reflectedPart_0 19 rfl rfl)
theorem dX4_reflectedPart_20 : decode cX4_reflectedPart 20 = .ok (.getfield 32, 3) := dk_180 0 32 (dk_at dksX4_reflectedPart_0 20 rfl rfl)
theorem dX4_reflectedPart_23 : decode cX4_reflectedPart 23 = .ok (.iload_n 3, 1) := dk_29 (dk_at dksX4_reflectedPart_0 23 rfl rfl)
theorem dX4_reflectedPart_24 : decode cX4_reflectedPart 24 = .ok (.iaload, 1) := dk_46 (dk_at dksX4_reflectedPart_1 0 rfl rfl)
theorem dX4_reflectedPart_25 : decode cX4_reflectedPart 25 = .ok (.i2l, 1) := dk_133 (dk_at dksX4_reflectedPart_1 1 rfl rfl)
theorem dX4_reflectedPart_26 : decode cX4_reflectedPart 26 = .ok (.lstore 4, 2) := dk_55 4 (dk_at dksX4_reflectedPart_1 2 rfl rfl)
theorem dX4_reflectedPart_28 : decode cX4_reflectedPart 28 = .ok (.aload_n 0, 1) := dk_42 (dk_at dksX4_reflectedPart_1 4 rfl rfl)
theorem dX4_reflectedPart_29 : decode cX4_reflectedPart 29 = .ok (.getfield 7, 3) := dk_180 0 7 (dk_at dksX4_reflectedPart_1 5 rfl rfl)
theorem dX4_reflectedPart_32 : decode cX4_reflectedPart 32 = .ok (.iconst 2, 1) := dk_5 (dk_at dksX4_reflectedPart_1 8 rfl rfl)
theorem dX4_reflectedPart_33 : decode cX4_reflectedPart 33 = .ok (.iaload, 1) := dk_46 (dk_at dksX4_reflectedPart_1 9 rfl rfl)
theorem dX4_reflectedPart_34 : decode cX4_reflectedPart 34 = .ok (.iconst 1, 1) := dk_4 (dk_at dksX4_reflectedPart_1 10 rfl rfl)
theorem dX4_reflectedPart_35 : decode cX4_reflectedPart 35 = .ok (.if_icmp .ne 31, 3) := dk_160 0 31 (dk_at dksX4_reflectedPart_1 11 rfl rfl)
theorem dX4_reflectedPart_38 : decode cX4_reflectedPart 38 = .ok (.lload 4, 2) := dk_22 4 (dk_at dksX4_reflectedPart_1 14 rfl rfl)
theorem dX4_reflectedPart_40 : decode cX4_reflectedPart 40 = .ok (.ldc2_w 222, 3) := dk_20 0 222 (dk_at dksX4_reflectedPart_1 16 rfl rfl)
theorem dX4_reflectedPart_43 : decode cX4_reflectedPart 43 = .ok (.aload_n 0, 1) := dk_42 (dk_at dksX4_reflectedPart_1 19 rfl rfl)
theorem dX4_reflectedPart_44 : decode cX4_reflectedPart 44 = .ok (.getfield 23, 3) := dk_180 0 23 (dk_at dksX4_reflectedPart_1 20 rfl rfl)
theorem dX4_reflectedPart_47 : decode cX4_reflectedPart 47 = .ok (.iload_n 3, 1) := dk_29 (dk_at dksX4_reflectedPart_1 23 rfl rfl)
theorem dX4_reflectedPart_48 : decode cX4_reflectedPart 48 = .ok (.iaload, 1) := dk_46 (dk_at dksX4_reflectedPart_2 0 rfl rfl)
theorem dX4_reflectedPart_49 : decode cX4_reflectedPart 49 = .ok (.i2l, 1) := dk_133 (dk_at dksX4_reflectedPart_2 1 rfl rfl)
theorem dX4_reflectedPart_50 : decode cX4_reflectedPart 50 = .ok (.ladd, 1) := dk_97 (dk_at dksX4_reflectedPart_2 2 rfl rfl)
theorem dX4_reflectedPart_51 : decode cX4_reflectedPart 51 = .ok (.lmul, 1) := dk_105 (dk_at dksX4_reflectedPart_2 3 rfl rfl)
theorem dX4_reflectedPart_52 : decode cX4_reflectedPart 52 = .ok (.ldc2_w 222, 3) := dk_20 0 222 (dk_at dksX4_reflectedPart_2 4 rfl rfl)
theorem dX4_reflectedPart_55 : decode cX4_reflectedPart 55 = .ok (.aload_n 0, 1) := dk_42 (dk_at dksX4_reflectedPart_2 7 rfl rfl)
theorem dX4_reflectedPart_56 : decode cX4_reflectedPart 56 = .ok (.getfield 26, 3) := dk_180 0 26 (dk_at dksX4_reflectedPart_2 8 rfl rfl)
theorem dX4_reflectedPart_59 : decode cX4_reflectedPart 59 = .ok (.iload_n 3, 1) := dk_29 (dk_at dksX4_reflectedPart_2 11 rfl rfl)
theorem dX4_reflectedPart_60 : decode cX4_reflectedPart 60 = .ok (.iaload, 1) := dk_46 (dk_at dksX4_reflectedPart_2 12 rfl rfl)
theorem dX4_reflectedPart_61 : decode cX4_reflectedPart 61 = .ok (.i2l, 1) := dk_133 (dk_at dksX4_reflectedPart_2 13 rfl rfl)
theorem dX4_reflectedPart_62 : decode cX4_reflectedPart 62 = .ok (.ladd, 1) := dk_97 (dk_at dksX4_reflectedPart_2 14 rfl rfl)
theorem dX4_reflectedPart_63 : decode cX4_reflectedPart 63 = .ok (.ldiv, 1) := dk_109 (dk_at dksX4_reflectedPart_2 15 rfl rfl)
theorem dX4_reflectedPart_64 : decode cX4_reflectedPart 64 = .ok (.lstore 4, 2) := dk_55 4 (dk_at dksX4_reflectedPart_2 16 rfl rfl)
theorem dX4_reflectedPart_66 : decode cX4_reflectedPart 66 = .ok (.lload 4, 2) := dk_22 4 (dk_at dksX4_reflectedPart_2 18 rfl rfl)
theorem dX4_reflectedPart_68 : decode cX4_reflectedPart 68 = .ok (.aload_n 0, 1) := dk_42 (dk_at dksX4_reflectedPart_2 20 rfl rfl)
theorem dX4_reflectedPart_69 : decode cX4_reflectedPart 69 = .ok (.getfield 7, 3) := dk_180 0 7 (dk_at dksX4_reflectedPart_2 21 rfl rfl)
theorem dX4_reflectedPart_72 : decode cX4_reflectedPart 72 = .ok (.iconst 1, 1) := dk_4 (dk_at dksX4_reflectedPart_3 0 rfl rfl)
theorem dX4_reflectedPart_73 : decode cX4_reflectedPart 73 = .ok (.iaload, 1) := dk_46 (dk_at dksX4_reflectedPart_3 1 rfl rfl)
theorem dX4_reflectedPart_74 : decode cX4_reflectedPart 74 = .ok (.i2l, 1) := dk_133 (dk_at dksX4_reflectedPart_3 2 rfl rfl)
theorem dX4_reflectedPart_75 : decode cX4_reflectedPart 75 = .ok (.lmul, 1) := dk_105 (dk_at dksX4_reflectedPart_3 3 rfl rfl)
theorem dX4_reflectedPart_76 : decode cX4_reflectedPart 76 = .ok (.ldc2_w 224, 3) := dk_20 0 224 (dk_at dksX4_reflectedPart_3 4 rfl rfl)
theorem dX4_reflectedPart_79 : decode cX4_reflectedPart 79 = .ok (.ldiv, 1) := dk_109 (dk_at dksX4_reflectedPart_3 7 rfl rfl)
theorem dX4_reflectedPart_80 : decode cX4_reflectedPart 80 = .ok (.l2i, 1) := dk_136 (dk_at dksX4_reflectedPart_3 8 rfl rfl)
theorem dX4_reflectedPart_81 : decode cX4_reflectedPart 81 = .ok (.ireturn, 1) := dk_172 (dk_at dksX4_reflectedPart_3 9 rfl rfl)
abbrev cX4_beam : ByteArray := prog_25_method_85_code
def yX4_beam : MethodName := ⟨RX4, "beam", "(I)I"⟩
def dkwX4_beam_1 : List UInt8 := [180, 0, 29, 27, 46, 172]
abbrev dktX4_beam_1 : List UInt8 := dkwX4_beam_1 ++ []
def dkwX4_beam_0 : List UInt8 := [42, 3, 181, 0, 49, 27, 184, 0, 56, 154, 0, 9, 42, 4, 182, 0, 64, 172, 42, 3, 182, 0, 250, 42]
abbrev dktX4_beam_0 : List UInt8 := dkwX4_beam_0 ++ dktX4_beam_1
theorem dksX4_beam_0 : cX4_beam.data.toList.drop 0 = dktX4_beam_0 := by decide +kernel
theorem dksX4_beam_1 : cX4_beam.data.toList.drop 24 = dktX4_beam_1 := dk_seg dksX4_beam_0 24 rfl rfl
theorem dX4_beam_0 : decode cX4_beam 0 = .ok (.aload_n 0, 1) := dk_42 (dk_at dksX4_beam_0 0 rfl rfl)
theorem dX4_beam_1 : decode cX4_beam 1 = .ok (.iconst 0, 1) := dk_3 (dk_at dksX4_beam_0 1 rfl rfl)
theorem dX4_beam_2 : decode cX4_beam 2 = .ok (.putfield 49, 3) := dk_181 0 49 (dk_at dksX4_beam_0 2 rfl rfl)
theorem dX4_beam_5 : decode cX4_beam 5 = .ok (.iload_n 1, 1) := dk_27 (dk_at dksX4_beam_0 5 rfl rfl)
theorem dX4_beam_6 : decode cX4_beam 6 = .ok (.invokestatic 56, 3) := dk_184 0 56 (dk_at dksX4_beam_0 6 rfl rfl)
theorem dX4_beam_9 : decode cX4_beam 9 = .ok (.ifCond .ne 9, 3) := dk_154 0 9 (dk_at dksX4_beam_0 9 rfl rfl)
theorem dX4_beam_12 : decode cX4_beam 12 = .ok (.aload_n 0, 1) := dk_42 (dk_at dksX4_beam_0 12 rfl rfl)
theorem dX4_beam_13 : decode cX4_beam 13 = .ok (.iconst 1, 1) := dk_4 (dk_at dksX4_beam_0 13 rfl rfl)
theorem dX4_beam_14 : decode cX4_beam 14 = .ok (.invokevirtual 64, 3) := dk_182 0 64 (dk_at dksX4_beam_0 14 rfl rfl)
theorem dX4_beam_17 : decode cX4_beam 17 = .ok (.ireturn, 1) := dk_172 (dk_at dksX4_beam_0 17 rfl rfl)
theorem dX4_beam_18 : decode cX4_beam 18 = .ok (.aload_n 0, 1) := dk_42 (dk_at dksX4_beam_0 18 rfl rfl)
theorem dX4_beam_19 : decode cX4_beam 19 = .ok (.iconst 0, 1) := dk_3 (dk_at dksX4_beam_0 19 rfl rfl)
theorem dX4_beam_20 : decode cX4_beam 20 = .ok (.invokevirtual 250, 3) := dk_182 0 250 (dk_at dksX4_beam_0 20 rfl rfl)
theorem dX4_beam_23 : decode cX4_beam 23 = .ok (.aload_n 0, 1) := dk_42 (dk_at dksX4_beam_0 23 rfl rfl)
theorem dX4_beam_24 : decode cX4_beam 24 = .ok (.getfield 29, 3) := dk_180 0 29 (dk_at dksX4_beam_1 0 rfl rfl)
theorem dX4_beam_27 : decode cX4_beam 27 = .ok (.iload_n 1, 1) := dk_27 (dk_at dksX4_beam_1 3 rfl rfl)
theorem dX4_beam_28 : decode cX4_beam 28 = .ok (.iaload, 1) := dk_46 (dk_at dksX4_beam_1 4 rfl rfl)
theorem dX4_beam_29 : decode cX4_beam 29 = .ok (.ireturn, 1) := dk_172 (dk_at dksX4_beam_1 5 rfl rfl)
abbrev cX4_layBeam : ByteArray := prog_25_method_83_code
def yX4_layBeam : MethodName := ⟨RX4, "layBeam", "(I)V"⟩
def dkwX4_layBeam_1 : List UInt8 := [28, 182, 0, 247, 132, 2, 1, 167, 255, 231, 177]
abbrev dktX4_layBeam_1 : List UInt8 := dkwX4_layBeam_1 ++ []
def dkwX4_layBeam_0 : List UInt8 := [42, 182, 0, 244, 3, 61, 28, 42, 180, 0, 7, 16, 8, 46, 162, 0, 20, 42, 28, 27, 182, 0, 241, 42]
abbrev dktX4_layBeam_0 : List UInt8 := dkwX4_layBeam_0 ++ dktX4_layBeam_1
theorem dksX4_layBeam_0 : cX4_layBeam.data.toList.drop 0 = dktX4_layBeam_0 := by decide +kernel
theorem dksX4_layBeam_1 : cX4_layBeam.data.toList.drop 24 = dktX4_layBeam_1 := dk_seg dksX4_layBeam_0 24 rfl rfl
theorem dX4_layBeam_0 : decode cX4_layBeam 0 = .ok (.aload_n 0, 1) := dk_42 (dk_at dksX4_layBeam_0 0 rfl rfl)
theorem dX4_layBeam_1 : decode cX4_layBeam 1 = .ok (.invokevirtual 244, 3) := dk_182 0 244 (dk_at dksX4_layBeam_0 1 rfl rfl)
theorem dX4_layBeam_4 : decode cX4_layBeam 4 = .ok (.iconst 0, 1) := dk_3 (dk_at dksX4_layBeam_0 4 rfl rfl)
theorem dX4_layBeam_5 : decode cX4_layBeam 5 = .ok (.istore_n 2, 1) := dk_61 (dk_at dksX4_layBeam_0 5 rfl rfl)
theorem dX4_layBeam_6 : decode cX4_layBeam 6 = .ok (.iload_n 2, 1) := dk_28 (dk_at dksX4_layBeam_0 6 rfl rfl)
theorem dX4_layBeam_7 : decode cX4_layBeam 7 = .ok (.aload_n 0, 1) := dk_42 (dk_at dksX4_layBeam_0 7 rfl rfl)
theorem dX4_layBeam_8 : decode cX4_layBeam 8 = .ok (.getfield 7, 3) := dk_180 0 7 (dk_at dksX4_layBeam_0 8 rfl rfl)
theorem dX4_layBeam_11 : decode cX4_layBeam 11 = .ok (.bipush 8, 2) := dk_16 8 (dk_at dksX4_layBeam_0 11 rfl rfl)
theorem dX4_layBeam_13 : decode cX4_layBeam 13 = .ok (.iaload, 1) := dk_46 (dk_at dksX4_layBeam_0 13 rfl rfl)
theorem dX4_layBeam_14 : decode cX4_layBeam 14 = .ok (.if_icmp .ge 20, 3) := dk_162 0 20 (dk_at dksX4_layBeam_0 14 rfl rfl)
theorem dX4_layBeam_17 : decode cX4_layBeam 17 = .ok (.aload_n 0, 1) := dk_42 (dk_at dksX4_layBeam_0 17 rfl rfl)
theorem dX4_layBeam_18 : decode cX4_layBeam 18 = .ok (.iload_n 2, 1) := dk_28 (dk_at dksX4_layBeam_0 18 rfl rfl)
theorem dX4_layBeam_19 : decode cX4_layBeam 19 = .ok (.iload_n 1, 1) := dk_27 (dk_at dksX4_layBeam_0 19 rfl rfl)
theorem dX4_layBeam_20 : decode cX4_layBeam 20 = .ok (.invokevirtual 241, 3) := dk_182 0 241 (dk_at dksX4_layBeam_0 20 rfl rfl)
theorem dX4_layBeam_23 : decode cX4_layBeam 23 = .ok (.aload_n 0, 1) := dk_42 (dk_at dksX4_layBeam_0 23 rfl rfl)
theorem dX4_layBeam_24 : decode cX4_layBeam 24 = .ok (.iload_n 2, 1) := dk_28 (dk_at dksX4_layBeam_1 0 rfl rfl)
theorem dX4_layBeam_25 : decode cX4_layBeam 25 = .ok (.invokevirtual 247, 3) := dk_182 0 247 (dk_at dksX4_layBeam_1 1 rfl rfl)
theorem dX4_layBeam_28 : decode cX4_layBeam 28 = .ok (.iinc 2 1, 3) := dk_132 2 1 (dk_at dksX4_layBeam_1 4 rfl rfl)
theorem dX4_layBeam_31 : decode cX4_layBeam 31 = .ok (.goto (-25), 3) := dk_167 255 231 (dk_at dksX4_layBeam_1 7 rfl rfl)
theorem dX4_layBeam_34 : decode cX4_layBeam 34 = .ok (.return_, 1) := dk_177 (dk_at dksX4_layBeam_1 10 rfl rfl)
abbrev cX4_clearSignal : ByteArray := prog_25_method_82_code
def yX4_clearSignal : MethodName := ⟨RX4, "clearSignal", "()V"⟩
def dkwX4_clearSignal_0 : List UInt8 := [3, 60, 27, 17, 1, 0, 162, 0, 16, 42, 180, 0, 29, 27, 3, 79, 132, 1, 1, 167, 255, 239, 177]
abbrev dktX4_clearSignal_0 : List UInt8 := dkwX4_clearSignal_0 ++ []
theorem dksX4_clearSignal_0 : cX4_clearSignal.data.toList.drop 0 = dktX4_clearSignal_0 := by decide +kernel
theorem dX4_clearSignal_0 : decode cX4_clearSignal 0 = .ok (.iconst 0, 1) := dk_3 (dk_at dksX4_clearSignal_0 0 rfl rfl)
theorem dX4_clearSignal_1 : decode cX4_clearSignal 1 = .ok (.istore_n 1, 1) := dk_60 (dk_at dksX4_clearSignal_0 1 rfl rfl)
theorem dX4_clearSignal_2 : decode cX4_clearSignal 2 = .ok (.iload_n 1, 1) := dk_27 (dk_at dksX4_clearSignal_0 2 rfl rfl)
theorem dX4_clearSignal_3 : decode cX4_clearSignal 3 = .ok (.sipush 256, 3) := dk_17 1 0 (dk_at dksX4_clearSignal_0 3 rfl rfl)
theorem dX4_clearSignal_6 : decode cX4_clearSignal 6 = .ok (.if_icmp .ge 16, 3) := dk_162 0 16 (dk_at dksX4_clearSignal_0 6 rfl rfl)
theorem dX4_clearSignal_9 : decode cX4_clearSignal 9 = .ok (.aload_n 0, 1) := dk_42 (dk_at dksX4_clearSignal_0 9 rfl rfl)
theorem dX4_clearSignal_10 : decode cX4_clearSignal 10 = .ok (.getfield 29, 3) := dk_180 0 29 (dk_at dksX4_clearSignal_0 10 rfl rfl)
theorem dX4_clearSignal_13 : decode cX4_clearSignal 13 = .ok (.iload_n 1, 1) := dk_27 (dk_at dksX4_clearSignal_0 13 rfl rfl)
theorem dX4_clearSignal_14 : decode cX4_clearSignal 14 = .ok (.iconst 0, 1) := dk_3 (dk_at dksX4_clearSignal_0 14 rfl rfl)
theorem dX4_clearSignal_15 : decode cX4_clearSignal 15 = .ok (.iastore, 1) := dk_79 (dk_at dksX4_clearSignal_0 15 rfl rfl)
theorem dX4_clearSignal_16 : decode cX4_clearSignal 16 = .ok (.iinc 1 1, 3) := dk_132 1 1 (dk_at dksX4_clearSignal_0 16 rfl rfl)
theorem dX4_clearSignal_19 : decode cX4_clearSignal 19 = .ok (.goto (-17), 3) := dk_167 255 239 (dk_at dksX4_clearSignal_0 19 rfl rfl)
theorem dX4_clearSignal_22 : decode cX4_clearSignal 22 = .ok (.return_, 1) := dk_177 (dk_at dksX4_clearSignal_0 22 rfl rfl)
abbrev cX4_addParts : ByteArray := prog_25_method_81_code
def yX4_addParts : MethodName := ⟨RX4, "addParts", "(I)V"⟩
def dkwX4_addParts_1 : List UInt8 := [180, 0, 32, 28, 46, 104, 96, 79, 132, 2, 1, 167, 255, 224, 177]
abbrev dktX4_addParts_1 : List UInt8 := dkwX4_addParts_1 ++ []
def dkwX4_addParts_0 : List UInt8 := [3, 61, 28, 17, 1, 0, 162, 0, 31, 42, 180, 0, 29, 28, 92, 46, 42, 27, 6, 182, 0, 116, 42]
abbrev dktX4_addParts_0 : List UInt8 := dkwX4_addParts_0 ++ dktX4_addParts_1
theorem dksX4_addParts_0 : cX4_addParts.data.toList.drop 0 = dktX4_addParts_0 := by decide +kernel
theorem dksX4_addParts_1 : cX4_addParts.data.toList.drop 23 = dktX4_addParts_1 := dk_seg dksX4_addParts_0 23 rfl rfl
theorem dX4_addParts_0 : decode cX4_addParts 0 = .ok (.iconst 0, 1) := dk_3 (dk_at dksX4_addParts_0 0 rfl rfl)
theorem dX4_addParts_1 : decode cX4_addParts 1 = .ok (.istore_n 2, 1) := dk_61 (dk_at dksX4_addParts_0 1 rfl rfl)
theorem dX4_addParts_2 : decode cX4_addParts 2 = .ok (.iload_n 2, 1) := dk_28 (dk_at dksX4_addParts_0 2 rfl rfl)
theorem dX4_addParts_3 : decode cX4_addParts 3 = .ok (.sipush 256, 3) := dk_17 1 0 (dk_at dksX4_addParts_0 3 rfl rfl)
theorem dX4_addParts_6 : decode cX4_addParts 6 = .ok (.if_icmp .ge 31, 3) := dk_162 0 31 (dk_at dksX4_addParts_0 6 rfl rfl)
theorem dX4_addParts_9 : decode cX4_addParts 9 = .ok (.aload_n 0, 1) := dk_42 (dk_at dksX4_addParts_0 9 rfl rfl)
theorem dX4_addParts_10 : decode cX4_addParts 10 = .ok (.getfield 29, 3) := dk_180 0 29 (dk_at dksX4_addParts_0 10 rfl rfl)
theorem dX4_addParts_13 : decode cX4_addParts 13 = .ok (.iload_n 2, 1) := dk_28 (dk_at dksX4_addParts_0 13 rfl rfl)
theorem dX4_addParts_14 : decode cX4_addParts 14 = .ok (.dup2, 1) := dk_92 (dk_at dksX4_addParts_0 14 rfl rfl)
theorem dX4_addParts_15 : decode cX4_addParts 15 = .ok (.iaload, 1) := dk_46 (dk_at dksX4_addParts_0 15 rfl rfl)
theorem dX4_addParts_16 : decode cX4_addParts 16 = .ok (.aload_n 0, 1) := dk_42 (dk_at dksX4_addParts_0 16 rfl rfl)
theorem dX4_addParts_17 : decode cX4_addParts 17 = .ok (.iload_n 1, 1) := dk_27 (dk_at dksX4_addParts_0 17 rfl rfl)
theorem dX4_addParts_18 : decode cX4_addParts 18 = .ok (.iconst 3, 1) := dk_6 (dk_at dksX4_addParts_0 18 rfl rfl)
theorem dX4_addParts_19 : decode cX4_addParts 19 = .ok (.invokevirtual 116, 3) := dk_182 0 116 (dk_at dksX4_addParts_0 19 rfl rfl)
theorem dX4_addParts_22 : decode cX4_addParts 22 = .ok (.aload_n 0, 1) := dk_42 (dk_at dksX4_addParts_0 22 rfl rfl)
theorem dX4_addParts_23 : decode cX4_addParts 23 = .ok (.getfield 32, 3) := dk_180 0 32 (dk_at dksX4_addParts_1 0 rfl rfl)
theorem dX4_addParts_26 : decode cX4_addParts 26 = .ok (.iload_n 2, 1) := dk_28 (dk_at dksX4_addParts_1 3 rfl rfl)
theorem dX4_addParts_27 : decode cX4_addParts 27 = .ok (.iaload, 1) := dk_46 (dk_at dksX4_addParts_1 4 rfl rfl)
theorem dX4_addParts_28 : decode cX4_addParts 28 = .ok (.imul, 1) := dk_104 (dk_at dksX4_addParts_1 5 rfl rfl)
theorem dX4_addParts_29 : decode cX4_addParts 29 = .ok (.iadd, 1) := dk_96 (dk_at dksX4_addParts_1 6 rfl rfl)
theorem dX4_addParts_30 : decode cX4_addParts 30 = .ok (.iastore, 1) := dk_79 (dk_at dksX4_addParts_1 7 rfl rfl)
theorem dX4_addParts_31 : decode cX4_addParts 31 = .ok (.iinc 2 1, 3) := dk_132 2 1 (dk_at dksX4_addParts_1 8 rfl rfl)
theorem dX4_addParts_34 : decode cX4_addParts 34 = .ok (.goto (-32), 3) := dk_167 255 224 (dk_at dksX4_addParts_1 11 rfl rfl)
theorem dX4_addParts_37 : decode cX4_addParts 37 = .ok (.return_, 1) := dk_177 (dk_at dksX4_addParts_1 14 rfl rfl)
abbrev cX4_measureBeam : ByteArray := prog_25_method_86_code
def yX4_measureBeam : MethodName := ⟨RX4, "measureBeam", "(III)J"⟩
def dkwX4_measureBeam_1 : List UInt8 := [182, 0, 64, 133, 173, 42, 3, 182, 0, 250, 42, 27, 28, 29, 182, 0, 207, 173]
abbrev dktX4_measureBeam_1 : List UInt8 := dkwX4_measureBeam_1 ++ []
def dkwX4_measureBeam_0 : List UInt8 := [42, 3, 181, 0, 49, 27, 3, 7, 184, 0, 52, 153, 0, 11, 28, 29, 184, 0, 200, 154, 0, 10, 42, 4]
abbrev dktX4_measureBeam_0 : List UInt8 := dkwX4_measureBeam_0 ++ dktX4_measureBeam_1
theorem dksX4_measureBeam_0 : cX4_measureBeam.data.toList.drop 0 = dktX4_measureBeam_0 := by decide +kernel
theorem dksX4_measureBeam_1 : cX4_measureBeam.data.toList.drop 24 = dktX4_measureBeam_1 := dk_seg dksX4_measureBeam_0 24 rfl rfl
theorem dX4_measureBeam_0 : decode cX4_measureBeam 0 = .ok (.aload_n 0, 1) := dk_42 (dk_at dksX4_measureBeam_0 0 rfl rfl)
theorem dX4_measureBeam_1 : decode cX4_measureBeam 1 = .ok (.iconst 0, 1) := dk_3 (dk_at dksX4_measureBeam_0 1 rfl rfl)
theorem dX4_measureBeam_2 : decode cX4_measureBeam 2 = .ok (.putfield 49, 3) := dk_181 0 49 (dk_at dksX4_measureBeam_0 2 rfl rfl)
theorem dX4_measureBeam_5 : decode cX4_measureBeam 5 = .ok (.iload_n 1, 1) := dk_27 (dk_at dksX4_measureBeam_0 5 rfl rfl)
theorem dX4_measureBeam_6 : decode cX4_measureBeam 6 = .ok (.iconst 0, 1) := dk_3 (dk_at dksX4_measureBeam_0 6 rfl rfl)
theorem dX4_measureBeam_7 : decode cX4_measureBeam 7 = .ok (.iconst 4, 1) := dk_7 (dk_at dksX4_measureBeam_0 7 rfl rfl)
theorem dX4_measureBeam_8 : decode cX4_measureBeam 8 = .ok (.invokestatic 52, 3) := dk_184 0 52 (dk_at dksX4_measureBeam_0 8 rfl rfl)
theorem dX4_measureBeam_11 : decode cX4_measureBeam 11 = .ok (.ifCond .eq 11, 3) := dk_153 0 11 (dk_at dksX4_measureBeam_0 11 rfl rfl)
theorem dX4_measureBeam_14 : decode cX4_measureBeam 14 = .ok (.iload_n 2, 1) := dk_28 (dk_at dksX4_measureBeam_0 14 rfl rfl)
theorem dX4_measureBeam_15 : decode cX4_measureBeam 15 = .ok (.iload_n 3, 1) := dk_29 (dk_at dksX4_measureBeam_0 15 rfl rfl)
theorem dX4_measureBeam_16 : decode cX4_measureBeam 16 = .ok (.invokestatic 200, 3) := dk_184 0 200 (dk_at dksX4_measureBeam_0 16 rfl rfl)
theorem dX4_measureBeam_19 : decode cX4_measureBeam 19 = .ok (.ifCond .ne 10, 3) := dk_154 0 10 (dk_at dksX4_measureBeam_0 19 rfl rfl)
theorem dX4_measureBeam_22 : decode cX4_measureBeam 22 = .ok (.aload_n 0, 1) := dk_42 (dk_at dksX4_measureBeam_0 22 rfl rfl)
theorem dX4_measureBeam_23 : decode cX4_measureBeam 23 = .ok (.iconst 1, 1) := dk_4 (dk_at dksX4_measureBeam_0 23 rfl rfl)
theorem dX4_measureBeam_24 : decode cX4_measureBeam 24 = .ok (.invokevirtual 64, 3) := dk_182 0 64 (dk_at dksX4_measureBeam_1 0 rfl rfl)
theorem dX4_measureBeam_27 : decode cX4_measureBeam 27 = .ok (.i2l, 1) := dk_133 (dk_at dksX4_measureBeam_1 3 rfl rfl)
theorem dX4_measureBeam_28 : decode cX4_measureBeam 28 = .ok (.lreturn, 1) := dk_173 (dk_at dksX4_measureBeam_1 4 rfl rfl)
theorem dX4_measureBeam_29 : decode cX4_measureBeam 29 = .ok (.aload_n 0, 1) := dk_42 (dk_at dksX4_measureBeam_1 5 rfl rfl)
theorem dX4_measureBeam_30 : decode cX4_measureBeam 30 = .ok (.iconst 0, 1) := dk_3 (dk_at dksX4_measureBeam_1 6 rfl rfl)
theorem dX4_measureBeam_31 : decode cX4_measureBeam 31 = .ok (.invokevirtual 250, 3) := dk_182 0 250 (dk_at dksX4_measureBeam_1 7 rfl rfl)
theorem dX4_measureBeam_34 : decode cX4_measureBeam 34 = .ok (.aload_n 0, 1) := dk_42 (dk_at dksX4_measureBeam_1 10 rfl rfl)
theorem dX4_measureBeam_35 : decode cX4_measureBeam 35 = .ok (.iload_n 1, 1) := dk_27 (dk_at dksX4_measureBeam_1 11 rfl rfl)
theorem dX4_measureBeam_36 : decode cX4_measureBeam 36 = .ok (.iload_n 2, 1) := dk_28 (dk_at dksX4_measureBeam_1 12 rfl rfl)
theorem dX4_measureBeam_37 : decode cX4_measureBeam 37 = .ok (.iload_n 3, 1) := dk_29 (dk_at dksX4_measureBeam_1 13 rfl rfl)
theorem dX4_measureBeam_38 : decode cX4_measureBeam 38 = .ok (.invokevirtual 207, 3) := dk_182 0 207 (dk_at dksX4_measureBeam_1 14 rfl rfl)
theorem dX4_measureBeam_41 : decode cX4_measureBeam 41 = .ok (.lreturn, 1) := dk_173 (dk_at dksX4_measureBeam_1 17 rfl rfl)
abbrev cX4_periodPower : ByteArray := prog_25_method_90_code
def yX4_periodPower : MethodName := ⟨RX4, "periodPower", "(III)J"⟩
def dkwX4_periodPower_1 : List UInt8 := [182, 0, 64, 133, 173, 42, 3, 182, 0, 250, 42, 27, 28, 29, 182, 0, 253, 173]
abbrev dktX4_periodPower_1 : List UInt8 := dkwX4_periodPower_1 ++ []
def dkwX4_periodPower_0 : List UInt8 := [42, 3, 181, 0, 49, 27, 184, 1, 0, 153, 0, 11, 28, 29, 184, 0, 200, 154, 0, 10, 42, 4]
abbrev dktX4_periodPower_0 : List UInt8 := dkwX4_periodPower_0 ++ dktX4_periodPower_1
theorem dksX4_periodPower_0 : cX4_periodPower.data.toList.drop 0 = dktX4_periodPower_0 := by decide +kernel
theorem dksX4_periodPower_1 : cX4_periodPower.data.toList.drop 22 = dktX4_periodPower_1 := dk_seg dksX4_periodPower_0 22 rfl rfl
theorem dX4_periodPower_0 : decode cX4_periodPower 0 = .ok (.aload_n 0, 1) := dk_42 (dk_at dksX4_periodPower_0 0 rfl rfl)
theorem dX4_periodPower_1 : decode cX4_periodPower 1 = .ok (.iconst 0, 1) := dk_3 (dk_at dksX4_periodPower_0 1 rfl rfl)
theorem dX4_periodPower_2 : decode cX4_periodPower 2 = .ok (.putfield 49, 3) := dk_181 0 49 (dk_at dksX4_periodPower_0 2 rfl rfl)
theorem dX4_periodPower_5 : decode cX4_periodPower 5 = .ok (.iload_n 1, 1) := dk_27 (dk_at dksX4_periodPower_0 5 rfl rfl)
theorem dX4_periodPower_6 : decode cX4_periodPower 6 = .ok (.invokestatic 256, 3) := dk_184 1 0 (dk_at dksX4_periodPower_0 6 rfl rfl)
theorem dX4_periodPower_9 : decode cX4_periodPower 9 = .ok (.ifCond .eq 11, 3) := dk_153 0 11 (dk_at dksX4_periodPower_0 9 rfl rfl)
theorem dX4_periodPower_12 : decode cX4_periodPower 12 = .ok (.iload_n 2, 1) := dk_28 (dk_at dksX4_periodPower_0 12 rfl rfl)
theorem dX4_periodPower_13 : decode cX4_periodPower 13 = .ok (.iload_n 3, 1) := dk_29 (dk_at dksX4_periodPower_0 13 rfl rfl)
theorem dX4_periodPower_14 : decode cX4_periodPower 14 = .ok (.invokestatic 200, 3) := dk_184 0 200 (dk_at dksX4_periodPower_0 14 rfl rfl)
theorem dX4_periodPower_17 : decode cX4_periodPower 17 = .ok (.ifCond .ne 10, 3) := dk_154 0 10 (dk_at dksX4_periodPower_0 17 rfl rfl)
theorem dX4_periodPower_20 : decode cX4_periodPower 20 = .ok (.aload_n 0, 1) := dk_42 (dk_at dksX4_periodPower_0 20 rfl rfl)
theorem dX4_periodPower_21 : decode cX4_periodPower 21 = .ok (.iconst 1, 1) := dk_4 (dk_at dksX4_periodPower_0 21 rfl rfl)
theorem dX4_periodPower_22 : decode cX4_periodPower 22 = .ok (.invokevirtual 64, 3) := dk_182 0 64 (dk_at dksX4_periodPower_1 0 rfl rfl)
theorem dX4_periodPower_25 : decode cX4_periodPower 25 = .ok (.i2l, 1) := dk_133 (dk_at dksX4_periodPower_1 3 rfl rfl)
theorem dX4_periodPower_26 : decode cX4_periodPower 26 = .ok (.lreturn, 1) := dk_173 (dk_at dksX4_periodPower_1 4 rfl rfl)
theorem dX4_periodPower_27 : decode cX4_periodPower 27 = .ok (.aload_n 0, 1) := dk_42 (dk_at dksX4_periodPower_1 5 rfl rfl)
theorem dX4_periodPower_28 : decode cX4_periodPower 28 = .ok (.iconst 0, 1) := dk_3 (dk_at dksX4_periodPower_1 6 rfl rfl)
theorem dX4_periodPower_29 : decode cX4_periodPower 29 = .ok (.invokevirtual 250, 3) := dk_182 0 250 (dk_at dksX4_periodPower_1 7 rfl rfl)
theorem dX4_periodPower_32 : decode cX4_periodPower 32 = .ok (.aload_n 0, 1) := dk_42 (dk_at dksX4_periodPower_1 10 rfl rfl)
theorem dX4_periodPower_33 : decode cX4_periodPower 33 = .ok (.iload_n 1, 1) := dk_27 (dk_at dksX4_periodPower_1 11 rfl rfl)
theorem dX4_periodPower_34 : decode cX4_periodPower 34 = .ok (.iload_n 2, 1) := dk_28 (dk_at dksX4_periodPower_1 12 rfl rfl)
theorem dX4_periodPower_35 : decode cX4_periodPower 35 = .ok (.iload_n 3, 1) := dk_29 (dk_at dksX4_periodPower_1 13 rfl rfl)
theorem dX4_periodPower_36 : decode cX4_periodPower 36 = .ok (.invokevirtual 253, 3) := dk_182 0 253 (dk_at dksX4_periodPower_1 14 rfl rfl)
theorem dX4_periodPower_39 : decode cX4_periodPower 39 = .ok (.lreturn, 1) := dk_173 (dk_at dksX4_periodPower_1 17 rfl rfl)
abbrev cX4_isPeriod : ByteArray := prog_25_method_89_code
def yX4_isPeriod : MethodName := ⟨RX4, "isPeriod", "(I)Z"⟩
def dkwX4_isPeriod_0 : List UInt8 := [26, 4, 16, 64, 184, 0, 52, 172]
abbrev dktX4_isPeriod_0 : List UInt8 := dkwX4_isPeriod_0 ++ []
theorem dksX4_isPeriod_0 : cX4_isPeriod.data.toList.drop 0 = dktX4_isPeriod_0 := by decide +kernel
theorem dX4_isPeriod_0 : decode cX4_isPeriod 0 = .ok (.iload_n 0, 1) := dk_26 (dk_at dksX4_isPeriod_0 0 rfl rfl)
theorem dX4_isPeriod_1 : decode cX4_isPeriod 1 = .ok (.iconst 1, 1) := dk_4 (dk_at dksX4_isPeriod_0 1 rfl rfl)
theorem dX4_isPeriod_2 : decode cX4_isPeriod 2 = .ok (.bipush 64, 2) := dk_16 64 (dk_at dksX4_isPeriod_0 2 rfl rfl)
theorem dX4_isPeriod_4 : decode cX4_isPeriod 4 = .ok (.invokestatic 52, 3) := dk_184 0 52 (dk_at dksX4_isPeriod_0 4 rfl rfl)
theorem dX4_isPeriod_7 : decode cX4_isPeriod 7 = .ok (.ireturn, 1) := dk_172 (dk_at dksX4_isPeriod_0 7 rfl rfl)
abbrev cX4_powerOf : ByteArray := prog_25_method_87_code
def yX4_powerOf : MethodName := ⟨RX4, "powerOf", "(III)J"⟩
def dkwX4_powerOf_4 : List UInt8 := [167, 255, 227, 22, 4, 173]
abbrev dktX4_powerOf_4 : List UInt8 := dkwX4_powerOf_4 ++ []
def dkwX4_powerOf_3 : List UInt8 := [22, 4, 42, 180, 0, 35, 21, 6, 47, 42, 180, 0, 35, 21, 6, 47, 105, 97, 55, 4, 132, 6, 1]
abbrev dktX4_powerOf_3 : List UInt8 := dkwX4_powerOf_3 ++ dktX4_powerOf_4
def dkwX4_powerOf_2 : List UInt8 := [21, 4, 46, 133, 97, 80, 132, 4, 1, 167, 255, 225, 9, 55, 4, 3, 54, 6, 21, 6, 27, 162, 0, 29]
abbrev dktX4_powerOf_2 : List UInt8 := dkwX4_powerOf_2 ++ dktX4_powerOf_3
def dkwX4_powerOf_1 : List UInt8 := [54, 4, 21, 4, 29, 163, 0, 31, 42, 180, 0, 35, 21, 4, 28, 100, 27, 112, 92, 47, 42, 180, 0, 29]
abbrev dktX4_powerOf_1 : List UInt8 := dkwX4_powerOf_1 ++ dktX4_powerOf_2
def dkwX4_powerOf_0 : List UInt8 := [3, 54, 4, 21, 4, 27, 162, 0, 17, 42, 180, 0, 35, 21, 4, 9, 80, 132, 4, 1, 167, 255, 239, 28]
abbrev dktX4_powerOf_0 : List UInt8 := dkwX4_powerOf_0 ++ dktX4_powerOf_1
theorem dksX4_powerOf_0 : cX4_powerOf.data.toList.drop 0 = dktX4_powerOf_0 := by decide +kernel
theorem dksX4_powerOf_1 : cX4_powerOf.data.toList.drop 24 = dktX4_powerOf_1 := dk_seg dksX4_powerOf_0 24 rfl rfl
theorem dksX4_powerOf_2 : cX4_powerOf.data.toList.drop 48 = dktX4_powerOf_2 := dk_seg dksX4_powerOf_1 24 rfl rfl
theorem dksX4_powerOf_3 : cX4_powerOf.data.toList.drop 72 = dktX4_powerOf_3 := dk_seg dksX4_powerOf_2 24 rfl rfl
theorem dksX4_powerOf_4 : cX4_powerOf.data.toList.drop 95 = dktX4_powerOf_4 := dk_seg dksX4_powerOf_3 23 rfl rfl
theorem dX4_powerOf_0 : decode cX4_powerOf 0 = .ok (.iconst 0, 1) := dk_3 (dk_at dksX4_powerOf_0 0 rfl rfl)
theorem dX4_powerOf_1 : decode cX4_powerOf 1 = .ok (.istore 4, 2) := dk_54 4 (dk_at dksX4_powerOf_0 1 rfl rfl)
theorem dX4_powerOf_3 : decode cX4_powerOf 3 = .ok (.iload 4, 2) := dk_21 4 (dk_at dksX4_powerOf_0 3 rfl rfl)
theorem dX4_powerOf_5 : decode cX4_powerOf 5 = .ok (.iload_n 1, 1) := dk_27 (dk_at dksX4_powerOf_0 5 rfl rfl)
theorem dX4_powerOf_6 : decode cX4_powerOf 6 = .ok (.if_icmp .ge 17, 3) := dk_162 0 17 (dk_at dksX4_powerOf_0 6 rfl rfl)
theorem dX4_powerOf_9 : decode cX4_powerOf 9 = .ok (.aload_n 0, 1) := dk_42 (dk_at dksX4_powerOf_0 9 rfl rfl)
theorem dX4_powerOf_10 : decode cX4_powerOf 10 = .ok (.getfield 35, 3) := dk_180 0 35 (dk_at dksX4_powerOf_0 10 rfl rfl)
theorem dX4_powerOf_13 : decode cX4_powerOf 13 = .ok (.iload 4, 2) := dk_21 4 (dk_at dksX4_powerOf_0 13 rfl rfl)
theorem dX4_powerOf_15 : decode cX4_powerOf 15 = .ok (.lconst 0, 1) := dk_9 (dk_at dksX4_powerOf_0 15 rfl rfl)
theorem dX4_powerOf_16 : decode cX4_powerOf 16 = .ok (.lastore, 1) := dk_80 (dk_at dksX4_powerOf_0 16 rfl rfl)
theorem dX4_powerOf_17 : decode cX4_powerOf 17 = .ok (.iinc 4 1, 3) := dk_132 4 1 (dk_at dksX4_powerOf_0 17 rfl rfl)
theorem dX4_powerOf_20 : decode cX4_powerOf 20 = .ok (.goto (-17), 3) := dk_167 255 239 (dk_at dksX4_powerOf_0 20 rfl rfl)
theorem dX4_powerOf_23 : decode cX4_powerOf 23 = .ok (.iload_n 2, 1) := dk_28 (dk_at dksX4_powerOf_0 23 rfl rfl)
theorem dX4_powerOf_24 : decode cX4_powerOf 24 = .ok (.istore 4, 2) := dk_54 4 (dk_at dksX4_powerOf_1 0 rfl rfl)
theorem dX4_powerOf_26 : decode cX4_powerOf 26 = .ok (.iload 4, 2) := dk_21 4 (dk_at dksX4_powerOf_1 2 rfl rfl)
theorem dX4_powerOf_28 : decode cX4_powerOf 28 = .ok (.iload_n 3, 1) := dk_29 (dk_at dksX4_powerOf_1 4 rfl rfl)
theorem dX4_powerOf_29 : decode cX4_powerOf 29 = .ok (.if_icmp .gt 31, 3) := dk_163 0 31 (dk_at dksX4_powerOf_1 5 rfl rfl)
theorem dX4_powerOf_32 : decode cX4_powerOf 32 = .ok (.aload_n 0, 1) := dk_42 (dk_at dksX4_powerOf_1 8 rfl rfl)
theorem dX4_powerOf_33 : decode cX4_powerOf 33 = .ok (.getfield 35, 3) := dk_180 0 35 (dk_at dksX4_powerOf_1 9 rfl rfl)
theorem dX4_powerOf_36 : decode cX4_powerOf 36 = .ok (.iload 4, 2) := dk_21 4 (dk_at dksX4_powerOf_1 12 rfl rfl)
theorem dX4_powerOf_38 : decode cX4_powerOf 38 = .ok (.iload_n 2, 1) := dk_28 (dk_at dksX4_powerOf_1 14 rfl rfl)
theorem dX4_powerOf_39 : decode cX4_powerOf 39 = .ok (.isub, 1) := dk_100 (dk_at dksX4_powerOf_1 15 rfl rfl)
theorem dX4_powerOf_40 : decode cX4_powerOf 40 = .ok (.iload_n 1, 1) := dk_27 (dk_at dksX4_powerOf_1 16 rfl rfl)
theorem dX4_powerOf_41 : decode cX4_powerOf 41 = .ok (.irem, 1) := dk_112 (dk_at dksX4_powerOf_1 17 rfl rfl)
theorem dX4_powerOf_42 : decode cX4_powerOf 42 = .ok (.dup2, 1) := dk_92 (dk_at dksX4_powerOf_1 18 rfl rfl)
theorem dX4_powerOf_43 : decode cX4_powerOf 43 = .ok (.laload, 1) := dk_47 (dk_at dksX4_powerOf_1 19 rfl rfl)
theorem dX4_powerOf_44 : decode cX4_powerOf 44 = .ok (.aload_n 0, 1) := dk_42 (dk_at dksX4_powerOf_1 20 rfl rfl)
theorem dX4_powerOf_45 : decode cX4_powerOf 45 = .ok (.getfield 29, 3) := dk_180 0 29 (dk_at dksX4_powerOf_1 21 rfl rfl)
theorem dX4_powerOf_48 : decode cX4_powerOf 48 = .ok (.iload 4, 2) := dk_21 4 (dk_at dksX4_powerOf_2 0 rfl rfl)
theorem dX4_powerOf_50 : decode cX4_powerOf 50 = .ok (.iaload, 1) := dk_46 (dk_at dksX4_powerOf_2 2 rfl rfl)
theorem dX4_powerOf_51 : decode cX4_powerOf 51 = .ok (.i2l, 1) := dk_133 (dk_at dksX4_powerOf_2 3 rfl rfl)
theorem dX4_powerOf_52 : decode cX4_powerOf 52 = .ok (.ladd, 1) := dk_97 (dk_at dksX4_powerOf_2 4 rfl rfl)
theorem dX4_powerOf_53 : decode cX4_powerOf 53 = .ok (.lastore, 1) := dk_80 (dk_at dksX4_powerOf_2 5 rfl rfl)
theorem dX4_powerOf_54 : decode cX4_powerOf 54 = .ok (.iinc 4 1, 3) := dk_132 4 1 (dk_at dksX4_powerOf_2 6 rfl rfl)
theorem dX4_powerOf_57 : decode cX4_powerOf 57 = .ok (.goto (-31), 3) := dk_167 255 225 (dk_at dksX4_powerOf_2 9 rfl rfl)
theorem dX4_powerOf_60 : decode cX4_powerOf 60 = .ok (.lconst 0, 1) := dk_9 (dk_at dksX4_powerOf_2 12 rfl rfl)
theorem dX4_powerOf_61 : decode cX4_powerOf 61 = .ok (.lstore 4, 2) := dk_55 4 (dk_at dksX4_powerOf_2 13 rfl rfl)
theorem dX4_powerOf_63 : decode cX4_powerOf 63 = .ok (.iconst 0, 1) := dk_3 (dk_at dksX4_powerOf_2 15 rfl rfl)
theorem dX4_powerOf_64 : decode cX4_powerOf 64 = .ok (.istore 6, 2) := dk_54 6 (dk_at dksX4_powerOf_2 16 rfl rfl)
theorem dX4_powerOf_66 : decode cX4_powerOf 66 = .ok (.iload 6, 2) := dk_21 6 (dk_at dksX4_powerOf_2 18 rfl rfl)
theorem dX4_powerOf_68 : decode cX4_powerOf 68 = .ok (.iload_n 1, 1) := dk_27 (dk_at dksX4_powerOf_2 20 rfl rfl)
theorem dX4_powerOf_69 : decode cX4_powerOf 69 = .ok (.if_icmp .ge 29, 3) := dk_162 0 29 (dk_at dksX4_powerOf_2 21 rfl rfl)
theorem dX4_powerOf_72 : decode cX4_powerOf 72 = .ok (.lload 4, 2) := dk_22 4 (dk_at dksX4_powerOf_3 0 rfl rfl)
theorem dX4_powerOf_74 : decode cX4_powerOf 74 = .ok (.aload_n 0, 1) := dk_42 (dk_at dksX4_powerOf_3 2 rfl rfl)
theorem dX4_powerOf_75 : decode cX4_powerOf 75 = .ok (.getfield 35, 3) := dk_180 0 35 (dk_at dksX4_powerOf_3 3 rfl rfl)
theorem dX4_powerOf_78 : decode cX4_powerOf 78 = .ok (.iload 6, 2) := dk_21 6 (dk_at dksX4_powerOf_3 6 rfl rfl)
theorem dX4_powerOf_80 : decode cX4_powerOf 80 = .ok (.laload, 1) := dk_47 (dk_at dksX4_powerOf_3 8 rfl rfl)
theorem dX4_powerOf_81 : decode cX4_powerOf 81 = .ok (.aload_n 0, 1) := dk_42 (dk_at dksX4_powerOf_3 9 rfl rfl)
theorem dX4_powerOf_82 : decode cX4_powerOf 82 = .ok (.getfield 35, 3) := dk_180 0 35 (dk_at dksX4_powerOf_3 10 rfl rfl)
theorem dX4_powerOf_85 : decode cX4_powerOf 85 = .ok (.iload 6, 2) := dk_21 6 (dk_at dksX4_powerOf_3 13 rfl rfl)
theorem dX4_powerOf_87 : decode cX4_powerOf 87 = .ok (.laload, 1) := dk_47 (dk_at dksX4_powerOf_3 15 rfl rfl)
theorem dX4_powerOf_88 : decode cX4_powerOf 88 = .ok (.lmul, 1) := dk_105 (dk_at dksX4_powerOf_3 16 rfl rfl)
theorem dX4_powerOf_89 : decode cX4_powerOf 89 = .ok (.ladd, 1) := dk_97 (dk_at dksX4_powerOf_3 17 rfl rfl)
theorem dX4_powerOf_90 : decode cX4_powerOf 90 = .ok (.lstore 4, 2) := dk_55 4 (dk_at dksX4_powerOf_3 18 rfl rfl)
theorem dX4_powerOf_92 : decode cX4_powerOf 92 = .ok (.iinc 6 1, 3) := dk_132 6 1 (dk_at dksX4_powerOf_3 20 rfl rfl)
theorem dX4_powerOf_95 : decode cX4_powerOf 95 = .ok (.goto (-29), 3) := dk_167 255 227 (dk_at dksX4_powerOf_4 0 rfl rfl)
theorem dX4_powerOf_98 : decode cX4_powerOf 98 = .ok (.lload 4, 2) := dk_22 4 (dk_at dksX4_powerOf_4 3 rfl rfl)
theorem dX4_powerOf_100 : decode cX4_powerOf 100 = .ok (.lreturn, 1) := dk_173 (dk_at dksX4_powerOf_4 5 rfl rfl)
abbrev cX4_bestPeriod : ByteArray := prog_25_method_91_code
def yX4_bestPeriod : MethodName := ⟨RX4, "bestPeriod", "(III)I"⟩
def dkwX4_bestPeriod_3 : List UInt8 := [54, 4, 132, 5, 1, 167, 255, 218, 21, 4, 172]
abbrev dktX4_bestPeriod_3 : List UInt8 := dkwX4_bestPeriod_3 ++ []
def dkwX4_bestPeriod_2 : List UInt8 := [28, 29, 182, 1, 3, 42, 21, 4, 28, 29, 182, 1, 3, 148, 158, 0, 8, 21, 5, 167, 0, 5, 21, 4]
abbrev dktX4_bestPeriod_2 : List UInt8 := dkwX4_bestPeriod_2 ++ dktX4_bestPeriod_3
def dkwX4_bestPeriod_1 : List UInt8 := [182, 0, 64, 172, 42, 3, 182, 0, 250, 4, 54, 4, 5, 54, 5, 21, 5, 27, 163, 0, 38, 42, 21, 5]
abbrev dktX4_bestPeriod_1 : List UInt8 := dkwX4_bestPeriod_1 ++ dktX4_bestPeriod_2
def dkwX4_bestPeriod_0 : List UInt8 := [42, 3, 181, 0, 49, 27, 184, 1, 0, 153, 0, 11, 28, 29, 184, 0, 200, 154, 0, 9, 42, 4]
abbrev dktX4_bestPeriod_0 : List UInt8 := dkwX4_bestPeriod_0 ++ dktX4_bestPeriod_1
theorem dksX4_bestPeriod_0 : cX4_bestPeriod.data.toList.drop 0 = dktX4_bestPeriod_0 := by decide +kernel
theorem dksX4_bestPeriod_1 : cX4_bestPeriod.data.toList.drop 22 = dktX4_bestPeriod_1 := dk_seg dksX4_bestPeriod_0 22 rfl rfl
theorem dksX4_bestPeriod_2 : cX4_bestPeriod.data.toList.drop 46 = dktX4_bestPeriod_2 := dk_seg dksX4_bestPeriod_1 24 rfl rfl
theorem dksX4_bestPeriod_3 : cX4_bestPeriod.data.toList.drop 70 = dktX4_bestPeriod_3 := dk_seg dksX4_bestPeriod_2 24 rfl rfl
theorem dX4_bestPeriod_0 : decode cX4_bestPeriod 0 = .ok (.aload_n 0, 1) := dk_42 (dk_at dksX4_bestPeriod_0 0 rfl rfl)
theorem dX4_bestPeriod_1 : decode cX4_bestPeriod 1 = .ok (.iconst 0, 1) := dk_3 (dk_at dksX4_bestPeriod_0 1 rfl rfl)
theorem dX4_bestPeriod_2 : decode cX4_bestPeriod 2 = .ok (.putfield 49, 3) := dk_181 0 49 (dk_at dksX4_bestPeriod_0 2 rfl rfl)
theorem dX4_bestPeriod_5 : decode cX4_bestPeriod 5 = .ok (.iload_n 1, 1) := dk_27 (dk_at dksX4_bestPeriod_0 5 rfl rfl)
theorem dX4_bestPeriod_6 : decode cX4_bestPeriod 6 = .ok (.invokestatic 256, 3) := dk_184 1 0 (dk_at dksX4_bestPeriod_0 6 rfl rfl)
theorem dX4_bestPeriod_9 : decode cX4_bestPeriod 9 = .ok (.ifCond .eq 11, 3) := dk_153 0 11 (dk_at dksX4_bestPeriod_0 9 rfl rfl)
theorem dX4_bestPeriod_12 : decode cX4_bestPeriod 12 = .ok (.iload_n 2, 1) := dk_28 (dk_at dksX4_bestPeriod_0 12 rfl rfl)
theorem dX4_bestPeriod_13 : decode cX4_bestPeriod 13 = .ok (.iload_n 3, 1) := dk_29 (dk_at dksX4_bestPeriod_0 13 rfl rfl)
theorem dX4_bestPeriod_14 : decode cX4_bestPeriod 14 = .ok (.invokestatic 200, 3) := dk_184 0 200 (dk_at dksX4_bestPeriod_0 14 rfl rfl)
theorem dX4_bestPeriod_17 : decode cX4_bestPeriod 17 = .ok (.ifCond .ne 9, 3) := dk_154 0 9 (dk_at dksX4_bestPeriod_0 17 rfl rfl)
theorem dX4_bestPeriod_20 : decode cX4_bestPeriod 20 = .ok (.aload_n 0, 1) := dk_42 (dk_at dksX4_bestPeriod_0 20 rfl rfl)
theorem dX4_bestPeriod_21 : decode cX4_bestPeriod 21 = .ok (.iconst 1, 1) := dk_4 (dk_at dksX4_bestPeriod_0 21 rfl rfl)
theorem dX4_bestPeriod_22 : decode cX4_bestPeriod 22 = .ok (.invokevirtual 64, 3) := dk_182 0 64 (dk_at dksX4_bestPeriod_1 0 rfl rfl)
theorem dX4_bestPeriod_25 : decode cX4_bestPeriod 25 = .ok (.ireturn, 1) := dk_172 (dk_at dksX4_bestPeriod_1 3 rfl rfl)
theorem dX4_bestPeriod_26 : decode cX4_bestPeriod 26 = .ok (.aload_n 0, 1) := dk_42 (dk_at dksX4_bestPeriod_1 4 rfl rfl)
theorem dX4_bestPeriod_27 : decode cX4_bestPeriod 27 = .ok (.iconst 0, 1) := dk_3 (dk_at dksX4_bestPeriod_1 5 rfl rfl)
theorem dX4_bestPeriod_28 : decode cX4_bestPeriod 28 = .ok (.invokevirtual 250, 3) := dk_182 0 250 (dk_at dksX4_bestPeriod_1 6 rfl rfl)
theorem dX4_bestPeriod_31 : decode cX4_bestPeriod 31 = .ok (.iconst 1, 1) := dk_4 (dk_at dksX4_bestPeriod_1 9 rfl rfl)
theorem dX4_bestPeriod_32 : decode cX4_bestPeriod 32 = .ok (.istore 4, 2) := dk_54 4 (dk_at dksX4_bestPeriod_1 10 rfl rfl)
theorem dX4_bestPeriod_34 : decode cX4_bestPeriod 34 = .ok (.iconst 2, 1) := dk_5 (dk_at dksX4_bestPeriod_1 12 rfl rfl)
theorem dX4_bestPeriod_35 : decode cX4_bestPeriod 35 = .ok (.istore 5, 2) := dk_54 5 (dk_at dksX4_bestPeriod_1 13 rfl rfl)
theorem dX4_bestPeriod_37 : decode cX4_bestPeriod 37 = .ok (.iload 5, 2) := dk_21 5 (dk_at dksX4_bestPeriod_1 15 rfl rfl)
theorem dX4_bestPeriod_39 : decode cX4_bestPeriod 39 = .ok (.iload_n 1, 1) := dk_27 (dk_at dksX4_bestPeriod_1 17 rfl rfl)
theorem dX4_bestPeriod_40 : decode cX4_bestPeriod 40 = .ok (.if_icmp .gt 38, 3) := dk_163 0 38 (dk_at dksX4_bestPeriod_1 18 rfl rfl)
theorem dX4_bestPeriod_43 : decode cX4_bestPeriod 43 = .ok (.aload_n 0, 1) := dk_42 (dk_at dksX4_bestPeriod_1 21 rfl rfl)
theorem dX4_bestPeriod_44 : decode cX4_bestPeriod 44 = .ok (.iload 5, 2) := dk_21 5 (dk_at dksX4_bestPeriod_1 22 rfl rfl)
theorem dX4_bestPeriod_46 : decode cX4_bestPeriod 46 = .ok (.iload_n 2, 1) := dk_28 (dk_at dksX4_bestPeriod_2 0 rfl rfl)
theorem dX4_bestPeriod_47 : decode cX4_bestPeriod 47 = .ok (.iload_n 3, 1) := dk_29 (dk_at dksX4_bestPeriod_2 1 rfl rfl)
theorem dX4_bestPeriod_48 : decode cX4_bestPeriod 48 = .ok (.invokevirtual 259, 3) := dk_182 1 3 (dk_at dksX4_bestPeriod_2 2 rfl rfl)
theorem dX4_bestPeriod_51 : decode cX4_bestPeriod 51 = .ok (.aload_n 0, 1) := dk_42 (dk_at dksX4_bestPeriod_2 5 rfl rfl)
theorem dX4_bestPeriod_52 : decode cX4_bestPeriod 52 = .ok (.iload 4, 2) := dk_21 4 (dk_at dksX4_bestPeriod_2 6 rfl rfl)
theorem dX4_bestPeriod_54 : decode cX4_bestPeriod 54 = .ok (.iload_n 2, 1) := dk_28 (dk_at dksX4_bestPeriod_2 8 rfl rfl)
theorem dX4_bestPeriod_55 : decode cX4_bestPeriod 55 = .ok (.iload_n 3, 1) := dk_29 (dk_at dksX4_bestPeriod_2 9 rfl rfl)
theorem dX4_bestPeriod_56 : decode cX4_bestPeriod 56 = .ok (.invokevirtual 259, 3) := dk_182 1 3 (dk_at dksX4_bestPeriod_2 10 rfl rfl)
theorem dX4_bestPeriod_59 : decode cX4_bestPeriod 59 = .ok (.lcmp, 1) := dk_148 (dk_at dksX4_bestPeriod_2 13 rfl rfl)
theorem dX4_bestPeriod_60 : decode cX4_bestPeriod 60 = .ok (.ifCond .le 8, 3) := dk_158 0 8 (dk_at dksX4_bestPeriod_2 14 rfl rfl)
theorem dX4_bestPeriod_63 : decode cX4_bestPeriod 63 = .ok (.iload 5, 2) := dk_21 5 (dk_at dksX4_bestPeriod_2 17 rfl rfl)
theorem dX4_bestPeriod_65 : decode cX4_bestPeriod 65 = .ok (.goto 5, 3) := dk_167 0 5 (dk_at dksX4_bestPeriod_2 19 rfl rfl)
theorem dX4_bestPeriod_68 : decode cX4_bestPeriod 68 = .ok (.iload 4, 2) := dk_21 4 (dk_at dksX4_bestPeriod_2 22 rfl rfl)
theorem dX4_bestPeriod_70 : decode cX4_bestPeriod 70 = .ok (.istore 4, 2) := dk_54 4 (dk_at dksX4_bestPeriod_3 0 rfl rfl)
theorem dX4_bestPeriod_72 : decode cX4_bestPeriod 72 = .ok (.iinc 5 1, 3) := dk_132 5 1 (dk_at dksX4_bestPeriod_3 2 rfl rfl)
theorem dX4_bestPeriod_75 : decode cX4_bestPeriod 75 = .ok (.goto (-38), 3) := dk_167 255 218 (dk_at dksX4_bestPeriod_3 5 rfl rfl)
theorem dX4_bestPeriod_78 : decode cX4_bestPeriod 78 = .ok (.iload 4, 2) := dk_21 4 (dk_at dksX4_bestPeriod_3 8 rfl rfl)
theorem dX4_bestPeriod_80 : decode cX4_bestPeriod 80 = .ok (.ireturn, 1) := dk_172 (dk_at dksX4_bestPeriod_3 10 rfl rfl)
abbrev cX4_strengthOf : ByteArray := prog_25_method_88_code
def yX4_strengthOf : MethodName := ⟨RX4, "strengthOf", "(III)J"⟩
def dkwX4_strengthOf_0 : List UInt8 := [42, 27, 28, 29, 182, 0, 253, 27, 133, 105, 29, 28, 100, 4, 96, 133, 109, 173]
abbrev dktX4_strengthOf_0 : List UInt8 := dkwX4_strengthOf_0 ++ []
theorem dksX4_strengthOf_0 : cX4_strengthOf.data.toList.drop 0 = dktX4_strengthOf_0 := by decide +kernel
theorem dX4_strengthOf_0 : decode cX4_strengthOf 0 = .ok (.aload_n 0, 1) := dk_42 (dk_at dksX4_strengthOf_0 0 rfl rfl)
theorem dX4_strengthOf_1 : decode cX4_strengthOf 1 = .ok (.iload_n 1, 1) := dk_27 (dk_at dksX4_strengthOf_0 1 rfl rfl)
theorem dX4_strengthOf_2 : decode cX4_strengthOf 2 = .ok (.iload_n 2, 1) := dk_28 (dk_at dksX4_strengthOf_0 2 rfl rfl)
theorem dX4_strengthOf_3 : decode cX4_strengthOf 3 = .ok (.iload_n 3, 1) := dk_29 (dk_at dksX4_strengthOf_0 3 rfl rfl)
theorem dX4_strengthOf_4 : decode cX4_strengthOf 4 = .ok (.invokevirtual 253, 3) := dk_182 0 253 (dk_at dksX4_strengthOf_0 4 rfl rfl)
theorem dX4_strengthOf_7 : decode cX4_strengthOf 7 = .ok (.iload_n 1, 1) := dk_27 (dk_at dksX4_strengthOf_0 7 rfl rfl)
theorem dX4_strengthOf_8 : decode cX4_strengthOf 8 = .ok (.i2l, 1) := dk_133 (dk_at dksX4_strengthOf_0 8 rfl rfl)
theorem dX4_strengthOf_9 : decode cX4_strengthOf 9 = .ok (.lmul, 1) := dk_105 (dk_at dksX4_strengthOf_0 9 rfl rfl)
theorem dX4_strengthOf_10 : decode cX4_strengthOf 10 = .ok (.iload_n 3, 1) := dk_29 (dk_at dksX4_strengthOf_0 10 rfl rfl)
theorem dX4_strengthOf_11 : decode cX4_strengthOf 11 = .ok (.iload_n 2, 1) := dk_28 (dk_at dksX4_strengthOf_0 11 rfl rfl)
theorem dX4_strengthOf_12 : decode cX4_strengthOf 12 = .ok (.isub, 1) := dk_100 (dk_at dksX4_strengthOf_0 12 rfl rfl)
theorem dX4_strengthOf_13 : decode cX4_strengthOf 13 = .ok (.iconst 1, 1) := dk_4 (dk_at dksX4_strengthOf_0 13 rfl rfl)
theorem dX4_strengthOf_14 : decode cX4_strengthOf 14 = .ok (.iadd, 1) := dk_96 (dk_at dksX4_strengthOf_0 14 rfl rfl)
theorem dX4_strengthOf_15 : decode cX4_strengthOf 15 = .ok (.i2l, 1) := dk_133 (dk_at dksX4_strengthOf_0 15 rfl rfl)
theorem dX4_strengthOf_16 : decode cX4_strengthOf 16 = .ok (.ldiv, 1) := dk_109 (dk_at dksX4_strengthOf_0 16 rfl rfl)
theorem dX4_strengthOf_17 : decode cX4_strengthOf 17 = .ok (.lreturn, 1) := dk_173 (dk_at dksX4_strengthOf_0 17 rfl rfl)
abbrev cX4_energyBeside : ByteArray := prog_25_method_93_code
def yX4_energyBeside : MethodName := ⟨RX4, "energyBeside", "(III)J"⟩
def dkwX4_energyBeside_1 : List UInt8 := [154, 0, 10, 42, 4, 182, 0, 64, 133, 173, 42, 27, 28, 29, 182, 1, 6, 173]
abbrev dktX4_energyBeside_1 : List UInt8 := dkwX4_energyBeside_1 ++ []
def dkwX4_energyBeside_0 : List UInt8 := [42, 3, 181, 0, 49, 27, 17, 248, 48, 17, 7, 208, 184, 0, 52, 153, 0, 11, 28, 29, 184, 0, 200]
abbrev dktX4_energyBeside_0 : List UInt8 := dkwX4_energyBeside_0 ++ dktX4_energyBeside_1
theorem dksX4_energyBeside_0 : cX4_energyBeside.data.toList.drop 0 = dktX4_energyBeside_0 := by decide +kernel
theorem dksX4_energyBeside_1 : cX4_energyBeside.data.toList.drop 23 = dktX4_energyBeside_1 := dk_seg dksX4_energyBeside_0 23 rfl rfl
theorem dX4_energyBeside_0 : decode cX4_energyBeside 0 = .ok (.aload_n 0, 1) := dk_42 (dk_at dksX4_energyBeside_0 0 rfl rfl)
theorem dX4_energyBeside_1 : decode cX4_energyBeside 1 = .ok (.iconst 0, 1) := dk_3 (dk_at dksX4_energyBeside_0 1 rfl rfl)
theorem dX4_energyBeside_2 : decode cX4_energyBeside 2 = .ok (.putfield 49, 3) := dk_181 0 49 (dk_at dksX4_energyBeside_0 2 rfl rfl)
theorem dX4_energyBeside_5 : decode cX4_energyBeside 5 = .ok (.iload_n 1, 1) := dk_27 (dk_at dksX4_energyBeside_0 5 rfl rfl)
theorem dX4_energyBeside_6 : decode cX4_energyBeside 6 = .ok (.sipush (-2000), 3) := dk_17 248 48 (dk_at dksX4_energyBeside_0 6 rfl rfl)
theorem dX4_energyBeside_9 : decode cX4_energyBeside 9 = .ok (.sipush 2000, 3) := dk_17 7 208 (dk_at dksX4_energyBeside_0 9 rfl rfl)
theorem dX4_energyBeside_12 : decode cX4_energyBeside 12 = .ok (.invokestatic 52, 3) := dk_184 0 52 (dk_at dksX4_energyBeside_0 12 rfl rfl)
theorem dX4_energyBeside_15 : decode cX4_energyBeside 15 = .ok (.ifCond .eq 11, 3) := dk_153 0 11 (dk_at dksX4_energyBeside_0 15 rfl rfl)
theorem dX4_energyBeside_18 : decode cX4_energyBeside 18 = .ok (.iload_n 2, 1) := dk_28 (dk_at dksX4_energyBeside_0 18 rfl rfl)
theorem dX4_energyBeside_19 : decode cX4_energyBeside 19 = .ok (.iload_n 3, 1) := dk_29 (dk_at dksX4_energyBeside_0 19 rfl rfl)
theorem dX4_energyBeside_20 : decode cX4_energyBeside 20 = .ok (.invokestatic 200, 3) := dk_184 0 200 (dk_at dksX4_energyBeside_0 20 rfl rfl)
theorem dX4_energyBeside_23 : decode cX4_energyBeside 23 = .ok (.ifCond .ne 10, 3) := dk_154 0 10 (dk_at dksX4_energyBeside_1 0 rfl rfl)
theorem dX4_energyBeside_26 : decode cX4_energyBeside 26 = .ok (.aload_n 0, 1) := dk_42 (dk_at dksX4_energyBeside_1 3 rfl rfl)
theorem dX4_energyBeside_27 : decode cX4_energyBeside 27 = .ok (.iconst 1, 1) := dk_4 (dk_at dksX4_energyBeside_1 4 rfl rfl)
theorem dX4_energyBeside_28 : decode cX4_energyBeside 28 = .ok (.invokevirtual 64, 3) := dk_182 0 64 (dk_at dksX4_energyBeside_1 5 rfl rfl)
theorem dX4_energyBeside_31 : decode cX4_energyBeside 31 = .ok (.i2l, 1) := dk_133 (dk_at dksX4_energyBeside_1 8 rfl rfl)
theorem dX4_energyBeside_32 : decode cX4_energyBeside 32 = .ok (.lreturn, 1) := dk_173 (dk_at dksX4_energyBeside_1 9 rfl rfl)
theorem dX4_energyBeside_33 : decode cX4_energyBeside 33 = .ok (.aload_n 0, 1) := dk_42 (dk_at dksX4_energyBeside_1 10 rfl rfl)
theorem dX4_energyBeside_34 : decode cX4_energyBeside 34 = .ok (.iload_n 1, 1) := dk_27 (dk_at dksX4_energyBeside_1 11 rfl rfl)
theorem dX4_energyBeside_35 : decode cX4_energyBeside 35 = .ok (.iload_n 2, 1) := dk_28 (dk_at dksX4_energyBeside_1 12 rfl rfl)
theorem dX4_energyBeside_36 : decode cX4_energyBeside 36 = .ok (.iload_n 3, 1) := dk_29 (dk_at dksX4_energyBeside_1 13 rfl rfl)
theorem dX4_energyBeside_37 : decode cX4_energyBeside 37 = .ok (.invokevirtual 262, 3) := dk_182 1 6 (dk_at dksX4_energyBeside_1 14 rfl rfl)
theorem dX4_energyBeside_40 : decode cX4_energyBeside 40 = .ok (.lreturn, 1) := dk_173 (dk_at dksX4_energyBeside_1 17 rfl rfl)
abbrev cX4_energyWith : ByteArray := prog_25_method_92_code
def yX4_energyWith : MethodName := ⟨RX4, "energyWith", "(III)J"⟩
def dkwX4_energyWith_0 : List UInt8 := [42, 27, 182, 0, 250, 42, 28, 29, 182, 0, 184, 173]
abbrev dktX4_energyWith_0 : List UInt8 := dkwX4_energyWith_0 ++ []
theorem dksX4_energyWith_0 : cX4_energyWith.data.toList.drop 0 = dktX4_energyWith_0 := by decide +kernel
theorem dX4_energyWith_0 : decode cX4_energyWith 0 = .ok (.aload_n 0, 1) := dk_42 (dk_at dksX4_energyWith_0 0 rfl rfl)
theorem dX4_energyWith_1 : decode cX4_energyWith 1 = .ok (.iload_n 1, 1) := dk_27 (dk_at dksX4_energyWith_0 1 rfl rfl)
theorem dX4_energyWith_2 : decode cX4_energyWith 2 = .ok (.invokevirtual 250, 3) := dk_182 0 250 (dk_at dksX4_energyWith_0 2 rfl rfl)
theorem dX4_energyWith_5 : decode cX4_energyWith 5 = .ok (.aload_n 0, 1) := dk_42 (dk_at dksX4_energyWith_0 5 rfl rfl)
theorem dX4_energyWith_6 : decode cX4_energyWith 6 = .ok (.iload_n 2, 1) := dk_28 (dk_at dksX4_energyWith_0 6 rfl rfl)
theorem dX4_energyWith_7 : decode cX4_energyWith 7 = .ok (.iload_n 3, 1) := dk_29 (dk_at dksX4_energyWith_0 7 rfl rfl)
theorem dX4_energyWith_8 : decode cX4_energyWith 8 = .ok (.invokevirtual 184, 3) := dk_182 0 184 (dk_at dksX4_energyWith_0 8 rfl rfl)
theorem dX4_energyWith_11 : decode cX4_energyWith 11 = .ok (.lreturn, 1) := dk_173 (dk_at dksX4_energyWith_0 11 rfl rfl)
abbrev cX4_scan : ByteArray := prog_25_method_94_code
def yX4_scan : MethodName := ⟨RX4, "scan", "(IIII)I"⟩
def dkwX4_scan_5 : List UInt8 := [132, 8, 1, 167, 255, 194, 21, 5, 172]
abbrev dktX4_scan_5 : List UInt8 := dkwX4_scan_5 ++ []
def dkwX4_scan_4 : List UInt8 := [158, 0, 11, 21, 9, 54, 5, 22, 10, 55, 6, 21, 9, 5, 21, 8, 104, 96, 54, 9, 167, 255, 211]
abbrev dktX4_scan_4 : List UInt8 := dkwX4_scan_4 ++ dktX4_scan_5
def dkwX4_scan_3 : List UInt8 := [21, 8, 163, 0, 44, 42, 21, 9, 27, 104, 29, 21, 4, 182, 1, 6, 55, 10, 22, 10, 22, 6, 148]
abbrev dktX4_scan_3 : List UInt8 := dkwX4_scan_3 ++ dktX4_scan_4
def dkwX4_scan_2 : List UInt8 := [21, 4, 182, 1, 6, 55, 6, 4, 54, 8, 21, 8, 28, 163, 0, 62, 21, 8, 116, 54, 9, 21, 9]
abbrev dktX4_scan_2 : List UInt8 := dkwX4_scan_2 ++ dktX4_scan_3
def dkwX4_scan_1 : List UInt8 := [153, 0, 12, 29, 21, 4, 184, 0, 200, 154, 0, 9, 42, 4, 182, 0, 64, 172, 3, 54, 5, 42, 3, 29]
abbrev dktX4_scan_1 : List UInt8 := dkwX4_scan_1 ++ dktX4_scan_2
def dkwX4_scan_0 : List UInt8 := [42, 3, 181, 0, 49, 27, 4, 16, 100, 184, 0, 52, 153, 0, 22, 28, 3, 16, 20, 184, 0, 52]
abbrev dktX4_scan_0 : List UInt8 := dkwX4_scan_0 ++ dktX4_scan_1
theorem dksX4_scan_0 : cX4_scan.data.toList.drop 0 = dktX4_scan_0 := by decide +kernel
theorem dksX4_scan_1 : cX4_scan.data.toList.drop 22 = dktX4_scan_1 := dk_seg dksX4_scan_0 22 rfl rfl
theorem dksX4_scan_2 : cX4_scan.data.toList.drop 46 = dktX4_scan_2 := dk_seg dksX4_scan_1 24 rfl rfl
theorem dksX4_scan_3 : cX4_scan.data.toList.drop 69 = dktX4_scan_3 := dk_seg dksX4_scan_2 23 rfl rfl
theorem dksX4_scan_4 : cX4_scan.data.toList.drop 92 = dktX4_scan_4 := dk_seg dksX4_scan_3 23 rfl rfl
theorem dksX4_scan_5 : cX4_scan.data.toList.drop 115 = dktX4_scan_5 := dk_seg dksX4_scan_4 23 rfl rfl
theorem dX4_scan_0 : decode cX4_scan 0 = .ok (.aload_n 0, 1) := dk_42 (dk_at dksX4_scan_0 0 rfl rfl)
theorem dX4_scan_1 : decode cX4_scan 1 = .ok (.iconst 0, 1) := dk_3 (dk_at dksX4_scan_0 1 rfl rfl)
theorem dX4_scan_2 : decode cX4_scan 2 = .ok (.putfield 49, 3) := dk_181 0 49 (dk_at dksX4_scan_0 2 rfl rfl)
theorem dX4_scan_5 : decode cX4_scan 5 = .ok (.iload_n 1, 1) := dk_27 (dk_at dksX4_scan_0 5 rfl rfl)
theorem dX4_scan_6 : decode cX4_scan 6 = .ok (.iconst 1, 1) := dk_4 (dk_at dksX4_scan_0 6 rfl rfl)
theorem dX4_scan_7 : decode cX4_scan 7 = .ok (.bipush 100, 2) := dk_16 100 (dk_at dksX4_scan_0 7 rfl rfl)
theorem dX4_scan_9 : decode cX4_scan 9 = .ok (.invokestatic 52, 3) := dk_184 0 52 (dk_at dksX4_scan_0 9 rfl rfl)
theorem dX4_scan_12 : decode cX4_scan 12 = .ok (.ifCond .eq 22, 3) := dk_153 0 22 (dk_at dksX4_scan_0 12 rfl rfl)
theorem dX4_scan_15 : decode cX4_scan 15 = .ok (.iload_n 2, 1) := dk_28 (dk_at dksX4_scan_0 15 rfl rfl)
theorem dX4_scan_16 : decode cX4_scan 16 = .ok (.iconst 0, 1) := dk_3 (dk_at dksX4_scan_0 16 rfl rfl)
theorem dX4_scan_17 : decode cX4_scan 17 = .ok (.bipush 20, 2) := dk_16 20 (dk_at dksX4_scan_0 17 rfl rfl)
theorem dX4_scan_19 : decode cX4_scan 19 = .ok (.invokestatic 52, 3) := dk_184 0 52 (dk_at dksX4_scan_0 19 rfl rfl)
theorem dX4_scan_22 : decode cX4_scan 22 = .ok (.ifCond .eq 12, 3) := dk_153 0 12 (dk_at dksX4_scan_1 0 rfl rfl)
theorem dX4_scan_25 : decode cX4_scan 25 = .ok (.iload_n 3, 1) := dk_29 (dk_at dksX4_scan_1 3 rfl rfl)
theorem dX4_scan_26 : decode cX4_scan 26 = .ok (.iload 4, 2) := dk_21 4 (dk_at dksX4_scan_1 4 rfl rfl)
theorem dX4_scan_28 : decode cX4_scan 28 = .ok (.invokestatic 200, 3) := dk_184 0 200 (dk_at dksX4_scan_1 6 rfl rfl)
theorem dX4_scan_31 : decode cX4_scan 31 = .ok (.ifCond .ne 9, 3) := dk_154 0 9 (dk_at dksX4_scan_1 9 rfl rfl)
theorem dX4_scan_34 : decode cX4_scan 34 = .ok (.aload_n 0, 1) := dk_42 (dk_at dksX4_scan_1 12 rfl rfl)
theorem dX4_scan_35 : decode cX4_scan 35 = .ok (.iconst 1, 1) := dk_4 (dk_at dksX4_scan_1 13 rfl rfl)
theorem dX4_scan_36 : decode cX4_scan 36 = .ok (.invokevirtual 64, 3) := dk_182 0 64 (dk_at dksX4_scan_1 14 rfl rfl)
theorem dX4_scan_39 : decode cX4_scan 39 = .ok (.ireturn, 1) := dk_172 (dk_at dksX4_scan_1 17 rfl rfl)
theorem dX4_scan_40 : decode cX4_scan 40 = .ok (.iconst 0, 1) := dk_3 (dk_at dksX4_scan_1 18 rfl rfl)
theorem dX4_scan_41 : decode cX4_scan 41 = .ok (.istore 5, 2) := dk_54 5 (dk_at dksX4_scan_1 19 rfl rfl)
theorem dX4_scan_43 : decode cX4_scan 43 = .ok (.aload_n 0, 1) := dk_42 (dk_at dksX4_scan_1 21 rfl rfl)
theorem dX4_scan_44 : decode cX4_scan 44 = .ok (.iconst 0, 1) := dk_3 (dk_at dksX4_scan_1 22 rfl rfl)
theorem dX4_scan_45 : decode cX4_scan 45 = .ok (.iload_n 3, 1) := dk_29 (dk_at dksX4_scan_1 23 rfl rfl)
theorem dX4_scan_46 : decode cX4_scan 46 = .ok (.iload 4, 2) := dk_21 4 (dk_at dksX4_scan_2 0 rfl rfl)
theorem dX4_scan_48 : decode cX4_scan 48 = .ok (.invokevirtual 262, 3) := dk_182 1 6 (dk_at dksX4_scan_2 2 rfl rfl)
theorem dX4_scan_51 : decode cX4_scan 51 = .ok (.lstore 6, 2) := dk_55 6 (dk_at dksX4_scan_2 5 rfl rfl)
theorem dX4_scan_53 : decode cX4_scan 53 = .ok (.iconst 1, 1) := dk_4 (dk_at dksX4_scan_2 7 rfl rfl)
theorem dX4_scan_54 : decode cX4_scan 54 = .ok (.istore 8, 2) := dk_54 8 (dk_at dksX4_scan_2 8 rfl rfl)
theorem dX4_scan_56 : decode cX4_scan 56 = .ok (.iload 8, 2) := dk_21 8 (dk_at dksX4_scan_2 10 rfl rfl)
theorem dX4_scan_58 : decode cX4_scan 58 = .ok (.iload_n 2, 1) := dk_28 (dk_at dksX4_scan_2 12 rfl rfl)
theorem dX4_scan_59 : decode cX4_scan 59 = .ok (.if_icmp .gt 62, 3) := dk_163 0 62 (dk_at dksX4_scan_2 13 rfl rfl)
theorem dX4_scan_62 : decode cX4_scan 62 = .ok (.iload 8, 2) := dk_21 8 (dk_at dksX4_scan_2 16 rfl rfl)
theorem dX4_scan_64 : decode cX4_scan 64 = .ok (.ineg, 1) := dk_116 (dk_at dksX4_scan_2 18 rfl rfl)
theorem dX4_scan_65 : decode cX4_scan 65 = .ok (.istore 9, 2) := dk_54 9 (dk_at dksX4_scan_2 19 rfl rfl)
theorem dX4_scan_67 : decode cX4_scan 67 = .ok (.iload 9, 2) := dk_21 9 (dk_at dksX4_scan_2 21 rfl rfl)
theorem dX4_scan_69 : decode cX4_scan 69 = .ok (.iload 8, 2) := dk_21 8 (dk_at dksX4_scan_3 0 rfl rfl)
theorem dX4_scan_71 : decode cX4_scan 71 = .ok (.if_icmp .gt 44, 3) := dk_163 0 44 (dk_at dksX4_scan_3 2 rfl rfl)
theorem dX4_scan_74 : decode cX4_scan 74 = .ok (.aload_n 0, 1) := dk_42 (dk_at dksX4_scan_3 5 rfl rfl)
theorem dX4_scan_75 : decode cX4_scan 75 = .ok (.iload 9, 2) := dk_21 9 (dk_at dksX4_scan_3 6 rfl rfl)
theorem dX4_scan_77 : decode cX4_scan 77 = .ok (.iload_n 1, 1) := dk_27 (dk_at dksX4_scan_3 8 rfl rfl)
theorem dX4_scan_78 : decode cX4_scan 78 = .ok (.imul, 1) := dk_104 (dk_at dksX4_scan_3 9 rfl rfl)
theorem dX4_scan_79 : decode cX4_scan 79 = .ok (.iload_n 3, 1) := dk_29 (dk_at dksX4_scan_3 10 rfl rfl)
theorem dX4_scan_80 : decode cX4_scan 80 = .ok (.iload 4, 2) := dk_21 4 (dk_at dksX4_scan_3 11 rfl rfl)
theorem dX4_scan_82 : decode cX4_scan 82 = .ok (.invokevirtual 262, 3) := dk_182 1 6 (dk_at dksX4_scan_3 13 rfl rfl)
theorem dX4_scan_85 : decode cX4_scan 85 = .ok (.lstore 10, 2) := dk_55 10 (dk_at dksX4_scan_3 16 rfl rfl)
theorem dX4_scan_87 : decode cX4_scan 87 = .ok (.lload 10, 2) := dk_22 10 (dk_at dksX4_scan_3 18 rfl rfl)
theorem dX4_scan_89 : decode cX4_scan 89 = .ok (.lload 6, 2) := dk_22 6 (dk_at dksX4_scan_3 20 rfl rfl)
theorem dX4_scan_91 : decode cX4_scan 91 = .ok (.lcmp, 1) := dk_148 (dk_at dksX4_scan_3 22 rfl rfl)
theorem dX4_scan_92 : decode cX4_scan 92 = .ok (.ifCond .le 11, 3) := dk_158 0 11 (dk_at dksX4_scan_4 0 rfl rfl)
theorem dX4_scan_95 : decode cX4_scan 95 = .ok (.iload 9, 2) := dk_21 9 (dk_at dksX4_scan_4 3 rfl rfl)
theorem dX4_scan_97 : decode cX4_scan 97 = .ok (.istore 5, 2) := dk_54 5 (dk_at dksX4_scan_4 5 rfl rfl)
theorem dX4_scan_99 : decode cX4_scan 99 = .ok (.lload 10, 2) := dk_22 10 (dk_at dksX4_scan_4 7 rfl rfl)
theorem dX4_scan_101 : decode cX4_scan 101 = .ok (.lstore 6, 2) := dk_55 6 (dk_at dksX4_scan_4 9 rfl rfl)
theorem dX4_scan_103 : decode cX4_scan 103 = .ok (.iload 9, 2) := dk_21 9 (dk_at dksX4_scan_4 11 rfl rfl)
theorem dX4_scan_105 : decode cX4_scan 105 = .ok (.iconst 2, 1) := dk_5 (dk_at dksX4_scan_4 13 rfl rfl)
theorem dX4_scan_106 : decode cX4_scan 106 = .ok (.iload 8, 2) := dk_21 8 (dk_at dksX4_scan_4 14 rfl rfl)
theorem dX4_scan_108 : decode cX4_scan 108 = .ok (.imul, 1) := dk_104 (dk_at dksX4_scan_4 16 rfl rfl)
theorem dX4_scan_109 : decode cX4_scan 109 = .ok (.iadd, 1) := dk_96 (dk_at dksX4_scan_4 17 rfl rfl)
theorem dX4_scan_110 : decode cX4_scan 110 = .ok (.istore 9, 2) := dk_54 9 (dk_at dksX4_scan_4 18 rfl rfl)
theorem dX4_scan_112 : decode cX4_scan 112 = .ok (.goto (-45), 3) := dk_167 255 211 (dk_at dksX4_scan_4 20 rfl rfl)
theorem dX4_scan_115 : decode cX4_scan 115 = .ok (.iinc 8 1, 3) := dk_132 8 1 (dk_at dksX4_scan_5 0 rfl rfl)
theorem dX4_scan_118 : decode cX4_scan 118 = .ok (.goto (-62), 3) := dk_167 255 194 (dk_at dksX4_scan_5 3 rfl rfl)
theorem dX4_scan_121 : decode cX4_scan 121 = .ok (.iload 5, 2) := dk_21 5 (dk_at dksX4_scan_5 6 rfl rfl)
theorem dX4_scan_123 : decode cX4_scan 123 = .ok (.ireturn, 1) := dk_172 (dk_at dksX4_scan_5 8 rfl rfl)
abbrev cX4_bestDirection : ByteArray := prog_25_method_95_code
def yX4_bestDirection : MethodName := ⟨RX4, "bestDirection", "(III)I"⟩
def dkwX4_bestDirection_3 : List UInt8 := [54, 4, 22, 8, 55, 5, 21, 7, 27, 96, 54, 7, 167, 255, 213, 21, 4, 172]
abbrev dktX4_bestDirection_3 : List UInt8 := dkwX4_bestDirection_3 ++ []
def dkwX4_bestDirection_2 : List UInt8 := [42, 21, 7, 182, 1, 9, 42, 28, 29, 182, 0, 184, 55, 8, 22, 8, 22, 5, 148, 158, 0, 11, 21, 7]
abbrev dktX4_bestDirection_2 : List UInt8 := dkwX4_bestDirection_2 ++ dktX4_bestDirection_3
def dkwX4_bestDirection_1 : List UInt8 := [4, 182, 0, 64, 172, 3, 54, 4, 20, 0, 211, 55, 5, 16, 156, 54, 7, 21, 7, 16, 100, 163, 0, 42]
abbrev dktX4_bestDirection_1 : List UInt8 := dkwX4_bestDirection_1 ++ dktX4_bestDirection_2
def dkwX4_bestDirection_0 : List UInt8 := [42, 3, 181, 0, 49, 27, 4, 16, 100, 184, 0, 52, 153, 0, 11, 28, 29, 184, 0, 200, 154, 0, 9, 42]
abbrev dktX4_bestDirection_0 : List UInt8 := dkwX4_bestDirection_0 ++ dktX4_bestDirection_1
theorem dksX4_bestDirection_0 : cX4_bestDirection.data.toList.drop 0 = dktX4_bestDirection_0 := by decide +kernel
theorem dksX4_bestDirection_1 : cX4_bestDirection.data.toList.drop 24 = dktX4_bestDirection_1 := dk_seg dksX4_bestDirection_0 24 rfl rfl
theorem dksX4_bestDirection_2 : cX4_bestDirection.data.toList.drop 48 = dktX4_bestDirection_2 := dk_seg dksX4_bestDirection_1 24 rfl rfl
theorem dksX4_bestDirection_3 : cX4_bestDirection.data.toList.drop 72 = dktX4_bestDirection_3 := dk_seg dksX4_bestDirection_2 24 rfl rfl
theorem dX4_bestDirection_0 : decode cX4_bestDirection 0 = .ok (.aload_n 0, 1) := dk_42 (dk_at dksX4_bestDirection_0 0 rfl rfl)
theorem dX4_bestDirection_1 : decode cX4_bestDirection 1 = .ok (.iconst 0, 1) := dk_3 (dk_at dksX4_bestDirection_0 1 rfl rfl)
theorem dX4_bestDirection_2 : decode cX4_bestDirection 2 = .ok (.putfield 49, 3) := dk_181 0 49 (dk_at dksX4_bestDirection_0 2 rfl rfl)
theorem dX4_bestDirection_5 : decode cX4_bestDirection 5 = .ok (.iload_n 1, 1) := dk_27 (dk_at dksX4_bestDirection_0 5 rfl rfl)
theorem dX4_bestDirection_6 : decode cX4_bestDirection 6 = .ok (.iconst 1, 1) := dk_4 (dk_at dksX4_bestDirection_0 6 rfl rfl)
theorem dX4_bestDirection_7 : decode cX4_bestDirection 7 = .ok (.bipush 100, 2) := dk_16 100 (dk_at dksX4_bestDirection_0 7 rfl rfl)
theorem dX4_bestDirection_9 : decode cX4_bestDirection 9 = .ok (.invokestatic 52, 3) := dk_184 0 52 (dk_at dksX4_bestDirection_0 9 rfl rfl)
theorem dX4_bestDirection_12 : decode cX4_bestDirection 12 = .ok (.ifCond .eq 11, 3) := dk_153 0 11 (dk_at dksX4_bestDirection_0 12 rfl rfl)
theorem dX4_bestDirection_15 : decode cX4_bestDirection 15 = .ok (.iload_n 2, 1) := dk_28 (dk_at dksX4_bestDirection_0 15 rfl rfl)
theorem dX4_bestDirection_16 : decode cX4_bestDirection 16 = .ok (.iload_n 3, 1) := dk_29 (dk_at dksX4_bestDirection_0 16 rfl rfl)
theorem dX4_bestDirection_17 : decode cX4_bestDirection 17 = .ok (.invokestatic 200, 3) := dk_184 0 200 (dk_at dksX4_bestDirection_0 17 rfl rfl)
theorem dX4_bestDirection_20 : decode cX4_bestDirection 20 = .ok (.ifCond .ne 9, 3) := dk_154 0 9 (dk_at dksX4_bestDirection_0 20 rfl rfl)
theorem dX4_bestDirection_23 : decode cX4_bestDirection 23 = .ok (.aload_n 0, 1) := dk_42 (dk_at dksX4_bestDirection_0 23 rfl rfl)
theorem dX4_bestDirection_24 : decode cX4_bestDirection 24 = .ok (.iconst 1, 1) := dk_4 (dk_at dksX4_bestDirection_1 0 rfl rfl)
theorem dX4_bestDirection_25 : decode cX4_bestDirection 25 = .ok (.invokevirtual 64, 3) := dk_182 0 64 (dk_at dksX4_bestDirection_1 1 rfl rfl)
theorem dX4_bestDirection_28 : decode cX4_bestDirection 28 = .ok (.ireturn, 1) := dk_172 (dk_at dksX4_bestDirection_1 4 rfl rfl)
theorem dX4_bestDirection_29 : decode cX4_bestDirection 29 = .ok (.iconst 0, 1) := dk_3 (dk_at dksX4_bestDirection_1 5 rfl rfl)
theorem dX4_bestDirection_30 : decode cX4_bestDirection 30 = .ok (.istore 4, 2) := dk_54 4 (dk_at dksX4_bestDirection_1 6 rfl rfl)
theorem dX4_bestDirection_32 : decode cX4_bestDirection 32 = .ok (.ldc2_w 211, 3) := dk_20 0 211 (dk_at dksX4_bestDirection_1 8 rfl rfl)
theorem dX4_bestDirection_35 : decode cX4_bestDirection 35 = .ok (.lstore 5, 2) := dk_55 5 (dk_at dksX4_bestDirection_1 11 rfl rfl)
theorem dX4_bestDirection_37 : decode cX4_bestDirection 37 = .ok (.bipush (-100), 2) := dk_16 156 (dk_at dksX4_bestDirection_1 13 rfl rfl)
theorem dX4_bestDirection_39 : decode cX4_bestDirection 39 = .ok (.istore 7, 2) := dk_54 7 (dk_at dksX4_bestDirection_1 15 rfl rfl)
theorem dX4_bestDirection_41 : decode cX4_bestDirection 41 = .ok (.iload 7, 2) := dk_21 7 (dk_at dksX4_bestDirection_1 17 rfl rfl)
theorem dX4_bestDirection_43 : decode cX4_bestDirection 43 = .ok (.bipush 100, 2) := dk_16 100 (dk_at dksX4_bestDirection_1 19 rfl rfl)
theorem dX4_bestDirection_45 : decode cX4_bestDirection 45 = .ok (.if_icmp .gt 42, 3) := dk_163 0 42 (dk_at dksX4_bestDirection_1 21 rfl rfl)
theorem dX4_bestDirection_48 : decode cX4_bestDirection 48 = .ok (.aload_n 0, 1) := dk_42 (dk_at dksX4_bestDirection_2 0 rfl rfl)
theorem dX4_bestDirection_49 : decode cX4_bestDirection 49 = .ok (.iload 7, 2) := dk_21 7 (dk_at dksX4_bestDirection_2 1 rfl rfl)
theorem dX4_bestDirection_51 : decode cX4_bestDirection 51 = .ok (.invokevirtual 265, 3) := dk_182 1 9 (dk_at dksX4_bestDirection_2 3 rfl rfl)
theorem dX4_bestDirection_54 : decode cX4_bestDirection 54 = .ok (.aload_n 0, 1) := dk_42 (dk_at dksX4_bestDirection_2 6 rfl rfl)
theorem dX4_bestDirection_55 : decode cX4_bestDirection 55 = .ok (.iload_n 2, 1) := dk_28 (dk_at dksX4_bestDirection_2 7 rfl rfl)
theorem dX4_bestDirection_56 : decode cX4_bestDirection 56 = .ok (.iload_n 3, 1) := dk_29 (dk_at dksX4_bestDirection_2 8 rfl rfl)
theorem dX4_bestDirection_57 : decode cX4_bestDirection 57 = .ok (.invokevirtual 184, 3) := dk_182 0 184 (dk_at dksX4_bestDirection_2 9 rfl rfl)
theorem dX4_bestDirection_60 : decode cX4_bestDirection 60 = .ok (.lstore 8, 2) := dk_55 8 (dk_at dksX4_bestDirection_2 12 rfl rfl)
theorem dX4_bestDirection_62 : decode cX4_bestDirection 62 = .ok (.lload 8, 2) := dk_22 8 (dk_at dksX4_bestDirection_2 14 rfl rfl)
theorem dX4_bestDirection_64 : decode cX4_bestDirection 64 = .ok (.lload 5, 2) := dk_22 5 (dk_at dksX4_bestDirection_2 16 rfl rfl)
theorem dX4_bestDirection_66 : decode cX4_bestDirection 66 = .ok (.lcmp, 1) := dk_148 (dk_at dksX4_bestDirection_2 18 rfl rfl)
theorem dX4_bestDirection_67 : decode cX4_bestDirection 67 = .ok (.ifCond .le 11, 3) := dk_158 0 11 (dk_at dksX4_bestDirection_2 19 rfl rfl)
theorem dX4_bestDirection_70 : decode cX4_bestDirection 70 = .ok (.iload 7, 2) := dk_21 7 (dk_at dksX4_bestDirection_2 22 rfl rfl)
theorem dX4_bestDirection_72 : decode cX4_bestDirection 72 = .ok (.istore 4, 2) := dk_54 4 (dk_at dksX4_bestDirection_3 0 rfl rfl)
theorem dX4_bestDirection_74 : decode cX4_bestDirection 74 = .ok (.lload 8, 2) := dk_22 8 (dk_at dksX4_bestDirection_3 2 rfl rfl)
theorem dX4_bestDirection_76 : decode cX4_bestDirection 76 = .ok (.lstore 5, 2) := dk_55 5 (dk_at dksX4_bestDirection_3 4 rfl rfl)
theorem dX4_bestDirection_78 : decode cX4_bestDirection 78 = .ok (.iload 7, 2) := dk_21 7 (dk_at dksX4_bestDirection_3 6 rfl rfl)
theorem dX4_bestDirection_80 : decode cX4_bestDirection 80 = .ok (.iload_n 1, 1) := dk_27 (dk_at dksX4_bestDirection_3 8 rfl rfl)
theorem dX4_bestDirection_81 : decode cX4_bestDirection 81 = .ok (.iadd, 1) := dk_96 (dk_at dksX4_bestDirection_3 9 rfl rfl)
theorem dX4_bestDirection_82 : decode cX4_bestDirection 82 = .ok (.istore 7, 2) := dk_54 7 (dk_at dksX4_bestDirection_3 10 rfl rfl)
theorem dX4_bestDirection_84 : decode cX4_bestDirection 84 = .ok (.goto (-43), 3) := dk_167 255 213 (dk_at dksX4_bestDirection_3 12 rfl rfl)
theorem dX4_bestDirection_87 : decode cX4_bestDirection 87 = .ok (.iload 4, 2) := dk_21 4 (dk_at dksX4_bestDirection_3 15 rfl rfl)
theorem dX4_bestDirection_89 : decode cX4_bestDirection 89 = .ok (.ireturn, 1) := dk_172 (dk_at dksX4_bestDirection_3 17 rfl rfl)
abbrev cX4_layDirectedBeam : ByteArray := prog_25_method_84_code
def yX4_layDirectedBeam : MethodName := ⟨RX4, "layDirectedBeam", "(I)V"⟩
def dkwX4_layDirectedBeam_1 : List UInt8 := [28, 182, 0, 247, 132, 2, 1, 167, 255, 231, 177]
abbrev dktX4_layDirectedBeam_1 : List UInt8 := dkwX4_layDirectedBeam_1 ++ []
def dkwX4_layDirectedBeam_0 : List UInt8 := [42, 182, 0, 244, 3, 61, 28, 42, 180, 0, 7, 16, 8, 46, 162, 0, 20, 42, 28, 27, 182, 0, 226, 42]
abbrev dktX4_layDirectedBeam_0 : List UInt8 := dkwX4_layDirectedBeam_0 ++ dktX4_layDirectedBeam_1
theorem dksX4_layDirectedBeam_0 : cX4_layDirectedBeam.data.toList.drop 0 = dktX4_layDirectedBeam_0 := by decide +kernel
theorem dksX4_layDirectedBeam_1 : cX4_layDirectedBeam.data.toList.drop 24 = dktX4_layDirectedBeam_1 := dk_seg dksX4_layDirectedBeam_0 24 rfl rfl
theorem dX4_layDirectedBeam_0 : decode cX4_layDirectedBeam 0 = .ok (.aload_n 0, 1) := dk_42 (dk_at dksX4_layDirectedBeam_0 0 rfl rfl)
theorem dX4_layDirectedBeam_1 : decode cX4_layDirectedBeam 1 = .ok (.invokevirtual 244, 3) := dk_182 0 244 (dk_at dksX4_layDirectedBeam_0 1 rfl rfl)
theorem dX4_layDirectedBeam_4 : decode cX4_layDirectedBeam 4 = .ok (.iconst 0, 1) := dk_3 (dk_at dksX4_layDirectedBeam_0 4 rfl rfl)
theorem dX4_layDirectedBeam_5 : decode cX4_layDirectedBeam 5 = .ok (.istore_n 2, 1) := dk_61 (dk_at dksX4_layDirectedBeam_0 5 rfl rfl)
theorem dX4_layDirectedBeam_6 : decode cX4_layDirectedBeam 6 = .ok (.iload_n 2, 1) := dk_28 (dk_at dksX4_layDirectedBeam_0 6 rfl rfl)
theorem dX4_layDirectedBeam_7 : decode cX4_layDirectedBeam 7 = .ok (.aload_n 0, 1) := dk_42 (dk_at dksX4_layDirectedBeam_0 7 rfl rfl)
theorem dX4_layDirectedBeam_8 : decode cX4_layDirectedBeam 8 = .ok (.getfield 7, 3) := dk_180 0 7 (dk_at dksX4_layDirectedBeam_0 8 rfl rfl)
theorem dX4_layDirectedBeam_11 : decode cX4_layDirectedBeam 11 = .ok (.bipush 8, 2) := dk_16 8 (dk_at dksX4_layDirectedBeam_0 11 rfl rfl)
theorem dX4_layDirectedBeam_13 : decode cX4_layDirectedBeam 13 = .ok (.iaload, 1) := dk_46 (dk_at dksX4_layDirectedBeam_0 13 rfl rfl)
theorem dX4_layDirectedBeam_14 : decode cX4_layDirectedBeam 14 = .ok (.if_icmp .ge 20, 3) := dk_162 0 20 (dk_at dksX4_layDirectedBeam_0 14 rfl rfl)
theorem dX4_layDirectedBeam_17 : decode cX4_layDirectedBeam 17 = .ok (.aload_n 0, 1) := dk_42 (dk_at dksX4_layDirectedBeam_0 17 rfl rfl)
theorem dX4_layDirectedBeam_18 : decode cX4_layDirectedBeam 18 = .ok (.iload_n 2, 1) := dk_28 (dk_at dksX4_layDirectedBeam_0 18 rfl rfl)
theorem dX4_layDirectedBeam_19 : decode cX4_layDirectedBeam 19 = .ok (.iload_n 1, 1) := dk_27 (dk_at dksX4_layDirectedBeam_0 19 rfl rfl)
theorem dX4_layDirectedBeam_20 : decode cX4_layDirectedBeam 20 = .ok (.invokevirtual 226, 3) := dk_182 0 226 (dk_at dksX4_layDirectedBeam_0 20 rfl rfl)
theorem dX4_layDirectedBeam_23 : decode cX4_layDirectedBeam 23 = .ok (.aload_n 0, 1) := dk_42 (dk_at dksX4_layDirectedBeam_0 23 rfl rfl)
theorem dX4_layDirectedBeam_24 : decode cX4_layDirectedBeam 24 = .ok (.iload_n 2, 1) := dk_28 (dk_at dksX4_layDirectedBeam_1 0 rfl rfl)
theorem dX4_layDirectedBeam_25 : decode cX4_layDirectedBeam 25 = .ok (.invokevirtual 247, 3) := dk_182 0 247 (dk_at dksX4_layDirectedBeam_1 1 rfl rfl)
theorem dX4_layDirectedBeam_28 : decode cX4_layDirectedBeam 28 = .ok (.iinc 2 1, 3) := dk_132 2 1 (dk_at dksX4_layDirectedBeam_1 4 rfl rfl)
theorem dX4_layDirectedBeam_31 : decode cX4_layDirectedBeam 31 = .ok (.goto (-25), 3) := dk_167 255 231 (dk_at dksX4_layDirectedBeam_1 7 rfl rfl)
theorem dX4_layDirectedBeam_34 : decode cX4_layDirectedBeam 34 = .ok (.return_, 1) := dk_177 (dk_at dksX4_layDirectedBeam_1 10 rfl rfl)
abbrev cX4_spectrum : ByteArray := prog_25_method_96_code
def yX4_spectrum : MethodName := ⟨RX4, "spectrum", "(IIII)J"⟩
def dkwX4_spectrum_2 : List UInt8 := [21, 4, 182, 1, 3, 173]
abbrev dktX4_spectrum_2 : List UInt8 := dkwX4_spectrum_2 ++ []
def dkwX4_spectrum_1 : List UInt8 := [21, 4, 184, 0, 200, 154, 0, 10, 42, 4, 182, 0, 64, 133, 173, 42, 27, 182, 1, 9, 42, 28, 29]
abbrev dktX4_spectrum_1 : List UInt8 := dkwX4_spectrum_1 ++ dktX4_spectrum_2
def dkwX4_spectrum_0 : List UInt8 := [42, 3, 181, 0, 49, 27, 16, 156, 16, 100, 184, 0, 52, 153, 0, 19, 28, 184, 1, 0, 153, 0, 12, 29]
abbrev dktX4_spectrum_0 : List UInt8 := dkwX4_spectrum_0 ++ dktX4_spectrum_1
theorem dksX4_spectrum_0 : cX4_spectrum.data.toList.drop 0 = dktX4_spectrum_0 := by decide +kernel
theorem dksX4_spectrum_1 : cX4_spectrum.data.toList.drop 24 = dktX4_spectrum_1 := dk_seg dksX4_spectrum_0 24 rfl rfl
theorem dksX4_spectrum_2 : cX4_spectrum.data.toList.drop 47 = dktX4_spectrum_2 := dk_seg dksX4_spectrum_1 23 rfl rfl
theorem dX4_spectrum_0 : decode cX4_spectrum 0 = .ok (.aload_n 0, 1) := dk_42 (dk_at dksX4_spectrum_0 0 rfl rfl)
theorem dX4_spectrum_1 : decode cX4_spectrum 1 = .ok (.iconst 0, 1) := dk_3 (dk_at dksX4_spectrum_0 1 rfl rfl)
theorem dX4_spectrum_2 : decode cX4_spectrum 2 = .ok (.putfield 49, 3) := dk_181 0 49 (dk_at dksX4_spectrum_0 2 rfl rfl)
theorem dX4_spectrum_5 : decode cX4_spectrum 5 = .ok (.iload_n 1, 1) := dk_27 (dk_at dksX4_spectrum_0 5 rfl rfl)
theorem dX4_spectrum_6 : decode cX4_spectrum 6 = .ok (.bipush (-100), 2) := dk_16 156 (dk_at dksX4_spectrum_0 6 rfl rfl)
theorem dX4_spectrum_8 : decode cX4_spectrum 8 = .ok (.bipush 100, 2) := dk_16 100 (dk_at dksX4_spectrum_0 8 rfl rfl)
theorem dX4_spectrum_10 : decode cX4_spectrum 10 = .ok (.invokestatic 52, 3) := dk_184 0 52 (dk_at dksX4_spectrum_0 10 rfl rfl)
theorem dX4_spectrum_13 : decode cX4_spectrum 13 = .ok (.ifCond .eq 19, 3) := dk_153 0 19 (dk_at dksX4_spectrum_0 13 rfl rfl)
theorem dX4_spectrum_16 : decode cX4_spectrum 16 = .ok (.iload_n 2, 1) := dk_28 (dk_at dksX4_spectrum_0 16 rfl rfl)
theorem dX4_spectrum_17 : decode cX4_spectrum 17 = .ok (.invokestatic 256, 3) := dk_184 1 0 (dk_at dksX4_spectrum_0 17 rfl rfl)
theorem dX4_spectrum_20 : decode cX4_spectrum 20 = .ok (.ifCond .eq 12, 3) := dk_153 0 12 (dk_at dksX4_spectrum_0 20 rfl rfl)
theorem dX4_spectrum_23 : decode cX4_spectrum 23 = .ok (.iload_n 3, 1) := dk_29 (dk_at dksX4_spectrum_0 23 rfl rfl)
theorem dX4_spectrum_24 : decode cX4_spectrum 24 = .ok (.iload 4, 2) := dk_21 4 (dk_at dksX4_spectrum_1 0 rfl rfl)
theorem dX4_spectrum_26 : decode cX4_spectrum 26 = .ok (.invokestatic 200, 3) := dk_184 0 200 (dk_at dksX4_spectrum_1 2 rfl rfl)
theorem dX4_spectrum_29 : decode cX4_spectrum 29 = .ok (.ifCond .ne 10, 3) := dk_154 0 10 (dk_at dksX4_spectrum_1 5 rfl rfl)
theorem dX4_spectrum_32 : decode cX4_spectrum 32 = .ok (.aload_n 0, 1) := dk_42 (dk_at dksX4_spectrum_1 8 rfl rfl)
theorem dX4_spectrum_33 : decode cX4_spectrum 33 = .ok (.iconst 1, 1) := dk_4 (dk_at dksX4_spectrum_1 9 rfl rfl)
theorem dX4_spectrum_34 : decode cX4_spectrum 34 = .ok (.invokevirtual 64, 3) := dk_182 0 64 (dk_at dksX4_spectrum_1 10 rfl rfl)
theorem dX4_spectrum_37 : decode cX4_spectrum 37 = .ok (.i2l, 1) := dk_133 (dk_at dksX4_spectrum_1 13 rfl rfl)
theorem dX4_spectrum_38 : decode cX4_spectrum 38 = .ok (.lreturn, 1) := dk_173 (dk_at dksX4_spectrum_1 14 rfl rfl)
theorem dX4_spectrum_39 : decode cX4_spectrum 39 = .ok (.aload_n 0, 1) := dk_42 (dk_at dksX4_spectrum_1 15 rfl rfl)
theorem dX4_spectrum_40 : decode cX4_spectrum 40 = .ok (.iload_n 1, 1) := dk_27 (dk_at dksX4_spectrum_1 16 rfl rfl)
theorem dX4_spectrum_41 : decode cX4_spectrum 41 = .ok (.invokevirtual 265, 3) := dk_182 1 9 (dk_at dksX4_spectrum_1 17 rfl rfl)
theorem dX4_spectrum_44 : decode cX4_spectrum 44 = .ok (.aload_n 0, 1) := dk_42 (dk_at dksX4_spectrum_1 20 rfl rfl)
theorem dX4_spectrum_45 : decode cX4_spectrum 45 = .ok (.iload_n 2, 1) := dk_28 (dk_at dksX4_spectrum_1 21 rfl rfl)
theorem dX4_spectrum_46 : decode cX4_spectrum 46 = .ok (.iload_n 3, 1) := dk_29 (dk_at dksX4_spectrum_1 22 rfl rfl)
theorem dX4_spectrum_47 : decode cX4_spectrum 47 = .ok (.iload 4, 2) := dk_21 4 (dk_at dksX4_spectrum_2 0 rfl rfl)
theorem dX4_spectrum_49 : decode cX4_spectrum 49 = .ok (.invokevirtual 259, 3) := dk_182 1 3 (dk_at dksX4_spectrum_2 2 rfl rfl)
theorem dX4_spectrum_52 : decode cX4_spectrum 52 = .ok (.lreturn, 1) := dk_173 (dk_at dksX4_spectrum_2 5 rfl rfl)
abbrev cX4_meanPower : ByteArray := prog_25_method_98_code
def yX4_meanPower : MethodName := ⟨RX4, "meanPower", "(II)D"⟩
def dkwX4_meanPower_1 : List UInt8 := [182, 0, 250, 42, 27, 28, 182, 1, 12, 175]
abbrev dktX4_meanPower_1 : List UInt8 := dkwX4_meanPower_1 ++ []
def dkwX4_meanPower_0 : List UInt8 := [42, 3, 181, 0, 49, 27, 28, 184, 0, 200, 154, 0, 10, 42, 4, 181, 0, 49, 14, 175, 42, 3]
abbrev dktX4_meanPower_0 : List UInt8 := dkwX4_meanPower_0 ++ dktX4_meanPower_1
theorem dksX4_meanPower_0 : cX4_meanPower.data.toList.drop 0 = dktX4_meanPower_0 := by decide +kernel
theorem dksX4_meanPower_1 : cX4_meanPower.data.toList.drop 22 = dktX4_meanPower_1 := dk_seg dksX4_meanPower_0 22 rfl rfl
theorem dX4_meanPower_0 : decode cX4_meanPower 0 = .ok (.aload_n 0, 1) := dk_42 (dk_at dksX4_meanPower_0 0 rfl rfl)
theorem dX4_meanPower_1 : decode cX4_meanPower 1 = .ok (.iconst 0, 1) := dk_3 (dk_at dksX4_meanPower_0 1 rfl rfl)
theorem dX4_meanPower_2 : decode cX4_meanPower 2 = .ok (.putfield 49, 3) := dk_181 0 49 (dk_at dksX4_meanPower_0 2 rfl rfl)
theorem dX4_meanPower_5 : decode cX4_meanPower 5 = .ok (.iload_n 1, 1) := dk_27 (dk_at dksX4_meanPower_0 5 rfl rfl)
theorem dX4_meanPower_6 : decode cX4_meanPower 6 = .ok (.iload_n 2, 1) := dk_28 (dk_at dksX4_meanPower_0 6 rfl rfl)
theorem dX4_meanPower_7 : decode cX4_meanPower 7 = .ok (.invokestatic 200, 3) := dk_184 0 200 (dk_at dksX4_meanPower_0 7 rfl rfl)
theorem dX4_meanPower_10 : decode cX4_meanPower 10 = .ok (.ifCond .ne 10, 3) := dk_154 0 10 (dk_at dksX4_meanPower_0 10 rfl rfl)
theorem dX4_meanPower_13 : decode cX4_meanPower 13 = .ok (.aload_n 0, 1) := dk_42 (dk_at dksX4_meanPower_0 13 rfl rfl)
theorem dX4_meanPower_14 : decode cX4_meanPower 14 = .ok (.iconst 1, 1) := dk_4 (dk_at dksX4_meanPower_0 14 rfl rfl)
theorem dX4_meanPower_15 : decode cX4_meanPower 15 = .ok (.putfield 49, 3) := dk_181 0 49 (dk_at dksX4_meanPower_0 15 rfl rfl)
theorem dX4_meanPower_18 : decode cX4_meanPower 18 = .ok (.dconst 0, 1) := dk_14 (dk_at dksX4_meanPower_0 18 rfl rfl)
theorem dX4_meanPower_19 : decode cX4_meanPower 19 = .ok (.dreturn, 1) := dk_175 (dk_at dksX4_meanPower_0 19 rfl rfl)
theorem dX4_meanPower_20 : decode cX4_meanPower 20 = .ok (.aload_n 0, 1) := dk_42 (dk_at dksX4_meanPower_0 20 rfl rfl)
theorem dX4_meanPower_21 : decode cX4_meanPower 21 = .ok (.iconst 0, 1) := dk_3 (dk_at dksX4_meanPower_0 21 rfl rfl)
theorem dX4_meanPower_22 : decode cX4_meanPower 22 = .ok (.invokevirtual 250, 3) := dk_182 0 250 (dk_at dksX4_meanPower_1 0 rfl rfl)
theorem dX4_meanPower_25 : decode cX4_meanPower 25 = .ok (.aload_n 0, 1) := dk_42 (dk_at dksX4_meanPower_1 3 rfl rfl)
theorem dX4_meanPower_26 : decode cX4_meanPower 26 = .ok (.iload_n 1, 1) := dk_27 (dk_at dksX4_meanPower_1 4 rfl rfl)
theorem dX4_meanPower_27 : decode cX4_meanPower 27 = .ok (.iload_n 2, 1) := dk_28 (dk_at dksX4_meanPower_1 5 rfl rfl)
theorem dX4_meanPower_28 : decode cX4_meanPower 28 = .ok (.invokevirtual 268, 3) := dk_182 1 12 (dk_at dksX4_meanPower_1 6 rfl rfl)
theorem dX4_meanPower_31 : decode cX4_meanPower 31 = .ok (.dreturn, 1) := dk_175 (dk_at dksX4_meanPower_1 9 rfl rfl)
abbrev cX4_meanOf : ByteArray := prog_25_method_97_code
def yX4_meanOf : MethodName := ⟨RX4, "meanOf", "(II)D"⟩
def dkwX4_meanOf_0 : List UInt8 := [42, 27, 28, 182, 0, 184, 138, 28, 27, 100, 4, 96, 135, 111, 175]
abbrev dktX4_meanOf_0 : List UInt8 := dkwX4_meanOf_0 ++ []
theorem dksX4_meanOf_0 : cX4_meanOf.data.toList.drop 0 = dktX4_meanOf_0 := by decide +kernel
theorem dX4_meanOf_0 : decode cX4_meanOf 0 = .ok (.aload_n 0, 1) := dk_42 (dk_at dksX4_meanOf_0 0 rfl rfl)
theorem dX4_meanOf_1 : decode cX4_meanOf 1 = .ok (.iload_n 1, 1) := dk_27 (dk_at dksX4_meanOf_0 1 rfl rfl)
theorem dX4_meanOf_2 : decode cX4_meanOf 2 = .ok (.iload_n 2, 1) := dk_28 (dk_at dksX4_meanOf_0 2 rfl rfl)
theorem dX4_meanOf_3 : decode cX4_meanOf 3 = .ok (.invokevirtual 184, 3) := dk_182 0 184 (dk_at dksX4_meanOf_0 3 rfl rfl)
theorem dX4_meanOf_6 : decode cX4_meanOf 6 = .ok (.l2d, 1) := dk_138 (dk_at dksX4_meanOf_0 6 rfl rfl)
theorem dX4_meanOf_7 : decode cX4_meanOf 7 = .ok (.iload_n 2, 1) := dk_28 (dk_at dksX4_meanOf_0 7 rfl rfl)
theorem dX4_meanOf_8 : decode cX4_meanOf 8 = .ok (.iload_n 1, 1) := dk_27 (dk_at dksX4_meanOf_0 8 rfl rfl)
theorem dX4_meanOf_9 : decode cX4_meanOf 9 = .ok (.isub, 1) := dk_100 (dk_at dksX4_meanOf_0 9 rfl rfl)
theorem dX4_meanOf_10 : decode cX4_meanOf 10 = .ok (.iconst 1, 1) := dk_4 (dk_at dksX4_meanOf_0 10 rfl rfl)
theorem dX4_meanOf_11 : decode cX4_meanOf 11 = .ok (.iadd, 1) := dk_96 (dk_at dksX4_meanOf_0 11 rfl rfl)
theorem dX4_meanOf_12 : decode cX4_meanOf 12 = .ok (.i2d, 1) := dk_135 (dk_at dksX4_meanOf_0 12 rfl rfl)
theorem dX4_meanOf_13 : decode cX4_meanOf 13 = .ok (.ddiv, 1) := dk_111 (dk_at dksX4_meanOf_0 13 rfl rfl)
theorem dX4_meanOf_14 : decode cX4_meanOf 14 = .ok (.dreturn, 1) := dk_175 (dk_at dksX4_meanOf_0 14 rfl rfl)
abbrev cX4_crest : ByteArray := prog_25_method_99_code
def yX4_crest : MethodName := ⟨RX4, "crest", "(II)F"⟩
def dkwX4_crest_2 : List UInt8 := [167, 0, 14, 41, 41, 107, 42, 27, 28, 182, 1, 12, 111, 144, 174]
abbrev dktX4_crest_2 : List UInt8 := dkwX4_crest_2 ++ []
def dkwX4_crest_1 : List UInt8 := [182, 0, 250, 42, 27, 28, 182, 0, 188, 135, 74, 42, 27, 28, 182, 0, 184, 9, 148, 154, 0, 7, 11]
abbrev dktX4_crest_1 : List UInt8 := dkwX4_crest_1 ++ dktX4_crest_2
def dkwX4_crest_0 : List UInt8 := [42, 3, 181, 0, 49, 27, 28, 184, 0, 200, 154, 0, 10, 42, 4, 181, 0, 49, 11, 174, 42, 3]
abbrev dktX4_crest_0 : List UInt8 := dkwX4_crest_0 ++ dktX4_crest_1
theorem dksX4_crest_0 : cX4_crest.data.toList.drop 0 = dktX4_crest_0 := by decide +kernel
theorem dksX4_crest_1 : cX4_crest.data.toList.drop 22 = dktX4_crest_1 := dk_seg dksX4_crest_0 22 rfl rfl
theorem dksX4_crest_2 : cX4_crest.data.toList.drop 45 = dktX4_crest_2 := dk_seg dksX4_crest_1 23 rfl rfl
theorem dX4_crest_0 : decode cX4_crest 0 = .ok (.aload_n 0, 1) := dk_42 (dk_at dksX4_crest_0 0 rfl rfl)
theorem dX4_crest_1 : decode cX4_crest 1 = .ok (.iconst 0, 1) := dk_3 (dk_at dksX4_crest_0 1 rfl rfl)
theorem dX4_crest_2 : decode cX4_crest 2 = .ok (.putfield 49, 3) := dk_181 0 49 (dk_at dksX4_crest_0 2 rfl rfl)
theorem dX4_crest_5 : decode cX4_crest 5 = .ok (.iload_n 1, 1) := dk_27 (dk_at dksX4_crest_0 5 rfl rfl)
theorem dX4_crest_6 : decode cX4_crest 6 = .ok (.iload_n 2, 1) := dk_28 (dk_at dksX4_crest_0 6 rfl rfl)
theorem dX4_crest_7 : decode cX4_crest 7 = .ok (.invokestatic 200, 3) := dk_184 0 200 (dk_at dksX4_crest_0 7 rfl rfl)
theorem dX4_crest_10 : decode cX4_crest 10 = .ok (.ifCond .ne 10, 3) := dk_154 0 10 (dk_at dksX4_crest_0 10 rfl rfl)
theorem dX4_crest_13 : decode cX4_crest 13 = .ok (.aload_n 0, 1) := dk_42 (dk_at dksX4_crest_0 13 rfl rfl)
theorem dX4_crest_14 : decode cX4_crest 14 = .ok (.iconst 1, 1) := dk_4 (dk_at dksX4_crest_0 14 rfl rfl)
theorem dX4_crest_15 : decode cX4_crest 15 = .ok (.putfield 49, 3) := dk_181 0 49 (dk_at dksX4_crest_0 15 rfl rfl)
theorem dX4_crest_18 : decode cX4_crest 18 = .ok (.fconst 0, 1) := dk_11 (dk_at dksX4_crest_0 18 rfl rfl)
theorem dX4_crest_19 : decode cX4_crest 19 = .ok (.freturn, 1) := dk_174 (dk_at dksX4_crest_0 19 rfl rfl)
theorem dX4_crest_20 : decode cX4_crest 20 = .ok (.aload_n 0, 1) := dk_42 (dk_at dksX4_crest_0 20 rfl rfl)
theorem dX4_crest_21 : decode cX4_crest 21 = .ok (.iconst 0, 1) := dk_3 (dk_at dksX4_crest_0 21 rfl rfl)
theorem dX4_crest_22 : decode cX4_crest 22 = .ok (.invokevirtual 250, 3) := dk_182 0 250 (dk_at dksX4_crest_1 0 rfl rfl)
theorem dX4_crest_25 : decode cX4_crest 25 = .ok (.aload_n 0, 1) := dk_42 (dk_at dksX4_crest_1 3 rfl rfl)
theorem dX4_crest_26 : decode cX4_crest 26 = .ok (.iload_n 1, 1) := dk_27 (dk_at dksX4_crest_1 4 rfl rfl)
theorem dX4_crest_27 : decode cX4_crest 27 = .ok (.iload_n 2, 1) := dk_28 (dk_at dksX4_crest_1 5 rfl rfl)
theorem dX4_crest_28 : decode cX4_crest 28 = .ok (.invokevirtual 188, 3) := dk_182 0 188 (dk_at dksX4_crest_1 6 rfl rfl)
theorem dX4_crest_31 : decode cX4_crest 31 = .ok (.i2d, 1) := dk_135 (dk_at dksX4_crest_1 9 rfl rfl)
theorem dX4_crest_32 : decode cX4_crest 32 = .ok (.dstore_n 3, 1) := dk_74 (dk_at dksX4_crest_1 10 rfl rfl)
theorem dX4_crest_33 : decode cX4_crest 33 = .ok (.aload_n 0, 1) := dk_42 (dk_at dksX4_crest_1 11 rfl rfl)
theorem dX4_crest_34 : decode cX4_crest 34 = .ok (.iload_n 1, 1) := dk_27 (dk_at dksX4_crest_1 12 rfl rfl)
theorem dX4_crest_35 : decode cX4_crest 35 = .ok (.iload_n 2, 1) := dk_28 (dk_at dksX4_crest_1 13 rfl rfl)
theorem dX4_crest_36 : decode cX4_crest 36 = .ok (.invokevirtual 184, 3) := dk_182 0 184 (dk_at dksX4_crest_1 14 rfl rfl)
theorem dX4_crest_39 : decode cX4_crest 39 = .ok (.lconst 0, 1) := dk_9 (dk_at dksX4_crest_1 17 rfl rfl)
theorem dX4_crest_40 : decode cX4_crest 40 = .ok (.lcmp, 1) := dk_148 (dk_at dksX4_crest_1 18 rfl rfl)
theorem dX4_crest_41 : decode cX4_crest 41 = .ok (.ifCond .ne 7, 3) := dk_154 0 7 (dk_at dksX4_crest_1 19 rfl rfl)
theorem dX4_crest_44 : decode cX4_crest 44 = .ok (.fconst 0, 1) := dk_11 (dk_at dksX4_crest_1 22 rfl rfl)
theorem dX4_crest_45 : decode cX4_crest 45 = .ok (.goto 14, 3) := dk_167 0 14 (dk_at dksX4_crest_2 0 rfl rfl)
theorem dX4_crest_48 : decode cX4_crest 48 = .ok (.dload_n 3, 1) := dk_41 (dk_at dksX4_crest_2 3 rfl rfl)
theorem dX4_crest_49 : decode cX4_crest 49 = .ok (.dload_n 3, 1) := dk_41 (dk_at dksX4_crest_2 4 rfl rfl)
theorem dX4_crest_50 : decode cX4_crest 50 = .ok (.dmul, 1) := dk_107 (dk_at dksX4_crest_2 5 rfl rfl)
theorem dX4_crest_51 : decode cX4_crest 51 = .ok (.aload_n 0, 1) := dk_42 (dk_at dksX4_crest_2 6 rfl rfl)
theorem dX4_crest_52 : decode cX4_crest 52 = .ok (.iload_n 1, 1) := dk_27 (dk_at dksX4_crest_2 7 rfl rfl)
theorem dX4_crest_53 : decode cX4_crest 53 = .ok (.iload_n 2, 1) := dk_28 (dk_at dksX4_crest_2 8 rfl rfl)
theorem dX4_crest_54 : decode cX4_crest 54 = .ok (.invokevirtual 268, 3) := dk_182 1 12 (dk_at dksX4_crest_2 9 rfl rfl)
theorem dX4_crest_57 : decode cX4_crest 57 = .ok (.ddiv, 1) := dk_111 (dk_at dksX4_crest_2 12 rfl rfl)
theorem dX4_crest_58 : decode cX4_crest 58 = .ok (.d2f, 1) := dk_144 (dk_at dksX4_crest_2 13 rfl rfl)
theorem dX4_crest_59 : decode cX4_crest 59 = .ok (.freturn, 1) := dk_174 (dk_at dksX4_crest_2 14 rfl rfl)
abbrev cX4_appendText : ByteArray := prog_25_method_100_code
def yX4_appendText : MethodName := ⟨RX4, "appendText", "(I)I"⟩
def dkwX4_appendText_2 : List UInt8 := [89, 180, 1, 16, 4, 96, 181, 1, 16, 132, 2, 248, 167, 255, 223, 42, 180, 1, 16, 172]
abbrev dktX4_appendText_2 : List UInt8 := dkwX4_appendText_2 ++ []
def dkwX4_appendText_1 : List UInt8 := [16, 24, 61, 28, 155, 0, 35, 42, 180, 0, 39, 42, 180, 1, 16, 27, 28, 122, 17, 0, 255, 126, 79, 42]
abbrev dktX4_appendText_1 : List UInt8 := dkwX4_appendText_1 ++ dktX4_appendText_2
def dkwX4_appendText_0 : List UInt8 := [42, 3, 181, 0, 49, 42, 180, 1, 16, 7, 96, 17, 1, 244, 164, 0, 9, 42, 4, 182, 0, 64, 172]
abbrev dktX4_appendText_0 : List UInt8 := dkwX4_appendText_0 ++ dktX4_appendText_1
theorem dksX4_appendText_0 : cX4_appendText.data.toList.drop 0 = dktX4_appendText_0 := by decide +kernel
theorem dksX4_appendText_1 : cX4_appendText.data.toList.drop 23 = dktX4_appendText_1 := dk_seg dksX4_appendText_0 23 rfl rfl
theorem dksX4_appendText_2 : cX4_appendText.data.toList.drop 47 = dktX4_appendText_2 := dk_seg dksX4_appendText_1 24 rfl rfl
theorem dX4_appendText_0 : decode cX4_appendText 0 = .ok (.aload_n 0, 1) := dk_42 (dk_at dksX4_appendText_0 0 rfl rfl)
theorem dX4_appendText_1 : decode cX4_appendText 1 = .ok (.iconst 0, 1) := dk_3 (dk_at dksX4_appendText_0 1 rfl rfl)
theorem dX4_appendText_2 : decode cX4_appendText 2 = .ok (.putfield 49, 3) := dk_181 0 49 (dk_at dksX4_appendText_0 2 rfl rfl)
theorem dX4_appendText_5 : decode cX4_appendText 5 = .ok (.aload_n 0, 1) := dk_42 (dk_at dksX4_appendText_0 5 rfl rfl)
theorem dX4_appendText_6 : decode cX4_appendText 6 = .ok (.getfield 272, 3) := dk_180 1 16 (dk_at dksX4_appendText_0 6 rfl rfl)
theorem dX4_appendText_9 : decode cX4_appendText 9 = .ok (.iconst 4, 1) := dk_7 (dk_at dksX4_appendText_0 9 rfl rfl)
theorem dX4_appendText_10 : decode cX4_appendText 10 = .ok (.iadd, 1) := dk_96 (dk_at dksX4_appendText_0 10 rfl rfl)
theorem dX4_appendText_11 : decode cX4_appendText 11 = .ok (.sipush 500, 3) := dk_17 1 244 (dk_at dksX4_appendText_0 11 rfl rfl)
theorem dX4_appendText_14 : decode cX4_appendText 14 = .ok (.if_icmp .le 9, 3) := dk_164 0 9 (dk_at dksX4_appendText_0 14 rfl rfl)
theorem dX4_appendText_17 : decode cX4_appendText 17 = .ok (.aload_n 0, 1) := dk_42 (dk_at dksX4_appendText_0 17 rfl rfl)
theorem dX4_appendText_18 : decode cX4_appendText 18 = .ok (.iconst 1, 1) := dk_4 (dk_at dksX4_appendText_0 18 rfl rfl)
theorem dX4_appendText_19 : decode cX4_appendText 19 = .ok (.invokevirtual 64, 3) := dk_182 0 64 (dk_at dksX4_appendText_0 19 rfl rfl)
theorem dX4_appendText_22 : decode cX4_appendText 22 = .ok (.ireturn, 1) := dk_172 (dk_at dksX4_appendText_0 22 rfl rfl)
theorem dX4_appendText_23 : decode cX4_appendText 23 = .ok (.bipush 24, 2) := dk_16 24 (dk_at dksX4_appendText_1 0 rfl rfl)
theorem dX4_appendText_25 : decode cX4_appendText 25 = .ok (.istore_n 2, 1) := dk_61 (dk_at dksX4_appendText_1 2 rfl rfl)
theorem dX4_appendText_26 : decode cX4_appendText 26 = .ok (.iload_n 2, 1) := dk_28 (dk_at dksX4_appendText_1 3 rfl rfl)
theorem dX4_appendText_27 : decode cX4_appendText 27 = .ok (.ifCond .lt 35, 3) := dk_155 0 35 (dk_at dksX4_appendText_1 4 rfl rfl)
theorem dX4_appendText_30 : decode cX4_appendText 30 = .ok (.aload_n 0, 1) := dk_42 (dk_at dksX4_appendText_1 7 rfl rfl)
theorem dX4_appendText_31 : decode cX4_appendText 31 = .ok (.getfield 39, 3) := dk_180 0 39 (dk_at dksX4_appendText_1 8 rfl rfl)
theorem dX4_appendText_34 : decode cX4_appendText 34 = .ok (.aload_n 0, 1) := dk_42 (dk_at dksX4_appendText_1 11 rfl rfl)
theorem dX4_appendText_35 : decode cX4_appendText 35 = .ok (.getfield 272, 3) := dk_180 1 16 (dk_at dksX4_appendText_1 12 rfl rfl)
theorem dX4_appendText_38 : decode cX4_appendText 38 = .ok (.iload_n 1, 1) := dk_27 (dk_at dksX4_appendText_1 15 rfl rfl)
theorem dX4_appendText_39 : decode cX4_appendText 39 = .ok (.iload_n 2, 1) := dk_28 (dk_at dksX4_appendText_1 16 rfl rfl)
theorem dX4_appendText_40 : decode cX4_appendText 40 = .ok (.ishr, 1) := dk_122 (dk_at dksX4_appendText_1 17 rfl rfl)
theorem dX4_appendText_41 : decode cX4_appendText 41 = .ok (.sipush 255, 3) := dk_17 0 255 (dk_at dksX4_appendText_1 18 rfl rfl)
theorem dX4_appendText_44 : decode cX4_appendText 44 = .ok (.iand, 1) := dk_126 (dk_at dksX4_appendText_1 21 rfl rfl)
theorem dX4_appendText_45 : decode cX4_appendText 45 = .ok (.iastore, 1) := dk_79 (dk_at dksX4_appendText_1 22 rfl rfl)
theorem dX4_appendText_46 : decode cX4_appendText 46 = .ok (.aload_n 0, 1) := dk_42 (dk_at dksX4_appendText_1 23 rfl rfl)
theorem dX4_appendText_47 : decode cX4_appendText 47 = .ok (.dup, 1) := dk_89 (dk_at dksX4_appendText_2 0 rfl rfl)
theorem dX4_appendText_48 : decode cX4_appendText 48 = .ok (.getfield 272, 3) := dk_180 1 16 (dk_at dksX4_appendText_2 1 rfl rfl)
theorem dX4_appendText_51 : decode cX4_appendText 51 = .ok (.iconst 1, 1) := dk_4 (dk_at dksX4_appendText_2 4 rfl rfl)
theorem dX4_appendText_52 : decode cX4_appendText 52 = .ok (.iadd, 1) := dk_96 (dk_at dksX4_appendText_2 5 rfl rfl)
theorem dX4_appendText_53 : decode cX4_appendText 53 = .ok (.putfield 272, 3) := dk_181 1 16 (dk_at dksX4_appendText_2 6 rfl rfl)
theorem dX4_appendText_56 : decode cX4_appendText 56 = .ok (.iinc 2 (-8), 3) := dk_132 2 248 (dk_at dksX4_appendText_2 9 rfl rfl)
theorem dX4_appendText_59 : decode cX4_appendText 59 = .ok (.goto (-33), 3) := dk_167 255 223 (dk_at dksX4_appendText_2 12 rfl rfl)
theorem dX4_appendText_62 : decode cX4_appendText 62 = .ok (.aload_n 0, 1) := dk_42 (dk_at dksX4_appendText_2 15 rfl rfl)
theorem dX4_appendText_63 : decode cX4_appendText 63 = .ok (.getfield 272, 3) := dk_180 1 16 (dk_at dksX4_appendText_2 16 rfl rfl)
theorem dX4_appendText_66 : decode cX4_appendText 66 = .ok (.ireturn, 1) := dk_172 (dk_at dksX4_appendText_2 19 rfl rfl)
abbrev cX4_truncateText : ByteArray := prog_25_method_101_code
def yX4_truncateText : MethodName := ⟨RX4, "truncateText", "(I)I"⟩
def dkwX4_truncateText_1 : List UInt8 := [27, 181, 1, 16, 42, 180, 1, 16, 172]
abbrev dktX4_truncateText_1 : List UInt8 := dkwX4_truncateText_1 ++ []
def dkwX4_truncateText_0 : List UInt8 := [42, 3, 181, 0, 49, 27, 3, 42, 180, 1, 16, 184, 0, 52, 154, 0, 9, 42, 4, 182, 0, 64, 172, 42]
abbrev dktX4_truncateText_0 : List UInt8 := dkwX4_truncateText_0 ++ dktX4_truncateText_1
theorem dksX4_truncateText_0 : cX4_truncateText.data.toList.drop 0 = dktX4_truncateText_0 := by decide +kernel
theorem dksX4_truncateText_1 : cX4_truncateText.data.toList.drop 24 = dktX4_truncateText_1 := dk_seg dksX4_truncateText_0 24 rfl rfl
theorem dX4_truncateText_0 : decode cX4_truncateText 0 = .ok (.aload_n 0, 1) := dk_42 (dk_at dksX4_truncateText_0 0 rfl rfl)
theorem dX4_truncateText_1 : decode cX4_truncateText 1 = .ok (.iconst 0, 1) := dk_3 (dk_at dksX4_truncateText_0 1 rfl rfl)
theorem dX4_truncateText_2 : decode cX4_truncateText 2 = .ok (.putfield 49, 3) := dk_181 0 49 (dk_at dksX4_truncateText_0 2 rfl rfl)
theorem dX4_truncateText_5 : decode cX4_truncateText 5 = .ok (.iload_n 1, 1) := dk_27 (dk_at dksX4_truncateText_0 5 rfl rfl)
theorem dX4_truncateText_6 : decode cX4_truncateText 6 = .ok (.iconst 0, 1) := dk_3 (dk_at dksX4_truncateText_0 6 rfl rfl)
theorem dX4_truncateText_7 : decode cX4_truncateText 7 = .ok (.aload_n 0, 1) := dk_42 (dk_at dksX4_truncateText_0 7 rfl rfl)
theorem dX4_truncateText_8 : decode cX4_truncateText 8 = .ok (.getfield 272, 3) := dk_180 1 16 (dk_at dksX4_truncateText_0 8 rfl rfl)
theorem dX4_truncateText_11 : decode cX4_truncateText 11 = .ok (.invokestatic 52, 3) := dk_184 0 52 (dk_at dksX4_truncateText_0 11 rfl rfl)
theorem dX4_truncateText_14 : decode cX4_truncateText 14 = .ok (.ifCond .ne 9, 3) := dk_154 0 9 (dk_at dksX4_truncateText_0 14 rfl rfl)
theorem dX4_truncateText_17 : decode cX4_truncateText 17 = .ok (.aload_n 0, 1) := dk_42 (dk_at dksX4_truncateText_0 17 rfl rfl)
theorem dX4_truncateText_18 : decode cX4_truncateText 18 = .ok (.iconst 1, 1) := dk_4 (dk_at dksX4_truncateText_0 18 rfl rfl)
theorem dX4_truncateText_19 : decode cX4_truncateText 19 = .ok (.invokevirtual 64, 3) := dk_182 0 64 (dk_at dksX4_truncateText_0 19 rfl rfl)
theorem dX4_truncateText_22 : decode cX4_truncateText 22 = .ok (.ireturn, 1) := dk_172 (dk_at dksX4_truncateText_0 22 rfl rfl)
theorem dX4_truncateText_23 : decode cX4_truncateText 23 = .ok (.aload_n 0, 1) := dk_42 (dk_at dksX4_truncateText_0 23 rfl rfl)
theorem dX4_truncateText_24 : decode cX4_truncateText 24 = .ok (.iload_n 1, 1) := dk_27 (dk_at dksX4_truncateText_1 0 rfl rfl)
theorem dX4_truncateText_25 : decode cX4_truncateText 25 = .ok (.putfield 272, 3) := dk_181 1 16 (dk_at dksX4_truncateText_1 1 rfl rfl)
theorem dX4_truncateText_28 : decode cX4_truncateText 28 = .ok (.aload_n 0, 1) := dk_42 (dk_at dksX4_truncateText_1 4 rfl rfl)
theorem dX4_truncateText_29 : decode cX4_truncateText 29 = .ok (.getfield 272, 3) := dk_180 1 16 (dk_at dksX4_truncateText_1 5 rfl rfl)
theorem dX4_truncateText_32 : decode cX4_truncateText 32 = .ok (.ireturn, 1) := dk_172 (dk_at dksX4_truncateText_1 8 rfl rfl)
abbrev cX4_load : ByteArray := prog_25_method_115_code
def yX4_load : MethodName := ⟨RX4, "load", "()I"⟩
def dkwX4_load_4 : List UInt8 := [172, 27, 172]
abbrev dktX4_load_4 : List UInt8 := dkwX4_load_4 ++ []
def dkwX4_load_3 : List UInt8 := [181, 1, 16, 42, 180, 1, 61, 153, 0, 18, 42, 180, 0, 13, 3, 42, 180, 0, 7, 3, 184, 1, 105, 2]
abbrev dktX4_load_3 : List UInt8 := dkwX4_load_3 ++ dktX4_load_4
def dkwX4_load_2 : List UInt8 := [154, 0, 20, 42, 180, 1, 38, 153, 0, 13, 42, 182, 1, 109, 132, 1, 1, 167, 255, 235, 42, 3]
abbrev dktX4_load_2 : List UInt8 := dkwX4_load_2 ++ dktX4_load_3
def dkwX4_load_1 : List UInt8 := [181, 1, 61, 42, 2, 181, 0, 42, 42, 3, 181, 1, 19, 42, 182, 1, 64, 3, 60, 42, 180, 1, 61]
abbrev dktX4_load_1 : List UInt8 := dkwX4_load_1 ++ dktX4_load_2
def dkwX4_load_0 : List UInt8 := [42, 3, 181, 0, 49, 42, 180, 0, 7, 3, 42, 180, 0, 13, 3, 184, 1, 105, 42, 182, 0, 46, 42, 3]
abbrev dktX4_load_0 : List UInt8 := dkwX4_load_0 ++ dktX4_load_1
theorem dksX4_load_0 : cX4_load.data.toList.drop 0 = dktX4_load_0 := by decide +kernel
theorem dksX4_load_1 : cX4_load.data.toList.drop 24 = dktX4_load_1 := dk_seg dksX4_load_0 24 rfl rfl
theorem dksX4_load_2 : cX4_load.data.toList.drop 47 = dktX4_load_2 := dk_seg dksX4_load_1 23 rfl rfl
theorem dksX4_load_3 : cX4_load.data.toList.drop 69 = dktX4_load_3 := dk_seg dksX4_load_2 22 rfl rfl
theorem dksX4_load_4 : cX4_load.data.toList.drop 93 = dktX4_load_4 := dk_seg dksX4_load_3 24 rfl rfl
theorem dX4_load_0 : decode cX4_load 0 = .ok (.aload_n 0, 1) := dk_42 (dk_at dksX4_load_0 0 rfl rfl)
theorem dX4_load_1 : decode cX4_load 1 = .ok (.iconst 0, 1) := dk_3 (dk_at dksX4_load_0 1 rfl rfl)
theorem dX4_load_2 : decode cX4_load 2 = .ok (.putfield 49, 3) := dk_181 0 49 (dk_at dksX4_load_0 2 rfl rfl)
theorem dX4_load_5 : decode cX4_load 5 = .ok (.aload_n 0, 1) := dk_42 (dk_at dksX4_load_0 5 rfl rfl)
theorem dX4_load_6 : decode cX4_load 6 = .ok (.getfield 7, 3) := dk_180 0 7 (dk_at dksX4_load_0 6 rfl rfl)
theorem dX4_load_9 : decode cX4_load 9 = .ok (.iconst 0, 1) := dk_3 (dk_at dksX4_load_0 9 rfl rfl)
theorem dX4_load_10 : decode cX4_load 10 = .ok (.aload_n 0, 1) := dk_42 (dk_at dksX4_load_0 10 rfl rfl)
theorem dX4_load_11 : decode cX4_load 11 = .ok (.getfield 13, 3) := dk_180 0 13 (dk_at dksX4_load_0 11 rfl rfl)
theorem dX4_load_14 : decode cX4_load 14 = .ok (.iconst 0, 1) := dk_3 (dk_at dksX4_load_0 14 rfl rfl)
theorem dX4_load_15 : decode cX4_load 15 = .ok (.invokestatic 361, 3) := dk_184 1 105 (dk_at dksX4_load_0 15 rfl rfl)
theorem dX4_load_18 : decode cX4_load 18 = .ok (.aload_n 0, 1) := dk_42 (dk_at dksX4_load_0 18 rfl rfl)
theorem dX4_load_19 : decode cX4_load 19 = .ok (.invokevirtual 46, 3) := dk_182 0 46 (dk_at dksX4_load_0 19 rfl rfl)
theorem dX4_load_22 : decode cX4_load 22 = .ok (.aload_n 0, 1) := dk_42 (dk_at dksX4_load_0 22 rfl rfl)
theorem dX4_load_23 : decode cX4_load 23 = .ok (.iconst 0, 1) := dk_3 (dk_at dksX4_load_0 23 rfl rfl)
theorem dX4_load_24 : decode cX4_load 24 = .ok (.putfield 317, 3) := dk_181 1 61 (dk_at dksX4_load_1 0 rfl rfl)
theorem dX4_load_27 : decode cX4_load 27 = .ok (.aload_n 0, 1) := dk_42 (dk_at dksX4_load_1 3 rfl rfl)
theorem dX4_load_28 : decode cX4_load 28 = .ok (.iconst (-1), 1) := dk_2 (dk_at dksX4_load_1 4 rfl rfl)
theorem dX4_load_29 : decode cX4_load 29 = .ok (.putfield 42, 3) := dk_181 0 42 (dk_at dksX4_load_1 5 rfl rfl)
theorem dX4_load_32 : decode cX4_load 32 = .ok (.aload_n 0, 1) := dk_42 (dk_at dksX4_load_1 8 rfl rfl)
theorem dX4_load_33 : decode cX4_load 33 = .ok (.iconst 0, 1) := dk_3 (dk_at dksX4_load_1 9 rfl rfl)
theorem dX4_load_34 : decode cX4_load 34 = .ok (.putfield 275, 3) := dk_181 1 19 (dk_at dksX4_load_1 10 rfl rfl)
theorem dX4_load_37 : decode cX4_load 37 = .ok (.aload_n 0, 1) := dk_42 (dk_at dksX4_load_1 13 rfl rfl)
theorem dX4_load_38 : decode cX4_load 38 = .ok (.invokevirtual 320, 3) := dk_182 1 64 (dk_at dksX4_load_1 14 rfl rfl)
theorem dX4_load_41 : decode cX4_load 41 = .ok (.iconst 0, 1) := dk_3 (dk_at dksX4_load_1 17 rfl rfl)
theorem dX4_load_42 : decode cX4_load 42 = .ok (.istore_n 1, 1) := dk_60 (dk_at dksX4_load_1 18 rfl rfl)
theorem dX4_load_43 : decode cX4_load 43 = .ok (.aload_n 0, 1) := dk_42 (dk_at dksX4_load_1 19 rfl rfl)
theorem dX4_load_44 : decode cX4_load 44 = .ok (.getfield 317, 3) := dk_180 1 61 (dk_at dksX4_load_1 20 rfl rfl)
theorem dX4_load_47 : decode cX4_load 47 = .ok (.ifCond .ne 20, 3) := dk_154 0 20 (dk_at dksX4_load_2 0 rfl rfl)
theorem dX4_load_50 : decode cX4_load 50 = .ok (.aload_n 0, 1) := dk_42 (dk_at dksX4_load_2 3 rfl rfl)
theorem dX4_load_51 : decode cX4_load 51 = .ok (.getfield 294, 3) := dk_180 1 38 (dk_at dksX4_load_2 4 rfl rfl)
theorem dX4_load_54 : decode cX4_load 54 = .ok (.ifCond .eq 13, 3) := dk_153 0 13 (dk_at dksX4_load_2 7 rfl rfl)
theorem dX4_load_57 : decode cX4_load 57 = .ok (.aload_n 0, 1) := dk_42 (dk_at dksX4_load_2 10 rfl rfl)
theorem dX4_load_58 : decode cX4_load 58 = .ok (.invokevirtual 365, 3) := dk_182 1 109 (dk_at dksX4_load_2 11 rfl rfl)
theorem dX4_load_61 : decode cX4_load 61 = .ok (.iinc 1 1, 3) := dk_132 1 1 (dk_at dksX4_load_2 14 rfl rfl)
theorem dX4_load_64 : decode cX4_load 64 = .ok (.goto (-21), 3) := dk_167 255 235 (dk_at dksX4_load_2 17 rfl rfl)
theorem dX4_load_67 : decode cX4_load 67 = .ok (.aload_n 0, 1) := dk_42 (dk_at dksX4_load_2 20 rfl rfl)
theorem dX4_load_68 : decode cX4_load 68 = .ok (.iconst 0, 1) := dk_3 (dk_at dksX4_load_2 21 rfl rfl)
theorem dX4_load_69 : decode cX4_load 69 = .ok (.putfield 272, 3) := dk_181 1 16 (dk_at dksX4_load_3 0 rfl rfl)
theorem dX4_load_72 : decode cX4_load 72 = .ok (.aload_n 0, 1) := dk_42 (dk_at dksX4_load_3 3 rfl rfl)
theorem dX4_load_73 : decode cX4_load 73 = .ok (.getfield 317, 3) := dk_180 1 61 (dk_at dksX4_load_3 4 rfl rfl)
theorem dX4_load_76 : decode cX4_load 76 = .ok (.ifCond .eq 18, 3) := dk_153 0 18 (dk_at dksX4_load_3 7 rfl rfl)
theorem dX4_load_79 : decode cX4_load 79 = .ok (.aload_n 0, 1) := dk_42 (dk_at dksX4_load_3 10 rfl rfl)
theorem dX4_load_80 : decode cX4_load 80 = .ok (.getfield 13, 3) := dk_180 0 13 (dk_at dksX4_load_3 11 rfl rfl)
theorem dX4_load_83 : decode cX4_load 83 = .ok (.iconst 0, 1) := dk_3 (dk_at dksX4_load_3 14 rfl rfl)
theorem dX4_load_84 : decode cX4_load 84 = .ok (.aload_n 0, 1) := dk_42 (dk_at dksX4_load_3 15 rfl rfl)
theorem dX4_load_85 : decode cX4_load 85 = .ok (.getfield 7, 3) := dk_180 0 7 (dk_at dksX4_load_3 16 rfl rfl)
theorem dX4_load_88 : decode cX4_load 88 = .ok (.iconst 0, 1) := dk_3 (dk_at dksX4_load_3 19 rfl rfl)
theorem dX4_load_89 : decode cX4_load 89 = .ok (.invokestatic 361, 3) := dk_184 1 105 (dk_at dksX4_load_3 20 rfl rfl)
theorem dX4_load_92 : decode cX4_load 92 = .ok (.iconst (-1), 1) := dk_2 (dk_at dksX4_load_3 23 rfl rfl)
theorem dX4_load_93 : decode cX4_load 93 = .ok (.ireturn, 1) := dk_172 (dk_at dksX4_load_4 0 rfl rfl)
theorem dX4_load_94 : decode cX4_load 94 = .ok (.iload_n 1, 1) := dk_27 (dk_at dksX4_load_4 1 rfl rfl)
theorem dX4_load_95 : decode cX4_load 95 = .ok (.ireturn, 1) := dk_172 (dk_at dksX4_load_4 2 rfl rfl)
abbrev cX4_copy : ByteArray := prog_25_method_6_code
def yX4_copy : MethodName := ⟨RX4, "copy", "([II[II)V"⟩
def dkwX4_copy_1 : List UInt8 := [132, 4, 1, 167, 255, 233, 177]
abbrev dktX4_copy_1 : List UInt8 := dkwX4_copy_1 ++ []
def dkwX4_copy_0 : List UInt8 := [3, 54, 4, 21, 4, 17, 8, 186, 162, 0, 21, 44, 29, 21, 4, 96, 42, 27, 21, 4, 96, 46, 79]
abbrev dktX4_copy_0 : List UInt8 := dkwX4_copy_0 ++ dktX4_copy_1
theorem dksX4_copy_0 : cX4_copy.data.toList.drop 0 = dktX4_copy_0 := by decide +kernel
theorem dksX4_copy_1 : cX4_copy.data.toList.drop 23 = dktX4_copy_1 := dk_seg dksX4_copy_0 23 rfl rfl
theorem dX4_copy_0 : decode cX4_copy 0 = .ok (.iconst 0, 1) := dk_3 (dk_at dksX4_copy_0 0 rfl rfl)
theorem dX4_copy_1 : decode cX4_copy 1 = .ok (.istore 4, 2) := dk_54 4 (dk_at dksX4_copy_0 1 rfl rfl)
theorem dX4_copy_3 : decode cX4_copy 3 = .ok (.iload 4, 2) := dk_21 4 (dk_at dksX4_copy_0 3 rfl rfl)
theorem dX4_copy_5 : decode cX4_copy 5 = .ok (.sipush 2234, 3) := dk_17 8 186 (dk_at dksX4_copy_0 5 rfl rfl)
theorem dX4_copy_8 : decode cX4_copy 8 = .ok (.if_icmp .ge 21, 3) := dk_162 0 21 (dk_at dksX4_copy_0 8 rfl rfl)
theorem dX4_copy_11 : decode cX4_copy 11 = .ok (.aload_n 2, 1) := dk_44 (dk_at dksX4_copy_0 11 rfl rfl)
theorem dX4_copy_12 : decode cX4_copy 12 = .ok (.iload_n 3, 1) := dk_29 (dk_at dksX4_copy_0 12 rfl rfl)
theorem dX4_copy_13 : decode cX4_copy 13 = .ok (.iload 4, 2) := dk_21 4 (dk_at dksX4_copy_0 13 rfl rfl)
theorem dX4_copy_15 : decode cX4_copy 15 = .ok (.iadd, 1) := dk_96 (dk_at dksX4_copy_0 15 rfl rfl)
theorem dX4_copy_16 : decode cX4_copy 16 = .ok (.aload_n 0, 1) := dk_42 (dk_at dksX4_copy_0 16 rfl rfl)
theorem dX4_copy_17 : decode cX4_copy 17 = .ok (.iload_n 1, 1) := dk_27 (dk_at dksX4_copy_0 17 rfl rfl)
theorem dX4_copy_18 : decode cX4_copy 18 = .ok (.iload 4, 2) := dk_21 4 (dk_at dksX4_copy_0 18 rfl rfl)
theorem dX4_copy_20 : decode cX4_copy 20 = .ok (.iadd, 1) := dk_96 (dk_at dksX4_copy_0 20 rfl rfl)
theorem dX4_copy_21 : decode cX4_copy 21 = .ok (.iaload, 1) := dk_46 (dk_at dksX4_copy_0 21 rfl rfl)
theorem dX4_copy_22 : decode cX4_copy 22 = .ok (.iastore, 1) := dk_79 (dk_at dksX4_copy_0 22 rfl rfl)
theorem dX4_copy_23 : decode cX4_copy 23 = .ok (.iinc 4 1, 3) := dk_132 4 1 (dk_at dksX4_copy_1 0 rfl rfl)
theorem dX4_copy_26 : decode cX4_copy 26 = .ok (.goto (-23), 3) := dk_167 255 233 (dk_at dksX4_copy_1 3 rfl rfl)
theorem dX4_copy_29 : decode cX4_copy 29 = .ok (.return_, 1) := dk_177 (dk_at dksX4_copy_1 6 rfl rfl)
abbrev cX4_nextToken : ByteArray := prog_25_method_105_code
def yX4_nextToken : MethodName := ⟨RX4, "nextToken", "()V"⟩
def dkwX4_nextToken_12 : List UInt8 := [180, 1, 19, 4, 96, 181, 1, 19, 177]
abbrev dktX4_nextToken_12 : List UInt8 := dkwX4_nextToken_12 ++ []
def dkwX4_nextToken_11 : List UInt8 := [160, 0, 7, 7, 167, 0, 14, 27, 16, 45, 160, 0, 7, 8, 167, 0, 4, 4, 181, 1, 38, 42, 89]
abbrev dktX4_nextToken_11 : List UInt8 := dkwX4_nextToken_11 ++ dktX4_nextToken_12
def dkwX4_nextToken_10 : List UInt8 := [16, 48, 100, 181, 1, 35, 42, 89, 180, 1, 19, 4, 96, 181, 1, 19, 167, 255, 192, 42, 27, 16, 59]
abbrev dktX4_nextToken_10 : List UInt8 := dkwX4_nextToken_10 ++ dktX4_nextToken_11
def dkwX4_nextToken_9 : List UInt8 := [42, 180, 1, 35, 167, 0, 22, 16, 10, 42, 180, 1, 35, 104, 42, 42, 180, 1, 19, 182, 1, 22, 96]
abbrev dktX4_nextToken_9 : List UInt8 := dkwX4_nextToken_9 ++ dktX4_nextToken_10
def dkwX4_nextToken_8 : List UInt8 := [42, 180, 1, 19, 182, 1, 22, 184, 1, 48, 153, 0, 91, 42, 42, 180, 1, 35, 17, 78, 32, 164, 0, 10]
abbrev dktX4_nextToken_8 : List UInt8 := dkwX4_nextToken_8 ++ dktX4_nextToken_9
def dkwX4_nextToken_7 : List UInt8 := [180, 1, 19, 4, 96, 181, 1, 19, 167, 255, 180, 27, 184, 1, 48, 153, 0, 75, 42, 6, 181, 1, 38, 42]
abbrev dktX4_nextToken_7 : List UInt8 := dkwX4_nextToken_7 ++ dktX4_nextToken_8
def dkwX4_nextToken_6 : List UInt8 := [101, 167, 0, 7, 42, 180, 1, 31, 181, 1, 31, 42, 89, 180, 1, 28, 4, 96, 181, 1, 28, 42, 89]
abbrev dktX4_nextToken_6 : List UInt8 := dkwX4_nextToken_6 ++ dktX4_nextToken_7
def dkwX4_nextToken_5 : List UInt8 := [162, 0, 28, 20, 1, 44, 42, 180, 1, 31, 105, 42, 42, 180, 1, 19, 182, 1, 22, 133, 97, 20, 1, 46]
abbrev dktX4_nextToken_5 : List UInt8 := dkwX4_nextToken_5 ++ dktX4_nextToken_6
def dkwX4_nextToken_4 : List UInt8 := [181, 1, 38, 42, 42, 180, 1, 19, 182, 1, 22, 184, 1, 41, 153, 0, 182, 42, 42, 180, 1, 28, 16, 10]
abbrev dktX4_nextToken_4 : List UInt8 := dkwX4_nextToken_4 ++ dktX4_nextToken_5
def dkwX4_nextToken_3 : List UInt8 := [27, 2, 160, 0, 11, 42, 3, 181, 1, 38, 167, 0, 208, 27, 184, 1, 41, 153, 0, 87, 42, 5]
abbrev dktX4_nextToken_3 : List UInt8 := dkwX4_nextToken_3 ++ dktX4_nextToken_4
def dkwX4_nextToken_2 : List UInt8 := [42, 3, 181, 1, 28, 42, 9, 181, 1, 31, 42, 3, 181, 1, 35, 42, 42, 180, 1, 19, 182, 1, 22, 60]
abbrev dktX4_nextToken_2 : List UInt8 := dkwX4_nextToken_2 ++ dktX4_nextToken_3
def dkwX4_nextToken_1 : List UInt8 := [160, 0, 16, 42, 89, 180, 1, 19, 4, 96, 181, 1, 19, 167, 255, 220, 42, 42, 180, 1, 19, 181, 1, 25]
abbrev dktX4_nextToken_1 : List UInt8 := dkwX4_nextToken_1 ++ dktX4_nextToken_2
def dkwX4_nextToken_0 : List UInt8 := [42, 42, 180, 1, 19, 182, 1, 22, 16, 32, 159, 0, 16, 42, 42, 180, 1, 19, 182, 1, 22, 16, 10]
abbrev dktX4_nextToken_0 : List UInt8 := dkwX4_nextToken_0 ++ dktX4_nextToken_1
theorem dksX4_nextToken_0 : cX4_nextToken.data.toList.drop 0 = dktX4_nextToken_0 := by decide +kernel
theorem dksX4_nextToken_1 : cX4_nextToken.data.toList.drop 23 = dktX4_nextToken_1 := dk_seg dksX4_nextToken_0 23 rfl rfl
theorem dksX4_nextToken_2 : cX4_nextToken.data.toList.drop 47 = dktX4_nextToken_2 := dk_seg dksX4_nextToken_1 24 rfl rfl
theorem dksX4_nextToken_3 : cX4_nextToken.data.toList.drop 71 = dktX4_nextToken_3 := dk_seg dksX4_nextToken_2 24 rfl rfl
theorem dksX4_nextToken_4 : cX4_nextToken.data.toList.drop 93 = dktX4_nextToken_4 := dk_seg dksX4_nextToken_3 22 rfl rfl
theorem dksX4_nextToken_5 : cX4_nextToken.data.toList.drop 117 = dktX4_nextToken_5 := dk_seg dksX4_nextToken_4 24 rfl rfl
theorem dksX4_nextToken_6 : cX4_nextToken.data.toList.drop 141 = dktX4_nextToken_6 := dk_seg dksX4_nextToken_5 24 rfl rfl
theorem dksX4_nextToken_7 : cX4_nextToken.data.toList.drop 164 = dktX4_nextToken_7 := dk_seg dksX4_nextToken_6 23 rfl rfl
theorem dksX4_nextToken_8 : cX4_nextToken.data.toList.drop 188 = dktX4_nextToken_8 := dk_seg dksX4_nextToken_7 24 rfl rfl
theorem dksX4_nextToken_9 : cX4_nextToken.data.toList.drop 212 = dktX4_nextToken_9 := dk_seg dksX4_nextToken_8 24 rfl rfl
theorem dksX4_nextToken_10 : cX4_nextToken.data.toList.drop 235 = dktX4_nextToken_10 := dk_seg dksX4_nextToken_9 23 rfl rfl
theorem dksX4_nextToken_11 : cX4_nextToken.data.toList.drop 258 = dktX4_nextToken_11 := dk_seg dksX4_nextToken_10 23 rfl rfl
theorem dksX4_nextToken_12 : cX4_nextToken.data.toList.drop 281 = dktX4_nextToken_12 := dk_seg dksX4_nextToken_11 23 rfl rfl
theorem dX4_nextToken_0 : decode cX4_nextToken 0 = .ok (.aload_n 0, 1) := dk_42 (dk_at dksX4_nextToken_0 0 rfl rfl)
theorem dX4_nextToken_1 : decode cX4_nextToken 1 = .ok (.aload_n 0, 1) := dk_42 (dk_at dksX4_nextToken_0 1 rfl rfl)
theorem dX4_nextToken_2 : decode cX4_nextToken 2 = .ok (.getfield 275, 3) := dk_180 1 19 (dk_at dksX4_nextToken_0 2 rfl rfl)
theorem dX4_nextToken_5 : decode cX4_nextToken 5 = .ok (.invokevirtual 278, 3) := dk_182 1 22 (dk_at dksX4_nextToken_0 5 rfl rfl)
theorem dX4_nextToken_8 : decode cX4_nextToken 8 = .ok (.bipush 32, 2) := dk_16 32 (dk_at dksX4_nextToken_0 8 rfl rfl)
theorem dX4_nextToken_10 : decode cX4_nextToken 10 = .ok (.if_icmp .eq 16, 3) := dk_159 0 16 (dk_at dksX4_nextToken_0 10 rfl rfl)
theorem dX4_nextToken_13 : decode cX4_nextToken 13 = .ok (.aload_n 0, 1) := dk_42 (dk_at dksX4_nextToken_0 13 rfl rfl)
theorem dX4_nextToken_14 : decode cX4_nextToken 14 = .ok (.aload_n 0, 1) := dk_42 (dk_at dksX4_nextToken_0 14 rfl rfl)
theorem dX4_nextToken_15 : decode cX4_nextToken 15 = .ok (.getfield 275, 3) := dk_180 1 19 (dk_at dksX4_nextToken_0 15 rfl rfl)
theorem dX4_nextToken_18 : decode cX4_nextToken 18 = .ok (.invokevirtual 278, 3) := dk_182 1 22 (dk_at dksX4_nextToken_0 18 rfl rfl)
theorem dX4_nextToken_21 : decode cX4_nextToken 21 = .ok (.bipush 10, 2) := dk_16 10 (dk_at dksX4_nextToken_0 21 rfl rfl)
theorem dX4_nextToken_23 : decode cX4_nextToken 23 = .ok (.if_icmp .ne 16, 3) := dk_160 0 16 (dk_at dksX4_nextToken_1 0 rfl rfl)
theorem dX4_nextToken_26 : decode cX4_nextToken 26 = .ok (.aload_n 0, 1) := dk_42 (dk_at dksX4_nextToken_1 3 rfl rfl)
theorem dX4_nextToken_27 : decode cX4_nextToken 27 = .ok (.dup, 1) := dk_89 (dk_at dksX4_nextToken_1 4 rfl rfl)
theorem dX4_nextToken_28 : decode cX4_nextToken 28 = .ok (.getfield 275, 3) := dk_180 1 19 (dk_at dksX4_nextToken_1 5 rfl rfl)
theorem dX4_nextToken_31 : decode cX4_nextToken 31 = .ok (.iconst 1, 1) := dk_4 (dk_at dksX4_nextToken_1 8 rfl rfl)
theorem dX4_nextToken_32 : decode cX4_nextToken 32 = .ok (.iadd, 1) := dk_96 (dk_at dksX4_nextToken_1 9 rfl rfl)
theorem dX4_nextToken_33 : decode cX4_nextToken 33 = .ok (.putfield 275, 3) := dk_181 1 19 (dk_at dksX4_nextToken_1 10 rfl rfl)
theorem dX4_nextToken_36 : decode cX4_nextToken 36 = .ok (.goto (-36), 3) := dk_167 255 220 (dk_at dksX4_nextToken_1 13 rfl rfl)
theorem dX4_nextToken_39 : decode cX4_nextToken 39 = .ok (.aload_n 0, 1) := dk_42 (dk_at dksX4_nextToken_1 16 rfl rfl)
theorem dX4_nextToken_40 : decode cX4_nextToken 40 = .ok (.aload_n 0, 1) := dk_42 (dk_at dksX4_nextToken_1 17 rfl rfl)
theorem dX4_nextToken_41 : decode cX4_nextToken 41 = .ok (.getfield 275, 3) := dk_180 1 19 (dk_at dksX4_nextToken_1 18 rfl rfl)
theorem dX4_nextToken_44 : decode cX4_nextToken 44 = .ok (.putfield 281, 3) := dk_181 1 25 (dk_at dksX4_nextToken_1 21 rfl rfl)
theorem dX4_nextToken_47 : decode cX4_nextToken 47 = .ok (.aload_n 0, 1) := dk_42 (dk_at dksX4_nextToken_2 0 rfl rfl)
theorem dX4_nextToken_48 : decode cX4_nextToken 48 = .ok (.iconst 0, 1) := dk_3 (dk_at dksX4_nextToken_2 1 rfl rfl)
theorem dX4_nextToken_49 : decode cX4_nextToken 49 = .ok (.putfield 284, 3) := dk_181 1 28 (dk_at dksX4_nextToken_2 2 rfl rfl)
theorem dX4_nextToken_52 : decode cX4_nextToken 52 = .ok (.aload_n 0, 1) := dk_42 (dk_at dksX4_nextToken_2 5 rfl rfl)
theorem dX4_nextToken_53 : decode cX4_nextToken 53 = .ok (.lconst 0, 1) := dk_9 (dk_at dksX4_nextToken_2 6 rfl rfl)
theorem dX4_nextToken_54 : decode cX4_nextToken 54 = .ok (.putfield 287, 3) := dk_181 1 31 (dk_at dksX4_nextToken_2 7 rfl rfl)
theorem dX4_nextToken_57 : decode cX4_nextToken 57 = .ok (.aload_n 0, 1) := dk_42 (dk_at dksX4_nextToken_2 10 rfl rfl)
theorem dX4_nextToken_58 : decode cX4_nextToken 58 = .ok (.iconst 0, 1) := dk_3 (dk_at dksX4_nextToken_2 11 rfl rfl)
theorem dX4_nextToken_59 : decode cX4_nextToken 59 = .ok (.putfield 291, 3) := dk_181 1 35 (dk_at dksX4_nextToken_2 12 rfl rfl)
theorem dX4_nextToken_62 : decode cX4_nextToken 62 = .ok (.aload_n 0, 1) := dk_42 (dk_at dksX4_nextToken_2 15 rfl rfl)
theorem dX4_nextToken_63 : decode cX4_nextToken 63 = .ok (.aload_n 0, 1) := dk_42 (dk_at dksX4_nextToken_2 16 rfl rfl)
theorem dX4_nextToken_64 : decode cX4_nextToken 64 = .ok (.getfield 275, 3) := dk_180 1 19 (dk_at dksX4_nextToken_2 17 rfl rfl)
theorem dX4_nextToken_67 : decode cX4_nextToken 67 = .ok (.invokevirtual 278, 3) := dk_182 1 22 (dk_at dksX4_nextToken_2 20 rfl rfl)
theorem dX4_nextToken_70 : decode cX4_nextToken 70 = .ok (.istore_n 1, 1) := dk_60 (dk_at dksX4_nextToken_2 23 rfl rfl)
theorem dX4_nextToken_71 : decode cX4_nextToken 71 = .ok (.iload_n 1, 1) := dk_27 (dk_at dksX4_nextToken_3 0 rfl rfl)
theorem dX4_nextToken_72 : decode cX4_nextToken 72 = .ok (.iconst (-1), 1) := dk_2 (dk_at dksX4_nextToken_3 1 rfl rfl)
theorem dX4_nextToken_73 : decode cX4_nextToken 73 = .ok (.if_icmp .ne 11, 3) := dk_160 0 11 (dk_at dksX4_nextToken_3 2 rfl rfl)
theorem dX4_nextToken_76 : decode cX4_nextToken 76 = .ok (.aload_n 0, 1) := dk_42 (dk_at dksX4_nextToken_3 5 rfl rfl)
theorem dX4_nextToken_77 : decode cX4_nextToken 77 = .ok (.iconst 0, 1) := dk_3 (dk_at dksX4_nextToken_3 6 rfl rfl)
theorem dX4_nextToken_78 : decode cX4_nextToken 78 = .ok (.putfield 294, 3) := dk_181 1 38 (dk_at dksX4_nextToken_3 7 rfl rfl)
theorem dX4_nextToken_81 : decode cX4_nextToken 81 = .ok (.goto 208, 3) := dk_167 0 208 (dk_at dksX4_nextToken_3 10 rfl rfl)
theorem dX4_nextToken_84 : decode cX4_nextToken 84 = .ok (.iload_n 1, 1) := dk_27 (dk_at dksX4_nextToken_3 13 rfl rfl)
theorem dX4_nextToken_85 : decode cX4_nextToken 85 = .ok (.invokestatic 297, 3) := dk_184 1 41 (dk_at dksX4_nextToken_3 14 rfl rfl)
theorem dX4_nextToken_88 : decode cX4_nextToken 88 = .ok (.ifCond .eq 87, 3) := dk_153 0 87 (dk_at dksX4_nextToken_3 17 rfl rfl)
theorem dX4_nextToken_91 : decode cX4_nextToken 91 = .ok (.aload_n 0, 1) := dk_42 (dk_at dksX4_nextToken_3 20 rfl rfl)
theorem dX4_nextToken_92 : decode cX4_nextToken 92 = .ok (.iconst 2, 1) := dk_5 (dk_at dksX4_nextToken_3 21 rfl rfl)
theorem dX4_nextToken_93 : decode cX4_nextToken 93 = .ok (.putfield 294, 3) := dk_181 1 38 (dk_at dksX4_nextToken_4 0 rfl rfl)
theorem dX4_nextToken_96 : decode cX4_nextToken 96 = .ok (.aload_n 0, 1) := dk_42 (dk_at dksX4_nextToken_4 3 rfl rfl)
theorem dX4_nextToken_97 : decode cX4_nextToken 97 = .ok (.aload_n 0, 1) := dk_42 (dk_at dksX4_nextToken_4 4 rfl rfl)
theorem dX4_nextToken_98 : decode cX4_nextToken 98 = .ok (.getfield 275, 3) := dk_180 1 19 (dk_at dksX4_nextToken_4 5 rfl rfl)
theorem dX4_nextToken_101 : decode cX4_nextToken 101 = .ok (.invokevirtual 278, 3) := dk_182 1 22 (dk_at dksX4_nextToken_4 8 rfl rfl)
theorem dX4_nextToken_104 : decode cX4_nextToken 104 = .ok (.invokestatic 297, 3) := dk_184 1 41 (dk_at dksX4_nextToken_4 11 rfl rfl)
theorem dX4_nextToken_107 : decode cX4_nextToken 107 = .ok (.ifCond .eq 182, 3) := dk_153 0 182 (dk_at dksX4_nextToken_4 14 rfl rfl)
theorem dX4_nextToken_110 : decode cX4_nextToken 110 = .ok (.aload_n 0, 1) := dk_42 (dk_at dksX4_nextToken_4 17 rfl rfl)
theorem dX4_nextToken_111 : decode cX4_nextToken 111 = .ok (.aload_n 0, 1) := dk_42 (dk_at dksX4_nextToken_4 18 rfl rfl)
theorem dX4_nextToken_112 : decode cX4_nextToken 112 = .ok (.getfield 284, 3) := dk_180 1 28 (dk_at dksX4_nextToken_4 19 rfl rfl)
theorem dX4_nextToken_115 : decode cX4_nextToken 115 = .ok (.bipush 10, 2) := dk_16 10 (dk_at dksX4_nextToken_4 22 rfl rfl)
theorem dX4_nextToken_117 : decode cX4_nextToken 117 = .ok (.if_icmp .ge 28, 3) := dk_162 0 28 (dk_at dksX4_nextToken_5 0 rfl rfl)
theorem dX4_nextToken_120 : decode cX4_nextToken 120 = .ok (.ldc2_w 300, 3) := dk_20 1 44 (dk_at dksX4_nextToken_5 3 rfl rfl)
theorem dX4_nextToken_123 : decode cX4_nextToken 123 = .ok (.aload_n 0, 1) := dk_42 (dk_at dksX4_nextToken_5 6 rfl rfl)
theorem dX4_nextToken_124 : decode cX4_nextToken 124 = .ok (.getfield 287, 3) := dk_180 1 31 (dk_at dksX4_nextToken_5 7 rfl rfl)
theorem dX4_nextToken_127 : decode cX4_nextToken 127 = .ok (.lmul, 1) := dk_105 (dk_at dksX4_nextToken_5 10 rfl rfl)
theorem dX4_nextToken_128 : decode cX4_nextToken 128 = .ok (.aload_n 0, 1) := dk_42 (dk_at dksX4_nextToken_5 11 rfl rfl)
theorem dX4_nextToken_129 : decode cX4_nextToken 129 = .ok (.aload_n 0, 1) := dk_42 (dk_at dksX4_nextToken_5 12 rfl rfl)
theorem dX4_nextToken_130 : decode cX4_nextToken 130 = .ok (.getfield 275, 3) := dk_180 1 19 (dk_at dksX4_nextToken_5 13 rfl rfl)
theorem dX4_nextToken_133 : decode cX4_nextToken 133 = .ok (.invokevirtual 278, 3) := dk_182 1 22 (dk_at dksX4_nextToken_5 16 rfl rfl)
theorem dX4_nextToken_136 : decode cX4_nextToken 136 = .ok (.i2l, 1) := dk_133 (dk_at dksX4_nextToken_5 19 rfl rfl)
theorem dX4_nextToken_137 : decode cX4_nextToken 137 = .ok (.ladd, 1) := dk_97 (dk_at dksX4_nextToken_5 20 rfl rfl)
theorem dX4_nextToken_138 : decode cX4_nextToken 138 = .ok (.ldc2_w 302, 3) := dk_20 1 46 (dk_at dksX4_nextToken_5 21 rfl rfl)
theorem dX4_nextToken_141 : decode cX4_nextToken 141 = .ok (.lsub, 1) := dk_101 (dk_at dksX4_nextToken_6 0 rfl rfl)
theorem dX4_nextToken_142 : decode cX4_nextToken 142 = .ok (.goto 7, 3) := dk_167 0 7 (dk_at dksX4_nextToken_6 1 rfl rfl)
theorem dX4_nextToken_145 : decode cX4_nextToken 145 = .ok (.aload_n 0, 1) := dk_42 (dk_at dksX4_nextToken_6 4 rfl rfl)
theorem dX4_nextToken_146 : decode cX4_nextToken 146 = .ok (.getfield 287, 3) := dk_180 1 31 (dk_at dksX4_nextToken_6 5 rfl rfl)
theorem dX4_nextToken_149 : decode cX4_nextToken 149 = .ok (.putfield 287, 3) := dk_181 1 31 (dk_at dksX4_nextToken_6 8 rfl rfl)
theorem dX4_nextToken_152 : decode cX4_nextToken 152 = .ok (.aload_n 0, 1) := dk_42 (dk_at dksX4_nextToken_6 11 rfl rfl)
theorem dX4_nextToken_153 : decode cX4_nextToken 153 = .ok (.dup, 1) := dk_89 (dk_at dksX4_nextToken_6 12 rfl rfl)
theorem dX4_nextToken_154 : decode cX4_nextToken 154 = .ok (.getfield 284, 3) := dk_180 1 28 (dk_at dksX4_nextToken_6 13 rfl rfl)
theorem dX4_nextToken_157 : decode cX4_nextToken 157 = .ok (.iconst 1, 1) := dk_4 (dk_at dksX4_nextToken_6 16 rfl rfl)
theorem dX4_nextToken_158 : decode cX4_nextToken 158 = .ok (.iadd, 1) := dk_96 (dk_at dksX4_nextToken_6 17 rfl rfl)
theorem dX4_nextToken_159 : decode cX4_nextToken 159 = .ok (.putfield 284, 3) := dk_181 1 28 (dk_at dksX4_nextToken_6 18 rfl rfl)
theorem dX4_nextToken_162 : decode cX4_nextToken 162 = .ok (.aload_n 0, 1) := dk_42 (dk_at dksX4_nextToken_6 21 rfl rfl)
theorem dX4_nextToken_163 : decode cX4_nextToken 163 = .ok (.dup, 1) := dk_89 (dk_at dksX4_nextToken_6 22 rfl rfl)
theorem dX4_nextToken_164 : decode cX4_nextToken 164 = .ok (.getfield 275, 3) := dk_180 1 19 (dk_at dksX4_nextToken_7 0 rfl rfl)
theorem dX4_nextToken_167 : decode cX4_nextToken 167 = .ok (.iconst 1, 1) := dk_4 (dk_at dksX4_nextToken_7 3 rfl rfl)
theorem dX4_nextToken_168 : decode cX4_nextToken 168 = .ok (.iadd, 1) := dk_96 (dk_at dksX4_nextToken_7 4 rfl rfl)
theorem dX4_nextToken_169 : decode cX4_nextToken 169 = .ok (.putfield 275, 3) := dk_181 1 19 (dk_at dksX4_nextToken_7 5 rfl rfl)
theorem dX4_nextToken_172 : decode cX4_nextToken 172 = .ok (.goto (-76), 3) := dk_167 255 180 (dk_at dksX4_nextToken_7 8 rfl rfl)
theorem dX4_nextToken_175 : decode cX4_nextToken 175 = .ok (.iload_n 1, 1) := dk_27 (dk_at dksX4_nextToken_7 11 rfl rfl)
theorem dX4_nextToken_176 : decode cX4_nextToken 176 = .ok (.invokestatic 304, 3) := dk_184 1 48 (dk_at dksX4_nextToken_7 12 rfl rfl)
theorem dX4_nextToken_179 : decode cX4_nextToken 179 = .ok (.ifCond .eq 75, 3) := dk_153 0 75 (dk_at dksX4_nextToken_7 15 rfl rfl)
theorem dX4_nextToken_182 : decode cX4_nextToken 182 = .ok (.aload_n 0, 1) := dk_42 (dk_at dksX4_nextToken_7 18 rfl rfl)
theorem dX4_nextToken_183 : decode cX4_nextToken 183 = .ok (.iconst 3, 1) := dk_6 (dk_at dksX4_nextToken_7 19 rfl rfl)
theorem dX4_nextToken_184 : decode cX4_nextToken 184 = .ok (.putfield 294, 3) := dk_181 1 38 (dk_at dksX4_nextToken_7 20 rfl rfl)
theorem dX4_nextToken_187 : decode cX4_nextToken 187 = .ok (.aload_n 0, 1) := dk_42 (dk_at dksX4_nextToken_7 23 rfl rfl)
theorem dX4_nextToken_188 : decode cX4_nextToken 188 = .ok (.aload_n 0, 1) := dk_42 (dk_at dksX4_nextToken_8 0 rfl rfl)
theorem dX4_nextToken_189 : decode cX4_nextToken 189 = .ok (.getfield 275, 3) := dk_180 1 19 (dk_at dksX4_nextToken_8 1 rfl rfl)
theorem dX4_nextToken_192 : decode cX4_nextToken 192 = .ok (.invokevirtual 278, 3) := dk_182 1 22 (dk_at dksX4_nextToken_8 4 rfl rfl)
theorem dX4_nextToken_195 : decode cX4_nextToken 195 = .ok (.invokestatic 304, 3) := dk_184 1 48 (dk_at dksX4_nextToken_8 7 rfl rfl)
theorem dX4_nextToken_198 : decode cX4_nextToken 198 = .ok (.ifCond .eq 91, 3) := dk_153 0 91 (dk_at dksX4_nextToken_8 10 rfl rfl)
theorem dX4_nextToken_201 : decode cX4_nextToken 201 = .ok (.aload_n 0, 1) := dk_42 (dk_at dksX4_nextToken_8 13 rfl rfl)
theorem dX4_nextToken_202 : decode cX4_nextToken 202 = .ok (.aload_n 0, 1) := dk_42 (dk_at dksX4_nextToken_8 14 rfl rfl)
theorem dX4_nextToken_203 : decode cX4_nextToken 203 = .ok (.getfield 291, 3) := dk_180 1 35 (dk_at dksX4_nextToken_8 15 rfl rfl)
theorem dX4_nextToken_206 : decode cX4_nextToken 206 = .ok (.sipush 20000, 3) := dk_17 78 32 (dk_at dksX4_nextToken_8 18 rfl rfl)
theorem dX4_nextToken_209 : decode cX4_nextToken 209 = .ok (.if_icmp .le 10, 3) := dk_164 0 10 (dk_at dksX4_nextToken_8 21 rfl rfl)
theorem dX4_nextToken_212 : decode cX4_nextToken 212 = .ok (.aload_n 0, 1) := dk_42 (dk_at dksX4_nextToken_9 0 rfl rfl)
theorem dX4_nextToken_213 : decode cX4_nextToken 213 = .ok (.getfield 291, 3) := dk_180 1 35 (dk_at dksX4_nextToken_9 1 rfl rfl)
theorem dX4_nextToken_216 : decode cX4_nextToken 216 = .ok (.goto 22, 3) := dk_167 0 22 (dk_at dksX4_nextToken_9 4 rfl rfl)
theorem dX4_nextToken_219 : decode cX4_nextToken 219 = .ok (.bipush 10, 2) := dk_16 10 (dk_at dksX4_nextToken_9 7 rfl rfl)
theorem dX4_nextToken_221 : decode cX4_nextToken 221 = .ok (.aload_n 0, 1) := dk_42 (dk_at dksX4_nextToken_9 9 rfl rfl)
theorem dX4_nextToken_222 : decode cX4_nextToken 222 = .ok (.getfield 291, 3) := dk_180 1 35 (dk_at dksX4_nextToken_9 10 rfl rfl)
theorem dX4_nextToken_225 : decode cX4_nextToken 225 = .ok (.imul, 1) := dk_104 (dk_at dksX4_nextToken_9 13 rfl rfl)
theorem dX4_nextToken_226 : decode cX4_nextToken 226 = .ok (.aload_n 0, 1) := dk_42 (dk_at dksX4_nextToken_9 14 rfl rfl)
theorem dX4_nextToken_227 : decode cX4_nextToken 227 = .ok (.aload_n 0, 1) := dk_42 (dk_at dksX4_nextToken_9 15 rfl rfl)
theorem dX4_nextToken_228 : decode cX4_nextToken 228 = .ok (.getfield 275, 3) := dk_180 1 19 (dk_at dksX4_nextToken_9 16 rfl rfl)
theorem dX4_nextToken_231 : decode cX4_nextToken 231 = .ok (.invokevirtual 278, 3) := dk_182 1 22 (dk_at dksX4_nextToken_9 19 rfl rfl)
theorem dX4_nextToken_234 : decode cX4_nextToken 234 = .ok (.iadd, 1) := dk_96 (dk_at dksX4_nextToken_9 22 rfl rfl)
theorem dX4_nextToken_235 : decode cX4_nextToken 235 = .ok (.bipush 48, 2) := dk_16 48 (dk_at dksX4_nextToken_10 0 rfl rfl)
theorem dX4_nextToken_237 : decode cX4_nextToken 237 = .ok (.isub, 1) := dk_100 (dk_at dksX4_nextToken_10 2 rfl rfl)
theorem dX4_nextToken_238 : decode cX4_nextToken 238 = .ok (.putfield 291, 3) := dk_181 1 35 (dk_at dksX4_nextToken_10 3 rfl rfl)
theorem dX4_nextToken_241 : decode cX4_nextToken 241 = .ok (.aload_n 0, 1) := dk_42 (dk_at dksX4_nextToken_10 6 rfl rfl)
theorem dX4_nextToken_242 : decode cX4_nextToken 242 = .ok (.dup, 1) := dk_89 (dk_at dksX4_nextToken_10 7 rfl rfl)
theorem dX4_nextToken_243 : decode cX4_nextToken 243 = .ok (.getfield 275, 3) := dk_180 1 19 (dk_at dksX4_nextToken_10 8 rfl rfl)
theorem dX4_nextToken_246 : decode cX4_nextToken 246 = .ok (.iconst 1, 1) := dk_4 (dk_at dksX4_nextToken_10 11 rfl rfl)
theorem dX4_nextToken_247 : decode cX4_nextToken 247 = .ok (.iadd, 1) := dk_96 (dk_at dksX4_nextToken_10 12 rfl rfl)
theorem dX4_nextToken_248 : decode cX4_nextToken 248 = .ok (.putfield 275, 3) := dk_181 1 19 (dk_at dksX4_nextToken_10 13 rfl rfl)
theorem dX4_nextToken_251 : decode cX4_nextToken 251 = .ok (.goto (-64), 3) := dk_167 255 192 (dk_at dksX4_nextToken_10 16 rfl rfl)
theorem dX4_nextToken_254 : decode cX4_nextToken 254 = .ok (.aload_n 0, 1) := dk_42 (dk_at dksX4_nextToken_10 19 rfl rfl)
theorem dX4_nextToken_255 : decode cX4_nextToken 255 = .ok (.iload_n 1, 1) := dk_27 (dk_at dksX4_nextToken_10 20 rfl rfl)
theorem dX4_nextToken_256 : decode cX4_nextToken 256 = .ok (.bipush 59, 2) := dk_16 59 (dk_at dksX4_nextToken_10 21 rfl rfl)
theorem dX4_nextToken_258 : decode cX4_nextToken 258 = .ok (.if_icmp .ne 7, 3) := dk_160 0 7 (dk_at dksX4_nextToken_11 0 rfl rfl)
theorem dX4_nextToken_261 : decode cX4_nextToken 261 = .ok (.iconst 4, 1) := dk_7 (dk_at dksX4_nextToken_11 3 rfl rfl)
theorem dX4_nextToken_262 : decode cX4_nextToken 262 = .ok (.goto 14, 3) := dk_167 0 14 (dk_at dksX4_nextToken_11 4 rfl rfl)
theorem dX4_nextToken_265 : decode cX4_nextToken 265 = .ok (.iload_n 1, 1) := dk_27 (dk_at dksX4_nextToken_11 7 rfl rfl)
theorem dX4_nextToken_266 : decode cX4_nextToken 266 = .ok (.bipush 45, 2) := dk_16 45 (dk_at dksX4_nextToken_11 8 rfl rfl)
theorem dX4_nextToken_268 : decode cX4_nextToken 268 = .ok (.if_icmp .ne 7, 3) := dk_160 0 7 (dk_at dksX4_nextToken_11 10 rfl rfl)
theorem dX4_nextToken_271 : decode cX4_nextToken 271 = .ok (.iconst 5, 1) := dk_8 (dk_at dksX4_nextToken_11 13 rfl rfl)
theorem dX4_nextToken_272 : decode cX4_nextToken 272 = .ok (.goto 4, 3) := dk_167 0 4 (dk_at dksX4_nextToken_11 14 rfl rfl)
theorem dX4_nextToken_275 : decode cX4_nextToken 275 = .ok (.iconst 1, 1) := dk_4 (dk_at dksX4_nextToken_11 17 rfl rfl)
theorem dX4_nextToken_276 : decode cX4_nextToken 276 = .ok (.putfield 294, 3) := dk_181 1 38 (dk_at dksX4_nextToken_11 18 rfl rfl)
theorem dX4_nextToken_279 : decode cX4_nextToken 279 = .ok (.aload_n 0, 1) := dk_42 (dk_at dksX4_nextToken_11 21 rfl rfl)
theorem dX4_nextToken_280 : decode cX4_nextToken 280 = .ok (.dup, 1) := dk_89 (dk_at dksX4_nextToken_11 22 rfl rfl)
theorem dX4_nextToken_281 : decode cX4_nextToken 281 = .ok (.getfield 275, 3) := dk_180 1 19 (dk_at dksX4_nextToken_12 0 rfl rfl)
theorem dX4_nextToken_284 : decode cX4_nextToken 284 = .ok (.iconst 1, 1) := dk_4 (dk_at dksX4_nextToken_12 3 rfl rfl)
theorem dX4_nextToken_285 : decode cX4_nextToken 285 = .ok (.iadd, 1) := dk_96 (dk_at dksX4_nextToken_12 4 rfl rfl)
theorem dX4_nextToken_286 : decode cX4_nextToken 286 = .ok (.putfield 275, 3) := dk_181 1 19 (dk_at dksX4_nextToken_12 5 rfl rfl)
theorem dX4_nextToken_289 : decode cX4_nextToken 289 = .ok (.return_, 1) := dk_177 (dk_at dksX4_nextToken_12 8 rfl rfl)
abbrev cX4_byteAt : ByteArray := prog_25_method_102_code
def yX4_byteAt : MethodName := ⟨RX4, "byteAt", "(I)I"⟩
def dkwX4_byteAt_0 : List UInt8 := [27, 42, 180, 1, 16, 162, 0, 12, 42, 180, 0, 39, 27, 46, 167, 0, 4, 2, 172]
abbrev dktX4_byteAt_0 : List UInt8 := dkwX4_byteAt_0 ++ []
theorem dksX4_byteAt_0 : cX4_byteAt.data.toList.drop 0 = dktX4_byteAt_0 := by decide +kernel
theorem dX4_byteAt_0 : decode cX4_byteAt 0 = .ok (.iload_n 1, 1) := dk_27 (dk_at dksX4_byteAt_0 0 rfl rfl)
theorem dX4_byteAt_1 : decode cX4_byteAt 1 = .ok (.aload_n 0, 1) := dk_42 (dk_at dksX4_byteAt_0 1 rfl rfl)
theorem dX4_byteAt_2 : decode cX4_byteAt 2 = .ok (.getfield 272, 3) := dk_180 1 16 (dk_at dksX4_byteAt_0 2 rfl rfl)
theorem dX4_byteAt_5 : decode cX4_byteAt 5 = .ok (.if_icmp .ge 12, 3) := dk_162 0 12 (dk_at dksX4_byteAt_0 5 rfl rfl)
theorem dX4_byteAt_8 : decode cX4_byteAt 8 = .ok (.aload_n 0, 1) := dk_42 (dk_at dksX4_byteAt_0 8 rfl rfl)
theorem dX4_byteAt_9 : decode cX4_byteAt 9 = .ok (.getfield 39, 3) := dk_180 0 39 (dk_at dksX4_byteAt_0 9 rfl rfl)
theorem dX4_byteAt_12 : decode cX4_byteAt 12 = .ok (.iload_n 1, 1) := dk_27 (dk_at dksX4_byteAt_0 12 rfl rfl)
theorem dX4_byteAt_13 : decode cX4_byteAt 13 = .ok (.iaload, 1) := dk_46 (dk_at dksX4_byteAt_0 13 rfl rfl)
theorem dX4_byteAt_14 : decode cX4_byteAt 14 = .ok (.goto 4, 3) := dk_167 0 4 (dk_at dksX4_byteAt_0 14 rfl rfl)
theorem dX4_byteAt_17 : decode cX4_byteAt 17 = .ok (.iconst (-1), 1) := dk_2 (dk_at dksX4_byteAt_0 17 rfl rfl)
theorem dX4_byteAt_18 : decode cX4_byteAt 18 = .ok (.ireturn, 1) := dk_172 (dk_at dksX4_byteAt_0 18 rfl rfl)
abbrev cX4_isLetter : ByteArray := prog_25_method_103_code
def yX4_isLetter : MethodName := ⟨RX4, "isLetter", "(I)Z"⟩
def dkwX4_isLetter_0 : List UInt8 := [26, 16, 97, 16, 122, 184, 0, 52, 172]
abbrev dktX4_isLetter_0 : List UInt8 := dkwX4_isLetter_0 ++ []
theorem dksX4_isLetter_0 : cX4_isLetter.data.toList.drop 0 = dktX4_isLetter_0 := by decide +kernel
theorem dX4_isLetter_0 : decode cX4_isLetter 0 = .ok (.iload_n 0, 1) := dk_26 (dk_at dksX4_isLetter_0 0 rfl rfl)
theorem dX4_isLetter_1 : decode cX4_isLetter 1 = .ok (.bipush 97, 2) := dk_16 97 (dk_at dksX4_isLetter_0 1 rfl rfl)
theorem dX4_isLetter_3 : decode cX4_isLetter 3 = .ok (.bipush 122, 2) := dk_16 122 (dk_at dksX4_isLetter_0 3 rfl rfl)
theorem dX4_isLetter_5 : decode cX4_isLetter 5 = .ok (.invokestatic 52, 3) := dk_184 0 52 (dk_at dksX4_isLetter_0 5 rfl rfl)
theorem dX4_isLetter_8 : decode cX4_isLetter 8 = .ok (.ireturn, 1) := dk_172 (dk_at dksX4_isLetter_0 8 rfl rfl)
abbrev cX4_isDigit : ByteArray := prog_25_method_104_code
def yX4_isDigit : MethodName := ⟨RX4, "isDigit", "(I)Z"⟩
def dkwX4_isDigit_0 : List UInt8 := [26, 16, 48, 16, 57, 184, 0, 52, 172]
abbrev dktX4_isDigit_0 : List UInt8 := dkwX4_isDigit_0 ++ []
theorem dksX4_isDigit_0 : cX4_isDigit.data.toList.drop 0 = dktX4_isDigit_0 := by decide +kernel
theorem dX4_isDigit_0 : decode cX4_isDigit 0 = .ok (.iload_n 0, 1) := dk_26 (dk_at dksX4_isDigit_0 0 rfl rfl)
theorem dX4_isDigit_1 : decode cX4_isDigit 1 = .ok (.bipush 48, 2) := dk_16 48 (dk_at dksX4_isDigit_0 1 rfl rfl)
theorem dX4_isDigit_3 : decode cX4_isDigit 3 = .ok (.bipush 57, 2) := dk_16 57 (dk_at dksX4_isDigit_0 3 rfl rfl)
theorem dX4_isDigit_5 : decode cX4_isDigit 5 = .ok (.invokestatic 52, 3) := dk_184 0 52 (dk_at dksX4_isDigit_0 5 rfl rfl)
theorem dX4_isDigit_8 : decode cX4_isDigit 8 = .ok (.ireturn, 1) := dk_172 (dk_at dksX4_isDigit_0 8 rfl rfl)
abbrev cX4_parseStatement : ByteArray := prog_25_method_114_code
def yX4_parseStatement : MethodName := ⟨RX4, "parseStatement", "()V"⟩
def dkwX4_parseStatement_8 : List UInt8 := [177]
abbrev dktX4_parseStatement_8 : List UInt8 := dkwX4_parseStatement_8 ++ []
def dkwX4_parseStatement_7 : List UInt8 := [4, 79, 42, 42, 180, 1, 38, 7, 160, 0, 7, 4, 167, 0, 4, 3, 4, 182, 1, 67, 42, 182, 1, 71]
abbrev dktX4_parseStatement_7 : List UInt8 := dkwX4_parseStatement_7 ++ dktX4_parseStatement_8
def dkwX4_parseStatement_6 : List UInt8 := [167, 0, 26, 42, 42, 19, 1, 103, 182, 1, 82, 4, 182, 1, 67, 42, 182, 1, 71, 42, 180, 0, 7, 5]
abbrev dktX4_parseStatement_6 : List UInt8 := dkwX4_parseStatement_6 ++ dktX4_parseStatement_7
def dkwX4_parseStatement_5 : List UInt8 := [182, 1, 82, 153, 0, 23, 42, 182, 1, 71, 42, 180, 0, 7, 7, 42, 3, 16, 99, 182, 1, 74, 79]
abbrev dktX4_parseStatement_5 : List UInt8 := dkwX4_parseStatement_5 ++ dktX4_parseStatement_6
def dkwX4_parseStatement_4 : List UInt8 := [182, 1, 71, 42, 180, 0, 7, 4, 42, 16, 166, 16, 90, 182, 1, 77, 79, 167, 0, 56, 42, 19, 1, 101]
abbrev dktX4_parseStatement_4 : List UInt8 := dkwX4_parseStatement_4 ++ dktX4_parseStatement_5
def dkwX4_parseStatement_3 : List UInt8 := [16, 100, 17, 3, 232, 182, 1, 74, 79, 167, 0, 87, 42, 19, 1, 99, 182, 1, 82, 153, 0, 24, 42]
abbrev dktX4_parseStatement_3 : List UInt8 := dkwX4_parseStatement_3 ++ dktX4_parseStatement_4
def dkwX4_parseStatement_2 : List UInt8 := [167, 0, 119, 42, 19, 1, 97, 182, 1, 82, 153, 0, 25, 42, 182, 1, 71, 42, 180, 0, 7, 3, 42]
abbrev dktX4_parseStatement_2 : List UInt8 := dkwX4_parseStatement_2 ++ dktX4_parseStatement_3
def dkwX4_parseStatement_1 : List UInt8 := [153, 0, 10, 42, 182, 1, 90, 167, 0, 136, 42, 19, 1, 93, 182, 1, 82, 153, 0, 10, 42, 182, 1, 94]
abbrev dktX4_parseStatement_1 : List UInt8 := dkwX4_parseStatement_1 ++ dktX4_parseStatement_2
def dkwX4_parseStatement_0 : List UInt8 := [42, 19, 1, 80, 182, 1, 82, 153, 0, 10, 42, 182, 1, 86, 167, 0, 153, 42, 19, 1, 89, 182, 1, 82]
abbrev dktX4_parseStatement_0 : List UInt8 := dkwX4_parseStatement_0 ++ dktX4_parseStatement_1
theorem dksX4_parseStatement_0 : cX4_parseStatement.data.toList.drop 0 = dktX4_parseStatement_0 := by decide +kernel
theorem dksX4_parseStatement_1 : cX4_parseStatement.data.toList.drop 24 = dktX4_parseStatement_1 := dk_seg dksX4_parseStatement_0 24 rfl rfl
theorem dksX4_parseStatement_2 : cX4_parseStatement.data.toList.drop 48 = dktX4_parseStatement_2 := dk_seg dksX4_parseStatement_1 24 rfl rfl
theorem dksX4_parseStatement_3 : cX4_parseStatement.data.toList.drop 71 = dktX4_parseStatement_3 := dk_seg dksX4_parseStatement_2 23 rfl rfl
theorem dksX4_parseStatement_4 : cX4_parseStatement.data.toList.drop 94 = dktX4_parseStatement_4 := dk_seg dksX4_parseStatement_3 23 rfl rfl
theorem dksX4_parseStatement_5 : cX4_parseStatement.data.toList.drop 118 = dktX4_parseStatement_5 := dk_seg dksX4_parseStatement_4 24 rfl rfl
theorem dksX4_parseStatement_6 : cX4_parseStatement.data.toList.drop 141 = dktX4_parseStatement_6 := dk_seg dksX4_parseStatement_5 23 rfl rfl
theorem dksX4_parseStatement_7 : cX4_parseStatement.data.toList.drop 165 = dktX4_parseStatement_7 := dk_seg dksX4_parseStatement_6 24 rfl rfl
theorem dksX4_parseStatement_8 : cX4_parseStatement.data.toList.drop 189 = dktX4_parseStatement_8 := dk_seg dksX4_parseStatement_7 24 rfl rfl
theorem dX4_parseStatement_0 : decode cX4_parseStatement 0 = .ok (.aload_n 0, 1) := dk_42 (dk_at dksX4_parseStatement_0 0 rfl rfl)
theorem dX4_parseStatement_1 : decode cX4_parseStatement 1 = .ok (.ldc_w 336, 3) := dk_19 1 80 (dk_at dksX4_parseStatement_0 1 rfl rfl)
theorem dX4_parseStatement_4 : decode cX4_parseStatement 4 = .ok (.invokevirtual 338, 3) := dk_182 1 82 (dk_at dksX4_parseStatement_0 4 rfl rfl)
theorem dX4_parseStatement_7 : decode cX4_parseStatement 7 = .ok (.ifCond .eq 10, 3) := dk_153 0 10 (dk_at dksX4_parseStatement_0 7 rfl rfl)
theorem dX4_parseStatement_10 : decode cX4_parseStatement 10 = .ok (.aload_n 0, 1) := dk_42 (dk_at dksX4_parseStatement_0 10 rfl rfl)
theorem dX4_parseStatement_11 : decode cX4_parseStatement 11 = .ok (.invokevirtual 342, 3) := dk_182 1 86 (dk_at dksX4_parseStatement_0 11 rfl rfl)
theorem dX4_parseStatement_14 : decode cX4_parseStatement 14 = .ok (.goto 153, 3) := dk_167 0 153 (dk_at dksX4_parseStatement_0 14 rfl rfl)
theorem dX4_parseStatement_17 : decode cX4_parseStatement 17 = .ok (.aload_n 0, 1) := dk_42 (dk_at dksX4_parseStatement_0 17 rfl rfl)
theorem dX4_parseStatement_18 : decode cX4_parseStatement 18 = .ok (.ldc_w 345, 3) := dk_19 1 89 (dk_at dksX4_parseStatement_0 18 rfl rfl)
theorem dX4_parseStatement_21 : decode cX4_parseStatement 21 = .ok (.invokevirtual 338, 3) := dk_182 1 82 (dk_at dksX4_parseStatement_0 21 rfl rfl)
theorem dX4_parseStatement_24 : decode cX4_parseStatement 24 = .ok (.ifCond .eq 10, 3) := dk_153 0 10 (dk_at dksX4_parseStatement_1 0 rfl rfl)
theorem dX4_parseStatement_27 : decode cX4_parseStatement 27 = .ok (.aload_n 0, 1) := dk_42 (dk_at dksX4_parseStatement_1 3 rfl rfl)
theorem dX4_parseStatement_28 : decode cX4_parseStatement 28 = .ok (.invokevirtual 346, 3) := dk_182 1 90 (dk_at dksX4_parseStatement_1 4 rfl rfl)
theorem dX4_parseStatement_31 : decode cX4_parseStatement 31 = .ok (.goto 136, 3) := dk_167 0 136 (dk_at dksX4_parseStatement_1 7 rfl rfl)
theorem dX4_parseStatement_34 : decode cX4_parseStatement 34 = .ok (.aload_n 0, 1) := dk_42 (dk_at dksX4_parseStatement_1 10 rfl rfl)
theorem dX4_parseStatement_35 : decode cX4_parseStatement 35 = .ok (.ldc_w 349, 3) := dk_19 1 93 (dk_at dksX4_parseStatement_1 11 rfl rfl)
theorem dX4_parseStatement_38 : decode cX4_parseStatement 38 = .ok (.invokevirtual 338, 3) := dk_182 1 82 (dk_at dksX4_parseStatement_1 14 rfl rfl)
theorem dX4_parseStatement_41 : decode cX4_parseStatement 41 = .ok (.ifCond .eq 10, 3) := dk_153 0 10 (dk_at dksX4_parseStatement_1 17 rfl rfl)
theorem dX4_parseStatement_44 : decode cX4_parseStatement 44 = .ok (.aload_n 0, 1) := dk_42 (dk_at dksX4_parseStatement_1 20 rfl rfl)
theorem dX4_parseStatement_45 : decode cX4_parseStatement 45 = .ok (.invokevirtual 350, 3) := dk_182 1 94 (dk_at dksX4_parseStatement_1 21 rfl rfl)
theorem dX4_parseStatement_48 : decode cX4_parseStatement 48 = .ok (.goto 119, 3) := dk_167 0 119 (dk_at dksX4_parseStatement_2 0 rfl rfl)
theorem dX4_parseStatement_51 : decode cX4_parseStatement 51 = .ok (.aload_n 0, 1) := dk_42 (dk_at dksX4_parseStatement_2 3 rfl rfl)
theorem dX4_parseStatement_52 : decode cX4_parseStatement 52 = .ok (.ldc_w 353, 3) := dk_19 1 97 (dk_at dksX4_parseStatement_2 4 rfl rfl)
theorem dX4_parseStatement_55 : decode cX4_parseStatement 55 = .ok (.invokevirtual 338, 3) := dk_182 1 82 (dk_at dksX4_parseStatement_2 7 rfl rfl)
theorem dX4_parseStatement_58 : decode cX4_parseStatement 58 = .ok (.ifCond .eq 25, 3) := dk_153 0 25 (dk_at dksX4_parseStatement_2 10 rfl rfl)
theorem dX4_parseStatement_61 : decode cX4_parseStatement 61 = .ok (.aload_n 0, 1) := dk_42 (dk_at dksX4_parseStatement_2 13 rfl rfl)
theorem dX4_parseStatement_62 : decode cX4_parseStatement 62 = .ok (.invokevirtual 327, 3) := dk_182 1 71 (dk_at dksX4_parseStatement_2 14 rfl rfl)
theorem dX4_parseStatement_65 : decode cX4_parseStatement 65 = .ok (.aload_n 0, 1) := dk_42 (dk_at dksX4_parseStatement_2 17 rfl rfl)
theorem dX4_parseStatement_66 : decode cX4_parseStatement 66 = .ok (.getfield 7, 3) := dk_180 0 7 (dk_at dksX4_parseStatement_2 18 rfl rfl)
theorem dX4_parseStatement_69 : decode cX4_parseStatement 69 = .ok (.iconst 0, 1) := dk_3 (dk_at dksX4_parseStatement_2 21 rfl rfl)
theorem dX4_parseStatement_70 : decode cX4_parseStatement 70 = .ok (.aload_n 0, 1) := dk_42 (dk_at dksX4_parseStatement_2 22 rfl rfl)
theorem dX4_parseStatement_71 : decode cX4_parseStatement 71 = .ok (.bipush 100, 2) := dk_16 100 (dk_at dksX4_parseStatement_3 0 rfl rfl)
theorem dX4_parseStatement_73 : decode cX4_parseStatement 73 = .ok (.sipush 1000, 3) := dk_17 3 232 (dk_at dksX4_parseStatement_3 2 rfl rfl)
theorem dX4_parseStatement_76 : decode cX4_parseStatement 76 = .ok (.invokevirtual 330, 3) := dk_182 1 74 (dk_at dksX4_parseStatement_3 5 rfl rfl)
theorem dX4_parseStatement_79 : decode cX4_parseStatement 79 = .ok (.iastore, 1) := dk_79 (dk_at dksX4_parseStatement_3 8 rfl rfl)
theorem dX4_parseStatement_80 : decode cX4_parseStatement 80 = .ok (.goto 87, 3) := dk_167 0 87 (dk_at dksX4_parseStatement_3 9 rfl rfl)
theorem dX4_parseStatement_83 : decode cX4_parseStatement 83 = .ok (.aload_n 0, 1) := dk_42 (dk_at dksX4_parseStatement_3 12 rfl rfl)
theorem dX4_parseStatement_84 : decode cX4_parseStatement 84 = .ok (.ldc_w 355, 3) := dk_19 1 99 (dk_at dksX4_parseStatement_3 13 rfl rfl)
theorem dX4_parseStatement_87 : decode cX4_parseStatement 87 = .ok (.invokevirtual 338, 3) := dk_182 1 82 (dk_at dksX4_parseStatement_3 16 rfl rfl)
theorem dX4_parseStatement_90 : decode cX4_parseStatement 90 = .ok (.ifCond .eq 24, 3) := dk_153 0 24 (dk_at dksX4_parseStatement_3 19 rfl rfl)
theorem dX4_parseStatement_93 : decode cX4_parseStatement 93 = .ok (.aload_n 0, 1) := dk_42 (dk_at dksX4_parseStatement_3 22 rfl rfl)
theorem dX4_parseStatement_94 : decode cX4_parseStatement 94 = .ok (.invokevirtual 327, 3) := dk_182 1 71 (dk_at dksX4_parseStatement_4 0 rfl rfl)
theorem dX4_parseStatement_97 : decode cX4_parseStatement 97 = .ok (.aload_n 0, 1) := dk_42 (dk_at dksX4_parseStatement_4 3 rfl rfl)
theorem dX4_parseStatement_98 : decode cX4_parseStatement 98 = .ok (.getfield 7, 3) := dk_180 0 7 (dk_at dksX4_parseStatement_4 4 rfl rfl)
theorem dX4_parseStatement_101 : decode cX4_parseStatement 101 = .ok (.iconst 1, 1) := dk_4 (dk_at dksX4_parseStatement_4 7 rfl rfl)
theorem dX4_parseStatement_102 : decode cX4_parseStatement 102 = .ok (.aload_n 0, 1) := dk_42 (dk_at dksX4_parseStatement_4 8 rfl rfl)
theorem dX4_parseStatement_103 : decode cX4_parseStatement 103 = .ok (.bipush (-90), 2) := dk_16 166 (dk_at dksX4_parseStatement_4 9 rfl rfl)
theorem dX4_parseStatement_105 : decode cX4_parseStatement 105 = .ok (.bipush 90, 2) := dk_16 90 (dk_at dksX4_parseStatement_4 11 rfl rfl)
theorem dX4_parseStatement_107 : decode cX4_parseStatement 107 = .ok (.invokevirtual 333, 3) := dk_182 1 77 (dk_at dksX4_parseStatement_4 13 rfl rfl)
theorem dX4_parseStatement_110 : decode cX4_parseStatement 110 = .ok (.iastore, 1) := dk_79 (dk_at dksX4_parseStatement_4 16 rfl rfl)
theorem dX4_parseStatement_111 : decode cX4_parseStatement 111 = .ok (.goto 56, 3) := dk_167 0 56 (dk_at dksX4_parseStatement_4 17 rfl rfl)
theorem dX4_parseStatement_114 : decode cX4_parseStatement 114 = .ok (.aload_n 0, 1) := dk_42 (dk_at dksX4_parseStatement_4 20 rfl rfl)
theorem dX4_parseStatement_115 : decode cX4_parseStatement 115 = .ok (.ldc_w 357, 3) := dk_19 1 101 (dk_at dksX4_parseStatement_4 21 rfl rfl)
theorem dX4_parseStatement_118 : decode cX4_parseStatement 118 = .ok (.invokevirtual 338, 3) := dk_182 1 82 (dk_at dksX4_parseStatement_5 0 rfl rfl)
theorem dX4_parseStatement_121 : decode cX4_parseStatement 121 = .ok (.ifCond .eq 23, 3) := dk_153 0 23 (dk_at dksX4_parseStatement_5 3 rfl rfl)
theorem dX4_parseStatement_124 : decode cX4_parseStatement 124 = .ok (.aload_n 0, 1) := dk_42 (dk_at dksX4_parseStatement_5 6 rfl rfl)
theorem dX4_parseStatement_125 : decode cX4_parseStatement 125 = .ok (.invokevirtual 327, 3) := dk_182 1 71 (dk_at dksX4_parseStatement_5 7 rfl rfl)
theorem dX4_parseStatement_128 : decode cX4_parseStatement 128 = .ok (.aload_n 0, 1) := dk_42 (dk_at dksX4_parseStatement_5 10 rfl rfl)
theorem dX4_parseStatement_129 : decode cX4_parseStatement 129 = .ok (.getfield 7, 3) := dk_180 0 7 (dk_at dksX4_parseStatement_5 11 rfl rfl)
theorem dX4_parseStatement_132 : decode cX4_parseStatement 132 = .ok (.iconst 4, 1) := dk_7 (dk_at dksX4_parseStatement_5 14 rfl rfl)
theorem dX4_parseStatement_133 : decode cX4_parseStatement 133 = .ok (.aload_n 0, 1) := dk_42 (dk_at dksX4_parseStatement_5 15 rfl rfl)
theorem dX4_parseStatement_134 : decode cX4_parseStatement 134 = .ok (.iconst 0, 1) := dk_3 (dk_at dksX4_parseStatement_5 16 rfl rfl)
theorem dX4_parseStatement_135 : decode cX4_parseStatement 135 = .ok (.bipush 99, 2) := dk_16 99 (dk_at dksX4_parseStatement_5 17 rfl rfl)
theorem dX4_parseStatement_137 : decode cX4_parseStatement 137 = .ok (.invokevirtual 330, 3) := dk_182 1 74 (dk_at dksX4_parseStatement_5 19 rfl rfl)
theorem dX4_parseStatement_140 : decode cX4_parseStatement 140 = .ok (.iastore, 1) := dk_79 (dk_at dksX4_parseStatement_5 22 rfl rfl)
theorem dX4_parseStatement_141 : decode cX4_parseStatement 141 = .ok (.goto 26, 3) := dk_167 0 26 (dk_at dksX4_parseStatement_6 0 rfl rfl)
theorem dX4_parseStatement_144 : decode cX4_parseStatement 144 = .ok (.aload_n 0, 1) := dk_42 (dk_at dksX4_parseStatement_6 3 rfl rfl)
theorem dX4_parseStatement_145 : decode cX4_parseStatement 145 = .ok (.aload_n 0, 1) := dk_42 (dk_at dksX4_parseStatement_6 4 rfl rfl)
theorem dX4_parseStatement_146 : decode cX4_parseStatement 146 = .ok (.ldc_w 359, 3) := dk_19 1 103 (dk_at dksX4_parseStatement_6 5 rfl rfl)
theorem dX4_parseStatement_149 : decode cX4_parseStatement 149 = .ok (.invokevirtual 338, 3) := dk_182 1 82 (dk_at dksX4_parseStatement_6 8 rfl rfl)
theorem dX4_parseStatement_152 : decode cX4_parseStatement 152 = .ok (.iconst 1, 1) := dk_4 (dk_at dksX4_parseStatement_6 11 rfl rfl)
theorem dX4_parseStatement_153 : decode cX4_parseStatement 153 = .ok (.invokevirtual 323, 3) := dk_182 1 67 (dk_at dksX4_parseStatement_6 12 rfl rfl)
theorem dX4_parseStatement_156 : decode cX4_parseStatement 156 = .ok (.aload_n 0, 1) := dk_42 (dk_at dksX4_parseStatement_6 15 rfl rfl)
theorem dX4_parseStatement_157 : decode cX4_parseStatement 157 = .ok (.invokevirtual 327, 3) := dk_182 1 71 (dk_at dksX4_parseStatement_6 16 rfl rfl)
theorem dX4_parseStatement_160 : decode cX4_parseStatement 160 = .ok (.aload_n 0, 1) := dk_42 (dk_at dksX4_parseStatement_6 19 rfl rfl)
theorem dX4_parseStatement_161 : decode cX4_parseStatement 161 = .ok (.getfield 7, 3) := dk_180 0 7 (dk_at dksX4_parseStatement_6 20 rfl rfl)
theorem dX4_parseStatement_164 : decode cX4_parseStatement 164 = .ok (.iconst 2, 1) := dk_5 (dk_at dksX4_parseStatement_6 23 rfl rfl)
theorem dX4_parseStatement_165 : decode cX4_parseStatement 165 = .ok (.iconst 1, 1) := dk_4 (dk_at dksX4_parseStatement_7 0 rfl rfl)
theorem dX4_parseStatement_166 : decode cX4_parseStatement 166 = .ok (.iastore, 1) := dk_79 (dk_at dksX4_parseStatement_7 1 rfl rfl)
theorem dX4_parseStatement_167 : decode cX4_parseStatement 167 = .ok (.aload_n 0, 1) := dk_42 (dk_at dksX4_parseStatement_7 2 rfl rfl)
theorem dX4_parseStatement_168 : decode cX4_parseStatement 168 = .ok (.aload_n 0, 1) := dk_42 (dk_at dksX4_parseStatement_7 3 rfl rfl)
theorem dX4_parseStatement_169 : decode cX4_parseStatement 169 = .ok (.getfield 294, 3) := dk_180 1 38 (dk_at dksX4_parseStatement_7 4 rfl rfl)
theorem dX4_parseStatement_172 : decode cX4_parseStatement 172 = .ok (.iconst 4, 1) := dk_7 (dk_at dksX4_parseStatement_7 7 rfl rfl)
theorem dX4_parseStatement_173 : decode cX4_parseStatement 173 = .ok (.if_icmp .ne 7, 3) := dk_160 0 7 (dk_at dksX4_parseStatement_7 8 rfl rfl)
theorem dX4_parseStatement_176 : decode cX4_parseStatement 176 = .ok (.iconst 1, 1) := dk_4 (dk_at dksX4_parseStatement_7 11 rfl rfl)
theorem dX4_parseStatement_177 : decode cX4_parseStatement 177 = .ok (.goto 4, 3) := dk_167 0 4 (dk_at dksX4_parseStatement_7 12 rfl rfl)
theorem dX4_parseStatement_180 : decode cX4_parseStatement 180 = .ok (.iconst 0, 1) := dk_3 (dk_at dksX4_parseStatement_7 15 rfl rfl)
theorem dX4_parseStatement_181 : decode cX4_parseStatement 181 = .ok (.iconst 1, 1) := dk_4 (dk_at dksX4_parseStatement_7 16 rfl rfl)
theorem dX4_parseStatement_182 : decode cX4_parseStatement 182 = .ok (.invokevirtual 323, 3) := dk_182 1 67 (dk_at dksX4_parseStatement_7 17 rfl rfl)
theorem dX4_parseStatement_185 : decode cX4_parseStatement 185 = .ok (.aload_n 0, 1) := dk_42 (dk_at dksX4_parseStatement_7 20 rfl rfl)
theorem dX4_parseStatement_186 : decode cX4_parseStatement 186 = .ok (.invokevirtual 327, 3) := dk_182 1 71 (dk_at dksX4_parseStatement_7 21 rfl rfl)
theorem dX4_parseStatement_189 : decode cX4_parseStatement 189 = .ok (.return_, 1) := dk_177 (dk_at dksX4_parseStatement_8 0 rfl rfl)
abbrev cX4_isWord : ByteArray := prog_25_method_106_code
def yX4_isWord : MethodName := ⟨RX4, "isWord", "(Ljava/lang/String;)Z"⟩
def dkwX4_isWord_3 : List UInt8 := [3, 172]
abbrev dktX4_isWord_3 : List UInt8 := dkwX4_isWord_3 ++ []
def dkwX4_isWord_2 : List UInt8 := [20, 1, 46, 101, 65, 132, 4, 1, 167, 255, 226, 42, 180, 1, 31, 32, 148, 154, 0, 7, 4, 167, 0, 4]
abbrev dktX4_isWord_2 : List UInt8 := dkwX4_isWord_2 ++ dktX4_isWord_3
def dkwX4_isWord_1 : List UInt8 := [54, 4, 21, 4, 43, 182, 1, 51, 162, 0, 27, 20, 1, 44, 32, 105, 43, 21, 4, 182, 1, 57, 133, 97]
abbrev dktX4_isWord_1 : List UInt8 := dkwX4_isWord_1 ++ dktX4_isWord_2
def dkwX4_isWord_0 : List UInt8 := [42, 180, 1, 38, 5, 160, 0, 14, 42, 180, 1, 28, 43, 182, 1, 51, 159, 0, 5, 3, 172, 9, 65, 3]
abbrev dktX4_isWord_0 : List UInt8 := dkwX4_isWord_0 ++ dktX4_isWord_1
theorem dksX4_isWord_0 : cX4_isWord.data.toList.drop 0 = dktX4_isWord_0 := by decide +kernel
theorem dksX4_isWord_1 : cX4_isWord.data.toList.drop 24 = dktX4_isWord_1 := dk_seg dksX4_isWord_0 24 rfl rfl
theorem dksX4_isWord_2 : cX4_isWord.data.toList.drop 48 = dktX4_isWord_2 := dk_seg dksX4_isWord_1 24 rfl rfl
theorem dksX4_isWord_3 : cX4_isWord.data.toList.drop 72 = dktX4_isWord_3 := dk_seg dksX4_isWord_2 24 rfl rfl
theorem dX4_isWord_0 : decode cX4_isWord 0 = .ok (.aload_n 0, 1) := dk_42 (dk_at dksX4_isWord_0 0 rfl rfl)
theorem dX4_isWord_1 : decode cX4_isWord 1 = .ok (.getfield 294, 3) := dk_180 1 38 (dk_at dksX4_isWord_0 1 rfl rfl)
theorem dX4_isWord_4 : decode cX4_isWord 4 = .ok (.iconst 2, 1) := dk_5 (dk_at dksX4_isWord_0 4 rfl rfl)
theorem dX4_isWord_5 : decode cX4_isWord 5 = .ok (.if_icmp .ne 14, 3) := dk_160 0 14 (dk_at dksX4_isWord_0 5 rfl rfl)
theorem dX4_isWord_8 : decode cX4_isWord 8 = .ok (.aload_n 0, 1) := dk_42 (dk_at dksX4_isWord_0 8 rfl rfl)
theorem dX4_isWord_9 : decode cX4_isWord 9 = .ok (.getfield 284, 3) := dk_180 1 28 (dk_at dksX4_isWord_0 9 rfl rfl)
theorem dX4_isWord_12 : decode cX4_isWord 12 = .ok (.aload_n 1, 1) := dk_43 (dk_at dksX4_isWord_0 12 rfl rfl)
theorem dX4_isWord_13 : decode cX4_isWord 13 = .ok (.invokevirtual 307, 3) := dk_182 1 51 (dk_at dksX4_isWord_0 13 rfl rfl)
theorem dX4_isWord_16 : decode cX4_isWord 16 = .ok (.if_icmp .eq 5, 3) := dk_159 0 5 (dk_at dksX4_isWord_0 16 rfl rfl)
theorem dX4_isWord_19 : decode cX4_isWord 19 = .ok (.iconst 0, 1) := dk_3 (dk_at dksX4_isWord_0 19 rfl rfl)
theorem dX4_isWord_20 : decode cX4_isWord 20 = .ok (.ireturn, 1) := dk_172 (dk_at dksX4_isWord_0 20 rfl rfl)
theorem dX4_isWord_21 : decode cX4_isWord 21 = .ok (.lconst 0, 1) := dk_9 (dk_at dksX4_isWord_0 21 rfl rfl)
theorem dX4_isWord_22 : decode cX4_isWord 22 = .ok (.lstore_n 2, 1) := dk_65 (dk_at dksX4_isWord_0 22 rfl rfl)
theorem dX4_isWord_23 : decode cX4_isWord 23 = .ok (.iconst 0, 1) := dk_3 (dk_at dksX4_isWord_0 23 rfl rfl)
theorem dX4_isWord_24 : decode cX4_isWord 24 = .ok (.istore 4, 2) := dk_54 4 (dk_at dksX4_isWord_1 0 rfl rfl)
theorem dX4_isWord_26 : decode cX4_isWord 26 = .ok (.iload 4, 2) := dk_21 4 (dk_at dksX4_isWord_1 2 rfl rfl)
theorem dX4_isWord_28 : decode cX4_isWord 28 = .ok (.aload_n 1, 1) := dk_43 (dk_at dksX4_isWord_1 4 rfl rfl)
theorem dX4_isWord_29 : decode cX4_isWord 29 = .ok (.invokevirtual 307, 3) := dk_182 1 51 (dk_at dksX4_isWord_1 5 rfl rfl)
theorem dX4_isWord_32 : decode cX4_isWord 32 = .ok (.if_icmp .ge 27, 3) := dk_162 0 27 (dk_at dksX4_isWord_1 8 rfl rfl)
theorem dX4_isWord_35 : decode cX4_isWord 35 = .ok (.ldc2_w 300, 3) := dk_20 1 44 (dk_at dksX4_isWord_1 11 rfl rfl)
theorem dX4_isWord_38 : decode cX4_isWord 38 = .ok (.lload_n 2, 1) := dk_32 (dk_at dksX4_isWord_1 14 rfl rfl)
theorem dX4_isWord_39 : decode cX4_isWord 39 = .ok (.lmul, 1) := dk_105 (dk_at dksX4_isWord_1 15 rfl rfl)
theorem dX4_isWord_40 : decode cX4_isWord 40 = .ok (.aload_n 1, 1) := dk_43 (dk_at dksX4_isWord_1 16 rfl rfl)
theorem dX4_isWord_41 : decode cX4_isWord 41 = .ok (.iload 4, 2) := dk_21 4 (dk_at dksX4_isWord_1 17 rfl rfl)
theorem dX4_isWord_43 : decode cX4_isWord 43 = .ok (.invokevirtual 313, 3) := dk_182 1 57 (dk_at dksX4_isWord_1 19 rfl rfl)
theorem dX4_isWord_46 : decode cX4_isWord 46 = .ok (.i2l, 1) := dk_133 (dk_at dksX4_isWord_1 22 rfl rfl)
theorem dX4_isWord_47 : decode cX4_isWord 47 = .ok (.ladd, 1) := dk_97 (dk_at dksX4_isWord_1 23 rfl rfl)
theorem dX4_isWord_48 : decode cX4_isWord 48 = .ok (.ldc2_w 302, 3) := dk_20 1 46 (dk_at dksX4_isWord_2 0 rfl rfl)
theorem dX4_isWord_51 : decode cX4_isWord 51 = .ok (.lsub, 1) := dk_101 (dk_at dksX4_isWord_2 3 rfl rfl)
theorem dX4_isWord_52 : decode cX4_isWord 52 = .ok (.lstore_n 2, 1) := dk_65 (dk_at dksX4_isWord_2 4 rfl rfl)
theorem dX4_isWord_53 : decode cX4_isWord 53 = .ok (.iinc 4 1, 3) := dk_132 4 1 (dk_at dksX4_isWord_2 5 rfl rfl)
theorem dX4_isWord_56 : decode cX4_isWord 56 = .ok (.goto (-30), 3) := dk_167 255 226 (dk_at dksX4_isWord_2 8 rfl rfl)
theorem dX4_isWord_59 : decode cX4_isWord 59 = .ok (.aload_n 0, 1) := dk_42 (dk_at dksX4_isWord_2 11 rfl rfl)
theorem dX4_isWord_60 : decode cX4_isWord 60 = .ok (.getfield 287, 3) := dk_180 1 31 (dk_at dksX4_isWord_2 12 rfl rfl)
theorem dX4_isWord_63 : decode cX4_isWord 63 = .ok (.lload_n 2, 1) := dk_32 (dk_at dksX4_isWord_2 15 rfl rfl)
theorem dX4_isWord_64 : decode cX4_isWord 64 = .ok (.lcmp, 1) := dk_148 (dk_at dksX4_isWord_2 16 rfl rfl)
theorem dX4_isWord_65 : decode cX4_isWord 65 = .ok (.ifCond .ne 7, 3) := dk_154 0 7 (dk_at dksX4_isWord_2 17 rfl rfl)
theorem dX4_isWord_68 : decode cX4_isWord 68 = .ok (.iconst 1, 1) := dk_4 (dk_at dksX4_isWord_2 20 rfl rfl)
theorem dX4_isWord_69 : decode cX4_isWord 69 = .ok (.goto 4, 3) := dk_167 0 4 (dk_at dksX4_isWord_2 21 rfl rfl)
theorem dX4_isWord_72 : decode cX4_isWord 72 = .ok (.iconst 0, 1) := dk_3 (dk_at dksX4_isWord_3 0 rfl rfl)
theorem dX4_isWord_73 : decode cX4_isWord 73 = .ok (.ireturn, 1) := dk_172 (dk_at dksX4_isWord_3 1 rfl rfl)
abbrev cX4_parseMicrophone : ByteArray := prog_25_method_111_code
def yX4_parseMicrophone : MethodName := ⟨RX4, "parseMicrophone", "()V"⟩
def dkwX4_parseMicrophone_3 : List UInt8 := [42, 27, 28, 29, 21, 4, 182, 0, 103, 54, 5, 177]
abbrev dktX4_parseMicrophone_3 : List UInt8 := dkwX4_parseMicrophone_3 ++ []
def dkwX4_parseMicrophone_2 : List UInt8 := [3, 17, 1, 244, 182, 1, 74, 62, 42, 3, 16, 9, 182, 1, 74, 54, 4, 42, 180, 1, 61, 154, 0, 14]
abbrev dktX4_parseMicrophone_2 : List UInt8 := dkwX4_parseMicrophone_2 ++ dktX4_parseMicrophone_3
def dkwX4_parseMicrophone_1 : List UInt8 := [182, 1, 71, 42, 17, 236, 120, 17, 19, 136, 182, 1, 77, 60, 42, 16, 156, 16, 99, 182, 1, 77, 61, 42]
abbrev dktX4_parseMicrophone_1 : List UInt8 := dkwX4_parseMicrophone_1 ++ dktX4_parseMicrophone_2
def dkwX4_parseMicrophone_0 : List UInt8 := [42, 42, 180, 0, 7, 16, 8, 46, 16, 8, 162, 0, 7, 4, 167, 0, 4, 3, 6, 182, 1, 67, 42]
abbrev dktX4_parseMicrophone_0 : List UInt8 := dkwX4_parseMicrophone_0 ++ dktX4_parseMicrophone_1
theorem dksX4_parseMicrophone_0 : cX4_parseMicrophone.data.toList.drop 0 = dktX4_parseMicrophone_0 := by decide +kernel
theorem dksX4_parseMicrophone_1 : cX4_parseMicrophone.data.toList.drop 23 = dktX4_parseMicrophone_1 := dk_seg dksX4_parseMicrophone_0 23 rfl rfl
theorem dksX4_parseMicrophone_2 : cX4_parseMicrophone.data.toList.drop 47 = dktX4_parseMicrophone_2 := dk_seg dksX4_parseMicrophone_1 24 rfl rfl
theorem dksX4_parseMicrophone_3 : cX4_parseMicrophone.data.toList.drop 71 = dktX4_parseMicrophone_3 := dk_seg dksX4_parseMicrophone_2 24 rfl rfl
theorem dX4_parseMicrophone_0 : decode cX4_parseMicrophone 0 = .ok (.aload_n 0, 1) := dk_42 (dk_at dksX4_parseMicrophone_0 0 rfl rfl)
theorem dX4_parseMicrophone_1 : decode cX4_parseMicrophone 1 = .ok (.aload_n 0, 1) := dk_42 (dk_at dksX4_parseMicrophone_0 1 rfl rfl)
theorem dX4_parseMicrophone_2 : decode cX4_parseMicrophone 2 = .ok (.getfield 7, 3) := dk_180 0 7 (dk_at dksX4_parseMicrophone_0 2 rfl rfl)
theorem dX4_parseMicrophone_5 : decode cX4_parseMicrophone 5 = .ok (.bipush 8, 2) := dk_16 8 (dk_at dksX4_parseMicrophone_0 5 rfl rfl)
theorem dX4_parseMicrophone_7 : decode cX4_parseMicrophone 7 = .ok (.iaload, 1) := dk_46 (dk_at dksX4_parseMicrophone_0 7 rfl rfl)
theorem dX4_parseMicrophone_8 : decode cX4_parseMicrophone 8 = .ok (.bipush 8, 2) := dk_16 8 (dk_at dksX4_parseMicrophone_0 8 rfl rfl)
theorem dX4_parseMicrophone_10 : decode cX4_parseMicrophone 10 = .ok (.if_icmp .ge 7, 3) := dk_162 0 7 (dk_at dksX4_parseMicrophone_0 10 rfl rfl)
theorem dX4_parseMicrophone_13 : decode cX4_parseMicrophone 13 = .ok (.iconst 1, 1) := dk_4 (dk_at dksX4_parseMicrophone_0 13 rfl rfl)
theorem dX4_parseMicrophone_14 : decode cX4_parseMicrophone 14 = .ok (.goto 4, 3) := dk_167 0 4 (dk_at dksX4_parseMicrophone_0 14 rfl rfl)
theorem dX4_parseMicrophone_17 : decode cX4_parseMicrophone 17 = .ok (.iconst 0, 1) := dk_3 (dk_at dksX4_parseMicrophone_0 17 rfl rfl)
theorem dX4_parseMicrophone_18 : decode cX4_parseMicrophone 18 = .ok (.iconst 3, 1) := dk_6 (dk_at dksX4_parseMicrophone_0 18 rfl rfl)
theorem dX4_parseMicrophone_19 : decode cX4_parseMicrophone 19 = .ok (.invokevirtual 323, 3) := dk_182 1 67 (dk_at dksX4_parseMicrophone_0 19 rfl rfl)
theorem dX4_parseMicrophone_22 : decode cX4_parseMicrophone 22 = .ok (.aload_n 0, 1) := dk_42 (dk_at dksX4_parseMicrophone_0 22 rfl rfl)
theorem dX4_parseMicrophone_23 : decode cX4_parseMicrophone 23 = .ok (.invokevirtual 327, 3) := dk_182 1 71 (dk_at dksX4_parseMicrophone_1 0 rfl rfl)
theorem dX4_parseMicrophone_26 : decode cX4_parseMicrophone 26 = .ok (.aload_n 0, 1) := dk_42 (dk_at dksX4_parseMicrophone_1 3 rfl rfl)
theorem dX4_parseMicrophone_27 : decode cX4_parseMicrophone 27 = .ok (.sipush (-5000), 3) := dk_17 236 120 (dk_at dksX4_parseMicrophone_1 4 rfl rfl)
theorem dX4_parseMicrophone_30 : decode cX4_parseMicrophone 30 = .ok (.sipush 5000, 3) := dk_17 19 136 (dk_at dksX4_parseMicrophone_1 7 rfl rfl)
theorem dX4_parseMicrophone_33 : decode cX4_parseMicrophone 33 = .ok (.invokevirtual 333, 3) := dk_182 1 77 (dk_at dksX4_parseMicrophone_1 10 rfl rfl)
theorem dX4_parseMicrophone_36 : decode cX4_parseMicrophone 36 = .ok (.istore_n 1, 1) := dk_60 (dk_at dksX4_parseMicrophone_1 13 rfl rfl)
theorem dX4_parseMicrophone_37 : decode cX4_parseMicrophone 37 = .ok (.aload_n 0, 1) := dk_42 (dk_at dksX4_parseMicrophone_1 14 rfl rfl)
theorem dX4_parseMicrophone_38 : decode cX4_parseMicrophone 38 = .ok (.bipush (-100), 2) := dk_16 156 (dk_at dksX4_parseMicrophone_1 15 rfl rfl)
theorem dX4_parseMicrophone_40 : decode cX4_parseMicrophone 40 = .ok (.bipush 99, 2) := dk_16 99 (dk_at dksX4_parseMicrophone_1 17 rfl rfl)
theorem dX4_parseMicrophone_42 : decode cX4_parseMicrophone 42 = .ok (.invokevirtual 333, 3) := dk_182 1 77 (dk_at dksX4_parseMicrophone_1 19 rfl rfl)
theorem dX4_parseMicrophone_45 : decode cX4_parseMicrophone 45 = .ok (.istore_n 2, 1) := dk_61 (dk_at dksX4_parseMicrophone_1 22 rfl rfl)
theorem dX4_parseMicrophone_46 : decode cX4_parseMicrophone 46 = .ok (.aload_n 0, 1) := dk_42 (dk_at dksX4_parseMicrophone_1 23 rfl rfl)
theorem dX4_parseMicrophone_47 : decode cX4_parseMicrophone 47 = .ok (.iconst 0, 1) := dk_3 (dk_at dksX4_parseMicrophone_2 0 rfl rfl)
theorem dX4_parseMicrophone_48 : decode cX4_parseMicrophone 48 = .ok (.sipush 500, 3) := dk_17 1 244 (dk_at dksX4_parseMicrophone_2 1 rfl rfl)
theorem dX4_parseMicrophone_51 : decode cX4_parseMicrophone 51 = .ok (.invokevirtual 330, 3) := dk_182 1 74 (dk_at dksX4_parseMicrophone_2 4 rfl rfl)
theorem dX4_parseMicrophone_54 : decode cX4_parseMicrophone 54 = .ok (.istore_n 3, 1) := dk_62 (dk_at dksX4_parseMicrophone_2 7 rfl rfl)
theorem dX4_parseMicrophone_55 : decode cX4_parseMicrophone 55 = .ok (.aload_n 0, 1) := dk_42 (dk_at dksX4_parseMicrophone_2 8 rfl rfl)
theorem dX4_parseMicrophone_56 : decode cX4_parseMicrophone 56 = .ok (.iconst 0, 1) := dk_3 (dk_at dksX4_parseMicrophone_2 9 rfl rfl)
theorem dX4_parseMicrophone_57 : decode cX4_parseMicrophone 57 = .ok (.bipush 9, 2) := dk_16 9 (dk_at dksX4_parseMicrophone_2 10 rfl rfl)
theorem dX4_parseMicrophone_59 : decode cX4_parseMicrophone 59 = .ok (.invokevirtual 330, 3) := dk_182 1 74 (dk_at dksX4_parseMicrophone_2 12 rfl rfl)
theorem dX4_parseMicrophone_62 : decode cX4_parseMicrophone 62 = .ok (.istore 4, 2) := dk_54 4 (dk_at dksX4_parseMicrophone_2 15 rfl rfl)
theorem dX4_parseMicrophone_64 : decode cX4_parseMicrophone 64 = .ok (.aload_n 0, 1) := dk_42 (dk_at dksX4_parseMicrophone_2 17 rfl rfl)
theorem dX4_parseMicrophone_65 : decode cX4_parseMicrophone 65 = .ok (.getfield 317, 3) := dk_180 1 61 (dk_at dksX4_parseMicrophone_2 18 rfl rfl)
theorem dX4_parseMicrophone_68 : decode cX4_parseMicrophone 68 = .ok (.ifCond .ne 14, 3) := dk_154 0 14 (dk_at dksX4_parseMicrophone_2 21 rfl rfl)
theorem dX4_parseMicrophone_71 : decode cX4_parseMicrophone 71 = .ok (.aload_n 0, 1) := dk_42 (dk_at dksX4_parseMicrophone_3 0 rfl rfl)
theorem dX4_parseMicrophone_72 : decode cX4_parseMicrophone 72 = .ok (.iload_n 1, 1) := dk_27 (dk_at dksX4_parseMicrophone_3 1 rfl rfl)
theorem dX4_parseMicrophone_73 : decode cX4_parseMicrophone 73 = .ok (.iload_n 2, 1) := dk_28 (dk_at dksX4_parseMicrophone_3 2 rfl rfl)
theorem dX4_parseMicrophone_74 : decode cX4_parseMicrophone 74 = .ok (.iload_n 3, 1) := dk_29 (dk_at dksX4_parseMicrophone_3 3 rfl rfl)
theorem dX4_parseMicrophone_75 : decode cX4_parseMicrophone 75 = .ok (.iload 4, 2) := dk_21 4 (dk_at dksX4_parseMicrophone_3 4 rfl rfl)
theorem dX4_parseMicrophone_77 : decode cX4_parseMicrophone 77 = .ok (.invokevirtual 103, 3) := dk_182 0 103 (dk_at dksX4_parseMicrophone_3 6 rfl rfl)
theorem dX4_parseMicrophone_80 : decode cX4_parseMicrophone 80 = .ok (.istore 5, 2) := dk_54 5 (dk_at dksX4_parseMicrophone_3 9 rfl rfl)
theorem dX4_parseMicrophone_82 : decode cX4_parseMicrophone 82 = .ok (.return_, 1) := dk_177 (dk_at dksX4_parseMicrophone_3 11 rfl rfl)
abbrev cX4_require : ByteArray := prog_25_method_107_code
def yX4_require : MethodName := ⟨RX4, "require", "(ZI)V"⟩
def dkwX4_require_1 : List UInt8 := [177]
abbrev dktX4_require_1 : List UInt8 := dkwX4_require_1 ++ []
def dkwX4_require_0 : List UInt8 := [27, 154, 0, 23, 42, 180, 1, 61, 154, 0, 16, 42, 28, 181, 1, 61, 42, 42, 180, 1, 25, 181, 0, 42]
abbrev dktX4_require_0 : List UInt8 := dkwX4_require_0 ++ dktX4_require_1
theorem dksX4_require_0 : cX4_require.data.toList.drop 0 = dktX4_require_0 := by decide +kernel
theorem dksX4_require_1 : cX4_require.data.toList.drop 24 = dktX4_require_1 := dk_seg dksX4_require_0 24 rfl rfl
theorem dX4_require_0 : decode cX4_require 0 = .ok (.iload_n 1, 1) := dk_27 (dk_at dksX4_require_0 0 rfl rfl)
theorem dX4_require_1 : decode cX4_require 1 = .ok (.ifCond .ne 23, 3) := dk_154 0 23 (dk_at dksX4_require_0 1 rfl rfl)
theorem dX4_require_4 : decode cX4_require 4 = .ok (.aload_n 0, 1) := dk_42 (dk_at dksX4_require_0 4 rfl rfl)
theorem dX4_require_5 : decode cX4_require 5 = .ok (.getfield 317, 3) := dk_180 1 61 (dk_at dksX4_require_0 5 rfl rfl)
theorem dX4_require_8 : decode cX4_require 8 = .ok (.ifCond .ne 16, 3) := dk_154 0 16 (dk_at dksX4_require_0 8 rfl rfl)
theorem dX4_require_11 : decode cX4_require 11 = .ok (.aload_n 0, 1) := dk_42 (dk_at dksX4_require_0 11 rfl rfl)
theorem dX4_require_12 : decode cX4_require 12 = .ok (.iload_n 2, 1) := dk_28 (dk_at dksX4_require_0 12 rfl rfl)
theorem dX4_require_13 : decode cX4_require 13 = .ok (.putfield 317, 3) := dk_181 1 61 (dk_at dksX4_require_0 13 rfl rfl)
theorem dX4_require_16 : decode cX4_require 16 = .ok (.aload_n 0, 1) := dk_42 (dk_at dksX4_require_0 16 rfl rfl)
theorem dX4_require_17 : decode cX4_require 17 = .ok (.aload_n 0, 1) := dk_42 (dk_at dksX4_require_0 17 rfl rfl)
theorem dX4_require_18 : decode cX4_require 18 = .ok (.getfield 281, 3) := dk_180 1 25 (dk_at dksX4_require_0 18 rfl rfl)
theorem dX4_require_21 : decode cX4_require 21 = .ok (.putfield 42, 3) := dk_181 0 42 (dk_at dksX4_require_0 21 rfl rfl)
theorem dX4_require_24 : decode cX4_require 24 = .ok (.return_, 1) := dk_177 (dk_at dksX4_require_1 0 rfl rfl)
abbrev cX4_advance : ByteArray := prog_25_method_108_code
def yX4_advance : MethodName := ⟨RX4, "advance", "()V"⟩
def dkwX4_advance_0 : List UInt8 := [42, 180, 1, 61, 154, 0, 7, 42, 182, 1, 64, 177]
abbrev dktX4_advance_0 : List UInt8 := dkwX4_advance_0 ++ []
theorem dksX4_advance_0 : cX4_advance.data.toList.drop 0 = dktX4_advance_0 := by decide +kernel
theorem dX4_advance_0 : decode cX4_advance 0 = .ok (.aload_n 0, 1) := dk_42 (dk_at dksX4_advance_0 0 rfl rfl)
theorem dX4_advance_1 : decode cX4_advance 1 = .ok (.getfield 317, 3) := dk_180 1 61 (dk_at dksX4_advance_0 1 rfl rfl)
theorem dX4_advance_4 : decode cX4_advance 4 = .ok (.ifCond .ne 7, 3) := dk_154 0 7 (dk_at dksX4_advance_0 4 rfl rfl)
theorem dX4_advance_7 : decode cX4_advance 7 = .ok (.aload_n 0, 1) := dk_42 (dk_at dksX4_advance_0 7 rfl rfl)
theorem dX4_advance_8 : decode cX4_advance 8 = .ok (.invokevirtual 320, 3) := dk_182 1 64 (dk_at dksX4_advance_0 8 rfl rfl)
theorem dX4_advance_11 : decode cX4_advance 11 = .ok (.return_, 1) := dk_177 (dk_at dksX4_advance_0 11 rfl rfl)
abbrev cX4_parseInteger : ByteArray := prog_25_method_110_code
def yX4_parseInteger : MethodName := ⟨RX4, "parseInteger", "(II)I"⟩
def dkwX4_parseInteger_2 : List UInt8 := [5, 182, 1, 67, 42, 180, 1, 35, 116, 62, 42, 182, 1, 71, 29, 172]
abbrev dktX4_parseInteger_2 : List UInt8 := dkwX4_parseInteger_2 ++ []
def dkwX4_parseInteger_1 : List UInt8 := [6, 160, 0, 7, 4, 167, 0, 4, 3, 4, 182, 1, 67, 42, 42, 180, 1, 35, 116, 27, 28, 184, 0, 52]
abbrev dktX4_parseInteger_1 : List UInt8 := dkwX4_parseInteger_1 ++ dktX4_parseInteger_2
def dkwX4_parseInteger_0 : List UInt8 := [42, 180, 1, 38, 8, 159, 0, 10, 42, 27, 28, 182, 1, 74, 172, 42, 182, 1, 71, 42, 42, 180, 1, 38]
abbrev dktX4_parseInteger_0 : List UInt8 := dkwX4_parseInteger_0 ++ dktX4_parseInteger_1
theorem dksX4_parseInteger_0 : cX4_parseInteger.data.toList.drop 0 = dktX4_parseInteger_0 := by decide +kernel
theorem dksX4_parseInteger_1 : cX4_parseInteger.data.toList.drop 24 = dktX4_parseInteger_1 := dk_seg dksX4_parseInteger_0 24 rfl rfl
theorem dksX4_parseInteger_2 : cX4_parseInteger.data.toList.drop 48 = dktX4_parseInteger_2 := dk_seg dksX4_parseInteger_1 24 rfl rfl
theorem dX4_parseInteger_0 : decode cX4_parseInteger 0 = .ok (.aload_n 0, 1) := dk_42 (dk_at dksX4_parseInteger_0 0 rfl rfl)
theorem dX4_parseInteger_1 : decode cX4_parseInteger 1 = .ok (.getfield 294, 3) := dk_180 1 38 (dk_at dksX4_parseInteger_0 1 rfl rfl)
theorem dX4_parseInteger_4 : decode cX4_parseInteger 4 = .ok (.iconst 5, 1) := dk_8 (dk_at dksX4_parseInteger_0 4 rfl rfl)
theorem dX4_parseInteger_5 : decode cX4_parseInteger 5 = .ok (.if_icmp .eq 10, 3) := dk_159 0 10 (dk_at dksX4_parseInteger_0 5 rfl rfl)
theorem dX4_parseInteger_8 : decode cX4_parseInteger 8 = .ok (.aload_n 0, 1) := dk_42 (dk_at dksX4_parseInteger_0 8 rfl rfl)
theorem dX4_parseInteger_9 : decode cX4_parseInteger 9 = .ok (.iload_n 1, 1) := dk_27 (dk_at dksX4_parseInteger_0 9 rfl rfl)
theorem dX4_parseInteger_10 : decode cX4_parseInteger 10 = .ok (.iload_n 2, 1) := dk_28 (dk_at dksX4_parseInteger_0 10 rfl rfl)
theorem dX4_parseInteger_11 : decode cX4_parseInteger 11 = .ok (.invokevirtual 330, 3) := dk_182 1 74 (dk_at dksX4_parseInteger_0 11 rfl rfl)
theorem dX4_parseInteger_14 : decode cX4_parseInteger 14 = .ok (.ireturn, 1) := dk_172 (dk_at dksX4_parseInteger_0 14 rfl rfl)
theorem dX4_parseInteger_15 : decode cX4_parseInteger 15 = .ok (.aload_n 0, 1) := dk_42 (dk_at dksX4_parseInteger_0 15 rfl rfl)
theorem dX4_parseInteger_16 : decode cX4_parseInteger 16 = .ok (.invokevirtual 327, 3) := dk_182 1 71 (dk_at dksX4_parseInteger_0 16 rfl rfl)
theorem dX4_parseInteger_19 : decode cX4_parseInteger 19 = .ok (.aload_n 0, 1) := dk_42 (dk_at dksX4_parseInteger_0 19 rfl rfl)
theorem dX4_parseInteger_20 : decode cX4_parseInteger 20 = .ok (.aload_n 0, 1) := dk_42 (dk_at dksX4_parseInteger_0 20 rfl rfl)
theorem dX4_parseInteger_21 : decode cX4_parseInteger 21 = .ok (.getfield 294, 3) := dk_180 1 38 (dk_at dksX4_parseInteger_0 21 rfl rfl)
theorem dX4_parseInteger_24 : decode cX4_parseInteger 24 = .ok (.iconst 3, 1) := dk_6 (dk_at dksX4_parseInteger_1 0 rfl rfl)
theorem dX4_parseInteger_25 : decode cX4_parseInteger 25 = .ok (.if_icmp .ne 7, 3) := dk_160 0 7 (dk_at dksX4_parseInteger_1 1 rfl rfl)
theorem dX4_parseInteger_28 : decode cX4_parseInteger 28 = .ok (.iconst 1, 1) := dk_4 (dk_at dksX4_parseInteger_1 4 rfl rfl)
theorem dX4_parseInteger_29 : decode cX4_parseInteger 29 = .ok (.goto 4, 3) := dk_167 0 4 (dk_at dksX4_parseInteger_1 5 rfl rfl)
theorem dX4_parseInteger_32 : decode cX4_parseInteger 32 = .ok (.iconst 0, 1) := dk_3 (dk_at dksX4_parseInteger_1 8 rfl rfl)
theorem dX4_parseInteger_33 : decode cX4_parseInteger 33 = .ok (.iconst 1, 1) := dk_4 (dk_at dksX4_parseInteger_1 9 rfl rfl)
theorem dX4_parseInteger_34 : decode cX4_parseInteger 34 = .ok (.invokevirtual 323, 3) := dk_182 1 67 (dk_at dksX4_parseInteger_1 10 rfl rfl)
theorem dX4_parseInteger_37 : decode cX4_parseInteger 37 = .ok (.aload_n 0, 1) := dk_42 (dk_at dksX4_parseInteger_1 13 rfl rfl)
theorem dX4_parseInteger_38 : decode cX4_parseInteger 38 = .ok (.aload_n 0, 1) := dk_42 (dk_at dksX4_parseInteger_1 14 rfl rfl)
theorem dX4_parseInteger_39 : decode cX4_parseInteger 39 = .ok (.getfield 291, 3) := dk_180 1 35 (dk_at dksX4_parseInteger_1 15 rfl rfl)
theorem dX4_parseInteger_42 : decode cX4_parseInteger 42 = .ok (.ineg, 1) := dk_116 (dk_at dksX4_parseInteger_1 18 rfl rfl)
theorem dX4_parseInteger_43 : decode cX4_parseInteger 43 = .ok (.iload_n 1, 1) := dk_27 (dk_at dksX4_parseInteger_1 19 rfl rfl)
theorem dX4_parseInteger_44 : decode cX4_parseInteger 44 = .ok (.iload_n 2, 1) := dk_28 (dk_at dksX4_parseInteger_1 20 rfl rfl)
theorem dX4_parseInteger_45 : decode cX4_parseInteger 45 = .ok (.invokestatic 52, 3) := dk_184 0 52 (dk_at dksX4_parseInteger_1 21 rfl rfl)
theorem dX4_parseInteger_48 : decode cX4_parseInteger 48 = .ok (.iconst 2, 1) := dk_5 (dk_at dksX4_parseInteger_2 0 rfl rfl)
theorem dX4_parseInteger_49 : decode cX4_parseInteger 49 = .ok (.invokevirtual 323, 3) := dk_182 1 67 (dk_at dksX4_parseInteger_2 1 rfl rfl)
theorem dX4_parseInteger_52 : decode cX4_parseInteger 52 = .ok (.aload_n 0, 1) := dk_42 (dk_at dksX4_parseInteger_2 4 rfl rfl)
theorem dX4_parseInteger_53 : decode cX4_parseInteger 53 = .ok (.getfield 291, 3) := dk_180 1 35 (dk_at dksX4_parseInteger_2 5 rfl rfl)
theorem dX4_parseInteger_56 : decode cX4_parseInteger 56 = .ok (.ineg, 1) := dk_116 (dk_at dksX4_parseInteger_2 8 rfl rfl)
theorem dX4_parseInteger_57 : decode cX4_parseInteger 57 = .ok (.istore_n 3, 1) := dk_62 (dk_at dksX4_parseInteger_2 9 rfl rfl)
theorem dX4_parseInteger_58 : decode cX4_parseInteger 58 = .ok (.aload_n 0, 1) := dk_42 (dk_at dksX4_parseInteger_2 10 rfl rfl)
theorem dX4_parseInteger_59 : decode cX4_parseInteger 59 = .ok (.invokevirtual 327, 3) := dk_182 1 71 (dk_at dksX4_parseInteger_2 11 rfl rfl)
theorem dX4_parseInteger_62 : decode cX4_parseInteger 62 = .ok (.iload_n 3, 1) := dk_29 (dk_at dksX4_parseInteger_2 14 rfl rfl)
theorem dX4_parseInteger_63 : decode cX4_parseInteger 63 = .ok (.ireturn, 1) := dk_172 (dk_at dksX4_parseInteger_2 15 rfl rfl)
abbrev cX4_parseNumber : ByteArray := prog_25_method_109_code
def yX4_parseNumber : MethodName := ⟨RX4, "parseNumber", "(II)I"⟩
def dkwX4_parseNumber_1 : List UInt8 := [28, 184, 0, 52, 5, 182, 1, 67, 42, 180, 1, 35, 62, 42, 182, 1, 71, 29, 172]
abbrev dktX4_parseNumber_1 : List UInt8 := dkwX4_parseNumber_1 ++ []
def dkwX4_parseNumber_0 : List UInt8 := [42, 42, 180, 1, 38, 6, 160, 0, 7, 4, 167, 0, 4, 3, 4, 182, 1, 67, 42, 42, 180, 1, 35, 27]
abbrev dktX4_parseNumber_0 : List UInt8 := dkwX4_parseNumber_0 ++ dktX4_parseNumber_1
theorem dksX4_parseNumber_0 : cX4_parseNumber.data.toList.drop 0 = dktX4_parseNumber_0 := by decide +kernel
theorem dksX4_parseNumber_1 : cX4_parseNumber.data.toList.drop 24 = dktX4_parseNumber_1 := dk_seg dksX4_parseNumber_0 24 rfl rfl
theorem dX4_parseNumber_0 : decode cX4_parseNumber 0 = .ok (.aload_n 0, 1) := dk_42 (dk_at dksX4_parseNumber_0 0 rfl rfl)
theorem dX4_parseNumber_1 : decode cX4_parseNumber 1 = .ok (.aload_n 0, 1) := dk_42 (dk_at dksX4_parseNumber_0 1 rfl rfl)
theorem dX4_parseNumber_2 : decode cX4_parseNumber 2 = .ok (.getfield 294, 3) := dk_180 1 38 (dk_at dksX4_parseNumber_0 2 rfl rfl)
theorem dX4_parseNumber_5 : decode cX4_parseNumber 5 = .ok (.iconst 3, 1) := dk_6 (dk_at dksX4_parseNumber_0 5 rfl rfl)
theorem dX4_parseNumber_6 : decode cX4_parseNumber 6 = .ok (.if_icmp .ne 7, 3) := dk_160 0 7 (dk_at dksX4_parseNumber_0 6 rfl rfl)
theorem dX4_parseNumber_9 : decode cX4_parseNumber 9 = .ok (.iconst 1, 1) := dk_4 (dk_at dksX4_parseNumber_0 9 rfl rfl)
theorem dX4_parseNumber_10 : decode cX4_parseNumber 10 = .ok (.goto 4, 3) := dk_167 0 4 (dk_at dksX4_parseNumber_0 10 rfl rfl)
theorem dX4_parseNumber_13 : decode cX4_parseNumber 13 = .ok (.iconst 0, 1) := dk_3 (dk_at dksX4_parseNumber_0 13 rfl rfl)
theorem dX4_parseNumber_14 : decode cX4_parseNumber 14 = .ok (.iconst 1, 1) := dk_4 (dk_at dksX4_parseNumber_0 14 rfl rfl)
theorem dX4_parseNumber_15 : decode cX4_parseNumber 15 = .ok (.invokevirtual 323, 3) := dk_182 1 67 (dk_at dksX4_parseNumber_0 15 rfl rfl)
theorem dX4_parseNumber_18 : decode cX4_parseNumber 18 = .ok (.aload_n 0, 1) := dk_42 (dk_at dksX4_parseNumber_0 18 rfl rfl)
theorem dX4_parseNumber_19 : decode cX4_parseNumber 19 = .ok (.aload_n 0, 1) := dk_42 (dk_at dksX4_parseNumber_0 19 rfl rfl)
theorem dX4_parseNumber_20 : decode cX4_parseNumber 20 = .ok (.getfield 291, 3) := dk_180 1 35 (dk_at dksX4_parseNumber_0 20 rfl rfl)
theorem dX4_parseNumber_23 : decode cX4_parseNumber 23 = .ok (.iload_n 1, 1) := dk_27 (dk_at dksX4_parseNumber_0 23 rfl rfl)
theorem dX4_parseNumber_24 : decode cX4_parseNumber 24 = .ok (.iload_n 2, 1) := dk_28 (dk_at dksX4_parseNumber_1 0 rfl rfl)
theorem dX4_parseNumber_25 : decode cX4_parseNumber 25 = .ok (.invokestatic 52, 3) := dk_184 0 52 (dk_at dksX4_parseNumber_1 1 rfl rfl)
theorem dX4_parseNumber_28 : decode cX4_parseNumber 28 = .ok (.iconst 2, 1) := dk_5 (dk_at dksX4_parseNumber_1 4 rfl rfl)
theorem dX4_parseNumber_29 : decode cX4_parseNumber 29 = .ok (.invokevirtual 323, 3) := dk_182 1 67 (dk_at dksX4_parseNumber_1 5 rfl rfl)
theorem dX4_parseNumber_32 : decode cX4_parseNumber 32 = .ok (.aload_n 0, 1) := dk_42 (dk_at dksX4_parseNumber_1 8 rfl rfl)
theorem dX4_parseNumber_33 : decode cX4_parseNumber 33 = .ok (.getfield 291, 3) := dk_180 1 35 (dk_at dksX4_parseNumber_1 9 rfl rfl)
theorem dX4_parseNumber_36 : decode cX4_parseNumber 36 = .ok (.istore_n 3, 1) := dk_62 (dk_at dksX4_parseNumber_1 12 rfl rfl)
theorem dX4_parseNumber_37 : decode cX4_parseNumber 37 = .ok (.aload_n 0, 1) := dk_42 (dk_at dksX4_parseNumber_1 13 rfl rfl)
theorem dX4_parseNumber_38 : decode cX4_parseNumber 38 = .ok (.invokevirtual 327, 3) := dk_182 1 71 (dk_at dksX4_parseNumber_1 14 rfl rfl)
theorem dX4_parseNumber_41 : decode cX4_parseNumber 41 = .ok (.iload_n 3, 1) := dk_29 (dk_at dksX4_parseNumber_1 17 rfl rfl)
theorem dX4_parseNumber_42 : decode cX4_parseNumber 42 = .ok (.ireturn, 1) := dk_172 (dk_at dksX4_parseNumber_1 18 rfl rfl)
abbrev cX4_parseVehicle : ByteArray := prog_25_method_112_code
def yX4_parseVehicle : MethodName := ⟨RX4, "parseVehicle", "()V"⟩
def dkwX4_parseVehicle_3 : List UInt8 := [54, 4, 177]
abbrev dktX4_parseVehicle_3 : List UInt8 := dkwX4_parseVehicle_3 ++ []
def dkwX4_parseVehicle_2 : List UInt8 := [16, 100, 17, 19, 136, 182, 1, 77, 62, 42, 180, 1, 61, 154, 0, 12, 42, 27, 28, 29, 182, 0, 71]
abbrev dktX4_parseVehicle_2 : List UInt8 := dkwX4_parseVehicle_2 ++ dktX4_parseVehicle_3
def dkwX4_parseVehicle_1 : List UInt8 := [182, 1, 71, 42, 17, 177, 224, 17, 78, 32, 182, 1, 77, 60, 42, 16, 206, 16, 50, 182, 1, 77, 61, 42]
abbrev dktX4_parseVehicle_1 : List UInt8 := dkwX4_parseVehicle_1 ++ dktX4_parseVehicle_2
def dkwX4_parseVehicle_0 : List UInt8 := [42, 42, 180, 0, 7, 16, 6, 46, 7, 162, 0, 7, 4, 167, 0, 4, 3, 6, 182, 1, 67, 42]
abbrev dktX4_parseVehicle_0 : List UInt8 := dkwX4_parseVehicle_0 ++ dktX4_parseVehicle_1
theorem dksX4_parseVehicle_0 : cX4_parseVehicle.data.toList.drop 0 = dktX4_parseVehicle_0 := by decide +kernel
theorem dksX4_parseVehicle_1 : cX4_parseVehicle.data.toList.drop 22 = dktX4_parseVehicle_1 := dk_seg dksX4_parseVehicle_0 22 rfl rfl
theorem dksX4_parseVehicle_2 : cX4_parseVehicle.data.toList.drop 46 = dktX4_parseVehicle_2 := dk_seg dksX4_parseVehicle_1 24 rfl rfl
theorem dksX4_parseVehicle_3 : cX4_parseVehicle.data.toList.drop 69 = dktX4_parseVehicle_3 := dk_seg dksX4_parseVehicle_2 23 rfl rfl
theorem dX4_parseVehicle_0 : decode cX4_parseVehicle 0 = .ok (.aload_n 0, 1) := dk_42 (dk_at dksX4_parseVehicle_0 0 rfl rfl)
theorem dX4_parseVehicle_1 : decode cX4_parseVehicle 1 = .ok (.aload_n 0, 1) := dk_42 (dk_at dksX4_parseVehicle_0 1 rfl rfl)
theorem dX4_parseVehicle_2 : decode cX4_parseVehicle 2 = .ok (.getfield 7, 3) := dk_180 0 7 (dk_at dksX4_parseVehicle_0 2 rfl rfl)
theorem dX4_parseVehicle_5 : decode cX4_parseVehicle 5 = .ok (.bipush 6, 2) := dk_16 6 (dk_at dksX4_parseVehicle_0 5 rfl rfl)
theorem dX4_parseVehicle_7 : decode cX4_parseVehicle 7 = .ok (.iaload, 1) := dk_46 (dk_at dksX4_parseVehicle_0 7 rfl rfl)
theorem dX4_parseVehicle_8 : decode cX4_parseVehicle 8 = .ok (.iconst 4, 1) := dk_7 (dk_at dksX4_parseVehicle_0 8 rfl rfl)
theorem dX4_parseVehicle_9 : decode cX4_parseVehicle 9 = .ok (.if_icmp .ge 7, 3) := dk_162 0 7 (dk_at dksX4_parseVehicle_0 9 rfl rfl)
theorem dX4_parseVehicle_12 : decode cX4_parseVehicle 12 = .ok (.iconst 1, 1) := dk_4 (dk_at dksX4_parseVehicle_0 12 rfl rfl)
theorem dX4_parseVehicle_13 : decode cX4_parseVehicle 13 = .ok (.goto 4, 3) := dk_167 0 4 (dk_at dksX4_parseVehicle_0 13 rfl rfl)
theorem dX4_parseVehicle_16 : decode cX4_parseVehicle 16 = .ok (.iconst 0, 1) := dk_3 (dk_at dksX4_parseVehicle_0 16 rfl rfl)
theorem dX4_parseVehicle_17 : decode cX4_parseVehicle 17 = .ok (.iconst 3, 1) := dk_6 (dk_at dksX4_parseVehicle_0 17 rfl rfl)
theorem dX4_parseVehicle_18 : decode cX4_parseVehicle 18 = .ok (.invokevirtual 323, 3) := dk_182 1 67 (dk_at dksX4_parseVehicle_0 18 rfl rfl)
theorem dX4_parseVehicle_21 : decode cX4_parseVehicle 21 = .ok (.aload_n 0, 1) := dk_42 (dk_at dksX4_parseVehicle_0 21 rfl rfl)
theorem dX4_parseVehicle_22 : decode cX4_parseVehicle 22 = .ok (.invokevirtual 327, 3) := dk_182 1 71 (dk_at dksX4_parseVehicle_1 0 rfl rfl)
theorem dX4_parseVehicle_25 : decode cX4_parseVehicle 25 = .ok (.aload_n 0, 1) := dk_42 (dk_at dksX4_parseVehicle_1 3 rfl rfl)
theorem dX4_parseVehicle_26 : decode cX4_parseVehicle 26 = .ok (.sipush (-20000), 3) := dk_17 177 224 (dk_at dksX4_parseVehicle_1 4 rfl rfl)
theorem dX4_parseVehicle_29 : decode cX4_parseVehicle 29 = .ok (.sipush 20000, 3) := dk_17 78 32 (dk_at dksX4_parseVehicle_1 7 rfl rfl)
theorem dX4_parseVehicle_32 : decode cX4_parseVehicle 32 = .ok (.invokevirtual 333, 3) := dk_182 1 77 (dk_at dksX4_parseVehicle_1 10 rfl rfl)
theorem dX4_parseVehicle_35 : decode cX4_parseVehicle 35 = .ok (.istore_n 1, 1) := dk_60 (dk_at dksX4_parseVehicle_1 13 rfl rfl)
theorem dX4_parseVehicle_36 : decode cX4_parseVehicle 36 = .ok (.aload_n 0, 1) := dk_42 (dk_at dksX4_parseVehicle_1 14 rfl rfl)
theorem dX4_parseVehicle_37 : decode cX4_parseVehicle 37 = .ok (.bipush (-50), 2) := dk_16 206 (dk_at dksX4_parseVehicle_1 15 rfl rfl)
theorem dX4_parseVehicle_39 : decode cX4_parseVehicle 39 = .ok (.bipush 50, 2) := dk_16 50 (dk_at dksX4_parseVehicle_1 17 rfl rfl)
theorem dX4_parseVehicle_41 : decode cX4_parseVehicle 41 = .ok (.invokevirtual 333, 3) := dk_182 1 77 (dk_at dksX4_parseVehicle_1 19 rfl rfl)
theorem dX4_parseVehicle_44 : decode cX4_parseVehicle 44 = .ok (.istore_n 2, 1) := dk_61 (dk_at dksX4_parseVehicle_1 22 rfl rfl)
theorem dX4_parseVehicle_45 : decode cX4_parseVehicle 45 = .ok (.aload_n 0, 1) := dk_42 (dk_at dksX4_parseVehicle_1 23 rfl rfl)
theorem dX4_parseVehicle_46 : decode cX4_parseVehicle 46 = .ok (.bipush 100, 2) := dk_16 100 (dk_at dksX4_parseVehicle_2 0 rfl rfl)
theorem dX4_parseVehicle_48 : decode cX4_parseVehicle 48 = .ok (.sipush 5000, 3) := dk_17 19 136 (dk_at dksX4_parseVehicle_2 2 rfl rfl)
theorem dX4_parseVehicle_51 : decode cX4_parseVehicle 51 = .ok (.invokevirtual 333, 3) := dk_182 1 77 (dk_at dksX4_parseVehicle_2 5 rfl rfl)
theorem dX4_parseVehicle_54 : decode cX4_parseVehicle 54 = .ok (.istore_n 3, 1) := dk_62 (dk_at dksX4_parseVehicle_2 8 rfl rfl)
theorem dX4_parseVehicle_55 : decode cX4_parseVehicle 55 = .ok (.aload_n 0, 1) := dk_42 (dk_at dksX4_parseVehicle_2 9 rfl rfl)
theorem dX4_parseVehicle_56 : decode cX4_parseVehicle 56 = .ok (.getfield 317, 3) := dk_180 1 61 (dk_at dksX4_parseVehicle_2 10 rfl rfl)
theorem dX4_parseVehicle_59 : decode cX4_parseVehicle 59 = .ok (.ifCond .ne 12, 3) := dk_154 0 12 (dk_at dksX4_parseVehicle_2 13 rfl rfl)
theorem dX4_parseVehicle_62 : decode cX4_parseVehicle 62 = .ok (.aload_n 0, 1) := dk_42 (dk_at dksX4_parseVehicle_2 16 rfl rfl)
theorem dX4_parseVehicle_63 : decode cX4_parseVehicle 63 = .ok (.iload_n 1, 1) := dk_27 (dk_at dksX4_parseVehicle_2 17 rfl rfl)
theorem dX4_parseVehicle_64 : decode cX4_parseVehicle 64 = .ok (.iload_n 2, 1) := dk_28 (dk_at dksX4_parseVehicle_2 18 rfl rfl)
theorem dX4_parseVehicle_65 : decode cX4_parseVehicle 65 = .ok (.iload_n 3, 1) := dk_29 (dk_at dksX4_parseVehicle_2 19 rfl rfl)
theorem dX4_parseVehicle_66 : decode cX4_parseVehicle 66 = .ok (.invokevirtual 71, 3) := dk_182 0 71 (dk_at dksX4_parseVehicle_2 20 rfl rfl)
theorem dX4_parseVehicle_69 : decode cX4_parseVehicle 69 = .ok (.istore 4, 2) := dk_54 4 (dk_at dksX4_parseVehicle_3 0 rfl rfl)
theorem dX4_parseVehicle_71 : decode cX4_parseVehicle 71 = .ok (.return_, 1) := dk_177 (dk_at dksX4_parseVehicle_3 2 rfl rfl)
abbrev cX4_parseSource : ByteArray := prog_25_method_113_code
def yX4_parseSource : MethodName := ⟨RX4, "parseSource", "()V"⟩
def dkwX4_parseSource_7 : List UInt8 := [167, 0, 4, 3, 54, 6, 132, 7, 1, 167, 255, 184, 177]
abbrev dktX4_parseSource_7 : List UInt8 := dkwX4_parseSource_7 ++ []
def dkwX4_parseSource_6 : List UInt8 := [180, 1, 61, 154, 0, 23, 42, 180, 1, 38, 6, 159, 0, 11, 42, 180, 1, 38, 8, 160, 0, 7, 4]
abbrev dktX4_parseSource_6 : List UInt8 := dkwX4_parseSource_6 ++ dktX4_parseSource_7
def dkwX4_parseSource_5 : List UInt8 := [182, 1, 77, 54, 8, 42, 180, 1, 61, 154, 0, 13, 42, 21, 5, 21, 8, 182, 0, 91, 54, 9, 42]
abbrev dktX4_parseSource_5 : List UInt8 := dkwX4_parseSource_5 ++ dktX4_parseSource_6
def dkwX4_parseSource_4 : List UInt8 := [4, 54, 6, 3, 54, 7, 21, 7, 16, 16, 162, 0, 71, 21, 6, 153, 0, 66, 42, 16, 157, 16, 99]
abbrev dktX4_parseSource_4 : List UInt8 := dkwX4_parseSource_4 ++ dktX4_parseSource_5
def dkwX4_parseSource_3 : List UInt8 := [54, 4, 42, 180, 1, 61, 154, 0, 15, 42, 27, 28, 29, 21, 4, 182, 0, 87, 167, 0, 4, 3, 54, 5]
abbrev dktX4_parseSource_3 : List UInt8 := dkwX4_parseSource_3 ++ dktX4_parseSource_4
def dkwX4_parseSource_2 : List UInt8 := [17, 3, 232, 182, 1, 77, 61, 42, 3, 17, 1, 244, 182, 1, 74, 62, 42, 4, 16, 10, 182, 1, 74]
abbrev dktX4_parseSource_2 : List UInt8 := dkwX4_parseSource_2 ++ dktX4_parseSource_3
def dkwX4_parseSource_1 : List UInt8 := [182, 1, 71, 42, 3, 42, 180, 0, 7, 16, 6, 46, 4, 100, 182, 1, 74, 60, 42, 17, 252, 24]
abbrev dktX4_parseSource_1 : List UInt8 := dkwX4_parseSource_1 ++ dktX4_parseSource_2
def dkwX4_parseSource_0 : List UInt8 := [42, 42, 180, 0, 7, 16, 7, 46, 16, 6, 162, 0, 7, 4, 167, 0, 4, 3, 6, 182, 1, 67, 42]
abbrev dktX4_parseSource_0 : List UInt8 := dkwX4_parseSource_0 ++ dktX4_parseSource_1
theorem dksX4_parseSource_0 : cX4_parseSource.data.toList.drop 0 = dktX4_parseSource_0 := by decide +kernel
theorem dksX4_parseSource_1 : cX4_parseSource.data.toList.drop 23 = dktX4_parseSource_1 := dk_seg dksX4_parseSource_0 23 rfl rfl
theorem dksX4_parseSource_2 : cX4_parseSource.data.toList.drop 45 = dktX4_parseSource_2 := dk_seg dksX4_parseSource_1 22 rfl rfl
theorem dksX4_parseSource_3 : cX4_parseSource.data.toList.drop 68 = dktX4_parseSource_3 := dk_seg dksX4_parseSource_2 23 rfl rfl
theorem dksX4_parseSource_4 : cX4_parseSource.data.toList.drop 92 = dktX4_parseSource_4 := dk_seg dksX4_parseSource_3 24 rfl rfl
theorem dksX4_parseSource_5 : cX4_parseSource.data.toList.drop 115 = dktX4_parseSource_5 := dk_seg dksX4_parseSource_4 23 rfl rfl
theorem dksX4_parseSource_6 : cX4_parseSource.data.toList.drop 138 = dktX4_parseSource_6 := dk_seg dksX4_parseSource_5 23 rfl rfl
theorem dksX4_parseSource_7 : cX4_parseSource.data.toList.drop 161 = dktX4_parseSource_7 := dk_seg dksX4_parseSource_6 23 rfl rfl
theorem dX4_parseSource_0 : decode cX4_parseSource 0 = .ok (.aload_n 0, 1) := dk_42 (dk_at dksX4_parseSource_0 0 rfl rfl)
theorem dX4_parseSource_1 : decode cX4_parseSource 1 = .ok (.aload_n 0, 1) := dk_42 (dk_at dksX4_parseSource_0 1 rfl rfl)
theorem dX4_parseSource_2 : decode cX4_parseSource 2 = .ok (.getfield 7, 3) := dk_180 0 7 (dk_at dksX4_parseSource_0 2 rfl rfl)
theorem dX4_parseSource_5 : decode cX4_parseSource 5 = .ok (.bipush 7, 2) := dk_16 7 (dk_at dksX4_parseSource_0 5 rfl rfl)
theorem dX4_parseSource_7 : decode cX4_parseSource 7 = .ok (.iaload, 1) := dk_46 (dk_at dksX4_parseSource_0 7 rfl rfl)
theorem dX4_parseSource_8 : decode cX4_parseSource 8 = .ok (.bipush 6, 2) := dk_16 6 (dk_at dksX4_parseSource_0 8 rfl rfl)
theorem dX4_parseSource_10 : decode cX4_parseSource 10 = .ok (.if_icmp .ge 7, 3) := dk_162 0 7 (dk_at dksX4_parseSource_0 10 rfl rfl)
theorem dX4_parseSource_13 : decode cX4_parseSource 13 = .ok (.iconst 1, 1) := dk_4 (dk_at dksX4_parseSource_0 13 rfl rfl)
theorem dX4_parseSource_14 : decode cX4_parseSource 14 = .ok (.goto 4, 3) := dk_167 0 4 (dk_at dksX4_parseSource_0 14 rfl rfl)
theorem dX4_parseSource_17 : decode cX4_parseSource 17 = .ok (.iconst 0, 1) := dk_3 (dk_at dksX4_parseSource_0 17 rfl rfl)
theorem dX4_parseSource_18 : decode cX4_parseSource 18 = .ok (.iconst 3, 1) := dk_6 (dk_at dksX4_parseSource_0 18 rfl rfl)
theorem dX4_parseSource_19 : decode cX4_parseSource 19 = .ok (.invokevirtual 323, 3) := dk_182 1 67 (dk_at dksX4_parseSource_0 19 rfl rfl)
theorem dX4_parseSource_22 : decode cX4_parseSource 22 = .ok (.aload_n 0, 1) := dk_42 (dk_at dksX4_parseSource_0 22 rfl rfl)
theorem dX4_parseSource_23 : decode cX4_parseSource 23 = .ok (.invokevirtual 327, 3) := dk_182 1 71 (dk_at dksX4_parseSource_1 0 rfl rfl)
theorem dX4_parseSource_26 : decode cX4_parseSource 26 = .ok (.aload_n 0, 1) := dk_42 (dk_at dksX4_parseSource_1 3 rfl rfl)
theorem dX4_parseSource_27 : decode cX4_parseSource 27 = .ok (.iconst 0, 1) := dk_3 (dk_at dksX4_parseSource_1 4 rfl rfl)
theorem dX4_parseSource_28 : decode cX4_parseSource 28 = .ok (.aload_n 0, 1) := dk_42 (dk_at dksX4_parseSource_1 5 rfl rfl)
theorem dX4_parseSource_29 : decode cX4_parseSource 29 = .ok (.getfield 7, 3) := dk_180 0 7 (dk_at dksX4_parseSource_1 6 rfl rfl)
theorem dX4_parseSource_32 : decode cX4_parseSource 32 = .ok (.bipush 6, 2) := dk_16 6 (dk_at dksX4_parseSource_1 9 rfl rfl)
theorem dX4_parseSource_34 : decode cX4_parseSource 34 = .ok (.iaload, 1) := dk_46 (dk_at dksX4_parseSource_1 11 rfl rfl)
theorem dX4_parseSource_35 : decode cX4_parseSource 35 = .ok (.iconst 1, 1) := dk_4 (dk_at dksX4_parseSource_1 12 rfl rfl)
theorem dX4_parseSource_36 : decode cX4_parseSource 36 = .ok (.isub, 1) := dk_100 (dk_at dksX4_parseSource_1 13 rfl rfl)
theorem dX4_parseSource_37 : decode cX4_parseSource 37 = .ok (.invokevirtual 330, 3) := dk_182 1 74 (dk_at dksX4_parseSource_1 14 rfl rfl)
theorem dX4_parseSource_40 : decode cX4_parseSource 40 = .ok (.istore_n 1, 1) := dk_60 (dk_at dksX4_parseSource_1 17 rfl rfl)
theorem dX4_parseSource_41 : decode cX4_parseSource 41 = .ok (.aload_n 0, 1) := dk_42 (dk_at dksX4_parseSource_1 18 rfl rfl)
theorem dX4_parseSource_42 : decode cX4_parseSource 42 = .ok (.sipush (-1000), 3) := dk_17 252 24 (dk_at dksX4_parseSource_1 19 rfl rfl)
theorem dX4_parseSource_45 : decode cX4_parseSource 45 = .ok (.sipush 1000, 3) := dk_17 3 232 (dk_at dksX4_parseSource_2 0 rfl rfl)
theorem dX4_parseSource_48 : decode cX4_parseSource 48 = .ok (.invokevirtual 333, 3) := dk_182 1 77 (dk_at dksX4_parseSource_2 3 rfl rfl)
theorem dX4_parseSource_51 : decode cX4_parseSource 51 = .ok (.istore_n 2, 1) := dk_61 (dk_at dksX4_parseSource_2 6 rfl rfl)
theorem dX4_parseSource_52 : decode cX4_parseSource 52 = .ok (.aload_n 0, 1) := dk_42 (dk_at dksX4_parseSource_2 7 rfl rfl)
theorem dX4_parseSource_53 : decode cX4_parseSource 53 = .ok (.iconst 0, 1) := dk_3 (dk_at dksX4_parseSource_2 8 rfl rfl)
theorem dX4_parseSource_54 : decode cX4_parseSource 54 = .ok (.sipush 500, 3) := dk_17 1 244 (dk_at dksX4_parseSource_2 9 rfl rfl)
theorem dX4_parseSource_57 : decode cX4_parseSource 57 = .ok (.invokevirtual 330, 3) := dk_182 1 74 (dk_at dksX4_parseSource_2 12 rfl rfl)
theorem dX4_parseSource_60 : decode cX4_parseSource 60 = .ok (.istore_n 3, 1) := dk_62 (dk_at dksX4_parseSource_2 15 rfl rfl)
theorem dX4_parseSource_61 : decode cX4_parseSource 61 = .ok (.aload_n 0, 1) := dk_42 (dk_at dksX4_parseSource_2 16 rfl rfl)
theorem dX4_parseSource_62 : decode cX4_parseSource 62 = .ok (.iconst 1, 1) := dk_4 (dk_at dksX4_parseSource_2 17 rfl rfl)
theorem dX4_parseSource_63 : decode cX4_parseSource 63 = .ok (.bipush 10, 2) := dk_16 10 (dk_at dksX4_parseSource_2 18 rfl rfl)
theorem dX4_parseSource_65 : decode cX4_parseSource 65 = .ok (.invokevirtual 330, 3) := dk_182 1 74 (dk_at dksX4_parseSource_2 20 rfl rfl)
theorem dX4_parseSource_68 : decode cX4_parseSource 68 = .ok (.istore 4, 2) := dk_54 4 (dk_at dksX4_parseSource_3 0 rfl rfl)
theorem dX4_parseSource_70 : decode cX4_parseSource 70 = .ok (.aload_n 0, 1) := dk_42 (dk_at dksX4_parseSource_3 2 rfl rfl)
theorem dX4_parseSource_71 : decode cX4_parseSource 71 = .ok (.getfield 317, 3) := dk_180 1 61 (dk_at dksX4_parseSource_3 3 rfl rfl)
theorem dX4_parseSource_74 : decode cX4_parseSource 74 = .ok (.ifCond .ne 15, 3) := dk_154 0 15 (dk_at dksX4_parseSource_3 6 rfl rfl)
theorem dX4_parseSource_77 : decode cX4_parseSource 77 = .ok (.aload_n 0, 1) := dk_42 (dk_at dksX4_parseSource_3 9 rfl rfl)
theorem dX4_parseSource_78 : decode cX4_parseSource 78 = .ok (.iload_n 1, 1) := dk_27 (dk_at dksX4_parseSource_3 10 rfl rfl)
theorem dX4_parseSource_79 : decode cX4_parseSource 79 = .ok (.iload_n 2, 1) := dk_28 (dk_at dksX4_parseSource_3 11 rfl rfl)
theorem dX4_parseSource_80 : decode cX4_parseSource 80 = .ok (.iload_n 3, 1) := dk_29 (dk_at dksX4_parseSource_3 12 rfl rfl)
theorem dX4_parseSource_81 : decode cX4_parseSource 81 = .ok (.iload 4, 2) := dk_21 4 (dk_at dksX4_parseSource_3 13 rfl rfl)
theorem dX4_parseSource_83 : decode cX4_parseSource 83 = .ok (.invokevirtual 87, 3) := dk_182 0 87 (dk_at dksX4_parseSource_3 15 rfl rfl)
theorem dX4_parseSource_86 : decode cX4_parseSource 86 = .ok (.goto 4, 3) := dk_167 0 4 (dk_at dksX4_parseSource_3 18 rfl rfl)
theorem dX4_parseSource_89 : decode cX4_parseSource 89 = .ok (.iconst 0, 1) := dk_3 (dk_at dksX4_parseSource_3 21 rfl rfl)
theorem dX4_parseSource_90 : decode cX4_parseSource 90 = .ok (.istore 5, 2) := dk_54 5 (dk_at dksX4_parseSource_3 22 rfl rfl)
theorem dX4_parseSource_92 : decode cX4_parseSource 92 = .ok (.iconst 1, 1) := dk_4 (dk_at dksX4_parseSource_4 0 rfl rfl)
theorem dX4_parseSource_93 : decode cX4_parseSource 93 = .ok (.istore 6, 2) := dk_54 6 (dk_at dksX4_parseSource_4 1 rfl rfl)
theorem dX4_parseSource_95 : decode cX4_parseSource 95 = .ok (.iconst 0, 1) := dk_3 (dk_at dksX4_parseSource_4 3 rfl rfl)
theorem dX4_parseSource_96 : decode cX4_parseSource 96 = .ok (.istore 7, 2) := dk_54 7 (dk_at dksX4_parseSource_4 4 rfl rfl)
theorem dX4_parseSource_98 : decode cX4_parseSource 98 = .ok (.iload 7, 2) := dk_21 7 (dk_at dksX4_parseSource_4 6 rfl rfl)
theorem dX4_parseSource_100 : decode cX4_parseSource 100 = .ok (.bipush 16, 2) := dk_16 16 (dk_at dksX4_parseSource_4 8 rfl rfl)
theorem dX4_parseSource_102 : decode cX4_parseSource 102 = .ok (.if_icmp .ge 71, 3) := dk_162 0 71 (dk_at dksX4_parseSource_4 10 rfl rfl)
theorem dX4_parseSource_105 : decode cX4_parseSource 105 = .ok (.iload 6, 2) := dk_21 6 (dk_at dksX4_parseSource_4 13 rfl rfl)
theorem dX4_parseSource_107 : decode cX4_parseSource 107 = .ok (.ifCond .eq 66, 3) := dk_153 0 66 (dk_at dksX4_parseSource_4 15 rfl rfl)
theorem dX4_parseSource_110 : decode cX4_parseSource 110 = .ok (.aload_n 0, 1) := dk_42 (dk_at dksX4_parseSource_4 18 rfl rfl)
theorem dX4_parseSource_111 : decode cX4_parseSource 111 = .ok (.bipush (-99), 2) := dk_16 157 (dk_at dksX4_parseSource_4 19 rfl rfl)
theorem dX4_parseSource_113 : decode cX4_parseSource 113 = .ok (.bipush 99, 2) := dk_16 99 (dk_at dksX4_parseSource_4 21 rfl rfl)
theorem dX4_parseSource_115 : decode cX4_parseSource 115 = .ok (.invokevirtual 333, 3) := dk_182 1 77 (dk_at dksX4_parseSource_5 0 rfl rfl)
theorem dX4_parseSource_118 : decode cX4_parseSource 118 = .ok (.istore 8, 2) := dk_54 8 (dk_at dksX4_parseSource_5 3 rfl rfl)
theorem dX4_parseSource_120 : decode cX4_parseSource 120 = .ok (.aload_n 0, 1) := dk_42 (dk_at dksX4_parseSource_5 5 rfl rfl)
theorem dX4_parseSource_121 : decode cX4_parseSource 121 = .ok (.getfield 317, 3) := dk_180 1 61 (dk_at dksX4_parseSource_5 6 rfl rfl)
theorem dX4_parseSource_124 : decode cX4_parseSource 124 = .ok (.ifCond .ne 13, 3) := dk_154 0 13 (dk_at dksX4_parseSource_5 9 rfl rfl)
theorem dX4_parseSource_127 : decode cX4_parseSource 127 = .ok (.aload_n 0, 1) := dk_42 (dk_at dksX4_parseSource_5 12 rfl rfl)
theorem dX4_parseSource_128 : decode cX4_parseSource 128 = .ok (.iload 5, 2) := dk_21 5 (dk_at dksX4_parseSource_5 13 rfl rfl)
theorem dX4_parseSource_130 : decode cX4_parseSource 130 = .ok (.iload 8, 2) := dk_21 8 (dk_at dksX4_parseSource_5 15 rfl rfl)
theorem dX4_parseSource_132 : decode cX4_parseSource 132 = .ok (.invokevirtual 91, 3) := dk_182 0 91 (dk_at dksX4_parseSource_5 17 rfl rfl)
theorem dX4_parseSource_135 : decode cX4_parseSource 135 = .ok (.istore 9, 2) := dk_54 9 (dk_at dksX4_parseSource_5 20 rfl rfl)
theorem dX4_parseSource_137 : decode cX4_parseSource 137 = .ok (.aload_n 0, 1) := dk_42 (dk_at dksX4_parseSource_5 22 rfl rfl)
theorem dX4_parseSource_138 : decode cX4_parseSource 138 = .ok (.getfield 317, 3) := dk_180 1 61 (dk_at dksX4_parseSource_6 0 rfl rfl)
theorem dX4_parseSource_141 : decode cX4_parseSource 141 = .ok (.ifCond .ne 23, 3) := dk_154 0 23 (dk_at dksX4_parseSource_6 3 rfl rfl)
theorem dX4_parseSource_144 : decode cX4_parseSource 144 = .ok (.aload_n 0, 1) := dk_42 (dk_at dksX4_parseSource_6 6 rfl rfl)
theorem dX4_parseSource_145 : decode cX4_parseSource 145 = .ok (.getfield 294, 3) := dk_180 1 38 (dk_at dksX4_parseSource_6 7 rfl rfl)
theorem dX4_parseSource_148 : decode cX4_parseSource 148 = .ok (.iconst 3, 1) := dk_6 (dk_at dksX4_parseSource_6 10 rfl rfl)
theorem dX4_parseSource_149 : decode cX4_parseSource 149 = .ok (.if_icmp .eq 11, 3) := dk_159 0 11 (dk_at dksX4_parseSource_6 11 rfl rfl)
theorem dX4_parseSource_152 : decode cX4_parseSource 152 = .ok (.aload_n 0, 1) := dk_42 (dk_at dksX4_parseSource_6 14 rfl rfl)
theorem dX4_parseSource_153 : decode cX4_parseSource 153 = .ok (.getfield 294, 3) := dk_180 1 38 (dk_at dksX4_parseSource_6 15 rfl rfl)
theorem dX4_parseSource_156 : decode cX4_parseSource 156 = .ok (.iconst 5, 1) := dk_8 (dk_at dksX4_parseSource_6 18 rfl rfl)
theorem dX4_parseSource_157 : decode cX4_parseSource 157 = .ok (.if_icmp .ne 7, 3) := dk_160 0 7 (dk_at dksX4_parseSource_6 19 rfl rfl)
theorem dX4_parseSource_160 : decode cX4_parseSource 160 = .ok (.iconst 1, 1) := dk_4 (dk_at dksX4_parseSource_6 22 rfl rfl)
theorem dX4_parseSource_161 : decode cX4_parseSource 161 = .ok (.goto 4, 3) := dk_167 0 4 (dk_at dksX4_parseSource_7 0 rfl rfl)
theorem dX4_parseSource_164 : decode cX4_parseSource 164 = .ok (.iconst 0, 1) := dk_3 (dk_at dksX4_parseSource_7 3 rfl rfl)
theorem dX4_parseSource_165 : decode cX4_parseSource 165 = .ok (.istore 6, 2) := dk_54 6 (dk_at dksX4_parseSource_7 4 rfl rfl)
theorem dX4_parseSource_167 : decode cX4_parseSource 167 = .ok (.iinc 7 1, 3) := dk_132 7 1 (dk_at dksX4_parseSource_7 6 rfl rfl)
theorem dX4_parseSource_170 : decode cX4_parseSource 170 = .ok (.goto (-72), 3) := dk_167 255 184 (dk_at dksX4_parseSource_7 9 rfl rfl)
theorem dX4_parseSource_173 : decode cX4_parseSource 173 = .ok (.return_, 1) := dk_177 (dk_at dksX4_parseSource_7 12 rfl rfl)
abbrev cX4_errorCode : ByteArray := prog_25_method_116_code
def yX4_errorCode : MethodName := ⟨RX4, "errorCode", "()I"⟩
def dkwX4_errorCode_0 : List UInt8 := [42, 3, 181, 0, 49, 42, 180, 1, 61, 172]
abbrev dktX4_errorCode_0 : List UInt8 := dkwX4_errorCode_0 ++ []
theorem dksX4_errorCode_0 : cX4_errorCode.data.toList.drop 0 = dktX4_errorCode_0 := by decide +kernel
theorem dX4_errorCode_0 : decode cX4_errorCode 0 = .ok (.aload_n 0, 1) := dk_42 (dk_at dksX4_errorCode_0 0 rfl rfl)
theorem dX4_errorCode_1 : decode cX4_errorCode 1 = .ok (.iconst 0, 1) := dk_3 (dk_at dksX4_errorCode_0 1 rfl rfl)
theorem dX4_errorCode_2 : decode cX4_errorCode 2 = .ok (.putfield 49, 3) := dk_181 0 49 (dk_at dksX4_errorCode_0 2 rfl rfl)
theorem dX4_errorCode_5 : decode cX4_errorCode 5 = .ok (.aload_n 0, 1) := dk_42 (dk_at dksX4_errorCode_0 5 rfl rfl)
theorem dX4_errorCode_6 : decode cX4_errorCode 6 = .ok (.getfield 317, 3) := dk_180 1 61 (dk_at dksX4_errorCode_0 6 rfl rfl)
theorem dX4_errorCode_9 : decode cX4_errorCode 9 = .ok (.ireturn, 1) := dk_172 (dk_at dksX4_errorCode_0 9 rfl rfl)
abbrev cX4_errorPosition : ByteArray := prog_25_method_117_code
def yX4_errorPosition : MethodName := ⟨RX4, "errorPosition", "()I"⟩
def dkwX4_errorPosition_0 : List UInt8 := [42, 3, 181, 0, 49, 42, 180, 0, 42, 172]
abbrev dktX4_errorPosition_0 : List UInt8 := dkwX4_errorPosition_0 ++ []
theorem dksX4_errorPosition_0 : cX4_errorPosition.data.toList.drop 0 = dktX4_errorPosition_0 := by decide +kernel
theorem dX4_errorPosition_0 : decode cX4_errorPosition 0 = .ok (.aload_n 0, 1) := dk_42 (dk_at dksX4_errorPosition_0 0 rfl rfl)
theorem dX4_errorPosition_1 : decode cX4_errorPosition 1 = .ok (.iconst 0, 1) := dk_3 (dk_at dksX4_errorPosition_0 1 rfl rfl)
theorem dX4_errorPosition_2 : decode cX4_errorPosition 2 = .ok (.putfield 49, 3) := dk_181 0 49 (dk_at dksX4_errorPosition_0 2 rfl rfl)
theorem dX4_errorPosition_5 : decode cX4_errorPosition 5 = .ok (.aload_n 0, 1) := dk_42 (dk_at dksX4_errorPosition_0 5 rfl rfl)
theorem dX4_errorPosition_6 : decode cX4_errorPosition 6 = .ok (.getfield 42, 3) := dk_180 0 42 (dk_at dksX4_errorPosition_0 6 rfl rfl)
theorem dX4_errorPosition_9 : decode cX4_errorPosition 9 = .ok (.ireturn, 1) := dk_172 (dk_at dksX4_errorPosition_0 9 rfl rfl)
abbrev cX4_save : ByteArray := prog_25_method_118_code
def yX4_save : MethodName := ⟨RX4, "save", "(I)V"⟩
def dkwX4_save_2 : List UInt8 := [27, 4, 84, 177]
abbrev dktX4_save_2 : List UInt8 := dkwX4_save_2 ++ []
def dkwX4_save_1 : List UInt8 := [154, 0, 27, 42, 180, 0, 7, 3, 42, 180, 0, 16, 17, 8, 186, 27, 104, 184, 1, 105, 42, 180, 0, 19]
abbrev dktX4_save_1 : List UInt8 := dkwX4_save_1 ++ dktX4_save_2
def dkwX4_save_0 : List UInt8 := [42, 27, 3, 4, 184, 0, 52, 153, 0, 7, 3, 167, 0, 4, 4, 181, 0, 49, 42, 180, 0, 49]
abbrev dktX4_save_0 : List UInt8 := dkwX4_save_0 ++ dktX4_save_1
theorem dksX4_save_0 : cX4_save.data.toList.drop 0 = dktX4_save_0 := by decide +kernel
theorem dksX4_save_1 : cX4_save.data.toList.drop 22 = dktX4_save_1 := dk_seg dksX4_save_0 22 rfl rfl
theorem dksX4_save_2 : cX4_save.data.toList.drop 46 = dktX4_save_2 := dk_seg dksX4_save_1 24 rfl rfl
theorem dX4_save_0 : decode cX4_save 0 = .ok (.aload_n 0, 1) := dk_42 (dk_at dksX4_save_0 0 rfl rfl)
theorem dX4_save_1 : decode cX4_save 1 = .ok (.iload_n 1, 1) := dk_27 (dk_at dksX4_save_0 1 rfl rfl)
theorem dX4_save_2 : decode cX4_save 2 = .ok (.iconst 0, 1) := dk_3 (dk_at dksX4_save_0 2 rfl rfl)
theorem dX4_save_3 : decode cX4_save 3 = .ok (.iconst 1, 1) := dk_4 (dk_at dksX4_save_0 3 rfl rfl)
theorem dX4_save_4 : decode cX4_save 4 = .ok (.invokestatic 52, 3) := dk_184 0 52 (dk_at dksX4_save_0 4 rfl rfl)
theorem dX4_save_7 : decode cX4_save 7 = .ok (.ifCond .eq 7, 3) := dk_153 0 7 (dk_at dksX4_save_0 7 rfl rfl)
theorem dX4_save_10 : decode cX4_save 10 = .ok (.iconst 0, 1) := dk_3 (dk_at dksX4_save_0 10 rfl rfl)
theorem dX4_save_11 : decode cX4_save 11 = .ok (.goto 4, 3) := dk_167 0 4 (dk_at dksX4_save_0 11 rfl rfl)
theorem dX4_save_14 : decode cX4_save 14 = .ok (.iconst 1, 1) := dk_4 (dk_at dksX4_save_0 14 rfl rfl)
theorem dX4_save_15 : decode cX4_save 15 = .ok (.putfield 49, 3) := dk_181 0 49 (dk_at dksX4_save_0 15 rfl rfl)
theorem dX4_save_18 : decode cX4_save 18 = .ok (.aload_n 0, 1) := dk_42 (dk_at dksX4_save_0 18 rfl rfl)
theorem dX4_save_19 : decode cX4_save 19 = .ok (.getfield 49, 3) := dk_180 0 49 (dk_at dksX4_save_0 19 rfl rfl)
theorem dX4_save_22 : decode cX4_save 22 = .ok (.ifCond .ne 27, 3) := dk_154 0 27 (dk_at dksX4_save_1 0 rfl rfl)
theorem dX4_save_25 : decode cX4_save 25 = .ok (.aload_n 0, 1) := dk_42 (dk_at dksX4_save_1 3 rfl rfl)
theorem dX4_save_26 : decode cX4_save 26 = .ok (.getfield 7, 3) := dk_180 0 7 (dk_at dksX4_save_1 4 rfl rfl)
theorem dX4_save_29 : decode cX4_save 29 = .ok (.iconst 0, 1) := dk_3 (dk_at dksX4_save_1 7 rfl rfl)
theorem dX4_save_30 : decode cX4_save 30 = .ok (.aload_n 0, 1) := dk_42 (dk_at dksX4_save_1 8 rfl rfl)
theorem dX4_save_31 : decode cX4_save 31 = .ok (.getfield 16, 3) := dk_180 0 16 (dk_at dksX4_save_1 9 rfl rfl)
theorem dX4_save_34 : decode cX4_save 34 = .ok (.sipush 2234, 3) := dk_17 8 186 (dk_at dksX4_save_1 12 rfl rfl)
theorem dX4_save_37 : decode cX4_save 37 = .ok (.iload_n 1, 1) := dk_27 (dk_at dksX4_save_1 15 rfl rfl)
theorem dX4_save_38 : decode cX4_save 38 = .ok (.imul, 1) := dk_104 (dk_at dksX4_save_1 16 rfl rfl)
theorem dX4_save_39 : decode cX4_save 39 = .ok (.invokestatic 361, 3) := dk_184 1 105 (dk_at dksX4_save_1 17 rfl rfl)
theorem dX4_save_42 : decode cX4_save 42 = .ok (.aload_n 0, 1) := dk_42 (dk_at dksX4_save_1 20 rfl rfl)
theorem dX4_save_43 : decode cX4_save 43 = .ok (.getfield 19, 3) := dk_180 0 19 (dk_at dksX4_save_1 21 rfl rfl)
theorem dX4_save_46 : decode cX4_save 46 = .ok (.iload_n 1, 1) := dk_27 (dk_at dksX4_save_2 0 rfl rfl)
theorem dX4_save_47 : decode cX4_save 47 = .ok (.iconst 1, 1) := dk_4 (dk_at dksX4_save_2 1 rfl rfl)
theorem dX4_save_48 : decode cX4_save 48 = .ok (.bastore, 1) := dk_84 (dk_at dksX4_save_2 2 rfl rfl)
theorem dX4_save_49 : decode cX4_save 49 = .ok (.return_, 1) := dk_177 (dk_at dksX4_save_2 3 rfl rfl)
abbrev cX4_restore : ByteArray := prog_25_method_119_code
def yX4_restore : MethodName := ⟨RX4, "restore", "(I)V"⟩
def dkwX4_restore_2 : List UInt8 := [180, 0, 7, 3, 184, 1, 105, 177]
abbrev dktX4_restore_2 : List UInt8 := dkwX4_restore_2 ++ []
def dkwX4_restore_1 : List UInt8 := [167, 0, 4, 3, 181, 0, 49, 42, 180, 0, 49, 154, 0, 20, 42, 180, 0, 16, 17, 8, 186, 27, 104, 42]
abbrev dktX4_restore_1 : List UInt8 := dkwX4_restore_1 ++ dktX4_restore_2
def dkwX4_restore_0 : List UInt8 := [42, 27, 3, 4, 184, 0, 52, 154, 0, 7, 4, 167, 0, 17, 42, 180, 0, 19, 27, 51, 154, 0, 7, 5]
abbrev dktX4_restore_0 : List UInt8 := dkwX4_restore_0 ++ dktX4_restore_1
theorem dksX4_restore_0 : cX4_restore.data.toList.drop 0 = dktX4_restore_0 := by decide +kernel
theorem dksX4_restore_1 : cX4_restore.data.toList.drop 24 = dktX4_restore_1 := dk_seg dksX4_restore_0 24 rfl rfl
theorem dksX4_restore_2 : cX4_restore.data.toList.drop 48 = dktX4_restore_2 := dk_seg dksX4_restore_1 24 rfl rfl
theorem dX4_restore_0 : decode cX4_restore 0 = .ok (.aload_n 0, 1) := dk_42 (dk_at dksX4_restore_0 0 rfl rfl)
theorem dX4_restore_1 : decode cX4_restore 1 = .ok (.iload_n 1, 1) := dk_27 (dk_at dksX4_restore_0 1 rfl rfl)
theorem dX4_restore_2 : decode cX4_restore 2 = .ok (.iconst 0, 1) := dk_3 (dk_at dksX4_restore_0 2 rfl rfl)
theorem dX4_restore_3 : decode cX4_restore 3 = .ok (.iconst 1, 1) := dk_4 (dk_at dksX4_restore_0 3 rfl rfl)
theorem dX4_restore_4 : decode cX4_restore 4 = .ok (.invokestatic 52, 3) := dk_184 0 52 (dk_at dksX4_restore_0 4 rfl rfl)
theorem dX4_restore_7 : decode cX4_restore 7 = .ok (.ifCond .ne 7, 3) := dk_154 0 7 (dk_at dksX4_restore_0 7 rfl rfl)
theorem dX4_restore_10 : decode cX4_restore 10 = .ok (.iconst 1, 1) := dk_4 (dk_at dksX4_restore_0 10 rfl rfl)
theorem dX4_restore_11 : decode cX4_restore 11 = .ok (.goto 17, 3) := dk_167 0 17 (dk_at dksX4_restore_0 11 rfl rfl)
theorem dX4_restore_14 : decode cX4_restore 14 = .ok (.aload_n 0, 1) := dk_42 (dk_at dksX4_restore_0 14 rfl rfl)
theorem dX4_restore_15 : decode cX4_restore 15 = .ok (.getfield 19, 3) := dk_180 0 19 (dk_at dksX4_restore_0 15 rfl rfl)
theorem dX4_restore_18 : decode cX4_restore 18 = .ok (.iload_n 1, 1) := dk_27 (dk_at dksX4_restore_0 18 rfl rfl)
theorem dX4_restore_19 : decode cX4_restore 19 = .ok (.baload, 1) := dk_51 (dk_at dksX4_restore_0 19 rfl rfl)
theorem dX4_restore_20 : decode cX4_restore 20 = .ok (.ifCond .ne 7, 3) := dk_154 0 7 (dk_at dksX4_restore_0 20 rfl rfl)
theorem dX4_restore_23 : decode cX4_restore 23 = .ok (.iconst 2, 1) := dk_5 (dk_at dksX4_restore_0 23 rfl rfl)
theorem dX4_restore_24 : decode cX4_restore 24 = .ok (.goto 4, 3) := dk_167 0 4 (dk_at dksX4_restore_1 0 rfl rfl)
theorem dX4_restore_27 : decode cX4_restore 27 = .ok (.iconst 0, 1) := dk_3 (dk_at dksX4_restore_1 3 rfl rfl)
theorem dX4_restore_28 : decode cX4_restore 28 = .ok (.putfield 49, 3) := dk_181 0 49 (dk_at dksX4_restore_1 4 rfl rfl)
theorem dX4_restore_31 : decode cX4_restore 31 = .ok (.aload_n 0, 1) := dk_42 (dk_at dksX4_restore_1 7 rfl rfl)
theorem dX4_restore_32 : decode cX4_restore 32 = .ok (.getfield 49, 3) := dk_180 0 49 (dk_at dksX4_restore_1 8 rfl rfl)
theorem dX4_restore_35 : decode cX4_restore 35 = .ok (.ifCond .ne 20, 3) := dk_154 0 20 (dk_at dksX4_restore_1 11 rfl rfl)
theorem dX4_restore_38 : decode cX4_restore 38 = .ok (.aload_n 0, 1) := dk_42 (dk_at dksX4_restore_1 14 rfl rfl)
theorem dX4_restore_39 : decode cX4_restore 39 = .ok (.getfield 16, 3) := dk_180 0 16 (dk_at dksX4_restore_1 15 rfl rfl)
theorem dX4_restore_42 : decode cX4_restore 42 = .ok (.sipush 2234, 3) := dk_17 8 186 (dk_at dksX4_restore_1 18 rfl rfl)
theorem dX4_restore_45 : decode cX4_restore 45 = .ok (.iload_n 1, 1) := dk_27 (dk_at dksX4_restore_1 21 rfl rfl)
theorem dX4_restore_46 : decode cX4_restore 46 = .ok (.imul, 1) := dk_104 (dk_at dksX4_restore_1 22 rfl rfl)
theorem dX4_restore_47 : decode cX4_restore 47 = .ok (.aload_n 0, 1) := dk_42 (dk_at dksX4_restore_1 23 rfl rfl)
theorem dX4_restore_48 : decode cX4_restore 48 = .ok (.getfield 7, 3) := dk_180 0 7 (dk_at dksX4_restore_2 0 rfl rfl)
theorem dX4_restore_51 : decode cX4_restore 51 = .ok (.iconst 0, 1) := dk_3 (dk_at dksX4_restore_2 3 rfl rfl)
theorem dX4_restore_52 : decode cX4_restore 52 = .ok (.invokestatic 361, 3) := dk_184 1 105 (dk_at dksX4_restore_2 4 rfl rfl)
theorem dX4_restore_55 : decode cX4_restore 55 = .ok (.return_, 1) := dk_177 (dk_at dksX4_restore_2 7 rfl rfl)
theorem q106 : (Jvm.Cond.initialized "TrackArrayModel") ∈ lw_all := lw_g (lw_at lw_m1 24 rfl) rfl
theorem q1087 : (Jvm.Cond.selects "TrackArrayModel" ({ cls := "java/lang/Object", name := "getClass", desc := "()Ljava/lang/Class;" } : Jvm.MethodName) ({ cls := "java/lang/Object", name := "getClass", desc := "()Ljava/lang/Class;" } : Jvm.MethodName)) ∈ lw_all := lw_g (lw_at lw_m5 45 rfl) rfl
theorem q1855 : (Jvm.Cond.instantiable "TrackArrayModel" (20 : Nat)) ∈ lw_all := lw_g (lw_at lw_m8 93 rfl) rfl
theorem q1857 : (Jvm.Cond.instanceMethod ({ cls := "TrackArrayModel", name := "<init>", desc := "()V" } : Jvm.MethodName)) ∈ lw_all := lw_g (lw_at lw_m8 95 rfl) rfl
theorem q1858 : (Jvm.Cond.code ({ cls := "TrackArrayModel", name := "<init>", desc := "()V" } : Jvm.MethodName) prog_25_method_1_code (1 : Nat) (Option.none : Option Jvm.ClassFile.FieldType)) ∈ lw_all := lw_g (lw_at lw_m8 96 rfl) rfl
theorem q1859 : (Jvm.Cond.methodLink "TrackArrayModel" (1 : Nat) ({ cls := "java/lang/Object", name := "<init>", desc := "()V" } : Jvm.MethodName)) ∈ lw_all := lw_g (lw_at lw_m8 97 rfl) rfl
theorem q1860 : (Jvm.Cond.methodLink "TrackArrayModel" (46 : Nat) ({ cls := "TrackArrayModel", name := "clear", desc := "()V" } : Jvm.MethodName)) ∈ lw_all := lw_g (lw_at lw_m8 98 rfl) rfl
theorem q1861 : (Jvm.Cond.privateMethod ({ cls := "TrackArrayModel", name := "clear", desc := "()V" } : Jvm.MethodName)) ∈ lw_tbl := lw_at lw_m8 99 rfl
theorem q1862 : (Jvm.Cond.instanceMethod ({ cls := "TrackArrayModel", name := "clear", desc := "()V" } : Jvm.MethodName)) ∈ lw_all := lw_g (lw_at lw_m8 100 rfl) rfl
theorem q1863 : (Jvm.Cond.code ({ cls := "TrackArrayModel", name := "clear", desc := "()V" } : Jvm.MethodName) prog_25_method_5_code (2 : Nat) (Option.none : Option Jvm.ClassFile.FieldType)) ∈ lw_all := lw_g (lw_at lw_m8 101 rfl) rfl
theorem q1864 : (Jvm.Cond.fieldLink "TrackArrayModel" (7 : Nat) "TrackArrayModel" "state" "[I") ∈ lw_all := lw_g (lw_at lw_m8 102 rfl) rfl
theorem q1865 : (Jvm.Cond.fieldLink "TrackArrayModel" (13 : Nat) "TrackArrayModel" "backup" "[I") ∈ lw_all := lw_g (lw_at lw_m8 103 rfl) rfl
theorem q1866 : (Jvm.Cond.fieldLink "TrackArrayModel" (16 : Nat) "TrackArrayModel" "saved" "[I") ∈ lw_all := lw_g (lw_at lw_m8 104 rfl) rfl
theorem q1867 : (Jvm.Cond.fieldLink "TrackArrayModel" (19 : Nat) "TrackArrayModel" "isSaved" "[Z") ∈ lw_all := lw_g (lw_at lw_m8 105 rfl) rfl
theorem q1868 : (Jvm.Cond.fieldLink "TrackArrayModel" (49 : Nat) "TrackArrayModel" "thrown" "I") ∈ lw_all := lw_g (lw_at lw_m8 106 rfl) rfl
theorem q1869 : (Jvm.Cond.fieldLink "TrackArrayModel" (23 : Nat) "TrackArrayModel" "distances" "[I") ∈ lw_all := lw_g (lw_at lw_m8 107 rfl) rfl
theorem q1870 : (Jvm.Cond.fieldLink "TrackArrayModel" (26 : Nat) "TrackArrayModel" "reflections" "[I") ∈ lw_all := lw_g (lw_at lw_m8 108 rfl) rfl
theorem q1871 : (Jvm.Cond.fieldLink "TrackArrayModel" (29 : Nat) "TrackArrayModel" "signal" "[I") ∈ lw_all := lw_g (lw_at lw_m8 109 rfl) rfl
theorem q1872 : (Jvm.Cond.fieldLink "TrackArrayModel" (32 : Nat) "TrackArrayModel" "parts" "[I") ∈ lw_all := lw_g (lw_at lw_m8 110 rfl) rfl
theorem q1873 : (Jvm.Cond.fieldLink "TrackArrayModel" (35 : Nat) "TrackArrayModel" "folded" "[J") ∈ lw_all := lw_g (lw_at lw_m8 111 rfl) rfl
theorem q1874 : (Jvm.Cond.fieldLink "TrackArrayModel" (39 : Nat) "TrackArrayModel" "text" "[I") ∈ lw_all := lw_g (lw_at lw_m8 112 rfl) rfl
theorem q1875 : (Jvm.Cond.fieldLink "TrackArrayModel" (272 : Nat) "TrackArrayModel" "textLength" "I") ∈ lw_all := lw_g (lw_at lw_m8 113 rfl) rfl
theorem q1876 : (Jvm.Cond.fieldLink "TrackArrayModel" (275 : Nat) "TrackArrayModel" "position" "I") ∈ lw_all := lw_g (lw_at lw_m8 114 rfl) rfl
theorem q1877 : (Jvm.Cond.fieldLink "TrackArrayModel" (281 : Nat) "TrackArrayModel" "tokenStart" "I") ∈ lw_all := lw_g (lw_at lw_m8 115 rfl) rfl
theorem q1878 : (Jvm.Cond.fieldLink "TrackArrayModel" (294 : Nat) "TrackArrayModel" "token" "I") ∈ lw_all := lw_g (lw_at lw_m8 116 rfl) rfl
theorem q1879 : (Jvm.Cond.fieldLink "TrackArrayModel" (284 : Nat) "TrackArrayModel" "letters" "I") ∈ lw_all := lw_g (lw_at lw_m8 117 rfl) rfl
theorem q1880 : (Jvm.Cond.fieldLink "TrackArrayModel" (291 : Nat) "TrackArrayModel" "number" "I") ∈ lw_all := lw_g (lw_at lw_m8 118 rfl) rfl
theorem q1881 : (Jvm.Cond.fieldLink "TrackArrayModel" (317 : Nat) "TrackArrayModel" "errorCode" "I") ∈ lw_all := lw_g (lw_at lw_m8 119 rfl) rfl
theorem q1882 : (Jvm.Cond.fieldLink "TrackArrayModel" (42 : Nat) "TrackArrayModel" "errorPosition" "I") ∈ lw_all := lw_g (lw_at lw_m8 120 rfl) rfl
theorem q1883 : (Jvm.Cond.fieldLink "TrackArrayModel" (287 : Nat) "TrackArrayModel" "word" "J") ∈ lw_all := lw_g (lw_at lw_m8 121 rfl) rfl
theorem q1884 : (Jvm.Cond.laysFinal "TrackArrayModel" "TrackArrayModel" "state" "[I") ∈ lw_all := lw_g (lw_at lw_m8 122 rfl) rfl
theorem q1885 : (Jvm.Cond.soleField "TrackArrayModel" "state") ∈ lw_all := lw_g (lw_at lw_m8 123 rfl) rfl
theorem q1886 : (Jvm.Cond.laysFinal "TrackArrayModel" "TrackArrayModel" "backup" "[I") ∈ lw_all := lw_g (lw_at lw_m8 124 rfl) rfl
theorem q1887 : (Jvm.Cond.soleField "TrackArrayModel" "backup") ∈ lw_all := lw_g (lw_at lw_m8 125 rfl) rfl
theorem q1888 : (Jvm.Cond.laysFinal "TrackArrayModel" "TrackArrayModel" "saved" "[I") ∈ lw_all := lw_g (lw_at lw_m8 126 rfl) rfl
theorem q1889 : (Jvm.Cond.soleField "TrackArrayModel" "saved") ∈ lw_all := lw_g (lw_at lw_m8 127 rfl) rfl
theorem q1890 : (Jvm.Cond.laysFinal "TrackArrayModel" "TrackArrayModel" "isSaved" "[Z") ∈ lw_all := lw_g (lw_at lw_m8 128 rfl) rfl
theorem q1891 : (Jvm.Cond.soleField "TrackArrayModel" "isSaved") ∈ lw_all := lw_g (lw_at lw_m8 129 rfl) rfl
theorem q1892 : (Jvm.Cond.lays "TrackArrayModel" "TrackArrayModel" "thrown" "I") ∈ lw_all := lw_g (lw_at lw_m8 130 rfl) rfl
theorem q1893 : (Jvm.Cond.soleField "TrackArrayModel" "thrown") ∈ lw_all := lw_g (lw_at lw_m8 131 rfl) rfl
theorem q1894 : (Jvm.Cond.laysFinal "TrackArrayModel" "TrackArrayModel" "distances" "[I") ∈ lw_all := lw_g (lw_at lw_m8 132 rfl) rfl
theorem q1895 : (Jvm.Cond.soleField "TrackArrayModel" "distances") ∈ lw_all := lw_g (lw_at lw_m8 133 rfl) rfl
theorem q1896 : (Jvm.Cond.laysFinal "TrackArrayModel" "TrackArrayModel" "reflections" "[I") ∈ lw_all := lw_g (lw_at lw_m8 134 rfl) rfl
theorem q1897 : (Jvm.Cond.soleField "TrackArrayModel" "reflections") ∈ lw_all := lw_g (lw_at lw_m8 135 rfl) rfl
theorem q1898 : (Jvm.Cond.laysFinal "TrackArrayModel" "TrackArrayModel" "signal" "[I") ∈ lw_all := lw_g (lw_at lw_m8 136 rfl) rfl
theorem q1899 : (Jvm.Cond.soleField "TrackArrayModel" "signal") ∈ lw_all := lw_g (lw_at lw_m8 137 rfl) rfl
theorem q1900 : (Jvm.Cond.laysFinal "TrackArrayModel" "TrackArrayModel" "parts" "[I") ∈ lw_all := lw_g (lw_at lw_m8 138 rfl) rfl
theorem q1901 : (Jvm.Cond.soleField "TrackArrayModel" "parts") ∈ lw_all := lw_g (lw_at lw_m8 139 rfl) rfl
theorem q1902 : (Jvm.Cond.laysFinal "TrackArrayModel" "TrackArrayModel" "folded" "[J") ∈ lw_all := lw_g (lw_at lw_m8 140 rfl) rfl
theorem q1903 : (Jvm.Cond.soleField "TrackArrayModel" "folded") ∈ lw_all := lw_g (lw_at lw_m8 141 rfl) rfl
theorem q1904 : (Jvm.Cond.laysFinal "TrackArrayModel" "TrackArrayModel" "text" "[I") ∈ lw_all := lw_g (lw_at lw_m8 142 rfl) rfl
theorem q1905 : (Jvm.Cond.soleField "TrackArrayModel" "text") ∈ lw_all := lw_g (lw_at lw_m8 143 rfl) rfl
theorem q1906 : (Jvm.Cond.lays "TrackArrayModel" "TrackArrayModel" "textLength" "I") ∈ lw_all := lw_g (lw_at lw_m8 144 rfl) rfl
theorem q1907 : (Jvm.Cond.soleField "TrackArrayModel" "textLength") ∈ lw_all := lw_g (lw_at lw_m8 145 rfl) rfl
theorem q1908 : (Jvm.Cond.lays "TrackArrayModel" "TrackArrayModel" "position" "I") ∈ lw_all := lw_g (lw_at lw_m8 146 rfl) rfl
theorem q1909 : (Jvm.Cond.soleField "TrackArrayModel" "position") ∈ lw_all := lw_g (lw_at lw_m8 147 rfl) rfl
theorem q1910 : (Jvm.Cond.lays "TrackArrayModel" "TrackArrayModel" "tokenStart" "I") ∈ lw_all := lw_g (lw_at lw_m8 148 rfl) rfl
theorem q1911 : (Jvm.Cond.soleField "TrackArrayModel" "tokenStart") ∈ lw_all := lw_g (lw_at lw_m8 149 rfl) rfl
theorem q1912 : (Jvm.Cond.lays "TrackArrayModel" "TrackArrayModel" "token" "I") ∈ lw_all := lw_g (lw_at lw_m8 150 rfl) rfl
theorem q1913 : (Jvm.Cond.soleField "TrackArrayModel" "token") ∈ lw_all := lw_g (lw_at lw_m8 151 rfl) rfl
theorem q1914 : (Jvm.Cond.lays "TrackArrayModel" "TrackArrayModel" "letters" "I") ∈ lw_all := lw_g (lw_at lw_m8 152 rfl) rfl
theorem q1915 : (Jvm.Cond.soleField "TrackArrayModel" "letters") ∈ lw_all := lw_g (lw_at lw_m8 153 rfl) rfl
theorem q1916 : (Jvm.Cond.lays "TrackArrayModel" "TrackArrayModel" "number" "I") ∈ lw_all := lw_g (lw_at lw_m8 154 rfl) rfl
theorem q1917 : (Jvm.Cond.soleField "TrackArrayModel" "number") ∈ lw_all := lw_g (lw_at lw_m8 155 rfl) rfl
theorem q1918 : (Jvm.Cond.lays "TrackArrayModel" "TrackArrayModel" "errorCode" "I") ∈ lw_all := lw_g (lw_at lw_m8 156 rfl) rfl
theorem q1919 : (Jvm.Cond.soleField "TrackArrayModel" "errorCode") ∈ lw_all := lw_g (lw_at lw_m8 157 rfl) rfl
theorem q1920 : (Jvm.Cond.lays "TrackArrayModel" "TrackArrayModel" "errorPosition" "I") ∈ lw_all := lw_g (lw_at lw_m8 158 rfl) rfl
theorem q1921 : (Jvm.Cond.soleField "TrackArrayModel" "errorPosition") ∈ lw_all := lw_g (lw_at lw_m8 159 rfl) rfl
theorem q1922 : (Jvm.Cond.lays "TrackArrayModel" "TrackArrayModel" "word" "J") ∈ lw_all := lw_g (lw_at lw_m8 160 rfl) rfl
theorem q1923 : (Jvm.Cond.soleField "TrackArrayModel" "word") ∈ lw_all := lw_g (lw_at lw_m8 161 rfl) rfl
theorem q1924 : (Jvm.Cond.superclass "TrackArrayModel" "java/lang/Object") ∈ lw_all := lw_g (lw_at lw_m8 162 rfl) rfl
theorem q1927 : (Jvm.Cond.instanceMethod ({ cls := "TrackArrayModel", name := "thrown", desc := "()I" } : Jvm.MethodName)) ∈ lw_all := lw_g (lw_at lw_m8 165 rfl) rfl
theorem q1928 : (Jvm.Cond.selects "TrackArrayModel" ({ cls := "TrackArrayModel", name := "thrown", desc := "()I" } : Jvm.MethodName) ({ cls := "TrackArrayModel", name := "thrown", desc := "()I" } : Jvm.MethodName)) ∈ lw_all := lw_g (lw_at lw_m8 166 rfl) rfl
theorem q1929 : (Jvm.Cond.code ({ cls := "TrackArrayModel", name := "thrown", desc := "()I" } : Jvm.MethodName) prog_25_method_2_code (1 : Nat) (Option.some Jvm.ClassFile.FieldType.int)) ∈ lw_all := lw_g (lw_at lw_m8 167 rfl) rfl
theorem q1931 : (Jvm.Cond.instanceMethod ({ cls := "TrackArrayModel", name := "setSound", desc := "(I)I" } : Jvm.MethodName)) ∈ lw_all := lw_g (lw_at lw_m8 169 rfl) rfl
theorem q1932 : (Jvm.Cond.selects "TrackArrayModel" ({ cls := "TrackArrayModel", name := "setSound", desc := "(I)I" } : Jvm.MethodName) ({ cls := "TrackArrayModel", name := "setSound", desc := "(I)I" } : Jvm.MethodName)) ∈ lw_all := lw_g (lw_at lw_m8 170 rfl) rfl
theorem q1933 : (Jvm.Cond.code ({ cls := "TrackArrayModel", name := "setSound", desc := "(I)I" } : Jvm.MethodName) prog_25_method_16_code (2 : Nat) (Option.some Jvm.ClassFile.FieldType.int)) ∈ lw_all := lw_g (lw_at lw_m8 171 rfl) rfl
theorem q1934 : (Jvm.Cond.methodLink "TrackArrayModel" (52 : Nat) ({ cls := "TrackArrayModel", name := "isBetween", desc := "(III)Z" } : Jvm.MethodName)) ∈ lw_all := lw_g (lw_at lw_m8 172 rfl) rfl
theorem q1935 : (Jvm.Cond.static ({ cls := "TrackArrayModel", name := "isBetween", desc := "(III)Z" } : Jvm.MethodName)) ∈ lw_all := lw_g (lw_at lw_m8 173 rfl) rfl
theorem q1936 : (Jvm.Cond.code ({ cls := "TrackArrayModel", name := "isBetween", desc := "(III)Z" } : Jvm.MethodName) prog_25_method_4_code (3 : Nat) (Option.some Jvm.ClassFile.FieldType.boolean)) ∈ lw_all := lw_g (lw_at lw_m8 174 rfl) rfl
theorem q1937 : (Jvm.Cond.methodLink "TrackArrayModel" (60 : Nat) ({ cls := "TrackArrayModel", name := "replace", desc := "(II)I" } : Jvm.MethodName)) ∈ lw_all := lw_g (lw_at lw_m8 175 rfl) rfl
theorem q1938 : (Jvm.Cond.privateMethod ({ cls := "TrackArrayModel", name := "replace", desc := "(II)I" } : Jvm.MethodName)) ∈ lw_tbl := lw_at lw_m8 176 rfl
theorem q1939 : (Jvm.Cond.instanceMethod ({ cls := "TrackArrayModel", name := "replace", desc := "(II)I" } : Jvm.MethodName)) ∈ lw_all := lw_g (lw_at lw_m8 177 rfl) rfl
theorem q1940 : (Jvm.Cond.code ({ cls := "TrackArrayModel", name := "replace", desc := "(II)I" } : Jvm.MethodName) prog_25_method_15_code (4 : Nat) (Option.some Jvm.ClassFile.FieldType.int)) ∈ lw_all := lw_g (lw_at lw_m8 178 rfl) rfl
theorem q1941 : (Jvm.Cond.methodLink "TrackArrayModel" (64 : Nat) ({ cls := "TrackArrayModel", name := "fail", desc := "(I)I" } : Jvm.MethodName)) ∈ lw_all := lw_g (lw_at lw_m8 179 rfl) rfl
theorem q1942 : (Jvm.Cond.privateMethod ({ cls := "TrackArrayModel", name := "fail", desc := "(I)I" } : Jvm.MethodName)) ∈ lw_tbl := lw_at lw_m8 180 rfl
theorem q1943 : (Jvm.Cond.instanceMethod ({ cls := "TrackArrayModel", name := "fail", desc := "(I)I" } : Jvm.MethodName)) ∈ lw_all := lw_g (lw_at lw_m8 181 rfl) rfl
theorem q1944 : (Jvm.Cond.code ({ cls := "TrackArrayModel", name := "fail", desc := "(I)I" } : Jvm.MethodName) prog_25_method_3_code (2 : Nat) (Option.some Jvm.ClassFile.FieldType.int)) ∈ lw_all := lw_g (lw_at lw_m8 182 rfl) rfl
theorem q1946 : (Jvm.Cond.instanceMethod ({ cls := "TrackArrayModel", name := "setGround", desc := "(I)I" } : Jvm.MethodName)) ∈ lw_all := lw_g (lw_at lw_m8 184 rfl) rfl
theorem q1947 : (Jvm.Cond.selects "TrackArrayModel" ({ cls := "TrackArrayModel", name := "setGround", desc := "(I)I" } : Jvm.MethodName) ({ cls := "TrackArrayModel", name := "setGround", desc := "(I)I" } : Jvm.MethodName)) ∈ lw_all := lw_g (lw_at lw_m8 185 rfl) rfl
theorem q1948 : (Jvm.Cond.code ({ cls := "TrackArrayModel", name := "setGround", desc := "(I)I" } : Jvm.MethodName) prog_25_method_17_code (2 : Nat) (Option.some Jvm.ClassFile.FieldType.int)) ∈ lw_all := lw_g (lw_at lw_m8 186 rfl) rfl
theorem q1950 : (Jvm.Cond.instanceMethod ({ cls := "TrackArrayModel", name := "setSpreading", desc := "(Z)Z" } : Jvm.MethodName)) ∈ lw_all := lw_g (lw_at lw_m8 188 rfl) rfl
theorem q1951 : (Jvm.Cond.selects "TrackArrayModel" ({ cls := "TrackArrayModel", name := "setSpreading", desc := "(Z)Z" } : Jvm.MethodName) ({ cls := "TrackArrayModel", name := "setSpreading", desc := "(Z)Z" } : Jvm.MethodName)) ∈ lw_all := lw_g (lw_at lw_m8 189 rfl) rfl
theorem q1952 : (Jvm.Cond.code ({ cls := "TrackArrayModel", name := "setSpreading", desc := "(Z)Z" } : Jvm.MethodName) prog_25_method_18_code (2 : Nat) (Option.some Jvm.ClassFile.FieldType.boolean)) ∈ lw_all := lw_g (lw_at lw_m8 190 rfl) rfl
theorem q1954 : (Jvm.Cond.instanceMethod ({ cls := "TrackArrayModel", name := "setNoise", desc := "(II)V" } : Jvm.MethodName)) ∈ lw_all := lw_g (lw_at lw_m8 192 rfl) rfl
theorem q1955 : (Jvm.Cond.selects "TrackArrayModel" ({ cls := "TrackArrayModel", name := "setNoise", desc := "(II)V" } : Jvm.MethodName) ({ cls := "TrackArrayModel", name := "setNoise", desc := "(II)V" } : Jvm.MethodName)) ∈ lw_all := lw_g (lw_at lw_m8 193 rfl) rfl
theorem q1956 : (Jvm.Cond.code ({ cls := "TrackArrayModel", name := "setNoise", desc := "(II)V" } : Jvm.MethodName) prog_25_method_19_code (3 : Nat) (Option.none : Option Jvm.ClassFile.FieldType)) ∈ lw_all := lw_g (lw_at lw_m8 194 rfl) rfl
theorem q1958 : (Jvm.Cond.instanceMethod ({ cls := "TrackArrayModel", name := "addVehicle", desc := "(III)I" } : Jvm.MethodName)) ∈ lw_all := lw_g (lw_at lw_m8 196 rfl) rfl
theorem q1959 : (Jvm.Cond.selects "TrackArrayModel" ({ cls := "TrackArrayModel", name := "addVehicle", desc := "(III)I" } : Jvm.MethodName) ({ cls := "TrackArrayModel", name := "addVehicle", desc := "(III)I" } : Jvm.MethodName)) ∈ lw_all := lw_g (lw_at lw_m8 197 rfl) rfl
theorem q1960 : (Jvm.Cond.code ({ cls := "TrackArrayModel", name := "addVehicle", desc := "(III)I" } : Jvm.MethodName) prog_25_method_22_code (4 : Nat) (Option.some Jvm.ClassFile.FieldType.int)) ∈ lw_all := lw_g (lw_at lw_m8 198 rfl) rfl
theorem q1961 : (Jvm.Cond.methodLink "TrackArrayModel" (68 : Nat) ({ cls := "TrackArrayModel", name := "isVehiclePlace", desc := "(III)Z" } : Jvm.MethodName)) ∈ lw_all := lw_g (lw_at lw_m8 199 rfl) rfl
theorem q1962 : (Jvm.Cond.static ({ cls := "TrackArrayModel", name := "isVehiclePlace", desc := "(III)Z" } : Jvm.MethodName)) ∈ lw_all := lw_g (lw_at lw_m8 200 rfl) rfl
theorem q1963 : (Jvm.Cond.code ({ cls := "TrackArrayModel", name := "isVehiclePlace", desc := "(III)Z" } : Jvm.MethodName) prog_25_method_20_code (3 : Nat) (Option.some Jvm.ClassFile.FieldType.boolean)) ∈ lw_all := lw_g (lw_at lw_m8 201 rfl) rfl
theorem q1964 : (Jvm.Cond.methodLink "TrackArrayModel" (71 : Nat) ({ cls := "TrackArrayModel", name := "appendVehicle", desc := "(III)I" } : Jvm.MethodName)) ∈ lw_all := lw_g (lw_at lw_m8 202 rfl) rfl
theorem q1965 : (Jvm.Cond.privateMethod ({ cls := "TrackArrayModel", name := "appendVehicle", desc := "(III)I" } : Jvm.MethodName)) ∈ lw_tbl := lw_at lw_m8 203 rfl
theorem q1966 : (Jvm.Cond.instanceMethod ({ cls := "TrackArrayModel", name := "appendVehicle", desc := "(III)I" } : Jvm.MethodName)) ∈ lw_all := lw_g (lw_at lw_m8 204 rfl) rfl
theorem q1967 : (Jvm.Cond.code ({ cls := "TrackArrayModel", name := "appendVehicle", desc := "(III)I" } : Jvm.MethodName) prog_25_method_21_code (5 : Nat) (Option.some Jvm.ClassFile.FieldType.int)) ∈ lw_all := lw_g (lw_at lw_m8 205 rfl) rfl
theorem q1969 : (Jvm.Cond.instanceMethod ({ cls := "TrackArrayModel", name := "addSource", desc := "(IIIII)I" } : Jvm.MethodName)) ∈ lw_all := lw_g (lw_at lw_m8 207 rfl) rfl
theorem q1970 : (Jvm.Cond.selects "TrackArrayModel" ({ cls := "TrackArrayModel", name := "addSource", desc := "(IIIII)I" } : Jvm.MethodName) ({ cls := "TrackArrayModel", name := "addSource", desc := "(IIIII)I" } : Jvm.MethodName)) ∈ lw_all := lw_g (lw_at lw_m8 208 rfl) rfl
theorem q1971 : (Jvm.Cond.code ({ cls := "TrackArrayModel", name := "addSource", desc := "(IIIII)I" } : Jvm.MethodName) prog_25_method_28_code (8 : Nat) (Option.some Jvm.ClassFile.FieldType.int)) ∈ lw_all := lw_g (lw_at lw_m8 209 rfl) rfl
theorem q1972 : (Jvm.Cond.methodLink "TrackArrayModel" (75 : Nat) ({ cls := "TrackArrayModel", name := "isVehicle", desc := "(I)Z" } : Jvm.MethodName)) ∈ lw_all := lw_g (lw_at lw_m8 210 rfl) rfl
theorem q1973 : (Jvm.Cond.privateMethod ({ cls := "TrackArrayModel", name := "isVehicle", desc := "(I)Z" } : Jvm.MethodName)) ∈ lw_tbl := lw_at lw_m8 211 rfl
theorem q1974 : (Jvm.Cond.instanceMethod ({ cls := "TrackArrayModel", name := "isVehicle", desc := "(I)Z" } : Jvm.MethodName)) ∈ lw_all := lw_g (lw_at lw_m8 212 rfl) rfl
theorem q1975 : (Jvm.Cond.code ({ cls := "TrackArrayModel", name := "isVehicle", desc := "(I)Z" } : Jvm.MethodName) prog_25_method_9_code (2 : Nat) (Option.some Jvm.ClassFile.FieldType.boolean)) ∈ lw_all := lw_g (lw_at lw_m8 213 rfl) rfl
theorem q1976 : (Jvm.Cond.methodLink "TrackArrayModel" (78 : Nat) ({ cls := "TrackArrayModel", name := "isOffset", desc := "(I)Z" } : Jvm.MethodName)) ∈ lw_all := lw_g (lw_at lw_m8 214 rfl) rfl
theorem q1977 : (Jvm.Cond.static ({ cls := "TrackArrayModel", name := "isOffset", desc := "(I)Z" } : Jvm.MethodName)) ∈ lw_all := lw_g (lw_at lw_m8 215 rfl) rfl
theorem q1978 : (Jvm.Cond.code ({ cls := "TrackArrayModel", name := "isOffset", desc := "(I)Z" } : Jvm.MethodName) prog_25_method_24_code (1 : Nat) (Option.some Jvm.ClassFile.FieldType.boolean)) ∈ lw_all := lw_g (lw_at lw_m8 216 rfl) rfl
theorem q1979 : (Jvm.Cond.methodLink "TrackArrayModel" (81 : Nat) ({ cls := "TrackArrayModel", name := "isHeight", desc := "(I)Z" } : Jvm.MethodName)) ∈ lw_all := lw_g (lw_at lw_m8 217 rfl) rfl
theorem q1980 : (Jvm.Cond.static ({ cls := "TrackArrayModel", name := "isHeight", desc := "(I)Z" } : Jvm.MethodName)) ∈ lw_all := lw_g (lw_at lw_m8 218 rfl) rfl
theorem q1981 : (Jvm.Cond.code ({ cls := "TrackArrayModel", name := "isHeight", desc := "(I)Z" } : Jvm.MethodName) prog_25_method_23_code (1 : Nat) (Option.some Jvm.ClassFile.FieldType.boolean)) ∈ lw_all := lw_g (lw_at lw_m8 219 rfl) rfl
theorem q1982 : (Jvm.Cond.methodLink "TrackArrayModel" (84 : Nat) ({ cls := "TrackArrayModel", name := "isValue", desc := "(I)Z" } : Jvm.MethodName)) ∈ lw_all := lw_g (lw_at lw_m8 220 rfl) rfl
theorem q1983 : (Jvm.Cond.static ({ cls := "TrackArrayModel", name := "isValue", desc := "(I)Z" } : Jvm.MethodName)) ∈ lw_all := lw_g (lw_at lw_m8 221 rfl) rfl
theorem q1984 : (Jvm.Cond.code ({ cls := "TrackArrayModel", name := "isValue", desc := "(I)Z" } : Jvm.MethodName) prog_25_method_25_code (1 : Nat) (Option.some Jvm.ClassFile.FieldType.boolean)) ∈ lw_all := lw_g (lw_at lw_m8 222 rfl) rfl
theorem q1985 : (Jvm.Cond.methodLink "TrackArrayModel" (87 : Nat) ({ cls := "TrackArrayModel", name := "appendSource", desc := "(IIII)I" } : Jvm.MethodName)) ∈ lw_all := lw_g (lw_at lw_m8 223 rfl) rfl
theorem q1986 : (Jvm.Cond.privateMethod ({ cls := "TrackArrayModel", name := "appendSource", desc := "(IIII)I" } : Jvm.MethodName)) ∈ lw_tbl := lw_at lw_m8 224 rfl
theorem q1987 : (Jvm.Cond.instanceMethod ({ cls := "TrackArrayModel", name := "appendSource", desc := "(IIII)I" } : Jvm.MethodName)) ∈ lw_all := lw_g (lw_at lw_m8 225 rfl) rfl
theorem q1988 : (Jvm.Cond.code ({ cls := "TrackArrayModel", name := "appendSource", desc := "(IIII)I" } : Jvm.MethodName) prog_25_method_26_code (6 : Nat) (Option.some Jvm.ClassFile.FieldType.int)) ∈ lw_all := lw_g (lw_at lw_m8 226 rfl) rfl
theorem q1989 : (Jvm.Cond.methodLink "TrackArrayModel" (91 : Nat) ({ cls := "TrackArrayModel", name := "appendValue", desc := "(II)I" } : Jvm.MethodName)) ∈ lw_all := lw_g (lw_at lw_m8 227 rfl) rfl
theorem q1990 : (Jvm.Cond.privateMethod ({ cls := "TrackArrayModel", name := "appendValue", desc := "(II)I" } : Jvm.MethodName)) ∈ lw_tbl := lw_at lw_m8 228 rfl
theorem q1991 : (Jvm.Cond.instanceMethod ({ cls := "TrackArrayModel", name := "appendValue", desc := "(II)I" } : Jvm.MethodName)) ∈ lw_all := lw_g (lw_at lw_m8 229 rfl) rfl
theorem q1992 : (Jvm.Cond.code ({ cls := "TrackArrayModel", name := "appendValue", desc := "(II)I" } : Jvm.MethodName) prog_25_method_27_code (4 : Nat) (Option.some Jvm.ClassFile.FieldType.int)) ∈ lw_all := lw_g (lw_at lw_m8 230 rfl) rfl
theorem q1994 : (Jvm.Cond.instanceMethod ({ cls := "TrackArrayModel", name := "addValue", desc := "(II)I" } : Jvm.MethodName)) ∈ lw_all := lw_g (lw_at lw_m8 232 rfl) rfl
theorem q1995 : (Jvm.Cond.selects "TrackArrayModel" ({ cls := "TrackArrayModel", name := "addValue", desc := "(II)I" } : Jvm.MethodName) ({ cls := "TrackArrayModel", name := "addValue", desc := "(II)I" } : Jvm.MethodName)) ∈ lw_all := lw_g (lw_at lw_m8 233 rfl) rfl
theorem q1996 : (Jvm.Cond.code ({ cls := "TrackArrayModel", name := "addValue", desc := "(II)I" } : Jvm.MethodName) prog_25_method_29_code (3 : Nat) (Option.some Jvm.ClassFile.FieldType.int)) ∈ lw_all := lw_g (lw_at lw_m8 234 rfl) rfl
theorem q1997 : (Jvm.Cond.methodLink "TrackArrayModel" (94 : Nat) ({ cls := "TrackArrayModel", name := "isSource", desc := "(I)Z" } : Jvm.MethodName)) ∈ lw_all := lw_g (lw_at lw_m8 235 rfl) rfl
theorem q1998 : (Jvm.Cond.privateMethod ({ cls := "TrackArrayModel", name := "isSource", desc := "(I)Z" } : Jvm.MethodName)) ∈ lw_tbl := lw_at lw_m8 236 rfl
theorem q1999 : (Jvm.Cond.instanceMethod ({ cls := "TrackArrayModel", name := "isSource", desc := "(I)Z" } : Jvm.MethodName)) ∈ lw_all := lw_g (lw_at lw_m8 237 rfl) rfl
theorem q2000 : (Jvm.Cond.code ({ cls := "TrackArrayModel", name := "isSource", desc := "(I)Z" } : Jvm.MethodName) prog_25_method_10_code (2 : Nat) (Option.some Jvm.ClassFile.FieldType.boolean)) ∈ lw_all := lw_g (lw_at lw_m8 238 rfl) rfl
theorem q2001 : (Jvm.Cond.methodLink "TrackArrayModel" (97 : Nat) ({ cls := "TrackArrayModel", name := "source", desc := "(II)I" } : Jvm.MethodName)) ∈ lw_all := lw_g (lw_at lw_m8 239 rfl) rfl
theorem q2002 : (Jvm.Cond.privateMethod ({ cls := "TrackArrayModel", name := "source", desc := "(II)I" } : Jvm.MethodName)) ∈ lw_tbl := lw_at lw_m9 0 rfl
theorem q2003 : (Jvm.Cond.instanceMethod ({ cls := "TrackArrayModel", name := "source", desc := "(II)I" } : Jvm.MethodName)) ∈ lw_all := lw_g (lw_at lw_m9 1 rfl) rfl
theorem q2004 : (Jvm.Cond.code ({ cls := "TrackArrayModel", name := "source", desc := "(II)I" } : Jvm.MethodName) prog_25_method_13_code (3 : Nat) (Option.some Jvm.ClassFile.FieldType.int)) ∈ lw_all := lw_g (lw_at lw_m9 2 rfl) rfl
theorem q2006 : (Jvm.Cond.instanceMethod ({ cls := "TrackArrayModel", name := "addMicrophone", desc := "(IIII)I" } : Jvm.MethodName)) ∈ lw_all := lw_g (lw_at lw_m9 4 rfl) rfl
theorem q2007 : (Jvm.Cond.selects "TrackArrayModel" ({ cls := "TrackArrayModel", name := "addMicrophone", desc := "(IIII)I" } : Jvm.MethodName) ({ cls := "TrackArrayModel", name := "addMicrophone", desc := "(IIII)I" } : Jvm.MethodName)) ∈ lw_all := lw_g (lw_at lw_m9 5 rfl) rfl
theorem q2008 : (Jvm.Cond.code ({ cls := "TrackArrayModel", name := "addMicrophone", desc := "(IIII)I" } : Jvm.MethodName) prog_25_method_32_code (5 : Nat) (Option.some Jvm.ClassFile.FieldType.int)) ∈ lw_all := lw_g (lw_at lw_m9 6 rfl) rfl
theorem q2009 : (Jvm.Cond.methodLink "TrackArrayModel" (100 : Nat) ({ cls := "TrackArrayModel", name := "isMicrophonePlace", desc := "(III)Z" } : Jvm.MethodName)) ∈ lw_all := lw_g (lw_at lw_m9 7 rfl) rfl
theorem q2010 : (Jvm.Cond.static ({ cls := "TrackArrayModel", name := "isMicrophonePlace", desc := "(III)Z" } : Jvm.MethodName)) ∈ lw_all := lw_g (lw_at lw_m9 8 rfl) rfl
theorem q2011 : (Jvm.Cond.code ({ cls := "TrackArrayModel", name := "isMicrophonePlace", desc := "(III)Z" } : Jvm.MethodName) prog_25_method_30_code (3 : Nat) (Option.some Jvm.ClassFile.FieldType.boolean)) ∈ lw_all := lw_g (lw_at lw_m9 9 rfl) rfl
theorem q2012 : (Jvm.Cond.methodLink "TrackArrayModel" (103 : Nat) ({ cls := "TrackArrayModel", name := "appendMicrophone", desc := "(IIII)I" } : Jvm.MethodName)) ∈ lw_all := lw_g (lw_at lw_m9 10 rfl) rfl
theorem q2013 : (Jvm.Cond.privateMethod ({ cls := "TrackArrayModel", name := "appendMicrophone", desc := "(IIII)I" } : Jvm.MethodName)) ∈ lw_tbl := lw_at lw_m9 11 rfl
theorem q2014 : (Jvm.Cond.instanceMethod ({ cls := "TrackArrayModel", name := "appendMicrophone", desc := "(IIII)I" } : Jvm.MethodName)) ∈ lw_all := lw_g (lw_at lw_m9 12 rfl) rfl
theorem q2015 : (Jvm.Cond.code ({ cls := "TrackArrayModel", name := "appendMicrophone", desc := "(IIII)I" } : Jvm.MethodName) prog_25_method_31_code (6 : Nat) (Option.some Jvm.ClassFile.FieldType.int)) ∈ lw_all := lw_g (lw_at lw_m9 13 rfl) rfl
theorem q2017 : (Jvm.Cond.instanceMethod ({ cls := "TrackArrayModel", name := "setWeight", desc := "(II)I" } : Jvm.MethodName)) ∈ lw_all := lw_g (lw_at lw_m9 15 rfl) rfl
theorem q2018 : (Jvm.Cond.selects "TrackArrayModel" ({ cls := "TrackArrayModel", name := "setWeight", desc := "(II)I" } : Jvm.MethodName) ({ cls := "TrackArrayModel", name := "setWeight", desc := "(II)I" } : Jvm.MethodName)) ∈ lw_all := lw_g (lw_at lw_m9 16 rfl) rfl
theorem q2019 : (Jvm.Cond.code ({ cls := "TrackArrayModel", name := "setWeight", desc := "(II)I" } : Jvm.MethodName) prog_25_method_33_code (3 : Nat) (Option.some Jvm.ClassFile.FieldType.int)) ∈ lw_all := lw_g (lw_at lw_m9 17 rfl) rfl
theorem q2020 : (Jvm.Cond.methodLink "TrackArrayModel" (106 : Nat) ({ cls := "TrackArrayModel", name := "isMicrophone", desc := "(I)Z" } : Jvm.MethodName)) ∈ lw_all := lw_g (lw_at lw_m9 18 rfl) rfl
theorem q2021 : (Jvm.Cond.privateMethod ({ cls := "TrackArrayModel", name := "isMicrophone", desc := "(I)Z" } : Jvm.MethodName)) ∈ lw_tbl := lw_at lw_m9 19 rfl
theorem q2022 : (Jvm.Cond.instanceMethod ({ cls := "TrackArrayModel", name := "isMicrophone", desc := "(I)Z" } : Jvm.MethodName)) ∈ lw_all := lw_g (lw_at lw_m9 20 rfl) rfl
theorem q2023 : (Jvm.Cond.code ({ cls := "TrackArrayModel", name := "isMicrophone", desc := "(I)Z" } : Jvm.MethodName) prog_25_method_11_code (2 : Nat) (Option.some Jvm.ClassFile.FieldType.boolean)) ∈ lw_all := lw_g (lw_at lw_m9 21 rfl) rfl
theorem q2025 : (Jvm.Cond.instanceMethod ({ cls := "TrackArrayModel", name := "count", desc := "(I)I" } : Jvm.MethodName)) ∈ lw_all := lw_g (lw_at lw_m9 23 rfl) rfl
theorem q2026 : (Jvm.Cond.selects "TrackArrayModel" ({ cls := "TrackArrayModel", name := "count", desc := "(I)I" } : Jvm.MethodName) ({ cls := "TrackArrayModel", name := "count", desc := "(I)I" } : Jvm.MethodName)) ∈ lw_all := lw_g (lw_at lw_m9 24 rfl) rfl
theorem q2027 : (Jvm.Cond.code ({ cls := "TrackArrayModel", name := "count", desc := "(I)I" } : Jvm.MethodName) prog_25_method_34_code (2 : Nat) (Option.some Jvm.ClassFile.FieldType.int)) ∈ lw_all := lw_g (lw_at lw_m9 25 rfl) rfl
theorem q2029 : (Jvm.Cond.instanceMethod ({ cls := "TrackArrayModel", name := "emitted", desc := "(II)I" } : Jvm.MethodName)) ∈ lw_all := lw_g (lw_at lw_m9 27 rfl) rfl
theorem q2030 : (Jvm.Cond.selects "TrackArrayModel" ({ cls := "TrackArrayModel", name := "emitted", desc := "(II)I" } : Jvm.MethodName) ({ cls := "TrackArrayModel", name := "emitted", desc := "(II)I" } : Jvm.MethodName)) ∈ lw_all := lw_g (lw_at lw_m9 28 rfl) rfl
theorem q2031 : (Jvm.Cond.code ({ cls := "TrackArrayModel", name := "emitted", desc := "(II)I" } : Jvm.MethodName) prog_25_method_43_code (3 : Nat) (Option.some Jvm.ClassFile.FieldType.int)) ∈ lw_all := lw_g (lw_at lw_m9 29 rfl) rfl
theorem q2032 : (Jvm.Cond.methodLink "TrackArrayModel" (56 : Nat) ({ cls := "TrackArrayModel", name := "isTime", desc := "(I)Z" } : Jvm.MethodName)) ∈ lw_all := lw_g (lw_at lw_m9 30 rfl) rfl
theorem q2033 : (Jvm.Cond.static ({ cls := "TrackArrayModel", name := "isTime", desc := "(I)Z" } : Jvm.MethodName)) ∈ lw_all := lw_g (lw_at lw_m9 31 rfl) rfl
theorem q2034 : (Jvm.Cond.code ({ cls := "TrackArrayModel", name := "isTime", desc := "(I)Z" } : Jvm.MethodName) prog_25_method_7_code (1 : Nat) (Option.some Jvm.ClassFile.FieldType.boolean)) ∈ lw_all := lw_g (lw_at lw_m9 32 rfl) rfl
theorem q2035 : (Jvm.Cond.methodLink "TrackArrayModel" (137 : Nat) ({ cls := "TrackArrayModel", name := "emittedBy", desc := "(II)I" } : Jvm.MethodName)) ∈ lw_all := lw_g (lw_at lw_m9 33 rfl) rfl
theorem q2036 : (Jvm.Cond.privateMethod ({ cls := "TrackArrayModel", name := "emittedBy", desc := "(II)I" } : Jvm.MethodName)) ∈ lw_tbl := lw_at lw_m9 34 rfl
theorem q2037 : (Jvm.Cond.instanceMethod ({ cls := "TrackArrayModel", name := "emittedBy", desc := "(II)I" } : Jvm.MethodName)) ∈ lw_all := lw_g (lw_at lw_m9 35 rfl) rfl
theorem q2038 : (Jvm.Cond.code ({ cls := "TrackArrayModel", name := "emittedBy", desc := "(II)I" } : Jvm.MethodName) prog_25_method_42_code (3 : Nat) (Option.some Jvm.ClassFile.FieldType.int)) ∈ lw_all := lw_g (lw_at lw_m9 36 rfl) rfl
theorem q2040 : (Jvm.Cond.instanceMethod ({ cls := "TrackArrayModel", name := "distance", desc := "(IIIZ)I" } : Jvm.MethodName)) ∈ lw_all := lw_g (lw_at lw_m9 38 rfl) rfl
theorem q2041 : (Jvm.Cond.selects "TrackArrayModel" ({ cls := "TrackArrayModel", name := "distance", desc := "(IIIZ)I" } : Jvm.MethodName) ({ cls := "TrackArrayModel", name := "distance", desc := "(IIIZ)I" } : Jvm.MethodName)) ∈ lw_all := lw_g (lw_at lw_m9 39 rfl) rfl
theorem q2042 : (Jvm.Cond.code ({ cls := "TrackArrayModel", name := "distance", desc := "(IIIZ)I" } : Jvm.MethodName) prog_25_method_44_code (5 : Nat) (Option.some Jvm.ClassFile.FieldType.int)) ∈ lw_all := lw_g (lw_at lw_m9 40 rfl) rfl
theorem q2043 : (Jvm.Cond.methodLink "TrackArrayModel" (140 : Nat) ({ cls := "TrackArrayModel", name := "laySource", desc := "(II)V" } : Jvm.MethodName)) ∈ lw_all := lw_g (lw_at lw_m9 41 rfl) rfl
theorem q2044 : (Jvm.Cond.privateMethod ({ cls := "TrackArrayModel", name := "laySource", desc := "(II)V" } : Jvm.MethodName)) ∈ lw_tbl := lw_at lw_m9 42 rfl
theorem q2045 : (Jvm.Cond.instanceMethod ({ cls := "TrackArrayModel", name := "laySource", desc := "(II)V" } : Jvm.MethodName)) ∈ lw_all := lw_g (lw_at lw_m9 43 rfl) rfl
theorem q2046 : (Jvm.Cond.code ({ cls := "TrackArrayModel", name := "laySource", desc := "(II)V" } : Jvm.MethodName) prog_25_method_39_code (4 : Nat) (Option.none : Option Jvm.ClassFile.FieldType)) ∈ lw_all := lw_g (lw_at lw_m9 44 rfl) rfl
theorem q2047 : (Jvm.Cond.methodLink "TrackArrayModel" (109 : Nat) ({ cls := "TrackArrayModel", name := "vehicle", desc := "(II)I" } : Jvm.MethodName)) ∈ lw_all := lw_g (lw_at lw_m9 45 rfl) rfl
theorem q2048 : (Jvm.Cond.privateMethod ({ cls := "TrackArrayModel", name := "vehicle", desc := "(II)I" } : Jvm.MethodName)) ∈ lw_tbl := lw_at lw_m9 46 rfl
theorem q2049 : (Jvm.Cond.instanceMethod ({ cls := "TrackArrayModel", name := "vehicle", desc := "(II)I" } : Jvm.MethodName)) ∈ lw_all := lw_g (lw_at lw_m9 47 rfl) rfl
theorem q2050 : (Jvm.Cond.code ({ cls := "TrackArrayModel", name := "vehicle", desc := "(II)I" } : Jvm.MethodName) prog_25_method_12_code (3 : Nat) (Option.some Jvm.ClassFile.FieldType.int)) ∈ lw_all := lw_g (lw_at lw_m9 48 rfl) rfl
theorem q2051 : (Jvm.Cond.methodLink "TrackArrayModel" (129 : Nat) ({ cls := "TrackArrayModel", name := "layDistances", desc := "(IIIII)V" } : Jvm.MethodName)) ∈ lw_all := lw_g (lw_at lw_m9 49 rfl) rfl
theorem q2052 : (Jvm.Cond.privateMethod ({ cls := "TrackArrayModel", name := "layDistances", desc := "(IIIII)V" } : Jvm.MethodName)) ∈ lw_tbl := lw_at lw_m9 50 rfl
theorem q2053 : (Jvm.Cond.instanceMethod ({ cls := "TrackArrayModel", name := "layDistances", desc := "(IIIII)V" } : Jvm.MethodName)) ∈ lw_all := lw_g (lw_at lw_m9 51 rfl) rfl
theorem q2054 : (Jvm.Cond.code ({ cls := "TrackArrayModel", name := "layDistances", desc := "(IIIII)V" } : Jvm.MethodName) prog_25_method_38_code (8 : Nat) (Option.none : Option Jvm.ClassFile.FieldType)) ∈ lw_all := lw_g (lw_at lw_m9 52 rfl) rfl
theorem q2055 : (Jvm.Cond.methodLink "TrackArrayModel" (123 : Nat) ({ cls := "TrackArrayModel", name := "placeX", desc := "(III)I" } : Jvm.MethodName)) ∈ lw_all := lw_g (lw_at lw_m9 53 rfl) rfl
theorem q2056 : (Jvm.Cond.privateMethod ({ cls := "TrackArrayModel", name := "placeX", desc := "(III)I" } : Jvm.MethodName)) ∈ lw_tbl := lw_at lw_m9 54 rfl
theorem q2057 : (Jvm.Cond.instanceMethod ({ cls := "TrackArrayModel", name := "placeX", desc := "(III)I" } : Jvm.MethodName)) ∈ lw_all := lw_g (lw_at lw_m9 55 rfl) rfl
theorem q2058 : (Jvm.Cond.code ({ cls := "TrackArrayModel", name := "placeX", desc := "(III)I" } : Jvm.MethodName) prog_25_method_35_code (4 : Nat) (Option.some Jvm.ClassFile.FieldType.int)) ∈ lw_all := lw_g (lw_at lw_m9 56 rfl) rfl
theorem q2059 : (Jvm.Cond.methodLink "TrackArrayModel" (126 : Nat) ({ cls := "TrackArrayModel", name := "distanceTo", desc := "(IIII)I" } : Jvm.MethodName)) ∈ lw_all := lw_g (lw_at lw_m9 57 rfl) rfl
theorem q2060 : (Jvm.Cond.privateMethod ({ cls := "TrackArrayModel", name := "distanceTo", desc := "(IIII)I" } : Jvm.MethodName)) ∈ lw_tbl := lw_at lw_m9 58 rfl
theorem q2061 : (Jvm.Cond.instanceMethod ({ cls := "TrackArrayModel", name := "distanceTo", desc := "(IIII)I" } : Jvm.MethodName)) ∈ lw_all := lw_g (lw_at lw_m9 59 rfl) rfl
theorem q2062 : (Jvm.Cond.code ({ cls := "TrackArrayModel", name := "distanceTo", desc := "(IIII)I" } : Jvm.MethodName) prog_25_method_37_code (11 : Nat) (Option.some Jvm.ClassFile.FieldType.int)) ∈ lw_all := lw_g (lw_at lw_m9 60 rfl) rfl
theorem q2063 : (Jvm.Cond.methodLink "TrackArrayModel" (116 : Nat) ({ cls := "TrackArrayModel", name := "microphone", desc := "(II)I" } : Jvm.MethodName)) ∈ lw_all := lw_g (lw_at lw_m9 61 rfl) rfl
theorem q2064 : (Jvm.Cond.privateMethod ({ cls := "TrackArrayModel", name := "microphone", desc := "(II)I" } : Jvm.MethodName)) ∈ lw_tbl := lw_at lw_m9 62 rfl
theorem q2065 : (Jvm.Cond.instanceMethod ({ cls := "TrackArrayModel", name := "microphone", desc := "(II)I" } : Jvm.MethodName)) ∈ lw_all := lw_g (lw_at lw_m9 63 rfl) rfl
theorem q2066 : (Jvm.Cond.code ({ cls := "TrackArrayModel", name := "microphone", desc := "(II)I" } : Jvm.MethodName) prog_25_method_14_code (3 : Nat) (Option.some Jvm.ClassFile.FieldType.int)) ∈ lw_all := lw_g (lw_at lw_m9 64 rfl) rfl
theorem q2067 : (Jvm.Cond.methodLink "TrackArrayModel" (119 : Nat) ({ cls := "TrackArrayModel", name := "root", desc := "(J)I" } : Jvm.MethodName)) ∈ lw_all := lw_g (lw_at lw_m9 65 rfl) rfl
theorem q2068 : (Jvm.Cond.static ({ cls := "TrackArrayModel", name := "root", desc := "(J)I" } : Jvm.MethodName)) ∈ lw_all := lw_g (lw_at lw_m9 66 rfl) rfl
theorem q2069 : (Jvm.Cond.code ({ cls := "TrackArrayModel", name := "root", desc := "(J)I" } : Jvm.MethodName) prog_25_method_36_code (8 : Nat) (Option.some Jvm.ClassFile.FieldType.int)) ∈ lw_all := lw_g (lw_at lw_m9 67 rfl) rfl
theorem q2070 : (Jvm.Cond.constantLong "TrackArrayModel" (112 : Nat) (70000 : Int64)) ∈ lw_all := lw_g (lw_at lw_m9 68 rfl) rfl
theorem q2071 : (Jvm.Cond.constantLong "TrackArrayModel" (114 : Nat) (2 : Int64)) ∈ lw_all := lw_g (lw_at lw_m9 69 rfl) rfl
theorem q2073 : (Jvm.Cond.instanceMethod ({ cls := "TrackArrayModel", name := "emissionTime", desc := "(IIIZ)I" } : Jvm.MethodName)) ∈ lw_all := lw_g (lw_at lw_m9 71 rfl) rfl
theorem q2074 : (Jvm.Cond.selects "TrackArrayModel" ({ cls := "TrackArrayModel", name := "emissionTime", desc := "(IIIZ)I" } : Jvm.MethodName) ({ cls := "TrackArrayModel", name := "emissionTime", desc := "(IIIZ)I" } : Jvm.MethodName)) ∈ lw_all := lw_g (lw_at lw_m9 72 rfl) rfl
theorem q2075 : (Jvm.Cond.code ({ cls := "TrackArrayModel", name := "emissionTime", desc := "(IIIZ)I" } : Jvm.MethodName) prog_25_method_45_code (5 : Nat) (Option.some Jvm.ClassFile.FieldType.int)) ∈ lw_all := lw_g (lw_at lw_m9 73 rfl) rfl
theorem q2076 : (Jvm.Cond.methodLink "TrackArrayModel" (144 : Nat) ({ cls := "TrackArrayModel", name := "latest", desc := "(IZ)I" } : Jvm.MethodName)) ∈ lw_all := lw_g (lw_at lw_m9 74 rfl) rfl
theorem q2077 : (Jvm.Cond.privateMethod ({ cls := "TrackArrayModel", name := "latest", desc := "(IZ)I" } : Jvm.MethodName)) ∈ lw_tbl := lw_at lw_m9 75 rfl
theorem q2078 : (Jvm.Cond.instanceMethod ({ cls := "TrackArrayModel", name := "latest", desc := "(IZ)I" } : Jvm.MethodName)) ∈ lw_all := lw_g (lw_at lw_m9 76 rfl) rfl
theorem q2079 : (Jvm.Cond.code ({ cls := "TrackArrayModel", name := "latest", desc := "(IZ)I" } : Jvm.MethodName) prog_25_method_41_code (5 : Nat) (Option.some Jvm.ClassFile.FieldType.int)) ∈ lw_all := lw_g (lw_at lw_m9 77 rfl) rfl
theorem q2080 : (Jvm.Cond.methodLink "TrackArrayModel" (133 : Nat) ({ cls := "TrackArrayModel", name := "markOf", desc := "(IZ)I" } : Jvm.MethodName)) ∈ lw_all := lw_g (lw_at lw_m9 78 rfl) rfl
theorem q2081 : (Jvm.Cond.privateMethod ({ cls := "TrackArrayModel", name := "markOf", desc := "(IZ)I" } : Jvm.MethodName)) ∈ lw_tbl := lw_at lw_m9 79 rfl
theorem q2082 : (Jvm.Cond.instanceMethod ({ cls := "TrackArrayModel", name := "markOf", desc := "(IZ)I" } : Jvm.MethodName)) ∈ lw_all := lw_g (lw_at lw_m9 80 rfl) rfl
theorem q2083 : (Jvm.Cond.code ({ cls := "TrackArrayModel", name := "markOf", desc := "(IZ)I" } : Jvm.MethodName) prog_25_method_40_code (3 : Nat) (Option.some Jvm.ClassFile.FieldType.int)) ∈ lw_all := lw_g (lw_at lw_m9 81 rfl) rfl
theorem q2085 : (Jvm.Cond.instanceMethod ({ cls := "TrackArrayModel", name := "passTime", desc := "(II)I" } : Jvm.MethodName)) ∈ lw_all := lw_g (lw_at lw_m9 83 rfl) rfl
theorem q2086 : (Jvm.Cond.selects "TrackArrayModel" ({ cls := "TrackArrayModel", name := "passTime", desc := "(II)I" } : Jvm.MethodName) ({ cls := "TrackArrayModel", name := "passTime", desc := "(II)I" } : Jvm.MethodName)) ∈ lw_all := lw_g (lw_at lw_m9 84 rfl) rfl
theorem q2087 : (Jvm.Cond.code ({ cls := "TrackArrayModel", name := "passTime", desc := "(II)I" } : Jvm.MethodName) prog_25_method_46_code (7 : Nat) (Option.some Jvm.ClassFile.FieldType.int)) ∈ lw_all := lw_g (lw_at lw_m9 85 rfl) rfl
theorem q2088 : (Jvm.Cond.methodLink "TrackArrayModel" (147 : Nat) ({ cls := "java/lang/Math", name := "abs", desc := "(I)I" } : Jvm.MethodName)) ∈ lw_all := lw_g (lw_at lw_m9 86 rfl) rfl
theorem q2090 : (Jvm.Cond.instanceMethod ({ cls := "TrackArrayModel", name := "makeRecording", desc := "()I" } : Jvm.MethodName)) ∈ lw_all := lw_g (lw_at lw_m9 88 rfl) rfl
theorem q2091 : (Jvm.Cond.selects "TrackArrayModel" ({ cls := "TrackArrayModel", name := "makeRecording", desc := "()I" } : Jvm.MethodName) ({ cls := "TrackArrayModel", name := "makeRecording", desc := "()I" } : Jvm.MethodName)) ∈ lw_all := lw_g (lw_at lw_m9 89 rfl) rfl
theorem q2092 : (Jvm.Cond.code ({ cls := "TrackArrayModel", name := "makeRecording", desc := "()I" } : Jvm.MethodName) prog_25_method_51_code (3 : Nat) (Option.some Jvm.ClassFile.FieldType.int)) ∈ lw_all := lw_g (lw_at lw_m9 90 rfl) rfl
theorem q2093 : (Jvm.Cond.methodLink "TrackArrayModel" (167 : Nat) ({ cls := "TrackArrayModel", name := "hear", desc := "(IIZ)V" } : Jvm.MethodName)) ∈ lw_all := lw_g (lw_at lw_m9 91 rfl) rfl
theorem q2094 : (Jvm.Cond.privateMethod ({ cls := "TrackArrayModel", name := "hear", desc := "(IIZ)V" } : Jvm.MethodName)) ∈ lw_tbl := lw_at lw_m9 92 rfl
theorem q2095 : (Jvm.Cond.instanceMethod ({ cls := "TrackArrayModel", name := "hear", desc := "(IIZ)V" } : Jvm.MethodName)) ∈ lw_all := lw_g (lw_at lw_m9 93 rfl) rfl
theorem q2096 : (Jvm.Cond.code ({ cls := "TrackArrayModel", name := "hear", desc := "(IIZ)V" } : Jvm.MethodName) prog_25_method_48_code (7 : Nat) (Option.none : Option Jvm.ClassFile.FieldType)) ∈ lw_all := lw_g (lw_at lw_m9 94 rfl) rfl
theorem q2097 : (Jvm.Cond.methodLink "TrackArrayModel" (152 : Nat) ({ cls := "TrackArrayModel", name := "amountOf", desc := "(IIZ)I" } : Jvm.MethodName)) ∈ lw_all := lw_g (lw_at lw_m9 95 rfl) rfl
theorem q2098 : (Jvm.Cond.privateMethod ({ cls := "TrackArrayModel", name := "amountOf", desc := "(IIZ)I" } : Jvm.MethodName)) ∈ lw_tbl := lw_at lw_m9 96 rfl
theorem q2099 : (Jvm.Cond.instanceMethod ({ cls := "TrackArrayModel", name := "amountOf", desc := "(IIZ)I" } : Jvm.MethodName)) ∈ lw_all := lw_g (lw_at lw_m9 97 rfl) rfl
theorem q2100 : (Jvm.Cond.code ({ cls := "TrackArrayModel", name := "amountOf", desc := "(IIZ)I" } : Jvm.MethodName) prog_25_method_47_code (5 : Nat) (Option.some Jvm.ClassFile.FieldType.int)) ∈ lw_all := lw_g (lw_at lw_m9 98 rfl) rfl
theorem q2101 : (Jvm.Cond.methodLink "TrackArrayModel" (171 : Nat) ({ cls := "TrackArrayModel", name := "addNoise", desc := "(I)V" } : Jvm.MethodName)) ∈ lw_all := lw_g (lw_at lw_m9 99 rfl) rfl
theorem q2102 : (Jvm.Cond.privateMethod ({ cls := "TrackArrayModel", name := "addNoise", desc := "(I)V" } : Jvm.MethodName)) ∈ lw_tbl := lw_at lw_m9 100 rfl
theorem q2103 : (Jvm.Cond.instanceMethod ({ cls := "TrackArrayModel", name := "addNoise", desc := "(I)V" } : Jvm.MethodName)) ∈ lw_all := lw_g (lw_at lw_m9 101 rfl) rfl
theorem q2104 : (Jvm.Cond.code ({ cls := "TrackArrayModel", name := "addNoise", desc := "(I)V" } : Jvm.MethodName) prog_25_method_50_code (4 : Nat) (Option.none : Option Jvm.ClassFile.FieldType)) ∈ lw_all := lw_g (lw_at lw_m9 102 rfl) rfl
theorem q2105 : (Jvm.Cond.methodLink "TrackArrayModel" (164 : Nat) ({ cls := "TrackArrayModel", name := "draw", desc := "(I)I" } : Jvm.MethodName)) ∈ lw_all := lw_g (lw_at lw_m9 103 rfl) rfl
theorem q2106 : (Jvm.Cond.privateMethod ({ cls := "TrackArrayModel", name := "draw", desc := "(I)I" } : Jvm.MethodName)) ∈ lw_tbl := lw_at lw_m9 104 rfl
theorem q2107 : (Jvm.Cond.instanceMethod ({ cls := "TrackArrayModel", name := "draw", desc := "(I)I" } : Jvm.MethodName)) ∈ lw_all := lw_g (lw_at lw_m9 105 rfl) rfl
theorem q2108 : (Jvm.Cond.code ({ cls := "TrackArrayModel", name := "draw", desc := "(I)I" } : Jvm.MethodName) prog_25_method_49_code (4 : Nat) (Option.some Jvm.ClassFile.FieldType.int)) ∈ lw_all := lw_g (lw_at lw_m9 106 rfl) rfl
theorem q2109 : (Jvm.Cond.constantLong "TrackArrayModel" (156 : Nat) (1103515245 : Int64)) ∈ lw_all := lw_g (lw_at lw_m9 107 rfl) rfl
theorem q2110 : (Jvm.Cond.constantLong "TrackArrayModel" (158 : Nat) (12345 : Int64)) ∈ lw_all := lw_g (lw_at lw_m9 108 rfl) rfl
theorem q2111 : (Jvm.Cond.constantLong "TrackArrayModel" (160 : Nat) (2147483648 : Int64)) ∈ lw_all := lw_g (lw_at lw_m9 109 rfl) rfl
theorem q2112 : (Jvm.Cond.constantLong "TrackArrayModel" (162 : Nat) (65536 : Int64)) ∈ lw_all := lw_g (lw_at lw_m9 110 rfl) rfl
theorem q2114 : (Jvm.Cond.instanceMethod ({ cls := "TrackArrayModel", name := "sample", desc := "(II)I" } : Jvm.MethodName)) ∈ lw_all := lw_g (lw_at lw_m9 112 rfl) rfl
theorem q2115 : (Jvm.Cond.selects "TrackArrayModel" ({ cls := "TrackArrayModel", name := "sample", desc := "(II)I" } : Jvm.MethodName) ({ cls := "TrackArrayModel", name := "sample", desc := "(II)I" } : Jvm.MethodName)) ∈ lw_all := lw_g (lw_at lw_m9 113 rfl) rfl
theorem q2116 : (Jvm.Cond.code ({ cls := "TrackArrayModel", name := "sample", desc := "(II)I" } : Jvm.MethodName) prog_25_method_53_code (3 : Nat) (Option.some Jvm.ClassFile.FieldType.int)) ∈ lw_all := lw_g (lw_at lw_m9 114 rfl) rfl
theorem q2117 : (Jvm.Cond.methodLink "TrackArrayModel" (175 : Nat) ({ cls := "TrackArrayModel", name := "recorded", desc := "(II)I" } : Jvm.MethodName)) ∈ lw_all := lw_g (lw_at lw_m9 115 rfl) rfl
theorem q2118 : (Jvm.Cond.privateMethod ({ cls := "TrackArrayModel", name := "recorded", desc := "(II)I" } : Jvm.MethodName)) ∈ lw_tbl := lw_at lw_m9 116 rfl
theorem q2119 : (Jvm.Cond.instanceMethod ({ cls := "TrackArrayModel", name := "recorded", desc := "(II)I" } : Jvm.MethodName)) ∈ lw_all := lw_g (lw_at lw_m9 117 rfl) rfl
theorem q2120 : (Jvm.Cond.code ({ cls := "TrackArrayModel", name := "recorded", desc := "(II)I" } : Jvm.MethodName) prog_25_method_52_code (3 : Nat) (Option.some Jvm.ClassFile.FieldType.int)) ∈ lw_all := lw_g (lw_at lw_m9 118 rfl) rfl
theorem q2122 : (Jvm.Cond.instanceMethod ({ cls := "TrackArrayModel", name := "measureRecord", desc := "(IIII)J" } : Jvm.MethodName)) ∈ lw_all := lw_g (lw_at lw_m9 120 rfl) rfl
theorem q2123 : (Jvm.Cond.selects "TrackArrayModel" ({ cls := "TrackArrayModel", name := "measureRecord", desc := "(IIII)J" } : Jvm.MethodName) ({ cls := "TrackArrayModel", name := "measureRecord", desc := "(IIII)J" } : Jvm.MethodName)) ∈ lw_all := lw_g (lw_at lw_m9 121 rfl) rfl
theorem q2124 : (Jvm.Cond.code ({ cls := "TrackArrayModel", name := "measureRecord", desc := "(IIII)J" } : Jvm.MethodName) prog_25_method_62_code (5 : Nat) (Option.some Jvm.ClassFile.FieldType.long)) ∈ lw_all := lw_g (lw_at lw_m9 122 rfl) rfl
theorem q2125 : (Jvm.Cond.methodLink "TrackArrayModel" (200 : Nat) ({ cls := "TrackArrayModel", name := "isWindow", desc := "(II)Z" } : Jvm.MethodName)) ∈ lw_all := lw_g (lw_at lw_m9 123 rfl) rfl
theorem q2126 : (Jvm.Cond.static ({ cls := "TrackArrayModel", name := "isWindow", desc := "(II)Z" } : Jvm.MethodName)) ∈ lw_all := lw_g (lw_at lw_m9 124 rfl) rfl
theorem q2127 : (Jvm.Cond.code ({ cls := "TrackArrayModel", name := "isWindow", desc := "(II)Z" } : Jvm.MethodName) prog_25_method_8_code (2 : Nat) (Option.some Jvm.ClassFile.FieldType.boolean)) ∈ lw_all := lw_g (lw_at lw_m9 125 rfl) rfl
theorem q2128 : (Jvm.Cond.methodLink "TrackArrayModel" (204 : Nat) ({ cls := "TrackArrayModel", name := "layRecord", desc := "(I)V" } : Jvm.MethodName)) ∈ lw_all := lw_g (lw_at lw_m9 126 rfl) rfl
theorem q2129 : (Jvm.Cond.privateMethod ({ cls := "TrackArrayModel", name := "layRecord", desc := "(I)V" } : Jvm.MethodName)) ∈ lw_tbl := lw_at lw_m9 127 rfl
theorem q2130 : (Jvm.Cond.instanceMethod ({ cls := "TrackArrayModel", name := "layRecord", desc := "(I)V" } : Jvm.MethodName)) ∈ lw_all := lw_g (lw_at lw_m9 128 rfl) rfl
theorem q2131 : (Jvm.Cond.code ({ cls := "TrackArrayModel", name := "layRecord", desc := "(I)V" } : Jvm.MethodName) prog_25_method_54_code (3 : Nat) (Option.none : Option Jvm.ClassFile.FieldType)) ∈ lw_all := lw_g (lw_at lw_m9 129 rfl) rfl
theorem q2132 : (Jvm.Cond.methodLink "TrackArrayModel" (207 : Nat) ({ cls := "TrackArrayModel", name := "measureOf", desc := "(III)J" } : Jvm.MethodName)) ∈ lw_all := lw_g (lw_at lw_m9 130 rfl) rfl
theorem q2133 : (Jvm.Cond.privateMethod ({ cls := "TrackArrayModel", name := "measureOf", desc := "(III)J" } : Jvm.MethodName)) ∈ lw_tbl := lw_at lw_m9 131 rfl
theorem q2134 : (Jvm.Cond.instanceMethod ({ cls := "TrackArrayModel", name := "measureOf", desc := "(III)J" } : Jvm.MethodName)) ∈ lw_all := lw_g (lw_at lw_m9 132 rfl) rfl
theorem q2135 : (Jvm.Cond.code ({ cls := "TrackArrayModel", name := "measureOf", desc := "(III)J" } : Jvm.MethodName) prog_25_method_61_code (4 : Nat) (Option.some Jvm.ClassFile.FieldType.long)) ∈ lw_all := lw_g (lw_at lw_m9 133 rfl) rfl
theorem q2136 : (Jvm.Cond.methodLink "TrackArrayModel" (184 : Nat) ({ cls := "TrackArrayModel", name := "energyOf", desc := "(II)J" } : Jvm.MethodName)) ∈ lw_all := lw_g (lw_at lw_m9 134 rfl) rfl
theorem q2137 : (Jvm.Cond.privateMethod ({ cls := "TrackArrayModel", name := "energyOf", desc := "(II)J" } : Jvm.MethodName)) ∈ lw_tbl := lw_at lw_m9 135 rfl
theorem q2138 : (Jvm.Cond.instanceMethod ({ cls := "TrackArrayModel", name := "energyOf", desc := "(II)J" } : Jvm.MethodName)) ∈ lw_all := lw_g (lw_at lw_m9 136 rfl) rfl
theorem q2139 : (Jvm.Cond.code ({ cls := "TrackArrayModel", name := "energyOf", desc := "(II)J" } : Jvm.MethodName) prog_25_method_55_code (6 : Nat) (Option.some Jvm.ClassFile.FieldType.long)) ∈ lw_all := lw_g (lw_at lw_m9 137 rfl) rfl
theorem q2140 : (Jvm.Cond.methodLink "TrackArrayModel" (188 : Nat) ({ cls := "TrackArrayModel", name := "peakOf", desc := "(II)I" } : Jvm.MethodName)) ∈ lw_all := lw_g (lw_at lw_m9 138 rfl) rfl
theorem q2141 : (Jvm.Cond.privateMethod ({ cls := "TrackArrayModel", name := "peakOf", desc := "(II)I" } : Jvm.MethodName)) ∈ lw_tbl := lw_at lw_m9 139 rfl
theorem q2142 : (Jvm.Cond.instanceMethod ({ cls := "TrackArrayModel", name := "peakOf", desc := "(II)I" } : Jvm.MethodName)) ∈ lw_all := lw_g (lw_at lw_m9 140 rfl) rfl
theorem q2143 : (Jvm.Cond.code ({ cls := "TrackArrayModel", name := "peakOf", desc := "(II)I" } : Jvm.MethodName) prog_25_method_56_code (5 : Nat) (Option.some Jvm.ClassFile.FieldType.int)) ∈ lw_all := lw_g (lw_at lw_m9 141 rfl) rfl
theorem q2144 : (Jvm.Cond.methodLink "TrackArrayModel" (178 : Nat) ({ cls := "java/lang/Math", name := "max", desc := "(II)I" } : Jvm.MethodName)) ∈ lw_all := lw_g (lw_at lw_m9 142 rfl) rfl
theorem q2145 : (Jvm.Cond.methodLink "TrackArrayModel" (191 : Nat) ({ cls := "TrackArrayModel", name := "digitsOf", desc := "(J)I" } : Jvm.MethodName)) ∈ lw_all := lw_g (lw_at lw_m9 143 rfl) rfl
theorem q2146 : (Jvm.Cond.static ({ cls := "TrackArrayModel", name := "digitsOf", desc := "(J)I" } : Jvm.MethodName)) ∈ lw_all := lw_g (lw_at lw_m9 144 rfl) rfl
theorem q2147 : (Jvm.Cond.code ({ cls := "TrackArrayModel", name := "digitsOf", desc := "(J)I" } : Jvm.MethodName) prog_25_method_57_code (5 : Nat) (Option.some Jvm.ClassFile.FieldType.int)) ∈ lw_all := lw_g (lw_at lw_m9 145 rfl) rfl
theorem q2148 : (Jvm.Cond.methodLink "TrackArrayModel" (194 : Nat) ({ cls := "TrackArrayModel", name := "sumOf", desc := "(II)J" } : Jvm.MethodName)) ∈ lw_all := lw_g (lw_at lw_m9 146 rfl) rfl
theorem q2149 : (Jvm.Cond.privateMethod ({ cls := "TrackArrayModel", name := "sumOf", desc := "(II)J" } : Jvm.MethodName)) ∈ lw_tbl := lw_at lw_m9 147 rfl
theorem q2150 : (Jvm.Cond.instanceMethod ({ cls := "TrackArrayModel", name := "sumOf", desc := "(II)J" } : Jvm.MethodName)) ∈ lw_all := lw_g (lw_at lw_m9 148 rfl) rfl
theorem q2151 : (Jvm.Cond.code ({ cls := "TrackArrayModel", name := "sumOf", desc := "(II)J" } : Jvm.MethodName) prog_25_method_59_code (6 : Nat) (Option.some Jvm.ClassFile.FieldType.long)) ∈ lw_all := lw_g (lw_at lw_m9 149 rfl) rfl
theorem q2152 : (Jvm.Cond.methodLink "TrackArrayModel" (197 : Nat) ({ cls := "TrackArrayModel", name := "crossingsOf", desc := "(II)I" } : Jvm.MethodName)) ∈ lw_all := lw_g (lw_at lw_m9 150 rfl) rfl
theorem q2153 : (Jvm.Cond.privateMethod ({ cls := "TrackArrayModel", name := "crossingsOf", desc := "(II)I" } : Jvm.MethodName)) ∈ lw_tbl := lw_at lw_m9 151 rfl
theorem q2154 : (Jvm.Cond.instanceMethod ({ cls := "TrackArrayModel", name := "crossingsOf", desc := "(II)I" } : Jvm.MethodName)) ∈ lw_all := lw_g (lw_at lw_m9 152 rfl) rfl
theorem q2155 : (Jvm.Cond.code ({ cls := "TrackArrayModel", name := "crossingsOf", desc := "(II)I" } : Jvm.MethodName) prog_25_method_60_code (5 : Nat) (Option.some Jvm.ClassFile.FieldType.int)) ∈ lw_all := lw_g (lw_at lw_m9 153 rfl) rfl
theorem q2156 : (Jvm.Cond.methodLink "TrackArrayModel" (181 : Nat) ({ cls := "TrackArrayModel", name := "signOf", desc := "(I)I" } : Jvm.MethodName)) ∈ lw_all := lw_g (lw_at lw_m9 154 rfl) rfl
theorem q2157 : (Jvm.Cond.static ({ cls := "TrackArrayModel", name := "signOf", desc := "(I)I" } : Jvm.MethodName)) ∈ lw_all := lw_g (lw_at lw_m9 155 rfl) rfl
theorem q2158 : (Jvm.Cond.code ({ cls := "TrackArrayModel", name := "signOf", desc := "(I)I" } : Jvm.MethodName) prog_25_method_58_code (1 : Nat) (Option.some Jvm.ClassFile.FieldType.int)) ∈ lw_all := lw_g (lw_at lw_m9 156 rfl) rfl
theorem q2160 : (Jvm.Cond.instanceMethod ({ cls := "TrackArrayModel", name := "loudestMicrophone", desc := "(II)I" } : Jvm.MethodName)) ∈ lw_all := lw_g (lw_at lw_m9 158 rfl) rfl
theorem q2161 : (Jvm.Cond.selects "TrackArrayModel" ({ cls := "TrackArrayModel", name := "loudestMicrophone", desc := "(II)I" } : Jvm.MethodName) ({ cls := "TrackArrayModel", name := "loudestMicrophone", desc := "(II)I" } : Jvm.MethodName)) ∈ lw_all := lw_g (lw_at lw_m9 159 rfl) rfl
theorem q2162 : (Jvm.Cond.code ({ cls := "TrackArrayModel", name := "loudestMicrophone", desc := "(II)I" } : Jvm.MethodName) prog_25_method_63_code (9 : Nat) (Option.some Jvm.ClassFile.FieldType.int)) ∈ lw_all := lw_g (lw_at lw_m9 160 rfl) rfl
theorem q2164 : (Jvm.Cond.instanceMethod ({ cls := "TrackArrayModel", name := "loudestWindow", desc := "(II)I" } : Jvm.MethodName)) ∈ lw_all := lw_g (lw_at lw_m9 162 rfl) rfl
theorem q2165 : (Jvm.Cond.selects "TrackArrayModel" ({ cls := "TrackArrayModel", name := "loudestWindow", desc := "(II)I" } : Jvm.MethodName) ({ cls := "TrackArrayModel", name := "loudestWindow", desc := "(II)I" } : Jvm.MethodName)) ∈ lw_all := lw_g (lw_at lw_m9 163 rfl) rfl
theorem q2166 : (Jvm.Cond.code ({ cls := "TrackArrayModel", name := "loudestWindow", desc := "(II)I" } : Jvm.MethodName) prog_25_method_64_code (9 : Nat) (Option.some Jvm.ClassFile.FieldType.int)) ∈ lw_all := lw_g (lw_at lw_m9 164 rfl) rfl
theorem q2167 : (Jvm.Cond.constantLong "TrackArrayModel" (211 : Nat) (-1 : Int64)) ∈ lw_all := lw_g (lw_at lw_m9 165 rfl) rfl
theorem q2169 : (Jvm.Cond.instanceMethod ({ cls := "TrackArrayModel", name := "correlation", desc := "(III)J" } : Jvm.MethodName)) ∈ lw_all := lw_g (lw_at lw_m9 167 rfl) rfl
theorem q2170 : (Jvm.Cond.selects "TrackArrayModel" ({ cls := "TrackArrayModel", name := "correlation", desc := "(III)J" } : Jvm.MethodName) ({ cls := "TrackArrayModel", name := "correlation", desc := "(III)J" } : Jvm.MethodName)) ∈ lw_all := lw_g (lw_at lw_m9 168 rfl) rfl
theorem q2171 : (Jvm.Cond.code ({ cls := "TrackArrayModel", name := "correlation", desc := "(III)J" } : Jvm.MethodName) prog_25_method_66_code (4 : Nat) (Option.some Jvm.ClassFile.FieldType.long)) ∈ lw_all := lw_g (lw_at lw_m9 169 rfl) rfl
theorem q2172 : (Jvm.Cond.methodLink "TrackArrayModel" (213 : Nat) ({ cls := "TrackArrayModel", name := "correlationOf", desc := "(III)J" } : Jvm.MethodName)) ∈ lw_all := lw_g (lw_at lw_m9 170 rfl) rfl
theorem q2173 : (Jvm.Cond.privateMethod ({ cls := "TrackArrayModel", name := "correlationOf", desc := "(III)J" } : Jvm.MethodName)) ∈ lw_tbl := lw_at lw_m9 171 rfl
theorem q2174 : (Jvm.Cond.instanceMethod ({ cls := "TrackArrayModel", name := "correlationOf", desc := "(III)J" } : Jvm.MethodName)) ∈ lw_all := lw_g (lw_at lw_m9 172 rfl) rfl
theorem q2175 : (Jvm.Cond.code ({ cls := "TrackArrayModel", name := "correlationOf", desc := "(III)J" } : Jvm.MethodName) prog_25_method_65_code (7 : Nat) (Option.some Jvm.ClassFile.FieldType.long)) ∈ lw_all := lw_g (lw_at lw_m9 173 rfl) rfl
theorem q2177 : (Jvm.Cond.instanceMethod ({ cls := "TrackArrayModel", name := "bestLag", desc := "(III)I" } : Jvm.MethodName)) ∈ lw_all := lw_g (lw_at lw_m9 175 rfl) rfl
theorem q2178 : (Jvm.Cond.selects "TrackArrayModel" ({ cls := "TrackArrayModel", name := "bestLag", desc := "(III)I" } : Jvm.MethodName) ({ cls := "TrackArrayModel", name := "bestLag", desc := "(III)I" } : Jvm.MethodName)) ∈ lw_all := lw_g (lw_at lw_m9 176 rfl) rfl
theorem q2179 : (Jvm.Cond.code ({ cls := "TrackArrayModel", name := "bestLag", desc := "(III)I" } : Jvm.MethodName) prog_25_method_67_code (11 : Nat) (Option.some Jvm.ClassFile.FieldType.int)) ∈ lw_all := lw_g (lw_at lw_m9 177 rfl) rfl
theorem q2181 : (Jvm.Cond.instanceMethod ({ cls := "TrackArrayModel", name := "focusOnVehicle", desc := "(III)V" } : Jvm.MethodName)) ∈ lw_all := lw_g (lw_at lw_m9 179 rfl) rfl
theorem q2182 : (Jvm.Cond.selects "TrackArrayModel" ({ cls := "TrackArrayModel", name := "focusOnVehicle", desc := "(III)V" } : Jvm.MethodName) ({ cls := "TrackArrayModel", name := "focusOnVehicle", desc := "(III)V" } : Jvm.MethodName)) ∈ lw_all := lw_g (lw_at lw_m9 180 rfl) rfl
theorem q2183 : (Jvm.Cond.code ({ cls := "TrackArrayModel", name := "focusOnVehicle", desc := "(III)V" } : Jvm.MethodName) prog_25_method_69_code (4 : Nat) (Option.none : Option Jvm.ClassFile.FieldType)) ∈ lw_all := lw_g (lw_at lw_m9 181 rfl) rfl
theorem q2184 : (Jvm.Cond.methodLink "TrackArrayModel" (216 : Nat) ({ cls := "TrackArrayModel", name := "setFocus", desc := "(IIIII)V" } : Jvm.MethodName)) ∈ lw_all := lw_g (lw_at lw_m9 182 rfl) rfl
theorem q2185 : (Jvm.Cond.privateMethod ({ cls := "TrackArrayModel", name := "setFocus", desc := "(IIIII)V" } : Jvm.MethodName)) ∈ lw_tbl := lw_at lw_m9 183 rfl
theorem q2186 : (Jvm.Cond.instanceMethod ({ cls := "TrackArrayModel", name := "setFocus", desc := "(IIIII)V" } : Jvm.MethodName)) ∈ lw_all := lw_g (lw_at lw_m9 184 rfl) rfl
theorem q2187 : (Jvm.Cond.code ({ cls := "TrackArrayModel", name := "setFocus", desc := "(IIIII)V" } : Jvm.MethodName) prog_25_method_68_code (6 : Nat) (Option.none : Option Jvm.ClassFile.FieldType)) ∈ lw_all := lw_g (lw_at lw_m9 185 rfl) rfl
theorem q2189 : (Jvm.Cond.instanceMethod ({ cls := "TrackArrayModel", name := "focusOnPlace", desc := "(III)V" } : Jvm.MethodName)) ∈ lw_all := lw_g (lw_at lw_m9 187 rfl) rfl
theorem q2190 : (Jvm.Cond.selects "TrackArrayModel" ({ cls := "TrackArrayModel", name := "focusOnPlace", desc := "(III)V" } : Jvm.MethodName) ({ cls := "TrackArrayModel", name := "focusOnPlace", desc := "(III)V" } : Jvm.MethodName)) ∈ lw_all := lw_g (lw_at lw_m9 188 rfl) rfl
theorem q2191 : (Jvm.Cond.code ({ cls := "TrackArrayModel", name := "focusOnPlace", desc := "(III)V" } : Jvm.MethodName) prog_25_method_70_code (4 : Nat) (Option.none : Option Jvm.ClassFile.FieldType)) ∈ lw_all := lw_g (lw_at lw_m9 189 rfl) rfl
theorem q2193 : (Jvm.Cond.instanceMethod ({ cls := "TrackArrayModel", name := "focusOnDirection", desc := "(I)V" } : Jvm.MethodName)) ∈ lw_all := lw_g (lw_at lw_m9 191 rfl) rfl
theorem q2194 : (Jvm.Cond.selects "TrackArrayModel" ({ cls := "TrackArrayModel", name := "focusOnDirection", desc := "(I)V" } : Jvm.MethodName) ({ cls := "TrackArrayModel", name := "focusOnDirection", desc := "(I)V" } : Jvm.MethodName)) ∈ lw_all := lw_g (lw_at lw_m9 192 rfl) rfl
theorem q2195 : (Jvm.Cond.code ({ cls := "TrackArrayModel", name := "focusOnDirection", desc := "(I)V" } : Jvm.MethodName) prog_25_method_71_code (2 : Nat) (Option.none : Option Jvm.ClassFile.FieldType)) ∈ lw_all := lw_g (lw_at lw_m9 193 rfl) rfl
theorem q2197 : (Jvm.Cond.instanceMethod ({ cls := "TrackArrayModel", name := "setCut", desc := "(Z)Z" } : Jvm.MethodName)) ∈ lw_all := lw_g (lw_at lw_m9 195 rfl) rfl
theorem q2198 : (Jvm.Cond.selects "TrackArrayModel" ({ cls := "TrackArrayModel", name := "setCut", desc := "(Z)Z" } : Jvm.MethodName) ({ cls := "TrackArrayModel", name := "setCut", desc := "(Z)Z" } : Jvm.MethodName)) ∈ lw_all := lw_g (lw_at lw_m9 196 rfl) rfl
theorem q2199 : (Jvm.Cond.code ({ cls := "TrackArrayModel", name := "setCut", desc := "(Z)Z" } : Jvm.MethodName) prog_25_method_72_code (2 : Nat) (Option.some Jvm.ClassFile.FieldType.boolean)) ∈ lw_all := lw_g (lw_at lw_m9 197 rfl) rfl
theorem q2201 : (Jvm.Cond.instanceMethod ({ cls := "TrackArrayModel", name := "sampleNumber", desc := "(II)I" } : Jvm.MethodName)) ∈ lw_all := lw_g (lw_at lw_m9 199 rfl) rfl
theorem q2202 : (Jvm.Cond.selects "TrackArrayModel" ({ cls := "TrackArrayModel", name := "sampleNumber", desc := "(II)I" } : Jvm.MethodName) ({ cls := "TrackArrayModel", name := "sampleNumber", desc := "(II)I" } : Jvm.MethodName)) ∈ lw_all := lw_g (lw_at lw_m9 200 rfl) rfl
theorem q2203 : (Jvm.Cond.code ({ cls := "TrackArrayModel", name := "sampleNumber", desc := "(II)I" } : Jvm.MethodName) prog_25_method_79_code (3 : Nat) (Option.some Jvm.ClassFile.FieldType.int)) ∈ lw_all := lw_g (lw_at lw_m9 201 rfl) rfl
theorem q2204 : (Jvm.Cond.methodLink "TrackArrayModel" (238 : Nat) ({ cls := "TrackArrayModel", name := "shiftOf", desc := "(II)I" } : Jvm.MethodName)) ∈ lw_all := lw_g (lw_at lw_m9 202 rfl) rfl
theorem q2205 : (Jvm.Cond.privateMethod ({ cls := "TrackArrayModel", name := "shiftOf", desc := "(II)I" } : Jvm.MethodName)) ∈ lw_tbl := lw_at lw_m9 203 rfl
theorem q2206 : (Jvm.Cond.instanceMethod ({ cls := "TrackArrayModel", name := "shiftOf", desc := "(II)I" } : Jvm.MethodName)) ∈ lw_all := lw_g (lw_at lw_m9 204 rfl) rfl
theorem q2207 : (Jvm.Cond.code ({ cls := "TrackArrayModel", name := "shiftOf", desc := "(II)I" } : Jvm.MethodName) prog_25_method_74_code (3 : Nat) (Option.some Jvm.ClassFile.FieldType.int)) ∈ lw_all := lw_g (lw_at lw_m9 205 rfl) rfl
theorem q2208 : (Jvm.Cond.methodLink "TrackArrayModel" (219 : Nat) ({ cls := "java/lang/Math", name := "floorDiv", desc := "(II)I" } : Jvm.MethodName)) ∈ lw_all := lw_g (lw_at lw_m9 206 rfl) rfl
theorem q2209 : (Jvm.Cond.methodLink "TrackArrayModel" (229 : Nat) ({ cls := "TrackArrayModel", name := "layFocus", desc := "(II)V" } : Jvm.MethodName)) ∈ lw_all := lw_g (lw_at lw_m9 207 rfl) rfl
theorem q2210 : (Jvm.Cond.privateMethod ({ cls := "TrackArrayModel", name := "layFocus", desc := "(II)V" } : Jvm.MethodName)) ∈ lw_tbl := lw_at lw_m9 208 rfl
theorem q2211 : (Jvm.Cond.instanceMethod ({ cls := "TrackArrayModel", name := "layFocus", desc := "(II)V" } : Jvm.MethodName)) ∈ lw_all := lw_g (lw_at lw_m9 209 rfl) rfl
theorem q2212 : (Jvm.Cond.code ({ cls := "TrackArrayModel", name := "layFocus", desc := "(II)V" } : Jvm.MethodName) prog_25_method_73_code (6 : Nat) (Option.none : Option Jvm.ClassFile.FieldType)) ∈ lw_all := lw_g (lw_at lw_m9 210 rfl) rfl
theorem q2213 : (Jvm.Cond.methodLink "TrackArrayModel" (232 : Nat) ({ cls := "TrackArrayModel", name := "firstSample", desc := "(I)I" } : Jvm.MethodName)) ∈ lw_all := lw_g (lw_at lw_m9 211 rfl) rfl
theorem q2214 : (Jvm.Cond.privateMethod ({ cls := "TrackArrayModel", name := "firstSample", desc := "(I)I" } : Jvm.MethodName)) ∈ lw_tbl := lw_at lw_m9 212 rfl
theorem q2215 : (Jvm.Cond.instanceMethod ({ cls := "TrackArrayModel", name := "firstSample", desc := "(I)I" } : Jvm.MethodName)) ∈ lw_all := lw_g (lw_at lw_m9 213 rfl) rfl
theorem q2216 : (Jvm.Cond.code ({ cls := "TrackArrayModel", name := "firstSample", desc := "(I)I" } : Jvm.MethodName) prog_25_method_75_code (2 : Nat) (Option.some Jvm.ClassFile.FieldType.int)) ∈ lw_all := lw_g (lw_at lw_m9 214 rfl) rfl
theorem q2218 : (Jvm.Cond.instanceMethod ({ cls := "TrackArrayModel", name := "part", desc := "(II)I" } : Jvm.MethodName)) ∈ lw_all := lw_g (lw_at lw_m9 216 rfl) rfl
theorem q2219 : (Jvm.Cond.selects "TrackArrayModel" ({ cls := "TrackArrayModel", name := "part", desc := "(II)I" } : Jvm.MethodName) ({ cls := "TrackArrayModel", name := "part", desc := "(II)I" } : Jvm.MethodName)) ∈ lw_all := lw_g (lw_at lw_m9 217 rfl) rfl
theorem q2220 : (Jvm.Cond.code ({ cls := "TrackArrayModel", name := "part", desc := "(II)I" } : Jvm.MethodName) prog_25_method_80_code (3 : Nat) (Option.some Jvm.ClassFile.FieldType.int)) ∈ lw_all := lw_g (lw_at lw_m9 218 rfl) rfl
theorem q2221 : (Jvm.Cond.methodLink "TrackArrayModel" (241 : Nat) ({ cls := "TrackArrayModel", name := "layParts", desc := "(II)V" } : Jvm.MethodName)) ∈ lw_all := lw_g (lw_at lw_m9 219 rfl) rfl
theorem q2222 : (Jvm.Cond.privateMethod ({ cls := "TrackArrayModel", name := "layParts", desc := "(II)V" } : Jvm.MethodName)) ∈ lw_tbl := lw_at lw_m9 220 rfl
theorem q2223 : (Jvm.Cond.instanceMethod ({ cls := "TrackArrayModel", name := "layParts", desc := "(II)V" } : Jvm.MethodName)) ∈ lw_all := lw_g (lw_at lw_m9 221 rfl) rfl
theorem q2224 : (Jvm.Cond.code ({ cls := "TrackArrayModel", name := "layParts", desc := "(II)V" } : Jvm.MethodName) prog_25_method_77_code (5 : Nat) (Option.none : Option Jvm.ClassFile.FieldType)) ∈ lw_all := lw_g (lw_at lw_m9 222 rfl) rfl
theorem q2225 : (Jvm.Cond.methodLink "TrackArrayModel" (226 : Nat) ({ cls := "TrackArrayModel", name := "layDirectedParts", desc := "(II)V" } : Jvm.MethodName)) ∈ lw_all := lw_g (lw_at lw_m9 223 rfl) rfl
theorem q2226 : (Jvm.Cond.privateMethod ({ cls := "TrackArrayModel", name := "layDirectedParts", desc := "(II)V" } : Jvm.MethodName)) ∈ lw_tbl := lw_at lw_m9 224 rfl
theorem q2227 : (Jvm.Cond.instanceMethod ({ cls := "TrackArrayModel", name := "layDirectedParts", desc := "(II)V" } : Jvm.MethodName)) ∈ lw_all := lw_g (lw_at lw_m9 225 rfl) rfl
theorem q2228 : (Jvm.Cond.code ({ cls := "TrackArrayModel", name := "layDirectedParts", desc := "(II)V" } : Jvm.MethodName) prog_25_method_78_code (5 : Nat) (Option.none : Option Jvm.ClassFile.FieldType)) ∈ lw_all := lw_g (lw_at lw_m9 226 rfl) rfl
theorem q2229 : (Jvm.Cond.methodLink "TrackArrayModel" (235 : Nat) ({ cls := "TrackArrayModel", name := "reflectedPart", desc := "(II)I" } : Jvm.MethodName)) ∈ lw_all := lw_g (lw_at lw_m9 227 rfl) rfl
theorem q2230 : (Jvm.Cond.privateMethod ({ cls := "TrackArrayModel", name := "reflectedPart", desc := "(II)I" } : Jvm.MethodName)) ∈ lw_tbl := lw_at lw_m9 228 rfl
theorem q2231 : (Jvm.Cond.instanceMethod ({ cls := "TrackArrayModel", name := "reflectedPart", desc := "(II)I" } : Jvm.MethodName)) ∈ lw_all := lw_g (lw_at lw_m9 229 rfl) rfl
theorem q2232 : (Jvm.Cond.code ({ cls := "TrackArrayModel", name := "reflectedPart", desc := "(II)I" } : Jvm.MethodName) prog_25_method_76_code (6 : Nat) (Option.some Jvm.ClassFile.FieldType.int)) ∈ lw_all := lw_g (lw_at lw_m9 230 rfl) rfl
theorem q2233 : (Jvm.Cond.constantLong "TrackArrayModel" (222 : Nat) (1000 : Int64)) ∈ lw_all := lw_g (lw_at lw_m9 231 rfl) rfl
theorem q2234 : (Jvm.Cond.constantLong "TrackArrayModel" (224 : Nat) (100 : Int64)) ∈ lw_all := lw_g (lw_at lw_m9 232 rfl) rfl
theorem q2236 : (Jvm.Cond.instanceMethod ({ cls := "TrackArrayModel", name := "beam", desc := "(I)I" } : Jvm.MethodName)) ∈ lw_all := lw_g (lw_at lw_m9 234 rfl) rfl
theorem q2237 : (Jvm.Cond.selects "TrackArrayModel" ({ cls := "TrackArrayModel", name := "beam", desc := "(I)I" } : Jvm.MethodName) ({ cls := "TrackArrayModel", name := "beam", desc := "(I)I" } : Jvm.MethodName)) ∈ lw_all := lw_g (lw_at lw_m9 235 rfl) rfl
theorem q2238 : (Jvm.Cond.code ({ cls := "TrackArrayModel", name := "beam", desc := "(I)I" } : Jvm.MethodName) prog_25_method_85_code (2 : Nat) (Option.some Jvm.ClassFile.FieldType.int)) ∈ lw_all := lw_g (lw_at lw_m9 236 rfl) rfl
theorem q2239 : (Jvm.Cond.methodLink "TrackArrayModel" (250 : Nat) ({ cls := "TrackArrayModel", name := "layBeam", desc := "(I)V" } : Jvm.MethodName)) ∈ lw_all := lw_g (lw_at lw_m9 237 rfl) rfl
theorem q2240 : (Jvm.Cond.privateMethod ({ cls := "TrackArrayModel", name := "layBeam", desc := "(I)V" } : Jvm.MethodName)) ∈ lw_tbl := lw_at lw_m9 238 rfl
theorem q2241 : (Jvm.Cond.instanceMethod ({ cls := "TrackArrayModel", name := "layBeam", desc := "(I)V" } : Jvm.MethodName)) ∈ lw_all := lw_g (lw_at lw_m9 239 rfl) rfl
theorem q2242 : (Jvm.Cond.code ({ cls := "TrackArrayModel", name := "layBeam", desc := "(I)V" } : Jvm.MethodName) prog_25_method_83_code (3 : Nat) (Option.none : Option Jvm.ClassFile.FieldType)) ∈ lw_all := lw_g (lw_at lw_m10 0 rfl) rfl
theorem q2243 : (Jvm.Cond.methodLink "TrackArrayModel" (244 : Nat) ({ cls := "TrackArrayModel", name := "clearSignal", desc := "()V" } : Jvm.MethodName)) ∈ lw_all := lw_g (lw_at lw_m10 1 rfl) rfl
theorem q2244 : (Jvm.Cond.privateMethod ({ cls := "TrackArrayModel", name := "clearSignal", desc := "()V" } : Jvm.MethodName)) ∈ lw_tbl := lw_at lw_m10 2 rfl
theorem q2245 : (Jvm.Cond.instanceMethod ({ cls := "TrackArrayModel", name := "clearSignal", desc := "()V" } : Jvm.MethodName)) ∈ lw_all := lw_g (lw_at lw_m10 3 rfl) rfl
theorem q2246 : (Jvm.Cond.code ({ cls := "TrackArrayModel", name := "clearSignal", desc := "()V" } : Jvm.MethodName) prog_25_method_82_code (2 : Nat) (Option.none : Option Jvm.ClassFile.FieldType)) ∈ lw_all := lw_g (lw_at lw_m10 4 rfl) rfl
theorem q2247 : (Jvm.Cond.methodLink "TrackArrayModel" (247 : Nat) ({ cls := "TrackArrayModel", name := "addParts", desc := "(I)V" } : Jvm.MethodName)) ∈ lw_all := lw_g (lw_at lw_m10 5 rfl) rfl
theorem q2248 : (Jvm.Cond.privateMethod ({ cls := "TrackArrayModel", name := "addParts", desc := "(I)V" } : Jvm.MethodName)) ∈ lw_tbl := lw_at lw_m10 6 rfl
theorem q2249 : (Jvm.Cond.instanceMethod ({ cls := "TrackArrayModel", name := "addParts", desc := "(I)V" } : Jvm.MethodName)) ∈ lw_all := lw_g (lw_at lw_m10 7 rfl) rfl
theorem q2250 : (Jvm.Cond.code ({ cls := "TrackArrayModel", name := "addParts", desc := "(I)V" } : Jvm.MethodName) prog_25_method_81_code (3 : Nat) (Option.none : Option Jvm.ClassFile.FieldType)) ∈ lw_all := lw_g (lw_at lw_m10 8 rfl) rfl
theorem q2252 : (Jvm.Cond.instanceMethod ({ cls := "TrackArrayModel", name := "measureBeam", desc := "(III)J" } : Jvm.MethodName)) ∈ lw_all := lw_g (lw_at lw_m10 10 rfl) rfl
theorem q2253 : (Jvm.Cond.selects "TrackArrayModel" ({ cls := "TrackArrayModel", name := "measureBeam", desc := "(III)J" } : Jvm.MethodName) ({ cls := "TrackArrayModel", name := "measureBeam", desc := "(III)J" } : Jvm.MethodName)) ∈ lw_all := lw_g (lw_at lw_m10 11 rfl) rfl
theorem q2254 : (Jvm.Cond.code ({ cls := "TrackArrayModel", name := "measureBeam", desc := "(III)J" } : Jvm.MethodName) prog_25_method_86_code (4 : Nat) (Option.some Jvm.ClassFile.FieldType.long)) ∈ lw_all := lw_g (lw_at lw_m10 12 rfl) rfl
theorem q2256 : (Jvm.Cond.instanceMethod ({ cls := "TrackArrayModel", name := "periodPower", desc := "(III)J" } : Jvm.MethodName)) ∈ lw_all := lw_g (lw_at lw_m10 14 rfl) rfl
theorem q2257 : (Jvm.Cond.selects "TrackArrayModel" ({ cls := "TrackArrayModel", name := "periodPower", desc := "(III)J" } : Jvm.MethodName) ({ cls := "TrackArrayModel", name := "periodPower", desc := "(III)J" } : Jvm.MethodName)) ∈ lw_all := lw_g (lw_at lw_m10 15 rfl) rfl
theorem q2258 : (Jvm.Cond.code ({ cls := "TrackArrayModel", name := "periodPower", desc := "(III)J" } : Jvm.MethodName) prog_25_method_90_code (4 : Nat) (Option.some Jvm.ClassFile.FieldType.long)) ∈ lw_all := lw_g (lw_at lw_m10 16 rfl) rfl
theorem q2259 : (Jvm.Cond.methodLink "TrackArrayModel" (256 : Nat) ({ cls := "TrackArrayModel", name := "isPeriod", desc := "(I)Z" } : Jvm.MethodName)) ∈ lw_all := lw_g (lw_at lw_m10 17 rfl) rfl
theorem q2260 : (Jvm.Cond.static ({ cls := "TrackArrayModel", name := "isPeriod", desc := "(I)Z" } : Jvm.MethodName)) ∈ lw_all := lw_g (lw_at lw_m10 18 rfl) rfl
theorem q2261 : (Jvm.Cond.code ({ cls := "TrackArrayModel", name := "isPeriod", desc := "(I)Z" } : Jvm.MethodName) prog_25_method_89_code (1 : Nat) (Option.some Jvm.ClassFile.FieldType.boolean)) ∈ lw_all := lw_g (lw_at lw_m10 19 rfl) rfl
theorem q2262 : (Jvm.Cond.methodLink "TrackArrayModel" (253 : Nat) ({ cls := "TrackArrayModel", name := "powerOf", desc := "(III)J" } : Jvm.MethodName)) ∈ lw_all := lw_g (lw_at lw_m10 20 rfl) rfl
theorem q2263 : (Jvm.Cond.privateMethod ({ cls := "TrackArrayModel", name := "powerOf", desc := "(III)J" } : Jvm.MethodName)) ∈ lw_tbl := lw_at lw_m10 21 rfl
theorem q2264 : (Jvm.Cond.instanceMethod ({ cls := "TrackArrayModel", name := "powerOf", desc := "(III)J" } : Jvm.MethodName)) ∈ lw_all := lw_g (lw_at lw_m10 22 rfl) rfl
theorem q2265 : (Jvm.Cond.code ({ cls := "TrackArrayModel", name := "powerOf", desc := "(III)J" } : Jvm.MethodName) prog_25_method_87_code (7 : Nat) (Option.some Jvm.ClassFile.FieldType.long)) ∈ lw_all := lw_g (lw_at lw_m10 23 rfl) rfl
theorem q2267 : (Jvm.Cond.instanceMethod ({ cls := "TrackArrayModel", name := "bestPeriod", desc := "(III)I" } : Jvm.MethodName)) ∈ lw_all := lw_g (lw_at lw_m10 25 rfl) rfl
theorem q2268 : (Jvm.Cond.selects "TrackArrayModel" ({ cls := "TrackArrayModel", name := "bestPeriod", desc := "(III)I" } : Jvm.MethodName) ({ cls := "TrackArrayModel", name := "bestPeriod", desc := "(III)I" } : Jvm.MethodName)) ∈ lw_all := lw_g (lw_at lw_m10 26 rfl) rfl
theorem q2269 : (Jvm.Cond.code ({ cls := "TrackArrayModel", name := "bestPeriod", desc := "(III)I" } : Jvm.MethodName) prog_25_method_91_code (6 : Nat) (Option.some Jvm.ClassFile.FieldType.int)) ∈ lw_all := lw_g (lw_at lw_m10 27 rfl) rfl
theorem q2270 : (Jvm.Cond.methodLink "TrackArrayModel" (259 : Nat) ({ cls := "TrackArrayModel", name := "strengthOf", desc := "(III)J" } : Jvm.MethodName)) ∈ lw_all := lw_g (lw_at lw_m10 28 rfl) rfl
theorem q2271 : (Jvm.Cond.privateMethod ({ cls := "TrackArrayModel", name := "strengthOf", desc := "(III)J" } : Jvm.MethodName)) ∈ lw_tbl := lw_at lw_m10 29 rfl
theorem q2272 : (Jvm.Cond.instanceMethod ({ cls := "TrackArrayModel", name := "strengthOf", desc := "(III)J" } : Jvm.MethodName)) ∈ lw_all := lw_g (lw_at lw_m10 30 rfl) rfl
theorem q2273 : (Jvm.Cond.code ({ cls := "TrackArrayModel", name := "strengthOf", desc := "(III)J" } : Jvm.MethodName) prog_25_method_88_code (4 : Nat) (Option.some Jvm.ClassFile.FieldType.long)) ∈ lw_all := lw_g (lw_at lw_m10 31 rfl) rfl
theorem q2275 : (Jvm.Cond.instanceMethod ({ cls := "TrackArrayModel", name := "energyBeside", desc := "(III)J" } : Jvm.MethodName)) ∈ lw_all := lw_g (lw_at lw_m10 33 rfl) rfl
theorem q2276 : (Jvm.Cond.selects "TrackArrayModel" ({ cls := "TrackArrayModel", name := "energyBeside", desc := "(III)J" } : Jvm.MethodName) ({ cls := "TrackArrayModel", name := "energyBeside", desc := "(III)J" } : Jvm.MethodName)) ∈ lw_all := lw_g (lw_at lw_m10 34 rfl) rfl
theorem q2277 : (Jvm.Cond.code ({ cls := "TrackArrayModel", name := "energyBeside", desc := "(III)J" } : Jvm.MethodName) prog_25_method_93_code (4 : Nat) (Option.some Jvm.ClassFile.FieldType.long)) ∈ lw_all := lw_g (lw_at lw_m10 35 rfl) rfl
theorem q2278 : (Jvm.Cond.methodLink "TrackArrayModel" (262 : Nat) ({ cls := "TrackArrayModel", name := "energyWith", desc := "(III)J" } : Jvm.MethodName)) ∈ lw_all := lw_g (lw_at lw_m10 36 rfl) rfl
theorem q2279 : (Jvm.Cond.privateMethod ({ cls := "TrackArrayModel", name := "energyWith", desc := "(III)J" } : Jvm.MethodName)) ∈ lw_tbl := lw_at lw_m10 37 rfl
theorem q2280 : (Jvm.Cond.instanceMethod ({ cls := "TrackArrayModel", name := "energyWith", desc := "(III)J" } : Jvm.MethodName)) ∈ lw_all := lw_g (lw_at lw_m10 38 rfl) rfl
theorem q2281 : (Jvm.Cond.code ({ cls := "TrackArrayModel", name := "energyWith", desc := "(III)J" } : Jvm.MethodName) prog_25_method_92_code (4 : Nat) (Option.some Jvm.ClassFile.FieldType.long)) ∈ lw_all := lw_g (lw_at lw_m10 39 rfl) rfl
theorem q2283 : (Jvm.Cond.instanceMethod ({ cls := "TrackArrayModel", name := "scan", desc := "(IIII)I" } : Jvm.MethodName)) ∈ lw_all := lw_g (lw_at lw_m10 41 rfl) rfl
theorem q2284 : (Jvm.Cond.selects "TrackArrayModel" ({ cls := "TrackArrayModel", name := "scan", desc := "(IIII)I" } : Jvm.MethodName) ({ cls := "TrackArrayModel", name := "scan", desc := "(IIII)I" } : Jvm.MethodName)) ∈ lw_all := lw_g (lw_at lw_m10 42 rfl) rfl
theorem q2285 : (Jvm.Cond.code ({ cls := "TrackArrayModel", name := "scan", desc := "(IIII)I" } : Jvm.MethodName) prog_25_method_94_code (12 : Nat) (Option.some Jvm.ClassFile.FieldType.int)) ∈ lw_all := lw_g (lw_at lw_m10 43 rfl) rfl
theorem q2287 : (Jvm.Cond.instanceMethod ({ cls := "TrackArrayModel", name := "bestDirection", desc := "(III)I" } : Jvm.MethodName)) ∈ lw_all := lw_g (lw_at lw_m10 45 rfl) rfl
theorem q2288 : (Jvm.Cond.selects "TrackArrayModel" ({ cls := "TrackArrayModel", name := "bestDirection", desc := "(III)I" } : Jvm.MethodName) ({ cls := "TrackArrayModel", name := "bestDirection", desc := "(III)I" } : Jvm.MethodName)) ∈ lw_all := lw_g (lw_at lw_m10 46 rfl) rfl
theorem q2289 : (Jvm.Cond.code ({ cls := "TrackArrayModel", name := "bestDirection", desc := "(III)I" } : Jvm.MethodName) prog_25_method_95_code (10 : Nat) (Option.some Jvm.ClassFile.FieldType.int)) ∈ lw_all := lw_g (lw_at lw_m10 47 rfl) rfl
theorem q2290 : (Jvm.Cond.methodLink "TrackArrayModel" (265 : Nat) ({ cls := "TrackArrayModel", name := "layDirectedBeam", desc := "(I)V" } : Jvm.MethodName)) ∈ lw_all := lw_g (lw_at lw_m10 48 rfl) rfl
theorem q2291 : (Jvm.Cond.privateMethod ({ cls := "TrackArrayModel", name := "layDirectedBeam", desc := "(I)V" } : Jvm.MethodName)) ∈ lw_tbl := lw_at lw_m10 49 rfl
theorem q2292 : (Jvm.Cond.instanceMethod ({ cls := "TrackArrayModel", name := "layDirectedBeam", desc := "(I)V" } : Jvm.MethodName)) ∈ lw_all := lw_g (lw_at lw_m10 50 rfl) rfl
theorem q2293 : (Jvm.Cond.code ({ cls := "TrackArrayModel", name := "layDirectedBeam", desc := "(I)V" } : Jvm.MethodName) prog_25_method_84_code (3 : Nat) (Option.none : Option Jvm.ClassFile.FieldType)) ∈ lw_all := lw_g (lw_at lw_m10 51 rfl) rfl
theorem q2295 : (Jvm.Cond.instanceMethod ({ cls := "TrackArrayModel", name := "spectrum", desc := "(IIII)J" } : Jvm.MethodName)) ∈ lw_all := lw_g (lw_at lw_m10 53 rfl) rfl
theorem q2296 : (Jvm.Cond.selects "TrackArrayModel" ({ cls := "TrackArrayModel", name := "spectrum", desc := "(IIII)J" } : Jvm.MethodName) ({ cls := "TrackArrayModel", name := "spectrum", desc := "(IIII)J" } : Jvm.MethodName)) ∈ lw_all := lw_g (lw_at lw_m10 54 rfl) rfl
theorem q2297 : (Jvm.Cond.code ({ cls := "TrackArrayModel", name := "spectrum", desc := "(IIII)J" } : Jvm.MethodName) prog_25_method_96_code (5 : Nat) (Option.some Jvm.ClassFile.FieldType.long)) ∈ lw_all := lw_g (lw_at lw_m10 55 rfl) rfl
theorem q2299 : (Jvm.Cond.instanceMethod ({ cls := "TrackArrayModel", name := "meanPower", desc := "(II)D" } : Jvm.MethodName)) ∈ lw_all := lw_g (lw_at lw_m10 57 rfl) rfl
theorem q2300 : (Jvm.Cond.selects "TrackArrayModel" ({ cls := "TrackArrayModel", name := "meanPower", desc := "(II)D" } : Jvm.MethodName) ({ cls := "TrackArrayModel", name := "meanPower", desc := "(II)D" } : Jvm.MethodName)) ∈ lw_all := lw_g (lw_at lw_m10 58 rfl) rfl
theorem q2301 : (Jvm.Cond.code ({ cls := "TrackArrayModel", name := "meanPower", desc := "(II)D" } : Jvm.MethodName) prog_25_method_98_code (3 : Nat) (Option.some Jvm.ClassFile.FieldType.double)) ∈ lw_all := lw_g (lw_at lw_m10 59 rfl) rfl
theorem q2302 : (Jvm.Cond.methodLink "TrackArrayModel" (268 : Nat) ({ cls := "TrackArrayModel", name := "meanOf", desc := "(II)D" } : Jvm.MethodName)) ∈ lw_all := lw_g (lw_at lw_m10 60 rfl) rfl
theorem q2303 : (Jvm.Cond.privateMethod ({ cls := "TrackArrayModel", name := "meanOf", desc := "(II)D" } : Jvm.MethodName)) ∈ lw_tbl := lw_at lw_m10 61 rfl
theorem q2304 : (Jvm.Cond.instanceMethod ({ cls := "TrackArrayModel", name := "meanOf", desc := "(II)D" } : Jvm.MethodName)) ∈ lw_all := lw_g (lw_at lw_m10 62 rfl) rfl
theorem q2305 : (Jvm.Cond.code ({ cls := "TrackArrayModel", name := "meanOf", desc := "(II)D" } : Jvm.MethodName) prog_25_method_97_code (3 : Nat) (Option.some Jvm.ClassFile.FieldType.double)) ∈ lw_all := lw_g (lw_at lw_m10 63 rfl) rfl
theorem q2307 : (Jvm.Cond.instanceMethod ({ cls := "TrackArrayModel", name := "crest", desc := "(II)F" } : Jvm.MethodName)) ∈ lw_all := lw_g (lw_at lw_m10 65 rfl) rfl
theorem q2308 : (Jvm.Cond.selects "TrackArrayModel" ({ cls := "TrackArrayModel", name := "crest", desc := "(II)F" } : Jvm.MethodName) ({ cls := "TrackArrayModel", name := "crest", desc := "(II)F" } : Jvm.MethodName)) ∈ lw_all := lw_g (lw_at lw_m10 66 rfl) rfl
theorem q2309 : (Jvm.Cond.code ({ cls := "TrackArrayModel", name := "crest", desc := "(II)F" } : Jvm.MethodName) prog_25_method_99_code (5 : Nat) (Option.some Jvm.ClassFile.FieldType.float)) ∈ lw_all := lw_g (lw_at lw_m10 67 rfl) rfl
theorem q2311 : (Jvm.Cond.instanceMethod ({ cls := "TrackArrayModel", name := "appendText", desc := "(I)I" } : Jvm.MethodName)) ∈ lw_all := lw_g (lw_at lw_m10 69 rfl) rfl
theorem q2312 : (Jvm.Cond.selects "TrackArrayModel" ({ cls := "TrackArrayModel", name := "appendText", desc := "(I)I" } : Jvm.MethodName) ({ cls := "TrackArrayModel", name := "appendText", desc := "(I)I" } : Jvm.MethodName)) ∈ lw_all := lw_g (lw_at lw_m10 70 rfl) rfl
theorem q2313 : (Jvm.Cond.code ({ cls := "TrackArrayModel", name := "appendText", desc := "(I)I" } : Jvm.MethodName) prog_25_method_100_code (3 : Nat) (Option.some Jvm.ClassFile.FieldType.int)) ∈ lw_all := lw_g (lw_at lw_m10 71 rfl) rfl
theorem q2315 : (Jvm.Cond.instanceMethod ({ cls := "TrackArrayModel", name := "truncateText", desc := "(I)I" } : Jvm.MethodName)) ∈ lw_all := lw_g (lw_at lw_m10 73 rfl) rfl
theorem q2316 : (Jvm.Cond.selects "TrackArrayModel" ({ cls := "TrackArrayModel", name := "truncateText", desc := "(I)I" } : Jvm.MethodName) ({ cls := "TrackArrayModel", name := "truncateText", desc := "(I)I" } : Jvm.MethodName)) ∈ lw_all := lw_g (lw_at lw_m10 74 rfl) rfl
theorem q2317 : (Jvm.Cond.code ({ cls := "TrackArrayModel", name := "truncateText", desc := "(I)I" } : Jvm.MethodName) prog_25_method_101_code (2 : Nat) (Option.some Jvm.ClassFile.FieldType.int)) ∈ lw_all := lw_g (lw_at lw_m10 75 rfl) rfl
theorem q2319 : (Jvm.Cond.instanceMethod ({ cls := "TrackArrayModel", name := "load", desc := "()I" } : Jvm.MethodName)) ∈ lw_all := lw_g (lw_at lw_m10 77 rfl) rfl
theorem q2320 : (Jvm.Cond.selects "TrackArrayModel" ({ cls := "TrackArrayModel", name := "load", desc := "()I" } : Jvm.MethodName) ({ cls := "TrackArrayModel", name := "load", desc := "()I" } : Jvm.MethodName)) ∈ lw_all := lw_g (lw_at lw_m10 78 rfl) rfl
theorem q2321 : (Jvm.Cond.code ({ cls := "TrackArrayModel", name := "load", desc := "()I" } : Jvm.MethodName) prog_25_method_115_code (2 : Nat) (Option.some Jvm.ClassFile.FieldType.int)) ∈ lw_all := lw_g (lw_at lw_m10 79 rfl) rfl
theorem q2322 : (Jvm.Cond.methodLink "TrackArrayModel" (361 : Nat) ({ cls := "TrackArrayModel", name := "copy", desc := "([II[II)V" } : Jvm.MethodName)) ∈ lw_all := lw_g (lw_at lw_m10 80 rfl) rfl
theorem q2323 : (Jvm.Cond.static ({ cls := "TrackArrayModel", name := "copy", desc := "([II[II)V" } : Jvm.MethodName)) ∈ lw_all := lw_g (lw_at lw_m10 81 rfl) rfl
theorem q2324 : (Jvm.Cond.code ({ cls := "TrackArrayModel", name := "copy", desc := "([II[II)V" } : Jvm.MethodName) prog_25_method_6_code (5 : Nat) (Option.none : Option Jvm.ClassFile.FieldType)) ∈ lw_all := lw_g (lw_at lw_m10 82 rfl) rfl
theorem q2325 : (Jvm.Cond.methodLink "TrackArrayModel" (320 : Nat) ({ cls := "TrackArrayModel", name := "nextToken", desc := "()V" } : Jvm.MethodName)) ∈ lw_all := lw_g (lw_at lw_m10 83 rfl) rfl
theorem q2326 : (Jvm.Cond.privateMethod ({ cls := "TrackArrayModel", name := "nextToken", desc := "()V" } : Jvm.MethodName)) ∈ lw_tbl := lw_at lw_m10 84 rfl
theorem q2327 : (Jvm.Cond.instanceMethod ({ cls := "TrackArrayModel", name := "nextToken", desc := "()V" } : Jvm.MethodName)) ∈ lw_all := lw_g (lw_at lw_m10 85 rfl) rfl
theorem q2328 : (Jvm.Cond.code ({ cls := "TrackArrayModel", name := "nextToken", desc := "()V" } : Jvm.MethodName) prog_25_method_105_code (2 : Nat) (Option.none : Option Jvm.ClassFile.FieldType)) ∈ lw_all := lw_g (lw_at lw_m10 86 rfl) rfl
theorem q2329 : (Jvm.Cond.methodLink "TrackArrayModel" (278 : Nat) ({ cls := "TrackArrayModel", name := "byteAt", desc := "(I)I" } : Jvm.MethodName)) ∈ lw_all := lw_g (lw_at lw_m10 87 rfl) rfl
theorem q2330 : (Jvm.Cond.privateMethod ({ cls := "TrackArrayModel", name := "byteAt", desc := "(I)I" } : Jvm.MethodName)) ∈ lw_tbl := lw_at lw_m10 88 rfl
theorem q2331 : (Jvm.Cond.instanceMethod ({ cls := "TrackArrayModel", name := "byteAt", desc := "(I)I" } : Jvm.MethodName)) ∈ lw_all := lw_g (lw_at lw_m10 89 rfl) rfl
theorem q2332 : (Jvm.Cond.code ({ cls := "TrackArrayModel", name := "byteAt", desc := "(I)I" } : Jvm.MethodName) prog_25_method_102_code (2 : Nat) (Option.some Jvm.ClassFile.FieldType.int)) ∈ lw_all := lw_g (lw_at lw_m10 90 rfl) rfl
theorem q2333 : (Jvm.Cond.methodLink "TrackArrayModel" (297 : Nat) ({ cls := "TrackArrayModel", name := "isLetter", desc := "(I)Z" } : Jvm.MethodName)) ∈ lw_all := lw_g (lw_at lw_m10 91 rfl) rfl
theorem q2334 : (Jvm.Cond.static ({ cls := "TrackArrayModel", name := "isLetter", desc := "(I)Z" } : Jvm.MethodName)) ∈ lw_all := lw_g (lw_at lw_m10 92 rfl) rfl
theorem q2335 : (Jvm.Cond.code ({ cls := "TrackArrayModel", name := "isLetter", desc := "(I)Z" } : Jvm.MethodName) prog_25_method_103_code (1 : Nat) (Option.some Jvm.ClassFile.FieldType.boolean)) ∈ lw_all := lw_g (lw_at lw_m10 93 rfl) rfl
theorem q2336 : (Jvm.Cond.constantLong "TrackArrayModel" (300 : Nat) (27 : Int64)) ∈ lw_all := lw_g (lw_at lw_m10 94 rfl) rfl
theorem q2337 : (Jvm.Cond.constantLong "TrackArrayModel" (302 : Nat) (96 : Int64)) ∈ lw_all := lw_g (lw_at lw_m10 95 rfl) rfl
theorem q2338 : (Jvm.Cond.methodLink "TrackArrayModel" (304 : Nat) ({ cls := "TrackArrayModel", name := "isDigit", desc := "(I)Z" } : Jvm.MethodName)) ∈ lw_all := lw_g (lw_at lw_m10 96 rfl) rfl
theorem q2339 : (Jvm.Cond.static ({ cls := "TrackArrayModel", name := "isDigit", desc := "(I)Z" } : Jvm.MethodName)) ∈ lw_all := lw_g (lw_at lw_m10 97 rfl) rfl
theorem q2340 : (Jvm.Cond.code ({ cls := "TrackArrayModel", name := "isDigit", desc := "(I)Z" } : Jvm.MethodName) prog_25_method_104_code (1 : Nat) (Option.some Jvm.ClassFile.FieldType.boolean)) ∈ lw_all := lw_g (lw_at lw_m10 98 rfl) rfl
theorem q2341 : (Jvm.Cond.methodLink "TrackArrayModel" (365 : Nat) ({ cls := "TrackArrayModel", name := "parseStatement", desc := "()V" } : Jvm.MethodName)) ∈ lw_all := lw_g (lw_at lw_m10 99 rfl) rfl
theorem q2342 : (Jvm.Cond.privateMethod ({ cls := "TrackArrayModel", name := "parseStatement", desc := "()V" } : Jvm.MethodName)) ∈ lw_tbl := lw_at lw_m10 100 rfl
theorem q2343 : (Jvm.Cond.instanceMethod ({ cls := "TrackArrayModel", name := "parseStatement", desc := "()V" } : Jvm.MethodName)) ∈ lw_all := lw_g (lw_at lw_m10 101 rfl) rfl
theorem q2344 : (Jvm.Cond.code ({ cls := "TrackArrayModel", name := "parseStatement", desc := "()V" } : Jvm.MethodName) prog_25_method_114_code (1 : Nat) (Option.none : Option Jvm.ClassFile.FieldType)) ∈ lw_all := lw_g (lw_at lw_m10 102 rfl) rfl
theorem q2345 : (Jvm.Cond.stringRef "TrackArrayModel" (336 : Nat) "mic") ∈ lw_tbl := lw_at lw_m10 103 rfl
theorem q2346 : (Jvm.Cond.methodLink "TrackArrayModel" (338 : Nat) ({ cls := "TrackArrayModel", name := "isWord", desc := "(Ljava/lang/String;)Z" } : Jvm.MethodName)) ∈ lw_all := lw_g (lw_at lw_m10 104 rfl) rfl
theorem q2347 : (Jvm.Cond.privateMethod ({ cls := "TrackArrayModel", name := "isWord", desc := "(Ljava/lang/String;)Z" } : Jvm.MethodName)) ∈ lw_tbl := lw_at lw_m10 105 rfl
theorem q2348 : (Jvm.Cond.instanceMethod ({ cls := "TrackArrayModel", name := "isWord", desc := "(Ljava/lang/String;)Z" } : Jvm.MethodName)) ∈ lw_all := lw_g (lw_at lw_m10 106 rfl) rfl
theorem q2349 : (Jvm.Cond.code ({ cls := "TrackArrayModel", name := "isWord", desc := "(Ljava/lang/String;)Z" } : Jvm.MethodName) prog_25_method_106_code (5 : Nat) (Option.some Jvm.ClassFile.FieldType.boolean)) ∈ lw_all := lw_g (lw_at lw_m10 107 rfl) rfl
theorem q2350 : (Jvm.Cond.methodLink "TrackArrayModel" (307 : Nat) ({ cls := "java/lang/String", name := "length", desc := "()I" } : Jvm.MethodName)) ∈ lw_all := lw_g (lw_at lw_m10 108 rfl) rfl
theorem q2351 : (Jvm.Cond.methodLink "TrackArrayModel" (313 : Nat) ({ cls := "java/lang/String", name := "charAt", desc := "(I)C" } : Jvm.MethodName)) ∈ lw_all := lw_g (lw_at lw_m10 109 rfl) rfl
theorem q2362 : (Jvm.Cond.methodLink "TrackArrayModel" (342 : Nat) ({ cls := "TrackArrayModel", name := "parseMicrophone", desc := "()V" } : Jvm.MethodName)) ∈ lw_all := lw_g (lw_at lw_m10 120 rfl) rfl
theorem q2363 : (Jvm.Cond.privateMethod ({ cls := "TrackArrayModel", name := "parseMicrophone", desc := "()V" } : Jvm.MethodName)) ∈ lw_tbl := lw_at lw_m10 121 rfl
theorem q2364 : (Jvm.Cond.instanceMethod ({ cls := "TrackArrayModel", name := "parseMicrophone", desc := "()V" } : Jvm.MethodName)) ∈ lw_all := lw_g (lw_at lw_m10 122 rfl) rfl
theorem q2365 : (Jvm.Cond.code ({ cls := "TrackArrayModel", name := "parseMicrophone", desc := "()V" } : Jvm.MethodName) prog_25_method_111_code (6 : Nat) (Option.none : Option Jvm.ClassFile.FieldType)) ∈ lw_all := lw_g (lw_at lw_m10 123 rfl) rfl
theorem q2366 : (Jvm.Cond.methodLink "TrackArrayModel" (323 : Nat) ({ cls := "TrackArrayModel", name := "require", desc := "(ZI)V" } : Jvm.MethodName)) ∈ lw_all := lw_g (lw_at lw_m10 124 rfl) rfl
theorem q2367 : (Jvm.Cond.privateMethod ({ cls := "TrackArrayModel", name := "require", desc := "(ZI)V" } : Jvm.MethodName)) ∈ lw_tbl := lw_at lw_m10 125 rfl
theorem q2368 : (Jvm.Cond.instanceMethod ({ cls := "TrackArrayModel", name := "require", desc := "(ZI)V" } : Jvm.MethodName)) ∈ lw_all := lw_g (lw_at lw_m10 126 rfl) rfl
theorem q2369 : (Jvm.Cond.code ({ cls := "TrackArrayModel", name := "require", desc := "(ZI)V" } : Jvm.MethodName) prog_25_method_107_code (3 : Nat) (Option.none : Option Jvm.ClassFile.FieldType)) ∈ lw_all := lw_g (lw_at lw_m10 127 rfl) rfl
theorem q2370 : (Jvm.Cond.methodLink "TrackArrayModel" (327 : Nat) ({ cls := "TrackArrayModel", name := "advance", desc := "()V" } : Jvm.MethodName)) ∈ lw_all := lw_g (lw_at lw_m10 128 rfl) rfl
theorem q2371 : (Jvm.Cond.privateMethod ({ cls := "TrackArrayModel", name := "advance", desc := "()V" } : Jvm.MethodName)) ∈ lw_tbl := lw_at lw_m10 129 rfl
theorem q2372 : (Jvm.Cond.instanceMethod ({ cls := "TrackArrayModel", name := "advance", desc := "()V" } : Jvm.MethodName)) ∈ lw_all := lw_g (lw_at lw_m10 130 rfl) rfl
theorem q2373 : (Jvm.Cond.code ({ cls := "TrackArrayModel", name := "advance", desc := "()V" } : Jvm.MethodName) prog_25_method_108_code (1 : Nat) (Option.none : Option Jvm.ClassFile.FieldType)) ∈ lw_all := lw_g (lw_at lw_m10 131 rfl) rfl
theorem q2374 : (Jvm.Cond.methodLink "TrackArrayModel" (333 : Nat) ({ cls := "TrackArrayModel", name := "parseInteger", desc := "(II)I" } : Jvm.MethodName)) ∈ lw_all := lw_g (lw_at lw_m10 132 rfl) rfl
theorem q2375 : (Jvm.Cond.privateMethod ({ cls := "TrackArrayModel", name := "parseInteger", desc := "(II)I" } : Jvm.MethodName)) ∈ lw_tbl := lw_at lw_m10 133 rfl
theorem q2376 : (Jvm.Cond.instanceMethod ({ cls := "TrackArrayModel", name := "parseInteger", desc := "(II)I" } : Jvm.MethodName)) ∈ lw_all := lw_g (lw_at lw_m10 134 rfl) rfl
theorem q2377 : (Jvm.Cond.code ({ cls := "TrackArrayModel", name := "parseInteger", desc := "(II)I" } : Jvm.MethodName) prog_25_method_110_code (4 : Nat) (Option.some Jvm.ClassFile.FieldType.int)) ∈ lw_all := lw_g (lw_at lw_m10 135 rfl) rfl
theorem q2378 : (Jvm.Cond.methodLink "TrackArrayModel" (330 : Nat) ({ cls := "TrackArrayModel", name := "parseNumber", desc := "(II)I" } : Jvm.MethodName)) ∈ lw_all := lw_g (lw_at lw_m10 136 rfl) rfl
theorem q2379 : (Jvm.Cond.privateMethod ({ cls := "TrackArrayModel", name := "parseNumber", desc := "(II)I" } : Jvm.MethodName)) ∈ lw_tbl := lw_at lw_m10 137 rfl
theorem q2380 : (Jvm.Cond.instanceMethod ({ cls := "TrackArrayModel", name := "parseNumber", desc := "(II)I" } : Jvm.MethodName)) ∈ lw_all := lw_g (lw_at lw_m10 138 rfl) rfl
theorem q2381 : (Jvm.Cond.code ({ cls := "TrackArrayModel", name := "parseNumber", desc := "(II)I" } : Jvm.MethodName) prog_25_method_109_code (4 : Nat) (Option.some Jvm.ClassFile.FieldType.int)) ∈ lw_all := lw_g (lw_at lw_m10 139 rfl) rfl
theorem q2382 : (Jvm.Cond.stringRef "TrackArrayModel" (345 : Nat) "vehicle") ∈ lw_tbl := lw_at lw_m10 140 rfl
theorem q2383 : (Jvm.Cond.methodLink "TrackArrayModel" (346 : Nat) ({ cls := "TrackArrayModel", name := "parseVehicle", desc := "()V" } : Jvm.MethodName)) ∈ lw_all := lw_g (lw_at lw_m10 141 rfl) rfl
theorem q2384 : (Jvm.Cond.privateMethod ({ cls := "TrackArrayModel", name := "parseVehicle", desc := "()V" } : Jvm.MethodName)) ∈ lw_tbl := lw_at lw_m10 142 rfl
theorem q2385 : (Jvm.Cond.instanceMethod ({ cls := "TrackArrayModel", name := "parseVehicle", desc := "()V" } : Jvm.MethodName)) ∈ lw_all := lw_g (lw_at lw_m10 143 rfl) rfl
theorem q2386 : (Jvm.Cond.code ({ cls := "TrackArrayModel", name := "parseVehicle", desc := "()V" } : Jvm.MethodName) prog_25_method_112_code (5 : Nat) (Option.none : Option Jvm.ClassFile.FieldType)) ∈ lw_all := lw_g (lw_at lw_m10 144 rfl) rfl
theorem q2387 : (Jvm.Cond.stringRef "TrackArrayModel" (349 : Nat) "source") ∈ lw_tbl := lw_at lw_m10 145 rfl
theorem q2388 : (Jvm.Cond.methodLink "TrackArrayModel" (350 : Nat) ({ cls := "TrackArrayModel", name := "parseSource", desc := "()V" } : Jvm.MethodName)) ∈ lw_all := lw_g (lw_at lw_m10 146 rfl) rfl
theorem q2389 : (Jvm.Cond.privateMethod ({ cls := "TrackArrayModel", name := "parseSource", desc := "()V" } : Jvm.MethodName)) ∈ lw_tbl := lw_at lw_m10 147 rfl
theorem q2390 : (Jvm.Cond.instanceMethod ({ cls := "TrackArrayModel", name := "parseSource", desc := "()V" } : Jvm.MethodName)) ∈ lw_all := lw_g (lw_at lw_m10 148 rfl) rfl
theorem q2391 : (Jvm.Cond.code ({ cls := "TrackArrayModel", name := "parseSource", desc := "()V" } : Jvm.MethodName) prog_25_method_113_code (10 : Nat) (Option.none : Option Jvm.ClassFile.FieldType)) ∈ lw_all := lw_g (lw_at lw_m10 149 rfl) rfl
theorem q2392 : (Jvm.Cond.stringRef "TrackArrayModel" (353 : Nat) "sound") ∈ lw_tbl := lw_at lw_m10 150 rfl
theorem q2393 : (Jvm.Cond.stringRef "TrackArrayModel" (355 : Nat) "ground") ∈ lw_tbl := lw_at lw_m10 151 rfl
theorem q2394 : (Jvm.Cond.stringRef "TrackArrayModel" (357 : Nat) "noise") ∈ lw_tbl := lw_at lw_m10 152 rfl
theorem q2395 : (Jvm.Cond.stringRef "TrackArrayModel" (359 : Nat) "spreading") ∈ lw_tbl := lw_at lw_m10 153 rfl
theorem q2397 : (Jvm.Cond.instanceMethod ({ cls := "TrackArrayModel", name := "errorCode", desc := "()I" } : Jvm.MethodName)) ∈ lw_all := lw_g (lw_at lw_m10 155 rfl) rfl
theorem q2398 : (Jvm.Cond.selects "TrackArrayModel" ({ cls := "TrackArrayModel", name := "errorCode", desc := "()I" } : Jvm.MethodName) ({ cls := "TrackArrayModel", name := "errorCode", desc := "()I" } : Jvm.MethodName)) ∈ lw_all := lw_g (lw_at lw_m10 156 rfl) rfl
theorem q2399 : (Jvm.Cond.code ({ cls := "TrackArrayModel", name := "errorCode", desc := "()I" } : Jvm.MethodName) prog_25_method_116_code (1 : Nat) (Option.some Jvm.ClassFile.FieldType.int)) ∈ lw_all := lw_g (lw_at lw_m10 157 rfl) rfl
theorem q2401 : (Jvm.Cond.instanceMethod ({ cls := "TrackArrayModel", name := "errorPosition", desc := "()I" } : Jvm.MethodName)) ∈ lw_all := lw_g (lw_at lw_m10 159 rfl) rfl
theorem q2402 : (Jvm.Cond.selects "TrackArrayModel" ({ cls := "TrackArrayModel", name := "errorPosition", desc := "()I" } : Jvm.MethodName) ({ cls := "TrackArrayModel", name := "errorPosition", desc := "()I" } : Jvm.MethodName)) ∈ lw_all := lw_g (lw_at lw_m10 160 rfl) rfl
theorem q2403 : (Jvm.Cond.code ({ cls := "TrackArrayModel", name := "errorPosition", desc := "()I" } : Jvm.MethodName) prog_25_method_117_code (1 : Nat) (Option.some Jvm.ClassFile.FieldType.int)) ∈ lw_all := lw_g (lw_at lw_m10 161 rfl) rfl
theorem q2405 : (Jvm.Cond.instanceMethod ({ cls := "TrackArrayModel", name := "save", desc := "(I)V" } : Jvm.MethodName)) ∈ lw_all := lw_g (lw_at lw_m10 163 rfl) rfl
theorem q2406 : (Jvm.Cond.selects "TrackArrayModel" ({ cls := "TrackArrayModel", name := "save", desc := "(I)V" } : Jvm.MethodName) ({ cls := "TrackArrayModel", name := "save", desc := "(I)V" } : Jvm.MethodName)) ∈ lw_all := lw_g (lw_at lw_m10 164 rfl) rfl
theorem q2407 : (Jvm.Cond.code ({ cls := "TrackArrayModel", name := "save", desc := "(I)V" } : Jvm.MethodName) prog_25_method_118_code (2 : Nat) (Option.none : Option Jvm.ClassFile.FieldType)) ∈ lw_all := lw_g (lw_at lw_m10 165 rfl) rfl
theorem q2409 : (Jvm.Cond.instanceMethod ({ cls := "TrackArrayModel", name := "restore", desc := "(I)V" } : Jvm.MethodName)) ∈ lw_all := lw_g (lw_at lw_m10 167 rfl) rfl
theorem q2410 : (Jvm.Cond.selects "TrackArrayModel" ({ cls := "TrackArrayModel", name := "restore", desc := "(I)V" } : Jvm.MethodName) ({ cls := "TrackArrayModel", name := "restore", desc := "(I)V" } : Jvm.MethodName)) ∈ lw_all := lw_g (lw_at lw_m10 168 rfl) rfl
theorem q2411 : (Jvm.Cond.code ({ cls := "TrackArrayModel", name := "restore", desc := "(I)V" } : Jvm.MethodName) prog_25_method_119_code (2 : Nat) (Option.none : Option Jvm.ClassFile.FieldType)) ∈ lw_all := lw_g (lw_at lw_m10 169 rfl) rfl
theorem q2433 : (Jvm.Cond.castable "TrackArrayModel" "java/lang/Object") ∈ lw_tbl := lw_at lw_m10 191 rfl
theorem in_X4 : ∀ w ∈ wsX40, w ∈ lw_all := lw_in wsX40 [1884, 1886, 1888, 1890, 1892, 1894, 1896, 1898, 1900, 1902, 1904, 1906, 1908, 1910, 1912, 1914, 1916, 1918, 1920, 1922] (by decide +kernel) (by decide +kernel)
