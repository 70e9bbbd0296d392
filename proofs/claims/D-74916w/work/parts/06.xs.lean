/-! TrackArray$Fixed -/
set_option maxRecDepth 100000
def RX3 : String := "TrackArray$Fixed"
def TX3 : u_T := fun k => match k with
  | 0 => ("TrackArray$Fixed", "place", "I", true)
  | 1 => ("TrackArray$Fixed", "y", "I", true)
  | _ => ("TrackArray$Fixed", "height", "I", true)
def tyX3 : Nat → FieldType := fun k => match k with
  | 0 => .int
  | 1 => .int
  | _ => .int
abbrev wsX30 : List Cond := u_ws RX3 TX3 3
theorem nmX3 : ∀ a, a < 3 → ∀ b, b < 3 → a ≠ b → (TX3 a).2.1 ≠ (TX3 b).2.1 := by decide +kernel
theorem tyX3_ok : ∀ k, k < 3 → parseFieldDescriptor (TX3 k).2.2.1 = some (tyX3 k) := by decide +kernel
abbrev cX3_init : ByteArray := prog_3_method_1_code
def yX3_init : MethodName := ⟨RX3, "<init>", "(III)V"⟩
def dkwX3_init_0 : List UInt8 := [42, 183, 0, 1, 42, 27, 181, 0, 7, 42, 28, 181, 0, 13, 42, 29, 181, 0, 16, 177]
abbrev dktX3_init_0 : List UInt8 := dkwX3_init_0 ++ []
theorem dksX3_init_0 : cX3_init.data.toList.drop 0 = dktX3_init_0 := by decide +kernel
theorem dX3_init_0 : decode cX3_init 0 = .ok (.aload_n 0, 1) := dk_42 (dk_at dksX3_init_0 0 rfl rfl)
theorem dX3_init_1 : decode cX3_init 1 = .ok (.invokespecial 1, 3) := dk_183 0 1 (dk_at dksX3_init_0 1 rfl rfl)
theorem dX3_init_4 : decode cX3_init 4 = .ok (.aload_n 0, 1) := dk_42 (dk_at dksX3_init_0 4 rfl rfl)
theorem dX3_init_5 : decode cX3_init 5 = .ok (.iload_n 1, 1) := dk_27 (dk_at dksX3_init_0 5 rfl rfl)
theorem dX3_init_6 : decode cX3_init 6 = .ok (.putfield 7, 3) := dk_181 0 7 (dk_at dksX3_init_0 6 rfl rfl)
theorem dX3_init_9 : decode cX3_init 9 = .ok (.aload_n 0, 1) := dk_42 (dk_at dksX3_init_0 9 rfl rfl)
theorem dX3_init_10 : decode cX3_init 10 = .ok (.iload_n 2, 1) := dk_28 (dk_at dksX3_init_0 10 rfl rfl)
theorem dX3_init_11 : decode cX3_init 11 = .ok (.putfield 13, 3) := dk_181 0 13 (dk_at dksX3_init_0 11 rfl rfl)
theorem dX3_init_14 : decode cX3_init 14 = .ok (.aload_n 0, 1) := dk_42 (dk_at dksX3_init_0 14 rfl rfl)
theorem dX3_init_15 : decode cX3_init 15 = .ok (.iload_n 3, 1) := dk_29 (dk_at dksX3_init_0 15 rfl rfl)
theorem dX3_init_16 : decode cX3_init 16 = .ok (.putfield 16, 3) := dk_181 0 16 (dk_at dksX3_init_0 16 rfl rfl)
theorem dX3_init_19 : decode cX3_init 19 = .ok (.return_, 1) := dk_177 (dk_at dksX3_init_0 19 rfl rfl)
abbrev cX3_x : ByteArray := prog_3_method_2_code
def yX3_x : MethodName := ⟨RX3, "x", "(I)I"⟩
theorem dX3_x_0 : decode cX3_x 0 = .ok (.aload_n 0, 1) := by decide +kernel
theorem dX3_x_1 : decode cX3_x 1 = .ok (.getfield 7, 3) := by decide +kernel
theorem dX3_x_4 : decode cX3_x 4 = .ok (.ireturn, 1) := by decide +kernel
abbrev cX3_y : ByteArray := prog_3_method_8_code
def yX3_y : MethodName := ⟨RX3, "y", "()I"⟩
theorem dX3_y_0 : decode cX3_y 0 = .ok (.aload_n 0, 1) := by decide +kernel
theorem dX3_y_1 : decode cX3_y 1 = .ok (.getfield 13, 3) := by decide +kernel
theorem dX3_y_4 : decode cX3_y 4 = .ok (.ireturn, 1) := by decide +kernel
abbrev cX3_height : ByteArray := prog_3_method_9_code
def yX3_height : MethodName := ⟨RX3, "height", "()I"⟩
theorem dX3_height_0 : decode cX3_height 0 = .ok (.aload_n 0, 1) := by decide +kernel
theorem dX3_height_1 : decode cX3_height 1 = .ok (.getfield 16, 3) := by decide +kernel
theorem dX3_height_4 : decode cX3_height 4 = .ok (.ireturn, 1) := by decide +kernel
abbrev cX3_beside : ByteArray := prog_3_method_3_code
def yX3_beside : MethodName := ⟨RX3, "beside", "(I)LTrackArray$Focus;"⟩
def dkwX3_beside_0 : List UInt8 := [187, 0, 8, 89, 42, 180, 0, 7, 27, 96, 42, 180, 0, 13, 42, 180, 0, 16, 183, 0, 19, 176]
abbrev dktX3_beside_0 : List UInt8 := dkwX3_beside_0 ++ []
theorem dksX3_beside_0 : cX3_beside.data.toList.drop 0 = dktX3_beside_0 := by decide +kernel
theorem dX3_beside_0 : decode cX3_beside 0 = .ok (.new 8, 3) := dk_187 0 8 (dk_at dksX3_beside_0 0 rfl rfl)
theorem dX3_beside_3 : decode cX3_beside 3 = .ok (.dup, 1) := dk_89 (dk_at dksX3_beside_0 3 rfl rfl)
theorem dX3_beside_4 : decode cX3_beside 4 = .ok (.aload_n 0, 1) := dk_42 (dk_at dksX3_beside_0 4 rfl rfl)
theorem dX3_beside_5 : decode cX3_beside 5 = .ok (.getfield 7, 3) := dk_180 0 7 (dk_at dksX3_beside_0 5 rfl rfl)
theorem dX3_beside_8 : decode cX3_beside 8 = .ok (.iload_n 1, 1) := dk_27 (dk_at dksX3_beside_0 8 rfl rfl)
theorem dX3_beside_9 : decode cX3_beside 9 = .ok (.iadd, 1) := dk_96 (dk_at dksX3_beside_0 9 rfl rfl)
theorem dX3_beside_10 : decode cX3_beside 10 = .ok (.aload_n 0, 1) := dk_42 (dk_at dksX3_beside_0 10 rfl rfl)
theorem dX3_beside_11 : decode cX3_beside 11 = .ok (.getfield 13, 3) := dk_180 0 13 (dk_at dksX3_beside_0 11 rfl rfl)
theorem dX3_beside_14 : decode cX3_beside 14 = .ok (.aload_n 0, 1) := dk_42 (dk_at dksX3_beside_0 14 rfl rfl)
theorem dX3_beside_15 : decode cX3_beside 15 = .ok (.getfield 16, 3) := dk_180 0 16 (dk_at dksX3_beside_0 15 rfl rfl)
theorem dX3_beside_18 : decode cX3_beside 18 = .ok (.invokespecial 19, 3) := dk_183 0 19 (dk_at dksX3_beside_0 18 rfl rfl)
theorem dX3_beside_21 : decode cX3_beside 21 = .ok (.areturn, 1) := dk_176 (dk_at dksX3_beside_0 21 rfl rfl)
theorem q105 : (Jvm.Cond.initialized "TrackArray$Fixed") ∈ lw_all := lw_g (lw_at lw_m1 23 rfl) rfl
theorem q490 : (Jvm.Cond.instantiable "TrackArray$Fixed" (3 : Nat)) ∈ lw_all := lw_g (lw_at lw_m2 168 rfl) rfl
theorem q492 : (Jvm.Cond.instanceMethod ({ cls := "TrackArray$Fixed", name := "<init>", desc := "(III)V" } : Jvm.MethodName)) ∈ lw_all := lw_g (lw_at lw_m2 170 rfl) rfl
theorem q493 : (Jvm.Cond.code ({ cls := "TrackArray$Fixed", name := "<init>", desc := "(III)V" } : Jvm.MethodName) prog_3_method_1_code (4 : Nat) (Option.none : Option Jvm.ClassFile.FieldType)) ∈ lw_all := lw_g (lw_at lw_m2 171 rfl) rfl
theorem q494 : (Jvm.Cond.methodLink "TrackArray$Fixed" (1 : Nat) ({ cls := "java/lang/Record", name := "<init>", desc := "()V" } : Jvm.MethodName)) ∈ lw_all := lw_g (lw_at lw_m2 172 rfl) rfl
theorem q498 : (Jvm.Cond.fieldLink "TrackArray$Fixed" (7 : Nat) "TrackArray$Fixed" "place" "I") ∈ lw_all := lw_g (lw_at lw_m2 176 rfl) rfl
theorem q499 : (Jvm.Cond.fieldLink "TrackArray$Fixed" (13 : Nat) "TrackArray$Fixed" "y" "I") ∈ lw_all := lw_g (lw_at lw_m2 177 rfl) rfl
theorem q500 : (Jvm.Cond.fieldLink "TrackArray$Fixed" (16 : Nat) "TrackArray$Fixed" "height" "I") ∈ lw_all := lw_g (lw_at lw_m2 178 rfl) rfl
theorem q501 : (Jvm.Cond.laysFinal "TrackArray$Fixed" "TrackArray$Fixed" "place" "I") ∈ lw_all := lw_g (lw_at lw_m2 179 rfl) rfl
theorem q502 : (Jvm.Cond.soleField "TrackArray$Fixed" "place") ∈ lw_all := lw_g (lw_at lw_m2 180 rfl) rfl
theorem q503 : (Jvm.Cond.laysFinal "TrackArray$Fixed" "TrackArray$Fixed" "y" "I") ∈ lw_all := lw_g (lw_at lw_m2 181 rfl) rfl
theorem q504 : (Jvm.Cond.soleField "TrackArray$Fixed" "y") ∈ lw_all := lw_g (lw_at lw_m2 182 rfl) rfl
theorem q505 : (Jvm.Cond.laysFinal "TrackArray$Fixed" "TrackArray$Fixed" "height" "I") ∈ lw_all := lw_g (lw_at lw_m2 183 rfl) rfl
theorem q506 : (Jvm.Cond.soleField "TrackArray$Fixed" "height") ∈ lw_all := lw_g (lw_at lw_m2 184 rfl) rfl
theorem q507 : (Jvm.Cond.superclass "TrackArray$Fixed" "java/lang/Record") ∈ lw_all := lw_g (lw_at lw_m2 185 rfl) rfl
theorem q690 : (Jvm.Cond.castable "TrackArray$Fixed" "TrackArray$Place") ∈ lw_tbl := lw_at lw_m3 128 rfl
theorem q691 : (Jvm.Cond.selects "TrackArray$Fixed" ({ cls := "TrackArray$Place", name := "x", desc := "(I)I" } : Jvm.MethodName) ({ cls := "TrackArray$Fixed", name := "x", desc := "(I)I" } : Jvm.MethodName)) ∈ lw_all := lw_g (lw_at lw_m3 129 rfl) rfl
theorem q692 : (Jvm.Cond.unhidden "TrackArray$Fixed" "x" "(I)I") ∈ lw_tbl := lw_at lw_m3 130 rfl
theorem q693 : (Jvm.Cond.instanceMethod ({ cls := "TrackArray$Fixed", name := "x", desc := "(I)I" } : Jvm.MethodName)) ∈ lw_all := lw_g (lw_at lw_m3 131 rfl) rfl
theorem q694 : (Jvm.Cond.publicMethod ({ cls := "TrackArray$Fixed", name := "x", desc := "(I)I" } : Jvm.MethodName)) ∈ lw_tbl := lw_at lw_m3 132 rfl
theorem q695 : (Jvm.Cond.code ({ cls := "TrackArray$Fixed", name := "x", desc := "(I)I" } : Jvm.MethodName) prog_3_method_2_code (2 : Nat) (Option.some Jvm.ClassFile.FieldType.int)) ∈ lw_all := lw_g (lw_at lw_m3 133 rfl) rfl
theorem q710 : (Jvm.Cond.selects "TrackArray$Fixed" ({ cls := "TrackArray$Place", name := "y", desc := "()I" } : Jvm.MethodName) ({ cls := "TrackArray$Fixed", name := "y", desc := "()I" } : Jvm.MethodName)) ∈ lw_all := lw_g (lw_at lw_m3 148 rfl) rfl
theorem q711 : (Jvm.Cond.unhidden "TrackArray$Fixed" "y" "()I") ∈ lw_tbl := lw_at lw_m3 149 rfl
theorem q712 : (Jvm.Cond.instanceMethod ({ cls := "TrackArray$Fixed", name := "y", desc := "()I" } : Jvm.MethodName)) ∈ lw_all := lw_g (lw_at lw_m3 150 rfl) rfl
theorem q713 : (Jvm.Cond.publicMethod ({ cls := "TrackArray$Fixed", name := "y", desc := "()I" } : Jvm.MethodName)) ∈ lw_tbl := lw_at lw_m3 151 rfl
theorem q714 : (Jvm.Cond.code ({ cls := "TrackArray$Fixed", name := "y", desc := "()I" } : Jvm.MethodName) prog_3_method_8_code (1 : Nat) (Option.some Jvm.ClassFile.FieldType.int)) ∈ lw_all := lw_g (lw_at lw_m3 152 rfl) rfl
theorem q728 : (Jvm.Cond.selects "TrackArray$Fixed" ({ cls := "TrackArray$Place", name := "height", desc := "()I" } : Jvm.MethodName) ({ cls := "TrackArray$Fixed", name := "height", desc := "()I" } : Jvm.MethodName)) ∈ lw_all := lw_g (lw_at lw_m3 166 rfl) rfl
theorem q729 : (Jvm.Cond.unhidden "TrackArray$Fixed" "height" "()I") ∈ lw_tbl := lw_at lw_m3 167 rfl
theorem q730 : (Jvm.Cond.instanceMethod ({ cls := "TrackArray$Fixed", name := "height", desc := "()I" } : Jvm.MethodName)) ∈ lw_all := lw_g (lw_at lw_m3 168 rfl) rfl
theorem q731 : (Jvm.Cond.publicMethod ({ cls := "TrackArray$Fixed", name := "height", desc := "()I" } : Jvm.MethodName)) ∈ lw_tbl := lw_at lw_m3 169 rfl
theorem q732 : (Jvm.Cond.code ({ cls := "TrackArray$Fixed", name := "height", desc := "()I" } : Jvm.MethodName) prog_3_method_9_code (1 : Nat) (Option.some Jvm.ClassFile.FieldType.int)) ∈ lw_all := lw_g (lw_at lw_m3 170 rfl) rfl
theorem q1072 : (Jvm.Cond.selects "TrackArray$Fixed" ({ cls := "java/lang/Object", name := "getClass", desc := "()Ljava/lang/Class;" } : Jvm.MethodName) ({ cls := "java/lang/Object", name := "getClass", desc := "()Ljava/lang/Class;" } : Jvm.MethodName)) ∈ lw_all := lw_g (lw_at lw_m5 30 rfl) rfl
theorem q1725 : (Jvm.Cond.castable "TrackArray$Fixed" "TrackArray$Focus") ∈ lw_tbl := lw_at lw_m7 203 rfl
theorem q1726 : (Jvm.Cond.selects "TrackArray$Fixed" ({ cls := "TrackArray$Focus", name := "beside", desc := "(I)LTrackArray$Focus;" } : Jvm.MethodName) ({ cls := "TrackArray$Fixed", name := "beside", desc := "(I)LTrackArray$Focus;" } : Jvm.MethodName)) ∈ lw_all := lw_g (lw_at lw_m7 204 rfl) rfl
theorem q1727 : (Jvm.Cond.unhidden "TrackArray$Fixed" "beside" "(I)LTrackArray$Focus;") ∈ lw_tbl := lw_at lw_m7 205 rfl
theorem q1728 : (Jvm.Cond.instanceMethod ({ cls := "TrackArray$Fixed", name := "beside", desc := "(I)LTrackArray$Focus;" } : Jvm.MethodName)) ∈ lw_all := lw_g (lw_at lw_m7 206 rfl) rfl
theorem q1729 : (Jvm.Cond.publicMethod ({ cls := "TrackArray$Fixed", name := "beside", desc := "(I)LTrackArray$Focus;" } : Jvm.MethodName)) ∈ lw_tbl := lw_at lw_m7 207 rfl
theorem q1730 : (Jvm.Cond.code ({ cls := "TrackArray$Fixed", name := "beside", desc := "(I)LTrackArray$Focus;" } : Jvm.MethodName) prog_3_method_3_code (2 : Nat) (Option.some (Jvm.ClassFile.FieldType.object "TrackArray$Focus"))) ∈ lw_all := lw_g (lw_at lw_m7 208 rfl) rfl
theorem q1731 : (Jvm.Cond.classLink "TrackArray$Fixed" (8 : Nat) "TrackArray$Fixed") ∈ lw_all := lw_g (lw_at lw_m7 209 rfl) rfl
theorem q1732 : (Jvm.Cond.methodLink "TrackArray$Fixed" (19 : Nat) ({ cls := "TrackArray$Fixed", name := "<init>", desc := "(III)V" } : Jvm.MethodName)) ∈ lw_all := lw_g (lw_at lw_m7 210 rfl) rfl
theorem q2432 : (Jvm.Cond.castable "TrackArray$Fixed" "java/lang/Object") ∈ lw_tbl := lw_at lw_m10 190 rfl
theorem in_X3 : ∀ w ∈ wsX30, w ∈ lw_all := lw_in wsX30 [501, 503, 505] (by decide +kernel) (by decide +kernel)
/-! TrackArray$Vehicle -/
set_option maxRecDepth 100000
def RX5 : String := "TrackArray$Vehicle"
def TX5 : u_T := fun k => match k with
  | 0 => ("TrackArray$Vehicle", "x", "I", true)
  | 1 => ("TrackArray$Vehicle", "speed", "I", true)
  | _ => ("TrackArray$Vehicle", "y", "I", true)
def tyX5 : Nat → FieldType := fun k => match k with
  | 0 => .int
  | 1 => .int
  | _ => .int
abbrev wsX50 : List Cond := u_ws RX5 TX5 3
theorem nmX5 : ∀ a, a < 3 → ∀ b, b < 3 → a ≠ b → (TX5 a).2.1 ≠ (TX5 b).2.1 := by decide +kernel
theorem tyX5_ok : ∀ k, k < 3 → parseFieldDescriptor (TX5 k).2.2.1 = some (tyX5 k) := by decide +kernel
abbrev cX5_xAt : ByteArray := prog_20_method_2_code
def yX5_xAt : MethodName := ⟨RX5, "xAt", "(I)I"⟩
def dkwX5_xAt_0 : List UInt8 := [42, 180, 0, 7, 42, 180, 0, 13, 27, 104, 96, 172]
abbrev dktX5_xAt_0 : List UInt8 := dkwX5_xAt_0 ++ []
theorem dksX5_xAt_0 : cX5_xAt.data.toList.drop 0 = dktX5_xAt_0 := by decide +kernel
theorem dX5_xAt_0 : decode cX5_xAt 0 = .ok (.aload_n 0, 1) := dk_42 (dk_at dksX5_xAt_0 0 rfl rfl)
theorem dX5_xAt_1 : decode cX5_xAt 1 = .ok (.getfield 7, 3) := dk_180 0 7 (dk_at dksX5_xAt_0 1 rfl rfl)
theorem dX5_xAt_4 : decode cX5_xAt 4 = .ok (.aload_n 0, 1) := dk_42 (dk_at dksX5_xAt_0 4 rfl rfl)
theorem dX5_xAt_5 : decode cX5_xAt 5 = .ok (.getfield 13, 3) := dk_180 0 13 (dk_at dksX5_xAt_0 5 rfl rfl)
theorem dX5_xAt_8 : decode cX5_xAt 8 = .ok (.iload_n 1, 1) := dk_27 (dk_at dksX5_xAt_0 8 rfl rfl)
theorem dX5_xAt_9 : decode cX5_xAt 9 = .ok (.imul, 1) := dk_104 (dk_at dksX5_xAt_0 9 rfl rfl)
theorem dX5_xAt_10 : decode cX5_xAt 10 = .ok (.iadd, 1) := dk_96 (dk_at dksX5_xAt_0 10 rfl rfl)
theorem dX5_xAt_11 : decode cX5_xAt 11 = .ok (.ireturn, 1) := dk_172 (dk_at dksX5_xAt_0 11 rfl rfl)
abbrev cX5_y : ByteArray := prog_20_method_8_code
def yX5_y : MethodName := ⟨RX5, "y", "()I"⟩
theorem dX5_y_0 : decode cX5_y 0 = .ok (.aload_n 0, 1) := by decide +kernel
theorem dX5_y_1 : decode cX5_y 1 = .ok (.getfield 16, 3) := by decide +kernel
theorem dX5_y_4 : decode cX5_y 4 = .ok (.ireturn, 1) := by decide +kernel
abbrev cX5_init : ByteArray := prog_20_method_1_code
def yX5_init : MethodName := ⟨RX5, "<init>", "(III)V"⟩
def dkwX5_init_0 : List UInt8 := [42, 183, 0, 1, 42, 27, 181, 0, 7, 42, 28, 181, 0, 13, 42, 29, 181, 0, 16, 177]
abbrev dktX5_init_0 : List UInt8 := dkwX5_init_0 ++ []
theorem dksX5_init_0 : cX5_init.data.toList.drop 0 = dktX5_init_0 := by decide +kernel
theorem dX5_init_0 : decode cX5_init 0 = .ok (.aload_n 0, 1) := dk_42 (dk_at dksX5_init_0 0 rfl rfl)
theorem dX5_init_1 : decode cX5_init 1 = .ok (.invokespecial 1, 3) := dk_183 0 1 (dk_at dksX5_init_0 1 rfl rfl)
theorem dX5_init_4 : decode cX5_init 4 = .ok (.aload_n 0, 1) := dk_42 (dk_at dksX5_init_0 4 rfl rfl)
theorem dX5_init_5 : decode cX5_init 5 = .ok (.iload_n 1, 1) := dk_27 (dk_at dksX5_init_0 5 rfl rfl)
theorem dX5_init_6 : decode cX5_init 6 = .ok (.putfield 7, 3) := dk_181 0 7 (dk_at dksX5_init_0 6 rfl rfl)
theorem dX5_init_9 : decode cX5_init 9 = .ok (.aload_n 0, 1) := dk_42 (dk_at dksX5_init_0 9 rfl rfl)
theorem dX5_init_10 : decode cX5_init 10 = .ok (.iload_n 2, 1) := dk_28 (dk_at dksX5_init_0 10 rfl rfl)
theorem dX5_init_11 : decode cX5_init 11 = .ok (.putfield 13, 3) := dk_181 0 13 (dk_at dksX5_init_0 11 rfl rfl)
theorem dX5_init_14 : decode cX5_init 14 = .ok (.aload_n 0, 1) := dk_42 (dk_at dksX5_init_0 14 rfl rfl)
theorem dX5_init_15 : decode cX5_init 15 = .ok (.iload_n 3, 1) := dk_29 (dk_at dksX5_init_0 15 rfl rfl)
theorem dX5_init_16 : decode cX5_init 16 = .ok (.putfield 16, 3) := dk_181 0 16 (dk_at dksX5_init_0 16 rfl rfl)
theorem dX5_init_19 : decode cX5_init 19 = .ok (.return_, 1) := dk_177 (dk_at dksX5_init_0 19 rfl rfl)
theorem q108 : (Jvm.Cond.initialized "TrackArray$Vehicle") ∈ lw_all := lw_g (lw_at lw_m1 26 rfl) rfl
theorem q703 : (Jvm.Cond.instanceMethod ({ cls := "TrackArray$Vehicle", name := "xAt", desc := "(I)I" } : Jvm.MethodName)) ∈ lw_all := lw_g (lw_at lw_m3 141 rfl) rfl
theorem q704 : (Jvm.Cond.selects "TrackArray$Vehicle" ({ cls := "TrackArray$Vehicle", name := "xAt", desc := "(I)I" } : Jvm.MethodName) ({ cls := "TrackArray$Vehicle", name := "xAt", desc := "(I)I" } : Jvm.MethodName)) ∈ lw_all := lw_g (lw_at lw_m3 142 rfl) rfl
theorem q705 : (Jvm.Cond.code ({ cls := "TrackArray$Vehicle", name := "xAt", desc := "(I)I" } : Jvm.MethodName) prog_20_method_2_code (2 : Nat) (Option.some Jvm.ClassFile.FieldType.int)) ∈ lw_all := lw_g (lw_at lw_m3 143 rfl) rfl
theorem q721 : (Jvm.Cond.instanceMethod ({ cls := "TrackArray$Vehicle", name := "y", desc := "()I" } : Jvm.MethodName)) ∈ lw_all := lw_g (lw_at lw_m3 159 rfl) rfl
theorem q722 : (Jvm.Cond.selects "TrackArray$Vehicle" ({ cls := "TrackArray$Vehicle", name := "y", desc := "()I" } : Jvm.MethodName) ({ cls := "TrackArray$Vehicle", name := "y", desc := "()I" } : Jvm.MethodName)) ∈ lw_all := lw_g (lw_at lw_m3 160 rfl) rfl
theorem q723 : (Jvm.Cond.code ({ cls := "TrackArray$Vehicle", name := "y", desc := "()I" } : Jvm.MethodName) prog_20_method_8_code (1 : Nat) (Option.some Jvm.ClassFile.FieldType.int)) ∈ lw_all := lw_g (lw_at lw_m3 161 rfl) rfl
theorem q1084 : (Jvm.Cond.selects "TrackArray$Vehicle" ({ cls := "java/lang/Object", name := "getClass", desc := "()Ljava/lang/Class;" } : Jvm.MethodName) ({ cls := "java/lang/Object", name := "getClass", desc := "()Ljava/lang/Class;" } : Jvm.MethodName)) ∈ lw_all := lw_g (lw_at lw_m5 42 rfl) rfl
theorem q1114 : (Jvm.Cond.instantiable "TrackArray$Vehicle" (3 : Nat)) ∈ lw_all := lw_g (lw_at lw_m5 72 rfl) rfl
theorem q1116 : (Jvm.Cond.instanceMethod ({ cls := "TrackArray$Vehicle", name := "<init>", desc := "(III)V" } : Jvm.MethodName)) ∈ lw_all := lw_g (lw_at lw_m5 74 rfl) rfl
theorem q1117 : (Jvm.Cond.code ({ cls := "TrackArray$Vehicle", name := "<init>", desc := "(III)V" } : Jvm.MethodName) prog_20_method_1_code (4 : Nat) (Option.none : Option Jvm.ClassFile.FieldType)) ∈ lw_all := lw_g (lw_at lw_m5 75 rfl) rfl
theorem q1118 : (Jvm.Cond.methodLink "TrackArray$Vehicle" (1 : Nat) ({ cls := "java/lang/Record", name := "<init>", desc := "()V" } : Jvm.MethodName)) ∈ lw_all := lw_g (lw_at lw_m5 76 rfl) rfl
theorem q1119 : (Jvm.Cond.fieldLink "TrackArray$Vehicle" (7 : Nat) "TrackArray$Vehicle" "x" "I") ∈ lw_all := lw_g (lw_at lw_m5 77 rfl) rfl
theorem q1120 : (Jvm.Cond.fieldLink "TrackArray$Vehicle" (13 : Nat) "TrackArray$Vehicle" "speed" "I") ∈ lw_all := lw_g (lw_at lw_m5 78 rfl) rfl
theorem q1121 : (Jvm.Cond.fieldLink "TrackArray$Vehicle" (16 : Nat) "TrackArray$Vehicle" "y" "I") ∈ lw_all := lw_g (lw_at lw_m5 79 rfl) rfl
theorem q1122 : (Jvm.Cond.laysFinal "TrackArray$Vehicle" "TrackArray$Vehicle" "x" "I") ∈ lw_all := lw_g (lw_at lw_m5 80 rfl) rfl
theorem q1123 : (Jvm.Cond.soleField "TrackArray$Vehicle" "x") ∈ lw_all := lw_g (lw_at lw_m5 81 rfl) rfl
theorem q1124 : (Jvm.Cond.laysFinal "TrackArray$Vehicle" "TrackArray$Vehicle" "speed" "I") ∈ lw_all := lw_g (lw_at lw_m5 82 rfl) rfl
theorem q1125 : (Jvm.Cond.soleField "TrackArray$Vehicle" "speed") ∈ lw_all := lw_g (lw_at lw_m5 83 rfl) rfl
theorem q1126 : (Jvm.Cond.laysFinal "TrackArray$Vehicle" "TrackArray$Vehicle" "y" "I") ∈ lw_all := lw_g (lw_at lw_m5 84 rfl) rfl
theorem q1127 : (Jvm.Cond.soleField "TrackArray$Vehicle" "y") ∈ lw_all := lw_g (lw_at lw_m5 85 rfl) rfl
theorem q1128 : (Jvm.Cond.superclass "TrackArray$Vehicle" "java/lang/Record") ∈ lw_all := lw_g (lw_at lw_m5 86 rfl) rfl
theorem q2435 : (Jvm.Cond.castable "TrackArray$Vehicle" "java/lang/Object") ∈ lw_tbl := lw_at lw_m10 193 rfl
theorem in_X5 : ∀ w ∈ wsX50, w ∈ lw_all := lw_in wsX50 [1122, 1124, 1126] (by decide +kernel) (by decide +kernel)
/-! TrackArray$Source -/
set_option maxRecDepth 100000
def RX6 : String := "TrackArray$Source"
def TX6 : u_T := fun k => match k with
  | 0 => ("TrackArray$Source", "vehicle", "LTrackArray$Vehicle;", true)
  | 1 => ("TrackArray$Source", "offset", "I", true)
  | 2 => ("TrackArray$Source", "height", "I", true)
  | 3 => ("TrackArray$Source", "strength", "I", true)
  | 4 => ("TrackArray$Source", "values", "[I", true)
  | _ => ("TrackArray$Source", "length", "I", false)
def tyX6 : Nat → FieldType := fun k => match k with
  | 0 => .object "TrackArray$Vehicle"
  | 1 => .int
  | 2 => .int
  | 3 => .int
  | 4 => .array .int
  | _ => .int
abbrev wsX60 : List Cond := u_ws RX6 TX6 6
theorem nmX6 : ∀ a, a < 6 → ∀ b, b < 6 → a ≠ b → (TX6 a).2.1 ≠ (TX6 b).2.1 := by decide +kernel
theorem tyX6_ok : ∀ k, k < 6 → parseFieldDescriptor (TX6 k).2.2.1 = some (tyX6 k) := by decide +kernel
abbrev cX6_emitted : ByteArray := prog_17_method_3_code
def yX6_emitted : MethodName := ⟨RX6, "emitted", "(I)I"⟩
def dkwX6_emitted_0 : List UInt8 := [42, 180, 0, 9, 27, 42, 180, 0, 29, 112, 46, 42, 180, 0, 26, 104, 172]
abbrev dktX6_emitted_0 : List UInt8 := dkwX6_emitted_0 ++ []
theorem dksX6_emitted_0 : cX6_emitted.data.toList.drop 0 = dktX6_emitted_0 := by decide +kernel
theorem dX6_emitted_0 : decode cX6_emitted 0 = .ok (.aload_n 0, 1) := dk_42 (dk_at dksX6_emitted_0 0 rfl rfl)
theorem dX6_emitted_1 : decode cX6_emitted 1 = .ok (.getfield 9, 3) := dk_180 0 9 (dk_at dksX6_emitted_0 1 rfl rfl)
theorem dX6_emitted_4 : decode cX6_emitted 4 = .ok (.iload_n 1, 1) := dk_27 (dk_at dksX6_emitted_0 4 rfl rfl)
theorem dX6_emitted_5 : decode cX6_emitted 5 = .ok (.aload_n 0, 1) := dk_42 (dk_at dksX6_emitted_0 5 rfl rfl)
theorem dX6_emitted_6 : decode cX6_emitted 6 = .ok (.getfield 29, 3) := dk_180 0 29 (dk_at dksX6_emitted_0 6 rfl rfl)
theorem dX6_emitted_9 : decode cX6_emitted 9 = .ok (.irem, 1) := dk_112 (dk_at dksX6_emitted_0 9 rfl rfl)
theorem dX6_emitted_10 : decode cX6_emitted 10 = .ok (.iaload, 1) := dk_46 (dk_at dksX6_emitted_0 10 rfl rfl)
theorem dX6_emitted_11 : decode cX6_emitted 11 = .ok (.aload_n 0, 1) := dk_42 (dk_at dksX6_emitted_0 11 rfl rfl)
theorem dX6_emitted_12 : decode cX6_emitted 12 = .ok (.getfield 26, 3) := dk_180 0 26 (dk_at dksX6_emitted_0 12 rfl rfl)
theorem dX6_emitted_15 : decode cX6_emitted 15 = .ok (.imul, 1) := dk_104 (dk_at dksX6_emitted_0 15 rfl rfl)
theorem dX6_emitted_16 : decode cX6_emitted 16 = .ok (.ireturn, 1) := dk_172 (dk_at dksX6_emitted_0 16 rfl rfl)
abbrev cX6_init : ByteArray := prog_17_method_1_code
def yX6_init : MethodName := ⟨RX6, "<init>", "(LTrackArray$Vehicle;III)V"⟩
def dkwX6_init_1 : List UInt8 := [181, 0, 23, 42, 21, 4, 181, 0, 26, 177]
abbrev dktX6_init_1 : List UInt8 := dkwX6_init_1 ++ []
def dkwX6_init_0 : List UInt8 := [42, 183, 0, 3, 42, 16, 16, 188, 10, 181, 0, 9, 42, 43, 181, 0, 15, 42, 28, 181, 0, 19, 42, 29]
abbrev dktX6_init_0 : List UInt8 := dkwX6_init_0 ++ dktX6_init_1
theorem dksX6_init_0 : cX6_init.data.toList.drop 0 = dktX6_init_0 := by decide +kernel
theorem dksX6_init_1 : cX6_init.data.toList.drop 24 = dktX6_init_1 := dk_seg dksX6_init_0 24 rfl rfl
theorem dX6_init_0 : decode cX6_init 0 = .ok (.aload_n 0, 1) := dk_42 (dk_at dksX6_init_0 0 rfl rfl)
theorem dX6_init_1 : decode cX6_init 1 = .ok (.invokespecial 3, 3) := dk_183 0 3 (dk_at dksX6_init_0 1 rfl rfl)
theorem dX6_init_4 : decode cX6_init 4 = .ok (.aload_n 0, 1) := dk_42 (dk_at dksX6_init_0 4 rfl rfl)
theorem dX6_init_5 : decode cX6_init 5 = .ok (.bipush 16, 2) := dk_16 16 (dk_at dksX6_init_0 5 rfl rfl)
theorem dX6_init_7 : decode cX6_init 7 = .ok (.newarray .int, 2) := dk_188_10 (dk_at dksX6_init_0 7 rfl rfl)
theorem dX6_init_9 : decode cX6_init 9 = .ok (.putfield 9, 3) := dk_181 0 9 (dk_at dksX6_init_0 9 rfl rfl)
theorem dX6_init_12 : decode cX6_init 12 = .ok (.aload_n 0, 1) := dk_42 (dk_at dksX6_init_0 12 rfl rfl)
theorem dX6_init_13 : decode cX6_init 13 = .ok (.aload_n 1, 1) := dk_43 (dk_at dksX6_init_0 13 rfl rfl)
theorem dX6_init_14 : decode cX6_init 14 = .ok (.putfield 15, 3) := dk_181 0 15 (dk_at dksX6_init_0 14 rfl rfl)
theorem dX6_init_17 : decode cX6_init 17 = .ok (.aload_n 0, 1) := dk_42 (dk_at dksX6_init_0 17 rfl rfl)
theorem dX6_init_18 : decode cX6_init 18 = .ok (.iload_n 2, 1) := dk_28 (dk_at dksX6_init_0 18 rfl rfl)
theorem dX6_init_19 : decode cX6_init 19 = .ok (.putfield 19, 3) := dk_181 0 19 (dk_at dksX6_init_0 19 rfl rfl)
theorem dX6_init_22 : decode cX6_init 22 = .ok (.aload_n 0, 1) := dk_42 (dk_at dksX6_init_0 22 rfl rfl)
theorem dX6_init_23 : decode cX6_init 23 = .ok (.iload_n 3, 1) := dk_29 (dk_at dksX6_init_0 23 rfl rfl)
theorem dX6_init_24 : decode cX6_init 24 = .ok (.putfield 23, 3) := dk_181 0 23 (dk_at dksX6_init_1 0 rfl rfl)
theorem dX6_init_27 : decode cX6_init 27 = .ok (.aload_n 0, 1) := dk_42 (dk_at dksX6_init_1 3 rfl rfl)
theorem dX6_init_28 : decode cX6_init 28 = .ok (.iload 4, 2) := dk_21 4 (dk_at dksX6_init_1 4 rfl rfl)
theorem dX6_init_30 : decode cX6_init 30 = .ok (.putfield 26, 3) := dk_181 0 26 (dk_at dksX6_init_1 6 rfl rfl)
theorem dX6_init_33 : decode cX6_init 33 = .ok (.return_, 1) := dk_177 (dk_at dksX6_init_1 9 rfl rfl)
abbrev cX6_add : ByteArray := prog_17_method_2_code
def yX6_add : MethodName := ⟨RX6, "add", "(I)I"⟩
def dkwX6_add_1 : List UInt8 := [172]
abbrev dktX6_add_1 : List UInt8 := dkwX6_add_1 ++ []
def dkwX6_add_0 : List UInt8 := [42, 180, 0, 9, 42, 180, 0, 29, 27, 79, 42, 89, 180, 0, 29, 4, 96, 181, 0, 29, 42, 180, 0, 29]
abbrev dktX6_add_0 : List UInt8 := dkwX6_add_0 ++ dktX6_add_1
theorem dksX6_add_0 : cX6_add.data.toList.drop 0 = dktX6_add_0 := by decide +kernel
theorem dksX6_add_1 : cX6_add.data.toList.drop 24 = dktX6_add_1 := dk_seg dksX6_add_0 24 rfl rfl
theorem dX6_add_0 : decode cX6_add 0 = .ok (.aload_n 0, 1) := dk_42 (dk_at dksX6_add_0 0 rfl rfl)
theorem dX6_add_1 : decode cX6_add 1 = .ok (.getfield 9, 3) := dk_180 0 9 (dk_at dksX6_add_0 1 rfl rfl)
theorem dX6_add_4 : decode cX6_add 4 = .ok (.aload_n 0, 1) := dk_42 (dk_at dksX6_add_0 4 rfl rfl)
theorem dX6_add_5 : decode cX6_add 5 = .ok (.getfield 29, 3) := dk_180 0 29 (dk_at dksX6_add_0 5 rfl rfl)
theorem dX6_add_8 : decode cX6_add 8 = .ok (.iload_n 1, 1) := dk_27 (dk_at dksX6_add_0 8 rfl rfl)
theorem dX6_add_9 : decode cX6_add 9 = .ok (.iastore, 1) := dk_79 (dk_at dksX6_add_0 9 rfl rfl)
theorem dX6_add_10 : decode cX6_add 10 = .ok (.aload_n 0, 1) := dk_42 (dk_at dksX6_add_0 10 rfl rfl)
theorem dX6_add_11 : decode cX6_add 11 = .ok (.dup, 1) := dk_89 (dk_at dksX6_add_0 11 rfl rfl)
theorem dX6_add_12 : decode cX6_add 12 = .ok (.getfield 29, 3) := dk_180 0 29 (dk_at dksX6_add_0 12 rfl rfl)
theorem dX6_add_15 : decode cX6_add 15 = .ok (.iconst 1, 1) := dk_4 (dk_at dksX6_add_0 15 rfl rfl)
theorem dX6_add_16 : decode cX6_add 16 = .ok (.iadd, 1) := dk_96 (dk_at dksX6_add_0 16 rfl rfl)
theorem dX6_add_17 : decode cX6_add 17 = .ok (.putfield 29, 3) := dk_181 0 29 (dk_at dksX6_add_0 17 rfl rfl)
theorem dX6_add_20 : decode cX6_add 20 = .ok (.aload_n 0, 1) := dk_42 (dk_at dksX6_add_0 20 rfl rfl)
theorem dX6_add_21 : decode cX6_add 21 = .ok (.getfield 29, 3) := dk_180 0 29 (dk_at dksX6_add_0 21 rfl rfl)
theorem dX6_add_24 : decode cX6_add 24 = .ok (.ireturn, 1) := dk_172 (dk_at dksX6_add_1 0 rfl rfl)
abbrev cX6_copy : ByteArray := prog_17_method_4_code
def yX6_copy : MethodName := ⟨RX6, "copy", "()LTrackArray$Source;"⟩
def dkwX6_copy_2 : List UInt8 := [181, 0, 29, 43, 176]
abbrev dktX6_copy_2 : List UInt8 := dkwX6_copy_2 ++ []
def dkwX6_copy_1 : List UInt8 := [42, 180, 0, 9, 3, 43, 180, 0, 9, 3, 42, 180, 0, 29, 184, 0, 35, 43, 42, 180, 0, 29]
abbrev dktX6_copy_1 : List UInt8 := dkwX6_copy_1 ++ dktX6_copy_2
def dkwX6_copy_0 : List UInt8 := [187, 0, 10, 89, 42, 180, 0, 15, 42, 180, 0, 19, 42, 180, 0, 23, 42, 180, 0, 26, 183, 0, 32, 76]
abbrev dktX6_copy_0 : List UInt8 := dkwX6_copy_0 ++ dktX6_copy_1
theorem dksX6_copy_0 : cX6_copy.data.toList.drop 0 = dktX6_copy_0 := by decide +kernel
theorem dksX6_copy_1 : cX6_copy.data.toList.drop 24 = dktX6_copy_1 := dk_seg dksX6_copy_0 24 rfl rfl
theorem dksX6_copy_2 : cX6_copy.data.toList.drop 46 = dktX6_copy_2 := dk_seg dksX6_copy_1 22 rfl rfl
theorem dX6_copy_0 : decode cX6_copy 0 = .ok (.new 10, 3) := dk_187 0 10 (dk_at dksX6_copy_0 0 rfl rfl)
theorem dX6_copy_3 : decode cX6_copy 3 = .ok (.dup, 1) := dk_89 (dk_at dksX6_copy_0 3 rfl rfl)
theorem dX6_copy_4 : decode cX6_copy 4 = .ok (.aload_n 0, 1) := dk_42 (dk_at dksX6_copy_0 4 rfl rfl)
theorem dX6_copy_5 : decode cX6_copy 5 = .ok (.getfield 15, 3) := dk_180 0 15 (dk_at dksX6_copy_0 5 rfl rfl)
theorem dX6_copy_8 : decode cX6_copy 8 = .ok (.aload_n 0, 1) := dk_42 (dk_at dksX6_copy_0 8 rfl rfl)
theorem dX6_copy_9 : decode cX6_copy 9 = .ok (.getfield 19, 3) := dk_180 0 19 (dk_at dksX6_copy_0 9 rfl rfl)
theorem dX6_copy_12 : decode cX6_copy 12 = .ok (.aload_n 0, 1) := dk_42 (dk_at dksX6_copy_0 12 rfl rfl)
theorem dX6_copy_13 : decode cX6_copy 13 = .ok (.getfield 23, 3) := dk_180 0 23 (dk_at dksX6_copy_0 13 rfl rfl)
theorem dX6_copy_16 : decode cX6_copy 16 = .ok (.aload_n 0, 1) := dk_42 (dk_at dksX6_copy_0 16 rfl rfl)
theorem dX6_copy_17 : decode cX6_copy 17 = .ok (.getfield 26, 3) := dk_180 0 26 (dk_at dksX6_copy_0 17 rfl rfl)
theorem dX6_copy_20 : decode cX6_copy 20 = .ok (.invokespecial 32, 3) := dk_183 0 32 (dk_at dksX6_copy_0 20 rfl rfl)
theorem dX6_copy_23 : decode cX6_copy 23 = .ok (.astore_n 1, 1) := dk_76 (dk_at dksX6_copy_0 23 rfl rfl)
theorem dX6_copy_24 : decode cX6_copy 24 = .ok (.aload_n 0, 1) := dk_42 (dk_at dksX6_copy_1 0 rfl rfl)
theorem dX6_copy_25 : decode cX6_copy 25 = .ok (.getfield 9, 3) := dk_180 0 9 (dk_at dksX6_copy_1 1 rfl rfl)
theorem dX6_copy_28 : decode cX6_copy 28 = .ok (.iconst 0, 1) := dk_3 (dk_at dksX6_copy_1 4 rfl rfl)
theorem dX6_copy_29 : decode cX6_copy 29 = .ok (.aload_n 1, 1) := dk_43 (dk_at dksX6_copy_1 5 rfl rfl)
theorem dX6_copy_30 : decode cX6_copy 30 = .ok (.getfield 9, 3) := dk_180 0 9 (dk_at dksX6_copy_1 6 rfl rfl)
theorem dX6_copy_33 : decode cX6_copy 33 = .ok (.iconst 0, 1) := dk_3 (dk_at dksX6_copy_1 9 rfl rfl)
theorem dX6_copy_34 : decode cX6_copy 34 = .ok (.aload_n 0, 1) := dk_42 (dk_at dksX6_copy_1 10 rfl rfl)
theorem dX6_copy_35 : decode cX6_copy 35 = .ok (.getfield 29, 3) := dk_180 0 29 (dk_at dksX6_copy_1 11 rfl rfl)
theorem dX6_copy_38 : decode cX6_copy 38 = .ok (.invokestatic 35, 3) := dk_184 0 35 (dk_at dksX6_copy_1 14 rfl rfl)
theorem dX6_copy_41 : decode cX6_copy 41 = .ok (.aload_n 1, 1) := dk_43 (dk_at dksX6_copy_1 17 rfl rfl)
theorem dX6_copy_42 : decode cX6_copy 42 = .ok (.aload_n 0, 1) := dk_42 (dk_at dksX6_copy_1 18 rfl rfl)
theorem dX6_copy_43 : decode cX6_copy 43 = .ok (.getfield 29, 3) := dk_180 0 29 (dk_at dksX6_copy_1 19 rfl rfl)
theorem dX6_copy_46 : decode cX6_copy 46 = .ok (.putfield 29, 3) := dk_181 0 29 (dk_at dksX6_copy_2 0 rfl rfl)
theorem dX6_copy_49 : decode cX6_copy 49 = .ok (.aload_n 1, 1) := dk_43 (dk_at dksX6_copy_2 3 rfl rfl)
theorem dX6_copy_50 : decode cX6_copy 50 = .ok (.areturn, 1) := dk_176 (dk_at dksX6_copy_2 4 rfl rfl)
theorem q111 : (Jvm.Cond.initialized "TrackArray$Source") ∈ lw_all := lw_g (lw_at lw_m1 29 rfl) rfl
theorem q743 : (Jvm.Cond.instanceMethod ({ cls := "TrackArray$Source", name := "emitted", desc := "(I)I" } : Jvm.MethodName)) ∈ lw_all := lw_g (lw_at lw_m3 181 rfl) rfl
theorem q744 : (Jvm.Cond.selects "TrackArray$Source" ({ cls := "TrackArray$Source", name := "emitted", desc := "(I)I" } : Jvm.MethodName) ({ cls := "TrackArray$Source", name := "emitted", desc := "(I)I" } : Jvm.MethodName)) ∈ lw_all := lw_g (lw_at lw_m3 182 rfl) rfl
theorem q745 : (Jvm.Cond.code ({ cls := "TrackArray$Source", name := "emitted", desc := "(I)I" } : Jvm.MethodName) prog_17_method_3_code (2 : Nat) (Option.some Jvm.ClassFile.FieldType.int)) ∈ lw_all := lw_g (lw_at lw_m3 183 rfl) rfl
theorem q1081 : (Jvm.Cond.selects "TrackArray$Source" ({ cls := "java/lang/Object", name := "getClass", desc := "()Ljava/lang/Class;" } : Jvm.MethodName) ({ cls := "java/lang/Object", name := "getClass", desc := "()Ljava/lang/Class;" } : Jvm.MethodName)) ∈ lw_all := lw_g (lw_at lw_m5 39 rfl) rfl
theorem q1137 : (Jvm.Cond.instantiable "TrackArray$Source" (6 : Nat)) ∈ lw_all := lw_g (lw_at lw_m5 95 rfl) rfl
theorem q1151 : (Jvm.Cond.instanceMethod ({ cls := "TrackArray$Source", name := "<init>", desc := "(LTrackArray$Vehicle;III)V" } : Jvm.MethodName)) ∈ lw_all := lw_g (lw_at lw_m5 109 rfl) rfl
theorem q1152 : (Jvm.Cond.code ({ cls := "TrackArray$Source", name := "<init>", desc := "(LTrackArray$Vehicle;III)V" } : Jvm.MethodName) prog_17_method_1_code (5 : Nat) (Option.none : Option Jvm.ClassFile.FieldType)) ∈ lw_all := lw_g (lw_at lw_m5 110 rfl) rfl
theorem q1153 : (Jvm.Cond.methodLink "TrackArray$Source" (3 : Nat) ({ cls := "java/lang/Object", name := "<init>", desc := "()V" } : Jvm.MethodName)) ∈ lw_all := lw_g (lw_at lw_m5 111 rfl) rfl
theorem q1154 : (Jvm.Cond.fieldLink "TrackArray$Source" (15 : Nat) "TrackArray$Source" "vehicle" "LTrackArray$Vehicle;") ∈ lw_all := lw_g (lw_at lw_m5 112 rfl) rfl
theorem q1156 : (Jvm.Cond.fieldLink "TrackArray$Source" (19 : Nat) "TrackArray$Source" "offset" "I") ∈ lw_all := lw_g (lw_at lw_m5 114 rfl) rfl
theorem q1158 : (Jvm.Cond.fieldLink "TrackArray$Source" (23 : Nat) "TrackArray$Source" "height" "I") ∈ lw_all := lw_g (lw_at lw_m5 116 rfl) rfl
theorem q1160 : (Jvm.Cond.fieldLink "TrackArray$Source" (26 : Nat) "TrackArray$Source" "strength" "I") ∈ lw_all := lw_g (lw_at lw_m5 118 rfl) rfl
theorem q1161 : (Jvm.Cond.fieldLink "TrackArray$Source" (9 : Nat) "TrackArray$Source" "values" "[I") ∈ lw_all := lw_g (lw_at lw_m5 119 rfl) rfl
theorem q1162 : (Jvm.Cond.fieldLink "TrackArray$Source" (29 : Nat) "TrackArray$Source" "length" "I") ∈ lw_all := lw_g (lw_at lw_m5 120 rfl) rfl
theorem q1165 : (Jvm.Cond.laysFinal "TrackArray$Source" "TrackArray$Source" "vehicle" "LTrackArray$Vehicle;") ∈ lw_all := lw_g (lw_at lw_m5 123 rfl) rfl
theorem q1166 : (Jvm.Cond.soleField "TrackArray$Source" "vehicle") ∈ lw_all := lw_g (lw_at lw_m5 124 rfl) rfl
theorem q1167 : (Jvm.Cond.laysFinal "TrackArray$Source" "TrackArray$Source" "offset" "I") ∈ lw_all := lw_g (lw_at lw_m5 125 rfl) rfl
theorem q1168 : (Jvm.Cond.soleField "TrackArray$Source" "offset") ∈ lw_all := lw_g (lw_at lw_m5 126 rfl) rfl
theorem q1169 : (Jvm.Cond.laysFinal "TrackArray$Source" "TrackArray$Source" "height" "I") ∈ lw_all := lw_g (lw_at lw_m5 127 rfl) rfl
theorem q1170 : (Jvm.Cond.soleField "TrackArray$Source" "height") ∈ lw_all := lw_g (lw_at lw_m5 128 rfl) rfl
theorem q1171 : (Jvm.Cond.laysFinal "TrackArray$Source" "TrackArray$Source" "strength" "I") ∈ lw_all := lw_g (lw_at lw_m5 129 rfl) rfl
theorem q1172 : (Jvm.Cond.soleField "TrackArray$Source" "strength") ∈ lw_all := lw_g (lw_at lw_m5 130 rfl) rfl
theorem q1173 : (Jvm.Cond.laysFinal "TrackArray$Source" "TrackArray$Source" "values" "[I") ∈ lw_all := lw_g (lw_at lw_m5 131 rfl) rfl
theorem q1174 : (Jvm.Cond.soleField "TrackArray$Source" "values") ∈ lw_all := lw_g (lw_at lw_m5 132 rfl) rfl
theorem q1175 : (Jvm.Cond.lays "TrackArray$Source" "TrackArray$Source" "length" "I") ∈ lw_all := lw_g (lw_at lw_m5 133 rfl) rfl
theorem q1176 : (Jvm.Cond.soleField "TrackArray$Source" "length") ∈ lw_all := lw_g (lw_at lw_m5 134 rfl) rfl
theorem q1177 : (Jvm.Cond.superclass "TrackArray$Source" "java/lang/Object") ∈ lw_all := lw_g (lw_at lw_m5 135 rfl) rfl
theorem q1179 : (Jvm.Cond.instanceMethod ({ cls := "TrackArray$Source", name := "add", desc := "(I)I" } : Jvm.MethodName)) ∈ lw_all := lw_g (lw_at lw_m5 137 rfl) rfl
theorem q1180 : (Jvm.Cond.selects "TrackArray$Source" ({ cls := "TrackArray$Source", name := "add", desc := "(I)I" } : Jvm.MethodName) ({ cls := "TrackArray$Source", name := "add", desc := "(I)I" } : Jvm.MethodName)) ∈ lw_all := lw_g (lw_at lw_m5 138 rfl) rfl
theorem q1181 : (Jvm.Cond.code ({ cls := "TrackArray$Source", name := "add", desc := "(I)I" } : Jvm.MethodName) prog_17_method_2_code (2 : Nat) (Option.some Jvm.ClassFile.FieldType.int)) ∈ lw_all := lw_g (lw_at lw_m5 139 rfl) rfl
theorem q1830 : (Jvm.Cond.instanceMethod ({ cls := "TrackArray$Source", name := "copy", desc := "()LTrackArray$Source;" } : Jvm.MethodName)) ∈ lw_all := lw_g (lw_at lw_m8 68 rfl) rfl
theorem q1831 : (Jvm.Cond.selects "TrackArray$Source" ({ cls := "TrackArray$Source", name := "copy", desc := "()LTrackArray$Source;" } : Jvm.MethodName) ({ cls := "TrackArray$Source", name := "copy", desc := "()LTrackArray$Source;" } : Jvm.MethodName)) ∈ lw_all := lw_g (lw_at lw_m8 69 rfl) rfl
theorem q1832 : (Jvm.Cond.code ({ cls := "TrackArray$Source", name := "copy", desc := "()LTrackArray$Source;" } : Jvm.MethodName) prog_17_method_4_code (2 : Nat) (Option.some (Jvm.ClassFile.FieldType.object "TrackArray$Source"))) ∈ lw_all := lw_g (lw_at lw_m8 70 rfl) rfl
theorem q1833 : (Jvm.Cond.classLink "TrackArray$Source" (10 : Nat) "TrackArray$Source") ∈ lw_all := lw_g (lw_at lw_m8 71 rfl) rfl
theorem q1834 : (Jvm.Cond.methodLink "TrackArray$Source" (32 : Nat) ({ cls := "TrackArray$Source", name := "<init>", desc := "(LTrackArray$Vehicle;III)V" } : Jvm.MethodName)) ∈ lw_all := lw_g (lw_at lw_m8 72 rfl) rfl
theorem q1835 : (Jvm.Cond.methodLink "TrackArray$Source" (35 : Nat) ({ cls := "java/lang/System", name := "arraycopy", desc := "(Ljava/lang/Object;ILjava/lang/Object;II)V" } : Jvm.MethodName)) ∈ lw_all := lw_g (lw_at lw_m8 73 rfl) rfl
theorem q2438 : (Jvm.Cond.castable "TrackArray$Source" "java/lang/Object") ∈ lw_tbl := lw_at lw_m10 196 rfl
theorem in_X6 : ∀ w ∈ wsX60, w ∈ lw_all := lw_in wsX60 [1165, 1167, 1169, 1171, 1173, 1175] (by decide +kernel) (by decide +kernel)
/-! TrackArray$Microphone -/
set_option maxRecDepth 100000
def RX7 : String := "TrackArray$Microphone"
def TX7 : u_T := fun k => match k with
  | 0 => ("TrackArray$Microphone", "x", "I", true)
  | 1 => ("TrackArray$Microphone", "y", "I", true)
  | 2 => ("TrackArray$Microphone", "height", "I", true)
  | 3 => ("TrackArray$Microphone", "weight", "I", false)
  | _ => ("TrackArray$Microphone", "record", "[I", false)
def tyX7 : Nat → FieldType := fun k => match k with
  | 0 => .int
  | 1 => .int
  | 2 => .int
  | 3 => .int
  | _ => .array .int
abbrev wsX70 : List Cond := u_ws RX7 TX7 5
theorem nmX7 : ∀ a, a < 5 → ∀ b, b < 5 → a ≠ b → (TX7 a).2.1 ≠ (TX7 b).2.1 := by decide +kernel
theorem tyX7_ok : ∀ k, k < 5 → parseFieldDescriptor (TX7 k).2.2.1 = some (tyX7 k) := by decide +kernel
abbrev cX7_distance : ByteArray := prog_11_method_4_code
def yX7_distance : MethodName := ⟨RX7, "distance", "(LTrackArray$Place;IZ)I"⟩
def dkwX7_distance_3 : List UInt8 := [22, 8, 22, 8, 105, 97, 184, 0, 52, 172]
abbrev dktX7_distance_3 : List UInt8 := dkwX7_distance_3 ++ []
def dkwX7_distance_2 : List UInt8 := [185, 0, 50, 1, 0, 42, 180, 0, 22, 100, 133, 55, 8, 22, 4, 22, 4, 105, 22, 6, 22, 6, 105, 97]
abbrev dktX7_distance_2 : List UInt8 := dkwX7_distance_2 ++ dktX7_distance_3
def dkwX7_distance_1 : List UInt8 := [180, 0, 19, 100, 133, 55, 6, 29, 153, 0, 13, 43, 185, 0, 50, 1, 0, 116, 167, 0, 9, 43]
abbrev dktX7_distance_1 : List UInt8 := dkwX7_distance_1 ++ dktX7_distance_2
def dkwX7_distance_0 : List UInt8 := [43, 28, 185, 0, 42, 2, 0, 42, 180, 0, 15, 100, 133, 55, 4, 43, 185, 0, 47, 1, 0, 42]
abbrev dktX7_distance_0 : List UInt8 := dkwX7_distance_0 ++ dktX7_distance_1
theorem dksX7_distance_0 : cX7_distance.data.toList.drop 0 = dktX7_distance_0 := by decide +kernel
theorem dksX7_distance_1 : cX7_distance.data.toList.drop 22 = dktX7_distance_1 := dk_seg dksX7_distance_0 22 rfl rfl
theorem dksX7_distance_2 : cX7_distance.data.toList.drop 44 = dktX7_distance_2 := dk_seg dksX7_distance_1 22 rfl rfl
theorem dksX7_distance_3 : cX7_distance.data.toList.drop 68 = dktX7_distance_3 := dk_seg dksX7_distance_2 24 rfl rfl
theorem dX7_distance_0 : decode cX7_distance 0 = .ok (.aload_n 1, 1) := dk_43 (dk_at dksX7_distance_0 0 rfl rfl)
theorem dX7_distance_1 : decode cX7_distance 1 = .ok (.iload_n 2, 1) := dk_28 (dk_at dksX7_distance_0 1 rfl rfl)
theorem dX7_distance_2 : decode cX7_distance 2 = .ok (.invokeinterface 42 2, 5) := by decide +kernel
theorem dX7_distance_7 : decode cX7_distance 7 = .ok (.aload_n 0, 1) := dk_42 (dk_at dksX7_distance_0 7 rfl rfl)
theorem dX7_distance_8 : decode cX7_distance 8 = .ok (.getfield 15, 3) := dk_180 0 15 (dk_at dksX7_distance_0 8 rfl rfl)
theorem dX7_distance_11 : decode cX7_distance 11 = .ok (.isub, 1) := dk_100 (dk_at dksX7_distance_0 11 rfl rfl)
theorem dX7_distance_12 : decode cX7_distance 12 = .ok (.i2l, 1) := dk_133 (dk_at dksX7_distance_0 12 rfl rfl)
theorem dX7_distance_13 : decode cX7_distance 13 = .ok (.lstore 4, 2) := dk_55 4 (dk_at dksX7_distance_0 13 rfl rfl)
theorem dX7_distance_15 : decode cX7_distance 15 = .ok (.aload_n 1, 1) := dk_43 (dk_at dksX7_distance_0 15 rfl rfl)
theorem dX7_distance_16 : decode cX7_distance 16 = .ok (.invokeinterface 47 1, 5) := by decide +kernel
theorem dX7_distance_21 : decode cX7_distance 21 = .ok (.aload_n 0, 1) := dk_42 (dk_at dksX7_distance_0 21 rfl rfl)
theorem dX7_distance_22 : decode cX7_distance 22 = .ok (.getfield 19, 3) := dk_180 0 19 (dk_at dksX7_distance_1 0 rfl rfl)
theorem dX7_distance_25 : decode cX7_distance 25 = .ok (.isub, 1) := dk_100 (dk_at dksX7_distance_1 3 rfl rfl)
theorem dX7_distance_26 : decode cX7_distance 26 = .ok (.i2l, 1) := dk_133 (dk_at dksX7_distance_1 4 rfl rfl)
theorem dX7_distance_27 : decode cX7_distance 27 = .ok (.lstore 6, 2) := dk_55 6 (dk_at dksX7_distance_1 5 rfl rfl)
theorem dX7_distance_29 : decode cX7_distance 29 = .ok (.iload_n 3, 1) := dk_29 (dk_at dksX7_distance_1 7 rfl rfl)
theorem dX7_distance_30 : decode cX7_distance 30 = .ok (.ifCond .eq 13, 3) := dk_153 0 13 (dk_at dksX7_distance_1 8 rfl rfl)
theorem dX7_distance_33 : decode cX7_distance 33 = .ok (.aload_n 1, 1) := dk_43 (dk_at dksX7_distance_1 11 rfl rfl)
theorem dX7_distance_34 : decode cX7_distance 34 = .ok (.invokeinterface 50 1, 5) := by decide +kernel
theorem dX7_distance_39 : decode cX7_distance 39 = .ok (.ineg, 1) := dk_116 (dk_at dksX7_distance_1 17 rfl rfl)
theorem dX7_distance_40 : decode cX7_distance 40 = .ok (.goto 9, 3) := dk_167 0 9 (dk_at dksX7_distance_1 18 rfl rfl)
theorem dX7_distance_43 : decode cX7_distance 43 = .ok (.aload_n 1, 1) := dk_43 (dk_at dksX7_distance_1 21 rfl rfl)
theorem dX7_distance_44 : decode cX7_distance 44 = .ok (.invokeinterface 50 1, 5) := by decide +kernel
theorem dX7_distance_49 : decode cX7_distance 49 = .ok (.aload_n 0, 1) := dk_42 (dk_at dksX7_distance_2 5 rfl rfl)
theorem dX7_distance_50 : decode cX7_distance 50 = .ok (.getfield 22, 3) := dk_180 0 22 (dk_at dksX7_distance_2 6 rfl rfl)
theorem dX7_distance_53 : decode cX7_distance 53 = .ok (.isub, 1) := dk_100 (dk_at dksX7_distance_2 9 rfl rfl)
theorem dX7_distance_54 : decode cX7_distance 54 = .ok (.i2l, 1) := dk_133 (dk_at dksX7_distance_2 10 rfl rfl)
theorem dX7_distance_55 : decode cX7_distance 55 = .ok (.lstore 8, 2) := dk_55 8 (dk_at dksX7_distance_2 11 rfl rfl)
theorem dX7_distance_57 : decode cX7_distance 57 = .ok (.lload 4, 2) := dk_22 4 (dk_at dksX7_distance_2 13 rfl rfl)
theorem dX7_distance_59 : decode cX7_distance 59 = .ok (.lload 4, 2) := dk_22 4 (dk_at dksX7_distance_2 15 rfl rfl)
theorem dX7_distance_61 : decode cX7_distance 61 = .ok (.lmul, 1) := dk_105 (dk_at dksX7_distance_2 17 rfl rfl)
theorem dX7_distance_62 : decode cX7_distance 62 = .ok (.lload 6, 2) := dk_22 6 (dk_at dksX7_distance_2 18 rfl rfl)
theorem dX7_distance_64 : decode cX7_distance 64 = .ok (.lload 6, 2) := dk_22 6 (dk_at dksX7_distance_2 20 rfl rfl)
theorem dX7_distance_66 : decode cX7_distance 66 = .ok (.lmul, 1) := dk_105 (dk_at dksX7_distance_2 22 rfl rfl)
theorem dX7_distance_67 : decode cX7_distance 67 = .ok (.ladd, 1) := dk_97 (dk_at dksX7_distance_2 23 rfl rfl)
theorem dX7_distance_68 : decode cX7_distance 68 = .ok (.lload 8, 2) := dk_22 8 (dk_at dksX7_distance_3 0 rfl rfl)
theorem dX7_distance_70 : decode cX7_distance 70 = .ok (.lload 8, 2) := dk_22 8 (dk_at dksX7_distance_3 2 rfl rfl)
theorem dX7_distance_72 : decode cX7_distance 72 = .ok (.lmul, 1) := dk_105 (dk_at dksX7_distance_3 4 rfl rfl)
theorem dX7_distance_73 : decode cX7_distance 73 = .ok (.ladd, 1) := dk_97 (dk_at dksX7_distance_3 5 rfl rfl)
theorem dX7_distance_74 : decode cX7_distance 74 = .ok (.invokestatic 52, 3) := dk_184 0 52 (dk_at dksX7_distance_3 6 rfl rfl)
theorem dX7_distance_77 : decode cX7_distance 77 = .ok (.ireturn, 1) := dk_172 (dk_at dksX7_distance_3 9 rfl rfl)
abbrev cX7_init : ByteArray := prog_11_method_1_code
def yX7_init : MethodName := ⟨RX7, "<init>", "(IIII)V"⟩
def dkwX7_init_1 : List UInt8 := [29, 181, 0, 22, 42, 21, 4, 181, 0, 25, 177]
abbrev dktX7_init_1 : List UInt8 := dkwX7_init_1 ++ []
def dkwX7_init_0 : List UInt8 := [42, 183, 0, 3, 42, 17, 1, 0, 188, 10, 181, 0, 9, 42, 27, 181, 0, 15, 42, 28, 181, 0, 19, 42]
abbrev dktX7_init_0 : List UInt8 := dkwX7_init_0 ++ dktX7_init_1
theorem dksX7_init_0 : cX7_init.data.toList.drop 0 = dktX7_init_0 := by decide +kernel
theorem dksX7_init_1 : cX7_init.data.toList.drop 24 = dktX7_init_1 := dk_seg dksX7_init_0 24 rfl rfl
theorem dX7_init_0 : decode cX7_init 0 = .ok (.aload_n 0, 1) := dk_42 (dk_at dksX7_init_0 0 rfl rfl)
theorem dX7_init_1 : decode cX7_init 1 = .ok (.invokespecial 3, 3) := dk_183 0 3 (dk_at dksX7_init_0 1 rfl rfl)
theorem dX7_init_4 : decode cX7_init 4 = .ok (.aload_n 0, 1) := dk_42 (dk_at dksX7_init_0 4 rfl rfl)
theorem dX7_init_5 : decode cX7_init 5 = .ok (.sipush 256, 3) := dk_17 1 0 (dk_at dksX7_init_0 5 rfl rfl)
theorem dX7_init_8 : decode cX7_init 8 = .ok (.newarray .int, 2) := dk_188_10 (dk_at dksX7_init_0 8 rfl rfl)
theorem dX7_init_10 : decode cX7_init 10 = .ok (.putfield 9, 3) := dk_181 0 9 (dk_at dksX7_init_0 10 rfl rfl)
theorem dX7_init_13 : decode cX7_init 13 = .ok (.aload_n 0, 1) := dk_42 (dk_at dksX7_init_0 13 rfl rfl)
theorem dX7_init_14 : decode cX7_init 14 = .ok (.iload_n 1, 1) := dk_27 (dk_at dksX7_init_0 14 rfl rfl)
theorem dX7_init_15 : decode cX7_init 15 = .ok (.putfield 15, 3) := dk_181 0 15 (dk_at dksX7_init_0 15 rfl rfl)
theorem dX7_init_18 : decode cX7_init 18 = .ok (.aload_n 0, 1) := dk_42 (dk_at dksX7_init_0 18 rfl rfl)
theorem dX7_init_19 : decode cX7_init 19 = .ok (.iload_n 2, 1) := dk_28 (dk_at dksX7_init_0 19 rfl rfl)
theorem dX7_init_20 : decode cX7_init 20 = .ok (.putfield 19, 3) := dk_181 0 19 (dk_at dksX7_init_0 20 rfl rfl)
theorem dX7_init_23 : decode cX7_init 23 = .ok (.aload_n 0, 1) := dk_42 (dk_at dksX7_init_0 23 rfl rfl)
theorem dX7_init_24 : decode cX7_init 24 = .ok (.iload_n 3, 1) := dk_29 (dk_at dksX7_init_1 0 rfl rfl)
theorem dX7_init_25 : decode cX7_init 25 = .ok (.putfield 22, 3) := dk_181 0 22 (dk_at dksX7_init_1 1 rfl rfl)
theorem dX7_init_28 : decode cX7_init 28 = .ok (.aload_n 0, 1) := dk_42 (dk_at dksX7_init_1 4 rfl rfl)
theorem dX7_init_29 : decode cX7_init 29 = .ok (.iload 4, 2) := dk_21 4 (dk_at dksX7_init_1 5 rfl rfl)
theorem dX7_init_31 : decode cX7_init 31 = .ok (.putfield 25, 3) := dk_181 0 25 (dk_at dksX7_init_1 7 rfl rfl)
theorem dX7_init_34 : decode cX7_init 34 = .ok (.return_, 1) := dk_177 (dk_at dksX7_init_1 10 rfl rfl)
abbrev cX7_at : ByteArray := prog_11_method_3_code
def yX7_at : MethodName := ⟨RX7, "at", "(I)I"⟩
def dkwX7_at_0 : List UInt8 := [27, 133, 9, 20, 0, 36, 184, 0, 38, 153, 0, 12, 42, 180, 0, 9, 27, 46, 167, 0, 4, 3, 172]
abbrev dktX7_at_0 : List UInt8 := dkwX7_at_0 ++ []
theorem dksX7_at_0 : cX7_at.data.toList.drop 0 = dktX7_at_0 := by decide +kernel
theorem dX7_at_0 : decode cX7_at 0 = .ok (.iload_n 1, 1) := dk_27 (dk_at dksX7_at_0 0 rfl rfl)
theorem dX7_at_1 : decode cX7_at 1 = .ok (.i2l, 1) := dk_133 (dk_at dksX7_at_0 1 rfl rfl)
theorem dX7_at_2 : decode cX7_at 2 = .ok (.lconst 0, 1) := dk_9 (dk_at dksX7_at_0 2 rfl rfl)
theorem dX7_at_3 : decode cX7_at 3 = .ok (.ldc2_w 36, 3) := dk_20 0 36 (dk_at dksX7_at_0 3 rfl rfl)
theorem dX7_at_6 : decode cX7_at 6 = .ok (.invokestatic 38, 3) := dk_184 0 38 (dk_at dksX7_at_0 6 rfl rfl)
theorem dX7_at_9 : decode cX7_at 9 = .ok (.ifCond .eq 12, 3) := dk_153 0 12 (dk_at dksX7_at_0 9 rfl rfl)
theorem dX7_at_12 : decode cX7_at 12 = .ok (.aload_n 0, 1) := dk_42 (dk_at dksX7_at_0 12 rfl rfl)
theorem dX7_at_13 : decode cX7_at 13 = .ok (.getfield 9, 3) := dk_180 0 9 (dk_at dksX7_at_0 13 rfl rfl)
theorem dX7_at_16 : decode cX7_at 16 = .ok (.iload_n 1, 1) := dk_27 (dk_at dksX7_at_0 16 rfl rfl)
theorem dX7_at_17 : decode cX7_at 17 = .ok (.iaload, 1) := dk_46 (dk_at dksX7_at_0 17 rfl rfl)
theorem dX7_at_18 : decode cX7_at 18 = .ok (.goto 4, 3) := dk_167 0 4 (dk_at dksX7_at_0 18 rfl rfl)
theorem dX7_at_21 : decode cX7_at 21 = .ok (.iconst 0, 1) := dk_3 (dk_at dksX7_at_0 21 rfl rfl)
theorem dX7_at_22 : decode cX7_at 22 = .ok (.ireturn, 1) := dk_172 (dk_at dksX7_at_0 22 rfl rfl)
abbrev cX7_copy : ByteArray := prog_11_method_2_code
def yX7_copy : MethodName := ⟨RX7, "copy", "()LTrackArray$Microphone;"⟩
def dkwX7_copy_1 : List UInt8 := [43, 42, 180, 0, 9, 182, 0, 31, 192, 0, 32, 181, 0, 9, 43, 176]
abbrev dktX7_copy_1 : List UInt8 := dkwX7_copy_1 ++ []
def dkwX7_copy_0 : List UInt8 := [187, 0, 10, 89, 42, 180, 0, 15, 42, 180, 0, 19, 42, 180, 0, 22, 42, 180, 0, 25, 183, 0, 28, 76]
abbrev dktX7_copy_0 : List UInt8 := dkwX7_copy_0 ++ dktX7_copy_1
theorem dksX7_copy_0 : cX7_copy.data.toList.drop 0 = dktX7_copy_0 := by decide +kernel
theorem dksX7_copy_1 : cX7_copy.data.toList.drop 24 = dktX7_copy_1 := dk_seg dksX7_copy_0 24 rfl rfl
theorem dX7_copy_0 : decode cX7_copy 0 = .ok (.new 10, 3) := dk_187 0 10 (dk_at dksX7_copy_0 0 rfl rfl)
theorem dX7_copy_3 : decode cX7_copy 3 = .ok (.dup, 1) := dk_89 (dk_at dksX7_copy_0 3 rfl rfl)
theorem dX7_copy_4 : decode cX7_copy 4 = .ok (.aload_n 0, 1) := dk_42 (dk_at dksX7_copy_0 4 rfl rfl)
theorem dX7_copy_5 : decode cX7_copy 5 = .ok (.getfield 15, 3) := dk_180 0 15 (dk_at dksX7_copy_0 5 rfl rfl)
theorem dX7_copy_8 : decode cX7_copy 8 = .ok (.aload_n 0, 1) := dk_42 (dk_at dksX7_copy_0 8 rfl rfl)
theorem dX7_copy_9 : decode cX7_copy 9 = .ok (.getfield 19, 3) := dk_180 0 19 (dk_at dksX7_copy_0 9 rfl rfl)
theorem dX7_copy_12 : decode cX7_copy 12 = .ok (.aload_n 0, 1) := dk_42 (dk_at dksX7_copy_0 12 rfl rfl)
theorem dX7_copy_13 : decode cX7_copy 13 = .ok (.getfield 22, 3) := dk_180 0 22 (dk_at dksX7_copy_0 13 rfl rfl)
theorem dX7_copy_16 : decode cX7_copy 16 = .ok (.aload_n 0, 1) := dk_42 (dk_at dksX7_copy_0 16 rfl rfl)
theorem dX7_copy_17 : decode cX7_copy 17 = .ok (.getfield 25, 3) := dk_180 0 25 (dk_at dksX7_copy_0 17 rfl rfl)
theorem dX7_copy_20 : decode cX7_copy 20 = .ok (.invokespecial 28, 3) := dk_183 0 28 (dk_at dksX7_copy_0 20 rfl rfl)
theorem dX7_copy_23 : decode cX7_copy 23 = .ok (.astore_n 1, 1) := dk_76 (dk_at dksX7_copy_0 23 rfl rfl)
theorem dX7_copy_24 : decode cX7_copy 24 = .ok (.aload_n 1, 1) := dk_43 (dk_at dksX7_copy_1 0 rfl rfl)
theorem dX7_copy_25 : decode cX7_copy 25 = .ok (.aload_n 0, 1) := dk_42 (dk_at dksX7_copy_1 1 rfl rfl)
theorem dX7_copy_26 : decode cX7_copy 26 = .ok (.getfield 9, 3) := dk_180 0 9 (dk_at dksX7_copy_1 2 rfl rfl)
theorem dX7_copy_29 : decode cX7_copy 29 = .ok (.invokevirtual 31, 3) := dk_182 0 31 (dk_at dksX7_copy_1 5 rfl rfl)
theorem dX7_copy_32 : decode cX7_copy 32 = .ok (.checkcast 32, 3) := dk_192 0 32 (dk_at dksX7_copy_1 8 rfl rfl)
theorem dX7_copy_35 : decode cX7_copy 35 = .ok (.putfield 9, 3) := dk_181 0 9 (dk_at dksX7_copy_1 11 rfl rfl)
theorem dX7_copy_38 : decode cX7_copy 38 = .ok (.aload_n 1, 1) := dk_43 (dk_at dksX7_copy_1 14 rfl rfl)
theorem dX7_copy_39 : decode cX7_copy 39 = .ok (.areturn, 1) := dk_176 (dk_at dksX7_copy_1 15 rfl rfl)
theorem q113 : (Jvm.Cond.initialized "TrackArray$Microphone") ∈ lw_all := lw_g (lw_at lw_m1 31 rfl) rfl
theorem q683 : (Jvm.Cond.instanceMethod ({ cls := "TrackArray$Microphone", name := "distance", desc := "(LTrackArray$Place;IZ)I" } : Jvm.MethodName)) ∈ lw_all := lw_g (lw_at lw_m3 121 rfl) rfl
theorem q684 : (Jvm.Cond.selects "TrackArray$Microphone" ({ cls := "TrackArray$Microphone", name := "distance", desc := "(LTrackArray$Place;IZ)I" } : Jvm.MethodName) ({ cls := "TrackArray$Microphone", name := "distance", desc := "(LTrackArray$Place;IZ)I" } : Jvm.MethodName)) ∈ lw_all := lw_g (lw_at lw_m3 122 rfl) rfl
theorem q685 : (Jvm.Cond.code ({ cls := "TrackArray$Microphone", name := "distance", desc := "(LTrackArray$Place;IZ)I" } : Jvm.MethodName) prog_11_method_4_code (10 : Nat) (Option.some Jvm.ClassFile.FieldType.int)) ∈ lw_all := lw_g (lw_at lw_m3 123 rfl) rfl
theorem q686 : (Jvm.Cond.interfaceEntry "TrackArray$Microphone" (42 : Nat)) ∈ lw_tbl := lw_at lw_m3 124 rfl
theorem q687 : (Jvm.Cond.methodLink "TrackArray$Microphone" (42 : Nat) ({ cls := "TrackArray$Place", name := "x", desc := "(I)I" } : Jvm.MethodName)) ∈ lw_all := lw_g (lw_at lw_m3 125 rfl) rfl
theorem q706 : (Jvm.Cond.interfaceEntry "TrackArray$Microphone" (47 : Nat)) ∈ lw_tbl := lw_at lw_m3 144 rfl
theorem q707 : (Jvm.Cond.methodLink "TrackArray$Microphone" (47 : Nat) ({ cls := "TrackArray$Place", name := "y", desc := "()I" } : Jvm.MethodName)) ∈ lw_all := lw_g (lw_at lw_m3 145 rfl) rfl
theorem q724 : (Jvm.Cond.interfaceEntry "TrackArray$Microphone" (50 : Nat)) ∈ lw_tbl := lw_at lw_m3 162 rfl
theorem q725 : (Jvm.Cond.methodLink "TrackArray$Microphone" (50 : Nat) ({ cls := "TrackArray$Place", name := "height", desc := "()I" } : Jvm.MethodName)) ∈ lw_all := lw_g (lw_at lw_m3 163 rfl) rfl
theorem q738 : (Jvm.Cond.methodLinkNest "TrackArray$Microphone" (52 : Nat) ({ cls := "TrackArray", name := "rootOf", desc := "(J)I" } : Jvm.MethodName) "TrackArray") ∈ lw_tbl := lw_at lw_m3 176 rfl
theorem q1018 : (Jvm.Cond.instantiable "TrackArray$Microphone" (5 : Nat)) ∈ lw_all := lw_g (lw_at lw_m4 216 rfl) rfl
theorem q1020 : (Jvm.Cond.instanceMethod ({ cls := "TrackArray$Microphone", name := "<init>", desc := "(IIII)V" } : Jvm.MethodName)) ∈ lw_all := lw_g (lw_at lw_m4 218 rfl) rfl
theorem q1021 : (Jvm.Cond.code ({ cls := "TrackArray$Microphone", name := "<init>", desc := "(IIII)V" } : Jvm.MethodName) prog_11_method_1_code (5 : Nat) (Option.none : Option Jvm.ClassFile.FieldType)) ∈ lw_all := lw_g (lw_at lw_m4 219 rfl) rfl
theorem q1022 : (Jvm.Cond.methodLink "TrackArray$Microphone" (3 : Nat) ({ cls := "java/lang/Object", name := "<init>", desc := "()V" } : Jvm.MethodName)) ∈ lw_all := lw_g (lw_at lw_m4 220 rfl) rfl
theorem q1023 : (Jvm.Cond.fieldLink "TrackArray$Microphone" (15 : Nat) "TrackArray$Microphone" "x" "I") ∈ lw_all := lw_g (lw_at lw_m4 221 rfl) rfl
theorem q1026 : (Jvm.Cond.fieldLink "TrackArray$Microphone" (19 : Nat) "TrackArray$Microphone" "y" "I") ∈ lw_all := lw_g (lw_at lw_m4 224 rfl) rfl
theorem q1027 : (Jvm.Cond.fieldLink "TrackArray$Microphone" (22 : Nat) "TrackArray$Microphone" "height" "I") ∈ lw_all := lw_g (lw_at lw_m4 225 rfl) rfl
theorem q1028 : (Jvm.Cond.fieldLink "TrackArray$Microphone" (25 : Nat) "TrackArray$Microphone" "weight" "I") ∈ lw_all := lw_g (lw_at lw_m4 226 rfl) rfl
theorem q1031 : (Jvm.Cond.fieldLink "TrackArray$Microphone" (9 : Nat) "TrackArray$Microphone" "record" "[I") ∈ lw_all := lw_g (lw_at lw_m4 229 rfl) rfl
theorem q1034 : (Jvm.Cond.laysFinal "TrackArray$Microphone" "TrackArray$Microphone" "x" "I") ∈ lw_all := lw_g (lw_at lw_m4 232 rfl) rfl
theorem q1035 : (Jvm.Cond.soleField "TrackArray$Microphone" "x") ∈ lw_all := lw_g (lw_at lw_m4 233 rfl) rfl
theorem q1036 : (Jvm.Cond.laysFinal "TrackArray$Microphone" "TrackArray$Microphone" "y" "I") ∈ lw_all := lw_g (lw_at lw_m4 234 rfl) rfl
theorem q1037 : (Jvm.Cond.soleField "TrackArray$Microphone" "y") ∈ lw_all := lw_g (lw_at lw_m4 235 rfl) rfl
theorem q1038 : (Jvm.Cond.laysFinal "TrackArray$Microphone" "TrackArray$Microphone" "height" "I") ∈ lw_all := lw_g (lw_at lw_m4 236 rfl) rfl
theorem q1039 : (Jvm.Cond.soleField "TrackArray$Microphone" "height") ∈ lw_all := lw_g (lw_at lw_m4 237 rfl) rfl
theorem q1040 : (Jvm.Cond.lays "TrackArray$Microphone" "TrackArray$Microphone" "weight" "I") ∈ lw_all := lw_g (lw_at lw_m4 238 rfl) rfl
theorem q1041 : (Jvm.Cond.soleField "TrackArray$Microphone" "weight") ∈ lw_all := lw_g (lw_at lw_m4 239 rfl) rfl
theorem q1042 : (Jvm.Cond.lays "TrackArray$Microphone" "TrackArray$Microphone" "record" "[I") ∈ lw_all := lw_g (lw_at lw_m5 0 rfl) rfl
theorem q1043 : (Jvm.Cond.soleField "TrackArray$Microphone" "record") ∈ lw_all := lw_g (lw_at lw_m5 1 rfl) rfl
theorem q1044 : (Jvm.Cond.superclass "TrackArray$Microphone" "java/lang/Object") ∈ lw_all := lw_g (lw_at lw_m5 2 rfl) rfl
theorem q1078 : (Jvm.Cond.selects "TrackArray$Microphone" ({ cls := "java/lang/Object", name := "getClass", desc := "()Ljava/lang/Class;" } : Jvm.MethodName) ({ cls := "java/lang/Object", name := "getClass", desc := "()Ljava/lang/Class;" } : Jvm.MethodName)) ∈ lw_all := lw_g (lw_at lw_m5 36 rfl) rfl
theorem q1553 : (Jvm.Cond.instanceMethod ({ cls := "TrackArray$Microphone", name := "at", desc := "(I)I" } : Jvm.MethodName)) ∈ lw_all := lw_g (lw_at lw_m7 31 rfl) rfl
theorem q1554 : (Jvm.Cond.selects "TrackArray$Microphone" ({ cls := "TrackArray$Microphone", name := "at", desc := "(I)I" } : Jvm.MethodName) ({ cls := "TrackArray$Microphone", name := "at", desc := "(I)I" } : Jvm.MethodName)) ∈ lw_all := lw_g (lw_at lw_m7 32 rfl) rfl
theorem q1555 : (Jvm.Cond.code ({ cls := "TrackArray$Microphone", name := "at", desc := "(I)I" } : Jvm.MethodName) prog_11_method_3_code (2 : Nat) (Option.some Jvm.ClassFile.FieldType.int)) ∈ lw_all := lw_g (lw_at lw_m7 33 rfl) rfl
theorem q1556 : (Jvm.Cond.constantLong "TrackArray$Microphone" (36 : Nat) (255 : Int64)) ∈ lw_all := lw_g (lw_at lw_m7 34 rfl) rfl
theorem q1557 : (Jvm.Cond.methodLinkNest "TrackArray$Microphone" (38 : Nat) ({ cls := "TrackArray", name := "isBetween", desc := "(JJJ)Z" } : Jvm.MethodName) "TrackArray") ∈ lw_tbl := lw_at lw_m7 35 rfl
theorem q1837 : (Jvm.Cond.instanceMethod ({ cls := "TrackArray$Microphone", name := "copy", desc := "()LTrackArray$Microphone;" } : Jvm.MethodName)) ∈ lw_all := lw_g (lw_at lw_m8 75 rfl) rfl
theorem q1838 : (Jvm.Cond.selects "TrackArray$Microphone" ({ cls := "TrackArray$Microphone", name := "copy", desc := "()LTrackArray$Microphone;" } : Jvm.MethodName) ({ cls := "TrackArray$Microphone", name := "copy", desc := "()LTrackArray$Microphone;" } : Jvm.MethodName)) ∈ lw_all := lw_g (lw_at lw_m8 76 rfl) rfl
theorem q1839 : (Jvm.Cond.code ({ cls := "TrackArray$Microphone", name := "copy", desc := "()LTrackArray$Microphone;" } : Jvm.MethodName) prog_11_method_2_code (2 : Nat) (Option.some (Jvm.ClassFile.FieldType.object "TrackArray$Microphone"))) ∈ lw_all := lw_g (lw_at lw_m8 77 rfl) rfl
theorem q1840 : (Jvm.Cond.classLink "TrackArray$Microphone" (10 : Nat) "TrackArray$Microphone") ∈ lw_all := lw_g (lw_at lw_m8 78 rfl) rfl
theorem q1841 : (Jvm.Cond.methodLink "TrackArray$Microphone" (28 : Nat) ({ cls := "TrackArray$Microphone", name := "<init>", desc := "(IIII)V" } : Jvm.MethodName)) ∈ lw_all := lw_g (lw_at lw_m8 79 rfl) rfl
theorem q1842 : (Jvm.Cond.methodLink "TrackArray$Microphone" (31 : Nat) ({ cls := "[I", name := "clone", desc := "()Ljava/lang/Object;" } : Jvm.MethodName)) ∈ lw_all := lw_g (lw_at lw_m8 80 rfl) rfl
theorem q1846 : (Jvm.Cond.classLink "TrackArray$Microphone" (32 : Nat) "[I") ∈ lw_all := lw_g (lw_at lw_m8 84 rfl) rfl
theorem q2439 : (Jvm.Cond.castable "TrackArray$Microphone" "java/lang/Object") ∈ lw_tbl := lw_at lw_m10 197 rfl
theorem in_X7 : ∀ w ∈ wsX70, w ∈ lw_all := lw_in wsX70 [1034, 1036, 1038, 1040, 1042] (by decide +kernel) (by decide +kernel)
/-! TrackArray$Riding -/
set_option maxRecDepth 100000
def RX8 : String := "TrackArray$Riding"
def TX8 : u_T := fun k => match k with
  | 0 => ("TrackArray$Riding", "vehicle", "LTrackArray$Vehicle;", true)
  | 1 => ("TrackArray$Riding", "offset", "I", true)
  | _ => ("TrackArray$Riding", "height", "I", true)
def tyX8 : Nat → FieldType := fun k => match k with
  | 0 => .object "TrackArray$Vehicle"
  | 1 => .int
  | _ => .int
abbrev wsX80 : List Cond := u_ws RX8 TX8 3
theorem nmX8 : ∀ a, a < 3 → ∀ b, b < 3 → a ≠ b → (TX8 a).2.1 ≠ (TX8 b).2.1 := by decide +kernel
theorem tyX8_ok : ∀ k, k < 3 → parseFieldDescriptor (TX8 k).2.2.1 = some (tyX8 k) := by decide +kernel
abbrev cX8_init : ByteArray := prog_14_method_1_code
def yX8_init : MethodName := ⟨RX8, "<init>", "(LTrackArray$Vehicle;II)V"⟩
def dkwX8_init_0 : List UInt8 := [42, 183, 0, 1, 42, 43, 181, 0, 7, 42, 28, 181, 0, 13, 42, 29, 181, 0, 17, 177]
abbrev dktX8_init_0 : List UInt8 := dkwX8_init_0 ++ []
theorem dksX8_init_0 : cX8_init.data.toList.drop 0 = dktX8_init_0 := by decide +kernel
theorem dX8_init_0 : decode cX8_init 0 = .ok (.aload_n 0, 1) := dk_42 (dk_at dksX8_init_0 0 rfl rfl)
theorem dX8_init_1 : decode cX8_init 1 = .ok (.invokespecial 1, 3) := dk_183 0 1 (dk_at dksX8_init_0 1 rfl rfl)
theorem dX8_init_4 : decode cX8_init 4 = .ok (.aload_n 0, 1) := dk_42 (dk_at dksX8_init_0 4 rfl rfl)
theorem dX8_init_5 : decode cX8_init 5 = .ok (.aload_n 1, 1) := dk_43 (dk_at dksX8_init_0 5 rfl rfl)
theorem dX8_init_6 : decode cX8_init 6 = .ok (.putfield 7, 3) := dk_181 0 7 (dk_at dksX8_init_0 6 rfl rfl)
theorem dX8_init_9 : decode cX8_init 9 = .ok (.aload_n 0, 1) := dk_42 (dk_at dksX8_init_0 9 rfl rfl)
theorem dX8_init_10 : decode cX8_init 10 = .ok (.iload_n 2, 1) := dk_28 (dk_at dksX8_init_0 10 rfl rfl)
theorem dX8_init_11 : decode cX8_init 11 = .ok (.putfield 13, 3) := dk_181 0 13 (dk_at dksX8_init_0 11 rfl rfl)
theorem dX8_init_14 : decode cX8_init 14 = .ok (.aload_n 0, 1) := dk_42 (dk_at dksX8_init_0 14 rfl rfl)
theorem dX8_init_15 : decode cX8_init 15 = .ok (.iload_n 3, 1) := dk_29 (dk_at dksX8_init_0 15 rfl rfl)
theorem dX8_init_16 : decode cX8_init 16 = .ok (.putfield 17, 3) := dk_181 0 17 (dk_at dksX8_init_0 16 rfl rfl)
theorem dX8_init_19 : decode cX8_init 19 = .ok (.return_, 1) := dk_177 (dk_at dksX8_init_0 19 rfl rfl)
abbrev cX8_x : ByteArray := prog_14_method_2_code
def yX8_x : MethodName := ⟨RX8, "x", "(I)I"⟩
def dkwX8_x_0 : List UInt8 := [42, 180, 0, 7, 27, 182, 0, 20, 42, 180, 0, 13, 96, 172]
abbrev dktX8_x_0 : List UInt8 := dkwX8_x_0 ++ []
theorem dksX8_x_0 : cX8_x.data.toList.drop 0 = dktX8_x_0 := by decide +kernel
theorem dX8_x_0 : decode cX8_x 0 = .ok (.aload_n 0, 1) := dk_42 (dk_at dksX8_x_0 0 rfl rfl)
theorem dX8_x_1 : decode cX8_x 1 = .ok (.getfield 7, 3) := dk_180 0 7 (dk_at dksX8_x_0 1 rfl rfl)
theorem dX8_x_4 : decode cX8_x 4 = .ok (.iload_n 1, 1) := dk_27 (dk_at dksX8_x_0 4 rfl rfl)
theorem dX8_x_5 : decode cX8_x 5 = .ok (.invokevirtual 20, 3) := dk_182 0 20 (dk_at dksX8_x_0 5 rfl rfl)
theorem dX8_x_8 : decode cX8_x 8 = .ok (.aload_n 0, 1) := dk_42 (dk_at dksX8_x_0 8 rfl rfl)
theorem dX8_x_9 : decode cX8_x 9 = .ok (.getfield 13, 3) := dk_180 0 13 (dk_at dksX8_x_0 9 rfl rfl)
theorem dX8_x_12 : decode cX8_x 12 = .ok (.iadd, 1) := dk_96 (dk_at dksX8_x_0 12 rfl rfl)
theorem dX8_x_13 : decode cX8_x 13 = .ok (.ireturn, 1) := dk_172 (dk_at dksX8_x_0 13 rfl rfl)
abbrev cX8_y : ByteArray := prog_14_method_3_code
def yX8_y : MethodName := ⟨RX8, "y", "()I"⟩
def dkwX8_y_0 : List UInt8 := [42, 180, 0, 7, 182, 0, 26, 172]
abbrev dktX8_y_0 : List UInt8 := dkwX8_y_0 ++ []
theorem dksX8_y_0 : cX8_y.data.toList.drop 0 = dktX8_y_0 := by decide +kernel
theorem dX8_y_0 : decode cX8_y 0 = .ok (.aload_n 0, 1) := dk_42 (dk_at dksX8_y_0 0 rfl rfl)
theorem dX8_y_1 : decode cX8_y 1 = .ok (.getfield 7, 3) := dk_180 0 7 (dk_at dksX8_y_0 1 rfl rfl)
theorem dX8_y_4 : decode cX8_y 4 = .ok (.invokevirtual 26, 3) := dk_182 0 26 (dk_at dksX8_y_0 4 rfl rfl)
theorem dX8_y_7 : decode cX8_y 7 = .ok (.ireturn, 1) := dk_172 (dk_at dksX8_y_0 7 rfl rfl)
abbrev cX8_height : ByteArray := prog_14_method_10_code
def yX8_height : MethodName := ⟨RX8, "height", "()I"⟩
theorem dX8_height_0 : decode cX8_height 0 = .ok (.aload_n 0, 1) := by decide +kernel
theorem dX8_height_1 : decode cX8_height 1 = .ok (.getfield 17, 3) := by decide +kernel
theorem dX8_height_4 : decode cX8_height 4 = .ok (.ireturn, 1) := by decide +kernel
abbrev cX8_beside : ByteArray := prog_14_method_4_code
def yX8_beside : MethodName := ⟨RX8, "beside", "(I)LTrackArray$Focus;"⟩
def dkwX8_beside_0 : List UInt8 := [187, 0, 8, 89, 42, 180, 0, 7, 42, 180, 0, 13, 27, 96, 42, 180, 0, 17, 183, 0, 30, 176]
abbrev dktX8_beside_0 : List UInt8 := dkwX8_beside_0 ++ []
theorem dksX8_beside_0 : cX8_beside.data.toList.drop 0 = dktX8_beside_0 := by decide +kernel
theorem dX8_beside_0 : decode cX8_beside 0 = .ok (.new 8, 3) := dk_187 0 8 (dk_at dksX8_beside_0 0 rfl rfl)
theorem dX8_beside_3 : decode cX8_beside 3 = .ok (.dup, 1) := dk_89 (dk_at dksX8_beside_0 3 rfl rfl)
theorem dX8_beside_4 : decode cX8_beside 4 = .ok (.aload_n 0, 1) := dk_42 (dk_at dksX8_beside_0 4 rfl rfl)
theorem dX8_beside_5 : decode cX8_beside 5 = .ok (.getfield 7, 3) := dk_180 0 7 (dk_at dksX8_beside_0 5 rfl rfl)
theorem dX8_beside_8 : decode cX8_beside 8 = .ok (.aload_n 0, 1) := dk_42 (dk_at dksX8_beside_0 8 rfl rfl)
theorem dX8_beside_9 : decode cX8_beside 9 = .ok (.getfield 13, 3) := dk_180 0 13 (dk_at dksX8_beside_0 9 rfl rfl)
theorem dX8_beside_12 : decode cX8_beside 12 = .ok (.iload_n 1, 1) := dk_27 (dk_at dksX8_beside_0 12 rfl rfl)
theorem dX8_beside_13 : decode cX8_beside 13 = .ok (.iadd, 1) := dk_96 (dk_at dksX8_beside_0 13 rfl rfl)
theorem dX8_beside_14 : decode cX8_beside 14 = .ok (.aload_n 0, 1) := dk_42 (dk_at dksX8_beside_0 14 rfl rfl)
theorem dX8_beside_15 : decode cX8_beside 15 = .ok (.getfield 17, 3) := dk_180 0 17 (dk_at dksX8_beside_0 15 rfl rfl)
theorem dX8_beside_18 : decode cX8_beside 18 = .ok (.invokespecial 30, 3) := dk_183 0 30 (dk_at dksX8_beside_0 18 rfl rfl)
theorem dX8_beside_21 : decode cX8_beside 21 = .ok (.areturn, 1) := dk_176 (dk_at dksX8_beside_0 21 rfl rfl)
theorem q114 : (Jvm.Cond.initialized "TrackArray$Riding") ∈ lw_all := lw_g (lw_at lw_m1 32 rfl) rfl
theorem q659 : (Jvm.Cond.instantiable "TrackArray$Riding" (3 : Nat)) ∈ lw_all := lw_g (lw_at lw_m3 97 rfl) rfl
theorem q661 : (Jvm.Cond.instanceMethod ({ cls := "TrackArray$Riding", name := "<init>", desc := "(LTrackArray$Vehicle;II)V" } : Jvm.MethodName)) ∈ lw_all := lw_g (lw_at lw_m3 99 rfl) rfl
theorem q662 : (Jvm.Cond.code ({ cls := "TrackArray$Riding", name := "<init>", desc := "(LTrackArray$Vehicle;II)V" } : Jvm.MethodName) prog_14_method_1_code (4 : Nat) (Option.none : Option Jvm.ClassFile.FieldType)) ∈ lw_all := lw_g (lw_at lw_m3 100 rfl) rfl
theorem q663 : (Jvm.Cond.methodLink "TrackArray$Riding" (1 : Nat) ({ cls := "java/lang/Record", name := "<init>", desc := "()V" } : Jvm.MethodName)) ∈ lw_all := lw_g (lw_at lw_m3 101 rfl) rfl
theorem q664 : (Jvm.Cond.fieldLink "TrackArray$Riding" (7 : Nat) "TrackArray$Riding" "vehicle" "LTrackArray$Vehicle;") ∈ lw_all := lw_g (lw_at lw_m3 102 rfl) rfl
theorem q665 : (Jvm.Cond.fieldLink "TrackArray$Riding" (13 : Nat) "TrackArray$Riding" "offset" "I") ∈ lw_all := lw_g (lw_at lw_m3 103 rfl) rfl
theorem q666 : (Jvm.Cond.fieldLink "TrackArray$Riding" (17 : Nat) "TrackArray$Riding" "height" "I") ∈ lw_all := lw_g (lw_at lw_m3 104 rfl) rfl
theorem q667 : (Jvm.Cond.laysFinal "TrackArray$Riding" "TrackArray$Riding" "vehicle" "LTrackArray$Vehicle;") ∈ lw_all := lw_g (lw_at lw_m3 105 rfl) rfl
theorem q668 : (Jvm.Cond.soleField "TrackArray$Riding" "vehicle") ∈ lw_all := lw_g (lw_at lw_m3 106 rfl) rfl
theorem q669 : (Jvm.Cond.laysFinal "TrackArray$Riding" "TrackArray$Riding" "offset" "I") ∈ lw_all := lw_g (lw_at lw_m3 107 rfl) rfl
theorem q670 : (Jvm.Cond.soleField "TrackArray$Riding" "offset") ∈ lw_all := lw_g (lw_at lw_m3 108 rfl) rfl
theorem q671 : (Jvm.Cond.laysFinal "TrackArray$Riding" "TrackArray$Riding" "height" "I") ∈ lw_all := lw_g (lw_at lw_m3 109 rfl) rfl
theorem q672 : (Jvm.Cond.soleField "TrackArray$Riding" "height") ∈ lw_all := lw_g (lw_at lw_m3 110 rfl) rfl
theorem q673 : (Jvm.Cond.superclass "TrackArray$Riding" "java/lang/Record") ∈ lw_all := lw_g (lw_at lw_m3 111 rfl) rfl
theorem q696 : (Jvm.Cond.castable "TrackArray$Riding" "TrackArray$Place") ∈ lw_tbl := lw_at lw_m3 134 rfl
theorem q697 : (Jvm.Cond.selects "TrackArray$Riding" ({ cls := "TrackArray$Place", name := "x", desc := "(I)I" } : Jvm.MethodName) ({ cls := "TrackArray$Riding", name := "x", desc := "(I)I" } : Jvm.MethodName)) ∈ lw_all := lw_g (lw_at lw_m3 135 rfl) rfl
theorem q698 : (Jvm.Cond.unhidden "TrackArray$Riding" "x" "(I)I") ∈ lw_tbl := lw_at lw_m3 136 rfl
theorem q699 : (Jvm.Cond.instanceMethod ({ cls := "TrackArray$Riding", name := "x", desc := "(I)I" } : Jvm.MethodName)) ∈ lw_all := lw_g (lw_at lw_m3 137 rfl) rfl
theorem q700 : (Jvm.Cond.publicMethod ({ cls := "TrackArray$Riding", name := "x", desc := "(I)I" } : Jvm.MethodName)) ∈ lw_tbl := lw_at lw_m3 138 rfl
theorem q701 : (Jvm.Cond.code ({ cls := "TrackArray$Riding", name := "x", desc := "(I)I" } : Jvm.MethodName) prog_14_method_2_code (2 : Nat) (Option.some Jvm.ClassFile.FieldType.int)) ∈ lw_all := lw_g (lw_at lw_m3 139 rfl) rfl
theorem q702 : (Jvm.Cond.methodLink "TrackArray$Riding" (20 : Nat) ({ cls := "TrackArray$Vehicle", name := "xAt", desc := "(I)I" } : Jvm.MethodName)) ∈ lw_all := lw_g (lw_at lw_m3 140 rfl) rfl
theorem q715 : (Jvm.Cond.selects "TrackArray$Riding" ({ cls := "TrackArray$Place", name := "y", desc := "()I" } : Jvm.MethodName) ({ cls := "TrackArray$Riding", name := "y", desc := "()I" } : Jvm.MethodName)) ∈ lw_all := lw_g (lw_at lw_m3 153 rfl) rfl
theorem q716 : (Jvm.Cond.unhidden "TrackArray$Riding" "y" "()I") ∈ lw_tbl := lw_at lw_m3 154 rfl
theorem q717 : (Jvm.Cond.instanceMethod ({ cls := "TrackArray$Riding", name := "y", desc := "()I" } : Jvm.MethodName)) ∈ lw_all := lw_g (lw_at lw_m3 155 rfl) rfl
theorem q718 : (Jvm.Cond.publicMethod ({ cls := "TrackArray$Riding", name := "y", desc := "()I" } : Jvm.MethodName)) ∈ lw_tbl := lw_at lw_m3 156 rfl
theorem q719 : (Jvm.Cond.code ({ cls := "TrackArray$Riding", name := "y", desc := "()I" } : Jvm.MethodName) prog_14_method_3_code (1 : Nat) (Option.some Jvm.ClassFile.FieldType.int)) ∈ lw_all := lw_g (lw_at lw_m3 157 rfl) rfl
theorem q720 : (Jvm.Cond.methodLink "TrackArray$Riding" (26 : Nat) ({ cls := "TrackArray$Vehicle", name := "y", desc := "()I" } : Jvm.MethodName)) ∈ lw_all := lw_g (lw_at lw_m3 158 rfl) rfl
theorem q733 : (Jvm.Cond.selects "TrackArray$Riding" ({ cls := "TrackArray$Place", name := "height", desc := "()I" } : Jvm.MethodName) ({ cls := "TrackArray$Riding", name := "height", desc := "()I" } : Jvm.MethodName)) ∈ lw_all := lw_g (lw_at lw_m3 171 rfl) rfl
theorem q734 : (Jvm.Cond.unhidden "TrackArray$Riding" "height" "()I") ∈ lw_tbl := lw_at lw_m3 172 rfl
theorem q735 : (Jvm.Cond.instanceMethod ({ cls := "TrackArray$Riding", name := "height", desc := "()I" } : Jvm.MethodName)) ∈ lw_all := lw_g (lw_at lw_m3 173 rfl) rfl
theorem q736 : (Jvm.Cond.publicMethod ({ cls := "TrackArray$Riding", name := "height", desc := "()I" } : Jvm.MethodName)) ∈ lw_tbl := lw_at lw_m3 174 rfl
theorem q737 : (Jvm.Cond.code ({ cls := "TrackArray$Riding", name := "height", desc := "()I" } : Jvm.MethodName) prog_14_method_10_code (1 : Nat) (Option.some Jvm.ClassFile.FieldType.int)) ∈ lw_all := lw_g (lw_at lw_m3 175 rfl) rfl
theorem q1080 : (Jvm.Cond.selects "TrackArray$Riding" ({ cls := "java/lang/Object", name := "getClass", desc := "()Ljava/lang/Class;" } : Jvm.MethodName) ({ cls := "java/lang/Object", name := "getClass", desc := "()Ljava/lang/Class;" } : Jvm.MethodName)) ∈ lw_all := lw_g (lw_at lw_m5 38 rfl) rfl
theorem q1733 : (Jvm.Cond.castable "TrackArray$Riding" "TrackArray$Focus") ∈ lw_tbl := lw_at lw_m7 211 rfl
theorem q1734 : (Jvm.Cond.selects "TrackArray$Riding" ({ cls := "TrackArray$Focus", name := "beside", desc := "(I)LTrackArray$Focus;" } : Jvm.MethodName) ({ cls := "TrackArray$Riding", name := "beside", desc := "(I)LTrackArray$Focus;" } : Jvm.MethodName)) ∈ lw_all := lw_g (lw_at lw_m7 212 rfl) rfl
theorem q1735 : (Jvm.Cond.unhidden "TrackArray$Riding" "beside" "(I)LTrackArray$Focus;") ∈ lw_tbl := lw_at lw_m7 213 rfl
theorem q1736 : (Jvm.Cond.instanceMethod ({ cls := "TrackArray$Riding", name := "beside", desc := "(I)LTrackArray$Focus;" } : Jvm.MethodName)) ∈ lw_all := lw_g (lw_at lw_m7 214 rfl) rfl
theorem q1737 : (Jvm.Cond.publicMethod ({ cls := "TrackArray$Riding", name := "beside", desc := "(I)LTrackArray$Focus;" } : Jvm.MethodName)) ∈ lw_tbl := lw_at lw_m7 215 rfl
theorem q1738 : (Jvm.Cond.code ({ cls := "TrackArray$Riding", name := "beside", desc := "(I)LTrackArray$Focus;" } : Jvm.MethodName) prog_14_method_4_code (2 : Nat) (Option.some (Jvm.ClassFile.FieldType.object "TrackArray$Focus"))) ∈ lw_all := lw_g (lw_at lw_m7 216 rfl) rfl
theorem q1739 : (Jvm.Cond.classLink "TrackArray$Riding" (8 : Nat) "TrackArray$Riding") ∈ lw_all := lw_g (lw_at lw_m7 217 rfl) rfl
theorem q1740 : (Jvm.Cond.methodLink "TrackArray$Riding" (30 : Nat) ({ cls := "TrackArray$Riding", name := "<init>", desc := "(LTrackArray$Vehicle;II)V" } : Jvm.MethodName)) ∈ lw_all := lw_g (lw_at lw_m7 218 rfl) rfl
theorem q2440 : (Jvm.Cond.castable "TrackArray$Riding" "java/lang/Object") ∈ lw_tbl := lw_at lw_m10 198 rfl
theorem in_X8 : ∀ w ∈ wsX80, w ∈ lw_all := lw_in wsX80 [667, 669, 671] (by decide +kernel) (by decide +kernel)
/-! TrackArray$Measure -/
set_option maxRecDepth 100000
def RX9 : String := "TrackArray$Measure"
abbrev cX9_isNumber : ByteArray := prog_5_method_6_code
def yX9_isNumber : MethodName := ⟨RX9, "isNumber", "(I)Z"⟩
def dkwX9_isNumber_0 : List UInt8 := [26, 133, 9, 184, 0, 38, 190, 4, 100, 133, 184, 0, 42, 172]
abbrev dktX9_isNumber_0 : List UInt8 := dkwX9_isNumber_0 ++ []
theorem dksX9_isNumber_0 : cX9_isNumber.data.toList.drop 0 = dktX9_isNumber_0 := by decide +kernel
theorem dX9_isNumber_0 : decode cX9_isNumber 0 = .ok (.iload_n 0, 1) := dk_26 (dk_at dksX9_isNumber_0 0 rfl rfl)
theorem dX9_isNumber_1 : decode cX9_isNumber 1 = .ok (.i2l, 1) := dk_133 (dk_at dksX9_isNumber_0 1 rfl rfl)
theorem dX9_isNumber_2 : decode cX9_isNumber 2 = .ok (.lconst 0, 1) := dk_9 (dk_at dksX9_isNumber_0 2 rfl rfl)
theorem dX9_isNumber_3 : decode cX9_isNumber 3 = .ok (.invokestatic 38, 3) := dk_184 0 38 (dk_at dksX9_isNumber_0 3 rfl rfl)
theorem dX9_isNumber_6 : decode cX9_isNumber 6 = .ok (.arraylength, 1) := dk_190 (dk_at dksX9_isNumber_0 6 rfl rfl)
theorem dX9_isNumber_7 : decode cX9_isNumber 7 = .ok (.iconst 1, 1) := dk_4 (dk_at dksX9_isNumber_0 7 rfl rfl)
theorem dX9_isNumber_8 : decode cX9_isNumber 8 = .ok (.isub, 1) := dk_100 (dk_at dksX9_isNumber_0 8 rfl rfl)
theorem dX9_isNumber_9 : decode cX9_isNumber 9 = .ok (.i2l, 1) := dk_133 (dk_at dksX9_isNumber_0 9 rfl rfl)
theorem dX9_isNumber_10 : decode cX9_isNumber 10 = .ok (.invokestatic 42, 3) := dk_184 0 42 (dk_at dksX9_isNumber_0 10 rfl rfl)
theorem dX9_isNumber_13 : decode cX9_isNumber 13 = .ok (.ireturn, 1) := dk_172 (dk_at dksX9_isNumber_0 13 rfl rfl)
abbrev cX9_values : ByteArray := prog_5_method_1_code
def yX9_values : MethodName := ⟨RX9, "values", "()[LTrackArray$Measure;"⟩
def dkwX9_values_0 : List UInt8 := [178, 0, 19, 182, 0, 23, 192, 0, 24, 176]
abbrev dktX9_values_0 : List UInt8 := dkwX9_values_0 ++ []
theorem dksX9_values_0 : cX9_values.data.toList.drop 0 = dktX9_values_0 := by decide +kernel
theorem dX9_values_0 : decode cX9_values 0 = .ok (.getstatic 19, 3) := dk_178 0 19 (dk_at dksX9_values_0 0 rfl rfl)
theorem dX9_values_3 : decode cX9_values 3 = .ok (.invokevirtual 23, 3) := dk_182 0 23 (dk_at dksX9_values_0 3 rfl rfl)
theorem dX9_values_6 : decode cX9_values 6 = .ok (.checkcast 24, 3) := dk_192 0 24 (dk_at dksX9_values_0 6 rfl rfl)
theorem dX9_values_9 : decode cX9_values 9 = .ok (.areturn, 1) := dk_176 (dk_at dksX9_values_0 9 rfl rfl)
abbrev cX9_numbered : ByteArray := prog_5_method_5_code
def yX9_numbered : MethodName := ⟨RX9, "numbered", "(I)LTrackArray$Measure;"⟩
def dkwX9_numbered_0 : List UInt8 := [184, 0, 38, 26, 50, 176]
abbrev dktX9_numbered_0 : List UInt8 := dkwX9_numbered_0 ++ []
theorem dksX9_numbered_0 : cX9_numbered.data.toList.drop 0 = dktX9_numbered_0 := by decide +kernel
theorem dX9_numbered_0 : decode cX9_numbered 0 = .ok (.invokestatic 38, 3) := dk_184 0 38 (dk_at dksX9_numbered_0 0 rfl rfl)
theorem dX9_numbered_3 : decode cX9_numbered 3 = .ok (.iload_n 0, 1) := dk_26 (dk_at dksX9_numbered_0 3 rfl rfl)
theorem dX9_numbered_4 : decode cX9_numbered 4 = .ok (.aaload, 1) := dk_50 (dk_at dksX9_numbered_0 4 rfl rfl)
theorem dX9_numbered_5 : decode cX9_numbered 5 = .ok (.areturn, 1) := dk_176 (dk_at dksX9_numbered_0 5 rfl rfl)
theorem q117 : (Jvm.Cond.initialized "TrackArray$Measure") ∈ lw_all := lw_g (lw_at lw_m1 35 rfl) rfl
theorem q1448 : (Jvm.Cond.static ({ cls := "TrackArray$Measure", name := "isNumber", desc := "(I)Z" } : Jvm.MethodName)) ∈ lw_all := lw_g (lw_at lw_m6 166 rfl) rfl
theorem q1449 : (Jvm.Cond.code ({ cls := "TrackArray$Measure", name := "isNumber", desc := "(I)Z" } : Jvm.MethodName) prog_5_method_6_code (1 : Nat) (Option.some Jvm.ClassFile.FieldType.boolean)) ∈ lw_all := lw_g (lw_at lw_m6 167 rfl) rfl
theorem q1450 : (Jvm.Cond.methodLink "TrackArray$Measure" (38 : Nat) ({ cls := "TrackArray$Measure", name := "values", desc := "()[LTrackArray$Measure;" } : Jvm.MethodName)) ∈ lw_all := lw_g (lw_at lw_m6 168 rfl) rfl
theorem q1451 : (Jvm.Cond.static ({ cls := "TrackArray$Measure", name := "values", desc := "()[LTrackArray$Measure;" } : Jvm.MethodName)) ∈ lw_all := lw_g (lw_at lw_m6 169 rfl) rfl
theorem q1452 : (Jvm.Cond.code ({ cls := "TrackArray$Measure", name := "values", desc := "()[LTrackArray$Measure;" } : Jvm.MethodName) prog_5_method_1_code (0 : Nat) (Option.some (Jvm.ClassFile.FieldType.array (Jvm.ClassFile.FieldType.object "TrackArray$Measure")))) ∈ lw_all := lw_g (lw_at lw_m6 170 rfl) rfl
theorem q1453 : (Jvm.Cond.fieldLink "TrackArray$Measure" (19 : Nat) "TrackArray$Measure" "$VALUES" "[LTrackArray$Measure;") ∈ lw_all := lw_g (lw_at lw_m6 171 rfl) rfl
theorem q1454 : (Jvm.Cond.laysStatic "TrackArray$Measure" "$VALUES" "[LTrackArray$Measure;") ∈ lw_tbl := lw_at lw_m6 172 rfl
theorem q1455 : (Jvm.Cond.methodLink "TrackArray$Measure" (23 : Nat) ({ cls := "[LTrackArray$Measure;", name := "clone", desc := "()Ljava/lang/Object;" } : Jvm.MethodName)) ∈ lw_all := lw_g (lw_at lw_m6 173 rfl) rfl
theorem q1460 : (Jvm.Cond.classLink "TrackArray$Measure" (24 : Nat) "[LTrackArray$Measure;") ∈ lw_all := lw_g (lw_at lw_m6 178 rfl) rfl
theorem q1461 : (Jvm.Cond.methodLinkNest "TrackArray$Measure" (42 : Nat) ({ cls := "TrackArray", name := "isBetween", desc := "(JJJ)Z" } : Jvm.MethodName) "TrackArray") ∈ lw_tbl := lw_at lw_m6 179 rfl
theorem q1466 : (Jvm.Cond.static ({ cls := "TrackArray$Measure", name := "numbered", desc := "(I)LTrackArray$Measure;" } : Jvm.MethodName)) ∈ lw_all := lw_g (lw_at lw_m6 184 rfl) rfl
theorem q1467 : (Jvm.Cond.code ({ cls := "TrackArray$Measure", name := "numbered", desc := "(I)LTrackArray$Measure;" } : Jvm.MethodName) prog_5_method_5_code (1 : Nat) (Option.some (Jvm.ClassFile.FieldType.object "TrackArray$Measure"))) ∈ lw_all := lw_g (lw_at lw_m6 185 rfl) rfl
theorem q1475 : (Jvm.Cond.declares ({ cls := "TrackArray$Measure", name := "of", desc := "(LTrackArray$Signal;II)J" } : Jvm.MethodName)) ∈ lw_tbl := lw_at lw_m6 193 rfl
theorem q1476 : (Jvm.Cond.sameMethod "TrackArray$Measure" "TrackArray$Measure" "of" "(LTrackArray$Signal;II)J") ∈ lw_all := lw_g (lw_at lw_m6 194 rfl) rfl
theorem q1500 : (Jvm.Cond.laysStatic "TrackArray$Measure" "ENERGY" "LTrackArray$Measure;") ∈ lw_tbl := lw_at lw_m6 218 rfl
theorem q1786 : (Jvm.Cond.laysStatic "TrackArray$Measure" "PEAK" "LTrackArray$Measure;") ∈ lw_tbl := lw_at lw_m8 24 rfl
theorem q2426 : (Jvm.Cond.castable "TrackArray$Measure" "java/lang/Object") ∈ lw_tbl := lw_at lw_m10 184 rfl
theorem q2472 : (Jvm.Cond.laysStatic "TrackArray$Measure" "LEVEL" "LTrackArray$Measure;") ∈ lw_tbl := lw_at lw_m10 230 rfl
theorem q2473 : (Jvm.Cond.laysStatic "TrackArray$Measure" "SUM" "LTrackArray$Measure;") ∈ lw_tbl := lw_at lw_m10 231 rfl
theorem q2474 : (Jvm.Cond.laysStatic "TrackArray$Measure" "CROSSINGS" "LTrackArray$Measure;") ∈ lw_tbl := lw_at lw_m10 232 rfl
/-! TrackArray$Measure$3 -/
set_option maxRecDepth 100000
def RX10 : String := "TrackArray$Measure$3"
abbrev cX10_of : ByteArray := prog_8_method_2_code
def yX10_of : MethodName := ⟨RX10, "of", "(LTrackArray$Signal;II)J"⟩
def dkwX10_of_0 : List UInt8 := [16, 64, 178, 0, 9, 43, 28, 29, 182, 0, 15, 184, 0, 19, 100, 133, 173]
abbrev dktX10_of_0 : List UInt8 := dkwX10_of_0 ++ []
theorem dksX10_of_0 : cX10_of.data.toList.drop 0 = dktX10_of_0 := by decide +kernel
theorem dX10_of_0 : decode cX10_of 0 = .ok (.bipush 64, 2) := dk_16 64 (dk_at dksX10_of_0 0 rfl rfl)
theorem dX10_of_2 : decode cX10_of 2 = .ok (.getstatic 9, 3) := dk_178 0 9 (dk_at dksX10_of_0 2 rfl rfl)
theorem dX10_of_5 : decode cX10_of 5 = .ok (.aload_n 1, 1) := dk_43 (dk_at dksX10_of_0 5 rfl rfl)
theorem dX10_of_6 : decode cX10_of 6 = .ok (.iload_n 2, 1) := dk_28 (dk_at dksX10_of_0 6 rfl rfl)
theorem dX10_of_7 : decode cX10_of 7 = .ok (.iload_n 3, 1) := dk_29 (dk_at dksX10_of_0 7 rfl rfl)
theorem dX10_of_8 : decode cX10_of 8 = .ok (.invokevirtual 15, 3) := dk_182 0 15 (dk_at dksX10_of_0 8 rfl rfl)
theorem dX10_of_11 : decode cX10_of 11 = .ok (.invokestatic 19, 3) := dk_184 0 19 (dk_at dksX10_of_0 11 rfl rfl)
theorem dX10_of_14 : decode cX10_of 14 = .ok (.isub, 1) := dk_100 (dk_at dksX10_of_0 14 rfl rfl)
theorem dX10_of_15 : decode cX10_of 15 = .ok (.i2l, 1) := dk_133 (dk_at dksX10_of_0 15 rfl rfl)
theorem dX10_of_16 : decode cX10_of 16 = .ok (.lreturn, 1) := dk_173 (dk_at dksX10_of_0 16 rfl rfl)
theorem q118 : (Jvm.Cond.initialized "TrackArray$Measure$3") ∈ lw_all := lw_g (lw_at lw_m1 36 rfl) rfl
theorem q1075 : (Jvm.Cond.selects "TrackArray$Measure$3" ({ cls := "java/lang/Object", name := "getClass", desc := "()Ljava/lang/Class;" } : Jvm.MethodName) ({ cls := "java/lang/Object", name := "getClass", desc := "()Ljava/lang/Class;" } : Jvm.MethodName)) ∈ lw_all := lw_g (lw_at lw_m5 33 rfl) rfl
theorem q1495 : (Jvm.Cond.selects "TrackArray$Measure$3" ({ cls := "TrackArray$Measure", name := "of", desc := "(LTrackArray$Signal;II)J" } : Jvm.MethodName) ({ cls := "TrackArray$Measure$3", name := "of", desc := "(LTrackArray$Signal;II)J" } : Jvm.MethodName)) ∈ lw_all := lw_g (lw_at lw_m6 213 rfl) rfl
theorem q1496 : (Jvm.Cond.instanceMethod ({ cls := "TrackArray$Measure$3", name := "of", desc := "(LTrackArray$Signal;II)J" } : Jvm.MethodName)) ∈ lw_all := lw_g (lw_at lw_m6 214 rfl) rfl
theorem q1497 : (Jvm.Cond.code ({ cls := "TrackArray$Measure$3", name := "of", desc := "(LTrackArray$Signal;II)J" } : Jvm.MethodName) prog_8_method_2_code (4 : Nat) (Option.some Jvm.ClassFile.FieldType.long)) ∈ lw_all := lw_g (lw_at lw_m6 215 rfl) rfl
theorem q1498 : (Jvm.Cond.fieldLink "TrackArray$Measure$3" (9 : Nat) "TrackArray$Measure$3" "ENERGY" "LTrackArray$Measure;") ∈ lw_all := lw_g (lw_at lw_m6 216 rfl) rfl
theorem q1499 : (Jvm.Cond.sameField "TrackArray$Measure$3" "TrackArray$Measure" "ENERGY" "LTrackArray$Measure;") ∈ lw_all := lw_g (lw_at lw_m6 217 rfl) rfl
theorem q1501 : (Jvm.Cond.methodLink "TrackArray$Measure$3" (15 : Nat) ({ cls := "TrackArray$Measure", name := "of", desc := "(LTrackArray$Signal;II)J" } : Jvm.MethodName)) ∈ lw_all := lw_g (lw_at lw_m6 219 rfl) rfl
theorem q1513 : (Jvm.Cond.methodLink "TrackArray$Measure$3" (19 : Nat) ({ cls := "java/lang/Long", name := "numberOfLeadingZeros", desc := "(J)I" } : Jvm.MethodName)) ∈ lw_all := lw_g (lw_at lw_m6 231 rfl) rfl
theorem q2444 : (Jvm.Cond.castable "TrackArray$Measure$3" "java/lang/Object") ∈ lw_tbl := lw_at lw_m10 202 rfl
theorem q2456 : (Jvm.Cond.castable "TrackArray$Measure$3" "TrackArray$Measure") ∈ lw_tbl := lw_at lw_m10 214 rfl
/-! TrackArray$Direction -/
set_option maxRecDepth 100000
def RX11 : String := "TrackArray$Direction"
def TX11 : u_T := fun k => match k with
  | _ => ("TrackArray$Direction", "percent", "I", true)
def tyX11 : Nat → FieldType := fun k => match k with
  | _ => .int
abbrev wsX110 : List Cond := u_ws RX11 TX11 1
theorem nmX11 : ∀ a, a < 1 → ∀ b, b < 1 → a ≠ b → (TX11 a).2.1 ≠ (TX11 b).2.1 := by decide +kernel
theorem tyX11_ok : ∀ k, k < 1 → parseFieldDescriptor (TX11 k).2.2.1 = some (tyX11 k) := by decide +kernel
abbrev cX11_init : ByteArray := prog_2_method_1_code
def yX11_init : MethodName := ⟨RX11, "<init>", "(I)V"⟩
def dkwX11_init_0 : List UInt8 := [42, 183, 0, 1, 42, 27, 181, 0, 7, 177]
abbrev dktX11_init_0 : List UInt8 := dkwX11_init_0 ++ []
theorem dksX11_init_0 : cX11_init.data.toList.drop 0 = dktX11_init_0 := by decide +kernel
theorem dX11_init_0 : decode cX11_init 0 = .ok (.aload_n 0, 1) := dk_42 (dk_at dksX11_init_0 0 rfl rfl)
theorem dX11_init_1 : decode cX11_init 1 = .ok (.invokespecial 1, 3) := dk_183 0 1 (dk_at dksX11_init_0 1 rfl rfl)
theorem dX11_init_4 : decode cX11_init 4 = .ok (.aload_n 0, 1) := dk_42 (dk_at dksX11_init_0 4 rfl rfl)
theorem dX11_init_5 : decode cX11_init 5 = .ok (.iload_n 1, 1) := dk_27 (dk_at dksX11_init_0 5 rfl rfl)
theorem dX11_init_6 : decode cX11_init 6 = .ok (.putfield 7, 3) := dk_181 0 7 (dk_at dksX11_init_0 6 rfl rfl)
theorem dX11_init_9 : decode cX11_init 9 = .ok (.return_, 1) := dk_177 (dk_at dksX11_init_0 9 rfl rfl)
abbrev cX11_percent : ByteArray := prog_2_method_6_code
def yX11_percent : MethodName := ⟨RX11, "percent", "()I"⟩
theorem dX11_percent_0 : decode cX11_percent 0 = .ok (.aload_n 0, 1) := by decide +kernel
theorem dX11_percent_1 : decode cX11_percent 1 = .ok (.getfield 7, 3) := by decide +kernel
theorem dX11_percent_4 : decode cX11_percent 4 = .ok (.ireturn, 1) := by decide +kernel
abbrev cX11_beside : ByteArray := prog_2_method_2_code
def yX11_beside : MethodName := ⟨RX11, "beside", "(I)LTrackArray$Focus;"⟩
def dkwX11_beside_0 : List UInt8 := [187, 0, 8, 89, 42, 180, 0, 7, 27, 96, 183, 0, 13, 176]
abbrev dktX11_beside_0 : List UInt8 := dkwX11_beside_0 ++ []
theorem dksX11_beside_0 : cX11_beside.data.toList.drop 0 = dktX11_beside_0 := by decide +kernel
theorem dX11_beside_0 : decode cX11_beside 0 = .ok (.new 8, 3) := dk_187 0 8 (dk_at dksX11_beside_0 0 rfl rfl)
theorem dX11_beside_3 : decode cX11_beside 3 = .ok (.dup, 1) := dk_89 (dk_at dksX11_beside_0 3 rfl rfl)
theorem dX11_beside_4 : decode cX11_beside 4 = .ok (.aload_n 0, 1) := dk_42 (dk_at dksX11_beside_0 4 rfl rfl)
theorem dX11_beside_5 : decode cX11_beside 5 = .ok (.getfield 7, 3) := dk_180 0 7 (dk_at dksX11_beside_0 5 rfl rfl)
theorem dX11_beside_8 : decode cX11_beside 8 = .ok (.iload_n 1, 1) := dk_27 (dk_at dksX11_beside_0 8 rfl rfl)
theorem dX11_beside_9 : decode cX11_beside 9 = .ok (.iadd, 1) := dk_96 (dk_at dksX11_beside_0 9 rfl rfl)
theorem dX11_beside_10 : decode cX11_beside 10 = .ok (.invokespecial 13, 3) := dk_183 0 13 (dk_at dksX11_beside_0 10 rfl rfl)
theorem dX11_beside_13 : decode cX11_beside 13 = .ok (.areturn, 1) := dk_176 (dk_at dksX11_beside_0 13 rfl rfl)
theorem q120 : (Jvm.Cond.initialized "TrackArray$Direction") ∈ lw_all := lw_g (lw_at lw_m1 38 rfl) rfl
theorem q1071 : (Jvm.Cond.selects "TrackArray$Direction" ({ cls := "java/lang/Object", name := "getClass", desc := "()Ljava/lang/Class;" } : Jvm.MethodName) ({ cls := "java/lang/Object", name := "getClass", desc := "()Ljava/lang/Class;" } : Jvm.MethodName)) ∈ lw_all := lw_g (lw_at lw_m5 29 rfl) rfl
theorem q1603 : (Jvm.Cond.instantiable "TrackArray$Direction" (1 : Nat)) ∈ lw_all := lw_g (lw_at lw_m7 81 rfl) rfl
theorem q1605 : (Jvm.Cond.instanceMethod ({ cls := "TrackArray$Direction", name := "<init>", desc := "(I)V" } : Jvm.MethodName)) ∈ lw_all := lw_g (lw_at lw_m7 83 rfl) rfl
theorem q1606 : (Jvm.Cond.code ({ cls := "TrackArray$Direction", name := "<init>", desc := "(I)V" } : Jvm.MethodName) prog_2_method_1_code (2 : Nat) (Option.none : Option Jvm.ClassFile.FieldType)) ∈ lw_all := lw_g (lw_at lw_m7 84 rfl) rfl
theorem q1607 : (Jvm.Cond.methodLink "TrackArray$Direction" (1 : Nat) ({ cls := "java/lang/Record", name := "<init>", desc := "()V" } : Jvm.MethodName)) ∈ lw_all := lw_g (lw_at lw_m7 85 rfl) rfl
theorem q1608 : (Jvm.Cond.fieldLink "TrackArray$Direction" (7 : Nat) "TrackArray$Direction" "percent" "I") ∈ lw_all := lw_g (lw_at lw_m7 86 rfl) rfl
theorem q1609 : (Jvm.Cond.laysFinal "TrackArray$Direction" "TrackArray$Direction" "percent" "I") ∈ lw_all := lw_g (lw_at lw_m7 87 rfl) rfl
theorem q1610 : (Jvm.Cond.soleField "TrackArray$Direction" "percent") ∈ lw_all := lw_g (lw_at lw_m7 88 rfl) rfl
theorem q1611 : (Jvm.Cond.superclass "TrackArray$Direction" "java/lang/Record") ∈ lw_all := lw_g (lw_at lw_m7 89 rfl) rfl
theorem q1625 : (Jvm.Cond.instanceMethod ({ cls := "TrackArray$Direction", name := "percent", desc := "()I" } : Jvm.MethodName)) ∈ lw_all := lw_g (lw_at lw_m7 103 rfl) rfl
theorem q1626 : (Jvm.Cond.selects "TrackArray$Direction" ({ cls := "TrackArray$Direction", name := "percent", desc := "()I" } : Jvm.MethodName) ({ cls := "TrackArray$Direction", name := "percent", desc := "()I" } : Jvm.MethodName)) ∈ lw_all := lw_g (lw_at lw_m7 104 rfl) rfl
theorem q1627 : (Jvm.Cond.code ({ cls := "TrackArray$Direction", name := "percent", desc := "()I" } : Jvm.MethodName) prog_2_method_6_code (1 : Nat) (Option.some Jvm.ClassFile.FieldType.int)) ∈ lw_all := lw_g (lw_at lw_m7 105 rfl) rfl
theorem q1717 : (Jvm.Cond.castable "TrackArray$Direction" "TrackArray$Focus") ∈ lw_tbl := lw_at lw_m7 195 rfl
theorem q1718 : (Jvm.Cond.selects "TrackArray$Direction" ({ cls := "TrackArray$Focus", name := "beside", desc := "(I)LTrackArray$Focus;" } : Jvm.MethodName) ({ cls := "TrackArray$Direction", name := "beside", desc := "(I)LTrackArray$Focus;" } : Jvm.MethodName)) ∈ lw_all := lw_g (lw_at lw_m7 196 rfl) rfl
theorem q1719 : (Jvm.Cond.unhidden "TrackArray$Direction" "beside" "(I)LTrackArray$Focus;") ∈ lw_tbl := lw_at lw_m7 197 rfl
theorem q1720 : (Jvm.Cond.instanceMethod ({ cls := "TrackArray$Direction", name := "beside", desc := "(I)LTrackArray$Focus;" } : Jvm.MethodName)) ∈ lw_all := lw_g (lw_at lw_m7 198 rfl) rfl
theorem q1721 : (Jvm.Cond.publicMethod ({ cls := "TrackArray$Direction", name := "beside", desc := "(I)LTrackArray$Focus;" } : Jvm.MethodName)) ∈ lw_tbl := lw_at lw_m7 199 rfl
theorem q1722 : (Jvm.Cond.code ({ cls := "TrackArray$Direction", name := "beside", desc := "(I)LTrackArray$Focus;" } : Jvm.MethodName) prog_2_method_2_code (2 : Nat) (Option.some (Jvm.ClassFile.FieldType.object "TrackArray$Focus"))) ∈ lw_all := lw_g (lw_at lw_m7 200 rfl) rfl
theorem q1723 : (Jvm.Cond.classLink "TrackArray$Direction" (8 : Nat) "TrackArray$Direction") ∈ lw_all := lw_g (lw_at lw_m7 201 rfl) rfl
theorem q1724 : (Jvm.Cond.methodLink "TrackArray$Direction" (13 : Nat) ({ cls := "TrackArray$Direction", name := "<init>", desc := "(I)V" } : Jvm.MethodName)) ∈ lw_all := lw_g (lw_at lw_m7 202 rfl) rfl
theorem q2447 : (Jvm.Cond.castable "TrackArray$Direction" "java/lang/Object") ∈ lw_tbl := lw_at lw_m10 205 rfl
theorem in_X11 : ∀ w ∈ wsX110, w ∈ lw_all := lw_in wsX110 [1609] (by decide +kernel) (by decide +kernel)
/-! TrackArray$Parser -/
set_option maxRecDepth 100000
def RX12 : String := "TrackArray$Parser"
def TX12 : u_T := fun k => match k with
  | 0 => ("TrackArray$Parser", "length", "I", true)
  | 1 => ("TrackArray$Parser", "track", "LTrackArray$Track;", true)
  | 2 => ("TrackArray$Parser", "next", "I", false)
  | 3 => ("TrackArray$Parser", "begin", "I", false)
  | 4 => ("TrackArray$Parser", "isNumber", "Z", false)
  | 5 => ("TrackArray$Parser", "number", "I", false)
  | 6 => ("TrackArray$Parser", "word", "Ljava/lang/String;", false)
  | _ => ("TrackArray$Parser", "this$0", "LTrackArray;", true)
def tyX12 : Nat → FieldType := fun k => match k with
  | 0 => .int
  | 1 => .object "TrackArray$Track"
  | 2 => .int
  | 3 => .int
  | 4 => .boolean
  | 5 => .int
  | 6 => .object "java/lang/String"
  | _ => .object "TrackArray"
abbrev wsX120 : List Cond := u_ws RX12 TX12 8
theorem nmX12 : ∀ a, a < 8 → ∀ b, b < 8 → a ≠ b → (TX12 a).2.1 ≠ (TX12 b).2.1 := by decide +kernel
theorem tyX12_ok : ∀ k, k < 8 → parseFieldDescriptor (TX12 k).2.2.1 = some (tyX12 k) := by decide +kernel
abbrev cX12_init : ByteArray := prog_12_method_1_code
def yX12_init : MethodName := ⟨RX12, "<init>", "(LTrackArray;I)V"⟩
def dkwX12_init_1 : List UInt8 := [181, 0, 24, 42, 28, 181, 0, 28, 42, 182, 0, 32, 177]
abbrev dktX12_init_1 : List UInt8 := dkwX12_init_1 ++ []
def dkwX12_init_0 : List UInt8 := [42, 43, 181, 0, 3, 42, 183, 0, 9, 42, 187, 0, 15, 89, 183, 0, 17, 181, 0, 18, 42, 18, 22]
abbrev dktX12_init_0 : List UInt8 := dkwX12_init_0 ++ dktX12_init_1
theorem dksX12_init_0 : cX12_init.data.toList.drop 0 = dktX12_init_0 := by decide +kernel
theorem dksX12_init_1 : cX12_init.data.toList.drop 23 = dktX12_init_1 := dk_seg dksX12_init_0 23 rfl rfl
theorem dX12_init_0 : decode cX12_init 0 = .ok (.aload_n 0, 1) := dk_42 (dk_at dksX12_init_0 0 rfl rfl)
theorem dX12_init_1 : decode cX12_init 1 = .ok (.aload_n 1, 1) := dk_43 (dk_at dksX12_init_0 1 rfl rfl)
theorem dX12_init_2 : decode cX12_init 2 = .ok (.putfield 3, 3) := dk_181 0 3 (dk_at dksX12_init_0 2 rfl rfl)
theorem dX12_init_5 : decode cX12_init 5 = .ok (.aload_n 0, 1) := dk_42 (dk_at dksX12_init_0 5 rfl rfl)
theorem dX12_init_6 : decode cX12_init 6 = .ok (.invokespecial 9, 3) := dk_183 0 9 (dk_at dksX12_init_0 6 rfl rfl)
theorem dX12_init_9 : decode cX12_init 9 = .ok (.aload_n 0, 1) := dk_42 (dk_at dksX12_init_0 9 rfl rfl)
theorem dX12_init_10 : decode cX12_init 10 = .ok (.new 15, 3) := dk_187 0 15 (dk_at dksX12_init_0 10 rfl rfl)
theorem dX12_init_13 : decode cX12_init 13 = .ok (.dup, 1) := dk_89 (dk_at dksX12_init_0 13 rfl rfl)
theorem dX12_init_14 : decode cX12_init 14 = .ok (.invokespecial 17, 3) := dk_183 0 17 (dk_at dksX12_init_0 14 rfl rfl)
theorem dX12_init_17 : decode cX12_init 17 = .ok (.putfield 18, 3) := dk_181 0 18 (dk_at dksX12_init_0 17 rfl rfl)
theorem dX12_init_20 : decode cX12_init 20 = .ok (.aload_n 0, 1) := dk_42 (dk_at dksX12_init_0 20 rfl rfl)
theorem dX12_init_21 : decode cX12_init 21 = .ok (.ldc 22, 2) := dk_18 22 (dk_at dksX12_init_0 21 rfl rfl)
theorem dX12_init_23 : decode cX12_init 23 = .ok (.putfield 24, 3) := dk_181 0 24 (dk_at dksX12_init_1 0 rfl rfl)
theorem dX12_init_26 : decode cX12_init 26 = .ok (.aload_n 0, 1) := dk_42 (dk_at dksX12_init_1 3 rfl rfl)
theorem dX12_init_27 : decode cX12_init 27 = .ok (.iload_n 2, 1) := dk_28 (dk_at dksX12_init_1 4 rfl rfl)
theorem dX12_init_28 : decode cX12_init 28 = .ok (.putfield 28, 3) := dk_181 0 28 (dk_at dksX12_init_1 5 rfl rfl)
theorem dX12_init_31 : decode cX12_init 31 = .ok (.aload_n 0, 1) := dk_42 (dk_at dksX12_init_1 8 rfl rfl)
theorem dX12_init_32 : decode cX12_init 32 = .ok (.invokevirtual 32, 3) := dk_182 0 32 (dk_at dksX12_init_1 9 rfl rfl)
theorem dX12_init_35 : decode cX12_init 35 = .ok (.return_, 1) := dk_177 (dk_at dksX12_init_1 12 rfl rfl)
abbrev cX12_advance : ByteArray := prog_12_method_3_code
def yX12_advance : MethodName := ⟨RX12, "advance", "()V"⟩
def dkwX12_advance_11 : List UInt8 := [42, 89, 180, 0, 39, 4, 96, 181, 0, 39, 42, 43, 182, 0, 82, 181, 0, 24, 177]
abbrev dktX12_advance_11 : List UInt8 := dkwX12_advance_11 ++ []
def dkwX12_advance_10 : List UInt8 := [180, 0, 39, 42, 180, 0, 28, 162, 0, 27, 43, 42, 42, 180, 0, 39, 182, 0, 42, 146, 182, 0, 78, 87]
abbrev dktX12_advance_10 : List UInt8 := dkwX12_advance_10 ++ dktX12_advance_11
def dkwX12_advance_9 : List UInt8 := [182, 0, 78, 87, 42, 89, 180, 0, 39, 4, 96, 181, 0, 39, 167, 255, 207, 28, 154, 0, 38, 42]
abbrev dktX12_advance_9 : List UInt8 := dkwX12_advance_9 ++ dktX12_advance_10
def dkwX12_advance_8 : List UInt8 := [20, 0, 74, 20, 0, 76, 184, 0, 56, 153, 0, 30, 43, 42, 42, 180, 0, 39, 182, 0, 42, 146]
abbrev dktX12_advance_8 : List UInt8 := dkwX12_advance_8 ++ dktX12_advance_9
def dkwX12_advance_7 : List UInt8 := [20, 0, 74, 20, 0, 76, 184, 0, 56, 61, 28, 153, 0, 51, 42, 42, 180, 0, 39, 182, 0, 42, 133]
abbrev dktX12_advance_7 : List UInt8 := dkwX12_advance_7 ++ dktX12_advance_8
def dkwX12_advance_6 : List UInt8 := [181, 0, 39, 167, 255, 197, 177, 187, 0, 71, 89, 183, 0, 73, 76, 42, 42, 180, 0, 39, 182, 0, 42, 133]
abbrev dktX12_advance_6 : List UInt8 := dkwX12_advance_6 ++ dktX12_advance_7
def dkwX12_advance_5 : List UInt8 := [42, 180, 0, 39, 182, 0, 42, 96, 16, 48, 100, 184, 0, 65, 181, 0, 49, 42, 89, 180, 0, 39, 4, 96]
abbrev dktX12_advance_5 : List UInt8 := dkwX12_advance_5 ++ dktX12_advance_6
def dkwX12_advance_4 : List UInt8 := [133, 20, 0, 52, 20, 0, 54, 184, 0, 56, 153, 0, 44, 42, 18, 64, 16, 10, 42, 180, 0, 49, 104, 42]
abbrev dktX12_advance_4 : List UInt8 := dkwX12_advance_4 ++ dktX12_advance_5
def dkwX12_advance_3 : List UInt8 := [20, 0, 54, 184, 0, 56, 181, 0, 60, 42, 180, 0, 60, 153, 0, 66, 42, 42, 180, 0, 39, 182, 0, 42]
abbrev dktX12_advance_3 : List UInt8 := dkwX12_advance_3 ++ dktX12_advance_4
def dkwX12_advance_2 : List UInt8 := [42, 18, 22, 181, 0, 24, 42, 3, 181, 0, 49, 42, 42, 42, 180, 0, 39, 182, 0, 42, 133, 20, 0, 52]
abbrev dktX12_advance_2 : List UInt8 := dkwX12_advance_2 ++ dktX12_advance_3
def dkwX12_advance_1 : List UInt8 := [160, 0, 16, 42, 89, 180, 0, 39, 4, 96, 181, 0, 39, 167, 255, 220, 42, 42, 180, 0, 39, 181, 0, 46]
abbrev dktX12_advance_1 : List UInt8 := dkwX12_advance_1 ++ dktX12_advance_2
def dkwX12_advance_0 : List UInt8 := [42, 42, 180, 0, 39, 182, 0, 42, 16, 32, 159, 0, 16, 42, 42, 180, 0, 39, 182, 0, 42, 16, 10]
abbrev dktX12_advance_0 : List UInt8 := dkwX12_advance_0 ++ dktX12_advance_1
theorem dksX12_advance_0 : cX12_advance.data.toList.drop 0 = dktX12_advance_0 := by decide +kernel
theorem dksX12_advance_1 : cX12_advance.data.toList.drop 23 = dktX12_advance_1 := dk_seg dksX12_advance_0 23 rfl rfl
theorem dksX12_advance_2 : cX12_advance.data.toList.drop 47 = dktX12_advance_2 := dk_seg dksX12_advance_1 24 rfl rfl
theorem dksX12_advance_3 : cX12_advance.data.toList.drop 71 = dktX12_advance_3 := dk_seg dksX12_advance_2 24 rfl rfl
theorem dksX12_advance_4 : cX12_advance.data.toList.drop 95 = dktX12_advance_4 := dk_seg dksX12_advance_3 24 rfl rfl
theorem dksX12_advance_5 : cX12_advance.data.toList.drop 119 = dktX12_advance_5 := dk_seg dksX12_advance_4 24 rfl rfl
theorem dksX12_advance_6 : cX12_advance.data.toList.drop 143 = dktX12_advance_6 := dk_seg dksX12_advance_5 24 rfl rfl
theorem dksX12_advance_7 : cX12_advance.data.toList.drop 167 = dktX12_advance_7 := dk_seg dksX12_advance_6 24 rfl rfl
theorem dksX12_advance_8 : cX12_advance.data.toList.drop 190 = dktX12_advance_8 := dk_seg dksX12_advance_7 23 rfl rfl
theorem dksX12_advance_9 : cX12_advance.data.toList.drop 212 = dktX12_advance_9 := dk_seg dksX12_advance_8 22 rfl rfl
theorem dksX12_advance_10 : cX12_advance.data.toList.drop 234 = dktX12_advance_10 := dk_seg dksX12_advance_9 22 rfl rfl
theorem dksX12_advance_11 : cX12_advance.data.toList.drop 258 = dktX12_advance_11 := dk_seg dksX12_advance_10 24 rfl rfl
theorem dX12_advance_0 : decode cX12_advance 0 = .ok (.aload_n 0, 1) := dk_42 (dk_at dksX12_advance_0 0 rfl rfl)
theorem dX12_advance_1 : decode cX12_advance 1 = .ok (.aload_n 0, 1) := dk_42 (dk_at dksX12_advance_0 1 rfl rfl)
theorem dX12_advance_2 : decode cX12_advance 2 = .ok (.getfield 39, 3) := dk_180 0 39 (dk_at dksX12_advance_0 2 rfl rfl)
theorem dX12_advance_5 : decode cX12_advance 5 = .ok (.invokevirtual 42, 3) := dk_182 0 42 (dk_at dksX12_advance_0 5 rfl rfl)
theorem dX12_advance_8 : decode cX12_advance 8 = .ok (.bipush 32, 2) := dk_16 32 (dk_at dksX12_advance_0 8 rfl rfl)
theorem dX12_advance_10 : decode cX12_advance 10 = .ok (.if_icmp .eq 16, 3) := dk_159 0 16 (dk_at dksX12_advance_0 10 rfl rfl)
theorem dX12_advance_13 : decode cX12_advance 13 = .ok (.aload_n 0, 1) := dk_42 (dk_at dksX12_advance_0 13 rfl rfl)
theorem dX12_advance_14 : decode cX12_advance 14 = .ok (.aload_n 0, 1) := dk_42 (dk_at dksX12_advance_0 14 rfl rfl)
theorem dX12_advance_15 : decode cX12_advance 15 = .ok (.getfield 39, 3) := dk_180 0 39 (dk_at dksX12_advance_0 15 rfl rfl)
theorem dX12_advance_18 : decode cX12_advance 18 = .ok (.invokevirtual 42, 3) := dk_182 0 42 (dk_at dksX12_advance_0 18 rfl rfl)
theorem dX12_advance_21 : decode cX12_advance 21 = .ok (.bipush 10, 2) := dk_16 10 (dk_at dksX12_advance_0 21 rfl rfl)
theorem dX12_advance_23 : decode cX12_advance 23 = .ok (.if_icmp .ne 16, 3) := dk_160 0 16 (dk_at dksX12_advance_1 0 rfl rfl)
theorem dX12_advance_26 : decode cX12_advance 26 = .ok (.aload_n 0, 1) := dk_42 (dk_at dksX12_advance_1 3 rfl rfl)
theorem dX12_advance_27 : decode cX12_advance 27 = .ok (.dup, 1) := dk_89 (dk_at dksX12_advance_1 4 rfl rfl)
theorem dX12_advance_28 : decode cX12_advance 28 = .ok (.getfield 39, 3) := dk_180 0 39 (dk_at dksX12_advance_1 5 rfl rfl)
theorem dX12_advance_31 : decode cX12_advance 31 = .ok (.iconst 1, 1) := dk_4 (dk_at dksX12_advance_1 8 rfl rfl)
theorem dX12_advance_32 : decode cX12_advance 32 = .ok (.iadd, 1) := dk_96 (dk_at dksX12_advance_1 9 rfl rfl)
theorem dX12_advance_33 : decode cX12_advance 33 = .ok (.putfield 39, 3) := dk_181 0 39 (dk_at dksX12_advance_1 10 rfl rfl)
theorem dX12_advance_36 : decode cX12_advance 36 = .ok (.goto (-36), 3) := dk_167 255 220 (dk_at dksX12_advance_1 13 rfl rfl)
theorem dX12_advance_39 : decode cX12_advance 39 = .ok (.aload_n 0, 1) := dk_42 (dk_at dksX12_advance_1 16 rfl rfl)
theorem dX12_advance_40 : decode cX12_advance 40 = .ok (.aload_n 0, 1) := dk_42 (dk_at dksX12_advance_1 17 rfl rfl)
theorem dX12_advance_41 : decode cX12_advance 41 = .ok (.getfield 39, 3) := dk_180 0 39 (dk_at dksX12_advance_1 18 rfl rfl)
theorem dX12_advance_44 : decode cX12_advance 44 = .ok (.putfield 46, 3) := dk_181 0 46 (dk_at dksX12_advance_1 21 rfl rfl)
theorem dX12_advance_47 : decode cX12_advance 47 = .ok (.aload_n 0, 1) := dk_42 (dk_at dksX12_advance_2 0 rfl rfl)
theorem dX12_advance_48 : decode cX12_advance 48 = .ok (.ldc 22, 2) := dk_18 22 (dk_at dksX12_advance_2 1 rfl rfl)
theorem dX12_advance_50 : decode cX12_advance 50 = .ok (.putfield 24, 3) := dk_181 0 24 (dk_at dksX12_advance_2 3 rfl rfl)
theorem dX12_advance_53 : decode cX12_advance 53 = .ok (.aload_n 0, 1) := dk_42 (dk_at dksX12_advance_2 6 rfl rfl)
theorem dX12_advance_54 : decode cX12_advance 54 = .ok (.iconst 0, 1) := dk_3 (dk_at dksX12_advance_2 7 rfl rfl)
theorem dX12_advance_55 : decode cX12_advance 55 = .ok (.putfield 49, 3) := dk_181 0 49 (dk_at dksX12_advance_2 8 rfl rfl)
theorem dX12_advance_58 : decode cX12_advance 58 = .ok (.aload_n 0, 1) := dk_42 (dk_at dksX12_advance_2 11 rfl rfl)
theorem dX12_advance_59 : decode cX12_advance 59 = .ok (.aload_n 0, 1) := dk_42 (dk_at dksX12_advance_2 12 rfl rfl)
theorem dX12_advance_60 : decode cX12_advance 60 = .ok (.aload_n 0, 1) := dk_42 (dk_at dksX12_advance_2 13 rfl rfl)
theorem dX12_advance_61 : decode cX12_advance 61 = .ok (.getfield 39, 3) := dk_180 0 39 (dk_at dksX12_advance_2 14 rfl rfl)
theorem dX12_advance_64 : decode cX12_advance 64 = .ok (.invokevirtual 42, 3) := dk_182 0 42 (dk_at dksX12_advance_2 17 rfl rfl)
theorem dX12_advance_67 : decode cX12_advance 67 = .ok (.i2l, 1) := dk_133 (dk_at dksX12_advance_2 20 rfl rfl)
theorem dX12_advance_68 : decode cX12_advance 68 = .ok (.ldc2_w 52, 3) := dk_20 0 52 (dk_at dksX12_advance_2 21 rfl rfl)
theorem dX12_advance_71 : decode cX12_advance 71 = .ok (.ldc2_w 54, 3) := dk_20 0 54 (dk_at dksX12_advance_3 0 rfl rfl)
theorem dX12_advance_74 : decode cX12_advance 74 = .ok (.invokestatic 56, 3) := dk_184 0 56 (dk_at dksX12_advance_3 3 rfl rfl)
theorem dX12_advance_77 : decode cX12_advance 77 = .ok (.putfield 60, 3) := dk_181 0 60 (dk_at dksX12_advance_3 6 rfl rfl)
theorem dX12_advance_80 : decode cX12_advance 80 = .ok (.aload_n 0, 1) := dk_42 (dk_at dksX12_advance_3 9 rfl rfl)
theorem dX12_advance_81 : decode cX12_advance 81 = .ok (.getfield 60, 3) := dk_180 0 60 (dk_at dksX12_advance_3 10 rfl rfl)
theorem dX12_advance_84 : decode cX12_advance 84 = .ok (.ifCond .eq 66, 3) := dk_153 0 66 (dk_at dksX12_advance_3 13 rfl rfl)
theorem dX12_advance_87 : decode cX12_advance 87 = .ok (.aload_n 0, 1) := dk_42 (dk_at dksX12_advance_3 16 rfl rfl)
theorem dX12_advance_88 : decode cX12_advance 88 = .ok (.aload_n 0, 1) := dk_42 (dk_at dksX12_advance_3 17 rfl rfl)
theorem dX12_advance_89 : decode cX12_advance 89 = .ok (.getfield 39, 3) := dk_180 0 39 (dk_at dksX12_advance_3 18 rfl rfl)
theorem dX12_advance_92 : decode cX12_advance 92 = .ok (.invokevirtual 42, 3) := dk_182 0 42 (dk_at dksX12_advance_3 21 rfl rfl)
theorem dX12_advance_95 : decode cX12_advance 95 = .ok (.i2l, 1) := dk_133 (dk_at dksX12_advance_4 0 rfl rfl)
theorem dX12_advance_96 : decode cX12_advance 96 = .ok (.ldc2_w 52, 3) := dk_20 0 52 (dk_at dksX12_advance_4 1 rfl rfl)
theorem dX12_advance_99 : decode cX12_advance 99 = .ok (.ldc2_w 54, 3) := dk_20 0 54 (dk_at dksX12_advance_4 4 rfl rfl)
theorem dX12_advance_102 : decode cX12_advance 102 = .ok (.invokestatic 56, 3) := dk_184 0 56 (dk_at dksX12_advance_4 7 rfl rfl)
theorem dX12_advance_105 : decode cX12_advance 105 = .ok (.ifCond .eq 44, 3) := dk_153 0 44 (dk_at dksX12_advance_4 10 rfl rfl)
theorem dX12_advance_108 : decode cX12_advance 108 = .ok (.aload_n 0, 1) := dk_42 (dk_at dksX12_advance_4 13 rfl rfl)
theorem dX12_advance_109 : decode cX12_advance 109 = .ok (.ldc 64, 2) := dk_18 64 (dk_at dksX12_advance_4 14 rfl rfl)
theorem dX12_advance_111 : decode cX12_advance 111 = .ok (.bipush 10, 2) := dk_16 10 (dk_at dksX12_advance_4 16 rfl rfl)
theorem dX12_advance_113 : decode cX12_advance 113 = .ok (.aload_n 0, 1) := dk_42 (dk_at dksX12_advance_4 18 rfl rfl)
theorem dX12_advance_114 : decode cX12_advance 114 = .ok (.getfield 49, 3) := dk_180 0 49 (dk_at dksX12_advance_4 19 rfl rfl)
theorem dX12_advance_117 : decode cX12_advance 117 = .ok (.imul, 1) := dk_104 (dk_at dksX12_advance_4 22 rfl rfl)
theorem dX12_advance_118 : decode cX12_advance 118 = .ok (.aload_n 0, 1) := dk_42 (dk_at dksX12_advance_4 23 rfl rfl)
theorem dX12_advance_119 : decode cX12_advance 119 = .ok (.aload_n 0, 1) := dk_42 (dk_at dksX12_advance_5 0 rfl rfl)
theorem dX12_advance_120 : decode cX12_advance 120 = .ok (.getfield 39, 3) := dk_180 0 39 (dk_at dksX12_advance_5 1 rfl rfl)
theorem dX12_advance_123 : decode cX12_advance 123 = .ok (.invokevirtual 42, 3) := dk_182 0 42 (dk_at dksX12_advance_5 4 rfl rfl)
theorem dX12_advance_126 : decode cX12_advance 126 = .ok (.iadd, 1) := dk_96 (dk_at dksX12_advance_5 7 rfl rfl)
theorem dX12_advance_127 : decode cX12_advance 127 = .ok (.bipush 48, 2) := dk_16 48 (dk_at dksX12_advance_5 8 rfl rfl)
theorem dX12_advance_129 : decode cX12_advance 129 = .ok (.isub, 1) := dk_100 (dk_at dksX12_advance_5 10 rfl rfl)
theorem dX12_advance_130 : decode cX12_advance 130 = .ok (.invokestatic 65, 3) := dk_184 0 65 (dk_at dksX12_advance_5 11 rfl rfl)
theorem dX12_advance_133 : decode cX12_advance 133 = .ok (.putfield 49, 3) := dk_181 0 49 (dk_at dksX12_advance_5 14 rfl rfl)
theorem dX12_advance_136 : decode cX12_advance 136 = .ok (.aload_n 0, 1) := dk_42 (dk_at dksX12_advance_5 17 rfl rfl)
theorem dX12_advance_137 : decode cX12_advance 137 = .ok (.dup, 1) := dk_89 (dk_at dksX12_advance_5 18 rfl rfl)
theorem dX12_advance_138 : decode cX12_advance 138 = .ok (.getfield 39, 3) := dk_180 0 39 (dk_at dksX12_advance_5 19 rfl rfl)
theorem dX12_advance_141 : decode cX12_advance 141 = .ok (.iconst 1, 1) := dk_4 (dk_at dksX12_advance_5 22 rfl rfl)
theorem dX12_advance_142 : decode cX12_advance 142 = .ok (.iadd, 1) := dk_96 (dk_at dksX12_advance_5 23 rfl rfl)
theorem dX12_advance_143 : decode cX12_advance 143 = .ok (.putfield 39, 3) := dk_181 0 39 (dk_at dksX12_advance_6 0 rfl rfl)
theorem dX12_advance_146 : decode cX12_advance 146 = .ok (.goto (-59), 3) := dk_167 255 197 (dk_at dksX12_advance_6 3 rfl rfl)
theorem dX12_advance_149 : decode cX12_advance 149 = .ok (.return_, 1) := dk_177 (dk_at dksX12_advance_6 6 rfl rfl)
theorem dX12_advance_150 : decode cX12_advance 150 = .ok (.new 71, 3) := dk_187 0 71 (dk_at dksX12_advance_6 7 rfl rfl)
theorem dX12_advance_153 : decode cX12_advance 153 = .ok (.dup, 1) := dk_89 (dk_at dksX12_advance_6 10 rfl rfl)
theorem dX12_advance_154 : decode cX12_advance 154 = .ok (.invokespecial 73, 3) := dk_183 0 73 (dk_at dksX12_advance_6 11 rfl rfl)
theorem dX12_advance_157 : decode cX12_advance 157 = .ok (.astore_n 1, 1) := dk_76 (dk_at dksX12_advance_6 14 rfl rfl)
theorem dX12_advance_158 : decode cX12_advance 158 = .ok (.aload_n 0, 1) := dk_42 (dk_at dksX12_advance_6 15 rfl rfl)
theorem dX12_advance_159 : decode cX12_advance 159 = .ok (.aload_n 0, 1) := dk_42 (dk_at dksX12_advance_6 16 rfl rfl)
theorem dX12_advance_160 : decode cX12_advance 160 = .ok (.getfield 39, 3) := dk_180 0 39 (dk_at dksX12_advance_6 17 rfl rfl)
theorem dX12_advance_163 : decode cX12_advance 163 = .ok (.invokevirtual 42, 3) := dk_182 0 42 (dk_at dksX12_advance_6 20 rfl rfl)
theorem dX12_advance_166 : decode cX12_advance 166 = .ok (.i2l, 1) := dk_133 (dk_at dksX12_advance_6 23 rfl rfl)
theorem dX12_advance_167 : decode cX12_advance 167 = .ok (.ldc2_w 74, 3) := dk_20 0 74 (dk_at dksX12_advance_7 0 rfl rfl)
theorem dX12_advance_170 : decode cX12_advance 170 = .ok (.ldc2_w 76, 3) := dk_20 0 76 (dk_at dksX12_advance_7 3 rfl rfl)
theorem dX12_advance_173 : decode cX12_advance 173 = .ok (.invokestatic 56, 3) := dk_184 0 56 (dk_at dksX12_advance_7 6 rfl rfl)
theorem dX12_advance_176 : decode cX12_advance 176 = .ok (.istore_n 2, 1) := dk_61 (dk_at dksX12_advance_7 9 rfl rfl)
theorem dX12_advance_177 : decode cX12_advance 177 = .ok (.iload_n 2, 1) := dk_28 (dk_at dksX12_advance_7 10 rfl rfl)
theorem dX12_advance_178 : decode cX12_advance 178 = .ok (.ifCond .eq 51, 3) := dk_153 0 51 (dk_at dksX12_advance_7 11 rfl rfl)
theorem dX12_advance_181 : decode cX12_advance 181 = .ok (.aload_n 0, 1) := dk_42 (dk_at dksX12_advance_7 14 rfl rfl)
theorem dX12_advance_182 : decode cX12_advance 182 = .ok (.aload_n 0, 1) := dk_42 (dk_at dksX12_advance_7 15 rfl rfl)
theorem dX12_advance_183 : decode cX12_advance 183 = .ok (.getfield 39, 3) := dk_180 0 39 (dk_at dksX12_advance_7 16 rfl rfl)
theorem dX12_advance_186 : decode cX12_advance 186 = .ok (.invokevirtual 42, 3) := dk_182 0 42 (dk_at dksX12_advance_7 19 rfl rfl)
theorem dX12_advance_189 : decode cX12_advance 189 = .ok (.i2l, 1) := dk_133 (dk_at dksX12_advance_7 22 rfl rfl)
theorem dX12_advance_190 : decode cX12_advance 190 = .ok (.ldc2_w 74, 3) := dk_20 0 74 (dk_at dksX12_advance_8 0 rfl rfl)
theorem dX12_advance_193 : decode cX12_advance 193 = .ok (.ldc2_w 76, 3) := dk_20 0 76 (dk_at dksX12_advance_8 3 rfl rfl)
theorem dX12_advance_196 : decode cX12_advance 196 = .ok (.invokestatic 56, 3) := dk_184 0 56 (dk_at dksX12_advance_8 6 rfl rfl)
theorem dX12_advance_199 : decode cX12_advance 199 = .ok (.ifCond .eq 30, 3) := dk_153 0 30 (dk_at dksX12_advance_8 9 rfl rfl)
theorem dX12_advance_202 : decode cX12_advance 202 = .ok (.aload_n 1, 1) := dk_43 (dk_at dksX12_advance_8 12 rfl rfl)
theorem dX12_advance_203 : decode cX12_advance 203 = .ok (.aload_n 0, 1) := dk_42 (dk_at dksX12_advance_8 13 rfl rfl)
theorem dX12_advance_204 : decode cX12_advance 204 = .ok (.aload_n 0, 1) := dk_42 (dk_at dksX12_advance_8 14 rfl rfl)
theorem dX12_advance_205 : decode cX12_advance 205 = .ok (.getfield 39, 3) := dk_180 0 39 (dk_at dksX12_advance_8 15 rfl rfl)
theorem dX12_advance_208 : decode cX12_advance 208 = .ok (.invokevirtual 42, 3) := dk_182 0 42 (dk_at dksX12_advance_8 18 rfl rfl)
theorem dX12_advance_211 : decode cX12_advance 211 = .ok (.i2c, 1) := dk_146 (dk_at dksX12_advance_8 21 rfl rfl)
theorem dX12_advance_212 : decode cX12_advance 212 = .ok (.invokevirtual 78, 3) := dk_182 0 78 (dk_at dksX12_advance_9 0 rfl rfl)
theorem dX12_advance_215 : decode cX12_advance 215 = .ok (.pop, 1) := dk_87 (dk_at dksX12_advance_9 3 rfl rfl)
theorem dX12_advance_216 : decode cX12_advance 216 = .ok (.aload_n 0, 1) := dk_42 (dk_at dksX12_advance_9 4 rfl rfl)
theorem dX12_advance_217 : decode cX12_advance 217 = .ok (.dup, 1) := dk_89 (dk_at dksX12_advance_9 5 rfl rfl)
theorem dX12_advance_218 : decode cX12_advance 218 = .ok (.getfield 39, 3) := dk_180 0 39 (dk_at dksX12_advance_9 6 rfl rfl)
theorem dX12_advance_221 : decode cX12_advance 221 = .ok (.iconst 1, 1) := dk_4 (dk_at dksX12_advance_9 9 rfl rfl)
theorem dX12_advance_222 : decode cX12_advance 222 = .ok (.iadd, 1) := dk_96 (dk_at dksX12_advance_9 10 rfl rfl)
theorem dX12_advance_223 : decode cX12_advance 223 = .ok (.putfield 39, 3) := dk_181 0 39 (dk_at dksX12_advance_9 11 rfl rfl)
theorem dX12_advance_226 : decode cX12_advance 226 = .ok (.goto (-49), 3) := dk_167 255 207 (dk_at dksX12_advance_9 14 rfl rfl)
theorem dX12_advance_229 : decode cX12_advance 229 = .ok (.iload_n 2, 1) := dk_28 (dk_at dksX12_advance_9 17 rfl rfl)
theorem dX12_advance_230 : decode cX12_advance 230 = .ok (.ifCond .ne 38, 3) := dk_154 0 38 (dk_at dksX12_advance_9 18 rfl rfl)
theorem dX12_advance_233 : decode cX12_advance 233 = .ok (.aload_n 0, 1) := dk_42 (dk_at dksX12_advance_9 21 rfl rfl)
theorem dX12_advance_234 : decode cX12_advance 234 = .ok (.getfield 39, 3) := dk_180 0 39 (dk_at dksX12_advance_10 0 rfl rfl)
theorem dX12_advance_237 : decode cX12_advance 237 = .ok (.aload_n 0, 1) := dk_42 (dk_at dksX12_advance_10 3 rfl rfl)
theorem dX12_advance_238 : decode cX12_advance 238 = .ok (.getfield 28, 3) := dk_180 0 28 (dk_at dksX12_advance_10 4 rfl rfl)
theorem dX12_advance_241 : decode cX12_advance 241 = .ok (.if_icmp .ge 27, 3) := dk_162 0 27 (dk_at dksX12_advance_10 7 rfl rfl)
theorem dX12_advance_244 : decode cX12_advance 244 = .ok (.aload_n 1, 1) := dk_43 (dk_at dksX12_advance_10 10 rfl rfl)
theorem dX12_advance_245 : decode cX12_advance 245 = .ok (.aload_n 0, 1) := dk_42 (dk_at dksX12_advance_10 11 rfl rfl)
theorem dX12_advance_246 : decode cX12_advance 246 = .ok (.aload_n 0, 1) := dk_42 (dk_at dksX12_advance_10 12 rfl rfl)
theorem dX12_advance_247 : decode cX12_advance 247 = .ok (.getfield 39, 3) := dk_180 0 39 (dk_at dksX12_advance_10 13 rfl rfl)
theorem dX12_advance_250 : decode cX12_advance 250 = .ok (.invokevirtual 42, 3) := dk_182 0 42 (dk_at dksX12_advance_10 16 rfl rfl)
theorem dX12_advance_253 : decode cX12_advance 253 = .ok (.i2c, 1) := dk_146 (dk_at dksX12_advance_10 19 rfl rfl)
theorem dX12_advance_254 : decode cX12_advance 254 = .ok (.invokevirtual 78, 3) := dk_182 0 78 (dk_at dksX12_advance_10 20 rfl rfl)
theorem dX12_advance_257 : decode cX12_advance 257 = .ok (.pop, 1) := dk_87 (dk_at dksX12_advance_10 23 rfl rfl)
theorem dX12_advance_258 : decode cX12_advance 258 = .ok (.aload_n 0, 1) := dk_42 (dk_at dksX12_advance_11 0 rfl rfl)
theorem dX12_advance_259 : decode cX12_advance 259 = .ok (.dup, 1) := dk_89 (dk_at dksX12_advance_11 1 rfl rfl)
theorem dX12_advance_260 : decode cX12_advance 260 = .ok (.getfield 39, 3) := dk_180 0 39 (dk_at dksX12_advance_11 2 rfl rfl)
theorem dX12_advance_263 : decode cX12_advance 263 = .ok (.iconst 1, 1) := dk_4 (dk_at dksX12_advance_11 5 rfl rfl)
theorem dX12_advance_264 : decode cX12_advance 264 = .ok (.iadd, 1) := dk_96 (dk_at dksX12_advance_11 6 rfl rfl)
theorem dX12_advance_265 : decode cX12_advance 265 = .ok (.putfield 39, 3) := dk_181 0 39 (dk_at dksX12_advance_11 7 rfl rfl)
theorem dX12_advance_268 : decode cX12_advance 268 = .ok (.aload_n 0, 1) := dk_42 (dk_at dksX12_advance_11 10 rfl rfl)
theorem dX12_advance_269 : decode cX12_advance 269 = .ok (.aload_n 1, 1) := dk_43 (dk_at dksX12_advance_11 11 rfl rfl)
theorem dX12_advance_270 : decode cX12_advance 270 = .ok (.invokevirtual 82, 3) := dk_182 0 82 (dk_at dksX12_advance_11 12 rfl rfl)
theorem dX12_advance_273 : decode cX12_advance 273 = .ok (.putfield 24, 3) := dk_181 0 24 (dk_at dksX12_advance_11 15 rfl rfl)
theorem dX12_advance_276 : decode cX12_advance 276 = .ok (.return_, 1) := dk_177 (dk_at dksX12_advance_11 18 rfl rfl)
abbrev cX12_byteAt : ByteArray := prog_12_method_2_code
def yX12_byteAt : MethodName := ⟨RX12, "byteAt", "(I)I"⟩
def dkwX12_byteAt_1 : List UInt8 := [2, 172]
abbrev dktX12_byteAt_1 : List UInt8 := dkwX12_byteAt_1 ++ []
def dkwX12_byteAt_0 : List UInt8 := [27, 42, 180, 0, 28, 162, 0, 19, 42, 180, 0, 3, 180, 0, 35, 27, 51, 17, 0, 255, 126, 167, 0, 4]
abbrev dktX12_byteAt_0 : List UInt8 := dkwX12_byteAt_0 ++ dktX12_byteAt_1
theorem dksX12_byteAt_0 : cX12_byteAt.data.toList.drop 0 = dktX12_byteAt_0 := by decide +kernel
theorem dksX12_byteAt_1 : cX12_byteAt.data.toList.drop 24 = dktX12_byteAt_1 := dk_seg dksX12_byteAt_0 24 rfl rfl
theorem dX12_byteAt_0 : decode cX12_byteAt 0 = .ok (.iload_n 1, 1) := dk_27 (dk_at dksX12_byteAt_0 0 rfl rfl)
theorem dX12_byteAt_1 : decode cX12_byteAt 1 = .ok (.aload_n 0, 1) := dk_42 (dk_at dksX12_byteAt_0 1 rfl rfl)
theorem dX12_byteAt_2 : decode cX12_byteAt 2 = .ok (.getfield 28, 3) := dk_180 0 28 (dk_at dksX12_byteAt_0 2 rfl rfl)
theorem dX12_byteAt_5 : decode cX12_byteAt 5 = .ok (.if_icmp .ge 19, 3) := dk_162 0 19 (dk_at dksX12_byteAt_0 5 rfl rfl)
theorem dX12_byteAt_8 : decode cX12_byteAt 8 = .ok (.aload_n 0, 1) := dk_42 (dk_at dksX12_byteAt_0 8 rfl rfl)
theorem dX12_byteAt_9 : decode cX12_byteAt 9 = .ok (.getfield 3, 3) := dk_180 0 3 (dk_at dksX12_byteAt_0 9 rfl rfl)
theorem dX12_byteAt_12 : decode cX12_byteAt 12 = .ok (.getfield 35, 3) := dk_180 0 35 (dk_at dksX12_byteAt_0 12 rfl rfl)
theorem dX12_byteAt_15 : decode cX12_byteAt 15 = .ok (.iload_n 1, 1) := dk_27 (dk_at dksX12_byteAt_0 15 rfl rfl)
theorem dX12_byteAt_16 : decode cX12_byteAt 16 = .ok (.baload, 1) := dk_51 (dk_at dksX12_byteAt_0 16 rfl rfl)
theorem dX12_byteAt_17 : decode cX12_byteAt 17 = .ok (.sipush 255, 3) := dk_17 0 255 (dk_at dksX12_byteAt_0 17 rfl rfl)
theorem dX12_byteAt_20 : decode cX12_byteAt 20 = .ok (.iand, 1) := dk_126 (dk_at dksX12_byteAt_0 20 rfl rfl)
theorem dX12_byteAt_21 : decode cX12_byteAt 21 = .ok (.goto 4, 3) := dk_167 0 4 (dk_at dksX12_byteAt_0 21 rfl rfl)
theorem dX12_byteAt_24 : decode cX12_byteAt 24 = .ok (.iconst (-1), 1) := dk_2 (dk_at dksX12_byteAt_1 0 rfl rfl)
theorem dX12_byteAt_25 : decode cX12_byteAt 25 = .ok (.ireturn, 1) := dk_172 (dk_at dksX12_byteAt_1 1 rfl rfl)
abbrev cX12_setup : ByteArray := prog_12_method_8_code
def yX12_setup : MethodName := ⟨RX12, "setup", "()I"⟩
def dkwX12_setup_2 : List UInt8 := [132, 1, 1, 167, 255, 210, 27, 172]
abbrev dktX12_setup_2 : List UInt8 := dkwX12_setup_2 ++ []
def dkwX12_setup_1 : List UInt8 := [182, 0, 103, 154, 0, 15, 187, 0, 95, 89, 42, 180, 0, 46, 183, 0, 97, 191, 42, 182, 0, 32]
abbrev dktX12_setup_1 : List UInt8 := dkwX12_setup_1 ++ dktX12_setup_2
def dkwX12_setup_0 : List UInt8 := [3, 60, 42, 180, 0, 46, 42, 180, 0, 28, 162, 0, 41, 42, 182, 0, 109, 42, 180, 0, 24, 18, 112]
abbrev dktX12_setup_0 : List UInt8 := dkwX12_setup_0 ++ dktX12_setup_1
theorem dksX12_setup_0 : cX12_setup.data.toList.drop 0 = dktX12_setup_0 := by decide +kernel
theorem dksX12_setup_1 : cX12_setup.data.toList.drop 23 = dktX12_setup_1 := dk_seg dksX12_setup_0 23 rfl rfl
theorem dksX12_setup_2 : cX12_setup.data.toList.drop 45 = dktX12_setup_2 := dk_seg dksX12_setup_1 22 rfl rfl
theorem dX12_setup_0 : decode cX12_setup 0 = .ok (.iconst 0, 1) := dk_3 (dk_at dksX12_setup_0 0 rfl rfl)
theorem dX12_setup_1 : decode cX12_setup 1 = .ok (.istore_n 1, 1) := dk_60 (dk_at dksX12_setup_0 1 rfl rfl)
theorem dX12_setup_2 : decode cX12_setup 2 = .ok (.aload_n 0, 1) := dk_42 (dk_at dksX12_setup_0 2 rfl rfl)
theorem dX12_setup_3 : decode cX12_setup 3 = .ok (.getfield 46, 3) := dk_180 0 46 (dk_at dksX12_setup_0 3 rfl rfl)
theorem dX12_setup_6 : decode cX12_setup 6 = .ok (.aload_n 0, 1) := dk_42 (dk_at dksX12_setup_0 6 rfl rfl)
theorem dX12_setup_7 : decode cX12_setup 7 = .ok (.getfield 28, 3) := dk_180 0 28 (dk_at dksX12_setup_0 7 rfl rfl)
theorem dX12_setup_10 : decode cX12_setup 10 = .ok (.if_icmp .ge 41, 3) := dk_162 0 41 (dk_at dksX12_setup_0 10 rfl rfl)
theorem dX12_setup_13 : decode cX12_setup 13 = .ok (.aload_n 0, 1) := dk_42 (dk_at dksX12_setup_0 13 rfl rfl)
theorem dX12_setup_14 : decode cX12_setup 14 = .ok (.invokevirtual 109, 3) := dk_182 0 109 (dk_at dksX12_setup_0 14 rfl rfl)
theorem dX12_setup_17 : decode cX12_setup 17 = .ok (.aload_n 0, 1) := dk_42 (dk_at dksX12_setup_0 17 rfl rfl)
theorem dX12_setup_18 : decode cX12_setup 18 = .ok (.getfield 24, 3) := dk_180 0 24 (dk_at dksX12_setup_0 18 rfl rfl)
theorem dX12_setup_21 : decode cX12_setup 21 = .ok (.ldc 112, 2) := dk_18 112 (dk_at dksX12_setup_0 21 rfl rfl)
theorem dX12_setup_23 : decode cX12_setup 23 = .ok (.invokevirtual 103, 3) := dk_182 0 103 (dk_at dksX12_setup_1 0 rfl rfl)
theorem dX12_setup_26 : decode cX12_setup 26 = .ok (.ifCond .ne 15, 3) := dk_154 0 15 (dk_at dksX12_setup_1 3 rfl rfl)
theorem dX12_setup_29 : decode cX12_setup 29 = .ok (.new 95, 3) := dk_187 0 95 (dk_at dksX12_setup_1 6 rfl rfl)
theorem dX12_setup_32 : decode cX12_setup 32 = .ok (.dup, 1) := dk_89 (dk_at dksX12_setup_1 9 rfl rfl)
theorem dX12_setup_33 : decode cX12_setup 33 = .ok (.aload_n 0, 1) := dk_42 (dk_at dksX12_setup_1 10 rfl rfl)
theorem dX12_setup_34 : decode cX12_setup 34 = .ok (.getfield 46, 3) := dk_180 0 46 (dk_at dksX12_setup_1 11 rfl rfl)
theorem dX12_setup_37 : decode cX12_setup 37 = .ok (.invokespecial 97, 3) := dk_183 0 97 (dk_at dksX12_setup_1 14 rfl rfl)
theorem dX12_setup_40 : decode cX12_setup 40 = .ok (.athrow, 1) := dk_191 (dk_at dksX12_setup_1 17 rfl rfl)
theorem dX12_setup_41 : decode cX12_setup 41 = .ok (.aload_n 0, 1) := dk_42 (dk_at dksX12_setup_1 18 rfl rfl)
theorem dX12_setup_42 : decode cX12_setup 42 = .ok (.invokevirtual 32, 3) := dk_182 0 32 (dk_at dksX12_setup_1 19 rfl rfl)
theorem dX12_setup_45 : decode cX12_setup 45 = .ok (.iinc 1 1, 3) := dk_132 1 1 (dk_at dksX12_setup_2 0 rfl rfl)
theorem dX12_setup_48 : decode cX12_setup 48 = .ok (.goto (-46), 3) := dk_167 255 210 (dk_at dksX12_setup_2 3 rfl rfl)
theorem dX12_setup_51 : decode cX12_setup 51 = .ok (.iload_n 1, 1) := dk_27 (dk_at dksX12_setup_2 6 rfl rfl)
theorem dX12_setup_52 : decode cX12_setup 52 = .ok (.ireturn, 1) := dk_172 (dk_at dksX12_setup_2 7 rfl rfl)
abbrev cX12_statement : ByteArray := prog_12_method_9_code
def yX12_statement : MethodName := ⟨RX12, "statement", "()V"⟩
def dkwX12_statement_16 : List UInt8 := [89, 42, 180, 0, 46, 183, 0, 97, 191, 177]
abbrev dktX12_statement_16 : List UInt8 := dkwX12_statement_16 ++ []
def dkwX12_statement_15 : List UInt8 := [181, 0, 166, 167, 0, 30, 42, 182, 0, 32, 42, 180, 0, 18, 4, 181, 0, 168, 167, 0, 15, 187, 0, 95]
abbrev dktX12_statement_15 : List UInt8 := dkwX12_statement_15 ++ dktX12_statement_16
def dkwX12_statement_14 : List UInt8 := [182, 0, 161, 181, 0, 164, 167, 0, 51, 42, 182, 0, 32, 42, 180, 0, 18, 42, 3, 16, 99, 182, 0, 157]
abbrev dktX12_statement_14 : List UInt8 := dkwX12_statement_14 ++ dktX12_statement_15
def dkwX12_statement_13 : List UInt8 := [182, 0, 157, 181, 0, 159, 167, 0, 73, 42, 182, 0, 32, 42, 180, 0, 18, 42, 16, 166, 16, 90]
abbrev dktX12_statement_13 : List UInt8 := dkwX12_statement_13 ++ dktX12_statement_14
def dkwX12_statement_12 : List UInt8 := [182, 0, 32, 42, 182, 0, 155, 167, 0, 96, 42, 182, 0, 32, 42, 180, 0, 18, 42, 16, 100, 17, 3, 232]
abbrev dktX12_statement_12 : List UInt8 := dkwX12_statement_12 ++ dktX12_statement_13
def dkwX12_statement_11 : List UInt8 := [180, 0, 18, 180, 0, 152, 182, 0, 136, 16, 6, 162, 0, 7, 4, 167, 0, 4, 3, 182, 0, 141, 42]
abbrev dktX12_statement_11 : List UInt8 := dkwX12_statement_11 ++ dktX12_statement_12
def dkwX12_statement_10 : List UInt8 := [162, 0, 7, 4, 167, 0, 4, 3, 182, 0, 141, 42, 182, 0, 32, 42, 182, 0, 150, 167, 0, 131, 42, 42]
abbrev dktX12_statement_10 : List UInt8 := dkwX12_statement_10 ++ dktX12_statement_11
def dkwX12_statement_9 : List UInt8 := [42, 182, 0, 32, 42, 182, 0, 145, 167, 0, 165, 42, 42, 180, 0, 18, 180, 0, 147, 182, 0, 136, 7]
abbrev dktX12_statement_9 : List UInt8 := dkwX12_statement_9 ++ dktX12_statement_10
def dkwX12_statement_8 : List UInt8 := [42, 42, 180, 0, 18, 180, 0, 132, 182, 0, 136, 16, 8, 162, 0, 7, 4, 167, 0, 4, 3, 182, 0, 141]
abbrev dktX12_statement_8 : List UInt8 := dkwX12_statement_8 ++ dktX12_statement_9
def dkwX12_statement_7 : List UInt8 := [170, 0, 0, 0, 0, 0, 228, 0, 0, 0, 0, 0, 0, 0, 6, 0, 0, 0, 43, 0, 0, 0, 78, 0, 0, 0, 112, 0, 0, 0, 147, 0, 0, 0, 170, 0, 0, 0, 192, 0, 0, 0, 213]
abbrev dktX12_statement_7 : List UInt8 := dkwX12_statement_7 ++ dktX12_statement_8
def dkwX12_statement_6 : List UInt8 := [61, 28]
abbrev dktX12_statement_6 : List UInt8 := dkwX12_statement_6 ++ dktX12_statement_7
def dkwX12_statement_5 : List UInt8 := [18, 128, 182, 0, 103, 153, 0, 20, 8, 61, 167, 0, 15, 43, 18, 130, 182, 0, 103, 153, 0, 6, 16, 6]
abbrev dktX12_statement_5 : List UInt8 := dkwX12_statement_5 ++ dktX12_statement_6
def dkwX12_statement_4 : List UInt8 := [153, 0, 48, 6, 61, 167, 0, 43, 43, 18, 126, 182, 0, 103, 153, 0, 34, 7, 61, 167, 0, 29, 43]
abbrev dktX12_statement_4 : List UInt8 := dkwX12_statement_4 ++ dktX12_statement_5
def dkwX12_statement_3 : List UInt8 := [61, 167, 0, 71, 43, 18, 122, 182, 0, 103, 153, 0, 62, 5, 61, 167, 0, 57, 43, 18, 124, 182, 0, 103]
abbrev dktX12_statement_3 : List UInt8 := dkwX12_statement_3 ++ dktX12_statement_4
def dkwX12_statement_2 : List UInt8 := [43, 18, 118, 182, 0, 103, 153, 0, 90, 3, 61, 167, 0, 85, 43, 18, 120, 182, 0, 103, 153, 0, 76, 4]
abbrev dktX12_statement_2 : List UInt8 := dkwX12_statement_2 ++ dktX12_statement_3
def dkwX12_statement_1 : List UInt8 := [171, 0, 0, 0, 161, 0, 0, 0, 7, 182, 61, 217, 135, 0, 0, 0, 121, 202, 144, 104, 27, 0, 0, 0, 93, 0, 1, 166, 71, 0, 0, 0, 65, 6, 66, 39, 26, 0, 0, 0, 135, 6, 136, 201, 15, 0, 0, 0, 107, 20, 99, 143, 44, 0, 0, 0, 79, 77, 167, 77, 143, 0, 0, 0, 149]
abbrev dktX12_statement_1 : List UInt8 := dkwX12_statement_1 ++ dktX12_statement_2
def dkwX12_statement_0 : List UInt8 := [42, 180, 0, 24, 76, 2, 61, 43, 182, 0, 114]
abbrev dktX12_statement_0 : List UInt8 := dkwX12_statement_0 ++ dktX12_statement_1
theorem dksX12_statement_0 : cX12_statement.data.toList.drop 0 = dktX12_statement_0 := by decide +kernel
theorem dksX12_statement_1 : cX12_statement.data.toList.drop 11 = dktX12_statement_1 := dk_seg dksX12_statement_0 11 rfl rfl
theorem dksX12_statement_2 : cX12_statement.data.toList.drop 76 = dktX12_statement_2 := dk_seg dksX12_statement_1 65 rfl rfl
theorem dksX12_statement_3 : cX12_statement.data.toList.drop 100 = dktX12_statement_3 := dk_seg dksX12_statement_2 24 rfl rfl
theorem dksX12_statement_4 : cX12_statement.data.toList.drop 124 = dktX12_statement_4 := dk_seg dksX12_statement_3 24 rfl rfl
theorem dksX12_statement_5 : cX12_statement.data.toList.drop 147 = dktX12_statement_5 := dk_seg dksX12_statement_4 23 rfl rfl
theorem dksX12_statement_6 : cX12_statement.data.toList.drop 171 = dktX12_statement_6 := dk_seg dksX12_statement_5 24 rfl rfl
theorem dksX12_statement_7 : cX12_statement.data.toList.drop 173 = dktX12_statement_7 := dk_seg dksX12_statement_6 2 rfl rfl
theorem dksX12_statement_8 : cX12_statement.data.toList.drop 216 = dktX12_statement_8 := dk_seg dksX12_statement_7 43 rfl rfl
theorem dksX12_statement_9 : cX12_statement.data.toList.drop 240 = dktX12_statement_9 := dk_seg dksX12_statement_8 24 rfl rfl
theorem dksX12_statement_10 : cX12_statement.data.toList.drop 263 = dktX12_statement_10 := dk_seg dksX12_statement_9 23 rfl rfl
theorem dksX12_statement_11 : cX12_statement.data.toList.drop 287 = dktX12_statement_11 := dk_seg dksX12_statement_10 24 rfl rfl
theorem dksX12_statement_12 : cX12_statement.data.toList.drop 310 = dktX12_statement_12 := dk_seg dksX12_statement_11 23 rfl rfl
theorem dksX12_statement_13 : cX12_statement.data.toList.drop 334 = dktX12_statement_13 := dk_seg dksX12_statement_12 24 rfl rfl
theorem dksX12_statement_14 : cX12_statement.data.toList.drop 356 = dktX12_statement_14 := dk_seg dksX12_statement_13 22 rfl rfl
theorem dksX12_statement_15 : cX12_statement.data.toList.drop 380 = dktX12_statement_15 := dk_seg dksX12_statement_14 24 rfl rfl
theorem dksX12_statement_16 : cX12_statement.data.toList.drop 404 = dktX12_statement_16 := dk_seg dksX12_statement_15 24 rfl rfl
theorem dX12_statement_0 : decode cX12_statement 0 = .ok (.aload_n 0, 1) := dk_42 (dk_at dksX12_statement_0 0 rfl rfl)
theorem dX12_statement_1 : decode cX12_statement 1 = .ok (.getfield 24, 3) := dk_180 0 24 (dk_at dksX12_statement_0 1 rfl rfl)
theorem dX12_statement_4 : decode cX12_statement 4 = .ok (.astore_n 1, 1) := dk_76 (dk_at dksX12_statement_0 4 rfl rfl)
theorem dX12_statement_5 : decode cX12_statement 5 = .ok (.iconst (-1), 1) := dk_2 (dk_at dksX12_statement_0 5 rfl rfl)
theorem dX12_statement_6 : decode cX12_statement 6 = .ok (.istore_n 2, 1) := dk_61 (dk_at dksX12_statement_0 6 rfl rfl)
theorem dX12_statement_7 : decode cX12_statement 7 = .ok (.aload_n 1, 1) := dk_43 (dk_at dksX12_statement_0 7 rfl rfl)
theorem dX12_statement_8 : decode cX12_statement 8 = .ok (.invokevirtual 114, 3) := dk_182 0 114 (dk_at dksX12_statement_0 8 rfl rfl)
theorem dX12_statement_11 : decode cX12_statement 11 = .ok (.lookupswitch 161 #[(-1237460601, 121), (-896505829, 93), (108103, 65), (104998682, 135), (109627663, 107), (342069036, 79), (1302809999, 149)], 65) := by decide +kernel
theorem dX12_statement_76 : decode cX12_statement 76 = .ok (.aload_n 1, 1) := dk_43 (dk_at dksX12_statement_2 0 rfl rfl)
theorem dX12_statement_77 : decode cX12_statement 77 = .ok (.ldc 118, 2) := dk_18 118 (dk_at dksX12_statement_2 1 rfl rfl)
theorem dX12_statement_79 : decode cX12_statement 79 = .ok (.invokevirtual 103, 3) := dk_182 0 103 (dk_at dksX12_statement_2 3 rfl rfl)
theorem dX12_statement_82 : decode cX12_statement 82 = .ok (.ifCond .eq 90, 3) := dk_153 0 90 (dk_at dksX12_statement_2 6 rfl rfl)
theorem dX12_statement_85 : decode cX12_statement 85 = .ok (.iconst 0, 1) := dk_3 (dk_at dksX12_statement_2 9 rfl rfl)
theorem dX12_statement_86 : decode cX12_statement 86 = .ok (.istore_n 2, 1) := dk_61 (dk_at dksX12_statement_2 10 rfl rfl)
theorem dX12_statement_87 : decode cX12_statement 87 = .ok (.goto 85, 3) := dk_167 0 85 (dk_at dksX12_statement_2 11 rfl rfl)
theorem dX12_statement_90 : decode cX12_statement 90 = .ok (.aload_n 1, 1) := dk_43 (dk_at dksX12_statement_2 14 rfl rfl)
theorem dX12_statement_91 : decode cX12_statement 91 = .ok (.ldc 120, 2) := dk_18 120 (dk_at dksX12_statement_2 15 rfl rfl)
theorem dX12_statement_93 : decode cX12_statement 93 = .ok (.invokevirtual 103, 3) := dk_182 0 103 (dk_at dksX12_statement_2 17 rfl rfl)
theorem dX12_statement_96 : decode cX12_statement 96 = .ok (.ifCond .eq 76, 3) := dk_153 0 76 (dk_at dksX12_statement_2 20 rfl rfl)
theorem dX12_statement_99 : decode cX12_statement 99 = .ok (.iconst 1, 1) := dk_4 (dk_at dksX12_statement_2 23 rfl rfl)
theorem dX12_statement_100 : decode cX12_statement 100 = .ok (.istore_n 2, 1) := dk_61 (dk_at dksX12_statement_3 0 rfl rfl)
theorem dX12_statement_101 : decode cX12_statement 101 = .ok (.goto 71, 3) := dk_167 0 71 (dk_at dksX12_statement_3 1 rfl rfl)
theorem dX12_statement_104 : decode cX12_statement 104 = .ok (.aload_n 1, 1) := dk_43 (dk_at dksX12_statement_3 4 rfl rfl)
theorem dX12_statement_105 : decode cX12_statement 105 = .ok (.ldc 122, 2) := dk_18 122 (dk_at dksX12_statement_3 5 rfl rfl)
theorem dX12_statement_107 : decode cX12_statement 107 = .ok (.invokevirtual 103, 3) := dk_182 0 103 (dk_at dksX12_statement_3 7 rfl rfl)
theorem dX12_statement_110 : decode cX12_statement 110 = .ok (.ifCond .eq 62, 3) := dk_153 0 62 (dk_at dksX12_statement_3 10 rfl rfl)
theorem dX12_statement_113 : decode cX12_statement 113 = .ok (.iconst 2, 1) := dk_5 (dk_at dksX12_statement_3 13 rfl rfl)
theorem dX12_statement_114 : decode cX12_statement 114 = .ok (.istore_n 2, 1) := dk_61 (dk_at dksX12_statement_3 14 rfl rfl)
theorem dX12_statement_115 : decode cX12_statement 115 = .ok (.goto 57, 3) := dk_167 0 57 (dk_at dksX12_statement_3 15 rfl rfl)
theorem dX12_statement_118 : decode cX12_statement 118 = .ok (.aload_n 1, 1) := dk_43 (dk_at dksX12_statement_3 18 rfl rfl)
theorem dX12_statement_119 : decode cX12_statement 119 = .ok (.ldc 124, 2) := dk_18 124 (dk_at dksX12_statement_3 19 rfl rfl)
theorem dX12_statement_121 : decode cX12_statement 121 = .ok (.invokevirtual 103, 3) := dk_182 0 103 (dk_at dksX12_statement_3 21 rfl rfl)
theorem dX12_statement_124 : decode cX12_statement 124 = .ok (.ifCond .eq 48, 3) := dk_153 0 48 (dk_at dksX12_statement_4 0 rfl rfl)
theorem dX12_statement_127 : decode cX12_statement 127 = .ok (.iconst 3, 1) := dk_6 (dk_at dksX12_statement_4 3 rfl rfl)
theorem dX12_statement_128 : decode cX12_statement 128 = .ok (.istore_n 2, 1) := dk_61 (dk_at dksX12_statement_4 4 rfl rfl)
theorem dX12_statement_129 : decode cX12_statement 129 = .ok (.goto 43, 3) := dk_167 0 43 (dk_at dksX12_statement_4 5 rfl rfl)
theorem dX12_statement_132 : decode cX12_statement 132 = .ok (.aload_n 1, 1) := dk_43 (dk_at dksX12_statement_4 8 rfl rfl)
theorem dX12_statement_133 : decode cX12_statement 133 = .ok (.ldc 126, 2) := dk_18 126 (dk_at dksX12_statement_4 9 rfl rfl)
theorem dX12_statement_135 : decode cX12_statement 135 = .ok (.invokevirtual 103, 3) := dk_182 0 103 (dk_at dksX12_statement_4 11 rfl rfl)
theorem dX12_statement_138 : decode cX12_statement 138 = .ok (.ifCond .eq 34, 3) := dk_153 0 34 (dk_at dksX12_statement_4 14 rfl rfl)
theorem dX12_statement_141 : decode cX12_statement 141 = .ok (.iconst 4, 1) := dk_7 (dk_at dksX12_statement_4 17 rfl rfl)
theorem dX12_statement_142 : decode cX12_statement 142 = .ok (.istore_n 2, 1) := dk_61 (dk_at dksX12_statement_4 18 rfl rfl)
theorem dX12_statement_143 : decode cX12_statement 143 = .ok (.goto 29, 3) := dk_167 0 29 (dk_at dksX12_statement_4 19 rfl rfl)
theorem dX12_statement_146 : decode cX12_statement 146 = .ok (.aload_n 1, 1) := dk_43 (dk_at dksX12_statement_4 22 rfl rfl)
theorem dX12_statement_147 : decode cX12_statement 147 = .ok (.ldc 128, 2) := dk_18 128 (dk_at dksX12_statement_5 0 rfl rfl)
theorem dX12_statement_149 : decode cX12_statement 149 = .ok (.invokevirtual 103, 3) := dk_182 0 103 (dk_at dksX12_statement_5 2 rfl rfl)
theorem dX12_statement_152 : decode cX12_statement 152 = .ok (.ifCond .eq 20, 3) := dk_153 0 20 (dk_at dksX12_statement_5 5 rfl rfl)
theorem dX12_statement_155 : decode cX12_statement 155 = .ok (.iconst 5, 1) := dk_8 (dk_at dksX12_statement_5 8 rfl rfl)
theorem dX12_statement_156 : decode cX12_statement 156 = .ok (.istore_n 2, 1) := dk_61 (dk_at dksX12_statement_5 9 rfl rfl)
theorem dX12_statement_157 : decode cX12_statement 157 = .ok (.goto 15, 3) := dk_167 0 15 (dk_at dksX12_statement_5 10 rfl rfl)
theorem dX12_statement_160 : decode cX12_statement 160 = .ok (.aload_n 1, 1) := dk_43 (dk_at dksX12_statement_5 13 rfl rfl)
theorem dX12_statement_161 : decode cX12_statement 161 = .ok (.ldc 130, 2) := dk_18 130 (dk_at dksX12_statement_5 14 rfl rfl)
theorem dX12_statement_163 : decode cX12_statement 163 = .ok (.invokevirtual 103, 3) := dk_182 0 103 (dk_at dksX12_statement_5 16 rfl rfl)
theorem dX12_statement_166 : decode cX12_statement 166 = .ok (.ifCond .eq 6, 3) := dk_153 0 6 (dk_at dksX12_statement_5 19 rfl rfl)
theorem dX12_statement_169 : decode cX12_statement 169 = .ok (.bipush 6, 2) := dk_16 6 (dk_at dksX12_statement_5 22 rfl rfl)
theorem dX12_statement_171 : decode cX12_statement 171 = .ok (.istore_n 2, 1) := dk_61 (dk_at dksX12_statement_6 0 rfl rfl)
theorem dX12_statement_172 : decode cX12_statement 172 = .ok (.iload_n 2, 1) := dk_28 (dk_at dksX12_statement_6 1 rfl rfl)
theorem dX12_statement_173 : decode cX12_statement 173 = .ok (.tableswitch 228 0 6 #[43, 78, 112, 147, 170, 192, 213], 43) := by decide +kernel
theorem dX12_statement_216 : decode cX12_statement 216 = .ok (.aload_n 0, 1) := dk_42 (dk_at dksX12_statement_8 0 rfl rfl)
theorem dX12_statement_217 : decode cX12_statement 217 = .ok (.aload_n 0, 1) := dk_42 (dk_at dksX12_statement_8 1 rfl rfl)
theorem dX12_statement_218 : decode cX12_statement 218 = .ok (.getfield 18, 3) := dk_180 0 18 (dk_at dksX12_statement_8 2 rfl rfl)
theorem dX12_statement_221 : decode cX12_statement 221 = .ok (.getfield 132, 3) := dk_180 0 132 (dk_at dksX12_statement_8 5 rfl rfl)
theorem dX12_statement_224 : decode cX12_statement 224 = .ok (.invokevirtual 136, 3) := dk_182 0 136 (dk_at dksX12_statement_8 8 rfl rfl)
theorem dX12_statement_227 : decode cX12_statement 227 = .ok (.bipush 8, 2) := dk_16 8 (dk_at dksX12_statement_8 11 rfl rfl)
theorem dX12_statement_229 : decode cX12_statement 229 = .ok (.if_icmp .ge 7, 3) := dk_162 0 7 (dk_at dksX12_statement_8 13 rfl rfl)
theorem dX12_statement_232 : decode cX12_statement 232 = .ok (.iconst 1, 1) := dk_4 (dk_at dksX12_statement_8 16 rfl rfl)
theorem dX12_statement_233 : decode cX12_statement 233 = .ok (.goto 4, 3) := dk_167 0 4 (dk_at dksX12_statement_8 17 rfl rfl)
theorem dX12_statement_236 : decode cX12_statement 236 = .ok (.iconst 0, 1) := dk_3 (dk_at dksX12_statement_8 20 rfl rfl)
theorem dX12_statement_237 : decode cX12_statement 237 = .ok (.invokevirtual 141, 3) := dk_182 0 141 (dk_at dksX12_statement_8 21 rfl rfl)
theorem dX12_statement_240 : decode cX12_statement 240 = .ok (.aload_n 0, 1) := dk_42 (dk_at dksX12_statement_9 0 rfl rfl)
theorem dX12_statement_241 : decode cX12_statement 241 = .ok (.invokevirtual 32, 3) := dk_182 0 32 (dk_at dksX12_statement_9 1 rfl rfl)
theorem dX12_statement_244 : decode cX12_statement 244 = .ok (.aload_n 0, 1) := dk_42 (dk_at dksX12_statement_9 4 rfl rfl)
theorem dX12_statement_245 : decode cX12_statement 245 = .ok (.invokevirtual 145, 3) := dk_182 0 145 (dk_at dksX12_statement_9 5 rfl rfl)
theorem dX12_statement_248 : decode cX12_statement 248 = .ok (.goto 165, 3) := dk_167 0 165 (dk_at dksX12_statement_9 8 rfl rfl)
theorem dX12_statement_251 : decode cX12_statement 251 = .ok (.aload_n 0, 1) := dk_42 (dk_at dksX12_statement_9 11 rfl rfl)
theorem dX12_statement_252 : decode cX12_statement 252 = .ok (.aload_n 0, 1) := dk_42 (dk_at dksX12_statement_9 12 rfl rfl)
theorem dX12_statement_253 : decode cX12_statement 253 = .ok (.getfield 18, 3) := dk_180 0 18 (dk_at dksX12_statement_9 13 rfl rfl)
theorem dX12_statement_256 : decode cX12_statement 256 = .ok (.getfield 147, 3) := dk_180 0 147 (dk_at dksX12_statement_9 16 rfl rfl)
theorem dX12_statement_259 : decode cX12_statement 259 = .ok (.invokevirtual 136, 3) := dk_182 0 136 (dk_at dksX12_statement_9 19 rfl rfl)
theorem dX12_statement_262 : decode cX12_statement 262 = .ok (.iconst 4, 1) := dk_7 (dk_at dksX12_statement_9 22 rfl rfl)
theorem dX12_statement_263 : decode cX12_statement 263 = .ok (.if_icmp .ge 7, 3) := dk_162 0 7 (dk_at dksX12_statement_10 0 rfl rfl)
theorem dX12_statement_266 : decode cX12_statement 266 = .ok (.iconst 1, 1) := dk_4 (dk_at dksX12_statement_10 3 rfl rfl)
theorem dX12_statement_267 : decode cX12_statement 267 = .ok (.goto 4, 3) := dk_167 0 4 (dk_at dksX12_statement_10 4 rfl rfl)
theorem dX12_statement_270 : decode cX12_statement 270 = .ok (.iconst 0, 1) := dk_3 (dk_at dksX12_statement_10 7 rfl rfl)
theorem dX12_statement_271 : decode cX12_statement 271 = .ok (.invokevirtual 141, 3) := dk_182 0 141 (dk_at dksX12_statement_10 8 rfl rfl)
theorem dX12_statement_274 : decode cX12_statement 274 = .ok (.aload_n 0, 1) := dk_42 (dk_at dksX12_statement_10 11 rfl rfl)
theorem dX12_statement_275 : decode cX12_statement 275 = .ok (.invokevirtual 32, 3) := dk_182 0 32 (dk_at dksX12_statement_10 12 rfl rfl)
theorem dX12_statement_278 : decode cX12_statement 278 = .ok (.aload_n 0, 1) := dk_42 (dk_at dksX12_statement_10 15 rfl rfl)
theorem dX12_statement_279 : decode cX12_statement 279 = .ok (.invokevirtual 150, 3) := dk_182 0 150 (dk_at dksX12_statement_10 16 rfl rfl)
theorem dX12_statement_282 : decode cX12_statement 282 = .ok (.goto 131, 3) := dk_167 0 131 (dk_at dksX12_statement_10 19 rfl rfl)
theorem dX12_statement_285 : decode cX12_statement 285 = .ok (.aload_n 0, 1) := dk_42 (dk_at dksX12_statement_10 22 rfl rfl)
theorem dX12_statement_286 : decode cX12_statement 286 = .ok (.aload_n 0, 1) := dk_42 (dk_at dksX12_statement_10 23 rfl rfl)
theorem dX12_statement_287 : decode cX12_statement 287 = .ok (.getfield 18, 3) := dk_180 0 18 (dk_at dksX12_statement_11 0 rfl rfl)
theorem dX12_statement_290 : decode cX12_statement 290 = .ok (.getfield 152, 3) := dk_180 0 152 (dk_at dksX12_statement_11 3 rfl rfl)
theorem dX12_statement_293 : decode cX12_statement 293 = .ok (.invokevirtual 136, 3) := dk_182 0 136 (dk_at dksX12_statement_11 6 rfl rfl)
theorem dX12_statement_296 : decode cX12_statement 296 = .ok (.bipush 6, 2) := dk_16 6 (dk_at dksX12_statement_11 9 rfl rfl)
theorem dX12_statement_298 : decode cX12_statement 298 = .ok (.if_icmp .ge 7, 3) := dk_162 0 7 (dk_at dksX12_statement_11 11 rfl rfl)
theorem dX12_statement_301 : decode cX12_statement 301 = .ok (.iconst 1, 1) := dk_4 (dk_at dksX12_statement_11 14 rfl rfl)
theorem dX12_statement_302 : decode cX12_statement 302 = .ok (.goto 4, 3) := dk_167 0 4 (dk_at dksX12_statement_11 15 rfl rfl)
theorem dX12_statement_305 : decode cX12_statement 305 = .ok (.iconst 0, 1) := dk_3 (dk_at dksX12_statement_11 18 rfl rfl)
theorem dX12_statement_306 : decode cX12_statement 306 = .ok (.invokevirtual 141, 3) := dk_182 0 141 (dk_at dksX12_statement_11 19 rfl rfl)
theorem dX12_statement_309 : decode cX12_statement 309 = .ok (.aload_n 0, 1) := dk_42 (dk_at dksX12_statement_11 22 rfl rfl)
theorem dX12_statement_310 : decode cX12_statement 310 = .ok (.invokevirtual 32, 3) := dk_182 0 32 (dk_at dksX12_statement_12 0 rfl rfl)
theorem dX12_statement_313 : decode cX12_statement 313 = .ok (.aload_n 0, 1) := dk_42 (dk_at dksX12_statement_12 3 rfl rfl)
theorem dX12_statement_314 : decode cX12_statement 314 = .ok (.invokevirtual 155, 3) := dk_182 0 155 (dk_at dksX12_statement_12 4 rfl rfl)
theorem dX12_statement_317 : decode cX12_statement 317 = .ok (.goto 96, 3) := dk_167 0 96 (dk_at dksX12_statement_12 7 rfl rfl)
theorem dX12_statement_320 : decode cX12_statement 320 = .ok (.aload_n 0, 1) := dk_42 (dk_at dksX12_statement_12 10 rfl rfl)
theorem dX12_statement_321 : decode cX12_statement 321 = .ok (.invokevirtual 32, 3) := dk_182 0 32 (dk_at dksX12_statement_12 11 rfl rfl)
theorem dX12_statement_324 : decode cX12_statement 324 = .ok (.aload_n 0, 1) := dk_42 (dk_at dksX12_statement_12 14 rfl rfl)
theorem dX12_statement_325 : decode cX12_statement 325 = .ok (.getfield 18, 3) := dk_180 0 18 (dk_at dksX12_statement_12 15 rfl rfl)
theorem dX12_statement_328 : decode cX12_statement 328 = .ok (.aload_n 0, 1) := dk_42 (dk_at dksX12_statement_12 18 rfl rfl)
theorem dX12_statement_329 : decode cX12_statement 329 = .ok (.bipush 100, 2) := dk_16 100 (dk_at dksX12_statement_12 19 rfl rfl)
theorem dX12_statement_331 : decode cX12_statement 331 = .ok (.sipush 1000, 3) := dk_17 3 232 (dk_at dksX12_statement_12 21 rfl rfl)
theorem dX12_statement_334 : decode cX12_statement 334 = .ok (.invokevirtual 157, 3) := dk_182 0 157 (dk_at dksX12_statement_13 0 rfl rfl)
theorem dX12_statement_337 : decode cX12_statement 337 = .ok (.putfield 159, 3) := dk_181 0 159 (dk_at dksX12_statement_13 3 rfl rfl)
theorem dX12_statement_340 : decode cX12_statement 340 = .ok (.goto 73, 3) := dk_167 0 73 (dk_at dksX12_statement_13 6 rfl rfl)
theorem dX12_statement_343 : decode cX12_statement 343 = .ok (.aload_n 0, 1) := dk_42 (dk_at dksX12_statement_13 9 rfl rfl)
theorem dX12_statement_344 : decode cX12_statement 344 = .ok (.invokevirtual 32, 3) := dk_182 0 32 (dk_at dksX12_statement_13 10 rfl rfl)
theorem dX12_statement_347 : decode cX12_statement 347 = .ok (.aload_n 0, 1) := dk_42 (dk_at dksX12_statement_13 13 rfl rfl)
theorem dX12_statement_348 : decode cX12_statement 348 = .ok (.getfield 18, 3) := dk_180 0 18 (dk_at dksX12_statement_13 14 rfl rfl)
theorem dX12_statement_351 : decode cX12_statement 351 = .ok (.aload_n 0, 1) := dk_42 (dk_at dksX12_statement_13 17 rfl rfl)
theorem dX12_statement_352 : decode cX12_statement 352 = .ok (.bipush (-90), 2) := dk_16 166 (dk_at dksX12_statement_13 18 rfl rfl)
theorem dX12_statement_354 : decode cX12_statement 354 = .ok (.bipush 90, 2) := dk_16 90 (dk_at dksX12_statement_13 20 rfl rfl)
theorem dX12_statement_356 : decode cX12_statement 356 = .ok (.invokevirtual 161, 3) := dk_182 0 161 (dk_at dksX12_statement_14 0 rfl rfl)
theorem dX12_statement_359 : decode cX12_statement 359 = .ok (.putfield 164, 3) := dk_181 0 164 (dk_at dksX12_statement_14 3 rfl rfl)
theorem dX12_statement_362 : decode cX12_statement 362 = .ok (.goto 51, 3) := dk_167 0 51 (dk_at dksX12_statement_14 6 rfl rfl)
theorem dX12_statement_365 : decode cX12_statement 365 = .ok (.aload_n 0, 1) := dk_42 (dk_at dksX12_statement_14 9 rfl rfl)
theorem dX12_statement_366 : decode cX12_statement 366 = .ok (.invokevirtual 32, 3) := dk_182 0 32 (dk_at dksX12_statement_14 10 rfl rfl)
theorem dX12_statement_369 : decode cX12_statement 369 = .ok (.aload_n 0, 1) := dk_42 (dk_at dksX12_statement_14 13 rfl rfl)
theorem dX12_statement_370 : decode cX12_statement 370 = .ok (.getfield 18, 3) := dk_180 0 18 (dk_at dksX12_statement_14 14 rfl rfl)
theorem dX12_statement_373 : decode cX12_statement 373 = .ok (.aload_n 0, 1) := dk_42 (dk_at dksX12_statement_14 17 rfl rfl)
theorem dX12_statement_374 : decode cX12_statement 374 = .ok (.iconst 0, 1) := dk_3 (dk_at dksX12_statement_14 18 rfl rfl)
theorem dX12_statement_375 : decode cX12_statement 375 = .ok (.bipush 99, 2) := dk_16 99 (dk_at dksX12_statement_14 19 rfl rfl)
theorem dX12_statement_377 : decode cX12_statement 377 = .ok (.invokevirtual 157, 3) := dk_182 0 157 (dk_at dksX12_statement_14 21 rfl rfl)
theorem dX12_statement_380 : decode cX12_statement 380 = .ok (.putfield 166, 3) := dk_181 0 166 (dk_at dksX12_statement_15 0 rfl rfl)
theorem dX12_statement_383 : decode cX12_statement 383 = .ok (.goto 30, 3) := dk_167 0 30 (dk_at dksX12_statement_15 3 rfl rfl)
theorem dX12_statement_386 : decode cX12_statement 386 = .ok (.aload_n 0, 1) := dk_42 (dk_at dksX12_statement_15 6 rfl rfl)
theorem dX12_statement_387 : decode cX12_statement 387 = .ok (.invokevirtual 32, 3) := dk_182 0 32 (dk_at dksX12_statement_15 7 rfl rfl)
theorem dX12_statement_390 : decode cX12_statement 390 = .ok (.aload_n 0, 1) := dk_42 (dk_at dksX12_statement_15 10 rfl rfl)
theorem dX12_statement_391 : decode cX12_statement 391 = .ok (.getfield 18, 3) := dk_180 0 18 (dk_at dksX12_statement_15 11 rfl rfl)
theorem dX12_statement_394 : decode cX12_statement 394 = .ok (.iconst 1, 1) := dk_4 (dk_at dksX12_statement_15 14 rfl rfl)
theorem dX12_statement_395 : decode cX12_statement 395 = .ok (.putfield 168, 3) := dk_181 0 168 (dk_at dksX12_statement_15 15 rfl rfl)
theorem dX12_statement_398 : decode cX12_statement 398 = .ok (.goto 15, 3) := dk_167 0 15 (dk_at dksX12_statement_15 18 rfl rfl)
theorem dX12_statement_401 : decode cX12_statement 401 = .ok (.new 95, 3) := dk_187 0 95 (dk_at dksX12_statement_15 21 rfl rfl)
theorem dX12_statement_404 : decode cX12_statement 404 = .ok (.dup, 1) := dk_89 (dk_at dksX12_statement_16 0 rfl rfl)
theorem dX12_statement_405 : decode cX12_statement 405 = .ok (.aload_n 0, 1) := dk_42 (dk_at dksX12_statement_16 1 rfl rfl)
theorem dX12_statement_406 : decode cX12_statement 406 = .ok (.getfield 46, 3) := dk_180 0 46 (dk_at dksX12_statement_16 2 rfl rfl)
theorem dX12_statement_409 : decode cX12_statement 409 = .ok (.invokespecial 97, 3) := dk_183 0 97 (dk_at dksX12_statement_16 5 rfl rfl)
theorem dX12_statement_412 : decode cX12_statement 412 = .ok (.athrow, 1) := dk_191 (dk_at dksX12_statement_16 8 rfl rfl)
theorem dX12_statement_413 : decode cX12_statement 413 = .ok (.return_, 1) := dk_177 (dk_at dksX12_statement_16 9 rfl rfl)
abbrev cX12_requireRoom : ByteArray := prog_12_method_4_code
def yX12_requireRoom : MethodName := ⟨RX12, "requireRoom", "(Z)V"⟩
def dkwX12_requireRoom_0 : List UInt8 := [27, 154, 0, 15, 187, 0, 86, 89, 42, 180, 0, 46, 183, 0, 88, 191, 177]
abbrev dktX12_requireRoom_0 : List UInt8 := dkwX12_requireRoom_0 ++ []
theorem dksX12_requireRoom_0 : cX12_requireRoom.data.toList.drop 0 = dktX12_requireRoom_0 := by decide +kernel
theorem dX12_requireRoom_0 : decode cX12_requireRoom 0 = .ok (.iload_n 1, 1) := dk_27 (dk_at dksX12_requireRoom_0 0 rfl rfl)
theorem dX12_requireRoom_1 : decode cX12_requireRoom 1 = .ok (.ifCond .ne 15, 3) := dk_154 0 15 (dk_at dksX12_requireRoom_0 1 rfl rfl)
theorem dX12_requireRoom_4 : decode cX12_requireRoom 4 = .ok (.new 86, 3) := dk_187 0 86 (dk_at dksX12_requireRoom_0 4 rfl rfl)
theorem dX12_requireRoom_7 : decode cX12_requireRoom 7 = .ok (.dup, 1) := dk_89 (dk_at dksX12_requireRoom_0 7 rfl rfl)
theorem dX12_requireRoom_8 : decode cX12_requireRoom 8 = .ok (.aload_n 0, 1) := dk_42 (dk_at dksX12_requireRoom_0 8 rfl rfl)
theorem dX12_requireRoom_9 : decode cX12_requireRoom 9 = .ok (.getfield 46, 3) := dk_180 0 46 (dk_at dksX12_requireRoom_0 9 rfl rfl)
theorem dX12_requireRoom_12 : decode cX12_requireRoom 12 = .ok (.invokespecial 88, 3) := dk_183 0 88 (dk_at dksX12_requireRoom_0 12 rfl rfl)
theorem dX12_requireRoom_15 : decode cX12_requireRoom 15 = .ok (.athrow, 1) := dk_191 (dk_at dksX12_requireRoom_0 15 rfl rfl)
theorem dX12_requireRoom_16 : decode cX12_requireRoom 16 = .ok (.return_, 1) := dk_177 (dk_at dksX12_requireRoom_0 16 rfl rfl)
abbrev cX12_mic : ByteArray := prog_12_method_10_code
def yX12_mic : MethodName := ⟨RX12, "mic", "()V"⟩
def dkwX12_mic_2 : List UInt8 := [54, 4, 177]
abbrev dktX12_mic_2 : List UInt8 := dkwX12_mic_2 ++ []
def dkwX12_mic_1 : List UInt8 := [17, 1, 244, 182, 0, 157, 62, 42, 180, 0, 18, 27, 28, 29, 42, 3, 16, 9, 182, 0, 157, 182, 0, 171]
abbrev dktX12_mic_1 : List UInt8 := dkwX12_mic_1 ++ dktX12_mic_2
def dkwX12_mic_0 : List UInt8 := [42, 17, 236, 120, 17, 19, 136, 182, 0, 161, 60, 42, 16, 156, 16, 99, 182, 0, 161, 61, 42, 3]
abbrev dktX12_mic_0 : List UInt8 := dkwX12_mic_0 ++ dktX12_mic_1
theorem dksX12_mic_0 : cX12_mic.data.toList.drop 0 = dktX12_mic_0 := by decide +kernel
theorem dksX12_mic_1 : cX12_mic.data.toList.drop 22 = dktX12_mic_1 := dk_seg dksX12_mic_0 22 rfl rfl
theorem dksX12_mic_2 : cX12_mic.data.toList.drop 46 = dktX12_mic_2 := dk_seg dksX12_mic_1 24 rfl rfl
theorem dX12_mic_0 : decode cX12_mic 0 = .ok (.aload_n 0, 1) := dk_42 (dk_at dksX12_mic_0 0 rfl rfl)
theorem dX12_mic_1 : decode cX12_mic 1 = .ok (.sipush (-5000), 3) := dk_17 236 120 (dk_at dksX12_mic_0 1 rfl rfl)
theorem dX12_mic_4 : decode cX12_mic 4 = .ok (.sipush 5000, 3) := dk_17 19 136 (dk_at dksX12_mic_0 4 rfl rfl)
theorem dX12_mic_7 : decode cX12_mic 7 = .ok (.invokevirtual 161, 3) := dk_182 0 161 (dk_at dksX12_mic_0 7 rfl rfl)
theorem dX12_mic_10 : decode cX12_mic 10 = .ok (.istore_n 1, 1) := dk_60 (dk_at dksX12_mic_0 10 rfl rfl)
theorem dX12_mic_11 : decode cX12_mic 11 = .ok (.aload_n 0, 1) := dk_42 (dk_at dksX12_mic_0 11 rfl rfl)
theorem dX12_mic_12 : decode cX12_mic 12 = .ok (.bipush (-100), 2) := dk_16 156 (dk_at dksX12_mic_0 12 rfl rfl)
theorem dX12_mic_14 : decode cX12_mic 14 = .ok (.bipush 99, 2) := dk_16 99 (dk_at dksX12_mic_0 14 rfl rfl)
theorem dX12_mic_16 : decode cX12_mic 16 = .ok (.invokevirtual 161, 3) := dk_182 0 161 (dk_at dksX12_mic_0 16 rfl rfl)
theorem dX12_mic_19 : decode cX12_mic 19 = .ok (.istore_n 2, 1) := dk_61 (dk_at dksX12_mic_0 19 rfl rfl)
theorem dX12_mic_20 : decode cX12_mic 20 = .ok (.aload_n 0, 1) := dk_42 (dk_at dksX12_mic_0 20 rfl rfl)
theorem dX12_mic_21 : decode cX12_mic 21 = .ok (.iconst 0, 1) := dk_3 (dk_at dksX12_mic_0 21 rfl rfl)
theorem dX12_mic_22 : decode cX12_mic 22 = .ok (.sipush 500, 3) := dk_17 1 244 (dk_at dksX12_mic_1 0 rfl rfl)
theorem dX12_mic_25 : decode cX12_mic 25 = .ok (.invokevirtual 157, 3) := dk_182 0 157 (dk_at dksX12_mic_1 3 rfl rfl)
theorem dX12_mic_28 : decode cX12_mic 28 = .ok (.istore_n 3, 1) := dk_62 (dk_at dksX12_mic_1 6 rfl rfl)
theorem dX12_mic_29 : decode cX12_mic 29 = .ok (.aload_n 0, 1) := dk_42 (dk_at dksX12_mic_1 7 rfl rfl)
theorem dX12_mic_30 : decode cX12_mic 30 = .ok (.getfield 18, 3) := dk_180 0 18 (dk_at dksX12_mic_1 8 rfl rfl)
theorem dX12_mic_33 : decode cX12_mic 33 = .ok (.iload_n 1, 1) := dk_27 (dk_at dksX12_mic_1 11 rfl rfl)
theorem dX12_mic_34 : decode cX12_mic 34 = .ok (.iload_n 2, 1) := dk_28 (dk_at dksX12_mic_1 12 rfl rfl)
theorem dX12_mic_35 : decode cX12_mic 35 = .ok (.iload_n 3, 1) := dk_29 (dk_at dksX12_mic_1 13 rfl rfl)
theorem dX12_mic_36 : decode cX12_mic 36 = .ok (.aload_n 0, 1) := dk_42 (dk_at dksX12_mic_1 14 rfl rfl)
theorem dX12_mic_37 : decode cX12_mic 37 = .ok (.iconst 0, 1) := dk_3 (dk_at dksX12_mic_1 15 rfl rfl)
theorem dX12_mic_38 : decode cX12_mic 38 = .ok (.bipush 9, 2) := dk_16 9 (dk_at dksX12_mic_1 16 rfl rfl)
theorem dX12_mic_40 : decode cX12_mic 40 = .ok (.invokevirtual 157, 3) := dk_182 0 157 (dk_at dksX12_mic_1 18 rfl rfl)
theorem dX12_mic_43 : decode cX12_mic 43 = .ok (.invokevirtual 171, 3) := dk_182 0 171 (dk_at dksX12_mic_1 21 rfl rfl)
theorem dX12_mic_46 : decode cX12_mic 46 = .ok (.istore 4, 2) := dk_54 4 (dk_at dksX12_mic_2 0 rfl rfl)
theorem dX12_mic_48 : decode cX12_mic 48 = .ok (.return_, 1) := dk_177 (dk_at dksX12_mic_2 2 rfl rfl)
abbrev cX12_integer : ByteArray := prog_12_method_7_code
def yX12_integer : MethodName := ⟨RX12, "integer", "(II)I"⟩
def dkwX12_integer_1 : List UInt8 := [42, 2, 27, 28, 182, 0, 91, 172]
abbrev dktX12_integer_1 : List UInt8 := dkwX12_integer_1 ++ []
def dkwX12_integer_0 : List UInt8 := [42, 180, 0, 24, 18, 101, 182, 0, 103, 154, 0, 11, 42, 4, 27, 28, 182, 0, 91, 172, 42, 182, 0, 32]
abbrev dktX12_integer_0 : List UInt8 := dkwX12_integer_0 ++ dktX12_integer_1
theorem dksX12_integer_0 : cX12_integer.data.toList.drop 0 = dktX12_integer_0 := by decide +kernel
theorem dksX12_integer_1 : cX12_integer.data.toList.drop 24 = dktX12_integer_1 := dk_seg dksX12_integer_0 24 rfl rfl
theorem dX12_integer_0 : decode cX12_integer 0 = .ok (.aload_n 0, 1) := dk_42 (dk_at dksX12_integer_0 0 rfl rfl)
theorem dX12_integer_1 : decode cX12_integer 1 = .ok (.getfield 24, 3) := dk_180 0 24 (dk_at dksX12_integer_0 1 rfl rfl)
theorem dX12_integer_4 : decode cX12_integer 4 = .ok (.ldc 101, 2) := dk_18 101 (dk_at dksX12_integer_0 4 rfl rfl)
theorem dX12_integer_6 : decode cX12_integer 6 = .ok (.invokevirtual 103, 3) := dk_182 0 103 (dk_at dksX12_integer_0 6 rfl rfl)
theorem dX12_integer_9 : decode cX12_integer 9 = .ok (.ifCond .ne 11, 3) := dk_154 0 11 (dk_at dksX12_integer_0 9 rfl rfl)
theorem dX12_integer_12 : decode cX12_integer 12 = .ok (.aload_n 0, 1) := dk_42 (dk_at dksX12_integer_0 12 rfl rfl)
theorem dX12_integer_13 : decode cX12_integer 13 = .ok (.iconst 1, 1) := dk_4 (dk_at dksX12_integer_0 13 rfl rfl)
theorem dX12_integer_14 : decode cX12_integer 14 = .ok (.iload_n 1, 1) := dk_27 (dk_at dksX12_integer_0 14 rfl rfl)
theorem dX12_integer_15 : decode cX12_integer 15 = .ok (.iload_n 2, 1) := dk_28 (dk_at dksX12_integer_0 15 rfl rfl)
theorem dX12_integer_16 : decode cX12_integer 16 = .ok (.invokevirtual 91, 3) := dk_182 0 91 (dk_at dksX12_integer_0 16 rfl rfl)
theorem dX12_integer_19 : decode cX12_integer 19 = .ok (.ireturn, 1) := dk_172 (dk_at dksX12_integer_0 19 rfl rfl)
theorem dX12_integer_20 : decode cX12_integer 20 = .ok (.aload_n 0, 1) := dk_42 (dk_at dksX12_integer_0 20 rfl rfl)
theorem dX12_integer_21 : decode cX12_integer 21 = .ok (.invokevirtual 32, 3) := dk_182 0 32 (dk_at dksX12_integer_0 21 rfl rfl)
theorem dX12_integer_24 : decode cX12_integer 24 = .ok (.aload_n 0, 1) := dk_42 (dk_at dksX12_integer_1 0 rfl rfl)
theorem dX12_integer_25 : decode cX12_integer 25 = .ok (.iconst (-1), 1) := dk_2 (dk_at dksX12_integer_1 1 rfl rfl)
theorem dX12_integer_26 : decode cX12_integer 26 = .ok (.iload_n 1, 1) := dk_27 (dk_at dksX12_integer_1 2 rfl rfl)
theorem dX12_integer_27 : decode cX12_integer 27 = .ok (.iload_n 2, 1) := dk_28 (dk_at dksX12_integer_1 3 rfl rfl)
theorem dX12_integer_28 : decode cX12_integer 28 = .ok (.invokevirtual 91, 3) := dk_182 0 91 (dk_at dksX12_integer_1 4 rfl rfl)
theorem dX12_integer_31 : decode cX12_integer 31 = .ok (.ireturn, 1) := dk_172 (dk_at dksX12_integer_1 7 rfl rfl)
abbrev cX12_signed : ByteArray := prog_12_method_6_code
def yX12_signed : MethodName := ⟨RX12, "signed", "(III)I"⟩
def dkwX12_signed_2 : List UInt8 := [183, 0, 100, 191, 42, 182, 0, 32, 21, 4, 172]
abbrev dktX12_signed_2 : List UInt8 := dkwX12_signed_2 ++ []
def dkwX12_signed_1 : List UInt8 := [104, 54, 4, 21, 4, 133, 28, 133, 29, 133, 184, 0, 56, 154, 0, 15, 187, 0, 98, 89, 42, 180, 0, 46]
abbrev dktX12_signed_1 : List UInt8 := dkwX12_signed_1 ++ dktX12_signed_2
def dkwX12_signed_0 : List UInt8 := [42, 180, 0, 60, 154, 0, 15, 187, 0, 95, 89, 42, 180, 0, 46, 183, 0, 97, 191, 27, 42, 180, 0, 49]
abbrev dktX12_signed_0 : List UInt8 := dkwX12_signed_0 ++ dktX12_signed_1
theorem dksX12_signed_0 : cX12_signed.data.toList.drop 0 = dktX12_signed_0 := by decide +kernel
theorem dksX12_signed_1 : cX12_signed.data.toList.drop 24 = dktX12_signed_1 := dk_seg dksX12_signed_0 24 rfl rfl
theorem dksX12_signed_2 : cX12_signed.data.toList.drop 48 = dktX12_signed_2 := dk_seg dksX12_signed_1 24 rfl rfl
theorem dX12_signed_0 : decode cX12_signed 0 = .ok (.aload_n 0, 1) := dk_42 (dk_at dksX12_signed_0 0 rfl rfl)
theorem dX12_signed_1 : decode cX12_signed 1 = .ok (.getfield 60, 3) := dk_180 0 60 (dk_at dksX12_signed_0 1 rfl rfl)
theorem dX12_signed_4 : decode cX12_signed 4 = .ok (.ifCond .ne 15, 3) := dk_154 0 15 (dk_at dksX12_signed_0 4 rfl rfl)
theorem dX12_signed_7 : decode cX12_signed 7 = .ok (.new 95, 3) := dk_187 0 95 (dk_at dksX12_signed_0 7 rfl rfl)
theorem dX12_signed_10 : decode cX12_signed 10 = .ok (.dup, 1) := dk_89 (dk_at dksX12_signed_0 10 rfl rfl)
theorem dX12_signed_11 : decode cX12_signed 11 = .ok (.aload_n 0, 1) := dk_42 (dk_at dksX12_signed_0 11 rfl rfl)
theorem dX12_signed_12 : decode cX12_signed 12 = .ok (.getfield 46, 3) := dk_180 0 46 (dk_at dksX12_signed_0 12 rfl rfl)
theorem dX12_signed_15 : decode cX12_signed 15 = .ok (.invokespecial 97, 3) := dk_183 0 97 (dk_at dksX12_signed_0 15 rfl rfl)
theorem dX12_signed_18 : decode cX12_signed 18 = .ok (.athrow, 1) := dk_191 (dk_at dksX12_signed_0 18 rfl rfl)
theorem dX12_signed_19 : decode cX12_signed 19 = .ok (.iload_n 1, 1) := dk_27 (dk_at dksX12_signed_0 19 rfl rfl)
theorem dX12_signed_20 : decode cX12_signed 20 = .ok (.aload_n 0, 1) := dk_42 (dk_at dksX12_signed_0 20 rfl rfl)
theorem dX12_signed_21 : decode cX12_signed 21 = .ok (.getfield 49, 3) := dk_180 0 49 (dk_at dksX12_signed_0 21 rfl rfl)
theorem dX12_signed_24 : decode cX12_signed 24 = .ok (.imul, 1) := dk_104 (dk_at dksX12_signed_1 0 rfl rfl)
theorem dX12_signed_25 : decode cX12_signed 25 = .ok (.istore 4, 2) := dk_54 4 (dk_at dksX12_signed_1 1 rfl rfl)
theorem dX12_signed_27 : decode cX12_signed 27 = .ok (.iload 4, 2) := dk_21 4 (dk_at dksX12_signed_1 3 rfl rfl)
theorem dX12_signed_29 : decode cX12_signed 29 = .ok (.i2l, 1) := dk_133 (dk_at dksX12_signed_1 5 rfl rfl)
theorem dX12_signed_30 : decode cX12_signed 30 = .ok (.iload_n 2, 1) := dk_28 (dk_at dksX12_signed_1 6 rfl rfl)
theorem dX12_signed_31 : decode cX12_signed 31 = .ok (.i2l, 1) := dk_133 (dk_at dksX12_signed_1 7 rfl rfl)
theorem dX12_signed_32 : decode cX12_signed 32 = .ok (.iload_n 3, 1) := dk_29 (dk_at dksX12_signed_1 8 rfl rfl)
theorem dX12_signed_33 : decode cX12_signed 33 = .ok (.i2l, 1) := dk_133 (dk_at dksX12_signed_1 9 rfl rfl)
theorem dX12_signed_34 : decode cX12_signed 34 = .ok (.invokestatic 56, 3) := dk_184 0 56 (dk_at dksX12_signed_1 10 rfl rfl)
theorem dX12_signed_37 : decode cX12_signed 37 = .ok (.ifCond .ne 15, 3) := dk_154 0 15 (dk_at dksX12_signed_1 13 rfl rfl)
theorem dX12_signed_40 : decode cX12_signed 40 = .ok (.new 98, 3) := dk_187 0 98 (dk_at dksX12_signed_1 16 rfl rfl)
theorem dX12_signed_43 : decode cX12_signed 43 = .ok (.dup, 1) := dk_89 (dk_at dksX12_signed_1 19 rfl rfl)
theorem dX12_signed_44 : decode cX12_signed 44 = .ok (.aload_n 0, 1) := dk_42 (dk_at dksX12_signed_1 20 rfl rfl)
theorem dX12_signed_45 : decode cX12_signed 45 = .ok (.getfield 46, 3) := dk_180 0 46 (dk_at dksX12_signed_1 21 rfl rfl)
theorem dX12_signed_48 : decode cX12_signed 48 = .ok (.invokespecial 100, 3) := dk_183 0 100 (dk_at dksX12_signed_2 0 rfl rfl)
theorem dX12_signed_51 : decode cX12_signed 51 = .ok (.athrow, 1) := dk_191 (dk_at dksX12_signed_2 3 rfl rfl)
theorem dX12_signed_52 : decode cX12_signed 52 = .ok (.aload_n 0, 1) := dk_42 (dk_at dksX12_signed_2 4 rfl rfl)
theorem dX12_signed_53 : decode cX12_signed 53 = .ok (.invokevirtual 32, 3) := dk_182 0 32 (dk_at dksX12_signed_2 5 rfl rfl)
theorem dX12_signed_56 : decode cX12_signed 56 = .ok (.iload 4, 2) := dk_21 4 (dk_at dksX12_signed_2 8 rfl rfl)
theorem dX12_signed_58 : decode cX12_signed 58 = .ok (.ireturn, 1) := dk_172 (dk_at dksX12_signed_2 10 rfl rfl)
abbrev cX12_number : ByteArray := prog_12_method_5_code
def yX12_number : MethodName := ⟨RX12, "number", "(II)I"⟩
def dkwX12_number_0 : List UInt8 := [42, 4, 27, 28, 182, 0, 91, 172]
abbrev dktX12_number_0 : List UInt8 := dkwX12_number_0 ++ []
theorem dksX12_number_0 : cX12_number.data.toList.drop 0 = dktX12_number_0 := by decide +kernel
theorem dX12_number_0 : decode cX12_number 0 = .ok (.aload_n 0, 1) := dk_42 (dk_at dksX12_number_0 0 rfl rfl)
theorem dX12_number_1 : decode cX12_number 1 = .ok (.iconst 1, 1) := dk_4 (dk_at dksX12_number_0 1 rfl rfl)
theorem dX12_number_2 : decode cX12_number 2 = .ok (.iload_n 1, 1) := dk_27 (dk_at dksX12_number_0 2 rfl rfl)
theorem dX12_number_3 : decode cX12_number 3 = .ok (.iload_n 2, 1) := dk_28 (dk_at dksX12_number_0 3 rfl rfl)
theorem dX12_number_4 : decode cX12_number 4 = .ok (.invokevirtual 91, 3) := dk_182 0 91 (dk_at dksX12_number_0 4 rfl rfl)
theorem dX12_number_7 : decode cX12_number 7 = .ok (.ireturn, 1) := dk_172 (dk_at dksX12_number_0 7 rfl rfl)
abbrev cX12_vehicle : ByteArray := prog_12_method_11_code
def yX12_vehicle : MethodName := ⟨RX12, "vehicle", "()V"⟩
def dkwX12_vehicle_1 : List UInt8 := [27, 28, 42, 16, 100, 17, 19, 136, 182, 0, 161, 182, 0, 175, 62, 177]
abbrev dktX12_vehicle_1 : List UInt8 := dkwX12_vehicle_1 ++ []
def dkwX12_vehicle_0 : List UInt8 := [42, 17, 177, 224, 17, 78, 32, 182, 0, 161, 60, 42, 16, 206, 16, 50, 182, 0, 161, 61, 42, 180, 0, 18]
abbrev dktX12_vehicle_0 : List UInt8 := dkwX12_vehicle_0 ++ dktX12_vehicle_1
theorem dksX12_vehicle_0 : cX12_vehicle.data.toList.drop 0 = dktX12_vehicle_0 := by decide +kernel
theorem dksX12_vehicle_1 : cX12_vehicle.data.toList.drop 24 = dktX12_vehicle_1 := dk_seg dksX12_vehicle_0 24 rfl rfl
theorem dX12_vehicle_0 : decode cX12_vehicle 0 = .ok (.aload_n 0, 1) := dk_42 (dk_at dksX12_vehicle_0 0 rfl rfl)
theorem dX12_vehicle_1 : decode cX12_vehicle 1 = .ok (.sipush (-20000), 3) := dk_17 177 224 (dk_at dksX12_vehicle_0 1 rfl rfl)
theorem dX12_vehicle_4 : decode cX12_vehicle 4 = .ok (.sipush 20000, 3) := dk_17 78 32 (dk_at dksX12_vehicle_0 4 rfl rfl)
theorem dX12_vehicle_7 : decode cX12_vehicle 7 = .ok (.invokevirtual 161, 3) := dk_182 0 161 (dk_at dksX12_vehicle_0 7 rfl rfl)
theorem dX12_vehicle_10 : decode cX12_vehicle 10 = .ok (.istore_n 1, 1) := dk_60 (dk_at dksX12_vehicle_0 10 rfl rfl)
theorem dX12_vehicle_11 : decode cX12_vehicle 11 = .ok (.aload_n 0, 1) := dk_42 (dk_at dksX12_vehicle_0 11 rfl rfl)
theorem dX12_vehicle_12 : decode cX12_vehicle 12 = .ok (.bipush (-50), 2) := dk_16 206 (dk_at dksX12_vehicle_0 12 rfl rfl)
theorem dX12_vehicle_14 : decode cX12_vehicle 14 = .ok (.bipush 50, 2) := dk_16 50 (dk_at dksX12_vehicle_0 14 rfl rfl)
theorem dX12_vehicle_16 : decode cX12_vehicle 16 = .ok (.invokevirtual 161, 3) := dk_182 0 161 (dk_at dksX12_vehicle_0 16 rfl rfl)
theorem dX12_vehicle_19 : decode cX12_vehicle 19 = .ok (.istore_n 2, 1) := dk_61 (dk_at dksX12_vehicle_0 19 rfl rfl)
theorem dX12_vehicle_20 : decode cX12_vehicle 20 = .ok (.aload_n 0, 1) := dk_42 (dk_at dksX12_vehicle_0 20 rfl rfl)
theorem dX12_vehicle_21 : decode cX12_vehicle 21 = .ok (.getfield 18, 3) := dk_180 0 18 (dk_at dksX12_vehicle_0 21 rfl rfl)
theorem dX12_vehicle_24 : decode cX12_vehicle 24 = .ok (.iload_n 1, 1) := dk_27 (dk_at dksX12_vehicle_1 0 rfl rfl)
theorem dX12_vehicle_25 : decode cX12_vehicle 25 = .ok (.iload_n 2, 1) := dk_28 (dk_at dksX12_vehicle_1 1 rfl rfl)
theorem dX12_vehicle_26 : decode cX12_vehicle 26 = .ok (.aload_n 0, 1) := dk_42 (dk_at dksX12_vehicle_1 2 rfl rfl)
theorem dX12_vehicle_27 : decode cX12_vehicle 27 = .ok (.bipush 100, 2) := dk_16 100 (dk_at dksX12_vehicle_1 3 rfl rfl)
theorem dX12_vehicle_29 : decode cX12_vehicle 29 = .ok (.sipush 5000, 3) := dk_17 19 136 (dk_at dksX12_vehicle_1 5 rfl rfl)
theorem dX12_vehicle_32 : decode cX12_vehicle 32 = .ok (.invokevirtual 161, 3) := dk_182 0 161 (dk_at dksX12_vehicle_1 8 rfl rfl)
theorem dX12_vehicle_35 : decode cX12_vehicle 35 = .ok (.invokevirtual 175, 3) := dk_182 0 175 (dk_at dksX12_vehicle_1 11 rfl rfl)
theorem dX12_vehicle_38 : decode cX12_vehicle 38 = .ok (.istore_n 3, 1) := dk_62 (dk_at dksX12_vehicle_1 14 rfl rfl)
theorem dX12_vehicle_39 : decode cX12_vehicle 39 = .ok (.return_, 1) := dk_177 (dk_at dksX12_vehicle_1 15 rfl rfl)
abbrev cX12_source : ByteArray := prog_12_method_12_code
def yX12_source : MethodName := ⟨RX12, "source", "()V"⟩
def dkwX12_source_5 : List UInt8 := [42, 16, 157, 16, 99, 182, 0, 161, 182, 0, 189, 54, 7, 167, 255, 212, 177]
abbrev dktX12_source_5 : List UInt8 := dkwX12_source_5 ++ []
def dkwX12_source_4 : List UInt8 := [42, 180, 0, 24, 18, 101, 182, 0, 103, 153, 0, 31, 25, 6, 180, 0, 188, 16, 16, 162, 0, 21, 25, 6]
abbrev dktX12_source_4 : List UInt8 := dkwX12_source_4 ++ dktX12_source_5
def dkwX12_source_3 : List UInt8 := [42, 180, 0, 18, 180, 0, 152, 21, 5, 182, 0, 182, 192, 0, 186, 58, 6, 42, 180, 0, 60, 154, 0, 15]
abbrev dktX12_source_3 : List UInt8 := dkwX12_source_3 ++ dktX12_source_4
def dkwX12_source_2 : List UInt8 := [54, 4, 42, 180, 0, 18, 27, 28, 29, 21, 4, 42, 16, 157, 16, 99, 182, 0, 161, 182, 0, 178, 54, 5]
abbrev dktX12_source_2 : List UInt8 := dkwX12_source_2 ++ dktX12_source_3
def dkwX12_source_1 : List UInt8 := [17, 3, 232, 182, 0, 161, 61, 42, 3, 17, 1, 244, 182, 0, 157, 62, 42, 4, 16, 10, 182, 0, 157]
abbrev dktX12_source_1 : List UInt8 := dkwX12_source_1 ++ dktX12_source_2
def dkwX12_source_0 : List UInt8 := [42, 3, 42, 180, 0, 18, 180, 0, 147, 182, 0, 136, 4, 100, 182, 0, 157, 60, 42, 17, 252, 24]
abbrev dktX12_source_0 : List UInt8 := dkwX12_source_0 ++ dktX12_source_1
theorem dksX12_source_0 : cX12_source.data.toList.drop 0 = dktX12_source_0 := by decide +kernel
theorem dksX12_source_1 : cX12_source.data.toList.drop 22 = dktX12_source_1 := dk_seg dksX12_source_0 22 rfl rfl
theorem dksX12_source_2 : cX12_source.data.toList.drop 45 = dktX12_source_2 := dk_seg dksX12_source_1 23 rfl rfl
theorem dksX12_source_3 : cX12_source.data.toList.drop 69 = dktX12_source_3 := dk_seg dksX12_source_2 24 rfl rfl
theorem dksX12_source_4 : cX12_source.data.toList.drop 93 = dktX12_source_4 := dk_seg dksX12_source_3 24 rfl rfl
theorem dksX12_source_5 : cX12_source.data.toList.drop 117 = dktX12_source_5 := dk_seg dksX12_source_4 24 rfl rfl
theorem dX12_source_0 : decode cX12_source 0 = .ok (.aload_n 0, 1) := dk_42 (dk_at dksX12_source_0 0 rfl rfl)
theorem dX12_source_1 : decode cX12_source 1 = .ok (.iconst 0, 1) := dk_3 (dk_at dksX12_source_0 1 rfl rfl)
theorem dX12_source_2 : decode cX12_source 2 = .ok (.aload_n 0, 1) := dk_42 (dk_at dksX12_source_0 2 rfl rfl)
theorem dX12_source_3 : decode cX12_source 3 = .ok (.getfield 18, 3) := dk_180 0 18 (dk_at dksX12_source_0 3 rfl rfl)
theorem dX12_source_6 : decode cX12_source 6 = .ok (.getfield 147, 3) := dk_180 0 147 (dk_at dksX12_source_0 6 rfl rfl)
theorem dX12_source_9 : decode cX12_source 9 = .ok (.invokevirtual 136, 3) := dk_182 0 136 (dk_at dksX12_source_0 9 rfl rfl)
theorem dX12_source_12 : decode cX12_source 12 = .ok (.iconst 1, 1) := dk_4 (dk_at dksX12_source_0 12 rfl rfl)
theorem dX12_source_13 : decode cX12_source 13 = .ok (.isub, 1) := dk_100 (dk_at dksX12_source_0 13 rfl rfl)
theorem dX12_source_14 : decode cX12_source 14 = .ok (.invokevirtual 157, 3) := dk_182 0 157 (dk_at dksX12_source_0 14 rfl rfl)
theorem dX12_source_17 : decode cX12_source 17 = .ok (.istore_n 1, 1) := dk_60 (dk_at dksX12_source_0 17 rfl rfl)
theorem dX12_source_18 : decode cX12_source 18 = .ok (.aload_n 0, 1) := dk_42 (dk_at dksX12_source_0 18 rfl rfl)
theorem dX12_source_19 : decode cX12_source 19 = .ok (.sipush (-1000), 3) := dk_17 252 24 (dk_at dksX12_source_0 19 rfl rfl)
theorem dX12_source_22 : decode cX12_source 22 = .ok (.sipush 1000, 3) := dk_17 3 232 (dk_at dksX12_source_1 0 rfl rfl)
theorem dX12_source_25 : decode cX12_source 25 = .ok (.invokevirtual 161, 3) := dk_182 0 161 (dk_at dksX12_source_1 3 rfl rfl)
theorem dX12_source_28 : decode cX12_source 28 = .ok (.istore_n 2, 1) := dk_61 (dk_at dksX12_source_1 6 rfl rfl)
theorem dX12_source_29 : decode cX12_source 29 = .ok (.aload_n 0, 1) := dk_42 (dk_at dksX12_source_1 7 rfl rfl)
theorem dX12_source_30 : decode cX12_source 30 = .ok (.iconst 0, 1) := dk_3 (dk_at dksX12_source_1 8 rfl rfl)
theorem dX12_source_31 : decode cX12_source 31 = .ok (.sipush 500, 3) := dk_17 1 244 (dk_at dksX12_source_1 9 rfl rfl)
theorem dX12_source_34 : decode cX12_source 34 = .ok (.invokevirtual 157, 3) := dk_182 0 157 (dk_at dksX12_source_1 12 rfl rfl)
theorem dX12_source_37 : decode cX12_source 37 = .ok (.istore_n 3, 1) := dk_62 (dk_at dksX12_source_1 15 rfl rfl)
theorem dX12_source_38 : decode cX12_source 38 = .ok (.aload_n 0, 1) := dk_42 (dk_at dksX12_source_1 16 rfl rfl)
theorem dX12_source_39 : decode cX12_source 39 = .ok (.iconst 1, 1) := dk_4 (dk_at dksX12_source_1 17 rfl rfl)
theorem dX12_source_40 : decode cX12_source 40 = .ok (.bipush 10, 2) := dk_16 10 (dk_at dksX12_source_1 18 rfl rfl)
theorem dX12_source_42 : decode cX12_source 42 = .ok (.invokevirtual 157, 3) := dk_182 0 157 (dk_at dksX12_source_1 20 rfl rfl)
theorem dX12_source_45 : decode cX12_source 45 = .ok (.istore 4, 2) := dk_54 4 (dk_at dksX12_source_2 0 rfl rfl)
theorem dX12_source_47 : decode cX12_source 47 = .ok (.aload_n 0, 1) := dk_42 (dk_at dksX12_source_2 2 rfl rfl)
theorem dX12_source_48 : decode cX12_source 48 = .ok (.getfield 18, 3) := dk_180 0 18 (dk_at dksX12_source_2 3 rfl rfl)
theorem dX12_source_51 : decode cX12_source 51 = .ok (.iload_n 1, 1) := dk_27 (dk_at dksX12_source_2 6 rfl rfl)
theorem dX12_source_52 : decode cX12_source 52 = .ok (.iload_n 2, 1) := dk_28 (dk_at dksX12_source_2 7 rfl rfl)
theorem dX12_source_53 : decode cX12_source 53 = .ok (.iload_n 3, 1) := dk_29 (dk_at dksX12_source_2 8 rfl rfl)
theorem dX12_source_54 : decode cX12_source 54 = .ok (.iload 4, 2) := dk_21 4 (dk_at dksX12_source_2 9 rfl rfl)
theorem dX12_source_56 : decode cX12_source 56 = .ok (.aload_n 0, 1) := dk_42 (dk_at dksX12_source_2 11 rfl rfl)
theorem dX12_source_57 : decode cX12_source 57 = .ok (.bipush (-99), 2) := dk_16 157 (dk_at dksX12_source_2 12 rfl rfl)
theorem dX12_source_59 : decode cX12_source 59 = .ok (.bipush 99, 2) := dk_16 99 (dk_at dksX12_source_2 14 rfl rfl)
theorem dX12_source_61 : decode cX12_source 61 = .ok (.invokevirtual 161, 3) := dk_182 0 161 (dk_at dksX12_source_2 16 rfl rfl)
theorem dX12_source_64 : decode cX12_source 64 = .ok (.invokevirtual 178, 3) := dk_182 0 178 (dk_at dksX12_source_2 19 rfl rfl)
theorem dX12_source_67 : decode cX12_source 67 = .ok (.istore 5, 2) := dk_54 5 (dk_at dksX12_source_2 22 rfl rfl)
theorem dX12_source_69 : decode cX12_source 69 = .ok (.aload_n 0, 1) := dk_42 (dk_at dksX12_source_3 0 rfl rfl)
theorem dX12_source_70 : decode cX12_source 70 = .ok (.getfield 18, 3) := dk_180 0 18 (dk_at dksX12_source_3 1 rfl rfl)
theorem dX12_source_73 : decode cX12_source 73 = .ok (.getfield 152, 3) := dk_180 0 152 (dk_at dksX12_source_3 4 rfl rfl)
theorem dX12_source_76 : decode cX12_source 76 = .ok (.iload 5, 2) := dk_21 5 (dk_at dksX12_source_3 7 rfl rfl)
theorem dX12_source_78 : decode cX12_source 78 = .ok (.invokevirtual 182, 3) := dk_182 0 182 (dk_at dksX12_source_3 9 rfl rfl)
theorem dX12_source_81 : decode cX12_source 81 = .ok (.checkcast 186, 3) := dk_192 0 186 (dk_at dksX12_source_3 12 rfl rfl)
theorem dX12_source_84 : decode cX12_source 84 = .ok (.astore 6, 2) := dk_58 6 (dk_at dksX12_source_3 15 rfl rfl)
theorem dX12_source_86 : decode cX12_source 86 = .ok (.aload_n 0, 1) := dk_42 (dk_at dksX12_source_3 17 rfl rfl)
theorem dX12_source_87 : decode cX12_source 87 = .ok (.getfield 60, 3) := dk_180 0 60 (dk_at dksX12_source_3 18 rfl rfl)
theorem dX12_source_90 : decode cX12_source 90 = .ok (.ifCond .ne 15, 3) := dk_154 0 15 (dk_at dksX12_source_3 21 rfl rfl)
theorem dX12_source_93 : decode cX12_source 93 = .ok (.aload_n 0, 1) := dk_42 (dk_at dksX12_source_4 0 rfl rfl)
theorem dX12_source_94 : decode cX12_source 94 = .ok (.getfield 24, 3) := dk_180 0 24 (dk_at dksX12_source_4 1 rfl rfl)
theorem dX12_source_97 : decode cX12_source 97 = .ok (.ldc 101, 2) := dk_18 101 (dk_at dksX12_source_4 4 rfl rfl)
theorem dX12_source_99 : decode cX12_source 99 = .ok (.invokevirtual 103, 3) := dk_182 0 103 (dk_at dksX12_source_4 6 rfl rfl)
theorem dX12_source_102 : decode cX12_source 102 = .ok (.ifCond .eq 31, 3) := dk_153 0 31 (dk_at dksX12_source_4 9 rfl rfl)
theorem dX12_source_105 : decode cX12_source 105 = .ok (.aload 6, 2) := dk_25 6 (dk_at dksX12_source_4 12 rfl rfl)
theorem dX12_source_107 : decode cX12_source 107 = .ok (.getfield 188, 3) := dk_180 0 188 (dk_at dksX12_source_4 14 rfl rfl)
theorem dX12_source_110 : decode cX12_source 110 = .ok (.bipush 16, 2) := dk_16 16 (dk_at dksX12_source_4 17 rfl rfl)
theorem dX12_source_112 : decode cX12_source 112 = .ok (.if_icmp .ge 21, 3) := dk_162 0 21 (dk_at dksX12_source_4 19 rfl rfl)
theorem dX12_source_115 : decode cX12_source 115 = .ok (.aload 6, 2) := dk_25 6 (dk_at dksX12_source_4 22 rfl rfl)
theorem dX12_source_117 : decode cX12_source 117 = .ok (.aload_n 0, 1) := dk_42 (dk_at dksX12_source_5 0 rfl rfl)
theorem dX12_source_118 : decode cX12_source 118 = .ok (.bipush (-99), 2) := dk_16 157 (dk_at dksX12_source_5 1 rfl rfl)
theorem dX12_source_120 : decode cX12_source 120 = .ok (.bipush 99, 2) := dk_16 99 (dk_at dksX12_source_5 3 rfl rfl)
theorem dX12_source_122 : decode cX12_source 122 = .ok (.invokevirtual 161, 3) := dk_182 0 161 (dk_at dksX12_source_5 5 rfl rfl)
theorem dX12_source_125 : decode cX12_source 125 = .ok (.invokevirtual 189, 3) := dk_182 0 189 (dk_at dksX12_source_5 8 rfl rfl)
theorem dX12_source_128 : decode cX12_source 128 = .ok (.istore 7, 2) := dk_54 7 (dk_at dksX12_source_5 11 rfl rfl)
theorem dX12_source_130 : decode cX12_source 130 = .ok (.goto (-44), 3) := dk_167 255 212 (dk_at dksX12_source_5 13 rfl rfl)
theorem dX12_source_133 : decode cX12_source 133 = .ok (.return_, 1) := dk_177 (dk_at dksX12_source_5 16 rfl rfl)
theorem q121 : (Jvm.Cond.initialized "TrackArray$Parser") ∈ lw_all := lw_g (lw_at lw_m1 39 rfl) rfl
theorem q509 : (Jvm.Cond.fieldLinkNest "TrackArray$Parser" (147 : Nat) "TrackArray$Track" "vehicles" "Ljava/util/ArrayList;" "TrackArray") ∈ lw_tbl := lw_at lw_m2 187 rfl
theorem q512 : (Jvm.Cond.fieldLinkNest "TrackArray$Parser" (152 : Nat) "TrackArray$Track" "sources" "Ljava/util/ArrayList;" "TrackArray") ∈ lw_tbl := lw_at lw_m2 190 rfl
theorem q515 : (Jvm.Cond.fieldLinkNest "TrackArray$Parser" (132 : Nat) "TrackArray$Track" "microphones" "Ljava/util/ArrayList;" "TrackArray") ∈ lw_tbl := lw_at lw_m2 193 rfl
theorem q518 : (Jvm.Cond.fieldLinkNest "TrackArray$Parser" (159 : Nat) "TrackArray$Track" "sound" "I" "TrackArray") ∈ lw_tbl := lw_at lw_m2 196 rfl
theorem q521 : (Jvm.Cond.fieldLinkNest "TrackArray$Parser" (164 : Nat) "TrackArray$Track" "ground" "I" "TrackArray") ∈ lw_tbl := lw_at lw_m2 199 rfl
theorem q524 : (Jvm.Cond.fieldLinkNest "TrackArray$Parser" (168 : Nat) "TrackArray$Track" "spreads" "Z" "TrackArray") ∈ lw_tbl := lw_at lw_m2 202 rfl
theorem q529 : (Jvm.Cond.fieldLinkNest "TrackArray$Parser" (166 : Nat) "TrackArray$Track" "noise" "I" "TrackArray") ∈ lw_tbl := lw_at lw_m2 207 rfl
theorem q572 : (Jvm.Cond.fieldLinkNest "TrackArray$Parser" (35 : Nat) "TrackArray" "text" "[B" "TrackArray") ∈ lw_tbl := lw_at lw_m3 10 rfl
theorem q770 : (Jvm.Cond.instantiable "TrackArray$Parser" (8 : Nat)) ∈ lw_all := lw_g (lw_at lw_m3 208 rfl) rfl
theorem q772 : (Jvm.Cond.instanceMethod ({ cls := "TrackArray$Parser", name := "<init>", desc := "(LTrackArray;I)V" } : Jvm.MethodName)) ∈ lw_all := lw_g (lw_at lw_m3 210 rfl) rfl
theorem q773 : (Jvm.Cond.code ({ cls := "TrackArray$Parser", name := "<init>", desc := "(LTrackArray;I)V" } : Jvm.MethodName) prog_12_method_1_code (3 : Nat) (Option.none : Option Jvm.ClassFile.FieldType)) ∈ lw_all := lw_g (lw_at lw_m3 211 rfl) rfl
theorem q774 : (Jvm.Cond.methodLink "TrackArray$Parser" (9 : Nat) ({ cls := "java/lang/Object", name := "<init>", desc := "()V" } : Jvm.MethodName)) ∈ lw_all := lw_g (lw_at lw_m3 212 rfl) rfl
theorem q775 : (Jvm.Cond.classLink "TrackArray$Parser" (15 : Nat) "TrackArray$Track") ∈ lw_all := lw_g (lw_at lw_m3 213 rfl) rfl
theorem q776 : (Jvm.Cond.methodLinkNest "TrackArray$Parser" (17 : Nat) ({ cls := "TrackArray$Track", name := "<init>", desc := "()V" } : Jvm.MethodName) "TrackArray") ∈ lw_tbl := lw_at lw_m3 214 rfl
theorem q777 : (Jvm.Cond.stringRef "TrackArray$Parser" (22 : Nat) "") ∈ lw_tbl := lw_at lw_m3 215 rfl
theorem q778 : (Jvm.Cond.methodLink "TrackArray$Parser" (32 : Nat) ({ cls := "TrackArray$Parser", name := "advance", desc := "()V" } : Jvm.MethodName)) ∈ lw_all := lw_g (lw_at lw_m3 216 rfl) rfl
theorem q779 : (Jvm.Cond.privateMethod ({ cls := "TrackArray$Parser", name := "advance", desc := "()V" } : Jvm.MethodName)) ∈ lw_tbl := lw_at lw_m3 217 rfl
theorem q780 : (Jvm.Cond.instanceMethod ({ cls := "TrackArray$Parser", name := "advance", desc := "()V" } : Jvm.MethodName)) ∈ lw_all := lw_g (lw_at lw_m3 218 rfl) rfl
theorem q781 : (Jvm.Cond.code ({ cls := "TrackArray$Parser", name := "advance", desc := "()V" } : Jvm.MethodName) prog_12_method_3_code (3 : Nat) (Option.none : Option Jvm.ClassFile.FieldType)) ∈ lw_all := lw_g (lw_at lw_m3 219 rfl) rfl
theorem q782 : (Jvm.Cond.methodLink "TrackArray$Parser" (42 : Nat) ({ cls := "TrackArray$Parser", name := "byteAt", desc := "(I)I" } : Jvm.MethodName)) ∈ lw_all := lw_g (lw_at lw_m3 220 rfl) rfl
theorem q783 : (Jvm.Cond.privateMethod ({ cls := "TrackArray$Parser", name := "byteAt", desc := "(I)I" } : Jvm.MethodName)) ∈ lw_tbl := lw_at lw_m3 221 rfl
theorem q784 : (Jvm.Cond.instanceMethod ({ cls := "TrackArray$Parser", name := "byteAt", desc := "(I)I" } : Jvm.MethodName)) ∈ lw_all := lw_g (lw_at lw_m3 222 rfl) rfl
theorem q785 : (Jvm.Cond.code ({ cls := "TrackArray$Parser", name := "byteAt", desc := "(I)I" } : Jvm.MethodName) prog_12_method_2_code (2 : Nat) (Option.some Jvm.ClassFile.FieldType.int)) ∈ lw_all := lw_g (lw_at lw_m3 223 rfl) rfl
theorem q786 : (Jvm.Cond.constantLong "TrackArray$Parser" (52 : Nat) (48 : Int64)) ∈ lw_all := lw_g (lw_at lw_m3 224 rfl) rfl
theorem q787 : (Jvm.Cond.constantLong "TrackArray$Parser" (54 : Nat) (57 : Int64)) ∈ lw_all := lw_g (lw_at lw_m3 225 rfl) rfl
theorem q788 : (Jvm.Cond.methodLinkNest "TrackArray$Parser" (56 : Nat) ({ cls := "TrackArray", name := "isBetween", desc := "(JJJ)Z" } : Jvm.MethodName) "TrackArray") ∈ lw_tbl := lw_at lw_m3 226 rfl
theorem q791 : (Jvm.Cond.constant "TrackArray$Parser" (64 : Nat) (99999 : Int32)) ∈ lw_all := lw_g (lw_at lw_m3 229 rfl) rfl
theorem q792 : (Jvm.Cond.methodLink "TrackArray$Parser" (65 : Nat) ({ cls := "java/lang/Math", name := "min", desc := "(II)I" } : Jvm.MethodName)) ∈ lw_all := lw_g (lw_at lw_m3 230 rfl) rfl
theorem q793 : (Jvm.Cond.classLink "TrackArray$Parser" (71 : Nat) "java/lang/StringBuilder") ∈ lw_all := lw_g (lw_at lw_m3 231 rfl) rfl
theorem q794 : (Jvm.Cond.methodLink "TrackArray$Parser" (73 : Nat) ({ cls := "java/lang/StringBuilder", name := "<init>", desc := "()V" } : Jvm.MethodName)) ∈ lw_all := lw_g (lw_at lw_m3 232 rfl) rfl
theorem q795 : (Jvm.Cond.constantLong "TrackArray$Parser" (74 : Nat) (97 : Int64)) ∈ lw_all := lw_g (lw_at lw_m3 233 rfl) rfl
theorem q796 : (Jvm.Cond.constantLong "TrackArray$Parser" (76 : Nat) (122 : Int64)) ∈ lw_all := lw_g (lw_at lw_m3 234 rfl) rfl
theorem q797 : (Jvm.Cond.methodLink "TrackArray$Parser" (78 : Nat) ({ cls := "java/lang/StringBuilder", name := "append", desc := "(C)Ljava/lang/StringBuilder;" } : Jvm.MethodName)) ∈ lw_all := lw_g (lw_at lw_m3 235 rfl) rfl
theorem q819 : (Jvm.Cond.methodLink "TrackArray$Parser" (82 : Nat) ({ cls := "java/lang/StringBuilder", name := "toString", desc := "()Ljava/lang/String;" } : Jvm.MethodName)) ∈ lw_all := lw_g (lw_at lw_m4 17 rfl) rfl
theorem q820 : (Jvm.Cond.fieldLink "TrackArray$Parser" (28 : Nat) "TrackArray$Parser" "length" "I") ∈ lw_all := lw_g (lw_at lw_m4 18 rfl) rfl
theorem q821 : (Jvm.Cond.fieldLink "TrackArray$Parser" (18 : Nat) "TrackArray$Parser" "track" "LTrackArray$Track;") ∈ lw_all := lw_g (lw_at lw_m4 19 rfl) rfl
theorem q823 : (Jvm.Cond.fieldLink "TrackArray$Parser" (39 : Nat) "TrackArray$Parser" "next" "I") ∈ lw_all := lw_g (lw_at lw_m4 21 rfl) rfl
theorem q824 : (Jvm.Cond.fieldLink "TrackArray$Parser" (46 : Nat) "TrackArray$Parser" "begin" "I") ∈ lw_all := lw_g (lw_at lw_m4 22 rfl) rfl
theorem q825 : (Jvm.Cond.fieldLink "TrackArray$Parser" (60 : Nat) "TrackArray$Parser" "isNumber" "Z") ∈ lw_all := lw_g (lw_at lw_m4 23 rfl) rfl
theorem q826 : (Jvm.Cond.fieldLink "TrackArray$Parser" (49 : Nat) "TrackArray$Parser" "number" "I") ∈ lw_all := lw_g (lw_at lw_m4 24 rfl) rfl
theorem q827 : (Jvm.Cond.fieldLink "TrackArray$Parser" (24 : Nat) "TrackArray$Parser" "word" "Ljava/lang/String;") ∈ lw_all := lw_g (lw_at lw_m4 25 rfl) rfl
theorem q828 : (Jvm.Cond.fieldLink "TrackArray$Parser" (3 : Nat) "TrackArray$Parser" "this$0" "LTrackArray;") ∈ lw_all := lw_g (lw_at lw_m4 26 rfl) rfl
theorem q829 : (Jvm.Cond.laysFinal "TrackArray$Parser" "TrackArray$Parser" "length" "I") ∈ lw_all := lw_g (lw_at lw_m4 27 rfl) rfl
theorem q830 : (Jvm.Cond.soleField "TrackArray$Parser" "length") ∈ lw_all := lw_g (lw_at lw_m4 28 rfl) rfl
theorem q831 : (Jvm.Cond.laysFinal "TrackArray$Parser" "TrackArray$Parser" "track" "LTrackArray$Track;") ∈ lw_all := lw_g (lw_at lw_m4 29 rfl) rfl
theorem q832 : (Jvm.Cond.soleField "TrackArray$Parser" "track") ∈ lw_all := lw_g (lw_at lw_m4 30 rfl) rfl
theorem q833 : (Jvm.Cond.lays "TrackArray$Parser" "TrackArray$Parser" "next" "I") ∈ lw_all := lw_g (lw_at lw_m4 31 rfl) rfl
theorem q834 : (Jvm.Cond.soleField "TrackArray$Parser" "next") ∈ lw_all := lw_g (lw_at lw_m4 32 rfl) rfl
theorem q835 : (Jvm.Cond.lays "TrackArray$Parser" "TrackArray$Parser" "begin" "I") ∈ lw_all := lw_g (lw_at lw_m4 33 rfl) rfl
theorem q836 : (Jvm.Cond.soleField "TrackArray$Parser" "begin") ∈ lw_all := lw_g (lw_at lw_m4 34 rfl) rfl
theorem q837 : (Jvm.Cond.lays "TrackArray$Parser" "TrackArray$Parser" "isNumber" "Z") ∈ lw_all := lw_g (lw_at lw_m4 35 rfl) rfl
theorem q838 : (Jvm.Cond.soleField "TrackArray$Parser" "isNumber") ∈ lw_all := lw_g (lw_at lw_m4 36 rfl) rfl
theorem q839 : (Jvm.Cond.lays "TrackArray$Parser" "TrackArray$Parser" "number" "I") ∈ lw_all := lw_g (lw_at lw_m4 37 rfl) rfl
theorem q840 : (Jvm.Cond.soleField "TrackArray$Parser" "number") ∈ lw_all := lw_g (lw_at lw_m4 38 rfl) rfl
theorem q841 : (Jvm.Cond.lays "TrackArray$Parser" "TrackArray$Parser" "word" "Ljava/lang/String;") ∈ lw_all := lw_g (lw_at lw_m4 39 rfl) rfl
theorem q842 : (Jvm.Cond.soleField "TrackArray$Parser" "word") ∈ lw_all := lw_g (lw_at lw_m4 40 rfl) rfl
theorem q843 : (Jvm.Cond.laysFinal "TrackArray$Parser" "TrackArray$Parser" "this$0" "LTrackArray;") ∈ lw_all := lw_g (lw_at lw_m4 41 rfl) rfl
theorem q844 : (Jvm.Cond.soleField "TrackArray$Parser" "this$0") ∈ lw_all := lw_g (lw_at lw_m4 42 rfl) rfl
theorem q845 : (Jvm.Cond.superclass "TrackArray$Parser" "java/lang/Object") ∈ lw_all := lw_g (lw_at lw_m4 43 rfl) rfl
theorem q847 : (Jvm.Cond.instanceMethod ({ cls := "TrackArray$Parser", name := "setup", desc := "()I" } : Jvm.MethodName)) ∈ lw_all := lw_g (lw_at lw_m4 45 rfl) rfl
theorem q848 : (Jvm.Cond.selects "TrackArray$Parser" ({ cls := "TrackArray$Parser", name := "setup", desc := "()I" } : Jvm.MethodName) ({ cls := "TrackArray$Parser", name := "setup", desc := "()I" } : Jvm.MethodName)) ∈ lw_all := lw_g (lw_at lw_m4 46 rfl) rfl
theorem q849 : (Jvm.Cond.code ({ cls := "TrackArray$Parser", name := "setup", desc := "()I" } : Jvm.MethodName) prog_12_method_8_code (2 : Nat) (Option.some Jvm.ClassFile.FieldType.int)) ∈ lw_all := lw_g (lw_at lw_m4 47 rfl) rfl
theorem q850 : (Jvm.Cond.methodLink "TrackArray$Parser" (109 : Nat) ({ cls := "TrackArray$Parser", name := "statement", desc := "()V" } : Jvm.MethodName)) ∈ lw_all := lw_g (lw_at lw_m4 48 rfl) rfl
theorem q851 : (Jvm.Cond.privateMethod ({ cls := "TrackArray$Parser", name := "statement", desc := "()V" } : Jvm.MethodName)) ∈ lw_tbl := lw_at lw_m4 49 rfl
theorem q852 : (Jvm.Cond.instanceMethod ({ cls := "TrackArray$Parser", name := "statement", desc := "()V" } : Jvm.MethodName)) ∈ lw_all := lw_g (lw_at lw_m4 50 rfl) rfl
theorem q853 : (Jvm.Cond.code ({ cls := "TrackArray$Parser", name := "statement", desc := "()V" } : Jvm.MethodName) prog_12_method_9_code (3 : Nat) (Option.none : Option Jvm.ClassFile.FieldType)) ∈ lw_all := lw_g (lw_at lw_m4 51 rfl) rfl
theorem q854 : (Jvm.Cond.methodLink "TrackArray$Parser" (114 : Nat) ({ cls := "java/lang/String", name := "hashCode", desc := "()I" } : Jvm.MethodName)) ∈ lw_all := lw_g (lw_at lw_m4 52 rfl) rfl
theorem q915 : (Jvm.Cond.stringRef "TrackArray$Parser" (118 : Nat) "mic") ∈ lw_tbl := lw_at lw_m4 113 rfl
theorem q916 : (Jvm.Cond.methodLink "TrackArray$Parser" (103 : Nat) ({ cls := "java/lang/String", name := "equals", desc := "(Ljava/lang/Object;)Z" } : Jvm.MethodName)) ∈ lw_all := lw_g (lw_at lw_m4 114 rfl) rfl
theorem q924 : (Jvm.Cond.stringRef "TrackArray$Parser" (120 : Nat) "vehicle") ∈ lw_tbl := lw_at lw_m4 122 rfl
theorem q925 : (Jvm.Cond.stringRef "TrackArray$Parser" (122 : Nat) "source") ∈ lw_tbl := lw_at lw_m4 123 rfl
theorem q926 : (Jvm.Cond.stringRef "TrackArray$Parser" (124 : Nat) "sound") ∈ lw_tbl := lw_at lw_m4 124 rfl
theorem q927 : (Jvm.Cond.stringRef "TrackArray$Parser" (126 : Nat) "ground") ∈ lw_tbl := lw_at lw_m4 125 rfl
theorem q928 : (Jvm.Cond.stringRef "TrackArray$Parser" (128 : Nat) "noise") ∈ lw_tbl := lw_at lw_m4 126 rfl
theorem q929 : (Jvm.Cond.stringRef "TrackArray$Parser" (130 : Nat) "spreading") ∈ lw_tbl := lw_at lw_m4 127 rfl
theorem q930 : (Jvm.Cond.methodLink "TrackArray$Parser" (136 : Nat) ({ cls := "java/util/ArrayList", name := "size", desc := "()I" } : Jvm.MethodName)) ∈ lw_all := lw_g (lw_at lw_m4 128 rfl) rfl
theorem q934 : (Jvm.Cond.methodLink "TrackArray$Parser" (141 : Nat) ({ cls := "TrackArray$Parser", name := "requireRoom", desc := "(Z)V" } : Jvm.MethodName)) ∈ lw_all := lw_g (lw_at lw_m4 132 rfl) rfl
theorem q935 : (Jvm.Cond.privateMethod ({ cls := "TrackArray$Parser", name := "requireRoom", desc := "(Z)V" } : Jvm.MethodName)) ∈ lw_tbl := lw_at lw_m4 133 rfl
theorem q936 : (Jvm.Cond.instanceMethod ({ cls := "TrackArray$Parser", name := "requireRoom", desc := "(Z)V" } : Jvm.MethodName)) ∈ lw_all := lw_g (lw_at lw_m4 134 rfl) rfl
theorem q937 : (Jvm.Cond.code ({ cls := "TrackArray$Parser", name := "requireRoom", desc := "(Z)V" } : Jvm.MethodName) prog_12_method_4_code (2 : Nat) (Option.none : Option Jvm.ClassFile.FieldType)) ∈ lw_all := lw_g (lw_at lw_m4 135 rfl) rfl
theorem q938 : (Jvm.Cond.classLink "TrackArray$Parser" (86 : Nat) "TrackArray$TooMany") ∈ lw_all := lw_g (lw_at lw_m4 136 rfl) rfl
theorem q947 : (Jvm.Cond.methodLink "TrackArray$Parser" (88 : Nat) ({ cls := "TrackArray$TooMany", name := "<init>", desc := "(I)V" } : Jvm.MethodName)) ∈ lw_all := lw_g (lw_at lw_m4 145 rfl) rfl
theorem q965 : (Jvm.Cond.methodLink "TrackArray$Parser" (145 : Nat) ({ cls := "TrackArray$Parser", name := "mic", desc := "()V" } : Jvm.MethodName)) ∈ lw_all := lw_g (lw_at lw_m4 163 rfl) rfl
theorem q966 : (Jvm.Cond.privateMethod ({ cls := "TrackArray$Parser", name := "mic", desc := "()V" } : Jvm.MethodName)) ∈ lw_tbl := lw_at lw_m4 164 rfl
theorem q967 : (Jvm.Cond.instanceMethod ({ cls := "TrackArray$Parser", name := "mic", desc := "()V" } : Jvm.MethodName)) ∈ lw_all := lw_g (lw_at lw_m4 165 rfl) rfl
theorem q968 : (Jvm.Cond.code ({ cls := "TrackArray$Parser", name := "mic", desc := "()V" } : Jvm.MethodName) prog_12_method_10_code (5 : Nat) (Option.none : Option Jvm.ClassFile.FieldType)) ∈ lw_all := lw_g (lw_at lw_m4 166 rfl) rfl
theorem q969 : (Jvm.Cond.methodLink "TrackArray$Parser" (161 : Nat) ({ cls := "TrackArray$Parser", name := "integer", desc := "(II)I" } : Jvm.MethodName)) ∈ lw_all := lw_g (lw_at lw_m4 167 rfl) rfl
theorem q970 : (Jvm.Cond.privateMethod ({ cls := "TrackArray$Parser", name := "integer", desc := "(II)I" } : Jvm.MethodName)) ∈ lw_tbl := lw_at lw_m4 168 rfl
theorem q971 : (Jvm.Cond.instanceMethod ({ cls := "TrackArray$Parser", name := "integer", desc := "(II)I" } : Jvm.MethodName)) ∈ lw_all := lw_g (lw_at lw_m4 169 rfl) rfl
theorem q972 : (Jvm.Cond.code ({ cls := "TrackArray$Parser", name := "integer", desc := "(II)I" } : Jvm.MethodName) prog_12_method_7_code (3 : Nat) (Option.some Jvm.ClassFile.FieldType.int)) ∈ lw_all := lw_g (lw_at lw_m4 170 rfl) rfl
theorem q973 : (Jvm.Cond.stringRef "TrackArray$Parser" (101 : Nat) "-") ∈ lw_tbl := lw_at lw_m4 171 rfl
theorem q974 : (Jvm.Cond.methodLink "TrackArray$Parser" (91 : Nat) ({ cls := "TrackArray$Parser", name := "signed", desc := "(III)I" } : Jvm.MethodName)) ∈ lw_all := lw_g (lw_at lw_m4 172 rfl) rfl
theorem q975 : (Jvm.Cond.privateMethod ({ cls := "TrackArray$Parser", name := "signed", desc := "(III)I" } : Jvm.MethodName)) ∈ lw_tbl := lw_at lw_m4 173 rfl
theorem q976 : (Jvm.Cond.instanceMethod ({ cls := "TrackArray$Parser", name := "signed", desc := "(III)I" } : Jvm.MethodName)) ∈ lw_all := lw_g (lw_at lw_m4 174 rfl) rfl
theorem q977 : (Jvm.Cond.code ({ cls := "TrackArray$Parser", name := "signed", desc := "(III)I" } : Jvm.MethodName) prog_12_method_6_code (5 : Nat) (Option.some Jvm.ClassFile.FieldType.int)) ∈ lw_all := lw_g (lw_at lw_m4 175 rfl) rfl
theorem q978 : (Jvm.Cond.classLink "TrackArray$Parser" (95 : Nat) "TrackArray$WrongToken") ∈ lw_all := lw_g (lw_at lw_m4 176 rfl) rfl
theorem q987 : (Jvm.Cond.methodLink "TrackArray$Parser" (97 : Nat) ({ cls := "TrackArray$WrongToken", name := "<init>", desc := "(I)V" } : Jvm.MethodName)) ∈ lw_all := lw_g (lw_at lw_m4 185 rfl) rfl
theorem q994 : (Jvm.Cond.classLink "TrackArray$Parser" (98 : Nat) "TrackArray$WrongNumber") ∈ lw_all := lw_g (lw_at lw_m4 192 rfl) rfl
theorem q1003 : (Jvm.Cond.methodLink "TrackArray$Parser" (100 : Nat) ({ cls := "TrackArray$WrongNumber", name := "<init>", desc := "(I)V" } : Jvm.MethodName)) ∈ lw_all := lw_g (lw_at lw_m4 201 rfl) rfl
theorem q1010 : (Jvm.Cond.methodLink "TrackArray$Parser" (157 : Nat) ({ cls := "TrackArray$Parser", name := "number", desc := "(II)I" } : Jvm.MethodName)) ∈ lw_all := lw_g (lw_at lw_m4 208 rfl) rfl
theorem q1011 : (Jvm.Cond.privateMethod ({ cls := "TrackArray$Parser", name := "number", desc := "(II)I" } : Jvm.MethodName)) ∈ lw_tbl := lw_at lw_m4 209 rfl
theorem q1012 : (Jvm.Cond.instanceMethod ({ cls := "TrackArray$Parser", name := "number", desc := "(II)I" } : Jvm.MethodName)) ∈ lw_all := lw_g (lw_at lw_m4 210 rfl) rfl
theorem q1013 : (Jvm.Cond.code ({ cls := "TrackArray$Parser", name := "number", desc := "(II)I" } : Jvm.MethodName) prog_12_method_5_code (3 : Nat) (Option.some Jvm.ClassFile.FieldType.int)) ∈ lw_all := lw_g (lw_at lw_m4 211 rfl) rfl
theorem q1014 : (Jvm.Cond.methodLink "TrackArray$Parser" (171 : Nat) ({ cls := "TrackArray$Track", name := "addMicrophone", desc := "(IIII)I" } : Jvm.MethodName)) ∈ lw_all := lw_g (lw_at lw_m4 212 rfl) rfl
theorem q1079 : (Jvm.Cond.selects "TrackArray$Parser" ({ cls := "java/lang/Object", name := "getClass", desc := "()Ljava/lang/Class;" } : Jvm.MethodName) ({ cls := "java/lang/Object", name := "getClass", desc := "()Ljava/lang/Class;" } : Jvm.MethodName)) ∈ lw_all := lw_g (lw_at lw_m5 37 rfl) rfl
theorem q1105 : (Jvm.Cond.methodLink "TrackArray$Parser" (150 : Nat) ({ cls := "TrackArray$Parser", name := "vehicle", desc := "()V" } : Jvm.MethodName)) ∈ lw_all := lw_g (lw_at lw_m5 63 rfl) rfl
theorem q1106 : (Jvm.Cond.privateMethod ({ cls := "TrackArray$Parser", name := "vehicle", desc := "()V" } : Jvm.MethodName)) ∈ lw_tbl := lw_at lw_m5 64 rfl
theorem q1107 : (Jvm.Cond.instanceMethod ({ cls := "TrackArray$Parser", name := "vehicle", desc := "()V" } : Jvm.MethodName)) ∈ lw_all := lw_g (lw_at lw_m5 65 rfl) rfl
theorem q1108 : (Jvm.Cond.code ({ cls := "TrackArray$Parser", name := "vehicle", desc := "()V" } : Jvm.MethodName) prog_12_method_11_code (4 : Nat) (Option.none : Option Jvm.ClassFile.FieldType)) ∈ lw_all := lw_g (lw_at lw_m5 66 rfl) rfl
theorem q1109 : (Jvm.Cond.methodLink "TrackArray$Parser" (175 : Nat) ({ cls := "TrackArray$Track", name := "addVehicle", desc := "(III)I" } : Jvm.MethodName)) ∈ lw_all := lw_g (lw_at lw_m5 67 rfl) rfl
theorem q1129 : (Jvm.Cond.methodLink "TrackArray$Parser" (155 : Nat) ({ cls := "TrackArray$Parser", name := "source", desc := "()V" } : Jvm.MethodName)) ∈ lw_all := lw_g (lw_at lw_m5 87 rfl) rfl
theorem q1130 : (Jvm.Cond.privateMethod ({ cls := "TrackArray$Parser", name := "source", desc := "()V" } : Jvm.MethodName)) ∈ lw_tbl := lw_at lw_m5 88 rfl
theorem q1131 : (Jvm.Cond.instanceMethod ({ cls := "TrackArray$Parser", name := "source", desc := "()V" } : Jvm.MethodName)) ∈ lw_all := lw_g (lw_at lw_m5 89 rfl) rfl
theorem q1132 : (Jvm.Cond.code ({ cls := "TrackArray$Parser", name := "source", desc := "()V" } : Jvm.MethodName) prog_12_method_12_code (8 : Nat) (Option.none : Option Jvm.ClassFile.FieldType)) ∈ lw_all := lw_g (lw_at lw_m5 90 rfl) rfl
theorem q1133 : (Jvm.Cond.methodLink "TrackArray$Parser" (178 : Nat) ({ cls := "TrackArray$Track", name := "addSource", desc := "(IIIII)I" } : Jvm.MethodName)) ∈ lw_all := lw_g (lw_at lw_m5 91 rfl) rfl
theorem q1163 : (Jvm.Cond.fieldLinkNest "TrackArray$Parser" (188 : Nat) "TrackArray$Source" "length" "I" "TrackArray") ∈ lw_tbl := lw_at lw_m5 121 rfl
theorem q1182 : (Jvm.Cond.methodLink "TrackArray$Parser" (182 : Nat) ({ cls := "java/util/ArrayList", name := "get", desc := "(I)Ljava/lang/Object;" } : Jvm.MethodName)) ∈ lw_all := lw_g (lw_at lw_m5 140 rfl) rfl
theorem q1183 : (Jvm.Cond.classLink "TrackArray$Parser" (186 : Nat) "TrackArray$Source") ∈ lw_all := lw_g (lw_at lw_m5 141 rfl) rfl
theorem q1184 : (Jvm.Cond.methodLink "TrackArray$Parser" (189 : Nat) ({ cls := "TrackArray$Source", name := "add", desc := "(I)I" } : Jvm.MethodName)) ∈ lw_all := lw_g (lw_at lw_m5 142 rfl) rfl
theorem q1185 : (Jvm.Cond.stringRef "TrackArray$Parser" (112 : Nat) ";") ∈ lw_tbl := lw_at lw_m5 143 rfl
theorem q2448 : (Jvm.Cond.castable "TrackArray$Parser" "java/lang/Object") ∈ lw_tbl := lw_at lw_m10 206 rfl
theorem in_X12 : ∀ w ∈ wsX120, w ∈ lw_all := lw_in wsX120 [829, 831, 833, 835, 837, 839, 841, 843] (by decide +kernel) (by decide +kernel)
/-! TrackArray$SetupError -/
set_option maxRecDepth 100000
def RX13 : String := "TrackArray$SetupError"
abbrev cX13_init : ByteArray := prog_15_method_1_code
def yX13_init : MethodName := ⟨RX13, "<init>", "(I)V"⟩
def dkwX13_init_0 : List UInt8 := [42, 1, 1, 3, 3, 183, 0, 1, 42, 27, 181, 0, 7, 177]
abbrev dktX13_init_0 : List UInt8 := dkwX13_init_0 ++ []
theorem dksX13_init_0 : cX13_init.data.toList.drop 0 = dktX13_init_0 := by decide +kernel
theorem dX13_init_0 : decode cX13_init 0 = .ok (.aload_n 0, 1) := dk_42 (dk_at dksX13_init_0 0 rfl rfl)
theorem dX13_init_1 : decode cX13_init 1 = .ok (.aconst_null, 1) := dk_1 (dk_at dksX13_init_0 1 rfl rfl)
theorem dX13_init_2 : decode cX13_init 2 = .ok (.aconst_null, 1) := dk_1 (dk_at dksX13_init_0 2 rfl rfl)
theorem dX13_init_3 : decode cX13_init 3 = .ok (.iconst 0, 1) := dk_3 (dk_at dksX13_init_0 3 rfl rfl)
theorem dX13_init_4 : decode cX13_init 4 = .ok (.iconst 0, 1) := dk_3 (dk_at dksX13_init_0 4 rfl rfl)
theorem dX13_init_5 : decode cX13_init 5 = .ok (.invokespecial 1, 3) := dk_183 0 1 (dk_at dksX13_init_0 5 rfl rfl)
theorem dX13_init_8 : decode cX13_init 8 = .ok (.aload_n 0, 1) := dk_42 (dk_at dksX13_init_0 8 rfl rfl)
theorem dX13_init_9 : decode cX13_init 9 = .ok (.iload_n 1, 1) := dk_27 (dk_at dksX13_init_0 9 rfl rfl)
theorem dX13_init_10 : decode cX13_init 10 = .ok (.putfield 7, 3) := dk_181 0 7 (dk_at dksX13_init_0 10 rfl rfl)
theorem dX13_init_13 : decode cX13_init 13 = .ok (.return_, 1) := dk_177 (dk_at dksX13_init_0 13 rfl rfl)
theorem q122 : (Jvm.Cond.initialized "TrackArray$SetupError") ∈ lw_all := lw_g (lw_at lw_m1 40 rfl) rfl
theorem q951 : (Jvm.Cond.instanceMethod ({ cls := "TrackArray$SetupError", name := "<init>", desc := "(I)V" } : Jvm.MethodName)) ∈ lw_all := lw_g (lw_at lw_m4 149 rfl) rfl
theorem q952 : (Jvm.Cond.code ({ cls := "TrackArray$SetupError", name := "<init>", desc := "(I)V" } : Jvm.MethodName) prog_15_method_1_code (2 : Nat) (Option.none : Option Jvm.ClassFile.FieldType)) ∈ lw_all := lw_g (lw_at lw_m4 150 rfl) rfl
theorem q953 : (Jvm.Cond.methodLink "TrackArray$SetupError" (1 : Nat) ({ cls := "java/lang/Exception", name := "<init>", desc := "(Ljava/lang/String;Ljava/lang/Throwable;ZZ)V" } : Jvm.MethodName)) ∈ lw_all := lw_g (lw_at lw_m4 151 rfl) rfl
theorem q959 : (Jvm.Cond.fieldLink "TrackArray$SetupError" (7 : Nat) "TrackArray$SetupError" "position" "I") ∈ lw_all := lw_g (lw_at lw_m4 157 rfl) rfl
theorem q962 : (Jvm.Cond.soleField "TrackArray$SetupError" "position") ∈ lw_all := lw_g (lw_at lw_m4 160 rfl) rfl
theorem q1191 : (Jvm.Cond.declares ({ cls := "TrackArray$SetupError", name := "code", desc := "()I" } : Jvm.MethodName)) ∈ lw_tbl := lw_at lw_m5 149 rfl
theorem q1192 : (Jvm.Cond.sameMethod "TrackArray$SetupError" "TrackArray$SetupError" "code" "()I") ∈ lw_all := lw_g (lw_at lw_m5 150 rfl) rfl
/-! TrackArray$TooMany -/
set_option maxRecDepth 100000
def RX14 : String := "TrackArray$TooMany"
def TX14 : u_T := fun k => match k with
  | 0 => ("TrackArray$SetupError", "position", "I", true)
  | 1 => ("java/lang/Throwable", "cause", "Ljava/lang/Throwable;", false)
  | 2 => ("java/lang/Throwable", "stackTrace", "[Ljava/lang/StackTraceElement;", false)
  | 3 => ("java/lang/Throwable", "suppressedExceptions", "Ljava/util/List;", false)
  | 4 => ("java/lang/Throwable", "detailMessage", "Ljava/lang/String;", false)
  | 5 => ("java/lang/Throwable", "backtrace", "Ljava/lang/Object;", false)
  | _ => ("java/lang/Throwable", "depth", "I", false)
def tyX14 : Nat → FieldType := fun k => match k with
  | 0 => .int
  | 1 => .object "java/lang/Throwable"
  | 2 => .array (.object "java/lang/StackTraceElement")
  | 3 => .object "java/util/List"
  | 4 => .object "java/lang/String"
  | 5 => .object "java/lang/Object"
  | _ => .int
abbrev wsX140 : List Cond := u_ws RX14 TX14 7
theorem nmX14 : ∀ a, a < 7 → ∀ b, b < 7 → a ≠ b → (TX14 a).2.1 ≠ (TX14 b).2.1 := by decide +kernel
theorem tyX14_ok : ∀ k, k < 7 → parseFieldDescriptor (TX14 k).2.2.1 = some (tyX14 k) := by decide +kernel
abbrev cX14_init : ByteArray := prog_18_method_1_code
def yX14_init : MethodName := ⟨RX14, "<init>", "(I)V"⟩
def dkwX14_init_0 : List UInt8 := [42, 27, 183, 0, 1, 177]
abbrev dktX14_init_0 : List UInt8 := dkwX14_init_0 ++ []
theorem dksX14_init_0 : cX14_init.data.toList.drop 0 = dktX14_init_0 := by decide +kernel
theorem dX14_init_0 : decode cX14_init 0 = .ok (.aload_n 0, 1) := dk_42 (dk_at dksX14_init_0 0 rfl rfl)
theorem dX14_init_1 : decode cX14_init 1 = .ok (.iload_n 1, 1) := dk_27 (dk_at dksX14_init_0 1 rfl rfl)
theorem dX14_init_2 : decode cX14_init 2 = .ok (.invokespecial 1, 3) := dk_183 0 1 (dk_at dksX14_init_0 2 rfl rfl)
theorem dX14_init_5 : decode cX14_init 5 = .ok (.return_, 1) := dk_177 (dk_at dksX14_init_0 5 rfl rfl)
abbrev cX14_code : ByteArray := prog_18_method_2_code
def yX14_code : MethodName := ⟨RX14, "code", "()I"⟩
theorem dX14_code_0 : decode cX14_code 0 = .ok (.iconst 3, 1) := by decide +kernel
theorem dX14_code_1 : decode cX14_code 1 = .ok (.ireturn, 1) := by decide +kernel
theorem q123 : (Jvm.Cond.initialized "TrackArray$TooMany") ∈ lw_all := lw_g (lw_at lw_m1 41 rfl) rfl
theorem q189 : (Jvm.Cond.selects "TrackArray$TooMany" ({ cls := "java/lang/Throwable", name := "fillInStackTrace", desc := "()Ljava/lang/Throwable;" } : Jvm.MethodName) ({ cls := "java/lang/Throwable", name := "fillInStackTrace", desc := "()Ljava/lang/Throwable;" } : Jvm.MethodName)) ∈ lw_all := lw_g (lw_at lw_m1 107 rfl) rfl
theorem q939 : (Jvm.Cond.instantiable "TrackArray$TooMany" (7 : Nat)) ∈ lw_all := lw_g (lw_at lw_m4 137 rfl) rfl
theorem q940 : (Jvm.Cond.castable "TrackArray$TooMany" "TrackArray$TooMany") ∈ lw_tbl := lw_at lw_m4 138 rfl
theorem q941 : (Jvm.Cond.selects "TrackArray$TooMany" ({ cls := "java/lang/Throwable", name := "fillInStackTrace", desc := "(I)Ljava/lang/Throwable;" } : Jvm.MethodName) ({ cls := "java/lang/Throwable", name := "fillInStackTrace", desc := "(I)Ljava/lang/Throwable;" } : Jvm.MethodName)) ∈ lw_all := lw_g (lw_at lw_m4 139 rfl) rfl
theorem q942 : (Jvm.Cond.lays "TrackArray$TooMany" "java/lang/Throwable" "cause" "Ljava/lang/Throwable;") ∈ lw_all := lw_g (lw_at lw_m4 140 rfl) rfl
theorem q943 : (Jvm.Cond.lays "TrackArray$TooMany" "java/lang/Throwable" "stackTrace" "[Ljava/lang/StackTraceElement;") ∈ lw_all := lw_g (lw_at lw_m4 141 rfl) rfl
theorem q944 : (Jvm.Cond.lays "TrackArray$TooMany" "java/lang/Throwable" "suppressedExceptions" "Ljava/util/List;") ∈ lw_all := lw_g (lw_at lw_m4 142 rfl) rfl
theorem q945 : (Jvm.Cond.lays "TrackArray$TooMany" "java/lang/Throwable" "detailMessage" "Ljava/lang/String;") ∈ lw_all := lw_g (lw_at lw_m4 143 rfl) rfl
theorem q946 : (Jvm.Cond.lays "TrackArray$TooMany" "java/lang/Throwable" "backtrace" "Ljava/lang/Object;") ∈ lw_all := lw_g (lw_at lw_m4 144 rfl) rfl
theorem q948 : (Jvm.Cond.instanceMethod ({ cls := "TrackArray$TooMany", name := "<init>", desc := "(I)V" } : Jvm.MethodName)) ∈ lw_all := lw_g (lw_at lw_m4 146 rfl) rfl
theorem q949 : (Jvm.Cond.code ({ cls := "TrackArray$TooMany", name := "<init>", desc := "(I)V" } : Jvm.MethodName) prog_18_method_1_code (2 : Nat) (Option.none : Option Jvm.ClassFile.FieldType)) ∈ lw_all := lw_g (lw_at lw_m4 147 rfl) rfl
theorem q950 : (Jvm.Cond.methodLink "TrackArray$TooMany" (1 : Nat) ({ cls := "TrackArray$SetupError", name := "<init>", desc := "(I)V" } : Jvm.MethodName)) ∈ lw_all := lw_g (lw_at lw_m4 148 rfl) rfl
theorem q961 : (Jvm.Cond.laysFinal "TrackArray$TooMany" "TrackArray$SetupError" "position" "I") ∈ lw_all := lw_g (lw_at lw_m4 159 rfl) rfl
theorem q963 : (Jvm.Cond.lays "TrackArray$TooMany" "java/lang/Throwable" "depth" "I") ∈ lw_all := lw_g (lw_at lw_m4 161 rfl) rfl
theorem q964 : (Jvm.Cond.superclass "TrackArray$TooMany" "TrackArray$SetupError") ∈ lw_all := lw_g (lw_at lw_m4 162 rfl) rfl
theorem q1082 : (Jvm.Cond.selects "TrackArray$TooMany" ({ cls := "java/lang/Object", name := "getClass", desc := "()Ljava/lang/Class;" } : Jvm.MethodName) ({ cls := "java/lang/Object", name := "getClass", desc := "()Ljava/lang/Class;" } : Jvm.MethodName)) ∈ lw_all := lw_g (lw_at lw_m5 40 rfl) rfl
theorem q1193 : (Jvm.Cond.selects "TrackArray$TooMany" ({ cls := "TrackArray$SetupError", name := "code", desc := "()I" } : Jvm.MethodName) ({ cls := "TrackArray$TooMany", name := "code", desc := "()I" } : Jvm.MethodName)) ∈ lw_all := lw_g (lw_at lw_m5 151 rfl) rfl
theorem q1194 : (Jvm.Cond.instanceMethod ({ cls := "TrackArray$TooMany", name := "code", desc := "()I" } : Jvm.MethodName)) ∈ lw_all := lw_g (lw_at lw_m5 152 rfl) rfl
theorem q1195 : (Jvm.Cond.code ({ cls := "TrackArray$TooMany", name := "code", desc := "()I" } : Jvm.MethodName) prog_18_method_2_code (1 : Nat) (Option.some Jvm.ClassFile.FieldType.int)) ∈ lw_all := lw_g (lw_at lw_m5 153 rfl) rfl
theorem q2450 : (Jvm.Cond.castable "TrackArray$TooMany" "java/lang/Object") ∈ lw_tbl := lw_at lw_m10 208 rfl
theorem in_X14 : ∀ w ∈ wsX140, w ∈ lw_all := lw_in wsX140 [961, 942, 943, 944, 945, 946, 963] (by decide +kernel) (by decide +kernel)
/-! TrackArray$WrongToken -/
set_option maxRecDepth 100000
def RX15 : String := "TrackArray$WrongToken"
def TX15 : u_T := fun k => match k with
  | 0 => ("TrackArray$SetupError", "position", "I", true)
  | 1 => ("java/lang/Throwable", "cause", "Ljava/lang/Throwable;", false)
  | 2 => ("java/lang/Throwable", "stackTrace", "[Ljava/lang/StackTraceElement;", false)
  | 3 => ("java/lang/Throwable", "suppressedExceptions", "Ljava/util/List;", false)
  | 4 => ("java/lang/Throwable", "detailMessage", "Ljava/lang/String;", false)
  | 5 => ("java/lang/Throwable", "backtrace", "Ljava/lang/Object;", false)
  | _ => ("java/lang/Throwable", "depth", "I", false)
def tyX15 : Nat → FieldType := fun k => match k with
  | 0 => .int
  | 1 => .object "java/lang/Throwable"
  | 2 => .array (.object "java/lang/StackTraceElement")
  | 3 => .object "java/util/List"
  | 4 => .object "java/lang/String"
  | 5 => .object "java/lang/Object"
  | _ => .int
abbrev wsX150 : List Cond := u_ws RX15 TX15 7
theorem nmX15 : ∀ a, a < 7 → ∀ b, b < 7 → a ≠ b → (TX15 a).2.1 ≠ (TX15 b).2.1 := by decide +kernel
theorem tyX15_ok : ∀ k, k < 7 → parseFieldDescriptor (TX15 k).2.2.1 = some (tyX15 k) := by decide +kernel
abbrev cX15_init : ByteArray := prog_23_method_1_code
def yX15_init : MethodName := ⟨RX15, "<init>", "(I)V"⟩
def dkwX15_init_0 : List UInt8 := [42, 27, 183, 0, 1, 177]
abbrev dktX15_init_0 : List UInt8 := dkwX15_init_0 ++ []
theorem dksX15_init_0 : cX15_init.data.toList.drop 0 = dktX15_init_0 := by decide +kernel
theorem dX15_init_0 : decode cX15_init 0 = .ok (.aload_n 0, 1) := dk_42 (dk_at dksX15_init_0 0 rfl rfl)
theorem dX15_init_1 : decode cX15_init 1 = .ok (.iload_n 1, 1) := dk_27 (dk_at dksX15_init_0 1 rfl rfl)
theorem dX15_init_2 : decode cX15_init 2 = .ok (.invokespecial 1, 3) := dk_183 0 1 (dk_at dksX15_init_0 2 rfl rfl)
theorem dX15_init_5 : decode cX15_init 5 = .ok (.return_, 1) := dk_177 (dk_at dksX15_init_0 5 rfl rfl)
abbrev cX15_code : ByteArray := prog_23_method_2_code
def yX15_code : MethodName := ⟨RX15, "code", "()I"⟩
theorem dX15_code_0 : decode cX15_code 0 = .ok (.iconst 1, 1) := by decide +kernel
theorem dX15_code_1 : decode cX15_code 1 = .ok (.ireturn, 1) := by decide +kernel
theorem q124 : (Jvm.Cond.initialized "TrackArray$WrongToken") ∈ lw_all := lw_g (lw_at lw_m1 42 rfl) rfl
theorem q191 : (Jvm.Cond.selects "TrackArray$WrongToken" ({ cls := "java/lang/Throwable", name := "fillInStackTrace", desc := "()Ljava/lang/Throwable;" } : Jvm.MethodName) ({ cls := "java/lang/Throwable", name := "fillInStackTrace", desc := "()Ljava/lang/Throwable;" } : Jvm.MethodName)) ∈ lw_all := lw_g (lw_at lw_m1 109 rfl) rfl
theorem q979 : (Jvm.Cond.instantiable "TrackArray$WrongToken" (7 : Nat)) ∈ lw_all := lw_g (lw_at lw_m4 177 rfl) rfl
theorem q980 : (Jvm.Cond.castable "TrackArray$WrongToken" "TrackArray$WrongToken") ∈ lw_tbl := lw_at lw_m4 178 rfl
theorem q981 : (Jvm.Cond.selects "TrackArray$WrongToken" ({ cls := "java/lang/Throwable", name := "fillInStackTrace", desc := "(I)Ljava/lang/Throwable;" } : Jvm.MethodName) ({ cls := "java/lang/Throwable", name := "fillInStackTrace", desc := "(I)Ljava/lang/Throwable;" } : Jvm.MethodName)) ∈ lw_all := lw_g (lw_at lw_m4 179 rfl) rfl
theorem q982 : (Jvm.Cond.lays "TrackArray$WrongToken" "java/lang/Throwable" "cause" "Ljava/lang/Throwable;") ∈ lw_all := lw_g (lw_at lw_m4 180 rfl) rfl
theorem q983 : (Jvm.Cond.lays "TrackArray$WrongToken" "java/lang/Throwable" "stackTrace" "[Ljava/lang/StackTraceElement;") ∈ lw_all := lw_g (lw_at lw_m4 181 rfl) rfl
theorem q984 : (Jvm.Cond.lays "TrackArray$WrongToken" "java/lang/Throwable" "suppressedExceptions" "Ljava/util/List;") ∈ lw_all := lw_g (lw_at lw_m4 182 rfl) rfl
theorem q985 : (Jvm.Cond.lays "TrackArray$WrongToken" "java/lang/Throwable" "detailMessage" "Ljava/lang/String;") ∈ lw_all := lw_g (lw_at lw_m4 183 rfl) rfl
theorem q986 : (Jvm.Cond.lays "TrackArray$WrongToken" "java/lang/Throwable" "backtrace" "Ljava/lang/Object;") ∈ lw_all := lw_g (lw_at lw_m4 184 rfl) rfl
theorem q988 : (Jvm.Cond.instanceMethod ({ cls := "TrackArray$WrongToken", name := "<init>", desc := "(I)V" } : Jvm.MethodName)) ∈ lw_all := lw_g (lw_at lw_m4 186 rfl) rfl
theorem q989 : (Jvm.Cond.code ({ cls := "TrackArray$WrongToken", name := "<init>", desc := "(I)V" } : Jvm.MethodName) prog_23_method_1_code (2 : Nat) (Option.none : Option Jvm.ClassFile.FieldType)) ∈ lw_all := lw_g (lw_at lw_m4 187 rfl) rfl
theorem q990 : (Jvm.Cond.methodLink "TrackArray$WrongToken" (1 : Nat) ({ cls := "TrackArray$SetupError", name := "<init>", desc := "(I)V" } : Jvm.MethodName)) ∈ lw_all := lw_g (lw_at lw_m4 188 rfl) rfl
theorem q991 : (Jvm.Cond.laysFinal "TrackArray$WrongToken" "TrackArray$SetupError" "position" "I") ∈ lw_all := lw_g (lw_at lw_m4 189 rfl) rfl
theorem q992 : (Jvm.Cond.lays "TrackArray$WrongToken" "java/lang/Throwable" "depth" "I") ∈ lw_all := lw_g (lw_at lw_m4 190 rfl) rfl
theorem q993 : (Jvm.Cond.superclass "TrackArray$WrongToken" "TrackArray$SetupError") ∈ lw_all := lw_g (lw_at lw_m4 191 rfl) rfl
theorem q1086 : (Jvm.Cond.selects "TrackArray$WrongToken" ({ cls := "java/lang/Object", name := "getClass", desc := "()Ljava/lang/Class;" } : Jvm.MethodName) ({ cls := "java/lang/Object", name := "getClass", desc := "()Ljava/lang/Class;" } : Jvm.MethodName)) ∈ lw_all := lw_g (lw_at lw_m5 44 rfl) rfl
theorem q1199 : (Jvm.Cond.selects "TrackArray$WrongToken" ({ cls := "TrackArray$SetupError", name := "code", desc := "()I" } : Jvm.MethodName) ({ cls := "TrackArray$WrongToken", name := "code", desc := "()I" } : Jvm.MethodName)) ∈ lw_all := lw_g (lw_at lw_m5 157 rfl) rfl
theorem q1200 : (Jvm.Cond.instanceMethod ({ cls := "TrackArray$WrongToken", name := "code", desc := "()I" } : Jvm.MethodName)) ∈ lw_all := lw_g (lw_at lw_m5 158 rfl) rfl
theorem q1201 : (Jvm.Cond.code ({ cls := "TrackArray$WrongToken", name := "code", desc := "()I" } : Jvm.MethodName) prog_23_method_2_code (1 : Nat) (Option.some Jvm.ClassFile.FieldType.int)) ∈ lw_all := lw_g (lw_at lw_m5 159 rfl) rfl
theorem q2451 : (Jvm.Cond.castable "TrackArray$WrongToken" "java/lang/Object") ∈ lw_tbl := lw_at lw_m10 209 rfl
theorem in_X15 : ∀ w ∈ wsX150, w ∈ lw_all := lw_in wsX150 [991, 982, 983, 984, 985, 986, 992] (by decide +kernel) (by decide +kernel)
/-! TrackArray$WrongNumber -/
set_option maxRecDepth 100000
def RX16 : String := "TrackArray$WrongNumber"
def TX16 : u_T := fun k => match k with
  | 0 => ("TrackArray$SetupError", "position", "I", true)
  | 1 => ("java/lang/Throwable", "cause", "Ljava/lang/Throwable;", false)
  | 2 => ("java/lang/Throwable", "stackTrace", "[Ljava/lang/StackTraceElement;", false)
  | 3 => ("java/lang/Throwable", "suppressedExceptions", "Ljava/util/List;", false)
  | 4 => ("java/lang/Throwable", "detailMessage", "Ljava/lang/String;", false)
  | 5 => ("java/lang/Throwable", "backtrace", "Ljava/lang/Object;", false)
  | _ => ("java/lang/Throwable", "depth", "I", false)
def tyX16 : Nat → FieldType := fun k => match k with
  | 0 => .int
  | 1 => .object "java/lang/Throwable"
  | 2 => .array (.object "java/lang/StackTraceElement")
  | 3 => .object "java/util/List"
  | 4 => .object "java/lang/String"
  | 5 => .object "java/lang/Object"
  | _ => .int
abbrev wsX160 : List Cond := u_ws RX16 TX16 7
theorem nmX16 : ∀ a, a < 7 → ∀ b, b < 7 → a ≠ b → (TX16 a).2.1 ≠ (TX16 b).2.1 := by decide +kernel
theorem tyX16_ok : ∀ k, k < 7 → parseFieldDescriptor (TX16 k).2.2.1 = some (tyX16 k) := by decide +kernel
abbrev cX16_init : ByteArray := prog_22_method_1_code
def yX16_init : MethodName := ⟨RX16, "<init>", "(I)V"⟩
def dkwX16_init_0 : List UInt8 := [42, 27, 183, 0, 1, 177]
abbrev dktX16_init_0 : List UInt8 := dkwX16_init_0 ++ []
theorem dksX16_init_0 : cX16_init.data.toList.drop 0 = dktX16_init_0 := by decide +kernel
theorem dX16_init_0 : decode cX16_init 0 = .ok (.aload_n 0, 1) := dk_42 (dk_at dksX16_init_0 0 rfl rfl)
theorem dX16_init_1 : decode cX16_init 1 = .ok (.iload_n 1, 1) := dk_27 (dk_at dksX16_init_0 1 rfl rfl)
theorem dX16_init_2 : decode cX16_init 2 = .ok (.invokespecial 1, 3) := dk_183 0 1 (dk_at dksX16_init_0 2 rfl rfl)
theorem dX16_init_5 : decode cX16_init 5 = .ok (.return_, 1) := dk_177 (dk_at dksX16_init_0 5 rfl rfl)
abbrev cX16_code : ByteArray := prog_22_method_2_code
def yX16_code : MethodName := ⟨RX16, "code", "()I"⟩
theorem dX16_code_0 : decode cX16_code 0 = .ok (.iconst 2, 1) := by decide +kernel
theorem dX16_code_1 : decode cX16_code 1 = .ok (.ireturn, 1) := by decide +kernel
theorem q125 : (Jvm.Cond.initialized "TrackArray$WrongNumber") ∈ lw_all := lw_g (lw_at lw_m1 43 rfl) rfl
theorem q190 : (Jvm.Cond.selects "TrackArray$WrongNumber" ({ cls := "java/lang/Throwable", name := "fillInStackTrace", desc := "()Ljava/lang/Throwable;" } : Jvm.MethodName) ({ cls := "java/lang/Throwable", name := "fillInStackTrace", desc := "()Ljava/lang/Throwable;" } : Jvm.MethodName)) ∈ lw_all := lw_g (lw_at lw_m1 108 rfl) rfl
theorem q995 : (Jvm.Cond.instantiable "TrackArray$WrongNumber" (7 : Nat)) ∈ lw_all := lw_g (lw_at lw_m4 193 rfl) rfl
theorem q996 : (Jvm.Cond.castable "TrackArray$WrongNumber" "TrackArray$WrongNumber") ∈ lw_tbl := lw_at lw_m4 194 rfl
theorem q997 : (Jvm.Cond.selects "TrackArray$WrongNumber" ({ cls := "java/lang/Throwable", name := "fillInStackTrace", desc := "(I)Ljava/lang/Throwable;" } : Jvm.MethodName) ({ cls := "java/lang/Throwable", name := "fillInStackTrace", desc := "(I)Ljava/lang/Throwable;" } : Jvm.MethodName)) ∈ lw_all := lw_g (lw_at lw_m4 195 rfl) rfl
theorem q998 : (Jvm.Cond.lays "TrackArray$WrongNumber" "java/lang/Throwable" "cause" "Ljava/lang/Throwable;") ∈ lw_all := lw_g (lw_at lw_m4 196 rfl) rfl
theorem q999 : (Jvm.Cond.lays "TrackArray$WrongNumber" "java/lang/Throwable" "stackTrace" "[Ljava/lang/StackTraceElement;") ∈ lw_all := lw_g (lw_at lw_m4 197 rfl) rfl
theorem q1000 : (Jvm.Cond.lays "TrackArray$WrongNumber" "java/lang/Throwable" "suppressedExceptions" "Ljava/util/List;") ∈ lw_all := lw_g (lw_at lw_m4 198 rfl) rfl
theorem q1001 : (Jvm.Cond.lays "TrackArray$WrongNumber" "java/lang/Throwable" "detailMessage" "Ljava/lang/String;") ∈ lw_all := lw_g (lw_at lw_m4 199 rfl) rfl
theorem q1002 : (Jvm.Cond.lays "TrackArray$WrongNumber" "java/lang/Throwable" "backtrace" "Ljava/lang/Object;") ∈ lw_all := lw_g (lw_at lw_m4 200 rfl) rfl
theorem q1004 : (Jvm.Cond.instanceMethod ({ cls := "TrackArray$WrongNumber", name := "<init>", desc := "(I)V" } : Jvm.MethodName)) ∈ lw_all := lw_g (lw_at lw_m4 202 rfl) rfl
theorem q1005 : (Jvm.Cond.code ({ cls := "TrackArray$WrongNumber", name := "<init>", desc := "(I)V" } : Jvm.MethodName) prog_22_method_1_code (2 : Nat) (Option.none : Option Jvm.ClassFile.FieldType)) ∈ lw_all := lw_g (lw_at lw_m4 203 rfl) rfl
theorem q1006 : (Jvm.Cond.methodLink "TrackArray$WrongNumber" (1 : Nat) ({ cls := "TrackArray$SetupError", name := "<init>", desc := "(I)V" } : Jvm.MethodName)) ∈ lw_all := lw_g (lw_at lw_m4 204 rfl) rfl
theorem q1007 : (Jvm.Cond.laysFinal "TrackArray$WrongNumber" "TrackArray$SetupError" "position" "I") ∈ lw_all := lw_g (lw_at lw_m4 205 rfl) rfl
theorem q1008 : (Jvm.Cond.lays "TrackArray$WrongNumber" "java/lang/Throwable" "depth" "I") ∈ lw_all := lw_g (lw_at lw_m4 206 rfl) rfl
theorem q1009 : (Jvm.Cond.superclass "TrackArray$WrongNumber" "TrackArray$SetupError") ∈ lw_all := lw_g (lw_at lw_m4 207 rfl) rfl
theorem q1085 : (Jvm.Cond.selects "TrackArray$WrongNumber" ({ cls := "java/lang/Object", name := "getClass", desc := "()Ljava/lang/Class;" } : Jvm.MethodName) ({ cls := "java/lang/Object", name := "getClass", desc := "()Ljava/lang/Class;" } : Jvm.MethodName)) ∈ lw_all := lw_g (lw_at lw_m5 43 rfl) rfl
theorem q1196 : (Jvm.Cond.selects "TrackArray$WrongNumber" ({ cls := "TrackArray$SetupError", name := "code", desc := "()I" } : Jvm.MethodName) ({ cls := "TrackArray$WrongNumber", name := "code", desc := "()I" } : Jvm.MethodName)) ∈ lw_all := lw_g (lw_at lw_m5 154 rfl) rfl
theorem q1197 : (Jvm.Cond.instanceMethod ({ cls := "TrackArray$WrongNumber", name := "code", desc := "()I" } : Jvm.MethodName)) ∈ lw_all := lw_g (lw_at lw_m5 155 rfl) rfl
theorem q1198 : (Jvm.Cond.code ({ cls := "TrackArray$WrongNumber", name := "code", desc := "()I" } : Jvm.MethodName) prog_22_method_2_code (1 : Nat) (Option.some Jvm.ClassFile.FieldType.int)) ∈ lw_all := lw_g (lw_at lw_m5 156 rfl) rfl
theorem q2452 : (Jvm.Cond.castable "TrackArray$WrongNumber" "java/lang/Object") ∈ lw_tbl := lw_at lw_m10 210 rfl
theorem in_X16 : ∀ w ∈ wsX160, w ∈ lw_all := lw_in wsX160 [1007, 998, 999, 1000, 1001, 1002, 1008] (by decide +kernel) (by decide +kernel)
/-! TrackArray$Measure$1 -/
set_option maxRecDepth 100000
def RX17 : String := "TrackArray$Measure$1"
abbrev cX17_of : ByteArray := prog_6_method_2_code
def yX17_of : MethodName := ⟨RX17, "of", "(LTrackArray$Signal;II)J"⟩
def dkwX17_of_1 : List UInt8 := [21, 6, 185, 0, 7, 2, 0, 105, 97, 55, 4, 132, 6, 1, 167, 255, 225, 22, 4, 173]
abbrev dktX17_of_1 : List UInt8 := dkwX17_of_1 ++ []
def dkwX17_of_0 : List UInt8 := [9, 55, 4, 28, 54, 6, 21, 6, 29, 163, 0, 31, 22, 4, 43, 21, 6, 185, 0, 7, 2, 0, 43]
abbrev dktX17_of_0 : List UInt8 := dkwX17_of_0 ++ dktX17_of_1
theorem dksX17_of_0 : cX17_of.data.toList.drop 0 = dktX17_of_0 := by decide +kernel
theorem dksX17_of_1 : cX17_of.data.toList.drop 23 = dktX17_of_1 := dk_seg dksX17_of_0 23 rfl rfl
theorem dX17_of_0 : decode cX17_of 0 = .ok (.lconst 0, 1) := dk_9 (dk_at dksX17_of_0 0 rfl rfl)
theorem dX17_of_1 : decode cX17_of 1 = .ok (.lstore 4, 2) := dk_55 4 (dk_at dksX17_of_0 1 rfl rfl)
theorem dX17_of_3 : decode cX17_of 3 = .ok (.iload_n 2, 1) := dk_28 (dk_at dksX17_of_0 3 rfl rfl)
theorem dX17_of_4 : decode cX17_of 4 = .ok (.istore 6, 2) := dk_54 6 (dk_at dksX17_of_0 4 rfl rfl)
theorem dX17_of_6 : decode cX17_of 6 = .ok (.iload 6, 2) := dk_21 6 (dk_at dksX17_of_0 6 rfl rfl)
theorem dX17_of_8 : decode cX17_of 8 = .ok (.iload_n 3, 1) := dk_29 (dk_at dksX17_of_0 8 rfl rfl)
theorem dX17_of_9 : decode cX17_of 9 = .ok (.if_icmp .gt 31, 3) := dk_163 0 31 (dk_at dksX17_of_0 9 rfl rfl)
theorem dX17_of_12 : decode cX17_of 12 = .ok (.lload 4, 2) := dk_22 4 (dk_at dksX17_of_0 12 rfl rfl)
theorem dX17_of_14 : decode cX17_of 14 = .ok (.aload_n 1, 1) := dk_43 (dk_at dksX17_of_0 14 rfl rfl)
theorem dX17_of_15 : decode cX17_of 15 = .ok (.iload 6, 2) := dk_21 6 (dk_at dksX17_of_0 15 rfl rfl)
theorem dX17_of_17 : decode cX17_of 17 = .ok (.invokeinterface 7 2, 5) := by decide +kernel
theorem dX17_of_22 : decode cX17_of 22 = .ok (.aload_n 1, 1) := dk_43 (dk_at dksX17_of_0 22 rfl rfl)
theorem dX17_of_23 : decode cX17_of 23 = .ok (.iload 6, 2) := dk_21 6 (dk_at dksX17_of_1 0 rfl rfl)
theorem dX17_of_25 : decode cX17_of 25 = .ok (.invokeinterface 7 2, 5) := by decide +kernel
theorem dX17_of_30 : decode cX17_of 30 = .ok (.lmul, 1) := dk_105 (dk_at dksX17_of_1 7 rfl rfl)
theorem dX17_of_31 : decode cX17_of 31 = .ok (.ladd, 1) := dk_97 (dk_at dksX17_of_1 8 rfl rfl)
theorem dX17_of_32 : decode cX17_of 32 = .ok (.lstore 4, 2) := dk_55 4 (dk_at dksX17_of_1 9 rfl rfl)
theorem dX17_of_34 : decode cX17_of 34 = .ok (.iinc 6 1, 3) := dk_132 6 1 (dk_at dksX17_of_1 11 rfl rfl)
theorem dX17_of_37 : decode cX17_of 37 = .ok (.goto (-31), 3) := dk_167 255 225 (dk_at dksX17_of_1 14 rfl rfl)
theorem dX17_of_40 : decode cX17_of 40 = .ok (.lload 4, 2) := dk_22 4 (dk_at dksX17_of_1 17 rfl rfl)
theorem dX17_of_42 : decode cX17_of 42 = .ok (.lreturn, 1) := dk_173 (dk_at dksX17_of_1 19 rfl rfl)
theorem q1073 : (Jvm.Cond.selects "TrackArray$Measure$1" ({ cls := "java/lang/Object", name := "getClass", desc := "()Ljava/lang/Class;" } : Jvm.MethodName) ({ cls := "java/lang/Object", name := "getClass", desc := "()Ljava/lang/Class;" } : Jvm.MethodName)) ∈ lw_all := lw_g (lw_at lw_m5 31 rfl) rfl
theorem q1477 : (Jvm.Cond.selects "TrackArray$Measure$1" ({ cls := "TrackArray$Measure", name := "of", desc := "(LTrackArray$Signal;II)J" } : Jvm.MethodName) ({ cls := "TrackArray$Measure$1", name := "of", desc := "(LTrackArray$Signal;II)J" } : Jvm.MethodName)) ∈ lw_all := lw_g (lw_at lw_m6 195 rfl) rfl
theorem q1478 : (Jvm.Cond.instanceMethod ({ cls := "TrackArray$Measure$1", name := "of", desc := "(LTrackArray$Signal;II)J" } : Jvm.MethodName)) ∈ lw_all := lw_g (lw_at lw_m6 196 rfl) rfl
theorem q1479 : (Jvm.Cond.code ({ cls := "TrackArray$Measure$1", name := "of", desc := "(LTrackArray$Signal;II)J" } : Jvm.MethodName) prog_6_method_2_code (7 : Nat) (Option.some Jvm.ClassFile.FieldType.long)) ∈ lw_all := lw_g (lw_at lw_m6 197 rfl) rfl
theorem q1480 : (Jvm.Cond.interfaceEntry "TrackArray$Measure$1" (7 : Nat)) ∈ lw_tbl := lw_at lw_m6 198 rfl
theorem q1481 : (Jvm.Cond.methodLink "TrackArray$Measure$1" (7 : Nat) ({ cls := "TrackArray$Signal", name := "at", desc := "(I)J" } : Jvm.MethodName)) ∈ lw_all := lw_g (lw_at lw_m6 199 rfl) rfl
theorem q2442 : (Jvm.Cond.castable "TrackArray$Measure$1" "java/lang/Object") ∈ lw_tbl := lw_at lw_m10 200 rfl
theorem q2454 : (Jvm.Cond.castable "TrackArray$Measure$1" "TrackArray$Measure") ∈ lw_tbl := lw_at lw_m10 212 rfl
/-! TrackArray$Measure$2 -/
set_option maxRecDepth 100000
def RX18 : String := "TrackArray$Measure$2"
abbrev cX18_of : ByteArray := prog_7_method_2_code
def yX18_of : MethodName := ⟨RX18, "of", "(LTrackArray$Signal;II)J"⟩
def dkwX18_of_1 : List UInt8 := [184, 0, 13, 184, 0, 19, 55, 4, 132, 6, 1, 167, 255, 229, 22, 4, 173]
abbrev dktX18_of_1 : List UInt8 := dkwX18_of_1 ++ []
def dkwX18_of_0 : List UInt8 := [9, 55, 4, 28, 54, 6, 21, 6, 29, 163, 0, 27, 22, 4, 43, 21, 6, 185, 0, 7, 2, 0]
abbrev dktX18_of_0 : List UInt8 := dkwX18_of_0 ++ dktX18_of_1
theorem dksX18_of_0 : cX18_of.data.toList.drop 0 = dktX18_of_0 := by decide +kernel
theorem dksX18_of_1 : cX18_of.data.toList.drop 22 = dktX18_of_1 := dk_seg dksX18_of_0 22 rfl rfl
theorem dX18_of_0 : decode cX18_of 0 = .ok (.lconst 0, 1) := dk_9 (dk_at dksX18_of_0 0 rfl rfl)
theorem dX18_of_1 : decode cX18_of 1 = .ok (.lstore 4, 2) := dk_55 4 (dk_at dksX18_of_0 1 rfl rfl)
theorem dX18_of_3 : decode cX18_of 3 = .ok (.iload_n 2, 1) := dk_28 (dk_at dksX18_of_0 3 rfl rfl)
theorem dX18_of_4 : decode cX18_of 4 = .ok (.istore 6, 2) := dk_54 6 (dk_at dksX18_of_0 4 rfl rfl)
theorem dX18_of_6 : decode cX18_of 6 = .ok (.iload 6, 2) := dk_21 6 (dk_at dksX18_of_0 6 rfl rfl)
theorem dX18_of_8 : decode cX18_of 8 = .ok (.iload_n 3, 1) := dk_29 (dk_at dksX18_of_0 8 rfl rfl)
theorem dX18_of_9 : decode cX18_of 9 = .ok (.if_icmp .gt 27, 3) := dk_163 0 27 (dk_at dksX18_of_0 9 rfl rfl)
theorem dX18_of_12 : decode cX18_of 12 = .ok (.lload 4, 2) := dk_22 4 (dk_at dksX18_of_0 12 rfl rfl)
theorem dX18_of_14 : decode cX18_of 14 = .ok (.aload_n 1, 1) := dk_43 (dk_at dksX18_of_0 14 rfl rfl)
theorem dX18_of_15 : decode cX18_of 15 = .ok (.iload 6, 2) := dk_21 6 (dk_at dksX18_of_0 15 rfl rfl)
theorem dX18_of_17 : decode cX18_of 17 = .ok (.invokeinterface 7 2, 5) := by decide +kernel
theorem dX18_of_22 : decode cX18_of 22 = .ok (.invokestatic 13, 3) := dk_184 0 13 (dk_at dksX18_of_1 0 rfl rfl)
theorem dX18_of_25 : decode cX18_of 25 = .ok (.invokestatic 19, 3) := dk_184 0 19 (dk_at dksX18_of_1 3 rfl rfl)
theorem dX18_of_28 : decode cX18_of 28 = .ok (.lstore 4, 2) := dk_55 4 (dk_at dksX18_of_1 6 rfl rfl)
theorem dX18_of_30 : decode cX18_of 30 = .ok (.iinc 6 1, 3) := dk_132 6 1 (dk_at dksX18_of_1 8 rfl rfl)
theorem dX18_of_33 : decode cX18_of 33 = .ok (.goto (-27), 3) := dk_167 255 229 (dk_at dksX18_of_1 11 rfl rfl)
theorem dX18_of_36 : decode cX18_of 36 = .ok (.lload 4, 2) := dk_22 4 (dk_at dksX18_of_1 14 rfl rfl)
theorem dX18_of_38 : decode cX18_of 38 = .ok (.lreturn, 1) := dk_173 (dk_at dksX18_of_1 16 rfl rfl)
theorem q1074 : (Jvm.Cond.selects "TrackArray$Measure$2" ({ cls := "java/lang/Object", name := "getClass", desc := "()Ljava/lang/Class;" } : Jvm.MethodName) ({ cls := "java/lang/Object", name := "getClass", desc := "()Ljava/lang/Class;" } : Jvm.MethodName)) ∈ lw_all := lw_g (lw_at lw_m5 32 rfl) rfl
theorem q1484 : (Jvm.Cond.selects "TrackArray$Measure$2" ({ cls := "TrackArray$Measure", name := "of", desc := "(LTrackArray$Signal;II)J" } : Jvm.MethodName) ({ cls := "TrackArray$Measure$2", name := "of", desc := "(LTrackArray$Signal;II)J" } : Jvm.MethodName)) ∈ lw_all := lw_g (lw_at lw_m6 202 rfl) rfl
theorem q1485 : (Jvm.Cond.instanceMethod ({ cls := "TrackArray$Measure$2", name := "of", desc := "(LTrackArray$Signal;II)J" } : Jvm.MethodName)) ∈ lw_all := lw_g (lw_at lw_m6 203 rfl) rfl
theorem q1486 : (Jvm.Cond.code ({ cls := "TrackArray$Measure$2", name := "of", desc := "(LTrackArray$Signal;II)J" } : Jvm.MethodName) prog_7_method_2_code (7 : Nat) (Option.some Jvm.ClassFile.FieldType.long)) ∈ lw_all := lw_g (lw_at lw_m6 204 rfl) rfl
theorem q1487 : (Jvm.Cond.interfaceEntry "TrackArray$Measure$2" (7 : Nat)) ∈ lw_tbl := lw_at lw_m6 205 rfl
theorem q1488 : (Jvm.Cond.methodLink "TrackArray$Measure$2" (7 : Nat) ({ cls := "TrackArray$Signal", name := "at", desc := "(I)J" } : Jvm.MethodName)) ∈ lw_all := lw_g (lw_at lw_m6 206 rfl) rfl
theorem q1489 : (Jvm.Cond.methodLink "TrackArray$Measure$2" (13 : Nat) ({ cls := "java/lang/Math", name := "abs", desc := "(J)J" } : Jvm.MethodName)) ∈ lw_all := lw_g (lw_at lw_m6 207 rfl) rfl
theorem q1492 : (Jvm.Cond.methodLink "TrackArray$Measure$2" (19 : Nat) ({ cls := "java/lang/Math", name := "max", desc := "(JJ)J" } : Jvm.MethodName)) ∈ lw_all := lw_g (lw_at lw_m6 210 rfl) rfl
theorem q2443 : (Jvm.Cond.castable "TrackArray$Measure$2" "java/lang/Object") ∈ lw_tbl := lw_at lw_m10 201 rfl
theorem q2455 : (Jvm.Cond.castable "TrackArray$Measure$2" "TrackArray$Measure") ∈ lw_tbl := lw_at lw_m10 213 rfl
/-! TrackArray$Measure$4 -/
set_option maxRecDepth 100000
def RX19 : String := "TrackArray$Measure$4"
abbrev cX19_of : ByteArray := prog_9_method_2_code
def yX19_of : MethodName := ⟨RX19, "of", "(LTrackArray$Signal;II)J"⟩
def dkwX19_of_1 : List UInt8 := [55, 4, 132, 6, 1, 167, 255, 234, 22, 4, 173]
abbrev dktX19_of_1 : List UInt8 := dkwX19_of_1 ++ []
def dkwX19_of_0 : List UInt8 := [9, 55, 4, 28, 54, 6, 21, 6, 29, 163, 0, 22, 22, 4, 43, 21, 6, 185, 0, 7, 2, 0, 97]
abbrev dktX19_of_0 : List UInt8 := dkwX19_of_0 ++ dktX19_of_1
theorem dksX19_of_0 : cX19_of.data.toList.drop 0 = dktX19_of_0 := by decide +kernel
theorem dksX19_of_1 : cX19_of.data.toList.drop 23 = dktX19_of_1 := dk_seg dksX19_of_0 23 rfl rfl
theorem dX19_of_0 : decode cX19_of 0 = .ok (.lconst 0, 1) := dk_9 (dk_at dksX19_of_0 0 rfl rfl)
theorem dX19_of_1 : decode cX19_of 1 = .ok (.lstore 4, 2) := dk_55 4 (dk_at dksX19_of_0 1 rfl rfl)
theorem dX19_of_3 : decode cX19_of 3 = .ok (.iload_n 2, 1) := dk_28 (dk_at dksX19_of_0 3 rfl rfl)
theorem dX19_of_4 : decode cX19_of 4 = .ok (.istore 6, 2) := dk_54 6 (dk_at dksX19_of_0 4 rfl rfl)
theorem dX19_of_6 : decode cX19_of 6 = .ok (.iload 6, 2) := dk_21 6 (dk_at dksX19_of_0 6 rfl rfl)
theorem dX19_of_8 : decode cX19_of 8 = .ok (.iload_n 3, 1) := dk_29 (dk_at dksX19_of_0 8 rfl rfl)
theorem dX19_of_9 : decode cX19_of 9 = .ok (.if_icmp .gt 22, 3) := dk_163 0 22 (dk_at dksX19_of_0 9 rfl rfl)
theorem dX19_of_12 : decode cX19_of 12 = .ok (.lload 4, 2) := dk_22 4 (dk_at dksX19_of_0 12 rfl rfl)
theorem dX19_of_14 : decode cX19_of 14 = .ok (.aload_n 1, 1) := dk_43 (dk_at dksX19_of_0 14 rfl rfl)
theorem dX19_of_15 : decode cX19_of 15 = .ok (.iload 6, 2) := dk_21 6 (dk_at dksX19_of_0 15 rfl rfl)
theorem dX19_of_17 : decode cX19_of 17 = .ok (.invokeinterface 7 2, 5) := by decide +kernel
theorem dX19_of_22 : decode cX19_of 22 = .ok (.ladd, 1) := dk_97 (dk_at dksX19_of_0 22 rfl rfl)
theorem dX19_of_23 : decode cX19_of 23 = .ok (.lstore 4, 2) := dk_55 4 (dk_at dksX19_of_1 0 rfl rfl)
theorem dX19_of_25 : decode cX19_of 25 = .ok (.iinc 6 1, 3) := dk_132 6 1 (dk_at dksX19_of_1 2 rfl rfl)
theorem dX19_of_28 : decode cX19_of 28 = .ok (.goto (-22), 3) := dk_167 255 234 (dk_at dksX19_of_1 5 rfl rfl)
theorem dX19_of_31 : decode cX19_of 31 = .ok (.lload 4, 2) := dk_22 4 (dk_at dksX19_of_1 8 rfl rfl)
theorem dX19_of_33 : decode cX19_of 33 = .ok (.lreturn, 1) := dk_173 (dk_at dksX19_of_1 10 rfl rfl)
theorem q1076 : (Jvm.Cond.selects "TrackArray$Measure$4" ({ cls := "java/lang/Object", name := "getClass", desc := "()Ljava/lang/Class;" } : Jvm.MethodName) ({ cls := "java/lang/Object", name := "getClass", desc := "()Ljava/lang/Class;" } : Jvm.MethodName)) ∈ lw_all := lw_g (lw_at lw_m5 34 rfl) rfl
theorem q1502 : (Jvm.Cond.instanceMethod ({ cls := "TrackArray$Measure$4", name := "of", desc := "(LTrackArray$Signal;II)J" } : Jvm.MethodName)) ∈ lw_all := lw_g (lw_at lw_m6 220 rfl) rfl
theorem q1503 : (Jvm.Cond.code ({ cls := "TrackArray$Measure$4", name := "of", desc := "(LTrackArray$Signal;II)J" } : Jvm.MethodName) prog_9_method_2_code (7 : Nat) (Option.some Jvm.ClassFile.FieldType.long)) ∈ lw_all := lw_g (lw_at lw_m6 221 rfl) rfl
theorem q1504 : (Jvm.Cond.interfaceEntry "TrackArray$Measure$4" (7 : Nat)) ∈ lw_tbl := lw_at lw_m6 222 rfl
theorem q1505 : (Jvm.Cond.methodLink "TrackArray$Measure$4" (7 : Nat) ({ cls := "TrackArray$Signal", name := "at", desc := "(I)J" } : Jvm.MethodName)) ∈ lw_all := lw_g (lw_at lw_m6 223 rfl) rfl
theorem q1520 : (Jvm.Cond.selects "TrackArray$Measure$4" ({ cls := "TrackArray$Measure", name := "of", desc := "(LTrackArray$Signal;II)J" } : Jvm.MethodName) ({ cls := "TrackArray$Measure$4", name := "of", desc := "(LTrackArray$Signal;II)J" } : Jvm.MethodName)) ∈ lw_all := lw_g (lw_at lw_m6 238 rfl) rfl
theorem q2445 : (Jvm.Cond.castable "TrackArray$Measure$4" "java/lang/Object") ∈ lw_tbl := lw_at lw_m10 203 rfl
theorem q2457 : (Jvm.Cond.castable "TrackArray$Measure$4" "TrackArray$Measure") ∈ lw_tbl := lw_at lw_m10 215 rfl
/-! TrackArray$Measure$5 -/
set_option maxRecDepth 100000
def RX20 : String := "TrackArray$Measure$5"
abbrev cX20_of : ByteArray := prog_10_method_2_code
def yX20_of : MethodName := ⟨RX20, "of", "(LTrackArray$Signal;II)J"⟩
def dkwX20_of_2 : List UInt8 := [96, 54, 4, 132, 5, 1, 167, 255, 210, 21, 4, 133, 173]
abbrev dktX20_of_2 : List UInt8 := dkwX20_of_2 ++ []
def dkwX20_of_1 : List UInt8 := [184, 0, 13, 43, 21, 5, 4, 100, 185, 0, 7, 2, 0, 184, 0, 13, 160, 0, 7, 3, 167, 0, 4, 4]
abbrev dktX20_of_1 : List UInt8 := dkwX20_of_1 ++ dktX20_of_2
def dkwX20_of_0 : List UInt8 := [3, 54, 4, 28, 4, 96, 54, 5, 21, 5, 29, 163, 0, 46, 21, 4, 43, 21, 5, 185, 0, 7, 2, 0]
abbrev dktX20_of_0 : List UInt8 := dkwX20_of_0 ++ dktX20_of_1
theorem dksX20_of_0 : cX20_of.data.toList.drop 0 = dktX20_of_0 := by decide +kernel
theorem dksX20_of_1 : cX20_of.data.toList.drop 24 = dktX20_of_1 := dk_seg dksX20_of_0 24 rfl rfl
theorem dksX20_of_2 : cX20_of.data.toList.drop 48 = dktX20_of_2 := dk_seg dksX20_of_1 24 rfl rfl
theorem dX20_of_0 : decode cX20_of 0 = .ok (.iconst 0, 1) := dk_3 (dk_at dksX20_of_0 0 rfl rfl)
theorem dX20_of_1 : decode cX20_of 1 = .ok (.istore 4, 2) := dk_54 4 (dk_at dksX20_of_0 1 rfl rfl)
theorem dX20_of_3 : decode cX20_of 3 = .ok (.iload_n 2, 1) := dk_28 (dk_at dksX20_of_0 3 rfl rfl)
theorem dX20_of_4 : decode cX20_of 4 = .ok (.iconst 1, 1) := dk_4 (dk_at dksX20_of_0 4 rfl rfl)
theorem dX20_of_5 : decode cX20_of 5 = .ok (.iadd, 1) := dk_96 (dk_at dksX20_of_0 5 rfl rfl)
theorem dX20_of_6 : decode cX20_of 6 = .ok (.istore 5, 2) := dk_54 5 (dk_at dksX20_of_0 6 rfl rfl)
theorem dX20_of_8 : decode cX20_of 8 = .ok (.iload 5, 2) := dk_21 5 (dk_at dksX20_of_0 8 rfl rfl)
theorem dX20_of_10 : decode cX20_of 10 = .ok (.iload_n 3, 1) := dk_29 (dk_at dksX20_of_0 10 rfl rfl)
theorem dX20_of_11 : decode cX20_of 11 = .ok (.if_icmp .gt 46, 3) := dk_163 0 46 (dk_at dksX20_of_0 11 rfl rfl)
theorem dX20_of_14 : decode cX20_of 14 = .ok (.iload 4, 2) := dk_21 4 (dk_at dksX20_of_0 14 rfl rfl)
theorem dX20_of_16 : decode cX20_of 16 = .ok (.aload_n 1, 1) := dk_43 (dk_at dksX20_of_0 16 rfl rfl)
theorem dX20_of_17 : decode cX20_of 17 = .ok (.iload 5, 2) := dk_21 5 (dk_at dksX20_of_0 17 rfl rfl)
theorem dX20_of_19 : decode cX20_of 19 = .ok (.invokeinterface 7 2, 5) := by decide +kernel
theorem dX20_of_24 : decode cX20_of 24 = .ok (.invokestatic 13, 3) := dk_184 0 13 (dk_at dksX20_of_1 0 rfl rfl)
theorem dX20_of_27 : decode cX20_of 27 = .ok (.aload_n 1, 1) := dk_43 (dk_at dksX20_of_1 3 rfl rfl)
theorem dX20_of_28 : decode cX20_of 28 = .ok (.iload 5, 2) := dk_21 5 (dk_at dksX20_of_1 4 rfl rfl)
theorem dX20_of_30 : decode cX20_of 30 = .ok (.iconst 1, 1) := dk_4 (dk_at dksX20_of_1 6 rfl rfl)
theorem dX20_of_31 : decode cX20_of 31 = .ok (.isub, 1) := dk_100 (dk_at dksX20_of_1 7 rfl rfl)
theorem dX20_of_32 : decode cX20_of 32 = .ok (.invokeinterface 7 2, 5) := by decide +kernel
theorem dX20_of_37 : decode cX20_of 37 = .ok (.invokestatic 13, 3) := dk_184 0 13 (dk_at dksX20_of_1 13 rfl rfl)
theorem dX20_of_40 : decode cX20_of 40 = .ok (.if_icmp .ne 7, 3) := dk_160 0 7 (dk_at dksX20_of_1 16 rfl rfl)
theorem dX20_of_43 : decode cX20_of 43 = .ok (.iconst 0, 1) := dk_3 (dk_at dksX20_of_1 19 rfl rfl)
theorem dX20_of_44 : decode cX20_of 44 = .ok (.goto 4, 3) := dk_167 0 4 (dk_at dksX20_of_1 20 rfl rfl)
theorem dX20_of_47 : decode cX20_of 47 = .ok (.iconst 1, 1) := dk_4 (dk_at dksX20_of_1 23 rfl rfl)
theorem dX20_of_48 : decode cX20_of 48 = .ok (.iadd, 1) := dk_96 (dk_at dksX20_of_2 0 rfl rfl)
theorem dX20_of_49 : decode cX20_of 49 = .ok (.istore 4, 2) := dk_54 4 (dk_at dksX20_of_2 1 rfl rfl)
theorem dX20_of_51 : decode cX20_of 51 = .ok (.iinc 5 1, 3) := dk_132 5 1 (dk_at dksX20_of_2 3 rfl rfl)
theorem dX20_of_54 : decode cX20_of 54 = .ok (.goto (-46), 3) := dk_167 255 210 (dk_at dksX20_of_2 6 rfl rfl)
theorem dX20_of_57 : decode cX20_of 57 = .ok (.iload 4, 2) := dk_21 4 (dk_at dksX20_of_2 9 rfl rfl)
theorem dX20_of_59 : decode cX20_of 59 = .ok (.i2l, 1) := dk_133 (dk_at dksX20_of_2 11 rfl rfl)
theorem dX20_of_60 : decode cX20_of 60 = .ok (.lreturn, 1) := dk_173 (dk_at dksX20_of_2 12 rfl rfl)
theorem q1077 : (Jvm.Cond.selects "TrackArray$Measure$5" ({ cls := "java/lang/Object", name := "getClass", desc := "()Ljava/lang/Class;" } : Jvm.MethodName) ({ cls := "java/lang/Object", name := "getClass", desc := "()Ljava/lang/Class;" } : Jvm.MethodName)) ∈ lw_all := lw_g (lw_at lw_m5 35 rfl) rfl
theorem q1506 : (Jvm.Cond.instanceMethod ({ cls := "TrackArray$Measure$5", name := "of", desc := "(LTrackArray$Signal;II)J" } : Jvm.MethodName)) ∈ lw_all := lw_g (lw_at lw_m6 224 rfl) rfl
theorem q1507 : (Jvm.Cond.code ({ cls := "TrackArray$Measure$5", name := "of", desc := "(LTrackArray$Signal;II)J" } : Jvm.MethodName) prog_10_method_2_code (6 : Nat) (Option.some Jvm.ClassFile.FieldType.long)) ∈ lw_all := lw_g (lw_at lw_m6 225 rfl) rfl
theorem q1508 : (Jvm.Cond.interfaceEntry "TrackArray$Measure$5" (7 : Nat)) ∈ lw_tbl := lw_at lw_m6 226 rfl
theorem q1509 : (Jvm.Cond.methodLink "TrackArray$Measure$5" (7 : Nat) ({ cls := "TrackArray$Signal", name := "at", desc := "(I)J" } : Jvm.MethodName)) ∈ lw_all := lw_g (lw_at lw_m6 227 rfl) rfl
theorem q1510 : (Jvm.Cond.methodLink "TrackArray$Measure$5" (13 : Nat) ({ cls := "java/lang/Long", name := "signum", desc := "(J)I" } : Jvm.MethodName)) ∈ lw_all := lw_g (lw_at lw_m6 228 rfl) rfl
theorem q1521 : (Jvm.Cond.selects "TrackArray$Measure$5" ({ cls := "TrackArray$Measure", name := "of", desc := "(LTrackArray$Signal;II)J" } : Jvm.MethodName) ({ cls := "TrackArray$Measure$5", name := "of", desc := "(LTrackArray$Signal;II)J" } : Jvm.MethodName)) ∈ lw_all := lw_g (lw_at lw_m6 239 rfl) rfl
theorem q2446 : (Jvm.Cond.castable "TrackArray$Measure$5" "java/lang/Object") ∈ lw_tbl := lw_at lw_m10 204 rfl
theorem q2458 : (Jvm.Cond.castable "TrackArray$Measure$5" "TrackArray$Measure") ∈ lw_tbl := lw_at lw_m10 216 rfl
theorem q1715 : (Jvm.Cond.interfaceMethod "TrackArray$Focus" "TrackArray$Focus" "beside" "(I)LTrackArray$Focus;") ∈ lw_tbl := lw_at lw_m7 193 rfl
set_option maxRecDepth 100000
theorem q1716 : (Jvm.Cond.declares ({ cls := "TrackArray$Focus", name := "beside", desc := "(I)LTrackArray$Focus;" } : Jvm.MethodName)) ∈ lw_tbl := lw_at lw_m7 194 rfl
theorem q688 : (Jvm.Cond.interfaceMethod "TrackArray$Place" "TrackArray$Place" "x" "(I)I") ∈ lw_tbl := lw_at lw_m3 126 rfl
set_option maxRecDepth 100000
theorem q689 : (Jvm.Cond.declares ({ cls := "TrackArray$Place", name := "x", desc := "(I)I" } : Jvm.MethodName)) ∈ lw_tbl := lw_at lw_m3 127 rfl
theorem q708 : (Jvm.Cond.interfaceMethod "TrackArray$Place" "TrackArray$Place" "y" "()I") ∈ lw_tbl := lw_at lw_m3 146 rfl
theorem q709 : (Jvm.Cond.declares ({ cls := "TrackArray$Place", name := "y", desc := "()I" } : Jvm.MethodName)) ∈ lw_tbl := lw_at lw_m3 147 rfl
theorem q726 : (Jvm.Cond.interfaceMethod "TrackArray$Place" "TrackArray$Place" "height" "()I") ∈ lw_tbl := lw_at lw_m3 164 rfl
theorem q727 : (Jvm.Cond.declares ({ cls := "TrackArray$Place", name := "height", desc := "()I" } : Jvm.MethodName)) ∈ lw_tbl := lw_at lw_m3 165 rfl
theorem q1482 : (Jvm.Cond.interfaceMethod "TrackArray$Signal" "TrackArray$Signal" "at" "(I)J") ∈ lw_tbl := lw_at lw_m6 200 rfl
set_option maxRecDepth 100000
theorem q1483 : (Jvm.Cond.declares ({ cls := "TrackArray$Signal", name := "at", desc := "(I)J" } : Jvm.MethodName)) ∈ lw_tbl := lw_at lw_m6 201 rfl
theorem q1572 : (Jvm.Cond.interfaceMethod "TrackArray$Worth" "TrackArray$Worth" "of" "(I)J") ∈ lw_tbl := lw_at lw_m7 50 rfl
set_option maxRecDepth 100000
theorem q1573 : (Jvm.Cond.declares ({ cls := "TrackArray$Worth", name := "of", desc := "(I)J" } : Jvm.MethodName)) ∈ lw_tbl := lw_at lw_m7 51 rfl
theorem q268 : (Jvm.Cond.sameMethod "[B" "java/lang/Object" "clone" "()Ljava/lang/Object;") ∈ lw_all := lw_g (lw_at lw_m1 186 rfl) rfl
set_option maxRecDepth 100000
theorem q271 : (Jvm.Cond.selects "[B" ({ cls := "[B", name := "clone", desc := "()Ljava/lang/Object;" } : Jvm.MethodName) ({ cls := "java/lang/Object", name := "clone", desc := "()Ljava/lang/Object;" } : Jvm.MethodName)) ∈ lw_all := lw_g (lw_at lw_m1 189 rfl) rfl
theorem q272 : (Jvm.Cond.castable "[B" "java/lang/Cloneable") ∈ lw_tbl := lw_at lw_m1 190 rfl
theorem q2463 : (Jvm.Cond.castable "[B" "java/lang/Object") ∈ lw_tbl := lw_at lw_m10 221 rfl
theorem q2469 : (Jvm.Cond.castable "[D" "java/lang/Object") ∈ lw_tbl := lw_at lw_m10 227 rfl
set_option maxRecDepth 100000
theorem q1843 : (Jvm.Cond.sameMethod "[I" "java/lang/Object" "clone" "()Ljava/lang/Object;") ∈ lw_all := lw_g (lw_at lw_m8 81 rfl) rfl
set_option maxRecDepth 100000
theorem q1844 : (Jvm.Cond.selects "[I" ({ cls := "[I", name := "clone", desc := "()Ljava/lang/Object;" } : Jvm.MethodName) ({ cls := "java/lang/Object", name := "clone", desc := "()Ljava/lang/Object;" } : Jvm.MethodName)) ∈ lw_all := lw_g (lw_at lw_m8 82 rfl) rfl
theorem q1845 : (Jvm.Cond.castable "[I" "java/lang/Cloneable") ∈ lw_tbl := lw_at lw_m8 83 rfl
theorem q2464 : (Jvm.Cond.castable "[I" "java/lang/Object") ∈ lw_tbl := lw_at lw_m10 222 rfl
theorem q2465 : (Jvm.Cond.castable "[J" "java/lang/Object") ∈ lw_tbl := lw_at lw_m10 223 rfl
set_option maxRecDepth 100000
theorem q1456 : (Jvm.Cond.sameMethod "[LTrackArray$Measure;" "java/lang/Object" "clone" "()Ljava/lang/Object;") ∈ lw_all := lw_g (lw_at lw_m6 174 rfl) rfl
set_option maxRecDepth 100000
theorem q1457 : (Jvm.Cond.selects "[LTrackArray$Measure;" ({ cls := "[LTrackArray$Measure;", name := "clone", desc := "()Ljava/lang/Object;" } : Jvm.MethodName) ({ cls := "java/lang/Object", name := "clone", desc := "()Ljava/lang/Object;" } : Jvm.MethodName)) ∈ lw_all := lw_g (lw_at lw_m6 175 rfl) rfl
theorem q1458 : (Jvm.Cond.castable "[LTrackArray$Measure;" "java/lang/Cloneable") ∈ lw_tbl := lw_at lw_m6 176 rfl
theorem q2467 : (Jvm.Cond.castable "[LTrackArray$Measure;" "java/lang/Object") ∈ lw_tbl := lw_at lw_m10 225 rfl
theorem q2466 : (Jvm.Cond.castable "[LTrackArray$Track;" "java/lang/Object") ∈ lw_tbl := lw_at lw_m10 224 rfl
set_option maxRecDepth 100000
theorem q2459 : (Jvm.Cond.sameMethod "[Ljava/lang/Object;" "java/lang/Object" "getClass" "()Ljava/lang/Class;") ∈ lw_all := lw_g (lw_at lw_m10 217 rfl) rfl
set_option maxRecDepth 100000
theorem q2460 : (Jvm.Cond.selects "[Ljava/lang/Object;" ({ cls := "java/lang/Object", name := "getClass", desc := "()Ljava/lang/Class;" } : Jvm.MethodName) ({ cls := "java/lang/Object", name := "getClass", desc := "()Ljava/lang/Class;" } : Jvm.MethodName)) ∈ lw_all := lw_g (lw_at lw_m10 218 rfl) rfl
theorem q2462 : (Jvm.Cond.castable "[Ljava/lang/Object;" "java/lang/Object") ∈ lw_tbl := lw_at lw_m10 220 rfl
theorem q2468 : (Jvm.Cond.castable "[Z" "java/lang/Object") ∈ lw_tbl := lw_at lw_m10 226 rfl
set_option maxRecDepth 100000
theorem q116 : (Jvm.Cond.initialized "java/lang/Enum") ∈ lw_all := lw_g (lw_at lw_m1 34 rfl) rfl
set_option maxRecDepth 100000
theorem q102 : (Jvm.Cond.initialized "java/lang/Number") ∈ lw_all := lw_g (lw_at lw_m1 20 rfl) rfl
set_option maxRecDepth 100000
theorem q99 : (Jvm.Cond.initialized "java/lang/System") ∈ lw_all := lw_g (lw_at lw_m1 17 rfl) rfl
set_option maxRecDepth 100000
theorem q278 : (Jvm.Cond.static ({ cls := "java/lang/System", name := "arraycopy", desc := "(Ljava/lang/Object;ILjava/lang/Object;II)V" } : Jvm.MethodName)) ∈ lw_all := lw_g (lw_at lw_m1 196 rfl) rfl
theorem q279 : (Jvm.Cond.native ({ cls := "java/lang/System", name := "arraycopy", desc := "(Ljava/lang/Object;ILjava/lang/Object;II)V" } : Jvm.MethodName)) ∈ lw_all := lw_g (lw_at lw_m1 197 rfl) rfl
theorem q1820 : (Jvm.Cond.interfaceMethod "java/util/Collection" "java/util/Collection" "toArray" "()[Ljava/lang/Object;") ∈ lw_tbl := lw_at lw_m8 58 rfl
set_option maxRecDepth 100000
theorem q1821 : (Jvm.Cond.declares ({ cls := "java/util/Collection", name := "toArray", desc := "()[Ljava/lang/Object;" } : Jvm.MethodName)) ∈ lw_tbl := lw_at lw_m8 59 rfl
theorem q627 : (Jvm.Cond.interfaceMethod "java/util/Iterator" "java/util/Iterator" "hasNext" "()Z") ∈ lw_tbl := lw_at lw_m3 65 rfl
set_option maxRecDepth 100000
theorem q628 : (Jvm.Cond.declares ({ cls := "java/util/Iterator", name := "hasNext", desc := "()Z" } : Jvm.MethodName)) ∈ lw_tbl := lw_at lw_m3 66 rfl
theorem q637 : (Jvm.Cond.interfaceMethod "java/util/Iterator" "java/util/Iterator" "next" "()Ljava/lang/Object;") ∈ lw_tbl := lw_at lw_m3 75 rfl
theorem q638 : (Jvm.Cond.declares ({ cls := "java/util/Iterator", name := "next", desc := "()Ljava/lang/Object;" } : Jvm.MethodName)) ∈ lw_tbl := lw_at lw_m3 76 rfl
theorem q879 : (Jvm.Cond.interfaceMethod "jdk/internal/access/JavaLangAccess" "jdk/internal/access/JavaLangAccess" "getUTF16Char" "([BI)C") ∈ lw_tbl := lw_at lw_m4 77 rfl
set_option maxRecDepth 100000
theorem q880 : (Jvm.Cond.declares ({ cls := "jdk/internal/access/JavaLangAccess", name := "getUTF16Char", desc := "([BI)C" } : Jvm.MethodName)) ∈ lw_tbl := lw_at lw_m4 78 rfl
theorem q153 : (Jvm.Cond.arrayOver (Jvm.ClassFile.FieldType.object "java/lang/Object")) ∈ lw_tbl := lw_at lw_m1 71 rfl
set_option maxRecDepth 100000
theorem q232 : (Jvm.Cond.arrayClass Jvm.ClassFile.FieldType.byte) ∈ lw_all := lw_g (lw_at lw_m1 150 rfl) rfl
theorem q567 : (Jvm.Cond.arrayClass Jvm.ClassFile.FieldType.int) ∈ lw_all := lw_g (lw_at lw_m3 5 rfl) rfl
theorem q568 : (Jvm.Cond.arrayClass Jvm.ClassFile.FieldType.long) ∈ lw_all := lw_g (lw_at lw_m3 6 rfl) rfl
theorem q569 : (Jvm.Cond.arrayOver (Jvm.ClassFile.FieldType.object "TrackArray$Track")) ∈ lw_tbl := lw_at lw_m3 7 rfl
theorem q1459 : (Jvm.Cond.arrayOver (Jvm.ClassFile.FieldType.object "TrackArray$Measure")) ∈ lw_tbl := lw_at lw_m6 177 rfl
theorem q1925 : (Jvm.Cond.arrayClass Jvm.ClassFile.FieldType.boolean) ∈ lw_all := lw_g (lw_at lw_m8 163 rfl) rfl
theorem q2412 : (Jvm.Cond.arrayClass Jvm.ClassFile.FieldType.double) ∈ lw_all := lw_g (lw_at lw_m10 170 rfl) rfl
theorem q2470 : (Jvm.Cond.arrayClass Jvm.ClassFile.FieldType.char) ∈ lw_all := lw_g (lw_at lw_m10 228 rfl) rfl
theorem q2471 : (Jvm.Cond.arrayClass Jvm.ClassFile.FieldType.short) ∈ lw_all := lw_g (lw_at lw_m10 229 rfl) rfl
