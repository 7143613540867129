/-! GlassLog -/
set_option maxRecDepth 100000
def RX0 : String := "GlassLog"
def TX0 : u_T := fun k => match k with
  | 0 => ("GlassLog", "now", "LGlassLog$House;", true)
  | 1 => ("GlassLog", "mixer", "LGlassLog$Mixer;", true)
  | 2 => ("GlassLog", "pile", "LGlassLog$Pile;", true)
  | 3 => ("GlassLog", "map", "LGlassLog$Map;", true)
  | 4 => ("GlassLog", "asked", "LGlassLog$Head;", true)
  | 5 => ("GlassLog", "scratch", "[I", true)
  | 6 => ("GlassLog", "mark", "[I", true)
  | _ => ("GlassLog", "kept", "LGlassLog$House;", false)
def tyX0 : Nat → FieldType := fun k => match k with
  | 0 => .object "GlassLog$House"
  | 1 => .object "GlassLog$Mixer"
  | 2 => .object "GlassLog$Pile"
  | 3 => .object "GlassLog$Map"
  | 4 => .object "GlassLog$Head"
  | 5 => .array .int
  | 6 => .array .int
  | _ => .object "GlassLog$House"
abbrev wsX00 : List Cond := u_ws RX0 TX0 8
theorem nmX0 : ∀ a, a < 8 → ∀ b, b < 8 → a ≠ b → (TX0 a).2.1 ≠ (TX0 b).2.1 := by decide +kernel
theorem tyX0_ok : ∀ k, k < 8 → parseFieldDescriptor (TX0 k).2.2.1 = some (tyX0 k) := by decide +kernel
abbrev cX0_init : ByteArray := prog_1_method_6_code
def yX0_init : MethodName := ⟨RX0, "<init>", "()V"⟩
def dkwX0_init_3 : List UInt8 := [188, 10, 181, 0, 46, 42, 16, 8, 188, 10, 181, 0, 50, 177]
abbrev dktX0_init_3 : List UInt8 := dkwX0_init_3 ++ []
def dkwX0_init_2 : List UInt8 := [180, 0, 19, 183, 0, 34, 181, 0, 35, 42, 187, 0, 39, 89, 183, 0, 41, 181, 0, 42, 42, 17, 9, 96]
abbrev dktX0_init_2 : List UInt8 := dkwX0_init_2 ++ dktX0_init_3
def dkwX0_init_1 : List UInt8 := [181, 0, 19, 42, 187, 0, 23, 89, 42, 180, 0, 19, 183, 0, 25, 181, 0, 28, 42, 187, 0, 32, 89, 42]
abbrev dktX0_init_1 : List UInt8 := dkwX0_init_1 ++ dktX0_init_2
def dkwX0_init_0 : List UInt8 := [42, 183, 0, 3, 42, 187, 0, 9, 89, 183, 0, 11, 181, 0, 12, 42, 187, 0, 16, 89, 183, 0, 18]
abbrev dktX0_init_0 : List UInt8 := dkwX0_init_0 ++ dktX0_init_1
theorem dksX0_init_0 : cX0_init.data.toList.drop 0 = dktX0_init_0 := by decide +kernel
theorem dksX0_init_1 : cX0_init.data.toList.drop 23 = dktX0_init_1 := dk_seg dksX0_init_0 23 rfl rfl
theorem dksX0_init_2 : cX0_init.data.toList.drop 47 = dktX0_init_2 := dk_seg dksX0_init_1 24 rfl rfl
theorem dksX0_init_3 : cX0_init.data.toList.drop 71 = dktX0_init_3 := dk_seg dksX0_init_2 24 rfl rfl
theorem dX0_init_0 : decode cX0_init 0 = .ok (.aload_n 0, 1) := dk_42 (dk_at dksX0_init_0 0 rfl rfl)
theorem dX0_init_1 : decode cX0_init 1 = .ok (.invokespecial 3, 3) := dk_183 0 3 (dk_at dksX0_init_0 1 rfl rfl)
theorem dX0_init_4 : decode cX0_init 4 = .ok (.aload_n 0, 1) := dk_42 (dk_at dksX0_init_0 4 rfl rfl)
theorem dX0_init_5 : decode cX0_init 5 = .ok (.new 9, 3) := dk_187 0 9 (dk_at dksX0_init_0 5 rfl rfl)
theorem dX0_init_8 : decode cX0_init 8 = .ok (.dup, 1) := dk_89 (dk_at dksX0_init_0 8 rfl rfl)
theorem dX0_init_9 : decode cX0_init 9 = .ok (.invokespecial 11, 3) := dk_183 0 11 (dk_at dksX0_init_0 9 rfl rfl)
theorem dX0_init_12 : decode cX0_init 12 = .ok (.putfield 12, 3) := dk_181 0 12 (dk_at dksX0_init_0 12 rfl rfl)
theorem dX0_init_15 : decode cX0_init 15 = .ok (.aload_n 0, 1) := dk_42 (dk_at dksX0_init_0 15 rfl rfl)
theorem dX0_init_16 : decode cX0_init 16 = .ok (.new 16, 3) := dk_187 0 16 (dk_at dksX0_init_0 16 rfl rfl)
theorem dX0_init_19 : decode cX0_init 19 = .ok (.dup, 1) := dk_89 (dk_at dksX0_init_0 19 rfl rfl)
theorem dX0_init_20 : decode cX0_init 20 = .ok (.invokespecial 18, 3) := dk_183 0 18 (dk_at dksX0_init_0 20 rfl rfl)
theorem dX0_init_23 : decode cX0_init 23 = .ok (.putfield 19, 3) := dk_181 0 19 (dk_at dksX0_init_1 0 rfl rfl)
theorem dX0_init_26 : decode cX0_init 26 = .ok (.aload_n 0, 1) := dk_42 (dk_at dksX0_init_1 3 rfl rfl)
theorem dX0_init_27 : decode cX0_init 27 = .ok (.new 23, 3) := dk_187 0 23 (dk_at dksX0_init_1 4 rfl rfl)
theorem dX0_init_30 : decode cX0_init 30 = .ok (.dup, 1) := dk_89 (dk_at dksX0_init_1 7 rfl rfl)
theorem dX0_init_31 : decode cX0_init 31 = .ok (.aload_n 0, 1) := dk_42 (dk_at dksX0_init_1 8 rfl rfl)
theorem dX0_init_32 : decode cX0_init 32 = .ok (.getfield 19, 3) := dk_180 0 19 (dk_at dksX0_init_1 9 rfl rfl)
theorem dX0_init_35 : decode cX0_init 35 = .ok (.invokespecial 25, 3) := dk_183 0 25 (dk_at dksX0_init_1 12 rfl rfl)
theorem dX0_init_38 : decode cX0_init 38 = .ok (.putfield 28, 3) := dk_181 0 28 (dk_at dksX0_init_1 15 rfl rfl)
theorem dX0_init_41 : decode cX0_init 41 = .ok (.aload_n 0, 1) := dk_42 (dk_at dksX0_init_1 18 rfl rfl)
theorem dX0_init_42 : decode cX0_init 42 = .ok (.new 32, 3) := dk_187 0 32 (dk_at dksX0_init_1 19 rfl rfl)
theorem dX0_init_45 : decode cX0_init 45 = .ok (.dup, 1) := dk_89 (dk_at dksX0_init_1 22 rfl rfl)
theorem dX0_init_46 : decode cX0_init 46 = .ok (.aload_n 0, 1) := dk_42 (dk_at dksX0_init_1 23 rfl rfl)
theorem dX0_init_47 : decode cX0_init 47 = .ok (.getfield 19, 3) := dk_180 0 19 (dk_at dksX0_init_2 0 rfl rfl)
theorem dX0_init_50 : decode cX0_init 50 = .ok (.invokespecial 34, 3) := dk_183 0 34 (dk_at dksX0_init_2 3 rfl rfl)
theorem dX0_init_53 : decode cX0_init 53 = .ok (.putfield 35, 3) := dk_181 0 35 (dk_at dksX0_init_2 6 rfl rfl)
theorem dX0_init_56 : decode cX0_init 56 = .ok (.aload_n 0, 1) := dk_42 (dk_at dksX0_init_2 9 rfl rfl)
theorem dX0_init_57 : decode cX0_init 57 = .ok (.new 39, 3) := dk_187 0 39 (dk_at dksX0_init_2 10 rfl rfl)
theorem dX0_init_60 : decode cX0_init 60 = .ok (.dup, 1) := dk_89 (dk_at dksX0_init_2 13 rfl rfl)
theorem dX0_init_61 : decode cX0_init 61 = .ok (.invokespecial 41, 3) := dk_183 0 41 (dk_at dksX0_init_2 14 rfl rfl)
theorem dX0_init_64 : decode cX0_init 64 = .ok (.putfield 42, 3) := dk_181 0 42 (dk_at dksX0_init_2 17 rfl rfl)
theorem dX0_init_67 : decode cX0_init 67 = .ok (.aload_n 0, 1) := dk_42 (dk_at dksX0_init_2 20 rfl rfl)
theorem dX0_init_68 : decode cX0_init 68 = .ok (.sipush 2400, 3) := dk_17 9 96 (dk_at dksX0_init_2 21 rfl rfl)
theorem dX0_init_71 : decode cX0_init 71 = .ok (.newarray .int, 2) := dk_188_10 (dk_at dksX0_init_3 0 rfl rfl)
theorem dX0_init_73 : decode cX0_init 73 = .ok (.putfield 46, 3) := dk_181 0 46 (dk_at dksX0_init_3 2 rfl rfl)
theorem dX0_init_76 : decode cX0_init 76 = .ok (.aload_n 0, 1) := dk_42 (dk_at dksX0_init_3 5 rfl rfl)
theorem dX0_init_77 : decode cX0_init 77 = .ok (.bipush 8, 2) := dk_16 8 (dk_at dksX0_init_3 6 rfl rfl)
theorem dX0_init_79 : decode cX0_init 79 = .ok (.newarray .int, 2) := dk_188_10 (dk_at dksX0_init_3 8 rfl rfl)
theorem dX0_init_81 : decode cX0_init 81 = .ok (.putfield 50, 3) := dk_181 0 50 (dk_at dksX0_init_3 10 rfl rfl)
theorem dX0_init_84 : decode cX0_init 84 = .ok (.return_, 1) := dk_177 (dk_at dksX0_init_3 13 rfl rfl)
abbrev cX0_open : ByteArray := prog_1_method_9_code
def yX0_open : MethodName := ⟨RX0, "open", "(I)I"⟩
def dkwX0_open_2 : List UInt8 := [180, 0, 12, 89, 180, 0, 53, 4, 96, 181, 0, 53, 42, 180, 0, 12, 180, 0, 53, 4, 100, 172]
abbrev dktX0_open_2 : List UInt8 := dkwX0_open_2 ++ []
def dkwX0_open_1 : List UInt8 := [2, 172, 42, 180, 0, 12, 180, 0, 65, 42, 180, 0, 12, 180, 0, 53, 50, 27, 182, 0, 76, 42]
abbrev dktX0_open_1 : List UInt8 := dkwX0_open_1 ++ dktX0_open_2
def dkwX0_open_0 : List UInt8 := [27, 133, 9, 20, 0, 74, 184, 0, 57, 153, 0, 15, 42, 180, 0, 12, 180, 0, 53, 16, 6, 160, 0, 5]
abbrev dktX0_open_0 : List UInt8 := dkwX0_open_0 ++ dktX0_open_1
theorem dksX0_open_0 : cX0_open.data.toList.drop 0 = dktX0_open_0 := by decide +kernel
theorem dksX0_open_1 : cX0_open.data.toList.drop 24 = dktX0_open_1 := dk_seg dksX0_open_0 24 rfl rfl
theorem dksX0_open_2 : cX0_open.data.toList.drop 46 = dktX0_open_2 := dk_seg dksX0_open_1 22 rfl rfl
theorem dX0_open_0 : decode cX0_open 0 = .ok (.iload_n 1, 1) := dk_27 (dk_at dksX0_open_0 0 rfl rfl)
theorem dX0_open_1 : decode cX0_open 1 = .ok (.i2l, 1) := dk_133 (dk_at dksX0_open_0 1 rfl rfl)
theorem dX0_open_2 : decode cX0_open 2 = .ok (.lconst 0, 1) := dk_9 (dk_at dksX0_open_0 2 rfl rfl)
theorem dX0_open_3 : decode cX0_open 3 = .ok (.ldc2_w 74, 3) := dk_20 0 74 (dk_at dksX0_open_0 3 rfl rfl)
theorem dX0_open_6 : decode cX0_open 6 = .ok (.invokestatic 57, 3) := dk_184 0 57 (dk_at dksX0_open_0 6 rfl rfl)
theorem dX0_open_9 : decode cX0_open 9 = .ok (.ifCond .eq 15, 3) := dk_153 0 15 (dk_at dksX0_open_0 9 rfl rfl)
theorem dX0_open_12 : decode cX0_open 12 = .ok (.aload_n 0, 1) := dk_42 (dk_at dksX0_open_0 12 rfl rfl)
theorem dX0_open_13 : decode cX0_open 13 = .ok (.getfield 12, 3) := dk_180 0 12 (dk_at dksX0_open_0 13 rfl rfl)
theorem dX0_open_16 : decode cX0_open 16 = .ok (.getfield 53, 3) := dk_180 0 53 (dk_at dksX0_open_0 16 rfl rfl)
theorem dX0_open_19 : decode cX0_open 19 = .ok (.bipush 6, 2) := dk_16 6 (dk_at dksX0_open_0 19 rfl rfl)
theorem dX0_open_21 : decode cX0_open 21 = .ok (.if_icmp .ne 5, 3) := dk_160 0 5 (dk_at dksX0_open_0 21 rfl rfl)
theorem dX0_open_24 : decode cX0_open 24 = .ok (.iconst (-1), 1) := dk_2 (dk_at dksX0_open_1 0 rfl rfl)
theorem dX0_open_25 : decode cX0_open 25 = .ok (.ireturn, 1) := dk_172 (dk_at dksX0_open_1 1 rfl rfl)
theorem dX0_open_26 : decode cX0_open 26 = .ok (.aload_n 0, 1) := dk_42 (dk_at dksX0_open_1 2 rfl rfl)
theorem dX0_open_27 : decode cX0_open 27 = .ok (.getfield 12, 3) := dk_180 0 12 (dk_at dksX0_open_1 3 rfl rfl)
theorem dX0_open_30 : decode cX0_open 30 = .ok (.getfield 65, 3) := dk_180 0 65 (dk_at dksX0_open_1 6 rfl rfl)
theorem dX0_open_33 : decode cX0_open 33 = .ok (.aload_n 0, 1) := dk_42 (dk_at dksX0_open_1 9 rfl rfl)
theorem dX0_open_34 : decode cX0_open 34 = .ok (.getfield 12, 3) := dk_180 0 12 (dk_at dksX0_open_1 10 rfl rfl)
theorem dX0_open_37 : decode cX0_open 37 = .ok (.getfield 53, 3) := dk_180 0 53 (dk_at dksX0_open_1 13 rfl rfl)
theorem dX0_open_40 : decode cX0_open 40 = .ok (.aaload, 1) := dk_50 (dk_at dksX0_open_1 16 rfl rfl)
theorem dX0_open_41 : decode cX0_open 41 = .ok (.iload_n 1, 1) := dk_27 (dk_at dksX0_open_1 17 rfl rfl)
theorem dX0_open_42 : decode cX0_open 42 = .ok (.invokevirtual 76, 3) := dk_182 0 76 (dk_at dksX0_open_1 18 rfl rfl)
theorem dX0_open_45 : decode cX0_open 45 = .ok (.aload_n 0, 1) := dk_42 (dk_at dksX0_open_1 21 rfl rfl)
theorem dX0_open_46 : decode cX0_open 46 = .ok (.getfield 12, 3) := dk_180 0 12 (dk_at dksX0_open_2 0 rfl rfl)
theorem dX0_open_49 : decode cX0_open 49 = .ok (.dup, 1) := dk_89 (dk_at dksX0_open_2 3 rfl rfl)
theorem dX0_open_50 : decode cX0_open 50 = .ok (.getfield 53, 3) := dk_180 0 53 (dk_at dksX0_open_2 4 rfl rfl)
theorem dX0_open_53 : decode cX0_open 53 = .ok (.iconst 1, 1) := dk_4 (dk_at dksX0_open_2 7 rfl rfl)
theorem dX0_open_54 : decode cX0_open 54 = .ok (.iadd, 1) := dk_96 (dk_at dksX0_open_2 8 rfl rfl)
theorem dX0_open_55 : decode cX0_open 55 = .ok (.putfield 53, 3) := dk_181 0 53 (dk_at dksX0_open_2 9 rfl rfl)
theorem dX0_open_58 : decode cX0_open 58 = .ok (.aload_n 0, 1) := dk_42 (dk_at dksX0_open_2 12 rfl rfl)
theorem dX0_open_59 : decode cX0_open 59 = .ok (.getfield 12, 3) := dk_180 0 12 (dk_at dksX0_open_2 13 rfl rfl)
theorem dX0_open_62 : decode cX0_open 62 = .ok (.getfield 53, 3) := dk_180 0 53 (dk_at dksX0_open_2 16 rfl rfl)
theorem dX0_open_65 : decode cX0_open 65 = .ok (.iconst 1, 1) := dk_4 (dk_at dksX0_open_2 19 rfl rfl)
theorem dX0_open_66 : decode cX0_open 66 = .ok (.isub, 1) := dk_100 (dk_at dksX0_open_2 20 rfl rfl)
theorem dX0_open_67 : decode cX0_open 67 = .ok (.ireturn, 1) := dk_172 (dk_at dksX0_open_2 21 rfl rfl)
abbrev cX0_in : ByteArray := prog_1_method_1_code
def yX0_in : MethodName := ⟨RX0, "in", "(JJJ)Z"⟩
def dkwX0_in_0 : List UInt8 := [30, 32, 148, 155, 0, 14, 30, 22, 4, 148, 157, 0, 7, 4, 167, 0, 4, 3, 172]
abbrev dktX0_in_0 : List UInt8 := dkwX0_in_0 ++ []
theorem dksX0_in_0 : cX0_in.data.toList.drop 0 = dktX0_in_0 := by decide +kernel
theorem dX0_in_0 : decode cX0_in 0 = .ok (.lload_n 0, 1) := dk_30 (dk_at dksX0_in_0 0 rfl rfl)
theorem dX0_in_1 : decode cX0_in 1 = .ok (.lload_n 2, 1) := dk_32 (dk_at dksX0_in_0 1 rfl rfl)
theorem dX0_in_2 : decode cX0_in 2 = .ok (.lcmp, 1) := dk_148 (dk_at dksX0_in_0 2 rfl rfl)
theorem dX0_in_3 : decode cX0_in 3 = .ok (.ifCond .lt 14, 3) := dk_155 0 14 (dk_at dksX0_in_0 3 rfl rfl)
theorem dX0_in_6 : decode cX0_in 6 = .ok (.lload_n 0, 1) := dk_30 (dk_at dksX0_in_0 6 rfl rfl)
theorem dX0_in_7 : decode cX0_in 7 = .ok (.lload 4, 2) := dk_22 4 (dk_at dksX0_in_0 7 rfl rfl)
theorem dX0_in_9 : decode cX0_in 9 = .ok (.lcmp, 1) := dk_148 (dk_at dksX0_in_0 9 rfl rfl)
theorem dX0_in_10 : decode cX0_in 10 = .ok (.ifCond .gt 7, 3) := dk_157 0 7 (dk_at dksX0_in_0 10 rfl rfl)
theorem dX0_in_13 : decode cX0_in 13 = .ok (.iconst 1, 1) := dk_4 (dk_at dksX0_in_0 13 rfl rfl)
theorem dX0_in_14 : decode cX0_in 14 = .ok (.goto 4, 3) := dk_167 0 4 (dk_at dksX0_in_0 14 rfl rfl)
theorem dX0_in_17 : decode cX0_in 17 = .ok (.iconst 0, 1) := dk_3 (dk_at dksX0_in_0 17 rfl rfl)
theorem dX0_in_18 : decode cX0_in 18 = .ok (.ireturn, 1) := dk_172 (dk_at dksX0_in_0 18 rfl rfl)
abbrev cX0_add : ByteArray := prog_1_method_10_code
def yX0_add : MethodName := ⟨RX0, "add", "(IIJ)I"⟩
def dkwX0_add_2 : List UInt8 := [180, 0, 12, 180, 0, 65, 27, 50, 180, 0, 69, 172]
abbrev dktX0_add_2 : List UInt8 := dkwX0_add_2 ++ []
def dkwX0_add_1 : List UInt8 := [160, 0, 5, 2, 172, 42, 180, 0, 12, 180, 0, 65, 27, 50, 42, 180, 0, 19, 28, 33, 182, 0, 80, 42]
abbrev dktX0_add_1 : List UInt8 := dkwX0_add_1 ++ dktX0_add_2
def dkwX0_add_0 : List UInt8 := [42, 27, 182, 0, 61, 153, 0, 21, 42, 180, 0, 12, 180, 0, 65, 27, 50, 180, 0, 69, 17, 1, 144]
abbrev dktX0_add_0 : List UInt8 := dkwX0_add_0 ++ dktX0_add_1
theorem dksX0_add_0 : cX0_add.data.toList.drop 0 = dktX0_add_0 := by decide +kernel
theorem dksX0_add_1 : cX0_add.data.toList.drop 23 = dktX0_add_1 := dk_seg dksX0_add_0 23 rfl rfl
theorem dksX0_add_2 : cX0_add.data.toList.drop 47 = dktX0_add_2 := dk_seg dksX0_add_1 24 rfl rfl
theorem dX0_add_0 : decode cX0_add 0 = .ok (.aload_n 0, 1) := dk_42 (dk_at dksX0_add_0 0 rfl rfl)
theorem dX0_add_1 : decode cX0_add 1 = .ok (.iload_n 1, 1) := dk_27 (dk_at dksX0_add_0 1 rfl rfl)
theorem dX0_add_2 : decode cX0_add 2 = .ok (.invokevirtual 61, 3) := dk_182 0 61 (dk_at dksX0_add_0 2 rfl rfl)
theorem dX0_add_5 : decode cX0_add 5 = .ok (.ifCond .eq 21, 3) := dk_153 0 21 (dk_at dksX0_add_0 5 rfl rfl)
theorem dX0_add_8 : decode cX0_add 8 = .ok (.aload_n 0, 1) := dk_42 (dk_at dksX0_add_0 8 rfl rfl)
theorem dX0_add_9 : decode cX0_add 9 = .ok (.getfield 12, 3) := dk_180 0 12 (dk_at dksX0_add_0 9 rfl rfl)
theorem dX0_add_12 : decode cX0_add 12 = .ok (.getfield 65, 3) := dk_180 0 65 (dk_at dksX0_add_0 12 rfl rfl)
theorem dX0_add_15 : decode cX0_add 15 = .ok (.iload_n 1, 1) := dk_27 (dk_at dksX0_add_0 15 rfl rfl)
theorem dX0_add_16 : decode cX0_add 16 = .ok (.aaload, 1) := dk_50 (dk_at dksX0_add_0 16 rfl rfl)
theorem dX0_add_17 : decode cX0_add 17 = .ok (.getfield 69, 3) := dk_180 0 69 (dk_at dksX0_add_0 17 rfl rfl)
theorem dX0_add_20 : decode cX0_add 20 = .ok (.sipush 400, 3) := dk_17 1 144 (dk_at dksX0_add_0 20 rfl rfl)
theorem dX0_add_23 : decode cX0_add 23 = .ok (.if_icmp .ne 5, 3) := dk_160 0 5 (dk_at dksX0_add_1 0 rfl rfl)
theorem dX0_add_26 : decode cX0_add 26 = .ok (.iconst (-1), 1) := dk_2 (dk_at dksX0_add_1 3 rfl rfl)
theorem dX0_add_27 : decode cX0_add 27 = .ok (.ireturn, 1) := dk_172 (dk_at dksX0_add_1 4 rfl rfl)
theorem dX0_add_28 : decode cX0_add 28 = .ok (.aload_n 0, 1) := dk_42 (dk_at dksX0_add_1 5 rfl rfl)
theorem dX0_add_29 : decode cX0_add 29 = .ok (.getfield 12, 3) := dk_180 0 12 (dk_at dksX0_add_1 6 rfl rfl)
theorem dX0_add_32 : decode cX0_add 32 = .ok (.getfield 65, 3) := dk_180 0 65 (dk_at dksX0_add_1 9 rfl rfl)
theorem dX0_add_35 : decode cX0_add 35 = .ok (.iload_n 1, 1) := dk_27 (dk_at dksX0_add_1 12 rfl rfl)
theorem dX0_add_36 : decode cX0_add 36 = .ok (.aaload, 1) := dk_50 (dk_at dksX0_add_1 13 rfl rfl)
theorem dX0_add_37 : decode cX0_add 37 = .ok (.aload_n 0, 1) := dk_42 (dk_at dksX0_add_1 14 rfl rfl)
theorem dX0_add_38 : decode cX0_add 38 = .ok (.getfield 19, 3) := dk_180 0 19 (dk_at dksX0_add_1 15 rfl rfl)
theorem dX0_add_41 : decode cX0_add 41 = .ok (.iload_n 2, 1) := dk_28 (dk_at dksX0_add_1 18 rfl rfl)
theorem dX0_add_42 : decode cX0_add 42 = .ok (.lload_n 3, 1) := dk_33 (dk_at dksX0_add_1 19 rfl rfl)
theorem dX0_add_43 : decode cX0_add 43 = .ok (.invokevirtual 80, 3) := dk_182 0 80 (dk_at dksX0_add_1 20 rfl rfl)
theorem dX0_add_46 : decode cX0_add 46 = .ok (.aload_n 0, 1) := dk_42 (dk_at dksX0_add_1 23 rfl rfl)
theorem dX0_add_47 : decode cX0_add 47 = .ok (.getfield 12, 3) := dk_180 0 12 (dk_at dksX0_add_2 0 rfl rfl)
theorem dX0_add_50 : decode cX0_add 50 = .ok (.getfield 65, 3) := dk_180 0 65 (dk_at dksX0_add_2 3 rfl rfl)
theorem dX0_add_53 : decode cX0_add 53 = .ok (.iload_n 1, 1) := dk_27 (dk_at dksX0_add_2 6 rfl rfl)
theorem dX0_add_54 : decode cX0_add 54 = .ok (.aaload, 1) := dk_50 (dk_at dksX0_add_2 7 rfl rfl)
theorem dX0_add_55 : decode cX0_add 55 = .ok (.getfield 69, 3) := dk_180 0 69 (dk_at dksX0_add_2 8 rfl rfl)
theorem dX0_add_58 : decode cX0_add 58 = .ok (.ireturn, 1) := dk_172 (dk_at dksX0_add_2 11 rfl rfl)
abbrev cX0_isLog : ByteArray := prog_1_method_7_code
def yX0_isLog : MethodName := ⟨RX0, "isLog", "(I)Z"⟩
def dkwX0_isLog_0 : List UInt8 := [27, 133, 9, 42, 180, 0, 12, 180, 0, 53, 4, 100, 133, 184, 0, 57, 172]
abbrev dktX0_isLog_0 : List UInt8 := dkwX0_isLog_0 ++ []
theorem dksX0_isLog_0 : cX0_isLog.data.toList.drop 0 = dktX0_isLog_0 := by decide +kernel
theorem dX0_isLog_0 : decode cX0_isLog 0 = .ok (.iload_n 1, 1) := dk_27 (dk_at dksX0_isLog_0 0 rfl rfl)
theorem dX0_isLog_1 : decode cX0_isLog 1 = .ok (.i2l, 1) := dk_133 (dk_at dksX0_isLog_0 1 rfl rfl)
theorem dX0_isLog_2 : decode cX0_isLog 2 = .ok (.lconst 0, 1) := dk_9 (dk_at dksX0_isLog_0 2 rfl rfl)
theorem dX0_isLog_3 : decode cX0_isLog 3 = .ok (.aload_n 0, 1) := dk_42 (dk_at dksX0_isLog_0 3 rfl rfl)
theorem dX0_isLog_4 : decode cX0_isLog 4 = .ok (.getfield 12, 3) := dk_180 0 12 (dk_at dksX0_isLog_0 4 rfl rfl)
theorem dX0_isLog_7 : decode cX0_isLog 7 = .ok (.getfield 53, 3) := dk_180 0 53 (dk_at dksX0_isLog_0 7 rfl rfl)
theorem dX0_isLog_10 : decode cX0_isLog 10 = .ok (.iconst 1, 1) := dk_4 (dk_at dksX0_isLog_0 10 rfl rfl)
theorem dX0_isLog_11 : decode cX0_isLog 11 = .ok (.isub, 1) := dk_100 (dk_at dksX0_isLog_0 11 rfl rfl)
theorem dX0_isLog_12 : decode cX0_isLog 12 = .ok (.i2l, 1) := dk_133 (dk_at dksX0_isLog_0 12 rfl rfl)
theorem dX0_isLog_13 : decode cX0_isLog 13 = .ok (.invokestatic 57, 3) := dk_184 0 57 (dk_at dksX0_isLog_0 13 rfl rfl)
theorem dX0_isLog_16 : decode cX0_isLog 16 = .ok (.ireturn, 1) := dk_172 (dk_at dksX0_isLog_0 16 rfl rfl)
abbrev cX0_fork : ByteArray := prog_1_method_11_code
def yX0_fork : MethodName := ⟨RX0, "fork", "(II)I"⟩
def dkwX0_fork_3 : List UInt8 := [4, 100, 172]
abbrev dktX0_fork_3 : List UInt8 := dkwX0_fork_3 ++ []
def dkwX0_fork_2 : List UInt8 := [3, 182, 0, 88, 42, 180, 0, 12, 89, 180, 0, 53, 4, 96, 181, 0, 53, 42, 180, 0, 12, 180, 0, 53]
abbrev dktX0_fork_2 : List UInt8 := dkwX0_fork_2 ++ dktX0_fork_3
def dkwX0_fork_1 : List UInt8 := [180, 0, 12, 180, 0, 65, 42, 180, 0, 12, 180, 0, 53, 50, 42, 180, 0, 12, 180, 0, 65, 27, 50, 28]
abbrev dktX0_fork_1 : List UInt8 := dkwX0_fork_1 ++ dktX0_fork_2
def dkwX0_fork_0 : List UInt8 := [42, 27, 28, 182, 0, 84, 153, 0, 15, 42, 180, 0, 12, 180, 0, 53, 16, 6, 160, 0, 5, 2, 172, 42]
abbrev dktX0_fork_0 : List UInt8 := dkwX0_fork_0 ++ dktX0_fork_1
theorem dksX0_fork_0 : cX0_fork.data.toList.drop 0 = dktX0_fork_0 := by decide +kernel
theorem dksX0_fork_1 : cX0_fork.data.toList.drop 24 = dktX0_fork_1 := dk_seg dksX0_fork_0 24 rfl rfl
theorem dksX0_fork_2 : cX0_fork.data.toList.drop 48 = dktX0_fork_2 := dk_seg dksX0_fork_1 24 rfl rfl
theorem dksX0_fork_3 : cX0_fork.data.toList.drop 72 = dktX0_fork_3 := dk_seg dksX0_fork_2 24 rfl rfl
theorem dX0_fork_0 : decode cX0_fork 0 = .ok (.aload_n 0, 1) := dk_42 (dk_at dksX0_fork_0 0 rfl rfl)
theorem dX0_fork_1 : decode cX0_fork 1 = .ok (.iload_n 1, 1) := dk_27 (dk_at dksX0_fork_0 1 rfl rfl)
theorem dX0_fork_2 : decode cX0_fork 2 = .ok (.iload_n 2, 1) := dk_28 (dk_at dksX0_fork_0 2 rfl rfl)
theorem dX0_fork_3 : decode cX0_fork 3 = .ok (.invokevirtual 84, 3) := dk_182 0 84 (dk_at dksX0_fork_0 3 rfl rfl)
theorem dX0_fork_6 : decode cX0_fork 6 = .ok (.ifCond .eq 15, 3) := dk_153 0 15 (dk_at dksX0_fork_0 6 rfl rfl)
theorem dX0_fork_9 : decode cX0_fork 9 = .ok (.aload_n 0, 1) := dk_42 (dk_at dksX0_fork_0 9 rfl rfl)
theorem dX0_fork_10 : decode cX0_fork 10 = .ok (.getfield 12, 3) := dk_180 0 12 (dk_at dksX0_fork_0 10 rfl rfl)
theorem dX0_fork_13 : decode cX0_fork 13 = .ok (.getfield 53, 3) := dk_180 0 53 (dk_at dksX0_fork_0 13 rfl rfl)
theorem dX0_fork_16 : decode cX0_fork 16 = .ok (.bipush 6, 2) := dk_16 6 (dk_at dksX0_fork_0 16 rfl rfl)
theorem dX0_fork_18 : decode cX0_fork 18 = .ok (.if_icmp .ne 5, 3) := dk_160 0 5 (dk_at dksX0_fork_0 18 rfl rfl)
theorem dX0_fork_21 : decode cX0_fork 21 = .ok (.iconst (-1), 1) := dk_2 (dk_at dksX0_fork_0 21 rfl rfl)
theorem dX0_fork_22 : decode cX0_fork 22 = .ok (.ireturn, 1) := dk_172 (dk_at dksX0_fork_0 22 rfl rfl)
theorem dX0_fork_23 : decode cX0_fork 23 = .ok (.aload_n 0, 1) := dk_42 (dk_at dksX0_fork_0 23 rfl rfl)
theorem dX0_fork_24 : decode cX0_fork 24 = .ok (.getfield 12, 3) := dk_180 0 12 (dk_at dksX0_fork_1 0 rfl rfl)
theorem dX0_fork_27 : decode cX0_fork 27 = .ok (.getfield 65, 3) := dk_180 0 65 (dk_at dksX0_fork_1 3 rfl rfl)
theorem dX0_fork_30 : decode cX0_fork 30 = .ok (.aload_n 0, 1) := dk_42 (dk_at dksX0_fork_1 6 rfl rfl)
theorem dX0_fork_31 : decode cX0_fork 31 = .ok (.getfield 12, 3) := dk_180 0 12 (dk_at dksX0_fork_1 7 rfl rfl)
theorem dX0_fork_34 : decode cX0_fork 34 = .ok (.getfield 53, 3) := dk_180 0 53 (dk_at dksX0_fork_1 10 rfl rfl)
theorem dX0_fork_37 : decode cX0_fork 37 = .ok (.aaload, 1) := dk_50 (dk_at dksX0_fork_1 13 rfl rfl)
theorem dX0_fork_38 : decode cX0_fork 38 = .ok (.aload_n 0, 1) := dk_42 (dk_at dksX0_fork_1 14 rfl rfl)
theorem dX0_fork_39 : decode cX0_fork 39 = .ok (.getfield 12, 3) := dk_180 0 12 (dk_at dksX0_fork_1 15 rfl rfl)
theorem dX0_fork_42 : decode cX0_fork 42 = .ok (.getfield 65, 3) := dk_180 0 65 (dk_at dksX0_fork_1 18 rfl rfl)
theorem dX0_fork_45 : decode cX0_fork 45 = .ok (.iload_n 1, 1) := dk_27 (dk_at dksX0_fork_1 21 rfl rfl)
theorem dX0_fork_46 : decode cX0_fork 46 = .ok (.aaload, 1) := dk_50 (dk_at dksX0_fork_1 22 rfl rfl)
theorem dX0_fork_47 : decode cX0_fork 47 = .ok (.iload_n 2, 1) := dk_28 (dk_at dksX0_fork_1 23 rfl rfl)
theorem dX0_fork_48 : decode cX0_fork 48 = .ok (.iconst 0, 1) := dk_3 (dk_at dksX0_fork_2 0 rfl rfl)
theorem dX0_fork_49 : decode cX0_fork 49 = .ok (.invokevirtual 88, 3) := dk_182 0 88 (dk_at dksX0_fork_2 1 rfl rfl)
theorem dX0_fork_52 : decode cX0_fork 52 = .ok (.aload_n 0, 1) := dk_42 (dk_at dksX0_fork_2 4 rfl rfl)
theorem dX0_fork_53 : decode cX0_fork 53 = .ok (.getfield 12, 3) := dk_180 0 12 (dk_at dksX0_fork_2 5 rfl rfl)
theorem dX0_fork_56 : decode cX0_fork 56 = .ok (.dup, 1) := dk_89 (dk_at dksX0_fork_2 8 rfl rfl)
theorem dX0_fork_57 : decode cX0_fork 57 = .ok (.getfield 53, 3) := dk_180 0 53 (dk_at dksX0_fork_2 9 rfl rfl)
theorem dX0_fork_60 : decode cX0_fork 60 = .ok (.iconst 1, 1) := dk_4 (dk_at dksX0_fork_2 12 rfl rfl)
theorem dX0_fork_61 : decode cX0_fork 61 = .ok (.iadd, 1) := dk_96 (dk_at dksX0_fork_2 13 rfl rfl)
theorem dX0_fork_62 : decode cX0_fork 62 = .ok (.putfield 53, 3) := dk_181 0 53 (dk_at dksX0_fork_2 14 rfl rfl)
theorem dX0_fork_65 : decode cX0_fork 65 = .ok (.aload_n 0, 1) := dk_42 (dk_at dksX0_fork_2 17 rfl rfl)
theorem dX0_fork_66 : decode cX0_fork 66 = .ok (.getfield 12, 3) := dk_180 0 12 (dk_at dksX0_fork_2 18 rfl rfl)
theorem dX0_fork_69 : decode cX0_fork 69 = .ok (.getfield 53, 3) := dk_180 0 53 (dk_at dksX0_fork_2 21 rfl rfl)
theorem dX0_fork_72 : decode cX0_fork 72 = .ok (.iconst 1, 1) := dk_4 (dk_at dksX0_fork_3 0 rfl rfl)
theorem dX0_fork_73 : decode cX0_fork 73 = .ok (.isub, 1) := dk_100 (dk_at dksX0_fork_3 1 rfl rfl)
theorem dX0_fork_74 : decode cX0_fork 74 = .ok (.ireturn, 1) := dk_172 (dk_at dksX0_fork_3 2 rfl rfl)
abbrev cX0_isCount : ByteArray := prog_1_method_8_code
def yX0_isCount : MethodName := ⟨RX0, "isCount", "(II)Z"⟩
def dkwX0_isCount_1 : List UInt8 := [184, 0, 57, 153, 0, 7, 4, 167, 0, 4, 3, 172]
abbrev dktX0_isCount_1 : List UInt8 := dkwX0_isCount_1 ++ []
def dkwX0_isCount_0 : List UInt8 := [42, 27, 182, 0, 61, 153, 0, 29, 28, 133, 9, 42, 180, 0, 12, 180, 0, 65, 27, 50, 180, 0, 69, 133]
abbrev dktX0_isCount_0 : List UInt8 := dkwX0_isCount_0 ++ dktX0_isCount_1
theorem dksX0_isCount_0 : cX0_isCount.data.toList.drop 0 = dktX0_isCount_0 := by decide +kernel
theorem dksX0_isCount_1 : cX0_isCount.data.toList.drop 24 = dktX0_isCount_1 := dk_seg dksX0_isCount_0 24 rfl rfl
theorem dX0_isCount_0 : decode cX0_isCount 0 = .ok (.aload_n 0, 1) := dk_42 (dk_at dksX0_isCount_0 0 rfl rfl)
theorem dX0_isCount_1 : decode cX0_isCount 1 = .ok (.iload_n 1, 1) := dk_27 (dk_at dksX0_isCount_0 1 rfl rfl)
theorem dX0_isCount_2 : decode cX0_isCount 2 = .ok (.invokevirtual 61, 3) := dk_182 0 61 (dk_at dksX0_isCount_0 2 rfl rfl)
theorem dX0_isCount_5 : decode cX0_isCount 5 = .ok (.ifCond .eq 29, 3) := dk_153 0 29 (dk_at dksX0_isCount_0 5 rfl rfl)
theorem dX0_isCount_8 : decode cX0_isCount 8 = .ok (.iload_n 2, 1) := dk_28 (dk_at dksX0_isCount_0 8 rfl rfl)
theorem dX0_isCount_9 : decode cX0_isCount 9 = .ok (.i2l, 1) := dk_133 (dk_at dksX0_isCount_0 9 rfl rfl)
theorem dX0_isCount_10 : decode cX0_isCount 10 = .ok (.lconst 0, 1) := dk_9 (dk_at dksX0_isCount_0 10 rfl rfl)
theorem dX0_isCount_11 : decode cX0_isCount 11 = .ok (.aload_n 0, 1) := dk_42 (dk_at dksX0_isCount_0 11 rfl rfl)
theorem dX0_isCount_12 : decode cX0_isCount 12 = .ok (.getfield 12, 3) := dk_180 0 12 (dk_at dksX0_isCount_0 12 rfl rfl)
theorem dX0_isCount_15 : decode cX0_isCount 15 = .ok (.getfield 65, 3) := dk_180 0 65 (dk_at dksX0_isCount_0 15 rfl rfl)
theorem dX0_isCount_18 : decode cX0_isCount 18 = .ok (.iload_n 1, 1) := dk_27 (dk_at dksX0_isCount_0 18 rfl rfl)
theorem dX0_isCount_19 : decode cX0_isCount 19 = .ok (.aaload, 1) := dk_50 (dk_at dksX0_isCount_0 19 rfl rfl)
theorem dX0_isCount_20 : decode cX0_isCount 20 = .ok (.getfield 69, 3) := dk_180 0 69 (dk_at dksX0_isCount_0 20 rfl rfl)
theorem dX0_isCount_23 : decode cX0_isCount 23 = .ok (.i2l, 1) := dk_133 (dk_at dksX0_isCount_0 23 rfl rfl)
theorem dX0_isCount_24 : decode cX0_isCount 24 = .ok (.invokestatic 57, 3) := dk_184 0 57 (dk_at dksX0_isCount_1 0 rfl rfl)
theorem dX0_isCount_27 : decode cX0_isCount 27 = .ok (.ifCond .eq 7, 3) := dk_153 0 7 (dk_at dksX0_isCount_1 3 rfl rfl)
theorem dX0_isCount_30 : decode cX0_isCount 30 = .ok (.iconst 1, 1) := dk_4 (dk_at dksX0_isCount_1 6 rfl rfl)
theorem dX0_isCount_31 : decode cX0_isCount 31 = .ok (.goto 4, 3) := dk_167 0 4 (dk_at dksX0_isCount_1 7 rfl rfl)
theorem dX0_isCount_34 : decode cX0_isCount 34 = .ok (.iconst 0, 1) := dk_3 (dk_at dksX0_isCount_1 10 rfl rfl)
theorem dX0_isCount_35 : decode cX0_isCount 35 = .ok (.ireturn, 1) := dk_172 (dk_at dksX0_isCount_1 11 rfl rfl)
abbrev cX0_hide : ByteArray := prog_1_method_12_code
def yX0_hide : MethodName := ⟨RX0, "hide", "(II)Z"⟩
def dkwX0_hide_1 : List UInt8 := [153, 0, 7, 4, 167, 0, 4, 3, 172]
abbrev dktX0_hide_1 : List UInt8 := dkwX0_hide_1 ++ []
def dkwX0_hide_0 : List UInt8 := [42, 27, 182, 0, 61, 153, 0, 24, 42, 180, 0, 12, 180, 0, 65, 27, 50, 28, 3, 182, 0, 92]
abbrev dktX0_hide_0 : List UInt8 := dkwX0_hide_0 ++ dktX0_hide_1
theorem dksX0_hide_0 : cX0_hide.data.toList.drop 0 = dktX0_hide_0 := by decide +kernel
theorem dksX0_hide_1 : cX0_hide.data.toList.drop 22 = dktX0_hide_1 := dk_seg dksX0_hide_0 22 rfl rfl
theorem dX0_hide_0 : decode cX0_hide 0 = .ok (.aload_n 0, 1) := dk_42 (dk_at dksX0_hide_0 0 rfl rfl)
theorem dX0_hide_1 : decode cX0_hide 1 = .ok (.iload_n 1, 1) := dk_27 (dk_at dksX0_hide_0 1 rfl rfl)
theorem dX0_hide_2 : decode cX0_hide 2 = .ok (.invokevirtual 61, 3) := dk_182 0 61 (dk_at dksX0_hide_0 2 rfl rfl)
theorem dX0_hide_5 : decode cX0_hide 5 = .ok (.ifCond .eq 24, 3) := dk_153 0 24 (dk_at dksX0_hide_0 5 rfl rfl)
theorem dX0_hide_8 : decode cX0_hide 8 = .ok (.aload_n 0, 1) := dk_42 (dk_at dksX0_hide_0 8 rfl rfl)
theorem dX0_hide_9 : decode cX0_hide 9 = .ok (.getfield 12, 3) := dk_180 0 12 (dk_at dksX0_hide_0 9 rfl rfl)
theorem dX0_hide_12 : decode cX0_hide 12 = .ok (.getfield 65, 3) := dk_180 0 65 (dk_at dksX0_hide_0 12 rfl rfl)
theorem dX0_hide_15 : decode cX0_hide 15 = .ok (.iload_n 1, 1) := dk_27 (dk_at dksX0_hide_0 15 rfl rfl)
theorem dX0_hide_16 : decode cX0_hide 16 = .ok (.aaload, 1) := dk_50 (dk_at dksX0_hide_0 16 rfl rfl)
theorem dX0_hide_17 : decode cX0_hide 17 = .ok (.iload_n 2, 1) := dk_28 (dk_at dksX0_hide_0 17 rfl rfl)
theorem dX0_hide_18 : decode cX0_hide 18 = .ok (.iconst 0, 1) := dk_3 (dk_at dksX0_hide_0 18 rfl rfl)
theorem dX0_hide_19 : decode cX0_hide 19 = .ok (.invokevirtual 92, 3) := dk_182 0 92 (dk_at dksX0_hide_0 19 rfl rfl)
theorem dX0_hide_22 : decode cX0_hide 22 = .ok (.ifCond .eq 7, 3) := dk_153 0 7 (dk_at dksX0_hide_1 0 rfl rfl)
theorem dX0_hide_25 : decode cX0_hide 25 = .ok (.iconst 1, 1) := dk_4 (dk_at dksX0_hide_1 3 rfl rfl)
theorem dX0_hide_26 : decode cX0_hide 26 = .ok (.goto 4, 3) := dk_167 0 4 (dk_at dksX0_hide_1 4 rfl rfl)
theorem dX0_hide_29 : decode cX0_hide 29 = .ok (.iconst 0, 1) := dk_3 (dk_at dksX0_hide_1 7 rfl rfl)
theorem dX0_hide_30 : decode cX0_hide 30 = .ok (.ireturn, 1) := dk_172 (dk_at dksX0_hide_1 8 rfl rfl)
abbrev cX0_lag : ByteArray := prog_1_method_13_code
def yX0_lag : MethodName := ⟨RX0, "lag", "(II)Z"⟩
def dkwX0_lag_1 : List UInt8 := [153, 0, 7, 4, 167, 0, 4, 3, 172]
abbrev dktX0_lag_1 : List UInt8 := dkwX0_lag_1 ++ []
def dkwX0_lag_0 : List UInt8 := [42, 27, 182, 0, 61, 153, 0, 24, 42, 180, 0, 12, 180, 0, 65, 27, 50, 28, 4, 182, 0, 92]
abbrev dktX0_lag_0 : List UInt8 := dkwX0_lag_0 ++ dktX0_lag_1
theorem dksX0_lag_0 : cX0_lag.data.toList.drop 0 = dktX0_lag_0 := by decide +kernel
theorem dksX0_lag_1 : cX0_lag.data.toList.drop 22 = dktX0_lag_1 := dk_seg dksX0_lag_0 22 rfl rfl
theorem dX0_lag_0 : decode cX0_lag 0 = .ok (.aload_n 0, 1) := dk_42 (dk_at dksX0_lag_0 0 rfl rfl)
theorem dX0_lag_1 : decode cX0_lag 1 = .ok (.iload_n 1, 1) := dk_27 (dk_at dksX0_lag_0 1 rfl rfl)
theorem dX0_lag_2 : decode cX0_lag 2 = .ok (.invokevirtual 61, 3) := dk_182 0 61 (dk_at dksX0_lag_0 2 rfl rfl)
theorem dX0_lag_5 : decode cX0_lag 5 = .ok (.ifCond .eq 24, 3) := dk_153 0 24 (dk_at dksX0_lag_0 5 rfl rfl)
theorem dX0_lag_8 : decode cX0_lag 8 = .ok (.aload_n 0, 1) := dk_42 (dk_at dksX0_lag_0 8 rfl rfl)
theorem dX0_lag_9 : decode cX0_lag 9 = .ok (.getfield 12, 3) := dk_180 0 12 (dk_at dksX0_lag_0 9 rfl rfl)
theorem dX0_lag_12 : decode cX0_lag 12 = .ok (.getfield 65, 3) := dk_180 0 65 (dk_at dksX0_lag_0 12 rfl rfl)
theorem dX0_lag_15 : decode cX0_lag 15 = .ok (.iload_n 1, 1) := dk_27 (dk_at dksX0_lag_0 15 rfl rfl)
theorem dX0_lag_16 : decode cX0_lag 16 = .ok (.aaload, 1) := dk_50 (dk_at dksX0_lag_0 16 rfl rfl)
theorem dX0_lag_17 : decode cX0_lag 17 = .ok (.iload_n 2, 1) := dk_28 (dk_at dksX0_lag_0 17 rfl rfl)
theorem dX0_lag_18 : decode cX0_lag 18 = .ok (.iconst 1, 1) := dk_4 (dk_at dksX0_lag_0 18 rfl rfl)
theorem dX0_lag_19 : decode cX0_lag 19 = .ok (.invokevirtual 92, 3) := dk_182 0 92 (dk_at dksX0_lag_0 19 rfl rfl)
theorem dX0_lag_22 : decode cX0_lag 22 = .ok (.ifCond .eq 7, 3) := dk_153 0 7 (dk_at dksX0_lag_1 0 rfl rfl)
theorem dX0_lag_25 : decode cX0_lag 25 = .ok (.iconst 1, 1) := dk_4 (dk_at dksX0_lag_1 3 rfl rfl)
theorem dX0_lag_26 : decode cX0_lag 26 = .ok (.goto 4, 3) := dk_167 0 4 (dk_at dksX0_lag_1 4 rfl rfl)
theorem dX0_lag_29 : decode cX0_lag 29 = .ok (.iconst 0, 1) := dk_3 (dk_at dksX0_lag_1 7 rfl rfl)
theorem dX0_lag_30 : decode cX0_lag 30 = .ok (.ireturn, 1) := dk_172 (dk_at dksX0_lag_1 8 rfl rfl)
abbrev cX0_prune : ByteArray := prog_1_method_14_code
def yX0_prune : MethodName := ⟨RX0, "prune", "(II)I"⟩
def dkwX0_prune_3 : List UInt8 := [167, 255, 213, 21, 4, 172]
abbrev dktX0_prune_3 : List UInt8 := dkwX0_prune_3 ++ []
def dkwX0_prune_2 : List UInt8 := [21, 5, 51, 153, 0, 6, 167, 0, 14, 45, 180, 0, 96, 21, 5, 4, 84, 132, 4, 1, 132, 5, 1]
abbrev dktX0_prune_2 : List UInt8 := dkwX0_prune_2 ++ dktX0_prune_3
def dkwX0_prune_1 : List UInt8 := [3, 54, 5, 21, 5, 28, 162, 0, 43, 45, 180, 0, 96, 21, 5, 51, 154, 0, 27, 45, 180, 0, 100]
abbrev dktX0_prune_1 : List UInt8 := dkwX0_prune_1 ++ dktX0_prune_2
def dkwX0_prune_0 : List UInt8 := [42, 27, 28, 182, 0, 84, 154, 0, 5, 2, 172, 42, 180, 0, 12, 180, 0, 65, 27, 50, 78, 3, 54, 4]
abbrev dktX0_prune_0 : List UInt8 := dkwX0_prune_0 ++ dktX0_prune_1
theorem dksX0_prune_0 : cX0_prune.data.toList.drop 0 = dktX0_prune_0 := by decide +kernel
theorem dksX0_prune_1 : cX0_prune.data.toList.drop 24 = dktX0_prune_1 := dk_seg dksX0_prune_0 24 rfl rfl
theorem dksX0_prune_2 : cX0_prune.data.toList.drop 47 = dktX0_prune_2 := dk_seg dksX0_prune_1 23 rfl rfl
theorem dksX0_prune_3 : cX0_prune.data.toList.drop 70 = dktX0_prune_3 := dk_seg dksX0_prune_2 23 rfl rfl
theorem dX0_prune_0 : decode cX0_prune 0 = .ok (.aload_n 0, 1) := dk_42 (dk_at dksX0_prune_0 0 rfl rfl)
theorem dX0_prune_1 : decode cX0_prune 1 = .ok (.iload_n 1, 1) := dk_27 (dk_at dksX0_prune_0 1 rfl rfl)
theorem dX0_prune_2 : decode cX0_prune 2 = .ok (.iload_n 2, 1) := dk_28 (dk_at dksX0_prune_0 2 rfl rfl)
theorem dX0_prune_3 : decode cX0_prune 3 = .ok (.invokevirtual 84, 3) := dk_182 0 84 (dk_at dksX0_prune_0 3 rfl rfl)
theorem dX0_prune_6 : decode cX0_prune 6 = .ok (.ifCond .ne 5, 3) := dk_154 0 5 (dk_at dksX0_prune_0 6 rfl rfl)
theorem dX0_prune_9 : decode cX0_prune 9 = .ok (.iconst (-1), 1) := dk_2 (dk_at dksX0_prune_0 9 rfl rfl)
theorem dX0_prune_10 : decode cX0_prune 10 = .ok (.ireturn, 1) := dk_172 (dk_at dksX0_prune_0 10 rfl rfl)
theorem dX0_prune_11 : decode cX0_prune 11 = .ok (.aload_n 0, 1) := dk_42 (dk_at dksX0_prune_0 11 rfl rfl)
theorem dX0_prune_12 : decode cX0_prune 12 = .ok (.getfield 12, 3) := dk_180 0 12 (dk_at dksX0_prune_0 12 rfl rfl)
theorem dX0_prune_15 : decode cX0_prune 15 = .ok (.getfield 65, 3) := dk_180 0 65 (dk_at dksX0_prune_0 15 rfl rfl)
theorem dX0_prune_18 : decode cX0_prune 18 = .ok (.iload_n 1, 1) := dk_27 (dk_at dksX0_prune_0 18 rfl rfl)
theorem dX0_prune_19 : decode cX0_prune 19 = .ok (.aaload, 1) := dk_50 (dk_at dksX0_prune_0 19 rfl rfl)
theorem dX0_prune_20 : decode cX0_prune 20 = .ok (.astore_n 3, 1) := dk_78 (dk_at dksX0_prune_0 20 rfl rfl)
theorem dX0_prune_21 : decode cX0_prune 21 = .ok (.iconst 0, 1) := dk_3 (dk_at dksX0_prune_0 21 rfl rfl)
theorem dX0_prune_22 : decode cX0_prune 22 = .ok (.istore 4, 2) := dk_54 4 (dk_at dksX0_prune_0 22 rfl rfl)
theorem dX0_prune_24 : decode cX0_prune 24 = .ok (.iconst 0, 1) := dk_3 (dk_at dksX0_prune_1 0 rfl rfl)
theorem dX0_prune_25 : decode cX0_prune 25 = .ok (.istore 5, 2) := dk_54 5 (dk_at dksX0_prune_1 1 rfl rfl)
theorem dX0_prune_27 : decode cX0_prune 27 = .ok (.iload 5, 2) := dk_21 5 (dk_at dksX0_prune_1 3 rfl rfl)
theorem dX0_prune_29 : decode cX0_prune 29 = .ok (.iload_n 2, 1) := dk_28 (dk_at dksX0_prune_1 5 rfl rfl)
theorem dX0_prune_30 : decode cX0_prune 30 = .ok (.if_icmp .ge 43, 3) := dk_162 0 43 (dk_at dksX0_prune_1 6 rfl rfl)
theorem dX0_prune_33 : decode cX0_prune 33 = .ok (.aload_n 3, 1) := dk_45 (dk_at dksX0_prune_1 9 rfl rfl)
theorem dX0_prune_34 : decode cX0_prune 34 = .ok (.getfield 96, 3) := dk_180 0 96 (dk_at dksX0_prune_1 10 rfl rfl)
theorem dX0_prune_37 : decode cX0_prune 37 = .ok (.iload 5, 2) := dk_21 5 (dk_at dksX0_prune_1 13 rfl rfl)
theorem dX0_prune_39 : decode cX0_prune 39 = .ok (.baload, 1) := dk_51 (dk_at dksX0_prune_1 15 rfl rfl)
theorem dX0_prune_40 : decode cX0_prune 40 = .ok (.ifCond .ne 27, 3) := dk_154 0 27 (dk_at dksX0_prune_1 16 rfl rfl)
theorem dX0_prune_43 : decode cX0_prune 43 = .ok (.aload_n 3, 1) := dk_45 (dk_at dksX0_prune_1 19 rfl rfl)
theorem dX0_prune_44 : decode cX0_prune 44 = .ok (.getfield 100, 3) := dk_180 0 100 (dk_at dksX0_prune_1 20 rfl rfl)
theorem dX0_prune_47 : decode cX0_prune 47 = .ok (.iload 5, 2) := dk_21 5 (dk_at dksX0_prune_2 0 rfl rfl)
theorem dX0_prune_49 : decode cX0_prune 49 = .ok (.baload, 1) := dk_51 (dk_at dksX0_prune_2 2 rfl rfl)
theorem dX0_prune_50 : decode cX0_prune 50 = .ok (.ifCond .eq 6, 3) := dk_153 0 6 (dk_at dksX0_prune_2 3 rfl rfl)
theorem dX0_prune_53 : decode cX0_prune 53 = .ok (.goto 14, 3) := dk_167 0 14 (dk_at dksX0_prune_2 6 rfl rfl)
theorem dX0_prune_56 : decode cX0_prune 56 = .ok (.aload_n 3, 1) := dk_45 (dk_at dksX0_prune_2 9 rfl rfl)
theorem dX0_prune_57 : decode cX0_prune 57 = .ok (.getfield 96, 3) := dk_180 0 96 (dk_at dksX0_prune_2 10 rfl rfl)
theorem dX0_prune_60 : decode cX0_prune 60 = .ok (.iload 5, 2) := dk_21 5 (dk_at dksX0_prune_2 13 rfl rfl)
theorem dX0_prune_62 : decode cX0_prune 62 = .ok (.iconst 1, 1) := dk_4 (dk_at dksX0_prune_2 15 rfl rfl)
theorem dX0_prune_63 : decode cX0_prune 63 = .ok (.bastore, 1) := dk_84 (dk_at dksX0_prune_2 16 rfl rfl)
theorem dX0_prune_64 : decode cX0_prune 64 = .ok (.iinc 4 1, 3) := dk_132 4 1 (dk_at dksX0_prune_2 17 rfl rfl)
theorem dX0_prune_67 : decode cX0_prune 67 = .ok (.iinc 5 1, 3) := dk_132 5 1 (dk_at dksX0_prune_2 20 rfl rfl)
theorem dX0_prune_70 : decode cX0_prune 70 = .ok (.goto (-43), 3) := dk_167 255 213 (dk_at dksX0_prune_3 0 rfl rfl)
theorem dX0_prune_73 : decode cX0_prune 73 = .ok (.iload 4, 2) := dk_21 4 (dk_at dksX0_prune_3 3 rfl rfl)
theorem dX0_prune_75 : decode cX0_prune 75 = .ok (.ireturn, 1) := dk_172 (dk_at dksX0_prune_3 5 rfl rfl)
abbrev cX0_keep : ByteArray := prog_1_method_15_code
def yX0_keep : MethodName := ⟨RX0, "keep", "(II)Z"⟩
def dkwX0_keep_2 : List UInt8 := [153, 0, 5, 3, 172, 42, 180, 0, 12, 180, 0, 65, 27, 50, 180, 0, 100, 28, 4, 84, 4, 172]
abbrev dktX0_keep_2 : List UInt8 := dkwX0_keep_2 ++ []
def dkwX0_keep_1 : List UInt8 := [100, 133, 184, 0, 57, 153, 0, 20, 42, 180, 0, 12, 180, 0, 65, 27, 50, 180, 0, 96, 28, 51]
abbrev dktX0_keep_1 : List UInt8 := dkwX0_keep_1 ++ dktX0_keep_2
def dkwX0_keep_0 : List UInt8 := [42, 27, 182, 0, 61, 153, 0, 44, 28, 133, 9, 42, 180, 0, 12, 180, 0, 65, 27, 50, 180, 0, 69, 4]
abbrev dktX0_keep_0 : List UInt8 := dkwX0_keep_0 ++ dktX0_keep_1
theorem dksX0_keep_0 : cX0_keep.data.toList.drop 0 = dktX0_keep_0 := by decide +kernel
theorem dksX0_keep_1 : cX0_keep.data.toList.drop 24 = dktX0_keep_1 := dk_seg dksX0_keep_0 24 rfl rfl
theorem dksX0_keep_2 : cX0_keep.data.toList.drop 46 = dktX0_keep_2 := dk_seg dksX0_keep_1 22 rfl rfl
theorem dX0_keep_0 : decode cX0_keep 0 = .ok (.aload_n 0, 1) := dk_42 (dk_at dksX0_keep_0 0 rfl rfl)
theorem dX0_keep_1 : decode cX0_keep 1 = .ok (.iload_n 1, 1) := dk_27 (dk_at dksX0_keep_0 1 rfl rfl)
theorem dX0_keep_2 : decode cX0_keep 2 = .ok (.invokevirtual 61, 3) := dk_182 0 61 (dk_at dksX0_keep_0 2 rfl rfl)
theorem dX0_keep_5 : decode cX0_keep 5 = .ok (.ifCond .eq 44, 3) := dk_153 0 44 (dk_at dksX0_keep_0 5 rfl rfl)
theorem dX0_keep_8 : decode cX0_keep 8 = .ok (.iload_n 2, 1) := dk_28 (dk_at dksX0_keep_0 8 rfl rfl)
theorem dX0_keep_9 : decode cX0_keep 9 = .ok (.i2l, 1) := dk_133 (dk_at dksX0_keep_0 9 rfl rfl)
theorem dX0_keep_10 : decode cX0_keep 10 = .ok (.lconst 0, 1) := dk_9 (dk_at dksX0_keep_0 10 rfl rfl)
theorem dX0_keep_11 : decode cX0_keep 11 = .ok (.aload_n 0, 1) := dk_42 (dk_at dksX0_keep_0 11 rfl rfl)
theorem dX0_keep_12 : decode cX0_keep 12 = .ok (.getfield 12, 3) := dk_180 0 12 (dk_at dksX0_keep_0 12 rfl rfl)
theorem dX0_keep_15 : decode cX0_keep 15 = .ok (.getfield 65, 3) := dk_180 0 65 (dk_at dksX0_keep_0 15 rfl rfl)
theorem dX0_keep_18 : decode cX0_keep 18 = .ok (.iload_n 1, 1) := dk_27 (dk_at dksX0_keep_0 18 rfl rfl)
theorem dX0_keep_19 : decode cX0_keep 19 = .ok (.aaload, 1) := dk_50 (dk_at dksX0_keep_0 19 rfl rfl)
theorem dX0_keep_20 : decode cX0_keep 20 = .ok (.getfield 69, 3) := dk_180 0 69 (dk_at dksX0_keep_0 20 rfl rfl)
theorem dX0_keep_23 : decode cX0_keep 23 = .ok (.iconst 1, 1) := dk_4 (dk_at dksX0_keep_0 23 rfl rfl)
theorem dX0_keep_24 : decode cX0_keep 24 = .ok (.isub, 1) := dk_100 (dk_at dksX0_keep_1 0 rfl rfl)
theorem dX0_keep_25 : decode cX0_keep 25 = .ok (.i2l, 1) := dk_133 (dk_at dksX0_keep_1 1 rfl rfl)
theorem dX0_keep_26 : decode cX0_keep 26 = .ok (.invokestatic 57, 3) := dk_184 0 57 (dk_at dksX0_keep_1 2 rfl rfl)
theorem dX0_keep_29 : decode cX0_keep 29 = .ok (.ifCond .eq 20, 3) := dk_153 0 20 (dk_at dksX0_keep_1 5 rfl rfl)
theorem dX0_keep_32 : decode cX0_keep 32 = .ok (.aload_n 0, 1) := dk_42 (dk_at dksX0_keep_1 8 rfl rfl)
theorem dX0_keep_33 : decode cX0_keep 33 = .ok (.getfield 12, 3) := dk_180 0 12 (dk_at dksX0_keep_1 9 rfl rfl)
theorem dX0_keep_36 : decode cX0_keep 36 = .ok (.getfield 65, 3) := dk_180 0 65 (dk_at dksX0_keep_1 12 rfl rfl)
theorem dX0_keep_39 : decode cX0_keep 39 = .ok (.iload_n 1, 1) := dk_27 (dk_at dksX0_keep_1 15 rfl rfl)
theorem dX0_keep_40 : decode cX0_keep 40 = .ok (.aaload, 1) := dk_50 (dk_at dksX0_keep_1 16 rfl rfl)
theorem dX0_keep_41 : decode cX0_keep 41 = .ok (.getfield 96, 3) := dk_180 0 96 (dk_at dksX0_keep_1 17 rfl rfl)
theorem dX0_keep_44 : decode cX0_keep 44 = .ok (.iload_n 2, 1) := dk_28 (dk_at dksX0_keep_1 20 rfl rfl)
theorem dX0_keep_45 : decode cX0_keep 45 = .ok (.baload, 1) := dk_51 (dk_at dksX0_keep_1 21 rfl rfl)
theorem dX0_keep_46 : decode cX0_keep 46 = .ok (.ifCond .eq 5, 3) := dk_153 0 5 (dk_at dksX0_keep_2 0 rfl rfl)
theorem dX0_keep_49 : decode cX0_keep 49 = .ok (.iconst 0, 1) := dk_3 (dk_at dksX0_keep_2 3 rfl rfl)
theorem dX0_keep_50 : decode cX0_keep 50 = .ok (.ireturn, 1) := dk_172 (dk_at dksX0_keep_2 4 rfl rfl)
theorem dX0_keep_51 : decode cX0_keep 51 = .ok (.aload_n 0, 1) := dk_42 (dk_at dksX0_keep_2 5 rfl rfl)
theorem dX0_keep_52 : decode cX0_keep 52 = .ok (.getfield 12, 3) := dk_180 0 12 (dk_at dksX0_keep_2 6 rfl rfl)
theorem dX0_keep_55 : decode cX0_keep 55 = .ok (.getfield 65, 3) := dk_180 0 65 (dk_at dksX0_keep_2 9 rfl rfl)
theorem dX0_keep_58 : decode cX0_keep 58 = .ok (.iload_n 1, 1) := dk_27 (dk_at dksX0_keep_2 12 rfl rfl)
theorem dX0_keep_59 : decode cX0_keep 59 = .ok (.aaload, 1) := dk_50 (dk_at dksX0_keep_2 13 rfl rfl)
theorem dX0_keep_60 : decode cX0_keep 60 = .ok (.getfield 100, 3) := dk_180 0 100 (dk_at dksX0_keep_2 14 rfl rfl)
theorem dX0_keep_63 : decode cX0_keep 63 = .ok (.iload_n 2, 1) := dk_28 (dk_at dksX0_keep_2 17 rfl rfl)
theorem dX0_keep_64 : decode cX0_keep 64 = .ok (.iconst 1, 1) := dk_4 (dk_at dksX0_keep_2 18 rfl rfl)
theorem dX0_keep_65 : decode cX0_keep 65 = .ok (.bastore, 1) := dk_84 (dk_at dksX0_keep_2 19 rfl rfl)
theorem dX0_keep_66 : decode cX0_keep 66 = .ok (.iconst 1, 1) := dk_4 (dk_at dksX0_keep_2 20 rfl rfl)
theorem dX0_keep_67 : decode cX0_keep 67 = .ok (.ireturn, 1) := dk_172 (dk_at dksX0_keep_2 21 rfl rfl)
abbrev cX0_count : ByteArray := prog_1_method_16_code
def yX0_count : MethodName := ⟨RX0, "count", "(II)I"⟩
def dkwX0_count_7 : List UInt8 := [167, 255, 214, 21, 4, 172, 2, 172]
abbrev dktX0_count_7 : List UInt8 := dkwX0_count_7 ++ []
def dkwX0_count_6 : List UInt8 := [160, 0, 7, 4, 167, 0, 4, 3, 160, 0, 7, 4, 167, 0, 4, 3, 96, 54, 4, 132, 5, 1]
abbrev dktX0_count_6 : List UInt8 := dkwX0_count_6 ++ dktX0_count_7
def dkwX0_count_5 : List UInt8 := [3, 54, 5, 21, 5, 45, 180, 0, 111, 162, 0, 39, 21, 4, 45, 180, 0, 114, 21, 5, 51, 28, 8]
abbrev dktX0_count_5 : List UInt8 := dkwX0_count_5 ++ dktX0_count_6
def dkwX0_count_4 : List UInt8 := [180, 0, 103, 172, 42, 180, 0, 35, 45, 45, 180, 0, 69, 182, 0, 106, 42, 180, 0, 35, 180, 0, 110, 172]
abbrev dktX0_count_4 : List UInt8 := dkwX0_count_4 ++ dktX0_count_5
def dkwX0_count_3 : List UInt8 := [21, 5, 51, 153, 0, 7, 4, 167, 0, 4, 3, 96, 54, 4, 132, 5, 1, 167, 255, 224, 21, 4, 172, 45]
abbrev dktX0_count_3 : List UInt8 := dkwX0_count_3 ++ dktX0_count_4
def dkwX0_count_2 : List UInt8 := [45, 180, 0, 69, 172, 3, 54, 5, 21, 5, 45, 180, 0, 69, 162, 0, 29, 21, 4, 45, 180, 0, 96]
abbrev dktX0_count_2 : List UInt8 := dkwX0_count_2 ++ dktX0_count_3
def dkwX0_count_1 : List UInt8 := [170, 0, 0, 0, 0, 0, 0, 162, 0, 0, 0, 0, 0, 0, 0, 5, 0, 0, 0, 40, 0, 0, 0, 45, 0, 0, 0, 86, 0, 0, 0, 91, 0, 0, 0, 111, 0, 0, 0, 111]
abbrev dktX0_count_1 : List UInt8 := dkwX0_count_1 ++ dktX0_count_2
def dkwX0_count_0 : List UInt8 := [42, 27, 182, 0, 61, 154, 0, 5, 2, 172, 42, 180, 0, 12, 180, 0, 65, 27, 50, 78, 3, 54, 4, 28]
abbrev dktX0_count_0 : List UInt8 := dkwX0_count_0 ++ dktX0_count_1
theorem dksX0_count_0 : cX0_count.data.toList.drop 0 = dktX0_count_0 := by decide +kernel
theorem dksX0_count_1 : cX0_count.data.toList.drop 24 = dktX0_count_1 := dk_seg dksX0_count_0 24 rfl rfl
theorem dksX0_count_2 : cX0_count.data.toList.drop 64 = dktX0_count_2 := dk_seg dksX0_count_1 40 rfl rfl
theorem dksX0_count_3 : cX0_count.data.toList.drop 87 = dktX0_count_3 := dk_seg dksX0_count_2 23 rfl rfl
theorem dksX0_count_4 : cX0_count.data.toList.drop 111 = dktX0_count_4 := dk_seg dksX0_count_3 24 rfl rfl
theorem dksX0_count_5 : cX0_count.data.toList.drop 135 = dktX0_count_5 := dk_seg dksX0_count_4 24 rfl rfl
theorem dksX0_count_6 : cX0_count.data.toList.drop 158 = dktX0_count_6 := dk_seg dksX0_count_5 23 rfl rfl
theorem dksX0_count_7 : cX0_count.data.toList.drop 180 = dktX0_count_7 := dk_seg dksX0_count_6 22 rfl rfl
theorem dX0_count_0 : decode cX0_count 0 = .ok (.aload_n 0, 1) := dk_42 (dk_at dksX0_count_0 0 rfl rfl)
theorem dX0_count_1 : decode cX0_count 1 = .ok (.iload_n 1, 1) := dk_27 (dk_at dksX0_count_0 1 rfl rfl)
theorem dX0_count_2 : decode cX0_count 2 = .ok (.invokevirtual 61, 3) := dk_182 0 61 (dk_at dksX0_count_0 2 rfl rfl)
theorem dX0_count_5 : decode cX0_count 5 = .ok (.ifCond .ne 5, 3) := dk_154 0 5 (dk_at dksX0_count_0 5 rfl rfl)
theorem dX0_count_8 : decode cX0_count 8 = .ok (.iconst (-1), 1) := dk_2 (dk_at dksX0_count_0 8 rfl rfl)
theorem dX0_count_9 : decode cX0_count 9 = .ok (.ireturn, 1) := dk_172 (dk_at dksX0_count_0 9 rfl rfl)
theorem dX0_count_10 : decode cX0_count 10 = .ok (.aload_n 0, 1) := dk_42 (dk_at dksX0_count_0 10 rfl rfl)
theorem dX0_count_11 : decode cX0_count 11 = .ok (.getfield 12, 3) := dk_180 0 12 (dk_at dksX0_count_0 11 rfl rfl)
theorem dX0_count_14 : decode cX0_count 14 = .ok (.getfield 65, 3) := dk_180 0 65 (dk_at dksX0_count_0 14 rfl rfl)
theorem dX0_count_17 : decode cX0_count 17 = .ok (.iload_n 1, 1) := dk_27 (dk_at dksX0_count_0 17 rfl rfl)
theorem dX0_count_18 : decode cX0_count 18 = .ok (.aaload, 1) := dk_50 (dk_at dksX0_count_0 18 rfl rfl)
theorem dX0_count_19 : decode cX0_count 19 = .ok (.astore_n 3, 1) := dk_78 (dk_at dksX0_count_0 19 rfl rfl)
theorem dX0_count_20 : decode cX0_count 20 = .ok (.iconst 0, 1) := dk_3 (dk_at dksX0_count_0 20 rfl rfl)
theorem dX0_count_21 : decode cX0_count 21 = .ok (.istore 4, 2) := dk_54 4 (dk_at dksX0_count_0 21 rfl rfl)
theorem dX0_count_23 : decode cX0_count 23 = .ok (.iload_n 2, 1) := dk_28 (dk_at dksX0_count_0 23 rfl rfl)
theorem dX0_count_24 : decode cX0_count 24 = .ok (.tableswitch 162 0 5 #[40, 45, 86, 91, 111, 111], 40) := by decide +kernel
theorem dX0_count_64 : decode cX0_count 64 = .ok (.aload_n 3, 1) := dk_45 (dk_at dksX0_count_2 0 rfl rfl)
theorem dX0_count_65 : decode cX0_count 65 = .ok (.getfield 69, 3) := dk_180 0 69 (dk_at dksX0_count_2 1 rfl rfl)
theorem dX0_count_68 : decode cX0_count 68 = .ok (.ireturn, 1) := dk_172 (dk_at dksX0_count_2 4 rfl rfl)
theorem dX0_count_69 : decode cX0_count 69 = .ok (.iconst 0, 1) := dk_3 (dk_at dksX0_count_2 5 rfl rfl)
theorem dX0_count_70 : decode cX0_count 70 = .ok (.istore 5, 2) := dk_54 5 (dk_at dksX0_count_2 6 rfl rfl)
theorem dX0_count_72 : decode cX0_count 72 = .ok (.iload 5, 2) := dk_21 5 (dk_at dksX0_count_2 8 rfl rfl)
theorem dX0_count_74 : decode cX0_count 74 = .ok (.aload_n 3, 1) := dk_45 (dk_at dksX0_count_2 10 rfl rfl)
theorem dX0_count_75 : decode cX0_count 75 = .ok (.getfield 69, 3) := dk_180 0 69 (dk_at dksX0_count_2 11 rfl rfl)
theorem dX0_count_78 : decode cX0_count 78 = .ok (.if_icmp .ge 29, 3) := dk_162 0 29 (dk_at dksX0_count_2 14 rfl rfl)
theorem dX0_count_81 : decode cX0_count 81 = .ok (.iload 4, 2) := dk_21 4 (dk_at dksX0_count_2 17 rfl rfl)
theorem dX0_count_83 : decode cX0_count 83 = .ok (.aload_n 3, 1) := dk_45 (dk_at dksX0_count_2 19 rfl rfl)
theorem dX0_count_84 : decode cX0_count 84 = .ok (.getfield 96, 3) := dk_180 0 96 (dk_at dksX0_count_2 20 rfl rfl)
theorem dX0_count_87 : decode cX0_count 87 = .ok (.iload 5, 2) := dk_21 5 (dk_at dksX0_count_3 0 rfl rfl)
theorem dX0_count_89 : decode cX0_count 89 = .ok (.baload, 1) := dk_51 (dk_at dksX0_count_3 2 rfl rfl)
theorem dX0_count_90 : decode cX0_count 90 = .ok (.ifCond .eq 7, 3) := dk_153 0 7 (dk_at dksX0_count_3 3 rfl rfl)
theorem dX0_count_93 : decode cX0_count 93 = .ok (.iconst 1, 1) := dk_4 (dk_at dksX0_count_3 6 rfl rfl)
theorem dX0_count_94 : decode cX0_count 94 = .ok (.goto 4, 3) := dk_167 0 4 (dk_at dksX0_count_3 7 rfl rfl)
theorem dX0_count_97 : decode cX0_count 97 = .ok (.iconst 0, 1) := dk_3 (dk_at dksX0_count_3 10 rfl rfl)
theorem dX0_count_98 : decode cX0_count 98 = .ok (.iadd, 1) := dk_96 (dk_at dksX0_count_3 11 rfl rfl)
theorem dX0_count_99 : decode cX0_count 99 = .ok (.istore 4, 2) := dk_54 4 (dk_at dksX0_count_3 12 rfl rfl)
theorem dX0_count_101 : decode cX0_count 101 = .ok (.iinc 5 1, 3) := dk_132 5 1 (dk_at dksX0_count_3 14 rfl rfl)
theorem dX0_count_104 : decode cX0_count 104 = .ok (.goto (-32), 3) := dk_167 255 224 (dk_at dksX0_count_3 17 rfl rfl)
theorem dX0_count_107 : decode cX0_count 107 = .ok (.iload 4, 2) := dk_21 4 (dk_at dksX0_count_3 20 rfl rfl)
theorem dX0_count_109 : decode cX0_count 109 = .ok (.ireturn, 1) := dk_172 (dk_at dksX0_count_3 22 rfl rfl)
theorem dX0_count_110 : decode cX0_count 110 = .ok (.aload_n 3, 1) := dk_45 (dk_at dksX0_count_3 23 rfl rfl)
theorem dX0_count_111 : decode cX0_count 111 = .ok (.getfield 103, 3) := dk_180 0 103 (dk_at dksX0_count_4 0 rfl rfl)
theorem dX0_count_114 : decode cX0_count 114 = .ok (.ireturn, 1) := dk_172 (dk_at dksX0_count_4 3 rfl rfl)
theorem dX0_count_115 : decode cX0_count 115 = .ok (.aload_n 0, 1) := dk_42 (dk_at dksX0_count_4 4 rfl rfl)
theorem dX0_count_116 : decode cX0_count 116 = .ok (.getfield 35, 3) := dk_180 0 35 (dk_at dksX0_count_4 5 rfl rfl)
theorem dX0_count_119 : decode cX0_count 119 = .ok (.aload_n 3, 1) := dk_45 (dk_at dksX0_count_4 8 rfl rfl)
theorem dX0_count_120 : decode cX0_count 120 = .ok (.aload_n 3, 1) := dk_45 (dk_at dksX0_count_4 9 rfl rfl)
theorem dX0_count_121 : decode cX0_count 121 = .ok (.getfield 69, 3) := dk_180 0 69 (dk_at dksX0_count_4 10 rfl rfl)
theorem dX0_count_124 : decode cX0_count 124 = .ok (.invokevirtual 106, 3) := dk_182 0 106 (dk_at dksX0_count_4 13 rfl rfl)
theorem dX0_count_127 : decode cX0_count 127 = .ok (.aload_n 0, 1) := dk_42 (dk_at dksX0_count_4 16 rfl rfl)
theorem dX0_count_128 : decode cX0_count 128 = .ok (.getfield 35, 3) := dk_180 0 35 (dk_at dksX0_count_4 17 rfl rfl)
theorem dX0_count_131 : decode cX0_count 131 = .ok (.getfield 110, 3) := dk_180 0 110 (dk_at dksX0_count_4 20 rfl rfl)
theorem dX0_count_134 : decode cX0_count 134 = .ok (.ireturn, 1) := dk_172 (dk_at dksX0_count_4 23 rfl rfl)
theorem dX0_count_135 : decode cX0_count 135 = .ok (.iconst 0, 1) := dk_3 (dk_at dksX0_count_5 0 rfl rfl)
theorem dX0_count_136 : decode cX0_count 136 = .ok (.istore 5, 2) := dk_54 5 (dk_at dksX0_count_5 1 rfl rfl)
theorem dX0_count_138 : decode cX0_count 138 = .ok (.iload 5, 2) := dk_21 5 (dk_at dksX0_count_5 3 rfl rfl)
theorem dX0_count_140 : decode cX0_count 140 = .ok (.aload_n 3, 1) := dk_45 (dk_at dksX0_count_5 5 rfl rfl)
theorem dX0_count_141 : decode cX0_count 141 = .ok (.getfield 111, 3) := dk_180 0 111 (dk_at dksX0_count_5 6 rfl rfl)
theorem dX0_count_144 : decode cX0_count 144 = .ok (.if_icmp .ge 39, 3) := dk_162 0 39 (dk_at dksX0_count_5 9 rfl rfl)
theorem dX0_count_147 : decode cX0_count 147 = .ok (.iload 4, 2) := dk_21 4 (dk_at dksX0_count_5 12 rfl rfl)
theorem dX0_count_149 : decode cX0_count 149 = .ok (.aload_n 3, 1) := dk_45 (dk_at dksX0_count_5 14 rfl rfl)
theorem dX0_count_150 : decode cX0_count 150 = .ok (.getfield 114, 3) := dk_180 0 114 (dk_at dksX0_count_5 15 rfl rfl)
theorem dX0_count_153 : decode cX0_count 153 = .ok (.iload 5, 2) := dk_21 5 (dk_at dksX0_count_5 18 rfl rfl)
theorem dX0_count_155 : decode cX0_count 155 = .ok (.baload, 1) := dk_51 (dk_at dksX0_count_5 20 rfl rfl)
theorem dX0_count_156 : decode cX0_count 156 = .ok (.iload_n 2, 1) := dk_28 (dk_at dksX0_count_5 21 rfl rfl)
theorem dX0_count_157 : decode cX0_count 157 = .ok (.iconst 5, 1) := dk_8 (dk_at dksX0_count_5 22 rfl rfl)
theorem dX0_count_158 : decode cX0_count 158 = .ok (.if_icmp .ne 7, 3) := dk_160 0 7 (dk_at dksX0_count_6 0 rfl rfl)
theorem dX0_count_161 : decode cX0_count 161 = .ok (.iconst 1, 1) := dk_4 (dk_at dksX0_count_6 3 rfl rfl)
theorem dX0_count_162 : decode cX0_count 162 = .ok (.goto 4, 3) := dk_167 0 4 (dk_at dksX0_count_6 4 rfl rfl)
theorem dX0_count_165 : decode cX0_count 165 = .ok (.iconst 0, 1) := dk_3 (dk_at dksX0_count_6 7 rfl rfl)
theorem dX0_count_166 : decode cX0_count 166 = .ok (.if_icmp .ne 7, 3) := dk_160 0 7 (dk_at dksX0_count_6 8 rfl rfl)
theorem dX0_count_169 : decode cX0_count 169 = .ok (.iconst 1, 1) := dk_4 (dk_at dksX0_count_6 11 rfl rfl)
theorem dX0_count_170 : decode cX0_count 170 = .ok (.goto 4, 3) := dk_167 0 4 (dk_at dksX0_count_6 12 rfl rfl)
theorem dX0_count_173 : decode cX0_count 173 = .ok (.iconst 0, 1) := dk_3 (dk_at dksX0_count_6 15 rfl rfl)
theorem dX0_count_174 : decode cX0_count 174 = .ok (.iadd, 1) := dk_96 (dk_at dksX0_count_6 16 rfl rfl)
theorem dX0_count_175 : decode cX0_count 175 = .ok (.istore 4, 2) := dk_54 4 (dk_at dksX0_count_6 17 rfl rfl)
theorem dX0_count_177 : decode cX0_count 177 = .ok (.iinc 5 1, 3) := dk_132 5 1 (dk_at dksX0_count_6 19 rfl rfl)
theorem dX0_count_180 : decode cX0_count 180 = .ok (.goto (-42), 3) := dk_167 255 214 (dk_at dksX0_count_7 0 rfl rfl)
theorem dX0_count_183 : decode cX0_count 183 = .ok (.iload 4, 2) := dk_21 4 (dk_at dksX0_count_7 3 rfl rfl)
theorem dX0_count_185 : decode cX0_count 185 = .ok (.ireturn, 1) := dk_172 (dk_at dksX0_count_7 5 rfl rfl)
theorem dX0_count_186 : decode cX0_count 186 = .ok (.iconst (-1), 1) := dk_2 (dk_at dksX0_count_7 6 rfl rfl)
theorem dX0_count_187 : decode cX0_count 187 = .ok (.ireturn, 1) := dk_172 (dk_at dksX0_count_7 7 rfl rfl)
abbrev cX0_latest : ByteArray := prog_1_method_17_code
def yX0_latest : MethodName := ⟨RX0, "latest", "(III)I"⟩
def dkwX0_latest_1 : List UInt8 := [167, 0, 4, 2, 172]
abbrev dktX0_latest_1 : List UInt8 := dkwX0_latest_1 ++ []
def dkwX0_latest_0 : List UInt8 := [42, 27, 28, 182, 0, 84, 153, 0, 20, 42, 180, 0, 12, 180, 0, 65, 27, 50, 28, 29, 182, 0, 117]
abbrev dktX0_latest_0 : List UInt8 := dkwX0_latest_0 ++ dktX0_latest_1
theorem dksX0_latest_0 : cX0_latest.data.toList.drop 0 = dktX0_latest_0 := by decide +kernel
theorem dksX0_latest_1 : cX0_latest.data.toList.drop 23 = dktX0_latest_1 := dk_seg dksX0_latest_0 23 rfl rfl
theorem dX0_latest_0 : decode cX0_latest 0 = .ok (.aload_n 0, 1) := dk_42 (dk_at dksX0_latest_0 0 rfl rfl)
theorem dX0_latest_1 : decode cX0_latest 1 = .ok (.iload_n 1, 1) := dk_27 (dk_at dksX0_latest_0 1 rfl rfl)
theorem dX0_latest_2 : decode cX0_latest 2 = .ok (.iload_n 2, 1) := dk_28 (dk_at dksX0_latest_0 2 rfl rfl)
theorem dX0_latest_3 : decode cX0_latest 3 = .ok (.invokevirtual 84, 3) := dk_182 0 84 (dk_at dksX0_latest_0 3 rfl rfl)
theorem dX0_latest_6 : decode cX0_latest 6 = .ok (.ifCond .eq 20, 3) := dk_153 0 20 (dk_at dksX0_latest_0 6 rfl rfl)
theorem dX0_latest_9 : decode cX0_latest 9 = .ok (.aload_n 0, 1) := dk_42 (dk_at dksX0_latest_0 9 rfl rfl)
theorem dX0_latest_10 : decode cX0_latest 10 = .ok (.getfield 12, 3) := dk_180 0 12 (dk_at dksX0_latest_0 10 rfl rfl)
theorem dX0_latest_13 : decode cX0_latest 13 = .ok (.getfield 65, 3) := dk_180 0 65 (dk_at dksX0_latest_0 13 rfl rfl)
theorem dX0_latest_16 : decode cX0_latest 16 = .ok (.iload_n 1, 1) := dk_27 (dk_at dksX0_latest_0 16 rfl rfl)
theorem dX0_latest_17 : decode cX0_latest 17 = .ok (.aaload, 1) := dk_50 (dk_at dksX0_latest_0 17 rfl rfl)
theorem dX0_latest_18 : decode cX0_latest 18 = .ok (.iload_n 2, 1) := dk_28 (dk_at dksX0_latest_0 18 rfl rfl)
theorem dX0_latest_19 : decode cX0_latest 19 = .ok (.iload_n 3, 1) := dk_29 (dk_at dksX0_latest_0 19 rfl rfl)
theorem dX0_latest_20 : decode cX0_latest 20 = .ok (.invokevirtual 117, 3) := dk_182 0 117 (dk_at dksX0_latest_0 20 rfl rfl)
theorem dX0_latest_23 : decode cX0_latest 23 = .ok (.goto 4, 3) := dk_167 0 4 (dk_at dksX0_latest_1 0 rfl rfl)
theorem dX0_latest_26 : decode cX0_latest 26 = .ok (.iconst (-1), 1) := dk_2 (dk_at dksX0_latest_1 3 rfl rfl)
theorem dX0_latest_27 : decode cX0_latest 27 = .ok (.ireturn, 1) := dk_172 (dk_at dksX0_latest_1 4 rfl rfl)
abbrev cX0_head : ByteArray := prog_1_method_19_code
def yX0_head : MethodName := ⟨RX0, "head", "(IIII)I"⟩
def dkwX0_head_3 : List UInt8 := [167, 0, 11, 25, 5, 180, 0, 148, 21, 4, 46, 172]
abbrev dktX0_head_3 : List UInt8 := dkwX0_head_3 ++ []
def dkwX0_head_2 : List UInt8 := [25, 5, 180, 0, 138, 21, 4, 46, 167, 0, 27, 29, 4, 160, 0, 14, 25, 5, 180, 0, 144, 21, 4, 46]
abbrev dktX0_head_2 : List UInt8 := dkwX0_head_2 ++ dktX0_head_3
def dkwX0_head_1 : List UInt8 := [9, 20, 0, 155, 184, 0, 57, 154, 0, 5, 3, 172, 42, 27, 28, 182, 0, 157, 58, 5, 29, 154, 0, 14]
abbrev dktX0_head_1 : List UInt8 := dkwX0_head_1 ++ dktX0_head_2
def dkwX0_head_0 : List UInt8 := [42, 27, 28, 182, 0, 84, 153, 0, 28, 29, 133, 9, 20, 0, 153, 184, 0, 57, 153, 0, 16, 21, 4, 133]
abbrev dktX0_head_0 : List UInt8 := dkwX0_head_0 ++ dktX0_head_1
theorem dksX0_head_0 : cX0_head.data.toList.drop 0 = dktX0_head_0 := by decide +kernel
theorem dksX0_head_1 : cX0_head.data.toList.drop 24 = dktX0_head_1 := dk_seg dksX0_head_0 24 rfl rfl
theorem dksX0_head_2 : cX0_head.data.toList.drop 48 = dktX0_head_2 := dk_seg dksX0_head_1 24 rfl rfl
theorem dksX0_head_3 : cX0_head.data.toList.drop 72 = dktX0_head_3 := dk_seg dksX0_head_2 24 rfl rfl
theorem dX0_head_0 : decode cX0_head 0 = .ok (.aload_n 0, 1) := dk_42 (dk_at dksX0_head_0 0 rfl rfl)
theorem dX0_head_1 : decode cX0_head 1 = .ok (.iload_n 1, 1) := dk_27 (dk_at dksX0_head_0 1 rfl rfl)
theorem dX0_head_2 : decode cX0_head 2 = .ok (.iload_n 2, 1) := dk_28 (dk_at dksX0_head_0 2 rfl rfl)
theorem dX0_head_3 : decode cX0_head 3 = .ok (.invokevirtual 84, 3) := dk_182 0 84 (dk_at dksX0_head_0 3 rfl rfl)
theorem dX0_head_6 : decode cX0_head 6 = .ok (.ifCond .eq 28, 3) := dk_153 0 28 (dk_at dksX0_head_0 6 rfl rfl)
theorem dX0_head_9 : decode cX0_head 9 = .ok (.iload_n 3, 1) := dk_29 (dk_at dksX0_head_0 9 rfl rfl)
theorem dX0_head_10 : decode cX0_head 10 = .ok (.i2l, 1) := dk_133 (dk_at dksX0_head_0 10 rfl rfl)
theorem dX0_head_11 : decode cX0_head 11 = .ok (.lconst 0, 1) := dk_9 (dk_at dksX0_head_0 11 rfl rfl)
theorem dX0_head_12 : decode cX0_head 12 = .ok (.ldc2_w 153, 3) := dk_20 0 153 (dk_at dksX0_head_0 12 rfl rfl)
theorem dX0_head_15 : decode cX0_head 15 = .ok (.invokestatic 57, 3) := dk_184 0 57 (dk_at dksX0_head_0 15 rfl rfl)
theorem dX0_head_18 : decode cX0_head 18 = .ok (.ifCond .eq 16, 3) := dk_153 0 16 (dk_at dksX0_head_0 18 rfl rfl)
theorem dX0_head_21 : decode cX0_head 21 = .ok (.iload 4, 2) := dk_21 4 (dk_at dksX0_head_0 21 rfl rfl)
theorem dX0_head_23 : decode cX0_head 23 = .ok (.i2l, 1) := dk_133 (dk_at dksX0_head_0 23 rfl rfl)
theorem dX0_head_24 : decode cX0_head 24 = .ok (.lconst 0, 1) := dk_9 (dk_at dksX0_head_1 0 rfl rfl)
theorem dX0_head_25 : decode cX0_head 25 = .ok (.ldc2_w 155, 3) := dk_20 0 155 (dk_at dksX0_head_1 1 rfl rfl)
theorem dX0_head_28 : decode cX0_head 28 = .ok (.invokestatic 57, 3) := dk_184 0 57 (dk_at dksX0_head_1 4 rfl rfl)
theorem dX0_head_31 : decode cX0_head 31 = .ok (.ifCond .ne 5, 3) := dk_154 0 5 (dk_at dksX0_head_1 7 rfl rfl)
theorem dX0_head_34 : decode cX0_head 34 = .ok (.iconst 0, 1) := dk_3 (dk_at dksX0_head_1 10 rfl rfl)
theorem dX0_head_35 : decode cX0_head 35 = .ok (.ireturn, 1) := dk_172 (dk_at dksX0_head_1 11 rfl rfl)
theorem dX0_head_36 : decode cX0_head 36 = .ok (.aload_n 0, 1) := dk_42 (dk_at dksX0_head_1 12 rfl rfl)
theorem dX0_head_37 : decode cX0_head 37 = .ok (.iload_n 1, 1) := dk_27 (dk_at dksX0_head_1 13 rfl rfl)
theorem dX0_head_38 : decode cX0_head 38 = .ok (.iload_n 2, 1) := dk_28 (dk_at dksX0_head_1 14 rfl rfl)
theorem dX0_head_39 : decode cX0_head 39 = .ok (.invokevirtual 157, 3) := dk_182 0 157 (dk_at dksX0_head_1 15 rfl rfl)
theorem dX0_head_42 : decode cX0_head 42 = .ok (.astore 5, 2) := dk_58 5 (dk_at dksX0_head_1 18 rfl rfl)
theorem dX0_head_44 : decode cX0_head 44 = .ok (.iload_n 3, 1) := dk_29 (dk_at dksX0_head_1 20 rfl rfl)
theorem dX0_head_45 : decode cX0_head 45 = .ok (.ifCond .ne 14, 3) := dk_154 0 14 (dk_at dksX0_head_1 21 rfl rfl)
theorem dX0_head_48 : decode cX0_head 48 = .ok (.aload 5, 2) := dk_25 5 (dk_at dksX0_head_2 0 rfl rfl)
theorem dX0_head_50 : decode cX0_head 50 = .ok (.getfield 138, 3) := dk_180 0 138 (dk_at dksX0_head_2 2 rfl rfl)
theorem dX0_head_53 : decode cX0_head 53 = .ok (.iload 4, 2) := dk_21 4 (dk_at dksX0_head_2 5 rfl rfl)
theorem dX0_head_55 : decode cX0_head 55 = .ok (.iaload, 1) := dk_46 (dk_at dksX0_head_2 7 rfl rfl)
theorem dX0_head_56 : decode cX0_head 56 = .ok (.goto 27, 3) := dk_167 0 27 (dk_at dksX0_head_2 8 rfl rfl)
theorem dX0_head_59 : decode cX0_head 59 = .ok (.iload_n 3, 1) := dk_29 (dk_at dksX0_head_2 11 rfl rfl)
theorem dX0_head_60 : decode cX0_head 60 = .ok (.iconst 1, 1) := dk_4 (dk_at dksX0_head_2 12 rfl rfl)
theorem dX0_head_61 : decode cX0_head 61 = .ok (.if_icmp .ne 14, 3) := dk_160 0 14 (dk_at dksX0_head_2 13 rfl rfl)
theorem dX0_head_64 : decode cX0_head 64 = .ok (.aload 5, 2) := dk_25 5 (dk_at dksX0_head_2 16 rfl rfl)
theorem dX0_head_66 : decode cX0_head 66 = .ok (.getfield 144, 3) := dk_180 0 144 (dk_at dksX0_head_2 18 rfl rfl)
theorem dX0_head_69 : decode cX0_head 69 = .ok (.iload 4, 2) := dk_21 4 (dk_at dksX0_head_2 21 rfl rfl)
theorem dX0_head_71 : decode cX0_head 71 = .ok (.iaload, 1) := dk_46 (dk_at dksX0_head_2 23 rfl rfl)
theorem dX0_head_72 : decode cX0_head 72 = .ok (.goto 11, 3) := dk_167 0 11 (dk_at dksX0_head_3 0 rfl rfl)
theorem dX0_head_75 : decode cX0_head 75 = .ok (.aload 5, 2) := dk_25 5 (dk_at dksX0_head_3 3 rfl rfl)
theorem dX0_head_77 : decode cX0_head 77 = .ok (.getfield 148, 3) := dk_180 0 148 (dk_at dksX0_head_3 5 rfl rfl)
theorem dX0_head_80 : decode cX0_head 80 = .ok (.iload 4, 2) := dk_21 4 (dk_at dksX0_head_3 8 rfl rfl)
theorem dX0_head_82 : decode cX0_head 82 = .ok (.iaload, 1) := dk_46 (dk_at dksX0_head_3 10 rfl rfl)
theorem dX0_head_83 : decode cX0_head 83 = .ok (.ireturn, 1) := dk_172 (dk_at dksX0_head_3 11 rfl rfl)
abbrev cX0_headOf : ByteArray := prog_1_method_18_code
def yX0_headOf : MethodName := ⟨RX0, "headOf", "(II)LGlassLog$Head;"⟩
def dkwX0_headOf_5 : List UInt8 := [182, 0, 149, 42, 180, 0, 42, 176]
abbrev dktX0_headOf_5 : List UInt8 := dkwX0_headOf_5 ++ []
def dkwX0_headOf_4 : List UInt8 := [180, 0, 144, 3, 182, 0, 147, 42, 180, 0, 42, 42, 180, 0, 19, 42, 180, 0, 42, 180, 0, 148]
abbrev dktX0_headOf_4 : List UInt8 := dkwX0_headOf_4 ++ dktX0_headOf_5
def dkwX0_headOf_3 : List UInt8 := [180, 0, 138, 3, 182, 0, 141, 42, 180, 0, 35, 45, 28, 182, 0, 106, 42, 180, 0, 35, 42, 180, 0, 42]
abbrev dktX0_headOf_3 : List UInt8 := dkwX0_headOf_3 ++ dktX0_headOf_4
def dkwX0_headOf_2 : List UInt8 := [180, 0, 28, 182, 0, 132, 45, 42, 180, 0, 28, 3, 28, 182, 0, 134, 42, 180, 0, 28, 42, 180, 0, 42]
abbrev dktX0_headOf_2 : List UInt8 := dkwX0_headOf_2 ++ dktX0_headOf_3
def dkwX0_headOf_1 : List UInt8 := [181, 0, 125, 42, 180, 0, 42, 27, 181, 0, 128, 42, 180, 0, 42, 45, 180, 0, 103, 181, 0, 131, 42]
abbrev dktX0_headOf_1 : List UInt8 := dkwX0_headOf_1 ++ dktX0_headOf_2
def dkwX0_headOf_0 : List UInt8 := [42, 180, 0, 12, 180, 0, 65, 27, 50, 78, 42, 180, 0, 42, 4, 181, 0, 121, 42, 180, 0, 42, 28]
abbrev dktX0_headOf_0 : List UInt8 := dkwX0_headOf_0 ++ dktX0_headOf_1
theorem dksX0_headOf_0 : cX0_headOf.data.toList.drop 0 = dktX0_headOf_0 := by decide +kernel
theorem dksX0_headOf_1 : cX0_headOf.data.toList.drop 23 = dktX0_headOf_1 := dk_seg dksX0_headOf_0 23 rfl rfl
theorem dksX0_headOf_2 : cX0_headOf.data.toList.drop 46 = dktX0_headOf_2 := dk_seg dksX0_headOf_1 23 rfl rfl
theorem dksX0_headOf_3 : cX0_headOf.data.toList.drop 70 = dktX0_headOf_3 := dk_seg dksX0_headOf_2 24 rfl rfl
theorem dksX0_headOf_4 : cX0_headOf.data.toList.drop 94 = dktX0_headOf_4 := dk_seg dksX0_headOf_3 24 rfl rfl
theorem dksX0_headOf_5 : cX0_headOf.data.toList.drop 116 = dktX0_headOf_5 := dk_seg dksX0_headOf_4 22 rfl rfl
theorem dX0_headOf_0 : decode cX0_headOf 0 = .ok (.aload_n 0, 1) := dk_42 (dk_at dksX0_headOf_0 0 rfl rfl)
theorem dX0_headOf_1 : decode cX0_headOf 1 = .ok (.getfield 12, 3) := dk_180 0 12 (dk_at dksX0_headOf_0 1 rfl rfl)
theorem dX0_headOf_4 : decode cX0_headOf 4 = .ok (.getfield 65, 3) := dk_180 0 65 (dk_at dksX0_headOf_0 4 rfl rfl)
theorem dX0_headOf_7 : decode cX0_headOf 7 = .ok (.iload_n 1, 1) := dk_27 (dk_at dksX0_headOf_0 7 rfl rfl)
theorem dX0_headOf_8 : decode cX0_headOf 8 = .ok (.aaload, 1) := dk_50 (dk_at dksX0_headOf_0 8 rfl rfl)
theorem dX0_headOf_9 : decode cX0_headOf 9 = .ok (.astore_n 3, 1) := dk_78 (dk_at dksX0_headOf_0 9 rfl rfl)
theorem dX0_headOf_10 : decode cX0_headOf 10 = .ok (.aload_n 0, 1) := dk_42 (dk_at dksX0_headOf_0 10 rfl rfl)
theorem dX0_headOf_11 : decode cX0_headOf 11 = .ok (.getfield 42, 3) := dk_180 0 42 (dk_at dksX0_headOf_0 11 rfl rfl)
theorem dX0_headOf_14 : decode cX0_headOf 14 = .ok (.iconst 1, 1) := dk_4 (dk_at dksX0_headOf_0 14 rfl rfl)
theorem dX0_headOf_15 : decode cX0_headOf 15 = .ok (.putfield 121, 3) := dk_181 0 121 (dk_at dksX0_headOf_0 15 rfl rfl)
theorem dX0_headOf_18 : decode cX0_headOf 18 = .ok (.aload_n 0, 1) := dk_42 (dk_at dksX0_headOf_0 18 rfl rfl)
theorem dX0_headOf_19 : decode cX0_headOf 19 = .ok (.getfield 42, 3) := dk_180 0 42 (dk_at dksX0_headOf_0 19 rfl rfl)
theorem dX0_headOf_22 : decode cX0_headOf 22 = .ok (.iload_n 2, 1) := dk_28 (dk_at dksX0_headOf_0 22 rfl rfl)
theorem dX0_headOf_23 : decode cX0_headOf 23 = .ok (.putfield 125, 3) := dk_181 0 125 (dk_at dksX0_headOf_1 0 rfl rfl)
theorem dX0_headOf_26 : decode cX0_headOf 26 = .ok (.aload_n 0, 1) := dk_42 (dk_at dksX0_headOf_1 3 rfl rfl)
theorem dX0_headOf_27 : decode cX0_headOf 27 = .ok (.getfield 42, 3) := dk_180 0 42 (dk_at dksX0_headOf_1 4 rfl rfl)
theorem dX0_headOf_30 : decode cX0_headOf 30 = .ok (.iload_n 1, 1) := dk_27 (dk_at dksX0_headOf_1 7 rfl rfl)
theorem dX0_headOf_31 : decode cX0_headOf 31 = .ok (.putfield 128, 3) := dk_181 0 128 (dk_at dksX0_headOf_1 8 rfl rfl)
theorem dX0_headOf_34 : decode cX0_headOf 34 = .ok (.aload_n 0, 1) := dk_42 (dk_at dksX0_headOf_1 11 rfl rfl)
theorem dX0_headOf_35 : decode cX0_headOf 35 = .ok (.getfield 42, 3) := dk_180 0 42 (dk_at dksX0_headOf_1 12 rfl rfl)
theorem dX0_headOf_38 : decode cX0_headOf 38 = .ok (.aload_n 3, 1) := dk_45 (dk_at dksX0_headOf_1 15 rfl rfl)
theorem dX0_headOf_39 : decode cX0_headOf 39 = .ok (.getfield 103, 3) := dk_180 0 103 (dk_at dksX0_headOf_1 16 rfl rfl)
theorem dX0_headOf_42 : decode cX0_headOf 42 = .ok (.putfield 131, 3) := dk_181 0 131 (dk_at dksX0_headOf_1 19 rfl rfl)
theorem dX0_headOf_45 : decode cX0_headOf 45 = .ok (.aload_n 0, 1) := dk_42 (dk_at dksX0_headOf_1 22 rfl rfl)
theorem dX0_headOf_46 : decode cX0_headOf 46 = .ok (.getfield 28, 3) := dk_180 0 28 (dk_at dksX0_headOf_2 0 rfl rfl)
theorem dX0_headOf_49 : decode cX0_headOf 49 = .ok (.invokevirtual 132, 3) := dk_182 0 132 (dk_at dksX0_headOf_2 3 rfl rfl)
theorem dX0_headOf_52 : decode cX0_headOf 52 = .ok (.aload_n 3, 1) := dk_45 (dk_at dksX0_headOf_2 6 rfl rfl)
theorem dX0_headOf_53 : decode cX0_headOf 53 = .ok (.aload_n 0, 1) := dk_42 (dk_at dksX0_headOf_2 7 rfl rfl)
theorem dX0_headOf_54 : decode cX0_headOf 54 = .ok (.getfield 28, 3) := dk_180 0 28 (dk_at dksX0_headOf_2 8 rfl rfl)
theorem dX0_headOf_57 : decode cX0_headOf 57 = .ok (.iconst 0, 1) := dk_3 (dk_at dksX0_headOf_2 11 rfl rfl)
theorem dX0_headOf_58 : decode cX0_headOf 58 = .ok (.iload_n 2, 1) := dk_28 (dk_at dksX0_headOf_2 12 rfl rfl)
theorem dX0_headOf_59 : decode cX0_headOf 59 = .ok (.invokevirtual 134, 3) := dk_182 0 134 (dk_at dksX0_headOf_2 13 rfl rfl)
theorem dX0_headOf_62 : decode cX0_headOf 62 = .ok (.aload_n 0, 1) := dk_42 (dk_at dksX0_headOf_2 16 rfl rfl)
theorem dX0_headOf_63 : decode cX0_headOf 63 = .ok (.getfield 28, 3) := dk_180 0 28 (dk_at dksX0_headOf_2 17 rfl rfl)
theorem dX0_headOf_66 : decode cX0_headOf 66 = .ok (.aload_n 0, 1) := dk_42 (dk_at dksX0_headOf_2 20 rfl rfl)
theorem dX0_headOf_67 : decode cX0_headOf 67 = .ok (.getfield 42, 3) := dk_180 0 42 (dk_at dksX0_headOf_2 21 rfl rfl)
theorem dX0_headOf_70 : decode cX0_headOf 70 = .ok (.getfield 138, 3) := dk_180 0 138 (dk_at dksX0_headOf_3 0 rfl rfl)
theorem dX0_headOf_73 : decode cX0_headOf 73 = .ok (.iconst 0, 1) := dk_3 (dk_at dksX0_headOf_3 3 rfl rfl)
theorem dX0_headOf_74 : decode cX0_headOf 74 = .ok (.invokevirtual 141, 3) := dk_182 0 141 (dk_at dksX0_headOf_3 4 rfl rfl)
theorem dX0_headOf_77 : decode cX0_headOf 77 = .ok (.aload_n 0, 1) := dk_42 (dk_at dksX0_headOf_3 7 rfl rfl)
theorem dX0_headOf_78 : decode cX0_headOf 78 = .ok (.getfield 35, 3) := dk_180 0 35 (dk_at dksX0_headOf_3 8 rfl rfl)
theorem dX0_headOf_81 : decode cX0_headOf 81 = .ok (.aload_n 3, 1) := dk_45 (dk_at dksX0_headOf_3 11 rfl rfl)
theorem dX0_headOf_82 : decode cX0_headOf 82 = .ok (.iload_n 2, 1) := dk_28 (dk_at dksX0_headOf_3 12 rfl rfl)
theorem dX0_headOf_83 : decode cX0_headOf 83 = .ok (.invokevirtual 106, 3) := dk_182 0 106 (dk_at dksX0_headOf_3 13 rfl rfl)
theorem dX0_headOf_86 : decode cX0_headOf 86 = .ok (.aload_n 0, 1) := dk_42 (dk_at dksX0_headOf_3 16 rfl rfl)
theorem dX0_headOf_87 : decode cX0_headOf 87 = .ok (.getfield 35, 3) := dk_180 0 35 (dk_at dksX0_headOf_3 17 rfl rfl)
theorem dX0_headOf_90 : decode cX0_headOf 90 = .ok (.aload_n 0, 1) := dk_42 (dk_at dksX0_headOf_3 20 rfl rfl)
theorem dX0_headOf_91 : decode cX0_headOf 91 = .ok (.getfield 42, 3) := dk_180 0 42 (dk_at dksX0_headOf_3 21 rfl rfl)
theorem dX0_headOf_94 : decode cX0_headOf 94 = .ok (.getfield 144, 3) := dk_180 0 144 (dk_at dksX0_headOf_4 0 rfl rfl)
theorem dX0_headOf_97 : decode cX0_headOf 97 = .ok (.iconst 0, 1) := dk_3 (dk_at dksX0_headOf_4 3 rfl rfl)
theorem dX0_headOf_98 : decode cX0_headOf 98 = .ok (.invokevirtual 147, 3) := dk_182 0 147 (dk_at dksX0_headOf_4 4 rfl rfl)
theorem dX0_headOf_101 : decode cX0_headOf 101 = .ok (.aload_n 0, 1) := dk_42 (dk_at dksX0_headOf_4 7 rfl rfl)
theorem dX0_headOf_102 : decode cX0_headOf 102 = .ok (.getfield 42, 3) := dk_180 0 42 (dk_at dksX0_headOf_4 8 rfl rfl)
theorem dX0_headOf_105 : decode cX0_headOf 105 = .ok (.aload_n 0, 1) := dk_42 (dk_at dksX0_headOf_4 11 rfl rfl)
theorem dX0_headOf_106 : decode cX0_headOf 106 = .ok (.getfield 19, 3) := dk_180 0 19 (dk_at dksX0_headOf_4 12 rfl rfl)
theorem dX0_headOf_109 : decode cX0_headOf 109 = .ok (.aload_n 0, 1) := dk_42 (dk_at dksX0_headOf_4 15 rfl rfl)
theorem dX0_headOf_110 : decode cX0_headOf 110 = .ok (.getfield 42, 3) := dk_180 0 42 (dk_at dksX0_headOf_4 16 rfl rfl)
theorem dX0_headOf_113 : decode cX0_headOf 113 = .ok (.getfield 148, 3) := dk_180 0 148 (dk_at dksX0_headOf_4 19 rfl rfl)
theorem dX0_headOf_116 : decode cX0_headOf 116 = .ok (.invokevirtual 149, 3) := dk_182 0 149 (dk_at dksX0_headOf_5 0 rfl rfl)
theorem dX0_headOf_119 : decode cX0_headOf 119 = .ok (.aload_n 0, 1) := dk_42 (dk_at dksX0_headOf_5 3 rfl rfl)
theorem dX0_headOf_120 : decode cX0_headOf 120 = .ok (.getfield 42, 3) := dk_180 0 42 (dk_at dksX0_headOf_5 4 rfl rfl)
theorem dX0_headOf_123 : decode cX0_headOf 123 = .ok (.areturn, 1) := dk_176 (dk_at dksX0_headOf_5 7 rfl rfl)
abbrev cX0_level : ByteArray := prog_1_method_5_code
def yX0_level : MethodName := ⟨RX0, "level", "(II)I"⟩
def dkwX0_level_1 : List UInt8 := [167, 255, 236, 28, 172]
abbrev dktX0_level_1 : List UInt8 := dkwX0_level_1 ++ []
def dkwX0_level_0 : List UInt8 := [3, 61, 26, 28, 122, 4, 126, 154, 0, 18, 26, 5, 28, 120, 96, 27, 163, 0, 9, 132, 2, 1]
abbrev dktX0_level_0 : List UInt8 := dkwX0_level_0 ++ dktX0_level_1
theorem dksX0_level_0 : cX0_level.data.toList.drop 0 = dktX0_level_0 := by decide +kernel
theorem dksX0_level_1 : cX0_level.data.toList.drop 22 = dktX0_level_1 := dk_seg dksX0_level_0 22 rfl rfl
theorem dX0_level_0 : decode cX0_level 0 = .ok (.iconst 0, 1) := dk_3 (dk_at dksX0_level_0 0 rfl rfl)
theorem dX0_level_1 : decode cX0_level 1 = .ok (.istore_n 2, 1) := dk_61 (dk_at dksX0_level_0 1 rfl rfl)
theorem dX0_level_2 : decode cX0_level 2 = .ok (.iload_n 0, 1) := dk_26 (dk_at dksX0_level_0 2 rfl rfl)
theorem dX0_level_3 : decode cX0_level 3 = .ok (.iload_n 2, 1) := dk_28 (dk_at dksX0_level_0 3 rfl rfl)
theorem dX0_level_4 : decode cX0_level 4 = .ok (.ishr, 1) := dk_122 (dk_at dksX0_level_0 4 rfl rfl)
theorem dX0_level_5 : decode cX0_level 5 = .ok (.iconst 1, 1) := dk_4 (dk_at dksX0_level_0 5 rfl rfl)
theorem dX0_level_6 : decode cX0_level 6 = .ok (.iand, 1) := dk_126 (dk_at dksX0_level_0 6 rfl rfl)
theorem dX0_level_7 : decode cX0_level 7 = .ok (.ifCond .ne 18, 3) := dk_154 0 18 (dk_at dksX0_level_0 7 rfl rfl)
theorem dX0_level_10 : decode cX0_level 10 = .ok (.iload_n 0, 1) := dk_26 (dk_at dksX0_level_0 10 rfl rfl)
theorem dX0_level_11 : decode cX0_level 11 = .ok (.iconst 2, 1) := dk_5 (dk_at dksX0_level_0 11 rfl rfl)
theorem dX0_level_12 : decode cX0_level 12 = .ok (.iload_n 2, 1) := dk_28 (dk_at dksX0_level_0 12 rfl rfl)
theorem dX0_level_13 : decode cX0_level 13 = .ok (.ishl, 1) := dk_120 (dk_at dksX0_level_0 13 rfl rfl)
theorem dX0_level_14 : decode cX0_level 14 = .ok (.iadd, 1) := dk_96 (dk_at dksX0_level_0 14 rfl rfl)
theorem dX0_level_15 : decode cX0_level 15 = .ok (.iload_n 1, 1) := dk_27 (dk_at dksX0_level_0 15 rfl rfl)
theorem dX0_level_16 : decode cX0_level 16 = .ok (.if_icmp .gt 9, 3) := dk_163 0 9 (dk_at dksX0_level_0 16 rfl rfl)
theorem dX0_level_19 : decode cX0_level 19 = .ok (.iinc 2 1, 3) := dk_132 2 1 (dk_at dksX0_level_0 19 rfl rfl)
theorem dX0_level_22 : decode cX0_level 22 = .ok (.goto (-20), 3) := dk_167 255 236 (dk_at dksX0_level_1 0 rfl rfl)
theorem dX0_level_25 : decode cX0_level 25 = .ok (.iload_n 2, 1) := dk_28 (dk_at dksX0_level_1 3 rfl rfl)
theorem dX0_level_26 : decode cX0_level 26 = .ok (.ireturn, 1) := dk_172 (dk_at dksX0_level_1 4 rfl rfl)
abbrev cX0_clear : ByteArray := prog_1_method_2_code
def yX0_clear : MethodName := ⟨RX0, "clear", "([II)V"⟩
def dkwX0_clear_0 : List UInt8 := [3, 61, 28, 16, 8, 162, 0, 15, 42, 27, 28, 96, 3, 79, 132, 2, 1, 167, 255, 241, 177]
abbrev dktX0_clear_0 : List UInt8 := dkwX0_clear_0 ++ []
theorem dksX0_clear_0 : cX0_clear.data.toList.drop 0 = dktX0_clear_0 := by decide +kernel
theorem dX0_clear_0 : decode cX0_clear 0 = .ok (.iconst 0, 1) := dk_3 (dk_at dksX0_clear_0 0 rfl rfl)
theorem dX0_clear_1 : decode cX0_clear 1 = .ok (.istore_n 2, 1) := dk_61 (dk_at dksX0_clear_0 1 rfl rfl)
theorem dX0_clear_2 : decode cX0_clear 2 = .ok (.iload_n 2, 1) := dk_28 (dk_at dksX0_clear_0 2 rfl rfl)
theorem dX0_clear_3 : decode cX0_clear 3 = .ok (.bipush 8, 2) := dk_16 8 (dk_at dksX0_clear_0 3 rfl rfl)
theorem dX0_clear_5 : decode cX0_clear 5 = .ok (.if_icmp .ge 15, 3) := dk_162 0 15 (dk_at dksX0_clear_0 5 rfl rfl)
theorem dX0_clear_8 : decode cX0_clear 8 = .ok (.aload_n 0, 1) := dk_42 (dk_at dksX0_clear_0 8 rfl rfl)
theorem dX0_clear_9 : decode cX0_clear 9 = .ok (.iload_n 1, 1) := dk_27 (dk_at dksX0_clear_0 9 rfl rfl)
theorem dX0_clear_10 : decode cX0_clear 10 = .ok (.iload_n 2, 1) := dk_28 (dk_at dksX0_clear_0 10 rfl rfl)
theorem dX0_clear_11 : decode cX0_clear 11 = .ok (.iadd, 1) := dk_96 (dk_at dksX0_clear_0 11 rfl rfl)
theorem dX0_clear_12 : decode cX0_clear 12 = .ok (.iconst 0, 1) := dk_3 (dk_at dksX0_clear_0 12 rfl rfl)
theorem dX0_clear_13 : decode cX0_clear 13 = .ok (.iastore, 1) := dk_79 (dk_at dksX0_clear_0 13 rfl rfl)
theorem dX0_clear_14 : decode cX0_clear 14 = .ok (.iinc 2 1, 3) := dk_132 2 1 (dk_at dksX0_clear_0 14 rfl rfl)
theorem dX0_clear_17 : decode cX0_clear 17 = .ok (.goto (-15), 3) := dk_167 255 241 (dk_at dksX0_clear_0 17 rfl rfl)
theorem dX0_clear_20 : decode cX0_clear 20 = .ok (.return_, 1) := dk_177 (dk_at dksX0_clear_0 20 rfl rfl)
abbrev cX0_bit : ByteArray := prog_1_method_4_code
def yX0_bit : MethodName := ⟨RX0, "bit", "([III)Z"⟩
def dkwX0_bit_1 : List UInt8 := [167, 0, 4, 3, 172]
abbrev dktX0_bit_1 : List UInt8 := dkwX0_bit_1 ++ []
def dkwX0_bit_0 : List UInt8 := [42, 27, 28, 16, 32, 108, 96, 46, 16, 31, 28, 16, 32, 112, 100, 124, 4, 126, 4, 160, 0, 7, 4]
abbrev dktX0_bit_0 : List UInt8 := dkwX0_bit_0 ++ dktX0_bit_1
theorem dksX0_bit_0 : cX0_bit.data.toList.drop 0 = dktX0_bit_0 := by decide +kernel
theorem dksX0_bit_1 : cX0_bit.data.toList.drop 23 = dktX0_bit_1 := dk_seg dksX0_bit_0 23 rfl rfl
theorem dX0_bit_0 : decode cX0_bit 0 = .ok (.aload_n 0, 1) := dk_42 (dk_at dksX0_bit_0 0 rfl rfl)
theorem dX0_bit_1 : decode cX0_bit 1 = .ok (.iload_n 1, 1) := dk_27 (dk_at dksX0_bit_0 1 rfl rfl)
theorem dX0_bit_2 : decode cX0_bit 2 = .ok (.iload_n 2, 1) := dk_28 (dk_at dksX0_bit_0 2 rfl rfl)
theorem dX0_bit_3 : decode cX0_bit 3 = .ok (.bipush 32, 2) := dk_16 32 (dk_at dksX0_bit_0 3 rfl rfl)
theorem dX0_bit_5 : decode cX0_bit 5 = .ok (.idiv, 1) := dk_108 (dk_at dksX0_bit_0 5 rfl rfl)
theorem dX0_bit_6 : decode cX0_bit 6 = .ok (.iadd, 1) := dk_96 (dk_at dksX0_bit_0 6 rfl rfl)
theorem dX0_bit_7 : decode cX0_bit 7 = .ok (.iaload, 1) := dk_46 (dk_at dksX0_bit_0 7 rfl rfl)
theorem dX0_bit_8 : decode cX0_bit 8 = .ok (.bipush 31, 2) := dk_16 31 (dk_at dksX0_bit_0 8 rfl rfl)
theorem dX0_bit_10 : decode cX0_bit 10 = .ok (.iload_n 2, 1) := dk_28 (dk_at dksX0_bit_0 10 rfl rfl)
theorem dX0_bit_11 : decode cX0_bit 11 = .ok (.bipush 32, 2) := dk_16 32 (dk_at dksX0_bit_0 11 rfl rfl)
theorem dX0_bit_13 : decode cX0_bit 13 = .ok (.irem, 1) := dk_112 (dk_at dksX0_bit_0 13 rfl rfl)
theorem dX0_bit_14 : decode cX0_bit 14 = .ok (.isub, 1) := dk_100 (dk_at dksX0_bit_0 14 rfl rfl)
theorem dX0_bit_15 : decode cX0_bit 15 = .ok (.iushr, 1) := dk_124 (dk_at dksX0_bit_0 15 rfl rfl)
theorem dX0_bit_16 : decode cX0_bit 16 = .ok (.iconst 1, 1) := dk_4 (dk_at dksX0_bit_0 16 rfl rfl)
theorem dX0_bit_17 : decode cX0_bit 17 = .ok (.iand, 1) := dk_126 (dk_at dksX0_bit_0 17 rfl rfl)
theorem dX0_bit_18 : decode cX0_bit 18 = .ok (.iconst 1, 1) := dk_4 (dk_at dksX0_bit_0 18 rfl rfl)
theorem dX0_bit_19 : decode cX0_bit 19 = .ok (.if_icmp .ne 7, 3) := dk_160 0 7 (dk_at dksX0_bit_0 19 rfl rfl)
theorem dX0_bit_22 : decode cX0_bit 22 = .ok (.iconst 1, 1) := dk_4 (dk_at dksX0_bit_0 22 rfl rfl)
theorem dX0_bit_23 : decode cX0_bit 23 = .ok (.goto 4, 3) := dk_167 0 4 (dk_at dksX0_bit_1 0 rfl rfl)
theorem dX0_bit_26 : decode cX0_bit 26 = .ok (.iconst 0, 1) := dk_3 (dk_at dksX0_bit_1 3 rfl rfl)
theorem dX0_bit_27 : decode cX0_bit 27 = .ok (.ireturn, 1) := dk_172 (dk_at dksX0_bit_1 4 rfl rfl)
abbrev cX0_within : ByteArray := prog_1_method_24_code
def yX0_within : MethodName := ⟨RX0, "within", "(IIII)I"⟩
def dkwX0_within_3 : List UInt8 := [21, 4, 4, 96, 3, 182, 0, 230, 172]
abbrev dktX0_within_3 : List UInt8 := dkwX0_within_3 ++ []
def dkwX0_within_2 : List UInt8 := [2, 172, 42, 27, 187, 0, 227, 89, 183, 0, 229, 42, 180, 0, 12, 180, 0, 65, 28, 50, 29, 21, 4]
abbrev dktX0_within_2 : List UInt8 := dkwX0_within_2 ++ dktX0_within_3
def dkwX0_within_1 : List UInt8 := [184, 0, 57, 153, 0, 21, 42, 180, 0, 12, 180, 0, 65, 28, 50, 180, 0, 96, 21, 4, 51, 153, 0, 5]
abbrev dktX0_within_1 : List UInt8 := dkwX0_within_1 ++ dktX0_within_2
def dkwX0_within_0 : List UInt8 := [27, 184, 0, 224, 153, 0, 44, 42, 28, 29, 182, 0, 84, 153, 0, 35, 21, 4, 133, 9, 29, 4, 100, 133]
abbrev dktX0_within_0 : List UInt8 := dkwX0_within_0 ++ dktX0_within_1
theorem dksX0_within_0 : cX0_within.data.toList.drop 0 = dktX0_within_0 := by decide +kernel
theorem dksX0_within_1 : cX0_within.data.toList.drop 24 = dktX0_within_1 := dk_seg dksX0_within_0 24 rfl rfl
theorem dksX0_within_2 : cX0_within.data.toList.drop 48 = dktX0_within_2 := dk_seg dksX0_within_1 24 rfl rfl
theorem dksX0_within_3 : cX0_within.data.toList.drop 71 = dktX0_within_3 := dk_seg dksX0_within_2 23 rfl rfl
theorem dX0_within_0 : decode cX0_within 0 = .ok (.iload_n 1, 1) := dk_27 (dk_at dksX0_within_0 0 rfl rfl)
theorem dX0_within_1 : decode cX0_within 1 = .ok (.invokestatic 224, 3) := dk_184 0 224 (dk_at dksX0_within_0 1 rfl rfl)
theorem dX0_within_4 : decode cX0_within 4 = .ok (.ifCond .eq 44, 3) := dk_153 0 44 (dk_at dksX0_within_0 4 rfl rfl)
theorem dX0_within_7 : decode cX0_within 7 = .ok (.aload_n 0, 1) := dk_42 (dk_at dksX0_within_0 7 rfl rfl)
theorem dX0_within_8 : decode cX0_within 8 = .ok (.iload_n 2, 1) := dk_28 (dk_at dksX0_within_0 8 rfl rfl)
theorem dX0_within_9 : decode cX0_within 9 = .ok (.iload_n 3, 1) := dk_29 (dk_at dksX0_within_0 9 rfl rfl)
theorem dX0_within_10 : decode cX0_within 10 = .ok (.invokevirtual 84, 3) := dk_182 0 84 (dk_at dksX0_within_0 10 rfl rfl)
theorem dX0_within_13 : decode cX0_within 13 = .ok (.ifCond .eq 35, 3) := dk_153 0 35 (dk_at dksX0_within_0 13 rfl rfl)
theorem dX0_within_16 : decode cX0_within 16 = .ok (.iload 4, 2) := dk_21 4 (dk_at dksX0_within_0 16 rfl rfl)
theorem dX0_within_18 : decode cX0_within 18 = .ok (.i2l, 1) := dk_133 (dk_at dksX0_within_0 18 rfl rfl)
theorem dX0_within_19 : decode cX0_within 19 = .ok (.lconst 0, 1) := dk_9 (dk_at dksX0_within_0 19 rfl rfl)
theorem dX0_within_20 : decode cX0_within 20 = .ok (.iload_n 3, 1) := dk_29 (dk_at dksX0_within_0 20 rfl rfl)
theorem dX0_within_21 : decode cX0_within 21 = .ok (.iconst 1, 1) := dk_4 (dk_at dksX0_within_0 21 rfl rfl)
theorem dX0_within_22 : decode cX0_within 22 = .ok (.isub, 1) := dk_100 (dk_at dksX0_within_0 22 rfl rfl)
theorem dX0_within_23 : decode cX0_within 23 = .ok (.i2l, 1) := dk_133 (dk_at dksX0_within_0 23 rfl rfl)
theorem dX0_within_24 : decode cX0_within 24 = .ok (.invokestatic 57, 3) := dk_184 0 57 (dk_at dksX0_within_1 0 rfl rfl)
theorem dX0_within_27 : decode cX0_within 27 = .ok (.ifCond .eq 21, 3) := dk_153 0 21 (dk_at dksX0_within_1 3 rfl rfl)
theorem dX0_within_30 : decode cX0_within 30 = .ok (.aload_n 0, 1) := dk_42 (dk_at dksX0_within_1 6 rfl rfl)
theorem dX0_within_31 : decode cX0_within 31 = .ok (.getfield 12, 3) := dk_180 0 12 (dk_at dksX0_within_1 7 rfl rfl)
theorem dX0_within_34 : decode cX0_within 34 = .ok (.getfield 65, 3) := dk_180 0 65 (dk_at dksX0_within_1 10 rfl rfl)
theorem dX0_within_37 : decode cX0_within 37 = .ok (.iload_n 2, 1) := dk_28 (dk_at dksX0_within_1 13 rfl rfl)
theorem dX0_within_38 : decode cX0_within 38 = .ok (.aaload, 1) := dk_50 (dk_at dksX0_within_1 14 rfl rfl)
theorem dX0_within_39 : decode cX0_within 39 = .ok (.getfield 96, 3) := dk_180 0 96 (dk_at dksX0_within_1 15 rfl rfl)
theorem dX0_within_42 : decode cX0_within 42 = .ok (.iload 4, 2) := dk_21 4 (dk_at dksX0_within_1 18 rfl rfl)
theorem dX0_within_44 : decode cX0_within 44 = .ok (.baload, 1) := dk_51 (dk_at dksX0_within_1 20 rfl rfl)
theorem dX0_within_45 : decode cX0_within 45 = .ok (.ifCond .eq 5, 3) := dk_153 0 5 (dk_at dksX0_within_1 21 rfl rfl)
theorem dX0_within_48 : decode cX0_within 48 = .ok (.iconst (-1), 1) := dk_2 (dk_at dksX0_within_2 0 rfl rfl)
theorem dX0_within_49 : decode cX0_within 49 = .ok (.ireturn, 1) := dk_172 (dk_at dksX0_within_2 1 rfl rfl)
theorem dX0_within_50 : decode cX0_within 50 = .ok (.aload_n 0, 1) := dk_42 (dk_at dksX0_within_2 2 rfl rfl)
theorem dX0_within_51 : decode cX0_within 51 = .ok (.iload_n 1, 1) := dk_27 (dk_at dksX0_within_2 3 rfl rfl)
theorem dX0_within_52 : decode cX0_within 52 = .ok (.new 227, 3) := dk_187 0 227 (dk_at dksX0_within_2 4 rfl rfl)
theorem dX0_within_55 : decode cX0_within 55 = .ok (.dup, 1) := dk_89 (dk_at dksX0_within_2 7 rfl rfl)
theorem dX0_within_56 : decode cX0_within 56 = .ok (.invokespecial 229, 3) := dk_183 0 229 (dk_at dksX0_within_2 8 rfl rfl)
theorem dX0_within_59 : decode cX0_within 59 = .ok (.aload_n 0, 1) := dk_42 (dk_at dksX0_within_2 11 rfl rfl)
theorem dX0_within_60 : decode cX0_within 60 = .ok (.getfield 12, 3) := dk_180 0 12 (dk_at dksX0_within_2 12 rfl rfl)
theorem dX0_within_63 : decode cX0_within 63 = .ok (.getfield 65, 3) := dk_180 0 65 (dk_at dksX0_within_2 15 rfl rfl)
theorem dX0_within_66 : decode cX0_within 66 = .ok (.iload_n 2, 1) := dk_28 (dk_at dksX0_within_2 18 rfl rfl)
theorem dX0_within_67 : decode cX0_within 67 = .ok (.aaload, 1) := dk_50 (dk_at dksX0_within_2 19 rfl rfl)
theorem dX0_within_68 : decode cX0_within 68 = .ok (.iload_n 3, 1) := dk_29 (dk_at dksX0_within_2 20 rfl rfl)
theorem dX0_within_69 : decode cX0_within 69 = .ok (.iload 4, 2) := dk_21 4 (dk_at dksX0_within_2 21 rfl rfl)
theorem dX0_within_71 : decode cX0_within 71 = .ok (.iload 4, 2) := dk_21 4 (dk_at dksX0_within_3 0 rfl rfl)
theorem dX0_within_73 : decode cX0_within 73 = .ok (.iconst 1, 1) := dk_4 (dk_at dksX0_within_3 2 rfl rfl)
theorem dX0_within_74 : decode cX0_within 74 = .ok (.iadd, 1) := dk_96 (dk_at dksX0_within_3 3 rfl rfl)
theorem dX0_within_75 : decode cX0_within 75 = .ok (.iconst 0, 1) := dk_3 (dk_at dksX0_within_3 4 rfl rfl)
theorem dX0_within_76 : decode cX0_within 76 = .ok (.invokevirtual 230, 3) := dk_182 0 230 (dk_at dksX0_within_3 5 rfl rfl)
theorem dX0_within_79 : decode cX0_within 79 = .ok (.ireturn, 1) := dk_172 (dk_at dksX0_within_3 8 rfl rfl)
abbrev cX0_isSlot : ByteArray := prog_1_method_22_code
def yX0_isSlot : MethodName := ⟨RX0, "isSlot", "(I)Z"⟩
def dkwX0_isSlot_0 : List UInt8 := [26, 133, 9, 20, 0, 203, 184, 0, 57, 172]
abbrev dktX0_isSlot_0 : List UInt8 := dkwX0_isSlot_0 ++ []
theorem dksX0_isSlot_0 : cX0_isSlot.data.toList.drop 0 = dktX0_isSlot_0 := by decide +kernel
theorem dX0_isSlot_0 : decode cX0_isSlot 0 = .ok (.iload_n 0, 1) := dk_26 (dk_at dksX0_isSlot_0 0 rfl rfl)
theorem dX0_isSlot_1 : decode cX0_isSlot 1 = .ok (.i2l, 1) := dk_133 (dk_at dksX0_isSlot_0 1 rfl rfl)
theorem dX0_isSlot_2 : decode cX0_isSlot 2 = .ok (.lconst 0, 1) := dk_9 (dk_at dksX0_isSlot_0 2 rfl rfl)
theorem dX0_isSlot_3 : decode cX0_isSlot 3 = .ok (.ldc2_w 203, 3) := dk_20 0 203 (dk_at dksX0_isSlot_0 3 rfl rfl)
theorem dX0_isSlot_6 : decode cX0_isSlot 6 = .ok (.invokestatic 57, 3) := dk_184 0 57 (dk_at dksX0_isSlot_0 6 rfl rfl)
theorem dX0_isSlot_9 : decode cX0_isSlot 9 = .ok (.ireturn, 1) := dk_172 (dk_at dksX0_isSlot_0 9 rfl rfl)
abbrev cX0_spans : ByteArray := prog_1_method_23_code
def yX0_spans : MethodName := ⟨RX0, "spans", "(ILGlassLog$Span;LGlassLog$Log;IIII)I"⟩
def dkwX0_spans_3 : List UInt8 := [21, 6, 21, 4, 42, 45, 3, 21, 5, 3, 182, 0, 216, 182, 0, 216, 182, 0, 220, 172]
abbrev dktX0_spans_3 : List UInt8 := dkwX0_spans_3 ++ []
def dkwX0_spans_2 : List UInt8 := [44, 180, 0, 210, 3, 21, 6, 21, 5, 100, 184, 0, 168, 42, 27, 44, 21, 4, 21, 5, 21, 7, 42, 45]
abbrev dktX0_spans_2 : List UInt8 := dkwX0_spans_2 ++ dktX0_spans_3
def dkwX0_spans_1 : List UInt8 := [180, 0, 214, 21, 5, 44, 180, 0, 205, 3, 21, 6, 21, 5, 100, 184, 0, 168, 45, 180, 0, 215, 21, 5]
abbrev dktX0_spans_1 : List UInt8 := dkwX0_spans_1 ++ dktX0_spans_2
def dkwX0_spans_0 : List UInt8 := [44, 21, 6, 21, 5, 100, 188, 10, 181, 0, 205, 44, 21, 6, 21, 5, 100, 188, 11, 181, 0, 210, 45]
abbrev dktX0_spans_0 : List UInt8 := dkwX0_spans_0 ++ dktX0_spans_1
theorem dksX0_spans_0 : cX0_spans.data.toList.drop 0 = dktX0_spans_0 := by decide +kernel
theorem dksX0_spans_1 : cX0_spans.data.toList.drop 23 = dktX0_spans_1 := dk_seg dksX0_spans_0 23 rfl rfl
theorem dksX0_spans_2 : cX0_spans.data.toList.drop 47 = dktX0_spans_2 := dk_seg dksX0_spans_1 24 rfl rfl
theorem dksX0_spans_3 : cX0_spans.data.toList.drop 71 = dktX0_spans_3 := dk_seg dksX0_spans_2 24 rfl rfl
theorem dX0_spans_0 : decode cX0_spans 0 = .ok (.aload_n 2, 1) := dk_44 (dk_at dksX0_spans_0 0 rfl rfl)
theorem dX0_spans_1 : decode cX0_spans 1 = .ok (.iload 6, 2) := dk_21 6 (dk_at dksX0_spans_0 1 rfl rfl)
theorem dX0_spans_3 : decode cX0_spans 3 = .ok (.iload 5, 2) := dk_21 5 (dk_at dksX0_spans_0 3 rfl rfl)
theorem dX0_spans_5 : decode cX0_spans 5 = .ok (.isub, 1) := dk_100 (dk_at dksX0_spans_0 5 rfl rfl)
theorem dX0_spans_6 : decode cX0_spans 6 = .ok (.newarray .int, 2) := dk_188_10 (dk_at dksX0_spans_0 6 rfl rfl)
theorem dX0_spans_8 : decode cX0_spans 8 = .ok (.putfield 205, 3) := dk_181 0 205 (dk_at dksX0_spans_0 8 rfl rfl)
theorem dX0_spans_11 : decode cX0_spans 11 = .ok (.aload_n 2, 1) := dk_44 (dk_at dksX0_spans_0 11 rfl rfl)
theorem dX0_spans_12 : decode cX0_spans 12 = .ok (.iload 6, 2) := dk_21 6 (dk_at dksX0_spans_0 12 rfl rfl)
theorem dX0_spans_14 : decode cX0_spans 14 = .ok (.iload 5, 2) := dk_21 5 (dk_at dksX0_spans_0 14 rfl rfl)
theorem dX0_spans_16 : decode cX0_spans 16 = .ok (.isub, 1) := dk_100 (dk_at dksX0_spans_0 16 rfl rfl)
theorem dX0_spans_17 : decode cX0_spans 17 = .ok (.newarray .long, 2) := dk_188_11 (dk_at dksX0_spans_0 17 rfl rfl)
theorem dX0_spans_19 : decode cX0_spans 19 = .ok (.putfield 210, 3) := dk_181 0 210 (dk_at dksX0_spans_0 19 rfl rfl)
theorem dX0_spans_22 : decode cX0_spans 22 = .ok (.aload_n 3, 1) := dk_45 (dk_at dksX0_spans_0 22 rfl rfl)
theorem dX0_spans_23 : decode cX0_spans 23 = .ok (.getfield 214, 3) := dk_180 0 214 (dk_at dksX0_spans_1 0 rfl rfl)
theorem dX0_spans_26 : decode cX0_spans 26 = .ok (.iload 5, 2) := dk_21 5 (dk_at dksX0_spans_1 3 rfl rfl)
theorem dX0_spans_28 : decode cX0_spans 28 = .ok (.aload_n 2, 1) := dk_44 (dk_at dksX0_spans_1 5 rfl rfl)
theorem dX0_spans_29 : decode cX0_spans 29 = .ok (.getfield 205, 3) := dk_180 0 205 (dk_at dksX0_spans_1 6 rfl rfl)
theorem dX0_spans_32 : decode cX0_spans 32 = .ok (.iconst 0, 1) := dk_3 (dk_at dksX0_spans_1 9 rfl rfl)
theorem dX0_spans_33 : decode cX0_spans 33 = .ok (.iload 6, 2) := dk_21 6 (dk_at dksX0_spans_1 10 rfl rfl)
theorem dX0_spans_35 : decode cX0_spans 35 = .ok (.iload 5, 2) := dk_21 5 (dk_at dksX0_spans_1 12 rfl rfl)
theorem dX0_spans_37 : decode cX0_spans 37 = .ok (.isub, 1) := dk_100 (dk_at dksX0_spans_1 14 rfl rfl)
theorem dX0_spans_38 : decode cX0_spans 38 = .ok (.invokestatic 168, 3) := dk_184 0 168 (dk_at dksX0_spans_1 15 rfl rfl)
theorem dX0_spans_41 : decode cX0_spans 41 = .ok (.aload_n 3, 1) := dk_45 (dk_at dksX0_spans_1 18 rfl rfl)
theorem dX0_spans_42 : decode cX0_spans 42 = .ok (.getfield 215, 3) := dk_180 0 215 (dk_at dksX0_spans_1 19 rfl rfl)
theorem dX0_spans_45 : decode cX0_spans 45 = .ok (.iload 5, 2) := dk_21 5 (dk_at dksX0_spans_1 22 rfl rfl)
theorem dX0_spans_47 : decode cX0_spans 47 = .ok (.aload_n 2, 1) := dk_44 (dk_at dksX0_spans_2 0 rfl rfl)
theorem dX0_spans_48 : decode cX0_spans 48 = .ok (.getfield 210, 3) := dk_180 0 210 (dk_at dksX0_spans_2 1 rfl rfl)
theorem dX0_spans_51 : decode cX0_spans 51 = .ok (.iconst 0, 1) := dk_3 (dk_at dksX0_spans_2 4 rfl rfl)
theorem dX0_spans_52 : decode cX0_spans 52 = .ok (.iload 6, 2) := dk_21 6 (dk_at dksX0_spans_2 5 rfl rfl)
theorem dX0_spans_54 : decode cX0_spans 54 = .ok (.iload 5, 2) := dk_21 5 (dk_at dksX0_spans_2 7 rfl rfl)
theorem dX0_spans_56 : decode cX0_spans 56 = .ok (.isub, 1) := dk_100 (dk_at dksX0_spans_2 9 rfl rfl)
theorem dX0_spans_57 : decode cX0_spans 57 = .ok (.invokestatic 168, 3) := dk_184 0 168 (dk_at dksX0_spans_2 10 rfl rfl)
theorem dX0_spans_60 : decode cX0_spans 60 = .ok (.aload_n 0, 1) := dk_42 (dk_at dksX0_spans_2 13 rfl rfl)
theorem dX0_spans_61 : decode cX0_spans 61 = .ok (.iload_n 1, 1) := dk_27 (dk_at dksX0_spans_2 14 rfl rfl)
theorem dX0_spans_62 : decode cX0_spans 62 = .ok (.aload_n 2, 1) := dk_44 (dk_at dksX0_spans_2 15 rfl rfl)
theorem dX0_spans_63 : decode cX0_spans 63 = .ok (.iload 4, 2) := dk_21 4 (dk_at dksX0_spans_2 16 rfl rfl)
theorem dX0_spans_65 : decode cX0_spans 65 = .ok (.iload 5, 2) := dk_21 5 (dk_at dksX0_spans_2 18 rfl rfl)
theorem dX0_spans_67 : decode cX0_spans 67 = .ok (.iload 7, 2) := dk_21 7 (dk_at dksX0_spans_2 20 rfl rfl)
theorem dX0_spans_69 : decode cX0_spans 69 = .ok (.aload_n 0, 1) := dk_42 (dk_at dksX0_spans_2 22 rfl rfl)
theorem dX0_spans_70 : decode cX0_spans 70 = .ok (.aload_n 3, 1) := dk_45 (dk_at dksX0_spans_2 23 rfl rfl)
theorem dX0_spans_71 : decode cX0_spans 71 = .ok (.iload 6, 2) := dk_21 6 (dk_at dksX0_spans_3 0 rfl rfl)
theorem dX0_spans_73 : decode cX0_spans 73 = .ok (.iload 4, 2) := dk_21 4 (dk_at dksX0_spans_3 2 rfl rfl)
theorem dX0_spans_75 : decode cX0_spans 75 = .ok (.aload_n 0, 1) := dk_42 (dk_at dksX0_spans_3 4 rfl rfl)
theorem dX0_spans_76 : decode cX0_spans 76 = .ok (.aload_n 3, 1) := dk_45 (dk_at dksX0_spans_3 5 rfl rfl)
theorem dX0_spans_77 : decode cX0_spans 77 = .ok (.iconst 0, 1) := dk_3 (dk_at dksX0_spans_3 6 rfl rfl)
theorem dX0_spans_78 : decode cX0_spans 78 = .ok (.iload 5, 2) := dk_21 5 (dk_at dksX0_spans_3 7 rfl rfl)
theorem dX0_spans_80 : decode cX0_spans 80 = .ok (.iconst 0, 1) := dk_3 (dk_at dksX0_spans_3 9 rfl rfl)
theorem dX0_spans_81 : decode cX0_spans 81 = .ok (.invokevirtual 216, 3) := dk_182 0 216 (dk_at dksX0_spans_3 10 rfl rfl)
theorem dX0_spans_84 : decode cX0_spans 84 = .ok (.invokevirtual 216, 3) := dk_182 0 216 (dk_at dksX0_spans_3 13 rfl rfl)
theorem dX0_spans_87 : decode cX0_spans 87 = .ok (.invokevirtual 220, 3) := dk_182 0 220 (dk_at dksX0_spans_3 16 rfl rfl)
theorem dX0_spans_90 : decode cX0_spans 90 = .ok (.ireturn, 1) := dk_172 (dk_at dksX0_spans_3 19 rfl rfl)
abbrev cX0_writes : ByteArray := prog_1_method_20_code
def yX0_writes : MethodName := ⟨RX0, "writes", "(LGlassLog$Log;III)I"⟩
def dkwX0_writes_2 : List UInt8 := [16, 8, 184, 0, 168, 21, 6, 4, 21, 7, 120, 96, 54, 6, 132, 5, 1, 167, 255, 201, 21, 5, 172]
abbrev dktX0_writes_2 : List UInt8 := dkwX0_writes_2 ++ []
def dkwX0_writes_1 : List UInt8 := [180, 0, 164, 21, 7, 50, 21, 6, 21, 7, 122, 16, 8, 104, 42, 180, 0, 46, 21, 5, 16, 8, 104]
abbrev dktX0_writes_1 : List UInt8 := dkwX0_writes_1 ++ dktX0_writes_2
def dkwX0_writes_0 : List UInt8 := [21, 4, 54, 5, 28, 54, 6, 21, 6, 29, 162, 0, 55, 21, 6, 29, 184, 0, 161, 54, 7, 43]
abbrev dktX0_writes_0 : List UInt8 := dkwX0_writes_0 ++ dktX0_writes_1
theorem dksX0_writes_0 : cX0_writes.data.toList.drop 0 = dktX0_writes_0 := by decide +kernel
theorem dksX0_writes_1 : cX0_writes.data.toList.drop 22 = dktX0_writes_1 := dk_seg dksX0_writes_0 22 rfl rfl
theorem dksX0_writes_2 : cX0_writes.data.toList.drop 45 = dktX0_writes_2 := dk_seg dksX0_writes_1 23 rfl rfl
theorem dX0_writes_0 : decode cX0_writes 0 = .ok (.iload 4, 2) := dk_21 4 (dk_at dksX0_writes_0 0 rfl rfl)
theorem dX0_writes_2 : decode cX0_writes 2 = .ok (.istore 5, 2) := dk_54 5 (dk_at dksX0_writes_0 2 rfl rfl)
theorem dX0_writes_4 : decode cX0_writes 4 = .ok (.iload_n 2, 1) := dk_28 (dk_at dksX0_writes_0 4 rfl rfl)
theorem dX0_writes_5 : decode cX0_writes 5 = .ok (.istore 6, 2) := dk_54 6 (dk_at dksX0_writes_0 5 rfl rfl)
theorem dX0_writes_7 : decode cX0_writes 7 = .ok (.iload 6, 2) := dk_21 6 (dk_at dksX0_writes_0 7 rfl rfl)
theorem dX0_writes_9 : decode cX0_writes 9 = .ok (.iload_n 3, 1) := dk_29 (dk_at dksX0_writes_0 9 rfl rfl)
theorem dX0_writes_10 : decode cX0_writes 10 = .ok (.if_icmp .ge 55, 3) := dk_162 0 55 (dk_at dksX0_writes_0 10 rfl rfl)
theorem dX0_writes_13 : decode cX0_writes 13 = .ok (.iload 6, 2) := dk_21 6 (dk_at dksX0_writes_0 13 rfl rfl)
theorem dX0_writes_15 : decode cX0_writes 15 = .ok (.iload_n 3, 1) := dk_29 (dk_at dksX0_writes_0 15 rfl rfl)
theorem dX0_writes_16 : decode cX0_writes 16 = .ok (.invokestatic 161, 3) := dk_184 0 161 (dk_at dksX0_writes_0 16 rfl rfl)
theorem dX0_writes_19 : decode cX0_writes 19 = .ok (.istore 7, 2) := dk_54 7 (dk_at dksX0_writes_0 19 rfl rfl)
theorem dX0_writes_21 : decode cX0_writes 21 = .ok (.aload_n 1, 1) := dk_43 (dk_at dksX0_writes_0 21 rfl rfl)
theorem dX0_writes_22 : decode cX0_writes 22 = .ok (.getfield 164, 3) := dk_180 0 164 (dk_at dksX0_writes_1 0 rfl rfl)
theorem dX0_writes_25 : decode cX0_writes 25 = .ok (.iload 7, 2) := dk_21 7 (dk_at dksX0_writes_1 3 rfl rfl)
theorem dX0_writes_27 : decode cX0_writes 27 = .ok (.aaload, 1) := dk_50 (dk_at dksX0_writes_1 5 rfl rfl)
theorem dX0_writes_28 : decode cX0_writes 28 = .ok (.iload 6, 2) := dk_21 6 (dk_at dksX0_writes_1 6 rfl rfl)
theorem dX0_writes_30 : decode cX0_writes 30 = .ok (.iload 7, 2) := dk_21 7 (dk_at dksX0_writes_1 8 rfl rfl)
theorem dX0_writes_32 : decode cX0_writes 32 = .ok (.ishr, 1) := dk_122 (dk_at dksX0_writes_1 10 rfl rfl)
theorem dX0_writes_33 : decode cX0_writes 33 = .ok (.bipush 8, 2) := dk_16 8 (dk_at dksX0_writes_1 11 rfl rfl)
theorem dX0_writes_35 : decode cX0_writes 35 = .ok (.imul, 1) := dk_104 (dk_at dksX0_writes_1 13 rfl rfl)
theorem dX0_writes_36 : decode cX0_writes 36 = .ok (.aload_n 0, 1) := dk_42 (dk_at dksX0_writes_1 14 rfl rfl)
theorem dX0_writes_37 : decode cX0_writes 37 = .ok (.getfield 46, 3) := dk_180 0 46 (dk_at dksX0_writes_1 15 rfl rfl)
theorem dX0_writes_40 : decode cX0_writes 40 = .ok (.iload 5, 2) := dk_21 5 (dk_at dksX0_writes_1 18 rfl rfl)
theorem dX0_writes_42 : decode cX0_writes 42 = .ok (.bipush 8, 2) := dk_16 8 (dk_at dksX0_writes_1 20 rfl rfl)
theorem dX0_writes_44 : decode cX0_writes 44 = .ok (.imul, 1) := dk_104 (dk_at dksX0_writes_1 22 rfl rfl)
theorem dX0_writes_45 : decode cX0_writes 45 = .ok (.bipush 8, 2) := dk_16 8 (dk_at dksX0_writes_2 0 rfl rfl)
theorem dX0_writes_47 : decode cX0_writes 47 = .ok (.invokestatic 168, 3) := dk_184 0 168 (dk_at dksX0_writes_2 2 rfl rfl)
theorem dX0_writes_50 : decode cX0_writes 50 = .ok (.iload 6, 2) := dk_21 6 (dk_at dksX0_writes_2 5 rfl rfl)
theorem dX0_writes_52 : decode cX0_writes 52 = .ok (.iconst 1, 1) := dk_4 (dk_at dksX0_writes_2 7 rfl rfl)
theorem dX0_writes_53 : decode cX0_writes 53 = .ok (.iload 7, 2) := dk_21 7 (dk_at dksX0_writes_2 8 rfl rfl)
theorem dX0_writes_55 : decode cX0_writes 55 = .ok (.ishl, 1) := dk_120 (dk_at dksX0_writes_2 10 rfl rfl)
theorem dX0_writes_56 : decode cX0_writes 56 = .ok (.iadd, 1) := dk_96 (dk_at dksX0_writes_2 11 rfl rfl)
theorem dX0_writes_57 : decode cX0_writes 57 = .ok (.istore 6, 2) := dk_54 6 (dk_at dksX0_writes_2 12 rfl rfl)
theorem dX0_writes_59 : decode cX0_writes 59 = .ok (.iinc 5 1, 3) := dk_132 5 1 (dk_at dksX0_writes_2 14 rfl rfl)
theorem dX0_writes_62 : decode cX0_writes 62 = .ok (.goto (-55), 3) := dk_167 255 201 (dk_at dksX0_writes_2 17 rfl rfl)
theorem dX0_writes_65 : decode cX0_writes 65 = .ok (.iload 5, 2) := dk_21 5 (dk_at dksX0_writes_2 20 rfl rfl)
theorem dX0_writes_67 : decode cX0_writes 67 = .ok (.ireturn, 1) := dk_172 (dk_at dksX0_writes_2 22 rfl rfl)
abbrev cX0_puts : ByteArray := prog_1_method_21_code
def yX0_puts : MethodName := ⟨RX0, "puts", "(ILGlassLog$Proof;IIII)I"⟩
def dkwX0_puts_2 : List UInt8 := [44, 181, 0, 197, 21, 6, 172]
abbrev dktX0_puts_2 : List UInt8 := dkwX0_puts_2 ++ []
def dkwX0_puts_1 : List UInt8 := [42, 180, 0, 46, 21, 6, 16, 8, 104, 184, 0, 184, 181, 0, 190, 42, 180, 0, 12, 180, 0, 193, 27, 50]
abbrev dktX0_puts_1 : List UInt8 := dkwX0_puts_1 ++ dktX0_puts_2
def dkwX0_puts_0 : List UInt8 := [44, 29, 181, 0, 174, 44, 21, 4, 181, 0, 177, 44, 21, 5, 181, 0, 180, 44, 21, 6, 181, 0, 183, 44]
abbrev dktX0_puts_0 : List UInt8 := dkwX0_puts_0 ++ dktX0_puts_1
theorem dksX0_puts_0 : cX0_puts.data.toList.drop 0 = dktX0_puts_0 := by decide +kernel
theorem dksX0_puts_1 : cX0_puts.data.toList.drop 24 = dktX0_puts_1 := dk_seg dksX0_puts_0 24 rfl rfl
theorem dksX0_puts_2 : cX0_puts.data.toList.drop 48 = dktX0_puts_2 := dk_seg dksX0_puts_1 24 rfl rfl
theorem dX0_puts_0 : decode cX0_puts 0 = .ok (.aload_n 2, 1) := dk_44 (dk_at dksX0_puts_0 0 rfl rfl)
theorem dX0_puts_1 : decode cX0_puts 1 = .ok (.iload_n 3, 1) := dk_29 (dk_at dksX0_puts_0 1 rfl rfl)
theorem dX0_puts_2 : decode cX0_puts 2 = .ok (.putfield 174, 3) := dk_181 0 174 (dk_at dksX0_puts_0 2 rfl rfl)
theorem dX0_puts_5 : decode cX0_puts 5 = .ok (.aload_n 2, 1) := dk_44 (dk_at dksX0_puts_0 5 rfl rfl)
theorem dX0_puts_6 : decode cX0_puts 6 = .ok (.iload 4, 2) := dk_21 4 (dk_at dksX0_puts_0 6 rfl rfl)
theorem dX0_puts_8 : decode cX0_puts 8 = .ok (.putfield 177, 3) := dk_181 0 177 (dk_at dksX0_puts_0 8 rfl rfl)
theorem dX0_puts_11 : decode cX0_puts 11 = .ok (.aload_n 2, 1) := dk_44 (dk_at dksX0_puts_0 11 rfl rfl)
theorem dX0_puts_12 : decode cX0_puts 12 = .ok (.iload 5, 2) := dk_21 5 (dk_at dksX0_puts_0 12 rfl rfl)
theorem dX0_puts_14 : decode cX0_puts 14 = .ok (.putfield 180, 3) := dk_181 0 180 (dk_at dksX0_puts_0 14 rfl rfl)
theorem dX0_puts_17 : decode cX0_puts 17 = .ok (.aload_n 2, 1) := dk_44 (dk_at dksX0_puts_0 17 rfl rfl)
theorem dX0_puts_18 : decode cX0_puts 18 = .ok (.iload 6, 2) := dk_21 6 (dk_at dksX0_puts_0 18 rfl rfl)
theorem dX0_puts_20 : decode cX0_puts 20 = .ok (.putfield 183, 3) := dk_181 0 183 (dk_at dksX0_puts_0 20 rfl rfl)
theorem dX0_puts_23 : decode cX0_puts 23 = .ok (.aload_n 2, 1) := dk_44 (dk_at dksX0_puts_0 23 rfl rfl)
theorem dX0_puts_24 : decode cX0_puts 24 = .ok (.aload_n 0, 1) := dk_42 (dk_at dksX0_puts_1 0 rfl rfl)
theorem dX0_puts_25 : decode cX0_puts 25 = .ok (.getfield 46, 3) := dk_180 0 46 (dk_at dksX0_puts_1 1 rfl rfl)
theorem dX0_puts_28 : decode cX0_puts 28 = .ok (.iload 6, 2) := dk_21 6 (dk_at dksX0_puts_1 4 rfl rfl)
theorem dX0_puts_30 : decode cX0_puts 30 = .ok (.bipush 8, 2) := dk_16 8 (dk_at dksX0_puts_1 6 rfl rfl)
theorem dX0_puts_32 : decode cX0_puts 32 = .ok (.imul, 1) := dk_104 (dk_at dksX0_puts_1 8 rfl rfl)
theorem dX0_puts_33 : decode cX0_puts 33 = .ok (.invokestatic 184, 3) := dk_184 0 184 (dk_at dksX0_puts_1 9 rfl rfl)
theorem dX0_puts_36 : decode cX0_puts 36 = .ok (.putfield 190, 3) := dk_181 0 190 (dk_at dksX0_puts_1 12 rfl rfl)
theorem dX0_puts_39 : decode cX0_puts 39 = .ok (.aload_n 0, 1) := dk_42 (dk_at dksX0_puts_1 15 rfl rfl)
theorem dX0_puts_40 : decode cX0_puts 40 = .ok (.getfield 12, 3) := dk_180 0 12 (dk_at dksX0_puts_1 16 rfl rfl)
theorem dX0_puts_43 : decode cX0_puts 43 = .ok (.getfield 193, 3) := dk_180 0 193 (dk_at dksX0_puts_1 19 rfl rfl)
theorem dX0_puts_46 : decode cX0_puts 46 = .ok (.iload_n 1, 1) := dk_27 (dk_at dksX0_puts_1 22 rfl rfl)
theorem dX0_puts_47 : decode cX0_puts 47 = .ok (.aaload, 1) := dk_50 (dk_at dksX0_puts_1 23 rfl rfl)
theorem dX0_puts_48 : decode cX0_puts 48 = .ok (.aload_n 2, 1) := dk_44 (dk_at dksX0_puts_2 0 rfl rfl)
theorem dX0_puts_49 : decode cX0_puts 49 = .ok (.putfield 197, 3) := dk_181 0 197 (dk_at dksX0_puts_2 1 rfl rfl)
theorem dX0_puts_52 : decode cX0_puts 52 = .ok (.iload 6, 2) := dk_21 6 (dk_at dksX0_puts_2 4 rfl rfl)
theorem dX0_puts_54 : decode cX0_puts 54 = .ok (.ireturn, 1) := dk_172 (dk_at dksX0_puts_2 6 rfl rfl)
abbrev cX0_grown : ByteArray := prog_1_method_25_code
def yX0_grown : MethodName := ⟨RX0, "grown", "(IIII)I"⟩
def dkwX0_grown_3 : List UInt8 := [182, 0, 216, 182, 0, 220, 172]
abbrev dktX0_grown_3 : List UInt8 := dkwX0_grown_3 ++ []
def dkwX0_grown_2 : List UInt8 := [89, 183, 0, 236, 21, 4, 29, 3, 42, 25, 5, 29, 21, 4, 42, 25, 5, 3, 29, 3, 182, 0, 216]
abbrev dktX0_grown_2 : List UInt8 := dkwX0_grown_2 ++ dktX0_grown_3
def dkwX0_grown_1 : List UInt8 := [184, 0, 57, 154, 0, 5, 2, 172, 42, 180, 0, 12, 180, 0, 65, 28, 50, 58, 5, 42, 27, 187, 0, 234]
abbrev dktX0_grown_1 : List UInt8 := dkwX0_grown_1 ++ dktX0_grown_2
def dkwX0_grown_0 : List UInt8 := [27, 184, 0, 224, 153, 0, 25, 42, 28, 21, 4, 182, 0, 84, 153, 0, 15, 29, 133, 9, 21, 4, 133]
abbrev dktX0_grown_0 : List UInt8 := dkwX0_grown_0 ++ dktX0_grown_1
theorem dksX0_grown_0 : cX0_grown.data.toList.drop 0 = dktX0_grown_0 := by decide +kernel
theorem dksX0_grown_1 : cX0_grown.data.toList.drop 23 = dktX0_grown_1 := dk_seg dksX0_grown_0 23 rfl rfl
theorem dksX0_grown_2 : cX0_grown.data.toList.drop 47 = dktX0_grown_2 := dk_seg dksX0_grown_1 24 rfl rfl
theorem dksX0_grown_3 : cX0_grown.data.toList.drop 70 = dktX0_grown_3 := dk_seg dksX0_grown_2 23 rfl rfl
theorem dX0_grown_0 : decode cX0_grown 0 = .ok (.iload_n 1, 1) := dk_27 (dk_at dksX0_grown_0 0 rfl rfl)
theorem dX0_grown_1 : decode cX0_grown 1 = .ok (.invokestatic 224, 3) := dk_184 0 224 (dk_at dksX0_grown_0 1 rfl rfl)
theorem dX0_grown_4 : decode cX0_grown 4 = .ok (.ifCond .eq 25, 3) := dk_153 0 25 (dk_at dksX0_grown_0 4 rfl rfl)
theorem dX0_grown_7 : decode cX0_grown 7 = .ok (.aload_n 0, 1) := dk_42 (dk_at dksX0_grown_0 7 rfl rfl)
theorem dX0_grown_8 : decode cX0_grown 8 = .ok (.iload_n 2, 1) := dk_28 (dk_at dksX0_grown_0 8 rfl rfl)
theorem dX0_grown_9 : decode cX0_grown 9 = .ok (.iload 4, 2) := dk_21 4 (dk_at dksX0_grown_0 9 rfl rfl)
theorem dX0_grown_11 : decode cX0_grown 11 = .ok (.invokevirtual 84, 3) := dk_182 0 84 (dk_at dksX0_grown_0 11 rfl rfl)
theorem dX0_grown_14 : decode cX0_grown 14 = .ok (.ifCond .eq 15, 3) := dk_153 0 15 (dk_at dksX0_grown_0 14 rfl rfl)
theorem dX0_grown_17 : decode cX0_grown 17 = .ok (.iload_n 3, 1) := dk_29 (dk_at dksX0_grown_0 17 rfl rfl)
theorem dX0_grown_18 : decode cX0_grown 18 = .ok (.i2l, 1) := dk_133 (dk_at dksX0_grown_0 18 rfl rfl)
theorem dX0_grown_19 : decode cX0_grown 19 = .ok (.lconst 0, 1) := dk_9 (dk_at dksX0_grown_0 19 rfl rfl)
theorem dX0_grown_20 : decode cX0_grown 20 = .ok (.iload 4, 2) := dk_21 4 (dk_at dksX0_grown_0 20 rfl rfl)
theorem dX0_grown_22 : decode cX0_grown 22 = .ok (.i2l, 1) := dk_133 (dk_at dksX0_grown_0 22 rfl rfl)
theorem dX0_grown_23 : decode cX0_grown 23 = .ok (.invokestatic 57, 3) := dk_184 0 57 (dk_at dksX0_grown_1 0 rfl rfl)
theorem dX0_grown_26 : decode cX0_grown 26 = .ok (.ifCond .ne 5, 3) := dk_154 0 5 (dk_at dksX0_grown_1 3 rfl rfl)
theorem dX0_grown_29 : decode cX0_grown 29 = .ok (.iconst (-1), 1) := dk_2 (dk_at dksX0_grown_1 6 rfl rfl)
theorem dX0_grown_30 : decode cX0_grown 30 = .ok (.ireturn, 1) := dk_172 (dk_at dksX0_grown_1 7 rfl rfl)
theorem dX0_grown_31 : decode cX0_grown 31 = .ok (.aload_n 0, 1) := dk_42 (dk_at dksX0_grown_1 8 rfl rfl)
theorem dX0_grown_32 : decode cX0_grown 32 = .ok (.getfield 12, 3) := dk_180 0 12 (dk_at dksX0_grown_1 9 rfl rfl)
theorem dX0_grown_35 : decode cX0_grown 35 = .ok (.getfield 65, 3) := dk_180 0 65 (dk_at dksX0_grown_1 12 rfl rfl)
theorem dX0_grown_38 : decode cX0_grown 38 = .ok (.iload_n 2, 1) := dk_28 (dk_at dksX0_grown_1 15 rfl rfl)
theorem dX0_grown_39 : decode cX0_grown 39 = .ok (.aaload, 1) := dk_50 (dk_at dksX0_grown_1 16 rfl rfl)
theorem dX0_grown_40 : decode cX0_grown 40 = .ok (.astore 5, 2) := dk_58 5 (dk_at dksX0_grown_1 17 rfl rfl)
theorem dX0_grown_42 : decode cX0_grown 42 = .ok (.aload_n 0, 1) := dk_42 (dk_at dksX0_grown_1 19 rfl rfl)
theorem dX0_grown_43 : decode cX0_grown 43 = .ok (.iload_n 1, 1) := dk_27 (dk_at dksX0_grown_1 20 rfl rfl)
theorem dX0_grown_44 : decode cX0_grown 44 = .ok (.new 234, 3) := dk_187 0 234 (dk_at dksX0_grown_1 21 rfl rfl)
theorem dX0_grown_47 : decode cX0_grown 47 = .ok (.dup, 1) := dk_89 (dk_at dksX0_grown_2 0 rfl rfl)
theorem dX0_grown_48 : decode cX0_grown 48 = .ok (.invokespecial 236, 3) := dk_183 0 236 (dk_at dksX0_grown_2 1 rfl rfl)
theorem dX0_grown_51 : decode cX0_grown 51 = .ok (.iload 4, 2) := dk_21 4 (dk_at dksX0_grown_2 4 rfl rfl)
theorem dX0_grown_53 : decode cX0_grown 53 = .ok (.iload_n 3, 1) := dk_29 (dk_at dksX0_grown_2 6 rfl rfl)
theorem dX0_grown_54 : decode cX0_grown 54 = .ok (.iconst 0, 1) := dk_3 (dk_at dksX0_grown_2 7 rfl rfl)
theorem dX0_grown_55 : decode cX0_grown 55 = .ok (.aload_n 0, 1) := dk_42 (dk_at dksX0_grown_2 8 rfl rfl)
theorem dX0_grown_56 : decode cX0_grown 56 = .ok (.aload 5, 2) := dk_25 5 (dk_at dksX0_grown_2 9 rfl rfl)
theorem dX0_grown_58 : decode cX0_grown 58 = .ok (.iload_n 3, 1) := dk_29 (dk_at dksX0_grown_2 11 rfl rfl)
theorem dX0_grown_59 : decode cX0_grown 59 = .ok (.iload 4, 2) := dk_21 4 (dk_at dksX0_grown_2 12 rfl rfl)
theorem dX0_grown_61 : decode cX0_grown 61 = .ok (.aload_n 0, 1) := dk_42 (dk_at dksX0_grown_2 14 rfl rfl)
theorem dX0_grown_62 : decode cX0_grown 62 = .ok (.aload 5, 2) := dk_25 5 (dk_at dksX0_grown_2 15 rfl rfl)
theorem dX0_grown_64 : decode cX0_grown 64 = .ok (.iconst 0, 1) := dk_3 (dk_at dksX0_grown_2 17 rfl rfl)
theorem dX0_grown_65 : decode cX0_grown 65 = .ok (.iload_n 3, 1) := dk_29 (dk_at dksX0_grown_2 18 rfl rfl)
theorem dX0_grown_66 : decode cX0_grown 66 = .ok (.iconst 0, 1) := dk_3 (dk_at dksX0_grown_2 19 rfl rfl)
theorem dX0_grown_67 : decode cX0_grown 67 = .ok (.invokevirtual 216, 3) := dk_182 0 216 (dk_at dksX0_grown_2 20 rfl rfl)
theorem dX0_grown_70 : decode cX0_grown 70 = .ok (.invokevirtual 216, 3) := dk_182 0 216 (dk_at dksX0_grown_3 0 rfl rfl)
theorem dX0_grown_73 : decode cX0_grown 73 = .ok (.invokevirtual 220, 3) := dk_182 0 220 (dk_at dksX0_grown_3 3 rfl rfl)
theorem dX0_grown_76 : decode cX0_grown 76 = .ok (.ireturn, 1) := dk_172 (dk_at dksX0_grown_3 6 rfl rfl)
abbrev cX0_held : ByteArray := prog_1_method_26_code
def yX0_held : MethodName := ⟨RX0, "held", "(IIII)I"⟩
def dkwX0_held_5 : List UInt8 := [182, 0, 220, 172]
abbrev dktX0_held_5 : List UInt8 := dkwX0_held_5 ++ []
def dkwX0_held_4 : List UInt8 := [180, 0, 35, 180, 0, 249, 46, 181, 0, 252, 42, 27, 25, 5, 29, 3, 3, 42, 180, 0, 35, 180, 0, 254]
abbrev dktX0_held_4 : List UInt8 := dkwX0_held_4 ++ dktX0_held_5
def dkwX0_held_3 : List UInt8 := [180, 0, 46, 182, 0, 240, 25, 5, 21, 4, 181, 0, 244, 25, 5, 42, 180, 0, 35, 180, 0, 247, 42]
abbrev dktX0_held_3 : List UInt8 := dkwX0_held_3 ++ dktX0_held_4
def dkwX0_held_2 : List UInt8 := [180, 0, 35, 42, 180, 0, 12, 180, 0, 65, 28, 50, 29, 182, 0, 106, 42, 180, 0, 35, 21, 4, 42]
abbrev dktX0_held_2 : List UInt8 := dkwX0_held_2 ++ dktX0_held_3
def dkwX0_held_1 : List UInt8 := [50, 29, 21, 4, 182, 0, 117, 156, 0, 5, 2, 172, 187, 0, 237, 89, 183, 0, 239, 58, 5, 42]
abbrev dktX0_held_1 : List UInt8 := dkwX0_held_1 ++ dktX0_held_2
def dkwX0_held_0 : List UInt8 := [27, 184, 0, 224, 153, 0, 30, 42, 28, 29, 182, 0, 84, 153, 0, 21, 42, 180, 0, 12, 180, 0, 65, 28]
abbrev dktX0_held_0 : List UInt8 := dkwX0_held_0 ++ dktX0_held_1
theorem dksX0_held_0 : cX0_held.data.toList.drop 0 = dktX0_held_0 := by decide +kernel
theorem dksX0_held_1 : cX0_held.data.toList.drop 24 = dktX0_held_1 := dk_seg dksX0_held_0 24 rfl rfl
theorem dksX0_held_2 : cX0_held.data.toList.drop 46 = dktX0_held_2 := dk_seg dksX0_held_1 22 rfl rfl
theorem dksX0_held_3 : cX0_held.data.toList.drop 69 = dktX0_held_3 := dk_seg dksX0_held_2 23 rfl rfl
theorem dksX0_held_4 : cX0_held.data.toList.drop 92 = dktX0_held_4 := dk_seg dksX0_held_3 23 rfl rfl
theorem dksX0_held_5 : cX0_held.data.toList.drop 116 = dktX0_held_5 := dk_seg dksX0_held_4 24 rfl rfl
theorem dX0_held_0 : decode cX0_held 0 = .ok (.iload_n 1, 1) := dk_27 (dk_at dksX0_held_0 0 rfl rfl)
theorem dX0_held_1 : decode cX0_held 1 = .ok (.invokestatic 224, 3) := dk_184 0 224 (dk_at dksX0_held_0 1 rfl rfl)
theorem dX0_held_4 : decode cX0_held 4 = .ok (.ifCond .eq 30, 3) := dk_153 0 30 (dk_at dksX0_held_0 4 rfl rfl)
theorem dX0_held_7 : decode cX0_held 7 = .ok (.aload_n 0, 1) := dk_42 (dk_at dksX0_held_0 7 rfl rfl)
theorem dX0_held_8 : decode cX0_held 8 = .ok (.iload_n 2, 1) := dk_28 (dk_at dksX0_held_0 8 rfl rfl)
theorem dX0_held_9 : decode cX0_held 9 = .ok (.iload_n 3, 1) := dk_29 (dk_at dksX0_held_0 9 rfl rfl)
theorem dX0_held_10 : decode cX0_held 10 = .ok (.invokevirtual 84, 3) := dk_182 0 84 (dk_at dksX0_held_0 10 rfl rfl)
theorem dX0_held_13 : decode cX0_held 13 = .ok (.ifCond .eq 21, 3) := dk_153 0 21 (dk_at dksX0_held_0 13 rfl rfl)
theorem dX0_held_16 : decode cX0_held 16 = .ok (.aload_n 0, 1) := dk_42 (dk_at dksX0_held_0 16 rfl rfl)
theorem dX0_held_17 : decode cX0_held 17 = .ok (.getfield 12, 3) := dk_180 0 12 (dk_at dksX0_held_0 17 rfl rfl)
theorem dX0_held_20 : decode cX0_held 20 = .ok (.getfield 65, 3) := dk_180 0 65 (dk_at dksX0_held_0 20 rfl rfl)
theorem dX0_held_23 : decode cX0_held 23 = .ok (.iload_n 2, 1) := dk_28 (dk_at dksX0_held_0 23 rfl rfl)
theorem dX0_held_24 : decode cX0_held 24 = .ok (.aaload, 1) := dk_50 (dk_at dksX0_held_1 0 rfl rfl)
theorem dX0_held_25 : decode cX0_held 25 = .ok (.iload_n 3, 1) := dk_29 (dk_at dksX0_held_1 1 rfl rfl)
theorem dX0_held_26 : decode cX0_held 26 = .ok (.iload 4, 2) := dk_21 4 (dk_at dksX0_held_1 2 rfl rfl)
theorem dX0_held_28 : decode cX0_held 28 = .ok (.invokevirtual 117, 3) := dk_182 0 117 (dk_at dksX0_held_1 4 rfl rfl)
theorem dX0_held_31 : decode cX0_held 31 = .ok (.ifCond .ge 5, 3) := dk_156 0 5 (dk_at dksX0_held_1 7 rfl rfl)
theorem dX0_held_34 : decode cX0_held 34 = .ok (.iconst (-1), 1) := dk_2 (dk_at dksX0_held_1 10 rfl rfl)
theorem dX0_held_35 : decode cX0_held 35 = .ok (.ireturn, 1) := dk_172 (dk_at dksX0_held_1 11 rfl rfl)
theorem dX0_held_36 : decode cX0_held 36 = .ok (.new 237, 3) := dk_187 0 237 (dk_at dksX0_held_1 12 rfl rfl)
theorem dX0_held_39 : decode cX0_held 39 = .ok (.dup, 1) := dk_89 (dk_at dksX0_held_1 15 rfl rfl)
theorem dX0_held_40 : decode cX0_held 40 = .ok (.invokespecial 239, 3) := dk_183 0 239 (dk_at dksX0_held_1 16 rfl rfl)
theorem dX0_held_43 : decode cX0_held 43 = .ok (.astore 5, 2) := dk_58 5 (dk_at dksX0_held_1 19 rfl rfl)
theorem dX0_held_45 : decode cX0_held 45 = .ok (.aload_n 0, 1) := dk_42 (dk_at dksX0_held_1 21 rfl rfl)
theorem dX0_held_46 : decode cX0_held 46 = .ok (.getfield 35, 3) := dk_180 0 35 (dk_at dksX0_held_2 0 rfl rfl)
theorem dX0_held_49 : decode cX0_held 49 = .ok (.aload_n 0, 1) := dk_42 (dk_at dksX0_held_2 3 rfl rfl)
theorem dX0_held_50 : decode cX0_held 50 = .ok (.getfield 12, 3) := dk_180 0 12 (dk_at dksX0_held_2 4 rfl rfl)
theorem dX0_held_53 : decode cX0_held 53 = .ok (.getfield 65, 3) := dk_180 0 65 (dk_at dksX0_held_2 7 rfl rfl)
theorem dX0_held_56 : decode cX0_held 56 = .ok (.iload_n 2, 1) := dk_28 (dk_at dksX0_held_2 10 rfl rfl)
theorem dX0_held_57 : decode cX0_held 57 = .ok (.aaload, 1) := dk_50 (dk_at dksX0_held_2 11 rfl rfl)
theorem dX0_held_58 : decode cX0_held 58 = .ok (.iload_n 3, 1) := dk_29 (dk_at dksX0_held_2 12 rfl rfl)
theorem dX0_held_59 : decode cX0_held 59 = .ok (.invokevirtual 106, 3) := dk_182 0 106 (dk_at dksX0_held_2 13 rfl rfl)
theorem dX0_held_62 : decode cX0_held 62 = .ok (.aload_n 0, 1) := dk_42 (dk_at dksX0_held_2 16 rfl rfl)
theorem dX0_held_63 : decode cX0_held 63 = .ok (.getfield 35, 3) := dk_180 0 35 (dk_at dksX0_held_2 17 rfl rfl)
theorem dX0_held_66 : decode cX0_held 66 = .ok (.iload 4, 2) := dk_21 4 (dk_at dksX0_held_2 20 rfl rfl)
theorem dX0_held_68 : decode cX0_held 68 = .ok (.aload_n 0, 1) := dk_42 (dk_at dksX0_held_2 22 rfl rfl)
theorem dX0_held_69 : decode cX0_held 69 = .ok (.getfield 46, 3) := dk_180 0 46 (dk_at dksX0_held_3 0 rfl rfl)
theorem dX0_held_72 : decode cX0_held 72 = .ok (.invokevirtual 240, 3) := dk_182 0 240 (dk_at dksX0_held_3 3 rfl rfl)
theorem dX0_held_75 : decode cX0_held 75 = .ok (.aload 5, 2) := dk_25 5 (dk_at dksX0_held_3 6 rfl rfl)
theorem dX0_held_77 : decode cX0_held 77 = .ok (.iload 4, 2) := dk_21 4 (dk_at dksX0_held_3 8 rfl rfl)
theorem dX0_held_79 : decode cX0_held 79 = .ok (.putfield 244, 3) := dk_181 0 244 (dk_at dksX0_held_3 10 rfl rfl)
theorem dX0_held_82 : decode cX0_held 82 = .ok (.aload 5, 2) := dk_25 5 (dk_at dksX0_held_3 13 rfl rfl)
theorem dX0_held_84 : decode cX0_held 84 = .ok (.aload_n 0, 1) := dk_42 (dk_at dksX0_held_3 15 rfl rfl)
theorem dX0_held_85 : decode cX0_held 85 = .ok (.getfield 35, 3) := dk_180 0 35 (dk_at dksX0_held_3 16 rfl rfl)
theorem dX0_held_88 : decode cX0_held 88 = .ok (.getfield 247, 3) := dk_180 0 247 (dk_at dksX0_held_3 19 rfl rfl)
theorem dX0_held_91 : decode cX0_held 91 = .ok (.aload_n 0, 1) := dk_42 (dk_at dksX0_held_3 22 rfl rfl)
theorem dX0_held_92 : decode cX0_held 92 = .ok (.getfield 35, 3) := dk_180 0 35 (dk_at dksX0_held_4 0 rfl rfl)
theorem dX0_held_95 : decode cX0_held 95 = .ok (.getfield 249, 3) := dk_180 0 249 (dk_at dksX0_held_4 3 rfl rfl)
theorem dX0_held_98 : decode cX0_held 98 = .ok (.iaload, 1) := dk_46 (dk_at dksX0_held_4 6 rfl rfl)
theorem dX0_held_99 : decode cX0_held 99 = .ok (.putfield 252, 3) := dk_181 0 252 (dk_at dksX0_held_4 7 rfl rfl)
theorem dX0_held_102 : decode cX0_held 102 = .ok (.aload_n 0, 1) := dk_42 (dk_at dksX0_held_4 10 rfl rfl)
theorem dX0_held_103 : decode cX0_held 103 = .ok (.iload_n 1, 1) := dk_27 (dk_at dksX0_held_4 11 rfl rfl)
theorem dX0_held_104 : decode cX0_held 104 = .ok (.aload 5, 2) := dk_25 5 (dk_at dksX0_held_4 12 rfl rfl)
theorem dX0_held_106 : decode cX0_held 106 = .ok (.iload_n 3, 1) := dk_29 (dk_at dksX0_held_4 14 rfl rfl)
theorem dX0_held_107 : decode cX0_held 107 = .ok (.iconst 0, 1) := dk_3 (dk_at dksX0_held_4 15 rfl rfl)
theorem dX0_held_108 : decode cX0_held 108 = .ok (.iconst 0, 1) := dk_3 (dk_at dksX0_held_4 16 rfl rfl)
theorem dX0_held_109 : decode cX0_held 109 = .ok (.aload_n 0, 1) := dk_42 (dk_at dksX0_held_4 17 rfl rfl)
theorem dX0_held_110 : decode cX0_held 110 = .ok (.getfield 35, 3) := dk_180 0 35 (dk_at dksX0_held_4 18 rfl rfl)
theorem dX0_held_113 : decode cX0_held 113 = .ok (.getfield 254, 3) := dk_180 0 254 (dk_at dksX0_held_4 21 rfl rfl)
theorem dX0_held_116 : decode cX0_held 116 = .ok (.invokevirtual 220, 3) := dk_182 0 220 (dk_at dksX0_held_5 0 rfl rfl)
theorem dX0_held_119 : decode cX0_held 119 = .ok (.ireturn, 1) := dk_172 (dk_at dksX0_held_5 3 rfl rfl)
abbrev cX0_absent : ByteArray := prog_1_method_27_code
def yX0_absent : MethodName := ⟨RX0, "absent", "(IIII)I"⟩
def dkwX0_absent_7 : List UInt8 := [180, 0, 35, 180, 0, 254, 182, 0, 220, 172]
abbrev dktX0_absent_7 : List UInt8 := dkwX0_absent_7 ++ []
def dkwX0_absent_6 : List UInt8 := [180, 0, 247, 42, 180, 0, 35, 180, 0, 249, 46, 181, 1, 9, 42, 27, 25, 5, 29, 3, 3, 42]
abbrev dktX0_absent_6 : List UInt8 := dkwX0_absent_6 ++ dktX0_absent_7
def dkwX0_absent_5 : List UInt8 := [181, 1, 6, 25, 5, 42, 180, 0, 35, 180, 0, 249, 156, 0, 7, 2, 167, 0, 18, 42, 180, 0, 35]
abbrev dktX0_absent_5 : List UInt8 := dkwX0_absent_5 ++ dktX0_absent_6
def dkwX0_absent_4 : List UInt8 := [156, 0, 7, 3, 167, 0, 18, 42, 180, 0, 35, 180, 1, 5, 42, 180, 0, 35, 180, 0, 249, 46]
abbrev dktX0_absent_4 : List UInt8 := dkwX0_absent_4 ++ dktX0_absent_5
def dkwX0_absent_3 : List UInt8 := [180, 0, 46, 182, 0, 240, 25, 5, 21, 4, 181, 1, 4, 25, 5, 42, 180, 0, 35, 180, 0, 249]
abbrev dktX0_absent_3 : List UInt8 := dkwX0_absent_3 ++ dktX0_absent_4
def dkwX0_absent_2 : List UInt8 := [180, 0, 35, 42, 180, 0, 12, 180, 0, 65, 28, 50, 29, 182, 0, 106, 42, 180, 0, 35, 21, 4, 42]
abbrev dktX0_absent_2 : List UInt8 := dkwX0_absent_2 ++ dktX0_absent_3
def dkwX0_absent_1 : List UInt8 := [50, 29, 21, 4, 182, 0, 117, 155, 0, 5, 2, 172, 187, 1, 1, 89, 183, 1, 3, 58, 5, 42]
abbrev dktX0_absent_1 : List UInt8 := dkwX0_absent_1 ++ dktX0_absent_2
def dkwX0_absent_0 : List UInt8 := [27, 184, 0, 224, 153, 0, 30, 42, 28, 29, 182, 0, 84, 153, 0, 21, 42, 180, 0, 12, 180, 0, 65, 28]
abbrev dktX0_absent_0 : List UInt8 := dkwX0_absent_0 ++ dktX0_absent_1
theorem dksX0_absent_0 : cX0_absent.data.toList.drop 0 = dktX0_absent_0 := by decide +kernel
theorem dksX0_absent_1 : cX0_absent.data.toList.drop 24 = dktX0_absent_1 := dk_seg dksX0_absent_0 24 rfl rfl
theorem dksX0_absent_2 : cX0_absent.data.toList.drop 46 = dktX0_absent_2 := dk_seg dksX0_absent_1 22 rfl rfl
theorem dksX0_absent_3 : cX0_absent.data.toList.drop 69 = dktX0_absent_3 := dk_seg dksX0_absent_2 23 rfl rfl
theorem dksX0_absent_4 : cX0_absent.data.toList.drop 91 = dktX0_absent_4 := dk_seg dksX0_absent_3 22 rfl rfl
theorem dksX0_absent_5 : cX0_absent.data.toList.drop 113 = dktX0_absent_5 := dk_seg dksX0_absent_4 22 rfl rfl
theorem dksX0_absent_6 : cX0_absent.data.toList.drop 136 = dktX0_absent_6 := dk_seg dksX0_absent_5 23 rfl rfl
theorem dksX0_absent_7 : cX0_absent.data.toList.drop 158 = dktX0_absent_7 := dk_seg dksX0_absent_6 22 rfl rfl
theorem dX0_absent_0 : decode cX0_absent 0 = .ok (.iload_n 1, 1) := dk_27 (dk_at dksX0_absent_0 0 rfl rfl)
theorem dX0_absent_1 : decode cX0_absent 1 = .ok (.invokestatic 224, 3) := dk_184 0 224 (dk_at dksX0_absent_0 1 rfl rfl)
theorem dX0_absent_4 : decode cX0_absent 4 = .ok (.ifCond .eq 30, 3) := dk_153 0 30 (dk_at dksX0_absent_0 4 rfl rfl)
theorem dX0_absent_7 : decode cX0_absent 7 = .ok (.aload_n 0, 1) := dk_42 (dk_at dksX0_absent_0 7 rfl rfl)
theorem dX0_absent_8 : decode cX0_absent 8 = .ok (.iload_n 2, 1) := dk_28 (dk_at dksX0_absent_0 8 rfl rfl)
theorem dX0_absent_9 : decode cX0_absent 9 = .ok (.iload_n 3, 1) := dk_29 (dk_at dksX0_absent_0 9 rfl rfl)
theorem dX0_absent_10 : decode cX0_absent 10 = .ok (.invokevirtual 84, 3) := dk_182 0 84 (dk_at dksX0_absent_0 10 rfl rfl)
theorem dX0_absent_13 : decode cX0_absent 13 = .ok (.ifCond .eq 21, 3) := dk_153 0 21 (dk_at dksX0_absent_0 13 rfl rfl)
theorem dX0_absent_16 : decode cX0_absent 16 = .ok (.aload_n 0, 1) := dk_42 (dk_at dksX0_absent_0 16 rfl rfl)
theorem dX0_absent_17 : decode cX0_absent 17 = .ok (.getfield 12, 3) := dk_180 0 12 (dk_at dksX0_absent_0 17 rfl rfl)
theorem dX0_absent_20 : decode cX0_absent 20 = .ok (.getfield 65, 3) := dk_180 0 65 (dk_at dksX0_absent_0 20 rfl rfl)
theorem dX0_absent_23 : decode cX0_absent 23 = .ok (.iload_n 2, 1) := dk_28 (dk_at dksX0_absent_0 23 rfl rfl)
theorem dX0_absent_24 : decode cX0_absent 24 = .ok (.aaload, 1) := dk_50 (dk_at dksX0_absent_1 0 rfl rfl)
theorem dX0_absent_25 : decode cX0_absent 25 = .ok (.iload_n 3, 1) := dk_29 (dk_at dksX0_absent_1 1 rfl rfl)
theorem dX0_absent_26 : decode cX0_absent 26 = .ok (.iload 4, 2) := dk_21 4 (dk_at dksX0_absent_1 2 rfl rfl)
theorem dX0_absent_28 : decode cX0_absent 28 = .ok (.invokevirtual 117, 3) := dk_182 0 117 (dk_at dksX0_absent_1 4 rfl rfl)
theorem dX0_absent_31 : decode cX0_absent 31 = .ok (.ifCond .lt 5, 3) := dk_155 0 5 (dk_at dksX0_absent_1 7 rfl rfl)
theorem dX0_absent_34 : decode cX0_absent 34 = .ok (.iconst (-1), 1) := dk_2 (dk_at dksX0_absent_1 10 rfl rfl)
theorem dX0_absent_35 : decode cX0_absent 35 = .ok (.ireturn, 1) := dk_172 (dk_at dksX0_absent_1 11 rfl rfl)
theorem dX0_absent_36 : decode cX0_absent 36 = .ok (.new 257, 3) := dk_187 1 1 (dk_at dksX0_absent_1 12 rfl rfl)
theorem dX0_absent_39 : decode cX0_absent 39 = .ok (.dup, 1) := dk_89 (dk_at dksX0_absent_1 15 rfl rfl)
theorem dX0_absent_40 : decode cX0_absent 40 = .ok (.invokespecial 259, 3) := dk_183 1 3 (dk_at dksX0_absent_1 16 rfl rfl)
theorem dX0_absent_43 : decode cX0_absent 43 = .ok (.astore 5, 2) := dk_58 5 (dk_at dksX0_absent_1 19 rfl rfl)
theorem dX0_absent_45 : decode cX0_absent 45 = .ok (.aload_n 0, 1) := dk_42 (dk_at dksX0_absent_1 21 rfl rfl)
theorem dX0_absent_46 : decode cX0_absent 46 = .ok (.getfield 35, 3) := dk_180 0 35 (dk_at dksX0_absent_2 0 rfl rfl)
theorem dX0_absent_49 : decode cX0_absent 49 = .ok (.aload_n 0, 1) := dk_42 (dk_at dksX0_absent_2 3 rfl rfl)
theorem dX0_absent_50 : decode cX0_absent 50 = .ok (.getfield 12, 3) := dk_180 0 12 (dk_at dksX0_absent_2 4 rfl rfl)
theorem dX0_absent_53 : decode cX0_absent 53 = .ok (.getfield 65, 3) := dk_180 0 65 (dk_at dksX0_absent_2 7 rfl rfl)
theorem dX0_absent_56 : decode cX0_absent 56 = .ok (.iload_n 2, 1) := dk_28 (dk_at dksX0_absent_2 10 rfl rfl)
theorem dX0_absent_57 : decode cX0_absent 57 = .ok (.aaload, 1) := dk_50 (dk_at dksX0_absent_2 11 rfl rfl)
theorem dX0_absent_58 : decode cX0_absent 58 = .ok (.iload_n 3, 1) := dk_29 (dk_at dksX0_absent_2 12 rfl rfl)
theorem dX0_absent_59 : decode cX0_absent 59 = .ok (.invokevirtual 106, 3) := dk_182 0 106 (dk_at dksX0_absent_2 13 rfl rfl)
theorem dX0_absent_62 : decode cX0_absent 62 = .ok (.aload_n 0, 1) := dk_42 (dk_at dksX0_absent_2 16 rfl rfl)
theorem dX0_absent_63 : decode cX0_absent 63 = .ok (.getfield 35, 3) := dk_180 0 35 (dk_at dksX0_absent_2 17 rfl rfl)
theorem dX0_absent_66 : decode cX0_absent 66 = .ok (.iload 4, 2) := dk_21 4 (dk_at dksX0_absent_2 20 rfl rfl)
theorem dX0_absent_68 : decode cX0_absent 68 = .ok (.aload_n 0, 1) := dk_42 (dk_at dksX0_absent_2 22 rfl rfl)
theorem dX0_absent_69 : decode cX0_absent 69 = .ok (.getfield 46, 3) := dk_180 0 46 (dk_at dksX0_absent_3 0 rfl rfl)
theorem dX0_absent_72 : decode cX0_absent 72 = .ok (.invokevirtual 240, 3) := dk_182 0 240 (dk_at dksX0_absent_3 3 rfl rfl)
theorem dX0_absent_75 : decode cX0_absent 75 = .ok (.aload 5, 2) := dk_25 5 (dk_at dksX0_absent_3 6 rfl rfl)
theorem dX0_absent_77 : decode cX0_absent 77 = .ok (.iload 4, 2) := dk_21 4 (dk_at dksX0_absent_3 8 rfl rfl)
theorem dX0_absent_79 : decode cX0_absent 79 = .ok (.putfield 260, 3) := dk_181 1 4 (dk_at dksX0_absent_3 10 rfl rfl)
theorem dX0_absent_82 : decode cX0_absent 82 = .ok (.aload 5, 2) := dk_25 5 (dk_at dksX0_absent_3 13 rfl rfl)
theorem dX0_absent_84 : decode cX0_absent 84 = .ok (.aload_n 0, 1) := dk_42 (dk_at dksX0_absent_3 15 rfl rfl)
theorem dX0_absent_85 : decode cX0_absent 85 = .ok (.getfield 35, 3) := dk_180 0 35 (dk_at dksX0_absent_3 16 rfl rfl)
theorem dX0_absent_88 : decode cX0_absent 88 = .ok (.getfield 249, 3) := dk_180 0 249 (dk_at dksX0_absent_3 19 rfl rfl)
theorem dX0_absent_91 : decode cX0_absent 91 = .ok (.ifCond .ge 7, 3) := dk_156 0 7 (dk_at dksX0_absent_4 0 rfl rfl)
theorem dX0_absent_94 : decode cX0_absent 94 = .ok (.iconst 0, 1) := dk_3 (dk_at dksX0_absent_4 3 rfl rfl)
theorem dX0_absent_95 : decode cX0_absent 95 = .ok (.goto 18, 3) := dk_167 0 18 (dk_at dksX0_absent_4 4 rfl rfl)
theorem dX0_absent_98 : decode cX0_absent 98 = .ok (.aload_n 0, 1) := dk_42 (dk_at dksX0_absent_4 7 rfl rfl)
theorem dX0_absent_99 : decode cX0_absent 99 = .ok (.getfield 35, 3) := dk_180 0 35 (dk_at dksX0_absent_4 8 rfl rfl)
theorem dX0_absent_102 : decode cX0_absent 102 = .ok (.getfield 261, 3) := dk_180 1 5 (dk_at dksX0_absent_4 11 rfl rfl)
theorem dX0_absent_105 : decode cX0_absent 105 = .ok (.aload_n 0, 1) := dk_42 (dk_at dksX0_absent_4 14 rfl rfl)
theorem dX0_absent_106 : decode cX0_absent 106 = .ok (.getfield 35, 3) := dk_180 0 35 (dk_at dksX0_absent_4 15 rfl rfl)
theorem dX0_absent_109 : decode cX0_absent 109 = .ok (.getfield 249, 3) := dk_180 0 249 (dk_at dksX0_absent_4 18 rfl rfl)
theorem dX0_absent_112 : decode cX0_absent 112 = .ok (.iaload, 1) := dk_46 (dk_at dksX0_absent_4 21 rfl rfl)
theorem dX0_absent_113 : decode cX0_absent 113 = .ok (.putfield 262, 3) := dk_181 1 6 (dk_at dksX0_absent_5 0 rfl rfl)
theorem dX0_absent_116 : decode cX0_absent 116 = .ok (.aload 5, 2) := dk_25 5 (dk_at dksX0_absent_5 3 rfl rfl)
theorem dX0_absent_118 : decode cX0_absent 118 = .ok (.aload_n 0, 1) := dk_42 (dk_at dksX0_absent_5 5 rfl rfl)
theorem dX0_absent_119 : decode cX0_absent 119 = .ok (.getfield 35, 3) := dk_180 0 35 (dk_at dksX0_absent_5 6 rfl rfl)
theorem dX0_absent_122 : decode cX0_absent 122 = .ok (.getfield 249, 3) := dk_180 0 249 (dk_at dksX0_absent_5 9 rfl rfl)
theorem dX0_absent_125 : decode cX0_absent 125 = .ok (.ifCond .ge 7, 3) := dk_156 0 7 (dk_at dksX0_absent_5 12 rfl rfl)
theorem dX0_absent_128 : decode cX0_absent 128 = .ok (.iconst (-1), 1) := dk_2 (dk_at dksX0_absent_5 15 rfl rfl)
theorem dX0_absent_129 : decode cX0_absent 129 = .ok (.goto 18, 3) := dk_167 0 18 (dk_at dksX0_absent_5 16 rfl rfl)
theorem dX0_absent_132 : decode cX0_absent 132 = .ok (.aload_n 0, 1) := dk_42 (dk_at dksX0_absent_5 19 rfl rfl)
theorem dX0_absent_133 : decode cX0_absent 133 = .ok (.getfield 35, 3) := dk_180 0 35 (dk_at dksX0_absent_5 20 rfl rfl)
theorem dX0_absent_136 : decode cX0_absent 136 = .ok (.getfield 247, 3) := dk_180 0 247 (dk_at dksX0_absent_6 0 rfl rfl)
theorem dX0_absent_139 : decode cX0_absent 139 = .ok (.aload_n 0, 1) := dk_42 (dk_at dksX0_absent_6 3 rfl rfl)
theorem dX0_absent_140 : decode cX0_absent 140 = .ok (.getfield 35, 3) := dk_180 0 35 (dk_at dksX0_absent_6 4 rfl rfl)
theorem dX0_absent_143 : decode cX0_absent 143 = .ok (.getfield 249, 3) := dk_180 0 249 (dk_at dksX0_absent_6 7 rfl rfl)
theorem dX0_absent_146 : decode cX0_absent 146 = .ok (.iaload, 1) := dk_46 (dk_at dksX0_absent_6 10 rfl rfl)
theorem dX0_absent_147 : decode cX0_absent 147 = .ok (.putfield 265, 3) := dk_181 1 9 (dk_at dksX0_absent_6 11 rfl rfl)
theorem dX0_absent_150 : decode cX0_absent 150 = .ok (.aload_n 0, 1) := dk_42 (dk_at dksX0_absent_6 14 rfl rfl)
theorem dX0_absent_151 : decode cX0_absent 151 = .ok (.iload_n 1, 1) := dk_27 (dk_at dksX0_absent_6 15 rfl rfl)
theorem dX0_absent_152 : decode cX0_absent 152 = .ok (.aload 5, 2) := dk_25 5 (dk_at dksX0_absent_6 16 rfl rfl)
theorem dX0_absent_154 : decode cX0_absent 154 = .ok (.iload_n 3, 1) := dk_29 (dk_at dksX0_absent_6 18 rfl rfl)
theorem dX0_absent_155 : decode cX0_absent 155 = .ok (.iconst 0, 1) := dk_3 (dk_at dksX0_absent_6 19 rfl rfl)
theorem dX0_absent_156 : decode cX0_absent 156 = .ok (.iconst 0, 1) := dk_3 (dk_at dksX0_absent_6 20 rfl rfl)
theorem dX0_absent_157 : decode cX0_absent 157 = .ok (.aload_n 0, 1) := dk_42 (dk_at dksX0_absent_6 21 rfl rfl)
theorem dX0_absent_158 : decode cX0_absent 158 = .ok (.getfield 35, 3) := dk_180 0 35 (dk_at dksX0_absent_7 0 rfl rfl)
theorem dX0_absent_161 : decode cX0_absent 161 = .ok (.getfield 254, 3) := dk_180 0 254 (dk_at dksX0_absent_7 3 rfl rfl)
theorem dX0_absent_164 : decode cX0_absent 164 = .ok (.invokevirtual 220, 3) := dk_182 0 220 (dk_at dksX0_absent_7 6 rfl rfl)
theorem dX0_absent_167 : decode cX0_absent 167 = .ok (.ireturn, 1) := dk_172 (dk_at dksX0_absent_7 9 rfl rfl)
abbrev cX0_span : ByteArray := prog_1_method_28_code
def yX0_span : MethodName := ⟨RX0, "span", "(IIIII)I"⟩
def dkwX0_span_4 : List UInt8 := [182, 0, 230, 172]
abbrev dktX0_span_4 : List UInt8 := dkwX0_span_4 ++ []
def dkwX0_span_3 : List UInt8 := [187, 0, 206, 89, 183, 1, 13, 42, 180, 0, 12, 180, 0, 65, 28, 50, 29, 21, 4, 21, 5, 21, 5]
abbrev dktX0_span_3 : List UInt8 := dkwX0_span_3 ++ dktX0_span_4
def dkwX0_span_2 : List UInt8 := [180, 0, 12, 180, 0, 65, 28, 50, 21, 4, 21, 5, 182, 1, 10, 153, 0, 5, 2, 172, 42, 27]
abbrev dktX0_span_2 : List UInt8 := dkwX0_span_2 ++ dktX0_span_3
def dkwX0_span_1 : List UInt8 := [184, 0, 57, 153, 0, 38, 21, 5, 29, 163, 0, 32, 21, 5, 21, 4, 100, 16, 40, 163, 0, 22, 42]
abbrev dktX0_span_1 : List UInt8 := dkwX0_span_1 ++ dktX0_span_2
def dkwX0_span_0 : List UInt8 := [27, 184, 0, 224, 153, 0, 60, 42, 28, 29, 182, 0, 84, 153, 0, 51, 21, 4, 133, 9, 21, 5, 133]
abbrev dktX0_span_0 : List UInt8 := dkwX0_span_0 ++ dktX0_span_1
theorem dksX0_span_0 : cX0_span.data.toList.drop 0 = dktX0_span_0 := by decide +kernel
theorem dksX0_span_1 : cX0_span.data.toList.drop 23 = dktX0_span_1 := dk_seg dksX0_span_0 23 rfl rfl
theorem dksX0_span_2 : cX0_span.data.toList.drop 46 = dktX0_span_2 := dk_seg dksX0_span_1 23 rfl rfl
theorem dksX0_span_3 : cX0_span.data.toList.drop 68 = dktX0_span_3 := dk_seg dksX0_span_2 22 rfl rfl
theorem dksX0_span_4 : cX0_span.data.toList.drop 91 = dktX0_span_4 := dk_seg dksX0_span_3 23 rfl rfl
theorem dX0_span_0 : decode cX0_span 0 = .ok (.iload_n 1, 1) := dk_27 (dk_at dksX0_span_0 0 rfl rfl)
theorem dX0_span_1 : decode cX0_span 1 = .ok (.invokestatic 224, 3) := dk_184 0 224 (dk_at dksX0_span_0 1 rfl rfl)
theorem dX0_span_4 : decode cX0_span 4 = .ok (.ifCond .eq 60, 3) := dk_153 0 60 (dk_at dksX0_span_0 4 rfl rfl)
theorem dX0_span_7 : decode cX0_span 7 = .ok (.aload_n 0, 1) := dk_42 (dk_at dksX0_span_0 7 rfl rfl)
theorem dX0_span_8 : decode cX0_span 8 = .ok (.iload_n 2, 1) := dk_28 (dk_at dksX0_span_0 8 rfl rfl)
theorem dX0_span_9 : decode cX0_span 9 = .ok (.iload_n 3, 1) := dk_29 (dk_at dksX0_span_0 9 rfl rfl)
theorem dX0_span_10 : decode cX0_span 10 = .ok (.invokevirtual 84, 3) := dk_182 0 84 (dk_at dksX0_span_0 10 rfl rfl)
theorem dX0_span_13 : decode cX0_span 13 = .ok (.ifCond .eq 51, 3) := dk_153 0 51 (dk_at dksX0_span_0 13 rfl rfl)
theorem dX0_span_16 : decode cX0_span 16 = .ok (.iload 4, 2) := dk_21 4 (dk_at dksX0_span_0 16 rfl rfl)
theorem dX0_span_18 : decode cX0_span 18 = .ok (.i2l, 1) := dk_133 (dk_at dksX0_span_0 18 rfl rfl)
theorem dX0_span_19 : decode cX0_span 19 = .ok (.lconst 0, 1) := dk_9 (dk_at dksX0_span_0 19 rfl rfl)
theorem dX0_span_20 : decode cX0_span 20 = .ok (.iload 5, 2) := dk_21 5 (dk_at dksX0_span_0 20 rfl rfl)
theorem dX0_span_22 : decode cX0_span 22 = .ok (.i2l, 1) := dk_133 (dk_at dksX0_span_0 22 rfl rfl)
theorem dX0_span_23 : decode cX0_span 23 = .ok (.invokestatic 57, 3) := dk_184 0 57 (dk_at dksX0_span_1 0 rfl rfl)
theorem dX0_span_26 : decode cX0_span 26 = .ok (.ifCond .eq 38, 3) := dk_153 0 38 (dk_at dksX0_span_1 3 rfl rfl)
theorem dX0_span_29 : decode cX0_span 29 = .ok (.iload 5, 2) := dk_21 5 (dk_at dksX0_span_1 6 rfl rfl)
theorem dX0_span_31 : decode cX0_span 31 = .ok (.iload_n 3, 1) := dk_29 (dk_at dksX0_span_1 8 rfl rfl)
theorem dX0_span_32 : decode cX0_span 32 = .ok (.if_icmp .gt 32, 3) := dk_163 0 32 (dk_at dksX0_span_1 9 rfl rfl)
theorem dX0_span_35 : decode cX0_span 35 = .ok (.iload 5, 2) := dk_21 5 (dk_at dksX0_span_1 12 rfl rfl)
theorem dX0_span_37 : decode cX0_span 37 = .ok (.iload 4, 2) := dk_21 4 (dk_at dksX0_span_1 14 rfl rfl)
theorem dX0_span_39 : decode cX0_span 39 = .ok (.isub, 1) := dk_100 (dk_at dksX0_span_1 16 rfl rfl)
theorem dX0_span_40 : decode cX0_span 40 = .ok (.bipush 40, 2) := dk_16 40 (dk_at dksX0_span_1 17 rfl rfl)
theorem dX0_span_42 : decode cX0_span 42 = .ok (.if_icmp .gt 22, 3) := dk_163 0 22 (dk_at dksX0_span_1 19 rfl rfl)
theorem dX0_span_45 : decode cX0_span 45 = .ok (.aload_n 0, 1) := dk_42 (dk_at dksX0_span_1 22 rfl rfl)
theorem dX0_span_46 : decode cX0_span 46 = .ok (.getfield 12, 3) := dk_180 0 12 (dk_at dksX0_span_2 0 rfl rfl)
theorem dX0_span_49 : decode cX0_span 49 = .ok (.getfield 65, 3) := dk_180 0 65 (dk_at dksX0_span_2 3 rfl rfl)
theorem dX0_span_52 : decode cX0_span 52 = .ok (.iload_n 2, 1) := dk_28 (dk_at dksX0_span_2 6 rfl rfl)
theorem dX0_span_53 : decode cX0_span 53 = .ok (.aaload, 1) := dk_50 (dk_at dksX0_span_2 7 rfl rfl)
theorem dX0_span_54 : decode cX0_span 54 = .ok (.iload 4, 2) := dk_21 4 (dk_at dksX0_span_2 8 rfl rfl)
theorem dX0_span_56 : decode cX0_span 56 = .ok (.iload 5, 2) := dk_21 5 (dk_at dksX0_span_2 10 rfl rfl)
theorem dX0_span_58 : decode cX0_span 58 = .ok (.invokevirtual 266, 3) := dk_182 1 10 (dk_at dksX0_span_2 12 rfl rfl)
theorem dX0_span_61 : decode cX0_span 61 = .ok (.ifCond .eq 5, 3) := dk_153 0 5 (dk_at dksX0_span_2 15 rfl rfl)
theorem dX0_span_64 : decode cX0_span 64 = .ok (.iconst (-1), 1) := dk_2 (dk_at dksX0_span_2 18 rfl rfl)
theorem dX0_span_65 : decode cX0_span 65 = .ok (.ireturn, 1) := dk_172 (dk_at dksX0_span_2 19 rfl rfl)
theorem dX0_span_66 : decode cX0_span 66 = .ok (.aload_n 0, 1) := dk_42 (dk_at dksX0_span_2 20 rfl rfl)
theorem dX0_span_67 : decode cX0_span 67 = .ok (.iload_n 1, 1) := dk_27 (dk_at dksX0_span_2 21 rfl rfl)
theorem dX0_span_68 : decode cX0_span 68 = .ok (.new 206, 3) := dk_187 0 206 (dk_at dksX0_span_3 0 rfl rfl)
theorem dX0_span_71 : decode cX0_span 71 = .ok (.dup, 1) := dk_89 (dk_at dksX0_span_3 3 rfl rfl)
theorem dX0_span_72 : decode cX0_span 72 = .ok (.invokespecial 269, 3) := dk_183 1 13 (dk_at dksX0_span_3 4 rfl rfl)
theorem dX0_span_75 : decode cX0_span 75 = .ok (.aload_n 0, 1) := dk_42 (dk_at dksX0_span_3 7 rfl rfl)
theorem dX0_span_76 : decode cX0_span 76 = .ok (.getfield 12, 3) := dk_180 0 12 (dk_at dksX0_span_3 8 rfl rfl)
theorem dX0_span_79 : decode cX0_span 79 = .ok (.getfield 65, 3) := dk_180 0 65 (dk_at dksX0_span_3 11 rfl rfl)
theorem dX0_span_82 : decode cX0_span 82 = .ok (.iload_n 2, 1) := dk_28 (dk_at dksX0_span_3 14 rfl rfl)
theorem dX0_span_83 : decode cX0_span 83 = .ok (.aaload, 1) := dk_50 (dk_at dksX0_span_3 15 rfl rfl)
theorem dX0_span_84 : decode cX0_span 84 = .ok (.iload_n 3, 1) := dk_29 (dk_at dksX0_span_3 16 rfl rfl)
theorem dX0_span_85 : decode cX0_span 85 = .ok (.iload 4, 2) := dk_21 4 (dk_at dksX0_span_3 17 rfl rfl)
theorem dX0_span_87 : decode cX0_span 87 = .ok (.iload 5, 2) := dk_21 5 (dk_at dksX0_span_3 19 rfl rfl)
theorem dX0_span_89 : decode cX0_span 89 = .ok (.iload 5, 2) := dk_21 5 (dk_at dksX0_span_3 21 rfl rfl)
theorem dX0_span_91 : decode cX0_span 91 = .ok (.invokevirtual 230, 3) := dk_182 0 230 (dk_at dksX0_span_4 0 rfl rfl)
theorem dX0_span_94 : decode cX0_span 94 = .ok (.ireturn, 1) := dk_172 (dk_at dksX0_span_4 3 rfl rfl)
abbrev cX0_drop : ByteArray := prog_1_method_30_code
def yX0_drop : MethodName := ⟨RX0, "drop", "(I)I"⟩
def dkwX0_drop_1 : List UInt8 := [50, 1, 181, 0, 197, 28, 172]
abbrev dktX0_drop_1 : List UInt8 := dkwX0_drop_1 ++ []
def dkwX0_drop_0 : List UInt8 := [27, 184, 0, 224, 154, 0, 5, 2, 172, 42, 27, 3, 182, 1, 14, 61, 42, 180, 0, 12, 180, 0, 193, 27]
abbrev dktX0_drop_0 : List UInt8 := dkwX0_drop_0 ++ dktX0_drop_1
theorem dksX0_drop_0 : cX0_drop.data.toList.drop 0 = dktX0_drop_0 := by decide +kernel
theorem dksX0_drop_1 : cX0_drop.data.toList.drop 24 = dktX0_drop_1 := dk_seg dksX0_drop_0 24 rfl rfl
theorem dX0_drop_0 : decode cX0_drop 0 = .ok (.iload_n 1, 1) := dk_27 (dk_at dksX0_drop_0 0 rfl rfl)
theorem dX0_drop_1 : decode cX0_drop 1 = .ok (.invokestatic 224, 3) := dk_184 0 224 (dk_at dksX0_drop_0 1 rfl rfl)
theorem dX0_drop_4 : decode cX0_drop 4 = .ok (.ifCond .ne 5, 3) := dk_154 0 5 (dk_at dksX0_drop_0 4 rfl rfl)
theorem dX0_drop_7 : decode cX0_drop 7 = .ok (.iconst (-1), 1) := dk_2 (dk_at dksX0_drop_0 7 rfl rfl)
theorem dX0_drop_8 : decode cX0_drop 8 = .ok (.ireturn, 1) := dk_172 (dk_at dksX0_drop_0 8 rfl rfl)
theorem dX0_drop_9 : decode cX0_drop 9 = .ok (.aload_n 0, 1) := dk_42 (dk_at dksX0_drop_0 9 rfl rfl)
theorem dX0_drop_10 : decode cX0_drop 10 = .ok (.iload_n 1, 1) := dk_27 (dk_at dksX0_drop_0 10 rfl rfl)
theorem dX0_drop_11 : decode cX0_drop 11 = .ok (.iconst 0, 1) := dk_3 (dk_at dksX0_drop_0 11 rfl rfl)
theorem dX0_drop_12 : decode cX0_drop 12 = .ok (.invokevirtual 270, 3) := dk_182 1 14 (dk_at dksX0_drop_0 12 rfl rfl)
theorem dX0_drop_15 : decode cX0_drop 15 = .ok (.istore_n 2, 1) := dk_61 (dk_at dksX0_drop_0 15 rfl rfl)
theorem dX0_drop_16 : decode cX0_drop 16 = .ok (.aload_n 0, 1) := dk_42 (dk_at dksX0_drop_0 16 rfl rfl)
theorem dX0_drop_17 : decode cX0_drop 17 = .ok (.getfield 12, 3) := dk_180 0 12 (dk_at dksX0_drop_0 17 rfl rfl)
theorem dX0_drop_20 : decode cX0_drop 20 = .ok (.getfield 193, 3) := dk_180 0 193 (dk_at dksX0_drop_0 20 rfl rfl)
theorem dX0_drop_23 : decode cX0_drop 23 = .ok (.iload_n 1, 1) := dk_27 (dk_at dksX0_drop_0 23 rfl rfl)
theorem dX0_drop_24 : decode cX0_drop 24 = .ok (.aaload, 1) := dk_50 (dk_at dksX0_drop_1 0 rfl rfl)
theorem dX0_drop_25 : decode cX0_drop 25 = .ok (.aconst_null, 1) := dk_1 (dk_at dksX0_drop_1 1 rfl rfl)
theorem dX0_drop_26 : decode cX0_drop 26 = .ok (.putfield 197, 3) := dk_181 0 197 (dk_at dksX0_drop_1 2 rfl rfl)
theorem dX0_drop_29 : decode cX0_drop 29 = .ok (.iload_n 2, 1) := dk_28 (dk_at dksX0_drop_1 5 rfl rfl)
theorem dX0_drop_30 : decode cX0_drop 30 = .ok (.ireturn, 1) := dk_172 (dk_at dksX0_drop_1 6 rfl rfl)
abbrev cX0_proof : ByteArray := prog_1_method_31_code
def yX0_proof : MethodName := ⟨RX0, "proof", "(II)I"⟩
def dkwX0_proof_4 : List UInt8 := [172, 45, 182, 1, 25, 172, 45, 182, 1, 27, 172, 45, 182, 1, 29, 172]
abbrev dktX0_proof_4 : List UInt8 := dkwX0_proof_4 ++ []
def dkwX0_proof_3 : List UInt8 := [45, 182, 1, 21, 172, 45, 180, 0, 183, 172, 45, 180, 0, 174, 172, 45, 180, 0, 177, 172, 45, 180, 0, 180]
abbrev dktX0_proof_3 : List UInt8 := dkwX0_proof_3 ++ dktX0_proof_4
def dkwX0_proof_2 : List UInt8 := [170, 0, 0, 0, 0, 77, 0, 0, 0, 0, 0, 0, 0, 6, 0, 0, 0, 42, 0, 0, 0, 47, 0, 0, 0, 52, 0, 0, 0, 57, 0, 0, 0, 62, 0, 0, 0, 67, 0, 0, 0, 72]
abbrev dktX0_proof_2 : List UInt8 := dkwX0_proof_2 ++ dktX0_proof_3
def dkwX0_proof_1 : List UInt8 := [182, 1, 17, 78, 45, 199, 0, 5, 3, 172, 28]
abbrev dktX0_proof_1 : List UInt8 := dkwX0_proof_1 ++ dktX0_proof_2
def dkwX0_proof_0 : List UInt8 := [27, 184, 0, 224, 153, 0, 15, 28, 133, 9, 20, 0, 155, 184, 0, 57, 154, 0, 5, 2, 172, 42, 27]
abbrev dktX0_proof_0 : List UInt8 := dkwX0_proof_0 ++ dktX0_proof_1
theorem dksX0_proof_0 : cX0_proof.data.toList.drop 0 = dktX0_proof_0 := by decide +kernel
theorem dksX0_proof_1 : cX0_proof.data.toList.drop 23 = dktX0_proof_1 := dk_seg dksX0_proof_0 23 rfl rfl
theorem dksX0_proof_2 : cX0_proof.data.toList.drop 34 = dktX0_proof_2 := dk_seg dksX0_proof_1 11 rfl rfl
theorem dksX0_proof_3 : cX0_proof.data.toList.drop 76 = dktX0_proof_3 := dk_seg dksX0_proof_2 42 rfl rfl
theorem dksX0_proof_4 : cX0_proof.data.toList.drop 100 = dktX0_proof_4 := dk_seg dksX0_proof_3 24 rfl rfl
theorem dX0_proof_0 : decode cX0_proof 0 = .ok (.iload_n 1, 1) := dk_27 (dk_at dksX0_proof_0 0 rfl rfl)
theorem dX0_proof_1 : decode cX0_proof 1 = .ok (.invokestatic 224, 3) := dk_184 0 224 (dk_at dksX0_proof_0 1 rfl rfl)
theorem dX0_proof_4 : decode cX0_proof 4 = .ok (.ifCond .eq 15, 3) := dk_153 0 15 (dk_at dksX0_proof_0 4 rfl rfl)
theorem dX0_proof_7 : decode cX0_proof 7 = .ok (.iload_n 2, 1) := dk_28 (dk_at dksX0_proof_0 7 rfl rfl)
theorem dX0_proof_8 : decode cX0_proof 8 = .ok (.i2l, 1) := dk_133 (dk_at dksX0_proof_0 8 rfl rfl)
theorem dX0_proof_9 : decode cX0_proof 9 = .ok (.lconst 0, 1) := dk_9 (dk_at dksX0_proof_0 9 rfl rfl)
theorem dX0_proof_10 : decode cX0_proof 10 = .ok (.ldc2_w 155, 3) := dk_20 0 155 (dk_at dksX0_proof_0 10 rfl rfl)
theorem dX0_proof_13 : decode cX0_proof 13 = .ok (.invokestatic 57, 3) := dk_184 0 57 (dk_at dksX0_proof_0 13 rfl rfl)
theorem dX0_proof_16 : decode cX0_proof 16 = .ok (.ifCond .ne 5, 3) := dk_154 0 5 (dk_at dksX0_proof_0 16 rfl rfl)
theorem dX0_proof_19 : decode cX0_proof 19 = .ok (.iconst (-1), 1) := dk_2 (dk_at dksX0_proof_0 19 rfl rfl)
theorem dX0_proof_20 : decode cX0_proof 20 = .ok (.ireturn, 1) := dk_172 (dk_at dksX0_proof_0 20 rfl rfl)
theorem dX0_proof_21 : decode cX0_proof 21 = .ok (.aload_n 0, 1) := dk_42 (dk_at dksX0_proof_0 21 rfl rfl)
theorem dX0_proof_22 : decode cX0_proof 22 = .ok (.iload_n 1, 1) := dk_27 (dk_at dksX0_proof_0 22 rfl rfl)
theorem dX0_proof_23 : decode cX0_proof 23 = .ok (.invokevirtual 273, 3) := dk_182 1 17 (dk_at dksX0_proof_1 0 rfl rfl)
theorem dX0_proof_26 : decode cX0_proof 26 = .ok (.astore_n 3, 1) := dk_78 (dk_at dksX0_proof_1 3 rfl rfl)
theorem dX0_proof_27 : decode cX0_proof 27 = .ok (.aload_n 3, 1) := dk_45 (dk_at dksX0_proof_1 4 rfl rfl)
theorem dX0_proof_28 : decode cX0_proof 28 = .ok (.ifnonnull 5, 3) := dk_199 0 5 (dk_at dksX0_proof_1 5 rfl rfl)
theorem dX0_proof_31 : decode cX0_proof 31 = .ok (.iconst 0, 1) := dk_3 (dk_at dksX0_proof_1 8 rfl rfl)
theorem dX0_proof_32 : decode cX0_proof 32 = .ok (.ireturn, 1) := dk_172 (dk_at dksX0_proof_1 9 rfl rfl)
theorem dX0_proof_33 : decode cX0_proof 33 = .ok (.iload_n 2, 1) := dk_28 (dk_at dksX0_proof_1 10 rfl rfl)
theorem dX0_proof_34 : decode cX0_proof 34 = .ok (.tableswitch 77 0 6 #[42, 47, 52, 57, 62, 67, 72], 42) := by decide +kernel
theorem dX0_proof_76 : decode cX0_proof 76 = .ok (.aload_n 3, 1) := dk_45 (dk_at dksX0_proof_3 0 rfl rfl)
theorem dX0_proof_77 : decode cX0_proof 77 = .ok (.invokevirtual 277, 3) := dk_182 1 21 (dk_at dksX0_proof_3 1 rfl rfl)
theorem dX0_proof_80 : decode cX0_proof 80 = .ok (.ireturn, 1) := dk_172 (dk_at dksX0_proof_3 4 rfl rfl)
theorem dX0_proof_81 : decode cX0_proof 81 = .ok (.aload_n 3, 1) := dk_45 (dk_at dksX0_proof_3 5 rfl rfl)
theorem dX0_proof_82 : decode cX0_proof 82 = .ok (.getfield 183, 3) := dk_180 0 183 (dk_at dksX0_proof_3 6 rfl rfl)
theorem dX0_proof_85 : decode cX0_proof 85 = .ok (.ireturn, 1) := dk_172 (dk_at dksX0_proof_3 9 rfl rfl)
theorem dX0_proof_86 : decode cX0_proof 86 = .ok (.aload_n 3, 1) := dk_45 (dk_at dksX0_proof_3 10 rfl rfl)
theorem dX0_proof_87 : decode cX0_proof 87 = .ok (.getfield 174, 3) := dk_180 0 174 (dk_at dksX0_proof_3 11 rfl rfl)
theorem dX0_proof_90 : decode cX0_proof 90 = .ok (.ireturn, 1) := dk_172 (dk_at dksX0_proof_3 14 rfl rfl)
theorem dX0_proof_91 : decode cX0_proof 91 = .ok (.aload_n 3, 1) := dk_45 (dk_at dksX0_proof_3 15 rfl rfl)
theorem dX0_proof_92 : decode cX0_proof 92 = .ok (.getfield 177, 3) := dk_180 0 177 (dk_at dksX0_proof_3 16 rfl rfl)
theorem dX0_proof_95 : decode cX0_proof 95 = .ok (.ireturn, 1) := dk_172 (dk_at dksX0_proof_3 19 rfl rfl)
theorem dX0_proof_96 : decode cX0_proof 96 = .ok (.aload_n 3, 1) := dk_45 (dk_at dksX0_proof_3 20 rfl rfl)
theorem dX0_proof_97 : decode cX0_proof 97 = .ok (.getfield 180, 3) := dk_180 0 180 (dk_at dksX0_proof_3 21 rfl rfl)
theorem dX0_proof_100 : decode cX0_proof 100 = .ok (.ireturn, 1) := dk_172 (dk_at dksX0_proof_4 0 rfl rfl)
theorem dX0_proof_101 : decode cX0_proof 101 = .ok (.aload_n 3, 1) := dk_45 (dk_at dksX0_proof_4 1 rfl rfl)
theorem dX0_proof_102 : decode cX0_proof 102 = .ok (.invokevirtual 281, 3) := dk_182 1 25 (dk_at dksX0_proof_4 2 rfl rfl)
theorem dX0_proof_105 : decode cX0_proof 105 = .ok (.ireturn, 1) := dk_172 (dk_at dksX0_proof_4 5 rfl rfl)
theorem dX0_proof_106 : decode cX0_proof 106 = .ok (.aload_n 3, 1) := dk_45 (dk_at dksX0_proof_4 6 rfl rfl)
theorem dX0_proof_107 : decode cX0_proof 107 = .ok (.invokevirtual 283, 3) := dk_182 1 27 (dk_at dksX0_proof_4 7 rfl rfl)
theorem dX0_proof_110 : decode cX0_proof 110 = .ok (.ireturn, 1) := dk_172 (dk_at dksX0_proof_4 10 rfl rfl)
theorem dX0_proof_111 : decode cX0_proof 111 = .ok (.aload_n 3, 1) := dk_45 (dk_at dksX0_proof_4 11 rfl rfl)
theorem dX0_proof_112 : decode cX0_proof 112 = .ok (.invokevirtual 285, 3) := dk_182 1 29 (dk_at dksX0_proof_4 12 rfl rfl)
theorem dX0_proof_115 : decode cX0_proof 115 = .ok (.ireturn, 1) := dk_172 (dk_at dksX0_proof_4 15 rfl rfl)
abbrev cX0_proofAt : ByteArray := prog_1_method_29_code
def yX0_proofAt : MethodName := ⟨RX0, "proofAt", "(I)LGlassLog$Proof;"⟩
def dkwX0_proofAt_1 : List UInt8 := [167, 0, 4, 1, 176]
abbrev dktX0_proofAt_1 : List UInt8 := dkwX0_proofAt_1 ++ []
def dkwX0_proofAt_0 : List UInt8 := [27, 184, 0, 224, 153, 0, 21, 42, 180, 0, 12, 180, 0, 193, 27, 50, 180, 0, 197, 192, 0, 175]
abbrev dktX0_proofAt_0 : List UInt8 := dkwX0_proofAt_0 ++ dktX0_proofAt_1
theorem dksX0_proofAt_0 : cX0_proofAt.data.toList.drop 0 = dktX0_proofAt_0 := by decide +kernel
theorem dksX0_proofAt_1 : cX0_proofAt.data.toList.drop 22 = dktX0_proofAt_1 := dk_seg dksX0_proofAt_0 22 rfl rfl
theorem dX0_proofAt_0 : decode cX0_proofAt 0 = .ok (.iload_n 1, 1) := dk_27 (dk_at dksX0_proofAt_0 0 rfl rfl)
theorem dX0_proofAt_1 : decode cX0_proofAt 1 = .ok (.invokestatic 224, 3) := dk_184 0 224 (dk_at dksX0_proofAt_0 1 rfl rfl)
theorem dX0_proofAt_4 : decode cX0_proofAt 4 = .ok (.ifCond .eq 21, 3) := dk_153 0 21 (dk_at dksX0_proofAt_0 4 rfl rfl)
theorem dX0_proofAt_7 : decode cX0_proofAt 7 = .ok (.aload_n 0, 1) := dk_42 (dk_at dksX0_proofAt_0 7 rfl rfl)
theorem dX0_proofAt_8 : decode cX0_proofAt 8 = .ok (.getfield 12, 3) := dk_180 0 12 (dk_at dksX0_proofAt_0 8 rfl rfl)
theorem dX0_proofAt_11 : decode cX0_proofAt 11 = .ok (.getfield 193, 3) := dk_180 0 193 (dk_at dksX0_proofAt_0 11 rfl rfl)
theorem dX0_proofAt_14 : decode cX0_proofAt 14 = .ok (.iload_n 1, 1) := dk_27 (dk_at dksX0_proofAt_0 14 rfl rfl)
theorem dX0_proofAt_15 : decode cX0_proofAt 15 = .ok (.aaload, 1) := dk_50 (dk_at dksX0_proofAt_0 15 rfl rfl)
theorem dX0_proofAt_16 : decode cX0_proofAt 16 = .ok (.getfield 197, 3) := dk_180 0 197 (dk_at dksX0_proofAt_0 16 rfl rfl)
theorem dX0_proofAt_19 : decode cX0_proofAt 19 = .ok (.checkcast 175, 3) := dk_192 0 175 (dk_at dksX0_proofAt_0 19 rfl rfl)
theorem dX0_proofAt_22 : decode cX0_proofAt 22 = .ok (.goto 4, 3) := dk_167 0 4 (dk_at dksX0_proofAt_1 0 rfl rfl)
theorem dX0_proofAt_25 : decode cX0_proofAt 25 = .ok (.aconst_null, 1) := dk_1 (dk_at dksX0_proofAt_1 3 rfl rfl)
theorem dX0_proofAt_26 : decode cX0_proofAt 26 = .ok (.areturn, 1) := dk_176 (dk_at dksX0_proofAt_1 4 rfl rfl)
abbrev cX0_step : ByteArray := prog_1_method_33_code
def yX0_step : MethodName := ⟨RX0, "step", "(III)I"⟩
def dkwX0_step_1 : List UInt8 := [16, 8, 104, 29, 96, 46, 167, 0, 4, 3, 172]
abbrev dktX0_step_1 : List UInt8 := dkwX0_step_1 ++ []
def dkwX0_step_0 : List UInt8 := [42, 27, 182, 1, 17, 58, 4, 25, 4, 28, 29, 184, 1, 31, 153, 0, 18, 25, 4, 180, 0, 190, 28]
abbrev dktX0_step_0 : List UInt8 := dkwX0_step_0 ++ dktX0_step_1
theorem dksX0_step_0 : cX0_step.data.toList.drop 0 = dktX0_step_0 := by decide +kernel
theorem dksX0_step_1 : cX0_step.data.toList.drop 23 = dktX0_step_1 := dk_seg dksX0_step_0 23 rfl rfl
theorem dX0_step_0 : decode cX0_step 0 = .ok (.aload_n 0, 1) := dk_42 (dk_at dksX0_step_0 0 rfl rfl)
theorem dX0_step_1 : decode cX0_step 1 = .ok (.iload_n 1, 1) := dk_27 (dk_at dksX0_step_0 1 rfl rfl)
theorem dX0_step_2 : decode cX0_step 2 = .ok (.invokevirtual 273, 3) := dk_182 1 17 (dk_at dksX0_step_0 2 rfl rfl)
theorem dX0_step_5 : decode cX0_step 5 = .ok (.astore 4, 2) := dk_58 4 (dk_at dksX0_step_0 5 rfl rfl)
theorem dX0_step_7 : decode cX0_step 7 = .ok (.aload 4, 2) := dk_25 4 (dk_at dksX0_step_0 7 rfl rfl)
theorem dX0_step_9 : decode cX0_step 9 = .ok (.iload_n 2, 1) := dk_28 (dk_at dksX0_step_0 9 rfl rfl)
theorem dX0_step_10 : decode cX0_step 10 = .ok (.iload_n 3, 1) := dk_29 (dk_at dksX0_step_0 10 rfl rfl)
theorem dX0_step_11 : decode cX0_step 11 = .ok (.invokestatic 287, 3) := dk_184 1 31 (dk_at dksX0_step_0 11 rfl rfl)
theorem dX0_step_14 : decode cX0_step 14 = .ok (.ifCond .eq 18, 3) := dk_153 0 18 (dk_at dksX0_step_0 14 rfl rfl)
theorem dX0_step_17 : decode cX0_step 17 = .ok (.aload 4, 2) := dk_25 4 (dk_at dksX0_step_0 17 rfl rfl)
theorem dX0_step_19 : decode cX0_step 19 = .ok (.getfield 190, 3) := dk_180 0 190 (dk_at dksX0_step_0 19 rfl rfl)
theorem dX0_step_22 : decode cX0_step 22 = .ok (.iload_n 2, 1) := dk_28 (dk_at dksX0_step_0 22 rfl rfl)
theorem dX0_step_23 : decode cX0_step 23 = .ok (.bipush 8, 2) := dk_16 8 (dk_at dksX0_step_1 0 rfl rfl)
theorem dX0_step_25 : decode cX0_step 25 = .ok (.imul, 1) := dk_104 (dk_at dksX0_step_1 2 rfl rfl)
theorem dX0_step_26 : decode cX0_step 26 = .ok (.iload_n 3, 1) := dk_29 (dk_at dksX0_step_1 3 rfl rfl)
theorem dX0_step_27 : decode cX0_step 27 = .ok (.iadd, 1) := dk_96 (dk_at dksX0_step_1 4 rfl rfl)
theorem dX0_step_28 : decode cX0_step 28 = .ok (.iaload, 1) := dk_46 (dk_at dksX0_step_1 5 rfl rfl)
theorem dX0_step_29 : decode cX0_step 29 = .ok (.goto 4, 3) := dk_167 0 4 (dk_at dksX0_step_1 6 rfl rfl)
theorem dX0_step_32 : decode cX0_step 32 = .ok (.iconst 0, 1) := dk_3 (dk_at dksX0_step_1 9 rfl rfl)
theorem dX0_step_33 : decode cX0_step 33 = .ok (.ireturn, 1) := dk_172 (dk_at dksX0_step_1 10 rfl rfl)
abbrev cX0_isStep : ByteArray := prog_1_method_32_code
def yX0_isStep : MethodName := ⟨RX0, "isStep", "(LGlassLog$Proof;II)Z"⟩
def dkwX0_isStep_1 : List UInt8 := [20, 0, 155, 184, 0, 57, 153, 0, 7, 4, 167, 0, 4, 3, 172]
abbrev dktX0_isStep_1 : List UInt8 := dkwX0_isStep_1 ++ []
def dkwX0_isStep_0 : List UInt8 := [42, 198, 0, 35, 27, 133, 9, 42, 180, 0, 183, 4, 100, 133, 184, 0, 57, 153, 0, 19, 28, 133, 9]
abbrev dktX0_isStep_0 : List UInt8 := dkwX0_isStep_0 ++ dktX0_isStep_1
theorem dksX0_isStep_0 : cX0_isStep.data.toList.drop 0 = dktX0_isStep_0 := by decide +kernel
theorem dksX0_isStep_1 : cX0_isStep.data.toList.drop 23 = dktX0_isStep_1 := dk_seg dksX0_isStep_0 23 rfl rfl
theorem dX0_isStep_0 : decode cX0_isStep 0 = .ok (.aload_n 0, 1) := dk_42 (dk_at dksX0_isStep_0 0 rfl rfl)
theorem dX0_isStep_1 : decode cX0_isStep 1 = .ok (.ifnull 35, 3) := dk_198 0 35 (dk_at dksX0_isStep_0 1 rfl rfl)
theorem dX0_isStep_4 : decode cX0_isStep 4 = .ok (.iload_n 1, 1) := dk_27 (dk_at dksX0_isStep_0 4 rfl rfl)
theorem dX0_isStep_5 : decode cX0_isStep 5 = .ok (.i2l, 1) := dk_133 (dk_at dksX0_isStep_0 5 rfl rfl)
theorem dX0_isStep_6 : decode cX0_isStep 6 = .ok (.lconst 0, 1) := dk_9 (dk_at dksX0_isStep_0 6 rfl rfl)
theorem dX0_isStep_7 : decode cX0_isStep 7 = .ok (.aload_n 0, 1) := dk_42 (dk_at dksX0_isStep_0 7 rfl rfl)
theorem dX0_isStep_8 : decode cX0_isStep 8 = .ok (.getfield 183, 3) := dk_180 0 183 (dk_at dksX0_isStep_0 8 rfl rfl)
theorem dX0_isStep_11 : decode cX0_isStep 11 = .ok (.iconst 1, 1) := dk_4 (dk_at dksX0_isStep_0 11 rfl rfl)
theorem dX0_isStep_12 : decode cX0_isStep 12 = .ok (.isub, 1) := dk_100 (dk_at dksX0_isStep_0 12 rfl rfl)
theorem dX0_isStep_13 : decode cX0_isStep 13 = .ok (.i2l, 1) := dk_133 (dk_at dksX0_isStep_0 13 rfl rfl)
theorem dX0_isStep_14 : decode cX0_isStep 14 = .ok (.invokestatic 57, 3) := dk_184 0 57 (dk_at dksX0_isStep_0 14 rfl rfl)
theorem dX0_isStep_17 : decode cX0_isStep 17 = .ok (.ifCond .eq 19, 3) := dk_153 0 19 (dk_at dksX0_isStep_0 17 rfl rfl)
theorem dX0_isStep_20 : decode cX0_isStep 20 = .ok (.iload_n 2, 1) := dk_28 (dk_at dksX0_isStep_0 20 rfl rfl)
theorem dX0_isStep_21 : decode cX0_isStep 21 = .ok (.i2l, 1) := dk_133 (dk_at dksX0_isStep_0 21 rfl rfl)
theorem dX0_isStep_22 : decode cX0_isStep 22 = .ok (.lconst 0, 1) := dk_9 (dk_at dksX0_isStep_0 22 rfl rfl)
theorem dX0_isStep_23 : decode cX0_isStep 23 = .ok (.ldc2_w 155, 3) := dk_20 0 155 (dk_at dksX0_isStep_1 0 rfl rfl)
theorem dX0_isStep_26 : decode cX0_isStep 26 = .ok (.invokestatic 57, 3) := dk_184 0 57 (dk_at dksX0_isStep_1 3 rfl rfl)
theorem dX0_isStep_29 : decode cX0_isStep 29 = .ok (.ifCond .eq 7, 3) := dk_153 0 7 (dk_at dksX0_isStep_1 6 rfl rfl)
theorem dX0_isStep_32 : decode cX0_isStep 32 = .ok (.iconst 1, 1) := dk_4 (dk_at dksX0_isStep_1 9 rfl rfl)
theorem dX0_isStep_33 : decode cX0_isStep 33 = .ok (.goto 4, 3) := dk_167 0 4 (dk_at dksX0_isStep_1 10 rfl rfl)
theorem dX0_isStep_36 : decode cX0_isStep 36 = .ok (.iconst 0, 1) := dk_3 (dk_at dksX0_isStep_1 13 rfl rfl)
theorem dX0_isStep_37 : decode cX0_isStep 37 = .ok (.ireturn, 1) := dk_172 (dk_at dksX0_isStep_1 14 rfl rfl)
abbrev cX0_bend : ByteArray := prog_1_method_34_code
def yX0_bend : MethodName := ⟨RX0, "bend", "(IIII)Z"⟩
def dkwX0_bend_1 : List UInt8 := [28, 16, 8, 104, 29, 96, 92, 46, 21, 4, 130, 79, 4, 172]
abbrev dktX0_bend_1 : List UInt8 := dkwX0_bend_1 ++ []
def dkwX0_bend_0 : List UInt8 := [42, 27, 182, 1, 17, 58, 5, 25, 5, 28, 29, 184, 1, 31, 154, 0, 5, 3, 172, 25, 5, 180, 0, 190]
abbrev dktX0_bend_0 : List UInt8 := dkwX0_bend_0 ++ dktX0_bend_1
theorem dksX0_bend_0 : cX0_bend.data.toList.drop 0 = dktX0_bend_0 := by decide +kernel
theorem dksX0_bend_1 : cX0_bend.data.toList.drop 24 = dktX0_bend_1 := dk_seg dksX0_bend_0 24 rfl rfl
theorem dX0_bend_0 : decode cX0_bend 0 = .ok (.aload_n 0, 1) := dk_42 (dk_at dksX0_bend_0 0 rfl rfl)
theorem dX0_bend_1 : decode cX0_bend 1 = .ok (.iload_n 1, 1) := dk_27 (dk_at dksX0_bend_0 1 rfl rfl)
theorem dX0_bend_2 : decode cX0_bend 2 = .ok (.invokevirtual 273, 3) := dk_182 1 17 (dk_at dksX0_bend_0 2 rfl rfl)
theorem dX0_bend_5 : decode cX0_bend 5 = .ok (.astore 5, 2) := dk_58 5 (dk_at dksX0_bend_0 5 rfl rfl)
theorem dX0_bend_7 : decode cX0_bend 7 = .ok (.aload 5, 2) := dk_25 5 (dk_at dksX0_bend_0 7 rfl rfl)
theorem dX0_bend_9 : decode cX0_bend 9 = .ok (.iload_n 2, 1) := dk_28 (dk_at dksX0_bend_0 9 rfl rfl)
theorem dX0_bend_10 : decode cX0_bend 10 = .ok (.iload_n 3, 1) := dk_29 (dk_at dksX0_bend_0 10 rfl rfl)
theorem dX0_bend_11 : decode cX0_bend 11 = .ok (.invokestatic 287, 3) := dk_184 1 31 (dk_at dksX0_bend_0 11 rfl rfl)
theorem dX0_bend_14 : decode cX0_bend 14 = .ok (.ifCond .ne 5, 3) := dk_154 0 5 (dk_at dksX0_bend_0 14 rfl rfl)
theorem dX0_bend_17 : decode cX0_bend 17 = .ok (.iconst 0, 1) := dk_3 (dk_at dksX0_bend_0 17 rfl rfl)
theorem dX0_bend_18 : decode cX0_bend 18 = .ok (.ireturn, 1) := dk_172 (dk_at dksX0_bend_0 18 rfl rfl)
theorem dX0_bend_19 : decode cX0_bend 19 = .ok (.aload 5, 2) := dk_25 5 (dk_at dksX0_bend_0 19 rfl rfl)
theorem dX0_bend_21 : decode cX0_bend 21 = .ok (.getfield 190, 3) := dk_180 0 190 (dk_at dksX0_bend_0 21 rfl rfl)
theorem dX0_bend_24 : decode cX0_bend 24 = .ok (.iload_n 2, 1) := dk_28 (dk_at dksX0_bend_1 0 rfl rfl)
theorem dX0_bend_25 : decode cX0_bend 25 = .ok (.bipush 8, 2) := dk_16 8 (dk_at dksX0_bend_1 1 rfl rfl)
theorem dX0_bend_27 : decode cX0_bend 27 = .ok (.imul, 1) := dk_104 (dk_at dksX0_bend_1 3 rfl rfl)
theorem dX0_bend_28 : decode cX0_bend 28 = .ok (.iload_n 3, 1) := dk_29 (dk_at dksX0_bend_1 4 rfl rfl)
theorem dX0_bend_29 : decode cX0_bend 29 = .ok (.iadd, 1) := dk_96 (dk_at dksX0_bend_1 5 rfl rfl)
theorem dX0_bend_30 : decode cX0_bend 30 = .ok (.dup2, 1) := dk_92 (dk_at dksX0_bend_1 6 rfl rfl)
theorem dX0_bend_31 : decode cX0_bend 31 = .ok (.iaload, 1) := dk_46 (dk_at dksX0_bend_1 7 rfl rfl)
theorem dX0_bend_32 : decode cX0_bend 32 = .ok (.iload 4, 2) := dk_21 4 (dk_at dksX0_bend_1 8 rfl rfl)
theorem dX0_bend_34 : decode cX0_bend 34 = .ok (.ixor, 1) := dk_130 (dk_at dksX0_bend_1 10 rfl rfl)
theorem dX0_bend_35 : decode cX0_bend 35 = .ok (.iastore, 1) := dk_79 (dk_at dksX0_bend_1 11 rfl rfl)
theorem dX0_bend_36 : decode cX0_bend 36 = .ok (.iconst 1, 1) := dk_4 (dk_at dksX0_bend_1 12 rfl rfl)
theorem dX0_bend_37 : decode cX0_bend 37 = .ok (.ireturn, 1) := dk_172 (dk_at dksX0_bend_1 13 rfl rfl)
abbrev cX0_forge : ByteArray := prog_1_method_35_code
def yX0_forge : MethodName := ⟨RX0, "forge", "(IIIJ)Z"⟩
def dkwX0_forge_2 : List UInt8 := [3, 172, 58, 6, 3, 172, 58, 6, 3, 172, 4, 172]
abbrev dktX0_forge_2 : List UInt8 := dkwX0_forge_2 ++ []
def dkwX0_forge_1 : List UInt8 := [58, 6, 25, 6, 180, 0, 205, 28, 29, 79, 25, 6, 180, 0, 210, 28, 22, 4, 80, 167, 0, 15, 58, 6]
abbrev dktX0_forge_1 : List UInt8 := dkwX0_forge_1 ++ dktX0_forge_2
def dkwX0_forge_0 : List UInt8 := [27, 184, 0, 224, 154, 0, 5, 3, 172, 42, 180, 0, 12, 180, 0, 193, 27, 50, 180, 0, 197, 192, 0, 206]
abbrev dktX0_forge_0 : List UInt8 := dkwX0_forge_0 ++ dktX0_forge_1
theorem dksX0_forge_0 : cX0_forge.data.toList.drop 0 = dktX0_forge_0 := by decide +kernel
theorem dksX0_forge_1 : cX0_forge.data.toList.drop 24 = dktX0_forge_1 := dk_seg dksX0_forge_0 24 rfl rfl
theorem dksX0_forge_2 : cX0_forge.data.toList.drop 48 = dktX0_forge_2 := dk_seg dksX0_forge_1 24 rfl rfl
theorem dX0_forge_0 : decode cX0_forge 0 = .ok (.iload_n 1, 1) := dk_27 (dk_at dksX0_forge_0 0 rfl rfl)
theorem dX0_forge_1 : decode cX0_forge 1 = .ok (.invokestatic 224, 3) := dk_184 0 224 (dk_at dksX0_forge_0 1 rfl rfl)
theorem dX0_forge_4 : decode cX0_forge 4 = .ok (.ifCond .ne 5, 3) := dk_154 0 5 (dk_at dksX0_forge_0 4 rfl rfl)
theorem dX0_forge_7 : decode cX0_forge 7 = .ok (.iconst 0, 1) := dk_3 (dk_at dksX0_forge_0 7 rfl rfl)
theorem dX0_forge_8 : decode cX0_forge 8 = .ok (.ireturn, 1) := dk_172 (dk_at dksX0_forge_0 8 rfl rfl)
theorem dX0_forge_9 : decode cX0_forge 9 = .ok (.aload_n 0, 1) := dk_42 (dk_at dksX0_forge_0 9 rfl rfl)
theorem dX0_forge_10 : decode cX0_forge 10 = .ok (.getfield 12, 3) := dk_180 0 12 (dk_at dksX0_forge_0 10 rfl rfl)
theorem dX0_forge_13 : decode cX0_forge 13 = .ok (.getfield 193, 3) := dk_180 0 193 (dk_at dksX0_forge_0 13 rfl rfl)
theorem dX0_forge_16 : decode cX0_forge 16 = .ok (.iload_n 1, 1) := dk_27 (dk_at dksX0_forge_0 16 rfl rfl)
theorem dX0_forge_17 : decode cX0_forge 17 = .ok (.aaload, 1) := dk_50 (dk_at dksX0_forge_0 17 rfl rfl)
theorem dX0_forge_18 : decode cX0_forge 18 = .ok (.getfield 197, 3) := dk_180 0 197 (dk_at dksX0_forge_0 18 rfl rfl)
theorem dX0_forge_21 : decode cX0_forge 21 = .ok (.checkcast 206, 3) := dk_192 0 206 (dk_at dksX0_forge_0 21 rfl rfl)
theorem dX0_forge_24 : decode cX0_forge 24 = .ok (.astore 6, 2) := dk_58 6 (dk_at dksX0_forge_1 0 rfl rfl)
theorem dX0_forge_26 : decode cX0_forge 26 = .ok (.aload 6, 2) := dk_25 6 (dk_at dksX0_forge_1 2 rfl rfl)
theorem dX0_forge_28 : decode cX0_forge 28 = .ok (.getfield 205, 3) := dk_180 0 205 (dk_at dksX0_forge_1 4 rfl rfl)
theorem dX0_forge_31 : decode cX0_forge 31 = .ok (.iload_n 2, 1) := dk_28 (dk_at dksX0_forge_1 7 rfl rfl)
theorem dX0_forge_32 : decode cX0_forge 32 = .ok (.iload_n 3, 1) := dk_29 (dk_at dksX0_forge_1 8 rfl rfl)
theorem dX0_forge_33 : decode cX0_forge 33 = .ok (.iastore, 1) := dk_79 (dk_at dksX0_forge_1 9 rfl rfl)
theorem dX0_forge_34 : decode cX0_forge 34 = .ok (.aload 6, 2) := dk_25 6 (dk_at dksX0_forge_1 10 rfl rfl)
theorem dX0_forge_36 : decode cX0_forge 36 = .ok (.getfield 210, 3) := dk_180 0 210 (dk_at dksX0_forge_1 12 rfl rfl)
theorem dX0_forge_39 : decode cX0_forge 39 = .ok (.iload_n 2, 1) := dk_28 (dk_at dksX0_forge_1 15 rfl rfl)
theorem dX0_forge_40 : decode cX0_forge 40 = .ok (.lload 4, 2) := dk_22 4 (dk_at dksX0_forge_1 16 rfl rfl)
theorem dX0_forge_42 : decode cX0_forge 42 = .ok (.lastore, 1) := dk_80 (dk_at dksX0_forge_1 18 rfl rfl)
theorem dX0_forge_43 : decode cX0_forge 43 = .ok (.goto 15, 3) := dk_167 0 15 (dk_at dksX0_forge_1 19 rfl rfl)
theorem dX0_forge_46 : decode cX0_forge 46 = .ok (.astore 6, 2) := dk_58 6 (dk_at dksX0_forge_1 22 rfl rfl)
theorem dX0_forge_48 : decode cX0_forge 48 = .ok (.iconst 0, 1) := dk_3 (dk_at dksX0_forge_2 0 rfl rfl)
theorem dX0_forge_49 : decode cX0_forge 49 = .ok (.ireturn, 1) := dk_172 (dk_at dksX0_forge_2 1 rfl rfl)
theorem dX0_forge_50 : decode cX0_forge 50 = .ok (.astore 6, 2) := dk_58 6 (dk_at dksX0_forge_2 2 rfl rfl)
theorem dX0_forge_52 : decode cX0_forge 52 = .ok (.iconst 0, 1) := dk_3 (dk_at dksX0_forge_2 4 rfl rfl)
theorem dX0_forge_53 : decode cX0_forge 53 = .ok (.ireturn, 1) := dk_172 (dk_at dksX0_forge_2 5 rfl rfl)
theorem dX0_forge_54 : decode cX0_forge 54 = .ok (.astore 6, 2) := dk_58 6 (dk_at dksX0_forge_2 6 rfl rfl)
theorem dX0_forge_56 : decode cX0_forge 56 = .ok (.iconst 0, 1) := dk_3 (dk_at dksX0_forge_2 8 rfl rfl)
theorem dX0_forge_57 : decode cX0_forge 57 = .ok (.ireturn, 1) := dk_172 (dk_at dksX0_forge_2 9 rfl rfl)
theorem dX0_forge_58 : decode cX0_forge 58 = .ok (.iconst 1, 1) := dk_4 (dk_at dksX0_forge_2 10 rfl rfl)
theorem dX0_forge_59 : decode cX0_forge 59 = .ok (.ireturn, 1) := dk_172 (dk_at dksX0_forge_2 11 rfl rfl)
abbrev cX0_check : ByteArray := prog_1_method_38_code
def yX0_check : MethodName := ⟨RX0, "check", "(III)I"⟩
def dkwX0_check_3 : List UInt8 := [180, 0, 12, 180, 1, 46, 29, 50, 167, 0, 4, 1, 182, 1, 53, 153, 0, 7, 4, 167, 0, 4, 3, 172]
abbrev dktX0_check_3 : List UInt8 := dkwX0_check_3 ++ []
def dkwX0_check_2 : List UInt8 := [180, 0, 28, 42, 180, 0, 12, 180, 1, 46, 28, 50, 25, 4, 182, 1, 21, 5, 160, 0, 15, 42]
abbrev dktX0_check_2 : List UInt8 := dkwX0_check_2 ++ dktX0_check_3
def dkwX0_check_1 : List UInt8 := [182, 1, 21, 5, 160, 0, 13, 42, 29, 182, 1, 50, 154, 0, 5, 2, 172, 25, 4, 42, 180, 0, 19, 42]
abbrev dktX0_check_1 : List UInt8 := dkwX0_check_1 ++ dktX0_check_2
def dkwX0_check_0 : List UInt8 := [42, 27, 182, 1, 17, 58, 4, 25, 4, 198, 0, 28, 42, 28, 182, 1, 50, 153, 0, 20, 25, 4]
abbrev dktX0_check_0 : List UInt8 := dkwX0_check_0 ++ dktX0_check_1
theorem dksX0_check_0 : cX0_check.data.toList.drop 0 = dktX0_check_0 := by decide +kernel
theorem dksX0_check_1 : cX0_check.data.toList.drop 22 = dktX0_check_1 := dk_seg dksX0_check_0 22 rfl rfl
theorem dksX0_check_2 : cX0_check.data.toList.drop 46 = dktX0_check_2 := dk_seg dksX0_check_1 24 rfl rfl
theorem dksX0_check_3 : cX0_check.data.toList.drop 68 = dktX0_check_3 := dk_seg dksX0_check_2 22 rfl rfl
theorem dX0_check_0 : decode cX0_check 0 = .ok (.aload_n 0, 1) := dk_42 (dk_at dksX0_check_0 0 rfl rfl)
theorem dX0_check_1 : decode cX0_check 1 = .ok (.iload_n 1, 1) := dk_27 (dk_at dksX0_check_0 1 rfl rfl)
theorem dX0_check_2 : decode cX0_check 2 = .ok (.invokevirtual 273, 3) := dk_182 1 17 (dk_at dksX0_check_0 2 rfl rfl)
theorem dX0_check_5 : decode cX0_check 5 = .ok (.astore 4, 2) := dk_58 4 (dk_at dksX0_check_0 5 rfl rfl)
theorem dX0_check_7 : decode cX0_check 7 = .ok (.aload 4, 2) := dk_25 4 (dk_at dksX0_check_0 7 rfl rfl)
theorem dX0_check_9 : decode cX0_check 9 = .ok (.ifnull 28, 3) := dk_198 0 28 (dk_at dksX0_check_0 9 rfl rfl)
theorem dX0_check_12 : decode cX0_check 12 = .ok (.aload_n 0, 1) := dk_42 (dk_at dksX0_check_0 12 rfl rfl)
theorem dX0_check_13 : decode cX0_check 13 = .ok (.iload_n 2, 1) := dk_28 (dk_at dksX0_check_0 13 rfl rfl)
theorem dX0_check_14 : decode cX0_check 14 = .ok (.invokevirtual 306, 3) := dk_182 1 50 (dk_at dksX0_check_0 14 rfl rfl)
theorem dX0_check_17 : decode cX0_check 17 = .ok (.ifCond .eq 20, 3) := dk_153 0 20 (dk_at dksX0_check_0 17 rfl rfl)
theorem dX0_check_20 : decode cX0_check 20 = .ok (.aload 4, 2) := dk_25 4 (dk_at dksX0_check_0 20 rfl rfl)
theorem dX0_check_22 : decode cX0_check 22 = .ok (.invokevirtual 277, 3) := dk_182 1 21 (dk_at dksX0_check_1 0 rfl rfl)
theorem dX0_check_25 : decode cX0_check 25 = .ok (.iconst 2, 1) := dk_5 (dk_at dksX0_check_1 3 rfl rfl)
theorem dX0_check_26 : decode cX0_check 26 = .ok (.if_icmp .ne 13, 3) := dk_160 0 13 (dk_at dksX0_check_1 4 rfl rfl)
theorem dX0_check_29 : decode cX0_check 29 = .ok (.aload_n 0, 1) := dk_42 (dk_at dksX0_check_1 7 rfl rfl)
theorem dX0_check_30 : decode cX0_check 30 = .ok (.iload_n 3, 1) := dk_29 (dk_at dksX0_check_1 8 rfl rfl)
theorem dX0_check_31 : decode cX0_check 31 = .ok (.invokevirtual 306, 3) := dk_182 1 50 (dk_at dksX0_check_1 9 rfl rfl)
theorem dX0_check_34 : decode cX0_check 34 = .ok (.ifCond .ne 5, 3) := dk_154 0 5 (dk_at dksX0_check_1 12 rfl rfl)
theorem dX0_check_37 : decode cX0_check 37 = .ok (.iconst (-1), 1) := dk_2 (dk_at dksX0_check_1 15 rfl rfl)
theorem dX0_check_38 : decode cX0_check 38 = .ok (.ireturn, 1) := dk_172 (dk_at dksX0_check_1 16 rfl rfl)
theorem dX0_check_39 : decode cX0_check 39 = .ok (.aload 4, 2) := dk_25 4 (dk_at dksX0_check_1 17 rfl rfl)
theorem dX0_check_41 : decode cX0_check 41 = .ok (.aload_n 0, 1) := dk_42 (dk_at dksX0_check_1 19 rfl rfl)
theorem dX0_check_42 : decode cX0_check 42 = .ok (.getfield 19, 3) := dk_180 0 19 (dk_at dksX0_check_1 20 rfl rfl)
theorem dX0_check_45 : decode cX0_check 45 = .ok (.aload_n 0, 1) := dk_42 (dk_at dksX0_check_1 23 rfl rfl)
theorem dX0_check_46 : decode cX0_check 46 = .ok (.getfield 28, 3) := dk_180 0 28 (dk_at dksX0_check_2 0 rfl rfl)
theorem dX0_check_49 : decode cX0_check 49 = .ok (.aload_n 0, 1) := dk_42 (dk_at dksX0_check_2 3 rfl rfl)
theorem dX0_check_50 : decode cX0_check 50 = .ok (.getfield 12, 3) := dk_180 0 12 (dk_at dksX0_check_2 4 rfl rfl)
theorem dX0_check_53 : decode cX0_check 53 = .ok (.getfield 302, 3) := dk_180 1 46 (dk_at dksX0_check_2 7 rfl rfl)
theorem dX0_check_56 : decode cX0_check 56 = .ok (.iload_n 2, 1) := dk_28 (dk_at dksX0_check_2 10 rfl rfl)
theorem dX0_check_57 : decode cX0_check 57 = .ok (.aaload, 1) := dk_50 (dk_at dksX0_check_2 11 rfl rfl)
theorem dX0_check_58 : decode cX0_check 58 = .ok (.aload 4, 2) := dk_25 4 (dk_at dksX0_check_2 12 rfl rfl)
theorem dX0_check_60 : decode cX0_check 60 = .ok (.invokevirtual 277, 3) := dk_182 1 21 (dk_at dksX0_check_2 14 rfl rfl)
theorem dX0_check_63 : decode cX0_check 63 = .ok (.iconst 2, 1) := dk_5 (dk_at dksX0_check_2 17 rfl rfl)
theorem dX0_check_64 : decode cX0_check 64 = .ok (.if_icmp .ne 15, 3) := dk_160 0 15 (dk_at dksX0_check_2 18 rfl rfl)
theorem dX0_check_67 : decode cX0_check 67 = .ok (.aload_n 0, 1) := dk_42 (dk_at dksX0_check_2 21 rfl rfl)
theorem dX0_check_68 : decode cX0_check 68 = .ok (.getfield 12, 3) := dk_180 0 12 (dk_at dksX0_check_3 0 rfl rfl)
theorem dX0_check_71 : decode cX0_check 71 = .ok (.getfield 302, 3) := dk_180 1 46 (dk_at dksX0_check_3 3 rfl rfl)
theorem dX0_check_74 : decode cX0_check 74 = .ok (.iload_n 3, 1) := dk_29 (dk_at dksX0_check_3 6 rfl rfl)
theorem dX0_check_75 : decode cX0_check 75 = .ok (.aaload, 1) := dk_50 (dk_at dksX0_check_3 7 rfl rfl)
theorem dX0_check_76 : decode cX0_check 76 = .ok (.goto 4, 3) := dk_167 0 4 (dk_at dksX0_check_3 8 rfl rfl)
theorem dX0_check_79 : decode cX0_check 79 = .ok (.aconst_null, 1) := dk_1 (dk_at dksX0_check_3 11 rfl rfl)
theorem dX0_check_80 : decode cX0_check 80 = .ok (.invokevirtual 309, 3) := dk_182 1 53 (dk_at dksX0_check_3 12 rfl rfl)
theorem dX0_check_83 : decode cX0_check 83 = .ok (.ifCond .eq 7, 3) := dk_153 0 7 (dk_at dksX0_check_3 15 rfl rfl)
theorem dX0_check_86 : decode cX0_check 86 = .ok (.iconst 1, 1) := dk_4 (dk_at dksX0_check_3 18 rfl rfl)
theorem dX0_check_87 : decode cX0_check 87 = .ok (.goto 4, 3) := dk_167 0 4 (dk_at dksX0_check_3 19 rfl rfl)
theorem dX0_check_90 : decode cX0_check 90 = .ok (.iconst 0, 1) := dk_3 (dk_at dksX0_check_3 22 rfl rfl)
theorem dX0_check_91 : decode cX0_check 91 = .ok (.ireturn, 1) := dk_172 (dk_at dksX0_check_3 23 rfl rfl)
abbrev cX0_hasHead : ByteArray := prog_1_method_37_code
def yX0_hasHead : MethodName := ⟨RX0, "hasHead", "(I)Z"⟩
def dkwX0_hasHead_1 : List UInt8 := [167, 0, 4, 3, 172]
abbrev dktX0_hasHead_1 : List UInt8 := dkwX0_hasHead_1 ++ []
def dkwX0_hasHead_0 : List UInt8 := [27, 184, 1, 43, 153, 0, 22, 42, 180, 0, 12, 180, 1, 46, 27, 50, 180, 0, 121, 153, 0, 7, 4]
abbrev dktX0_hasHead_0 : List UInt8 := dkwX0_hasHead_0 ++ dktX0_hasHead_1
theorem dksX0_hasHead_0 : cX0_hasHead.data.toList.drop 0 = dktX0_hasHead_0 := by decide +kernel
theorem dksX0_hasHead_1 : cX0_hasHead.data.toList.drop 23 = dktX0_hasHead_1 := dk_seg dksX0_hasHead_0 23 rfl rfl
theorem dX0_hasHead_0 : decode cX0_hasHead 0 = .ok (.iload_n 1, 1) := dk_27 (dk_at dksX0_hasHead_0 0 rfl rfl)
theorem dX0_hasHead_1 : decode cX0_hasHead 1 = .ok (.invokestatic 299, 3) := dk_184 1 43 (dk_at dksX0_hasHead_0 1 rfl rfl)
theorem dX0_hasHead_4 : decode cX0_hasHead 4 = .ok (.ifCond .eq 22, 3) := dk_153 0 22 (dk_at dksX0_hasHead_0 4 rfl rfl)
theorem dX0_hasHead_7 : decode cX0_hasHead 7 = .ok (.aload_n 0, 1) := dk_42 (dk_at dksX0_hasHead_0 7 rfl rfl)
theorem dX0_hasHead_8 : decode cX0_hasHead 8 = .ok (.getfield 12, 3) := dk_180 0 12 (dk_at dksX0_hasHead_0 8 rfl rfl)
theorem dX0_hasHead_11 : decode cX0_hasHead 11 = .ok (.getfield 302, 3) := dk_180 1 46 (dk_at dksX0_hasHead_0 11 rfl rfl)
theorem dX0_hasHead_14 : decode cX0_hasHead 14 = .ok (.iload_n 1, 1) := dk_27 (dk_at dksX0_hasHead_0 14 rfl rfl)
theorem dX0_hasHead_15 : decode cX0_hasHead 15 = .ok (.aaload, 1) := dk_50 (dk_at dksX0_hasHead_0 15 rfl rfl)
theorem dX0_hasHead_16 : decode cX0_hasHead 16 = .ok (.getfield 121, 3) := dk_180 0 121 (dk_at dksX0_hasHead_0 16 rfl rfl)
theorem dX0_hasHead_19 : decode cX0_hasHead 19 = .ok (.ifCond .eq 7, 3) := dk_153 0 7 (dk_at dksX0_hasHead_0 19 rfl rfl)
theorem dX0_hasHead_22 : decode cX0_hasHead 22 = .ok (.iconst 1, 1) := dk_4 (dk_at dksX0_hasHead_0 22 rfl rfl)
theorem dX0_hasHead_23 : decode cX0_hasHead 23 = .ok (.goto 4, 3) := dk_167 0 4 (dk_at dksX0_hasHead_1 0 rfl rfl)
theorem dX0_hasHead_26 : decode cX0_hasHead 26 = .ok (.iconst 0, 1) := dk_3 (dk_at dksX0_hasHead_1 3 rfl rfl)
theorem dX0_hasHead_27 : decode cX0_hasHead 27 = .ok (.ireturn, 1) := dk_172 (dk_at dksX0_hasHead_1 4 rfl rfl)
abbrev cX0_isReader : ByteArray := prog_1_method_36_code
def yX0_isReader : MethodName := ⟨RX0, "isReader", "(I)Z"⟩
def dkwX0_isReader_0 : List UInt8 := [26, 133, 9, 20, 1, 41, 184, 0, 57, 172]
abbrev dktX0_isReader_0 : List UInt8 := dkwX0_isReader_0 ++ []
theorem dksX0_isReader_0 : cX0_isReader.data.toList.drop 0 = dktX0_isReader_0 := by decide +kernel
theorem dX0_isReader_0 : decode cX0_isReader 0 = .ok (.iload_n 0, 1) := dk_26 (dk_at dksX0_isReader_0 0 rfl rfl)
theorem dX0_isReader_1 : decode cX0_isReader 1 = .ok (.i2l, 1) := dk_133 (dk_at dksX0_isReader_0 1 rfl rfl)
theorem dX0_isReader_2 : decode cX0_isReader 2 = .ok (.lconst 0, 1) := dk_9 (dk_at dksX0_isReader_0 2 rfl rfl)
theorem dX0_isReader_3 : decode cX0_isReader 3 = .ok (.ldc2_w 297, 3) := dk_20 1 41 (dk_at dksX0_isReader_0 3 rfl rfl)
theorem dX0_isReader_6 : decode cX0_isReader 6 = .ok (.invokestatic 57, 3) := dk_184 0 57 (dk_at dksX0_isReader_0 6 rfl rfl)
theorem dX0_isReader_9 : decode cX0_isReader 9 = .ok (.ireturn, 1) := dk_172 (dk_at dksX0_isReader_0 9 rfl rfl)
abbrev cX0_isLike : ByteArray := prog_1_method_3_code
def yX0_isLike : MethodName := ⟨RX0, "isLike", "([II[II)Z"⟩
def dkwX0_isLike_2 : List UInt8 := [172]
abbrev dktX0_isLike_2 : List UInt8 := dkwX0_isLike_2 ++ []
def dkwX0_isLike_1 : List UInt8 := [44, 29, 21, 5, 96, 46, 160, 0, 7, 4, 167, 0, 4, 3, 54, 4, 132, 5, 1, 167, 255, 219, 21, 4]
abbrev dktX0_isLike_1 : List UInt8 := dkwX0_isLike_1 ++ dktX0_isLike_2
def dkwX0_isLike_0 : List UInt8 := [4, 54, 4, 3, 54, 5, 21, 5, 16, 8, 162, 0, 36, 21, 4, 153, 0, 22, 42, 27, 21, 5, 96, 46]
abbrev dktX0_isLike_0 : List UInt8 := dkwX0_isLike_0 ++ dktX0_isLike_1
theorem dksX0_isLike_0 : cX0_isLike.data.toList.drop 0 = dktX0_isLike_0 := by decide +kernel
theorem dksX0_isLike_1 : cX0_isLike.data.toList.drop 24 = dktX0_isLike_1 := dk_seg dksX0_isLike_0 24 rfl rfl
theorem dksX0_isLike_2 : cX0_isLike.data.toList.drop 48 = dktX0_isLike_2 := dk_seg dksX0_isLike_1 24 rfl rfl
theorem dX0_isLike_0 : decode cX0_isLike 0 = .ok (.iconst 1, 1) := dk_4 (dk_at dksX0_isLike_0 0 rfl rfl)
theorem dX0_isLike_1 : decode cX0_isLike 1 = .ok (.istore 4, 2) := dk_54 4 (dk_at dksX0_isLike_0 1 rfl rfl)
theorem dX0_isLike_3 : decode cX0_isLike 3 = .ok (.iconst 0, 1) := dk_3 (dk_at dksX0_isLike_0 3 rfl rfl)
theorem dX0_isLike_4 : decode cX0_isLike 4 = .ok (.istore 5, 2) := dk_54 5 (dk_at dksX0_isLike_0 4 rfl rfl)
theorem dX0_isLike_6 : decode cX0_isLike 6 = .ok (.iload 5, 2) := dk_21 5 (dk_at dksX0_isLike_0 6 rfl rfl)
theorem dX0_isLike_8 : decode cX0_isLike 8 = .ok (.bipush 8, 2) := dk_16 8 (dk_at dksX0_isLike_0 8 rfl rfl)
theorem dX0_isLike_10 : decode cX0_isLike 10 = .ok (.if_icmp .ge 36, 3) := dk_162 0 36 (dk_at dksX0_isLike_0 10 rfl rfl)
theorem dX0_isLike_13 : decode cX0_isLike 13 = .ok (.iload 4, 2) := dk_21 4 (dk_at dksX0_isLike_0 13 rfl rfl)
theorem dX0_isLike_15 : decode cX0_isLike 15 = .ok (.ifCond .eq 22, 3) := dk_153 0 22 (dk_at dksX0_isLike_0 15 rfl rfl)
theorem dX0_isLike_18 : decode cX0_isLike 18 = .ok (.aload_n 0, 1) := dk_42 (dk_at dksX0_isLike_0 18 rfl rfl)
theorem dX0_isLike_19 : decode cX0_isLike 19 = .ok (.iload_n 1, 1) := dk_27 (dk_at dksX0_isLike_0 19 rfl rfl)
theorem dX0_isLike_20 : decode cX0_isLike 20 = .ok (.iload 5, 2) := dk_21 5 (dk_at dksX0_isLike_0 20 rfl rfl)
theorem dX0_isLike_22 : decode cX0_isLike 22 = .ok (.iadd, 1) := dk_96 (dk_at dksX0_isLike_0 22 rfl rfl)
theorem dX0_isLike_23 : decode cX0_isLike 23 = .ok (.iaload, 1) := dk_46 (dk_at dksX0_isLike_0 23 rfl rfl)
theorem dX0_isLike_24 : decode cX0_isLike 24 = .ok (.aload_n 2, 1) := dk_44 (dk_at dksX0_isLike_1 0 rfl rfl)
theorem dX0_isLike_25 : decode cX0_isLike 25 = .ok (.iload_n 3, 1) := dk_29 (dk_at dksX0_isLike_1 1 rfl rfl)
theorem dX0_isLike_26 : decode cX0_isLike 26 = .ok (.iload 5, 2) := dk_21 5 (dk_at dksX0_isLike_1 2 rfl rfl)
theorem dX0_isLike_28 : decode cX0_isLike 28 = .ok (.iadd, 1) := dk_96 (dk_at dksX0_isLike_1 4 rfl rfl)
theorem dX0_isLike_29 : decode cX0_isLike 29 = .ok (.iaload, 1) := dk_46 (dk_at dksX0_isLike_1 5 rfl rfl)
theorem dX0_isLike_30 : decode cX0_isLike 30 = .ok (.if_icmp .ne 7, 3) := dk_160 0 7 (dk_at dksX0_isLike_1 6 rfl rfl)
theorem dX0_isLike_33 : decode cX0_isLike 33 = .ok (.iconst 1, 1) := dk_4 (dk_at dksX0_isLike_1 9 rfl rfl)
theorem dX0_isLike_34 : decode cX0_isLike 34 = .ok (.goto 4, 3) := dk_167 0 4 (dk_at dksX0_isLike_1 10 rfl rfl)
theorem dX0_isLike_37 : decode cX0_isLike 37 = .ok (.iconst 0, 1) := dk_3 (dk_at dksX0_isLike_1 13 rfl rfl)
theorem dX0_isLike_38 : decode cX0_isLike 38 = .ok (.istore 4, 2) := dk_54 4 (dk_at dksX0_isLike_1 14 rfl rfl)
theorem dX0_isLike_40 : decode cX0_isLike 40 = .ok (.iinc 5 1, 3) := dk_132 5 1 (dk_at dksX0_isLike_1 16 rfl rfl)
theorem dX0_isLike_43 : decode cX0_isLike 43 = .ok (.goto (-37), 3) := dk_167 255 219 (dk_at dksX0_isLike_1 19 rfl rfl)
theorem dX0_isLike_46 : decode cX0_isLike 46 = .ok (.iload 4, 2) := dk_21 4 (dk_at dksX0_isLike_1 22 rfl rfl)
theorem dX0_isLike_48 : decode cX0_isLike 48 = .ok (.ireturn, 1) := dk_172 (dk_at dksX0_isLike_2 0 rfl rfl)
abbrev cX0_take : ByteArray := prog_1_method_41_code
def yX0_take : MethodName := ⟨RX0, "take", "(III)I"⟩
def dkwX0_take_5 : List UInt8 := [182, 1, 71, 4, 172]
abbrev dktX0_take_5 : List UInt8 := dkwX0_take_5 ++ []
def dkwX0_take_4 : List UInt8 := [92, 46, 4, 96, 79, 3, 172, 25, 4, 180, 0, 125, 25, 5, 180, 0, 125, 164, 0, 10, 25, 5, 25, 4]
abbrev dktX0_take_4 : List UInt8 := dkwX0_take_4 ++ dktX0_take_5
def dkwX0_take_3 : List UInt8 := [25, 4, 182, 1, 57, 154, 0, 26, 42, 25, 5, 25, 4, 182, 1, 74, 42, 180, 0, 12, 180, 1, 78, 27]
abbrev dktX0_take_3 : List UInt8 := dkwX0_take_3 ++ dktX0_take_4
def dkwX0_take_2 : List UInt8 := [180, 0, 131, 25, 4, 180, 0, 131, 159, 0, 12, 25, 5, 25, 4, 182, 1, 71, 4, 172, 42, 25, 5]
abbrev dktX0_take_2 : List UInt8 := dkwX0_take_2 ++ dktX0_take_3
def dkwX0_take_1 : List UInt8 := [58, 4, 42, 180, 0, 12, 180, 1, 46, 27, 50, 58, 5, 25, 5, 180, 0, 121, 153, 0, 16, 25, 5]
abbrev dktX0_take_1 : List UInt8 := dkwX0_take_1 ++ dktX0_take_2
def dkwX0_take_0 : List UInt8 := [27, 184, 1, 43, 153, 0, 12, 42, 28, 29, 182, 0, 84, 154, 0, 5, 2, 172, 42, 28, 29, 182, 0, 157]
abbrev dktX0_take_0 : List UInt8 := dkwX0_take_0 ++ dktX0_take_1
theorem dksX0_take_0 : cX0_take.data.toList.drop 0 = dktX0_take_0 := by decide +kernel
theorem dksX0_take_1 : cX0_take.data.toList.drop 24 = dktX0_take_1 := dk_seg dksX0_take_0 24 rfl rfl
theorem dksX0_take_2 : cX0_take.data.toList.drop 47 = dktX0_take_2 := dk_seg dksX0_take_1 23 rfl rfl
theorem dksX0_take_3 : cX0_take.data.toList.drop 70 = dktX0_take_3 := dk_seg dksX0_take_2 23 rfl rfl
theorem dksX0_take_4 : cX0_take.data.toList.drop 94 = dktX0_take_4 := dk_seg dksX0_take_3 24 rfl rfl
theorem dksX0_take_5 : cX0_take.data.toList.drop 118 = dktX0_take_5 := dk_seg dksX0_take_4 24 rfl rfl
theorem dX0_take_0 : decode cX0_take 0 = .ok (.iload_n 1, 1) := dk_27 (dk_at dksX0_take_0 0 rfl rfl)
theorem dX0_take_1 : decode cX0_take 1 = .ok (.invokestatic 299, 3) := dk_184 1 43 (dk_at dksX0_take_0 1 rfl rfl)
theorem dX0_take_4 : decode cX0_take 4 = .ok (.ifCond .eq 12, 3) := dk_153 0 12 (dk_at dksX0_take_0 4 rfl rfl)
theorem dX0_take_7 : decode cX0_take 7 = .ok (.aload_n 0, 1) := dk_42 (dk_at dksX0_take_0 7 rfl rfl)
theorem dX0_take_8 : decode cX0_take 8 = .ok (.iload_n 2, 1) := dk_28 (dk_at dksX0_take_0 8 rfl rfl)
theorem dX0_take_9 : decode cX0_take 9 = .ok (.iload_n 3, 1) := dk_29 (dk_at dksX0_take_0 9 rfl rfl)
theorem dX0_take_10 : decode cX0_take 10 = .ok (.invokevirtual 84, 3) := dk_182 0 84 (dk_at dksX0_take_0 10 rfl rfl)
theorem dX0_take_13 : decode cX0_take 13 = .ok (.ifCond .ne 5, 3) := dk_154 0 5 (dk_at dksX0_take_0 13 rfl rfl)
theorem dX0_take_16 : decode cX0_take 16 = .ok (.iconst (-1), 1) := dk_2 (dk_at dksX0_take_0 16 rfl rfl)
theorem dX0_take_17 : decode cX0_take 17 = .ok (.ireturn, 1) := dk_172 (dk_at dksX0_take_0 17 rfl rfl)
theorem dX0_take_18 : decode cX0_take 18 = .ok (.aload_n 0, 1) := dk_42 (dk_at dksX0_take_0 18 rfl rfl)
theorem dX0_take_19 : decode cX0_take 19 = .ok (.iload_n 2, 1) := dk_28 (dk_at dksX0_take_0 19 rfl rfl)
theorem dX0_take_20 : decode cX0_take 20 = .ok (.iload_n 3, 1) := dk_29 (dk_at dksX0_take_0 20 rfl rfl)
theorem dX0_take_21 : decode cX0_take 21 = .ok (.invokevirtual 157, 3) := dk_182 0 157 (dk_at dksX0_take_0 21 rfl rfl)
theorem dX0_take_24 : decode cX0_take 24 = .ok (.astore 4, 2) := dk_58 4 (dk_at dksX0_take_1 0 rfl rfl)
theorem dX0_take_26 : decode cX0_take 26 = .ok (.aload_n 0, 1) := dk_42 (dk_at dksX0_take_1 2 rfl rfl)
theorem dX0_take_27 : decode cX0_take 27 = .ok (.getfield 12, 3) := dk_180 0 12 (dk_at dksX0_take_1 3 rfl rfl)
theorem dX0_take_30 : decode cX0_take 30 = .ok (.getfield 302, 3) := dk_180 1 46 (dk_at dksX0_take_1 6 rfl rfl)
theorem dX0_take_33 : decode cX0_take 33 = .ok (.iload_n 1, 1) := dk_27 (dk_at dksX0_take_1 9 rfl rfl)
theorem dX0_take_34 : decode cX0_take 34 = .ok (.aaload, 1) := dk_50 (dk_at dksX0_take_1 10 rfl rfl)
theorem dX0_take_35 : decode cX0_take 35 = .ok (.astore 5, 2) := dk_58 5 (dk_at dksX0_take_1 11 rfl rfl)
theorem dX0_take_37 : decode cX0_take 37 = .ok (.aload 5, 2) := dk_25 5 (dk_at dksX0_take_1 13 rfl rfl)
theorem dX0_take_39 : decode cX0_take 39 = .ok (.getfield 121, 3) := dk_180 0 121 (dk_at dksX0_take_1 15 rfl rfl)
theorem dX0_take_42 : decode cX0_take 42 = .ok (.ifCond .eq 16, 3) := dk_153 0 16 (dk_at dksX0_take_1 18 rfl rfl)
theorem dX0_take_45 : decode cX0_take 45 = .ok (.aload 5, 2) := dk_25 5 (dk_at dksX0_take_1 21 rfl rfl)
theorem dX0_take_47 : decode cX0_take 47 = .ok (.getfield 131, 3) := dk_180 0 131 (dk_at dksX0_take_2 0 rfl rfl)
theorem dX0_take_50 : decode cX0_take 50 = .ok (.aload 4, 2) := dk_25 4 (dk_at dksX0_take_2 3 rfl rfl)
theorem dX0_take_52 : decode cX0_take 52 = .ok (.getfield 131, 3) := dk_180 0 131 (dk_at dksX0_take_2 5 rfl rfl)
theorem dX0_take_55 : decode cX0_take 55 = .ok (.if_icmp .eq 12, 3) := dk_159 0 12 (dk_at dksX0_take_2 8 rfl rfl)
theorem dX0_take_58 : decode cX0_take 58 = .ok (.aload 5, 2) := dk_25 5 (dk_at dksX0_take_2 11 rfl rfl)
theorem dX0_take_60 : decode cX0_take 60 = .ok (.aload 4, 2) := dk_25 4 (dk_at dksX0_take_2 13 rfl rfl)
theorem dX0_take_62 : decode cX0_take 62 = .ok (.invokevirtual 327, 3) := dk_182 1 71 (dk_at dksX0_take_2 15 rfl rfl)
theorem dX0_take_65 : decode cX0_take 65 = .ok (.iconst 1, 1) := dk_4 (dk_at dksX0_take_2 18 rfl rfl)
theorem dX0_take_66 : decode cX0_take 66 = .ok (.ireturn, 1) := dk_172 (dk_at dksX0_take_2 19 rfl rfl)
theorem dX0_take_67 : decode cX0_take 67 = .ok (.aload_n 0, 1) := dk_42 (dk_at dksX0_take_2 20 rfl rfl)
theorem dX0_take_68 : decode cX0_take 68 = .ok (.aload 5, 2) := dk_25 5 (dk_at dksX0_take_2 21 rfl rfl)
theorem dX0_take_70 : decode cX0_take 70 = .ok (.aload 4, 2) := dk_25 4 (dk_at dksX0_take_3 0 rfl rfl)
theorem dX0_take_72 : decode cX0_take 72 = .ok (.invokevirtual 313, 3) := dk_182 1 57 (dk_at dksX0_take_3 2 rfl rfl)
theorem dX0_take_75 : decode cX0_take 75 = .ok (.ifCond .ne 26, 3) := dk_154 0 26 (dk_at dksX0_take_3 5 rfl rfl)
theorem dX0_take_78 : decode cX0_take 78 = .ok (.aload_n 0, 1) := dk_42 (dk_at dksX0_take_3 8 rfl rfl)
theorem dX0_take_79 : decode cX0_take 79 = .ok (.aload 5, 2) := dk_25 5 (dk_at dksX0_take_3 9 rfl rfl)
theorem dX0_take_81 : decode cX0_take 81 = .ok (.aload 4, 2) := dk_25 4 (dk_at dksX0_take_3 11 rfl rfl)
theorem dX0_take_83 : decode cX0_take 83 = .ok (.invokevirtual 330, 3) := dk_182 1 74 (dk_at dksX0_take_3 13 rfl rfl)
theorem dX0_take_86 : decode cX0_take 86 = .ok (.aload_n 0, 1) := dk_42 (dk_at dksX0_take_3 16 rfl rfl)
theorem dX0_take_87 : decode cX0_take 87 = .ok (.getfield 12, 3) := dk_180 0 12 (dk_at dksX0_take_3 17 rfl rfl)
theorem dX0_take_90 : decode cX0_take 90 = .ok (.getfield 334, 3) := dk_180 1 78 (dk_at dksX0_take_3 20 rfl rfl)
theorem dX0_take_93 : decode cX0_take 93 = .ok (.iload_n 1, 1) := dk_27 (dk_at dksX0_take_3 23 rfl rfl)
theorem dX0_take_94 : decode cX0_take 94 = .ok (.dup2, 1) := dk_92 (dk_at dksX0_take_4 0 rfl rfl)
theorem dX0_take_95 : decode cX0_take 95 = .ok (.iaload, 1) := dk_46 (dk_at dksX0_take_4 1 rfl rfl)
theorem dX0_take_96 : decode cX0_take 96 = .ok (.iconst 1, 1) := dk_4 (dk_at dksX0_take_4 2 rfl rfl)
theorem dX0_take_97 : decode cX0_take 97 = .ok (.iadd, 1) := dk_96 (dk_at dksX0_take_4 3 rfl rfl)
theorem dX0_take_98 : decode cX0_take 98 = .ok (.iastore, 1) := dk_79 (dk_at dksX0_take_4 4 rfl rfl)
theorem dX0_take_99 : decode cX0_take 99 = .ok (.iconst 0, 1) := dk_3 (dk_at dksX0_take_4 5 rfl rfl)
theorem dX0_take_100 : decode cX0_take 100 = .ok (.ireturn, 1) := dk_172 (dk_at dksX0_take_4 6 rfl rfl)
theorem dX0_take_101 : decode cX0_take 101 = .ok (.aload 4, 2) := dk_25 4 (dk_at dksX0_take_4 7 rfl rfl)
theorem dX0_take_103 : decode cX0_take 103 = .ok (.getfield 125, 3) := dk_180 0 125 (dk_at dksX0_take_4 9 rfl rfl)
theorem dX0_take_106 : decode cX0_take 106 = .ok (.aload 5, 2) := dk_25 5 (dk_at dksX0_take_4 12 rfl rfl)
theorem dX0_take_108 : decode cX0_take 108 = .ok (.getfield 125, 3) := dk_180 0 125 (dk_at dksX0_take_4 14 rfl rfl)
theorem dX0_take_111 : decode cX0_take 111 = .ok (.if_icmp .le 10, 3) := dk_164 0 10 (dk_at dksX0_take_4 17 rfl rfl)
theorem dX0_take_114 : decode cX0_take 114 = .ok (.aload 5, 2) := dk_25 5 (dk_at dksX0_take_4 20 rfl rfl)
theorem dX0_take_116 : decode cX0_take 116 = .ok (.aload 4, 2) := dk_25 4 (dk_at dksX0_take_4 22 rfl rfl)
theorem dX0_take_118 : decode cX0_take 118 = .ok (.invokevirtual 327, 3) := dk_182 1 71 (dk_at dksX0_take_5 0 rfl rfl)
theorem dX0_take_121 : decode cX0_take 121 = .ok (.iconst 1, 1) := dk_4 (dk_at dksX0_take_5 3 rfl rfl)
theorem dX0_take_122 : decode cX0_take 122 = .ok (.ireturn, 1) := dk_172 (dk_at dksX0_take_5 4 rfl rfl)
abbrev cX0_agree : ByteArray := prog_1_method_39_code
def yX0_agree : MethodName := ⟨RX0, "agree", "(LGlassLog$Head;LGlassLog$Head;)Z"⟩
def dkwX0_agree_7 : List UInt8 := [3, 44, 180, 0, 138, 3, 184, 1, 61, 153, 0, 7, 4, 167, 0, 4, 3, 172]
abbrev dktX0_agree_7 : List UInt8 := dkwX0_agree_7 ++ []
def dkwX0_agree_6 : List UInt8 := [182, 0, 134, 42, 180, 0, 28, 42, 180, 0, 50, 3, 182, 0, 141, 21, 4, 153, 0, 23, 42, 180, 0, 50]
abbrev dktX0_agree_6 : List UInt8 := dkwX0_agree_6 ++ dktX0_agree_7
def dkwX0_agree_5 : List UInt8 := [3, 43, 180, 0, 138, 3, 184, 1, 61, 54, 4, 45, 42, 180, 0, 28, 43, 180, 0, 125, 44, 180, 0, 125]
abbrev dktX0_agree_5 : List UInt8 := dkwX0_agree_5 ++ dktX0_agree_6
def dkwX0_agree_4 : List UInt8 := [3, 43, 180, 0, 125, 182, 0, 134, 42, 180, 0, 28, 42, 180, 0, 50, 3, 182, 0, 141, 42, 180, 0, 50]
abbrev dktX0_agree_4 : List UInt8 := dkwX0_agree_4 ++ dktX0_agree_5
def dkwX0_agree_3 : List UInt8 := [180, 0, 12, 180, 0, 65, 44, 180, 0, 128, 50, 78, 42, 180, 0, 28, 182, 0, 132, 45, 42, 180, 0, 28]
abbrev dktX0_agree_3 : List UInt8 := dkwX0_agree_3 ++ dktX0_agree_4
def dkwX0_agree_2 : List UInt8 := [180, 0, 144, 3, 44, 180, 0, 144, 3, 184, 1, 61, 153, 0, 7, 4, 167, 0, 4, 3, 172, 42]
abbrev dktX0_agree_2 : List UInt8 := dkwX0_agree_2 ++ dktX0_agree_3
def dkwX0_agree_1 : List UInt8 := [180, 0, 125, 160, 0, 41, 43, 180, 0, 138, 3, 44, 180, 0, 138, 3, 184, 1, 61, 153, 0, 23, 43]
abbrev dktX0_agree_1 : List UInt8 := dkwX0_agree_1 ++ dktX0_agree_2
def dkwX0_agree_0 : List UInt8 := [43, 180, 0, 125, 44, 180, 0, 125, 164, 0, 10, 42, 44, 43, 182, 1, 57, 172, 43, 180, 0, 125, 44]
abbrev dktX0_agree_0 : List UInt8 := dkwX0_agree_0 ++ dktX0_agree_1
theorem dksX0_agree_0 : cX0_agree.data.toList.drop 0 = dktX0_agree_0 := by decide +kernel
theorem dksX0_agree_1 : cX0_agree.data.toList.drop 23 = dktX0_agree_1 := dk_seg dksX0_agree_0 23 rfl rfl
theorem dksX0_agree_2 : cX0_agree.data.toList.drop 46 = dktX0_agree_2 := dk_seg dksX0_agree_1 23 rfl rfl
theorem dksX0_agree_3 : cX0_agree.data.toList.drop 68 = dktX0_agree_3 := dk_seg dksX0_agree_2 22 rfl rfl
theorem dksX0_agree_4 : cX0_agree.data.toList.drop 92 = dktX0_agree_4 := dk_seg dksX0_agree_3 24 rfl rfl
theorem dksX0_agree_5 : cX0_agree.data.toList.drop 116 = dktX0_agree_5 := dk_seg dksX0_agree_4 24 rfl rfl
theorem dksX0_agree_6 : cX0_agree.data.toList.drop 140 = dktX0_agree_6 := dk_seg dksX0_agree_5 24 rfl rfl
theorem dksX0_agree_7 : cX0_agree.data.toList.drop 164 = dktX0_agree_7 := dk_seg dksX0_agree_6 24 rfl rfl
theorem dX0_agree_0 : decode cX0_agree 0 = .ok (.aload_n 1, 1) := dk_43 (dk_at dksX0_agree_0 0 rfl rfl)
theorem dX0_agree_1 : decode cX0_agree 1 = .ok (.getfield 125, 3) := dk_180 0 125 (dk_at dksX0_agree_0 1 rfl rfl)
theorem dX0_agree_4 : decode cX0_agree 4 = .ok (.aload_n 2, 1) := dk_44 (dk_at dksX0_agree_0 4 rfl rfl)
theorem dX0_agree_5 : decode cX0_agree 5 = .ok (.getfield 125, 3) := dk_180 0 125 (dk_at dksX0_agree_0 5 rfl rfl)
theorem dX0_agree_8 : decode cX0_agree 8 = .ok (.if_icmp .le 10, 3) := dk_164 0 10 (dk_at dksX0_agree_0 8 rfl rfl)
theorem dX0_agree_11 : decode cX0_agree 11 = .ok (.aload_n 0, 1) := dk_42 (dk_at dksX0_agree_0 11 rfl rfl)
theorem dX0_agree_12 : decode cX0_agree 12 = .ok (.aload_n 2, 1) := dk_44 (dk_at dksX0_agree_0 12 rfl rfl)
theorem dX0_agree_13 : decode cX0_agree 13 = .ok (.aload_n 1, 1) := dk_43 (dk_at dksX0_agree_0 13 rfl rfl)
theorem dX0_agree_14 : decode cX0_agree 14 = .ok (.invokevirtual 313, 3) := dk_182 1 57 (dk_at dksX0_agree_0 14 rfl rfl)
theorem dX0_agree_17 : decode cX0_agree 17 = .ok (.ireturn, 1) := dk_172 (dk_at dksX0_agree_0 17 rfl rfl)
theorem dX0_agree_18 : decode cX0_agree 18 = .ok (.aload_n 1, 1) := dk_43 (dk_at dksX0_agree_0 18 rfl rfl)
theorem dX0_agree_19 : decode cX0_agree 19 = .ok (.getfield 125, 3) := dk_180 0 125 (dk_at dksX0_agree_0 19 rfl rfl)
theorem dX0_agree_22 : decode cX0_agree 22 = .ok (.aload_n 2, 1) := dk_44 (dk_at dksX0_agree_0 22 rfl rfl)
theorem dX0_agree_23 : decode cX0_agree 23 = .ok (.getfield 125, 3) := dk_180 0 125 (dk_at dksX0_agree_1 0 rfl rfl)
theorem dX0_agree_26 : decode cX0_agree 26 = .ok (.if_icmp .ne 41, 3) := dk_160 0 41 (dk_at dksX0_agree_1 3 rfl rfl)
theorem dX0_agree_29 : decode cX0_agree 29 = .ok (.aload_n 1, 1) := dk_43 (dk_at dksX0_agree_1 6 rfl rfl)
theorem dX0_agree_30 : decode cX0_agree 30 = .ok (.getfield 138, 3) := dk_180 0 138 (dk_at dksX0_agree_1 7 rfl rfl)
theorem dX0_agree_33 : decode cX0_agree 33 = .ok (.iconst 0, 1) := dk_3 (dk_at dksX0_agree_1 10 rfl rfl)
theorem dX0_agree_34 : decode cX0_agree 34 = .ok (.aload_n 2, 1) := dk_44 (dk_at dksX0_agree_1 11 rfl rfl)
theorem dX0_agree_35 : decode cX0_agree 35 = .ok (.getfield 138, 3) := dk_180 0 138 (dk_at dksX0_agree_1 12 rfl rfl)
theorem dX0_agree_38 : decode cX0_agree 38 = .ok (.iconst 0, 1) := dk_3 (dk_at dksX0_agree_1 15 rfl rfl)
theorem dX0_agree_39 : decode cX0_agree 39 = .ok (.invokestatic 317, 3) := dk_184 1 61 (dk_at dksX0_agree_1 16 rfl rfl)
theorem dX0_agree_42 : decode cX0_agree 42 = .ok (.ifCond .eq 23, 3) := dk_153 0 23 (dk_at dksX0_agree_1 19 rfl rfl)
theorem dX0_agree_45 : decode cX0_agree 45 = .ok (.aload_n 1, 1) := dk_43 (dk_at dksX0_agree_1 22 rfl rfl)
theorem dX0_agree_46 : decode cX0_agree 46 = .ok (.getfield 144, 3) := dk_180 0 144 (dk_at dksX0_agree_2 0 rfl rfl)
theorem dX0_agree_49 : decode cX0_agree 49 = .ok (.iconst 0, 1) := dk_3 (dk_at dksX0_agree_2 3 rfl rfl)
theorem dX0_agree_50 : decode cX0_agree 50 = .ok (.aload_n 2, 1) := dk_44 (dk_at dksX0_agree_2 4 rfl rfl)
theorem dX0_agree_51 : decode cX0_agree 51 = .ok (.getfield 144, 3) := dk_180 0 144 (dk_at dksX0_agree_2 5 rfl rfl)
theorem dX0_agree_54 : decode cX0_agree 54 = .ok (.iconst 0, 1) := dk_3 (dk_at dksX0_agree_2 8 rfl rfl)
theorem dX0_agree_55 : decode cX0_agree 55 = .ok (.invokestatic 317, 3) := dk_184 1 61 (dk_at dksX0_agree_2 9 rfl rfl)
theorem dX0_agree_58 : decode cX0_agree 58 = .ok (.ifCond .eq 7, 3) := dk_153 0 7 (dk_at dksX0_agree_2 12 rfl rfl)
theorem dX0_agree_61 : decode cX0_agree 61 = .ok (.iconst 1, 1) := dk_4 (dk_at dksX0_agree_2 15 rfl rfl)
theorem dX0_agree_62 : decode cX0_agree 62 = .ok (.goto 4, 3) := dk_167 0 4 (dk_at dksX0_agree_2 16 rfl rfl)
theorem dX0_agree_65 : decode cX0_agree 65 = .ok (.iconst 0, 1) := dk_3 (dk_at dksX0_agree_2 19 rfl rfl)
theorem dX0_agree_66 : decode cX0_agree 66 = .ok (.ireturn, 1) := dk_172 (dk_at dksX0_agree_2 20 rfl rfl)
theorem dX0_agree_67 : decode cX0_agree 67 = .ok (.aload_n 0, 1) := dk_42 (dk_at dksX0_agree_2 21 rfl rfl)
theorem dX0_agree_68 : decode cX0_agree 68 = .ok (.getfield 12, 3) := dk_180 0 12 (dk_at dksX0_agree_3 0 rfl rfl)
theorem dX0_agree_71 : decode cX0_agree 71 = .ok (.getfield 65, 3) := dk_180 0 65 (dk_at dksX0_agree_3 3 rfl rfl)
theorem dX0_agree_74 : decode cX0_agree 74 = .ok (.aload_n 2, 1) := dk_44 (dk_at dksX0_agree_3 6 rfl rfl)
theorem dX0_agree_75 : decode cX0_agree 75 = .ok (.getfield 128, 3) := dk_180 0 128 (dk_at dksX0_agree_3 7 rfl rfl)
theorem dX0_agree_78 : decode cX0_agree 78 = .ok (.aaload, 1) := dk_50 (dk_at dksX0_agree_3 10 rfl rfl)
theorem dX0_agree_79 : decode cX0_agree 79 = .ok (.astore_n 3, 1) := dk_78 (dk_at dksX0_agree_3 11 rfl rfl)
theorem dX0_agree_80 : decode cX0_agree 80 = .ok (.aload_n 0, 1) := dk_42 (dk_at dksX0_agree_3 12 rfl rfl)
theorem dX0_agree_81 : decode cX0_agree 81 = .ok (.getfield 28, 3) := dk_180 0 28 (dk_at dksX0_agree_3 13 rfl rfl)
theorem dX0_agree_84 : decode cX0_agree 84 = .ok (.invokevirtual 132, 3) := dk_182 0 132 (dk_at dksX0_agree_3 16 rfl rfl)
theorem dX0_agree_87 : decode cX0_agree 87 = .ok (.aload_n 3, 1) := dk_45 (dk_at dksX0_agree_3 19 rfl rfl)
theorem dX0_agree_88 : decode cX0_agree 88 = .ok (.aload_n 0, 1) := dk_42 (dk_at dksX0_agree_3 20 rfl rfl)
theorem dX0_agree_89 : decode cX0_agree 89 = .ok (.getfield 28, 3) := dk_180 0 28 (dk_at dksX0_agree_3 21 rfl rfl)
theorem dX0_agree_92 : decode cX0_agree 92 = .ok (.iconst 0, 1) := dk_3 (dk_at dksX0_agree_4 0 rfl rfl)
theorem dX0_agree_93 : decode cX0_agree 93 = .ok (.aload_n 1, 1) := dk_43 (dk_at dksX0_agree_4 1 rfl rfl)
theorem dX0_agree_94 : decode cX0_agree 94 = .ok (.getfield 125, 3) := dk_180 0 125 (dk_at dksX0_agree_4 2 rfl rfl)
theorem dX0_agree_97 : decode cX0_agree 97 = .ok (.invokevirtual 134, 3) := dk_182 0 134 (dk_at dksX0_agree_4 5 rfl rfl)
theorem dX0_agree_100 : decode cX0_agree 100 = .ok (.aload_n 0, 1) := dk_42 (dk_at dksX0_agree_4 8 rfl rfl)
theorem dX0_agree_101 : decode cX0_agree 101 = .ok (.getfield 28, 3) := dk_180 0 28 (dk_at dksX0_agree_4 9 rfl rfl)
theorem dX0_agree_104 : decode cX0_agree 104 = .ok (.aload_n 0, 1) := dk_42 (dk_at dksX0_agree_4 12 rfl rfl)
theorem dX0_agree_105 : decode cX0_agree 105 = .ok (.getfield 50, 3) := dk_180 0 50 (dk_at dksX0_agree_4 13 rfl rfl)
theorem dX0_agree_108 : decode cX0_agree 108 = .ok (.iconst 0, 1) := dk_3 (dk_at dksX0_agree_4 16 rfl rfl)
theorem dX0_agree_109 : decode cX0_agree 109 = .ok (.invokevirtual 141, 3) := dk_182 0 141 (dk_at dksX0_agree_4 17 rfl rfl)
theorem dX0_agree_112 : decode cX0_agree 112 = .ok (.aload_n 0, 1) := dk_42 (dk_at dksX0_agree_4 20 rfl rfl)
theorem dX0_agree_113 : decode cX0_agree 113 = .ok (.getfield 50, 3) := dk_180 0 50 (dk_at dksX0_agree_4 21 rfl rfl)
theorem dX0_agree_116 : decode cX0_agree 116 = .ok (.iconst 0, 1) := dk_3 (dk_at dksX0_agree_5 0 rfl rfl)
theorem dX0_agree_117 : decode cX0_agree 117 = .ok (.aload_n 1, 1) := dk_43 (dk_at dksX0_agree_5 1 rfl rfl)
theorem dX0_agree_118 : decode cX0_agree 118 = .ok (.getfield 138, 3) := dk_180 0 138 (dk_at dksX0_agree_5 2 rfl rfl)
theorem dX0_agree_121 : decode cX0_agree 121 = .ok (.iconst 0, 1) := dk_3 (dk_at dksX0_agree_5 5 rfl rfl)
theorem dX0_agree_122 : decode cX0_agree 122 = .ok (.invokestatic 317, 3) := dk_184 1 61 (dk_at dksX0_agree_5 6 rfl rfl)
theorem dX0_agree_125 : decode cX0_agree 125 = .ok (.istore 4, 2) := dk_54 4 (dk_at dksX0_agree_5 9 rfl rfl)
theorem dX0_agree_127 : decode cX0_agree 127 = .ok (.aload_n 3, 1) := dk_45 (dk_at dksX0_agree_5 11 rfl rfl)
theorem dX0_agree_128 : decode cX0_agree 128 = .ok (.aload_n 0, 1) := dk_42 (dk_at dksX0_agree_5 12 rfl rfl)
theorem dX0_agree_129 : decode cX0_agree 129 = .ok (.getfield 28, 3) := dk_180 0 28 (dk_at dksX0_agree_5 13 rfl rfl)
theorem dX0_agree_132 : decode cX0_agree 132 = .ok (.aload_n 1, 1) := dk_43 (dk_at dksX0_agree_5 16 rfl rfl)
theorem dX0_agree_133 : decode cX0_agree 133 = .ok (.getfield 125, 3) := dk_180 0 125 (dk_at dksX0_agree_5 17 rfl rfl)
theorem dX0_agree_136 : decode cX0_agree 136 = .ok (.aload_n 2, 1) := dk_44 (dk_at dksX0_agree_5 20 rfl rfl)
theorem dX0_agree_137 : decode cX0_agree 137 = .ok (.getfield 125, 3) := dk_180 0 125 (dk_at dksX0_agree_5 21 rfl rfl)
theorem dX0_agree_140 : decode cX0_agree 140 = .ok (.invokevirtual 134, 3) := dk_182 0 134 (dk_at dksX0_agree_6 0 rfl rfl)
theorem dX0_agree_143 : decode cX0_agree 143 = .ok (.aload_n 0, 1) := dk_42 (dk_at dksX0_agree_6 3 rfl rfl)
theorem dX0_agree_144 : decode cX0_agree 144 = .ok (.getfield 28, 3) := dk_180 0 28 (dk_at dksX0_agree_6 4 rfl rfl)
theorem dX0_agree_147 : decode cX0_agree 147 = .ok (.aload_n 0, 1) := dk_42 (dk_at dksX0_agree_6 7 rfl rfl)
theorem dX0_agree_148 : decode cX0_agree 148 = .ok (.getfield 50, 3) := dk_180 0 50 (dk_at dksX0_agree_6 8 rfl rfl)
theorem dX0_agree_151 : decode cX0_agree 151 = .ok (.iconst 0, 1) := dk_3 (dk_at dksX0_agree_6 11 rfl rfl)
theorem dX0_agree_152 : decode cX0_agree 152 = .ok (.invokevirtual 141, 3) := dk_182 0 141 (dk_at dksX0_agree_6 12 rfl rfl)
theorem dX0_agree_155 : decode cX0_agree 155 = .ok (.iload 4, 2) := dk_21 4 (dk_at dksX0_agree_6 15 rfl rfl)
theorem dX0_agree_157 : decode cX0_agree 157 = .ok (.ifCond .eq 23, 3) := dk_153 0 23 (dk_at dksX0_agree_6 17 rfl rfl)
theorem dX0_agree_160 : decode cX0_agree 160 = .ok (.aload_n 0, 1) := dk_42 (dk_at dksX0_agree_6 20 rfl rfl)
theorem dX0_agree_161 : decode cX0_agree 161 = .ok (.getfield 50, 3) := dk_180 0 50 (dk_at dksX0_agree_6 21 rfl rfl)
theorem dX0_agree_164 : decode cX0_agree 164 = .ok (.iconst 0, 1) := dk_3 (dk_at dksX0_agree_7 0 rfl rfl)
theorem dX0_agree_165 : decode cX0_agree 165 = .ok (.aload_n 2, 1) := dk_44 (dk_at dksX0_agree_7 1 rfl rfl)
theorem dX0_agree_166 : decode cX0_agree 166 = .ok (.getfield 138, 3) := dk_180 0 138 (dk_at dksX0_agree_7 2 rfl rfl)
theorem dX0_agree_169 : decode cX0_agree 169 = .ok (.iconst 0, 1) := dk_3 (dk_at dksX0_agree_7 5 rfl rfl)
theorem dX0_agree_170 : decode cX0_agree 170 = .ok (.invokestatic 317, 3) := dk_184 1 61 (dk_at dksX0_agree_7 6 rfl rfl)
theorem dX0_agree_173 : decode cX0_agree 173 = .ok (.ifCond .eq 7, 3) := dk_153 0 7 (dk_at dksX0_agree_7 9 rfl rfl)
theorem dX0_agree_176 : decode cX0_agree 176 = .ok (.iconst 1, 1) := dk_4 (dk_at dksX0_agree_7 12 rfl rfl)
theorem dX0_agree_177 : decode cX0_agree 177 = .ok (.goto 4, 3) := dk_167 0 4 (dk_at dksX0_agree_7 13 rfl rfl)
theorem dX0_agree_180 : decode cX0_agree 180 = .ok (.iconst 0, 1) := dk_3 (dk_at dksX0_agree_7 16 rfl rfl)
theorem dX0_agree_181 : decode cX0_agree 181 = .ok (.ireturn, 1) := dk_172 (dk_at dksX0_agree_7 17 rfl rfl)
abbrev cX0_blames : ByteArray := prog_1_method_40_code
def yX0_blames : MethodName := ⟨RX0, "blames", "(LGlassLog$Head;LGlassLog$Head;)V"⟩
def dkwX0_blames_3 : List UInt8 := [177]
abbrev dktX0_blames_3 : List UInt8 := dkwX0_blames_3 ++ []
def dkwX0_blames_2 : List UInt8 := [180, 1, 65, 104, 4, 96, 50, 44, 182, 1, 71, 42, 180, 0, 12, 89, 180, 1, 65, 4, 96, 181, 1, 65]
abbrev dktX0_blames_2 : List UInt8 := dkwX0_blames_2 ++ dktX0_blames_3
def dkwX0_blames_1 : List UInt8 := [180, 0, 12, 180, 1, 65, 104, 50, 43, 182, 1, 71, 42, 180, 0, 12, 180, 1, 68, 5, 42, 180, 0, 12]
abbrev dktX0_blames_1 : List UInt8 := dkwX0_blames_1 ++ dktX0_blames_2
def dkwX0_blames_0 : List UInt8 := [42, 180, 0, 12, 180, 1, 65, 16, 60, 160, 0, 4, 177, 42, 180, 0, 12, 180, 1, 68, 5, 42]
abbrev dktX0_blames_0 : List UInt8 := dkwX0_blames_0 ++ dktX0_blames_1
theorem dksX0_blames_0 : cX0_blames.data.toList.drop 0 = dktX0_blames_0 := by decide +kernel
theorem dksX0_blames_1 : cX0_blames.data.toList.drop 22 = dktX0_blames_1 := dk_seg dksX0_blames_0 22 rfl rfl
theorem dksX0_blames_2 : cX0_blames.data.toList.drop 46 = dktX0_blames_2 := dk_seg dksX0_blames_1 24 rfl rfl
theorem dksX0_blames_3 : cX0_blames.data.toList.drop 70 = dktX0_blames_3 := dk_seg dksX0_blames_2 24 rfl rfl
theorem dX0_blames_0 : decode cX0_blames 0 = .ok (.aload_n 0, 1) := dk_42 (dk_at dksX0_blames_0 0 rfl rfl)
theorem dX0_blames_1 : decode cX0_blames 1 = .ok (.getfield 12, 3) := dk_180 0 12 (dk_at dksX0_blames_0 1 rfl rfl)
theorem dX0_blames_4 : decode cX0_blames 4 = .ok (.getfield 321, 3) := dk_180 1 65 (dk_at dksX0_blames_0 4 rfl rfl)
theorem dX0_blames_7 : decode cX0_blames 7 = .ok (.bipush 60, 2) := dk_16 60 (dk_at dksX0_blames_0 7 rfl rfl)
theorem dX0_blames_9 : decode cX0_blames 9 = .ok (.if_icmp .ne 4, 3) := dk_160 0 4 (dk_at dksX0_blames_0 9 rfl rfl)
theorem dX0_blames_12 : decode cX0_blames 12 = .ok (.return_, 1) := dk_177 (dk_at dksX0_blames_0 12 rfl rfl)
theorem dX0_blames_13 : decode cX0_blames 13 = .ok (.aload_n 0, 1) := dk_42 (dk_at dksX0_blames_0 13 rfl rfl)
theorem dX0_blames_14 : decode cX0_blames 14 = .ok (.getfield 12, 3) := dk_180 0 12 (dk_at dksX0_blames_0 14 rfl rfl)
theorem dX0_blames_17 : decode cX0_blames 17 = .ok (.getfield 324, 3) := dk_180 1 68 (dk_at dksX0_blames_0 17 rfl rfl)
theorem dX0_blames_20 : decode cX0_blames 20 = .ok (.iconst 2, 1) := dk_5 (dk_at dksX0_blames_0 20 rfl rfl)
theorem dX0_blames_21 : decode cX0_blames 21 = .ok (.aload_n 0, 1) := dk_42 (dk_at dksX0_blames_0 21 rfl rfl)
theorem dX0_blames_22 : decode cX0_blames 22 = .ok (.getfield 12, 3) := dk_180 0 12 (dk_at dksX0_blames_1 0 rfl rfl)
theorem dX0_blames_25 : decode cX0_blames 25 = .ok (.getfield 321, 3) := dk_180 1 65 (dk_at dksX0_blames_1 3 rfl rfl)
theorem dX0_blames_28 : decode cX0_blames 28 = .ok (.imul, 1) := dk_104 (dk_at dksX0_blames_1 6 rfl rfl)
theorem dX0_blames_29 : decode cX0_blames 29 = .ok (.aaload, 1) := dk_50 (dk_at dksX0_blames_1 7 rfl rfl)
theorem dX0_blames_30 : decode cX0_blames 30 = .ok (.aload_n 1, 1) := dk_43 (dk_at dksX0_blames_1 8 rfl rfl)
theorem dX0_blames_31 : decode cX0_blames 31 = .ok (.invokevirtual 327, 3) := dk_182 1 71 (dk_at dksX0_blames_1 9 rfl rfl)
theorem dX0_blames_34 : decode cX0_blames 34 = .ok (.aload_n 0, 1) := dk_42 (dk_at dksX0_blames_1 12 rfl rfl)
theorem dX0_blames_35 : decode cX0_blames 35 = .ok (.getfield 12, 3) := dk_180 0 12 (dk_at dksX0_blames_1 13 rfl rfl)
theorem dX0_blames_38 : decode cX0_blames 38 = .ok (.getfield 324, 3) := dk_180 1 68 (dk_at dksX0_blames_1 16 rfl rfl)
theorem dX0_blames_41 : decode cX0_blames 41 = .ok (.iconst 2, 1) := dk_5 (dk_at dksX0_blames_1 19 rfl rfl)
theorem dX0_blames_42 : decode cX0_blames 42 = .ok (.aload_n 0, 1) := dk_42 (dk_at dksX0_blames_1 20 rfl rfl)
theorem dX0_blames_43 : decode cX0_blames 43 = .ok (.getfield 12, 3) := dk_180 0 12 (dk_at dksX0_blames_1 21 rfl rfl)
theorem dX0_blames_46 : decode cX0_blames 46 = .ok (.getfield 321, 3) := dk_180 1 65 (dk_at dksX0_blames_2 0 rfl rfl)
theorem dX0_blames_49 : decode cX0_blames 49 = .ok (.imul, 1) := dk_104 (dk_at dksX0_blames_2 3 rfl rfl)
theorem dX0_blames_50 : decode cX0_blames 50 = .ok (.iconst 1, 1) := dk_4 (dk_at dksX0_blames_2 4 rfl rfl)
theorem dX0_blames_51 : decode cX0_blames 51 = .ok (.iadd, 1) := dk_96 (dk_at dksX0_blames_2 5 rfl rfl)
theorem dX0_blames_52 : decode cX0_blames 52 = .ok (.aaload, 1) := dk_50 (dk_at dksX0_blames_2 6 rfl rfl)
theorem dX0_blames_53 : decode cX0_blames 53 = .ok (.aload_n 2, 1) := dk_44 (dk_at dksX0_blames_2 7 rfl rfl)
theorem dX0_blames_54 : decode cX0_blames 54 = .ok (.invokevirtual 327, 3) := dk_182 1 71 (dk_at dksX0_blames_2 8 rfl rfl)
theorem dX0_blames_57 : decode cX0_blames 57 = .ok (.aload_n 0, 1) := dk_42 (dk_at dksX0_blames_2 11 rfl rfl)
theorem dX0_blames_58 : decode cX0_blames 58 = .ok (.getfield 12, 3) := dk_180 0 12 (dk_at dksX0_blames_2 12 rfl rfl)
theorem dX0_blames_61 : decode cX0_blames 61 = .ok (.dup, 1) := dk_89 (dk_at dksX0_blames_2 15 rfl rfl)
theorem dX0_blames_62 : decode cX0_blames 62 = .ok (.getfield 321, 3) := dk_180 1 65 (dk_at dksX0_blames_2 16 rfl rfl)
theorem dX0_blames_65 : decode cX0_blames 65 = .ok (.iconst 1, 1) := dk_4 (dk_at dksX0_blames_2 19 rfl rfl)
theorem dX0_blames_66 : decode cX0_blames 66 = .ok (.iadd, 1) := dk_96 (dk_at dksX0_blames_2 20 rfl rfl)
theorem dX0_blames_67 : decode cX0_blames 67 = .ok (.putfield 321, 3) := dk_181 1 65 (dk_at dksX0_blames_2 21 rfl rfl)
theorem dX0_blames_70 : decode cX0_blames 70 = .ok (.return_, 1) := dk_177 (dk_at dksX0_blames_3 0 rfl rfl)
abbrev cX0_talk : ByteArray := prog_1_method_42_code
def yX0_talk : MethodName := ⟨RX0, "talk", "(II)I"⟩
def dkwX0_talk_6 : List UInt8 := [180, 0, 125, 45, 180, 0, 125, 164, 0, 9, 45, 25, 4, 182, 1, 71, 4, 172]
abbrev dktX0_talk_6 : List UInt8 := dkwX0_talk_6 ++ []
def dkwX0_talk_5 : List UInt8 := [45, 180, 0, 125, 25, 4, 180, 0, 125, 164, 0, 12, 25, 4, 45, 182, 1, 71, 167, 0, 21, 25, 4]
abbrev dktX0_talk_5 : List UInt8 := dkwX0_talk_5 ++ dktX0_talk_6
def dkwX0_talk_4 : List UInt8 := [180, 1, 78, 27, 92, 46, 4, 96, 79, 42, 180, 0, 12, 180, 1, 78, 28, 92, 46, 4, 96, 79, 3, 172]
abbrev dktX0_talk_4 : List UInt8 := dkwX0_talk_4 ++ dktX0_talk_5
def dkwX0_talk_3 : List UInt8 := [58, 4, 42, 45, 25, 4, 182, 1, 57, 154, 0, 38, 42, 45, 25, 4, 182, 1, 74, 42, 180, 0, 12]
abbrev dktX0_talk_3 : List UInt8 := dkwX0_talk_3 ++ dktX0_talk_4
def dkwX0_talk_2 : List UInt8 := [159, 0, 5, 2, 172, 42, 180, 0, 12, 180, 1, 46, 27, 50, 78, 42, 180, 0, 12, 180, 1, 46, 28, 50]
abbrev dktX0_talk_2 : List UInt8 := dkwX0_talk_2 ++ dktX0_talk_3
def dkwX0_talk_1 : List UInt8 := [180, 0, 12, 180, 1, 46, 27, 50, 180, 0, 131, 42, 180, 0, 12, 180, 1, 46, 28, 50, 180, 0, 131]
abbrev dktX0_talk_1 : List UInt8 := dkwX0_talk_1 ++ dktX0_talk_2
def dkwX0_talk_0 : List UInt8 := [42, 27, 182, 1, 50, 153, 0, 43, 42, 28, 182, 1, 50, 153, 0, 35, 27, 28, 159, 0, 30, 42]
abbrev dktX0_talk_0 : List UInt8 := dkwX0_talk_0 ++ dktX0_talk_1
theorem dksX0_talk_0 : cX0_talk.data.toList.drop 0 = dktX0_talk_0 := by decide +kernel
theorem dksX0_talk_1 : cX0_talk.data.toList.drop 22 = dktX0_talk_1 := dk_seg dksX0_talk_0 22 rfl rfl
theorem dksX0_talk_2 : cX0_talk.data.toList.drop 45 = dktX0_talk_2 := dk_seg dksX0_talk_1 23 rfl rfl
theorem dksX0_talk_3 : cX0_talk.data.toList.drop 69 = dktX0_talk_3 := dk_seg dksX0_talk_2 24 rfl rfl
theorem dksX0_talk_4 : cX0_talk.data.toList.drop 92 = dktX0_talk_4 := dk_seg dksX0_talk_3 23 rfl rfl
theorem dksX0_talk_5 : cX0_talk.data.toList.drop 116 = dktX0_talk_5 := dk_seg dksX0_talk_4 24 rfl rfl
theorem dksX0_talk_6 : cX0_talk.data.toList.drop 139 = dktX0_talk_6 := dk_seg dksX0_talk_5 23 rfl rfl
theorem dX0_talk_0 : decode cX0_talk 0 = .ok (.aload_n 0, 1) := dk_42 (dk_at dksX0_talk_0 0 rfl rfl)
theorem dX0_talk_1 : decode cX0_talk 1 = .ok (.iload_n 1, 1) := dk_27 (dk_at dksX0_talk_0 1 rfl rfl)
theorem dX0_talk_2 : decode cX0_talk 2 = .ok (.invokevirtual 306, 3) := dk_182 1 50 (dk_at dksX0_talk_0 2 rfl rfl)
theorem dX0_talk_5 : decode cX0_talk 5 = .ok (.ifCond .eq 43, 3) := dk_153 0 43 (dk_at dksX0_talk_0 5 rfl rfl)
theorem dX0_talk_8 : decode cX0_talk 8 = .ok (.aload_n 0, 1) := dk_42 (dk_at dksX0_talk_0 8 rfl rfl)
theorem dX0_talk_9 : decode cX0_talk 9 = .ok (.iload_n 2, 1) := dk_28 (dk_at dksX0_talk_0 9 rfl rfl)
theorem dX0_talk_10 : decode cX0_talk 10 = .ok (.invokevirtual 306, 3) := dk_182 1 50 (dk_at dksX0_talk_0 10 rfl rfl)
theorem dX0_talk_13 : decode cX0_talk 13 = .ok (.ifCond .eq 35, 3) := dk_153 0 35 (dk_at dksX0_talk_0 13 rfl rfl)
theorem dX0_talk_16 : decode cX0_talk 16 = .ok (.iload_n 1, 1) := dk_27 (dk_at dksX0_talk_0 16 rfl rfl)
theorem dX0_talk_17 : decode cX0_talk 17 = .ok (.iload_n 2, 1) := dk_28 (dk_at dksX0_talk_0 17 rfl rfl)
theorem dX0_talk_18 : decode cX0_talk 18 = .ok (.if_icmp .eq 30, 3) := dk_159 0 30 (dk_at dksX0_talk_0 18 rfl rfl)
theorem dX0_talk_21 : decode cX0_talk 21 = .ok (.aload_n 0, 1) := dk_42 (dk_at dksX0_talk_0 21 rfl rfl)
theorem dX0_talk_22 : decode cX0_talk 22 = .ok (.getfield 12, 3) := dk_180 0 12 (dk_at dksX0_talk_1 0 rfl rfl)
theorem dX0_talk_25 : decode cX0_talk 25 = .ok (.getfield 302, 3) := dk_180 1 46 (dk_at dksX0_talk_1 3 rfl rfl)
theorem dX0_talk_28 : decode cX0_talk 28 = .ok (.iload_n 1, 1) := dk_27 (dk_at dksX0_talk_1 6 rfl rfl)
theorem dX0_talk_29 : decode cX0_talk 29 = .ok (.aaload, 1) := dk_50 (dk_at dksX0_talk_1 7 rfl rfl)
theorem dX0_talk_30 : decode cX0_talk 30 = .ok (.getfield 131, 3) := dk_180 0 131 (dk_at dksX0_talk_1 8 rfl rfl)
theorem dX0_talk_33 : decode cX0_talk 33 = .ok (.aload_n 0, 1) := dk_42 (dk_at dksX0_talk_1 11 rfl rfl)
theorem dX0_talk_34 : decode cX0_talk 34 = .ok (.getfield 12, 3) := dk_180 0 12 (dk_at dksX0_talk_1 12 rfl rfl)
theorem dX0_talk_37 : decode cX0_talk 37 = .ok (.getfield 302, 3) := dk_180 1 46 (dk_at dksX0_talk_1 15 rfl rfl)
theorem dX0_talk_40 : decode cX0_talk 40 = .ok (.iload_n 2, 1) := dk_28 (dk_at dksX0_talk_1 18 rfl rfl)
theorem dX0_talk_41 : decode cX0_talk 41 = .ok (.aaload, 1) := dk_50 (dk_at dksX0_talk_1 19 rfl rfl)
theorem dX0_talk_42 : decode cX0_talk 42 = .ok (.getfield 131, 3) := dk_180 0 131 (dk_at dksX0_talk_1 20 rfl rfl)
theorem dX0_talk_45 : decode cX0_talk 45 = .ok (.if_icmp .eq 5, 3) := dk_159 0 5 (dk_at dksX0_talk_2 0 rfl rfl)
theorem dX0_talk_48 : decode cX0_talk 48 = .ok (.iconst (-1), 1) := dk_2 (dk_at dksX0_talk_2 3 rfl rfl)
theorem dX0_talk_49 : decode cX0_talk 49 = .ok (.ireturn, 1) := dk_172 (dk_at dksX0_talk_2 4 rfl rfl)
theorem dX0_talk_50 : decode cX0_talk 50 = .ok (.aload_n 0, 1) := dk_42 (dk_at dksX0_talk_2 5 rfl rfl)
theorem dX0_talk_51 : decode cX0_talk 51 = .ok (.getfield 12, 3) := dk_180 0 12 (dk_at dksX0_talk_2 6 rfl rfl)
theorem dX0_talk_54 : decode cX0_talk 54 = .ok (.getfield 302, 3) := dk_180 1 46 (dk_at dksX0_talk_2 9 rfl rfl)
theorem dX0_talk_57 : decode cX0_talk 57 = .ok (.iload_n 1, 1) := dk_27 (dk_at dksX0_talk_2 12 rfl rfl)
theorem dX0_talk_58 : decode cX0_talk 58 = .ok (.aaload, 1) := dk_50 (dk_at dksX0_talk_2 13 rfl rfl)
theorem dX0_talk_59 : decode cX0_talk 59 = .ok (.astore_n 3, 1) := dk_78 (dk_at dksX0_talk_2 14 rfl rfl)
theorem dX0_talk_60 : decode cX0_talk 60 = .ok (.aload_n 0, 1) := dk_42 (dk_at dksX0_talk_2 15 rfl rfl)
theorem dX0_talk_61 : decode cX0_talk 61 = .ok (.getfield 12, 3) := dk_180 0 12 (dk_at dksX0_talk_2 16 rfl rfl)
theorem dX0_talk_64 : decode cX0_talk 64 = .ok (.getfield 302, 3) := dk_180 1 46 (dk_at dksX0_talk_2 19 rfl rfl)
theorem dX0_talk_67 : decode cX0_talk 67 = .ok (.iload_n 2, 1) := dk_28 (dk_at dksX0_talk_2 22 rfl rfl)
theorem dX0_talk_68 : decode cX0_talk 68 = .ok (.aaload, 1) := dk_50 (dk_at dksX0_talk_2 23 rfl rfl)
theorem dX0_talk_69 : decode cX0_talk 69 = .ok (.astore 4, 2) := dk_58 4 (dk_at dksX0_talk_3 0 rfl rfl)
theorem dX0_talk_71 : decode cX0_talk 71 = .ok (.aload_n 0, 1) := dk_42 (dk_at dksX0_talk_3 2 rfl rfl)
theorem dX0_talk_72 : decode cX0_talk 72 = .ok (.aload_n 3, 1) := dk_45 (dk_at dksX0_talk_3 3 rfl rfl)
theorem dX0_talk_73 : decode cX0_talk 73 = .ok (.aload 4, 2) := dk_25 4 (dk_at dksX0_talk_3 4 rfl rfl)
theorem dX0_talk_75 : decode cX0_talk 75 = .ok (.invokevirtual 313, 3) := dk_182 1 57 (dk_at dksX0_talk_3 6 rfl rfl)
theorem dX0_talk_78 : decode cX0_talk 78 = .ok (.ifCond .ne 38, 3) := dk_154 0 38 (dk_at dksX0_talk_3 9 rfl rfl)
theorem dX0_talk_81 : decode cX0_talk 81 = .ok (.aload_n 0, 1) := dk_42 (dk_at dksX0_talk_3 12 rfl rfl)
theorem dX0_talk_82 : decode cX0_talk 82 = .ok (.aload_n 3, 1) := dk_45 (dk_at dksX0_talk_3 13 rfl rfl)
theorem dX0_talk_83 : decode cX0_talk 83 = .ok (.aload 4, 2) := dk_25 4 (dk_at dksX0_talk_3 14 rfl rfl)
theorem dX0_talk_85 : decode cX0_talk 85 = .ok (.invokevirtual 330, 3) := dk_182 1 74 (dk_at dksX0_talk_3 16 rfl rfl)
theorem dX0_talk_88 : decode cX0_talk 88 = .ok (.aload_n 0, 1) := dk_42 (dk_at dksX0_talk_3 19 rfl rfl)
theorem dX0_talk_89 : decode cX0_talk 89 = .ok (.getfield 12, 3) := dk_180 0 12 (dk_at dksX0_talk_3 20 rfl rfl)
theorem dX0_talk_92 : decode cX0_talk 92 = .ok (.getfield 334, 3) := dk_180 1 78 (dk_at dksX0_talk_4 0 rfl rfl)
theorem dX0_talk_95 : decode cX0_talk 95 = .ok (.iload_n 1, 1) := dk_27 (dk_at dksX0_talk_4 3 rfl rfl)
theorem dX0_talk_96 : decode cX0_talk 96 = .ok (.dup2, 1) := dk_92 (dk_at dksX0_talk_4 4 rfl rfl)
theorem dX0_talk_97 : decode cX0_talk 97 = .ok (.iaload, 1) := dk_46 (dk_at dksX0_talk_4 5 rfl rfl)
theorem dX0_talk_98 : decode cX0_talk 98 = .ok (.iconst 1, 1) := dk_4 (dk_at dksX0_talk_4 6 rfl rfl)
theorem dX0_talk_99 : decode cX0_talk 99 = .ok (.iadd, 1) := dk_96 (dk_at dksX0_talk_4 7 rfl rfl)
theorem dX0_talk_100 : decode cX0_talk 100 = .ok (.iastore, 1) := dk_79 (dk_at dksX0_talk_4 8 rfl rfl)
theorem dX0_talk_101 : decode cX0_talk 101 = .ok (.aload_n 0, 1) := dk_42 (dk_at dksX0_talk_4 9 rfl rfl)
theorem dX0_talk_102 : decode cX0_talk 102 = .ok (.getfield 12, 3) := dk_180 0 12 (dk_at dksX0_talk_4 10 rfl rfl)
theorem dX0_talk_105 : decode cX0_talk 105 = .ok (.getfield 334, 3) := dk_180 1 78 (dk_at dksX0_talk_4 13 rfl rfl)
theorem dX0_talk_108 : decode cX0_talk 108 = .ok (.iload_n 2, 1) := dk_28 (dk_at dksX0_talk_4 16 rfl rfl)
theorem dX0_talk_109 : decode cX0_talk 109 = .ok (.dup2, 1) := dk_92 (dk_at dksX0_talk_4 17 rfl rfl)
theorem dX0_talk_110 : decode cX0_talk 110 = .ok (.iaload, 1) := dk_46 (dk_at dksX0_talk_4 18 rfl rfl)
theorem dX0_talk_111 : decode cX0_talk 111 = .ok (.iconst 1, 1) := dk_4 (dk_at dksX0_talk_4 19 rfl rfl)
theorem dX0_talk_112 : decode cX0_talk 112 = .ok (.iadd, 1) := dk_96 (dk_at dksX0_talk_4 20 rfl rfl)
theorem dX0_talk_113 : decode cX0_talk 113 = .ok (.iastore, 1) := dk_79 (dk_at dksX0_talk_4 21 rfl rfl)
theorem dX0_talk_114 : decode cX0_talk 114 = .ok (.iconst 0, 1) := dk_3 (dk_at dksX0_talk_4 22 rfl rfl)
theorem dX0_talk_115 : decode cX0_talk 115 = .ok (.ireturn, 1) := dk_172 (dk_at dksX0_talk_4 23 rfl rfl)
theorem dX0_talk_116 : decode cX0_talk 116 = .ok (.aload_n 3, 1) := dk_45 (dk_at dksX0_talk_5 0 rfl rfl)
theorem dX0_talk_117 : decode cX0_talk 117 = .ok (.getfield 125, 3) := dk_180 0 125 (dk_at dksX0_talk_5 1 rfl rfl)
theorem dX0_talk_120 : decode cX0_talk 120 = .ok (.aload 4, 2) := dk_25 4 (dk_at dksX0_talk_5 4 rfl rfl)
theorem dX0_talk_122 : decode cX0_talk 122 = .ok (.getfield 125, 3) := dk_180 0 125 (dk_at dksX0_talk_5 6 rfl rfl)
theorem dX0_talk_125 : decode cX0_talk 125 = .ok (.if_icmp .le 12, 3) := dk_164 0 12 (dk_at dksX0_talk_5 9 rfl rfl)
theorem dX0_talk_128 : decode cX0_talk 128 = .ok (.aload 4, 2) := dk_25 4 (dk_at dksX0_talk_5 12 rfl rfl)
theorem dX0_talk_130 : decode cX0_talk 130 = .ok (.aload_n 3, 1) := dk_45 (dk_at dksX0_talk_5 14 rfl rfl)
theorem dX0_talk_131 : decode cX0_talk 131 = .ok (.invokevirtual 327, 3) := dk_182 1 71 (dk_at dksX0_talk_5 15 rfl rfl)
theorem dX0_talk_134 : decode cX0_talk 134 = .ok (.goto 21, 3) := dk_167 0 21 (dk_at dksX0_talk_5 18 rfl rfl)
theorem dX0_talk_137 : decode cX0_talk 137 = .ok (.aload 4, 2) := dk_25 4 (dk_at dksX0_talk_5 21 rfl rfl)
theorem dX0_talk_139 : decode cX0_talk 139 = .ok (.getfield 125, 3) := dk_180 0 125 (dk_at dksX0_talk_6 0 rfl rfl)
theorem dX0_talk_142 : decode cX0_talk 142 = .ok (.aload_n 3, 1) := dk_45 (dk_at dksX0_talk_6 3 rfl rfl)
theorem dX0_talk_143 : decode cX0_talk 143 = .ok (.getfield 125, 3) := dk_180 0 125 (dk_at dksX0_talk_6 4 rfl rfl)
theorem dX0_talk_146 : decode cX0_talk 146 = .ok (.if_icmp .le 9, 3) := dk_164 0 9 (dk_at dksX0_talk_6 7 rfl rfl)
theorem dX0_talk_149 : decode cX0_talk 149 = .ok (.aload_n 3, 1) := dk_45 (dk_at dksX0_talk_6 10 rfl rfl)
theorem dX0_talk_150 : decode cX0_talk 150 = .ok (.aload 4, 2) := dk_25 4 (dk_at dksX0_talk_6 11 rfl rfl)
theorem dX0_talk_152 : decode cX0_talk 152 = .ok (.invokevirtual 327, 3) := dk_182 1 71 (dk_at dksX0_talk_6 13 rfl rfl)
theorem dX0_talk_155 : decode cX0_talk 155 = .ok (.iconst 1, 1) := dk_4 (dk_at dksX0_talk_6 16 rfl rfl)
theorem dX0_talk_156 : decode cX0_talk 156 = .ok (.ireturn, 1) := dk_172 (dk_at dksX0_talk_6 17 rfl rfl)
abbrev cX0_reader : ByteArray := prog_1_method_43_code
def yX0_reader : MethodName := ⟨RX0, "reader", "(II)I"⟩
def dkwX0_reader_4 : List UInt8 := [42, 180, 0, 12, 180, 1, 78, 27, 46, 172, 2, 172]
abbrev dktX0_reader_4 : List UInt8 := dkwX0_reader_4 ++ []
def dkwX0_reader_3 : List UInt8 := [180, 0, 128, 167, 0, 4, 2, 172, 45, 180, 0, 121, 153, 0, 10, 45, 180, 0, 131, 167, 0, 4, 2, 172]
abbrev dktX0_reader_3 : List UInt8 := dkwX0_reader_3 ++ dktX0_reader_4
def dkwX0_reader_2 : List UInt8 := [45, 180, 0, 121, 153, 0, 10, 45, 180, 0, 125, 167, 0, 4, 2, 172, 45, 180, 0, 121, 153, 0, 10, 45]
abbrev dktX0_reader_2 : List UInt8 := dkwX0_reader_2 ++ dktX0_reader_3
def dkwX0_reader_1 : List UInt8 := [170, 0, 0, 0, 0, 0, 0, 90, 0, 0, 0, 0, 0, 0, 0, 3, 0, 0, 0, 32, 0, 0, 0, 48, 0, 0, 0, 64, 0, 0, 0, 80]
abbrev dktX0_reader_1 : List UInt8 := dkwX0_reader_1 ++ dktX0_reader_2
def dkwX0_reader_0 : List UInt8 := [27, 184, 1, 43, 154, 0, 5, 2, 172, 42, 180, 0, 12, 180, 1, 46, 27, 50, 78, 28]
abbrev dktX0_reader_0 : List UInt8 := dkwX0_reader_0 ++ dktX0_reader_1
theorem dksX0_reader_0 : cX0_reader.data.toList.drop 0 = dktX0_reader_0 := by decide +kernel
theorem dksX0_reader_1 : cX0_reader.data.toList.drop 20 = dktX0_reader_1 := dk_seg dksX0_reader_0 20 rfl rfl
theorem dksX0_reader_2 : cX0_reader.data.toList.drop 52 = dktX0_reader_2 := dk_seg dksX0_reader_1 32 rfl rfl
theorem dksX0_reader_3 : cX0_reader.data.toList.drop 76 = dktX0_reader_3 := dk_seg dksX0_reader_2 24 rfl rfl
theorem dksX0_reader_4 : cX0_reader.data.toList.drop 100 = dktX0_reader_4 := dk_seg dksX0_reader_3 24 rfl rfl
theorem dX0_reader_0 : decode cX0_reader 0 = .ok (.iload_n 1, 1) := dk_27 (dk_at dksX0_reader_0 0 rfl rfl)
theorem dX0_reader_1 : decode cX0_reader 1 = .ok (.invokestatic 299, 3) := dk_184 1 43 (dk_at dksX0_reader_0 1 rfl rfl)
theorem dX0_reader_4 : decode cX0_reader 4 = .ok (.ifCond .ne 5, 3) := dk_154 0 5 (dk_at dksX0_reader_0 4 rfl rfl)
theorem dX0_reader_7 : decode cX0_reader 7 = .ok (.iconst (-1), 1) := dk_2 (dk_at dksX0_reader_0 7 rfl rfl)
theorem dX0_reader_8 : decode cX0_reader 8 = .ok (.ireturn, 1) := dk_172 (dk_at dksX0_reader_0 8 rfl rfl)
theorem dX0_reader_9 : decode cX0_reader 9 = .ok (.aload_n 0, 1) := dk_42 (dk_at dksX0_reader_0 9 rfl rfl)
theorem dX0_reader_10 : decode cX0_reader 10 = .ok (.getfield 12, 3) := dk_180 0 12 (dk_at dksX0_reader_0 10 rfl rfl)
theorem dX0_reader_13 : decode cX0_reader 13 = .ok (.getfield 302, 3) := dk_180 1 46 (dk_at dksX0_reader_0 13 rfl rfl)
theorem dX0_reader_16 : decode cX0_reader 16 = .ok (.iload_n 1, 1) := dk_27 (dk_at dksX0_reader_0 16 rfl rfl)
theorem dX0_reader_17 : decode cX0_reader 17 = .ok (.aaload, 1) := dk_50 (dk_at dksX0_reader_0 17 rfl rfl)
theorem dX0_reader_18 : decode cX0_reader 18 = .ok (.astore_n 3, 1) := dk_78 (dk_at dksX0_reader_0 18 rfl rfl)
theorem dX0_reader_19 : decode cX0_reader 19 = .ok (.iload_n 2, 1) := dk_28 (dk_at dksX0_reader_0 19 rfl rfl)
theorem dX0_reader_20 : decode cX0_reader 20 = .ok (.tableswitch 90 0 3 #[32, 48, 64, 80], 32) := by decide +kernel
theorem dX0_reader_52 : decode cX0_reader 52 = .ok (.aload_n 3, 1) := dk_45 (dk_at dksX0_reader_2 0 rfl rfl)
theorem dX0_reader_53 : decode cX0_reader 53 = .ok (.getfield 121, 3) := dk_180 0 121 (dk_at dksX0_reader_2 1 rfl rfl)
theorem dX0_reader_56 : decode cX0_reader 56 = .ok (.ifCond .eq 10, 3) := dk_153 0 10 (dk_at dksX0_reader_2 4 rfl rfl)
theorem dX0_reader_59 : decode cX0_reader 59 = .ok (.aload_n 3, 1) := dk_45 (dk_at dksX0_reader_2 7 rfl rfl)
theorem dX0_reader_60 : decode cX0_reader 60 = .ok (.getfield 125, 3) := dk_180 0 125 (dk_at dksX0_reader_2 8 rfl rfl)
theorem dX0_reader_63 : decode cX0_reader 63 = .ok (.goto 4, 3) := dk_167 0 4 (dk_at dksX0_reader_2 11 rfl rfl)
theorem dX0_reader_66 : decode cX0_reader 66 = .ok (.iconst (-1), 1) := dk_2 (dk_at dksX0_reader_2 14 rfl rfl)
theorem dX0_reader_67 : decode cX0_reader 67 = .ok (.ireturn, 1) := dk_172 (dk_at dksX0_reader_2 15 rfl rfl)
theorem dX0_reader_68 : decode cX0_reader 68 = .ok (.aload_n 3, 1) := dk_45 (dk_at dksX0_reader_2 16 rfl rfl)
theorem dX0_reader_69 : decode cX0_reader 69 = .ok (.getfield 121, 3) := dk_180 0 121 (dk_at dksX0_reader_2 17 rfl rfl)
theorem dX0_reader_72 : decode cX0_reader 72 = .ok (.ifCond .eq 10, 3) := dk_153 0 10 (dk_at dksX0_reader_2 20 rfl rfl)
theorem dX0_reader_75 : decode cX0_reader 75 = .ok (.aload_n 3, 1) := dk_45 (dk_at dksX0_reader_2 23 rfl rfl)
theorem dX0_reader_76 : decode cX0_reader 76 = .ok (.getfield 128, 3) := dk_180 0 128 (dk_at dksX0_reader_3 0 rfl rfl)
theorem dX0_reader_79 : decode cX0_reader 79 = .ok (.goto 4, 3) := dk_167 0 4 (dk_at dksX0_reader_3 3 rfl rfl)
theorem dX0_reader_82 : decode cX0_reader 82 = .ok (.iconst (-1), 1) := dk_2 (dk_at dksX0_reader_3 6 rfl rfl)
theorem dX0_reader_83 : decode cX0_reader 83 = .ok (.ireturn, 1) := dk_172 (dk_at dksX0_reader_3 7 rfl rfl)
theorem dX0_reader_84 : decode cX0_reader 84 = .ok (.aload_n 3, 1) := dk_45 (dk_at dksX0_reader_3 8 rfl rfl)
theorem dX0_reader_85 : decode cX0_reader 85 = .ok (.getfield 121, 3) := dk_180 0 121 (dk_at dksX0_reader_3 9 rfl rfl)
theorem dX0_reader_88 : decode cX0_reader 88 = .ok (.ifCond .eq 10, 3) := dk_153 0 10 (dk_at dksX0_reader_3 12 rfl rfl)
theorem dX0_reader_91 : decode cX0_reader 91 = .ok (.aload_n 3, 1) := dk_45 (dk_at dksX0_reader_3 15 rfl rfl)
theorem dX0_reader_92 : decode cX0_reader 92 = .ok (.getfield 131, 3) := dk_180 0 131 (dk_at dksX0_reader_3 16 rfl rfl)
theorem dX0_reader_95 : decode cX0_reader 95 = .ok (.goto 4, 3) := dk_167 0 4 (dk_at dksX0_reader_3 19 rfl rfl)
theorem dX0_reader_98 : decode cX0_reader 98 = .ok (.iconst (-1), 1) := dk_2 (dk_at dksX0_reader_3 22 rfl rfl)
theorem dX0_reader_99 : decode cX0_reader 99 = .ok (.ireturn, 1) := dk_172 (dk_at dksX0_reader_3 23 rfl rfl)
theorem dX0_reader_100 : decode cX0_reader 100 = .ok (.aload_n 0, 1) := dk_42 (dk_at dksX0_reader_4 0 rfl rfl)
theorem dX0_reader_101 : decode cX0_reader 101 = .ok (.getfield 12, 3) := dk_180 0 12 (dk_at dksX0_reader_4 1 rfl rfl)
theorem dX0_reader_104 : decode cX0_reader 104 = .ok (.getfield 334, 3) := dk_180 1 78 (dk_at dksX0_reader_4 4 rfl rfl)
theorem dX0_reader_107 : decode cX0_reader 107 = .ok (.iload_n 1, 1) := dk_27 (dk_at dksX0_reader_4 7 rfl rfl)
theorem dX0_reader_108 : decode cX0_reader 108 = .ok (.iaload, 1) := dk_46 (dk_at dksX0_reader_4 8 rfl rfl)
theorem dX0_reader_109 : decode cX0_reader 109 = .ok (.ireturn, 1) := dk_172 (dk_at dksX0_reader_4 9 rfl rfl)
theorem dX0_reader_110 : decode cX0_reader 110 = .ok (.iconst (-1), 1) := dk_2 (dk_at dksX0_reader_4 10 rfl rfl)
theorem dX0_reader_111 : decode cX0_reader 111 = .ok (.ireturn, 1) := dk_172 (dk_at dksX0_reader_4 11 rfl rfl)
abbrev cX0_blame : ByteArray := prog_1_method_45_code
def yX0_blame : MethodName := ⟨RX0, "blame", "(II)I"⟩
def dkwX0_blame_6 : List UInt8 := [180, 0, 138, 3, 46, 172, 45, 180, 0, 144, 3, 46, 172, 25, 4, 180, 0, 144, 3, 46, 172, 2, 172]
abbrev dktX0_blame_6 : List UInt8 := dkwX0_blame_6 ++ []
def dkwX0_blame_5 : List UInt8 := [42, 25, 4, 182, 1, 80, 153, 0, 7, 4, 167, 0, 4, 3, 172, 45, 180, 0, 138, 3, 46, 172, 25, 4]
abbrev dktX0_blame_5 : List UInt8 := dkwX0_blame_5 ++ dktX0_blame_6
def dkwX0_blame_4 : List UInt8 := [45, 180, 0, 125, 172, 25, 4, 180, 0, 125, 172, 45, 180, 0, 131, 172, 42, 45, 182, 1, 80, 153, 0, 16]
abbrev dktX0_blame_4 : List UInt8 := dkwX0_blame_4 ++ dktX0_blame_5
def dkwX0_blame_3 : List UInt8 := [170, 0, 0, 0, 0, 0, 116, 0, 0, 0, 0, 0, 0, 0, 7, 0, 0, 0, 47, 0, 0, 0, 52, 0, 0, 0, 58, 0, 0, 0, 63, 0, 0, 0, 86, 0, 0, 0, 93, 0, 0, 0, 101, 0, 0, 0, 108]
abbrev dktX0_blame_3 : List UInt8 := dkwX0_blame_3 ++ dktX0_blame_4
def dkwX0_blame_2 : List UInt8 := [58, 4, 28]
abbrev dktX0_blame_2 : List UInt8 := dkwX0_blame_2 ++ dktX0_blame_3
def dkwX0_blame_1 : List UInt8 := [180, 0, 12, 180, 1, 68, 5, 27, 104, 50, 78, 42, 180, 0, 12, 180, 1, 68, 5, 27, 104, 4, 96, 50]
abbrev dktX0_blame_1 : List UInt8 := dkwX0_blame_1 ++ dktX0_blame_2
def dkwX0_blame_0 : List UInt8 := [27, 133, 9, 42, 180, 0, 12, 180, 1, 65, 4, 100, 133, 184, 0, 57, 154, 0, 5, 2, 172, 42]
abbrev dktX0_blame_0 : List UInt8 := dkwX0_blame_0 ++ dktX0_blame_1
theorem dksX0_blame_0 : cX0_blame.data.toList.drop 0 = dktX0_blame_0 := by decide +kernel
theorem dksX0_blame_1 : cX0_blame.data.toList.drop 22 = dktX0_blame_1 := dk_seg dksX0_blame_0 22 rfl rfl
theorem dksX0_blame_2 : cX0_blame.data.toList.drop 46 = dktX0_blame_2 := dk_seg dksX0_blame_1 24 rfl rfl
theorem dksX0_blame_3 : cX0_blame.data.toList.drop 49 = dktX0_blame_3 := dk_seg dksX0_blame_2 3 rfl rfl
theorem dksX0_blame_4 : cX0_blame.data.toList.drop 96 = dktX0_blame_4 := dk_seg dksX0_blame_3 47 rfl rfl
theorem dksX0_blame_5 : cX0_blame.data.toList.drop 120 = dktX0_blame_5 := dk_seg dksX0_blame_4 24 rfl rfl
theorem dksX0_blame_6 : cX0_blame.data.toList.drop 144 = dktX0_blame_6 := dk_seg dksX0_blame_5 24 rfl rfl
theorem dX0_blame_0 : decode cX0_blame 0 = .ok (.iload_n 1, 1) := dk_27 (dk_at dksX0_blame_0 0 rfl rfl)
theorem dX0_blame_1 : decode cX0_blame 1 = .ok (.i2l, 1) := dk_133 (dk_at dksX0_blame_0 1 rfl rfl)
theorem dX0_blame_2 : decode cX0_blame 2 = .ok (.lconst 0, 1) := dk_9 (dk_at dksX0_blame_0 2 rfl rfl)
theorem dX0_blame_3 : decode cX0_blame 3 = .ok (.aload_n 0, 1) := dk_42 (dk_at dksX0_blame_0 3 rfl rfl)
theorem dX0_blame_4 : decode cX0_blame 4 = .ok (.getfield 12, 3) := dk_180 0 12 (dk_at dksX0_blame_0 4 rfl rfl)
theorem dX0_blame_7 : decode cX0_blame 7 = .ok (.getfield 321, 3) := dk_180 1 65 (dk_at dksX0_blame_0 7 rfl rfl)
theorem dX0_blame_10 : decode cX0_blame 10 = .ok (.iconst 1, 1) := dk_4 (dk_at dksX0_blame_0 10 rfl rfl)
theorem dX0_blame_11 : decode cX0_blame 11 = .ok (.isub, 1) := dk_100 (dk_at dksX0_blame_0 11 rfl rfl)
theorem dX0_blame_12 : decode cX0_blame 12 = .ok (.i2l, 1) := dk_133 (dk_at dksX0_blame_0 12 rfl rfl)
theorem dX0_blame_13 : decode cX0_blame 13 = .ok (.invokestatic 57, 3) := dk_184 0 57 (dk_at dksX0_blame_0 13 rfl rfl)
theorem dX0_blame_16 : decode cX0_blame 16 = .ok (.ifCond .ne 5, 3) := dk_154 0 5 (dk_at dksX0_blame_0 16 rfl rfl)
theorem dX0_blame_19 : decode cX0_blame 19 = .ok (.iconst (-1), 1) := dk_2 (dk_at dksX0_blame_0 19 rfl rfl)
theorem dX0_blame_20 : decode cX0_blame 20 = .ok (.ireturn, 1) := dk_172 (dk_at dksX0_blame_0 20 rfl rfl)
theorem dX0_blame_21 : decode cX0_blame 21 = .ok (.aload_n 0, 1) := dk_42 (dk_at dksX0_blame_0 21 rfl rfl)
theorem dX0_blame_22 : decode cX0_blame 22 = .ok (.getfield 12, 3) := dk_180 0 12 (dk_at dksX0_blame_1 0 rfl rfl)
theorem dX0_blame_25 : decode cX0_blame 25 = .ok (.getfield 324, 3) := dk_180 1 68 (dk_at dksX0_blame_1 3 rfl rfl)
theorem dX0_blame_28 : decode cX0_blame 28 = .ok (.iconst 2, 1) := dk_5 (dk_at dksX0_blame_1 6 rfl rfl)
theorem dX0_blame_29 : decode cX0_blame 29 = .ok (.iload_n 1, 1) := dk_27 (dk_at dksX0_blame_1 7 rfl rfl)
theorem dX0_blame_30 : decode cX0_blame 30 = .ok (.imul, 1) := dk_104 (dk_at dksX0_blame_1 8 rfl rfl)
theorem dX0_blame_31 : decode cX0_blame 31 = .ok (.aaload, 1) := dk_50 (dk_at dksX0_blame_1 9 rfl rfl)
theorem dX0_blame_32 : decode cX0_blame 32 = .ok (.astore_n 3, 1) := dk_78 (dk_at dksX0_blame_1 10 rfl rfl)
theorem dX0_blame_33 : decode cX0_blame 33 = .ok (.aload_n 0, 1) := dk_42 (dk_at dksX0_blame_1 11 rfl rfl)
theorem dX0_blame_34 : decode cX0_blame 34 = .ok (.getfield 12, 3) := dk_180 0 12 (dk_at dksX0_blame_1 12 rfl rfl)
theorem dX0_blame_37 : decode cX0_blame 37 = .ok (.getfield 324, 3) := dk_180 1 68 (dk_at dksX0_blame_1 15 rfl rfl)
theorem dX0_blame_40 : decode cX0_blame 40 = .ok (.iconst 2, 1) := dk_5 (dk_at dksX0_blame_1 18 rfl rfl)
theorem dX0_blame_41 : decode cX0_blame 41 = .ok (.iload_n 1, 1) := dk_27 (dk_at dksX0_blame_1 19 rfl rfl)
theorem dX0_blame_42 : decode cX0_blame 42 = .ok (.imul, 1) := dk_104 (dk_at dksX0_blame_1 20 rfl rfl)
theorem dX0_blame_43 : decode cX0_blame 43 = .ok (.iconst 1, 1) := dk_4 (dk_at dksX0_blame_1 21 rfl rfl)
theorem dX0_blame_44 : decode cX0_blame 44 = .ok (.iadd, 1) := dk_96 (dk_at dksX0_blame_1 22 rfl rfl)
theorem dX0_blame_45 : decode cX0_blame 45 = .ok (.aaload, 1) := dk_50 (dk_at dksX0_blame_1 23 rfl rfl)
theorem dX0_blame_46 : decode cX0_blame 46 = .ok (.astore 4, 2) := dk_58 4 (dk_at dksX0_blame_2 0 rfl rfl)
theorem dX0_blame_48 : decode cX0_blame 48 = .ok (.iload_n 2, 1) := dk_28 (dk_at dksX0_blame_2 2 rfl rfl)
theorem dX0_blame_49 : decode cX0_blame 49 = .ok (.tableswitch 116 0 7 #[47, 52, 58, 63, 86, 93, 101, 108], 47) := by decide +kernel
theorem dX0_blame_96 : decode cX0_blame 96 = .ok (.aload_n 3, 1) := dk_45 (dk_at dksX0_blame_4 0 rfl rfl)
theorem dX0_blame_97 : decode cX0_blame 97 = .ok (.getfield 125, 3) := dk_180 0 125 (dk_at dksX0_blame_4 1 rfl rfl)
theorem dX0_blame_100 : decode cX0_blame 100 = .ok (.ireturn, 1) := dk_172 (dk_at dksX0_blame_4 4 rfl rfl)
theorem dX0_blame_101 : decode cX0_blame 101 = .ok (.aload 4, 2) := dk_25 4 (dk_at dksX0_blame_4 5 rfl rfl)
theorem dX0_blame_103 : decode cX0_blame 103 = .ok (.getfield 125, 3) := dk_180 0 125 (dk_at dksX0_blame_4 7 rfl rfl)
theorem dX0_blame_106 : decode cX0_blame 106 = .ok (.ireturn, 1) := dk_172 (dk_at dksX0_blame_4 10 rfl rfl)
theorem dX0_blame_107 : decode cX0_blame 107 = .ok (.aload_n 3, 1) := dk_45 (dk_at dksX0_blame_4 11 rfl rfl)
theorem dX0_blame_108 : decode cX0_blame 108 = .ok (.getfield 131, 3) := dk_180 0 131 (dk_at dksX0_blame_4 12 rfl rfl)
theorem dX0_blame_111 : decode cX0_blame 111 = .ok (.ireturn, 1) := dk_172 (dk_at dksX0_blame_4 15 rfl rfl)
theorem dX0_blame_112 : decode cX0_blame 112 = .ok (.aload_n 0, 1) := dk_42 (dk_at dksX0_blame_4 16 rfl rfl)
theorem dX0_blame_113 : decode cX0_blame 113 = .ok (.aload_n 3, 1) := dk_45 (dk_at dksX0_blame_4 17 rfl rfl)
theorem dX0_blame_114 : decode cX0_blame 114 = .ok (.invokevirtual 336, 3) := dk_182 1 80 (dk_at dksX0_blame_4 18 rfl rfl)
theorem dX0_blame_117 : decode cX0_blame 117 = .ok (.ifCond .eq 16, 3) := dk_153 0 16 (dk_at dksX0_blame_4 21 rfl rfl)
theorem dX0_blame_120 : decode cX0_blame 120 = .ok (.aload_n 0, 1) := dk_42 (dk_at dksX0_blame_5 0 rfl rfl)
theorem dX0_blame_121 : decode cX0_blame 121 = .ok (.aload 4, 2) := dk_25 4 (dk_at dksX0_blame_5 1 rfl rfl)
theorem dX0_blame_123 : decode cX0_blame 123 = .ok (.invokevirtual 336, 3) := dk_182 1 80 (dk_at dksX0_blame_5 3 rfl rfl)
theorem dX0_blame_126 : decode cX0_blame 126 = .ok (.ifCond .eq 7, 3) := dk_153 0 7 (dk_at dksX0_blame_5 6 rfl rfl)
theorem dX0_blame_129 : decode cX0_blame 129 = .ok (.iconst 1, 1) := dk_4 (dk_at dksX0_blame_5 9 rfl rfl)
theorem dX0_blame_130 : decode cX0_blame 130 = .ok (.goto 4, 3) := dk_167 0 4 (dk_at dksX0_blame_5 10 rfl rfl)
theorem dX0_blame_133 : decode cX0_blame 133 = .ok (.iconst 0, 1) := dk_3 (dk_at dksX0_blame_5 13 rfl rfl)
theorem dX0_blame_134 : decode cX0_blame 134 = .ok (.ireturn, 1) := dk_172 (dk_at dksX0_blame_5 14 rfl rfl)
theorem dX0_blame_135 : decode cX0_blame 135 = .ok (.aload_n 3, 1) := dk_45 (dk_at dksX0_blame_5 15 rfl rfl)
theorem dX0_blame_136 : decode cX0_blame 136 = .ok (.getfield 138, 3) := dk_180 0 138 (dk_at dksX0_blame_5 16 rfl rfl)
theorem dX0_blame_139 : decode cX0_blame 139 = .ok (.iconst 0, 1) := dk_3 (dk_at dksX0_blame_5 19 rfl rfl)
theorem dX0_blame_140 : decode cX0_blame 140 = .ok (.iaload, 1) := dk_46 (dk_at dksX0_blame_5 20 rfl rfl)
theorem dX0_blame_141 : decode cX0_blame 141 = .ok (.ireturn, 1) := dk_172 (dk_at dksX0_blame_5 21 rfl rfl)
theorem dX0_blame_142 : decode cX0_blame 142 = .ok (.aload 4, 2) := dk_25 4 (dk_at dksX0_blame_5 22 rfl rfl)
theorem dX0_blame_144 : decode cX0_blame 144 = .ok (.getfield 138, 3) := dk_180 0 138 (dk_at dksX0_blame_6 0 rfl rfl)
theorem dX0_blame_147 : decode cX0_blame 147 = .ok (.iconst 0, 1) := dk_3 (dk_at dksX0_blame_6 3 rfl rfl)
theorem dX0_blame_148 : decode cX0_blame 148 = .ok (.iaload, 1) := dk_46 (dk_at dksX0_blame_6 4 rfl rfl)
theorem dX0_blame_149 : decode cX0_blame 149 = .ok (.ireturn, 1) := dk_172 (dk_at dksX0_blame_6 5 rfl rfl)
theorem dX0_blame_150 : decode cX0_blame 150 = .ok (.aload_n 3, 1) := dk_45 (dk_at dksX0_blame_6 6 rfl rfl)
theorem dX0_blame_151 : decode cX0_blame 151 = .ok (.getfield 144, 3) := dk_180 0 144 (dk_at dksX0_blame_6 7 rfl rfl)
theorem dX0_blame_154 : decode cX0_blame 154 = .ok (.iconst 0, 1) := dk_3 (dk_at dksX0_blame_6 10 rfl rfl)
theorem dX0_blame_155 : decode cX0_blame 155 = .ok (.iaload, 1) := dk_46 (dk_at dksX0_blame_6 11 rfl rfl)
theorem dX0_blame_156 : decode cX0_blame 156 = .ok (.ireturn, 1) := dk_172 (dk_at dksX0_blame_6 12 rfl rfl)
theorem dX0_blame_157 : decode cX0_blame 157 = .ok (.aload 4, 2) := dk_25 4 (dk_at dksX0_blame_6 13 rfl rfl)
theorem dX0_blame_159 : decode cX0_blame 159 = .ok (.getfield 144, 3) := dk_180 0 144 (dk_at dksX0_blame_6 15 rfl rfl)
theorem dX0_blame_162 : decode cX0_blame 162 = .ok (.iconst 0, 1) := dk_3 (dk_at dksX0_blame_6 18 rfl rfl)
theorem dX0_blame_163 : decode cX0_blame 163 = .ok (.iaload, 1) := dk_46 (dk_at dksX0_blame_6 19 rfl rfl)
theorem dX0_blame_164 : decode cX0_blame 164 = .ok (.ireturn, 1) := dk_172 (dk_at dksX0_blame_6 20 rfl rfl)
theorem dX0_blame_165 : decode cX0_blame 165 = .ok (.iconst (-1), 1) := dk_2 (dk_at dksX0_blame_6 21 rfl rfl)
theorem dX0_blame_166 : decode cX0_blame 166 = .ok (.ireturn, 1) := dk_172 (dk_at dksX0_blame_6 22 rfl rfl)
abbrev cX0_isMarked : ByteArray := prog_1_method_44_code
def yX0_isMarked : MethodName := ⟨RX0, "isMarked", "(LGlassLog$Head;)Z"⟩
def dkwX0_isMarked_1 : List UInt8 := [184, 1, 61, 172]
abbrev dktX0_isMarked_1 : List UInt8 := dkwX0_isMarked_1 ++ []
def dkwX0_isMarked_0 : List UInt8 := [43, 42, 180, 0, 19, 42, 180, 0, 50, 182, 0, 149, 42, 180, 0, 50, 3, 43, 180, 0, 148, 3]
abbrev dktX0_isMarked_0 : List UInt8 := dkwX0_isMarked_0 ++ dktX0_isMarked_1
theorem dksX0_isMarked_0 : cX0_isMarked.data.toList.drop 0 = dktX0_isMarked_0 := by decide +kernel
theorem dksX0_isMarked_1 : cX0_isMarked.data.toList.drop 22 = dktX0_isMarked_1 := dk_seg dksX0_isMarked_0 22 rfl rfl
theorem dX0_isMarked_0 : decode cX0_isMarked 0 = .ok (.aload_n 1, 1) := dk_43 (dk_at dksX0_isMarked_0 0 rfl rfl)
theorem dX0_isMarked_1 : decode cX0_isMarked 1 = .ok (.aload_n 0, 1) := dk_42 (dk_at dksX0_isMarked_0 1 rfl rfl)
theorem dX0_isMarked_2 : decode cX0_isMarked 2 = .ok (.getfield 19, 3) := dk_180 0 19 (dk_at dksX0_isMarked_0 2 rfl rfl)
theorem dX0_isMarked_5 : decode cX0_isMarked 5 = .ok (.aload_n 0, 1) := dk_42 (dk_at dksX0_isMarked_0 5 rfl rfl)
theorem dX0_isMarked_6 : decode cX0_isMarked 6 = .ok (.getfield 50, 3) := dk_180 0 50 (dk_at dksX0_isMarked_0 6 rfl rfl)
theorem dX0_isMarked_9 : decode cX0_isMarked 9 = .ok (.invokevirtual 149, 3) := dk_182 0 149 (dk_at dksX0_isMarked_0 9 rfl rfl)
theorem dX0_isMarked_12 : decode cX0_isMarked 12 = .ok (.aload_n 0, 1) := dk_42 (dk_at dksX0_isMarked_0 12 rfl rfl)
theorem dX0_isMarked_13 : decode cX0_isMarked 13 = .ok (.getfield 50, 3) := dk_180 0 50 (dk_at dksX0_isMarked_0 13 rfl rfl)
theorem dX0_isMarked_16 : decode cX0_isMarked 16 = .ok (.iconst 0, 1) := dk_3 (dk_at dksX0_isMarked_0 16 rfl rfl)
theorem dX0_isMarked_17 : decode cX0_isMarked 17 = .ok (.aload_n 1, 1) := dk_43 (dk_at dksX0_isMarked_0 17 rfl rfl)
theorem dX0_isMarked_18 : decode cX0_isMarked 18 = .ok (.getfield 148, 3) := dk_180 0 148 (dk_at dksX0_isMarked_0 18 rfl rfl)
theorem dX0_isMarked_21 : decode cX0_isMarked 21 = .ok (.iconst 0, 1) := dk_3 (dk_at dksX0_isMarked_0 21 rfl rfl)
theorem dX0_isMarked_22 : decode cX0_isMarked 22 = .ok (.invokestatic 317, 3) := dk_184 1 61 (dk_at dksX0_isMarked_1 0 rfl rfl)
theorem dX0_isMarked_25 : decode cX0_isMarked 25 = .ok (.ireturn, 1) := dk_172 (dk_at dksX0_isMarked_1 3 rfl rfl)
abbrev cX0_smear : ByteArray := prog_1_method_46_code
def yX0_smear : MethodName := ⟨RX0, "smear", "(III)Z"⟩
def dkwX0_smear_2 : List UInt8 := [180, 0, 148, 28, 92, 46, 29, 130, 79, 4, 172]
abbrev dktX0_smear_2 : List UInt8 := dkwX0_smear_2 ++ []
def dkwX0_smear_1 : List UInt8 := [20, 0, 155, 184, 0, 57, 154, 0, 5, 3, 172, 42, 180, 0, 12, 180, 1, 68, 5, 27, 104, 4, 96, 50]
abbrev dktX0_smear_1 : List UInt8 := dkwX0_smear_1 ++ dktX0_smear_2
def dkwX0_smear_0 : List UInt8 := [27, 133, 9, 42, 180, 0, 12, 180, 1, 65, 4, 100, 133, 184, 0, 57, 153, 0, 15, 28, 133, 9]
abbrev dktX0_smear_0 : List UInt8 := dkwX0_smear_0 ++ dktX0_smear_1
theorem dksX0_smear_0 : cX0_smear.data.toList.drop 0 = dktX0_smear_0 := by decide +kernel
theorem dksX0_smear_1 : cX0_smear.data.toList.drop 22 = dktX0_smear_1 := dk_seg dksX0_smear_0 22 rfl rfl
theorem dksX0_smear_2 : cX0_smear.data.toList.drop 46 = dktX0_smear_2 := dk_seg dksX0_smear_1 24 rfl rfl
theorem dX0_smear_0 : decode cX0_smear 0 = .ok (.iload_n 1, 1) := dk_27 (dk_at dksX0_smear_0 0 rfl rfl)
theorem dX0_smear_1 : decode cX0_smear 1 = .ok (.i2l, 1) := dk_133 (dk_at dksX0_smear_0 1 rfl rfl)
theorem dX0_smear_2 : decode cX0_smear 2 = .ok (.lconst 0, 1) := dk_9 (dk_at dksX0_smear_0 2 rfl rfl)
theorem dX0_smear_3 : decode cX0_smear 3 = .ok (.aload_n 0, 1) := dk_42 (dk_at dksX0_smear_0 3 rfl rfl)
theorem dX0_smear_4 : decode cX0_smear 4 = .ok (.getfield 12, 3) := dk_180 0 12 (dk_at dksX0_smear_0 4 rfl rfl)
theorem dX0_smear_7 : decode cX0_smear 7 = .ok (.getfield 321, 3) := dk_180 1 65 (dk_at dksX0_smear_0 7 rfl rfl)
theorem dX0_smear_10 : decode cX0_smear 10 = .ok (.iconst 1, 1) := dk_4 (dk_at dksX0_smear_0 10 rfl rfl)
theorem dX0_smear_11 : decode cX0_smear 11 = .ok (.isub, 1) := dk_100 (dk_at dksX0_smear_0 11 rfl rfl)
theorem dX0_smear_12 : decode cX0_smear 12 = .ok (.i2l, 1) := dk_133 (dk_at dksX0_smear_0 12 rfl rfl)
theorem dX0_smear_13 : decode cX0_smear 13 = .ok (.invokestatic 57, 3) := dk_184 0 57 (dk_at dksX0_smear_0 13 rfl rfl)
theorem dX0_smear_16 : decode cX0_smear 16 = .ok (.ifCond .eq 15, 3) := dk_153 0 15 (dk_at dksX0_smear_0 16 rfl rfl)
theorem dX0_smear_19 : decode cX0_smear 19 = .ok (.iload_n 2, 1) := dk_28 (dk_at dksX0_smear_0 19 rfl rfl)
theorem dX0_smear_20 : decode cX0_smear 20 = .ok (.i2l, 1) := dk_133 (dk_at dksX0_smear_0 20 rfl rfl)
theorem dX0_smear_21 : decode cX0_smear 21 = .ok (.lconst 0, 1) := dk_9 (dk_at dksX0_smear_0 21 rfl rfl)
theorem dX0_smear_22 : decode cX0_smear 22 = .ok (.ldc2_w 155, 3) := dk_20 0 155 (dk_at dksX0_smear_1 0 rfl rfl)
theorem dX0_smear_25 : decode cX0_smear 25 = .ok (.invokestatic 57, 3) := dk_184 0 57 (dk_at dksX0_smear_1 3 rfl rfl)
theorem dX0_smear_28 : decode cX0_smear 28 = .ok (.ifCond .ne 5, 3) := dk_154 0 5 (dk_at dksX0_smear_1 6 rfl rfl)
theorem dX0_smear_31 : decode cX0_smear 31 = .ok (.iconst 0, 1) := dk_3 (dk_at dksX0_smear_1 9 rfl rfl)
theorem dX0_smear_32 : decode cX0_smear 32 = .ok (.ireturn, 1) := dk_172 (dk_at dksX0_smear_1 10 rfl rfl)
theorem dX0_smear_33 : decode cX0_smear 33 = .ok (.aload_n 0, 1) := dk_42 (dk_at dksX0_smear_1 11 rfl rfl)
theorem dX0_smear_34 : decode cX0_smear 34 = .ok (.getfield 12, 3) := dk_180 0 12 (dk_at dksX0_smear_1 12 rfl rfl)
theorem dX0_smear_37 : decode cX0_smear 37 = .ok (.getfield 324, 3) := dk_180 1 68 (dk_at dksX0_smear_1 15 rfl rfl)
theorem dX0_smear_40 : decode cX0_smear 40 = .ok (.iconst 2, 1) := dk_5 (dk_at dksX0_smear_1 18 rfl rfl)
theorem dX0_smear_41 : decode cX0_smear 41 = .ok (.iload_n 1, 1) := dk_27 (dk_at dksX0_smear_1 19 rfl rfl)
theorem dX0_smear_42 : decode cX0_smear 42 = .ok (.imul, 1) := dk_104 (dk_at dksX0_smear_1 20 rfl rfl)
theorem dX0_smear_43 : decode cX0_smear 43 = .ok (.iconst 1, 1) := dk_4 (dk_at dksX0_smear_1 21 rfl rfl)
theorem dX0_smear_44 : decode cX0_smear 44 = .ok (.iadd, 1) := dk_96 (dk_at dksX0_smear_1 22 rfl rfl)
theorem dX0_smear_45 : decode cX0_smear 45 = .ok (.aaload, 1) := dk_50 (dk_at dksX0_smear_1 23 rfl rfl)
theorem dX0_smear_46 : decode cX0_smear 46 = .ok (.getfield 148, 3) := dk_180 0 148 (dk_at dksX0_smear_2 0 rfl rfl)
theorem dX0_smear_49 : decode cX0_smear 49 = .ok (.iload_n 2, 1) := dk_28 (dk_at dksX0_smear_2 3 rfl rfl)
theorem dX0_smear_50 : decode cX0_smear 50 = .ok (.dup2, 1) := dk_92 (dk_at dksX0_smear_2 4 rfl rfl)
theorem dX0_smear_51 : decode cX0_smear 51 = .ok (.iaload, 1) := dk_46 (dk_at dksX0_smear_2 5 rfl rfl)
theorem dX0_smear_52 : decode cX0_smear 52 = .ok (.iload_n 3, 1) := dk_29 (dk_at dksX0_smear_2 6 rfl rfl)
theorem dX0_smear_53 : decode cX0_smear 53 = .ok (.ixor, 1) := dk_130 (dk_at dksX0_smear_2 7 rfl rfl)
theorem dX0_smear_54 : decode cX0_smear 54 = .ok (.iastore, 1) := dk_79 (dk_at dksX0_smear_2 8 rfl rfl)
theorem dX0_smear_55 : decode cX0_smear 55 = .ok (.iconst 1, 1) := dk_4 (dk_at dksX0_smear_2 9 rfl rfl)
theorem dX0_smear_56 : decode cX0_smear 56 = .ok (.ireturn, 1) := dk_172 (dk_at dksX0_smear_2 10 rfl rfl)
abbrev cX0_watcher : ByteArray := prog_1_method_47_code
def yX0_watcher : MethodName := ⟨RX0, "watcher", "(IIII)Z"⟩
def dkwX0_watcher_3 : List UInt8 := [172]
abbrev dktX0_watcher_3 : List UInt8 := dkwX0_watcher_3 ++ []
def dkwX0_watcher_2 : List UInt8 := [29, 181, 1, 92, 25, 5, 21, 4, 181, 1, 95, 25, 5, 3, 181, 1, 98, 25, 5, 3, 181, 1, 100, 4]
abbrev dktX0_watcher_2 : List UInt8 := dkwX0_watcher_2 ++ dktX0_watcher_3
def dkwX0_watcher_1 : List UInt8 := [180, 0, 12, 180, 1, 84, 27, 50, 58, 5, 25, 5, 4, 181, 1, 88, 25, 5, 28, 181, 1, 91, 25, 5]
abbrev dktX0_watcher_1 : List UInt8 := dkwX0_watcher_1 ++ dktX0_watcher_2
def dkwX0_watcher_0 : List UInt8 := [27, 133, 9, 20, 0, 155, 184, 0, 57, 153, 0, 11, 42, 28, 182, 0, 61, 154, 0, 5, 3, 172, 42]
abbrev dktX0_watcher_0 : List UInt8 := dkwX0_watcher_0 ++ dktX0_watcher_1
theorem dksX0_watcher_0 : cX0_watcher.data.toList.drop 0 = dktX0_watcher_0 := by decide +kernel
theorem dksX0_watcher_1 : cX0_watcher.data.toList.drop 23 = dktX0_watcher_1 := dk_seg dksX0_watcher_0 23 rfl rfl
theorem dksX0_watcher_2 : cX0_watcher.data.toList.drop 47 = dktX0_watcher_2 := dk_seg dksX0_watcher_1 24 rfl rfl
theorem dksX0_watcher_3 : cX0_watcher.data.toList.drop 71 = dktX0_watcher_3 := dk_seg dksX0_watcher_2 24 rfl rfl
theorem dX0_watcher_0 : decode cX0_watcher 0 = .ok (.iload_n 1, 1) := dk_27 (dk_at dksX0_watcher_0 0 rfl rfl)
theorem dX0_watcher_1 : decode cX0_watcher 1 = .ok (.i2l, 1) := dk_133 (dk_at dksX0_watcher_0 1 rfl rfl)
theorem dX0_watcher_2 : decode cX0_watcher 2 = .ok (.lconst 0, 1) := dk_9 (dk_at dksX0_watcher_0 2 rfl rfl)
theorem dX0_watcher_3 : decode cX0_watcher 3 = .ok (.ldc2_w 155, 3) := dk_20 0 155 (dk_at dksX0_watcher_0 3 rfl rfl)
theorem dX0_watcher_6 : decode cX0_watcher 6 = .ok (.invokestatic 57, 3) := dk_184 0 57 (dk_at dksX0_watcher_0 6 rfl rfl)
theorem dX0_watcher_9 : decode cX0_watcher 9 = .ok (.ifCond .eq 11, 3) := dk_153 0 11 (dk_at dksX0_watcher_0 9 rfl rfl)
theorem dX0_watcher_12 : decode cX0_watcher 12 = .ok (.aload_n 0, 1) := dk_42 (dk_at dksX0_watcher_0 12 rfl rfl)
theorem dX0_watcher_13 : decode cX0_watcher 13 = .ok (.iload_n 2, 1) := dk_28 (dk_at dksX0_watcher_0 13 rfl rfl)
theorem dX0_watcher_14 : decode cX0_watcher 14 = .ok (.invokevirtual 61, 3) := dk_182 0 61 (dk_at dksX0_watcher_0 14 rfl rfl)
theorem dX0_watcher_17 : decode cX0_watcher 17 = .ok (.ifCond .ne 5, 3) := dk_154 0 5 (dk_at dksX0_watcher_0 17 rfl rfl)
theorem dX0_watcher_20 : decode cX0_watcher 20 = .ok (.iconst 0, 1) := dk_3 (dk_at dksX0_watcher_0 20 rfl rfl)
theorem dX0_watcher_21 : decode cX0_watcher 21 = .ok (.ireturn, 1) := dk_172 (dk_at dksX0_watcher_0 21 rfl rfl)
theorem dX0_watcher_22 : decode cX0_watcher 22 = .ok (.aload_n 0, 1) := dk_42 (dk_at dksX0_watcher_0 22 rfl rfl)
theorem dX0_watcher_23 : decode cX0_watcher 23 = .ok (.getfield 12, 3) := dk_180 0 12 (dk_at dksX0_watcher_1 0 rfl rfl)
theorem dX0_watcher_26 : decode cX0_watcher 26 = .ok (.getfield 340, 3) := dk_180 1 84 (dk_at dksX0_watcher_1 3 rfl rfl)
theorem dX0_watcher_29 : decode cX0_watcher 29 = .ok (.iload_n 1, 1) := dk_27 (dk_at dksX0_watcher_1 6 rfl rfl)
theorem dX0_watcher_30 : decode cX0_watcher 30 = .ok (.aaload, 1) := dk_50 (dk_at dksX0_watcher_1 7 rfl rfl)
theorem dX0_watcher_31 : decode cX0_watcher 31 = .ok (.astore 5, 2) := dk_58 5 (dk_at dksX0_watcher_1 8 rfl rfl)
theorem dX0_watcher_33 : decode cX0_watcher 33 = .ok (.aload 5, 2) := dk_25 5 (dk_at dksX0_watcher_1 10 rfl rfl)
theorem dX0_watcher_35 : decode cX0_watcher 35 = .ok (.iconst 1, 1) := dk_4 (dk_at dksX0_watcher_1 12 rfl rfl)
theorem dX0_watcher_36 : decode cX0_watcher 36 = .ok (.putfield 344, 3) := dk_181 1 88 (dk_at dksX0_watcher_1 13 rfl rfl)
theorem dX0_watcher_39 : decode cX0_watcher 39 = .ok (.aload 5, 2) := dk_25 5 (dk_at dksX0_watcher_1 16 rfl rfl)
theorem dX0_watcher_41 : decode cX0_watcher 41 = .ok (.iload_n 2, 1) := dk_28 (dk_at dksX0_watcher_1 18 rfl rfl)
theorem dX0_watcher_42 : decode cX0_watcher 42 = .ok (.putfield 347, 3) := dk_181 1 91 (dk_at dksX0_watcher_1 19 rfl rfl)
theorem dX0_watcher_45 : decode cX0_watcher 45 = .ok (.aload 5, 2) := dk_25 5 (dk_at dksX0_watcher_1 22 rfl rfl)
theorem dX0_watcher_47 : decode cX0_watcher 47 = .ok (.iload_n 3, 1) := dk_29 (dk_at dksX0_watcher_2 0 rfl rfl)
theorem dX0_watcher_48 : decode cX0_watcher 48 = .ok (.putfield 348, 3) := dk_181 1 92 (dk_at dksX0_watcher_2 1 rfl rfl)
theorem dX0_watcher_51 : decode cX0_watcher 51 = .ok (.aload 5, 2) := dk_25 5 (dk_at dksX0_watcher_2 4 rfl rfl)
theorem dX0_watcher_53 : decode cX0_watcher 53 = .ok (.iload 4, 2) := dk_21 4 (dk_at dksX0_watcher_2 6 rfl rfl)
theorem dX0_watcher_55 : decode cX0_watcher 55 = .ok (.putfield 351, 3) := dk_181 1 95 (dk_at dksX0_watcher_2 8 rfl rfl)
theorem dX0_watcher_58 : decode cX0_watcher 58 = .ok (.aload 5, 2) := dk_25 5 (dk_at dksX0_watcher_2 11 rfl rfl)
theorem dX0_watcher_60 : decode cX0_watcher 60 = .ok (.iconst 0, 1) := dk_3 (dk_at dksX0_watcher_2 13 rfl rfl)
theorem dX0_watcher_61 : decode cX0_watcher 61 = .ok (.putfield 354, 3) := dk_181 1 98 (dk_at dksX0_watcher_2 14 rfl rfl)
theorem dX0_watcher_64 : decode cX0_watcher 64 = .ok (.aload 5, 2) := dk_25 5 (dk_at dksX0_watcher_2 17 rfl rfl)
theorem dX0_watcher_66 : decode cX0_watcher 66 = .ok (.iconst 0, 1) := dk_3 (dk_at dksX0_watcher_2 19 rfl rfl)
theorem dX0_watcher_67 : decode cX0_watcher 67 = .ok (.putfield 356, 3) := dk_181 1 100 (dk_at dksX0_watcher_2 20 rfl rfl)
theorem dX0_watcher_70 : decode cX0_watcher 70 = .ok (.iconst 1, 1) := dk_4 (dk_at dksX0_watcher_2 23 rfl rfl)
theorem dX0_watcher_71 : decode cX0_watcher 71 = .ok (.ireturn, 1) := dk_172 (dk_at dksX0_watcher_3 0 rfl rfl)
abbrev cX0_watch : ByteArray := prog_1_method_48_code
def yX0_watch : MethodName := ⟨RX0, "watch", "(I)I"⟩
def dkwX0_watch_7 : List UInt8 := [21, 5, 46, 160, 0, 7, 3, 167, 0, 4, 4, 96, 54, 4, 132, 5, 1, 167, 255, 209, 21, 4, 172]
abbrev dktX0_watch_7 : List UInt8 := dkwX0_watch_7 ++ []
def dkwX0_watch_6 : List UInt8 := [162, 0, 44, 21, 4, 45, 45, 180, 0, 69, 44, 180, 1, 105, 21, 5, 46, 182, 0, 117, 44, 180, 1, 106]
abbrev dktX0_watch_6 : List UInt8 := dkwX0_watch_6 ++ dktX0_watch_7
def dkwX0_watch_5 : List UInt8 := [89, 180, 1, 98, 4, 96, 181, 1, 98, 167, 255, 180, 3, 54, 4, 3, 54, 5, 21, 5, 44, 180, 1, 100]
abbrev dktX0_watch_5 : List UInt8 := dkwX0_watch_5 ++ dktX0_watch_6
def dkwX0_watch_4 : List UInt8 := [184, 0, 57, 153, 0, 20, 44, 45, 180, 0, 214, 44, 180, 1, 98, 46, 44, 180, 1, 98, 182, 1, 101, 44]
abbrev dktX0_watch_4 : List UInt8 := dkwX0_watch_4 ++ dktX0_watch_5
def dkwX0_watch_3 : List UInt8 := [51, 154, 0, 46, 45, 180, 0, 214, 44, 180, 1, 98, 46, 133, 44, 180, 1, 92, 133, 44, 180, 1, 95, 133]
abbrev dktX0_watch_3 : List UInt8 := dkwX0_watch_3 ++ dktX0_watch_4
def dkwX0_watch_2 : List UInt8 := [180, 1, 91, 50, 78, 44, 180, 1, 98, 45, 180, 0, 69, 162, 0, 71, 45, 180, 0, 96, 44, 180, 1, 98]
abbrev dktX0_watch_2 : List UInt8 := dkwX0_watch_2 ++ dktX0_watch_3
def dkwX0_watch_1 : List UInt8 := [154, 0, 5, 2, 172, 42, 180, 0, 12, 180, 1, 84, 27, 50, 77, 42, 180, 0, 12, 180, 0, 65, 44]
abbrev dktX0_watch_1 : List UInt8 := dkwX0_watch_1 ++ dktX0_watch_2
def dkwX0_watch_0 : List UInt8 := [27, 133, 9, 20, 0, 155, 184, 0, 57, 153, 0, 18, 42, 180, 0, 12, 180, 1, 84, 27, 50, 180, 1, 88]
abbrev dktX0_watch_0 : List UInt8 := dkwX0_watch_0 ++ dktX0_watch_1
theorem dksX0_watch_0 : cX0_watch.data.toList.drop 0 = dktX0_watch_0 := by decide +kernel
theorem dksX0_watch_1 : cX0_watch.data.toList.drop 24 = dktX0_watch_1 := dk_seg dksX0_watch_0 24 rfl rfl
theorem dksX0_watch_2 : cX0_watch.data.toList.drop 47 = dktX0_watch_2 := dk_seg dksX0_watch_1 23 rfl rfl
theorem dksX0_watch_3 : cX0_watch.data.toList.drop 71 = dktX0_watch_3 := dk_seg dksX0_watch_2 24 rfl rfl
theorem dksX0_watch_4 : cX0_watch.data.toList.drop 95 = dktX0_watch_4 := dk_seg dksX0_watch_3 24 rfl rfl
theorem dksX0_watch_5 : cX0_watch.data.toList.drop 119 = dktX0_watch_5 := dk_seg dksX0_watch_4 24 rfl rfl
theorem dksX0_watch_6 : cX0_watch.data.toList.drop 143 = dktX0_watch_6 := dk_seg dksX0_watch_5 24 rfl rfl
theorem dksX0_watch_7 : cX0_watch.data.toList.drop 167 = dktX0_watch_7 := dk_seg dksX0_watch_6 24 rfl rfl
theorem dX0_watch_0 : decode cX0_watch 0 = .ok (.iload_n 1, 1) := dk_27 (dk_at dksX0_watch_0 0 rfl rfl)
theorem dX0_watch_1 : decode cX0_watch 1 = .ok (.i2l, 1) := dk_133 (dk_at dksX0_watch_0 1 rfl rfl)
theorem dX0_watch_2 : decode cX0_watch 2 = .ok (.lconst 0, 1) := dk_9 (dk_at dksX0_watch_0 2 rfl rfl)
theorem dX0_watch_3 : decode cX0_watch 3 = .ok (.ldc2_w 155, 3) := dk_20 0 155 (dk_at dksX0_watch_0 3 rfl rfl)
theorem dX0_watch_6 : decode cX0_watch 6 = .ok (.invokestatic 57, 3) := dk_184 0 57 (dk_at dksX0_watch_0 6 rfl rfl)
theorem dX0_watch_9 : decode cX0_watch 9 = .ok (.ifCond .eq 18, 3) := dk_153 0 18 (dk_at dksX0_watch_0 9 rfl rfl)
theorem dX0_watch_12 : decode cX0_watch 12 = .ok (.aload_n 0, 1) := dk_42 (dk_at dksX0_watch_0 12 rfl rfl)
theorem dX0_watch_13 : decode cX0_watch 13 = .ok (.getfield 12, 3) := dk_180 0 12 (dk_at dksX0_watch_0 13 rfl rfl)
theorem dX0_watch_16 : decode cX0_watch 16 = .ok (.getfield 340, 3) := dk_180 1 84 (dk_at dksX0_watch_0 16 rfl rfl)
theorem dX0_watch_19 : decode cX0_watch 19 = .ok (.iload_n 1, 1) := dk_27 (dk_at dksX0_watch_0 19 rfl rfl)
theorem dX0_watch_20 : decode cX0_watch 20 = .ok (.aaload, 1) := dk_50 (dk_at dksX0_watch_0 20 rfl rfl)
theorem dX0_watch_21 : decode cX0_watch 21 = .ok (.getfield 344, 3) := dk_180 1 88 (dk_at dksX0_watch_0 21 rfl rfl)
theorem dX0_watch_24 : decode cX0_watch 24 = .ok (.ifCond .ne 5, 3) := dk_154 0 5 (dk_at dksX0_watch_1 0 rfl rfl)
theorem dX0_watch_27 : decode cX0_watch 27 = .ok (.iconst (-1), 1) := dk_2 (dk_at dksX0_watch_1 3 rfl rfl)
theorem dX0_watch_28 : decode cX0_watch 28 = .ok (.ireturn, 1) := dk_172 (dk_at dksX0_watch_1 4 rfl rfl)
theorem dX0_watch_29 : decode cX0_watch 29 = .ok (.aload_n 0, 1) := dk_42 (dk_at dksX0_watch_1 5 rfl rfl)
theorem dX0_watch_30 : decode cX0_watch 30 = .ok (.getfield 12, 3) := dk_180 0 12 (dk_at dksX0_watch_1 6 rfl rfl)
theorem dX0_watch_33 : decode cX0_watch 33 = .ok (.getfield 340, 3) := dk_180 1 84 (dk_at dksX0_watch_1 9 rfl rfl)
theorem dX0_watch_36 : decode cX0_watch 36 = .ok (.iload_n 1, 1) := dk_27 (dk_at dksX0_watch_1 12 rfl rfl)
theorem dX0_watch_37 : decode cX0_watch 37 = .ok (.aaload, 1) := dk_50 (dk_at dksX0_watch_1 13 rfl rfl)
theorem dX0_watch_38 : decode cX0_watch 38 = .ok (.astore_n 2, 1) := dk_77 (dk_at dksX0_watch_1 14 rfl rfl)
theorem dX0_watch_39 : decode cX0_watch 39 = .ok (.aload_n 0, 1) := dk_42 (dk_at dksX0_watch_1 15 rfl rfl)
theorem dX0_watch_40 : decode cX0_watch 40 = .ok (.getfield 12, 3) := dk_180 0 12 (dk_at dksX0_watch_1 16 rfl rfl)
theorem dX0_watch_43 : decode cX0_watch 43 = .ok (.getfield 65, 3) := dk_180 0 65 (dk_at dksX0_watch_1 19 rfl rfl)
theorem dX0_watch_46 : decode cX0_watch 46 = .ok (.aload_n 2, 1) := dk_44 (dk_at dksX0_watch_1 22 rfl rfl)
theorem dX0_watch_47 : decode cX0_watch 47 = .ok (.getfield 347, 3) := dk_180 1 91 (dk_at dksX0_watch_2 0 rfl rfl)
theorem dX0_watch_50 : decode cX0_watch 50 = .ok (.aaload, 1) := dk_50 (dk_at dksX0_watch_2 3 rfl rfl)
theorem dX0_watch_51 : decode cX0_watch 51 = .ok (.astore_n 3, 1) := dk_78 (dk_at dksX0_watch_2 4 rfl rfl)
theorem dX0_watch_52 : decode cX0_watch 52 = .ok (.aload_n 2, 1) := dk_44 (dk_at dksX0_watch_2 5 rfl rfl)
theorem dX0_watch_53 : decode cX0_watch 53 = .ok (.getfield 354, 3) := dk_180 1 98 (dk_at dksX0_watch_2 6 rfl rfl)
theorem dX0_watch_56 : decode cX0_watch 56 = .ok (.aload_n 3, 1) := dk_45 (dk_at dksX0_watch_2 9 rfl rfl)
theorem dX0_watch_57 : decode cX0_watch 57 = .ok (.getfield 69, 3) := dk_180 0 69 (dk_at dksX0_watch_2 10 rfl rfl)
theorem dX0_watch_60 : decode cX0_watch 60 = .ok (.if_icmp .ge 71, 3) := dk_162 0 71 (dk_at dksX0_watch_2 13 rfl rfl)
theorem dX0_watch_63 : decode cX0_watch 63 = .ok (.aload_n 3, 1) := dk_45 (dk_at dksX0_watch_2 16 rfl rfl)
theorem dX0_watch_64 : decode cX0_watch 64 = .ok (.getfield 96, 3) := dk_180 0 96 (dk_at dksX0_watch_2 17 rfl rfl)
theorem dX0_watch_67 : decode cX0_watch 67 = .ok (.aload_n 2, 1) := dk_44 (dk_at dksX0_watch_2 20 rfl rfl)
theorem dX0_watch_68 : decode cX0_watch 68 = .ok (.getfield 354, 3) := dk_180 1 98 (dk_at dksX0_watch_2 21 rfl rfl)
theorem dX0_watch_71 : decode cX0_watch 71 = .ok (.baload, 1) := dk_51 (dk_at dksX0_watch_3 0 rfl rfl)
theorem dX0_watch_72 : decode cX0_watch 72 = .ok (.ifCond .ne 46, 3) := dk_154 0 46 (dk_at dksX0_watch_3 1 rfl rfl)
theorem dX0_watch_75 : decode cX0_watch 75 = .ok (.aload_n 3, 1) := dk_45 (dk_at dksX0_watch_3 4 rfl rfl)
theorem dX0_watch_76 : decode cX0_watch 76 = .ok (.getfield 214, 3) := dk_180 0 214 (dk_at dksX0_watch_3 5 rfl rfl)
theorem dX0_watch_79 : decode cX0_watch 79 = .ok (.aload_n 2, 1) := dk_44 (dk_at dksX0_watch_3 8 rfl rfl)
theorem dX0_watch_80 : decode cX0_watch 80 = .ok (.getfield 354, 3) := dk_180 1 98 (dk_at dksX0_watch_3 9 rfl rfl)
theorem dX0_watch_83 : decode cX0_watch 83 = .ok (.iaload, 1) := dk_46 (dk_at dksX0_watch_3 12 rfl rfl)
theorem dX0_watch_84 : decode cX0_watch 84 = .ok (.i2l, 1) := dk_133 (dk_at dksX0_watch_3 13 rfl rfl)
theorem dX0_watch_85 : decode cX0_watch 85 = .ok (.aload_n 2, 1) := dk_44 (dk_at dksX0_watch_3 14 rfl rfl)
theorem dX0_watch_86 : decode cX0_watch 86 = .ok (.getfield 348, 3) := dk_180 1 92 (dk_at dksX0_watch_3 15 rfl rfl)
theorem dX0_watch_89 : decode cX0_watch 89 = .ok (.i2l, 1) := dk_133 (dk_at dksX0_watch_3 18 rfl rfl)
theorem dX0_watch_90 : decode cX0_watch 90 = .ok (.aload_n 2, 1) := dk_44 (dk_at dksX0_watch_3 19 rfl rfl)
theorem dX0_watch_91 : decode cX0_watch 91 = .ok (.getfield 351, 3) := dk_180 1 95 (dk_at dksX0_watch_3 20 rfl rfl)
theorem dX0_watch_94 : decode cX0_watch 94 = .ok (.i2l, 1) := dk_133 (dk_at dksX0_watch_3 23 rfl rfl)
theorem dX0_watch_95 : decode cX0_watch 95 = .ok (.invokestatic 57, 3) := dk_184 0 57 (dk_at dksX0_watch_4 0 rfl rfl)
theorem dX0_watch_98 : decode cX0_watch 98 = .ok (.ifCond .eq 20, 3) := dk_153 0 20 (dk_at dksX0_watch_4 3 rfl rfl)
theorem dX0_watch_101 : decode cX0_watch 101 = .ok (.aload_n 2, 1) := dk_44 (dk_at dksX0_watch_4 6 rfl rfl)
theorem dX0_watch_102 : decode cX0_watch 102 = .ok (.aload_n 3, 1) := dk_45 (dk_at dksX0_watch_4 7 rfl rfl)
theorem dX0_watch_103 : decode cX0_watch 103 = .ok (.getfield 214, 3) := dk_180 0 214 (dk_at dksX0_watch_4 8 rfl rfl)
theorem dX0_watch_106 : decode cX0_watch 106 = .ok (.aload_n 2, 1) := dk_44 (dk_at dksX0_watch_4 11 rfl rfl)
theorem dX0_watch_107 : decode cX0_watch 107 = .ok (.getfield 354, 3) := dk_180 1 98 (dk_at dksX0_watch_4 12 rfl rfl)
theorem dX0_watch_110 : decode cX0_watch 110 = .ok (.iaload, 1) := dk_46 (dk_at dksX0_watch_4 15 rfl rfl)
theorem dX0_watch_111 : decode cX0_watch 111 = .ok (.aload_n 2, 1) := dk_44 (dk_at dksX0_watch_4 16 rfl rfl)
theorem dX0_watch_112 : decode cX0_watch 112 = .ok (.getfield 354, 3) := dk_180 1 98 (dk_at dksX0_watch_4 17 rfl rfl)
theorem dX0_watch_115 : decode cX0_watch 115 = .ok (.invokevirtual 357, 3) := dk_182 1 101 (dk_at dksX0_watch_4 20 rfl rfl)
theorem dX0_watch_118 : decode cX0_watch 118 = .ok (.aload_n 2, 1) := dk_44 (dk_at dksX0_watch_4 23 rfl rfl)
theorem dX0_watch_119 : decode cX0_watch 119 = .ok (.dup, 1) := dk_89 (dk_at dksX0_watch_5 0 rfl rfl)
theorem dX0_watch_120 : decode cX0_watch 120 = .ok (.getfield 354, 3) := dk_180 1 98 (dk_at dksX0_watch_5 1 rfl rfl)
theorem dX0_watch_123 : decode cX0_watch 123 = .ok (.iconst 1, 1) := dk_4 (dk_at dksX0_watch_5 4 rfl rfl)
theorem dX0_watch_124 : decode cX0_watch 124 = .ok (.iadd, 1) := dk_96 (dk_at dksX0_watch_5 5 rfl rfl)
theorem dX0_watch_125 : decode cX0_watch 125 = .ok (.putfield 354, 3) := dk_181 1 98 (dk_at dksX0_watch_5 6 rfl rfl)
theorem dX0_watch_128 : decode cX0_watch 128 = .ok (.goto (-76), 3) := dk_167 255 180 (dk_at dksX0_watch_5 9 rfl rfl)
theorem dX0_watch_131 : decode cX0_watch 131 = .ok (.iconst 0, 1) := dk_3 (dk_at dksX0_watch_5 12 rfl rfl)
theorem dX0_watch_132 : decode cX0_watch 132 = .ok (.istore 4, 2) := dk_54 4 (dk_at dksX0_watch_5 13 rfl rfl)
theorem dX0_watch_134 : decode cX0_watch 134 = .ok (.iconst 0, 1) := dk_3 (dk_at dksX0_watch_5 15 rfl rfl)
theorem dX0_watch_135 : decode cX0_watch 135 = .ok (.istore 5, 2) := dk_54 5 (dk_at dksX0_watch_5 16 rfl rfl)
theorem dX0_watch_137 : decode cX0_watch 137 = .ok (.iload 5, 2) := dk_21 5 (dk_at dksX0_watch_5 18 rfl rfl)
theorem dX0_watch_139 : decode cX0_watch 139 = .ok (.aload_n 2, 1) := dk_44 (dk_at dksX0_watch_5 20 rfl rfl)
theorem dX0_watch_140 : decode cX0_watch 140 = .ok (.getfield 356, 3) := dk_180 1 100 (dk_at dksX0_watch_5 21 rfl rfl)
theorem dX0_watch_143 : decode cX0_watch 143 = .ok (.if_icmp .ge 44, 3) := dk_162 0 44 (dk_at dksX0_watch_6 0 rfl rfl)
theorem dX0_watch_146 : decode cX0_watch 146 = .ok (.iload 4, 2) := dk_21 4 (dk_at dksX0_watch_6 3 rfl rfl)
theorem dX0_watch_148 : decode cX0_watch 148 = .ok (.aload_n 3, 1) := dk_45 (dk_at dksX0_watch_6 5 rfl rfl)
theorem dX0_watch_149 : decode cX0_watch 149 = .ok (.aload_n 3, 1) := dk_45 (dk_at dksX0_watch_6 6 rfl rfl)
theorem dX0_watch_150 : decode cX0_watch 150 = .ok (.getfield 69, 3) := dk_180 0 69 (dk_at dksX0_watch_6 7 rfl rfl)
theorem dX0_watch_153 : decode cX0_watch 153 = .ok (.aload_n 2, 1) := dk_44 (dk_at dksX0_watch_6 10 rfl rfl)
theorem dX0_watch_154 : decode cX0_watch 154 = .ok (.getfield 361, 3) := dk_180 1 105 (dk_at dksX0_watch_6 11 rfl rfl)
theorem dX0_watch_157 : decode cX0_watch 157 = .ok (.iload 5, 2) := dk_21 5 (dk_at dksX0_watch_6 14 rfl rfl)
theorem dX0_watch_159 : decode cX0_watch 159 = .ok (.iaload, 1) := dk_46 (dk_at dksX0_watch_6 16 rfl rfl)
theorem dX0_watch_160 : decode cX0_watch 160 = .ok (.invokevirtual 117, 3) := dk_182 0 117 (dk_at dksX0_watch_6 17 rfl rfl)
theorem dX0_watch_163 : decode cX0_watch 163 = .ok (.aload_n 2, 1) := dk_44 (dk_at dksX0_watch_6 20 rfl rfl)
theorem dX0_watch_164 : decode cX0_watch 164 = .ok (.getfield 362, 3) := dk_180 1 106 (dk_at dksX0_watch_6 21 rfl rfl)
theorem dX0_watch_167 : decode cX0_watch 167 = .ok (.iload 5, 2) := dk_21 5 (dk_at dksX0_watch_7 0 rfl rfl)
theorem dX0_watch_169 : decode cX0_watch 169 = .ok (.iaload, 1) := dk_46 (dk_at dksX0_watch_7 2 rfl rfl)
theorem dX0_watch_170 : decode cX0_watch 170 = .ok (.if_icmp .ne 7, 3) := dk_160 0 7 (dk_at dksX0_watch_7 3 rfl rfl)
theorem dX0_watch_173 : decode cX0_watch 173 = .ok (.iconst 0, 1) := dk_3 (dk_at dksX0_watch_7 6 rfl rfl)
theorem dX0_watch_174 : decode cX0_watch 174 = .ok (.goto 4, 3) := dk_167 0 4 (dk_at dksX0_watch_7 7 rfl rfl)
theorem dX0_watch_177 : decode cX0_watch 177 = .ok (.iconst 1, 1) := dk_4 (dk_at dksX0_watch_7 10 rfl rfl)
theorem dX0_watch_178 : decode cX0_watch 178 = .ok (.iadd, 1) := dk_96 (dk_at dksX0_watch_7 11 rfl rfl)
theorem dX0_watch_179 : decode cX0_watch 179 = .ok (.istore 4, 2) := dk_54 4 (dk_at dksX0_watch_7 12 rfl rfl)
theorem dX0_watch_181 : decode cX0_watch 181 = .ok (.iinc 5 1, 3) := dk_132 5 1 (dk_at dksX0_watch_7 14 rfl rfl)
theorem dX0_watch_184 : decode cX0_watch 184 = .ok (.goto (-47), 3) := dk_167 255 209 (dk_at dksX0_watch_7 17 rfl rfl)
theorem dX0_watch_187 : decode cX0_watch 187 = .ok (.iload 4, 2) := dk_21 4 (dk_at dksX0_watch_7 20 rfl rfl)
theorem dX0_watch_189 : decode cX0_watch 189 = .ok (.ireturn, 1) := dk_172 (dk_at dksX0_watch_7 22 rfl rfl)
abbrev cX0_watching : ByteArray := prog_1_method_49_code
def yX0_watching : MethodName := ⟨RX0, "watching", "(II)I"⟩
def dkwX0_watching_4 : List UInt8 := [180, 1, 100, 172, 42, 180, 0, 12, 180, 1, 84, 27, 50, 180, 1, 91, 172, 2, 172]
abbrev dktX0_watching_4 : List UInt8 := dkwX0_watching_4 ++ []
def dkwX0_watching_3 : List UInt8 := [42, 180, 0, 12, 180, 1, 84, 27, 50, 180, 1, 98, 172, 42, 180, 0, 12, 180, 1, 84, 27, 50]
abbrev dktX0_watching_3 : List UInt8 := dkwX0_watching_3 ++ dktX0_watching_4
def dkwX0_watching_2 : List UInt8 := [170, 0, 0, 0, 0, 65, 0, 0, 0, 0, 0, 0, 0, 2, 0, 0, 0, 26, 0, 0, 0, 39, 0, 0, 0, 52]
abbrev dktX0_watching_2 : List UInt8 := dkwX0_watching_2 ++ dktX0_watching_3
def dkwX0_watching_1 : List UInt8 := [154, 0, 5, 2, 172, 28]
abbrev dktX0_watching_1 : List UInt8 := dkwX0_watching_1 ++ dktX0_watching_2
def dkwX0_watching_0 : List UInt8 := [27, 133, 9, 20, 0, 155, 184, 0, 57, 153, 0, 18, 42, 180, 0, 12, 180, 1, 84, 27, 50, 180, 1, 88]
abbrev dktX0_watching_0 : List UInt8 := dkwX0_watching_0 ++ dktX0_watching_1
theorem dksX0_watching_0 : cX0_watching.data.toList.drop 0 = dktX0_watching_0 := by decide +kernel
theorem dksX0_watching_1 : cX0_watching.data.toList.drop 24 = dktX0_watching_1 := dk_seg dksX0_watching_0 24 rfl rfl
theorem dksX0_watching_2 : cX0_watching.data.toList.drop 30 = dktX0_watching_2 := dk_seg dksX0_watching_1 6 rfl rfl
theorem dksX0_watching_3 : cX0_watching.data.toList.drop 56 = dktX0_watching_3 := dk_seg dksX0_watching_2 26 rfl rfl
theorem dksX0_watching_4 : cX0_watching.data.toList.drop 78 = dktX0_watching_4 := dk_seg dksX0_watching_3 22 rfl rfl
theorem dX0_watching_0 : decode cX0_watching 0 = .ok (.iload_n 1, 1) := dk_27 (dk_at dksX0_watching_0 0 rfl rfl)
theorem dX0_watching_1 : decode cX0_watching 1 = .ok (.i2l, 1) := dk_133 (dk_at dksX0_watching_0 1 rfl rfl)
theorem dX0_watching_2 : decode cX0_watching 2 = .ok (.lconst 0, 1) := dk_9 (dk_at dksX0_watching_0 2 rfl rfl)
theorem dX0_watching_3 : decode cX0_watching 3 = .ok (.ldc2_w 155, 3) := dk_20 0 155 (dk_at dksX0_watching_0 3 rfl rfl)
theorem dX0_watching_6 : decode cX0_watching 6 = .ok (.invokestatic 57, 3) := dk_184 0 57 (dk_at dksX0_watching_0 6 rfl rfl)
theorem dX0_watching_9 : decode cX0_watching 9 = .ok (.ifCond .eq 18, 3) := dk_153 0 18 (dk_at dksX0_watching_0 9 rfl rfl)
theorem dX0_watching_12 : decode cX0_watching 12 = .ok (.aload_n 0, 1) := dk_42 (dk_at dksX0_watching_0 12 rfl rfl)
theorem dX0_watching_13 : decode cX0_watching 13 = .ok (.getfield 12, 3) := dk_180 0 12 (dk_at dksX0_watching_0 13 rfl rfl)
theorem dX0_watching_16 : decode cX0_watching 16 = .ok (.getfield 340, 3) := dk_180 1 84 (dk_at dksX0_watching_0 16 rfl rfl)
theorem dX0_watching_19 : decode cX0_watching 19 = .ok (.iload_n 1, 1) := dk_27 (dk_at dksX0_watching_0 19 rfl rfl)
theorem dX0_watching_20 : decode cX0_watching 20 = .ok (.aaload, 1) := dk_50 (dk_at dksX0_watching_0 20 rfl rfl)
theorem dX0_watching_21 : decode cX0_watching 21 = .ok (.getfield 344, 3) := dk_180 1 88 (dk_at dksX0_watching_0 21 rfl rfl)
theorem dX0_watching_24 : decode cX0_watching 24 = .ok (.ifCond .ne 5, 3) := dk_154 0 5 (dk_at dksX0_watching_1 0 rfl rfl)
theorem dX0_watching_27 : decode cX0_watching 27 = .ok (.iconst (-1), 1) := dk_2 (dk_at dksX0_watching_1 3 rfl rfl)
theorem dX0_watching_28 : decode cX0_watching 28 = .ok (.ireturn, 1) := dk_172 (dk_at dksX0_watching_1 4 rfl rfl)
theorem dX0_watching_29 : decode cX0_watching 29 = .ok (.iload_n 2, 1) := dk_28 (dk_at dksX0_watching_1 5 rfl rfl)
theorem dX0_watching_30 : decode cX0_watching 30 = .ok (.tableswitch 65 0 2 #[26, 39, 52], 26) := by decide +kernel
theorem dX0_watching_56 : decode cX0_watching 56 = .ok (.aload_n 0, 1) := dk_42 (dk_at dksX0_watching_3 0 rfl rfl)
theorem dX0_watching_57 : decode cX0_watching 57 = .ok (.getfield 12, 3) := dk_180 0 12 (dk_at dksX0_watching_3 1 rfl rfl)
theorem dX0_watching_60 : decode cX0_watching 60 = .ok (.getfield 340, 3) := dk_180 1 84 (dk_at dksX0_watching_3 4 rfl rfl)
theorem dX0_watching_63 : decode cX0_watching 63 = .ok (.iload_n 1, 1) := dk_27 (dk_at dksX0_watching_3 7 rfl rfl)
theorem dX0_watching_64 : decode cX0_watching 64 = .ok (.aaload, 1) := dk_50 (dk_at dksX0_watching_3 8 rfl rfl)
theorem dX0_watching_65 : decode cX0_watching 65 = .ok (.getfield 354, 3) := dk_180 1 98 (dk_at dksX0_watching_3 9 rfl rfl)
theorem dX0_watching_68 : decode cX0_watching 68 = .ok (.ireturn, 1) := dk_172 (dk_at dksX0_watching_3 12 rfl rfl)
theorem dX0_watching_69 : decode cX0_watching 69 = .ok (.aload_n 0, 1) := dk_42 (dk_at dksX0_watching_3 13 rfl rfl)
theorem dX0_watching_70 : decode cX0_watching 70 = .ok (.getfield 12, 3) := dk_180 0 12 (dk_at dksX0_watching_3 14 rfl rfl)
theorem dX0_watching_73 : decode cX0_watching 73 = .ok (.getfield 340, 3) := dk_180 1 84 (dk_at dksX0_watching_3 17 rfl rfl)
theorem dX0_watching_76 : decode cX0_watching 76 = .ok (.iload_n 1, 1) := dk_27 (dk_at dksX0_watching_3 20 rfl rfl)
theorem dX0_watching_77 : decode cX0_watching 77 = .ok (.aaload, 1) := dk_50 (dk_at dksX0_watching_3 21 rfl rfl)
theorem dX0_watching_78 : decode cX0_watching 78 = .ok (.getfield 356, 3) := dk_180 1 100 (dk_at dksX0_watching_4 0 rfl rfl)
theorem dX0_watching_81 : decode cX0_watching 81 = .ok (.ireturn, 1) := dk_172 (dk_at dksX0_watching_4 3 rfl rfl)
theorem dX0_watching_82 : decode cX0_watching 82 = .ok (.aload_n 0, 1) := dk_42 (dk_at dksX0_watching_4 4 rfl rfl)
theorem dX0_watching_83 : decode cX0_watching 83 = .ok (.getfield 12, 3) := dk_180 0 12 (dk_at dksX0_watching_4 5 rfl rfl)
theorem dX0_watching_86 : decode cX0_watching 86 = .ok (.getfield 340, 3) := dk_180 1 84 (dk_at dksX0_watching_4 8 rfl rfl)
theorem dX0_watching_89 : decode cX0_watching 89 = .ok (.iload_n 1, 1) := dk_27 (dk_at dksX0_watching_4 11 rfl rfl)
theorem dX0_watching_90 : decode cX0_watching 90 = .ok (.aaload, 1) := dk_50 (dk_at dksX0_watching_4 12 rfl rfl)
theorem dX0_watching_91 : decode cX0_watching 91 = .ok (.getfield 347, 3) := dk_180 1 91 (dk_at dksX0_watching_4 13 rfl rfl)
theorem dX0_watching_94 : decode cX0_watching 94 = .ok (.ireturn, 1) := dk_172 (dk_at dksX0_watching_4 16 rfl rfl)
theorem dX0_watching_95 : decode cX0_watching 95 = .ok (.iconst (-1), 1) := dk_2 (dk_at dksX0_watching_4 17 rfl rfl)
theorem dX0_watching_96 : decode cX0_watching 96 = .ok (.ireturn, 1) := dk_172 (dk_at dksX0_watching_4 18 rfl rfl)
abbrev cX0_all : ByteArray := prog_1_method_50_code
def yX0_all : MethodName := ⟨RX0, "all", "(I)I"⟩
def dkwX0_all_7 : List UInt8 := [96, 61, 132, 3, 1, 167, 255, 227, 28, 172, 2, 172]
abbrev dktX0_all_7 : List UInt8 := dkwX0_all_7 ++ []
def dkwX0_all_6 : List UInt8 := [29, 42, 180, 0, 12, 180, 0, 53, 162, 0, 24, 28, 42, 180, 0, 12, 180, 0, 65, 29, 50, 180, 0, 69]
abbrev dktX0_all_6 : List UInt8 := dkwX0_all_6 ++ dktX0_all_7
def dkwX0_all_5 : List UInt8 := [167, 0, 4, 3, 96, 61, 132, 3, 1, 167, 255, 224, 28, 172, 42, 180, 0, 12, 180, 1, 65, 172, 3, 62]
abbrev dktX0_all_5 : List UInt8 := dkwX0_all_5 ++ dktX0_all_6
def dkwX0_all_4 : List UInt8 := [62, 29, 16, 12, 162, 0, 32, 28, 42, 180, 0, 12, 180, 1, 46, 29, 50, 180, 0, 121, 153, 0, 7, 4]
abbrev dktX0_all_4 : List UInt8 := dkwX0_all_4 ++ dktX0_all_5
def dkwX0_all_3 : List UInt8 := [29, 50, 180, 0, 197, 199, 0, 7, 3, 167, 0, 4, 4, 96, 61, 132, 3, 1, 167, 255, 224, 28, 172, 3]
abbrev dktX0_all_3 : List UInt8 := dkwX0_all_3 ++ dktX0_all_4
def dkwX0_all_2 : List UInt8 := [42, 180, 0, 12, 180, 0, 53, 172, 3, 62, 29, 16, 16, 162, 0, 32, 28, 42, 180, 0, 12, 180, 0, 193]
abbrev dktX0_all_2 : List UInt8 := dkwX0_all_2 ++ dktX0_all_3
def dkwX0_all_1 : List UInt8 := [170, 0, 0, 0, 163, 0, 0, 0, 0, 0, 0, 0, 4, 0, 0, 0, 33, 0, 0, 0, 41, 0, 0, 0, 80, 0, 0, 0, 119, 0, 0, 0, 127]
abbrev dktX0_all_1 : List UInt8 := dkwX0_all_1 ++ dktX0_all_2
def dkwX0_all_0 : List UInt8 := [3, 61, 27]
abbrev dktX0_all_0 : List UInt8 := dkwX0_all_0 ++ dktX0_all_1
theorem dksX0_all_0 : cX0_all.data.toList.drop 0 = dktX0_all_0 := by decide +kernel
theorem dksX0_all_1 : cX0_all.data.toList.drop 3 = dktX0_all_1 := dk_seg dksX0_all_0 3 rfl rfl
theorem dksX0_all_2 : cX0_all.data.toList.drop 36 = dktX0_all_2 := dk_seg dksX0_all_1 33 rfl rfl
theorem dksX0_all_3 : cX0_all.data.toList.drop 60 = dktX0_all_3 := dk_seg dksX0_all_2 24 rfl rfl
theorem dksX0_all_4 : cX0_all.data.toList.drop 84 = dktX0_all_4 := dk_seg dksX0_all_3 24 rfl rfl
theorem dksX0_all_5 : cX0_all.data.toList.drop 108 = dktX0_all_5 := dk_seg dksX0_all_4 24 rfl rfl
theorem dksX0_all_6 : cX0_all.data.toList.drop 132 = dktX0_all_6 := dk_seg dksX0_all_5 24 rfl rfl
theorem dksX0_all_7 : cX0_all.data.toList.drop 156 = dktX0_all_7 := dk_seg dksX0_all_6 24 rfl rfl
theorem dX0_all_0 : decode cX0_all 0 = .ok (.iconst 0, 1) := dk_3 (dk_at dksX0_all_0 0 rfl rfl)
theorem dX0_all_1 : decode cX0_all 1 = .ok (.istore_n 2, 1) := dk_61 (dk_at dksX0_all_0 1 rfl rfl)
theorem dX0_all_2 : decode cX0_all 2 = .ok (.iload_n 1, 1) := dk_27 (dk_at dksX0_all_0 2 rfl rfl)
theorem dX0_all_3 : decode cX0_all 3 = .ok (.tableswitch 163 0 4 #[33, 41, 80, 119, 127], 33) := by decide +kernel
theorem dX0_all_36 : decode cX0_all 36 = .ok (.aload_n 0, 1) := dk_42 (dk_at dksX0_all_2 0 rfl rfl)
theorem dX0_all_37 : decode cX0_all 37 = .ok (.getfield 12, 3) := dk_180 0 12 (dk_at dksX0_all_2 1 rfl rfl)
theorem dX0_all_40 : decode cX0_all 40 = .ok (.getfield 53, 3) := dk_180 0 53 (dk_at dksX0_all_2 4 rfl rfl)
theorem dX0_all_43 : decode cX0_all 43 = .ok (.ireturn, 1) := dk_172 (dk_at dksX0_all_2 7 rfl rfl)
theorem dX0_all_44 : decode cX0_all 44 = .ok (.iconst 0, 1) := dk_3 (dk_at dksX0_all_2 8 rfl rfl)
theorem dX0_all_45 : decode cX0_all 45 = .ok (.istore_n 3, 1) := dk_62 (dk_at dksX0_all_2 9 rfl rfl)
theorem dX0_all_46 : decode cX0_all 46 = .ok (.iload_n 3, 1) := dk_29 (dk_at dksX0_all_2 10 rfl rfl)
theorem dX0_all_47 : decode cX0_all 47 = .ok (.bipush 16, 2) := dk_16 16 (dk_at dksX0_all_2 11 rfl rfl)
theorem dX0_all_49 : decode cX0_all 49 = .ok (.if_icmp .ge 32, 3) := dk_162 0 32 (dk_at dksX0_all_2 13 rfl rfl)
theorem dX0_all_52 : decode cX0_all 52 = .ok (.iload_n 2, 1) := dk_28 (dk_at dksX0_all_2 16 rfl rfl)
theorem dX0_all_53 : decode cX0_all 53 = .ok (.aload_n 0, 1) := dk_42 (dk_at dksX0_all_2 17 rfl rfl)
theorem dX0_all_54 : decode cX0_all 54 = .ok (.getfield 12, 3) := dk_180 0 12 (dk_at dksX0_all_2 18 rfl rfl)
theorem dX0_all_57 : decode cX0_all 57 = .ok (.getfield 193, 3) := dk_180 0 193 (dk_at dksX0_all_2 21 rfl rfl)
theorem dX0_all_60 : decode cX0_all 60 = .ok (.iload_n 3, 1) := dk_29 (dk_at dksX0_all_3 0 rfl rfl)
theorem dX0_all_61 : decode cX0_all 61 = .ok (.aaload, 1) := dk_50 (dk_at dksX0_all_3 1 rfl rfl)
theorem dX0_all_62 : decode cX0_all 62 = .ok (.getfield 197, 3) := dk_180 0 197 (dk_at dksX0_all_3 2 rfl rfl)
theorem dX0_all_65 : decode cX0_all 65 = .ok (.ifnonnull 7, 3) := dk_199 0 7 (dk_at dksX0_all_3 5 rfl rfl)
theorem dX0_all_68 : decode cX0_all 68 = .ok (.iconst 0, 1) := dk_3 (dk_at dksX0_all_3 8 rfl rfl)
theorem dX0_all_69 : decode cX0_all 69 = .ok (.goto 4, 3) := dk_167 0 4 (dk_at dksX0_all_3 9 rfl rfl)
theorem dX0_all_72 : decode cX0_all 72 = .ok (.iconst 1, 1) := dk_4 (dk_at dksX0_all_3 12 rfl rfl)
theorem dX0_all_73 : decode cX0_all 73 = .ok (.iadd, 1) := dk_96 (dk_at dksX0_all_3 13 rfl rfl)
theorem dX0_all_74 : decode cX0_all 74 = .ok (.istore_n 2, 1) := dk_61 (dk_at dksX0_all_3 14 rfl rfl)
theorem dX0_all_75 : decode cX0_all 75 = .ok (.iinc 3 1, 3) := dk_132 3 1 (dk_at dksX0_all_3 15 rfl rfl)
theorem dX0_all_78 : decode cX0_all 78 = .ok (.goto (-32), 3) := dk_167 255 224 (dk_at dksX0_all_3 18 rfl rfl)
theorem dX0_all_81 : decode cX0_all 81 = .ok (.iload_n 2, 1) := dk_28 (dk_at dksX0_all_3 21 rfl rfl)
theorem dX0_all_82 : decode cX0_all 82 = .ok (.ireturn, 1) := dk_172 (dk_at dksX0_all_3 22 rfl rfl)
theorem dX0_all_83 : decode cX0_all 83 = .ok (.iconst 0, 1) := dk_3 (dk_at dksX0_all_3 23 rfl rfl)
theorem dX0_all_84 : decode cX0_all 84 = .ok (.istore_n 3, 1) := dk_62 (dk_at dksX0_all_4 0 rfl rfl)
theorem dX0_all_85 : decode cX0_all 85 = .ok (.iload_n 3, 1) := dk_29 (dk_at dksX0_all_4 1 rfl rfl)
theorem dX0_all_86 : decode cX0_all 86 = .ok (.bipush 12, 2) := dk_16 12 (dk_at dksX0_all_4 2 rfl rfl)
theorem dX0_all_88 : decode cX0_all 88 = .ok (.if_icmp .ge 32, 3) := dk_162 0 32 (dk_at dksX0_all_4 4 rfl rfl)
theorem dX0_all_91 : decode cX0_all 91 = .ok (.iload_n 2, 1) := dk_28 (dk_at dksX0_all_4 7 rfl rfl)
theorem dX0_all_92 : decode cX0_all 92 = .ok (.aload_n 0, 1) := dk_42 (dk_at dksX0_all_4 8 rfl rfl)
theorem dX0_all_93 : decode cX0_all 93 = .ok (.getfield 12, 3) := dk_180 0 12 (dk_at dksX0_all_4 9 rfl rfl)
theorem dX0_all_96 : decode cX0_all 96 = .ok (.getfield 302, 3) := dk_180 1 46 (dk_at dksX0_all_4 12 rfl rfl)
theorem dX0_all_99 : decode cX0_all 99 = .ok (.iload_n 3, 1) := dk_29 (dk_at dksX0_all_4 15 rfl rfl)
theorem dX0_all_100 : decode cX0_all 100 = .ok (.aaload, 1) := dk_50 (dk_at dksX0_all_4 16 rfl rfl)
theorem dX0_all_101 : decode cX0_all 101 = .ok (.getfield 121, 3) := dk_180 0 121 (dk_at dksX0_all_4 17 rfl rfl)
theorem dX0_all_104 : decode cX0_all 104 = .ok (.ifCond .eq 7, 3) := dk_153 0 7 (dk_at dksX0_all_4 20 rfl rfl)
theorem dX0_all_107 : decode cX0_all 107 = .ok (.iconst 1, 1) := dk_4 (dk_at dksX0_all_4 23 rfl rfl)
theorem dX0_all_108 : decode cX0_all 108 = .ok (.goto 4, 3) := dk_167 0 4 (dk_at dksX0_all_5 0 rfl rfl)
theorem dX0_all_111 : decode cX0_all 111 = .ok (.iconst 0, 1) := dk_3 (dk_at dksX0_all_5 3 rfl rfl)
theorem dX0_all_112 : decode cX0_all 112 = .ok (.iadd, 1) := dk_96 (dk_at dksX0_all_5 4 rfl rfl)
theorem dX0_all_113 : decode cX0_all 113 = .ok (.istore_n 2, 1) := dk_61 (dk_at dksX0_all_5 5 rfl rfl)
theorem dX0_all_114 : decode cX0_all 114 = .ok (.iinc 3 1, 3) := dk_132 3 1 (dk_at dksX0_all_5 6 rfl rfl)
theorem dX0_all_117 : decode cX0_all 117 = .ok (.goto (-32), 3) := dk_167 255 224 (dk_at dksX0_all_5 9 rfl rfl)
theorem dX0_all_120 : decode cX0_all 120 = .ok (.iload_n 2, 1) := dk_28 (dk_at dksX0_all_5 12 rfl rfl)
theorem dX0_all_121 : decode cX0_all 121 = .ok (.ireturn, 1) := dk_172 (dk_at dksX0_all_5 13 rfl rfl)
theorem dX0_all_122 : decode cX0_all 122 = .ok (.aload_n 0, 1) := dk_42 (dk_at dksX0_all_5 14 rfl rfl)
theorem dX0_all_123 : decode cX0_all 123 = .ok (.getfield 12, 3) := dk_180 0 12 (dk_at dksX0_all_5 15 rfl rfl)
theorem dX0_all_126 : decode cX0_all 126 = .ok (.getfield 321, 3) := dk_180 1 65 (dk_at dksX0_all_5 18 rfl rfl)
theorem dX0_all_129 : decode cX0_all 129 = .ok (.ireturn, 1) := dk_172 (dk_at dksX0_all_5 21 rfl rfl)
theorem dX0_all_130 : decode cX0_all 130 = .ok (.iconst 0, 1) := dk_3 (dk_at dksX0_all_5 22 rfl rfl)
theorem dX0_all_131 : decode cX0_all 131 = .ok (.istore_n 3, 1) := dk_62 (dk_at dksX0_all_5 23 rfl rfl)
theorem dX0_all_132 : decode cX0_all 132 = .ok (.iload_n 3, 1) := dk_29 (dk_at dksX0_all_6 0 rfl rfl)
theorem dX0_all_133 : decode cX0_all 133 = .ok (.aload_n 0, 1) := dk_42 (dk_at dksX0_all_6 1 rfl rfl)
theorem dX0_all_134 : decode cX0_all 134 = .ok (.getfield 12, 3) := dk_180 0 12 (dk_at dksX0_all_6 2 rfl rfl)
theorem dX0_all_137 : decode cX0_all 137 = .ok (.getfield 53, 3) := dk_180 0 53 (dk_at dksX0_all_6 5 rfl rfl)
theorem dX0_all_140 : decode cX0_all 140 = .ok (.if_icmp .ge 24, 3) := dk_162 0 24 (dk_at dksX0_all_6 8 rfl rfl)
theorem dX0_all_143 : decode cX0_all 143 = .ok (.iload_n 2, 1) := dk_28 (dk_at dksX0_all_6 11 rfl rfl)
theorem dX0_all_144 : decode cX0_all 144 = .ok (.aload_n 0, 1) := dk_42 (dk_at dksX0_all_6 12 rfl rfl)
theorem dX0_all_145 : decode cX0_all 145 = .ok (.getfield 12, 3) := dk_180 0 12 (dk_at dksX0_all_6 13 rfl rfl)
theorem dX0_all_148 : decode cX0_all 148 = .ok (.getfield 65, 3) := dk_180 0 65 (dk_at dksX0_all_6 16 rfl rfl)
theorem dX0_all_151 : decode cX0_all 151 = .ok (.iload_n 3, 1) := dk_29 (dk_at dksX0_all_6 19 rfl rfl)
theorem dX0_all_152 : decode cX0_all 152 = .ok (.aaload, 1) := dk_50 (dk_at dksX0_all_6 20 rfl rfl)
theorem dX0_all_153 : decode cX0_all 153 = .ok (.getfield 69, 3) := dk_180 0 69 (dk_at dksX0_all_6 21 rfl rfl)
theorem dX0_all_156 : decode cX0_all 156 = .ok (.iadd, 1) := dk_96 (dk_at dksX0_all_7 0 rfl rfl)
theorem dX0_all_157 : decode cX0_all 157 = .ok (.istore_n 2, 1) := dk_61 (dk_at dksX0_all_7 1 rfl rfl)
theorem dX0_all_158 : decode cX0_all 158 = .ok (.iinc 3 1, 3) := dk_132 3 1 (dk_at dksX0_all_7 2 rfl rfl)
theorem dX0_all_161 : decode cX0_all 161 = .ok (.goto (-29), 3) := dk_167 255 227 (dk_at dksX0_all_7 5 rfl rfl)
theorem dX0_all_164 : decode cX0_all 164 = .ok (.iload_n 2, 1) := dk_28 (dk_at dksX0_all_7 8 rfl rfl)
theorem dX0_all_165 : decode cX0_all 165 = .ok (.ireturn, 1) := dk_172 (dk_at dksX0_all_7 9 rfl rfl)
theorem dX0_all_166 : decode cX0_all 166 = .ok (.iconst (-1), 1) := dk_2 (dk_at dksX0_all_7 10 rfl rfl)
theorem dX0_all_167 : decode cX0_all 167 = .ok (.ireturn, 1) := dk_172 (dk_at dksX0_all_7 11 rfl rfl)
abbrev cX0_image : ByteArray := prog_1_method_51_code
def yX0_image : MethodName := ⟨RX0, "image", "()Z"⟩
def dkwX0_image_1 : List UInt8 := [180, 0, 12, 182, 1, 112, 4, 172]
abbrev dktX0_image_1 : List UInt8 := dkwX0_image_1 ++ []
def dkwX0_image_0 : List UInt8 := [42, 180, 1, 109, 199, 0, 14, 42, 187, 0, 9, 89, 183, 0, 11, 181, 1, 109, 42, 180, 1, 109, 42]
abbrev dktX0_image_0 : List UInt8 := dkwX0_image_0 ++ dktX0_image_1
theorem dksX0_image_0 : cX0_image.data.toList.drop 0 = dktX0_image_0 := by decide +kernel
theorem dksX0_image_1 : cX0_image.data.toList.drop 23 = dktX0_image_1 := dk_seg dksX0_image_0 23 rfl rfl
theorem dX0_image_0 : decode cX0_image 0 = .ok (.aload_n 0, 1) := dk_42 (dk_at dksX0_image_0 0 rfl rfl)
theorem dX0_image_1 : decode cX0_image 1 = .ok (.getfield 365, 3) := dk_180 1 109 (dk_at dksX0_image_0 1 rfl rfl)
theorem dX0_image_4 : decode cX0_image 4 = .ok (.ifnonnull 14, 3) := dk_199 0 14 (dk_at dksX0_image_0 4 rfl rfl)
theorem dX0_image_7 : decode cX0_image 7 = .ok (.aload_n 0, 1) := dk_42 (dk_at dksX0_image_0 7 rfl rfl)
theorem dX0_image_8 : decode cX0_image 8 = .ok (.new 9, 3) := dk_187 0 9 (dk_at dksX0_image_0 8 rfl rfl)
theorem dX0_image_11 : decode cX0_image 11 = .ok (.dup, 1) := dk_89 (dk_at dksX0_image_0 11 rfl rfl)
theorem dX0_image_12 : decode cX0_image 12 = .ok (.invokespecial 11, 3) := dk_183 0 11 (dk_at dksX0_image_0 12 rfl rfl)
theorem dX0_image_15 : decode cX0_image 15 = .ok (.putfield 365, 3) := dk_181 1 109 (dk_at dksX0_image_0 15 rfl rfl)
theorem dX0_image_18 : decode cX0_image 18 = .ok (.aload_n 0, 1) := dk_42 (dk_at dksX0_image_0 18 rfl rfl)
theorem dX0_image_19 : decode cX0_image 19 = .ok (.getfield 365, 3) := dk_180 1 109 (dk_at dksX0_image_0 19 rfl rfl)
theorem dX0_image_22 : decode cX0_image 22 = .ok (.aload_n 0, 1) := dk_42 (dk_at dksX0_image_0 22 rfl rfl)
theorem dX0_image_23 : decode cX0_image 23 = .ok (.getfield 12, 3) := dk_180 0 12 (dk_at dksX0_image_1 0 rfl rfl)
theorem dX0_image_26 : decode cX0_image 26 = .ok (.invokevirtual 368, 3) := dk_182 1 112 (dk_at dksX0_image_1 3 rfl rfl)
theorem dX0_image_29 : decode cX0_image 29 = .ok (.iconst 1, 1) := dk_4 (dk_at dksX0_image_1 6 rfl rfl)
theorem dX0_image_30 : decode cX0_image 30 = .ok (.ireturn, 1) := dk_172 (dk_at dksX0_image_1 7 rfl rfl)
abbrev cX0_back : ByteArray := prog_1_method_52_code
def yX0_back : MethodName := ⟨RX0, "back", "()Z"⟩
def dkwX0_back_0 : List UInt8 := [42, 180, 1, 109, 199, 0, 5, 3, 172, 42, 180, 0, 12, 42, 180, 1, 109, 182, 1, 112, 4, 172]
abbrev dktX0_back_0 : List UInt8 := dkwX0_back_0 ++ []
theorem dksX0_back_0 : cX0_back.data.toList.drop 0 = dktX0_back_0 := by decide +kernel
theorem dX0_back_0 : decode cX0_back 0 = .ok (.aload_n 0, 1) := dk_42 (dk_at dksX0_back_0 0 rfl rfl)
theorem dX0_back_1 : decode cX0_back 1 = .ok (.getfield 365, 3) := dk_180 1 109 (dk_at dksX0_back_0 1 rfl rfl)
theorem dX0_back_4 : decode cX0_back 4 = .ok (.ifnonnull 5, 3) := dk_199 0 5 (dk_at dksX0_back_0 4 rfl rfl)
theorem dX0_back_7 : decode cX0_back 7 = .ok (.iconst 0, 1) := dk_3 (dk_at dksX0_back_0 7 rfl rfl)
theorem dX0_back_8 : decode cX0_back 8 = .ok (.ireturn, 1) := dk_172 (dk_at dksX0_back_0 8 rfl rfl)
theorem dX0_back_9 : decode cX0_back 9 = .ok (.aload_n 0, 1) := dk_42 (dk_at dksX0_back_0 9 rfl rfl)
theorem dX0_back_10 : decode cX0_back 10 = .ok (.getfield 12, 3) := dk_180 0 12 (dk_at dksX0_back_0 10 rfl rfl)
theorem dX0_back_13 : decode cX0_back 13 = .ok (.aload_n 0, 1) := dk_42 (dk_at dksX0_back_0 13 rfl rfl)
theorem dX0_back_14 : decode cX0_back 14 = .ok (.getfield 365, 3) := dk_180 1 109 (dk_at dksX0_back_0 14 rfl rfl)
theorem dX0_back_17 : decode cX0_back 17 = .ok (.invokevirtual 368, 3) := dk_182 1 112 (dk_at dksX0_back_0 17 rfl rfl)
theorem dX0_back_20 : decode cX0_back 20 = .ok (.iconst 1, 1) := dk_4 (dk_at dksX0_back_0 20 rfl rfl)
theorem dX0_back_21 : decode cX0_back 21 = .ok (.ireturn, 1) := dk_172 (dk_at dksX0_back_0 21 rfl rfl)
theorem q57 : (Jvm.Cond.initialized "GlassLog") ∈ lw_all := lw_g (lw_at lw_m1 1 rfl) rfl
theorem q86 : (Jvm.Cond.instantiable "GlassLog" (8 : Nat)) ∈ lw_all := lw_g (lw_at lw_m1 30 rfl) rfl
theorem q88 : (Jvm.Cond.instanceMethod ({ cls := "GlassLog", name := "<init>", desc := "()V" } : Jvm.MethodName)) ∈ lw_all := lw_g (lw_at lw_m1 32 rfl) rfl
theorem q89 : (Jvm.Cond.code ({ cls := "GlassLog", name := "<init>", desc := "()V" } : Jvm.MethodName) prog_1_method_6_code (1 : Nat) (Option.none : Option Jvm.ClassFile.FieldType)) ∈ lw_all := lw_g (lw_at lw_m1 33 rfl) rfl
theorem q90 : (Jvm.Cond.methodLink "GlassLog" (3 : Nat) ({ cls := "java/lang/Object", name := "<init>", desc := "()V" } : Jvm.MethodName)) ∈ lw_all := lw_g (lw_at lw_m1 34 rfl) rfl
theorem q93 : (Jvm.Cond.classLink "GlassLog" (9 : Nat) "GlassLog$House") ∈ lw_all := lw_g (lw_at lw_m1 37 rfl) rfl
theorem q95 : (Jvm.Cond.methodLink "GlassLog" (11 : Nat) ({ cls := "GlassLog$House", name := "<init>", desc := "()V" } : Jvm.MethodName)) ∈ lw_all := lw_g (lw_at lw_m1 39 rfl) rfl
theorem q116 : (Jvm.Cond.fieldLinkNest "GlassLog" (214 : Nat) "GlassLog$Log" "keys" "[I" "GlassLog") ∈ lw_tbl := lw_at lw_m1 60 rfl
theorem q120 : (Jvm.Cond.fieldLinkNest "GlassLog" (215 : Nat) "GlassLog$Log" "values" "[J" "GlassLog") ∈ lw_tbl := lw_at lw_m1 64 rfl
theorem q122 : (Jvm.Cond.fieldLinkNest "GlassLog" (96 : Nat) "GlassLog$Log" "gone" "[Z" "GlassLog") ∈ lw_tbl := lw_at lw_m1 66 rfl
theorem q124 : (Jvm.Cond.fieldLinkNest "GlassLog" (100 : Nat) "GlassLog$Log" "told" "[Z" "GlassLog") ∈ lw_tbl := lw_at lw_m1 68 rfl
theorem q126 : (Jvm.Cond.fieldLinkNest "GlassLog" (114 : Nat) "GlassLog$Log" "lags" "[Z" "GlassLog") ∈ lw_tbl := lw_at lw_m1 70 rfl
theorem q128 : (Jvm.Cond.fieldLinkNest "GlassLog" (164 : Nat) "GlassLog$Log" "sums" "[[I" "GlassLog") ∈ lw_tbl := lw_at lw_m1 72 rfl
theorem q130 : (Jvm.Cond.fieldLinkNest "GlassLog" (103 : Nat) "GlassLog$Log" "keeper" "I" "GlassLog") ∈ lw_tbl := lw_at lw_m1 74 rfl
theorem q133 : (Jvm.Cond.fieldLinkNest "GlassLog" (69 : Nat) "GlassLog$Log" "many" "I" "GlassLog") ∈ lw_tbl := lw_at lw_m1 77 rfl
theorem q135 : (Jvm.Cond.fieldLinkNest "GlassLog" (111 : Nat) "GlassLog$Log" "liesMany" "I" "GlassLog") ∈ lw_tbl := lw_at lw_m1 79 rfl
theorem q168 : (Jvm.Cond.fieldLinkNest "GlassLog" (197 : Nat) "GlassLog$Slot" "held" "Ljava/lang/Object;" "GlassLog") ∈ lw_tbl := lw_at lw_m1 112 rfl
theorem q180 : (Jvm.Cond.fieldLinkNest "GlassLog" (138 : Nat) "GlassLog$Head" "top" "[I" "GlassLog") ∈ lw_tbl := lw_at lw_m1 124 rfl
theorem q183 : (Jvm.Cond.fieldLinkNest "GlassLog" (144 : Nat) "GlassLog$Head" "tree" "[I" "GlassLog") ∈ lw_tbl := lw_at lw_m1 127 rfl
theorem q185 : (Jvm.Cond.fieldLinkNest "GlassLog" (148 : Nat) "GlassLog$Head" "mark" "[I" "GlassLog") ∈ lw_tbl := lw_at lw_m1 129 rfl
theorem q190 : (Jvm.Cond.fieldLinkNest "GlassLog" (125 : Nat) "GlassLog$Head" "n" "I" "GlassLog") ∈ lw_tbl := lw_at lw_m1 134 rfl
theorem q192 : (Jvm.Cond.fieldLinkNest "GlassLog" (128 : Nat) "GlassLog$Head" "log" "I" "GlassLog") ∈ lw_tbl := lw_at lw_m1 136 rfl
theorem q194 : (Jvm.Cond.fieldLinkNest "GlassLog" (131 : Nat) "GlassLog$Head" "keeper" "I" "GlassLog") ∈ lw_tbl := lw_at lw_m1 138 rfl
theorem q196 : (Jvm.Cond.fieldLinkNest "GlassLog" (121 : Nat) "GlassLog$Head" "is" "Z" "GlassLog") ∈ lw_tbl := lw_at lw_m1 140 rfl
theorem q218 : (Jvm.Cond.fieldLinkNest "GlassLog" (361 : Nat) "GlassLog$Watcher" "keys" "[I" "GlassLog") ∈ lw_tbl := lw_at lw_m1 162 rfl
theorem q220 : (Jvm.Cond.fieldLinkNest "GlassLog" (362 : Nat) "GlassLog$Watcher" "last" "[I" "GlassLog") ∈ lw_tbl := lw_at lw_m1 164 rfl
theorem q222 : (Jvm.Cond.fieldLinkNest "GlassLog" (347 : Nat) "GlassLog$Watcher" "log" "I" "GlassLog") ∈ lw_tbl := lw_at lw_m1 166 rfl
theorem q224 : (Jvm.Cond.fieldLinkNest "GlassLog" (348 : Nat) "GlassLog$Watcher" "low" "I" "GlassLog") ∈ lw_tbl := lw_at lw_m1 168 rfl
theorem q226 : (Jvm.Cond.fieldLinkNest "GlassLog" (351 : Nat) "GlassLog$Watcher" "high" "I" "GlassLog") ∈ lw_tbl := lw_at lw_m1 170 rfl
theorem q228 : (Jvm.Cond.fieldLinkNest "GlassLog" (354 : Nat) "GlassLog$Watcher" "gone" "I" "GlassLog") ∈ lw_tbl := lw_at lw_m1 172 rfl
theorem q230 : (Jvm.Cond.fieldLinkNest "GlassLog" (356 : Nat) "GlassLog$Watcher" "many" "I" "GlassLog") ∈ lw_tbl := lw_at lw_m1 174 rfl
theorem q232 : (Jvm.Cond.fieldLinkNest "GlassLog" (344 : Nat) "GlassLog$Watcher" "is" "Z" "GlassLog") ∈ lw_tbl := lw_at lw_m1 176 rfl
theorem q251 : (Jvm.Cond.fieldLinkNest "GlassLog" (65 : Nat) "GlassLog$House" "logs" "[LGlassLog$Log;" "GlassLog") ∈ lw_tbl := lw_at lw_m1 195 rfl
theorem q253 : (Jvm.Cond.fieldLinkNest "GlassLog" (193 : Nat) "GlassLog$House" "slots" "[LGlassLog$Slot;" "GlassLog") ∈ lw_tbl := lw_at lw_m1 197 rfl
theorem q255 : (Jvm.Cond.fieldLinkNest "GlassLog" (302 : Nat) "GlassLog$House" "heads" "[LGlassLog$Head;" "GlassLog") ∈ lw_tbl := lw_at lw_m1 199 rfl
theorem q257 : (Jvm.Cond.fieldLinkNest "GlassLog" (324 : Nat) "GlassLog$House" "blamed" "[LGlassLog$Head;" "GlassLog") ∈ lw_tbl := lw_at lw_m1 201 rfl
theorem q259 : (Jvm.Cond.fieldLinkNest "GlassLog" (340 : Nat) "GlassLog$House" "watchers" "[LGlassLog$Watcher;" "GlassLog") ∈ lw_tbl := lw_at lw_m1 203 rfl
theorem q261 : (Jvm.Cond.fieldLinkNest "GlassLog" (334 : Nat) "GlassLog$House" "blames" "[I" "GlassLog") ∈ lw_tbl := lw_at lw_m1 205 rfl
theorem q263 : (Jvm.Cond.fieldLinkNest "GlassLog" (53 : Nat) "GlassLog$House" "opened" "I" "GlassLog") ∈ lw_tbl := lw_at lw_m1 207 rfl
theorem q265 : (Jvm.Cond.fieldLinkNest "GlassLog" (321 : Nat) "GlassLog$House" "blame" "I" "GlassLog") ∈ lw_tbl := lw_at lw_m1 209 rfl
theorem q283 : (Jvm.Cond.classLink "GlassLog" (16 : Nat) "GlassLog$Mixer") ∈ lw_all := lw_g (lw_at lw_m1 227 rfl) rfl
theorem q285 : (Jvm.Cond.methodLinkNest "GlassLog" (18 : Nat) ({ cls := "GlassLog$Mixer", name := "<init>", desc := "()V" } : Jvm.MethodName) "GlassLog") ∈ lw_tbl := lw_at lw_m1 229 rfl
theorem q296 : (Jvm.Cond.classLink "GlassLog" (23 : Nat) "GlassLog$Pile") ∈ lw_all := lw_g (lw_at lw_m2 0 rfl) rfl
theorem q298 : (Jvm.Cond.methodLink "GlassLog" (25 : Nat) ({ cls := "GlassLog$Pile", name := "<init>", desc := "(LGlassLog$Mixer;)V" } : Jvm.MethodName)) ∈ lw_all := lw_g (lw_at lw_m2 2 rfl) rfl
theorem q318 : (Jvm.Cond.classLink "GlassLog" (32 : Nat) "GlassLog$Map") ∈ lw_all := lw_g (lw_at lw_m2 22 rfl) rfl
theorem q320 : (Jvm.Cond.methodLink "GlassLog" (34 : Nat) ({ cls := "GlassLog$Map", name := "<init>", desc := "(LGlassLog$Mixer;)V" } : Jvm.MethodName)) ∈ lw_all := lw_g (lw_at lw_m2 24 rfl) rfl
theorem q326 : (Jvm.Cond.fieldLinkNest "GlassLog" (261 : Nat) "GlassLog$Map" "keys" "[I" "GlassLog") ∈ lw_tbl := lw_at lw_m2 30 rfl
theorem q328 : (Jvm.Cond.fieldLinkNest "GlassLog" (247 : Nat) "GlassLog$Map" "latest" "[I" "GlassLog") ∈ lw_tbl := lw_at lw_m2 32 rfl
theorem q333 : (Jvm.Cond.fieldLinkNest "GlassLog" (110 : Nat) "GlassLog$Map" "many" "I" "GlassLog") ∈ lw_tbl := lw_at lw_m2 37 rfl
theorem q335 : (Jvm.Cond.fieldLinkNest "GlassLog" (254 : Nat) "GlassLog$Map" "partings" "I" "GlassLog") ∈ lw_tbl := lw_at lw_m2 39 rfl
theorem q337 : (Jvm.Cond.fieldLinkNest "GlassLog" (249 : Nat) "GlassLog$Map" "alone" "I" "GlassLog") ∈ lw_tbl := lw_at lw_m2 41 rfl
theorem q357 : (Jvm.Cond.classLink "GlassLog" (39 : Nat) "GlassLog$Head") ∈ lw_all := lw_g (lw_at lw_m2 61 rfl) rfl
theorem q358 : (Jvm.Cond.methodLinkNest "GlassLog" (41 : Nat) ({ cls := "GlassLog$Head", name := "<init>", desc := "()V" } : Jvm.MethodName) "GlassLog") ∈ lw_tbl := lw_at lw_m2 62 rfl
theorem q359 : (Jvm.Cond.fieldLink "GlassLog" (12 : Nat) "GlassLog" "now" "LGlassLog$House;") ∈ lw_all := lw_g (lw_at lw_m2 63 rfl) rfl
theorem q360 : (Jvm.Cond.fieldLink "GlassLog" (19 : Nat) "GlassLog" "mixer" "LGlassLog$Mixer;") ∈ lw_all := lw_g (lw_at lw_m2 64 rfl) rfl
theorem q361 : (Jvm.Cond.fieldLink "GlassLog" (28 : Nat) "GlassLog" "pile" "LGlassLog$Pile;") ∈ lw_all := lw_g (lw_at lw_m2 65 rfl) rfl
theorem q362 : (Jvm.Cond.fieldLink "GlassLog" (35 : Nat) "GlassLog" "map" "LGlassLog$Map;") ∈ lw_all := lw_g (lw_at lw_m2 66 rfl) rfl
theorem q363 : (Jvm.Cond.fieldLink "GlassLog" (42 : Nat) "GlassLog" "asked" "LGlassLog$Head;") ∈ lw_all := lw_g (lw_at lw_m2 67 rfl) rfl
theorem q364 : (Jvm.Cond.fieldLink "GlassLog" (46 : Nat) "GlassLog" "scratch" "[I") ∈ lw_all := lw_g (lw_at lw_m2 68 rfl) rfl
theorem q365 : (Jvm.Cond.fieldLink "GlassLog" (50 : Nat) "GlassLog" "mark" "[I") ∈ lw_all := lw_g (lw_at lw_m2 69 rfl) rfl
theorem q366 : (Jvm.Cond.fieldLink "GlassLog" (365 : Nat) "GlassLog" "kept" "LGlassLog$House;") ∈ lw_all := lw_g (lw_at lw_m2 70 rfl) rfl
theorem q367 : (Jvm.Cond.laysFinal "GlassLog" "GlassLog" "now" "LGlassLog$House;") ∈ lw_all := lw_g (lw_at lw_m2 71 rfl) rfl
theorem q368 : (Jvm.Cond.soleField "GlassLog" "now") ∈ lw_all := lw_g (lw_at lw_m2 72 rfl) rfl
theorem q369 : (Jvm.Cond.laysFinal "GlassLog" "GlassLog" "mixer" "LGlassLog$Mixer;") ∈ lw_all := lw_g (lw_at lw_m2 73 rfl) rfl
theorem q370 : (Jvm.Cond.soleField "GlassLog" "mixer") ∈ lw_all := lw_g (lw_at lw_m2 74 rfl) rfl
theorem q371 : (Jvm.Cond.laysFinal "GlassLog" "GlassLog" "pile" "LGlassLog$Pile;") ∈ lw_all := lw_g (lw_at lw_m2 75 rfl) rfl
theorem q372 : (Jvm.Cond.soleField "GlassLog" "pile") ∈ lw_all := lw_g (lw_at lw_m2 76 rfl) rfl
theorem q373 : (Jvm.Cond.laysFinal "GlassLog" "GlassLog" "map" "LGlassLog$Map;") ∈ lw_all := lw_g (lw_at lw_m2 77 rfl) rfl
theorem q374 : (Jvm.Cond.soleField "GlassLog" "map") ∈ lw_all := lw_g (lw_at lw_m2 78 rfl) rfl
theorem q375 : (Jvm.Cond.laysFinal "GlassLog" "GlassLog" "asked" "LGlassLog$Head;") ∈ lw_all := lw_g (lw_at lw_m2 79 rfl) rfl
theorem q376 : (Jvm.Cond.soleField "GlassLog" "asked") ∈ lw_all := lw_g (lw_at lw_m2 80 rfl) rfl
theorem q377 : (Jvm.Cond.laysFinal "GlassLog" "GlassLog" "scratch" "[I") ∈ lw_all := lw_g (lw_at lw_m2 81 rfl) rfl
theorem q378 : (Jvm.Cond.soleField "GlassLog" "scratch") ∈ lw_all := lw_g (lw_at lw_m2 82 rfl) rfl
theorem q379 : (Jvm.Cond.laysFinal "GlassLog" "GlassLog" "mark" "[I") ∈ lw_all := lw_g (lw_at lw_m2 83 rfl) rfl
theorem q380 : (Jvm.Cond.soleField "GlassLog" "mark") ∈ lw_all := lw_g (lw_at lw_m2 84 rfl) rfl
theorem q381 : (Jvm.Cond.lays "GlassLog" "GlassLog" "kept" "LGlassLog$House;") ∈ lw_all := lw_g (lw_at lw_m2 85 rfl) rfl
theorem q382 : (Jvm.Cond.soleField "GlassLog" "kept") ∈ lw_all := lw_g (lw_at lw_m2 86 rfl) rfl
theorem q383 : (Jvm.Cond.superclass "GlassLog" "java/lang/Object") ∈ lw_all := lw_g (lw_at lw_m2 87 rfl) rfl
theorem q385 : (Jvm.Cond.instanceMethod ({ cls := "GlassLog", name := "open", desc := "(I)I" } : Jvm.MethodName)) ∈ lw_all := lw_g (lw_at lw_m2 89 rfl) rfl
theorem q386 : (Jvm.Cond.selects "GlassLog" ({ cls := "GlassLog", name := "open", desc := "(I)I" } : Jvm.MethodName) ({ cls := "GlassLog", name := "open", desc := "(I)I" } : Jvm.MethodName)) ∈ lw_all := lw_g (lw_at lw_m2 90 rfl) rfl
theorem q387 : (Jvm.Cond.code ({ cls := "GlassLog", name := "open", desc := "(I)I" } : Jvm.MethodName) prog_1_method_9_code (2 : Nat) (Option.some Jvm.ClassFile.FieldType.int)) ∈ lw_all := lw_g (lw_at lw_m2 91 rfl) rfl
theorem q388 : (Jvm.Cond.constantLong "GlassLog" (74 : Nat) (3 : Int64)) ∈ lw_all := lw_g (lw_at lw_m2 92 rfl) rfl
theorem q389 : (Jvm.Cond.methodLink "GlassLog" (57 : Nat) ({ cls := "GlassLog", name := "in", desc := "(JJJ)Z" } : Jvm.MethodName)) ∈ lw_all := lw_g (lw_at lw_m2 93 rfl) rfl
theorem q390 : (Jvm.Cond.static ({ cls := "GlassLog", name := "in", desc := "(JJJ)Z" } : Jvm.MethodName)) ∈ lw_all := lw_g (lw_at lw_m2 94 rfl) rfl
theorem q391 : (Jvm.Cond.code ({ cls := "GlassLog", name := "in", desc := "(JJJ)Z" } : Jvm.MethodName) prog_1_method_1_code (6 : Nat) (Option.some Jvm.ClassFile.FieldType.boolean)) ∈ lw_all := lw_g (lw_at lw_m2 95 rfl) rfl
theorem q392 : (Jvm.Cond.methodLink "GlassLog" (76 : Nat) ({ cls := "GlassLog$Log", name := "begin", desc := "(I)V" } : Jvm.MethodName)) ∈ lw_all := lw_g (lw_at lw_m2 96 rfl) rfl
theorem q397 : (Jvm.Cond.instanceMethod ({ cls := "GlassLog", name := "add", desc := "(IIJ)I" } : Jvm.MethodName)) ∈ lw_all := lw_g (lw_at lw_m2 101 rfl) rfl
theorem q398 : (Jvm.Cond.selects "GlassLog" ({ cls := "GlassLog", name := "add", desc := "(IIJ)I" } : Jvm.MethodName) ({ cls := "GlassLog", name := "add", desc := "(IIJ)I" } : Jvm.MethodName)) ∈ lw_all := lw_g (lw_at lw_m2 102 rfl) rfl
theorem q399 : (Jvm.Cond.code ({ cls := "GlassLog", name := "add", desc := "(IIJ)I" } : Jvm.MethodName) prog_1_method_10_code (5 : Nat) (Option.some Jvm.ClassFile.FieldType.int)) ∈ lw_all := lw_g (lw_at lw_m2 103 rfl) rfl
theorem q400 : (Jvm.Cond.methodLink "GlassLog" (61 : Nat) ({ cls := "GlassLog", name := "isLog", desc := "(I)Z" } : Jvm.MethodName)) ∈ lw_all := lw_g (lw_at lw_m2 104 rfl) rfl
theorem q401 : (Jvm.Cond.privateMethod ({ cls := "GlassLog", name := "isLog", desc := "(I)Z" } : Jvm.MethodName)) ∈ lw_tbl := lw_at lw_m2 105 rfl
theorem q402 : (Jvm.Cond.instanceMethod ({ cls := "GlassLog", name := "isLog", desc := "(I)Z" } : Jvm.MethodName)) ∈ lw_all := lw_g (lw_at lw_m2 106 rfl) rfl
theorem q403 : (Jvm.Cond.code ({ cls := "GlassLog", name := "isLog", desc := "(I)Z" } : Jvm.MethodName) prog_1_method_7_code (2 : Nat) (Option.some Jvm.ClassFile.FieldType.boolean)) ∈ lw_all := lw_g (lw_at lw_m2 107 rfl) rfl
theorem q404 : (Jvm.Cond.methodLink "GlassLog" (80 : Nat) ({ cls := "GlassLog$Log", name := "add", desc := "(LGlassLog$Mixer;IJ)V" } : Jvm.MethodName)) ∈ lw_all := lw_g (lw_at lw_m2 108 rfl) rfl
theorem q438 : (Jvm.Cond.instanceMethod ({ cls := "GlassLog", name := "fork", desc := "(II)I" } : Jvm.MethodName)) ∈ lw_all := lw_g (lw_at lw_m2 142 rfl) rfl
theorem q439 : (Jvm.Cond.selects "GlassLog" ({ cls := "GlassLog", name := "fork", desc := "(II)I" } : Jvm.MethodName) ({ cls := "GlassLog", name := "fork", desc := "(II)I" } : Jvm.MethodName)) ∈ lw_all := lw_g (lw_at lw_m2 143 rfl) rfl
theorem q440 : (Jvm.Cond.code ({ cls := "GlassLog", name := "fork", desc := "(II)I" } : Jvm.MethodName) prog_1_method_11_code (3 : Nat) (Option.some Jvm.ClassFile.FieldType.int)) ∈ lw_all := lw_g (lw_at lw_m2 144 rfl) rfl
theorem q441 : (Jvm.Cond.methodLink "GlassLog" (84 : Nat) ({ cls := "GlassLog", name := "isCount", desc := "(II)Z" } : Jvm.MethodName)) ∈ lw_all := lw_g (lw_at lw_m2 145 rfl) rfl
theorem q442 : (Jvm.Cond.privateMethod ({ cls := "GlassLog", name := "isCount", desc := "(II)Z" } : Jvm.MethodName)) ∈ lw_tbl := lw_at lw_m2 146 rfl
theorem q443 : (Jvm.Cond.instanceMethod ({ cls := "GlassLog", name := "isCount", desc := "(II)Z" } : Jvm.MethodName)) ∈ lw_all := lw_g (lw_at lw_m2 147 rfl) rfl
theorem q444 : (Jvm.Cond.code ({ cls := "GlassLog", name := "isCount", desc := "(II)Z" } : Jvm.MethodName) prog_1_method_8_code (3 : Nat) (Option.some Jvm.ClassFile.FieldType.boolean)) ∈ lw_all := lw_g (lw_at lw_m2 148 rfl) rfl
theorem q445 : (Jvm.Cond.methodLink "GlassLog" (88 : Nat) ({ cls := "GlassLog$Log", name := "become", desc := "(LGlassLog$Log;IZ)V" } : Jvm.MethodName)) ∈ lw_all := lw_g (lw_at lw_m2 149 rfl) rfl
theorem q453 : (Jvm.Cond.instanceMethod ({ cls := "GlassLog", name := "hide", desc := "(II)Z" } : Jvm.MethodName)) ∈ lw_all := lw_g (lw_at lw_m2 157 rfl) rfl
theorem q454 : (Jvm.Cond.selects "GlassLog" ({ cls := "GlassLog", name := "hide", desc := "(II)Z" } : Jvm.MethodName) ({ cls := "GlassLog", name := "hide", desc := "(II)Z" } : Jvm.MethodName)) ∈ lw_all := lw_g (lw_at lw_m2 158 rfl) rfl
theorem q455 : (Jvm.Cond.code ({ cls := "GlassLog", name := "hide", desc := "(II)Z" } : Jvm.MethodName) prog_1_method_12_code (3 : Nat) (Option.some Jvm.ClassFile.FieldType.boolean)) ∈ lw_all := lw_g (lw_at lw_m2 159 rfl) rfl
theorem q456 : (Jvm.Cond.methodLink "GlassLog" (92 : Nat) ({ cls := "GlassLog$Log", name := "lies", desc := "(IZ)Z" } : Jvm.MethodName)) ∈ lw_all := lw_g (lw_at lw_m2 160 rfl) rfl
theorem q465 : (Jvm.Cond.instanceMethod ({ cls := "GlassLog", name := "lag", desc := "(II)Z" } : Jvm.MethodName)) ∈ lw_all := lw_g (lw_at lw_m2 169 rfl) rfl
theorem q466 : (Jvm.Cond.selects "GlassLog" ({ cls := "GlassLog", name := "lag", desc := "(II)Z" } : Jvm.MethodName) ({ cls := "GlassLog", name := "lag", desc := "(II)Z" } : Jvm.MethodName)) ∈ lw_all := lw_g (lw_at lw_m2 170 rfl) rfl
theorem q467 : (Jvm.Cond.code ({ cls := "GlassLog", name := "lag", desc := "(II)Z" } : Jvm.MethodName) prog_1_method_13_code (3 : Nat) (Option.some Jvm.ClassFile.FieldType.boolean)) ∈ lw_all := lw_g (lw_at lw_m2 171 rfl) rfl
theorem q469 : (Jvm.Cond.instanceMethod ({ cls := "GlassLog", name := "prune", desc := "(II)I" } : Jvm.MethodName)) ∈ lw_all := lw_g (lw_at lw_m2 173 rfl) rfl
theorem q470 : (Jvm.Cond.selects "GlassLog" ({ cls := "GlassLog", name := "prune", desc := "(II)I" } : Jvm.MethodName) ({ cls := "GlassLog", name := "prune", desc := "(II)I" } : Jvm.MethodName)) ∈ lw_all := lw_g (lw_at lw_m2 174 rfl) rfl
theorem q471 : (Jvm.Cond.code ({ cls := "GlassLog", name := "prune", desc := "(II)I" } : Jvm.MethodName) prog_1_method_14_code (6 : Nat) (Option.some Jvm.ClassFile.FieldType.int)) ∈ lw_all := lw_g (lw_at lw_m2 175 rfl) rfl
theorem q473 : (Jvm.Cond.instanceMethod ({ cls := "GlassLog", name := "keep", desc := "(II)Z" } : Jvm.MethodName)) ∈ lw_all := lw_g (lw_at lw_m2 177 rfl) rfl
theorem q474 : (Jvm.Cond.selects "GlassLog" ({ cls := "GlassLog", name := "keep", desc := "(II)Z" } : Jvm.MethodName) ({ cls := "GlassLog", name := "keep", desc := "(II)Z" } : Jvm.MethodName)) ∈ lw_all := lw_g (lw_at lw_m2 178 rfl) rfl
theorem q475 : (Jvm.Cond.code ({ cls := "GlassLog", name := "keep", desc := "(II)Z" } : Jvm.MethodName) prog_1_method_15_code (3 : Nat) (Option.some Jvm.ClassFile.FieldType.boolean)) ∈ lw_all := lw_g (lw_at lw_m2 179 rfl) rfl
theorem q477 : (Jvm.Cond.instanceMethod ({ cls := "GlassLog", name := "count", desc := "(II)I" } : Jvm.MethodName)) ∈ lw_all := lw_g (lw_at lw_m2 181 rfl) rfl
theorem q478 : (Jvm.Cond.selects "GlassLog" ({ cls := "GlassLog", name := "count", desc := "(II)I" } : Jvm.MethodName) ({ cls := "GlassLog", name := "count", desc := "(II)I" } : Jvm.MethodName)) ∈ lw_all := lw_g (lw_at lw_m2 182 rfl) rfl
theorem q479 : (Jvm.Cond.code ({ cls := "GlassLog", name := "count", desc := "(II)I" } : Jvm.MethodName) prog_1_method_16_code (6 : Nat) (Option.some Jvm.ClassFile.FieldType.int)) ∈ lw_all := lw_g (lw_at lw_m2 183 rfl) rfl
theorem q480 : (Jvm.Cond.methodLink "GlassLog" (106 : Nat) ({ cls := "GlassLog$Map", name := "of", desc := "(LGlassLog$Log;I)V" } : Jvm.MethodName)) ∈ lw_all := lw_g (lw_at lw_m2 184 rfl) rfl
theorem q509 : (Jvm.Cond.instanceMethod ({ cls := "GlassLog", name := "latest", desc := "(III)I" } : Jvm.MethodName)) ∈ lw_all := lw_g (lw_at lw_m2 213 rfl) rfl
theorem q510 : (Jvm.Cond.selects "GlassLog" ({ cls := "GlassLog", name := "latest", desc := "(III)I" } : Jvm.MethodName) ({ cls := "GlassLog", name := "latest", desc := "(III)I" } : Jvm.MethodName)) ∈ lw_all := lw_g (lw_at lw_m2 214 rfl) rfl
theorem q511 : (Jvm.Cond.code ({ cls := "GlassLog", name := "latest", desc := "(III)I" } : Jvm.MethodName) prog_1_method_17_code (4 : Nat) (Option.some Jvm.ClassFile.FieldType.int)) ∈ lw_all := lw_g (lw_at lw_m2 215 rfl) rfl
theorem q512 : (Jvm.Cond.methodLink "GlassLog" (117 : Nat) ({ cls := "GlassLog$Log", name := "latest", desc := "(II)I" } : Jvm.MethodName)) ∈ lw_all := lw_g (lw_at lw_m2 216 rfl) rfl
theorem q514 : (Jvm.Cond.instanceMethod ({ cls := "GlassLog", name := "head", desc := "(IIII)I" } : Jvm.MethodName)) ∈ lw_all := lw_g (lw_at lw_m2 218 rfl) rfl
theorem q515 : (Jvm.Cond.selects "GlassLog" ({ cls := "GlassLog", name := "head", desc := "(IIII)I" } : Jvm.MethodName) ({ cls := "GlassLog", name := "head", desc := "(IIII)I" } : Jvm.MethodName)) ∈ lw_all := lw_g (lw_at lw_m2 219 rfl) rfl
theorem q516 : (Jvm.Cond.code ({ cls := "GlassLog", name := "head", desc := "(IIII)I" } : Jvm.MethodName) prog_1_method_19_code (6 : Nat) (Option.some Jvm.ClassFile.FieldType.int)) ∈ lw_all := lw_g (lw_at lw_m2 220 rfl) rfl
theorem q517 : (Jvm.Cond.constantLong "GlassLog" (153 : Nat) (2 : Int64)) ∈ lw_all := lw_g (lw_at lw_m2 221 rfl) rfl
theorem q518 : (Jvm.Cond.constantLong "GlassLog" (155 : Nat) (7 : Int64)) ∈ lw_all := lw_g (lw_at lw_m2 222 rfl) rfl
theorem q519 : (Jvm.Cond.methodLink "GlassLog" (157 : Nat) ({ cls := "GlassLog", name := "headOf", desc := "(II)LGlassLog$Head;" } : Jvm.MethodName)) ∈ lw_all := lw_g (lw_at lw_m2 223 rfl) rfl
theorem q520 : (Jvm.Cond.privateMethod ({ cls := "GlassLog", name := "headOf", desc := "(II)LGlassLog$Head;" } : Jvm.MethodName)) ∈ lw_tbl := lw_at lw_m2 224 rfl
theorem q521 : (Jvm.Cond.instanceMethod ({ cls := "GlassLog", name := "headOf", desc := "(II)LGlassLog$Head;" } : Jvm.MethodName)) ∈ lw_all := lw_g (lw_at lw_m2 225 rfl) rfl
theorem q522 : (Jvm.Cond.code ({ cls := "GlassLog", name := "headOf", desc := "(II)LGlassLog$Head;" } : Jvm.MethodName) prog_1_method_18_code (4 : Nat) (Option.some (Jvm.ClassFile.FieldType.object "GlassLog$Head"))) ∈ lw_all := lw_g (lw_at lw_m2 226 rfl) rfl
theorem q523 : (Jvm.Cond.methodLink "GlassLog" (132 : Nat) ({ cls := "GlassLog$Pile", name := "begin", desc := "()V" } : Jvm.MethodName)) ∈ lw_all := lw_g (lw_at lw_m2 227 rfl) rfl
theorem q527 : (Jvm.Cond.methodLink "GlassLog" (134 : Nat) ({ cls := "GlassLog$Log", name := "blocks", desc := "(LGlassLog$Pile;II)V" } : Jvm.MethodName)) ∈ lw_all := lw_g (lw_at lw_m2 231 rfl) rfl
theorem q532 : (Jvm.Cond.static ({ cls := "GlassLog", name := "level", desc := "(II)I" } : Jvm.MethodName)) ∈ lw_all := lw_g (lw_at lw_m2 236 rfl) rfl
theorem q533 : (Jvm.Cond.code ({ cls := "GlassLog", name := "level", desc := "(II)I" } : Jvm.MethodName) prog_1_method_5_code (3 : Nat) (Option.some Jvm.ClassFile.FieldType.int)) ∈ lw_all := lw_g (lw_at lw_m2 237 rfl) rfl
theorem q540 : (Jvm.Cond.methodLink "GlassLog" (141 : Nat) ({ cls := "GlassLog$Pile", name := "top", desc := "([II)V" } : Jvm.MethodName)) ∈ lw_all := lw_g (lw_at lw_m3 4 rfl) rfl
theorem q545 : (Jvm.Cond.static ({ cls := "GlassLog", name := "clear", desc := "([II)V" } : Jvm.MethodName)) ∈ lw_all := lw_g (lw_at lw_m3 9 rfl) rfl
theorem q546 : (Jvm.Cond.code ({ cls := "GlassLog", name := "clear", desc := "([II)V" } : Jvm.MethodName) prog_1_method_2_code (3 : Nat) (Option.none : Option Jvm.ClassFile.FieldType)) ∈ lw_all := lw_g (lw_at lw_m3 10 rfl) rfl
theorem q547 : (Jvm.Cond.methodLink "GlassLog" (147 : Nat) ({ cls := "GlassLog$Map", name := "top", desc := "([II)V" } : Jvm.MethodName)) ∈ lw_all := lw_g (lw_at lw_m3 11 rfl) rfl
theorem q565 : (Jvm.Cond.static ({ cls := "GlassLog", name := "bit", desc := "([III)Z" } : Jvm.MethodName)) ∈ lw_all := lw_g (lw_at lw_m3 29 rfl) rfl
theorem q566 : (Jvm.Cond.code ({ cls := "GlassLog", name := "bit", desc := "([III)Z" } : Jvm.MethodName) prog_1_method_4_code (3 : Nat) (Option.some Jvm.ClassFile.FieldType.boolean)) ∈ lw_all := lw_g (lw_at lw_m3 30 rfl) rfl
theorem q568 : (Jvm.Cond.methodLink "GlassLog" (149 : Nat) ({ cls := "GlassLog$Head", name := "marks", desc := "(LGlassLog$Mixer;[I)V" } : Jvm.MethodName)) ∈ lw_all := lw_g (lw_at lw_m3 32 rfl) rfl
theorem q578 : (Jvm.Cond.instanceMethod ({ cls := "GlassLog", name := "within", desc := "(IIII)I" } : Jvm.MethodName)) ∈ lw_all := lw_g (lw_at lw_m3 42 rfl) rfl
theorem q579 : (Jvm.Cond.selects "GlassLog" ({ cls := "GlassLog", name := "within", desc := "(IIII)I" } : Jvm.MethodName) ({ cls := "GlassLog", name := "within", desc := "(IIII)I" } : Jvm.MethodName)) ∈ lw_all := lw_g (lw_at lw_m3 43 rfl) rfl
theorem q580 : (Jvm.Cond.code ({ cls := "GlassLog", name := "within", desc := "(IIII)I" } : Jvm.MethodName) prog_1_method_24_code (5 : Nat) (Option.some Jvm.ClassFile.FieldType.int)) ∈ lw_all := lw_g (lw_at lw_m3 44 rfl) rfl
theorem q581 : (Jvm.Cond.methodLink "GlassLog" (224 : Nat) ({ cls := "GlassLog", name := "isSlot", desc := "(I)Z" } : Jvm.MethodName)) ∈ lw_all := lw_g (lw_at lw_m3 45 rfl) rfl
theorem q582 : (Jvm.Cond.static ({ cls := "GlassLog", name := "isSlot", desc := "(I)Z" } : Jvm.MethodName)) ∈ lw_all := lw_g (lw_at lw_m3 46 rfl) rfl
theorem q583 : (Jvm.Cond.code ({ cls := "GlassLog", name := "isSlot", desc := "(I)Z" } : Jvm.MethodName) prog_1_method_22_code (1 : Nat) (Option.some Jvm.ClassFile.FieldType.boolean)) ∈ lw_all := lw_g (lw_at lw_m3 47 rfl) rfl
theorem q584 : (Jvm.Cond.constantLong "GlassLog" (203 : Nat) (15 : Int64)) ∈ lw_all := lw_g (lw_at lw_m3 48 rfl) rfl
theorem q585 : (Jvm.Cond.classLink "GlassLog" (227 : Nat) "GlassLog$Within") ∈ lw_all := lw_g (lw_at lw_m3 49 rfl) rfl
theorem q587 : (Jvm.Cond.methodLinkNest "GlassLog" (229 : Nat) ({ cls := "GlassLog$Within", name := "<init>", desc := "()V" } : Jvm.MethodName) "GlassLog") ∈ lw_tbl := lw_at lw_m3 51 rfl
theorem q598 : (Jvm.Cond.fieldLink "GlassLog" (205 : Nat) "GlassLog$Span" "keys" "[I") ∈ lw_all := lw_g (lw_at lw_m3 62 rfl) rfl
theorem q600 : (Jvm.Cond.fieldLink "GlassLog" (210 : Nat) "GlassLog$Span" "values" "[J") ∈ lw_all := lw_g (lw_at lw_m3 64 rfl) rfl
theorem q608 : (Jvm.Cond.fieldLink "GlassLog" (174 : Nat) "GlassLog$Proof" "n" "I") ∈ lw_all := lw_g (lw_at lw_m3 72 rfl) rfl
theorem q614 : (Jvm.Cond.fieldLink "GlassLog" (177 : Nat) "GlassLog$Proof" "first" "I") ∈ lw_all := lw_g (lw_at lw_m3 78 rfl) rfl
theorem q616 : (Jvm.Cond.fieldLink "GlassLog" (180 : Nat) "GlassLog$Proof" "second" "I") ∈ lw_all := lw_g (lw_at lw_m3 80 rfl) rfl
theorem q620 : (Jvm.Cond.fieldLink "GlassLog" (183 : Nat) "GlassLog$Proof" "many" "I") ∈ lw_all := lw_g (lw_at lw_m3 84 rfl) rfl
theorem q624 : (Jvm.Cond.fieldLink "GlassLog" (190 : Nat) "GlassLog$Proof" "steps" "[I") ∈ lw_all := lw_g (lw_at lw_m3 88 rfl) rfl
theorem q640 : (Jvm.Cond.methodLink "GlassLog" (230 : Nat) ({ cls := "GlassLog", name := "spans", desc := "(ILGlassLog$Span;LGlassLog$Log;IIII)I" } : Jvm.MethodName)) ∈ lw_all := lw_g (lw_at lw_m3 104 rfl) rfl
theorem q641 : (Jvm.Cond.privateMethod ({ cls := "GlassLog", name := "spans", desc := "(ILGlassLog$Span;LGlassLog$Log;IIII)I" } : Jvm.MethodName)) ∈ lw_tbl := lw_at lw_m3 105 rfl
theorem q642 : (Jvm.Cond.instanceMethod ({ cls := "GlassLog", name := "spans", desc := "(ILGlassLog$Span;LGlassLog$Log;IIII)I" } : Jvm.MethodName)) ∈ lw_all := lw_g (lw_at lw_m3 106 rfl) rfl
theorem q643 : (Jvm.Cond.code ({ cls := "GlassLog", name := "spans", desc := "(ILGlassLog$Span;LGlassLog$Log;IIII)I" } : Jvm.MethodName) prog_1_method_23_code (8 : Nat) (Option.some Jvm.ClassFile.FieldType.int)) ∈ lw_all := lw_g (lw_at lw_m3 107 rfl) rfl
theorem q644 : (Jvm.Cond.methodLink "GlassLog" (168 : Nat) ({ cls := "java/lang/System", name := "arraycopy", desc := "(Ljava/lang/Object;ILjava/lang/Object;II)V" } : Jvm.MethodName)) ∈ lw_all := lw_g (lw_at lw_m3 108 rfl) rfl
theorem q645 : (Jvm.Cond.methodLink "GlassLog" (216 : Nat) ({ cls := "GlassLog", name := "writes", desc := "(LGlassLog$Log;III)I" } : Jvm.MethodName)) ∈ lw_all := lw_g (lw_at lw_m3 109 rfl) rfl
theorem q646 : (Jvm.Cond.privateMethod ({ cls := "GlassLog", name := "writes", desc := "(LGlassLog$Log;III)I" } : Jvm.MethodName)) ∈ lw_tbl := lw_at lw_m3 110 rfl
theorem q647 : (Jvm.Cond.instanceMethod ({ cls := "GlassLog", name := "writes", desc := "(LGlassLog$Log;III)I" } : Jvm.MethodName)) ∈ lw_all := lw_g (lw_at lw_m3 111 rfl) rfl
theorem q648 : (Jvm.Cond.code ({ cls := "GlassLog", name := "writes", desc := "(LGlassLog$Log;III)I" } : Jvm.MethodName) prog_1_method_20_code (8 : Nat) (Option.some Jvm.ClassFile.FieldType.int)) ∈ lw_all := lw_g (lw_at lw_m3 112 rfl) rfl
theorem q649 : (Jvm.Cond.methodLink "GlassLog" (161 : Nat) ({ cls := "GlassLog", name := "level", desc := "(II)I" } : Jvm.MethodName)) ∈ lw_all := lw_g (lw_at lw_m3 113 rfl) rfl
theorem q650 : (Jvm.Cond.methodLink "GlassLog" (220 : Nat) ({ cls := "GlassLog", name := "puts", desc := "(ILGlassLog$Proof;IIII)I" } : Jvm.MethodName)) ∈ lw_all := lw_g (lw_at lw_m3 114 rfl) rfl
theorem q651 : (Jvm.Cond.privateMethod ({ cls := "GlassLog", name := "puts", desc := "(ILGlassLog$Proof;IIII)I" } : Jvm.MethodName)) ∈ lw_tbl := lw_at lw_m3 115 rfl
theorem q652 : (Jvm.Cond.instanceMethod ({ cls := "GlassLog", name := "puts", desc := "(ILGlassLog$Proof;IIII)I" } : Jvm.MethodName)) ∈ lw_all := lw_g (lw_at lw_m3 116 rfl) rfl
theorem q653 : (Jvm.Cond.code ({ cls := "GlassLog", name := "puts", desc := "(ILGlassLog$Proof;IIII)I" } : Jvm.MethodName) prog_1_method_21_code (7 : Nat) (Option.some Jvm.ClassFile.FieldType.int)) ∈ lw_all := lw_g (lw_at lw_m3 117 rfl) rfl
theorem q654 : (Jvm.Cond.methodLink "GlassLog" (184 : Nat) ({ cls := "java/util/Arrays", name := "copyOf", desc := "([II)[I" } : Jvm.MethodName)) ∈ lw_all := lw_g (lw_at lw_m3 118 rfl) rfl
theorem q669 : (Jvm.Cond.instanceMethod ({ cls := "GlassLog", name := "grown", desc := "(IIII)I" } : Jvm.MethodName)) ∈ lw_all := lw_g (lw_at lw_m3 133 rfl) rfl
theorem q670 : (Jvm.Cond.selects "GlassLog" ({ cls := "GlassLog", name := "grown", desc := "(IIII)I" } : Jvm.MethodName) ({ cls := "GlassLog", name := "grown", desc := "(IIII)I" } : Jvm.MethodName)) ∈ lw_all := lw_g (lw_at lw_m3 134 rfl) rfl
theorem q671 : (Jvm.Cond.code ({ cls := "GlassLog", name := "grown", desc := "(IIII)I" } : Jvm.MethodName) prog_1_method_25_code (6 : Nat) (Option.some Jvm.ClassFile.FieldType.int)) ∈ lw_all := lw_g (lw_at lw_m3 135 rfl) rfl
theorem q672 : (Jvm.Cond.classLink "GlassLog" (234 : Nat) "GlassLog$Grown") ∈ lw_all := lw_g (lw_at lw_m3 136 rfl) rfl
theorem q674 : (Jvm.Cond.methodLinkNest "GlassLog" (236 : Nat) ({ cls := "GlassLog$Grown", name := "<init>", desc := "()V" } : Jvm.MethodName) "GlassLog") ∈ lw_tbl := lw_at lw_m3 138 rfl
theorem q685 : (Jvm.Cond.instanceMethod ({ cls := "GlassLog", name := "held", desc := "(IIII)I" } : Jvm.MethodName)) ∈ lw_all := lw_g (lw_at lw_m3 149 rfl) rfl
theorem q686 : (Jvm.Cond.selects "GlassLog" ({ cls := "GlassLog", name := "held", desc := "(IIII)I" } : Jvm.MethodName) ({ cls := "GlassLog", name := "held", desc := "(IIII)I" } : Jvm.MethodName)) ∈ lw_all := lw_g (lw_at lw_m3 150 rfl) rfl
theorem q687 : (Jvm.Cond.code ({ cls := "GlassLog", name := "held", desc := "(IIII)I" } : Jvm.MethodName) prog_1_method_26_code (6 : Nat) (Option.some Jvm.ClassFile.FieldType.int)) ∈ lw_all := lw_g (lw_at lw_m3 151 rfl) rfl
theorem q688 : (Jvm.Cond.classLink "GlassLog" (237 : Nat) "GlassLog$Held") ∈ lw_all := lw_g (lw_at lw_m3 152 rfl) rfl
theorem q690 : (Jvm.Cond.methodLinkNest "GlassLog" (239 : Nat) ({ cls := "GlassLog$Held", name := "<init>", desc := "()V" } : Jvm.MethodName) "GlassLog") ∈ lw_tbl := lw_at lw_m3 154 rfl
theorem q697 : (Jvm.Cond.fieldLink "GlassLog" (244 : Nat) "GlassLog$Held" "key" "I") ∈ lw_all := lw_g (lw_at lw_m3 161 rfl) rfl
theorem q698 : (Jvm.Cond.fieldLink "GlassLog" (260 : Nat) "GlassLog$Absent" "key" "I") ∈ lw_all := lw_g (lw_at lw_m3 162 rfl) rfl
theorem q702 : (Jvm.Cond.fieldLink "GlassLog" (252 : Nat) "GlassLog$Held" "latest" "I") ∈ lw_all := lw_g (lw_at lw_m3 166 rfl) rfl
theorem q703 : (Jvm.Cond.fieldLink "GlassLog" (265 : Nat) "GlassLog$Absent" "latest" "I") ∈ lw_all := lw_g (lw_at lw_m3 167 rfl) rfl
theorem q714 : (Jvm.Cond.methodLink "GlassLog" (240 : Nat) ({ cls := "GlassLog$Map", name := "down", desc := "(I[I)V" } : Jvm.MethodName)) ∈ lw_all := lw_g (lw_at lw_m3 178 rfl) rfl
theorem q719 : (Jvm.Cond.instanceMethod ({ cls := "GlassLog", name := "absent", desc := "(IIII)I" } : Jvm.MethodName)) ∈ lw_all := lw_g (lw_at lw_m3 183 rfl) rfl
theorem q720 : (Jvm.Cond.selects "GlassLog" ({ cls := "GlassLog", name := "absent", desc := "(IIII)I" } : Jvm.MethodName) ({ cls := "GlassLog", name := "absent", desc := "(IIII)I" } : Jvm.MethodName)) ∈ lw_all := lw_g (lw_at lw_m3 184 rfl) rfl
theorem q721 : (Jvm.Cond.code ({ cls := "GlassLog", name := "absent", desc := "(IIII)I" } : Jvm.MethodName) prog_1_method_27_code (6 : Nat) (Option.some Jvm.ClassFile.FieldType.int)) ∈ lw_all := lw_g (lw_at lw_m3 185 rfl) rfl
theorem q722 : (Jvm.Cond.classLink "GlassLog" (257 : Nat) "GlassLog$Absent") ∈ lw_all := lw_g (lw_at lw_m3 186 rfl) rfl
theorem q724 : (Jvm.Cond.methodLinkNest "GlassLog" (259 : Nat) ({ cls := "GlassLog$Absent", name := "<init>", desc := "()V" } : Jvm.MethodName) "GlassLog") ∈ lw_tbl := lw_at lw_m3 188 rfl
theorem q729 : (Jvm.Cond.fieldLinkNest "GlassLog" (262 : Nat) "GlassLog$Absent" "other" "I" "GlassLog") ∈ lw_tbl := lw_at lw_m3 193 rfl
theorem q741 : (Jvm.Cond.instanceMethod ({ cls := "GlassLog", name := "span", desc := "(IIIII)I" } : Jvm.MethodName)) ∈ lw_all := lw_g (lw_at lw_m3 205 rfl) rfl
theorem q742 : (Jvm.Cond.selects "GlassLog" ({ cls := "GlassLog", name := "span", desc := "(IIIII)I" } : Jvm.MethodName) ({ cls := "GlassLog", name := "span", desc := "(IIIII)I" } : Jvm.MethodName)) ∈ lw_all := lw_g (lw_at lw_m3 206 rfl) rfl
theorem q743 : (Jvm.Cond.code ({ cls := "GlassLog", name := "span", desc := "(IIIII)I" } : Jvm.MethodName) prog_1_method_28_code (6 : Nat) (Option.some Jvm.ClassFile.FieldType.int)) ∈ lw_all := lw_g (lw_at lw_m3 207 rfl) rfl
theorem q744 : (Jvm.Cond.methodLink "GlassLog" (266 : Nat) ({ cls := "GlassLog$Log", name := "hasGone", desc := "(II)Z" } : Jvm.MethodName)) ∈ lw_all := lw_g (lw_at lw_m3 208 rfl) rfl
theorem q748 : (Jvm.Cond.classLink "GlassLog" (206 : Nat) "GlassLog$Span") ∈ lw_all := lw_g (lw_at lw_m3 212 rfl) rfl
theorem q750 : (Jvm.Cond.methodLinkNest "GlassLog" (269 : Nat) ({ cls := "GlassLog$Span", name := "<init>", desc := "()V" } : Jvm.MethodName) "GlassLog") ∈ lw_tbl := lw_at lw_m3 214 rfl
theorem q760 : (Jvm.Cond.instanceMethod ({ cls := "GlassLog", name := "drop", desc := "(I)I" } : Jvm.MethodName)) ∈ lw_all := lw_g (lw_at lw_m3 224 rfl) rfl
theorem q761 : (Jvm.Cond.selects "GlassLog" ({ cls := "GlassLog", name := "drop", desc := "(I)I" } : Jvm.MethodName) ({ cls := "GlassLog", name := "drop", desc := "(I)I" } : Jvm.MethodName)) ∈ lw_all := lw_g (lw_at lw_m3 225 rfl) rfl
theorem q762 : (Jvm.Cond.code ({ cls := "GlassLog", name := "drop", desc := "(I)I" } : Jvm.MethodName) prog_1_method_30_code (3 : Nat) (Option.some Jvm.ClassFile.FieldType.int)) ∈ lw_all := lw_g (lw_at lw_m3 226 rfl) rfl
theorem q763 : (Jvm.Cond.methodLink "GlassLog" (270 : Nat) ({ cls := "GlassLog", name := "proof", desc := "(II)I" } : Jvm.MethodName)) ∈ lw_all := lw_g (lw_at lw_m3 227 rfl) rfl
theorem q764 : (Jvm.Cond.instanceMethod ({ cls := "GlassLog", name := "proof", desc := "(II)I" } : Jvm.MethodName)) ∈ lw_all := lw_g (lw_at lw_m3 228 rfl) rfl
theorem q765 : (Jvm.Cond.selects "GlassLog" ({ cls := "GlassLog", name := "proof", desc := "(II)I" } : Jvm.MethodName) ({ cls := "GlassLog", name := "proof", desc := "(II)I" } : Jvm.MethodName)) ∈ lw_all := lw_g (lw_at lw_m3 229 rfl) rfl
theorem q766 : (Jvm.Cond.code ({ cls := "GlassLog", name := "proof", desc := "(II)I" } : Jvm.MethodName) prog_1_method_31_code (4 : Nat) (Option.some Jvm.ClassFile.FieldType.int)) ∈ lw_all := lw_g (lw_at lw_m3 230 rfl) rfl
theorem q767 : (Jvm.Cond.methodLink "GlassLog" (273 : Nat) ({ cls := "GlassLog", name := "proofAt", desc := "(I)LGlassLog$Proof;" } : Jvm.MethodName)) ∈ lw_all := lw_g (lw_at lw_m3 231 rfl) rfl
theorem q768 : (Jvm.Cond.privateMethod ({ cls := "GlassLog", name := "proofAt", desc := "(I)LGlassLog$Proof;" } : Jvm.MethodName)) ∈ lw_tbl := lw_at lw_m3 232 rfl
theorem q769 : (Jvm.Cond.instanceMethod ({ cls := "GlassLog", name := "proofAt", desc := "(I)LGlassLog$Proof;" } : Jvm.MethodName)) ∈ lw_all := lw_g (lw_at lw_m3 233 rfl) rfl
theorem q770 : (Jvm.Cond.code ({ cls := "GlassLog", name := "proofAt", desc := "(I)LGlassLog$Proof;" } : Jvm.MethodName) prog_1_method_29_code (2 : Nat) (Option.some (Jvm.ClassFile.FieldType.object "GlassLog$Proof"))) ∈ lw_all := lw_g (lw_at lw_m3 234 rfl) rfl
theorem q771 : (Jvm.Cond.classLink "GlassLog" (175 : Nat) "GlassLog$Proof") ∈ lw_all := lw_g (lw_at lw_m3 235 rfl) rfl
theorem q772 : (Jvm.Cond.methodLink "GlassLog" (277 : Nat) ({ cls := "GlassLog$Proof", name := "kind", desc := "()I" } : Jvm.MethodName)) ∈ lw_all := lw_g (lw_at lw_m3 236 rfl) rfl
theorem q790 : (Jvm.Cond.methodLink "GlassLog" (281 : Nat) ({ cls := "GlassLog$Proof", name := "key", desc := "()I" } : Jvm.MethodName)) ∈ lw_all := lw_g (lw_at lw_m4 14 rfl) rfl
theorem q803 : (Jvm.Cond.methodLink "GlassLog" (283 : Nat) ({ cls := "GlassLog$Proof", name := "latest", desc := "()I" } : Jvm.MethodName)) ∈ lw_all := lw_g (lw_at lw_m4 27 rfl) rfl
theorem q814 : (Jvm.Cond.methodLink "GlassLog" (285 : Nat) ({ cls := "GlassLog$Proof", name := "other", desc := "()I" } : Jvm.MethodName)) ∈ lw_all := lw_g (lw_at lw_m4 38 rfl) rfl
theorem q827 : (Jvm.Cond.instanceMethod ({ cls := "GlassLog", name := "step", desc := "(III)I" } : Jvm.MethodName)) ∈ lw_all := lw_g (lw_at lw_m4 51 rfl) rfl
theorem q828 : (Jvm.Cond.selects "GlassLog" ({ cls := "GlassLog", name := "step", desc := "(III)I" } : Jvm.MethodName) ({ cls := "GlassLog", name := "step", desc := "(III)I" } : Jvm.MethodName)) ∈ lw_all := lw_g (lw_at lw_m4 52 rfl) rfl
theorem q829 : (Jvm.Cond.code ({ cls := "GlassLog", name := "step", desc := "(III)I" } : Jvm.MethodName) prog_1_method_33_code (5 : Nat) (Option.some Jvm.ClassFile.FieldType.int)) ∈ lw_all := lw_g (lw_at lw_m4 53 rfl) rfl
theorem q830 : (Jvm.Cond.methodLink "GlassLog" (287 : Nat) ({ cls := "GlassLog", name := "isStep", desc := "(LGlassLog$Proof;II)Z" } : Jvm.MethodName)) ∈ lw_all := lw_g (lw_at lw_m4 54 rfl) rfl
theorem q831 : (Jvm.Cond.static ({ cls := "GlassLog", name := "isStep", desc := "(LGlassLog$Proof;II)Z" } : Jvm.MethodName)) ∈ lw_all := lw_g (lw_at lw_m4 55 rfl) rfl
theorem q832 : (Jvm.Cond.code ({ cls := "GlassLog", name := "isStep", desc := "(LGlassLog$Proof;II)Z" } : Jvm.MethodName) prog_1_method_32_code (3 : Nat) (Option.some Jvm.ClassFile.FieldType.boolean)) ∈ lw_all := lw_g (lw_at lw_m4 56 rfl) rfl
theorem q834 : (Jvm.Cond.instanceMethod ({ cls := "GlassLog", name := "bend", desc := "(IIII)Z" } : Jvm.MethodName)) ∈ lw_all := lw_g (lw_at lw_m4 58 rfl) rfl
theorem q835 : (Jvm.Cond.selects "GlassLog" ({ cls := "GlassLog", name := "bend", desc := "(IIII)Z" } : Jvm.MethodName) ({ cls := "GlassLog", name := "bend", desc := "(IIII)Z" } : Jvm.MethodName)) ∈ lw_all := lw_g (lw_at lw_m4 59 rfl) rfl
theorem q836 : (Jvm.Cond.code ({ cls := "GlassLog", name := "bend", desc := "(IIII)Z" } : Jvm.MethodName) prog_1_method_34_code (6 : Nat) (Option.some Jvm.ClassFile.FieldType.boolean)) ∈ lw_all := lw_g (lw_at lw_m4 60 rfl) rfl
theorem q838 : (Jvm.Cond.instanceMethod ({ cls := "GlassLog", name := "forge", desc := "(IIIJ)Z" } : Jvm.MethodName)) ∈ lw_all := lw_g (lw_at lw_m4 62 rfl) rfl
theorem q839 : (Jvm.Cond.selects "GlassLog" ({ cls := "GlassLog", name := "forge", desc := "(IIIJ)Z" } : Jvm.MethodName) ({ cls := "GlassLog", name := "forge", desc := "(IIIJ)Z" } : Jvm.MethodName)) ∈ lw_all := lw_g (lw_at lw_m4 63 rfl) rfl
theorem q840 : (Jvm.Cond.codeWith ({ cls := "GlassLog", name := "forge", desc := "(IIIJ)Z" } : Jvm.MethodName) prog_1_method_35_code (7 : Nat) (Option.some Jvm.ClassFile.FieldType.boolean) [((9 : Nat), (43 : Nat), (46 : Nat), (291 : Nat)), ((9 : Nat), (43 : Nat), (50 : Nat), (293 : Nat)), ((9 : Nat), (43 : Nat), (54 : Nat), (295 : Nat))]) ∈ lw_all := lw_g (lw_at lw_m4 64 rfl) rfl
theorem q841 : (Jvm.Cond.classLink "GlassLog" (291 : Nat) "java/lang/NullPointerException") ∈ lw_all := lw_g (lw_at lw_m4 65 rfl) rfl
theorem q922 : (Jvm.Cond.classLink "GlassLog" (293 : Nat) "java/lang/ClassCastException") ∈ lw_all := lw_g (lw_at lw_m4 146 rfl) rfl
theorem q950 : (Jvm.Cond.classLink "GlassLog" (295 : Nat) "java/lang/ArrayIndexOutOfBoundsException") ∈ lw_all := lw_g (lw_at lw_m4 174 rfl) rfl
theorem q970 : (Jvm.Cond.instanceMethod ({ cls := "GlassLog", name := "check", desc := "(III)I" } : Jvm.MethodName)) ∈ lw_all := lw_g (lw_at lw_m4 194 rfl) rfl
theorem q971 : (Jvm.Cond.selects "GlassLog" ({ cls := "GlassLog", name := "check", desc := "(III)I" } : Jvm.MethodName) ({ cls := "GlassLog", name := "check", desc := "(III)I" } : Jvm.MethodName)) ∈ lw_all := lw_g (lw_at lw_m4 195 rfl) rfl
theorem q972 : (Jvm.Cond.code ({ cls := "GlassLog", name := "check", desc := "(III)I" } : Jvm.MethodName) prog_1_method_38_code (5 : Nat) (Option.some Jvm.ClassFile.FieldType.int)) ∈ lw_all := lw_g (lw_at lw_m4 196 rfl) rfl
theorem q973 : (Jvm.Cond.methodLink "GlassLog" (306 : Nat) ({ cls := "GlassLog", name := "hasHead", desc := "(I)Z" } : Jvm.MethodName)) ∈ lw_all := lw_g (lw_at lw_m4 197 rfl) rfl
theorem q974 : (Jvm.Cond.privateMethod ({ cls := "GlassLog", name := "hasHead", desc := "(I)Z" } : Jvm.MethodName)) ∈ lw_tbl := lw_at lw_m4 198 rfl
theorem q975 : (Jvm.Cond.instanceMethod ({ cls := "GlassLog", name := "hasHead", desc := "(I)Z" } : Jvm.MethodName)) ∈ lw_all := lw_g (lw_at lw_m4 199 rfl) rfl
theorem q976 : (Jvm.Cond.code ({ cls := "GlassLog", name := "hasHead", desc := "(I)Z" } : Jvm.MethodName) prog_1_method_37_code (2 : Nat) (Option.some Jvm.ClassFile.FieldType.boolean)) ∈ lw_all := lw_g (lw_at lw_m4 200 rfl) rfl
theorem q977 : (Jvm.Cond.methodLink "GlassLog" (299 : Nat) ({ cls := "GlassLog", name := "isReader", desc := "(I)Z" } : Jvm.MethodName)) ∈ lw_all := lw_g (lw_at lw_m4 201 rfl) rfl
theorem q978 : (Jvm.Cond.static ({ cls := "GlassLog", name := "isReader", desc := "(I)Z" } : Jvm.MethodName)) ∈ lw_all := lw_g (lw_at lw_m4 202 rfl) rfl
theorem q979 : (Jvm.Cond.code ({ cls := "GlassLog", name := "isReader", desc := "(I)Z" } : Jvm.MethodName) prog_1_method_36_code (1 : Nat) (Option.some Jvm.ClassFile.FieldType.boolean)) ∈ lw_all := lw_g (lw_at lw_m4 203 rfl) rfl
theorem q980 : (Jvm.Cond.constantLong "GlassLog" (297 : Nat) (11 : Int64)) ∈ lw_all := lw_g (lw_at lw_m4 204 rfl) rfl
theorem q981 : (Jvm.Cond.methodLink "GlassLog" (309 : Nat) ({ cls := "GlassLog$Proof", name := "isRight", desc := "(LGlassLog$Mixer;LGlassLog$Pile;LGlassLog$Head;LGlassLog$Head;)Z" } : Jvm.MethodName)) ∈ lw_all := lw_g (lw_at lw_m4 205 rfl) rfl
theorem q1005 : (Jvm.Cond.static ({ cls := "GlassLog", name := "isLike", desc := "([II[II)Z" } : Jvm.MethodName)) ∈ lw_all := lw_g (lw_at lw_m4 229 rfl) rfl
theorem q1006 : (Jvm.Cond.code ({ cls := "GlassLog", name := "isLike", desc := "([II[II)Z" } : Jvm.MethodName) prog_1_method_3_code (6 : Nat) (Option.some Jvm.ClassFile.FieldType.boolean)) ∈ lw_all := lw_g (lw_at lw_m4 230 rfl) rfl
theorem q1036 : (Jvm.Cond.instanceMethod ({ cls := "GlassLog", name := "take", desc := "(III)I" } : Jvm.MethodName)) ∈ lw_all := lw_g (lw_at lw_m5 20 rfl) rfl
theorem q1037 : (Jvm.Cond.selects "GlassLog" ({ cls := "GlassLog", name := "take", desc := "(III)I" } : Jvm.MethodName) ({ cls := "GlassLog", name := "take", desc := "(III)I" } : Jvm.MethodName)) ∈ lw_all := lw_g (lw_at lw_m5 21 rfl) rfl
theorem q1038 : (Jvm.Cond.code ({ cls := "GlassLog", name := "take", desc := "(III)I" } : Jvm.MethodName) prog_1_method_41_code (6 : Nat) (Option.some Jvm.ClassFile.FieldType.int)) ∈ lw_all := lw_g (lw_at lw_m5 22 rfl) rfl
theorem q1039 : (Jvm.Cond.methodLink "GlassLog" (327 : Nat) ({ cls := "GlassLog$Head", name := "become", desc := "(LGlassLog$Head;)V" } : Jvm.MethodName)) ∈ lw_all := lw_g (lw_at lw_m5 23 rfl) rfl
theorem q1044 : (Jvm.Cond.methodLink "GlassLog" (313 : Nat) ({ cls := "GlassLog", name := "agree", desc := "(LGlassLog$Head;LGlassLog$Head;)Z" } : Jvm.MethodName)) ∈ lw_all := lw_g (lw_at lw_m5 28 rfl) rfl
theorem q1045 : (Jvm.Cond.privateMethod ({ cls := "GlassLog", name := "agree", desc := "(LGlassLog$Head;LGlassLog$Head;)Z" } : Jvm.MethodName)) ∈ lw_tbl := lw_at lw_m5 29 rfl
theorem q1046 : (Jvm.Cond.instanceMethod ({ cls := "GlassLog", name := "agree", desc := "(LGlassLog$Head;LGlassLog$Head;)Z" } : Jvm.MethodName)) ∈ lw_all := lw_g (lw_at lw_m5 30 rfl) rfl
theorem q1047 : (Jvm.Cond.code ({ cls := "GlassLog", name := "agree", desc := "(LGlassLog$Head;LGlassLog$Head;)Z" } : Jvm.MethodName) prog_1_method_39_code (5 : Nat) (Option.some Jvm.ClassFile.FieldType.boolean)) ∈ lw_all := lw_g (lw_at lw_m5 31 rfl) rfl
theorem q1048 : (Jvm.Cond.methodLink "GlassLog" (317 : Nat) ({ cls := "GlassLog", name := "isLike", desc := "([II[II)Z" } : Jvm.MethodName)) ∈ lw_all := lw_g (lw_at lw_m5 32 rfl) rfl
theorem q1049 : (Jvm.Cond.methodLink "GlassLog" (330 : Nat) ({ cls := "GlassLog", name := "blames", desc := "(LGlassLog$Head;LGlassLog$Head;)V" } : Jvm.MethodName)) ∈ lw_all := lw_g (lw_at lw_m5 33 rfl) rfl
theorem q1050 : (Jvm.Cond.privateMethod ({ cls := "GlassLog", name := "blames", desc := "(LGlassLog$Head;LGlassLog$Head;)V" } : Jvm.MethodName)) ∈ lw_tbl := lw_at lw_m5 34 rfl
theorem q1051 : (Jvm.Cond.instanceMethod ({ cls := "GlassLog", name := "blames", desc := "(LGlassLog$Head;LGlassLog$Head;)V" } : Jvm.MethodName)) ∈ lw_all := lw_g (lw_at lw_m5 35 rfl) rfl
theorem q1052 : (Jvm.Cond.code ({ cls := "GlassLog", name := "blames", desc := "(LGlassLog$Head;LGlassLog$Head;)V" } : Jvm.MethodName) prog_1_method_40_code (3 : Nat) (Option.none : Option Jvm.ClassFile.FieldType)) ∈ lw_all := lw_g (lw_at lw_m5 36 rfl) rfl
theorem q1054 : (Jvm.Cond.instanceMethod ({ cls := "GlassLog", name := "talk", desc := "(II)I" } : Jvm.MethodName)) ∈ lw_all := lw_g (lw_at lw_m5 38 rfl) rfl
theorem q1055 : (Jvm.Cond.selects "GlassLog" ({ cls := "GlassLog", name := "talk", desc := "(II)I" } : Jvm.MethodName) ({ cls := "GlassLog", name := "talk", desc := "(II)I" } : Jvm.MethodName)) ∈ lw_all := lw_g (lw_at lw_m5 39 rfl) rfl
theorem q1056 : (Jvm.Cond.code ({ cls := "GlassLog", name := "talk", desc := "(II)I" } : Jvm.MethodName) prog_1_method_42_code (5 : Nat) (Option.some Jvm.ClassFile.FieldType.int)) ∈ lw_all := lw_g (lw_at lw_m5 40 rfl) rfl
theorem q1058 : (Jvm.Cond.instanceMethod ({ cls := "GlassLog", name := "reader", desc := "(II)I" } : Jvm.MethodName)) ∈ lw_all := lw_g (lw_at lw_m5 42 rfl) rfl
theorem q1059 : (Jvm.Cond.selects "GlassLog" ({ cls := "GlassLog", name := "reader", desc := "(II)I" } : Jvm.MethodName) ({ cls := "GlassLog", name := "reader", desc := "(II)I" } : Jvm.MethodName)) ∈ lw_all := lw_g (lw_at lw_m5 43 rfl) rfl
theorem q1060 : (Jvm.Cond.code ({ cls := "GlassLog", name := "reader", desc := "(II)I" } : Jvm.MethodName) prog_1_method_43_code (4 : Nat) (Option.some Jvm.ClassFile.FieldType.int)) ∈ lw_all := lw_g (lw_at lw_m5 44 rfl) rfl
theorem q1062 : (Jvm.Cond.instanceMethod ({ cls := "GlassLog", name := "blame", desc := "(II)I" } : Jvm.MethodName)) ∈ lw_all := lw_g (lw_at lw_m5 46 rfl) rfl
theorem q1063 : (Jvm.Cond.selects "GlassLog" ({ cls := "GlassLog", name := "blame", desc := "(II)I" } : Jvm.MethodName) ({ cls := "GlassLog", name := "blame", desc := "(II)I" } : Jvm.MethodName)) ∈ lw_all := lw_g (lw_at lw_m5 47 rfl) rfl
theorem q1064 : (Jvm.Cond.code ({ cls := "GlassLog", name := "blame", desc := "(II)I" } : Jvm.MethodName) prog_1_method_45_code (5 : Nat) (Option.some Jvm.ClassFile.FieldType.int)) ∈ lw_all := lw_g (lw_at lw_m5 48 rfl) rfl
theorem q1065 : (Jvm.Cond.methodLink "GlassLog" (336 : Nat) ({ cls := "GlassLog", name := "isMarked", desc := "(LGlassLog$Head;)Z" } : Jvm.MethodName)) ∈ lw_all := lw_g (lw_at lw_m5 49 rfl) rfl
theorem q1066 : (Jvm.Cond.privateMethod ({ cls := "GlassLog", name := "isMarked", desc := "(LGlassLog$Head;)Z" } : Jvm.MethodName)) ∈ lw_tbl := lw_at lw_m5 50 rfl
theorem q1067 : (Jvm.Cond.instanceMethod ({ cls := "GlassLog", name := "isMarked", desc := "(LGlassLog$Head;)Z" } : Jvm.MethodName)) ∈ lw_all := lw_g (lw_at lw_m5 51 rfl) rfl
theorem q1068 : (Jvm.Cond.code ({ cls := "GlassLog", name := "isMarked", desc := "(LGlassLog$Head;)Z" } : Jvm.MethodName) prog_1_method_44_code (2 : Nat) (Option.some Jvm.ClassFile.FieldType.boolean)) ∈ lw_all := lw_g (lw_at lw_m5 52 rfl) rfl
theorem q1070 : (Jvm.Cond.instanceMethod ({ cls := "GlassLog", name := "smear", desc := "(III)Z" } : Jvm.MethodName)) ∈ lw_all := lw_g (lw_at lw_m5 54 rfl) rfl
theorem q1071 : (Jvm.Cond.selects "GlassLog" ({ cls := "GlassLog", name := "smear", desc := "(III)Z" } : Jvm.MethodName) ({ cls := "GlassLog", name := "smear", desc := "(III)Z" } : Jvm.MethodName)) ∈ lw_all := lw_g (lw_at lw_m5 55 rfl) rfl
theorem q1072 : (Jvm.Cond.code ({ cls := "GlassLog", name := "smear", desc := "(III)Z" } : Jvm.MethodName) prog_1_method_46_code (4 : Nat) (Option.some Jvm.ClassFile.FieldType.boolean)) ∈ lw_all := lw_g (lw_at lw_m5 56 rfl) rfl
theorem q1074 : (Jvm.Cond.instanceMethod ({ cls := "GlassLog", name := "watcher", desc := "(IIII)Z" } : Jvm.MethodName)) ∈ lw_all := lw_g (lw_at lw_m5 58 rfl) rfl
theorem q1075 : (Jvm.Cond.selects "GlassLog" ({ cls := "GlassLog", name := "watcher", desc := "(IIII)Z" } : Jvm.MethodName) ({ cls := "GlassLog", name := "watcher", desc := "(IIII)Z" } : Jvm.MethodName)) ∈ lw_all := lw_g (lw_at lw_m5 59 rfl) rfl
theorem q1076 : (Jvm.Cond.code ({ cls := "GlassLog", name := "watcher", desc := "(IIII)Z" } : Jvm.MethodName) prog_1_method_47_code (6 : Nat) (Option.some Jvm.ClassFile.FieldType.boolean)) ∈ lw_all := lw_g (lw_at lw_m5 60 rfl) rfl
theorem q1078 : (Jvm.Cond.instanceMethod ({ cls := "GlassLog", name := "watch", desc := "(I)I" } : Jvm.MethodName)) ∈ lw_all := lw_g (lw_at lw_m5 62 rfl) rfl
theorem q1079 : (Jvm.Cond.selects "GlassLog" ({ cls := "GlassLog", name := "watch", desc := "(I)I" } : Jvm.MethodName) ({ cls := "GlassLog", name := "watch", desc := "(I)I" } : Jvm.MethodName)) ∈ lw_all := lw_g (lw_at lw_m5 63 rfl) rfl
theorem q1080 : (Jvm.Cond.code ({ cls := "GlassLog", name := "watch", desc := "(I)I" } : Jvm.MethodName) prog_1_method_48_code (6 : Nat) (Option.some Jvm.ClassFile.FieldType.int)) ∈ lw_all := lw_g (lw_at lw_m5 64 rfl) rfl
theorem q1081 : (Jvm.Cond.methodLink "GlassLog" (357 : Nat) ({ cls := "GlassLog$Watcher", name := "reads", desc := "(II)V" } : Jvm.MethodName)) ∈ lw_all := lw_g (lw_at lw_m5 65 rfl) rfl
theorem q1089 : (Jvm.Cond.instanceMethod ({ cls := "GlassLog", name := "watching", desc := "(II)I" } : Jvm.MethodName)) ∈ lw_all := lw_g (lw_at lw_m5 73 rfl) rfl
theorem q1090 : (Jvm.Cond.selects "GlassLog" ({ cls := "GlassLog", name := "watching", desc := "(II)I" } : Jvm.MethodName) ({ cls := "GlassLog", name := "watching", desc := "(II)I" } : Jvm.MethodName)) ∈ lw_all := lw_g (lw_at lw_m5 74 rfl) rfl
theorem q1091 : (Jvm.Cond.code ({ cls := "GlassLog", name := "watching", desc := "(II)I" } : Jvm.MethodName) prog_1_method_49_code (3 : Nat) (Option.some Jvm.ClassFile.FieldType.int)) ∈ lw_all := lw_g (lw_at lw_m5 75 rfl) rfl
theorem q1093 : (Jvm.Cond.instanceMethod ({ cls := "GlassLog", name := "all", desc := "(I)I" } : Jvm.MethodName)) ∈ lw_all := lw_g (lw_at lw_m5 77 rfl) rfl
theorem q1094 : (Jvm.Cond.selects "GlassLog" ({ cls := "GlassLog", name := "all", desc := "(I)I" } : Jvm.MethodName) ({ cls := "GlassLog", name := "all", desc := "(I)I" } : Jvm.MethodName)) ∈ lw_all := lw_g (lw_at lw_m5 78 rfl) rfl
theorem q1095 : (Jvm.Cond.code ({ cls := "GlassLog", name := "all", desc := "(I)I" } : Jvm.MethodName) prog_1_method_50_code (4 : Nat) (Option.some Jvm.ClassFile.FieldType.int)) ∈ lw_all := lw_g (lw_at lw_m5 79 rfl) rfl
theorem q1097 : (Jvm.Cond.instanceMethod ({ cls := "GlassLog", name := "image", desc := "()Z" } : Jvm.MethodName)) ∈ lw_all := lw_g (lw_at lw_m5 81 rfl) rfl
theorem q1098 : (Jvm.Cond.selects "GlassLog" ({ cls := "GlassLog", name := "image", desc := "()Z" } : Jvm.MethodName) ({ cls := "GlassLog", name := "image", desc := "()Z" } : Jvm.MethodName)) ∈ lw_all := lw_g (lw_at lw_m5 82 rfl) rfl
theorem q1099 : (Jvm.Cond.code ({ cls := "GlassLog", name := "image", desc := "()Z" } : Jvm.MethodName) prog_1_method_51_code (1 : Nat) (Option.some Jvm.ClassFile.FieldType.boolean)) ∈ lw_all := lw_g (lw_at lw_m5 83 rfl) rfl
theorem q1100 : (Jvm.Cond.methodLink "GlassLog" (368 : Nat) ({ cls := "GlassLog$House", name := "become", desc := "(LGlassLog$House;)V" } : Jvm.MethodName)) ∈ lw_all := lw_g (lw_at lw_m5 84 rfl) rfl
theorem q1182 : (Jvm.Cond.instanceMethod ({ cls := "GlassLog", name := "back", desc := "()Z" } : Jvm.MethodName)) ∈ lw_all := lw_g (lw_at lw_m5 166 rfl) rfl
theorem q1183 : (Jvm.Cond.selects "GlassLog" ({ cls := "GlassLog", name := "back", desc := "()Z" } : Jvm.MethodName) ({ cls := "GlassLog", name := "back", desc := "()Z" } : Jvm.MethodName)) ∈ lw_all := lw_g (lw_at lw_m5 167 rfl) rfl
theorem q1184 : (Jvm.Cond.code ({ cls := "GlassLog", name := "back", desc := "()Z" } : Jvm.MethodName) prog_1_method_52_code (1 : Nat) (Option.some Jvm.ClassFile.FieldType.boolean)) ∈ lw_all := lw_g (lw_at lw_m5 168 rfl) rfl
theorem in_X0 : ∀ w ∈ wsX00, w ∈ lw_all := lw_in wsX00 [367, 369, 371, 373, 375, 377, 379, 381] (by decide +kernel) (by decide +kernel)
