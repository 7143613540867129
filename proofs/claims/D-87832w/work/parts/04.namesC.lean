/-! GlassLogModel -/
set_option maxRecDepth 100000
def RX9 : String := "GlassLogModel"
def TX9 : u_T := fun k => match k with
  | 0 => ("GlassLogModel", "logs", "[I", true)
  | 1 => ("GlassLogModel", "logMany", "I", false)
  | 2 => ("GlassLogModel", "keys", "[I", true)
  | 3 => ("GlassLogModel", "values", "[J", true)
  | 4 => ("GlassLogModel", "gone", "[Z", true)
  | 5 => ("GlassLogModel", "kept", "[Z", true)
  | 6 => ("GlassLogModel", "wordKey", "[I", true)
  | 7 => ("GlassLogModel", "wordSince", "[I", true)
  | 8 => ("GlassLogModel", "wordHides", "[Z", true)
  | 9 => ("GlassLogModel", "slots", "[I", true)
  | 10 => ("GlassLogModel", "slotKeys", "[I", true)
  | 11 => ("GlassLogModel", "slotValues", "[J", true)
  | 12 => ("GlassLogModel", "steps", "[I", true)
  | 13 => ("GlassLogModel", "readers", "[I", true)
  | 14 => ("GlassLogModel", "has", "[Z", true)
  | 15 => ("GlassLogModel", "blames", "[I", true)
  | 16 => ("GlassLogModel", "blameMany", "I", false)
  | 17 => ("GlassLogModel", "watchers", "[I", true)
  | 18 => ("GlassLogModel", "watches", "[Z", true)
  | 19 => ("GlassLogModel", "watchKey", "[I", true)
  | 20 => ("GlassLogModel", "watchLast", "[I", true)
  | 21 => ("GlassLogModel", "hasImage", "Z", false)
  | 22 => ("GlassLogModel", "kLogs", "[I", true)
  | 23 => ("GlassLogModel", "kLogMany", "I", false)
  | 24 => ("GlassLogModel", "kKeys", "[I", true)
  | 25 => ("GlassLogModel", "kValues", "[J", true)
  | 26 => ("GlassLogModel", "kGone", "[Z", true)
  | 27 => ("GlassLogModel", "kKept", "[Z", true)
  | 28 => ("GlassLogModel", "kWordKey", "[I", true)
  | 29 => ("GlassLogModel", "kWordSince", "[I", true)
  | 30 => ("GlassLogModel", "kWordHides", "[Z", true)
  | 31 => ("GlassLogModel", "kSlots", "[I", true)
  | 32 => ("GlassLogModel", "kSlotKeys", "[I", true)
  | 33 => ("GlassLogModel", "kSlotValues", "[J", true)
  | 34 => ("GlassLogModel", "kSteps", "[I", true)
  | 35 => ("GlassLogModel", "kReaders", "[I", true)
  | 36 => ("GlassLogModel", "kHas", "[Z", true)
  | 37 => ("GlassLogModel", "kBlames", "[I", true)
  | 38 => ("GlassLogModel", "kBlameMany", "I", false)
  | 39 => ("GlassLogModel", "kWatchers", "[I", true)
  | 40 => ("GlassLogModel", "kWatches", "[Z", true)
  | 41 => ("GlassLogModel", "kWatchKey", "[I", true)
  | 42 => ("GlassLogModel", "kWatchLast", "[I", true)
  | 43 => ("GlassLogModel", "words", "[I", true)
  | 44 => ("GlassLogModel", "mixed", "[I", true)
  | 45 => ("GlassLogModel", "deep", "[I", true)
  | 46 => ("GlassLogModel", "from", "[I", true)
  | 47 => ("GlassLogModel", "size", "[I", true)
  | 48 => ("GlassLogModel", "sums", "[I", true)
  | 49 => ("GlassLogModel", "blocks", "I", false)
  | 50 => ("GlassLogModel", "one", "[I", true)
  | 51 => ("GlassLogModel", "block", "[I", true)
  | 52 => ("GlassLogModel", "mapKey", "[I", true)
  | 53 => ("GlassLogModel", "mapLatest", "[I", true)
  | 54 => ("GlassLogModel", "way", "[I", true)
  | 55 => ("GlassLogModel", "order", "[I", true)
  | 56 => ("GlassLogModel", "other", "[I", true)
  | 57 => ("GlassLogModel", "mapMany", "I", false)
  | 58 => ("GlassLogModel", "trees", "[I", true)
  | 59 => ("GlassLogModel", "asked", "[I", true)
  | 60 => ("GlassLogModel", "side", "[I", true)
  | 61 => ("GlassLogModel", "keyWay", "[I", true)
  | 62 => ("GlassLogModel", "alone", "I", false)
  | 63 => ("GlassLogModel", "used", "I", false)
  | 64 => ("GlassLogModel", "found", "[I", true)
  | _ => ("GlassLogModel", "top", "[I", true)
def tyX9 : Nat → FieldType := fun k => match k with
  | 0 => .array .int
  | 1 => .int
  | 2 => .array .int
  | 3 => .array .long
  | 4 => .array .boolean
  | 5 => .array .boolean
  | 6 => .array .int
  | 7 => .array .int
  | 8 => .array .boolean
  | 9 => .array .int
  | 10 => .array .int
  | 11 => .array .long
  | 12 => .array .int
  | 13 => .array .int
  | 14 => .array .boolean
  | 15 => .array .int
  | 16 => .int
  | 17 => .array .int
  | 18 => .array .boolean
  | 19 => .array .int
  | 20 => .array .int
  | 21 => .boolean
  | 22 => .array .int
  | 23 => .int
  | 24 => .array .int
  | 25 => .array .long
  | 26 => .array .boolean
  | 27 => .array .boolean
  | 28 => .array .int
  | 29 => .array .int
  | 30 => .array .boolean
  | 31 => .array .int
  | 32 => .array .int
  | 33 => .array .long
  | 34 => .array .int
  | 35 => .array .int
  | 36 => .array .boolean
  | 37 => .array .int
  | 38 => .int
  | 39 => .array .int
  | 40 => .array .boolean
  | 41 => .array .int
  | 42 => .array .int
  | 43 => .array .int
  | 44 => .array .int
  | 45 => .array .int
  | 46 => .array .int
  | 47 => .array .int
  | 48 => .array .int
  | 49 => .int
  | 50 => .array .int
  | 51 => .array .int
  | 52 => .array .int
  | 53 => .array .int
  | 54 => .array .int
  | 55 => .array .int
  | 56 => .array .int
  | 57 => .int
  | 58 => .array .int
  | 59 => .array .int
  | 60 => .array .int
  | 61 => .array .int
  | 62 => .int
  | 63 => .int
  | 64 => .array .int
  | _ => .array .int
abbrev wsX90 : List Cond := u_ws RX9 TX9 66
set_option maxRecDepth 100000 in
theorem nmX9 : ∀ a, a < 66 → ∀ b, b < 66 → a ≠ b → (TX9 a).2.1 ≠ (TX9 b).2.1 := by decide +kernel
set_option maxRecDepth 100000 in
theorem tyX9_ok : ∀ k, k < 66 → parseFieldDescriptor (TX9 k).2.2.1 = some (tyX9 k) := by decide +kernel
abbrev cX9_init : ByteArray := prog_17_method_1_code
def yX9_init : MethodName := ⟨RX9, "<init>", "()V"⟩
def dkwX9_init_21 : List UInt8 := [188, 10, 181, 0, 178, 42, 16, 8, 188, 10, 181, 0, 181, 177]
abbrev dktX9_init_21 : List UInt8 := dkwX9_init_21 ++ []
def dkwX9_init_20 : List UInt8 := [188, 10, 181, 0, 169, 42, 16, 8, 188, 10, 181, 0, 172, 42, 16, 8, 188, 10, 181, 0, 175, 42, 16, 8]
abbrev dktX9_init_20 : List UInt8 := dkwX9_init_20 ++ dktX9_init_21
def dkwX9_init_19 : List UInt8 := [181, 0, 160, 42, 17, 1, 144, 188, 10, 181, 0, 163, 42, 17, 16, 64, 188, 10, 181, 0, 166, 42, 16, 28]
abbrev dktX9_init_19 : List UInt8 := dkwX9_init_19 ++ dktX9_init_20
def dkwX9_init_18 : List UInt8 := [42, 17, 1, 144, 188, 10, 181, 0, 154, 42, 17, 12, 128, 188, 10, 181, 0, 157, 42, 17, 1, 144, 188, 10]
abbrev dktX9_init_18 : List UInt8 := dkwX9_init_18 ++ dktX9_init_19
def dkwX9_init_17 : List UInt8 := [16, 8, 188, 10, 181, 0, 145, 42, 16, 8, 188, 10, 181, 0, 148, 42, 17, 1, 144, 188, 10, 181, 0, 151]
abbrev dktX9_init_17 : List UInt8 := dkwX9_init_17 ++ dktX9_init_18
def dkwX9_init_16 : List UInt8 := [188, 10, 181, 0, 136, 42, 16, 64, 188, 10, 181, 0, 139, 42, 17, 2, 0, 188, 10, 181, 0, 142, 42]
abbrev dktX9_init_16 : List UInt8 := dkwX9_init_16 ++ dktX9_init_17
def dkwX9_init_15 : List UInt8 := [181, 0, 127, 42, 16, 8, 188, 10, 181, 0, 130, 42, 17, 1, 0, 188, 10, 181, 0, 133, 42, 16, 64]
abbrev dktX9_init_15 : List UInt8 := dkwX9_init_15 ++ dktX9_init_16
def dkwX9_init_14 : List UInt8 := [17, 12, 128, 188, 10, 181, 0, 121, 42, 17, 12, 128, 188, 10, 181, 0, 124, 42, 16, 24, 188, 10]
abbrev dktX9_init_14 : List UInt8 := dkwX9_init_14 ++ dktX9_init_15
def dkwX9_init_13 : List UInt8 := [188, 10, 181, 0, 112, 42, 16, 40, 188, 10, 181, 0, 115, 42, 16, 8, 188, 4, 181, 0, 118, 42]
abbrev dktX9_init_13 : List UInt8 := dkwX9_init_13 ++ dktX9_init_14
def dkwX9_init_12 : List UInt8 := [181, 0, 103, 42, 17, 1, 80, 188, 10, 181, 0, 106, 42, 16, 12, 188, 4, 181, 0, 109, 42, 17, 13, 32]
abbrev dktX9_init_12 : List UInt8 := dkwX9_init_12 ++ dktX9_init_13
def dkwX9_init_11 : List UInt8 := [17, 2, 128, 188, 10, 181, 0, 97, 42, 17, 2, 128, 188, 11, 181, 0, 100, 42, 18, 45, 188, 10]
abbrev dktX9_init_11 : List UInt8 := dkwX9_init_11 ++ dktX9_init_12
def dkwX9_init_10 : List UInt8 := [181, 0, 88, 42, 17, 2, 88, 188, 4, 181, 0, 91, 42, 17, 0, 128, 188, 10, 181, 0, 94, 42]
abbrev dktX9_init_10 : List UInt8 := dkwX9_init_10 ++ dktX9_init_11
def dkwX9_init_9 : List UInt8 := [17, 9, 96, 188, 4, 181, 0, 82, 42, 17, 2, 88, 188, 10, 181, 0, 85, 42, 17, 2, 88, 188, 10]
abbrev dktX9_init_9 : List UInt8 := dkwX9_init_9 ++ dktX9_init_10
def dkwX9_init_8 : List UInt8 := [181, 0, 73, 42, 17, 9, 96, 188, 11, 181, 0, 76, 42, 17, 9, 96, 188, 4, 181, 0, 79, 42]
abbrev dktX9_init_8 : List UInt8 := dkwX9_init_8 ++ dktX9_init_9
def dkwX9_init_7 : List UInt8 := [42, 17, 12, 128, 188, 10, 181, 0, 67, 42, 16, 24, 188, 10, 181, 0, 70, 42, 17, 9, 96, 188, 10]
abbrev dktX9_init_7 : List UInt8 := dkwX9_init_7 ++ dktX9_init_8
def dkwX9_init_6 : List UInt8 := [16, 40, 188, 10, 181, 0, 58, 42, 16, 8, 188, 4, 181, 0, 61, 42, 17, 12, 128, 188, 10, 181, 0, 64]
abbrev dktX9_init_6 : List UInt8 := dkwX9_init_6 ++ dktX9_init_7
def dkwX9_init_5 : List UInt8 := [188, 10, 181, 0, 49, 42, 16, 12, 188, 4, 181, 0, 52, 42, 17, 13, 32, 188, 10, 181, 0, 55, 42]
abbrev dktX9_init_5 : List UInt8 := dkwX9_init_5 ++ dktX9_init_6
def dkwX9_init_4 : List UInt8 := [181, 0, 39, 42, 17, 2, 128, 188, 11, 181, 0, 42, 42, 18, 45, 188, 10, 181, 0, 46, 42, 17, 1, 80]
abbrev dktX9_init_4 : List UInt8 := dkwX9_init_4 ++ dktX9_init_5
def dkwX9_init_3 : List UInt8 := [17, 2, 88, 188, 4, 181, 0, 33, 42, 17, 0, 128, 188, 10, 181, 0, 36, 42, 17, 2, 128, 188, 10]
abbrev dktX9_init_3 : List UInt8 := dkwX9_init_3 ++ dktX9_init_4
def dkwX9_init_2 : List UInt8 := [181, 0, 24, 42, 17, 2, 88, 188, 10, 181, 0, 27, 42, 17, 2, 88, 188, 10, 181, 0, 30, 42]
abbrev dktX9_init_2 : List UInt8 := dkwX9_init_2 ++ dktX9_init_3
def dkwX9_init_1 : List UInt8 := [17, 9, 96, 188, 11, 181, 0, 16, 42, 17, 9, 96, 188, 4, 181, 0, 20, 42, 17, 9, 96, 188, 4]
abbrev dktX9_init_1 : List UInt8 := dkwX9_init_1 ++ dktX9_init_2
def dkwX9_init_0 : List UInt8 := [42, 183, 0, 1, 42, 16, 24, 188, 10, 181, 0, 9, 42, 17, 9, 96, 188, 10, 181, 0, 13, 42]
abbrev dktX9_init_0 : List UInt8 := dkwX9_init_0 ++ dktX9_init_1
theorem dksX9_init_0 : cX9_init.data.toList.drop 0 = dktX9_init_0 := by decide +kernel
theorem dksX9_init_1 : cX9_init.data.toList.drop 22 = dktX9_init_1 := dk_seg dksX9_init_0 22 rfl rfl
theorem dksX9_init_2 : cX9_init.data.toList.drop 45 = dktX9_init_2 := dk_seg dksX9_init_1 23 rfl rfl
theorem dksX9_init_3 : cX9_init.data.toList.drop 67 = dktX9_init_3 := dk_seg dksX9_init_2 22 rfl rfl
theorem dksX9_init_4 : cX9_init.data.toList.drop 90 = dktX9_init_4 := dk_seg dksX9_init_3 23 rfl rfl
theorem dksX9_init_5 : cX9_init.data.toList.drop 114 = dktX9_init_5 := dk_seg dksX9_init_4 24 rfl rfl
theorem dksX9_init_6 : cX9_init.data.toList.drop 137 = dktX9_init_6 := dk_seg dksX9_init_5 23 rfl rfl
theorem dksX9_init_7 : cX9_init.data.toList.drop 161 = dktX9_init_7 := dk_seg dksX9_init_6 24 rfl rfl
theorem dksX9_init_8 : cX9_init.data.toList.drop 184 = dktX9_init_8 := dk_seg dksX9_init_7 23 rfl rfl
theorem dksX9_init_9 : cX9_init.data.toList.drop 206 = dktX9_init_9 := dk_seg dksX9_init_8 22 rfl rfl
theorem dksX9_init_10 : cX9_init.data.toList.drop 229 = dktX9_init_10 := dk_seg dksX9_init_9 23 rfl rfl
theorem dksX9_init_11 : cX9_init.data.toList.drop 251 = dktX9_init_11 := dk_seg dksX9_init_10 22 rfl rfl
theorem dksX9_init_12 : cX9_init.data.toList.drop 273 = dktX9_init_12 := dk_seg dksX9_init_11 22 rfl rfl
theorem dksX9_init_13 : cX9_init.data.toList.drop 297 = dktX9_init_13 := dk_seg dksX9_init_12 24 rfl rfl
theorem dksX9_init_14 : cX9_init.data.toList.drop 319 = dktX9_init_14 := dk_seg dksX9_init_13 22 rfl rfl
theorem dksX9_init_15 : cX9_init.data.toList.drop 341 = dktX9_init_15 := dk_seg dksX9_init_14 22 rfl rfl
theorem dksX9_init_16 : cX9_init.data.toList.drop 364 = dktX9_init_16 := dk_seg dksX9_init_15 23 rfl rfl
theorem dksX9_init_17 : cX9_init.data.toList.drop 387 = dktX9_init_17 := dk_seg dksX9_init_16 23 rfl rfl
theorem dksX9_init_18 : cX9_init.data.toList.drop 411 = dktX9_init_18 := dk_seg dksX9_init_17 24 rfl rfl
theorem dksX9_init_19 : cX9_init.data.toList.drop 435 = dktX9_init_19 := dk_seg dksX9_init_18 24 rfl rfl
theorem dksX9_init_20 : cX9_init.data.toList.drop 459 = dktX9_init_20 := dk_seg dksX9_init_19 24 rfl rfl
theorem dksX9_init_21 : cX9_init.data.toList.drop 483 = dktX9_init_21 := dk_seg dksX9_init_20 24 rfl rfl
theorem dX9_init_0 : decode cX9_init 0 = .ok (.aload_n 0, 1) := dk_42 (dk_at dksX9_init_0 0 rfl rfl)
theorem dX9_init_1 : decode cX9_init 1 = .ok (.invokespecial 1, 3) := dk_183 0 1 (dk_at dksX9_init_0 1 rfl rfl)
theorem dX9_init_4 : decode cX9_init 4 = .ok (.aload_n 0, 1) := dk_42 (dk_at dksX9_init_0 4 rfl rfl)
theorem dX9_init_5 : decode cX9_init 5 = .ok (.bipush 24, 2) := dk_16 24 (dk_at dksX9_init_0 5 rfl rfl)
theorem dX9_init_7 : decode cX9_init 7 = .ok (.newarray .int, 2) := dk_188_10 (dk_at dksX9_init_0 7 rfl rfl)
theorem dX9_init_9 : decode cX9_init 9 = .ok (.putfield 9, 3) := dk_181 0 9 (dk_at dksX9_init_0 9 rfl rfl)
theorem dX9_init_12 : decode cX9_init 12 = .ok (.aload_n 0, 1) := dk_42 (dk_at dksX9_init_0 12 rfl rfl)
theorem dX9_init_13 : decode cX9_init 13 = .ok (.sipush 2400, 3) := dk_17 9 96 (dk_at dksX9_init_0 13 rfl rfl)
theorem dX9_init_16 : decode cX9_init 16 = .ok (.newarray .int, 2) := dk_188_10 (dk_at dksX9_init_0 16 rfl rfl)
theorem dX9_init_18 : decode cX9_init 18 = .ok (.putfield 13, 3) := dk_181 0 13 (dk_at dksX9_init_0 18 rfl rfl)
theorem dX9_init_21 : decode cX9_init 21 = .ok (.aload_n 0, 1) := dk_42 (dk_at dksX9_init_0 21 rfl rfl)
theorem dX9_init_22 : decode cX9_init 22 = .ok (.sipush 2400, 3) := dk_17 9 96 (dk_at dksX9_init_1 0 rfl rfl)
theorem dX9_init_25 : decode cX9_init 25 = .ok (.newarray .long, 2) := dk_188_11 (dk_at dksX9_init_1 3 rfl rfl)
theorem dX9_init_27 : decode cX9_init 27 = .ok (.putfield 16, 3) := dk_181 0 16 (dk_at dksX9_init_1 5 rfl rfl)
theorem dX9_init_30 : decode cX9_init 30 = .ok (.aload_n 0, 1) := dk_42 (dk_at dksX9_init_1 8 rfl rfl)
theorem dX9_init_31 : decode cX9_init 31 = .ok (.sipush 2400, 3) := dk_17 9 96 (dk_at dksX9_init_1 9 rfl rfl)
theorem dX9_init_34 : decode cX9_init 34 = .ok (.newarray .boolean, 2) := dk_188_4 (dk_at dksX9_init_1 12 rfl rfl)
theorem dX9_init_36 : decode cX9_init 36 = .ok (.putfield 20, 3) := dk_181 0 20 (dk_at dksX9_init_1 14 rfl rfl)
theorem dX9_init_39 : decode cX9_init 39 = .ok (.aload_n 0, 1) := dk_42 (dk_at dksX9_init_1 17 rfl rfl)
theorem dX9_init_40 : decode cX9_init 40 = .ok (.sipush 2400, 3) := dk_17 9 96 (dk_at dksX9_init_1 18 rfl rfl)
theorem dX9_init_43 : decode cX9_init 43 = .ok (.newarray .boolean, 2) := dk_188_4 (dk_at dksX9_init_1 21 rfl rfl)
theorem dX9_init_45 : decode cX9_init 45 = .ok (.putfield 24, 3) := dk_181 0 24 (dk_at dksX9_init_2 0 rfl rfl)
theorem dX9_init_48 : decode cX9_init 48 = .ok (.aload_n 0, 1) := dk_42 (dk_at dksX9_init_2 3 rfl rfl)
theorem dX9_init_49 : decode cX9_init 49 = .ok (.sipush 600, 3) := dk_17 2 88 (dk_at dksX9_init_2 4 rfl rfl)
theorem dX9_init_52 : decode cX9_init 52 = .ok (.newarray .int, 2) := dk_188_10 (dk_at dksX9_init_2 7 rfl rfl)
theorem dX9_init_54 : decode cX9_init 54 = .ok (.putfield 27, 3) := dk_181 0 27 (dk_at dksX9_init_2 9 rfl rfl)
theorem dX9_init_57 : decode cX9_init 57 = .ok (.aload_n 0, 1) := dk_42 (dk_at dksX9_init_2 12 rfl rfl)
theorem dX9_init_58 : decode cX9_init 58 = .ok (.sipush 600, 3) := dk_17 2 88 (dk_at dksX9_init_2 13 rfl rfl)
theorem dX9_init_61 : decode cX9_init 61 = .ok (.newarray .int, 2) := dk_188_10 (dk_at dksX9_init_2 16 rfl rfl)
theorem dX9_init_63 : decode cX9_init 63 = .ok (.putfield 30, 3) := dk_181 0 30 (dk_at dksX9_init_2 18 rfl rfl)
theorem dX9_init_66 : decode cX9_init 66 = .ok (.aload_n 0, 1) := dk_42 (dk_at dksX9_init_2 21 rfl rfl)
theorem dX9_init_67 : decode cX9_init 67 = .ok (.sipush 600, 3) := dk_17 2 88 (dk_at dksX9_init_3 0 rfl rfl)
theorem dX9_init_70 : decode cX9_init 70 = .ok (.newarray .boolean, 2) := dk_188_4 (dk_at dksX9_init_3 3 rfl rfl)
theorem dX9_init_72 : decode cX9_init 72 = .ok (.putfield 33, 3) := dk_181 0 33 (dk_at dksX9_init_3 5 rfl rfl)
theorem dX9_init_75 : decode cX9_init 75 = .ok (.aload_n 0, 1) := dk_42 (dk_at dksX9_init_3 8 rfl rfl)
theorem dX9_init_76 : decode cX9_init 76 = .ok (.sipush 128, 3) := dk_17 0 128 (dk_at dksX9_init_3 9 rfl rfl)
theorem dX9_init_79 : decode cX9_init 79 = .ok (.newarray .int, 2) := dk_188_10 (dk_at dksX9_init_3 12 rfl rfl)
theorem dX9_init_81 : decode cX9_init 81 = .ok (.putfield 36, 3) := dk_181 0 36 (dk_at dksX9_init_3 14 rfl rfl)
theorem dX9_init_84 : decode cX9_init 84 = .ok (.aload_n 0, 1) := dk_42 (dk_at dksX9_init_3 17 rfl rfl)
theorem dX9_init_85 : decode cX9_init 85 = .ok (.sipush 640, 3) := dk_17 2 128 (dk_at dksX9_init_3 18 rfl rfl)
theorem dX9_init_88 : decode cX9_init 88 = .ok (.newarray .int, 2) := dk_188_10 (dk_at dksX9_init_3 21 rfl rfl)
theorem dX9_init_90 : decode cX9_init 90 = .ok (.putfield 39, 3) := dk_181 0 39 (dk_at dksX9_init_4 0 rfl rfl)
theorem dX9_init_93 : decode cX9_init 93 = .ok (.aload_n 0, 1) := dk_42 (dk_at dksX9_init_4 3 rfl rfl)
theorem dX9_init_94 : decode cX9_init 94 = .ok (.sipush 640, 3) := dk_17 2 128 (dk_at dksX9_init_4 4 rfl rfl)
theorem dX9_init_97 : decode cX9_init 97 = .ok (.newarray .long, 2) := dk_188_11 (dk_at dksX9_init_4 7 rfl rfl)
theorem dX9_init_99 : decode cX9_init 99 = .ok (.putfield 42, 3) := dk_181 0 42 (dk_at dksX9_init_4 9 rfl rfl)
theorem dX9_init_102 : decode cX9_init 102 = .ok (.aload_n 0, 1) := dk_42 (dk_at dksX9_init_4 12 rfl rfl)
theorem dX9_init_103 : decode cX9_init 103 = .ok (.ldc 45, 2) := dk_18 45 (dk_at dksX9_init_4 13 rfl rfl)
theorem dX9_init_105 : decode cX9_init 105 = .ok (.newarray .int, 2) := dk_188_10 (dk_at dksX9_init_4 15 rfl rfl)
theorem dX9_init_107 : decode cX9_init 107 = .ok (.putfield 46, 3) := dk_181 0 46 (dk_at dksX9_init_4 17 rfl rfl)
theorem dX9_init_110 : decode cX9_init 110 = .ok (.aload_n 0, 1) := dk_42 (dk_at dksX9_init_4 20 rfl rfl)
theorem dX9_init_111 : decode cX9_init 111 = .ok (.sipush 336, 3) := dk_17 1 80 (dk_at dksX9_init_4 21 rfl rfl)
theorem dX9_init_114 : decode cX9_init 114 = .ok (.newarray .int, 2) := dk_188_10 (dk_at dksX9_init_5 0 rfl rfl)
theorem dX9_init_116 : decode cX9_init 116 = .ok (.putfield 49, 3) := dk_181 0 49 (dk_at dksX9_init_5 2 rfl rfl)
theorem dX9_init_119 : decode cX9_init 119 = .ok (.aload_n 0, 1) := dk_42 (dk_at dksX9_init_5 5 rfl rfl)
theorem dX9_init_120 : decode cX9_init 120 = .ok (.bipush 12, 2) := dk_16 12 (dk_at dksX9_init_5 6 rfl rfl)
theorem dX9_init_122 : decode cX9_init 122 = .ok (.newarray .boolean, 2) := dk_188_4 (dk_at dksX9_init_5 8 rfl rfl)
theorem dX9_init_124 : decode cX9_init 124 = .ok (.putfield 52, 3) := dk_181 0 52 (dk_at dksX9_init_5 10 rfl rfl)
theorem dX9_init_127 : decode cX9_init 127 = .ok (.aload_n 0, 1) := dk_42 (dk_at dksX9_init_5 13 rfl rfl)
theorem dX9_init_128 : decode cX9_init 128 = .ok (.sipush 3360, 3) := dk_17 13 32 (dk_at dksX9_init_5 14 rfl rfl)
theorem dX9_init_131 : decode cX9_init 131 = .ok (.newarray .int, 2) := dk_188_10 (dk_at dksX9_init_5 17 rfl rfl)
theorem dX9_init_133 : decode cX9_init 133 = .ok (.putfield 55, 3) := dk_181 0 55 (dk_at dksX9_init_5 19 rfl rfl)
theorem dX9_init_136 : decode cX9_init 136 = .ok (.aload_n 0, 1) := dk_42 (dk_at dksX9_init_5 22 rfl rfl)
theorem dX9_init_137 : decode cX9_init 137 = .ok (.bipush 40, 2) := dk_16 40 (dk_at dksX9_init_6 0 rfl rfl)
theorem dX9_init_139 : decode cX9_init 139 = .ok (.newarray .int, 2) := dk_188_10 (dk_at dksX9_init_6 2 rfl rfl)
theorem dX9_init_141 : decode cX9_init 141 = .ok (.putfield 58, 3) := dk_181 0 58 (dk_at dksX9_init_6 4 rfl rfl)
theorem dX9_init_144 : decode cX9_init 144 = .ok (.aload_n 0, 1) := dk_42 (dk_at dksX9_init_6 7 rfl rfl)
theorem dX9_init_145 : decode cX9_init 145 = .ok (.bipush 8, 2) := dk_16 8 (dk_at dksX9_init_6 8 rfl rfl)
theorem dX9_init_147 : decode cX9_init 147 = .ok (.newarray .boolean, 2) := dk_188_4 (dk_at dksX9_init_6 10 rfl rfl)
theorem dX9_init_149 : decode cX9_init 149 = .ok (.putfield 61, 3) := dk_181 0 61 (dk_at dksX9_init_6 12 rfl rfl)
theorem dX9_init_152 : decode cX9_init 152 = .ok (.aload_n 0, 1) := dk_42 (dk_at dksX9_init_6 15 rfl rfl)
theorem dX9_init_153 : decode cX9_init 153 = .ok (.sipush 3200, 3) := dk_17 12 128 (dk_at dksX9_init_6 16 rfl rfl)
theorem dX9_init_156 : decode cX9_init 156 = .ok (.newarray .int, 2) := dk_188_10 (dk_at dksX9_init_6 19 rfl rfl)
theorem dX9_init_158 : decode cX9_init 158 = .ok (.putfield 64, 3) := dk_181 0 64 (dk_at dksX9_init_6 21 rfl rfl)
theorem dX9_init_161 : decode cX9_init 161 = .ok (.aload_n 0, 1) := dk_42 (dk_at dksX9_init_7 0 rfl rfl)
theorem dX9_init_162 : decode cX9_init 162 = .ok (.sipush 3200, 3) := dk_17 12 128 (dk_at dksX9_init_7 1 rfl rfl)
theorem dX9_init_165 : decode cX9_init 165 = .ok (.newarray .int, 2) := dk_188_10 (dk_at dksX9_init_7 4 rfl rfl)
theorem dX9_init_167 : decode cX9_init 167 = .ok (.putfield 67, 3) := dk_181 0 67 (dk_at dksX9_init_7 6 rfl rfl)
theorem dX9_init_170 : decode cX9_init 170 = .ok (.aload_n 0, 1) := dk_42 (dk_at dksX9_init_7 9 rfl rfl)
theorem dX9_init_171 : decode cX9_init 171 = .ok (.bipush 24, 2) := dk_16 24 (dk_at dksX9_init_7 10 rfl rfl)
theorem dX9_init_173 : decode cX9_init 173 = .ok (.newarray .int, 2) := dk_188_10 (dk_at dksX9_init_7 12 rfl rfl)
theorem dX9_init_175 : decode cX9_init 175 = .ok (.putfield 70, 3) := dk_181 0 70 (dk_at dksX9_init_7 14 rfl rfl)
theorem dX9_init_178 : decode cX9_init 178 = .ok (.aload_n 0, 1) := dk_42 (dk_at dksX9_init_7 17 rfl rfl)
theorem dX9_init_179 : decode cX9_init 179 = .ok (.sipush 2400, 3) := dk_17 9 96 (dk_at dksX9_init_7 18 rfl rfl)
theorem dX9_init_182 : decode cX9_init 182 = .ok (.newarray .int, 2) := dk_188_10 (dk_at dksX9_init_7 21 rfl rfl)
theorem dX9_init_184 : decode cX9_init 184 = .ok (.putfield 73, 3) := dk_181 0 73 (dk_at dksX9_init_8 0 rfl rfl)
theorem dX9_init_187 : decode cX9_init 187 = .ok (.aload_n 0, 1) := dk_42 (dk_at dksX9_init_8 3 rfl rfl)
theorem dX9_init_188 : decode cX9_init 188 = .ok (.sipush 2400, 3) := dk_17 9 96 (dk_at dksX9_init_8 4 rfl rfl)
theorem dX9_init_191 : decode cX9_init 191 = .ok (.newarray .long, 2) := dk_188_11 (dk_at dksX9_init_8 7 rfl rfl)
theorem dX9_init_193 : decode cX9_init 193 = .ok (.putfield 76, 3) := dk_181 0 76 (dk_at dksX9_init_8 9 rfl rfl)
theorem dX9_init_196 : decode cX9_init 196 = .ok (.aload_n 0, 1) := dk_42 (dk_at dksX9_init_8 12 rfl rfl)
theorem dX9_init_197 : decode cX9_init 197 = .ok (.sipush 2400, 3) := dk_17 9 96 (dk_at dksX9_init_8 13 rfl rfl)
theorem dX9_init_200 : decode cX9_init 200 = .ok (.newarray .boolean, 2) := dk_188_4 (dk_at dksX9_init_8 16 rfl rfl)
theorem dX9_init_202 : decode cX9_init 202 = .ok (.putfield 79, 3) := dk_181 0 79 (dk_at dksX9_init_8 18 rfl rfl)
theorem dX9_init_205 : decode cX9_init 205 = .ok (.aload_n 0, 1) := dk_42 (dk_at dksX9_init_8 21 rfl rfl)
theorem dX9_init_206 : decode cX9_init 206 = .ok (.sipush 2400, 3) := dk_17 9 96 (dk_at dksX9_init_9 0 rfl rfl)
theorem dX9_init_209 : decode cX9_init 209 = .ok (.newarray .boolean, 2) := dk_188_4 (dk_at dksX9_init_9 3 rfl rfl)
theorem dX9_init_211 : decode cX9_init 211 = .ok (.putfield 82, 3) := dk_181 0 82 (dk_at dksX9_init_9 5 rfl rfl)
theorem dX9_init_214 : decode cX9_init 214 = .ok (.aload_n 0, 1) := dk_42 (dk_at dksX9_init_9 8 rfl rfl)
theorem dX9_init_215 : decode cX9_init 215 = .ok (.sipush 600, 3) := dk_17 2 88 (dk_at dksX9_init_9 9 rfl rfl)
theorem dX9_init_218 : decode cX9_init 218 = .ok (.newarray .int, 2) := dk_188_10 (dk_at dksX9_init_9 12 rfl rfl)
theorem dX9_init_220 : decode cX9_init 220 = .ok (.putfield 85, 3) := dk_181 0 85 (dk_at dksX9_init_9 14 rfl rfl)
theorem dX9_init_223 : decode cX9_init 223 = .ok (.aload_n 0, 1) := dk_42 (dk_at dksX9_init_9 17 rfl rfl)
theorem dX9_init_224 : decode cX9_init 224 = .ok (.sipush 600, 3) := dk_17 2 88 (dk_at dksX9_init_9 18 rfl rfl)
theorem dX9_init_227 : decode cX9_init 227 = .ok (.newarray .int, 2) := dk_188_10 (dk_at dksX9_init_9 21 rfl rfl)
theorem dX9_init_229 : decode cX9_init 229 = .ok (.putfield 88, 3) := dk_181 0 88 (dk_at dksX9_init_10 0 rfl rfl)
theorem dX9_init_232 : decode cX9_init 232 = .ok (.aload_n 0, 1) := dk_42 (dk_at dksX9_init_10 3 rfl rfl)
theorem dX9_init_233 : decode cX9_init 233 = .ok (.sipush 600, 3) := dk_17 2 88 (dk_at dksX9_init_10 4 rfl rfl)
theorem dX9_init_236 : decode cX9_init 236 = .ok (.newarray .boolean, 2) := dk_188_4 (dk_at dksX9_init_10 7 rfl rfl)
theorem dX9_init_238 : decode cX9_init 238 = .ok (.putfield 91, 3) := dk_181 0 91 (dk_at dksX9_init_10 9 rfl rfl)
theorem dX9_init_241 : decode cX9_init 241 = .ok (.aload_n 0, 1) := dk_42 (dk_at dksX9_init_10 12 rfl rfl)
theorem dX9_init_242 : decode cX9_init 242 = .ok (.sipush 128, 3) := dk_17 0 128 (dk_at dksX9_init_10 13 rfl rfl)
theorem dX9_init_245 : decode cX9_init 245 = .ok (.newarray .int, 2) := dk_188_10 (dk_at dksX9_init_10 16 rfl rfl)
theorem dX9_init_247 : decode cX9_init 247 = .ok (.putfield 94, 3) := dk_181 0 94 (dk_at dksX9_init_10 18 rfl rfl)
theorem dX9_init_250 : decode cX9_init 250 = .ok (.aload_n 0, 1) := dk_42 (dk_at dksX9_init_10 21 rfl rfl)
theorem dX9_init_251 : decode cX9_init 251 = .ok (.sipush 640, 3) := dk_17 2 128 (dk_at dksX9_init_11 0 rfl rfl)
theorem dX9_init_254 : decode cX9_init 254 = .ok (.newarray .int, 2) := dk_188_10 (dk_at dksX9_init_11 3 rfl rfl)
theorem dX9_init_256 : decode cX9_init 256 = .ok (.putfield 97, 3) := dk_181 0 97 (dk_at dksX9_init_11 5 rfl rfl)
theorem dX9_init_259 : decode cX9_init 259 = .ok (.aload_n 0, 1) := dk_42 (dk_at dksX9_init_11 8 rfl rfl)
theorem dX9_init_260 : decode cX9_init 260 = .ok (.sipush 640, 3) := dk_17 2 128 (dk_at dksX9_init_11 9 rfl rfl)
theorem dX9_init_263 : decode cX9_init 263 = .ok (.newarray .long, 2) := dk_188_11 (dk_at dksX9_init_11 12 rfl rfl)
theorem dX9_init_265 : decode cX9_init 265 = .ok (.putfield 100, 3) := dk_181 0 100 (dk_at dksX9_init_11 14 rfl rfl)
theorem dX9_init_268 : decode cX9_init 268 = .ok (.aload_n 0, 1) := dk_42 (dk_at dksX9_init_11 17 rfl rfl)
theorem dX9_init_269 : decode cX9_init 269 = .ok (.ldc 45, 2) := dk_18 45 (dk_at dksX9_init_11 18 rfl rfl)
theorem dX9_init_271 : decode cX9_init 271 = .ok (.newarray .int, 2) := dk_188_10 (dk_at dksX9_init_11 20 rfl rfl)
theorem dX9_init_273 : decode cX9_init 273 = .ok (.putfield 103, 3) := dk_181 0 103 (dk_at dksX9_init_12 0 rfl rfl)
theorem dX9_init_276 : decode cX9_init 276 = .ok (.aload_n 0, 1) := dk_42 (dk_at dksX9_init_12 3 rfl rfl)
theorem dX9_init_277 : decode cX9_init 277 = .ok (.sipush 336, 3) := dk_17 1 80 (dk_at dksX9_init_12 4 rfl rfl)
theorem dX9_init_280 : decode cX9_init 280 = .ok (.newarray .int, 2) := dk_188_10 (dk_at dksX9_init_12 7 rfl rfl)
theorem dX9_init_282 : decode cX9_init 282 = .ok (.putfield 106, 3) := dk_181 0 106 (dk_at dksX9_init_12 9 rfl rfl)
theorem dX9_init_285 : decode cX9_init 285 = .ok (.aload_n 0, 1) := dk_42 (dk_at dksX9_init_12 12 rfl rfl)
theorem dX9_init_286 : decode cX9_init 286 = .ok (.bipush 12, 2) := dk_16 12 (dk_at dksX9_init_12 13 rfl rfl)
theorem dX9_init_288 : decode cX9_init 288 = .ok (.newarray .boolean, 2) := dk_188_4 (dk_at dksX9_init_12 15 rfl rfl)
theorem dX9_init_290 : decode cX9_init 290 = .ok (.putfield 109, 3) := dk_181 0 109 (dk_at dksX9_init_12 17 rfl rfl)
theorem dX9_init_293 : decode cX9_init 293 = .ok (.aload_n 0, 1) := dk_42 (dk_at dksX9_init_12 20 rfl rfl)
theorem dX9_init_294 : decode cX9_init 294 = .ok (.sipush 3360, 3) := dk_17 13 32 (dk_at dksX9_init_12 21 rfl rfl)
theorem dX9_init_297 : decode cX9_init 297 = .ok (.newarray .int, 2) := dk_188_10 (dk_at dksX9_init_13 0 rfl rfl)
theorem dX9_init_299 : decode cX9_init 299 = .ok (.putfield 112, 3) := dk_181 0 112 (dk_at dksX9_init_13 2 rfl rfl)
theorem dX9_init_302 : decode cX9_init 302 = .ok (.aload_n 0, 1) := dk_42 (dk_at dksX9_init_13 5 rfl rfl)
theorem dX9_init_303 : decode cX9_init 303 = .ok (.bipush 40, 2) := dk_16 40 (dk_at dksX9_init_13 6 rfl rfl)
theorem dX9_init_305 : decode cX9_init 305 = .ok (.newarray .int, 2) := dk_188_10 (dk_at dksX9_init_13 8 rfl rfl)
theorem dX9_init_307 : decode cX9_init 307 = .ok (.putfield 115, 3) := dk_181 0 115 (dk_at dksX9_init_13 10 rfl rfl)
theorem dX9_init_310 : decode cX9_init 310 = .ok (.aload_n 0, 1) := dk_42 (dk_at dksX9_init_13 13 rfl rfl)
theorem dX9_init_311 : decode cX9_init 311 = .ok (.bipush 8, 2) := dk_16 8 (dk_at dksX9_init_13 14 rfl rfl)
theorem dX9_init_313 : decode cX9_init 313 = .ok (.newarray .boolean, 2) := dk_188_4 (dk_at dksX9_init_13 16 rfl rfl)
theorem dX9_init_315 : decode cX9_init 315 = .ok (.putfield 118, 3) := dk_181 0 118 (dk_at dksX9_init_13 18 rfl rfl)
theorem dX9_init_318 : decode cX9_init 318 = .ok (.aload_n 0, 1) := dk_42 (dk_at dksX9_init_13 21 rfl rfl)
theorem dX9_init_319 : decode cX9_init 319 = .ok (.sipush 3200, 3) := dk_17 12 128 (dk_at dksX9_init_14 0 rfl rfl)
theorem dX9_init_322 : decode cX9_init 322 = .ok (.newarray .int, 2) := dk_188_10 (dk_at dksX9_init_14 3 rfl rfl)
theorem dX9_init_324 : decode cX9_init 324 = .ok (.putfield 121, 3) := dk_181 0 121 (dk_at dksX9_init_14 5 rfl rfl)
theorem dX9_init_327 : decode cX9_init 327 = .ok (.aload_n 0, 1) := dk_42 (dk_at dksX9_init_14 8 rfl rfl)
theorem dX9_init_328 : decode cX9_init 328 = .ok (.sipush 3200, 3) := dk_17 12 128 (dk_at dksX9_init_14 9 rfl rfl)
theorem dX9_init_331 : decode cX9_init 331 = .ok (.newarray .int, 2) := dk_188_10 (dk_at dksX9_init_14 12 rfl rfl)
theorem dX9_init_333 : decode cX9_init 333 = .ok (.putfield 124, 3) := dk_181 0 124 (dk_at dksX9_init_14 14 rfl rfl)
theorem dX9_init_336 : decode cX9_init 336 = .ok (.aload_n 0, 1) := dk_42 (dk_at dksX9_init_14 17 rfl rfl)
theorem dX9_init_337 : decode cX9_init 337 = .ok (.bipush 24, 2) := dk_16 24 (dk_at dksX9_init_14 18 rfl rfl)
theorem dX9_init_339 : decode cX9_init 339 = .ok (.newarray .int, 2) := dk_188_10 (dk_at dksX9_init_14 20 rfl rfl)
theorem dX9_init_341 : decode cX9_init 341 = .ok (.putfield 127, 3) := dk_181 0 127 (dk_at dksX9_init_15 0 rfl rfl)
theorem dX9_init_344 : decode cX9_init 344 = .ok (.aload_n 0, 1) := dk_42 (dk_at dksX9_init_15 3 rfl rfl)
theorem dX9_init_345 : decode cX9_init 345 = .ok (.bipush 8, 2) := dk_16 8 (dk_at dksX9_init_15 4 rfl rfl)
theorem dX9_init_347 : decode cX9_init 347 = .ok (.newarray .int, 2) := dk_188_10 (dk_at dksX9_init_15 6 rfl rfl)
theorem dX9_init_349 : decode cX9_init 349 = .ok (.putfield 130, 3) := dk_181 0 130 (dk_at dksX9_init_15 8 rfl rfl)
theorem dX9_init_352 : decode cX9_init 352 = .ok (.aload_n 0, 1) := dk_42 (dk_at dksX9_init_15 11 rfl rfl)
theorem dX9_init_353 : decode cX9_init 353 = .ok (.sipush 256, 3) := dk_17 1 0 (dk_at dksX9_init_15 12 rfl rfl)
theorem dX9_init_356 : decode cX9_init 356 = .ok (.newarray .int, 2) := dk_188_10 (dk_at dksX9_init_15 15 rfl rfl)
theorem dX9_init_358 : decode cX9_init 358 = .ok (.putfield 133, 3) := dk_181 0 133 (dk_at dksX9_init_15 17 rfl rfl)
theorem dX9_init_361 : decode cX9_init 361 = .ok (.aload_n 0, 1) := dk_42 (dk_at dksX9_init_15 20 rfl rfl)
theorem dX9_init_362 : decode cX9_init 362 = .ok (.bipush 64, 2) := dk_16 64 (dk_at dksX9_init_15 21 rfl rfl)
theorem dX9_init_364 : decode cX9_init 364 = .ok (.newarray .int, 2) := dk_188_10 (dk_at dksX9_init_16 0 rfl rfl)
theorem dX9_init_366 : decode cX9_init 366 = .ok (.putfield 136, 3) := dk_181 0 136 (dk_at dksX9_init_16 2 rfl rfl)
theorem dX9_init_369 : decode cX9_init 369 = .ok (.aload_n 0, 1) := dk_42 (dk_at dksX9_init_16 5 rfl rfl)
theorem dX9_init_370 : decode cX9_init 370 = .ok (.bipush 64, 2) := dk_16 64 (dk_at dksX9_init_16 6 rfl rfl)
theorem dX9_init_372 : decode cX9_init 372 = .ok (.newarray .int, 2) := dk_188_10 (dk_at dksX9_init_16 8 rfl rfl)
theorem dX9_init_374 : decode cX9_init 374 = .ok (.putfield 139, 3) := dk_181 0 139 (dk_at dksX9_init_16 10 rfl rfl)
theorem dX9_init_377 : decode cX9_init 377 = .ok (.aload_n 0, 1) := dk_42 (dk_at dksX9_init_16 13 rfl rfl)
theorem dX9_init_378 : decode cX9_init 378 = .ok (.sipush 512, 3) := dk_17 2 0 (dk_at dksX9_init_16 14 rfl rfl)
theorem dX9_init_381 : decode cX9_init 381 = .ok (.newarray .int, 2) := dk_188_10 (dk_at dksX9_init_16 17 rfl rfl)
theorem dX9_init_383 : decode cX9_init 383 = .ok (.putfield 142, 3) := dk_181 0 142 (dk_at dksX9_init_16 19 rfl rfl)
theorem dX9_init_386 : decode cX9_init 386 = .ok (.aload_n 0, 1) := dk_42 (dk_at dksX9_init_16 22 rfl rfl)
theorem dX9_init_387 : decode cX9_init 387 = .ok (.bipush 8, 2) := dk_16 8 (dk_at dksX9_init_17 0 rfl rfl)
theorem dX9_init_389 : decode cX9_init 389 = .ok (.newarray .int, 2) := dk_188_10 (dk_at dksX9_init_17 2 rfl rfl)
theorem dX9_init_391 : decode cX9_init 391 = .ok (.putfield 145, 3) := dk_181 0 145 (dk_at dksX9_init_17 4 rfl rfl)
theorem dX9_init_394 : decode cX9_init 394 = .ok (.aload_n 0, 1) := dk_42 (dk_at dksX9_init_17 7 rfl rfl)
theorem dX9_init_395 : decode cX9_init 395 = .ok (.bipush 8, 2) := dk_16 8 (dk_at dksX9_init_17 8 rfl rfl)
theorem dX9_init_397 : decode cX9_init 397 = .ok (.newarray .int, 2) := dk_188_10 (dk_at dksX9_init_17 10 rfl rfl)
theorem dX9_init_399 : decode cX9_init 399 = .ok (.putfield 148, 3) := dk_181 0 148 (dk_at dksX9_init_17 12 rfl rfl)
theorem dX9_init_402 : decode cX9_init 402 = .ok (.aload_n 0, 1) := dk_42 (dk_at dksX9_init_17 15 rfl rfl)
theorem dX9_init_403 : decode cX9_init 403 = .ok (.sipush 400, 3) := dk_17 1 144 (dk_at dksX9_init_17 16 rfl rfl)
theorem dX9_init_406 : decode cX9_init 406 = .ok (.newarray .int, 2) := dk_188_10 (dk_at dksX9_init_17 19 rfl rfl)
theorem dX9_init_408 : decode cX9_init 408 = .ok (.putfield 151, 3) := dk_181 0 151 (dk_at dksX9_init_17 21 rfl rfl)
theorem dX9_init_411 : decode cX9_init 411 = .ok (.aload_n 0, 1) := dk_42 (dk_at dksX9_init_18 0 rfl rfl)
theorem dX9_init_412 : decode cX9_init 412 = .ok (.sipush 400, 3) := dk_17 1 144 (dk_at dksX9_init_18 1 rfl rfl)
theorem dX9_init_415 : decode cX9_init 415 = .ok (.newarray .int, 2) := dk_188_10 (dk_at dksX9_init_18 4 rfl rfl)
theorem dX9_init_417 : decode cX9_init 417 = .ok (.putfield 154, 3) := dk_181 0 154 (dk_at dksX9_init_18 6 rfl rfl)
theorem dX9_init_420 : decode cX9_init 420 = .ok (.aload_n 0, 1) := dk_42 (dk_at dksX9_init_18 9 rfl rfl)
theorem dX9_init_421 : decode cX9_init 421 = .ok (.sipush 3200, 3) := dk_17 12 128 (dk_at dksX9_init_18 10 rfl rfl)
theorem dX9_init_424 : decode cX9_init 424 = .ok (.newarray .int, 2) := dk_188_10 (dk_at dksX9_init_18 13 rfl rfl)
theorem dX9_init_426 : decode cX9_init 426 = .ok (.putfield 157, 3) := dk_181 0 157 (dk_at dksX9_init_18 15 rfl rfl)
theorem dX9_init_429 : decode cX9_init 429 = .ok (.aload_n 0, 1) := dk_42 (dk_at dksX9_init_18 18 rfl rfl)
theorem dX9_init_430 : decode cX9_init 430 = .ok (.sipush 400, 3) := dk_17 1 144 (dk_at dksX9_init_18 19 rfl rfl)
theorem dX9_init_433 : decode cX9_init 433 = .ok (.newarray .int, 2) := dk_188_10 (dk_at dksX9_init_18 22 rfl rfl)
theorem dX9_init_435 : decode cX9_init 435 = .ok (.putfield 160, 3) := dk_181 0 160 (dk_at dksX9_init_19 0 rfl rfl)
theorem dX9_init_438 : decode cX9_init 438 = .ok (.aload_n 0, 1) := dk_42 (dk_at dksX9_init_19 3 rfl rfl)
theorem dX9_init_439 : decode cX9_init 439 = .ok (.sipush 400, 3) := dk_17 1 144 (dk_at dksX9_init_19 4 rfl rfl)
theorem dX9_init_442 : decode cX9_init 442 = .ok (.newarray .int, 2) := dk_188_10 (dk_at dksX9_init_19 7 rfl rfl)
theorem dX9_init_444 : decode cX9_init 444 = .ok (.putfield 163, 3) := dk_181 0 163 (dk_at dksX9_init_19 9 rfl rfl)
theorem dX9_init_447 : decode cX9_init 447 = .ok (.aload_n 0, 1) := dk_42 (dk_at dksX9_init_19 12 rfl rfl)
theorem dX9_init_448 : decode cX9_init 448 = .ok (.sipush 4160, 3) := dk_17 16 64 (dk_at dksX9_init_19 13 rfl rfl)
theorem dX9_init_451 : decode cX9_init 451 = .ok (.newarray .int, 2) := dk_188_10 (dk_at dksX9_init_19 16 rfl rfl)
theorem dX9_init_453 : decode cX9_init 453 = .ok (.putfield 166, 3) := dk_181 0 166 (dk_at dksX9_init_19 18 rfl rfl)
theorem dX9_init_456 : decode cX9_init 456 = .ok (.aload_n 0, 1) := dk_42 (dk_at dksX9_init_19 21 rfl rfl)
theorem dX9_init_457 : decode cX9_init 457 = .ok (.bipush 28, 2) := dk_16 28 (dk_at dksX9_init_19 22 rfl rfl)
theorem dX9_init_459 : decode cX9_init 459 = .ok (.newarray .int, 2) := dk_188_10 (dk_at dksX9_init_20 0 rfl rfl)
theorem dX9_init_461 : decode cX9_init 461 = .ok (.putfield 169, 3) := dk_181 0 169 (dk_at dksX9_init_20 2 rfl rfl)
theorem dX9_init_464 : decode cX9_init 464 = .ok (.aload_n 0, 1) := dk_42 (dk_at dksX9_init_20 5 rfl rfl)
theorem dX9_init_465 : decode cX9_init 465 = .ok (.bipush 8, 2) := dk_16 8 (dk_at dksX9_init_20 6 rfl rfl)
theorem dX9_init_467 : decode cX9_init 467 = .ok (.newarray .int, 2) := dk_188_10 (dk_at dksX9_init_20 8 rfl rfl)
theorem dX9_init_469 : decode cX9_init 469 = .ok (.putfield 172, 3) := dk_181 0 172 (dk_at dksX9_init_20 10 rfl rfl)
theorem dX9_init_472 : decode cX9_init 472 = .ok (.aload_n 0, 1) := dk_42 (dk_at dksX9_init_20 13 rfl rfl)
theorem dX9_init_473 : decode cX9_init 473 = .ok (.bipush 8, 2) := dk_16 8 (dk_at dksX9_init_20 14 rfl rfl)
theorem dX9_init_475 : decode cX9_init 475 = .ok (.newarray .int, 2) := dk_188_10 (dk_at dksX9_init_20 16 rfl rfl)
theorem dX9_init_477 : decode cX9_init 477 = .ok (.putfield 175, 3) := dk_181 0 175 (dk_at dksX9_init_20 18 rfl rfl)
theorem dX9_init_480 : decode cX9_init 480 = .ok (.aload_n 0, 1) := dk_42 (dk_at dksX9_init_20 21 rfl rfl)
theorem dX9_init_481 : decode cX9_init 481 = .ok (.bipush 8, 2) := dk_16 8 (dk_at dksX9_init_20 22 rfl rfl)
theorem dX9_init_483 : decode cX9_init 483 = .ok (.newarray .int, 2) := dk_188_10 (dk_at dksX9_init_21 0 rfl rfl)
theorem dX9_init_485 : decode cX9_init 485 = .ok (.putfield 178, 3) := dk_181 0 178 (dk_at dksX9_init_21 2 rfl rfl)
theorem dX9_init_488 : decode cX9_init 488 = .ok (.aload_n 0, 1) := dk_42 (dk_at dksX9_init_21 5 rfl rfl)
theorem dX9_init_489 : decode cX9_init 489 = .ok (.bipush 8, 2) := dk_16 8 (dk_at dksX9_init_21 6 rfl rfl)
theorem dX9_init_491 : decode cX9_init 491 = .ok (.newarray .int, 2) := dk_188_10 (dk_at dksX9_init_21 8 rfl rfl)
theorem dX9_init_493 : decode cX9_init 493 = .ok (.putfield 181, 3) := dk_181 0 181 (dk_at dksX9_init_21 10 rfl rfl)
theorem dX9_init_496 : decode cX9_init 496 = .ok (.return_, 1) := dk_177 (dk_at dksX9_init_21 13 rfl rfl)
abbrev cX9_open : ByteArray := prog_17_method_26_code
def yX9_open : MethodName := ⟨RX9, "open", "(I)I"⟩
def dkwX9_open_3 : List UInt8 := [96, 3, 79, 42, 89, 180, 1, 11, 4, 96, 181, 1, 11, 42, 180, 1, 11, 4, 100, 172]
abbrev dktX9_open_3 : List UInt8 := dkwX9_open_3 ++ []
def dkwX9_open_2 : List UInt8 := [180, 0, 9, 7, 42, 180, 1, 11, 104, 5, 96, 3, 79, 42, 180, 0, 9, 7, 42, 180, 1, 11, 104, 6]
abbrev dktX9_open_2 : List UInt8 := dkwX9_open_2 ++ dktX9_open_3
def dkwX9_open_1 : List UInt8 := [7, 42, 180, 1, 11, 104, 27, 79, 42, 180, 0, 9, 7, 42, 180, 1, 11, 104, 4, 96, 3, 79, 42]
abbrev dktX9_open_1 : List UInt8 := dkwX9_open_1 ++ dktX9_open_2
def dkwX9_open_0 : List UInt8 := [27, 155, 0, 17, 27, 6, 163, 0, 12, 42, 180, 1, 11, 16, 6, 160, 0, 5, 2, 172, 42, 180, 0, 9]
abbrev dktX9_open_0 : List UInt8 := dkwX9_open_0 ++ dktX9_open_1
theorem dksX9_open_0 : cX9_open.data.toList.drop 0 = dktX9_open_0 := by decide +kernel
theorem dksX9_open_1 : cX9_open.data.toList.drop 24 = dktX9_open_1 := dk_seg dksX9_open_0 24 rfl rfl
theorem dksX9_open_2 : cX9_open.data.toList.drop 47 = dktX9_open_2 := dk_seg dksX9_open_1 23 rfl rfl
theorem dksX9_open_3 : cX9_open.data.toList.drop 71 = dktX9_open_3 := dk_seg dksX9_open_2 24 rfl rfl
theorem dX9_open_0 : decode cX9_open 0 = .ok (.iload_n 1, 1) := dk_27 (dk_at dksX9_open_0 0 rfl rfl)
theorem dX9_open_1 : decode cX9_open 1 = .ok (.ifCond .lt 17, 3) := dk_155 0 17 (dk_at dksX9_open_0 1 rfl rfl)
theorem dX9_open_4 : decode cX9_open 4 = .ok (.iload_n 1, 1) := dk_27 (dk_at dksX9_open_0 4 rfl rfl)
theorem dX9_open_5 : decode cX9_open 5 = .ok (.iconst 3, 1) := dk_6 (dk_at dksX9_open_0 5 rfl rfl)
theorem dX9_open_6 : decode cX9_open 6 = .ok (.if_icmp .gt 12, 3) := dk_163 0 12 (dk_at dksX9_open_0 6 rfl rfl)
theorem dX9_open_9 : decode cX9_open 9 = .ok (.aload_n 0, 1) := dk_42 (dk_at dksX9_open_0 9 rfl rfl)
theorem dX9_open_10 : decode cX9_open 10 = .ok (.getfield 267, 3) := dk_180 1 11 (dk_at dksX9_open_0 10 rfl rfl)
theorem dX9_open_13 : decode cX9_open 13 = .ok (.bipush 6, 2) := dk_16 6 (dk_at dksX9_open_0 13 rfl rfl)
theorem dX9_open_15 : decode cX9_open 15 = .ok (.if_icmp .ne 5, 3) := dk_160 0 5 (dk_at dksX9_open_0 15 rfl rfl)
theorem dX9_open_18 : decode cX9_open 18 = .ok (.iconst (-1), 1) := dk_2 (dk_at dksX9_open_0 18 rfl rfl)
theorem dX9_open_19 : decode cX9_open 19 = .ok (.ireturn, 1) := dk_172 (dk_at dksX9_open_0 19 rfl rfl)
theorem dX9_open_20 : decode cX9_open 20 = .ok (.aload_n 0, 1) := dk_42 (dk_at dksX9_open_0 20 rfl rfl)
theorem dX9_open_21 : decode cX9_open 21 = .ok (.getfield 9, 3) := dk_180 0 9 (dk_at dksX9_open_0 21 rfl rfl)
theorem dX9_open_24 : decode cX9_open 24 = .ok (.iconst 4, 1) := dk_7 (dk_at dksX9_open_1 0 rfl rfl)
theorem dX9_open_25 : decode cX9_open 25 = .ok (.aload_n 0, 1) := dk_42 (dk_at dksX9_open_1 1 rfl rfl)
theorem dX9_open_26 : decode cX9_open 26 = .ok (.getfield 267, 3) := dk_180 1 11 (dk_at dksX9_open_1 2 rfl rfl)
theorem dX9_open_29 : decode cX9_open 29 = .ok (.imul, 1) := dk_104 (dk_at dksX9_open_1 5 rfl rfl)
theorem dX9_open_30 : decode cX9_open 30 = .ok (.iload_n 1, 1) := dk_27 (dk_at dksX9_open_1 6 rfl rfl)
theorem dX9_open_31 : decode cX9_open 31 = .ok (.iastore, 1) := dk_79 (dk_at dksX9_open_1 7 rfl rfl)
theorem dX9_open_32 : decode cX9_open 32 = .ok (.aload_n 0, 1) := dk_42 (dk_at dksX9_open_1 8 rfl rfl)
theorem dX9_open_33 : decode cX9_open 33 = .ok (.getfield 9, 3) := dk_180 0 9 (dk_at dksX9_open_1 9 rfl rfl)
theorem dX9_open_36 : decode cX9_open 36 = .ok (.iconst 4, 1) := dk_7 (dk_at dksX9_open_1 12 rfl rfl)
theorem dX9_open_37 : decode cX9_open 37 = .ok (.aload_n 0, 1) := dk_42 (dk_at dksX9_open_1 13 rfl rfl)
theorem dX9_open_38 : decode cX9_open 38 = .ok (.getfield 267, 3) := dk_180 1 11 (dk_at dksX9_open_1 14 rfl rfl)
theorem dX9_open_41 : decode cX9_open 41 = .ok (.imul, 1) := dk_104 (dk_at dksX9_open_1 17 rfl rfl)
theorem dX9_open_42 : decode cX9_open 42 = .ok (.iconst 1, 1) := dk_4 (dk_at dksX9_open_1 18 rfl rfl)
theorem dX9_open_43 : decode cX9_open 43 = .ok (.iadd, 1) := dk_96 (dk_at dksX9_open_1 19 rfl rfl)
theorem dX9_open_44 : decode cX9_open 44 = .ok (.iconst 0, 1) := dk_3 (dk_at dksX9_open_1 20 rfl rfl)
theorem dX9_open_45 : decode cX9_open 45 = .ok (.iastore, 1) := dk_79 (dk_at dksX9_open_1 21 rfl rfl)
theorem dX9_open_46 : decode cX9_open 46 = .ok (.aload_n 0, 1) := dk_42 (dk_at dksX9_open_1 22 rfl rfl)
theorem dX9_open_47 : decode cX9_open 47 = .ok (.getfield 9, 3) := dk_180 0 9 (dk_at dksX9_open_2 0 rfl rfl)
theorem dX9_open_50 : decode cX9_open 50 = .ok (.iconst 4, 1) := dk_7 (dk_at dksX9_open_2 3 rfl rfl)
theorem dX9_open_51 : decode cX9_open 51 = .ok (.aload_n 0, 1) := dk_42 (dk_at dksX9_open_2 4 rfl rfl)
theorem dX9_open_52 : decode cX9_open 52 = .ok (.getfield 267, 3) := dk_180 1 11 (dk_at dksX9_open_2 5 rfl rfl)
theorem dX9_open_55 : decode cX9_open 55 = .ok (.imul, 1) := dk_104 (dk_at dksX9_open_2 8 rfl rfl)
theorem dX9_open_56 : decode cX9_open 56 = .ok (.iconst 2, 1) := dk_5 (dk_at dksX9_open_2 9 rfl rfl)
theorem dX9_open_57 : decode cX9_open 57 = .ok (.iadd, 1) := dk_96 (dk_at dksX9_open_2 10 rfl rfl)
theorem dX9_open_58 : decode cX9_open 58 = .ok (.iconst 0, 1) := dk_3 (dk_at dksX9_open_2 11 rfl rfl)
theorem dX9_open_59 : decode cX9_open 59 = .ok (.iastore, 1) := dk_79 (dk_at dksX9_open_2 12 rfl rfl)
theorem dX9_open_60 : decode cX9_open 60 = .ok (.aload_n 0, 1) := dk_42 (dk_at dksX9_open_2 13 rfl rfl)
theorem dX9_open_61 : decode cX9_open 61 = .ok (.getfield 9, 3) := dk_180 0 9 (dk_at dksX9_open_2 14 rfl rfl)
theorem dX9_open_64 : decode cX9_open 64 = .ok (.iconst 4, 1) := dk_7 (dk_at dksX9_open_2 17 rfl rfl)
theorem dX9_open_65 : decode cX9_open 65 = .ok (.aload_n 0, 1) := dk_42 (dk_at dksX9_open_2 18 rfl rfl)
theorem dX9_open_66 : decode cX9_open 66 = .ok (.getfield 267, 3) := dk_180 1 11 (dk_at dksX9_open_2 19 rfl rfl)
theorem dX9_open_69 : decode cX9_open 69 = .ok (.imul, 1) := dk_104 (dk_at dksX9_open_2 22 rfl rfl)
theorem dX9_open_70 : decode cX9_open 70 = .ok (.iconst 3, 1) := dk_6 (dk_at dksX9_open_2 23 rfl rfl)
theorem dX9_open_71 : decode cX9_open 71 = .ok (.iadd, 1) := dk_96 (dk_at dksX9_open_3 0 rfl rfl)
theorem dX9_open_72 : decode cX9_open 72 = .ok (.iconst 0, 1) := dk_3 (dk_at dksX9_open_3 1 rfl rfl)
theorem dX9_open_73 : decode cX9_open 73 = .ok (.iastore, 1) := dk_79 (dk_at dksX9_open_3 2 rfl rfl)
theorem dX9_open_74 : decode cX9_open 74 = .ok (.aload_n 0, 1) := dk_42 (dk_at dksX9_open_3 3 rfl rfl)
theorem dX9_open_75 : decode cX9_open 75 = .ok (.dup, 1) := dk_89 (dk_at dksX9_open_3 4 rfl rfl)
theorem dX9_open_76 : decode cX9_open 76 = .ok (.getfield 267, 3) := dk_180 1 11 (dk_at dksX9_open_3 5 rfl rfl)
theorem dX9_open_79 : decode cX9_open 79 = .ok (.iconst 1, 1) := dk_4 (dk_at dksX9_open_3 8 rfl rfl)
theorem dX9_open_80 : decode cX9_open 80 = .ok (.iadd, 1) := dk_96 (dk_at dksX9_open_3 9 rfl rfl)
theorem dX9_open_81 : decode cX9_open 81 = .ok (.putfield 267, 3) := dk_181 1 11 (dk_at dksX9_open_3 10 rfl rfl)
theorem dX9_open_84 : decode cX9_open 84 = .ok (.aload_n 0, 1) := dk_42 (dk_at dksX9_open_3 13 rfl rfl)
theorem dX9_open_85 : decode cX9_open 85 = .ok (.getfield 267, 3) := dk_180 1 11 (dk_at dksX9_open_3 14 rfl rfl)
theorem dX9_open_88 : decode cX9_open 88 = .ok (.iconst 1, 1) := dk_4 (dk_at dksX9_open_3 17 rfl rfl)
theorem dX9_open_89 : decode cX9_open 89 = .ok (.isub, 1) := dk_100 (dk_at dksX9_open_3 18 rfl rfl)
theorem dX9_open_90 : decode cX9_open 90 = .ok (.ireturn, 1) := dk_172 (dk_at dksX9_open_3 19 rfl rfl)
abbrev cX9_add : ByteArray := prog_17_method_27_code
def yX9_add : MethodName := ⟨RX9, "add", "(IIJ)I"⟩
def dkwX9_add_3 : List UInt8 := [104, 4, 96, 92, 46, 4, 96, 79, 42, 27, 182, 1, 18, 172]
abbrev dktX9_add_3 : List UInt8 := dkwX9_add_3 ++ []
def dkwX9_add_2 : List UInt8 := [33, 80, 42, 180, 0, 20, 21, 5, 3, 84, 42, 180, 0, 24, 21, 5, 3, 84, 42, 180, 0, 9, 7, 27]
abbrev dktX9_add_2 : List UInt8 := dkwX9_add_2 ++ dktX9_add_3
def dkwX9_add_1 : List UInt8 := [27, 104, 42, 27, 182, 1, 18, 96, 54, 5, 42, 180, 0, 13, 21, 5, 28, 79, 42, 180, 0, 16, 21, 5]
abbrev dktX9_add_1 : List UInt8 := dkwX9_add_1 ++ dktX9_add_2
def dkwX9_add_0 : List UInt8 := [42, 27, 182, 1, 14, 153, 0, 14, 42, 27, 182, 1, 18, 17, 1, 144, 160, 0, 5, 2, 172, 17, 1, 144]
abbrev dktX9_add_0 : List UInt8 := dkwX9_add_0 ++ dktX9_add_1
theorem dksX9_add_0 : cX9_add.data.toList.drop 0 = dktX9_add_0 := by decide +kernel
theorem dksX9_add_1 : cX9_add.data.toList.drop 24 = dktX9_add_1 := dk_seg dksX9_add_0 24 rfl rfl
theorem dksX9_add_2 : cX9_add.data.toList.drop 48 = dktX9_add_2 := dk_seg dksX9_add_1 24 rfl rfl
theorem dksX9_add_3 : cX9_add.data.toList.drop 72 = dktX9_add_3 := dk_seg dksX9_add_2 24 rfl rfl
theorem dX9_add_0 : decode cX9_add 0 = .ok (.aload_n 0, 1) := dk_42 (dk_at dksX9_add_0 0 rfl rfl)
theorem dX9_add_1 : decode cX9_add 1 = .ok (.iload_n 1, 1) := dk_27 (dk_at dksX9_add_0 1 rfl rfl)
theorem dX9_add_2 : decode cX9_add 2 = .ok (.invokevirtual 270, 3) := dk_182 1 14 (dk_at dksX9_add_0 2 rfl rfl)
theorem dX9_add_5 : decode cX9_add 5 = .ok (.ifCond .eq 14, 3) := dk_153 0 14 (dk_at dksX9_add_0 5 rfl rfl)
theorem dX9_add_8 : decode cX9_add 8 = .ok (.aload_n 0, 1) := dk_42 (dk_at dksX9_add_0 8 rfl rfl)
theorem dX9_add_9 : decode cX9_add 9 = .ok (.iload_n 1, 1) := dk_27 (dk_at dksX9_add_0 9 rfl rfl)
theorem dX9_add_10 : decode cX9_add 10 = .ok (.invokevirtual 274, 3) := dk_182 1 18 (dk_at dksX9_add_0 10 rfl rfl)
theorem dX9_add_13 : decode cX9_add 13 = .ok (.sipush 400, 3) := dk_17 1 144 (dk_at dksX9_add_0 13 rfl rfl)
theorem dX9_add_16 : decode cX9_add 16 = .ok (.if_icmp .ne 5, 3) := dk_160 0 5 (dk_at dksX9_add_0 16 rfl rfl)
theorem dX9_add_19 : decode cX9_add 19 = .ok (.iconst (-1), 1) := dk_2 (dk_at dksX9_add_0 19 rfl rfl)
theorem dX9_add_20 : decode cX9_add 20 = .ok (.ireturn, 1) := dk_172 (dk_at dksX9_add_0 20 rfl rfl)
theorem dX9_add_21 : decode cX9_add 21 = .ok (.sipush 400, 3) := dk_17 1 144 (dk_at dksX9_add_0 21 rfl rfl)
theorem dX9_add_24 : decode cX9_add 24 = .ok (.iload_n 1, 1) := dk_27 (dk_at dksX9_add_1 0 rfl rfl)
theorem dX9_add_25 : decode cX9_add 25 = .ok (.imul, 1) := dk_104 (dk_at dksX9_add_1 1 rfl rfl)
theorem dX9_add_26 : decode cX9_add 26 = .ok (.aload_n 0, 1) := dk_42 (dk_at dksX9_add_1 2 rfl rfl)
theorem dX9_add_27 : decode cX9_add 27 = .ok (.iload_n 1, 1) := dk_27 (dk_at dksX9_add_1 3 rfl rfl)
theorem dX9_add_28 : decode cX9_add 28 = .ok (.invokevirtual 274, 3) := dk_182 1 18 (dk_at dksX9_add_1 4 rfl rfl)
theorem dX9_add_31 : decode cX9_add 31 = .ok (.iadd, 1) := dk_96 (dk_at dksX9_add_1 7 rfl rfl)
theorem dX9_add_32 : decode cX9_add 32 = .ok (.istore 5, 2) := dk_54 5 (dk_at dksX9_add_1 8 rfl rfl)
theorem dX9_add_34 : decode cX9_add 34 = .ok (.aload_n 0, 1) := dk_42 (dk_at dksX9_add_1 10 rfl rfl)
theorem dX9_add_35 : decode cX9_add 35 = .ok (.getfield 13, 3) := dk_180 0 13 (dk_at dksX9_add_1 11 rfl rfl)
theorem dX9_add_38 : decode cX9_add 38 = .ok (.iload 5, 2) := dk_21 5 (dk_at dksX9_add_1 14 rfl rfl)
theorem dX9_add_40 : decode cX9_add 40 = .ok (.iload_n 2, 1) := dk_28 (dk_at dksX9_add_1 16 rfl rfl)
theorem dX9_add_41 : decode cX9_add 41 = .ok (.iastore, 1) := dk_79 (dk_at dksX9_add_1 17 rfl rfl)
theorem dX9_add_42 : decode cX9_add 42 = .ok (.aload_n 0, 1) := dk_42 (dk_at dksX9_add_1 18 rfl rfl)
theorem dX9_add_43 : decode cX9_add 43 = .ok (.getfield 16, 3) := dk_180 0 16 (dk_at dksX9_add_1 19 rfl rfl)
theorem dX9_add_46 : decode cX9_add 46 = .ok (.iload 5, 2) := dk_21 5 (dk_at dksX9_add_1 22 rfl rfl)
theorem dX9_add_48 : decode cX9_add 48 = .ok (.lload_n 3, 1) := dk_33 (dk_at dksX9_add_2 0 rfl rfl)
theorem dX9_add_49 : decode cX9_add 49 = .ok (.lastore, 1) := dk_80 (dk_at dksX9_add_2 1 rfl rfl)
theorem dX9_add_50 : decode cX9_add 50 = .ok (.aload_n 0, 1) := dk_42 (dk_at dksX9_add_2 2 rfl rfl)
theorem dX9_add_51 : decode cX9_add 51 = .ok (.getfield 20, 3) := dk_180 0 20 (dk_at dksX9_add_2 3 rfl rfl)
theorem dX9_add_54 : decode cX9_add 54 = .ok (.iload 5, 2) := dk_21 5 (dk_at dksX9_add_2 6 rfl rfl)
theorem dX9_add_56 : decode cX9_add 56 = .ok (.iconst 0, 1) := dk_3 (dk_at dksX9_add_2 8 rfl rfl)
theorem dX9_add_57 : decode cX9_add 57 = .ok (.bastore, 1) := dk_84 (dk_at dksX9_add_2 9 rfl rfl)
theorem dX9_add_58 : decode cX9_add 58 = .ok (.aload_n 0, 1) := dk_42 (dk_at dksX9_add_2 10 rfl rfl)
theorem dX9_add_59 : decode cX9_add 59 = .ok (.getfield 24, 3) := dk_180 0 24 (dk_at dksX9_add_2 11 rfl rfl)
theorem dX9_add_62 : decode cX9_add 62 = .ok (.iload 5, 2) := dk_21 5 (dk_at dksX9_add_2 14 rfl rfl)
theorem dX9_add_64 : decode cX9_add 64 = .ok (.iconst 0, 1) := dk_3 (dk_at dksX9_add_2 16 rfl rfl)
theorem dX9_add_65 : decode cX9_add 65 = .ok (.bastore, 1) := dk_84 (dk_at dksX9_add_2 17 rfl rfl)
theorem dX9_add_66 : decode cX9_add 66 = .ok (.aload_n 0, 1) := dk_42 (dk_at dksX9_add_2 18 rfl rfl)
theorem dX9_add_67 : decode cX9_add 67 = .ok (.getfield 9, 3) := dk_180 0 9 (dk_at dksX9_add_2 19 rfl rfl)
theorem dX9_add_70 : decode cX9_add 70 = .ok (.iconst 4, 1) := dk_7 (dk_at dksX9_add_2 22 rfl rfl)
theorem dX9_add_71 : decode cX9_add 71 = .ok (.iload_n 1, 1) := dk_27 (dk_at dksX9_add_2 23 rfl rfl)
theorem dX9_add_72 : decode cX9_add 72 = .ok (.imul, 1) := dk_104 (dk_at dksX9_add_3 0 rfl rfl)
theorem dX9_add_73 : decode cX9_add 73 = .ok (.iconst 1, 1) := dk_4 (dk_at dksX9_add_3 1 rfl rfl)
theorem dX9_add_74 : decode cX9_add 74 = .ok (.iadd, 1) := dk_96 (dk_at dksX9_add_3 2 rfl rfl)
theorem dX9_add_75 : decode cX9_add 75 = .ok (.dup2, 1) := dk_92 (dk_at dksX9_add_3 3 rfl rfl)
theorem dX9_add_76 : decode cX9_add 76 = .ok (.iaload, 1) := dk_46 (dk_at dksX9_add_3 4 rfl rfl)
theorem dX9_add_77 : decode cX9_add 77 = .ok (.iconst 1, 1) := dk_4 (dk_at dksX9_add_3 5 rfl rfl)
theorem dX9_add_78 : decode cX9_add 78 = .ok (.iadd, 1) := dk_96 (dk_at dksX9_add_3 6 rfl rfl)
theorem dX9_add_79 : decode cX9_add 79 = .ok (.iastore, 1) := dk_79 (dk_at dksX9_add_3 7 rfl rfl)
theorem dX9_add_80 : decode cX9_add 80 = .ok (.aload_n 0, 1) := dk_42 (dk_at dksX9_add_3 8 rfl rfl)
theorem dX9_add_81 : decode cX9_add 81 = .ok (.iload_n 1, 1) := dk_27 (dk_at dksX9_add_3 9 rfl rfl)
theorem dX9_add_82 : decode cX9_add 82 = .ok (.invokevirtual 274, 3) := dk_182 1 18 (dk_at dksX9_add_3 10 rfl rfl)
theorem dX9_add_85 : decode cX9_add 85 = .ok (.ireturn, 1) := dk_172 (dk_at dksX9_add_3 13 rfl rfl)
abbrev cX9_isLog : ByteArray := prog_17_method_23_code
def yX9_isLog : MethodName := ⟨RX9, "isLog", "(I)Z"⟩
def dkwX9_isLog_0 : List UInt8 := [27, 155, 0, 15, 27, 42, 180, 1, 11, 162, 0, 7, 4, 167, 0, 4, 3, 172]
abbrev dktX9_isLog_0 : List UInt8 := dkwX9_isLog_0 ++ []
theorem dksX9_isLog_0 : cX9_isLog.data.toList.drop 0 = dktX9_isLog_0 := by decide +kernel
theorem dX9_isLog_0 : decode cX9_isLog 0 = .ok (.iload_n 1, 1) := dk_27 (dk_at dksX9_isLog_0 0 rfl rfl)
theorem dX9_isLog_1 : decode cX9_isLog 1 = .ok (.ifCond .lt 15, 3) := dk_155 0 15 (dk_at dksX9_isLog_0 1 rfl rfl)
theorem dX9_isLog_4 : decode cX9_isLog 4 = .ok (.iload_n 1, 1) := dk_27 (dk_at dksX9_isLog_0 4 rfl rfl)
theorem dX9_isLog_5 : decode cX9_isLog 5 = .ok (.aload_n 0, 1) := dk_42 (dk_at dksX9_isLog_0 5 rfl rfl)
theorem dX9_isLog_6 : decode cX9_isLog 6 = .ok (.getfield 267, 3) := dk_180 1 11 (dk_at dksX9_isLog_0 6 rfl rfl)
theorem dX9_isLog_9 : decode cX9_isLog 9 = .ok (.if_icmp .ge 7, 3) := dk_162 0 7 (dk_at dksX9_isLog_0 9 rfl rfl)
theorem dX9_isLog_12 : decode cX9_isLog 12 = .ok (.iconst 1, 1) := dk_4 (dk_at dksX9_isLog_0 12 rfl rfl)
theorem dX9_isLog_13 : decode cX9_isLog 13 = .ok (.goto 4, 3) := dk_167 0 4 (dk_at dksX9_isLog_0 13 rfl rfl)
theorem dX9_isLog_16 : decode cX9_isLog 16 = .ok (.iconst 0, 1) := dk_3 (dk_at dksX9_isLog_0 16 rfl rfl)
theorem dX9_isLog_17 : decode cX9_isLog 17 = .ok (.ireturn, 1) := dk_172 (dk_at dksX9_isLog_0 17 rfl rfl)
abbrev cX9_many : ByteArray := prog_17_method_24_code
def yX9_many : MethodName := ⟨RX9, "many", "(I)I"⟩
def dkwX9_many_0 : List UInt8 := [42, 180, 0, 9, 7, 27, 104, 4, 96, 46, 172]
abbrev dktX9_many_0 : List UInt8 := dkwX9_many_0 ++ []
theorem dksX9_many_0 : cX9_many.data.toList.drop 0 = dktX9_many_0 := by decide +kernel
theorem dX9_many_0 : decode cX9_many 0 = .ok (.aload_n 0, 1) := dk_42 (dk_at dksX9_many_0 0 rfl rfl)
theorem dX9_many_1 : decode cX9_many 1 = .ok (.getfield 9, 3) := dk_180 0 9 (dk_at dksX9_many_0 1 rfl rfl)
theorem dX9_many_4 : decode cX9_many 4 = .ok (.iconst 4, 1) := dk_7 (dk_at dksX9_many_0 4 rfl rfl)
theorem dX9_many_5 : decode cX9_many 5 = .ok (.iload_n 1, 1) := dk_27 (dk_at dksX9_many_0 5 rfl rfl)
theorem dX9_many_6 : decode cX9_many 6 = .ok (.imul, 1) := dk_104 (dk_at dksX9_many_0 6 rfl rfl)
theorem dX9_many_7 : decode cX9_many 7 = .ok (.iconst 1, 1) := dk_4 (dk_at dksX9_many_0 7 rfl rfl)
theorem dX9_many_8 : decode cX9_many 8 = .ok (.iadd, 1) := dk_96 (dk_at dksX9_many_0 8 rfl rfl)
theorem dX9_many_9 : decode cX9_many 9 = .ok (.iaload, 1) := dk_46 (dk_at dksX9_many_0 9 rfl rfl)
theorem dX9_many_10 : decode cX9_many 10 = .ok (.ireturn, 1) := dk_172 (dk_at dksX9_many_0 10 rfl rfl)
abbrev cX9_fork : ByteArray := prog_17_method_28_code
def yX9_fork : MethodName := ⟨RX9, "fork", "(II)I"⟩
def dkwX9_fork_15 : List UInt8 := [181, 1, 11, 29, 172]
abbrev dktX9_fork_15 : List UInt8 := dkwX9_fork_15 ++ []
def dkwX9_fork_14 : List UInt8 := [42, 180, 0, 9, 7, 29, 104, 6, 96, 21, 6, 21, 5, 100, 79, 42, 89, 180, 1, 11, 4, 96]
abbrev dktX9_fork_14 : List UInt8 := dkwX9_fork_14 ++ dktX9_fork_15
def dkwX9_fork_13 : List UInt8 := [96, 54, 5, 132, 6, 1, 132, 7, 1, 167, 255, 143, 42, 180, 0, 9, 7, 29, 104, 5, 96, 21, 5, 79]
abbrev dktX9_fork_13 : List UInt8 := dkwX9_fork_13 ++ dktX9_fork_14
def dkwX9_fork_12 : List UInt8 := [180, 0, 33, 21, 8, 51, 84, 21, 5, 42, 180, 0, 33, 21, 8, 51, 153, 0, 7, 4, 167, 0, 4, 3]
abbrev dktX9_fork_12 : List UInt8 := dkwX9_fork_12 ++ dktX9_fork_13
def dkwX9_fork_11 : List UInt8 := [21, 6, 96, 42, 180, 0, 30, 21, 8, 46, 79, 42, 180, 0, 33, 16, 100, 29, 104, 21, 6, 96, 42]
abbrev dktX9_fork_11 : List UInt8 := dkwX9_fork_11 ++ dktX9_fork_12
def dkwX9_fork_10 : List UInt8 := [16, 100, 29, 104, 21, 6, 96, 42, 180, 0, 27, 21, 8, 46, 79, 42, 180, 0, 30, 16, 100, 29, 104]
abbrev dktX9_fork_10 : List UInt8 := dkwX9_fork_10 ++ dktX9_fork_11
def dkwX9_fork_9 : List UInt8 := [104, 21, 7, 96, 54, 8, 42, 180, 0, 30, 21, 8, 46, 28, 164, 0, 6, 167, 0, 83, 42, 180, 0, 27]
abbrev dktX9_fork_9 : List UInt8 := dkwX9_fork_9 ++ dktX9_fork_10
def dkwX9_fork_8 : List UInt8 := [96, 46, 96, 54, 4, 3, 54, 5, 3, 54, 6, 3, 54, 7, 21, 7, 21, 4, 162, 0, 112, 16, 100, 27]
abbrev dktX9_fork_8 : List UInt8 := dkwX9_fork_8 ++ dktX9_fork_9
def dkwX9_fork_7 : List UInt8 := [132, 4, 1, 167, 255, 143, 42, 180, 0, 9, 7, 27, 104, 5, 96, 46, 42, 180, 0, 9, 7, 27, 104, 6]
abbrev dktX9_fork_7 : List UInt8 := dkwX9_fork_7 ++ dktX9_fork_8
def dkwX9_fork_6 : List UInt8 := [17, 1, 144, 29, 104, 21, 4, 96, 42, 180, 0, 24, 17, 1, 144, 27, 104, 21, 4, 96, 51, 84]
abbrev dktX9_fork_6 : List UInt8 := dkwX9_fork_6 ++ dktX9_fork_7
def dkwX9_fork_5 : List UInt8 := [29, 104, 21, 4, 96, 42, 180, 0, 20, 17, 1, 144, 27, 104, 21, 4, 96, 51, 84, 42, 180, 0, 24]
abbrev dktX9_fork_5 : List UInt8 := dkwX9_fork_5 ++ dktX9_fork_6
def dkwX9_fork_4 : List UInt8 := [21, 4, 96, 42, 180, 0, 16, 17, 1, 144, 27, 104, 21, 4, 96, 47, 80, 42, 180, 0, 20, 17, 1, 144]
abbrev dktX9_fork_4 : List UInt8 := dkwX9_fork_4 ++ dktX9_fork_5
def dkwX9_fork_3 : List UInt8 := [96, 42, 180, 0, 13, 17, 1, 144, 27, 104, 21, 4, 96, 46, 79, 42, 180, 0, 16, 17, 1, 144, 29, 104]
abbrev dktX9_fork_3 : List UInt8 := dkwX9_fork_3 ++ dktX9_fork_4
def dkwX9_fork_2 : List UInt8 := [4, 96, 28, 79, 3, 54, 4, 21, 4, 28, 162, 0, 113, 42, 180, 0, 13, 17, 1, 144, 29, 104, 21, 4]
abbrev dktX9_fork_2 : List UInt8 := dkwX9_fork_2 ++ dktX9_fork_3
def dkwX9_fork_1 : List UInt8 := [62, 42, 180, 0, 9, 7, 29, 104, 42, 180, 0, 9, 7, 27, 104, 46, 79, 42, 180, 0, 9, 7, 29, 104]
abbrev dktX9_fork_1 : List UInt8 := dkwX9_fork_1 ++ dktX9_fork_2
def dkwX9_fork_0 : List UInt8 := [42, 27, 28, 182, 1, 21, 153, 0, 12, 42, 180, 1, 11, 16, 6, 160, 0, 5, 2, 172, 42, 180, 1, 11]
abbrev dktX9_fork_0 : List UInt8 := dkwX9_fork_0 ++ dktX9_fork_1
theorem dksX9_fork_0 : cX9_fork.data.toList.drop 0 = dktX9_fork_0 := by decide +kernel
theorem dksX9_fork_1 : cX9_fork.data.toList.drop 24 = dktX9_fork_1 := dk_seg dksX9_fork_0 24 rfl rfl
theorem dksX9_fork_2 : cX9_fork.data.toList.drop 48 = dktX9_fork_2 := dk_seg dksX9_fork_1 24 rfl rfl
theorem dksX9_fork_3 : cX9_fork.data.toList.drop 72 = dktX9_fork_3 := dk_seg dksX9_fork_2 24 rfl rfl
theorem dksX9_fork_4 : cX9_fork.data.toList.drop 96 = dktX9_fork_4 := dk_seg dksX9_fork_3 24 rfl rfl
theorem dksX9_fork_5 : cX9_fork.data.toList.drop 120 = dktX9_fork_5 := dk_seg dksX9_fork_4 24 rfl rfl
theorem dksX9_fork_6 : cX9_fork.data.toList.drop 143 = dktX9_fork_6 := dk_seg dksX9_fork_5 23 rfl rfl
theorem dksX9_fork_7 : cX9_fork.data.toList.drop 165 = dktX9_fork_7 := dk_seg dksX9_fork_6 22 rfl rfl
theorem dksX9_fork_8 : cX9_fork.data.toList.drop 189 = dktX9_fork_8 := dk_seg dksX9_fork_7 24 rfl rfl
theorem dksX9_fork_9 : cX9_fork.data.toList.drop 213 = dktX9_fork_9 := dk_seg dksX9_fork_8 24 rfl rfl
theorem dksX9_fork_10 : cX9_fork.data.toList.drop 237 = dktX9_fork_10 := dk_seg dksX9_fork_9 24 rfl rfl
theorem dksX9_fork_11 : cX9_fork.data.toList.drop 260 = dktX9_fork_11 := dk_seg dksX9_fork_10 23 rfl rfl
theorem dksX9_fork_12 : cX9_fork.data.toList.drop 283 = dktX9_fork_12 := dk_seg dksX9_fork_11 23 rfl rfl
theorem dksX9_fork_13 : cX9_fork.data.toList.drop 307 = dktX9_fork_13 := dk_seg dksX9_fork_12 24 rfl rfl
theorem dksX9_fork_14 : cX9_fork.data.toList.drop 331 = dktX9_fork_14 := dk_seg dksX9_fork_13 24 rfl rfl
theorem dksX9_fork_15 : cX9_fork.data.toList.drop 353 = dktX9_fork_15 := dk_seg dksX9_fork_14 22 rfl rfl
theorem dX9_fork_0 : decode cX9_fork 0 = .ok (.aload_n 0, 1) := dk_42 (dk_at dksX9_fork_0 0 rfl rfl)
theorem dX9_fork_1 : decode cX9_fork 1 = .ok (.iload_n 1, 1) := dk_27 (dk_at dksX9_fork_0 1 rfl rfl)
theorem dX9_fork_2 : decode cX9_fork 2 = .ok (.iload_n 2, 1) := dk_28 (dk_at dksX9_fork_0 2 rfl rfl)
theorem dX9_fork_3 : decode cX9_fork 3 = .ok (.invokevirtual 277, 3) := dk_182 1 21 (dk_at dksX9_fork_0 3 rfl rfl)
theorem dX9_fork_6 : decode cX9_fork 6 = .ok (.ifCond .eq 12, 3) := dk_153 0 12 (dk_at dksX9_fork_0 6 rfl rfl)
theorem dX9_fork_9 : decode cX9_fork 9 = .ok (.aload_n 0, 1) := dk_42 (dk_at dksX9_fork_0 9 rfl rfl)
theorem dX9_fork_10 : decode cX9_fork 10 = .ok (.getfield 267, 3) := dk_180 1 11 (dk_at dksX9_fork_0 10 rfl rfl)
theorem dX9_fork_13 : decode cX9_fork 13 = .ok (.bipush 6, 2) := dk_16 6 (dk_at dksX9_fork_0 13 rfl rfl)
theorem dX9_fork_15 : decode cX9_fork 15 = .ok (.if_icmp .ne 5, 3) := dk_160 0 5 (dk_at dksX9_fork_0 15 rfl rfl)
theorem dX9_fork_18 : decode cX9_fork 18 = .ok (.iconst (-1), 1) := dk_2 (dk_at dksX9_fork_0 18 rfl rfl)
theorem dX9_fork_19 : decode cX9_fork 19 = .ok (.ireturn, 1) := dk_172 (dk_at dksX9_fork_0 19 rfl rfl)
theorem dX9_fork_20 : decode cX9_fork 20 = .ok (.aload_n 0, 1) := dk_42 (dk_at dksX9_fork_0 20 rfl rfl)
theorem dX9_fork_21 : decode cX9_fork 21 = .ok (.getfield 267, 3) := dk_180 1 11 (dk_at dksX9_fork_0 21 rfl rfl)
theorem dX9_fork_24 : decode cX9_fork 24 = .ok (.istore_n 3, 1) := dk_62 (dk_at dksX9_fork_1 0 rfl rfl)
theorem dX9_fork_25 : decode cX9_fork 25 = .ok (.aload_n 0, 1) := dk_42 (dk_at dksX9_fork_1 1 rfl rfl)
theorem dX9_fork_26 : decode cX9_fork 26 = .ok (.getfield 9, 3) := dk_180 0 9 (dk_at dksX9_fork_1 2 rfl rfl)
theorem dX9_fork_29 : decode cX9_fork 29 = .ok (.iconst 4, 1) := dk_7 (dk_at dksX9_fork_1 5 rfl rfl)
theorem dX9_fork_30 : decode cX9_fork 30 = .ok (.iload_n 3, 1) := dk_29 (dk_at dksX9_fork_1 6 rfl rfl)
theorem dX9_fork_31 : decode cX9_fork 31 = .ok (.imul, 1) := dk_104 (dk_at dksX9_fork_1 7 rfl rfl)
theorem dX9_fork_32 : decode cX9_fork 32 = .ok (.aload_n 0, 1) := dk_42 (dk_at dksX9_fork_1 8 rfl rfl)
theorem dX9_fork_33 : decode cX9_fork 33 = .ok (.getfield 9, 3) := dk_180 0 9 (dk_at dksX9_fork_1 9 rfl rfl)
theorem dX9_fork_36 : decode cX9_fork 36 = .ok (.iconst 4, 1) := dk_7 (dk_at dksX9_fork_1 12 rfl rfl)
theorem dX9_fork_37 : decode cX9_fork 37 = .ok (.iload_n 1, 1) := dk_27 (dk_at dksX9_fork_1 13 rfl rfl)
theorem dX9_fork_38 : decode cX9_fork 38 = .ok (.imul, 1) := dk_104 (dk_at dksX9_fork_1 14 rfl rfl)
theorem dX9_fork_39 : decode cX9_fork 39 = .ok (.iaload, 1) := dk_46 (dk_at dksX9_fork_1 15 rfl rfl)
theorem dX9_fork_40 : decode cX9_fork 40 = .ok (.iastore, 1) := dk_79 (dk_at dksX9_fork_1 16 rfl rfl)
theorem dX9_fork_41 : decode cX9_fork 41 = .ok (.aload_n 0, 1) := dk_42 (dk_at dksX9_fork_1 17 rfl rfl)
theorem dX9_fork_42 : decode cX9_fork 42 = .ok (.getfield 9, 3) := dk_180 0 9 (dk_at dksX9_fork_1 18 rfl rfl)
theorem dX9_fork_45 : decode cX9_fork 45 = .ok (.iconst 4, 1) := dk_7 (dk_at dksX9_fork_1 21 rfl rfl)
theorem dX9_fork_46 : decode cX9_fork 46 = .ok (.iload_n 3, 1) := dk_29 (dk_at dksX9_fork_1 22 rfl rfl)
theorem dX9_fork_47 : decode cX9_fork 47 = .ok (.imul, 1) := dk_104 (dk_at dksX9_fork_1 23 rfl rfl)
theorem dX9_fork_48 : decode cX9_fork 48 = .ok (.iconst 1, 1) := dk_4 (dk_at dksX9_fork_2 0 rfl rfl)
theorem dX9_fork_49 : decode cX9_fork 49 = .ok (.iadd, 1) := dk_96 (dk_at dksX9_fork_2 1 rfl rfl)
theorem dX9_fork_50 : decode cX9_fork 50 = .ok (.iload_n 2, 1) := dk_28 (dk_at dksX9_fork_2 2 rfl rfl)
theorem dX9_fork_51 : decode cX9_fork 51 = .ok (.iastore, 1) := dk_79 (dk_at dksX9_fork_2 3 rfl rfl)
theorem dX9_fork_52 : decode cX9_fork 52 = .ok (.iconst 0, 1) := dk_3 (dk_at dksX9_fork_2 4 rfl rfl)
theorem dX9_fork_53 : decode cX9_fork 53 = .ok (.istore 4, 2) := dk_54 4 (dk_at dksX9_fork_2 5 rfl rfl)
theorem dX9_fork_55 : decode cX9_fork 55 = .ok (.iload 4, 2) := dk_21 4 (dk_at dksX9_fork_2 7 rfl rfl)
theorem dX9_fork_57 : decode cX9_fork 57 = .ok (.iload_n 2, 1) := dk_28 (dk_at dksX9_fork_2 9 rfl rfl)
theorem dX9_fork_58 : decode cX9_fork 58 = .ok (.if_icmp .ge 113, 3) := dk_162 0 113 (dk_at dksX9_fork_2 10 rfl rfl)
theorem dX9_fork_61 : decode cX9_fork 61 = .ok (.aload_n 0, 1) := dk_42 (dk_at dksX9_fork_2 13 rfl rfl)
theorem dX9_fork_62 : decode cX9_fork 62 = .ok (.getfield 13, 3) := dk_180 0 13 (dk_at dksX9_fork_2 14 rfl rfl)
theorem dX9_fork_65 : decode cX9_fork 65 = .ok (.sipush 400, 3) := dk_17 1 144 (dk_at dksX9_fork_2 17 rfl rfl)
theorem dX9_fork_68 : decode cX9_fork 68 = .ok (.iload_n 3, 1) := dk_29 (dk_at dksX9_fork_2 20 rfl rfl)
theorem dX9_fork_69 : decode cX9_fork 69 = .ok (.imul, 1) := dk_104 (dk_at dksX9_fork_2 21 rfl rfl)
theorem dX9_fork_70 : decode cX9_fork 70 = .ok (.iload 4, 2) := dk_21 4 (dk_at dksX9_fork_2 22 rfl rfl)
theorem dX9_fork_72 : decode cX9_fork 72 = .ok (.iadd, 1) := dk_96 (dk_at dksX9_fork_3 0 rfl rfl)
theorem dX9_fork_73 : decode cX9_fork 73 = .ok (.aload_n 0, 1) := dk_42 (dk_at dksX9_fork_3 1 rfl rfl)
theorem dX9_fork_74 : decode cX9_fork 74 = .ok (.getfield 13, 3) := dk_180 0 13 (dk_at dksX9_fork_3 2 rfl rfl)
theorem dX9_fork_77 : decode cX9_fork 77 = .ok (.sipush 400, 3) := dk_17 1 144 (dk_at dksX9_fork_3 5 rfl rfl)
theorem dX9_fork_80 : decode cX9_fork 80 = .ok (.iload_n 1, 1) := dk_27 (dk_at dksX9_fork_3 8 rfl rfl)
theorem dX9_fork_81 : decode cX9_fork 81 = .ok (.imul, 1) := dk_104 (dk_at dksX9_fork_3 9 rfl rfl)
theorem dX9_fork_82 : decode cX9_fork 82 = .ok (.iload 4, 2) := dk_21 4 (dk_at dksX9_fork_3 10 rfl rfl)
theorem dX9_fork_84 : decode cX9_fork 84 = .ok (.iadd, 1) := dk_96 (dk_at dksX9_fork_3 12 rfl rfl)
theorem dX9_fork_85 : decode cX9_fork 85 = .ok (.iaload, 1) := dk_46 (dk_at dksX9_fork_3 13 rfl rfl)
theorem dX9_fork_86 : decode cX9_fork 86 = .ok (.iastore, 1) := dk_79 (dk_at dksX9_fork_3 14 rfl rfl)
theorem dX9_fork_87 : decode cX9_fork 87 = .ok (.aload_n 0, 1) := dk_42 (dk_at dksX9_fork_3 15 rfl rfl)
theorem dX9_fork_88 : decode cX9_fork 88 = .ok (.getfield 16, 3) := dk_180 0 16 (dk_at dksX9_fork_3 16 rfl rfl)
theorem dX9_fork_91 : decode cX9_fork 91 = .ok (.sipush 400, 3) := dk_17 1 144 (dk_at dksX9_fork_3 19 rfl rfl)
theorem dX9_fork_94 : decode cX9_fork 94 = .ok (.iload_n 3, 1) := dk_29 (dk_at dksX9_fork_3 22 rfl rfl)
theorem dX9_fork_95 : decode cX9_fork 95 = .ok (.imul, 1) := dk_104 (dk_at dksX9_fork_3 23 rfl rfl)
theorem dX9_fork_96 : decode cX9_fork 96 = .ok (.iload 4, 2) := dk_21 4 (dk_at dksX9_fork_4 0 rfl rfl)
theorem dX9_fork_98 : decode cX9_fork 98 = .ok (.iadd, 1) := dk_96 (dk_at dksX9_fork_4 2 rfl rfl)
theorem dX9_fork_99 : decode cX9_fork 99 = .ok (.aload_n 0, 1) := dk_42 (dk_at dksX9_fork_4 3 rfl rfl)
theorem dX9_fork_100 : decode cX9_fork 100 = .ok (.getfield 16, 3) := dk_180 0 16 (dk_at dksX9_fork_4 4 rfl rfl)
theorem dX9_fork_103 : decode cX9_fork 103 = .ok (.sipush 400, 3) := dk_17 1 144 (dk_at dksX9_fork_4 7 rfl rfl)
theorem dX9_fork_106 : decode cX9_fork 106 = .ok (.iload_n 1, 1) := dk_27 (dk_at dksX9_fork_4 10 rfl rfl)
theorem dX9_fork_107 : decode cX9_fork 107 = .ok (.imul, 1) := dk_104 (dk_at dksX9_fork_4 11 rfl rfl)
theorem dX9_fork_108 : decode cX9_fork 108 = .ok (.iload 4, 2) := dk_21 4 (dk_at dksX9_fork_4 12 rfl rfl)
theorem dX9_fork_110 : decode cX9_fork 110 = .ok (.iadd, 1) := dk_96 (dk_at dksX9_fork_4 14 rfl rfl)
theorem dX9_fork_111 : decode cX9_fork 111 = .ok (.laload, 1) := dk_47 (dk_at dksX9_fork_4 15 rfl rfl)
theorem dX9_fork_112 : decode cX9_fork 112 = .ok (.lastore, 1) := dk_80 (dk_at dksX9_fork_4 16 rfl rfl)
theorem dX9_fork_113 : decode cX9_fork 113 = .ok (.aload_n 0, 1) := dk_42 (dk_at dksX9_fork_4 17 rfl rfl)
theorem dX9_fork_114 : decode cX9_fork 114 = .ok (.getfield 20, 3) := dk_180 0 20 (dk_at dksX9_fork_4 18 rfl rfl)
theorem dX9_fork_117 : decode cX9_fork 117 = .ok (.sipush 400, 3) := dk_17 1 144 (dk_at dksX9_fork_4 21 rfl rfl)
theorem dX9_fork_120 : decode cX9_fork 120 = .ok (.iload_n 3, 1) := dk_29 (dk_at dksX9_fork_5 0 rfl rfl)
theorem dX9_fork_121 : decode cX9_fork 121 = .ok (.imul, 1) := dk_104 (dk_at dksX9_fork_5 1 rfl rfl)
theorem dX9_fork_122 : decode cX9_fork 122 = .ok (.iload 4, 2) := dk_21 4 (dk_at dksX9_fork_5 2 rfl rfl)
theorem dX9_fork_124 : decode cX9_fork 124 = .ok (.iadd, 1) := dk_96 (dk_at dksX9_fork_5 4 rfl rfl)
theorem dX9_fork_125 : decode cX9_fork 125 = .ok (.aload_n 0, 1) := dk_42 (dk_at dksX9_fork_5 5 rfl rfl)
theorem dX9_fork_126 : decode cX9_fork 126 = .ok (.getfield 20, 3) := dk_180 0 20 (dk_at dksX9_fork_5 6 rfl rfl)
theorem dX9_fork_129 : decode cX9_fork 129 = .ok (.sipush 400, 3) := dk_17 1 144 (dk_at dksX9_fork_5 9 rfl rfl)
theorem dX9_fork_132 : decode cX9_fork 132 = .ok (.iload_n 1, 1) := dk_27 (dk_at dksX9_fork_5 12 rfl rfl)
theorem dX9_fork_133 : decode cX9_fork 133 = .ok (.imul, 1) := dk_104 (dk_at dksX9_fork_5 13 rfl rfl)
theorem dX9_fork_134 : decode cX9_fork 134 = .ok (.iload 4, 2) := dk_21 4 (dk_at dksX9_fork_5 14 rfl rfl)
theorem dX9_fork_136 : decode cX9_fork 136 = .ok (.iadd, 1) := dk_96 (dk_at dksX9_fork_5 16 rfl rfl)
theorem dX9_fork_137 : decode cX9_fork 137 = .ok (.baload, 1) := dk_51 (dk_at dksX9_fork_5 17 rfl rfl)
theorem dX9_fork_138 : decode cX9_fork 138 = .ok (.bastore, 1) := dk_84 (dk_at dksX9_fork_5 18 rfl rfl)
theorem dX9_fork_139 : decode cX9_fork 139 = .ok (.aload_n 0, 1) := dk_42 (dk_at dksX9_fork_5 19 rfl rfl)
theorem dX9_fork_140 : decode cX9_fork 140 = .ok (.getfield 24, 3) := dk_180 0 24 (dk_at dksX9_fork_5 20 rfl rfl)
theorem dX9_fork_143 : decode cX9_fork 143 = .ok (.sipush 400, 3) := dk_17 1 144 (dk_at dksX9_fork_6 0 rfl rfl)
theorem dX9_fork_146 : decode cX9_fork 146 = .ok (.iload_n 3, 1) := dk_29 (dk_at dksX9_fork_6 3 rfl rfl)
theorem dX9_fork_147 : decode cX9_fork 147 = .ok (.imul, 1) := dk_104 (dk_at dksX9_fork_6 4 rfl rfl)
theorem dX9_fork_148 : decode cX9_fork 148 = .ok (.iload 4, 2) := dk_21 4 (dk_at dksX9_fork_6 5 rfl rfl)
theorem dX9_fork_150 : decode cX9_fork 150 = .ok (.iadd, 1) := dk_96 (dk_at dksX9_fork_6 7 rfl rfl)
theorem dX9_fork_151 : decode cX9_fork 151 = .ok (.aload_n 0, 1) := dk_42 (dk_at dksX9_fork_6 8 rfl rfl)
theorem dX9_fork_152 : decode cX9_fork 152 = .ok (.getfield 24, 3) := dk_180 0 24 (dk_at dksX9_fork_6 9 rfl rfl)
theorem dX9_fork_155 : decode cX9_fork 155 = .ok (.sipush 400, 3) := dk_17 1 144 (dk_at dksX9_fork_6 12 rfl rfl)
theorem dX9_fork_158 : decode cX9_fork 158 = .ok (.iload_n 1, 1) := dk_27 (dk_at dksX9_fork_6 15 rfl rfl)
theorem dX9_fork_159 : decode cX9_fork 159 = .ok (.imul, 1) := dk_104 (dk_at dksX9_fork_6 16 rfl rfl)
theorem dX9_fork_160 : decode cX9_fork 160 = .ok (.iload 4, 2) := dk_21 4 (dk_at dksX9_fork_6 17 rfl rfl)
theorem dX9_fork_162 : decode cX9_fork 162 = .ok (.iadd, 1) := dk_96 (dk_at dksX9_fork_6 19 rfl rfl)
theorem dX9_fork_163 : decode cX9_fork 163 = .ok (.baload, 1) := dk_51 (dk_at dksX9_fork_6 20 rfl rfl)
theorem dX9_fork_164 : decode cX9_fork 164 = .ok (.bastore, 1) := dk_84 (dk_at dksX9_fork_6 21 rfl rfl)
theorem dX9_fork_165 : decode cX9_fork 165 = .ok (.iinc 4 1, 3) := dk_132 4 1 (dk_at dksX9_fork_7 0 rfl rfl)
theorem dX9_fork_168 : decode cX9_fork 168 = .ok (.goto (-113), 3) := dk_167 255 143 (dk_at dksX9_fork_7 3 rfl rfl)
theorem dX9_fork_171 : decode cX9_fork 171 = .ok (.aload_n 0, 1) := dk_42 (dk_at dksX9_fork_7 6 rfl rfl)
theorem dX9_fork_172 : decode cX9_fork 172 = .ok (.getfield 9, 3) := dk_180 0 9 (dk_at dksX9_fork_7 7 rfl rfl)
theorem dX9_fork_175 : decode cX9_fork 175 = .ok (.iconst 4, 1) := dk_7 (dk_at dksX9_fork_7 10 rfl rfl)
theorem dX9_fork_176 : decode cX9_fork 176 = .ok (.iload_n 1, 1) := dk_27 (dk_at dksX9_fork_7 11 rfl rfl)
theorem dX9_fork_177 : decode cX9_fork 177 = .ok (.imul, 1) := dk_104 (dk_at dksX9_fork_7 12 rfl rfl)
theorem dX9_fork_178 : decode cX9_fork 178 = .ok (.iconst 2, 1) := dk_5 (dk_at dksX9_fork_7 13 rfl rfl)
theorem dX9_fork_179 : decode cX9_fork 179 = .ok (.iadd, 1) := dk_96 (dk_at dksX9_fork_7 14 rfl rfl)
theorem dX9_fork_180 : decode cX9_fork 180 = .ok (.iaload, 1) := dk_46 (dk_at dksX9_fork_7 15 rfl rfl)
theorem dX9_fork_181 : decode cX9_fork 181 = .ok (.aload_n 0, 1) := dk_42 (dk_at dksX9_fork_7 16 rfl rfl)
theorem dX9_fork_182 : decode cX9_fork 182 = .ok (.getfield 9, 3) := dk_180 0 9 (dk_at dksX9_fork_7 17 rfl rfl)
theorem dX9_fork_185 : decode cX9_fork 185 = .ok (.iconst 4, 1) := dk_7 (dk_at dksX9_fork_7 20 rfl rfl)
theorem dX9_fork_186 : decode cX9_fork 186 = .ok (.iload_n 1, 1) := dk_27 (dk_at dksX9_fork_7 21 rfl rfl)
theorem dX9_fork_187 : decode cX9_fork 187 = .ok (.imul, 1) := dk_104 (dk_at dksX9_fork_7 22 rfl rfl)
theorem dX9_fork_188 : decode cX9_fork 188 = .ok (.iconst 3, 1) := dk_6 (dk_at dksX9_fork_7 23 rfl rfl)
theorem dX9_fork_189 : decode cX9_fork 189 = .ok (.iadd, 1) := dk_96 (dk_at dksX9_fork_8 0 rfl rfl)
theorem dX9_fork_190 : decode cX9_fork 190 = .ok (.iaload, 1) := dk_46 (dk_at dksX9_fork_8 1 rfl rfl)
theorem dX9_fork_191 : decode cX9_fork 191 = .ok (.iadd, 1) := dk_96 (dk_at dksX9_fork_8 2 rfl rfl)
theorem dX9_fork_192 : decode cX9_fork 192 = .ok (.istore 4, 2) := dk_54 4 (dk_at dksX9_fork_8 3 rfl rfl)
theorem dX9_fork_194 : decode cX9_fork 194 = .ok (.iconst 0, 1) := dk_3 (dk_at dksX9_fork_8 5 rfl rfl)
theorem dX9_fork_195 : decode cX9_fork 195 = .ok (.istore 5, 2) := dk_54 5 (dk_at dksX9_fork_8 6 rfl rfl)
theorem dX9_fork_197 : decode cX9_fork 197 = .ok (.iconst 0, 1) := dk_3 (dk_at dksX9_fork_8 8 rfl rfl)
theorem dX9_fork_198 : decode cX9_fork 198 = .ok (.istore 6, 2) := dk_54 6 (dk_at dksX9_fork_8 9 rfl rfl)
theorem dX9_fork_200 : decode cX9_fork 200 = .ok (.iconst 0, 1) := dk_3 (dk_at dksX9_fork_8 11 rfl rfl)
theorem dX9_fork_201 : decode cX9_fork 201 = .ok (.istore 7, 2) := dk_54 7 (dk_at dksX9_fork_8 12 rfl rfl)
theorem dX9_fork_203 : decode cX9_fork 203 = .ok (.iload 7, 2) := dk_21 7 (dk_at dksX9_fork_8 14 rfl rfl)
theorem dX9_fork_205 : decode cX9_fork 205 = .ok (.iload 4, 2) := dk_21 4 (dk_at dksX9_fork_8 16 rfl rfl)
theorem dX9_fork_207 : decode cX9_fork 207 = .ok (.if_icmp .ge 112, 3) := dk_162 0 112 (dk_at dksX9_fork_8 18 rfl rfl)
theorem dX9_fork_210 : decode cX9_fork 210 = .ok (.bipush 100, 2) := dk_16 100 (dk_at dksX9_fork_8 21 rfl rfl)
theorem dX9_fork_212 : decode cX9_fork 212 = .ok (.iload_n 1, 1) := dk_27 (dk_at dksX9_fork_8 23 rfl rfl)
theorem dX9_fork_213 : decode cX9_fork 213 = .ok (.imul, 1) := dk_104 (dk_at dksX9_fork_9 0 rfl rfl)
theorem dX9_fork_214 : decode cX9_fork 214 = .ok (.iload 7, 2) := dk_21 7 (dk_at dksX9_fork_9 1 rfl rfl)
theorem dX9_fork_216 : decode cX9_fork 216 = .ok (.iadd, 1) := dk_96 (dk_at dksX9_fork_9 3 rfl rfl)
theorem dX9_fork_217 : decode cX9_fork 217 = .ok (.istore 8, 2) := dk_54 8 (dk_at dksX9_fork_9 4 rfl rfl)
theorem dX9_fork_219 : decode cX9_fork 219 = .ok (.aload_n 0, 1) := dk_42 (dk_at dksX9_fork_9 6 rfl rfl)
theorem dX9_fork_220 : decode cX9_fork 220 = .ok (.getfield 30, 3) := dk_180 0 30 (dk_at dksX9_fork_9 7 rfl rfl)
theorem dX9_fork_223 : decode cX9_fork 223 = .ok (.iload 8, 2) := dk_21 8 (dk_at dksX9_fork_9 10 rfl rfl)
theorem dX9_fork_225 : decode cX9_fork 225 = .ok (.iaload, 1) := dk_46 (dk_at dksX9_fork_9 12 rfl rfl)
theorem dX9_fork_226 : decode cX9_fork 226 = .ok (.iload_n 2, 1) := dk_28 (dk_at dksX9_fork_9 13 rfl rfl)
theorem dX9_fork_227 : decode cX9_fork 227 = .ok (.if_icmp .le 6, 3) := dk_164 0 6 (dk_at dksX9_fork_9 14 rfl rfl)
theorem dX9_fork_230 : decode cX9_fork 230 = .ok (.goto 83, 3) := dk_167 0 83 (dk_at dksX9_fork_9 17 rfl rfl)
theorem dX9_fork_233 : decode cX9_fork 233 = .ok (.aload_n 0, 1) := dk_42 (dk_at dksX9_fork_9 20 rfl rfl)
theorem dX9_fork_234 : decode cX9_fork 234 = .ok (.getfield 27, 3) := dk_180 0 27 (dk_at dksX9_fork_9 21 rfl rfl)
theorem dX9_fork_237 : decode cX9_fork 237 = .ok (.bipush 100, 2) := dk_16 100 (dk_at dksX9_fork_10 0 rfl rfl)
theorem dX9_fork_239 : decode cX9_fork 239 = .ok (.iload_n 3, 1) := dk_29 (dk_at dksX9_fork_10 2 rfl rfl)
theorem dX9_fork_240 : decode cX9_fork 240 = .ok (.imul, 1) := dk_104 (dk_at dksX9_fork_10 3 rfl rfl)
theorem dX9_fork_241 : decode cX9_fork 241 = .ok (.iload 6, 2) := dk_21 6 (dk_at dksX9_fork_10 4 rfl rfl)
theorem dX9_fork_243 : decode cX9_fork 243 = .ok (.iadd, 1) := dk_96 (dk_at dksX9_fork_10 6 rfl rfl)
theorem dX9_fork_244 : decode cX9_fork 244 = .ok (.aload_n 0, 1) := dk_42 (dk_at dksX9_fork_10 7 rfl rfl)
theorem dX9_fork_245 : decode cX9_fork 245 = .ok (.getfield 27, 3) := dk_180 0 27 (dk_at dksX9_fork_10 8 rfl rfl)
theorem dX9_fork_248 : decode cX9_fork 248 = .ok (.iload 8, 2) := dk_21 8 (dk_at dksX9_fork_10 11 rfl rfl)
theorem dX9_fork_250 : decode cX9_fork 250 = .ok (.iaload, 1) := dk_46 (dk_at dksX9_fork_10 13 rfl rfl)
theorem dX9_fork_251 : decode cX9_fork 251 = .ok (.iastore, 1) := dk_79 (dk_at dksX9_fork_10 14 rfl rfl)
theorem dX9_fork_252 : decode cX9_fork 252 = .ok (.aload_n 0, 1) := dk_42 (dk_at dksX9_fork_10 15 rfl rfl)
theorem dX9_fork_253 : decode cX9_fork 253 = .ok (.getfield 30, 3) := dk_180 0 30 (dk_at dksX9_fork_10 16 rfl rfl)
theorem dX9_fork_256 : decode cX9_fork 256 = .ok (.bipush 100, 2) := dk_16 100 (dk_at dksX9_fork_10 19 rfl rfl)
theorem dX9_fork_258 : decode cX9_fork 258 = .ok (.iload_n 3, 1) := dk_29 (dk_at dksX9_fork_10 21 rfl rfl)
theorem dX9_fork_259 : decode cX9_fork 259 = .ok (.imul, 1) := dk_104 (dk_at dksX9_fork_10 22 rfl rfl)
theorem dX9_fork_260 : decode cX9_fork 260 = .ok (.iload 6, 2) := dk_21 6 (dk_at dksX9_fork_11 0 rfl rfl)
theorem dX9_fork_262 : decode cX9_fork 262 = .ok (.iadd, 1) := dk_96 (dk_at dksX9_fork_11 2 rfl rfl)
theorem dX9_fork_263 : decode cX9_fork 263 = .ok (.aload_n 0, 1) := dk_42 (dk_at dksX9_fork_11 3 rfl rfl)
theorem dX9_fork_264 : decode cX9_fork 264 = .ok (.getfield 30, 3) := dk_180 0 30 (dk_at dksX9_fork_11 4 rfl rfl)
theorem dX9_fork_267 : decode cX9_fork 267 = .ok (.iload 8, 2) := dk_21 8 (dk_at dksX9_fork_11 7 rfl rfl)
theorem dX9_fork_269 : decode cX9_fork 269 = .ok (.iaload, 1) := dk_46 (dk_at dksX9_fork_11 9 rfl rfl)
theorem dX9_fork_270 : decode cX9_fork 270 = .ok (.iastore, 1) := dk_79 (dk_at dksX9_fork_11 10 rfl rfl)
theorem dX9_fork_271 : decode cX9_fork 271 = .ok (.aload_n 0, 1) := dk_42 (dk_at dksX9_fork_11 11 rfl rfl)
theorem dX9_fork_272 : decode cX9_fork 272 = .ok (.getfield 33, 3) := dk_180 0 33 (dk_at dksX9_fork_11 12 rfl rfl)
theorem dX9_fork_275 : decode cX9_fork 275 = .ok (.bipush 100, 2) := dk_16 100 (dk_at dksX9_fork_11 15 rfl rfl)
theorem dX9_fork_277 : decode cX9_fork 277 = .ok (.iload_n 3, 1) := dk_29 (dk_at dksX9_fork_11 17 rfl rfl)
theorem dX9_fork_278 : decode cX9_fork 278 = .ok (.imul, 1) := dk_104 (dk_at dksX9_fork_11 18 rfl rfl)
theorem dX9_fork_279 : decode cX9_fork 279 = .ok (.iload 6, 2) := dk_21 6 (dk_at dksX9_fork_11 19 rfl rfl)
theorem dX9_fork_281 : decode cX9_fork 281 = .ok (.iadd, 1) := dk_96 (dk_at dksX9_fork_11 21 rfl rfl)
theorem dX9_fork_282 : decode cX9_fork 282 = .ok (.aload_n 0, 1) := dk_42 (dk_at dksX9_fork_11 22 rfl rfl)
theorem dX9_fork_283 : decode cX9_fork 283 = .ok (.getfield 33, 3) := dk_180 0 33 (dk_at dksX9_fork_12 0 rfl rfl)
theorem dX9_fork_286 : decode cX9_fork 286 = .ok (.iload 8, 2) := dk_21 8 (dk_at dksX9_fork_12 3 rfl rfl)
theorem dX9_fork_288 : decode cX9_fork 288 = .ok (.baload, 1) := dk_51 (dk_at dksX9_fork_12 5 rfl rfl)
theorem dX9_fork_289 : decode cX9_fork 289 = .ok (.bastore, 1) := dk_84 (dk_at dksX9_fork_12 6 rfl rfl)
theorem dX9_fork_290 : decode cX9_fork 290 = .ok (.iload 5, 2) := dk_21 5 (dk_at dksX9_fork_12 7 rfl rfl)
theorem dX9_fork_292 : decode cX9_fork 292 = .ok (.aload_n 0, 1) := dk_42 (dk_at dksX9_fork_12 9 rfl rfl)
theorem dX9_fork_293 : decode cX9_fork 293 = .ok (.getfield 33, 3) := dk_180 0 33 (dk_at dksX9_fork_12 10 rfl rfl)
theorem dX9_fork_296 : decode cX9_fork 296 = .ok (.iload 8, 2) := dk_21 8 (dk_at dksX9_fork_12 13 rfl rfl)
theorem dX9_fork_298 : decode cX9_fork 298 = .ok (.baload, 1) := dk_51 (dk_at dksX9_fork_12 15 rfl rfl)
theorem dX9_fork_299 : decode cX9_fork 299 = .ok (.ifCond .eq 7, 3) := dk_153 0 7 (dk_at dksX9_fork_12 16 rfl rfl)
theorem dX9_fork_302 : decode cX9_fork 302 = .ok (.iconst 1, 1) := dk_4 (dk_at dksX9_fork_12 19 rfl rfl)
theorem dX9_fork_303 : decode cX9_fork 303 = .ok (.goto 4, 3) := dk_167 0 4 (dk_at dksX9_fork_12 20 rfl rfl)
theorem dX9_fork_306 : decode cX9_fork 306 = .ok (.iconst 0, 1) := dk_3 (dk_at dksX9_fork_12 23 rfl rfl)
theorem dX9_fork_307 : decode cX9_fork 307 = .ok (.iadd, 1) := dk_96 (dk_at dksX9_fork_13 0 rfl rfl)
theorem dX9_fork_308 : decode cX9_fork 308 = .ok (.istore 5, 2) := dk_54 5 (dk_at dksX9_fork_13 1 rfl rfl)
theorem dX9_fork_310 : decode cX9_fork 310 = .ok (.iinc 6 1, 3) := dk_132 6 1 (dk_at dksX9_fork_13 3 rfl rfl)
theorem dX9_fork_313 : decode cX9_fork 313 = .ok (.iinc 7 1, 3) := dk_132 7 1 (dk_at dksX9_fork_13 6 rfl rfl)
theorem dX9_fork_316 : decode cX9_fork 316 = .ok (.goto (-113), 3) := dk_167 255 143 (dk_at dksX9_fork_13 9 rfl rfl)
theorem dX9_fork_319 : decode cX9_fork 319 = .ok (.aload_n 0, 1) := dk_42 (dk_at dksX9_fork_13 12 rfl rfl)
theorem dX9_fork_320 : decode cX9_fork 320 = .ok (.getfield 9, 3) := dk_180 0 9 (dk_at dksX9_fork_13 13 rfl rfl)
theorem dX9_fork_323 : decode cX9_fork 323 = .ok (.iconst 4, 1) := dk_7 (dk_at dksX9_fork_13 16 rfl rfl)
theorem dX9_fork_324 : decode cX9_fork 324 = .ok (.iload_n 3, 1) := dk_29 (dk_at dksX9_fork_13 17 rfl rfl)
theorem dX9_fork_325 : decode cX9_fork 325 = .ok (.imul, 1) := dk_104 (dk_at dksX9_fork_13 18 rfl rfl)
theorem dX9_fork_326 : decode cX9_fork 326 = .ok (.iconst 2, 1) := dk_5 (dk_at dksX9_fork_13 19 rfl rfl)
theorem dX9_fork_327 : decode cX9_fork 327 = .ok (.iadd, 1) := dk_96 (dk_at dksX9_fork_13 20 rfl rfl)
theorem dX9_fork_328 : decode cX9_fork 328 = .ok (.iload 5, 2) := dk_21 5 (dk_at dksX9_fork_13 21 rfl rfl)
theorem dX9_fork_330 : decode cX9_fork 330 = .ok (.iastore, 1) := dk_79 (dk_at dksX9_fork_13 23 rfl rfl)
theorem dX9_fork_331 : decode cX9_fork 331 = .ok (.aload_n 0, 1) := dk_42 (dk_at dksX9_fork_14 0 rfl rfl)
theorem dX9_fork_332 : decode cX9_fork 332 = .ok (.getfield 9, 3) := dk_180 0 9 (dk_at dksX9_fork_14 1 rfl rfl)
theorem dX9_fork_335 : decode cX9_fork 335 = .ok (.iconst 4, 1) := dk_7 (dk_at dksX9_fork_14 4 rfl rfl)
theorem dX9_fork_336 : decode cX9_fork 336 = .ok (.iload_n 3, 1) := dk_29 (dk_at dksX9_fork_14 5 rfl rfl)
theorem dX9_fork_337 : decode cX9_fork 337 = .ok (.imul, 1) := dk_104 (dk_at dksX9_fork_14 6 rfl rfl)
theorem dX9_fork_338 : decode cX9_fork 338 = .ok (.iconst 3, 1) := dk_6 (dk_at dksX9_fork_14 7 rfl rfl)
theorem dX9_fork_339 : decode cX9_fork 339 = .ok (.iadd, 1) := dk_96 (dk_at dksX9_fork_14 8 rfl rfl)
theorem dX9_fork_340 : decode cX9_fork 340 = .ok (.iload 6, 2) := dk_21 6 (dk_at dksX9_fork_14 9 rfl rfl)
theorem dX9_fork_342 : decode cX9_fork 342 = .ok (.iload 5, 2) := dk_21 5 (dk_at dksX9_fork_14 11 rfl rfl)
theorem dX9_fork_344 : decode cX9_fork 344 = .ok (.isub, 1) := dk_100 (dk_at dksX9_fork_14 13 rfl rfl)
theorem dX9_fork_345 : decode cX9_fork 345 = .ok (.iastore, 1) := dk_79 (dk_at dksX9_fork_14 14 rfl rfl)
theorem dX9_fork_346 : decode cX9_fork 346 = .ok (.aload_n 0, 1) := dk_42 (dk_at dksX9_fork_14 15 rfl rfl)
theorem dX9_fork_347 : decode cX9_fork 347 = .ok (.dup, 1) := dk_89 (dk_at dksX9_fork_14 16 rfl rfl)
theorem dX9_fork_348 : decode cX9_fork 348 = .ok (.getfield 267, 3) := dk_180 1 11 (dk_at dksX9_fork_14 17 rfl rfl)
theorem dX9_fork_351 : decode cX9_fork 351 = .ok (.iconst 1, 1) := dk_4 (dk_at dksX9_fork_14 20 rfl rfl)
theorem dX9_fork_352 : decode cX9_fork 352 = .ok (.iadd, 1) := dk_96 (dk_at dksX9_fork_14 21 rfl rfl)
theorem dX9_fork_353 : decode cX9_fork 353 = .ok (.putfield 267, 3) := dk_181 1 11 (dk_at dksX9_fork_15 0 rfl rfl)
theorem dX9_fork_356 : decode cX9_fork 356 = .ok (.iload_n 3, 1) := dk_29 (dk_at dksX9_fork_15 3 rfl rfl)
theorem dX9_fork_357 : decode cX9_fork 357 = .ok (.ireturn, 1) := dk_172 (dk_at dksX9_fork_15 4 rfl rfl)
abbrev cX9_isCount : ByteArray := prog_17_method_25_code
def yX9_isCount : MethodName := ⟨RX9, "isCount", "(II)Z"⟩
def dkwX9_isCount_1 : List UInt8 := [167, 0, 4, 3, 172]
abbrev dktX9_isCount_1 : List UInt8 := dkwX9_isCount_1 ++ []
def dkwX9_isCount_0 : List UInt8 := [42, 27, 182, 1, 14, 153, 0, 20, 28, 155, 0, 16, 28, 42, 27, 182, 1, 18, 163, 0, 7, 4]
abbrev dktX9_isCount_0 : List UInt8 := dkwX9_isCount_0 ++ dktX9_isCount_1
theorem dksX9_isCount_0 : cX9_isCount.data.toList.drop 0 = dktX9_isCount_0 := by decide +kernel
theorem dksX9_isCount_1 : cX9_isCount.data.toList.drop 22 = dktX9_isCount_1 := dk_seg dksX9_isCount_0 22 rfl rfl
theorem dX9_isCount_0 : decode cX9_isCount 0 = .ok (.aload_n 0, 1) := dk_42 (dk_at dksX9_isCount_0 0 rfl rfl)
theorem dX9_isCount_1 : decode cX9_isCount 1 = .ok (.iload_n 1, 1) := dk_27 (dk_at dksX9_isCount_0 1 rfl rfl)
theorem dX9_isCount_2 : decode cX9_isCount 2 = .ok (.invokevirtual 270, 3) := dk_182 1 14 (dk_at dksX9_isCount_0 2 rfl rfl)
theorem dX9_isCount_5 : decode cX9_isCount 5 = .ok (.ifCond .eq 20, 3) := dk_153 0 20 (dk_at dksX9_isCount_0 5 rfl rfl)
theorem dX9_isCount_8 : decode cX9_isCount 8 = .ok (.iload_n 2, 1) := dk_28 (dk_at dksX9_isCount_0 8 rfl rfl)
theorem dX9_isCount_9 : decode cX9_isCount 9 = .ok (.ifCond .lt 16, 3) := dk_155 0 16 (dk_at dksX9_isCount_0 9 rfl rfl)
theorem dX9_isCount_12 : decode cX9_isCount 12 = .ok (.iload_n 2, 1) := dk_28 (dk_at dksX9_isCount_0 12 rfl rfl)
theorem dX9_isCount_13 : decode cX9_isCount 13 = .ok (.aload_n 0, 1) := dk_42 (dk_at dksX9_isCount_0 13 rfl rfl)
theorem dX9_isCount_14 : decode cX9_isCount 14 = .ok (.iload_n 1, 1) := dk_27 (dk_at dksX9_isCount_0 14 rfl rfl)
theorem dX9_isCount_15 : decode cX9_isCount 15 = .ok (.invokevirtual 274, 3) := dk_182 1 18 (dk_at dksX9_isCount_0 15 rfl rfl)
theorem dX9_isCount_18 : decode cX9_isCount 18 = .ok (.if_icmp .gt 7, 3) := dk_163 0 7 (dk_at dksX9_isCount_0 18 rfl rfl)
theorem dX9_isCount_21 : decode cX9_isCount 21 = .ok (.iconst 1, 1) := dk_4 (dk_at dksX9_isCount_0 21 rfl rfl)
theorem dX9_isCount_22 : decode cX9_isCount 22 = .ok (.goto 4, 3) := dk_167 0 4 (dk_at dksX9_isCount_1 0 rfl rfl)
theorem dX9_isCount_25 : decode cX9_isCount 25 = .ok (.iconst 0, 1) := dk_3 (dk_at dksX9_isCount_1 3 rfl rfl)
theorem dX9_isCount_26 : decode cX9_isCount 26 = .ok (.ireturn, 1) := dk_172 (dk_at dksX9_isCount_1 4 rfl rfl)
abbrev cX9_hide : ByteArray := prog_17_method_30_code
def yX9_hide : MethodName := ⟨RX9, "hide", "(II)Z"⟩
def dkwX9_hide_0 : List UInt8 := [42, 27, 28, 4, 182, 1, 25, 172]
abbrev dktX9_hide_0 : List UInt8 := dkwX9_hide_0 ++ []
theorem dksX9_hide_0 : cX9_hide.data.toList.drop 0 = dktX9_hide_0 := by decide +kernel
theorem dX9_hide_0 : decode cX9_hide 0 = .ok (.aload_n 0, 1) := dk_42 (dk_at dksX9_hide_0 0 rfl rfl)
theorem dX9_hide_1 : decode cX9_hide 1 = .ok (.iload_n 1, 1) := dk_27 (dk_at dksX9_hide_0 1 rfl rfl)
theorem dX9_hide_2 : decode cX9_hide 2 = .ok (.iload_n 2, 1) := dk_28 (dk_at dksX9_hide_0 2 rfl rfl)
theorem dX9_hide_3 : decode cX9_hide 3 = .ok (.iconst 1, 1) := dk_4 (dk_at dksX9_hide_0 3 rfl rfl)
theorem dX9_hide_4 : decode cX9_hide 4 = .ok (.invokevirtual 281, 3) := dk_182 1 25 (dk_at dksX9_hide_0 4 rfl rfl)
theorem dX9_hide_7 : decode cX9_hide 7 = .ok (.ireturn, 1) := dk_172 (dk_at dksX9_hide_0 7 rfl rfl)
abbrev cX9_say : ByteArray := prog_17_method_29_code
def yX9_say : MethodName := ⟨RX9, "say", "(IIZ)Z"⟩
def dkwX9_say_4 : List UInt8 := [42, 180, 0, 9, 7, 27, 104, 29, 153, 0, 7, 5, 167, 0, 4, 6, 96, 92, 46, 4, 96, 79, 4, 172]
abbrev dktX9_say_4 : List UInt8 := dkwX9_say_4 ++ []
def dkwX9_say_3 : List UInt8 := [27, 104, 21, 4, 96, 42, 27, 182, 1, 18, 79, 42, 180, 0, 33, 16, 100, 27, 104, 21, 4, 96, 29, 84]
abbrev dktX9_say_3 : List UInt8 := dkwX9_say_3 ++ dktX9_say_4
def dkwX9_say_2 : List UInt8 := [160, 0, 5, 3, 172, 42, 180, 0, 27, 16, 100, 27, 104, 21, 4, 96, 28, 79, 42, 180, 0, 30, 16, 100]
abbrev dktX9_say_2 : List UInt8 := dkwX9_say_2 ++ dktX9_say_3
def dkwX9_say_1 : List UInt8 := [7, 27, 104, 5, 96, 46, 42, 180, 0, 9, 7, 27, 104, 6, 96, 46, 96, 54, 4, 21, 4, 16, 100]
abbrev dktX9_say_1 : List UInt8 := dkwX9_say_1 ++ dktX9_say_2
def dkwX9_say_0 : List UInt8 := [42, 27, 182, 1, 14, 153, 0, 13, 42, 27, 28, 182, 0, 220, 2, 159, 0, 5, 3, 172, 42, 180, 0, 9]
abbrev dktX9_say_0 : List UInt8 := dkwX9_say_0 ++ dktX9_say_1
theorem dksX9_say_0 : cX9_say.data.toList.drop 0 = dktX9_say_0 := by decide +kernel
theorem dksX9_say_1 : cX9_say.data.toList.drop 24 = dktX9_say_1 := dk_seg dksX9_say_0 24 rfl rfl
theorem dksX9_say_2 : cX9_say.data.toList.drop 47 = dktX9_say_2 := dk_seg dksX9_say_1 23 rfl rfl
theorem dksX9_say_3 : cX9_say.data.toList.drop 71 = dktX9_say_3 := dk_seg dksX9_say_2 24 rfl rfl
theorem dksX9_say_4 : cX9_say.data.toList.drop 95 = dktX9_say_4 := dk_seg dksX9_say_3 24 rfl rfl
theorem dX9_say_0 : decode cX9_say 0 = .ok (.aload_n 0, 1) := dk_42 (dk_at dksX9_say_0 0 rfl rfl)
theorem dX9_say_1 : decode cX9_say 1 = .ok (.iload_n 1, 1) := dk_27 (dk_at dksX9_say_0 1 rfl rfl)
theorem dX9_say_2 : decode cX9_say 2 = .ok (.invokevirtual 270, 3) := dk_182 1 14 (dk_at dksX9_say_0 2 rfl rfl)
theorem dX9_say_5 : decode cX9_say 5 = .ok (.ifCond .eq 13, 3) := dk_153 0 13 (dk_at dksX9_say_0 5 rfl rfl)
theorem dX9_say_8 : decode cX9_say 8 = .ok (.aload_n 0, 1) := dk_42 (dk_at dksX9_say_0 8 rfl rfl)
theorem dX9_say_9 : decode cX9_say 9 = .ok (.iload_n 1, 1) := dk_27 (dk_at dksX9_say_0 9 rfl rfl)
theorem dX9_say_10 : decode cX9_say 10 = .ok (.iload_n 2, 1) := dk_28 (dk_at dksX9_say_0 10 rfl rfl)
theorem dX9_say_11 : decode cX9_say 11 = .ok (.invokevirtual 220, 3) := dk_182 0 220 (dk_at dksX9_say_0 11 rfl rfl)
theorem dX9_say_14 : decode cX9_say 14 = .ok (.iconst (-1), 1) := dk_2 (dk_at dksX9_say_0 14 rfl rfl)
theorem dX9_say_15 : decode cX9_say 15 = .ok (.if_icmp .eq 5, 3) := dk_159 0 5 (dk_at dksX9_say_0 15 rfl rfl)
theorem dX9_say_18 : decode cX9_say 18 = .ok (.iconst 0, 1) := dk_3 (dk_at dksX9_say_0 18 rfl rfl)
theorem dX9_say_19 : decode cX9_say 19 = .ok (.ireturn, 1) := dk_172 (dk_at dksX9_say_0 19 rfl rfl)
theorem dX9_say_20 : decode cX9_say 20 = .ok (.aload_n 0, 1) := dk_42 (dk_at dksX9_say_0 20 rfl rfl)
theorem dX9_say_21 : decode cX9_say 21 = .ok (.getfield 9, 3) := dk_180 0 9 (dk_at dksX9_say_0 21 rfl rfl)
theorem dX9_say_24 : decode cX9_say 24 = .ok (.iconst 4, 1) := dk_7 (dk_at dksX9_say_1 0 rfl rfl)
theorem dX9_say_25 : decode cX9_say 25 = .ok (.iload_n 1, 1) := dk_27 (dk_at dksX9_say_1 1 rfl rfl)
theorem dX9_say_26 : decode cX9_say 26 = .ok (.imul, 1) := dk_104 (dk_at dksX9_say_1 2 rfl rfl)
theorem dX9_say_27 : decode cX9_say 27 = .ok (.iconst 2, 1) := dk_5 (dk_at dksX9_say_1 3 rfl rfl)
theorem dX9_say_28 : decode cX9_say 28 = .ok (.iadd, 1) := dk_96 (dk_at dksX9_say_1 4 rfl rfl)
theorem dX9_say_29 : decode cX9_say 29 = .ok (.iaload, 1) := dk_46 (dk_at dksX9_say_1 5 rfl rfl)
theorem dX9_say_30 : decode cX9_say 30 = .ok (.aload_n 0, 1) := dk_42 (dk_at dksX9_say_1 6 rfl rfl)
theorem dX9_say_31 : decode cX9_say 31 = .ok (.getfield 9, 3) := dk_180 0 9 (dk_at dksX9_say_1 7 rfl rfl)
theorem dX9_say_34 : decode cX9_say 34 = .ok (.iconst 4, 1) := dk_7 (dk_at dksX9_say_1 10 rfl rfl)
theorem dX9_say_35 : decode cX9_say 35 = .ok (.iload_n 1, 1) := dk_27 (dk_at dksX9_say_1 11 rfl rfl)
theorem dX9_say_36 : decode cX9_say 36 = .ok (.imul, 1) := dk_104 (dk_at dksX9_say_1 12 rfl rfl)
theorem dX9_say_37 : decode cX9_say 37 = .ok (.iconst 3, 1) := dk_6 (dk_at dksX9_say_1 13 rfl rfl)
theorem dX9_say_38 : decode cX9_say 38 = .ok (.iadd, 1) := dk_96 (dk_at dksX9_say_1 14 rfl rfl)
theorem dX9_say_39 : decode cX9_say 39 = .ok (.iaload, 1) := dk_46 (dk_at dksX9_say_1 15 rfl rfl)
theorem dX9_say_40 : decode cX9_say 40 = .ok (.iadd, 1) := dk_96 (dk_at dksX9_say_1 16 rfl rfl)
theorem dX9_say_41 : decode cX9_say 41 = .ok (.istore 4, 2) := dk_54 4 (dk_at dksX9_say_1 17 rfl rfl)
theorem dX9_say_43 : decode cX9_say 43 = .ok (.iload 4, 2) := dk_21 4 (dk_at dksX9_say_1 19 rfl rfl)
theorem dX9_say_45 : decode cX9_say 45 = .ok (.bipush 100, 2) := dk_16 100 (dk_at dksX9_say_1 21 rfl rfl)
theorem dX9_say_47 : decode cX9_say 47 = .ok (.if_icmp .ne 5, 3) := dk_160 0 5 (dk_at dksX9_say_2 0 rfl rfl)
theorem dX9_say_50 : decode cX9_say 50 = .ok (.iconst 0, 1) := dk_3 (dk_at dksX9_say_2 3 rfl rfl)
theorem dX9_say_51 : decode cX9_say 51 = .ok (.ireturn, 1) := dk_172 (dk_at dksX9_say_2 4 rfl rfl)
theorem dX9_say_52 : decode cX9_say 52 = .ok (.aload_n 0, 1) := dk_42 (dk_at dksX9_say_2 5 rfl rfl)
theorem dX9_say_53 : decode cX9_say 53 = .ok (.getfield 27, 3) := dk_180 0 27 (dk_at dksX9_say_2 6 rfl rfl)
theorem dX9_say_56 : decode cX9_say 56 = .ok (.bipush 100, 2) := dk_16 100 (dk_at dksX9_say_2 9 rfl rfl)
theorem dX9_say_58 : decode cX9_say 58 = .ok (.iload_n 1, 1) := dk_27 (dk_at dksX9_say_2 11 rfl rfl)
theorem dX9_say_59 : decode cX9_say 59 = .ok (.imul, 1) := dk_104 (dk_at dksX9_say_2 12 rfl rfl)
theorem dX9_say_60 : decode cX9_say 60 = .ok (.iload 4, 2) := dk_21 4 (dk_at dksX9_say_2 13 rfl rfl)
theorem dX9_say_62 : decode cX9_say 62 = .ok (.iadd, 1) := dk_96 (dk_at dksX9_say_2 15 rfl rfl)
theorem dX9_say_63 : decode cX9_say 63 = .ok (.iload_n 2, 1) := dk_28 (dk_at dksX9_say_2 16 rfl rfl)
theorem dX9_say_64 : decode cX9_say 64 = .ok (.iastore, 1) := dk_79 (dk_at dksX9_say_2 17 rfl rfl)
theorem dX9_say_65 : decode cX9_say 65 = .ok (.aload_n 0, 1) := dk_42 (dk_at dksX9_say_2 18 rfl rfl)
theorem dX9_say_66 : decode cX9_say 66 = .ok (.getfield 30, 3) := dk_180 0 30 (dk_at dksX9_say_2 19 rfl rfl)
theorem dX9_say_69 : decode cX9_say 69 = .ok (.bipush 100, 2) := dk_16 100 (dk_at dksX9_say_2 22 rfl rfl)
theorem dX9_say_71 : decode cX9_say 71 = .ok (.iload_n 1, 1) := dk_27 (dk_at dksX9_say_3 0 rfl rfl)
theorem dX9_say_72 : decode cX9_say 72 = .ok (.imul, 1) := dk_104 (dk_at dksX9_say_3 1 rfl rfl)
theorem dX9_say_73 : decode cX9_say 73 = .ok (.iload 4, 2) := dk_21 4 (dk_at dksX9_say_3 2 rfl rfl)
theorem dX9_say_75 : decode cX9_say 75 = .ok (.iadd, 1) := dk_96 (dk_at dksX9_say_3 4 rfl rfl)
theorem dX9_say_76 : decode cX9_say 76 = .ok (.aload_n 0, 1) := dk_42 (dk_at dksX9_say_3 5 rfl rfl)
theorem dX9_say_77 : decode cX9_say 77 = .ok (.iload_n 1, 1) := dk_27 (dk_at dksX9_say_3 6 rfl rfl)
theorem dX9_say_78 : decode cX9_say 78 = .ok (.invokevirtual 274, 3) := dk_182 1 18 (dk_at dksX9_say_3 7 rfl rfl)
theorem dX9_say_81 : decode cX9_say 81 = .ok (.iastore, 1) := dk_79 (dk_at dksX9_say_3 10 rfl rfl)
theorem dX9_say_82 : decode cX9_say 82 = .ok (.aload_n 0, 1) := dk_42 (dk_at dksX9_say_3 11 rfl rfl)
theorem dX9_say_83 : decode cX9_say 83 = .ok (.getfield 33, 3) := dk_180 0 33 (dk_at dksX9_say_3 12 rfl rfl)
theorem dX9_say_86 : decode cX9_say 86 = .ok (.bipush 100, 2) := dk_16 100 (dk_at dksX9_say_3 15 rfl rfl)
theorem dX9_say_88 : decode cX9_say 88 = .ok (.iload_n 1, 1) := dk_27 (dk_at dksX9_say_3 17 rfl rfl)
theorem dX9_say_89 : decode cX9_say 89 = .ok (.imul, 1) := dk_104 (dk_at dksX9_say_3 18 rfl rfl)
theorem dX9_say_90 : decode cX9_say 90 = .ok (.iload 4, 2) := dk_21 4 (dk_at dksX9_say_3 19 rfl rfl)
theorem dX9_say_92 : decode cX9_say 92 = .ok (.iadd, 1) := dk_96 (dk_at dksX9_say_3 21 rfl rfl)
theorem dX9_say_93 : decode cX9_say 93 = .ok (.iload_n 3, 1) := dk_29 (dk_at dksX9_say_3 22 rfl rfl)
theorem dX9_say_94 : decode cX9_say 94 = .ok (.bastore, 1) := dk_84 (dk_at dksX9_say_3 23 rfl rfl)
theorem dX9_say_95 : decode cX9_say 95 = .ok (.aload_n 0, 1) := dk_42 (dk_at dksX9_say_4 0 rfl rfl)
theorem dX9_say_96 : decode cX9_say 96 = .ok (.getfield 9, 3) := dk_180 0 9 (dk_at dksX9_say_4 1 rfl rfl)
theorem dX9_say_99 : decode cX9_say 99 = .ok (.iconst 4, 1) := dk_7 (dk_at dksX9_say_4 4 rfl rfl)
theorem dX9_say_100 : decode cX9_say 100 = .ok (.iload_n 1, 1) := dk_27 (dk_at dksX9_say_4 5 rfl rfl)
theorem dX9_say_101 : decode cX9_say 101 = .ok (.imul, 1) := dk_104 (dk_at dksX9_say_4 6 rfl rfl)
theorem dX9_say_102 : decode cX9_say 102 = .ok (.iload_n 3, 1) := dk_29 (dk_at dksX9_say_4 7 rfl rfl)
theorem dX9_say_103 : decode cX9_say 103 = .ok (.ifCond .eq 7, 3) := dk_153 0 7 (dk_at dksX9_say_4 8 rfl rfl)
theorem dX9_say_106 : decode cX9_say 106 = .ok (.iconst 2, 1) := dk_5 (dk_at dksX9_say_4 11 rfl rfl)
theorem dX9_say_107 : decode cX9_say 107 = .ok (.goto 4, 3) := dk_167 0 4 (dk_at dksX9_say_4 12 rfl rfl)
theorem dX9_say_110 : decode cX9_say 110 = .ok (.iconst 3, 1) := dk_6 (dk_at dksX9_say_4 15 rfl rfl)
theorem dX9_say_111 : decode cX9_say 111 = .ok (.iadd, 1) := dk_96 (dk_at dksX9_say_4 16 rfl rfl)
theorem dX9_say_112 : decode cX9_say 112 = .ok (.dup2, 1) := dk_92 (dk_at dksX9_say_4 17 rfl rfl)
theorem dX9_say_113 : decode cX9_say 113 = .ok (.iaload, 1) := dk_46 (dk_at dksX9_say_4 18 rfl rfl)
theorem dX9_say_114 : decode cX9_say 114 = .ok (.iconst 1, 1) := dk_4 (dk_at dksX9_say_4 19 rfl rfl)
theorem dX9_say_115 : decode cX9_say 115 = .ok (.iadd, 1) := dk_96 (dk_at dksX9_say_4 20 rfl rfl)
theorem dX9_say_116 : decode cX9_say 116 = .ok (.iastore, 1) := dk_79 (dk_at dksX9_say_4 21 rfl rfl)
theorem dX9_say_117 : decode cX9_say 117 = .ok (.iconst 1, 1) := dk_4 (dk_at dksX9_say_4 22 rfl rfl)
theorem dX9_say_118 : decode cX9_say 118 = .ok (.ireturn, 1) := dk_172 (dk_at dksX9_say_4 23 rfl rfl)
abbrev cX9_word : ByteArray := prog_17_method_12_code
def yX9_word : MethodName := ⟨RX9, "word", "(II)I"⟩
def dkwX9_word_2 : List UInt8 := [16, 100, 27, 104, 21, 4, 96, 172, 132, 4, 1, 167, 255, 223, 2, 172]
abbrev dktX9_word_2 : List UInt8 := dkwX9_word_2 ++ []
def dkwX9_word_1 : List UInt8 := [54, 4, 21, 4, 29, 162, 0, 33, 42, 180, 0, 27, 16, 100, 27, 104, 21, 4, 96, 46, 28, 160, 0, 11]
abbrev dktX9_word_1 : List UInt8 := dkwX9_word_1 ++ dktX9_word_2
def dkwX9_word_0 : List UInt8 := [42, 180, 0, 9, 7, 27, 104, 5, 96, 46, 42, 180, 0, 9, 7, 27, 104, 6, 96, 46, 96, 62, 3]
abbrev dktX9_word_0 : List UInt8 := dkwX9_word_0 ++ dktX9_word_1
theorem dksX9_word_0 : cX9_word.data.toList.drop 0 = dktX9_word_0 := by decide +kernel
theorem dksX9_word_1 : cX9_word.data.toList.drop 23 = dktX9_word_1 := dk_seg dksX9_word_0 23 rfl rfl
theorem dksX9_word_2 : cX9_word.data.toList.drop 47 = dktX9_word_2 := dk_seg dksX9_word_1 24 rfl rfl
theorem dX9_word_0 : decode cX9_word 0 = .ok (.aload_n 0, 1) := dk_42 (dk_at dksX9_word_0 0 rfl rfl)
theorem dX9_word_1 : decode cX9_word 1 = .ok (.getfield 9, 3) := dk_180 0 9 (dk_at dksX9_word_0 1 rfl rfl)
theorem dX9_word_4 : decode cX9_word 4 = .ok (.iconst 4, 1) := dk_7 (dk_at dksX9_word_0 4 rfl rfl)
theorem dX9_word_5 : decode cX9_word 5 = .ok (.iload_n 1, 1) := dk_27 (dk_at dksX9_word_0 5 rfl rfl)
theorem dX9_word_6 : decode cX9_word 6 = .ok (.imul, 1) := dk_104 (dk_at dksX9_word_0 6 rfl rfl)
theorem dX9_word_7 : decode cX9_word 7 = .ok (.iconst 2, 1) := dk_5 (dk_at dksX9_word_0 7 rfl rfl)
theorem dX9_word_8 : decode cX9_word 8 = .ok (.iadd, 1) := dk_96 (dk_at dksX9_word_0 8 rfl rfl)
theorem dX9_word_9 : decode cX9_word 9 = .ok (.iaload, 1) := dk_46 (dk_at dksX9_word_0 9 rfl rfl)
theorem dX9_word_10 : decode cX9_word 10 = .ok (.aload_n 0, 1) := dk_42 (dk_at dksX9_word_0 10 rfl rfl)
theorem dX9_word_11 : decode cX9_word 11 = .ok (.getfield 9, 3) := dk_180 0 9 (dk_at dksX9_word_0 11 rfl rfl)
theorem dX9_word_14 : decode cX9_word 14 = .ok (.iconst 4, 1) := dk_7 (dk_at dksX9_word_0 14 rfl rfl)
theorem dX9_word_15 : decode cX9_word 15 = .ok (.iload_n 1, 1) := dk_27 (dk_at dksX9_word_0 15 rfl rfl)
theorem dX9_word_16 : decode cX9_word 16 = .ok (.imul, 1) := dk_104 (dk_at dksX9_word_0 16 rfl rfl)
theorem dX9_word_17 : decode cX9_word 17 = .ok (.iconst 3, 1) := dk_6 (dk_at dksX9_word_0 17 rfl rfl)
theorem dX9_word_18 : decode cX9_word 18 = .ok (.iadd, 1) := dk_96 (dk_at dksX9_word_0 18 rfl rfl)
theorem dX9_word_19 : decode cX9_word 19 = .ok (.iaload, 1) := dk_46 (dk_at dksX9_word_0 19 rfl rfl)
theorem dX9_word_20 : decode cX9_word 20 = .ok (.iadd, 1) := dk_96 (dk_at dksX9_word_0 20 rfl rfl)
theorem dX9_word_21 : decode cX9_word 21 = .ok (.istore_n 3, 1) := dk_62 (dk_at dksX9_word_0 21 rfl rfl)
theorem dX9_word_22 : decode cX9_word 22 = .ok (.iconst 0, 1) := dk_3 (dk_at dksX9_word_0 22 rfl rfl)
theorem dX9_word_23 : decode cX9_word 23 = .ok (.istore 4, 2) := dk_54 4 (dk_at dksX9_word_1 0 rfl rfl)
theorem dX9_word_25 : decode cX9_word 25 = .ok (.iload 4, 2) := dk_21 4 (dk_at dksX9_word_1 2 rfl rfl)
theorem dX9_word_27 : decode cX9_word 27 = .ok (.iload_n 3, 1) := dk_29 (dk_at dksX9_word_1 4 rfl rfl)
theorem dX9_word_28 : decode cX9_word 28 = .ok (.if_icmp .ge 33, 3) := dk_162 0 33 (dk_at dksX9_word_1 5 rfl rfl)
theorem dX9_word_31 : decode cX9_word 31 = .ok (.aload_n 0, 1) := dk_42 (dk_at dksX9_word_1 8 rfl rfl)
theorem dX9_word_32 : decode cX9_word 32 = .ok (.getfield 27, 3) := dk_180 0 27 (dk_at dksX9_word_1 9 rfl rfl)
theorem dX9_word_35 : decode cX9_word 35 = .ok (.bipush 100, 2) := dk_16 100 (dk_at dksX9_word_1 12 rfl rfl)
theorem dX9_word_37 : decode cX9_word 37 = .ok (.iload_n 1, 1) := dk_27 (dk_at dksX9_word_1 14 rfl rfl)
theorem dX9_word_38 : decode cX9_word 38 = .ok (.imul, 1) := dk_104 (dk_at dksX9_word_1 15 rfl rfl)
theorem dX9_word_39 : decode cX9_word 39 = .ok (.iload 4, 2) := dk_21 4 (dk_at dksX9_word_1 16 rfl rfl)
theorem dX9_word_41 : decode cX9_word 41 = .ok (.iadd, 1) := dk_96 (dk_at dksX9_word_1 18 rfl rfl)
theorem dX9_word_42 : decode cX9_word 42 = .ok (.iaload, 1) := dk_46 (dk_at dksX9_word_1 19 rfl rfl)
theorem dX9_word_43 : decode cX9_word 43 = .ok (.iload_n 2, 1) := dk_28 (dk_at dksX9_word_1 20 rfl rfl)
theorem dX9_word_44 : decode cX9_word 44 = .ok (.if_icmp .ne 11, 3) := dk_160 0 11 (dk_at dksX9_word_1 21 rfl rfl)
theorem dX9_word_47 : decode cX9_word 47 = .ok (.bipush 100, 2) := dk_16 100 (dk_at dksX9_word_2 0 rfl rfl)
theorem dX9_word_49 : decode cX9_word 49 = .ok (.iload_n 1, 1) := dk_27 (dk_at dksX9_word_2 2 rfl rfl)
theorem dX9_word_50 : decode cX9_word 50 = .ok (.imul, 1) := dk_104 (dk_at dksX9_word_2 3 rfl rfl)
theorem dX9_word_51 : decode cX9_word 51 = .ok (.iload 4, 2) := dk_21 4 (dk_at dksX9_word_2 4 rfl rfl)
theorem dX9_word_53 : decode cX9_word 53 = .ok (.iadd, 1) := dk_96 (dk_at dksX9_word_2 6 rfl rfl)
theorem dX9_word_54 : decode cX9_word 54 = .ok (.ireturn, 1) := dk_172 (dk_at dksX9_word_2 7 rfl rfl)
theorem dX9_word_55 : decode cX9_word 55 = .ok (.iinc 4 1, 3) := dk_132 4 1 (dk_at dksX9_word_2 8 rfl rfl)
theorem dX9_word_58 : decode cX9_word 58 = .ok (.goto (-33), 3) := dk_167 255 223 (dk_at dksX9_word_2 11 rfl rfl)
theorem dX9_word_61 : decode cX9_word 61 = .ok (.iconst (-1), 1) := dk_2 (dk_at dksX9_word_2 14 rfl rfl)
theorem dX9_word_62 : decode cX9_word 62 = .ok (.ireturn, 1) := dk_172 (dk_at dksX9_word_2 15 rfl rfl)
abbrev cX9_lag : ByteArray := prog_17_method_31_code
def yX9_lag : MethodName := ⟨RX9, "lag", "(II)Z"⟩
def dkwX9_lag_0 : List UInt8 := [42, 27, 28, 3, 182, 1, 25, 172]
abbrev dktX9_lag_0 : List UInt8 := dkwX9_lag_0 ++ []
theorem dksX9_lag_0 : cX9_lag.data.toList.drop 0 = dktX9_lag_0 := by decide +kernel
theorem dX9_lag_0 : decode cX9_lag 0 = .ok (.aload_n 0, 1) := dk_42 (dk_at dksX9_lag_0 0 rfl rfl)
theorem dX9_lag_1 : decode cX9_lag 1 = .ok (.iload_n 1, 1) := dk_27 (dk_at dksX9_lag_0 1 rfl rfl)
theorem dX9_lag_2 : decode cX9_lag 2 = .ok (.iload_n 2, 1) := dk_28 (dk_at dksX9_lag_0 2 rfl rfl)
theorem dX9_lag_3 : decode cX9_lag 3 = .ok (.iconst 0, 1) := dk_3 (dk_at dksX9_lag_0 3 rfl rfl)
theorem dX9_lag_4 : decode cX9_lag 4 = .ok (.invokevirtual 281, 3) := dk_182 1 25 (dk_at dksX9_lag_0 4 rfl rfl)
theorem dX9_lag_7 : decode cX9_lag 7 = .ok (.ireturn, 1) := dk_172 (dk_at dksX9_lag_0 7 rfl rfl)
abbrev cX9_prune : ByteArray := prog_17_method_32_code
def yX9_prune : MethodName := ⟨RX9, "prune", "(II)I"⟩
def dkwX9_prune_3 : List UInt8 := [167, 255, 203, 29, 172]
abbrev dktX9_prune_3 : List UInt8 := dkwX9_prune_3 ++ []
def dkwX9_prune_2 : List UInt8 := [21, 5, 51, 153, 0, 6, 167, 0, 14, 42, 180, 0, 20, 21, 5, 4, 84, 132, 3, 1, 132, 4, 1]
abbrev dktX9_prune_2 : List UInt8 := dkwX9_prune_2 ++ dktX9_prune_3
def dkwX9_prune_1 : List UInt8 := [17, 1, 144, 27, 104, 21, 4, 96, 54, 5, 42, 180, 0, 20, 21, 5, 51, 154, 0, 27, 42, 180, 0, 24]
abbrev dktX9_prune_1 : List UInt8 := dkwX9_prune_1 ++ dktX9_prune_2
def dkwX9_prune_0 : List UInt8 := [42, 27, 28, 182, 1, 21, 154, 0, 5, 2, 172, 3, 62, 3, 54, 4, 21, 4, 28, 162, 0, 53]
abbrev dktX9_prune_0 : List UInt8 := dkwX9_prune_0 ++ dktX9_prune_1
theorem dksX9_prune_0 : cX9_prune.data.toList.drop 0 = dktX9_prune_0 := by decide +kernel
theorem dksX9_prune_1 : cX9_prune.data.toList.drop 22 = dktX9_prune_1 := dk_seg dksX9_prune_0 22 rfl rfl
theorem dksX9_prune_2 : cX9_prune.data.toList.drop 46 = dktX9_prune_2 := dk_seg dksX9_prune_1 24 rfl rfl
theorem dksX9_prune_3 : cX9_prune.data.toList.drop 69 = dktX9_prune_3 := dk_seg dksX9_prune_2 23 rfl rfl
theorem dX9_prune_0 : decode cX9_prune 0 = .ok (.aload_n 0, 1) := dk_42 (dk_at dksX9_prune_0 0 rfl rfl)
theorem dX9_prune_1 : decode cX9_prune 1 = .ok (.iload_n 1, 1) := dk_27 (dk_at dksX9_prune_0 1 rfl rfl)
theorem dX9_prune_2 : decode cX9_prune 2 = .ok (.iload_n 2, 1) := dk_28 (dk_at dksX9_prune_0 2 rfl rfl)
theorem dX9_prune_3 : decode cX9_prune 3 = .ok (.invokevirtual 277, 3) := dk_182 1 21 (dk_at dksX9_prune_0 3 rfl rfl)
theorem dX9_prune_6 : decode cX9_prune 6 = .ok (.ifCond .ne 5, 3) := dk_154 0 5 (dk_at dksX9_prune_0 6 rfl rfl)
theorem dX9_prune_9 : decode cX9_prune 9 = .ok (.iconst (-1), 1) := dk_2 (dk_at dksX9_prune_0 9 rfl rfl)
theorem dX9_prune_10 : decode cX9_prune 10 = .ok (.ireturn, 1) := dk_172 (dk_at dksX9_prune_0 10 rfl rfl)
theorem dX9_prune_11 : decode cX9_prune 11 = .ok (.iconst 0, 1) := dk_3 (dk_at dksX9_prune_0 11 rfl rfl)
theorem dX9_prune_12 : decode cX9_prune 12 = .ok (.istore_n 3, 1) := dk_62 (dk_at dksX9_prune_0 12 rfl rfl)
theorem dX9_prune_13 : decode cX9_prune 13 = .ok (.iconst 0, 1) := dk_3 (dk_at dksX9_prune_0 13 rfl rfl)
theorem dX9_prune_14 : decode cX9_prune 14 = .ok (.istore 4, 2) := dk_54 4 (dk_at dksX9_prune_0 14 rfl rfl)
theorem dX9_prune_16 : decode cX9_prune 16 = .ok (.iload 4, 2) := dk_21 4 (dk_at dksX9_prune_0 16 rfl rfl)
theorem dX9_prune_18 : decode cX9_prune 18 = .ok (.iload_n 2, 1) := dk_28 (dk_at dksX9_prune_0 18 rfl rfl)
theorem dX9_prune_19 : decode cX9_prune 19 = .ok (.if_icmp .ge 53, 3) := dk_162 0 53 (dk_at dksX9_prune_0 19 rfl rfl)
theorem dX9_prune_22 : decode cX9_prune 22 = .ok (.sipush 400, 3) := dk_17 1 144 (dk_at dksX9_prune_1 0 rfl rfl)
theorem dX9_prune_25 : decode cX9_prune 25 = .ok (.iload_n 1, 1) := dk_27 (dk_at dksX9_prune_1 3 rfl rfl)
theorem dX9_prune_26 : decode cX9_prune 26 = .ok (.imul, 1) := dk_104 (dk_at dksX9_prune_1 4 rfl rfl)
theorem dX9_prune_27 : decode cX9_prune 27 = .ok (.iload 4, 2) := dk_21 4 (dk_at dksX9_prune_1 5 rfl rfl)
theorem dX9_prune_29 : decode cX9_prune 29 = .ok (.iadd, 1) := dk_96 (dk_at dksX9_prune_1 7 rfl rfl)
theorem dX9_prune_30 : decode cX9_prune 30 = .ok (.istore 5, 2) := dk_54 5 (dk_at dksX9_prune_1 8 rfl rfl)
theorem dX9_prune_32 : decode cX9_prune 32 = .ok (.aload_n 0, 1) := dk_42 (dk_at dksX9_prune_1 10 rfl rfl)
theorem dX9_prune_33 : decode cX9_prune 33 = .ok (.getfield 20, 3) := dk_180 0 20 (dk_at dksX9_prune_1 11 rfl rfl)
theorem dX9_prune_36 : decode cX9_prune 36 = .ok (.iload 5, 2) := dk_21 5 (dk_at dksX9_prune_1 14 rfl rfl)
theorem dX9_prune_38 : decode cX9_prune 38 = .ok (.baload, 1) := dk_51 (dk_at dksX9_prune_1 16 rfl rfl)
theorem dX9_prune_39 : decode cX9_prune 39 = .ok (.ifCond .ne 27, 3) := dk_154 0 27 (dk_at dksX9_prune_1 17 rfl rfl)
theorem dX9_prune_42 : decode cX9_prune 42 = .ok (.aload_n 0, 1) := dk_42 (dk_at dksX9_prune_1 20 rfl rfl)
theorem dX9_prune_43 : decode cX9_prune 43 = .ok (.getfield 24, 3) := dk_180 0 24 (dk_at dksX9_prune_1 21 rfl rfl)
theorem dX9_prune_46 : decode cX9_prune 46 = .ok (.iload 5, 2) := dk_21 5 (dk_at dksX9_prune_2 0 rfl rfl)
theorem dX9_prune_48 : decode cX9_prune 48 = .ok (.baload, 1) := dk_51 (dk_at dksX9_prune_2 2 rfl rfl)
theorem dX9_prune_49 : decode cX9_prune 49 = .ok (.ifCond .eq 6, 3) := dk_153 0 6 (dk_at dksX9_prune_2 3 rfl rfl)
theorem dX9_prune_52 : decode cX9_prune 52 = .ok (.goto 14, 3) := dk_167 0 14 (dk_at dksX9_prune_2 6 rfl rfl)
theorem dX9_prune_55 : decode cX9_prune 55 = .ok (.aload_n 0, 1) := dk_42 (dk_at dksX9_prune_2 9 rfl rfl)
theorem dX9_prune_56 : decode cX9_prune 56 = .ok (.getfield 20, 3) := dk_180 0 20 (dk_at dksX9_prune_2 10 rfl rfl)
theorem dX9_prune_59 : decode cX9_prune 59 = .ok (.iload 5, 2) := dk_21 5 (dk_at dksX9_prune_2 13 rfl rfl)
theorem dX9_prune_61 : decode cX9_prune 61 = .ok (.iconst 1, 1) := dk_4 (dk_at dksX9_prune_2 15 rfl rfl)
theorem dX9_prune_62 : decode cX9_prune 62 = .ok (.bastore, 1) := dk_84 (dk_at dksX9_prune_2 16 rfl rfl)
theorem dX9_prune_63 : decode cX9_prune 63 = .ok (.iinc 3 1, 3) := dk_132 3 1 (dk_at dksX9_prune_2 17 rfl rfl)
theorem dX9_prune_66 : decode cX9_prune 66 = .ok (.iinc 4 1, 3) := dk_132 4 1 (dk_at dksX9_prune_2 20 rfl rfl)
theorem dX9_prune_69 : decode cX9_prune 69 = .ok (.goto (-53), 3) := dk_167 255 203 (dk_at dksX9_prune_3 0 rfl rfl)
theorem dX9_prune_72 : decode cX9_prune 72 = .ok (.iload_n 3, 1) := dk_29 (dk_at dksX9_prune_3 3 rfl rfl)
theorem dX9_prune_73 : decode cX9_prune 73 = .ok (.ireturn, 1) := dk_172 (dk_at dksX9_prune_3 4 rfl rfl)
abbrev cX9_keep : ByteArray := prog_17_method_33_code
def yX9_keep : MethodName := ⟨RX9, "keep", "(II)Z"⟩
def dkwX9_keep_2 : List UInt8 := [104, 28, 96, 4, 84, 4, 172]
abbrev dktX9_keep_2 : List UInt8 := dkwX9_keep_2 ++ []
def dkwX9_keep_1 : List UInt8 := [180, 0, 20, 17, 1, 144, 27, 104, 28, 96, 51, 153, 0, 5, 3, 172, 42, 180, 0, 24, 17, 1, 144, 27]
abbrev dktX9_keep_1 : List UInt8 := dkwX9_keep_1 ++ dktX9_keep_2
def dkwX9_keep_0 : List UInt8 := [42, 27, 182, 1, 14, 153, 0, 31, 28, 155, 0, 27, 28, 42, 27, 182, 1, 18, 162, 0, 18, 42]
abbrev dktX9_keep_0 : List UInt8 := dkwX9_keep_0 ++ dktX9_keep_1
theorem dksX9_keep_0 : cX9_keep.data.toList.drop 0 = dktX9_keep_0 := by decide +kernel
theorem dksX9_keep_1 : cX9_keep.data.toList.drop 22 = dktX9_keep_1 := dk_seg dksX9_keep_0 22 rfl rfl
theorem dksX9_keep_2 : cX9_keep.data.toList.drop 46 = dktX9_keep_2 := dk_seg dksX9_keep_1 24 rfl rfl
theorem dX9_keep_0 : decode cX9_keep 0 = .ok (.aload_n 0, 1) := dk_42 (dk_at dksX9_keep_0 0 rfl rfl)
theorem dX9_keep_1 : decode cX9_keep 1 = .ok (.iload_n 1, 1) := dk_27 (dk_at dksX9_keep_0 1 rfl rfl)
theorem dX9_keep_2 : decode cX9_keep 2 = .ok (.invokevirtual 270, 3) := dk_182 1 14 (dk_at dksX9_keep_0 2 rfl rfl)
theorem dX9_keep_5 : decode cX9_keep 5 = .ok (.ifCond .eq 31, 3) := dk_153 0 31 (dk_at dksX9_keep_0 5 rfl rfl)
theorem dX9_keep_8 : decode cX9_keep 8 = .ok (.iload_n 2, 1) := dk_28 (dk_at dksX9_keep_0 8 rfl rfl)
theorem dX9_keep_9 : decode cX9_keep 9 = .ok (.ifCond .lt 27, 3) := dk_155 0 27 (dk_at dksX9_keep_0 9 rfl rfl)
theorem dX9_keep_12 : decode cX9_keep 12 = .ok (.iload_n 2, 1) := dk_28 (dk_at dksX9_keep_0 12 rfl rfl)
theorem dX9_keep_13 : decode cX9_keep 13 = .ok (.aload_n 0, 1) := dk_42 (dk_at dksX9_keep_0 13 rfl rfl)
theorem dX9_keep_14 : decode cX9_keep 14 = .ok (.iload_n 1, 1) := dk_27 (dk_at dksX9_keep_0 14 rfl rfl)
theorem dX9_keep_15 : decode cX9_keep 15 = .ok (.invokevirtual 274, 3) := dk_182 1 18 (dk_at dksX9_keep_0 15 rfl rfl)
theorem dX9_keep_18 : decode cX9_keep 18 = .ok (.if_icmp .ge 18, 3) := dk_162 0 18 (dk_at dksX9_keep_0 18 rfl rfl)
theorem dX9_keep_21 : decode cX9_keep 21 = .ok (.aload_n 0, 1) := dk_42 (dk_at dksX9_keep_0 21 rfl rfl)
theorem dX9_keep_22 : decode cX9_keep 22 = .ok (.getfield 20, 3) := dk_180 0 20 (dk_at dksX9_keep_1 0 rfl rfl)
theorem dX9_keep_25 : decode cX9_keep 25 = .ok (.sipush 400, 3) := dk_17 1 144 (dk_at dksX9_keep_1 3 rfl rfl)
theorem dX9_keep_28 : decode cX9_keep 28 = .ok (.iload_n 1, 1) := dk_27 (dk_at dksX9_keep_1 6 rfl rfl)
theorem dX9_keep_29 : decode cX9_keep 29 = .ok (.imul, 1) := dk_104 (dk_at dksX9_keep_1 7 rfl rfl)
theorem dX9_keep_30 : decode cX9_keep 30 = .ok (.iload_n 2, 1) := dk_28 (dk_at dksX9_keep_1 8 rfl rfl)
theorem dX9_keep_31 : decode cX9_keep 31 = .ok (.iadd, 1) := dk_96 (dk_at dksX9_keep_1 9 rfl rfl)
theorem dX9_keep_32 : decode cX9_keep 32 = .ok (.baload, 1) := dk_51 (dk_at dksX9_keep_1 10 rfl rfl)
theorem dX9_keep_33 : decode cX9_keep 33 = .ok (.ifCond .eq 5, 3) := dk_153 0 5 (dk_at dksX9_keep_1 11 rfl rfl)
theorem dX9_keep_36 : decode cX9_keep 36 = .ok (.iconst 0, 1) := dk_3 (dk_at dksX9_keep_1 14 rfl rfl)
theorem dX9_keep_37 : decode cX9_keep 37 = .ok (.ireturn, 1) := dk_172 (dk_at dksX9_keep_1 15 rfl rfl)
theorem dX9_keep_38 : decode cX9_keep 38 = .ok (.aload_n 0, 1) := dk_42 (dk_at dksX9_keep_1 16 rfl rfl)
theorem dX9_keep_39 : decode cX9_keep 39 = .ok (.getfield 24, 3) := dk_180 0 24 (dk_at dksX9_keep_1 17 rfl rfl)
theorem dX9_keep_42 : decode cX9_keep 42 = .ok (.sipush 400, 3) := dk_17 1 144 (dk_at dksX9_keep_1 20 rfl rfl)
theorem dX9_keep_45 : decode cX9_keep 45 = .ok (.iload_n 1, 1) := dk_27 (dk_at dksX9_keep_1 23 rfl rfl)
theorem dX9_keep_46 : decode cX9_keep 46 = .ok (.imul, 1) := dk_104 (dk_at dksX9_keep_2 0 rfl rfl)
theorem dX9_keep_47 : decode cX9_keep 47 = .ok (.iload_n 2, 1) := dk_28 (dk_at dksX9_keep_2 1 rfl rfl)
theorem dX9_keep_48 : decode cX9_keep 48 = .ok (.iadd, 1) := dk_96 (dk_at dksX9_keep_2 2 rfl rfl)
theorem dX9_keep_49 : decode cX9_keep 49 = .ok (.iconst 1, 1) := dk_4 (dk_at dksX9_keep_2 3 rfl rfl)
theorem dX9_keep_50 : decode cX9_keep 50 = .ok (.bastore, 1) := dk_84 (dk_at dksX9_keep_2 4 rfl rfl)
theorem dX9_keep_51 : decode cX9_keep 51 = .ok (.iconst 1, 1) := dk_4 (dk_at dksX9_keep_2 5 rfl rfl)
theorem dX9_keep_52 : decode cX9_keep 52 = .ok (.ireturn, 1) := dk_172 (dk_at dksX9_keep_2 6 rfl rfl)
abbrev cX9_count : ByteArray := prog_17_method_34_code
def yX9_count : MethodName := ⟨RX9, "count", "(II)I"⟩
def dkwX9_count_5 : List UInt8 := [180, 0, 9, 7, 27, 104, 5, 96, 46, 172, 42, 180, 0, 9, 7, 27, 104, 6, 96, 46, 172, 2, 172]
abbrev dktX9_count_5 : List UInt8 := dkwX9_count_5 ++ []
def dkwX9_count_4 : List UInt8 := [180, 0, 9, 7, 27, 104, 46, 172, 42, 27, 42, 27, 182, 1, 18, 182, 1, 4, 42, 180, 0, 223, 172, 42]
abbrev dktX9_count_4 : List UInt8 := dkwX9_count_4 ++ dktX9_count_5
def dkwX9_count_3 : List UInt8 := [17, 1, 144, 27, 104, 21, 4, 96, 51, 153, 0, 6, 132, 3, 1, 132, 4, 1, 167, 255, 224, 29, 172, 42]
abbrev dktX9_count_3 : List UInt8 := dkwX9_count_3 ++ dktX9_count_4
def dkwX9_count_2 : List UInt8 := [42, 27, 182, 1, 18, 172, 3, 54, 4, 21, 4, 42, 27, 182, 1, 18, 162, 0, 28, 42, 180, 0, 20]
abbrev dktX9_count_2 : List UInt8 := dkwX9_count_2 ++ dktX9_count_3
def dkwX9_count_1 : List UInt8 := [170, 0, 0, 0, 0, 0, 131, 0, 0, 0, 0, 0, 0, 0, 5, 0, 0, 0, 39, 0, 0, 0, 45, 0, 0, 0, 85, 0, 0, 0, 94, 0, 0, 0, 109, 0, 0, 0, 120]
abbrev dktX9_count_1 : List UInt8 := dkwX9_count_1 ++ dktX9_count_2
def dkwX9_count_0 : List UInt8 := [42, 27, 182, 1, 14, 154, 0, 5, 2, 172, 3, 62, 28]
abbrev dktX9_count_0 : List UInt8 := dkwX9_count_0 ++ dktX9_count_1
theorem dksX9_count_0 : cX9_count.data.toList.drop 0 = dktX9_count_0 := by decide +kernel
theorem dksX9_count_1 : cX9_count.data.toList.drop 13 = dktX9_count_1 := dk_seg dksX9_count_0 13 rfl rfl
theorem dksX9_count_2 : cX9_count.data.toList.drop 52 = dktX9_count_2 := dk_seg dksX9_count_1 39 rfl rfl
theorem dksX9_count_3 : cX9_count.data.toList.drop 75 = dktX9_count_3 := dk_seg dksX9_count_2 23 rfl rfl
theorem dksX9_count_4 : cX9_count.data.toList.drop 99 = dktX9_count_4 := dk_seg dksX9_count_3 24 rfl rfl
theorem dksX9_count_5 : cX9_count.data.toList.drop 123 = dktX9_count_5 := dk_seg dksX9_count_4 24 rfl rfl
theorem dX9_count_0 : decode cX9_count 0 = .ok (.aload_n 0, 1) := dk_42 (dk_at dksX9_count_0 0 rfl rfl)
theorem dX9_count_1 : decode cX9_count 1 = .ok (.iload_n 1, 1) := dk_27 (dk_at dksX9_count_0 1 rfl rfl)
theorem dX9_count_2 : decode cX9_count 2 = .ok (.invokevirtual 270, 3) := dk_182 1 14 (dk_at dksX9_count_0 2 rfl rfl)
theorem dX9_count_5 : decode cX9_count 5 = .ok (.ifCond .ne 5, 3) := dk_154 0 5 (dk_at dksX9_count_0 5 rfl rfl)
theorem dX9_count_8 : decode cX9_count 8 = .ok (.iconst (-1), 1) := dk_2 (dk_at dksX9_count_0 8 rfl rfl)
theorem dX9_count_9 : decode cX9_count 9 = .ok (.ireturn, 1) := dk_172 (dk_at dksX9_count_0 9 rfl rfl)
theorem dX9_count_10 : decode cX9_count 10 = .ok (.iconst 0, 1) := dk_3 (dk_at dksX9_count_0 10 rfl rfl)
theorem dX9_count_11 : decode cX9_count 11 = .ok (.istore_n 3, 1) := dk_62 (dk_at dksX9_count_0 11 rfl rfl)
theorem dX9_count_12 : decode cX9_count 12 = .ok (.iload_n 2, 1) := dk_28 (dk_at dksX9_count_0 12 rfl rfl)
theorem dX9_count_13 : decode cX9_count 13 = .ok (.tableswitch 131 0 5 #[39, 45, 85, 94, 109, 120], 39) := by decide +kernel
theorem dX9_count_52 : decode cX9_count 52 = .ok (.aload_n 0, 1) := dk_42 (dk_at dksX9_count_2 0 rfl rfl)
theorem dX9_count_53 : decode cX9_count 53 = .ok (.iload_n 1, 1) := dk_27 (dk_at dksX9_count_2 1 rfl rfl)
theorem dX9_count_54 : decode cX9_count 54 = .ok (.invokevirtual 274, 3) := dk_182 1 18 (dk_at dksX9_count_2 2 rfl rfl)
theorem dX9_count_57 : decode cX9_count 57 = .ok (.ireturn, 1) := dk_172 (dk_at dksX9_count_2 5 rfl rfl)
theorem dX9_count_58 : decode cX9_count 58 = .ok (.iconst 0, 1) := dk_3 (dk_at dksX9_count_2 6 rfl rfl)
theorem dX9_count_59 : decode cX9_count 59 = .ok (.istore 4, 2) := dk_54 4 (dk_at dksX9_count_2 7 rfl rfl)
theorem dX9_count_61 : decode cX9_count 61 = .ok (.iload 4, 2) := dk_21 4 (dk_at dksX9_count_2 9 rfl rfl)
theorem dX9_count_63 : decode cX9_count 63 = .ok (.aload_n 0, 1) := dk_42 (dk_at dksX9_count_2 11 rfl rfl)
theorem dX9_count_64 : decode cX9_count 64 = .ok (.iload_n 1, 1) := dk_27 (dk_at dksX9_count_2 12 rfl rfl)
theorem dX9_count_65 : decode cX9_count 65 = .ok (.invokevirtual 274, 3) := dk_182 1 18 (dk_at dksX9_count_2 13 rfl rfl)
theorem dX9_count_68 : decode cX9_count 68 = .ok (.if_icmp .ge 28, 3) := dk_162 0 28 (dk_at dksX9_count_2 16 rfl rfl)
theorem dX9_count_71 : decode cX9_count 71 = .ok (.aload_n 0, 1) := dk_42 (dk_at dksX9_count_2 19 rfl rfl)
theorem dX9_count_72 : decode cX9_count 72 = .ok (.getfield 20, 3) := dk_180 0 20 (dk_at dksX9_count_2 20 rfl rfl)
theorem dX9_count_75 : decode cX9_count 75 = .ok (.sipush 400, 3) := dk_17 1 144 (dk_at dksX9_count_3 0 rfl rfl)
theorem dX9_count_78 : decode cX9_count 78 = .ok (.iload_n 1, 1) := dk_27 (dk_at dksX9_count_3 3 rfl rfl)
theorem dX9_count_79 : decode cX9_count 79 = .ok (.imul, 1) := dk_104 (dk_at dksX9_count_3 4 rfl rfl)
theorem dX9_count_80 : decode cX9_count 80 = .ok (.iload 4, 2) := dk_21 4 (dk_at dksX9_count_3 5 rfl rfl)
theorem dX9_count_82 : decode cX9_count 82 = .ok (.iadd, 1) := dk_96 (dk_at dksX9_count_3 7 rfl rfl)
theorem dX9_count_83 : decode cX9_count 83 = .ok (.baload, 1) := dk_51 (dk_at dksX9_count_3 8 rfl rfl)
theorem dX9_count_84 : decode cX9_count 84 = .ok (.ifCond .eq 6, 3) := dk_153 0 6 (dk_at dksX9_count_3 9 rfl rfl)
theorem dX9_count_87 : decode cX9_count 87 = .ok (.iinc 3 1, 3) := dk_132 3 1 (dk_at dksX9_count_3 12 rfl rfl)
theorem dX9_count_90 : decode cX9_count 90 = .ok (.iinc 4 1, 3) := dk_132 4 1 (dk_at dksX9_count_3 15 rfl rfl)
theorem dX9_count_93 : decode cX9_count 93 = .ok (.goto (-32), 3) := dk_167 255 224 (dk_at dksX9_count_3 18 rfl rfl)
theorem dX9_count_96 : decode cX9_count 96 = .ok (.iload_n 3, 1) := dk_29 (dk_at dksX9_count_3 21 rfl rfl)
theorem dX9_count_97 : decode cX9_count 97 = .ok (.ireturn, 1) := dk_172 (dk_at dksX9_count_3 22 rfl rfl)
theorem dX9_count_98 : decode cX9_count 98 = .ok (.aload_n 0, 1) := dk_42 (dk_at dksX9_count_3 23 rfl rfl)
theorem dX9_count_99 : decode cX9_count 99 = .ok (.getfield 9, 3) := dk_180 0 9 (dk_at dksX9_count_4 0 rfl rfl)
theorem dX9_count_102 : decode cX9_count 102 = .ok (.iconst 4, 1) := dk_7 (dk_at dksX9_count_4 3 rfl rfl)
theorem dX9_count_103 : decode cX9_count 103 = .ok (.iload_n 1, 1) := dk_27 (dk_at dksX9_count_4 4 rfl rfl)
theorem dX9_count_104 : decode cX9_count 104 = .ok (.imul, 1) := dk_104 (dk_at dksX9_count_4 5 rfl rfl)
theorem dX9_count_105 : decode cX9_count 105 = .ok (.iaload, 1) := dk_46 (dk_at dksX9_count_4 6 rfl rfl)
theorem dX9_count_106 : decode cX9_count 106 = .ok (.ireturn, 1) := dk_172 (dk_at dksX9_count_4 7 rfl rfl)
theorem dX9_count_107 : decode cX9_count 107 = .ok (.aload_n 0, 1) := dk_42 (dk_at dksX9_count_4 8 rfl rfl)
theorem dX9_count_108 : decode cX9_count 108 = .ok (.iload_n 1, 1) := dk_27 (dk_at dksX9_count_4 9 rfl rfl)
theorem dX9_count_109 : decode cX9_count 109 = .ok (.aload_n 0, 1) := dk_42 (dk_at dksX9_count_4 10 rfl rfl)
theorem dX9_count_110 : decode cX9_count 110 = .ok (.iload_n 1, 1) := dk_27 (dk_at dksX9_count_4 11 rfl rfl)
theorem dX9_count_111 : decode cX9_count 111 = .ok (.invokevirtual 274, 3) := dk_182 1 18 (dk_at dksX9_count_4 12 rfl rfl)
theorem dX9_count_114 : decode cX9_count 114 = .ok (.invokevirtual 260, 3) := dk_182 1 4 (dk_at dksX9_count_4 15 rfl rfl)
theorem dX9_count_117 : decode cX9_count 117 = .ok (.aload_n 0, 1) := dk_42 (dk_at dksX9_count_4 18 rfl rfl)
theorem dX9_count_118 : decode cX9_count 118 = .ok (.getfield 223, 3) := dk_180 0 223 (dk_at dksX9_count_4 19 rfl rfl)
theorem dX9_count_121 : decode cX9_count 121 = .ok (.ireturn, 1) := dk_172 (dk_at dksX9_count_4 22 rfl rfl)
theorem dX9_count_122 : decode cX9_count 122 = .ok (.aload_n 0, 1) := dk_42 (dk_at dksX9_count_4 23 rfl rfl)
theorem dX9_count_123 : decode cX9_count 123 = .ok (.getfield 9, 3) := dk_180 0 9 (dk_at dksX9_count_5 0 rfl rfl)
theorem dX9_count_126 : decode cX9_count 126 = .ok (.iconst 4, 1) := dk_7 (dk_at dksX9_count_5 3 rfl rfl)
theorem dX9_count_127 : decode cX9_count 127 = .ok (.iload_n 1, 1) := dk_27 (dk_at dksX9_count_5 4 rfl rfl)
theorem dX9_count_128 : decode cX9_count 128 = .ok (.imul, 1) := dk_104 (dk_at dksX9_count_5 5 rfl rfl)
theorem dX9_count_129 : decode cX9_count 129 = .ok (.iconst 2, 1) := dk_5 (dk_at dksX9_count_5 6 rfl rfl)
theorem dX9_count_130 : decode cX9_count 130 = .ok (.iadd, 1) := dk_96 (dk_at dksX9_count_5 7 rfl rfl)
theorem dX9_count_131 : decode cX9_count 131 = .ok (.iaload, 1) := dk_46 (dk_at dksX9_count_5 8 rfl rfl)
theorem dX9_count_132 : decode cX9_count 132 = .ok (.ireturn, 1) := dk_172 (dk_at dksX9_count_5 9 rfl rfl)
theorem dX9_count_133 : decode cX9_count 133 = .ok (.aload_n 0, 1) := dk_42 (dk_at dksX9_count_5 10 rfl rfl)
theorem dX9_count_134 : decode cX9_count 134 = .ok (.getfield 9, 3) := dk_180 0 9 (dk_at dksX9_count_5 11 rfl rfl)
theorem dX9_count_137 : decode cX9_count 137 = .ok (.iconst 4, 1) := dk_7 (dk_at dksX9_count_5 14 rfl rfl)
theorem dX9_count_138 : decode cX9_count 138 = .ok (.iload_n 1, 1) := dk_27 (dk_at dksX9_count_5 15 rfl rfl)
theorem dX9_count_139 : decode cX9_count 139 = .ok (.imul, 1) := dk_104 (dk_at dksX9_count_5 16 rfl rfl)
theorem dX9_count_140 : decode cX9_count 140 = .ok (.iconst 3, 1) := dk_6 (dk_at dksX9_count_5 17 rfl rfl)
theorem dX9_count_141 : decode cX9_count 141 = .ok (.iadd, 1) := dk_96 (dk_at dksX9_count_5 18 rfl rfl)
theorem dX9_count_142 : decode cX9_count 142 = .ok (.iaload, 1) := dk_46 (dk_at dksX9_count_5 19 rfl rfl)
theorem dX9_count_143 : decode cX9_count 143 = .ok (.ireturn, 1) := dk_172 (dk_at dksX9_count_5 20 rfl rfl)
theorem dX9_count_144 : decode cX9_count 144 = .ok (.iconst (-1), 1) := dk_2 (dk_at dksX9_count_5 21 rfl rfl)
theorem dX9_count_145 : decode cX9_count 145 = .ok (.ireturn, 1) := dk_172 (dk_at dksX9_count_5 22 rfl rfl)
abbrev cX9_map : ByteArray := prog_17_method_14_code
def yX9_map : MethodName := ⟨RX9, "map", "(II)V"⟩
def dkwX9_map_5 : List UInt8 := [182, 0, 234, 42, 42, 180, 0, 157, 16, 8, 29, 104, 182, 0, 192, 132, 3, 1, 167, 255, 216, 177]
abbrev dktX9_map_5 : List UInt8 := dkwX9_map_5 ++ []
def dkwX9_map_4 : List UInt8 := [62, 29, 42, 180, 0, 223, 162, 0, 38, 42, 180, 0, 160, 29, 29, 79, 42, 42, 180, 0, 151, 29, 46]
abbrev dktX9_map_4 : List UInt8 := dkwX9_map_4 ++ dktX9_map_5
def dkwX9_map_3 : List UInt8 := [89, 180, 0, 223, 4, 96, 181, 0, 223, 42, 180, 0, 154, 21, 5, 29, 79, 132, 3, 1, 167, 255, 174, 3]
abbrev dktX9_map_3 : List UInt8 := dkwX9_map_3 ++ dktX9_map_4
def dkwX9_map_2 : List UInt8 := [54, 5, 21, 5, 2, 160, 0, 28, 42, 180, 0, 223, 54, 5, 42, 180, 0, 151, 21, 5, 21, 4, 79, 42]
abbrev dktX9_map_2 : List UInt8 := dkwX9_map_2 ++ dktX9_map_3
def dkwX9_map_1 : List UInt8 := [167, 0, 64, 42, 180, 0, 13, 17, 1, 144, 27, 104, 29, 96, 46, 54, 4, 42, 21, 4, 182, 0, 230]
abbrev dktX9_map_1 : List UInt8 := dkwX9_map_1 ++ dktX9_map_2
def dkwX9_map_0 : List UInt8 := [42, 3, 181, 0, 223, 3, 62, 29, 28, 162, 0, 83, 42, 27, 28, 29, 182, 0, 226, 154, 0, 6]
abbrev dktX9_map_0 : List UInt8 := dkwX9_map_0 ++ dktX9_map_1
theorem dksX9_map_0 : cX9_map.data.toList.drop 0 = dktX9_map_0 := by decide +kernel
theorem dksX9_map_1 : cX9_map.data.toList.drop 22 = dktX9_map_1 := dk_seg dksX9_map_0 22 rfl rfl
theorem dksX9_map_2 : cX9_map.data.toList.drop 45 = dktX9_map_2 := dk_seg dksX9_map_1 23 rfl rfl
theorem dksX9_map_3 : cX9_map.data.toList.drop 69 = dktX9_map_3 := dk_seg dksX9_map_2 24 rfl rfl
theorem dksX9_map_4 : cX9_map.data.toList.drop 93 = dktX9_map_4 := dk_seg dksX9_map_3 24 rfl rfl
theorem dksX9_map_5 : cX9_map.data.toList.drop 116 = dktX9_map_5 := dk_seg dksX9_map_4 23 rfl rfl
theorem dX9_map_0 : decode cX9_map 0 = .ok (.aload_n 0, 1) := dk_42 (dk_at dksX9_map_0 0 rfl rfl)
theorem dX9_map_1 : decode cX9_map 1 = .ok (.iconst 0, 1) := dk_3 (dk_at dksX9_map_0 1 rfl rfl)
theorem dX9_map_2 : decode cX9_map 2 = .ok (.putfield 223, 3) := dk_181 0 223 (dk_at dksX9_map_0 2 rfl rfl)
theorem dX9_map_5 : decode cX9_map 5 = .ok (.iconst 0, 1) := dk_3 (dk_at dksX9_map_0 5 rfl rfl)
theorem dX9_map_6 : decode cX9_map 6 = .ok (.istore_n 3, 1) := dk_62 (dk_at dksX9_map_0 6 rfl rfl)
theorem dX9_map_7 : decode cX9_map 7 = .ok (.iload_n 3, 1) := dk_29 (dk_at dksX9_map_0 7 rfl rfl)
theorem dX9_map_8 : decode cX9_map 8 = .ok (.iload_n 2, 1) := dk_28 (dk_at dksX9_map_0 8 rfl rfl)
theorem dX9_map_9 : decode cX9_map 9 = .ok (.if_icmp .ge 83, 3) := dk_162 0 83 (dk_at dksX9_map_0 9 rfl rfl)
theorem dX9_map_12 : decode cX9_map 12 = .ok (.aload_n 0, 1) := dk_42 (dk_at dksX9_map_0 12 rfl rfl)
theorem dX9_map_13 : decode cX9_map 13 = .ok (.iload_n 1, 1) := dk_27 (dk_at dksX9_map_0 13 rfl rfl)
theorem dX9_map_14 : decode cX9_map 14 = .ok (.iload_n 2, 1) := dk_28 (dk_at dksX9_map_0 14 rfl rfl)
theorem dX9_map_15 : decode cX9_map 15 = .ok (.iload_n 3, 1) := dk_29 (dk_at dksX9_map_0 15 rfl rfl)
theorem dX9_map_16 : decode cX9_map 16 = .ok (.invokevirtual 226, 3) := dk_182 0 226 (dk_at dksX9_map_0 16 rfl rfl)
theorem dX9_map_19 : decode cX9_map 19 = .ok (.ifCond .ne 6, 3) := dk_154 0 6 (dk_at dksX9_map_0 19 rfl rfl)
theorem dX9_map_22 : decode cX9_map 22 = .ok (.goto 64, 3) := dk_167 0 64 (dk_at dksX9_map_1 0 rfl rfl)
theorem dX9_map_25 : decode cX9_map 25 = .ok (.aload_n 0, 1) := dk_42 (dk_at dksX9_map_1 3 rfl rfl)
theorem dX9_map_26 : decode cX9_map 26 = .ok (.getfield 13, 3) := dk_180 0 13 (dk_at dksX9_map_1 4 rfl rfl)
theorem dX9_map_29 : decode cX9_map 29 = .ok (.sipush 400, 3) := dk_17 1 144 (dk_at dksX9_map_1 7 rfl rfl)
theorem dX9_map_32 : decode cX9_map 32 = .ok (.iload_n 1, 1) := dk_27 (dk_at dksX9_map_1 10 rfl rfl)
theorem dX9_map_33 : decode cX9_map 33 = .ok (.imul, 1) := dk_104 (dk_at dksX9_map_1 11 rfl rfl)
theorem dX9_map_34 : decode cX9_map 34 = .ok (.iload_n 3, 1) := dk_29 (dk_at dksX9_map_1 12 rfl rfl)
theorem dX9_map_35 : decode cX9_map 35 = .ok (.iadd, 1) := dk_96 (dk_at dksX9_map_1 13 rfl rfl)
theorem dX9_map_36 : decode cX9_map 36 = .ok (.iaload, 1) := dk_46 (dk_at dksX9_map_1 14 rfl rfl)
theorem dX9_map_37 : decode cX9_map 37 = .ok (.istore 4, 2) := dk_54 4 (dk_at dksX9_map_1 15 rfl rfl)
theorem dX9_map_39 : decode cX9_map 39 = .ok (.aload_n 0, 1) := dk_42 (dk_at dksX9_map_1 17 rfl rfl)
theorem dX9_map_40 : decode cX9_map 40 = .ok (.iload 4, 2) := dk_21 4 (dk_at dksX9_map_1 18 rfl rfl)
theorem dX9_map_42 : decode cX9_map 42 = .ok (.invokevirtual 230, 3) := dk_182 0 230 (dk_at dksX9_map_1 20 rfl rfl)
theorem dX9_map_45 : decode cX9_map 45 = .ok (.istore 5, 2) := dk_54 5 (dk_at dksX9_map_2 0 rfl rfl)
theorem dX9_map_47 : decode cX9_map 47 = .ok (.iload 5, 2) := dk_21 5 (dk_at dksX9_map_2 2 rfl rfl)
theorem dX9_map_49 : decode cX9_map 49 = .ok (.iconst (-1), 1) := dk_2 (dk_at dksX9_map_2 4 rfl rfl)
theorem dX9_map_50 : decode cX9_map 50 = .ok (.if_icmp .ne 28, 3) := dk_160 0 28 (dk_at dksX9_map_2 5 rfl rfl)
theorem dX9_map_53 : decode cX9_map 53 = .ok (.aload_n 0, 1) := dk_42 (dk_at dksX9_map_2 8 rfl rfl)
theorem dX9_map_54 : decode cX9_map 54 = .ok (.getfield 223, 3) := dk_180 0 223 (dk_at dksX9_map_2 9 rfl rfl)
theorem dX9_map_57 : decode cX9_map 57 = .ok (.istore 5, 2) := dk_54 5 (dk_at dksX9_map_2 12 rfl rfl)
theorem dX9_map_59 : decode cX9_map 59 = .ok (.aload_n 0, 1) := dk_42 (dk_at dksX9_map_2 14 rfl rfl)
theorem dX9_map_60 : decode cX9_map 60 = .ok (.getfield 151, 3) := dk_180 0 151 (dk_at dksX9_map_2 15 rfl rfl)
theorem dX9_map_63 : decode cX9_map 63 = .ok (.iload 5, 2) := dk_21 5 (dk_at dksX9_map_2 18 rfl rfl)
theorem dX9_map_65 : decode cX9_map 65 = .ok (.iload 4, 2) := dk_21 4 (dk_at dksX9_map_2 20 rfl rfl)
theorem dX9_map_67 : decode cX9_map 67 = .ok (.iastore, 1) := dk_79 (dk_at dksX9_map_2 22 rfl rfl)
theorem dX9_map_68 : decode cX9_map 68 = .ok (.aload_n 0, 1) := dk_42 (dk_at dksX9_map_2 23 rfl rfl)
theorem dX9_map_69 : decode cX9_map 69 = .ok (.dup, 1) := dk_89 (dk_at dksX9_map_3 0 rfl rfl)
theorem dX9_map_70 : decode cX9_map 70 = .ok (.getfield 223, 3) := dk_180 0 223 (dk_at dksX9_map_3 1 rfl rfl)
theorem dX9_map_73 : decode cX9_map 73 = .ok (.iconst 1, 1) := dk_4 (dk_at dksX9_map_3 4 rfl rfl)
theorem dX9_map_74 : decode cX9_map 74 = .ok (.iadd, 1) := dk_96 (dk_at dksX9_map_3 5 rfl rfl)
theorem dX9_map_75 : decode cX9_map 75 = .ok (.putfield 223, 3) := dk_181 0 223 (dk_at dksX9_map_3 6 rfl rfl)
theorem dX9_map_78 : decode cX9_map 78 = .ok (.aload_n 0, 1) := dk_42 (dk_at dksX9_map_3 9 rfl rfl)
theorem dX9_map_79 : decode cX9_map 79 = .ok (.getfield 154, 3) := dk_180 0 154 (dk_at dksX9_map_3 10 rfl rfl)
theorem dX9_map_82 : decode cX9_map 82 = .ok (.iload 5, 2) := dk_21 5 (dk_at dksX9_map_3 13 rfl rfl)
theorem dX9_map_84 : decode cX9_map 84 = .ok (.iload_n 3, 1) := dk_29 (dk_at dksX9_map_3 15 rfl rfl)
theorem dX9_map_85 : decode cX9_map 85 = .ok (.iastore, 1) := dk_79 (dk_at dksX9_map_3 16 rfl rfl)
theorem dX9_map_86 : decode cX9_map 86 = .ok (.iinc 3 1, 3) := dk_132 3 1 (dk_at dksX9_map_3 17 rfl rfl)
theorem dX9_map_89 : decode cX9_map 89 = .ok (.goto (-82), 3) := dk_167 255 174 (dk_at dksX9_map_3 20 rfl rfl)
theorem dX9_map_92 : decode cX9_map 92 = .ok (.iconst 0, 1) := dk_3 (dk_at dksX9_map_3 23 rfl rfl)
theorem dX9_map_93 : decode cX9_map 93 = .ok (.istore_n 3, 1) := dk_62 (dk_at dksX9_map_4 0 rfl rfl)
theorem dX9_map_94 : decode cX9_map 94 = .ok (.iload_n 3, 1) := dk_29 (dk_at dksX9_map_4 1 rfl rfl)
theorem dX9_map_95 : decode cX9_map 95 = .ok (.aload_n 0, 1) := dk_42 (dk_at dksX9_map_4 2 rfl rfl)
theorem dX9_map_96 : decode cX9_map 96 = .ok (.getfield 223, 3) := dk_180 0 223 (dk_at dksX9_map_4 3 rfl rfl)
theorem dX9_map_99 : decode cX9_map 99 = .ok (.if_icmp .ge 38, 3) := dk_162 0 38 (dk_at dksX9_map_4 6 rfl rfl)
theorem dX9_map_102 : decode cX9_map 102 = .ok (.aload_n 0, 1) := dk_42 (dk_at dksX9_map_4 9 rfl rfl)
theorem dX9_map_103 : decode cX9_map 103 = .ok (.getfield 160, 3) := dk_180 0 160 (dk_at dksX9_map_4 10 rfl rfl)
theorem dX9_map_106 : decode cX9_map 106 = .ok (.iload_n 3, 1) := dk_29 (dk_at dksX9_map_4 13 rfl rfl)
theorem dX9_map_107 : decode cX9_map 107 = .ok (.iload_n 3, 1) := dk_29 (dk_at dksX9_map_4 14 rfl rfl)
theorem dX9_map_108 : decode cX9_map 108 = .ok (.iastore, 1) := dk_79 (dk_at dksX9_map_4 15 rfl rfl)
theorem dX9_map_109 : decode cX9_map 109 = .ok (.aload_n 0, 1) := dk_42 (dk_at dksX9_map_4 16 rfl rfl)
theorem dX9_map_110 : decode cX9_map 110 = .ok (.aload_n 0, 1) := dk_42 (dk_at dksX9_map_4 17 rfl rfl)
theorem dX9_map_111 : decode cX9_map 111 = .ok (.getfield 151, 3) := dk_180 0 151 (dk_at dksX9_map_4 18 rfl rfl)
theorem dX9_map_114 : decode cX9_map 114 = .ok (.iload_n 3, 1) := dk_29 (dk_at dksX9_map_4 21 rfl rfl)
theorem dX9_map_115 : decode cX9_map 115 = .ok (.iaload, 1) := dk_46 (dk_at dksX9_map_4 22 rfl rfl)
theorem dX9_map_116 : decode cX9_map 116 = .ok (.invokevirtual 234, 3) := dk_182 0 234 (dk_at dksX9_map_5 0 rfl rfl)
theorem dX9_map_119 : decode cX9_map 119 = .ok (.aload_n 0, 1) := dk_42 (dk_at dksX9_map_5 3 rfl rfl)
theorem dX9_map_120 : decode cX9_map 120 = .ok (.aload_n 0, 1) := dk_42 (dk_at dksX9_map_5 4 rfl rfl)
theorem dX9_map_121 : decode cX9_map 121 = .ok (.getfield 157, 3) := dk_180 0 157 (dk_at dksX9_map_5 5 rfl rfl)
theorem dX9_map_124 : decode cX9_map 124 = .ok (.bipush 8, 2) := dk_16 8 (dk_at dksX9_map_5 8 rfl rfl)
theorem dX9_map_126 : decode cX9_map 126 = .ok (.iload_n 3, 1) := dk_29 (dk_at dksX9_map_5 10 rfl rfl)
theorem dX9_map_127 : decode cX9_map 127 = .ok (.imul, 1) := dk_104 (dk_at dksX9_map_5 11 rfl rfl)
theorem dX9_map_128 : decode cX9_map 128 = .ok (.invokevirtual 192, 3) := dk_182 0 192 (dk_at dksX9_map_5 12 rfl rfl)
theorem dX9_map_131 : decode cX9_map 131 = .ok (.iinc 3 1, 3) := dk_132 3 1 (dk_at dksX9_map_5 15 rfl rfl)
theorem dX9_map_134 : decode cX9_map 134 = .ok (.goto (-40), 3) := dk_167 255 216 (dk_at dksX9_map_5 18 rfl rfl)
theorem dX9_map_137 : decode cX9_map 137 = .ok (.return_, 1) := dk_177 (dk_at dksX9_map_5 21 rfl rfl)
abbrev cX9_counts : ByteArray := prog_17_method_13_code
def yX9_counts : MethodName := ⟨RX9, "counts", "(III)Z"⟩
def dkwX9_counts_2 : List UInt8 := [154, 0, 18, 29, 42, 180, 0, 30, 21, 4, 46, 162, 0, 7, 4, 167, 0, 4, 3, 172]
abbrev dktX9_counts_2 : List UInt8 := dkwX9_counts_2 ++ []
def dkwX9_counts_1 : List UInt8 := [159, 0, 14, 28, 42, 180, 0, 30, 21, 4, 46, 162, 0, 5, 4, 172, 42, 180, 0, 33, 21, 4, 51]
abbrev dktX9_counts_1 : List UInt8 := dkwX9_counts_1 ++ dktX9_counts_2
def dkwX9_counts_0 : List UInt8 := [42, 27, 42, 180, 0, 13, 17, 1, 144, 27, 104, 29, 96, 46, 182, 0, 220, 54, 4, 21, 4, 2]
abbrev dktX9_counts_0 : List UInt8 := dkwX9_counts_0 ++ dktX9_counts_1
theorem dksX9_counts_0 : cX9_counts.data.toList.drop 0 = dktX9_counts_0 := by decide +kernel
theorem dksX9_counts_1 : cX9_counts.data.toList.drop 22 = dktX9_counts_1 := dk_seg dksX9_counts_0 22 rfl rfl
theorem dksX9_counts_2 : cX9_counts.data.toList.drop 45 = dktX9_counts_2 := dk_seg dksX9_counts_1 23 rfl rfl
theorem dX9_counts_0 : decode cX9_counts 0 = .ok (.aload_n 0, 1) := dk_42 (dk_at dksX9_counts_0 0 rfl rfl)
theorem dX9_counts_1 : decode cX9_counts 1 = .ok (.iload_n 1, 1) := dk_27 (dk_at dksX9_counts_0 1 rfl rfl)
theorem dX9_counts_2 : decode cX9_counts 2 = .ok (.aload_n 0, 1) := dk_42 (dk_at dksX9_counts_0 2 rfl rfl)
theorem dX9_counts_3 : decode cX9_counts 3 = .ok (.getfield 13, 3) := dk_180 0 13 (dk_at dksX9_counts_0 3 rfl rfl)
theorem dX9_counts_6 : decode cX9_counts 6 = .ok (.sipush 400, 3) := dk_17 1 144 (dk_at dksX9_counts_0 6 rfl rfl)
theorem dX9_counts_9 : decode cX9_counts 9 = .ok (.iload_n 1, 1) := dk_27 (dk_at dksX9_counts_0 9 rfl rfl)
theorem dX9_counts_10 : decode cX9_counts 10 = .ok (.imul, 1) := dk_104 (dk_at dksX9_counts_0 10 rfl rfl)
theorem dX9_counts_11 : decode cX9_counts 11 = .ok (.iload_n 3, 1) := dk_29 (dk_at dksX9_counts_0 11 rfl rfl)
theorem dX9_counts_12 : decode cX9_counts 12 = .ok (.iadd, 1) := dk_96 (dk_at dksX9_counts_0 12 rfl rfl)
theorem dX9_counts_13 : decode cX9_counts 13 = .ok (.iaload, 1) := dk_46 (dk_at dksX9_counts_0 13 rfl rfl)
theorem dX9_counts_14 : decode cX9_counts 14 = .ok (.invokevirtual 220, 3) := dk_182 0 220 (dk_at dksX9_counts_0 14 rfl rfl)
theorem dX9_counts_17 : decode cX9_counts 17 = .ok (.istore 4, 2) := dk_54 4 (dk_at dksX9_counts_0 17 rfl rfl)
theorem dX9_counts_19 : decode cX9_counts 19 = .ok (.iload 4, 2) := dk_21 4 (dk_at dksX9_counts_0 19 rfl rfl)
theorem dX9_counts_21 : decode cX9_counts 21 = .ok (.iconst (-1), 1) := dk_2 (dk_at dksX9_counts_0 21 rfl rfl)
theorem dX9_counts_22 : decode cX9_counts 22 = .ok (.if_icmp .eq 14, 3) := dk_159 0 14 (dk_at dksX9_counts_1 0 rfl rfl)
theorem dX9_counts_25 : decode cX9_counts 25 = .ok (.iload_n 2, 1) := dk_28 (dk_at dksX9_counts_1 3 rfl rfl)
theorem dX9_counts_26 : decode cX9_counts 26 = .ok (.aload_n 0, 1) := dk_42 (dk_at dksX9_counts_1 4 rfl rfl)
theorem dX9_counts_27 : decode cX9_counts 27 = .ok (.getfield 30, 3) := dk_180 0 30 (dk_at dksX9_counts_1 5 rfl rfl)
theorem dX9_counts_30 : decode cX9_counts 30 = .ok (.iload 4, 2) := dk_21 4 (dk_at dksX9_counts_1 8 rfl rfl)
theorem dX9_counts_32 : decode cX9_counts 32 = .ok (.iaload, 1) := dk_46 (dk_at dksX9_counts_1 10 rfl rfl)
theorem dX9_counts_33 : decode cX9_counts 33 = .ok (.if_icmp .ge 5, 3) := dk_162 0 5 (dk_at dksX9_counts_1 11 rfl rfl)
theorem dX9_counts_36 : decode cX9_counts 36 = .ok (.iconst 1, 1) := dk_4 (dk_at dksX9_counts_1 14 rfl rfl)
theorem dX9_counts_37 : decode cX9_counts 37 = .ok (.ireturn, 1) := dk_172 (dk_at dksX9_counts_1 15 rfl rfl)
theorem dX9_counts_38 : decode cX9_counts 38 = .ok (.aload_n 0, 1) := dk_42 (dk_at dksX9_counts_1 16 rfl rfl)
theorem dX9_counts_39 : decode cX9_counts 39 = .ok (.getfield 33, 3) := dk_180 0 33 (dk_at dksX9_counts_1 17 rfl rfl)
theorem dX9_counts_42 : decode cX9_counts 42 = .ok (.iload 4, 2) := dk_21 4 (dk_at dksX9_counts_1 20 rfl rfl)
theorem dX9_counts_44 : decode cX9_counts 44 = .ok (.baload, 1) := dk_51 (dk_at dksX9_counts_1 22 rfl rfl)
theorem dX9_counts_45 : decode cX9_counts 45 = .ok (.ifCond .ne 18, 3) := dk_154 0 18 (dk_at dksX9_counts_2 0 rfl rfl)
theorem dX9_counts_48 : decode cX9_counts 48 = .ok (.iload_n 3, 1) := dk_29 (dk_at dksX9_counts_2 3 rfl rfl)
theorem dX9_counts_49 : decode cX9_counts 49 = .ok (.aload_n 0, 1) := dk_42 (dk_at dksX9_counts_2 4 rfl rfl)
theorem dX9_counts_50 : decode cX9_counts 50 = .ok (.getfield 30, 3) := dk_180 0 30 (dk_at dksX9_counts_2 5 rfl rfl)
theorem dX9_counts_53 : decode cX9_counts 53 = .ok (.iload 4, 2) := dk_21 4 (dk_at dksX9_counts_2 8 rfl rfl)
theorem dX9_counts_55 : decode cX9_counts 55 = .ok (.iaload, 1) := dk_46 (dk_at dksX9_counts_2 10 rfl rfl)
theorem dX9_counts_56 : decode cX9_counts 56 = .ok (.if_icmp .ge 7, 3) := dk_162 0 7 (dk_at dksX9_counts_2 11 rfl rfl)
theorem dX9_counts_59 : decode cX9_counts 59 = .ok (.iconst 1, 1) := dk_4 (dk_at dksX9_counts_2 14 rfl rfl)
theorem dX9_counts_60 : decode cX9_counts 60 = .ok (.goto 4, 3) := dk_167 0 4 (dk_at dksX9_counts_2 15 rfl rfl)
theorem dX9_counts_63 : decode cX9_counts 63 = .ok (.iconst 0, 1) := dk_3 (dk_at dksX9_counts_2 18 rfl rfl)
theorem dX9_counts_64 : decode cX9_counts 64 = .ok (.ireturn, 1) := dk_172 (dk_at dksX9_counts_2 19 rfl rfl)
abbrev cX9_find : ByteArray := prog_17_method_15_code
def yX9_find : MethodName := ⟨RX9, "find", "(I)I"⟩
def dkwX9_find_1 : List UInt8 := [132, 2, 1, 167, 255, 233, 2, 172]
abbrev dktX9_find_1 : List UInt8 := dkwX9_find_1 ++ []
def dkwX9_find_0 : List UInt8 := [3, 61, 28, 42, 180, 0, 223, 162, 0, 21, 42, 180, 0, 151, 28, 46, 27, 160, 0, 5, 28, 172]
abbrev dktX9_find_0 : List UInt8 := dkwX9_find_0 ++ dktX9_find_1
theorem dksX9_find_0 : cX9_find.data.toList.drop 0 = dktX9_find_0 := by decide +kernel
theorem dksX9_find_1 : cX9_find.data.toList.drop 22 = dktX9_find_1 := dk_seg dksX9_find_0 22 rfl rfl
theorem dX9_find_0 : decode cX9_find 0 = .ok (.iconst 0, 1) := dk_3 (dk_at dksX9_find_0 0 rfl rfl)
theorem dX9_find_1 : decode cX9_find 1 = .ok (.istore_n 2, 1) := dk_61 (dk_at dksX9_find_0 1 rfl rfl)
theorem dX9_find_2 : decode cX9_find 2 = .ok (.iload_n 2, 1) := dk_28 (dk_at dksX9_find_0 2 rfl rfl)
theorem dX9_find_3 : decode cX9_find 3 = .ok (.aload_n 0, 1) := dk_42 (dk_at dksX9_find_0 3 rfl rfl)
theorem dX9_find_4 : decode cX9_find 4 = .ok (.getfield 223, 3) := dk_180 0 223 (dk_at dksX9_find_0 4 rfl rfl)
theorem dX9_find_7 : decode cX9_find 7 = .ok (.if_icmp .ge 21, 3) := dk_162 0 21 (dk_at dksX9_find_0 7 rfl rfl)
theorem dX9_find_10 : decode cX9_find 10 = .ok (.aload_n 0, 1) := dk_42 (dk_at dksX9_find_0 10 rfl rfl)
theorem dX9_find_11 : decode cX9_find 11 = .ok (.getfield 151, 3) := dk_180 0 151 (dk_at dksX9_find_0 11 rfl rfl)
theorem dX9_find_14 : decode cX9_find 14 = .ok (.iload_n 2, 1) := dk_28 (dk_at dksX9_find_0 14 rfl rfl)
theorem dX9_find_15 : decode cX9_find 15 = .ok (.iaload, 1) := dk_46 (dk_at dksX9_find_0 15 rfl rfl)
theorem dX9_find_16 : decode cX9_find 16 = .ok (.iload_n 1, 1) := dk_27 (dk_at dksX9_find_0 16 rfl rfl)
theorem dX9_find_17 : decode cX9_find 17 = .ok (.if_icmp .ne 5, 3) := dk_160 0 5 (dk_at dksX9_find_0 17 rfl rfl)
theorem dX9_find_20 : decode cX9_find 20 = .ok (.iload_n 2, 1) := dk_28 (dk_at dksX9_find_0 20 rfl rfl)
theorem dX9_find_21 : decode cX9_find 21 = .ok (.ireturn, 1) := dk_172 (dk_at dksX9_find_0 21 rfl rfl)
theorem dX9_find_22 : decode cX9_find 22 = .ok (.iinc 2 1, 3) := dk_132 2 1 (dk_at dksX9_find_1 0 rfl rfl)
theorem dX9_find_25 : decode cX9_find 25 = .ok (.goto (-23), 3) := dk_167 255 233 (dk_at dksX9_find_1 3 rfl rfl)
theorem dX9_find_28 : decode cX9_find 28 = .ok (.iconst (-1), 1) := dk_2 (dk_at dksX9_find_1 6 rfl rfl)
theorem dX9_find_29 : decode cX9_find 29 = .ok (.ireturn, 1) := dk_172 (dk_at dksX9_find_1 7 rfl rfl)
abbrev cX9_wayOf : ByteArray := prog_17_method_16_code
def yX9_wayOf : MethodName := ⟨RX9, "wayOf", "(I)V"⟩
def dkwX9_wayOf_0 : List UInt8 := [42, 180, 0, 127, 3, 7, 79, 42, 180, 0, 127, 4, 27, 79, 42, 5, 182, 0, 188, 177]
abbrev dktX9_wayOf_0 : List UInt8 := dkwX9_wayOf_0 ++ []
theorem dksX9_wayOf_0 : cX9_wayOf.data.toList.drop 0 = dktX9_wayOf_0 := by decide +kernel
theorem dX9_wayOf_0 : decode cX9_wayOf 0 = .ok (.aload_n 0, 1) := dk_42 (dk_at dksX9_wayOf_0 0 rfl rfl)
theorem dX9_wayOf_1 : decode cX9_wayOf 1 = .ok (.getfield 127, 3) := dk_180 0 127 (dk_at dksX9_wayOf_0 1 rfl rfl)
theorem dX9_wayOf_4 : decode cX9_wayOf 4 = .ok (.iconst 0, 1) := dk_3 (dk_at dksX9_wayOf_0 4 rfl rfl)
theorem dX9_wayOf_5 : decode cX9_wayOf 5 = .ok (.iconst 4, 1) := dk_7 (dk_at dksX9_wayOf_0 5 rfl rfl)
theorem dX9_wayOf_6 : decode cX9_wayOf 6 = .ok (.iastore, 1) := dk_79 (dk_at dksX9_wayOf_0 6 rfl rfl)
theorem dX9_wayOf_7 : decode cX9_wayOf 7 = .ok (.aload_n 0, 1) := dk_42 (dk_at dksX9_wayOf_0 7 rfl rfl)
theorem dX9_wayOf_8 : decode cX9_wayOf 8 = .ok (.getfield 127, 3) := dk_180 0 127 (dk_at dksX9_wayOf_0 8 rfl rfl)
theorem dX9_wayOf_11 : decode cX9_wayOf 11 = .ok (.iconst 1, 1) := dk_4 (dk_at dksX9_wayOf_0 11 rfl rfl)
theorem dX9_wayOf_12 : decode cX9_wayOf 12 = .ok (.iload_n 1, 1) := dk_27 (dk_at dksX9_wayOf_0 12 rfl rfl)
theorem dX9_wayOf_13 : decode cX9_wayOf 13 = .ok (.iastore, 1) := dk_79 (dk_at dksX9_wayOf_0 13 rfl rfl)
theorem dX9_wayOf_14 : decode cX9_wayOf 14 = .ok (.aload_n 0, 1) := dk_42 (dk_at dksX9_wayOf_0 14 rfl rfl)
theorem dX9_wayOf_15 : decode cX9_wayOf 15 = .ok (.iconst 2, 1) := dk_5 (dk_at dksX9_wayOf_0 15 rfl rfl)
theorem dX9_wayOf_16 : decode cX9_wayOf 16 = .ok (.invokevirtual 188, 3) := dk_182 0 188 (dk_at dksX9_wayOf_0 16 rfl rfl)
theorem dX9_wayOf_19 : decode cX9_wayOf 19 = .ok (.return_, 1) := dk_177 (dk_at dksX9_wayOf_0 19 rfl rfl)
abbrev cX9_mix : ByteArray := prog_17_method_3_code
def yX9_mix : MethodName := ⟨RX9, "mix", "(I)V"⟩
def dkwX9_mix_3 : List UInt8 := [132, 2, 1, 167, 255, 210, 42, 180, 0, 130, 3, 92, 46, 27, 130, 79, 42, 182, 0, 185, 177]
abbrev dktX9_mix_3 : List UInt8 := dkwX9_mix_3 ++ []
def dkwX9_mix_2 : List UInt8 := [28, 46, 130, 79, 28, 16, 8, 112, 16, 7, 159, 0, 10, 28, 27, 4, 100, 160, 0, 7, 42, 182, 0, 185]
abbrev dktX9_mix_2 : List UInt8 := dkwX9_mix_2 ++ dktX9_mix_3
def dkwX9_mix_1 : List UInt8 := [167, 255, 235, 3, 61, 28, 27, 162, 0, 47, 42, 180, 0, 130, 28, 16, 8, 112, 92, 46, 42, 180, 0, 127]
abbrev dktX9_mix_1 : List UInt8 := dkwX9_mix_1 ++ dktX9_mix_2
def dkwX9_mix_0 : List UInt8 := [3, 61, 28, 16, 8, 162, 0, 21, 42, 180, 0, 130, 28, 28, 4, 96, 18, 184, 104, 79, 132, 2, 1]
abbrev dktX9_mix_0 : List UInt8 := dkwX9_mix_0 ++ dktX9_mix_1
theorem dksX9_mix_0 : cX9_mix.data.toList.drop 0 = dktX9_mix_0 := by decide +kernel
theorem dksX9_mix_1 : cX9_mix.data.toList.drop 23 = dktX9_mix_1 := dk_seg dksX9_mix_0 23 rfl rfl
theorem dksX9_mix_2 : cX9_mix.data.toList.drop 47 = dktX9_mix_2 := dk_seg dksX9_mix_1 24 rfl rfl
theorem dksX9_mix_3 : cX9_mix.data.toList.drop 71 = dktX9_mix_3 := dk_seg dksX9_mix_2 24 rfl rfl
theorem dX9_mix_0 : decode cX9_mix 0 = .ok (.iconst 0, 1) := dk_3 (dk_at dksX9_mix_0 0 rfl rfl)
theorem dX9_mix_1 : decode cX9_mix 1 = .ok (.istore_n 2, 1) := dk_61 (dk_at dksX9_mix_0 1 rfl rfl)
theorem dX9_mix_2 : decode cX9_mix 2 = .ok (.iload_n 2, 1) := dk_28 (dk_at dksX9_mix_0 2 rfl rfl)
theorem dX9_mix_3 : decode cX9_mix 3 = .ok (.bipush 8, 2) := dk_16 8 (dk_at dksX9_mix_0 3 rfl rfl)
theorem dX9_mix_5 : decode cX9_mix 5 = .ok (.if_icmp .ge 21, 3) := dk_162 0 21 (dk_at dksX9_mix_0 5 rfl rfl)
theorem dX9_mix_8 : decode cX9_mix 8 = .ok (.aload_n 0, 1) := dk_42 (dk_at dksX9_mix_0 8 rfl rfl)
theorem dX9_mix_9 : decode cX9_mix 9 = .ok (.getfield 130, 3) := dk_180 0 130 (dk_at dksX9_mix_0 9 rfl rfl)
theorem dX9_mix_12 : decode cX9_mix 12 = .ok (.iload_n 2, 1) := dk_28 (dk_at dksX9_mix_0 12 rfl rfl)
theorem dX9_mix_13 : decode cX9_mix 13 = .ok (.iload_n 2, 1) := dk_28 (dk_at dksX9_mix_0 13 rfl rfl)
theorem dX9_mix_14 : decode cX9_mix 14 = .ok (.iconst 1, 1) := dk_4 (dk_at dksX9_mix_0 14 rfl rfl)
theorem dX9_mix_15 : decode cX9_mix 15 = .ok (.iadd, 1) := dk_96 (dk_at dksX9_mix_0 15 rfl rfl)
theorem dX9_mix_16 : decode cX9_mix 16 = .ok (.ldc 184, 2) := dk_18 184 (dk_at dksX9_mix_0 16 rfl rfl)
theorem dX9_mix_18 : decode cX9_mix 18 = .ok (.imul, 1) := dk_104 (dk_at dksX9_mix_0 18 rfl rfl)
theorem dX9_mix_19 : decode cX9_mix 19 = .ok (.iastore, 1) := dk_79 (dk_at dksX9_mix_0 19 rfl rfl)
theorem dX9_mix_20 : decode cX9_mix 20 = .ok (.iinc 2 1, 3) := dk_132 2 1 (dk_at dksX9_mix_0 20 rfl rfl)
theorem dX9_mix_23 : decode cX9_mix 23 = .ok (.goto (-21), 3) := dk_167 255 235 (dk_at dksX9_mix_1 0 rfl rfl)
theorem dX9_mix_26 : decode cX9_mix 26 = .ok (.iconst 0, 1) := dk_3 (dk_at dksX9_mix_1 3 rfl rfl)
theorem dX9_mix_27 : decode cX9_mix 27 = .ok (.istore_n 2, 1) := dk_61 (dk_at dksX9_mix_1 4 rfl rfl)
theorem dX9_mix_28 : decode cX9_mix 28 = .ok (.iload_n 2, 1) := dk_28 (dk_at dksX9_mix_1 5 rfl rfl)
theorem dX9_mix_29 : decode cX9_mix 29 = .ok (.iload_n 1, 1) := dk_27 (dk_at dksX9_mix_1 6 rfl rfl)
theorem dX9_mix_30 : decode cX9_mix 30 = .ok (.if_icmp .ge 47, 3) := dk_162 0 47 (dk_at dksX9_mix_1 7 rfl rfl)
theorem dX9_mix_33 : decode cX9_mix 33 = .ok (.aload_n 0, 1) := dk_42 (dk_at dksX9_mix_1 10 rfl rfl)
theorem dX9_mix_34 : decode cX9_mix 34 = .ok (.getfield 130, 3) := dk_180 0 130 (dk_at dksX9_mix_1 11 rfl rfl)
theorem dX9_mix_37 : decode cX9_mix 37 = .ok (.iload_n 2, 1) := dk_28 (dk_at dksX9_mix_1 14 rfl rfl)
theorem dX9_mix_38 : decode cX9_mix 38 = .ok (.bipush 8, 2) := dk_16 8 (dk_at dksX9_mix_1 15 rfl rfl)
theorem dX9_mix_40 : decode cX9_mix 40 = .ok (.irem, 1) := dk_112 (dk_at dksX9_mix_1 17 rfl rfl)
theorem dX9_mix_41 : decode cX9_mix 41 = .ok (.dup2, 1) := dk_92 (dk_at dksX9_mix_1 18 rfl rfl)
theorem dX9_mix_42 : decode cX9_mix 42 = .ok (.iaload, 1) := dk_46 (dk_at dksX9_mix_1 19 rfl rfl)
theorem dX9_mix_43 : decode cX9_mix 43 = .ok (.aload_n 0, 1) := dk_42 (dk_at dksX9_mix_1 20 rfl rfl)
theorem dX9_mix_44 : decode cX9_mix 44 = .ok (.getfield 127, 3) := dk_180 0 127 (dk_at dksX9_mix_1 21 rfl rfl)
theorem dX9_mix_47 : decode cX9_mix 47 = .ok (.iload_n 2, 1) := dk_28 (dk_at dksX9_mix_2 0 rfl rfl)
theorem dX9_mix_48 : decode cX9_mix 48 = .ok (.iaload, 1) := dk_46 (dk_at dksX9_mix_2 1 rfl rfl)
theorem dX9_mix_49 : decode cX9_mix 49 = .ok (.ixor, 1) := dk_130 (dk_at dksX9_mix_2 2 rfl rfl)
theorem dX9_mix_50 : decode cX9_mix 50 = .ok (.iastore, 1) := dk_79 (dk_at dksX9_mix_2 3 rfl rfl)
theorem dX9_mix_51 : decode cX9_mix 51 = .ok (.iload_n 2, 1) := dk_28 (dk_at dksX9_mix_2 4 rfl rfl)
theorem dX9_mix_52 : decode cX9_mix 52 = .ok (.bipush 8, 2) := dk_16 8 (dk_at dksX9_mix_2 5 rfl rfl)
theorem dX9_mix_54 : decode cX9_mix 54 = .ok (.irem, 1) := dk_112 (dk_at dksX9_mix_2 7 rfl rfl)
theorem dX9_mix_55 : decode cX9_mix 55 = .ok (.bipush 7, 2) := dk_16 7 (dk_at dksX9_mix_2 8 rfl rfl)
theorem dX9_mix_57 : decode cX9_mix 57 = .ok (.if_icmp .eq 10, 3) := dk_159 0 10 (dk_at dksX9_mix_2 10 rfl rfl)
theorem dX9_mix_60 : decode cX9_mix 60 = .ok (.iload_n 2, 1) := dk_28 (dk_at dksX9_mix_2 13 rfl rfl)
theorem dX9_mix_61 : decode cX9_mix 61 = .ok (.iload_n 1, 1) := dk_27 (dk_at dksX9_mix_2 14 rfl rfl)
theorem dX9_mix_62 : decode cX9_mix 62 = .ok (.iconst 1, 1) := dk_4 (dk_at dksX9_mix_2 15 rfl rfl)
theorem dX9_mix_63 : decode cX9_mix 63 = .ok (.isub, 1) := dk_100 (dk_at dksX9_mix_2 16 rfl rfl)
theorem dX9_mix_64 : decode cX9_mix 64 = .ok (.if_icmp .ne 7, 3) := dk_160 0 7 (dk_at dksX9_mix_2 17 rfl rfl)
theorem dX9_mix_67 : decode cX9_mix 67 = .ok (.aload_n 0, 1) := dk_42 (dk_at dksX9_mix_2 20 rfl rfl)
theorem dX9_mix_68 : decode cX9_mix 68 = .ok (.invokevirtual 185, 3) := dk_182 0 185 (dk_at dksX9_mix_2 21 rfl rfl)
theorem dX9_mix_71 : decode cX9_mix 71 = .ok (.iinc 2 1, 3) := dk_132 2 1 (dk_at dksX9_mix_3 0 rfl rfl)
theorem dX9_mix_74 : decode cX9_mix 74 = .ok (.goto (-46), 3) := dk_167 255 210 (dk_at dksX9_mix_3 3 rfl rfl)
theorem dX9_mix_77 : decode cX9_mix 77 = .ok (.aload_n 0, 1) := dk_42 (dk_at dksX9_mix_3 6 rfl rfl)
theorem dX9_mix_78 : decode cX9_mix 78 = .ok (.getfield 130, 3) := dk_180 0 130 (dk_at dksX9_mix_3 7 rfl rfl)
theorem dX9_mix_81 : decode cX9_mix 81 = .ok (.iconst 0, 1) := dk_3 (dk_at dksX9_mix_3 10 rfl rfl)
theorem dX9_mix_82 : decode cX9_mix 82 = .ok (.dup2, 1) := dk_92 (dk_at dksX9_mix_3 11 rfl rfl)
theorem dX9_mix_83 : decode cX9_mix 83 = .ok (.iaload, 1) := dk_46 (dk_at dksX9_mix_3 12 rfl rfl)
theorem dX9_mix_84 : decode cX9_mix 84 = .ok (.iload_n 1, 1) := dk_27 (dk_at dksX9_mix_3 13 rfl rfl)
theorem dX9_mix_85 : decode cX9_mix 85 = .ok (.ixor, 1) := dk_130 (dk_at dksX9_mix_3 14 rfl rfl)
theorem dX9_mix_86 : decode cX9_mix 86 = .ok (.iastore, 1) := dk_79 (dk_at dksX9_mix_3 15 rfl rfl)
theorem dX9_mix_87 : decode cX9_mix 87 = .ok (.aload_n 0, 1) := dk_42 (dk_at dksX9_mix_3 16 rfl rfl)
theorem dX9_mix_88 : decode cX9_mix 88 = .ok (.invokevirtual 185, 3) := dk_182 0 185 (dk_at dksX9_mix_3 17 rfl rfl)
theorem dX9_mix_91 : decode cX9_mix 91 = .ok (.return_, 1) := dk_177 (dk_at dksX9_mix_3 20 rfl rfl)
abbrev cX9_turn : ByteArray := prog_17_method_2_code
def yX9_turn : MethodName := ⟨RX9, "turn", "()V"⟩
def dkwX9_turn_3 : List UInt8 := [167, 255, 187, 177]
abbrev dktX9_turn_3 : List UInt8 := dkwX9_turn_3 ++ []
def dkwX9_turn_2 : List UInt8 := [124, 128, 42, 180, 0, 130, 28, 6, 96, 16, 8, 112, 46, 130, 79, 132, 2, 1, 167, 255, 201, 132, 1, 1]
abbrev dktX9_turn_2 : List UInt8 := dkwX9_turn_2 ++ dktX9_turn_3
def dkwX9_turn_1 : List UInt8 := [180, 0, 130, 28, 4, 96, 16, 8, 112, 46, 96, 62, 42, 180, 0, 130, 28, 29, 16, 7, 120, 29, 16, 25]
abbrev dktX9_turn_1 : List UInt8 := dkwX9_turn_1 ++ dktX9_turn_2
def dkwX9_turn_0 : List UInt8 := [3, 60, 27, 16, 6, 162, 0, 69, 3, 61, 28, 16, 8, 162, 0, 55, 42, 180, 0, 130, 28, 46, 42]
abbrev dktX9_turn_0 : List UInt8 := dkwX9_turn_0 ++ dktX9_turn_1
theorem dksX9_turn_0 : cX9_turn.data.toList.drop 0 = dktX9_turn_0 := by decide +kernel
theorem dksX9_turn_1 : cX9_turn.data.toList.drop 23 = dktX9_turn_1 := dk_seg dksX9_turn_0 23 rfl rfl
theorem dksX9_turn_2 : cX9_turn.data.toList.drop 47 = dktX9_turn_2 := dk_seg dksX9_turn_1 24 rfl rfl
theorem dksX9_turn_3 : cX9_turn.data.toList.drop 71 = dktX9_turn_3 := dk_seg dksX9_turn_2 24 rfl rfl
theorem dX9_turn_0 : decode cX9_turn 0 = .ok (.iconst 0, 1) := dk_3 (dk_at dksX9_turn_0 0 rfl rfl)
theorem dX9_turn_1 : decode cX9_turn 1 = .ok (.istore_n 1, 1) := dk_60 (dk_at dksX9_turn_0 1 rfl rfl)
theorem dX9_turn_2 : decode cX9_turn 2 = .ok (.iload_n 1, 1) := dk_27 (dk_at dksX9_turn_0 2 rfl rfl)
theorem dX9_turn_3 : decode cX9_turn 3 = .ok (.bipush 6, 2) := dk_16 6 (dk_at dksX9_turn_0 3 rfl rfl)
theorem dX9_turn_5 : decode cX9_turn 5 = .ok (.if_icmp .ge 69, 3) := dk_162 0 69 (dk_at dksX9_turn_0 5 rfl rfl)
theorem dX9_turn_8 : decode cX9_turn 8 = .ok (.iconst 0, 1) := dk_3 (dk_at dksX9_turn_0 8 rfl rfl)
theorem dX9_turn_9 : decode cX9_turn 9 = .ok (.istore_n 2, 1) := dk_61 (dk_at dksX9_turn_0 9 rfl rfl)
theorem dX9_turn_10 : decode cX9_turn 10 = .ok (.iload_n 2, 1) := dk_28 (dk_at dksX9_turn_0 10 rfl rfl)
theorem dX9_turn_11 : decode cX9_turn 11 = .ok (.bipush 8, 2) := dk_16 8 (dk_at dksX9_turn_0 11 rfl rfl)
theorem dX9_turn_13 : decode cX9_turn 13 = .ok (.if_icmp .ge 55, 3) := dk_162 0 55 (dk_at dksX9_turn_0 13 rfl rfl)
theorem dX9_turn_16 : decode cX9_turn 16 = .ok (.aload_n 0, 1) := dk_42 (dk_at dksX9_turn_0 16 rfl rfl)
theorem dX9_turn_17 : decode cX9_turn 17 = .ok (.getfield 130, 3) := dk_180 0 130 (dk_at dksX9_turn_0 17 rfl rfl)
theorem dX9_turn_20 : decode cX9_turn 20 = .ok (.iload_n 2, 1) := dk_28 (dk_at dksX9_turn_0 20 rfl rfl)
theorem dX9_turn_21 : decode cX9_turn 21 = .ok (.iaload, 1) := dk_46 (dk_at dksX9_turn_0 21 rfl rfl)
theorem dX9_turn_22 : decode cX9_turn 22 = .ok (.aload_n 0, 1) := dk_42 (dk_at dksX9_turn_0 22 rfl rfl)
theorem dX9_turn_23 : decode cX9_turn 23 = .ok (.getfield 130, 3) := dk_180 0 130 (dk_at dksX9_turn_1 0 rfl rfl)
theorem dX9_turn_26 : decode cX9_turn 26 = .ok (.iload_n 2, 1) := dk_28 (dk_at dksX9_turn_1 3 rfl rfl)
theorem dX9_turn_27 : decode cX9_turn 27 = .ok (.iconst 1, 1) := dk_4 (dk_at dksX9_turn_1 4 rfl rfl)
theorem dX9_turn_28 : decode cX9_turn 28 = .ok (.iadd, 1) := dk_96 (dk_at dksX9_turn_1 5 rfl rfl)
theorem dX9_turn_29 : decode cX9_turn 29 = .ok (.bipush 8, 2) := dk_16 8 (dk_at dksX9_turn_1 6 rfl rfl)
theorem dX9_turn_31 : decode cX9_turn 31 = .ok (.irem, 1) := dk_112 (dk_at dksX9_turn_1 8 rfl rfl)
theorem dX9_turn_32 : decode cX9_turn 32 = .ok (.iaload, 1) := dk_46 (dk_at dksX9_turn_1 9 rfl rfl)
theorem dX9_turn_33 : decode cX9_turn 33 = .ok (.iadd, 1) := dk_96 (dk_at dksX9_turn_1 10 rfl rfl)
theorem dX9_turn_34 : decode cX9_turn 34 = .ok (.istore_n 3, 1) := dk_62 (dk_at dksX9_turn_1 11 rfl rfl)
theorem dX9_turn_35 : decode cX9_turn 35 = .ok (.aload_n 0, 1) := dk_42 (dk_at dksX9_turn_1 12 rfl rfl)
theorem dX9_turn_36 : decode cX9_turn 36 = .ok (.getfield 130, 3) := dk_180 0 130 (dk_at dksX9_turn_1 13 rfl rfl)
theorem dX9_turn_39 : decode cX9_turn 39 = .ok (.iload_n 2, 1) := dk_28 (dk_at dksX9_turn_1 16 rfl rfl)
theorem dX9_turn_40 : decode cX9_turn 40 = .ok (.iload_n 3, 1) := dk_29 (dk_at dksX9_turn_1 17 rfl rfl)
theorem dX9_turn_41 : decode cX9_turn 41 = .ok (.bipush 7, 2) := dk_16 7 (dk_at dksX9_turn_1 18 rfl rfl)
theorem dX9_turn_43 : decode cX9_turn 43 = .ok (.ishl, 1) := dk_120 (dk_at dksX9_turn_1 20 rfl rfl)
theorem dX9_turn_44 : decode cX9_turn 44 = .ok (.iload_n 3, 1) := dk_29 (dk_at dksX9_turn_1 21 rfl rfl)
theorem dX9_turn_45 : decode cX9_turn 45 = .ok (.bipush 25, 2) := dk_16 25 (dk_at dksX9_turn_1 22 rfl rfl)
theorem dX9_turn_47 : decode cX9_turn 47 = .ok (.iushr, 1) := dk_124 (dk_at dksX9_turn_2 0 rfl rfl)
theorem dX9_turn_48 : decode cX9_turn 48 = .ok (.ior, 1) := dk_128 (dk_at dksX9_turn_2 1 rfl rfl)
theorem dX9_turn_49 : decode cX9_turn 49 = .ok (.aload_n 0, 1) := dk_42 (dk_at dksX9_turn_2 2 rfl rfl)
theorem dX9_turn_50 : decode cX9_turn 50 = .ok (.getfield 130, 3) := dk_180 0 130 (dk_at dksX9_turn_2 3 rfl rfl)
theorem dX9_turn_53 : decode cX9_turn 53 = .ok (.iload_n 2, 1) := dk_28 (dk_at dksX9_turn_2 6 rfl rfl)
theorem dX9_turn_54 : decode cX9_turn 54 = .ok (.iconst 3, 1) := dk_6 (dk_at dksX9_turn_2 7 rfl rfl)
theorem dX9_turn_55 : decode cX9_turn 55 = .ok (.iadd, 1) := dk_96 (dk_at dksX9_turn_2 8 rfl rfl)
theorem dX9_turn_56 : decode cX9_turn 56 = .ok (.bipush 8, 2) := dk_16 8 (dk_at dksX9_turn_2 9 rfl rfl)
theorem dX9_turn_58 : decode cX9_turn 58 = .ok (.irem, 1) := dk_112 (dk_at dksX9_turn_2 11 rfl rfl)
theorem dX9_turn_59 : decode cX9_turn 59 = .ok (.iaload, 1) := dk_46 (dk_at dksX9_turn_2 12 rfl rfl)
theorem dX9_turn_60 : decode cX9_turn 60 = .ok (.ixor, 1) := dk_130 (dk_at dksX9_turn_2 13 rfl rfl)
theorem dX9_turn_61 : decode cX9_turn 61 = .ok (.iastore, 1) := dk_79 (dk_at dksX9_turn_2 14 rfl rfl)
theorem dX9_turn_62 : decode cX9_turn 62 = .ok (.iinc 2 1, 3) := dk_132 2 1 (dk_at dksX9_turn_2 15 rfl rfl)
theorem dX9_turn_65 : decode cX9_turn 65 = .ok (.goto (-55), 3) := dk_167 255 201 (dk_at dksX9_turn_2 18 rfl rfl)
theorem dX9_turn_68 : decode cX9_turn 68 = .ok (.iinc 1 1, 3) := dk_132 1 1 (dk_at dksX9_turn_2 21 rfl rfl)
theorem dX9_turn_71 : decode cX9_turn 71 = .ok (.goto (-69), 3) := dk_167 255 187 (dk_at dksX9_turn_3 0 rfl rfl)
theorem dX9_turn_74 : decode cX9_turn 74 = .ok (.return_, 1) := dk_177 (dk_at dksX9_turn_3 3 rfl rfl)
abbrev cX9_toRow : ByteArray := prog_17_method_4_code
def yX9_toRow : MethodName := ⟨RX9, "toRow", "([II)V"⟩
def dkwX9_toRow_1 : List UInt8 := [167, 255, 236, 177]
abbrev dktX9_toRow_1 : List UInt8 := dkwX9_toRow_1 ++ []
def dkwX9_toRow_0 : List UInt8 := [3, 62, 29, 16, 8, 162, 0, 20, 43, 28, 29, 96, 42, 180, 0, 130, 29, 46, 79, 132, 3, 1]
abbrev dktX9_toRow_0 : List UInt8 := dkwX9_toRow_0 ++ dktX9_toRow_1
theorem dksX9_toRow_0 : cX9_toRow.data.toList.drop 0 = dktX9_toRow_0 := by decide +kernel
theorem dksX9_toRow_1 : cX9_toRow.data.toList.drop 22 = dktX9_toRow_1 := dk_seg dksX9_toRow_0 22 rfl rfl
theorem dX9_toRow_0 : decode cX9_toRow 0 = .ok (.iconst 0, 1) := dk_3 (dk_at dksX9_toRow_0 0 rfl rfl)
theorem dX9_toRow_1 : decode cX9_toRow 1 = .ok (.istore_n 3, 1) := dk_62 (dk_at dksX9_toRow_0 1 rfl rfl)
theorem dX9_toRow_2 : decode cX9_toRow 2 = .ok (.iload_n 3, 1) := dk_29 (dk_at dksX9_toRow_0 2 rfl rfl)
theorem dX9_toRow_3 : decode cX9_toRow 3 = .ok (.bipush 8, 2) := dk_16 8 (dk_at dksX9_toRow_0 3 rfl rfl)
theorem dX9_toRow_5 : decode cX9_toRow 5 = .ok (.if_icmp .ge 20, 3) := dk_162 0 20 (dk_at dksX9_toRow_0 5 rfl rfl)
theorem dX9_toRow_8 : decode cX9_toRow 8 = .ok (.aload_n 1, 1) := dk_43 (dk_at dksX9_toRow_0 8 rfl rfl)
theorem dX9_toRow_9 : decode cX9_toRow 9 = .ok (.iload_n 2, 1) := dk_28 (dk_at dksX9_toRow_0 9 rfl rfl)
theorem dX9_toRow_10 : decode cX9_toRow 10 = .ok (.iload_n 3, 1) := dk_29 (dk_at dksX9_toRow_0 10 rfl rfl)
theorem dX9_toRow_11 : decode cX9_toRow 11 = .ok (.iadd, 1) := dk_96 (dk_at dksX9_toRow_0 11 rfl rfl)
theorem dX9_toRow_12 : decode cX9_toRow 12 = .ok (.aload_n 0, 1) := dk_42 (dk_at dksX9_toRow_0 12 rfl rfl)
theorem dX9_toRow_13 : decode cX9_toRow 13 = .ok (.getfield 130, 3) := dk_180 0 130 (dk_at dksX9_toRow_0 13 rfl rfl)
theorem dX9_toRow_16 : decode cX9_toRow 16 = .ok (.iload_n 3, 1) := dk_29 (dk_at dksX9_toRow_0 16 rfl rfl)
theorem dX9_toRow_17 : decode cX9_toRow 17 = .ok (.iaload, 1) := dk_46 (dk_at dksX9_toRow_0 17 rfl rfl)
theorem dX9_toRow_18 : decode cX9_toRow 18 = .ok (.iastore, 1) := dk_79 (dk_at dksX9_toRow_0 18 rfl rfl)
theorem dX9_toRow_19 : decode cX9_toRow 19 = .ok (.iinc 3 1, 3) := dk_132 3 1 (dk_at dksX9_toRow_0 19 rfl rfl)
theorem dX9_toRow_22 : decode cX9_toRow 22 = .ok (.goto (-20), 3) := dk_167 255 236 (dk_at dksX9_toRow_1 0 rfl rfl)
theorem dX9_toRow_25 : decode cX9_toRow 25 = .ok (.return_, 1) := dk_177 (dk_at dksX9_toRow_1 3 rfl rfl)
abbrev cX9_latest : ByteArray := prog_17_method_35_code
def yX9_latest : MethodName := ⟨RX9, "latest", "(III)I"⟩
def dkwX9_latest_2 : List UInt8 := [153, 0, 7, 21, 5, 54, 4, 132, 5, 1, 167, 255, 215, 21, 4, 172]
abbrev dktX9_latest_2 : List UInt8 := dkwX9_latest_2 ++ []
def dkwX9_latest_1 : List UInt8 := [180, 0, 13, 17, 1, 144, 27, 104, 21, 5, 96, 46, 29, 160, 0, 18, 42, 27, 28, 21, 5, 182, 0, 226]
abbrev dktX9_latest_1 : List UInt8 := dkwX9_latest_1 ++ dktX9_latest_2
def dkwX9_latest_0 : List UInt8 := [42, 27, 28, 182, 1, 21, 154, 0, 5, 2, 172, 2, 54, 4, 3, 54, 5, 21, 5, 28, 162, 0, 41, 42]
abbrev dktX9_latest_0 : List UInt8 := dkwX9_latest_0 ++ dktX9_latest_1
theorem dksX9_latest_0 : cX9_latest.data.toList.drop 0 = dktX9_latest_0 := by decide +kernel
theorem dksX9_latest_1 : cX9_latest.data.toList.drop 24 = dktX9_latest_1 := dk_seg dksX9_latest_0 24 rfl rfl
theorem dksX9_latest_2 : cX9_latest.data.toList.drop 48 = dktX9_latest_2 := dk_seg dksX9_latest_1 24 rfl rfl
theorem dX9_latest_0 : decode cX9_latest 0 = .ok (.aload_n 0, 1) := dk_42 (dk_at dksX9_latest_0 0 rfl rfl)
theorem dX9_latest_1 : decode cX9_latest 1 = .ok (.iload_n 1, 1) := dk_27 (dk_at dksX9_latest_0 1 rfl rfl)
theorem dX9_latest_2 : decode cX9_latest 2 = .ok (.iload_n 2, 1) := dk_28 (dk_at dksX9_latest_0 2 rfl rfl)
theorem dX9_latest_3 : decode cX9_latest 3 = .ok (.invokevirtual 277, 3) := dk_182 1 21 (dk_at dksX9_latest_0 3 rfl rfl)
theorem dX9_latest_6 : decode cX9_latest 6 = .ok (.ifCond .ne 5, 3) := dk_154 0 5 (dk_at dksX9_latest_0 6 rfl rfl)
theorem dX9_latest_9 : decode cX9_latest 9 = .ok (.iconst (-1), 1) := dk_2 (dk_at dksX9_latest_0 9 rfl rfl)
theorem dX9_latest_10 : decode cX9_latest 10 = .ok (.ireturn, 1) := dk_172 (dk_at dksX9_latest_0 10 rfl rfl)
theorem dX9_latest_11 : decode cX9_latest 11 = .ok (.iconst (-1), 1) := dk_2 (dk_at dksX9_latest_0 11 rfl rfl)
theorem dX9_latest_12 : decode cX9_latest 12 = .ok (.istore 4, 2) := dk_54 4 (dk_at dksX9_latest_0 12 rfl rfl)
theorem dX9_latest_14 : decode cX9_latest 14 = .ok (.iconst 0, 1) := dk_3 (dk_at dksX9_latest_0 14 rfl rfl)
theorem dX9_latest_15 : decode cX9_latest 15 = .ok (.istore 5, 2) := dk_54 5 (dk_at dksX9_latest_0 15 rfl rfl)
theorem dX9_latest_17 : decode cX9_latest 17 = .ok (.iload 5, 2) := dk_21 5 (dk_at dksX9_latest_0 17 rfl rfl)
theorem dX9_latest_19 : decode cX9_latest 19 = .ok (.iload_n 2, 1) := dk_28 (dk_at dksX9_latest_0 19 rfl rfl)
theorem dX9_latest_20 : decode cX9_latest 20 = .ok (.if_icmp .ge 41, 3) := dk_162 0 41 (dk_at dksX9_latest_0 20 rfl rfl)
theorem dX9_latest_23 : decode cX9_latest 23 = .ok (.aload_n 0, 1) := dk_42 (dk_at dksX9_latest_0 23 rfl rfl)
theorem dX9_latest_24 : decode cX9_latest 24 = .ok (.getfield 13, 3) := dk_180 0 13 (dk_at dksX9_latest_1 0 rfl rfl)
theorem dX9_latest_27 : decode cX9_latest 27 = .ok (.sipush 400, 3) := dk_17 1 144 (dk_at dksX9_latest_1 3 rfl rfl)
theorem dX9_latest_30 : decode cX9_latest 30 = .ok (.iload_n 1, 1) := dk_27 (dk_at dksX9_latest_1 6 rfl rfl)
theorem dX9_latest_31 : decode cX9_latest 31 = .ok (.imul, 1) := dk_104 (dk_at dksX9_latest_1 7 rfl rfl)
theorem dX9_latest_32 : decode cX9_latest 32 = .ok (.iload 5, 2) := dk_21 5 (dk_at dksX9_latest_1 8 rfl rfl)
theorem dX9_latest_34 : decode cX9_latest 34 = .ok (.iadd, 1) := dk_96 (dk_at dksX9_latest_1 10 rfl rfl)
theorem dX9_latest_35 : decode cX9_latest 35 = .ok (.iaload, 1) := dk_46 (dk_at dksX9_latest_1 11 rfl rfl)
theorem dX9_latest_36 : decode cX9_latest 36 = .ok (.iload_n 3, 1) := dk_29 (dk_at dksX9_latest_1 12 rfl rfl)
theorem dX9_latest_37 : decode cX9_latest 37 = .ok (.if_icmp .ne 18, 3) := dk_160 0 18 (dk_at dksX9_latest_1 13 rfl rfl)
theorem dX9_latest_40 : decode cX9_latest 40 = .ok (.aload_n 0, 1) := dk_42 (dk_at dksX9_latest_1 16 rfl rfl)
theorem dX9_latest_41 : decode cX9_latest 41 = .ok (.iload_n 1, 1) := dk_27 (dk_at dksX9_latest_1 17 rfl rfl)
theorem dX9_latest_42 : decode cX9_latest 42 = .ok (.iload_n 2, 1) := dk_28 (dk_at dksX9_latest_1 18 rfl rfl)
theorem dX9_latest_43 : decode cX9_latest 43 = .ok (.iload 5, 2) := dk_21 5 (dk_at dksX9_latest_1 19 rfl rfl)
theorem dX9_latest_45 : decode cX9_latest 45 = .ok (.invokevirtual 226, 3) := dk_182 0 226 (dk_at dksX9_latest_1 21 rfl rfl)
theorem dX9_latest_48 : decode cX9_latest 48 = .ok (.ifCond .eq 7, 3) := dk_153 0 7 (dk_at dksX9_latest_2 0 rfl rfl)
theorem dX9_latest_51 : decode cX9_latest 51 = .ok (.iload 5, 2) := dk_21 5 (dk_at dksX9_latest_2 3 rfl rfl)
theorem dX9_latest_53 : decode cX9_latest 53 = .ok (.istore 4, 2) := dk_54 4 (dk_at dksX9_latest_2 5 rfl rfl)
theorem dX9_latest_55 : decode cX9_latest 55 = .ok (.iinc 5 1, 3) := dk_132 5 1 (dk_at dksX9_latest_2 7 rfl rfl)
theorem dX9_latest_58 : decode cX9_latest 58 = .ok (.goto (-41), 3) := dk_167 255 215 (dk_at dksX9_latest_2 10 rfl rfl)
theorem dX9_latest_61 : decode cX9_latest 61 = .ok (.iload 4, 2) := dk_21 4 (dk_at dksX9_latest_2 13 rfl rfl)
theorem dX9_latest_63 : decode cX9_latest 63 = .ok (.ireturn, 1) := dk_172 (dk_at dksX9_latest_2 15 rfl rfl)
abbrev cX9_head : ByteArray := prog_17_method_36_code
def yX9_head : MethodName := ⟨RX9, "head", "(IIII)I"⟩
def dkwX9_head_2 : List UInt8 := [7, 16, 8, 29, 104, 96, 21, 4, 96, 46, 172]
abbrev dktX9_head_2 : List UInt8 := dkwX9_head_2 ++ []
def dkwX9_head_1 : List UInt8 := [21, 4, 16, 7, 164, 0, 5, 3, 172, 42, 27, 28, 42, 180, 0, 169, 3, 182, 1, 29, 42, 180, 0, 169]
abbrev dktX9_head_1 : List UInt8 := dkwX9_head_1 ++ dktX9_head_2
def dkwX9_head_0 : List UInt8 := [42, 27, 28, 182, 1, 21, 153, 0, 24, 29, 155, 0, 20, 29, 5, 163, 0, 15, 21, 4, 155, 0, 10]
abbrev dktX9_head_0 : List UInt8 := dkwX9_head_0 ++ dktX9_head_1
theorem dksX9_head_0 : cX9_head.data.toList.drop 0 = dktX9_head_0 := by decide +kernel
theorem dksX9_head_1 : cX9_head.data.toList.drop 23 = dktX9_head_1 := dk_seg dksX9_head_0 23 rfl rfl
theorem dksX9_head_2 : cX9_head.data.toList.drop 47 = dktX9_head_2 := dk_seg dksX9_head_1 24 rfl rfl
theorem dX9_head_0 : decode cX9_head 0 = .ok (.aload_n 0, 1) := dk_42 (dk_at dksX9_head_0 0 rfl rfl)
theorem dX9_head_1 : decode cX9_head 1 = .ok (.iload_n 1, 1) := dk_27 (dk_at dksX9_head_0 1 rfl rfl)
theorem dX9_head_2 : decode cX9_head 2 = .ok (.iload_n 2, 1) := dk_28 (dk_at dksX9_head_0 2 rfl rfl)
theorem dX9_head_3 : decode cX9_head 3 = .ok (.invokevirtual 277, 3) := dk_182 1 21 (dk_at dksX9_head_0 3 rfl rfl)
theorem dX9_head_6 : decode cX9_head 6 = .ok (.ifCond .eq 24, 3) := dk_153 0 24 (dk_at dksX9_head_0 6 rfl rfl)
theorem dX9_head_9 : decode cX9_head 9 = .ok (.iload_n 3, 1) := dk_29 (dk_at dksX9_head_0 9 rfl rfl)
theorem dX9_head_10 : decode cX9_head 10 = .ok (.ifCond .lt 20, 3) := dk_155 0 20 (dk_at dksX9_head_0 10 rfl rfl)
theorem dX9_head_13 : decode cX9_head 13 = .ok (.iload_n 3, 1) := dk_29 (dk_at dksX9_head_0 13 rfl rfl)
theorem dX9_head_14 : decode cX9_head 14 = .ok (.iconst 2, 1) := dk_5 (dk_at dksX9_head_0 14 rfl rfl)
theorem dX9_head_15 : decode cX9_head 15 = .ok (.if_icmp .gt 15, 3) := dk_163 0 15 (dk_at dksX9_head_0 15 rfl rfl)
theorem dX9_head_18 : decode cX9_head 18 = .ok (.iload 4, 2) := dk_21 4 (dk_at dksX9_head_0 18 rfl rfl)
theorem dX9_head_20 : decode cX9_head 20 = .ok (.ifCond .lt 10, 3) := dk_155 0 10 (dk_at dksX9_head_0 20 rfl rfl)
theorem dX9_head_23 : decode cX9_head 23 = .ok (.iload 4, 2) := dk_21 4 (dk_at dksX9_head_1 0 rfl rfl)
theorem dX9_head_25 : decode cX9_head 25 = .ok (.bipush 7, 2) := dk_16 7 (dk_at dksX9_head_1 2 rfl rfl)
theorem dX9_head_27 : decode cX9_head 27 = .ok (.if_icmp .le 5, 3) := dk_164 0 5 (dk_at dksX9_head_1 4 rfl rfl)
theorem dX9_head_30 : decode cX9_head 30 = .ok (.iconst 0, 1) := dk_3 (dk_at dksX9_head_1 7 rfl rfl)
theorem dX9_head_31 : decode cX9_head 31 = .ok (.ireturn, 1) := dk_172 (dk_at dksX9_head_1 8 rfl rfl)
theorem dX9_head_32 : decode cX9_head 32 = .ok (.aload_n 0, 1) := dk_42 (dk_at dksX9_head_1 9 rfl rfl)
theorem dX9_head_33 : decode cX9_head 33 = .ok (.iload_n 1, 1) := dk_27 (dk_at dksX9_head_1 10 rfl rfl)
theorem dX9_head_34 : decode cX9_head 34 = .ok (.iload_n 2, 1) := dk_28 (dk_at dksX9_head_1 11 rfl rfl)
theorem dX9_head_35 : decode cX9_head 35 = .ok (.aload_n 0, 1) := dk_42 (dk_at dksX9_head_1 12 rfl rfl)
theorem dX9_head_36 : decode cX9_head 36 = .ok (.getfield 169, 3) := dk_180 0 169 (dk_at dksX9_head_1 13 rfl rfl)
theorem dX9_head_39 : decode cX9_head 39 = .ok (.iconst 0, 1) := dk_3 (dk_at dksX9_head_1 16 rfl rfl)
theorem dX9_head_40 : decode cX9_head 40 = .ok (.invokevirtual 285, 3) := dk_182 1 29 (dk_at dksX9_head_1 17 rfl rfl)
theorem dX9_head_43 : decode cX9_head 43 = .ok (.aload_n 0, 1) := dk_42 (dk_at dksX9_head_1 20 rfl rfl)
theorem dX9_head_44 : decode cX9_head 44 = .ok (.getfield 169, 3) := dk_180 0 169 (dk_at dksX9_head_1 21 rfl rfl)
theorem dX9_head_47 : decode cX9_head 47 = .ok (.iconst 4, 1) := dk_7 (dk_at dksX9_head_2 0 rfl rfl)
theorem dX9_head_48 : decode cX9_head 48 = .ok (.bipush 8, 2) := dk_16 8 (dk_at dksX9_head_2 1 rfl rfl)
theorem dX9_head_50 : decode cX9_head 50 = .ok (.iload_n 3, 1) := dk_29 (dk_at dksX9_head_2 3 rfl rfl)
theorem dX9_head_51 : decode cX9_head 51 = .ok (.imul, 1) := dk_104 (dk_at dksX9_head_2 4 rfl rfl)
theorem dX9_head_52 : decode cX9_head 52 = .ok (.iadd, 1) := dk_96 (dk_at dksX9_head_2 5 rfl rfl)
theorem dX9_head_53 : decode cX9_head 53 = .ok (.iload 4, 2) := dk_21 4 (dk_at dksX9_head_2 6 rfl rfl)
theorem dX9_head_55 : decode cX9_head 55 = .ok (.iadd, 1) := dk_96 (dk_at dksX9_head_2 8 rfl rfl)
theorem dX9_head_56 : decode cX9_head 56 = .ok (.iaload, 1) := dk_46 (dk_at dksX9_head_2 9 rfl rfl)
theorem dX9_head_57 : decode cX9_head 57 = .ok (.ireturn, 1) := dk_172 (dk_at dksX9_head_2 10 rfl rfl)
abbrev cX9_head_2 : ByteArray := prog_17_method_22_code
def yX9_head_2 : MethodName := ⟨RX9, "head", "(II[II)V"⟩
def dkwX9_head_2_4 : List UInt8 := [21, 4, 16, 20, 96, 182, 0, 192, 177]
abbrev dktX9_head_2_4 : List UInt8 := dkwX9_head_2_4 ++ []
def dkwX9_head_2_3 : List UInt8 := [180, 0, 9, 7, 27, 104, 46, 28, 45, 21, 4, 7, 96, 21, 4, 16, 12, 96, 182, 1, 7, 42, 45]
abbrev dktX9_head_2_3 : List UInt8 := dkwX9_head_2_3 ++ dktX9_head_2_4
def dkwX9_head_2_2 : List UInt8 := [27, 28, 182, 1, 4, 42, 3, 42, 180, 0, 223, 3, 45, 21, 4, 16, 12, 96, 182, 0, 249, 42, 42]
abbrev dktX9_head_2_2 : List UInt8 := dkwX9_head_2_2 ++ dktX9_head_2_3
def dkwX9_head_2_1 : List UInt8 := [46, 79, 42, 3, 181, 0, 208, 42, 27, 3, 28, 182, 0, 254, 42, 45, 21, 4, 7, 96, 182, 1, 2, 42]
abbrev dktX9_head_2_1 : List UInt8 := dkwX9_head_2_1 ++ dktX9_head_2_2
def dkwX9_head_2_0 : List UInt8 := [45, 21, 4, 28, 79, 45, 21, 4, 4, 96, 27, 79, 45, 21, 4, 5, 96, 42, 180, 0, 9, 7, 27, 104]
abbrev dktX9_head_2_0 : List UInt8 := dkwX9_head_2_0 ++ dktX9_head_2_1
theorem dksX9_head_2_0 : cX9_head_2.data.toList.drop 0 = dktX9_head_2_0 := by decide +kernel
theorem dksX9_head_2_1 : cX9_head_2.data.toList.drop 24 = dktX9_head_2_1 := dk_seg dksX9_head_2_0 24 rfl rfl
theorem dksX9_head_2_2 : cX9_head_2.data.toList.drop 48 = dktX9_head_2_2 := dk_seg dksX9_head_2_1 24 rfl rfl
theorem dksX9_head_2_3 : cX9_head_2.data.toList.drop 71 = dktX9_head_2_3 := dk_seg dksX9_head_2_2 23 rfl rfl
theorem dksX9_head_2_4 : cX9_head_2.data.toList.drop 94 = dktX9_head_2_4 := dk_seg dksX9_head_2_3 23 rfl rfl
theorem dX9_head_2_0 : decode cX9_head_2 0 = .ok (.aload_n 3, 1) := dk_45 (dk_at dksX9_head_2_0 0 rfl rfl)
theorem dX9_head_2_1 : decode cX9_head_2 1 = .ok (.iload 4, 2) := dk_21 4 (dk_at dksX9_head_2_0 1 rfl rfl)
theorem dX9_head_2_3 : decode cX9_head_2 3 = .ok (.iload_n 2, 1) := dk_28 (dk_at dksX9_head_2_0 3 rfl rfl)
theorem dX9_head_2_4 : decode cX9_head_2 4 = .ok (.iastore, 1) := dk_79 (dk_at dksX9_head_2_0 4 rfl rfl)
theorem dX9_head_2_5 : decode cX9_head_2 5 = .ok (.aload_n 3, 1) := dk_45 (dk_at dksX9_head_2_0 5 rfl rfl)
theorem dX9_head_2_6 : decode cX9_head_2 6 = .ok (.iload 4, 2) := dk_21 4 (dk_at dksX9_head_2_0 6 rfl rfl)
theorem dX9_head_2_8 : decode cX9_head_2 8 = .ok (.iconst 1, 1) := dk_4 (dk_at dksX9_head_2_0 8 rfl rfl)
theorem dX9_head_2_9 : decode cX9_head_2 9 = .ok (.iadd, 1) := dk_96 (dk_at dksX9_head_2_0 9 rfl rfl)
theorem dX9_head_2_10 : decode cX9_head_2 10 = .ok (.iload_n 1, 1) := dk_27 (dk_at dksX9_head_2_0 10 rfl rfl)
theorem dX9_head_2_11 : decode cX9_head_2 11 = .ok (.iastore, 1) := dk_79 (dk_at dksX9_head_2_0 11 rfl rfl)
theorem dX9_head_2_12 : decode cX9_head_2 12 = .ok (.aload_n 3, 1) := dk_45 (dk_at dksX9_head_2_0 12 rfl rfl)
theorem dX9_head_2_13 : decode cX9_head_2 13 = .ok (.iload 4, 2) := dk_21 4 (dk_at dksX9_head_2_0 13 rfl rfl)
theorem dX9_head_2_15 : decode cX9_head_2 15 = .ok (.iconst 2, 1) := dk_5 (dk_at dksX9_head_2_0 15 rfl rfl)
theorem dX9_head_2_16 : decode cX9_head_2 16 = .ok (.iadd, 1) := dk_96 (dk_at dksX9_head_2_0 16 rfl rfl)
theorem dX9_head_2_17 : decode cX9_head_2 17 = .ok (.aload_n 0, 1) := dk_42 (dk_at dksX9_head_2_0 17 rfl rfl)
theorem dX9_head_2_18 : decode cX9_head_2 18 = .ok (.getfield 9, 3) := dk_180 0 9 (dk_at dksX9_head_2_0 18 rfl rfl)
theorem dX9_head_2_21 : decode cX9_head_2 21 = .ok (.iconst 4, 1) := dk_7 (dk_at dksX9_head_2_0 21 rfl rfl)
theorem dX9_head_2_22 : decode cX9_head_2 22 = .ok (.iload_n 1, 1) := dk_27 (dk_at dksX9_head_2_0 22 rfl rfl)
theorem dX9_head_2_23 : decode cX9_head_2 23 = .ok (.imul, 1) := dk_104 (dk_at dksX9_head_2_0 23 rfl rfl)
theorem dX9_head_2_24 : decode cX9_head_2 24 = .ok (.iaload, 1) := dk_46 (dk_at dksX9_head_2_1 0 rfl rfl)
theorem dX9_head_2_25 : decode cX9_head_2 25 = .ok (.iastore, 1) := dk_79 (dk_at dksX9_head_2_1 1 rfl rfl)
theorem dX9_head_2_26 : decode cX9_head_2 26 = .ok (.aload_n 0, 1) := dk_42 (dk_at dksX9_head_2_1 2 rfl rfl)
theorem dX9_head_2_27 : decode cX9_head_2 27 = .ok (.iconst 0, 1) := dk_3 (dk_at dksX9_head_2_1 3 rfl rfl)
theorem dX9_head_2_28 : decode cX9_head_2 28 = .ok (.putfield 208, 3) := dk_181 0 208 (dk_at dksX9_head_2_1 4 rfl rfl)
theorem dX9_head_2_31 : decode cX9_head_2 31 = .ok (.aload_n 0, 1) := dk_42 (dk_at dksX9_head_2_1 7 rfl rfl)
theorem dX9_head_2_32 : decode cX9_head_2 32 = .ok (.iload_n 1, 1) := dk_27 (dk_at dksX9_head_2_1 8 rfl rfl)
theorem dX9_head_2_33 : decode cX9_head_2 33 = .ok (.iconst 0, 1) := dk_3 (dk_at dksX9_head_2_1 9 rfl rfl)
theorem dX9_head_2_34 : decode cX9_head_2 34 = .ok (.iload_n 2, 1) := dk_28 (dk_at dksX9_head_2_1 10 rfl rfl)
theorem dX9_head_2_35 : decode cX9_head_2 35 = .ok (.invokevirtual 254, 3) := dk_182 0 254 (dk_at dksX9_head_2_1 11 rfl rfl)
theorem dX9_head_2_38 : decode cX9_head_2 38 = .ok (.aload_n 0, 1) := dk_42 (dk_at dksX9_head_2_1 14 rfl rfl)
theorem dX9_head_2_39 : decode cX9_head_2 39 = .ok (.aload_n 3, 1) := dk_45 (dk_at dksX9_head_2_1 15 rfl rfl)
theorem dX9_head_2_40 : decode cX9_head_2 40 = .ok (.iload 4, 2) := dk_21 4 (dk_at dksX9_head_2_1 16 rfl rfl)
theorem dX9_head_2_42 : decode cX9_head_2 42 = .ok (.iconst 4, 1) := dk_7 (dk_at dksX9_head_2_1 18 rfl rfl)
theorem dX9_head_2_43 : decode cX9_head_2 43 = .ok (.iadd, 1) := dk_96 (dk_at dksX9_head_2_1 19 rfl rfl)
theorem dX9_head_2_44 : decode cX9_head_2 44 = .ok (.invokevirtual 258, 3) := dk_182 1 2 (dk_at dksX9_head_2_1 20 rfl rfl)
theorem dX9_head_2_47 : decode cX9_head_2 47 = .ok (.aload_n 0, 1) := dk_42 (dk_at dksX9_head_2_1 23 rfl rfl)
theorem dX9_head_2_48 : decode cX9_head_2 48 = .ok (.iload_n 1, 1) := dk_27 (dk_at dksX9_head_2_2 0 rfl rfl)
theorem dX9_head_2_49 : decode cX9_head_2 49 = .ok (.iload_n 2, 1) := dk_28 (dk_at dksX9_head_2_2 1 rfl rfl)
theorem dX9_head_2_50 : decode cX9_head_2 50 = .ok (.invokevirtual 260, 3) := dk_182 1 4 (dk_at dksX9_head_2_2 2 rfl rfl)
theorem dX9_head_2_53 : decode cX9_head_2 53 = .ok (.aload_n 0, 1) := dk_42 (dk_at dksX9_head_2_2 5 rfl rfl)
theorem dX9_head_2_54 : decode cX9_head_2 54 = .ok (.iconst 0, 1) := dk_3 (dk_at dksX9_head_2_2 6 rfl rfl)
theorem dX9_head_2_55 : decode cX9_head_2 55 = .ok (.aload_n 0, 1) := dk_42 (dk_at dksX9_head_2_2 7 rfl rfl)
theorem dX9_head_2_56 : decode cX9_head_2 56 = .ok (.getfield 223, 3) := dk_180 0 223 (dk_at dksX9_head_2_2 8 rfl rfl)
theorem dX9_head_2_59 : decode cX9_head_2 59 = .ok (.iconst 0, 1) := dk_3 (dk_at dksX9_head_2_2 11 rfl rfl)
theorem dX9_head_2_60 : decode cX9_head_2 60 = .ok (.aload_n 3, 1) := dk_45 (dk_at dksX9_head_2_2 12 rfl rfl)
theorem dX9_head_2_61 : decode cX9_head_2 61 = .ok (.iload 4, 2) := dk_21 4 (dk_at dksX9_head_2_2 13 rfl rfl)
theorem dX9_head_2_63 : decode cX9_head_2 63 = .ok (.bipush 12, 2) := dk_16 12 (dk_at dksX9_head_2_2 15 rfl rfl)
theorem dX9_head_2_65 : decode cX9_head_2 65 = .ok (.iadd, 1) := dk_96 (dk_at dksX9_head_2_2 17 rfl rfl)
theorem dX9_head_2_66 : decode cX9_head_2 66 = .ok (.invokevirtual 249, 3) := dk_182 0 249 (dk_at dksX9_head_2_2 18 rfl rfl)
theorem dX9_head_2_69 : decode cX9_head_2 69 = .ok (.aload_n 0, 1) := dk_42 (dk_at dksX9_head_2_2 21 rfl rfl)
theorem dX9_head_2_70 : decode cX9_head_2 70 = .ok (.aload_n 0, 1) := dk_42 (dk_at dksX9_head_2_2 22 rfl rfl)
theorem dX9_head_2_71 : decode cX9_head_2 71 = .ok (.getfield 9, 3) := dk_180 0 9 (dk_at dksX9_head_2_3 0 rfl rfl)
theorem dX9_head_2_74 : decode cX9_head_2 74 = .ok (.iconst 4, 1) := dk_7 (dk_at dksX9_head_2_3 3 rfl rfl)
theorem dX9_head_2_75 : decode cX9_head_2 75 = .ok (.iload_n 1, 1) := dk_27 (dk_at dksX9_head_2_3 4 rfl rfl)
theorem dX9_head_2_76 : decode cX9_head_2 76 = .ok (.imul, 1) := dk_104 (dk_at dksX9_head_2_3 5 rfl rfl)
theorem dX9_head_2_77 : decode cX9_head_2 77 = .ok (.iaload, 1) := dk_46 (dk_at dksX9_head_2_3 6 rfl rfl)
theorem dX9_head_2_78 : decode cX9_head_2 78 = .ok (.iload_n 2, 1) := dk_28 (dk_at dksX9_head_2_3 7 rfl rfl)
theorem dX9_head_2_79 : decode cX9_head_2 79 = .ok (.aload_n 3, 1) := dk_45 (dk_at dksX9_head_2_3 8 rfl rfl)
theorem dX9_head_2_80 : decode cX9_head_2 80 = .ok (.iload 4, 2) := dk_21 4 (dk_at dksX9_head_2_3 9 rfl rfl)
theorem dX9_head_2_82 : decode cX9_head_2 82 = .ok (.iconst 4, 1) := dk_7 (dk_at dksX9_head_2_3 11 rfl rfl)
theorem dX9_head_2_83 : decode cX9_head_2 83 = .ok (.iadd, 1) := dk_96 (dk_at dksX9_head_2_3 12 rfl rfl)
theorem dX9_head_2_84 : decode cX9_head_2 84 = .ok (.iload 4, 2) := dk_21 4 (dk_at dksX9_head_2_3 13 rfl rfl)
theorem dX9_head_2_86 : decode cX9_head_2 86 = .ok (.bipush 12, 2) := dk_16 12 (dk_at dksX9_head_2_3 15 rfl rfl)
theorem dX9_head_2_88 : decode cX9_head_2 88 = .ok (.iadd, 1) := dk_96 (dk_at dksX9_head_2_3 17 rfl rfl)
theorem dX9_head_2_89 : decode cX9_head_2 89 = .ok (.invokevirtual 263, 3) := dk_182 1 7 (dk_at dksX9_head_2_3 18 rfl rfl)
theorem dX9_head_2_92 : decode cX9_head_2 92 = .ok (.aload_n 0, 1) := dk_42 (dk_at dksX9_head_2_3 21 rfl rfl)
theorem dX9_head_2_93 : decode cX9_head_2 93 = .ok (.aload_n 3, 1) := dk_45 (dk_at dksX9_head_2_3 22 rfl rfl)
theorem dX9_head_2_94 : decode cX9_head_2 94 = .ok (.iload 4, 2) := dk_21 4 (dk_at dksX9_head_2_4 0 rfl rfl)
theorem dX9_head_2_96 : decode cX9_head_2 96 = .ok (.bipush 20, 2) := dk_16 20 (dk_at dksX9_head_2_4 2 rfl rfl)
theorem dX9_head_2_98 : decode cX9_head_2 98 = .ok (.iadd, 1) := dk_96 (dk_at dksX9_head_2_4 4 rfl rfl)
theorem dX9_head_2_99 : decode cX9_head_2 99 = .ok (.invokevirtual 192, 3) := dk_182 0 192 (dk_at dksX9_head_2_4 5 rfl rfl)
theorem dX9_head_2_102 : decode cX9_head_2 102 = .ok (.return_, 1) := dk_177 (dk_at dksX9_head_2_4 8 rfl rfl)
abbrev cX9_layLog : ByteArray := prog_17_method_11_code
def yX9_layLog : MethodName := ⟨RX9, "layLog", "(III)V"⟩
def dkwX9_layLog_2 : List UInt8 := [21, 5, 96, 54, 4, 167, 255, 207, 177]
abbrev dktX9_layLog_2 : List UInt8 := dkwX9_layLog_2 ++ []
def dkwX9_layLog_1 : List UInt8 := [42, 180, 0, 148, 3, 182, 0, 200, 42, 21, 4, 21, 5, 42, 180, 0, 148, 3, 182, 0, 216, 21, 4]
abbrev dktX9_layLog_1 : List UInt8 := dkwX9_layLog_1 ++ dktX9_layLog_2
def dkwX9_layLog_0 : List UInt8 := [28, 54, 4, 21, 4, 29, 162, 0, 49, 21, 4, 29, 184, 0, 212, 54, 5, 42, 27, 21, 4, 21, 5, 3]
abbrev dktX9_layLog_0 : List UInt8 := dkwX9_layLog_0 ++ dktX9_layLog_1
theorem dksX9_layLog_0 : cX9_layLog.data.toList.drop 0 = dktX9_layLog_0 := by decide +kernel
theorem dksX9_layLog_1 : cX9_layLog.data.toList.drop 24 = dktX9_layLog_1 := dk_seg dksX9_layLog_0 24 rfl rfl
theorem dksX9_layLog_2 : cX9_layLog.data.toList.drop 47 = dktX9_layLog_2 := dk_seg dksX9_layLog_1 23 rfl rfl
theorem dX9_layLog_0 : decode cX9_layLog 0 = .ok (.iload_n 2, 1) := dk_28 (dk_at dksX9_layLog_0 0 rfl rfl)
theorem dX9_layLog_1 : decode cX9_layLog 1 = .ok (.istore 4, 2) := dk_54 4 (dk_at dksX9_layLog_0 1 rfl rfl)
theorem dX9_layLog_3 : decode cX9_layLog 3 = .ok (.iload 4, 2) := dk_21 4 (dk_at dksX9_layLog_0 3 rfl rfl)
theorem dX9_layLog_5 : decode cX9_layLog 5 = .ok (.iload_n 3, 1) := dk_29 (dk_at dksX9_layLog_0 5 rfl rfl)
theorem dX9_layLog_6 : decode cX9_layLog 6 = .ok (.if_icmp .ge 49, 3) := dk_162 0 49 (dk_at dksX9_layLog_0 6 rfl rfl)
theorem dX9_layLog_9 : decode cX9_layLog 9 = .ok (.iload 4, 2) := dk_21 4 (dk_at dksX9_layLog_0 9 rfl rfl)
theorem dX9_layLog_11 : decode cX9_layLog 11 = .ok (.iload_n 3, 1) := dk_29 (dk_at dksX9_layLog_0 11 rfl rfl)
theorem dX9_layLog_12 : decode cX9_layLog 12 = .ok (.invokestatic 212, 3) := dk_184 0 212 (dk_at dksX9_layLog_0 12 rfl rfl)
theorem dX9_layLog_15 : decode cX9_layLog 15 = .ok (.istore 5, 2) := dk_54 5 (dk_at dksX9_layLog_0 15 rfl rfl)
theorem dX9_layLog_17 : decode cX9_layLog 17 = .ok (.aload_n 0, 1) := dk_42 (dk_at dksX9_layLog_0 17 rfl rfl)
theorem dX9_layLog_18 : decode cX9_layLog 18 = .ok (.iload_n 1, 1) := dk_27 (dk_at dksX9_layLog_0 18 rfl rfl)
theorem dX9_layLog_19 : decode cX9_layLog 19 = .ok (.iload 4, 2) := dk_21 4 (dk_at dksX9_layLog_0 19 rfl rfl)
theorem dX9_layLog_21 : decode cX9_layLog 21 = .ok (.iload 5, 2) := dk_21 5 (dk_at dksX9_layLog_0 21 rfl rfl)
theorem dX9_layLog_23 : decode cX9_layLog 23 = .ok (.iconst 0, 1) := dk_3 (dk_at dksX9_layLog_0 23 rfl rfl)
theorem dX9_layLog_24 : decode cX9_layLog 24 = .ok (.aload_n 0, 1) := dk_42 (dk_at dksX9_layLog_1 0 rfl rfl)
theorem dX9_layLog_25 : decode cX9_layLog 25 = .ok (.getfield 148, 3) := dk_180 0 148 (dk_at dksX9_layLog_1 1 rfl rfl)
theorem dX9_layLog_28 : decode cX9_layLog 28 = .ok (.iconst 0, 1) := dk_3 (dk_at dksX9_layLog_1 4 rfl rfl)
theorem dX9_layLog_29 : decode cX9_layLog 29 = .ok (.invokevirtual 200, 3) := dk_182 0 200 (dk_at dksX9_layLog_1 5 rfl rfl)
theorem dX9_layLog_32 : decode cX9_layLog 32 = .ok (.aload_n 0, 1) := dk_42 (dk_at dksX9_layLog_1 8 rfl rfl)
theorem dX9_layLog_33 : decode cX9_layLog 33 = .ok (.iload 4, 2) := dk_21 4 (dk_at dksX9_layLog_1 9 rfl rfl)
theorem dX9_layLog_35 : decode cX9_layLog 35 = .ok (.iload 5, 2) := dk_21 5 (dk_at dksX9_layLog_1 11 rfl rfl)
theorem dX9_layLog_37 : decode cX9_layLog 37 = .ok (.aload_n 0, 1) := dk_42 (dk_at dksX9_layLog_1 13 rfl rfl)
theorem dX9_layLog_38 : decode cX9_layLog 38 = .ok (.getfield 148, 3) := dk_180 0 148 (dk_at dksX9_layLog_1 14 rfl rfl)
theorem dX9_layLog_41 : decode cX9_layLog 41 = .ok (.iconst 0, 1) := dk_3 (dk_at dksX9_layLog_1 17 rfl rfl)
theorem dX9_layLog_42 : decode cX9_layLog 42 = .ok (.invokevirtual 216, 3) := dk_182 0 216 (dk_at dksX9_layLog_1 18 rfl rfl)
theorem dX9_layLog_45 : decode cX9_layLog 45 = .ok (.iload 4, 2) := dk_21 4 (dk_at dksX9_layLog_1 21 rfl rfl)
theorem dX9_layLog_47 : decode cX9_layLog 47 = .ok (.iload 5, 2) := dk_21 5 (dk_at dksX9_layLog_2 0 rfl rfl)
theorem dX9_layLog_49 : decode cX9_layLog 49 = .ok (.iadd, 1) := dk_96 (dk_at dksX9_layLog_2 2 rfl rfl)
theorem dX9_layLog_50 : decode cX9_layLog 50 = .ok (.istore 4, 2) := dk_54 4 (dk_at dksX9_layLog_2 3 rfl rfl)
theorem dX9_layLog_52 : decode cX9_layLog 52 = .ok (.goto (-49), 3) := dk_167 255 207 (dk_at dksX9_layLog_2 5 rfl rfl)
theorem dX9_layLog_55 : decode cX9_layLog 55 = .ok (.return_, 1) := dk_177 (dk_at dksX9_layLog_2 8 rfl rfl)
abbrev cX9_blockAt : ByteArray := prog_17_method_8_code
def yX9_blockAt : MethodName := ⟨RX9, "blockAt", "(II)I"⟩
def dkwX9_blockAt_1 : List UInt8 := [167, 255, 235, 28, 172]
abbrev dktX9_blockAt_1 : List UInt8 := dkwX9_blockAt_1 ++ []
def dkwX9_blockAt_0 : List UInt8 := [4, 61, 26, 5, 28, 104, 112, 154, 0, 19, 26, 5, 28, 104, 96, 27, 163, 0, 10, 28, 5, 104, 61]
abbrev dktX9_blockAt_0 : List UInt8 := dkwX9_blockAt_0 ++ dktX9_blockAt_1
theorem dksX9_blockAt_0 : cX9_blockAt.data.toList.drop 0 = dktX9_blockAt_0 := by decide +kernel
theorem dksX9_blockAt_1 : cX9_blockAt.data.toList.drop 23 = dktX9_blockAt_1 := dk_seg dksX9_blockAt_0 23 rfl rfl
theorem dX9_blockAt_0 : decode cX9_blockAt 0 = .ok (.iconst 1, 1) := dk_4 (dk_at dksX9_blockAt_0 0 rfl rfl)
theorem dX9_blockAt_1 : decode cX9_blockAt 1 = .ok (.istore_n 2, 1) := dk_61 (dk_at dksX9_blockAt_0 1 rfl rfl)
theorem dX9_blockAt_2 : decode cX9_blockAt 2 = .ok (.iload_n 0, 1) := dk_26 (dk_at dksX9_blockAt_0 2 rfl rfl)
theorem dX9_blockAt_3 : decode cX9_blockAt 3 = .ok (.iconst 2, 1) := dk_5 (dk_at dksX9_blockAt_0 3 rfl rfl)
theorem dX9_blockAt_4 : decode cX9_blockAt 4 = .ok (.iload_n 2, 1) := dk_28 (dk_at dksX9_blockAt_0 4 rfl rfl)
theorem dX9_blockAt_5 : decode cX9_blockAt 5 = .ok (.imul, 1) := dk_104 (dk_at dksX9_blockAt_0 5 rfl rfl)
theorem dX9_blockAt_6 : decode cX9_blockAt 6 = .ok (.irem, 1) := dk_112 (dk_at dksX9_blockAt_0 6 rfl rfl)
theorem dX9_blockAt_7 : decode cX9_blockAt 7 = .ok (.ifCond .ne 19, 3) := dk_154 0 19 (dk_at dksX9_blockAt_0 7 rfl rfl)
theorem dX9_blockAt_10 : decode cX9_blockAt 10 = .ok (.iload_n 0, 1) := dk_26 (dk_at dksX9_blockAt_0 10 rfl rfl)
theorem dX9_blockAt_11 : decode cX9_blockAt 11 = .ok (.iconst 2, 1) := dk_5 (dk_at dksX9_blockAt_0 11 rfl rfl)
theorem dX9_blockAt_12 : decode cX9_blockAt 12 = .ok (.iload_n 2, 1) := dk_28 (dk_at dksX9_blockAt_0 12 rfl rfl)
theorem dX9_blockAt_13 : decode cX9_blockAt 13 = .ok (.imul, 1) := dk_104 (dk_at dksX9_blockAt_0 13 rfl rfl)
theorem dX9_blockAt_14 : decode cX9_blockAt 14 = .ok (.iadd, 1) := dk_96 (dk_at dksX9_blockAt_0 14 rfl rfl)
theorem dX9_blockAt_15 : decode cX9_blockAt 15 = .ok (.iload_n 1, 1) := dk_27 (dk_at dksX9_blockAt_0 15 rfl rfl)
theorem dX9_blockAt_16 : decode cX9_blockAt 16 = .ok (.if_icmp .gt 10, 3) := dk_163 0 10 (dk_at dksX9_blockAt_0 16 rfl rfl)
theorem dX9_blockAt_19 : decode cX9_blockAt 19 = .ok (.iload_n 2, 1) := dk_28 (dk_at dksX9_blockAt_0 19 rfl rfl)
theorem dX9_blockAt_20 : decode cX9_blockAt 20 = .ok (.iconst 2, 1) := dk_5 (dk_at dksX9_blockAt_0 20 rfl rfl)
theorem dX9_blockAt_21 : decode cX9_blockAt 21 = .ok (.imul, 1) := dk_104 (dk_at dksX9_blockAt_0 21 rfl rfl)
theorem dX9_blockAt_22 : decode cX9_blockAt 22 = .ok (.istore_n 2, 1) := dk_61 (dk_at dksX9_blockAt_0 22 rfl rfl)
theorem dX9_blockAt_23 : decode cX9_blockAt 23 = .ok (.goto (-21), 3) := dk_167 255 235 (dk_at dksX9_blockAt_1 0 rfl rfl)
theorem dX9_blockAt_26 : decode cX9_blockAt 26 = .ok (.iload_n 2, 1) := dk_28 (dk_at dksX9_blockAt_1 3 rfl rfl)
theorem dX9_blockAt_27 : decode cX9_blockAt 27 = .ok (.ireturn, 1) := dk_172 (dk_at dksX9_blockAt_1 4 rfl rfl)
abbrev cX9_blockSum : ByteArray := prog_17_method_7_code
def yX9_blockSum : MethodName := ⟨RX9, "blockSum", "(IIII[II)V"⟩
def dkwX9_blockSum_5 : List UInt8 := [177]
abbrev dktX9_blockSum_5 : List UInt8 := dkwX9_blockSum_5 ++ []
def dkwX9_blockSum_4 : List UInt8 := [16, 16, 21, 4, 104, 42, 180, 0, 133, 16, 16, 21, 4, 104, 16, 8, 96, 25, 5, 21, 6, 182, 0, 204]
abbrev dktX9_blockSum_4 : List UInt8 := dkwX9_blockSum_4 ++ dktX9_blockSum_5
def dkwX9_blockSum_3 : List UInt8 := [21, 4, 4, 96, 42, 180, 0, 133, 16, 16, 21, 4, 104, 16, 8, 96, 182, 0, 200, 42, 42, 180, 0, 133]
abbrev dktX9_blockSum_3 : List UInt8 := dkwX9_blockSum_3 ++ dktX9_blockSum_4
def dkwX9_blockSum_2 : List UInt8 := [4, 96, 42, 180, 0, 133, 16, 16, 21, 4, 104, 182, 0, 200, 42, 27, 28, 29, 5, 108, 96, 29, 5, 108]
abbrev dktX9_blockSum_2 : List UInt8 := dkwX9_blockSum_2 ++ dktX9_blockSum_3
def dkwX9_blockSum_1 : List UInt8 := [17, 1, 144, 27, 104, 28, 96, 47, 25, 5, 21, 6, 182, 0, 196, 177, 42, 27, 28, 29, 5, 108, 21, 4]
abbrev dktX9_blockSum_1 : List UInt8 := dkwX9_blockSum_1 ++ dktX9_blockSum_2
def dkwX9_blockSum_0 : List UInt8 := [29, 4, 160, 0, 36, 42, 42, 180, 0, 13, 17, 1, 144, 27, 104, 28, 96, 46, 42, 180, 0, 16]
abbrev dktX9_blockSum_0 : List UInt8 := dkwX9_blockSum_0 ++ dktX9_blockSum_1
theorem dksX9_blockSum_0 : cX9_blockSum.data.toList.drop 0 = dktX9_blockSum_0 := by decide +kernel
theorem dksX9_blockSum_1 : cX9_blockSum.data.toList.drop 22 = dktX9_blockSum_1 := dk_seg dksX9_blockSum_0 22 rfl rfl
theorem dksX9_blockSum_2 : cX9_blockSum.data.toList.drop 46 = dktX9_blockSum_2 := dk_seg dksX9_blockSum_1 24 rfl rfl
theorem dksX9_blockSum_3 : cX9_blockSum.data.toList.drop 70 = dktX9_blockSum_3 := dk_seg dksX9_blockSum_2 24 rfl rfl
theorem dksX9_blockSum_4 : cX9_blockSum.data.toList.drop 94 = dktX9_blockSum_4 := dk_seg dksX9_blockSum_3 24 rfl rfl
theorem dksX9_blockSum_5 : cX9_blockSum.data.toList.drop 118 = dktX9_blockSum_5 := dk_seg dksX9_blockSum_4 24 rfl rfl
theorem dX9_blockSum_0 : decode cX9_blockSum 0 = .ok (.iload_n 3, 1) := dk_29 (dk_at dksX9_blockSum_0 0 rfl rfl)
theorem dX9_blockSum_1 : decode cX9_blockSum 1 = .ok (.iconst 1, 1) := dk_4 (dk_at dksX9_blockSum_0 1 rfl rfl)
theorem dX9_blockSum_2 : decode cX9_blockSum 2 = .ok (.if_icmp .ne 36, 3) := dk_160 0 36 (dk_at dksX9_blockSum_0 2 rfl rfl)
theorem dX9_blockSum_5 : decode cX9_blockSum 5 = .ok (.aload_n 0, 1) := dk_42 (dk_at dksX9_blockSum_0 5 rfl rfl)
theorem dX9_blockSum_6 : decode cX9_blockSum 6 = .ok (.aload_n 0, 1) := dk_42 (dk_at dksX9_blockSum_0 6 rfl rfl)
theorem dX9_blockSum_7 : decode cX9_blockSum 7 = .ok (.getfield 13, 3) := dk_180 0 13 (dk_at dksX9_blockSum_0 7 rfl rfl)
theorem dX9_blockSum_10 : decode cX9_blockSum 10 = .ok (.sipush 400, 3) := dk_17 1 144 (dk_at dksX9_blockSum_0 10 rfl rfl)
theorem dX9_blockSum_13 : decode cX9_blockSum 13 = .ok (.iload_n 1, 1) := dk_27 (dk_at dksX9_blockSum_0 13 rfl rfl)
theorem dX9_blockSum_14 : decode cX9_blockSum 14 = .ok (.imul, 1) := dk_104 (dk_at dksX9_blockSum_0 14 rfl rfl)
theorem dX9_blockSum_15 : decode cX9_blockSum 15 = .ok (.iload_n 2, 1) := dk_28 (dk_at dksX9_blockSum_0 15 rfl rfl)
theorem dX9_blockSum_16 : decode cX9_blockSum 16 = .ok (.iadd, 1) := dk_96 (dk_at dksX9_blockSum_0 16 rfl rfl)
theorem dX9_blockSum_17 : decode cX9_blockSum 17 = .ok (.iaload, 1) := dk_46 (dk_at dksX9_blockSum_0 17 rfl rfl)
theorem dX9_blockSum_18 : decode cX9_blockSum 18 = .ok (.aload_n 0, 1) := dk_42 (dk_at dksX9_blockSum_0 18 rfl rfl)
theorem dX9_blockSum_19 : decode cX9_blockSum 19 = .ok (.getfield 16, 3) := dk_180 0 16 (dk_at dksX9_blockSum_0 19 rfl rfl)
theorem dX9_blockSum_22 : decode cX9_blockSum 22 = .ok (.sipush 400, 3) := dk_17 1 144 (dk_at dksX9_blockSum_1 0 rfl rfl)
theorem dX9_blockSum_25 : decode cX9_blockSum 25 = .ok (.iload_n 1, 1) := dk_27 (dk_at dksX9_blockSum_1 3 rfl rfl)
theorem dX9_blockSum_26 : decode cX9_blockSum 26 = .ok (.imul, 1) := dk_104 (dk_at dksX9_blockSum_1 4 rfl rfl)
theorem dX9_blockSum_27 : decode cX9_blockSum 27 = .ok (.iload_n 2, 1) := dk_28 (dk_at dksX9_blockSum_1 5 rfl rfl)
theorem dX9_blockSum_28 : decode cX9_blockSum 28 = .ok (.iadd, 1) := dk_96 (dk_at dksX9_blockSum_1 6 rfl rfl)
theorem dX9_blockSum_29 : decode cX9_blockSum 29 = .ok (.laload, 1) := dk_47 (dk_at dksX9_blockSum_1 7 rfl rfl)
theorem dX9_blockSum_30 : decode cX9_blockSum 30 = .ok (.aload 5, 2) := dk_25 5 (dk_at dksX9_blockSum_1 8 rfl rfl)
theorem dX9_blockSum_32 : decode cX9_blockSum 32 = .ok (.iload 6, 2) := dk_21 6 (dk_at dksX9_blockSum_1 10 rfl rfl)
theorem dX9_blockSum_34 : decode cX9_blockSum 34 = .ok (.invokevirtual 196, 3) := dk_182 0 196 (dk_at dksX9_blockSum_1 12 rfl rfl)
theorem dX9_blockSum_37 : decode cX9_blockSum 37 = .ok (.return_, 1) := dk_177 (dk_at dksX9_blockSum_1 15 rfl rfl)
theorem dX9_blockSum_38 : decode cX9_blockSum 38 = .ok (.aload_n 0, 1) := dk_42 (dk_at dksX9_blockSum_1 16 rfl rfl)
theorem dX9_blockSum_39 : decode cX9_blockSum 39 = .ok (.iload_n 1, 1) := dk_27 (dk_at dksX9_blockSum_1 17 rfl rfl)
theorem dX9_blockSum_40 : decode cX9_blockSum 40 = .ok (.iload_n 2, 1) := dk_28 (dk_at dksX9_blockSum_1 18 rfl rfl)
theorem dX9_blockSum_41 : decode cX9_blockSum 41 = .ok (.iload_n 3, 1) := dk_29 (dk_at dksX9_blockSum_1 19 rfl rfl)
theorem dX9_blockSum_42 : decode cX9_blockSum 42 = .ok (.iconst 2, 1) := dk_5 (dk_at dksX9_blockSum_1 20 rfl rfl)
theorem dX9_blockSum_43 : decode cX9_blockSum 43 = .ok (.idiv, 1) := dk_108 (dk_at dksX9_blockSum_1 21 rfl rfl)
theorem dX9_blockSum_44 : decode cX9_blockSum 44 = .ok (.iload 4, 2) := dk_21 4 (dk_at dksX9_blockSum_1 22 rfl rfl)
theorem dX9_blockSum_46 : decode cX9_blockSum 46 = .ok (.iconst 1, 1) := dk_4 (dk_at dksX9_blockSum_2 0 rfl rfl)
theorem dX9_blockSum_47 : decode cX9_blockSum 47 = .ok (.iadd, 1) := dk_96 (dk_at dksX9_blockSum_2 1 rfl rfl)
theorem dX9_blockSum_48 : decode cX9_blockSum 48 = .ok (.aload_n 0, 1) := dk_42 (dk_at dksX9_blockSum_2 2 rfl rfl)
theorem dX9_blockSum_49 : decode cX9_blockSum 49 = .ok (.getfield 133, 3) := dk_180 0 133 (dk_at dksX9_blockSum_2 3 rfl rfl)
theorem dX9_blockSum_52 : decode cX9_blockSum 52 = .ok (.bipush 16, 2) := dk_16 16 (dk_at dksX9_blockSum_2 6 rfl rfl)
theorem dX9_blockSum_54 : decode cX9_blockSum 54 = .ok (.iload 4, 2) := dk_21 4 (dk_at dksX9_blockSum_2 8 rfl rfl)
theorem dX9_blockSum_56 : decode cX9_blockSum 56 = .ok (.imul, 1) := dk_104 (dk_at dksX9_blockSum_2 10 rfl rfl)
theorem dX9_blockSum_57 : decode cX9_blockSum 57 = .ok (.invokevirtual 200, 3) := dk_182 0 200 (dk_at dksX9_blockSum_2 11 rfl rfl)
theorem dX9_blockSum_60 : decode cX9_blockSum 60 = .ok (.aload_n 0, 1) := dk_42 (dk_at dksX9_blockSum_2 14 rfl rfl)
theorem dX9_blockSum_61 : decode cX9_blockSum 61 = .ok (.iload_n 1, 1) := dk_27 (dk_at dksX9_blockSum_2 15 rfl rfl)
theorem dX9_blockSum_62 : decode cX9_blockSum 62 = .ok (.iload_n 2, 1) := dk_28 (dk_at dksX9_blockSum_2 16 rfl rfl)
theorem dX9_blockSum_63 : decode cX9_blockSum 63 = .ok (.iload_n 3, 1) := dk_29 (dk_at dksX9_blockSum_2 17 rfl rfl)
theorem dX9_blockSum_64 : decode cX9_blockSum 64 = .ok (.iconst 2, 1) := dk_5 (dk_at dksX9_blockSum_2 18 rfl rfl)
theorem dX9_blockSum_65 : decode cX9_blockSum 65 = .ok (.idiv, 1) := dk_108 (dk_at dksX9_blockSum_2 19 rfl rfl)
theorem dX9_blockSum_66 : decode cX9_blockSum 66 = .ok (.iadd, 1) := dk_96 (dk_at dksX9_blockSum_2 20 rfl rfl)
theorem dX9_blockSum_67 : decode cX9_blockSum 67 = .ok (.iload_n 3, 1) := dk_29 (dk_at dksX9_blockSum_2 21 rfl rfl)
theorem dX9_blockSum_68 : decode cX9_blockSum 68 = .ok (.iconst 2, 1) := dk_5 (dk_at dksX9_blockSum_2 22 rfl rfl)
theorem dX9_blockSum_69 : decode cX9_blockSum 69 = .ok (.idiv, 1) := dk_108 (dk_at dksX9_blockSum_2 23 rfl rfl)
theorem dX9_blockSum_70 : decode cX9_blockSum 70 = .ok (.iload 4, 2) := dk_21 4 (dk_at dksX9_blockSum_3 0 rfl rfl)
theorem dX9_blockSum_72 : decode cX9_blockSum 72 = .ok (.iconst 1, 1) := dk_4 (dk_at dksX9_blockSum_3 2 rfl rfl)
theorem dX9_blockSum_73 : decode cX9_blockSum 73 = .ok (.iadd, 1) := dk_96 (dk_at dksX9_blockSum_3 3 rfl rfl)
theorem dX9_blockSum_74 : decode cX9_blockSum 74 = .ok (.aload_n 0, 1) := dk_42 (dk_at dksX9_blockSum_3 4 rfl rfl)
theorem dX9_blockSum_75 : decode cX9_blockSum 75 = .ok (.getfield 133, 3) := dk_180 0 133 (dk_at dksX9_blockSum_3 5 rfl rfl)
theorem dX9_blockSum_78 : decode cX9_blockSum 78 = .ok (.bipush 16, 2) := dk_16 16 (dk_at dksX9_blockSum_3 8 rfl rfl)
theorem dX9_blockSum_80 : decode cX9_blockSum 80 = .ok (.iload 4, 2) := dk_21 4 (dk_at dksX9_blockSum_3 10 rfl rfl)
theorem dX9_blockSum_82 : decode cX9_blockSum 82 = .ok (.imul, 1) := dk_104 (dk_at dksX9_blockSum_3 12 rfl rfl)
theorem dX9_blockSum_83 : decode cX9_blockSum 83 = .ok (.bipush 8, 2) := dk_16 8 (dk_at dksX9_blockSum_3 13 rfl rfl)
theorem dX9_blockSum_85 : decode cX9_blockSum 85 = .ok (.iadd, 1) := dk_96 (dk_at dksX9_blockSum_3 15 rfl rfl)
theorem dX9_blockSum_86 : decode cX9_blockSum 86 = .ok (.invokevirtual 200, 3) := dk_182 0 200 (dk_at dksX9_blockSum_3 16 rfl rfl)
theorem dX9_blockSum_89 : decode cX9_blockSum 89 = .ok (.aload_n 0, 1) := dk_42 (dk_at dksX9_blockSum_3 19 rfl rfl)
theorem dX9_blockSum_90 : decode cX9_blockSum 90 = .ok (.aload_n 0, 1) := dk_42 (dk_at dksX9_blockSum_3 20 rfl rfl)
theorem dX9_blockSum_91 : decode cX9_blockSum 91 = .ok (.getfield 133, 3) := dk_180 0 133 (dk_at dksX9_blockSum_3 21 rfl rfl)
theorem dX9_blockSum_94 : decode cX9_blockSum 94 = .ok (.bipush 16, 2) := dk_16 16 (dk_at dksX9_blockSum_4 0 rfl rfl)
theorem dX9_blockSum_96 : decode cX9_blockSum 96 = .ok (.iload 4, 2) := dk_21 4 (dk_at dksX9_blockSum_4 2 rfl rfl)
theorem dX9_blockSum_98 : decode cX9_blockSum 98 = .ok (.imul, 1) := dk_104 (dk_at dksX9_blockSum_4 4 rfl rfl)
theorem dX9_blockSum_99 : decode cX9_blockSum 99 = .ok (.aload_n 0, 1) := dk_42 (dk_at dksX9_blockSum_4 5 rfl rfl)
theorem dX9_blockSum_100 : decode cX9_blockSum 100 = .ok (.getfield 133, 3) := dk_180 0 133 (dk_at dksX9_blockSum_4 6 rfl rfl)
theorem dX9_blockSum_103 : decode cX9_blockSum 103 = .ok (.bipush 16, 2) := dk_16 16 (dk_at dksX9_blockSum_4 9 rfl rfl)
theorem dX9_blockSum_105 : decode cX9_blockSum 105 = .ok (.iload 4, 2) := dk_21 4 (dk_at dksX9_blockSum_4 11 rfl rfl)
theorem dX9_blockSum_107 : decode cX9_blockSum 107 = .ok (.imul, 1) := dk_104 (dk_at dksX9_blockSum_4 13 rfl rfl)
theorem dX9_blockSum_108 : decode cX9_blockSum 108 = .ok (.bipush 8, 2) := dk_16 8 (dk_at dksX9_blockSum_4 14 rfl rfl)
theorem dX9_blockSum_110 : decode cX9_blockSum 110 = .ok (.iadd, 1) := dk_96 (dk_at dksX9_blockSum_4 16 rfl rfl)
theorem dX9_blockSum_111 : decode cX9_blockSum 111 = .ok (.aload 5, 2) := dk_25 5 (dk_at dksX9_blockSum_4 17 rfl rfl)
theorem dX9_blockSum_113 : decode cX9_blockSum 113 = .ok (.iload 6, 2) := dk_21 6 (dk_at dksX9_blockSum_4 19 rfl rfl)
theorem dX9_blockSum_115 : decode cX9_blockSum 115 = .ok (.invokevirtual 204, 3) := dk_182 0 204 (dk_at dksX9_blockSum_4 21 rfl rfl)
theorem dX9_blockSum_118 : decode cX9_blockSum 118 = .ok (.return_, 1) := dk_177 (dk_at dksX9_blockSum_5 0 rfl rfl)
abbrev cX9_entrySum : ByteArray := prog_17_method_5_code
def yX9_entrySum : MethodName := ⟨RX9, "entrySum", "(IJ[II)V"⟩
def dkwX9_entrySum_1 : List UInt8 := [79, 42, 180, 0, 127, 6, 32, 136, 79, 42, 7, 182, 0, 188, 42, 25, 4, 21, 5, 182, 0, 192, 177]
abbrev dktX9_entrySum_1 : List UInt8 := dkwX9_entrySum_1 ++ []
def dkwX9_entrySum_0 : List UInt8 := [42, 180, 0, 127, 3, 4, 79, 42, 180, 0, 127, 4, 27, 79, 42, 180, 0, 127, 5, 32, 16, 32, 123, 136]
abbrev dktX9_entrySum_0 : List UInt8 := dkwX9_entrySum_0 ++ dktX9_entrySum_1
theorem dksX9_entrySum_0 : cX9_entrySum.data.toList.drop 0 = dktX9_entrySum_0 := by decide +kernel
theorem dksX9_entrySum_1 : cX9_entrySum.data.toList.drop 24 = dktX9_entrySum_1 := dk_seg dksX9_entrySum_0 24 rfl rfl
theorem dX9_entrySum_0 : decode cX9_entrySum 0 = .ok (.aload_n 0, 1) := dk_42 (dk_at dksX9_entrySum_0 0 rfl rfl)
theorem dX9_entrySum_1 : decode cX9_entrySum 1 = .ok (.getfield 127, 3) := dk_180 0 127 (dk_at dksX9_entrySum_0 1 rfl rfl)
theorem dX9_entrySum_4 : decode cX9_entrySum 4 = .ok (.iconst 0, 1) := dk_3 (dk_at dksX9_entrySum_0 4 rfl rfl)
theorem dX9_entrySum_5 : decode cX9_entrySum 5 = .ok (.iconst 1, 1) := dk_4 (dk_at dksX9_entrySum_0 5 rfl rfl)
theorem dX9_entrySum_6 : decode cX9_entrySum 6 = .ok (.iastore, 1) := dk_79 (dk_at dksX9_entrySum_0 6 rfl rfl)
theorem dX9_entrySum_7 : decode cX9_entrySum 7 = .ok (.aload_n 0, 1) := dk_42 (dk_at dksX9_entrySum_0 7 rfl rfl)
theorem dX9_entrySum_8 : decode cX9_entrySum 8 = .ok (.getfield 127, 3) := dk_180 0 127 (dk_at dksX9_entrySum_0 8 rfl rfl)
theorem dX9_entrySum_11 : decode cX9_entrySum 11 = .ok (.iconst 1, 1) := dk_4 (dk_at dksX9_entrySum_0 11 rfl rfl)
theorem dX9_entrySum_12 : decode cX9_entrySum 12 = .ok (.iload_n 1, 1) := dk_27 (dk_at dksX9_entrySum_0 12 rfl rfl)
theorem dX9_entrySum_13 : decode cX9_entrySum 13 = .ok (.iastore, 1) := dk_79 (dk_at dksX9_entrySum_0 13 rfl rfl)
theorem dX9_entrySum_14 : decode cX9_entrySum 14 = .ok (.aload_n 0, 1) := dk_42 (dk_at dksX9_entrySum_0 14 rfl rfl)
theorem dX9_entrySum_15 : decode cX9_entrySum 15 = .ok (.getfield 127, 3) := dk_180 0 127 (dk_at dksX9_entrySum_0 15 rfl rfl)
theorem dX9_entrySum_18 : decode cX9_entrySum 18 = .ok (.iconst 2, 1) := dk_5 (dk_at dksX9_entrySum_0 18 rfl rfl)
theorem dX9_entrySum_19 : decode cX9_entrySum 19 = .ok (.lload_n 2, 1) := dk_32 (dk_at dksX9_entrySum_0 19 rfl rfl)
theorem dX9_entrySum_20 : decode cX9_entrySum 20 = .ok (.bipush 32, 2) := dk_16 32 (dk_at dksX9_entrySum_0 20 rfl rfl)
theorem dX9_entrySum_22 : decode cX9_entrySum 22 = .ok (.lshr, 1) := dk_123 (dk_at dksX9_entrySum_0 22 rfl rfl)
theorem dX9_entrySum_23 : decode cX9_entrySum 23 = .ok (.l2i, 1) := dk_136 (dk_at dksX9_entrySum_0 23 rfl rfl)
theorem dX9_entrySum_24 : decode cX9_entrySum 24 = .ok (.iastore, 1) := dk_79 (dk_at dksX9_entrySum_1 0 rfl rfl)
theorem dX9_entrySum_25 : decode cX9_entrySum 25 = .ok (.aload_n 0, 1) := dk_42 (dk_at dksX9_entrySum_1 1 rfl rfl)
theorem dX9_entrySum_26 : decode cX9_entrySum 26 = .ok (.getfield 127, 3) := dk_180 0 127 (dk_at dksX9_entrySum_1 2 rfl rfl)
theorem dX9_entrySum_29 : decode cX9_entrySum 29 = .ok (.iconst 3, 1) := dk_6 (dk_at dksX9_entrySum_1 5 rfl rfl)
theorem dX9_entrySum_30 : decode cX9_entrySum 30 = .ok (.lload_n 2, 1) := dk_32 (dk_at dksX9_entrySum_1 6 rfl rfl)
theorem dX9_entrySum_31 : decode cX9_entrySum 31 = .ok (.l2i, 1) := dk_136 (dk_at dksX9_entrySum_1 7 rfl rfl)
theorem dX9_entrySum_32 : decode cX9_entrySum 32 = .ok (.iastore, 1) := dk_79 (dk_at dksX9_entrySum_1 8 rfl rfl)
theorem dX9_entrySum_33 : decode cX9_entrySum 33 = .ok (.aload_n 0, 1) := dk_42 (dk_at dksX9_entrySum_1 9 rfl rfl)
theorem dX9_entrySum_34 : decode cX9_entrySum 34 = .ok (.iconst 4, 1) := dk_7 (dk_at dksX9_entrySum_1 10 rfl rfl)
theorem dX9_entrySum_35 : decode cX9_entrySum 35 = .ok (.invokevirtual 188, 3) := dk_182 0 188 (dk_at dksX9_entrySum_1 11 rfl rfl)
theorem dX9_entrySum_38 : decode cX9_entrySum 38 = .ok (.aload_n 0, 1) := dk_42 (dk_at dksX9_entrySum_1 14 rfl rfl)
theorem dX9_entrySum_39 : decode cX9_entrySum 39 = .ok (.aload 4, 2) := dk_25 4 (dk_at dksX9_entrySum_1 15 rfl rfl)
theorem dX9_entrySum_41 : decode cX9_entrySum 41 = .ok (.iload 5, 2) := dk_21 5 (dk_at dksX9_entrySum_1 17 rfl rfl)
theorem dX9_entrySum_43 : decode cX9_entrySum 43 = .ok (.invokevirtual 192, 3) := dk_182 0 192 (dk_at dksX9_entrySum_1 19 rfl rfl)
theorem dX9_entrySum_46 : decode cX9_entrySum 46 = .ok (.return_, 1) := dk_177 (dk_at dksX9_entrySum_1 22 rfl rfl)
abbrev cX9_join : ByteArray := prog_17_method_6_code
def yX9_join : MethodName := ⟨RX9, "join", "([II[II[II)V"⟩
def dkwX9_join_2 : List UInt8 := [79, 132, 7, 1, 167, 255, 214, 42, 16, 17, 182, 0, 188, 42, 25, 5, 21, 6, 182, 0, 192, 177]
abbrev dktX9_join_2 : List UInt8 := dkwX9_join_2 ++ []
def dkwX9_join_1 : List UInt8 := [96, 43, 28, 21, 7, 96, 46, 79, 42, 180, 0, 127, 16, 9, 21, 7, 96, 45, 21, 4, 21, 7, 96, 46]
abbrev dktX9_join_1 : List UInt8 := dkwX9_join_1 ++ dktX9_join_2
def dkwX9_join_0 : List UInt8 := [42, 180, 0, 127, 3, 5, 79, 3, 54, 7, 21, 7, 16, 8, 162, 0, 41, 42, 180, 0, 127, 4, 21, 7]
abbrev dktX9_join_0 : List UInt8 := dkwX9_join_0 ++ dktX9_join_1
theorem dksX9_join_0 : cX9_join.data.toList.drop 0 = dktX9_join_0 := by decide +kernel
theorem dksX9_join_1 : cX9_join.data.toList.drop 24 = dktX9_join_1 := dk_seg dksX9_join_0 24 rfl rfl
theorem dksX9_join_2 : cX9_join.data.toList.drop 48 = dktX9_join_2 := dk_seg dksX9_join_1 24 rfl rfl
theorem dX9_join_0 : decode cX9_join 0 = .ok (.aload_n 0, 1) := dk_42 (dk_at dksX9_join_0 0 rfl rfl)
theorem dX9_join_1 : decode cX9_join 1 = .ok (.getfield 127, 3) := dk_180 0 127 (dk_at dksX9_join_0 1 rfl rfl)
theorem dX9_join_4 : decode cX9_join 4 = .ok (.iconst 0, 1) := dk_3 (dk_at dksX9_join_0 4 rfl rfl)
theorem dX9_join_5 : decode cX9_join 5 = .ok (.iconst 2, 1) := dk_5 (dk_at dksX9_join_0 5 rfl rfl)
theorem dX9_join_6 : decode cX9_join 6 = .ok (.iastore, 1) := dk_79 (dk_at dksX9_join_0 6 rfl rfl)
theorem dX9_join_7 : decode cX9_join 7 = .ok (.iconst 0, 1) := dk_3 (dk_at dksX9_join_0 7 rfl rfl)
theorem dX9_join_8 : decode cX9_join 8 = .ok (.istore 7, 2) := dk_54 7 (dk_at dksX9_join_0 8 rfl rfl)
theorem dX9_join_10 : decode cX9_join 10 = .ok (.iload 7, 2) := dk_21 7 (dk_at dksX9_join_0 10 rfl rfl)
theorem dX9_join_12 : decode cX9_join 12 = .ok (.bipush 8, 2) := dk_16 8 (dk_at dksX9_join_0 12 rfl rfl)
theorem dX9_join_14 : decode cX9_join 14 = .ok (.if_icmp .ge 41, 3) := dk_162 0 41 (dk_at dksX9_join_0 14 rfl rfl)
theorem dX9_join_17 : decode cX9_join 17 = .ok (.aload_n 0, 1) := dk_42 (dk_at dksX9_join_0 17 rfl rfl)
theorem dX9_join_18 : decode cX9_join 18 = .ok (.getfield 127, 3) := dk_180 0 127 (dk_at dksX9_join_0 18 rfl rfl)
theorem dX9_join_21 : decode cX9_join 21 = .ok (.iconst 1, 1) := dk_4 (dk_at dksX9_join_0 21 rfl rfl)
theorem dX9_join_22 : decode cX9_join 22 = .ok (.iload 7, 2) := dk_21 7 (dk_at dksX9_join_0 22 rfl rfl)
theorem dX9_join_24 : decode cX9_join 24 = .ok (.iadd, 1) := dk_96 (dk_at dksX9_join_1 0 rfl rfl)
theorem dX9_join_25 : decode cX9_join 25 = .ok (.aload_n 1, 1) := dk_43 (dk_at dksX9_join_1 1 rfl rfl)
theorem dX9_join_26 : decode cX9_join 26 = .ok (.iload_n 2, 1) := dk_28 (dk_at dksX9_join_1 2 rfl rfl)
theorem dX9_join_27 : decode cX9_join 27 = .ok (.iload 7, 2) := dk_21 7 (dk_at dksX9_join_1 3 rfl rfl)
theorem dX9_join_29 : decode cX9_join 29 = .ok (.iadd, 1) := dk_96 (dk_at dksX9_join_1 5 rfl rfl)
theorem dX9_join_30 : decode cX9_join 30 = .ok (.iaload, 1) := dk_46 (dk_at dksX9_join_1 6 rfl rfl)
theorem dX9_join_31 : decode cX9_join 31 = .ok (.iastore, 1) := dk_79 (dk_at dksX9_join_1 7 rfl rfl)
theorem dX9_join_32 : decode cX9_join 32 = .ok (.aload_n 0, 1) := dk_42 (dk_at dksX9_join_1 8 rfl rfl)
theorem dX9_join_33 : decode cX9_join 33 = .ok (.getfield 127, 3) := dk_180 0 127 (dk_at dksX9_join_1 9 rfl rfl)
theorem dX9_join_36 : decode cX9_join 36 = .ok (.bipush 9, 2) := dk_16 9 (dk_at dksX9_join_1 12 rfl rfl)
theorem dX9_join_38 : decode cX9_join 38 = .ok (.iload 7, 2) := dk_21 7 (dk_at dksX9_join_1 14 rfl rfl)
theorem dX9_join_40 : decode cX9_join 40 = .ok (.iadd, 1) := dk_96 (dk_at dksX9_join_1 16 rfl rfl)
theorem dX9_join_41 : decode cX9_join 41 = .ok (.aload_n 3, 1) := dk_45 (dk_at dksX9_join_1 17 rfl rfl)
theorem dX9_join_42 : decode cX9_join 42 = .ok (.iload 4, 2) := dk_21 4 (dk_at dksX9_join_1 18 rfl rfl)
theorem dX9_join_44 : decode cX9_join 44 = .ok (.iload 7, 2) := dk_21 7 (dk_at dksX9_join_1 20 rfl rfl)
theorem dX9_join_46 : decode cX9_join 46 = .ok (.iadd, 1) := dk_96 (dk_at dksX9_join_1 22 rfl rfl)
theorem dX9_join_47 : decode cX9_join 47 = .ok (.iaload, 1) := dk_46 (dk_at dksX9_join_1 23 rfl rfl)
theorem dX9_join_48 : decode cX9_join 48 = .ok (.iastore, 1) := dk_79 (dk_at dksX9_join_2 0 rfl rfl)
theorem dX9_join_49 : decode cX9_join 49 = .ok (.iinc 7 1, 3) := dk_132 7 1 (dk_at dksX9_join_2 1 rfl rfl)
theorem dX9_join_52 : decode cX9_join 52 = .ok (.goto (-42), 3) := dk_167 255 214 (dk_at dksX9_join_2 4 rfl rfl)
theorem dX9_join_55 : decode cX9_join 55 = .ok (.aload_n 0, 1) := dk_42 (dk_at dksX9_join_2 7 rfl rfl)
theorem dX9_join_56 : decode cX9_join 56 = .ok (.bipush 17, 2) := dk_16 17 (dk_at dksX9_join_2 8 rfl rfl)
theorem dX9_join_58 : decode cX9_join 58 = .ok (.invokevirtual 188, 3) := dk_182 0 188 (dk_at dksX9_join_2 10 rfl rfl)
theorem dX9_join_61 : decode cX9_join 61 = .ok (.aload_n 0, 1) := dk_42 (dk_at dksX9_join_2 13 rfl rfl)
theorem dX9_join_62 : decode cX9_join 62 = .ok (.aload 5, 2) := dk_25 5 (dk_at dksX9_join_2 14 rfl rfl)
theorem dX9_join_64 : decode cX9_join 64 = .ok (.iload 6, 2) := dk_21 6 (dk_at dksX9_join_2 16 rfl rfl)
theorem dX9_join_66 : decode cX9_join 66 = .ok (.invokevirtual 192, 3) := dk_182 0 192 (dk_at dksX9_join_2 18 rfl rfl)
theorem dX9_join_69 : decode cX9_join 69 = .ok (.return_, 1) := dk_177 (dk_at dksX9_join_2 21 rfl rfl)
abbrev cX9_lay : ByteArray := prog_17_method_9_code
def yX9_lay : MethodName := ⟨RX9, "lay", "(II[II)V"⟩
def dkwX9_lay_8 : List UInt8 := [5, 104, 79, 42, 89, 180, 0, 208, 4, 100, 181, 0, 208, 167, 255, 127, 177]
abbrev dktX9_lay_8 : List UInt8 := dkwX9_lay_8 ++ []
def dkwX9_lay_7 : List UInt8 := [16, 8, 42, 180, 0, 208, 5, 100, 104, 182, 0, 204, 42, 180, 0, 139, 42, 180, 0, 208, 5, 100, 92, 46]
abbrev dktX9_lay_7 : List UInt8 := dkwX9_lay_7 ++ dktX9_lay_8
def dkwX9_lay_6 : List UInt8 := [180, 0, 208, 5, 100, 104, 42, 180, 0, 142, 16, 8, 42, 180, 0, 208, 4, 100, 104, 42, 180, 0, 142]
abbrev dktX9_lay_6 : List UInt8 := dkwX9_lay_6 ++ dktX9_lay_7
def dkwX9_lay_5 : List UInt8 := [180, 0, 139, 42, 180, 0, 208, 4, 100, 46, 104, 112, 154, 0, 74, 42, 42, 180, 0, 142, 16, 8, 42]
abbrev dktX9_lay_5 : List UInt8 := dkwX9_lay_5 ++ dktX9_lay_6
def dkwX9_lay_4 : List UInt8 := [180, 0, 208, 5, 100, 46, 160, 0, 102, 42, 180, 0, 136, 42, 180, 0, 208, 5, 100, 46, 5, 42]
abbrev dktX9_lay_4 : List UInt8 := dkwX9_lay_4 ++ dktX9_lay_5
def dkwX9_lay_3 : List UInt8 := [180, 0, 208, 4, 164, 0, 127, 42, 180, 0, 139, 42, 180, 0, 208, 4, 100, 46, 42, 180, 0, 139, 42]
abbrev dktX9_lay_3 : List UInt8 := dkwX9_lay_3 ++ dktX9_lay_4
def dkwX9_lay_2 : List UInt8 := [21, 5, 96, 46, 79, 132, 5, 1, 167, 255, 224, 42, 89, 180, 0, 208, 4, 96, 181, 0, 208, 42]
abbrev dktX9_lay_2 : List UInt8 := dkwX9_lay_2 ++ dktX9_lay_3
def dkwX9_lay_1 : List UInt8 := [21, 5, 16, 8, 162, 0, 31, 42, 180, 0, 142, 16, 8, 42, 180, 0, 208, 104, 21, 5, 96, 45, 21, 4]
abbrev dktX9_lay_1 : List UInt8 := dkwX9_lay_1 ++ dktX9_lay_2
def dkwX9_lay_0 : List UInt8 := [42, 180, 0, 136, 42, 180, 0, 208, 27, 79, 42, 180, 0, 139, 42, 180, 0, 208, 28, 79, 3, 54, 5]
abbrev dktX9_lay_0 : List UInt8 := dkwX9_lay_0 ++ dktX9_lay_1
theorem dksX9_lay_0 : cX9_lay.data.toList.drop 0 = dktX9_lay_0 := by decide +kernel
theorem dksX9_lay_1 : cX9_lay.data.toList.drop 23 = dktX9_lay_1 := dk_seg dksX9_lay_0 23 rfl rfl
theorem dksX9_lay_2 : cX9_lay.data.toList.drop 47 = dktX9_lay_2 := dk_seg dksX9_lay_1 24 rfl rfl
theorem dksX9_lay_3 : cX9_lay.data.toList.drop 69 = dktX9_lay_3 := dk_seg dksX9_lay_2 22 rfl rfl
theorem dksX9_lay_4 : cX9_lay.data.toList.drop 92 = dktX9_lay_4 := dk_seg dksX9_lay_3 23 rfl rfl
theorem dksX9_lay_5 : cX9_lay.data.toList.drop 114 = dktX9_lay_5 := dk_seg dksX9_lay_4 22 rfl rfl
theorem dksX9_lay_6 : cX9_lay.data.toList.drop 137 = dktX9_lay_6 := dk_seg dksX9_lay_5 23 rfl rfl
theorem dksX9_lay_7 : cX9_lay.data.toList.drop 160 = dktX9_lay_7 := dk_seg dksX9_lay_6 23 rfl rfl
theorem dksX9_lay_8 : cX9_lay.data.toList.drop 184 = dktX9_lay_8 := dk_seg dksX9_lay_7 24 rfl rfl
theorem dX9_lay_0 : decode cX9_lay 0 = .ok (.aload_n 0, 1) := dk_42 (dk_at dksX9_lay_0 0 rfl rfl)
theorem dX9_lay_1 : decode cX9_lay 1 = .ok (.getfield 136, 3) := dk_180 0 136 (dk_at dksX9_lay_0 1 rfl rfl)
theorem dX9_lay_4 : decode cX9_lay 4 = .ok (.aload_n 0, 1) := dk_42 (dk_at dksX9_lay_0 4 rfl rfl)
theorem dX9_lay_5 : decode cX9_lay 5 = .ok (.getfield 208, 3) := dk_180 0 208 (dk_at dksX9_lay_0 5 rfl rfl)
theorem dX9_lay_8 : decode cX9_lay 8 = .ok (.iload_n 1, 1) := dk_27 (dk_at dksX9_lay_0 8 rfl rfl)
theorem dX9_lay_9 : decode cX9_lay 9 = .ok (.iastore, 1) := dk_79 (dk_at dksX9_lay_0 9 rfl rfl)
theorem dX9_lay_10 : decode cX9_lay 10 = .ok (.aload_n 0, 1) := dk_42 (dk_at dksX9_lay_0 10 rfl rfl)
theorem dX9_lay_11 : decode cX9_lay 11 = .ok (.getfield 139, 3) := dk_180 0 139 (dk_at dksX9_lay_0 11 rfl rfl)
theorem dX9_lay_14 : decode cX9_lay 14 = .ok (.aload_n 0, 1) := dk_42 (dk_at dksX9_lay_0 14 rfl rfl)
theorem dX9_lay_15 : decode cX9_lay 15 = .ok (.getfield 208, 3) := dk_180 0 208 (dk_at dksX9_lay_0 15 rfl rfl)
theorem dX9_lay_18 : decode cX9_lay 18 = .ok (.iload_n 2, 1) := dk_28 (dk_at dksX9_lay_0 18 rfl rfl)
theorem dX9_lay_19 : decode cX9_lay 19 = .ok (.iastore, 1) := dk_79 (dk_at dksX9_lay_0 19 rfl rfl)
theorem dX9_lay_20 : decode cX9_lay 20 = .ok (.iconst 0, 1) := dk_3 (dk_at dksX9_lay_0 20 rfl rfl)
theorem dX9_lay_21 : decode cX9_lay 21 = .ok (.istore 5, 2) := dk_54 5 (dk_at dksX9_lay_0 21 rfl rfl)
theorem dX9_lay_23 : decode cX9_lay 23 = .ok (.iload 5, 2) := dk_21 5 (dk_at dksX9_lay_1 0 rfl rfl)
theorem dX9_lay_25 : decode cX9_lay 25 = .ok (.bipush 8, 2) := dk_16 8 (dk_at dksX9_lay_1 2 rfl rfl)
theorem dX9_lay_27 : decode cX9_lay 27 = .ok (.if_icmp .ge 31, 3) := dk_162 0 31 (dk_at dksX9_lay_1 4 rfl rfl)
theorem dX9_lay_30 : decode cX9_lay 30 = .ok (.aload_n 0, 1) := dk_42 (dk_at dksX9_lay_1 7 rfl rfl)
theorem dX9_lay_31 : decode cX9_lay 31 = .ok (.getfield 142, 3) := dk_180 0 142 (dk_at dksX9_lay_1 8 rfl rfl)
theorem dX9_lay_34 : decode cX9_lay 34 = .ok (.bipush 8, 2) := dk_16 8 (dk_at dksX9_lay_1 11 rfl rfl)
theorem dX9_lay_36 : decode cX9_lay 36 = .ok (.aload_n 0, 1) := dk_42 (dk_at dksX9_lay_1 13 rfl rfl)
theorem dX9_lay_37 : decode cX9_lay 37 = .ok (.getfield 208, 3) := dk_180 0 208 (dk_at dksX9_lay_1 14 rfl rfl)
theorem dX9_lay_40 : decode cX9_lay 40 = .ok (.imul, 1) := dk_104 (dk_at dksX9_lay_1 17 rfl rfl)
theorem dX9_lay_41 : decode cX9_lay 41 = .ok (.iload 5, 2) := dk_21 5 (dk_at dksX9_lay_1 18 rfl rfl)
theorem dX9_lay_43 : decode cX9_lay 43 = .ok (.iadd, 1) := dk_96 (dk_at dksX9_lay_1 20 rfl rfl)
theorem dX9_lay_44 : decode cX9_lay 44 = .ok (.aload_n 3, 1) := dk_45 (dk_at dksX9_lay_1 21 rfl rfl)
theorem dX9_lay_45 : decode cX9_lay 45 = .ok (.iload 4, 2) := dk_21 4 (dk_at dksX9_lay_1 22 rfl rfl)
theorem dX9_lay_47 : decode cX9_lay 47 = .ok (.iload 5, 2) := dk_21 5 (dk_at dksX9_lay_2 0 rfl rfl)
theorem dX9_lay_49 : decode cX9_lay 49 = .ok (.iadd, 1) := dk_96 (dk_at dksX9_lay_2 2 rfl rfl)
theorem dX9_lay_50 : decode cX9_lay 50 = .ok (.iaload, 1) := dk_46 (dk_at dksX9_lay_2 3 rfl rfl)
theorem dX9_lay_51 : decode cX9_lay 51 = .ok (.iastore, 1) := dk_79 (dk_at dksX9_lay_2 4 rfl rfl)
theorem dX9_lay_52 : decode cX9_lay 52 = .ok (.iinc 5 1, 3) := dk_132 5 1 (dk_at dksX9_lay_2 5 rfl rfl)
theorem dX9_lay_55 : decode cX9_lay 55 = .ok (.goto (-32), 3) := dk_167 255 224 (dk_at dksX9_lay_2 8 rfl rfl)
theorem dX9_lay_58 : decode cX9_lay 58 = .ok (.aload_n 0, 1) := dk_42 (dk_at dksX9_lay_2 11 rfl rfl)
theorem dX9_lay_59 : decode cX9_lay 59 = .ok (.dup, 1) := dk_89 (dk_at dksX9_lay_2 12 rfl rfl)
theorem dX9_lay_60 : decode cX9_lay 60 = .ok (.getfield 208, 3) := dk_180 0 208 (dk_at dksX9_lay_2 13 rfl rfl)
theorem dX9_lay_63 : decode cX9_lay 63 = .ok (.iconst 1, 1) := dk_4 (dk_at dksX9_lay_2 16 rfl rfl)
theorem dX9_lay_64 : decode cX9_lay 64 = .ok (.iadd, 1) := dk_96 (dk_at dksX9_lay_2 17 rfl rfl)
theorem dX9_lay_65 : decode cX9_lay 65 = .ok (.putfield 208, 3) := dk_181 0 208 (dk_at dksX9_lay_2 18 rfl rfl)
theorem dX9_lay_68 : decode cX9_lay 68 = .ok (.aload_n 0, 1) := dk_42 (dk_at dksX9_lay_2 21 rfl rfl)
theorem dX9_lay_69 : decode cX9_lay 69 = .ok (.getfield 208, 3) := dk_180 0 208 (dk_at dksX9_lay_3 0 rfl rfl)
theorem dX9_lay_72 : decode cX9_lay 72 = .ok (.iconst 1, 1) := dk_4 (dk_at dksX9_lay_3 3 rfl rfl)
theorem dX9_lay_73 : decode cX9_lay 73 = .ok (.if_icmp .le 127, 3) := dk_164 0 127 (dk_at dksX9_lay_3 4 rfl rfl)
theorem dX9_lay_76 : decode cX9_lay 76 = .ok (.aload_n 0, 1) := dk_42 (dk_at dksX9_lay_3 7 rfl rfl)
theorem dX9_lay_77 : decode cX9_lay 77 = .ok (.getfield 139, 3) := dk_180 0 139 (dk_at dksX9_lay_3 8 rfl rfl)
theorem dX9_lay_80 : decode cX9_lay 80 = .ok (.aload_n 0, 1) := dk_42 (dk_at dksX9_lay_3 11 rfl rfl)
theorem dX9_lay_81 : decode cX9_lay 81 = .ok (.getfield 208, 3) := dk_180 0 208 (dk_at dksX9_lay_3 12 rfl rfl)
theorem dX9_lay_84 : decode cX9_lay 84 = .ok (.iconst 1, 1) := dk_4 (dk_at dksX9_lay_3 15 rfl rfl)
theorem dX9_lay_85 : decode cX9_lay 85 = .ok (.isub, 1) := dk_100 (dk_at dksX9_lay_3 16 rfl rfl)
theorem dX9_lay_86 : decode cX9_lay 86 = .ok (.iaload, 1) := dk_46 (dk_at dksX9_lay_3 17 rfl rfl)
theorem dX9_lay_87 : decode cX9_lay 87 = .ok (.aload_n 0, 1) := dk_42 (dk_at dksX9_lay_3 18 rfl rfl)
theorem dX9_lay_88 : decode cX9_lay 88 = .ok (.getfield 139, 3) := dk_180 0 139 (dk_at dksX9_lay_3 19 rfl rfl)
theorem dX9_lay_91 : decode cX9_lay 91 = .ok (.aload_n 0, 1) := dk_42 (dk_at dksX9_lay_3 22 rfl rfl)
theorem dX9_lay_92 : decode cX9_lay 92 = .ok (.getfield 208, 3) := dk_180 0 208 (dk_at dksX9_lay_4 0 rfl rfl)
theorem dX9_lay_95 : decode cX9_lay 95 = .ok (.iconst 2, 1) := dk_5 (dk_at dksX9_lay_4 3 rfl rfl)
theorem dX9_lay_96 : decode cX9_lay 96 = .ok (.isub, 1) := dk_100 (dk_at dksX9_lay_4 4 rfl rfl)
theorem dX9_lay_97 : decode cX9_lay 97 = .ok (.iaload, 1) := dk_46 (dk_at dksX9_lay_4 5 rfl rfl)
theorem dX9_lay_98 : decode cX9_lay 98 = .ok (.if_icmp .ne 102, 3) := dk_160 0 102 (dk_at dksX9_lay_4 6 rfl rfl)
theorem dX9_lay_101 : decode cX9_lay 101 = .ok (.aload_n 0, 1) := dk_42 (dk_at dksX9_lay_4 9 rfl rfl)
theorem dX9_lay_102 : decode cX9_lay 102 = .ok (.getfield 136, 3) := dk_180 0 136 (dk_at dksX9_lay_4 10 rfl rfl)
theorem dX9_lay_105 : decode cX9_lay 105 = .ok (.aload_n 0, 1) := dk_42 (dk_at dksX9_lay_4 13 rfl rfl)
theorem dX9_lay_106 : decode cX9_lay 106 = .ok (.getfield 208, 3) := dk_180 0 208 (dk_at dksX9_lay_4 14 rfl rfl)
theorem dX9_lay_109 : decode cX9_lay 109 = .ok (.iconst 2, 1) := dk_5 (dk_at dksX9_lay_4 17 rfl rfl)
theorem dX9_lay_110 : decode cX9_lay 110 = .ok (.isub, 1) := dk_100 (dk_at dksX9_lay_4 18 rfl rfl)
theorem dX9_lay_111 : decode cX9_lay 111 = .ok (.iaload, 1) := dk_46 (dk_at dksX9_lay_4 19 rfl rfl)
theorem dX9_lay_112 : decode cX9_lay 112 = .ok (.iconst 2, 1) := dk_5 (dk_at dksX9_lay_4 20 rfl rfl)
theorem dX9_lay_113 : decode cX9_lay 113 = .ok (.aload_n 0, 1) := dk_42 (dk_at dksX9_lay_4 21 rfl rfl)
theorem dX9_lay_114 : decode cX9_lay 114 = .ok (.getfield 139, 3) := dk_180 0 139 (dk_at dksX9_lay_5 0 rfl rfl)
theorem dX9_lay_117 : decode cX9_lay 117 = .ok (.aload_n 0, 1) := dk_42 (dk_at dksX9_lay_5 3 rfl rfl)
theorem dX9_lay_118 : decode cX9_lay 118 = .ok (.getfield 208, 3) := dk_180 0 208 (dk_at dksX9_lay_5 4 rfl rfl)
theorem dX9_lay_121 : decode cX9_lay 121 = .ok (.iconst 1, 1) := dk_4 (dk_at dksX9_lay_5 7 rfl rfl)
theorem dX9_lay_122 : decode cX9_lay 122 = .ok (.isub, 1) := dk_100 (dk_at dksX9_lay_5 8 rfl rfl)
theorem dX9_lay_123 : decode cX9_lay 123 = .ok (.iaload, 1) := dk_46 (dk_at dksX9_lay_5 9 rfl rfl)
theorem dX9_lay_124 : decode cX9_lay 124 = .ok (.imul, 1) := dk_104 (dk_at dksX9_lay_5 10 rfl rfl)
theorem dX9_lay_125 : decode cX9_lay 125 = .ok (.irem, 1) := dk_112 (dk_at dksX9_lay_5 11 rfl rfl)
theorem dX9_lay_126 : decode cX9_lay 126 = .ok (.ifCond .ne 74, 3) := dk_154 0 74 (dk_at dksX9_lay_5 12 rfl rfl)
theorem dX9_lay_129 : decode cX9_lay 129 = .ok (.aload_n 0, 1) := dk_42 (dk_at dksX9_lay_5 15 rfl rfl)
theorem dX9_lay_130 : decode cX9_lay 130 = .ok (.aload_n 0, 1) := dk_42 (dk_at dksX9_lay_5 16 rfl rfl)
theorem dX9_lay_131 : decode cX9_lay 131 = .ok (.getfield 142, 3) := dk_180 0 142 (dk_at dksX9_lay_5 17 rfl rfl)
theorem dX9_lay_134 : decode cX9_lay 134 = .ok (.bipush 8, 2) := dk_16 8 (dk_at dksX9_lay_5 20 rfl rfl)
theorem dX9_lay_136 : decode cX9_lay 136 = .ok (.aload_n 0, 1) := dk_42 (dk_at dksX9_lay_5 22 rfl rfl)
theorem dX9_lay_137 : decode cX9_lay 137 = .ok (.getfield 208, 3) := dk_180 0 208 (dk_at dksX9_lay_6 0 rfl rfl)
theorem dX9_lay_140 : decode cX9_lay 140 = .ok (.iconst 2, 1) := dk_5 (dk_at dksX9_lay_6 3 rfl rfl)
theorem dX9_lay_141 : decode cX9_lay 141 = .ok (.isub, 1) := dk_100 (dk_at dksX9_lay_6 4 rfl rfl)
theorem dX9_lay_142 : decode cX9_lay 142 = .ok (.imul, 1) := dk_104 (dk_at dksX9_lay_6 5 rfl rfl)
theorem dX9_lay_143 : decode cX9_lay 143 = .ok (.aload_n 0, 1) := dk_42 (dk_at dksX9_lay_6 6 rfl rfl)
theorem dX9_lay_144 : decode cX9_lay 144 = .ok (.getfield 142, 3) := dk_180 0 142 (dk_at dksX9_lay_6 7 rfl rfl)
theorem dX9_lay_147 : decode cX9_lay 147 = .ok (.bipush 8, 2) := dk_16 8 (dk_at dksX9_lay_6 10 rfl rfl)
theorem dX9_lay_149 : decode cX9_lay 149 = .ok (.aload_n 0, 1) := dk_42 (dk_at dksX9_lay_6 12 rfl rfl)
theorem dX9_lay_150 : decode cX9_lay 150 = .ok (.getfield 208, 3) := dk_180 0 208 (dk_at dksX9_lay_6 13 rfl rfl)
theorem dX9_lay_153 : decode cX9_lay 153 = .ok (.iconst 1, 1) := dk_4 (dk_at dksX9_lay_6 16 rfl rfl)
theorem dX9_lay_154 : decode cX9_lay 154 = .ok (.isub, 1) := dk_100 (dk_at dksX9_lay_6 17 rfl rfl)
theorem dX9_lay_155 : decode cX9_lay 155 = .ok (.imul, 1) := dk_104 (dk_at dksX9_lay_6 18 rfl rfl)
theorem dX9_lay_156 : decode cX9_lay 156 = .ok (.aload_n 0, 1) := dk_42 (dk_at dksX9_lay_6 19 rfl rfl)
theorem dX9_lay_157 : decode cX9_lay 157 = .ok (.getfield 142, 3) := dk_180 0 142 (dk_at dksX9_lay_6 20 rfl rfl)
theorem dX9_lay_160 : decode cX9_lay 160 = .ok (.bipush 8, 2) := dk_16 8 (dk_at dksX9_lay_7 0 rfl rfl)
theorem dX9_lay_162 : decode cX9_lay 162 = .ok (.aload_n 0, 1) := dk_42 (dk_at dksX9_lay_7 2 rfl rfl)
theorem dX9_lay_163 : decode cX9_lay 163 = .ok (.getfield 208, 3) := dk_180 0 208 (dk_at dksX9_lay_7 3 rfl rfl)
theorem dX9_lay_166 : decode cX9_lay 166 = .ok (.iconst 2, 1) := dk_5 (dk_at dksX9_lay_7 6 rfl rfl)
theorem dX9_lay_167 : decode cX9_lay 167 = .ok (.isub, 1) := dk_100 (dk_at dksX9_lay_7 7 rfl rfl)
theorem dX9_lay_168 : decode cX9_lay 168 = .ok (.imul, 1) := dk_104 (dk_at dksX9_lay_7 8 rfl rfl)
theorem dX9_lay_169 : decode cX9_lay 169 = .ok (.invokevirtual 204, 3) := dk_182 0 204 (dk_at dksX9_lay_7 9 rfl rfl)
theorem dX9_lay_172 : decode cX9_lay 172 = .ok (.aload_n 0, 1) := dk_42 (dk_at dksX9_lay_7 12 rfl rfl)
theorem dX9_lay_173 : decode cX9_lay 173 = .ok (.getfield 139, 3) := dk_180 0 139 (dk_at dksX9_lay_7 13 rfl rfl)
theorem dX9_lay_176 : decode cX9_lay 176 = .ok (.aload_n 0, 1) := dk_42 (dk_at dksX9_lay_7 16 rfl rfl)
theorem dX9_lay_177 : decode cX9_lay 177 = .ok (.getfield 208, 3) := dk_180 0 208 (dk_at dksX9_lay_7 17 rfl rfl)
theorem dX9_lay_180 : decode cX9_lay 180 = .ok (.iconst 2, 1) := dk_5 (dk_at dksX9_lay_7 20 rfl rfl)
theorem dX9_lay_181 : decode cX9_lay 181 = .ok (.isub, 1) := dk_100 (dk_at dksX9_lay_7 21 rfl rfl)
theorem dX9_lay_182 : decode cX9_lay 182 = .ok (.dup2, 1) := dk_92 (dk_at dksX9_lay_7 22 rfl rfl)
theorem dX9_lay_183 : decode cX9_lay 183 = .ok (.iaload, 1) := dk_46 (dk_at dksX9_lay_7 23 rfl rfl)
theorem dX9_lay_184 : decode cX9_lay 184 = .ok (.iconst 2, 1) := dk_5 (dk_at dksX9_lay_8 0 rfl rfl)
theorem dX9_lay_185 : decode cX9_lay 185 = .ok (.imul, 1) := dk_104 (dk_at dksX9_lay_8 1 rfl rfl)
theorem dX9_lay_186 : decode cX9_lay 186 = .ok (.iastore, 1) := dk_79 (dk_at dksX9_lay_8 2 rfl rfl)
theorem dX9_lay_187 : decode cX9_lay 187 = .ok (.aload_n 0, 1) := dk_42 (dk_at dksX9_lay_8 3 rfl rfl)
theorem dX9_lay_188 : decode cX9_lay 188 = .ok (.dup, 1) := dk_89 (dk_at dksX9_lay_8 4 rfl rfl)
theorem dX9_lay_189 : decode cX9_lay 189 = .ok (.getfield 208, 3) := dk_180 0 208 (dk_at dksX9_lay_8 5 rfl rfl)
theorem dX9_lay_192 : decode cX9_lay 192 = .ok (.iconst 1, 1) := dk_4 (dk_at dksX9_lay_8 8 rfl rfl)
theorem dX9_lay_193 : decode cX9_lay 193 = .ok (.isub, 1) := dk_100 (dk_at dksX9_lay_8 9 rfl rfl)
theorem dX9_lay_194 : decode cX9_lay 194 = .ok (.putfield 208, 3) := dk_181 0 208 (dk_at dksX9_lay_8 10 rfl rfl)
theorem dX9_lay_197 : decode cX9_lay 197 = .ok (.goto (-129), 3) := dk_167 255 127 (dk_at dksX9_lay_8 13 rfl rfl)
theorem dX9_lay_200 : decode cX9_lay 200 = .ok (.return_, 1) := dk_177 (dk_at dksX9_lay_8 16 rfl rfl)
abbrev cX9_top : ByteArray := prog_17_method_10_code
def yX9_top : MethodName := ⟨RX9, "top", "([II)V"⟩
def dkwX9_top_5 : List UInt8 := [180, 0, 145, 29, 46, 79, 132, 3, 1, 167, 255, 236, 177]
abbrev dktX9_top_5 : List UInt8 := dkwX9_top_5 ++ []
def dkwX9_top_4 : List UInt8 := [182, 0, 204, 132, 3, 255, 167, 255, 227, 3, 62, 29, 16, 8, 162, 0, 20, 43, 28, 29, 96, 42]
abbrev dktX9_top_4 : List UInt8 := dkwX9_top_4 ++ dktX9_top_5
def dkwX9_top_3 : List UInt8 := [155, 0, 31, 42, 42, 180, 0, 142, 16, 8, 29, 104, 42, 180, 0, 145, 3, 42, 180, 0, 145, 3]
abbrev dktX9_top_3 : List UInt8 := dkwX9_top_3 ++ dktX9_top_4
def dkwX9_top_2 : List UInt8 := [180, 0, 208, 4, 100, 104, 29, 96, 46, 79, 132, 3, 1, 167, 255, 225, 42, 180, 0, 208, 5, 100, 62, 29]
abbrev dktX9_top_2 : List UInt8 := dkwX9_top_2 ++ dktX9_top_3
def dkwX9_top_1 : List UInt8 := [154, 0, 4, 177, 3, 62, 29, 16, 8, 162, 0, 31, 42, 180, 0, 145, 29, 42, 180, 0, 142, 16, 8, 42]
abbrev dktX9_top_1 : List UInt8 := dkwX9_top_1 ++ dktX9_top_2
def dkwX9_top_0 : List UInt8 := [3, 62, 29, 16, 8, 162, 0, 15, 43, 28, 29, 96, 3, 79, 132, 3, 1, 167, 255, 241, 42, 180, 0, 208]
abbrev dktX9_top_0 : List UInt8 := dkwX9_top_0 ++ dktX9_top_1
theorem dksX9_top_0 : cX9_top.data.toList.drop 0 = dktX9_top_0 := by decide +kernel
theorem dksX9_top_1 : cX9_top.data.toList.drop 24 = dktX9_top_1 := dk_seg dksX9_top_0 24 rfl rfl
theorem dksX9_top_2 : cX9_top.data.toList.drop 48 = dktX9_top_2 := dk_seg dksX9_top_1 24 rfl rfl
theorem dksX9_top_3 : cX9_top.data.toList.drop 72 = dktX9_top_3 := dk_seg dksX9_top_2 24 rfl rfl
theorem dksX9_top_4 : cX9_top.data.toList.drop 94 = dktX9_top_4 := dk_seg dksX9_top_3 22 rfl rfl
theorem dksX9_top_5 : cX9_top.data.toList.drop 116 = dktX9_top_5 := dk_seg dksX9_top_4 22 rfl rfl
theorem dX9_top_0 : decode cX9_top 0 = .ok (.iconst 0, 1) := dk_3 (dk_at dksX9_top_0 0 rfl rfl)
theorem dX9_top_1 : decode cX9_top 1 = .ok (.istore_n 3, 1) := dk_62 (dk_at dksX9_top_0 1 rfl rfl)
theorem dX9_top_2 : decode cX9_top 2 = .ok (.iload_n 3, 1) := dk_29 (dk_at dksX9_top_0 2 rfl rfl)
theorem dX9_top_3 : decode cX9_top 3 = .ok (.bipush 8, 2) := dk_16 8 (dk_at dksX9_top_0 3 rfl rfl)
theorem dX9_top_5 : decode cX9_top 5 = .ok (.if_icmp .ge 15, 3) := dk_162 0 15 (dk_at dksX9_top_0 5 rfl rfl)
theorem dX9_top_8 : decode cX9_top 8 = .ok (.aload_n 1, 1) := dk_43 (dk_at dksX9_top_0 8 rfl rfl)
theorem dX9_top_9 : decode cX9_top 9 = .ok (.iload_n 2, 1) := dk_28 (dk_at dksX9_top_0 9 rfl rfl)
theorem dX9_top_10 : decode cX9_top 10 = .ok (.iload_n 3, 1) := dk_29 (dk_at dksX9_top_0 10 rfl rfl)
theorem dX9_top_11 : decode cX9_top 11 = .ok (.iadd, 1) := dk_96 (dk_at dksX9_top_0 11 rfl rfl)
theorem dX9_top_12 : decode cX9_top 12 = .ok (.iconst 0, 1) := dk_3 (dk_at dksX9_top_0 12 rfl rfl)
theorem dX9_top_13 : decode cX9_top 13 = .ok (.iastore, 1) := dk_79 (dk_at dksX9_top_0 13 rfl rfl)
theorem dX9_top_14 : decode cX9_top 14 = .ok (.iinc 3 1, 3) := dk_132 3 1 (dk_at dksX9_top_0 14 rfl rfl)
theorem dX9_top_17 : decode cX9_top 17 = .ok (.goto (-15), 3) := dk_167 255 241 (dk_at dksX9_top_0 17 rfl rfl)
theorem dX9_top_20 : decode cX9_top 20 = .ok (.aload_n 0, 1) := dk_42 (dk_at dksX9_top_0 20 rfl rfl)
theorem dX9_top_21 : decode cX9_top 21 = .ok (.getfield 208, 3) := dk_180 0 208 (dk_at dksX9_top_0 21 rfl rfl)
theorem dX9_top_24 : decode cX9_top 24 = .ok (.ifCond .ne 4, 3) := dk_154 0 4 (dk_at dksX9_top_1 0 rfl rfl)
theorem dX9_top_27 : decode cX9_top 27 = .ok (.return_, 1) := dk_177 (dk_at dksX9_top_1 3 rfl rfl)
theorem dX9_top_28 : decode cX9_top 28 = .ok (.iconst 0, 1) := dk_3 (dk_at dksX9_top_1 4 rfl rfl)
theorem dX9_top_29 : decode cX9_top 29 = .ok (.istore_n 3, 1) := dk_62 (dk_at dksX9_top_1 5 rfl rfl)
theorem dX9_top_30 : decode cX9_top 30 = .ok (.iload_n 3, 1) := dk_29 (dk_at dksX9_top_1 6 rfl rfl)
theorem dX9_top_31 : decode cX9_top 31 = .ok (.bipush 8, 2) := dk_16 8 (dk_at dksX9_top_1 7 rfl rfl)
theorem dX9_top_33 : decode cX9_top 33 = .ok (.if_icmp .ge 31, 3) := dk_162 0 31 (dk_at dksX9_top_1 9 rfl rfl)
theorem dX9_top_36 : decode cX9_top 36 = .ok (.aload_n 0, 1) := dk_42 (dk_at dksX9_top_1 12 rfl rfl)
theorem dX9_top_37 : decode cX9_top 37 = .ok (.getfield 145, 3) := dk_180 0 145 (dk_at dksX9_top_1 13 rfl rfl)
theorem dX9_top_40 : decode cX9_top 40 = .ok (.iload_n 3, 1) := dk_29 (dk_at dksX9_top_1 16 rfl rfl)
theorem dX9_top_41 : decode cX9_top 41 = .ok (.aload_n 0, 1) := dk_42 (dk_at dksX9_top_1 17 rfl rfl)
theorem dX9_top_42 : decode cX9_top 42 = .ok (.getfield 142, 3) := dk_180 0 142 (dk_at dksX9_top_1 18 rfl rfl)
theorem dX9_top_45 : decode cX9_top 45 = .ok (.bipush 8, 2) := dk_16 8 (dk_at dksX9_top_1 21 rfl rfl)
theorem dX9_top_47 : decode cX9_top 47 = .ok (.aload_n 0, 1) := dk_42 (dk_at dksX9_top_1 23 rfl rfl)
theorem dX9_top_48 : decode cX9_top 48 = .ok (.getfield 208, 3) := dk_180 0 208 (dk_at dksX9_top_2 0 rfl rfl)
theorem dX9_top_51 : decode cX9_top 51 = .ok (.iconst 1, 1) := dk_4 (dk_at dksX9_top_2 3 rfl rfl)
theorem dX9_top_52 : decode cX9_top 52 = .ok (.isub, 1) := dk_100 (dk_at dksX9_top_2 4 rfl rfl)
theorem dX9_top_53 : decode cX9_top 53 = .ok (.imul, 1) := dk_104 (dk_at dksX9_top_2 5 rfl rfl)
theorem dX9_top_54 : decode cX9_top 54 = .ok (.iload_n 3, 1) := dk_29 (dk_at dksX9_top_2 6 rfl rfl)
theorem dX9_top_55 : decode cX9_top 55 = .ok (.iadd, 1) := dk_96 (dk_at dksX9_top_2 7 rfl rfl)
theorem dX9_top_56 : decode cX9_top 56 = .ok (.iaload, 1) := dk_46 (dk_at dksX9_top_2 8 rfl rfl)
theorem dX9_top_57 : decode cX9_top 57 = .ok (.iastore, 1) := dk_79 (dk_at dksX9_top_2 9 rfl rfl)
theorem dX9_top_58 : decode cX9_top 58 = .ok (.iinc 3 1, 3) := dk_132 3 1 (dk_at dksX9_top_2 10 rfl rfl)
theorem dX9_top_61 : decode cX9_top 61 = .ok (.goto (-31), 3) := dk_167 255 225 (dk_at dksX9_top_2 13 rfl rfl)
theorem dX9_top_64 : decode cX9_top 64 = .ok (.aload_n 0, 1) := dk_42 (dk_at dksX9_top_2 16 rfl rfl)
theorem dX9_top_65 : decode cX9_top 65 = .ok (.getfield 208, 3) := dk_180 0 208 (dk_at dksX9_top_2 17 rfl rfl)
theorem dX9_top_68 : decode cX9_top 68 = .ok (.iconst 2, 1) := dk_5 (dk_at dksX9_top_2 20 rfl rfl)
theorem dX9_top_69 : decode cX9_top 69 = .ok (.isub, 1) := dk_100 (dk_at dksX9_top_2 21 rfl rfl)
theorem dX9_top_70 : decode cX9_top 70 = .ok (.istore_n 3, 1) := dk_62 (dk_at dksX9_top_2 22 rfl rfl)
theorem dX9_top_71 : decode cX9_top 71 = .ok (.iload_n 3, 1) := dk_29 (dk_at dksX9_top_2 23 rfl rfl)
theorem dX9_top_72 : decode cX9_top 72 = .ok (.ifCond .lt 31, 3) := dk_155 0 31 (dk_at dksX9_top_3 0 rfl rfl)
theorem dX9_top_75 : decode cX9_top 75 = .ok (.aload_n 0, 1) := dk_42 (dk_at dksX9_top_3 3 rfl rfl)
theorem dX9_top_76 : decode cX9_top 76 = .ok (.aload_n 0, 1) := dk_42 (dk_at dksX9_top_3 4 rfl rfl)
theorem dX9_top_77 : decode cX9_top 77 = .ok (.getfield 142, 3) := dk_180 0 142 (dk_at dksX9_top_3 5 rfl rfl)
theorem dX9_top_80 : decode cX9_top 80 = .ok (.bipush 8, 2) := dk_16 8 (dk_at dksX9_top_3 8 rfl rfl)
theorem dX9_top_82 : decode cX9_top 82 = .ok (.iload_n 3, 1) := dk_29 (dk_at dksX9_top_3 10 rfl rfl)
theorem dX9_top_83 : decode cX9_top 83 = .ok (.imul, 1) := dk_104 (dk_at dksX9_top_3 11 rfl rfl)
theorem dX9_top_84 : decode cX9_top 84 = .ok (.aload_n 0, 1) := dk_42 (dk_at dksX9_top_3 12 rfl rfl)
theorem dX9_top_85 : decode cX9_top 85 = .ok (.getfield 145, 3) := dk_180 0 145 (dk_at dksX9_top_3 13 rfl rfl)
theorem dX9_top_88 : decode cX9_top 88 = .ok (.iconst 0, 1) := dk_3 (dk_at dksX9_top_3 16 rfl rfl)
theorem dX9_top_89 : decode cX9_top 89 = .ok (.aload_n 0, 1) := dk_42 (dk_at dksX9_top_3 17 rfl rfl)
theorem dX9_top_90 : decode cX9_top 90 = .ok (.getfield 145, 3) := dk_180 0 145 (dk_at dksX9_top_3 18 rfl rfl)
theorem dX9_top_93 : decode cX9_top 93 = .ok (.iconst 0, 1) := dk_3 (dk_at dksX9_top_3 21 rfl rfl)
theorem dX9_top_94 : decode cX9_top 94 = .ok (.invokevirtual 204, 3) := dk_182 0 204 (dk_at dksX9_top_4 0 rfl rfl)
theorem dX9_top_97 : decode cX9_top 97 = .ok (.iinc 3 (-1), 3) := dk_132 3 255 (dk_at dksX9_top_4 3 rfl rfl)
theorem dX9_top_100 : decode cX9_top 100 = .ok (.goto (-29), 3) := dk_167 255 227 (dk_at dksX9_top_4 6 rfl rfl)
theorem dX9_top_103 : decode cX9_top 103 = .ok (.iconst 0, 1) := dk_3 (dk_at dksX9_top_4 9 rfl rfl)
theorem dX9_top_104 : decode cX9_top 104 = .ok (.istore_n 3, 1) := dk_62 (dk_at dksX9_top_4 10 rfl rfl)
theorem dX9_top_105 : decode cX9_top 105 = .ok (.iload_n 3, 1) := dk_29 (dk_at dksX9_top_4 11 rfl rfl)
theorem dX9_top_106 : decode cX9_top 106 = .ok (.bipush 8, 2) := dk_16 8 (dk_at dksX9_top_4 12 rfl rfl)
theorem dX9_top_108 : decode cX9_top 108 = .ok (.if_icmp .ge 20, 3) := dk_162 0 20 (dk_at dksX9_top_4 14 rfl rfl)
theorem dX9_top_111 : decode cX9_top 111 = .ok (.aload_n 1, 1) := dk_43 (dk_at dksX9_top_4 17 rfl rfl)
theorem dX9_top_112 : decode cX9_top 112 = .ok (.iload_n 2, 1) := dk_28 (dk_at dksX9_top_4 18 rfl rfl)
theorem dX9_top_113 : decode cX9_top 113 = .ok (.iload_n 3, 1) := dk_29 (dk_at dksX9_top_4 19 rfl rfl)
theorem dX9_top_114 : decode cX9_top 114 = .ok (.iadd, 1) := dk_96 (dk_at dksX9_top_4 20 rfl rfl)
theorem dX9_top_115 : decode cX9_top 115 = .ok (.aload_n 0, 1) := dk_42 (dk_at dksX9_top_4 21 rfl rfl)
theorem dX9_top_116 : decode cX9_top 116 = .ok (.getfield 145, 3) := dk_180 0 145 (dk_at dksX9_top_5 0 rfl rfl)
theorem dX9_top_119 : decode cX9_top 119 = .ok (.iload_n 3, 1) := dk_29 (dk_at dksX9_top_5 3 rfl rfl)
theorem dX9_top_120 : decode cX9_top 120 = .ok (.iaload, 1) := dk_46 (dk_at dksX9_top_5 4 rfl rfl)
theorem dX9_top_121 : decode cX9_top 121 = .ok (.iastore, 1) := dk_79 (dk_at dksX9_top_5 5 rfl rfl)
theorem dX9_top_122 : decode cX9_top 122 = .ok (.iinc 3 1, 3) := dk_132 3 1 (dk_at dksX9_top_5 6 rfl rfl)
theorem dX9_top_125 : decode cX9_top 125 = .ok (.goto (-20), 3) := dk_167 255 236 (dk_at dksX9_top_5 9 rfl rfl)
theorem dX9_top_128 : decode cX9_top 128 = .ok (.return_, 1) := dk_177 (dk_at dksX9_top_5 12 rfl rfl)
abbrev cX9_tree : ByteArray := prog_17_method_20_code
def yX9_tree : MethodName := ⟨RX9, "tree", "(III[II)V"⟩
def dkwX9_tree_6 : List UInt8 := [25, 4, 21, 5, 182, 0, 204, 177]
abbrev dktX9_tree_6 : List UInt8 := dkwX9_tree_6 ++ []
def dkwX9_tree_5 : List UInt8 := [182, 0, 249, 42, 42, 180, 0, 166, 16, 16, 29, 104, 42, 180, 0, 166, 16, 16, 29, 104, 16, 8, 96]
abbrev dktX9_tree_5 : List UInt8 := dkwX9_tree_5 ++ dktX9_tree_6
def dkwX9_tree_4 : List UInt8 := [104, 182, 0, 249, 42, 21, 6, 28, 29, 4, 96, 42, 180, 0, 166, 16, 16, 29, 104, 16, 8, 96]
abbrev dktX9_tree_4 : List UInt8 := dkwX9_tree_4 ++ dktX9_tree_5
def dkwX9_tree_3 : List UInt8 := [177, 42, 27, 28, 29, 182, 0, 245, 54, 6, 42, 27, 21, 6, 29, 4, 96, 42, 180, 0, 166, 16, 16, 29]
abbrev dktX9_tree_3 : List UInt8 := dkwX9_tree_3 ++ dktX9_tree_4
def dkwX9_tree_2 : List UInt8 := [46, 46, 42, 180, 0, 154, 42, 180, 0, 160, 27, 46, 46, 182, 0, 241, 42, 25, 4, 21, 5, 182, 0, 192]
abbrev dktX9_tree_2 : List UInt8 := dkwX9_tree_2 ++ dktX9_tree_3
def dkwX9_tree_1 : List UInt8 := [132, 6, 1, 167, 255, 237, 177, 28, 27, 100, 4, 160, 0, 38, 42, 42, 180, 0, 151, 42, 180, 0, 160, 27]
abbrev dktX9_tree_1 : List UInt8 := dkwX9_tree_1 ++ dktX9_tree_2
def dkwX9_tree_0 : List UInt8 := [27, 28, 160, 0, 29, 3, 54, 6, 21, 6, 16, 8, 162, 0, 18, 25, 4, 21, 5, 21, 6, 96, 3, 79]
abbrev dktX9_tree_0 : List UInt8 := dkwX9_tree_0 ++ dktX9_tree_1
theorem dksX9_tree_0 : cX9_tree.data.toList.drop 0 = dktX9_tree_0 := by decide +kernel
theorem dksX9_tree_1 : cX9_tree.data.toList.drop 24 = dktX9_tree_1 := dk_seg dksX9_tree_0 24 rfl rfl
theorem dksX9_tree_2 : cX9_tree.data.toList.drop 48 = dktX9_tree_2 := dk_seg dksX9_tree_1 24 rfl rfl
theorem dksX9_tree_3 : cX9_tree.data.toList.drop 72 = dktX9_tree_3 := dk_seg dksX9_tree_2 24 rfl rfl
theorem dksX9_tree_4 : cX9_tree.data.toList.drop 96 = dktX9_tree_4 := dk_seg dksX9_tree_3 24 rfl rfl
theorem dksX9_tree_5 : cX9_tree.data.toList.drop 118 = dktX9_tree_5 := dk_seg dksX9_tree_4 22 rfl rfl
theorem dksX9_tree_6 : cX9_tree.data.toList.drop 141 = dktX9_tree_6 := dk_seg dksX9_tree_5 23 rfl rfl
theorem dX9_tree_0 : decode cX9_tree 0 = .ok (.iload_n 1, 1) := dk_27 (dk_at dksX9_tree_0 0 rfl rfl)
theorem dX9_tree_1 : decode cX9_tree 1 = .ok (.iload_n 2, 1) := dk_28 (dk_at dksX9_tree_0 1 rfl rfl)
theorem dX9_tree_2 : decode cX9_tree 2 = .ok (.if_icmp .ne 29, 3) := dk_160 0 29 (dk_at dksX9_tree_0 2 rfl rfl)
theorem dX9_tree_5 : decode cX9_tree 5 = .ok (.iconst 0, 1) := dk_3 (dk_at dksX9_tree_0 5 rfl rfl)
theorem dX9_tree_6 : decode cX9_tree 6 = .ok (.istore 6, 2) := dk_54 6 (dk_at dksX9_tree_0 6 rfl rfl)
theorem dX9_tree_8 : decode cX9_tree 8 = .ok (.iload 6, 2) := dk_21 6 (dk_at dksX9_tree_0 8 rfl rfl)
theorem dX9_tree_10 : decode cX9_tree 10 = .ok (.bipush 8, 2) := dk_16 8 (dk_at dksX9_tree_0 10 rfl rfl)
theorem dX9_tree_12 : decode cX9_tree 12 = .ok (.if_icmp .ge 18, 3) := dk_162 0 18 (dk_at dksX9_tree_0 12 rfl rfl)
theorem dX9_tree_15 : decode cX9_tree 15 = .ok (.aload 4, 2) := dk_25 4 (dk_at dksX9_tree_0 15 rfl rfl)
theorem dX9_tree_17 : decode cX9_tree 17 = .ok (.iload 5, 2) := dk_21 5 (dk_at dksX9_tree_0 17 rfl rfl)
theorem dX9_tree_19 : decode cX9_tree 19 = .ok (.iload 6, 2) := dk_21 6 (dk_at dksX9_tree_0 19 rfl rfl)
theorem dX9_tree_21 : decode cX9_tree 21 = .ok (.iadd, 1) := dk_96 (dk_at dksX9_tree_0 21 rfl rfl)
theorem dX9_tree_22 : decode cX9_tree 22 = .ok (.iconst 0, 1) := dk_3 (dk_at dksX9_tree_0 22 rfl rfl)
theorem dX9_tree_23 : decode cX9_tree 23 = .ok (.iastore, 1) := dk_79 (dk_at dksX9_tree_0 23 rfl rfl)
theorem dX9_tree_24 : decode cX9_tree 24 = .ok (.iinc 6 1, 3) := dk_132 6 1 (dk_at dksX9_tree_1 0 rfl rfl)
theorem dX9_tree_27 : decode cX9_tree 27 = .ok (.goto (-19), 3) := dk_167 255 237 (dk_at dksX9_tree_1 3 rfl rfl)
theorem dX9_tree_30 : decode cX9_tree 30 = .ok (.return_, 1) := dk_177 (dk_at dksX9_tree_1 6 rfl rfl)
theorem dX9_tree_31 : decode cX9_tree 31 = .ok (.iload_n 2, 1) := dk_28 (dk_at dksX9_tree_1 7 rfl rfl)
theorem dX9_tree_32 : decode cX9_tree 32 = .ok (.iload_n 1, 1) := dk_27 (dk_at dksX9_tree_1 8 rfl rfl)
theorem dX9_tree_33 : decode cX9_tree 33 = .ok (.isub, 1) := dk_100 (dk_at dksX9_tree_1 9 rfl rfl)
theorem dX9_tree_34 : decode cX9_tree 34 = .ok (.iconst 1, 1) := dk_4 (dk_at dksX9_tree_1 10 rfl rfl)
theorem dX9_tree_35 : decode cX9_tree 35 = .ok (.if_icmp .ne 38, 3) := dk_160 0 38 (dk_at dksX9_tree_1 11 rfl rfl)
theorem dX9_tree_38 : decode cX9_tree 38 = .ok (.aload_n 0, 1) := dk_42 (dk_at dksX9_tree_1 14 rfl rfl)
theorem dX9_tree_39 : decode cX9_tree 39 = .ok (.aload_n 0, 1) := dk_42 (dk_at dksX9_tree_1 15 rfl rfl)
theorem dX9_tree_40 : decode cX9_tree 40 = .ok (.getfield 151, 3) := dk_180 0 151 (dk_at dksX9_tree_1 16 rfl rfl)
theorem dX9_tree_43 : decode cX9_tree 43 = .ok (.aload_n 0, 1) := dk_42 (dk_at dksX9_tree_1 19 rfl rfl)
theorem dX9_tree_44 : decode cX9_tree 44 = .ok (.getfield 160, 3) := dk_180 0 160 (dk_at dksX9_tree_1 20 rfl rfl)
theorem dX9_tree_47 : decode cX9_tree 47 = .ok (.iload_n 1, 1) := dk_27 (dk_at dksX9_tree_1 23 rfl rfl)
theorem dX9_tree_48 : decode cX9_tree 48 = .ok (.iaload, 1) := dk_46 (dk_at dksX9_tree_2 0 rfl rfl)
theorem dX9_tree_49 : decode cX9_tree 49 = .ok (.iaload, 1) := dk_46 (dk_at dksX9_tree_2 1 rfl rfl)
theorem dX9_tree_50 : decode cX9_tree 50 = .ok (.aload_n 0, 1) := dk_42 (dk_at dksX9_tree_2 2 rfl rfl)
theorem dX9_tree_51 : decode cX9_tree 51 = .ok (.getfield 154, 3) := dk_180 0 154 (dk_at dksX9_tree_2 3 rfl rfl)
theorem dX9_tree_54 : decode cX9_tree 54 = .ok (.aload_n 0, 1) := dk_42 (dk_at dksX9_tree_2 6 rfl rfl)
theorem dX9_tree_55 : decode cX9_tree 55 = .ok (.getfield 160, 3) := dk_180 0 160 (dk_at dksX9_tree_2 7 rfl rfl)
theorem dX9_tree_58 : decode cX9_tree 58 = .ok (.iload_n 1, 1) := dk_27 (dk_at dksX9_tree_2 10 rfl rfl)
theorem dX9_tree_59 : decode cX9_tree 59 = .ok (.iaload, 1) := dk_46 (dk_at dksX9_tree_2 11 rfl rfl)
theorem dX9_tree_60 : decode cX9_tree 60 = .ok (.iaload, 1) := dk_46 (dk_at dksX9_tree_2 12 rfl rfl)
theorem dX9_tree_61 : decode cX9_tree 61 = .ok (.invokevirtual 241, 3) := dk_182 0 241 (dk_at dksX9_tree_2 13 rfl rfl)
theorem dX9_tree_64 : decode cX9_tree 64 = .ok (.aload_n 0, 1) := dk_42 (dk_at dksX9_tree_2 16 rfl rfl)
theorem dX9_tree_65 : decode cX9_tree 65 = .ok (.aload 4, 2) := dk_25 4 (dk_at dksX9_tree_2 17 rfl rfl)
theorem dX9_tree_67 : decode cX9_tree 67 = .ok (.iload 5, 2) := dk_21 5 (dk_at dksX9_tree_2 19 rfl rfl)
theorem dX9_tree_69 : decode cX9_tree 69 = .ok (.invokevirtual 192, 3) := dk_182 0 192 (dk_at dksX9_tree_2 21 rfl rfl)
theorem dX9_tree_72 : decode cX9_tree 72 = .ok (.return_, 1) := dk_177 (dk_at dksX9_tree_3 0 rfl rfl)
theorem dX9_tree_73 : decode cX9_tree 73 = .ok (.aload_n 0, 1) := dk_42 (dk_at dksX9_tree_3 1 rfl rfl)
theorem dX9_tree_74 : decode cX9_tree 74 = .ok (.iload_n 1, 1) := dk_27 (dk_at dksX9_tree_3 2 rfl rfl)
theorem dX9_tree_75 : decode cX9_tree 75 = .ok (.iload_n 2, 1) := dk_28 (dk_at dksX9_tree_3 3 rfl rfl)
theorem dX9_tree_76 : decode cX9_tree 76 = .ok (.iload_n 3, 1) := dk_29 (dk_at dksX9_tree_3 4 rfl rfl)
theorem dX9_tree_77 : decode cX9_tree 77 = .ok (.invokevirtual 245, 3) := dk_182 0 245 (dk_at dksX9_tree_3 5 rfl rfl)
theorem dX9_tree_80 : decode cX9_tree 80 = .ok (.istore 6, 2) := dk_54 6 (dk_at dksX9_tree_3 8 rfl rfl)
theorem dX9_tree_82 : decode cX9_tree 82 = .ok (.aload_n 0, 1) := dk_42 (dk_at dksX9_tree_3 10 rfl rfl)
theorem dX9_tree_83 : decode cX9_tree 83 = .ok (.iload_n 1, 1) := dk_27 (dk_at dksX9_tree_3 11 rfl rfl)
theorem dX9_tree_84 : decode cX9_tree 84 = .ok (.iload 6, 2) := dk_21 6 (dk_at dksX9_tree_3 12 rfl rfl)
theorem dX9_tree_86 : decode cX9_tree 86 = .ok (.iload_n 3, 1) := dk_29 (dk_at dksX9_tree_3 14 rfl rfl)
theorem dX9_tree_87 : decode cX9_tree 87 = .ok (.iconst 1, 1) := dk_4 (dk_at dksX9_tree_3 15 rfl rfl)
theorem dX9_tree_88 : decode cX9_tree 88 = .ok (.iadd, 1) := dk_96 (dk_at dksX9_tree_3 16 rfl rfl)
theorem dX9_tree_89 : decode cX9_tree 89 = .ok (.aload_n 0, 1) := dk_42 (dk_at dksX9_tree_3 17 rfl rfl)
theorem dX9_tree_90 : decode cX9_tree 90 = .ok (.getfield 166, 3) := dk_180 0 166 (dk_at dksX9_tree_3 18 rfl rfl)
theorem dX9_tree_93 : decode cX9_tree 93 = .ok (.bipush 16, 2) := dk_16 16 (dk_at dksX9_tree_3 21 rfl rfl)
theorem dX9_tree_95 : decode cX9_tree 95 = .ok (.iload_n 3, 1) := dk_29 (dk_at dksX9_tree_3 23 rfl rfl)
theorem dX9_tree_96 : decode cX9_tree 96 = .ok (.imul, 1) := dk_104 (dk_at dksX9_tree_4 0 rfl rfl)
theorem dX9_tree_97 : decode cX9_tree 97 = .ok (.invokevirtual 249, 3) := dk_182 0 249 (dk_at dksX9_tree_4 1 rfl rfl)
theorem dX9_tree_100 : decode cX9_tree 100 = .ok (.aload_n 0, 1) := dk_42 (dk_at dksX9_tree_4 4 rfl rfl)
theorem dX9_tree_101 : decode cX9_tree 101 = .ok (.iload 6, 2) := dk_21 6 (dk_at dksX9_tree_4 5 rfl rfl)
theorem dX9_tree_103 : decode cX9_tree 103 = .ok (.iload_n 2, 1) := dk_28 (dk_at dksX9_tree_4 7 rfl rfl)
theorem dX9_tree_104 : decode cX9_tree 104 = .ok (.iload_n 3, 1) := dk_29 (dk_at dksX9_tree_4 8 rfl rfl)
theorem dX9_tree_105 : decode cX9_tree 105 = .ok (.iconst 1, 1) := dk_4 (dk_at dksX9_tree_4 9 rfl rfl)
theorem dX9_tree_106 : decode cX9_tree 106 = .ok (.iadd, 1) := dk_96 (dk_at dksX9_tree_4 10 rfl rfl)
theorem dX9_tree_107 : decode cX9_tree 107 = .ok (.aload_n 0, 1) := dk_42 (dk_at dksX9_tree_4 11 rfl rfl)
theorem dX9_tree_108 : decode cX9_tree 108 = .ok (.getfield 166, 3) := dk_180 0 166 (dk_at dksX9_tree_4 12 rfl rfl)
theorem dX9_tree_111 : decode cX9_tree 111 = .ok (.bipush 16, 2) := dk_16 16 (dk_at dksX9_tree_4 15 rfl rfl)
theorem dX9_tree_113 : decode cX9_tree 113 = .ok (.iload_n 3, 1) := dk_29 (dk_at dksX9_tree_4 17 rfl rfl)
theorem dX9_tree_114 : decode cX9_tree 114 = .ok (.imul, 1) := dk_104 (dk_at dksX9_tree_4 18 rfl rfl)
theorem dX9_tree_115 : decode cX9_tree 115 = .ok (.bipush 8, 2) := dk_16 8 (dk_at dksX9_tree_4 19 rfl rfl)
theorem dX9_tree_117 : decode cX9_tree 117 = .ok (.iadd, 1) := dk_96 (dk_at dksX9_tree_4 21 rfl rfl)
theorem dX9_tree_118 : decode cX9_tree 118 = .ok (.invokevirtual 249, 3) := dk_182 0 249 (dk_at dksX9_tree_5 0 rfl rfl)
theorem dX9_tree_121 : decode cX9_tree 121 = .ok (.aload_n 0, 1) := dk_42 (dk_at dksX9_tree_5 3 rfl rfl)
theorem dX9_tree_122 : decode cX9_tree 122 = .ok (.aload_n 0, 1) := dk_42 (dk_at dksX9_tree_5 4 rfl rfl)
theorem dX9_tree_123 : decode cX9_tree 123 = .ok (.getfield 166, 3) := dk_180 0 166 (dk_at dksX9_tree_5 5 rfl rfl)
theorem dX9_tree_126 : decode cX9_tree 126 = .ok (.bipush 16, 2) := dk_16 16 (dk_at dksX9_tree_5 8 rfl rfl)
theorem dX9_tree_128 : decode cX9_tree 128 = .ok (.iload_n 3, 1) := dk_29 (dk_at dksX9_tree_5 10 rfl rfl)
theorem dX9_tree_129 : decode cX9_tree 129 = .ok (.imul, 1) := dk_104 (dk_at dksX9_tree_5 11 rfl rfl)
theorem dX9_tree_130 : decode cX9_tree 130 = .ok (.aload_n 0, 1) := dk_42 (dk_at dksX9_tree_5 12 rfl rfl)
theorem dX9_tree_131 : decode cX9_tree 131 = .ok (.getfield 166, 3) := dk_180 0 166 (dk_at dksX9_tree_5 13 rfl rfl)
theorem dX9_tree_134 : decode cX9_tree 134 = .ok (.bipush 16, 2) := dk_16 16 (dk_at dksX9_tree_5 16 rfl rfl)
theorem dX9_tree_136 : decode cX9_tree 136 = .ok (.iload_n 3, 1) := dk_29 (dk_at dksX9_tree_5 18 rfl rfl)
theorem dX9_tree_137 : decode cX9_tree 137 = .ok (.imul, 1) := dk_104 (dk_at dksX9_tree_5 19 rfl rfl)
theorem dX9_tree_138 : decode cX9_tree 138 = .ok (.bipush 8, 2) := dk_16 8 (dk_at dksX9_tree_5 20 rfl rfl)
theorem dX9_tree_140 : decode cX9_tree 140 = .ok (.iadd, 1) := dk_96 (dk_at dksX9_tree_5 22 rfl rfl)
theorem dX9_tree_141 : decode cX9_tree 141 = .ok (.aload 4, 2) := dk_25 4 (dk_at dksX9_tree_6 0 rfl rfl)
theorem dX9_tree_143 : decode cX9_tree 143 = .ok (.iload 5, 2) := dk_21 5 (dk_at dksX9_tree_6 2 rfl rfl)
theorem dX9_tree_145 : decode cX9_tree 145 = .ok (.invokevirtual 204, 3) := dk_182 0 204 (dk_at dksX9_tree_6 4 rfl rfl)
theorem dX9_tree_148 : decode cX9_tree 148 = .ok (.return_, 1) := dk_177 (dk_at dksX9_tree_6 7 rfl rfl)
abbrev cX9_leaf : ByteArray := prog_17_method_19_code
def yX9_leaf : MethodName := ⟨RX9, "leaf", "(II)V"⟩
def dkwX9_leaf_1 : List UInt8 := [182, 0, 188, 177]
abbrev dktX9_leaf_1 : List UInt8 := dkwX9_leaf_1 ++ []
def dkwX9_leaf_0 : List UInt8 := [42, 180, 0, 127, 3, 8, 79, 42, 180, 0, 127, 4, 27, 79, 42, 180, 0, 127, 5, 28, 79, 42, 6]
abbrev dktX9_leaf_0 : List UInt8 := dkwX9_leaf_0 ++ dktX9_leaf_1
theorem dksX9_leaf_0 : cX9_leaf.data.toList.drop 0 = dktX9_leaf_0 := by decide +kernel
theorem dksX9_leaf_1 : cX9_leaf.data.toList.drop 23 = dktX9_leaf_1 := dk_seg dksX9_leaf_0 23 rfl rfl
theorem dX9_leaf_0 : decode cX9_leaf 0 = .ok (.aload_n 0, 1) := dk_42 (dk_at dksX9_leaf_0 0 rfl rfl)
theorem dX9_leaf_1 : decode cX9_leaf 1 = .ok (.getfield 127, 3) := dk_180 0 127 (dk_at dksX9_leaf_0 1 rfl rfl)
theorem dX9_leaf_4 : decode cX9_leaf 4 = .ok (.iconst 0, 1) := dk_3 (dk_at dksX9_leaf_0 4 rfl rfl)
theorem dX9_leaf_5 : decode cX9_leaf 5 = .ok (.iconst 5, 1) := dk_8 (dk_at dksX9_leaf_0 5 rfl rfl)
theorem dX9_leaf_6 : decode cX9_leaf 6 = .ok (.iastore, 1) := dk_79 (dk_at dksX9_leaf_0 6 rfl rfl)
theorem dX9_leaf_7 : decode cX9_leaf 7 = .ok (.aload_n 0, 1) := dk_42 (dk_at dksX9_leaf_0 7 rfl rfl)
theorem dX9_leaf_8 : decode cX9_leaf 8 = .ok (.getfield 127, 3) := dk_180 0 127 (dk_at dksX9_leaf_0 8 rfl rfl)
theorem dX9_leaf_11 : decode cX9_leaf 11 = .ok (.iconst 1, 1) := dk_4 (dk_at dksX9_leaf_0 11 rfl rfl)
theorem dX9_leaf_12 : decode cX9_leaf 12 = .ok (.iload_n 1, 1) := dk_27 (dk_at dksX9_leaf_0 12 rfl rfl)
theorem dX9_leaf_13 : decode cX9_leaf 13 = .ok (.iastore, 1) := dk_79 (dk_at dksX9_leaf_0 13 rfl rfl)
theorem dX9_leaf_14 : decode cX9_leaf 14 = .ok (.aload_n 0, 1) := dk_42 (dk_at dksX9_leaf_0 14 rfl rfl)
theorem dX9_leaf_15 : decode cX9_leaf 15 = .ok (.getfield 127, 3) := dk_180 0 127 (dk_at dksX9_leaf_0 15 rfl rfl)
theorem dX9_leaf_18 : decode cX9_leaf 18 = .ok (.iconst 2, 1) := dk_5 (dk_at dksX9_leaf_0 18 rfl rfl)
theorem dX9_leaf_19 : decode cX9_leaf 19 = .ok (.iload_n 2, 1) := dk_28 (dk_at dksX9_leaf_0 19 rfl rfl)
theorem dX9_leaf_20 : decode cX9_leaf 20 = .ok (.iastore, 1) := dk_79 (dk_at dksX9_leaf_0 20 rfl rfl)
theorem dX9_leaf_21 : decode cX9_leaf 21 = .ok (.aload_n 0, 1) := dk_42 (dk_at dksX9_leaf_0 21 rfl rfl)
theorem dX9_leaf_22 : decode cX9_leaf 22 = .ok (.iconst 3, 1) := dk_6 (dk_at dksX9_leaf_0 22 rfl rfl)
theorem dX9_leaf_23 : decode cX9_leaf 23 = .ok (.invokevirtual 188, 3) := dk_182 0 188 (dk_at dksX9_leaf_1 0 rfl rfl)
theorem dX9_leaf_26 : decode cX9_leaf 26 = .ok (.return_, 1) := dk_177 (dk_at dksX9_leaf_1 3 rfl rfl)
abbrev cX9_part : ByteArray := prog_17_method_18_code
def yX9_part : MethodName := ⟨RX9, "part", "(III)I"⟩
def dkwX9_part_4 : List UInt8 := [21, 4, 21, 6, 96, 42, 180, 0, 163, 21, 6, 46, 79, 132, 6, 1, 167, 255, 229, 21, 4, 172]
abbrev dktX9_part_4 : List UInt8 := dkwX9_part_4 ++ []
def dkwX9_part_3 : List UInt8 := [132, 4, 1, 132, 6, 1, 167, 255, 189, 3, 54, 6, 21, 6, 21, 5, 162, 0, 26, 42, 180, 0, 160]
abbrev dktX9_part_3 : List UInt8 := dkwX9_part_3 ++ dktX9_part_4
def dkwX9_part_2 : List UInt8 := [21, 6, 46, 79, 132, 5, 1, 167, 0, 20, 42, 180, 0, 160, 21, 4, 42, 180, 0, 160, 21, 6, 46, 79]
abbrev dktX9_part_2 : List UInt8 := dkwX9_part_2 ++ dktX9_part_3
def dkwX9_part_1 : List UInt8 := [180, 0, 160, 21, 6, 46, 104, 29, 184, 0, 237, 153, 0, 23, 42, 180, 0, 163, 21, 5, 42, 180, 0, 160]
abbrev dktX9_part_1 : List UInt8 := dkwX9_part_1 ++ dktX9_part_2
def dkwX9_part_0 : List UInt8 := [27, 54, 4, 3, 54, 5, 27, 54, 6, 21, 6, 28, 162, 0, 67, 42, 180, 0, 157, 16, 8, 42]
abbrev dktX9_part_0 : List UInt8 := dkwX9_part_0 ++ dktX9_part_1
theorem dksX9_part_0 : cX9_part.data.toList.drop 0 = dktX9_part_0 := by decide +kernel
theorem dksX9_part_1 : cX9_part.data.toList.drop 22 = dktX9_part_1 := dk_seg dksX9_part_0 22 rfl rfl
theorem dksX9_part_2 : cX9_part.data.toList.drop 46 = dktX9_part_2 := dk_seg dksX9_part_1 24 rfl rfl
theorem dksX9_part_3 : cX9_part.data.toList.drop 70 = dktX9_part_3 := dk_seg dksX9_part_2 24 rfl rfl
theorem dksX9_part_4 : cX9_part.data.toList.drop 93 = dktX9_part_4 := dk_seg dksX9_part_3 23 rfl rfl
theorem dX9_part_0 : decode cX9_part 0 = .ok (.iload_n 1, 1) := dk_27 (dk_at dksX9_part_0 0 rfl rfl)
theorem dX9_part_1 : decode cX9_part 1 = .ok (.istore 4, 2) := dk_54 4 (dk_at dksX9_part_0 1 rfl rfl)
theorem dX9_part_3 : decode cX9_part 3 = .ok (.iconst 0, 1) := dk_3 (dk_at dksX9_part_0 3 rfl rfl)
theorem dX9_part_4 : decode cX9_part 4 = .ok (.istore 5, 2) := dk_54 5 (dk_at dksX9_part_0 4 rfl rfl)
theorem dX9_part_6 : decode cX9_part 6 = .ok (.iload_n 1, 1) := dk_27 (dk_at dksX9_part_0 6 rfl rfl)
theorem dX9_part_7 : decode cX9_part 7 = .ok (.istore 6, 2) := dk_54 6 (dk_at dksX9_part_0 7 rfl rfl)
theorem dX9_part_9 : decode cX9_part 9 = .ok (.iload 6, 2) := dk_21 6 (dk_at dksX9_part_0 9 rfl rfl)
theorem dX9_part_11 : decode cX9_part 11 = .ok (.iload_n 2, 1) := dk_28 (dk_at dksX9_part_0 11 rfl rfl)
theorem dX9_part_12 : decode cX9_part 12 = .ok (.if_icmp .ge 67, 3) := dk_162 0 67 (dk_at dksX9_part_0 12 rfl rfl)
theorem dX9_part_15 : decode cX9_part 15 = .ok (.aload_n 0, 1) := dk_42 (dk_at dksX9_part_0 15 rfl rfl)
theorem dX9_part_16 : decode cX9_part 16 = .ok (.getfield 157, 3) := dk_180 0 157 (dk_at dksX9_part_0 16 rfl rfl)
theorem dX9_part_19 : decode cX9_part 19 = .ok (.bipush 8, 2) := dk_16 8 (dk_at dksX9_part_0 19 rfl rfl)
theorem dX9_part_21 : decode cX9_part 21 = .ok (.aload_n 0, 1) := dk_42 (dk_at dksX9_part_0 21 rfl rfl)
theorem dX9_part_22 : decode cX9_part 22 = .ok (.getfield 160, 3) := dk_180 0 160 (dk_at dksX9_part_1 0 rfl rfl)
theorem dX9_part_25 : decode cX9_part 25 = .ok (.iload 6, 2) := dk_21 6 (dk_at dksX9_part_1 3 rfl rfl)
theorem dX9_part_27 : decode cX9_part 27 = .ok (.iaload, 1) := dk_46 (dk_at dksX9_part_1 5 rfl rfl)
theorem dX9_part_28 : decode cX9_part 28 = .ok (.imul, 1) := dk_104 (dk_at dksX9_part_1 6 rfl rfl)
theorem dX9_part_29 : decode cX9_part 29 = .ok (.iload_n 3, 1) := dk_29 (dk_at dksX9_part_1 7 rfl rfl)
theorem dX9_part_30 : decode cX9_part 30 = .ok (.invokestatic 237, 3) := dk_184 0 237 (dk_at dksX9_part_1 8 rfl rfl)
theorem dX9_part_33 : decode cX9_part 33 = .ok (.ifCond .eq 23, 3) := dk_153 0 23 (dk_at dksX9_part_1 11 rfl rfl)
theorem dX9_part_36 : decode cX9_part 36 = .ok (.aload_n 0, 1) := dk_42 (dk_at dksX9_part_1 14 rfl rfl)
theorem dX9_part_37 : decode cX9_part 37 = .ok (.getfield 163, 3) := dk_180 0 163 (dk_at dksX9_part_1 15 rfl rfl)
theorem dX9_part_40 : decode cX9_part 40 = .ok (.iload 5, 2) := dk_21 5 (dk_at dksX9_part_1 18 rfl rfl)
theorem dX9_part_42 : decode cX9_part 42 = .ok (.aload_n 0, 1) := dk_42 (dk_at dksX9_part_1 20 rfl rfl)
theorem dX9_part_43 : decode cX9_part 43 = .ok (.getfield 160, 3) := dk_180 0 160 (dk_at dksX9_part_1 21 rfl rfl)
theorem dX9_part_46 : decode cX9_part 46 = .ok (.iload 6, 2) := dk_21 6 (dk_at dksX9_part_2 0 rfl rfl)
theorem dX9_part_48 : decode cX9_part 48 = .ok (.iaload, 1) := dk_46 (dk_at dksX9_part_2 2 rfl rfl)
theorem dX9_part_49 : decode cX9_part 49 = .ok (.iastore, 1) := dk_79 (dk_at dksX9_part_2 3 rfl rfl)
theorem dX9_part_50 : decode cX9_part 50 = .ok (.iinc 5 1, 3) := dk_132 5 1 (dk_at dksX9_part_2 4 rfl rfl)
theorem dX9_part_53 : decode cX9_part 53 = .ok (.goto 20, 3) := dk_167 0 20 (dk_at dksX9_part_2 7 rfl rfl)
theorem dX9_part_56 : decode cX9_part 56 = .ok (.aload_n 0, 1) := dk_42 (dk_at dksX9_part_2 10 rfl rfl)
theorem dX9_part_57 : decode cX9_part 57 = .ok (.getfield 160, 3) := dk_180 0 160 (dk_at dksX9_part_2 11 rfl rfl)
theorem dX9_part_60 : decode cX9_part 60 = .ok (.iload 4, 2) := dk_21 4 (dk_at dksX9_part_2 14 rfl rfl)
theorem dX9_part_62 : decode cX9_part 62 = .ok (.aload_n 0, 1) := dk_42 (dk_at dksX9_part_2 16 rfl rfl)
theorem dX9_part_63 : decode cX9_part 63 = .ok (.getfield 160, 3) := dk_180 0 160 (dk_at dksX9_part_2 17 rfl rfl)
theorem dX9_part_66 : decode cX9_part 66 = .ok (.iload 6, 2) := dk_21 6 (dk_at dksX9_part_2 20 rfl rfl)
theorem dX9_part_68 : decode cX9_part 68 = .ok (.iaload, 1) := dk_46 (dk_at dksX9_part_2 22 rfl rfl)
theorem dX9_part_69 : decode cX9_part 69 = .ok (.iastore, 1) := dk_79 (dk_at dksX9_part_2 23 rfl rfl)
theorem dX9_part_70 : decode cX9_part 70 = .ok (.iinc 4 1, 3) := dk_132 4 1 (dk_at dksX9_part_3 0 rfl rfl)
theorem dX9_part_73 : decode cX9_part 73 = .ok (.iinc 6 1, 3) := dk_132 6 1 (dk_at dksX9_part_3 3 rfl rfl)
theorem dX9_part_76 : decode cX9_part 76 = .ok (.goto (-67), 3) := dk_167 255 189 (dk_at dksX9_part_3 6 rfl rfl)
theorem dX9_part_79 : decode cX9_part 79 = .ok (.iconst 0, 1) := dk_3 (dk_at dksX9_part_3 9 rfl rfl)
theorem dX9_part_80 : decode cX9_part 80 = .ok (.istore 6, 2) := dk_54 6 (dk_at dksX9_part_3 10 rfl rfl)
theorem dX9_part_82 : decode cX9_part 82 = .ok (.iload 6, 2) := dk_21 6 (dk_at dksX9_part_3 12 rfl rfl)
theorem dX9_part_84 : decode cX9_part 84 = .ok (.iload 5, 2) := dk_21 5 (dk_at dksX9_part_3 14 rfl rfl)
theorem dX9_part_86 : decode cX9_part 86 = .ok (.if_icmp .ge 26, 3) := dk_162 0 26 (dk_at dksX9_part_3 16 rfl rfl)
theorem dX9_part_89 : decode cX9_part 89 = .ok (.aload_n 0, 1) := dk_42 (dk_at dksX9_part_3 19 rfl rfl)
theorem dX9_part_90 : decode cX9_part 90 = .ok (.getfield 160, 3) := dk_180 0 160 (dk_at dksX9_part_3 20 rfl rfl)
theorem dX9_part_93 : decode cX9_part 93 = .ok (.iload 4, 2) := dk_21 4 (dk_at dksX9_part_4 0 rfl rfl)
theorem dX9_part_95 : decode cX9_part 95 = .ok (.iload 6, 2) := dk_21 6 (dk_at dksX9_part_4 2 rfl rfl)
theorem dX9_part_97 : decode cX9_part 97 = .ok (.iadd, 1) := dk_96 (dk_at dksX9_part_4 4 rfl rfl)
theorem dX9_part_98 : decode cX9_part 98 = .ok (.aload_n 0, 1) := dk_42 (dk_at dksX9_part_4 5 rfl rfl)
theorem dX9_part_99 : decode cX9_part 99 = .ok (.getfield 163, 3) := dk_180 0 163 (dk_at dksX9_part_4 6 rfl rfl)
theorem dX9_part_102 : decode cX9_part 102 = .ok (.iload 6, 2) := dk_21 6 (dk_at dksX9_part_4 9 rfl rfl)
theorem dX9_part_104 : decode cX9_part 104 = .ok (.iaload, 1) := dk_46 (dk_at dksX9_part_4 11 rfl rfl)
theorem dX9_part_105 : decode cX9_part 105 = .ok (.iastore, 1) := dk_79 (dk_at dksX9_part_4 12 rfl rfl)
theorem dX9_part_106 : decode cX9_part 106 = .ok (.iinc 6 1, 3) := dk_132 6 1 (dk_at dksX9_part_4 13 rfl rfl)
theorem dX9_part_109 : decode cX9_part 109 = .ok (.goto (-27), 3) := dk_167 255 229 (dk_at dksX9_part_4 16 rfl rfl)
theorem dX9_part_112 : decode cX9_part 112 = .ok (.iload 4, 2) := dk_21 4 (dk_at dksX9_part_4 19 rfl rfl)
theorem dX9_part_114 : decode cX9_part 114 = .ok (.ireturn, 1) := dk_172 (dk_at dksX9_part_4 21 rfl rfl)
abbrev cX9_isOne : ByteArray := prog_17_method_17_code
def yX9_isOne : MethodName := ⟨RX9, "isOne", "([III)Z"⟩
def dkwX9_isOne_1 : List UInt8 := [167, 0, 4, 3, 172]
abbrev dktX9_isOne_1 : List UInt8 := dkwX9_isOne_1 ++ []
def dkwX9_isOne_0 : List UInt8 := [42, 27, 28, 16, 32, 108, 96, 46, 16, 31, 28, 16, 32, 112, 100, 124, 4, 126, 4, 160, 0, 7, 4]
abbrev dktX9_isOne_0 : List UInt8 := dkwX9_isOne_0 ++ dktX9_isOne_1
theorem dksX9_isOne_0 : cX9_isOne.data.toList.drop 0 = dktX9_isOne_0 := by decide +kernel
theorem dksX9_isOne_1 : cX9_isOne.data.toList.drop 23 = dktX9_isOne_1 := dk_seg dksX9_isOne_0 23 rfl rfl
theorem dX9_isOne_0 : decode cX9_isOne 0 = .ok (.aload_n 0, 1) := dk_42 (dk_at dksX9_isOne_0 0 rfl rfl)
theorem dX9_isOne_1 : decode cX9_isOne 1 = .ok (.iload_n 1, 1) := dk_27 (dk_at dksX9_isOne_0 1 rfl rfl)
theorem dX9_isOne_2 : decode cX9_isOne 2 = .ok (.iload_n 2, 1) := dk_28 (dk_at dksX9_isOne_0 2 rfl rfl)
theorem dX9_isOne_3 : decode cX9_isOne 3 = .ok (.bipush 32, 2) := dk_16 32 (dk_at dksX9_isOne_0 3 rfl rfl)
theorem dX9_isOne_5 : decode cX9_isOne 5 = .ok (.idiv, 1) := dk_108 (dk_at dksX9_isOne_0 5 rfl rfl)
theorem dX9_isOne_6 : decode cX9_isOne 6 = .ok (.iadd, 1) := dk_96 (dk_at dksX9_isOne_0 6 rfl rfl)
theorem dX9_isOne_7 : decode cX9_isOne 7 = .ok (.iaload, 1) := dk_46 (dk_at dksX9_isOne_0 7 rfl rfl)
theorem dX9_isOne_8 : decode cX9_isOne 8 = .ok (.bipush 31, 2) := dk_16 31 (dk_at dksX9_isOne_0 8 rfl rfl)
theorem dX9_isOne_10 : decode cX9_isOne 10 = .ok (.iload_n 2, 1) := dk_28 (dk_at dksX9_isOne_0 10 rfl rfl)
theorem dX9_isOne_11 : decode cX9_isOne 11 = .ok (.bipush 32, 2) := dk_16 32 (dk_at dksX9_isOne_0 11 rfl rfl)
theorem dX9_isOne_13 : decode cX9_isOne 13 = .ok (.irem, 1) := dk_112 (dk_at dksX9_isOne_0 13 rfl rfl)
theorem dX9_isOne_14 : decode cX9_isOne 14 = .ok (.isub, 1) := dk_100 (dk_at dksX9_isOne_0 14 rfl rfl)
theorem dX9_isOne_15 : decode cX9_isOne 15 = .ok (.iushr, 1) := dk_124 (dk_at dksX9_isOne_0 15 rfl rfl)
theorem dX9_isOne_16 : decode cX9_isOne 16 = .ok (.iconst 1, 1) := dk_4 (dk_at dksX9_isOne_0 16 rfl rfl)
theorem dX9_isOne_17 : decode cX9_isOne 17 = .ok (.iand, 1) := dk_126 (dk_at dksX9_isOne_0 17 rfl rfl)
theorem dX9_isOne_18 : decode cX9_isOne 18 = .ok (.iconst 1, 1) := dk_4 (dk_at dksX9_isOne_0 18 rfl rfl)
theorem dX9_isOne_19 : decode cX9_isOne 19 = .ok (.if_icmp .ne 7, 3) := dk_160 0 7 (dk_at dksX9_isOne_0 19 rfl rfl)
theorem dX9_isOne_22 : decode cX9_isOne 22 = .ok (.iconst 1, 1) := dk_4 (dk_at dksX9_isOne_0 22 rfl rfl)
theorem dX9_isOne_23 : decode cX9_isOne 23 = .ok (.goto 4, 3) := dk_167 0 4 (dk_at dksX9_isOne_1 0 rfl rfl)
theorem dX9_isOne_26 : decode cX9_isOne 26 = .ok (.iconst 0, 1) := dk_3 (dk_at dksX9_isOne_1 3 rfl rfl)
theorem dX9_isOne_27 : decode cX9_isOne 27 = .ok (.ireturn, 1) := dk_172 (dk_at dksX9_isOne_1 4 rfl rfl)
abbrev cX9_mark : ByteArray := prog_17_method_21_code
def yX9_mark : MethodName := ⟨RX9, "mark", "(II[III)V"⟩
def dkwX9_mark_3 : List UInt8 := [45, 21, 5, 21, 6, 96, 46, 79, 132, 6, 1, 167, 255, 213, 42, 16, 20, 182, 0, 188, 177]
abbrev dktX9_mark_3 : List UInt8 := dkwX9_mark_3 ++ []
def dkwX9_mark_2 : List UInt8 := [180, 0, 127, 7, 21, 6, 96, 45, 21, 4, 21, 6, 96, 46, 79, 42, 180, 0, 127, 16, 12, 21, 6, 96]
abbrev dktX9_mark_2 : List UInt8 := dkwX9_mark_2 ++ dktX9_mark_3
def dkwX9_mark_1 : List UInt8 := [16, 77, 96, 79, 42, 180, 0, 127, 6, 28, 79, 3, 54, 6, 21, 6, 16, 8, 162, 0, 42, 42]
abbrev dktX9_mark_1 : List UInt8 := dkwX9_mark_1 ++ dktX9_mark_2
def dkwX9_mark_0 : List UInt8 := [42, 180, 0, 127, 3, 16, 6, 79, 42, 180, 0, 127, 4, 27, 79, 42, 180, 0, 127, 5, 18, 253, 27, 104]
abbrev dktX9_mark_0 : List UInt8 := dkwX9_mark_0 ++ dktX9_mark_1
theorem dksX9_mark_0 : cX9_mark.data.toList.drop 0 = dktX9_mark_0 := by decide +kernel
theorem dksX9_mark_1 : cX9_mark.data.toList.drop 24 = dktX9_mark_1 := dk_seg dksX9_mark_0 24 rfl rfl
theorem dksX9_mark_2 : cX9_mark.data.toList.drop 46 = dktX9_mark_2 := dk_seg dksX9_mark_1 22 rfl rfl
theorem dksX9_mark_3 : cX9_mark.data.toList.drop 70 = dktX9_mark_3 := dk_seg dksX9_mark_2 24 rfl rfl
theorem dX9_mark_0 : decode cX9_mark 0 = .ok (.aload_n 0, 1) := dk_42 (dk_at dksX9_mark_0 0 rfl rfl)
theorem dX9_mark_1 : decode cX9_mark 1 = .ok (.getfield 127, 3) := dk_180 0 127 (dk_at dksX9_mark_0 1 rfl rfl)
theorem dX9_mark_4 : decode cX9_mark 4 = .ok (.iconst 0, 1) := dk_3 (dk_at dksX9_mark_0 4 rfl rfl)
theorem dX9_mark_5 : decode cX9_mark 5 = .ok (.bipush 6, 2) := dk_16 6 (dk_at dksX9_mark_0 5 rfl rfl)
theorem dX9_mark_7 : decode cX9_mark 7 = .ok (.iastore, 1) := dk_79 (dk_at dksX9_mark_0 7 rfl rfl)
theorem dX9_mark_8 : decode cX9_mark 8 = .ok (.aload_n 0, 1) := dk_42 (dk_at dksX9_mark_0 8 rfl rfl)
theorem dX9_mark_9 : decode cX9_mark 9 = .ok (.getfield 127, 3) := dk_180 0 127 (dk_at dksX9_mark_0 9 rfl rfl)
theorem dX9_mark_12 : decode cX9_mark 12 = .ok (.iconst 1, 1) := dk_4 (dk_at dksX9_mark_0 12 rfl rfl)
theorem dX9_mark_13 : decode cX9_mark 13 = .ok (.iload_n 1, 1) := dk_27 (dk_at dksX9_mark_0 13 rfl rfl)
theorem dX9_mark_14 : decode cX9_mark 14 = .ok (.iastore, 1) := dk_79 (dk_at dksX9_mark_0 14 rfl rfl)
theorem dX9_mark_15 : decode cX9_mark 15 = .ok (.aload_n 0, 1) := dk_42 (dk_at dksX9_mark_0 15 rfl rfl)
theorem dX9_mark_16 : decode cX9_mark 16 = .ok (.getfield 127, 3) := dk_180 0 127 (dk_at dksX9_mark_0 16 rfl rfl)
theorem dX9_mark_19 : decode cX9_mark 19 = .ok (.iconst 2, 1) := dk_5 (dk_at dksX9_mark_0 19 rfl rfl)
theorem dX9_mark_20 : decode cX9_mark 20 = .ok (.ldc 253, 2) := dk_18 253 (dk_at dksX9_mark_0 20 rfl rfl)
theorem dX9_mark_22 : decode cX9_mark 22 = .ok (.iload_n 1, 1) := dk_27 (dk_at dksX9_mark_0 22 rfl rfl)
theorem dX9_mark_23 : decode cX9_mark 23 = .ok (.imul, 1) := dk_104 (dk_at dksX9_mark_0 23 rfl rfl)
theorem dX9_mark_24 : decode cX9_mark 24 = .ok (.bipush 77, 2) := dk_16 77 (dk_at dksX9_mark_1 0 rfl rfl)
theorem dX9_mark_26 : decode cX9_mark 26 = .ok (.iadd, 1) := dk_96 (dk_at dksX9_mark_1 2 rfl rfl)
theorem dX9_mark_27 : decode cX9_mark 27 = .ok (.iastore, 1) := dk_79 (dk_at dksX9_mark_1 3 rfl rfl)
theorem dX9_mark_28 : decode cX9_mark 28 = .ok (.aload_n 0, 1) := dk_42 (dk_at dksX9_mark_1 4 rfl rfl)
theorem dX9_mark_29 : decode cX9_mark 29 = .ok (.getfield 127, 3) := dk_180 0 127 (dk_at dksX9_mark_1 5 rfl rfl)
theorem dX9_mark_32 : decode cX9_mark 32 = .ok (.iconst 3, 1) := dk_6 (dk_at dksX9_mark_1 8 rfl rfl)
theorem dX9_mark_33 : decode cX9_mark 33 = .ok (.iload_n 2, 1) := dk_28 (dk_at dksX9_mark_1 9 rfl rfl)
theorem dX9_mark_34 : decode cX9_mark 34 = .ok (.iastore, 1) := dk_79 (dk_at dksX9_mark_1 10 rfl rfl)
theorem dX9_mark_35 : decode cX9_mark 35 = .ok (.iconst 0, 1) := dk_3 (dk_at dksX9_mark_1 11 rfl rfl)
theorem dX9_mark_36 : decode cX9_mark 36 = .ok (.istore 6, 2) := dk_54 6 (dk_at dksX9_mark_1 12 rfl rfl)
theorem dX9_mark_38 : decode cX9_mark 38 = .ok (.iload 6, 2) := dk_21 6 (dk_at dksX9_mark_1 14 rfl rfl)
theorem dX9_mark_40 : decode cX9_mark 40 = .ok (.bipush 8, 2) := dk_16 8 (dk_at dksX9_mark_1 16 rfl rfl)
theorem dX9_mark_42 : decode cX9_mark 42 = .ok (.if_icmp .ge 42, 3) := dk_162 0 42 (dk_at dksX9_mark_1 18 rfl rfl)
theorem dX9_mark_45 : decode cX9_mark 45 = .ok (.aload_n 0, 1) := dk_42 (dk_at dksX9_mark_1 21 rfl rfl)
theorem dX9_mark_46 : decode cX9_mark 46 = .ok (.getfield 127, 3) := dk_180 0 127 (dk_at dksX9_mark_2 0 rfl rfl)
theorem dX9_mark_49 : decode cX9_mark 49 = .ok (.iconst 4, 1) := dk_7 (dk_at dksX9_mark_2 3 rfl rfl)
theorem dX9_mark_50 : decode cX9_mark 50 = .ok (.iload 6, 2) := dk_21 6 (dk_at dksX9_mark_2 4 rfl rfl)
theorem dX9_mark_52 : decode cX9_mark 52 = .ok (.iadd, 1) := dk_96 (dk_at dksX9_mark_2 6 rfl rfl)
theorem dX9_mark_53 : decode cX9_mark 53 = .ok (.aload_n 3, 1) := dk_45 (dk_at dksX9_mark_2 7 rfl rfl)
theorem dX9_mark_54 : decode cX9_mark 54 = .ok (.iload 4, 2) := dk_21 4 (dk_at dksX9_mark_2 8 rfl rfl)
theorem dX9_mark_56 : decode cX9_mark 56 = .ok (.iload 6, 2) := dk_21 6 (dk_at dksX9_mark_2 10 rfl rfl)
theorem dX9_mark_58 : decode cX9_mark 58 = .ok (.iadd, 1) := dk_96 (dk_at dksX9_mark_2 12 rfl rfl)
theorem dX9_mark_59 : decode cX9_mark 59 = .ok (.iaload, 1) := dk_46 (dk_at dksX9_mark_2 13 rfl rfl)
theorem dX9_mark_60 : decode cX9_mark 60 = .ok (.iastore, 1) := dk_79 (dk_at dksX9_mark_2 14 rfl rfl)
theorem dX9_mark_61 : decode cX9_mark 61 = .ok (.aload_n 0, 1) := dk_42 (dk_at dksX9_mark_2 15 rfl rfl)
theorem dX9_mark_62 : decode cX9_mark 62 = .ok (.getfield 127, 3) := dk_180 0 127 (dk_at dksX9_mark_2 16 rfl rfl)
theorem dX9_mark_65 : decode cX9_mark 65 = .ok (.bipush 12, 2) := dk_16 12 (dk_at dksX9_mark_2 19 rfl rfl)
theorem dX9_mark_67 : decode cX9_mark 67 = .ok (.iload 6, 2) := dk_21 6 (dk_at dksX9_mark_2 21 rfl rfl)
theorem dX9_mark_69 : decode cX9_mark 69 = .ok (.iadd, 1) := dk_96 (dk_at dksX9_mark_2 23 rfl rfl)
theorem dX9_mark_70 : decode cX9_mark 70 = .ok (.aload_n 3, 1) := dk_45 (dk_at dksX9_mark_3 0 rfl rfl)
theorem dX9_mark_71 : decode cX9_mark 71 = .ok (.iload 5, 2) := dk_21 5 (dk_at dksX9_mark_3 1 rfl rfl)
theorem dX9_mark_73 : decode cX9_mark 73 = .ok (.iload 6, 2) := dk_21 6 (dk_at dksX9_mark_3 3 rfl rfl)
theorem dX9_mark_75 : decode cX9_mark 75 = .ok (.iadd, 1) := dk_96 (dk_at dksX9_mark_3 5 rfl rfl)
theorem dX9_mark_76 : decode cX9_mark 76 = .ok (.iaload, 1) := dk_46 (dk_at dksX9_mark_3 6 rfl rfl)
theorem dX9_mark_77 : decode cX9_mark 77 = .ok (.iastore, 1) := dk_79 (dk_at dksX9_mark_3 7 rfl rfl)
theorem dX9_mark_78 : decode cX9_mark 78 = .ok (.iinc 6 1, 3) := dk_132 6 1 (dk_at dksX9_mark_3 8 rfl rfl)
theorem dX9_mark_81 : decode cX9_mark 81 = .ok (.goto (-43), 3) := dk_167 255 213 (dk_at dksX9_mark_3 11 rfl rfl)
theorem dX9_mark_84 : decode cX9_mark 84 = .ok (.aload_n 0, 1) := dk_42 (dk_at dksX9_mark_3 14 rfl rfl)
theorem dX9_mark_85 : decode cX9_mark 85 = .ok (.bipush 20, 2) := dk_16 20 (dk_at dksX9_mark_3 15 rfl rfl)
theorem dX9_mark_87 : decode cX9_mark 87 = .ok (.invokevirtual 188, 3) := dk_182 0 188 (dk_at dksX9_mark_3 17 rfl rfl)
theorem dX9_mark_90 : decode cX9_mark 90 = .ok (.return_, 1) := dk_177 (dk_at dksX9_mark_3 20 rfl rfl)
abbrev cX9_within : ByteArray := prog_17_method_41_code
def yX9_within : MethodName := ⟨RX9, "within", "(IIII)I"⟩
def dkwX9_within_5 : List UInt8 := [182, 1, 43, 42, 180, 0, 36, 16, 8, 27, 104, 4, 96, 46, 172]
abbrev dktX9_within_5 : List UInt8 := dkwX9_within_5 ++ []
def dkwX9_within_4 : List UInt8 := [21, 4, 96, 47, 80, 42, 27, 28, 3, 21, 4, 182, 1, 43, 42, 27, 28, 21, 4, 4, 96, 29]
abbrev dktX9_within_4 : List UInt8 := dkwX9_within_4 ++ dktX9_within_5
def dkwX9_within_3 : List UInt8 := [104, 21, 4, 96, 46, 79, 42, 180, 0, 42, 16, 40, 27, 104, 42, 180, 0, 16, 17, 1, 144, 28, 104]
abbrev dktX9_within_3 : List UInt8 := dkwX9_within_3 ++ dktX9_within_4
def dkwX9_within_2 : List UInt8 := [4, 29, 21, 4, 3, 182, 1, 39, 42, 180, 0, 39, 16, 40, 27, 104, 42, 180, 0, 13, 17, 1, 144, 28]
abbrev dktX9_within_2 : List UInt8 := dkwX9_within_2 ++ dktX9_within_3
def dkwX9_within_1 : List UInt8 := [29, 162, 0, 19, 42, 180, 0, 20, 17, 1, 144, 28, 104, 21, 4, 96, 51, 153, 0, 5, 2, 172, 42, 27]
abbrev dktX9_within_1 : List UInt8 := dkwX9_within_1 ++ dktX9_within_2
def dkwX9_within_0 : List UInt8 := [42, 27, 182, 1, 36, 153, 0, 39, 42, 28, 29, 182, 1, 21, 153, 0, 30, 21, 4, 155, 0, 25, 21, 4]
abbrev dktX9_within_0 : List UInt8 := dkwX9_within_0 ++ dktX9_within_1
theorem dksX9_within_0 : cX9_within.data.toList.drop 0 = dktX9_within_0 := by decide +kernel
theorem dksX9_within_1 : cX9_within.data.toList.drop 24 = dktX9_within_1 := dk_seg dksX9_within_0 24 rfl rfl
theorem dksX9_within_2 : cX9_within.data.toList.drop 48 = dktX9_within_2 := dk_seg dksX9_within_1 24 rfl rfl
theorem dksX9_within_3 : cX9_within.data.toList.drop 72 = dktX9_within_3 := dk_seg dksX9_within_2 24 rfl rfl
theorem dksX9_within_4 : cX9_within.data.toList.drop 95 = dktX9_within_4 := dk_seg dksX9_within_3 23 rfl rfl
theorem dksX9_within_5 : cX9_within.data.toList.drop 117 = dktX9_within_5 := dk_seg dksX9_within_4 22 rfl rfl
theorem dX9_within_0 : decode cX9_within 0 = .ok (.aload_n 0, 1) := dk_42 (dk_at dksX9_within_0 0 rfl rfl)
theorem dX9_within_1 : decode cX9_within 1 = .ok (.iload_n 1, 1) := dk_27 (dk_at dksX9_within_0 1 rfl rfl)
theorem dX9_within_2 : decode cX9_within 2 = .ok (.invokevirtual 292, 3) := dk_182 1 36 (dk_at dksX9_within_0 2 rfl rfl)
theorem dX9_within_5 : decode cX9_within 5 = .ok (.ifCond .eq 39, 3) := dk_153 0 39 (dk_at dksX9_within_0 5 rfl rfl)
theorem dX9_within_8 : decode cX9_within 8 = .ok (.aload_n 0, 1) := dk_42 (dk_at dksX9_within_0 8 rfl rfl)
theorem dX9_within_9 : decode cX9_within 9 = .ok (.iload_n 2, 1) := dk_28 (dk_at dksX9_within_0 9 rfl rfl)
theorem dX9_within_10 : decode cX9_within 10 = .ok (.iload_n 3, 1) := dk_29 (dk_at dksX9_within_0 10 rfl rfl)
theorem dX9_within_11 : decode cX9_within 11 = .ok (.invokevirtual 277, 3) := dk_182 1 21 (dk_at dksX9_within_0 11 rfl rfl)
theorem dX9_within_14 : decode cX9_within 14 = .ok (.ifCond .eq 30, 3) := dk_153 0 30 (dk_at dksX9_within_0 14 rfl rfl)
theorem dX9_within_17 : decode cX9_within 17 = .ok (.iload 4, 2) := dk_21 4 (dk_at dksX9_within_0 17 rfl rfl)
theorem dX9_within_19 : decode cX9_within 19 = .ok (.ifCond .lt 25, 3) := dk_155 0 25 (dk_at dksX9_within_0 19 rfl rfl)
theorem dX9_within_22 : decode cX9_within 22 = .ok (.iload 4, 2) := dk_21 4 (dk_at dksX9_within_0 22 rfl rfl)
theorem dX9_within_24 : decode cX9_within 24 = .ok (.iload_n 3, 1) := dk_29 (dk_at dksX9_within_1 0 rfl rfl)
theorem dX9_within_25 : decode cX9_within 25 = .ok (.if_icmp .ge 19, 3) := dk_162 0 19 (dk_at dksX9_within_1 1 rfl rfl)
theorem dX9_within_28 : decode cX9_within 28 = .ok (.aload_n 0, 1) := dk_42 (dk_at dksX9_within_1 4 rfl rfl)
theorem dX9_within_29 : decode cX9_within 29 = .ok (.getfield 20, 3) := dk_180 0 20 (dk_at dksX9_within_1 5 rfl rfl)
theorem dX9_within_32 : decode cX9_within 32 = .ok (.sipush 400, 3) := dk_17 1 144 (dk_at dksX9_within_1 8 rfl rfl)
theorem dX9_within_35 : decode cX9_within 35 = .ok (.iload_n 2, 1) := dk_28 (dk_at dksX9_within_1 11 rfl rfl)
theorem dX9_within_36 : decode cX9_within 36 = .ok (.imul, 1) := dk_104 (dk_at dksX9_within_1 12 rfl rfl)
theorem dX9_within_37 : decode cX9_within 37 = .ok (.iload 4, 2) := dk_21 4 (dk_at dksX9_within_1 13 rfl rfl)
theorem dX9_within_39 : decode cX9_within 39 = .ok (.iadd, 1) := dk_96 (dk_at dksX9_within_1 15 rfl rfl)
theorem dX9_within_40 : decode cX9_within 40 = .ok (.baload, 1) := dk_51 (dk_at dksX9_within_1 16 rfl rfl)
theorem dX9_within_41 : decode cX9_within 41 = .ok (.ifCond .eq 5, 3) := dk_153 0 5 (dk_at dksX9_within_1 17 rfl rfl)
theorem dX9_within_44 : decode cX9_within 44 = .ok (.iconst (-1), 1) := dk_2 (dk_at dksX9_within_1 20 rfl rfl)
theorem dX9_within_45 : decode cX9_within 45 = .ok (.ireturn, 1) := dk_172 (dk_at dksX9_within_1 21 rfl rfl)
theorem dX9_within_46 : decode cX9_within 46 = .ok (.aload_n 0, 1) := dk_42 (dk_at dksX9_within_1 22 rfl rfl)
theorem dX9_within_47 : decode cX9_within 47 = .ok (.iload_n 1, 1) := dk_27 (dk_at dksX9_within_1 23 rfl rfl)
theorem dX9_within_48 : decode cX9_within 48 = .ok (.iconst 1, 1) := dk_4 (dk_at dksX9_within_2 0 rfl rfl)
theorem dX9_within_49 : decode cX9_within 49 = .ok (.iload_n 3, 1) := dk_29 (dk_at dksX9_within_2 1 rfl rfl)
theorem dX9_within_50 : decode cX9_within 50 = .ok (.iload 4, 2) := dk_21 4 (dk_at dksX9_within_2 2 rfl rfl)
theorem dX9_within_52 : decode cX9_within 52 = .ok (.iconst 0, 1) := dk_3 (dk_at dksX9_within_2 4 rfl rfl)
theorem dX9_within_53 : decode cX9_within 53 = .ok (.invokevirtual 295, 3) := dk_182 1 39 (dk_at dksX9_within_2 5 rfl rfl)
theorem dX9_within_56 : decode cX9_within 56 = .ok (.aload_n 0, 1) := dk_42 (dk_at dksX9_within_2 8 rfl rfl)
theorem dX9_within_57 : decode cX9_within 57 = .ok (.getfield 39, 3) := dk_180 0 39 (dk_at dksX9_within_2 9 rfl rfl)
theorem dX9_within_60 : decode cX9_within 60 = .ok (.bipush 40, 2) := dk_16 40 (dk_at dksX9_within_2 12 rfl rfl)
theorem dX9_within_62 : decode cX9_within 62 = .ok (.iload_n 1, 1) := dk_27 (dk_at dksX9_within_2 14 rfl rfl)
theorem dX9_within_63 : decode cX9_within 63 = .ok (.imul, 1) := dk_104 (dk_at dksX9_within_2 15 rfl rfl)
theorem dX9_within_64 : decode cX9_within 64 = .ok (.aload_n 0, 1) := dk_42 (dk_at dksX9_within_2 16 rfl rfl)
theorem dX9_within_65 : decode cX9_within 65 = .ok (.getfield 13, 3) := dk_180 0 13 (dk_at dksX9_within_2 17 rfl rfl)
theorem dX9_within_68 : decode cX9_within 68 = .ok (.sipush 400, 3) := dk_17 1 144 (dk_at dksX9_within_2 20 rfl rfl)
theorem dX9_within_71 : decode cX9_within 71 = .ok (.iload_n 2, 1) := dk_28 (dk_at dksX9_within_2 23 rfl rfl)
theorem dX9_within_72 : decode cX9_within 72 = .ok (.imul, 1) := dk_104 (dk_at dksX9_within_3 0 rfl rfl)
theorem dX9_within_73 : decode cX9_within 73 = .ok (.iload 4, 2) := dk_21 4 (dk_at dksX9_within_3 1 rfl rfl)
theorem dX9_within_75 : decode cX9_within 75 = .ok (.iadd, 1) := dk_96 (dk_at dksX9_within_3 3 rfl rfl)
theorem dX9_within_76 : decode cX9_within 76 = .ok (.iaload, 1) := dk_46 (dk_at dksX9_within_3 4 rfl rfl)
theorem dX9_within_77 : decode cX9_within 77 = .ok (.iastore, 1) := dk_79 (dk_at dksX9_within_3 5 rfl rfl)
theorem dX9_within_78 : decode cX9_within 78 = .ok (.aload_n 0, 1) := dk_42 (dk_at dksX9_within_3 6 rfl rfl)
theorem dX9_within_79 : decode cX9_within 79 = .ok (.getfield 42, 3) := dk_180 0 42 (dk_at dksX9_within_3 7 rfl rfl)
theorem dX9_within_82 : decode cX9_within 82 = .ok (.bipush 40, 2) := dk_16 40 (dk_at dksX9_within_3 10 rfl rfl)
theorem dX9_within_84 : decode cX9_within 84 = .ok (.iload_n 1, 1) := dk_27 (dk_at dksX9_within_3 12 rfl rfl)
theorem dX9_within_85 : decode cX9_within 85 = .ok (.imul, 1) := dk_104 (dk_at dksX9_within_3 13 rfl rfl)
theorem dX9_within_86 : decode cX9_within 86 = .ok (.aload_n 0, 1) := dk_42 (dk_at dksX9_within_3 14 rfl rfl)
theorem dX9_within_87 : decode cX9_within 87 = .ok (.getfield 16, 3) := dk_180 0 16 (dk_at dksX9_within_3 15 rfl rfl)
theorem dX9_within_90 : decode cX9_within 90 = .ok (.sipush 400, 3) := dk_17 1 144 (dk_at dksX9_within_3 18 rfl rfl)
theorem dX9_within_93 : decode cX9_within 93 = .ok (.iload_n 2, 1) := dk_28 (dk_at dksX9_within_3 21 rfl rfl)
theorem dX9_within_94 : decode cX9_within 94 = .ok (.imul, 1) := dk_104 (dk_at dksX9_within_3 22 rfl rfl)
theorem dX9_within_95 : decode cX9_within 95 = .ok (.iload 4, 2) := dk_21 4 (dk_at dksX9_within_4 0 rfl rfl)
theorem dX9_within_97 : decode cX9_within 97 = .ok (.iadd, 1) := dk_96 (dk_at dksX9_within_4 2 rfl rfl)
theorem dX9_within_98 : decode cX9_within 98 = .ok (.laload, 1) := dk_47 (dk_at dksX9_within_4 3 rfl rfl)
theorem dX9_within_99 : decode cX9_within 99 = .ok (.lastore, 1) := dk_80 (dk_at dksX9_within_4 4 rfl rfl)
theorem dX9_within_100 : decode cX9_within 100 = .ok (.aload_n 0, 1) := dk_42 (dk_at dksX9_within_4 5 rfl rfl)
theorem dX9_within_101 : decode cX9_within 101 = .ok (.iload_n 1, 1) := dk_27 (dk_at dksX9_within_4 6 rfl rfl)
theorem dX9_within_102 : decode cX9_within 102 = .ok (.iload_n 2, 1) := dk_28 (dk_at dksX9_within_4 7 rfl rfl)
theorem dX9_within_103 : decode cX9_within 103 = .ok (.iconst 0, 1) := dk_3 (dk_at dksX9_within_4 8 rfl rfl)
theorem dX9_within_104 : decode cX9_within 104 = .ok (.iload 4, 2) := dk_21 4 (dk_at dksX9_within_4 9 rfl rfl)
theorem dX9_within_106 : decode cX9_within 106 = .ok (.invokevirtual 299, 3) := dk_182 1 43 (dk_at dksX9_within_4 11 rfl rfl)
theorem dX9_within_109 : decode cX9_within 109 = .ok (.aload_n 0, 1) := dk_42 (dk_at dksX9_within_4 14 rfl rfl)
theorem dX9_within_110 : decode cX9_within 110 = .ok (.iload_n 1, 1) := dk_27 (dk_at dksX9_within_4 15 rfl rfl)
theorem dX9_within_111 : decode cX9_within 111 = .ok (.iload_n 2, 1) := dk_28 (dk_at dksX9_within_4 16 rfl rfl)
theorem dX9_within_112 : decode cX9_within 112 = .ok (.iload 4, 2) := dk_21 4 (dk_at dksX9_within_4 17 rfl rfl)
theorem dX9_within_114 : decode cX9_within 114 = .ok (.iconst 1, 1) := dk_4 (dk_at dksX9_within_4 19 rfl rfl)
theorem dX9_within_115 : decode cX9_within 115 = .ok (.iadd, 1) := dk_96 (dk_at dksX9_within_4 20 rfl rfl)
theorem dX9_within_116 : decode cX9_within 116 = .ok (.iload_n 3, 1) := dk_29 (dk_at dksX9_within_4 21 rfl rfl)
theorem dX9_within_117 : decode cX9_within 117 = .ok (.invokevirtual 299, 3) := dk_182 1 43 (dk_at dksX9_within_5 0 rfl rfl)
theorem dX9_within_120 : decode cX9_within 120 = .ok (.aload_n 0, 1) := dk_42 (dk_at dksX9_within_5 3 rfl rfl)
theorem dX9_within_121 : decode cX9_within 121 = .ok (.getfield 36, 3) := dk_180 0 36 (dk_at dksX9_within_5 4 rfl rfl)
theorem dX9_within_124 : decode cX9_within 124 = .ok (.bipush 8, 2) := dk_16 8 (dk_at dksX9_within_5 7 rfl rfl)
theorem dX9_within_126 : decode cX9_within 126 = .ok (.iload_n 1, 1) := dk_27 (dk_at dksX9_within_5 9 rfl rfl)
theorem dX9_within_127 : decode cX9_within 127 = .ok (.imul, 1) := dk_104 (dk_at dksX9_within_5 10 rfl rfl)
theorem dX9_within_128 : decode cX9_within 128 = .ok (.iconst 1, 1) := dk_4 (dk_at dksX9_within_5 11 rfl rfl)
theorem dX9_within_129 : decode cX9_within 129 = .ok (.iadd, 1) := dk_96 (dk_at dksX9_within_5 12 rfl rfl)
theorem dX9_within_130 : decode cX9_within 130 = .ok (.iaload, 1) := dk_46 (dk_at dksX9_within_5 13 rfl rfl)
theorem dX9_within_131 : decode cX9_within 131 = .ok (.ireturn, 1) := dk_172 (dk_at dksX9_within_5 14 rfl rfl)
abbrev cX9_isSlot : ByteArray := prog_17_method_37_code
def yX9_isSlot : MethodName := ⟨RX9, "isSlot", "(I)Z"⟩
def dkwX9_isSlot_0 : List UInt8 := [27, 155, 0, 13, 27, 16, 16, 162, 0, 7, 4, 167, 0, 4, 3, 172]
abbrev dktX9_isSlot_0 : List UInt8 := dkwX9_isSlot_0 ++ []
theorem dksX9_isSlot_0 : cX9_isSlot.data.toList.drop 0 = dktX9_isSlot_0 := by decide +kernel
theorem dX9_isSlot_0 : decode cX9_isSlot 0 = .ok (.iload_n 1, 1) := dk_27 (dk_at dksX9_isSlot_0 0 rfl rfl)
theorem dX9_isSlot_1 : decode cX9_isSlot 1 = .ok (.ifCond .lt 13, 3) := dk_155 0 13 (dk_at dksX9_isSlot_0 1 rfl rfl)
theorem dX9_isSlot_4 : decode cX9_isSlot 4 = .ok (.iload_n 1, 1) := dk_27 (dk_at dksX9_isSlot_0 4 rfl rfl)
theorem dX9_isSlot_5 : decode cX9_isSlot 5 = .ok (.bipush 16, 2) := dk_16 16 (dk_at dksX9_isSlot_0 5 rfl rfl)
theorem dX9_isSlot_7 : decode cX9_isSlot 7 = .ok (.if_icmp .ge 7, 3) := dk_162 0 7 (dk_at dksX9_isSlot_0 7 rfl rfl)
theorem dX9_isSlot_10 : decode cX9_isSlot 10 = .ok (.iconst 1, 1) := dk_4 (dk_at dksX9_isSlot_0 10 rfl rfl)
theorem dX9_isSlot_11 : decode cX9_isSlot 11 = .ok (.goto 4, 3) := dk_167 0 4 (dk_at dksX9_isSlot_0 11 rfl rfl)
theorem dX9_isSlot_14 : decode cX9_isSlot 14 = .ok (.iconst 0, 1) := dk_3 (dk_at dksX9_isSlot_0 14 rfl rfl)
theorem dX9_isSlot_15 : decode cX9_isSlot 15 = .ok (.ireturn, 1) := dk_172 (dk_at dksX9_isSlot_0 15 rfl rfl)
abbrev cX9_begin : ByteArray := prog_17_method_38_code
def yX9_begin : MethodName := ⟨RX9, "begin", "(IIIII)V"⟩
def dkwX9_begin_3 : List UInt8 := [104, 7, 96, 21, 5, 79, 177]
abbrev dktX9_begin_3 : List UInt8 := dkwX9_begin_3 ++ []
def dkwX9_begin_2 : List UInt8 := [5, 96, 29, 79, 42, 180, 0, 36, 16, 8, 27, 104, 6, 96, 21, 4, 79, 42, 180, 0, 36, 16, 8, 27]
abbrev dktX9_begin_2 : List UInt8 := dkwX9_begin_2 ++ dktX9_begin_3
def dkwX9_begin_1 : List UInt8 := [132, 6, 1, 167, 255, 233, 42, 180, 0, 36, 16, 8, 27, 104, 28, 79, 42, 180, 0, 36, 16, 8, 27, 104]
abbrev dktX9_begin_1 : List UInt8 := dkwX9_begin_1 ++ dktX9_begin_2
def dkwX9_begin_0 : List UInt8 := [3, 54, 6, 21, 6, 16, 8, 162, 0, 22, 42, 180, 0, 36, 16, 8, 27, 104, 21, 6, 96, 3, 79]
abbrev dktX9_begin_0 : List UInt8 := dkwX9_begin_0 ++ dktX9_begin_1
theorem dksX9_begin_0 : cX9_begin.data.toList.drop 0 = dktX9_begin_0 := by decide +kernel
theorem dksX9_begin_1 : cX9_begin.data.toList.drop 23 = dktX9_begin_1 := dk_seg dksX9_begin_0 23 rfl rfl
theorem dksX9_begin_2 : cX9_begin.data.toList.drop 47 = dktX9_begin_2 := dk_seg dksX9_begin_1 24 rfl rfl
theorem dksX9_begin_3 : cX9_begin.data.toList.drop 71 = dktX9_begin_3 := dk_seg dksX9_begin_2 24 rfl rfl
theorem dX9_begin_0 : decode cX9_begin 0 = .ok (.iconst 0, 1) := dk_3 (dk_at dksX9_begin_0 0 rfl rfl)
theorem dX9_begin_1 : decode cX9_begin 1 = .ok (.istore 6, 2) := dk_54 6 (dk_at dksX9_begin_0 1 rfl rfl)
theorem dX9_begin_3 : decode cX9_begin 3 = .ok (.iload 6, 2) := dk_21 6 (dk_at dksX9_begin_0 3 rfl rfl)
theorem dX9_begin_5 : decode cX9_begin 5 = .ok (.bipush 8, 2) := dk_16 8 (dk_at dksX9_begin_0 5 rfl rfl)
theorem dX9_begin_7 : decode cX9_begin 7 = .ok (.if_icmp .ge 22, 3) := dk_162 0 22 (dk_at dksX9_begin_0 7 rfl rfl)
theorem dX9_begin_10 : decode cX9_begin 10 = .ok (.aload_n 0, 1) := dk_42 (dk_at dksX9_begin_0 10 rfl rfl)
theorem dX9_begin_11 : decode cX9_begin 11 = .ok (.getfield 36, 3) := dk_180 0 36 (dk_at dksX9_begin_0 11 rfl rfl)
theorem dX9_begin_14 : decode cX9_begin 14 = .ok (.bipush 8, 2) := dk_16 8 (dk_at dksX9_begin_0 14 rfl rfl)
theorem dX9_begin_16 : decode cX9_begin 16 = .ok (.iload_n 1, 1) := dk_27 (dk_at dksX9_begin_0 16 rfl rfl)
theorem dX9_begin_17 : decode cX9_begin 17 = .ok (.imul, 1) := dk_104 (dk_at dksX9_begin_0 17 rfl rfl)
theorem dX9_begin_18 : decode cX9_begin 18 = .ok (.iload 6, 2) := dk_21 6 (dk_at dksX9_begin_0 18 rfl rfl)
theorem dX9_begin_20 : decode cX9_begin 20 = .ok (.iadd, 1) := dk_96 (dk_at dksX9_begin_0 20 rfl rfl)
theorem dX9_begin_21 : decode cX9_begin 21 = .ok (.iconst 0, 1) := dk_3 (dk_at dksX9_begin_0 21 rfl rfl)
theorem dX9_begin_22 : decode cX9_begin 22 = .ok (.iastore, 1) := dk_79 (dk_at dksX9_begin_0 22 rfl rfl)
theorem dX9_begin_23 : decode cX9_begin 23 = .ok (.iinc 6 1, 3) := dk_132 6 1 (dk_at dksX9_begin_1 0 rfl rfl)
theorem dX9_begin_26 : decode cX9_begin 26 = .ok (.goto (-23), 3) := dk_167 255 233 (dk_at dksX9_begin_1 3 rfl rfl)
theorem dX9_begin_29 : decode cX9_begin 29 = .ok (.aload_n 0, 1) := dk_42 (dk_at dksX9_begin_1 6 rfl rfl)
theorem dX9_begin_30 : decode cX9_begin 30 = .ok (.getfield 36, 3) := dk_180 0 36 (dk_at dksX9_begin_1 7 rfl rfl)
theorem dX9_begin_33 : decode cX9_begin 33 = .ok (.bipush 8, 2) := dk_16 8 (dk_at dksX9_begin_1 10 rfl rfl)
theorem dX9_begin_35 : decode cX9_begin 35 = .ok (.iload_n 1, 1) := dk_27 (dk_at dksX9_begin_1 12 rfl rfl)
theorem dX9_begin_36 : decode cX9_begin 36 = .ok (.imul, 1) := dk_104 (dk_at dksX9_begin_1 13 rfl rfl)
theorem dX9_begin_37 : decode cX9_begin 37 = .ok (.iload_n 2, 1) := dk_28 (dk_at dksX9_begin_1 14 rfl rfl)
theorem dX9_begin_38 : decode cX9_begin 38 = .ok (.iastore, 1) := dk_79 (dk_at dksX9_begin_1 15 rfl rfl)
theorem dX9_begin_39 : decode cX9_begin 39 = .ok (.aload_n 0, 1) := dk_42 (dk_at dksX9_begin_1 16 rfl rfl)
theorem dX9_begin_40 : decode cX9_begin 40 = .ok (.getfield 36, 3) := dk_180 0 36 (dk_at dksX9_begin_1 17 rfl rfl)
theorem dX9_begin_43 : decode cX9_begin 43 = .ok (.bipush 8, 2) := dk_16 8 (dk_at dksX9_begin_1 20 rfl rfl)
theorem dX9_begin_45 : decode cX9_begin 45 = .ok (.iload_n 1, 1) := dk_27 (dk_at dksX9_begin_1 22 rfl rfl)
theorem dX9_begin_46 : decode cX9_begin 46 = .ok (.imul, 1) := dk_104 (dk_at dksX9_begin_1 23 rfl rfl)
theorem dX9_begin_47 : decode cX9_begin 47 = .ok (.iconst 2, 1) := dk_5 (dk_at dksX9_begin_2 0 rfl rfl)
theorem dX9_begin_48 : decode cX9_begin 48 = .ok (.iadd, 1) := dk_96 (dk_at dksX9_begin_2 1 rfl rfl)
theorem dX9_begin_49 : decode cX9_begin 49 = .ok (.iload_n 3, 1) := dk_29 (dk_at dksX9_begin_2 2 rfl rfl)
theorem dX9_begin_50 : decode cX9_begin 50 = .ok (.iastore, 1) := dk_79 (dk_at dksX9_begin_2 3 rfl rfl)
theorem dX9_begin_51 : decode cX9_begin 51 = .ok (.aload_n 0, 1) := dk_42 (dk_at dksX9_begin_2 4 rfl rfl)
theorem dX9_begin_52 : decode cX9_begin 52 = .ok (.getfield 36, 3) := dk_180 0 36 (dk_at dksX9_begin_2 5 rfl rfl)
theorem dX9_begin_55 : decode cX9_begin 55 = .ok (.bipush 8, 2) := dk_16 8 (dk_at dksX9_begin_2 8 rfl rfl)
theorem dX9_begin_57 : decode cX9_begin 57 = .ok (.iload_n 1, 1) := dk_27 (dk_at dksX9_begin_2 10 rfl rfl)
theorem dX9_begin_58 : decode cX9_begin 58 = .ok (.imul, 1) := dk_104 (dk_at dksX9_begin_2 11 rfl rfl)
theorem dX9_begin_59 : decode cX9_begin 59 = .ok (.iconst 3, 1) := dk_6 (dk_at dksX9_begin_2 12 rfl rfl)
theorem dX9_begin_60 : decode cX9_begin 60 = .ok (.iadd, 1) := dk_96 (dk_at dksX9_begin_2 13 rfl rfl)
theorem dX9_begin_61 : decode cX9_begin 61 = .ok (.iload 4, 2) := dk_21 4 (dk_at dksX9_begin_2 14 rfl rfl)
theorem dX9_begin_63 : decode cX9_begin 63 = .ok (.iastore, 1) := dk_79 (dk_at dksX9_begin_2 16 rfl rfl)
theorem dX9_begin_64 : decode cX9_begin 64 = .ok (.aload_n 0, 1) := dk_42 (dk_at dksX9_begin_2 17 rfl rfl)
theorem dX9_begin_65 : decode cX9_begin 65 = .ok (.getfield 36, 3) := dk_180 0 36 (dk_at dksX9_begin_2 18 rfl rfl)
theorem dX9_begin_68 : decode cX9_begin 68 = .ok (.bipush 8, 2) := dk_16 8 (dk_at dksX9_begin_2 21 rfl rfl)
theorem dX9_begin_70 : decode cX9_begin 70 = .ok (.iload_n 1, 1) := dk_27 (dk_at dksX9_begin_2 23 rfl rfl)
theorem dX9_begin_71 : decode cX9_begin 71 = .ok (.imul, 1) := dk_104 (dk_at dksX9_begin_3 0 rfl rfl)
theorem dX9_begin_72 : decode cX9_begin 72 = .ok (.iconst 4, 1) := dk_7 (dk_at dksX9_begin_3 1 rfl rfl)
theorem dX9_begin_73 : decode cX9_begin 73 = .ok (.iadd, 1) := dk_96 (dk_at dksX9_begin_3 2 rfl rfl)
theorem dX9_begin_74 : decode cX9_begin 74 = .ok (.iload 5, 2) := dk_21 5 (dk_at dksX9_begin_3 3 rfl rfl)
theorem dX9_begin_76 : decode cX9_begin 76 = .ok (.iastore, 1) := dk_79 (dk_at dksX9_begin_3 5 rfl rfl)
theorem dX9_begin_77 : decode cX9_begin 77 = .ok (.return_, 1) := dk_177 (dk_at dksX9_begin_3 6 rfl rfl)
abbrev cX9_stepLog : ByteArray := prog_17_method_40_code
def yX9_stepLog : MethodName := ⟨RX9, "stepLog", "(IIII)V"⟩
def dkwX9_stepLog_2 : List UInt8 := [21, 6, 96, 54, 5, 167, 255, 208, 177]
abbrev dktX9_stepLog_2 : List UInt8 := dkwX9_stepLog_2 ++ []
def dkwX9_stepLog_1 : List UInt8 := [21, 6, 3, 42, 180, 0, 148, 3, 182, 0, 200, 42, 27, 42, 180, 0, 148, 3, 182, 1, 32, 21, 5]
abbrev dktX9_stepLog_1 : List UInt8 := dkwX9_stepLog_1 ++ dktX9_stepLog_2
def dkwX9_stepLog_0 : List UInt8 := [29, 54, 5, 21, 5, 21, 4, 162, 0, 47, 21, 5, 21, 4, 184, 0, 212, 54, 6, 42, 28, 21, 5]
abbrev dktX9_stepLog_0 : List UInt8 := dkwX9_stepLog_0 ++ dktX9_stepLog_1
theorem dksX9_stepLog_0 : cX9_stepLog.data.toList.drop 0 = dktX9_stepLog_0 := by decide +kernel
theorem dksX9_stepLog_1 : cX9_stepLog.data.toList.drop 23 = dktX9_stepLog_1 := dk_seg dksX9_stepLog_0 23 rfl rfl
theorem dksX9_stepLog_2 : cX9_stepLog.data.toList.drop 46 = dktX9_stepLog_2 := dk_seg dksX9_stepLog_1 23 rfl rfl
theorem dX9_stepLog_0 : decode cX9_stepLog 0 = .ok (.iload_n 3, 1) := dk_29 (dk_at dksX9_stepLog_0 0 rfl rfl)
theorem dX9_stepLog_1 : decode cX9_stepLog 1 = .ok (.istore 5, 2) := dk_54 5 (dk_at dksX9_stepLog_0 1 rfl rfl)
theorem dX9_stepLog_3 : decode cX9_stepLog 3 = .ok (.iload 5, 2) := dk_21 5 (dk_at dksX9_stepLog_0 3 rfl rfl)
theorem dX9_stepLog_5 : decode cX9_stepLog 5 = .ok (.iload 4, 2) := dk_21 4 (dk_at dksX9_stepLog_0 5 rfl rfl)
theorem dX9_stepLog_7 : decode cX9_stepLog 7 = .ok (.if_icmp .ge 47, 3) := dk_162 0 47 (dk_at dksX9_stepLog_0 7 rfl rfl)
theorem dX9_stepLog_10 : decode cX9_stepLog 10 = .ok (.iload 5, 2) := dk_21 5 (dk_at dksX9_stepLog_0 10 rfl rfl)
theorem dX9_stepLog_12 : decode cX9_stepLog 12 = .ok (.iload 4, 2) := dk_21 4 (dk_at dksX9_stepLog_0 12 rfl rfl)
theorem dX9_stepLog_14 : decode cX9_stepLog 14 = .ok (.invokestatic 212, 3) := dk_184 0 212 (dk_at dksX9_stepLog_0 14 rfl rfl)
theorem dX9_stepLog_17 : decode cX9_stepLog 17 = .ok (.istore 6, 2) := dk_54 6 (dk_at dksX9_stepLog_0 17 rfl rfl)
theorem dX9_stepLog_19 : decode cX9_stepLog 19 = .ok (.aload_n 0, 1) := dk_42 (dk_at dksX9_stepLog_0 19 rfl rfl)
theorem dX9_stepLog_20 : decode cX9_stepLog 20 = .ok (.iload_n 2, 1) := dk_28 (dk_at dksX9_stepLog_0 20 rfl rfl)
theorem dX9_stepLog_21 : decode cX9_stepLog 21 = .ok (.iload 5, 2) := dk_21 5 (dk_at dksX9_stepLog_0 21 rfl rfl)
theorem dX9_stepLog_23 : decode cX9_stepLog 23 = .ok (.iload 6, 2) := dk_21 6 (dk_at dksX9_stepLog_1 0 rfl rfl)
theorem dX9_stepLog_25 : decode cX9_stepLog 25 = .ok (.iconst 0, 1) := dk_3 (dk_at dksX9_stepLog_1 2 rfl rfl)
theorem dX9_stepLog_26 : decode cX9_stepLog 26 = .ok (.aload_n 0, 1) := dk_42 (dk_at dksX9_stepLog_1 3 rfl rfl)
theorem dX9_stepLog_27 : decode cX9_stepLog 27 = .ok (.getfield 148, 3) := dk_180 0 148 (dk_at dksX9_stepLog_1 4 rfl rfl)
theorem dX9_stepLog_30 : decode cX9_stepLog 30 = .ok (.iconst 0, 1) := dk_3 (dk_at dksX9_stepLog_1 7 rfl rfl)
theorem dX9_stepLog_31 : decode cX9_stepLog 31 = .ok (.invokevirtual 200, 3) := dk_182 0 200 (dk_at dksX9_stepLog_1 8 rfl rfl)
theorem dX9_stepLog_34 : decode cX9_stepLog 34 = .ok (.aload_n 0, 1) := dk_42 (dk_at dksX9_stepLog_1 11 rfl rfl)
theorem dX9_stepLog_35 : decode cX9_stepLog 35 = .ok (.iload_n 1, 1) := dk_27 (dk_at dksX9_stepLog_1 12 rfl rfl)
theorem dX9_stepLog_36 : decode cX9_stepLog 36 = .ok (.aload_n 0, 1) := dk_42 (dk_at dksX9_stepLog_1 13 rfl rfl)
theorem dX9_stepLog_37 : decode cX9_stepLog 37 = .ok (.getfield 148, 3) := dk_180 0 148 (dk_at dksX9_stepLog_1 14 rfl rfl)
theorem dX9_stepLog_40 : decode cX9_stepLog 40 = .ok (.iconst 0, 1) := dk_3 (dk_at dksX9_stepLog_1 17 rfl rfl)
theorem dX9_stepLog_41 : decode cX9_stepLog 41 = .ok (.invokevirtual 288, 3) := dk_182 1 32 (dk_at dksX9_stepLog_1 18 rfl rfl)
theorem dX9_stepLog_44 : decode cX9_stepLog 44 = .ok (.iload 5, 2) := dk_21 5 (dk_at dksX9_stepLog_1 21 rfl rfl)
theorem dX9_stepLog_46 : decode cX9_stepLog 46 = .ok (.iload 6, 2) := dk_21 6 (dk_at dksX9_stepLog_2 0 rfl rfl)
theorem dX9_stepLog_48 : decode cX9_stepLog 48 = .ok (.iadd, 1) := dk_96 (dk_at dksX9_stepLog_2 2 rfl rfl)
theorem dX9_stepLog_49 : decode cX9_stepLog 49 = .ok (.istore 5, 2) := dk_54 5 (dk_at dksX9_stepLog_2 3 rfl rfl)
theorem dX9_stepLog_51 : decode cX9_stepLog 51 = .ok (.goto (-48), 3) := dk_167 255 208 (dk_at dksX9_stepLog_2 5 rfl rfl)
theorem dX9_stepLog_54 : decode cX9_stepLog 54 = .ok (.return_, 1) := dk_177 (dk_at dksX9_stepLog_2 8 rfl rfl)
abbrev cX9_step : ByteArray := prog_17_method_39_code
def yX9_step : MethodName := ⟨RX9, "step", "(I[II)V"⟩
def dkwX9_step_3 : List UInt8 := [4, 96, 92, 46, 4, 96, 79, 177]
abbrev dktX9_step_3 : List UInt8 := dkwX9_step_3 ++ []
def dkwX9_step_2 : List UInt8 := [21, 5, 96, 44, 29, 21, 5, 96, 46, 79, 132, 5, 1, 167, 255, 221, 42, 180, 0, 36, 16, 8, 27, 104]
abbrev dktX9_step_2 : List UInt8 := dkwX9_step_2 ++ dktX9_step_3
def dkwX9_step_1 : List UInt8 := [54, 5, 21, 5, 16, 8, 162, 0, 34, 42, 180, 0, 46, 16, 8, 17, 1, 0, 27, 104, 21, 4, 96, 104]
abbrev dktX9_step_1 : List UInt8 := dkwX9_step_1 ++ dktX9_step_2
def dkwX9_step_0 : List UInt8 := [42, 180, 0, 36, 16, 8, 27, 104, 4, 96, 46, 54, 4, 21, 4, 17, 1, 0, 161, 0, 4, 177, 3]
abbrev dktX9_step_0 : List UInt8 := dkwX9_step_0 ++ dktX9_step_1
theorem dksX9_step_0 : cX9_step.data.toList.drop 0 = dktX9_step_0 := by decide +kernel
theorem dksX9_step_1 : cX9_step.data.toList.drop 23 = dktX9_step_1 := dk_seg dksX9_step_0 23 rfl rfl
theorem dksX9_step_2 : cX9_step.data.toList.drop 47 = dktX9_step_2 := dk_seg dksX9_step_1 24 rfl rfl
theorem dksX9_step_3 : cX9_step.data.toList.drop 71 = dktX9_step_3 := dk_seg dksX9_step_2 24 rfl rfl
theorem dX9_step_0 : decode cX9_step 0 = .ok (.aload_n 0, 1) := dk_42 (dk_at dksX9_step_0 0 rfl rfl)
theorem dX9_step_1 : decode cX9_step 1 = .ok (.getfield 36, 3) := dk_180 0 36 (dk_at dksX9_step_0 1 rfl rfl)
theorem dX9_step_4 : decode cX9_step 4 = .ok (.bipush 8, 2) := dk_16 8 (dk_at dksX9_step_0 4 rfl rfl)
theorem dX9_step_6 : decode cX9_step 6 = .ok (.iload_n 1, 1) := dk_27 (dk_at dksX9_step_0 6 rfl rfl)
theorem dX9_step_7 : decode cX9_step 7 = .ok (.imul, 1) := dk_104 (dk_at dksX9_step_0 7 rfl rfl)
theorem dX9_step_8 : decode cX9_step 8 = .ok (.iconst 1, 1) := dk_4 (dk_at dksX9_step_0 8 rfl rfl)
theorem dX9_step_9 : decode cX9_step 9 = .ok (.iadd, 1) := dk_96 (dk_at dksX9_step_0 9 rfl rfl)
theorem dX9_step_10 : decode cX9_step 10 = .ok (.iaload, 1) := dk_46 (dk_at dksX9_step_0 10 rfl rfl)
theorem dX9_step_11 : decode cX9_step 11 = .ok (.istore 4, 2) := dk_54 4 (dk_at dksX9_step_0 11 rfl rfl)
theorem dX9_step_13 : decode cX9_step 13 = .ok (.iload 4, 2) := dk_21 4 (dk_at dksX9_step_0 13 rfl rfl)
theorem dX9_step_15 : decode cX9_step 15 = .ok (.sipush 256, 3) := dk_17 1 0 (dk_at dksX9_step_0 15 rfl rfl)
theorem dX9_step_18 : decode cX9_step 18 = .ok (.if_icmp .lt 4, 3) := dk_161 0 4 (dk_at dksX9_step_0 18 rfl rfl)
theorem dX9_step_21 : decode cX9_step 21 = .ok (.return_, 1) := dk_177 (dk_at dksX9_step_0 21 rfl rfl)
theorem dX9_step_22 : decode cX9_step 22 = .ok (.iconst 0, 1) := dk_3 (dk_at dksX9_step_0 22 rfl rfl)
theorem dX9_step_23 : decode cX9_step 23 = .ok (.istore 5, 2) := dk_54 5 (dk_at dksX9_step_1 0 rfl rfl)
theorem dX9_step_25 : decode cX9_step 25 = .ok (.iload 5, 2) := dk_21 5 (dk_at dksX9_step_1 2 rfl rfl)
theorem dX9_step_27 : decode cX9_step 27 = .ok (.bipush 8, 2) := dk_16 8 (dk_at dksX9_step_1 4 rfl rfl)
theorem dX9_step_29 : decode cX9_step 29 = .ok (.if_icmp .ge 34, 3) := dk_162 0 34 (dk_at dksX9_step_1 6 rfl rfl)
theorem dX9_step_32 : decode cX9_step 32 = .ok (.aload_n 0, 1) := dk_42 (dk_at dksX9_step_1 9 rfl rfl)
theorem dX9_step_33 : decode cX9_step 33 = .ok (.getfield 46, 3) := dk_180 0 46 (dk_at dksX9_step_1 10 rfl rfl)
theorem dX9_step_36 : decode cX9_step 36 = .ok (.bipush 8, 2) := dk_16 8 (dk_at dksX9_step_1 13 rfl rfl)
theorem dX9_step_38 : decode cX9_step 38 = .ok (.sipush 256, 3) := dk_17 1 0 (dk_at dksX9_step_1 15 rfl rfl)
theorem dX9_step_41 : decode cX9_step 41 = .ok (.iload_n 1, 1) := dk_27 (dk_at dksX9_step_1 18 rfl rfl)
theorem dX9_step_42 : decode cX9_step 42 = .ok (.imul, 1) := dk_104 (dk_at dksX9_step_1 19 rfl rfl)
theorem dX9_step_43 : decode cX9_step 43 = .ok (.iload 4, 2) := dk_21 4 (dk_at dksX9_step_1 20 rfl rfl)
theorem dX9_step_45 : decode cX9_step 45 = .ok (.iadd, 1) := dk_96 (dk_at dksX9_step_1 22 rfl rfl)
theorem dX9_step_46 : decode cX9_step 46 = .ok (.imul, 1) := dk_104 (dk_at dksX9_step_1 23 rfl rfl)
theorem dX9_step_47 : decode cX9_step 47 = .ok (.iload 5, 2) := dk_21 5 (dk_at dksX9_step_2 0 rfl rfl)
theorem dX9_step_49 : decode cX9_step 49 = .ok (.iadd, 1) := dk_96 (dk_at dksX9_step_2 2 rfl rfl)
theorem dX9_step_50 : decode cX9_step 50 = .ok (.aload_n 2, 1) := dk_44 (dk_at dksX9_step_2 3 rfl rfl)
theorem dX9_step_51 : decode cX9_step 51 = .ok (.iload_n 3, 1) := dk_29 (dk_at dksX9_step_2 4 rfl rfl)
theorem dX9_step_52 : decode cX9_step 52 = .ok (.iload 5, 2) := dk_21 5 (dk_at dksX9_step_2 5 rfl rfl)
theorem dX9_step_54 : decode cX9_step 54 = .ok (.iadd, 1) := dk_96 (dk_at dksX9_step_2 7 rfl rfl)
theorem dX9_step_55 : decode cX9_step 55 = .ok (.iaload, 1) := dk_46 (dk_at dksX9_step_2 8 rfl rfl)
theorem dX9_step_56 : decode cX9_step 56 = .ok (.iastore, 1) := dk_79 (dk_at dksX9_step_2 9 rfl rfl)
theorem dX9_step_57 : decode cX9_step 57 = .ok (.iinc 5 1, 3) := dk_132 5 1 (dk_at dksX9_step_2 10 rfl rfl)
theorem dX9_step_60 : decode cX9_step 60 = .ok (.goto (-35), 3) := dk_167 255 221 (dk_at dksX9_step_2 13 rfl rfl)
theorem dX9_step_63 : decode cX9_step 63 = .ok (.aload_n 0, 1) := dk_42 (dk_at dksX9_step_2 16 rfl rfl)
theorem dX9_step_64 : decode cX9_step 64 = .ok (.getfield 36, 3) := dk_180 0 36 (dk_at dksX9_step_2 17 rfl rfl)
theorem dX9_step_67 : decode cX9_step 67 = .ok (.bipush 8, 2) := dk_16 8 (dk_at dksX9_step_2 20 rfl rfl)
theorem dX9_step_69 : decode cX9_step 69 = .ok (.iload_n 1, 1) := dk_27 (dk_at dksX9_step_2 22 rfl rfl)
theorem dX9_step_70 : decode cX9_step 70 = .ok (.imul, 1) := dk_104 (dk_at dksX9_step_2 23 rfl rfl)
theorem dX9_step_71 : decode cX9_step 71 = .ok (.iconst 1, 1) := dk_4 (dk_at dksX9_step_3 0 rfl rfl)
theorem dX9_step_72 : decode cX9_step 72 = .ok (.iadd, 1) := dk_96 (dk_at dksX9_step_3 1 rfl rfl)
theorem dX9_step_73 : decode cX9_step 73 = .ok (.dup2, 1) := dk_92 (dk_at dksX9_step_3 2 rfl rfl)
theorem dX9_step_74 : decode cX9_step 74 = .ok (.iaload, 1) := dk_46 (dk_at dksX9_step_3 3 rfl rfl)
theorem dX9_step_75 : decode cX9_step 75 = .ok (.iconst 1, 1) := dk_4 (dk_at dksX9_step_3 4 rfl rfl)
theorem dX9_step_76 : decode cX9_step 76 = .ok (.iadd, 1) := dk_96 (dk_at dksX9_step_3 5 rfl rfl)
theorem dX9_step_77 : decode cX9_step 77 = .ok (.iastore, 1) := dk_79 (dk_at dksX9_step_3 6 rfl rfl)
theorem dX9_step_78 : decode cX9_step 78 = .ok (.return_, 1) := dk_177 (dk_at dksX9_step_3 7 rfl rfl)
abbrev cX9_grown : ByteArray := prog_17_method_42_code
def yX9_grown : MethodName := ⟨RX9, "grown", "(IIII)I"⟩
def dkwX9_grown_2 : List UInt8 := [182, 1, 43, 42, 27, 28, 29, 21, 4, 182, 1, 43, 42, 180, 0, 36, 16, 8, 27, 104, 4, 96, 46, 172]
abbrev dktX9_grown_2 : List UInt8 := dkwX9_grown_2 ++ []
def dkwX9_grown_1 : List UInt8 := [21, 4, 164, 0, 5, 2, 172, 42, 27, 5, 21, 4, 29, 3, 182, 1, 39, 42, 27, 28, 3, 29]
abbrev dktX9_grown_1 : List UInt8 := dkwX9_grown_1 ++ dktX9_grown_2
def dkwX9_grown_0 : List UInt8 := [42, 27, 182, 1, 36, 153, 0, 23, 42, 28, 21, 4, 182, 1, 21, 153, 0, 13, 29, 155, 0, 9, 29]
abbrev dktX9_grown_0 : List UInt8 := dkwX9_grown_0 ++ dktX9_grown_1
theorem dksX9_grown_0 : cX9_grown.data.toList.drop 0 = dktX9_grown_0 := by decide +kernel
theorem dksX9_grown_1 : cX9_grown.data.toList.drop 23 = dktX9_grown_1 := dk_seg dksX9_grown_0 23 rfl rfl
theorem dksX9_grown_2 : cX9_grown.data.toList.drop 45 = dktX9_grown_2 := dk_seg dksX9_grown_1 22 rfl rfl
theorem dX9_grown_0 : decode cX9_grown 0 = .ok (.aload_n 0, 1) := dk_42 (dk_at dksX9_grown_0 0 rfl rfl)
theorem dX9_grown_1 : decode cX9_grown 1 = .ok (.iload_n 1, 1) := dk_27 (dk_at dksX9_grown_0 1 rfl rfl)
theorem dX9_grown_2 : decode cX9_grown 2 = .ok (.invokevirtual 292, 3) := dk_182 1 36 (dk_at dksX9_grown_0 2 rfl rfl)
theorem dX9_grown_5 : decode cX9_grown 5 = .ok (.ifCond .eq 23, 3) := dk_153 0 23 (dk_at dksX9_grown_0 5 rfl rfl)
theorem dX9_grown_8 : decode cX9_grown 8 = .ok (.aload_n 0, 1) := dk_42 (dk_at dksX9_grown_0 8 rfl rfl)
theorem dX9_grown_9 : decode cX9_grown 9 = .ok (.iload_n 2, 1) := dk_28 (dk_at dksX9_grown_0 9 rfl rfl)
theorem dX9_grown_10 : decode cX9_grown 10 = .ok (.iload 4, 2) := dk_21 4 (dk_at dksX9_grown_0 10 rfl rfl)
theorem dX9_grown_12 : decode cX9_grown 12 = .ok (.invokevirtual 277, 3) := dk_182 1 21 (dk_at dksX9_grown_0 12 rfl rfl)
theorem dX9_grown_15 : decode cX9_grown 15 = .ok (.ifCond .eq 13, 3) := dk_153 0 13 (dk_at dksX9_grown_0 15 rfl rfl)
theorem dX9_grown_18 : decode cX9_grown 18 = .ok (.iload_n 3, 1) := dk_29 (dk_at dksX9_grown_0 18 rfl rfl)
theorem dX9_grown_19 : decode cX9_grown 19 = .ok (.ifCond .lt 9, 3) := dk_155 0 9 (dk_at dksX9_grown_0 19 rfl rfl)
theorem dX9_grown_22 : decode cX9_grown 22 = .ok (.iload_n 3, 1) := dk_29 (dk_at dksX9_grown_0 22 rfl rfl)
theorem dX9_grown_23 : decode cX9_grown 23 = .ok (.iload 4, 2) := dk_21 4 (dk_at dksX9_grown_1 0 rfl rfl)
theorem dX9_grown_25 : decode cX9_grown 25 = .ok (.if_icmp .le 5, 3) := dk_164 0 5 (dk_at dksX9_grown_1 2 rfl rfl)
theorem dX9_grown_28 : decode cX9_grown 28 = .ok (.iconst (-1), 1) := dk_2 (dk_at dksX9_grown_1 5 rfl rfl)
theorem dX9_grown_29 : decode cX9_grown 29 = .ok (.ireturn, 1) := dk_172 (dk_at dksX9_grown_1 6 rfl rfl)
theorem dX9_grown_30 : decode cX9_grown 30 = .ok (.aload_n 0, 1) := dk_42 (dk_at dksX9_grown_1 7 rfl rfl)
theorem dX9_grown_31 : decode cX9_grown 31 = .ok (.iload_n 1, 1) := dk_27 (dk_at dksX9_grown_1 8 rfl rfl)
theorem dX9_grown_32 : decode cX9_grown 32 = .ok (.iconst 2, 1) := dk_5 (dk_at dksX9_grown_1 9 rfl rfl)
theorem dX9_grown_33 : decode cX9_grown 33 = .ok (.iload 4, 2) := dk_21 4 (dk_at dksX9_grown_1 10 rfl rfl)
theorem dX9_grown_35 : decode cX9_grown 35 = .ok (.iload_n 3, 1) := dk_29 (dk_at dksX9_grown_1 12 rfl rfl)
theorem dX9_grown_36 : decode cX9_grown 36 = .ok (.iconst 0, 1) := dk_3 (dk_at dksX9_grown_1 13 rfl rfl)
theorem dX9_grown_37 : decode cX9_grown 37 = .ok (.invokevirtual 295, 3) := dk_182 1 39 (dk_at dksX9_grown_1 14 rfl rfl)
theorem dX9_grown_40 : decode cX9_grown 40 = .ok (.aload_n 0, 1) := dk_42 (dk_at dksX9_grown_1 17 rfl rfl)
theorem dX9_grown_41 : decode cX9_grown 41 = .ok (.iload_n 1, 1) := dk_27 (dk_at dksX9_grown_1 18 rfl rfl)
theorem dX9_grown_42 : decode cX9_grown 42 = .ok (.iload_n 2, 1) := dk_28 (dk_at dksX9_grown_1 19 rfl rfl)
theorem dX9_grown_43 : decode cX9_grown 43 = .ok (.iconst 0, 1) := dk_3 (dk_at dksX9_grown_1 20 rfl rfl)
theorem dX9_grown_44 : decode cX9_grown 44 = .ok (.iload_n 3, 1) := dk_29 (dk_at dksX9_grown_1 21 rfl rfl)
theorem dX9_grown_45 : decode cX9_grown 45 = .ok (.invokevirtual 299, 3) := dk_182 1 43 (dk_at dksX9_grown_2 0 rfl rfl)
theorem dX9_grown_48 : decode cX9_grown 48 = .ok (.aload_n 0, 1) := dk_42 (dk_at dksX9_grown_2 3 rfl rfl)
theorem dX9_grown_49 : decode cX9_grown 49 = .ok (.iload_n 1, 1) := dk_27 (dk_at dksX9_grown_2 4 rfl rfl)
theorem dX9_grown_50 : decode cX9_grown 50 = .ok (.iload_n 2, 1) := dk_28 (dk_at dksX9_grown_2 5 rfl rfl)
theorem dX9_grown_51 : decode cX9_grown 51 = .ok (.iload_n 3, 1) := dk_29 (dk_at dksX9_grown_2 6 rfl rfl)
theorem dX9_grown_52 : decode cX9_grown 52 = .ok (.iload 4, 2) := dk_21 4 (dk_at dksX9_grown_2 7 rfl rfl)
theorem dX9_grown_54 : decode cX9_grown 54 = .ok (.invokevirtual 299, 3) := dk_182 1 43 (dk_at dksX9_grown_2 9 rfl rfl)
theorem dX9_grown_57 : decode cX9_grown 57 = .ok (.aload_n 0, 1) := dk_42 (dk_at dksX9_grown_2 12 rfl rfl)
theorem dX9_grown_58 : decode cX9_grown 58 = .ok (.getfield 36, 3) := dk_180 0 36 (dk_at dksX9_grown_2 13 rfl rfl)
theorem dX9_grown_61 : decode cX9_grown 61 = .ok (.bipush 8, 2) := dk_16 8 (dk_at dksX9_grown_2 16 rfl rfl)
theorem dX9_grown_63 : decode cX9_grown 63 = .ok (.iload_n 1, 1) := dk_27 (dk_at dksX9_grown_2 18 rfl rfl)
theorem dX9_grown_64 : decode cX9_grown 64 = .ok (.imul, 1) := dk_104 (dk_at dksX9_grown_2 19 rfl rfl)
theorem dX9_grown_65 : decode cX9_grown 65 = .ok (.iconst 1, 1) := dk_4 (dk_at dksX9_grown_2 20 rfl rfl)
theorem dX9_grown_66 : decode cX9_grown 66 = .ok (.iadd, 1) := dk_96 (dk_at dksX9_grown_2 21 rfl rfl)
theorem dX9_grown_67 : decode cX9_grown 67 = .ok (.iaload, 1) := dk_46 (dk_at dksX9_grown_2 22 rfl rfl)
theorem dX9_grown_68 : decode cX9_grown 68 = .ok (.ireturn, 1) := dk_172 (dk_at dksX9_grown_2 23 rfl rfl)
abbrev cX9_held : ByteArray := prog_17_method_44_code
def yX9_held : MethodName := ⟨RX9, "held", "(IIII)I"⟩
def dkwX9_held_4 : List UInt8 := [4, 96, 46, 172]
abbrev dktX9_held_4 : List UInt8 := dkwX9_held_4 ++ []
def dkwX9_held_3 : List UInt8 := [96, 42, 180, 0, 154, 21, 5, 46, 79, 42, 27, 21, 4, 182, 1, 50, 42, 180, 0, 36, 16, 8, 27, 104]
abbrev dktX9_held_3 : List UInt8 := dkwX9_held_3 ++ dktX9_held_4
def dkwX9_held_2 : List UInt8 := [3, 182, 1, 39, 42, 180, 0, 39, 16, 40, 27, 104, 21, 4, 79, 42, 180, 0, 36, 16, 8, 27, 104, 8]
abbrev dktX9_held_2 : List UInt8 := dkwX9_held_2 ++ dktX9_held_3
def dkwX9_held_1 : List UInt8 := [182, 1, 4, 42, 21, 4, 182, 0, 230, 54, 5, 21, 5, 2, 160, 0, 5, 2, 172, 42, 27, 6, 29, 3]
abbrev dktX9_held_1 : List UInt8 := dkwX9_held_1 ++ dktX9_held_2
def dkwX9_held_0 : List UInt8 := [42, 27, 182, 1, 36, 153, 0, 12, 42, 28, 29, 182, 1, 21, 154, 0, 5, 2, 172, 42, 28, 29]
abbrev dktX9_held_0 : List UInt8 := dkwX9_held_0 ++ dktX9_held_1
theorem dksX9_held_0 : cX9_held.data.toList.drop 0 = dktX9_held_0 := by decide +kernel
theorem dksX9_held_1 : cX9_held.data.toList.drop 22 = dktX9_held_1 := dk_seg dksX9_held_0 22 rfl rfl
theorem dksX9_held_2 : cX9_held.data.toList.drop 46 = dktX9_held_2 := dk_seg dksX9_held_1 24 rfl rfl
theorem dksX9_held_3 : cX9_held.data.toList.drop 70 = dktX9_held_3 := dk_seg dksX9_held_2 24 rfl rfl
theorem dksX9_held_4 : cX9_held.data.toList.drop 94 = dktX9_held_4 := dk_seg dksX9_held_3 24 rfl rfl
theorem dX9_held_0 : decode cX9_held 0 = .ok (.aload_n 0, 1) := dk_42 (dk_at dksX9_held_0 0 rfl rfl)
theorem dX9_held_1 : decode cX9_held 1 = .ok (.iload_n 1, 1) := dk_27 (dk_at dksX9_held_0 1 rfl rfl)
theorem dX9_held_2 : decode cX9_held 2 = .ok (.invokevirtual 292, 3) := dk_182 1 36 (dk_at dksX9_held_0 2 rfl rfl)
theorem dX9_held_5 : decode cX9_held 5 = .ok (.ifCond .eq 12, 3) := dk_153 0 12 (dk_at dksX9_held_0 5 rfl rfl)
theorem dX9_held_8 : decode cX9_held 8 = .ok (.aload_n 0, 1) := dk_42 (dk_at dksX9_held_0 8 rfl rfl)
theorem dX9_held_9 : decode cX9_held 9 = .ok (.iload_n 2, 1) := dk_28 (dk_at dksX9_held_0 9 rfl rfl)
theorem dX9_held_10 : decode cX9_held 10 = .ok (.iload_n 3, 1) := dk_29 (dk_at dksX9_held_0 10 rfl rfl)
theorem dX9_held_11 : decode cX9_held 11 = .ok (.invokevirtual 277, 3) := dk_182 1 21 (dk_at dksX9_held_0 11 rfl rfl)
theorem dX9_held_14 : decode cX9_held 14 = .ok (.ifCond .ne 5, 3) := dk_154 0 5 (dk_at dksX9_held_0 14 rfl rfl)
theorem dX9_held_17 : decode cX9_held 17 = .ok (.iconst (-1), 1) := dk_2 (dk_at dksX9_held_0 17 rfl rfl)
theorem dX9_held_18 : decode cX9_held 18 = .ok (.ireturn, 1) := dk_172 (dk_at dksX9_held_0 18 rfl rfl)
theorem dX9_held_19 : decode cX9_held 19 = .ok (.aload_n 0, 1) := dk_42 (dk_at dksX9_held_0 19 rfl rfl)
theorem dX9_held_20 : decode cX9_held 20 = .ok (.iload_n 2, 1) := dk_28 (dk_at dksX9_held_0 20 rfl rfl)
theorem dX9_held_21 : decode cX9_held 21 = .ok (.iload_n 3, 1) := dk_29 (dk_at dksX9_held_0 21 rfl rfl)
theorem dX9_held_22 : decode cX9_held 22 = .ok (.invokevirtual 260, 3) := dk_182 1 4 (dk_at dksX9_held_1 0 rfl rfl)
theorem dX9_held_25 : decode cX9_held 25 = .ok (.aload_n 0, 1) := dk_42 (dk_at dksX9_held_1 3 rfl rfl)
theorem dX9_held_26 : decode cX9_held 26 = .ok (.iload 4, 2) := dk_21 4 (dk_at dksX9_held_1 4 rfl rfl)
theorem dX9_held_28 : decode cX9_held 28 = .ok (.invokevirtual 230, 3) := dk_182 0 230 (dk_at dksX9_held_1 6 rfl rfl)
theorem dX9_held_31 : decode cX9_held 31 = .ok (.istore 5, 2) := dk_54 5 (dk_at dksX9_held_1 9 rfl rfl)
theorem dX9_held_33 : decode cX9_held 33 = .ok (.iload 5, 2) := dk_21 5 (dk_at dksX9_held_1 11 rfl rfl)
theorem dX9_held_35 : decode cX9_held 35 = .ok (.iconst (-1), 1) := dk_2 (dk_at dksX9_held_1 13 rfl rfl)
theorem dX9_held_36 : decode cX9_held 36 = .ok (.if_icmp .ne 5, 3) := dk_160 0 5 (dk_at dksX9_held_1 14 rfl rfl)
theorem dX9_held_39 : decode cX9_held 39 = .ok (.iconst (-1), 1) := dk_2 (dk_at dksX9_held_1 17 rfl rfl)
theorem dX9_held_40 : decode cX9_held 40 = .ok (.ireturn, 1) := dk_172 (dk_at dksX9_held_1 18 rfl rfl)
theorem dX9_held_41 : decode cX9_held 41 = .ok (.aload_n 0, 1) := dk_42 (dk_at dksX9_held_1 19 rfl rfl)
theorem dX9_held_42 : decode cX9_held 42 = .ok (.iload_n 1, 1) := dk_27 (dk_at dksX9_held_1 20 rfl rfl)
theorem dX9_held_43 : decode cX9_held 43 = .ok (.iconst 3, 1) := dk_6 (dk_at dksX9_held_1 21 rfl rfl)
theorem dX9_held_44 : decode cX9_held 44 = .ok (.iload_n 3, 1) := dk_29 (dk_at dksX9_held_1 22 rfl rfl)
theorem dX9_held_45 : decode cX9_held 45 = .ok (.iconst 0, 1) := dk_3 (dk_at dksX9_held_1 23 rfl rfl)
theorem dX9_held_46 : decode cX9_held 46 = .ok (.iconst 0, 1) := dk_3 (dk_at dksX9_held_2 0 rfl rfl)
theorem dX9_held_47 : decode cX9_held 47 = .ok (.invokevirtual 295, 3) := dk_182 1 39 (dk_at dksX9_held_2 1 rfl rfl)
theorem dX9_held_50 : decode cX9_held 50 = .ok (.aload_n 0, 1) := dk_42 (dk_at dksX9_held_2 4 rfl rfl)
theorem dX9_held_51 : decode cX9_held 51 = .ok (.getfield 39, 3) := dk_180 0 39 (dk_at dksX9_held_2 5 rfl rfl)
theorem dX9_held_54 : decode cX9_held 54 = .ok (.bipush 40, 2) := dk_16 40 (dk_at dksX9_held_2 8 rfl rfl)
theorem dX9_held_56 : decode cX9_held 56 = .ok (.iload_n 1, 1) := dk_27 (dk_at dksX9_held_2 10 rfl rfl)
theorem dX9_held_57 : decode cX9_held 57 = .ok (.imul, 1) := dk_104 (dk_at dksX9_held_2 11 rfl rfl)
theorem dX9_held_58 : decode cX9_held 58 = .ok (.iload 4, 2) := dk_21 4 (dk_at dksX9_held_2 12 rfl rfl)
theorem dX9_held_60 : decode cX9_held 60 = .ok (.iastore, 1) := dk_79 (dk_at dksX9_held_2 14 rfl rfl)
theorem dX9_held_61 : decode cX9_held 61 = .ok (.aload_n 0, 1) := dk_42 (dk_at dksX9_held_2 15 rfl rfl)
theorem dX9_held_62 : decode cX9_held 62 = .ok (.getfield 36, 3) := dk_180 0 36 (dk_at dksX9_held_2 16 rfl rfl)
theorem dX9_held_65 : decode cX9_held 65 = .ok (.bipush 8, 2) := dk_16 8 (dk_at dksX9_held_2 19 rfl rfl)
theorem dX9_held_67 : decode cX9_held 67 = .ok (.iload_n 1, 1) := dk_27 (dk_at dksX9_held_2 21 rfl rfl)
theorem dX9_held_68 : decode cX9_held 68 = .ok (.imul, 1) := dk_104 (dk_at dksX9_held_2 22 rfl rfl)
theorem dX9_held_69 : decode cX9_held 69 = .ok (.iconst 5, 1) := dk_8 (dk_at dksX9_held_2 23 rfl rfl)
theorem dX9_held_70 : decode cX9_held 70 = .ok (.iadd, 1) := dk_96 (dk_at dksX9_held_3 0 rfl rfl)
theorem dX9_held_71 : decode cX9_held 71 = .ok (.aload_n 0, 1) := dk_42 (dk_at dksX9_held_3 1 rfl rfl)
theorem dX9_held_72 : decode cX9_held 72 = .ok (.getfield 154, 3) := dk_180 0 154 (dk_at dksX9_held_3 2 rfl rfl)
theorem dX9_held_75 : decode cX9_held 75 = .ok (.iload 5, 2) := dk_21 5 (dk_at dksX9_held_3 5 rfl rfl)
theorem dX9_held_77 : decode cX9_held 77 = .ok (.iaload, 1) := dk_46 (dk_at dksX9_held_3 7 rfl rfl)
theorem dX9_held_78 : decode cX9_held 78 = .ok (.iastore, 1) := dk_79 (dk_at dksX9_held_3 8 rfl rfl)
theorem dX9_held_79 : decode cX9_held 79 = .ok (.aload_n 0, 1) := dk_42 (dk_at dksX9_held_3 9 rfl rfl)
theorem dX9_held_80 : decode cX9_held 80 = .ok (.iload_n 1, 1) := dk_27 (dk_at dksX9_held_3 10 rfl rfl)
theorem dX9_held_81 : decode cX9_held 81 = .ok (.iload 4, 2) := dk_21 4 (dk_at dksX9_held_3 11 rfl rfl)
theorem dX9_held_83 : decode cX9_held 83 = .ok (.invokevirtual 306, 3) := dk_182 1 50 (dk_at dksX9_held_3 13 rfl rfl)
theorem dX9_held_86 : decode cX9_held 86 = .ok (.aload_n 0, 1) := dk_42 (dk_at dksX9_held_3 16 rfl rfl)
theorem dX9_held_87 : decode cX9_held 87 = .ok (.getfield 36, 3) := dk_180 0 36 (dk_at dksX9_held_3 17 rfl rfl)
theorem dX9_held_90 : decode cX9_held 90 = .ok (.bipush 8, 2) := dk_16 8 (dk_at dksX9_held_3 20 rfl rfl)
theorem dX9_held_92 : decode cX9_held 92 = .ok (.iload_n 1, 1) := dk_27 (dk_at dksX9_held_3 22 rfl rfl)
theorem dX9_held_93 : decode cX9_held 93 = .ok (.imul, 1) := dk_104 (dk_at dksX9_held_3 23 rfl rfl)
theorem dX9_held_94 : decode cX9_held 94 = .ok (.iconst 1, 1) := dk_4 (dk_at dksX9_held_4 0 rfl rfl)
theorem dX9_held_95 : decode cX9_held 95 = .ok (.iadd, 1) := dk_96 (dk_at dksX9_held_4 1 rfl rfl)
theorem dX9_held_96 : decode cX9_held 96 = .ok (.iaload, 1) := dk_46 (dk_at dksX9_held_4 2 rfl rfl)
theorem dX9_held_97 : decode cX9_held 97 = .ok (.ireturn, 1) := dk_172 (dk_at dksX9_held_4 3 rfl rfl)
abbrev cX9_follow : ByteArray := prog_17_method_43_code
def yX9_follow : MethodName := ⟨RX9, "follow", "(II)V"⟩
def dkwX9_follow_5 : List UInt8 := [29, 21, 4, 160, 0, 7, 2, 167, 0, 9, 42, 180, 0, 160, 29, 46, 181, 1, 47, 177]
abbrev dktX9_follow_5 : List UInt8 := dkwX9_follow_5 ++ []
def dkwX9_follow_4 : List UInt8 := [182, 0, 249, 21, 6, 54, 4, 42, 27, 42, 180, 0, 172, 3, 182, 1, 32, 132, 5, 1, 167, 255, 168, 42]
abbrev dktX9_follow_4 : List UInt8 := dkwX9_follow_4 ++ dktX9_follow_5
def dkwX9_follow_3 : List UInt8 := [3, 182, 0, 249, 21, 6, 62, 167, 0, 24, 42, 21, 6, 21, 4, 21, 5, 4, 96, 42, 180, 0, 172, 3]
abbrev dktX9_follow_3 : List UInt8 := dkwX9_follow_3 ++ dktX9_follow_4
def dkwX9_follow_2 : List UInt8 := [180, 0, 175, 3, 21, 5, 184, 0, 237, 153, 0, 25, 42, 29, 21, 6, 21, 5, 4, 96, 42, 180, 0, 172]
abbrev dktX9_follow_2 : List UInt8 := dkwX9_follow_2 ++ dktX9_follow_3
def dkwX9_follow_1 : List UInt8 := [54, 5, 21, 4, 29, 100, 4, 164, 0, 86, 42, 29, 21, 4, 21, 5, 182, 0, 245, 54, 6, 42]
abbrev dktX9_follow_1 : List UInt8 := dkwX9_follow_1 ++ dktX9_follow_2
def dkwX9_follow_0 : List UInt8 := [42, 28, 182, 0, 234, 42, 42, 180, 0, 175, 3, 182, 0, 192, 3, 62, 42, 180, 0, 223, 54, 4, 3]
abbrev dktX9_follow_0 : List UInt8 := dkwX9_follow_0 ++ dktX9_follow_1
theorem dksX9_follow_0 : cX9_follow.data.toList.drop 0 = dktX9_follow_0 := by decide +kernel
theorem dksX9_follow_1 : cX9_follow.data.toList.drop 23 = dktX9_follow_1 := dk_seg dksX9_follow_0 23 rfl rfl
theorem dksX9_follow_2 : cX9_follow.data.toList.drop 45 = dktX9_follow_2 := dk_seg dksX9_follow_1 22 rfl rfl
theorem dksX9_follow_3 : cX9_follow.data.toList.drop 69 = dktX9_follow_3 := dk_seg dksX9_follow_2 24 rfl rfl
theorem dksX9_follow_4 : cX9_follow.data.toList.drop 93 = dktX9_follow_4 := dk_seg dksX9_follow_3 24 rfl rfl
theorem dksX9_follow_5 : cX9_follow.data.toList.drop 117 = dktX9_follow_5 := dk_seg dksX9_follow_4 24 rfl rfl
theorem dX9_follow_0 : decode cX9_follow 0 = .ok (.aload_n 0, 1) := dk_42 (dk_at dksX9_follow_0 0 rfl rfl)
theorem dX9_follow_1 : decode cX9_follow 1 = .ok (.iload_n 2, 1) := dk_28 (dk_at dksX9_follow_0 1 rfl rfl)
theorem dX9_follow_2 : decode cX9_follow 2 = .ok (.invokevirtual 234, 3) := dk_182 0 234 (dk_at dksX9_follow_0 2 rfl rfl)
theorem dX9_follow_5 : decode cX9_follow 5 = .ok (.aload_n 0, 1) := dk_42 (dk_at dksX9_follow_0 5 rfl rfl)
theorem dX9_follow_6 : decode cX9_follow 6 = .ok (.aload_n 0, 1) := dk_42 (dk_at dksX9_follow_0 6 rfl rfl)
theorem dX9_follow_7 : decode cX9_follow 7 = .ok (.getfield 175, 3) := dk_180 0 175 (dk_at dksX9_follow_0 7 rfl rfl)
theorem dX9_follow_10 : decode cX9_follow 10 = .ok (.iconst 0, 1) := dk_3 (dk_at dksX9_follow_0 10 rfl rfl)
theorem dX9_follow_11 : decode cX9_follow 11 = .ok (.invokevirtual 192, 3) := dk_182 0 192 (dk_at dksX9_follow_0 11 rfl rfl)
theorem dX9_follow_14 : decode cX9_follow 14 = .ok (.iconst 0, 1) := dk_3 (dk_at dksX9_follow_0 14 rfl rfl)
theorem dX9_follow_15 : decode cX9_follow 15 = .ok (.istore_n 3, 1) := dk_62 (dk_at dksX9_follow_0 15 rfl rfl)
theorem dX9_follow_16 : decode cX9_follow 16 = .ok (.aload_n 0, 1) := dk_42 (dk_at dksX9_follow_0 16 rfl rfl)
theorem dX9_follow_17 : decode cX9_follow 17 = .ok (.getfield 223, 3) := dk_180 0 223 (dk_at dksX9_follow_0 17 rfl rfl)
theorem dX9_follow_20 : decode cX9_follow 20 = .ok (.istore 4, 2) := dk_54 4 (dk_at dksX9_follow_0 20 rfl rfl)
theorem dX9_follow_22 : decode cX9_follow 22 = .ok (.iconst 0, 1) := dk_3 (dk_at dksX9_follow_0 22 rfl rfl)
theorem dX9_follow_23 : decode cX9_follow 23 = .ok (.istore 5, 2) := dk_54 5 (dk_at dksX9_follow_1 0 rfl rfl)
theorem dX9_follow_25 : decode cX9_follow 25 = .ok (.iload 4, 2) := dk_21 4 (dk_at dksX9_follow_1 2 rfl rfl)
theorem dX9_follow_27 : decode cX9_follow 27 = .ok (.iload_n 3, 1) := dk_29 (dk_at dksX9_follow_1 4 rfl rfl)
theorem dX9_follow_28 : decode cX9_follow 28 = .ok (.isub, 1) := dk_100 (dk_at dksX9_follow_1 5 rfl rfl)
theorem dX9_follow_29 : decode cX9_follow 29 = .ok (.iconst 1, 1) := dk_4 (dk_at dksX9_follow_1 6 rfl rfl)
theorem dX9_follow_30 : decode cX9_follow 30 = .ok (.if_icmp .le 86, 3) := dk_164 0 86 (dk_at dksX9_follow_1 7 rfl rfl)
theorem dX9_follow_33 : decode cX9_follow 33 = .ok (.aload_n 0, 1) := dk_42 (dk_at dksX9_follow_1 10 rfl rfl)
theorem dX9_follow_34 : decode cX9_follow 34 = .ok (.iload_n 3, 1) := dk_29 (dk_at dksX9_follow_1 11 rfl rfl)
theorem dX9_follow_35 : decode cX9_follow 35 = .ok (.iload 4, 2) := dk_21 4 (dk_at dksX9_follow_1 12 rfl rfl)
theorem dX9_follow_37 : decode cX9_follow 37 = .ok (.iload 5, 2) := dk_21 5 (dk_at dksX9_follow_1 14 rfl rfl)
theorem dX9_follow_39 : decode cX9_follow 39 = .ok (.invokevirtual 245, 3) := dk_182 0 245 (dk_at dksX9_follow_1 16 rfl rfl)
theorem dX9_follow_42 : decode cX9_follow 42 = .ok (.istore 6, 2) := dk_54 6 (dk_at dksX9_follow_1 19 rfl rfl)
theorem dX9_follow_44 : decode cX9_follow 44 = .ok (.aload_n 0, 1) := dk_42 (dk_at dksX9_follow_1 21 rfl rfl)
theorem dX9_follow_45 : decode cX9_follow 45 = .ok (.getfield 175, 3) := dk_180 0 175 (dk_at dksX9_follow_2 0 rfl rfl)
theorem dX9_follow_48 : decode cX9_follow 48 = .ok (.iconst 0, 1) := dk_3 (dk_at dksX9_follow_2 3 rfl rfl)
theorem dX9_follow_49 : decode cX9_follow 49 = .ok (.iload 5, 2) := dk_21 5 (dk_at dksX9_follow_2 4 rfl rfl)
theorem dX9_follow_51 : decode cX9_follow 51 = .ok (.invokestatic 237, 3) := dk_184 0 237 (dk_at dksX9_follow_2 6 rfl rfl)
theorem dX9_follow_54 : decode cX9_follow 54 = .ok (.ifCond .eq 25, 3) := dk_153 0 25 (dk_at dksX9_follow_2 9 rfl rfl)
theorem dX9_follow_57 : decode cX9_follow 57 = .ok (.aload_n 0, 1) := dk_42 (dk_at dksX9_follow_2 12 rfl rfl)
theorem dX9_follow_58 : decode cX9_follow 58 = .ok (.iload_n 3, 1) := dk_29 (dk_at dksX9_follow_2 13 rfl rfl)
theorem dX9_follow_59 : decode cX9_follow 59 = .ok (.iload 6, 2) := dk_21 6 (dk_at dksX9_follow_2 14 rfl rfl)
theorem dX9_follow_61 : decode cX9_follow 61 = .ok (.iload 5, 2) := dk_21 5 (dk_at dksX9_follow_2 16 rfl rfl)
theorem dX9_follow_63 : decode cX9_follow 63 = .ok (.iconst 1, 1) := dk_4 (dk_at dksX9_follow_2 18 rfl rfl)
theorem dX9_follow_64 : decode cX9_follow 64 = .ok (.iadd, 1) := dk_96 (dk_at dksX9_follow_2 19 rfl rfl)
theorem dX9_follow_65 : decode cX9_follow 65 = .ok (.aload_n 0, 1) := dk_42 (dk_at dksX9_follow_2 20 rfl rfl)
theorem dX9_follow_66 : decode cX9_follow 66 = .ok (.getfield 172, 3) := dk_180 0 172 (dk_at dksX9_follow_2 21 rfl rfl)
theorem dX9_follow_69 : decode cX9_follow 69 = .ok (.iconst 0, 1) := dk_3 (dk_at dksX9_follow_3 0 rfl rfl)
theorem dX9_follow_70 : decode cX9_follow 70 = .ok (.invokevirtual 249, 3) := dk_182 0 249 (dk_at dksX9_follow_3 1 rfl rfl)
theorem dX9_follow_73 : decode cX9_follow 73 = .ok (.iload 6, 2) := dk_21 6 (dk_at dksX9_follow_3 4 rfl rfl)
theorem dX9_follow_75 : decode cX9_follow 75 = .ok (.istore_n 3, 1) := dk_62 (dk_at dksX9_follow_3 6 rfl rfl)
theorem dX9_follow_76 : decode cX9_follow 76 = .ok (.goto 24, 3) := dk_167 0 24 (dk_at dksX9_follow_3 7 rfl rfl)
theorem dX9_follow_79 : decode cX9_follow 79 = .ok (.aload_n 0, 1) := dk_42 (dk_at dksX9_follow_3 10 rfl rfl)
theorem dX9_follow_80 : decode cX9_follow 80 = .ok (.iload 6, 2) := dk_21 6 (dk_at dksX9_follow_3 11 rfl rfl)
theorem dX9_follow_82 : decode cX9_follow 82 = .ok (.iload 4, 2) := dk_21 4 (dk_at dksX9_follow_3 13 rfl rfl)
theorem dX9_follow_84 : decode cX9_follow 84 = .ok (.iload 5, 2) := dk_21 5 (dk_at dksX9_follow_3 15 rfl rfl)
theorem dX9_follow_86 : decode cX9_follow 86 = .ok (.iconst 1, 1) := dk_4 (dk_at dksX9_follow_3 17 rfl rfl)
theorem dX9_follow_87 : decode cX9_follow 87 = .ok (.iadd, 1) := dk_96 (dk_at dksX9_follow_3 18 rfl rfl)
theorem dX9_follow_88 : decode cX9_follow 88 = .ok (.aload_n 0, 1) := dk_42 (dk_at dksX9_follow_3 19 rfl rfl)
theorem dX9_follow_89 : decode cX9_follow 89 = .ok (.getfield 172, 3) := dk_180 0 172 (dk_at dksX9_follow_3 20 rfl rfl)
theorem dX9_follow_92 : decode cX9_follow 92 = .ok (.iconst 0, 1) := dk_3 (dk_at dksX9_follow_3 23 rfl rfl)
theorem dX9_follow_93 : decode cX9_follow 93 = .ok (.invokevirtual 249, 3) := dk_182 0 249 (dk_at dksX9_follow_4 0 rfl rfl)
theorem dX9_follow_96 : decode cX9_follow 96 = .ok (.iload 6, 2) := dk_21 6 (dk_at dksX9_follow_4 3 rfl rfl)
theorem dX9_follow_98 : decode cX9_follow 98 = .ok (.istore 4, 2) := dk_54 4 (dk_at dksX9_follow_4 5 rfl rfl)
theorem dX9_follow_100 : decode cX9_follow 100 = .ok (.aload_n 0, 1) := dk_42 (dk_at dksX9_follow_4 7 rfl rfl)
theorem dX9_follow_101 : decode cX9_follow 101 = .ok (.iload_n 1, 1) := dk_27 (dk_at dksX9_follow_4 8 rfl rfl)
theorem dX9_follow_102 : decode cX9_follow 102 = .ok (.aload_n 0, 1) := dk_42 (dk_at dksX9_follow_4 9 rfl rfl)
theorem dX9_follow_103 : decode cX9_follow 103 = .ok (.getfield 172, 3) := dk_180 0 172 (dk_at dksX9_follow_4 10 rfl rfl)
theorem dX9_follow_106 : decode cX9_follow 106 = .ok (.iconst 0, 1) := dk_3 (dk_at dksX9_follow_4 13 rfl rfl)
theorem dX9_follow_107 : decode cX9_follow 107 = .ok (.invokevirtual 288, 3) := dk_182 1 32 (dk_at dksX9_follow_4 14 rfl rfl)
theorem dX9_follow_110 : decode cX9_follow 110 = .ok (.iinc 5 1, 3) := dk_132 5 1 (dk_at dksX9_follow_4 17 rfl rfl)
theorem dX9_follow_113 : decode cX9_follow 113 = .ok (.goto (-88), 3) := dk_167 255 168 (dk_at dksX9_follow_4 20 rfl rfl)
theorem dX9_follow_116 : decode cX9_follow 116 = .ok (.aload_n 0, 1) := dk_42 (dk_at dksX9_follow_4 23 rfl rfl)
theorem dX9_follow_117 : decode cX9_follow 117 = .ok (.iload_n 3, 1) := dk_29 (dk_at dksX9_follow_5 0 rfl rfl)
theorem dX9_follow_118 : decode cX9_follow 118 = .ok (.iload 4, 2) := dk_21 4 (dk_at dksX9_follow_5 1 rfl rfl)
theorem dX9_follow_120 : decode cX9_follow 120 = .ok (.if_icmp .ne 7, 3) := dk_160 0 7 (dk_at dksX9_follow_5 3 rfl rfl)
theorem dX9_follow_123 : decode cX9_follow 123 = .ok (.iconst (-1), 1) := dk_2 (dk_at dksX9_follow_5 6 rfl rfl)
theorem dX9_follow_124 : decode cX9_follow 124 = .ok (.goto 9, 3) := dk_167 0 9 (dk_at dksX9_follow_5 7 rfl rfl)
theorem dX9_follow_127 : decode cX9_follow 127 = .ok (.aload_n 0, 1) := dk_42 (dk_at dksX9_follow_5 10 rfl rfl)
theorem dX9_follow_128 : decode cX9_follow 128 = .ok (.getfield 160, 3) := dk_180 0 160 (dk_at dksX9_follow_5 11 rfl rfl)
theorem dX9_follow_131 : decode cX9_follow 131 = .ok (.iload_n 3, 1) := dk_29 (dk_at dksX9_follow_5 14 rfl rfl)
theorem dX9_follow_132 : decode cX9_follow 132 = .ok (.iaload, 1) := dk_46 (dk_at dksX9_follow_5 15 rfl rfl)
theorem dX9_follow_133 : decode cX9_follow 133 = .ok (.putfield 303, 3) := dk_181 1 47 (dk_at dksX9_follow_5 16 rfl rfl)
theorem dX9_follow_136 : decode cX9_follow 136 = .ok (.return_, 1) := dk_177 (dk_at dksX9_follow_5 19 rfl rfl)
abbrev cX9_absent : ByteArray := prog_17_method_45_code
def yX9_absent : MethodName := ⟨RX9, "absent", "(IIII)I"⟩
def dkwX9_absent_7 : List UInt8 := [46, 172]
abbrev dktX9_absent_7 : List UInt8 := dkwX9_absent_7 ++ []
def dkwX9_absent_6 : List UInt8 := [42, 180, 1, 47, 2, 160, 0, 7, 3, 167, 0, 4, 4, 79, 42, 180, 0, 36, 16, 8, 27, 104, 4, 96]
abbrev dktX9_absent_6 : List UInt8 := dkwX9_absent_6 ++ dktX9_absent_7
def dkwX9_absent_5 : List UInt8 := [167, 0, 12, 42, 180, 0, 151, 42, 180, 1, 47, 46, 79, 42, 180, 0, 36, 16, 8, 27, 104, 16, 7, 96]
abbrev dktX9_absent_5 : List UInt8 := dkwX9_absent_5 ++ dktX9_absent_6
def dkwX9_absent_4 : List UInt8 := [46, 79, 42, 180, 0, 36, 16, 8, 27, 104, 16, 6, 96, 42, 180, 1, 47, 2, 160, 0, 7, 3]
abbrev dktX9_absent_4 : List UInt8 := dkwX9_absent_4 ++ dktX9_absent_5
def dkwX9_absent_3 : List UInt8 := [27, 104, 8, 96, 42, 180, 1, 47, 2, 160, 0, 7, 2, 167, 0, 12, 42, 180, 0, 154, 42, 180, 1, 47]
abbrev dktX9_absent_3 : List UInt8 := dkwX9_absent_3 ++ dktX9_absent_4
def dkwX9_absent_2 : List UInt8 := [42, 180, 0, 39, 16, 40, 27, 104, 21, 4, 79, 42, 27, 21, 4, 182, 1, 50, 42, 180, 0, 36, 16, 8]
abbrev dktX9_absent_2 : List UInt8 := dkwX9_absent_2 ++ dktX9_absent_3
def dkwX9_absent_1 : List UInt8 := [182, 1, 4, 42, 21, 4, 182, 0, 230, 2, 159, 0, 5, 2, 172, 42, 27, 7, 29, 3, 3, 182, 1, 39]
abbrev dktX9_absent_1 : List UInt8 := dkwX9_absent_1 ++ dktX9_absent_2
def dkwX9_absent_0 : List UInt8 := [42, 27, 182, 1, 36, 153, 0, 12, 42, 28, 29, 182, 1, 21, 154, 0, 5, 2, 172, 42, 28, 29]
abbrev dktX9_absent_0 : List UInt8 := dkwX9_absent_0 ++ dktX9_absent_1
theorem dksX9_absent_0 : cX9_absent.data.toList.drop 0 = dktX9_absent_0 := by decide +kernel
theorem dksX9_absent_1 : cX9_absent.data.toList.drop 22 = dktX9_absent_1 := dk_seg dksX9_absent_0 22 rfl rfl
theorem dksX9_absent_2 : cX9_absent.data.toList.drop 46 = dktX9_absent_2 := dk_seg dksX9_absent_1 24 rfl rfl
theorem dksX9_absent_3 : cX9_absent.data.toList.drop 70 = dktX9_absent_3 := dk_seg dksX9_absent_2 24 rfl rfl
theorem dksX9_absent_4 : cX9_absent.data.toList.drop 94 = dktX9_absent_4 := dk_seg dksX9_absent_3 24 rfl rfl
theorem dksX9_absent_5 : cX9_absent.data.toList.drop 116 = dktX9_absent_5 := dk_seg dksX9_absent_4 22 rfl rfl
theorem dksX9_absent_6 : cX9_absent.data.toList.drop 140 = dktX9_absent_6 := dk_seg dksX9_absent_5 24 rfl rfl
theorem dksX9_absent_7 : cX9_absent.data.toList.drop 164 = dktX9_absent_7 := dk_seg dksX9_absent_6 24 rfl rfl
theorem dX9_absent_0 : decode cX9_absent 0 = .ok (.aload_n 0, 1) := dk_42 (dk_at dksX9_absent_0 0 rfl rfl)
theorem dX9_absent_1 : decode cX9_absent 1 = .ok (.iload_n 1, 1) := dk_27 (dk_at dksX9_absent_0 1 rfl rfl)
theorem dX9_absent_2 : decode cX9_absent 2 = .ok (.invokevirtual 292, 3) := dk_182 1 36 (dk_at dksX9_absent_0 2 rfl rfl)
theorem dX9_absent_5 : decode cX9_absent 5 = .ok (.ifCond .eq 12, 3) := dk_153 0 12 (dk_at dksX9_absent_0 5 rfl rfl)
theorem dX9_absent_8 : decode cX9_absent 8 = .ok (.aload_n 0, 1) := dk_42 (dk_at dksX9_absent_0 8 rfl rfl)
theorem dX9_absent_9 : decode cX9_absent 9 = .ok (.iload_n 2, 1) := dk_28 (dk_at dksX9_absent_0 9 rfl rfl)
theorem dX9_absent_10 : decode cX9_absent 10 = .ok (.iload_n 3, 1) := dk_29 (dk_at dksX9_absent_0 10 rfl rfl)
theorem dX9_absent_11 : decode cX9_absent 11 = .ok (.invokevirtual 277, 3) := dk_182 1 21 (dk_at dksX9_absent_0 11 rfl rfl)
theorem dX9_absent_14 : decode cX9_absent 14 = .ok (.ifCond .ne 5, 3) := dk_154 0 5 (dk_at dksX9_absent_0 14 rfl rfl)
theorem dX9_absent_17 : decode cX9_absent 17 = .ok (.iconst (-1), 1) := dk_2 (dk_at dksX9_absent_0 17 rfl rfl)
theorem dX9_absent_18 : decode cX9_absent 18 = .ok (.ireturn, 1) := dk_172 (dk_at dksX9_absent_0 18 rfl rfl)
theorem dX9_absent_19 : decode cX9_absent 19 = .ok (.aload_n 0, 1) := dk_42 (dk_at dksX9_absent_0 19 rfl rfl)
theorem dX9_absent_20 : decode cX9_absent 20 = .ok (.iload_n 2, 1) := dk_28 (dk_at dksX9_absent_0 20 rfl rfl)
theorem dX9_absent_21 : decode cX9_absent 21 = .ok (.iload_n 3, 1) := dk_29 (dk_at dksX9_absent_0 21 rfl rfl)
theorem dX9_absent_22 : decode cX9_absent 22 = .ok (.invokevirtual 260, 3) := dk_182 1 4 (dk_at dksX9_absent_1 0 rfl rfl)
theorem dX9_absent_25 : decode cX9_absent 25 = .ok (.aload_n 0, 1) := dk_42 (dk_at dksX9_absent_1 3 rfl rfl)
theorem dX9_absent_26 : decode cX9_absent 26 = .ok (.iload 4, 2) := dk_21 4 (dk_at dksX9_absent_1 4 rfl rfl)
theorem dX9_absent_28 : decode cX9_absent 28 = .ok (.invokevirtual 230, 3) := dk_182 0 230 (dk_at dksX9_absent_1 6 rfl rfl)
theorem dX9_absent_31 : decode cX9_absent 31 = .ok (.iconst (-1), 1) := dk_2 (dk_at dksX9_absent_1 9 rfl rfl)
theorem dX9_absent_32 : decode cX9_absent 32 = .ok (.if_icmp .eq 5, 3) := dk_159 0 5 (dk_at dksX9_absent_1 10 rfl rfl)
theorem dX9_absent_35 : decode cX9_absent 35 = .ok (.iconst (-1), 1) := dk_2 (dk_at dksX9_absent_1 13 rfl rfl)
theorem dX9_absent_36 : decode cX9_absent 36 = .ok (.ireturn, 1) := dk_172 (dk_at dksX9_absent_1 14 rfl rfl)
theorem dX9_absent_37 : decode cX9_absent 37 = .ok (.aload_n 0, 1) := dk_42 (dk_at dksX9_absent_1 15 rfl rfl)
theorem dX9_absent_38 : decode cX9_absent 38 = .ok (.iload_n 1, 1) := dk_27 (dk_at dksX9_absent_1 16 rfl rfl)
theorem dX9_absent_39 : decode cX9_absent 39 = .ok (.iconst 4, 1) := dk_7 (dk_at dksX9_absent_1 17 rfl rfl)
theorem dX9_absent_40 : decode cX9_absent 40 = .ok (.iload_n 3, 1) := dk_29 (dk_at dksX9_absent_1 18 rfl rfl)
theorem dX9_absent_41 : decode cX9_absent 41 = .ok (.iconst 0, 1) := dk_3 (dk_at dksX9_absent_1 19 rfl rfl)
theorem dX9_absent_42 : decode cX9_absent 42 = .ok (.iconst 0, 1) := dk_3 (dk_at dksX9_absent_1 20 rfl rfl)
theorem dX9_absent_43 : decode cX9_absent 43 = .ok (.invokevirtual 295, 3) := dk_182 1 39 (dk_at dksX9_absent_1 21 rfl rfl)
theorem dX9_absent_46 : decode cX9_absent 46 = .ok (.aload_n 0, 1) := dk_42 (dk_at dksX9_absent_2 0 rfl rfl)
theorem dX9_absent_47 : decode cX9_absent 47 = .ok (.getfield 39, 3) := dk_180 0 39 (dk_at dksX9_absent_2 1 rfl rfl)
theorem dX9_absent_50 : decode cX9_absent 50 = .ok (.bipush 40, 2) := dk_16 40 (dk_at dksX9_absent_2 4 rfl rfl)
theorem dX9_absent_52 : decode cX9_absent 52 = .ok (.iload_n 1, 1) := dk_27 (dk_at dksX9_absent_2 6 rfl rfl)
theorem dX9_absent_53 : decode cX9_absent 53 = .ok (.imul, 1) := dk_104 (dk_at dksX9_absent_2 7 rfl rfl)
theorem dX9_absent_54 : decode cX9_absent 54 = .ok (.iload 4, 2) := dk_21 4 (dk_at dksX9_absent_2 8 rfl rfl)
theorem dX9_absent_56 : decode cX9_absent 56 = .ok (.iastore, 1) := dk_79 (dk_at dksX9_absent_2 10 rfl rfl)
theorem dX9_absent_57 : decode cX9_absent 57 = .ok (.aload_n 0, 1) := dk_42 (dk_at dksX9_absent_2 11 rfl rfl)
theorem dX9_absent_58 : decode cX9_absent 58 = .ok (.iload_n 1, 1) := dk_27 (dk_at dksX9_absent_2 12 rfl rfl)
theorem dX9_absent_59 : decode cX9_absent 59 = .ok (.iload 4, 2) := dk_21 4 (dk_at dksX9_absent_2 13 rfl rfl)
theorem dX9_absent_61 : decode cX9_absent 61 = .ok (.invokevirtual 306, 3) := dk_182 1 50 (dk_at dksX9_absent_2 15 rfl rfl)
theorem dX9_absent_64 : decode cX9_absent 64 = .ok (.aload_n 0, 1) := dk_42 (dk_at dksX9_absent_2 18 rfl rfl)
theorem dX9_absent_65 : decode cX9_absent 65 = .ok (.getfield 36, 3) := dk_180 0 36 (dk_at dksX9_absent_2 19 rfl rfl)
theorem dX9_absent_68 : decode cX9_absent 68 = .ok (.bipush 8, 2) := dk_16 8 (dk_at dksX9_absent_2 22 rfl rfl)
theorem dX9_absent_70 : decode cX9_absent 70 = .ok (.iload_n 1, 1) := dk_27 (dk_at dksX9_absent_3 0 rfl rfl)
theorem dX9_absent_71 : decode cX9_absent 71 = .ok (.imul, 1) := dk_104 (dk_at dksX9_absent_3 1 rfl rfl)
theorem dX9_absent_72 : decode cX9_absent 72 = .ok (.iconst 5, 1) := dk_8 (dk_at dksX9_absent_3 2 rfl rfl)
theorem dX9_absent_73 : decode cX9_absent 73 = .ok (.iadd, 1) := dk_96 (dk_at dksX9_absent_3 3 rfl rfl)
theorem dX9_absent_74 : decode cX9_absent 74 = .ok (.aload_n 0, 1) := dk_42 (dk_at dksX9_absent_3 4 rfl rfl)
theorem dX9_absent_75 : decode cX9_absent 75 = .ok (.getfield 303, 3) := dk_180 1 47 (dk_at dksX9_absent_3 5 rfl rfl)
theorem dX9_absent_78 : decode cX9_absent 78 = .ok (.iconst (-1), 1) := dk_2 (dk_at dksX9_absent_3 8 rfl rfl)
theorem dX9_absent_79 : decode cX9_absent 79 = .ok (.if_icmp .ne 7, 3) := dk_160 0 7 (dk_at dksX9_absent_3 9 rfl rfl)
theorem dX9_absent_82 : decode cX9_absent 82 = .ok (.iconst (-1), 1) := dk_2 (dk_at dksX9_absent_3 12 rfl rfl)
theorem dX9_absent_83 : decode cX9_absent 83 = .ok (.goto 12, 3) := dk_167 0 12 (dk_at dksX9_absent_3 13 rfl rfl)
theorem dX9_absent_86 : decode cX9_absent 86 = .ok (.aload_n 0, 1) := dk_42 (dk_at dksX9_absent_3 16 rfl rfl)
theorem dX9_absent_87 : decode cX9_absent 87 = .ok (.getfield 154, 3) := dk_180 0 154 (dk_at dksX9_absent_3 17 rfl rfl)
theorem dX9_absent_90 : decode cX9_absent 90 = .ok (.aload_n 0, 1) := dk_42 (dk_at dksX9_absent_3 20 rfl rfl)
theorem dX9_absent_91 : decode cX9_absent 91 = .ok (.getfield 303, 3) := dk_180 1 47 (dk_at dksX9_absent_3 21 rfl rfl)
theorem dX9_absent_94 : decode cX9_absent 94 = .ok (.iaload, 1) := dk_46 (dk_at dksX9_absent_4 0 rfl rfl)
theorem dX9_absent_95 : decode cX9_absent 95 = .ok (.iastore, 1) := dk_79 (dk_at dksX9_absent_4 1 rfl rfl)
theorem dX9_absent_96 : decode cX9_absent 96 = .ok (.aload_n 0, 1) := dk_42 (dk_at dksX9_absent_4 2 rfl rfl)
theorem dX9_absent_97 : decode cX9_absent 97 = .ok (.getfield 36, 3) := dk_180 0 36 (dk_at dksX9_absent_4 3 rfl rfl)
theorem dX9_absent_100 : decode cX9_absent 100 = .ok (.bipush 8, 2) := dk_16 8 (dk_at dksX9_absent_4 6 rfl rfl)
theorem dX9_absent_102 : decode cX9_absent 102 = .ok (.iload_n 1, 1) := dk_27 (dk_at dksX9_absent_4 8 rfl rfl)
theorem dX9_absent_103 : decode cX9_absent 103 = .ok (.imul, 1) := dk_104 (dk_at dksX9_absent_4 9 rfl rfl)
theorem dX9_absent_104 : decode cX9_absent 104 = .ok (.bipush 6, 2) := dk_16 6 (dk_at dksX9_absent_4 10 rfl rfl)
theorem dX9_absent_106 : decode cX9_absent 106 = .ok (.iadd, 1) := dk_96 (dk_at dksX9_absent_4 12 rfl rfl)
theorem dX9_absent_107 : decode cX9_absent 107 = .ok (.aload_n 0, 1) := dk_42 (dk_at dksX9_absent_4 13 rfl rfl)
theorem dX9_absent_108 : decode cX9_absent 108 = .ok (.getfield 303, 3) := dk_180 1 47 (dk_at dksX9_absent_4 14 rfl rfl)
theorem dX9_absent_111 : decode cX9_absent 111 = .ok (.iconst (-1), 1) := dk_2 (dk_at dksX9_absent_4 17 rfl rfl)
theorem dX9_absent_112 : decode cX9_absent 112 = .ok (.if_icmp .ne 7, 3) := dk_160 0 7 (dk_at dksX9_absent_4 18 rfl rfl)
theorem dX9_absent_115 : decode cX9_absent 115 = .ok (.iconst 0, 1) := dk_3 (dk_at dksX9_absent_4 21 rfl rfl)
theorem dX9_absent_116 : decode cX9_absent 116 = .ok (.goto 12, 3) := dk_167 0 12 (dk_at dksX9_absent_5 0 rfl rfl)
theorem dX9_absent_119 : decode cX9_absent 119 = .ok (.aload_n 0, 1) := dk_42 (dk_at dksX9_absent_5 3 rfl rfl)
theorem dX9_absent_120 : decode cX9_absent 120 = .ok (.getfield 151, 3) := dk_180 0 151 (dk_at dksX9_absent_5 4 rfl rfl)
theorem dX9_absent_123 : decode cX9_absent 123 = .ok (.aload_n 0, 1) := dk_42 (dk_at dksX9_absent_5 7 rfl rfl)
theorem dX9_absent_124 : decode cX9_absent 124 = .ok (.getfield 303, 3) := dk_180 1 47 (dk_at dksX9_absent_5 8 rfl rfl)
theorem dX9_absent_127 : decode cX9_absent 127 = .ok (.iaload, 1) := dk_46 (dk_at dksX9_absent_5 11 rfl rfl)
theorem dX9_absent_128 : decode cX9_absent 128 = .ok (.iastore, 1) := dk_79 (dk_at dksX9_absent_5 12 rfl rfl)
theorem dX9_absent_129 : decode cX9_absent 129 = .ok (.aload_n 0, 1) := dk_42 (dk_at dksX9_absent_5 13 rfl rfl)
theorem dX9_absent_130 : decode cX9_absent 130 = .ok (.getfield 36, 3) := dk_180 0 36 (dk_at dksX9_absent_5 14 rfl rfl)
theorem dX9_absent_133 : decode cX9_absent 133 = .ok (.bipush 8, 2) := dk_16 8 (dk_at dksX9_absent_5 17 rfl rfl)
theorem dX9_absent_135 : decode cX9_absent 135 = .ok (.iload_n 1, 1) := dk_27 (dk_at dksX9_absent_5 19 rfl rfl)
theorem dX9_absent_136 : decode cX9_absent 136 = .ok (.imul, 1) := dk_104 (dk_at dksX9_absent_5 20 rfl rfl)
theorem dX9_absent_137 : decode cX9_absent 137 = .ok (.bipush 7, 2) := dk_16 7 (dk_at dksX9_absent_5 21 rfl rfl)
theorem dX9_absent_139 : decode cX9_absent 139 = .ok (.iadd, 1) := dk_96 (dk_at dksX9_absent_5 23 rfl rfl)
theorem dX9_absent_140 : decode cX9_absent 140 = .ok (.aload_n 0, 1) := dk_42 (dk_at dksX9_absent_6 0 rfl rfl)
theorem dX9_absent_141 : decode cX9_absent 141 = .ok (.getfield 303, 3) := dk_180 1 47 (dk_at dksX9_absent_6 1 rfl rfl)
theorem dX9_absent_144 : decode cX9_absent 144 = .ok (.iconst (-1), 1) := dk_2 (dk_at dksX9_absent_6 4 rfl rfl)
theorem dX9_absent_145 : decode cX9_absent 145 = .ok (.if_icmp .ne 7, 3) := dk_160 0 7 (dk_at dksX9_absent_6 5 rfl rfl)
theorem dX9_absent_148 : decode cX9_absent 148 = .ok (.iconst 0, 1) := dk_3 (dk_at dksX9_absent_6 8 rfl rfl)
theorem dX9_absent_149 : decode cX9_absent 149 = .ok (.goto 4, 3) := dk_167 0 4 (dk_at dksX9_absent_6 9 rfl rfl)
theorem dX9_absent_152 : decode cX9_absent 152 = .ok (.iconst 1, 1) := dk_4 (dk_at dksX9_absent_6 12 rfl rfl)
theorem dX9_absent_153 : decode cX9_absent 153 = .ok (.iastore, 1) := dk_79 (dk_at dksX9_absent_6 13 rfl rfl)
theorem dX9_absent_154 : decode cX9_absent 154 = .ok (.aload_n 0, 1) := dk_42 (dk_at dksX9_absent_6 14 rfl rfl)
theorem dX9_absent_155 : decode cX9_absent 155 = .ok (.getfield 36, 3) := dk_180 0 36 (dk_at dksX9_absent_6 15 rfl rfl)
theorem dX9_absent_158 : decode cX9_absent 158 = .ok (.bipush 8, 2) := dk_16 8 (dk_at dksX9_absent_6 18 rfl rfl)
theorem dX9_absent_160 : decode cX9_absent 160 = .ok (.iload_n 1, 1) := dk_27 (dk_at dksX9_absent_6 20 rfl rfl)
theorem dX9_absent_161 : decode cX9_absent 161 = .ok (.imul, 1) := dk_104 (dk_at dksX9_absent_6 21 rfl rfl)
theorem dX9_absent_162 : decode cX9_absent 162 = .ok (.iconst 1, 1) := dk_4 (dk_at dksX9_absent_6 22 rfl rfl)
theorem dX9_absent_163 : decode cX9_absent 163 = .ok (.iadd, 1) := dk_96 (dk_at dksX9_absent_6 23 rfl rfl)
theorem dX9_absent_164 : decode cX9_absent 164 = .ok (.iaload, 1) := dk_46 (dk_at dksX9_absent_7 0 rfl rfl)
theorem dX9_absent_165 : decode cX9_absent 165 = .ok (.ireturn, 1) := dk_172 (dk_at dksX9_absent_7 1 rfl rfl)
abbrev cX9_span : ByteArray := prog_17_method_46_code
def yX9_span : MethodName := ⟨RX9, "span", "(IIIII)I"⟩
def dkwX9_span_8 : List UInt8 := [104, 4, 96, 46, 172]
abbrev dktX9_span_8 : List UInt8 := dkwX9_span_8 ++ []
def dkwX9_span_7 : List UInt8 := [27, 28, 3, 21, 4, 182, 1, 43, 42, 27, 28, 21, 5, 29, 182, 1, 43, 42, 180, 0, 36, 16, 8, 27]
abbrev dktX9_span_7 : List UInt8 := dkwX9_span_7 ++ dktX9_span_8
def dkwX9_span_6 : List UInt8 := [21, 4, 100, 42, 180, 0, 16, 17, 1, 144, 28, 104, 21, 6, 96, 47, 80, 132, 6, 1, 167, 255, 190, 42]
abbrev dktX9_span_6 : List UInt8 := dkwX9_span_6 ++ dktX9_span_7
def dkwX9_span_5 : List UInt8 := [180, 0, 13, 17, 1, 144, 28, 104, 21, 6, 96, 46, 79, 42, 180, 0, 42, 16, 40, 27, 104, 21, 6, 96]
abbrev dktX9_span_5 : List UInt8 := dkwX9_span_5 ++ dktX9_span_6
def dkwX9_span_4 : List UInt8 := [54, 6, 21, 6, 21, 5, 162, 0, 65, 42, 180, 0, 39, 16, 40, 27, 104, 21, 6, 96, 21, 4, 100, 42]
abbrev dktX9_span_4 : List UInt8 := dkwX9_span_4 ++ dktX9_span_5
def dkwX9_span_3 : List UInt8 := [153, 0, 5, 2, 172, 132, 6, 1, 167, 255, 228, 42, 27, 8, 29, 21, 4, 21, 5, 182, 1, 39, 21, 4]
abbrev dktX9_span_3 : List UInt8 := dkwX9_span_3 ++ dktX9_span_4
def dkwX9_span_2 : List UInt8 := [21, 4, 54, 6, 21, 6, 21, 5, 162, 0, 27, 42, 180, 0, 20, 17, 1, 144, 28, 104, 21, 6, 96, 51]
abbrev dktX9_span_2 : List UInt8 := dkwX9_span_2 ++ dktX9_span_3
def dkwX9_span_1 : List UInt8 := [21, 5, 163, 0, 19, 21, 5, 29, 163, 0, 13, 21, 5, 21, 4, 100, 16, 40, 164, 0, 5, 2, 172]
abbrev dktX9_span_1 : List UInt8 := dkwX9_span_1 ++ dktX9_span_2
def dkwX9_span_0 : List UInt8 := [42, 27, 182, 1, 36, 153, 0, 40, 42, 28, 29, 182, 1, 21, 153, 0, 31, 21, 4, 155, 0, 26, 21, 4]
abbrev dktX9_span_0 : List UInt8 := dkwX9_span_0 ++ dktX9_span_1
theorem dksX9_span_0 : cX9_span.data.toList.drop 0 = dktX9_span_0 := by decide +kernel
theorem dksX9_span_1 : cX9_span.data.toList.drop 24 = dktX9_span_1 := dk_seg dksX9_span_0 24 rfl rfl
theorem dksX9_span_2 : cX9_span.data.toList.drop 47 = dktX9_span_2 := dk_seg dksX9_span_1 23 rfl rfl
theorem dksX9_span_3 : cX9_span.data.toList.drop 71 = dktX9_span_3 := dk_seg dksX9_span_2 24 rfl rfl
theorem dksX9_span_4 : cX9_span.data.toList.drop 95 = dktX9_span_4 := dk_seg dksX9_span_3 24 rfl rfl
theorem dksX9_span_5 : cX9_span.data.toList.drop 119 = dktX9_span_5 := dk_seg dksX9_span_4 24 rfl rfl
theorem dksX9_span_6 : cX9_span.data.toList.drop 143 = dktX9_span_6 := dk_seg dksX9_span_5 24 rfl rfl
theorem dksX9_span_7 : cX9_span.data.toList.drop 167 = dktX9_span_7 := dk_seg dksX9_span_6 24 rfl rfl
theorem dksX9_span_8 : cX9_span.data.toList.drop 191 = dktX9_span_8 := dk_seg dksX9_span_7 24 rfl rfl
theorem dX9_span_0 : decode cX9_span 0 = .ok (.aload_n 0, 1) := dk_42 (dk_at dksX9_span_0 0 rfl rfl)
theorem dX9_span_1 : decode cX9_span 1 = .ok (.iload_n 1, 1) := dk_27 (dk_at dksX9_span_0 1 rfl rfl)
theorem dX9_span_2 : decode cX9_span 2 = .ok (.invokevirtual 292, 3) := dk_182 1 36 (dk_at dksX9_span_0 2 rfl rfl)
theorem dX9_span_5 : decode cX9_span 5 = .ok (.ifCond .eq 40, 3) := dk_153 0 40 (dk_at dksX9_span_0 5 rfl rfl)
theorem dX9_span_8 : decode cX9_span 8 = .ok (.aload_n 0, 1) := dk_42 (dk_at dksX9_span_0 8 rfl rfl)
theorem dX9_span_9 : decode cX9_span 9 = .ok (.iload_n 2, 1) := dk_28 (dk_at dksX9_span_0 9 rfl rfl)
theorem dX9_span_10 : decode cX9_span 10 = .ok (.iload_n 3, 1) := dk_29 (dk_at dksX9_span_0 10 rfl rfl)
theorem dX9_span_11 : decode cX9_span 11 = .ok (.invokevirtual 277, 3) := dk_182 1 21 (dk_at dksX9_span_0 11 rfl rfl)
theorem dX9_span_14 : decode cX9_span 14 = .ok (.ifCond .eq 31, 3) := dk_153 0 31 (dk_at dksX9_span_0 14 rfl rfl)
theorem dX9_span_17 : decode cX9_span 17 = .ok (.iload 4, 2) := dk_21 4 (dk_at dksX9_span_0 17 rfl rfl)
theorem dX9_span_19 : decode cX9_span 19 = .ok (.ifCond .lt 26, 3) := dk_155 0 26 (dk_at dksX9_span_0 19 rfl rfl)
theorem dX9_span_22 : decode cX9_span 22 = .ok (.iload 4, 2) := dk_21 4 (dk_at dksX9_span_0 22 rfl rfl)
theorem dX9_span_24 : decode cX9_span 24 = .ok (.iload 5, 2) := dk_21 5 (dk_at dksX9_span_1 0 rfl rfl)
theorem dX9_span_26 : decode cX9_span 26 = .ok (.if_icmp .gt 19, 3) := dk_163 0 19 (dk_at dksX9_span_1 2 rfl rfl)
theorem dX9_span_29 : decode cX9_span 29 = .ok (.iload 5, 2) := dk_21 5 (dk_at dksX9_span_1 5 rfl rfl)
theorem dX9_span_31 : decode cX9_span 31 = .ok (.iload_n 3, 1) := dk_29 (dk_at dksX9_span_1 7 rfl rfl)
theorem dX9_span_32 : decode cX9_span 32 = .ok (.if_icmp .gt 13, 3) := dk_163 0 13 (dk_at dksX9_span_1 8 rfl rfl)
theorem dX9_span_35 : decode cX9_span 35 = .ok (.iload 5, 2) := dk_21 5 (dk_at dksX9_span_1 11 rfl rfl)
theorem dX9_span_37 : decode cX9_span 37 = .ok (.iload 4, 2) := dk_21 4 (dk_at dksX9_span_1 13 rfl rfl)
theorem dX9_span_39 : decode cX9_span 39 = .ok (.isub, 1) := dk_100 (dk_at dksX9_span_1 15 rfl rfl)
theorem dX9_span_40 : decode cX9_span 40 = .ok (.bipush 40, 2) := dk_16 40 (dk_at dksX9_span_1 16 rfl rfl)
theorem dX9_span_42 : decode cX9_span 42 = .ok (.if_icmp .le 5, 3) := dk_164 0 5 (dk_at dksX9_span_1 18 rfl rfl)
theorem dX9_span_45 : decode cX9_span 45 = .ok (.iconst (-1), 1) := dk_2 (dk_at dksX9_span_1 21 rfl rfl)
theorem dX9_span_46 : decode cX9_span 46 = .ok (.ireturn, 1) := dk_172 (dk_at dksX9_span_1 22 rfl rfl)
theorem dX9_span_47 : decode cX9_span 47 = .ok (.iload 4, 2) := dk_21 4 (dk_at dksX9_span_2 0 rfl rfl)
theorem dX9_span_49 : decode cX9_span 49 = .ok (.istore 6, 2) := dk_54 6 (dk_at dksX9_span_2 2 rfl rfl)
theorem dX9_span_51 : decode cX9_span 51 = .ok (.iload 6, 2) := dk_21 6 (dk_at dksX9_span_2 4 rfl rfl)
theorem dX9_span_53 : decode cX9_span 53 = .ok (.iload 5, 2) := dk_21 5 (dk_at dksX9_span_2 6 rfl rfl)
theorem dX9_span_55 : decode cX9_span 55 = .ok (.if_icmp .ge 27, 3) := dk_162 0 27 (dk_at dksX9_span_2 8 rfl rfl)
theorem dX9_span_58 : decode cX9_span 58 = .ok (.aload_n 0, 1) := dk_42 (dk_at dksX9_span_2 11 rfl rfl)
theorem dX9_span_59 : decode cX9_span 59 = .ok (.getfield 20, 3) := dk_180 0 20 (dk_at dksX9_span_2 12 rfl rfl)
theorem dX9_span_62 : decode cX9_span 62 = .ok (.sipush 400, 3) := dk_17 1 144 (dk_at dksX9_span_2 15 rfl rfl)
theorem dX9_span_65 : decode cX9_span 65 = .ok (.iload_n 2, 1) := dk_28 (dk_at dksX9_span_2 18 rfl rfl)
theorem dX9_span_66 : decode cX9_span 66 = .ok (.imul, 1) := dk_104 (dk_at dksX9_span_2 19 rfl rfl)
theorem dX9_span_67 : decode cX9_span 67 = .ok (.iload 6, 2) := dk_21 6 (dk_at dksX9_span_2 20 rfl rfl)
theorem dX9_span_69 : decode cX9_span 69 = .ok (.iadd, 1) := dk_96 (dk_at dksX9_span_2 22 rfl rfl)
theorem dX9_span_70 : decode cX9_span 70 = .ok (.baload, 1) := dk_51 (dk_at dksX9_span_2 23 rfl rfl)
theorem dX9_span_71 : decode cX9_span 71 = .ok (.ifCond .eq 5, 3) := dk_153 0 5 (dk_at dksX9_span_3 0 rfl rfl)
theorem dX9_span_74 : decode cX9_span 74 = .ok (.iconst (-1), 1) := dk_2 (dk_at dksX9_span_3 3 rfl rfl)
theorem dX9_span_75 : decode cX9_span 75 = .ok (.ireturn, 1) := dk_172 (dk_at dksX9_span_3 4 rfl rfl)
theorem dX9_span_76 : decode cX9_span 76 = .ok (.iinc 6 1, 3) := dk_132 6 1 (dk_at dksX9_span_3 5 rfl rfl)
theorem dX9_span_79 : decode cX9_span 79 = .ok (.goto (-28), 3) := dk_167 255 228 (dk_at dksX9_span_3 8 rfl rfl)
theorem dX9_span_82 : decode cX9_span 82 = .ok (.aload_n 0, 1) := dk_42 (dk_at dksX9_span_3 11 rfl rfl)
theorem dX9_span_83 : decode cX9_span 83 = .ok (.iload_n 1, 1) := dk_27 (dk_at dksX9_span_3 12 rfl rfl)
theorem dX9_span_84 : decode cX9_span 84 = .ok (.iconst 5, 1) := dk_8 (dk_at dksX9_span_3 13 rfl rfl)
theorem dX9_span_85 : decode cX9_span 85 = .ok (.iload_n 3, 1) := dk_29 (dk_at dksX9_span_3 14 rfl rfl)
theorem dX9_span_86 : decode cX9_span 86 = .ok (.iload 4, 2) := dk_21 4 (dk_at dksX9_span_3 15 rfl rfl)
theorem dX9_span_88 : decode cX9_span 88 = .ok (.iload 5, 2) := dk_21 5 (dk_at dksX9_span_3 17 rfl rfl)
theorem dX9_span_90 : decode cX9_span 90 = .ok (.invokevirtual 295, 3) := dk_182 1 39 (dk_at dksX9_span_3 19 rfl rfl)
theorem dX9_span_93 : decode cX9_span 93 = .ok (.iload 4, 2) := dk_21 4 (dk_at dksX9_span_3 22 rfl rfl)
theorem dX9_span_95 : decode cX9_span 95 = .ok (.istore 6, 2) := dk_54 6 (dk_at dksX9_span_4 0 rfl rfl)
theorem dX9_span_97 : decode cX9_span 97 = .ok (.iload 6, 2) := dk_21 6 (dk_at dksX9_span_4 2 rfl rfl)
theorem dX9_span_99 : decode cX9_span 99 = .ok (.iload 5, 2) := dk_21 5 (dk_at dksX9_span_4 4 rfl rfl)
theorem dX9_span_101 : decode cX9_span 101 = .ok (.if_icmp .ge 65, 3) := dk_162 0 65 (dk_at dksX9_span_4 6 rfl rfl)
theorem dX9_span_104 : decode cX9_span 104 = .ok (.aload_n 0, 1) := dk_42 (dk_at dksX9_span_4 9 rfl rfl)
theorem dX9_span_105 : decode cX9_span 105 = .ok (.getfield 39, 3) := dk_180 0 39 (dk_at dksX9_span_4 10 rfl rfl)
theorem dX9_span_108 : decode cX9_span 108 = .ok (.bipush 40, 2) := dk_16 40 (dk_at dksX9_span_4 13 rfl rfl)
theorem dX9_span_110 : decode cX9_span 110 = .ok (.iload_n 1, 1) := dk_27 (dk_at dksX9_span_4 15 rfl rfl)
theorem dX9_span_111 : decode cX9_span 111 = .ok (.imul, 1) := dk_104 (dk_at dksX9_span_4 16 rfl rfl)
theorem dX9_span_112 : decode cX9_span 112 = .ok (.iload 6, 2) := dk_21 6 (dk_at dksX9_span_4 17 rfl rfl)
theorem dX9_span_114 : decode cX9_span 114 = .ok (.iadd, 1) := dk_96 (dk_at dksX9_span_4 19 rfl rfl)
theorem dX9_span_115 : decode cX9_span 115 = .ok (.iload 4, 2) := dk_21 4 (dk_at dksX9_span_4 20 rfl rfl)
theorem dX9_span_117 : decode cX9_span 117 = .ok (.isub, 1) := dk_100 (dk_at dksX9_span_4 22 rfl rfl)
theorem dX9_span_118 : decode cX9_span 118 = .ok (.aload_n 0, 1) := dk_42 (dk_at dksX9_span_4 23 rfl rfl)
theorem dX9_span_119 : decode cX9_span 119 = .ok (.getfield 13, 3) := dk_180 0 13 (dk_at dksX9_span_5 0 rfl rfl)
theorem dX9_span_122 : decode cX9_span 122 = .ok (.sipush 400, 3) := dk_17 1 144 (dk_at dksX9_span_5 3 rfl rfl)
theorem dX9_span_125 : decode cX9_span 125 = .ok (.iload_n 2, 1) := dk_28 (dk_at dksX9_span_5 6 rfl rfl)
theorem dX9_span_126 : decode cX9_span 126 = .ok (.imul, 1) := dk_104 (dk_at dksX9_span_5 7 rfl rfl)
theorem dX9_span_127 : decode cX9_span 127 = .ok (.iload 6, 2) := dk_21 6 (dk_at dksX9_span_5 8 rfl rfl)
theorem dX9_span_129 : decode cX9_span 129 = .ok (.iadd, 1) := dk_96 (dk_at dksX9_span_5 10 rfl rfl)
theorem dX9_span_130 : decode cX9_span 130 = .ok (.iaload, 1) := dk_46 (dk_at dksX9_span_5 11 rfl rfl)
theorem dX9_span_131 : decode cX9_span 131 = .ok (.iastore, 1) := dk_79 (dk_at dksX9_span_5 12 rfl rfl)
theorem dX9_span_132 : decode cX9_span 132 = .ok (.aload_n 0, 1) := dk_42 (dk_at dksX9_span_5 13 rfl rfl)
theorem dX9_span_133 : decode cX9_span 133 = .ok (.getfield 42, 3) := dk_180 0 42 (dk_at dksX9_span_5 14 rfl rfl)
theorem dX9_span_136 : decode cX9_span 136 = .ok (.bipush 40, 2) := dk_16 40 (dk_at dksX9_span_5 17 rfl rfl)
theorem dX9_span_138 : decode cX9_span 138 = .ok (.iload_n 1, 1) := dk_27 (dk_at dksX9_span_5 19 rfl rfl)
theorem dX9_span_139 : decode cX9_span 139 = .ok (.imul, 1) := dk_104 (dk_at dksX9_span_5 20 rfl rfl)
theorem dX9_span_140 : decode cX9_span 140 = .ok (.iload 6, 2) := dk_21 6 (dk_at dksX9_span_5 21 rfl rfl)
theorem dX9_span_142 : decode cX9_span 142 = .ok (.iadd, 1) := dk_96 (dk_at dksX9_span_5 23 rfl rfl)
theorem dX9_span_143 : decode cX9_span 143 = .ok (.iload 4, 2) := dk_21 4 (dk_at dksX9_span_6 0 rfl rfl)
theorem dX9_span_145 : decode cX9_span 145 = .ok (.isub, 1) := dk_100 (dk_at dksX9_span_6 2 rfl rfl)
theorem dX9_span_146 : decode cX9_span 146 = .ok (.aload_n 0, 1) := dk_42 (dk_at dksX9_span_6 3 rfl rfl)
theorem dX9_span_147 : decode cX9_span 147 = .ok (.getfield 16, 3) := dk_180 0 16 (dk_at dksX9_span_6 4 rfl rfl)
theorem dX9_span_150 : decode cX9_span 150 = .ok (.sipush 400, 3) := dk_17 1 144 (dk_at dksX9_span_6 7 rfl rfl)
theorem dX9_span_153 : decode cX9_span 153 = .ok (.iload_n 2, 1) := dk_28 (dk_at dksX9_span_6 10 rfl rfl)
theorem dX9_span_154 : decode cX9_span 154 = .ok (.imul, 1) := dk_104 (dk_at dksX9_span_6 11 rfl rfl)
theorem dX9_span_155 : decode cX9_span 155 = .ok (.iload 6, 2) := dk_21 6 (dk_at dksX9_span_6 12 rfl rfl)
theorem dX9_span_157 : decode cX9_span 157 = .ok (.iadd, 1) := dk_96 (dk_at dksX9_span_6 14 rfl rfl)
theorem dX9_span_158 : decode cX9_span 158 = .ok (.laload, 1) := dk_47 (dk_at dksX9_span_6 15 rfl rfl)
theorem dX9_span_159 : decode cX9_span 159 = .ok (.lastore, 1) := dk_80 (dk_at dksX9_span_6 16 rfl rfl)
theorem dX9_span_160 : decode cX9_span 160 = .ok (.iinc 6 1, 3) := dk_132 6 1 (dk_at dksX9_span_6 17 rfl rfl)
theorem dX9_span_163 : decode cX9_span 163 = .ok (.goto (-66), 3) := dk_167 255 190 (dk_at dksX9_span_6 20 rfl rfl)
theorem dX9_span_166 : decode cX9_span 166 = .ok (.aload_n 0, 1) := dk_42 (dk_at dksX9_span_6 23 rfl rfl)
theorem dX9_span_167 : decode cX9_span 167 = .ok (.iload_n 1, 1) := dk_27 (dk_at dksX9_span_7 0 rfl rfl)
theorem dX9_span_168 : decode cX9_span 168 = .ok (.iload_n 2, 1) := dk_28 (dk_at dksX9_span_7 1 rfl rfl)
theorem dX9_span_169 : decode cX9_span 169 = .ok (.iconst 0, 1) := dk_3 (dk_at dksX9_span_7 2 rfl rfl)
theorem dX9_span_170 : decode cX9_span 170 = .ok (.iload 4, 2) := dk_21 4 (dk_at dksX9_span_7 3 rfl rfl)
theorem dX9_span_172 : decode cX9_span 172 = .ok (.invokevirtual 299, 3) := dk_182 1 43 (dk_at dksX9_span_7 5 rfl rfl)
theorem dX9_span_175 : decode cX9_span 175 = .ok (.aload_n 0, 1) := dk_42 (dk_at dksX9_span_7 8 rfl rfl)
theorem dX9_span_176 : decode cX9_span 176 = .ok (.iload_n 1, 1) := dk_27 (dk_at dksX9_span_7 9 rfl rfl)
theorem dX9_span_177 : decode cX9_span 177 = .ok (.iload_n 2, 1) := dk_28 (dk_at dksX9_span_7 10 rfl rfl)
theorem dX9_span_178 : decode cX9_span 178 = .ok (.iload 5, 2) := dk_21 5 (dk_at dksX9_span_7 11 rfl rfl)
theorem dX9_span_180 : decode cX9_span 180 = .ok (.iload_n 3, 1) := dk_29 (dk_at dksX9_span_7 13 rfl rfl)
theorem dX9_span_181 : decode cX9_span 181 = .ok (.invokevirtual 299, 3) := dk_182 1 43 (dk_at dksX9_span_7 14 rfl rfl)
theorem dX9_span_184 : decode cX9_span 184 = .ok (.aload_n 0, 1) := dk_42 (dk_at dksX9_span_7 17 rfl rfl)
theorem dX9_span_185 : decode cX9_span 185 = .ok (.getfield 36, 3) := dk_180 0 36 (dk_at dksX9_span_7 18 rfl rfl)
theorem dX9_span_188 : decode cX9_span 188 = .ok (.bipush 8, 2) := dk_16 8 (dk_at dksX9_span_7 21 rfl rfl)
theorem dX9_span_190 : decode cX9_span 190 = .ok (.iload_n 1, 1) := dk_27 (dk_at dksX9_span_7 23 rfl rfl)
theorem dX9_span_191 : decode cX9_span 191 = .ok (.imul, 1) := dk_104 (dk_at dksX9_span_8 0 rfl rfl)
theorem dX9_span_192 : decode cX9_span 192 = .ok (.iconst 1, 1) := dk_4 (dk_at dksX9_span_8 1 rfl rfl)
theorem dX9_span_193 : decode cX9_span 193 = .ok (.iadd, 1) := dk_96 (dk_at dksX9_span_8 2 rfl rfl)
theorem dX9_span_194 : decode cX9_span 194 = .ok (.iaload, 1) := dk_46 (dk_at dksX9_span_8 3 rfl rfl)
theorem dX9_span_195 : decode cX9_span 195 = .ok (.ireturn, 1) := dk_172 (dk_at dksX9_span_8 4 rfl rfl)
abbrev cX9_drop : ByteArray := prog_17_method_47_code
def yX9_drop : MethodName := ⟨RX9, "drop", "(I)I"⟩
def dkwX9_drop_1 : List UInt8 := [3, 3, 182, 1, 39, 28, 172]
abbrev dktX9_drop_1 : List UInt8 := dkwX9_drop_1 ++ []
def dkwX9_drop_0 : List UInt8 := [42, 27, 182, 1, 36, 154, 0, 5, 2, 172, 42, 180, 0, 36, 16, 8, 27, 104, 46, 61, 42, 27, 3, 3]
abbrev dktX9_drop_0 : List UInt8 := dkwX9_drop_0 ++ dktX9_drop_1
theorem dksX9_drop_0 : cX9_drop.data.toList.drop 0 = dktX9_drop_0 := by decide +kernel
theorem dksX9_drop_1 : cX9_drop.data.toList.drop 24 = dktX9_drop_1 := dk_seg dksX9_drop_0 24 rfl rfl
theorem dX9_drop_0 : decode cX9_drop 0 = .ok (.aload_n 0, 1) := dk_42 (dk_at dksX9_drop_0 0 rfl rfl)
theorem dX9_drop_1 : decode cX9_drop 1 = .ok (.iload_n 1, 1) := dk_27 (dk_at dksX9_drop_0 1 rfl rfl)
theorem dX9_drop_2 : decode cX9_drop 2 = .ok (.invokevirtual 292, 3) := dk_182 1 36 (dk_at dksX9_drop_0 2 rfl rfl)
theorem dX9_drop_5 : decode cX9_drop 5 = .ok (.ifCond .ne 5, 3) := dk_154 0 5 (dk_at dksX9_drop_0 5 rfl rfl)
theorem dX9_drop_8 : decode cX9_drop 8 = .ok (.iconst (-1), 1) := dk_2 (dk_at dksX9_drop_0 8 rfl rfl)
theorem dX9_drop_9 : decode cX9_drop 9 = .ok (.ireturn, 1) := dk_172 (dk_at dksX9_drop_0 9 rfl rfl)
theorem dX9_drop_10 : decode cX9_drop 10 = .ok (.aload_n 0, 1) := dk_42 (dk_at dksX9_drop_0 10 rfl rfl)
theorem dX9_drop_11 : decode cX9_drop 11 = .ok (.getfield 36, 3) := dk_180 0 36 (dk_at dksX9_drop_0 11 rfl rfl)
theorem dX9_drop_14 : decode cX9_drop 14 = .ok (.bipush 8, 2) := dk_16 8 (dk_at dksX9_drop_0 14 rfl rfl)
theorem dX9_drop_16 : decode cX9_drop 16 = .ok (.iload_n 1, 1) := dk_27 (dk_at dksX9_drop_0 16 rfl rfl)
theorem dX9_drop_17 : decode cX9_drop 17 = .ok (.imul, 1) := dk_104 (dk_at dksX9_drop_0 17 rfl rfl)
theorem dX9_drop_18 : decode cX9_drop 18 = .ok (.iaload, 1) := dk_46 (dk_at dksX9_drop_0 18 rfl rfl)
theorem dX9_drop_19 : decode cX9_drop 19 = .ok (.istore_n 2, 1) := dk_61 (dk_at dksX9_drop_0 19 rfl rfl)
theorem dX9_drop_20 : decode cX9_drop 20 = .ok (.aload_n 0, 1) := dk_42 (dk_at dksX9_drop_0 20 rfl rfl)
theorem dX9_drop_21 : decode cX9_drop 21 = .ok (.iload_n 1, 1) := dk_27 (dk_at dksX9_drop_0 21 rfl rfl)
theorem dX9_drop_22 : decode cX9_drop 22 = .ok (.iconst 0, 1) := dk_3 (dk_at dksX9_drop_0 22 rfl rfl)
theorem dX9_drop_23 : decode cX9_drop 23 = .ok (.iconst 0, 1) := dk_3 (dk_at dksX9_drop_0 23 rfl rfl)
theorem dX9_drop_24 : decode cX9_drop 24 = .ok (.iconst 0, 1) := dk_3 (dk_at dksX9_drop_1 0 rfl rfl)
theorem dX9_drop_25 : decode cX9_drop 25 = .ok (.iconst 0, 1) := dk_3 (dk_at dksX9_drop_1 1 rfl rfl)
theorem dX9_drop_26 : decode cX9_drop 26 = .ok (.invokevirtual 295, 3) := dk_182 1 39 (dk_at dksX9_drop_1 2 rfl rfl)
theorem dX9_drop_29 : decode cX9_drop 29 = .ok (.iload_n 2, 1) := dk_28 (dk_at dksX9_drop_1 5 rfl rfl)
theorem dX9_drop_30 : decode cX9_drop 30 = .ok (.ireturn, 1) := dk_172 (dk_at dksX9_drop_1 6 rfl rfl)
abbrev cX9_proof : ByteArray := prog_17_method_48_code
def yX9_proof : MethodName := ⟨RX9, "proof", "(II)I"⟩
def dkwX9_proof_6 : List UInt8 := [104, 16, 6, 96, 46, 172, 2, 172]
abbrev dktX9_proof_6 : List UInt8 := dkwX9_proof_6 ++ []
def dkwX9_proof_5 : List UInt8 := [167, 0, 4, 3, 172, 42, 180, 0, 36, 16, 8, 27, 104, 8, 96, 46, 172, 42, 180, 0, 36, 16, 8, 27]
abbrev dktX9_proof_5 : List UInt8 := dkwX9_proof_5 ++ dktX9_proof_6
def dkwX9_proof_4 : List UInt8 := [180, 0, 36, 16, 8, 27, 104, 6, 96, 46, 164, 0, 15, 42, 180, 0, 39, 16, 40, 27, 104, 46]
abbrev dktX9_proof_4 : List UInt8 := dkwX9_proof_4 ++ dktX9_proof_5
def dkwX9_proof_3 : List UInt8 := [29, 7, 159, 0, 33, 29, 8, 160, 0, 40, 42, 180, 0, 36, 16, 8, 27, 104, 7, 96, 46, 42]
abbrev dktX9_proof_3 : List UInt8 := dkwX9_proof_3 ++ dktX9_proof_4
def dkwX9_proof_2 : List UInt8 := [29, 172, 42, 180, 0, 36, 16, 8, 27, 104, 28, 96, 46, 172, 29, 4, 159, 0, 43, 29, 6, 159, 0, 38]
abbrev dktX9_proof_2 : List UInt8 := dkwX9_proof_2 ++ dktX9_proof_3
def dkwX9_proof_1 : List UInt8 := [170, 0, 0, 0, 0, 0, 145, 0, 0, 0, 0, 0, 0, 0, 7, 0, 0, 0, 47, 0, 0, 0, 49, 0, 0, 0, 49, 0, 0, 0, 49, 0, 0, 0, 49, 0, 0, 0, 61, 0, 0, 0, 120, 0, 0, 0, 132]
abbrev dktX9_proof_1 : List UInt8 := dkwX9_proof_1 ++ dktX9_proof_2
def dkwX9_proof_0 : List UInt8 := [42, 27, 182, 1, 36, 154, 0, 5, 2, 172, 42, 180, 0, 36, 16, 8, 27, 104, 46, 62, 28]
abbrev dktX9_proof_0 : List UInt8 := dkwX9_proof_0 ++ dktX9_proof_1
theorem dksX9_proof_0 : cX9_proof.data.toList.drop 0 = dktX9_proof_0 := by decide +kernel
theorem dksX9_proof_1 : cX9_proof.data.toList.drop 21 = dktX9_proof_1 := dk_seg dksX9_proof_0 21 rfl rfl
theorem dksX9_proof_2 : cX9_proof.data.toList.drop 68 = dktX9_proof_2 := dk_seg dksX9_proof_1 47 rfl rfl
theorem dksX9_proof_3 : cX9_proof.data.toList.drop 92 = dktX9_proof_3 := dk_seg dksX9_proof_2 24 rfl rfl
theorem dksX9_proof_4 : cX9_proof.data.toList.drop 114 = dktX9_proof_4 := dk_seg dksX9_proof_3 22 rfl rfl
theorem dksX9_proof_5 : cX9_proof.data.toList.drop 136 = dktX9_proof_5 := dk_seg dksX9_proof_4 22 rfl rfl
theorem dksX9_proof_6 : cX9_proof.data.toList.drop 160 = dktX9_proof_6 := dk_seg dksX9_proof_5 24 rfl rfl
theorem dX9_proof_0 : decode cX9_proof 0 = .ok (.aload_n 0, 1) := dk_42 (dk_at dksX9_proof_0 0 rfl rfl)
theorem dX9_proof_1 : decode cX9_proof 1 = .ok (.iload_n 1, 1) := dk_27 (dk_at dksX9_proof_0 1 rfl rfl)
theorem dX9_proof_2 : decode cX9_proof 2 = .ok (.invokevirtual 292, 3) := dk_182 1 36 (dk_at dksX9_proof_0 2 rfl rfl)
theorem dX9_proof_5 : decode cX9_proof 5 = .ok (.ifCond .ne 5, 3) := dk_154 0 5 (dk_at dksX9_proof_0 5 rfl rfl)
theorem dX9_proof_8 : decode cX9_proof 8 = .ok (.iconst (-1), 1) := dk_2 (dk_at dksX9_proof_0 8 rfl rfl)
theorem dX9_proof_9 : decode cX9_proof 9 = .ok (.ireturn, 1) := dk_172 (dk_at dksX9_proof_0 9 rfl rfl)
theorem dX9_proof_10 : decode cX9_proof 10 = .ok (.aload_n 0, 1) := dk_42 (dk_at dksX9_proof_0 10 rfl rfl)
theorem dX9_proof_11 : decode cX9_proof 11 = .ok (.getfield 36, 3) := dk_180 0 36 (dk_at dksX9_proof_0 11 rfl rfl)
theorem dX9_proof_14 : decode cX9_proof 14 = .ok (.bipush 8, 2) := dk_16 8 (dk_at dksX9_proof_0 14 rfl rfl)
theorem dX9_proof_16 : decode cX9_proof 16 = .ok (.iload_n 1, 1) := dk_27 (dk_at dksX9_proof_0 16 rfl rfl)
theorem dX9_proof_17 : decode cX9_proof 17 = .ok (.imul, 1) := dk_104 (dk_at dksX9_proof_0 17 rfl rfl)
theorem dX9_proof_18 : decode cX9_proof 18 = .ok (.iaload, 1) := dk_46 (dk_at dksX9_proof_0 18 rfl rfl)
theorem dX9_proof_19 : decode cX9_proof 19 = .ok (.istore_n 3, 1) := dk_62 (dk_at dksX9_proof_0 19 rfl rfl)
theorem dX9_proof_20 : decode cX9_proof 20 = .ok (.iload_n 2, 1) := dk_28 (dk_at dksX9_proof_0 20 rfl rfl)
theorem dX9_proof_21 : decode cX9_proof 21 = .ok (.tableswitch 145 0 7 #[47, 49, 49, 49, 49, 61, 120, 132], 47) := by decide +kernel
theorem dX9_proof_68 : decode cX9_proof 68 = .ok (.iload_n 3, 1) := dk_29 (dk_at dksX9_proof_2 0 rfl rfl)
theorem dX9_proof_69 : decode cX9_proof 69 = .ok (.ireturn, 1) := dk_172 (dk_at dksX9_proof_2 1 rfl rfl)
theorem dX9_proof_70 : decode cX9_proof 70 = .ok (.aload_n 0, 1) := dk_42 (dk_at dksX9_proof_2 2 rfl rfl)
theorem dX9_proof_71 : decode cX9_proof 71 = .ok (.getfield 36, 3) := dk_180 0 36 (dk_at dksX9_proof_2 3 rfl rfl)
theorem dX9_proof_74 : decode cX9_proof 74 = .ok (.bipush 8, 2) := dk_16 8 (dk_at dksX9_proof_2 6 rfl rfl)
theorem dX9_proof_76 : decode cX9_proof 76 = .ok (.iload_n 1, 1) := dk_27 (dk_at dksX9_proof_2 8 rfl rfl)
theorem dX9_proof_77 : decode cX9_proof 77 = .ok (.imul, 1) := dk_104 (dk_at dksX9_proof_2 9 rfl rfl)
theorem dX9_proof_78 : decode cX9_proof 78 = .ok (.iload_n 2, 1) := dk_28 (dk_at dksX9_proof_2 10 rfl rfl)
theorem dX9_proof_79 : decode cX9_proof 79 = .ok (.iadd, 1) := dk_96 (dk_at dksX9_proof_2 11 rfl rfl)
theorem dX9_proof_80 : decode cX9_proof 80 = .ok (.iaload, 1) := dk_46 (dk_at dksX9_proof_2 12 rfl rfl)
theorem dX9_proof_81 : decode cX9_proof 81 = .ok (.ireturn, 1) := dk_172 (dk_at dksX9_proof_2 13 rfl rfl)
theorem dX9_proof_82 : decode cX9_proof 82 = .ok (.iload_n 3, 1) := dk_29 (dk_at dksX9_proof_2 14 rfl rfl)
theorem dX9_proof_83 : decode cX9_proof 83 = .ok (.iconst 1, 1) := dk_4 (dk_at dksX9_proof_2 15 rfl rfl)
theorem dX9_proof_84 : decode cX9_proof 84 = .ok (.if_icmp .eq 43, 3) := dk_159 0 43 (dk_at dksX9_proof_2 16 rfl rfl)
theorem dX9_proof_87 : decode cX9_proof 87 = .ok (.iload_n 3, 1) := dk_29 (dk_at dksX9_proof_2 19 rfl rfl)
theorem dX9_proof_88 : decode cX9_proof 88 = .ok (.iconst 3, 1) := dk_6 (dk_at dksX9_proof_2 20 rfl rfl)
theorem dX9_proof_89 : decode cX9_proof 89 = .ok (.if_icmp .eq 38, 3) := dk_159 0 38 (dk_at dksX9_proof_2 21 rfl rfl)
theorem dX9_proof_92 : decode cX9_proof 92 = .ok (.iload_n 3, 1) := dk_29 (dk_at dksX9_proof_3 0 rfl rfl)
theorem dX9_proof_93 : decode cX9_proof 93 = .ok (.iconst 4, 1) := dk_7 (dk_at dksX9_proof_3 1 rfl rfl)
theorem dX9_proof_94 : decode cX9_proof 94 = .ok (.if_icmp .eq 33, 3) := dk_159 0 33 (dk_at dksX9_proof_3 2 rfl rfl)
theorem dX9_proof_97 : decode cX9_proof 97 = .ok (.iload_n 3, 1) := dk_29 (dk_at dksX9_proof_3 5 rfl rfl)
theorem dX9_proof_98 : decode cX9_proof 98 = .ok (.iconst 5, 1) := dk_8 (dk_at dksX9_proof_3 6 rfl rfl)
theorem dX9_proof_99 : decode cX9_proof 99 = .ok (.if_icmp .ne 40, 3) := dk_160 0 40 (dk_at dksX9_proof_3 7 rfl rfl)
theorem dX9_proof_102 : decode cX9_proof 102 = .ok (.aload_n 0, 1) := dk_42 (dk_at dksX9_proof_3 10 rfl rfl)
theorem dX9_proof_103 : decode cX9_proof 103 = .ok (.getfield 36, 3) := dk_180 0 36 (dk_at dksX9_proof_3 11 rfl rfl)
theorem dX9_proof_106 : decode cX9_proof 106 = .ok (.bipush 8, 2) := dk_16 8 (dk_at dksX9_proof_3 14 rfl rfl)
theorem dX9_proof_108 : decode cX9_proof 108 = .ok (.iload_n 1, 1) := dk_27 (dk_at dksX9_proof_3 16 rfl rfl)
theorem dX9_proof_109 : decode cX9_proof 109 = .ok (.imul, 1) := dk_104 (dk_at dksX9_proof_3 17 rfl rfl)
theorem dX9_proof_110 : decode cX9_proof 110 = .ok (.iconst 4, 1) := dk_7 (dk_at dksX9_proof_3 18 rfl rfl)
theorem dX9_proof_111 : decode cX9_proof 111 = .ok (.iadd, 1) := dk_96 (dk_at dksX9_proof_3 19 rfl rfl)
theorem dX9_proof_112 : decode cX9_proof 112 = .ok (.iaload, 1) := dk_46 (dk_at dksX9_proof_3 20 rfl rfl)
theorem dX9_proof_113 : decode cX9_proof 113 = .ok (.aload_n 0, 1) := dk_42 (dk_at dksX9_proof_3 21 rfl rfl)
theorem dX9_proof_114 : decode cX9_proof 114 = .ok (.getfield 36, 3) := dk_180 0 36 (dk_at dksX9_proof_4 0 rfl rfl)
theorem dX9_proof_117 : decode cX9_proof 117 = .ok (.bipush 8, 2) := dk_16 8 (dk_at dksX9_proof_4 3 rfl rfl)
theorem dX9_proof_119 : decode cX9_proof 119 = .ok (.iload_n 1, 1) := dk_27 (dk_at dksX9_proof_4 5 rfl rfl)
theorem dX9_proof_120 : decode cX9_proof 120 = .ok (.imul, 1) := dk_104 (dk_at dksX9_proof_4 6 rfl rfl)
theorem dX9_proof_121 : decode cX9_proof 121 = .ok (.iconst 3, 1) := dk_6 (dk_at dksX9_proof_4 7 rfl rfl)
theorem dX9_proof_122 : decode cX9_proof 122 = .ok (.iadd, 1) := dk_96 (dk_at dksX9_proof_4 8 rfl rfl)
theorem dX9_proof_123 : decode cX9_proof 123 = .ok (.iaload, 1) := dk_46 (dk_at dksX9_proof_4 9 rfl rfl)
theorem dX9_proof_124 : decode cX9_proof 124 = .ok (.if_icmp .le 15, 3) := dk_164 0 15 (dk_at dksX9_proof_4 10 rfl rfl)
theorem dX9_proof_127 : decode cX9_proof 127 = .ok (.aload_n 0, 1) := dk_42 (dk_at dksX9_proof_4 13 rfl rfl)
theorem dX9_proof_128 : decode cX9_proof 128 = .ok (.getfield 39, 3) := dk_180 0 39 (dk_at dksX9_proof_4 14 rfl rfl)
theorem dX9_proof_131 : decode cX9_proof 131 = .ok (.bipush 40, 2) := dk_16 40 (dk_at dksX9_proof_4 17 rfl rfl)
theorem dX9_proof_133 : decode cX9_proof 133 = .ok (.iload_n 1, 1) := dk_27 (dk_at dksX9_proof_4 19 rfl rfl)
theorem dX9_proof_134 : decode cX9_proof 134 = .ok (.imul, 1) := dk_104 (dk_at dksX9_proof_4 20 rfl rfl)
theorem dX9_proof_135 : decode cX9_proof 135 = .ok (.iaload, 1) := dk_46 (dk_at dksX9_proof_4 21 rfl rfl)
theorem dX9_proof_136 : decode cX9_proof 136 = .ok (.goto 4, 3) := dk_167 0 4 (dk_at dksX9_proof_5 0 rfl rfl)
theorem dX9_proof_139 : decode cX9_proof 139 = .ok (.iconst 0, 1) := dk_3 (dk_at dksX9_proof_5 3 rfl rfl)
theorem dX9_proof_140 : decode cX9_proof 140 = .ok (.ireturn, 1) := dk_172 (dk_at dksX9_proof_5 4 rfl rfl)
theorem dX9_proof_141 : decode cX9_proof 141 = .ok (.aload_n 0, 1) := dk_42 (dk_at dksX9_proof_5 5 rfl rfl)
theorem dX9_proof_142 : decode cX9_proof 142 = .ok (.getfield 36, 3) := dk_180 0 36 (dk_at dksX9_proof_5 6 rfl rfl)
theorem dX9_proof_145 : decode cX9_proof 145 = .ok (.bipush 8, 2) := dk_16 8 (dk_at dksX9_proof_5 9 rfl rfl)
theorem dX9_proof_147 : decode cX9_proof 147 = .ok (.iload_n 1, 1) := dk_27 (dk_at dksX9_proof_5 11 rfl rfl)
theorem dX9_proof_148 : decode cX9_proof 148 = .ok (.imul, 1) := dk_104 (dk_at dksX9_proof_5 12 rfl rfl)
theorem dX9_proof_149 : decode cX9_proof 149 = .ok (.iconst 5, 1) := dk_8 (dk_at dksX9_proof_5 13 rfl rfl)
theorem dX9_proof_150 : decode cX9_proof 150 = .ok (.iadd, 1) := dk_96 (dk_at dksX9_proof_5 14 rfl rfl)
theorem dX9_proof_151 : decode cX9_proof 151 = .ok (.iaload, 1) := dk_46 (dk_at dksX9_proof_5 15 rfl rfl)
theorem dX9_proof_152 : decode cX9_proof 152 = .ok (.ireturn, 1) := dk_172 (dk_at dksX9_proof_5 16 rfl rfl)
theorem dX9_proof_153 : decode cX9_proof 153 = .ok (.aload_n 0, 1) := dk_42 (dk_at dksX9_proof_5 17 rfl rfl)
theorem dX9_proof_154 : decode cX9_proof 154 = .ok (.getfield 36, 3) := dk_180 0 36 (dk_at dksX9_proof_5 18 rfl rfl)
theorem dX9_proof_157 : decode cX9_proof 157 = .ok (.bipush 8, 2) := dk_16 8 (dk_at dksX9_proof_5 21 rfl rfl)
theorem dX9_proof_159 : decode cX9_proof 159 = .ok (.iload_n 1, 1) := dk_27 (dk_at dksX9_proof_5 23 rfl rfl)
theorem dX9_proof_160 : decode cX9_proof 160 = .ok (.imul, 1) := dk_104 (dk_at dksX9_proof_6 0 rfl rfl)
theorem dX9_proof_161 : decode cX9_proof 161 = .ok (.bipush 6, 2) := dk_16 6 (dk_at dksX9_proof_6 1 rfl rfl)
theorem dX9_proof_163 : decode cX9_proof 163 = .ok (.iadd, 1) := dk_96 (dk_at dksX9_proof_6 3 rfl rfl)
theorem dX9_proof_164 : decode cX9_proof 164 = .ok (.iaload, 1) := dk_46 (dk_at dksX9_proof_6 4 rfl rfl)
theorem dX9_proof_165 : decode cX9_proof 165 = .ok (.ireturn, 1) := dk_172 (dk_at dksX9_proof_6 5 rfl rfl)
theorem dX9_proof_166 : decode cX9_proof 166 = .ok (.iconst (-1), 1) := dk_2 (dk_at dksX9_proof_6 6 rfl rfl)
theorem dX9_proof_167 : decode cX9_proof 167 = .ok (.ireturn, 1) := dk_172 (dk_at dksX9_proof_6 7 rfl rfl)
abbrev cX9_step_2 : ByteArray := prog_17_method_50_code
def yX9_step_2 : MethodName := ⟨RX9, "step", "(III)I"⟩
def dkwX9_step_2_1 : List UInt8 := [29, 96, 46, 167, 0, 4, 3, 172]
abbrev dktX9_step_2_1 : List UInt8 := dkwX9_step_2_1 ++ []
def dkwX9_step_2_0 : List UInt8 := [42, 27, 28, 29, 182, 1, 53, 153, 0, 23, 42, 180, 0, 46, 16, 8, 17, 1, 0, 27, 104, 28, 96, 104]
abbrev dktX9_step_2_0 : List UInt8 := dkwX9_step_2_0 ++ dktX9_step_2_1
theorem dksX9_step_2_0 : cX9_step_2.data.toList.drop 0 = dktX9_step_2_0 := by decide +kernel
theorem dksX9_step_2_1 : cX9_step_2.data.toList.drop 24 = dktX9_step_2_1 := dk_seg dksX9_step_2_0 24 rfl rfl
theorem dX9_step_2_0 : decode cX9_step_2 0 = .ok (.aload_n 0, 1) := dk_42 (dk_at dksX9_step_2_0 0 rfl rfl)
theorem dX9_step_2_1 : decode cX9_step_2 1 = .ok (.iload_n 1, 1) := dk_27 (dk_at dksX9_step_2_0 1 rfl rfl)
theorem dX9_step_2_2 : decode cX9_step_2 2 = .ok (.iload_n 2, 1) := dk_28 (dk_at dksX9_step_2_0 2 rfl rfl)
theorem dX9_step_2_3 : decode cX9_step_2 3 = .ok (.iload_n 3, 1) := dk_29 (dk_at dksX9_step_2_0 3 rfl rfl)
theorem dX9_step_2_4 : decode cX9_step_2 4 = .ok (.invokevirtual 309, 3) := dk_182 1 53 (dk_at dksX9_step_2_0 4 rfl rfl)
theorem dX9_step_2_7 : decode cX9_step_2 7 = .ok (.ifCond .eq 23, 3) := dk_153 0 23 (dk_at dksX9_step_2_0 7 rfl rfl)
theorem dX9_step_2_10 : decode cX9_step_2 10 = .ok (.aload_n 0, 1) := dk_42 (dk_at dksX9_step_2_0 10 rfl rfl)
theorem dX9_step_2_11 : decode cX9_step_2 11 = .ok (.getfield 46, 3) := dk_180 0 46 (dk_at dksX9_step_2_0 11 rfl rfl)
theorem dX9_step_2_14 : decode cX9_step_2 14 = .ok (.bipush 8, 2) := dk_16 8 (dk_at dksX9_step_2_0 14 rfl rfl)
theorem dX9_step_2_16 : decode cX9_step_2 16 = .ok (.sipush 256, 3) := dk_17 1 0 (dk_at dksX9_step_2_0 16 rfl rfl)
theorem dX9_step_2_19 : decode cX9_step_2 19 = .ok (.iload_n 1, 1) := dk_27 (dk_at dksX9_step_2_0 19 rfl rfl)
theorem dX9_step_2_20 : decode cX9_step_2 20 = .ok (.imul, 1) := dk_104 (dk_at dksX9_step_2_0 20 rfl rfl)
theorem dX9_step_2_21 : decode cX9_step_2 21 = .ok (.iload_n 2, 1) := dk_28 (dk_at dksX9_step_2_0 21 rfl rfl)
theorem dX9_step_2_22 : decode cX9_step_2 22 = .ok (.iadd, 1) := dk_96 (dk_at dksX9_step_2_0 22 rfl rfl)
theorem dX9_step_2_23 : decode cX9_step_2 23 = .ok (.imul, 1) := dk_104 (dk_at dksX9_step_2_0 23 rfl rfl)
theorem dX9_step_2_24 : decode cX9_step_2 24 = .ok (.iload_n 3, 1) := dk_29 (dk_at dksX9_step_2_1 0 rfl rfl)
theorem dX9_step_2_25 : decode cX9_step_2 25 = .ok (.iadd, 1) := dk_96 (dk_at dksX9_step_2_1 1 rfl rfl)
theorem dX9_step_2_26 : decode cX9_step_2 26 = .ok (.iaload, 1) := dk_46 (dk_at dksX9_step_2_1 2 rfl rfl)
theorem dX9_step_2_27 : decode cX9_step_2 27 = .ok (.goto 4, 3) := dk_167 0 4 (dk_at dksX9_step_2_1 3 rfl rfl)
theorem dX9_step_2_30 : decode cX9_step_2 30 = .ok (.iconst 0, 1) := dk_3 (dk_at dksX9_step_2_1 6 rfl rfl)
theorem dX9_step_2_31 : decode cX9_step_2 31 = .ok (.ireturn, 1) := dk_172 (dk_at dksX9_step_2_1 7 rfl rfl)
abbrev cX9_isStep : ByteArray := prog_17_method_49_code
def yX9_isStep : MethodName := ⟨RX9, "isStep", "(III)Z"⟩
def dkwX9_isStep_1 : List UInt8 := [162, 0, 17, 29, 155, 0, 13, 29, 16, 8, 162, 0, 7, 4, 167, 0, 4, 3, 172]
abbrev dktX9_isStep_1 : List UInt8 := dkwX9_isStep_1 ++ []
def dkwX9_isStep_0 : List UInt8 := [42, 27, 182, 1, 36, 153, 0, 36, 28, 155, 0, 32, 28, 42, 180, 0, 36, 16, 8, 27, 104, 4, 96, 46]
abbrev dktX9_isStep_0 : List UInt8 := dkwX9_isStep_0 ++ dktX9_isStep_1
theorem dksX9_isStep_0 : cX9_isStep.data.toList.drop 0 = dktX9_isStep_0 := by decide +kernel
theorem dksX9_isStep_1 : cX9_isStep.data.toList.drop 24 = dktX9_isStep_1 := dk_seg dksX9_isStep_0 24 rfl rfl
theorem dX9_isStep_0 : decode cX9_isStep 0 = .ok (.aload_n 0, 1) := dk_42 (dk_at dksX9_isStep_0 0 rfl rfl)
theorem dX9_isStep_1 : decode cX9_isStep 1 = .ok (.iload_n 1, 1) := dk_27 (dk_at dksX9_isStep_0 1 rfl rfl)
theorem dX9_isStep_2 : decode cX9_isStep 2 = .ok (.invokevirtual 292, 3) := dk_182 1 36 (dk_at dksX9_isStep_0 2 rfl rfl)
theorem dX9_isStep_5 : decode cX9_isStep 5 = .ok (.ifCond .eq 36, 3) := dk_153 0 36 (dk_at dksX9_isStep_0 5 rfl rfl)
theorem dX9_isStep_8 : decode cX9_isStep 8 = .ok (.iload_n 2, 1) := dk_28 (dk_at dksX9_isStep_0 8 rfl rfl)
theorem dX9_isStep_9 : decode cX9_isStep 9 = .ok (.ifCond .lt 32, 3) := dk_155 0 32 (dk_at dksX9_isStep_0 9 rfl rfl)
theorem dX9_isStep_12 : decode cX9_isStep 12 = .ok (.iload_n 2, 1) := dk_28 (dk_at dksX9_isStep_0 12 rfl rfl)
theorem dX9_isStep_13 : decode cX9_isStep 13 = .ok (.aload_n 0, 1) := dk_42 (dk_at dksX9_isStep_0 13 rfl rfl)
theorem dX9_isStep_14 : decode cX9_isStep 14 = .ok (.getfield 36, 3) := dk_180 0 36 (dk_at dksX9_isStep_0 14 rfl rfl)
theorem dX9_isStep_17 : decode cX9_isStep 17 = .ok (.bipush 8, 2) := dk_16 8 (dk_at dksX9_isStep_0 17 rfl rfl)
theorem dX9_isStep_19 : decode cX9_isStep 19 = .ok (.iload_n 1, 1) := dk_27 (dk_at dksX9_isStep_0 19 rfl rfl)
theorem dX9_isStep_20 : decode cX9_isStep 20 = .ok (.imul, 1) := dk_104 (dk_at dksX9_isStep_0 20 rfl rfl)
theorem dX9_isStep_21 : decode cX9_isStep 21 = .ok (.iconst 1, 1) := dk_4 (dk_at dksX9_isStep_0 21 rfl rfl)
theorem dX9_isStep_22 : decode cX9_isStep 22 = .ok (.iadd, 1) := dk_96 (dk_at dksX9_isStep_0 22 rfl rfl)
theorem dX9_isStep_23 : decode cX9_isStep 23 = .ok (.iaload, 1) := dk_46 (dk_at dksX9_isStep_0 23 rfl rfl)
theorem dX9_isStep_24 : decode cX9_isStep 24 = .ok (.if_icmp .ge 17, 3) := dk_162 0 17 (dk_at dksX9_isStep_1 0 rfl rfl)
theorem dX9_isStep_27 : decode cX9_isStep 27 = .ok (.iload_n 3, 1) := dk_29 (dk_at dksX9_isStep_1 3 rfl rfl)
theorem dX9_isStep_28 : decode cX9_isStep 28 = .ok (.ifCond .lt 13, 3) := dk_155 0 13 (dk_at dksX9_isStep_1 4 rfl rfl)
theorem dX9_isStep_31 : decode cX9_isStep 31 = .ok (.iload_n 3, 1) := dk_29 (dk_at dksX9_isStep_1 7 rfl rfl)
theorem dX9_isStep_32 : decode cX9_isStep 32 = .ok (.bipush 8, 2) := dk_16 8 (dk_at dksX9_isStep_1 8 rfl rfl)
theorem dX9_isStep_34 : decode cX9_isStep 34 = .ok (.if_icmp .ge 7, 3) := dk_162 0 7 (dk_at dksX9_isStep_1 10 rfl rfl)
theorem dX9_isStep_37 : decode cX9_isStep 37 = .ok (.iconst 1, 1) := dk_4 (dk_at dksX9_isStep_1 13 rfl rfl)
theorem dX9_isStep_38 : decode cX9_isStep 38 = .ok (.goto 4, 3) := dk_167 0 4 (dk_at dksX9_isStep_1 14 rfl rfl)
theorem dX9_isStep_41 : decode cX9_isStep 41 = .ok (.iconst 0, 1) := dk_3 (dk_at dksX9_isStep_1 17 rfl rfl)
theorem dX9_isStep_42 : decode cX9_isStep 42 = .ok (.ireturn, 1) := dk_172 (dk_at dksX9_isStep_1 18 rfl rfl)
abbrev cX9_bend : ByteArray := prog_17_method_51_code
def yX9_bend : MethodName := ⟨RX9, "bend", "(IIII)Z"⟩
def dkwX9_bend_1 : List UInt8 := [96, 104, 29, 96, 92, 46, 21, 4, 130, 79, 4, 172]
abbrev dktX9_bend_1 : List UInt8 := dkwX9_bend_1 ++ []
def dkwX9_bend_0 : List UInt8 := [42, 27, 28, 29, 182, 1, 53, 154, 0, 5, 3, 172, 42, 180, 0, 46, 16, 8, 17, 1, 0, 27, 104, 28]
abbrev dktX9_bend_0 : List UInt8 := dkwX9_bend_0 ++ dktX9_bend_1
theorem dksX9_bend_0 : cX9_bend.data.toList.drop 0 = dktX9_bend_0 := by decide +kernel
theorem dksX9_bend_1 : cX9_bend.data.toList.drop 24 = dktX9_bend_1 := dk_seg dksX9_bend_0 24 rfl rfl
theorem dX9_bend_0 : decode cX9_bend 0 = .ok (.aload_n 0, 1) := dk_42 (dk_at dksX9_bend_0 0 rfl rfl)
theorem dX9_bend_1 : decode cX9_bend 1 = .ok (.iload_n 1, 1) := dk_27 (dk_at dksX9_bend_0 1 rfl rfl)
theorem dX9_bend_2 : decode cX9_bend 2 = .ok (.iload_n 2, 1) := dk_28 (dk_at dksX9_bend_0 2 rfl rfl)
theorem dX9_bend_3 : decode cX9_bend 3 = .ok (.iload_n 3, 1) := dk_29 (dk_at dksX9_bend_0 3 rfl rfl)
theorem dX9_bend_4 : decode cX9_bend 4 = .ok (.invokevirtual 309, 3) := dk_182 1 53 (dk_at dksX9_bend_0 4 rfl rfl)
theorem dX9_bend_7 : decode cX9_bend 7 = .ok (.ifCond .ne 5, 3) := dk_154 0 5 (dk_at dksX9_bend_0 7 rfl rfl)
theorem dX9_bend_10 : decode cX9_bend 10 = .ok (.iconst 0, 1) := dk_3 (dk_at dksX9_bend_0 10 rfl rfl)
theorem dX9_bend_11 : decode cX9_bend 11 = .ok (.ireturn, 1) := dk_172 (dk_at dksX9_bend_0 11 rfl rfl)
theorem dX9_bend_12 : decode cX9_bend 12 = .ok (.aload_n 0, 1) := dk_42 (dk_at dksX9_bend_0 12 rfl rfl)
theorem dX9_bend_13 : decode cX9_bend 13 = .ok (.getfield 46, 3) := dk_180 0 46 (dk_at dksX9_bend_0 13 rfl rfl)
theorem dX9_bend_16 : decode cX9_bend 16 = .ok (.bipush 8, 2) := dk_16 8 (dk_at dksX9_bend_0 16 rfl rfl)
theorem dX9_bend_18 : decode cX9_bend 18 = .ok (.sipush 256, 3) := dk_17 1 0 (dk_at dksX9_bend_0 18 rfl rfl)
theorem dX9_bend_21 : decode cX9_bend 21 = .ok (.iload_n 1, 1) := dk_27 (dk_at dksX9_bend_0 21 rfl rfl)
theorem dX9_bend_22 : decode cX9_bend 22 = .ok (.imul, 1) := dk_104 (dk_at dksX9_bend_0 22 rfl rfl)
theorem dX9_bend_23 : decode cX9_bend 23 = .ok (.iload_n 2, 1) := dk_28 (dk_at dksX9_bend_0 23 rfl rfl)
theorem dX9_bend_24 : decode cX9_bend 24 = .ok (.iadd, 1) := dk_96 (dk_at dksX9_bend_1 0 rfl rfl)
theorem dX9_bend_25 : decode cX9_bend 25 = .ok (.imul, 1) := dk_104 (dk_at dksX9_bend_1 1 rfl rfl)
theorem dX9_bend_26 : decode cX9_bend 26 = .ok (.iload_n 3, 1) := dk_29 (dk_at dksX9_bend_1 2 rfl rfl)
theorem dX9_bend_27 : decode cX9_bend 27 = .ok (.iadd, 1) := dk_96 (dk_at dksX9_bend_1 3 rfl rfl)
theorem dX9_bend_28 : decode cX9_bend 28 = .ok (.dup2, 1) := dk_92 (dk_at dksX9_bend_1 4 rfl rfl)
theorem dX9_bend_29 : decode cX9_bend 29 = .ok (.iaload, 1) := dk_46 (dk_at dksX9_bend_1 5 rfl rfl)
theorem dX9_bend_30 : decode cX9_bend 30 = .ok (.iload 4, 2) := dk_21 4 (dk_at dksX9_bend_1 6 rfl rfl)
theorem dX9_bend_32 : decode cX9_bend 32 = .ok (.ixor, 1) := dk_130 (dk_at dksX9_bend_1 8 rfl rfl)
theorem dX9_bend_33 : decode cX9_bend 33 = .ok (.iastore, 1) := dk_79 (dk_at dksX9_bend_1 9 rfl rfl)
theorem dX9_bend_34 : decode cX9_bend 34 = .ok (.iconst 1, 1) := dk_4 (dk_at dksX9_bend_1 10 rfl rfl)
theorem dX9_bend_35 : decode cX9_bend 35 = .ok (.ireturn, 1) := dk_172 (dk_at dksX9_bend_1 11 rfl rfl)
abbrev cX9_forge : ByteArray := prog_17_method_52_code
def yX9_forge : MethodName := ⟨RX9, "forge", "(IIIJ)Z"⟩
def dkwX9_forge_4 : List UInt8 := [16, 40, 27, 104, 28, 96, 22, 4, 80, 4, 172]
abbrev dktX9_forge_4 : List UInt8 := dkwX9_forge_4 ++ []
def dkwX9_forge_3 : List UInt8 := [21, 7, 161, 0, 5, 3, 172, 42, 180, 0, 39, 16, 40, 27, 104, 28, 96, 29, 79, 42, 180, 0, 42]
abbrev dktX9_forge_3 : List UInt8 := dkwX9_forge_3 ++ dktX9_forge_4
def dkwX9_forge_2 : List UInt8 := [42, 180, 0, 36, 16, 8, 27, 104, 6, 96, 46, 100, 167, 0, 4, 3, 54, 7, 28, 155, 0, 9, 28]
abbrev dktX9_forge_2 : List UInt8 := dkwX9_forge_2 ++ dktX9_forge_3
def dkwX9_forge_1 : List UInt8 := [160, 0, 7, 4, 167, 0, 36, 21, 6, 8, 160, 0, 29, 42, 180, 0, 36, 16, 8, 27, 104, 7, 96, 46]
abbrev dktX9_forge_1 : List UInt8 := dkwX9_forge_1 ++ dktX9_forge_2
def dkwX9_forge_0 : List UInt8 := [42, 27, 182, 1, 36, 154, 0, 5, 3, 172, 42, 180, 0, 36, 16, 8, 27, 104, 46, 54, 6, 21, 6, 4]
abbrev dktX9_forge_0 : List UInt8 := dkwX9_forge_0 ++ dktX9_forge_1
theorem dksX9_forge_0 : cX9_forge.data.toList.drop 0 = dktX9_forge_0 := by decide +kernel
theorem dksX9_forge_1 : cX9_forge.data.toList.drop 24 = dktX9_forge_1 := dk_seg dksX9_forge_0 24 rfl rfl
theorem dksX9_forge_2 : cX9_forge.data.toList.drop 48 = dktX9_forge_2 := dk_seg dksX9_forge_1 24 rfl rfl
theorem dksX9_forge_3 : cX9_forge.data.toList.drop 71 = dktX9_forge_3 := dk_seg dksX9_forge_2 23 rfl rfl
theorem dksX9_forge_4 : cX9_forge.data.toList.drop 94 = dktX9_forge_4 := dk_seg dksX9_forge_3 23 rfl rfl
theorem dX9_forge_0 : decode cX9_forge 0 = .ok (.aload_n 0, 1) := dk_42 (dk_at dksX9_forge_0 0 rfl rfl)
theorem dX9_forge_1 : decode cX9_forge 1 = .ok (.iload_n 1, 1) := dk_27 (dk_at dksX9_forge_0 1 rfl rfl)
theorem dX9_forge_2 : decode cX9_forge 2 = .ok (.invokevirtual 292, 3) := dk_182 1 36 (dk_at dksX9_forge_0 2 rfl rfl)
theorem dX9_forge_5 : decode cX9_forge 5 = .ok (.ifCond .ne 5, 3) := dk_154 0 5 (dk_at dksX9_forge_0 5 rfl rfl)
theorem dX9_forge_8 : decode cX9_forge 8 = .ok (.iconst 0, 1) := dk_3 (dk_at dksX9_forge_0 8 rfl rfl)
theorem dX9_forge_9 : decode cX9_forge 9 = .ok (.ireturn, 1) := dk_172 (dk_at dksX9_forge_0 9 rfl rfl)
theorem dX9_forge_10 : decode cX9_forge 10 = .ok (.aload_n 0, 1) := dk_42 (dk_at dksX9_forge_0 10 rfl rfl)
theorem dX9_forge_11 : decode cX9_forge 11 = .ok (.getfield 36, 3) := dk_180 0 36 (dk_at dksX9_forge_0 11 rfl rfl)
theorem dX9_forge_14 : decode cX9_forge 14 = .ok (.bipush 8, 2) := dk_16 8 (dk_at dksX9_forge_0 14 rfl rfl)
theorem dX9_forge_16 : decode cX9_forge 16 = .ok (.iload_n 1, 1) := dk_27 (dk_at dksX9_forge_0 16 rfl rfl)
theorem dX9_forge_17 : decode cX9_forge 17 = .ok (.imul, 1) := dk_104 (dk_at dksX9_forge_0 17 rfl rfl)
theorem dX9_forge_18 : decode cX9_forge 18 = .ok (.iaload, 1) := dk_46 (dk_at dksX9_forge_0 18 rfl rfl)
theorem dX9_forge_19 : decode cX9_forge 19 = .ok (.istore 6, 2) := dk_54 6 (dk_at dksX9_forge_0 19 rfl rfl)
theorem dX9_forge_21 : decode cX9_forge 21 = .ok (.iload 6, 2) := dk_21 6 (dk_at dksX9_forge_0 21 rfl rfl)
theorem dX9_forge_23 : decode cX9_forge 23 = .ok (.iconst 1, 1) := dk_4 (dk_at dksX9_forge_0 23 rfl rfl)
theorem dX9_forge_24 : decode cX9_forge 24 = .ok (.if_icmp .ne 7, 3) := dk_160 0 7 (dk_at dksX9_forge_1 0 rfl rfl)
theorem dX9_forge_27 : decode cX9_forge 27 = .ok (.iconst 1, 1) := dk_4 (dk_at dksX9_forge_1 3 rfl rfl)
theorem dX9_forge_28 : decode cX9_forge 28 = .ok (.goto 36, 3) := dk_167 0 36 (dk_at dksX9_forge_1 4 rfl rfl)
theorem dX9_forge_31 : decode cX9_forge 31 = .ok (.iload 6, 2) := dk_21 6 (dk_at dksX9_forge_1 7 rfl rfl)
theorem dX9_forge_33 : decode cX9_forge 33 = .ok (.iconst 5, 1) := dk_8 (dk_at dksX9_forge_1 9 rfl rfl)
theorem dX9_forge_34 : decode cX9_forge 34 = .ok (.if_icmp .ne 29, 3) := dk_160 0 29 (dk_at dksX9_forge_1 10 rfl rfl)
theorem dX9_forge_37 : decode cX9_forge 37 = .ok (.aload_n 0, 1) := dk_42 (dk_at dksX9_forge_1 13 rfl rfl)
theorem dX9_forge_38 : decode cX9_forge 38 = .ok (.getfield 36, 3) := dk_180 0 36 (dk_at dksX9_forge_1 14 rfl rfl)
theorem dX9_forge_41 : decode cX9_forge 41 = .ok (.bipush 8, 2) := dk_16 8 (dk_at dksX9_forge_1 17 rfl rfl)
theorem dX9_forge_43 : decode cX9_forge 43 = .ok (.iload_n 1, 1) := dk_27 (dk_at dksX9_forge_1 19 rfl rfl)
theorem dX9_forge_44 : decode cX9_forge 44 = .ok (.imul, 1) := dk_104 (dk_at dksX9_forge_1 20 rfl rfl)
theorem dX9_forge_45 : decode cX9_forge 45 = .ok (.iconst 4, 1) := dk_7 (dk_at dksX9_forge_1 21 rfl rfl)
theorem dX9_forge_46 : decode cX9_forge 46 = .ok (.iadd, 1) := dk_96 (dk_at dksX9_forge_1 22 rfl rfl)
theorem dX9_forge_47 : decode cX9_forge 47 = .ok (.iaload, 1) := dk_46 (dk_at dksX9_forge_1 23 rfl rfl)
theorem dX9_forge_48 : decode cX9_forge 48 = .ok (.aload_n 0, 1) := dk_42 (dk_at dksX9_forge_2 0 rfl rfl)
theorem dX9_forge_49 : decode cX9_forge 49 = .ok (.getfield 36, 3) := dk_180 0 36 (dk_at dksX9_forge_2 1 rfl rfl)
theorem dX9_forge_52 : decode cX9_forge 52 = .ok (.bipush 8, 2) := dk_16 8 (dk_at dksX9_forge_2 4 rfl rfl)
theorem dX9_forge_54 : decode cX9_forge 54 = .ok (.iload_n 1, 1) := dk_27 (dk_at dksX9_forge_2 6 rfl rfl)
theorem dX9_forge_55 : decode cX9_forge 55 = .ok (.imul, 1) := dk_104 (dk_at dksX9_forge_2 7 rfl rfl)
theorem dX9_forge_56 : decode cX9_forge 56 = .ok (.iconst 3, 1) := dk_6 (dk_at dksX9_forge_2 8 rfl rfl)
theorem dX9_forge_57 : decode cX9_forge 57 = .ok (.iadd, 1) := dk_96 (dk_at dksX9_forge_2 9 rfl rfl)
theorem dX9_forge_58 : decode cX9_forge 58 = .ok (.iaload, 1) := dk_46 (dk_at dksX9_forge_2 10 rfl rfl)
theorem dX9_forge_59 : decode cX9_forge 59 = .ok (.isub, 1) := dk_100 (dk_at dksX9_forge_2 11 rfl rfl)
theorem dX9_forge_60 : decode cX9_forge 60 = .ok (.goto 4, 3) := dk_167 0 4 (dk_at dksX9_forge_2 12 rfl rfl)
theorem dX9_forge_63 : decode cX9_forge 63 = .ok (.iconst 0, 1) := dk_3 (dk_at dksX9_forge_2 15 rfl rfl)
theorem dX9_forge_64 : decode cX9_forge 64 = .ok (.istore 7, 2) := dk_54 7 (dk_at dksX9_forge_2 16 rfl rfl)
theorem dX9_forge_66 : decode cX9_forge 66 = .ok (.iload_n 2, 1) := dk_28 (dk_at dksX9_forge_2 18 rfl rfl)
theorem dX9_forge_67 : decode cX9_forge 67 = .ok (.ifCond .lt 9, 3) := dk_155 0 9 (dk_at dksX9_forge_2 19 rfl rfl)
theorem dX9_forge_70 : decode cX9_forge 70 = .ok (.iload_n 2, 1) := dk_28 (dk_at dksX9_forge_2 22 rfl rfl)
theorem dX9_forge_71 : decode cX9_forge 71 = .ok (.iload 7, 2) := dk_21 7 (dk_at dksX9_forge_3 0 rfl rfl)
theorem dX9_forge_73 : decode cX9_forge 73 = .ok (.if_icmp .lt 5, 3) := dk_161 0 5 (dk_at dksX9_forge_3 2 rfl rfl)
theorem dX9_forge_76 : decode cX9_forge 76 = .ok (.iconst 0, 1) := dk_3 (dk_at dksX9_forge_3 5 rfl rfl)
theorem dX9_forge_77 : decode cX9_forge 77 = .ok (.ireturn, 1) := dk_172 (dk_at dksX9_forge_3 6 rfl rfl)
theorem dX9_forge_78 : decode cX9_forge 78 = .ok (.aload_n 0, 1) := dk_42 (dk_at dksX9_forge_3 7 rfl rfl)
theorem dX9_forge_79 : decode cX9_forge 79 = .ok (.getfield 39, 3) := dk_180 0 39 (dk_at dksX9_forge_3 8 rfl rfl)
theorem dX9_forge_82 : decode cX9_forge 82 = .ok (.bipush 40, 2) := dk_16 40 (dk_at dksX9_forge_3 11 rfl rfl)
theorem dX9_forge_84 : decode cX9_forge 84 = .ok (.iload_n 1, 1) := dk_27 (dk_at dksX9_forge_3 13 rfl rfl)
theorem dX9_forge_85 : decode cX9_forge 85 = .ok (.imul, 1) := dk_104 (dk_at dksX9_forge_3 14 rfl rfl)
theorem dX9_forge_86 : decode cX9_forge 86 = .ok (.iload_n 2, 1) := dk_28 (dk_at dksX9_forge_3 15 rfl rfl)
theorem dX9_forge_87 : decode cX9_forge 87 = .ok (.iadd, 1) := dk_96 (dk_at dksX9_forge_3 16 rfl rfl)
theorem dX9_forge_88 : decode cX9_forge 88 = .ok (.iload_n 3, 1) := dk_29 (dk_at dksX9_forge_3 17 rfl rfl)
theorem dX9_forge_89 : decode cX9_forge 89 = .ok (.iastore, 1) := dk_79 (dk_at dksX9_forge_3 18 rfl rfl)
theorem dX9_forge_90 : decode cX9_forge 90 = .ok (.aload_n 0, 1) := dk_42 (dk_at dksX9_forge_3 19 rfl rfl)
theorem dX9_forge_91 : decode cX9_forge 91 = .ok (.getfield 42, 3) := dk_180 0 42 (dk_at dksX9_forge_3 20 rfl rfl)
theorem dX9_forge_94 : decode cX9_forge 94 = .ok (.bipush 40, 2) := dk_16 40 (dk_at dksX9_forge_4 0 rfl rfl)
theorem dX9_forge_96 : decode cX9_forge 96 = .ok (.iload_n 1, 1) := dk_27 (dk_at dksX9_forge_4 2 rfl rfl)
theorem dX9_forge_97 : decode cX9_forge 97 = .ok (.imul, 1) := dk_104 (dk_at dksX9_forge_4 3 rfl rfl)
theorem dX9_forge_98 : decode cX9_forge 98 = .ok (.iload_n 2, 1) := dk_28 (dk_at dksX9_forge_4 4 rfl rfl)
theorem dX9_forge_99 : decode cX9_forge 99 = .ok (.iadd, 1) := dk_96 (dk_at dksX9_forge_4 5 rfl rfl)
theorem dX9_forge_100 : decode cX9_forge 100 = .ok (.lload 4, 2) := dk_22 4 (dk_at dksX9_forge_4 6 rfl rfl)
theorem dX9_forge_102 : decode cX9_forge 102 = .ok (.lastore, 1) := dk_80 (dk_at dksX9_forge_4 8 rfl rfl)
theorem dX9_forge_103 : decode cX9_forge 103 = .ok (.iconst 1, 1) := dk_4 (dk_at dksX9_forge_4 9 rfl rfl)
theorem dX9_forge_104 : decode cX9_forge 104 = .ok (.ireturn, 1) := dk_172 (dk_at dksX9_forge_4 10 rfl rfl)
abbrev cX9_check : ByteArray := prog_17_method_59_code
def yX9_check : MethodName := ⟨RX9, "check", "(III)I"⟩
def dkwX9_check_10 : List UInt8 := [153, 0, 7, 4, 167, 0, 4, 3, 172]
abbrev dktX9_check_10 : List UInt8 := dkwX9_check_10 ++ []
def dkwX9_check_9 : List UInt8 := [182, 1, 73, 167, 0, 16, 42, 27, 42, 180, 0, 49, 16, 28, 28, 104, 182, 1, 77, 54, 5, 21, 5]
abbrev dktX9_check_9 : List UInt8 := dkwX9_check_9 ++ dktX9_check_10
def dkwX9_check_8 : List UInt8 := [21, 4, 4, 159, 0, 9, 21, 4, 8, 160, 0, 19, 42, 27, 42, 180, 0, 49, 16, 28, 28, 104]
abbrev dktX9_check_8 : List UInt8 := dkwX9_check_8 ++ dktX9_check_9
def dkwX9_check_7 : List UInt8 := [180, 0, 49, 16, 28, 28, 104, 46, 42, 180, 0, 36, 16, 8, 27, 104, 5, 96, 46, 159, 0, 5, 3, 172]
abbrev dktX9_check_7 : List UInt8 := dkwX9_check_7 ++ dktX9_check_8
def dkwX9_check_6 : List UInt8 := [104, 42, 180, 0, 49, 16, 28, 29, 104, 182, 1, 69, 153, 0, 7, 4, 167, 0, 4, 3, 172, 42]
abbrev dktX9_check_6 : List UInt8 := dkwX9_check_6 ++ dktX9_check_7
def dkwX9_check_5 : List UInt8 := [160, 0, 7, 4, 167, 0, 4, 3, 54, 5, 21, 5, 153, 0, 31, 42, 27, 42, 180, 0, 49, 16, 28, 28]
abbrev dktX9_check_5 : List UInt8 := dkwX9_check_5 ++ dktX9_check_6
def dkwX9_check_4 : List UInt8 := [46, 160, 0, 30, 42, 180, 0, 49, 16, 28, 29, 104, 46, 42, 180, 0, 36, 16, 8, 27, 104, 5, 96, 46]
abbrev dktX9_check_4 : List UInt8 := dkwX9_check_4 ++ dktX9_check_5
def dkwX9_check_3 : List UInt8 := [154, 0, 5, 2, 172, 42, 180, 0, 49, 16, 28, 28, 104, 46, 42, 180, 0, 36, 16, 8, 27, 104, 6, 96]
abbrev dktX9_check_3 : List UInt8 := dkwX9_check_3 ++ dktX9_check_4
def dkwX9_check_2 : List UInt8 := [104, 46, 54, 4, 21, 4, 5, 160, 0, 110, 42, 29, 182, 1, 66, 153, 0, 12, 42, 180, 0, 52, 29, 51]
abbrev dktX9_check_2 : List UInt8 := dkwX9_check_2 ++ dktX9_check_3
def dkwX9_check_1 : List UInt8 := [182, 1, 66, 153, 0, 12, 42, 180, 0, 52, 28, 51, 154, 0, 5, 2, 172, 42, 180, 0, 36, 16, 8, 27]
abbrev dktX9_check_1 : List UInt8 := dkwX9_check_1 ++ dktX9_check_2
def dkwX9_check_0 : List UInt8 := [42, 27, 182, 1, 36, 153, 0, 32, 42, 180, 0, 36, 16, 8, 27, 104, 46, 153, 0, 20, 42, 28]
abbrev dktX9_check_0 : List UInt8 := dkwX9_check_0 ++ dktX9_check_1
theorem dksX9_check_0 : cX9_check.data.toList.drop 0 = dktX9_check_0 := by decide +kernel
theorem dksX9_check_1 : cX9_check.data.toList.drop 22 = dktX9_check_1 := dk_seg dksX9_check_0 22 rfl rfl
theorem dksX9_check_2 : cX9_check.data.toList.drop 46 = dktX9_check_2 := dk_seg dksX9_check_1 24 rfl rfl
theorem dksX9_check_3 : cX9_check.data.toList.drop 70 = dktX9_check_3 := dk_seg dksX9_check_2 24 rfl rfl
theorem dksX9_check_4 : cX9_check.data.toList.drop 94 = dktX9_check_4 := dk_seg dksX9_check_3 24 rfl rfl
theorem dksX9_check_5 : cX9_check.data.toList.drop 118 = dktX9_check_5 := dk_seg dksX9_check_4 24 rfl rfl
theorem dksX9_check_6 : cX9_check.data.toList.drop 142 = dktX9_check_6 := dk_seg dksX9_check_5 24 rfl rfl
theorem dksX9_check_7 : cX9_check.data.toList.drop 164 = dktX9_check_7 := dk_seg dksX9_check_6 22 rfl rfl
theorem dksX9_check_8 : cX9_check.data.toList.drop 188 = dktX9_check_8 := dk_seg dksX9_check_7 24 rfl rfl
theorem dksX9_check_9 : cX9_check.data.toList.drop 210 = dktX9_check_9 := dk_seg dksX9_check_8 22 rfl rfl
theorem dksX9_check_10 : cX9_check.data.toList.drop 233 = dktX9_check_10 := dk_seg dksX9_check_9 23 rfl rfl
theorem dX9_check_0 : decode cX9_check 0 = .ok (.aload_n 0, 1) := dk_42 (dk_at dksX9_check_0 0 rfl rfl)
theorem dX9_check_1 : decode cX9_check 1 = .ok (.iload_n 1, 1) := dk_27 (dk_at dksX9_check_0 1 rfl rfl)
theorem dX9_check_2 : decode cX9_check 2 = .ok (.invokevirtual 292, 3) := dk_182 1 36 (dk_at dksX9_check_0 2 rfl rfl)
theorem dX9_check_5 : decode cX9_check 5 = .ok (.ifCond .eq 32, 3) := dk_153 0 32 (dk_at dksX9_check_0 5 rfl rfl)
theorem dX9_check_8 : decode cX9_check 8 = .ok (.aload_n 0, 1) := dk_42 (dk_at dksX9_check_0 8 rfl rfl)
theorem dX9_check_9 : decode cX9_check 9 = .ok (.getfield 36, 3) := dk_180 0 36 (dk_at dksX9_check_0 9 rfl rfl)
theorem dX9_check_12 : decode cX9_check 12 = .ok (.bipush 8, 2) := dk_16 8 (dk_at dksX9_check_0 12 rfl rfl)
theorem dX9_check_14 : decode cX9_check 14 = .ok (.iload_n 1, 1) := dk_27 (dk_at dksX9_check_0 14 rfl rfl)
theorem dX9_check_15 : decode cX9_check 15 = .ok (.imul, 1) := dk_104 (dk_at dksX9_check_0 15 rfl rfl)
theorem dX9_check_16 : decode cX9_check 16 = .ok (.iaload, 1) := dk_46 (dk_at dksX9_check_0 16 rfl rfl)
theorem dX9_check_17 : decode cX9_check 17 = .ok (.ifCond .eq 20, 3) := dk_153 0 20 (dk_at dksX9_check_0 17 rfl rfl)
theorem dX9_check_20 : decode cX9_check 20 = .ok (.aload_n 0, 1) := dk_42 (dk_at dksX9_check_0 20 rfl rfl)
theorem dX9_check_21 : decode cX9_check 21 = .ok (.iload_n 2, 1) := dk_28 (dk_at dksX9_check_0 21 rfl rfl)
theorem dX9_check_22 : decode cX9_check 22 = .ok (.invokevirtual 322, 3) := dk_182 1 66 (dk_at dksX9_check_1 0 rfl rfl)
theorem dX9_check_25 : decode cX9_check 25 = .ok (.ifCond .eq 12, 3) := dk_153 0 12 (dk_at dksX9_check_1 3 rfl rfl)
theorem dX9_check_28 : decode cX9_check 28 = .ok (.aload_n 0, 1) := dk_42 (dk_at dksX9_check_1 6 rfl rfl)
theorem dX9_check_29 : decode cX9_check 29 = .ok (.getfield 52, 3) := dk_180 0 52 (dk_at dksX9_check_1 7 rfl rfl)
theorem dX9_check_32 : decode cX9_check 32 = .ok (.iload_n 2, 1) := dk_28 (dk_at dksX9_check_1 10 rfl rfl)
theorem dX9_check_33 : decode cX9_check 33 = .ok (.baload, 1) := dk_51 (dk_at dksX9_check_1 11 rfl rfl)
theorem dX9_check_34 : decode cX9_check 34 = .ok (.ifCond .ne 5, 3) := dk_154 0 5 (dk_at dksX9_check_1 12 rfl rfl)
theorem dX9_check_37 : decode cX9_check 37 = .ok (.iconst (-1), 1) := dk_2 (dk_at dksX9_check_1 15 rfl rfl)
theorem dX9_check_38 : decode cX9_check 38 = .ok (.ireturn, 1) := dk_172 (dk_at dksX9_check_1 16 rfl rfl)
theorem dX9_check_39 : decode cX9_check 39 = .ok (.aload_n 0, 1) := dk_42 (dk_at dksX9_check_1 17 rfl rfl)
theorem dX9_check_40 : decode cX9_check 40 = .ok (.getfield 36, 3) := dk_180 0 36 (dk_at dksX9_check_1 18 rfl rfl)
theorem dX9_check_43 : decode cX9_check 43 = .ok (.bipush 8, 2) := dk_16 8 (dk_at dksX9_check_1 21 rfl rfl)
theorem dX9_check_45 : decode cX9_check 45 = .ok (.iload_n 1, 1) := dk_27 (dk_at dksX9_check_1 23 rfl rfl)
theorem dX9_check_46 : decode cX9_check 46 = .ok (.imul, 1) := dk_104 (dk_at dksX9_check_2 0 rfl rfl)
theorem dX9_check_47 : decode cX9_check 47 = .ok (.iaload, 1) := dk_46 (dk_at dksX9_check_2 1 rfl rfl)
theorem dX9_check_48 : decode cX9_check 48 = .ok (.istore 4, 2) := dk_54 4 (dk_at dksX9_check_2 2 rfl rfl)
theorem dX9_check_50 : decode cX9_check 50 = .ok (.iload 4, 2) := dk_21 4 (dk_at dksX9_check_2 4 rfl rfl)
theorem dX9_check_52 : decode cX9_check 52 = .ok (.iconst 2, 1) := dk_5 (dk_at dksX9_check_2 6 rfl rfl)
theorem dX9_check_53 : decode cX9_check 53 = .ok (.if_icmp .ne 110, 3) := dk_160 0 110 (dk_at dksX9_check_2 7 rfl rfl)
theorem dX9_check_56 : decode cX9_check 56 = .ok (.aload_n 0, 1) := dk_42 (dk_at dksX9_check_2 10 rfl rfl)
theorem dX9_check_57 : decode cX9_check 57 = .ok (.iload_n 3, 1) := dk_29 (dk_at dksX9_check_2 11 rfl rfl)
theorem dX9_check_58 : decode cX9_check 58 = .ok (.invokevirtual 322, 3) := dk_182 1 66 (dk_at dksX9_check_2 12 rfl rfl)
theorem dX9_check_61 : decode cX9_check 61 = .ok (.ifCond .eq 12, 3) := dk_153 0 12 (dk_at dksX9_check_2 15 rfl rfl)
theorem dX9_check_64 : decode cX9_check 64 = .ok (.aload_n 0, 1) := dk_42 (dk_at dksX9_check_2 18 rfl rfl)
theorem dX9_check_65 : decode cX9_check 65 = .ok (.getfield 52, 3) := dk_180 0 52 (dk_at dksX9_check_2 19 rfl rfl)
theorem dX9_check_68 : decode cX9_check 68 = .ok (.iload_n 3, 1) := dk_29 (dk_at dksX9_check_2 22 rfl rfl)
theorem dX9_check_69 : decode cX9_check 69 = .ok (.baload, 1) := dk_51 (dk_at dksX9_check_2 23 rfl rfl)
theorem dX9_check_70 : decode cX9_check 70 = .ok (.ifCond .ne 5, 3) := dk_154 0 5 (dk_at dksX9_check_3 0 rfl rfl)
theorem dX9_check_73 : decode cX9_check 73 = .ok (.iconst (-1), 1) := dk_2 (dk_at dksX9_check_3 3 rfl rfl)
theorem dX9_check_74 : decode cX9_check 74 = .ok (.ireturn, 1) := dk_172 (dk_at dksX9_check_3 4 rfl rfl)
theorem dX9_check_75 : decode cX9_check 75 = .ok (.aload_n 0, 1) := dk_42 (dk_at dksX9_check_3 5 rfl rfl)
theorem dX9_check_76 : decode cX9_check 76 = .ok (.getfield 49, 3) := dk_180 0 49 (dk_at dksX9_check_3 6 rfl rfl)
theorem dX9_check_79 : decode cX9_check 79 = .ok (.bipush 28, 2) := dk_16 28 (dk_at dksX9_check_3 9 rfl rfl)
theorem dX9_check_81 : decode cX9_check 81 = .ok (.iload_n 2, 1) := dk_28 (dk_at dksX9_check_3 11 rfl rfl)
theorem dX9_check_82 : decode cX9_check 82 = .ok (.imul, 1) := dk_104 (dk_at dksX9_check_3 12 rfl rfl)
theorem dX9_check_83 : decode cX9_check 83 = .ok (.iaload, 1) := dk_46 (dk_at dksX9_check_3 13 rfl rfl)
theorem dX9_check_84 : decode cX9_check 84 = .ok (.aload_n 0, 1) := dk_42 (dk_at dksX9_check_3 14 rfl rfl)
theorem dX9_check_85 : decode cX9_check 85 = .ok (.getfield 36, 3) := dk_180 0 36 (dk_at dksX9_check_3 15 rfl rfl)
theorem dX9_check_88 : decode cX9_check 88 = .ok (.bipush 8, 2) := dk_16 8 (dk_at dksX9_check_3 18 rfl rfl)
theorem dX9_check_90 : decode cX9_check 90 = .ok (.iload_n 1, 1) := dk_27 (dk_at dksX9_check_3 20 rfl rfl)
theorem dX9_check_91 : decode cX9_check 91 = .ok (.imul, 1) := dk_104 (dk_at dksX9_check_3 21 rfl rfl)
theorem dX9_check_92 : decode cX9_check 92 = .ok (.iconst 3, 1) := dk_6 (dk_at dksX9_check_3 22 rfl rfl)
theorem dX9_check_93 : decode cX9_check 93 = .ok (.iadd, 1) := dk_96 (dk_at dksX9_check_3 23 rfl rfl)
theorem dX9_check_94 : decode cX9_check 94 = .ok (.iaload, 1) := dk_46 (dk_at dksX9_check_4 0 rfl rfl)
theorem dX9_check_95 : decode cX9_check 95 = .ok (.if_icmp .ne 30, 3) := dk_160 0 30 (dk_at dksX9_check_4 1 rfl rfl)
theorem dX9_check_98 : decode cX9_check 98 = .ok (.aload_n 0, 1) := dk_42 (dk_at dksX9_check_4 4 rfl rfl)
theorem dX9_check_99 : decode cX9_check 99 = .ok (.getfield 49, 3) := dk_180 0 49 (dk_at dksX9_check_4 5 rfl rfl)
theorem dX9_check_102 : decode cX9_check 102 = .ok (.bipush 28, 2) := dk_16 28 (dk_at dksX9_check_4 8 rfl rfl)
theorem dX9_check_104 : decode cX9_check 104 = .ok (.iload_n 3, 1) := dk_29 (dk_at dksX9_check_4 10 rfl rfl)
theorem dX9_check_105 : decode cX9_check 105 = .ok (.imul, 1) := dk_104 (dk_at dksX9_check_4 11 rfl rfl)
theorem dX9_check_106 : decode cX9_check 106 = .ok (.iaload, 1) := dk_46 (dk_at dksX9_check_4 12 rfl rfl)
theorem dX9_check_107 : decode cX9_check 107 = .ok (.aload_n 0, 1) := dk_42 (dk_at dksX9_check_4 13 rfl rfl)
theorem dX9_check_108 : decode cX9_check 108 = .ok (.getfield 36, 3) := dk_180 0 36 (dk_at dksX9_check_4 14 rfl rfl)
theorem dX9_check_111 : decode cX9_check 111 = .ok (.bipush 8, 2) := dk_16 8 (dk_at dksX9_check_4 17 rfl rfl)
theorem dX9_check_113 : decode cX9_check 113 = .ok (.iload_n 1, 1) := dk_27 (dk_at dksX9_check_4 19 rfl rfl)
theorem dX9_check_114 : decode cX9_check 114 = .ok (.imul, 1) := dk_104 (dk_at dksX9_check_4 20 rfl rfl)
theorem dX9_check_115 : decode cX9_check 115 = .ok (.iconst 2, 1) := dk_5 (dk_at dksX9_check_4 21 rfl rfl)
theorem dX9_check_116 : decode cX9_check 116 = .ok (.iadd, 1) := dk_96 (dk_at dksX9_check_4 22 rfl rfl)
theorem dX9_check_117 : decode cX9_check 117 = .ok (.iaload, 1) := dk_46 (dk_at dksX9_check_4 23 rfl rfl)
theorem dX9_check_118 : decode cX9_check 118 = .ok (.if_icmp .ne 7, 3) := dk_160 0 7 (dk_at dksX9_check_5 0 rfl rfl)
theorem dX9_check_121 : decode cX9_check 121 = .ok (.iconst 1, 1) := dk_4 (dk_at dksX9_check_5 3 rfl rfl)
theorem dX9_check_122 : decode cX9_check 122 = .ok (.goto 4, 3) := dk_167 0 4 (dk_at dksX9_check_5 4 rfl rfl)
theorem dX9_check_125 : decode cX9_check 125 = .ok (.iconst 0, 1) := dk_3 (dk_at dksX9_check_5 7 rfl rfl)
theorem dX9_check_126 : decode cX9_check 126 = .ok (.istore 5, 2) := dk_54 5 (dk_at dksX9_check_5 8 rfl rfl)
theorem dX9_check_128 : decode cX9_check 128 = .ok (.iload 5, 2) := dk_21 5 (dk_at dksX9_check_5 10 rfl rfl)
theorem dX9_check_130 : decode cX9_check 130 = .ok (.ifCond .eq 31, 3) := dk_153 0 31 (dk_at dksX9_check_5 12 rfl rfl)
theorem dX9_check_133 : decode cX9_check 133 = .ok (.aload_n 0, 1) := dk_42 (dk_at dksX9_check_5 15 rfl rfl)
theorem dX9_check_134 : decode cX9_check 134 = .ok (.iload_n 1, 1) := dk_27 (dk_at dksX9_check_5 16 rfl rfl)
theorem dX9_check_135 : decode cX9_check 135 = .ok (.aload_n 0, 1) := dk_42 (dk_at dksX9_check_5 17 rfl rfl)
theorem dX9_check_136 : decode cX9_check 136 = .ok (.getfield 49, 3) := dk_180 0 49 (dk_at dksX9_check_5 18 rfl rfl)
theorem dX9_check_139 : decode cX9_check 139 = .ok (.bipush 28, 2) := dk_16 28 (dk_at dksX9_check_5 21 rfl rfl)
theorem dX9_check_141 : decode cX9_check 141 = .ok (.iload_n 2, 1) := dk_28 (dk_at dksX9_check_5 23 rfl rfl)
theorem dX9_check_142 : decode cX9_check 142 = .ok (.imul, 1) := dk_104 (dk_at dksX9_check_6 0 rfl rfl)
theorem dX9_check_143 : decode cX9_check 143 = .ok (.aload_n 0, 1) := dk_42 (dk_at dksX9_check_6 1 rfl rfl)
theorem dX9_check_144 : decode cX9_check 144 = .ok (.getfield 49, 3) := dk_180 0 49 (dk_at dksX9_check_6 2 rfl rfl)
theorem dX9_check_147 : decode cX9_check 147 = .ok (.bipush 28, 2) := dk_16 28 (dk_at dksX9_check_6 5 rfl rfl)
theorem dX9_check_149 : decode cX9_check 149 = .ok (.iload_n 3, 1) := dk_29 (dk_at dksX9_check_6 7 rfl rfl)
theorem dX9_check_150 : decode cX9_check 150 = .ok (.imul, 1) := dk_104 (dk_at dksX9_check_6 8 rfl rfl)
theorem dX9_check_151 : decode cX9_check 151 = .ok (.invokevirtual 325, 3) := dk_182 1 69 (dk_at dksX9_check_6 9 rfl rfl)
theorem dX9_check_154 : decode cX9_check 154 = .ok (.ifCond .eq 7, 3) := dk_153 0 7 (dk_at dksX9_check_6 12 rfl rfl)
theorem dX9_check_157 : decode cX9_check 157 = .ok (.iconst 1, 1) := dk_4 (dk_at dksX9_check_6 15 rfl rfl)
theorem dX9_check_158 : decode cX9_check 158 = .ok (.goto 4, 3) := dk_167 0 4 (dk_at dksX9_check_6 16 rfl rfl)
theorem dX9_check_161 : decode cX9_check 161 = .ok (.iconst 0, 1) := dk_3 (dk_at dksX9_check_6 19 rfl rfl)
theorem dX9_check_162 : decode cX9_check 162 = .ok (.ireturn, 1) := dk_172 (dk_at dksX9_check_6 20 rfl rfl)
theorem dX9_check_163 : decode cX9_check 163 = .ok (.aload_n 0, 1) := dk_42 (dk_at dksX9_check_6 21 rfl rfl)
theorem dX9_check_164 : decode cX9_check 164 = .ok (.getfield 49, 3) := dk_180 0 49 (dk_at dksX9_check_7 0 rfl rfl)
theorem dX9_check_167 : decode cX9_check 167 = .ok (.bipush 28, 2) := dk_16 28 (dk_at dksX9_check_7 3 rfl rfl)
theorem dX9_check_169 : decode cX9_check 169 = .ok (.iload_n 2, 1) := dk_28 (dk_at dksX9_check_7 5 rfl rfl)
theorem dX9_check_170 : decode cX9_check 170 = .ok (.imul, 1) := dk_104 (dk_at dksX9_check_7 6 rfl rfl)
theorem dX9_check_171 : decode cX9_check 171 = .ok (.iaload, 1) := dk_46 (dk_at dksX9_check_7 7 rfl rfl)
theorem dX9_check_172 : decode cX9_check 172 = .ok (.aload_n 0, 1) := dk_42 (dk_at dksX9_check_7 8 rfl rfl)
theorem dX9_check_173 : decode cX9_check 173 = .ok (.getfield 36, 3) := dk_180 0 36 (dk_at dksX9_check_7 9 rfl rfl)
theorem dX9_check_176 : decode cX9_check 176 = .ok (.bipush 8, 2) := dk_16 8 (dk_at dksX9_check_7 12 rfl rfl)
theorem dX9_check_178 : decode cX9_check 178 = .ok (.iload_n 1, 1) := dk_27 (dk_at dksX9_check_7 14 rfl rfl)
theorem dX9_check_179 : decode cX9_check 179 = .ok (.imul, 1) := dk_104 (dk_at dksX9_check_7 15 rfl rfl)
theorem dX9_check_180 : decode cX9_check 180 = .ok (.iconst 2, 1) := dk_5 (dk_at dksX9_check_7 16 rfl rfl)
theorem dX9_check_181 : decode cX9_check 181 = .ok (.iadd, 1) := dk_96 (dk_at dksX9_check_7 17 rfl rfl)
theorem dX9_check_182 : decode cX9_check 182 = .ok (.iaload, 1) := dk_46 (dk_at dksX9_check_7 18 rfl rfl)
theorem dX9_check_183 : decode cX9_check 183 = .ok (.if_icmp .eq 5, 3) := dk_159 0 5 (dk_at dksX9_check_7 19 rfl rfl)
theorem dX9_check_186 : decode cX9_check 186 = .ok (.iconst 0, 1) := dk_3 (dk_at dksX9_check_7 22 rfl rfl)
theorem dX9_check_187 : decode cX9_check 187 = .ok (.ireturn, 1) := dk_172 (dk_at dksX9_check_7 23 rfl rfl)
theorem dX9_check_188 : decode cX9_check 188 = .ok (.iload 4, 2) := dk_21 4 (dk_at dksX9_check_8 0 rfl rfl)
theorem dX9_check_190 : decode cX9_check 190 = .ok (.iconst 1, 1) := dk_4 (dk_at dksX9_check_8 2 rfl rfl)
theorem dX9_check_191 : decode cX9_check 191 = .ok (.if_icmp .eq 9, 3) := dk_159 0 9 (dk_at dksX9_check_8 3 rfl rfl)
theorem dX9_check_194 : decode cX9_check 194 = .ok (.iload 4, 2) := dk_21 4 (dk_at dksX9_check_8 6 rfl rfl)
theorem dX9_check_196 : decode cX9_check 196 = .ok (.iconst 5, 1) := dk_8 (dk_at dksX9_check_8 8 rfl rfl)
theorem dX9_check_197 : decode cX9_check 197 = .ok (.if_icmp .ne 19, 3) := dk_160 0 19 (dk_at dksX9_check_8 9 rfl rfl)
theorem dX9_check_200 : decode cX9_check 200 = .ok (.aload_n 0, 1) := dk_42 (dk_at dksX9_check_8 12 rfl rfl)
theorem dX9_check_201 : decode cX9_check 201 = .ok (.iload_n 1, 1) := dk_27 (dk_at dksX9_check_8 13 rfl rfl)
theorem dX9_check_202 : decode cX9_check 202 = .ok (.aload_n 0, 1) := dk_42 (dk_at dksX9_check_8 14 rfl rfl)
theorem dX9_check_203 : decode cX9_check 203 = .ok (.getfield 49, 3) := dk_180 0 49 (dk_at dksX9_check_8 15 rfl rfl)
theorem dX9_check_206 : decode cX9_check 206 = .ok (.bipush 28, 2) := dk_16 28 (dk_at dksX9_check_8 18 rfl rfl)
theorem dX9_check_208 : decode cX9_check 208 = .ok (.iload_n 2, 1) := dk_28 (dk_at dksX9_check_8 20 rfl rfl)
theorem dX9_check_209 : decode cX9_check 209 = .ok (.imul, 1) := dk_104 (dk_at dksX9_check_8 21 rfl rfl)
theorem dX9_check_210 : decode cX9_check 210 = .ok (.invokevirtual 329, 3) := dk_182 1 73 (dk_at dksX9_check_9 0 rfl rfl)
theorem dX9_check_213 : decode cX9_check 213 = .ok (.goto 16, 3) := dk_167 0 16 (dk_at dksX9_check_9 3 rfl rfl)
theorem dX9_check_216 : decode cX9_check 216 = .ok (.aload_n 0, 1) := dk_42 (dk_at dksX9_check_9 6 rfl rfl)
theorem dX9_check_217 : decode cX9_check 217 = .ok (.iload_n 1, 1) := dk_27 (dk_at dksX9_check_9 7 rfl rfl)
theorem dX9_check_218 : decode cX9_check 218 = .ok (.aload_n 0, 1) := dk_42 (dk_at dksX9_check_9 8 rfl rfl)
theorem dX9_check_219 : decode cX9_check 219 = .ok (.getfield 49, 3) := dk_180 0 49 (dk_at dksX9_check_9 9 rfl rfl)
theorem dX9_check_222 : decode cX9_check 222 = .ok (.bipush 28, 2) := dk_16 28 (dk_at dksX9_check_9 12 rfl rfl)
theorem dX9_check_224 : decode cX9_check 224 = .ok (.iload_n 2, 1) := dk_28 (dk_at dksX9_check_9 14 rfl rfl)
theorem dX9_check_225 : decode cX9_check 225 = .ok (.imul, 1) := dk_104 (dk_at dksX9_check_9 15 rfl rfl)
theorem dX9_check_226 : decode cX9_check 226 = .ok (.invokevirtual 333, 3) := dk_182 1 77 (dk_at dksX9_check_9 16 rfl rfl)
theorem dX9_check_229 : decode cX9_check 229 = .ok (.istore 5, 2) := dk_54 5 (dk_at dksX9_check_9 19 rfl rfl)
theorem dX9_check_231 : decode cX9_check 231 = .ok (.iload 5, 2) := dk_21 5 (dk_at dksX9_check_9 21 rfl rfl)
theorem dX9_check_233 : decode cX9_check 233 = .ok (.ifCond .eq 7, 3) := dk_153 0 7 (dk_at dksX9_check_10 0 rfl rfl)
theorem dX9_check_236 : decode cX9_check 236 = .ok (.iconst 1, 1) := dk_4 (dk_at dksX9_check_10 3 rfl rfl)
theorem dX9_check_237 : decode cX9_check 237 = .ok (.goto 4, 3) := dk_167 0 4 (dk_at dksX9_check_10 4 rfl rfl)
theorem dX9_check_240 : decode cX9_check 240 = .ok (.iconst 0, 1) := dk_3 (dk_at dksX9_check_10 7 rfl rfl)
theorem dX9_check_241 : decode cX9_check 241 = .ok (.ireturn, 1) := dk_172 (dk_at dksX9_check_10 8 rfl rfl)
abbrev cX9_isReader : ByteArray := prog_17_method_58_code
def yX9_isReader : MethodName := ⟨RX9, "isReader", "(I)Z"⟩
def dkwX9_isReader_0 : List UInt8 := [27, 155, 0, 13, 27, 16, 12, 162, 0, 7, 4, 167, 0, 4, 3, 172]
abbrev dktX9_isReader_0 : List UInt8 := dkwX9_isReader_0 ++ []
theorem dksX9_isReader_0 : cX9_isReader.data.toList.drop 0 = dktX9_isReader_0 := by decide +kernel
theorem dX9_isReader_0 : decode cX9_isReader 0 = .ok (.iload_n 1, 1) := dk_27 (dk_at dksX9_isReader_0 0 rfl rfl)
theorem dX9_isReader_1 : decode cX9_isReader 1 = .ok (.ifCond .lt 13, 3) := dk_155 0 13 (dk_at dksX9_isReader_0 1 rfl rfl)
theorem dX9_isReader_4 : decode cX9_isReader 4 = .ok (.iload_n 1, 1) := dk_27 (dk_at dksX9_isReader_0 4 rfl rfl)
theorem dX9_isReader_5 : decode cX9_isReader 5 = .ok (.bipush 12, 2) := dk_16 12 (dk_at dksX9_isReader_0 5 rfl rfl)
theorem dX9_isReader_7 : decode cX9_isReader 7 = .ok (.if_icmp .ge 7, 3) := dk_162 0 7 (dk_at dksX9_isReader_0 7 rfl rfl)
theorem dX9_isReader_10 : decode cX9_isReader 10 = .ok (.iconst 1, 1) := dk_4 (dk_at dksX9_isReader_0 10 rfl rfl)
theorem dX9_isReader_11 : decode cX9_isReader 11 = .ok (.goto 4, 3) := dk_167 0 4 (dk_at dksX9_isReader_0 11 rfl rfl)
theorem dX9_isReader_14 : decode cX9_isReader 14 = .ok (.iconst 0, 1) := dk_3 (dk_at dksX9_isReader_0 14 rfl rfl)
theorem dX9_isReader_15 : decode cX9_isReader 15 = .ok (.ireturn, 1) := dk_172 (dk_at dksX9_isReader_0 15 rfl rfl)
abbrev cX9_isGrownRight : ByteArray := prog_17_method_56_code
def yX9_isGrownRight : MethodName := ⟨RX9, "isGrownRight", "(I[II[II)Z"⟩
def dkwX9_isGrownRight_4 : List UInt8 := [184, 1, 62, 172]
abbrev dktX9_isGrownRight_4 : List UInt8 := dkwX9_isGrownRight_4 ++ []
def dkwX9_isGrownRight_3 : List UInt8 := [182, 1, 59, 42, 42, 180, 0, 178, 3, 182, 1, 2, 42, 180, 0, 178, 3, 25, 4, 21, 5, 7, 96]
abbrev dktX9_isGrownRight_3 : List UInt8 := dkwX9_isGrownRight_3 ++ dktX9_isGrownRight_4
def dkwX9_isGrownRight_2 : List UInt8 := [96, 184, 1, 62, 154, 0, 5, 3, 172, 42, 27, 21, 6, 42, 180, 0, 36, 16, 8, 27, 104, 5, 96, 46]
abbrev dktX9_isGrownRight_2 : List UInt8 := dkwX9_isGrownRight_2 ++ dktX9_isGrownRight_3
def dkwX9_isGrownRight_1 : List UInt8 := [27, 3, 21, 6, 182, 1, 59, 42, 42, 180, 0, 178, 3, 182, 1, 2, 42, 180, 0, 178, 3, 44, 29, 7]
abbrev dktX9_isGrownRight_1 : List UInt8 := dkwX9_isGrownRight_1 ++ dktX9_isGrownRight_2
def dkwX9_isGrownRight_0 : List UInt8 := [42, 180, 0, 36, 16, 8, 27, 104, 6, 96, 46, 54, 6, 42, 3, 181, 0, 208, 42, 3, 181, 1, 56, 42]
abbrev dktX9_isGrownRight_0 : List UInt8 := dkwX9_isGrownRight_0 ++ dktX9_isGrownRight_1
theorem dksX9_isGrownRight_0 : cX9_isGrownRight.data.toList.drop 0 = dktX9_isGrownRight_0 := by decide +kernel
theorem dksX9_isGrownRight_1 : cX9_isGrownRight.data.toList.drop 24 = dktX9_isGrownRight_1 := dk_seg dksX9_isGrownRight_0 24 rfl rfl
theorem dksX9_isGrownRight_2 : cX9_isGrownRight.data.toList.drop 48 = dktX9_isGrownRight_2 := dk_seg dksX9_isGrownRight_1 24 rfl rfl
theorem dksX9_isGrownRight_3 : cX9_isGrownRight.data.toList.drop 72 = dktX9_isGrownRight_3 := dk_seg dksX9_isGrownRight_2 24 rfl rfl
theorem dksX9_isGrownRight_4 : cX9_isGrownRight.data.toList.drop 95 = dktX9_isGrownRight_4 := dk_seg dksX9_isGrownRight_3 23 rfl rfl
theorem dX9_isGrownRight_0 : decode cX9_isGrownRight 0 = .ok (.aload_n 0, 1) := dk_42 (dk_at dksX9_isGrownRight_0 0 rfl rfl)
theorem dX9_isGrownRight_1 : decode cX9_isGrownRight 1 = .ok (.getfield 36, 3) := dk_180 0 36 (dk_at dksX9_isGrownRight_0 1 rfl rfl)
theorem dX9_isGrownRight_4 : decode cX9_isGrownRight 4 = .ok (.bipush 8, 2) := dk_16 8 (dk_at dksX9_isGrownRight_0 4 rfl rfl)
theorem dX9_isGrownRight_6 : decode cX9_isGrownRight 6 = .ok (.iload_n 1, 1) := dk_27 (dk_at dksX9_isGrownRight_0 6 rfl rfl)
theorem dX9_isGrownRight_7 : decode cX9_isGrownRight 7 = .ok (.imul, 1) := dk_104 (dk_at dksX9_isGrownRight_0 7 rfl rfl)
theorem dX9_isGrownRight_8 : decode cX9_isGrownRight 8 = .ok (.iconst 3, 1) := dk_6 (dk_at dksX9_isGrownRight_0 8 rfl rfl)
theorem dX9_isGrownRight_9 : decode cX9_isGrownRight 9 = .ok (.iadd, 1) := dk_96 (dk_at dksX9_isGrownRight_0 9 rfl rfl)
theorem dX9_isGrownRight_10 : decode cX9_isGrownRight 10 = .ok (.iaload, 1) := dk_46 (dk_at dksX9_isGrownRight_0 10 rfl rfl)
theorem dX9_isGrownRight_11 : decode cX9_isGrownRight 11 = .ok (.istore 6, 2) := dk_54 6 (dk_at dksX9_isGrownRight_0 11 rfl rfl)
theorem dX9_isGrownRight_13 : decode cX9_isGrownRight 13 = .ok (.aload_n 0, 1) := dk_42 (dk_at dksX9_isGrownRight_0 13 rfl rfl)
theorem dX9_isGrownRight_14 : decode cX9_isGrownRight 14 = .ok (.iconst 0, 1) := dk_3 (dk_at dksX9_isGrownRight_0 14 rfl rfl)
theorem dX9_isGrownRight_15 : decode cX9_isGrownRight 15 = .ok (.putfield 208, 3) := dk_181 0 208 (dk_at dksX9_isGrownRight_0 15 rfl rfl)
theorem dX9_isGrownRight_18 : decode cX9_isGrownRight 18 = .ok (.aload_n 0, 1) := dk_42 (dk_at dksX9_isGrownRight_0 18 rfl rfl)
theorem dX9_isGrownRight_19 : decode cX9_isGrownRight 19 = .ok (.iconst 0, 1) := dk_3 (dk_at dksX9_isGrownRight_0 19 rfl rfl)
theorem dX9_isGrownRight_20 : decode cX9_isGrownRight 20 = .ok (.putfield 312, 3) := dk_181 1 56 (dk_at dksX9_isGrownRight_0 20 rfl rfl)
theorem dX9_isGrownRight_23 : decode cX9_isGrownRight 23 = .ok (.aload_n 0, 1) := dk_42 (dk_at dksX9_isGrownRight_0 23 rfl rfl)
theorem dX9_isGrownRight_24 : decode cX9_isGrownRight 24 = .ok (.iload_n 1, 1) := dk_27 (dk_at dksX9_isGrownRight_1 0 rfl rfl)
theorem dX9_isGrownRight_25 : decode cX9_isGrownRight 25 = .ok (.iconst 0, 1) := dk_3 (dk_at dksX9_isGrownRight_1 1 rfl rfl)
theorem dX9_isGrownRight_26 : decode cX9_isGrownRight 26 = .ok (.iload 6, 2) := dk_21 6 (dk_at dksX9_isGrownRight_1 2 rfl rfl)
theorem dX9_isGrownRight_28 : decode cX9_isGrownRight 28 = .ok (.invokevirtual 315, 3) := dk_182 1 59 (dk_at dksX9_isGrownRight_1 4 rfl rfl)
theorem dX9_isGrownRight_31 : decode cX9_isGrownRight 31 = .ok (.aload_n 0, 1) := dk_42 (dk_at dksX9_isGrownRight_1 7 rfl rfl)
theorem dX9_isGrownRight_32 : decode cX9_isGrownRight 32 = .ok (.aload_n 0, 1) := dk_42 (dk_at dksX9_isGrownRight_1 8 rfl rfl)
theorem dX9_isGrownRight_33 : decode cX9_isGrownRight 33 = .ok (.getfield 178, 3) := dk_180 0 178 (dk_at dksX9_isGrownRight_1 9 rfl rfl)
theorem dX9_isGrownRight_36 : decode cX9_isGrownRight 36 = .ok (.iconst 0, 1) := dk_3 (dk_at dksX9_isGrownRight_1 12 rfl rfl)
theorem dX9_isGrownRight_37 : decode cX9_isGrownRight 37 = .ok (.invokevirtual 258, 3) := dk_182 1 2 (dk_at dksX9_isGrownRight_1 13 rfl rfl)
theorem dX9_isGrownRight_40 : decode cX9_isGrownRight 40 = .ok (.aload_n 0, 1) := dk_42 (dk_at dksX9_isGrownRight_1 16 rfl rfl)
theorem dX9_isGrownRight_41 : decode cX9_isGrownRight 41 = .ok (.getfield 178, 3) := dk_180 0 178 (dk_at dksX9_isGrownRight_1 17 rfl rfl)
theorem dX9_isGrownRight_44 : decode cX9_isGrownRight 44 = .ok (.iconst 0, 1) := dk_3 (dk_at dksX9_isGrownRight_1 20 rfl rfl)
theorem dX9_isGrownRight_45 : decode cX9_isGrownRight 45 = .ok (.aload_n 2, 1) := dk_44 (dk_at dksX9_isGrownRight_1 21 rfl rfl)
theorem dX9_isGrownRight_46 : decode cX9_isGrownRight 46 = .ok (.iload_n 3, 1) := dk_29 (dk_at dksX9_isGrownRight_1 22 rfl rfl)
theorem dX9_isGrownRight_47 : decode cX9_isGrownRight 47 = .ok (.iconst 4, 1) := dk_7 (dk_at dksX9_isGrownRight_1 23 rfl rfl)
theorem dX9_isGrownRight_48 : decode cX9_isGrownRight 48 = .ok (.iadd, 1) := dk_96 (dk_at dksX9_isGrownRight_2 0 rfl rfl)
theorem dX9_isGrownRight_49 : decode cX9_isGrownRight 49 = .ok (.invokestatic 318, 3) := dk_184 1 62 (dk_at dksX9_isGrownRight_2 1 rfl rfl)
theorem dX9_isGrownRight_52 : decode cX9_isGrownRight 52 = .ok (.ifCond .ne 5, 3) := dk_154 0 5 (dk_at dksX9_isGrownRight_2 4 rfl rfl)
theorem dX9_isGrownRight_55 : decode cX9_isGrownRight 55 = .ok (.iconst 0, 1) := dk_3 (dk_at dksX9_isGrownRight_2 7 rfl rfl)
theorem dX9_isGrownRight_56 : decode cX9_isGrownRight 56 = .ok (.ireturn, 1) := dk_172 (dk_at dksX9_isGrownRight_2 8 rfl rfl)
theorem dX9_isGrownRight_57 : decode cX9_isGrownRight 57 = .ok (.aload_n 0, 1) := dk_42 (dk_at dksX9_isGrownRight_2 9 rfl rfl)
theorem dX9_isGrownRight_58 : decode cX9_isGrownRight 58 = .ok (.iload_n 1, 1) := dk_27 (dk_at dksX9_isGrownRight_2 10 rfl rfl)
theorem dX9_isGrownRight_59 : decode cX9_isGrownRight 59 = .ok (.iload 6, 2) := dk_21 6 (dk_at dksX9_isGrownRight_2 11 rfl rfl)
theorem dX9_isGrownRight_61 : decode cX9_isGrownRight 61 = .ok (.aload_n 0, 1) := dk_42 (dk_at dksX9_isGrownRight_2 13 rfl rfl)
theorem dX9_isGrownRight_62 : decode cX9_isGrownRight 62 = .ok (.getfield 36, 3) := dk_180 0 36 (dk_at dksX9_isGrownRight_2 14 rfl rfl)
theorem dX9_isGrownRight_65 : decode cX9_isGrownRight 65 = .ok (.bipush 8, 2) := dk_16 8 (dk_at dksX9_isGrownRight_2 17 rfl rfl)
theorem dX9_isGrownRight_67 : decode cX9_isGrownRight 67 = .ok (.iload_n 1, 1) := dk_27 (dk_at dksX9_isGrownRight_2 19 rfl rfl)
theorem dX9_isGrownRight_68 : decode cX9_isGrownRight 68 = .ok (.imul, 1) := dk_104 (dk_at dksX9_isGrownRight_2 20 rfl rfl)
theorem dX9_isGrownRight_69 : decode cX9_isGrownRight 69 = .ok (.iconst 2, 1) := dk_5 (dk_at dksX9_isGrownRight_2 21 rfl rfl)
theorem dX9_isGrownRight_70 : decode cX9_isGrownRight 70 = .ok (.iadd, 1) := dk_96 (dk_at dksX9_isGrownRight_2 22 rfl rfl)
theorem dX9_isGrownRight_71 : decode cX9_isGrownRight 71 = .ok (.iaload, 1) := dk_46 (dk_at dksX9_isGrownRight_2 23 rfl rfl)
theorem dX9_isGrownRight_72 : decode cX9_isGrownRight 72 = .ok (.invokevirtual 315, 3) := dk_182 1 59 (dk_at dksX9_isGrownRight_3 0 rfl rfl)
theorem dX9_isGrownRight_75 : decode cX9_isGrownRight 75 = .ok (.aload_n 0, 1) := dk_42 (dk_at dksX9_isGrownRight_3 3 rfl rfl)
theorem dX9_isGrownRight_76 : decode cX9_isGrownRight 76 = .ok (.aload_n 0, 1) := dk_42 (dk_at dksX9_isGrownRight_3 4 rfl rfl)
theorem dX9_isGrownRight_77 : decode cX9_isGrownRight 77 = .ok (.getfield 178, 3) := dk_180 0 178 (dk_at dksX9_isGrownRight_3 5 rfl rfl)
theorem dX9_isGrownRight_80 : decode cX9_isGrownRight 80 = .ok (.iconst 0, 1) := dk_3 (dk_at dksX9_isGrownRight_3 8 rfl rfl)
theorem dX9_isGrownRight_81 : decode cX9_isGrownRight 81 = .ok (.invokevirtual 258, 3) := dk_182 1 2 (dk_at dksX9_isGrownRight_3 9 rfl rfl)
theorem dX9_isGrownRight_84 : decode cX9_isGrownRight 84 = .ok (.aload_n 0, 1) := dk_42 (dk_at dksX9_isGrownRight_3 12 rfl rfl)
theorem dX9_isGrownRight_85 : decode cX9_isGrownRight 85 = .ok (.getfield 178, 3) := dk_180 0 178 (dk_at dksX9_isGrownRight_3 13 rfl rfl)
theorem dX9_isGrownRight_88 : decode cX9_isGrownRight 88 = .ok (.iconst 0, 1) := dk_3 (dk_at dksX9_isGrownRight_3 16 rfl rfl)
theorem dX9_isGrownRight_89 : decode cX9_isGrownRight 89 = .ok (.aload 4, 2) := dk_25 4 (dk_at dksX9_isGrownRight_3 17 rfl rfl)
theorem dX9_isGrownRight_91 : decode cX9_isGrownRight 91 = .ok (.iload 5, 2) := dk_21 5 (dk_at dksX9_isGrownRight_3 19 rfl rfl)
theorem dX9_isGrownRight_93 : decode cX9_isGrownRight 93 = .ok (.iconst 4, 1) := dk_7 (dk_at dksX9_isGrownRight_3 21 rfl rfl)
theorem dX9_isGrownRight_94 : decode cX9_isGrownRight 94 = .ok (.iadd, 1) := dk_96 (dk_at dksX9_isGrownRight_3 22 rfl rfl)
theorem dX9_isGrownRight_95 : decode cX9_isGrownRight 95 = .ok (.invokestatic 318, 3) := dk_184 1 62 (dk_at dksX9_isGrownRight_4 0 rfl rfl)
theorem dX9_isGrownRight_98 : decode cX9_isGrownRight 98 = .ok (.ireturn, 1) := dk_172 (dk_at dksX9_isGrownRight_4 3 rfl rfl)
abbrev cX9_laySteps : ByteArray := prog_17_method_53_code
def yX9_laySteps : MethodName := ⟨RX9, "laySteps", "(III)V"⟩
def dkwX9_laySteps_2 : List UInt8 := [4, 96, 181, 1, 56, 21, 4, 21, 5, 96, 54, 4, 167, 255, 200, 177]
abbrev dktX9_laySteps_2 : List UInt8 := dkwX9_laySteps_2 ++ []
def dkwX9_laySteps_1 : List UInt8 := [180, 0, 46, 16, 8, 17, 1, 0, 27, 104, 42, 180, 1, 56, 96, 104, 182, 0, 216, 42, 89, 180, 1, 56]
abbrev dktX9_laySteps_1 : List UInt8 := dkwX9_laySteps_1 ++ dktX9_laySteps_2
def dkwX9_laySteps_0 : List UInt8 := [28, 54, 4, 21, 4, 29, 162, 0, 56, 21, 4, 29, 184, 0, 212, 54, 5, 42, 21, 4, 21, 5, 42]
abbrev dktX9_laySteps_0 : List UInt8 := dkwX9_laySteps_0 ++ dktX9_laySteps_1
theorem dksX9_laySteps_0 : cX9_laySteps.data.toList.drop 0 = dktX9_laySteps_0 := by decide +kernel
theorem dksX9_laySteps_1 : cX9_laySteps.data.toList.drop 23 = dktX9_laySteps_1 := dk_seg dksX9_laySteps_0 23 rfl rfl
theorem dksX9_laySteps_2 : cX9_laySteps.data.toList.drop 47 = dktX9_laySteps_2 := dk_seg dksX9_laySteps_1 24 rfl rfl
theorem dX9_laySteps_0 : decode cX9_laySteps 0 = .ok (.iload_n 2, 1) := dk_28 (dk_at dksX9_laySteps_0 0 rfl rfl)
theorem dX9_laySteps_1 : decode cX9_laySteps 1 = .ok (.istore 4, 2) := dk_54 4 (dk_at dksX9_laySteps_0 1 rfl rfl)
theorem dX9_laySteps_3 : decode cX9_laySteps 3 = .ok (.iload 4, 2) := dk_21 4 (dk_at dksX9_laySteps_0 3 rfl rfl)
theorem dX9_laySteps_5 : decode cX9_laySteps 5 = .ok (.iload_n 3, 1) := dk_29 (dk_at dksX9_laySteps_0 5 rfl rfl)
theorem dX9_laySteps_6 : decode cX9_laySteps 6 = .ok (.if_icmp .ge 56, 3) := dk_162 0 56 (dk_at dksX9_laySteps_0 6 rfl rfl)
theorem dX9_laySteps_9 : decode cX9_laySteps 9 = .ok (.iload 4, 2) := dk_21 4 (dk_at dksX9_laySteps_0 9 rfl rfl)
theorem dX9_laySteps_11 : decode cX9_laySteps 11 = .ok (.iload_n 3, 1) := dk_29 (dk_at dksX9_laySteps_0 11 rfl rfl)
theorem dX9_laySteps_12 : decode cX9_laySteps 12 = .ok (.invokestatic 212, 3) := dk_184 0 212 (dk_at dksX9_laySteps_0 12 rfl rfl)
theorem dX9_laySteps_15 : decode cX9_laySteps 15 = .ok (.istore 5, 2) := dk_54 5 (dk_at dksX9_laySteps_0 15 rfl rfl)
theorem dX9_laySteps_17 : decode cX9_laySteps 17 = .ok (.aload_n 0, 1) := dk_42 (dk_at dksX9_laySteps_0 17 rfl rfl)
theorem dX9_laySteps_18 : decode cX9_laySteps 18 = .ok (.iload 4, 2) := dk_21 4 (dk_at dksX9_laySteps_0 18 rfl rfl)
theorem dX9_laySteps_20 : decode cX9_laySteps 20 = .ok (.iload 5, 2) := dk_21 5 (dk_at dksX9_laySteps_0 20 rfl rfl)
theorem dX9_laySteps_22 : decode cX9_laySteps 22 = .ok (.aload_n 0, 1) := dk_42 (dk_at dksX9_laySteps_0 22 rfl rfl)
theorem dX9_laySteps_23 : decode cX9_laySteps 23 = .ok (.getfield 46, 3) := dk_180 0 46 (dk_at dksX9_laySteps_1 0 rfl rfl)
theorem dX9_laySteps_26 : decode cX9_laySteps 26 = .ok (.bipush 8, 2) := dk_16 8 (dk_at dksX9_laySteps_1 3 rfl rfl)
theorem dX9_laySteps_28 : decode cX9_laySteps 28 = .ok (.sipush 256, 3) := dk_17 1 0 (dk_at dksX9_laySteps_1 5 rfl rfl)
theorem dX9_laySteps_31 : decode cX9_laySteps 31 = .ok (.iload_n 1, 1) := dk_27 (dk_at dksX9_laySteps_1 8 rfl rfl)
theorem dX9_laySteps_32 : decode cX9_laySteps 32 = .ok (.imul, 1) := dk_104 (dk_at dksX9_laySteps_1 9 rfl rfl)
theorem dX9_laySteps_33 : decode cX9_laySteps 33 = .ok (.aload_n 0, 1) := dk_42 (dk_at dksX9_laySteps_1 10 rfl rfl)
theorem dX9_laySteps_34 : decode cX9_laySteps 34 = .ok (.getfield 312, 3) := dk_180 1 56 (dk_at dksX9_laySteps_1 11 rfl rfl)
theorem dX9_laySteps_37 : decode cX9_laySteps 37 = .ok (.iadd, 1) := dk_96 (dk_at dksX9_laySteps_1 14 rfl rfl)
theorem dX9_laySteps_38 : decode cX9_laySteps 38 = .ok (.imul, 1) := dk_104 (dk_at dksX9_laySteps_1 15 rfl rfl)
theorem dX9_laySteps_39 : decode cX9_laySteps 39 = .ok (.invokevirtual 216, 3) := dk_182 0 216 (dk_at dksX9_laySteps_1 16 rfl rfl)
theorem dX9_laySteps_42 : decode cX9_laySteps 42 = .ok (.aload_n 0, 1) := dk_42 (dk_at dksX9_laySteps_1 19 rfl rfl)
theorem dX9_laySteps_43 : decode cX9_laySteps 43 = .ok (.dup, 1) := dk_89 (dk_at dksX9_laySteps_1 20 rfl rfl)
theorem dX9_laySteps_44 : decode cX9_laySteps 44 = .ok (.getfield 312, 3) := dk_180 1 56 (dk_at dksX9_laySteps_1 21 rfl rfl)
theorem dX9_laySteps_47 : decode cX9_laySteps 47 = .ok (.iconst 1, 1) := dk_4 (dk_at dksX9_laySteps_2 0 rfl rfl)
theorem dX9_laySteps_48 : decode cX9_laySteps 48 = .ok (.iadd, 1) := dk_96 (dk_at dksX9_laySteps_2 1 rfl rfl)
theorem dX9_laySteps_49 : decode cX9_laySteps 49 = .ok (.putfield 312, 3) := dk_181 1 56 (dk_at dksX9_laySteps_2 2 rfl rfl)
theorem dX9_laySteps_52 : decode cX9_laySteps 52 = .ok (.iload 4, 2) := dk_21 4 (dk_at dksX9_laySteps_2 5 rfl rfl)
theorem dX9_laySteps_54 : decode cX9_laySteps 54 = .ok (.iload 5, 2) := dk_21 5 (dk_at dksX9_laySteps_2 7 rfl rfl)
theorem dX9_laySteps_56 : decode cX9_laySteps 56 = .ok (.iadd, 1) := dk_96 (dk_at dksX9_laySteps_2 9 rfl rfl)
theorem dX9_laySteps_57 : decode cX9_laySteps 57 = .ok (.istore 4, 2) := dk_54 4 (dk_at dksX9_laySteps_2 10 rfl rfl)
theorem dX9_laySteps_59 : decode cX9_laySteps 59 = .ok (.goto (-56), 3) := dk_167 255 200 (dk_at dksX9_laySteps_2 12 rfl rfl)
theorem dX9_laySteps_62 : decode cX9_laySteps 62 = .ok (.return_, 1) := dk_177 (dk_at dksX9_laySteps_2 15 rfl rfl)
abbrev cX9_areLike : ByteArray := prog_17_method_54_code
def yX9_areLike : MethodName := ⟨RX9, "areLike", "([II[II)Z"⟩
def dkwX9_areLike_2 : List UInt8 := [172]
abbrev dktX9_areLike_2 : List UInt8 := dkwX9_areLike_2 ++ []
def dkwX9_areLike_1 : List UInt8 := [44, 29, 21, 5, 96, 46, 160, 0, 7, 4, 167, 0, 4, 3, 54, 4, 132, 5, 1, 167, 255, 219, 21, 4]
abbrev dktX9_areLike_1 : List UInt8 := dkwX9_areLike_1 ++ dktX9_areLike_2
def dkwX9_areLike_0 : List UInt8 := [4, 54, 4, 3, 54, 5, 21, 5, 16, 8, 162, 0, 36, 21, 4, 153, 0, 22, 42, 27, 21, 5, 96, 46]
abbrev dktX9_areLike_0 : List UInt8 := dkwX9_areLike_0 ++ dktX9_areLike_1
theorem dksX9_areLike_0 : cX9_areLike.data.toList.drop 0 = dktX9_areLike_0 := by decide +kernel
theorem dksX9_areLike_1 : cX9_areLike.data.toList.drop 24 = dktX9_areLike_1 := dk_seg dksX9_areLike_0 24 rfl rfl
theorem dksX9_areLike_2 : cX9_areLike.data.toList.drop 48 = dktX9_areLike_2 := dk_seg dksX9_areLike_1 24 rfl rfl
theorem dX9_areLike_0 : decode cX9_areLike 0 = .ok (.iconst 1, 1) := dk_4 (dk_at dksX9_areLike_0 0 rfl rfl)
theorem dX9_areLike_1 : decode cX9_areLike 1 = .ok (.istore 4, 2) := dk_54 4 (dk_at dksX9_areLike_0 1 rfl rfl)
theorem dX9_areLike_3 : decode cX9_areLike 3 = .ok (.iconst 0, 1) := dk_3 (dk_at dksX9_areLike_0 3 rfl rfl)
theorem dX9_areLike_4 : decode cX9_areLike 4 = .ok (.istore 5, 2) := dk_54 5 (dk_at dksX9_areLike_0 4 rfl rfl)
theorem dX9_areLike_6 : decode cX9_areLike 6 = .ok (.iload 5, 2) := dk_21 5 (dk_at dksX9_areLike_0 6 rfl rfl)
theorem dX9_areLike_8 : decode cX9_areLike 8 = .ok (.bipush 8, 2) := dk_16 8 (dk_at dksX9_areLike_0 8 rfl rfl)
theorem dX9_areLike_10 : decode cX9_areLike 10 = .ok (.if_icmp .ge 36, 3) := dk_162 0 36 (dk_at dksX9_areLike_0 10 rfl rfl)
theorem dX9_areLike_13 : decode cX9_areLike 13 = .ok (.iload 4, 2) := dk_21 4 (dk_at dksX9_areLike_0 13 rfl rfl)
theorem dX9_areLike_15 : decode cX9_areLike 15 = .ok (.ifCond .eq 22, 3) := dk_153 0 22 (dk_at dksX9_areLike_0 15 rfl rfl)
theorem dX9_areLike_18 : decode cX9_areLike 18 = .ok (.aload_n 0, 1) := dk_42 (dk_at dksX9_areLike_0 18 rfl rfl)
theorem dX9_areLike_19 : decode cX9_areLike 19 = .ok (.iload_n 1, 1) := dk_27 (dk_at dksX9_areLike_0 19 rfl rfl)
theorem dX9_areLike_20 : decode cX9_areLike 20 = .ok (.iload 5, 2) := dk_21 5 (dk_at dksX9_areLike_0 20 rfl rfl)
theorem dX9_areLike_22 : decode cX9_areLike 22 = .ok (.iadd, 1) := dk_96 (dk_at dksX9_areLike_0 22 rfl rfl)
theorem dX9_areLike_23 : decode cX9_areLike 23 = .ok (.iaload, 1) := dk_46 (dk_at dksX9_areLike_0 23 rfl rfl)
theorem dX9_areLike_24 : decode cX9_areLike 24 = .ok (.aload_n 2, 1) := dk_44 (dk_at dksX9_areLike_1 0 rfl rfl)
theorem dX9_areLike_25 : decode cX9_areLike 25 = .ok (.iload_n 3, 1) := dk_29 (dk_at dksX9_areLike_1 1 rfl rfl)
theorem dX9_areLike_26 : decode cX9_areLike 26 = .ok (.iload 5, 2) := dk_21 5 (dk_at dksX9_areLike_1 2 rfl rfl)
theorem dX9_areLike_28 : decode cX9_areLike 28 = .ok (.iadd, 1) := dk_96 (dk_at dksX9_areLike_1 4 rfl rfl)
theorem dX9_areLike_29 : decode cX9_areLike 29 = .ok (.iaload, 1) := dk_46 (dk_at dksX9_areLike_1 5 rfl rfl)
theorem dX9_areLike_30 : decode cX9_areLike 30 = .ok (.if_icmp .ne 7, 3) := dk_160 0 7 (dk_at dksX9_areLike_1 6 rfl rfl)
theorem dX9_areLike_33 : decode cX9_areLike 33 = .ok (.iconst 1, 1) := dk_4 (dk_at dksX9_areLike_1 9 rfl rfl)
theorem dX9_areLike_34 : decode cX9_areLike 34 = .ok (.goto 4, 3) := dk_167 0 4 (dk_at dksX9_areLike_1 10 rfl rfl)
theorem dX9_areLike_37 : decode cX9_areLike 37 = .ok (.iconst 0, 1) := dk_3 (dk_at dksX9_areLike_1 13 rfl rfl)
theorem dX9_areLike_38 : decode cX9_areLike 38 = .ok (.istore 4, 2) := dk_54 4 (dk_at dksX9_areLike_1 14 rfl rfl)
theorem dX9_areLike_40 : decode cX9_areLike 40 = .ok (.iinc 5 1, 3) := dk_132 5 1 (dk_at dksX9_areLike_1 16 rfl rfl)
theorem dX9_areLike_43 : decode cX9_areLike 43 = .ok (.goto (-37), 3) := dk_167 255 219 (dk_at dksX9_areLike_1 19 rfl rfl)
theorem dX9_areLike_46 : decode cX9_areLike 46 = .ok (.iload 4, 2) := dk_21 4 (dk_at dksX9_areLike_1 22 rfl rfl)
theorem dX9_areLike_48 : decode cX9_areLike 48 = .ok (.ireturn, 1) := dk_172 (dk_at dksX9_areLike_2 0 rfl rfl)
abbrev cX9_isSpanRight : ByteArray := prog_17_method_55_code
def yX9_isSpanRight : MethodName := ⟨RX9, "isSpanRight", "(I[II)Z"⟩
def dkwX9_isSpanRight_7 : List UInt8 := [180, 0, 178, 3, 44, 29, 7, 96, 184, 1, 62, 172]
abbrev dktX9_isSpanRight_7 : List UInt8 := dkwX9_isSpanRight_7 ++ []
def dkwX9_isSpanRight_6 : List UInt8 := [180, 0, 36, 16, 8, 27, 104, 5, 96, 46, 182, 1, 59, 42, 42, 180, 0, 178, 3, 182, 1, 2, 42]
abbrev dktX9_isSpanRight_6 : List UInt8 := dkwX9_isSpanRight_6 ++ dktX9_isSpanRight_7
def dkwX9_isSpanRight_5 : List UInt8 := [21, 6, 4, 42, 180, 0, 148, 3, 182, 0, 216, 132, 6, 1, 167, 255, 195, 42, 27, 21, 5, 42]
abbrev dktX9_isSpanRight_5 : List UInt8 := dkwX9_isSpanRight_5 ++ dktX9_isSpanRight_6
def dkwX9_isSpanRight_4 : List UInt8 := [180, 0, 42, 16, 40, 27, 104, 21, 6, 96, 21, 4, 100, 47, 42, 180, 0, 148, 3, 182, 0, 196, 42]
abbrev dktX9_isSpanRight_4 : List UInt8 := dkwX9_isSpanRight_4 ++ dktX9_isSpanRight_5
def dkwX9_isSpanRight_3 : List UInt8 := [21, 5, 162, 0, 60, 42, 42, 180, 0, 39, 16, 40, 27, 104, 21, 6, 96, 21, 4, 100, 46, 42]
abbrev dktX9_isSpanRight_3 : List UInt8 := dkwX9_isSpanRight_3 ++ dktX9_isSpanRight_4
def dkwX9_isSpanRight_2 : List UInt8 := [3, 181, 0, 208, 42, 3, 181, 1, 56, 42, 27, 3, 21, 4, 182, 1, 59, 21, 4, 54, 6, 21, 6]
abbrev dktX9_isSpanRight_2 : List UInt8 := dkwX9_isSpanRight_2 ++ dktX9_isSpanRight_3
def dkwX9_isSpanRight_1 : List UInt8 := [160, 0, 10, 21, 4, 4, 96, 167, 0, 14, 42, 180, 0, 36, 16, 8, 27, 104, 7, 96, 46, 54, 5, 42]
abbrev dktX9_isSpanRight_1 : List UInt8 := dkwX9_isSpanRight_1 ++ dktX9_isSpanRight_2
def dkwX9_isSpanRight_0 : List UInt8 := [42, 180, 0, 36, 16, 8, 27, 104, 6, 96, 46, 54, 4, 42, 180, 0, 36, 16, 8, 27, 104, 46, 4]
abbrev dktX9_isSpanRight_0 : List UInt8 := dkwX9_isSpanRight_0 ++ dktX9_isSpanRight_1
theorem dksX9_isSpanRight_0 : cX9_isSpanRight.data.toList.drop 0 = dktX9_isSpanRight_0 := by decide +kernel
theorem dksX9_isSpanRight_1 : cX9_isSpanRight.data.toList.drop 23 = dktX9_isSpanRight_1 := dk_seg dksX9_isSpanRight_0 23 rfl rfl
theorem dksX9_isSpanRight_2 : cX9_isSpanRight.data.toList.drop 47 = dktX9_isSpanRight_2 := dk_seg dksX9_isSpanRight_1 24 rfl rfl
theorem dksX9_isSpanRight_3 : cX9_isSpanRight.data.toList.drop 70 = dktX9_isSpanRight_3 := dk_seg dksX9_isSpanRight_2 23 rfl rfl
theorem dksX9_isSpanRight_4 : cX9_isSpanRight.data.toList.drop 92 = dktX9_isSpanRight_4 := dk_seg dksX9_isSpanRight_3 22 rfl rfl
theorem dksX9_isSpanRight_5 : cX9_isSpanRight.data.toList.drop 115 = dktX9_isSpanRight_5 := dk_seg dksX9_isSpanRight_4 23 rfl rfl
theorem dksX9_isSpanRight_6 : cX9_isSpanRight.data.toList.drop 137 = dktX9_isSpanRight_6 := dk_seg dksX9_isSpanRight_5 22 rfl rfl
theorem dksX9_isSpanRight_7 : cX9_isSpanRight.data.toList.drop 160 = dktX9_isSpanRight_7 := dk_seg dksX9_isSpanRight_6 23 rfl rfl
theorem dX9_isSpanRight_0 : decode cX9_isSpanRight 0 = .ok (.aload_n 0, 1) := dk_42 (dk_at dksX9_isSpanRight_0 0 rfl rfl)
theorem dX9_isSpanRight_1 : decode cX9_isSpanRight 1 = .ok (.getfield 36, 3) := dk_180 0 36 (dk_at dksX9_isSpanRight_0 1 rfl rfl)
theorem dX9_isSpanRight_4 : decode cX9_isSpanRight 4 = .ok (.bipush 8, 2) := dk_16 8 (dk_at dksX9_isSpanRight_0 4 rfl rfl)
theorem dX9_isSpanRight_6 : decode cX9_isSpanRight 6 = .ok (.iload_n 1, 1) := dk_27 (dk_at dksX9_isSpanRight_0 6 rfl rfl)
theorem dX9_isSpanRight_7 : decode cX9_isSpanRight 7 = .ok (.imul, 1) := dk_104 (dk_at dksX9_isSpanRight_0 7 rfl rfl)
theorem dX9_isSpanRight_8 : decode cX9_isSpanRight 8 = .ok (.iconst 3, 1) := dk_6 (dk_at dksX9_isSpanRight_0 8 rfl rfl)
theorem dX9_isSpanRight_9 : decode cX9_isSpanRight 9 = .ok (.iadd, 1) := dk_96 (dk_at dksX9_isSpanRight_0 9 rfl rfl)
theorem dX9_isSpanRight_10 : decode cX9_isSpanRight 10 = .ok (.iaload, 1) := dk_46 (dk_at dksX9_isSpanRight_0 10 rfl rfl)
theorem dX9_isSpanRight_11 : decode cX9_isSpanRight 11 = .ok (.istore 4, 2) := dk_54 4 (dk_at dksX9_isSpanRight_0 11 rfl rfl)
theorem dX9_isSpanRight_13 : decode cX9_isSpanRight 13 = .ok (.aload_n 0, 1) := dk_42 (dk_at dksX9_isSpanRight_0 13 rfl rfl)
theorem dX9_isSpanRight_14 : decode cX9_isSpanRight 14 = .ok (.getfield 36, 3) := dk_180 0 36 (dk_at dksX9_isSpanRight_0 14 rfl rfl)
theorem dX9_isSpanRight_17 : decode cX9_isSpanRight 17 = .ok (.bipush 8, 2) := dk_16 8 (dk_at dksX9_isSpanRight_0 17 rfl rfl)
theorem dX9_isSpanRight_19 : decode cX9_isSpanRight 19 = .ok (.iload_n 1, 1) := dk_27 (dk_at dksX9_isSpanRight_0 19 rfl rfl)
theorem dX9_isSpanRight_20 : decode cX9_isSpanRight 20 = .ok (.imul, 1) := dk_104 (dk_at dksX9_isSpanRight_0 20 rfl rfl)
theorem dX9_isSpanRight_21 : decode cX9_isSpanRight 21 = .ok (.iaload, 1) := dk_46 (dk_at dksX9_isSpanRight_0 21 rfl rfl)
theorem dX9_isSpanRight_22 : decode cX9_isSpanRight 22 = .ok (.iconst 1, 1) := dk_4 (dk_at dksX9_isSpanRight_0 22 rfl rfl)
theorem dX9_isSpanRight_23 : decode cX9_isSpanRight 23 = .ok (.if_icmp .ne 10, 3) := dk_160 0 10 (dk_at dksX9_isSpanRight_1 0 rfl rfl)
theorem dX9_isSpanRight_26 : decode cX9_isSpanRight 26 = .ok (.iload 4, 2) := dk_21 4 (dk_at dksX9_isSpanRight_1 3 rfl rfl)
theorem dX9_isSpanRight_28 : decode cX9_isSpanRight 28 = .ok (.iconst 1, 1) := dk_4 (dk_at dksX9_isSpanRight_1 5 rfl rfl)
theorem dX9_isSpanRight_29 : decode cX9_isSpanRight 29 = .ok (.iadd, 1) := dk_96 (dk_at dksX9_isSpanRight_1 6 rfl rfl)
theorem dX9_isSpanRight_30 : decode cX9_isSpanRight 30 = .ok (.goto 14, 3) := dk_167 0 14 (dk_at dksX9_isSpanRight_1 7 rfl rfl)
theorem dX9_isSpanRight_33 : decode cX9_isSpanRight 33 = .ok (.aload_n 0, 1) := dk_42 (dk_at dksX9_isSpanRight_1 10 rfl rfl)
theorem dX9_isSpanRight_34 : decode cX9_isSpanRight 34 = .ok (.getfield 36, 3) := dk_180 0 36 (dk_at dksX9_isSpanRight_1 11 rfl rfl)
theorem dX9_isSpanRight_37 : decode cX9_isSpanRight 37 = .ok (.bipush 8, 2) := dk_16 8 (dk_at dksX9_isSpanRight_1 14 rfl rfl)
theorem dX9_isSpanRight_39 : decode cX9_isSpanRight 39 = .ok (.iload_n 1, 1) := dk_27 (dk_at dksX9_isSpanRight_1 16 rfl rfl)
theorem dX9_isSpanRight_40 : decode cX9_isSpanRight 40 = .ok (.imul, 1) := dk_104 (dk_at dksX9_isSpanRight_1 17 rfl rfl)
theorem dX9_isSpanRight_41 : decode cX9_isSpanRight 41 = .ok (.iconst 4, 1) := dk_7 (dk_at dksX9_isSpanRight_1 18 rfl rfl)
theorem dX9_isSpanRight_42 : decode cX9_isSpanRight 42 = .ok (.iadd, 1) := dk_96 (dk_at dksX9_isSpanRight_1 19 rfl rfl)
theorem dX9_isSpanRight_43 : decode cX9_isSpanRight 43 = .ok (.iaload, 1) := dk_46 (dk_at dksX9_isSpanRight_1 20 rfl rfl)
theorem dX9_isSpanRight_44 : decode cX9_isSpanRight 44 = .ok (.istore 5, 2) := dk_54 5 (dk_at dksX9_isSpanRight_1 21 rfl rfl)
theorem dX9_isSpanRight_46 : decode cX9_isSpanRight 46 = .ok (.aload_n 0, 1) := dk_42 (dk_at dksX9_isSpanRight_1 23 rfl rfl)
theorem dX9_isSpanRight_47 : decode cX9_isSpanRight 47 = .ok (.iconst 0, 1) := dk_3 (dk_at dksX9_isSpanRight_2 0 rfl rfl)
theorem dX9_isSpanRight_48 : decode cX9_isSpanRight 48 = .ok (.putfield 208, 3) := dk_181 0 208 (dk_at dksX9_isSpanRight_2 1 rfl rfl)
theorem dX9_isSpanRight_51 : decode cX9_isSpanRight 51 = .ok (.aload_n 0, 1) := dk_42 (dk_at dksX9_isSpanRight_2 4 rfl rfl)
theorem dX9_isSpanRight_52 : decode cX9_isSpanRight 52 = .ok (.iconst 0, 1) := dk_3 (dk_at dksX9_isSpanRight_2 5 rfl rfl)
theorem dX9_isSpanRight_53 : decode cX9_isSpanRight 53 = .ok (.putfield 312, 3) := dk_181 1 56 (dk_at dksX9_isSpanRight_2 6 rfl rfl)
theorem dX9_isSpanRight_56 : decode cX9_isSpanRight 56 = .ok (.aload_n 0, 1) := dk_42 (dk_at dksX9_isSpanRight_2 9 rfl rfl)
theorem dX9_isSpanRight_57 : decode cX9_isSpanRight 57 = .ok (.iload_n 1, 1) := dk_27 (dk_at dksX9_isSpanRight_2 10 rfl rfl)
theorem dX9_isSpanRight_58 : decode cX9_isSpanRight 58 = .ok (.iconst 0, 1) := dk_3 (dk_at dksX9_isSpanRight_2 11 rfl rfl)
theorem dX9_isSpanRight_59 : decode cX9_isSpanRight 59 = .ok (.iload 4, 2) := dk_21 4 (dk_at dksX9_isSpanRight_2 12 rfl rfl)
theorem dX9_isSpanRight_61 : decode cX9_isSpanRight 61 = .ok (.invokevirtual 315, 3) := dk_182 1 59 (dk_at dksX9_isSpanRight_2 14 rfl rfl)
theorem dX9_isSpanRight_64 : decode cX9_isSpanRight 64 = .ok (.iload 4, 2) := dk_21 4 (dk_at dksX9_isSpanRight_2 17 rfl rfl)
theorem dX9_isSpanRight_66 : decode cX9_isSpanRight 66 = .ok (.istore 6, 2) := dk_54 6 (dk_at dksX9_isSpanRight_2 19 rfl rfl)
theorem dX9_isSpanRight_68 : decode cX9_isSpanRight 68 = .ok (.iload 6, 2) := dk_21 6 (dk_at dksX9_isSpanRight_2 21 rfl rfl)
theorem dX9_isSpanRight_70 : decode cX9_isSpanRight 70 = .ok (.iload 5, 2) := dk_21 5 (dk_at dksX9_isSpanRight_3 0 rfl rfl)
theorem dX9_isSpanRight_72 : decode cX9_isSpanRight 72 = .ok (.if_icmp .ge 60, 3) := dk_162 0 60 (dk_at dksX9_isSpanRight_3 2 rfl rfl)
theorem dX9_isSpanRight_75 : decode cX9_isSpanRight 75 = .ok (.aload_n 0, 1) := dk_42 (dk_at dksX9_isSpanRight_3 5 rfl rfl)
theorem dX9_isSpanRight_76 : decode cX9_isSpanRight 76 = .ok (.aload_n 0, 1) := dk_42 (dk_at dksX9_isSpanRight_3 6 rfl rfl)
theorem dX9_isSpanRight_77 : decode cX9_isSpanRight 77 = .ok (.getfield 39, 3) := dk_180 0 39 (dk_at dksX9_isSpanRight_3 7 rfl rfl)
theorem dX9_isSpanRight_80 : decode cX9_isSpanRight 80 = .ok (.bipush 40, 2) := dk_16 40 (dk_at dksX9_isSpanRight_3 10 rfl rfl)
theorem dX9_isSpanRight_82 : decode cX9_isSpanRight 82 = .ok (.iload_n 1, 1) := dk_27 (dk_at dksX9_isSpanRight_3 12 rfl rfl)
theorem dX9_isSpanRight_83 : decode cX9_isSpanRight 83 = .ok (.imul, 1) := dk_104 (dk_at dksX9_isSpanRight_3 13 rfl rfl)
theorem dX9_isSpanRight_84 : decode cX9_isSpanRight 84 = .ok (.iload 6, 2) := dk_21 6 (dk_at dksX9_isSpanRight_3 14 rfl rfl)
theorem dX9_isSpanRight_86 : decode cX9_isSpanRight 86 = .ok (.iadd, 1) := dk_96 (dk_at dksX9_isSpanRight_3 16 rfl rfl)
theorem dX9_isSpanRight_87 : decode cX9_isSpanRight 87 = .ok (.iload 4, 2) := dk_21 4 (dk_at dksX9_isSpanRight_3 17 rfl rfl)
theorem dX9_isSpanRight_89 : decode cX9_isSpanRight 89 = .ok (.isub, 1) := dk_100 (dk_at dksX9_isSpanRight_3 19 rfl rfl)
theorem dX9_isSpanRight_90 : decode cX9_isSpanRight 90 = .ok (.iaload, 1) := dk_46 (dk_at dksX9_isSpanRight_3 20 rfl rfl)
theorem dX9_isSpanRight_91 : decode cX9_isSpanRight 91 = .ok (.aload_n 0, 1) := dk_42 (dk_at dksX9_isSpanRight_3 21 rfl rfl)
theorem dX9_isSpanRight_92 : decode cX9_isSpanRight 92 = .ok (.getfield 42, 3) := dk_180 0 42 (dk_at dksX9_isSpanRight_4 0 rfl rfl)
theorem dX9_isSpanRight_95 : decode cX9_isSpanRight 95 = .ok (.bipush 40, 2) := dk_16 40 (dk_at dksX9_isSpanRight_4 3 rfl rfl)
theorem dX9_isSpanRight_97 : decode cX9_isSpanRight 97 = .ok (.iload_n 1, 1) := dk_27 (dk_at dksX9_isSpanRight_4 5 rfl rfl)
theorem dX9_isSpanRight_98 : decode cX9_isSpanRight 98 = .ok (.imul, 1) := dk_104 (dk_at dksX9_isSpanRight_4 6 rfl rfl)
theorem dX9_isSpanRight_99 : decode cX9_isSpanRight 99 = .ok (.iload 6, 2) := dk_21 6 (dk_at dksX9_isSpanRight_4 7 rfl rfl)
theorem dX9_isSpanRight_101 : decode cX9_isSpanRight 101 = .ok (.iadd, 1) := dk_96 (dk_at dksX9_isSpanRight_4 9 rfl rfl)
theorem dX9_isSpanRight_102 : decode cX9_isSpanRight 102 = .ok (.iload 4, 2) := dk_21 4 (dk_at dksX9_isSpanRight_4 10 rfl rfl)
theorem dX9_isSpanRight_104 : decode cX9_isSpanRight 104 = .ok (.isub, 1) := dk_100 (dk_at dksX9_isSpanRight_4 12 rfl rfl)
theorem dX9_isSpanRight_105 : decode cX9_isSpanRight 105 = .ok (.laload, 1) := dk_47 (dk_at dksX9_isSpanRight_4 13 rfl rfl)
theorem dX9_isSpanRight_106 : decode cX9_isSpanRight 106 = .ok (.aload_n 0, 1) := dk_42 (dk_at dksX9_isSpanRight_4 14 rfl rfl)
theorem dX9_isSpanRight_107 : decode cX9_isSpanRight 107 = .ok (.getfield 148, 3) := dk_180 0 148 (dk_at dksX9_isSpanRight_4 15 rfl rfl)
theorem dX9_isSpanRight_110 : decode cX9_isSpanRight 110 = .ok (.iconst 0, 1) := dk_3 (dk_at dksX9_isSpanRight_4 18 rfl rfl)
theorem dX9_isSpanRight_111 : decode cX9_isSpanRight 111 = .ok (.invokevirtual 196, 3) := dk_182 0 196 (dk_at dksX9_isSpanRight_4 19 rfl rfl)
theorem dX9_isSpanRight_114 : decode cX9_isSpanRight 114 = .ok (.aload_n 0, 1) := dk_42 (dk_at dksX9_isSpanRight_4 22 rfl rfl)
theorem dX9_isSpanRight_115 : decode cX9_isSpanRight 115 = .ok (.iload 6, 2) := dk_21 6 (dk_at dksX9_isSpanRight_5 0 rfl rfl)
theorem dX9_isSpanRight_117 : decode cX9_isSpanRight 117 = .ok (.iconst 1, 1) := dk_4 (dk_at dksX9_isSpanRight_5 2 rfl rfl)
theorem dX9_isSpanRight_118 : decode cX9_isSpanRight 118 = .ok (.aload_n 0, 1) := dk_42 (dk_at dksX9_isSpanRight_5 3 rfl rfl)
theorem dX9_isSpanRight_119 : decode cX9_isSpanRight 119 = .ok (.getfield 148, 3) := dk_180 0 148 (dk_at dksX9_isSpanRight_5 4 rfl rfl)
theorem dX9_isSpanRight_122 : decode cX9_isSpanRight 122 = .ok (.iconst 0, 1) := dk_3 (dk_at dksX9_isSpanRight_5 7 rfl rfl)
theorem dX9_isSpanRight_123 : decode cX9_isSpanRight 123 = .ok (.invokevirtual 216, 3) := dk_182 0 216 (dk_at dksX9_isSpanRight_5 8 rfl rfl)
theorem dX9_isSpanRight_126 : decode cX9_isSpanRight 126 = .ok (.iinc 6 1, 3) := dk_132 6 1 (dk_at dksX9_isSpanRight_5 11 rfl rfl)
theorem dX9_isSpanRight_129 : decode cX9_isSpanRight 129 = .ok (.goto (-61), 3) := dk_167 255 195 (dk_at dksX9_isSpanRight_5 14 rfl rfl)
theorem dX9_isSpanRight_132 : decode cX9_isSpanRight 132 = .ok (.aload_n 0, 1) := dk_42 (dk_at dksX9_isSpanRight_5 17 rfl rfl)
theorem dX9_isSpanRight_133 : decode cX9_isSpanRight 133 = .ok (.iload_n 1, 1) := dk_27 (dk_at dksX9_isSpanRight_5 18 rfl rfl)
theorem dX9_isSpanRight_134 : decode cX9_isSpanRight 134 = .ok (.iload 5, 2) := dk_21 5 (dk_at dksX9_isSpanRight_5 19 rfl rfl)
theorem dX9_isSpanRight_136 : decode cX9_isSpanRight 136 = .ok (.aload_n 0, 1) := dk_42 (dk_at dksX9_isSpanRight_5 21 rfl rfl)
theorem dX9_isSpanRight_137 : decode cX9_isSpanRight 137 = .ok (.getfield 36, 3) := dk_180 0 36 (dk_at dksX9_isSpanRight_6 0 rfl rfl)
theorem dX9_isSpanRight_140 : decode cX9_isSpanRight 140 = .ok (.bipush 8, 2) := dk_16 8 (dk_at dksX9_isSpanRight_6 3 rfl rfl)
theorem dX9_isSpanRight_142 : decode cX9_isSpanRight 142 = .ok (.iload_n 1, 1) := dk_27 (dk_at dksX9_isSpanRight_6 5 rfl rfl)
theorem dX9_isSpanRight_143 : decode cX9_isSpanRight 143 = .ok (.imul, 1) := dk_104 (dk_at dksX9_isSpanRight_6 6 rfl rfl)
theorem dX9_isSpanRight_144 : decode cX9_isSpanRight 144 = .ok (.iconst 2, 1) := dk_5 (dk_at dksX9_isSpanRight_6 7 rfl rfl)
theorem dX9_isSpanRight_145 : decode cX9_isSpanRight 145 = .ok (.iadd, 1) := dk_96 (dk_at dksX9_isSpanRight_6 8 rfl rfl)
theorem dX9_isSpanRight_146 : decode cX9_isSpanRight 146 = .ok (.iaload, 1) := dk_46 (dk_at dksX9_isSpanRight_6 9 rfl rfl)
theorem dX9_isSpanRight_147 : decode cX9_isSpanRight 147 = .ok (.invokevirtual 315, 3) := dk_182 1 59 (dk_at dksX9_isSpanRight_6 10 rfl rfl)
theorem dX9_isSpanRight_150 : decode cX9_isSpanRight 150 = .ok (.aload_n 0, 1) := dk_42 (dk_at dksX9_isSpanRight_6 13 rfl rfl)
theorem dX9_isSpanRight_151 : decode cX9_isSpanRight 151 = .ok (.aload_n 0, 1) := dk_42 (dk_at dksX9_isSpanRight_6 14 rfl rfl)
theorem dX9_isSpanRight_152 : decode cX9_isSpanRight 152 = .ok (.getfield 178, 3) := dk_180 0 178 (dk_at dksX9_isSpanRight_6 15 rfl rfl)
theorem dX9_isSpanRight_155 : decode cX9_isSpanRight 155 = .ok (.iconst 0, 1) := dk_3 (dk_at dksX9_isSpanRight_6 18 rfl rfl)
theorem dX9_isSpanRight_156 : decode cX9_isSpanRight 156 = .ok (.invokevirtual 258, 3) := dk_182 1 2 (dk_at dksX9_isSpanRight_6 19 rfl rfl)
theorem dX9_isSpanRight_159 : decode cX9_isSpanRight 159 = .ok (.aload_n 0, 1) := dk_42 (dk_at dksX9_isSpanRight_6 22 rfl rfl)
theorem dX9_isSpanRight_160 : decode cX9_isSpanRight 160 = .ok (.getfield 178, 3) := dk_180 0 178 (dk_at dksX9_isSpanRight_7 0 rfl rfl)
theorem dX9_isSpanRight_163 : decode cX9_isSpanRight 163 = .ok (.iconst 0, 1) := dk_3 (dk_at dksX9_isSpanRight_7 3 rfl rfl)
theorem dX9_isSpanRight_164 : decode cX9_isSpanRight 164 = .ok (.aload_n 2, 1) := dk_44 (dk_at dksX9_isSpanRight_7 4 rfl rfl)
theorem dX9_isSpanRight_165 : decode cX9_isSpanRight 165 = .ok (.iload_n 3, 1) := dk_29 (dk_at dksX9_isSpanRight_7 5 rfl rfl)
theorem dX9_isSpanRight_166 : decode cX9_isSpanRight 166 = .ok (.iconst 4, 1) := dk_7 (dk_at dksX9_isSpanRight_7 6 rfl rfl)
theorem dX9_isSpanRight_167 : decode cX9_isSpanRight 167 = .ok (.iadd, 1) := dk_96 (dk_at dksX9_isSpanRight_7 7 rfl rfl)
theorem dX9_isSpanRight_168 : decode cX9_isSpanRight 168 = .ok (.invokestatic 318, 3) := dk_184 1 62 (dk_at dksX9_isSpanRight_7 8 rfl rfl)
theorem dX9_isSpanRight_171 : decode cX9_isSpanRight 171 = .ok (.ireturn, 1) := dk_172 (dk_at dksX9_isSpanRight_7 11 rfl rfl)
abbrev cX9_isWayRight : ByteArray := prog_17_method_57_code
def yX9_isWayRight : MethodName := ⟨RX9, "isWayRight", "(I[II)Z"⟩
def dkwX9_isWayRight_12 : List UInt8 := [184, 1, 62, 172]
abbrev dktX9_isWayRight_12 : List UInt8 := dkwX9_isWayRight_12 ++ []
def dkwX9_isWayRight_11 : List UInt8 := [180, 0, 178, 3, 182, 0, 204, 132, 6, 255, 167, 255, 179, 42, 180, 0, 178, 3, 44, 29, 16, 12, 96]
abbrev dktX9_isWayRight_11 : List UInt8 := dkwX9_isWayRight_11 ++ dktX9_isWayRight_12
def dkwX9_isWayRight_10 : List UInt8 := [42, 180, 0, 178, 3, 182, 0, 204, 167, 0, 23, 42, 42, 180, 0, 178, 3, 42, 180, 0, 46, 21, 7, 42]
abbrev dktX9_isWayRight_10 : List UInt8 := dkwX9_isWayRight_10 ++ dktX9_isWayRight_11
def dkwX9_isWayRight_9 : List UInt8 := [180, 0, 175, 3, 21, 6, 184, 0, 237, 153, 0, 26, 42, 42, 180, 0, 46, 21, 7, 42, 180, 0, 178, 3]
abbrev dktX9_isWayRight_9 : List UInt8 := dkwX9_isWayRight_9 ++ dktX9_isWayRight_10
def dkwX9_isWayRight_8 : List UInt8 := [100, 54, 6, 21, 6, 155, 0, 78, 16, 8, 17, 1, 0, 27, 104, 21, 6, 96, 104, 54, 7, 42]
abbrev dktX9_isWayRight_8 : List UInt8 := dkwX9_isWayRight_8 ++ dktX9_isWayRight_9
def dkwX9_isWayRight_7 : List UInt8 := [182, 0, 234, 42, 42, 180, 0, 175, 3, 182, 0, 192, 42, 180, 0, 36, 16, 8, 27, 104, 4, 96, 46, 4]
abbrev dktX9_isWayRight_7 : List UInt8 := dkwX9_isWayRight_7 ++ dktX9_isWayRight_8
def dkwX9_isWayRight_6 : List UInt8 := [21, 6, 16, 8, 162, 0, 17, 42, 180, 0, 178, 21, 6, 3, 79, 132, 6, 1, 167, 255, 238, 42, 21, 5]
abbrev dktX9_isWayRight_6 : List UInt8 := dkwX9_isWayRight_6 ++ dktX9_isWayRight_7
def dkwX9_isWayRight_5 : List UInt8 := [27, 104, 8, 96, 46, 182, 0, 241, 42, 42, 180, 0, 178, 3, 182, 0, 192, 167, 0, 27, 3, 54, 6]
abbrev dktX9_isWayRight_5 : List UInt8 := dkwX9_isWayRight_5 ++ dktX9_isWayRight_6
def dkwX9_isWayRight_4 : List UInt8 := [160, 0, 5, 3, 172, 42, 42, 180, 0, 36, 16, 8, 27, 104, 16, 6, 96, 46, 42, 180, 0, 36, 16, 8]
abbrev dktX9_isWayRight_4 : List UInt8 := dkwX9_isWayRight_4 ++ dktX9_isWayRight_5
def dkwX9_isWayRight_3 : List UInt8 := [104, 16, 7, 96, 46, 4, 160, 0, 61, 42, 180, 0, 36, 16, 8, 27, 104, 16, 6, 96, 46, 21, 5]
abbrev dktX9_isWayRight_3 : List UInt8 := dkwX9_isWayRight_3 ++ dktX9_isWayRight_4
def dkwX9_isWayRight_2 : List UInt8 := [96, 46, 182, 0, 241, 42, 42, 180, 0, 178, 3, 182, 0, 192, 167, 0, 101, 42, 180, 0, 36, 16, 8, 27]
abbrev dktX9_isWayRight_2 : List UInt8 := dkwX9_isWayRight_2 ++ dktX9_isWayRight_3
def dkwX9_isWayRight_1 : List UInt8 := [16, 40, 27, 104, 46, 54, 5, 21, 4, 153, 0, 32, 42, 21, 5, 42, 180, 0, 36, 16, 8, 27, 104, 8]
abbrev dktX9_isWayRight_1 : List UInt8 := dkwX9_isWayRight_1 ++ dktX9_isWayRight_2
def dkwX9_isWayRight_0 : List UInt8 := [42, 180, 0, 36, 16, 8, 27, 104, 46, 6, 160, 0, 7, 4, 167, 0, 4, 3, 54, 4, 42, 180, 0, 39]
abbrev dktX9_isWayRight_0 : List UInt8 := dkwX9_isWayRight_0 ++ dktX9_isWayRight_1
theorem dksX9_isWayRight_0 : cX9_isWayRight.data.toList.drop 0 = dktX9_isWayRight_0 := by decide +kernel
theorem dksX9_isWayRight_1 : cX9_isWayRight.data.toList.drop 24 = dktX9_isWayRight_1 := dk_seg dksX9_isWayRight_0 24 rfl rfl
theorem dksX9_isWayRight_2 : cX9_isWayRight.data.toList.drop 48 = dktX9_isWayRight_2 := dk_seg dksX9_isWayRight_1 24 rfl rfl
theorem dksX9_isWayRight_3 : cX9_isWayRight.data.toList.drop 72 = dktX9_isWayRight_3 := dk_seg dksX9_isWayRight_2 24 rfl rfl
theorem dksX9_isWayRight_4 : cX9_isWayRight.data.toList.drop 95 = dktX9_isWayRight_4 := dk_seg dksX9_isWayRight_3 23 rfl rfl
theorem dksX9_isWayRight_5 : cX9_isWayRight.data.toList.drop 119 = dktX9_isWayRight_5 := dk_seg dksX9_isWayRight_4 24 rfl rfl
theorem dksX9_isWayRight_6 : cX9_isWayRight.data.toList.drop 142 = dktX9_isWayRight_6 := dk_seg dksX9_isWayRight_5 23 rfl rfl
theorem dksX9_isWayRight_7 : cX9_isWayRight.data.toList.drop 166 = dktX9_isWayRight_7 := dk_seg dksX9_isWayRight_6 24 rfl rfl
theorem dksX9_isWayRight_8 : cX9_isWayRight.data.toList.drop 190 = dktX9_isWayRight_8 := dk_seg dksX9_isWayRight_7 24 rfl rfl
theorem dksX9_isWayRight_9 : cX9_isWayRight.data.toList.drop 212 = dktX9_isWayRight_9 := dk_seg dksX9_isWayRight_8 22 rfl rfl
theorem dksX9_isWayRight_10 : cX9_isWayRight.data.toList.drop 236 = dktX9_isWayRight_10 := dk_seg dksX9_isWayRight_9 24 rfl rfl
theorem dksX9_isWayRight_11 : cX9_isWayRight.data.toList.drop 260 = dktX9_isWayRight_11 := dk_seg dksX9_isWayRight_10 24 rfl rfl
theorem dksX9_isWayRight_12 : cX9_isWayRight.data.toList.drop 283 = dktX9_isWayRight_12 := dk_seg dksX9_isWayRight_11 23 rfl rfl
theorem dX9_isWayRight_0 : decode cX9_isWayRight 0 = .ok (.aload_n 0, 1) := dk_42 (dk_at dksX9_isWayRight_0 0 rfl rfl)
theorem dX9_isWayRight_1 : decode cX9_isWayRight 1 = .ok (.getfield 36, 3) := dk_180 0 36 (dk_at dksX9_isWayRight_0 1 rfl rfl)
theorem dX9_isWayRight_4 : decode cX9_isWayRight 4 = .ok (.bipush 8, 2) := dk_16 8 (dk_at dksX9_isWayRight_0 4 rfl rfl)
theorem dX9_isWayRight_6 : decode cX9_isWayRight 6 = .ok (.iload_n 1, 1) := dk_27 (dk_at dksX9_isWayRight_0 6 rfl rfl)
theorem dX9_isWayRight_7 : decode cX9_isWayRight 7 = .ok (.imul, 1) := dk_104 (dk_at dksX9_isWayRight_0 7 rfl rfl)
theorem dX9_isWayRight_8 : decode cX9_isWayRight 8 = .ok (.iaload, 1) := dk_46 (dk_at dksX9_isWayRight_0 8 rfl rfl)
theorem dX9_isWayRight_9 : decode cX9_isWayRight 9 = .ok (.iconst 3, 1) := dk_6 (dk_at dksX9_isWayRight_0 9 rfl rfl)
theorem dX9_isWayRight_10 : decode cX9_isWayRight 10 = .ok (.if_icmp .ne 7, 3) := dk_160 0 7 (dk_at dksX9_isWayRight_0 10 rfl rfl)
theorem dX9_isWayRight_13 : decode cX9_isWayRight 13 = .ok (.iconst 1, 1) := dk_4 (dk_at dksX9_isWayRight_0 13 rfl rfl)
theorem dX9_isWayRight_14 : decode cX9_isWayRight 14 = .ok (.goto 4, 3) := dk_167 0 4 (dk_at dksX9_isWayRight_0 14 rfl rfl)
theorem dX9_isWayRight_17 : decode cX9_isWayRight 17 = .ok (.iconst 0, 1) := dk_3 (dk_at dksX9_isWayRight_0 17 rfl rfl)
theorem dX9_isWayRight_18 : decode cX9_isWayRight 18 = .ok (.istore 4, 2) := dk_54 4 (dk_at dksX9_isWayRight_0 18 rfl rfl)
theorem dX9_isWayRight_20 : decode cX9_isWayRight 20 = .ok (.aload_n 0, 1) := dk_42 (dk_at dksX9_isWayRight_0 20 rfl rfl)
theorem dX9_isWayRight_21 : decode cX9_isWayRight 21 = .ok (.getfield 39, 3) := dk_180 0 39 (dk_at dksX9_isWayRight_0 21 rfl rfl)
theorem dX9_isWayRight_24 : decode cX9_isWayRight 24 = .ok (.bipush 40, 2) := dk_16 40 (dk_at dksX9_isWayRight_1 0 rfl rfl)
theorem dX9_isWayRight_26 : decode cX9_isWayRight 26 = .ok (.iload_n 1, 1) := dk_27 (dk_at dksX9_isWayRight_1 2 rfl rfl)
theorem dX9_isWayRight_27 : decode cX9_isWayRight 27 = .ok (.imul, 1) := dk_104 (dk_at dksX9_isWayRight_1 3 rfl rfl)
theorem dX9_isWayRight_28 : decode cX9_isWayRight 28 = .ok (.iaload, 1) := dk_46 (dk_at dksX9_isWayRight_1 4 rfl rfl)
theorem dX9_isWayRight_29 : decode cX9_isWayRight 29 = .ok (.istore 5, 2) := dk_54 5 (dk_at dksX9_isWayRight_1 5 rfl rfl)
theorem dX9_isWayRight_31 : decode cX9_isWayRight 31 = .ok (.iload 4, 2) := dk_21 4 (dk_at dksX9_isWayRight_1 7 rfl rfl)
theorem dX9_isWayRight_33 : decode cX9_isWayRight 33 = .ok (.ifCond .eq 32, 3) := dk_153 0 32 (dk_at dksX9_isWayRight_1 9 rfl rfl)
theorem dX9_isWayRight_36 : decode cX9_isWayRight 36 = .ok (.aload_n 0, 1) := dk_42 (dk_at dksX9_isWayRight_1 12 rfl rfl)
theorem dX9_isWayRight_37 : decode cX9_isWayRight 37 = .ok (.iload 5, 2) := dk_21 5 (dk_at dksX9_isWayRight_1 13 rfl rfl)
theorem dX9_isWayRight_39 : decode cX9_isWayRight 39 = .ok (.aload_n 0, 1) := dk_42 (dk_at dksX9_isWayRight_1 15 rfl rfl)
theorem dX9_isWayRight_40 : decode cX9_isWayRight 40 = .ok (.getfield 36, 3) := dk_180 0 36 (dk_at dksX9_isWayRight_1 16 rfl rfl)
theorem dX9_isWayRight_43 : decode cX9_isWayRight 43 = .ok (.bipush 8, 2) := dk_16 8 (dk_at dksX9_isWayRight_1 19 rfl rfl)
theorem dX9_isWayRight_45 : decode cX9_isWayRight 45 = .ok (.iload_n 1, 1) := dk_27 (dk_at dksX9_isWayRight_1 21 rfl rfl)
theorem dX9_isWayRight_46 : decode cX9_isWayRight 46 = .ok (.imul, 1) := dk_104 (dk_at dksX9_isWayRight_1 22 rfl rfl)
theorem dX9_isWayRight_47 : decode cX9_isWayRight 47 = .ok (.iconst 5, 1) := dk_8 (dk_at dksX9_isWayRight_1 23 rfl rfl)
theorem dX9_isWayRight_48 : decode cX9_isWayRight 48 = .ok (.iadd, 1) := dk_96 (dk_at dksX9_isWayRight_2 0 rfl rfl)
theorem dX9_isWayRight_49 : decode cX9_isWayRight 49 = .ok (.iaload, 1) := dk_46 (dk_at dksX9_isWayRight_2 1 rfl rfl)
theorem dX9_isWayRight_50 : decode cX9_isWayRight 50 = .ok (.invokevirtual 241, 3) := dk_182 0 241 (dk_at dksX9_isWayRight_2 2 rfl rfl)
theorem dX9_isWayRight_53 : decode cX9_isWayRight 53 = .ok (.aload_n 0, 1) := dk_42 (dk_at dksX9_isWayRight_2 5 rfl rfl)
theorem dX9_isWayRight_54 : decode cX9_isWayRight 54 = .ok (.aload_n 0, 1) := dk_42 (dk_at dksX9_isWayRight_2 6 rfl rfl)
theorem dX9_isWayRight_55 : decode cX9_isWayRight 55 = .ok (.getfield 178, 3) := dk_180 0 178 (dk_at dksX9_isWayRight_2 7 rfl rfl)
theorem dX9_isWayRight_58 : decode cX9_isWayRight 58 = .ok (.iconst 0, 1) := dk_3 (dk_at dksX9_isWayRight_2 10 rfl rfl)
theorem dX9_isWayRight_59 : decode cX9_isWayRight 59 = .ok (.invokevirtual 192, 3) := dk_182 0 192 (dk_at dksX9_isWayRight_2 11 rfl rfl)
theorem dX9_isWayRight_62 : decode cX9_isWayRight 62 = .ok (.goto 101, 3) := dk_167 0 101 (dk_at dksX9_isWayRight_2 14 rfl rfl)
theorem dX9_isWayRight_65 : decode cX9_isWayRight 65 = .ok (.aload_n 0, 1) := dk_42 (dk_at dksX9_isWayRight_2 17 rfl rfl)
theorem dX9_isWayRight_66 : decode cX9_isWayRight 66 = .ok (.getfield 36, 3) := dk_180 0 36 (dk_at dksX9_isWayRight_2 18 rfl rfl)
theorem dX9_isWayRight_69 : decode cX9_isWayRight 69 = .ok (.bipush 8, 2) := dk_16 8 (dk_at dksX9_isWayRight_2 21 rfl rfl)
theorem dX9_isWayRight_71 : decode cX9_isWayRight 71 = .ok (.iload_n 1, 1) := dk_27 (dk_at dksX9_isWayRight_2 23 rfl rfl)
theorem dX9_isWayRight_72 : decode cX9_isWayRight 72 = .ok (.imul, 1) := dk_104 (dk_at dksX9_isWayRight_3 0 rfl rfl)
theorem dX9_isWayRight_73 : decode cX9_isWayRight 73 = .ok (.bipush 7, 2) := dk_16 7 (dk_at dksX9_isWayRight_3 1 rfl rfl)
theorem dX9_isWayRight_75 : decode cX9_isWayRight 75 = .ok (.iadd, 1) := dk_96 (dk_at dksX9_isWayRight_3 3 rfl rfl)
theorem dX9_isWayRight_76 : decode cX9_isWayRight 76 = .ok (.iaload, 1) := dk_46 (dk_at dksX9_isWayRight_3 4 rfl rfl)
theorem dX9_isWayRight_77 : decode cX9_isWayRight 77 = .ok (.iconst 1, 1) := dk_4 (dk_at dksX9_isWayRight_3 5 rfl rfl)
theorem dX9_isWayRight_78 : decode cX9_isWayRight 78 = .ok (.if_icmp .ne 61, 3) := dk_160 0 61 (dk_at dksX9_isWayRight_3 6 rfl rfl)
theorem dX9_isWayRight_81 : decode cX9_isWayRight 81 = .ok (.aload_n 0, 1) := dk_42 (dk_at dksX9_isWayRight_3 9 rfl rfl)
theorem dX9_isWayRight_82 : decode cX9_isWayRight 82 = .ok (.getfield 36, 3) := dk_180 0 36 (dk_at dksX9_isWayRight_3 10 rfl rfl)
theorem dX9_isWayRight_85 : decode cX9_isWayRight 85 = .ok (.bipush 8, 2) := dk_16 8 (dk_at dksX9_isWayRight_3 13 rfl rfl)
theorem dX9_isWayRight_87 : decode cX9_isWayRight 87 = .ok (.iload_n 1, 1) := dk_27 (dk_at dksX9_isWayRight_3 15 rfl rfl)
theorem dX9_isWayRight_88 : decode cX9_isWayRight 88 = .ok (.imul, 1) := dk_104 (dk_at dksX9_isWayRight_3 16 rfl rfl)
theorem dX9_isWayRight_89 : decode cX9_isWayRight 89 = .ok (.bipush 6, 2) := dk_16 6 (dk_at dksX9_isWayRight_3 17 rfl rfl)
theorem dX9_isWayRight_91 : decode cX9_isWayRight 91 = .ok (.iadd, 1) := dk_96 (dk_at dksX9_isWayRight_3 19 rfl rfl)
theorem dX9_isWayRight_92 : decode cX9_isWayRight 92 = .ok (.iaload, 1) := dk_46 (dk_at dksX9_isWayRight_3 20 rfl rfl)
theorem dX9_isWayRight_93 : decode cX9_isWayRight 93 = .ok (.iload 5, 2) := dk_21 5 (dk_at dksX9_isWayRight_3 21 rfl rfl)
theorem dX9_isWayRight_95 : decode cX9_isWayRight 95 = .ok (.if_icmp .ne 5, 3) := dk_160 0 5 (dk_at dksX9_isWayRight_4 0 rfl rfl)
theorem dX9_isWayRight_98 : decode cX9_isWayRight 98 = .ok (.iconst 0, 1) := dk_3 (dk_at dksX9_isWayRight_4 3 rfl rfl)
theorem dX9_isWayRight_99 : decode cX9_isWayRight 99 = .ok (.ireturn, 1) := dk_172 (dk_at dksX9_isWayRight_4 4 rfl rfl)
theorem dX9_isWayRight_100 : decode cX9_isWayRight 100 = .ok (.aload_n 0, 1) := dk_42 (dk_at dksX9_isWayRight_4 5 rfl rfl)
theorem dX9_isWayRight_101 : decode cX9_isWayRight 101 = .ok (.aload_n 0, 1) := dk_42 (dk_at dksX9_isWayRight_4 6 rfl rfl)
theorem dX9_isWayRight_102 : decode cX9_isWayRight 102 = .ok (.getfield 36, 3) := dk_180 0 36 (dk_at dksX9_isWayRight_4 7 rfl rfl)
theorem dX9_isWayRight_105 : decode cX9_isWayRight 105 = .ok (.bipush 8, 2) := dk_16 8 (dk_at dksX9_isWayRight_4 10 rfl rfl)
theorem dX9_isWayRight_107 : decode cX9_isWayRight 107 = .ok (.iload_n 1, 1) := dk_27 (dk_at dksX9_isWayRight_4 12 rfl rfl)
theorem dX9_isWayRight_108 : decode cX9_isWayRight 108 = .ok (.imul, 1) := dk_104 (dk_at dksX9_isWayRight_4 13 rfl rfl)
theorem dX9_isWayRight_109 : decode cX9_isWayRight 109 = .ok (.bipush 6, 2) := dk_16 6 (dk_at dksX9_isWayRight_4 14 rfl rfl)
theorem dX9_isWayRight_111 : decode cX9_isWayRight 111 = .ok (.iadd, 1) := dk_96 (dk_at dksX9_isWayRight_4 16 rfl rfl)
theorem dX9_isWayRight_112 : decode cX9_isWayRight 112 = .ok (.iaload, 1) := dk_46 (dk_at dksX9_isWayRight_4 17 rfl rfl)
theorem dX9_isWayRight_113 : decode cX9_isWayRight 113 = .ok (.aload_n 0, 1) := dk_42 (dk_at dksX9_isWayRight_4 18 rfl rfl)
theorem dX9_isWayRight_114 : decode cX9_isWayRight 114 = .ok (.getfield 36, 3) := dk_180 0 36 (dk_at dksX9_isWayRight_4 19 rfl rfl)
theorem dX9_isWayRight_117 : decode cX9_isWayRight 117 = .ok (.bipush 8, 2) := dk_16 8 (dk_at dksX9_isWayRight_4 22 rfl rfl)
theorem dX9_isWayRight_119 : decode cX9_isWayRight 119 = .ok (.iload_n 1, 1) := dk_27 (dk_at dksX9_isWayRight_5 0 rfl rfl)
theorem dX9_isWayRight_120 : decode cX9_isWayRight 120 = .ok (.imul, 1) := dk_104 (dk_at dksX9_isWayRight_5 1 rfl rfl)
theorem dX9_isWayRight_121 : decode cX9_isWayRight 121 = .ok (.iconst 5, 1) := dk_8 (dk_at dksX9_isWayRight_5 2 rfl rfl)
theorem dX9_isWayRight_122 : decode cX9_isWayRight 122 = .ok (.iadd, 1) := dk_96 (dk_at dksX9_isWayRight_5 3 rfl rfl)
theorem dX9_isWayRight_123 : decode cX9_isWayRight 123 = .ok (.iaload, 1) := dk_46 (dk_at dksX9_isWayRight_5 4 rfl rfl)
theorem dX9_isWayRight_124 : decode cX9_isWayRight 124 = .ok (.invokevirtual 241, 3) := dk_182 0 241 (dk_at dksX9_isWayRight_5 5 rfl rfl)
theorem dX9_isWayRight_127 : decode cX9_isWayRight 127 = .ok (.aload_n 0, 1) := dk_42 (dk_at dksX9_isWayRight_5 8 rfl rfl)
theorem dX9_isWayRight_128 : decode cX9_isWayRight 128 = .ok (.aload_n 0, 1) := dk_42 (dk_at dksX9_isWayRight_5 9 rfl rfl)
theorem dX9_isWayRight_129 : decode cX9_isWayRight 129 = .ok (.getfield 178, 3) := dk_180 0 178 (dk_at dksX9_isWayRight_5 10 rfl rfl)
theorem dX9_isWayRight_132 : decode cX9_isWayRight 132 = .ok (.iconst 0, 1) := dk_3 (dk_at dksX9_isWayRight_5 13 rfl rfl)
theorem dX9_isWayRight_133 : decode cX9_isWayRight 133 = .ok (.invokevirtual 192, 3) := dk_182 0 192 (dk_at dksX9_isWayRight_5 14 rfl rfl)
theorem dX9_isWayRight_136 : decode cX9_isWayRight 136 = .ok (.goto 27, 3) := dk_167 0 27 (dk_at dksX9_isWayRight_5 17 rfl rfl)
theorem dX9_isWayRight_139 : decode cX9_isWayRight 139 = .ok (.iconst 0, 1) := dk_3 (dk_at dksX9_isWayRight_5 20 rfl rfl)
theorem dX9_isWayRight_140 : decode cX9_isWayRight 140 = .ok (.istore 6, 2) := dk_54 6 (dk_at dksX9_isWayRight_5 21 rfl rfl)
theorem dX9_isWayRight_142 : decode cX9_isWayRight 142 = .ok (.iload 6, 2) := dk_21 6 (dk_at dksX9_isWayRight_6 0 rfl rfl)
theorem dX9_isWayRight_144 : decode cX9_isWayRight 144 = .ok (.bipush 8, 2) := dk_16 8 (dk_at dksX9_isWayRight_6 2 rfl rfl)
theorem dX9_isWayRight_146 : decode cX9_isWayRight 146 = .ok (.if_icmp .ge 17, 3) := dk_162 0 17 (dk_at dksX9_isWayRight_6 4 rfl rfl)
theorem dX9_isWayRight_149 : decode cX9_isWayRight 149 = .ok (.aload_n 0, 1) := dk_42 (dk_at dksX9_isWayRight_6 7 rfl rfl)
theorem dX9_isWayRight_150 : decode cX9_isWayRight 150 = .ok (.getfield 178, 3) := dk_180 0 178 (dk_at dksX9_isWayRight_6 8 rfl rfl)
theorem dX9_isWayRight_153 : decode cX9_isWayRight 153 = .ok (.iload 6, 2) := dk_21 6 (dk_at dksX9_isWayRight_6 11 rfl rfl)
theorem dX9_isWayRight_155 : decode cX9_isWayRight 155 = .ok (.iconst 0, 1) := dk_3 (dk_at dksX9_isWayRight_6 13 rfl rfl)
theorem dX9_isWayRight_156 : decode cX9_isWayRight 156 = .ok (.iastore, 1) := dk_79 (dk_at dksX9_isWayRight_6 14 rfl rfl)
theorem dX9_isWayRight_157 : decode cX9_isWayRight 157 = .ok (.iinc 6 1, 3) := dk_132 6 1 (dk_at dksX9_isWayRight_6 15 rfl rfl)
theorem dX9_isWayRight_160 : decode cX9_isWayRight 160 = .ok (.goto (-18), 3) := dk_167 255 238 (dk_at dksX9_isWayRight_6 18 rfl rfl)
theorem dX9_isWayRight_163 : decode cX9_isWayRight 163 = .ok (.aload_n 0, 1) := dk_42 (dk_at dksX9_isWayRight_6 21 rfl rfl)
theorem dX9_isWayRight_164 : decode cX9_isWayRight 164 = .ok (.iload 5, 2) := dk_21 5 (dk_at dksX9_isWayRight_6 22 rfl rfl)
theorem dX9_isWayRight_166 : decode cX9_isWayRight 166 = .ok (.invokevirtual 234, 3) := dk_182 0 234 (dk_at dksX9_isWayRight_7 0 rfl rfl)
theorem dX9_isWayRight_169 : decode cX9_isWayRight 169 = .ok (.aload_n 0, 1) := dk_42 (dk_at dksX9_isWayRight_7 3 rfl rfl)
theorem dX9_isWayRight_170 : decode cX9_isWayRight 170 = .ok (.aload_n 0, 1) := dk_42 (dk_at dksX9_isWayRight_7 4 rfl rfl)
theorem dX9_isWayRight_171 : decode cX9_isWayRight 171 = .ok (.getfield 175, 3) := dk_180 0 175 (dk_at dksX9_isWayRight_7 5 rfl rfl)
theorem dX9_isWayRight_174 : decode cX9_isWayRight 174 = .ok (.iconst 0, 1) := dk_3 (dk_at dksX9_isWayRight_7 8 rfl rfl)
theorem dX9_isWayRight_175 : decode cX9_isWayRight 175 = .ok (.invokevirtual 192, 3) := dk_182 0 192 (dk_at dksX9_isWayRight_7 9 rfl rfl)
theorem dX9_isWayRight_178 : decode cX9_isWayRight 178 = .ok (.aload_n 0, 1) := dk_42 (dk_at dksX9_isWayRight_7 12 rfl rfl)
theorem dX9_isWayRight_179 : decode cX9_isWayRight 179 = .ok (.getfield 36, 3) := dk_180 0 36 (dk_at dksX9_isWayRight_7 13 rfl rfl)
theorem dX9_isWayRight_182 : decode cX9_isWayRight 182 = .ok (.bipush 8, 2) := dk_16 8 (dk_at dksX9_isWayRight_7 16 rfl rfl)
theorem dX9_isWayRight_184 : decode cX9_isWayRight 184 = .ok (.iload_n 1, 1) := dk_27 (dk_at dksX9_isWayRight_7 18 rfl rfl)
theorem dX9_isWayRight_185 : decode cX9_isWayRight 185 = .ok (.imul, 1) := dk_104 (dk_at dksX9_isWayRight_7 19 rfl rfl)
theorem dX9_isWayRight_186 : decode cX9_isWayRight 186 = .ok (.iconst 1, 1) := dk_4 (dk_at dksX9_isWayRight_7 20 rfl rfl)
theorem dX9_isWayRight_187 : decode cX9_isWayRight 187 = .ok (.iadd, 1) := dk_96 (dk_at dksX9_isWayRight_7 21 rfl rfl)
theorem dX9_isWayRight_188 : decode cX9_isWayRight 188 = .ok (.iaload, 1) := dk_46 (dk_at dksX9_isWayRight_7 22 rfl rfl)
theorem dX9_isWayRight_189 : decode cX9_isWayRight 189 = .ok (.iconst 1, 1) := dk_4 (dk_at dksX9_isWayRight_7 23 rfl rfl)
theorem dX9_isWayRight_190 : decode cX9_isWayRight 190 = .ok (.isub, 1) := dk_100 (dk_at dksX9_isWayRight_8 0 rfl rfl)
theorem dX9_isWayRight_191 : decode cX9_isWayRight 191 = .ok (.istore 6, 2) := dk_54 6 (dk_at dksX9_isWayRight_8 1 rfl rfl)
theorem dX9_isWayRight_193 : decode cX9_isWayRight 193 = .ok (.iload 6, 2) := dk_21 6 (dk_at dksX9_isWayRight_8 3 rfl rfl)
theorem dX9_isWayRight_195 : decode cX9_isWayRight 195 = .ok (.ifCond .lt 78, 3) := dk_155 0 78 (dk_at dksX9_isWayRight_8 5 rfl rfl)
theorem dX9_isWayRight_198 : decode cX9_isWayRight 198 = .ok (.bipush 8, 2) := dk_16 8 (dk_at dksX9_isWayRight_8 8 rfl rfl)
theorem dX9_isWayRight_200 : decode cX9_isWayRight 200 = .ok (.sipush 256, 3) := dk_17 1 0 (dk_at dksX9_isWayRight_8 10 rfl rfl)
theorem dX9_isWayRight_203 : decode cX9_isWayRight 203 = .ok (.iload_n 1, 1) := dk_27 (dk_at dksX9_isWayRight_8 13 rfl rfl)
theorem dX9_isWayRight_204 : decode cX9_isWayRight 204 = .ok (.imul, 1) := dk_104 (dk_at dksX9_isWayRight_8 14 rfl rfl)
theorem dX9_isWayRight_205 : decode cX9_isWayRight 205 = .ok (.iload 6, 2) := dk_21 6 (dk_at dksX9_isWayRight_8 15 rfl rfl)
theorem dX9_isWayRight_207 : decode cX9_isWayRight 207 = .ok (.iadd, 1) := dk_96 (dk_at dksX9_isWayRight_8 17 rfl rfl)
theorem dX9_isWayRight_208 : decode cX9_isWayRight 208 = .ok (.imul, 1) := dk_104 (dk_at dksX9_isWayRight_8 18 rfl rfl)
theorem dX9_isWayRight_209 : decode cX9_isWayRight 209 = .ok (.istore 7, 2) := dk_54 7 (dk_at dksX9_isWayRight_8 19 rfl rfl)
theorem dX9_isWayRight_211 : decode cX9_isWayRight 211 = .ok (.aload_n 0, 1) := dk_42 (dk_at dksX9_isWayRight_8 21 rfl rfl)
theorem dX9_isWayRight_212 : decode cX9_isWayRight 212 = .ok (.getfield 175, 3) := dk_180 0 175 (dk_at dksX9_isWayRight_9 0 rfl rfl)
theorem dX9_isWayRight_215 : decode cX9_isWayRight 215 = .ok (.iconst 0, 1) := dk_3 (dk_at dksX9_isWayRight_9 3 rfl rfl)
theorem dX9_isWayRight_216 : decode cX9_isWayRight 216 = .ok (.iload 6, 2) := dk_21 6 (dk_at dksX9_isWayRight_9 4 rfl rfl)
theorem dX9_isWayRight_218 : decode cX9_isWayRight 218 = .ok (.invokestatic 237, 3) := dk_184 0 237 (dk_at dksX9_isWayRight_9 6 rfl rfl)
theorem dX9_isWayRight_221 : decode cX9_isWayRight 221 = .ok (.ifCond .eq 26, 3) := dk_153 0 26 (dk_at dksX9_isWayRight_9 9 rfl rfl)
theorem dX9_isWayRight_224 : decode cX9_isWayRight 224 = .ok (.aload_n 0, 1) := dk_42 (dk_at dksX9_isWayRight_9 12 rfl rfl)
theorem dX9_isWayRight_225 : decode cX9_isWayRight 225 = .ok (.aload_n 0, 1) := dk_42 (dk_at dksX9_isWayRight_9 13 rfl rfl)
theorem dX9_isWayRight_226 : decode cX9_isWayRight 226 = .ok (.getfield 46, 3) := dk_180 0 46 (dk_at dksX9_isWayRight_9 14 rfl rfl)
theorem dX9_isWayRight_229 : decode cX9_isWayRight 229 = .ok (.iload 7, 2) := dk_21 7 (dk_at dksX9_isWayRight_9 17 rfl rfl)
theorem dX9_isWayRight_231 : decode cX9_isWayRight 231 = .ok (.aload_n 0, 1) := dk_42 (dk_at dksX9_isWayRight_9 19 rfl rfl)
theorem dX9_isWayRight_232 : decode cX9_isWayRight 232 = .ok (.getfield 178, 3) := dk_180 0 178 (dk_at dksX9_isWayRight_9 20 rfl rfl)
theorem dX9_isWayRight_235 : decode cX9_isWayRight 235 = .ok (.iconst 0, 1) := dk_3 (dk_at dksX9_isWayRight_9 23 rfl rfl)
theorem dX9_isWayRight_236 : decode cX9_isWayRight 236 = .ok (.aload_n 0, 1) := dk_42 (dk_at dksX9_isWayRight_10 0 rfl rfl)
theorem dX9_isWayRight_237 : decode cX9_isWayRight 237 = .ok (.getfield 178, 3) := dk_180 0 178 (dk_at dksX9_isWayRight_10 1 rfl rfl)
theorem dX9_isWayRight_240 : decode cX9_isWayRight 240 = .ok (.iconst 0, 1) := dk_3 (dk_at dksX9_isWayRight_10 4 rfl rfl)
theorem dX9_isWayRight_241 : decode cX9_isWayRight 241 = .ok (.invokevirtual 204, 3) := dk_182 0 204 (dk_at dksX9_isWayRight_10 5 rfl rfl)
theorem dX9_isWayRight_244 : decode cX9_isWayRight 244 = .ok (.goto 23, 3) := dk_167 0 23 (dk_at dksX9_isWayRight_10 8 rfl rfl)
theorem dX9_isWayRight_247 : decode cX9_isWayRight 247 = .ok (.aload_n 0, 1) := dk_42 (dk_at dksX9_isWayRight_10 11 rfl rfl)
theorem dX9_isWayRight_248 : decode cX9_isWayRight 248 = .ok (.aload_n 0, 1) := dk_42 (dk_at dksX9_isWayRight_10 12 rfl rfl)
theorem dX9_isWayRight_249 : decode cX9_isWayRight 249 = .ok (.getfield 178, 3) := dk_180 0 178 (dk_at dksX9_isWayRight_10 13 rfl rfl)
theorem dX9_isWayRight_252 : decode cX9_isWayRight 252 = .ok (.iconst 0, 1) := dk_3 (dk_at dksX9_isWayRight_10 16 rfl rfl)
theorem dX9_isWayRight_253 : decode cX9_isWayRight 253 = .ok (.aload_n 0, 1) := dk_42 (dk_at dksX9_isWayRight_10 17 rfl rfl)
theorem dX9_isWayRight_254 : decode cX9_isWayRight 254 = .ok (.getfield 46, 3) := dk_180 0 46 (dk_at dksX9_isWayRight_10 18 rfl rfl)
theorem dX9_isWayRight_257 : decode cX9_isWayRight 257 = .ok (.iload 7, 2) := dk_21 7 (dk_at dksX9_isWayRight_10 21 rfl rfl)
theorem dX9_isWayRight_259 : decode cX9_isWayRight 259 = .ok (.aload_n 0, 1) := dk_42 (dk_at dksX9_isWayRight_10 23 rfl rfl)
theorem dX9_isWayRight_260 : decode cX9_isWayRight 260 = .ok (.getfield 178, 3) := dk_180 0 178 (dk_at dksX9_isWayRight_11 0 rfl rfl)
theorem dX9_isWayRight_263 : decode cX9_isWayRight 263 = .ok (.iconst 0, 1) := dk_3 (dk_at dksX9_isWayRight_11 3 rfl rfl)
theorem dX9_isWayRight_264 : decode cX9_isWayRight 264 = .ok (.invokevirtual 204, 3) := dk_182 0 204 (dk_at dksX9_isWayRight_11 4 rfl rfl)
theorem dX9_isWayRight_267 : decode cX9_isWayRight 267 = .ok (.iinc 6 (-1), 3) := dk_132 6 255 (dk_at dksX9_isWayRight_11 7 rfl rfl)
theorem dX9_isWayRight_270 : decode cX9_isWayRight 270 = .ok (.goto (-77), 3) := dk_167 255 179 (dk_at dksX9_isWayRight_11 10 rfl rfl)
theorem dX9_isWayRight_273 : decode cX9_isWayRight 273 = .ok (.aload_n 0, 1) := dk_42 (dk_at dksX9_isWayRight_11 13 rfl rfl)
theorem dX9_isWayRight_274 : decode cX9_isWayRight 274 = .ok (.getfield 178, 3) := dk_180 0 178 (dk_at dksX9_isWayRight_11 14 rfl rfl)
theorem dX9_isWayRight_277 : decode cX9_isWayRight 277 = .ok (.iconst 0, 1) := dk_3 (dk_at dksX9_isWayRight_11 17 rfl rfl)
theorem dX9_isWayRight_278 : decode cX9_isWayRight 278 = .ok (.aload_n 2, 1) := dk_44 (dk_at dksX9_isWayRight_11 18 rfl rfl)
theorem dX9_isWayRight_279 : decode cX9_isWayRight 279 = .ok (.iload_n 3, 1) := dk_29 (dk_at dksX9_isWayRight_11 19 rfl rfl)
theorem dX9_isWayRight_280 : decode cX9_isWayRight 280 = .ok (.bipush 12, 2) := dk_16 12 (dk_at dksX9_isWayRight_11 20 rfl rfl)
theorem dX9_isWayRight_282 : decode cX9_isWayRight 282 = .ok (.iadd, 1) := dk_96 (dk_at dksX9_isWayRight_11 22 rfl rfl)
theorem dX9_isWayRight_283 : decode cX9_isWayRight 283 = .ok (.invokestatic 318, 3) := dk_184 1 62 (dk_at dksX9_isWayRight_12 0 rfl rfl)
theorem dX9_isWayRight_286 : decode cX9_isWayRight 286 = .ok (.ireturn, 1) := dk_172 (dk_at dksX9_isWayRight_12 3 rfl rfl)
abbrev cX9_take : ByteArray := prog_17_method_63_code
def yX9_take : MethodName := ⟨RX9, "take", "(III)I"⟩
def dkwX9_take_6 : List UInt8 := [184, 1, 83, 42, 180, 0, 52, 27, 4, 84, 4, 172]
abbrev dktX9_take_6 : List UInt8 := dkwX9_take_6 ++ []
def dkwX9_take_5 : List UInt8 := [42, 180, 0, 49, 21, 4, 46, 163, 0, 5, 4, 172, 42, 180, 0, 169, 3, 42, 180, 0, 49, 21, 4, 3]
abbrev dktX9_take_5 : List UInt8 := dkwX9_take_5 ++ dktX9_take_6
def dkwX9_take_4 : List UInt8 := [182, 1, 90, 42, 180, 0, 49, 21, 4, 6, 96, 92, 46, 4, 96, 79, 3, 172, 42, 180, 0, 169, 3, 46]
abbrev dktX9_take_4 : List UInt8 := dkwX9_take_4 ++ dktX9_take_5
def dkwX9_take_3 : List UInt8 := [42, 180, 0, 169, 3, 182, 1, 87, 154, 0, 33, 42, 42, 180, 0, 49, 21, 4, 42, 180, 0, 169, 3]
abbrev dktX9_take_3 : List UInt8 := dkwX9_take_3 ++ dktX9_take_4
def dkwX9_take_2 : List UInt8 := [180, 0, 49, 21, 4, 5, 96, 46, 42, 180, 0, 169, 5, 46, 160, 0, 69, 42, 42, 180, 0, 49, 21, 4]
abbrev dktX9_take_2 : List UInt8 := dkwX9_take_2 ++ dktX9_take_3
def dkwX9_take_1 : List UInt8 := [180, 0, 169, 3, 182, 1, 29, 16, 28, 27, 104, 54, 4, 42, 180, 0, 52, 27, 51, 153, 0, 87, 42]
abbrev dktX9_take_1 : List UInt8 := dkwX9_take_1 ++ dktX9_take_2
def dkwX9_take_0 : List UInt8 := [42, 27, 182, 1, 66, 153, 0, 12, 42, 28, 29, 182, 1, 21, 154, 0, 5, 2, 172, 42, 28, 29, 42]
abbrev dktX9_take_0 : List UInt8 := dkwX9_take_0 ++ dktX9_take_1
theorem dksX9_take_0 : cX9_take.data.toList.drop 0 = dktX9_take_0 := by decide +kernel
theorem dksX9_take_1 : cX9_take.data.toList.drop 23 = dktX9_take_1 := dk_seg dksX9_take_0 23 rfl rfl
theorem dksX9_take_2 : cX9_take.data.toList.drop 46 = dktX9_take_2 := dk_seg dksX9_take_1 23 rfl rfl
theorem dksX9_take_3 : cX9_take.data.toList.drop 70 = dktX9_take_3 := dk_seg dksX9_take_2 24 rfl rfl
theorem dksX9_take_4 : cX9_take.data.toList.drop 93 = dktX9_take_4 := dk_seg dksX9_take_3 23 rfl rfl
theorem dksX9_take_5 : cX9_take.data.toList.drop 117 = dktX9_take_5 := dk_seg dksX9_take_4 24 rfl rfl
theorem dksX9_take_6 : cX9_take.data.toList.drop 141 = dktX9_take_6 := dk_seg dksX9_take_5 24 rfl rfl
theorem dX9_take_0 : decode cX9_take 0 = .ok (.aload_n 0, 1) := dk_42 (dk_at dksX9_take_0 0 rfl rfl)
theorem dX9_take_1 : decode cX9_take 1 = .ok (.iload_n 1, 1) := dk_27 (dk_at dksX9_take_0 1 rfl rfl)
theorem dX9_take_2 : decode cX9_take 2 = .ok (.invokevirtual 322, 3) := dk_182 1 66 (dk_at dksX9_take_0 2 rfl rfl)
theorem dX9_take_5 : decode cX9_take 5 = .ok (.ifCond .eq 12, 3) := dk_153 0 12 (dk_at dksX9_take_0 5 rfl rfl)
theorem dX9_take_8 : decode cX9_take 8 = .ok (.aload_n 0, 1) := dk_42 (dk_at dksX9_take_0 8 rfl rfl)
theorem dX9_take_9 : decode cX9_take 9 = .ok (.iload_n 2, 1) := dk_28 (dk_at dksX9_take_0 9 rfl rfl)
theorem dX9_take_10 : decode cX9_take 10 = .ok (.iload_n 3, 1) := dk_29 (dk_at dksX9_take_0 10 rfl rfl)
theorem dX9_take_11 : decode cX9_take 11 = .ok (.invokevirtual 277, 3) := dk_182 1 21 (dk_at dksX9_take_0 11 rfl rfl)
theorem dX9_take_14 : decode cX9_take 14 = .ok (.ifCond .ne 5, 3) := dk_154 0 5 (dk_at dksX9_take_0 14 rfl rfl)
theorem dX9_take_17 : decode cX9_take 17 = .ok (.iconst (-1), 1) := dk_2 (dk_at dksX9_take_0 17 rfl rfl)
theorem dX9_take_18 : decode cX9_take 18 = .ok (.ireturn, 1) := dk_172 (dk_at dksX9_take_0 18 rfl rfl)
theorem dX9_take_19 : decode cX9_take 19 = .ok (.aload_n 0, 1) := dk_42 (dk_at dksX9_take_0 19 rfl rfl)
theorem dX9_take_20 : decode cX9_take 20 = .ok (.iload_n 2, 1) := dk_28 (dk_at dksX9_take_0 20 rfl rfl)
theorem dX9_take_21 : decode cX9_take 21 = .ok (.iload_n 3, 1) := dk_29 (dk_at dksX9_take_0 21 rfl rfl)
theorem dX9_take_22 : decode cX9_take 22 = .ok (.aload_n 0, 1) := dk_42 (dk_at dksX9_take_0 22 rfl rfl)
theorem dX9_take_23 : decode cX9_take 23 = .ok (.getfield 169, 3) := dk_180 0 169 (dk_at dksX9_take_1 0 rfl rfl)
theorem dX9_take_26 : decode cX9_take 26 = .ok (.iconst 0, 1) := dk_3 (dk_at dksX9_take_1 3 rfl rfl)
theorem dX9_take_27 : decode cX9_take 27 = .ok (.invokevirtual 285, 3) := dk_182 1 29 (dk_at dksX9_take_1 4 rfl rfl)
theorem dX9_take_30 : decode cX9_take 30 = .ok (.bipush 28, 2) := dk_16 28 (dk_at dksX9_take_1 7 rfl rfl)
theorem dX9_take_32 : decode cX9_take 32 = .ok (.iload_n 1, 1) := dk_27 (dk_at dksX9_take_1 9 rfl rfl)
theorem dX9_take_33 : decode cX9_take 33 = .ok (.imul, 1) := dk_104 (dk_at dksX9_take_1 10 rfl rfl)
theorem dX9_take_34 : decode cX9_take 34 = .ok (.istore 4, 2) := dk_54 4 (dk_at dksX9_take_1 11 rfl rfl)
theorem dX9_take_36 : decode cX9_take 36 = .ok (.aload_n 0, 1) := dk_42 (dk_at dksX9_take_1 13 rfl rfl)
theorem dX9_take_37 : decode cX9_take 37 = .ok (.getfield 52, 3) := dk_180 0 52 (dk_at dksX9_take_1 14 rfl rfl)
theorem dX9_take_40 : decode cX9_take 40 = .ok (.iload_n 1, 1) := dk_27 (dk_at dksX9_take_1 17 rfl rfl)
theorem dX9_take_41 : decode cX9_take 41 = .ok (.baload, 1) := dk_51 (dk_at dksX9_take_1 18 rfl rfl)
theorem dX9_take_42 : decode cX9_take 42 = .ok (.ifCond .eq 87, 3) := dk_153 0 87 (dk_at dksX9_take_1 19 rfl rfl)
theorem dX9_take_45 : decode cX9_take 45 = .ok (.aload_n 0, 1) := dk_42 (dk_at dksX9_take_1 22 rfl rfl)
theorem dX9_take_46 : decode cX9_take 46 = .ok (.getfield 49, 3) := dk_180 0 49 (dk_at dksX9_take_2 0 rfl rfl)
theorem dX9_take_49 : decode cX9_take 49 = .ok (.iload 4, 2) := dk_21 4 (dk_at dksX9_take_2 3 rfl rfl)
theorem dX9_take_51 : decode cX9_take 51 = .ok (.iconst 2, 1) := dk_5 (dk_at dksX9_take_2 5 rfl rfl)
theorem dX9_take_52 : decode cX9_take 52 = .ok (.iadd, 1) := dk_96 (dk_at dksX9_take_2 6 rfl rfl)
theorem dX9_take_53 : decode cX9_take 53 = .ok (.iaload, 1) := dk_46 (dk_at dksX9_take_2 7 rfl rfl)
theorem dX9_take_54 : decode cX9_take 54 = .ok (.aload_n 0, 1) := dk_42 (dk_at dksX9_take_2 8 rfl rfl)
theorem dX9_take_55 : decode cX9_take 55 = .ok (.getfield 169, 3) := dk_180 0 169 (dk_at dksX9_take_2 9 rfl rfl)
theorem dX9_take_58 : decode cX9_take 58 = .ok (.iconst 2, 1) := dk_5 (dk_at dksX9_take_2 12 rfl rfl)
theorem dX9_take_59 : decode cX9_take 59 = .ok (.iaload, 1) := dk_46 (dk_at dksX9_take_2 13 rfl rfl)
theorem dX9_take_60 : decode cX9_take 60 = .ok (.if_icmp .ne 69, 3) := dk_160 0 69 (dk_at dksX9_take_2 14 rfl rfl)
theorem dX9_take_63 : decode cX9_take 63 = .ok (.aload_n 0, 1) := dk_42 (dk_at dksX9_take_2 17 rfl rfl)
theorem dX9_take_64 : decode cX9_take 64 = .ok (.aload_n 0, 1) := dk_42 (dk_at dksX9_take_2 18 rfl rfl)
theorem dX9_take_65 : decode cX9_take 65 = .ok (.getfield 49, 3) := dk_180 0 49 (dk_at dksX9_take_2 19 rfl rfl)
theorem dX9_take_68 : decode cX9_take 68 = .ok (.iload 4, 2) := dk_21 4 (dk_at dksX9_take_2 22 rfl rfl)
theorem dX9_take_70 : decode cX9_take 70 = .ok (.aload_n 0, 1) := dk_42 (dk_at dksX9_take_3 0 rfl rfl)
theorem dX9_take_71 : decode cX9_take 71 = .ok (.getfield 169, 3) := dk_180 0 169 (dk_at dksX9_take_3 1 rfl rfl)
theorem dX9_take_74 : decode cX9_take 74 = .ok (.iconst 0, 1) := dk_3 (dk_at dksX9_take_3 4 rfl rfl)
theorem dX9_take_75 : decode cX9_take 75 = .ok (.invokevirtual 343, 3) := dk_182 1 87 (dk_at dksX9_take_3 5 rfl rfl)
theorem dX9_take_78 : decode cX9_take 78 = .ok (.ifCond .ne 33, 3) := dk_154 0 33 (dk_at dksX9_take_3 8 rfl rfl)
theorem dX9_take_81 : decode cX9_take 81 = .ok (.aload_n 0, 1) := dk_42 (dk_at dksX9_take_3 11 rfl rfl)
theorem dX9_take_82 : decode cX9_take 82 = .ok (.aload_n 0, 1) := dk_42 (dk_at dksX9_take_3 12 rfl rfl)
theorem dX9_take_83 : decode cX9_take 83 = .ok (.getfield 49, 3) := dk_180 0 49 (dk_at dksX9_take_3 13 rfl rfl)
theorem dX9_take_86 : decode cX9_take 86 = .ok (.iload 4, 2) := dk_21 4 (dk_at dksX9_take_3 16 rfl rfl)
theorem dX9_take_88 : decode cX9_take 88 = .ok (.aload_n 0, 1) := dk_42 (dk_at dksX9_take_3 18 rfl rfl)
theorem dX9_take_89 : decode cX9_take 89 = .ok (.getfield 169, 3) := dk_180 0 169 (dk_at dksX9_take_3 19 rfl rfl)
theorem dX9_take_92 : decode cX9_take 92 = .ok (.iconst 0, 1) := dk_3 (dk_at dksX9_take_3 22 rfl rfl)
theorem dX9_take_93 : decode cX9_take 93 = .ok (.invokevirtual 346, 3) := dk_182 1 90 (dk_at dksX9_take_4 0 rfl rfl)
theorem dX9_take_96 : decode cX9_take 96 = .ok (.aload_n 0, 1) := dk_42 (dk_at dksX9_take_4 3 rfl rfl)
theorem dX9_take_97 : decode cX9_take 97 = .ok (.getfield 49, 3) := dk_180 0 49 (dk_at dksX9_take_4 4 rfl rfl)
theorem dX9_take_100 : decode cX9_take 100 = .ok (.iload 4, 2) := dk_21 4 (dk_at dksX9_take_4 7 rfl rfl)
theorem dX9_take_102 : decode cX9_take 102 = .ok (.iconst 3, 1) := dk_6 (dk_at dksX9_take_4 9 rfl rfl)
theorem dX9_take_103 : decode cX9_take 103 = .ok (.iadd, 1) := dk_96 (dk_at dksX9_take_4 10 rfl rfl)
theorem dX9_take_104 : decode cX9_take 104 = .ok (.dup2, 1) := dk_92 (dk_at dksX9_take_4 11 rfl rfl)
theorem dX9_take_105 : decode cX9_take 105 = .ok (.iaload, 1) := dk_46 (dk_at dksX9_take_4 12 rfl rfl)
theorem dX9_take_106 : decode cX9_take 106 = .ok (.iconst 1, 1) := dk_4 (dk_at dksX9_take_4 13 rfl rfl)
theorem dX9_take_107 : decode cX9_take 107 = .ok (.iadd, 1) := dk_96 (dk_at dksX9_take_4 14 rfl rfl)
theorem dX9_take_108 : decode cX9_take 108 = .ok (.iastore, 1) := dk_79 (dk_at dksX9_take_4 15 rfl rfl)
theorem dX9_take_109 : decode cX9_take 109 = .ok (.iconst 0, 1) := dk_3 (dk_at dksX9_take_4 16 rfl rfl)
theorem dX9_take_110 : decode cX9_take 110 = .ok (.ireturn, 1) := dk_172 (dk_at dksX9_take_4 17 rfl rfl)
theorem dX9_take_111 : decode cX9_take 111 = .ok (.aload_n 0, 1) := dk_42 (dk_at dksX9_take_4 18 rfl rfl)
theorem dX9_take_112 : decode cX9_take 112 = .ok (.getfield 169, 3) := dk_180 0 169 (dk_at dksX9_take_4 19 rfl rfl)
theorem dX9_take_115 : decode cX9_take 115 = .ok (.iconst 0, 1) := dk_3 (dk_at dksX9_take_4 22 rfl rfl)
theorem dX9_take_116 : decode cX9_take 116 = .ok (.iaload, 1) := dk_46 (dk_at dksX9_take_4 23 rfl rfl)
theorem dX9_take_117 : decode cX9_take 117 = .ok (.aload_n 0, 1) := dk_42 (dk_at dksX9_take_5 0 rfl rfl)
theorem dX9_take_118 : decode cX9_take 118 = .ok (.getfield 49, 3) := dk_180 0 49 (dk_at dksX9_take_5 1 rfl rfl)
theorem dX9_take_121 : decode cX9_take 121 = .ok (.iload 4, 2) := dk_21 4 (dk_at dksX9_take_5 4 rfl rfl)
theorem dX9_take_123 : decode cX9_take 123 = .ok (.iaload, 1) := dk_46 (dk_at dksX9_take_5 6 rfl rfl)
theorem dX9_take_124 : decode cX9_take 124 = .ok (.if_icmp .gt 5, 3) := dk_163 0 5 (dk_at dksX9_take_5 7 rfl rfl)
theorem dX9_take_127 : decode cX9_take 127 = .ok (.iconst 1, 1) := dk_4 (dk_at dksX9_take_5 10 rfl rfl)
theorem dX9_take_128 : decode cX9_take 128 = .ok (.ireturn, 1) := dk_172 (dk_at dksX9_take_5 11 rfl rfl)
theorem dX9_take_129 : decode cX9_take 129 = .ok (.aload_n 0, 1) := dk_42 (dk_at dksX9_take_5 12 rfl rfl)
theorem dX9_take_130 : decode cX9_take 130 = .ok (.getfield 169, 3) := dk_180 0 169 (dk_at dksX9_take_5 13 rfl rfl)
theorem dX9_take_133 : decode cX9_take 133 = .ok (.iconst 0, 1) := dk_3 (dk_at dksX9_take_5 16 rfl rfl)
theorem dX9_take_134 : decode cX9_take 134 = .ok (.aload_n 0, 1) := dk_42 (dk_at dksX9_take_5 17 rfl rfl)
theorem dX9_take_135 : decode cX9_take 135 = .ok (.getfield 49, 3) := dk_180 0 49 (dk_at dksX9_take_5 18 rfl rfl)
theorem dX9_take_138 : decode cX9_take 138 = .ok (.iload 4, 2) := dk_21 4 (dk_at dksX9_take_5 21 rfl rfl)
theorem dX9_take_140 : decode cX9_take 140 = .ok (.iconst 0, 1) := dk_3 (dk_at dksX9_take_5 23 rfl rfl)
theorem dX9_take_141 : decode cX9_take 141 = .ok (.invokestatic 339, 3) := dk_184 1 83 (dk_at dksX9_take_6 0 rfl rfl)
theorem dX9_take_144 : decode cX9_take 144 = .ok (.aload_n 0, 1) := dk_42 (dk_at dksX9_take_6 3 rfl rfl)
theorem dX9_take_145 : decode cX9_take 145 = .ok (.getfield 52, 3) := dk_180 0 52 (dk_at dksX9_take_6 4 rfl rfl)
theorem dX9_take_148 : decode cX9_take 148 = .ok (.iload_n 1, 1) := dk_27 (dk_at dksX9_take_6 7 rfl rfl)
theorem dX9_take_149 : decode cX9_take 149 = .ok (.iconst 1, 1) := dk_4 (dk_at dksX9_take_6 8 rfl rfl)
theorem dX9_take_150 : decode cX9_take 150 = .ok (.bastore, 1) := dk_84 (dk_at dksX9_take_6 9 rfl rfl)
theorem dX9_take_151 : decode cX9_take 151 = .ok (.iconst 1, 1) := dk_4 (dk_at dksX9_take_6 10 rfl rfl)
theorem dX9_take_152 : decode cX9_take 152 = .ok (.ireturn, 1) := dk_172 (dk_at dksX9_take_6 11 rfl rfl)
abbrev cX9_agree : ByteArray := prog_17_method_60_code
def yX9_agree : MethodName := ⟨RX9, "agree", "([II[II)Z"⟩
def dkwX9_agree_8 : List UInt8 := [42, 180, 0, 181, 3, 182, 1, 2, 42, 180, 0, 181, 3, 25, 8, 21, 9, 7, 96, 184, 1, 62, 172]
abbrev dktX9_agree_8 : List UInt8 := dkwX9_agree_8 ++ []
def dkwX9_agree_7 : List UInt8 := [3, 172, 42, 25, 8, 21, 9, 4, 96, 46, 25, 6, 21, 7, 46, 25, 8, 21, 9, 46, 182, 0, 254, 42]
abbrev dktX9_agree_7 : List UInt8 := dkwX9_agree_7 ++ dktX9_agree_8
def dkwX9_agree_6 : List UInt8 := [180, 0, 181, 3, 182, 1, 2, 42, 180, 0, 181, 3, 25, 6, 21, 7, 7, 96, 184, 1, 62, 154, 0, 5]
abbrev dktX9_agree_6 : List UInt8 := dkwX9_agree_6 ++ dktX9_agree_7
def dkwX9_agree_5 : List UInt8 := [3, 181, 0, 208, 42, 25, 8, 21, 9, 4, 96, 46, 3, 25, 6, 21, 7, 46, 182, 0, 254, 42, 42]
abbrev dktX9_agree_5 : List UInt8 := dkwX9_agree_5 ++ dktX9_agree_6
def dkwX9_agree_4 : List UInt8 := [153, 0, 7, 45, 167, 0, 4, 43, 58, 8, 21, 5, 153, 0, 8, 21, 4, 167, 0, 4, 28, 54, 9, 42]
abbrev dktX9_agree_4 : List UInt8 := dkwX9_agree_4 ++ dktX9_agree_5
def dkwX9_agree_3 : List UInt8 := [43, 167, 0, 4, 45, 58, 6, 21, 5, 153, 0, 7, 28, 167, 0, 5, 21, 4, 54, 7, 21, 5]
abbrev dktX9_agree_3 : List UInt8 := dkwX9_agree_3 ++ dktX9_agree_4
def dkwX9_agree_2 : List UInt8 := [3, 172, 43, 28, 46, 45, 21, 4, 46, 162, 0, 7, 4, 167, 0, 4, 3, 54, 5, 21, 5, 153, 0, 7]
abbrev dktX9_agree_2 : List UInt8 := dkwX9_agree_2 ++ dktX9_agree_3
def dkwX9_agree_1 : List UInt8 := [153, 0, 24, 43, 28, 16, 12, 96, 45, 21, 4, 16, 12, 96, 184, 1, 62, 153, 0, 7, 4, 167, 0, 4]
abbrev dktX9_agree_1 : List UInt8 := dkwX9_agree_1 ++ dktX9_agree_2
def dkwX9_agree_0 : List UInt8 := [43, 28, 46, 45, 21, 4, 46, 160, 0, 41, 43, 28, 7, 96, 45, 21, 4, 7, 96, 184, 1, 62]
abbrev dktX9_agree_0 : List UInt8 := dkwX9_agree_0 ++ dktX9_agree_1
theorem dksX9_agree_0 : cX9_agree.data.toList.drop 0 = dktX9_agree_0 := by decide +kernel
theorem dksX9_agree_1 : cX9_agree.data.toList.drop 22 = dktX9_agree_1 := dk_seg dksX9_agree_0 22 rfl rfl
theorem dksX9_agree_2 : cX9_agree.data.toList.drop 46 = dktX9_agree_2 := dk_seg dksX9_agree_1 24 rfl rfl
theorem dksX9_agree_3 : cX9_agree.data.toList.drop 70 = dktX9_agree_3 := dk_seg dksX9_agree_2 24 rfl rfl
theorem dksX9_agree_4 : cX9_agree.data.toList.drop 92 = dktX9_agree_4 := dk_seg dksX9_agree_3 22 rfl rfl
theorem dksX9_agree_5 : cX9_agree.data.toList.drop 116 = dktX9_agree_5 := dk_seg dksX9_agree_4 24 rfl rfl
theorem dksX9_agree_6 : cX9_agree.data.toList.drop 139 = dktX9_agree_6 := dk_seg dksX9_agree_5 23 rfl rfl
theorem dksX9_agree_7 : cX9_agree.data.toList.drop 163 = dktX9_agree_7 := dk_seg dksX9_agree_6 24 rfl rfl
theorem dksX9_agree_8 : cX9_agree.data.toList.drop 187 = dktX9_agree_8 := dk_seg dksX9_agree_7 24 rfl rfl
theorem dX9_agree_0 : decode cX9_agree 0 = .ok (.aload_n 1, 1) := dk_43 (dk_at dksX9_agree_0 0 rfl rfl)
theorem dX9_agree_1 : decode cX9_agree 1 = .ok (.iload_n 2, 1) := dk_28 (dk_at dksX9_agree_0 1 rfl rfl)
theorem dX9_agree_2 : decode cX9_agree 2 = .ok (.iaload, 1) := dk_46 (dk_at dksX9_agree_0 2 rfl rfl)
theorem dX9_agree_3 : decode cX9_agree 3 = .ok (.aload_n 3, 1) := dk_45 (dk_at dksX9_agree_0 3 rfl rfl)
theorem dX9_agree_4 : decode cX9_agree 4 = .ok (.iload 4, 2) := dk_21 4 (dk_at dksX9_agree_0 4 rfl rfl)
theorem dX9_agree_6 : decode cX9_agree 6 = .ok (.iaload, 1) := dk_46 (dk_at dksX9_agree_0 6 rfl rfl)
theorem dX9_agree_7 : decode cX9_agree 7 = .ok (.if_icmp .ne 41, 3) := dk_160 0 41 (dk_at dksX9_agree_0 7 rfl rfl)
theorem dX9_agree_10 : decode cX9_agree 10 = .ok (.aload_n 1, 1) := dk_43 (dk_at dksX9_agree_0 10 rfl rfl)
theorem dX9_agree_11 : decode cX9_agree 11 = .ok (.iload_n 2, 1) := dk_28 (dk_at dksX9_agree_0 11 rfl rfl)
theorem dX9_agree_12 : decode cX9_agree 12 = .ok (.iconst 4, 1) := dk_7 (dk_at dksX9_agree_0 12 rfl rfl)
theorem dX9_agree_13 : decode cX9_agree 13 = .ok (.iadd, 1) := dk_96 (dk_at dksX9_agree_0 13 rfl rfl)
theorem dX9_agree_14 : decode cX9_agree 14 = .ok (.aload_n 3, 1) := dk_45 (dk_at dksX9_agree_0 14 rfl rfl)
theorem dX9_agree_15 : decode cX9_agree 15 = .ok (.iload 4, 2) := dk_21 4 (dk_at dksX9_agree_0 15 rfl rfl)
theorem dX9_agree_17 : decode cX9_agree 17 = .ok (.iconst 4, 1) := dk_7 (dk_at dksX9_agree_0 17 rfl rfl)
theorem dX9_agree_18 : decode cX9_agree 18 = .ok (.iadd, 1) := dk_96 (dk_at dksX9_agree_0 18 rfl rfl)
theorem dX9_agree_19 : decode cX9_agree 19 = .ok (.invokestatic 318, 3) := dk_184 1 62 (dk_at dksX9_agree_0 19 rfl rfl)
theorem dX9_agree_22 : decode cX9_agree 22 = .ok (.ifCond .eq 24, 3) := dk_153 0 24 (dk_at dksX9_agree_1 0 rfl rfl)
theorem dX9_agree_25 : decode cX9_agree 25 = .ok (.aload_n 1, 1) := dk_43 (dk_at dksX9_agree_1 3 rfl rfl)
theorem dX9_agree_26 : decode cX9_agree 26 = .ok (.iload_n 2, 1) := dk_28 (dk_at dksX9_agree_1 4 rfl rfl)
theorem dX9_agree_27 : decode cX9_agree 27 = .ok (.bipush 12, 2) := dk_16 12 (dk_at dksX9_agree_1 5 rfl rfl)
theorem dX9_agree_29 : decode cX9_agree 29 = .ok (.iadd, 1) := dk_96 (dk_at dksX9_agree_1 7 rfl rfl)
theorem dX9_agree_30 : decode cX9_agree 30 = .ok (.aload_n 3, 1) := dk_45 (dk_at dksX9_agree_1 8 rfl rfl)
theorem dX9_agree_31 : decode cX9_agree 31 = .ok (.iload 4, 2) := dk_21 4 (dk_at dksX9_agree_1 9 rfl rfl)
theorem dX9_agree_33 : decode cX9_agree 33 = .ok (.bipush 12, 2) := dk_16 12 (dk_at dksX9_agree_1 11 rfl rfl)
theorem dX9_agree_35 : decode cX9_agree 35 = .ok (.iadd, 1) := dk_96 (dk_at dksX9_agree_1 13 rfl rfl)
theorem dX9_agree_36 : decode cX9_agree 36 = .ok (.invokestatic 318, 3) := dk_184 1 62 (dk_at dksX9_agree_1 14 rfl rfl)
theorem dX9_agree_39 : decode cX9_agree 39 = .ok (.ifCond .eq 7, 3) := dk_153 0 7 (dk_at dksX9_agree_1 17 rfl rfl)
theorem dX9_agree_42 : decode cX9_agree 42 = .ok (.iconst 1, 1) := dk_4 (dk_at dksX9_agree_1 20 rfl rfl)
theorem dX9_agree_43 : decode cX9_agree 43 = .ok (.goto 4, 3) := dk_167 0 4 (dk_at dksX9_agree_1 21 rfl rfl)
theorem dX9_agree_46 : decode cX9_agree 46 = .ok (.iconst 0, 1) := dk_3 (dk_at dksX9_agree_2 0 rfl rfl)
theorem dX9_agree_47 : decode cX9_agree 47 = .ok (.ireturn, 1) := dk_172 (dk_at dksX9_agree_2 1 rfl rfl)
theorem dX9_agree_48 : decode cX9_agree 48 = .ok (.aload_n 1, 1) := dk_43 (dk_at dksX9_agree_2 2 rfl rfl)
theorem dX9_agree_49 : decode cX9_agree 49 = .ok (.iload_n 2, 1) := dk_28 (dk_at dksX9_agree_2 3 rfl rfl)
theorem dX9_agree_50 : decode cX9_agree 50 = .ok (.iaload, 1) := dk_46 (dk_at dksX9_agree_2 4 rfl rfl)
theorem dX9_agree_51 : decode cX9_agree 51 = .ok (.aload_n 3, 1) := dk_45 (dk_at dksX9_agree_2 5 rfl rfl)
theorem dX9_agree_52 : decode cX9_agree 52 = .ok (.iload 4, 2) := dk_21 4 (dk_at dksX9_agree_2 6 rfl rfl)
theorem dX9_agree_54 : decode cX9_agree 54 = .ok (.iaload, 1) := dk_46 (dk_at dksX9_agree_2 8 rfl rfl)
theorem dX9_agree_55 : decode cX9_agree 55 = .ok (.if_icmp .ge 7, 3) := dk_162 0 7 (dk_at dksX9_agree_2 9 rfl rfl)
theorem dX9_agree_58 : decode cX9_agree 58 = .ok (.iconst 1, 1) := dk_4 (dk_at dksX9_agree_2 12 rfl rfl)
theorem dX9_agree_59 : decode cX9_agree 59 = .ok (.goto 4, 3) := dk_167 0 4 (dk_at dksX9_agree_2 13 rfl rfl)
theorem dX9_agree_62 : decode cX9_agree 62 = .ok (.iconst 0, 1) := dk_3 (dk_at dksX9_agree_2 16 rfl rfl)
theorem dX9_agree_63 : decode cX9_agree 63 = .ok (.istore 5, 2) := dk_54 5 (dk_at dksX9_agree_2 17 rfl rfl)
theorem dX9_agree_65 : decode cX9_agree 65 = .ok (.iload 5, 2) := dk_21 5 (dk_at dksX9_agree_2 19 rfl rfl)
theorem dX9_agree_67 : decode cX9_agree 67 = .ok (.ifCond .eq 7, 3) := dk_153 0 7 (dk_at dksX9_agree_2 21 rfl rfl)
theorem dX9_agree_70 : decode cX9_agree 70 = .ok (.aload_n 1, 1) := dk_43 (dk_at dksX9_agree_3 0 rfl rfl)
theorem dX9_agree_71 : decode cX9_agree 71 = .ok (.goto 4, 3) := dk_167 0 4 (dk_at dksX9_agree_3 1 rfl rfl)
theorem dX9_agree_74 : decode cX9_agree 74 = .ok (.aload_n 3, 1) := dk_45 (dk_at dksX9_agree_3 4 rfl rfl)
theorem dX9_agree_75 : decode cX9_agree 75 = .ok (.astore 6, 2) := dk_58 6 (dk_at dksX9_agree_3 5 rfl rfl)
theorem dX9_agree_77 : decode cX9_agree 77 = .ok (.iload 5, 2) := dk_21 5 (dk_at dksX9_agree_3 7 rfl rfl)
theorem dX9_agree_79 : decode cX9_agree 79 = .ok (.ifCond .eq 7, 3) := dk_153 0 7 (dk_at dksX9_agree_3 9 rfl rfl)
theorem dX9_agree_82 : decode cX9_agree 82 = .ok (.iload_n 2, 1) := dk_28 (dk_at dksX9_agree_3 12 rfl rfl)
theorem dX9_agree_83 : decode cX9_agree 83 = .ok (.goto 5, 3) := dk_167 0 5 (dk_at dksX9_agree_3 13 rfl rfl)
theorem dX9_agree_86 : decode cX9_agree 86 = .ok (.iload 4, 2) := dk_21 4 (dk_at dksX9_agree_3 16 rfl rfl)
theorem dX9_agree_88 : decode cX9_agree 88 = .ok (.istore 7, 2) := dk_54 7 (dk_at dksX9_agree_3 18 rfl rfl)
theorem dX9_agree_90 : decode cX9_agree 90 = .ok (.iload 5, 2) := dk_21 5 (dk_at dksX9_agree_3 20 rfl rfl)
theorem dX9_agree_92 : decode cX9_agree 92 = .ok (.ifCond .eq 7, 3) := dk_153 0 7 (dk_at dksX9_agree_4 0 rfl rfl)
theorem dX9_agree_95 : decode cX9_agree 95 = .ok (.aload_n 3, 1) := dk_45 (dk_at dksX9_agree_4 3 rfl rfl)
theorem dX9_agree_96 : decode cX9_agree 96 = .ok (.goto 4, 3) := dk_167 0 4 (dk_at dksX9_agree_4 4 rfl rfl)
theorem dX9_agree_99 : decode cX9_agree 99 = .ok (.aload_n 1, 1) := dk_43 (dk_at dksX9_agree_4 7 rfl rfl)
theorem dX9_agree_100 : decode cX9_agree 100 = .ok (.astore 8, 2) := dk_58 8 (dk_at dksX9_agree_4 8 rfl rfl)
theorem dX9_agree_102 : decode cX9_agree 102 = .ok (.iload 5, 2) := dk_21 5 (dk_at dksX9_agree_4 10 rfl rfl)
theorem dX9_agree_104 : decode cX9_agree 104 = .ok (.ifCond .eq 8, 3) := dk_153 0 8 (dk_at dksX9_agree_4 12 rfl rfl)
theorem dX9_agree_107 : decode cX9_agree 107 = .ok (.iload 4, 2) := dk_21 4 (dk_at dksX9_agree_4 15 rfl rfl)
theorem dX9_agree_109 : decode cX9_agree 109 = .ok (.goto 4, 3) := dk_167 0 4 (dk_at dksX9_agree_4 17 rfl rfl)
theorem dX9_agree_112 : decode cX9_agree 112 = .ok (.iload_n 2, 1) := dk_28 (dk_at dksX9_agree_4 20 rfl rfl)
theorem dX9_agree_113 : decode cX9_agree 113 = .ok (.istore 9, 2) := dk_54 9 (dk_at dksX9_agree_4 21 rfl rfl)
theorem dX9_agree_115 : decode cX9_agree 115 = .ok (.aload_n 0, 1) := dk_42 (dk_at dksX9_agree_4 23 rfl rfl)
theorem dX9_agree_116 : decode cX9_agree 116 = .ok (.iconst 0, 1) := dk_3 (dk_at dksX9_agree_5 0 rfl rfl)
theorem dX9_agree_117 : decode cX9_agree 117 = .ok (.putfield 208, 3) := dk_181 0 208 (dk_at dksX9_agree_5 1 rfl rfl)
theorem dX9_agree_120 : decode cX9_agree 120 = .ok (.aload_n 0, 1) := dk_42 (dk_at dksX9_agree_5 4 rfl rfl)
theorem dX9_agree_121 : decode cX9_agree 121 = .ok (.aload 8, 2) := dk_25 8 (dk_at dksX9_agree_5 5 rfl rfl)
theorem dX9_agree_123 : decode cX9_agree 123 = .ok (.iload 9, 2) := dk_21 9 (dk_at dksX9_agree_5 7 rfl rfl)
theorem dX9_agree_125 : decode cX9_agree 125 = .ok (.iconst 1, 1) := dk_4 (dk_at dksX9_agree_5 9 rfl rfl)
theorem dX9_agree_126 : decode cX9_agree 126 = .ok (.iadd, 1) := dk_96 (dk_at dksX9_agree_5 10 rfl rfl)
theorem dX9_agree_127 : decode cX9_agree 127 = .ok (.iaload, 1) := dk_46 (dk_at dksX9_agree_5 11 rfl rfl)
theorem dX9_agree_128 : decode cX9_agree 128 = .ok (.iconst 0, 1) := dk_3 (dk_at dksX9_agree_5 12 rfl rfl)
theorem dX9_agree_129 : decode cX9_agree 129 = .ok (.aload 6, 2) := dk_25 6 (dk_at dksX9_agree_5 13 rfl rfl)
theorem dX9_agree_131 : decode cX9_agree 131 = .ok (.iload 7, 2) := dk_21 7 (dk_at dksX9_agree_5 15 rfl rfl)
theorem dX9_agree_133 : decode cX9_agree 133 = .ok (.iaload, 1) := dk_46 (dk_at dksX9_agree_5 17 rfl rfl)
theorem dX9_agree_134 : decode cX9_agree 134 = .ok (.invokevirtual 254, 3) := dk_182 0 254 (dk_at dksX9_agree_5 18 rfl rfl)
theorem dX9_agree_137 : decode cX9_agree 137 = .ok (.aload_n 0, 1) := dk_42 (dk_at dksX9_agree_5 21 rfl rfl)
theorem dX9_agree_138 : decode cX9_agree 138 = .ok (.aload_n 0, 1) := dk_42 (dk_at dksX9_agree_5 22 rfl rfl)
theorem dX9_agree_139 : decode cX9_agree 139 = .ok (.getfield 181, 3) := dk_180 0 181 (dk_at dksX9_agree_6 0 rfl rfl)
theorem dX9_agree_142 : decode cX9_agree 142 = .ok (.iconst 0, 1) := dk_3 (dk_at dksX9_agree_6 3 rfl rfl)
theorem dX9_agree_143 : decode cX9_agree 143 = .ok (.invokevirtual 258, 3) := dk_182 1 2 (dk_at dksX9_agree_6 4 rfl rfl)
theorem dX9_agree_146 : decode cX9_agree 146 = .ok (.aload_n 0, 1) := dk_42 (dk_at dksX9_agree_6 7 rfl rfl)
theorem dX9_agree_147 : decode cX9_agree 147 = .ok (.getfield 181, 3) := dk_180 0 181 (dk_at dksX9_agree_6 8 rfl rfl)
theorem dX9_agree_150 : decode cX9_agree 150 = .ok (.iconst 0, 1) := dk_3 (dk_at dksX9_agree_6 11 rfl rfl)
theorem dX9_agree_151 : decode cX9_agree 151 = .ok (.aload 6, 2) := dk_25 6 (dk_at dksX9_agree_6 12 rfl rfl)
theorem dX9_agree_153 : decode cX9_agree 153 = .ok (.iload 7, 2) := dk_21 7 (dk_at dksX9_agree_6 14 rfl rfl)
theorem dX9_agree_155 : decode cX9_agree 155 = .ok (.iconst 4, 1) := dk_7 (dk_at dksX9_agree_6 16 rfl rfl)
theorem dX9_agree_156 : decode cX9_agree 156 = .ok (.iadd, 1) := dk_96 (dk_at dksX9_agree_6 17 rfl rfl)
theorem dX9_agree_157 : decode cX9_agree 157 = .ok (.invokestatic 318, 3) := dk_184 1 62 (dk_at dksX9_agree_6 18 rfl rfl)
theorem dX9_agree_160 : decode cX9_agree 160 = .ok (.ifCond .ne 5, 3) := dk_154 0 5 (dk_at dksX9_agree_6 21 rfl rfl)
theorem dX9_agree_163 : decode cX9_agree 163 = .ok (.iconst 0, 1) := dk_3 (dk_at dksX9_agree_7 0 rfl rfl)
theorem dX9_agree_164 : decode cX9_agree 164 = .ok (.ireturn, 1) := dk_172 (dk_at dksX9_agree_7 1 rfl rfl)
theorem dX9_agree_165 : decode cX9_agree 165 = .ok (.aload_n 0, 1) := dk_42 (dk_at dksX9_agree_7 2 rfl rfl)
theorem dX9_agree_166 : decode cX9_agree 166 = .ok (.aload 8, 2) := dk_25 8 (dk_at dksX9_agree_7 3 rfl rfl)
theorem dX9_agree_168 : decode cX9_agree 168 = .ok (.iload 9, 2) := dk_21 9 (dk_at dksX9_agree_7 5 rfl rfl)
theorem dX9_agree_170 : decode cX9_agree 170 = .ok (.iconst 1, 1) := dk_4 (dk_at dksX9_agree_7 7 rfl rfl)
theorem dX9_agree_171 : decode cX9_agree 171 = .ok (.iadd, 1) := dk_96 (dk_at dksX9_agree_7 8 rfl rfl)
theorem dX9_agree_172 : decode cX9_agree 172 = .ok (.iaload, 1) := dk_46 (dk_at dksX9_agree_7 9 rfl rfl)
theorem dX9_agree_173 : decode cX9_agree 173 = .ok (.aload 6, 2) := dk_25 6 (dk_at dksX9_agree_7 10 rfl rfl)
theorem dX9_agree_175 : decode cX9_agree 175 = .ok (.iload 7, 2) := dk_21 7 (dk_at dksX9_agree_7 12 rfl rfl)
theorem dX9_agree_177 : decode cX9_agree 177 = .ok (.iaload, 1) := dk_46 (dk_at dksX9_agree_7 14 rfl rfl)
theorem dX9_agree_178 : decode cX9_agree 178 = .ok (.aload 8, 2) := dk_25 8 (dk_at dksX9_agree_7 15 rfl rfl)
theorem dX9_agree_180 : decode cX9_agree 180 = .ok (.iload 9, 2) := dk_21 9 (dk_at dksX9_agree_7 17 rfl rfl)
theorem dX9_agree_182 : decode cX9_agree 182 = .ok (.iaload, 1) := dk_46 (dk_at dksX9_agree_7 19 rfl rfl)
theorem dX9_agree_183 : decode cX9_agree 183 = .ok (.invokevirtual 254, 3) := dk_182 0 254 (dk_at dksX9_agree_7 20 rfl rfl)
theorem dX9_agree_186 : decode cX9_agree 186 = .ok (.aload_n 0, 1) := dk_42 (dk_at dksX9_agree_7 23 rfl rfl)
theorem dX9_agree_187 : decode cX9_agree 187 = .ok (.aload_n 0, 1) := dk_42 (dk_at dksX9_agree_8 0 rfl rfl)
theorem dX9_agree_188 : decode cX9_agree 188 = .ok (.getfield 181, 3) := dk_180 0 181 (dk_at dksX9_agree_8 1 rfl rfl)
theorem dX9_agree_191 : decode cX9_agree 191 = .ok (.iconst 0, 1) := dk_3 (dk_at dksX9_agree_8 4 rfl rfl)
theorem dX9_agree_192 : decode cX9_agree 192 = .ok (.invokevirtual 258, 3) := dk_182 1 2 (dk_at dksX9_agree_8 5 rfl rfl)
theorem dX9_agree_195 : decode cX9_agree 195 = .ok (.aload_n 0, 1) := dk_42 (dk_at dksX9_agree_8 8 rfl rfl)
theorem dX9_agree_196 : decode cX9_agree 196 = .ok (.getfield 181, 3) := dk_180 0 181 (dk_at dksX9_agree_8 9 rfl rfl)
theorem dX9_agree_199 : decode cX9_agree 199 = .ok (.iconst 0, 1) := dk_3 (dk_at dksX9_agree_8 12 rfl rfl)
theorem dX9_agree_200 : decode cX9_agree 200 = .ok (.aload 8, 2) := dk_25 8 (dk_at dksX9_agree_8 13 rfl rfl)
theorem dX9_agree_202 : decode cX9_agree 202 = .ok (.iload 9, 2) := dk_21 9 (dk_at dksX9_agree_8 15 rfl rfl)
theorem dX9_agree_204 : decode cX9_agree 204 = .ok (.iconst 4, 1) := dk_7 (dk_at dksX9_agree_8 17 rfl rfl)
theorem dX9_agree_205 : decode cX9_agree 205 = .ok (.iadd, 1) := dk_96 (dk_at dksX9_agree_8 18 rfl rfl)
theorem dX9_agree_206 : decode cX9_agree 206 = .ok (.invokestatic 318, 3) := dk_184 1 62 (dk_at dksX9_agree_8 19 rfl rfl)
theorem dX9_agree_209 : decode cX9_agree 209 = .ok (.ireturn, 1) := dk_172 (dk_at dksX9_agree_8 22 rfl rfl)
abbrev cX9_blame : ByteArray := prog_17_method_62_code
def yX9_blame : MethodName := ⟨RX9, "blame", "([II[II)V"⟩
def dkwX9_blame_2 : List UInt8 := [42, 89, 180, 1, 80, 4, 96, 181, 1, 80, 177]
abbrev dktX9_blame_2 : List UInt8 := dkwX9_blame_2 ++ []
def dkwX9_blame_1 : List UInt8 := [184, 1, 83, 45, 21, 4, 42, 180, 0, 55, 16, 56, 42, 180, 1, 80, 104, 16, 28, 96, 4, 184, 1, 83]
abbrev dktX9_blame_1 : List UInt8 := dkwX9_blame_1 ++ dktX9_blame_2
def dkwX9_blame_0 : List UInt8 := [42, 180, 1, 80, 16, 60, 160, 0, 4, 177, 43, 28, 42, 180, 0, 55, 16, 56, 42, 180, 1, 80, 104, 4]
abbrev dktX9_blame_0 : List UInt8 := dkwX9_blame_0 ++ dktX9_blame_1
theorem dksX9_blame_0 : cX9_blame.data.toList.drop 0 = dktX9_blame_0 := by decide +kernel
theorem dksX9_blame_1 : cX9_blame.data.toList.drop 24 = dktX9_blame_1 := dk_seg dksX9_blame_0 24 rfl rfl
theorem dksX9_blame_2 : cX9_blame.data.toList.drop 48 = dktX9_blame_2 := dk_seg dksX9_blame_1 24 rfl rfl
theorem dX9_blame_0 : decode cX9_blame 0 = .ok (.aload_n 0, 1) := dk_42 (dk_at dksX9_blame_0 0 rfl rfl)
theorem dX9_blame_1 : decode cX9_blame 1 = .ok (.getfield 336, 3) := dk_180 1 80 (dk_at dksX9_blame_0 1 rfl rfl)
theorem dX9_blame_4 : decode cX9_blame 4 = .ok (.bipush 60, 2) := dk_16 60 (dk_at dksX9_blame_0 4 rfl rfl)
theorem dX9_blame_6 : decode cX9_blame 6 = .ok (.if_icmp .ne 4, 3) := dk_160 0 4 (dk_at dksX9_blame_0 6 rfl rfl)
theorem dX9_blame_9 : decode cX9_blame 9 = .ok (.return_, 1) := dk_177 (dk_at dksX9_blame_0 9 rfl rfl)
theorem dX9_blame_10 : decode cX9_blame 10 = .ok (.aload_n 1, 1) := dk_43 (dk_at dksX9_blame_0 10 rfl rfl)
theorem dX9_blame_11 : decode cX9_blame 11 = .ok (.iload_n 2, 1) := dk_28 (dk_at dksX9_blame_0 11 rfl rfl)
theorem dX9_blame_12 : decode cX9_blame 12 = .ok (.aload_n 0, 1) := dk_42 (dk_at dksX9_blame_0 12 rfl rfl)
theorem dX9_blame_13 : decode cX9_blame 13 = .ok (.getfield 55, 3) := dk_180 0 55 (dk_at dksX9_blame_0 13 rfl rfl)
theorem dX9_blame_16 : decode cX9_blame 16 = .ok (.bipush 56, 2) := dk_16 56 (dk_at dksX9_blame_0 16 rfl rfl)
theorem dX9_blame_18 : decode cX9_blame 18 = .ok (.aload_n 0, 1) := dk_42 (dk_at dksX9_blame_0 18 rfl rfl)
theorem dX9_blame_19 : decode cX9_blame 19 = .ok (.getfield 336, 3) := dk_180 1 80 (dk_at dksX9_blame_0 19 rfl rfl)
theorem dX9_blame_22 : decode cX9_blame 22 = .ok (.imul, 1) := dk_104 (dk_at dksX9_blame_0 22 rfl rfl)
theorem dX9_blame_23 : decode cX9_blame 23 = .ok (.iconst 1, 1) := dk_4 (dk_at dksX9_blame_0 23 rfl rfl)
theorem dX9_blame_24 : decode cX9_blame 24 = .ok (.invokestatic 339, 3) := dk_184 1 83 (dk_at dksX9_blame_1 0 rfl rfl)
theorem dX9_blame_27 : decode cX9_blame 27 = .ok (.aload_n 3, 1) := dk_45 (dk_at dksX9_blame_1 3 rfl rfl)
theorem dX9_blame_28 : decode cX9_blame 28 = .ok (.iload 4, 2) := dk_21 4 (dk_at dksX9_blame_1 4 rfl rfl)
theorem dX9_blame_30 : decode cX9_blame 30 = .ok (.aload_n 0, 1) := dk_42 (dk_at dksX9_blame_1 6 rfl rfl)
theorem dX9_blame_31 : decode cX9_blame 31 = .ok (.getfield 55, 3) := dk_180 0 55 (dk_at dksX9_blame_1 7 rfl rfl)
theorem dX9_blame_34 : decode cX9_blame 34 = .ok (.bipush 56, 2) := dk_16 56 (dk_at dksX9_blame_1 10 rfl rfl)
theorem dX9_blame_36 : decode cX9_blame 36 = .ok (.aload_n 0, 1) := dk_42 (dk_at dksX9_blame_1 12 rfl rfl)
theorem dX9_blame_37 : decode cX9_blame 37 = .ok (.getfield 336, 3) := dk_180 1 80 (dk_at dksX9_blame_1 13 rfl rfl)
theorem dX9_blame_40 : decode cX9_blame 40 = .ok (.imul, 1) := dk_104 (dk_at dksX9_blame_1 16 rfl rfl)
theorem dX9_blame_41 : decode cX9_blame 41 = .ok (.bipush 28, 2) := dk_16 28 (dk_at dksX9_blame_1 17 rfl rfl)
theorem dX9_blame_43 : decode cX9_blame 43 = .ok (.iadd, 1) := dk_96 (dk_at dksX9_blame_1 19 rfl rfl)
theorem dX9_blame_44 : decode cX9_blame 44 = .ok (.iconst 1, 1) := dk_4 (dk_at dksX9_blame_1 20 rfl rfl)
theorem dX9_blame_45 : decode cX9_blame 45 = .ok (.invokestatic 339, 3) := dk_184 1 83 (dk_at dksX9_blame_1 21 rfl rfl)
theorem dX9_blame_48 : decode cX9_blame 48 = .ok (.aload_n 0, 1) := dk_42 (dk_at dksX9_blame_2 0 rfl rfl)
theorem dX9_blame_49 : decode cX9_blame 49 = .ok (.dup, 1) := dk_89 (dk_at dksX9_blame_2 1 rfl rfl)
theorem dX9_blame_50 : decode cX9_blame 50 = .ok (.getfield 336, 3) := dk_180 1 80 (dk_at dksX9_blame_2 2 rfl rfl)
theorem dX9_blame_53 : decode cX9_blame 53 = .ok (.iconst 1, 1) := dk_4 (dk_at dksX9_blame_2 5 rfl rfl)
theorem dX9_blame_54 : decode cX9_blame 54 = .ok (.iadd, 1) := dk_96 (dk_at dksX9_blame_2 6 rfl rfl)
theorem dX9_blame_55 : decode cX9_blame 55 = .ok (.putfield 336, 3) := dk_181 1 80 (dk_at dksX9_blame_2 7 rfl rfl)
theorem dX9_blame_58 : decode cX9_blame 58 = .ok (.return_, 1) := dk_177 (dk_at dksX9_blame_2 10 rfl rfl)
abbrev cX9_copy : ByteArray := prog_17_method_61_code
def yX9_copy : MethodName := ⟨RX9, "copy", "([II[IIZ)V"⟩
def dkwX9_copy_1 : List UInt8 := [21, 5, 96, 42, 27, 21, 5, 96, 46, 79, 132, 5, 1, 167, 255, 223, 177]
abbrev dktX9_copy_1 : List UInt8 := dkwX9_copy_1 ++ []
def dkwX9_copy_0 : List UInt8 := [3, 54, 5, 21, 5, 16, 28, 162, 0, 32, 21, 4, 154, 0, 9, 21, 5, 6, 159, 0, 15, 44, 29]
abbrev dktX9_copy_0 : List UInt8 := dkwX9_copy_0 ++ dktX9_copy_1
theorem dksX9_copy_0 : cX9_copy.data.toList.drop 0 = dktX9_copy_0 := by decide +kernel
theorem dksX9_copy_1 : cX9_copy.data.toList.drop 23 = dktX9_copy_1 := dk_seg dksX9_copy_0 23 rfl rfl
theorem dX9_copy_0 : decode cX9_copy 0 = .ok (.iconst 0, 1) := dk_3 (dk_at dksX9_copy_0 0 rfl rfl)
theorem dX9_copy_1 : decode cX9_copy 1 = .ok (.istore 5, 2) := dk_54 5 (dk_at dksX9_copy_0 1 rfl rfl)
theorem dX9_copy_3 : decode cX9_copy 3 = .ok (.iload 5, 2) := dk_21 5 (dk_at dksX9_copy_0 3 rfl rfl)
theorem dX9_copy_5 : decode cX9_copy 5 = .ok (.bipush 28, 2) := dk_16 28 (dk_at dksX9_copy_0 5 rfl rfl)
theorem dX9_copy_7 : decode cX9_copy 7 = .ok (.if_icmp .ge 32, 3) := dk_162 0 32 (dk_at dksX9_copy_0 7 rfl rfl)
theorem dX9_copy_10 : decode cX9_copy 10 = .ok (.iload 4, 2) := dk_21 4 (dk_at dksX9_copy_0 10 rfl rfl)
theorem dX9_copy_12 : decode cX9_copy 12 = .ok (.ifCond .ne 9, 3) := dk_154 0 9 (dk_at dksX9_copy_0 12 rfl rfl)
theorem dX9_copy_15 : decode cX9_copy 15 = .ok (.iload 5, 2) := dk_21 5 (dk_at dksX9_copy_0 15 rfl rfl)
theorem dX9_copy_17 : decode cX9_copy 17 = .ok (.iconst 3, 1) := dk_6 (dk_at dksX9_copy_0 17 rfl rfl)
theorem dX9_copy_18 : decode cX9_copy 18 = .ok (.if_icmp .eq 15, 3) := dk_159 0 15 (dk_at dksX9_copy_0 18 rfl rfl)
theorem dX9_copy_21 : decode cX9_copy 21 = .ok (.aload_n 2, 1) := dk_44 (dk_at dksX9_copy_0 21 rfl rfl)
theorem dX9_copy_22 : decode cX9_copy 22 = .ok (.iload_n 3, 1) := dk_29 (dk_at dksX9_copy_0 22 rfl rfl)
theorem dX9_copy_23 : decode cX9_copy 23 = .ok (.iload 5, 2) := dk_21 5 (dk_at dksX9_copy_1 0 rfl rfl)
theorem dX9_copy_25 : decode cX9_copy 25 = .ok (.iadd, 1) := dk_96 (dk_at dksX9_copy_1 2 rfl rfl)
theorem dX9_copy_26 : decode cX9_copy 26 = .ok (.aload_n 0, 1) := dk_42 (dk_at dksX9_copy_1 3 rfl rfl)
theorem dX9_copy_27 : decode cX9_copy 27 = .ok (.iload_n 1, 1) := dk_27 (dk_at dksX9_copy_1 4 rfl rfl)
theorem dX9_copy_28 : decode cX9_copy 28 = .ok (.iload 5, 2) := dk_21 5 (dk_at dksX9_copy_1 5 rfl rfl)
theorem dX9_copy_30 : decode cX9_copy 30 = .ok (.iadd, 1) := dk_96 (dk_at dksX9_copy_1 7 rfl rfl)
theorem dX9_copy_31 : decode cX9_copy 31 = .ok (.iaload, 1) := dk_46 (dk_at dksX9_copy_1 8 rfl rfl)
theorem dX9_copy_32 : decode cX9_copy 32 = .ok (.iastore, 1) := dk_79 (dk_at dksX9_copy_1 9 rfl rfl)
theorem dX9_copy_33 : decode cX9_copy 33 = .ok (.iinc 5 1, 3) := dk_132 5 1 (dk_at dksX9_copy_1 10 rfl rfl)
theorem dX9_copy_36 : decode cX9_copy 36 = .ok (.goto (-33), 3) := dk_167 255 223 (dk_at dksX9_copy_1 13 rfl rfl)
theorem dX9_copy_39 : decode cX9_copy 39 = .ok (.return_, 1) := dk_177 (dk_at dksX9_copy_1 16 rfl rfl)
abbrev cX9_talk : ByteArray := prog_17_method_64_code
def yX9_talk : MethodName := ⟨RX9, "talk", "(II)I"⟩
def dkwX9_talk_8 : List UInt8 := [42, 180, 0, 49, 21, 4, 3, 184, 1, 83, 4, 172]
abbrev dktX9_talk_8 : List UInt8 := dkwX9_talk_8 ++ []
def dkwX9_talk_7 : List UInt8 := [167, 0, 34, 42, 180, 0, 49, 21, 4, 46, 42, 180, 0, 49, 29, 46, 162, 0, 18, 42, 180, 0, 49, 29]
abbrev dktX9_talk_7 : List UInt8 := dkwX9_talk_7 ++ dktX9_talk_8
def dkwX9_talk_6 : List UInt8 := [180, 0, 49, 21, 4, 46, 162, 0, 21, 42, 180, 0, 49, 21, 4, 42, 180, 0, 49, 29, 3, 184, 1, 83]
abbrev dktX9_talk_6 : List UInt8 := dkwX9_talk_6 ++ dktX9_talk_7
def dkwX9_talk_5 : List UInt8 := [96, 79, 42, 180, 0, 49, 21, 4, 6, 96, 92, 46, 4, 96, 79, 3, 172, 42, 180, 0, 49, 29, 46, 42]
abbrev dktX9_talk_5 : List UInt8 := dkwX9_talk_5 ++ dktX9_talk_6
def dkwX9_talk_4 : List UInt8 := [42, 180, 0, 49, 29, 42, 180, 0, 49, 21, 4, 182, 1, 90, 42, 180, 0, 49, 29, 6, 96, 92, 46, 4]
abbrev dktX9_talk_4 : List UInt8 := dkwX9_talk_4 ++ dktX9_talk_5
def dkwX9_talk_3 : List UInt8 := [159, 0, 5, 2, 172, 42, 42, 180, 0, 49, 29, 42, 180, 0, 49, 21, 4, 182, 1, 87, 154, 0, 45, 42]
abbrev dktX9_talk_3 : List UInt8 := dkwX9_talk_3 ++ dktX9_talk_4
def dkwX9_talk_2 : List UInt8 := [16, 28, 28, 104, 54, 4, 42, 180, 0, 49, 29, 5, 96, 46, 42, 180, 0, 49, 21, 4, 5, 96, 46]
abbrev dktX9_talk_2 : List UInt8 := dkwX9_talk_2 ++ dktX9_talk_3
def dkwX9_talk_1 : List UInt8 := [180, 0, 52, 27, 51, 153, 0, 12, 42, 180, 0, 52, 28, 51, 154, 0, 5, 2, 172, 16, 28, 27, 104, 62]
abbrev dktX9_talk_1 : List UInt8 := dkwX9_talk_1 ++ dktX9_talk_2
def dkwX9_talk_0 : List UInt8 := [42, 27, 182, 1, 66, 153, 0, 34, 42, 28, 182, 1, 66, 153, 0, 26, 27, 28, 159, 0, 21, 42]
abbrev dktX9_talk_0 : List UInt8 := dkwX9_talk_0 ++ dktX9_talk_1
theorem dksX9_talk_0 : cX9_talk.data.toList.drop 0 = dktX9_talk_0 := by decide +kernel
theorem dksX9_talk_1 : cX9_talk.data.toList.drop 22 = dktX9_talk_1 := dk_seg dksX9_talk_0 22 rfl rfl
theorem dksX9_talk_2 : cX9_talk.data.toList.drop 46 = dktX9_talk_2 := dk_seg dksX9_talk_1 24 rfl rfl
theorem dksX9_talk_3 : cX9_talk.data.toList.drop 69 = dktX9_talk_3 := dk_seg dksX9_talk_2 23 rfl rfl
theorem dksX9_talk_4 : cX9_talk.data.toList.drop 93 = dktX9_talk_4 := dk_seg dksX9_talk_3 24 rfl rfl
theorem dksX9_talk_5 : cX9_talk.data.toList.drop 117 = dktX9_talk_5 := dk_seg dksX9_talk_4 24 rfl rfl
theorem dksX9_talk_6 : cX9_talk.data.toList.drop 141 = dktX9_talk_6 := dk_seg dksX9_talk_5 24 rfl rfl
theorem dksX9_talk_7 : cX9_talk.data.toList.drop 165 = dktX9_talk_7 := dk_seg dksX9_talk_6 24 rfl rfl
theorem dksX9_talk_8 : cX9_talk.data.toList.drop 189 = dktX9_talk_8 := dk_seg dksX9_talk_7 24 rfl rfl
theorem dX9_talk_0 : decode cX9_talk 0 = .ok (.aload_n 0, 1) := dk_42 (dk_at dksX9_talk_0 0 rfl rfl)
theorem dX9_talk_1 : decode cX9_talk 1 = .ok (.iload_n 1, 1) := dk_27 (dk_at dksX9_talk_0 1 rfl rfl)
theorem dX9_talk_2 : decode cX9_talk 2 = .ok (.invokevirtual 322, 3) := dk_182 1 66 (dk_at dksX9_talk_0 2 rfl rfl)
theorem dX9_talk_5 : decode cX9_talk 5 = .ok (.ifCond .eq 34, 3) := dk_153 0 34 (dk_at dksX9_talk_0 5 rfl rfl)
theorem dX9_talk_8 : decode cX9_talk 8 = .ok (.aload_n 0, 1) := dk_42 (dk_at dksX9_talk_0 8 rfl rfl)
theorem dX9_talk_9 : decode cX9_talk 9 = .ok (.iload_n 2, 1) := dk_28 (dk_at dksX9_talk_0 9 rfl rfl)
theorem dX9_talk_10 : decode cX9_talk 10 = .ok (.invokevirtual 322, 3) := dk_182 1 66 (dk_at dksX9_talk_0 10 rfl rfl)
theorem dX9_talk_13 : decode cX9_talk 13 = .ok (.ifCond .eq 26, 3) := dk_153 0 26 (dk_at dksX9_talk_0 13 rfl rfl)
theorem dX9_talk_16 : decode cX9_talk 16 = .ok (.iload_n 1, 1) := dk_27 (dk_at dksX9_talk_0 16 rfl rfl)
theorem dX9_talk_17 : decode cX9_talk 17 = .ok (.iload_n 2, 1) := dk_28 (dk_at dksX9_talk_0 17 rfl rfl)
theorem dX9_talk_18 : decode cX9_talk 18 = .ok (.if_icmp .eq 21, 3) := dk_159 0 21 (dk_at dksX9_talk_0 18 rfl rfl)
theorem dX9_talk_21 : decode cX9_talk 21 = .ok (.aload_n 0, 1) := dk_42 (dk_at dksX9_talk_0 21 rfl rfl)
theorem dX9_talk_22 : decode cX9_talk 22 = .ok (.getfield 52, 3) := dk_180 0 52 (dk_at dksX9_talk_1 0 rfl rfl)
theorem dX9_talk_25 : decode cX9_talk 25 = .ok (.iload_n 1, 1) := dk_27 (dk_at dksX9_talk_1 3 rfl rfl)
theorem dX9_talk_26 : decode cX9_talk 26 = .ok (.baload, 1) := dk_51 (dk_at dksX9_talk_1 4 rfl rfl)
theorem dX9_talk_27 : decode cX9_talk 27 = .ok (.ifCond .eq 12, 3) := dk_153 0 12 (dk_at dksX9_talk_1 5 rfl rfl)
theorem dX9_talk_30 : decode cX9_talk 30 = .ok (.aload_n 0, 1) := dk_42 (dk_at dksX9_talk_1 8 rfl rfl)
theorem dX9_talk_31 : decode cX9_talk 31 = .ok (.getfield 52, 3) := dk_180 0 52 (dk_at dksX9_talk_1 9 rfl rfl)
theorem dX9_talk_34 : decode cX9_talk 34 = .ok (.iload_n 2, 1) := dk_28 (dk_at dksX9_talk_1 12 rfl rfl)
theorem dX9_talk_35 : decode cX9_talk 35 = .ok (.baload, 1) := dk_51 (dk_at dksX9_talk_1 13 rfl rfl)
theorem dX9_talk_36 : decode cX9_talk 36 = .ok (.ifCond .ne 5, 3) := dk_154 0 5 (dk_at dksX9_talk_1 14 rfl rfl)
theorem dX9_talk_39 : decode cX9_talk 39 = .ok (.iconst (-1), 1) := dk_2 (dk_at dksX9_talk_1 17 rfl rfl)
theorem dX9_talk_40 : decode cX9_talk 40 = .ok (.ireturn, 1) := dk_172 (dk_at dksX9_talk_1 18 rfl rfl)
theorem dX9_talk_41 : decode cX9_talk 41 = .ok (.bipush 28, 2) := dk_16 28 (dk_at dksX9_talk_1 19 rfl rfl)
theorem dX9_talk_43 : decode cX9_talk 43 = .ok (.iload_n 1, 1) := dk_27 (dk_at dksX9_talk_1 21 rfl rfl)
theorem dX9_talk_44 : decode cX9_talk 44 = .ok (.imul, 1) := dk_104 (dk_at dksX9_talk_1 22 rfl rfl)
theorem dX9_talk_45 : decode cX9_talk 45 = .ok (.istore_n 3, 1) := dk_62 (dk_at dksX9_talk_1 23 rfl rfl)
theorem dX9_talk_46 : decode cX9_talk 46 = .ok (.bipush 28, 2) := dk_16 28 (dk_at dksX9_talk_2 0 rfl rfl)
theorem dX9_talk_48 : decode cX9_talk 48 = .ok (.iload_n 2, 1) := dk_28 (dk_at dksX9_talk_2 2 rfl rfl)
theorem dX9_talk_49 : decode cX9_talk 49 = .ok (.imul, 1) := dk_104 (dk_at dksX9_talk_2 3 rfl rfl)
theorem dX9_talk_50 : decode cX9_talk 50 = .ok (.istore 4, 2) := dk_54 4 (dk_at dksX9_talk_2 4 rfl rfl)
theorem dX9_talk_52 : decode cX9_talk 52 = .ok (.aload_n 0, 1) := dk_42 (dk_at dksX9_talk_2 6 rfl rfl)
theorem dX9_talk_53 : decode cX9_talk 53 = .ok (.getfield 49, 3) := dk_180 0 49 (dk_at dksX9_talk_2 7 rfl rfl)
theorem dX9_talk_56 : decode cX9_talk 56 = .ok (.iload_n 3, 1) := dk_29 (dk_at dksX9_talk_2 10 rfl rfl)
theorem dX9_talk_57 : decode cX9_talk 57 = .ok (.iconst 2, 1) := dk_5 (dk_at dksX9_talk_2 11 rfl rfl)
theorem dX9_talk_58 : decode cX9_talk 58 = .ok (.iadd, 1) := dk_96 (dk_at dksX9_talk_2 12 rfl rfl)
theorem dX9_talk_59 : decode cX9_talk 59 = .ok (.iaload, 1) := dk_46 (dk_at dksX9_talk_2 13 rfl rfl)
theorem dX9_talk_60 : decode cX9_talk 60 = .ok (.aload_n 0, 1) := dk_42 (dk_at dksX9_talk_2 14 rfl rfl)
theorem dX9_talk_61 : decode cX9_talk 61 = .ok (.getfield 49, 3) := dk_180 0 49 (dk_at dksX9_talk_2 15 rfl rfl)
theorem dX9_talk_64 : decode cX9_talk 64 = .ok (.iload 4, 2) := dk_21 4 (dk_at dksX9_talk_2 18 rfl rfl)
theorem dX9_talk_66 : decode cX9_talk 66 = .ok (.iconst 2, 1) := dk_5 (dk_at dksX9_talk_2 20 rfl rfl)
theorem dX9_talk_67 : decode cX9_talk 67 = .ok (.iadd, 1) := dk_96 (dk_at dksX9_talk_2 21 rfl rfl)
theorem dX9_talk_68 : decode cX9_talk 68 = .ok (.iaload, 1) := dk_46 (dk_at dksX9_talk_2 22 rfl rfl)
theorem dX9_talk_69 : decode cX9_talk 69 = .ok (.if_icmp .eq 5, 3) := dk_159 0 5 (dk_at dksX9_talk_3 0 rfl rfl)
theorem dX9_talk_72 : decode cX9_talk 72 = .ok (.iconst (-1), 1) := dk_2 (dk_at dksX9_talk_3 3 rfl rfl)
theorem dX9_talk_73 : decode cX9_talk 73 = .ok (.ireturn, 1) := dk_172 (dk_at dksX9_talk_3 4 rfl rfl)
theorem dX9_talk_74 : decode cX9_talk 74 = .ok (.aload_n 0, 1) := dk_42 (dk_at dksX9_talk_3 5 rfl rfl)
theorem dX9_talk_75 : decode cX9_talk 75 = .ok (.aload_n 0, 1) := dk_42 (dk_at dksX9_talk_3 6 rfl rfl)
theorem dX9_talk_76 : decode cX9_talk 76 = .ok (.getfield 49, 3) := dk_180 0 49 (dk_at dksX9_talk_3 7 rfl rfl)
theorem dX9_talk_79 : decode cX9_talk 79 = .ok (.iload_n 3, 1) := dk_29 (dk_at dksX9_talk_3 10 rfl rfl)
theorem dX9_talk_80 : decode cX9_talk 80 = .ok (.aload_n 0, 1) := dk_42 (dk_at dksX9_talk_3 11 rfl rfl)
theorem dX9_talk_81 : decode cX9_talk 81 = .ok (.getfield 49, 3) := dk_180 0 49 (dk_at dksX9_talk_3 12 rfl rfl)
theorem dX9_talk_84 : decode cX9_talk 84 = .ok (.iload 4, 2) := dk_21 4 (dk_at dksX9_talk_3 15 rfl rfl)
theorem dX9_talk_86 : decode cX9_talk 86 = .ok (.invokevirtual 343, 3) := dk_182 1 87 (dk_at dksX9_talk_3 17 rfl rfl)
theorem dX9_talk_89 : decode cX9_talk 89 = .ok (.ifCond .ne 45, 3) := dk_154 0 45 (dk_at dksX9_talk_3 20 rfl rfl)
theorem dX9_talk_92 : decode cX9_talk 92 = .ok (.aload_n 0, 1) := dk_42 (dk_at dksX9_talk_3 23 rfl rfl)
theorem dX9_talk_93 : decode cX9_talk 93 = .ok (.aload_n 0, 1) := dk_42 (dk_at dksX9_talk_4 0 rfl rfl)
theorem dX9_talk_94 : decode cX9_talk 94 = .ok (.getfield 49, 3) := dk_180 0 49 (dk_at dksX9_talk_4 1 rfl rfl)
theorem dX9_talk_97 : decode cX9_talk 97 = .ok (.iload_n 3, 1) := dk_29 (dk_at dksX9_talk_4 4 rfl rfl)
theorem dX9_talk_98 : decode cX9_talk 98 = .ok (.aload_n 0, 1) := dk_42 (dk_at dksX9_talk_4 5 rfl rfl)
theorem dX9_talk_99 : decode cX9_talk 99 = .ok (.getfield 49, 3) := dk_180 0 49 (dk_at dksX9_talk_4 6 rfl rfl)
theorem dX9_talk_102 : decode cX9_talk 102 = .ok (.iload 4, 2) := dk_21 4 (dk_at dksX9_talk_4 9 rfl rfl)
theorem dX9_talk_104 : decode cX9_talk 104 = .ok (.invokevirtual 346, 3) := dk_182 1 90 (dk_at dksX9_talk_4 11 rfl rfl)
theorem dX9_talk_107 : decode cX9_talk 107 = .ok (.aload_n 0, 1) := dk_42 (dk_at dksX9_talk_4 14 rfl rfl)
theorem dX9_talk_108 : decode cX9_talk 108 = .ok (.getfield 49, 3) := dk_180 0 49 (dk_at dksX9_talk_4 15 rfl rfl)
theorem dX9_talk_111 : decode cX9_talk 111 = .ok (.iload_n 3, 1) := dk_29 (dk_at dksX9_talk_4 18 rfl rfl)
theorem dX9_talk_112 : decode cX9_talk 112 = .ok (.iconst 3, 1) := dk_6 (dk_at dksX9_talk_4 19 rfl rfl)
theorem dX9_talk_113 : decode cX9_talk 113 = .ok (.iadd, 1) := dk_96 (dk_at dksX9_talk_4 20 rfl rfl)
theorem dX9_talk_114 : decode cX9_talk 114 = .ok (.dup2, 1) := dk_92 (dk_at dksX9_talk_4 21 rfl rfl)
theorem dX9_talk_115 : decode cX9_talk 115 = .ok (.iaload, 1) := dk_46 (dk_at dksX9_talk_4 22 rfl rfl)
theorem dX9_talk_116 : decode cX9_talk 116 = .ok (.iconst 1, 1) := dk_4 (dk_at dksX9_talk_4 23 rfl rfl)
theorem dX9_talk_117 : decode cX9_talk 117 = .ok (.iadd, 1) := dk_96 (dk_at dksX9_talk_5 0 rfl rfl)
theorem dX9_talk_118 : decode cX9_talk 118 = .ok (.iastore, 1) := dk_79 (dk_at dksX9_talk_5 1 rfl rfl)
theorem dX9_talk_119 : decode cX9_talk 119 = .ok (.aload_n 0, 1) := dk_42 (dk_at dksX9_talk_5 2 rfl rfl)
theorem dX9_talk_120 : decode cX9_talk 120 = .ok (.getfield 49, 3) := dk_180 0 49 (dk_at dksX9_talk_5 3 rfl rfl)
theorem dX9_talk_123 : decode cX9_talk 123 = .ok (.iload 4, 2) := dk_21 4 (dk_at dksX9_talk_5 6 rfl rfl)
theorem dX9_talk_125 : decode cX9_talk 125 = .ok (.iconst 3, 1) := dk_6 (dk_at dksX9_talk_5 8 rfl rfl)
theorem dX9_talk_126 : decode cX9_talk 126 = .ok (.iadd, 1) := dk_96 (dk_at dksX9_talk_5 9 rfl rfl)
theorem dX9_talk_127 : decode cX9_talk 127 = .ok (.dup2, 1) := dk_92 (dk_at dksX9_talk_5 10 rfl rfl)
theorem dX9_talk_128 : decode cX9_talk 128 = .ok (.iaload, 1) := dk_46 (dk_at dksX9_talk_5 11 rfl rfl)
theorem dX9_talk_129 : decode cX9_talk 129 = .ok (.iconst 1, 1) := dk_4 (dk_at dksX9_talk_5 12 rfl rfl)
theorem dX9_talk_130 : decode cX9_talk 130 = .ok (.iadd, 1) := dk_96 (dk_at dksX9_talk_5 13 rfl rfl)
theorem dX9_talk_131 : decode cX9_talk 131 = .ok (.iastore, 1) := dk_79 (dk_at dksX9_talk_5 14 rfl rfl)
theorem dX9_talk_132 : decode cX9_talk 132 = .ok (.iconst 0, 1) := dk_3 (dk_at dksX9_talk_5 15 rfl rfl)
theorem dX9_talk_133 : decode cX9_talk 133 = .ok (.ireturn, 1) := dk_172 (dk_at dksX9_talk_5 16 rfl rfl)
theorem dX9_talk_134 : decode cX9_talk 134 = .ok (.aload_n 0, 1) := dk_42 (dk_at dksX9_talk_5 17 rfl rfl)
theorem dX9_talk_135 : decode cX9_talk 135 = .ok (.getfield 49, 3) := dk_180 0 49 (dk_at dksX9_talk_5 18 rfl rfl)
theorem dX9_talk_138 : decode cX9_talk 138 = .ok (.iload_n 3, 1) := dk_29 (dk_at dksX9_talk_5 21 rfl rfl)
theorem dX9_talk_139 : decode cX9_talk 139 = .ok (.iaload, 1) := dk_46 (dk_at dksX9_talk_5 22 rfl rfl)
theorem dX9_talk_140 : decode cX9_talk 140 = .ok (.aload_n 0, 1) := dk_42 (dk_at dksX9_talk_5 23 rfl rfl)
theorem dX9_talk_141 : decode cX9_talk 141 = .ok (.getfield 49, 3) := dk_180 0 49 (dk_at dksX9_talk_6 0 rfl rfl)
theorem dX9_talk_144 : decode cX9_talk 144 = .ok (.iload 4, 2) := dk_21 4 (dk_at dksX9_talk_6 3 rfl rfl)
theorem dX9_talk_146 : decode cX9_talk 146 = .ok (.iaload, 1) := dk_46 (dk_at dksX9_talk_6 5 rfl rfl)
theorem dX9_talk_147 : decode cX9_talk 147 = .ok (.if_icmp .ge 21, 3) := dk_162 0 21 (dk_at dksX9_talk_6 6 rfl rfl)
theorem dX9_talk_150 : decode cX9_talk 150 = .ok (.aload_n 0, 1) := dk_42 (dk_at dksX9_talk_6 9 rfl rfl)
theorem dX9_talk_151 : decode cX9_talk 151 = .ok (.getfield 49, 3) := dk_180 0 49 (dk_at dksX9_talk_6 10 rfl rfl)
theorem dX9_talk_154 : decode cX9_talk 154 = .ok (.iload 4, 2) := dk_21 4 (dk_at dksX9_talk_6 13 rfl rfl)
theorem dX9_talk_156 : decode cX9_talk 156 = .ok (.aload_n 0, 1) := dk_42 (dk_at dksX9_talk_6 15 rfl rfl)
theorem dX9_talk_157 : decode cX9_talk 157 = .ok (.getfield 49, 3) := dk_180 0 49 (dk_at dksX9_talk_6 16 rfl rfl)
theorem dX9_talk_160 : decode cX9_talk 160 = .ok (.iload_n 3, 1) := dk_29 (dk_at dksX9_talk_6 19 rfl rfl)
theorem dX9_talk_161 : decode cX9_talk 161 = .ok (.iconst 0, 1) := dk_3 (dk_at dksX9_talk_6 20 rfl rfl)
theorem dX9_talk_162 : decode cX9_talk 162 = .ok (.invokestatic 339, 3) := dk_184 1 83 (dk_at dksX9_talk_6 21 rfl rfl)
theorem dX9_talk_165 : decode cX9_talk 165 = .ok (.goto 34, 3) := dk_167 0 34 (dk_at dksX9_talk_7 0 rfl rfl)
theorem dX9_talk_168 : decode cX9_talk 168 = .ok (.aload_n 0, 1) := dk_42 (dk_at dksX9_talk_7 3 rfl rfl)
theorem dX9_talk_169 : decode cX9_talk 169 = .ok (.getfield 49, 3) := dk_180 0 49 (dk_at dksX9_talk_7 4 rfl rfl)
theorem dX9_talk_172 : decode cX9_talk 172 = .ok (.iload 4, 2) := dk_21 4 (dk_at dksX9_talk_7 7 rfl rfl)
theorem dX9_talk_174 : decode cX9_talk 174 = .ok (.iaload, 1) := dk_46 (dk_at dksX9_talk_7 9 rfl rfl)
theorem dX9_talk_175 : decode cX9_talk 175 = .ok (.aload_n 0, 1) := dk_42 (dk_at dksX9_talk_7 10 rfl rfl)
theorem dX9_talk_176 : decode cX9_talk 176 = .ok (.getfield 49, 3) := dk_180 0 49 (dk_at dksX9_talk_7 11 rfl rfl)
theorem dX9_talk_179 : decode cX9_talk 179 = .ok (.iload_n 3, 1) := dk_29 (dk_at dksX9_talk_7 14 rfl rfl)
theorem dX9_talk_180 : decode cX9_talk 180 = .ok (.iaload, 1) := dk_46 (dk_at dksX9_talk_7 15 rfl rfl)
theorem dX9_talk_181 : decode cX9_talk 181 = .ok (.if_icmp .ge 18, 3) := dk_162 0 18 (dk_at dksX9_talk_7 16 rfl rfl)
theorem dX9_talk_184 : decode cX9_talk 184 = .ok (.aload_n 0, 1) := dk_42 (dk_at dksX9_talk_7 19 rfl rfl)
theorem dX9_talk_185 : decode cX9_talk 185 = .ok (.getfield 49, 3) := dk_180 0 49 (dk_at dksX9_talk_7 20 rfl rfl)
theorem dX9_talk_188 : decode cX9_talk 188 = .ok (.iload_n 3, 1) := dk_29 (dk_at dksX9_talk_7 23 rfl rfl)
theorem dX9_talk_189 : decode cX9_talk 189 = .ok (.aload_n 0, 1) := dk_42 (dk_at dksX9_talk_8 0 rfl rfl)
theorem dX9_talk_190 : decode cX9_talk 190 = .ok (.getfield 49, 3) := dk_180 0 49 (dk_at dksX9_talk_8 1 rfl rfl)
theorem dX9_talk_193 : decode cX9_talk 193 = .ok (.iload 4, 2) := dk_21 4 (dk_at dksX9_talk_8 4 rfl rfl)
theorem dX9_talk_195 : decode cX9_talk 195 = .ok (.iconst 0, 1) := dk_3 (dk_at dksX9_talk_8 6 rfl rfl)
theorem dX9_talk_196 : decode cX9_talk 196 = .ok (.invokestatic 339, 3) := dk_184 1 83 (dk_at dksX9_talk_8 7 rfl rfl)
theorem dX9_talk_199 : decode cX9_talk 199 = .ok (.iconst 1, 1) := dk_4 (dk_at dksX9_talk_8 10 rfl rfl)
theorem dX9_talk_200 : decode cX9_talk 200 = .ok (.ireturn, 1) := dk_172 (dk_at dksX9_talk_8 11 rfl rfl)
abbrev cX9_reader : ByteArray := prog_17_method_65_code
def yX9_reader : MethodName := ⟨RX9, "reader", "(II)I"⟩
def dkwX9_reader_2 : List UInt8 := [180, 0, 49, 16, 28, 27, 104, 28, 96, 46, 167, 0, 4, 2, 172]
abbrev dktX9_reader_2 : List UInt8 := dkwX9_reader_2 ++ []
def dkwX9_reader_1 : List UInt8 := [96, 46, 172, 28, 155, 0, 31, 28, 6, 162, 0, 26, 42, 180, 0, 52, 27, 51, 153, 0, 17, 42]
abbrev dktX9_reader_1 : List UInt8 := dkwX9_reader_1 ++ dktX9_reader_2
def dkwX9_reader_0 : List UInt8 := [42, 27, 182, 1, 66, 154, 0, 5, 2, 172, 28, 6, 160, 0, 15, 42, 180, 0, 49, 16, 28, 27, 104, 6]
abbrev dktX9_reader_0 : List UInt8 := dkwX9_reader_0 ++ dktX9_reader_1
theorem dksX9_reader_0 : cX9_reader.data.toList.drop 0 = dktX9_reader_0 := by decide +kernel
theorem dksX9_reader_1 : cX9_reader.data.toList.drop 24 = dktX9_reader_1 := dk_seg dksX9_reader_0 24 rfl rfl
theorem dksX9_reader_2 : cX9_reader.data.toList.drop 46 = dktX9_reader_2 := dk_seg dksX9_reader_1 22 rfl rfl
theorem dX9_reader_0 : decode cX9_reader 0 = .ok (.aload_n 0, 1) := dk_42 (dk_at dksX9_reader_0 0 rfl rfl)
theorem dX9_reader_1 : decode cX9_reader 1 = .ok (.iload_n 1, 1) := dk_27 (dk_at dksX9_reader_0 1 rfl rfl)
theorem dX9_reader_2 : decode cX9_reader 2 = .ok (.invokevirtual 322, 3) := dk_182 1 66 (dk_at dksX9_reader_0 2 rfl rfl)
theorem dX9_reader_5 : decode cX9_reader 5 = .ok (.ifCond .ne 5, 3) := dk_154 0 5 (dk_at dksX9_reader_0 5 rfl rfl)
theorem dX9_reader_8 : decode cX9_reader 8 = .ok (.iconst (-1), 1) := dk_2 (dk_at dksX9_reader_0 8 rfl rfl)
theorem dX9_reader_9 : decode cX9_reader 9 = .ok (.ireturn, 1) := dk_172 (dk_at dksX9_reader_0 9 rfl rfl)
theorem dX9_reader_10 : decode cX9_reader 10 = .ok (.iload_n 2, 1) := dk_28 (dk_at dksX9_reader_0 10 rfl rfl)
theorem dX9_reader_11 : decode cX9_reader 11 = .ok (.iconst 3, 1) := dk_6 (dk_at dksX9_reader_0 11 rfl rfl)
theorem dX9_reader_12 : decode cX9_reader 12 = .ok (.if_icmp .ne 15, 3) := dk_160 0 15 (dk_at dksX9_reader_0 12 rfl rfl)
theorem dX9_reader_15 : decode cX9_reader 15 = .ok (.aload_n 0, 1) := dk_42 (dk_at dksX9_reader_0 15 rfl rfl)
theorem dX9_reader_16 : decode cX9_reader 16 = .ok (.getfield 49, 3) := dk_180 0 49 (dk_at dksX9_reader_0 16 rfl rfl)
theorem dX9_reader_19 : decode cX9_reader 19 = .ok (.bipush 28, 2) := dk_16 28 (dk_at dksX9_reader_0 19 rfl rfl)
theorem dX9_reader_21 : decode cX9_reader 21 = .ok (.iload_n 1, 1) := dk_27 (dk_at dksX9_reader_0 21 rfl rfl)
theorem dX9_reader_22 : decode cX9_reader 22 = .ok (.imul, 1) := dk_104 (dk_at dksX9_reader_0 22 rfl rfl)
theorem dX9_reader_23 : decode cX9_reader 23 = .ok (.iconst 3, 1) := dk_6 (dk_at dksX9_reader_0 23 rfl rfl)
theorem dX9_reader_24 : decode cX9_reader 24 = .ok (.iadd, 1) := dk_96 (dk_at dksX9_reader_1 0 rfl rfl)
theorem dX9_reader_25 : decode cX9_reader 25 = .ok (.iaload, 1) := dk_46 (dk_at dksX9_reader_1 1 rfl rfl)
theorem dX9_reader_26 : decode cX9_reader 26 = .ok (.ireturn, 1) := dk_172 (dk_at dksX9_reader_1 2 rfl rfl)
theorem dX9_reader_27 : decode cX9_reader 27 = .ok (.iload_n 2, 1) := dk_28 (dk_at dksX9_reader_1 3 rfl rfl)
theorem dX9_reader_28 : decode cX9_reader 28 = .ok (.ifCond .lt 31, 3) := dk_155 0 31 (dk_at dksX9_reader_1 4 rfl rfl)
theorem dX9_reader_31 : decode cX9_reader 31 = .ok (.iload_n 2, 1) := dk_28 (dk_at dksX9_reader_1 7 rfl rfl)
theorem dX9_reader_32 : decode cX9_reader 32 = .ok (.iconst 3, 1) := dk_6 (dk_at dksX9_reader_1 8 rfl rfl)
theorem dX9_reader_33 : decode cX9_reader 33 = .ok (.if_icmp .ge 26, 3) := dk_162 0 26 (dk_at dksX9_reader_1 9 rfl rfl)
theorem dX9_reader_36 : decode cX9_reader 36 = .ok (.aload_n 0, 1) := dk_42 (dk_at dksX9_reader_1 12 rfl rfl)
theorem dX9_reader_37 : decode cX9_reader 37 = .ok (.getfield 52, 3) := dk_180 0 52 (dk_at dksX9_reader_1 13 rfl rfl)
theorem dX9_reader_40 : decode cX9_reader 40 = .ok (.iload_n 1, 1) := dk_27 (dk_at dksX9_reader_1 16 rfl rfl)
theorem dX9_reader_41 : decode cX9_reader 41 = .ok (.baload, 1) := dk_51 (dk_at dksX9_reader_1 17 rfl rfl)
theorem dX9_reader_42 : decode cX9_reader 42 = .ok (.ifCond .eq 17, 3) := dk_153 0 17 (dk_at dksX9_reader_1 18 rfl rfl)
theorem dX9_reader_45 : decode cX9_reader 45 = .ok (.aload_n 0, 1) := dk_42 (dk_at dksX9_reader_1 21 rfl rfl)
theorem dX9_reader_46 : decode cX9_reader 46 = .ok (.getfield 49, 3) := dk_180 0 49 (dk_at dksX9_reader_2 0 rfl rfl)
theorem dX9_reader_49 : decode cX9_reader 49 = .ok (.bipush 28, 2) := dk_16 28 (dk_at dksX9_reader_2 3 rfl rfl)
theorem dX9_reader_51 : decode cX9_reader 51 = .ok (.iload_n 1, 1) := dk_27 (dk_at dksX9_reader_2 5 rfl rfl)
theorem dX9_reader_52 : decode cX9_reader 52 = .ok (.imul, 1) := dk_104 (dk_at dksX9_reader_2 6 rfl rfl)
theorem dX9_reader_53 : decode cX9_reader 53 = .ok (.iload_n 2, 1) := dk_28 (dk_at dksX9_reader_2 7 rfl rfl)
theorem dX9_reader_54 : decode cX9_reader 54 = .ok (.iadd, 1) := dk_96 (dk_at dksX9_reader_2 8 rfl rfl)
theorem dX9_reader_55 : decode cX9_reader 55 = .ok (.iaload, 1) := dk_46 (dk_at dksX9_reader_2 9 rfl rfl)
theorem dX9_reader_56 : decode cX9_reader 56 = .ok (.goto 4, 3) := dk_167 0 4 (dk_at dksX9_reader_2 10 rfl rfl)
theorem dX9_reader_59 : decode cX9_reader 59 = .ok (.iconst (-1), 1) := dk_2 (dk_at dksX9_reader_2 13 rfl rfl)
theorem dX9_reader_60 : decode cX9_reader 60 = .ok (.ireturn, 1) := dk_172 (dk_at dksX9_reader_2 14 rfl rfl)
abbrev cX9_blame_2 : ByteArray := prog_17_method_66_code
def yX9_blame_2 : MethodName := ⟨RX9, "blame", "(II)I"⟩
def dkwX9_blame_2_6 : List UInt8 := [16, 12, 96, 46, 172, 42, 180, 0, 55, 21, 4, 16, 12, 96, 46, 172, 2, 172]
abbrev dktX9_blame_2_6 : List UInt8 := dkwX9_blame_2_6 ++ []
def dkwX9_blame_2_5 : List UInt8 := [180, 0, 55, 29, 7, 96, 46, 172, 42, 180, 0, 55, 21, 4, 7, 96, 46, 172, 42, 180, 0, 55, 29]
abbrev dktX9_blame_2_5 : List UInt8 := dkwX9_blame_2_5 ++ dktX9_blame_2_6
def dkwX9_blame_2_4 : List UInt8 := [42, 29, 182, 1, 94, 153, 0, 16, 42, 21, 4, 182, 1, 94, 153, 0, 7, 4, 167, 0, 4, 3, 172, 42]
abbrev dktX9_blame_2_4 : List UInt8 := dkwX9_blame_2_4 ++ dktX9_blame_2_5
def dkwX9_blame_2_3 : List UInt8 := [42, 180, 0, 55, 29, 46, 172, 42, 180, 0, 55, 21, 4, 46, 172, 42, 180, 0, 55, 29, 5, 96, 46, 172]
abbrev dktX9_blame_2_3 : List UInt8 := dkwX9_blame_2_3 ++ dktX9_blame_2_4
def dkwX9_blame_2_2 : List UInt8 := [170, 0, 0, 0, 0, 133, 0, 0, 0, 0, 0, 0, 0, 7, 0, 0, 0, 46, 0, 0, 0, 53, 0, 0, 0, 61, 0, 0, 0, 70, 0, 0, 0, 93, 0, 0, 0, 102, 0, 0, 0, 112, 0, 0, 0, 122]
abbrev dktX9_blame_2_2 : List UInt8 := dkwX9_blame_2_2 ++ dktX9_blame_2_3
def dkwX9_blame_2_1 : List UInt8 := [54, 4, 28]
abbrev dktX9_blame_2_1 : List UInt8 := dkwX9_blame_2_1 ++ dktX9_blame_2_2
def dkwX9_blame_2_0 : List UInt8 := [27, 155, 0, 11, 27, 42, 180, 1, 80, 161, 0, 5, 2, 172, 16, 56, 27, 104, 62, 29, 16, 28, 96]
abbrev dktX9_blame_2_0 : List UInt8 := dkwX9_blame_2_0 ++ dktX9_blame_2_1
theorem dksX9_blame_2_0 : cX9_blame_2.data.toList.drop 0 = dktX9_blame_2_0 := by decide +kernel
theorem dksX9_blame_2_1 : cX9_blame_2.data.toList.drop 23 = dktX9_blame_2_1 := dk_seg dksX9_blame_2_0 23 rfl rfl
theorem dksX9_blame_2_2 : cX9_blame_2.data.toList.drop 26 = dktX9_blame_2_2 := dk_seg dksX9_blame_2_1 3 rfl rfl
theorem dksX9_blame_2_3 : cX9_blame_2.data.toList.drop 72 = dktX9_blame_2_3 := dk_seg dksX9_blame_2_2 46 rfl rfl
theorem dksX9_blame_2_4 : cX9_blame_2.data.toList.drop 96 = dktX9_blame_2_4 := dk_seg dksX9_blame_2_3 24 rfl rfl
theorem dksX9_blame_2_5 : cX9_blame_2.data.toList.drop 120 = dktX9_blame_2_5 := dk_seg dksX9_blame_2_4 24 rfl rfl
theorem dksX9_blame_2_6 : cX9_blame_2.data.toList.drop 143 = dktX9_blame_2_6 := dk_seg dksX9_blame_2_5 23 rfl rfl
theorem dX9_blame_2_0 : decode cX9_blame_2 0 = .ok (.iload_n 1, 1) := dk_27 (dk_at dksX9_blame_2_0 0 rfl rfl)
theorem dX9_blame_2_1 : decode cX9_blame_2 1 = .ok (.ifCond .lt 11, 3) := dk_155 0 11 (dk_at dksX9_blame_2_0 1 rfl rfl)
theorem dX9_blame_2_4 : decode cX9_blame_2 4 = .ok (.iload_n 1, 1) := dk_27 (dk_at dksX9_blame_2_0 4 rfl rfl)
theorem dX9_blame_2_5 : decode cX9_blame_2 5 = .ok (.aload_n 0, 1) := dk_42 (dk_at dksX9_blame_2_0 5 rfl rfl)
theorem dX9_blame_2_6 : decode cX9_blame_2 6 = .ok (.getfield 336, 3) := dk_180 1 80 (dk_at dksX9_blame_2_0 6 rfl rfl)
theorem dX9_blame_2_9 : decode cX9_blame_2 9 = .ok (.if_icmp .lt 5, 3) := dk_161 0 5 (dk_at dksX9_blame_2_0 9 rfl rfl)
theorem dX9_blame_2_12 : decode cX9_blame_2 12 = .ok (.iconst (-1), 1) := dk_2 (dk_at dksX9_blame_2_0 12 rfl rfl)
theorem dX9_blame_2_13 : decode cX9_blame_2 13 = .ok (.ireturn, 1) := dk_172 (dk_at dksX9_blame_2_0 13 rfl rfl)
theorem dX9_blame_2_14 : decode cX9_blame_2 14 = .ok (.bipush 56, 2) := dk_16 56 (dk_at dksX9_blame_2_0 14 rfl rfl)
theorem dX9_blame_2_16 : decode cX9_blame_2 16 = .ok (.iload_n 1, 1) := dk_27 (dk_at dksX9_blame_2_0 16 rfl rfl)
theorem dX9_blame_2_17 : decode cX9_blame_2 17 = .ok (.imul, 1) := dk_104 (dk_at dksX9_blame_2_0 17 rfl rfl)
theorem dX9_blame_2_18 : decode cX9_blame_2 18 = .ok (.istore_n 3, 1) := dk_62 (dk_at dksX9_blame_2_0 18 rfl rfl)
theorem dX9_blame_2_19 : decode cX9_blame_2 19 = .ok (.iload_n 3, 1) := dk_29 (dk_at dksX9_blame_2_0 19 rfl rfl)
theorem dX9_blame_2_20 : decode cX9_blame_2 20 = .ok (.bipush 28, 2) := dk_16 28 (dk_at dksX9_blame_2_0 20 rfl rfl)
theorem dX9_blame_2_22 : decode cX9_blame_2 22 = .ok (.iadd, 1) := dk_96 (dk_at dksX9_blame_2_0 22 rfl rfl)
theorem dX9_blame_2_23 : decode cX9_blame_2 23 = .ok (.istore 4, 2) := dk_54 4 (dk_at dksX9_blame_2_1 0 rfl rfl)
theorem dX9_blame_2_25 : decode cX9_blame_2 25 = .ok (.iload_n 2, 1) := dk_28 (dk_at dksX9_blame_2_1 2 rfl rfl)
theorem dX9_blame_2_26 : decode cX9_blame_2 26 = .ok (.tableswitch 133 0 7 #[46, 53, 61, 70, 93, 102, 112, 122], 46) := by decide +kernel
theorem dX9_blame_2_72 : decode cX9_blame_2 72 = .ok (.aload_n 0, 1) := dk_42 (dk_at dksX9_blame_2_3 0 rfl rfl)
theorem dX9_blame_2_73 : decode cX9_blame_2 73 = .ok (.getfield 55, 3) := dk_180 0 55 (dk_at dksX9_blame_2_3 1 rfl rfl)
theorem dX9_blame_2_76 : decode cX9_blame_2 76 = .ok (.iload_n 3, 1) := dk_29 (dk_at dksX9_blame_2_3 4 rfl rfl)
theorem dX9_blame_2_77 : decode cX9_blame_2 77 = .ok (.iaload, 1) := dk_46 (dk_at dksX9_blame_2_3 5 rfl rfl)
theorem dX9_blame_2_78 : decode cX9_blame_2 78 = .ok (.ireturn, 1) := dk_172 (dk_at dksX9_blame_2_3 6 rfl rfl)
theorem dX9_blame_2_79 : decode cX9_blame_2 79 = .ok (.aload_n 0, 1) := dk_42 (dk_at dksX9_blame_2_3 7 rfl rfl)
theorem dX9_blame_2_80 : decode cX9_blame_2 80 = .ok (.getfield 55, 3) := dk_180 0 55 (dk_at dksX9_blame_2_3 8 rfl rfl)
theorem dX9_blame_2_83 : decode cX9_blame_2 83 = .ok (.iload 4, 2) := dk_21 4 (dk_at dksX9_blame_2_3 11 rfl rfl)
theorem dX9_blame_2_85 : decode cX9_blame_2 85 = .ok (.iaload, 1) := dk_46 (dk_at dksX9_blame_2_3 13 rfl rfl)
theorem dX9_blame_2_86 : decode cX9_blame_2 86 = .ok (.ireturn, 1) := dk_172 (dk_at dksX9_blame_2_3 14 rfl rfl)
theorem dX9_blame_2_87 : decode cX9_blame_2 87 = .ok (.aload_n 0, 1) := dk_42 (dk_at dksX9_blame_2_3 15 rfl rfl)
theorem dX9_blame_2_88 : decode cX9_blame_2 88 = .ok (.getfield 55, 3) := dk_180 0 55 (dk_at dksX9_blame_2_3 16 rfl rfl)
theorem dX9_blame_2_91 : decode cX9_blame_2 91 = .ok (.iload_n 3, 1) := dk_29 (dk_at dksX9_blame_2_3 19 rfl rfl)
theorem dX9_blame_2_92 : decode cX9_blame_2 92 = .ok (.iconst 2, 1) := dk_5 (dk_at dksX9_blame_2_3 20 rfl rfl)
theorem dX9_blame_2_93 : decode cX9_blame_2 93 = .ok (.iadd, 1) := dk_96 (dk_at dksX9_blame_2_3 21 rfl rfl)
theorem dX9_blame_2_94 : decode cX9_blame_2 94 = .ok (.iaload, 1) := dk_46 (dk_at dksX9_blame_2_3 22 rfl rfl)
theorem dX9_blame_2_95 : decode cX9_blame_2 95 = .ok (.ireturn, 1) := dk_172 (dk_at dksX9_blame_2_3 23 rfl rfl)
theorem dX9_blame_2_96 : decode cX9_blame_2 96 = .ok (.aload_n 0, 1) := dk_42 (dk_at dksX9_blame_2_4 0 rfl rfl)
theorem dX9_blame_2_97 : decode cX9_blame_2 97 = .ok (.iload_n 3, 1) := dk_29 (dk_at dksX9_blame_2_4 1 rfl rfl)
theorem dX9_blame_2_98 : decode cX9_blame_2 98 = .ok (.invokevirtual 350, 3) := dk_182 1 94 (dk_at dksX9_blame_2_4 2 rfl rfl)
theorem dX9_blame_2_101 : decode cX9_blame_2 101 = .ok (.ifCond .eq 16, 3) := dk_153 0 16 (dk_at dksX9_blame_2_4 5 rfl rfl)
theorem dX9_blame_2_104 : decode cX9_blame_2 104 = .ok (.aload_n 0, 1) := dk_42 (dk_at dksX9_blame_2_4 8 rfl rfl)
theorem dX9_blame_2_105 : decode cX9_blame_2 105 = .ok (.iload 4, 2) := dk_21 4 (dk_at dksX9_blame_2_4 9 rfl rfl)
theorem dX9_blame_2_107 : decode cX9_blame_2 107 = .ok (.invokevirtual 350, 3) := dk_182 1 94 (dk_at dksX9_blame_2_4 11 rfl rfl)
theorem dX9_blame_2_110 : decode cX9_blame_2 110 = .ok (.ifCond .eq 7, 3) := dk_153 0 7 (dk_at dksX9_blame_2_4 14 rfl rfl)
theorem dX9_blame_2_113 : decode cX9_blame_2 113 = .ok (.iconst 1, 1) := dk_4 (dk_at dksX9_blame_2_4 17 rfl rfl)
theorem dX9_blame_2_114 : decode cX9_blame_2 114 = .ok (.goto 4, 3) := dk_167 0 4 (dk_at dksX9_blame_2_4 18 rfl rfl)
theorem dX9_blame_2_117 : decode cX9_blame_2 117 = .ok (.iconst 0, 1) := dk_3 (dk_at dksX9_blame_2_4 21 rfl rfl)
theorem dX9_blame_2_118 : decode cX9_blame_2 118 = .ok (.ireturn, 1) := dk_172 (dk_at dksX9_blame_2_4 22 rfl rfl)
theorem dX9_blame_2_119 : decode cX9_blame_2 119 = .ok (.aload_n 0, 1) := dk_42 (dk_at dksX9_blame_2_4 23 rfl rfl)
theorem dX9_blame_2_120 : decode cX9_blame_2 120 = .ok (.getfield 55, 3) := dk_180 0 55 (dk_at dksX9_blame_2_5 0 rfl rfl)
theorem dX9_blame_2_123 : decode cX9_blame_2 123 = .ok (.iload_n 3, 1) := dk_29 (dk_at dksX9_blame_2_5 3 rfl rfl)
theorem dX9_blame_2_124 : decode cX9_blame_2 124 = .ok (.iconst 4, 1) := dk_7 (dk_at dksX9_blame_2_5 4 rfl rfl)
theorem dX9_blame_2_125 : decode cX9_blame_2 125 = .ok (.iadd, 1) := dk_96 (dk_at dksX9_blame_2_5 5 rfl rfl)
theorem dX9_blame_2_126 : decode cX9_blame_2 126 = .ok (.iaload, 1) := dk_46 (dk_at dksX9_blame_2_5 6 rfl rfl)
theorem dX9_blame_2_127 : decode cX9_blame_2 127 = .ok (.ireturn, 1) := dk_172 (dk_at dksX9_blame_2_5 7 rfl rfl)
theorem dX9_blame_2_128 : decode cX9_blame_2 128 = .ok (.aload_n 0, 1) := dk_42 (dk_at dksX9_blame_2_5 8 rfl rfl)
theorem dX9_blame_2_129 : decode cX9_blame_2 129 = .ok (.getfield 55, 3) := dk_180 0 55 (dk_at dksX9_blame_2_5 9 rfl rfl)
theorem dX9_blame_2_132 : decode cX9_blame_2 132 = .ok (.iload 4, 2) := dk_21 4 (dk_at dksX9_blame_2_5 12 rfl rfl)
theorem dX9_blame_2_134 : decode cX9_blame_2 134 = .ok (.iconst 4, 1) := dk_7 (dk_at dksX9_blame_2_5 14 rfl rfl)
theorem dX9_blame_2_135 : decode cX9_blame_2 135 = .ok (.iadd, 1) := dk_96 (dk_at dksX9_blame_2_5 15 rfl rfl)
theorem dX9_blame_2_136 : decode cX9_blame_2 136 = .ok (.iaload, 1) := dk_46 (dk_at dksX9_blame_2_5 16 rfl rfl)
theorem dX9_blame_2_137 : decode cX9_blame_2 137 = .ok (.ireturn, 1) := dk_172 (dk_at dksX9_blame_2_5 17 rfl rfl)
theorem dX9_blame_2_138 : decode cX9_blame_2 138 = .ok (.aload_n 0, 1) := dk_42 (dk_at dksX9_blame_2_5 18 rfl rfl)
theorem dX9_blame_2_139 : decode cX9_blame_2 139 = .ok (.getfield 55, 3) := dk_180 0 55 (dk_at dksX9_blame_2_5 19 rfl rfl)
theorem dX9_blame_2_142 : decode cX9_blame_2 142 = .ok (.iload_n 3, 1) := dk_29 (dk_at dksX9_blame_2_5 22 rfl rfl)
theorem dX9_blame_2_143 : decode cX9_blame_2 143 = .ok (.bipush 12, 2) := dk_16 12 (dk_at dksX9_blame_2_6 0 rfl rfl)
theorem dX9_blame_2_145 : decode cX9_blame_2 145 = .ok (.iadd, 1) := dk_96 (dk_at dksX9_blame_2_6 2 rfl rfl)
theorem dX9_blame_2_146 : decode cX9_blame_2 146 = .ok (.iaload, 1) := dk_46 (dk_at dksX9_blame_2_6 3 rfl rfl)
theorem dX9_blame_2_147 : decode cX9_blame_2 147 = .ok (.ireturn, 1) := dk_172 (dk_at dksX9_blame_2_6 4 rfl rfl)
theorem dX9_blame_2_148 : decode cX9_blame_2 148 = .ok (.aload_n 0, 1) := dk_42 (dk_at dksX9_blame_2_6 5 rfl rfl)
theorem dX9_blame_2_149 : decode cX9_blame_2 149 = .ok (.getfield 55, 3) := dk_180 0 55 (dk_at dksX9_blame_2_6 6 rfl rfl)
theorem dX9_blame_2_152 : decode cX9_blame_2 152 = .ok (.iload 4, 2) := dk_21 4 (dk_at dksX9_blame_2_6 9 rfl rfl)
theorem dX9_blame_2_154 : decode cX9_blame_2 154 = .ok (.bipush 12, 2) := dk_16 12 (dk_at dksX9_blame_2_6 11 rfl rfl)
theorem dX9_blame_2_156 : decode cX9_blame_2 156 = .ok (.iadd, 1) := dk_96 (dk_at dksX9_blame_2_6 13 rfl rfl)
theorem dX9_blame_2_157 : decode cX9_blame_2 157 = .ok (.iaload, 1) := dk_46 (dk_at dksX9_blame_2_6 14 rfl rfl)
theorem dX9_blame_2_158 : decode cX9_blame_2 158 = .ok (.ireturn, 1) := dk_172 (dk_at dksX9_blame_2_6 15 rfl rfl)
theorem dX9_blame_2_159 : decode cX9_blame_2 159 = .ok (.iconst (-1), 1) := dk_2 (dk_at dksX9_blame_2_6 16 rfl rfl)
theorem dX9_blame_2_160 : decode cX9_blame_2 160 = .ok (.ireturn, 1) := dk_172 (dk_at dksX9_blame_2_6 17 rfl rfl)
abbrev cX9_isMarked : ByteArray := prog_17_method_67_code
def yX9_isMarked : MethodName := ⟨RX9, "isMarked", "(I)Z"⟩
def dkwX9_isMarked_1 : List UInt8 := [16, 12, 96, 182, 1, 7, 42, 180, 0, 130, 3, 42, 180, 0, 55, 27, 16, 20, 96, 184, 1, 62, 172]
abbrev dktX9_isMarked_1 : List UInt8 := dkwX9_isMarked_1 ++ []
def dkwX9_isMarked_0 : List UInt8 := [42, 42, 180, 0, 55, 27, 5, 96, 46, 42, 180, 0, 55, 27, 46, 42, 180, 0, 55, 27, 7, 96, 27]
abbrev dktX9_isMarked_0 : List UInt8 := dkwX9_isMarked_0 ++ dktX9_isMarked_1
theorem dksX9_isMarked_0 : cX9_isMarked.data.toList.drop 0 = dktX9_isMarked_0 := by decide +kernel
theorem dksX9_isMarked_1 : cX9_isMarked.data.toList.drop 23 = dktX9_isMarked_1 := dk_seg dksX9_isMarked_0 23 rfl rfl
theorem dX9_isMarked_0 : decode cX9_isMarked 0 = .ok (.aload_n 0, 1) := dk_42 (dk_at dksX9_isMarked_0 0 rfl rfl)
theorem dX9_isMarked_1 : decode cX9_isMarked 1 = .ok (.aload_n 0, 1) := dk_42 (dk_at dksX9_isMarked_0 1 rfl rfl)
theorem dX9_isMarked_2 : decode cX9_isMarked 2 = .ok (.getfield 55, 3) := dk_180 0 55 (dk_at dksX9_isMarked_0 2 rfl rfl)
theorem dX9_isMarked_5 : decode cX9_isMarked 5 = .ok (.iload_n 1, 1) := dk_27 (dk_at dksX9_isMarked_0 5 rfl rfl)
theorem dX9_isMarked_6 : decode cX9_isMarked 6 = .ok (.iconst 2, 1) := dk_5 (dk_at dksX9_isMarked_0 6 rfl rfl)
theorem dX9_isMarked_7 : decode cX9_isMarked 7 = .ok (.iadd, 1) := dk_96 (dk_at dksX9_isMarked_0 7 rfl rfl)
theorem dX9_isMarked_8 : decode cX9_isMarked 8 = .ok (.iaload, 1) := dk_46 (dk_at dksX9_isMarked_0 8 rfl rfl)
theorem dX9_isMarked_9 : decode cX9_isMarked 9 = .ok (.aload_n 0, 1) := dk_42 (dk_at dksX9_isMarked_0 9 rfl rfl)
theorem dX9_isMarked_10 : decode cX9_isMarked 10 = .ok (.getfield 55, 3) := dk_180 0 55 (dk_at dksX9_isMarked_0 10 rfl rfl)
theorem dX9_isMarked_13 : decode cX9_isMarked 13 = .ok (.iload_n 1, 1) := dk_27 (dk_at dksX9_isMarked_0 13 rfl rfl)
theorem dX9_isMarked_14 : decode cX9_isMarked 14 = .ok (.iaload, 1) := dk_46 (dk_at dksX9_isMarked_0 14 rfl rfl)
theorem dX9_isMarked_15 : decode cX9_isMarked 15 = .ok (.aload_n 0, 1) := dk_42 (dk_at dksX9_isMarked_0 15 rfl rfl)
theorem dX9_isMarked_16 : decode cX9_isMarked 16 = .ok (.getfield 55, 3) := dk_180 0 55 (dk_at dksX9_isMarked_0 16 rfl rfl)
theorem dX9_isMarked_19 : decode cX9_isMarked 19 = .ok (.iload_n 1, 1) := dk_27 (dk_at dksX9_isMarked_0 19 rfl rfl)
theorem dX9_isMarked_20 : decode cX9_isMarked 20 = .ok (.iconst 4, 1) := dk_7 (dk_at dksX9_isMarked_0 20 rfl rfl)
theorem dX9_isMarked_21 : decode cX9_isMarked 21 = .ok (.iadd, 1) := dk_96 (dk_at dksX9_isMarked_0 21 rfl rfl)
theorem dX9_isMarked_22 : decode cX9_isMarked 22 = .ok (.iload_n 1, 1) := dk_27 (dk_at dksX9_isMarked_0 22 rfl rfl)
theorem dX9_isMarked_23 : decode cX9_isMarked 23 = .ok (.bipush 12, 2) := dk_16 12 (dk_at dksX9_isMarked_1 0 rfl rfl)
theorem dX9_isMarked_25 : decode cX9_isMarked 25 = .ok (.iadd, 1) := dk_96 (dk_at dksX9_isMarked_1 2 rfl rfl)
theorem dX9_isMarked_26 : decode cX9_isMarked 26 = .ok (.invokevirtual 263, 3) := dk_182 1 7 (dk_at dksX9_isMarked_1 3 rfl rfl)
theorem dX9_isMarked_29 : decode cX9_isMarked 29 = .ok (.aload_n 0, 1) := dk_42 (dk_at dksX9_isMarked_1 6 rfl rfl)
theorem dX9_isMarked_30 : decode cX9_isMarked 30 = .ok (.getfield 130, 3) := dk_180 0 130 (dk_at dksX9_isMarked_1 7 rfl rfl)
theorem dX9_isMarked_33 : decode cX9_isMarked 33 = .ok (.iconst 0, 1) := dk_3 (dk_at dksX9_isMarked_1 10 rfl rfl)
theorem dX9_isMarked_34 : decode cX9_isMarked 34 = .ok (.aload_n 0, 1) := dk_42 (dk_at dksX9_isMarked_1 11 rfl rfl)
theorem dX9_isMarked_35 : decode cX9_isMarked 35 = .ok (.getfield 55, 3) := dk_180 0 55 (dk_at dksX9_isMarked_1 12 rfl rfl)
theorem dX9_isMarked_38 : decode cX9_isMarked 38 = .ok (.iload_n 1, 1) := dk_27 (dk_at dksX9_isMarked_1 15 rfl rfl)
theorem dX9_isMarked_39 : decode cX9_isMarked 39 = .ok (.bipush 20, 2) := dk_16 20 (dk_at dksX9_isMarked_1 16 rfl rfl)
theorem dX9_isMarked_41 : decode cX9_isMarked 41 = .ok (.iadd, 1) := dk_96 (dk_at dksX9_isMarked_1 18 rfl rfl)
theorem dX9_isMarked_42 : decode cX9_isMarked 42 = .ok (.invokestatic 318, 3) := dk_184 1 62 (dk_at dksX9_isMarked_1 19 rfl rfl)
theorem dX9_isMarked_45 : decode cX9_isMarked 45 = .ok (.ireturn, 1) := dk_172 (dk_at dksX9_isMarked_1 22 rfl rfl)
abbrev cX9_smear : ByteArray := prog_17_method_68_code
def yX9_smear : MethodName := ⟨RX9, "smear", "(III)Z"⟩
def dkwX9_smear_1 : List UInt8 := [42, 180, 0, 55, 16, 56, 27, 104, 16, 28, 96, 16, 20, 96, 28, 96, 92, 46, 29, 130, 79, 4, 172]
abbrev dktX9_smear_1 : List UInt8 := dkwX9_smear_1 ++ []
def dkwX9_smear_0 : List UInt8 := [27, 155, 0, 21, 27, 42, 180, 1, 80, 162, 0, 13, 28, 155, 0, 9, 28, 16, 7, 164, 0, 5, 3, 172]
abbrev dktX9_smear_0 : List UInt8 := dkwX9_smear_0 ++ dktX9_smear_1
theorem dksX9_smear_0 : cX9_smear.data.toList.drop 0 = dktX9_smear_0 := by decide +kernel
theorem dksX9_smear_1 : cX9_smear.data.toList.drop 24 = dktX9_smear_1 := dk_seg dksX9_smear_0 24 rfl rfl
theorem dX9_smear_0 : decode cX9_smear 0 = .ok (.iload_n 1, 1) := dk_27 (dk_at dksX9_smear_0 0 rfl rfl)
theorem dX9_smear_1 : decode cX9_smear 1 = .ok (.ifCond .lt 21, 3) := dk_155 0 21 (dk_at dksX9_smear_0 1 rfl rfl)
theorem dX9_smear_4 : decode cX9_smear 4 = .ok (.iload_n 1, 1) := dk_27 (dk_at dksX9_smear_0 4 rfl rfl)
theorem dX9_smear_5 : decode cX9_smear 5 = .ok (.aload_n 0, 1) := dk_42 (dk_at dksX9_smear_0 5 rfl rfl)
theorem dX9_smear_6 : decode cX9_smear 6 = .ok (.getfield 336, 3) := dk_180 1 80 (dk_at dksX9_smear_0 6 rfl rfl)
theorem dX9_smear_9 : decode cX9_smear 9 = .ok (.if_icmp .ge 13, 3) := dk_162 0 13 (dk_at dksX9_smear_0 9 rfl rfl)
theorem dX9_smear_12 : decode cX9_smear 12 = .ok (.iload_n 2, 1) := dk_28 (dk_at dksX9_smear_0 12 rfl rfl)
theorem dX9_smear_13 : decode cX9_smear 13 = .ok (.ifCond .lt 9, 3) := dk_155 0 9 (dk_at dksX9_smear_0 13 rfl rfl)
theorem dX9_smear_16 : decode cX9_smear 16 = .ok (.iload_n 2, 1) := dk_28 (dk_at dksX9_smear_0 16 rfl rfl)
theorem dX9_smear_17 : decode cX9_smear 17 = .ok (.bipush 7, 2) := dk_16 7 (dk_at dksX9_smear_0 17 rfl rfl)
theorem dX9_smear_19 : decode cX9_smear 19 = .ok (.if_icmp .le 5, 3) := dk_164 0 5 (dk_at dksX9_smear_0 19 rfl rfl)
theorem dX9_smear_22 : decode cX9_smear 22 = .ok (.iconst 0, 1) := dk_3 (dk_at dksX9_smear_0 22 rfl rfl)
theorem dX9_smear_23 : decode cX9_smear 23 = .ok (.ireturn, 1) := dk_172 (dk_at dksX9_smear_0 23 rfl rfl)
theorem dX9_smear_24 : decode cX9_smear 24 = .ok (.aload_n 0, 1) := dk_42 (dk_at dksX9_smear_1 0 rfl rfl)
theorem dX9_smear_25 : decode cX9_smear 25 = .ok (.getfield 55, 3) := dk_180 0 55 (dk_at dksX9_smear_1 1 rfl rfl)
theorem dX9_smear_28 : decode cX9_smear 28 = .ok (.bipush 56, 2) := dk_16 56 (dk_at dksX9_smear_1 4 rfl rfl)
theorem dX9_smear_30 : decode cX9_smear 30 = .ok (.iload_n 1, 1) := dk_27 (dk_at dksX9_smear_1 6 rfl rfl)
theorem dX9_smear_31 : decode cX9_smear 31 = .ok (.imul, 1) := dk_104 (dk_at dksX9_smear_1 7 rfl rfl)
theorem dX9_smear_32 : decode cX9_smear 32 = .ok (.bipush 28, 2) := dk_16 28 (dk_at dksX9_smear_1 8 rfl rfl)
theorem dX9_smear_34 : decode cX9_smear 34 = .ok (.iadd, 1) := dk_96 (dk_at dksX9_smear_1 10 rfl rfl)
theorem dX9_smear_35 : decode cX9_smear 35 = .ok (.bipush 20, 2) := dk_16 20 (dk_at dksX9_smear_1 11 rfl rfl)
theorem dX9_smear_37 : decode cX9_smear 37 = .ok (.iadd, 1) := dk_96 (dk_at dksX9_smear_1 13 rfl rfl)
theorem dX9_smear_38 : decode cX9_smear 38 = .ok (.iload_n 2, 1) := dk_28 (dk_at dksX9_smear_1 14 rfl rfl)
theorem dX9_smear_39 : decode cX9_smear 39 = .ok (.iadd, 1) := dk_96 (dk_at dksX9_smear_1 15 rfl rfl)
theorem dX9_smear_40 : decode cX9_smear 40 = .ok (.dup2, 1) := dk_92 (dk_at dksX9_smear_1 16 rfl rfl)
theorem dX9_smear_41 : decode cX9_smear 41 = .ok (.iaload, 1) := dk_46 (dk_at dksX9_smear_1 17 rfl rfl)
theorem dX9_smear_42 : decode cX9_smear 42 = .ok (.iload_n 3, 1) := dk_29 (dk_at dksX9_smear_1 18 rfl rfl)
theorem dX9_smear_43 : decode cX9_smear 43 = .ok (.ixor, 1) := dk_130 (dk_at dksX9_smear_1 19 rfl rfl)
theorem dX9_smear_44 : decode cX9_smear 44 = .ok (.iastore, 1) := dk_79 (dk_at dksX9_smear_1 20 rfl rfl)
theorem dX9_smear_45 : decode cX9_smear 45 = .ok (.iconst 1, 1) := dk_4 (dk_at dksX9_smear_1 21 rfl rfl)
theorem dX9_smear_46 : decode cX9_smear 46 = .ok (.ireturn, 1) := dk_172 (dk_at dksX9_smear_1 22 rfl rfl)
abbrev cX9_watcher : ByteArray := prog_17_method_70_code
def yX9_watcher : MethodName := ⟨RX9, "watcher", "(IIII)Z"⟩
def dkwX9_watcher_3 : List UInt8 := [180, 0, 58, 8, 27, 104, 7, 96, 3, 79, 4, 172]
abbrev dktX9_watcher_3 : List UInt8 := dkwX9_watcher_3 ++ []
def dkwX9_watcher_2 : List UInt8 := [180, 0, 58, 8, 27, 104, 5, 96, 21, 4, 79, 42, 180, 0, 58, 8, 27, 104, 6, 96, 3, 79, 42]
abbrev dktX9_watcher_2 : List UInt8 := dkwX9_watcher_2 ++ dktX9_watcher_3
def dkwX9_watcher_1 : List UInt8 := [84, 42, 180, 0, 58, 8, 27, 104, 28, 79, 42, 180, 0, 58, 8, 27, 104, 4, 96, 29, 79, 42]
abbrev dktX9_watcher_1 : List UInt8 := dkwX9_watcher_1 ++ dktX9_watcher_2
def dkwX9_watcher_0 : List UInt8 := [42, 27, 182, 1, 97, 153, 0, 11, 42, 28, 182, 1, 14, 154, 0, 5, 3, 172, 42, 180, 0, 61, 27, 4]
abbrev dktX9_watcher_0 : List UInt8 := dkwX9_watcher_0 ++ dktX9_watcher_1
theorem dksX9_watcher_0 : cX9_watcher.data.toList.drop 0 = dktX9_watcher_0 := by decide +kernel
theorem dksX9_watcher_1 : cX9_watcher.data.toList.drop 24 = dktX9_watcher_1 := dk_seg dksX9_watcher_0 24 rfl rfl
theorem dksX9_watcher_2 : cX9_watcher.data.toList.drop 46 = dktX9_watcher_2 := dk_seg dksX9_watcher_1 22 rfl rfl
theorem dksX9_watcher_3 : cX9_watcher.data.toList.drop 69 = dktX9_watcher_3 := dk_seg dksX9_watcher_2 23 rfl rfl
theorem dX9_watcher_0 : decode cX9_watcher 0 = .ok (.aload_n 0, 1) := dk_42 (dk_at dksX9_watcher_0 0 rfl rfl)
theorem dX9_watcher_1 : decode cX9_watcher 1 = .ok (.iload_n 1, 1) := dk_27 (dk_at dksX9_watcher_0 1 rfl rfl)
theorem dX9_watcher_2 : decode cX9_watcher 2 = .ok (.invokevirtual 353, 3) := dk_182 1 97 (dk_at dksX9_watcher_0 2 rfl rfl)
theorem dX9_watcher_5 : decode cX9_watcher 5 = .ok (.ifCond .eq 11, 3) := dk_153 0 11 (dk_at dksX9_watcher_0 5 rfl rfl)
theorem dX9_watcher_8 : decode cX9_watcher 8 = .ok (.aload_n 0, 1) := dk_42 (dk_at dksX9_watcher_0 8 rfl rfl)
theorem dX9_watcher_9 : decode cX9_watcher 9 = .ok (.iload_n 2, 1) := dk_28 (dk_at dksX9_watcher_0 9 rfl rfl)
theorem dX9_watcher_10 : decode cX9_watcher 10 = .ok (.invokevirtual 270, 3) := dk_182 1 14 (dk_at dksX9_watcher_0 10 rfl rfl)
theorem dX9_watcher_13 : decode cX9_watcher 13 = .ok (.ifCond .ne 5, 3) := dk_154 0 5 (dk_at dksX9_watcher_0 13 rfl rfl)
theorem dX9_watcher_16 : decode cX9_watcher 16 = .ok (.iconst 0, 1) := dk_3 (dk_at dksX9_watcher_0 16 rfl rfl)
theorem dX9_watcher_17 : decode cX9_watcher 17 = .ok (.ireturn, 1) := dk_172 (dk_at dksX9_watcher_0 17 rfl rfl)
theorem dX9_watcher_18 : decode cX9_watcher 18 = .ok (.aload_n 0, 1) := dk_42 (dk_at dksX9_watcher_0 18 rfl rfl)
theorem dX9_watcher_19 : decode cX9_watcher 19 = .ok (.getfield 61, 3) := dk_180 0 61 (dk_at dksX9_watcher_0 19 rfl rfl)
theorem dX9_watcher_22 : decode cX9_watcher 22 = .ok (.iload_n 1, 1) := dk_27 (dk_at dksX9_watcher_0 22 rfl rfl)
theorem dX9_watcher_23 : decode cX9_watcher 23 = .ok (.iconst 1, 1) := dk_4 (dk_at dksX9_watcher_0 23 rfl rfl)
theorem dX9_watcher_24 : decode cX9_watcher 24 = .ok (.bastore, 1) := dk_84 (dk_at dksX9_watcher_1 0 rfl rfl)
theorem dX9_watcher_25 : decode cX9_watcher 25 = .ok (.aload_n 0, 1) := dk_42 (dk_at dksX9_watcher_1 1 rfl rfl)
theorem dX9_watcher_26 : decode cX9_watcher 26 = .ok (.getfield 58, 3) := dk_180 0 58 (dk_at dksX9_watcher_1 2 rfl rfl)
theorem dX9_watcher_29 : decode cX9_watcher 29 = .ok (.iconst 5, 1) := dk_8 (dk_at dksX9_watcher_1 5 rfl rfl)
theorem dX9_watcher_30 : decode cX9_watcher 30 = .ok (.iload_n 1, 1) := dk_27 (dk_at dksX9_watcher_1 6 rfl rfl)
theorem dX9_watcher_31 : decode cX9_watcher 31 = .ok (.imul, 1) := dk_104 (dk_at dksX9_watcher_1 7 rfl rfl)
theorem dX9_watcher_32 : decode cX9_watcher 32 = .ok (.iload_n 2, 1) := dk_28 (dk_at dksX9_watcher_1 8 rfl rfl)
theorem dX9_watcher_33 : decode cX9_watcher 33 = .ok (.iastore, 1) := dk_79 (dk_at dksX9_watcher_1 9 rfl rfl)
theorem dX9_watcher_34 : decode cX9_watcher 34 = .ok (.aload_n 0, 1) := dk_42 (dk_at dksX9_watcher_1 10 rfl rfl)
theorem dX9_watcher_35 : decode cX9_watcher 35 = .ok (.getfield 58, 3) := dk_180 0 58 (dk_at dksX9_watcher_1 11 rfl rfl)
theorem dX9_watcher_38 : decode cX9_watcher 38 = .ok (.iconst 5, 1) := dk_8 (dk_at dksX9_watcher_1 14 rfl rfl)
theorem dX9_watcher_39 : decode cX9_watcher 39 = .ok (.iload_n 1, 1) := dk_27 (dk_at dksX9_watcher_1 15 rfl rfl)
theorem dX9_watcher_40 : decode cX9_watcher 40 = .ok (.imul, 1) := dk_104 (dk_at dksX9_watcher_1 16 rfl rfl)
theorem dX9_watcher_41 : decode cX9_watcher 41 = .ok (.iconst 1, 1) := dk_4 (dk_at dksX9_watcher_1 17 rfl rfl)
theorem dX9_watcher_42 : decode cX9_watcher 42 = .ok (.iadd, 1) := dk_96 (dk_at dksX9_watcher_1 18 rfl rfl)
theorem dX9_watcher_43 : decode cX9_watcher 43 = .ok (.iload_n 3, 1) := dk_29 (dk_at dksX9_watcher_1 19 rfl rfl)
theorem dX9_watcher_44 : decode cX9_watcher 44 = .ok (.iastore, 1) := dk_79 (dk_at dksX9_watcher_1 20 rfl rfl)
theorem dX9_watcher_45 : decode cX9_watcher 45 = .ok (.aload_n 0, 1) := dk_42 (dk_at dksX9_watcher_1 21 rfl rfl)
theorem dX9_watcher_46 : decode cX9_watcher 46 = .ok (.getfield 58, 3) := dk_180 0 58 (dk_at dksX9_watcher_2 0 rfl rfl)
theorem dX9_watcher_49 : decode cX9_watcher 49 = .ok (.iconst 5, 1) := dk_8 (dk_at dksX9_watcher_2 3 rfl rfl)
theorem dX9_watcher_50 : decode cX9_watcher 50 = .ok (.iload_n 1, 1) := dk_27 (dk_at dksX9_watcher_2 4 rfl rfl)
theorem dX9_watcher_51 : decode cX9_watcher 51 = .ok (.imul, 1) := dk_104 (dk_at dksX9_watcher_2 5 rfl rfl)
theorem dX9_watcher_52 : decode cX9_watcher 52 = .ok (.iconst 2, 1) := dk_5 (dk_at dksX9_watcher_2 6 rfl rfl)
theorem dX9_watcher_53 : decode cX9_watcher 53 = .ok (.iadd, 1) := dk_96 (dk_at dksX9_watcher_2 7 rfl rfl)
theorem dX9_watcher_54 : decode cX9_watcher 54 = .ok (.iload 4, 2) := dk_21 4 (dk_at dksX9_watcher_2 8 rfl rfl)
theorem dX9_watcher_56 : decode cX9_watcher 56 = .ok (.iastore, 1) := dk_79 (dk_at dksX9_watcher_2 10 rfl rfl)
theorem dX9_watcher_57 : decode cX9_watcher 57 = .ok (.aload_n 0, 1) := dk_42 (dk_at dksX9_watcher_2 11 rfl rfl)
theorem dX9_watcher_58 : decode cX9_watcher 58 = .ok (.getfield 58, 3) := dk_180 0 58 (dk_at dksX9_watcher_2 12 rfl rfl)
theorem dX9_watcher_61 : decode cX9_watcher 61 = .ok (.iconst 5, 1) := dk_8 (dk_at dksX9_watcher_2 15 rfl rfl)
theorem dX9_watcher_62 : decode cX9_watcher 62 = .ok (.iload_n 1, 1) := dk_27 (dk_at dksX9_watcher_2 16 rfl rfl)
theorem dX9_watcher_63 : decode cX9_watcher 63 = .ok (.imul, 1) := dk_104 (dk_at dksX9_watcher_2 17 rfl rfl)
theorem dX9_watcher_64 : decode cX9_watcher 64 = .ok (.iconst 3, 1) := dk_6 (dk_at dksX9_watcher_2 18 rfl rfl)
theorem dX9_watcher_65 : decode cX9_watcher 65 = .ok (.iadd, 1) := dk_96 (dk_at dksX9_watcher_2 19 rfl rfl)
theorem dX9_watcher_66 : decode cX9_watcher 66 = .ok (.iconst 0, 1) := dk_3 (dk_at dksX9_watcher_2 20 rfl rfl)
theorem dX9_watcher_67 : decode cX9_watcher 67 = .ok (.iastore, 1) := dk_79 (dk_at dksX9_watcher_2 21 rfl rfl)
theorem dX9_watcher_68 : decode cX9_watcher 68 = .ok (.aload_n 0, 1) := dk_42 (dk_at dksX9_watcher_2 22 rfl rfl)
theorem dX9_watcher_69 : decode cX9_watcher 69 = .ok (.getfield 58, 3) := dk_180 0 58 (dk_at dksX9_watcher_3 0 rfl rfl)
theorem dX9_watcher_72 : decode cX9_watcher 72 = .ok (.iconst 5, 1) := dk_8 (dk_at dksX9_watcher_3 3 rfl rfl)
theorem dX9_watcher_73 : decode cX9_watcher 73 = .ok (.iload_n 1, 1) := dk_27 (dk_at dksX9_watcher_3 4 rfl rfl)
theorem dX9_watcher_74 : decode cX9_watcher 74 = .ok (.imul, 1) := dk_104 (dk_at dksX9_watcher_3 5 rfl rfl)
theorem dX9_watcher_75 : decode cX9_watcher 75 = .ok (.iconst 4, 1) := dk_7 (dk_at dksX9_watcher_3 6 rfl rfl)
theorem dX9_watcher_76 : decode cX9_watcher 76 = .ok (.iadd, 1) := dk_96 (dk_at dksX9_watcher_3 7 rfl rfl)
theorem dX9_watcher_77 : decode cX9_watcher 77 = .ok (.iconst 0, 1) := dk_3 (dk_at dksX9_watcher_3 8 rfl rfl)
theorem dX9_watcher_78 : decode cX9_watcher 78 = .ok (.iastore, 1) := dk_79 (dk_at dksX9_watcher_3 9 rfl rfl)
theorem dX9_watcher_79 : decode cX9_watcher 79 = .ok (.iconst 1, 1) := dk_4 (dk_at dksX9_watcher_3 10 rfl rfl)
theorem dX9_watcher_80 : decode cX9_watcher 80 = .ok (.ireturn, 1) := dk_172 (dk_at dksX9_watcher_3 11 rfl rfl)
abbrev cX9_isWatcher : ByteArray := prog_17_method_69_code
def yX9_isWatcher : MethodName := ⟨RX9, "isWatcher", "(I)Z"⟩
def dkwX9_isWatcher_0 : List UInt8 := [27, 155, 0, 13, 27, 16, 8, 162, 0, 7, 4, 167, 0, 4, 3, 172]
abbrev dktX9_isWatcher_0 : List UInt8 := dkwX9_isWatcher_0 ++ []
theorem dksX9_isWatcher_0 : cX9_isWatcher.data.toList.drop 0 = dktX9_isWatcher_0 := by decide +kernel
theorem dX9_isWatcher_0 : decode cX9_isWatcher 0 = .ok (.iload_n 1, 1) := dk_27 (dk_at dksX9_isWatcher_0 0 rfl rfl)
theorem dX9_isWatcher_1 : decode cX9_isWatcher 1 = .ok (.ifCond .lt 13, 3) := dk_155 0 13 (dk_at dksX9_isWatcher_0 1 rfl rfl)
theorem dX9_isWatcher_4 : decode cX9_isWatcher 4 = .ok (.iload_n 1, 1) := dk_27 (dk_at dksX9_isWatcher_0 4 rfl rfl)
theorem dX9_isWatcher_5 : decode cX9_isWatcher 5 = .ok (.bipush 8, 2) := dk_16 8 (dk_at dksX9_isWatcher_0 5 rfl rfl)
theorem dX9_isWatcher_7 : decode cX9_isWatcher 7 = .ok (.if_icmp .ge 7, 3) := dk_162 0 7 (dk_at dksX9_isWatcher_0 7 rfl rfl)
theorem dX9_isWatcher_10 : decode cX9_isWatcher 10 = .ok (.iconst 1, 1) := dk_4 (dk_at dksX9_isWatcher_0 10 rfl rfl)
theorem dX9_isWatcher_11 : decode cX9_isWatcher 11 = .ok (.goto 4, 3) := dk_167 0 4 (dk_at dksX9_isWatcher_0 11 rfl rfl)
theorem dX9_isWatcher_14 : decode cX9_isWatcher 14 = .ok (.iconst 0, 1) := dk_3 (dk_at dksX9_isWatcher_0 14 rfl rfl)
theorem dX9_isWatcher_15 : decode cX9_isWatcher 15 = .ok (.ireturn, 1) := dk_172 (dk_at dksX9_isWatcher_0 15 rfl rfl)
abbrev cX9_watch : ByteArray := prog_17_method_71_code
def yX9_watch : MethodName := ⟨RX9, "watch", "(I)I"⟩
def dkwX9_watch_13 : List UInt8 := [159, 0, 6, 132, 3, 1, 132, 4, 1, 167, 255, 187, 29, 172]
abbrev dktX9_watch_13 : List UInt8 := dkwX9_watch_13 ++ []
def dkwX9_watch_12 : List UInt8 := [2, 159, 0, 26, 42, 180, 0, 154, 21, 5, 46, 42, 180, 0, 67, 17, 1, 144, 27, 104, 21, 4, 96, 46]
abbrev dktX9_watch_12 : List UInt8 := dkwX9_watch_12 ++ dktX9_watch_13
def dkwX9_watch_11 : List UInt8 := [162, 0, 60, 42, 42, 180, 0, 64, 17, 1, 144, 27, 104, 21, 4, 96, 46, 182, 0, 230, 54, 5, 21, 5]
abbrev dktX9_watch_11 : List UInt8 := dkwX9_watch_11 ++ dktX9_watch_12
def dkwX9_watch_10 : List UInt8 := [182, 1, 18, 182, 1, 4, 3, 62, 3, 54, 4, 21, 4, 42, 180, 0, 58, 8, 27, 104, 7, 96, 46]
abbrev dktX9_watch_10 : List UInt8 := dkwX9_watch_10 ++ dktX9_watch_11
def dkwX9_watch_9 : List UInt8 := [167, 255, 82, 42, 180, 0, 58, 8, 27, 104, 6, 96, 42, 28, 182, 1, 18, 79, 42, 28, 42, 28]
abbrev dktX9_watch_9 : List UInt8 := dkwX9_watch_9 ++ dktX9_watch_10
def dkwX9_watch_8 : List UInt8 := [92, 46, 4, 96, 79, 42, 180, 0, 67, 17, 1, 144, 27, 104, 21, 5, 96, 29, 79, 132, 3, 1]
abbrev dktX9_watch_8 : List UInt8 := dkwX9_watch_8 ++ dktX9_watch_9
def dkwX9_watch_7 : List UInt8 := [42, 180, 0, 64, 17, 1, 144, 27, 104, 21, 5, 96, 21, 4, 79, 42, 180, 0, 58, 8, 27, 104, 7, 96]
abbrev dktX9_watch_7 : List UInt8 := dkwX9_watch_7 ++ dktX9_watch_8
def dkwX9_watch_6 : List UInt8 := [159, 0, 9, 132, 5, 1, 167, 255, 220, 21, 5, 42, 180, 0, 58, 8, 27, 104, 7, 96, 46, 160, 0, 32]
abbrev dktX9_watch_6 : List UInt8 := dkwX9_watch_6 ++ dktX9_watch_7
def dkwX9_watch_5 : List UInt8 := [8, 27, 104, 7, 96, 46, 162, 0, 27, 42, 180, 0, 64, 17, 1, 144, 27, 104, 21, 5, 96, 46, 21, 4]
abbrev dktX9_watch_5 : List UInt8 := dkwX9_watch_5 ++ dktX9_watch_6
def dkwX9_watch_4 : List UInt8 := [180, 0, 58, 8, 27, 104, 5, 96, 46, 164, 0, 6, 167, 0, 103, 3, 54, 5, 21, 5, 42, 180, 0, 58]
abbrev dktX9_watch_4 : List UInt8 := dkwX9_watch_4 ++ dktX9_watch_5
def dkwX9_watch_3 : List UInt8 := [96, 51, 154, 0, 136, 21, 4, 42, 180, 0, 58, 8, 27, 104, 4, 96, 46, 161, 0, 121, 21, 4, 42]
abbrev dktX9_watch_3 : List UInt8 := dkwX9_watch_3 ++ dktX9_watch_4
def dkwX9_watch_2 : List UInt8 := [42, 180, 0, 13, 17, 1, 144, 28, 104, 29, 96, 46, 54, 4, 42, 180, 0, 20, 17, 1, 144, 28, 104, 29]
abbrev dktX9_watch_2 : List UInt8 := dkwX9_watch_2 ++ dktX9_watch_3
def dkwX9_watch_1 : List UInt8 := [27, 104, 46, 61, 42, 180, 0, 58, 8, 27, 104, 6, 96, 46, 62, 29, 42, 28, 182, 1, 18, 162, 0, 171]
abbrev dktX9_watch_1 : List UInt8 := dkwX9_watch_1 ++ dktX9_watch_2
def dkwX9_watch_0 : List UInt8 := [42, 27, 182, 1, 97, 153, 0, 12, 42, 180, 0, 61, 27, 51, 154, 0, 5, 2, 172, 42, 180, 0, 58, 8]
abbrev dktX9_watch_0 : List UInt8 := dkwX9_watch_0 ++ dktX9_watch_1
theorem dksX9_watch_0 : cX9_watch.data.toList.drop 0 = dktX9_watch_0 := by decide +kernel
theorem dksX9_watch_1 : cX9_watch.data.toList.drop 24 = dktX9_watch_1 := dk_seg dksX9_watch_0 24 rfl rfl
theorem dksX9_watch_2 : cX9_watch.data.toList.drop 48 = dktX9_watch_2 := dk_seg dksX9_watch_1 24 rfl rfl
theorem dksX9_watch_3 : cX9_watch.data.toList.drop 72 = dktX9_watch_3 := dk_seg dksX9_watch_2 24 rfl rfl
theorem dksX9_watch_4 : cX9_watch.data.toList.drop 95 = dktX9_watch_4 := dk_seg dksX9_watch_3 23 rfl rfl
theorem dksX9_watch_5 : cX9_watch.data.toList.drop 119 = dktX9_watch_5 := dk_seg dksX9_watch_4 24 rfl rfl
theorem dksX9_watch_6 : cX9_watch.data.toList.drop 143 = dktX9_watch_6 := dk_seg dksX9_watch_5 24 rfl rfl
theorem dksX9_watch_7 : cX9_watch.data.toList.drop 167 = dktX9_watch_7 := dk_seg dksX9_watch_6 24 rfl rfl
theorem dksX9_watch_8 : cX9_watch.data.toList.drop 191 = dktX9_watch_8 := dk_seg dksX9_watch_7 24 rfl rfl
theorem dksX9_watch_9 : cX9_watch.data.toList.drop 213 = dktX9_watch_9 := dk_seg dksX9_watch_8 22 rfl rfl
theorem dksX9_watch_10 : cX9_watch.data.toList.drop 235 = dktX9_watch_10 := dk_seg dksX9_watch_9 22 rfl rfl
theorem dksX9_watch_11 : cX9_watch.data.toList.drop 258 = dktX9_watch_11 := dk_seg dksX9_watch_10 23 rfl rfl
theorem dksX9_watch_12 : cX9_watch.data.toList.drop 282 = dktX9_watch_12 := dk_seg dksX9_watch_11 24 rfl rfl
theorem dksX9_watch_13 : cX9_watch.data.toList.drop 306 = dktX9_watch_13 := dk_seg dksX9_watch_12 24 rfl rfl
theorem dX9_watch_0 : decode cX9_watch 0 = .ok (.aload_n 0, 1) := dk_42 (dk_at dksX9_watch_0 0 rfl rfl)
theorem dX9_watch_1 : decode cX9_watch 1 = .ok (.iload_n 1, 1) := dk_27 (dk_at dksX9_watch_0 1 rfl rfl)
theorem dX9_watch_2 : decode cX9_watch 2 = .ok (.invokevirtual 353, 3) := dk_182 1 97 (dk_at dksX9_watch_0 2 rfl rfl)
theorem dX9_watch_5 : decode cX9_watch 5 = .ok (.ifCond .eq 12, 3) := dk_153 0 12 (dk_at dksX9_watch_0 5 rfl rfl)
theorem dX9_watch_8 : decode cX9_watch 8 = .ok (.aload_n 0, 1) := dk_42 (dk_at dksX9_watch_0 8 rfl rfl)
theorem dX9_watch_9 : decode cX9_watch 9 = .ok (.getfield 61, 3) := dk_180 0 61 (dk_at dksX9_watch_0 9 rfl rfl)
theorem dX9_watch_12 : decode cX9_watch 12 = .ok (.iload_n 1, 1) := dk_27 (dk_at dksX9_watch_0 12 rfl rfl)
theorem dX9_watch_13 : decode cX9_watch 13 = .ok (.baload, 1) := dk_51 (dk_at dksX9_watch_0 13 rfl rfl)
theorem dX9_watch_14 : decode cX9_watch 14 = .ok (.ifCond .ne 5, 3) := dk_154 0 5 (dk_at dksX9_watch_0 14 rfl rfl)
theorem dX9_watch_17 : decode cX9_watch 17 = .ok (.iconst (-1), 1) := dk_2 (dk_at dksX9_watch_0 17 rfl rfl)
theorem dX9_watch_18 : decode cX9_watch 18 = .ok (.ireturn, 1) := dk_172 (dk_at dksX9_watch_0 18 rfl rfl)
theorem dX9_watch_19 : decode cX9_watch 19 = .ok (.aload_n 0, 1) := dk_42 (dk_at dksX9_watch_0 19 rfl rfl)
theorem dX9_watch_20 : decode cX9_watch 20 = .ok (.getfield 58, 3) := dk_180 0 58 (dk_at dksX9_watch_0 20 rfl rfl)
theorem dX9_watch_23 : decode cX9_watch 23 = .ok (.iconst 5, 1) := dk_8 (dk_at dksX9_watch_0 23 rfl rfl)
theorem dX9_watch_24 : decode cX9_watch 24 = .ok (.iload_n 1, 1) := dk_27 (dk_at dksX9_watch_1 0 rfl rfl)
theorem dX9_watch_25 : decode cX9_watch 25 = .ok (.imul, 1) := dk_104 (dk_at dksX9_watch_1 1 rfl rfl)
theorem dX9_watch_26 : decode cX9_watch 26 = .ok (.iaload, 1) := dk_46 (dk_at dksX9_watch_1 2 rfl rfl)
theorem dX9_watch_27 : decode cX9_watch 27 = .ok (.istore_n 2, 1) := dk_61 (dk_at dksX9_watch_1 3 rfl rfl)
theorem dX9_watch_28 : decode cX9_watch 28 = .ok (.aload_n 0, 1) := dk_42 (dk_at dksX9_watch_1 4 rfl rfl)
theorem dX9_watch_29 : decode cX9_watch 29 = .ok (.getfield 58, 3) := dk_180 0 58 (dk_at dksX9_watch_1 5 rfl rfl)
theorem dX9_watch_32 : decode cX9_watch 32 = .ok (.iconst 5, 1) := dk_8 (dk_at dksX9_watch_1 8 rfl rfl)
theorem dX9_watch_33 : decode cX9_watch 33 = .ok (.iload_n 1, 1) := dk_27 (dk_at dksX9_watch_1 9 rfl rfl)
theorem dX9_watch_34 : decode cX9_watch 34 = .ok (.imul, 1) := dk_104 (dk_at dksX9_watch_1 10 rfl rfl)
theorem dX9_watch_35 : decode cX9_watch 35 = .ok (.iconst 3, 1) := dk_6 (dk_at dksX9_watch_1 11 rfl rfl)
theorem dX9_watch_36 : decode cX9_watch 36 = .ok (.iadd, 1) := dk_96 (dk_at dksX9_watch_1 12 rfl rfl)
theorem dX9_watch_37 : decode cX9_watch 37 = .ok (.iaload, 1) := dk_46 (dk_at dksX9_watch_1 13 rfl rfl)
theorem dX9_watch_38 : decode cX9_watch 38 = .ok (.istore_n 3, 1) := dk_62 (dk_at dksX9_watch_1 14 rfl rfl)
theorem dX9_watch_39 : decode cX9_watch 39 = .ok (.iload_n 3, 1) := dk_29 (dk_at dksX9_watch_1 15 rfl rfl)
theorem dX9_watch_40 : decode cX9_watch 40 = .ok (.aload_n 0, 1) := dk_42 (dk_at dksX9_watch_1 16 rfl rfl)
theorem dX9_watch_41 : decode cX9_watch 41 = .ok (.iload_n 2, 1) := dk_28 (dk_at dksX9_watch_1 17 rfl rfl)
theorem dX9_watch_42 : decode cX9_watch 42 = .ok (.invokevirtual 274, 3) := dk_182 1 18 (dk_at dksX9_watch_1 18 rfl rfl)
theorem dX9_watch_45 : decode cX9_watch 45 = .ok (.if_icmp .ge 171, 3) := dk_162 0 171 (dk_at dksX9_watch_1 21 rfl rfl)
theorem dX9_watch_48 : decode cX9_watch 48 = .ok (.aload_n 0, 1) := dk_42 (dk_at dksX9_watch_2 0 rfl rfl)
theorem dX9_watch_49 : decode cX9_watch 49 = .ok (.getfield 13, 3) := dk_180 0 13 (dk_at dksX9_watch_2 1 rfl rfl)
theorem dX9_watch_52 : decode cX9_watch 52 = .ok (.sipush 400, 3) := dk_17 1 144 (dk_at dksX9_watch_2 4 rfl rfl)
theorem dX9_watch_55 : decode cX9_watch 55 = .ok (.iload_n 2, 1) := dk_28 (dk_at dksX9_watch_2 7 rfl rfl)
theorem dX9_watch_56 : decode cX9_watch 56 = .ok (.imul, 1) := dk_104 (dk_at dksX9_watch_2 8 rfl rfl)
theorem dX9_watch_57 : decode cX9_watch 57 = .ok (.iload_n 3, 1) := dk_29 (dk_at dksX9_watch_2 9 rfl rfl)
theorem dX9_watch_58 : decode cX9_watch 58 = .ok (.iadd, 1) := dk_96 (dk_at dksX9_watch_2 10 rfl rfl)
theorem dX9_watch_59 : decode cX9_watch 59 = .ok (.iaload, 1) := dk_46 (dk_at dksX9_watch_2 11 rfl rfl)
theorem dX9_watch_60 : decode cX9_watch 60 = .ok (.istore 4, 2) := dk_54 4 (dk_at dksX9_watch_2 12 rfl rfl)
theorem dX9_watch_62 : decode cX9_watch 62 = .ok (.aload_n 0, 1) := dk_42 (dk_at dksX9_watch_2 14 rfl rfl)
theorem dX9_watch_63 : decode cX9_watch 63 = .ok (.getfield 20, 3) := dk_180 0 20 (dk_at dksX9_watch_2 15 rfl rfl)
theorem dX9_watch_66 : decode cX9_watch 66 = .ok (.sipush 400, 3) := dk_17 1 144 (dk_at dksX9_watch_2 18 rfl rfl)
theorem dX9_watch_69 : decode cX9_watch 69 = .ok (.iload_n 2, 1) := dk_28 (dk_at dksX9_watch_2 21 rfl rfl)
theorem dX9_watch_70 : decode cX9_watch 70 = .ok (.imul, 1) := dk_104 (dk_at dksX9_watch_2 22 rfl rfl)
theorem dX9_watch_71 : decode cX9_watch 71 = .ok (.iload_n 3, 1) := dk_29 (dk_at dksX9_watch_2 23 rfl rfl)
theorem dX9_watch_72 : decode cX9_watch 72 = .ok (.iadd, 1) := dk_96 (dk_at dksX9_watch_3 0 rfl rfl)
theorem dX9_watch_73 : decode cX9_watch 73 = .ok (.baload, 1) := dk_51 (dk_at dksX9_watch_3 1 rfl rfl)
theorem dX9_watch_74 : decode cX9_watch 74 = .ok (.ifCond .ne 136, 3) := dk_154 0 136 (dk_at dksX9_watch_3 2 rfl rfl)
theorem dX9_watch_77 : decode cX9_watch 77 = .ok (.iload 4, 2) := dk_21 4 (dk_at dksX9_watch_3 5 rfl rfl)
theorem dX9_watch_79 : decode cX9_watch 79 = .ok (.aload_n 0, 1) := dk_42 (dk_at dksX9_watch_3 7 rfl rfl)
theorem dX9_watch_80 : decode cX9_watch 80 = .ok (.getfield 58, 3) := dk_180 0 58 (dk_at dksX9_watch_3 8 rfl rfl)
theorem dX9_watch_83 : decode cX9_watch 83 = .ok (.iconst 5, 1) := dk_8 (dk_at dksX9_watch_3 11 rfl rfl)
theorem dX9_watch_84 : decode cX9_watch 84 = .ok (.iload_n 1, 1) := dk_27 (dk_at dksX9_watch_3 12 rfl rfl)
theorem dX9_watch_85 : decode cX9_watch 85 = .ok (.imul, 1) := dk_104 (dk_at dksX9_watch_3 13 rfl rfl)
theorem dX9_watch_86 : decode cX9_watch 86 = .ok (.iconst 1, 1) := dk_4 (dk_at dksX9_watch_3 14 rfl rfl)
theorem dX9_watch_87 : decode cX9_watch 87 = .ok (.iadd, 1) := dk_96 (dk_at dksX9_watch_3 15 rfl rfl)
theorem dX9_watch_88 : decode cX9_watch 88 = .ok (.iaload, 1) := dk_46 (dk_at dksX9_watch_3 16 rfl rfl)
theorem dX9_watch_89 : decode cX9_watch 89 = .ok (.if_icmp .lt 121, 3) := dk_161 0 121 (dk_at dksX9_watch_3 17 rfl rfl)
theorem dX9_watch_92 : decode cX9_watch 92 = .ok (.iload 4, 2) := dk_21 4 (dk_at dksX9_watch_3 20 rfl rfl)
theorem dX9_watch_94 : decode cX9_watch 94 = .ok (.aload_n 0, 1) := dk_42 (dk_at dksX9_watch_3 22 rfl rfl)
theorem dX9_watch_95 : decode cX9_watch 95 = .ok (.getfield 58, 3) := dk_180 0 58 (dk_at dksX9_watch_4 0 rfl rfl)
theorem dX9_watch_98 : decode cX9_watch 98 = .ok (.iconst 5, 1) := dk_8 (dk_at dksX9_watch_4 3 rfl rfl)
theorem dX9_watch_99 : decode cX9_watch 99 = .ok (.iload_n 1, 1) := dk_27 (dk_at dksX9_watch_4 4 rfl rfl)
theorem dX9_watch_100 : decode cX9_watch 100 = .ok (.imul, 1) := dk_104 (dk_at dksX9_watch_4 5 rfl rfl)
theorem dX9_watch_101 : decode cX9_watch 101 = .ok (.iconst 2, 1) := dk_5 (dk_at dksX9_watch_4 6 rfl rfl)
theorem dX9_watch_102 : decode cX9_watch 102 = .ok (.iadd, 1) := dk_96 (dk_at dksX9_watch_4 7 rfl rfl)
theorem dX9_watch_103 : decode cX9_watch 103 = .ok (.iaload, 1) := dk_46 (dk_at dksX9_watch_4 8 rfl rfl)
theorem dX9_watch_104 : decode cX9_watch 104 = .ok (.if_icmp .le 6, 3) := dk_164 0 6 (dk_at dksX9_watch_4 9 rfl rfl)
theorem dX9_watch_107 : decode cX9_watch 107 = .ok (.goto 103, 3) := dk_167 0 103 (dk_at dksX9_watch_4 12 rfl rfl)
theorem dX9_watch_110 : decode cX9_watch 110 = .ok (.iconst 0, 1) := dk_3 (dk_at dksX9_watch_4 15 rfl rfl)
theorem dX9_watch_111 : decode cX9_watch 111 = .ok (.istore 5, 2) := dk_54 5 (dk_at dksX9_watch_4 16 rfl rfl)
theorem dX9_watch_113 : decode cX9_watch 113 = .ok (.iload 5, 2) := dk_21 5 (dk_at dksX9_watch_4 18 rfl rfl)
theorem dX9_watch_115 : decode cX9_watch 115 = .ok (.aload_n 0, 1) := dk_42 (dk_at dksX9_watch_4 20 rfl rfl)
theorem dX9_watch_116 : decode cX9_watch 116 = .ok (.getfield 58, 3) := dk_180 0 58 (dk_at dksX9_watch_4 21 rfl rfl)
theorem dX9_watch_119 : decode cX9_watch 119 = .ok (.iconst 5, 1) := dk_8 (dk_at dksX9_watch_5 0 rfl rfl)
theorem dX9_watch_120 : decode cX9_watch 120 = .ok (.iload_n 1, 1) := dk_27 (dk_at dksX9_watch_5 1 rfl rfl)
theorem dX9_watch_121 : decode cX9_watch 121 = .ok (.imul, 1) := dk_104 (dk_at dksX9_watch_5 2 rfl rfl)
theorem dX9_watch_122 : decode cX9_watch 122 = .ok (.iconst 4, 1) := dk_7 (dk_at dksX9_watch_5 3 rfl rfl)
theorem dX9_watch_123 : decode cX9_watch 123 = .ok (.iadd, 1) := dk_96 (dk_at dksX9_watch_5 4 rfl rfl)
theorem dX9_watch_124 : decode cX9_watch 124 = .ok (.iaload, 1) := dk_46 (dk_at dksX9_watch_5 5 rfl rfl)
theorem dX9_watch_125 : decode cX9_watch 125 = .ok (.if_icmp .ge 27, 3) := dk_162 0 27 (dk_at dksX9_watch_5 6 rfl rfl)
theorem dX9_watch_128 : decode cX9_watch 128 = .ok (.aload_n 0, 1) := dk_42 (dk_at dksX9_watch_5 9 rfl rfl)
theorem dX9_watch_129 : decode cX9_watch 129 = .ok (.getfield 64, 3) := dk_180 0 64 (dk_at dksX9_watch_5 10 rfl rfl)
theorem dX9_watch_132 : decode cX9_watch 132 = .ok (.sipush 400, 3) := dk_17 1 144 (dk_at dksX9_watch_5 13 rfl rfl)
theorem dX9_watch_135 : decode cX9_watch 135 = .ok (.iload_n 1, 1) := dk_27 (dk_at dksX9_watch_5 16 rfl rfl)
theorem dX9_watch_136 : decode cX9_watch 136 = .ok (.imul, 1) := dk_104 (dk_at dksX9_watch_5 17 rfl rfl)
theorem dX9_watch_137 : decode cX9_watch 137 = .ok (.iload 5, 2) := dk_21 5 (dk_at dksX9_watch_5 18 rfl rfl)
theorem dX9_watch_139 : decode cX9_watch 139 = .ok (.iadd, 1) := dk_96 (dk_at dksX9_watch_5 20 rfl rfl)
theorem dX9_watch_140 : decode cX9_watch 140 = .ok (.iaload, 1) := dk_46 (dk_at dksX9_watch_5 21 rfl rfl)
theorem dX9_watch_141 : decode cX9_watch 141 = .ok (.iload 4, 2) := dk_21 4 (dk_at dksX9_watch_5 22 rfl rfl)
theorem dX9_watch_143 : decode cX9_watch 143 = .ok (.if_icmp .eq 9, 3) := dk_159 0 9 (dk_at dksX9_watch_6 0 rfl rfl)
theorem dX9_watch_146 : decode cX9_watch 146 = .ok (.iinc 5 1, 3) := dk_132 5 1 (dk_at dksX9_watch_6 3 rfl rfl)
theorem dX9_watch_149 : decode cX9_watch 149 = .ok (.goto (-36), 3) := dk_167 255 220 (dk_at dksX9_watch_6 6 rfl rfl)
theorem dX9_watch_152 : decode cX9_watch 152 = .ok (.iload 5, 2) := dk_21 5 (dk_at dksX9_watch_6 9 rfl rfl)
theorem dX9_watch_154 : decode cX9_watch 154 = .ok (.aload_n 0, 1) := dk_42 (dk_at dksX9_watch_6 11 rfl rfl)
theorem dX9_watch_155 : decode cX9_watch 155 = .ok (.getfield 58, 3) := dk_180 0 58 (dk_at dksX9_watch_6 12 rfl rfl)
theorem dX9_watch_158 : decode cX9_watch 158 = .ok (.iconst 5, 1) := dk_8 (dk_at dksX9_watch_6 15 rfl rfl)
theorem dX9_watch_159 : decode cX9_watch 159 = .ok (.iload_n 1, 1) := dk_27 (dk_at dksX9_watch_6 16 rfl rfl)
theorem dX9_watch_160 : decode cX9_watch 160 = .ok (.imul, 1) := dk_104 (dk_at dksX9_watch_6 17 rfl rfl)
theorem dX9_watch_161 : decode cX9_watch 161 = .ok (.iconst 4, 1) := dk_7 (dk_at dksX9_watch_6 18 rfl rfl)
theorem dX9_watch_162 : decode cX9_watch 162 = .ok (.iadd, 1) := dk_96 (dk_at dksX9_watch_6 19 rfl rfl)
theorem dX9_watch_163 : decode cX9_watch 163 = .ok (.iaload, 1) := dk_46 (dk_at dksX9_watch_6 20 rfl rfl)
theorem dX9_watch_164 : decode cX9_watch 164 = .ok (.if_icmp .ne 32, 3) := dk_160 0 32 (dk_at dksX9_watch_6 21 rfl rfl)
theorem dX9_watch_167 : decode cX9_watch 167 = .ok (.aload_n 0, 1) := dk_42 (dk_at dksX9_watch_7 0 rfl rfl)
theorem dX9_watch_168 : decode cX9_watch 168 = .ok (.getfield 64, 3) := dk_180 0 64 (dk_at dksX9_watch_7 1 rfl rfl)
theorem dX9_watch_171 : decode cX9_watch 171 = .ok (.sipush 400, 3) := dk_17 1 144 (dk_at dksX9_watch_7 4 rfl rfl)
theorem dX9_watch_174 : decode cX9_watch 174 = .ok (.iload_n 1, 1) := dk_27 (dk_at dksX9_watch_7 7 rfl rfl)
theorem dX9_watch_175 : decode cX9_watch 175 = .ok (.imul, 1) := dk_104 (dk_at dksX9_watch_7 8 rfl rfl)
theorem dX9_watch_176 : decode cX9_watch 176 = .ok (.iload 5, 2) := dk_21 5 (dk_at dksX9_watch_7 9 rfl rfl)
theorem dX9_watch_178 : decode cX9_watch 178 = .ok (.iadd, 1) := dk_96 (dk_at dksX9_watch_7 11 rfl rfl)
theorem dX9_watch_179 : decode cX9_watch 179 = .ok (.iload 4, 2) := dk_21 4 (dk_at dksX9_watch_7 12 rfl rfl)
theorem dX9_watch_181 : decode cX9_watch 181 = .ok (.iastore, 1) := dk_79 (dk_at dksX9_watch_7 14 rfl rfl)
theorem dX9_watch_182 : decode cX9_watch 182 = .ok (.aload_n 0, 1) := dk_42 (dk_at dksX9_watch_7 15 rfl rfl)
theorem dX9_watch_183 : decode cX9_watch 183 = .ok (.getfield 58, 3) := dk_180 0 58 (dk_at dksX9_watch_7 16 rfl rfl)
theorem dX9_watch_186 : decode cX9_watch 186 = .ok (.iconst 5, 1) := dk_8 (dk_at dksX9_watch_7 19 rfl rfl)
theorem dX9_watch_187 : decode cX9_watch 187 = .ok (.iload_n 1, 1) := dk_27 (dk_at dksX9_watch_7 20 rfl rfl)
theorem dX9_watch_188 : decode cX9_watch 188 = .ok (.imul, 1) := dk_104 (dk_at dksX9_watch_7 21 rfl rfl)
theorem dX9_watch_189 : decode cX9_watch 189 = .ok (.iconst 4, 1) := dk_7 (dk_at dksX9_watch_7 22 rfl rfl)
theorem dX9_watch_190 : decode cX9_watch 190 = .ok (.iadd, 1) := dk_96 (dk_at dksX9_watch_7 23 rfl rfl)
theorem dX9_watch_191 : decode cX9_watch 191 = .ok (.dup2, 1) := dk_92 (dk_at dksX9_watch_8 0 rfl rfl)
theorem dX9_watch_192 : decode cX9_watch 192 = .ok (.iaload, 1) := dk_46 (dk_at dksX9_watch_8 1 rfl rfl)
theorem dX9_watch_193 : decode cX9_watch 193 = .ok (.iconst 1, 1) := dk_4 (dk_at dksX9_watch_8 2 rfl rfl)
theorem dX9_watch_194 : decode cX9_watch 194 = .ok (.iadd, 1) := dk_96 (dk_at dksX9_watch_8 3 rfl rfl)
theorem dX9_watch_195 : decode cX9_watch 195 = .ok (.iastore, 1) := dk_79 (dk_at dksX9_watch_8 4 rfl rfl)
theorem dX9_watch_196 : decode cX9_watch 196 = .ok (.aload_n 0, 1) := dk_42 (dk_at dksX9_watch_8 5 rfl rfl)
theorem dX9_watch_197 : decode cX9_watch 197 = .ok (.getfield 67, 3) := dk_180 0 67 (dk_at dksX9_watch_8 6 rfl rfl)
theorem dX9_watch_200 : decode cX9_watch 200 = .ok (.sipush 400, 3) := dk_17 1 144 (dk_at dksX9_watch_8 9 rfl rfl)
theorem dX9_watch_203 : decode cX9_watch 203 = .ok (.iload_n 1, 1) := dk_27 (dk_at dksX9_watch_8 12 rfl rfl)
theorem dX9_watch_204 : decode cX9_watch 204 = .ok (.imul, 1) := dk_104 (dk_at dksX9_watch_8 13 rfl rfl)
theorem dX9_watch_205 : decode cX9_watch 205 = .ok (.iload 5, 2) := dk_21 5 (dk_at dksX9_watch_8 14 rfl rfl)
theorem dX9_watch_207 : decode cX9_watch 207 = .ok (.iadd, 1) := dk_96 (dk_at dksX9_watch_8 16 rfl rfl)
theorem dX9_watch_208 : decode cX9_watch 208 = .ok (.iload_n 3, 1) := dk_29 (dk_at dksX9_watch_8 17 rfl rfl)
theorem dX9_watch_209 : decode cX9_watch 209 = .ok (.iastore, 1) := dk_79 (dk_at dksX9_watch_8 18 rfl rfl)
theorem dX9_watch_210 : decode cX9_watch 210 = .ok (.iinc 3 1, 3) := dk_132 3 1 (dk_at dksX9_watch_8 19 rfl rfl)
theorem dX9_watch_213 : decode cX9_watch 213 = .ok (.goto (-174), 3) := dk_167 255 82 (dk_at dksX9_watch_9 0 rfl rfl)
theorem dX9_watch_216 : decode cX9_watch 216 = .ok (.aload_n 0, 1) := dk_42 (dk_at dksX9_watch_9 3 rfl rfl)
theorem dX9_watch_217 : decode cX9_watch 217 = .ok (.getfield 58, 3) := dk_180 0 58 (dk_at dksX9_watch_9 4 rfl rfl)
theorem dX9_watch_220 : decode cX9_watch 220 = .ok (.iconst 5, 1) := dk_8 (dk_at dksX9_watch_9 7 rfl rfl)
theorem dX9_watch_221 : decode cX9_watch 221 = .ok (.iload_n 1, 1) := dk_27 (dk_at dksX9_watch_9 8 rfl rfl)
theorem dX9_watch_222 : decode cX9_watch 222 = .ok (.imul, 1) := dk_104 (dk_at dksX9_watch_9 9 rfl rfl)
theorem dX9_watch_223 : decode cX9_watch 223 = .ok (.iconst 3, 1) := dk_6 (dk_at dksX9_watch_9 10 rfl rfl)
theorem dX9_watch_224 : decode cX9_watch 224 = .ok (.iadd, 1) := dk_96 (dk_at dksX9_watch_9 11 rfl rfl)
theorem dX9_watch_225 : decode cX9_watch 225 = .ok (.aload_n 0, 1) := dk_42 (dk_at dksX9_watch_9 12 rfl rfl)
theorem dX9_watch_226 : decode cX9_watch 226 = .ok (.iload_n 2, 1) := dk_28 (dk_at dksX9_watch_9 13 rfl rfl)
theorem dX9_watch_227 : decode cX9_watch 227 = .ok (.invokevirtual 274, 3) := dk_182 1 18 (dk_at dksX9_watch_9 14 rfl rfl)
theorem dX9_watch_230 : decode cX9_watch 230 = .ok (.iastore, 1) := dk_79 (dk_at dksX9_watch_9 17 rfl rfl)
theorem dX9_watch_231 : decode cX9_watch 231 = .ok (.aload_n 0, 1) := dk_42 (dk_at dksX9_watch_9 18 rfl rfl)
theorem dX9_watch_232 : decode cX9_watch 232 = .ok (.iload_n 2, 1) := dk_28 (dk_at dksX9_watch_9 19 rfl rfl)
theorem dX9_watch_233 : decode cX9_watch 233 = .ok (.aload_n 0, 1) := dk_42 (dk_at dksX9_watch_9 20 rfl rfl)
theorem dX9_watch_234 : decode cX9_watch 234 = .ok (.iload_n 2, 1) := dk_28 (dk_at dksX9_watch_9 21 rfl rfl)
theorem dX9_watch_235 : decode cX9_watch 235 = .ok (.invokevirtual 274, 3) := dk_182 1 18 (dk_at dksX9_watch_10 0 rfl rfl)
theorem dX9_watch_238 : decode cX9_watch 238 = .ok (.invokevirtual 260, 3) := dk_182 1 4 (dk_at dksX9_watch_10 3 rfl rfl)
theorem dX9_watch_241 : decode cX9_watch 241 = .ok (.iconst 0, 1) := dk_3 (dk_at dksX9_watch_10 6 rfl rfl)
theorem dX9_watch_242 : decode cX9_watch 242 = .ok (.istore_n 3, 1) := dk_62 (dk_at dksX9_watch_10 7 rfl rfl)
theorem dX9_watch_243 : decode cX9_watch 243 = .ok (.iconst 0, 1) := dk_3 (dk_at dksX9_watch_10 8 rfl rfl)
theorem dX9_watch_244 : decode cX9_watch 244 = .ok (.istore 4, 2) := dk_54 4 (dk_at dksX9_watch_10 9 rfl rfl)
theorem dX9_watch_246 : decode cX9_watch 246 = .ok (.iload 4, 2) := dk_21 4 (dk_at dksX9_watch_10 11 rfl rfl)
theorem dX9_watch_248 : decode cX9_watch 248 = .ok (.aload_n 0, 1) := dk_42 (dk_at dksX9_watch_10 13 rfl rfl)
theorem dX9_watch_249 : decode cX9_watch 249 = .ok (.getfield 58, 3) := dk_180 0 58 (dk_at dksX9_watch_10 14 rfl rfl)
theorem dX9_watch_252 : decode cX9_watch 252 = .ok (.iconst 5, 1) := dk_8 (dk_at dksX9_watch_10 17 rfl rfl)
theorem dX9_watch_253 : decode cX9_watch 253 = .ok (.iload_n 1, 1) := dk_27 (dk_at dksX9_watch_10 18 rfl rfl)
theorem dX9_watch_254 : decode cX9_watch 254 = .ok (.imul, 1) := dk_104 (dk_at dksX9_watch_10 19 rfl rfl)
theorem dX9_watch_255 : decode cX9_watch 255 = .ok (.iconst 4, 1) := dk_7 (dk_at dksX9_watch_10 20 rfl rfl)
theorem dX9_watch_256 : decode cX9_watch 256 = .ok (.iadd, 1) := dk_96 (dk_at dksX9_watch_10 21 rfl rfl)
theorem dX9_watch_257 : decode cX9_watch 257 = .ok (.iaload, 1) := dk_46 (dk_at dksX9_watch_10 22 rfl rfl)
theorem dX9_watch_258 : decode cX9_watch 258 = .ok (.if_icmp .ge 60, 3) := dk_162 0 60 (dk_at dksX9_watch_11 0 rfl rfl)
theorem dX9_watch_261 : decode cX9_watch 261 = .ok (.aload_n 0, 1) := dk_42 (dk_at dksX9_watch_11 3 rfl rfl)
theorem dX9_watch_262 : decode cX9_watch 262 = .ok (.aload_n 0, 1) := dk_42 (dk_at dksX9_watch_11 4 rfl rfl)
theorem dX9_watch_263 : decode cX9_watch 263 = .ok (.getfield 64, 3) := dk_180 0 64 (dk_at dksX9_watch_11 5 rfl rfl)
theorem dX9_watch_266 : decode cX9_watch 266 = .ok (.sipush 400, 3) := dk_17 1 144 (dk_at dksX9_watch_11 8 rfl rfl)
theorem dX9_watch_269 : decode cX9_watch 269 = .ok (.iload_n 1, 1) := dk_27 (dk_at dksX9_watch_11 11 rfl rfl)
theorem dX9_watch_270 : decode cX9_watch 270 = .ok (.imul, 1) := dk_104 (dk_at dksX9_watch_11 12 rfl rfl)
theorem dX9_watch_271 : decode cX9_watch 271 = .ok (.iload 4, 2) := dk_21 4 (dk_at dksX9_watch_11 13 rfl rfl)
theorem dX9_watch_273 : decode cX9_watch 273 = .ok (.iadd, 1) := dk_96 (dk_at dksX9_watch_11 15 rfl rfl)
theorem dX9_watch_274 : decode cX9_watch 274 = .ok (.iaload, 1) := dk_46 (dk_at dksX9_watch_11 16 rfl rfl)
theorem dX9_watch_275 : decode cX9_watch 275 = .ok (.invokevirtual 230, 3) := dk_182 0 230 (dk_at dksX9_watch_11 17 rfl rfl)
theorem dX9_watch_278 : decode cX9_watch 278 = .ok (.istore 5, 2) := dk_54 5 (dk_at dksX9_watch_11 20 rfl rfl)
theorem dX9_watch_280 : decode cX9_watch 280 = .ok (.iload 5, 2) := dk_21 5 (dk_at dksX9_watch_11 22 rfl rfl)
theorem dX9_watch_282 : decode cX9_watch 282 = .ok (.iconst (-1), 1) := dk_2 (dk_at dksX9_watch_12 0 rfl rfl)
theorem dX9_watch_283 : decode cX9_watch 283 = .ok (.if_icmp .eq 26, 3) := dk_159 0 26 (dk_at dksX9_watch_12 1 rfl rfl)
theorem dX9_watch_286 : decode cX9_watch 286 = .ok (.aload_n 0, 1) := dk_42 (dk_at dksX9_watch_12 4 rfl rfl)
theorem dX9_watch_287 : decode cX9_watch 287 = .ok (.getfield 154, 3) := dk_180 0 154 (dk_at dksX9_watch_12 5 rfl rfl)
theorem dX9_watch_290 : decode cX9_watch 290 = .ok (.iload 5, 2) := dk_21 5 (dk_at dksX9_watch_12 8 rfl rfl)
theorem dX9_watch_292 : decode cX9_watch 292 = .ok (.iaload, 1) := dk_46 (dk_at dksX9_watch_12 10 rfl rfl)
theorem dX9_watch_293 : decode cX9_watch 293 = .ok (.aload_n 0, 1) := dk_42 (dk_at dksX9_watch_12 11 rfl rfl)
theorem dX9_watch_294 : decode cX9_watch 294 = .ok (.getfield 67, 3) := dk_180 0 67 (dk_at dksX9_watch_12 12 rfl rfl)
theorem dX9_watch_297 : decode cX9_watch 297 = .ok (.sipush 400, 3) := dk_17 1 144 (dk_at dksX9_watch_12 15 rfl rfl)
theorem dX9_watch_300 : decode cX9_watch 300 = .ok (.iload_n 1, 1) := dk_27 (dk_at dksX9_watch_12 18 rfl rfl)
theorem dX9_watch_301 : decode cX9_watch 301 = .ok (.imul, 1) := dk_104 (dk_at dksX9_watch_12 19 rfl rfl)
theorem dX9_watch_302 : decode cX9_watch 302 = .ok (.iload 4, 2) := dk_21 4 (dk_at dksX9_watch_12 20 rfl rfl)
theorem dX9_watch_304 : decode cX9_watch 304 = .ok (.iadd, 1) := dk_96 (dk_at dksX9_watch_12 22 rfl rfl)
theorem dX9_watch_305 : decode cX9_watch 305 = .ok (.iaload, 1) := dk_46 (dk_at dksX9_watch_12 23 rfl rfl)
theorem dX9_watch_306 : decode cX9_watch 306 = .ok (.if_icmp .eq 6, 3) := dk_159 0 6 (dk_at dksX9_watch_13 0 rfl rfl)
theorem dX9_watch_309 : decode cX9_watch 309 = .ok (.iinc 3 1, 3) := dk_132 3 1 (dk_at dksX9_watch_13 3 rfl rfl)
theorem dX9_watch_312 : decode cX9_watch 312 = .ok (.iinc 4 1, 3) := dk_132 4 1 (dk_at dksX9_watch_13 6 rfl rfl)
theorem dX9_watch_315 : decode cX9_watch 315 = .ok (.goto (-69), 3) := dk_167 255 187 (dk_at dksX9_watch_13 9 rfl rfl)
theorem dX9_watch_318 : decode cX9_watch 318 = .ok (.iload_n 3, 1) := dk_29 (dk_at dksX9_watch_13 12 rfl rfl)
theorem dX9_watch_319 : decode cX9_watch 319 = .ok (.ireturn, 1) := dk_172 (dk_at dksX9_watch_13 13 rfl rfl)
abbrev cX9_watching : ByteArray := prog_17_method_72_code
def yX9_watching : MethodName := ⟨RX9, "watching", "(II)I"⟩
def dkwX9_watching_2 : List UInt8 := [7, 96, 46, 167, 0, 20, 28, 5, 160, 0, 14, 42, 180, 0, 58, 8, 27, 104, 46, 167, 0, 4, 2, 172]
abbrev dktX9_watching_2 : List UInt8 := dkwX9_watching_2 ++ []
def dkwX9_watching_1 : List UInt8 := [180, 0, 58, 8, 27, 104, 6, 96, 46, 167, 0, 38, 28, 4, 160, 0, 16, 42, 180, 0, 58, 8, 27, 104]
abbrev dktX9_watching_1 : List UInt8 := dkwX9_watching_1 ++ dktX9_watching_2
def dkwX9_watching_0 : List UInt8 := [42, 27, 182, 1, 97, 153, 0, 12, 42, 180, 0, 61, 27, 51, 154, 0, 5, 2, 172, 28, 154, 0, 16, 42]
abbrev dktX9_watching_0 : List UInt8 := dkwX9_watching_0 ++ dktX9_watching_1
theorem dksX9_watching_0 : cX9_watching.data.toList.drop 0 = dktX9_watching_0 := by decide +kernel
theorem dksX9_watching_1 : cX9_watching.data.toList.drop 24 = dktX9_watching_1 := dk_seg dksX9_watching_0 24 rfl rfl
theorem dksX9_watching_2 : cX9_watching.data.toList.drop 48 = dktX9_watching_2 := dk_seg dksX9_watching_1 24 rfl rfl
theorem dX9_watching_0 : decode cX9_watching 0 = .ok (.aload_n 0, 1) := dk_42 (dk_at dksX9_watching_0 0 rfl rfl)
theorem dX9_watching_1 : decode cX9_watching 1 = .ok (.iload_n 1, 1) := dk_27 (dk_at dksX9_watching_0 1 rfl rfl)
theorem dX9_watching_2 : decode cX9_watching 2 = .ok (.invokevirtual 353, 3) := dk_182 1 97 (dk_at dksX9_watching_0 2 rfl rfl)
theorem dX9_watching_5 : decode cX9_watching 5 = .ok (.ifCond .eq 12, 3) := dk_153 0 12 (dk_at dksX9_watching_0 5 rfl rfl)
theorem dX9_watching_8 : decode cX9_watching 8 = .ok (.aload_n 0, 1) := dk_42 (dk_at dksX9_watching_0 8 rfl rfl)
theorem dX9_watching_9 : decode cX9_watching 9 = .ok (.getfield 61, 3) := dk_180 0 61 (dk_at dksX9_watching_0 9 rfl rfl)
theorem dX9_watching_12 : decode cX9_watching 12 = .ok (.iload_n 1, 1) := dk_27 (dk_at dksX9_watching_0 12 rfl rfl)
theorem dX9_watching_13 : decode cX9_watching 13 = .ok (.baload, 1) := dk_51 (dk_at dksX9_watching_0 13 rfl rfl)
theorem dX9_watching_14 : decode cX9_watching 14 = .ok (.ifCond .ne 5, 3) := dk_154 0 5 (dk_at dksX9_watching_0 14 rfl rfl)
theorem dX9_watching_17 : decode cX9_watching 17 = .ok (.iconst (-1), 1) := dk_2 (dk_at dksX9_watching_0 17 rfl rfl)
theorem dX9_watching_18 : decode cX9_watching 18 = .ok (.ireturn, 1) := dk_172 (dk_at dksX9_watching_0 18 rfl rfl)
theorem dX9_watching_19 : decode cX9_watching 19 = .ok (.iload_n 2, 1) := dk_28 (dk_at dksX9_watching_0 19 rfl rfl)
theorem dX9_watching_20 : decode cX9_watching 20 = .ok (.ifCond .ne 16, 3) := dk_154 0 16 (dk_at dksX9_watching_0 20 rfl rfl)
theorem dX9_watching_23 : decode cX9_watching 23 = .ok (.aload_n 0, 1) := dk_42 (dk_at dksX9_watching_0 23 rfl rfl)
theorem dX9_watching_24 : decode cX9_watching 24 = .ok (.getfield 58, 3) := dk_180 0 58 (dk_at dksX9_watching_1 0 rfl rfl)
theorem dX9_watching_27 : decode cX9_watching 27 = .ok (.iconst 5, 1) := dk_8 (dk_at dksX9_watching_1 3 rfl rfl)
theorem dX9_watching_28 : decode cX9_watching 28 = .ok (.iload_n 1, 1) := dk_27 (dk_at dksX9_watching_1 4 rfl rfl)
theorem dX9_watching_29 : decode cX9_watching 29 = .ok (.imul, 1) := dk_104 (dk_at dksX9_watching_1 5 rfl rfl)
theorem dX9_watching_30 : decode cX9_watching 30 = .ok (.iconst 3, 1) := dk_6 (dk_at dksX9_watching_1 6 rfl rfl)
theorem dX9_watching_31 : decode cX9_watching 31 = .ok (.iadd, 1) := dk_96 (dk_at dksX9_watching_1 7 rfl rfl)
theorem dX9_watching_32 : decode cX9_watching 32 = .ok (.iaload, 1) := dk_46 (dk_at dksX9_watching_1 8 rfl rfl)
theorem dX9_watching_33 : decode cX9_watching 33 = .ok (.goto 38, 3) := dk_167 0 38 (dk_at dksX9_watching_1 9 rfl rfl)
theorem dX9_watching_36 : decode cX9_watching 36 = .ok (.iload_n 2, 1) := dk_28 (dk_at dksX9_watching_1 12 rfl rfl)
theorem dX9_watching_37 : decode cX9_watching 37 = .ok (.iconst 1, 1) := dk_4 (dk_at dksX9_watching_1 13 rfl rfl)
theorem dX9_watching_38 : decode cX9_watching 38 = .ok (.if_icmp .ne 16, 3) := dk_160 0 16 (dk_at dksX9_watching_1 14 rfl rfl)
theorem dX9_watching_41 : decode cX9_watching 41 = .ok (.aload_n 0, 1) := dk_42 (dk_at dksX9_watching_1 17 rfl rfl)
theorem dX9_watching_42 : decode cX9_watching 42 = .ok (.getfield 58, 3) := dk_180 0 58 (dk_at dksX9_watching_1 18 rfl rfl)
theorem dX9_watching_45 : decode cX9_watching 45 = .ok (.iconst 5, 1) := dk_8 (dk_at dksX9_watching_1 21 rfl rfl)
theorem dX9_watching_46 : decode cX9_watching 46 = .ok (.iload_n 1, 1) := dk_27 (dk_at dksX9_watching_1 22 rfl rfl)
theorem dX9_watching_47 : decode cX9_watching 47 = .ok (.imul, 1) := dk_104 (dk_at dksX9_watching_1 23 rfl rfl)
theorem dX9_watching_48 : decode cX9_watching 48 = .ok (.iconst 4, 1) := dk_7 (dk_at dksX9_watching_2 0 rfl rfl)
theorem dX9_watching_49 : decode cX9_watching 49 = .ok (.iadd, 1) := dk_96 (dk_at dksX9_watching_2 1 rfl rfl)
theorem dX9_watching_50 : decode cX9_watching 50 = .ok (.iaload, 1) := dk_46 (dk_at dksX9_watching_2 2 rfl rfl)
theorem dX9_watching_51 : decode cX9_watching 51 = .ok (.goto 20, 3) := dk_167 0 20 (dk_at dksX9_watching_2 3 rfl rfl)
theorem dX9_watching_54 : decode cX9_watching 54 = .ok (.iload_n 2, 1) := dk_28 (dk_at dksX9_watching_2 6 rfl rfl)
theorem dX9_watching_55 : decode cX9_watching 55 = .ok (.iconst 2, 1) := dk_5 (dk_at dksX9_watching_2 7 rfl rfl)
theorem dX9_watching_56 : decode cX9_watching 56 = .ok (.if_icmp .ne 14, 3) := dk_160 0 14 (dk_at dksX9_watching_2 8 rfl rfl)
theorem dX9_watching_59 : decode cX9_watching 59 = .ok (.aload_n 0, 1) := dk_42 (dk_at dksX9_watching_2 11 rfl rfl)
theorem dX9_watching_60 : decode cX9_watching 60 = .ok (.getfield 58, 3) := dk_180 0 58 (dk_at dksX9_watching_2 12 rfl rfl)
theorem dX9_watching_63 : decode cX9_watching 63 = .ok (.iconst 5, 1) := dk_8 (dk_at dksX9_watching_2 15 rfl rfl)
theorem dX9_watching_64 : decode cX9_watching 64 = .ok (.iload_n 1, 1) := dk_27 (dk_at dksX9_watching_2 16 rfl rfl)
theorem dX9_watching_65 : decode cX9_watching 65 = .ok (.imul, 1) := dk_104 (dk_at dksX9_watching_2 17 rfl rfl)
theorem dX9_watching_66 : decode cX9_watching 66 = .ok (.iaload, 1) := dk_46 (dk_at dksX9_watching_2 18 rfl rfl)
theorem dX9_watching_67 : decode cX9_watching 67 = .ok (.goto 4, 3) := dk_167 0 4 (dk_at dksX9_watching_2 19 rfl rfl)
theorem dX9_watching_70 : decode cX9_watching 70 = .ok (.iconst (-1), 1) := dk_2 (dk_at dksX9_watching_2 22 rfl rfl)
theorem dX9_watching_71 : decode cX9_watching 71 = .ok (.ireturn, 1) := dk_172 (dk_at dksX9_watching_2 23 rfl rfl)
abbrev cX9_all : ByteArray := prog_17_method_73_code
def yX9_all : MethodName := ⟨RX9, "all", "(I)I"⟩
def dkwX9_all_6 : List UInt8 := [28, 172, 2, 172]
abbrev dktX9_all_6 : List UInt8 := dkwX9_all_6 ++ []
def dkwX9_all_5 : List UInt8 := [3, 62, 29, 42, 180, 1, 11, 162, 0, 17, 28, 42, 29, 182, 1, 18, 96, 61, 132, 3, 1, 167, 255, 237]
abbrev dktX9_all_5 : List UInt8 := dkwX9_all_5 ++ dktX9_all_6
def dkwX9_all_4 : List UInt8 := [180, 0, 52, 29, 51, 153, 0, 6, 132, 2, 1, 132, 3, 1, 167, 255, 235, 28, 172, 42, 180, 1, 80, 172]
abbrev dktX9_all_4 : List UInt8 := dkwX9_all_4 ++ dktX9_all_5
def dkwX9_all_3 : List UInt8 := [158, 0, 6, 132, 2, 1, 132, 3, 1, 167, 255, 232, 28, 172, 3, 62, 29, 16, 12, 162, 0, 21, 42]
abbrev dktX9_all_3 : List UInt8 := dkwX9_all_3 ++ dktX9_all_4
def dkwX9_all_2 : List UInt8 := [42, 180, 1, 11, 172, 3, 62, 29, 16, 16, 162, 0, 24, 42, 180, 0, 36, 16, 8, 29, 104, 46]
abbrev dktX9_all_2 : List UInt8 := dkwX9_all_2 ++ dktX9_all_3
def dkwX9_all_1 : List UInt8 := [170, 0, 0, 0, 128, 0, 0, 0, 0, 0, 0, 0, 4, 0, 0, 0, 33, 0, 0, 0, 38, 0, 0, 0, 69, 0, 0, 0, 97, 0, 0, 0, 102]
abbrev dktX9_all_1 : List UInt8 := dkwX9_all_1 ++ dktX9_all_2
def dkwX9_all_0 : List UInt8 := [3, 61, 27]
abbrev dktX9_all_0 : List UInt8 := dkwX9_all_0 ++ dktX9_all_1
theorem dksX9_all_0 : cX9_all.data.toList.drop 0 = dktX9_all_0 := by decide +kernel
theorem dksX9_all_1 : cX9_all.data.toList.drop 3 = dktX9_all_1 := dk_seg dksX9_all_0 3 rfl rfl
theorem dksX9_all_2 : cX9_all.data.toList.drop 36 = dktX9_all_2 := dk_seg dksX9_all_1 33 rfl rfl
theorem dksX9_all_3 : cX9_all.data.toList.drop 58 = dktX9_all_3 := dk_seg dksX9_all_2 22 rfl rfl
theorem dksX9_all_4 : cX9_all.data.toList.drop 81 = dktX9_all_4 := dk_seg dksX9_all_3 23 rfl rfl
theorem dksX9_all_5 : cX9_all.data.toList.drop 105 = dktX9_all_5 := dk_seg dksX9_all_4 24 rfl rfl
theorem dksX9_all_6 : cX9_all.data.toList.drop 129 = dktX9_all_6 := dk_seg dksX9_all_5 24 rfl rfl
theorem dX9_all_0 : decode cX9_all 0 = .ok (.iconst 0, 1) := dk_3 (dk_at dksX9_all_0 0 rfl rfl)
theorem dX9_all_1 : decode cX9_all 1 = .ok (.istore_n 2, 1) := dk_61 (dk_at dksX9_all_0 1 rfl rfl)
theorem dX9_all_2 : decode cX9_all 2 = .ok (.iload_n 1, 1) := dk_27 (dk_at dksX9_all_0 2 rfl rfl)
theorem dX9_all_3 : decode cX9_all 3 = .ok (.tableswitch 128 0 4 #[33, 38, 69, 97, 102], 33) := by decide +kernel
theorem dX9_all_36 : decode cX9_all 36 = .ok (.aload_n 0, 1) := dk_42 (dk_at dksX9_all_2 0 rfl rfl)
theorem dX9_all_37 : decode cX9_all 37 = .ok (.getfield 267, 3) := dk_180 1 11 (dk_at dksX9_all_2 1 rfl rfl)
theorem dX9_all_40 : decode cX9_all 40 = .ok (.ireturn, 1) := dk_172 (dk_at dksX9_all_2 4 rfl rfl)
theorem dX9_all_41 : decode cX9_all 41 = .ok (.iconst 0, 1) := dk_3 (dk_at dksX9_all_2 5 rfl rfl)
theorem dX9_all_42 : decode cX9_all 42 = .ok (.istore_n 3, 1) := dk_62 (dk_at dksX9_all_2 6 rfl rfl)
theorem dX9_all_43 : decode cX9_all 43 = .ok (.iload_n 3, 1) := dk_29 (dk_at dksX9_all_2 7 rfl rfl)
theorem dX9_all_44 : decode cX9_all 44 = .ok (.bipush 16, 2) := dk_16 16 (dk_at dksX9_all_2 8 rfl rfl)
theorem dX9_all_46 : decode cX9_all 46 = .ok (.if_icmp .ge 24, 3) := dk_162 0 24 (dk_at dksX9_all_2 10 rfl rfl)
theorem dX9_all_49 : decode cX9_all 49 = .ok (.aload_n 0, 1) := dk_42 (dk_at dksX9_all_2 13 rfl rfl)
theorem dX9_all_50 : decode cX9_all 50 = .ok (.getfield 36, 3) := dk_180 0 36 (dk_at dksX9_all_2 14 rfl rfl)
theorem dX9_all_53 : decode cX9_all 53 = .ok (.bipush 8, 2) := dk_16 8 (dk_at dksX9_all_2 17 rfl rfl)
theorem dX9_all_55 : decode cX9_all 55 = .ok (.iload_n 3, 1) := dk_29 (dk_at dksX9_all_2 19 rfl rfl)
theorem dX9_all_56 : decode cX9_all 56 = .ok (.imul, 1) := dk_104 (dk_at dksX9_all_2 20 rfl rfl)
theorem dX9_all_57 : decode cX9_all 57 = .ok (.iaload, 1) := dk_46 (dk_at dksX9_all_2 21 rfl rfl)
theorem dX9_all_58 : decode cX9_all 58 = .ok (.ifCond .le 6, 3) := dk_158 0 6 (dk_at dksX9_all_3 0 rfl rfl)
theorem dX9_all_61 : decode cX9_all 61 = .ok (.iinc 2 1, 3) := dk_132 2 1 (dk_at dksX9_all_3 3 rfl rfl)
theorem dX9_all_64 : decode cX9_all 64 = .ok (.iinc 3 1, 3) := dk_132 3 1 (dk_at dksX9_all_3 6 rfl rfl)
theorem dX9_all_67 : decode cX9_all 67 = .ok (.goto (-24), 3) := dk_167 255 232 (dk_at dksX9_all_3 9 rfl rfl)
theorem dX9_all_70 : decode cX9_all 70 = .ok (.iload_n 2, 1) := dk_28 (dk_at dksX9_all_3 12 rfl rfl)
theorem dX9_all_71 : decode cX9_all 71 = .ok (.ireturn, 1) := dk_172 (dk_at dksX9_all_3 13 rfl rfl)
theorem dX9_all_72 : decode cX9_all 72 = .ok (.iconst 0, 1) := dk_3 (dk_at dksX9_all_3 14 rfl rfl)
theorem dX9_all_73 : decode cX9_all 73 = .ok (.istore_n 3, 1) := dk_62 (dk_at dksX9_all_3 15 rfl rfl)
theorem dX9_all_74 : decode cX9_all 74 = .ok (.iload_n 3, 1) := dk_29 (dk_at dksX9_all_3 16 rfl rfl)
theorem dX9_all_75 : decode cX9_all 75 = .ok (.bipush 12, 2) := dk_16 12 (dk_at dksX9_all_3 17 rfl rfl)
theorem dX9_all_77 : decode cX9_all 77 = .ok (.if_icmp .ge 21, 3) := dk_162 0 21 (dk_at dksX9_all_3 19 rfl rfl)
theorem dX9_all_80 : decode cX9_all 80 = .ok (.aload_n 0, 1) := dk_42 (dk_at dksX9_all_3 22 rfl rfl)
theorem dX9_all_81 : decode cX9_all 81 = .ok (.getfield 52, 3) := dk_180 0 52 (dk_at dksX9_all_4 0 rfl rfl)
theorem dX9_all_84 : decode cX9_all 84 = .ok (.iload_n 3, 1) := dk_29 (dk_at dksX9_all_4 3 rfl rfl)
theorem dX9_all_85 : decode cX9_all 85 = .ok (.baload, 1) := dk_51 (dk_at dksX9_all_4 4 rfl rfl)
theorem dX9_all_86 : decode cX9_all 86 = .ok (.ifCond .eq 6, 3) := dk_153 0 6 (dk_at dksX9_all_4 5 rfl rfl)
theorem dX9_all_89 : decode cX9_all 89 = .ok (.iinc 2 1, 3) := dk_132 2 1 (dk_at dksX9_all_4 8 rfl rfl)
theorem dX9_all_92 : decode cX9_all 92 = .ok (.iinc 3 1, 3) := dk_132 3 1 (dk_at dksX9_all_4 11 rfl rfl)
theorem dX9_all_95 : decode cX9_all 95 = .ok (.goto (-21), 3) := dk_167 255 235 (dk_at dksX9_all_4 14 rfl rfl)
theorem dX9_all_98 : decode cX9_all 98 = .ok (.iload_n 2, 1) := dk_28 (dk_at dksX9_all_4 17 rfl rfl)
theorem dX9_all_99 : decode cX9_all 99 = .ok (.ireturn, 1) := dk_172 (dk_at dksX9_all_4 18 rfl rfl)
theorem dX9_all_100 : decode cX9_all 100 = .ok (.aload_n 0, 1) := dk_42 (dk_at dksX9_all_4 19 rfl rfl)
theorem dX9_all_101 : decode cX9_all 101 = .ok (.getfield 336, 3) := dk_180 1 80 (dk_at dksX9_all_4 20 rfl rfl)
theorem dX9_all_104 : decode cX9_all 104 = .ok (.ireturn, 1) := dk_172 (dk_at dksX9_all_4 23 rfl rfl)
theorem dX9_all_105 : decode cX9_all 105 = .ok (.iconst 0, 1) := dk_3 (dk_at dksX9_all_5 0 rfl rfl)
theorem dX9_all_106 : decode cX9_all 106 = .ok (.istore_n 3, 1) := dk_62 (dk_at dksX9_all_5 1 rfl rfl)
theorem dX9_all_107 : decode cX9_all 107 = .ok (.iload_n 3, 1) := dk_29 (dk_at dksX9_all_5 2 rfl rfl)
theorem dX9_all_108 : decode cX9_all 108 = .ok (.aload_n 0, 1) := dk_42 (dk_at dksX9_all_5 3 rfl rfl)
theorem dX9_all_109 : decode cX9_all 109 = .ok (.getfield 267, 3) := dk_180 1 11 (dk_at dksX9_all_5 4 rfl rfl)
theorem dX9_all_112 : decode cX9_all 112 = .ok (.if_icmp .ge 17, 3) := dk_162 0 17 (dk_at dksX9_all_5 7 rfl rfl)
theorem dX9_all_115 : decode cX9_all 115 = .ok (.iload_n 2, 1) := dk_28 (dk_at dksX9_all_5 10 rfl rfl)
theorem dX9_all_116 : decode cX9_all 116 = .ok (.aload_n 0, 1) := dk_42 (dk_at dksX9_all_5 11 rfl rfl)
theorem dX9_all_117 : decode cX9_all 117 = .ok (.iload_n 3, 1) := dk_29 (dk_at dksX9_all_5 12 rfl rfl)
theorem dX9_all_118 : decode cX9_all 118 = .ok (.invokevirtual 274, 3) := dk_182 1 18 (dk_at dksX9_all_5 13 rfl rfl)
theorem dX9_all_121 : decode cX9_all 121 = .ok (.iadd, 1) := dk_96 (dk_at dksX9_all_5 16 rfl rfl)
theorem dX9_all_122 : decode cX9_all 122 = .ok (.istore_n 2, 1) := dk_61 (dk_at dksX9_all_5 17 rfl rfl)
theorem dX9_all_123 : decode cX9_all 123 = .ok (.iinc 3 1, 3) := dk_132 3 1 (dk_at dksX9_all_5 18 rfl rfl)
theorem dX9_all_126 : decode cX9_all 126 = .ok (.goto (-19), 3) := dk_167 255 237 (dk_at dksX9_all_5 21 rfl rfl)
theorem dX9_all_129 : decode cX9_all 129 = .ok (.iload_n 2, 1) := dk_28 (dk_at dksX9_all_6 0 rfl rfl)
theorem dX9_all_130 : decode cX9_all 130 = .ok (.ireturn, 1) := dk_172 (dk_at dksX9_all_6 1 rfl rfl)
theorem dX9_all_131 : decode cX9_all 131 = .ok (.iconst (-1), 1) := dk_2 (dk_at dksX9_all_6 2 rfl rfl)
theorem dX9_all_132 : decode cX9_all 132 = .ok (.ireturn, 1) := dk_172 (dk_at dksX9_all_6 3 rfl rfl)
abbrev cX9_image : ByteArray := prog_17_method_77_code
def yX9_image : MethodName := ⟨RX9, "image", "()Z"⟩
def dkwX9_image_10 : List UInt8 := [180, 0, 67, 42, 180, 0, 124, 184, 1, 110, 4, 172]
abbrev dktX9_image_10 : List UInt8 := dkwX9_image_10 ++ []
def dkwX9_image_9 : List UInt8 := [180, 0, 61, 42, 180, 0, 118, 184, 1, 118, 42, 180, 0, 64, 42, 180, 0, 121, 184, 1, 110, 42]
abbrev dktX9_image_9 : List UInt8 := dkwX9_image_9 ++ dktX9_image_10
def dkwX9_image_8 : List UInt8 := [180, 0, 55, 42, 180, 0, 112, 184, 1, 110, 42, 180, 0, 58, 42, 180, 0, 115, 184, 1, 110, 42]
abbrev dktX9_image_8 : List UInt8 := dkwX9_image_8 ++ dktX9_image_9
def dkwX9_image_7 : List UInt8 := [180, 0, 49, 42, 180, 0, 106, 184, 1, 110, 42, 180, 0, 52, 42, 180, 0, 109, 184, 1, 118, 42]
abbrev dktX9_image_7 : List UInt8 := dkwX9_image_7 ++ dktX9_image_8
def dkwX9_image_6 : List UInt8 := [180, 0, 42, 42, 180, 0, 100, 184, 1, 114, 42, 180, 0, 46, 42, 180, 0, 103, 184, 1, 110, 42]
abbrev dktX9_image_6 : List UInt8 := dkwX9_image_6 ++ dktX9_image_7
def dkwX9_image_5 : List UInt8 := [180, 0, 36, 42, 180, 0, 94, 184, 1, 110, 42, 180, 0, 39, 42, 180, 0, 97, 184, 1, 110, 42]
abbrev dktX9_image_5 : List UInt8 := dkwX9_image_5 ++ dktX9_image_6
def dkwX9_image_4 : List UInt8 := [180, 0, 30, 42, 180, 0, 88, 184, 1, 110, 42, 180, 0, 33, 42, 180, 0, 91, 184, 1, 118, 42]
abbrev dktX9_image_4 : List UInt8 := dkwX9_image_4 ++ dktX9_image_5
def dkwX9_image_3 : List UInt8 := [180, 0, 24, 42, 180, 0, 82, 184, 1, 118, 42, 180, 0, 27, 42, 180, 0, 85, 184, 1, 110, 42]
abbrev dktX9_image_3 : List UInt8 := dkwX9_image_3 ++ dktX9_image_4
def dkwX9_image_2 : List UInt8 := [180, 0, 16, 42, 180, 0, 76, 184, 1, 114, 42, 180, 0, 20, 42, 180, 0, 79, 184, 1, 118, 42]
abbrev dktX9_image_2 : List UInt8 := dkwX9_image_2 ++ dktX9_image_3
def dkwX9_image_1 : List UInt8 := [180, 0, 9, 42, 180, 0, 70, 184, 1, 110, 42, 180, 0, 13, 42, 180, 0, 73, 184, 1, 110, 42]
abbrev dktX9_image_1 : List UInt8 := dkwX9_image_1 ++ dktX9_image_2
def dkwX9_image_0 : List UInt8 := [42, 4, 181, 1, 100, 42, 42, 180, 1, 11, 181, 1, 104, 42, 42, 180, 1, 80, 181, 1, 107, 42]
abbrev dktX9_image_0 : List UInt8 := dkwX9_image_0 ++ dktX9_image_1
theorem dksX9_image_0 : cX9_image.data.toList.drop 0 = dktX9_image_0 := by decide +kernel
theorem dksX9_image_1 : cX9_image.data.toList.drop 22 = dktX9_image_1 := dk_seg dksX9_image_0 22 rfl rfl
theorem dksX9_image_2 : cX9_image.data.toList.drop 44 = dktX9_image_2 := dk_seg dksX9_image_1 22 rfl rfl
theorem dksX9_image_3 : cX9_image.data.toList.drop 66 = dktX9_image_3 := dk_seg dksX9_image_2 22 rfl rfl
theorem dksX9_image_4 : cX9_image.data.toList.drop 88 = dktX9_image_4 := dk_seg dksX9_image_3 22 rfl rfl
theorem dksX9_image_5 : cX9_image.data.toList.drop 110 = dktX9_image_5 := dk_seg dksX9_image_4 22 rfl rfl
theorem dksX9_image_6 : cX9_image.data.toList.drop 132 = dktX9_image_6 := dk_seg dksX9_image_5 22 rfl rfl
theorem dksX9_image_7 : cX9_image.data.toList.drop 154 = dktX9_image_7 := dk_seg dksX9_image_6 22 rfl rfl
theorem dksX9_image_8 : cX9_image.data.toList.drop 176 = dktX9_image_8 := dk_seg dksX9_image_7 22 rfl rfl
theorem dksX9_image_9 : cX9_image.data.toList.drop 198 = dktX9_image_9 := dk_seg dksX9_image_8 22 rfl rfl
theorem dksX9_image_10 : cX9_image.data.toList.drop 220 = dktX9_image_10 := dk_seg dksX9_image_9 22 rfl rfl
theorem dX9_image_0 : decode cX9_image 0 = .ok (.aload_n 0, 1) := dk_42 (dk_at dksX9_image_0 0 rfl rfl)
theorem dX9_image_1 : decode cX9_image 1 = .ok (.iconst 1, 1) := dk_4 (dk_at dksX9_image_0 1 rfl rfl)
theorem dX9_image_2 : decode cX9_image 2 = .ok (.putfield 356, 3) := dk_181 1 100 (dk_at dksX9_image_0 2 rfl rfl)
theorem dX9_image_5 : decode cX9_image 5 = .ok (.aload_n 0, 1) := dk_42 (dk_at dksX9_image_0 5 rfl rfl)
theorem dX9_image_6 : decode cX9_image 6 = .ok (.aload_n 0, 1) := dk_42 (dk_at dksX9_image_0 6 rfl rfl)
theorem dX9_image_7 : decode cX9_image 7 = .ok (.getfield 267, 3) := dk_180 1 11 (dk_at dksX9_image_0 7 rfl rfl)
theorem dX9_image_10 : decode cX9_image 10 = .ok (.putfield 360, 3) := dk_181 1 104 (dk_at dksX9_image_0 10 rfl rfl)
theorem dX9_image_13 : decode cX9_image 13 = .ok (.aload_n 0, 1) := dk_42 (dk_at dksX9_image_0 13 rfl rfl)
theorem dX9_image_14 : decode cX9_image 14 = .ok (.aload_n 0, 1) := dk_42 (dk_at dksX9_image_0 14 rfl rfl)
theorem dX9_image_15 : decode cX9_image 15 = .ok (.getfield 336, 3) := dk_180 1 80 (dk_at dksX9_image_0 15 rfl rfl)
theorem dX9_image_18 : decode cX9_image 18 = .ok (.putfield 363, 3) := dk_181 1 107 (dk_at dksX9_image_0 18 rfl rfl)
theorem dX9_image_21 : decode cX9_image 21 = .ok (.aload_n 0, 1) := dk_42 (dk_at dksX9_image_0 21 rfl rfl)
theorem dX9_image_22 : decode cX9_image 22 = .ok (.getfield 9, 3) := dk_180 0 9 (dk_at dksX9_image_1 0 rfl rfl)
theorem dX9_image_25 : decode cX9_image 25 = .ok (.aload_n 0, 1) := dk_42 (dk_at dksX9_image_1 3 rfl rfl)
theorem dX9_image_26 : decode cX9_image 26 = .ok (.getfield 70, 3) := dk_180 0 70 (dk_at dksX9_image_1 4 rfl rfl)
theorem dX9_image_29 : decode cX9_image 29 = .ok (.invokestatic 366, 3) := dk_184 1 110 (dk_at dksX9_image_1 7 rfl rfl)
theorem dX9_image_32 : decode cX9_image 32 = .ok (.aload_n 0, 1) := dk_42 (dk_at dksX9_image_1 10 rfl rfl)
theorem dX9_image_33 : decode cX9_image 33 = .ok (.getfield 13, 3) := dk_180 0 13 (dk_at dksX9_image_1 11 rfl rfl)
theorem dX9_image_36 : decode cX9_image 36 = .ok (.aload_n 0, 1) := dk_42 (dk_at dksX9_image_1 14 rfl rfl)
theorem dX9_image_37 : decode cX9_image 37 = .ok (.getfield 73, 3) := dk_180 0 73 (dk_at dksX9_image_1 15 rfl rfl)
theorem dX9_image_40 : decode cX9_image 40 = .ok (.invokestatic 366, 3) := dk_184 1 110 (dk_at dksX9_image_1 18 rfl rfl)
theorem dX9_image_43 : decode cX9_image 43 = .ok (.aload_n 0, 1) := dk_42 (dk_at dksX9_image_1 21 rfl rfl)
theorem dX9_image_44 : decode cX9_image 44 = .ok (.getfield 16, 3) := dk_180 0 16 (dk_at dksX9_image_2 0 rfl rfl)
theorem dX9_image_47 : decode cX9_image 47 = .ok (.aload_n 0, 1) := dk_42 (dk_at dksX9_image_2 3 rfl rfl)
theorem dX9_image_48 : decode cX9_image 48 = .ok (.getfield 76, 3) := dk_180 0 76 (dk_at dksX9_image_2 4 rfl rfl)
theorem dX9_image_51 : decode cX9_image 51 = .ok (.invokestatic 370, 3) := dk_184 1 114 (dk_at dksX9_image_2 7 rfl rfl)
theorem dX9_image_54 : decode cX9_image 54 = .ok (.aload_n 0, 1) := dk_42 (dk_at dksX9_image_2 10 rfl rfl)
theorem dX9_image_55 : decode cX9_image 55 = .ok (.getfield 20, 3) := dk_180 0 20 (dk_at dksX9_image_2 11 rfl rfl)
theorem dX9_image_58 : decode cX9_image 58 = .ok (.aload_n 0, 1) := dk_42 (dk_at dksX9_image_2 14 rfl rfl)
theorem dX9_image_59 : decode cX9_image 59 = .ok (.getfield 79, 3) := dk_180 0 79 (dk_at dksX9_image_2 15 rfl rfl)
theorem dX9_image_62 : decode cX9_image 62 = .ok (.invokestatic 374, 3) := dk_184 1 118 (dk_at dksX9_image_2 18 rfl rfl)
theorem dX9_image_65 : decode cX9_image 65 = .ok (.aload_n 0, 1) := dk_42 (dk_at dksX9_image_2 21 rfl rfl)
theorem dX9_image_66 : decode cX9_image 66 = .ok (.getfield 24, 3) := dk_180 0 24 (dk_at dksX9_image_3 0 rfl rfl)
theorem dX9_image_69 : decode cX9_image 69 = .ok (.aload_n 0, 1) := dk_42 (dk_at dksX9_image_3 3 rfl rfl)
theorem dX9_image_70 : decode cX9_image 70 = .ok (.getfield 82, 3) := dk_180 0 82 (dk_at dksX9_image_3 4 rfl rfl)
theorem dX9_image_73 : decode cX9_image 73 = .ok (.invokestatic 374, 3) := dk_184 1 118 (dk_at dksX9_image_3 7 rfl rfl)
theorem dX9_image_76 : decode cX9_image 76 = .ok (.aload_n 0, 1) := dk_42 (dk_at dksX9_image_3 10 rfl rfl)
theorem dX9_image_77 : decode cX9_image 77 = .ok (.getfield 27, 3) := dk_180 0 27 (dk_at dksX9_image_3 11 rfl rfl)
theorem dX9_image_80 : decode cX9_image 80 = .ok (.aload_n 0, 1) := dk_42 (dk_at dksX9_image_3 14 rfl rfl)
theorem dX9_image_81 : decode cX9_image 81 = .ok (.getfield 85, 3) := dk_180 0 85 (dk_at dksX9_image_3 15 rfl rfl)
theorem dX9_image_84 : decode cX9_image 84 = .ok (.invokestatic 366, 3) := dk_184 1 110 (dk_at dksX9_image_3 18 rfl rfl)
theorem dX9_image_87 : decode cX9_image 87 = .ok (.aload_n 0, 1) := dk_42 (dk_at dksX9_image_3 21 rfl rfl)
theorem dX9_image_88 : decode cX9_image 88 = .ok (.getfield 30, 3) := dk_180 0 30 (dk_at dksX9_image_4 0 rfl rfl)
theorem dX9_image_91 : decode cX9_image 91 = .ok (.aload_n 0, 1) := dk_42 (dk_at dksX9_image_4 3 rfl rfl)
theorem dX9_image_92 : decode cX9_image 92 = .ok (.getfield 88, 3) := dk_180 0 88 (dk_at dksX9_image_4 4 rfl rfl)
theorem dX9_image_95 : decode cX9_image 95 = .ok (.invokestatic 366, 3) := dk_184 1 110 (dk_at dksX9_image_4 7 rfl rfl)
theorem dX9_image_98 : decode cX9_image 98 = .ok (.aload_n 0, 1) := dk_42 (dk_at dksX9_image_4 10 rfl rfl)
theorem dX9_image_99 : decode cX9_image 99 = .ok (.getfield 33, 3) := dk_180 0 33 (dk_at dksX9_image_4 11 rfl rfl)
theorem dX9_image_102 : decode cX9_image 102 = .ok (.aload_n 0, 1) := dk_42 (dk_at dksX9_image_4 14 rfl rfl)
theorem dX9_image_103 : decode cX9_image 103 = .ok (.getfield 91, 3) := dk_180 0 91 (dk_at dksX9_image_4 15 rfl rfl)
theorem dX9_image_106 : decode cX9_image 106 = .ok (.invokestatic 374, 3) := dk_184 1 118 (dk_at dksX9_image_4 18 rfl rfl)
theorem dX9_image_109 : decode cX9_image 109 = .ok (.aload_n 0, 1) := dk_42 (dk_at dksX9_image_4 21 rfl rfl)
theorem dX9_image_110 : decode cX9_image 110 = .ok (.getfield 36, 3) := dk_180 0 36 (dk_at dksX9_image_5 0 rfl rfl)
theorem dX9_image_113 : decode cX9_image 113 = .ok (.aload_n 0, 1) := dk_42 (dk_at dksX9_image_5 3 rfl rfl)
theorem dX9_image_114 : decode cX9_image 114 = .ok (.getfield 94, 3) := dk_180 0 94 (dk_at dksX9_image_5 4 rfl rfl)
theorem dX9_image_117 : decode cX9_image 117 = .ok (.invokestatic 366, 3) := dk_184 1 110 (dk_at dksX9_image_5 7 rfl rfl)
theorem dX9_image_120 : decode cX9_image 120 = .ok (.aload_n 0, 1) := dk_42 (dk_at dksX9_image_5 10 rfl rfl)
theorem dX9_image_121 : decode cX9_image 121 = .ok (.getfield 39, 3) := dk_180 0 39 (dk_at dksX9_image_5 11 rfl rfl)
theorem dX9_image_124 : decode cX9_image 124 = .ok (.aload_n 0, 1) := dk_42 (dk_at dksX9_image_5 14 rfl rfl)
theorem dX9_image_125 : decode cX9_image 125 = .ok (.getfield 97, 3) := dk_180 0 97 (dk_at dksX9_image_5 15 rfl rfl)
theorem dX9_image_128 : decode cX9_image 128 = .ok (.invokestatic 366, 3) := dk_184 1 110 (dk_at dksX9_image_5 18 rfl rfl)
theorem dX9_image_131 : decode cX9_image 131 = .ok (.aload_n 0, 1) := dk_42 (dk_at dksX9_image_5 21 rfl rfl)
theorem dX9_image_132 : decode cX9_image 132 = .ok (.getfield 42, 3) := dk_180 0 42 (dk_at dksX9_image_6 0 rfl rfl)
theorem dX9_image_135 : decode cX9_image 135 = .ok (.aload_n 0, 1) := dk_42 (dk_at dksX9_image_6 3 rfl rfl)
theorem dX9_image_136 : decode cX9_image 136 = .ok (.getfield 100, 3) := dk_180 0 100 (dk_at dksX9_image_6 4 rfl rfl)
theorem dX9_image_139 : decode cX9_image 139 = .ok (.invokestatic 370, 3) := dk_184 1 114 (dk_at dksX9_image_6 7 rfl rfl)
theorem dX9_image_142 : decode cX9_image 142 = .ok (.aload_n 0, 1) := dk_42 (dk_at dksX9_image_6 10 rfl rfl)
theorem dX9_image_143 : decode cX9_image 143 = .ok (.getfield 46, 3) := dk_180 0 46 (dk_at dksX9_image_6 11 rfl rfl)
theorem dX9_image_146 : decode cX9_image 146 = .ok (.aload_n 0, 1) := dk_42 (dk_at dksX9_image_6 14 rfl rfl)
theorem dX9_image_147 : decode cX9_image 147 = .ok (.getfield 103, 3) := dk_180 0 103 (dk_at dksX9_image_6 15 rfl rfl)
theorem dX9_image_150 : decode cX9_image 150 = .ok (.invokestatic 366, 3) := dk_184 1 110 (dk_at dksX9_image_6 18 rfl rfl)
theorem dX9_image_153 : decode cX9_image 153 = .ok (.aload_n 0, 1) := dk_42 (dk_at dksX9_image_6 21 rfl rfl)
theorem dX9_image_154 : decode cX9_image 154 = .ok (.getfield 49, 3) := dk_180 0 49 (dk_at dksX9_image_7 0 rfl rfl)
theorem dX9_image_157 : decode cX9_image 157 = .ok (.aload_n 0, 1) := dk_42 (dk_at dksX9_image_7 3 rfl rfl)
theorem dX9_image_158 : decode cX9_image 158 = .ok (.getfield 106, 3) := dk_180 0 106 (dk_at dksX9_image_7 4 rfl rfl)
theorem dX9_image_161 : decode cX9_image 161 = .ok (.invokestatic 366, 3) := dk_184 1 110 (dk_at dksX9_image_7 7 rfl rfl)
theorem dX9_image_164 : decode cX9_image 164 = .ok (.aload_n 0, 1) := dk_42 (dk_at dksX9_image_7 10 rfl rfl)
theorem dX9_image_165 : decode cX9_image 165 = .ok (.getfield 52, 3) := dk_180 0 52 (dk_at dksX9_image_7 11 rfl rfl)
theorem dX9_image_168 : decode cX9_image 168 = .ok (.aload_n 0, 1) := dk_42 (dk_at dksX9_image_7 14 rfl rfl)
theorem dX9_image_169 : decode cX9_image 169 = .ok (.getfield 109, 3) := dk_180 0 109 (dk_at dksX9_image_7 15 rfl rfl)
theorem dX9_image_172 : decode cX9_image 172 = .ok (.invokestatic 374, 3) := dk_184 1 118 (dk_at dksX9_image_7 18 rfl rfl)
theorem dX9_image_175 : decode cX9_image 175 = .ok (.aload_n 0, 1) := dk_42 (dk_at dksX9_image_7 21 rfl rfl)
theorem dX9_image_176 : decode cX9_image 176 = .ok (.getfield 55, 3) := dk_180 0 55 (dk_at dksX9_image_8 0 rfl rfl)
theorem dX9_image_179 : decode cX9_image 179 = .ok (.aload_n 0, 1) := dk_42 (dk_at dksX9_image_8 3 rfl rfl)
theorem dX9_image_180 : decode cX9_image 180 = .ok (.getfield 112, 3) := dk_180 0 112 (dk_at dksX9_image_8 4 rfl rfl)
theorem dX9_image_183 : decode cX9_image 183 = .ok (.invokestatic 366, 3) := dk_184 1 110 (dk_at dksX9_image_8 7 rfl rfl)
theorem dX9_image_186 : decode cX9_image 186 = .ok (.aload_n 0, 1) := dk_42 (dk_at dksX9_image_8 10 rfl rfl)
theorem dX9_image_187 : decode cX9_image 187 = .ok (.getfield 58, 3) := dk_180 0 58 (dk_at dksX9_image_8 11 rfl rfl)
theorem dX9_image_190 : decode cX9_image 190 = .ok (.aload_n 0, 1) := dk_42 (dk_at dksX9_image_8 14 rfl rfl)
theorem dX9_image_191 : decode cX9_image 191 = .ok (.getfield 115, 3) := dk_180 0 115 (dk_at dksX9_image_8 15 rfl rfl)
theorem dX9_image_194 : decode cX9_image 194 = .ok (.invokestatic 366, 3) := dk_184 1 110 (dk_at dksX9_image_8 18 rfl rfl)
theorem dX9_image_197 : decode cX9_image 197 = .ok (.aload_n 0, 1) := dk_42 (dk_at dksX9_image_8 21 rfl rfl)
theorem dX9_image_198 : decode cX9_image 198 = .ok (.getfield 61, 3) := dk_180 0 61 (dk_at dksX9_image_9 0 rfl rfl)
theorem dX9_image_201 : decode cX9_image 201 = .ok (.aload_n 0, 1) := dk_42 (dk_at dksX9_image_9 3 rfl rfl)
theorem dX9_image_202 : decode cX9_image 202 = .ok (.getfield 118, 3) := dk_180 0 118 (dk_at dksX9_image_9 4 rfl rfl)
theorem dX9_image_205 : decode cX9_image 205 = .ok (.invokestatic 374, 3) := dk_184 1 118 (dk_at dksX9_image_9 7 rfl rfl)
theorem dX9_image_208 : decode cX9_image 208 = .ok (.aload_n 0, 1) := dk_42 (dk_at dksX9_image_9 10 rfl rfl)
theorem dX9_image_209 : decode cX9_image 209 = .ok (.getfield 64, 3) := dk_180 0 64 (dk_at dksX9_image_9 11 rfl rfl)
theorem dX9_image_212 : decode cX9_image 212 = .ok (.aload_n 0, 1) := dk_42 (dk_at dksX9_image_9 14 rfl rfl)
theorem dX9_image_213 : decode cX9_image 213 = .ok (.getfield 121, 3) := dk_180 0 121 (dk_at dksX9_image_9 15 rfl rfl)
theorem dX9_image_216 : decode cX9_image 216 = .ok (.invokestatic 366, 3) := dk_184 1 110 (dk_at dksX9_image_9 18 rfl rfl)
theorem dX9_image_219 : decode cX9_image 219 = .ok (.aload_n 0, 1) := dk_42 (dk_at dksX9_image_9 21 rfl rfl)
theorem dX9_image_220 : decode cX9_image 220 = .ok (.getfield 67, 3) := dk_180 0 67 (dk_at dksX9_image_10 0 rfl rfl)
theorem dX9_image_223 : decode cX9_image 223 = .ok (.aload_n 0, 1) := dk_42 (dk_at dksX9_image_10 3 rfl rfl)
theorem dX9_image_224 : decode cX9_image 224 = .ok (.getfield 124, 3) := dk_180 0 124 (dk_at dksX9_image_10 4 rfl rfl)
theorem dX9_image_227 : decode cX9_image 227 = .ok (.invokestatic 366, 3) := dk_184 1 110 (dk_at dksX9_image_10 7 rfl rfl)
theorem dX9_image_230 : decode cX9_image 230 = .ok (.iconst 1, 1) := dk_4 (dk_at dksX9_image_10 10 rfl rfl)
theorem dX9_image_231 : decode cX9_image 231 = .ok (.ireturn, 1) := dk_172 (dk_at dksX9_image_10 11 rfl rfl)
abbrev cX9_ints : ByteArray := prog_17_method_74_code
def yX9_ints : MethodName := ⟨RX9, "ints", "([I[I)V"⟩
def dkwX9_ints_0 : List UInt8 := [3, 61, 28, 42, 190, 162, 0, 15, 43, 28, 42, 28, 46, 79, 132, 2, 1, 167, 255, 241, 177]
abbrev dktX9_ints_0 : List UInt8 := dkwX9_ints_0 ++ []
theorem dksX9_ints_0 : cX9_ints.data.toList.drop 0 = dktX9_ints_0 := by decide +kernel
theorem dX9_ints_0 : decode cX9_ints 0 = .ok (.iconst 0, 1) := dk_3 (dk_at dksX9_ints_0 0 rfl rfl)
theorem dX9_ints_1 : decode cX9_ints 1 = .ok (.istore_n 2, 1) := dk_61 (dk_at dksX9_ints_0 1 rfl rfl)
theorem dX9_ints_2 : decode cX9_ints 2 = .ok (.iload_n 2, 1) := dk_28 (dk_at dksX9_ints_0 2 rfl rfl)
theorem dX9_ints_3 : decode cX9_ints 3 = .ok (.aload_n 0, 1) := dk_42 (dk_at dksX9_ints_0 3 rfl rfl)
theorem dX9_ints_4 : decode cX9_ints 4 = .ok (.arraylength, 1) := dk_190 (dk_at dksX9_ints_0 4 rfl rfl)
theorem dX9_ints_5 : decode cX9_ints 5 = .ok (.if_icmp .ge 15, 3) := dk_162 0 15 (dk_at dksX9_ints_0 5 rfl rfl)
theorem dX9_ints_8 : decode cX9_ints 8 = .ok (.aload_n 1, 1) := dk_43 (dk_at dksX9_ints_0 8 rfl rfl)
theorem dX9_ints_9 : decode cX9_ints 9 = .ok (.iload_n 2, 1) := dk_28 (dk_at dksX9_ints_0 9 rfl rfl)
theorem dX9_ints_10 : decode cX9_ints 10 = .ok (.aload_n 0, 1) := dk_42 (dk_at dksX9_ints_0 10 rfl rfl)
theorem dX9_ints_11 : decode cX9_ints 11 = .ok (.iload_n 2, 1) := dk_28 (dk_at dksX9_ints_0 11 rfl rfl)
theorem dX9_ints_12 : decode cX9_ints 12 = .ok (.iaload, 1) := dk_46 (dk_at dksX9_ints_0 12 rfl rfl)
theorem dX9_ints_13 : decode cX9_ints 13 = .ok (.iastore, 1) := dk_79 (dk_at dksX9_ints_0 13 rfl rfl)
theorem dX9_ints_14 : decode cX9_ints 14 = .ok (.iinc 2 1, 3) := dk_132 2 1 (dk_at dksX9_ints_0 14 rfl rfl)
theorem dX9_ints_17 : decode cX9_ints 17 = .ok (.goto (-15), 3) := dk_167 255 241 (dk_at dksX9_ints_0 17 rfl rfl)
theorem dX9_ints_20 : decode cX9_ints 20 = .ok (.return_, 1) := dk_177 (dk_at dksX9_ints_0 20 rfl rfl)
abbrev cX9_longs : ByteArray := prog_17_method_75_code
def yX9_longs : MethodName := ⟨RX9, "longs", "([J[J)V"⟩
def dkwX9_longs_0 : List UInt8 := [3, 61, 28, 42, 190, 162, 0, 15, 43, 28, 42, 28, 47, 80, 132, 2, 1, 167, 255, 241, 177]
abbrev dktX9_longs_0 : List UInt8 := dkwX9_longs_0 ++ []
theorem dksX9_longs_0 : cX9_longs.data.toList.drop 0 = dktX9_longs_0 := by decide +kernel
theorem dX9_longs_0 : decode cX9_longs 0 = .ok (.iconst 0, 1) := dk_3 (dk_at dksX9_longs_0 0 rfl rfl)
theorem dX9_longs_1 : decode cX9_longs 1 = .ok (.istore_n 2, 1) := dk_61 (dk_at dksX9_longs_0 1 rfl rfl)
theorem dX9_longs_2 : decode cX9_longs 2 = .ok (.iload_n 2, 1) := dk_28 (dk_at dksX9_longs_0 2 rfl rfl)
theorem dX9_longs_3 : decode cX9_longs 3 = .ok (.aload_n 0, 1) := dk_42 (dk_at dksX9_longs_0 3 rfl rfl)
theorem dX9_longs_4 : decode cX9_longs 4 = .ok (.arraylength, 1) := dk_190 (dk_at dksX9_longs_0 4 rfl rfl)
theorem dX9_longs_5 : decode cX9_longs 5 = .ok (.if_icmp .ge 15, 3) := dk_162 0 15 (dk_at dksX9_longs_0 5 rfl rfl)
theorem dX9_longs_8 : decode cX9_longs 8 = .ok (.aload_n 1, 1) := dk_43 (dk_at dksX9_longs_0 8 rfl rfl)
theorem dX9_longs_9 : decode cX9_longs 9 = .ok (.iload_n 2, 1) := dk_28 (dk_at dksX9_longs_0 9 rfl rfl)
theorem dX9_longs_10 : decode cX9_longs 10 = .ok (.aload_n 0, 1) := dk_42 (dk_at dksX9_longs_0 10 rfl rfl)
theorem dX9_longs_11 : decode cX9_longs 11 = .ok (.iload_n 2, 1) := dk_28 (dk_at dksX9_longs_0 11 rfl rfl)
theorem dX9_longs_12 : decode cX9_longs 12 = .ok (.laload, 1) := dk_47 (dk_at dksX9_longs_0 12 rfl rfl)
theorem dX9_longs_13 : decode cX9_longs 13 = .ok (.lastore, 1) := dk_80 (dk_at dksX9_longs_0 13 rfl rfl)
theorem dX9_longs_14 : decode cX9_longs 14 = .ok (.iinc 2 1, 3) := dk_132 2 1 (dk_at dksX9_longs_0 14 rfl rfl)
theorem dX9_longs_17 : decode cX9_longs 17 = .ok (.goto (-15), 3) := dk_167 255 241 (dk_at dksX9_longs_0 17 rfl rfl)
theorem dX9_longs_20 : decode cX9_longs 20 = .ok (.return_, 1) := dk_177 (dk_at dksX9_longs_0 20 rfl rfl)
abbrev cX9_truths : ByteArray := prog_17_method_76_code
def yX9_truths : MethodName := ⟨RX9, "truths", "([Z[Z)V"⟩
def dkwX9_truths_0 : List UInt8 := [3, 61, 28, 42, 190, 162, 0, 15, 43, 28, 42, 28, 51, 84, 132, 2, 1, 167, 255, 241, 177]
abbrev dktX9_truths_0 : List UInt8 := dkwX9_truths_0 ++ []
theorem dksX9_truths_0 : cX9_truths.data.toList.drop 0 = dktX9_truths_0 := by decide +kernel
theorem dX9_truths_0 : decode cX9_truths 0 = .ok (.iconst 0, 1) := dk_3 (dk_at dksX9_truths_0 0 rfl rfl)
theorem dX9_truths_1 : decode cX9_truths 1 = .ok (.istore_n 2, 1) := dk_61 (dk_at dksX9_truths_0 1 rfl rfl)
theorem dX9_truths_2 : decode cX9_truths 2 = .ok (.iload_n 2, 1) := dk_28 (dk_at dksX9_truths_0 2 rfl rfl)
theorem dX9_truths_3 : decode cX9_truths 3 = .ok (.aload_n 0, 1) := dk_42 (dk_at dksX9_truths_0 3 rfl rfl)
theorem dX9_truths_4 : decode cX9_truths 4 = .ok (.arraylength, 1) := dk_190 (dk_at dksX9_truths_0 4 rfl rfl)
theorem dX9_truths_5 : decode cX9_truths 5 = .ok (.if_icmp .ge 15, 3) := dk_162 0 15 (dk_at dksX9_truths_0 5 rfl rfl)
theorem dX9_truths_8 : decode cX9_truths 8 = .ok (.aload_n 1, 1) := dk_43 (dk_at dksX9_truths_0 8 rfl rfl)
theorem dX9_truths_9 : decode cX9_truths 9 = .ok (.iload_n 2, 1) := dk_28 (dk_at dksX9_truths_0 9 rfl rfl)
theorem dX9_truths_10 : decode cX9_truths 10 = .ok (.aload_n 0, 1) := dk_42 (dk_at dksX9_truths_0 10 rfl rfl)
theorem dX9_truths_11 : decode cX9_truths 11 = .ok (.iload_n 2, 1) := dk_28 (dk_at dksX9_truths_0 11 rfl rfl)
theorem dX9_truths_12 : decode cX9_truths 12 = .ok (.baload, 1) := dk_51 (dk_at dksX9_truths_0 12 rfl rfl)
theorem dX9_truths_13 : decode cX9_truths 13 = .ok (.bastore, 1) := dk_84 (dk_at dksX9_truths_0 13 rfl rfl)
theorem dX9_truths_14 : decode cX9_truths 14 = .ok (.iinc 2 1, 3) := dk_132 2 1 (dk_at dksX9_truths_0 14 rfl rfl)
theorem dX9_truths_17 : decode cX9_truths 17 = .ok (.goto (-15), 3) := dk_167 255 241 (dk_at dksX9_truths_0 17 rfl rfl)
theorem dX9_truths_20 : decode cX9_truths 20 = .ok (.return_, 1) := dk_177 (dk_at dksX9_truths_0 20 rfl rfl)
abbrev cX9_back : ByteArray := prog_17_method_78_code
def yX9_back : MethodName := ⟨RX9, "back", "()Z"⟩
def dkwX9_back_10 : List UInt8 := [184, 1, 110, 42, 180, 0, 124, 42, 180, 0, 67, 184, 1, 110, 4, 172]
abbrev dktX9_back_10 : List UInt8 := dkwX9_back_10 ++ []
def dkwX9_back_9 : List UInt8 := [184, 1, 110, 42, 180, 0, 118, 42, 180, 0, 61, 184, 1, 118, 42, 180, 0, 121, 42, 180, 0, 64]
abbrev dktX9_back_9 : List UInt8 := dkwX9_back_9 ++ dktX9_back_10
def dkwX9_back_8 : List UInt8 := [184, 1, 118, 42, 180, 0, 112, 42, 180, 0, 55, 184, 1, 110, 42, 180, 0, 115, 42, 180, 0, 58]
abbrev dktX9_back_8 : List UInt8 := dkwX9_back_8 ++ dktX9_back_9
def dkwX9_back_7 : List UInt8 := [184, 1, 110, 42, 180, 0, 106, 42, 180, 0, 49, 184, 1, 110, 42, 180, 0, 109, 42, 180, 0, 52]
abbrev dktX9_back_7 : List UInt8 := dkwX9_back_7 ++ dktX9_back_8
def dkwX9_back_6 : List UInt8 := [184, 1, 110, 42, 180, 0, 100, 42, 180, 0, 42, 184, 1, 114, 42, 180, 0, 103, 42, 180, 0, 46]
abbrev dktX9_back_6 : List UInt8 := dkwX9_back_6 ++ dktX9_back_7
def dkwX9_back_5 : List UInt8 := [184, 1, 118, 42, 180, 0, 94, 42, 180, 0, 36, 184, 1, 110, 42, 180, 0, 97, 42, 180, 0, 39]
abbrev dktX9_back_5 : List UInt8 := dkwX9_back_5 ++ dktX9_back_6
def dkwX9_back_4 : List UInt8 := [184, 1, 110, 42, 180, 0, 88, 42, 180, 0, 30, 184, 1, 110, 42, 180, 0, 91, 42, 180, 0, 33]
abbrev dktX9_back_4 : List UInt8 := dkwX9_back_4 ++ dktX9_back_5
def dkwX9_back_3 : List UInt8 := [184, 1, 118, 42, 180, 0, 82, 42, 180, 0, 24, 184, 1, 118, 42, 180, 0, 85, 42, 180, 0, 27]
abbrev dktX9_back_3 : List UInt8 := dkwX9_back_3 ++ dktX9_back_4
def dkwX9_back_2 : List UInt8 := [184, 1, 110, 42, 180, 0, 76, 42, 180, 0, 16, 184, 1, 114, 42, 180, 0, 79, 42, 180, 0, 20]
abbrev dktX9_back_2 : List UInt8 := dkwX9_back_2 ++ dktX9_back_3
def dkwX9_back_1 : List UInt8 := [181, 1, 80, 42, 180, 0, 70, 42, 180, 0, 9, 184, 1, 110, 42, 180, 0, 73, 42, 180, 0, 13]
abbrev dktX9_back_1 : List UInt8 := dkwX9_back_1 ++ dktX9_back_2
def dkwX9_back_0 : List UInt8 := [42, 180, 1, 100, 154, 0, 5, 3, 172, 42, 42, 180, 1, 104, 181, 1, 11, 42, 42, 180, 1, 107]
abbrev dktX9_back_0 : List UInt8 := dkwX9_back_0 ++ dktX9_back_1
theorem dksX9_back_0 : cX9_back.data.toList.drop 0 = dktX9_back_0 := by decide +kernel
theorem dksX9_back_1 : cX9_back.data.toList.drop 22 = dktX9_back_1 := dk_seg dksX9_back_0 22 rfl rfl
theorem dksX9_back_2 : cX9_back.data.toList.drop 44 = dktX9_back_2 := dk_seg dksX9_back_1 22 rfl rfl
theorem dksX9_back_3 : cX9_back.data.toList.drop 66 = dktX9_back_3 := dk_seg dksX9_back_2 22 rfl rfl
theorem dksX9_back_4 : cX9_back.data.toList.drop 88 = dktX9_back_4 := dk_seg dksX9_back_3 22 rfl rfl
theorem dksX9_back_5 : cX9_back.data.toList.drop 110 = dktX9_back_5 := dk_seg dksX9_back_4 22 rfl rfl
theorem dksX9_back_6 : cX9_back.data.toList.drop 132 = dktX9_back_6 := dk_seg dksX9_back_5 22 rfl rfl
theorem dksX9_back_7 : cX9_back.data.toList.drop 154 = dktX9_back_7 := dk_seg dksX9_back_6 22 rfl rfl
theorem dksX9_back_8 : cX9_back.data.toList.drop 176 = dktX9_back_8 := dk_seg dksX9_back_7 22 rfl rfl
theorem dksX9_back_9 : cX9_back.data.toList.drop 198 = dktX9_back_9 := dk_seg dksX9_back_8 22 rfl rfl
theorem dksX9_back_10 : cX9_back.data.toList.drop 220 = dktX9_back_10 := dk_seg dksX9_back_9 22 rfl rfl
theorem dX9_back_0 : decode cX9_back 0 = .ok (.aload_n 0, 1) := dk_42 (dk_at dksX9_back_0 0 rfl rfl)
theorem dX9_back_1 : decode cX9_back 1 = .ok (.getfield 356, 3) := dk_180 1 100 (dk_at dksX9_back_0 1 rfl rfl)
theorem dX9_back_4 : decode cX9_back 4 = .ok (.ifCond .ne 5, 3) := dk_154 0 5 (dk_at dksX9_back_0 4 rfl rfl)
theorem dX9_back_7 : decode cX9_back 7 = .ok (.iconst 0, 1) := dk_3 (dk_at dksX9_back_0 7 rfl rfl)
theorem dX9_back_8 : decode cX9_back 8 = .ok (.ireturn, 1) := dk_172 (dk_at dksX9_back_0 8 rfl rfl)
theorem dX9_back_9 : decode cX9_back 9 = .ok (.aload_n 0, 1) := dk_42 (dk_at dksX9_back_0 9 rfl rfl)
theorem dX9_back_10 : decode cX9_back 10 = .ok (.aload_n 0, 1) := dk_42 (dk_at dksX9_back_0 10 rfl rfl)
theorem dX9_back_11 : decode cX9_back 11 = .ok (.getfield 360, 3) := dk_180 1 104 (dk_at dksX9_back_0 11 rfl rfl)
theorem dX9_back_14 : decode cX9_back 14 = .ok (.putfield 267, 3) := dk_181 1 11 (dk_at dksX9_back_0 14 rfl rfl)
theorem dX9_back_17 : decode cX9_back 17 = .ok (.aload_n 0, 1) := dk_42 (dk_at dksX9_back_0 17 rfl rfl)
theorem dX9_back_18 : decode cX9_back 18 = .ok (.aload_n 0, 1) := dk_42 (dk_at dksX9_back_0 18 rfl rfl)
theorem dX9_back_19 : decode cX9_back 19 = .ok (.getfield 363, 3) := dk_180 1 107 (dk_at dksX9_back_0 19 rfl rfl)
theorem dX9_back_22 : decode cX9_back 22 = .ok (.putfield 336, 3) := dk_181 1 80 (dk_at dksX9_back_1 0 rfl rfl)
theorem dX9_back_25 : decode cX9_back 25 = .ok (.aload_n 0, 1) := dk_42 (dk_at dksX9_back_1 3 rfl rfl)
theorem dX9_back_26 : decode cX9_back 26 = .ok (.getfield 70, 3) := dk_180 0 70 (dk_at dksX9_back_1 4 rfl rfl)
theorem dX9_back_29 : decode cX9_back 29 = .ok (.aload_n 0, 1) := dk_42 (dk_at dksX9_back_1 7 rfl rfl)
theorem dX9_back_30 : decode cX9_back 30 = .ok (.getfield 9, 3) := dk_180 0 9 (dk_at dksX9_back_1 8 rfl rfl)
theorem dX9_back_33 : decode cX9_back 33 = .ok (.invokestatic 366, 3) := dk_184 1 110 (dk_at dksX9_back_1 11 rfl rfl)
theorem dX9_back_36 : decode cX9_back 36 = .ok (.aload_n 0, 1) := dk_42 (dk_at dksX9_back_1 14 rfl rfl)
theorem dX9_back_37 : decode cX9_back 37 = .ok (.getfield 73, 3) := dk_180 0 73 (dk_at dksX9_back_1 15 rfl rfl)
theorem dX9_back_40 : decode cX9_back 40 = .ok (.aload_n 0, 1) := dk_42 (dk_at dksX9_back_1 18 rfl rfl)
theorem dX9_back_41 : decode cX9_back 41 = .ok (.getfield 13, 3) := dk_180 0 13 (dk_at dksX9_back_1 19 rfl rfl)
theorem dX9_back_44 : decode cX9_back 44 = .ok (.invokestatic 366, 3) := dk_184 1 110 (dk_at dksX9_back_2 0 rfl rfl)
theorem dX9_back_47 : decode cX9_back 47 = .ok (.aload_n 0, 1) := dk_42 (dk_at dksX9_back_2 3 rfl rfl)
theorem dX9_back_48 : decode cX9_back 48 = .ok (.getfield 76, 3) := dk_180 0 76 (dk_at dksX9_back_2 4 rfl rfl)
theorem dX9_back_51 : decode cX9_back 51 = .ok (.aload_n 0, 1) := dk_42 (dk_at dksX9_back_2 7 rfl rfl)
theorem dX9_back_52 : decode cX9_back 52 = .ok (.getfield 16, 3) := dk_180 0 16 (dk_at dksX9_back_2 8 rfl rfl)
theorem dX9_back_55 : decode cX9_back 55 = .ok (.invokestatic 370, 3) := dk_184 1 114 (dk_at dksX9_back_2 11 rfl rfl)
theorem dX9_back_58 : decode cX9_back 58 = .ok (.aload_n 0, 1) := dk_42 (dk_at dksX9_back_2 14 rfl rfl)
theorem dX9_back_59 : decode cX9_back 59 = .ok (.getfield 79, 3) := dk_180 0 79 (dk_at dksX9_back_2 15 rfl rfl)
theorem dX9_back_62 : decode cX9_back 62 = .ok (.aload_n 0, 1) := dk_42 (dk_at dksX9_back_2 18 rfl rfl)
theorem dX9_back_63 : decode cX9_back 63 = .ok (.getfield 20, 3) := dk_180 0 20 (dk_at dksX9_back_2 19 rfl rfl)
theorem dX9_back_66 : decode cX9_back 66 = .ok (.invokestatic 374, 3) := dk_184 1 118 (dk_at dksX9_back_3 0 rfl rfl)
theorem dX9_back_69 : decode cX9_back 69 = .ok (.aload_n 0, 1) := dk_42 (dk_at dksX9_back_3 3 rfl rfl)
theorem dX9_back_70 : decode cX9_back 70 = .ok (.getfield 82, 3) := dk_180 0 82 (dk_at dksX9_back_3 4 rfl rfl)
theorem dX9_back_73 : decode cX9_back 73 = .ok (.aload_n 0, 1) := dk_42 (dk_at dksX9_back_3 7 rfl rfl)
theorem dX9_back_74 : decode cX9_back 74 = .ok (.getfield 24, 3) := dk_180 0 24 (dk_at dksX9_back_3 8 rfl rfl)
theorem dX9_back_77 : decode cX9_back 77 = .ok (.invokestatic 374, 3) := dk_184 1 118 (dk_at dksX9_back_3 11 rfl rfl)
theorem dX9_back_80 : decode cX9_back 80 = .ok (.aload_n 0, 1) := dk_42 (dk_at dksX9_back_3 14 rfl rfl)
theorem dX9_back_81 : decode cX9_back 81 = .ok (.getfield 85, 3) := dk_180 0 85 (dk_at dksX9_back_3 15 rfl rfl)
theorem dX9_back_84 : decode cX9_back 84 = .ok (.aload_n 0, 1) := dk_42 (dk_at dksX9_back_3 18 rfl rfl)
theorem dX9_back_85 : decode cX9_back 85 = .ok (.getfield 27, 3) := dk_180 0 27 (dk_at dksX9_back_3 19 rfl rfl)
theorem dX9_back_88 : decode cX9_back 88 = .ok (.invokestatic 366, 3) := dk_184 1 110 (dk_at dksX9_back_4 0 rfl rfl)
theorem dX9_back_91 : decode cX9_back 91 = .ok (.aload_n 0, 1) := dk_42 (dk_at dksX9_back_4 3 rfl rfl)
theorem dX9_back_92 : decode cX9_back 92 = .ok (.getfield 88, 3) := dk_180 0 88 (dk_at dksX9_back_4 4 rfl rfl)
theorem dX9_back_95 : decode cX9_back 95 = .ok (.aload_n 0, 1) := dk_42 (dk_at dksX9_back_4 7 rfl rfl)
theorem dX9_back_96 : decode cX9_back 96 = .ok (.getfield 30, 3) := dk_180 0 30 (dk_at dksX9_back_4 8 rfl rfl)
theorem dX9_back_99 : decode cX9_back 99 = .ok (.invokestatic 366, 3) := dk_184 1 110 (dk_at dksX9_back_4 11 rfl rfl)
theorem dX9_back_102 : decode cX9_back 102 = .ok (.aload_n 0, 1) := dk_42 (dk_at dksX9_back_4 14 rfl rfl)
theorem dX9_back_103 : decode cX9_back 103 = .ok (.getfield 91, 3) := dk_180 0 91 (dk_at dksX9_back_4 15 rfl rfl)
theorem dX9_back_106 : decode cX9_back 106 = .ok (.aload_n 0, 1) := dk_42 (dk_at dksX9_back_4 18 rfl rfl)
theorem dX9_back_107 : decode cX9_back 107 = .ok (.getfield 33, 3) := dk_180 0 33 (dk_at dksX9_back_4 19 rfl rfl)
theorem dX9_back_110 : decode cX9_back 110 = .ok (.invokestatic 374, 3) := dk_184 1 118 (dk_at dksX9_back_5 0 rfl rfl)
theorem dX9_back_113 : decode cX9_back 113 = .ok (.aload_n 0, 1) := dk_42 (dk_at dksX9_back_5 3 rfl rfl)
theorem dX9_back_114 : decode cX9_back 114 = .ok (.getfield 94, 3) := dk_180 0 94 (dk_at dksX9_back_5 4 rfl rfl)
theorem dX9_back_117 : decode cX9_back 117 = .ok (.aload_n 0, 1) := dk_42 (dk_at dksX9_back_5 7 rfl rfl)
theorem dX9_back_118 : decode cX9_back 118 = .ok (.getfield 36, 3) := dk_180 0 36 (dk_at dksX9_back_5 8 rfl rfl)
theorem dX9_back_121 : decode cX9_back 121 = .ok (.invokestatic 366, 3) := dk_184 1 110 (dk_at dksX9_back_5 11 rfl rfl)
theorem dX9_back_124 : decode cX9_back 124 = .ok (.aload_n 0, 1) := dk_42 (dk_at dksX9_back_5 14 rfl rfl)
theorem dX9_back_125 : decode cX9_back 125 = .ok (.getfield 97, 3) := dk_180 0 97 (dk_at dksX9_back_5 15 rfl rfl)
theorem dX9_back_128 : decode cX9_back 128 = .ok (.aload_n 0, 1) := dk_42 (dk_at dksX9_back_5 18 rfl rfl)
theorem dX9_back_129 : decode cX9_back 129 = .ok (.getfield 39, 3) := dk_180 0 39 (dk_at dksX9_back_5 19 rfl rfl)
theorem dX9_back_132 : decode cX9_back 132 = .ok (.invokestatic 366, 3) := dk_184 1 110 (dk_at dksX9_back_6 0 rfl rfl)
theorem dX9_back_135 : decode cX9_back 135 = .ok (.aload_n 0, 1) := dk_42 (dk_at dksX9_back_6 3 rfl rfl)
theorem dX9_back_136 : decode cX9_back 136 = .ok (.getfield 100, 3) := dk_180 0 100 (dk_at dksX9_back_6 4 rfl rfl)
theorem dX9_back_139 : decode cX9_back 139 = .ok (.aload_n 0, 1) := dk_42 (dk_at dksX9_back_6 7 rfl rfl)
theorem dX9_back_140 : decode cX9_back 140 = .ok (.getfield 42, 3) := dk_180 0 42 (dk_at dksX9_back_6 8 rfl rfl)
theorem dX9_back_143 : decode cX9_back 143 = .ok (.invokestatic 370, 3) := dk_184 1 114 (dk_at dksX9_back_6 11 rfl rfl)
theorem dX9_back_146 : decode cX9_back 146 = .ok (.aload_n 0, 1) := dk_42 (dk_at dksX9_back_6 14 rfl rfl)
theorem dX9_back_147 : decode cX9_back 147 = .ok (.getfield 103, 3) := dk_180 0 103 (dk_at dksX9_back_6 15 rfl rfl)
theorem dX9_back_150 : decode cX9_back 150 = .ok (.aload_n 0, 1) := dk_42 (dk_at dksX9_back_6 18 rfl rfl)
theorem dX9_back_151 : decode cX9_back 151 = .ok (.getfield 46, 3) := dk_180 0 46 (dk_at dksX9_back_6 19 rfl rfl)
theorem dX9_back_154 : decode cX9_back 154 = .ok (.invokestatic 366, 3) := dk_184 1 110 (dk_at dksX9_back_7 0 rfl rfl)
theorem dX9_back_157 : decode cX9_back 157 = .ok (.aload_n 0, 1) := dk_42 (dk_at dksX9_back_7 3 rfl rfl)
theorem dX9_back_158 : decode cX9_back 158 = .ok (.getfield 106, 3) := dk_180 0 106 (dk_at dksX9_back_7 4 rfl rfl)
theorem dX9_back_161 : decode cX9_back 161 = .ok (.aload_n 0, 1) := dk_42 (dk_at dksX9_back_7 7 rfl rfl)
theorem dX9_back_162 : decode cX9_back 162 = .ok (.getfield 49, 3) := dk_180 0 49 (dk_at dksX9_back_7 8 rfl rfl)
theorem dX9_back_165 : decode cX9_back 165 = .ok (.invokestatic 366, 3) := dk_184 1 110 (dk_at dksX9_back_7 11 rfl rfl)
theorem dX9_back_168 : decode cX9_back 168 = .ok (.aload_n 0, 1) := dk_42 (dk_at dksX9_back_7 14 rfl rfl)
theorem dX9_back_169 : decode cX9_back 169 = .ok (.getfield 109, 3) := dk_180 0 109 (dk_at dksX9_back_7 15 rfl rfl)
theorem dX9_back_172 : decode cX9_back 172 = .ok (.aload_n 0, 1) := dk_42 (dk_at dksX9_back_7 18 rfl rfl)
theorem dX9_back_173 : decode cX9_back 173 = .ok (.getfield 52, 3) := dk_180 0 52 (dk_at dksX9_back_7 19 rfl rfl)
theorem dX9_back_176 : decode cX9_back 176 = .ok (.invokestatic 374, 3) := dk_184 1 118 (dk_at dksX9_back_8 0 rfl rfl)
theorem dX9_back_179 : decode cX9_back 179 = .ok (.aload_n 0, 1) := dk_42 (dk_at dksX9_back_8 3 rfl rfl)
theorem dX9_back_180 : decode cX9_back 180 = .ok (.getfield 112, 3) := dk_180 0 112 (dk_at dksX9_back_8 4 rfl rfl)
theorem dX9_back_183 : decode cX9_back 183 = .ok (.aload_n 0, 1) := dk_42 (dk_at dksX9_back_8 7 rfl rfl)
theorem dX9_back_184 : decode cX9_back 184 = .ok (.getfield 55, 3) := dk_180 0 55 (dk_at dksX9_back_8 8 rfl rfl)
theorem dX9_back_187 : decode cX9_back 187 = .ok (.invokestatic 366, 3) := dk_184 1 110 (dk_at dksX9_back_8 11 rfl rfl)
theorem dX9_back_190 : decode cX9_back 190 = .ok (.aload_n 0, 1) := dk_42 (dk_at dksX9_back_8 14 rfl rfl)
theorem dX9_back_191 : decode cX9_back 191 = .ok (.getfield 115, 3) := dk_180 0 115 (dk_at dksX9_back_8 15 rfl rfl)
theorem dX9_back_194 : decode cX9_back 194 = .ok (.aload_n 0, 1) := dk_42 (dk_at dksX9_back_8 18 rfl rfl)
theorem dX9_back_195 : decode cX9_back 195 = .ok (.getfield 58, 3) := dk_180 0 58 (dk_at dksX9_back_8 19 rfl rfl)
theorem dX9_back_198 : decode cX9_back 198 = .ok (.invokestatic 366, 3) := dk_184 1 110 (dk_at dksX9_back_9 0 rfl rfl)
theorem dX9_back_201 : decode cX9_back 201 = .ok (.aload_n 0, 1) := dk_42 (dk_at dksX9_back_9 3 rfl rfl)
theorem dX9_back_202 : decode cX9_back 202 = .ok (.getfield 118, 3) := dk_180 0 118 (dk_at dksX9_back_9 4 rfl rfl)
theorem dX9_back_205 : decode cX9_back 205 = .ok (.aload_n 0, 1) := dk_42 (dk_at dksX9_back_9 7 rfl rfl)
theorem dX9_back_206 : decode cX9_back 206 = .ok (.getfield 61, 3) := dk_180 0 61 (dk_at dksX9_back_9 8 rfl rfl)
theorem dX9_back_209 : decode cX9_back 209 = .ok (.invokestatic 374, 3) := dk_184 1 118 (dk_at dksX9_back_9 11 rfl rfl)
theorem dX9_back_212 : decode cX9_back 212 = .ok (.aload_n 0, 1) := dk_42 (dk_at dksX9_back_9 14 rfl rfl)
theorem dX9_back_213 : decode cX9_back 213 = .ok (.getfield 121, 3) := dk_180 0 121 (dk_at dksX9_back_9 15 rfl rfl)
theorem dX9_back_216 : decode cX9_back 216 = .ok (.aload_n 0, 1) := dk_42 (dk_at dksX9_back_9 18 rfl rfl)
theorem dX9_back_217 : decode cX9_back 217 = .ok (.getfield 64, 3) := dk_180 0 64 (dk_at dksX9_back_9 19 rfl rfl)
theorem dX9_back_220 : decode cX9_back 220 = .ok (.invokestatic 366, 3) := dk_184 1 110 (dk_at dksX9_back_10 0 rfl rfl)
theorem dX9_back_223 : decode cX9_back 223 = .ok (.aload_n 0, 1) := dk_42 (dk_at dksX9_back_10 3 rfl rfl)
theorem dX9_back_224 : decode cX9_back 224 = .ok (.getfield 124, 3) := dk_180 0 124 (dk_at dksX9_back_10 4 rfl rfl)
theorem dX9_back_227 : decode cX9_back 227 = .ok (.aload_n 0, 1) := dk_42 (dk_at dksX9_back_10 7 rfl rfl)
theorem dX9_back_228 : decode cX9_back 228 = .ok (.getfield 67, 3) := dk_180 0 67 (dk_at dksX9_back_10 8 rfl rfl)
theorem dX9_back_231 : decode cX9_back 231 = .ok (.invokestatic 366, 3) := dk_184 1 110 (dk_at dksX9_back_10 11 rfl rfl)
theorem dX9_back_234 : decode cX9_back 234 = .ok (.iconst 1, 1) := dk_4 (dk_at dksX9_back_10 14 rfl rfl)
theorem dX9_back_235 : decode cX9_back 235 = .ok (.ireturn, 1) := dk_172 (dk_at dksX9_back_10 15 rfl rfl)
theorem q66 : (Jvm.Cond.initialized "GlassLogModel") ∈ lw_all := lw_g (lw_at lw_m1 10 rfl) rfl
theorem q1186 : (Jvm.Cond.instantiable "GlassLogModel" (66 : Nat)) ∈ lw_all := lw_g (lw_at lw_m5 170 rfl) rfl
theorem q1188 : (Jvm.Cond.instanceMethod ({ cls := "GlassLogModel", name := "<init>", desc := "()V" } : Jvm.MethodName)) ∈ lw_all := lw_g (lw_at lw_m5 172 rfl) rfl
theorem q1189 : (Jvm.Cond.code ({ cls := "GlassLogModel", name := "<init>", desc := "()V" } : Jvm.MethodName) prog_17_method_1_code (1 : Nat) (Option.none : Option Jvm.ClassFile.FieldType)) ∈ lw_all := lw_g (lw_at lw_m5 173 rfl) rfl
theorem q1190 : (Jvm.Cond.methodLink "GlassLogModel" (1 : Nat) ({ cls := "java/lang/Object", name := "<init>", desc := "()V" } : Jvm.MethodName)) ∈ lw_all := lw_g (lw_at lw_m5 174 rfl) rfl
theorem q1191 : (Jvm.Cond.constant "GlassLogModel" (45 : Nat) (32768 : Int32)) ∈ lw_all := lw_g (lw_at lw_m5 175 rfl) rfl
theorem q1192 : (Jvm.Cond.fieldLink "GlassLogModel" (9 : Nat) "GlassLogModel" "logs" "[I") ∈ lw_all := lw_g (lw_at lw_m5 176 rfl) rfl
theorem q1193 : (Jvm.Cond.fieldLink "GlassLogModel" (267 : Nat) "GlassLogModel" "logMany" "I") ∈ lw_all := lw_g (lw_at lw_m5 177 rfl) rfl
theorem q1194 : (Jvm.Cond.fieldLink "GlassLogModel" (13 : Nat) "GlassLogModel" "keys" "[I") ∈ lw_all := lw_g (lw_at lw_m5 178 rfl) rfl
theorem q1195 : (Jvm.Cond.fieldLink "GlassLogModel" (16 : Nat) "GlassLogModel" "values" "[J") ∈ lw_all := lw_g (lw_at lw_m5 179 rfl) rfl
theorem q1196 : (Jvm.Cond.fieldLink "GlassLogModel" (20 : Nat) "GlassLogModel" "gone" "[Z") ∈ lw_all := lw_g (lw_at lw_m5 180 rfl) rfl
theorem q1197 : (Jvm.Cond.fieldLink "GlassLogModel" (24 : Nat) "GlassLogModel" "kept" "[Z") ∈ lw_all := lw_g (lw_at lw_m5 181 rfl) rfl
theorem q1198 : (Jvm.Cond.fieldLink "GlassLogModel" (27 : Nat) "GlassLogModel" "wordKey" "[I") ∈ lw_all := lw_g (lw_at lw_m5 182 rfl) rfl
theorem q1199 : (Jvm.Cond.fieldLink "GlassLogModel" (30 : Nat) "GlassLogModel" "wordSince" "[I") ∈ lw_all := lw_g (lw_at lw_m5 183 rfl) rfl
theorem q1200 : (Jvm.Cond.fieldLink "GlassLogModel" (33 : Nat) "GlassLogModel" "wordHides" "[Z") ∈ lw_all := lw_g (lw_at lw_m5 184 rfl) rfl
theorem q1201 : (Jvm.Cond.fieldLink "GlassLogModel" (36 : Nat) "GlassLogModel" "slots" "[I") ∈ lw_all := lw_g (lw_at lw_m5 185 rfl) rfl
theorem q1202 : (Jvm.Cond.fieldLink "GlassLogModel" (39 : Nat) "GlassLogModel" "slotKeys" "[I") ∈ lw_all := lw_g (lw_at lw_m5 186 rfl) rfl
theorem q1203 : (Jvm.Cond.fieldLink "GlassLogModel" (42 : Nat) "GlassLogModel" "slotValues" "[J") ∈ lw_all := lw_g (lw_at lw_m5 187 rfl) rfl
theorem q1204 : (Jvm.Cond.fieldLink "GlassLogModel" (46 : Nat) "GlassLogModel" "steps" "[I") ∈ lw_all := lw_g (lw_at lw_m5 188 rfl) rfl
theorem q1205 : (Jvm.Cond.fieldLink "GlassLogModel" (49 : Nat) "GlassLogModel" "readers" "[I") ∈ lw_all := lw_g (lw_at lw_m5 189 rfl) rfl
theorem q1206 : (Jvm.Cond.fieldLink "GlassLogModel" (52 : Nat) "GlassLogModel" "has" "[Z") ∈ lw_all := lw_g (lw_at lw_m5 190 rfl) rfl
theorem q1207 : (Jvm.Cond.fieldLink "GlassLogModel" (55 : Nat) "GlassLogModel" "blames" "[I") ∈ lw_all := lw_g (lw_at lw_m5 191 rfl) rfl
theorem q1208 : (Jvm.Cond.fieldLink "GlassLogModel" (336 : Nat) "GlassLogModel" "blameMany" "I") ∈ lw_all := lw_g (lw_at lw_m5 192 rfl) rfl
theorem q1209 : (Jvm.Cond.fieldLink "GlassLogModel" (58 : Nat) "GlassLogModel" "watchers" "[I") ∈ lw_all := lw_g (lw_at lw_m5 193 rfl) rfl
theorem q1210 : (Jvm.Cond.fieldLink "GlassLogModel" (61 : Nat) "GlassLogModel" "watches" "[Z") ∈ lw_all := lw_g (lw_at lw_m5 194 rfl) rfl
theorem q1211 : (Jvm.Cond.fieldLink "GlassLogModel" (64 : Nat) "GlassLogModel" "watchKey" "[I") ∈ lw_all := lw_g (lw_at lw_m5 195 rfl) rfl
theorem q1212 : (Jvm.Cond.fieldLink "GlassLogModel" (67 : Nat) "GlassLogModel" "watchLast" "[I") ∈ lw_all := lw_g (lw_at lw_m5 196 rfl) rfl
theorem q1213 : (Jvm.Cond.fieldLink "GlassLogModel" (356 : Nat) "GlassLogModel" "hasImage" "Z") ∈ lw_all := lw_g (lw_at lw_m5 197 rfl) rfl
theorem q1214 : (Jvm.Cond.fieldLink "GlassLogModel" (70 : Nat) "GlassLogModel" "kLogs" "[I") ∈ lw_all := lw_g (lw_at lw_m5 198 rfl) rfl
theorem q1215 : (Jvm.Cond.fieldLink "GlassLogModel" (360 : Nat) "GlassLogModel" "kLogMany" "I") ∈ lw_all := lw_g (lw_at lw_m5 199 rfl) rfl
theorem q1216 : (Jvm.Cond.fieldLink "GlassLogModel" (73 : Nat) "GlassLogModel" "kKeys" "[I") ∈ lw_all := lw_g (lw_at lw_m5 200 rfl) rfl
theorem q1217 : (Jvm.Cond.fieldLink "GlassLogModel" (76 : Nat) "GlassLogModel" "kValues" "[J") ∈ lw_all := lw_g (lw_at lw_m5 201 rfl) rfl
theorem q1218 : (Jvm.Cond.fieldLink "GlassLogModel" (79 : Nat) "GlassLogModel" "kGone" "[Z") ∈ lw_all := lw_g (lw_at lw_m5 202 rfl) rfl
theorem q1219 : (Jvm.Cond.fieldLink "GlassLogModel" (82 : Nat) "GlassLogModel" "kKept" "[Z") ∈ lw_all := lw_g (lw_at lw_m5 203 rfl) rfl
theorem q1220 : (Jvm.Cond.fieldLink "GlassLogModel" (85 : Nat) "GlassLogModel" "kWordKey" "[I") ∈ lw_all := lw_g (lw_at lw_m5 204 rfl) rfl
theorem q1221 : (Jvm.Cond.fieldLink "GlassLogModel" (88 : Nat) "GlassLogModel" "kWordSince" "[I") ∈ lw_all := lw_g (lw_at lw_m5 205 rfl) rfl
theorem q1222 : (Jvm.Cond.fieldLink "GlassLogModel" (91 : Nat) "GlassLogModel" "kWordHides" "[Z") ∈ lw_all := lw_g (lw_at lw_m5 206 rfl) rfl
theorem q1223 : (Jvm.Cond.fieldLink "GlassLogModel" (94 : Nat) "GlassLogModel" "kSlots" "[I") ∈ lw_all := lw_g (lw_at lw_m5 207 rfl) rfl
theorem q1224 : (Jvm.Cond.fieldLink "GlassLogModel" (97 : Nat) "GlassLogModel" "kSlotKeys" "[I") ∈ lw_all := lw_g (lw_at lw_m5 208 rfl) rfl
theorem q1225 : (Jvm.Cond.fieldLink "GlassLogModel" (100 : Nat) "GlassLogModel" "kSlotValues" "[J") ∈ lw_all := lw_g (lw_at lw_m5 209 rfl) rfl
theorem q1226 : (Jvm.Cond.fieldLink "GlassLogModel" (103 : Nat) "GlassLogModel" "kSteps" "[I") ∈ lw_all := lw_g (lw_at lw_m5 210 rfl) rfl
theorem q1227 : (Jvm.Cond.fieldLink "GlassLogModel" (106 : Nat) "GlassLogModel" "kReaders" "[I") ∈ lw_all := lw_g (lw_at lw_m5 211 rfl) rfl
theorem q1228 : (Jvm.Cond.fieldLink "GlassLogModel" (109 : Nat) "GlassLogModel" "kHas" "[Z") ∈ lw_all := lw_g (lw_at lw_m5 212 rfl) rfl
theorem q1229 : (Jvm.Cond.fieldLink "GlassLogModel" (112 : Nat) "GlassLogModel" "kBlames" "[I") ∈ lw_all := lw_g (lw_at lw_m5 213 rfl) rfl
theorem q1230 : (Jvm.Cond.fieldLink "GlassLogModel" (363 : Nat) "GlassLogModel" "kBlameMany" "I") ∈ lw_all := lw_g (lw_at lw_m5 214 rfl) rfl
theorem q1231 : (Jvm.Cond.fieldLink "GlassLogModel" (115 : Nat) "GlassLogModel" "kWatchers" "[I") ∈ lw_all := lw_g (lw_at lw_m5 215 rfl) rfl
theorem q1232 : (Jvm.Cond.fieldLink "GlassLogModel" (118 : Nat) "GlassLogModel" "kWatches" "[Z") ∈ lw_all := lw_g (lw_at lw_m5 216 rfl) rfl
theorem q1233 : (Jvm.Cond.fieldLink "GlassLogModel" (121 : Nat) "GlassLogModel" "kWatchKey" "[I") ∈ lw_all := lw_g (lw_at lw_m5 217 rfl) rfl
theorem q1234 : (Jvm.Cond.fieldLink "GlassLogModel" (124 : Nat) "GlassLogModel" "kWatchLast" "[I") ∈ lw_all := lw_g (lw_at lw_m5 218 rfl) rfl
theorem q1235 : (Jvm.Cond.fieldLink "GlassLogModel" (127 : Nat) "GlassLogModel" "words" "[I") ∈ lw_all := lw_g (lw_at lw_m5 219 rfl) rfl
theorem q1236 : (Jvm.Cond.fieldLink "GlassLogModel" (130 : Nat) "GlassLogModel" "mixed" "[I") ∈ lw_all := lw_g (lw_at lw_m5 220 rfl) rfl
theorem q1237 : (Jvm.Cond.fieldLink "GlassLogModel" (133 : Nat) "GlassLogModel" "deep" "[I") ∈ lw_all := lw_g (lw_at lw_m5 221 rfl) rfl
theorem q1238 : (Jvm.Cond.fieldLink "GlassLogModel" (136 : Nat) "GlassLogModel" "from" "[I") ∈ lw_all := lw_g (lw_at lw_m5 222 rfl) rfl
theorem q1239 : (Jvm.Cond.fieldLink "GlassLogModel" (139 : Nat) "GlassLogModel" "size" "[I") ∈ lw_all := lw_g (lw_at lw_m5 223 rfl) rfl
theorem q1240 : (Jvm.Cond.fieldLink "GlassLogModel" (142 : Nat) "GlassLogModel" "sums" "[I") ∈ lw_all := lw_g (lw_at lw_m5 224 rfl) rfl
theorem q1241 : (Jvm.Cond.fieldLink "GlassLogModel" (208 : Nat) "GlassLogModel" "blocks" "I") ∈ lw_all := lw_g (lw_at lw_m5 225 rfl) rfl
theorem q1242 : (Jvm.Cond.fieldLink "GlassLogModel" (145 : Nat) "GlassLogModel" "one" "[I") ∈ lw_all := lw_g (lw_at lw_m5 226 rfl) rfl
theorem q1243 : (Jvm.Cond.fieldLink "GlassLogModel" (148 : Nat) "GlassLogModel" "block" "[I") ∈ lw_all := lw_g (lw_at lw_m5 227 rfl) rfl
theorem q1244 : (Jvm.Cond.fieldLink "GlassLogModel" (151 : Nat) "GlassLogModel" "mapKey" "[I") ∈ lw_all := lw_g (lw_at lw_m5 228 rfl) rfl
theorem q1245 : (Jvm.Cond.fieldLink "GlassLogModel" (154 : Nat) "GlassLogModel" "mapLatest" "[I") ∈ lw_all := lw_g (lw_at lw_m5 229 rfl) rfl
theorem q1246 : (Jvm.Cond.fieldLink "GlassLogModel" (157 : Nat) "GlassLogModel" "way" "[I") ∈ lw_all := lw_g (lw_at lw_m5 230 rfl) rfl
theorem q1247 : (Jvm.Cond.fieldLink "GlassLogModel" (160 : Nat) "GlassLogModel" "order" "[I") ∈ lw_all := lw_g (lw_at lw_m5 231 rfl) rfl
theorem q1248 : (Jvm.Cond.fieldLink "GlassLogModel" (163 : Nat) "GlassLogModel" "other" "[I") ∈ lw_all := lw_g (lw_at lw_m5 232 rfl) rfl
theorem q1249 : (Jvm.Cond.fieldLink "GlassLogModel" (223 : Nat) "GlassLogModel" "mapMany" "I") ∈ lw_all := lw_g (lw_at lw_m5 233 rfl) rfl
theorem q1250 : (Jvm.Cond.fieldLink "GlassLogModel" (166 : Nat) "GlassLogModel" "trees" "[I") ∈ lw_all := lw_g (lw_at lw_m5 234 rfl) rfl
theorem q1251 : (Jvm.Cond.fieldLink "GlassLogModel" (169 : Nat) "GlassLogModel" "asked" "[I") ∈ lw_all := lw_g (lw_at lw_m5 235 rfl) rfl
theorem q1252 : (Jvm.Cond.fieldLink "GlassLogModel" (172 : Nat) "GlassLogModel" "side" "[I") ∈ lw_all := lw_g (lw_at lw_m5 236 rfl) rfl
theorem q1253 : (Jvm.Cond.fieldLink "GlassLogModel" (175 : Nat) "GlassLogModel" "keyWay" "[I") ∈ lw_all := lw_g (lw_at lw_m5 237 rfl) rfl
theorem q1254 : (Jvm.Cond.fieldLink "GlassLogModel" (303 : Nat) "GlassLogModel" "alone" "I") ∈ lw_all := lw_g (lw_at lw_m5 238 rfl) rfl
theorem q1255 : (Jvm.Cond.fieldLink "GlassLogModel" (312 : Nat) "GlassLogModel" "used" "I") ∈ lw_all := lw_g (lw_at lw_m5 239 rfl) rfl
theorem q1256 : (Jvm.Cond.fieldLink "GlassLogModel" (178 : Nat) "GlassLogModel" "found" "[I") ∈ lw_all := lw_g (lw_at lw_m6 0 rfl) rfl
theorem q1257 : (Jvm.Cond.fieldLink "GlassLogModel" (181 : Nat) "GlassLogModel" "top" "[I") ∈ lw_all := lw_g (lw_at lw_m6 1 rfl) rfl
theorem q1258 : (Jvm.Cond.laysFinal "GlassLogModel" "GlassLogModel" "logs" "[I") ∈ lw_all := lw_g (lw_at lw_m6 2 rfl) rfl
theorem q1259 : (Jvm.Cond.soleField "GlassLogModel" "logs") ∈ lw_all := lw_g (lw_at lw_m6 3 rfl) rfl
theorem q1260 : (Jvm.Cond.lays "GlassLogModel" "GlassLogModel" "logMany" "I") ∈ lw_all := lw_g (lw_at lw_m6 4 rfl) rfl
theorem q1261 : (Jvm.Cond.soleField "GlassLogModel" "logMany") ∈ lw_all := lw_g (lw_at lw_m6 5 rfl) rfl
theorem q1262 : (Jvm.Cond.laysFinal "GlassLogModel" "GlassLogModel" "keys" "[I") ∈ lw_all := lw_g (lw_at lw_m6 6 rfl) rfl
theorem q1263 : (Jvm.Cond.soleField "GlassLogModel" "keys") ∈ lw_all := lw_g (lw_at lw_m6 7 rfl) rfl
theorem q1264 : (Jvm.Cond.laysFinal "GlassLogModel" "GlassLogModel" "values" "[J") ∈ lw_all := lw_g (lw_at lw_m6 8 rfl) rfl
theorem q1265 : (Jvm.Cond.soleField "GlassLogModel" "values") ∈ lw_all := lw_g (lw_at lw_m6 9 rfl) rfl
theorem q1266 : (Jvm.Cond.laysFinal "GlassLogModel" "GlassLogModel" "gone" "[Z") ∈ lw_all := lw_g (lw_at lw_m6 10 rfl) rfl
theorem q1267 : (Jvm.Cond.soleField "GlassLogModel" "gone") ∈ lw_all := lw_g (lw_at lw_m6 11 rfl) rfl
theorem q1268 : (Jvm.Cond.laysFinal "GlassLogModel" "GlassLogModel" "kept" "[Z") ∈ lw_all := lw_g (lw_at lw_m6 12 rfl) rfl
theorem q1269 : (Jvm.Cond.soleField "GlassLogModel" "kept") ∈ lw_all := lw_g (lw_at lw_m6 13 rfl) rfl
theorem q1270 : (Jvm.Cond.laysFinal "GlassLogModel" "GlassLogModel" "wordKey" "[I") ∈ lw_all := lw_g (lw_at lw_m6 14 rfl) rfl
theorem q1271 : (Jvm.Cond.soleField "GlassLogModel" "wordKey") ∈ lw_all := lw_g (lw_at lw_m6 15 rfl) rfl
theorem q1272 : (Jvm.Cond.laysFinal "GlassLogModel" "GlassLogModel" "wordSince" "[I") ∈ lw_all := lw_g (lw_at lw_m6 16 rfl) rfl
theorem q1273 : (Jvm.Cond.soleField "GlassLogModel" "wordSince") ∈ lw_all := lw_g (lw_at lw_m6 17 rfl) rfl
theorem q1274 : (Jvm.Cond.laysFinal "GlassLogModel" "GlassLogModel" "wordHides" "[Z") ∈ lw_all := lw_g (lw_at lw_m6 18 rfl) rfl
theorem q1275 : (Jvm.Cond.soleField "GlassLogModel" "wordHides") ∈ lw_all := lw_g (lw_at lw_m6 19 rfl) rfl
theorem q1276 : (Jvm.Cond.laysFinal "GlassLogModel" "GlassLogModel" "slots" "[I") ∈ lw_all := lw_g (lw_at lw_m6 20 rfl) rfl
theorem q1277 : (Jvm.Cond.soleField "GlassLogModel" "slots") ∈ lw_all := lw_g (lw_at lw_m6 21 rfl) rfl
theorem q1278 : (Jvm.Cond.laysFinal "GlassLogModel" "GlassLogModel" "slotKeys" "[I") ∈ lw_all := lw_g (lw_at lw_m6 22 rfl) rfl
theorem q1279 : (Jvm.Cond.soleField "GlassLogModel" "slotKeys") ∈ lw_all := lw_g (lw_at lw_m6 23 rfl) rfl
theorem q1280 : (Jvm.Cond.laysFinal "GlassLogModel" "GlassLogModel" "slotValues" "[J") ∈ lw_all := lw_g (lw_at lw_m6 24 rfl) rfl
theorem q1281 : (Jvm.Cond.soleField "GlassLogModel" "slotValues") ∈ lw_all := lw_g (lw_at lw_m6 25 rfl) rfl
theorem q1282 : (Jvm.Cond.laysFinal "GlassLogModel" "GlassLogModel" "steps" "[I") ∈ lw_all := lw_g (lw_at lw_m6 26 rfl) rfl
theorem q1283 : (Jvm.Cond.soleField "GlassLogModel" "steps") ∈ lw_all := lw_g (lw_at lw_m6 27 rfl) rfl
theorem q1284 : (Jvm.Cond.laysFinal "GlassLogModel" "GlassLogModel" "readers" "[I") ∈ lw_all := lw_g (lw_at lw_m6 28 rfl) rfl
theorem q1285 : (Jvm.Cond.soleField "GlassLogModel" "readers") ∈ lw_all := lw_g (lw_at lw_m6 29 rfl) rfl
theorem q1286 : (Jvm.Cond.laysFinal "GlassLogModel" "GlassLogModel" "has" "[Z") ∈ lw_all := lw_g (lw_at lw_m6 30 rfl) rfl
theorem q1287 : (Jvm.Cond.soleField "GlassLogModel" "has") ∈ lw_all := lw_g (lw_at lw_m6 31 rfl) rfl
theorem q1288 : (Jvm.Cond.laysFinal "GlassLogModel" "GlassLogModel" "blames" "[I") ∈ lw_all := lw_g (lw_at lw_m6 32 rfl) rfl
theorem q1289 : (Jvm.Cond.soleField "GlassLogModel" "blames") ∈ lw_all := lw_g (lw_at lw_m6 33 rfl) rfl
theorem q1290 : (Jvm.Cond.lays "GlassLogModel" "GlassLogModel" "blameMany" "I") ∈ lw_all := lw_g (lw_at lw_m6 34 rfl) rfl
theorem q1291 : (Jvm.Cond.soleField "GlassLogModel" "blameMany") ∈ lw_all := lw_g (lw_at lw_m6 35 rfl) rfl
theorem q1292 : (Jvm.Cond.laysFinal "GlassLogModel" "GlassLogModel" "watchers" "[I") ∈ lw_all := lw_g (lw_at lw_m6 36 rfl) rfl
theorem q1293 : (Jvm.Cond.soleField "GlassLogModel" "watchers") ∈ lw_all := lw_g (lw_at lw_m6 37 rfl) rfl
theorem q1294 : (Jvm.Cond.laysFinal "GlassLogModel" "GlassLogModel" "watches" "[Z") ∈ lw_all := lw_g (lw_at lw_m6 38 rfl) rfl
theorem q1295 : (Jvm.Cond.soleField "GlassLogModel" "watches") ∈ lw_all := lw_g (lw_at lw_m6 39 rfl) rfl
theorem q1296 : (Jvm.Cond.laysFinal "GlassLogModel" "GlassLogModel" "watchKey" "[I") ∈ lw_all := lw_g (lw_at lw_m6 40 rfl) rfl
theorem q1297 : (Jvm.Cond.soleField "GlassLogModel" "watchKey") ∈ lw_all := lw_g (lw_at lw_m6 41 rfl) rfl
theorem q1298 : (Jvm.Cond.laysFinal "GlassLogModel" "GlassLogModel" "watchLast" "[I") ∈ lw_all := lw_g (lw_at lw_m6 42 rfl) rfl
theorem q1299 : (Jvm.Cond.soleField "GlassLogModel" "watchLast") ∈ lw_all := lw_g (lw_at lw_m6 43 rfl) rfl
theorem q1300 : (Jvm.Cond.lays "GlassLogModel" "GlassLogModel" "hasImage" "Z") ∈ lw_all := lw_g (lw_at lw_m6 44 rfl) rfl
theorem q1301 : (Jvm.Cond.soleField "GlassLogModel" "hasImage") ∈ lw_all := lw_g (lw_at lw_m6 45 rfl) rfl
theorem q1302 : (Jvm.Cond.laysFinal "GlassLogModel" "GlassLogModel" "kLogs" "[I") ∈ lw_all := lw_g (lw_at lw_m6 46 rfl) rfl
theorem q1303 : (Jvm.Cond.soleField "GlassLogModel" "kLogs") ∈ lw_all := lw_g (lw_at lw_m6 47 rfl) rfl
theorem q1304 : (Jvm.Cond.lays "GlassLogModel" "GlassLogModel" "kLogMany" "I") ∈ lw_all := lw_g (lw_at lw_m6 48 rfl) rfl
theorem q1305 : (Jvm.Cond.soleField "GlassLogModel" "kLogMany") ∈ lw_all := lw_g (lw_at lw_m6 49 rfl) rfl
theorem q1306 : (Jvm.Cond.laysFinal "GlassLogModel" "GlassLogModel" "kKeys" "[I") ∈ lw_all := lw_g (lw_at lw_m6 50 rfl) rfl
theorem q1307 : (Jvm.Cond.soleField "GlassLogModel" "kKeys") ∈ lw_all := lw_g (lw_at lw_m6 51 rfl) rfl
theorem q1308 : (Jvm.Cond.laysFinal "GlassLogModel" "GlassLogModel" "kValues" "[J") ∈ lw_all := lw_g (lw_at lw_m6 52 rfl) rfl
theorem q1309 : (Jvm.Cond.soleField "GlassLogModel" "kValues") ∈ lw_all := lw_g (lw_at lw_m6 53 rfl) rfl
theorem q1310 : (Jvm.Cond.laysFinal "GlassLogModel" "GlassLogModel" "kGone" "[Z") ∈ lw_all := lw_g (lw_at lw_m6 54 rfl) rfl
theorem q1311 : (Jvm.Cond.soleField "GlassLogModel" "kGone") ∈ lw_all := lw_g (lw_at lw_m6 55 rfl) rfl
theorem q1312 : (Jvm.Cond.laysFinal "GlassLogModel" "GlassLogModel" "kKept" "[Z") ∈ lw_all := lw_g (lw_at lw_m6 56 rfl) rfl
theorem q1313 : (Jvm.Cond.soleField "GlassLogModel" "kKept") ∈ lw_all := lw_g (lw_at lw_m6 57 rfl) rfl
theorem q1314 : (Jvm.Cond.laysFinal "GlassLogModel" "GlassLogModel" "kWordKey" "[I") ∈ lw_all := lw_g (lw_at lw_m6 58 rfl) rfl
theorem q1315 : (Jvm.Cond.soleField "GlassLogModel" "kWordKey") ∈ lw_all := lw_g (lw_at lw_m6 59 rfl) rfl
theorem q1316 : (Jvm.Cond.laysFinal "GlassLogModel" "GlassLogModel" "kWordSince" "[I") ∈ lw_all := lw_g (lw_at lw_m6 60 rfl) rfl
theorem q1317 : (Jvm.Cond.soleField "GlassLogModel" "kWordSince") ∈ lw_all := lw_g (lw_at lw_m6 61 rfl) rfl
theorem q1318 : (Jvm.Cond.laysFinal "GlassLogModel" "GlassLogModel" "kWordHides" "[Z") ∈ lw_all := lw_g (lw_at lw_m6 62 rfl) rfl
theorem q1319 : (Jvm.Cond.soleField "GlassLogModel" "kWordHides") ∈ lw_all := lw_g (lw_at lw_m6 63 rfl) rfl
theorem q1320 : (Jvm.Cond.laysFinal "GlassLogModel" "GlassLogModel" "kSlots" "[I") ∈ lw_all := lw_g (lw_at lw_m6 64 rfl) rfl
theorem q1321 : (Jvm.Cond.soleField "GlassLogModel" "kSlots") ∈ lw_all := lw_g (lw_at lw_m6 65 rfl) rfl
theorem q1322 : (Jvm.Cond.laysFinal "GlassLogModel" "GlassLogModel" "kSlotKeys" "[I") ∈ lw_all := lw_g (lw_at lw_m6 66 rfl) rfl
theorem q1323 : (Jvm.Cond.soleField "GlassLogModel" "kSlotKeys") ∈ lw_all := lw_g (lw_at lw_m6 67 rfl) rfl
theorem q1324 : (Jvm.Cond.laysFinal "GlassLogModel" "GlassLogModel" "kSlotValues" "[J") ∈ lw_all := lw_g (lw_at lw_m6 68 rfl) rfl
theorem q1325 : (Jvm.Cond.soleField "GlassLogModel" "kSlotValues") ∈ lw_all := lw_g (lw_at lw_m6 69 rfl) rfl
theorem q1326 : (Jvm.Cond.laysFinal "GlassLogModel" "GlassLogModel" "kSteps" "[I") ∈ lw_all := lw_g (lw_at lw_m6 70 rfl) rfl
theorem q1327 : (Jvm.Cond.soleField "GlassLogModel" "kSteps") ∈ lw_all := lw_g (lw_at lw_m6 71 rfl) rfl
theorem q1328 : (Jvm.Cond.laysFinal "GlassLogModel" "GlassLogModel" "kReaders" "[I") ∈ lw_all := lw_g (lw_at lw_m6 72 rfl) rfl
theorem q1329 : (Jvm.Cond.soleField "GlassLogModel" "kReaders") ∈ lw_all := lw_g (lw_at lw_m6 73 rfl) rfl
theorem q1330 : (Jvm.Cond.laysFinal "GlassLogModel" "GlassLogModel" "kHas" "[Z") ∈ lw_all := lw_g (lw_at lw_m6 74 rfl) rfl
theorem q1331 : (Jvm.Cond.soleField "GlassLogModel" "kHas") ∈ lw_all := lw_g (lw_at lw_m6 75 rfl) rfl
theorem q1332 : (Jvm.Cond.laysFinal "GlassLogModel" "GlassLogModel" "kBlames" "[I") ∈ lw_all := lw_g (lw_at lw_m6 76 rfl) rfl
theorem q1333 : (Jvm.Cond.soleField "GlassLogModel" "kBlames") ∈ lw_all := lw_g (lw_at lw_m6 77 rfl) rfl
theorem q1334 : (Jvm.Cond.lays "GlassLogModel" "GlassLogModel" "kBlameMany" "I") ∈ lw_all := lw_g (lw_at lw_m6 78 rfl) rfl
theorem q1335 : (Jvm.Cond.soleField "GlassLogModel" "kBlameMany") ∈ lw_all := lw_g (lw_at lw_m6 79 rfl) rfl
theorem q1336 : (Jvm.Cond.laysFinal "GlassLogModel" "GlassLogModel" "kWatchers" "[I") ∈ lw_all := lw_g (lw_at lw_m6 80 rfl) rfl
theorem q1337 : (Jvm.Cond.soleField "GlassLogModel" "kWatchers") ∈ lw_all := lw_g (lw_at lw_m6 81 rfl) rfl
theorem q1338 : (Jvm.Cond.laysFinal "GlassLogModel" "GlassLogModel" "kWatches" "[Z") ∈ lw_all := lw_g (lw_at lw_m6 82 rfl) rfl
theorem q1339 : (Jvm.Cond.soleField "GlassLogModel" "kWatches") ∈ lw_all := lw_g (lw_at lw_m6 83 rfl) rfl
theorem q1340 : (Jvm.Cond.laysFinal "GlassLogModel" "GlassLogModel" "kWatchKey" "[I") ∈ lw_all := lw_g (lw_at lw_m6 84 rfl) rfl
theorem q1341 : (Jvm.Cond.soleField "GlassLogModel" "kWatchKey") ∈ lw_all := lw_g (lw_at lw_m6 85 rfl) rfl
theorem q1342 : (Jvm.Cond.laysFinal "GlassLogModel" "GlassLogModel" "kWatchLast" "[I") ∈ lw_all := lw_g (lw_at lw_m6 86 rfl) rfl
theorem q1343 : (Jvm.Cond.soleField "GlassLogModel" "kWatchLast") ∈ lw_all := lw_g (lw_at lw_m6 87 rfl) rfl
theorem q1344 : (Jvm.Cond.laysFinal "GlassLogModel" "GlassLogModel" "words" "[I") ∈ lw_all := lw_g (lw_at lw_m6 88 rfl) rfl
theorem q1345 : (Jvm.Cond.soleField "GlassLogModel" "words") ∈ lw_all := lw_g (lw_at lw_m6 89 rfl) rfl
theorem q1346 : (Jvm.Cond.laysFinal "GlassLogModel" "GlassLogModel" "mixed" "[I") ∈ lw_all := lw_g (lw_at lw_m6 90 rfl) rfl
theorem q1347 : (Jvm.Cond.soleField "GlassLogModel" "mixed") ∈ lw_all := lw_g (lw_at lw_m6 91 rfl) rfl
theorem q1348 : (Jvm.Cond.laysFinal "GlassLogModel" "GlassLogModel" "deep" "[I") ∈ lw_all := lw_g (lw_at lw_m6 92 rfl) rfl
theorem q1349 : (Jvm.Cond.soleField "GlassLogModel" "deep") ∈ lw_all := lw_g (lw_at lw_m6 93 rfl) rfl
theorem q1350 : (Jvm.Cond.laysFinal "GlassLogModel" "GlassLogModel" "from" "[I") ∈ lw_all := lw_g (lw_at lw_m6 94 rfl) rfl
theorem q1351 : (Jvm.Cond.soleField "GlassLogModel" "from") ∈ lw_all := lw_g (lw_at lw_m6 95 rfl) rfl
theorem q1352 : (Jvm.Cond.laysFinal "GlassLogModel" "GlassLogModel" "size" "[I") ∈ lw_all := lw_g (lw_at lw_m6 96 rfl) rfl
theorem q1353 : (Jvm.Cond.soleField "GlassLogModel" "size") ∈ lw_all := lw_g (lw_at lw_m6 97 rfl) rfl
theorem q1354 : (Jvm.Cond.laysFinal "GlassLogModel" "GlassLogModel" "sums" "[I") ∈ lw_all := lw_g (lw_at lw_m6 98 rfl) rfl
theorem q1355 : (Jvm.Cond.soleField "GlassLogModel" "sums") ∈ lw_all := lw_g (lw_at lw_m6 99 rfl) rfl
theorem q1356 : (Jvm.Cond.lays "GlassLogModel" "GlassLogModel" "blocks" "I") ∈ lw_all := lw_g (lw_at lw_m6 100 rfl) rfl
theorem q1357 : (Jvm.Cond.soleField "GlassLogModel" "blocks") ∈ lw_all := lw_g (lw_at lw_m6 101 rfl) rfl
theorem q1358 : (Jvm.Cond.laysFinal "GlassLogModel" "GlassLogModel" "one" "[I") ∈ lw_all := lw_g (lw_at lw_m6 102 rfl) rfl
theorem q1359 : (Jvm.Cond.soleField "GlassLogModel" "one") ∈ lw_all := lw_g (lw_at lw_m6 103 rfl) rfl
theorem q1360 : (Jvm.Cond.laysFinal "GlassLogModel" "GlassLogModel" "block" "[I") ∈ lw_all := lw_g (lw_at lw_m6 104 rfl) rfl
theorem q1361 : (Jvm.Cond.soleField "GlassLogModel" "block") ∈ lw_all := lw_g (lw_at lw_m6 105 rfl) rfl
theorem q1362 : (Jvm.Cond.laysFinal "GlassLogModel" "GlassLogModel" "mapKey" "[I") ∈ lw_all := lw_g (lw_at lw_m6 106 rfl) rfl
theorem q1363 : (Jvm.Cond.soleField "GlassLogModel" "mapKey") ∈ lw_all := lw_g (lw_at lw_m6 107 rfl) rfl
theorem q1364 : (Jvm.Cond.laysFinal "GlassLogModel" "GlassLogModel" "mapLatest" "[I") ∈ lw_all := lw_g (lw_at lw_m6 108 rfl) rfl
theorem q1365 : (Jvm.Cond.soleField "GlassLogModel" "mapLatest") ∈ lw_all := lw_g (lw_at lw_m6 109 rfl) rfl
theorem q1366 : (Jvm.Cond.laysFinal "GlassLogModel" "GlassLogModel" "way" "[I") ∈ lw_all := lw_g (lw_at lw_m6 110 rfl) rfl
theorem q1367 : (Jvm.Cond.soleField "GlassLogModel" "way") ∈ lw_all := lw_g (lw_at lw_m6 111 rfl) rfl
theorem q1368 : (Jvm.Cond.laysFinal "GlassLogModel" "GlassLogModel" "order" "[I") ∈ lw_all := lw_g (lw_at lw_m6 112 rfl) rfl
theorem q1369 : (Jvm.Cond.soleField "GlassLogModel" "order") ∈ lw_all := lw_g (lw_at lw_m6 113 rfl) rfl
theorem q1370 : (Jvm.Cond.laysFinal "GlassLogModel" "GlassLogModel" "other" "[I") ∈ lw_all := lw_g (lw_at lw_m6 114 rfl) rfl
theorem q1371 : (Jvm.Cond.soleField "GlassLogModel" "other") ∈ lw_all := lw_g (lw_at lw_m6 115 rfl) rfl
theorem q1372 : (Jvm.Cond.lays "GlassLogModel" "GlassLogModel" "mapMany" "I") ∈ lw_all := lw_g (lw_at lw_m6 116 rfl) rfl
theorem q1373 : (Jvm.Cond.soleField "GlassLogModel" "mapMany") ∈ lw_all := lw_g (lw_at lw_m6 117 rfl) rfl
theorem q1374 : (Jvm.Cond.laysFinal "GlassLogModel" "GlassLogModel" "trees" "[I") ∈ lw_all := lw_g (lw_at lw_m6 118 rfl) rfl
theorem q1375 : (Jvm.Cond.soleField "GlassLogModel" "trees") ∈ lw_all := lw_g (lw_at lw_m6 119 rfl) rfl
theorem q1376 : (Jvm.Cond.laysFinal "GlassLogModel" "GlassLogModel" "asked" "[I") ∈ lw_all := lw_g (lw_at lw_m6 120 rfl) rfl
theorem q1377 : (Jvm.Cond.soleField "GlassLogModel" "asked") ∈ lw_all := lw_g (lw_at lw_m6 121 rfl) rfl
theorem q1378 : (Jvm.Cond.laysFinal "GlassLogModel" "GlassLogModel" "side" "[I") ∈ lw_all := lw_g (lw_at lw_m6 122 rfl) rfl
theorem q1379 : (Jvm.Cond.soleField "GlassLogModel" "side") ∈ lw_all := lw_g (lw_at lw_m6 123 rfl) rfl
theorem q1380 : (Jvm.Cond.laysFinal "GlassLogModel" "GlassLogModel" "keyWay" "[I") ∈ lw_all := lw_g (lw_at lw_m6 124 rfl) rfl
theorem q1381 : (Jvm.Cond.soleField "GlassLogModel" "keyWay") ∈ lw_all := lw_g (lw_at lw_m6 125 rfl) rfl
theorem q1382 : (Jvm.Cond.lays "GlassLogModel" "GlassLogModel" "alone" "I") ∈ lw_all := lw_g (lw_at lw_m6 126 rfl) rfl
theorem q1383 : (Jvm.Cond.soleField "GlassLogModel" "alone") ∈ lw_all := lw_g (lw_at lw_m6 127 rfl) rfl
theorem q1384 : (Jvm.Cond.lays "GlassLogModel" "GlassLogModel" "used" "I") ∈ lw_all := lw_g (lw_at lw_m6 128 rfl) rfl
theorem q1385 : (Jvm.Cond.soleField "GlassLogModel" "used") ∈ lw_all := lw_g (lw_at lw_m6 129 rfl) rfl
theorem q1386 : (Jvm.Cond.laysFinal "GlassLogModel" "GlassLogModel" "found" "[I") ∈ lw_all := lw_g (lw_at lw_m6 130 rfl) rfl
theorem q1387 : (Jvm.Cond.soleField "GlassLogModel" "found") ∈ lw_all := lw_g (lw_at lw_m6 131 rfl) rfl
theorem q1388 : (Jvm.Cond.laysFinal "GlassLogModel" "GlassLogModel" "top" "[I") ∈ lw_all := lw_g (lw_at lw_m6 132 rfl) rfl
theorem q1389 : (Jvm.Cond.soleField "GlassLogModel" "top") ∈ lw_all := lw_g (lw_at lw_m6 133 rfl) rfl
theorem q1390 : (Jvm.Cond.superclass "GlassLogModel" "java/lang/Object") ∈ lw_all := lw_g (lw_at lw_m6 134 rfl) rfl
theorem q1392 : (Jvm.Cond.instanceMethod ({ cls := "GlassLogModel", name := "open", desc := "(I)I" } : Jvm.MethodName)) ∈ lw_all := lw_g (lw_at lw_m6 136 rfl) rfl
theorem q1393 : (Jvm.Cond.selects "GlassLogModel" ({ cls := "GlassLogModel", name := "open", desc := "(I)I" } : Jvm.MethodName) ({ cls := "GlassLogModel", name := "open", desc := "(I)I" } : Jvm.MethodName)) ∈ lw_all := lw_g (lw_at lw_m6 137 rfl) rfl
theorem q1394 : (Jvm.Cond.code ({ cls := "GlassLogModel", name := "open", desc := "(I)I" } : Jvm.MethodName) prog_17_method_26_code (2 : Nat) (Option.some Jvm.ClassFile.FieldType.int)) ∈ lw_all := lw_g (lw_at lw_m6 138 rfl) rfl
theorem q1396 : (Jvm.Cond.instanceMethod ({ cls := "GlassLogModel", name := "add", desc := "(IIJ)I" } : Jvm.MethodName)) ∈ lw_all := lw_g (lw_at lw_m6 140 rfl) rfl
theorem q1397 : (Jvm.Cond.selects "GlassLogModel" ({ cls := "GlassLogModel", name := "add", desc := "(IIJ)I" } : Jvm.MethodName) ({ cls := "GlassLogModel", name := "add", desc := "(IIJ)I" } : Jvm.MethodName)) ∈ lw_all := lw_g (lw_at lw_m6 141 rfl) rfl
theorem q1398 : (Jvm.Cond.code ({ cls := "GlassLogModel", name := "add", desc := "(IIJ)I" } : Jvm.MethodName) prog_17_method_27_code (6 : Nat) (Option.some Jvm.ClassFile.FieldType.int)) ∈ lw_all := lw_g (lw_at lw_m6 142 rfl) rfl
theorem q1399 : (Jvm.Cond.methodLink "GlassLogModel" (270 : Nat) ({ cls := "GlassLogModel", name := "isLog", desc := "(I)Z" } : Jvm.MethodName)) ∈ lw_all := lw_g (lw_at lw_m6 143 rfl) rfl
theorem q1400 : (Jvm.Cond.privateMethod ({ cls := "GlassLogModel", name := "isLog", desc := "(I)Z" } : Jvm.MethodName)) ∈ lw_tbl := lw_at lw_m6 144 rfl
theorem q1401 : (Jvm.Cond.instanceMethod ({ cls := "GlassLogModel", name := "isLog", desc := "(I)Z" } : Jvm.MethodName)) ∈ lw_all := lw_g (lw_at lw_m6 145 rfl) rfl
theorem q1402 : (Jvm.Cond.code ({ cls := "GlassLogModel", name := "isLog", desc := "(I)Z" } : Jvm.MethodName) prog_17_method_23_code (2 : Nat) (Option.some Jvm.ClassFile.FieldType.boolean)) ∈ lw_all := lw_g (lw_at lw_m6 146 rfl) rfl
theorem q1403 : (Jvm.Cond.methodLink "GlassLogModel" (274 : Nat) ({ cls := "GlassLogModel", name := "many", desc := "(I)I" } : Jvm.MethodName)) ∈ lw_all := lw_g (lw_at lw_m6 147 rfl) rfl
theorem q1404 : (Jvm.Cond.privateMethod ({ cls := "GlassLogModel", name := "many", desc := "(I)I" } : Jvm.MethodName)) ∈ lw_tbl := lw_at lw_m6 148 rfl
theorem q1405 : (Jvm.Cond.instanceMethod ({ cls := "GlassLogModel", name := "many", desc := "(I)I" } : Jvm.MethodName)) ∈ lw_all := lw_g (lw_at lw_m6 149 rfl) rfl
theorem q1406 : (Jvm.Cond.code ({ cls := "GlassLogModel", name := "many", desc := "(I)I" } : Jvm.MethodName) prog_17_method_24_code (2 : Nat) (Option.some Jvm.ClassFile.FieldType.int)) ∈ lw_all := lw_g (lw_at lw_m6 150 rfl) rfl
theorem q1408 : (Jvm.Cond.instanceMethod ({ cls := "GlassLogModel", name := "fork", desc := "(II)I" } : Jvm.MethodName)) ∈ lw_all := lw_g (lw_at lw_m6 152 rfl) rfl
theorem q1409 : (Jvm.Cond.selects "GlassLogModel" ({ cls := "GlassLogModel", name := "fork", desc := "(II)I" } : Jvm.MethodName) ({ cls := "GlassLogModel", name := "fork", desc := "(II)I" } : Jvm.MethodName)) ∈ lw_all := lw_g (lw_at lw_m6 153 rfl) rfl
theorem q1410 : (Jvm.Cond.code ({ cls := "GlassLogModel", name := "fork", desc := "(II)I" } : Jvm.MethodName) prog_17_method_28_code (9 : Nat) (Option.some Jvm.ClassFile.FieldType.int)) ∈ lw_all := lw_g (lw_at lw_m6 154 rfl) rfl
theorem q1411 : (Jvm.Cond.methodLink "GlassLogModel" (277 : Nat) ({ cls := "GlassLogModel", name := "isCount", desc := "(II)Z" } : Jvm.MethodName)) ∈ lw_all := lw_g (lw_at lw_m6 155 rfl) rfl
theorem q1412 : (Jvm.Cond.privateMethod ({ cls := "GlassLogModel", name := "isCount", desc := "(II)Z" } : Jvm.MethodName)) ∈ lw_tbl := lw_at lw_m6 156 rfl
theorem q1413 : (Jvm.Cond.instanceMethod ({ cls := "GlassLogModel", name := "isCount", desc := "(II)Z" } : Jvm.MethodName)) ∈ lw_all := lw_g (lw_at lw_m6 157 rfl) rfl
theorem q1414 : (Jvm.Cond.code ({ cls := "GlassLogModel", name := "isCount", desc := "(II)Z" } : Jvm.MethodName) prog_17_method_25_code (3 : Nat) (Option.some Jvm.ClassFile.FieldType.boolean)) ∈ lw_all := lw_g (lw_at lw_m6 158 rfl) rfl
theorem q1416 : (Jvm.Cond.instanceMethod ({ cls := "GlassLogModel", name := "hide", desc := "(II)Z" } : Jvm.MethodName)) ∈ lw_all := lw_g (lw_at lw_m6 160 rfl) rfl
theorem q1417 : (Jvm.Cond.selects "GlassLogModel" ({ cls := "GlassLogModel", name := "hide", desc := "(II)Z" } : Jvm.MethodName) ({ cls := "GlassLogModel", name := "hide", desc := "(II)Z" } : Jvm.MethodName)) ∈ lw_all := lw_g (lw_at lw_m6 161 rfl) rfl
theorem q1418 : (Jvm.Cond.code ({ cls := "GlassLogModel", name := "hide", desc := "(II)Z" } : Jvm.MethodName) prog_17_method_30_code (3 : Nat) (Option.some Jvm.ClassFile.FieldType.boolean)) ∈ lw_all := lw_g (lw_at lw_m6 162 rfl) rfl
theorem q1419 : (Jvm.Cond.methodLink "GlassLogModel" (281 : Nat) ({ cls := "GlassLogModel", name := "say", desc := "(IIZ)Z" } : Jvm.MethodName)) ∈ lw_all := lw_g (lw_at lw_m6 163 rfl) rfl
theorem q1420 : (Jvm.Cond.privateMethod ({ cls := "GlassLogModel", name := "say", desc := "(IIZ)Z" } : Jvm.MethodName)) ∈ lw_tbl := lw_at lw_m6 164 rfl
theorem q1421 : (Jvm.Cond.instanceMethod ({ cls := "GlassLogModel", name := "say", desc := "(IIZ)Z" } : Jvm.MethodName)) ∈ lw_all := lw_g (lw_at lw_m6 165 rfl) rfl
theorem q1422 : (Jvm.Cond.code ({ cls := "GlassLogModel", name := "say", desc := "(IIZ)Z" } : Jvm.MethodName) prog_17_method_29_code (5 : Nat) (Option.some Jvm.ClassFile.FieldType.boolean)) ∈ lw_all := lw_g (lw_at lw_m6 166 rfl) rfl
theorem q1423 : (Jvm.Cond.methodLink "GlassLogModel" (220 : Nat) ({ cls := "GlassLogModel", name := "word", desc := "(II)I" } : Jvm.MethodName)) ∈ lw_all := lw_g (lw_at lw_m6 167 rfl) rfl
theorem q1424 : (Jvm.Cond.privateMethod ({ cls := "GlassLogModel", name := "word", desc := "(II)I" } : Jvm.MethodName)) ∈ lw_tbl := lw_at lw_m6 168 rfl
theorem q1425 : (Jvm.Cond.instanceMethod ({ cls := "GlassLogModel", name := "word", desc := "(II)I" } : Jvm.MethodName)) ∈ lw_all := lw_g (lw_at lw_m6 169 rfl) rfl
theorem q1426 : (Jvm.Cond.code ({ cls := "GlassLogModel", name := "word", desc := "(II)I" } : Jvm.MethodName) prog_17_method_12_code (5 : Nat) (Option.some Jvm.ClassFile.FieldType.int)) ∈ lw_all := lw_g (lw_at lw_m6 170 rfl) rfl
theorem q1428 : (Jvm.Cond.instanceMethod ({ cls := "GlassLogModel", name := "lag", desc := "(II)Z" } : Jvm.MethodName)) ∈ lw_all := lw_g (lw_at lw_m6 172 rfl) rfl
theorem q1429 : (Jvm.Cond.selects "GlassLogModel" ({ cls := "GlassLogModel", name := "lag", desc := "(II)Z" } : Jvm.MethodName) ({ cls := "GlassLogModel", name := "lag", desc := "(II)Z" } : Jvm.MethodName)) ∈ lw_all := lw_g (lw_at lw_m6 173 rfl) rfl
theorem q1430 : (Jvm.Cond.code ({ cls := "GlassLogModel", name := "lag", desc := "(II)Z" } : Jvm.MethodName) prog_17_method_31_code (3 : Nat) (Option.some Jvm.ClassFile.FieldType.boolean)) ∈ lw_all := lw_g (lw_at lw_m6 174 rfl) rfl
theorem q1432 : (Jvm.Cond.instanceMethod ({ cls := "GlassLogModel", name := "prune", desc := "(II)I" } : Jvm.MethodName)) ∈ lw_all := lw_g (lw_at lw_m6 176 rfl) rfl
theorem q1433 : (Jvm.Cond.selects "GlassLogModel" ({ cls := "GlassLogModel", name := "prune", desc := "(II)I" } : Jvm.MethodName) ({ cls := "GlassLogModel", name := "prune", desc := "(II)I" } : Jvm.MethodName)) ∈ lw_all := lw_g (lw_at lw_m6 177 rfl) rfl
theorem q1434 : (Jvm.Cond.code ({ cls := "GlassLogModel", name := "prune", desc := "(II)I" } : Jvm.MethodName) prog_17_method_32_code (6 : Nat) (Option.some Jvm.ClassFile.FieldType.int)) ∈ lw_all := lw_g (lw_at lw_m6 178 rfl) rfl
theorem q1436 : (Jvm.Cond.instanceMethod ({ cls := "GlassLogModel", name := "keep", desc := "(II)Z" } : Jvm.MethodName)) ∈ lw_all := lw_g (lw_at lw_m6 180 rfl) rfl
theorem q1437 : (Jvm.Cond.selects "GlassLogModel" ({ cls := "GlassLogModel", name := "keep", desc := "(II)Z" } : Jvm.MethodName) ({ cls := "GlassLogModel", name := "keep", desc := "(II)Z" } : Jvm.MethodName)) ∈ lw_all := lw_g (lw_at lw_m6 181 rfl) rfl
theorem q1438 : (Jvm.Cond.code ({ cls := "GlassLogModel", name := "keep", desc := "(II)Z" } : Jvm.MethodName) prog_17_method_33_code (3 : Nat) (Option.some Jvm.ClassFile.FieldType.boolean)) ∈ lw_all := lw_g (lw_at lw_m6 182 rfl) rfl
theorem q1440 : (Jvm.Cond.instanceMethod ({ cls := "GlassLogModel", name := "count", desc := "(II)I" } : Jvm.MethodName)) ∈ lw_all := lw_g (lw_at lw_m6 184 rfl) rfl
theorem q1441 : (Jvm.Cond.selects "GlassLogModel" ({ cls := "GlassLogModel", name := "count", desc := "(II)I" } : Jvm.MethodName) ({ cls := "GlassLogModel", name := "count", desc := "(II)I" } : Jvm.MethodName)) ∈ lw_all := lw_g (lw_at lw_m6 185 rfl) rfl
theorem q1442 : (Jvm.Cond.code ({ cls := "GlassLogModel", name := "count", desc := "(II)I" } : Jvm.MethodName) prog_17_method_34_code (5 : Nat) (Option.some Jvm.ClassFile.FieldType.int)) ∈ lw_all := lw_g (lw_at lw_m6 186 rfl) rfl
theorem q1443 : (Jvm.Cond.methodLink "GlassLogModel" (260 : Nat) ({ cls := "GlassLogModel", name := "map", desc := "(II)V" } : Jvm.MethodName)) ∈ lw_all := lw_g (lw_at lw_m6 187 rfl) rfl
theorem q1444 : (Jvm.Cond.privateMethod ({ cls := "GlassLogModel", name := "map", desc := "(II)V" } : Jvm.MethodName)) ∈ lw_tbl := lw_at lw_m6 188 rfl
theorem q1445 : (Jvm.Cond.instanceMethod ({ cls := "GlassLogModel", name := "map", desc := "(II)V" } : Jvm.MethodName)) ∈ lw_all := lw_g (lw_at lw_m6 189 rfl) rfl
theorem q1446 : (Jvm.Cond.code ({ cls := "GlassLogModel", name := "map", desc := "(II)V" } : Jvm.MethodName) prog_17_method_14_code (6 : Nat) (Option.none : Option Jvm.ClassFile.FieldType)) ∈ lw_all := lw_g (lw_at lw_m6 190 rfl) rfl
theorem q1447 : (Jvm.Cond.methodLink "GlassLogModel" (226 : Nat) ({ cls := "GlassLogModel", name := "counts", desc := "(III)Z" } : Jvm.MethodName)) ∈ lw_all := lw_g (lw_at lw_m6 191 rfl) rfl
theorem q1448 : (Jvm.Cond.privateMethod ({ cls := "GlassLogModel", name := "counts", desc := "(III)Z" } : Jvm.MethodName)) ∈ lw_tbl := lw_at lw_m6 192 rfl
theorem q1449 : (Jvm.Cond.instanceMethod ({ cls := "GlassLogModel", name := "counts", desc := "(III)Z" } : Jvm.MethodName)) ∈ lw_all := lw_g (lw_at lw_m6 193 rfl) rfl
theorem q1450 : (Jvm.Cond.code ({ cls := "GlassLogModel", name := "counts", desc := "(III)Z" } : Jvm.MethodName) prog_17_method_13_code (5 : Nat) (Option.some Jvm.ClassFile.FieldType.boolean)) ∈ lw_all := lw_g (lw_at lw_m6 194 rfl) rfl
theorem q1451 : (Jvm.Cond.methodLink "GlassLogModel" (230 : Nat) ({ cls := "GlassLogModel", name := "find", desc := "(I)I" } : Jvm.MethodName)) ∈ lw_all := lw_g (lw_at lw_m6 195 rfl) rfl
theorem q1452 : (Jvm.Cond.privateMethod ({ cls := "GlassLogModel", name := "find", desc := "(I)I" } : Jvm.MethodName)) ∈ lw_tbl := lw_at lw_m6 196 rfl
theorem q1453 : (Jvm.Cond.instanceMethod ({ cls := "GlassLogModel", name := "find", desc := "(I)I" } : Jvm.MethodName)) ∈ lw_all := lw_g (lw_at lw_m6 197 rfl) rfl
theorem q1454 : (Jvm.Cond.code ({ cls := "GlassLogModel", name := "find", desc := "(I)I" } : Jvm.MethodName) prog_17_method_15_code (3 : Nat) (Option.some Jvm.ClassFile.FieldType.int)) ∈ lw_all := lw_g (lw_at lw_m6 198 rfl) rfl
theorem q1455 : (Jvm.Cond.methodLink "GlassLogModel" (234 : Nat) ({ cls := "GlassLogModel", name := "wayOf", desc := "(I)V" } : Jvm.MethodName)) ∈ lw_all := lw_g (lw_at lw_m6 199 rfl) rfl
theorem q1456 : (Jvm.Cond.privateMethod ({ cls := "GlassLogModel", name := "wayOf", desc := "(I)V" } : Jvm.MethodName)) ∈ lw_tbl := lw_at lw_m6 200 rfl
theorem q1457 : (Jvm.Cond.instanceMethod ({ cls := "GlassLogModel", name := "wayOf", desc := "(I)V" } : Jvm.MethodName)) ∈ lw_all := lw_g (lw_at lw_m6 201 rfl) rfl
theorem q1458 : (Jvm.Cond.code ({ cls := "GlassLogModel", name := "wayOf", desc := "(I)V" } : Jvm.MethodName) prog_17_method_16_code (2 : Nat) (Option.none : Option Jvm.ClassFile.FieldType)) ∈ lw_all := lw_g (lw_at lw_m6 202 rfl) rfl
theorem q1459 : (Jvm.Cond.methodLink "GlassLogModel" (188 : Nat) ({ cls := "GlassLogModel", name := "mix", desc := "(I)V" } : Jvm.MethodName)) ∈ lw_all := lw_g (lw_at lw_m6 203 rfl) rfl
theorem q1460 : (Jvm.Cond.privateMethod ({ cls := "GlassLogModel", name := "mix", desc := "(I)V" } : Jvm.MethodName)) ∈ lw_tbl := lw_at lw_m6 204 rfl
theorem q1461 : (Jvm.Cond.instanceMethod ({ cls := "GlassLogModel", name := "mix", desc := "(I)V" } : Jvm.MethodName)) ∈ lw_all := lw_g (lw_at lw_m6 205 rfl) rfl
theorem q1462 : (Jvm.Cond.code ({ cls := "GlassLogModel", name := "mix", desc := "(I)V" } : Jvm.MethodName) prog_17_method_3_code (3 : Nat) (Option.none : Option Jvm.ClassFile.FieldType)) ∈ lw_all := lw_g (lw_at lw_m6 206 rfl) rfl
theorem q1463 : (Jvm.Cond.constant "GlassLogModel" (184 : Nat) (1640531527 : Int32)) ∈ lw_all := lw_g (lw_at lw_m6 207 rfl) rfl
theorem q1464 : (Jvm.Cond.methodLink "GlassLogModel" (185 : Nat) ({ cls := "GlassLogModel", name := "turn", desc := "()V" } : Jvm.MethodName)) ∈ lw_all := lw_g (lw_at lw_m6 208 rfl) rfl
theorem q1465 : (Jvm.Cond.privateMethod ({ cls := "GlassLogModel", name := "turn", desc := "()V" } : Jvm.MethodName)) ∈ lw_tbl := lw_at lw_m6 209 rfl
theorem q1466 : (Jvm.Cond.instanceMethod ({ cls := "GlassLogModel", name := "turn", desc := "()V" } : Jvm.MethodName)) ∈ lw_all := lw_g (lw_at lw_m6 210 rfl) rfl
theorem q1467 : (Jvm.Cond.code ({ cls := "GlassLogModel", name := "turn", desc := "()V" } : Jvm.MethodName) prog_17_method_2_code (4 : Nat) (Option.none : Option Jvm.ClassFile.FieldType)) ∈ lw_all := lw_g (lw_at lw_m6 211 rfl) rfl
theorem q1468 : (Jvm.Cond.methodLink "GlassLogModel" (192 : Nat) ({ cls := "GlassLogModel", name := "toRow", desc := "([II)V" } : Jvm.MethodName)) ∈ lw_all := lw_g (lw_at lw_m6 212 rfl) rfl
theorem q1469 : (Jvm.Cond.privateMethod ({ cls := "GlassLogModel", name := "toRow", desc := "([II)V" } : Jvm.MethodName)) ∈ lw_tbl := lw_at lw_m6 213 rfl
theorem q1470 : (Jvm.Cond.instanceMethod ({ cls := "GlassLogModel", name := "toRow", desc := "([II)V" } : Jvm.MethodName)) ∈ lw_all := lw_g (lw_at lw_m6 214 rfl) rfl
theorem q1471 : (Jvm.Cond.code ({ cls := "GlassLogModel", name := "toRow", desc := "([II)V" } : Jvm.MethodName) prog_17_method_4_code (4 : Nat) (Option.none : Option Jvm.ClassFile.FieldType)) ∈ lw_all := lw_g (lw_at lw_m6 215 rfl) rfl
theorem q1473 : (Jvm.Cond.instanceMethod ({ cls := "GlassLogModel", name := "latest", desc := "(III)I" } : Jvm.MethodName)) ∈ lw_all := lw_g (lw_at lw_m6 217 rfl) rfl
theorem q1474 : (Jvm.Cond.selects "GlassLogModel" ({ cls := "GlassLogModel", name := "latest", desc := "(III)I" } : Jvm.MethodName) ({ cls := "GlassLogModel", name := "latest", desc := "(III)I" } : Jvm.MethodName)) ∈ lw_all := lw_g (lw_at lw_m6 218 rfl) rfl
theorem q1475 : (Jvm.Cond.code ({ cls := "GlassLogModel", name := "latest", desc := "(III)I" } : Jvm.MethodName) prog_17_method_35_code (6 : Nat) (Option.some Jvm.ClassFile.FieldType.int)) ∈ lw_all := lw_g (lw_at lw_m6 219 rfl) rfl
theorem q1477 : (Jvm.Cond.instanceMethod ({ cls := "GlassLogModel", name := "head", desc := "(IIII)I" } : Jvm.MethodName)) ∈ lw_all := lw_g (lw_at lw_m6 221 rfl) rfl
theorem q1478 : (Jvm.Cond.selects "GlassLogModel" ({ cls := "GlassLogModel", name := "head", desc := "(IIII)I" } : Jvm.MethodName) ({ cls := "GlassLogModel", name := "head", desc := "(IIII)I" } : Jvm.MethodName)) ∈ lw_all := lw_g (lw_at lw_m6 222 rfl) rfl
theorem q1479 : (Jvm.Cond.code ({ cls := "GlassLogModel", name := "head", desc := "(IIII)I" } : Jvm.MethodName) prog_17_method_36_code (5 : Nat) (Option.some Jvm.ClassFile.FieldType.int)) ∈ lw_all := lw_g (lw_at lw_m6 223 rfl) rfl
theorem q1480 : (Jvm.Cond.methodLink "GlassLogModel" (285 : Nat) ({ cls := "GlassLogModel", name := "head", desc := "(II[II)V" } : Jvm.MethodName)) ∈ lw_all := lw_g (lw_at lw_m6 224 rfl) rfl
theorem q1481 : (Jvm.Cond.privateMethod ({ cls := "GlassLogModel", name := "head", desc := "(II[II)V" } : Jvm.MethodName)) ∈ lw_tbl := lw_at lw_m6 225 rfl
theorem q1482 : (Jvm.Cond.instanceMethod ({ cls := "GlassLogModel", name := "head", desc := "(II[II)V" } : Jvm.MethodName)) ∈ lw_all := lw_g (lw_at lw_m6 226 rfl) rfl
theorem q1483 : (Jvm.Cond.code ({ cls := "GlassLogModel", name := "head", desc := "(II[II)V" } : Jvm.MethodName) prog_17_method_22_code (5 : Nat) (Option.none : Option Jvm.ClassFile.FieldType)) ∈ lw_all := lw_g (lw_at lw_m6 227 rfl) rfl
theorem q1484 : (Jvm.Cond.methodLink "GlassLogModel" (254 : Nat) ({ cls := "GlassLogModel", name := "layLog", desc := "(III)V" } : Jvm.MethodName)) ∈ lw_all := lw_g (lw_at lw_m6 228 rfl) rfl
theorem q1485 : (Jvm.Cond.privateMethod ({ cls := "GlassLogModel", name := "layLog", desc := "(III)V" } : Jvm.MethodName)) ∈ lw_tbl := lw_at lw_m6 229 rfl
theorem q1486 : (Jvm.Cond.instanceMethod ({ cls := "GlassLogModel", name := "layLog", desc := "(III)V" } : Jvm.MethodName)) ∈ lw_all := lw_g (lw_at lw_m6 230 rfl) rfl
theorem q1487 : (Jvm.Cond.code ({ cls := "GlassLogModel", name := "layLog", desc := "(III)V" } : Jvm.MethodName) prog_17_method_11_code (6 : Nat) (Option.none : Option Jvm.ClassFile.FieldType)) ∈ lw_all := lw_g (lw_at lw_m6 231 rfl) rfl
theorem q1488 : (Jvm.Cond.methodLink "GlassLogModel" (212 : Nat) ({ cls := "GlassLogModel", name := "blockAt", desc := "(II)I" } : Jvm.MethodName)) ∈ lw_all := lw_g (lw_at lw_m6 232 rfl) rfl
theorem q1489 : (Jvm.Cond.static ({ cls := "GlassLogModel", name := "blockAt", desc := "(II)I" } : Jvm.MethodName)) ∈ lw_all := lw_g (lw_at lw_m6 233 rfl) rfl
theorem q1490 : (Jvm.Cond.code ({ cls := "GlassLogModel", name := "blockAt", desc := "(II)I" } : Jvm.MethodName) prog_17_method_8_code (3 : Nat) (Option.some Jvm.ClassFile.FieldType.int)) ∈ lw_all := lw_g (lw_at lw_m6 234 rfl) rfl
theorem q1491 : (Jvm.Cond.methodLink "GlassLogModel" (200 : Nat) ({ cls := "GlassLogModel", name := "blockSum", desc := "(IIII[II)V" } : Jvm.MethodName)) ∈ lw_all := lw_g (lw_at lw_m6 235 rfl) rfl
theorem q1492 : (Jvm.Cond.privateMethod ({ cls := "GlassLogModel", name := "blockSum", desc := "(IIII[II)V" } : Jvm.MethodName)) ∈ lw_tbl := lw_at lw_m6 236 rfl
theorem q1493 : (Jvm.Cond.instanceMethod ({ cls := "GlassLogModel", name := "blockSum", desc := "(IIII[II)V" } : Jvm.MethodName)) ∈ lw_all := lw_g (lw_at lw_m6 237 rfl) rfl
theorem q1494 : (Jvm.Cond.code ({ cls := "GlassLogModel", name := "blockSum", desc := "(IIII[II)V" } : Jvm.MethodName) prog_17_method_7_code (7 : Nat) (Option.none : Option Jvm.ClassFile.FieldType)) ∈ lw_all := lw_g (lw_at lw_m6 238 rfl) rfl
theorem q1495 : (Jvm.Cond.methodLink "GlassLogModel" (196 : Nat) ({ cls := "GlassLogModel", name := "entrySum", desc := "(IJ[II)V" } : Jvm.MethodName)) ∈ lw_all := lw_g (lw_at lw_m6 239 rfl) rfl
theorem q1496 : (Jvm.Cond.privateMethod ({ cls := "GlassLogModel", name := "entrySum", desc := "(IJ[II)V" } : Jvm.MethodName)) ∈ lw_tbl := lw_at lw_m7 0 rfl
theorem q1497 : (Jvm.Cond.instanceMethod ({ cls := "GlassLogModel", name := "entrySum", desc := "(IJ[II)V" } : Jvm.MethodName)) ∈ lw_all := lw_g (lw_at lw_m7 1 rfl) rfl
theorem q1498 : (Jvm.Cond.code ({ cls := "GlassLogModel", name := "entrySum", desc := "(IJ[II)V" } : Jvm.MethodName) prog_17_method_5_code (6 : Nat) (Option.none : Option Jvm.ClassFile.FieldType)) ∈ lw_all := lw_g (lw_at lw_m7 2 rfl) rfl
theorem q1499 : (Jvm.Cond.methodLink "GlassLogModel" (204 : Nat) ({ cls := "GlassLogModel", name := "join", desc := "([II[II[II)V" } : Jvm.MethodName)) ∈ lw_all := lw_g (lw_at lw_m7 3 rfl) rfl
theorem q1500 : (Jvm.Cond.privateMethod ({ cls := "GlassLogModel", name := "join", desc := "([II[II[II)V" } : Jvm.MethodName)) ∈ lw_tbl := lw_at lw_m7 4 rfl
theorem q1501 : (Jvm.Cond.instanceMethod ({ cls := "GlassLogModel", name := "join", desc := "([II[II[II)V" } : Jvm.MethodName)) ∈ lw_all := lw_g (lw_at lw_m7 5 rfl) rfl
theorem q1502 : (Jvm.Cond.code ({ cls := "GlassLogModel", name := "join", desc := "([II[II[II)V" } : Jvm.MethodName) prog_17_method_6_code (8 : Nat) (Option.none : Option Jvm.ClassFile.FieldType)) ∈ lw_all := lw_g (lw_at lw_m7 6 rfl) rfl
theorem q1503 : (Jvm.Cond.methodLink "GlassLogModel" (216 : Nat) ({ cls := "GlassLogModel", name := "lay", desc := "(II[II)V" } : Jvm.MethodName)) ∈ lw_all := lw_g (lw_at lw_m7 7 rfl) rfl
theorem q1504 : (Jvm.Cond.privateMethod ({ cls := "GlassLogModel", name := "lay", desc := "(II[II)V" } : Jvm.MethodName)) ∈ lw_tbl := lw_at lw_m7 8 rfl
theorem q1505 : (Jvm.Cond.instanceMethod ({ cls := "GlassLogModel", name := "lay", desc := "(II[II)V" } : Jvm.MethodName)) ∈ lw_all := lw_g (lw_at lw_m7 9 rfl) rfl
theorem q1506 : (Jvm.Cond.code ({ cls := "GlassLogModel", name := "lay", desc := "(II[II)V" } : Jvm.MethodName) prog_17_method_9_code (6 : Nat) (Option.none : Option Jvm.ClassFile.FieldType)) ∈ lw_all := lw_g (lw_at lw_m7 10 rfl) rfl
theorem q1507 : (Jvm.Cond.methodLink "GlassLogModel" (258 : Nat) ({ cls := "GlassLogModel", name := "top", desc := "([II)V" } : Jvm.MethodName)) ∈ lw_all := lw_g (lw_at lw_m7 11 rfl) rfl
theorem q1508 : (Jvm.Cond.privateMethod ({ cls := "GlassLogModel", name := "top", desc := "([II)V" } : Jvm.MethodName)) ∈ lw_tbl := lw_at lw_m7 12 rfl
theorem q1509 : (Jvm.Cond.instanceMethod ({ cls := "GlassLogModel", name := "top", desc := "([II)V" } : Jvm.MethodName)) ∈ lw_all := lw_g (lw_at lw_m7 13 rfl) rfl
theorem q1510 : (Jvm.Cond.code ({ cls := "GlassLogModel", name := "top", desc := "([II)V" } : Jvm.MethodName) prog_17_method_10_code (4 : Nat) (Option.none : Option Jvm.ClassFile.FieldType)) ∈ lw_all := lw_g (lw_at lw_m7 14 rfl) rfl
theorem q1511 : (Jvm.Cond.methodLink "GlassLogModel" (249 : Nat) ({ cls := "GlassLogModel", name := "tree", desc := "(III[II)V" } : Jvm.MethodName)) ∈ lw_all := lw_g (lw_at lw_m7 15 rfl) rfl
theorem q1512 : (Jvm.Cond.privateMethod ({ cls := "GlassLogModel", name := "tree", desc := "(III[II)V" } : Jvm.MethodName)) ∈ lw_tbl := lw_at lw_m7 16 rfl
theorem q1513 : (Jvm.Cond.instanceMethod ({ cls := "GlassLogModel", name := "tree", desc := "(III[II)V" } : Jvm.MethodName)) ∈ lw_all := lw_g (lw_at lw_m7 17 rfl) rfl
theorem q1514 : (Jvm.Cond.code ({ cls := "GlassLogModel", name := "tree", desc := "(III[II)V" } : Jvm.MethodName) prog_17_method_20_code (7 : Nat) (Option.none : Option Jvm.ClassFile.FieldType)) ∈ lw_all := lw_g (lw_at lw_m7 18 rfl) rfl
theorem q1515 : (Jvm.Cond.methodLink "GlassLogModel" (241 : Nat) ({ cls := "GlassLogModel", name := "leaf", desc := "(II)V" } : Jvm.MethodName)) ∈ lw_all := lw_g (lw_at lw_m7 19 rfl) rfl
theorem q1516 : (Jvm.Cond.privateMethod ({ cls := "GlassLogModel", name := "leaf", desc := "(II)V" } : Jvm.MethodName)) ∈ lw_tbl := lw_at lw_m7 20 rfl
theorem q1517 : (Jvm.Cond.instanceMethod ({ cls := "GlassLogModel", name := "leaf", desc := "(II)V" } : Jvm.MethodName)) ∈ lw_all := lw_g (lw_at lw_m7 21 rfl) rfl
theorem q1518 : (Jvm.Cond.code ({ cls := "GlassLogModel", name := "leaf", desc := "(II)V" } : Jvm.MethodName) prog_17_method_19_code (3 : Nat) (Option.none : Option Jvm.ClassFile.FieldType)) ∈ lw_all := lw_g (lw_at lw_m7 22 rfl) rfl
theorem q1519 : (Jvm.Cond.methodLink "GlassLogModel" (245 : Nat) ({ cls := "GlassLogModel", name := "part", desc := "(III)I" } : Jvm.MethodName)) ∈ lw_all := lw_g (lw_at lw_m7 23 rfl) rfl
theorem q1520 : (Jvm.Cond.privateMethod ({ cls := "GlassLogModel", name := "part", desc := "(III)I" } : Jvm.MethodName)) ∈ lw_tbl := lw_at lw_m7 24 rfl
theorem q1521 : (Jvm.Cond.instanceMethod ({ cls := "GlassLogModel", name := "part", desc := "(III)I" } : Jvm.MethodName)) ∈ lw_all := lw_g (lw_at lw_m7 25 rfl) rfl
theorem q1522 : (Jvm.Cond.code ({ cls := "GlassLogModel", name := "part", desc := "(III)I" } : Jvm.MethodName) prog_17_method_18_code (7 : Nat) (Option.some Jvm.ClassFile.FieldType.int)) ∈ lw_all := lw_g (lw_at lw_m7 26 rfl) rfl
theorem q1523 : (Jvm.Cond.methodLink "GlassLogModel" (237 : Nat) ({ cls := "GlassLogModel", name := "isOne", desc := "([III)Z" } : Jvm.MethodName)) ∈ lw_all := lw_g (lw_at lw_m7 27 rfl) rfl
theorem q1524 : (Jvm.Cond.static ({ cls := "GlassLogModel", name := "isOne", desc := "([III)Z" } : Jvm.MethodName)) ∈ lw_all := lw_g (lw_at lw_m7 28 rfl) rfl
theorem q1525 : (Jvm.Cond.code ({ cls := "GlassLogModel", name := "isOne", desc := "([III)Z" } : Jvm.MethodName) prog_17_method_17_code (3 : Nat) (Option.some Jvm.ClassFile.FieldType.boolean)) ∈ lw_all := lw_g (lw_at lw_m7 29 rfl) rfl
theorem q1526 : (Jvm.Cond.methodLink "GlassLogModel" (263 : Nat) ({ cls := "GlassLogModel", name := "mark", desc := "(II[III)V" } : Jvm.MethodName)) ∈ lw_all := lw_g (lw_at lw_m7 30 rfl) rfl
theorem q1527 : (Jvm.Cond.privateMethod ({ cls := "GlassLogModel", name := "mark", desc := "(II[III)V" } : Jvm.MethodName)) ∈ lw_tbl := lw_at lw_m7 31 rfl
theorem q1528 : (Jvm.Cond.instanceMethod ({ cls := "GlassLogModel", name := "mark", desc := "(II[III)V" } : Jvm.MethodName)) ∈ lw_all := lw_g (lw_at lw_m7 32 rfl) rfl
theorem q1529 : (Jvm.Cond.code ({ cls := "GlassLogModel", name := "mark", desc := "(II[III)V" } : Jvm.MethodName) prog_17_method_21_code (7 : Nat) (Option.none : Option Jvm.ClassFile.FieldType)) ∈ lw_all := lw_g (lw_at lw_m7 33 rfl) rfl
theorem q1530 : (Jvm.Cond.constant "GlassLogModel" (253 : Nat) (1000003 : Int32)) ∈ lw_all := lw_g (lw_at lw_m7 34 rfl) rfl
theorem q1532 : (Jvm.Cond.instanceMethod ({ cls := "GlassLogModel", name := "within", desc := "(IIII)I" } : Jvm.MethodName)) ∈ lw_all := lw_g (lw_at lw_m7 36 rfl) rfl
theorem q1533 : (Jvm.Cond.selects "GlassLogModel" ({ cls := "GlassLogModel", name := "within", desc := "(IIII)I" } : Jvm.MethodName) ({ cls := "GlassLogModel", name := "within", desc := "(IIII)I" } : Jvm.MethodName)) ∈ lw_all := lw_g (lw_at lw_m7 37 rfl) rfl
theorem q1534 : (Jvm.Cond.code ({ cls := "GlassLogModel", name := "within", desc := "(IIII)I" } : Jvm.MethodName) prog_17_method_41_code (5 : Nat) (Option.some Jvm.ClassFile.FieldType.int)) ∈ lw_all := lw_g (lw_at lw_m7 38 rfl) rfl
theorem q1535 : (Jvm.Cond.methodLink "GlassLogModel" (292 : Nat) ({ cls := "GlassLogModel", name := "isSlot", desc := "(I)Z" } : Jvm.MethodName)) ∈ lw_all := lw_g (lw_at lw_m7 39 rfl) rfl
theorem q1536 : (Jvm.Cond.privateMethod ({ cls := "GlassLogModel", name := "isSlot", desc := "(I)Z" } : Jvm.MethodName)) ∈ lw_tbl := lw_at lw_m7 40 rfl
theorem q1537 : (Jvm.Cond.instanceMethod ({ cls := "GlassLogModel", name := "isSlot", desc := "(I)Z" } : Jvm.MethodName)) ∈ lw_all := lw_g (lw_at lw_m7 41 rfl) rfl
theorem q1538 : (Jvm.Cond.code ({ cls := "GlassLogModel", name := "isSlot", desc := "(I)Z" } : Jvm.MethodName) prog_17_method_37_code (2 : Nat) (Option.some Jvm.ClassFile.FieldType.boolean)) ∈ lw_all := lw_g (lw_at lw_m7 42 rfl) rfl
theorem q1539 : (Jvm.Cond.methodLink "GlassLogModel" (295 : Nat) ({ cls := "GlassLogModel", name := "begin", desc := "(IIIII)V" } : Jvm.MethodName)) ∈ lw_all := lw_g (lw_at lw_m7 43 rfl) rfl
theorem q1540 : (Jvm.Cond.privateMethod ({ cls := "GlassLogModel", name := "begin", desc := "(IIIII)V" } : Jvm.MethodName)) ∈ lw_tbl := lw_at lw_m7 44 rfl
theorem q1541 : (Jvm.Cond.instanceMethod ({ cls := "GlassLogModel", name := "begin", desc := "(IIIII)V" } : Jvm.MethodName)) ∈ lw_all := lw_g (lw_at lw_m7 45 rfl) rfl
theorem q1542 : (Jvm.Cond.code ({ cls := "GlassLogModel", name := "begin", desc := "(IIIII)V" } : Jvm.MethodName) prog_17_method_38_code (7 : Nat) (Option.none : Option Jvm.ClassFile.FieldType)) ∈ lw_all := lw_g (lw_at lw_m7 46 rfl) rfl
theorem q1543 : (Jvm.Cond.methodLink "GlassLogModel" (299 : Nat) ({ cls := "GlassLogModel", name := "stepLog", desc := "(IIII)V" } : Jvm.MethodName)) ∈ lw_all := lw_g (lw_at lw_m7 47 rfl) rfl
theorem q1544 : (Jvm.Cond.privateMethod ({ cls := "GlassLogModel", name := "stepLog", desc := "(IIII)V" } : Jvm.MethodName)) ∈ lw_tbl := lw_at lw_m7 48 rfl
theorem q1545 : (Jvm.Cond.instanceMethod ({ cls := "GlassLogModel", name := "stepLog", desc := "(IIII)V" } : Jvm.MethodName)) ∈ lw_all := lw_g (lw_at lw_m7 49 rfl) rfl
theorem q1546 : (Jvm.Cond.code ({ cls := "GlassLogModel", name := "stepLog", desc := "(IIII)V" } : Jvm.MethodName) prog_17_method_40_code (7 : Nat) (Option.none : Option Jvm.ClassFile.FieldType)) ∈ lw_all := lw_g (lw_at lw_m7 50 rfl) rfl
theorem q1547 : (Jvm.Cond.methodLink "GlassLogModel" (288 : Nat) ({ cls := "GlassLogModel", name := "step", desc := "(I[II)V" } : Jvm.MethodName)) ∈ lw_all := lw_g (lw_at lw_m7 51 rfl) rfl
theorem q1548 : (Jvm.Cond.privateMethod ({ cls := "GlassLogModel", name := "step", desc := "(I[II)V" } : Jvm.MethodName)) ∈ lw_tbl := lw_at lw_m7 52 rfl
theorem q1549 : (Jvm.Cond.instanceMethod ({ cls := "GlassLogModel", name := "step", desc := "(I[II)V" } : Jvm.MethodName)) ∈ lw_all := lw_g (lw_at lw_m7 53 rfl) rfl
theorem q1550 : (Jvm.Cond.code ({ cls := "GlassLogModel", name := "step", desc := "(I[II)V" } : Jvm.MethodName) prog_17_method_39_code (6 : Nat) (Option.none : Option Jvm.ClassFile.FieldType)) ∈ lw_all := lw_g (lw_at lw_m7 54 rfl) rfl
theorem q1552 : (Jvm.Cond.instanceMethod ({ cls := "GlassLogModel", name := "grown", desc := "(IIII)I" } : Jvm.MethodName)) ∈ lw_all := lw_g (lw_at lw_m7 56 rfl) rfl
theorem q1553 : (Jvm.Cond.selects "GlassLogModel" ({ cls := "GlassLogModel", name := "grown", desc := "(IIII)I" } : Jvm.MethodName) ({ cls := "GlassLogModel", name := "grown", desc := "(IIII)I" } : Jvm.MethodName)) ∈ lw_all := lw_g (lw_at lw_m7 57 rfl) rfl
theorem q1554 : (Jvm.Cond.code ({ cls := "GlassLogModel", name := "grown", desc := "(IIII)I" } : Jvm.MethodName) prog_17_method_42_code (5 : Nat) (Option.some Jvm.ClassFile.FieldType.int)) ∈ lw_all := lw_g (lw_at lw_m7 58 rfl) rfl
theorem q1556 : (Jvm.Cond.instanceMethod ({ cls := "GlassLogModel", name := "held", desc := "(IIII)I" } : Jvm.MethodName)) ∈ lw_all := lw_g (lw_at lw_m7 60 rfl) rfl
theorem q1557 : (Jvm.Cond.selects "GlassLogModel" ({ cls := "GlassLogModel", name := "held", desc := "(IIII)I" } : Jvm.MethodName) ({ cls := "GlassLogModel", name := "held", desc := "(IIII)I" } : Jvm.MethodName)) ∈ lw_all := lw_g (lw_at lw_m7 61 rfl) rfl
theorem q1558 : (Jvm.Cond.code ({ cls := "GlassLogModel", name := "held", desc := "(IIII)I" } : Jvm.MethodName) prog_17_method_44_code (6 : Nat) (Option.some Jvm.ClassFile.FieldType.int)) ∈ lw_all := lw_g (lw_at lw_m7 62 rfl) rfl
theorem q1559 : (Jvm.Cond.methodLink "GlassLogModel" (306 : Nat) ({ cls := "GlassLogModel", name := "follow", desc := "(II)V" } : Jvm.MethodName)) ∈ lw_all := lw_g (lw_at lw_m7 63 rfl) rfl
theorem q1560 : (Jvm.Cond.privateMethod ({ cls := "GlassLogModel", name := "follow", desc := "(II)V" } : Jvm.MethodName)) ∈ lw_tbl := lw_at lw_m7 64 rfl
theorem q1561 : (Jvm.Cond.instanceMethod ({ cls := "GlassLogModel", name := "follow", desc := "(II)V" } : Jvm.MethodName)) ∈ lw_all := lw_g (lw_at lw_m7 65 rfl) rfl
theorem q1562 : (Jvm.Cond.code ({ cls := "GlassLogModel", name := "follow", desc := "(II)V" } : Jvm.MethodName) prog_17_method_43_code (7 : Nat) (Option.none : Option Jvm.ClassFile.FieldType)) ∈ lw_all := lw_g (lw_at lw_m7 66 rfl) rfl
theorem q1564 : (Jvm.Cond.instanceMethod ({ cls := "GlassLogModel", name := "absent", desc := "(IIII)I" } : Jvm.MethodName)) ∈ lw_all := lw_g (lw_at lw_m7 68 rfl) rfl
theorem q1565 : (Jvm.Cond.selects "GlassLogModel" ({ cls := "GlassLogModel", name := "absent", desc := "(IIII)I" } : Jvm.MethodName) ({ cls := "GlassLogModel", name := "absent", desc := "(IIII)I" } : Jvm.MethodName)) ∈ lw_all := lw_g (lw_at lw_m7 69 rfl) rfl
theorem q1566 : (Jvm.Cond.code ({ cls := "GlassLogModel", name := "absent", desc := "(IIII)I" } : Jvm.MethodName) prog_17_method_45_code (5 : Nat) (Option.some Jvm.ClassFile.FieldType.int)) ∈ lw_all := lw_g (lw_at lw_m7 70 rfl) rfl
theorem q1568 : (Jvm.Cond.instanceMethod ({ cls := "GlassLogModel", name := "span", desc := "(IIIII)I" } : Jvm.MethodName)) ∈ lw_all := lw_g (lw_at lw_m7 72 rfl) rfl
theorem q1569 : (Jvm.Cond.selects "GlassLogModel" ({ cls := "GlassLogModel", name := "span", desc := "(IIIII)I" } : Jvm.MethodName) ({ cls := "GlassLogModel", name := "span", desc := "(IIIII)I" } : Jvm.MethodName)) ∈ lw_all := lw_g (lw_at lw_m7 73 rfl) rfl
theorem q1570 : (Jvm.Cond.code ({ cls := "GlassLogModel", name := "span", desc := "(IIIII)I" } : Jvm.MethodName) prog_17_method_46_code (7 : Nat) (Option.some Jvm.ClassFile.FieldType.int)) ∈ lw_all := lw_g (lw_at lw_m7 74 rfl) rfl
theorem q1572 : (Jvm.Cond.instanceMethod ({ cls := "GlassLogModel", name := "drop", desc := "(I)I" } : Jvm.MethodName)) ∈ lw_all := lw_g (lw_at lw_m7 76 rfl) rfl
theorem q1573 : (Jvm.Cond.selects "GlassLogModel" ({ cls := "GlassLogModel", name := "drop", desc := "(I)I" } : Jvm.MethodName) ({ cls := "GlassLogModel", name := "drop", desc := "(I)I" } : Jvm.MethodName)) ∈ lw_all := lw_g (lw_at lw_m7 77 rfl) rfl
theorem q1574 : (Jvm.Cond.code ({ cls := "GlassLogModel", name := "drop", desc := "(I)I" } : Jvm.MethodName) prog_17_method_47_code (3 : Nat) (Option.some Jvm.ClassFile.FieldType.int)) ∈ lw_all := lw_g (lw_at lw_m7 78 rfl) rfl
theorem q1576 : (Jvm.Cond.instanceMethod ({ cls := "GlassLogModel", name := "proof", desc := "(II)I" } : Jvm.MethodName)) ∈ lw_all := lw_g (lw_at lw_m7 80 rfl) rfl
theorem q1577 : (Jvm.Cond.selects "GlassLogModel" ({ cls := "GlassLogModel", name := "proof", desc := "(II)I" } : Jvm.MethodName) ({ cls := "GlassLogModel", name := "proof", desc := "(II)I" } : Jvm.MethodName)) ∈ lw_all := lw_g (lw_at lw_m7 81 rfl) rfl
theorem q1578 : (Jvm.Cond.code ({ cls := "GlassLogModel", name := "proof", desc := "(II)I" } : Jvm.MethodName) prog_17_method_48_code (4 : Nat) (Option.some Jvm.ClassFile.FieldType.int)) ∈ lw_all := lw_g (lw_at lw_m7 82 rfl) rfl
theorem q1580 : (Jvm.Cond.instanceMethod ({ cls := "GlassLogModel", name := "step", desc := "(III)I" } : Jvm.MethodName)) ∈ lw_all := lw_g (lw_at lw_m7 84 rfl) rfl
theorem q1581 : (Jvm.Cond.selects "GlassLogModel" ({ cls := "GlassLogModel", name := "step", desc := "(III)I" } : Jvm.MethodName) ({ cls := "GlassLogModel", name := "step", desc := "(III)I" } : Jvm.MethodName)) ∈ lw_all := lw_g (lw_at lw_m7 85 rfl) rfl
theorem q1582 : (Jvm.Cond.code ({ cls := "GlassLogModel", name := "step", desc := "(III)I" } : Jvm.MethodName) prog_17_method_50_code (4 : Nat) (Option.some Jvm.ClassFile.FieldType.int)) ∈ lw_all := lw_g (lw_at lw_m7 86 rfl) rfl
theorem q1583 : (Jvm.Cond.methodLink "GlassLogModel" (309 : Nat) ({ cls := "GlassLogModel", name := "isStep", desc := "(III)Z" } : Jvm.MethodName)) ∈ lw_all := lw_g (lw_at lw_m7 87 rfl) rfl
theorem q1584 : (Jvm.Cond.privateMethod ({ cls := "GlassLogModel", name := "isStep", desc := "(III)Z" } : Jvm.MethodName)) ∈ lw_tbl := lw_at lw_m7 88 rfl
theorem q1585 : (Jvm.Cond.instanceMethod ({ cls := "GlassLogModel", name := "isStep", desc := "(III)Z" } : Jvm.MethodName)) ∈ lw_all := lw_g (lw_at lw_m7 89 rfl) rfl
theorem q1586 : (Jvm.Cond.code ({ cls := "GlassLogModel", name := "isStep", desc := "(III)Z" } : Jvm.MethodName) prog_17_method_49_code (4 : Nat) (Option.some Jvm.ClassFile.FieldType.boolean)) ∈ lw_all := lw_g (lw_at lw_m7 90 rfl) rfl
theorem q1588 : (Jvm.Cond.instanceMethod ({ cls := "GlassLogModel", name := "bend", desc := "(IIII)Z" } : Jvm.MethodName)) ∈ lw_all := lw_g (lw_at lw_m7 92 rfl) rfl
theorem q1589 : (Jvm.Cond.selects "GlassLogModel" ({ cls := "GlassLogModel", name := "bend", desc := "(IIII)Z" } : Jvm.MethodName) ({ cls := "GlassLogModel", name := "bend", desc := "(IIII)Z" } : Jvm.MethodName)) ∈ lw_all := lw_g (lw_at lw_m7 93 rfl) rfl
theorem q1590 : (Jvm.Cond.code ({ cls := "GlassLogModel", name := "bend", desc := "(IIII)Z" } : Jvm.MethodName) prog_17_method_51_code (5 : Nat) (Option.some Jvm.ClassFile.FieldType.boolean)) ∈ lw_all := lw_g (lw_at lw_m7 94 rfl) rfl
theorem q1592 : (Jvm.Cond.instanceMethod ({ cls := "GlassLogModel", name := "forge", desc := "(IIIJ)Z" } : Jvm.MethodName)) ∈ lw_all := lw_g (lw_at lw_m7 96 rfl) rfl
theorem q1593 : (Jvm.Cond.selects "GlassLogModel" ({ cls := "GlassLogModel", name := "forge", desc := "(IIIJ)Z" } : Jvm.MethodName) ({ cls := "GlassLogModel", name := "forge", desc := "(IIIJ)Z" } : Jvm.MethodName)) ∈ lw_all := lw_g (lw_at lw_m7 97 rfl) rfl
theorem q1594 : (Jvm.Cond.code ({ cls := "GlassLogModel", name := "forge", desc := "(IIIJ)Z" } : Jvm.MethodName) prog_17_method_52_code (8 : Nat) (Option.some Jvm.ClassFile.FieldType.boolean)) ∈ lw_all := lw_g (lw_at lw_m7 98 rfl) rfl
theorem q1596 : (Jvm.Cond.instanceMethod ({ cls := "GlassLogModel", name := "check", desc := "(III)I" } : Jvm.MethodName)) ∈ lw_all := lw_g (lw_at lw_m7 100 rfl) rfl
theorem q1597 : (Jvm.Cond.selects "GlassLogModel" ({ cls := "GlassLogModel", name := "check", desc := "(III)I" } : Jvm.MethodName) ({ cls := "GlassLogModel", name := "check", desc := "(III)I" } : Jvm.MethodName)) ∈ lw_all := lw_g (lw_at lw_m7 101 rfl) rfl
theorem q1598 : (Jvm.Cond.code ({ cls := "GlassLogModel", name := "check", desc := "(III)I" } : Jvm.MethodName) prog_17_method_59_code (6 : Nat) (Option.some Jvm.ClassFile.FieldType.int)) ∈ lw_all := lw_g (lw_at lw_m7 102 rfl) rfl
theorem q1599 : (Jvm.Cond.methodLink "GlassLogModel" (322 : Nat) ({ cls := "GlassLogModel", name := "isReader", desc := "(I)Z" } : Jvm.MethodName)) ∈ lw_all := lw_g (lw_at lw_m7 103 rfl) rfl
theorem q1600 : (Jvm.Cond.privateMethod ({ cls := "GlassLogModel", name := "isReader", desc := "(I)Z" } : Jvm.MethodName)) ∈ lw_tbl := lw_at lw_m7 104 rfl
theorem q1601 : (Jvm.Cond.instanceMethod ({ cls := "GlassLogModel", name := "isReader", desc := "(I)Z" } : Jvm.MethodName)) ∈ lw_all := lw_g (lw_at lw_m7 105 rfl) rfl
theorem q1602 : (Jvm.Cond.code ({ cls := "GlassLogModel", name := "isReader", desc := "(I)Z" } : Jvm.MethodName) prog_17_method_58_code (2 : Nat) (Option.some Jvm.ClassFile.FieldType.boolean)) ∈ lw_all := lw_g (lw_at lw_m7 106 rfl) rfl
theorem q1603 : (Jvm.Cond.methodLink "GlassLogModel" (325 : Nat) ({ cls := "GlassLogModel", name := "isGrownRight", desc := "(I[II[II)Z" } : Jvm.MethodName)) ∈ lw_all := lw_g (lw_at lw_m7 107 rfl) rfl
theorem q1604 : (Jvm.Cond.privateMethod ({ cls := "GlassLogModel", name := "isGrownRight", desc := "(I[II[II)Z" } : Jvm.MethodName)) ∈ lw_tbl := lw_at lw_m7 108 rfl
theorem q1605 : (Jvm.Cond.instanceMethod ({ cls := "GlassLogModel", name := "isGrownRight", desc := "(I[II[II)Z" } : Jvm.MethodName)) ∈ lw_all := lw_g (lw_at lw_m7 109 rfl) rfl
theorem q1606 : (Jvm.Cond.code ({ cls := "GlassLogModel", name := "isGrownRight", desc := "(I[II[II)Z" } : Jvm.MethodName) prog_17_method_56_code (7 : Nat) (Option.some Jvm.ClassFile.FieldType.boolean)) ∈ lw_all := lw_g (lw_at lw_m7 110 rfl) rfl
theorem q1607 : (Jvm.Cond.methodLink "GlassLogModel" (315 : Nat) ({ cls := "GlassLogModel", name := "laySteps", desc := "(III)V" } : Jvm.MethodName)) ∈ lw_all := lw_g (lw_at lw_m7 111 rfl) rfl
theorem q1608 : (Jvm.Cond.privateMethod ({ cls := "GlassLogModel", name := "laySteps", desc := "(III)V" } : Jvm.MethodName)) ∈ lw_tbl := lw_at lw_m7 112 rfl
theorem q1609 : (Jvm.Cond.instanceMethod ({ cls := "GlassLogModel", name := "laySteps", desc := "(III)V" } : Jvm.MethodName)) ∈ lw_all := lw_g (lw_at lw_m7 113 rfl) rfl
theorem q1610 : (Jvm.Cond.code ({ cls := "GlassLogModel", name := "laySteps", desc := "(III)V" } : Jvm.MethodName) prog_17_method_53_code (6 : Nat) (Option.none : Option Jvm.ClassFile.FieldType)) ∈ lw_all := lw_g (lw_at lw_m7 114 rfl) rfl
theorem q1611 : (Jvm.Cond.methodLink "GlassLogModel" (318 : Nat) ({ cls := "GlassLogModel", name := "areLike", desc := "([II[II)Z" } : Jvm.MethodName)) ∈ lw_all := lw_g (lw_at lw_m7 115 rfl) rfl
theorem q1612 : (Jvm.Cond.static ({ cls := "GlassLogModel", name := "areLike", desc := "([II[II)Z" } : Jvm.MethodName)) ∈ lw_all := lw_g (lw_at lw_m7 116 rfl) rfl
theorem q1613 : (Jvm.Cond.code ({ cls := "GlassLogModel", name := "areLike", desc := "([II[II)Z" } : Jvm.MethodName) prog_17_method_54_code (6 : Nat) (Option.some Jvm.ClassFile.FieldType.boolean)) ∈ lw_all := lw_g (lw_at lw_m7 117 rfl) rfl
theorem q1614 : (Jvm.Cond.methodLink "GlassLogModel" (329 : Nat) ({ cls := "GlassLogModel", name := "isSpanRight", desc := "(I[II)Z" } : Jvm.MethodName)) ∈ lw_all := lw_g (lw_at lw_m7 118 rfl) rfl
theorem q1615 : (Jvm.Cond.privateMethod ({ cls := "GlassLogModel", name := "isSpanRight", desc := "(I[II)Z" } : Jvm.MethodName)) ∈ lw_tbl := lw_at lw_m7 119 rfl
theorem q1616 : (Jvm.Cond.instanceMethod ({ cls := "GlassLogModel", name := "isSpanRight", desc := "(I[II)Z" } : Jvm.MethodName)) ∈ lw_all := lw_g (lw_at lw_m7 120 rfl) rfl
theorem q1617 : (Jvm.Cond.code ({ cls := "GlassLogModel", name := "isSpanRight", desc := "(I[II)Z" } : Jvm.MethodName) prog_17_method_55_code (7 : Nat) (Option.some Jvm.ClassFile.FieldType.boolean)) ∈ lw_all := lw_g (lw_at lw_m7 121 rfl) rfl
theorem q1618 : (Jvm.Cond.methodLink "GlassLogModel" (333 : Nat) ({ cls := "GlassLogModel", name := "isWayRight", desc := "(I[II)Z" } : Jvm.MethodName)) ∈ lw_all := lw_g (lw_at lw_m7 122 rfl) rfl
theorem q1619 : (Jvm.Cond.privateMethod ({ cls := "GlassLogModel", name := "isWayRight", desc := "(I[II)Z" } : Jvm.MethodName)) ∈ lw_tbl := lw_at lw_m7 123 rfl
theorem q1620 : (Jvm.Cond.instanceMethod ({ cls := "GlassLogModel", name := "isWayRight", desc := "(I[II)Z" } : Jvm.MethodName)) ∈ lw_all := lw_g (lw_at lw_m7 124 rfl) rfl
theorem q1621 : (Jvm.Cond.code ({ cls := "GlassLogModel", name := "isWayRight", desc := "(I[II)Z" } : Jvm.MethodName) prog_17_method_57_code (8 : Nat) (Option.some Jvm.ClassFile.FieldType.boolean)) ∈ lw_all := lw_g (lw_at lw_m7 125 rfl) rfl
theorem q1623 : (Jvm.Cond.instanceMethod ({ cls := "GlassLogModel", name := "take", desc := "(III)I" } : Jvm.MethodName)) ∈ lw_all := lw_g (lw_at lw_m7 127 rfl) rfl
theorem q1624 : (Jvm.Cond.selects "GlassLogModel" ({ cls := "GlassLogModel", name := "take", desc := "(III)I" } : Jvm.MethodName) ({ cls := "GlassLogModel", name := "take", desc := "(III)I" } : Jvm.MethodName)) ∈ lw_all := lw_g (lw_at lw_m7 128 rfl) rfl
theorem q1625 : (Jvm.Cond.code ({ cls := "GlassLogModel", name := "take", desc := "(III)I" } : Jvm.MethodName) prog_17_method_63_code (5 : Nat) (Option.some Jvm.ClassFile.FieldType.int)) ∈ lw_all := lw_g (lw_at lw_m7 129 rfl) rfl
theorem q1626 : (Jvm.Cond.methodLink "GlassLogModel" (343 : Nat) ({ cls := "GlassLogModel", name := "agree", desc := "([II[II)Z" } : Jvm.MethodName)) ∈ lw_all := lw_g (lw_at lw_m7 130 rfl) rfl
theorem q1627 : (Jvm.Cond.privateMethod ({ cls := "GlassLogModel", name := "agree", desc := "([II[II)Z" } : Jvm.MethodName)) ∈ lw_tbl := lw_at lw_m7 131 rfl
theorem q1628 : (Jvm.Cond.instanceMethod ({ cls := "GlassLogModel", name := "agree", desc := "([II[II)Z" } : Jvm.MethodName)) ∈ lw_all := lw_g (lw_at lw_m7 132 rfl) rfl
theorem q1629 : (Jvm.Cond.code ({ cls := "GlassLogModel", name := "agree", desc := "([II[II)Z" } : Jvm.MethodName) prog_17_method_60_code (10 : Nat) (Option.some Jvm.ClassFile.FieldType.boolean)) ∈ lw_all := lw_g (lw_at lw_m7 133 rfl) rfl
theorem q1630 : (Jvm.Cond.methodLink "GlassLogModel" (346 : Nat) ({ cls := "GlassLogModel", name := "blame", desc := "([II[II)V" } : Jvm.MethodName)) ∈ lw_all := lw_g (lw_at lw_m7 134 rfl) rfl
theorem q1631 : (Jvm.Cond.privateMethod ({ cls := "GlassLogModel", name := "blame", desc := "([II[II)V" } : Jvm.MethodName)) ∈ lw_tbl := lw_at lw_m7 135 rfl
theorem q1632 : (Jvm.Cond.instanceMethod ({ cls := "GlassLogModel", name := "blame", desc := "([II[II)V" } : Jvm.MethodName)) ∈ lw_all := lw_g (lw_at lw_m7 136 rfl) rfl
theorem q1633 : (Jvm.Cond.code ({ cls := "GlassLogModel", name := "blame", desc := "([II[II)V" } : Jvm.MethodName) prog_17_method_62_code (5 : Nat) (Option.none : Option Jvm.ClassFile.FieldType)) ∈ lw_all := lw_g (lw_at lw_m7 137 rfl) rfl
theorem q1634 : (Jvm.Cond.methodLink "GlassLogModel" (339 : Nat) ({ cls := "GlassLogModel", name := "copy", desc := "([II[IIZ)V" } : Jvm.MethodName)) ∈ lw_all := lw_g (lw_at lw_m7 138 rfl) rfl
theorem q1635 : (Jvm.Cond.static ({ cls := "GlassLogModel", name := "copy", desc := "([II[IIZ)V" } : Jvm.MethodName)) ∈ lw_all := lw_g (lw_at lw_m7 139 rfl) rfl
theorem q1636 : (Jvm.Cond.code ({ cls := "GlassLogModel", name := "copy", desc := "([II[IIZ)V" } : Jvm.MethodName) prog_17_method_61_code (6 : Nat) (Option.none : Option Jvm.ClassFile.FieldType)) ∈ lw_all := lw_g (lw_at lw_m7 140 rfl) rfl
theorem q1638 : (Jvm.Cond.instanceMethod ({ cls := "GlassLogModel", name := "talk", desc := "(II)I" } : Jvm.MethodName)) ∈ lw_all := lw_g (lw_at lw_m7 142 rfl) rfl
theorem q1639 : (Jvm.Cond.selects "GlassLogModel" ({ cls := "GlassLogModel", name := "talk", desc := "(II)I" } : Jvm.MethodName) ({ cls := "GlassLogModel", name := "talk", desc := "(II)I" } : Jvm.MethodName)) ∈ lw_all := lw_g (lw_at lw_m7 143 rfl) rfl
theorem q1640 : (Jvm.Cond.code ({ cls := "GlassLogModel", name := "talk", desc := "(II)I" } : Jvm.MethodName) prog_17_method_64_code (5 : Nat) (Option.some Jvm.ClassFile.FieldType.int)) ∈ lw_all := lw_g (lw_at lw_m7 144 rfl) rfl
theorem q1642 : (Jvm.Cond.instanceMethod ({ cls := "GlassLogModel", name := "reader", desc := "(II)I" } : Jvm.MethodName)) ∈ lw_all := lw_g (lw_at lw_m7 146 rfl) rfl
theorem q1643 : (Jvm.Cond.selects "GlassLogModel" ({ cls := "GlassLogModel", name := "reader", desc := "(II)I" } : Jvm.MethodName) ({ cls := "GlassLogModel", name := "reader", desc := "(II)I" } : Jvm.MethodName)) ∈ lw_all := lw_g (lw_at lw_m7 147 rfl) rfl
theorem q1644 : (Jvm.Cond.code ({ cls := "GlassLogModel", name := "reader", desc := "(II)I" } : Jvm.MethodName) prog_17_method_65_code (3 : Nat) (Option.some Jvm.ClassFile.FieldType.int)) ∈ lw_all := lw_g (lw_at lw_m7 148 rfl) rfl
theorem q1646 : (Jvm.Cond.instanceMethod ({ cls := "GlassLogModel", name := "blame", desc := "(II)I" } : Jvm.MethodName)) ∈ lw_all := lw_g (lw_at lw_m7 150 rfl) rfl
theorem q1647 : (Jvm.Cond.selects "GlassLogModel" ({ cls := "GlassLogModel", name := "blame", desc := "(II)I" } : Jvm.MethodName) ({ cls := "GlassLogModel", name := "blame", desc := "(II)I" } : Jvm.MethodName)) ∈ lw_all := lw_g (lw_at lw_m7 151 rfl) rfl
theorem q1648 : (Jvm.Cond.code ({ cls := "GlassLogModel", name := "blame", desc := "(II)I" } : Jvm.MethodName) prog_17_method_66_code (5 : Nat) (Option.some Jvm.ClassFile.FieldType.int)) ∈ lw_all := lw_g (lw_at lw_m7 152 rfl) rfl
theorem q1649 : (Jvm.Cond.methodLink "GlassLogModel" (350 : Nat) ({ cls := "GlassLogModel", name := "isMarked", desc := "(I)Z" } : Jvm.MethodName)) ∈ lw_all := lw_g (lw_at lw_m7 153 rfl) rfl
theorem q1650 : (Jvm.Cond.privateMethod ({ cls := "GlassLogModel", name := "isMarked", desc := "(I)Z" } : Jvm.MethodName)) ∈ lw_tbl := lw_at lw_m7 154 rfl
theorem q1651 : (Jvm.Cond.instanceMethod ({ cls := "GlassLogModel", name := "isMarked", desc := "(I)Z" } : Jvm.MethodName)) ∈ lw_all := lw_g (lw_at lw_m7 155 rfl) rfl
theorem q1652 : (Jvm.Cond.code ({ cls := "GlassLogModel", name := "isMarked", desc := "(I)Z" } : Jvm.MethodName) prog_17_method_67_code (2 : Nat) (Option.some Jvm.ClassFile.FieldType.boolean)) ∈ lw_all := lw_g (lw_at lw_m7 156 rfl) rfl
theorem q1654 : (Jvm.Cond.instanceMethod ({ cls := "GlassLogModel", name := "smear", desc := "(III)Z" } : Jvm.MethodName)) ∈ lw_all := lw_g (lw_at lw_m7 158 rfl) rfl
theorem q1655 : (Jvm.Cond.selects "GlassLogModel" ({ cls := "GlassLogModel", name := "smear", desc := "(III)Z" } : Jvm.MethodName) ({ cls := "GlassLogModel", name := "smear", desc := "(III)Z" } : Jvm.MethodName)) ∈ lw_all := lw_g (lw_at lw_m7 159 rfl) rfl
theorem q1656 : (Jvm.Cond.code ({ cls := "GlassLogModel", name := "smear", desc := "(III)Z" } : Jvm.MethodName) prog_17_method_68_code (4 : Nat) (Option.some Jvm.ClassFile.FieldType.boolean)) ∈ lw_all := lw_g (lw_at lw_m7 160 rfl) rfl
theorem q1658 : (Jvm.Cond.instanceMethod ({ cls := "GlassLogModel", name := "watcher", desc := "(IIII)Z" } : Jvm.MethodName)) ∈ lw_all := lw_g (lw_at lw_m7 162 rfl) rfl
theorem q1659 : (Jvm.Cond.selects "GlassLogModel" ({ cls := "GlassLogModel", name := "watcher", desc := "(IIII)Z" } : Jvm.MethodName) ({ cls := "GlassLogModel", name := "watcher", desc := "(IIII)Z" } : Jvm.MethodName)) ∈ lw_all := lw_g (lw_at lw_m7 163 rfl) rfl
theorem q1660 : (Jvm.Cond.code ({ cls := "GlassLogModel", name := "watcher", desc := "(IIII)Z" } : Jvm.MethodName) prog_17_method_70_code (5 : Nat) (Option.some Jvm.ClassFile.FieldType.boolean)) ∈ lw_all := lw_g (lw_at lw_m7 164 rfl) rfl
theorem q1661 : (Jvm.Cond.methodLink "GlassLogModel" (353 : Nat) ({ cls := "GlassLogModel", name := "isWatcher", desc := "(I)Z" } : Jvm.MethodName)) ∈ lw_all := lw_g (lw_at lw_m7 165 rfl) rfl
theorem q1662 : (Jvm.Cond.privateMethod ({ cls := "GlassLogModel", name := "isWatcher", desc := "(I)Z" } : Jvm.MethodName)) ∈ lw_tbl := lw_at lw_m7 166 rfl
theorem q1663 : (Jvm.Cond.instanceMethod ({ cls := "GlassLogModel", name := "isWatcher", desc := "(I)Z" } : Jvm.MethodName)) ∈ lw_all := lw_g (lw_at lw_m7 167 rfl) rfl
theorem q1664 : (Jvm.Cond.code ({ cls := "GlassLogModel", name := "isWatcher", desc := "(I)Z" } : Jvm.MethodName) prog_17_method_69_code (2 : Nat) (Option.some Jvm.ClassFile.FieldType.boolean)) ∈ lw_all := lw_g (lw_at lw_m7 168 rfl) rfl
theorem q1666 : (Jvm.Cond.instanceMethod ({ cls := "GlassLogModel", name := "watch", desc := "(I)I" } : Jvm.MethodName)) ∈ lw_all := lw_g (lw_at lw_m7 170 rfl) rfl
theorem q1667 : (Jvm.Cond.selects "GlassLogModel" ({ cls := "GlassLogModel", name := "watch", desc := "(I)I" } : Jvm.MethodName) ({ cls := "GlassLogModel", name := "watch", desc := "(I)I" } : Jvm.MethodName)) ∈ lw_all := lw_g (lw_at lw_m7 171 rfl) rfl
theorem q1668 : (Jvm.Cond.code ({ cls := "GlassLogModel", name := "watch", desc := "(I)I" } : Jvm.MethodName) prog_17_method_71_code (6 : Nat) (Option.some Jvm.ClassFile.FieldType.int)) ∈ lw_all := lw_g (lw_at lw_m7 172 rfl) rfl
theorem q1670 : (Jvm.Cond.instanceMethod ({ cls := "GlassLogModel", name := "watching", desc := "(II)I" } : Jvm.MethodName)) ∈ lw_all := lw_g (lw_at lw_m7 174 rfl) rfl
theorem q1671 : (Jvm.Cond.selects "GlassLogModel" ({ cls := "GlassLogModel", name := "watching", desc := "(II)I" } : Jvm.MethodName) ({ cls := "GlassLogModel", name := "watching", desc := "(II)I" } : Jvm.MethodName)) ∈ lw_all := lw_g (lw_at lw_m7 175 rfl) rfl
theorem q1672 : (Jvm.Cond.code ({ cls := "GlassLogModel", name := "watching", desc := "(II)I" } : Jvm.MethodName) prog_17_method_72_code (3 : Nat) (Option.some Jvm.ClassFile.FieldType.int)) ∈ lw_all := lw_g (lw_at lw_m7 176 rfl) rfl
theorem q1674 : (Jvm.Cond.instanceMethod ({ cls := "GlassLogModel", name := "all", desc := "(I)I" } : Jvm.MethodName)) ∈ lw_all := lw_g (lw_at lw_m7 178 rfl) rfl
theorem q1675 : (Jvm.Cond.selects "GlassLogModel" ({ cls := "GlassLogModel", name := "all", desc := "(I)I" } : Jvm.MethodName) ({ cls := "GlassLogModel", name := "all", desc := "(I)I" } : Jvm.MethodName)) ∈ lw_all := lw_g (lw_at lw_m7 179 rfl) rfl
theorem q1676 : (Jvm.Cond.code ({ cls := "GlassLogModel", name := "all", desc := "(I)I" } : Jvm.MethodName) prog_17_method_73_code (4 : Nat) (Option.some Jvm.ClassFile.FieldType.int)) ∈ lw_all := lw_g (lw_at lw_m7 180 rfl) rfl
theorem q1678 : (Jvm.Cond.instanceMethod ({ cls := "GlassLogModel", name := "image", desc := "()Z" } : Jvm.MethodName)) ∈ lw_all := lw_g (lw_at lw_m7 182 rfl) rfl
theorem q1679 : (Jvm.Cond.selects "GlassLogModel" ({ cls := "GlassLogModel", name := "image", desc := "()Z" } : Jvm.MethodName) ({ cls := "GlassLogModel", name := "image", desc := "()Z" } : Jvm.MethodName)) ∈ lw_all := lw_g (lw_at lw_m7 183 rfl) rfl
theorem q1680 : (Jvm.Cond.code ({ cls := "GlassLogModel", name := "image", desc := "()Z" } : Jvm.MethodName) prog_17_method_77_code (1 : Nat) (Option.some Jvm.ClassFile.FieldType.boolean)) ∈ lw_all := lw_g (lw_at lw_m7 184 rfl) rfl
theorem q1681 : (Jvm.Cond.methodLink "GlassLogModel" (366 : Nat) ({ cls := "GlassLogModel", name := "ints", desc := "([I[I)V" } : Jvm.MethodName)) ∈ lw_all := lw_g (lw_at lw_m7 185 rfl) rfl
theorem q1682 : (Jvm.Cond.static ({ cls := "GlassLogModel", name := "ints", desc := "([I[I)V" } : Jvm.MethodName)) ∈ lw_all := lw_g (lw_at lw_m7 186 rfl) rfl
theorem q1683 : (Jvm.Cond.code ({ cls := "GlassLogModel", name := "ints", desc := "([I[I)V" } : Jvm.MethodName) prog_17_method_74_code (3 : Nat) (Option.none : Option Jvm.ClassFile.FieldType)) ∈ lw_all := lw_g (lw_at lw_m7 187 rfl) rfl
theorem q1684 : (Jvm.Cond.methodLink "GlassLogModel" (370 : Nat) ({ cls := "GlassLogModel", name := "longs", desc := "([J[J)V" } : Jvm.MethodName)) ∈ lw_all := lw_g (lw_at lw_m7 188 rfl) rfl
theorem q1685 : (Jvm.Cond.static ({ cls := "GlassLogModel", name := "longs", desc := "([J[J)V" } : Jvm.MethodName)) ∈ lw_all := lw_g (lw_at lw_m7 189 rfl) rfl
theorem q1686 : (Jvm.Cond.code ({ cls := "GlassLogModel", name := "longs", desc := "([J[J)V" } : Jvm.MethodName) prog_17_method_75_code (3 : Nat) (Option.none : Option Jvm.ClassFile.FieldType)) ∈ lw_all := lw_g (lw_at lw_m7 190 rfl) rfl
theorem q1687 : (Jvm.Cond.methodLink "GlassLogModel" (374 : Nat) ({ cls := "GlassLogModel", name := "truths", desc := "([Z[Z)V" } : Jvm.MethodName)) ∈ lw_all := lw_g (lw_at lw_m7 191 rfl) rfl
theorem q1688 : (Jvm.Cond.static ({ cls := "GlassLogModel", name := "truths", desc := "([Z[Z)V" } : Jvm.MethodName)) ∈ lw_all := lw_g (lw_at lw_m7 192 rfl) rfl
theorem q1689 : (Jvm.Cond.code ({ cls := "GlassLogModel", name := "truths", desc := "([Z[Z)V" } : Jvm.MethodName) prog_17_method_76_code (3 : Nat) (Option.none : Option Jvm.ClassFile.FieldType)) ∈ lw_all := lw_g (lw_at lw_m7 193 rfl) rfl
theorem q1691 : (Jvm.Cond.instanceMethod ({ cls := "GlassLogModel", name := "back", desc := "()Z" } : Jvm.MethodName)) ∈ lw_all := lw_g (lw_at lw_m7 195 rfl) rfl
theorem q1692 : (Jvm.Cond.selects "GlassLogModel" ({ cls := "GlassLogModel", name := "back", desc := "()Z" } : Jvm.MethodName) ({ cls := "GlassLogModel", name := "back", desc := "()Z" } : Jvm.MethodName)) ∈ lw_all := lw_g (lw_at lw_m7 196 rfl) rfl
theorem q1693 : (Jvm.Cond.code ({ cls := "GlassLogModel", name := "back", desc := "()Z" } : Jvm.MethodName) prog_17_method_78_code (1 : Nat) (Option.some Jvm.ClassFile.FieldType.boolean)) ∈ lw_all := lw_g (lw_at lw_m7 197 rfl) rfl
theorem in_X9 : ∀ w ∈ wsX90, w ∈ lw_all := lw_in wsX90 [1258, 1260, 1262, 1264, 1266, 1268, 1270, 1272, 1274, 1276, 1278, 1280, 1282, 1284, 1286, 1288, 1290, 1292, 1294, 1296, 1298, 1300, 1302, 1304, 1306, 1308, 1310, 1312, 1314, 1316, 1318, 1320, 1322, 1324, 1326, 1328, 1330, 1332, 1334, 1336, 1338, 1340, 1342, 1344, 1346, 1348, 1350, 1352, 1354, 1356, 1358, 1360, 1362, 1364, 1366, 1368, 1370, 1372, 1374, 1376, 1378, 1380, 1382, 1384, 1386, 1388] (by decide +kernel) (by decide +kernel)
