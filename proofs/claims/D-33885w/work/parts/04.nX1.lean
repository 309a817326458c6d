/-! ShorePools -/
set_option maxRecDepth 100000
def RX1 : String := "ShorePools"
def TX1 : u_T := fun k => match k with
  | 0 => ("ShorePools", "now", "LShorePools$State;", false)
  | 1 => ("ShorePools", "snapshot", "LShorePools$State;", false)
  | 2 => ("ShorePools", "recorded", "LShorePools$Record;", false)
  | 3 => ("ShorePools", "note", "Ljava/lang/StringBuilder;", true)
  | 4 => ("ShorePools", "turns", "[I", true)
  | 5 => ("ShorePools", "wearers", "[I", true)
  | _ => ("ShorePools", "worn", "[I", true)
def tyX1 : Nat → FieldType := fun k => match k with
  | 0 => .object "ShorePools$State"
  | 1 => .object "ShorePools$State"
  | 2 => .object "ShorePools$Record"
  | 3 => .object "java/lang/StringBuilder"
  | 4 => .array .int
  | 5 => .array .int
  | _ => .array .int
abbrev wsX10 : List Cond := u_ws RX1 TX1 7
theorem nmX1 : ∀ a, a < 7 → ∀ b, b < 7 → a ≠ b → (TX1 a).2.1 ≠ (TX1 b).2.1 := by decide +kernel
theorem tyX1_ok : ∀ k, k < 7 → parseFieldDescriptor (TX1 k).2.2.1 = some (tyX1 k) := by decide +kernel
abbrev cX1_init : ByteArray := prog_1_method_1_code
def yX1_init : MethodName := ⟨RX1, "<init>", "()V"⟩
def dkwX1_init_2 : List UInt8 := [181, 0, 30, 177]
abbrev dktX1_init_2 : List UInt8 := dkwX1_init_2 ++ []
def dkwX1_init_1 : List UInt8 := [181, 0, 19, 42, 16, 15, 188, 10, 181, 0, 23, 42, 16, 26, 188, 10, 181, 0, 27, 42, 16, 15, 188, 10]
abbrev dktX1_init_1 : List UInt8 := dkwX1_init_1 ++ dktX1_init_2
def dkwX1_init_0 : List UInt8 := [42, 183, 0, 1, 42, 187, 0, 7, 89, 183, 0, 9, 181, 0, 10, 42, 187, 0, 16, 89, 183, 0, 18]
abbrev dktX1_init_0 : List UInt8 := dkwX1_init_0 ++ dktX1_init_1
theorem dksX1_init_0 : cX1_init.data.toList.drop 0 = dktX1_init_0 := by decide +kernel
theorem dksX1_init_1 : cX1_init.data.toList.drop 23 = dktX1_init_1 := dk_seg dksX1_init_0 23 rfl rfl
theorem dksX1_init_2 : cX1_init.data.toList.drop 47 = dktX1_init_2 := dk_seg dksX1_init_1 24 rfl rfl
theorem dX1_init_0 : decode cX1_init 0 = .ok (.aload_n 0, 1) := dk_42 (dk_at dksX1_init_0 0 rfl rfl)
theorem dX1_init_1 : decode cX1_init 1 = .ok (.invokespecial 1, 3) := dk_183 0 1 (dk_at dksX1_init_0 1 rfl rfl)
theorem dX1_init_4 : decode cX1_init 4 = .ok (.aload_n 0, 1) := dk_42 (dk_at dksX1_init_0 4 rfl rfl)
theorem dX1_init_5 : decode cX1_init 5 = .ok (.new 7, 3) := dk_187 0 7 (dk_at dksX1_init_0 5 rfl rfl)
theorem dX1_init_8 : decode cX1_init 8 = .ok (.dup, 1) := dk_89 (dk_at dksX1_init_0 8 rfl rfl)
theorem dX1_init_9 : decode cX1_init 9 = .ok (.invokespecial 9, 3) := dk_183 0 9 (dk_at dksX1_init_0 9 rfl rfl)
theorem dX1_init_12 : decode cX1_init 12 = .ok (.putfield 10, 3) := dk_181 0 10 (dk_at dksX1_init_0 12 rfl rfl)
theorem dX1_init_15 : decode cX1_init 15 = .ok (.aload_n 0, 1) := dk_42 (dk_at dksX1_init_0 15 rfl rfl)
theorem dX1_init_16 : decode cX1_init 16 = .ok (.new 16, 3) := dk_187 0 16 (dk_at dksX1_init_0 16 rfl rfl)
theorem dX1_init_19 : decode cX1_init 19 = .ok (.dup, 1) := dk_89 (dk_at dksX1_init_0 19 rfl rfl)
theorem dX1_init_20 : decode cX1_init 20 = .ok (.invokespecial 18, 3) := dk_183 0 18 (dk_at dksX1_init_0 20 rfl rfl)
theorem dX1_init_23 : decode cX1_init 23 = .ok (.putfield 19, 3) := dk_181 0 19 (dk_at dksX1_init_1 0 rfl rfl)
theorem dX1_init_26 : decode cX1_init 26 = .ok (.aload_n 0, 1) := dk_42 (dk_at dksX1_init_1 3 rfl rfl)
theorem dX1_init_27 : decode cX1_init 27 = .ok (.bipush 15, 2) := dk_16 15 (dk_at dksX1_init_1 4 rfl rfl)
theorem dX1_init_29 : decode cX1_init 29 = .ok (.newarray .int, 2) := dk_188_10 (dk_at dksX1_init_1 6 rfl rfl)
theorem dX1_init_31 : decode cX1_init 31 = .ok (.putfield 23, 3) := dk_181 0 23 (dk_at dksX1_init_1 8 rfl rfl)
theorem dX1_init_34 : decode cX1_init 34 = .ok (.aload_n 0, 1) := dk_42 (dk_at dksX1_init_1 11 rfl rfl)
theorem dX1_init_35 : decode cX1_init 35 = .ok (.bipush 26, 2) := dk_16 26 (dk_at dksX1_init_1 12 rfl rfl)
theorem dX1_init_37 : decode cX1_init 37 = .ok (.newarray .int, 2) := dk_188_10 (dk_at dksX1_init_1 14 rfl rfl)
theorem dX1_init_39 : decode cX1_init 39 = .ok (.putfield 27, 3) := dk_181 0 27 (dk_at dksX1_init_1 16 rfl rfl)
theorem dX1_init_42 : decode cX1_init 42 = .ok (.aload_n 0, 1) := dk_42 (dk_at dksX1_init_1 19 rfl rfl)
theorem dX1_init_43 : decode cX1_init 43 = .ok (.bipush 15, 2) := dk_16 15 (dk_at dksX1_init_1 20 rfl rfl)
theorem dX1_init_45 : decode cX1_init 45 = .ok (.newarray .int, 2) := dk_188_10 (dk_at dksX1_init_1 22 rfl rfl)
theorem dX1_init_47 : decode cX1_init 47 = .ok (.putfield 30, 3) := dk_181 0 30 (dk_at dksX1_init_2 0 rfl rfl)
theorem dX1_init_50 : decode cX1_init 50 = .ok (.return_, 1) := dk_177 (dk_at dksX1_init_2 3 rfl rfl)
abbrev cX1_clearNote : ByteArray := prog_1_method_49_code
def yX1_clearNote : MethodName := ⟨RX1, "clearNote", "()I"⟩
def dkwX1_clearNote_0 : List UInt8 := [42, 180, 0, 19, 182, 1, 56, 60, 42, 180, 0, 19, 3, 182, 1, 63, 27, 172]
abbrev dktX1_clearNote_0 : List UInt8 := dkwX1_clearNote_0 ++ []
theorem dksX1_clearNote_0 : cX1_clearNote.data.toList.drop 0 = dktX1_clearNote_0 := by decide +kernel
theorem dX1_clearNote_0 : decode cX1_clearNote 0 = .ok (.aload_n 0, 1) := dk_42 (dk_at dksX1_clearNote_0 0 rfl rfl)
theorem dX1_clearNote_1 : decode cX1_clearNote 1 = .ok (.getfield 19, 3) := dk_180 0 19 (dk_at dksX1_clearNote_0 1 rfl rfl)
theorem dX1_clearNote_4 : decode cX1_clearNote 4 = .ok (.invokevirtual 312, 3) := dk_182 1 56 (dk_at dksX1_clearNote_0 4 rfl rfl)
theorem dX1_clearNote_7 : decode cX1_clearNote 7 = .ok (.istore_n 1, 1) := dk_60 (dk_at dksX1_clearNote_0 7 rfl rfl)
theorem dX1_clearNote_8 : decode cX1_clearNote 8 = .ok (.aload_n 0, 1) := dk_42 (dk_at dksX1_clearNote_0 8 rfl rfl)
theorem dX1_clearNote_9 : decode cX1_clearNote 9 = .ok (.getfield 19, 3) := dk_180 0 19 (dk_at dksX1_clearNote_0 9 rfl rfl)
theorem dX1_clearNote_12 : decode cX1_clearNote 12 = .ok (.iconst 0, 1) := dk_3 (dk_at dksX1_clearNote_0 12 rfl rfl)
theorem dX1_clearNote_13 : decode cX1_clearNote 13 = .ok (.invokevirtual 319, 3) := dk_182 1 63 (dk_at dksX1_clearNote_0 13 rfl rfl)
theorem dX1_clearNote_16 : decode cX1_clearNote 16 = .ok (.iload_n 1, 1) := dk_27 (dk_at dksX1_clearNote_0 16 rfl rfl)
theorem dX1_clearNote_17 : decode cX1_clearNote 17 = .ok (.ireturn, 1) := dk_172 (dk_at dksX1_clearNote_0 17 rfl rfl)
abbrev cX1_noteError : ByteArray := prog_1_method_50_code
def yX1_noteError : MethodName := ⟨RX1, "noteError", "()I"⟩
def dkwX1_noteError_0 : List UInt8 := [187, 1, 66, 89, 42, 183, 1, 68, 182, 1, 71, 172]
abbrev dktX1_noteError_0 : List UInt8 := dkwX1_noteError_0 ++ []
theorem dksX1_noteError_0 : cX1_noteError.data.toList.drop 0 = dktX1_noteError_0 := by decide +kernel
theorem dX1_noteError_0 : decode cX1_noteError 0 = .ok (.new 322, 3) := dk_187 1 66 (dk_at dksX1_noteError_0 0 rfl rfl)
theorem dX1_noteError_3 : decode cX1_noteError 3 = .ok (.dup, 1) := dk_89 (dk_at dksX1_noteError_0 3 rfl rfl)
theorem dX1_noteError_4 : decode cX1_noteError 4 = .ok (.aload_n 0, 1) := dk_42 (dk_at dksX1_noteError_0 4 rfl rfl)
theorem dX1_noteError_5 : decode cX1_noteError 5 = .ok (.invokespecial 324, 3) := dk_183 1 68 (dk_at dksX1_noteError_0 5 rfl rfl)
theorem dX1_noteError_8 : decode cX1_noteError 8 = .ok (.invokevirtual 327, 3) := dk_182 1 71 (dk_at dksX1_noteError_0 8 rfl rfl)
theorem dX1_noteError_11 : decode cX1_noteError 11 = .ok (.ireturn, 1) := dk_172 (dk_at dksX1_noteError_0 11 rfl rfl)
abbrev cX1_takeSnapshot : ByteArray := prog_1_method_55_code
def yX1_takeSnapshot : MethodName := ⟨RX1, "takeSnapshot", "()I"⟩
def dkwX1_takeSnapshot_0 : List UInt8 := [42, 42, 180, 0, 10, 182, 0, 74, 181, 1, 97, 42, 180, 0, 10, 180, 0, 106, 172]
abbrev dktX1_takeSnapshot_0 : List UInt8 := dkwX1_takeSnapshot_0 ++ []
theorem dksX1_takeSnapshot_0 : cX1_takeSnapshot.data.toList.drop 0 = dktX1_takeSnapshot_0 := by decide +kernel
theorem dX1_takeSnapshot_0 : decode cX1_takeSnapshot 0 = .ok (.aload_n 0, 1) := dk_42 (dk_at dksX1_takeSnapshot_0 0 rfl rfl)
theorem dX1_takeSnapshot_1 : decode cX1_takeSnapshot 1 = .ok (.aload_n 0, 1) := dk_42 (dk_at dksX1_takeSnapshot_0 1 rfl rfl)
theorem dX1_takeSnapshot_2 : decode cX1_takeSnapshot 2 = .ok (.getfield 10, 3) := dk_180 0 10 (dk_at dksX1_takeSnapshot_0 2 rfl rfl)
theorem dX1_takeSnapshot_5 : decode cX1_takeSnapshot 5 = .ok (.invokevirtual 74, 3) := dk_182 0 74 (dk_at dksX1_takeSnapshot_0 5 rfl rfl)
theorem dX1_takeSnapshot_8 : decode cX1_takeSnapshot 8 = .ok (.putfield 353, 3) := dk_181 1 97 (dk_at dksX1_takeSnapshot_0 8 rfl rfl)
theorem dX1_takeSnapshot_11 : decode cX1_takeSnapshot 11 = .ok (.aload_n 0, 1) := dk_42 (dk_at dksX1_takeSnapshot_0 11 rfl rfl)
theorem dX1_takeSnapshot_12 : decode cX1_takeSnapshot 12 = .ok (.getfield 10, 3) := dk_180 0 10 (dk_at dksX1_takeSnapshot_0 12 rfl rfl)
theorem dX1_takeSnapshot_15 : decode cX1_takeSnapshot 15 = .ok (.getfield 106, 3) := dk_180 0 106 (dk_at dksX1_takeSnapshot_0 15 rfl rfl)
theorem dX1_takeSnapshot_18 : decode cX1_takeSnapshot 18 = .ok (.ireturn, 1) := dk_172 (dk_at dksX1_takeSnapshot_0 18 rfl rfl)
abbrev cX1_time : ByteArray := prog_1_method_57_code
def yX1_time : MethodName := ⟨RX1, "time", "()I"⟩
def dkwX1_time_0 : List UInt8 := [42, 180, 0, 10, 180, 0, 106, 172]
abbrev dktX1_time_0 : List UInt8 := dkwX1_time_0 ++ []
theorem dksX1_time_0 : cX1_time.data.toList.drop 0 = dktX1_time_0 := by decide +kernel
theorem dX1_time_0 : decode cX1_time 0 = .ok (.aload_n 0, 1) := dk_42 (dk_at dksX1_time_0 0 rfl rfl)
theorem dX1_time_1 : decode cX1_time 1 = .ok (.getfield 10, 3) := dk_180 0 10 (dk_at dksX1_time_0 1 rfl rfl)
theorem dX1_time_4 : decode cX1_time 4 = .ok (.getfield 106, 3) := dk_180 0 106 (dk_at dksX1_time_0 4 rfl rfl)
theorem dX1_time_7 : decode cX1_time 7 = .ok (.ireturn, 1) := dk_172 (dk_at dksX1_time_0 7 rfl rfl)
abbrev cX1_tide : ByteArray := prog_1_method_58_code
def yX1_tide : MethodName := ⟨RX1, "tide", "()I"⟩
def dkwX1_tide_0 : List UInt8 := [42, 42, 180, 0, 10, 180, 0, 106, 184, 0, 96, 182, 0, 100, 172]
abbrev dktX1_tide_0 : List UInt8 := dkwX1_tide_0 ++ []
theorem dksX1_tide_0 : cX1_tide.data.toList.drop 0 = dktX1_tide_0 := by decide +kernel
theorem dX1_tide_0 : decode cX1_tide 0 = .ok (.aload_n 0, 1) := dk_42 (dk_at dksX1_tide_0 0 rfl rfl)
theorem dX1_tide_1 : decode cX1_tide 1 = .ok (.aload_n 0, 1) := dk_42 (dk_at dksX1_tide_0 1 rfl rfl)
theorem dX1_tide_2 : decode cX1_tide 2 = .ok (.getfield 10, 3) := dk_180 0 10 (dk_at dksX1_tide_0 2 rfl rfl)
theorem dX1_tide_5 : decode cX1_tide 5 = .ok (.getfield 106, 3) := dk_180 0 106 (dk_at dksX1_tide_0 5 rfl rfl)
theorem dX1_tide_8 : decode cX1_tide 8 = .ok (.invokestatic 96, 3) := dk_184 0 96 (dk_at dksX1_tide_0 8 rfl rfl)
theorem dX1_tide_11 : decode cX1_tide 11 = .ok (.invokevirtual 100, 3) := dk_182 0 100 (dk_at dksX1_tide_0 11 rfl rfl)
theorem dX1_tide_14 : decode cX1_tide 14 = .ok (.ireturn, 1) := dk_172 (dk_at dksX1_tide_0 14 rfl rfl)
abbrev cX1_rise : ByteArray := prog_1_method_10_code
def yX1_rise : MethodName := ⟨RX1, "rise", "(I)I"⟩
def dkwX1_rise_0 : List UInt8 := [26, 16, 12, 112, 60, 27, 16, 6, 164, 0, 10, 16, 12, 27, 100, 167, 0, 4, 27, 172]
abbrev dktX1_rise_0 : List UInt8 := dkwX1_rise_0 ++ []
theorem dksX1_rise_0 : cX1_rise.data.toList.drop 0 = dktX1_rise_0 := by decide +kernel
theorem dX1_rise_0 : decode cX1_rise 0 = .ok (.iload_n 0, 1) := dk_26 (dk_at dksX1_rise_0 0 rfl rfl)
theorem dX1_rise_1 : decode cX1_rise 1 = .ok (.bipush 12, 2) := dk_16 12 (dk_at dksX1_rise_0 1 rfl rfl)
theorem dX1_rise_3 : decode cX1_rise 3 = .ok (.irem, 1) := dk_112 (dk_at dksX1_rise_0 3 rfl rfl)
theorem dX1_rise_4 : decode cX1_rise 4 = .ok (.istore_n 1, 1) := dk_60 (dk_at dksX1_rise_0 4 rfl rfl)
theorem dX1_rise_5 : decode cX1_rise 5 = .ok (.iload_n 1, 1) := dk_27 (dk_at dksX1_rise_0 5 rfl rfl)
theorem dX1_rise_6 : decode cX1_rise 6 = .ok (.bipush 6, 2) := dk_16 6 (dk_at dksX1_rise_0 6 rfl rfl)
theorem dX1_rise_8 : decode cX1_rise 8 = .ok (.if_icmp .le 10, 3) := dk_164 0 10 (dk_at dksX1_rise_0 8 rfl rfl)
theorem dX1_rise_11 : decode cX1_rise 11 = .ok (.bipush 12, 2) := dk_16 12 (dk_at dksX1_rise_0 11 rfl rfl)
theorem dX1_rise_13 : decode cX1_rise 13 = .ok (.iload_n 1, 1) := dk_27 (dk_at dksX1_rise_0 13 rfl rfl)
theorem dX1_rise_14 : decode cX1_rise 14 = .ok (.isub, 1) := dk_100 (dk_at dksX1_rise_0 14 rfl rfl)
theorem dX1_rise_15 : decode cX1_rise 15 = .ok (.goto 4, 3) := dk_167 0 4 (dk_at dksX1_rise_0 15 rfl rfl)
theorem dX1_rise_18 : decode cX1_rise 18 = .ok (.iload_n 1, 1) := dk_27 (dk_at dksX1_rise_0 18 rfl rfl)
theorem dX1_rise_19 : decode cX1_rise 19 = .ok (.ireturn, 1) := dk_172 (dk_at dksX1_rise_0 19 rfl rfl)
abbrev cX1_height : ByteArray := prog_1_method_11_code
def yX1_height : MethodName := ⟨RX1, "height", "(I)I"⟩
def dkwX1_height_1 : List UInt8 := [16, 6, 108, 96, 172]
abbrev dktX1_height_1 : List UInt8 := dkwX1_height_1 ++ []
def dkwX1_height_0 : List UInt8 := [42, 180, 0, 10, 180, 0, 89, 42, 180, 0, 10, 180, 0, 93, 42, 180, 0, 10, 180, 0, 89, 100, 27, 104]
abbrev dktX1_height_0 : List UInt8 := dkwX1_height_0 ++ dktX1_height_1
theorem dksX1_height_0 : cX1_height.data.toList.drop 0 = dktX1_height_0 := by decide +kernel
theorem dksX1_height_1 : cX1_height.data.toList.drop 24 = dktX1_height_1 := dk_seg dksX1_height_0 24 rfl rfl
theorem dX1_height_0 : decode cX1_height 0 = .ok (.aload_n 0, 1) := dk_42 (dk_at dksX1_height_0 0 rfl rfl)
theorem dX1_height_1 : decode cX1_height 1 = .ok (.getfield 10, 3) := dk_180 0 10 (dk_at dksX1_height_0 1 rfl rfl)
theorem dX1_height_4 : decode cX1_height 4 = .ok (.getfield 89, 3) := dk_180 0 89 (dk_at dksX1_height_0 4 rfl rfl)
theorem dX1_height_7 : decode cX1_height 7 = .ok (.aload_n 0, 1) := dk_42 (dk_at dksX1_height_0 7 rfl rfl)
theorem dX1_height_8 : decode cX1_height 8 = .ok (.getfield 10, 3) := dk_180 0 10 (dk_at dksX1_height_0 8 rfl rfl)
theorem dX1_height_11 : decode cX1_height 11 = .ok (.getfield 93, 3) := dk_180 0 93 (dk_at dksX1_height_0 11 rfl rfl)
theorem dX1_height_14 : decode cX1_height 14 = .ok (.aload_n 0, 1) := dk_42 (dk_at dksX1_height_0 14 rfl rfl)
theorem dX1_height_15 : decode cX1_height 15 = .ok (.getfield 10, 3) := dk_180 0 10 (dk_at dksX1_height_0 15 rfl rfl)
theorem dX1_height_18 : decode cX1_height 18 = .ok (.getfield 89, 3) := dk_180 0 89 (dk_at dksX1_height_0 18 rfl rfl)
theorem dX1_height_21 : decode cX1_height 21 = .ok (.isub, 1) := dk_100 (dk_at dksX1_height_0 21 rfl rfl)
theorem dX1_height_22 : decode cX1_height 22 = .ok (.iload_n 1, 1) := dk_27 (dk_at dksX1_height_0 22 rfl rfl)
theorem dX1_height_23 : decode cX1_height 23 = .ok (.imul, 1) := dk_104 (dk_at dksX1_height_0 23 rfl rfl)
theorem dX1_height_24 : decode cX1_height 24 = .ok (.bipush 6, 2) := dk_16 6 (dk_at dksX1_height_1 0 rfl rfl)
theorem dX1_height_26 : decode cX1_height 26 = .ok (.idiv, 1) := dk_108 (dk_at dksX1_height_1 2 rfl rfl)
theorem dX1_height_27 : decode cX1_height 27 = .ok (.iadd, 1) := dk_96 (dk_at dksX1_height_1 3 rfl rfl)
theorem dX1_height_28 : decode cX1_height 28 = .ok (.ireturn, 1) := dk_172 (dk_at dksX1_height_1 4 rfl rfl)
abbrev cX1_heat : ByteArray := prog_1_method_60_code
def yX1_heat : MethodName := ⟨RX1, "heat", "()I"⟩
def dkwX1_heat_0 : List UInt8 := [42, 180, 0, 10, 180, 0, 180, 172]
abbrev dktX1_heat_0 : List UInt8 := dkwX1_heat_0 ++ []
theorem dksX1_heat_0 : cX1_heat.data.toList.drop 0 = dktX1_heat_0 := by decide +kernel
theorem dX1_heat_0 : decode cX1_heat 0 = .ok (.aload_n 0, 1) := dk_42 (dk_at dksX1_heat_0 0 rfl rfl)
theorem dX1_heat_1 : decode cX1_heat 1 = .ok (.getfield 10, 3) := dk_180 0 10 (dk_at dksX1_heat_0 1 rfl rfl)
theorem dX1_heat_4 : decode cX1_heat 4 = .ok (.getfield 180, 3) := dk_180 0 180 (dk_at dksX1_heat_0 4 rfl rfl)
theorem dX1_heat_7 : decode cX1_heat 7 = .ok (.ireturn, 1) := dk_172 (dk_at dksX1_heat_0 7 rfl rfl)
abbrev cX1_pause : ByteArray := prog_1_method_61_code
def yX1_pause : MethodName := ⟨RX1, "pause", "()I"⟩
def dkwX1_pause_0 : List UInt8 := [42, 180, 0, 10, 180, 1, 3, 172]
abbrev dktX1_pause_0 : List UInt8 := dkwX1_pause_0 ++ []
theorem dksX1_pause_0 : cX1_pause.data.toList.drop 0 = dktX1_pause_0 := by decide +kernel
theorem dX1_pause_0 : decode cX1_pause 0 = .ok (.aload_n 0, 1) := dk_42 (dk_at dksX1_pause_0 0 rfl rfl)
theorem dX1_pause_1 : decode cX1_pause 1 = .ok (.getfield 10, 3) := dk_180 0 10 (dk_at dksX1_pause_0 1 rfl rfl)
theorem dX1_pause_4 : decode cX1_pause 4 = .ok (.getfield 259, 3) := dk_180 1 3 (dk_at dksX1_pause_0 4 rfl rfl)
theorem dX1_pause_7 : decode cX1_pause 7 = .ok (.ireturn, 1) := dk_172 (dk_at dksX1_pause_0 7 rfl rfl)
abbrev cX1_floodedPools : ByteArray := prog_1_method_64_code
def yX1_floodedPools : MethodName := ⟨RX1, "floodedPools", "()I"⟩
def dkwX1_floodedPools_1 : List UInt8 := [96, 60, 132, 2, 1, 167, 255, 231, 27, 172]
abbrev dktX1_floodedPools_1 : List UInt8 := dkwX1_floodedPools_1 ++ []
def dkwX1_floodedPools_0 : List UInt8 := [3, 60, 3, 61, 28, 16, 8, 162, 0, 25, 27, 42, 28, 182, 0, 174, 153, 0, 7, 4, 167, 0, 4, 3]
abbrev dktX1_floodedPools_0 : List UInt8 := dkwX1_floodedPools_0 ++ dktX1_floodedPools_1
theorem dksX1_floodedPools_0 : cX1_floodedPools.data.toList.drop 0 = dktX1_floodedPools_0 := by decide +kernel
theorem dksX1_floodedPools_1 : cX1_floodedPools.data.toList.drop 24 = dktX1_floodedPools_1 := dk_seg dksX1_floodedPools_0 24 rfl rfl
theorem dX1_floodedPools_0 : decode cX1_floodedPools 0 = .ok (.iconst 0, 1) := dk_3 (dk_at dksX1_floodedPools_0 0 rfl rfl)
theorem dX1_floodedPools_1 : decode cX1_floodedPools 1 = .ok (.istore_n 1, 1) := dk_60 (dk_at dksX1_floodedPools_0 1 rfl rfl)
theorem dX1_floodedPools_2 : decode cX1_floodedPools 2 = .ok (.iconst 0, 1) := dk_3 (dk_at dksX1_floodedPools_0 2 rfl rfl)
theorem dX1_floodedPools_3 : decode cX1_floodedPools 3 = .ok (.istore_n 2, 1) := dk_61 (dk_at dksX1_floodedPools_0 3 rfl rfl)
theorem dX1_floodedPools_4 : decode cX1_floodedPools 4 = .ok (.iload_n 2, 1) := dk_28 (dk_at dksX1_floodedPools_0 4 rfl rfl)
theorem dX1_floodedPools_5 : decode cX1_floodedPools 5 = .ok (.bipush 8, 2) := dk_16 8 (dk_at dksX1_floodedPools_0 5 rfl rfl)
theorem dX1_floodedPools_7 : decode cX1_floodedPools 7 = .ok (.if_icmp .ge 25, 3) := dk_162 0 25 (dk_at dksX1_floodedPools_0 7 rfl rfl)
theorem dX1_floodedPools_10 : decode cX1_floodedPools 10 = .ok (.iload_n 1, 1) := dk_27 (dk_at dksX1_floodedPools_0 10 rfl rfl)
theorem dX1_floodedPools_11 : decode cX1_floodedPools 11 = .ok (.aload_n 0, 1) := dk_42 (dk_at dksX1_floodedPools_0 11 rfl rfl)
theorem dX1_floodedPools_12 : decode cX1_floodedPools 12 = .ok (.iload_n 2, 1) := dk_28 (dk_at dksX1_floodedPools_0 12 rfl rfl)
theorem dX1_floodedPools_13 : decode cX1_floodedPools 13 = .ok (.invokevirtual 174, 3) := dk_182 0 174 (dk_at dksX1_floodedPools_0 13 rfl rfl)
theorem dX1_floodedPools_16 : decode cX1_floodedPools 16 = .ok (.ifCond .eq 7, 3) := dk_153 0 7 (dk_at dksX1_floodedPools_0 16 rfl rfl)
theorem dX1_floodedPools_19 : decode cX1_floodedPools 19 = .ok (.iconst 1, 1) := dk_4 (dk_at dksX1_floodedPools_0 19 rfl rfl)
theorem dX1_floodedPools_20 : decode cX1_floodedPools 20 = .ok (.goto 4, 3) := dk_167 0 4 (dk_at dksX1_floodedPools_0 20 rfl rfl)
theorem dX1_floodedPools_23 : decode cX1_floodedPools 23 = .ok (.iconst 0, 1) := dk_3 (dk_at dksX1_floodedPools_0 23 rfl rfl)
theorem dX1_floodedPools_24 : decode cX1_floodedPools 24 = .ok (.iadd, 1) := dk_96 (dk_at dksX1_floodedPools_1 0 rfl rfl)
theorem dX1_floodedPools_25 : decode cX1_floodedPools 25 = .ok (.istore_n 1, 1) := dk_60 (dk_at dksX1_floodedPools_1 1 rfl rfl)
theorem dX1_floodedPools_26 : decode cX1_floodedPools 26 = .ok (.iinc 2 1, 3) := dk_132 2 1 (dk_at dksX1_floodedPools_1 2 rfl rfl)
theorem dX1_floodedPools_29 : decode cX1_floodedPools 29 = .ok (.goto (-25), 3) := dk_167 255 231 (dk_at dksX1_floodedPools_1 5 rfl rfl)
theorem dX1_floodedPools_32 : decode cX1_floodedPools 32 = .ok (.iload_n 1, 1) := dk_27 (dk_at dksX1_floodedPools_1 8 rfl rfl)
theorem dX1_floodedPools_33 : decode cX1_floodedPools 33 = .ok (.ireturn, 1) := dk_172 (dk_at dksX1_floodedPools_1 9 rfl rfl)
abbrev cX1_isFloodedNow : ByteArray := prog_1_method_13_code
def yX1_isFloodedNow : MethodName := ⟨RX1, "isFloodedNow", "(I)Z"⟩
def dkwX1_isFloodedNow_0 : List UInt8 := [42, 27, 42, 180, 0, 10, 180, 0, 106, 182, 0, 109, 172]
abbrev dktX1_isFloodedNow_0 : List UInt8 := dkwX1_isFloodedNow_0 ++ []
theorem dksX1_isFloodedNow_0 : cX1_isFloodedNow.data.toList.drop 0 = dktX1_isFloodedNow_0 := by decide +kernel
theorem dX1_isFloodedNow_0 : decode cX1_isFloodedNow 0 = .ok (.aload_n 0, 1) := dk_42 (dk_at dksX1_isFloodedNow_0 0 rfl rfl)
theorem dX1_isFloodedNow_1 : decode cX1_isFloodedNow 1 = .ok (.iload_n 1, 1) := dk_27 (dk_at dksX1_isFloodedNow_0 1 rfl rfl)
theorem dX1_isFloodedNow_2 : decode cX1_isFloodedNow 2 = .ok (.aload_n 0, 1) := dk_42 (dk_at dksX1_isFloodedNow_0 2 rfl rfl)
theorem dX1_isFloodedNow_3 : decode cX1_isFloodedNow 3 = .ok (.getfield 10, 3) := dk_180 0 10 (dk_at dksX1_isFloodedNow_0 3 rfl rfl)
theorem dX1_isFloodedNow_6 : decode cX1_isFloodedNow 6 = .ok (.getfield 106, 3) := dk_180 0 106 (dk_at dksX1_isFloodedNow_0 6 rfl rfl)
theorem dX1_isFloodedNow_9 : decode cX1_isFloodedNow 9 = .ok (.invokevirtual 109, 3) := dk_182 0 109 (dk_at dksX1_isFloodedNow_0 9 rfl rfl)
theorem dX1_isFloodedNow_12 : decode cX1_isFloodedNow 12 = .ok (.ireturn, 1) := dk_172 (dk_at dksX1_isFloodedNow_0 12 rfl rfl)
abbrev cX1_isFloodedAt : ByteArray := prog_1_method_12_code
def yX1_isFloodedAt : MethodName := ⟨RX1, "isFloodedAt", "(II)Z"⟩
def dkwX1_isFloodedAt_1 : List UInt8 := [3, 172]
abbrev dktX1_isFloodedAt_1 : List UInt8 := dkwX1_isFloodedAt_1 ++ []
def dkwX1_isFloodedAt_0 : List UInt8 := [42, 28, 184, 0, 96, 182, 0, 100, 42, 180, 0, 10, 180, 0, 103, 27, 46, 161, 0, 7, 4, 167, 0, 4]
abbrev dktX1_isFloodedAt_0 : List UInt8 := dkwX1_isFloodedAt_0 ++ dktX1_isFloodedAt_1
theorem dksX1_isFloodedAt_0 : cX1_isFloodedAt.data.toList.drop 0 = dktX1_isFloodedAt_0 := by decide +kernel
theorem dksX1_isFloodedAt_1 : cX1_isFloodedAt.data.toList.drop 24 = dktX1_isFloodedAt_1 := dk_seg dksX1_isFloodedAt_0 24 rfl rfl
theorem dX1_isFloodedAt_0 : decode cX1_isFloodedAt 0 = .ok (.aload_n 0, 1) := dk_42 (dk_at dksX1_isFloodedAt_0 0 rfl rfl)
theorem dX1_isFloodedAt_1 : decode cX1_isFloodedAt 1 = .ok (.iload_n 2, 1) := dk_28 (dk_at dksX1_isFloodedAt_0 1 rfl rfl)
theorem dX1_isFloodedAt_2 : decode cX1_isFloodedAt 2 = .ok (.invokestatic 96, 3) := dk_184 0 96 (dk_at dksX1_isFloodedAt_0 2 rfl rfl)
theorem dX1_isFloodedAt_5 : decode cX1_isFloodedAt 5 = .ok (.invokevirtual 100, 3) := dk_182 0 100 (dk_at dksX1_isFloodedAt_0 5 rfl rfl)
theorem dX1_isFloodedAt_8 : decode cX1_isFloodedAt 8 = .ok (.aload_n 0, 1) := dk_42 (dk_at dksX1_isFloodedAt_0 8 rfl rfl)
theorem dX1_isFloodedAt_9 : decode cX1_isFloodedAt 9 = .ok (.getfield 10, 3) := dk_180 0 10 (dk_at dksX1_isFloodedAt_0 9 rfl rfl)
theorem dX1_isFloodedAt_12 : decode cX1_isFloodedAt 12 = .ok (.getfield 103, 3) := dk_180 0 103 (dk_at dksX1_isFloodedAt_0 12 rfl rfl)
theorem dX1_isFloodedAt_15 : decode cX1_isFloodedAt 15 = .ok (.iload_n 1, 1) := dk_27 (dk_at dksX1_isFloodedAt_0 15 rfl rfl)
theorem dX1_isFloodedAt_16 : decode cX1_isFloodedAt 16 = .ok (.iaload, 1) := dk_46 (dk_at dksX1_isFloodedAt_0 16 rfl rfl)
theorem dX1_isFloodedAt_17 : decode cX1_isFloodedAt 17 = .ok (.if_icmp .lt 7, 3) := dk_161 0 7 (dk_at dksX1_isFloodedAt_0 17 rfl rfl)
theorem dX1_isFloodedAt_20 : decode cX1_isFloodedAt 20 = .ok (.iconst 1, 1) := dk_4 (dk_at dksX1_isFloodedAt_0 20 rfl rfl)
theorem dX1_isFloodedAt_21 : decode cX1_isFloodedAt 21 = .ok (.goto 4, 3) := dk_167 0 4 (dk_at dksX1_isFloodedAt_0 21 rfl rfl)
theorem dX1_isFloodedAt_24 : decode cX1_isFloodedAt 24 = .ok (.iconst 0, 1) := dk_3 (dk_at dksX1_isFloodedAt_1 0 rfl rfl)
theorem dX1_isFloodedAt_25 : decode cX1_isFloodedAt 25 = .ok (.ireturn, 1) := dk_172 (dk_at dksX1_isFloodedAt_1 1 rfl rfl)
abbrev cX1_limpets : ByteArray := prog_1_method_70_code
def yX1_limpets : MethodName := ⟨RX1, "limpets", "()I"⟩
def dkwX1_limpets_0 : List UInt8 := [42, 180, 0, 10, 180, 0, 46, 182, 0, 50, 172]
abbrev dktX1_limpets_0 : List UInt8 := dkwX1_limpets_0 ++ []
theorem dksX1_limpets_0 : cX1_limpets.data.toList.drop 0 = dktX1_limpets_0 := by decide +kernel
theorem dX1_limpets_0 : decode cX1_limpets 0 = .ok (.aload_n 0, 1) := dk_42 (dk_at dksX1_limpets_0 0 rfl rfl)
theorem dX1_limpets_1 : decode cX1_limpets 1 = .ok (.getfield 10, 3) := dk_180 0 10 (dk_at dksX1_limpets_0 1 rfl rfl)
theorem dX1_limpets_4 : decode cX1_limpets 4 = .ok (.getfield 46, 3) := dk_180 0 46 (dk_at dksX1_limpets_0 4 rfl rfl)
theorem dX1_limpets_7 : decode cX1_limpets 7 = .ok (.invokevirtual 50, 3) := dk_182 0 50 (dk_at dksX1_limpets_0 7 rfl rfl)
theorem dX1_limpets_10 : decode cX1_limpets 10 = .ok (.ireturn, 1) := dk_172 (dk_at dksX1_limpets_0 10 rfl rfl)
abbrev cX1_livingLimpets : ByteArray := prog_1_method_71_code
def yX1_livingLimpets : MethodName := ⟨RX1, "livingLimpets", "()I"⟩
def dkwX1_livingLimpets_2 : List UInt8 := [132, 2, 1, 167, 255, 211, 27, 172]
abbrev dktX1_livingLimpets_2 : List UInt8 := dkwX1_livingLimpets_2 ++ []
def dkwX1_livingLimpets_1 : List UInt8 := [180, 0, 46, 28, 182, 0, 56, 192, 0, 60, 182, 0, 248, 153, 0, 7, 4, 167, 0, 4, 3, 96, 60]
abbrev dktX1_livingLimpets_1 : List UInt8 := dkwX1_livingLimpets_1 ++ dktX1_livingLimpets_2
def dkwX1_livingLimpets_0 : List UInt8 := [3, 60, 3, 61, 28, 42, 180, 0, 10, 180, 0, 46, 182, 0, 50, 162, 0, 37, 27, 42, 180, 0, 10]
abbrev dktX1_livingLimpets_0 : List UInt8 := dkwX1_livingLimpets_0 ++ dktX1_livingLimpets_1
theorem dksX1_livingLimpets_0 : cX1_livingLimpets.data.toList.drop 0 = dktX1_livingLimpets_0 := by decide +kernel
theorem dksX1_livingLimpets_1 : cX1_livingLimpets.data.toList.drop 23 = dktX1_livingLimpets_1 := dk_seg dksX1_livingLimpets_0 23 rfl rfl
theorem dksX1_livingLimpets_2 : cX1_livingLimpets.data.toList.drop 46 = dktX1_livingLimpets_2 := dk_seg dksX1_livingLimpets_1 23 rfl rfl
theorem dX1_livingLimpets_0 : decode cX1_livingLimpets 0 = .ok (.iconst 0, 1) := dk_3 (dk_at dksX1_livingLimpets_0 0 rfl rfl)
theorem dX1_livingLimpets_1 : decode cX1_livingLimpets 1 = .ok (.istore_n 1, 1) := dk_60 (dk_at dksX1_livingLimpets_0 1 rfl rfl)
theorem dX1_livingLimpets_2 : decode cX1_livingLimpets 2 = .ok (.iconst 0, 1) := dk_3 (dk_at dksX1_livingLimpets_0 2 rfl rfl)
theorem dX1_livingLimpets_3 : decode cX1_livingLimpets 3 = .ok (.istore_n 2, 1) := dk_61 (dk_at dksX1_livingLimpets_0 3 rfl rfl)
theorem dX1_livingLimpets_4 : decode cX1_livingLimpets 4 = .ok (.iload_n 2, 1) := dk_28 (dk_at dksX1_livingLimpets_0 4 rfl rfl)
theorem dX1_livingLimpets_5 : decode cX1_livingLimpets 5 = .ok (.aload_n 0, 1) := dk_42 (dk_at dksX1_livingLimpets_0 5 rfl rfl)
theorem dX1_livingLimpets_6 : decode cX1_livingLimpets 6 = .ok (.getfield 10, 3) := dk_180 0 10 (dk_at dksX1_livingLimpets_0 6 rfl rfl)
theorem dX1_livingLimpets_9 : decode cX1_livingLimpets 9 = .ok (.getfield 46, 3) := dk_180 0 46 (dk_at dksX1_livingLimpets_0 9 rfl rfl)
theorem dX1_livingLimpets_12 : decode cX1_livingLimpets 12 = .ok (.invokevirtual 50, 3) := dk_182 0 50 (dk_at dksX1_livingLimpets_0 12 rfl rfl)
theorem dX1_livingLimpets_15 : decode cX1_livingLimpets 15 = .ok (.if_icmp .ge 37, 3) := dk_162 0 37 (dk_at dksX1_livingLimpets_0 15 rfl rfl)
theorem dX1_livingLimpets_18 : decode cX1_livingLimpets 18 = .ok (.iload_n 1, 1) := dk_27 (dk_at dksX1_livingLimpets_0 18 rfl rfl)
theorem dX1_livingLimpets_19 : decode cX1_livingLimpets 19 = .ok (.aload_n 0, 1) := dk_42 (dk_at dksX1_livingLimpets_0 19 rfl rfl)
theorem dX1_livingLimpets_20 : decode cX1_livingLimpets 20 = .ok (.getfield 10, 3) := dk_180 0 10 (dk_at dksX1_livingLimpets_0 20 rfl rfl)
theorem dX1_livingLimpets_23 : decode cX1_livingLimpets 23 = .ok (.getfield 46, 3) := dk_180 0 46 (dk_at dksX1_livingLimpets_1 0 rfl rfl)
theorem dX1_livingLimpets_26 : decode cX1_livingLimpets 26 = .ok (.iload_n 2, 1) := dk_28 (dk_at dksX1_livingLimpets_1 3 rfl rfl)
theorem dX1_livingLimpets_27 : decode cX1_livingLimpets 27 = .ok (.invokevirtual 56, 3) := dk_182 0 56 (dk_at dksX1_livingLimpets_1 4 rfl rfl)
theorem dX1_livingLimpets_30 : decode cX1_livingLimpets 30 = .ok (.checkcast 60, 3) := dk_192 0 60 (dk_at dksX1_livingLimpets_1 7 rfl rfl)
theorem dX1_livingLimpets_33 : decode cX1_livingLimpets 33 = .ok (.invokevirtual 248, 3) := dk_182 0 248 (dk_at dksX1_livingLimpets_1 10 rfl rfl)
theorem dX1_livingLimpets_36 : decode cX1_livingLimpets 36 = .ok (.ifCond .eq 7, 3) := dk_153 0 7 (dk_at dksX1_livingLimpets_1 13 rfl rfl)
theorem dX1_livingLimpets_39 : decode cX1_livingLimpets 39 = .ok (.iconst 1, 1) := dk_4 (dk_at dksX1_livingLimpets_1 16 rfl rfl)
theorem dX1_livingLimpets_40 : decode cX1_livingLimpets 40 = .ok (.goto 4, 3) := dk_167 0 4 (dk_at dksX1_livingLimpets_1 17 rfl rfl)
theorem dX1_livingLimpets_43 : decode cX1_livingLimpets 43 = .ok (.iconst 0, 1) := dk_3 (dk_at dksX1_livingLimpets_1 20 rfl rfl)
theorem dX1_livingLimpets_44 : decode cX1_livingLimpets 44 = .ok (.iadd, 1) := dk_96 (dk_at dksX1_livingLimpets_1 21 rfl rfl)
theorem dX1_livingLimpets_45 : decode cX1_livingLimpets 45 = .ok (.istore_n 1, 1) := dk_60 (dk_at dksX1_livingLimpets_1 22 rfl rfl)
theorem dX1_livingLimpets_46 : decode cX1_livingLimpets 46 = .ok (.iinc 2 1, 3) := dk_132 2 1 (dk_at dksX1_livingLimpets_2 0 rfl rfl)
theorem dX1_livingLimpets_49 : decode cX1_livingLimpets 49 = .ok (.goto (-45), 3) := dk_167 255 211 (dk_at dksX1_livingLimpets_2 3 rfl rfl)
theorem dX1_livingLimpets_52 : decode cX1_livingLimpets 52 = .ok (.iload_n 1, 1) := dk_27 (dk_at dksX1_livingLimpets_2 6 rfl rfl)
theorem dX1_livingLimpets_53 : decode cX1_livingLimpets 53 = .ok (.ireturn, 1) := dk_172 (dk_at dksX1_livingLimpets_2 7 rfl rfl)
abbrev cX1_driest : ByteArray := prog_1_method_77_code
def yX1_driest : MethodName := ⟨RX1, "driest", "()I"⟩
def dkwX1_driest_5 : List UInt8 := [28, 60, 132, 2, 1, 167, 255, 137, 27, 172]
abbrev dktX1_driest_5 : List UInt8 := dkwX1_driest_5 ++ []
def dkwX1_driest_4 : List UInt8 := [4, 167, 0, 4, 3, 54, 5, 45, 182, 0, 248, 153, 0, 15, 27, 2, 159, 0, 8, 21, 5, 153, 0, 5]
abbrev dktX1_driest_4 : List UInt8 := dkwX1_driest_4 ++ dktX1_driest_5
def dkwX1_driest_3 : List UInt8 := [45, 180, 0, 193, 25, 4, 180, 0, 193, 160, 0, 19, 45, 180, 0, 199, 25, 4, 180, 0, 199, 162, 0, 7]
abbrev dktX1_driest_3 : List UInt8 := dkwX1_driest_3 ++ dktX1_driest_4
def dkwX1_driest_2 : List UInt8 := [180, 0, 46, 27, 182, 0, 56, 192, 0, 60, 58, 4, 45, 180, 0, 193, 25, 4, 180, 0, 193, 161, 0, 27]
abbrev dktX1_driest_2 : List UInt8 := dkwX1_driest_2 ++ dktX1_driest_3
def dkwX1_driest_1 : List UInt8 := [180, 0, 46, 28, 182, 0, 56, 192, 0, 60, 78, 27, 2, 160, 0, 7, 45, 167, 0, 17, 42, 180, 0, 10]
abbrev dktX1_driest_1 : List UInt8 := dkwX1_driest_1 ++ dktX1_driest_2
def dkwX1_driest_0 : List UInt8 := [2, 60, 3, 61, 28, 42, 180, 0, 10, 180, 0, 46, 182, 0, 50, 162, 0, 111, 42, 180, 0, 10]
abbrev dktX1_driest_0 : List UInt8 := dkwX1_driest_0 ++ dktX1_driest_1
theorem dksX1_driest_0 : cX1_driest.data.toList.drop 0 = dktX1_driest_0 := by decide +kernel
theorem dksX1_driest_1 : cX1_driest.data.toList.drop 22 = dktX1_driest_1 := dk_seg dksX1_driest_0 22 rfl rfl
theorem dksX1_driest_2 : cX1_driest.data.toList.drop 46 = dktX1_driest_2 := dk_seg dksX1_driest_1 24 rfl rfl
theorem dksX1_driest_3 : cX1_driest.data.toList.drop 70 = dktX1_driest_3 := dk_seg dksX1_driest_2 24 rfl rfl
theorem dksX1_driest_4 : cX1_driest.data.toList.drop 94 = dktX1_driest_4 := dk_seg dksX1_driest_3 24 rfl rfl
theorem dksX1_driest_5 : cX1_driest.data.toList.drop 118 = dktX1_driest_5 := dk_seg dksX1_driest_4 24 rfl rfl
theorem dX1_driest_0 : decode cX1_driest 0 = .ok (.iconst (-1), 1) := dk_2 (dk_at dksX1_driest_0 0 rfl rfl)
theorem dX1_driest_1 : decode cX1_driest 1 = .ok (.istore_n 1, 1) := dk_60 (dk_at dksX1_driest_0 1 rfl rfl)
theorem dX1_driest_2 : decode cX1_driest 2 = .ok (.iconst 0, 1) := dk_3 (dk_at dksX1_driest_0 2 rfl rfl)
theorem dX1_driest_3 : decode cX1_driest 3 = .ok (.istore_n 2, 1) := dk_61 (dk_at dksX1_driest_0 3 rfl rfl)
theorem dX1_driest_4 : decode cX1_driest 4 = .ok (.iload_n 2, 1) := dk_28 (dk_at dksX1_driest_0 4 rfl rfl)
theorem dX1_driest_5 : decode cX1_driest 5 = .ok (.aload_n 0, 1) := dk_42 (dk_at dksX1_driest_0 5 rfl rfl)
theorem dX1_driest_6 : decode cX1_driest 6 = .ok (.getfield 10, 3) := dk_180 0 10 (dk_at dksX1_driest_0 6 rfl rfl)
theorem dX1_driest_9 : decode cX1_driest 9 = .ok (.getfield 46, 3) := dk_180 0 46 (dk_at dksX1_driest_0 9 rfl rfl)
theorem dX1_driest_12 : decode cX1_driest 12 = .ok (.invokevirtual 50, 3) := dk_182 0 50 (dk_at dksX1_driest_0 12 rfl rfl)
theorem dX1_driest_15 : decode cX1_driest 15 = .ok (.if_icmp .ge 111, 3) := dk_162 0 111 (dk_at dksX1_driest_0 15 rfl rfl)
theorem dX1_driest_18 : decode cX1_driest 18 = .ok (.aload_n 0, 1) := dk_42 (dk_at dksX1_driest_0 18 rfl rfl)
theorem dX1_driest_19 : decode cX1_driest 19 = .ok (.getfield 10, 3) := dk_180 0 10 (dk_at dksX1_driest_0 19 rfl rfl)
theorem dX1_driest_22 : decode cX1_driest 22 = .ok (.getfield 46, 3) := dk_180 0 46 (dk_at dksX1_driest_1 0 rfl rfl)
theorem dX1_driest_25 : decode cX1_driest 25 = .ok (.iload_n 2, 1) := dk_28 (dk_at dksX1_driest_1 3 rfl rfl)
theorem dX1_driest_26 : decode cX1_driest 26 = .ok (.invokevirtual 56, 3) := dk_182 0 56 (dk_at dksX1_driest_1 4 rfl rfl)
theorem dX1_driest_29 : decode cX1_driest 29 = .ok (.checkcast 60, 3) := dk_192 0 60 (dk_at dksX1_driest_1 7 rfl rfl)
theorem dX1_driest_32 : decode cX1_driest 32 = .ok (.astore_n 3, 1) := dk_78 (dk_at dksX1_driest_1 10 rfl rfl)
theorem dX1_driest_33 : decode cX1_driest 33 = .ok (.iload_n 1, 1) := dk_27 (dk_at dksX1_driest_1 11 rfl rfl)
theorem dX1_driest_34 : decode cX1_driest 34 = .ok (.iconst (-1), 1) := dk_2 (dk_at dksX1_driest_1 12 rfl rfl)
theorem dX1_driest_35 : decode cX1_driest 35 = .ok (.if_icmp .ne 7, 3) := dk_160 0 7 (dk_at dksX1_driest_1 13 rfl rfl)
theorem dX1_driest_38 : decode cX1_driest 38 = .ok (.aload_n 3, 1) := dk_45 (dk_at dksX1_driest_1 16 rfl rfl)
theorem dX1_driest_39 : decode cX1_driest 39 = .ok (.goto 17, 3) := dk_167 0 17 (dk_at dksX1_driest_1 17 rfl rfl)
theorem dX1_driest_42 : decode cX1_driest 42 = .ok (.aload_n 0, 1) := dk_42 (dk_at dksX1_driest_1 20 rfl rfl)
theorem dX1_driest_43 : decode cX1_driest 43 = .ok (.getfield 10, 3) := dk_180 0 10 (dk_at dksX1_driest_1 21 rfl rfl)
theorem dX1_driest_46 : decode cX1_driest 46 = .ok (.getfield 46, 3) := dk_180 0 46 (dk_at dksX1_driest_2 0 rfl rfl)
theorem dX1_driest_49 : decode cX1_driest 49 = .ok (.iload_n 1, 1) := dk_27 (dk_at dksX1_driest_2 3 rfl rfl)
theorem dX1_driest_50 : decode cX1_driest 50 = .ok (.invokevirtual 56, 3) := dk_182 0 56 (dk_at dksX1_driest_2 4 rfl rfl)
theorem dX1_driest_53 : decode cX1_driest 53 = .ok (.checkcast 60, 3) := dk_192 0 60 (dk_at dksX1_driest_2 7 rfl rfl)
theorem dX1_driest_56 : decode cX1_driest 56 = .ok (.astore 4, 2) := dk_58 4 (dk_at dksX1_driest_2 10 rfl rfl)
theorem dX1_driest_58 : decode cX1_driest 58 = .ok (.aload_n 3, 1) := dk_45 (dk_at dksX1_driest_2 12 rfl rfl)
theorem dX1_driest_59 : decode cX1_driest 59 = .ok (.getfield 193, 3) := dk_180 0 193 (dk_at dksX1_driest_2 13 rfl rfl)
theorem dX1_driest_62 : decode cX1_driest 62 = .ok (.aload 4, 2) := dk_25 4 (dk_at dksX1_driest_2 16 rfl rfl)
theorem dX1_driest_64 : decode cX1_driest 64 = .ok (.getfield 193, 3) := dk_180 0 193 (dk_at dksX1_driest_2 18 rfl rfl)
theorem dX1_driest_67 : decode cX1_driest 67 = .ok (.if_icmp .lt 27, 3) := dk_161 0 27 (dk_at dksX1_driest_2 21 rfl rfl)
theorem dX1_driest_70 : decode cX1_driest 70 = .ok (.aload_n 3, 1) := dk_45 (dk_at dksX1_driest_3 0 rfl rfl)
theorem dX1_driest_71 : decode cX1_driest 71 = .ok (.getfield 193, 3) := dk_180 0 193 (dk_at dksX1_driest_3 1 rfl rfl)
theorem dX1_driest_74 : decode cX1_driest 74 = .ok (.aload 4, 2) := dk_25 4 (dk_at dksX1_driest_3 4 rfl rfl)
theorem dX1_driest_76 : decode cX1_driest 76 = .ok (.getfield 193, 3) := dk_180 0 193 (dk_at dksX1_driest_3 6 rfl rfl)
theorem dX1_driest_79 : decode cX1_driest 79 = .ok (.if_icmp .ne 19, 3) := dk_160 0 19 (dk_at dksX1_driest_3 9 rfl rfl)
theorem dX1_driest_82 : decode cX1_driest 82 = .ok (.aload_n 3, 1) := dk_45 (dk_at dksX1_driest_3 12 rfl rfl)
theorem dX1_driest_83 : decode cX1_driest 83 = .ok (.getfield 199, 3) := dk_180 0 199 (dk_at dksX1_driest_3 13 rfl rfl)
theorem dX1_driest_86 : decode cX1_driest 86 = .ok (.aload 4, 2) := dk_25 4 (dk_at dksX1_driest_3 16 rfl rfl)
theorem dX1_driest_88 : decode cX1_driest 88 = .ok (.getfield 199, 3) := dk_180 0 199 (dk_at dksX1_driest_3 18 rfl rfl)
theorem dX1_driest_91 : decode cX1_driest 91 = .ok (.if_icmp .ge 7, 3) := dk_162 0 7 (dk_at dksX1_driest_3 21 rfl rfl)
theorem dX1_driest_94 : decode cX1_driest 94 = .ok (.iconst 1, 1) := dk_4 (dk_at dksX1_driest_4 0 rfl rfl)
theorem dX1_driest_95 : decode cX1_driest 95 = .ok (.goto 4, 3) := dk_167 0 4 (dk_at dksX1_driest_4 1 rfl rfl)
theorem dX1_driest_98 : decode cX1_driest 98 = .ok (.iconst 0, 1) := dk_3 (dk_at dksX1_driest_4 4 rfl rfl)
theorem dX1_driest_99 : decode cX1_driest 99 = .ok (.istore 5, 2) := dk_54 5 (dk_at dksX1_driest_4 5 rfl rfl)
theorem dX1_driest_101 : decode cX1_driest 101 = .ok (.aload_n 3, 1) := dk_45 (dk_at dksX1_driest_4 7 rfl rfl)
theorem dX1_driest_102 : decode cX1_driest 102 = .ok (.invokevirtual 248, 3) := dk_182 0 248 (dk_at dksX1_driest_4 8 rfl rfl)
theorem dX1_driest_105 : decode cX1_driest 105 = .ok (.ifCond .eq 15, 3) := dk_153 0 15 (dk_at dksX1_driest_4 11 rfl rfl)
theorem dX1_driest_108 : decode cX1_driest 108 = .ok (.iload_n 1, 1) := dk_27 (dk_at dksX1_driest_4 14 rfl rfl)
theorem dX1_driest_109 : decode cX1_driest 109 = .ok (.iconst (-1), 1) := dk_2 (dk_at dksX1_driest_4 15 rfl rfl)
theorem dX1_driest_110 : decode cX1_driest 110 = .ok (.if_icmp .eq 8, 3) := dk_159 0 8 (dk_at dksX1_driest_4 16 rfl rfl)
theorem dX1_driest_113 : decode cX1_driest 113 = .ok (.iload 5, 2) := dk_21 5 (dk_at dksX1_driest_4 19 rfl rfl)
theorem dX1_driest_115 : decode cX1_driest 115 = .ok (.ifCond .eq 5, 3) := dk_153 0 5 (dk_at dksX1_driest_4 21 rfl rfl)
theorem dX1_driest_118 : decode cX1_driest 118 = .ok (.iload_n 2, 1) := dk_28 (dk_at dksX1_driest_5 0 rfl rfl)
theorem dX1_driest_119 : decode cX1_driest 119 = .ok (.istore_n 1, 1) := dk_60 (dk_at dksX1_driest_5 1 rfl rfl)
theorem dX1_driest_120 : decode cX1_driest 120 = .ok (.iinc 2 1, 3) := dk_132 2 1 (dk_at dksX1_driest_5 2 rfl rfl)
theorem dX1_driest_123 : decode cX1_driest 123 = .ok (.goto (-119), 3) := dk_167 255 137 (dk_at dksX1_driest_5 5 rfl rfl)
theorem dX1_driest_126 : decode cX1_driest 126 = .ok (.iload_n 1, 1) := dk_27 (dk_at dksX1_driest_5 8 rfl rfl)
theorem dX1_driest_127 : decode cX1_driest 127 = .ok (.ireturn, 1) := dk_172 (dk_at dksX1_driest_5 9 rfl rfl)
abbrev cX1_shells : ByteArray := prog_1_method_78_code
def yX1_shells : MethodName := ⟨RX1, "shells", "()I"⟩
def dkwX1_shells_0 : List UInt8 := [42, 180, 0, 10, 180, 0, 62, 182, 0, 50, 172]
abbrev dktX1_shells_0 : List UInt8 := dkwX1_shells_0 ++ []
theorem dksX1_shells_0 : cX1_shells.data.toList.drop 0 = dktX1_shells_0 := by decide +kernel
theorem dX1_shells_0 : decode cX1_shells 0 = .ok (.aload_n 0, 1) := dk_42 (dk_at dksX1_shells_0 0 rfl rfl)
theorem dX1_shells_1 : decode cX1_shells 1 = .ok (.getfield 10, 3) := dk_180 0 10 (dk_at dksX1_shells_0 1 rfl rfl)
theorem dX1_shells_4 : decode cX1_shells 4 = .ok (.getfield 62, 3) := dk_180 0 62 (dk_at dksX1_shells_0 4 rfl rfl)
theorem dX1_shells_7 : decode cX1_shells 7 = .ok (.invokevirtual 50, 3) := dk_182 0 50 (dk_at dksX1_shells_0 7 rfl rfl)
theorem dX1_shells_10 : decode cX1_shells 10 = .ok (.ireturn, 1) := dk_172 (dk_at dksX1_shells_0 10 rfl rfl)
abbrev cX1_crabs : ByteArray := prog_1_method_79_code
def yX1_crabs : MethodName := ⟨RX1, "crabs", "()I"⟩
def dkwX1_crabs_0 : List UInt8 := [42, 180, 0, 10, 180, 0, 67, 182, 0, 50, 172]
abbrev dktX1_crabs_0 : List UInt8 := dkwX1_crabs_0 ++ []
theorem dksX1_crabs_0 : cX1_crabs.data.toList.drop 0 = dktX1_crabs_0 := by decide +kernel
theorem dX1_crabs_0 : decode cX1_crabs 0 = .ok (.aload_n 0, 1) := dk_42 (dk_at dksX1_crabs_0 0 rfl rfl)
theorem dX1_crabs_1 : decode cX1_crabs 1 = .ok (.getfield 10, 3) := dk_180 0 10 (dk_at dksX1_crabs_0 1 rfl rfl)
theorem dX1_crabs_4 : decode cX1_crabs 4 = .ok (.getfield 67, 3) := dk_180 0 67 (dk_at dksX1_crabs_0 4 rfl rfl)
theorem dX1_crabs_7 : decode cX1_crabs 7 = .ok (.invokevirtual 50, 3) := dk_182 0 50 (dk_at dksX1_crabs_0 7 rfl rfl)
theorem dX1_crabs_10 : decode cX1_crabs 10 = .ok (.ireturn, 1) := dk_172 (dk_at dksX1_crabs_0 10 rfl rfl)
abbrev cX1_livingCrabs : ByteArray := prog_1_method_80_code
def yX1_livingCrabs : MethodName := ⟨RX1, "livingCrabs", "()I"⟩
def dkwX1_livingCrabs_2 : List UInt8 := [132, 2, 1, 167, 255, 211, 27, 172]
abbrev dktX1_livingCrabs_2 : List UInt8 := dkwX1_livingCrabs_2 ++ []
def dkwX1_livingCrabs_1 : List UInt8 := [180, 0, 67, 28, 182, 0, 56, 192, 0, 70, 182, 0, 150, 153, 0, 7, 4, 167, 0, 4, 3, 96, 60]
abbrev dktX1_livingCrabs_1 : List UInt8 := dkwX1_livingCrabs_1 ++ dktX1_livingCrabs_2
def dkwX1_livingCrabs_0 : List UInt8 := [3, 60, 3, 61, 28, 42, 180, 0, 10, 180, 0, 67, 182, 0, 50, 162, 0, 37, 27, 42, 180, 0, 10]
abbrev dktX1_livingCrabs_0 : List UInt8 := dkwX1_livingCrabs_0 ++ dktX1_livingCrabs_1
theorem dksX1_livingCrabs_0 : cX1_livingCrabs.data.toList.drop 0 = dktX1_livingCrabs_0 := by decide +kernel
theorem dksX1_livingCrabs_1 : cX1_livingCrabs.data.toList.drop 23 = dktX1_livingCrabs_1 := dk_seg dksX1_livingCrabs_0 23 rfl rfl
theorem dksX1_livingCrabs_2 : cX1_livingCrabs.data.toList.drop 46 = dktX1_livingCrabs_2 := dk_seg dksX1_livingCrabs_1 23 rfl rfl
theorem dX1_livingCrabs_0 : decode cX1_livingCrabs 0 = .ok (.iconst 0, 1) := dk_3 (dk_at dksX1_livingCrabs_0 0 rfl rfl)
theorem dX1_livingCrabs_1 : decode cX1_livingCrabs 1 = .ok (.istore_n 1, 1) := dk_60 (dk_at dksX1_livingCrabs_0 1 rfl rfl)
theorem dX1_livingCrabs_2 : decode cX1_livingCrabs 2 = .ok (.iconst 0, 1) := dk_3 (dk_at dksX1_livingCrabs_0 2 rfl rfl)
theorem dX1_livingCrabs_3 : decode cX1_livingCrabs 3 = .ok (.istore_n 2, 1) := dk_61 (dk_at dksX1_livingCrabs_0 3 rfl rfl)
theorem dX1_livingCrabs_4 : decode cX1_livingCrabs 4 = .ok (.iload_n 2, 1) := dk_28 (dk_at dksX1_livingCrabs_0 4 rfl rfl)
theorem dX1_livingCrabs_5 : decode cX1_livingCrabs 5 = .ok (.aload_n 0, 1) := dk_42 (dk_at dksX1_livingCrabs_0 5 rfl rfl)
theorem dX1_livingCrabs_6 : decode cX1_livingCrabs 6 = .ok (.getfield 10, 3) := dk_180 0 10 (dk_at dksX1_livingCrabs_0 6 rfl rfl)
theorem dX1_livingCrabs_9 : decode cX1_livingCrabs 9 = .ok (.getfield 67, 3) := dk_180 0 67 (dk_at dksX1_livingCrabs_0 9 rfl rfl)
theorem dX1_livingCrabs_12 : decode cX1_livingCrabs 12 = .ok (.invokevirtual 50, 3) := dk_182 0 50 (dk_at dksX1_livingCrabs_0 12 rfl rfl)
theorem dX1_livingCrabs_15 : decode cX1_livingCrabs 15 = .ok (.if_icmp .ge 37, 3) := dk_162 0 37 (dk_at dksX1_livingCrabs_0 15 rfl rfl)
theorem dX1_livingCrabs_18 : decode cX1_livingCrabs 18 = .ok (.iload_n 1, 1) := dk_27 (dk_at dksX1_livingCrabs_0 18 rfl rfl)
theorem dX1_livingCrabs_19 : decode cX1_livingCrabs 19 = .ok (.aload_n 0, 1) := dk_42 (dk_at dksX1_livingCrabs_0 19 rfl rfl)
theorem dX1_livingCrabs_20 : decode cX1_livingCrabs 20 = .ok (.getfield 10, 3) := dk_180 0 10 (dk_at dksX1_livingCrabs_0 20 rfl rfl)
theorem dX1_livingCrabs_23 : decode cX1_livingCrabs 23 = .ok (.getfield 67, 3) := dk_180 0 67 (dk_at dksX1_livingCrabs_1 0 rfl rfl)
theorem dX1_livingCrabs_26 : decode cX1_livingCrabs 26 = .ok (.iload_n 2, 1) := dk_28 (dk_at dksX1_livingCrabs_1 3 rfl rfl)
theorem dX1_livingCrabs_27 : decode cX1_livingCrabs 27 = .ok (.invokevirtual 56, 3) := dk_182 0 56 (dk_at dksX1_livingCrabs_1 4 rfl rfl)
theorem dX1_livingCrabs_30 : decode cX1_livingCrabs 30 = .ok (.checkcast 70, 3) := dk_192 0 70 (dk_at dksX1_livingCrabs_1 7 rfl rfl)
theorem dX1_livingCrabs_33 : decode cX1_livingCrabs 33 = .ok (.invokevirtual 150, 3) := dk_182 0 150 (dk_at dksX1_livingCrabs_1 10 rfl rfl)
theorem dX1_livingCrabs_36 : decode cX1_livingCrabs 36 = .ok (.ifCond .eq 7, 3) := dk_153 0 7 (dk_at dksX1_livingCrabs_1 13 rfl rfl)
theorem dX1_livingCrabs_39 : decode cX1_livingCrabs 39 = .ok (.iconst 1, 1) := dk_4 (dk_at dksX1_livingCrabs_1 16 rfl rfl)
theorem dX1_livingCrabs_40 : decode cX1_livingCrabs 40 = .ok (.goto 4, 3) := dk_167 0 4 (dk_at dksX1_livingCrabs_1 17 rfl rfl)
theorem dX1_livingCrabs_43 : decode cX1_livingCrabs 43 = .ok (.iconst 0, 1) := dk_3 (dk_at dksX1_livingCrabs_1 20 rfl rfl)
theorem dX1_livingCrabs_44 : decode cX1_livingCrabs 44 = .ok (.iadd, 1) := dk_96 (dk_at dksX1_livingCrabs_1 21 rfl rfl)
theorem dX1_livingCrabs_45 : decode cX1_livingCrabs 45 = .ok (.istore_n 1, 1) := dk_60 (dk_at dksX1_livingCrabs_1 22 rfl rfl)
theorem dX1_livingCrabs_46 : decode cX1_livingCrabs 46 = .ok (.iinc 2 1, 3) := dk_132 2 1 (dk_at dksX1_livingCrabs_2 0 rfl rfl)
theorem dX1_livingCrabs_49 : decode cX1_livingCrabs 49 = .ok (.goto (-45), 3) := dk_167 255 211 (dk_at dksX1_livingCrabs_2 3 rfl rfl)
theorem dX1_livingCrabs_52 : decode cX1_livingCrabs 52 = .ok (.iload_n 1, 1) := dk_27 (dk_at dksX1_livingCrabs_2 6 rfl rfl)
theorem dX1_livingCrabs_53 : decode cX1_livingCrabs 53 = .ok (.ireturn, 1) := dk_172 (dk_at dksX1_livingCrabs_2 7 rfl rfl)
abbrev cX1_wornByShells : ByteArray := prog_1_method_81_code
def yX1_wornByShells : MethodName := ⟨RX1, "wornByShells", "()I"⟩
def dkwX1_wornByShells_2 : List UInt8 := [132, 2, 1, 167, 255, 210, 27, 172]
abbrev dktX1_wornByShells_2 : List UInt8 := dkwX1_wornByShells_2 ++ []
def dkwX1_wornByShells_1 : List UInt8 := [180, 0, 62, 28, 182, 0, 56, 192, 0, 65, 180, 0, 134, 2, 160, 0, 7, 3, 167, 0, 4, 4, 96, 60]
abbrev dktX1_wornByShells_1 : List UInt8 := dkwX1_wornByShells_1 ++ dktX1_wornByShells_2
def dkwX1_wornByShells_0 : List UInt8 := [3, 60, 3, 61, 28, 42, 180, 0, 10, 180, 0, 62, 182, 0, 50, 162, 0, 38, 27, 42, 180, 0, 10]
abbrev dktX1_wornByShells_0 : List UInt8 := dkwX1_wornByShells_0 ++ dktX1_wornByShells_1
theorem dksX1_wornByShells_0 : cX1_wornByShells.data.toList.drop 0 = dktX1_wornByShells_0 := by decide +kernel
theorem dksX1_wornByShells_1 : cX1_wornByShells.data.toList.drop 23 = dktX1_wornByShells_1 := dk_seg dksX1_wornByShells_0 23 rfl rfl
theorem dksX1_wornByShells_2 : cX1_wornByShells.data.toList.drop 47 = dktX1_wornByShells_2 := dk_seg dksX1_wornByShells_1 24 rfl rfl
theorem dX1_wornByShells_0 : decode cX1_wornByShells 0 = .ok (.iconst 0, 1) := dk_3 (dk_at dksX1_wornByShells_0 0 rfl rfl)
theorem dX1_wornByShells_1 : decode cX1_wornByShells 1 = .ok (.istore_n 1, 1) := dk_60 (dk_at dksX1_wornByShells_0 1 rfl rfl)
theorem dX1_wornByShells_2 : decode cX1_wornByShells 2 = .ok (.iconst 0, 1) := dk_3 (dk_at dksX1_wornByShells_0 2 rfl rfl)
theorem dX1_wornByShells_3 : decode cX1_wornByShells 3 = .ok (.istore_n 2, 1) := dk_61 (dk_at dksX1_wornByShells_0 3 rfl rfl)
theorem dX1_wornByShells_4 : decode cX1_wornByShells 4 = .ok (.iload_n 2, 1) := dk_28 (dk_at dksX1_wornByShells_0 4 rfl rfl)
theorem dX1_wornByShells_5 : decode cX1_wornByShells 5 = .ok (.aload_n 0, 1) := dk_42 (dk_at dksX1_wornByShells_0 5 rfl rfl)
theorem dX1_wornByShells_6 : decode cX1_wornByShells 6 = .ok (.getfield 10, 3) := dk_180 0 10 (dk_at dksX1_wornByShells_0 6 rfl rfl)
theorem dX1_wornByShells_9 : decode cX1_wornByShells 9 = .ok (.getfield 62, 3) := dk_180 0 62 (dk_at dksX1_wornByShells_0 9 rfl rfl)
theorem dX1_wornByShells_12 : decode cX1_wornByShells 12 = .ok (.invokevirtual 50, 3) := dk_182 0 50 (dk_at dksX1_wornByShells_0 12 rfl rfl)
theorem dX1_wornByShells_15 : decode cX1_wornByShells 15 = .ok (.if_icmp .ge 38, 3) := dk_162 0 38 (dk_at dksX1_wornByShells_0 15 rfl rfl)
theorem dX1_wornByShells_18 : decode cX1_wornByShells 18 = .ok (.iload_n 1, 1) := dk_27 (dk_at dksX1_wornByShells_0 18 rfl rfl)
theorem dX1_wornByShells_19 : decode cX1_wornByShells 19 = .ok (.aload_n 0, 1) := dk_42 (dk_at dksX1_wornByShells_0 19 rfl rfl)
theorem dX1_wornByShells_20 : decode cX1_wornByShells 20 = .ok (.getfield 10, 3) := dk_180 0 10 (dk_at dksX1_wornByShells_0 20 rfl rfl)
theorem dX1_wornByShells_23 : decode cX1_wornByShells 23 = .ok (.getfield 62, 3) := dk_180 0 62 (dk_at dksX1_wornByShells_1 0 rfl rfl)
theorem dX1_wornByShells_26 : decode cX1_wornByShells 26 = .ok (.iload_n 2, 1) := dk_28 (dk_at dksX1_wornByShells_1 3 rfl rfl)
theorem dX1_wornByShells_27 : decode cX1_wornByShells 27 = .ok (.invokevirtual 56, 3) := dk_182 0 56 (dk_at dksX1_wornByShells_1 4 rfl rfl)
theorem dX1_wornByShells_30 : decode cX1_wornByShells 30 = .ok (.checkcast 65, 3) := dk_192 0 65 (dk_at dksX1_wornByShells_1 7 rfl rfl)
theorem dX1_wornByShells_33 : decode cX1_wornByShells 33 = .ok (.getfield 134, 3) := dk_180 0 134 (dk_at dksX1_wornByShells_1 10 rfl rfl)
theorem dX1_wornByShells_36 : decode cX1_wornByShells 36 = .ok (.iconst (-1), 1) := dk_2 (dk_at dksX1_wornByShells_1 13 rfl rfl)
theorem dX1_wornByShells_37 : decode cX1_wornByShells 37 = .ok (.if_icmp .ne 7, 3) := dk_160 0 7 (dk_at dksX1_wornByShells_1 14 rfl rfl)
theorem dX1_wornByShells_40 : decode cX1_wornByShells 40 = .ok (.iconst 0, 1) := dk_3 (dk_at dksX1_wornByShells_1 17 rfl rfl)
theorem dX1_wornByShells_41 : decode cX1_wornByShells 41 = .ok (.goto 4, 3) := dk_167 0 4 (dk_at dksX1_wornByShells_1 18 rfl rfl)
theorem dX1_wornByShells_44 : decode cX1_wornByShells 44 = .ok (.iconst 1, 1) := dk_4 (dk_at dksX1_wornByShells_1 21 rfl rfl)
theorem dX1_wornByShells_45 : decode cX1_wornByShells 45 = .ok (.iadd, 1) := dk_96 (dk_at dksX1_wornByShells_1 22 rfl rfl)
theorem dX1_wornByShells_46 : decode cX1_wornByShells 46 = .ok (.istore_n 1, 1) := dk_60 (dk_at dksX1_wornByShells_1 23 rfl rfl)
theorem dX1_wornByShells_47 : decode cX1_wornByShells 47 = .ok (.iinc 2 1, 3) := dk_132 2 1 (dk_at dksX1_wornByShells_2 0 rfl rfl)
theorem dX1_wornByShells_50 : decode cX1_wornByShells 50 = .ok (.goto (-46), 3) := dk_167 255 210 (dk_at dksX1_wornByShells_2 3 rfl rfl)
theorem dX1_wornByShells_53 : decode cX1_wornByShells 53 = .ok (.iload_n 1, 1) := dk_27 (dk_at dksX1_wornByShells_2 6 rfl rfl)
theorem dX1_wornByShells_54 : decode cX1_wornByShells 54 = .ok (.ireturn, 1) := dk_172 (dk_at dksX1_wornByShells_2 7 rfl rfl)
abbrev cX1_wornByCrabs : ByteArray := prog_1_method_82_code
def yX1_wornByCrabs : MethodName := ⟨RX1, "wornByCrabs", "()I"⟩
def dkwX1_wornByCrabs_2 : List UInt8 := [132, 2, 1, 167, 255, 210, 27, 172]
abbrev dktX1_wornByCrabs_2 : List UInt8 := dkwX1_wornByCrabs_2 ++ []
def dkwX1_wornByCrabs_1 : List UInt8 := [180, 0, 67, 28, 182, 0, 56, 192, 0, 70, 180, 0, 113, 2, 160, 0, 7, 3, 167, 0, 4, 4, 96, 60]
abbrev dktX1_wornByCrabs_1 : List UInt8 := dkwX1_wornByCrabs_1 ++ dktX1_wornByCrabs_2
def dkwX1_wornByCrabs_0 : List UInt8 := [3, 60, 3, 61, 28, 42, 180, 0, 10, 180, 0, 67, 182, 0, 50, 162, 0, 38, 27, 42, 180, 0, 10]
abbrev dktX1_wornByCrabs_0 : List UInt8 := dkwX1_wornByCrabs_0 ++ dktX1_wornByCrabs_1
theorem dksX1_wornByCrabs_0 : cX1_wornByCrabs.data.toList.drop 0 = dktX1_wornByCrabs_0 := by decide +kernel
theorem dksX1_wornByCrabs_1 : cX1_wornByCrabs.data.toList.drop 23 = dktX1_wornByCrabs_1 := dk_seg dksX1_wornByCrabs_0 23 rfl rfl
theorem dksX1_wornByCrabs_2 : cX1_wornByCrabs.data.toList.drop 47 = dktX1_wornByCrabs_2 := dk_seg dksX1_wornByCrabs_1 24 rfl rfl
theorem dX1_wornByCrabs_0 : decode cX1_wornByCrabs 0 = .ok (.iconst 0, 1) := dk_3 (dk_at dksX1_wornByCrabs_0 0 rfl rfl)
theorem dX1_wornByCrabs_1 : decode cX1_wornByCrabs 1 = .ok (.istore_n 1, 1) := dk_60 (dk_at dksX1_wornByCrabs_0 1 rfl rfl)
theorem dX1_wornByCrabs_2 : decode cX1_wornByCrabs 2 = .ok (.iconst 0, 1) := dk_3 (dk_at dksX1_wornByCrabs_0 2 rfl rfl)
theorem dX1_wornByCrabs_3 : decode cX1_wornByCrabs 3 = .ok (.istore_n 2, 1) := dk_61 (dk_at dksX1_wornByCrabs_0 3 rfl rfl)
theorem dX1_wornByCrabs_4 : decode cX1_wornByCrabs 4 = .ok (.iload_n 2, 1) := dk_28 (dk_at dksX1_wornByCrabs_0 4 rfl rfl)
theorem dX1_wornByCrabs_5 : decode cX1_wornByCrabs 5 = .ok (.aload_n 0, 1) := dk_42 (dk_at dksX1_wornByCrabs_0 5 rfl rfl)
theorem dX1_wornByCrabs_6 : decode cX1_wornByCrabs 6 = .ok (.getfield 10, 3) := dk_180 0 10 (dk_at dksX1_wornByCrabs_0 6 rfl rfl)
theorem dX1_wornByCrabs_9 : decode cX1_wornByCrabs 9 = .ok (.getfield 67, 3) := dk_180 0 67 (dk_at dksX1_wornByCrabs_0 9 rfl rfl)
theorem dX1_wornByCrabs_12 : decode cX1_wornByCrabs 12 = .ok (.invokevirtual 50, 3) := dk_182 0 50 (dk_at dksX1_wornByCrabs_0 12 rfl rfl)
theorem dX1_wornByCrabs_15 : decode cX1_wornByCrabs 15 = .ok (.if_icmp .ge 38, 3) := dk_162 0 38 (dk_at dksX1_wornByCrabs_0 15 rfl rfl)
theorem dX1_wornByCrabs_18 : decode cX1_wornByCrabs 18 = .ok (.iload_n 1, 1) := dk_27 (dk_at dksX1_wornByCrabs_0 18 rfl rfl)
theorem dX1_wornByCrabs_19 : decode cX1_wornByCrabs 19 = .ok (.aload_n 0, 1) := dk_42 (dk_at dksX1_wornByCrabs_0 19 rfl rfl)
theorem dX1_wornByCrabs_20 : decode cX1_wornByCrabs 20 = .ok (.getfield 10, 3) := dk_180 0 10 (dk_at dksX1_wornByCrabs_0 20 rfl rfl)
theorem dX1_wornByCrabs_23 : decode cX1_wornByCrabs 23 = .ok (.getfield 67, 3) := dk_180 0 67 (dk_at dksX1_wornByCrabs_1 0 rfl rfl)
theorem dX1_wornByCrabs_26 : decode cX1_wornByCrabs 26 = .ok (.iload_n 2, 1) := dk_28 (dk_at dksX1_wornByCrabs_1 3 rfl rfl)
theorem dX1_wornByCrabs_27 : decode cX1_wornByCrabs 27 = .ok (.invokevirtual 56, 3) := dk_182 0 56 (dk_at dksX1_wornByCrabs_1 4 rfl rfl)
theorem dX1_wornByCrabs_30 : decode cX1_wornByCrabs 30 = .ok (.checkcast 70, 3) := dk_192 0 70 (dk_at dksX1_wornByCrabs_1 7 rfl rfl)
theorem dX1_wornByCrabs_33 : decode cX1_wornByCrabs 33 = .ok (.getfield 113, 3) := dk_180 0 113 (dk_at dksX1_wornByCrabs_1 10 rfl rfl)
theorem dX1_wornByCrabs_36 : decode cX1_wornByCrabs 36 = .ok (.iconst (-1), 1) := dk_2 (dk_at dksX1_wornByCrabs_1 13 rfl rfl)
theorem dX1_wornByCrabs_37 : decode cX1_wornByCrabs 37 = .ok (.if_icmp .ne 7, 3) := dk_160 0 7 (dk_at dksX1_wornByCrabs_1 14 rfl rfl)
theorem dX1_wornByCrabs_40 : decode cX1_wornByCrabs 40 = .ok (.iconst 0, 1) := dk_3 (dk_at dksX1_wornByCrabs_1 17 rfl rfl)
theorem dX1_wornByCrabs_41 : decode cX1_wornByCrabs 41 = .ok (.goto 4, 3) := dk_167 0 4 (dk_at dksX1_wornByCrabs_1 18 rfl rfl)
theorem dX1_wornByCrabs_44 : decode cX1_wornByCrabs 44 = .ok (.iconst 1, 1) := dk_4 (dk_at dksX1_wornByCrabs_1 21 rfl rfl)
theorem dX1_wornByCrabs_45 : decode cX1_wornByCrabs 45 = .ok (.iadd, 1) := dk_96 (dk_at dksX1_wornByCrabs_1 22 rfl rfl)
theorem dX1_wornByCrabs_46 : decode cX1_wornByCrabs 46 = .ok (.istore_n 1, 1) := dk_60 (dk_at dksX1_wornByCrabs_1 23 rfl rfl)
theorem dX1_wornByCrabs_47 : decode cX1_wornByCrabs 47 = .ok (.iinc 2 1, 3) := dk_132 2 1 (dk_at dksX1_wornByCrabs_2 0 rfl rfl)
theorem dX1_wornByCrabs_50 : decode cX1_wornByCrabs 50 = .ok (.goto (-46), 3) := dk_167 255 210 (dk_at dksX1_wornByCrabs_2 3 rfl rfl)
theorem dX1_wornByCrabs_53 : decode cX1_wornByCrabs 53 = .ok (.iload_n 1, 1) := dk_27 (dk_at dksX1_wornByCrabs_2 6 rfl rfl)
theorem dX1_wornByCrabs_54 : decode cX1_wornByCrabs 54 = .ok (.ireturn, 1) := dk_172 (dk_at dksX1_wornByCrabs_2 7 rfl rfl)
abbrev cX1_heronAt : ByteArray := prog_1_method_93_code
def yX1_heronAt : MethodName := ⟨RX1, "heronAt", "()I"⟩
def dkwX1_heronAt_0 : List UInt8 := [42, 180, 0, 10, 180, 0, 213, 172]
abbrev dktX1_heronAt_0 : List UInt8 := dkwX1_heronAt_0 ++ []
theorem dksX1_heronAt_0 : cX1_heronAt.data.toList.drop 0 = dktX1_heronAt_0 := by decide +kernel
theorem dX1_heronAt_0 : decode cX1_heronAt 0 = .ok (.aload_n 0, 1) := dk_42 (dk_at dksX1_heronAt_0 0 rfl rfl)
theorem dX1_heronAt_1 : decode cX1_heronAt 1 = .ok (.getfield 10, 3) := dk_180 0 10 (dk_at dksX1_heronAt_0 1 rfl rfl)
theorem dX1_heronAt_4 : decode cX1_heronAt 4 = .ok (.getfield 213, 3) := dk_180 0 213 (dk_at dksX1_heronAt_0 4 rfl rfl)
theorem dX1_heronAt_7 : decode cX1_heronAt 7 = .ok (.ireturn, 1) := dk_172 (dk_at dksX1_heronAt_0 7 rfl rfl)
abbrev cX1_nextOfHeron : ByteArray := prog_1_method_94_code
def yX1_nextOfHeron : MethodName := ⟨RX1, "nextOfHeron", "()I"⟩
theorem dX1_nextOfHeron_0 : decode cX1_nextOfHeron 0 = .ok (.aload_n 0, 1) := by decide +kernel
theorem dX1_nextOfHeron_1 : decode cX1_nextOfHeron 1 = .ok (.invokevirtual 227, 3) := by decide +kernel
theorem dX1_nextOfHeron_4 : decode cX1_nextOfHeron 4 = .ok (.ireturn, 1) := by decide +kernel
abbrev cX1_nextBare : ByteArray := prog_1_method_27_code
def yX1_nextBare : MethodName := ⟨RX1, "nextBare", "()I"⟩
def dkwX1_nextBare_1 : List UInt8 := [182, 0, 174, 154, 0, 5, 28, 172, 132, 1, 1, 167, 255, 224, 2, 172]
abbrev dktX1_nextBare_1 : List UInt8 := dkwX1_nextBare_1 ++ []
def dkwX1_nextBare_0 : List UInt8 := [4, 60, 27, 16, 8, 163, 0, 32, 42, 180, 0, 10, 180, 0, 213, 27, 96, 16, 8, 112, 61, 42, 28]
abbrev dktX1_nextBare_0 : List UInt8 := dkwX1_nextBare_0 ++ dktX1_nextBare_1
theorem dksX1_nextBare_0 : cX1_nextBare.data.toList.drop 0 = dktX1_nextBare_0 := by decide +kernel
theorem dksX1_nextBare_1 : cX1_nextBare.data.toList.drop 23 = dktX1_nextBare_1 := dk_seg dksX1_nextBare_0 23 rfl rfl
theorem dX1_nextBare_0 : decode cX1_nextBare 0 = .ok (.iconst 1, 1) := dk_4 (dk_at dksX1_nextBare_0 0 rfl rfl)
theorem dX1_nextBare_1 : decode cX1_nextBare 1 = .ok (.istore_n 1, 1) := dk_60 (dk_at dksX1_nextBare_0 1 rfl rfl)
theorem dX1_nextBare_2 : decode cX1_nextBare 2 = .ok (.iload_n 1, 1) := dk_27 (dk_at dksX1_nextBare_0 2 rfl rfl)
theorem dX1_nextBare_3 : decode cX1_nextBare 3 = .ok (.bipush 8, 2) := dk_16 8 (dk_at dksX1_nextBare_0 3 rfl rfl)
theorem dX1_nextBare_5 : decode cX1_nextBare 5 = .ok (.if_icmp .gt 32, 3) := dk_163 0 32 (dk_at dksX1_nextBare_0 5 rfl rfl)
theorem dX1_nextBare_8 : decode cX1_nextBare 8 = .ok (.aload_n 0, 1) := dk_42 (dk_at dksX1_nextBare_0 8 rfl rfl)
theorem dX1_nextBare_9 : decode cX1_nextBare 9 = .ok (.getfield 10, 3) := dk_180 0 10 (dk_at dksX1_nextBare_0 9 rfl rfl)
theorem dX1_nextBare_12 : decode cX1_nextBare 12 = .ok (.getfield 213, 3) := dk_180 0 213 (dk_at dksX1_nextBare_0 12 rfl rfl)
theorem dX1_nextBare_15 : decode cX1_nextBare 15 = .ok (.iload_n 1, 1) := dk_27 (dk_at dksX1_nextBare_0 15 rfl rfl)
theorem dX1_nextBare_16 : decode cX1_nextBare 16 = .ok (.iadd, 1) := dk_96 (dk_at dksX1_nextBare_0 16 rfl rfl)
theorem dX1_nextBare_17 : decode cX1_nextBare 17 = .ok (.bipush 8, 2) := dk_16 8 (dk_at dksX1_nextBare_0 17 rfl rfl)
theorem dX1_nextBare_19 : decode cX1_nextBare 19 = .ok (.irem, 1) := dk_112 (dk_at dksX1_nextBare_0 19 rfl rfl)
theorem dX1_nextBare_20 : decode cX1_nextBare 20 = .ok (.istore_n 2, 1) := dk_61 (dk_at dksX1_nextBare_0 20 rfl rfl)
theorem dX1_nextBare_21 : decode cX1_nextBare 21 = .ok (.aload_n 0, 1) := dk_42 (dk_at dksX1_nextBare_0 21 rfl rfl)
theorem dX1_nextBare_22 : decode cX1_nextBare 22 = .ok (.iload_n 2, 1) := dk_28 (dk_at dksX1_nextBare_0 22 rfl rfl)
theorem dX1_nextBare_23 : decode cX1_nextBare 23 = .ok (.invokevirtual 174, 3) := dk_182 0 174 (dk_at dksX1_nextBare_1 0 rfl rfl)
theorem dX1_nextBare_26 : decode cX1_nextBare 26 = .ok (.ifCond .ne 5, 3) := dk_154 0 5 (dk_at dksX1_nextBare_1 3 rfl rfl)
theorem dX1_nextBare_29 : decode cX1_nextBare 29 = .ok (.iload_n 2, 1) := dk_28 (dk_at dksX1_nextBare_1 6 rfl rfl)
theorem dX1_nextBare_30 : decode cX1_nextBare 30 = .ok (.ireturn, 1) := dk_172 (dk_at dksX1_nextBare_1 7 rfl rfl)
theorem dX1_nextBare_31 : decode cX1_nextBare 31 = .ok (.iinc 1 1, 3) := dk_132 1 1 (dk_at dksX1_nextBare_1 8 rfl rfl)
theorem dX1_nextBare_34 : decode cX1_nextBare 34 = .ok (.goto (-32), 3) := dk_167 255 224 (dk_at dksX1_nextBare_1 11 rfl rfl)
theorem dX1_nextBare_37 : decode cX1_nextBare 37 = .ok (.iconst (-1), 1) := dk_2 (dk_at dksX1_nextBare_1 14 rfl rfl)
theorem dX1_nextBare_38 : decode cX1_nextBare 38 = .ok (.ireturn, 1) := dk_172 (dk_at dksX1_nextBare_1 15 rfl rfl)
abbrev cX1_taken : ByteArray := prog_1_method_96_code
def yX1_taken : MethodName := ⟨RX1, "taken", "()I"⟩
def dkwX1_taken_0 : List UInt8 := [42, 180, 0, 10, 180, 0, 237, 172]
abbrev dktX1_taken_0 : List UInt8 := dkwX1_taken_0 ++ []
theorem dksX1_taken_0 : cX1_taken.data.toList.drop 0 = dktX1_taken_0 := by decide +kernel
theorem dX1_taken_0 : decode cX1_taken 0 = .ok (.aload_n 0, 1) := dk_42 (dk_at dksX1_taken_0 0 rfl rfl)
theorem dX1_taken_1 : decode cX1_taken 1 = .ok (.getfield 10, 3) := dk_180 0 10 (dk_at dksX1_taken_0 1 rfl rfl)
theorem dX1_taken_4 : decode cX1_taken 4 = .ok (.getfield 237, 3) := dk_180 0 237 (dk_at dksX1_taken_0 4 rfl rfl)
theorem dX1_taken_7 : decode cX1_taken 7 = .ok (.ireturn, 1) := dk_172 (dk_at dksX1_taken_0 7 rfl rfl)
abbrev cX1_takenByFates : ByteArray := prog_1_method_97_code
def yX1_takenByFates : MethodName := ⟨RX1, "takenByFates", "()I"⟩
def dkwX1_takenByFates_4 : List UInt8 := [3, 96, 60, 132, 2, 1, 167, 255, 210, 27, 172]
abbrev dktX1_takenByFates_4 : List UInt8 := dkwX1_takenByFates_4 ++ []
def dkwX1_takenByFates_3 : List UInt8 := [180, 0, 10, 180, 0, 67, 28, 182, 0, 56, 192, 0, 70, 180, 0, 167, 6, 160, 0, 7, 4, 167, 0, 4]
abbrev dktX1_takenByFates_3 : List UInt8 := dkwX1_takenByFates_3 ++ dktX1_takenByFates_4
def dkwX1_takenByFates_2 : List UInt8 := [132, 2, 1, 167, 255, 210, 3, 61, 28, 42, 180, 0, 10, 180, 0, 67, 182, 0, 50, 162, 0, 38, 27, 42]
abbrev dktX1_takenByFates_2 : List UInt8 := dkwX1_takenByFates_2 ++ dktX1_takenByFates_3
def dkwX1_takenByFates_1 : List UInt8 := [180, 0, 46, 28, 182, 0, 56, 192, 0, 60, 180, 0, 173, 6, 160, 0, 7, 4, 167, 0, 4, 3, 96, 60]
abbrev dktX1_takenByFates_1 : List UInt8 := dkwX1_takenByFates_1 ++ dktX1_takenByFates_2
def dkwX1_takenByFates_0 : List UInt8 := [3, 60, 3, 61, 28, 42, 180, 0, 10, 180, 0, 46, 182, 0, 50, 162, 0, 38, 27, 42, 180, 0, 10]
abbrev dktX1_takenByFates_0 : List UInt8 := dkwX1_takenByFates_0 ++ dktX1_takenByFates_1
theorem dksX1_takenByFates_0 : cX1_takenByFates.data.toList.drop 0 = dktX1_takenByFates_0 := by decide +kernel
theorem dksX1_takenByFates_1 : cX1_takenByFates.data.toList.drop 23 = dktX1_takenByFates_1 := dk_seg dksX1_takenByFates_0 23 rfl rfl
theorem dksX1_takenByFates_2 : cX1_takenByFates.data.toList.drop 47 = dktX1_takenByFates_2 := dk_seg dksX1_takenByFates_1 24 rfl rfl
theorem dksX1_takenByFates_3 : cX1_takenByFates.data.toList.drop 71 = dktX1_takenByFates_3 := dk_seg dksX1_takenByFates_2 24 rfl rfl
theorem dksX1_takenByFates_4 : cX1_takenByFates.data.toList.drop 95 = dktX1_takenByFates_4 := dk_seg dksX1_takenByFates_3 24 rfl rfl
theorem dX1_takenByFates_0 : decode cX1_takenByFates 0 = .ok (.iconst 0, 1) := dk_3 (dk_at dksX1_takenByFates_0 0 rfl rfl)
theorem dX1_takenByFates_1 : decode cX1_takenByFates 1 = .ok (.istore_n 1, 1) := dk_60 (dk_at dksX1_takenByFates_0 1 rfl rfl)
theorem dX1_takenByFates_2 : decode cX1_takenByFates 2 = .ok (.iconst 0, 1) := dk_3 (dk_at dksX1_takenByFates_0 2 rfl rfl)
theorem dX1_takenByFates_3 : decode cX1_takenByFates 3 = .ok (.istore_n 2, 1) := dk_61 (dk_at dksX1_takenByFates_0 3 rfl rfl)
theorem dX1_takenByFates_4 : decode cX1_takenByFates 4 = .ok (.iload_n 2, 1) := dk_28 (dk_at dksX1_takenByFates_0 4 rfl rfl)
theorem dX1_takenByFates_5 : decode cX1_takenByFates 5 = .ok (.aload_n 0, 1) := dk_42 (dk_at dksX1_takenByFates_0 5 rfl rfl)
theorem dX1_takenByFates_6 : decode cX1_takenByFates 6 = .ok (.getfield 10, 3) := dk_180 0 10 (dk_at dksX1_takenByFates_0 6 rfl rfl)
theorem dX1_takenByFates_9 : decode cX1_takenByFates 9 = .ok (.getfield 46, 3) := dk_180 0 46 (dk_at dksX1_takenByFates_0 9 rfl rfl)
theorem dX1_takenByFates_12 : decode cX1_takenByFates 12 = .ok (.invokevirtual 50, 3) := dk_182 0 50 (dk_at dksX1_takenByFates_0 12 rfl rfl)
theorem dX1_takenByFates_15 : decode cX1_takenByFates 15 = .ok (.if_icmp .ge 38, 3) := dk_162 0 38 (dk_at dksX1_takenByFates_0 15 rfl rfl)
theorem dX1_takenByFates_18 : decode cX1_takenByFates 18 = .ok (.iload_n 1, 1) := dk_27 (dk_at dksX1_takenByFates_0 18 rfl rfl)
theorem dX1_takenByFates_19 : decode cX1_takenByFates 19 = .ok (.aload_n 0, 1) := dk_42 (dk_at dksX1_takenByFates_0 19 rfl rfl)
theorem dX1_takenByFates_20 : decode cX1_takenByFates 20 = .ok (.getfield 10, 3) := dk_180 0 10 (dk_at dksX1_takenByFates_0 20 rfl rfl)
theorem dX1_takenByFates_23 : decode cX1_takenByFates 23 = .ok (.getfield 46, 3) := dk_180 0 46 (dk_at dksX1_takenByFates_1 0 rfl rfl)
theorem dX1_takenByFates_26 : decode cX1_takenByFates 26 = .ok (.iload_n 2, 1) := dk_28 (dk_at dksX1_takenByFates_1 3 rfl rfl)
theorem dX1_takenByFates_27 : decode cX1_takenByFates 27 = .ok (.invokevirtual 56, 3) := dk_182 0 56 (dk_at dksX1_takenByFates_1 4 rfl rfl)
theorem dX1_takenByFates_30 : decode cX1_takenByFates 30 = .ok (.checkcast 60, 3) := dk_192 0 60 (dk_at dksX1_takenByFates_1 7 rfl rfl)
theorem dX1_takenByFates_33 : decode cX1_takenByFates 33 = .ok (.getfield 173, 3) := dk_180 0 173 (dk_at dksX1_takenByFates_1 10 rfl rfl)
theorem dX1_takenByFates_36 : decode cX1_takenByFates 36 = .ok (.iconst 3, 1) := dk_6 (dk_at dksX1_takenByFates_1 13 rfl rfl)
theorem dX1_takenByFates_37 : decode cX1_takenByFates 37 = .ok (.if_icmp .ne 7, 3) := dk_160 0 7 (dk_at dksX1_takenByFates_1 14 rfl rfl)
theorem dX1_takenByFates_40 : decode cX1_takenByFates 40 = .ok (.iconst 1, 1) := dk_4 (dk_at dksX1_takenByFates_1 17 rfl rfl)
theorem dX1_takenByFates_41 : decode cX1_takenByFates 41 = .ok (.goto 4, 3) := dk_167 0 4 (dk_at dksX1_takenByFates_1 18 rfl rfl)
theorem dX1_takenByFates_44 : decode cX1_takenByFates 44 = .ok (.iconst 0, 1) := dk_3 (dk_at dksX1_takenByFates_1 21 rfl rfl)
theorem dX1_takenByFates_45 : decode cX1_takenByFates 45 = .ok (.iadd, 1) := dk_96 (dk_at dksX1_takenByFates_1 22 rfl rfl)
theorem dX1_takenByFates_46 : decode cX1_takenByFates 46 = .ok (.istore_n 1, 1) := dk_60 (dk_at dksX1_takenByFates_1 23 rfl rfl)
theorem dX1_takenByFates_47 : decode cX1_takenByFates 47 = .ok (.iinc 2 1, 3) := dk_132 2 1 (dk_at dksX1_takenByFates_2 0 rfl rfl)
theorem dX1_takenByFates_50 : decode cX1_takenByFates 50 = .ok (.goto (-46), 3) := dk_167 255 210 (dk_at dksX1_takenByFates_2 3 rfl rfl)
theorem dX1_takenByFates_53 : decode cX1_takenByFates 53 = .ok (.iconst 0, 1) := dk_3 (dk_at dksX1_takenByFates_2 6 rfl rfl)
theorem dX1_takenByFates_54 : decode cX1_takenByFates 54 = .ok (.istore_n 2, 1) := dk_61 (dk_at dksX1_takenByFates_2 7 rfl rfl)
theorem dX1_takenByFates_55 : decode cX1_takenByFates 55 = .ok (.iload_n 2, 1) := dk_28 (dk_at dksX1_takenByFates_2 8 rfl rfl)
theorem dX1_takenByFates_56 : decode cX1_takenByFates 56 = .ok (.aload_n 0, 1) := dk_42 (dk_at dksX1_takenByFates_2 9 rfl rfl)
theorem dX1_takenByFates_57 : decode cX1_takenByFates 57 = .ok (.getfield 10, 3) := dk_180 0 10 (dk_at dksX1_takenByFates_2 10 rfl rfl)
theorem dX1_takenByFates_60 : decode cX1_takenByFates 60 = .ok (.getfield 67, 3) := dk_180 0 67 (dk_at dksX1_takenByFates_2 13 rfl rfl)
theorem dX1_takenByFates_63 : decode cX1_takenByFates 63 = .ok (.invokevirtual 50, 3) := dk_182 0 50 (dk_at dksX1_takenByFates_2 16 rfl rfl)
theorem dX1_takenByFates_66 : decode cX1_takenByFates 66 = .ok (.if_icmp .ge 38, 3) := dk_162 0 38 (dk_at dksX1_takenByFates_2 19 rfl rfl)
theorem dX1_takenByFates_69 : decode cX1_takenByFates 69 = .ok (.iload_n 1, 1) := dk_27 (dk_at dksX1_takenByFates_2 22 rfl rfl)
theorem dX1_takenByFates_70 : decode cX1_takenByFates 70 = .ok (.aload_n 0, 1) := dk_42 (dk_at dksX1_takenByFates_2 23 rfl rfl)
theorem dX1_takenByFates_71 : decode cX1_takenByFates 71 = .ok (.getfield 10, 3) := dk_180 0 10 (dk_at dksX1_takenByFates_3 0 rfl rfl)
theorem dX1_takenByFates_74 : decode cX1_takenByFates 74 = .ok (.getfield 67, 3) := dk_180 0 67 (dk_at dksX1_takenByFates_3 3 rfl rfl)
theorem dX1_takenByFates_77 : decode cX1_takenByFates 77 = .ok (.iload_n 2, 1) := dk_28 (dk_at dksX1_takenByFates_3 6 rfl rfl)
theorem dX1_takenByFates_78 : decode cX1_takenByFates 78 = .ok (.invokevirtual 56, 3) := dk_182 0 56 (dk_at dksX1_takenByFates_3 7 rfl rfl)
theorem dX1_takenByFates_81 : decode cX1_takenByFates 81 = .ok (.checkcast 70, 3) := dk_192 0 70 (dk_at dksX1_takenByFates_3 10 rfl rfl)
theorem dX1_takenByFates_84 : decode cX1_takenByFates 84 = .ok (.getfield 167, 3) := dk_180 0 167 (dk_at dksX1_takenByFates_3 13 rfl rfl)
theorem dX1_takenByFates_87 : decode cX1_takenByFates 87 = .ok (.iconst 3, 1) := dk_6 (dk_at dksX1_takenByFates_3 16 rfl rfl)
theorem dX1_takenByFates_88 : decode cX1_takenByFates 88 = .ok (.if_icmp .ne 7, 3) := dk_160 0 7 (dk_at dksX1_takenByFates_3 17 rfl rfl)
theorem dX1_takenByFates_91 : decode cX1_takenByFates 91 = .ok (.iconst 1, 1) := dk_4 (dk_at dksX1_takenByFates_3 20 rfl rfl)
theorem dX1_takenByFates_92 : decode cX1_takenByFates 92 = .ok (.goto 4, 3) := dk_167 0 4 (dk_at dksX1_takenByFates_3 21 rfl rfl)
theorem dX1_takenByFates_95 : decode cX1_takenByFates 95 = .ok (.iconst 0, 1) := dk_3 (dk_at dksX1_takenByFates_4 0 rfl rfl)
theorem dX1_takenByFates_96 : decode cX1_takenByFates 96 = .ok (.iadd, 1) := dk_96 (dk_at dksX1_takenByFates_4 1 rfl rfl)
theorem dX1_takenByFates_97 : decode cX1_takenByFates 97 = .ok (.istore_n 1, 1) := dk_60 (dk_at dksX1_takenByFates_4 2 rfl rfl)
theorem dX1_takenByFates_98 : decode cX1_takenByFates 98 = .ok (.iinc 2 1, 3) := dk_132 2 1 (dk_at dksX1_takenByFates_4 3 rfl rfl)
theorem dX1_takenByFates_101 : decode cX1_takenByFates 101 = .ok (.goto (-46), 3) := dk_167 255 210 (dk_at dksX1_takenByFates_4 6 rfl rfl)
theorem dX1_takenByFates_104 : decode cX1_takenByFates 104 = .ok (.iload_n 1, 1) := dk_27 (dk_at dksX1_takenByFates_4 9 rfl rfl)
theorem dX1_takenByFates_105 : decode cX1_takenByFates 105 = .ok (.ireturn, 1) := dk_172 (dk_at dksX1_takenByFates_4 10 rfl rfl)
abbrev cX1_mildestPause : ByteArray := prog_1_method_107_code
def yX1_mildestPause : MethodName := ⟨RX1, "mildestPause", "()I"⟩
def dkwX1_mildestPause_1 : List UInt8 := [21, 4, 28, 162, 0, 8, 29, 60, 21, 4, 61, 132, 3, 1, 167, 255, 227, 27, 172]
abbrev dktX1_mildestPause_1 : List UInt8 := dkwX1_mildestPause_1 ++ []
def dkwX1_mildestPause_0 : List UInt8 := [4, 60, 19, 1, 127, 61, 4, 62, 29, 16, 12, 163, 0, 29, 42, 16, 48, 29, 182, 1, 122, 54, 4]
abbrev dktX1_mildestPause_0 : List UInt8 := dkwX1_mildestPause_0 ++ dktX1_mildestPause_1
theorem dksX1_mildestPause_0 : cX1_mildestPause.data.toList.drop 0 = dktX1_mildestPause_0 := by decide +kernel
theorem dksX1_mildestPause_1 : cX1_mildestPause.data.toList.drop 23 = dktX1_mildestPause_1 := dk_seg dksX1_mildestPause_0 23 rfl rfl
theorem dX1_mildestPause_0 : decode cX1_mildestPause 0 = .ok (.iconst 1, 1) := dk_4 (dk_at dksX1_mildestPause_0 0 rfl rfl)
theorem dX1_mildestPause_1 : decode cX1_mildestPause 1 = .ok (.istore_n 1, 1) := dk_60 (dk_at dksX1_mildestPause_0 1 rfl rfl)
theorem dX1_mildestPause_2 : decode cX1_mildestPause 2 = .ok (.ldc_w 383, 3) := dk_19 1 127 (dk_at dksX1_mildestPause_0 2 rfl rfl)
theorem dX1_mildestPause_5 : decode cX1_mildestPause 5 = .ok (.istore_n 2, 1) := dk_61 (dk_at dksX1_mildestPause_0 5 rfl rfl)
theorem dX1_mildestPause_6 : decode cX1_mildestPause 6 = .ok (.iconst 1, 1) := dk_4 (dk_at dksX1_mildestPause_0 6 rfl rfl)
theorem dX1_mildestPause_7 : decode cX1_mildestPause 7 = .ok (.istore_n 3, 1) := dk_62 (dk_at dksX1_mildestPause_0 7 rfl rfl)
theorem dX1_mildestPause_8 : decode cX1_mildestPause 8 = .ok (.iload_n 3, 1) := dk_29 (dk_at dksX1_mildestPause_0 8 rfl rfl)
theorem dX1_mildestPause_9 : decode cX1_mildestPause 9 = .ok (.bipush 12, 2) := dk_16 12 (dk_at dksX1_mildestPause_0 9 rfl rfl)
theorem dX1_mildestPause_11 : decode cX1_mildestPause 11 = .ok (.if_icmp .gt 29, 3) := dk_163 0 29 (dk_at dksX1_mildestPause_0 11 rfl rfl)
theorem dX1_mildestPause_14 : decode cX1_mildestPause 14 = .ok (.aload_n 0, 1) := dk_42 (dk_at dksX1_mildestPause_0 14 rfl rfl)
theorem dX1_mildestPause_15 : decode cX1_mildestPause 15 = .ok (.bipush 48, 2) := dk_16 48 (dk_at dksX1_mildestPause_0 15 rfl rfl)
theorem dX1_mildestPause_17 : decode cX1_mildestPause 17 = .ok (.iload_n 3, 1) := dk_29 (dk_at dksX1_mildestPause_0 17 rfl rfl)
theorem dX1_mildestPause_18 : decode cX1_mildestPause 18 = .ok (.invokevirtual 378, 3) := dk_182 1 122 (dk_at dksX1_mildestPause_0 18 rfl rfl)
theorem dX1_mildestPause_21 : decode cX1_mildestPause 21 = .ok (.istore 4, 2) := dk_54 4 (dk_at dksX1_mildestPause_0 21 rfl rfl)
theorem dX1_mildestPause_23 : decode cX1_mildestPause 23 = .ok (.iload 4, 2) := dk_21 4 (dk_at dksX1_mildestPause_1 0 rfl rfl)
theorem dX1_mildestPause_25 : decode cX1_mildestPause 25 = .ok (.iload_n 2, 1) := dk_28 (dk_at dksX1_mildestPause_1 2 rfl rfl)
theorem dX1_mildestPause_26 : decode cX1_mildestPause 26 = .ok (.if_icmp .ge 8, 3) := dk_162 0 8 (dk_at dksX1_mildestPause_1 3 rfl rfl)
theorem dX1_mildestPause_29 : decode cX1_mildestPause 29 = .ok (.iload_n 3, 1) := dk_29 (dk_at dksX1_mildestPause_1 6 rfl rfl)
theorem dX1_mildestPause_30 : decode cX1_mildestPause 30 = .ok (.istore_n 1, 1) := dk_60 (dk_at dksX1_mildestPause_1 7 rfl rfl)
theorem dX1_mildestPause_31 : decode cX1_mildestPause 31 = .ok (.iload 4, 2) := dk_21 4 (dk_at dksX1_mildestPause_1 8 rfl rfl)
theorem dX1_mildestPause_33 : decode cX1_mildestPause 33 = .ok (.istore_n 2, 1) := dk_61 (dk_at dksX1_mildestPause_1 10 rfl rfl)
theorem dX1_mildestPause_34 : decode cX1_mildestPause 34 = .ok (.iinc 3 1, 3) := dk_132 3 1 (dk_at dksX1_mildestPause_1 11 rfl rfl)
theorem dX1_mildestPause_37 : decode cX1_mildestPause 37 = .ok (.goto (-29), 3) := dk_167 255 227 (dk_at dksX1_mildestPause_1 14 rfl rfl)
theorem dX1_mildestPause_40 : decode cX1_mildestPause 40 = .ok (.iload_n 1, 1) := dk_27 (dk_at dksX1_mildestPause_1 17 rfl rfl)
theorem dX1_mildestPause_41 : decode cX1_mildestPause 41 = .ok (.ireturn, 1) := dk_172 (dk_at dksX1_mildestPause_1 18 rfl rfl)
abbrev cX1_lostWith : ByteArray := prog_1_method_103_code
def yX1_lostWith : MethodName := ⟨RX1, "lostWith", "(II)I"⟩
def dkwX1_lostWith_2 : List UInt8 := [21, 4, 172, 58, 5, 42, 45, 181, 0, 10, 25, 5, 191]
abbrev dktX1_lostWith_2 : List UInt8 := dkwX1_lostWith_2 ++ []
def dkwX1_lostWith_1 : List UInt8 := [17, 3, 231, 42, 180, 0, 10, 180, 0, 106, 100, 184, 0, 183, 182, 1, 53, 54, 4, 42, 45, 181, 0, 10]
abbrev dktX1_lostWith_1 : List UInt8 := dkwX1_lostWith_1 ++ dktX1_lostWith_2
def dkwX1_lostWith_0 : List UInt8 := [42, 180, 0, 10, 78, 42, 45, 182, 0, 74, 181, 0, 10, 42, 180, 0, 10, 28, 181, 1, 3, 42, 27]
abbrev dktX1_lostWith_0 : List UInt8 := dkwX1_lostWith_0 ++ dktX1_lostWith_1
theorem dksX1_lostWith_0 : cX1_lostWith.data.toList.drop 0 = dktX1_lostWith_0 := by decide +kernel
theorem dksX1_lostWith_1 : cX1_lostWith.data.toList.drop 23 = dktX1_lostWith_1 := dk_seg dksX1_lostWith_0 23 rfl rfl
theorem dksX1_lostWith_2 : cX1_lostWith.data.toList.drop 47 = dktX1_lostWith_2 := dk_seg dksX1_lostWith_1 24 rfl rfl
theorem dX1_lostWith_0 : decode cX1_lostWith 0 = .ok (.aload_n 0, 1) := dk_42 (dk_at dksX1_lostWith_0 0 rfl rfl)
theorem dX1_lostWith_1 : decode cX1_lostWith 1 = .ok (.getfield 10, 3) := dk_180 0 10 (dk_at dksX1_lostWith_0 1 rfl rfl)
theorem dX1_lostWith_4 : decode cX1_lostWith 4 = .ok (.astore_n 3, 1) := dk_78 (dk_at dksX1_lostWith_0 4 rfl rfl)
theorem dX1_lostWith_5 : decode cX1_lostWith 5 = .ok (.aload_n 0, 1) := dk_42 (dk_at dksX1_lostWith_0 5 rfl rfl)
theorem dX1_lostWith_6 : decode cX1_lostWith 6 = .ok (.aload_n 3, 1) := dk_45 (dk_at dksX1_lostWith_0 6 rfl rfl)
theorem dX1_lostWith_7 : decode cX1_lostWith 7 = .ok (.invokevirtual 74, 3) := dk_182 0 74 (dk_at dksX1_lostWith_0 7 rfl rfl)
theorem dX1_lostWith_10 : decode cX1_lostWith 10 = .ok (.putfield 10, 3) := dk_181 0 10 (dk_at dksX1_lostWith_0 10 rfl rfl)
theorem dX1_lostWith_13 : decode cX1_lostWith 13 = .ok (.aload_n 0, 1) := dk_42 (dk_at dksX1_lostWith_0 13 rfl rfl)
theorem dX1_lostWith_14 : decode cX1_lostWith 14 = .ok (.getfield 10, 3) := dk_180 0 10 (dk_at dksX1_lostWith_0 14 rfl rfl)
theorem dX1_lostWith_17 : decode cX1_lostWith 17 = .ok (.iload_n 2, 1) := dk_28 (dk_at dksX1_lostWith_0 17 rfl rfl)
theorem dX1_lostWith_18 : decode cX1_lostWith 18 = .ok (.putfield 259, 3) := dk_181 1 3 (dk_at dksX1_lostWith_0 18 rfl rfl)
theorem dX1_lostWith_21 : decode cX1_lostWith 21 = .ok (.aload_n 0, 1) := dk_42 (dk_at dksX1_lostWith_0 21 rfl rfl)
theorem dX1_lostWith_22 : decode cX1_lostWith 22 = .ok (.iload_n 1, 1) := dk_27 (dk_at dksX1_lostWith_0 22 rfl rfl)
theorem dX1_lostWith_23 : decode cX1_lostWith 23 = .ok (.sipush 999, 3) := dk_17 3 231 (dk_at dksX1_lostWith_1 0 rfl rfl)
theorem dX1_lostWith_26 : decode cX1_lostWith 26 = .ok (.aload_n 0, 1) := dk_42 (dk_at dksX1_lostWith_1 3 rfl rfl)
theorem dX1_lostWith_27 : decode cX1_lostWith 27 = .ok (.getfield 10, 3) := dk_180 0 10 (dk_at dksX1_lostWith_1 4 rfl rfl)
theorem dX1_lostWith_30 : decode cX1_lostWith 30 = .ok (.getfield 106, 3) := dk_180 0 106 (dk_at dksX1_lostWith_1 7 rfl rfl)
theorem dX1_lostWith_33 : decode cX1_lostWith 33 = .ok (.isub, 1) := dk_100 (dk_at dksX1_lostWith_1 10 rfl rfl)
theorem dX1_lostWith_34 : decode cX1_lostWith 34 = .ok (.invokestatic 183, 3) := dk_184 0 183 (dk_at dksX1_lostWith_1 11 rfl rfl)
theorem dX1_lostWith_37 : decode cX1_lostWith 37 = .ok (.invokevirtual 309, 3) := dk_182 1 53 (dk_at dksX1_lostWith_1 14 rfl rfl)
theorem dX1_lostWith_40 : decode cX1_lostWith 40 = .ok (.istore 4, 2) := dk_54 4 (dk_at dksX1_lostWith_1 17 rfl rfl)
theorem dX1_lostWith_42 : decode cX1_lostWith 42 = .ok (.aload_n 0, 1) := dk_42 (dk_at dksX1_lostWith_1 19 rfl rfl)
theorem dX1_lostWith_43 : decode cX1_lostWith 43 = .ok (.aload_n 3, 1) := dk_45 (dk_at dksX1_lostWith_1 20 rfl rfl)
theorem dX1_lostWith_44 : decode cX1_lostWith 44 = .ok (.putfield 10, 3) := dk_181 0 10 (dk_at dksX1_lostWith_1 21 rfl rfl)
theorem dX1_lostWith_47 : decode cX1_lostWith 47 = .ok (.iload 4, 2) := dk_21 4 (dk_at dksX1_lostWith_2 0 rfl rfl)
theorem dX1_lostWith_49 : decode cX1_lostWith 49 = .ok (.ireturn, 1) := dk_172 (dk_at dksX1_lostWith_2 2 rfl rfl)
theorem dX1_lostWith_50 : decode cX1_lostWith 50 = .ok (.astore 5, 2) := dk_58 5 (dk_at dksX1_lostWith_2 3 rfl rfl)
theorem dX1_lostWith_52 : decode cX1_lostWith 52 = .ok (.aload_n 0, 1) := dk_42 (dk_at dksX1_lostWith_2 5 rfl rfl)
theorem dX1_lostWith_53 : decode cX1_lostWith 53 = .ok (.aload_n 3, 1) := dk_45 (dk_at dksX1_lostWith_2 6 rfl rfl)
theorem dX1_lostWith_54 : decode cX1_lostWith 54 = .ok (.putfield 10, 3) := dk_181 0 10 (dk_at dksX1_lostWith_2 7 rfl rfl)
theorem dX1_lostWith_57 : decode cX1_lostWith 57 = .ok (.aload 5, 2) := dk_25 5 (dk_at dksX1_lostWith_2 10 rfl rfl)
theorem dX1_lostWith_59 : decode cX1_lostWith 59 = .ok (.athrow, 1) := dk_191 (dk_at dksX1_lostWith_2 12 rfl rfl)
abbrev cX1_passes : ByteArray := prog_1_method_34_code
def yX1_passes : MethodName := ⟨RX1, "passes", "(I)I"⟩
def dkwX1_passes_1 : List UInt8 := [167, 255, 244, 42, 180, 0, 10, 180, 0, 170, 28, 100, 172]
abbrev dktX1_passes_1 : List UInt8 := dkwX1_passes_1 ++ []
def dkwX1_passes_0 : List UInt8 := [42, 180, 0, 10, 180, 0, 170, 61, 3, 62, 29, 27, 162, 0, 13, 42, 182, 1, 12, 132, 3, 1]
abbrev dktX1_passes_0 : List UInt8 := dkwX1_passes_0 ++ dktX1_passes_1
theorem dksX1_passes_0 : cX1_passes.data.toList.drop 0 = dktX1_passes_0 := by decide +kernel
theorem dksX1_passes_1 : cX1_passes.data.toList.drop 22 = dktX1_passes_1 := dk_seg dksX1_passes_0 22 rfl rfl
theorem dX1_passes_0 : decode cX1_passes 0 = .ok (.aload_n 0, 1) := dk_42 (dk_at dksX1_passes_0 0 rfl rfl)
theorem dX1_passes_1 : decode cX1_passes 1 = .ok (.getfield 10, 3) := dk_180 0 10 (dk_at dksX1_passes_0 1 rfl rfl)
theorem dX1_passes_4 : decode cX1_passes 4 = .ok (.getfield 170, 3) := dk_180 0 170 (dk_at dksX1_passes_0 4 rfl rfl)
theorem dX1_passes_7 : decode cX1_passes 7 = .ok (.istore_n 2, 1) := dk_61 (dk_at dksX1_passes_0 7 rfl rfl)
theorem dX1_passes_8 : decode cX1_passes 8 = .ok (.iconst 0, 1) := dk_3 (dk_at dksX1_passes_0 8 rfl rfl)
theorem dX1_passes_9 : decode cX1_passes 9 = .ok (.istore_n 3, 1) := dk_62 (dk_at dksX1_passes_0 9 rfl rfl)
theorem dX1_passes_10 : decode cX1_passes 10 = .ok (.iload_n 3, 1) := dk_29 (dk_at dksX1_passes_0 10 rfl rfl)
theorem dX1_passes_11 : decode cX1_passes 11 = .ok (.iload_n 1, 1) := dk_27 (dk_at dksX1_passes_0 11 rfl rfl)
theorem dX1_passes_12 : decode cX1_passes 12 = .ok (.if_icmp .ge 13, 3) := dk_162 0 13 (dk_at dksX1_passes_0 12 rfl rfl)
theorem dX1_passes_15 : decode cX1_passes 15 = .ok (.aload_n 0, 1) := dk_42 (dk_at dksX1_passes_0 15 rfl rfl)
theorem dX1_passes_16 : decode cX1_passes 16 = .ok (.invokevirtual 268, 3) := dk_182 1 12 (dk_at dksX1_passes_0 16 rfl rfl)
theorem dX1_passes_19 : decode cX1_passes 19 = .ok (.iinc 3 1, 3) := dk_132 3 1 (dk_at dksX1_passes_0 19 rfl rfl)
theorem dX1_passes_22 : decode cX1_passes 22 = .ok (.goto (-12), 3) := dk_167 255 244 (dk_at dksX1_passes_1 0 rfl rfl)
theorem dX1_passes_25 : decode cX1_passes 25 = .ok (.aload_n 0, 1) := dk_42 (dk_at dksX1_passes_1 3 rfl rfl)
theorem dX1_passes_26 : decode cX1_passes 26 = .ok (.getfield 10, 3) := dk_180 0 10 (dk_at dksX1_passes_1 4 rfl rfl)
theorem dX1_passes_29 : decode cX1_passes 29 = .ok (.getfield 170, 3) := dk_180 0 170 (dk_at dksX1_passes_1 7 rfl rfl)
theorem dX1_passes_32 : decode cX1_passes 32 = .ok (.iload_n 2, 1) := dk_28 (dk_at dksX1_passes_1 10 rfl rfl)
theorem dX1_passes_33 : decode cX1_passes 33 = .ok (.isub, 1) := dk_100 (dk_at dksX1_passes_1 11 rfl rfl)
theorem dX1_passes_34 : decode cX1_passes 34 = .ok (.ireturn, 1) := dk_172 (dk_at dksX1_passes_1 12 rfl rfl)
abbrev cX1_passOne : ByteArray := prog_1_method_33_code
def yX1_passOne : MethodName := ⟨RX1, "passOne", "()V"⟩
def dkwX1_passOne_13 : List UInt8 := [192, 0, 70, 182, 1, 9, 132, 1, 1, 167, 255, 208, 177]
abbrev dktX1_passOne_13 : List UInt8 := dkwX1_passOne_13 ++ []
def dkwX1_passOne_12 : List UInt8 := [180, 0, 10, 180, 0, 106, 16, 24, 112, 154, 0, 27, 42, 42, 180, 0, 10, 180, 0, 67, 27, 182, 0, 56]
abbrev dktX1_passOne_12 : List UInt8 := dkwX1_passOne_12 ++ dktX1_passOne_13
def dkwX1_passOne_11 : List UInt8 := [154, 0, 7, 42, 182, 1, 6, 3, 60, 27, 42, 180, 0, 10, 180, 0, 67, 182, 0, 50, 162, 0, 40, 42]
abbrev dktX1_passOne_11 : List UInt8 := dkwX1_passOne_11 ++ dktX1_passOne_12
def dkwX1_passOne_10 : List UInt8 := [182, 0, 233, 132, 1, 1, 167, 255, 175, 42, 180, 0, 10, 180, 0, 106, 42, 180, 0, 10, 180, 1, 3, 112]
abbrev dktX1_passOne_10 : List UInt8 := dkwX1_passOne_10 ++ dktX1_passOne_11
def dkwX1_passOne_9 : List UInt8 := [154, 0, 26, 42, 180, 0, 10, 180, 0, 177, 44, 180, 0, 137, 46, 16, 30, 161, 0, 9, 42, 44, 7]
abbrev dktX1_passOne_9 : List UInt8 := dkwX1_passOne_9 ++ dktX1_passOne_10
def dkwX1_passOne_8 : List UInt8 := [44, 182, 0, 150, 153, 0, 45, 44, 180, 0, 113, 2, 160, 0, 37, 42, 44, 180, 0, 137, 182, 0, 174]
abbrev dktX1_passOne_8 : List UInt8 := dkwX1_passOne_8 ++ dktX1_passOne_9
def dkwX1_passOne_7 : List UInt8 := [180, 0, 67, 182, 0, 50, 162, 0, 73, 42, 180, 0, 10, 180, 0, 67, 27, 182, 0, 56, 192, 0, 70, 77]
abbrev dktX1_passOne_7 : List UInt8 := dkwX1_passOne_7 ++ dktX1_passOne_8
def dkwX1_passOne_6 : List UInt8 := [192, 0, 70, 182, 0, 253, 132, 1, 1, 167, 255, 201, 42, 182, 1, 0, 87, 3, 60, 27, 42, 180, 0, 10]
abbrev dktX1_passOne_6 : List UInt8 := dkwX1_passOne_6 ++ dktX1_passOne_7
def dkwX1_passOne_5 : List UInt8 := [182, 0, 56, 192, 0, 70, 182, 0, 150, 153, 0, 21, 42, 42, 180, 0, 10, 180, 0, 67, 27, 182, 0, 56]
abbrev dktX1_passOne_5 : List UInt8 := dkwX1_passOne_5 ++ dktX1_passOne_6
def dkwX1_passOne_4 : List UInt8 := [60, 27, 42, 180, 0, 10, 180, 0, 67, 182, 0, 50, 162, 0, 47, 42, 180, 0, 10, 180, 0, 67, 27]
abbrev dktX1_passOne_4 : List UInt8 := dkwX1_passOne_4 ++ dktX1_passOne_5
def dkwX1_passOne_3 : List UInt8 := [42, 180, 0, 10, 180, 0, 46, 27, 182, 0, 56, 192, 0, 60, 182, 0, 249, 132, 1, 1, 167, 255, 201, 3]
abbrev dktX1_passOne_3 : List UInt8 := dkwX1_passOne_3 ++ dktX1_passOne_4
def dkwX1_passOne_2 : List UInt8 := [162, 0, 47, 42, 180, 0, 10, 180, 0, 46, 27, 182, 0, 56, 192, 0, 60, 182, 0, 248, 153, 0, 21, 42]
abbrev dktX1_passOne_2 : List UInt8 := dkwX1_passOne_2 ++ dktX1_passOne_3
def dkwX1_passOne_1 : List UInt8 := [182, 0, 244, 132, 1, 1, 167, 255, 242, 3, 60, 27, 42, 180, 0, 10, 180, 0, 46, 182, 0, 50]
abbrev dktX1_passOne_1 : List UInt8 := dkwX1_passOne_1 ++ dktX1_passOne_2
def dkwX1_passOne_0 : List UInt8 := [42, 180, 0, 10, 89, 180, 0, 106, 4, 96, 181, 0, 106, 3, 60, 27, 16, 8, 162, 0, 14, 42, 27]
abbrev dktX1_passOne_0 : List UInt8 := dkwX1_passOne_0 ++ dktX1_passOne_1
theorem dksX1_passOne_0 : cX1_passOne.data.toList.drop 0 = dktX1_passOne_0 := by decide +kernel
theorem dksX1_passOne_1 : cX1_passOne.data.toList.drop 23 = dktX1_passOne_1 := dk_seg dksX1_passOne_0 23 rfl rfl
theorem dksX1_passOne_2 : cX1_passOne.data.toList.drop 45 = dktX1_passOne_2 := dk_seg dksX1_passOne_1 22 rfl rfl
theorem dksX1_passOne_3 : cX1_passOne.data.toList.drop 69 = dktX1_passOne_3 := dk_seg dksX1_passOne_2 24 rfl rfl
theorem dksX1_passOne_4 : cX1_passOne.data.toList.drop 93 = dktX1_passOne_4 := dk_seg dksX1_passOne_3 24 rfl rfl
theorem dksX1_passOne_5 : cX1_passOne.data.toList.drop 116 = dktX1_passOne_5 := dk_seg dksX1_passOne_4 23 rfl rfl
theorem dksX1_passOne_6 : cX1_passOne.data.toList.drop 140 = dktX1_passOne_6 := dk_seg dksX1_passOne_5 24 rfl rfl
theorem dksX1_passOne_7 : cX1_passOne.data.toList.drop 164 = dktX1_passOne_7 := dk_seg dksX1_passOne_6 24 rfl rfl
theorem dksX1_passOne_8 : cX1_passOne.data.toList.drop 188 = dktX1_passOne_8 := dk_seg dksX1_passOne_7 24 rfl rfl
theorem dksX1_passOne_9 : cX1_passOne.data.toList.drop 211 = dktX1_passOne_9 := dk_seg dksX1_passOne_8 23 rfl rfl
theorem dksX1_passOne_10 : cX1_passOne.data.toList.drop 234 = dktX1_passOne_10 := dk_seg dksX1_passOne_9 23 rfl rfl
theorem dksX1_passOne_11 : cX1_passOne.data.toList.drop 258 = dktX1_passOne_11 := dk_seg dksX1_passOne_10 24 rfl rfl
theorem dksX1_passOne_12 : cX1_passOne.data.toList.drop 282 = dktX1_passOne_12 := dk_seg dksX1_passOne_11 24 rfl rfl
theorem dksX1_passOne_13 : cX1_passOne.data.toList.drop 306 = dktX1_passOne_13 := dk_seg dksX1_passOne_12 24 rfl rfl
theorem dX1_passOne_0 : decode cX1_passOne 0 = .ok (.aload_n 0, 1) := dk_42 (dk_at dksX1_passOne_0 0 rfl rfl)
theorem dX1_passOne_1 : decode cX1_passOne 1 = .ok (.getfield 10, 3) := dk_180 0 10 (dk_at dksX1_passOne_0 1 rfl rfl)
theorem dX1_passOne_4 : decode cX1_passOne 4 = .ok (.dup, 1) := dk_89 (dk_at dksX1_passOne_0 4 rfl rfl)
theorem dX1_passOne_5 : decode cX1_passOne 5 = .ok (.getfield 106, 3) := dk_180 0 106 (dk_at dksX1_passOne_0 5 rfl rfl)
theorem dX1_passOne_8 : decode cX1_passOne 8 = .ok (.iconst 1, 1) := dk_4 (dk_at dksX1_passOne_0 8 rfl rfl)
theorem dX1_passOne_9 : decode cX1_passOne 9 = .ok (.iadd, 1) := dk_96 (dk_at dksX1_passOne_0 9 rfl rfl)
theorem dX1_passOne_10 : decode cX1_passOne 10 = .ok (.putfield 106, 3) := dk_181 0 106 (dk_at dksX1_passOne_0 10 rfl rfl)
theorem dX1_passOne_13 : decode cX1_passOne 13 = .ok (.iconst 0, 1) := dk_3 (dk_at dksX1_passOne_0 13 rfl rfl)
theorem dX1_passOne_14 : decode cX1_passOne 14 = .ok (.istore_n 1, 1) := dk_60 (dk_at dksX1_passOne_0 14 rfl rfl)
theorem dX1_passOne_15 : decode cX1_passOne 15 = .ok (.iload_n 1, 1) := dk_27 (dk_at dksX1_passOne_0 15 rfl rfl)
theorem dX1_passOne_16 : decode cX1_passOne 16 = .ok (.bipush 8, 2) := dk_16 8 (dk_at dksX1_passOne_0 16 rfl rfl)
theorem dX1_passOne_18 : decode cX1_passOne 18 = .ok (.if_icmp .ge 14, 3) := dk_162 0 14 (dk_at dksX1_passOne_0 18 rfl rfl)
theorem dX1_passOne_21 : decode cX1_passOne 21 = .ok (.aload_n 0, 1) := dk_42 (dk_at dksX1_passOne_0 21 rfl rfl)
theorem dX1_passOne_22 : decode cX1_passOne 22 = .ok (.iload_n 1, 1) := dk_27 (dk_at dksX1_passOne_0 22 rfl rfl)
theorem dX1_passOne_23 : decode cX1_passOne 23 = .ok (.invokevirtual 244, 3) := dk_182 0 244 (dk_at dksX1_passOne_1 0 rfl rfl)
theorem dX1_passOne_26 : decode cX1_passOne 26 = .ok (.iinc 1 1, 3) := dk_132 1 1 (dk_at dksX1_passOne_1 3 rfl rfl)
theorem dX1_passOne_29 : decode cX1_passOne 29 = .ok (.goto (-14), 3) := dk_167 255 242 (dk_at dksX1_passOne_1 6 rfl rfl)
theorem dX1_passOne_32 : decode cX1_passOne 32 = .ok (.iconst 0, 1) := dk_3 (dk_at dksX1_passOne_1 9 rfl rfl)
theorem dX1_passOne_33 : decode cX1_passOne 33 = .ok (.istore_n 1, 1) := dk_60 (dk_at dksX1_passOne_1 10 rfl rfl)
theorem dX1_passOne_34 : decode cX1_passOne 34 = .ok (.iload_n 1, 1) := dk_27 (dk_at dksX1_passOne_1 11 rfl rfl)
theorem dX1_passOne_35 : decode cX1_passOne 35 = .ok (.aload_n 0, 1) := dk_42 (dk_at dksX1_passOne_1 12 rfl rfl)
theorem dX1_passOne_36 : decode cX1_passOne 36 = .ok (.getfield 10, 3) := dk_180 0 10 (dk_at dksX1_passOne_1 13 rfl rfl)
theorem dX1_passOne_39 : decode cX1_passOne 39 = .ok (.getfield 46, 3) := dk_180 0 46 (dk_at dksX1_passOne_1 16 rfl rfl)
theorem dX1_passOne_42 : decode cX1_passOne 42 = .ok (.invokevirtual 50, 3) := dk_182 0 50 (dk_at dksX1_passOne_1 19 rfl rfl)
theorem dX1_passOne_45 : decode cX1_passOne 45 = .ok (.if_icmp .ge 47, 3) := dk_162 0 47 (dk_at dksX1_passOne_2 0 rfl rfl)
theorem dX1_passOne_48 : decode cX1_passOne 48 = .ok (.aload_n 0, 1) := dk_42 (dk_at dksX1_passOne_2 3 rfl rfl)
theorem dX1_passOne_49 : decode cX1_passOne 49 = .ok (.getfield 10, 3) := dk_180 0 10 (dk_at dksX1_passOne_2 4 rfl rfl)
theorem dX1_passOne_52 : decode cX1_passOne 52 = .ok (.getfield 46, 3) := dk_180 0 46 (dk_at dksX1_passOne_2 7 rfl rfl)
theorem dX1_passOne_55 : decode cX1_passOne 55 = .ok (.iload_n 1, 1) := dk_27 (dk_at dksX1_passOne_2 10 rfl rfl)
theorem dX1_passOne_56 : decode cX1_passOne 56 = .ok (.invokevirtual 56, 3) := dk_182 0 56 (dk_at dksX1_passOne_2 11 rfl rfl)
theorem dX1_passOne_59 : decode cX1_passOne 59 = .ok (.checkcast 60, 3) := dk_192 0 60 (dk_at dksX1_passOne_2 14 rfl rfl)
theorem dX1_passOne_62 : decode cX1_passOne 62 = .ok (.invokevirtual 248, 3) := dk_182 0 248 (dk_at dksX1_passOne_2 17 rfl rfl)
theorem dX1_passOne_65 : decode cX1_passOne 65 = .ok (.ifCond .eq 21, 3) := dk_153 0 21 (dk_at dksX1_passOne_2 20 rfl rfl)
theorem dX1_passOne_68 : decode cX1_passOne 68 = .ok (.aload_n 0, 1) := dk_42 (dk_at dksX1_passOne_2 23 rfl rfl)
theorem dX1_passOne_69 : decode cX1_passOne 69 = .ok (.aload_n 0, 1) := dk_42 (dk_at dksX1_passOne_3 0 rfl rfl)
theorem dX1_passOne_70 : decode cX1_passOne 70 = .ok (.getfield 10, 3) := dk_180 0 10 (dk_at dksX1_passOne_3 1 rfl rfl)
theorem dX1_passOne_73 : decode cX1_passOne 73 = .ok (.getfield 46, 3) := dk_180 0 46 (dk_at dksX1_passOne_3 4 rfl rfl)
theorem dX1_passOne_76 : decode cX1_passOne 76 = .ok (.iload_n 1, 1) := dk_27 (dk_at dksX1_passOne_3 7 rfl rfl)
theorem dX1_passOne_77 : decode cX1_passOne 77 = .ok (.invokevirtual 56, 3) := dk_182 0 56 (dk_at dksX1_passOne_3 8 rfl rfl)
theorem dX1_passOne_80 : decode cX1_passOne 80 = .ok (.checkcast 60, 3) := dk_192 0 60 (dk_at dksX1_passOne_3 11 rfl rfl)
theorem dX1_passOne_83 : decode cX1_passOne 83 = .ok (.invokevirtual 249, 3) := dk_182 0 249 (dk_at dksX1_passOne_3 14 rfl rfl)
theorem dX1_passOne_86 : decode cX1_passOne 86 = .ok (.iinc 1 1, 3) := dk_132 1 1 (dk_at dksX1_passOne_3 17 rfl rfl)
theorem dX1_passOne_89 : decode cX1_passOne 89 = .ok (.goto (-55), 3) := dk_167 255 201 (dk_at dksX1_passOne_3 20 rfl rfl)
theorem dX1_passOne_92 : decode cX1_passOne 92 = .ok (.iconst 0, 1) := dk_3 (dk_at dksX1_passOne_3 23 rfl rfl)
theorem dX1_passOne_93 : decode cX1_passOne 93 = .ok (.istore_n 1, 1) := dk_60 (dk_at dksX1_passOne_4 0 rfl rfl)
theorem dX1_passOne_94 : decode cX1_passOne 94 = .ok (.iload_n 1, 1) := dk_27 (dk_at dksX1_passOne_4 1 rfl rfl)
theorem dX1_passOne_95 : decode cX1_passOne 95 = .ok (.aload_n 0, 1) := dk_42 (dk_at dksX1_passOne_4 2 rfl rfl)
theorem dX1_passOne_96 : decode cX1_passOne 96 = .ok (.getfield 10, 3) := dk_180 0 10 (dk_at dksX1_passOne_4 3 rfl rfl)
theorem dX1_passOne_99 : decode cX1_passOne 99 = .ok (.getfield 67, 3) := dk_180 0 67 (dk_at dksX1_passOne_4 6 rfl rfl)
theorem dX1_passOne_102 : decode cX1_passOne 102 = .ok (.invokevirtual 50, 3) := dk_182 0 50 (dk_at dksX1_passOne_4 9 rfl rfl)
theorem dX1_passOne_105 : decode cX1_passOne 105 = .ok (.if_icmp .ge 47, 3) := dk_162 0 47 (dk_at dksX1_passOne_4 12 rfl rfl)
theorem dX1_passOne_108 : decode cX1_passOne 108 = .ok (.aload_n 0, 1) := dk_42 (dk_at dksX1_passOne_4 15 rfl rfl)
theorem dX1_passOne_109 : decode cX1_passOne 109 = .ok (.getfield 10, 3) := dk_180 0 10 (dk_at dksX1_passOne_4 16 rfl rfl)
theorem dX1_passOne_112 : decode cX1_passOne 112 = .ok (.getfield 67, 3) := dk_180 0 67 (dk_at dksX1_passOne_4 19 rfl rfl)
theorem dX1_passOne_115 : decode cX1_passOne 115 = .ok (.iload_n 1, 1) := dk_27 (dk_at dksX1_passOne_4 22 rfl rfl)
theorem dX1_passOne_116 : decode cX1_passOne 116 = .ok (.invokevirtual 56, 3) := dk_182 0 56 (dk_at dksX1_passOne_5 0 rfl rfl)
theorem dX1_passOne_119 : decode cX1_passOne 119 = .ok (.checkcast 70, 3) := dk_192 0 70 (dk_at dksX1_passOne_5 3 rfl rfl)
theorem dX1_passOne_122 : decode cX1_passOne 122 = .ok (.invokevirtual 150, 3) := dk_182 0 150 (dk_at dksX1_passOne_5 6 rfl rfl)
theorem dX1_passOne_125 : decode cX1_passOne 125 = .ok (.ifCond .eq 21, 3) := dk_153 0 21 (dk_at dksX1_passOne_5 9 rfl rfl)
theorem dX1_passOne_128 : decode cX1_passOne 128 = .ok (.aload_n 0, 1) := dk_42 (dk_at dksX1_passOne_5 12 rfl rfl)
theorem dX1_passOne_129 : decode cX1_passOne 129 = .ok (.aload_n 0, 1) := dk_42 (dk_at dksX1_passOne_5 13 rfl rfl)
theorem dX1_passOne_130 : decode cX1_passOne 130 = .ok (.getfield 10, 3) := dk_180 0 10 (dk_at dksX1_passOne_5 14 rfl rfl)
theorem dX1_passOne_133 : decode cX1_passOne 133 = .ok (.getfield 67, 3) := dk_180 0 67 (dk_at dksX1_passOne_5 17 rfl rfl)
theorem dX1_passOne_136 : decode cX1_passOne 136 = .ok (.iload_n 1, 1) := dk_27 (dk_at dksX1_passOne_5 20 rfl rfl)
theorem dX1_passOne_137 : decode cX1_passOne 137 = .ok (.invokevirtual 56, 3) := dk_182 0 56 (dk_at dksX1_passOne_5 21 rfl rfl)
theorem dX1_passOne_140 : decode cX1_passOne 140 = .ok (.checkcast 70, 3) := dk_192 0 70 (dk_at dksX1_passOne_6 0 rfl rfl)
theorem dX1_passOne_143 : decode cX1_passOne 143 = .ok (.invokevirtual 253, 3) := dk_182 0 253 (dk_at dksX1_passOne_6 3 rfl rfl)
theorem dX1_passOne_146 : decode cX1_passOne 146 = .ok (.iinc 1 1, 3) := dk_132 1 1 (dk_at dksX1_passOne_6 6 rfl rfl)
theorem dX1_passOne_149 : decode cX1_passOne 149 = .ok (.goto (-55), 3) := dk_167 255 201 (dk_at dksX1_passOne_6 9 rfl rfl)
theorem dX1_passOne_152 : decode cX1_passOne 152 = .ok (.aload_n 0, 1) := dk_42 (dk_at dksX1_passOne_6 12 rfl rfl)
theorem dX1_passOne_153 : decode cX1_passOne 153 = .ok (.invokevirtual 256, 3) := dk_182 1 0 (dk_at dksX1_passOne_6 13 rfl rfl)
theorem dX1_passOne_156 : decode cX1_passOne 156 = .ok (.pop, 1) := dk_87 (dk_at dksX1_passOne_6 16 rfl rfl)
theorem dX1_passOne_157 : decode cX1_passOne 157 = .ok (.iconst 0, 1) := dk_3 (dk_at dksX1_passOne_6 17 rfl rfl)
theorem dX1_passOne_158 : decode cX1_passOne 158 = .ok (.istore_n 1, 1) := dk_60 (dk_at dksX1_passOne_6 18 rfl rfl)
theorem dX1_passOne_159 : decode cX1_passOne 159 = .ok (.iload_n 1, 1) := dk_27 (dk_at dksX1_passOne_6 19 rfl rfl)
theorem dX1_passOne_160 : decode cX1_passOne 160 = .ok (.aload_n 0, 1) := dk_42 (dk_at dksX1_passOne_6 20 rfl rfl)
theorem dX1_passOne_161 : decode cX1_passOne 161 = .ok (.getfield 10, 3) := dk_180 0 10 (dk_at dksX1_passOne_6 21 rfl rfl)
theorem dX1_passOne_164 : decode cX1_passOne 164 = .ok (.getfield 67, 3) := dk_180 0 67 (dk_at dksX1_passOne_7 0 rfl rfl)
theorem dX1_passOne_167 : decode cX1_passOne 167 = .ok (.invokevirtual 50, 3) := dk_182 0 50 (dk_at dksX1_passOne_7 3 rfl rfl)
theorem dX1_passOne_170 : decode cX1_passOne 170 = .ok (.if_icmp .ge 73, 3) := dk_162 0 73 (dk_at dksX1_passOne_7 6 rfl rfl)
theorem dX1_passOne_173 : decode cX1_passOne 173 = .ok (.aload_n 0, 1) := dk_42 (dk_at dksX1_passOne_7 9 rfl rfl)
theorem dX1_passOne_174 : decode cX1_passOne 174 = .ok (.getfield 10, 3) := dk_180 0 10 (dk_at dksX1_passOne_7 10 rfl rfl)
theorem dX1_passOne_177 : decode cX1_passOne 177 = .ok (.getfield 67, 3) := dk_180 0 67 (dk_at dksX1_passOne_7 13 rfl rfl)
theorem dX1_passOne_180 : decode cX1_passOne 180 = .ok (.iload_n 1, 1) := dk_27 (dk_at dksX1_passOne_7 16 rfl rfl)
theorem dX1_passOne_181 : decode cX1_passOne 181 = .ok (.invokevirtual 56, 3) := dk_182 0 56 (dk_at dksX1_passOne_7 17 rfl rfl)
theorem dX1_passOne_184 : decode cX1_passOne 184 = .ok (.checkcast 70, 3) := dk_192 0 70 (dk_at dksX1_passOne_7 20 rfl rfl)
theorem dX1_passOne_187 : decode cX1_passOne 187 = .ok (.astore_n 2, 1) := dk_77 (dk_at dksX1_passOne_7 23 rfl rfl)
theorem dX1_passOne_188 : decode cX1_passOne 188 = .ok (.aload_n 2, 1) := dk_44 (dk_at dksX1_passOne_8 0 rfl rfl)
theorem dX1_passOne_189 : decode cX1_passOne 189 = .ok (.invokevirtual 150, 3) := dk_182 0 150 (dk_at dksX1_passOne_8 1 rfl rfl)
theorem dX1_passOne_192 : decode cX1_passOne 192 = .ok (.ifCond .eq 45, 3) := dk_153 0 45 (dk_at dksX1_passOne_8 4 rfl rfl)
theorem dX1_passOne_195 : decode cX1_passOne 195 = .ok (.aload_n 2, 1) := dk_44 (dk_at dksX1_passOne_8 7 rfl rfl)
theorem dX1_passOne_196 : decode cX1_passOne 196 = .ok (.getfield 113, 3) := dk_180 0 113 (dk_at dksX1_passOne_8 8 rfl rfl)
theorem dX1_passOne_199 : decode cX1_passOne 199 = .ok (.iconst (-1), 1) := dk_2 (dk_at dksX1_passOne_8 11 rfl rfl)
theorem dX1_passOne_200 : decode cX1_passOne 200 = .ok (.if_icmp .ne 37, 3) := dk_160 0 37 (dk_at dksX1_passOne_8 12 rfl rfl)
theorem dX1_passOne_203 : decode cX1_passOne 203 = .ok (.aload_n 0, 1) := dk_42 (dk_at dksX1_passOne_8 15 rfl rfl)
theorem dX1_passOne_204 : decode cX1_passOne 204 = .ok (.aload_n 2, 1) := dk_44 (dk_at dksX1_passOne_8 16 rfl rfl)
theorem dX1_passOne_205 : decode cX1_passOne 205 = .ok (.getfield 137, 3) := dk_180 0 137 (dk_at dksX1_passOne_8 17 rfl rfl)
theorem dX1_passOne_208 : decode cX1_passOne 208 = .ok (.invokevirtual 174, 3) := dk_182 0 174 (dk_at dksX1_passOne_8 20 rfl rfl)
theorem dX1_passOne_211 : decode cX1_passOne 211 = .ok (.ifCond .ne 26, 3) := dk_154 0 26 (dk_at dksX1_passOne_9 0 rfl rfl)
theorem dX1_passOne_214 : decode cX1_passOne 214 = .ok (.aload_n 0, 1) := dk_42 (dk_at dksX1_passOne_9 3 rfl rfl)
theorem dX1_passOne_215 : decode cX1_passOne 215 = .ok (.getfield 10, 3) := dk_180 0 10 (dk_at dksX1_passOne_9 4 rfl rfl)
theorem dX1_passOne_218 : decode cX1_passOne 218 = .ok (.getfield 177, 3) := dk_180 0 177 (dk_at dksX1_passOne_9 7 rfl rfl)
theorem dX1_passOne_221 : decode cX1_passOne 221 = .ok (.aload_n 2, 1) := dk_44 (dk_at dksX1_passOne_9 10 rfl rfl)
theorem dX1_passOne_222 : decode cX1_passOne 222 = .ok (.getfield 137, 3) := dk_180 0 137 (dk_at dksX1_passOne_9 11 rfl rfl)
theorem dX1_passOne_225 : decode cX1_passOne 225 = .ok (.iaload, 1) := dk_46 (dk_at dksX1_passOne_9 14 rfl rfl)
theorem dX1_passOne_226 : decode cX1_passOne 226 = .ok (.bipush 30, 2) := dk_16 30 (dk_at dksX1_passOne_9 15 rfl rfl)
theorem dX1_passOne_228 : decode cX1_passOne 228 = .ok (.if_icmp .lt 9, 3) := dk_161 0 9 (dk_at dksX1_passOne_9 17 rfl rfl)
theorem dX1_passOne_231 : decode cX1_passOne 231 = .ok (.aload_n 0, 1) := dk_42 (dk_at dksX1_passOne_9 20 rfl rfl)
theorem dX1_passOne_232 : decode cX1_passOne 232 = .ok (.aload_n 2, 1) := dk_44 (dk_at dksX1_passOne_9 21 rfl rfl)
theorem dX1_passOne_233 : decode cX1_passOne 233 = .ok (.iconst 4, 1) := dk_7 (dk_at dksX1_passOne_9 22 rfl rfl)
theorem dX1_passOne_234 : decode cX1_passOne 234 = .ok (.invokevirtual 233, 3) := dk_182 0 233 (dk_at dksX1_passOne_10 0 rfl rfl)
theorem dX1_passOne_237 : decode cX1_passOne 237 = .ok (.iinc 1 1, 3) := dk_132 1 1 (dk_at dksX1_passOne_10 3 rfl rfl)
theorem dX1_passOne_240 : decode cX1_passOne 240 = .ok (.goto (-81), 3) := dk_167 255 175 (dk_at dksX1_passOne_10 6 rfl rfl)
theorem dX1_passOne_243 : decode cX1_passOne 243 = .ok (.aload_n 0, 1) := dk_42 (dk_at dksX1_passOne_10 9 rfl rfl)
theorem dX1_passOne_244 : decode cX1_passOne 244 = .ok (.getfield 10, 3) := dk_180 0 10 (dk_at dksX1_passOne_10 10 rfl rfl)
theorem dX1_passOne_247 : decode cX1_passOne 247 = .ok (.getfield 106, 3) := dk_180 0 106 (dk_at dksX1_passOne_10 13 rfl rfl)
theorem dX1_passOne_250 : decode cX1_passOne 250 = .ok (.aload_n 0, 1) := dk_42 (dk_at dksX1_passOne_10 16 rfl rfl)
theorem dX1_passOne_251 : decode cX1_passOne 251 = .ok (.getfield 10, 3) := dk_180 0 10 (dk_at dksX1_passOne_10 17 rfl rfl)
theorem dX1_passOne_254 : decode cX1_passOne 254 = .ok (.getfield 259, 3) := dk_180 1 3 (dk_at dksX1_passOne_10 20 rfl rfl)
theorem dX1_passOne_257 : decode cX1_passOne 257 = .ok (.irem, 1) := dk_112 (dk_at dksX1_passOne_10 23 rfl rfl)
theorem dX1_passOne_258 : decode cX1_passOne 258 = .ok (.ifCond .ne 7, 3) := dk_154 0 7 (dk_at dksX1_passOne_11 0 rfl rfl)
theorem dX1_passOne_261 : decode cX1_passOne 261 = .ok (.aload_n 0, 1) := dk_42 (dk_at dksX1_passOne_11 3 rfl rfl)
theorem dX1_passOne_262 : decode cX1_passOne 262 = .ok (.invokevirtual 262, 3) := dk_182 1 6 (dk_at dksX1_passOne_11 4 rfl rfl)
theorem dX1_passOne_265 : decode cX1_passOne 265 = .ok (.iconst 0, 1) := dk_3 (dk_at dksX1_passOne_11 7 rfl rfl)
theorem dX1_passOne_266 : decode cX1_passOne 266 = .ok (.istore_n 1, 1) := dk_60 (dk_at dksX1_passOne_11 8 rfl rfl)
theorem dX1_passOne_267 : decode cX1_passOne 267 = .ok (.iload_n 1, 1) := dk_27 (dk_at dksX1_passOne_11 9 rfl rfl)
theorem dX1_passOne_268 : decode cX1_passOne 268 = .ok (.aload_n 0, 1) := dk_42 (dk_at dksX1_passOne_11 10 rfl rfl)
theorem dX1_passOne_269 : decode cX1_passOne 269 = .ok (.getfield 10, 3) := dk_180 0 10 (dk_at dksX1_passOne_11 11 rfl rfl)
theorem dX1_passOne_272 : decode cX1_passOne 272 = .ok (.getfield 67, 3) := dk_180 0 67 (dk_at dksX1_passOne_11 14 rfl rfl)
theorem dX1_passOne_275 : decode cX1_passOne 275 = .ok (.invokevirtual 50, 3) := dk_182 0 50 (dk_at dksX1_passOne_11 17 rfl rfl)
theorem dX1_passOne_278 : decode cX1_passOne 278 = .ok (.if_icmp .ge 40, 3) := dk_162 0 40 (dk_at dksX1_passOne_11 20 rfl rfl)
theorem dX1_passOne_281 : decode cX1_passOne 281 = .ok (.aload_n 0, 1) := dk_42 (dk_at dksX1_passOne_11 23 rfl rfl)
theorem dX1_passOne_282 : decode cX1_passOne 282 = .ok (.getfield 10, 3) := dk_180 0 10 (dk_at dksX1_passOne_12 0 rfl rfl)
theorem dX1_passOne_285 : decode cX1_passOne 285 = .ok (.getfield 106, 3) := dk_180 0 106 (dk_at dksX1_passOne_12 3 rfl rfl)
theorem dX1_passOne_288 : decode cX1_passOne 288 = .ok (.bipush 24, 2) := dk_16 24 (dk_at dksX1_passOne_12 6 rfl rfl)
theorem dX1_passOne_290 : decode cX1_passOne 290 = .ok (.irem, 1) := dk_112 (dk_at dksX1_passOne_12 8 rfl rfl)
theorem dX1_passOne_291 : decode cX1_passOne 291 = .ok (.ifCond .ne 27, 3) := dk_154 0 27 (dk_at dksX1_passOne_12 9 rfl rfl)
theorem dX1_passOne_294 : decode cX1_passOne 294 = .ok (.aload_n 0, 1) := dk_42 (dk_at dksX1_passOne_12 12 rfl rfl)
theorem dX1_passOne_295 : decode cX1_passOne 295 = .ok (.aload_n 0, 1) := dk_42 (dk_at dksX1_passOne_12 13 rfl rfl)
theorem dX1_passOne_296 : decode cX1_passOne 296 = .ok (.getfield 10, 3) := dk_180 0 10 (dk_at dksX1_passOne_12 14 rfl rfl)
theorem dX1_passOne_299 : decode cX1_passOne 299 = .ok (.getfield 67, 3) := dk_180 0 67 (dk_at dksX1_passOne_12 17 rfl rfl)
theorem dX1_passOne_302 : decode cX1_passOne 302 = .ok (.iload_n 1, 1) := dk_27 (dk_at dksX1_passOne_12 20 rfl rfl)
theorem dX1_passOne_303 : decode cX1_passOne 303 = .ok (.invokevirtual 56, 3) := dk_182 0 56 (dk_at dksX1_passOne_12 21 rfl rfl)
theorem dX1_passOne_306 : decode cX1_passOne 306 = .ok (.checkcast 70, 3) := dk_192 0 70 (dk_at dksX1_passOne_13 0 rfl rfl)
theorem dX1_passOne_309 : decode cX1_passOne 309 = .ok (.invokevirtual 265, 3) := dk_182 1 9 (dk_at dksX1_passOne_13 3 rfl rfl)
theorem dX1_passOne_312 : decode cX1_passOne 312 = .ok (.iinc 1 1, 3) := dk_132 1 1 (dk_at dksX1_passOne_13 6 rfl rfl)
theorem dX1_passOne_315 : decode cX1_passOne 315 = .ok (.goto (-48), 3) := dk_167 255 208 (dk_at dksX1_passOne_13 9 rfl rfl)
theorem dX1_passOne_318 : decode cX1_passOne 318 = .ok (.return_, 1) := dk_177 (dk_at dksX1_passOne_13 12 rfl rfl)
abbrev cX1_changePool : ByteArray := prog_1_method_24_code
def yX1_changePool : MethodName := ⟨RX1, "changePool", "(I)V"⟩
def dkwX1_changePool_3 : List UInt8 := [167, 0, 4, 4, 96, 184, 0, 183, 79, 177]
abbrev dktX1_changePool_3 : List UInt8 := dkwX1_changePool_3 ++ []
def dkwX1_changePool_2 : List UInt8 := [180, 0, 10, 180, 0, 189, 27, 16, 99, 42, 180, 0, 10, 180, 0, 189, 27, 46, 28, 153, 0, 7, 6]
abbrev dktX1_changePool_2 : List UInt8 := dkwX1_changePool_2 ++ dktX1_changePool_3
def dkwX1_changePool_1 : List UInt8 := [16, 40, 42, 180, 0, 10, 180, 0, 177, 27, 46, 42, 180, 0, 10, 180, 0, 180, 96, 184, 0, 183, 79, 42]
abbrev dktX1_changePool_1 : List UInt8 := dkwX1_changePool_1 ++ dktX1_changePool_2
def dkwX1_changePool_0 : List UInt8 := [42, 27, 182, 0, 174, 61, 42, 180, 0, 10, 180, 0, 177, 27, 28, 153, 0, 8, 16, 10, 167, 0, 25]
abbrev dktX1_changePool_0 : List UInt8 := dkwX1_changePool_0 ++ dktX1_changePool_1
theorem dksX1_changePool_0 : cX1_changePool.data.toList.drop 0 = dktX1_changePool_0 := by decide +kernel
theorem dksX1_changePool_1 : cX1_changePool.data.toList.drop 23 = dktX1_changePool_1 := dk_seg dksX1_changePool_0 23 rfl rfl
theorem dksX1_changePool_2 : cX1_changePool.data.toList.drop 47 = dktX1_changePool_2 := dk_seg dksX1_changePool_1 24 rfl rfl
theorem dksX1_changePool_3 : cX1_changePool.data.toList.drop 70 = dktX1_changePool_3 := dk_seg dksX1_changePool_2 23 rfl rfl
theorem dX1_changePool_0 : decode cX1_changePool 0 = .ok (.aload_n 0, 1) := dk_42 (dk_at dksX1_changePool_0 0 rfl rfl)
theorem dX1_changePool_1 : decode cX1_changePool 1 = .ok (.iload_n 1, 1) := dk_27 (dk_at dksX1_changePool_0 1 rfl rfl)
theorem dX1_changePool_2 : decode cX1_changePool 2 = .ok (.invokevirtual 174, 3) := dk_182 0 174 (dk_at dksX1_changePool_0 2 rfl rfl)
theorem dX1_changePool_5 : decode cX1_changePool 5 = .ok (.istore_n 2, 1) := dk_61 (dk_at dksX1_changePool_0 5 rfl rfl)
theorem dX1_changePool_6 : decode cX1_changePool 6 = .ok (.aload_n 0, 1) := dk_42 (dk_at dksX1_changePool_0 6 rfl rfl)
theorem dX1_changePool_7 : decode cX1_changePool 7 = .ok (.getfield 10, 3) := dk_180 0 10 (dk_at dksX1_changePool_0 7 rfl rfl)
theorem dX1_changePool_10 : decode cX1_changePool 10 = .ok (.getfield 177, 3) := dk_180 0 177 (dk_at dksX1_changePool_0 10 rfl rfl)
theorem dX1_changePool_13 : decode cX1_changePool 13 = .ok (.iload_n 1, 1) := dk_27 (dk_at dksX1_changePool_0 13 rfl rfl)
theorem dX1_changePool_14 : decode cX1_changePool 14 = .ok (.iload_n 2, 1) := dk_28 (dk_at dksX1_changePool_0 14 rfl rfl)
theorem dX1_changePool_15 : decode cX1_changePool 15 = .ok (.ifCond .eq 8, 3) := dk_153 0 8 (dk_at dksX1_changePool_0 15 rfl rfl)
theorem dX1_changePool_18 : decode cX1_changePool 18 = .ok (.bipush 10, 2) := dk_16 10 (dk_at dksX1_changePool_0 18 rfl rfl)
theorem dX1_changePool_20 : decode cX1_changePool 20 = .ok (.goto 25, 3) := dk_167 0 25 (dk_at dksX1_changePool_0 20 rfl rfl)
theorem dX1_changePool_23 : decode cX1_changePool 23 = .ok (.bipush 40, 2) := dk_16 40 (dk_at dksX1_changePool_1 0 rfl rfl)
theorem dX1_changePool_25 : decode cX1_changePool 25 = .ok (.aload_n 0, 1) := dk_42 (dk_at dksX1_changePool_1 2 rfl rfl)
theorem dX1_changePool_26 : decode cX1_changePool 26 = .ok (.getfield 10, 3) := dk_180 0 10 (dk_at dksX1_changePool_1 3 rfl rfl)
theorem dX1_changePool_29 : decode cX1_changePool 29 = .ok (.getfield 177, 3) := dk_180 0 177 (dk_at dksX1_changePool_1 6 rfl rfl)
theorem dX1_changePool_32 : decode cX1_changePool 32 = .ok (.iload_n 1, 1) := dk_27 (dk_at dksX1_changePool_1 9 rfl rfl)
theorem dX1_changePool_33 : decode cX1_changePool 33 = .ok (.iaload, 1) := dk_46 (dk_at dksX1_changePool_1 10 rfl rfl)
theorem dX1_changePool_34 : decode cX1_changePool 34 = .ok (.aload_n 0, 1) := dk_42 (dk_at dksX1_changePool_1 11 rfl rfl)
theorem dX1_changePool_35 : decode cX1_changePool 35 = .ok (.getfield 10, 3) := dk_180 0 10 (dk_at dksX1_changePool_1 12 rfl rfl)
theorem dX1_changePool_38 : decode cX1_changePool 38 = .ok (.getfield 180, 3) := dk_180 0 180 (dk_at dksX1_changePool_1 15 rfl rfl)
theorem dX1_changePool_41 : decode cX1_changePool 41 = .ok (.iadd, 1) := dk_96 (dk_at dksX1_changePool_1 18 rfl rfl)
theorem dX1_changePool_42 : decode cX1_changePool 42 = .ok (.invokestatic 183, 3) := dk_184 0 183 (dk_at dksX1_changePool_1 19 rfl rfl)
theorem dX1_changePool_45 : decode cX1_changePool 45 = .ok (.iastore, 1) := dk_79 (dk_at dksX1_changePool_1 22 rfl rfl)
theorem dX1_changePool_46 : decode cX1_changePool 46 = .ok (.aload_n 0, 1) := dk_42 (dk_at dksX1_changePool_1 23 rfl rfl)
theorem dX1_changePool_47 : decode cX1_changePool 47 = .ok (.getfield 10, 3) := dk_180 0 10 (dk_at dksX1_changePool_2 0 rfl rfl)
theorem dX1_changePool_50 : decode cX1_changePool 50 = .ok (.getfield 189, 3) := dk_180 0 189 (dk_at dksX1_changePool_2 3 rfl rfl)
theorem dX1_changePool_53 : decode cX1_changePool 53 = .ok (.iload_n 1, 1) := dk_27 (dk_at dksX1_changePool_2 6 rfl rfl)
theorem dX1_changePool_54 : decode cX1_changePool 54 = .ok (.bipush 99, 2) := dk_16 99 (dk_at dksX1_changePool_2 7 rfl rfl)
theorem dX1_changePool_56 : decode cX1_changePool 56 = .ok (.aload_n 0, 1) := dk_42 (dk_at dksX1_changePool_2 9 rfl rfl)
theorem dX1_changePool_57 : decode cX1_changePool 57 = .ok (.getfield 10, 3) := dk_180 0 10 (dk_at dksX1_changePool_2 10 rfl rfl)
theorem dX1_changePool_60 : decode cX1_changePool 60 = .ok (.getfield 189, 3) := dk_180 0 189 (dk_at dksX1_changePool_2 13 rfl rfl)
theorem dX1_changePool_63 : decode cX1_changePool 63 = .ok (.iload_n 1, 1) := dk_27 (dk_at dksX1_changePool_2 16 rfl rfl)
theorem dX1_changePool_64 : decode cX1_changePool 64 = .ok (.iaload, 1) := dk_46 (dk_at dksX1_changePool_2 17 rfl rfl)
theorem dX1_changePool_65 : decode cX1_changePool 65 = .ok (.iload_n 2, 1) := dk_28 (dk_at dksX1_changePool_2 18 rfl rfl)
theorem dX1_changePool_66 : decode cX1_changePool 66 = .ok (.ifCond .eq 7, 3) := dk_153 0 7 (dk_at dksX1_changePool_2 19 rfl rfl)
theorem dX1_changePool_69 : decode cX1_changePool 69 = .ok (.iconst 3, 1) := dk_6 (dk_at dksX1_changePool_2 22 rfl rfl)
theorem dX1_changePool_70 : decode cX1_changePool 70 = .ok (.goto 4, 3) := dk_167 0 4 (dk_at dksX1_changePool_3 0 rfl rfl)
theorem dX1_changePool_73 : decode cX1_changePool 73 = .ok (.iconst 1, 1) := dk_4 (dk_at dksX1_changePool_3 3 rfl rfl)
theorem dX1_changePool_74 : decode cX1_changePool 74 = .ok (.iadd, 1) := dk_96 (dk_at dksX1_changePool_3 4 rfl rfl)
theorem dX1_changePool_75 : decode cX1_changePool 75 = .ok (.invokestatic 183, 3) := dk_184 0 183 (dk_at dksX1_changePool_3 5 rfl rfl)
theorem dX1_changePool_78 : decode cX1_changePool 78 = .ok (.iastore, 1) := dk_79 (dk_at dksX1_changePool_3 8 rfl rfl)
theorem dX1_changePool_79 : decode cX1_changePool 79 = .ok (.return_, 1) := dk_177 (dk_at dksX1_changePool_3 9 rfl rfl)
abbrev cX1_liveOn : ByteArray := prog_1_method_25_code
def yX1_liveOn : MethodName := ⟨RX1, "liveOn", "(LShorePools$Limpet;)V"⟩
def dkwX1_liveOn_9 : List UInt8 := [182, 0, 205, 177]
abbrev dktX1_liveOn_9 : List UInt8 := dkwX1_liveOn_9 ++ []
def dkwX1_liveOn_8 : List UInt8 := [154, 0, 12, 42, 43, 4, 182, 0, 205, 167, 0, 16, 43, 180, 0, 199, 154, 0, 9, 42, 43, 5]
abbrev dktX1_liveOn_8 : List UInt8 := dkwX1_liveOn_8 ++ dktX1_liveOn_9
def dkwX1_liveOn_7 : List UInt8 := [180, 0, 10, 180, 0, 106, 7, 112, 154, 0, 7, 4, 167, 0, 4, 3, 100, 181, 0, 199, 43, 180, 0, 193]
abbrev dktX1_liveOn_7 : List UInt8 := dkwX1_liveOn_7 ++ dktX1_liveOn_8
def dkwX1_liveOn_6 : List UInt8 := [96, 62, 43, 3, 43, 180, 0, 193, 29, 100, 184, 0, 202, 181, 0, 193, 43, 89, 180, 0, 199, 42]
abbrev dktX1_liveOn_6 : List UInt8 := dkwX1_liveOn_6 ++ dktX1_liveOn_7
def dkwX1_liveOn_5 : List UInt8 := [4, 167, 0, 4, 7, 42, 180, 0, 10, 180, 0, 177, 28, 46, 16, 25, 161, 0, 7, 4, 167, 0, 4, 3]
abbrev dktX1_liveOn_5 : List UInt8 := dkwX1_liveOn_5 ++ dktX1_liveOn_6
def dkwX1_liveOn_4 : List UInt8 := [167, 0, 64, 43, 3, 43, 180, 0, 196, 4, 100, 184, 0, 202, 181, 0, 196, 43, 180, 0, 196, 154, 0, 7]
abbrev dktX1_liveOn_4 : List UInt8 := dkwX1_liveOn_4 ++ dktX1_liveOn_5
def dkwX1_liveOn_3 : List UInt8 := [180, 0, 199, 29, 96, 184, 0, 183, 181, 0, 199, 42, 180, 0, 10, 180, 0, 189, 28, 92, 46, 29, 100, 79]
abbrev dktX1_liveOn_3 : List UInt8 := dkwX1_liveOn_3 ++ dktX1_liveOn_4
def dkwX1_liveOn_2 : List UInt8 := [46, 184, 0, 183, 62, 43, 6, 43, 180, 0, 196, 4, 96, 184, 0, 183, 181, 0, 196, 43, 16, 20, 43]
abbrev dktX1_liveOn_2 : List UInt8 := dkwX1_liveOn_2 ++ dktX1_liveOn_3
def dkwX1_liveOn_1 : List UInt8 := [157, 0, 15, 42, 180, 0, 10, 180, 0, 189, 28, 46, 158, 0, 123, 5, 42, 180, 0, 10, 180, 0, 189, 28]
abbrev dktX1_liveOn_1 : List UInt8 := dkwX1_liveOn_1 ++ dktX1_liveOn_2
def dkwX1_liveOn_0 : List UInt8 := [43, 180, 0, 192, 61, 42, 28, 182, 0, 174, 153, 0, 87, 43, 16, 12, 181, 0, 193, 43, 180, 0, 196]
abbrev dktX1_liveOn_0 : List UInt8 := dkwX1_liveOn_0 ++ dktX1_liveOn_1
theorem dksX1_liveOn_0 : cX1_liveOn.data.toList.drop 0 = dktX1_liveOn_0 := by decide +kernel
theorem dksX1_liveOn_1 : cX1_liveOn.data.toList.drop 23 = dktX1_liveOn_1 := dk_seg dksX1_liveOn_0 23 rfl rfl
theorem dksX1_liveOn_2 : cX1_liveOn.data.toList.drop 47 = dktX1_liveOn_2 := dk_seg dksX1_liveOn_1 24 rfl rfl
theorem dksX1_liveOn_3 : cX1_liveOn.data.toList.drop 70 = dktX1_liveOn_3 := dk_seg dksX1_liveOn_2 23 rfl rfl
theorem dksX1_liveOn_4 : cX1_liveOn.data.toList.drop 94 = dktX1_liveOn_4 := dk_seg dksX1_liveOn_3 24 rfl rfl
theorem dksX1_liveOn_5 : cX1_liveOn.data.toList.drop 118 = dktX1_liveOn_5 := dk_seg dksX1_liveOn_4 24 rfl rfl
theorem dksX1_liveOn_6 : cX1_liveOn.data.toList.drop 142 = dktX1_liveOn_6 := dk_seg dksX1_liveOn_5 24 rfl rfl
theorem dksX1_liveOn_7 : cX1_liveOn.data.toList.drop 164 = dktX1_liveOn_7 := dk_seg dksX1_liveOn_6 22 rfl rfl
theorem dksX1_liveOn_8 : cX1_liveOn.data.toList.drop 188 = dktX1_liveOn_8 := dk_seg dksX1_liveOn_7 24 rfl rfl
theorem dksX1_liveOn_9 : cX1_liveOn.data.toList.drop 210 = dktX1_liveOn_9 := dk_seg dksX1_liveOn_8 22 rfl rfl
theorem dX1_liveOn_0 : decode cX1_liveOn 0 = .ok (.aload_n 1, 1) := dk_43 (dk_at dksX1_liveOn_0 0 rfl rfl)
theorem dX1_liveOn_1 : decode cX1_liveOn 1 = .ok (.getfield 192, 3) := dk_180 0 192 (dk_at dksX1_liveOn_0 1 rfl rfl)
theorem dX1_liveOn_4 : decode cX1_liveOn 4 = .ok (.istore_n 2, 1) := dk_61 (dk_at dksX1_liveOn_0 4 rfl rfl)
theorem dX1_liveOn_5 : decode cX1_liveOn 5 = .ok (.aload_n 0, 1) := dk_42 (dk_at dksX1_liveOn_0 5 rfl rfl)
theorem dX1_liveOn_6 : decode cX1_liveOn 6 = .ok (.iload_n 2, 1) := dk_28 (dk_at dksX1_liveOn_0 6 rfl rfl)
theorem dX1_liveOn_7 : decode cX1_liveOn 7 = .ok (.invokevirtual 174, 3) := dk_182 0 174 (dk_at dksX1_liveOn_0 7 rfl rfl)
theorem dX1_liveOn_10 : decode cX1_liveOn 10 = .ok (.ifCond .eq 87, 3) := dk_153 0 87 (dk_at dksX1_liveOn_0 10 rfl rfl)
theorem dX1_liveOn_13 : decode cX1_liveOn 13 = .ok (.aload_n 1, 1) := dk_43 (dk_at dksX1_liveOn_0 13 rfl rfl)
theorem dX1_liveOn_14 : decode cX1_liveOn 14 = .ok (.bipush 12, 2) := dk_16 12 (dk_at dksX1_liveOn_0 14 rfl rfl)
theorem dX1_liveOn_16 : decode cX1_liveOn 16 = .ok (.putfield 193, 3) := dk_181 0 193 (dk_at dksX1_liveOn_0 16 rfl rfl)
theorem dX1_liveOn_19 : decode cX1_liveOn 19 = .ok (.aload_n 1, 1) := dk_43 (dk_at dksX1_liveOn_0 19 rfl rfl)
theorem dX1_liveOn_20 : decode cX1_liveOn 20 = .ok (.getfield 196, 3) := dk_180 0 196 (dk_at dksX1_liveOn_0 20 rfl rfl)
theorem dX1_liveOn_23 : decode cX1_liveOn 23 = .ok (.ifCond .gt 15, 3) := dk_157 0 15 (dk_at dksX1_liveOn_1 0 rfl rfl)
theorem dX1_liveOn_26 : decode cX1_liveOn 26 = .ok (.aload_n 0, 1) := dk_42 (dk_at dksX1_liveOn_1 3 rfl rfl)
theorem dX1_liveOn_27 : decode cX1_liveOn 27 = .ok (.getfield 10, 3) := dk_180 0 10 (dk_at dksX1_liveOn_1 4 rfl rfl)
theorem dX1_liveOn_30 : decode cX1_liveOn 30 = .ok (.getfield 189, 3) := dk_180 0 189 (dk_at dksX1_liveOn_1 7 rfl rfl)
theorem dX1_liveOn_33 : decode cX1_liveOn 33 = .ok (.iload_n 2, 1) := dk_28 (dk_at dksX1_liveOn_1 10 rfl rfl)
theorem dX1_liveOn_34 : decode cX1_liveOn 34 = .ok (.iaload, 1) := dk_46 (dk_at dksX1_liveOn_1 11 rfl rfl)
theorem dX1_liveOn_35 : decode cX1_liveOn 35 = .ok (.ifCond .le 123, 3) := dk_158 0 123 (dk_at dksX1_liveOn_1 12 rfl rfl)
theorem dX1_liveOn_38 : decode cX1_liveOn 38 = .ok (.iconst 2, 1) := dk_5 (dk_at dksX1_liveOn_1 15 rfl rfl)
theorem dX1_liveOn_39 : decode cX1_liveOn 39 = .ok (.aload_n 0, 1) := dk_42 (dk_at dksX1_liveOn_1 16 rfl rfl)
theorem dX1_liveOn_40 : decode cX1_liveOn 40 = .ok (.getfield 10, 3) := dk_180 0 10 (dk_at dksX1_liveOn_1 17 rfl rfl)
theorem dX1_liveOn_43 : decode cX1_liveOn 43 = .ok (.getfield 189, 3) := dk_180 0 189 (dk_at dksX1_liveOn_1 20 rfl rfl)
theorem dX1_liveOn_46 : decode cX1_liveOn 46 = .ok (.iload_n 2, 1) := dk_28 (dk_at dksX1_liveOn_1 23 rfl rfl)
theorem dX1_liveOn_47 : decode cX1_liveOn 47 = .ok (.iaload, 1) := dk_46 (dk_at dksX1_liveOn_2 0 rfl rfl)
theorem dX1_liveOn_48 : decode cX1_liveOn 48 = .ok (.invokestatic 183, 3) := dk_184 0 183 (dk_at dksX1_liveOn_2 1 rfl rfl)
theorem dX1_liveOn_51 : decode cX1_liveOn 51 = .ok (.istore_n 3, 1) := dk_62 (dk_at dksX1_liveOn_2 4 rfl rfl)
theorem dX1_liveOn_52 : decode cX1_liveOn 52 = .ok (.aload_n 1, 1) := dk_43 (dk_at dksX1_liveOn_2 5 rfl rfl)
theorem dX1_liveOn_53 : decode cX1_liveOn 53 = .ok (.iconst 3, 1) := dk_6 (dk_at dksX1_liveOn_2 6 rfl rfl)
theorem dX1_liveOn_54 : decode cX1_liveOn 54 = .ok (.aload_n 1, 1) := dk_43 (dk_at dksX1_liveOn_2 7 rfl rfl)
theorem dX1_liveOn_55 : decode cX1_liveOn 55 = .ok (.getfield 196, 3) := dk_180 0 196 (dk_at dksX1_liveOn_2 8 rfl rfl)
theorem dX1_liveOn_58 : decode cX1_liveOn 58 = .ok (.iconst 1, 1) := dk_4 (dk_at dksX1_liveOn_2 11 rfl rfl)
theorem dX1_liveOn_59 : decode cX1_liveOn 59 = .ok (.iadd, 1) := dk_96 (dk_at dksX1_liveOn_2 12 rfl rfl)
theorem dX1_liveOn_60 : decode cX1_liveOn 60 = .ok (.invokestatic 183, 3) := dk_184 0 183 (dk_at dksX1_liveOn_2 13 rfl rfl)
theorem dX1_liveOn_63 : decode cX1_liveOn 63 = .ok (.putfield 196, 3) := dk_181 0 196 (dk_at dksX1_liveOn_2 16 rfl rfl)
theorem dX1_liveOn_66 : decode cX1_liveOn 66 = .ok (.aload_n 1, 1) := dk_43 (dk_at dksX1_liveOn_2 19 rfl rfl)
theorem dX1_liveOn_67 : decode cX1_liveOn 67 = .ok (.bipush 20, 2) := dk_16 20 (dk_at dksX1_liveOn_2 20 rfl rfl)
theorem dX1_liveOn_69 : decode cX1_liveOn 69 = .ok (.aload_n 1, 1) := dk_43 (dk_at dksX1_liveOn_2 22 rfl rfl)
theorem dX1_liveOn_70 : decode cX1_liveOn 70 = .ok (.getfield 199, 3) := dk_180 0 199 (dk_at dksX1_liveOn_3 0 rfl rfl)
theorem dX1_liveOn_73 : decode cX1_liveOn 73 = .ok (.iload_n 3, 1) := dk_29 (dk_at dksX1_liveOn_3 3 rfl rfl)
theorem dX1_liveOn_74 : decode cX1_liveOn 74 = .ok (.iadd, 1) := dk_96 (dk_at dksX1_liveOn_3 4 rfl rfl)
theorem dX1_liveOn_75 : decode cX1_liveOn 75 = .ok (.invokestatic 183, 3) := dk_184 0 183 (dk_at dksX1_liveOn_3 5 rfl rfl)
theorem dX1_liveOn_78 : decode cX1_liveOn 78 = .ok (.putfield 199, 3) := dk_181 0 199 (dk_at dksX1_liveOn_3 8 rfl rfl)
theorem dX1_liveOn_81 : decode cX1_liveOn 81 = .ok (.aload_n 0, 1) := dk_42 (dk_at dksX1_liveOn_3 11 rfl rfl)
theorem dX1_liveOn_82 : decode cX1_liveOn 82 = .ok (.getfield 10, 3) := dk_180 0 10 (dk_at dksX1_liveOn_3 12 rfl rfl)
theorem dX1_liveOn_85 : decode cX1_liveOn 85 = .ok (.getfield 189, 3) := dk_180 0 189 (dk_at dksX1_liveOn_3 15 rfl rfl)
theorem dX1_liveOn_88 : decode cX1_liveOn 88 = .ok (.iload_n 2, 1) := dk_28 (dk_at dksX1_liveOn_3 18 rfl rfl)
theorem dX1_liveOn_89 : decode cX1_liveOn 89 = .ok (.dup2, 1) := dk_92 (dk_at dksX1_liveOn_3 19 rfl rfl)
theorem dX1_liveOn_90 : decode cX1_liveOn 90 = .ok (.iaload, 1) := dk_46 (dk_at dksX1_liveOn_3 20 rfl rfl)
theorem dX1_liveOn_91 : decode cX1_liveOn 91 = .ok (.iload_n 3, 1) := dk_29 (dk_at dksX1_liveOn_3 21 rfl rfl)
theorem dX1_liveOn_92 : decode cX1_liveOn 92 = .ok (.isub, 1) := dk_100 (dk_at dksX1_liveOn_3 22 rfl rfl)
theorem dX1_liveOn_93 : decode cX1_liveOn 93 = .ok (.iastore, 1) := dk_79 (dk_at dksX1_liveOn_3 23 rfl rfl)
theorem dX1_liveOn_94 : decode cX1_liveOn 94 = .ok (.goto 64, 3) := dk_167 0 64 (dk_at dksX1_liveOn_4 0 rfl rfl)
theorem dX1_liveOn_97 : decode cX1_liveOn 97 = .ok (.aload_n 1, 1) := dk_43 (dk_at dksX1_liveOn_4 3 rfl rfl)
theorem dX1_liveOn_98 : decode cX1_liveOn 98 = .ok (.iconst 0, 1) := dk_3 (dk_at dksX1_liveOn_4 4 rfl rfl)
theorem dX1_liveOn_99 : decode cX1_liveOn 99 = .ok (.aload_n 1, 1) := dk_43 (dk_at dksX1_liveOn_4 5 rfl rfl)
theorem dX1_liveOn_100 : decode cX1_liveOn 100 = .ok (.getfield 196, 3) := dk_180 0 196 (dk_at dksX1_liveOn_4 6 rfl rfl)
theorem dX1_liveOn_103 : decode cX1_liveOn 103 = .ok (.iconst 1, 1) := dk_4 (dk_at dksX1_liveOn_4 9 rfl rfl)
theorem dX1_liveOn_104 : decode cX1_liveOn 104 = .ok (.isub, 1) := dk_100 (dk_at dksX1_liveOn_4 10 rfl rfl)
theorem dX1_liveOn_105 : decode cX1_liveOn 105 = .ok (.invokestatic 202, 3) := dk_184 0 202 (dk_at dksX1_liveOn_4 11 rfl rfl)
theorem dX1_liveOn_108 : decode cX1_liveOn 108 = .ok (.putfield 196, 3) := dk_181 0 196 (dk_at dksX1_liveOn_4 14 rfl rfl)
theorem dX1_liveOn_111 : decode cX1_liveOn 111 = .ok (.aload_n 1, 1) := dk_43 (dk_at dksX1_liveOn_4 17 rfl rfl)
theorem dX1_liveOn_112 : decode cX1_liveOn 112 = .ok (.getfield 196, 3) := dk_180 0 196 (dk_at dksX1_liveOn_4 18 rfl rfl)
theorem dX1_liveOn_115 : decode cX1_liveOn 115 = .ok (.ifCond .ne 7, 3) := dk_154 0 7 (dk_at dksX1_liveOn_4 21 rfl rfl)
theorem dX1_liveOn_118 : decode cX1_liveOn 118 = .ok (.iconst 1, 1) := dk_4 (dk_at dksX1_liveOn_5 0 rfl rfl)
theorem dX1_liveOn_119 : decode cX1_liveOn 119 = .ok (.goto 4, 3) := dk_167 0 4 (dk_at dksX1_liveOn_5 1 rfl rfl)
theorem dX1_liveOn_122 : decode cX1_liveOn 122 = .ok (.iconst 4, 1) := dk_7 (dk_at dksX1_liveOn_5 4 rfl rfl)
theorem dX1_liveOn_123 : decode cX1_liveOn 123 = .ok (.aload_n 0, 1) := dk_42 (dk_at dksX1_liveOn_5 5 rfl rfl)
theorem dX1_liveOn_124 : decode cX1_liveOn 124 = .ok (.getfield 10, 3) := dk_180 0 10 (dk_at dksX1_liveOn_5 6 rfl rfl)
theorem dX1_liveOn_127 : decode cX1_liveOn 127 = .ok (.getfield 177, 3) := dk_180 0 177 (dk_at dksX1_liveOn_5 9 rfl rfl)
theorem dX1_liveOn_130 : decode cX1_liveOn 130 = .ok (.iload_n 2, 1) := dk_28 (dk_at dksX1_liveOn_5 12 rfl rfl)
theorem dX1_liveOn_131 : decode cX1_liveOn 131 = .ok (.iaload, 1) := dk_46 (dk_at dksX1_liveOn_5 13 rfl rfl)
theorem dX1_liveOn_132 : decode cX1_liveOn 132 = .ok (.bipush 25, 2) := dk_16 25 (dk_at dksX1_liveOn_5 14 rfl rfl)
theorem dX1_liveOn_134 : decode cX1_liveOn 134 = .ok (.if_icmp .lt 7, 3) := dk_161 0 7 (dk_at dksX1_liveOn_5 16 rfl rfl)
theorem dX1_liveOn_137 : decode cX1_liveOn 137 = .ok (.iconst 1, 1) := dk_4 (dk_at dksX1_liveOn_5 19 rfl rfl)
theorem dX1_liveOn_138 : decode cX1_liveOn 138 = .ok (.goto 4, 3) := dk_167 0 4 (dk_at dksX1_liveOn_5 20 rfl rfl)
theorem dX1_liveOn_141 : decode cX1_liveOn 141 = .ok (.iconst 0, 1) := dk_3 (dk_at dksX1_liveOn_5 23 rfl rfl)
theorem dX1_liveOn_142 : decode cX1_liveOn 142 = .ok (.iadd, 1) := dk_96 (dk_at dksX1_liveOn_6 0 rfl rfl)
theorem dX1_liveOn_143 : decode cX1_liveOn 143 = .ok (.istore_n 3, 1) := dk_62 (dk_at dksX1_liveOn_6 1 rfl rfl)
theorem dX1_liveOn_144 : decode cX1_liveOn 144 = .ok (.aload_n 1, 1) := dk_43 (dk_at dksX1_liveOn_6 2 rfl rfl)
theorem dX1_liveOn_145 : decode cX1_liveOn 145 = .ok (.iconst 0, 1) := dk_3 (dk_at dksX1_liveOn_6 3 rfl rfl)
theorem dX1_liveOn_146 : decode cX1_liveOn 146 = .ok (.aload_n 1, 1) := dk_43 (dk_at dksX1_liveOn_6 4 rfl rfl)
theorem dX1_liveOn_147 : decode cX1_liveOn 147 = .ok (.getfield 193, 3) := dk_180 0 193 (dk_at dksX1_liveOn_6 5 rfl rfl)
theorem dX1_liveOn_150 : decode cX1_liveOn 150 = .ok (.iload_n 3, 1) := dk_29 (dk_at dksX1_liveOn_6 8 rfl rfl)
theorem dX1_liveOn_151 : decode cX1_liveOn 151 = .ok (.isub, 1) := dk_100 (dk_at dksX1_liveOn_6 9 rfl rfl)
theorem dX1_liveOn_152 : decode cX1_liveOn 152 = .ok (.invokestatic 202, 3) := dk_184 0 202 (dk_at dksX1_liveOn_6 10 rfl rfl)
theorem dX1_liveOn_155 : decode cX1_liveOn 155 = .ok (.putfield 193, 3) := dk_181 0 193 (dk_at dksX1_liveOn_6 13 rfl rfl)
theorem dX1_liveOn_158 : decode cX1_liveOn 158 = .ok (.aload_n 1, 1) := dk_43 (dk_at dksX1_liveOn_6 16 rfl rfl)
theorem dX1_liveOn_159 : decode cX1_liveOn 159 = .ok (.dup, 1) := dk_89 (dk_at dksX1_liveOn_6 17 rfl rfl)
theorem dX1_liveOn_160 : decode cX1_liveOn 160 = .ok (.getfield 199, 3) := dk_180 0 199 (dk_at dksX1_liveOn_6 18 rfl rfl)
theorem dX1_liveOn_163 : decode cX1_liveOn 163 = .ok (.aload_n 0, 1) := dk_42 (dk_at dksX1_liveOn_6 21 rfl rfl)
theorem dX1_liveOn_164 : decode cX1_liveOn 164 = .ok (.getfield 10, 3) := dk_180 0 10 (dk_at dksX1_liveOn_7 0 rfl rfl)
theorem dX1_liveOn_167 : decode cX1_liveOn 167 = .ok (.getfield 106, 3) := dk_180 0 106 (dk_at dksX1_liveOn_7 3 rfl rfl)
theorem dX1_liveOn_170 : decode cX1_liveOn 170 = .ok (.iconst 4, 1) := dk_7 (dk_at dksX1_liveOn_7 6 rfl rfl)
theorem dX1_liveOn_171 : decode cX1_liveOn 171 = .ok (.irem, 1) := dk_112 (dk_at dksX1_liveOn_7 7 rfl rfl)
theorem dX1_liveOn_172 : decode cX1_liveOn 172 = .ok (.ifCond .ne 7, 3) := dk_154 0 7 (dk_at dksX1_liveOn_7 8 rfl rfl)
theorem dX1_liveOn_175 : decode cX1_liveOn 175 = .ok (.iconst 1, 1) := dk_4 (dk_at dksX1_liveOn_7 11 rfl rfl)
theorem dX1_liveOn_176 : decode cX1_liveOn 176 = .ok (.goto 4, 3) := dk_167 0 4 (dk_at dksX1_liveOn_7 12 rfl rfl)
theorem dX1_liveOn_179 : decode cX1_liveOn 179 = .ok (.iconst 0, 1) := dk_3 (dk_at dksX1_liveOn_7 15 rfl rfl)
theorem dX1_liveOn_180 : decode cX1_liveOn 180 = .ok (.isub, 1) := dk_100 (dk_at dksX1_liveOn_7 16 rfl rfl)
theorem dX1_liveOn_181 : decode cX1_liveOn 181 = .ok (.putfield 199, 3) := dk_181 0 199 (dk_at dksX1_liveOn_7 17 rfl rfl)
theorem dX1_liveOn_184 : decode cX1_liveOn 184 = .ok (.aload_n 1, 1) := dk_43 (dk_at dksX1_liveOn_7 20 rfl rfl)
theorem dX1_liveOn_185 : decode cX1_liveOn 185 = .ok (.getfield 193, 3) := dk_180 0 193 (dk_at dksX1_liveOn_7 21 rfl rfl)
theorem dX1_liveOn_188 : decode cX1_liveOn 188 = .ok (.ifCond .ne 12, 3) := dk_154 0 12 (dk_at dksX1_liveOn_8 0 rfl rfl)
theorem dX1_liveOn_191 : decode cX1_liveOn 191 = .ok (.aload_n 0, 1) := dk_42 (dk_at dksX1_liveOn_8 3 rfl rfl)
theorem dX1_liveOn_192 : decode cX1_liveOn 192 = .ok (.aload_n 1, 1) := dk_43 (dk_at dksX1_liveOn_8 4 rfl rfl)
theorem dX1_liveOn_193 : decode cX1_liveOn 193 = .ok (.iconst 1, 1) := dk_4 (dk_at dksX1_liveOn_8 5 rfl rfl)
theorem dX1_liveOn_194 : decode cX1_liveOn 194 = .ok (.invokevirtual 205, 3) := dk_182 0 205 (dk_at dksX1_liveOn_8 6 rfl rfl)
theorem dX1_liveOn_197 : decode cX1_liveOn 197 = .ok (.goto 16, 3) := dk_167 0 16 (dk_at dksX1_liveOn_8 9 rfl rfl)
theorem dX1_liveOn_200 : decode cX1_liveOn 200 = .ok (.aload_n 1, 1) := dk_43 (dk_at dksX1_liveOn_8 12 rfl rfl)
theorem dX1_liveOn_201 : decode cX1_liveOn 201 = .ok (.getfield 199, 3) := dk_180 0 199 (dk_at dksX1_liveOn_8 13 rfl rfl)
theorem dX1_liveOn_204 : decode cX1_liveOn 204 = .ok (.ifCond .ne 9, 3) := dk_154 0 9 (dk_at dksX1_liveOn_8 16 rfl rfl)
theorem dX1_liveOn_207 : decode cX1_liveOn 207 = .ok (.aload_n 0, 1) := dk_42 (dk_at dksX1_liveOn_8 19 rfl rfl)
theorem dX1_liveOn_208 : decode cX1_liveOn 208 = .ok (.aload_n 1, 1) := dk_43 (dk_at dksX1_liveOn_8 20 rfl rfl)
theorem dX1_liveOn_209 : decode cX1_liveOn 209 = .ok (.iconst 2, 1) := dk_5 (dk_at dksX1_liveOn_8 21 rfl rfl)
theorem dX1_liveOn_210 : decode cX1_liveOn 210 = .ok (.invokevirtual 205, 3) := dk_182 0 205 (dk_at dksX1_liveOn_9 0 rfl rfl)
theorem dX1_liveOn_213 : decode cX1_liveOn 213 = .ok (.return_, 1) := dk_177 (dk_at dksX1_liveOn_9 3 rfl rfl)
abbrev cX1_loseLimpet : ByteArray := prog_1_method_23_code
def yX1_loseLimpet : MethodName := ⟨RX1, "loseLimpet", "(LShorePools$Limpet;I)V"⟩
def dkwX1_loseLimpet_0 : List UInt8 := [43, 28, 181, 0, 173, 42, 180, 0, 10, 89, 180, 0, 170, 4, 96, 181, 0, 170, 177]
abbrev dktX1_loseLimpet_0 : List UInt8 := dkwX1_loseLimpet_0 ++ []
theorem dksX1_loseLimpet_0 : cX1_loseLimpet.data.toList.drop 0 = dktX1_loseLimpet_0 := by decide +kernel
theorem dX1_loseLimpet_0 : decode cX1_loseLimpet 0 = .ok (.aload_n 1, 1) := dk_43 (dk_at dksX1_loseLimpet_0 0 rfl rfl)
theorem dX1_loseLimpet_1 : decode cX1_loseLimpet 1 = .ok (.iload_n 2, 1) := dk_28 (dk_at dksX1_loseLimpet_0 1 rfl rfl)
theorem dX1_loseLimpet_2 : decode cX1_loseLimpet 2 = .ok (.putfield 173, 3) := dk_181 0 173 (dk_at dksX1_loseLimpet_0 2 rfl rfl)
theorem dX1_loseLimpet_5 : decode cX1_loseLimpet 5 = .ok (.aload_n 0, 1) := dk_42 (dk_at dksX1_loseLimpet_0 5 rfl rfl)
theorem dX1_loseLimpet_6 : decode cX1_loseLimpet 6 = .ok (.getfield 10, 3) := dk_180 0 10 (dk_at dksX1_loseLimpet_0 6 rfl rfl)
theorem dX1_loseLimpet_9 : decode cX1_loseLimpet 9 = .ok (.dup, 1) := dk_89 (dk_at dksX1_loseLimpet_0 9 rfl rfl)
theorem dX1_loseLimpet_10 : decode cX1_loseLimpet 10 = .ok (.getfield 170, 3) := dk_180 0 170 (dk_at dksX1_loseLimpet_0 10 rfl rfl)
theorem dX1_loseLimpet_13 : decode cX1_loseLimpet 13 = .ok (.iconst 1, 1) := dk_4 (dk_at dksX1_loseLimpet_0 13 rfl rfl)
theorem dX1_loseLimpet_14 : decode cX1_loseLimpet 14 = .ok (.iadd, 1) := dk_96 (dk_at dksX1_loseLimpet_0 14 rfl rfl)
theorem dX1_loseLimpet_15 : decode cX1_loseLimpet 15 = .ok (.putfield 170, 3) := dk_181 0 170 (dk_at dksX1_loseLimpet_0 15 rfl rfl)
theorem dX1_loseLimpet_18 : decode cX1_loseLimpet 18 = .ok (.return_, 1) := dk_177 (dk_at dksX1_loseLimpet_0 18 rfl rfl)
abbrev cX1_wander : ByteArray := prog_1_method_26_code
def yX1_wander : MethodName := ⟨RX1, "wander", "(LShorePools$Crab;)V"⟩
def dkwX1_wander_7 : List UInt8 := [182, 0, 56, 192, 0, 65, 28, 181, 0, 140, 177]
abbrev dktX1_wander_7 : List UInt8 := dkwX1_wander_7 ++ []
def dkwX1_wander_6 : List UInt8 := [181, 0, 137, 43, 180, 0, 113, 2, 159, 0, 24, 42, 180, 0, 10, 180, 0, 62, 43, 180, 0, 113]
abbrev dktX1_wander_6 : List UInt8 := dkwX1_wander_6 ++ dktX1_wander_7
def dkwX1_wander_5 : List UInt8 := [182, 0, 56, 192, 0, 116, 43, 184, 0, 118, 62, 132, 4, 1, 167, 255, 163, 28, 2, 159, 0, 37, 43, 28]
abbrev dktX1_wander_5 : List UInt8 := dkwX1_wander_5 ++ dktX1_wander_6
def dkwX1_wander_4 : List UInt8 := [192, 0, 116, 43, 184, 0, 118, 29, 164, 0, 26, 21, 4, 61, 42, 180, 0, 10, 180, 0, 62, 21, 5]
abbrev dktX1_wander_4 : List UInt8 := dkwX1_wander_4 ++ dktX1_wander_5
def dkwX1_wander_3 : List UInt8 := [182, 0, 154, 54, 5, 21, 5, 2, 159, 0, 49, 42, 180, 0, 10, 180, 0, 62, 21, 5, 182, 0, 56]
abbrev dktX1_wander_3 : List UInt8 := dkwX1_wander_3 ++ dktX1_wander_4
def dkwX1_wander_2 : List UInt8 := [43, 180, 0, 137, 159, 0, 12, 42, 21, 4, 182, 0, 174, 154, 0, 7, 2, 167, 0, 10, 42, 43, 21, 4]
abbrev dktX1_wander_2 : List UInt8 := dkwX1_wander_2 ++ dktX1_wander_3
def dkwX1_wander_1 : List UInt8 := [154, 0, 4, 177, 2, 61, 42, 43, 182, 0, 126, 62, 3, 54, 4, 21, 4, 16, 8, 162, 0, 92, 21, 4]
abbrev dktX1_wander_1 : List UInt8 := dkwX1_wander_1 ++ dktX1_wander_2
def dkwX1_wander_0 : List UInt8 := [42, 43, 180, 0, 137, 182, 0, 174, 153, 0, 19, 43, 180, 0, 113, 2, 159, 0, 12, 42, 43, 182, 0, 209]
abbrev dktX1_wander_0 : List UInt8 := dkwX1_wander_0 ++ dktX1_wander_1
theorem dksX1_wander_0 : cX1_wander.data.toList.drop 0 = dktX1_wander_0 := by decide +kernel
theorem dksX1_wander_1 : cX1_wander.data.toList.drop 24 = dktX1_wander_1 := dk_seg dksX1_wander_0 24 rfl rfl
theorem dksX1_wander_2 : cX1_wander.data.toList.drop 48 = dktX1_wander_2 := dk_seg dksX1_wander_1 24 rfl rfl
theorem dksX1_wander_3 : cX1_wander.data.toList.drop 72 = dktX1_wander_3 := dk_seg dksX1_wander_2 24 rfl rfl
theorem dksX1_wander_4 : cX1_wander.data.toList.drop 95 = dktX1_wander_4 := dk_seg dksX1_wander_3 23 rfl rfl
theorem dksX1_wander_5 : cX1_wander.data.toList.drop 118 = dktX1_wander_5 := dk_seg dksX1_wander_4 23 rfl rfl
theorem dksX1_wander_6 : cX1_wander.data.toList.drop 142 = dktX1_wander_6 := dk_seg dksX1_wander_5 24 rfl rfl
theorem dksX1_wander_7 : cX1_wander.data.toList.drop 164 = dktX1_wander_7 := dk_seg dksX1_wander_6 22 rfl rfl
theorem dX1_wander_0 : decode cX1_wander 0 = .ok (.aload_n 0, 1) := dk_42 (dk_at dksX1_wander_0 0 rfl rfl)
theorem dX1_wander_1 : decode cX1_wander 1 = .ok (.aload_n 1, 1) := dk_43 (dk_at dksX1_wander_0 1 rfl rfl)
theorem dX1_wander_2 : decode cX1_wander 2 = .ok (.getfield 137, 3) := dk_180 0 137 (dk_at dksX1_wander_0 2 rfl rfl)
theorem dX1_wander_5 : decode cX1_wander 5 = .ok (.invokevirtual 174, 3) := dk_182 0 174 (dk_at dksX1_wander_0 5 rfl rfl)
theorem dX1_wander_8 : decode cX1_wander 8 = .ok (.ifCond .eq 19, 3) := dk_153 0 19 (dk_at dksX1_wander_0 8 rfl rfl)
theorem dX1_wander_11 : decode cX1_wander 11 = .ok (.aload_n 1, 1) := dk_43 (dk_at dksX1_wander_0 11 rfl rfl)
theorem dX1_wander_12 : decode cX1_wander 12 = .ok (.getfield 113, 3) := dk_180 0 113 (dk_at dksX1_wander_0 12 rfl rfl)
theorem dX1_wander_15 : decode cX1_wander 15 = .ok (.iconst (-1), 1) := dk_2 (dk_at dksX1_wander_0 15 rfl rfl)
theorem dX1_wander_16 : decode cX1_wander 16 = .ok (.if_icmp .eq 12, 3) := dk_159 0 12 (dk_at dksX1_wander_0 16 rfl rfl)
theorem dX1_wander_19 : decode cX1_wander 19 = .ok (.aload_n 0, 1) := dk_42 (dk_at dksX1_wander_0 19 rfl rfl)
theorem dX1_wander_20 : decode cX1_wander 20 = .ok (.aload_n 1, 1) := dk_43 (dk_at dksX1_wander_0 20 rfl rfl)
theorem dX1_wander_21 : decode cX1_wander 21 = .ok (.invokevirtual 209, 3) := dk_182 0 209 (dk_at dksX1_wander_0 21 rfl rfl)
theorem dX1_wander_24 : decode cX1_wander 24 = .ok (.ifCond .ne 4, 3) := dk_154 0 4 (dk_at dksX1_wander_1 0 rfl rfl)
theorem dX1_wander_27 : decode cX1_wander 27 = .ok (.return_, 1) := dk_177 (dk_at dksX1_wander_1 3 rfl rfl)
theorem dX1_wander_28 : decode cX1_wander 28 = .ok (.iconst (-1), 1) := dk_2 (dk_at dksX1_wander_1 4 rfl rfl)
theorem dX1_wander_29 : decode cX1_wander 29 = .ok (.istore_n 2, 1) := dk_61 (dk_at dksX1_wander_1 5 rfl rfl)
theorem dX1_wander_30 : decode cX1_wander 30 = .ok (.aload_n 0, 1) := dk_42 (dk_at dksX1_wander_1 6 rfl rfl)
theorem dX1_wander_31 : decode cX1_wander 31 = .ok (.aload_n 1, 1) := dk_43 (dk_at dksX1_wander_1 7 rfl rfl)
theorem dX1_wander_32 : decode cX1_wander 32 = .ok (.invokevirtual 126, 3) := dk_182 0 126 (dk_at dksX1_wander_1 8 rfl rfl)
theorem dX1_wander_35 : decode cX1_wander 35 = .ok (.istore_n 3, 1) := dk_62 (dk_at dksX1_wander_1 11 rfl rfl)
theorem dX1_wander_36 : decode cX1_wander 36 = .ok (.iconst 0, 1) := dk_3 (dk_at dksX1_wander_1 12 rfl rfl)
theorem dX1_wander_37 : decode cX1_wander 37 = .ok (.istore 4, 2) := dk_54 4 (dk_at dksX1_wander_1 13 rfl rfl)
theorem dX1_wander_39 : decode cX1_wander 39 = .ok (.iload 4, 2) := dk_21 4 (dk_at dksX1_wander_1 15 rfl rfl)
theorem dX1_wander_41 : decode cX1_wander 41 = .ok (.bipush 8, 2) := dk_16 8 (dk_at dksX1_wander_1 17 rfl rfl)
theorem dX1_wander_43 : decode cX1_wander 43 = .ok (.if_icmp .ge 92, 3) := dk_162 0 92 (dk_at dksX1_wander_1 19 rfl rfl)
theorem dX1_wander_46 : decode cX1_wander 46 = .ok (.iload 4, 2) := dk_21 4 (dk_at dksX1_wander_1 22 rfl rfl)
theorem dX1_wander_48 : decode cX1_wander 48 = .ok (.aload_n 1, 1) := dk_43 (dk_at dksX1_wander_2 0 rfl rfl)
theorem dX1_wander_49 : decode cX1_wander 49 = .ok (.getfield 137, 3) := dk_180 0 137 (dk_at dksX1_wander_2 1 rfl rfl)
theorem dX1_wander_52 : decode cX1_wander 52 = .ok (.if_icmp .eq 12, 3) := dk_159 0 12 (dk_at dksX1_wander_2 4 rfl rfl)
theorem dX1_wander_55 : decode cX1_wander 55 = .ok (.aload_n 0, 1) := dk_42 (dk_at dksX1_wander_2 7 rfl rfl)
theorem dX1_wander_56 : decode cX1_wander 56 = .ok (.iload 4, 2) := dk_21 4 (dk_at dksX1_wander_2 8 rfl rfl)
theorem dX1_wander_58 : decode cX1_wander 58 = .ok (.invokevirtual 174, 3) := dk_182 0 174 (dk_at dksX1_wander_2 10 rfl rfl)
theorem dX1_wander_61 : decode cX1_wander 61 = .ok (.ifCond .ne 7, 3) := dk_154 0 7 (dk_at dksX1_wander_2 13 rfl rfl)
theorem dX1_wander_64 : decode cX1_wander 64 = .ok (.iconst (-1), 1) := dk_2 (dk_at dksX1_wander_2 16 rfl rfl)
theorem dX1_wander_65 : decode cX1_wander 65 = .ok (.goto 10, 3) := dk_167 0 10 (dk_at dksX1_wander_2 17 rfl rfl)
theorem dX1_wander_68 : decode cX1_wander 68 = .ok (.aload_n 0, 1) := dk_42 (dk_at dksX1_wander_2 20 rfl rfl)
theorem dX1_wander_69 : decode cX1_wander 69 = .ok (.aload_n 1, 1) := dk_43 (dk_at dksX1_wander_2 21 rfl rfl)
theorem dX1_wander_70 : decode cX1_wander 70 = .ok (.iload 4, 2) := dk_21 4 (dk_at dksX1_wander_2 22 rfl rfl)
theorem dX1_wander_72 : decode cX1_wander 72 = .ok (.invokevirtual 154, 3) := dk_182 0 154 (dk_at dksX1_wander_3 0 rfl rfl)
theorem dX1_wander_75 : decode cX1_wander 75 = .ok (.istore 5, 2) := dk_54 5 (dk_at dksX1_wander_3 3 rfl rfl)
theorem dX1_wander_77 : decode cX1_wander 77 = .ok (.iload 5, 2) := dk_21 5 (dk_at dksX1_wander_3 5 rfl rfl)
theorem dX1_wander_79 : decode cX1_wander 79 = .ok (.iconst (-1), 1) := dk_2 (dk_at dksX1_wander_3 7 rfl rfl)
theorem dX1_wander_80 : decode cX1_wander 80 = .ok (.if_icmp .eq 49, 3) := dk_159 0 49 (dk_at dksX1_wander_3 8 rfl rfl)
theorem dX1_wander_83 : decode cX1_wander 83 = .ok (.aload_n 0, 1) := dk_42 (dk_at dksX1_wander_3 11 rfl rfl)
theorem dX1_wander_84 : decode cX1_wander 84 = .ok (.getfield 10, 3) := dk_180 0 10 (dk_at dksX1_wander_3 12 rfl rfl)
theorem dX1_wander_87 : decode cX1_wander 87 = .ok (.getfield 62, 3) := dk_180 0 62 (dk_at dksX1_wander_3 15 rfl rfl)
theorem dX1_wander_90 : decode cX1_wander 90 = .ok (.iload 5, 2) := dk_21 5 (dk_at dksX1_wander_3 18 rfl rfl)
theorem dX1_wander_92 : decode cX1_wander 92 = .ok (.invokevirtual 56, 3) := dk_182 0 56 (dk_at dksX1_wander_3 20 rfl rfl)
theorem dX1_wander_95 : decode cX1_wander 95 = .ok (.checkcast 116, 3) := dk_192 0 116 (dk_at dksX1_wander_4 0 rfl rfl)
theorem dX1_wander_98 : decode cX1_wander 98 = .ok (.aload_n 1, 1) := dk_43 (dk_at dksX1_wander_4 3 rfl rfl)
theorem dX1_wander_99 : decode cX1_wander 99 = .ok (.invokestatic 118, 3) := dk_184 0 118 (dk_at dksX1_wander_4 4 rfl rfl)
theorem dX1_wander_102 : decode cX1_wander 102 = .ok (.iload_n 3, 1) := dk_29 (dk_at dksX1_wander_4 7 rfl rfl)
theorem dX1_wander_103 : decode cX1_wander 103 = .ok (.if_icmp .le 26, 3) := dk_164 0 26 (dk_at dksX1_wander_4 8 rfl rfl)
theorem dX1_wander_106 : decode cX1_wander 106 = .ok (.iload 4, 2) := dk_21 4 (dk_at dksX1_wander_4 11 rfl rfl)
theorem dX1_wander_108 : decode cX1_wander 108 = .ok (.istore_n 2, 1) := dk_61 (dk_at dksX1_wander_4 13 rfl rfl)
theorem dX1_wander_109 : decode cX1_wander 109 = .ok (.aload_n 0, 1) := dk_42 (dk_at dksX1_wander_4 14 rfl rfl)
theorem dX1_wander_110 : decode cX1_wander 110 = .ok (.getfield 10, 3) := dk_180 0 10 (dk_at dksX1_wander_4 15 rfl rfl)
theorem dX1_wander_113 : decode cX1_wander 113 = .ok (.getfield 62, 3) := dk_180 0 62 (dk_at dksX1_wander_4 18 rfl rfl)
theorem dX1_wander_116 : decode cX1_wander 116 = .ok (.iload 5, 2) := dk_21 5 (dk_at dksX1_wander_4 21 rfl rfl)
theorem dX1_wander_118 : decode cX1_wander 118 = .ok (.invokevirtual 56, 3) := dk_182 0 56 (dk_at dksX1_wander_5 0 rfl rfl)
theorem dX1_wander_121 : decode cX1_wander 121 = .ok (.checkcast 116, 3) := dk_192 0 116 (dk_at dksX1_wander_5 3 rfl rfl)
theorem dX1_wander_124 : decode cX1_wander 124 = .ok (.aload_n 1, 1) := dk_43 (dk_at dksX1_wander_5 6 rfl rfl)
theorem dX1_wander_125 : decode cX1_wander 125 = .ok (.invokestatic 118, 3) := dk_184 0 118 (dk_at dksX1_wander_5 7 rfl rfl)
theorem dX1_wander_128 : decode cX1_wander 128 = .ok (.istore_n 3, 1) := dk_62 (dk_at dksX1_wander_5 10 rfl rfl)
theorem dX1_wander_129 : decode cX1_wander 129 = .ok (.iinc 4 1, 3) := dk_132 4 1 (dk_at dksX1_wander_5 11 rfl rfl)
theorem dX1_wander_132 : decode cX1_wander 132 = .ok (.goto (-93), 3) := dk_167 255 163 (dk_at dksX1_wander_5 14 rfl rfl)
theorem dX1_wander_135 : decode cX1_wander 135 = .ok (.iload_n 2, 1) := dk_28 (dk_at dksX1_wander_5 17 rfl rfl)
theorem dX1_wander_136 : decode cX1_wander 136 = .ok (.iconst (-1), 1) := dk_2 (dk_at dksX1_wander_5 18 rfl rfl)
theorem dX1_wander_137 : decode cX1_wander 137 = .ok (.if_icmp .eq 37, 3) := dk_159 0 37 (dk_at dksX1_wander_5 19 rfl rfl)
theorem dX1_wander_140 : decode cX1_wander 140 = .ok (.aload_n 1, 1) := dk_43 (dk_at dksX1_wander_5 22 rfl rfl)
theorem dX1_wander_141 : decode cX1_wander 141 = .ok (.iload_n 2, 1) := dk_28 (dk_at dksX1_wander_5 23 rfl rfl)
theorem dX1_wander_142 : decode cX1_wander 142 = .ok (.putfield 137, 3) := dk_181 0 137 (dk_at dksX1_wander_6 0 rfl rfl)
theorem dX1_wander_145 : decode cX1_wander 145 = .ok (.aload_n 1, 1) := dk_43 (dk_at dksX1_wander_6 3 rfl rfl)
theorem dX1_wander_146 : decode cX1_wander 146 = .ok (.getfield 113, 3) := dk_180 0 113 (dk_at dksX1_wander_6 4 rfl rfl)
theorem dX1_wander_149 : decode cX1_wander 149 = .ok (.iconst (-1), 1) := dk_2 (dk_at dksX1_wander_6 7 rfl rfl)
theorem dX1_wander_150 : decode cX1_wander 150 = .ok (.if_icmp .eq 24, 3) := dk_159 0 24 (dk_at dksX1_wander_6 8 rfl rfl)
theorem dX1_wander_153 : decode cX1_wander 153 = .ok (.aload_n 0, 1) := dk_42 (dk_at dksX1_wander_6 11 rfl rfl)
theorem dX1_wander_154 : decode cX1_wander 154 = .ok (.getfield 10, 3) := dk_180 0 10 (dk_at dksX1_wander_6 12 rfl rfl)
theorem dX1_wander_157 : decode cX1_wander 157 = .ok (.getfield 62, 3) := dk_180 0 62 (dk_at dksX1_wander_6 15 rfl rfl)
theorem dX1_wander_160 : decode cX1_wander 160 = .ok (.aload_n 1, 1) := dk_43 (dk_at dksX1_wander_6 18 rfl rfl)
theorem dX1_wander_161 : decode cX1_wander 161 = .ok (.getfield 113, 3) := dk_180 0 113 (dk_at dksX1_wander_6 19 rfl rfl)
theorem dX1_wander_164 : decode cX1_wander 164 = .ok (.invokevirtual 56, 3) := dk_182 0 56 (dk_at dksX1_wander_7 0 rfl rfl)
theorem dX1_wander_167 : decode cX1_wander 167 = .ok (.checkcast 65, 3) := dk_192 0 65 (dk_at dksX1_wander_7 3 rfl rfl)
theorem dX1_wander_170 : decode cX1_wander 170 = .ok (.iload_n 2, 1) := dk_28 (dk_at dksX1_wander_7 6 rfl rfl)
theorem dX1_wander_171 : decode cX1_wander 171 = .ok (.putfield 140, 3) := dk_181 0 140 (dk_at dksX1_wander_7 7 rfl rfl)
theorem dX1_wander_174 : decode cX1_wander 174 = .ok (.return_, 1) := dk_177 (dk_at dksX1_wander_7 10 rfl rfl)
abbrev cX1_isTight : ByteArray := prog_1_method_15_code
def yX1_isTight : MethodName := ⟨RX1, "isTight", "(LShorePools$Crab;)Z"⟩
def dkwX1_isTight_1 : List UInt8 := [192, 0, 65, 43, 182, 0, 122, 153, 0, 7, 4, 167, 0, 4, 3, 172]
abbrev dktX1_isTight_1 : List UInt8 := dkwX1_isTight_1 ++ []
def dkwX1_isTight_0 : List UInt8 := [43, 180, 0, 113, 2, 159, 0, 31, 42, 180, 0, 10, 180, 0, 62, 43, 180, 0, 113, 182, 0, 56]
abbrev dktX1_isTight_0 : List UInt8 := dkwX1_isTight_0 ++ dktX1_isTight_1
theorem dksX1_isTight_0 : cX1_isTight.data.toList.drop 0 = dktX1_isTight_0 := by decide +kernel
theorem dksX1_isTight_1 : cX1_isTight.data.toList.drop 22 = dktX1_isTight_1 := dk_seg dksX1_isTight_0 22 rfl rfl
theorem dX1_isTight_0 : decode cX1_isTight 0 = .ok (.aload_n 1, 1) := dk_43 (dk_at dksX1_isTight_0 0 rfl rfl)
theorem dX1_isTight_1 : decode cX1_isTight 1 = .ok (.getfield 113, 3) := dk_180 0 113 (dk_at dksX1_isTight_0 1 rfl rfl)
theorem dX1_isTight_4 : decode cX1_isTight 4 = .ok (.iconst (-1), 1) := dk_2 (dk_at dksX1_isTight_0 4 rfl rfl)
theorem dX1_isTight_5 : decode cX1_isTight 5 = .ok (.if_icmp .eq 31, 3) := dk_159 0 31 (dk_at dksX1_isTight_0 5 rfl rfl)
theorem dX1_isTight_8 : decode cX1_isTight 8 = .ok (.aload_n 0, 1) := dk_42 (dk_at dksX1_isTight_0 8 rfl rfl)
theorem dX1_isTight_9 : decode cX1_isTight 9 = .ok (.getfield 10, 3) := dk_180 0 10 (dk_at dksX1_isTight_0 9 rfl rfl)
theorem dX1_isTight_12 : decode cX1_isTight 12 = .ok (.getfield 62, 3) := dk_180 0 62 (dk_at dksX1_isTight_0 12 rfl rfl)
theorem dX1_isTight_15 : decode cX1_isTight 15 = .ok (.aload_n 1, 1) := dk_43 (dk_at dksX1_isTight_0 15 rfl rfl)
theorem dX1_isTight_16 : decode cX1_isTight 16 = .ok (.getfield 113, 3) := dk_180 0 113 (dk_at dksX1_isTight_0 16 rfl rfl)
theorem dX1_isTight_19 : decode cX1_isTight 19 = .ok (.invokevirtual 56, 3) := dk_182 0 56 (dk_at dksX1_isTight_0 19 rfl rfl)
theorem dX1_isTight_22 : decode cX1_isTight 22 = .ok (.checkcast 65, 3) := dk_192 0 65 (dk_at dksX1_isTight_1 0 rfl rfl)
theorem dX1_isTight_25 : decode cX1_isTight 25 = .ok (.aload_n 1, 1) := dk_43 (dk_at dksX1_isTight_1 3 rfl rfl)
theorem dX1_isTight_26 : decode cX1_isTight 26 = .ok (.invokevirtual 122, 3) := dk_182 0 122 (dk_at dksX1_isTight_1 4 rfl rfl)
theorem dX1_isTight_29 : decode cX1_isTight 29 = .ok (.ifCond .eq 7, 3) := dk_153 0 7 (dk_at dksX1_isTight_1 7 rfl rfl)
theorem dX1_isTight_32 : decode cX1_isTight 32 = .ok (.iconst 1, 1) := dk_4 (dk_at dksX1_isTight_1 10 rfl rfl)
theorem dX1_isTight_33 : decode cX1_isTight 33 = .ok (.goto 4, 3) := dk_167 0 4 (dk_at dksX1_isTight_1 11 rfl rfl)
theorem dX1_isTight_36 : decode cX1_isTight 36 = .ok (.iconst 0, 1) := dk_3 (dk_at dksX1_isTight_1 14 rfl rfl)
theorem dX1_isTight_37 : decode cX1_isTight 37 = .ok (.ireturn, 1) := dk_172 (dk_at dksX1_isTight_1 15 rfl rfl)
abbrev cX1_worthOfOwn : ByteArray := prog_1_method_14_code
def yX1_worthOfOwn : MethodName := ⟨RX1, "worthOfOwn", "(LShorePools$Crab;)I"⟩
def dkwX1_worthOfOwn_1 : List UInt8 := [182, 0, 56, 192, 0, 116, 43, 184, 0, 118, 172]
abbrev dktX1_worthOfOwn_1 : List UInt8 := dkwX1_worthOfOwn_1 ++ []
def dkwX1_worthOfOwn_0 : List UInt8 := [43, 180, 0, 113, 2, 160, 0, 8, 16, 216, 167, 0, 24, 42, 180, 0, 10, 180, 0, 62, 43, 180, 0, 113]
abbrev dktX1_worthOfOwn_0 : List UInt8 := dkwX1_worthOfOwn_0 ++ dktX1_worthOfOwn_1
theorem dksX1_worthOfOwn_0 : cX1_worthOfOwn.data.toList.drop 0 = dktX1_worthOfOwn_0 := by decide +kernel
theorem dksX1_worthOfOwn_1 : cX1_worthOfOwn.data.toList.drop 24 = dktX1_worthOfOwn_1 := dk_seg dksX1_worthOfOwn_0 24 rfl rfl
theorem dX1_worthOfOwn_0 : decode cX1_worthOfOwn 0 = .ok (.aload_n 1, 1) := dk_43 (dk_at dksX1_worthOfOwn_0 0 rfl rfl)
theorem dX1_worthOfOwn_1 : decode cX1_worthOfOwn 1 = .ok (.getfield 113, 3) := dk_180 0 113 (dk_at dksX1_worthOfOwn_0 1 rfl rfl)
theorem dX1_worthOfOwn_4 : decode cX1_worthOfOwn 4 = .ok (.iconst (-1), 1) := dk_2 (dk_at dksX1_worthOfOwn_0 4 rfl rfl)
theorem dX1_worthOfOwn_5 : decode cX1_worthOfOwn 5 = .ok (.if_icmp .ne 8, 3) := dk_160 0 8 (dk_at dksX1_worthOfOwn_0 5 rfl rfl)
theorem dX1_worthOfOwn_8 : decode cX1_worthOfOwn 8 = .ok (.bipush (-40), 2) := dk_16 216 (dk_at dksX1_worthOfOwn_0 8 rfl rfl)
theorem dX1_worthOfOwn_10 : decode cX1_worthOfOwn 10 = .ok (.goto 24, 3) := dk_167 0 24 (dk_at dksX1_worthOfOwn_0 10 rfl rfl)
theorem dX1_worthOfOwn_13 : decode cX1_worthOfOwn 13 = .ok (.aload_n 0, 1) := dk_42 (dk_at dksX1_worthOfOwn_0 13 rfl rfl)
theorem dX1_worthOfOwn_14 : decode cX1_worthOfOwn 14 = .ok (.getfield 10, 3) := dk_180 0 10 (dk_at dksX1_worthOfOwn_0 14 rfl rfl)
theorem dX1_worthOfOwn_17 : decode cX1_worthOfOwn 17 = .ok (.getfield 62, 3) := dk_180 0 62 (dk_at dksX1_worthOfOwn_0 17 rfl rfl)
theorem dX1_worthOfOwn_20 : decode cX1_worthOfOwn 20 = .ok (.aload_n 1, 1) := dk_43 (dk_at dksX1_worthOfOwn_0 20 rfl rfl)
theorem dX1_worthOfOwn_21 : decode cX1_worthOfOwn 21 = .ok (.getfield 113, 3) := dk_180 0 113 (dk_at dksX1_worthOfOwn_0 21 rfl rfl)
theorem dX1_worthOfOwn_24 : decode cX1_worthOfOwn 24 = .ok (.invokevirtual 56, 3) := dk_182 0 56 (dk_at dksX1_worthOfOwn_1 0 rfl rfl)
theorem dX1_worthOfOwn_27 : decode cX1_worthOfOwn 27 = .ok (.checkcast 116, 3) := dk_192 0 116 (dk_at dksX1_worthOfOwn_1 3 rfl rfl)
theorem dX1_worthOfOwn_30 : decode cX1_worthOfOwn 30 = .ok (.aload_n 1, 1) := dk_43 (dk_at dksX1_worthOfOwn_1 6 rfl rfl)
theorem dX1_worthOfOwn_31 : decode cX1_worthOfOwn 31 = .ok (.invokestatic 118, 3) := dk_184 0 118 (dk_at dksX1_worthOfOwn_1 7 rfl rfl)
theorem dX1_worthOfOwn_34 : decode cX1_worthOfOwn 34 = .ok (.ireturn, 1) := dk_172 (dk_at dksX1_worthOfOwn_1 10 rfl rfl)
abbrev cX1_bestShell : ByteArray := prog_1_method_16_code
def yX1_bestShell : MethodName := ⟨RX1, "bestShell", "(LShorePools$Crab;I)I"⟩
def dkwX1_bestShell_3 : List UInt8 := [184, 0, 118, 54, 4, 132, 5, 1, 167, 255, 190, 29, 172]
abbrev dktX1_bestShell_3 : List UInt8 := dkwX1_bestShell_3 ++ []
def dkwX1_bestShell_2 : List UInt8 := [182, 0, 130, 153, 0, 25, 25, 6, 43, 184, 0, 118, 21, 4, 164, 0, 14, 21, 5, 62, 25, 6, 43]
abbrev dktX1_bestShell_2 : List UInt8 := dkwX1_bestShell_2 ++ dktX1_bestShell_3
def dkwX1_bestShell_1 : List UInt8 := [162, 0, 57, 42, 180, 0, 10, 180, 0, 62, 21, 5, 182, 0, 56, 192, 0, 65, 58, 6, 25, 6, 28]
abbrev dktX1_bestShell_1 : List UInt8 := dkwX1_bestShell_1 ++ dktX1_bestShell_2
def dkwX1_bestShell_0 : List UInt8 := [2, 62, 42, 43, 182, 0, 126, 54, 4, 3, 54, 5, 21, 5, 42, 180, 0, 10, 180, 0, 62, 182, 0, 50]
abbrev dktX1_bestShell_0 : List UInt8 := dkwX1_bestShell_0 ++ dktX1_bestShell_1
theorem dksX1_bestShell_0 : cX1_bestShell.data.toList.drop 0 = dktX1_bestShell_0 := by decide +kernel
theorem dksX1_bestShell_1 : cX1_bestShell.data.toList.drop 24 = dktX1_bestShell_1 := dk_seg dksX1_bestShell_0 24 rfl rfl
theorem dksX1_bestShell_2 : cX1_bestShell.data.toList.drop 47 = dktX1_bestShell_2 := dk_seg dksX1_bestShell_1 23 rfl rfl
theorem dksX1_bestShell_3 : cX1_bestShell.data.toList.drop 70 = dktX1_bestShell_3 := dk_seg dksX1_bestShell_2 23 rfl rfl
theorem dX1_bestShell_0 : decode cX1_bestShell 0 = .ok (.iconst (-1), 1) := dk_2 (dk_at dksX1_bestShell_0 0 rfl rfl)
theorem dX1_bestShell_1 : decode cX1_bestShell 1 = .ok (.istore_n 3, 1) := dk_62 (dk_at dksX1_bestShell_0 1 rfl rfl)
theorem dX1_bestShell_2 : decode cX1_bestShell 2 = .ok (.aload_n 0, 1) := dk_42 (dk_at dksX1_bestShell_0 2 rfl rfl)
theorem dX1_bestShell_3 : decode cX1_bestShell 3 = .ok (.aload_n 1, 1) := dk_43 (dk_at dksX1_bestShell_0 3 rfl rfl)
theorem dX1_bestShell_4 : decode cX1_bestShell 4 = .ok (.invokevirtual 126, 3) := dk_182 0 126 (dk_at dksX1_bestShell_0 4 rfl rfl)
theorem dX1_bestShell_7 : decode cX1_bestShell 7 = .ok (.istore 4, 2) := dk_54 4 (dk_at dksX1_bestShell_0 7 rfl rfl)
theorem dX1_bestShell_9 : decode cX1_bestShell 9 = .ok (.iconst 0, 1) := dk_3 (dk_at dksX1_bestShell_0 9 rfl rfl)
theorem dX1_bestShell_10 : decode cX1_bestShell 10 = .ok (.istore 5, 2) := dk_54 5 (dk_at dksX1_bestShell_0 10 rfl rfl)
theorem dX1_bestShell_12 : decode cX1_bestShell 12 = .ok (.iload 5, 2) := dk_21 5 (dk_at dksX1_bestShell_0 12 rfl rfl)
theorem dX1_bestShell_14 : decode cX1_bestShell 14 = .ok (.aload_n 0, 1) := dk_42 (dk_at dksX1_bestShell_0 14 rfl rfl)
theorem dX1_bestShell_15 : decode cX1_bestShell 15 = .ok (.getfield 10, 3) := dk_180 0 10 (dk_at dksX1_bestShell_0 15 rfl rfl)
theorem dX1_bestShell_18 : decode cX1_bestShell 18 = .ok (.getfield 62, 3) := dk_180 0 62 (dk_at dksX1_bestShell_0 18 rfl rfl)
theorem dX1_bestShell_21 : decode cX1_bestShell 21 = .ok (.invokevirtual 50, 3) := dk_182 0 50 (dk_at dksX1_bestShell_0 21 rfl rfl)
theorem dX1_bestShell_24 : decode cX1_bestShell 24 = .ok (.if_icmp .ge 57, 3) := dk_162 0 57 (dk_at dksX1_bestShell_1 0 rfl rfl)
theorem dX1_bestShell_27 : decode cX1_bestShell 27 = .ok (.aload_n 0, 1) := dk_42 (dk_at dksX1_bestShell_1 3 rfl rfl)
theorem dX1_bestShell_28 : decode cX1_bestShell 28 = .ok (.getfield 10, 3) := dk_180 0 10 (dk_at dksX1_bestShell_1 4 rfl rfl)
theorem dX1_bestShell_31 : decode cX1_bestShell 31 = .ok (.getfield 62, 3) := dk_180 0 62 (dk_at dksX1_bestShell_1 7 rfl rfl)
theorem dX1_bestShell_34 : decode cX1_bestShell 34 = .ok (.iload 5, 2) := dk_21 5 (dk_at dksX1_bestShell_1 10 rfl rfl)
theorem dX1_bestShell_36 : decode cX1_bestShell 36 = .ok (.invokevirtual 56, 3) := dk_182 0 56 (dk_at dksX1_bestShell_1 12 rfl rfl)
theorem dX1_bestShell_39 : decode cX1_bestShell 39 = .ok (.checkcast 65, 3) := dk_192 0 65 (dk_at dksX1_bestShell_1 15 rfl rfl)
theorem dX1_bestShell_42 : decode cX1_bestShell 42 = .ok (.astore 6, 2) := dk_58 6 (dk_at dksX1_bestShell_1 18 rfl rfl)
theorem dX1_bestShell_44 : decode cX1_bestShell 44 = .ok (.aload 6, 2) := dk_25 6 (dk_at dksX1_bestShell_1 20 rfl rfl)
theorem dX1_bestShell_46 : decode cX1_bestShell 46 = .ok (.iload_n 2, 1) := dk_28 (dk_at dksX1_bestShell_1 22 rfl rfl)
theorem dX1_bestShell_47 : decode cX1_bestShell 47 = .ok (.invokevirtual 130, 3) := dk_182 0 130 (dk_at dksX1_bestShell_2 0 rfl rfl)
theorem dX1_bestShell_50 : decode cX1_bestShell 50 = .ok (.ifCond .eq 25, 3) := dk_153 0 25 (dk_at dksX1_bestShell_2 3 rfl rfl)
theorem dX1_bestShell_53 : decode cX1_bestShell 53 = .ok (.aload 6, 2) := dk_25 6 (dk_at dksX1_bestShell_2 6 rfl rfl)
theorem dX1_bestShell_55 : decode cX1_bestShell 55 = .ok (.aload_n 1, 1) := dk_43 (dk_at dksX1_bestShell_2 8 rfl rfl)
theorem dX1_bestShell_56 : decode cX1_bestShell 56 = .ok (.invokestatic 118, 3) := dk_184 0 118 (dk_at dksX1_bestShell_2 9 rfl rfl)
theorem dX1_bestShell_59 : decode cX1_bestShell 59 = .ok (.iload 4, 2) := dk_21 4 (dk_at dksX1_bestShell_2 12 rfl rfl)
theorem dX1_bestShell_61 : decode cX1_bestShell 61 = .ok (.if_icmp .le 14, 3) := dk_164 0 14 (dk_at dksX1_bestShell_2 14 rfl rfl)
theorem dX1_bestShell_64 : decode cX1_bestShell 64 = .ok (.iload 5, 2) := dk_21 5 (dk_at dksX1_bestShell_2 17 rfl rfl)
theorem dX1_bestShell_66 : decode cX1_bestShell 66 = .ok (.istore_n 3, 1) := dk_62 (dk_at dksX1_bestShell_2 19 rfl rfl)
theorem dX1_bestShell_67 : decode cX1_bestShell 67 = .ok (.aload 6, 2) := dk_25 6 (dk_at dksX1_bestShell_2 20 rfl rfl)
theorem dX1_bestShell_69 : decode cX1_bestShell 69 = .ok (.aload_n 1, 1) := dk_43 (dk_at dksX1_bestShell_2 22 rfl rfl)
theorem dX1_bestShell_70 : decode cX1_bestShell 70 = .ok (.invokestatic 118, 3) := dk_184 0 118 (dk_at dksX1_bestShell_3 0 rfl rfl)
theorem dX1_bestShell_73 : decode cX1_bestShell 73 = .ok (.istore 4, 2) := dk_54 4 (dk_at dksX1_bestShell_3 3 rfl rfl)
theorem dX1_bestShell_75 : decode cX1_bestShell 75 = .ok (.iinc 5 1, 3) := dk_132 5 1 (dk_at dksX1_bestShell_3 5 rfl rfl)
theorem dX1_bestShell_78 : decode cX1_bestShell 78 = .ok (.goto (-66), 3) := dk_167 255 190 (dk_at dksX1_bestShell_3 8 rfl rfl)
theorem dX1_bestShell_81 : decode cX1_bestShell 81 = .ok (.iload_n 3, 1) := dk_29 (dk_at dksX1_bestShell_3 11 rfl rfl)
theorem dX1_bestShell_82 : decode cX1_bestShell 82 = .ok (.ireturn, 1) := dk_172 (dk_at dksX1_bestShell_3 12 rfl rfl)
abbrev cX1_changeShells : ByteArray := prog_1_method_21_code
def yX1_changeShells : MethodName := ⟨RX1, "changeShells", "()I"⟩
def dkwX1_changeShells_0 : List UInt8 := [42, 182, 0, 164, 42, 3, 182, 0, 161, 172]
abbrev dktX1_changeShells_0 : List UInt8 := dkwX1_changeShells_0 ++ []
theorem dksX1_changeShells_0 : cX1_changeShells.data.toList.drop 0 = dktX1_changeShells_0 := by decide +kernel
theorem dX1_changeShells_0 : decode cX1_changeShells 0 = .ok (.aload_n 0, 1) := dk_42 (dk_at dksX1_changeShells_0 0 rfl rfl)
theorem dX1_changeShells_1 : decode cX1_changeShells 1 = .ok (.invokevirtual 164, 3) := dk_182 0 164 (dk_at dksX1_changeShells_0 1 rfl rfl)
theorem dX1_changeShells_4 : decode cX1_changeShells 4 = .ok (.aload_n 0, 1) := dk_42 (dk_at dksX1_changeShells_0 4 rfl rfl)
theorem dX1_changeShells_5 : decode cX1_changeShells 5 = .ok (.iconst 0, 1) := dk_3 (dk_at dksX1_changeShells_0 5 rfl rfl)
theorem dX1_changeShells_6 : decode cX1_changeShells 6 = .ok (.invokevirtual 161, 3) := dk_182 0 161 (dk_at dksX1_changeShells_0 6 rfl rfl)
theorem dX1_changeShells_9 : decode cX1_changeShells 9 = .ok (.ireturn, 1) := dk_172 (dk_at dksX1_changeShells_0 9 rfl rfl)
abbrev cX1_orderCrabs : ByteArray := prog_1_method_19_code
def yX1_orderCrabs : MethodName := ⟨RX1, "orderCrabs", "()V"⟩
def dkwX1_orderCrabs_4 : List UInt8 := [132, 1, 1, 167, 255, 162, 177]
abbrev dktX1_orderCrabs_4 : List UInt8 := dkwX1_orderCrabs_4 ++ []
def dkwX1_orderCrabs_3 : List UInt8 := [42, 180, 0, 23, 28, 4, 100, 46, 79, 132, 2, 255, 167, 255, 191, 42, 180, 0, 23, 28, 27, 79]
abbrev dktX1_orderCrabs_3 : List UInt8 := dkwX1_orderCrabs_3 ++ dktX1_orderCrabs_4
def dkwX1_orderCrabs_2 : List UInt8 := [180, 0, 10, 180, 0, 67, 27, 182, 0, 56, 192, 0, 70, 180, 0, 148, 162, 0, 23, 42, 180, 0, 23, 28]
abbrev dktX1_orderCrabs_2 : List UInt8 := dkwX1_orderCrabs_2 ++ dktX1_orderCrabs_3
def dkwX1_orderCrabs_1 : List UInt8 := [180, 0, 10, 180, 0, 67, 42, 180, 0, 23, 28, 4, 100, 46, 182, 0, 56, 192, 0, 70, 180, 0, 148, 42]
abbrev dktX1_orderCrabs_1 : List UInt8 := dkwX1_orderCrabs_1 ++ dktX1_orderCrabs_2
def dkwX1_orderCrabs_0 : List UInt8 := [3, 60, 27, 42, 180, 0, 10, 180, 0, 67, 182, 0, 50, 162, 0, 86, 27, 61, 28, 158, 0, 67, 42]
abbrev dktX1_orderCrabs_0 : List UInt8 := dkwX1_orderCrabs_0 ++ dktX1_orderCrabs_1
theorem dksX1_orderCrabs_0 : cX1_orderCrabs.data.toList.drop 0 = dktX1_orderCrabs_0 := by decide +kernel
theorem dksX1_orderCrabs_1 : cX1_orderCrabs.data.toList.drop 23 = dktX1_orderCrabs_1 := dk_seg dksX1_orderCrabs_0 23 rfl rfl
theorem dksX1_orderCrabs_2 : cX1_orderCrabs.data.toList.drop 47 = dktX1_orderCrabs_2 := dk_seg dksX1_orderCrabs_1 24 rfl rfl
theorem dksX1_orderCrabs_3 : cX1_orderCrabs.data.toList.drop 71 = dktX1_orderCrabs_3 := dk_seg dksX1_orderCrabs_2 24 rfl rfl
theorem dksX1_orderCrabs_4 : cX1_orderCrabs.data.toList.drop 93 = dktX1_orderCrabs_4 := dk_seg dksX1_orderCrabs_3 22 rfl rfl
theorem dX1_orderCrabs_0 : decode cX1_orderCrabs 0 = .ok (.iconst 0, 1) := dk_3 (dk_at dksX1_orderCrabs_0 0 rfl rfl)
theorem dX1_orderCrabs_1 : decode cX1_orderCrabs 1 = .ok (.istore_n 1, 1) := dk_60 (dk_at dksX1_orderCrabs_0 1 rfl rfl)
theorem dX1_orderCrabs_2 : decode cX1_orderCrabs 2 = .ok (.iload_n 1, 1) := dk_27 (dk_at dksX1_orderCrabs_0 2 rfl rfl)
theorem dX1_orderCrabs_3 : decode cX1_orderCrabs 3 = .ok (.aload_n 0, 1) := dk_42 (dk_at dksX1_orderCrabs_0 3 rfl rfl)
theorem dX1_orderCrabs_4 : decode cX1_orderCrabs 4 = .ok (.getfield 10, 3) := dk_180 0 10 (dk_at dksX1_orderCrabs_0 4 rfl rfl)
theorem dX1_orderCrabs_7 : decode cX1_orderCrabs 7 = .ok (.getfield 67, 3) := dk_180 0 67 (dk_at dksX1_orderCrabs_0 7 rfl rfl)
theorem dX1_orderCrabs_10 : decode cX1_orderCrabs 10 = .ok (.invokevirtual 50, 3) := dk_182 0 50 (dk_at dksX1_orderCrabs_0 10 rfl rfl)
theorem dX1_orderCrabs_13 : decode cX1_orderCrabs 13 = .ok (.if_icmp .ge 86, 3) := dk_162 0 86 (dk_at dksX1_orderCrabs_0 13 rfl rfl)
theorem dX1_orderCrabs_16 : decode cX1_orderCrabs 16 = .ok (.iload_n 1, 1) := dk_27 (dk_at dksX1_orderCrabs_0 16 rfl rfl)
theorem dX1_orderCrabs_17 : decode cX1_orderCrabs 17 = .ok (.istore_n 2, 1) := dk_61 (dk_at dksX1_orderCrabs_0 17 rfl rfl)
theorem dX1_orderCrabs_18 : decode cX1_orderCrabs 18 = .ok (.iload_n 2, 1) := dk_28 (dk_at dksX1_orderCrabs_0 18 rfl rfl)
theorem dX1_orderCrabs_19 : decode cX1_orderCrabs 19 = .ok (.ifCond .le 67, 3) := dk_158 0 67 (dk_at dksX1_orderCrabs_0 19 rfl rfl)
theorem dX1_orderCrabs_22 : decode cX1_orderCrabs 22 = .ok (.aload_n 0, 1) := dk_42 (dk_at dksX1_orderCrabs_0 22 rfl rfl)
theorem dX1_orderCrabs_23 : decode cX1_orderCrabs 23 = .ok (.getfield 10, 3) := dk_180 0 10 (dk_at dksX1_orderCrabs_1 0 rfl rfl)
theorem dX1_orderCrabs_26 : decode cX1_orderCrabs 26 = .ok (.getfield 67, 3) := dk_180 0 67 (dk_at dksX1_orderCrabs_1 3 rfl rfl)
theorem dX1_orderCrabs_29 : decode cX1_orderCrabs 29 = .ok (.aload_n 0, 1) := dk_42 (dk_at dksX1_orderCrabs_1 6 rfl rfl)
theorem dX1_orderCrabs_30 : decode cX1_orderCrabs 30 = .ok (.getfield 23, 3) := dk_180 0 23 (dk_at dksX1_orderCrabs_1 7 rfl rfl)
theorem dX1_orderCrabs_33 : decode cX1_orderCrabs 33 = .ok (.iload_n 2, 1) := dk_28 (dk_at dksX1_orderCrabs_1 10 rfl rfl)
theorem dX1_orderCrabs_34 : decode cX1_orderCrabs 34 = .ok (.iconst 1, 1) := dk_4 (dk_at dksX1_orderCrabs_1 11 rfl rfl)
theorem dX1_orderCrabs_35 : decode cX1_orderCrabs 35 = .ok (.isub, 1) := dk_100 (dk_at dksX1_orderCrabs_1 12 rfl rfl)
theorem dX1_orderCrabs_36 : decode cX1_orderCrabs 36 = .ok (.iaload, 1) := dk_46 (dk_at dksX1_orderCrabs_1 13 rfl rfl)
theorem dX1_orderCrabs_37 : decode cX1_orderCrabs 37 = .ok (.invokevirtual 56, 3) := dk_182 0 56 (dk_at dksX1_orderCrabs_1 14 rfl rfl)
theorem dX1_orderCrabs_40 : decode cX1_orderCrabs 40 = .ok (.checkcast 70, 3) := dk_192 0 70 (dk_at dksX1_orderCrabs_1 17 rfl rfl)
theorem dX1_orderCrabs_43 : decode cX1_orderCrabs 43 = .ok (.getfield 148, 3) := dk_180 0 148 (dk_at dksX1_orderCrabs_1 20 rfl rfl)
theorem dX1_orderCrabs_46 : decode cX1_orderCrabs 46 = .ok (.aload_n 0, 1) := dk_42 (dk_at dksX1_orderCrabs_1 23 rfl rfl)
theorem dX1_orderCrabs_47 : decode cX1_orderCrabs 47 = .ok (.getfield 10, 3) := dk_180 0 10 (dk_at dksX1_orderCrabs_2 0 rfl rfl)
theorem dX1_orderCrabs_50 : decode cX1_orderCrabs 50 = .ok (.getfield 67, 3) := dk_180 0 67 (dk_at dksX1_orderCrabs_2 3 rfl rfl)
theorem dX1_orderCrabs_53 : decode cX1_orderCrabs 53 = .ok (.iload_n 1, 1) := dk_27 (dk_at dksX1_orderCrabs_2 6 rfl rfl)
theorem dX1_orderCrabs_54 : decode cX1_orderCrabs 54 = .ok (.invokevirtual 56, 3) := dk_182 0 56 (dk_at dksX1_orderCrabs_2 7 rfl rfl)
theorem dX1_orderCrabs_57 : decode cX1_orderCrabs 57 = .ok (.checkcast 70, 3) := dk_192 0 70 (dk_at dksX1_orderCrabs_2 10 rfl rfl)
theorem dX1_orderCrabs_60 : decode cX1_orderCrabs 60 = .ok (.getfield 148, 3) := dk_180 0 148 (dk_at dksX1_orderCrabs_2 13 rfl rfl)
theorem dX1_orderCrabs_63 : decode cX1_orderCrabs 63 = .ok (.if_icmp .ge 23, 3) := dk_162 0 23 (dk_at dksX1_orderCrabs_2 16 rfl rfl)
theorem dX1_orderCrabs_66 : decode cX1_orderCrabs 66 = .ok (.aload_n 0, 1) := dk_42 (dk_at dksX1_orderCrabs_2 19 rfl rfl)
theorem dX1_orderCrabs_67 : decode cX1_orderCrabs 67 = .ok (.getfield 23, 3) := dk_180 0 23 (dk_at dksX1_orderCrabs_2 20 rfl rfl)
theorem dX1_orderCrabs_70 : decode cX1_orderCrabs 70 = .ok (.iload_n 2, 1) := dk_28 (dk_at dksX1_orderCrabs_2 23 rfl rfl)
theorem dX1_orderCrabs_71 : decode cX1_orderCrabs 71 = .ok (.aload_n 0, 1) := dk_42 (dk_at dksX1_orderCrabs_3 0 rfl rfl)
theorem dX1_orderCrabs_72 : decode cX1_orderCrabs 72 = .ok (.getfield 23, 3) := dk_180 0 23 (dk_at dksX1_orderCrabs_3 1 rfl rfl)
theorem dX1_orderCrabs_75 : decode cX1_orderCrabs 75 = .ok (.iload_n 2, 1) := dk_28 (dk_at dksX1_orderCrabs_3 4 rfl rfl)
theorem dX1_orderCrabs_76 : decode cX1_orderCrabs 76 = .ok (.iconst 1, 1) := dk_4 (dk_at dksX1_orderCrabs_3 5 rfl rfl)
theorem dX1_orderCrabs_77 : decode cX1_orderCrabs 77 = .ok (.isub, 1) := dk_100 (dk_at dksX1_orderCrabs_3 6 rfl rfl)
theorem dX1_orderCrabs_78 : decode cX1_orderCrabs 78 = .ok (.iaload, 1) := dk_46 (dk_at dksX1_orderCrabs_3 7 rfl rfl)
theorem dX1_orderCrabs_79 : decode cX1_orderCrabs 79 = .ok (.iastore, 1) := dk_79 (dk_at dksX1_orderCrabs_3 8 rfl rfl)
theorem dX1_orderCrabs_80 : decode cX1_orderCrabs 80 = .ok (.iinc 2 (-1), 3) := dk_132 2 255 (dk_at dksX1_orderCrabs_3 9 rfl rfl)
theorem dX1_orderCrabs_83 : decode cX1_orderCrabs 83 = .ok (.goto (-65), 3) := dk_167 255 191 (dk_at dksX1_orderCrabs_3 12 rfl rfl)
theorem dX1_orderCrabs_86 : decode cX1_orderCrabs 86 = .ok (.aload_n 0, 1) := dk_42 (dk_at dksX1_orderCrabs_3 15 rfl rfl)
theorem dX1_orderCrabs_87 : decode cX1_orderCrabs 87 = .ok (.getfield 23, 3) := dk_180 0 23 (dk_at dksX1_orderCrabs_3 16 rfl rfl)
theorem dX1_orderCrabs_90 : decode cX1_orderCrabs 90 = .ok (.iload_n 2, 1) := dk_28 (dk_at dksX1_orderCrabs_3 19 rfl rfl)
theorem dX1_orderCrabs_91 : decode cX1_orderCrabs 91 = .ok (.iload_n 1, 1) := dk_27 (dk_at dksX1_orderCrabs_3 20 rfl rfl)
theorem dX1_orderCrabs_92 : decode cX1_orderCrabs 92 = .ok (.iastore, 1) := dk_79 (dk_at dksX1_orderCrabs_3 21 rfl rfl)
theorem dX1_orderCrabs_93 : decode cX1_orderCrabs 93 = .ok (.iinc 1 1, 3) := dk_132 1 1 (dk_at dksX1_orderCrabs_4 0 rfl rfl)
theorem dX1_orderCrabs_96 : decode cX1_orderCrabs 96 = .ok (.goto (-94), 3) := dk_167 255 162 (dk_at dksX1_orderCrabs_4 3 rfl rfl)
theorem dX1_orderCrabs_99 : decode cX1_orderCrabs 99 = .ok (.return_, 1) := dk_177 (dk_at dksX1_orderCrabs_4 6 rfl rfl)
abbrev cX1_changeFrom : ByteArray := prog_1_method_20_code
def yX1_changeFrom : MethodName := ⟨RX1, "changeFrom", "(I)I"⟩
def dkwX1_changeFrom_3 : List UInt8 := [182, 0, 158, 29, 2, 160, 0, 7, 3, 167, 0, 4, 4, 42, 27, 4, 96, 182, 0, 161, 96, 172]
abbrev dktX1_changeFrom_3 : List UInt8 := dkwX1_changeFrom_3 ++ []
def dkwX1_changeFrom_2 : List UInt8 := [180, 0, 137, 182, 0, 154, 167, 0, 4, 2, 62, 29, 2, 159, 0, 14, 42, 42, 180, 0, 23, 27, 46, 29]
abbrev dktX1_changeFrom_2 : List UInt8 := dkwX1_changeFrom_2 ++ dktX1_changeFrom_3
def dkwX1_changeFrom_1 : List UInt8 := [180, 0, 23, 27, 46, 182, 0, 56, 192, 0, 70, 77, 44, 182, 0, 150, 153, 0, 15, 42, 44, 44]
abbrev dktX1_changeFrom_1 : List UInt8 := dkwX1_changeFrom_1 ++ dktX1_changeFrom_2
def dkwX1_changeFrom_0 : List UInt8 := [27, 42, 180, 0, 10, 180, 0, 67, 182, 0, 50, 160, 0, 5, 3, 172, 42, 180, 0, 10, 180, 0, 67, 42]
abbrev dktX1_changeFrom_0 : List UInt8 := dkwX1_changeFrom_0 ++ dktX1_changeFrom_1
theorem dksX1_changeFrom_0 : cX1_changeFrom.data.toList.drop 0 = dktX1_changeFrom_0 := by decide +kernel
theorem dksX1_changeFrom_1 : cX1_changeFrom.data.toList.drop 24 = dktX1_changeFrom_1 := dk_seg dksX1_changeFrom_0 24 rfl rfl
theorem dksX1_changeFrom_2 : cX1_changeFrom.data.toList.drop 46 = dktX1_changeFrom_2 := dk_seg dksX1_changeFrom_1 22 rfl rfl
theorem dksX1_changeFrom_3 : cX1_changeFrom.data.toList.drop 70 = dktX1_changeFrom_3 := dk_seg dksX1_changeFrom_2 24 rfl rfl
theorem dX1_changeFrom_0 : decode cX1_changeFrom 0 = .ok (.iload_n 1, 1) := dk_27 (dk_at dksX1_changeFrom_0 0 rfl rfl)
theorem dX1_changeFrom_1 : decode cX1_changeFrom 1 = .ok (.aload_n 0, 1) := dk_42 (dk_at dksX1_changeFrom_0 1 rfl rfl)
theorem dX1_changeFrom_2 : decode cX1_changeFrom 2 = .ok (.getfield 10, 3) := dk_180 0 10 (dk_at dksX1_changeFrom_0 2 rfl rfl)
theorem dX1_changeFrom_5 : decode cX1_changeFrom 5 = .ok (.getfield 67, 3) := dk_180 0 67 (dk_at dksX1_changeFrom_0 5 rfl rfl)
theorem dX1_changeFrom_8 : decode cX1_changeFrom 8 = .ok (.invokevirtual 50, 3) := dk_182 0 50 (dk_at dksX1_changeFrom_0 8 rfl rfl)
theorem dX1_changeFrom_11 : decode cX1_changeFrom 11 = .ok (.if_icmp .ne 5, 3) := dk_160 0 5 (dk_at dksX1_changeFrom_0 11 rfl rfl)
theorem dX1_changeFrom_14 : decode cX1_changeFrom 14 = .ok (.iconst 0, 1) := dk_3 (dk_at dksX1_changeFrom_0 14 rfl rfl)
theorem dX1_changeFrom_15 : decode cX1_changeFrom 15 = .ok (.ireturn, 1) := dk_172 (dk_at dksX1_changeFrom_0 15 rfl rfl)
theorem dX1_changeFrom_16 : decode cX1_changeFrom 16 = .ok (.aload_n 0, 1) := dk_42 (dk_at dksX1_changeFrom_0 16 rfl rfl)
theorem dX1_changeFrom_17 : decode cX1_changeFrom 17 = .ok (.getfield 10, 3) := dk_180 0 10 (dk_at dksX1_changeFrom_0 17 rfl rfl)
theorem dX1_changeFrom_20 : decode cX1_changeFrom 20 = .ok (.getfield 67, 3) := dk_180 0 67 (dk_at dksX1_changeFrom_0 20 rfl rfl)
theorem dX1_changeFrom_23 : decode cX1_changeFrom 23 = .ok (.aload_n 0, 1) := dk_42 (dk_at dksX1_changeFrom_0 23 rfl rfl)
theorem dX1_changeFrom_24 : decode cX1_changeFrom 24 = .ok (.getfield 23, 3) := dk_180 0 23 (dk_at dksX1_changeFrom_1 0 rfl rfl)
theorem dX1_changeFrom_27 : decode cX1_changeFrom 27 = .ok (.iload_n 1, 1) := dk_27 (dk_at dksX1_changeFrom_1 3 rfl rfl)
theorem dX1_changeFrom_28 : decode cX1_changeFrom 28 = .ok (.iaload, 1) := dk_46 (dk_at dksX1_changeFrom_1 4 rfl rfl)
theorem dX1_changeFrom_29 : decode cX1_changeFrom 29 = .ok (.invokevirtual 56, 3) := dk_182 0 56 (dk_at dksX1_changeFrom_1 5 rfl rfl)
theorem dX1_changeFrom_32 : decode cX1_changeFrom 32 = .ok (.checkcast 70, 3) := dk_192 0 70 (dk_at dksX1_changeFrom_1 8 rfl rfl)
theorem dX1_changeFrom_35 : decode cX1_changeFrom 35 = .ok (.astore_n 2, 1) := dk_77 (dk_at dksX1_changeFrom_1 11 rfl rfl)
theorem dX1_changeFrom_36 : decode cX1_changeFrom 36 = .ok (.aload_n 2, 1) := dk_44 (dk_at dksX1_changeFrom_1 12 rfl rfl)
theorem dX1_changeFrom_37 : decode cX1_changeFrom 37 = .ok (.invokevirtual 150, 3) := dk_182 0 150 (dk_at dksX1_changeFrom_1 13 rfl rfl)
theorem dX1_changeFrom_40 : decode cX1_changeFrom 40 = .ok (.ifCond .eq 15, 3) := dk_153 0 15 (dk_at dksX1_changeFrom_1 16 rfl rfl)
theorem dX1_changeFrom_43 : decode cX1_changeFrom 43 = .ok (.aload_n 0, 1) := dk_42 (dk_at dksX1_changeFrom_1 19 rfl rfl)
theorem dX1_changeFrom_44 : decode cX1_changeFrom 44 = .ok (.aload_n 2, 1) := dk_44 (dk_at dksX1_changeFrom_1 20 rfl rfl)
theorem dX1_changeFrom_45 : decode cX1_changeFrom 45 = .ok (.aload_n 2, 1) := dk_44 (dk_at dksX1_changeFrom_1 21 rfl rfl)
theorem dX1_changeFrom_46 : decode cX1_changeFrom 46 = .ok (.getfield 137, 3) := dk_180 0 137 (dk_at dksX1_changeFrom_2 0 rfl rfl)
theorem dX1_changeFrom_49 : decode cX1_changeFrom 49 = .ok (.invokevirtual 154, 3) := dk_182 0 154 (dk_at dksX1_changeFrom_2 3 rfl rfl)
theorem dX1_changeFrom_52 : decode cX1_changeFrom 52 = .ok (.goto 4, 3) := dk_167 0 4 (dk_at dksX1_changeFrom_2 6 rfl rfl)
theorem dX1_changeFrom_55 : decode cX1_changeFrom 55 = .ok (.iconst (-1), 1) := dk_2 (dk_at dksX1_changeFrom_2 9 rfl rfl)
theorem dX1_changeFrom_56 : decode cX1_changeFrom 56 = .ok (.istore_n 3, 1) := dk_62 (dk_at dksX1_changeFrom_2 10 rfl rfl)
theorem dX1_changeFrom_57 : decode cX1_changeFrom 57 = .ok (.iload_n 3, 1) := dk_29 (dk_at dksX1_changeFrom_2 11 rfl rfl)
theorem dX1_changeFrom_58 : decode cX1_changeFrom 58 = .ok (.iconst (-1), 1) := dk_2 (dk_at dksX1_changeFrom_2 12 rfl rfl)
theorem dX1_changeFrom_59 : decode cX1_changeFrom 59 = .ok (.if_icmp .eq 14, 3) := dk_159 0 14 (dk_at dksX1_changeFrom_2 13 rfl rfl)
theorem dX1_changeFrom_62 : decode cX1_changeFrom 62 = .ok (.aload_n 0, 1) := dk_42 (dk_at dksX1_changeFrom_2 16 rfl rfl)
theorem dX1_changeFrom_63 : decode cX1_changeFrom 63 = .ok (.aload_n 0, 1) := dk_42 (dk_at dksX1_changeFrom_2 17 rfl rfl)
theorem dX1_changeFrom_64 : decode cX1_changeFrom 64 = .ok (.getfield 23, 3) := dk_180 0 23 (dk_at dksX1_changeFrom_2 18 rfl rfl)
theorem dX1_changeFrom_67 : decode cX1_changeFrom 67 = .ok (.iload_n 1, 1) := dk_27 (dk_at dksX1_changeFrom_2 21 rfl rfl)
theorem dX1_changeFrom_68 : decode cX1_changeFrom 68 = .ok (.iaload, 1) := dk_46 (dk_at dksX1_changeFrom_2 22 rfl rfl)
theorem dX1_changeFrom_69 : decode cX1_changeFrom 69 = .ok (.iload_n 3, 1) := dk_29 (dk_at dksX1_changeFrom_2 23 rfl rfl)
theorem dX1_changeFrom_70 : decode cX1_changeFrom 70 = .ok (.invokevirtual 158, 3) := dk_182 0 158 (dk_at dksX1_changeFrom_3 0 rfl rfl)
theorem dX1_changeFrom_73 : decode cX1_changeFrom 73 = .ok (.iload_n 3, 1) := dk_29 (dk_at dksX1_changeFrom_3 3 rfl rfl)
theorem dX1_changeFrom_74 : decode cX1_changeFrom 74 = .ok (.iconst (-1), 1) := dk_2 (dk_at dksX1_changeFrom_3 4 rfl rfl)
theorem dX1_changeFrom_75 : decode cX1_changeFrom 75 = .ok (.if_icmp .ne 7, 3) := dk_160 0 7 (dk_at dksX1_changeFrom_3 5 rfl rfl)
theorem dX1_changeFrom_78 : decode cX1_changeFrom 78 = .ok (.iconst 0, 1) := dk_3 (dk_at dksX1_changeFrom_3 8 rfl rfl)
theorem dX1_changeFrom_79 : decode cX1_changeFrom 79 = .ok (.goto 4, 3) := dk_167 0 4 (dk_at dksX1_changeFrom_3 9 rfl rfl)
theorem dX1_changeFrom_82 : decode cX1_changeFrom 82 = .ok (.iconst 1, 1) := dk_4 (dk_at dksX1_changeFrom_3 12 rfl rfl)
theorem dX1_changeFrom_83 : decode cX1_changeFrom 83 = .ok (.aload_n 0, 1) := dk_42 (dk_at dksX1_changeFrom_3 13 rfl rfl)
theorem dX1_changeFrom_84 : decode cX1_changeFrom 84 = .ok (.iload_n 1, 1) := dk_27 (dk_at dksX1_changeFrom_3 14 rfl rfl)
theorem dX1_changeFrom_85 : decode cX1_changeFrom 85 = .ok (.iconst 1, 1) := dk_4 (dk_at dksX1_changeFrom_3 15 rfl rfl)
theorem dX1_changeFrom_86 : decode cX1_changeFrom 86 = .ok (.iadd, 1) := dk_96 (dk_at dksX1_changeFrom_3 16 rfl rfl)
theorem dX1_changeFrom_87 : decode cX1_changeFrom 87 = .ok (.invokevirtual 161, 3) := dk_182 0 161 (dk_at dksX1_changeFrom_3 17 rfl rfl)
theorem dX1_changeFrom_90 : decode cX1_changeFrom 90 = .ok (.iadd, 1) := dk_96 (dk_at dksX1_changeFrom_3 20 rfl rfl)
theorem dX1_changeFrom_91 : decode cX1_changeFrom 91 = .ok (.ireturn, 1) := dk_172 (dk_at dksX1_changeFrom_3 21 rfl rfl)
abbrev cX1_takeShell : ByteArray := prog_1_method_18_code
def yX1_takeShell : MethodName := ⟨RX1, "takeShell", "(II)V"⟩
def dkwX1_takeShell_3 : List UInt8 := [180, 0, 137, 181, 0, 140, 177]
abbrev dktX1_takeShell_3 : List UInt8 := dkwX1_takeShell_3 ++ []
def dkwX1_takeShell_2 : List UInt8 := [192, 0, 65, 27, 181, 0, 134, 42, 180, 0, 10, 180, 0, 62, 28, 182, 0, 56, 192, 0, 65, 45]
abbrev dktX1_takeShell_2 : List UInt8 := dkwX1_takeShell_2 ++ dktX1_takeShell_3
def dkwX1_takeShell_1 : List UInt8 := [181, 0, 113, 45, 89, 180, 0, 145, 4, 96, 181, 0, 145, 42, 180, 0, 10, 180, 0, 62, 28, 182, 0, 56]
abbrev dktX1_takeShell_1 : List UInt8 := dkwX1_takeShell_1 ++ dktX1_takeShell_2
def dkwX1_takeShell_0 : List UInt8 := [42, 180, 0, 10, 180, 0, 67, 27, 182, 0, 56, 192, 0, 70, 78, 42, 45, 182, 0, 141, 45, 28]
abbrev dktX1_takeShell_0 : List UInt8 := dkwX1_takeShell_0 ++ dktX1_takeShell_1
theorem dksX1_takeShell_0 : cX1_takeShell.data.toList.drop 0 = dktX1_takeShell_0 := by decide +kernel
theorem dksX1_takeShell_1 : cX1_takeShell.data.toList.drop 22 = dktX1_takeShell_1 := dk_seg dksX1_takeShell_0 22 rfl rfl
theorem dksX1_takeShell_2 : cX1_takeShell.data.toList.drop 46 = dktX1_takeShell_2 := dk_seg dksX1_takeShell_1 24 rfl rfl
theorem dksX1_takeShell_3 : cX1_takeShell.data.toList.drop 68 = dktX1_takeShell_3 := dk_seg dksX1_takeShell_2 22 rfl rfl
theorem dX1_takeShell_0 : decode cX1_takeShell 0 = .ok (.aload_n 0, 1) := dk_42 (dk_at dksX1_takeShell_0 0 rfl rfl)
theorem dX1_takeShell_1 : decode cX1_takeShell 1 = .ok (.getfield 10, 3) := dk_180 0 10 (dk_at dksX1_takeShell_0 1 rfl rfl)
theorem dX1_takeShell_4 : decode cX1_takeShell 4 = .ok (.getfield 67, 3) := dk_180 0 67 (dk_at dksX1_takeShell_0 4 rfl rfl)
theorem dX1_takeShell_7 : decode cX1_takeShell 7 = .ok (.iload_n 1, 1) := dk_27 (dk_at dksX1_takeShell_0 7 rfl rfl)
theorem dX1_takeShell_8 : decode cX1_takeShell 8 = .ok (.invokevirtual 56, 3) := dk_182 0 56 (dk_at dksX1_takeShell_0 8 rfl rfl)
theorem dX1_takeShell_11 : decode cX1_takeShell 11 = .ok (.checkcast 70, 3) := dk_192 0 70 (dk_at dksX1_takeShell_0 11 rfl rfl)
theorem dX1_takeShell_14 : decode cX1_takeShell 14 = .ok (.astore_n 3, 1) := dk_78 (dk_at dksX1_takeShell_0 14 rfl rfl)
theorem dX1_takeShell_15 : decode cX1_takeShell 15 = .ok (.aload_n 0, 1) := dk_42 (dk_at dksX1_takeShell_0 15 rfl rfl)
theorem dX1_takeShell_16 : decode cX1_takeShell 16 = .ok (.aload_n 3, 1) := dk_45 (dk_at dksX1_takeShell_0 16 rfl rfl)
theorem dX1_takeShell_17 : decode cX1_takeShell 17 = .ok (.invokevirtual 141, 3) := dk_182 0 141 (dk_at dksX1_takeShell_0 17 rfl rfl)
theorem dX1_takeShell_20 : decode cX1_takeShell 20 = .ok (.aload_n 3, 1) := dk_45 (dk_at dksX1_takeShell_0 20 rfl rfl)
theorem dX1_takeShell_21 : decode cX1_takeShell 21 = .ok (.iload_n 2, 1) := dk_28 (dk_at dksX1_takeShell_0 21 rfl rfl)
theorem dX1_takeShell_22 : decode cX1_takeShell 22 = .ok (.putfield 113, 3) := dk_181 0 113 (dk_at dksX1_takeShell_1 0 rfl rfl)
theorem dX1_takeShell_25 : decode cX1_takeShell 25 = .ok (.aload_n 3, 1) := dk_45 (dk_at dksX1_takeShell_1 3 rfl rfl)
theorem dX1_takeShell_26 : decode cX1_takeShell 26 = .ok (.dup, 1) := dk_89 (dk_at dksX1_takeShell_1 4 rfl rfl)
theorem dX1_takeShell_27 : decode cX1_takeShell 27 = .ok (.getfield 145, 3) := dk_180 0 145 (dk_at dksX1_takeShell_1 5 rfl rfl)
theorem dX1_takeShell_30 : decode cX1_takeShell 30 = .ok (.iconst 1, 1) := dk_4 (dk_at dksX1_takeShell_1 8 rfl rfl)
theorem dX1_takeShell_31 : decode cX1_takeShell 31 = .ok (.iadd, 1) := dk_96 (dk_at dksX1_takeShell_1 9 rfl rfl)
theorem dX1_takeShell_32 : decode cX1_takeShell 32 = .ok (.putfield 145, 3) := dk_181 0 145 (dk_at dksX1_takeShell_1 10 rfl rfl)
theorem dX1_takeShell_35 : decode cX1_takeShell 35 = .ok (.aload_n 0, 1) := dk_42 (dk_at dksX1_takeShell_1 13 rfl rfl)
theorem dX1_takeShell_36 : decode cX1_takeShell 36 = .ok (.getfield 10, 3) := dk_180 0 10 (dk_at dksX1_takeShell_1 14 rfl rfl)
theorem dX1_takeShell_39 : decode cX1_takeShell 39 = .ok (.getfield 62, 3) := dk_180 0 62 (dk_at dksX1_takeShell_1 17 rfl rfl)
theorem dX1_takeShell_42 : decode cX1_takeShell 42 = .ok (.iload_n 2, 1) := dk_28 (dk_at dksX1_takeShell_1 20 rfl rfl)
theorem dX1_takeShell_43 : decode cX1_takeShell 43 = .ok (.invokevirtual 56, 3) := dk_182 0 56 (dk_at dksX1_takeShell_1 21 rfl rfl)
theorem dX1_takeShell_46 : decode cX1_takeShell 46 = .ok (.checkcast 65, 3) := dk_192 0 65 (dk_at dksX1_takeShell_2 0 rfl rfl)
theorem dX1_takeShell_49 : decode cX1_takeShell 49 = .ok (.iload_n 1, 1) := dk_27 (dk_at dksX1_takeShell_2 3 rfl rfl)
theorem dX1_takeShell_50 : decode cX1_takeShell 50 = .ok (.putfield 134, 3) := dk_181 0 134 (dk_at dksX1_takeShell_2 4 rfl rfl)
theorem dX1_takeShell_53 : decode cX1_takeShell 53 = .ok (.aload_n 0, 1) := dk_42 (dk_at dksX1_takeShell_2 7 rfl rfl)
theorem dX1_takeShell_54 : decode cX1_takeShell 54 = .ok (.getfield 10, 3) := dk_180 0 10 (dk_at dksX1_takeShell_2 8 rfl rfl)
theorem dX1_takeShell_57 : decode cX1_takeShell 57 = .ok (.getfield 62, 3) := dk_180 0 62 (dk_at dksX1_takeShell_2 11 rfl rfl)
theorem dX1_takeShell_60 : decode cX1_takeShell 60 = .ok (.iload_n 2, 1) := dk_28 (dk_at dksX1_takeShell_2 14 rfl rfl)
theorem dX1_takeShell_61 : decode cX1_takeShell 61 = .ok (.invokevirtual 56, 3) := dk_182 0 56 (dk_at dksX1_takeShell_2 15 rfl rfl)
theorem dX1_takeShell_64 : decode cX1_takeShell 64 = .ok (.checkcast 65, 3) := dk_192 0 65 (dk_at dksX1_takeShell_2 18 rfl rfl)
theorem dX1_takeShell_67 : decode cX1_takeShell 67 = .ok (.aload_n 3, 1) := dk_45 (dk_at dksX1_takeShell_2 21 rfl rfl)
theorem dX1_takeShell_68 : decode cX1_takeShell 68 = .ok (.getfield 137, 3) := dk_180 0 137 (dk_at dksX1_takeShell_3 0 rfl rfl)
theorem dX1_takeShell_71 : decode cX1_takeShell 71 = .ok (.putfield 140, 3) := dk_181 0 140 (dk_at dksX1_takeShell_3 3 rfl rfl)
theorem dX1_takeShell_74 : decode cX1_takeShell 74 = .ok (.return_, 1) := dk_177 (dk_at dksX1_takeShell_3 6 rfl rfl)
abbrev cX1_leaveShell : ByteArray := prog_1_method_17_code
def yX1_leaveShell : MethodName := ⟨RX1, "leaveShell", "(LShorePools$Crab;)V"⟩
def dkwX1_leaveShell_1 : List UInt8 := [192, 0, 65, 77, 44, 2, 181, 0, 134, 44, 43, 180, 0, 137, 181, 0, 140, 43, 2, 181, 0, 113, 177]
abbrev dktX1_leaveShell_1 : List UInt8 := dkwX1_leaveShell_1 ++ []
def dkwX1_leaveShell_0 : List UInt8 := [43, 180, 0, 113, 2, 159, 0, 39, 42, 180, 0, 10, 180, 0, 62, 43, 180, 0, 113, 182, 0, 56]
abbrev dktX1_leaveShell_0 : List UInt8 := dkwX1_leaveShell_0 ++ dktX1_leaveShell_1
theorem dksX1_leaveShell_0 : cX1_leaveShell.data.toList.drop 0 = dktX1_leaveShell_0 := by decide +kernel
theorem dksX1_leaveShell_1 : cX1_leaveShell.data.toList.drop 22 = dktX1_leaveShell_1 := dk_seg dksX1_leaveShell_0 22 rfl rfl
theorem dX1_leaveShell_0 : decode cX1_leaveShell 0 = .ok (.aload_n 1, 1) := dk_43 (dk_at dksX1_leaveShell_0 0 rfl rfl)
theorem dX1_leaveShell_1 : decode cX1_leaveShell 1 = .ok (.getfield 113, 3) := dk_180 0 113 (dk_at dksX1_leaveShell_0 1 rfl rfl)
theorem dX1_leaveShell_4 : decode cX1_leaveShell 4 = .ok (.iconst (-1), 1) := dk_2 (dk_at dksX1_leaveShell_0 4 rfl rfl)
theorem dX1_leaveShell_5 : decode cX1_leaveShell 5 = .ok (.if_icmp .eq 39, 3) := dk_159 0 39 (dk_at dksX1_leaveShell_0 5 rfl rfl)
theorem dX1_leaveShell_8 : decode cX1_leaveShell 8 = .ok (.aload_n 0, 1) := dk_42 (dk_at dksX1_leaveShell_0 8 rfl rfl)
theorem dX1_leaveShell_9 : decode cX1_leaveShell 9 = .ok (.getfield 10, 3) := dk_180 0 10 (dk_at dksX1_leaveShell_0 9 rfl rfl)
theorem dX1_leaveShell_12 : decode cX1_leaveShell 12 = .ok (.getfield 62, 3) := dk_180 0 62 (dk_at dksX1_leaveShell_0 12 rfl rfl)
theorem dX1_leaveShell_15 : decode cX1_leaveShell 15 = .ok (.aload_n 1, 1) := dk_43 (dk_at dksX1_leaveShell_0 15 rfl rfl)
theorem dX1_leaveShell_16 : decode cX1_leaveShell 16 = .ok (.getfield 113, 3) := dk_180 0 113 (dk_at dksX1_leaveShell_0 16 rfl rfl)
theorem dX1_leaveShell_19 : decode cX1_leaveShell 19 = .ok (.invokevirtual 56, 3) := dk_182 0 56 (dk_at dksX1_leaveShell_0 19 rfl rfl)
theorem dX1_leaveShell_22 : decode cX1_leaveShell 22 = .ok (.checkcast 65, 3) := dk_192 0 65 (dk_at dksX1_leaveShell_1 0 rfl rfl)
theorem dX1_leaveShell_25 : decode cX1_leaveShell 25 = .ok (.astore_n 2, 1) := dk_77 (dk_at dksX1_leaveShell_1 3 rfl rfl)
theorem dX1_leaveShell_26 : decode cX1_leaveShell 26 = .ok (.aload_n 2, 1) := dk_44 (dk_at dksX1_leaveShell_1 4 rfl rfl)
theorem dX1_leaveShell_27 : decode cX1_leaveShell 27 = .ok (.iconst (-1), 1) := dk_2 (dk_at dksX1_leaveShell_1 5 rfl rfl)
theorem dX1_leaveShell_28 : decode cX1_leaveShell 28 = .ok (.putfield 134, 3) := dk_181 0 134 (dk_at dksX1_leaveShell_1 6 rfl rfl)
theorem dX1_leaveShell_31 : decode cX1_leaveShell 31 = .ok (.aload_n 2, 1) := dk_44 (dk_at dksX1_leaveShell_1 9 rfl rfl)
theorem dX1_leaveShell_32 : decode cX1_leaveShell 32 = .ok (.aload_n 1, 1) := dk_43 (dk_at dksX1_leaveShell_1 10 rfl rfl)
theorem dX1_leaveShell_33 : decode cX1_leaveShell 33 = .ok (.getfield 137, 3) := dk_180 0 137 (dk_at dksX1_leaveShell_1 11 rfl rfl)
theorem dX1_leaveShell_36 : decode cX1_leaveShell 36 = .ok (.putfield 140, 3) := dk_181 0 140 (dk_at dksX1_leaveShell_1 14 rfl rfl)
theorem dX1_leaveShell_39 : decode cX1_leaveShell 39 = .ok (.aload_n 1, 1) := dk_43 (dk_at dksX1_leaveShell_1 17 rfl rfl)
theorem dX1_leaveShell_40 : decode cX1_leaveShell 40 = .ok (.iconst (-1), 1) := dk_2 (dk_at dksX1_leaveShell_1 18 rfl rfl)
theorem dX1_leaveShell_41 : decode cX1_leaveShell 41 = .ok (.putfield 113, 3) := dk_181 0 113 (dk_at dksX1_leaveShell_1 19 rfl rfl)
theorem dX1_leaveShell_44 : decode cX1_leaveShell 44 = .ok (.return_, 1) := dk_177 (dk_at dksX1_leaveShell_1 22 rfl rfl)
abbrev cX1_loseCrab : ByteArray := prog_1_method_22_code
def yX1_loseCrab : MethodName := ⟨RX1, "loseCrab", "(LShorePools$Crab;I)V"⟩
def dkwX1_loseCrab_0 : List UInt8 := [42, 43, 182, 0, 141, 43, 28, 181, 0, 167, 42, 180, 0, 10, 89, 180, 0, 170, 4, 96, 181, 0, 170, 177]
abbrev dktX1_loseCrab_0 : List UInt8 := dkwX1_loseCrab_0 ++ []
theorem dksX1_loseCrab_0 : cX1_loseCrab.data.toList.drop 0 = dktX1_loseCrab_0 := by decide +kernel
theorem dX1_loseCrab_0 : decode cX1_loseCrab 0 = .ok (.aload_n 0, 1) := dk_42 (dk_at dksX1_loseCrab_0 0 rfl rfl)
theorem dX1_loseCrab_1 : decode cX1_loseCrab 1 = .ok (.aload_n 1, 1) := dk_43 (dk_at dksX1_loseCrab_0 1 rfl rfl)
theorem dX1_loseCrab_2 : decode cX1_loseCrab 2 = .ok (.invokevirtual 141, 3) := dk_182 0 141 (dk_at dksX1_loseCrab_0 2 rfl rfl)
theorem dX1_loseCrab_5 : decode cX1_loseCrab 5 = .ok (.aload_n 1, 1) := dk_43 (dk_at dksX1_loseCrab_0 5 rfl rfl)
theorem dX1_loseCrab_6 : decode cX1_loseCrab 6 = .ok (.iload_n 2, 1) := dk_28 (dk_at dksX1_loseCrab_0 6 rfl rfl)
theorem dX1_loseCrab_7 : decode cX1_loseCrab 7 = .ok (.putfield 167, 3) := dk_181 0 167 (dk_at dksX1_loseCrab_0 7 rfl rfl)
theorem dX1_loseCrab_10 : decode cX1_loseCrab 10 = .ok (.aload_n 0, 1) := dk_42 (dk_at dksX1_loseCrab_0 10 rfl rfl)
theorem dX1_loseCrab_11 : decode cX1_loseCrab 11 = .ok (.getfield 10, 3) := dk_180 0 10 (dk_at dksX1_loseCrab_0 11 rfl rfl)
theorem dX1_loseCrab_14 : decode cX1_loseCrab 14 = .ok (.dup, 1) := dk_89 (dk_at dksX1_loseCrab_0 14 rfl rfl)
theorem dX1_loseCrab_15 : decode cX1_loseCrab 15 = .ok (.getfield 170, 3) := dk_180 0 170 (dk_at dksX1_loseCrab_0 15 rfl rfl)
theorem dX1_loseCrab_18 : decode cX1_loseCrab 18 = .ok (.iconst 1, 1) := dk_4 (dk_at dksX1_loseCrab_0 18 rfl rfl)
theorem dX1_loseCrab_19 : decode cX1_loseCrab 19 = .ok (.iadd, 1) := dk_96 (dk_at dksX1_loseCrab_0 19 rfl rfl)
theorem dX1_loseCrab_20 : decode cX1_loseCrab 20 = .ok (.putfield 170, 3) := dk_181 0 170 (dk_at dksX1_loseCrab_0 20 rfl rfl)
theorem dX1_loseCrab_23 : decode cX1_loseCrab 23 = .ok (.return_, 1) := dk_177 (dk_at dksX1_loseCrab_0 23 rfl rfl)
abbrev cX1_visit : ByteArray := prog_1_method_31_code
def yX1_visit : MethodName := ⟨RX1, "visit", "()V"⟩
def dkwX1_visit_4 : List UInt8 := [158, 0, 7, 4, 167, 0, 4, 3, 96, 181, 0, 237, 177]
abbrev dktX1_visit_4 : List UInt8 := dkwX1_visit_4 ++ []
def dkwX1_visit_3 : List UInt8 := [28, 16, 100, 100, 182, 0, 56, 192, 0, 70, 6, 182, 0, 233, 42, 180, 0, 10, 89, 180, 0, 237, 28]
abbrev dktX1_visit_3 : List UInt8 := dkwX1_visit_3 ++ dktX1_visit_4
def dkwX1_visit_2 : List UInt8 := [192, 0, 60, 6, 182, 0, 205, 167, 0, 31, 28, 16, 100, 161, 0, 25, 42, 42, 180, 0, 10, 180, 0, 67]
abbrev dktX1_visit_2 : List UInt8 := dkwX1_visit_2 ++ dktX1_visit_3
def dkwX1_visit_1 : List UInt8 := [61, 28, 17, 0, 200, 161, 0, 29, 42, 42, 180, 0, 10, 180, 0, 46, 28, 17, 0, 200, 100, 182, 0, 56]
abbrev dktX1_visit_1 : List UInt8 := dkwX1_visit_1 ++ dktX1_visit_2
def dkwX1_visit_0 : List UInt8 := [42, 182, 0, 227, 60, 27, 2, 160, 0, 4, 177, 42, 180, 0, 10, 27, 181, 0, 213, 42, 27, 182, 0, 230]
abbrev dktX1_visit_0 : List UInt8 := dkwX1_visit_0 ++ dktX1_visit_1
theorem dksX1_visit_0 : cX1_visit.data.toList.drop 0 = dktX1_visit_0 := by decide +kernel
theorem dksX1_visit_1 : cX1_visit.data.toList.drop 24 = dktX1_visit_1 := dk_seg dksX1_visit_0 24 rfl rfl
theorem dksX1_visit_2 : cX1_visit.data.toList.drop 48 = dktX1_visit_2 := dk_seg dksX1_visit_1 24 rfl rfl
theorem dksX1_visit_3 : cX1_visit.data.toList.drop 72 = dktX1_visit_3 := dk_seg dksX1_visit_2 24 rfl rfl
theorem dksX1_visit_4 : cX1_visit.data.toList.drop 95 = dktX1_visit_4 := dk_seg dksX1_visit_3 23 rfl rfl
theorem dX1_visit_0 : decode cX1_visit 0 = .ok (.aload_n 0, 1) := dk_42 (dk_at dksX1_visit_0 0 rfl rfl)
theorem dX1_visit_1 : decode cX1_visit 1 = .ok (.invokevirtual 227, 3) := dk_182 0 227 (dk_at dksX1_visit_0 1 rfl rfl)
theorem dX1_visit_4 : decode cX1_visit 4 = .ok (.istore_n 1, 1) := dk_60 (dk_at dksX1_visit_0 4 rfl rfl)
theorem dX1_visit_5 : decode cX1_visit 5 = .ok (.iload_n 1, 1) := dk_27 (dk_at dksX1_visit_0 5 rfl rfl)
theorem dX1_visit_6 : decode cX1_visit 6 = .ok (.iconst (-1), 1) := dk_2 (dk_at dksX1_visit_0 6 rfl rfl)
theorem dX1_visit_7 : decode cX1_visit 7 = .ok (.if_icmp .ne 4, 3) := dk_160 0 4 (dk_at dksX1_visit_0 7 rfl rfl)
theorem dX1_visit_10 : decode cX1_visit 10 = .ok (.return_, 1) := dk_177 (dk_at dksX1_visit_0 10 rfl rfl)
theorem dX1_visit_11 : decode cX1_visit 11 = .ok (.aload_n 0, 1) := dk_42 (dk_at dksX1_visit_0 11 rfl rfl)
theorem dX1_visit_12 : decode cX1_visit 12 = .ok (.getfield 10, 3) := dk_180 0 10 (dk_at dksX1_visit_0 12 rfl rfl)
theorem dX1_visit_15 : decode cX1_visit 15 = .ok (.iload_n 1, 1) := dk_27 (dk_at dksX1_visit_0 15 rfl rfl)
theorem dX1_visit_16 : decode cX1_visit 16 = .ok (.putfield 213, 3) := dk_181 0 213 (dk_at dksX1_visit_0 16 rfl rfl)
theorem dX1_visit_19 : decode cX1_visit 19 = .ok (.aload_n 0, 1) := dk_42 (dk_at dksX1_visit_0 19 rfl rfl)
theorem dX1_visit_20 : decode cX1_visit 20 = .ok (.iload_n 1, 1) := dk_27 (dk_at dksX1_visit_0 20 rfl rfl)
theorem dX1_visit_21 : decode cX1_visit 21 = .ok (.invokevirtual 230, 3) := dk_182 0 230 (dk_at dksX1_visit_0 21 rfl rfl)
theorem dX1_visit_24 : decode cX1_visit 24 = .ok (.istore_n 2, 1) := dk_61 (dk_at dksX1_visit_1 0 rfl rfl)
theorem dX1_visit_25 : decode cX1_visit 25 = .ok (.iload_n 2, 1) := dk_28 (dk_at dksX1_visit_1 1 rfl rfl)
theorem dX1_visit_26 : decode cX1_visit 26 = .ok (.sipush 200, 3) := dk_17 0 200 (dk_at dksX1_visit_1 2 rfl rfl)
theorem dX1_visit_29 : decode cX1_visit 29 = .ok (.if_icmp .lt 29, 3) := dk_161 0 29 (dk_at dksX1_visit_1 5 rfl rfl)
theorem dX1_visit_32 : decode cX1_visit 32 = .ok (.aload_n 0, 1) := dk_42 (dk_at dksX1_visit_1 8 rfl rfl)
theorem dX1_visit_33 : decode cX1_visit 33 = .ok (.aload_n 0, 1) := dk_42 (dk_at dksX1_visit_1 9 rfl rfl)
theorem dX1_visit_34 : decode cX1_visit 34 = .ok (.getfield 10, 3) := dk_180 0 10 (dk_at dksX1_visit_1 10 rfl rfl)
theorem dX1_visit_37 : decode cX1_visit 37 = .ok (.getfield 46, 3) := dk_180 0 46 (dk_at dksX1_visit_1 13 rfl rfl)
theorem dX1_visit_40 : decode cX1_visit 40 = .ok (.iload_n 2, 1) := dk_28 (dk_at dksX1_visit_1 16 rfl rfl)
theorem dX1_visit_41 : decode cX1_visit 41 = .ok (.sipush 200, 3) := dk_17 0 200 (dk_at dksX1_visit_1 17 rfl rfl)
theorem dX1_visit_44 : decode cX1_visit 44 = .ok (.isub, 1) := dk_100 (dk_at dksX1_visit_1 20 rfl rfl)
theorem dX1_visit_45 : decode cX1_visit 45 = .ok (.invokevirtual 56, 3) := dk_182 0 56 (dk_at dksX1_visit_1 21 rfl rfl)
theorem dX1_visit_48 : decode cX1_visit 48 = .ok (.checkcast 60, 3) := dk_192 0 60 (dk_at dksX1_visit_2 0 rfl rfl)
theorem dX1_visit_51 : decode cX1_visit 51 = .ok (.iconst 3, 1) := dk_6 (dk_at dksX1_visit_2 3 rfl rfl)
theorem dX1_visit_52 : decode cX1_visit 52 = .ok (.invokevirtual 205, 3) := dk_182 0 205 (dk_at dksX1_visit_2 4 rfl rfl)
theorem dX1_visit_55 : decode cX1_visit 55 = .ok (.goto 31, 3) := dk_167 0 31 (dk_at dksX1_visit_2 7 rfl rfl)
theorem dX1_visit_58 : decode cX1_visit 58 = .ok (.iload_n 2, 1) := dk_28 (dk_at dksX1_visit_2 10 rfl rfl)
theorem dX1_visit_59 : decode cX1_visit 59 = .ok (.bipush 100, 2) := dk_16 100 (dk_at dksX1_visit_2 11 rfl rfl)
theorem dX1_visit_61 : decode cX1_visit 61 = .ok (.if_icmp .lt 25, 3) := dk_161 0 25 (dk_at dksX1_visit_2 13 rfl rfl)
theorem dX1_visit_64 : decode cX1_visit 64 = .ok (.aload_n 0, 1) := dk_42 (dk_at dksX1_visit_2 16 rfl rfl)
theorem dX1_visit_65 : decode cX1_visit 65 = .ok (.aload_n 0, 1) := dk_42 (dk_at dksX1_visit_2 17 rfl rfl)
theorem dX1_visit_66 : decode cX1_visit 66 = .ok (.getfield 10, 3) := dk_180 0 10 (dk_at dksX1_visit_2 18 rfl rfl)
theorem dX1_visit_69 : decode cX1_visit 69 = .ok (.getfield 67, 3) := dk_180 0 67 (dk_at dksX1_visit_2 21 rfl rfl)
theorem dX1_visit_72 : decode cX1_visit 72 = .ok (.iload_n 2, 1) := dk_28 (dk_at dksX1_visit_3 0 rfl rfl)
theorem dX1_visit_73 : decode cX1_visit 73 = .ok (.bipush 100, 2) := dk_16 100 (dk_at dksX1_visit_3 1 rfl rfl)
theorem dX1_visit_75 : decode cX1_visit 75 = .ok (.isub, 1) := dk_100 (dk_at dksX1_visit_3 3 rfl rfl)
theorem dX1_visit_76 : decode cX1_visit 76 = .ok (.invokevirtual 56, 3) := dk_182 0 56 (dk_at dksX1_visit_3 4 rfl rfl)
theorem dX1_visit_79 : decode cX1_visit 79 = .ok (.checkcast 70, 3) := dk_192 0 70 (dk_at dksX1_visit_3 7 rfl rfl)
theorem dX1_visit_82 : decode cX1_visit 82 = .ok (.iconst 3, 1) := dk_6 (dk_at dksX1_visit_3 10 rfl rfl)
theorem dX1_visit_83 : decode cX1_visit 83 = .ok (.invokevirtual 233, 3) := dk_182 0 233 (dk_at dksX1_visit_3 11 rfl rfl)
theorem dX1_visit_86 : decode cX1_visit 86 = .ok (.aload_n 0, 1) := dk_42 (dk_at dksX1_visit_3 14 rfl rfl)
theorem dX1_visit_87 : decode cX1_visit 87 = .ok (.getfield 10, 3) := dk_180 0 10 (dk_at dksX1_visit_3 15 rfl rfl)
theorem dX1_visit_90 : decode cX1_visit 90 = .ok (.dup, 1) := dk_89 (dk_at dksX1_visit_3 18 rfl rfl)
theorem dX1_visit_91 : decode cX1_visit 91 = .ok (.getfield 237, 3) := dk_180 0 237 (dk_at dksX1_visit_3 19 rfl rfl)
theorem dX1_visit_94 : decode cX1_visit 94 = .ok (.iload_n 2, 1) := dk_28 (dk_at dksX1_visit_3 22 rfl rfl)
theorem dX1_visit_95 : decode cX1_visit 95 = .ok (.ifCond .le 7, 3) := dk_158 0 7 (dk_at dksX1_visit_4 0 rfl rfl)
theorem dX1_visit_98 : decode cX1_visit 98 = .ok (.iconst 1, 1) := dk_4 (dk_at dksX1_visit_4 3 rfl rfl)
theorem dX1_visit_99 : decode cX1_visit 99 = .ok (.goto 4, 3) := dk_167 0 4 (dk_at dksX1_visit_4 4 rfl rfl)
theorem dX1_visit_102 : decode cX1_visit 102 = .ok (.iconst 0, 1) := dk_3 (dk_at dksX1_visit_4 7 rfl rfl)
theorem dX1_visit_103 : decode cX1_visit 103 = .ok (.iadd, 1) := dk_96 (dk_at dksX1_visit_4 8 rfl rfl)
theorem dX1_visit_104 : decode cX1_visit 104 = .ok (.putfield 237, 3) := dk_181 0 237 (dk_at dksX1_visit_4 9 rfl rfl)
theorem dX1_visit_107 : decode cX1_visit 107 = .ok (.return_, 1) := dk_177 (dk_at dksX1_visit_4 12 rfl rfl)
abbrev cX1_prey : ByteArray := prog_1_method_30_code
def yX1_prey : MethodName := ⟨RX1, "prey", "(I)I"⟩
def dkwX1_prey_2 : List UInt8 := [17, 0, 200, 29, 96, 167, 0, 4, 3, 172]
abbrev dktX1_prey_2 : List UInt8 := dkwX1_prey_2 ++ []
def dkwX1_prey_1 : List UInt8 := [27, 182, 0, 224, 62, 28, 2, 159, 0, 10, 16, 100, 28, 96, 167, 0, 17, 29, 2, 159, 0, 11]
abbrev dktX1_prey_1 : List UInt8 := dkwX1_prey_1 ++ dktX1_prey_2
def dkwX1_prey_0 : List UInt8 := [42, 27, 3, 182, 0, 220, 61, 28, 2, 160, 0, 12, 42, 27, 4, 182, 0, 220, 167, 0, 4, 28, 61, 42]
abbrev dktX1_prey_0 : List UInt8 := dkwX1_prey_0 ++ dktX1_prey_1
theorem dksX1_prey_0 : cX1_prey.data.toList.drop 0 = dktX1_prey_0 := by decide +kernel
theorem dksX1_prey_1 : cX1_prey.data.toList.drop 24 = dktX1_prey_1 := dk_seg dksX1_prey_0 24 rfl rfl
theorem dksX1_prey_2 : cX1_prey.data.toList.drop 46 = dktX1_prey_2 := dk_seg dksX1_prey_1 22 rfl rfl
theorem dX1_prey_0 : decode cX1_prey 0 = .ok (.aload_n 0, 1) := dk_42 (dk_at dksX1_prey_0 0 rfl rfl)
theorem dX1_prey_1 : decode cX1_prey 1 = .ok (.iload_n 1, 1) := dk_27 (dk_at dksX1_prey_0 1 rfl rfl)
theorem dX1_prey_2 : decode cX1_prey 2 = .ok (.iconst 0, 1) := dk_3 (dk_at dksX1_prey_0 2 rfl rfl)
theorem dX1_prey_3 : decode cX1_prey 3 = .ok (.invokevirtual 220, 3) := dk_182 0 220 (dk_at dksX1_prey_0 3 rfl rfl)
theorem dX1_prey_6 : decode cX1_prey 6 = .ok (.istore_n 2, 1) := dk_61 (dk_at dksX1_prey_0 6 rfl rfl)
theorem dX1_prey_7 : decode cX1_prey 7 = .ok (.iload_n 2, 1) := dk_28 (dk_at dksX1_prey_0 7 rfl rfl)
theorem dX1_prey_8 : decode cX1_prey 8 = .ok (.iconst (-1), 1) := dk_2 (dk_at dksX1_prey_0 8 rfl rfl)
theorem dX1_prey_9 : decode cX1_prey 9 = .ok (.if_icmp .ne 12, 3) := dk_160 0 12 (dk_at dksX1_prey_0 9 rfl rfl)
theorem dX1_prey_12 : decode cX1_prey 12 = .ok (.aload_n 0, 1) := dk_42 (dk_at dksX1_prey_0 12 rfl rfl)
theorem dX1_prey_13 : decode cX1_prey 13 = .ok (.iload_n 1, 1) := dk_27 (dk_at dksX1_prey_0 13 rfl rfl)
theorem dX1_prey_14 : decode cX1_prey 14 = .ok (.iconst 1, 1) := dk_4 (dk_at dksX1_prey_0 14 rfl rfl)
theorem dX1_prey_15 : decode cX1_prey 15 = .ok (.invokevirtual 220, 3) := dk_182 0 220 (dk_at dksX1_prey_0 15 rfl rfl)
theorem dX1_prey_18 : decode cX1_prey 18 = .ok (.goto 4, 3) := dk_167 0 4 (dk_at dksX1_prey_0 18 rfl rfl)
theorem dX1_prey_21 : decode cX1_prey 21 = .ok (.iload_n 2, 1) := dk_28 (dk_at dksX1_prey_0 21 rfl rfl)
theorem dX1_prey_22 : decode cX1_prey 22 = .ok (.istore_n 2, 1) := dk_61 (dk_at dksX1_prey_0 22 rfl rfl)
theorem dX1_prey_23 : decode cX1_prey 23 = .ok (.aload_n 0, 1) := dk_42 (dk_at dksX1_prey_0 23 rfl rfl)
theorem dX1_prey_24 : decode cX1_prey 24 = .ok (.iload_n 1, 1) := dk_27 (dk_at dksX1_prey_1 0 rfl rfl)
theorem dX1_prey_25 : decode cX1_prey 25 = .ok (.invokevirtual 224, 3) := dk_182 0 224 (dk_at dksX1_prey_1 1 rfl rfl)
theorem dX1_prey_28 : decode cX1_prey 28 = .ok (.istore_n 3, 1) := dk_62 (dk_at dksX1_prey_1 4 rfl rfl)
theorem dX1_prey_29 : decode cX1_prey 29 = .ok (.iload_n 2, 1) := dk_28 (dk_at dksX1_prey_1 5 rfl rfl)
theorem dX1_prey_30 : decode cX1_prey 30 = .ok (.iconst (-1), 1) := dk_2 (dk_at dksX1_prey_1 6 rfl rfl)
theorem dX1_prey_31 : decode cX1_prey 31 = .ok (.if_icmp .eq 10, 3) := dk_159 0 10 (dk_at dksX1_prey_1 7 rfl rfl)
theorem dX1_prey_34 : decode cX1_prey 34 = .ok (.bipush 100, 2) := dk_16 100 (dk_at dksX1_prey_1 10 rfl rfl)
theorem dX1_prey_36 : decode cX1_prey 36 = .ok (.iload_n 2, 1) := dk_28 (dk_at dksX1_prey_1 12 rfl rfl)
theorem dX1_prey_37 : decode cX1_prey 37 = .ok (.iadd, 1) := dk_96 (dk_at dksX1_prey_1 13 rfl rfl)
theorem dX1_prey_38 : decode cX1_prey 38 = .ok (.goto 17, 3) := dk_167 0 17 (dk_at dksX1_prey_1 14 rfl rfl)
theorem dX1_prey_41 : decode cX1_prey 41 = .ok (.iload_n 3, 1) := dk_29 (dk_at dksX1_prey_1 17 rfl rfl)
theorem dX1_prey_42 : decode cX1_prey 42 = .ok (.iconst (-1), 1) := dk_2 (dk_at dksX1_prey_1 18 rfl rfl)
theorem dX1_prey_43 : decode cX1_prey 43 = .ok (.if_icmp .eq 11, 3) := dk_159 0 11 (dk_at dksX1_prey_1 19 rfl rfl)
theorem dX1_prey_46 : decode cX1_prey 46 = .ok (.sipush 200, 3) := dk_17 0 200 (dk_at dksX1_prey_2 0 rfl rfl)
theorem dX1_prey_49 : decode cX1_prey 49 = .ok (.iload_n 3, 1) := dk_29 (dk_at dksX1_prey_2 3 rfl rfl)
theorem dX1_prey_50 : decode cX1_prey 50 = .ok (.iadd, 1) := dk_96 (dk_at dksX1_prey_2 4 rfl rfl)
theorem dX1_prey_51 : decode cX1_prey 51 = .ok (.goto 4, 3) := dk_167 0 4 (dk_at dksX1_prey_2 5 rfl rfl)
theorem dX1_prey_54 : decode cX1_prey 54 = .ok (.iconst 0, 1) := dk_3 (dk_at dksX1_prey_2 8 rfl rfl)
theorem dX1_prey_55 : decode cX1_prey 55 = .ok (.ireturn, 1) := dk_172 (dk_at dksX1_prey_2 9 rfl rfl)
abbrev cX1_preyCrab : ByteArray := prog_1_method_28_code
def yX1_preyCrab : MethodName := ⟨RX1, "preyCrab", "(IZ)I"⟩
def dkwX1_preyCrab_5 : List UInt8 := [132, 4, 1, 167, 255, 145, 29, 172]
abbrev dktX1_preyCrab_5 : List UInt8 := dkwX1_preyCrab_5 ++ []
def dkwX1_preyCrab_4 : List UInt8 := [180, 0, 10, 180, 0, 67, 29, 182, 0, 56, 192, 0, 70, 180, 0, 148, 164, 0, 6, 21, 4, 62]
abbrev dktX1_preyCrab_4 : List UInt8 := dkwX1_preyCrab_4 ++ dktX1_preyCrab_5
def dkwX1_preyCrab_3 : List UInt8 := [182, 0, 216, 153, 0, 41, 21, 6, 153, 0, 36, 29, 2, 159, 0, 28, 25, 5, 180, 0, 148, 42]
abbrev dktX1_preyCrab_3 : List UInt8 := dkwX1_preyCrab_3 ++ dktX1_preyCrab_4
def dkwX1_preyCrab_2 : List UInt8 := [167, 0, 17, 25, 5, 180, 0, 113, 2, 160, 0, 7, 4, 167, 0, 4, 3, 54, 6, 25, 5, 27]
abbrev dktX1_preyCrab_2 : List UInt8 := dkwX1_preyCrab_2 ++ dktX1_preyCrab_3
def dkwX1_preyCrab_1 : List UInt8 := [180, 0, 67, 21, 4, 182, 0, 56, 192, 0, 70, 58, 5, 28, 153, 0, 12, 42, 25, 5, 182, 0, 209]
abbrev dktX1_preyCrab_1 : List UInt8 := dkwX1_preyCrab_1 ++ dktX1_preyCrab_2
def dkwX1_preyCrab_0 : List UInt8 := [2, 62, 3, 54, 4, 21, 4, 42, 180, 0, 10, 180, 0, 67, 182, 0, 50, 162, 0, 102, 42, 180, 0, 10]
abbrev dktX1_preyCrab_0 : List UInt8 := dkwX1_preyCrab_0 ++ dktX1_preyCrab_1
theorem dksX1_preyCrab_0 : cX1_preyCrab.data.toList.drop 0 = dktX1_preyCrab_0 := by decide +kernel
theorem dksX1_preyCrab_1 : cX1_preyCrab.data.toList.drop 24 = dktX1_preyCrab_1 := dk_seg dksX1_preyCrab_0 24 rfl rfl
theorem dksX1_preyCrab_2 : cX1_preyCrab.data.toList.drop 47 = dktX1_preyCrab_2 := dk_seg dksX1_preyCrab_1 23 rfl rfl
theorem dksX1_preyCrab_3 : cX1_preyCrab.data.toList.drop 69 = dktX1_preyCrab_3 := dk_seg dksX1_preyCrab_2 22 rfl rfl
theorem dksX1_preyCrab_4 : cX1_preyCrab.data.toList.drop 91 = dktX1_preyCrab_4 := dk_seg dksX1_preyCrab_3 22 rfl rfl
theorem dksX1_preyCrab_5 : cX1_preyCrab.data.toList.drop 113 = dktX1_preyCrab_5 := dk_seg dksX1_preyCrab_4 22 rfl rfl
theorem dX1_preyCrab_0 : decode cX1_preyCrab 0 = .ok (.iconst (-1), 1) := dk_2 (dk_at dksX1_preyCrab_0 0 rfl rfl)
theorem dX1_preyCrab_1 : decode cX1_preyCrab 1 = .ok (.istore_n 3, 1) := dk_62 (dk_at dksX1_preyCrab_0 1 rfl rfl)
theorem dX1_preyCrab_2 : decode cX1_preyCrab 2 = .ok (.iconst 0, 1) := dk_3 (dk_at dksX1_preyCrab_0 2 rfl rfl)
theorem dX1_preyCrab_3 : decode cX1_preyCrab 3 = .ok (.istore 4, 2) := dk_54 4 (dk_at dksX1_preyCrab_0 3 rfl rfl)
theorem dX1_preyCrab_5 : decode cX1_preyCrab 5 = .ok (.iload 4, 2) := dk_21 4 (dk_at dksX1_preyCrab_0 5 rfl rfl)
theorem dX1_preyCrab_7 : decode cX1_preyCrab 7 = .ok (.aload_n 0, 1) := dk_42 (dk_at dksX1_preyCrab_0 7 rfl rfl)
theorem dX1_preyCrab_8 : decode cX1_preyCrab 8 = .ok (.getfield 10, 3) := dk_180 0 10 (dk_at dksX1_preyCrab_0 8 rfl rfl)
theorem dX1_preyCrab_11 : decode cX1_preyCrab 11 = .ok (.getfield 67, 3) := dk_180 0 67 (dk_at dksX1_preyCrab_0 11 rfl rfl)
theorem dX1_preyCrab_14 : decode cX1_preyCrab 14 = .ok (.invokevirtual 50, 3) := dk_182 0 50 (dk_at dksX1_preyCrab_0 14 rfl rfl)
theorem dX1_preyCrab_17 : decode cX1_preyCrab 17 = .ok (.if_icmp .ge 102, 3) := dk_162 0 102 (dk_at dksX1_preyCrab_0 17 rfl rfl)
theorem dX1_preyCrab_20 : decode cX1_preyCrab 20 = .ok (.aload_n 0, 1) := dk_42 (dk_at dksX1_preyCrab_0 20 rfl rfl)
theorem dX1_preyCrab_21 : decode cX1_preyCrab 21 = .ok (.getfield 10, 3) := dk_180 0 10 (dk_at dksX1_preyCrab_0 21 rfl rfl)
theorem dX1_preyCrab_24 : decode cX1_preyCrab 24 = .ok (.getfield 67, 3) := dk_180 0 67 (dk_at dksX1_preyCrab_1 0 rfl rfl)
theorem dX1_preyCrab_27 : decode cX1_preyCrab 27 = .ok (.iload 4, 2) := dk_21 4 (dk_at dksX1_preyCrab_1 3 rfl rfl)
theorem dX1_preyCrab_29 : decode cX1_preyCrab 29 = .ok (.invokevirtual 56, 3) := dk_182 0 56 (dk_at dksX1_preyCrab_1 5 rfl rfl)
theorem dX1_preyCrab_32 : decode cX1_preyCrab 32 = .ok (.checkcast 70, 3) := dk_192 0 70 (dk_at dksX1_preyCrab_1 8 rfl rfl)
theorem dX1_preyCrab_35 : decode cX1_preyCrab 35 = .ok (.astore 5, 2) := dk_58 5 (dk_at dksX1_preyCrab_1 11 rfl rfl)
theorem dX1_preyCrab_37 : decode cX1_preyCrab 37 = .ok (.iload_n 2, 1) := dk_28 (dk_at dksX1_preyCrab_1 13 rfl rfl)
theorem dX1_preyCrab_38 : decode cX1_preyCrab 38 = .ok (.ifCond .eq 12, 3) := dk_153 0 12 (dk_at dksX1_preyCrab_1 14 rfl rfl)
theorem dX1_preyCrab_41 : decode cX1_preyCrab 41 = .ok (.aload_n 0, 1) := dk_42 (dk_at dksX1_preyCrab_1 17 rfl rfl)
theorem dX1_preyCrab_42 : decode cX1_preyCrab 42 = .ok (.aload 5, 2) := dk_25 5 (dk_at dksX1_preyCrab_1 18 rfl rfl)
theorem dX1_preyCrab_44 : decode cX1_preyCrab 44 = .ok (.invokevirtual 209, 3) := dk_182 0 209 (dk_at dksX1_preyCrab_1 20 rfl rfl)
theorem dX1_preyCrab_47 : decode cX1_preyCrab 47 = .ok (.goto 17, 3) := dk_167 0 17 (dk_at dksX1_preyCrab_2 0 rfl rfl)
theorem dX1_preyCrab_50 : decode cX1_preyCrab 50 = .ok (.aload 5, 2) := dk_25 5 (dk_at dksX1_preyCrab_2 3 rfl rfl)
theorem dX1_preyCrab_52 : decode cX1_preyCrab 52 = .ok (.getfield 113, 3) := dk_180 0 113 (dk_at dksX1_preyCrab_2 5 rfl rfl)
theorem dX1_preyCrab_55 : decode cX1_preyCrab 55 = .ok (.iconst (-1), 1) := dk_2 (dk_at dksX1_preyCrab_2 8 rfl rfl)
theorem dX1_preyCrab_56 : decode cX1_preyCrab 56 = .ok (.if_icmp .ne 7, 3) := dk_160 0 7 (dk_at dksX1_preyCrab_2 9 rfl rfl)
theorem dX1_preyCrab_59 : decode cX1_preyCrab 59 = .ok (.iconst 1, 1) := dk_4 (dk_at dksX1_preyCrab_2 12 rfl rfl)
theorem dX1_preyCrab_60 : decode cX1_preyCrab 60 = .ok (.goto 4, 3) := dk_167 0 4 (dk_at dksX1_preyCrab_2 13 rfl rfl)
theorem dX1_preyCrab_63 : decode cX1_preyCrab 63 = .ok (.iconst 0, 1) := dk_3 (dk_at dksX1_preyCrab_2 16 rfl rfl)
theorem dX1_preyCrab_64 : decode cX1_preyCrab 64 = .ok (.istore 6, 2) := dk_54 6 (dk_at dksX1_preyCrab_2 17 rfl rfl)
theorem dX1_preyCrab_66 : decode cX1_preyCrab 66 = .ok (.aload 5, 2) := dk_25 5 (dk_at dksX1_preyCrab_2 19 rfl rfl)
theorem dX1_preyCrab_68 : decode cX1_preyCrab 68 = .ok (.iload_n 1, 1) := dk_27 (dk_at dksX1_preyCrab_2 21 rfl rfl)
theorem dX1_preyCrab_69 : decode cX1_preyCrab 69 = .ok (.invokevirtual 216, 3) := dk_182 0 216 (dk_at dksX1_preyCrab_3 0 rfl rfl)
theorem dX1_preyCrab_72 : decode cX1_preyCrab 72 = .ok (.ifCond .eq 41, 3) := dk_153 0 41 (dk_at dksX1_preyCrab_3 3 rfl rfl)
theorem dX1_preyCrab_75 : decode cX1_preyCrab 75 = .ok (.iload 6, 2) := dk_21 6 (dk_at dksX1_preyCrab_3 6 rfl rfl)
theorem dX1_preyCrab_77 : decode cX1_preyCrab 77 = .ok (.ifCond .eq 36, 3) := dk_153 0 36 (dk_at dksX1_preyCrab_3 8 rfl rfl)
theorem dX1_preyCrab_80 : decode cX1_preyCrab 80 = .ok (.iload_n 3, 1) := dk_29 (dk_at dksX1_preyCrab_3 11 rfl rfl)
theorem dX1_preyCrab_81 : decode cX1_preyCrab 81 = .ok (.iconst (-1), 1) := dk_2 (dk_at dksX1_preyCrab_3 12 rfl rfl)
theorem dX1_preyCrab_82 : decode cX1_preyCrab 82 = .ok (.if_icmp .eq 28, 3) := dk_159 0 28 (dk_at dksX1_preyCrab_3 13 rfl rfl)
theorem dX1_preyCrab_85 : decode cX1_preyCrab 85 = .ok (.aload 5, 2) := dk_25 5 (dk_at dksX1_preyCrab_3 16 rfl rfl)
theorem dX1_preyCrab_87 : decode cX1_preyCrab 87 = .ok (.getfield 148, 3) := dk_180 0 148 (dk_at dksX1_preyCrab_3 18 rfl rfl)
theorem dX1_preyCrab_90 : decode cX1_preyCrab 90 = .ok (.aload_n 0, 1) := dk_42 (dk_at dksX1_preyCrab_3 21 rfl rfl)
theorem dX1_preyCrab_91 : decode cX1_preyCrab 91 = .ok (.getfield 10, 3) := dk_180 0 10 (dk_at dksX1_preyCrab_4 0 rfl rfl)
theorem dX1_preyCrab_94 : decode cX1_preyCrab 94 = .ok (.getfield 67, 3) := dk_180 0 67 (dk_at dksX1_preyCrab_4 3 rfl rfl)
theorem dX1_preyCrab_97 : decode cX1_preyCrab 97 = .ok (.iload_n 3, 1) := dk_29 (dk_at dksX1_preyCrab_4 6 rfl rfl)
theorem dX1_preyCrab_98 : decode cX1_preyCrab 98 = .ok (.invokevirtual 56, 3) := dk_182 0 56 (dk_at dksX1_preyCrab_4 7 rfl rfl)
theorem dX1_preyCrab_101 : decode cX1_preyCrab 101 = .ok (.checkcast 70, 3) := dk_192 0 70 (dk_at dksX1_preyCrab_4 10 rfl rfl)
theorem dX1_preyCrab_104 : decode cX1_preyCrab 104 = .ok (.getfield 148, 3) := dk_180 0 148 (dk_at dksX1_preyCrab_4 13 rfl rfl)
theorem dX1_preyCrab_107 : decode cX1_preyCrab 107 = .ok (.if_icmp .le 6, 3) := dk_164 0 6 (dk_at dksX1_preyCrab_4 16 rfl rfl)
theorem dX1_preyCrab_110 : decode cX1_preyCrab 110 = .ok (.iload 4, 2) := dk_21 4 (dk_at dksX1_preyCrab_4 19 rfl rfl)
theorem dX1_preyCrab_112 : decode cX1_preyCrab 112 = .ok (.istore_n 3, 1) := dk_62 (dk_at dksX1_preyCrab_4 21 rfl rfl)
theorem dX1_preyCrab_113 : decode cX1_preyCrab 113 = .ok (.iinc 4 1, 3) := dk_132 4 1 (dk_at dksX1_preyCrab_5 0 rfl rfl)
theorem dX1_preyCrab_116 : decode cX1_preyCrab 116 = .ok (.goto (-111), 3) := dk_167 255 145 (dk_at dksX1_preyCrab_5 3 rfl rfl)
theorem dX1_preyCrab_119 : decode cX1_preyCrab 119 = .ok (.iload_n 3, 1) := dk_29 (dk_at dksX1_preyCrab_5 6 rfl rfl)
theorem dX1_preyCrab_120 : decode cX1_preyCrab 120 = .ok (.ireturn, 1) := dk_172 (dk_at dksX1_preyCrab_5 7 rfl rfl)
abbrev cX1_preyLimpet : ByteArray := prog_1_method_29_code
def yX1_preyLimpet : MethodName := ⟨RX1, "preyLimpet", "(I)I"⟩
def dkwX1_preyLimpet_3 : List UInt8 := [167, 255, 194, 28, 172]
abbrev dktX1_preyLimpet_3 : List UInt8 := dkwX1_preyLimpet_3 ++ []
def dkwX1_preyLimpet_2 : List UInt8 := [153, 0, 21, 25, 5, 180, 0, 196, 29, 164, 0, 12, 21, 4, 61, 25, 5, 180, 0, 196, 62, 132, 4, 1]
abbrev dktX1_preyLimpet_2 : List UInt8 := dkwX1_preyLimpet_2 ++ dktX1_preyLimpet_3
def dkwX1_preyLimpet_1 : List UInt8 := [180, 0, 10, 180, 0, 46, 21, 4, 182, 0, 56, 192, 0, 60, 58, 5, 25, 5, 27, 182, 0, 219]
abbrev dktX1_preyLimpet_1 : List UInt8 := dkwX1_preyLimpet_1 ++ dktX1_preyLimpet_2
def dkwX1_preyLimpet_0 : List UInt8 := [2, 61, 3, 62, 3, 54, 4, 21, 4, 42, 180, 0, 10, 180, 0, 46, 182, 0, 50, 162, 0, 53, 42]
abbrev dktX1_preyLimpet_0 : List UInt8 := dkwX1_preyLimpet_0 ++ dktX1_preyLimpet_1
theorem dksX1_preyLimpet_0 : cX1_preyLimpet.data.toList.drop 0 = dktX1_preyLimpet_0 := by decide +kernel
theorem dksX1_preyLimpet_1 : cX1_preyLimpet.data.toList.drop 23 = dktX1_preyLimpet_1 := dk_seg dksX1_preyLimpet_0 23 rfl rfl
theorem dksX1_preyLimpet_2 : cX1_preyLimpet.data.toList.drop 45 = dktX1_preyLimpet_2 := dk_seg dksX1_preyLimpet_1 22 rfl rfl
theorem dksX1_preyLimpet_3 : cX1_preyLimpet.data.toList.drop 69 = dktX1_preyLimpet_3 := dk_seg dksX1_preyLimpet_2 24 rfl rfl
theorem dX1_preyLimpet_0 : decode cX1_preyLimpet 0 = .ok (.iconst (-1), 1) := dk_2 (dk_at dksX1_preyLimpet_0 0 rfl rfl)
theorem dX1_preyLimpet_1 : decode cX1_preyLimpet 1 = .ok (.istore_n 2, 1) := dk_61 (dk_at dksX1_preyLimpet_0 1 rfl rfl)
theorem dX1_preyLimpet_2 : decode cX1_preyLimpet 2 = .ok (.iconst 0, 1) := dk_3 (dk_at dksX1_preyLimpet_0 2 rfl rfl)
theorem dX1_preyLimpet_3 : decode cX1_preyLimpet 3 = .ok (.istore_n 3, 1) := dk_62 (dk_at dksX1_preyLimpet_0 3 rfl rfl)
theorem dX1_preyLimpet_4 : decode cX1_preyLimpet 4 = .ok (.iconst 0, 1) := dk_3 (dk_at dksX1_preyLimpet_0 4 rfl rfl)
theorem dX1_preyLimpet_5 : decode cX1_preyLimpet 5 = .ok (.istore 4, 2) := dk_54 4 (dk_at dksX1_preyLimpet_0 5 rfl rfl)
theorem dX1_preyLimpet_7 : decode cX1_preyLimpet 7 = .ok (.iload 4, 2) := dk_21 4 (dk_at dksX1_preyLimpet_0 7 rfl rfl)
theorem dX1_preyLimpet_9 : decode cX1_preyLimpet 9 = .ok (.aload_n 0, 1) := dk_42 (dk_at dksX1_preyLimpet_0 9 rfl rfl)
theorem dX1_preyLimpet_10 : decode cX1_preyLimpet 10 = .ok (.getfield 10, 3) := dk_180 0 10 (dk_at dksX1_preyLimpet_0 10 rfl rfl)
theorem dX1_preyLimpet_13 : decode cX1_preyLimpet 13 = .ok (.getfield 46, 3) := dk_180 0 46 (dk_at dksX1_preyLimpet_0 13 rfl rfl)
theorem dX1_preyLimpet_16 : decode cX1_preyLimpet 16 = .ok (.invokevirtual 50, 3) := dk_182 0 50 (dk_at dksX1_preyLimpet_0 16 rfl rfl)
theorem dX1_preyLimpet_19 : decode cX1_preyLimpet 19 = .ok (.if_icmp .ge 53, 3) := dk_162 0 53 (dk_at dksX1_preyLimpet_0 19 rfl rfl)
theorem dX1_preyLimpet_22 : decode cX1_preyLimpet 22 = .ok (.aload_n 0, 1) := dk_42 (dk_at dksX1_preyLimpet_0 22 rfl rfl)
theorem dX1_preyLimpet_23 : decode cX1_preyLimpet 23 = .ok (.getfield 10, 3) := dk_180 0 10 (dk_at dksX1_preyLimpet_1 0 rfl rfl)
theorem dX1_preyLimpet_26 : decode cX1_preyLimpet 26 = .ok (.getfield 46, 3) := dk_180 0 46 (dk_at dksX1_preyLimpet_1 3 rfl rfl)
theorem dX1_preyLimpet_29 : decode cX1_preyLimpet 29 = .ok (.iload 4, 2) := dk_21 4 (dk_at dksX1_preyLimpet_1 6 rfl rfl)
theorem dX1_preyLimpet_31 : decode cX1_preyLimpet 31 = .ok (.invokevirtual 56, 3) := dk_182 0 56 (dk_at dksX1_preyLimpet_1 8 rfl rfl)
theorem dX1_preyLimpet_34 : decode cX1_preyLimpet 34 = .ok (.checkcast 60, 3) := dk_192 0 60 (dk_at dksX1_preyLimpet_1 11 rfl rfl)
theorem dX1_preyLimpet_37 : decode cX1_preyLimpet 37 = .ok (.astore 5, 2) := dk_58 5 (dk_at dksX1_preyLimpet_1 14 rfl rfl)
theorem dX1_preyLimpet_39 : decode cX1_preyLimpet 39 = .ok (.aload 5, 2) := dk_25 5 (dk_at dksX1_preyLimpet_1 16 rfl rfl)
theorem dX1_preyLimpet_41 : decode cX1_preyLimpet 41 = .ok (.iload_n 1, 1) := dk_27 (dk_at dksX1_preyLimpet_1 18 rfl rfl)
theorem dX1_preyLimpet_42 : decode cX1_preyLimpet 42 = .ok (.invokevirtual 219, 3) := dk_182 0 219 (dk_at dksX1_preyLimpet_1 19 rfl rfl)
theorem dX1_preyLimpet_45 : decode cX1_preyLimpet 45 = .ok (.ifCond .eq 21, 3) := dk_153 0 21 (dk_at dksX1_preyLimpet_2 0 rfl rfl)
theorem dX1_preyLimpet_48 : decode cX1_preyLimpet 48 = .ok (.aload 5, 2) := dk_25 5 (dk_at dksX1_preyLimpet_2 3 rfl rfl)
theorem dX1_preyLimpet_50 : decode cX1_preyLimpet 50 = .ok (.getfield 196, 3) := dk_180 0 196 (dk_at dksX1_preyLimpet_2 5 rfl rfl)
theorem dX1_preyLimpet_53 : decode cX1_preyLimpet 53 = .ok (.iload_n 3, 1) := dk_29 (dk_at dksX1_preyLimpet_2 8 rfl rfl)
theorem dX1_preyLimpet_54 : decode cX1_preyLimpet 54 = .ok (.if_icmp .le 12, 3) := dk_164 0 12 (dk_at dksX1_preyLimpet_2 9 rfl rfl)
theorem dX1_preyLimpet_57 : decode cX1_preyLimpet 57 = .ok (.iload 4, 2) := dk_21 4 (dk_at dksX1_preyLimpet_2 12 rfl rfl)
theorem dX1_preyLimpet_59 : decode cX1_preyLimpet 59 = .ok (.istore_n 2, 1) := dk_61 (dk_at dksX1_preyLimpet_2 14 rfl rfl)
theorem dX1_preyLimpet_60 : decode cX1_preyLimpet 60 = .ok (.aload 5, 2) := dk_25 5 (dk_at dksX1_preyLimpet_2 15 rfl rfl)
theorem dX1_preyLimpet_62 : decode cX1_preyLimpet 62 = .ok (.getfield 196, 3) := dk_180 0 196 (dk_at dksX1_preyLimpet_2 17 rfl rfl)
theorem dX1_preyLimpet_65 : decode cX1_preyLimpet 65 = .ok (.istore_n 3, 1) := dk_62 (dk_at dksX1_preyLimpet_2 20 rfl rfl)
theorem dX1_preyLimpet_66 : decode cX1_preyLimpet 66 = .ok (.iinc 4 1, 3) := dk_132 4 1 (dk_at dksX1_preyLimpet_2 21 rfl rfl)
theorem dX1_preyLimpet_69 : decode cX1_preyLimpet 69 = .ok (.goto (-62), 3) := dk_167 255 194 (dk_at dksX1_preyLimpet_3 0 rfl rfl)
theorem dX1_preyLimpet_72 : decode cX1_preyLimpet 72 = .ok (.iload_n 2, 1) := dk_28 (dk_at dksX1_preyLimpet_3 3 rfl rfl)
theorem dX1_preyLimpet_73 : decode cX1_preyLimpet 73 = .ok (.ireturn, 1) := dk_172 (dk_at dksX1_preyLimpet_3 4 rfl rfl)
abbrev cX1_grow : ByteArray := prog_1_method_32_code
def yX1_grow : MethodName := ⟨RX1, "grow", "(LShorePools$Crab;)V"⟩
def dkwX1_grow_2 : List UInt8 := [96, 184, 0, 183, 181, 0, 148, 177]
abbrev dktX1_grow_2 : List UInt8 := dkwX1_grow_2 ++ []
def dkwX1_grow_1 : List UInt8 := [180, 0, 113, 182, 0, 56, 192, 0, 65, 43, 182, 0, 240, 158, 0, 18, 43, 16, 20, 43, 180, 0, 148, 4]
abbrev dktX1_grow_1 : List UInt8 := dkwX1_grow_1 ++ dktX1_grow_2
def dkwX1_grow_0 : List UInt8 := [43, 182, 0, 150, 153, 0, 50, 43, 180, 0, 113, 2, 159, 0, 42, 42, 180, 0, 10, 180, 0, 62, 43]
abbrev dktX1_grow_0 : List UInt8 := dkwX1_grow_0 ++ dktX1_grow_1
theorem dksX1_grow_0 : cX1_grow.data.toList.drop 0 = dktX1_grow_0 := by decide +kernel
theorem dksX1_grow_1 : cX1_grow.data.toList.drop 23 = dktX1_grow_1 := dk_seg dksX1_grow_0 23 rfl rfl
theorem dksX1_grow_2 : cX1_grow.data.toList.drop 47 = dktX1_grow_2 := dk_seg dksX1_grow_1 24 rfl rfl
theorem dX1_grow_0 : decode cX1_grow 0 = .ok (.aload_n 1, 1) := dk_43 (dk_at dksX1_grow_0 0 rfl rfl)
theorem dX1_grow_1 : decode cX1_grow 1 = .ok (.invokevirtual 150, 3) := dk_182 0 150 (dk_at dksX1_grow_0 1 rfl rfl)
theorem dX1_grow_4 : decode cX1_grow 4 = .ok (.ifCond .eq 50, 3) := dk_153 0 50 (dk_at dksX1_grow_0 4 rfl rfl)
theorem dX1_grow_7 : decode cX1_grow 7 = .ok (.aload_n 1, 1) := dk_43 (dk_at dksX1_grow_0 7 rfl rfl)
theorem dX1_grow_8 : decode cX1_grow 8 = .ok (.getfield 113, 3) := dk_180 0 113 (dk_at dksX1_grow_0 8 rfl rfl)
theorem dX1_grow_11 : decode cX1_grow 11 = .ok (.iconst (-1), 1) := dk_2 (dk_at dksX1_grow_0 11 rfl rfl)
theorem dX1_grow_12 : decode cX1_grow 12 = .ok (.if_icmp .eq 42, 3) := dk_159 0 42 (dk_at dksX1_grow_0 12 rfl rfl)
theorem dX1_grow_15 : decode cX1_grow 15 = .ok (.aload_n 0, 1) := dk_42 (dk_at dksX1_grow_0 15 rfl rfl)
theorem dX1_grow_16 : decode cX1_grow 16 = .ok (.getfield 10, 3) := dk_180 0 10 (dk_at dksX1_grow_0 16 rfl rfl)
theorem dX1_grow_19 : decode cX1_grow 19 = .ok (.getfield 62, 3) := dk_180 0 62 (dk_at dksX1_grow_0 19 rfl rfl)
theorem dX1_grow_22 : decode cX1_grow 22 = .ok (.aload_n 1, 1) := dk_43 (dk_at dksX1_grow_0 22 rfl rfl)
theorem dX1_grow_23 : decode cX1_grow 23 = .ok (.getfield 113, 3) := dk_180 0 113 (dk_at dksX1_grow_1 0 rfl rfl)
theorem dX1_grow_26 : decode cX1_grow 26 = .ok (.invokevirtual 56, 3) := dk_182 0 56 (dk_at dksX1_grow_1 3 rfl rfl)
theorem dX1_grow_29 : decode cX1_grow 29 = .ok (.checkcast 65, 3) := dk_192 0 65 (dk_at dksX1_grow_1 6 rfl rfl)
theorem dX1_grow_32 : decode cX1_grow 32 = .ok (.aload_n 1, 1) := dk_43 (dk_at dksX1_grow_1 9 rfl rfl)
theorem dX1_grow_33 : decode cX1_grow 33 = .ok (.invokevirtual 240, 3) := dk_182 0 240 (dk_at dksX1_grow_1 10 rfl rfl)
theorem dX1_grow_36 : decode cX1_grow 36 = .ok (.ifCond .le 18, 3) := dk_158 0 18 (dk_at dksX1_grow_1 13 rfl rfl)
theorem dX1_grow_39 : decode cX1_grow 39 = .ok (.aload_n 1, 1) := dk_43 (dk_at dksX1_grow_1 16 rfl rfl)
theorem dX1_grow_40 : decode cX1_grow 40 = .ok (.bipush 20, 2) := dk_16 20 (dk_at dksX1_grow_1 17 rfl rfl)
theorem dX1_grow_42 : decode cX1_grow 42 = .ok (.aload_n 1, 1) := dk_43 (dk_at dksX1_grow_1 19 rfl rfl)
theorem dX1_grow_43 : decode cX1_grow 43 = .ok (.getfield 148, 3) := dk_180 0 148 (dk_at dksX1_grow_1 20 rfl rfl)
theorem dX1_grow_46 : decode cX1_grow 46 = .ok (.iconst 1, 1) := dk_4 (dk_at dksX1_grow_1 23 rfl rfl)
theorem dX1_grow_47 : decode cX1_grow 47 = .ok (.iadd, 1) := dk_96 (dk_at dksX1_grow_2 0 rfl rfl)
theorem dX1_grow_48 : decode cX1_grow 48 = .ok (.invokestatic 183, 3) := dk_184 0 183 (dk_at dksX1_grow_2 1 rfl rfl)
theorem dX1_grow_51 : decode cX1_grow 51 = .ok (.putfield 148, 3) := dk_181 0 148 (dk_at dksX1_grow_2 4 rfl rfl)
theorem dX1_grow_54 : decode cX1_grow 54 = .ok (.return_, 1) := dk_177 (dk_at dksX1_grow_2 7 rfl rfl)
abbrev cX1_recordedStates : ByteArray := prog_1_method_108_code
def yX1_recordedStates : MethodName := ⟨RX1, "recordedStates", "()I"⟩
def dkwX1_recordedStates_0 : List UInt8 := [42, 180, 0, 78, 184, 1, 93, 172]
abbrev dktX1_recordedStates_0 : List UInt8 := dkwX1_recordedStates_0 ++ []
theorem dksX1_recordedStates_0 : cX1_recordedStates.data.toList.drop 0 = dktX1_recordedStates_0 := by decide +kernel
theorem dX1_recordedStates_0 : decode cX1_recordedStates 0 = .ok (.aload_n 0, 1) := dk_42 (dk_at dksX1_recordedStates_0 0 rfl rfl)
theorem dX1_recordedStates_1 : decode cX1_recordedStates 1 = .ok (.getfield 78, 3) := dk_180 0 78 (dk_at dksX1_recordedStates_0 1 rfl rfl)
theorem dX1_recordedStates_4 : decode cX1_recordedStates 4 = .ok (.invokestatic 349, 3) := dk_184 1 93 (dk_at dksX1_recordedStates_0 4 rfl rfl)
theorem dX1_recordedStates_7 : decode cX1_recordedStates 7 = .ok (.ireturn, 1) := dk_172 (dk_at dksX1_recordedStates_0 7 rfl rfl)
abbrev cX1_addLimpet : ByteArray := prog_1_method_36_code
def yX1_addLimpet : MethodName := ⟨RX1, "addLimpet", "(I)I"⟩
def dkwX1_addLimpet_1 : List UInt8 := [184, 1, 24, 42, 182, 1, 28, 42, 27, 182, 1, 31, 172]
abbrev dktX1_addLimpet_1 : List UInt8 := dkwX1_addLimpet_1 ++ []
def dkwX1_addLimpet_0 : List UInt8 := [27, 184, 1, 21, 42, 180, 0, 10, 180, 0, 46, 182, 0, 50, 16, 20, 162, 0, 7, 4, 167, 0, 4, 3]
abbrev dktX1_addLimpet_0 : List UInt8 := dkwX1_addLimpet_0 ++ dktX1_addLimpet_1
theorem dksX1_addLimpet_0 : cX1_addLimpet.data.toList.drop 0 = dktX1_addLimpet_0 := by decide +kernel
theorem dksX1_addLimpet_1 : cX1_addLimpet.data.toList.drop 24 = dktX1_addLimpet_1 := dk_seg dksX1_addLimpet_0 24 rfl rfl
theorem dX1_addLimpet_0 : decode cX1_addLimpet 0 = .ok (.iload_n 1, 1) := dk_27 (dk_at dksX1_addLimpet_0 0 rfl rfl)
theorem dX1_addLimpet_1 : decode cX1_addLimpet 1 = .ok (.invokestatic 277, 3) := dk_184 1 21 (dk_at dksX1_addLimpet_0 1 rfl rfl)
theorem dX1_addLimpet_4 : decode cX1_addLimpet 4 = .ok (.aload_n 0, 1) := dk_42 (dk_at dksX1_addLimpet_0 4 rfl rfl)
theorem dX1_addLimpet_5 : decode cX1_addLimpet 5 = .ok (.getfield 10, 3) := dk_180 0 10 (dk_at dksX1_addLimpet_0 5 rfl rfl)
theorem dX1_addLimpet_8 : decode cX1_addLimpet 8 = .ok (.getfield 46, 3) := dk_180 0 46 (dk_at dksX1_addLimpet_0 8 rfl rfl)
theorem dX1_addLimpet_11 : decode cX1_addLimpet 11 = .ok (.invokevirtual 50, 3) := dk_182 0 50 (dk_at dksX1_addLimpet_0 11 rfl rfl)
theorem dX1_addLimpet_14 : decode cX1_addLimpet 14 = .ok (.bipush 20, 2) := dk_16 20 (dk_at dksX1_addLimpet_0 14 rfl rfl)
theorem dX1_addLimpet_16 : decode cX1_addLimpet 16 = .ok (.if_icmp .ge 7, 3) := dk_162 0 7 (dk_at dksX1_addLimpet_0 16 rfl rfl)
theorem dX1_addLimpet_19 : decode cX1_addLimpet 19 = .ok (.iconst 1, 1) := dk_4 (dk_at dksX1_addLimpet_0 19 rfl rfl)
theorem dX1_addLimpet_20 : decode cX1_addLimpet 20 = .ok (.goto 4, 3) := dk_167 0 4 (dk_at dksX1_addLimpet_0 20 rfl rfl)
theorem dX1_addLimpet_23 : decode cX1_addLimpet 23 = .ok (.iconst 0, 1) := dk_3 (dk_at dksX1_addLimpet_0 23 rfl rfl)
theorem dX1_addLimpet_24 : decode cX1_addLimpet 24 = .ok (.invokestatic 280, 3) := dk_184 1 24 (dk_at dksX1_addLimpet_1 0 rfl rfl)
theorem dX1_addLimpet_27 : decode cX1_addLimpet 27 = .ok (.aload_n 0, 1) := dk_42 (dk_at dksX1_addLimpet_1 3 rfl rfl)
theorem dX1_addLimpet_28 : decode cX1_addLimpet 28 = .ok (.invokevirtual 284, 3) := dk_182 1 28 (dk_at dksX1_addLimpet_1 4 rfl rfl)
theorem dX1_addLimpet_31 : decode cX1_addLimpet 31 = .ok (.aload_n 0, 1) := dk_42 (dk_at dksX1_addLimpet_1 7 rfl rfl)
theorem dX1_addLimpet_32 : decode cX1_addLimpet 32 = .ok (.iload_n 1, 1) := dk_27 (dk_at dksX1_addLimpet_1 8 rfl rfl)
theorem dX1_addLimpet_33 : decode cX1_addLimpet 33 = .ok (.invokevirtual 287, 3) := dk_182 1 31 (dk_at dksX1_addLimpet_1 9 rfl rfl)
theorem dX1_addLimpet_36 : decode cX1_addLimpet 36 = .ok (.ireturn, 1) := dk_172 (dk_at dksX1_addLimpet_1 12 rfl rfl)
abbrev cX1_checkPool : ByteArray := prog_1_method_3_code
def yX1_checkPool : MethodName := ⟨RX1, "checkPool", "(I)V"⟩
def dkwX1_checkPool_0 : List UInt8 := [26, 16, 8, 184, 0, 36, 177]
abbrev dktX1_checkPool_0 : List UInt8 := dkwX1_checkPool_0 ++ []
theorem dksX1_checkPool_0 : cX1_checkPool.data.toList.drop 0 = dktX1_checkPool_0 := by decide +kernel
theorem dX1_checkPool_0 : decode cX1_checkPool 0 = .ok (.iload_n 0, 1) := dk_26 (dk_at dksX1_checkPool_0 0 rfl rfl)
theorem dX1_checkPool_1 : decode cX1_checkPool 1 = .ok (.bipush 8, 2) := dk_16 8 (dk_at dksX1_checkPool_0 1 rfl rfl)
theorem dX1_checkPool_3 : decode cX1_checkPool 3 = .ok (.invokestatic 36, 3) := dk_184 0 36 (dk_at dksX1_checkPool_0 3 rfl rfl)
theorem dX1_checkPool_6 : decode cX1_checkPool 6 = .ok (.return_, 1) := dk_177 (dk_at dksX1_checkPool_0 6 rfl rfl)
abbrev cX1_checkIndex : ByteArray := prog_1_method_2_code
def yX1_checkIndex : MethodName := ⟨RX1, "checkIndex", "(II)V"⟩
def dkwX1_checkIndex_0 : List UInt8 := [26, 155, 0, 8, 26, 27, 161, 0, 11, 187, 0, 33, 89, 183, 0, 35, 191, 177]
abbrev dktX1_checkIndex_0 : List UInt8 := dkwX1_checkIndex_0 ++ []
theorem dksX1_checkIndex_0 : cX1_checkIndex.data.toList.drop 0 = dktX1_checkIndex_0 := by decide +kernel
theorem dX1_checkIndex_0 : decode cX1_checkIndex 0 = .ok (.iload_n 0, 1) := dk_26 (dk_at dksX1_checkIndex_0 0 rfl rfl)
theorem dX1_checkIndex_1 : decode cX1_checkIndex 1 = .ok (.ifCond .lt 8, 3) := dk_155 0 8 (dk_at dksX1_checkIndex_0 1 rfl rfl)
theorem dX1_checkIndex_4 : decode cX1_checkIndex 4 = .ok (.iload_n 0, 1) := dk_26 (dk_at dksX1_checkIndex_0 4 rfl rfl)
theorem dX1_checkIndex_5 : decode cX1_checkIndex 5 = .ok (.iload_n 1, 1) := dk_27 (dk_at dksX1_checkIndex_0 5 rfl rfl)
theorem dX1_checkIndex_6 : decode cX1_checkIndex 6 = .ok (.if_icmp .lt 11, 3) := dk_161 0 11 (dk_at dksX1_checkIndex_0 6 rfl rfl)
theorem dX1_checkIndex_9 : decode cX1_checkIndex 9 = .ok (.new 33, 3) := dk_187 0 33 (dk_at dksX1_checkIndex_0 9 rfl rfl)
theorem dX1_checkIndex_12 : decode cX1_checkIndex 12 = .ok (.dup, 1) := dk_89 (dk_at dksX1_checkIndex_0 12 rfl rfl)
theorem dX1_checkIndex_13 : decode cX1_checkIndex 13 = .ok (.invokespecial 35, 3) := dk_183 0 35 (dk_at dksX1_checkIndex_0 13 rfl rfl)
theorem dX1_checkIndex_16 : decode cX1_checkIndex 16 = .ok (.athrow, 1) := dk_191 (dk_at dksX1_checkIndex_0 16 rfl rfl)
theorem dX1_checkIndex_17 : decode cX1_checkIndex 17 = .ok (.return_, 1) := dk_177 (dk_at dksX1_checkIndex_0 17 rfl rfl)
abbrev cX1_check : ByteArray := prog_1_method_5_code
def yX1_check : MethodName := ⟨RX1, "check", "(Z)V"⟩
def dkwX1_check_0 : List UInt8 := [26, 154, 0, 11, 187, 0, 43, 89, 183, 0, 45, 191, 177]
abbrev dktX1_check_0 : List UInt8 := dkwX1_check_0 ++ []
theorem dksX1_check_0 : cX1_check.data.toList.drop 0 = dktX1_check_0 := by decide +kernel
theorem dX1_check_0 : decode cX1_check 0 = .ok (.iload_n 0, 1) := dk_26 (dk_at dksX1_check_0 0 rfl rfl)
theorem dX1_check_1 : decode cX1_check 1 = .ok (.ifCond .ne 11, 3) := dk_154 0 11 (dk_at dksX1_check_0 1 rfl rfl)
theorem dX1_check_4 : decode cX1_check 4 = .ok (.new 43, 3) := dk_187 0 43 (dk_at dksX1_check_0 4 rfl rfl)
theorem dX1_check_7 : decode cX1_check 7 = .ok (.dup, 1) := dk_89 (dk_at dksX1_check_0 7 rfl rfl)
theorem dX1_check_8 : decode cX1_check 8 = .ok (.invokespecial 45, 3) := dk_183 0 45 (dk_at dksX1_check_0 8 rfl rfl)
theorem dX1_check_11 : decode cX1_check 11 = .ok (.athrow, 1) := dk_191 (dk_at dksX1_check_0 11 rfl rfl)
theorem dX1_check_12 : decode cX1_check 12 = .ok (.return_, 1) := dk_177 (dk_at dksX1_check_0 12 rfl rfl)
abbrev cX1_record : ByteArray := prog_1_method_9_code
def yX1_record : MethodName := ⟨RX1, "record", "()V"⟩
def dkwX1_record_1 : List UInt8 := [181, 0, 78, 177]
abbrev dktX1_record_1 : List UInt8 := dkwX1_record_1 ++ []
def dkwX1_record_0 : List UInt8 := [42, 187, 0, 72, 89, 42, 180, 0, 10, 182, 0, 74, 42, 180, 0, 78, 6, 184, 0, 82, 183, 0, 86]
abbrev dktX1_record_0 : List UInt8 := dkwX1_record_0 ++ dktX1_record_1
theorem dksX1_record_0 : cX1_record.data.toList.drop 0 = dktX1_record_0 := by decide +kernel
theorem dksX1_record_1 : cX1_record.data.toList.drop 23 = dktX1_record_1 := dk_seg dksX1_record_0 23 rfl rfl
theorem dX1_record_0 : decode cX1_record 0 = .ok (.aload_n 0, 1) := dk_42 (dk_at dksX1_record_0 0 rfl rfl)
theorem dX1_record_1 : decode cX1_record 1 = .ok (.new 72, 3) := dk_187 0 72 (dk_at dksX1_record_0 1 rfl rfl)
theorem dX1_record_4 : decode cX1_record 4 = .ok (.dup, 1) := dk_89 (dk_at dksX1_record_0 4 rfl rfl)
theorem dX1_record_5 : decode cX1_record 5 = .ok (.aload_n 0, 1) := dk_42 (dk_at dksX1_record_0 5 rfl rfl)
theorem dX1_record_6 : decode cX1_record 6 = .ok (.getfield 10, 3) := dk_180 0 10 (dk_at dksX1_record_0 6 rfl rfl)
theorem dX1_record_9 : decode cX1_record 9 = .ok (.invokevirtual 74, 3) := dk_182 0 74 (dk_at dksX1_record_0 9 rfl rfl)
theorem dX1_record_12 : decode cX1_record 12 = .ok (.aload_n 0, 1) := dk_42 (dk_at dksX1_record_0 12 rfl rfl)
theorem dX1_record_13 : decode cX1_record 13 = .ok (.getfield 78, 3) := dk_180 0 78 (dk_at dksX1_record_0 13 rfl rfl)
theorem dX1_record_16 : decode cX1_record 16 = .ok (.iconst 3, 1) := dk_6 (dk_at dksX1_record_0 16 rfl rfl)
theorem dX1_record_17 : decode cX1_record 17 = .ok (.invokestatic 82, 3) := dk_184 0 82 (dk_at dksX1_record_0 17 rfl rfl)
theorem dX1_record_20 : decode cX1_record 20 = .ok (.invokespecial 86, 3) := dk_183 0 86 (dk_at dksX1_record_0 20 rfl rfl)
theorem dX1_record_23 : decode cX1_record 23 = .ok (.putfield 78, 3) := dk_181 0 78 (dk_at dksX1_record_1 0 rfl rfl)
theorem dX1_record_26 : decode cX1_record 26 = .ok (.return_, 1) := dk_177 (dk_at dksX1_record_1 3 rfl rfl)
abbrev cX1_limpetComes : ByteArray := prog_1_method_35_code
def yX1_limpetComes : MethodName := ⟨RX1, "limpetComes", "(I)I"⟩
def dkwX1_limpetComes_1 : List UInt8 := [180, 0, 46, 182, 0, 50, 4, 100, 172]
abbrev dktX1_limpetComes_1 : List UInt8 := dkwX1_limpetComes_1 ++ []
def dkwX1_limpetComes_0 : List UInt8 := [42, 180, 0, 10, 180, 0, 46, 187, 0, 60, 89, 27, 183, 1, 15, 182, 1, 17, 87, 42, 180, 0, 10]
abbrev dktX1_limpetComes_0 : List UInt8 := dkwX1_limpetComes_0 ++ dktX1_limpetComes_1
theorem dksX1_limpetComes_0 : cX1_limpetComes.data.toList.drop 0 = dktX1_limpetComes_0 := by decide +kernel
theorem dksX1_limpetComes_1 : cX1_limpetComes.data.toList.drop 23 = dktX1_limpetComes_1 := dk_seg dksX1_limpetComes_0 23 rfl rfl
theorem dX1_limpetComes_0 : decode cX1_limpetComes 0 = .ok (.aload_n 0, 1) := dk_42 (dk_at dksX1_limpetComes_0 0 rfl rfl)
theorem dX1_limpetComes_1 : decode cX1_limpetComes 1 = .ok (.getfield 10, 3) := dk_180 0 10 (dk_at dksX1_limpetComes_0 1 rfl rfl)
theorem dX1_limpetComes_4 : decode cX1_limpetComes 4 = .ok (.getfield 46, 3) := dk_180 0 46 (dk_at dksX1_limpetComes_0 4 rfl rfl)
theorem dX1_limpetComes_7 : decode cX1_limpetComes 7 = .ok (.new 60, 3) := dk_187 0 60 (dk_at dksX1_limpetComes_0 7 rfl rfl)
theorem dX1_limpetComes_10 : decode cX1_limpetComes 10 = .ok (.dup, 1) := dk_89 (dk_at dksX1_limpetComes_0 10 rfl rfl)
theorem dX1_limpetComes_11 : decode cX1_limpetComes 11 = .ok (.iload_n 1, 1) := dk_27 (dk_at dksX1_limpetComes_0 11 rfl rfl)
theorem dX1_limpetComes_12 : decode cX1_limpetComes 12 = .ok (.invokespecial 271, 3) := dk_183 1 15 (dk_at dksX1_limpetComes_0 12 rfl rfl)
theorem dX1_limpetComes_15 : decode cX1_limpetComes 15 = .ok (.invokevirtual 273, 3) := dk_182 1 17 (dk_at dksX1_limpetComes_0 15 rfl rfl)
theorem dX1_limpetComes_18 : decode cX1_limpetComes 18 = .ok (.pop, 1) := dk_87 (dk_at dksX1_limpetComes_0 18 rfl rfl)
theorem dX1_limpetComes_19 : decode cX1_limpetComes 19 = .ok (.aload_n 0, 1) := dk_42 (dk_at dksX1_limpetComes_0 19 rfl rfl)
theorem dX1_limpetComes_20 : decode cX1_limpetComes 20 = .ok (.getfield 10, 3) := dk_180 0 10 (dk_at dksX1_limpetComes_0 20 rfl rfl)
theorem dX1_limpetComes_23 : decode cX1_limpetComes 23 = .ok (.getfield 46, 3) := dk_180 0 46 (dk_at dksX1_limpetComes_1 0 rfl rfl)
theorem dX1_limpetComes_26 : decode cX1_limpetComes 26 = .ok (.invokevirtual 50, 3) := dk_182 0 50 (dk_at dksX1_limpetComes_1 3 rfl rfl)
theorem dX1_limpetComes_29 : decode cX1_limpetComes 29 = .ok (.iconst 1, 1) := dk_4 (dk_at dksX1_limpetComes_1 6 rfl rfl)
theorem dX1_limpetComes_30 : decode cX1_limpetComes 30 = .ok (.isub, 1) := dk_100 (dk_at dksX1_limpetComes_1 7 rfl rfl)
theorem dX1_limpetComes_31 : decode cX1_limpetComes 31 = .ok (.ireturn, 1) := dk_172 (dk_at dksX1_limpetComes_1 8 rfl rfl)
abbrev cX1_addCrab : ByteArray := prog_1_method_38_code
def yX1_addCrab : MethodName := ⟨RX1, "addCrab", "(II)I"⟩
def dkwX1_addCrab_1 : List UInt8 := [162, 0, 7, 4, 167, 0, 4, 3, 184, 1, 24, 42, 182, 1, 28, 42, 27, 28, 182, 1, 40, 172]
abbrev dktX1_addCrab_1 : List UInt8 := dkwX1_addCrab_1 ++ []
def dkwX1_addCrab_0 : List UInt8 := [27, 184, 1, 21, 28, 4, 16, 20, 184, 1, 36, 42, 180, 0, 10, 180, 0, 67, 182, 0, 50, 16, 15]
abbrev dktX1_addCrab_0 : List UInt8 := dkwX1_addCrab_0 ++ dktX1_addCrab_1
theorem dksX1_addCrab_0 : cX1_addCrab.data.toList.drop 0 = dktX1_addCrab_0 := by decide +kernel
theorem dksX1_addCrab_1 : cX1_addCrab.data.toList.drop 23 = dktX1_addCrab_1 := dk_seg dksX1_addCrab_0 23 rfl rfl
theorem dX1_addCrab_0 : decode cX1_addCrab 0 = .ok (.iload_n 1, 1) := dk_27 (dk_at dksX1_addCrab_0 0 rfl rfl)
theorem dX1_addCrab_1 : decode cX1_addCrab 1 = .ok (.invokestatic 277, 3) := dk_184 1 21 (dk_at dksX1_addCrab_0 1 rfl rfl)
theorem dX1_addCrab_4 : decode cX1_addCrab 4 = .ok (.iload_n 2, 1) := dk_28 (dk_at dksX1_addCrab_0 4 rfl rfl)
theorem dX1_addCrab_5 : decode cX1_addCrab 5 = .ok (.iconst 1, 1) := dk_4 (dk_at dksX1_addCrab_0 5 rfl rfl)
theorem dX1_addCrab_6 : decode cX1_addCrab 6 = .ok (.bipush 20, 2) := dk_16 20 (dk_at dksX1_addCrab_0 6 rfl rfl)
theorem dX1_addCrab_8 : decode cX1_addCrab 8 = .ok (.invokestatic 292, 3) := dk_184 1 36 (dk_at dksX1_addCrab_0 8 rfl rfl)
theorem dX1_addCrab_11 : decode cX1_addCrab 11 = .ok (.aload_n 0, 1) := dk_42 (dk_at dksX1_addCrab_0 11 rfl rfl)
theorem dX1_addCrab_12 : decode cX1_addCrab 12 = .ok (.getfield 10, 3) := dk_180 0 10 (dk_at dksX1_addCrab_0 12 rfl rfl)
theorem dX1_addCrab_15 : decode cX1_addCrab 15 = .ok (.getfield 67, 3) := dk_180 0 67 (dk_at dksX1_addCrab_0 15 rfl rfl)
theorem dX1_addCrab_18 : decode cX1_addCrab 18 = .ok (.invokevirtual 50, 3) := dk_182 0 50 (dk_at dksX1_addCrab_0 18 rfl rfl)
theorem dX1_addCrab_21 : decode cX1_addCrab 21 = .ok (.bipush 15, 2) := dk_16 15 (dk_at dksX1_addCrab_0 21 rfl rfl)
theorem dX1_addCrab_23 : decode cX1_addCrab 23 = .ok (.if_icmp .ge 7, 3) := dk_162 0 7 (dk_at dksX1_addCrab_1 0 rfl rfl)
theorem dX1_addCrab_26 : decode cX1_addCrab 26 = .ok (.iconst 1, 1) := dk_4 (dk_at dksX1_addCrab_1 3 rfl rfl)
theorem dX1_addCrab_27 : decode cX1_addCrab 27 = .ok (.goto 4, 3) := dk_167 0 4 (dk_at dksX1_addCrab_1 4 rfl rfl)
theorem dX1_addCrab_30 : decode cX1_addCrab 30 = .ok (.iconst 0, 1) := dk_3 (dk_at dksX1_addCrab_1 7 rfl rfl)
theorem dX1_addCrab_31 : decode cX1_addCrab 31 = .ok (.invokestatic 280, 3) := dk_184 1 24 (dk_at dksX1_addCrab_1 8 rfl rfl)
theorem dX1_addCrab_34 : decode cX1_addCrab 34 = .ok (.aload_n 0, 1) := dk_42 (dk_at dksX1_addCrab_1 11 rfl rfl)
theorem dX1_addCrab_35 : decode cX1_addCrab 35 = .ok (.invokevirtual 284, 3) := dk_182 1 28 (dk_at dksX1_addCrab_1 12 rfl rfl)
theorem dX1_addCrab_38 : decode cX1_addCrab 38 = .ok (.aload_n 0, 1) := dk_42 (dk_at dksX1_addCrab_1 15 rfl rfl)
theorem dX1_addCrab_39 : decode cX1_addCrab 39 = .ok (.iload_n 1, 1) := dk_27 (dk_at dksX1_addCrab_1 16 rfl rfl)
theorem dX1_addCrab_40 : decode cX1_addCrab 40 = .ok (.iload_n 2, 1) := dk_28 (dk_at dksX1_addCrab_1 17 rfl rfl)
theorem dX1_addCrab_41 : decode cX1_addCrab 41 = .ok (.invokevirtual 296, 3) := dk_182 1 40 (dk_at dksX1_addCrab_1 18 rfl rfl)
theorem dX1_addCrab_44 : decode cX1_addCrab 44 = .ok (.ireturn, 1) := dk_172 (dk_at dksX1_addCrab_1 21 rfl rfl)
abbrev cX1_checkRange : ByteArray := prog_1_method_4_code
def yX1_checkRange : MethodName := ⟨RX1, "checkRange", "(III)V"⟩
def dkwX1_checkRange_0 : List UInt8 := [26, 27, 161, 0, 8, 26, 28, 164, 0, 11, 187, 0, 40, 89, 183, 0, 42, 191, 177]
abbrev dktX1_checkRange_0 : List UInt8 := dkwX1_checkRange_0 ++ []
theorem dksX1_checkRange_0 : cX1_checkRange.data.toList.drop 0 = dktX1_checkRange_0 := by decide +kernel
theorem dX1_checkRange_0 : decode cX1_checkRange 0 = .ok (.iload_n 0, 1) := dk_26 (dk_at dksX1_checkRange_0 0 rfl rfl)
theorem dX1_checkRange_1 : decode cX1_checkRange 1 = .ok (.iload_n 1, 1) := dk_27 (dk_at dksX1_checkRange_0 1 rfl rfl)
theorem dX1_checkRange_2 : decode cX1_checkRange 2 = .ok (.if_icmp .lt 8, 3) := dk_161 0 8 (dk_at dksX1_checkRange_0 2 rfl rfl)
theorem dX1_checkRange_5 : decode cX1_checkRange 5 = .ok (.iload_n 0, 1) := dk_26 (dk_at dksX1_checkRange_0 5 rfl rfl)
theorem dX1_checkRange_6 : decode cX1_checkRange 6 = .ok (.iload_n 2, 1) := dk_28 (dk_at dksX1_checkRange_0 6 rfl rfl)
theorem dX1_checkRange_7 : decode cX1_checkRange 7 = .ok (.if_icmp .le 11, 3) := dk_164 0 11 (dk_at dksX1_checkRange_0 7 rfl rfl)
theorem dX1_checkRange_10 : decode cX1_checkRange 10 = .ok (.new 40, 3) := dk_187 0 40 (dk_at dksX1_checkRange_0 10 rfl rfl)
theorem dX1_checkRange_13 : decode cX1_checkRange 13 = .ok (.dup, 1) := dk_89 (dk_at dksX1_checkRange_0 13 rfl rfl)
theorem dX1_checkRange_14 : decode cX1_checkRange 14 = .ok (.invokespecial 42, 3) := dk_183 0 42 (dk_at dksX1_checkRange_0 14 rfl rfl)
theorem dX1_checkRange_17 : decode cX1_checkRange 17 = .ok (.athrow, 1) := dk_191 (dk_at dksX1_checkRange_0 17 rfl rfl)
theorem dX1_checkRange_18 : decode cX1_checkRange 18 = .ok (.return_, 1) := dk_177 (dk_at dksX1_checkRange_0 18 rfl rfl)
abbrev cX1_crabComes : ByteArray := prog_1_method_37_code
def yX1_crabComes : MethodName := ⟨RX1, "crabComes", "(II)I"⟩
def dkwX1_crabComes_1 : List UInt8 := [180, 0, 67, 182, 0, 50, 4, 100, 172]
abbrev dktX1_crabComes_1 : List UInt8 := dkwX1_crabComes_1 ++ []
def dkwX1_crabComes_0 : List UInt8 := [42, 180, 0, 10, 180, 0, 67, 187, 0, 70, 89, 27, 28, 183, 1, 34, 182, 1, 17, 87, 42, 180, 0, 10]
abbrev dktX1_crabComes_0 : List UInt8 := dkwX1_crabComes_0 ++ dktX1_crabComes_1
theorem dksX1_crabComes_0 : cX1_crabComes.data.toList.drop 0 = dktX1_crabComes_0 := by decide +kernel
theorem dksX1_crabComes_1 : cX1_crabComes.data.toList.drop 24 = dktX1_crabComes_1 := dk_seg dksX1_crabComes_0 24 rfl rfl
theorem dX1_crabComes_0 : decode cX1_crabComes 0 = .ok (.aload_n 0, 1) := dk_42 (dk_at dksX1_crabComes_0 0 rfl rfl)
theorem dX1_crabComes_1 : decode cX1_crabComes 1 = .ok (.getfield 10, 3) := dk_180 0 10 (dk_at dksX1_crabComes_0 1 rfl rfl)
theorem dX1_crabComes_4 : decode cX1_crabComes 4 = .ok (.getfield 67, 3) := dk_180 0 67 (dk_at dksX1_crabComes_0 4 rfl rfl)
theorem dX1_crabComes_7 : decode cX1_crabComes 7 = .ok (.new 70, 3) := dk_187 0 70 (dk_at dksX1_crabComes_0 7 rfl rfl)
theorem dX1_crabComes_10 : decode cX1_crabComes 10 = .ok (.dup, 1) := dk_89 (dk_at dksX1_crabComes_0 10 rfl rfl)
theorem dX1_crabComes_11 : decode cX1_crabComes 11 = .ok (.iload_n 1, 1) := dk_27 (dk_at dksX1_crabComes_0 11 rfl rfl)
theorem dX1_crabComes_12 : decode cX1_crabComes 12 = .ok (.iload_n 2, 1) := dk_28 (dk_at dksX1_crabComes_0 12 rfl rfl)
theorem dX1_crabComes_13 : decode cX1_crabComes 13 = .ok (.invokespecial 290, 3) := dk_183 1 34 (dk_at dksX1_crabComes_0 13 rfl rfl)
theorem dX1_crabComes_16 : decode cX1_crabComes 16 = .ok (.invokevirtual 273, 3) := dk_182 1 17 (dk_at dksX1_crabComes_0 16 rfl rfl)
theorem dX1_crabComes_19 : decode cX1_crabComes 19 = .ok (.pop, 1) := dk_87 (dk_at dksX1_crabComes_0 19 rfl rfl)
theorem dX1_crabComes_20 : decode cX1_crabComes 20 = .ok (.aload_n 0, 1) := dk_42 (dk_at dksX1_crabComes_0 20 rfl rfl)
theorem dX1_crabComes_21 : decode cX1_crabComes 21 = .ok (.getfield 10, 3) := dk_180 0 10 (dk_at dksX1_crabComes_0 21 rfl rfl)
theorem dX1_crabComes_24 : decode cX1_crabComes 24 = .ok (.getfield 67, 3) := dk_180 0 67 (dk_at dksX1_crabComes_1 0 rfl rfl)
theorem dX1_crabComes_27 : decode cX1_crabComes 27 = .ok (.invokevirtual 50, 3) := dk_182 0 50 (dk_at dksX1_crabComes_1 3 rfl rfl)
theorem dX1_crabComes_30 : decode cX1_crabComes 30 = .ok (.iconst 1, 1) := dk_4 (dk_at dksX1_crabComes_1 6 rfl rfl)
theorem dX1_crabComes_31 : decode cX1_crabComes 31 = .ok (.isub, 1) := dk_100 (dk_at dksX1_crabComes_1 7 rfl rfl)
theorem dX1_crabComes_32 : decode cX1_crabComes 32 = .ok (.ireturn, 1) := dk_172 (dk_at dksX1_crabComes_1 8 rfl rfl)
abbrev cX1_addShell : ByteArray := prog_1_method_40_code
def yX1_addShell : MethodName := ⟨RX1, "addShell", "(II)I"⟩
def dkwX1_addShell_1 : List UInt8 := [162, 0, 7, 4, 167, 0, 4, 3, 184, 1, 24, 42, 182, 1, 28, 42, 27, 28, 182, 1, 44, 172]
abbrev dktX1_addShell_1 : List UInt8 := dkwX1_addShell_1 ++ []
def dkwX1_addShell_0 : List UInt8 := [27, 184, 1, 21, 28, 4, 16, 20, 184, 1, 36, 42, 180, 0, 10, 180, 0, 62, 182, 0, 50, 16, 25]
abbrev dktX1_addShell_0 : List UInt8 := dkwX1_addShell_0 ++ dktX1_addShell_1
theorem dksX1_addShell_0 : cX1_addShell.data.toList.drop 0 = dktX1_addShell_0 := by decide +kernel
theorem dksX1_addShell_1 : cX1_addShell.data.toList.drop 23 = dktX1_addShell_1 := dk_seg dksX1_addShell_0 23 rfl rfl
theorem dX1_addShell_0 : decode cX1_addShell 0 = .ok (.iload_n 1, 1) := dk_27 (dk_at dksX1_addShell_0 0 rfl rfl)
theorem dX1_addShell_1 : decode cX1_addShell 1 = .ok (.invokestatic 277, 3) := dk_184 1 21 (dk_at dksX1_addShell_0 1 rfl rfl)
theorem dX1_addShell_4 : decode cX1_addShell 4 = .ok (.iload_n 2, 1) := dk_28 (dk_at dksX1_addShell_0 4 rfl rfl)
theorem dX1_addShell_5 : decode cX1_addShell 5 = .ok (.iconst 1, 1) := dk_4 (dk_at dksX1_addShell_0 5 rfl rfl)
theorem dX1_addShell_6 : decode cX1_addShell 6 = .ok (.bipush 20, 2) := dk_16 20 (dk_at dksX1_addShell_0 6 rfl rfl)
theorem dX1_addShell_8 : decode cX1_addShell 8 = .ok (.invokestatic 292, 3) := dk_184 1 36 (dk_at dksX1_addShell_0 8 rfl rfl)
theorem dX1_addShell_11 : decode cX1_addShell 11 = .ok (.aload_n 0, 1) := dk_42 (dk_at dksX1_addShell_0 11 rfl rfl)
theorem dX1_addShell_12 : decode cX1_addShell 12 = .ok (.getfield 10, 3) := dk_180 0 10 (dk_at dksX1_addShell_0 12 rfl rfl)
theorem dX1_addShell_15 : decode cX1_addShell 15 = .ok (.getfield 62, 3) := dk_180 0 62 (dk_at dksX1_addShell_0 15 rfl rfl)
theorem dX1_addShell_18 : decode cX1_addShell 18 = .ok (.invokevirtual 50, 3) := dk_182 0 50 (dk_at dksX1_addShell_0 18 rfl rfl)
theorem dX1_addShell_21 : decode cX1_addShell 21 = .ok (.bipush 25, 2) := dk_16 25 (dk_at dksX1_addShell_0 21 rfl rfl)
theorem dX1_addShell_23 : decode cX1_addShell 23 = .ok (.if_icmp .ge 7, 3) := dk_162 0 7 (dk_at dksX1_addShell_1 0 rfl rfl)
theorem dX1_addShell_26 : decode cX1_addShell 26 = .ok (.iconst 1, 1) := dk_4 (dk_at dksX1_addShell_1 3 rfl rfl)
theorem dX1_addShell_27 : decode cX1_addShell 27 = .ok (.goto 4, 3) := dk_167 0 4 (dk_at dksX1_addShell_1 4 rfl rfl)
theorem dX1_addShell_30 : decode cX1_addShell 30 = .ok (.iconst 0, 1) := dk_3 (dk_at dksX1_addShell_1 7 rfl rfl)
theorem dX1_addShell_31 : decode cX1_addShell 31 = .ok (.invokestatic 280, 3) := dk_184 1 24 (dk_at dksX1_addShell_1 8 rfl rfl)
theorem dX1_addShell_34 : decode cX1_addShell 34 = .ok (.aload_n 0, 1) := dk_42 (dk_at dksX1_addShell_1 11 rfl rfl)
theorem dX1_addShell_35 : decode cX1_addShell 35 = .ok (.invokevirtual 284, 3) := dk_182 1 28 (dk_at dksX1_addShell_1 12 rfl rfl)
theorem dX1_addShell_38 : decode cX1_addShell 38 = .ok (.aload_n 0, 1) := dk_42 (dk_at dksX1_addShell_1 15 rfl rfl)
theorem dX1_addShell_39 : decode cX1_addShell 39 = .ok (.iload_n 1, 1) := dk_27 (dk_at dksX1_addShell_1 16 rfl rfl)
theorem dX1_addShell_40 : decode cX1_addShell 40 = .ok (.iload_n 2, 1) := dk_28 (dk_at dksX1_addShell_1 17 rfl rfl)
theorem dX1_addShell_41 : decode cX1_addShell 41 = .ok (.invokevirtual 300, 3) := dk_182 1 44 (dk_at dksX1_addShell_1 18 rfl rfl)
theorem dX1_addShell_44 : decode cX1_addShell 44 = .ok (.ireturn, 1) := dk_172 (dk_at dksX1_addShell_1 21 rfl rfl)
abbrev cX1_shellComes : ByteArray := prog_1_method_39_code
def yX1_shellComes : MethodName := ⟨RX1, "shellComes", "(II)I"⟩
def dkwX1_shellComes_1 : List UInt8 := [180, 0, 62, 182, 0, 50, 4, 100, 172]
abbrev dktX1_shellComes_1 : List UInt8 := dkwX1_shellComes_1 ++ []
def dkwX1_shellComes_0 : List UInt8 := [42, 180, 0, 10, 180, 0, 62, 187, 0, 65, 89, 27, 28, 183, 1, 43, 182, 1, 17, 87, 42, 180, 0, 10]
abbrev dktX1_shellComes_0 : List UInt8 := dkwX1_shellComes_0 ++ dktX1_shellComes_1
theorem dksX1_shellComes_0 : cX1_shellComes.data.toList.drop 0 = dktX1_shellComes_0 := by decide +kernel
theorem dksX1_shellComes_1 : cX1_shellComes.data.toList.drop 24 = dktX1_shellComes_1 := dk_seg dksX1_shellComes_0 24 rfl rfl
theorem dX1_shellComes_0 : decode cX1_shellComes 0 = .ok (.aload_n 0, 1) := dk_42 (dk_at dksX1_shellComes_0 0 rfl rfl)
theorem dX1_shellComes_1 : decode cX1_shellComes 1 = .ok (.getfield 10, 3) := dk_180 0 10 (dk_at dksX1_shellComes_0 1 rfl rfl)
theorem dX1_shellComes_4 : decode cX1_shellComes 4 = .ok (.getfield 62, 3) := dk_180 0 62 (dk_at dksX1_shellComes_0 4 rfl rfl)
theorem dX1_shellComes_7 : decode cX1_shellComes 7 = .ok (.new 65, 3) := dk_187 0 65 (dk_at dksX1_shellComes_0 7 rfl rfl)
theorem dX1_shellComes_10 : decode cX1_shellComes 10 = .ok (.dup, 1) := dk_89 (dk_at dksX1_shellComes_0 10 rfl rfl)
theorem dX1_shellComes_11 : decode cX1_shellComes 11 = .ok (.iload_n 1, 1) := dk_27 (dk_at dksX1_shellComes_0 11 rfl rfl)
theorem dX1_shellComes_12 : decode cX1_shellComes 12 = .ok (.iload_n 2, 1) := dk_28 (dk_at dksX1_shellComes_0 12 rfl rfl)
theorem dX1_shellComes_13 : decode cX1_shellComes 13 = .ok (.invokespecial 299, 3) := dk_183 1 43 (dk_at dksX1_shellComes_0 13 rfl rfl)
theorem dX1_shellComes_16 : decode cX1_shellComes 16 = .ok (.invokevirtual 273, 3) := dk_182 1 17 (dk_at dksX1_shellComes_0 16 rfl rfl)
theorem dX1_shellComes_19 : decode cX1_shellComes 19 = .ok (.pop, 1) := dk_87 (dk_at dksX1_shellComes_0 19 rfl rfl)
theorem dX1_shellComes_20 : decode cX1_shellComes 20 = .ok (.aload_n 0, 1) := dk_42 (dk_at dksX1_shellComes_0 20 rfl rfl)
theorem dX1_shellComes_21 : decode cX1_shellComes 21 = .ok (.getfield 10, 3) := dk_180 0 10 (dk_at dksX1_shellComes_0 21 rfl rfl)
theorem dX1_shellComes_24 : decode cX1_shellComes 24 = .ok (.getfield 62, 3) := dk_180 0 62 (dk_at dksX1_shellComes_1 0 rfl rfl)
theorem dX1_shellComes_27 : decode cX1_shellComes 27 = .ok (.invokevirtual 50, 3) := dk_182 0 50 (dk_at dksX1_shellComes_1 3 rfl rfl)
theorem dX1_shellComes_30 : decode cX1_shellComes 30 = .ok (.iconst 1, 1) := dk_4 (dk_at dksX1_shellComes_1 6 rfl rfl)
theorem dX1_shellComes_31 : decode cX1_shellComes 31 = .ok (.isub, 1) := dk_100 (dk_at dksX1_shellComes_1 7 rfl rfl)
theorem dX1_shellComes_32 : decode cX1_shellComes 32 = .ok (.ireturn, 1) := dk_172 (dk_at dksX1_shellComes_1 8 rfl rfl)
abbrev cX1_carryShell : ByteArray := prog_1_method_41_code
def yX1_carryShell : MethodName := ⟨RX1, "carryShell", "(II)I"⟩
def dkwX1_carryShell_1 : List UInt8 := [184, 1, 24, 42, 182, 1, 28, 45, 180, 0, 140, 54, 4, 45, 28, 181, 0, 140, 21, 4, 172]
abbrev dktX1_carryShell_1 : List UInt8 := dkwX1_carryShell_1 ++ []
def dkwX1_carryShell_0 : List UInt8 := [42, 27, 182, 1, 47, 78, 28, 184, 1, 21, 45, 180, 0, 134, 2, 160, 0, 7, 4, 167, 0, 4, 3]
abbrev dktX1_carryShell_0 : List UInt8 := dkwX1_carryShell_0 ++ dktX1_carryShell_1
theorem dksX1_carryShell_0 : cX1_carryShell.data.toList.drop 0 = dktX1_carryShell_0 := by decide +kernel
theorem dksX1_carryShell_1 : cX1_carryShell.data.toList.drop 23 = dktX1_carryShell_1 := dk_seg dksX1_carryShell_0 23 rfl rfl
theorem dX1_carryShell_0 : decode cX1_carryShell 0 = .ok (.aload_n 0, 1) := dk_42 (dk_at dksX1_carryShell_0 0 rfl rfl)
theorem dX1_carryShell_1 : decode cX1_carryShell 1 = .ok (.iload_n 1, 1) := dk_27 (dk_at dksX1_carryShell_0 1 rfl rfl)
theorem dX1_carryShell_2 : decode cX1_carryShell 2 = .ok (.invokevirtual 303, 3) := dk_182 1 47 (dk_at dksX1_carryShell_0 2 rfl rfl)
theorem dX1_carryShell_5 : decode cX1_carryShell 5 = .ok (.astore_n 3, 1) := dk_78 (dk_at dksX1_carryShell_0 5 rfl rfl)
theorem dX1_carryShell_6 : decode cX1_carryShell 6 = .ok (.iload_n 2, 1) := dk_28 (dk_at dksX1_carryShell_0 6 rfl rfl)
theorem dX1_carryShell_7 : decode cX1_carryShell 7 = .ok (.invokestatic 277, 3) := dk_184 1 21 (dk_at dksX1_carryShell_0 7 rfl rfl)
theorem dX1_carryShell_10 : decode cX1_carryShell 10 = .ok (.aload_n 3, 1) := dk_45 (dk_at dksX1_carryShell_0 10 rfl rfl)
theorem dX1_carryShell_11 : decode cX1_carryShell 11 = .ok (.getfield 134, 3) := dk_180 0 134 (dk_at dksX1_carryShell_0 11 rfl rfl)
theorem dX1_carryShell_14 : decode cX1_carryShell 14 = .ok (.iconst (-1), 1) := dk_2 (dk_at dksX1_carryShell_0 14 rfl rfl)
theorem dX1_carryShell_15 : decode cX1_carryShell 15 = .ok (.if_icmp .ne 7, 3) := dk_160 0 7 (dk_at dksX1_carryShell_0 15 rfl rfl)
theorem dX1_carryShell_18 : decode cX1_carryShell 18 = .ok (.iconst 1, 1) := dk_4 (dk_at dksX1_carryShell_0 18 rfl rfl)
theorem dX1_carryShell_19 : decode cX1_carryShell 19 = .ok (.goto 4, 3) := dk_167 0 4 (dk_at dksX1_carryShell_0 19 rfl rfl)
theorem dX1_carryShell_22 : decode cX1_carryShell 22 = .ok (.iconst 0, 1) := dk_3 (dk_at dksX1_carryShell_0 22 rfl rfl)
theorem dX1_carryShell_23 : decode cX1_carryShell 23 = .ok (.invokestatic 280, 3) := dk_184 1 24 (dk_at dksX1_carryShell_1 0 rfl rfl)
theorem dX1_carryShell_26 : decode cX1_carryShell 26 = .ok (.aload_n 0, 1) := dk_42 (dk_at dksX1_carryShell_1 3 rfl rfl)
theorem dX1_carryShell_27 : decode cX1_carryShell 27 = .ok (.invokevirtual 284, 3) := dk_182 1 28 (dk_at dksX1_carryShell_1 4 rfl rfl)
theorem dX1_carryShell_30 : decode cX1_carryShell 30 = .ok (.aload_n 3, 1) := dk_45 (dk_at dksX1_carryShell_1 7 rfl rfl)
theorem dX1_carryShell_31 : decode cX1_carryShell 31 = .ok (.getfield 140, 3) := dk_180 0 140 (dk_at dksX1_carryShell_1 8 rfl rfl)
theorem dX1_carryShell_34 : decode cX1_carryShell 34 = .ok (.istore 4, 2) := dk_54 4 (dk_at dksX1_carryShell_1 11 rfl rfl)
theorem dX1_carryShell_36 : decode cX1_carryShell 36 = .ok (.aload_n 3, 1) := dk_45 (dk_at dksX1_carryShell_1 13 rfl rfl)
theorem dX1_carryShell_37 : decode cX1_carryShell 37 = .ok (.iload_n 2, 1) := dk_28 (dk_at dksX1_carryShell_1 14 rfl rfl)
theorem dX1_carryShell_38 : decode cX1_carryShell 38 = .ok (.putfield 140, 3) := dk_181 0 140 (dk_at dksX1_carryShell_1 15 rfl rfl)
theorem dX1_carryShell_41 : decode cX1_carryShell 41 = .ok (.iload 4, 2) := dk_21 4 (dk_at dksX1_carryShell_1 18 rfl rfl)
theorem dX1_carryShell_43 : decode cX1_carryShell 43 = .ok (.ireturn, 1) := dk_172 (dk_at dksX1_carryShell_1 20 rfl rfl)
abbrev cX1_shell : ByteArray := prog_1_method_7_code
def yX1_shell : MethodName := ⟨RX1, "shell", "(I)LShorePools$Shell;"⟩
def dkwX1_shell_1 : List UInt8 := [182, 0, 56, 192, 0, 65, 176]
abbrev dktX1_shell_1 : List UInt8 := dkwX1_shell_1 ++ []
def dkwX1_shell_0 : List UInt8 := [27, 42, 180, 0, 10, 180, 0, 62, 182, 0, 50, 184, 0, 36, 42, 180, 0, 10, 180, 0, 62, 27]
abbrev dktX1_shell_0 : List UInt8 := dkwX1_shell_0 ++ dktX1_shell_1
theorem dksX1_shell_0 : cX1_shell.data.toList.drop 0 = dktX1_shell_0 := by decide +kernel
theorem dksX1_shell_1 : cX1_shell.data.toList.drop 22 = dktX1_shell_1 := dk_seg dksX1_shell_0 22 rfl rfl
theorem dX1_shell_0 : decode cX1_shell 0 = .ok (.iload_n 1, 1) := dk_27 (dk_at dksX1_shell_0 0 rfl rfl)
theorem dX1_shell_1 : decode cX1_shell 1 = .ok (.aload_n 0, 1) := dk_42 (dk_at dksX1_shell_0 1 rfl rfl)
theorem dX1_shell_2 : decode cX1_shell 2 = .ok (.getfield 10, 3) := dk_180 0 10 (dk_at dksX1_shell_0 2 rfl rfl)
theorem dX1_shell_5 : decode cX1_shell 5 = .ok (.getfield 62, 3) := dk_180 0 62 (dk_at dksX1_shell_0 5 rfl rfl)
theorem dX1_shell_8 : decode cX1_shell 8 = .ok (.invokevirtual 50, 3) := dk_182 0 50 (dk_at dksX1_shell_0 8 rfl rfl)
theorem dX1_shell_11 : decode cX1_shell 11 = .ok (.invokestatic 36, 3) := dk_184 0 36 (dk_at dksX1_shell_0 11 rfl rfl)
theorem dX1_shell_14 : decode cX1_shell 14 = .ok (.aload_n 0, 1) := dk_42 (dk_at dksX1_shell_0 14 rfl rfl)
theorem dX1_shell_15 : decode cX1_shell 15 = .ok (.getfield 10, 3) := dk_180 0 10 (dk_at dksX1_shell_0 15 rfl rfl)
theorem dX1_shell_18 : decode cX1_shell 18 = .ok (.getfield 62, 3) := dk_180 0 62 (dk_at dksX1_shell_0 18 rfl rfl)
theorem dX1_shell_21 : decode cX1_shell 21 = .ok (.iload_n 1, 1) := dk_27 (dk_at dksX1_shell_0 21 rfl rfl)
theorem dX1_shell_22 : decode cX1_shell 22 = .ok (.invokevirtual 56, 3) := dk_182 0 56 (dk_at dksX1_shell_1 0 rfl rfl)
theorem dX1_shell_25 : decode cX1_shell 25 = .ok (.checkcast 65, 3) := dk_192 0 65 (dk_at dksX1_shell_1 3 rfl rfl)
theorem dX1_shell_28 : decode cX1_shell 28 = .ok (.areturn, 1) := dk_176 (dk_at dksX1_shell_1 6 rfl rfl)
abbrev cX1_setHeight : ByteArray := prog_1_method_42_code
def yX1_setHeight : MethodName := ⟨RX1, "setHeight", "(II)I"⟩
def dkwX1_setHeight_1 : List UInt8 := [62, 42, 180, 0, 10, 180, 0, 103, 27, 28, 79, 29, 172]
abbrev dktX1_setHeight_1 : List UInt8 := dkwX1_setHeight_1 ++ []
def dkwX1_setHeight_0 : List UInt8 := [27, 184, 1, 21, 28, 3, 16, 60, 184, 1, 36, 42, 182, 1, 28, 42, 180, 0, 10, 180, 0, 103, 27, 46]
abbrev dktX1_setHeight_0 : List UInt8 := dkwX1_setHeight_0 ++ dktX1_setHeight_1
theorem dksX1_setHeight_0 : cX1_setHeight.data.toList.drop 0 = dktX1_setHeight_0 := by decide +kernel
theorem dksX1_setHeight_1 : cX1_setHeight.data.toList.drop 24 = dktX1_setHeight_1 := dk_seg dksX1_setHeight_0 24 rfl rfl
theorem dX1_setHeight_0 : decode cX1_setHeight 0 = .ok (.iload_n 1, 1) := dk_27 (dk_at dksX1_setHeight_0 0 rfl rfl)
theorem dX1_setHeight_1 : decode cX1_setHeight 1 = .ok (.invokestatic 277, 3) := dk_184 1 21 (dk_at dksX1_setHeight_0 1 rfl rfl)
theorem dX1_setHeight_4 : decode cX1_setHeight 4 = .ok (.iload_n 2, 1) := dk_28 (dk_at dksX1_setHeight_0 4 rfl rfl)
theorem dX1_setHeight_5 : decode cX1_setHeight 5 = .ok (.iconst 0, 1) := dk_3 (dk_at dksX1_setHeight_0 5 rfl rfl)
theorem dX1_setHeight_6 : decode cX1_setHeight 6 = .ok (.bipush 60, 2) := dk_16 60 (dk_at dksX1_setHeight_0 6 rfl rfl)
theorem dX1_setHeight_8 : decode cX1_setHeight 8 = .ok (.invokestatic 292, 3) := dk_184 1 36 (dk_at dksX1_setHeight_0 8 rfl rfl)
theorem dX1_setHeight_11 : decode cX1_setHeight 11 = .ok (.aload_n 0, 1) := dk_42 (dk_at dksX1_setHeight_0 11 rfl rfl)
theorem dX1_setHeight_12 : decode cX1_setHeight 12 = .ok (.invokevirtual 284, 3) := dk_182 1 28 (dk_at dksX1_setHeight_0 12 rfl rfl)
theorem dX1_setHeight_15 : decode cX1_setHeight 15 = .ok (.aload_n 0, 1) := dk_42 (dk_at dksX1_setHeight_0 15 rfl rfl)
theorem dX1_setHeight_16 : decode cX1_setHeight 16 = .ok (.getfield 10, 3) := dk_180 0 10 (dk_at dksX1_setHeight_0 16 rfl rfl)
theorem dX1_setHeight_19 : decode cX1_setHeight 19 = .ok (.getfield 103, 3) := dk_180 0 103 (dk_at dksX1_setHeight_0 19 rfl rfl)
theorem dX1_setHeight_22 : decode cX1_setHeight 22 = .ok (.iload_n 1, 1) := dk_27 (dk_at dksX1_setHeight_0 22 rfl rfl)
theorem dX1_setHeight_23 : decode cX1_setHeight 23 = .ok (.iaload, 1) := dk_46 (dk_at dksX1_setHeight_0 23 rfl rfl)
theorem dX1_setHeight_24 : decode cX1_setHeight 24 = .ok (.istore_n 3, 1) := dk_62 (dk_at dksX1_setHeight_1 0 rfl rfl)
theorem dX1_setHeight_25 : decode cX1_setHeight 25 = .ok (.aload_n 0, 1) := dk_42 (dk_at dksX1_setHeight_1 1 rfl rfl)
theorem dX1_setHeight_26 : decode cX1_setHeight 26 = .ok (.getfield 10, 3) := dk_180 0 10 (dk_at dksX1_setHeight_1 2 rfl rfl)
theorem dX1_setHeight_29 : decode cX1_setHeight 29 = .ok (.getfield 103, 3) := dk_180 0 103 (dk_at dksX1_setHeight_1 5 rfl rfl)
theorem dX1_setHeight_32 : decode cX1_setHeight 32 = .ok (.iload_n 1, 1) := dk_27 (dk_at dksX1_setHeight_1 8 rfl rfl)
theorem dX1_setHeight_33 : decode cX1_setHeight 33 = .ok (.iload_n 2, 1) := dk_28 (dk_at dksX1_setHeight_1 9 rfl rfl)
theorem dX1_setHeight_34 : decode cX1_setHeight 34 = .ok (.iastore, 1) := dk_79 (dk_at dksX1_setHeight_1 10 rfl rfl)
theorem dX1_setHeight_35 : decode cX1_setHeight 35 = .ok (.iload_n 3, 1) := dk_29 (dk_at dksX1_setHeight_1 11 rfl rfl)
theorem dX1_setHeight_36 : decode cX1_setHeight 36 = .ok (.ireturn, 1) := dk_172 (dk_at dksX1_setHeight_1 12 rfl rfl)
abbrev cX1_setTide : ByteArray := prog_1_method_43_code
def yX1_setTide : MethodName := ⟨RX1, "setTide", "(II)I"⟩
def dkwX1_setTide_2 : List UInt8 := [182, 0, 100, 172]
abbrev dktX1_setTide_2 : List UInt8 := dkwX1_setTide_2 ++ []
def dkwX1_setTide_1 : List UInt8 := [181, 0, 89, 42, 180, 0, 10, 28, 181, 0, 93, 42, 42, 180, 0, 10, 180, 0, 106, 184, 0, 96]
abbrev dktX1_setTide_1 : List UInt8 := dkwX1_setTide_1 ++ dktX1_setTide_2
def dkwX1_setTide_0 : List UInt8 := [27, 3, 16, 30, 184, 1, 36, 28, 16, 31, 16, 60, 184, 1, 36, 42, 182, 1, 28, 42, 180, 0, 10, 27]
abbrev dktX1_setTide_0 : List UInt8 := dkwX1_setTide_0 ++ dktX1_setTide_1
theorem dksX1_setTide_0 : cX1_setTide.data.toList.drop 0 = dktX1_setTide_0 := by decide +kernel
theorem dksX1_setTide_1 : cX1_setTide.data.toList.drop 24 = dktX1_setTide_1 := dk_seg dksX1_setTide_0 24 rfl rfl
theorem dksX1_setTide_2 : cX1_setTide.data.toList.drop 46 = dktX1_setTide_2 := dk_seg dksX1_setTide_1 22 rfl rfl
theorem dX1_setTide_0 : decode cX1_setTide 0 = .ok (.iload_n 1, 1) := dk_27 (dk_at dksX1_setTide_0 0 rfl rfl)
theorem dX1_setTide_1 : decode cX1_setTide 1 = .ok (.iconst 0, 1) := dk_3 (dk_at dksX1_setTide_0 1 rfl rfl)
theorem dX1_setTide_2 : decode cX1_setTide 2 = .ok (.bipush 30, 2) := dk_16 30 (dk_at dksX1_setTide_0 2 rfl rfl)
theorem dX1_setTide_4 : decode cX1_setTide 4 = .ok (.invokestatic 292, 3) := dk_184 1 36 (dk_at dksX1_setTide_0 4 rfl rfl)
theorem dX1_setTide_7 : decode cX1_setTide 7 = .ok (.iload_n 2, 1) := dk_28 (dk_at dksX1_setTide_0 7 rfl rfl)
theorem dX1_setTide_8 : decode cX1_setTide 8 = .ok (.bipush 31, 2) := dk_16 31 (dk_at dksX1_setTide_0 8 rfl rfl)
theorem dX1_setTide_10 : decode cX1_setTide 10 = .ok (.bipush 60, 2) := dk_16 60 (dk_at dksX1_setTide_0 10 rfl rfl)
theorem dX1_setTide_12 : decode cX1_setTide 12 = .ok (.invokestatic 292, 3) := dk_184 1 36 (dk_at dksX1_setTide_0 12 rfl rfl)
theorem dX1_setTide_15 : decode cX1_setTide 15 = .ok (.aload_n 0, 1) := dk_42 (dk_at dksX1_setTide_0 15 rfl rfl)
theorem dX1_setTide_16 : decode cX1_setTide 16 = .ok (.invokevirtual 284, 3) := dk_182 1 28 (dk_at dksX1_setTide_0 16 rfl rfl)
theorem dX1_setTide_19 : decode cX1_setTide 19 = .ok (.aload_n 0, 1) := dk_42 (dk_at dksX1_setTide_0 19 rfl rfl)
theorem dX1_setTide_20 : decode cX1_setTide 20 = .ok (.getfield 10, 3) := dk_180 0 10 (dk_at dksX1_setTide_0 20 rfl rfl)
theorem dX1_setTide_23 : decode cX1_setTide 23 = .ok (.iload_n 1, 1) := dk_27 (dk_at dksX1_setTide_0 23 rfl rfl)
theorem dX1_setTide_24 : decode cX1_setTide 24 = .ok (.putfield 89, 3) := dk_181 0 89 (dk_at dksX1_setTide_1 0 rfl rfl)
theorem dX1_setTide_27 : decode cX1_setTide 27 = .ok (.aload_n 0, 1) := dk_42 (dk_at dksX1_setTide_1 3 rfl rfl)
theorem dX1_setTide_28 : decode cX1_setTide 28 = .ok (.getfield 10, 3) := dk_180 0 10 (dk_at dksX1_setTide_1 4 rfl rfl)
theorem dX1_setTide_31 : decode cX1_setTide 31 = .ok (.iload_n 2, 1) := dk_28 (dk_at dksX1_setTide_1 7 rfl rfl)
theorem dX1_setTide_32 : decode cX1_setTide 32 = .ok (.putfield 93, 3) := dk_181 0 93 (dk_at dksX1_setTide_1 8 rfl rfl)
theorem dX1_setTide_35 : decode cX1_setTide 35 = .ok (.aload_n 0, 1) := dk_42 (dk_at dksX1_setTide_1 11 rfl rfl)
theorem dX1_setTide_36 : decode cX1_setTide 36 = .ok (.aload_n 0, 1) := dk_42 (dk_at dksX1_setTide_1 12 rfl rfl)
theorem dX1_setTide_37 : decode cX1_setTide 37 = .ok (.getfield 10, 3) := dk_180 0 10 (dk_at dksX1_setTide_1 13 rfl rfl)
theorem dX1_setTide_40 : decode cX1_setTide 40 = .ok (.getfield 106, 3) := dk_180 0 106 (dk_at dksX1_setTide_1 16 rfl rfl)
theorem dX1_setTide_43 : decode cX1_setTide 43 = .ok (.invokestatic 96, 3) := dk_184 0 96 (dk_at dksX1_setTide_1 19 rfl rfl)
theorem dX1_setTide_46 : decode cX1_setTide 46 = .ok (.invokevirtual 100, 3) := dk_182 0 100 (dk_at dksX1_setTide_2 0 rfl rfl)
theorem dX1_setTide_49 : decode cX1_setTide 49 = .ok (.ireturn, 1) := dk_172 (dk_at dksX1_setTide_2 3 rfl rfl)
abbrev cX1_setHeat : ByteArray := prog_1_method_44_code
def yX1_setHeat : MethodName := ⟨RX1, "setHeat", "(I)I"⟩
def dkwX1_setHeat_1 : List UInt8 := [181, 0, 180, 28, 172]
abbrev dktX1_setHeat_1 : List UInt8 := dkwX1_setHeat_1 ++ []
def dkwX1_setHeat_0 : List UInt8 := [27, 3, 7, 184, 1, 36, 42, 182, 1, 28, 42, 180, 0, 10, 180, 0, 180, 61, 42, 180, 0, 10, 27]
abbrev dktX1_setHeat_0 : List UInt8 := dkwX1_setHeat_0 ++ dktX1_setHeat_1
theorem dksX1_setHeat_0 : cX1_setHeat.data.toList.drop 0 = dktX1_setHeat_0 := by decide +kernel
theorem dksX1_setHeat_1 : cX1_setHeat.data.toList.drop 23 = dktX1_setHeat_1 := dk_seg dksX1_setHeat_0 23 rfl rfl
theorem dX1_setHeat_0 : decode cX1_setHeat 0 = .ok (.iload_n 1, 1) := dk_27 (dk_at dksX1_setHeat_0 0 rfl rfl)
theorem dX1_setHeat_1 : decode cX1_setHeat 1 = .ok (.iconst 0, 1) := dk_3 (dk_at dksX1_setHeat_0 1 rfl rfl)
theorem dX1_setHeat_2 : decode cX1_setHeat 2 = .ok (.iconst 4, 1) := dk_7 (dk_at dksX1_setHeat_0 2 rfl rfl)
theorem dX1_setHeat_3 : decode cX1_setHeat 3 = .ok (.invokestatic 292, 3) := dk_184 1 36 (dk_at dksX1_setHeat_0 3 rfl rfl)
theorem dX1_setHeat_6 : decode cX1_setHeat 6 = .ok (.aload_n 0, 1) := dk_42 (dk_at dksX1_setHeat_0 6 rfl rfl)
theorem dX1_setHeat_7 : decode cX1_setHeat 7 = .ok (.invokevirtual 284, 3) := dk_182 1 28 (dk_at dksX1_setHeat_0 7 rfl rfl)
theorem dX1_setHeat_10 : decode cX1_setHeat 10 = .ok (.aload_n 0, 1) := dk_42 (dk_at dksX1_setHeat_0 10 rfl rfl)
theorem dX1_setHeat_11 : decode cX1_setHeat 11 = .ok (.getfield 10, 3) := dk_180 0 10 (dk_at dksX1_setHeat_0 11 rfl rfl)
theorem dX1_setHeat_14 : decode cX1_setHeat 14 = .ok (.getfield 180, 3) := dk_180 0 180 (dk_at dksX1_setHeat_0 14 rfl rfl)
theorem dX1_setHeat_17 : decode cX1_setHeat 17 = .ok (.istore_n 2, 1) := dk_61 (dk_at dksX1_setHeat_0 17 rfl rfl)
theorem dX1_setHeat_18 : decode cX1_setHeat 18 = .ok (.aload_n 0, 1) := dk_42 (dk_at dksX1_setHeat_0 18 rfl rfl)
theorem dX1_setHeat_19 : decode cX1_setHeat 19 = .ok (.getfield 10, 3) := dk_180 0 10 (dk_at dksX1_setHeat_0 19 rfl rfl)
theorem dX1_setHeat_22 : decode cX1_setHeat 22 = .ok (.iload_n 1, 1) := dk_27 (dk_at dksX1_setHeat_0 22 rfl rfl)
theorem dX1_setHeat_23 : decode cX1_setHeat 23 = .ok (.putfield 180, 3) := dk_181 0 180 (dk_at dksX1_setHeat_1 0 rfl rfl)
theorem dX1_setHeat_26 : decode cX1_setHeat 26 = .ok (.iload_n 2, 1) := dk_28 (dk_at dksX1_setHeat_1 3 rfl rfl)
theorem dX1_setHeat_27 : decode cX1_setHeat 27 = .ok (.ireturn, 1) := dk_172 (dk_at dksX1_setHeat_1 4 rfl rfl)
abbrev cX1_setPause : ByteArray := prog_1_method_45_code
def yX1_setPause : MethodName := ⟨RX1, "setPause", "(I)I"⟩
def dkwX1_setPause_1 : List UInt8 := [181, 1, 3, 28, 172]
abbrev dktX1_setPause_1 : List UInt8 := dkwX1_setPause_1 ++ []
def dkwX1_setPause_0 : List UInt8 := [27, 4, 16, 12, 184, 1, 36, 42, 182, 1, 28, 42, 180, 0, 10, 180, 1, 3, 61, 42, 180, 0, 10, 27]
abbrev dktX1_setPause_0 : List UInt8 := dkwX1_setPause_0 ++ dktX1_setPause_1
theorem dksX1_setPause_0 : cX1_setPause.data.toList.drop 0 = dktX1_setPause_0 := by decide +kernel
theorem dksX1_setPause_1 : cX1_setPause.data.toList.drop 24 = dktX1_setPause_1 := dk_seg dksX1_setPause_0 24 rfl rfl
theorem dX1_setPause_0 : decode cX1_setPause 0 = .ok (.iload_n 1, 1) := dk_27 (dk_at dksX1_setPause_0 0 rfl rfl)
theorem dX1_setPause_1 : decode cX1_setPause 1 = .ok (.iconst 1, 1) := dk_4 (dk_at dksX1_setPause_0 1 rfl rfl)
theorem dX1_setPause_2 : decode cX1_setPause 2 = .ok (.bipush 12, 2) := dk_16 12 (dk_at dksX1_setPause_0 2 rfl rfl)
theorem dX1_setPause_4 : decode cX1_setPause 4 = .ok (.invokestatic 292, 3) := dk_184 1 36 (dk_at dksX1_setPause_0 4 rfl rfl)
theorem dX1_setPause_7 : decode cX1_setPause 7 = .ok (.aload_n 0, 1) := dk_42 (dk_at dksX1_setPause_0 7 rfl rfl)
theorem dX1_setPause_8 : decode cX1_setPause 8 = .ok (.invokevirtual 284, 3) := dk_182 1 28 (dk_at dksX1_setPause_0 8 rfl rfl)
theorem dX1_setPause_11 : decode cX1_setPause 11 = .ok (.aload_n 0, 1) := dk_42 (dk_at dksX1_setPause_0 11 rfl rfl)
theorem dX1_setPause_12 : decode cX1_setPause 12 = .ok (.getfield 10, 3) := dk_180 0 10 (dk_at dksX1_setPause_0 12 rfl rfl)
theorem dX1_setPause_15 : decode cX1_setPause 15 = .ok (.getfield 259, 3) := dk_180 1 3 (dk_at dksX1_setPause_0 15 rfl rfl)
theorem dX1_setPause_18 : decode cX1_setPause 18 = .ok (.istore_n 2, 1) := dk_61 (dk_at dksX1_setPause_0 18 rfl rfl)
theorem dX1_setPause_19 : decode cX1_setPause 19 = .ok (.aload_n 0, 1) := dk_42 (dk_at dksX1_setPause_0 19 rfl rfl)
theorem dX1_setPause_20 : decode cX1_setPause 20 = .ok (.getfield 10, 3) := dk_180 0 10 (dk_at dksX1_setPause_0 20 rfl rfl)
theorem dX1_setPause_23 : decode cX1_setPause 23 = .ok (.iload_n 1, 1) := dk_27 (dk_at dksX1_setPause_0 23 rfl rfl)
theorem dX1_setPause_24 : decode cX1_setPause 24 = .ok (.putfield 259, 3) := dk_181 1 3 (dk_at dksX1_setPause_1 0 rfl rfl)
theorem dX1_setPause_27 : decode cX1_setPause 27 = .ok (.iload_n 2, 1) := dk_28 (dk_at dksX1_setPause_1 3 rfl rfl)
theorem dX1_setPause_28 : decode cX1_setPause 28 = .ok (.ireturn, 1) := dk_172 (dk_at dksX1_setPause_1 4 rfl rfl)
abbrev cX1_pass : ByteArray := prog_1_method_47_code
def yX1_pass : MethodName := ⟨RX1, "pass", "(I)I"⟩
def dkwX1_pass_1 : List UInt8 := [172]
abbrev dktX1_pass_1 : List UInt8 := dkwX1_pass_1 ++ []
def dkwX1_pass_0 : List UInt8 := [27, 4, 16, 99, 184, 1, 36, 42, 27, 182, 1, 50, 184, 1, 24, 42, 182, 1, 28, 42, 27, 182, 1, 53]
abbrev dktX1_pass_0 : List UInt8 := dkwX1_pass_0 ++ dktX1_pass_1
theorem dksX1_pass_0 : cX1_pass.data.toList.drop 0 = dktX1_pass_0 := by decide +kernel
theorem dksX1_pass_1 : cX1_pass.data.toList.drop 24 = dktX1_pass_1 := dk_seg dksX1_pass_0 24 rfl rfl
theorem dX1_pass_0 : decode cX1_pass 0 = .ok (.iload_n 1, 1) := dk_27 (dk_at dksX1_pass_0 0 rfl rfl)
theorem dX1_pass_1 : decode cX1_pass 1 = .ok (.iconst 1, 1) := dk_4 (dk_at dksX1_pass_0 1 rfl rfl)
theorem dX1_pass_2 : decode cX1_pass 2 = .ok (.bipush 99, 2) := dk_16 99 (dk_at dksX1_pass_0 2 rfl rfl)
theorem dX1_pass_4 : decode cX1_pass 4 = .ok (.invokestatic 292, 3) := dk_184 1 36 (dk_at dksX1_pass_0 4 rfl rfl)
theorem dX1_pass_7 : decode cX1_pass 7 = .ok (.aload_n 0, 1) := dk_42 (dk_at dksX1_pass_0 7 rfl rfl)
theorem dX1_pass_8 : decode cX1_pass 8 = .ok (.iload_n 1, 1) := dk_27 (dk_at dksX1_pass_0 8 rfl rfl)
theorem dX1_pass_9 : decode cX1_pass 9 = .ok (.invokevirtual 306, 3) := dk_182 1 50 (dk_at dksX1_pass_0 9 rfl rfl)
theorem dX1_pass_12 : decode cX1_pass 12 = .ok (.invokestatic 280, 3) := dk_184 1 24 (dk_at dksX1_pass_0 12 rfl rfl)
theorem dX1_pass_15 : decode cX1_pass 15 = .ok (.aload_n 0, 1) := dk_42 (dk_at dksX1_pass_0 15 rfl rfl)
theorem dX1_pass_16 : decode cX1_pass 16 = .ok (.invokevirtual 284, 3) := dk_182 1 28 (dk_at dksX1_pass_0 16 rfl rfl)
theorem dX1_pass_19 : decode cX1_pass 19 = .ok (.aload_n 0, 1) := dk_42 (dk_at dksX1_pass_0 19 rfl rfl)
theorem dX1_pass_20 : decode cX1_pass 20 = .ok (.iload_n 1, 1) := dk_27 (dk_at dksX1_pass_0 20 rfl rfl)
theorem dX1_pass_21 : decode cX1_pass 21 = .ok (.invokevirtual 309, 3) := dk_182 1 53 (dk_at dksX1_pass_0 21 rfl rfl)
theorem dX1_pass_24 : decode cX1_pass 24 = .ok (.ireturn, 1) := dk_172 (dk_at dksX1_pass_1 0 rfl rfl)
abbrev cX1_canPass : ByteArray := prog_1_method_46_code
def yX1_canPass : MethodName := ⟨RX1, "canPass", "(I)Z"⟩
def dkwX1_canPass_0 : List UInt8 := [42, 180, 0, 10, 180, 0, 106, 27, 96, 17, 3, 231, 163, 0, 7, 4, 167, 0, 4, 3, 172]
abbrev dktX1_canPass_0 : List UInt8 := dkwX1_canPass_0 ++ []
theorem dksX1_canPass_0 : cX1_canPass.data.toList.drop 0 = dktX1_canPass_0 := by decide +kernel
theorem dX1_canPass_0 : decode cX1_canPass 0 = .ok (.aload_n 0, 1) := dk_42 (dk_at dksX1_canPass_0 0 rfl rfl)
theorem dX1_canPass_1 : decode cX1_canPass 1 = .ok (.getfield 10, 3) := dk_180 0 10 (dk_at dksX1_canPass_0 1 rfl rfl)
theorem dX1_canPass_4 : decode cX1_canPass 4 = .ok (.getfield 106, 3) := dk_180 0 106 (dk_at dksX1_canPass_0 4 rfl rfl)
theorem dX1_canPass_7 : decode cX1_canPass 7 = .ok (.iload_n 1, 1) := dk_27 (dk_at dksX1_canPass_0 7 rfl rfl)
theorem dX1_canPass_8 : decode cX1_canPass 8 = .ok (.iadd, 1) := dk_96 (dk_at dksX1_canPass_0 8 rfl rfl)
theorem dX1_canPass_9 : decode cX1_canPass 9 = .ok (.sipush 999, 3) := dk_17 3 231 (dk_at dksX1_canPass_0 9 rfl rfl)
theorem dX1_canPass_12 : decode cX1_canPass 12 = .ok (.if_icmp .gt 7, 3) := dk_163 0 7 (dk_at dksX1_canPass_0 12 rfl rfl)
theorem dX1_canPass_15 : decode cX1_canPass 15 = .ok (.iconst 1, 1) := dk_4 (dk_at dksX1_canPass_0 15 rfl rfl)
theorem dX1_canPass_16 : decode cX1_canPass 16 = .ok (.goto 4, 3) := dk_167 0 4 (dk_at dksX1_canPass_0 16 rfl rfl)
theorem dX1_canPass_19 : decode cX1_canPass 19 = .ok (.iconst 0, 1) := dk_3 (dk_at dksX1_canPass_0 19 rfl rfl)
theorem dX1_canPass_20 : decode cX1_canPass 20 = .ok (.ireturn, 1) := dk_172 (dk_at dksX1_canPass_0 20 rfl rfl)
abbrev cX1_type : ByteArray := prog_1_method_48_code
def yX1_type : MethodName := ⟨RX1, "type", "(C)I"⟩
def dkwX1_type_1 : List UInt8 := [27, 182, 1, 59, 87, 42, 180, 0, 19, 182, 1, 56, 172]
abbrev dktX1_type_1 : List UInt8 := dkwX1_type_1 ++ []
def dkwX1_type_0 : List UInt8 := [42, 180, 0, 19, 182, 1, 56, 16, 60, 162, 0, 7, 4, 167, 0, 4, 3, 184, 1, 24, 42, 180, 0, 19]
abbrev dktX1_type_0 : List UInt8 := dkwX1_type_0 ++ dktX1_type_1
theorem dksX1_type_0 : cX1_type.data.toList.drop 0 = dktX1_type_0 := by decide +kernel
theorem dksX1_type_1 : cX1_type.data.toList.drop 24 = dktX1_type_1 := dk_seg dksX1_type_0 24 rfl rfl
theorem dX1_type_0 : decode cX1_type 0 = .ok (.aload_n 0, 1) := dk_42 (dk_at dksX1_type_0 0 rfl rfl)
theorem dX1_type_1 : decode cX1_type 1 = .ok (.getfield 19, 3) := dk_180 0 19 (dk_at dksX1_type_0 1 rfl rfl)
theorem dX1_type_4 : decode cX1_type 4 = .ok (.invokevirtual 312, 3) := dk_182 1 56 (dk_at dksX1_type_0 4 rfl rfl)
theorem dX1_type_7 : decode cX1_type 7 = .ok (.bipush 60, 2) := dk_16 60 (dk_at dksX1_type_0 7 rfl rfl)
theorem dX1_type_9 : decode cX1_type 9 = .ok (.if_icmp .ge 7, 3) := dk_162 0 7 (dk_at dksX1_type_0 9 rfl rfl)
theorem dX1_type_12 : decode cX1_type 12 = .ok (.iconst 1, 1) := dk_4 (dk_at dksX1_type_0 12 rfl rfl)
theorem dX1_type_13 : decode cX1_type 13 = .ok (.goto 4, 3) := dk_167 0 4 (dk_at dksX1_type_0 13 rfl rfl)
theorem dX1_type_16 : decode cX1_type 16 = .ok (.iconst 0, 1) := dk_3 (dk_at dksX1_type_0 16 rfl rfl)
theorem dX1_type_17 : decode cX1_type 17 = .ok (.invokestatic 280, 3) := dk_184 1 24 (dk_at dksX1_type_0 17 rfl rfl)
theorem dX1_type_20 : decode cX1_type 20 = .ok (.aload_n 0, 1) := dk_42 (dk_at dksX1_type_0 20 rfl rfl)
theorem dX1_type_21 : decode cX1_type 21 = .ok (.getfield 19, 3) := dk_180 0 19 (dk_at dksX1_type_0 21 rfl rfl)
theorem dX1_type_24 : decode cX1_type 24 = .ok (.iload_n 1, 1) := dk_27 (dk_at dksX1_type_1 0 rfl rfl)
theorem dX1_type_25 : decode cX1_type 25 = .ok (.invokevirtual 315, 3) := dk_182 1 59 (dk_at dksX1_type_1 1 rfl rfl)
theorem dX1_type_28 : decode cX1_type 28 = .ok (.pop, 1) := dk_87 (dk_at dksX1_type_1 4 rfl rfl)
theorem dX1_type_29 : decode cX1_type 29 = .ok (.aload_n 0, 1) := dk_42 (dk_at dksX1_type_1 5 rfl rfl)
theorem dX1_type_30 : decode cX1_type 30 = .ok (.getfield 19, 3) := dk_180 0 19 (dk_at dksX1_type_1 6 rfl rfl)
theorem dX1_type_33 : decode cX1_type 33 = .ok (.invokevirtual 312, 3) := dk_182 1 56 (dk_at dksX1_type_1 9 rfl rfl)
theorem dX1_type_36 : decode cX1_type 36 = .ok (.ireturn, 1) := dk_172 (dk_at dksX1_type_1 12 rfl rfl)
abbrev cX1_impossibleOrder : ByteArray := prog_1_method_52_code
def yX1_impossibleOrder : MethodName := ⟨RX1, "impossibleOrder", "()I"⟩
def dkwX1_impossibleOrder_0 : List UInt8 := [42, 182, 1, 77, 2, 160, 0, 7, 4, 167, 0, 4, 3, 184, 1, 24, 42, 182, 1, 80, 172]
abbrev dktX1_impossibleOrder_0 : List UInt8 := dkwX1_impossibleOrder_0 ++ []
theorem dksX1_impossibleOrder_0 : cX1_impossibleOrder.data.toList.drop 0 = dktX1_impossibleOrder_0 := by decide +kernel
theorem dX1_impossibleOrder_0 : decode cX1_impossibleOrder 0 = .ok (.aload_n 0, 1) := dk_42 (dk_at dksX1_impossibleOrder_0 0 rfl rfl)
theorem dX1_impossibleOrder_1 : decode cX1_impossibleOrder 1 = .ok (.invokevirtual 333, 3) := dk_182 1 77 (dk_at dksX1_impossibleOrder_0 1 rfl rfl)
theorem dX1_impossibleOrder_4 : decode cX1_impossibleOrder 4 = .ok (.iconst (-1), 1) := dk_2 (dk_at dksX1_impossibleOrder_0 4 rfl rfl)
theorem dX1_impossibleOrder_5 : decode cX1_impossibleOrder 5 = .ok (.if_icmp .ne 7, 3) := dk_160 0 7 (dk_at dksX1_impossibleOrder_0 5 rfl rfl)
theorem dX1_impossibleOrder_8 : decode cX1_impossibleOrder 8 = .ok (.iconst 1, 1) := dk_4 (dk_at dksX1_impossibleOrder_0 8 rfl rfl)
theorem dX1_impossibleOrder_9 : decode cX1_impossibleOrder 9 = .ok (.goto 4, 3) := dk_167 0 4 (dk_at dksX1_impossibleOrder_0 9 rfl rfl)
theorem dX1_impossibleOrder_12 : decode cX1_impossibleOrder 12 = .ok (.iconst 0, 1) := dk_3 (dk_at dksX1_impossibleOrder_0 12 rfl rfl)
theorem dX1_impossibleOrder_13 : decode cX1_impossibleOrder 13 = .ok (.invokestatic 280, 3) := dk_184 1 24 (dk_at dksX1_impossibleOrder_0 13 rfl rfl)
theorem dX1_impossibleOrder_16 : decode cX1_impossibleOrder 16 = .ok (.aload_n 0, 1) := dk_42 (dk_at dksX1_impossibleOrder_0 16 rfl rfl)
theorem dX1_impossibleOrder_17 : decode cX1_impossibleOrder 17 = .ok (.invokevirtual 336, 3) := dk_182 1 80 (dk_at dksX1_impossibleOrder_0 17 rfl rfl)
theorem dX1_impossibleOrder_20 : decode cX1_impossibleOrder 20 = .ok (.ireturn, 1) := dk_172 (dk_at dksX1_impossibleOrder_0 20 rfl rfl)
abbrev cX1_stopped : ByteArray := prog_1_method_51_code
def yX1_stopped : MethodName := ⟨RX1, "stopped", "()I"⟩
def dkwX1_stopped_1 : List UInt8 := [61, 42, 43, 181, 0, 10, 28, 172, 78, 42, 43, 181, 0, 10, 45, 191]
abbrev dktX1_stopped_1 : List UInt8 := dkwX1_stopped_1 ++ []
def dkwX1_stopped_0 : List UInt8 := [42, 180, 0, 10, 76, 42, 43, 182, 0, 74, 181, 0, 10, 187, 1, 66, 89, 42, 183, 1, 68, 182, 1, 74]
abbrev dktX1_stopped_0 : List UInt8 := dkwX1_stopped_0 ++ dktX1_stopped_1
theorem dksX1_stopped_0 : cX1_stopped.data.toList.drop 0 = dktX1_stopped_0 := by decide +kernel
theorem dksX1_stopped_1 : cX1_stopped.data.toList.drop 24 = dktX1_stopped_1 := dk_seg dksX1_stopped_0 24 rfl rfl
theorem dX1_stopped_0 : decode cX1_stopped 0 = .ok (.aload_n 0, 1) := dk_42 (dk_at dksX1_stopped_0 0 rfl rfl)
theorem dX1_stopped_1 : decode cX1_stopped 1 = .ok (.getfield 10, 3) := dk_180 0 10 (dk_at dksX1_stopped_0 1 rfl rfl)
theorem dX1_stopped_4 : decode cX1_stopped 4 = .ok (.astore_n 1, 1) := dk_76 (dk_at dksX1_stopped_0 4 rfl rfl)
theorem dX1_stopped_5 : decode cX1_stopped 5 = .ok (.aload_n 0, 1) := dk_42 (dk_at dksX1_stopped_0 5 rfl rfl)
theorem dX1_stopped_6 : decode cX1_stopped 6 = .ok (.aload_n 1, 1) := dk_43 (dk_at dksX1_stopped_0 6 rfl rfl)
theorem dX1_stopped_7 : decode cX1_stopped 7 = .ok (.invokevirtual 74, 3) := dk_182 0 74 (dk_at dksX1_stopped_0 7 rfl rfl)
theorem dX1_stopped_10 : decode cX1_stopped 10 = .ok (.putfield 10, 3) := dk_181 0 10 (dk_at dksX1_stopped_0 10 rfl rfl)
theorem dX1_stopped_13 : decode cX1_stopped 13 = .ok (.new 322, 3) := dk_187 1 66 (dk_at dksX1_stopped_0 13 rfl rfl)
theorem dX1_stopped_16 : decode cX1_stopped 16 = .ok (.dup, 1) := dk_89 (dk_at dksX1_stopped_0 16 rfl rfl)
theorem dX1_stopped_17 : decode cX1_stopped 17 = .ok (.aload_n 0, 1) := dk_42 (dk_at dksX1_stopped_0 17 rfl rfl)
theorem dX1_stopped_18 : decode cX1_stopped 18 = .ok (.invokespecial 324, 3) := dk_183 1 68 (dk_at dksX1_stopped_0 18 rfl rfl)
theorem dX1_stopped_21 : decode cX1_stopped 21 = .ok (.invokevirtual 330, 3) := dk_182 1 74 (dk_at dksX1_stopped_0 21 rfl rfl)
theorem dX1_stopped_24 : decode cX1_stopped 24 = .ok (.istore_n 2, 1) := dk_61 (dk_at dksX1_stopped_1 0 rfl rfl)
theorem dX1_stopped_25 : decode cX1_stopped 25 = .ok (.aload_n 0, 1) := dk_42 (dk_at dksX1_stopped_1 1 rfl rfl)
theorem dX1_stopped_26 : decode cX1_stopped 26 = .ok (.aload_n 1, 1) := dk_43 (dk_at dksX1_stopped_1 2 rfl rfl)
theorem dX1_stopped_27 : decode cX1_stopped 27 = .ok (.putfield 10, 3) := dk_181 0 10 (dk_at dksX1_stopped_1 3 rfl rfl)
theorem dX1_stopped_30 : decode cX1_stopped 30 = .ok (.iload_n 2, 1) := dk_28 (dk_at dksX1_stopped_1 6 rfl rfl)
theorem dX1_stopped_31 : decode cX1_stopped 31 = .ok (.ireturn, 1) := dk_172 (dk_at dksX1_stopped_1 7 rfl rfl)
theorem dX1_stopped_32 : decode cX1_stopped 32 = .ok (.astore_n 3, 1) := dk_78 (dk_at dksX1_stopped_1 8 rfl rfl)
theorem dX1_stopped_33 : decode cX1_stopped 33 = .ok (.aload_n 0, 1) := dk_42 (dk_at dksX1_stopped_1 9 rfl rfl)
theorem dX1_stopped_34 : decode cX1_stopped 34 = .ok (.aload_n 1, 1) := dk_43 (dk_at dksX1_stopped_1 10 rfl rfl)
theorem dX1_stopped_35 : decode cX1_stopped 35 = .ok (.putfield 10, 3) := dk_181 0 10 (dk_at dksX1_stopped_1 11 rfl rfl)
theorem dX1_stopped_38 : decode cX1_stopped 38 = .ok (.aload_n 3, 1) := dk_45 (dk_at dksX1_stopped_1 14 rfl rfl)
theorem dX1_stopped_39 : decode cX1_stopped 39 = .ok (.athrow, 1) := dk_191 (dk_at dksX1_stopped_1 15 rfl rfl)
abbrev cX1_carryOut : ByteArray := prog_1_method_53_code
def yX1_carryOut : MethodName := ⟨RX1, "carryOut", "()I"⟩
def dkwX1_carryOut_3 : List UInt8 := [16, 59, 160, 0, 7, 4, 167, 0, 4, 3, 96, 60, 132, 2, 1, 167, 255, 221, 27, 172]
abbrev dktX1_carryOut_3 : List UInt8 := dkwX1_carryOut_3 ++ []
def dkwX1_carryOut_2 : List UInt8 := [4, 60, 3, 61, 28, 42, 180, 0, 19, 182, 1, 56, 162, 0, 30, 27, 42, 180, 0, 19, 28, 182, 1, 83]
abbrev dktX1_carryOut_2 : List UInt8 := dkwX1_carryOut_2 ++ dktX1_carryOut_3
def dkwX1_carryOut_1 : List UInt8 := [4, 167, 0, 4, 3, 184, 1, 24, 42, 182, 1, 28, 187, 1, 66, 89, 42, 183, 1, 68, 182, 1, 74, 87]
abbrev dktX1_carryOut_1 : List UInt8 := dkwX1_carryOut_1 ++ dktX1_carryOut_2
def dkwX1_carryOut_0 : List UInt8 := [42, 182, 1, 77, 2, 160, 0, 7, 4, 167, 0, 4, 3, 184, 1, 24, 42, 182, 1, 80, 2, 160, 0, 7]
abbrev dktX1_carryOut_0 : List UInt8 := dkwX1_carryOut_0 ++ dktX1_carryOut_1
theorem dksX1_carryOut_0 : cX1_carryOut.data.toList.drop 0 = dktX1_carryOut_0 := by decide +kernel
theorem dksX1_carryOut_1 : cX1_carryOut.data.toList.drop 24 = dktX1_carryOut_1 := dk_seg dksX1_carryOut_0 24 rfl rfl
theorem dksX1_carryOut_2 : cX1_carryOut.data.toList.drop 48 = dktX1_carryOut_2 := dk_seg dksX1_carryOut_1 24 rfl rfl
theorem dksX1_carryOut_3 : cX1_carryOut.data.toList.drop 72 = dktX1_carryOut_3 := dk_seg dksX1_carryOut_2 24 rfl rfl
theorem dX1_carryOut_0 : decode cX1_carryOut 0 = .ok (.aload_n 0, 1) := dk_42 (dk_at dksX1_carryOut_0 0 rfl rfl)
theorem dX1_carryOut_1 : decode cX1_carryOut 1 = .ok (.invokevirtual 333, 3) := dk_182 1 77 (dk_at dksX1_carryOut_0 1 rfl rfl)
theorem dX1_carryOut_4 : decode cX1_carryOut 4 = .ok (.iconst (-1), 1) := dk_2 (dk_at dksX1_carryOut_0 4 rfl rfl)
theorem dX1_carryOut_5 : decode cX1_carryOut 5 = .ok (.if_icmp .ne 7, 3) := dk_160 0 7 (dk_at dksX1_carryOut_0 5 rfl rfl)
theorem dX1_carryOut_8 : decode cX1_carryOut 8 = .ok (.iconst 1, 1) := dk_4 (dk_at dksX1_carryOut_0 8 rfl rfl)
theorem dX1_carryOut_9 : decode cX1_carryOut 9 = .ok (.goto 4, 3) := dk_167 0 4 (dk_at dksX1_carryOut_0 9 rfl rfl)
theorem dX1_carryOut_12 : decode cX1_carryOut 12 = .ok (.iconst 0, 1) := dk_3 (dk_at dksX1_carryOut_0 12 rfl rfl)
theorem dX1_carryOut_13 : decode cX1_carryOut 13 = .ok (.invokestatic 280, 3) := dk_184 1 24 (dk_at dksX1_carryOut_0 13 rfl rfl)
theorem dX1_carryOut_16 : decode cX1_carryOut 16 = .ok (.aload_n 0, 1) := dk_42 (dk_at dksX1_carryOut_0 16 rfl rfl)
theorem dX1_carryOut_17 : decode cX1_carryOut 17 = .ok (.invokevirtual 336, 3) := dk_182 1 80 (dk_at dksX1_carryOut_0 17 rfl rfl)
theorem dX1_carryOut_20 : decode cX1_carryOut 20 = .ok (.iconst (-1), 1) := dk_2 (dk_at dksX1_carryOut_0 20 rfl rfl)
theorem dX1_carryOut_21 : decode cX1_carryOut 21 = .ok (.if_icmp .ne 7, 3) := dk_160 0 7 (dk_at dksX1_carryOut_0 21 rfl rfl)
theorem dX1_carryOut_24 : decode cX1_carryOut 24 = .ok (.iconst 1, 1) := dk_4 (dk_at dksX1_carryOut_1 0 rfl rfl)
theorem dX1_carryOut_25 : decode cX1_carryOut 25 = .ok (.goto 4, 3) := dk_167 0 4 (dk_at dksX1_carryOut_1 1 rfl rfl)
theorem dX1_carryOut_28 : decode cX1_carryOut 28 = .ok (.iconst 0, 1) := dk_3 (dk_at dksX1_carryOut_1 4 rfl rfl)
theorem dX1_carryOut_29 : decode cX1_carryOut 29 = .ok (.invokestatic 280, 3) := dk_184 1 24 (dk_at dksX1_carryOut_1 5 rfl rfl)
theorem dX1_carryOut_32 : decode cX1_carryOut 32 = .ok (.aload_n 0, 1) := dk_42 (dk_at dksX1_carryOut_1 8 rfl rfl)
theorem dX1_carryOut_33 : decode cX1_carryOut 33 = .ok (.invokevirtual 284, 3) := dk_182 1 28 (dk_at dksX1_carryOut_1 9 rfl rfl)
theorem dX1_carryOut_36 : decode cX1_carryOut 36 = .ok (.new 322, 3) := dk_187 1 66 (dk_at dksX1_carryOut_1 12 rfl rfl)
theorem dX1_carryOut_39 : decode cX1_carryOut 39 = .ok (.dup, 1) := dk_89 (dk_at dksX1_carryOut_1 15 rfl rfl)
theorem dX1_carryOut_40 : decode cX1_carryOut 40 = .ok (.aload_n 0, 1) := dk_42 (dk_at dksX1_carryOut_1 16 rfl rfl)
theorem dX1_carryOut_41 : decode cX1_carryOut 41 = .ok (.invokespecial 324, 3) := dk_183 1 68 (dk_at dksX1_carryOut_1 17 rfl rfl)
theorem dX1_carryOut_44 : decode cX1_carryOut 44 = .ok (.invokevirtual 330, 3) := dk_182 1 74 (dk_at dksX1_carryOut_1 20 rfl rfl)
theorem dX1_carryOut_47 : decode cX1_carryOut 47 = .ok (.pop, 1) := dk_87 (dk_at dksX1_carryOut_1 23 rfl rfl)
theorem dX1_carryOut_48 : decode cX1_carryOut 48 = .ok (.iconst 1, 1) := dk_4 (dk_at dksX1_carryOut_2 0 rfl rfl)
theorem dX1_carryOut_49 : decode cX1_carryOut 49 = .ok (.istore_n 1, 1) := dk_60 (dk_at dksX1_carryOut_2 1 rfl rfl)
theorem dX1_carryOut_50 : decode cX1_carryOut 50 = .ok (.iconst 0, 1) := dk_3 (dk_at dksX1_carryOut_2 2 rfl rfl)
theorem dX1_carryOut_51 : decode cX1_carryOut 51 = .ok (.istore_n 2, 1) := dk_61 (dk_at dksX1_carryOut_2 3 rfl rfl)
theorem dX1_carryOut_52 : decode cX1_carryOut 52 = .ok (.iload_n 2, 1) := dk_28 (dk_at dksX1_carryOut_2 4 rfl rfl)
theorem dX1_carryOut_53 : decode cX1_carryOut 53 = .ok (.aload_n 0, 1) := dk_42 (dk_at dksX1_carryOut_2 5 rfl rfl)
theorem dX1_carryOut_54 : decode cX1_carryOut 54 = .ok (.getfield 19, 3) := dk_180 0 19 (dk_at dksX1_carryOut_2 6 rfl rfl)
theorem dX1_carryOut_57 : decode cX1_carryOut 57 = .ok (.invokevirtual 312, 3) := dk_182 1 56 (dk_at dksX1_carryOut_2 9 rfl rfl)
theorem dX1_carryOut_60 : decode cX1_carryOut 60 = .ok (.if_icmp .ge 30, 3) := dk_162 0 30 (dk_at dksX1_carryOut_2 12 rfl rfl)
theorem dX1_carryOut_63 : decode cX1_carryOut 63 = .ok (.iload_n 1, 1) := dk_27 (dk_at dksX1_carryOut_2 15 rfl rfl)
theorem dX1_carryOut_64 : decode cX1_carryOut 64 = .ok (.aload_n 0, 1) := dk_42 (dk_at dksX1_carryOut_2 16 rfl rfl)
theorem dX1_carryOut_65 : decode cX1_carryOut 65 = .ok (.getfield 19, 3) := dk_180 0 19 (dk_at dksX1_carryOut_2 17 rfl rfl)
theorem dX1_carryOut_68 : decode cX1_carryOut 68 = .ok (.iload_n 2, 1) := dk_28 (dk_at dksX1_carryOut_2 20 rfl rfl)
theorem dX1_carryOut_69 : decode cX1_carryOut 69 = .ok (.invokevirtual 339, 3) := dk_182 1 83 (dk_at dksX1_carryOut_2 21 rfl rfl)
theorem dX1_carryOut_72 : decode cX1_carryOut 72 = .ok (.bipush 59, 2) := dk_16 59 (dk_at dksX1_carryOut_3 0 rfl rfl)
theorem dX1_carryOut_74 : decode cX1_carryOut 74 = .ok (.if_icmp .ne 7, 3) := dk_160 0 7 (dk_at dksX1_carryOut_3 2 rfl rfl)
theorem dX1_carryOut_77 : decode cX1_carryOut 77 = .ok (.iconst 1, 1) := dk_4 (dk_at dksX1_carryOut_3 5 rfl rfl)
theorem dX1_carryOut_78 : decode cX1_carryOut 78 = .ok (.goto 4, 3) := dk_167 0 4 (dk_at dksX1_carryOut_3 6 rfl rfl)
theorem dX1_carryOut_81 : decode cX1_carryOut 81 = .ok (.iconst 0, 1) := dk_3 (dk_at dksX1_carryOut_3 9 rfl rfl)
theorem dX1_carryOut_82 : decode cX1_carryOut 82 = .ok (.iadd, 1) := dk_96 (dk_at dksX1_carryOut_3 10 rfl rfl)
theorem dX1_carryOut_83 : decode cX1_carryOut 83 = .ok (.istore_n 1, 1) := dk_60 (dk_at dksX1_carryOut_3 11 rfl rfl)
theorem dX1_carryOut_84 : decode cX1_carryOut 84 = .ok (.iinc 2 1, 3) := dk_132 2 1 (dk_at dksX1_carryOut_3 12 rfl rfl)
theorem dX1_carryOut_87 : decode cX1_carryOut 87 = .ok (.goto (-35), 3) := dk_167 255 221 (dk_at dksX1_carryOut_3 15 rfl rfl)
theorem dX1_carryOut_90 : decode cX1_carryOut 90 = .ok (.iload_n 1, 1) := dk_27 (dk_at dksX1_carryOut_3 18 rfl rfl)
theorem dX1_carryOut_91 : decode cX1_carryOut 91 = .ok (.ireturn, 1) := dk_172 (dk_at dksX1_carryOut_3 19 rfl rfl)
abbrev cX1_undo : ByteArray := prog_1_method_54_code
def yX1_undo : MethodName := ⟨RX1, "undo", "()I"⟩
def dkwX1_undo_1 : List UInt8 := [181, 0, 10, 42, 42, 180, 0, 78, 180, 1, 90, 181, 0, 78, 42, 180, 0, 78, 184, 1, 93, 172]
abbrev dktX1_undo_1 : List UInt8 := dkwX1_undo_1 ++ []
def dkwX1_undo_0 : List UInt8 := [42, 180, 0, 78, 198, 0, 7, 4, 167, 0, 4, 3, 184, 1, 24, 42, 42, 180, 0, 78, 180, 1, 87]
abbrev dktX1_undo_0 : List UInt8 := dkwX1_undo_0 ++ dktX1_undo_1
theorem dksX1_undo_0 : cX1_undo.data.toList.drop 0 = dktX1_undo_0 := by decide +kernel
theorem dksX1_undo_1 : cX1_undo.data.toList.drop 23 = dktX1_undo_1 := dk_seg dksX1_undo_0 23 rfl rfl
theorem dX1_undo_0 : decode cX1_undo 0 = .ok (.aload_n 0, 1) := dk_42 (dk_at dksX1_undo_0 0 rfl rfl)
theorem dX1_undo_1 : decode cX1_undo 1 = .ok (.getfield 78, 3) := dk_180 0 78 (dk_at dksX1_undo_0 1 rfl rfl)
theorem dX1_undo_4 : decode cX1_undo 4 = .ok (.ifnull 7, 3) := dk_198 0 7 (dk_at dksX1_undo_0 4 rfl rfl)
theorem dX1_undo_7 : decode cX1_undo 7 = .ok (.iconst 1, 1) := dk_4 (dk_at dksX1_undo_0 7 rfl rfl)
theorem dX1_undo_8 : decode cX1_undo 8 = .ok (.goto 4, 3) := dk_167 0 4 (dk_at dksX1_undo_0 8 rfl rfl)
theorem dX1_undo_11 : decode cX1_undo 11 = .ok (.iconst 0, 1) := dk_3 (dk_at dksX1_undo_0 11 rfl rfl)
theorem dX1_undo_12 : decode cX1_undo 12 = .ok (.invokestatic 280, 3) := dk_184 1 24 (dk_at dksX1_undo_0 12 rfl rfl)
theorem dX1_undo_15 : decode cX1_undo 15 = .ok (.aload_n 0, 1) := dk_42 (dk_at dksX1_undo_0 15 rfl rfl)
theorem dX1_undo_16 : decode cX1_undo 16 = .ok (.aload_n 0, 1) := dk_42 (dk_at dksX1_undo_0 16 rfl rfl)
theorem dX1_undo_17 : decode cX1_undo 17 = .ok (.getfield 78, 3) := dk_180 0 78 (dk_at dksX1_undo_0 17 rfl rfl)
theorem dX1_undo_20 : decode cX1_undo 20 = .ok (.getfield 343, 3) := dk_180 1 87 (dk_at dksX1_undo_0 20 rfl rfl)
theorem dX1_undo_23 : decode cX1_undo 23 = .ok (.putfield 10, 3) := dk_181 0 10 (dk_at dksX1_undo_1 0 rfl rfl)
theorem dX1_undo_26 : decode cX1_undo 26 = .ok (.aload_n 0, 1) := dk_42 (dk_at dksX1_undo_1 3 rfl rfl)
theorem dX1_undo_27 : decode cX1_undo 27 = .ok (.aload_n 0, 1) := dk_42 (dk_at dksX1_undo_1 4 rfl rfl)
theorem dX1_undo_28 : decode cX1_undo 28 = .ok (.getfield 78, 3) := dk_180 0 78 (dk_at dksX1_undo_1 5 rfl rfl)
theorem dX1_undo_31 : decode cX1_undo 31 = .ok (.getfield 346, 3) := dk_180 1 90 (dk_at dksX1_undo_1 8 rfl rfl)
theorem dX1_undo_34 : decode cX1_undo 34 = .ok (.putfield 78, 3) := dk_181 0 78 (dk_at dksX1_undo_1 11 rfl rfl)
theorem dX1_undo_37 : decode cX1_undo 37 = .ok (.aload_n 0, 1) := dk_42 (dk_at dksX1_undo_1 14 rfl rfl)
theorem dX1_undo_38 : decode cX1_undo 38 = .ok (.getfield 78, 3) := dk_180 0 78 (dk_at dksX1_undo_1 15 rfl rfl)
theorem dX1_undo_41 : decode cX1_undo 41 = .ok (.invokestatic 349, 3) := dk_184 1 93 (dk_at dksX1_undo_1 18 rfl rfl)
theorem dX1_undo_44 : decode cX1_undo 44 = .ok (.ireturn, 1) := dk_172 (dk_at dksX1_undo_1 21 rfl rfl)
abbrev cX1_restoreSnapshot : ByteArray := prog_1_method_56_code
def yX1_restoreSnapshot : MethodName := ⟨RX1, "restoreSnapshot", "()I"⟩
def dkwX1_restoreSnapshot_1 : List UInt8 := [182, 0, 74, 181, 0, 10, 42, 180, 0, 10, 180, 0, 106, 172]
abbrev dktX1_restoreSnapshot_1 : List UInt8 := dkwX1_restoreSnapshot_1 ++ []
def dkwX1_restoreSnapshot_0 : List UInt8 := [42, 180, 1, 97, 198, 0, 7, 4, 167, 0, 4, 3, 184, 1, 24, 42, 182, 1, 28, 42, 42, 180, 1, 97]
abbrev dktX1_restoreSnapshot_0 : List UInt8 := dkwX1_restoreSnapshot_0 ++ dktX1_restoreSnapshot_1
theorem dksX1_restoreSnapshot_0 : cX1_restoreSnapshot.data.toList.drop 0 = dktX1_restoreSnapshot_0 := by decide +kernel
theorem dksX1_restoreSnapshot_1 : cX1_restoreSnapshot.data.toList.drop 24 = dktX1_restoreSnapshot_1 := dk_seg dksX1_restoreSnapshot_0 24 rfl rfl
theorem dX1_restoreSnapshot_0 : decode cX1_restoreSnapshot 0 = .ok (.aload_n 0, 1) := dk_42 (dk_at dksX1_restoreSnapshot_0 0 rfl rfl)
theorem dX1_restoreSnapshot_1 : decode cX1_restoreSnapshot 1 = .ok (.getfield 353, 3) := dk_180 1 97 (dk_at dksX1_restoreSnapshot_0 1 rfl rfl)
theorem dX1_restoreSnapshot_4 : decode cX1_restoreSnapshot 4 = .ok (.ifnull 7, 3) := dk_198 0 7 (dk_at dksX1_restoreSnapshot_0 4 rfl rfl)
theorem dX1_restoreSnapshot_7 : decode cX1_restoreSnapshot 7 = .ok (.iconst 1, 1) := dk_4 (dk_at dksX1_restoreSnapshot_0 7 rfl rfl)
theorem dX1_restoreSnapshot_8 : decode cX1_restoreSnapshot 8 = .ok (.goto 4, 3) := dk_167 0 4 (dk_at dksX1_restoreSnapshot_0 8 rfl rfl)
theorem dX1_restoreSnapshot_11 : decode cX1_restoreSnapshot 11 = .ok (.iconst 0, 1) := dk_3 (dk_at dksX1_restoreSnapshot_0 11 rfl rfl)
theorem dX1_restoreSnapshot_12 : decode cX1_restoreSnapshot 12 = .ok (.invokestatic 280, 3) := dk_184 1 24 (dk_at dksX1_restoreSnapshot_0 12 rfl rfl)
theorem dX1_restoreSnapshot_15 : decode cX1_restoreSnapshot 15 = .ok (.aload_n 0, 1) := dk_42 (dk_at dksX1_restoreSnapshot_0 15 rfl rfl)
theorem dX1_restoreSnapshot_16 : decode cX1_restoreSnapshot 16 = .ok (.invokevirtual 284, 3) := dk_182 1 28 (dk_at dksX1_restoreSnapshot_0 16 rfl rfl)
theorem dX1_restoreSnapshot_19 : decode cX1_restoreSnapshot 19 = .ok (.aload_n 0, 1) := dk_42 (dk_at dksX1_restoreSnapshot_0 19 rfl rfl)
theorem dX1_restoreSnapshot_20 : decode cX1_restoreSnapshot 20 = .ok (.aload_n 0, 1) := dk_42 (dk_at dksX1_restoreSnapshot_0 20 rfl rfl)
theorem dX1_restoreSnapshot_21 : decode cX1_restoreSnapshot 21 = .ok (.getfield 353, 3) := dk_180 1 97 (dk_at dksX1_restoreSnapshot_0 21 rfl rfl)
theorem dX1_restoreSnapshot_24 : decode cX1_restoreSnapshot 24 = .ok (.invokevirtual 74, 3) := dk_182 0 74 (dk_at dksX1_restoreSnapshot_1 0 rfl rfl)
theorem dX1_restoreSnapshot_27 : decode cX1_restoreSnapshot 27 = .ok (.putfield 10, 3) := dk_181 0 10 (dk_at dksX1_restoreSnapshot_1 3 rfl rfl)
theorem dX1_restoreSnapshot_30 : decode cX1_restoreSnapshot 30 = .ok (.aload_n 0, 1) := dk_42 (dk_at dksX1_restoreSnapshot_1 6 rfl rfl)
theorem dX1_restoreSnapshot_31 : decode cX1_restoreSnapshot 31 = .ok (.getfield 10, 3) := dk_180 0 10 (dk_at dksX1_restoreSnapshot_1 7 rfl rfl)
theorem dX1_restoreSnapshot_34 : decode cX1_restoreSnapshot 34 = .ok (.getfield 106, 3) := dk_180 0 106 (dk_at dksX1_restoreSnapshot_1 10 rfl rfl)
theorem dX1_restoreSnapshot_37 : decode cX1_restoreSnapshot 37 = .ok (.ireturn, 1) := dk_172 (dk_at dksX1_restoreSnapshot_1 13 rfl rfl)
abbrev cX1_tideAt : ByteArray := prog_1_method_59_code
def yX1_tideAt : MethodName := ⟨RX1, "tideAt", "(I)I"⟩
def dkwX1_tideAt_0 : List UInt8 := [27, 3, 17, 7, 207, 184, 1, 36, 42, 27, 184, 0, 96, 182, 0, 100, 172]
abbrev dktX1_tideAt_0 : List UInt8 := dkwX1_tideAt_0 ++ []
theorem dksX1_tideAt_0 : cX1_tideAt.data.toList.drop 0 = dktX1_tideAt_0 := by decide +kernel
theorem dX1_tideAt_0 : decode cX1_tideAt 0 = .ok (.iload_n 1, 1) := dk_27 (dk_at dksX1_tideAt_0 0 rfl rfl)
theorem dX1_tideAt_1 : decode cX1_tideAt 1 = .ok (.iconst 0, 1) := dk_3 (dk_at dksX1_tideAt_0 1 rfl rfl)
theorem dX1_tideAt_2 : decode cX1_tideAt 2 = .ok (.sipush 1999, 3) := dk_17 7 207 (dk_at dksX1_tideAt_0 2 rfl rfl)
theorem dX1_tideAt_5 : decode cX1_tideAt 5 = .ok (.invokestatic 292, 3) := dk_184 1 36 (dk_at dksX1_tideAt_0 5 rfl rfl)
theorem dX1_tideAt_8 : decode cX1_tideAt 8 = .ok (.aload_n 0, 1) := dk_42 (dk_at dksX1_tideAt_0 8 rfl rfl)
theorem dX1_tideAt_9 : decode cX1_tideAt 9 = .ok (.iload_n 1, 1) := dk_27 (dk_at dksX1_tideAt_0 9 rfl rfl)
theorem dX1_tideAt_10 : decode cX1_tideAt 10 = .ok (.invokestatic 96, 3) := dk_184 0 96 (dk_at dksX1_tideAt_0 10 rfl rfl)
theorem dX1_tideAt_13 : decode cX1_tideAt 13 = .ok (.invokevirtual 100, 3) := dk_182 0 100 (dk_at dksX1_tideAt_0 13 rfl rfl)
theorem dX1_tideAt_16 : decode cX1_tideAt 16 = .ok (.ireturn, 1) := dk_172 (dk_at dksX1_tideAt_0 16 rfl rfl)
abbrev cX1_heightOf : ByteArray := prog_1_method_62_code
def yX1_heightOf : MethodName := ⟨RX1, "heightOf", "(I)I"⟩
def dkwX1_heightOf_0 : List UInt8 := [27, 184, 1, 21, 42, 180, 0, 10, 180, 0, 103, 27, 46, 172]
abbrev dktX1_heightOf_0 : List UInt8 := dkwX1_heightOf_0 ++ []
theorem dksX1_heightOf_0 : cX1_heightOf.data.toList.drop 0 = dktX1_heightOf_0 := by decide +kernel
theorem dX1_heightOf_0 : decode cX1_heightOf 0 = .ok (.iload_n 1, 1) := dk_27 (dk_at dksX1_heightOf_0 0 rfl rfl)
theorem dX1_heightOf_1 : decode cX1_heightOf 1 = .ok (.invokestatic 277, 3) := dk_184 1 21 (dk_at dksX1_heightOf_0 1 rfl rfl)
theorem dX1_heightOf_4 : decode cX1_heightOf 4 = .ok (.aload_n 0, 1) := dk_42 (dk_at dksX1_heightOf_0 4 rfl rfl)
theorem dX1_heightOf_5 : decode cX1_heightOf 5 = .ok (.getfield 10, 3) := dk_180 0 10 (dk_at dksX1_heightOf_0 5 rfl rfl)
theorem dX1_heightOf_8 : decode cX1_heightOf 8 = .ok (.getfield 103, 3) := dk_180 0 103 (dk_at dksX1_heightOf_0 8 rfl rfl)
theorem dX1_heightOf_11 : decode cX1_heightOf 11 = .ok (.iload_n 1, 1) := dk_27 (dk_at dksX1_heightOf_0 11 rfl rfl)
theorem dX1_heightOf_12 : decode cX1_heightOf 12 = .ok (.iaload, 1) := dk_46 (dk_at dksX1_heightOf_0 12 rfl rfl)
theorem dX1_heightOf_13 : decode cX1_heightOf 13 = .ok (.ireturn, 1) := dk_172 (dk_at dksX1_heightOf_0 13 rfl rfl)
abbrev cX1_isFlooded : ByteArray := prog_1_method_63_code
def yX1_isFlooded : MethodName := ⟨RX1, "isFlooded", "(I)Z"⟩
def dkwX1_isFlooded_0 : List UInt8 := [27, 184, 1, 21, 42, 27, 182, 0, 174, 172]
abbrev dktX1_isFlooded_0 : List UInt8 := dkwX1_isFlooded_0 ++ []
theorem dksX1_isFlooded_0 : cX1_isFlooded.data.toList.drop 0 = dktX1_isFlooded_0 := by decide +kernel
theorem dX1_isFlooded_0 : decode cX1_isFlooded 0 = .ok (.iload_n 1, 1) := dk_27 (dk_at dksX1_isFlooded_0 0 rfl rfl)
theorem dX1_isFlooded_1 : decode cX1_isFlooded 1 = .ok (.invokestatic 277, 3) := dk_184 1 21 (dk_at dksX1_isFlooded_0 1 rfl rfl)
theorem dX1_isFlooded_4 : decode cX1_isFlooded 4 = .ok (.aload_n 0, 1) := dk_42 (dk_at dksX1_isFlooded_0 4 rfl rfl)
theorem dX1_isFlooded_5 : decode cX1_isFlooded 5 = .ok (.iload_n 1, 1) := dk_27 (dk_at dksX1_isFlooded_0 5 rfl rfl)
theorem dX1_isFlooded_6 : decode cX1_isFlooded 6 = .ok (.invokevirtual 174, 3) := dk_182 0 174 (dk_at dksX1_isFlooded_0 6 rfl rfl)
theorem dX1_isFlooded_9 : decode cX1_isFlooded 9 = .ok (.ireturn, 1) := dk_172 (dk_at dksX1_isFlooded_0 9 rfl rfl)
abbrev cX1_warmthOf : ByteArray := prog_1_method_65_code
def yX1_warmthOf : MethodName := ⟨RX1, "warmthOf", "(I)I"⟩
def dkwX1_warmthOf_0 : List UInt8 := [27, 184, 1, 21, 42, 180, 0, 10, 180, 0, 177, 27, 46, 172]
abbrev dktX1_warmthOf_0 : List UInt8 := dkwX1_warmthOf_0 ++ []
theorem dksX1_warmthOf_0 : cX1_warmthOf.data.toList.drop 0 = dktX1_warmthOf_0 := by decide +kernel
theorem dX1_warmthOf_0 : decode cX1_warmthOf 0 = .ok (.iload_n 1, 1) := dk_27 (dk_at dksX1_warmthOf_0 0 rfl rfl)
theorem dX1_warmthOf_1 : decode cX1_warmthOf 1 = .ok (.invokestatic 277, 3) := dk_184 1 21 (dk_at dksX1_warmthOf_0 1 rfl rfl)
theorem dX1_warmthOf_4 : decode cX1_warmthOf 4 = .ok (.aload_n 0, 1) := dk_42 (dk_at dksX1_warmthOf_0 4 rfl rfl)
theorem dX1_warmthOf_5 : decode cX1_warmthOf 5 = .ok (.getfield 10, 3) := dk_180 0 10 (dk_at dksX1_warmthOf_0 5 rfl rfl)
theorem dX1_warmthOf_8 : decode cX1_warmthOf 8 = .ok (.getfield 177, 3) := dk_180 0 177 (dk_at dksX1_warmthOf_0 8 rfl rfl)
theorem dX1_warmthOf_11 : decode cX1_warmthOf 11 = .ok (.iload_n 1, 1) := dk_27 (dk_at dksX1_warmthOf_0 11 rfl rfl)
theorem dX1_warmthOf_12 : decode cX1_warmthOf 12 = .ok (.iaload, 1) := dk_46 (dk_at dksX1_warmthOf_0 12 rfl rfl)
theorem dX1_warmthOf_13 : decode cX1_warmthOf 13 = .ok (.ireturn, 1) := dk_172 (dk_at dksX1_warmthOf_0 13 rfl rfl)
abbrev cX1_weedOf : ByteArray := prog_1_method_66_code
def yX1_weedOf : MethodName := ⟨RX1, "weedOf", "(I)I"⟩
def dkwX1_weedOf_0 : List UInt8 := [27, 184, 1, 21, 42, 180, 0, 10, 180, 0, 189, 27, 46, 172]
abbrev dktX1_weedOf_0 : List UInt8 := dkwX1_weedOf_0 ++ []
theorem dksX1_weedOf_0 : cX1_weedOf.data.toList.drop 0 = dktX1_weedOf_0 := by decide +kernel
theorem dX1_weedOf_0 : decode cX1_weedOf 0 = .ok (.iload_n 1, 1) := dk_27 (dk_at dksX1_weedOf_0 0 rfl rfl)
theorem dX1_weedOf_1 : decode cX1_weedOf 1 = .ok (.invokestatic 277, 3) := dk_184 1 21 (dk_at dksX1_weedOf_0 1 rfl rfl)
theorem dX1_weedOf_4 : decode cX1_weedOf 4 = .ok (.aload_n 0, 1) := dk_42 (dk_at dksX1_weedOf_0 4 rfl rfl)
theorem dX1_weedOf_5 : decode cX1_weedOf 5 = .ok (.getfield 10, 3) := dk_180 0 10 (dk_at dksX1_weedOf_0 5 rfl rfl)
theorem dX1_weedOf_8 : decode cX1_weedOf 8 = .ok (.getfield 189, 3) := dk_180 0 189 (dk_at dksX1_weedOf_0 8 rfl rfl)
theorem dX1_weedOf_11 : decode cX1_weedOf 11 = .ok (.iload_n 1, 1) := dk_27 (dk_at dksX1_weedOf_0 11 rfl rfl)
theorem dX1_weedOf_12 : decode cX1_weedOf 12 = .ok (.iaload, 1) := dk_46 (dk_at dksX1_weedOf_0 12 rfl rfl)
theorem dX1_weedOf_13 : decode cX1_weedOf 13 = .ok (.ireturn, 1) := dk_172 (dk_at dksX1_weedOf_0 13 rfl rfl)
abbrev cX1_hoursToFlood : ByteArray := prog_1_method_67_code
def yX1_hoursToFlood : MethodName := ⟨RX1, "hoursToFlood", "(I)I"⟩
def dkwX1_hoursToFlood_1 : List UInt8 := [182, 0, 109, 153, 0, 5, 28, 172, 132, 2, 1, 167, 255, 228, 2, 172]
abbrev dktX1_hoursToFlood_1 : List UInt8 := dkwX1_hoursToFlood_1 ++ []
def dkwX1_hoursToFlood_0 : List UInt8 := [27, 184, 1, 21, 3, 61, 28, 16, 12, 163, 0, 28, 42, 27, 42, 180, 0, 10, 180, 0, 106, 28, 96]
abbrev dktX1_hoursToFlood_0 : List UInt8 := dkwX1_hoursToFlood_0 ++ dktX1_hoursToFlood_1
theorem dksX1_hoursToFlood_0 : cX1_hoursToFlood.data.toList.drop 0 = dktX1_hoursToFlood_0 := by decide +kernel
theorem dksX1_hoursToFlood_1 : cX1_hoursToFlood.data.toList.drop 23 = dktX1_hoursToFlood_1 := dk_seg dksX1_hoursToFlood_0 23 rfl rfl
theorem dX1_hoursToFlood_0 : decode cX1_hoursToFlood 0 = .ok (.iload_n 1, 1) := dk_27 (dk_at dksX1_hoursToFlood_0 0 rfl rfl)
theorem dX1_hoursToFlood_1 : decode cX1_hoursToFlood 1 = .ok (.invokestatic 277, 3) := dk_184 1 21 (dk_at dksX1_hoursToFlood_0 1 rfl rfl)
theorem dX1_hoursToFlood_4 : decode cX1_hoursToFlood 4 = .ok (.iconst 0, 1) := dk_3 (dk_at dksX1_hoursToFlood_0 4 rfl rfl)
theorem dX1_hoursToFlood_5 : decode cX1_hoursToFlood 5 = .ok (.istore_n 2, 1) := dk_61 (dk_at dksX1_hoursToFlood_0 5 rfl rfl)
theorem dX1_hoursToFlood_6 : decode cX1_hoursToFlood 6 = .ok (.iload_n 2, 1) := dk_28 (dk_at dksX1_hoursToFlood_0 6 rfl rfl)
theorem dX1_hoursToFlood_7 : decode cX1_hoursToFlood 7 = .ok (.bipush 12, 2) := dk_16 12 (dk_at dksX1_hoursToFlood_0 7 rfl rfl)
theorem dX1_hoursToFlood_9 : decode cX1_hoursToFlood 9 = .ok (.if_icmp .gt 28, 3) := dk_163 0 28 (dk_at dksX1_hoursToFlood_0 9 rfl rfl)
theorem dX1_hoursToFlood_12 : decode cX1_hoursToFlood 12 = .ok (.aload_n 0, 1) := dk_42 (dk_at dksX1_hoursToFlood_0 12 rfl rfl)
theorem dX1_hoursToFlood_13 : decode cX1_hoursToFlood 13 = .ok (.iload_n 1, 1) := dk_27 (dk_at dksX1_hoursToFlood_0 13 rfl rfl)
theorem dX1_hoursToFlood_14 : decode cX1_hoursToFlood 14 = .ok (.aload_n 0, 1) := dk_42 (dk_at dksX1_hoursToFlood_0 14 rfl rfl)
theorem dX1_hoursToFlood_15 : decode cX1_hoursToFlood 15 = .ok (.getfield 10, 3) := dk_180 0 10 (dk_at dksX1_hoursToFlood_0 15 rfl rfl)
theorem dX1_hoursToFlood_18 : decode cX1_hoursToFlood 18 = .ok (.getfield 106, 3) := dk_180 0 106 (dk_at dksX1_hoursToFlood_0 18 rfl rfl)
theorem dX1_hoursToFlood_21 : decode cX1_hoursToFlood 21 = .ok (.iload_n 2, 1) := dk_28 (dk_at dksX1_hoursToFlood_0 21 rfl rfl)
theorem dX1_hoursToFlood_22 : decode cX1_hoursToFlood 22 = .ok (.iadd, 1) := dk_96 (dk_at dksX1_hoursToFlood_0 22 rfl rfl)
theorem dX1_hoursToFlood_23 : decode cX1_hoursToFlood 23 = .ok (.invokevirtual 109, 3) := dk_182 0 109 (dk_at dksX1_hoursToFlood_1 0 rfl rfl)
theorem dX1_hoursToFlood_26 : decode cX1_hoursToFlood 26 = .ok (.ifCond .eq 5, 3) := dk_153 0 5 (dk_at dksX1_hoursToFlood_1 3 rfl rfl)
theorem dX1_hoursToFlood_29 : decode cX1_hoursToFlood 29 = .ok (.iload_n 2, 1) := dk_28 (dk_at dksX1_hoursToFlood_1 6 rfl rfl)
theorem dX1_hoursToFlood_30 : decode cX1_hoursToFlood 30 = .ok (.ireturn, 1) := dk_172 (dk_at dksX1_hoursToFlood_1 7 rfl rfl)
theorem dX1_hoursToFlood_31 : decode cX1_hoursToFlood 31 = .ok (.iinc 2 1, 3) := dk_132 2 1 (dk_at dksX1_hoursToFlood_1 8 rfl rfl)
theorem dX1_hoursToFlood_34 : decode cX1_hoursToFlood 34 = .ok (.goto (-28), 3) := dk_167 255 228 (dk_at dksX1_hoursToFlood_1 11 rfl rfl)
theorem dX1_hoursToFlood_37 : decode cX1_hoursToFlood 37 = .ok (.iconst (-1), 1) := dk_2 (dk_at dksX1_hoursToFlood_1 14 rfl rfl)
theorem dX1_hoursToFlood_38 : decode cX1_hoursToFlood 38 = .ok (.ireturn, 1) := dk_172 (dk_at dksX1_hoursToFlood_1 15 rfl rfl)
abbrev cX1_floodHours : ByteArray := prog_1_method_68_code
def yX1_floodHours : MethodName := ⟨RX1, "floodHours", "(I)I"⟩
def dkwX1_floodHours_2 : List UInt8 := [164, 0, 7, 3, 167, 0, 11, 5, 16, 6, 28, 100, 104, 4, 96, 172]
abbrev dktX1_floodHours_2 : List UInt8 := dkwX1_floodHours_2 ++ []
def dkwX1_floodHours_1 : List UInt8 := [27, 46, 162, 0, 9, 132, 2, 1, 167, 255, 230, 28, 154, 0, 8, 16, 12, 167, 0, 21, 28, 16, 6]
abbrev dktX1_floodHours_1 : List UInt8 := dkwX1_floodHours_1 ++ dktX1_floodHours_2
def dkwX1_floodHours_0 : List UInt8 := [27, 184, 1, 21, 3, 61, 28, 16, 6, 163, 0, 26, 42, 28, 182, 0, 100, 42, 180, 0, 10, 180, 0, 103]
abbrev dktX1_floodHours_0 : List UInt8 := dkwX1_floodHours_0 ++ dktX1_floodHours_1
theorem dksX1_floodHours_0 : cX1_floodHours.data.toList.drop 0 = dktX1_floodHours_0 := by decide +kernel
theorem dksX1_floodHours_1 : cX1_floodHours.data.toList.drop 24 = dktX1_floodHours_1 := dk_seg dksX1_floodHours_0 24 rfl rfl
theorem dksX1_floodHours_2 : cX1_floodHours.data.toList.drop 47 = dktX1_floodHours_2 := dk_seg dksX1_floodHours_1 23 rfl rfl
theorem dX1_floodHours_0 : decode cX1_floodHours 0 = .ok (.iload_n 1, 1) := dk_27 (dk_at dksX1_floodHours_0 0 rfl rfl)
theorem dX1_floodHours_1 : decode cX1_floodHours 1 = .ok (.invokestatic 277, 3) := dk_184 1 21 (dk_at dksX1_floodHours_0 1 rfl rfl)
theorem dX1_floodHours_4 : decode cX1_floodHours 4 = .ok (.iconst 0, 1) := dk_3 (dk_at dksX1_floodHours_0 4 rfl rfl)
theorem dX1_floodHours_5 : decode cX1_floodHours 5 = .ok (.istore_n 2, 1) := dk_61 (dk_at dksX1_floodHours_0 5 rfl rfl)
theorem dX1_floodHours_6 : decode cX1_floodHours 6 = .ok (.iload_n 2, 1) := dk_28 (dk_at dksX1_floodHours_0 6 rfl rfl)
theorem dX1_floodHours_7 : decode cX1_floodHours 7 = .ok (.bipush 6, 2) := dk_16 6 (dk_at dksX1_floodHours_0 7 rfl rfl)
theorem dX1_floodHours_9 : decode cX1_floodHours 9 = .ok (.if_icmp .gt 26, 3) := dk_163 0 26 (dk_at dksX1_floodHours_0 9 rfl rfl)
theorem dX1_floodHours_12 : decode cX1_floodHours 12 = .ok (.aload_n 0, 1) := dk_42 (dk_at dksX1_floodHours_0 12 rfl rfl)
theorem dX1_floodHours_13 : decode cX1_floodHours 13 = .ok (.iload_n 2, 1) := dk_28 (dk_at dksX1_floodHours_0 13 rfl rfl)
theorem dX1_floodHours_14 : decode cX1_floodHours 14 = .ok (.invokevirtual 100, 3) := dk_182 0 100 (dk_at dksX1_floodHours_0 14 rfl rfl)
theorem dX1_floodHours_17 : decode cX1_floodHours 17 = .ok (.aload_n 0, 1) := dk_42 (dk_at dksX1_floodHours_0 17 rfl rfl)
theorem dX1_floodHours_18 : decode cX1_floodHours 18 = .ok (.getfield 10, 3) := dk_180 0 10 (dk_at dksX1_floodHours_0 18 rfl rfl)
theorem dX1_floodHours_21 : decode cX1_floodHours 21 = .ok (.getfield 103, 3) := dk_180 0 103 (dk_at dksX1_floodHours_0 21 rfl rfl)
theorem dX1_floodHours_24 : decode cX1_floodHours 24 = .ok (.iload_n 1, 1) := dk_27 (dk_at dksX1_floodHours_1 0 rfl rfl)
theorem dX1_floodHours_25 : decode cX1_floodHours 25 = .ok (.iaload, 1) := dk_46 (dk_at dksX1_floodHours_1 1 rfl rfl)
theorem dX1_floodHours_26 : decode cX1_floodHours 26 = .ok (.if_icmp .ge 9, 3) := dk_162 0 9 (dk_at dksX1_floodHours_1 2 rfl rfl)
theorem dX1_floodHours_29 : decode cX1_floodHours 29 = .ok (.iinc 2 1, 3) := dk_132 2 1 (dk_at dksX1_floodHours_1 5 rfl rfl)
theorem dX1_floodHours_32 : decode cX1_floodHours 32 = .ok (.goto (-26), 3) := dk_167 255 230 (dk_at dksX1_floodHours_1 8 rfl rfl)
theorem dX1_floodHours_35 : decode cX1_floodHours 35 = .ok (.iload_n 2, 1) := dk_28 (dk_at dksX1_floodHours_1 11 rfl rfl)
theorem dX1_floodHours_36 : decode cX1_floodHours 36 = .ok (.ifCond .ne 8, 3) := dk_154 0 8 (dk_at dksX1_floodHours_1 12 rfl rfl)
theorem dX1_floodHours_39 : decode cX1_floodHours 39 = .ok (.bipush 12, 2) := dk_16 12 (dk_at dksX1_floodHours_1 15 rfl rfl)
theorem dX1_floodHours_41 : decode cX1_floodHours 41 = .ok (.goto 21, 3) := dk_167 0 21 (dk_at dksX1_floodHours_1 17 rfl rfl)
theorem dX1_floodHours_44 : decode cX1_floodHours 44 = .ok (.iload_n 2, 1) := dk_28 (dk_at dksX1_floodHours_1 20 rfl rfl)
theorem dX1_floodHours_45 : decode cX1_floodHours 45 = .ok (.bipush 6, 2) := dk_16 6 (dk_at dksX1_floodHours_1 21 rfl rfl)
theorem dX1_floodHours_47 : decode cX1_floodHours 47 = .ok (.if_icmp .le 7, 3) := dk_164 0 7 (dk_at dksX1_floodHours_2 0 rfl rfl)
theorem dX1_floodHours_50 : decode cX1_floodHours 50 = .ok (.iconst 0, 1) := dk_3 (dk_at dksX1_floodHours_2 3 rfl rfl)
theorem dX1_floodHours_51 : decode cX1_floodHours 51 = .ok (.goto 11, 3) := dk_167 0 11 (dk_at dksX1_floodHours_2 4 rfl rfl)
theorem dX1_floodHours_54 : decode cX1_floodHours 54 = .ok (.iconst 2, 1) := dk_5 (dk_at dksX1_floodHours_2 7 rfl rfl)
theorem dX1_floodHours_55 : decode cX1_floodHours 55 = .ok (.bipush 6, 2) := dk_16 6 (dk_at dksX1_floodHours_2 8 rfl rfl)
theorem dX1_floodHours_57 : decode cX1_floodHours 57 = .ok (.iload_n 2, 1) := dk_28 (dk_at dksX1_floodHours_2 10 rfl rfl)
theorem dX1_floodHours_58 : decode cX1_floodHours 58 = .ok (.isub, 1) := dk_100 (dk_at dksX1_floodHours_2 11 rfl rfl)
theorem dX1_floodHours_59 : decode cX1_floodHours 59 = .ok (.imul, 1) := dk_104 (dk_at dksX1_floodHours_2 12 rfl rfl)
theorem dX1_floodHours_60 : decode cX1_floodHours 60 = .ok (.iconst 1, 1) := dk_4 (dk_at dksX1_floodHours_2 13 rfl rfl)
theorem dX1_floodHours_61 : decode cX1_floodHours 61 = .ok (.iadd, 1) := dk_96 (dk_at dksX1_floodHours_2 14 rfl rfl)
theorem dX1_floodHours_62 : decode cX1_floodHours 62 = .ok (.ireturn, 1) := dk_172 (dk_at dksX1_floodHours_2 15 rfl rfl)
abbrev cX1_floodHoursByCounting : ByteArray := prog_1_method_69_code
def yX1_floodHoursByCounting : MethodName := ⟨RX1, "floodHoursByCounting", "(I)I"⟩
def dkwX1_floodHoursByCounting_1 : List UInt8 := [4, 167, 0, 4, 3, 96, 61, 132, 3, 1, 167, 255, 230, 28, 172]
abbrev dktX1_floodHoursByCounting_1 : List UInt8 := dkwX1_floodHoursByCounting_1 ++ []
def dkwX1_floodHoursByCounting_0 : List UInt8 := [27, 184, 1, 21, 3, 61, 3, 62, 29, 16, 12, 162, 0, 26, 28, 42, 27, 29, 182, 0, 109, 153, 0, 7]
abbrev dktX1_floodHoursByCounting_0 : List UInt8 := dkwX1_floodHoursByCounting_0 ++ dktX1_floodHoursByCounting_1
theorem dksX1_floodHoursByCounting_0 : cX1_floodHoursByCounting.data.toList.drop 0 = dktX1_floodHoursByCounting_0 := by decide +kernel
theorem dksX1_floodHoursByCounting_1 : cX1_floodHoursByCounting.data.toList.drop 24 = dktX1_floodHoursByCounting_1 := dk_seg dksX1_floodHoursByCounting_0 24 rfl rfl
theorem dX1_floodHoursByCounting_0 : decode cX1_floodHoursByCounting 0 = .ok (.iload_n 1, 1) := dk_27 (dk_at dksX1_floodHoursByCounting_0 0 rfl rfl)
theorem dX1_floodHoursByCounting_1 : decode cX1_floodHoursByCounting 1 = .ok (.invokestatic 277, 3) := dk_184 1 21 (dk_at dksX1_floodHoursByCounting_0 1 rfl rfl)
theorem dX1_floodHoursByCounting_4 : decode cX1_floodHoursByCounting 4 = .ok (.iconst 0, 1) := dk_3 (dk_at dksX1_floodHoursByCounting_0 4 rfl rfl)
theorem dX1_floodHoursByCounting_5 : decode cX1_floodHoursByCounting 5 = .ok (.istore_n 2, 1) := dk_61 (dk_at dksX1_floodHoursByCounting_0 5 rfl rfl)
theorem dX1_floodHoursByCounting_6 : decode cX1_floodHoursByCounting 6 = .ok (.iconst 0, 1) := dk_3 (dk_at dksX1_floodHoursByCounting_0 6 rfl rfl)
theorem dX1_floodHoursByCounting_7 : decode cX1_floodHoursByCounting 7 = .ok (.istore_n 3, 1) := dk_62 (dk_at dksX1_floodHoursByCounting_0 7 rfl rfl)
theorem dX1_floodHoursByCounting_8 : decode cX1_floodHoursByCounting 8 = .ok (.iload_n 3, 1) := dk_29 (dk_at dksX1_floodHoursByCounting_0 8 rfl rfl)
theorem dX1_floodHoursByCounting_9 : decode cX1_floodHoursByCounting 9 = .ok (.bipush 12, 2) := dk_16 12 (dk_at dksX1_floodHoursByCounting_0 9 rfl rfl)
theorem dX1_floodHoursByCounting_11 : decode cX1_floodHoursByCounting 11 = .ok (.if_icmp .ge 26, 3) := dk_162 0 26 (dk_at dksX1_floodHoursByCounting_0 11 rfl rfl)
theorem dX1_floodHoursByCounting_14 : decode cX1_floodHoursByCounting 14 = .ok (.iload_n 2, 1) := dk_28 (dk_at dksX1_floodHoursByCounting_0 14 rfl rfl)
theorem dX1_floodHoursByCounting_15 : decode cX1_floodHoursByCounting 15 = .ok (.aload_n 0, 1) := dk_42 (dk_at dksX1_floodHoursByCounting_0 15 rfl rfl)
theorem dX1_floodHoursByCounting_16 : decode cX1_floodHoursByCounting 16 = .ok (.iload_n 1, 1) := dk_27 (dk_at dksX1_floodHoursByCounting_0 16 rfl rfl)
theorem dX1_floodHoursByCounting_17 : decode cX1_floodHoursByCounting 17 = .ok (.iload_n 3, 1) := dk_29 (dk_at dksX1_floodHoursByCounting_0 17 rfl rfl)
theorem dX1_floodHoursByCounting_18 : decode cX1_floodHoursByCounting 18 = .ok (.invokevirtual 109, 3) := dk_182 0 109 (dk_at dksX1_floodHoursByCounting_0 18 rfl rfl)
theorem dX1_floodHoursByCounting_21 : decode cX1_floodHoursByCounting 21 = .ok (.ifCond .eq 7, 3) := dk_153 0 7 (dk_at dksX1_floodHoursByCounting_0 21 rfl rfl)
theorem dX1_floodHoursByCounting_24 : decode cX1_floodHoursByCounting 24 = .ok (.iconst 1, 1) := dk_4 (dk_at dksX1_floodHoursByCounting_1 0 rfl rfl)
theorem dX1_floodHoursByCounting_25 : decode cX1_floodHoursByCounting 25 = .ok (.goto 4, 3) := dk_167 0 4 (dk_at dksX1_floodHoursByCounting_1 1 rfl rfl)
theorem dX1_floodHoursByCounting_28 : decode cX1_floodHoursByCounting 28 = .ok (.iconst 0, 1) := dk_3 (dk_at dksX1_floodHoursByCounting_1 4 rfl rfl)
theorem dX1_floodHoursByCounting_29 : decode cX1_floodHoursByCounting 29 = .ok (.iadd, 1) := dk_96 (dk_at dksX1_floodHoursByCounting_1 5 rfl rfl)
theorem dX1_floodHoursByCounting_30 : decode cX1_floodHoursByCounting 30 = .ok (.istore_n 2, 1) := dk_61 (dk_at dksX1_floodHoursByCounting_1 6 rfl rfl)
theorem dX1_floodHoursByCounting_31 : decode cX1_floodHoursByCounting 31 = .ok (.iinc 3 1, 3) := dk_132 3 1 (dk_at dksX1_floodHoursByCounting_1 7 rfl rfl)
theorem dX1_floodHoursByCounting_34 : decode cX1_floodHoursByCounting 34 = .ok (.goto (-26), 3) := dk_167 255 230 (dk_at dksX1_floodHoursByCounting_1 10 rfl rfl)
theorem dX1_floodHoursByCounting_37 : decode cX1_floodHoursByCounting 37 = .ok (.iload_n 2, 1) := dk_28 (dk_at dksX1_floodHoursByCounting_1 13 rfl rfl)
theorem dX1_floodHoursByCounting_38 : decode cX1_floodHoursByCounting 38 = .ok (.ireturn, 1) := dk_172 (dk_at dksX1_floodHoursByCounting_1 14 rfl rfl)
abbrev cX1_fateOfLimpet : ByteArray := prog_1_method_72_code
def yX1_fateOfLimpet : MethodName := ⟨RX1, "fateOfLimpet", "(I)I"⟩
def dkwX1_fateOfLimpet_0 : List UInt8 := [42, 27, 182, 1, 100, 180, 0, 173, 172]
abbrev dktX1_fateOfLimpet_0 : List UInt8 := dkwX1_fateOfLimpet_0 ++ []
theorem dksX1_fateOfLimpet_0 : cX1_fateOfLimpet.data.toList.drop 0 = dktX1_fateOfLimpet_0 := by decide +kernel
theorem dX1_fateOfLimpet_0 : decode cX1_fateOfLimpet 0 = .ok (.aload_n 0, 1) := dk_42 (dk_at dksX1_fateOfLimpet_0 0 rfl rfl)
theorem dX1_fateOfLimpet_1 : decode cX1_fateOfLimpet 1 = .ok (.iload_n 1, 1) := dk_27 (dk_at dksX1_fateOfLimpet_0 1 rfl rfl)
theorem dX1_fateOfLimpet_2 : decode cX1_fateOfLimpet 2 = .ok (.invokevirtual 356, 3) := dk_182 1 100 (dk_at dksX1_fateOfLimpet_0 2 rfl rfl)
theorem dX1_fateOfLimpet_5 : decode cX1_fateOfLimpet 5 = .ok (.getfield 173, 3) := dk_180 0 173 (dk_at dksX1_fateOfLimpet_0 5 rfl rfl)
theorem dX1_fateOfLimpet_8 : decode cX1_fateOfLimpet 8 = .ok (.ireturn, 1) := dk_172 (dk_at dksX1_fateOfLimpet_0 8 rfl rfl)
abbrev cX1_limpet : ByteArray := prog_1_method_6_code
def yX1_limpet : MethodName := ⟨RX1, "limpet", "(I)LShorePools$Limpet;"⟩
def dkwX1_limpet_1 : List UInt8 := [182, 0, 56, 192, 0, 60, 176]
abbrev dktX1_limpet_1 : List UInt8 := dkwX1_limpet_1 ++ []
def dkwX1_limpet_0 : List UInt8 := [27, 42, 180, 0, 10, 180, 0, 46, 182, 0, 50, 184, 0, 36, 42, 180, 0, 10, 180, 0, 46, 27]
abbrev dktX1_limpet_0 : List UInt8 := dkwX1_limpet_0 ++ dktX1_limpet_1
theorem dksX1_limpet_0 : cX1_limpet.data.toList.drop 0 = dktX1_limpet_0 := by decide +kernel
theorem dksX1_limpet_1 : cX1_limpet.data.toList.drop 22 = dktX1_limpet_1 := dk_seg dksX1_limpet_0 22 rfl rfl
theorem dX1_limpet_0 : decode cX1_limpet 0 = .ok (.iload_n 1, 1) := dk_27 (dk_at dksX1_limpet_0 0 rfl rfl)
theorem dX1_limpet_1 : decode cX1_limpet 1 = .ok (.aload_n 0, 1) := dk_42 (dk_at dksX1_limpet_0 1 rfl rfl)
theorem dX1_limpet_2 : decode cX1_limpet 2 = .ok (.getfield 10, 3) := dk_180 0 10 (dk_at dksX1_limpet_0 2 rfl rfl)
theorem dX1_limpet_5 : decode cX1_limpet 5 = .ok (.getfield 46, 3) := dk_180 0 46 (dk_at dksX1_limpet_0 5 rfl rfl)
theorem dX1_limpet_8 : decode cX1_limpet 8 = .ok (.invokevirtual 50, 3) := dk_182 0 50 (dk_at dksX1_limpet_0 8 rfl rfl)
theorem dX1_limpet_11 : decode cX1_limpet 11 = .ok (.invokestatic 36, 3) := dk_184 0 36 (dk_at dksX1_limpet_0 11 rfl rfl)
theorem dX1_limpet_14 : decode cX1_limpet 14 = .ok (.aload_n 0, 1) := dk_42 (dk_at dksX1_limpet_0 14 rfl rfl)
theorem dX1_limpet_15 : decode cX1_limpet 15 = .ok (.getfield 10, 3) := dk_180 0 10 (dk_at dksX1_limpet_0 15 rfl rfl)
theorem dX1_limpet_18 : decode cX1_limpet 18 = .ok (.getfield 46, 3) := dk_180 0 46 (dk_at dksX1_limpet_0 18 rfl rfl)
theorem dX1_limpet_21 : decode cX1_limpet 21 = .ok (.iload_n 1, 1) := dk_27 (dk_at dksX1_limpet_0 21 rfl rfl)
theorem dX1_limpet_22 : decode cX1_limpet 22 = .ok (.invokevirtual 56, 3) := dk_182 0 56 (dk_at dksX1_limpet_1 0 rfl rfl)
theorem dX1_limpet_25 : decode cX1_limpet 25 = .ok (.checkcast 60, 3) := dk_192 0 60 (dk_at dksX1_limpet_1 3 rfl rfl)
theorem dX1_limpet_28 : decode cX1_limpet 28 = .ok (.areturn, 1) := dk_176 (dk_at dksX1_limpet_1 6 rfl rfl)
abbrev cX1_poolOfLimpet : ByteArray := prog_1_method_73_code
def yX1_poolOfLimpet : MethodName := ⟨RX1, "poolOfLimpet", "(I)I"⟩
def dkwX1_poolOfLimpet_0 : List UInt8 := [42, 27, 182, 1, 100, 180, 0, 192, 172]
abbrev dktX1_poolOfLimpet_0 : List UInt8 := dkwX1_poolOfLimpet_0 ++ []
theorem dksX1_poolOfLimpet_0 : cX1_poolOfLimpet.data.toList.drop 0 = dktX1_poolOfLimpet_0 := by decide +kernel
theorem dX1_poolOfLimpet_0 : decode cX1_poolOfLimpet 0 = .ok (.aload_n 0, 1) := dk_42 (dk_at dksX1_poolOfLimpet_0 0 rfl rfl)
theorem dX1_poolOfLimpet_1 : decode cX1_poolOfLimpet 1 = .ok (.iload_n 1, 1) := dk_27 (dk_at dksX1_poolOfLimpet_0 1 rfl rfl)
theorem dX1_poolOfLimpet_2 : decode cX1_poolOfLimpet 2 = .ok (.invokevirtual 356, 3) := dk_182 1 100 (dk_at dksX1_poolOfLimpet_0 2 rfl rfl)
theorem dX1_poolOfLimpet_5 : decode cX1_poolOfLimpet 5 = .ok (.getfield 192, 3) := dk_180 0 192 (dk_at dksX1_poolOfLimpet_0 5 rfl rfl)
theorem dX1_poolOfLimpet_8 : decode cX1_poolOfLimpet 8 = .ok (.ireturn, 1) := dk_172 (dk_at dksX1_poolOfLimpet_0 8 rfl rfl)
abbrev cX1_waterOf : ByteArray := prog_1_method_74_code
def yX1_waterOf : MethodName := ⟨RX1, "waterOf", "(I)I"⟩
def dkwX1_waterOf_0 : List UInt8 := [42, 27, 182, 1, 100, 180, 0, 193, 172]
abbrev dktX1_waterOf_0 : List UInt8 := dkwX1_waterOf_0 ++ []
theorem dksX1_waterOf_0 : cX1_waterOf.data.toList.drop 0 = dktX1_waterOf_0 := by decide +kernel
theorem dX1_waterOf_0 : decode cX1_waterOf 0 = .ok (.aload_n 0, 1) := dk_42 (dk_at dksX1_waterOf_0 0 rfl rfl)
theorem dX1_waterOf_1 : decode cX1_waterOf 1 = .ok (.iload_n 1, 1) := dk_27 (dk_at dksX1_waterOf_0 1 rfl rfl)
theorem dX1_waterOf_2 : decode cX1_waterOf 2 = .ok (.invokevirtual 356, 3) := dk_182 1 100 (dk_at dksX1_waterOf_0 2 rfl rfl)
theorem dX1_waterOf_5 : decode cX1_waterOf 5 = .ok (.getfield 193, 3) := dk_180 0 193 (dk_at dksX1_waterOf_0 5 rfl rfl)
theorem dX1_waterOf_8 : decode cX1_waterOf 8 = .ok (.ireturn, 1) := dk_172 (dk_at dksX1_waterOf_0 8 rfl rfl)
abbrev cX1_foodOf : ByteArray := prog_1_method_75_code
def yX1_foodOf : MethodName := ⟨RX1, "foodOf", "(I)I"⟩
def dkwX1_foodOf_0 : List UInt8 := [42, 27, 182, 1, 100, 180, 0, 199, 172]
abbrev dktX1_foodOf_0 : List UInt8 := dkwX1_foodOf_0 ++ []
theorem dksX1_foodOf_0 : cX1_foodOf.data.toList.drop 0 = dktX1_foodOf_0 := by decide +kernel
theorem dX1_foodOf_0 : decode cX1_foodOf 0 = .ok (.aload_n 0, 1) := dk_42 (dk_at dksX1_foodOf_0 0 rfl rfl)
theorem dX1_foodOf_1 : decode cX1_foodOf 1 = .ok (.iload_n 1, 1) := dk_27 (dk_at dksX1_foodOf_0 1 rfl rfl)
theorem dX1_foodOf_2 : decode cX1_foodOf 2 = .ok (.invokevirtual 356, 3) := dk_182 1 100 (dk_at dksX1_foodOf_0 2 rfl rfl)
theorem dX1_foodOf_5 : decode cX1_foodOf 5 = .ok (.getfield 199, 3) := dk_180 0 199 (dk_at dksX1_foodOf_0 5 rfl rfl)
theorem dX1_foodOf_8 : decode cX1_foodOf 8 = .ok (.ireturn, 1) := dk_172 (dk_at dksX1_foodOf_0 8 rfl rfl)
abbrev cX1_stepsOf : ByteArray := prog_1_method_76_code
def yX1_stepsOf : MethodName := ⟨RX1, "stepsOf", "(I)I"⟩
def dkwX1_stepsOf_0 : List UInt8 := [42, 27, 182, 1, 100, 180, 0, 196, 172]
abbrev dktX1_stepsOf_0 : List UInt8 := dkwX1_stepsOf_0 ++ []
theorem dksX1_stepsOf_0 : cX1_stepsOf.data.toList.drop 0 = dktX1_stepsOf_0 := by decide +kernel
theorem dX1_stepsOf_0 : decode cX1_stepsOf 0 = .ok (.aload_n 0, 1) := dk_42 (dk_at dksX1_stepsOf_0 0 rfl rfl)
theorem dX1_stepsOf_1 : decode cX1_stepsOf 1 = .ok (.iload_n 1, 1) := dk_27 (dk_at dksX1_stepsOf_0 1 rfl rfl)
theorem dX1_stepsOf_2 : decode cX1_stepsOf 2 = .ok (.invokevirtual 356, 3) := dk_182 1 100 (dk_at dksX1_stepsOf_0 2 rfl rfl)
theorem dX1_stepsOf_5 : decode cX1_stepsOf 5 = .ok (.getfield 196, 3) := dk_180 0 196 (dk_at dksX1_stepsOf_0 5 rfl rfl)
theorem dX1_stepsOf_8 : decode cX1_stepsOf 8 = .ok (.ireturn, 1) := dk_172 (dk_at dksX1_stepsOf_0 8 rfl rfl)
abbrev cX1_sizeOfShell : ByteArray := prog_1_method_83_code
def yX1_sizeOfShell : MethodName := ⟨RX1, "sizeOfShell", "(I)I"⟩
def dkwX1_sizeOfShell_0 : List UInt8 := [42, 27, 182, 1, 47, 180, 1, 104, 172]
abbrev dktX1_sizeOfShell_0 : List UInt8 := dkwX1_sizeOfShell_0 ++ []
theorem dksX1_sizeOfShell_0 : cX1_sizeOfShell.data.toList.drop 0 = dktX1_sizeOfShell_0 := by decide +kernel
theorem dX1_sizeOfShell_0 : decode cX1_sizeOfShell 0 = .ok (.aload_n 0, 1) := dk_42 (dk_at dksX1_sizeOfShell_0 0 rfl rfl)
theorem dX1_sizeOfShell_1 : decode cX1_sizeOfShell 1 = .ok (.iload_n 1, 1) := dk_27 (dk_at dksX1_sizeOfShell_0 1 rfl rfl)
theorem dX1_sizeOfShell_2 : decode cX1_sizeOfShell 2 = .ok (.invokevirtual 303, 3) := dk_182 1 47 (dk_at dksX1_sizeOfShell_0 2 rfl rfl)
theorem dX1_sizeOfShell_5 : decode cX1_sizeOfShell 5 = .ok (.getfield 360, 3) := dk_180 1 104 (dk_at dksX1_sizeOfShell_0 5 rfl rfl)
theorem dX1_sizeOfShell_8 : decode cX1_sizeOfShell 8 = .ok (.ireturn, 1) := dk_172 (dk_at dksX1_sizeOfShell_0 8 rfl rfl)
abbrev cX1_poolOfShell : ByteArray := prog_1_method_84_code
def yX1_poolOfShell : MethodName := ⟨RX1, "poolOfShell", "(I)I"⟩
def dkwX1_poolOfShell_0 : List UInt8 := [42, 27, 182, 1, 47, 180, 0, 140, 172]
abbrev dktX1_poolOfShell_0 : List UInt8 := dkwX1_poolOfShell_0 ++ []
theorem dksX1_poolOfShell_0 : cX1_poolOfShell.data.toList.drop 0 = dktX1_poolOfShell_0 := by decide +kernel
theorem dX1_poolOfShell_0 : decode cX1_poolOfShell 0 = .ok (.aload_n 0, 1) := dk_42 (dk_at dksX1_poolOfShell_0 0 rfl rfl)
theorem dX1_poolOfShell_1 : decode cX1_poolOfShell 1 = .ok (.iload_n 1, 1) := dk_27 (dk_at dksX1_poolOfShell_0 1 rfl rfl)
theorem dX1_poolOfShell_2 : decode cX1_poolOfShell 2 = .ok (.invokevirtual 303, 3) := dk_182 1 47 (dk_at dksX1_poolOfShell_0 2 rfl rfl)
theorem dX1_poolOfShell_5 : decode cX1_poolOfShell 5 = .ok (.getfield 140, 3) := dk_180 0 140 (dk_at dksX1_poolOfShell_0 5 rfl rfl)
theorem dX1_poolOfShell_8 : decode cX1_poolOfShell 8 = .ok (.ireturn, 1) := dk_172 (dk_at dksX1_poolOfShell_0 8 rfl rfl)
abbrev cX1_wearerOf : ByteArray := prog_1_method_85_code
def yX1_wearerOf : MethodName := ⟨RX1, "wearerOf", "(I)I"⟩
def dkwX1_wearerOf_0 : List UInt8 := [42, 27, 182, 1, 47, 180, 0, 134, 172]
abbrev dktX1_wearerOf_0 : List UInt8 := dkwX1_wearerOf_0 ++ []
theorem dksX1_wearerOf_0 : cX1_wearerOf.data.toList.drop 0 = dktX1_wearerOf_0 := by decide +kernel
theorem dX1_wearerOf_0 : decode cX1_wearerOf 0 = .ok (.aload_n 0, 1) := dk_42 (dk_at dksX1_wearerOf_0 0 rfl rfl)
theorem dX1_wearerOf_1 : decode cX1_wearerOf 1 = .ok (.iload_n 1, 1) := dk_27 (dk_at dksX1_wearerOf_0 1 rfl rfl)
theorem dX1_wearerOf_2 : decode cX1_wearerOf 2 = .ok (.invokevirtual 303, 3) := dk_182 1 47 (dk_at dksX1_wearerOf_0 2 rfl rfl)
theorem dX1_wearerOf_5 : decode cX1_wearerOf 5 = .ok (.getfield 134, 3) := dk_180 0 134 (dk_at dksX1_wearerOf_0 5 rfl rfl)
theorem dX1_wearerOf_8 : decode cX1_wearerOf 8 = .ok (.ireturn, 1) := dk_172 (dk_at dksX1_wearerOf_0 8 rfl rfl)
abbrev cX1_fateOfCrab : ByteArray := prog_1_method_86_code
def yX1_fateOfCrab : MethodName := ⟨RX1, "fateOfCrab", "(I)I"⟩
def dkwX1_fateOfCrab_0 : List UInt8 := [42, 27, 182, 1, 105, 180, 0, 167, 172]
abbrev dktX1_fateOfCrab_0 : List UInt8 := dkwX1_fateOfCrab_0 ++ []
theorem dksX1_fateOfCrab_0 : cX1_fateOfCrab.data.toList.drop 0 = dktX1_fateOfCrab_0 := by decide +kernel
theorem dX1_fateOfCrab_0 : decode cX1_fateOfCrab 0 = .ok (.aload_n 0, 1) := dk_42 (dk_at dksX1_fateOfCrab_0 0 rfl rfl)
theorem dX1_fateOfCrab_1 : decode cX1_fateOfCrab 1 = .ok (.iload_n 1, 1) := dk_27 (dk_at dksX1_fateOfCrab_0 1 rfl rfl)
theorem dX1_fateOfCrab_2 : decode cX1_fateOfCrab 2 = .ok (.invokevirtual 361, 3) := dk_182 1 105 (dk_at dksX1_fateOfCrab_0 2 rfl rfl)
theorem dX1_fateOfCrab_5 : decode cX1_fateOfCrab 5 = .ok (.getfield 167, 3) := dk_180 0 167 (dk_at dksX1_fateOfCrab_0 5 rfl rfl)
theorem dX1_fateOfCrab_8 : decode cX1_fateOfCrab 8 = .ok (.ireturn, 1) := dk_172 (dk_at dksX1_fateOfCrab_0 8 rfl rfl)
abbrev cX1_crab : ByteArray := prog_1_method_8_code
def yX1_crab : MethodName := ⟨RX1, "crab", "(I)LShorePools$Crab;"⟩
def dkwX1_crab_1 : List UInt8 := [182, 0, 56, 192, 0, 70, 176]
abbrev dktX1_crab_1 : List UInt8 := dkwX1_crab_1 ++ []
def dkwX1_crab_0 : List UInt8 := [27, 42, 180, 0, 10, 180, 0, 67, 182, 0, 50, 184, 0, 36, 42, 180, 0, 10, 180, 0, 67, 27]
abbrev dktX1_crab_0 : List UInt8 := dkwX1_crab_0 ++ dktX1_crab_1
theorem dksX1_crab_0 : cX1_crab.data.toList.drop 0 = dktX1_crab_0 := by decide +kernel
theorem dksX1_crab_1 : cX1_crab.data.toList.drop 22 = dktX1_crab_1 := dk_seg dksX1_crab_0 22 rfl rfl
theorem dX1_crab_0 : decode cX1_crab 0 = .ok (.iload_n 1, 1) := dk_27 (dk_at dksX1_crab_0 0 rfl rfl)
theorem dX1_crab_1 : decode cX1_crab 1 = .ok (.aload_n 0, 1) := dk_42 (dk_at dksX1_crab_0 1 rfl rfl)
theorem dX1_crab_2 : decode cX1_crab 2 = .ok (.getfield 10, 3) := dk_180 0 10 (dk_at dksX1_crab_0 2 rfl rfl)
theorem dX1_crab_5 : decode cX1_crab 5 = .ok (.getfield 67, 3) := dk_180 0 67 (dk_at dksX1_crab_0 5 rfl rfl)
theorem dX1_crab_8 : decode cX1_crab 8 = .ok (.invokevirtual 50, 3) := dk_182 0 50 (dk_at dksX1_crab_0 8 rfl rfl)
theorem dX1_crab_11 : decode cX1_crab 11 = .ok (.invokestatic 36, 3) := dk_184 0 36 (dk_at dksX1_crab_0 11 rfl rfl)
theorem dX1_crab_14 : decode cX1_crab 14 = .ok (.aload_n 0, 1) := dk_42 (dk_at dksX1_crab_0 14 rfl rfl)
theorem dX1_crab_15 : decode cX1_crab 15 = .ok (.getfield 10, 3) := dk_180 0 10 (dk_at dksX1_crab_0 15 rfl rfl)
theorem dX1_crab_18 : decode cX1_crab 18 = .ok (.getfield 67, 3) := dk_180 0 67 (dk_at dksX1_crab_0 18 rfl rfl)
theorem dX1_crab_21 : decode cX1_crab 21 = .ok (.iload_n 1, 1) := dk_27 (dk_at dksX1_crab_0 21 rfl rfl)
theorem dX1_crab_22 : decode cX1_crab 22 = .ok (.invokevirtual 56, 3) := dk_182 0 56 (dk_at dksX1_crab_1 0 rfl rfl)
theorem dX1_crab_25 : decode cX1_crab 25 = .ok (.checkcast 70, 3) := dk_192 0 70 (dk_at dksX1_crab_1 3 rfl rfl)
theorem dX1_crab_28 : decode cX1_crab 28 = .ok (.areturn, 1) := dk_176 (dk_at dksX1_crab_1 6 rfl rfl)
abbrev cX1_sizeOfCrab : ByteArray := prog_1_method_87_code
def yX1_sizeOfCrab : MethodName := ⟨RX1, "sizeOfCrab", "(I)I"⟩
def dkwX1_sizeOfCrab_0 : List UInt8 := [42, 27, 182, 1, 105, 180, 0, 148, 172]
abbrev dktX1_sizeOfCrab_0 : List UInt8 := dkwX1_sizeOfCrab_0 ++ []
theorem dksX1_sizeOfCrab_0 : cX1_sizeOfCrab.data.toList.drop 0 = dktX1_sizeOfCrab_0 := by decide +kernel
theorem dX1_sizeOfCrab_0 : decode cX1_sizeOfCrab 0 = .ok (.aload_n 0, 1) := dk_42 (dk_at dksX1_sizeOfCrab_0 0 rfl rfl)
theorem dX1_sizeOfCrab_1 : decode cX1_sizeOfCrab 1 = .ok (.iload_n 1, 1) := dk_27 (dk_at dksX1_sizeOfCrab_0 1 rfl rfl)
theorem dX1_sizeOfCrab_2 : decode cX1_sizeOfCrab 2 = .ok (.invokevirtual 361, 3) := dk_182 1 105 (dk_at dksX1_sizeOfCrab_0 2 rfl rfl)
theorem dX1_sizeOfCrab_5 : decode cX1_sizeOfCrab 5 = .ok (.getfield 148, 3) := dk_180 0 148 (dk_at dksX1_sizeOfCrab_0 5 rfl rfl)
theorem dX1_sizeOfCrab_8 : decode cX1_sizeOfCrab 8 = .ok (.ireturn, 1) := dk_172 (dk_at dksX1_sizeOfCrab_0 8 rfl rfl)
abbrev cX1_poolOfCrab : ByteArray := prog_1_method_88_code
def yX1_poolOfCrab : MethodName := ⟨RX1, "poolOfCrab", "(I)I"⟩
def dkwX1_poolOfCrab_0 : List UInt8 := [42, 27, 182, 1, 105, 180, 0, 137, 172]
abbrev dktX1_poolOfCrab_0 : List UInt8 := dkwX1_poolOfCrab_0 ++ []
theorem dksX1_poolOfCrab_0 : cX1_poolOfCrab.data.toList.drop 0 = dktX1_poolOfCrab_0 := by decide +kernel
theorem dX1_poolOfCrab_0 : decode cX1_poolOfCrab 0 = .ok (.aload_n 0, 1) := dk_42 (dk_at dksX1_poolOfCrab_0 0 rfl rfl)
theorem dX1_poolOfCrab_1 : decode cX1_poolOfCrab 1 = .ok (.iload_n 1, 1) := dk_27 (dk_at dksX1_poolOfCrab_0 1 rfl rfl)
theorem dX1_poolOfCrab_2 : decode cX1_poolOfCrab 2 = .ok (.invokevirtual 361, 3) := dk_182 1 105 (dk_at dksX1_poolOfCrab_0 2 rfl rfl)
theorem dX1_poolOfCrab_5 : decode cX1_poolOfCrab 5 = .ok (.getfield 137, 3) := dk_180 0 137 (dk_at dksX1_poolOfCrab_0 5 rfl rfl)
theorem dX1_poolOfCrab_8 : decode cX1_poolOfCrab 8 = .ok (.ireturn, 1) := dk_172 (dk_at dksX1_poolOfCrab_0 8 rfl rfl)
abbrev cX1_shellOf : ByteArray := prog_1_method_89_code
def yX1_shellOf : MethodName := ⟨RX1, "shellOf", "(I)I"⟩
def dkwX1_shellOf_0 : List UInt8 := [42, 27, 182, 1, 105, 180, 0, 113, 172]
abbrev dktX1_shellOf_0 : List UInt8 := dkwX1_shellOf_0 ++ []
theorem dksX1_shellOf_0 : cX1_shellOf.data.toList.drop 0 = dktX1_shellOf_0 := by decide +kernel
theorem dX1_shellOf_0 : decode cX1_shellOf 0 = .ok (.aload_n 0, 1) := dk_42 (dk_at dksX1_shellOf_0 0 rfl rfl)
theorem dX1_shellOf_1 : decode cX1_shellOf 1 = .ok (.iload_n 1, 1) := dk_27 (dk_at dksX1_shellOf_0 1 rfl rfl)
theorem dX1_shellOf_2 : decode cX1_shellOf 2 = .ok (.invokevirtual 361, 3) := dk_182 1 105 (dk_at dksX1_shellOf_0 2 rfl rfl)
theorem dX1_shellOf_5 : decode cX1_shellOf 5 = .ok (.getfield 113, 3) := dk_180 0 113 (dk_at dksX1_shellOf_0 5 rfl rfl)
theorem dX1_shellOf_8 : decode cX1_shellOf 8 = .ok (.ireturn, 1) := dk_172 (dk_at dksX1_shellOf_0 8 rfl rfl)
abbrev cX1_worth : ByteArray := prog_1_method_90_code
def yX1_worth : MethodName := ⟨RX1, "worth", "(II)I"⟩
def dkwX1_worth_0 : List UInt8 := [42, 27, 182, 1, 47, 42, 28, 182, 1, 105, 184, 0, 118, 172]
abbrev dktX1_worth_0 : List UInt8 := dkwX1_worth_0 ++ []
theorem dksX1_worth_0 : cX1_worth.data.toList.drop 0 = dktX1_worth_0 := by decide +kernel
theorem dX1_worth_0 : decode cX1_worth 0 = .ok (.aload_n 0, 1) := dk_42 (dk_at dksX1_worth_0 0 rfl rfl)
theorem dX1_worth_1 : decode cX1_worth 1 = .ok (.iload_n 1, 1) := dk_27 (dk_at dksX1_worth_0 1 rfl rfl)
theorem dX1_worth_2 : decode cX1_worth 2 = .ok (.invokevirtual 303, 3) := dk_182 1 47 (dk_at dksX1_worth_0 2 rfl rfl)
theorem dX1_worth_5 : decode cX1_worth 5 = .ok (.aload_n 0, 1) := dk_42 (dk_at dksX1_worth_0 5 rfl rfl)
theorem dX1_worth_6 : decode cX1_worth 6 = .ok (.iload_n 2, 1) := dk_28 (dk_at dksX1_worth_0 6 rfl rfl)
theorem dX1_worth_7 : decode cX1_worth 7 = .ok (.invokevirtual 361, 3) := dk_182 1 105 (dk_at dksX1_worth_0 7 rfl rfl)
theorem dX1_worth_10 : decode cX1_worth 10 = .ok (.invokestatic 118, 3) := dk_184 0 118 (dk_at dksX1_worth_0 10 rfl rfl)
theorem dX1_worth_13 : decode cX1_worth 13 = .ok (.ireturn, 1) := dk_172 (dk_at dksX1_worth_0 13 rfl rfl)
abbrev cX1_wouldTake : ByteArray := prog_1_method_91_code
def yX1_wouldTake : MethodName := ⟨RX1, "wouldTake", "(I)I"⟩
def dkwX1_wouldTake_1 : List UInt8 := [167, 0, 4, 2, 172]
abbrev dktX1_wouldTake_1 : List UInt8 := dkwX1_wouldTake_1 ++ []
def dkwX1_wouldTake_0 : List UInt8 := [42, 27, 182, 1, 105, 77, 44, 182, 0, 150, 153, 0, 15, 42, 44, 44, 180, 0, 137, 182, 0, 154]
abbrev dktX1_wouldTake_0 : List UInt8 := dkwX1_wouldTake_0 ++ dktX1_wouldTake_1
theorem dksX1_wouldTake_0 : cX1_wouldTake.data.toList.drop 0 = dktX1_wouldTake_0 := by decide +kernel
theorem dksX1_wouldTake_1 : cX1_wouldTake.data.toList.drop 22 = dktX1_wouldTake_1 := dk_seg dksX1_wouldTake_0 22 rfl rfl
theorem dX1_wouldTake_0 : decode cX1_wouldTake 0 = .ok (.aload_n 0, 1) := dk_42 (dk_at dksX1_wouldTake_0 0 rfl rfl)
theorem dX1_wouldTake_1 : decode cX1_wouldTake 1 = .ok (.iload_n 1, 1) := dk_27 (dk_at dksX1_wouldTake_0 1 rfl rfl)
theorem dX1_wouldTake_2 : decode cX1_wouldTake 2 = .ok (.invokevirtual 361, 3) := dk_182 1 105 (dk_at dksX1_wouldTake_0 2 rfl rfl)
theorem dX1_wouldTake_5 : decode cX1_wouldTake 5 = .ok (.astore_n 2, 1) := dk_77 (dk_at dksX1_wouldTake_0 5 rfl rfl)
theorem dX1_wouldTake_6 : decode cX1_wouldTake 6 = .ok (.aload_n 2, 1) := dk_44 (dk_at dksX1_wouldTake_0 6 rfl rfl)
theorem dX1_wouldTake_7 : decode cX1_wouldTake 7 = .ok (.invokevirtual 150, 3) := dk_182 0 150 (dk_at dksX1_wouldTake_0 7 rfl rfl)
theorem dX1_wouldTake_10 : decode cX1_wouldTake 10 = .ok (.ifCond .eq 15, 3) := dk_153 0 15 (dk_at dksX1_wouldTake_0 10 rfl rfl)
theorem dX1_wouldTake_13 : decode cX1_wouldTake 13 = .ok (.aload_n 0, 1) := dk_42 (dk_at dksX1_wouldTake_0 13 rfl rfl)
theorem dX1_wouldTake_14 : decode cX1_wouldTake 14 = .ok (.aload_n 2, 1) := dk_44 (dk_at dksX1_wouldTake_0 14 rfl rfl)
theorem dX1_wouldTake_15 : decode cX1_wouldTake 15 = .ok (.aload_n 2, 1) := dk_44 (dk_at dksX1_wouldTake_0 15 rfl rfl)
theorem dX1_wouldTake_16 : decode cX1_wouldTake 16 = .ok (.getfield 137, 3) := dk_180 0 137 (dk_at dksX1_wouldTake_0 16 rfl rfl)
theorem dX1_wouldTake_19 : decode cX1_wouldTake 19 = .ok (.invokevirtual 154, 3) := dk_182 0 154 (dk_at dksX1_wouldTake_0 19 rfl rfl)
theorem dX1_wouldTake_22 : decode cX1_wouldTake 22 = .ok (.goto 4, 3) := dk_167 0 4 (dk_at dksX1_wouldTake_1 0 rfl rfl)
theorem dX1_wouldTake_25 : decode cX1_wouldTake 25 = .ok (.iconst (-1), 1) := dk_2 (dk_at dksX1_wouldTake_1 3 rfl rfl)
theorem dX1_wouldTake_26 : decode cX1_wouldTake 26 = .ok (.ireturn, 1) := dk_172 (dk_at dksX1_wouldTake_1 4 rfl rfl)
abbrev cX1_changesOf : ByteArray := prog_1_method_92_code
def yX1_changesOf : MethodName := ⟨RX1, "changesOf", "(I)I"⟩
def dkwX1_changesOf_0 : List UInt8 := [42, 27, 182, 1, 105, 180, 0, 145, 172]
abbrev dktX1_changesOf_0 : List UInt8 := dkwX1_changesOf_0 ++ []
theorem dksX1_changesOf_0 : cX1_changesOf.data.toList.drop 0 = dktX1_changesOf_0 := by decide +kernel
theorem dX1_changesOf_0 : decode cX1_changesOf 0 = .ok (.aload_n 0, 1) := dk_42 (dk_at dksX1_changesOf_0 0 rfl rfl)
theorem dX1_changesOf_1 : decode cX1_changesOf 1 = .ok (.iload_n 1, 1) := dk_27 (dk_at dksX1_changesOf_0 1 rfl rfl)
theorem dX1_changesOf_2 : decode cX1_changesOf 2 = .ok (.invokevirtual 361, 3) := dk_182 1 105 (dk_at dksX1_changesOf_0 2 rfl rfl)
theorem dX1_changesOf_5 : decode cX1_changesOf 5 = .ok (.getfield 145, 3) := dk_180 0 145 (dk_at dksX1_changesOf_0 5 rfl rfl)
theorem dX1_changesOf_8 : decode cX1_changesOf 8 = .ok (.ireturn, 1) := dk_172 (dk_at dksX1_changesOf_0 8 rfl rfl)
abbrev cX1_preyIn : ByteArray := prog_1_method_95_code
def yX1_preyIn : MethodName := ⟨RX1, "preyIn", "(I)I"⟩
def dkwX1_preyIn_0 : List UInt8 := [27, 184, 1, 21, 42, 27, 182, 0, 230, 172]
abbrev dktX1_preyIn_0 : List UInt8 := dkwX1_preyIn_0 ++ []
theorem dksX1_preyIn_0 : cX1_preyIn.data.toList.drop 0 = dktX1_preyIn_0 := by decide +kernel
theorem dX1_preyIn_0 : decode cX1_preyIn 0 = .ok (.iload_n 1, 1) := dk_27 (dk_at dksX1_preyIn_0 0 rfl rfl)
theorem dX1_preyIn_1 : decode cX1_preyIn 1 = .ok (.invokestatic 277, 3) := dk_184 1 21 (dk_at dksX1_preyIn_0 1 rfl rfl)
theorem dX1_preyIn_4 : decode cX1_preyIn 4 = .ok (.aload_n 0, 1) := dk_42 (dk_at dksX1_preyIn_0 4 rfl rfl)
theorem dX1_preyIn_5 : decode cX1_preyIn 5 = .ok (.iload_n 1, 1) := dk_27 (dk_at dksX1_preyIn_0 5 rfl rfl)
theorem dX1_preyIn_6 : decode cX1_preyIn 6 = .ok (.invokevirtual 230, 3) := dk_182 0 230 (dk_at dksX1_preyIn_0 6 rfl rfl)
theorem dX1_preyIn_9 : decode cX1_preyIn 9 = .ok (.ireturn, 1) := dk_172 (dk_at dksX1_preyIn_0 9 rfl rfl)
abbrev cX1_chainBy : ByteArray := prog_1_method_101_code
def yX1_chainBy : MethodName := ⟨RX1, "chainBy", "(II)I"⟩
def dkwX1_chainBy_0 : List UInt8 := [27, 184, 1, 21, 28, 4, 16, 20, 184, 1, 36, 42, 27, 28, 182, 1, 119, 172]
abbrev dktX1_chainBy_0 : List UInt8 := dkwX1_chainBy_0 ++ []
theorem dksX1_chainBy_0 : cX1_chainBy.data.toList.drop 0 = dktX1_chainBy_0 := by decide +kernel
theorem dX1_chainBy_0 : decode cX1_chainBy 0 = .ok (.iload_n 1, 1) := dk_27 (dk_at dksX1_chainBy_0 0 rfl rfl)
theorem dX1_chainBy_1 : decode cX1_chainBy 1 = .ok (.invokestatic 277, 3) := dk_184 1 21 (dk_at dksX1_chainBy_0 1 rfl rfl)
theorem dX1_chainBy_4 : decode cX1_chainBy 4 = .ok (.iload_n 2, 1) := dk_28 (dk_at dksX1_chainBy_0 4 rfl rfl)
theorem dX1_chainBy_5 : decode cX1_chainBy 5 = .ok (.iconst 1, 1) := dk_4 (dk_at dksX1_chainBy_0 5 rfl rfl)
theorem dX1_chainBy_6 : decode cX1_chainBy 6 = .ok (.bipush 20, 2) := dk_16 20 (dk_at dksX1_chainBy_0 6 rfl rfl)
theorem dX1_chainBy_8 : decode cX1_chainBy 8 = .ok (.invokestatic 292, 3) := dk_184 1 36 (dk_at dksX1_chainBy_0 8 rfl rfl)
theorem dX1_chainBy_11 : decode cX1_chainBy 11 = .ok (.aload_n 0, 1) := dk_42 (dk_at dksX1_chainBy_0 11 rfl rfl)
theorem dX1_chainBy_12 : decode cX1_chainBy 12 = .ok (.iload_n 1, 1) := dk_27 (dk_at dksX1_chainBy_0 12 rfl rfl)
theorem dX1_chainBy_13 : decode cX1_chainBy 13 = .ok (.iload_n 2, 1) := dk_28 (dk_at dksX1_chainBy_0 13 rfl rfl)
theorem dX1_chainBy_14 : decode cX1_chainBy 14 = .ok (.invokevirtual 375, 3) := dk_182 1 119 (dk_at dksX1_chainBy_0 14 rfl rfl)
theorem dX1_chainBy_17 : decode cX1_chainBy 17 = .ok (.ireturn, 1) := dk_172 (dk_at dksX1_chainBy_0 17 rfl rfl)
abbrev cX1_chain : ByteArray := prog_1_method_98_code
def yX1_chain : MethodName := ⟨RX1, "chain", "(II)I"⟩
def dkwX1_chain_10 : List UInt8 := [180, 0, 30, 21, 7, 21, 8, 79, 132, 4, 1, 132, 6, 1, 167, 255, 131, 21, 4, 172]
abbrev dktX1_chain_10 : List UInt8 := dkwX1_chain_10 ++ []
def dkwX1_chain_9 : List UInt8 := [180, 0, 27, 42, 180, 0, 30, 21, 7, 46, 2, 79, 42, 180, 0, 27, 21, 8, 21, 7, 79, 42]
abbrev dktX1_chain_9 : List UInt8 := dkwX1_chain_9 ++ dktX1_chain_10
def dkwX1_chain_8 : List UInt8 := [167, 0, 4, 2, 54, 8, 21, 8, 2, 159, 0, 48, 42, 180, 0, 30, 21, 7, 46, 2, 159, 0, 16, 42]
abbrev dktX1_chain_8 : List UInt8 := dkwX1_chain_8 ++ dktX1_chain_9
def dkwX1_chain_7 : List UInt8 := [180, 0, 67, 21, 7, 182, 0, 56, 192, 0, 70, 42, 180, 0, 30, 21, 7, 46, 27, 28, 182, 1, 109]
abbrev dktX1_chain_7 : List UInt8 := dkwX1_chain_7 ++ dktX1_chain_8
def dkwX1_chain_6 : List UInt8 := [180, 0, 67, 21, 7, 182, 0, 56, 192, 0, 70, 182, 0, 150, 153, 0, 34, 42, 42, 180, 0, 10]
abbrev dktX1_chain_6 : List UInt8 := dkwX1_chain_6 ++ dktX1_chain_7
def dkwX1_chain_5 : List UInt8 := [3, 54, 6, 21, 6, 21, 5, 162, 0, 124, 42, 180, 0, 23, 21, 6, 46, 54, 7, 42, 180, 0, 10]
abbrev dktX1_chain_5 : List UInt8 := dkwX1_chain_5 ++ dktX1_chain_6
def dkwX1_chain_4 : List UInt8 := [180, 0, 10, 180, 0, 67, 21, 6, 182, 0, 56, 192, 0, 70, 180, 0, 113, 79, 132, 6, 1, 167, 255, 221]
abbrev dktX1_chain_4 : List UInt8 := dkwX1_chain_4 ++ dktX1_chain_5
def dkwX1_chain_3 : List UInt8 := [182, 0, 50, 54, 5, 3, 54, 6, 21, 6, 21, 5, 162, 0, 34, 42, 180, 0, 30, 21, 6, 42]
abbrev dktX1_chain_3 : List UInt8 := dkwX1_chain_3 ++ dktX1_chain_4
def dkwX1_chain_2 : List UInt8 := [167, 255, 222, 42, 180, 0, 27, 29, 2, 79, 42, 182, 0, 164, 3, 54, 4, 42, 180, 0, 10, 180, 0, 67]
abbrev dktX1_chain_2 : List UInt8 := dkwX1_chain_2 ++ dktX1_chain_3
def dkwX1_chain_1 : List UInt8 := [21, 4, 42, 180, 0, 10, 180, 0, 62, 21, 4, 182, 0, 56, 192, 0, 65, 180, 0, 134, 79, 132, 4, 1]
abbrev dktX1_chain_1 : List UInt8 := dkwX1_chain_1 ++ dktX1_chain_2
def dkwX1_chain_0 : List UInt8 := [42, 180, 0, 10, 180, 0, 62, 182, 0, 50, 62, 3, 54, 4, 21, 4, 29, 162, 0, 34, 42, 180, 0, 27]
abbrev dktX1_chain_0 : List UInt8 := dkwX1_chain_0 ++ dktX1_chain_1
theorem dksX1_chain_0 : cX1_chain.data.toList.drop 0 = dktX1_chain_0 := by decide +kernel
theorem dksX1_chain_1 : cX1_chain.data.toList.drop 24 = dktX1_chain_1 := dk_seg dksX1_chain_0 24 rfl rfl
theorem dksX1_chain_2 : cX1_chain.data.toList.drop 48 = dktX1_chain_2 := dk_seg dksX1_chain_1 24 rfl rfl
theorem dksX1_chain_3 : cX1_chain.data.toList.drop 72 = dktX1_chain_3 := dk_seg dksX1_chain_2 24 rfl rfl
theorem dksX1_chain_4 : cX1_chain.data.toList.drop 94 = dktX1_chain_4 := dk_seg dksX1_chain_3 22 rfl rfl
theorem dksX1_chain_5 : cX1_chain.data.toList.drop 118 = dktX1_chain_5 := dk_seg dksX1_chain_4 24 rfl rfl
theorem dksX1_chain_6 : cX1_chain.data.toList.drop 141 = dktX1_chain_6 := dk_seg dksX1_chain_5 23 rfl rfl
theorem dksX1_chain_7 : cX1_chain.data.toList.drop 163 = dktX1_chain_7 := dk_seg dksX1_chain_6 22 rfl rfl
theorem dksX1_chain_8 : cX1_chain.data.toList.drop 186 = dktX1_chain_8 := dk_seg dksX1_chain_7 23 rfl rfl
theorem dksX1_chain_9 : cX1_chain.data.toList.drop 210 = dktX1_chain_9 := dk_seg dksX1_chain_8 24 rfl rfl
theorem dksX1_chain_10 : cX1_chain.data.toList.drop 232 = dktX1_chain_10 := dk_seg dksX1_chain_9 22 rfl rfl
theorem dX1_chain_0 : decode cX1_chain 0 = .ok (.aload_n 0, 1) := dk_42 (dk_at dksX1_chain_0 0 rfl rfl)
theorem dX1_chain_1 : decode cX1_chain 1 = .ok (.getfield 10, 3) := dk_180 0 10 (dk_at dksX1_chain_0 1 rfl rfl)
theorem dX1_chain_4 : decode cX1_chain 4 = .ok (.getfield 62, 3) := dk_180 0 62 (dk_at dksX1_chain_0 4 rfl rfl)
theorem dX1_chain_7 : decode cX1_chain 7 = .ok (.invokevirtual 50, 3) := dk_182 0 50 (dk_at dksX1_chain_0 7 rfl rfl)
theorem dX1_chain_10 : decode cX1_chain 10 = .ok (.istore_n 3, 1) := dk_62 (dk_at dksX1_chain_0 10 rfl rfl)
theorem dX1_chain_11 : decode cX1_chain 11 = .ok (.iconst 0, 1) := dk_3 (dk_at dksX1_chain_0 11 rfl rfl)
theorem dX1_chain_12 : decode cX1_chain 12 = .ok (.istore 4, 2) := dk_54 4 (dk_at dksX1_chain_0 12 rfl rfl)
theorem dX1_chain_14 : decode cX1_chain 14 = .ok (.iload 4, 2) := dk_21 4 (dk_at dksX1_chain_0 14 rfl rfl)
theorem dX1_chain_16 : decode cX1_chain 16 = .ok (.iload_n 3, 1) := dk_29 (dk_at dksX1_chain_0 16 rfl rfl)
theorem dX1_chain_17 : decode cX1_chain 17 = .ok (.if_icmp .ge 34, 3) := dk_162 0 34 (dk_at dksX1_chain_0 17 rfl rfl)
theorem dX1_chain_20 : decode cX1_chain 20 = .ok (.aload_n 0, 1) := dk_42 (dk_at dksX1_chain_0 20 rfl rfl)
theorem dX1_chain_21 : decode cX1_chain 21 = .ok (.getfield 27, 3) := dk_180 0 27 (dk_at dksX1_chain_0 21 rfl rfl)
theorem dX1_chain_24 : decode cX1_chain 24 = .ok (.iload 4, 2) := dk_21 4 (dk_at dksX1_chain_1 0 rfl rfl)
theorem dX1_chain_26 : decode cX1_chain 26 = .ok (.aload_n 0, 1) := dk_42 (dk_at dksX1_chain_1 2 rfl rfl)
theorem dX1_chain_27 : decode cX1_chain 27 = .ok (.getfield 10, 3) := dk_180 0 10 (dk_at dksX1_chain_1 3 rfl rfl)
theorem dX1_chain_30 : decode cX1_chain 30 = .ok (.getfield 62, 3) := dk_180 0 62 (dk_at dksX1_chain_1 6 rfl rfl)
theorem dX1_chain_33 : decode cX1_chain 33 = .ok (.iload 4, 2) := dk_21 4 (dk_at dksX1_chain_1 9 rfl rfl)
theorem dX1_chain_35 : decode cX1_chain 35 = .ok (.invokevirtual 56, 3) := dk_182 0 56 (dk_at dksX1_chain_1 11 rfl rfl)
theorem dX1_chain_38 : decode cX1_chain 38 = .ok (.checkcast 65, 3) := dk_192 0 65 (dk_at dksX1_chain_1 14 rfl rfl)
theorem dX1_chain_41 : decode cX1_chain 41 = .ok (.getfield 134, 3) := dk_180 0 134 (dk_at dksX1_chain_1 17 rfl rfl)
theorem dX1_chain_44 : decode cX1_chain 44 = .ok (.iastore, 1) := dk_79 (dk_at dksX1_chain_1 20 rfl rfl)
theorem dX1_chain_45 : decode cX1_chain 45 = .ok (.iinc 4 1, 3) := dk_132 4 1 (dk_at dksX1_chain_1 21 rfl rfl)
theorem dX1_chain_48 : decode cX1_chain 48 = .ok (.goto (-34), 3) := dk_167 255 222 (dk_at dksX1_chain_2 0 rfl rfl)
theorem dX1_chain_51 : decode cX1_chain 51 = .ok (.aload_n 0, 1) := dk_42 (dk_at dksX1_chain_2 3 rfl rfl)
theorem dX1_chain_52 : decode cX1_chain 52 = .ok (.getfield 27, 3) := dk_180 0 27 (dk_at dksX1_chain_2 4 rfl rfl)
theorem dX1_chain_55 : decode cX1_chain 55 = .ok (.iload_n 3, 1) := dk_29 (dk_at dksX1_chain_2 7 rfl rfl)
theorem dX1_chain_56 : decode cX1_chain 56 = .ok (.iconst (-1), 1) := dk_2 (dk_at dksX1_chain_2 8 rfl rfl)
theorem dX1_chain_57 : decode cX1_chain 57 = .ok (.iastore, 1) := dk_79 (dk_at dksX1_chain_2 9 rfl rfl)
theorem dX1_chain_58 : decode cX1_chain 58 = .ok (.aload_n 0, 1) := dk_42 (dk_at dksX1_chain_2 10 rfl rfl)
theorem dX1_chain_59 : decode cX1_chain 59 = .ok (.invokevirtual 164, 3) := dk_182 0 164 (dk_at dksX1_chain_2 11 rfl rfl)
theorem dX1_chain_62 : decode cX1_chain 62 = .ok (.iconst 0, 1) := dk_3 (dk_at dksX1_chain_2 14 rfl rfl)
theorem dX1_chain_63 : decode cX1_chain 63 = .ok (.istore 4, 2) := dk_54 4 (dk_at dksX1_chain_2 15 rfl rfl)
theorem dX1_chain_65 : decode cX1_chain 65 = .ok (.aload_n 0, 1) := dk_42 (dk_at dksX1_chain_2 17 rfl rfl)
theorem dX1_chain_66 : decode cX1_chain 66 = .ok (.getfield 10, 3) := dk_180 0 10 (dk_at dksX1_chain_2 18 rfl rfl)
theorem dX1_chain_69 : decode cX1_chain 69 = .ok (.getfield 67, 3) := dk_180 0 67 (dk_at dksX1_chain_2 21 rfl rfl)
theorem dX1_chain_72 : decode cX1_chain 72 = .ok (.invokevirtual 50, 3) := dk_182 0 50 (dk_at dksX1_chain_3 0 rfl rfl)
theorem dX1_chain_75 : decode cX1_chain 75 = .ok (.istore 5, 2) := dk_54 5 (dk_at dksX1_chain_3 3 rfl rfl)
theorem dX1_chain_77 : decode cX1_chain 77 = .ok (.iconst 0, 1) := dk_3 (dk_at dksX1_chain_3 5 rfl rfl)
theorem dX1_chain_78 : decode cX1_chain 78 = .ok (.istore 6, 2) := dk_54 6 (dk_at dksX1_chain_3 6 rfl rfl)
theorem dX1_chain_80 : decode cX1_chain 80 = .ok (.iload 6, 2) := dk_21 6 (dk_at dksX1_chain_3 8 rfl rfl)
theorem dX1_chain_82 : decode cX1_chain 82 = .ok (.iload 5, 2) := dk_21 5 (dk_at dksX1_chain_3 10 rfl rfl)
theorem dX1_chain_84 : decode cX1_chain 84 = .ok (.if_icmp .ge 34, 3) := dk_162 0 34 (dk_at dksX1_chain_3 12 rfl rfl)
theorem dX1_chain_87 : decode cX1_chain 87 = .ok (.aload_n 0, 1) := dk_42 (dk_at dksX1_chain_3 15 rfl rfl)
theorem dX1_chain_88 : decode cX1_chain 88 = .ok (.getfield 30, 3) := dk_180 0 30 (dk_at dksX1_chain_3 16 rfl rfl)
theorem dX1_chain_91 : decode cX1_chain 91 = .ok (.iload 6, 2) := dk_21 6 (dk_at dksX1_chain_3 19 rfl rfl)
theorem dX1_chain_93 : decode cX1_chain 93 = .ok (.aload_n 0, 1) := dk_42 (dk_at dksX1_chain_3 21 rfl rfl)
theorem dX1_chain_94 : decode cX1_chain 94 = .ok (.getfield 10, 3) := dk_180 0 10 (dk_at dksX1_chain_4 0 rfl rfl)
theorem dX1_chain_97 : decode cX1_chain 97 = .ok (.getfield 67, 3) := dk_180 0 67 (dk_at dksX1_chain_4 3 rfl rfl)
theorem dX1_chain_100 : decode cX1_chain 100 = .ok (.iload 6, 2) := dk_21 6 (dk_at dksX1_chain_4 6 rfl rfl)
theorem dX1_chain_102 : decode cX1_chain 102 = .ok (.invokevirtual 56, 3) := dk_182 0 56 (dk_at dksX1_chain_4 8 rfl rfl)
theorem dX1_chain_105 : decode cX1_chain 105 = .ok (.checkcast 70, 3) := dk_192 0 70 (dk_at dksX1_chain_4 11 rfl rfl)
theorem dX1_chain_108 : decode cX1_chain 108 = .ok (.getfield 113, 3) := dk_180 0 113 (dk_at dksX1_chain_4 14 rfl rfl)
theorem dX1_chain_111 : decode cX1_chain 111 = .ok (.iastore, 1) := dk_79 (dk_at dksX1_chain_4 17 rfl rfl)
theorem dX1_chain_112 : decode cX1_chain 112 = .ok (.iinc 6 1, 3) := dk_132 6 1 (dk_at dksX1_chain_4 18 rfl rfl)
theorem dX1_chain_115 : decode cX1_chain 115 = .ok (.goto (-35), 3) := dk_167 255 221 (dk_at dksX1_chain_4 21 rfl rfl)
theorem dX1_chain_118 : decode cX1_chain 118 = .ok (.iconst 0, 1) := dk_3 (dk_at dksX1_chain_5 0 rfl rfl)
theorem dX1_chain_119 : decode cX1_chain 119 = .ok (.istore 6, 2) := dk_54 6 (dk_at dksX1_chain_5 1 rfl rfl)
theorem dX1_chain_121 : decode cX1_chain 121 = .ok (.iload 6, 2) := dk_21 6 (dk_at dksX1_chain_5 3 rfl rfl)
theorem dX1_chain_123 : decode cX1_chain 123 = .ok (.iload 5, 2) := dk_21 5 (dk_at dksX1_chain_5 5 rfl rfl)
theorem dX1_chain_125 : decode cX1_chain 125 = .ok (.if_icmp .ge 124, 3) := dk_162 0 124 (dk_at dksX1_chain_5 7 rfl rfl)
theorem dX1_chain_128 : decode cX1_chain 128 = .ok (.aload_n 0, 1) := dk_42 (dk_at dksX1_chain_5 10 rfl rfl)
theorem dX1_chain_129 : decode cX1_chain 129 = .ok (.getfield 23, 3) := dk_180 0 23 (dk_at dksX1_chain_5 11 rfl rfl)
theorem dX1_chain_132 : decode cX1_chain 132 = .ok (.iload 6, 2) := dk_21 6 (dk_at dksX1_chain_5 14 rfl rfl)
theorem dX1_chain_134 : decode cX1_chain 134 = .ok (.iaload, 1) := dk_46 (dk_at dksX1_chain_5 16 rfl rfl)
theorem dX1_chain_135 : decode cX1_chain 135 = .ok (.istore 7, 2) := dk_54 7 (dk_at dksX1_chain_5 17 rfl rfl)
theorem dX1_chain_137 : decode cX1_chain 137 = .ok (.aload_n 0, 1) := dk_42 (dk_at dksX1_chain_5 19 rfl rfl)
theorem dX1_chain_138 : decode cX1_chain 138 = .ok (.getfield 10, 3) := dk_180 0 10 (dk_at dksX1_chain_5 20 rfl rfl)
theorem dX1_chain_141 : decode cX1_chain 141 = .ok (.getfield 67, 3) := dk_180 0 67 (dk_at dksX1_chain_6 0 rfl rfl)
theorem dX1_chain_144 : decode cX1_chain 144 = .ok (.iload 7, 2) := dk_21 7 (dk_at dksX1_chain_6 3 rfl rfl)
theorem dX1_chain_146 : decode cX1_chain 146 = .ok (.invokevirtual 56, 3) := dk_182 0 56 (dk_at dksX1_chain_6 5 rfl rfl)
theorem dX1_chain_149 : decode cX1_chain 149 = .ok (.checkcast 70, 3) := dk_192 0 70 (dk_at dksX1_chain_6 8 rfl rfl)
theorem dX1_chain_152 : decode cX1_chain 152 = .ok (.invokevirtual 150, 3) := dk_182 0 150 (dk_at dksX1_chain_6 11 rfl rfl)
theorem dX1_chain_155 : decode cX1_chain 155 = .ok (.ifCond .eq 34, 3) := dk_153 0 34 (dk_at dksX1_chain_6 14 rfl rfl)
theorem dX1_chain_158 : decode cX1_chain 158 = .ok (.aload_n 0, 1) := dk_42 (dk_at dksX1_chain_6 17 rfl rfl)
theorem dX1_chain_159 : decode cX1_chain 159 = .ok (.aload_n 0, 1) := dk_42 (dk_at dksX1_chain_6 18 rfl rfl)
theorem dX1_chain_160 : decode cX1_chain 160 = .ok (.getfield 10, 3) := dk_180 0 10 (dk_at dksX1_chain_6 19 rfl rfl)
theorem dX1_chain_163 : decode cX1_chain 163 = .ok (.getfield 67, 3) := dk_180 0 67 (dk_at dksX1_chain_7 0 rfl rfl)
theorem dX1_chain_166 : decode cX1_chain 166 = .ok (.iload 7, 2) := dk_21 7 (dk_at dksX1_chain_7 3 rfl rfl)
theorem dX1_chain_168 : decode cX1_chain 168 = .ok (.invokevirtual 56, 3) := dk_182 0 56 (dk_at dksX1_chain_7 5 rfl rfl)
theorem dX1_chain_171 : decode cX1_chain 171 = .ok (.checkcast 70, 3) := dk_192 0 70 (dk_at dksX1_chain_7 8 rfl rfl)
theorem dX1_chain_174 : decode cX1_chain 174 = .ok (.aload_n 0, 1) := dk_42 (dk_at dksX1_chain_7 11 rfl rfl)
theorem dX1_chain_175 : decode cX1_chain 175 = .ok (.getfield 30, 3) := dk_180 0 30 (dk_at dksX1_chain_7 12 rfl rfl)
theorem dX1_chain_178 : decode cX1_chain 178 = .ok (.iload 7, 2) := dk_21 7 (dk_at dksX1_chain_7 15 rfl rfl)
theorem dX1_chain_180 : decode cX1_chain 180 = .ok (.iaload, 1) := dk_46 (dk_at dksX1_chain_7 17 rfl rfl)
theorem dX1_chain_181 : decode cX1_chain 181 = .ok (.iload_n 1, 1) := dk_27 (dk_at dksX1_chain_7 18 rfl rfl)
theorem dX1_chain_182 : decode cX1_chain 182 = .ok (.iload_n 2, 1) := dk_28 (dk_at dksX1_chain_7 19 rfl rfl)
theorem dX1_chain_183 : decode cX1_chain 183 = .ok (.invokevirtual 365, 3) := dk_182 1 109 (dk_at dksX1_chain_7 20 rfl rfl)
theorem dX1_chain_186 : decode cX1_chain 186 = .ok (.goto 4, 3) := dk_167 0 4 (dk_at dksX1_chain_8 0 rfl rfl)
theorem dX1_chain_189 : decode cX1_chain 189 = .ok (.iconst (-1), 1) := dk_2 (dk_at dksX1_chain_8 3 rfl rfl)
theorem dX1_chain_190 : decode cX1_chain 190 = .ok (.istore 8, 2) := dk_54 8 (dk_at dksX1_chain_8 4 rfl rfl)
theorem dX1_chain_192 : decode cX1_chain 192 = .ok (.iload 8, 2) := dk_21 8 (dk_at dksX1_chain_8 6 rfl rfl)
theorem dX1_chain_194 : decode cX1_chain 194 = .ok (.iconst (-1), 1) := dk_2 (dk_at dksX1_chain_8 8 rfl rfl)
theorem dX1_chain_195 : decode cX1_chain 195 = .ok (.if_icmp .eq 48, 3) := dk_159 0 48 (dk_at dksX1_chain_8 9 rfl rfl)
theorem dX1_chain_198 : decode cX1_chain 198 = .ok (.aload_n 0, 1) := dk_42 (dk_at dksX1_chain_8 12 rfl rfl)
theorem dX1_chain_199 : decode cX1_chain 199 = .ok (.getfield 30, 3) := dk_180 0 30 (dk_at dksX1_chain_8 13 rfl rfl)
theorem dX1_chain_202 : decode cX1_chain 202 = .ok (.iload 7, 2) := dk_21 7 (dk_at dksX1_chain_8 16 rfl rfl)
theorem dX1_chain_204 : decode cX1_chain 204 = .ok (.iaload, 1) := dk_46 (dk_at dksX1_chain_8 18 rfl rfl)
theorem dX1_chain_205 : decode cX1_chain 205 = .ok (.iconst (-1), 1) := dk_2 (dk_at dksX1_chain_8 19 rfl rfl)
theorem dX1_chain_206 : decode cX1_chain 206 = .ok (.if_icmp .eq 16, 3) := dk_159 0 16 (dk_at dksX1_chain_8 20 rfl rfl)
theorem dX1_chain_209 : decode cX1_chain 209 = .ok (.aload_n 0, 1) := dk_42 (dk_at dksX1_chain_8 23 rfl rfl)
theorem dX1_chain_210 : decode cX1_chain 210 = .ok (.getfield 27, 3) := dk_180 0 27 (dk_at dksX1_chain_9 0 rfl rfl)
theorem dX1_chain_213 : decode cX1_chain 213 = .ok (.aload_n 0, 1) := dk_42 (dk_at dksX1_chain_9 3 rfl rfl)
theorem dX1_chain_214 : decode cX1_chain 214 = .ok (.getfield 30, 3) := dk_180 0 30 (dk_at dksX1_chain_9 4 rfl rfl)
theorem dX1_chain_217 : decode cX1_chain 217 = .ok (.iload 7, 2) := dk_21 7 (dk_at dksX1_chain_9 7 rfl rfl)
theorem dX1_chain_219 : decode cX1_chain 219 = .ok (.iaload, 1) := dk_46 (dk_at dksX1_chain_9 9 rfl rfl)
theorem dX1_chain_220 : decode cX1_chain 220 = .ok (.iconst (-1), 1) := dk_2 (dk_at dksX1_chain_9 10 rfl rfl)
theorem dX1_chain_221 : decode cX1_chain 221 = .ok (.iastore, 1) := dk_79 (dk_at dksX1_chain_9 11 rfl rfl)
theorem dX1_chain_222 : decode cX1_chain 222 = .ok (.aload_n 0, 1) := dk_42 (dk_at dksX1_chain_9 12 rfl rfl)
theorem dX1_chain_223 : decode cX1_chain 223 = .ok (.getfield 27, 3) := dk_180 0 27 (dk_at dksX1_chain_9 13 rfl rfl)
theorem dX1_chain_226 : decode cX1_chain 226 = .ok (.iload 8, 2) := dk_21 8 (dk_at dksX1_chain_9 16 rfl rfl)
theorem dX1_chain_228 : decode cX1_chain 228 = .ok (.iload 7, 2) := dk_21 7 (dk_at dksX1_chain_9 18 rfl rfl)
theorem dX1_chain_230 : decode cX1_chain 230 = .ok (.iastore, 1) := dk_79 (dk_at dksX1_chain_9 20 rfl rfl)
theorem dX1_chain_231 : decode cX1_chain 231 = .ok (.aload_n 0, 1) := dk_42 (dk_at dksX1_chain_9 21 rfl rfl)
theorem dX1_chain_232 : decode cX1_chain 232 = .ok (.getfield 30, 3) := dk_180 0 30 (dk_at dksX1_chain_10 0 rfl rfl)
theorem dX1_chain_235 : decode cX1_chain 235 = .ok (.iload 7, 2) := dk_21 7 (dk_at dksX1_chain_10 3 rfl rfl)
theorem dX1_chain_237 : decode cX1_chain 237 = .ok (.iload 8, 2) := dk_21 8 (dk_at dksX1_chain_10 5 rfl rfl)
theorem dX1_chain_239 : decode cX1_chain 239 = .ok (.iastore, 1) := dk_79 (dk_at dksX1_chain_10 7 rfl rfl)
theorem dX1_chain_240 : decode cX1_chain 240 = .ok (.iinc 4 1, 3) := dk_132 4 1 (dk_at dksX1_chain_10 8 rfl rfl)
theorem dX1_chain_243 : decode cX1_chain 243 = .ok (.iinc 6 1, 3) := dk_132 6 1 (dk_at dksX1_chain_10 11 rfl rfl)
theorem dX1_chain_246 : decode cX1_chain 246 = .ok (.goto (-125), 3) := dk_167 255 131 (dk_at dksX1_chain_10 14 rfl rfl)
theorem dX1_chain_249 : decode cX1_chain 249 = .ok (.iload 4, 2) := dk_21 4 (dk_at dksX1_chain_10 17 rfl rfl)
theorem dX1_chain_251 : decode cX1_chain 251 = .ok (.ireturn, 1) := dk_172 (dk_at dksX1_chain_10 19 rfl rfl)
abbrev cX1_trialShell : ByteArray := prog_1_method_100_code
def yX1_trialShell : MethodName := ⟨RX1, "trialShell", "(LShorePools$Crab;III)I"⟩
def dkwX1_trialShell_6 : List UInt8 := [167, 255, 162, 21, 5, 172]
abbrev dktX1_trialShell_6 : List UInt8 := dkwX1_trialShell_6 ++ []
def dkwX1_trialShell_5 : List UInt8 := [180, 0, 137, 160, 0, 18, 21, 10, 21, 6, 164, 0, 11, 21, 8, 54, 5, 21, 10, 54, 6, 132, 8, 1]
abbrev dktX1_trialShell_5 : List UInt8 := dkwX1_trialShell_5 ++ dktX1_trialShell_6
def dkwX1_trialShell_4 : List UInt8 := [180, 0, 148, 100, 184, 1, 116, 54, 10, 42, 180, 0, 27, 21, 8, 46, 2, 160, 0, 27, 21, 9, 43]
abbrev dktX1_trialShell_4 : List UInt8 := dkwX1_trialShell_4 ++ dktX1_trialShell_5
def dkwX1_trialShell_3 : List UInt8 := [21, 8, 182, 0, 56, 192, 0, 65, 180, 0, 140, 54, 9, 42, 21, 8, 21, 4, 182, 1, 113, 43]
abbrev dktX1_trialShell_3 : List UInt8 := dkwX1_trialShell_3 ++ dktX1_trialShell_4
def dkwX1_trialShell_2 : List UInt8 := [21, 7, 163, 0, 93, 21, 8, 21, 7, 160, 0, 7, 29, 167, 0, 21, 42, 180, 0, 10, 180, 0, 62]
abbrev dktX1_trialShell_2 : List UInt8 := dkwX1_trialShell_2 ++ dktX1_trialShell_3
def dkwX1_trialShell_1 : List UInt8 := [100, 184, 1, 116, 54, 6, 42, 180, 0, 10, 180, 0, 62, 182, 0, 50, 54, 7, 3, 54, 8, 21, 8]
abbrev dktX1_trialShell_1 : List UInt8 := dkwX1_trialShell_1 ++ dktX1_trialShell_2
def dkwX1_trialShell_0 : List UInt8 := [2, 54, 5, 28, 2, 160, 0, 8, 16, 216, 167, 0, 18, 42, 28, 21, 4, 182, 1, 113, 43, 180, 0, 148]
abbrev dktX1_trialShell_0 : List UInt8 := dkwX1_trialShell_0 ++ dktX1_trialShell_1
theorem dksX1_trialShell_0 : cX1_trialShell.data.toList.drop 0 = dktX1_trialShell_0 := by decide +kernel
theorem dksX1_trialShell_1 : cX1_trialShell.data.toList.drop 24 = dktX1_trialShell_1 := dk_seg dksX1_trialShell_0 24 rfl rfl
theorem dksX1_trialShell_2 : cX1_trialShell.data.toList.drop 47 = dktX1_trialShell_2 := dk_seg dksX1_trialShell_1 23 rfl rfl
theorem dksX1_trialShell_3 : cX1_trialShell.data.toList.drop 70 = dktX1_trialShell_3 := dk_seg dksX1_trialShell_2 23 rfl rfl
theorem dksX1_trialShell_4 : cX1_trialShell.data.toList.drop 92 = dktX1_trialShell_4 := dk_seg dksX1_trialShell_3 22 rfl rfl
theorem dksX1_trialShell_5 : cX1_trialShell.data.toList.drop 115 = dktX1_trialShell_5 := dk_seg dksX1_trialShell_4 23 rfl rfl
theorem dksX1_trialShell_6 : cX1_trialShell.data.toList.drop 139 = dktX1_trialShell_6 := dk_seg dksX1_trialShell_5 24 rfl rfl
theorem dX1_trialShell_0 : decode cX1_trialShell 0 = .ok (.iconst (-1), 1) := dk_2 (dk_at dksX1_trialShell_0 0 rfl rfl)
theorem dX1_trialShell_1 : decode cX1_trialShell 1 = .ok (.istore 5, 2) := dk_54 5 (dk_at dksX1_trialShell_0 1 rfl rfl)
theorem dX1_trialShell_3 : decode cX1_trialShell 3 = .ok (.iload_n 2, 1) := dk_28 (dk_at dksX1_trialShell_0 3 rfl rfl)
theorem dX1_trialShell_4 : decode cX1_trialShell 4 = .ok (.iconst (-1), 1) := dk_2 (dk_at dksX1_trialShell_0 4 rfl rfl)
theorem dX1_trialShell_5 : decode cX1_trialShell 5 = .ok (.if_icmp .ne 8, 3) := dk_160 0 8 (dk_at dksX1_trialShell_0 5 rfl rfl)
theorem dX1_trialShell_8 : decode cX1_trialShell 8 = .ok (.bipush (-40), 2) := dk_16 216 (dk_at dksX1_trialShell_0 8 rfl rfl)
theorem dX1_trialShell_10 : decode cX1_trialShell 10 = .ok (.goto 18, 3) := dk_167 0 18 (dk_at dksX1_trialShell_0 10 rfl rfl)
theorem dX1_trialShell_13 : decode cX1_trialShell 13 = .ok (.aload_n 0, 1) := dk_42 (dk_at dksX1_trialShell_0 13 rfl rfl)
theorem dX1_trialShell_14 : decode cX1_trialShell 14 = .ok (.iload_n 2, 1) := dk_28 (dk_at dksX1_trialShell_0 14 rfl rfl)
theorem dX1_trialShell_15 : decode cX1_trialShell 15 = .ok (.iload 4, 2) := dk_21 4 (dk_at dksX1_trialShell_0 15 rfl rfl)
theorem dX1_trialShell_17 : decode cX1_trialShell 17 = .ok (.invokevirtual 369, 3) := dk_182 1 113 (dk_at dksX1_trialShell_0 17 rfl rfl)
theorem dX1_trialShell_20 : decode cX1_trialShell 20 = .ok (.aload_n 1, 1) := dk_43 (dk_at dksX1_trialShell_0 20 rfl rfl)
theorem dX1_trialShell_21 : decode cX1_trialShell 21 = .ok (.getfield 148, 3) := dk_180 0 148 (dk_at dksX1_trialShell_0 21 rfl rfl)
theorem dX1_trialShell_24 : decode cX1_trialShell 24 = .ok (.isub, 1) := dk_100 (dk_at dksX1_trialShell_1 0 rfl rfl)
theorem dX1_trialShell_25 : decode cX1_trialShell 25 = .ok (.invokestatic 372, 3) := dk_184 1 116 (dk_at dksX1_trialShell_1 1 rfl rfl)
theorem dX1_trialShell_28 : decode cX1_trialShell 28 = .ok (.istore 6, 2) := dk_54 6 (dk_at dksX1_trialShell_1 4 rfl rfl)
theorem dX1_trialShell_30 : decode cX1_trialShell 30 = .ok (.aload_n 0, 1) := dk_42 (dk_at dksX1_trialShell_1 6 rfl rfl)
theorem dX1_trialShell_31 : decode cX1_trialShell 31 = .ok (.getfield 10, 3) := dk_180 0 10 (dk_at dksX1_trialShell_1 7 rfl rfl)
theorem dX1_trialShell_34 : decode cX1_trialShell 34 = .ok (.getfield 62, 3) := dk_180 0 62 (dk_at dksX1_trialShell_1 10 rfl rfl)
theorem dX1_trialShell_37 : decode cX1_trialShell 37 = .ok (.invokevirtual 50, 3) := dk_182 0 50 (dk_at dksX1_trialShell_1 13 rfl rfl)
theorem dX1_trialShell_40 : decode cX1_trialShell 40 = .ok (.istore 7, 2) := dk_54 7 (dk_at dksX1_trialShell_1 16 rfl rfl)
theorem dX1_trialShell_42 : decode cX1_trialShell 42 = .ok (.iconst 0, 1) := dk_3 (dk_at dksX1_trialShell_1 18 rfl rfl)
theorem dX1_trialShell_43 : decode cX1_trialShell 43 = .ok (.istore 8, 2) := dk_54 8 (dk_at dksX1_trialShell_1 19 rfl rfl)
theorem dX1_trialShell_45 : decode cX1_trialShell 45 = .ok (.iload 8, 2) := dk_21 8 (dk_at dksX1_trialShell_1 21 rfl rfl)
theorem dX1_trialShell_47 : decode cX1_trialShell 47 = .ok (.iload 7, 2) := dk_21 7 (dk_at dksX1_trialShell_2 0 rfl rfl)
theorem dX1_trialShell_49 : decode cX1_trialShell 49 = .ok (.if_icmp .gt 93, 3) := dk_163 0 93 (dk_at dksX1_trialShell_2 2 rfl rfl)
theorem dX1_trialShell_52 : decode cX1_trialShell 52 = .ok (.iload 8, 2) := dk_21 8 (dk_at dksX1_trialShell_2 5 rfl rfl)
theorem dX1_trialShell_54 : decode cX1_trialShell 54 = .ok (.iload 7, 2) := dk_21 7 (dk_at dksX1_trialShell_2 7 rfl rfl)
theorem dX1_trialShell_56 : decode cX1_trialShell 56 = .ok (.if_icmp .ne 7, 3) := dk_160 0 7 (dk_at dksX1_trialShell_2 9 rfl rfl)
theorem dX1_trialShell_59 : decode cX1_trialShell 59 = .ok (.iload_n 3, 1) := dk_29 (dk_at dksX1_trialShell_2 12 rfl rfl)
theorem dX1_trialShell_60 : decode cX1_trialShell 60 = .ok (.goto 21, 3) := dk_167 0 21 (dk_at dksX1_trialShell_2 13 rfl rfl)
theorem dX1_trialShell_63 : decode cX1_trialShell 63 = .ok (.aload_n 0, 1) := dk_42 (dk_at dksX1_trialShell_2 16 rfl rfl)
theorem dX1_trialShell_64 : decode cX1_trialShell 64 = .ok (.getfield 10, 3) := dk_180 0 10 (dk_at dksX1_trialShell_2 17 rfl rfl)
theorem dX1_trialShell_67 : decode cX1_trialShell 67 = .ok (.getfield 62, 3) := dk_180 0 62 (dk_at dksX1_trialShell_2 20 rfl rfl)
theorem dX1_trialShell_70 : decode cX1_trialShell 70 = .ok (.iload 8, 2) := dk_21 8 (dk_at dksX1_trialShell_3 0 rfl rfl)
theorem dX1_trialShell_72 : decode cX1_trialShell 72 = .ok (.invokevirtual 56, 3) := dk_182 0 56 (dk_at dksX1_trialShell_3 2 rfl rfl)
theorem dX1_trialShell_75 : decode cX1_trialShell 75 = .ok (.checkcast 65, 3) := dk_192 0 65 (dk_at dksX1_trialShell_3 5 rfl rfl)
theorem dX1_trialShell_78 : decode cX1_trialShell 78 = .ok (.getfield 140, 3) := dk_180 0 140 (dk_at dksX1_trialShell_3 8 rfl rfl)
theorem dX1_trialShell_81 : decode cX1_trialShell 81 = .ok (.istore 9, 2) := dk_54 9 (dk_at dksX1_trialShell_3 11 rfl rfl)
theorem dX1_trialShell_83 : decode cX1_trialShell 83 = .ok (.aload_n 0, 1) := dk_42 (dk_at dksX1_trialShell_3 13 rfl rfl)
theorem dX1_trialShell_84 : decode cX1_trialShell 84 = .ok (.iload 8, 2) := dk_21 8 (dk_at dksX1_trialShell_3 14 rfl rfl)
theorem dX1_trialShell_86 : decode cX1_trialShell 86 = .ok (.iload 4, 2) := dk_21 4 (dk_at dksX1_trialShell_3 16 rfl rfl)
theorem dX1_trialShell_88 : decode cX1_trialShell 88 = .ok (.invokevirtual 369, 3) := dk_182 1 113 (dk_at dksX1_trialShell_3 18 rfl rfl)
theorem dX1_trialShell_91 : decode cX1_trialShell 91 = .ok (.aload_n 1, 1) := dk_43 (dk_at dksX1_trialShell_3 21 rfl rfl)
theorem dX1_trialShell_92 : decode cX1_trialShell 92 = .ok (.getfield 148, 3) := dk_180 0 148 (dk_at dksX1_trialShell_4 0 rfl rfl)
theorem dX1_trialShell_95 : decode cX1_trialShell 95 = .ok (.isub, 1) := dk_100 (dk_at dksX1_trialShell_4 3 rfl rfl)
theorem dX1_trialShell_96 : decode cX1_trialShell 96 = .ok (.invokestatic 372, 3) := dk_184 1 116 (dk_at dksX1_trialShell_4 4 rfl rfl)
theorem dX1_trialShell_99 : decode cX1_trialShell 99 = .ok (.istore 10, 2) := dk_54 10 (dk_at dksX1_trialShell_4 7 rfl rfl)
theorem dX1_trialShell_101 : decode cX1_trialShell 101 = .ok (.aload_n 0, 1) := dk_42 (dk_at dksX1_trialShell_4 9 rfl rfl)
theorem dX1_trialShell_102 : decode cX1_trialShell 102 = .ok (.getfield 27, 3) := dk_180 0 27 (dk_at dksX1_trialShell_4 10 rfl rfl)
theorem dX1_trialShell_105 : decode cX1_trialShell 105 = .ok (.iload 8, 2) := dk_21 8 (dk_at dksX1_trialShell_4 13 rfl rfl)
theorem dX1_trialShell_107 : decode cX1_trialShell 107 = .ok (.iaload, 1) := dk_46 (dk_at dksX1_trialShell_4 15 rfl rfl)
theorem dX1_trialShell_108 : decode cX1_trialShell 108 = .ok (.iconst (-1), 1) := dk_2 (dk_at dksX1_trialShell_4 16 rfl rfl)
theorem dX1_trialShell_109 : decode cX1_trialShell 109 = .ok (.if_icmp .ne 27, 3) := dk_160 0 27 (dk_at dksX1_trialShell_4 17 rfl rfl)
theorem dX1_trialShell_112 : decode cX1_trialShell 112 = .ok (.iload 9, 2) := dk_21 9 (dk_at dksX1_trialShell_4 20 rfl rfl)
theorem dX1_trialShell_114 : decode cX1_trialShell 114 = .ok (.aload_n 1, 1) := dk_43 (dk_at dksX1_trialShell_4 22 rfl rfl)
theorem dX1_trialShell_115 : decode cX1_trialShell 115 = .ok (.getfield 137, 3) := dk_180 0 137 (dk_at dksX1_trialShell_5 0 rfl rfl)
theorem dX1_trialShell_118 : decode cX1_trialShell 118 = .ok (.if_icmp .ne 18, 3) := dk_160 0 18 (dk_at dksX1_trialShell_5 3 rfl rfl)
theorem dX1_trialShell_121 : decode cX1_trialShell 121 = .ok (.iload 10, 2) := dk_21 10 (dk_at dksX1_trialShell_5 6 rfl rfl)
theorem dX1_trialShell_123 : decode cX1_trialShell 123 = .ok (.iload 6, 2) := dk_21 6 (dk_at dksX1_trialShell_5 8 rfl rfl)
theorem dX1_trialShell_125 : decode cX1_trialShell 125 = .ok (.if_icmp .le 11, 3) := dk_164 0 11 (dk_at dksX1_trialShell_5 10 rfl rfl)
theorem dX1_trialShell_128 : decode cX1_trialShell 128 = .ok (.iload 8, 2) := dk_21 8 (dk_at dksX1_trialShell_5 13 rfl rfl)
theorem dX1_trialShell_130 : decode cX1_trialShell 130 = .ok (.istore 5, 2) := dk_54 5 (dk_at dksX1_trialShell_5 15 rfl rfl)
theorem dX1_trialShell_132 : decode cX1_trialShell 132 = .ok (.iload 10, 2) := dk_21 10 (dk_at dksX1_trialShell_5 17 rfl rfl)
theorem dX1_trialShell_134 : decode cX1_trialShell 134 = .ok (.istore 6, 2) := dk_54 6 (dk_at dksX1_trialShell_5 19 rfl rfl)
theorem dX1_trialShell_136 : decode cX1_trialShell 136 = .ok (.iinc 8 1, 3) := dk_132 8 1 (dk_at dksX1_trialShell_5 21 rfl rfl)
theorem dX1_trialShell_139 : decode cX1_trialShell 139 = .ok (.goto (-94), 3) := dk_167 255 162 (dk_at dksX1_trialShell_6 0 rfl rfl)
theorem dX1_trialShell_142 : decode cX1_trialShell 142 = .ok (.iload 5, 2) := dk_21 5 (dk_at dksX1_trialShell_6 3 rfl rfl)
theorem dX1_trialShell_144 : decode cX1_trialShell 144 = .ok (.ireturn, 1) := dk_172 (dk_at dksX1_trialShell_6 5 rfl rfl)
abbrev cX1_sizeWith : ByteArray := prog_1_method_99_code
def yX1_sizeWith : MethodName := ⟨RX1, "sizeWith", "(II)I"⟩
def dkwX1_sizeWith_1 : List UInt8 := [180, 0, 62, 27, 182, 0, 56, 192, 0, 65, 180, 1, 104, 172]
abbrev dktX1_sizeWith_1 : List UInt8 := dkwX1_sizeWith_1 ++ []
def dkwX1_sizeWith_0 : List UInt8 := [27, 42, 180, 0, 10, 180, 0, 62, 182, 0, 50, 160, 0, 7, 28, 167, 0, 20, 42, 180, 0, 10]
abbrev dktX1_sizeWith_0 : List UInt8 := dkwX1_sizeWith_0 ++ dktX1_sizeWith_1
theorem dksX1_sizeWith_0 : cX1_sizeWith.data.toList.drop 0 = dktX1_sizeWith_0 := by decide +kernel
theorem dksX1_sizeWith_1 : cX1_sizeWith.data.toList.drop 22 = dktX1_sizeWith_1 := dk_seg dksX1_sizeWith_0 22 rfl rfl
theorem dX1_sizeWith_0 : decode cX1_sizeWith 0 = .ok (.iload_n 1, 1) := dk_27 (dk_at dksX1_sizeWith_0 0 rfl rfl)
theorem dX1_sizeWith_1 : decode cX1_sizeWith 1 = .ok (.aload_n 0, 1) := dk_42 (dk_at dksX1_sizeWith_0 1 rfl rfl)
theorem dX1_sizeWith_2 : decode cX1_sizeWith 2 = .ok (.getfield 10, 3) := dk_180 0 10 (dk_at dksX1_sizeWith_0 2 rfl rfl)
theorem dX1_sizeWith_5 : decode cX1_sizeWith 5 = .ok (.getfield 62, 3) := dk_180 0 62 (dk_at dksX1_sizeWith_0 5 rfl rfl)
theorem dX1_sizeWith_8 : decode cX1_sizeWith 8 = .ok (.invokevirtual 50, 3) := dk_182 0 50 (dk_at dksX1_sizeWith_0 8 rfl rfl)
theorem dX1_sizeWith_11 : decode cX1_sizeWith 11 = .ok (.if_icmp .ne 7, 3) := dk_160 0 7 (dk_at dksX1_sizeWith_0 11 rfl rfl)
theorem dX1_sizeWith_14 : decode cX1_sizeWith 14 = .ok (.iload_n 2, 1) := dk_28 (dk_at dksX1_sizeWith_0 14 rfl rfl)
theorem dX1_sizeWith_15 : decode cX1_sizeWith 15 = .ok (.goto 20, 3) := dk_167 0 20 (dk_at dksX1_sizeWith_0 15 rfl rfl)
theorem dX1_sizeWith_18 : decode cX1_sizeWith 18 = .ok (.aload_n 0, 1) := dk_42 (dk_at dksX1_sizeWith_0 18 rfl rfl)
theorem dX1_sizeWith_19 : decode cX1_sizeWith 19 = .ok (.getfield 10, 3) := dk_180 0 10 (dk_at dksX1_sizeWith_0 19 rfl rfl)
theorem dX1_sizeWith_22 : decode cX1_sizeWith 22 = .ok (.getfield 62, 3) := dk_180 0 62 (dk_at dksX1_sizeWith_1 0 rfl rfl)
theorem dX1_sizeWith_25 : decode cX1_sizeWith 25 = .ok (.iload_n 1, 1) := dk_27 (dk_at dksX1_sizeWith_1 3 rfl rfl)
theorem dX1_sizeWith_26 : decode cX1_sizeWith 26 = .ok (.invokevirtual 56, 3) := dk_182 0 56 (dk_at dksX1_sizeWith_1 4 rfl rfl)
theorem dX1_sizeWith_29 : decode cX1_sizeWith 29 = .ok (.checkcast 65, 3) := dk_192 0 65 (dk_at dksX1_sizeWith_1 7 rfl rfl)
theorem dX1_sizeWith_32 : decode cX1_sizeWith 32 = .ok (.getfield 360, 3) := dk_180 1 104 (dk_at dksX1_sizeWith_1 10 rfl rfl)
theorem dX1_sizeWith_35 : decode cX1_sizeWith 35 = .ok (.ireturn, 1) := dk_172 (dk_at dksX1_sizeWith_1 13 rfl rfl)
abbrev cX1_bestSize : ByteArray := prog_1_method_102_code
def yX1_bestSize : MethodName := ⟨RX1, "bestSize", "(I)I"⟩
def dkwX1_bestSize_2 : List UInt8 := [172]
abbrev dktX1_bestSize_2 : List UInt8 := dkwX1_bestSize_2 ++ []
def dkwX1_bestSize_1 : List UInt8 := [182, 1, 119, 54, 5, 21, 5, 29, 164, 0, 9, 21, 4, 61, 21, 5, 62, 132, 4, 1, 167, 255, 225, 28]
abbrev dktX1_bestSize_1 : List UInt8 := dkwX1_bestSize_1 ++ dktX1_bestSize_2
def dkwX1_bestSize_0 : List UInt8 := [27, 184, 1, 21, 4, 61, 2, 62, 4, 54, 4, 21, 4, 16, 20, 163, 0, 30, 42, 27, 21, 4]
abbrev dktX1_bestSize_0 : List UInt8 := dkwX1_bestSize_0 ++ dktX1_bestSize_1
theorem dksX1_bestSize_0 : cX1_bestSize.data.toList.drop 0 = dktX1_bestSize_0 := by decide +kernel
theorem dksX1_bestSize_1 : cX1_bestSize.data.toList.drop 22 = dktX1_bestSize_1 := dk_seg dksX1_bestSize_0 22 rfl rfl
theorem dksX1_bestSize_2 : cX1_bestSize.data.toList.drop 46 = dktX1_bestSize_2 := dk_seg dksX1_bestSize_1 24 rfl rfl
theorem dX1_bestSize_0 : decode cX1_bestSize 0 = .ok (.iload_n 1, 1) := dk_27 (dk_at dksX1_bestSize_0 0 rfl rfl)
theorem dX1_bestSize_1 : decode cX1_bestSize 1 = .ok (.invokestatic 277, 3) := dk_184 1 21 (dk_at dksX1_bestSize_0 1 rfl rfl)
theorem dX1_bestSize_4 : decode cX1_bestSize 4 = .ok (.iconst 1, 1) := dk_4 (dk_at dksX1_bestSize_0 4 rfl rfl)
theorem dX1_bestSize_5 : decode cX1_bestSize 5 = .ok (.istore_n 2, 1) := dk_61 (dk_at dksX1_bestSize_0 5 rfl rfl)
theorem dX1_bestSize_6 : decode cX1_bestSize 6 = .ok (.iconst (-1), 1) := dk_2 (dk_at dksX1_bestSize_0 6 rfl rfl)
theorem dX1_bestSize_7 : decode cX1_bestSize 7 = .ok (.istore_n 3, 1) := dk_62 (dk_at dksX1_bestSize_0 7 rfl rfl)
theorem dX1_bestSize_8 : decode cX1_bestSize 8 = .ok (.iconst 1, 1) := dk_4 (dk_at dksX1_bestSize_0 8 rfl rfl)
theorem dX1_bestSize_9 : decode cX1_bestSize 9 = .ok (.istore 4, 2) := dk_54 4 (dk_at dksX1_bestSize_0 9 rfl rfl)
theorem dX1_bestSize_11 : decode cX1_bestSize 11 = .ok (.iload 4, 2) := dk_21 4 (dk_at dksX1_bestSize_0 11 rfl rfl)
theorem dX1_bestSize_13 : decode cX1_bestSize 13 = .ok (.bipush 20, 2) := dk_16 20 (dk_at dksX1_bestSize_0 13 rfl rfl)
theorem dX1_bestSize_15 : decode cX1_bestSize 15 = .ok (.if_icmp .gt 30, 3) := dk_163 0 30 (dk_at dksX1_bestSize_0 15 rfl rfl)
theorem dX1_bestSize_18 : decode cX1_bestSize 18 = .ok (.aload_n 0, 1) := dk_42 (dk_at dksX1_bestSize_0 18 rfl rfl)
theorem dX1_bestSize_19 : decode cX1_bestSize 19 = .ok (.iload_n 1, 1) := dk_27 (dk_at dksX1_bestSize_0 19 rfl rfl)
theorem dX1_bestSize_20 : decode cX1_bestSize 20 = .ok (.iload 4, 2) := dk_21 4 (dk_at dksX1_bestSize_0 20 rfl rfl)
theorem dX1_bestSize_22 : decode cX1_bestSize 22 = .ok (.invokevirtual 375, 3) := dk_182 1 119 (dk_at dksX1_bestSize_1 0 rfl rfl)
theorem dX1_bestSize_25 : decode cX1_bestSize 25 = .ok (.istore 5, 2) := dk_54 5 (dk_at dksX1_bestSize_1 3 rfl rfl)
theorem dX1_bestSize_27 : decode cX1_bestSize 27 = .ok (.iload 5, 2) := dk_21 5 (dk_at dksX1_bestSize_1 5 rfl rfl)
theorem dX1_bestSize_29 : decode cX1_bestSize 29 = .ok (.iload_n 3, 1) := dk_29 (dk_at dksX1_bestSize_1 7 rfl rfl)
theorem dX1_bestSize_30 : decode cX1_bestSize 30 = .ok (.if_icmp .le 9, 3) := dk_164 0 9 (dk_at dksX1_bestSize_1 8 rfl rfl)
theorem dX1_bestSize_33 : decode cX1_bestSize 33 = .ok (.iload 4, 2) := dk_21 4 (dk_at dksX1_bestSize_1 11 rfl rfl)
theorem dX1_bestSize_35 : decode cX1_bestSize 35 = .ok (.istore_n 2, 1) := dk_61 (dk_at dksX1_bestSize_1 13 rfl rfl)
theorem dX1_bestSize_36 : decode cX1_bestSize 36 = .ok (.iload 5, 2) := dk_21 5 (dk_at dksX1_bestSize_1 14 rfl rfl)
theorem dX1_bestSize_38 : decode cX1_bestSize 38 = .ok (.istore_n 3, 1) := dk_62 (dk_at dksX1_bestSize_1 16 rfl rfl)
theorem dX1_bestSize_39 : decode cX1_bestSize 39 = .ok (.iinc 4 1, 3) := dk_132 4 1 (dk_at dksX1_bestSize_1 17 rfl rfl)
theorem dX1_bestSize_42 : decode cX1_bestSize 42 = .ok (.goto (-31), 3) := dk_167 255 225 (dk_at dksX1_bestSize_1 20 rfl rfl)
theorem dX1_bestSize_45 : decode cX1_bestSize 45 = .ok (.iload_n 2, 1) := dk_28 (dk_at dksX1_bestSize_1 23 rfl rfl)
theorem dX1_bestSize_46 : decode cX1_bestSize 46 = .ok (.ireturn, 1) := dk_172 (dk_at dksX1_bestSize_2 0 rfl rfl)
abbrev cX1_lostIn : ByteArray := prog_1_method_104_code
def yX1_lostIn : MethodName := ⟨RX1, "lostIn", "(I)I"⟩
def dkwX1_lostIn_0 : List UInt8 := [27, 4, 16, 99, 184, 1, 36, 42, 27, 42, 180, 0, 10, 180, 1, 3, 182, 1, 122, 172]
abbrev dktX1_lostIn_0 : List UInt8 := dkwX1_lostIn_0 ++ []
theorem dksX1_lostIn_0 : cX1_lostIn.data.toList.drop 0 = dktX1_lostIn_0 := by decide +kernel
theorem dX1_lostIn_0 : decode cX1_lostIn 0 = .ok (.iload_n 1, 1) := dk_27 (dk_at dksX1_lostIn_0 0 rfl rfl)
theorem dX1_lostIn_1 : decode cX1_lostIn 1 = .ok (.iconst 1, 1) := dk_4 (dk_at dksX1_lostIn_0 1 rfl rfl)
theorem dX1_lostIn_2 : decode cX1_lostIn 2 = .ok (.bipush 99, 2) := dk_16 99 (dk_at dksX1_lostIn_0 2 rfl rfl)
theorem dX1_lostIn_4 : decode cX1_lostIn 4 = .ok (.invokestatic 292, 3) := dk_184 1 36 (dk_at dksX1_lostIn_0 4 rfl rfl)
theorem dX1_lostIn_7 : decode cX1_lostIn 7 = .ok (.aload_n 0, 1) := dk_42 (dk_at dksX1_lostIn_0 7 rfl rfl)
theorem dX1_lostIn_8 : decode cX1_lostIn 8 = .ok (.iload_n 1, 1) := dk_27 (dk_at dksX1_lostIn_0 8 rfl rfl)
theorem dX1_lostIn_9 : decode cX1_lostIn 9 = .ok (.aload_n 0, 1) := dk_42 (dk_at dksX1_lostIn_0 9 rfl rfl)
theorem dX1_lostIn_10 : decode cX1_lostIn 10 = .ok (.getfield 10, 3) := dk_180 0 10 (dk_at dksX1_lostIn_0 10 rfl rfl)
theorem dX1_lostIn_13 : decode cX1_lostIn 13 = .ok (.getfield 259, 3) := dk_180 1 3 (dk_at dksX1_lostIn_0 13 rfl rfl)
theorem dX1_lostIn_16 : decode cX1_lostIn 16 = .ok (.invokevirtual 378, 3) := dk_182 1 122 (dk_at dksX1_lostIn_0 16 rfl rfl)
theorem dX1_lostIn_19 : decode cX1_lostIn 19 = .ok (.ireturn, 1) := dk_172 (dk_at dksX1_lostIn_0 19 rfl rfl)
abbrev cX1_hoursToLive : ByteArray := prog_1_method_105_code
def yX1_hoursToLive : MethodName := ⟨RX1, "hoursToLive", "(I)I"⟩
def dkwX1_hoursToLive_4 : List UInt8 := [172, 58, 5, 42, 44, 181, 0, 10, 25, 5, 191]
abbrev dktX1_hoursToLive_4 : List UInt8 := dkwX1_hoursToLive_4 ++ []
def dkwX1_hoursToLive_3 : List UInt8 := [54, 4, 42, 44, 181, 0, 10, 21, 4, 172, 132, 3, 1, 167, 255, 199, 2, 62, 42, 44, 181, 0, 10, 29]
abbrev dktX1_hoursToLive_3 : List UInt8 := dkwX1_hoursToLive_3 ++ dktX1_hoursToLive_4
def dkwX1_hoursToLive_2 : List UInt8 := [182, 1, 12, 42, 180, 0, 10, 180, 0, 46, 27, 182, 0, 56, 192, 0, 60, 182, 0, 248, 154, 0, 14, 29]
abbrev dktX1_hoursToLive_2 : List UInt8 := dkwX1_hoursToLive_2 ++ dktX1_hoursToLive_3
def dkwX1_hoursToLive_1 : List UInt8 := [4, 62, 29, 16, 99, 163, 0, 57, 42, 180, 0, 10, 180, 0, 106, 17, 3, 231, 162, 0, 44, 42]
abbrev dktX1_hoursToLive_1 : List UInt8 := dkwX1_hoursToLive_1 ++ dktX1_hoursToLive_2
def dkwX1_hoursToLive_0 : List UInt8 := [42, 27, 182, 1, 100, 182, 0, 248, 184, 1, 24, 42, 180, 0, 10, 77, 42, 44, 182, 0, 74, 181, 0, 10]
abbrev dktX1_hoursToLive_0 : List UInt8 := dkwX1_hoursToLive_0 ++ dktX1_hoursToLive_1
theorem dksX1_hoursToLive_0 : cX1_hoursToLive.data.toList.drop 0 = dktX1_hoursToLive_0 := by decide +kernel
theorem dksX1_hoursToLive_1 : cX1_hoursToLive.data.toList.drop 24 = dktX1_hoursToLive_1 := dk_seg dksX1_hoursToLive_0 24 rfl rfl
theorem dksX1_hoursToLive_2 : cX1_hoursToLive.data.toList.drop 46 = dktX1_hoursToLive_2 := dk_seg dksX1_hoursToLive_1 22 rfl rfl
theorem dksX1_hoursToLive_3 : cX1_hoursToLive.data.toList.drop 70 = dktX1_hoursToLive_3 := dk_seg dksX1_hoursToLive_2 24 rfl rfl
theorem dksX1_hoursToLive_4 : cX1_hoursToLive.data.toList.drop 94 = dktX1_hoursToLive_4 := dk_seg dksX1_hoursToLive_3 24 rfl rfl
theorem dX1_hoursToLive_0 : decode cX1_hoursToLive 0 = .ok (.aload_n 0, 1) := dk_42 (dk_at dksX1_hoursToLive_0 0 rfl rfl)
theorem dX1_hoursToLive_1 : decode cX1_hoursToLive 1 = .ok (.iload_n 1, 1) := dk_27 (dk_at dksX1_hoursToLive_0 1 rfl rfl)
theorem dX1_hoursToLive_2 : decode cX1_hoursToLive 2 = .ok (.invokevirtual 356, 3) := dk_182 1 100 (dk_at dksX1_hoursToLive_0 2 rfl rfl)
theorem dX1_hoursToLive_5 : decode cX1_hoursToLive 5 = .ok (.invokevirtual 248, 3) := dk_182 0 248 (dk_at dksX1_hoursToLive_0 5 rfl rfl)
theorem dX1_hoursToLive_8 : decode cX1_hoursToLive 8 = .ok (.invokestatic 280, 3) := dk_184 1 24 (dk_at dksX1_hoursToLive_0 8 rfl rfl)
theorem dX1_hoursToLive_11 : decode cX1_hoursToLive 11 = .ok (.aload_n 0, 1) := dk_42 (dk_at dksX1_hoursToLive_0 11 rfl rfl)
theorem dX1_hoursToLive_12 : decode cX1_hoursToLive 12 = .ok (.getfield 10, 3) := dk_180 0 10 (dk_at dksX1_hoursToLive_0 12 rfl rfl)
theorem dX1_hoursToLive_15 : decode cX1_hoursToLive 15 = .ok (.astore_n 2, 1) := dk_77 (dk_at dksX1_hoursToLive_0 15 rfl rfl)
theorem dX1_hoursToLive_16 : decode cX1_hoursToLive 16 = .ok (.aload_n 0, 1) := dk_42 (dk_at dksX1_hoursToLive_0 16 rfl rfl)
theorem dX1_hoursToLive_17 : decode cX1_hoursToLive 17 = .ok (.aload_n 2, 1) := dk_44 (dk_at dksX1_hoursToLive_0 17 rfl rfl)
theorem dX1_hoursToLive_18 : decode cX1_hoursToLive 18 = .ok (.invokevirtual 74, 3) := dk_182 0 74 (dk_at dksX1_hoursToLive_0 18 rfl rfl)
theorem dX1_hoursToLive_21 : decode cX1_hoursToLive 21 = .ok (.putfield 10, 3) := dk_181 0 10 (dk_at dksX1_hoursToLive_0 21 rfl rfl)
theorem dX1_hoursToLive_24 : decode cX1_hoursToLive 24 = .ok (.iconst 1, 1) := dk_4 (dk_at dksX1_hoursToLive_1 0 rfl rfl)
theorem dX1_hoursToLive_25 : decode cX1_hoursToLive 25 = .ok (.istore_n 3, 1) := dk_62 (dk_at dksX1_hoursToLive_1 1 rfl rfl)
theorem dX1_hoursToLive_26 : decode cX1_hoursToLive 26 = .ok (.iload_n 3, 1) := dk_29 (dk_at dksX1_hoursToLive_1 2 rfl rfl)
theorem dX1_hoursToLive_27 : decode cX1_hoursToLive 27 = .ok (.bipush 99, 2) := dk_16 99 (dk_at dksX1_hoursToLive_1 3 rfl rfl)
theorem dX1_hoursToLive_29 : decode cX1_hoursToLive 29 = .ok (.if_icmp .gt 57, 3) := dk_163 0 57 (dk_at dksX1_hoursToLive_1 5 rfl rfl)
theorem dX1_hoursToLive_32 : decode cX1_hoursToLive 32 = .ok (.aload_n 0, 1) := dk_42 (dk_at dksX1_hoursToLive_1 8 rfl rfl)
theorem dX1_hoursToLive_33 : decode cX1_hoursToLive 33 = .ok (.getfield 10, 3) := dk_180 0 10 (dk_at dksX1_hoursToLive_1 9 rfl rfl)
theorem dX1_hoursToLive_36 : decode cX1_hoursToLive 36 = .ok (.getfield 106, 3) := dk_180 0 106 (dk_at dksX1_hoursToLive_1 12 rfl rfl)
theorem dX1_hoursToLive_39 : decode cX1_hoursToLive 39 = .ok (.sipush 999, 3) := dk_17 3 231 (dk_at dksX1_hoursToLive_1 15 rfl rfl)
theorem dX1_hoursToLive_42 : decode cX1_hoursToLive 42 = .ok (.if_icmp .ge 44, 3) := dk_162 0 44 (dk_at dksX1_hoursToLive_1 18 rfl rfl)
theorem dX1_hoursToLive_45 : decode cX1_hoursToLive 45 = .ok (.aload_n 0, 1) := dk_42 (dk_at dksX1_hoursToLive_1 21 rfl rfl)
theorem dX1_hoursToLive_46 : decode cX1_hoursToLive 46 = .ok (.invokevirtual 268, 3) := dk_182 1 12 (dk_at dksX1_hoursToLive_2 0 rfl rfl)
theorem dX1_hoursToLive_49 : decode cX1_hoursToLive 49 = .ok (.aload_n 0, 1) := dk_42 (dk_at dksX1_hoursToLive_2 3 rfl rfl)
theorem dX1_hoursToLive_50 : decode cX1_hoursToLive 50 = .ok (.getfield 10, 3) := dk_180 0 10 (dk_at dksX1_hoursToLive_2 4 rfl rfl)
theorem dX1_hoursToLive_53 : decode cX1_hoursToLive 53 = .ok (.getfield 46, 3) := dk_180 0 46 (dk_at dksX1_hoursToLive_2 7 rfl rfl)
theorem dX1_hoursToLive_56 : decode cX1_hoursToLive 56 = .ok (.iload_n 1, 1) := dk_27 (dk_at dksX1_hoursToLive_2 10 rfl rfl)
theorem dX1_hoursToLive_57 : decode cX1_hoursToLive 57 = .ok (.invokevirtual 56, 3) := dk_182 0 56 (dk_at dksX1_hoursToLive_2 11 rfl rfl)
theorem dX1_hoursToLive_60 : decode cX1_hoursToLive 60 = .ok (.checkcast 60, 3) := dk_192 0 60 (dk_at dksX1_hoursToLive_2 14 rfl rfl)
theorem dX1_hoursToLive_63 : decode cX1_hoursToLive 63 = .ok (.invokevirtual 248, 3) := dk_182 0 248 (dk_at dksX1_hoursToLive_2 17 rfl rfl)
theorem dX1_hoursToLive_66 : decode cX1_hoursToLive 66 = .ok (.ifCond .ne 14, 3) := dk_154 0 14 (dk_at dksX1_hoursToLive_2 20 rfl rfl)
theorem dX1_hoursToLive_69 : decode cX1_hoursToLive 69 = .ok (.iload_n 3, 1) := dk_29 (dk_at dksX1_hoursToLive_2 23 rfl rfl)
theorem dX1_hoursToLive_70 : decode cX1_hoursToLive 70 = .ok (.istore 4, 2) := dk_54 4 (dk_at dksX1_hoursToLive_3 0 rfl rfl)
theorem dX1_hoursToLive_72 : decode cX1_hoursToLive 72 = .ok (.aload_n 0, 1) := dk_42 (dk_at dksX1_hoursToLive_3 2 rfl rfl)
theorem dX1_hoursToLive_73 : decode cX1_hoursToLive 73 = .ok (.aload_n 2, 1) := dk_44 (dk_at dksX1_hoursToLive_3 3 rfl rfl)
theorem dX1_hoursToLive_74 : decode cX1_hoursToLive 74 = .ok (.putfield 10, 3) := dk_181 0 10 (dk_at dksX1_hoursToLive_3 4 rfl rfl)
theorem dX1_hoursToLive_77 : decode cX1_hoursToLive 77 = .ok (.iload 4, 2) := dk_21 4 (dk_at dksX1_hoursToLive_3 7 rfl rfl)
theorem dX1_hoursToLive_79 : decode cX1_hoursToLive 79 = .ok (.ireturn, 1) := dk_172 (dk_at dksX1_hoursToLive_3 9 rfl rfl)
theorem dX1_hoursToLive_80 : decode cX1_hoursToLive 80 = .ok (.iinc 3 1, 3) := dk_132 3 1 (dk_at dksX1_hoursToLive_3 10 rfl rfl)
theorem dX1_hoursToLive_83 : decode cX1_hoursToLive 83 = .ok (.goto (-57), 3) := dk_167 255 199 (dk_at dksX1_hoursToLive_3 13 rfl rfl)
theorem dX1_hoursToLive_86 : decode cX1_hoursToLive 86 = .ok (.iconst (-1), 1) := dk_2 (dk_at dksX1_hoursToLive_3 16 rfl rfl)
theorem dX1_hoursToLive_87 : decode cX1_hoursToLive 87 = .ok (.istore_n 3, 1) := dk_62 (dk_at dksX1_hoursToLive_3 17 rfl rfl)
theorem dX1_hoursToLive_88 : decode cX1_hoursToLive 88 = .ok (.aload_n 0, 1) := dk_42 (dk_at dksX1_hoursToLive_3 18 rfl rfl)
theorem dX1_hoursToLive_89 : decode cX1_hoursToLive 89 = .ok (.aload_n 2, 1) := dk_44 (dk_at dksX1_hoursToLive_3 19 rfl rfl)
theorem dX1_hoursToLive_90 : decode cX1_hoursToLive 90 = .ok (.putfield 10, 3) := dk_181 0 10 (dk_at dksX1_hoursToLive_3 20 rfl rfl)
theorem dX1_hoursToLive_93 : decode cX1_hoursToLive 93 = .ok (.iload_n 3, 1) := dk_29 (dk_at dksX1_hoursToLive_3 23 rfl rfl)
theorem dX1_hoursToLive_94 : decode cX1_hoursToLive 94 = .ok (.ireturn, 1) := dk_172 (dk_at dksX1_hoursToLive_4 0 rfl rfl)
theorem dX1_hoursToLive_95 : decode cX1_hoursToLive 95 = .ok (.astore 5, 2) := dk_58 5 (dk_at dksX1_hoursToLive_4 1 rfl rfl)
theorem dX1_hoursToLive_97 : decode cX1_hoursToLive 97 = .ok (.aload_n 0, 1) := dk_42 (dk_at dksX1_hoursToLive_4 3 rfl rfl)
theorem dX1_hoursToLive_98 : decode cX1_hoursToLive 98 = .ok (.aload_n 2, 1) := dk_44 (dk_at dksX1_hoursToLive_4 4 rfl rfl)
theorem dX1_hoursToLive_99 : decode cX1_hoursToLive 99 = .ok (.putfield 10, 3) := dk_181 0 10 (dk_at dksX1_hoursToLive_4 5 rfl rfl)
theorem dX1_hoursToLive_102 : decode cX1_hoursToLive 102 = .ok (.aload 5, 2) := dk_25 5 (dk_at dksX1_hoursToLive_4 8 rfl rfl)
theorem dX1_hoursToLive_104 : decode cX1_hoursToLive 104 = .ok (.athrow, 1) := dk_191 (dk_at dksX1_hoursToLive_4 10 rfl rfl)
abbrev cX1_hoursToChange : ByteArray := prog_1_method_106_code
def yX1_hoursToChange : MethodName := ⟨RX1, "hoursToChange", "(I)I"⟩
def dkwX1_hoursToChange_5 : List UInt8 := [191]
abbrev dktX1_hoursToChange_5 : List UInt8 := dkwX1_hoursToChange_5 ++ []
def dkwX1_hoursToChange_4 : List UInt8 := [132, 3, 1, 167, 255, 185, 2, 62, 42, 44, 181, 0, 10, 29, 172, 58, 5, 42, 44, 181, 0, 10, 25, 5]
abbrev dktX1_hoursToChange_4 : List UInt8 := dkwX1_hoursToChange_4 ++ dktX1_hoursToChange_5
def dkwX1_hoursToChange_3 : List UInt8 := [27, 182, 0, 56, 192, 0, 70, 180, 0, 145, 164, 0, 14, 29, 54, 4, 42, 44, 181, 0, 10, 21, 4, 172]
abbrev dktX1_hoursToChange_3 : List UInt8 := dkwX1_hoursToChange_3 ++ dktX1_hoursToChange_4
def dkwX1_hoursToChange_2 : List UInt8 := [182, 1, 12, 42, 180, 0, 10, 180, 0, 67, 27, 182, 0, 56, 192, 0, 70, 180, 0, 145, 44, 180, 0, 67]
abbrev dktX1_hoursToChange_2 : List UInt8 := dkwX1_hoursToChange_2 ++ dktX1_hoursToChange_3
def dkwX1_hoursToChange_1 : List UInt8 := [4, 62, 29, 16, 99, 163, 0, 71, 42, 180, 0, 10, 180, 0, 106, 17, 3, 231, 162, 0, 58, 42]
abbrev dktX1_hoursToChange_1 : List UInt8 := dkwX1_hoursToChange_1 ++ dktX1_hoursToChange_2
def dkwX1_hoursToChange_0 : List UInt8 := [42, 27, 182, 1, 105, 182, 0, 150, 184, 1, 24, 42, 180, 0, 10, 77, 42, 44, 182, 0, 74, 181, 0, 10]
abbrev dktX1_hoursToChange_0 : List UInt8 := dkwX1_hoursToChange_0 ++ dktX1_hoursToChange_1
theorem dksX1_hoursToChange_0 : cX1_hoursToChange.data.toList.drop 0 = dktX1_hoursToChange_0 := by decide +kernel
theorem dksX1_hoursToChange_1 : cX1_hoursToChange.data.toList.drop 24 = dktX1_hoursToChange_1 := dk_seg dksX1_hoursToChange_0 24 rfl rfl
theorem dksX1_hoursToChange_2 : cX1_hoursToChange.data.toList.drop 46 = dktX1_hoursToChange_2 := dk_seg dksX1_hoursToChange_1 22 rfl rfl
theorem dksX1_hoursToChange_3 : cX1_hoursToChange.data.toList.drop 70 = dktX1_hoursToChange_3 := dk_seg dksX1_hoursToChange_2 24 rfl rfl
theorem dksX1_hoursToChange_4 : cX1_hoursToChange.data.toList.drop 94 = dktX1_hoursToChange_4 := dk_seg dksX1_hoursToChange_3 24 rfl rfl
theorem dksX1_hoursToChange_5 : cX1_hoursToChange.data.toList.drop 118 = dktX1_hoursToChange_5 := dk_seg dksX1_hoursToChange_4 24 rfl rfl
theorem dX1_hoursToChange_0 : decode cX1_hoursToChange 0 = .ok (.aload_n 0, 1) := dk_42 (dk_at dksX1_hoursToChange_0 0 rfl rfl)
theorem dX1_hoursToChange_1 : decode cX1_hoursToChange 1 = .ok (.iload_n 1, 1) := dk_27 (dk_at dksX1_hoursToChange_0 1 rfl rfl)
theorem dX1_hoursToChange_2 : decode cX1_hoursToChange 2 = .ok (.invokevirtual 361, 3) := dk_182 1 105 (dk_at dksX1_hoursToChange_0 2 rfl rfl)
theorem dX1_hoursToChange_5 : decode cX1_hoursToChange 5 = .ok (.invokevirtual 150, 3) := dk_182 0 150 (dk_at dksX1_hoursToChange_0 5 rfl rfl)
theorem dX1_hoursToChange_8 : decode cX1_hoursToChange 8 = .ok (.invokestatic 280, 3) := dk_184 1 24 (dk_at dksX1_hoursToChange_0 8 rfl rfl)
theorem dX1_hoursToChange_11 : decode cX1_hoursToChange 11 = .ok (.aload_n 0, 1) := dk_42 (dk_at dksX1_hoursToChange_0 11 rfl rfl)
theorem dX1_hoursToChange_12 : decode cX1_hoursToChange 12 = .ok (.getfield 10, 3) := dk_180 0 10 (dk_at dksX1_hoursToChange_0 12 rfl rfl)
theorem dX1_hoursToChange_15 : decode cX1_hoursToChange 15 = .ok (.astore_n 2, 1) := dk_77 (dk_at dksX1_hoursToChange_0 15 rfl rfl)
theorem dX1_hoursToChange_16 : decode cX1_hoursToChange 16 = .ok (.aload_n 0, 1) := dk_42 (dk_at dksX1_hoursToChange_0 16 rfl rfl)
theorem dX1_hoursToChange_17 : decode cX1_hoursToChange 17 = .ok (.aload_n 2, 1) := dk_44 (dk_at dksX1_hoursToChange_0 17 rfl rfl)
theorem dX1_hoursToChange_18 : decode cX1_hoursToChange 18 = .ok (.invokevirtual 74, 3) := dk_182 0 74 (dk_at dksX1_hoursToChange_0 18 rfl rfl)
theorem dX1_hoursToChange_21 : decode cX1_hoursToChange 21 = .ok (.putfield 10, 3) := dk_181 0 10 (dk_at dksX1_hoursToChange_0 21 rfl rfl)
theorem dX1_hoursToChange_24 : decode cX1_hoursToChange 24 = .ok (.iconst 1, 1) := dk_4 (dk_at dksX1_hoursToChange_1 0 rfl rfl)
theorem dX1_hoursToChange_25 : decode cX1_hoursToChange 25 = .ok (.istore_n 3, 1) := dk_62 (dk_at dksX1_hoursToChange_1 1 rfl rfl)
theorem dX1_hoursToChange_26 : decode cX1_hoursToChange 26 = .ok (.iload_n 3, 1) := dk_29 (dk_at dksX1_hoursToChange_1 2 rfl rfl)
theorem dX1_hoursToChange_27 : decode cX1_hoursToChange 27 = .ok (.bipush 99, 2) := dk_16 99 (dk_at dksX1_hoursToChange_1 3 rfl rfl)
theorem dX1_hoursToChange_29 : decode cX1_hoursToChange 29 = .ok (.if_icmp .gt 71, 3) := dk_163 0 71 (dk_at dksX1_hoursToChange_1 5 rfl rfl)
theorem dX1_hoursToChange_32 : decode cX1_hoursToChange 32 = .ok (.aload_n 0, 1) := dk_42 (dk_at dksX1_hoursToChange_1 8 rfl rfl)
theorem dX1_hoursToChange_33 : decode cX1_hoursToChange 33 = .ok (.getfield 10, 3) := dk_180 0 10 (dk_at dksX1_hoursToChange_1 9 rfl rfl)
theorem dX1_hoursToChange_36 : decode cX1_hoursToChange 36 = .ok (.getfield 106, 3) := dk_180 0 106 (dk_at dksX1_hoursToChange_1 12 rfl rfl)
theorem dX1_hoursToChange_39 : decode cX1_hoursToChange 39 = .ok (.sipush 999, 3) := dk_17 3 231 (dk_at dksX1_hoursToChange_1 15 rfl rfl)
theorem dX1_hoursToChange_42 : decode cX1_hoursToChange 42 = .ok (.if_icmp .ge 58, 3) := dk_162 0 58 (dk_at dksX1_hoursToChange_1 18 rfl rfl)
theorem dX1_hoursToChange_45 : decode cX1_hoursToChange 45 = .ok (.aload_n 0, 1) := dk_42 (dk_at dksX1_hoursToChange_1 21 rfl rfl)
theorem dX1_hoursToChange_46 : decode cX1_hoursToChange 46 = .ok (.invokevirtual 268, 3) := dk_182 1 12 (dk_at dksX1_hoursToChange_2 0 rfl rfl)
theorem dX1_hoursToChange_49 : decode cX1_hoursToChange 49 = .ok (.aload_n 0, 1) := dk_42 (dk_at dksX1_hoursToChange_2 3 rfl rfl)
theorem dX1_hoursToChange_50 : decode cX1_hoursToChange 50 = .ok (.getfield 10, 3) := dk_180 0 10 (dk_at dksX1_hoursToChange_2 4 rfl rfl)
theorem dX1_hoursToChange_53 : decode cX1_hoursToChange 53 = .ok (.getfield 67, 3) := dk_180 0 67 (dk_at dksX1_hoursToChange_2 7 rfl rfl)
theorem dX1_hoursToChange_56 : decode cX1_hoursToChange 56 = .ok (.iload_n 1, 1) := dk_27 (dk_at dksX1_hoursToChange_2 10 rfl rfl)
theorem dX1_hoursToChange_57 : decode cX1_hoursToChange 57 = .ok (.invokevirtual 56, 3) := dk_182 0 56 (dk_at dksX1_hoursToChange_2 11 rfl rfl)
theorem dX1_hoursToChange_60 : decode cX1_hoursToChange 60 = .ok (.checkcast 70, 3) := dk_192 0 70 (dk_at dksX1_hoursToChange_2 14 rfl rfl)
theorem dX1_hoursToChange_63 : decode cX1_hoursToChange 63 = .ok (.getfield 145, 3) := dk_180 0 145 (dk_at dksX1_hoursToChange_2 17 rfl rfl)
theorem dX1_hoursToChange_66 : decode cX1_hoursToChange 66 = .ok (.aload_n 2, 1) := dk_44 (dk_at dksX1_hoursToChange_2 20 rfl rfl)
theorem dX1_hoursToChange_67 : decode cX1_hoursToChange 67 = .ok (.getfield 67, 3) := dk_180 0 67 (dk_at dksX1_hoursToChange_2 21 rfl rfl)
theorem dX1_hoursToChange_70 : decode cX1_hoursToChange 70 = .ok (.iload_n 1, 1) := dk_27 (dk_at dksX1_hoursToChange_3 0 rfl rfl)
theorem dX1_hoursToChange_71 : decode cX1_hoursToChange 71 = .ok (.invokevirtual 56, 3) := dk_182 0 56 (dk_at dksX1_hoursToChange_3 1 rfl rfl)
theorem dX1_hoursToChange_74 : decode cX1_hoursToChange 74 = .ok (.checkcast 70, 3) := dk_192 0 70 (dk_at dksX1_hoursToChange_3 4 rfl rfl)
theorem dX1_hoursToChange_77 : decode cX1_hoursToChange 77 = .ok (.getfield 145, 3) := dk_180 0 145 (dk_at dksX1_hoursToChange_3 7 rfl rfl)
theorem dX1_hoursToChange_80 : decode cX1_hoursToChange 80 = .ok (.if_icmp .le 14, 3) := dk_164 0 14 (dk_at dksX1_hoursToChange_3 10 rfl rfl)
theorem dX1_hoursToChange_83 : decode cX1_hoursToChange 83 = .ok (.iload_n 3, 1) := dk_29 (dk_at dksX1_hoursToChange_3 13 rfl rfl)
theorem dX1_hoursToChange_84 : decode cX1_hoursToChange 84 = .ok (.istore 4, 2) := dk_54 4 (dk_at dksX1_hoursToChange_3 14 rfl rfl)
theorem dX1_hoursToChange_86 : decode cX1_hoursToChange 86 = .ok (.aload_n 0, 1) := dk_42 (dk_at dksX1_hoursToChange_3 16 rfl rfl)
theorem dX1_hoursToChange_87 : decode cX1_hoursToChange 87 = .ok (.aload_n 2, 1) := dk_44 (dk_at dksX1_hoursToChange_3 17 rfl rfl)
theorem dX1_hoursToChange_88 : decode cX1_hoursToChange 88 = .ok (.putfield 10, 3) := dk_181 0 10 (dk_at dksX1_hoursToChange_3 18 rfl rfl)
theorem dX1_hoursToChange_91 : decode cX1_hoursToChange 91 = .ok (.iload 4, 2) := dk_21 4 (dk_at dksX1_hoursToChange_3 21 rfl rfl)
theorem dX1_hoursToChange_93 : decode cX1_hoursToChange 93 = .ok (.ireturn, 1) := dk_172 (dk_at dksX1_hoursToChange_3 23 rfl rfl)
theorem dX1_hoursToChange_94 : decode cX1_hoursToChange 94 = .ok (.iinc 3 1, 3) := dk_132 3 1 (dk_at dksX1_hoursToChange_4 0 rfl rfl)
theorem dX1_hoursToChange_97 : decode cX1_hoursToChange 97 = .ok (.goto (-71), 3) := dk_167 255 185 (dk_at dksX1_hoursToChange_4 3 rfl rfl)
theorem dX1_hoursToChange_100 : decode cX1_hoursToChange 100 = .ok (.iconst (-1), 1) := dk_2 (dk_at dksX1_hoursToChange_4 6 rfl rfl)
theorem dX1_hoursToChange_101 : decode cX1_hoursToChange 101 = .ok (.istore_n 3, 1) := dk_62 (dk_at dksX1_hoursToChange_4 7 rfl rfl)
theorem dX1_hoursToChange_102 : decode cX1_hoursToChange 102 = .ok (.aload_n 0, 1) := dk_42 (dk_at dksX1_hoursToChange_4 8 rfl rfl)
theorem dX1_hoursToChange_103 : decode cX1_hoursToChange 103 = .ok (.aload_n 2, 1) := dk_44 (dk_at dksX1_hoursToChange_4 9 rfl rfl)
theorem dX1_hoursToChange_104 : decode cX1_hoursToChange 104 = .ok (.putfield 10, 3) := dk_181 0 10 (dk_at dksX1_hoursToChange_4 10 rfl rfl)
theorem dX1_hoursToChange_107 : decode cX1_hoursToChange 107 = .ok (.iload_n 3, 1) := dk_29 (dk_at dksX1_hoursToChange_4 13 rfl rfl)
theorem dX1_hoursToChange_108 : decode cX1_hoursToChange 108 = .ok (.ireturn, 1) := dk_172 (dk_at dksX1_hoursToChange_4 14 rfl rfl)
theorem dX1_hoursToChange_109 : decode cX1_hoursToChange 109 = .ok (.astore 5, 2) := dk_58 5 (dk_at dksX1_hoursToChange_4 15 rfl rfl)
theorem dX1_hoursToChange_111 : decode cX1_hoursToChange 111 = .ok (.aload_n 0, 1) := dk_42 (dk_at dksX1_hoursToChange_4 17 rfl rfl)
theorem dX1_hoursToChange_112 : decode cX1_hoursToChange 112 = .ok (.aload_n 2, 1) := dk_44 (dk_at dksX1_hoursToChange_4 18 rfl rfl)
theorem dX1_hoursToChange_113 : decode cX1_hoursToChange 113 = .ok (.putfield 10, 3) := dk_181 0 10 (dk_at dksX1_hoursToChange_4 19 rfl rfl)
theorem dX1_hoursToChange_116 : decode cX1_hoursToChange 116 = .ok (.aload 5, 2) := dk_25 5 (dk_at dksX1_hoursToChange_4 22 rfl rfl)
theorem dX1_hoursToChange_118 : decode cX1_hoursToChange 118 = .ok (.athrow, 1) := dk_191 (dk_at dksX1_hoursToChange_5 0 rfl rfl)
theorem q102 : (Jvm.Cond.initialized "ShorePools") ∈ lw_all := lw_g (lw_at lw_m1 1 rfl) rfl
theorem q136 : (Jvm.Cond.instantiable "ShorePools" (7 : Nat)) ∈ lw_all := lw_g (lw_at lw_m1 35 rfl) rfl
theorem q138 : (Jvm.Cond.instanceMethod ({ cls := "ShorePools", name := "<init>", desc := "()V" } : Jvm.MethodName)) ∈ lw_all := lw_g (lw_at lw_m1 37 rfl) rfl
theorem q139 : (Jvm.Cond.code ({ cls := "ShorePools", name := "<init>", desc := "()V" } : Jvm.MethodName) prog_1_method_1_code (1 : Nat) (Option.none : Option Jvm.ClassFile.FieldType)) ∈ lw_all := lw_g (lw_at lw_m1 38 rfl) rfl
theorem q140 : (Jvm.Cond.methodLink "ShorePools" (1 : Nat) ({ cls := "java/lang/Object", name := "<init>", desc := "()V" } : Jvm.MethodName)) ∈ lw_all := lw_g (lw_at lw_m1 39 rfl) rfl
theorem q143 : (Jvm.Cond.classLink "ShorePools" (7 : Nat) "ShorePools$State") ∈ lw_all := lw_g (lw_at lw_m1 42 rfl) rfl
theorem q145 : (Jvm.Cond.methodLink "ShorePools" (9 : Nat) ({ cls := "ShorePools$State", name := "<init>", desc := "()V" } : Jvm.MethodName)) ∈ lw_all := lw_g (lw_at lw_m1 44 rfl) rfl
theorem q176 : (Jvm.Cond.fieldLink "ShorePools" (46 : Nat) "ShorePools$State" "limpets" "Ljava/util/ArrayList;") ∈ lw_all := lw_g (lw_at lw_m1 75 rfl) rfl
theorem q179 : (Jvm.Cond.fieldLink "ShorePools" (62 : Nat) "ShorePools$State" "shells" "Ljava/util/ArrayList;") ∈ lw_all := lw_g (lw_at lw_m1 78 rfl) rfl
theorem q182 : (Jvm.Cond.fieldLink "ShorePools" (67 : Nat) "ShorePools$State" "crabs" "Ljava/util/ArrayList;") ∈ lw_all := lw_g (lw_at lw_m1 81 rfl) rfl
theorem q185 : (Jvm.Cond.fieldLink "ShorePools" (103 : Nat) "ShorePools$State" "heights" "[I") ∈ lw_all := lw_g (lw_at lw_m1 84 rfl) rfl
theorem q188 : (Jvm.Cond.fieldLink "ShorePools" (177 : Nat) "ShorePools$State" "warmth" "[I") ∈ lw_all := lw_g (lw_at lw_m1 87 rfl) rfl
theorem q190 : (Jvm.Cond.fieldLink "ShorePools" (189 : Nat) "ShorePools$State" "weed" "[I") ∈ lw_all := lw_g (lw_at lw_m1 89 rfl) rfl
theorem q192 : (Jvm.Cond.fieldLink "ShorePools" (106 : Nat) "ShorePools$State" "time" "I") ∈ lw_all := lw_g (lw_at lw_m1 91 rfl) rfl
theorem q194 : (Jvm.Cond.fieldLink "ShorePools" (89 : Nat) "ShorePools$State" "low" "I") ∈ lw_all := lw_g (lw_at lw_m1 93 rfl) rfl
theorem q197 : (Jvm.Cond.fieldLink "ShorePools" (93 : Nat) "ShorePools$State" "high" "I") ∈ lw_all := lw_g (lw_at lw_m1 96 rfl) rfl
theorem q200 : (Jvm.Cond.fieldLink "ShorePools" (180 : Nat) "ShorePools$State" "heat" "I") ∈ lw_all := lw_g (lw_at lw_m1 99 rfl) rfl
theorem q202 : (Jvm.Cond.fieldLink "ShorePools" (259 : Nat) "ShorePools$State" "pause" "I") ∈ lw_all := lw_g (lw_at lw_m1 101 rfl) rfl
theorem q204 : (Jvm.Cond.fieldLink "ShorePools" (213 : Nat) "ShorePools$State" "heron" "I") ∈ lw_all := lw_g (lw_at lw_m1 103 rfl) rfl
theorem q206 : (Jvm.Cond.fieldLink "ShorePools" (237 : Nat) "ShorePools$State" "taken" "I") ∈ lw_all := lw_g (lw_at lw_m1 105 rfl) rfl
theorem q208 : (Jvm.Cond.fieldLink "ShorePools" (170 : Nat) "ShorePools$State" "lost" "I") ∈ lw_all := lw_g (lw_at lw_m1 107 rfl) rfl
theorem q239 : (Jvm.Cond.classLink "ShorePools" (16 : Nat) "java/lang/StringBuilder") ∈ lw_all := lw_g (lw_at lw_m1 138 rfl) rfl
theorem q241 : (Jvm.Cond.methodLink "ShorePools" (18 : Nat) ({ cls := "java/lang/StringBuilder", name := "<init>", desc := "()V" } : Jvm.MethodName)) ∈ lw_all := lw_g (lw_at lw_m1 140 rfl) rfl
theorem q272 : (Jvm.Cond.fieldLink "ShorePools" (10 : Nat) "ShorePools" "now" "LShorePools$State;") ∈ lw_all := lw_g (lw_at lw_m1 171 rfl) rfl
theorem q274 : (Jvm.Cond.fieldLink "ShorePools" (353 : Nat) "ShorePools" "snapshot" "LShorePools$State;") ∈ lw_all := lw_g (lw_at lw_m1 173 rfl) rfl
theorem q275 : (Jvm.Cond.fieldLink "ShorePools" (78 : Nat) "ShorePools" "recorded" "LShorePools$Record;") ∈ lw_all := lw_g (lw_at lw_m1 174 rfl) rfl
theorem q276 : (Jvm.Cond.fieldLink "ShorePools" (19 : Nat) "ShorePools" "note" "Ljava/lang/StringBuilder;") ∈ lw_all := lw_g (lw_at lw_m1 175 rfl) rfl
theorem q278 : (Jvm.Cond.fieldLink "ShorePools" (23 : Nat) "ShorePools" "turns" "[I") ∈ lw_all := lw_g (lw_at lw_m1 177 rfl) rfl
theorem q279 : (Jvm.Cond.fieldLink "ShorePools" (27 : Nat) "ShorePools" "wearers" "[I") ∈ lw_all := lw_g (lw_at lw_m1 178 rfl) rfl
theorem q280 : (Jvm.Cond.fieldLink "ShorePools" (30 : Nat) "ShorePools" "worn" "[I") ∈ lw_all := lw_g (lw_at lw_m1 179 rfl) rfl
theorem q281 : (Jvm.Cond.lays "ShorePools" "ShorePools" "now" "LShorePools$State;") ∈ lw_all := lw_g (lw_at lw_m1 180 rfl) rfl
theorem q282 : (Jvm.Cond.soleField "ShorePools" "now") ∈ lw_all := lw_g (lw_at lw_m1 181 rfl) rfl
theorem q283 : (Jvm.Cond.lays "ShorePools" "ShorePools" "snapshot" "LShorePools$State;") ∈ lw_all := lw_g (lw_at lw_m1 182 rfl) rfl
theorem q284 : (Jvm.Cond.soleField "ShorePools" "snapshot") ∈ lw_all := lw_g (lw_at lw_m1 183 rfl) rfl
theorem q285 : (Jvm.Cond.lays "ShorePools" "ShorePools" "recorded" "LShorePools$Record;") ∈ lw_all := lw_g (lw_at lw_m1 184 rfl) rfl
theorem q286 : (Jvm.Cond.soleField "ShorePools" "recorded") ∈ lw_all := lw_g (lw_at lw_m1 185 rfl) rfl
theorem q287 : (Jvm.Cond.laysFinal "ShorePools" "ShorePools" "note" "Ljava/lang/StringBuilder;") ∈ lw_all := lw_g (lw_at lw_m1 186 rfl) rfl
theorem q288 : (Jvm.Cond.soleField "ShorePools" "note") ∈ lw_all := lw_g (lw_at lw_m1 187 rfl) rfl
theorem q289 : (Jvm.Cond.laysFinal "ShorePools" "ShorePools" "turns" "[I") ∈ lw_all := lw_g (lw_at lw_m1 188 rfl) rfl
theorem q290 : (Jvm.Cond.soleField "ShorePools" "turns") ∈ lw_all := lw_g (lw_at lw_m1 189 rfl) rfl
theorem q291 : (Jvm.Cond.laysFinal "ShorePools" "ShorePools" "wearers" "[I") ∈ lw_all := lw_g (lw_at lw_m1 190 rfl) rfl
theorem q292 : (Jvm.Cond.soleField "ShorePools" "wearers") ∈ lw_all := lw_g (lw_at lw_m1 191 rfl) rfl
theorem q293 : (Jvm.Cond.laysFinal "ShorePools" "ShorePools" "worn" "[I") ∈ lw_all := lw_g (lw_at lw_m1 192 rfl) rfl
theorem q294 : (Jvm.Cond.soleField "ShorePools" "worn") ∈ lw_all := lw_g (lw_at lw_m1 193 rfl) rfl
theorem q295 : (Jvm.Cond.superclass "ShorePools" "java/lang/Object") ∈ lw_all := lw_g (lw_at lw_m1 194 rfl) rfl
theorem q297 : (Jvm.Cond.instanceMethod ({ cls := "ShorePools", name := "clearNote", desc := "()I" } : Jvm.MethodName)) ∈ lw_all := lw_g (lw_at lw_m1 196 rfl) rfl
theorem q298 : (Jvm.Cond.selects "ShorePools" ({ cls := "ShorePools", name := "clearNote", desc := "()I" } : Jvm.MethodName) ({ cls := "ShorePools", name := "clearNote", desc := "()I" } : Jvm.MethodName)) ∈ lw_all := lw_g (lw_at lw_m1 197 rfl) rfl
theorem q299 : (Jvm.Cond.code ({ cls := "ShorePools", name := "clearNote", desc := "()I" } : Jvm.MethodName) prog_1_method_49_code (2 : Nat) (Option.some Jvm.ClassFile.FieldType.int)) ∈ lw_all := lw_g (lw_at lw_m1 198 rfl) rfl
theorem q300 : (Jvm.Cond.methodLink "ShorePools" (312 : Nat) ({ cls := "java/lang/StringBuilder", name := "length", desc := "()I" } : Jvm.MethodName)) ∈ lw_all := lw_g (lw_at lw_m1 199 rfl) rfl
theorem q307 : (Jvm.Cond.methodLink "ShorePools" (319 : Nat) ({ cls := "java/lang/StringBuilder", name := "setLength", desc := "(I)V" } : Jvm.MethodName)) ∈ lw_all := lw_g (lw_at lw_m1 206 rfl) rfl
theorem q647 : (Jvm.Cond.instanceMethod ({ cls := "ShorePools", name := "noteError", desc := "()I" } : Jvm.MethodName)) ∈ lw_all := lw_g (lw_at lw_m3 66 rfl) rfl
theorem q648 : (Jvm.Cond.selects "ShorePools" ({ cls := "ShorePools", name := "noteError", desc := "()I" } : Jvm.MethodName) ({ cls := "ShorePools", name := "noteError", desc := "()I" } : Jvm.MethodName)) ∈ lw_all := lw_g (lw_at lw_m3 67 rfl) rfl
theorem q649 : (Jvm.Cond.code ({ cls := "ShorePools", name := "noteError", desc := "()I" } : Jvm.MethodName) prog_1_method_50_code (1 : Nat) (Option.some Jvm.ClassFile.FieldType.int)) ∈ lw_all := lw_g (lw_at lw_m3 68 rfl) rfl
theorem q650 : (Jvm.Cond.classLink "ShorePools" (322 : Nat) "ShorePools$Reader") ∈ lw_all := lw_g (lw_at lw_m3 69 rfl) rfl
theorem q652 : (Jvm.Cond.methodLinkNest "ShorePools" (324 : Nat) ({ cls := "ShorePools$Reader", name := "<init>", desc := "(LShorePools;)V" } : Jvm.MethodName) "ShorePools") ∈ lw_tbl := lw_at lw_m3 71 rfl
theorem q672 : (Jvm.Cond.methodLink "ShorePools" (327 : Nat) ({ cls := "ShorePools$Reader", name := "error", desc := "()I" } : Jvm.MethodName)) ∈ lw_all := lw_g (lw_at lw_m3 91 rfl) rfl
theorem q827 : (Jvm.Cond.instanceMethod ({ cls := "ShorePools", name := "takeSnapshot", desc := "()I" } : Jvm.MethodName)) ∈ lw_all := lw_g (lw_at lw_m4 6 rfl) rfl
theorem q828 : (Jvm.Cond.selects "ShorePools" ({ cls := "ShorePools", name := "takeSnapshot", desc := "()I" } : Jvm.MethodName) ({ cls := "ShorePools", name := "takeSnapshot", desc := "()I" } : Jvm.MethodName)) ∈ lw_all := lw_g (lw_at lw_m4 7 rfl) rfl
theorem q829 : (Jvm.Cond.code ({ cls := "ShorePools", name := "takeSnapshot", desc := "()I" } : Jvm.MethodName) prog_1_method_55_code (1 : Nat) (Option.some Jvm.ClassFile.FieldType.int)) ∈ lw_all := lw_g (lw_at lw_m4 8 rfl) rfl
theorem q830 : (Jvm.Cond.methodLink "ShorePools" (74 : Nat) ({ cls := "ShorePools$State", name := "copy", desc := "()LShorePools$State;" } : Jvm.MethodName)) ∈ lw_all := lw_g (lw_at lw_m4 9 rfl) rfl
theorem q864 : (Jvm.Cond.fieldLink "ShorePools" (192 : Nat) "ShorePools$Limpet" "pool" "I") ∈ lw_all := lw_g (lw_at lw_m4 43 rfl) rfl
theorem q866 : (Jvm.Cond.fieldLink "ShorePools" (193 : Nat) "ShorePools$Limpet" "water" "I") ∈ lw_all := lw_g (lw_at lw_m4 45 rfl) rfl
theorem q868 : (Jvm.Cond.fieldLink "ShorePools" (199 : Nat) "ShorePools$Limpet" "food" "I") ∈ lw_all := lw_g (lw_at lw_m4 47 rfl) rfl
theorem q870 : (Jvm.Cond.fieldLink "ShorePools" (196 : Nat) "ShorePools$Limpet" "steps" "I") ∈ lw_all := lw_g (lw_at lw_m4 49 rfl) rfl
theorem q872 : (Jvm.Cond.fieldLink "ShorePools" (173 : Nat) "ShorePools$Limpet" "fate" "I") ∈ lw_all := lw_g (lw_at lw_m4 51 rfl) rfl
theorem q907 : (Jvm.Cond.selects "ShorePools" ({ cls := "java/lang/Object", name := "getClass", desc := "()Ljava/lang/Class;" } : Jvm.MethodName) ({ cls := "java/lang/Object", name := "getClass", desc := "()Ljava/lang/Class;" } : Jvm.MethodName)) ∈ lw_all := lw_g (lw_at lw_m4 86 rfl) rfl
theorem q945 : (Jvm.Cond.fieldLink "ShorePools" (360 : Nat) "ShorePools$Shell" "size" "I") ∈ lw_all := lw_g (lw_at lw_m4 124 rfl) rfl
theorem q947 : (Jvm.Cond.fieldLink "ShorePools" (140 : Nat) "ShorePools$Shell" "pool" "I") ∈ lw_all := lw_g (lw_at lw_m4 126 rfl) rfl
theorem q949 : (Jvm.Cond.fieldLink "ShorePools" (134 : Nat) "ShorePools$Shell" "wearer" "I") ∈ lw_all := lw_g (lw_at lw_m4 128 rfl) rfl
theorem q969 : (Jvm.Cond.fieldLink "ShorePools" (137 : Nat) "ShorePools$Crab" "pool" "I") ∈ lw_all := lw_g (lw_at lw_m4 148 rfl) rfl
theorem q971 : (Jvm.Cond.fieldLink "ShorePools" (148 : Nat) "ShorePools$Crab" "size" "I") ∈ lw_all := lw_g (lw_at lw_m4 150 rfl) rfl
theorem q973 : (Jvm.Cond.fieldLink "ShorePools" (113 : Nat) "ShorePools$Crab" "shell" "I") ∈ lw_all := lw_g (lw_at lw_m4 152 rfl) rfl
theorem q975 : (Jvm.Cond.fieldLink "ShorePools" (145 : Nat) "ShorePools$Crab" "changes" "I") ∈ lw_all := lw_g (lw_at lw_m4 154 rfl) rfl
theorem q977 : (Jvm.Cond.fieldLink "ShorePools" (167 : Nat) "ShorePools$Crab" "fate" "I") ∈ lw_all := lw_g (lw_at lw_m4 156 rfl) rfl
theorem q990 : (Jvm.Cond.instanceMethod ({ cls := "ShorePools", name := "time", desc := "()I" } : Jvm.MethodName)) ∈ lw_all := lw_g (lw_at lw_m4 169 rfl) rfl
theorem q991 : (Jvm.Cond.selects "ShorePools" ({ cls := "ShorePools", name := "time", desc := "()I" } : Jvm.MethodName) ({ cls := "ShorePools", name := "time", desc := "()I" } : Jvm.MethodName)) ∈ lw_all := lw_g (lw_at lw_m4 170 rfl) rfl
theorem q992 : (Jvm.Cond.code ({ cls := "ShorePools", name := "time", desc := "()I" } : Jvm.MethodName) prog_1_method_57_code (1 : Nat) (Option.some Jvm.ClassFile.FieldType.int)) ∈ lw_all := lw_g (lw_at lw_m4 171 rfl) rfl
theorem q994 : (Jvm.Cond.instanceMethod ({ cls := "ShorePools", name := "tide", desc := "()I" } : Jvm.MethodName)) ∈ lw_all := lw_g (lw_at lw_m4 173 rfl) rfl
theorem q995 : (Jvm.Cond.selects "ShorePools" ({ cls := "ShorePools", name := "tide", desc := "()I" } : Jvm.MethodName) ({ cls := "ShorePools", name := "tide", desc := "()I" } : Jvm.MethodName)) ∈ lw_all := lw_g (lw_at lw_m4 174 rfl) rfl
theorem q996 : (Jvm.Cond.code ({ cls := "ShorePools", name := "tide", desc := "()I" } : Jvm.MethodName) prog_1_method_58_code (1 : Nat) (Option.some Jvm.ClassFile.FieldType.int)) ∈ lw_all := lw_g (lw_at lw_m4 175 rfl) rfl
theorem q997 : (Jvm.Cond.methodLink "ShorePools" (96 : Nat) ({ cls := "ShorePools", name := "rise", desc := "(I)I" } : Jvm.MethodName)) ∈ lw_all := lw_g (lw_at lw_m4 176 rfl) rfl
theorem q998 : (Jvm.Cond.static ({ cls := "ShorePools", name := "rise", desc := "(I)I" } : Jvm.MethodName)) ∈ lw_all := lw_g (lw_at lw_m4 177 rfl) rfl
theorem q999 : (Jvm.Cond.code ({ cls := "ShorePools", name := "rise", desc := "(I)I" } : Jvm.MethodName) prog_1_method_10_code (2 : Nat) (Option.some Jvm.ClassFile.FieldType.int)) ∈ lw_all := lw_g (lw_at lw_m4 178 rfl) rfl
theorem q1000 : (Jvm.Cond.methodLink "ShorePools" (100 : Nat) ({ cls := "ShorePools", name := "height", desc := "(I)I" } : Jvm.MethodName)) ∈ lw_all := lw_g (lw_at lw_m4 179 rfl) rfl
theorem q1001 : (Jvm.Cond.privateMethod ({ cls := "ShorePools", name := "height", desc := "(I)I" } : Jvm.MethodName)) ∈ lw_tbl := lw_at lw_m4 180 rfl
theorem q1002 : (Jvm.Cond.instanceMethod ({ cls := "ShorePools", name := "height", desc := "(I)I" } : Jvm.MethodName)) ∈ lw_all := lw_g (lw_at lw_m4 181 rfl) rfl
theorem q1003 : (Jvm.Cond.code ({ cls := "ShorePools", name := "height", desc := "(I)I" } : Jvm.MethodName) prog_1_method_11_code (2 : Nat) (Option.some Jvm.ClassFile.FieldType.int)) ∈ lw_all := lw_g (lw_at lw_m4 182 rfl) rfl
theorem q1005 : (Jvm.Cond.instanceMethod ({ cls := "ShorePools", name := "heat", desc := "()I" } : Jvm.MethodName)) ∈ lw_all := lw_g (lw_at lw_m4 184 rfl) rfl
theorem q1006 : (Jvm.Cond.selects "ShorePools" ({ cls := "ShorePools", name := "heat", desc := "()I" } : Jvm.MethodName) ({ cls := "ShorePools", name := "heat", desc := "()I" } : Jvm.MethodName)) ∈ lw_all := lw_g (lw_at lw_m4 185 rfl) rfl
theorem q1007 : (Jvm.Cond.code ({ cls := "ShorePools", name := "heat", desc := "()I" } : Jvm.MethodName) prog_1_method_60_code (1 : Nat) (Option.some Jvm.ClassFile.FieldType.int)) ∈ lw_all := lw_g (lw_at lw_m4 186 rfl) rfl
theorem q1009 : (Jvm.Cond.instanceMethod ({ cls := "ShorePools", name := "pause", desc := "()I" } : Jvm.MethodName)) ∈ lw_all := lw_g (lw_at lw_m4 188 rfl) rfl
theorem q1010 : (Jvm.Cond.selects "ShorePools" ({ cls := "ShorePools", name := "pause", desc := "()I" } : Jvm.MethodName) ({ cls := "ShorePools", name := "pause", desc := "()I" } : Jvm.MethodName)) ∈ lw_all := lw_g (lw_at lw_m4 189 rfl) rfl
theorem q1011 : (Jvm.Cond.code ({ cls := "ShorePools", name := "pause", desc := "()I" } : Jvm.MethodName) prog_1_method_61_code (1 : Nat) (Option.some Jvm.ClassFile.FieldType.int)) ∈ lw_all := lw_g (lw_at lw_m4 190 rfl) rfl
theorem q1013 : (Jvm.Cond.instanceMethod ({ cls := "ShorePools", name := "floodedPools", desc := "()I" } : Jvm.MethodName)) ∈ lw_all := lw_g (lw_at lw_m4 192 rfl) rfl
theorem q1014 : (Jvm.Cond.selects "ShorePools" ({ cls := "ShorePools", name := "floodedPools", desc := "()I" } : Jvm.MethodName) ({ cls := "ShorePools", name := "floodedPools", desc := "()I" } : Jvm.MethodName)) ∈ lw_all := lw_g (lw_at lw_m4 193 rfl) rfl
theorem q1015 : (Jvm.Cond.code ({ cls := "ShorePools", name := "floodedPools", desc := "()I" } : Jvm.MethodName) prog_1_method_64_code (3 : Nat) (Option.some Jvm.ClassFile.FieldType.int)) ∈ lw_all := lw_g (lw_at lw_m4 194 rfl) rfl
theorem q1016 : (Jvm.Cond.methodLink "ShorePools" (174 : Nat) ({ cls := "ShorePools", name := "isFloodedNow", desc := "(I)Z" } : Jvm.MethodName)) ∈ lw_all := lw_g (lw_at lw_m4 195 rfl) rfl
theorem q1017 : (Jvm.Cond.privateMethod ({ cls := "ShorePools", name := "isFloodedNow", desc := "(I)Z" } : Jvm.MethodName)) ∈ lw_tbl := lw_at lw_m4 196 rfl
theorem q1018 : (Jvm.Cond.instanceMethod ({ cls := "ShorePools", name := "isFloodedNow", desc := "(I)Z" } : Jvm.MethodName)) ∈ lw_all := lw_g (lw_at lw_m4 197 rfl) rfl
theorem q1019 : (Jvm.Cond.code ({ cls := "ShorePools", name := "isFloodedNow", desc := "(I)Z" } : Jvm.MethodName) prog_1_method_13_code (2 : Nat) (Option.some Jvm.ClassFile.FieldType.boolean)) ∈ lw_all := lw_g (lw_at lw_m4 198 rfl) rfl
theorem q1020 : (Jvm.Cond.methodLink "ShorePools" (109 : Nat) ({ cls := "ShorePools", name := "isFloodedAt", desc := "(II)Z" } : Jvm.MethodName)) ∈ lw_all := lw_g (lw_at lw_m4 199 rfl) rfl
theorem q1021 : (Jvm.Cond.privateMethod ({ cls := "ShorePools", name := "isFloodedAt", desc := "(II)Z" } : Jvm.MethodName)) ∈ lw_tbl := lw_at lw_m4 200 rfl
theorem q1022 : (Jvm.Cond.instanceMethod ({ cls := "ShorePools", name := "isFloodedAt", desc := "(II)Z" } : Jvm.MethodName)) ∈ lw_all := lw_g (lw_at lw_m4 201 rfl) rfl
theorem q1023 : (Jvm.Cond.code ({ cls := "ShorePools", name := "isFloodedAt", desc := "(II)Z" } : Jvm.MethodName) prog_1_method_12_code (3 : Nat) (Option.some Jvm.ClassFile.FieldType.boolean)) ∈ lw_all := lw_g (lw_at lw_m4 202 rfl) rfl
theorem q1025 : (Jvm.Cond.instanceMethod ({ cls := "ShorePools", name := "limpets", desc := "()I" } : Jvm.MethodName)) ∈ lw_all := lw_g (lw_at lw_m4 204 rfl) rfl
theorem q1026 : (Jvm.Cond.selects "ShorePools" ({ cls := "ShorePools", name := "limpets", desc := "()I" } : Jvm.MethodName) ({ cls := "ShorePools", name := "limpets", desc := "()I" } : Jvm.MethodName)) ∈ lw_all := lw_g (lw_at lw_m4 205 rfl) rfl
theorem q1027 : (Jvm.Cond.code ({ cls := "ShorePools", name := "limpets", desc := "()I" } : Jvm.MethodName) prog_1_method_70_code (1 : Nat) (Option.some Jvm.ClassFile.FieldType.int)) ∈ lw_all := lw_g (lw_at lw_m4 206 rfl) rfl
theorem q1028 : (Jvm.Cond.methodLink "ShorePools" (50 : Nat) ({ cls := "java/util/ArrayList", name := "size", desc := "()I" } : Jvm.MethodName)) ∈ lw_all := lw_g (lw_at lw_m4 207 rfl) rfl
theorem q1030 : (Jvm.Cond.instanceMethod ({ cls := "ShorePools", name := "livingLimpets", desc := "()I" } : Jvm.MethodName)) ∈ lw_all := lw_g (lw_at lw_m4 209 rfl) rfl
theorem q1031 : (Jvm.Cond.selects "ShorePools" ({ cls := "ShorePools", name := "livingLimpets", desc := "()I" } : Jvm.MethodName) ({ cls := "ShorePools", name := "livingLimpets", desc := "()I" } : Jvm.MethodName)) ∈ lw_all := lw_g (lw_at lw_m4 210 rfl) rfl
theorem q1032 : (Jvm.Cond.code ({ cls := "ShorePools", name := "livingLimpets", desc := "()I" } : Jvm.MethodName) prog_1_method_71_code (3 : Nat) (Option.some Jvm.ClassFile.FieldType.int)) ∈ lw_all := lw_g (lw_at lw_m4 211 rfl) rfl
theorem q1033 : (Jvm.Cond.methodLink "ShorePools" (56 : Nat) ({ cls := "java/util/ArrayList", name := "get", desc := "(I)Ljava/lang/Object;" } : Jvm.MethodName)) ∈ lw_all := lw_g (lw_at lw_m4 212 rfl) rfl
theorem q1034 : (Jvm.Cond.classLink "ShorePools" (60 : Nat) "ShorePools$Limpet") ∈ lw_all := lw_g (lw_at lw_m4 213 rfl) rfl
theorem q1057 : (Jvm.Cond.instanceMethod ({ cls := "ShorePools", name := "driest", desc := "()I" } : Jvm.MethodName)) ∈ lw_all := lw_g (lw_at lw_m4 236 rfl) rfl
theorem q1058 : (Jvm.Cond.selects "ShorePools" ({ cls := "ShorePools", name := "driest", desc := "()I" } : Jvm.MethodName) ({ cls := "ShorePools", name := "driest", desc := "()I" } : Jvm.MethodName)) ∈ lw_all := lw_g (lw_at lw_m4 237 rfl) rfl
theorem q1059 : (Jvm.Cond.code ({ cls := "ShorePools", name := "driest", desc := "()I" } : Jvm.MethodName) prog_1_method_77_code (6 : Nat) (Option.some Jvm.ClassFile.FieldType.int)) ∈ lw_all := lw_g (lw_at lw_m4 238 rfl) rfl
theorem q1061 : (Jvm.Cond.instanceMethod ({ cls := "ShorePools", name := "shells", desc := "()I" } : Jvm.MethodName)) ∈ lw_all := lw_g (lw_at lw_m5 0 rfl) rfl
theorem q1062 : (Jvm.Cond.selects "ShorePools" ({ cls := "ShorePools", name := "shells", desc := "()I" } : Jvm.MethodName) ({ cls := "ShorePools", name := "shells", desc := "()I" } : Jvm.MethodName)) ∈ lw_all := lw_g (lw_at lw_m5 1 rfl) rfl
theorem q1063 : (Jvm.Cond.code ({ cls := "ShorePools", name := "shells", desc := "()I" } : Jvm.MethodName) prog_1_method_78_code (1 : Nat) (Option.some Jvm.ClassFile.FieldType.int)) ∈ lw_all := lw_g (lw_at lw_m5 2 rfl) rfl
theorem q1065 : (Jvm.Cond.instanceMethod ({ cls := "ShorePools", name := "crabs", desc := "()I" } : Jvm.MethodName)) ∈ lw_all := lw_g (lw_at lw_m5 4 rfl) rfl
theorem q1066 : (Jvm.Cond.selects "ShorePools" ({ cls := "ShorePools", name := "crabs", desc := "()I" } : Jvm.MethodName) ({ cls := "ShorePools", name := "crabs", desc := "()I" } : Jvm.MethodName)) ∈ lw_all := lw_g (lw_at lw_m5 5 rfl) rfl
theorem q1067 : (Jvm.Cond.code ({ cls := "ShorePools", name := "crabs", desc := "()I" } : Jvm.MethodName) prog_1_method_79_code (1 : Nat) (Option.some Jvm.ClassFile.FieldType.int)) ∈ lw_all := lw_g (lw_at lw_m5 6 rfl) rfl
theorem q1069 : (Jvm.Cond.instanceMethod ({ cls := "ShorePools", name := "livingCrabs", desc := "()I" } : Jvm.MethodName)) ∈ lw_all := lw_g (lw_at lw_m5 8 rfl) rfl
theorem q1070 : (Jvm.Cond.selects "ShorePools" ({ cls := "ShorePools", name := "livingCrabs", desc := "()I" } : Jvm.MethodName) ({ cls := "ShorePools", name := "livingCrabs", desc := "()I" } : Jvm.MethodName)) ∈ lw_all := lw_g (lw_at lw_m5 9 rfl) rfl
theorem q1071 : (Jvm.Cond.code ({ cls := "ShorePools", name := "livingCrabs", desc := "()I" } : Jvm.MethodName) prog_1_method_80_code (3 : Nat) (Option.some Jvm.ClassFile.FieldType.int)) ∈ lw_all := lw_g (lw_at lw_m5 10 rfl) rfl
theorem q1072 : (Jvm.Cond.classLink "ShorePools" (70 : Nat) "ShorePools$Crab") ∈ lw_all := lw_g (lw_at lw_m5 11 rfl) rfl
theorem q1075 : (Jvm.Cond.instanceMethod ({ cls := "ShorePools", name := "wornByShells", desc := "()I" } : Jvm.MethodName)) ∈ lw_all := lw_g (lw_at lw_m5 14 rfl) rfl
theorem q1076 : (Jvm.Cond.selects "ShorePools" ({ cls := "ShorePools", name := "wornByShells", desc := "()I" } : Jvm.MethodName) ({ cls := "ShorePools", name := "wornByShells", desc := "()I" } : Jvm.MethodName)) ∈ lw_all := lw_g (lw_at lw_m5 15 rfl) rfl
theorem q1077 : (Jvm.Cond.code ({ cls := "ShorePools", name := "wornByShells", desc := "()I" } : Jvm.MethodName) prog_1_method_81_code (3 : Nat) (Option.some Jvm.ClassFile.FieldType.int)) ∈ lw_all := lw_g (lw_at lw_m5 16 rfl) rfl
theorem q1078 : (Jvm.Cond.classLink "ShorePools" (65 : Nat) "ShorePools$Shell") ∈ lw_all := lw_g (lw_at lw_m5 17 rfl) rfl
theorem q1080 : (Jvm.Cond.instanceMethod ({ cls := "ShorePools", name := "wornByCrabs", desc := "()I" } : Jvm.MethodName)) ∈ lw_all := lw_g (lw_at lw_m5 19 rfl) rfl
theorem q1081 : (Jvm.Cond.selects "ShorePools" ({ cls := "ShorePools", name := "wornByCrabs", desc := "()I" } : Jvm.MethodName) ({ cls := "ShorePools", name := "wornByCrabs", desc := "()I" } : Jvm.MethodName)) ∈ lw_all := lw_g (lw_at lw_m5 20 rfl) rfl
theorem q1082 : (Jvm.Cond.code ({ cls := "ShorePools", name := "wornByCrabs", desc := "()I" } : Jvm.MethodName) prog_1_method_82_code (3 : Nat) (Option.some Jvm.ClassFile.FieldType.int)) ∈ lw_all := lw_g (lw_at lw_m5 21 rfl) rfl
theorem q1084 : (Jvm.Cond.instanceMethod ({ cls := "ShorePools", name := "heronAt", desc := "()I" } : Jvm.MethodName)) ∈ lw_all := lw_g (lw_at lw_m5 23 rfl) rfl
theorem q1085 : (Jvm.Cond.selects "ShorePools" ({ cls := "ShorePools", name := "heronAt", desc := "()I" } : Jvm.MethodName) ({ cls := "ShorePools", name := "heronAt", desc := "()I" } : Jvm.MethodName)) ∈ lw_all := lw_g (lw_at lw_m5 24 rfl) rfl
theorem q1086 : (Jvm.Cond.code ({ cls := "ShorePools", name := "heronAt", desc := "()I" } : Jvm.MethodName) prog_1_method_93_code (1 : Nat) (Option.some Jvm.ClassFile.FieldType.int)) ∈ lw_all := lw_g (lw_at lw_m5 25 rfl) rfl
theorem q1088 : (Jvm.Cond.instanceMethod ({ cls := "ShorePools", name := "nextOfHeron", desc := "()I" } : Jvm.MethodName)) ∈ lw_all := lw_g (lw_at lw_m5 27 rfl) rfl
theorem q1089 : (Jvm.Cond.selects "ShorePools" ({ cls := "ShorePools", name := "nextOfHeron", desc := "()I" } : Jvm.MethodName) ({ cls := "ShorePools", name := "nextOfHeron", desc := "()I" } : Jvm.MethodName)) ∈ lw_all := lw_g (lw_at lw_m5 28 rfl) rfl
theorem q1090 : (Jvm.Cond.code ({ cls := "ShorePools", name := "nextOfHeron", desc := "()I" } : Jvm.MethodName) prog_1_method_94_code (1 : Nat) (Option.some Jvm.ClassFile.FieldType.int)) ∈ lw_all := lw_g (lw_at lw_m5 29 rfl) rfl
theorem q1091 : (Jvm.Cond.methodLink "ShorePools" (227 : Nat) ({ cls := "ShorePools", name := "nextBare", desc := "()I" } : Jvm.MethodName)) ∈ lw_all := lw_g (lw_at lw_m5 30 rfl) rfl
theorem q1092 : (Jvm.Cond.privateMethod ({ cls := "ShorePools", name := "nextBare", desc := "()I" } : Jvm.MethodName)) ∈ lw_tbl := lw_at lw_m5 31 rfl
theorem q1093 : (Jvm.Cond.instanceMethod ({ cls := "ShorePools", name := "nextBare", desc := "()I" } : Jvm.MethodName)) ∈ lw_all := lw_g (lw_at lw_m5 32 rfl) rfl
theorem q1094 : (Jvm.Cond.code ({ cls := "ShorePools", name := "nextBare", desc := "()I" } : Jvm.MethodName) prog_1_method_27_code (3 : Nat) (Option.some Jvm.ClassFile.FieldType.int)) ∈ lw_all := lw_g (lw_at lw_m5 33 rfl) rfl
theorem q1096 : (Jvm.Cond.instanceMethod ({ cls := "ShorePools", name := "taken", desc := "()I" } : Jvm.MethodName)) ∈ lw_all := lw_g (lw_at lw_m5 35 rfl) rfl
theorem q1097 : (Jvm.Cond.selects "ShorePools" ({ cls := "ShorePools", name := "taken", desc := "()I" } : Jvm.MethodName) ({ cls := "ShorePools", name := "taken", desc := "()I" } : Jvm.MethodName)) ∈ lw_all := lw_g (lw_at lw_m5 36 rfl) rfl
theorem q1098 : (Jvm.Cond.code ({ cls := "ShorePools", name := "taken", desc := "()I" } : Jvm.MethodName) prog_1_method_96_code (1 : Nat) (Option.some Jvm.ClassFile.FieldType.int)) ∈ lw_all := lw_g (lw_at lw_m5 37 rfl) rfl
theorem q1100 : (Jvm.Cond.instanceMethod ({ cls := "ShorePools", name := "takenByFates", desc := "()I" } : Jvm.MethodName)) ∈ lw_all := lw_g (lw_at lw_m5 39 rfl) rfl
theorem q1101 : (Jvm.Cond.selects "ShorePools" ({ cls := "ShorePools", name := "takenByFates", desc := "()I" } : Jvm.MethodName) ({ cls := "ShorePools", name := "takenByFates", desc := "()I" } : Jvm.MethodName)) ∈ lw_all := lw_g (lw_at lw_m5 40 rfl) rfl
theorem q1102 : (Jvm.Cond.code ({ cls := "ShorePools", name := "takenByFates", desc := "()I" } : Jvm.MethodName) prog_1_method_97_code (3 : Nat) (Option.some Jvm.ClassFile.FieldType.int)) ∈ lw_all := lw_g (lw_at lw_m5 41 rfl) rfl
theorem q1104 : (Jvm.Cond.instanceMethod ({ cls := "ShorePools", name := "mildestPause", desc := "()I" } : Jvm.MethodName)) ∈ lw_all := lw_g (lw_at lw_m5 43 rfl) rfl
theorem q1105 : (Jvm.Cond.selects "ShorePools" ({ cls := "ShorePools", name := "mildestPause", desc := "()I" } : Jvm.MethodName) ({ cls := "ShorePools", name := "mildestPause", desc := "()I" } : Jvm.MethodName)) ∈ lw_all := lw_g (lw_at lw_m5 44 rfl) rfl
theorem q1106 : (Jvm.Cond.code ({ cls := "ShorePools", name := "mildestPause", desc := "()I" } : Jvm.MethodName) prog_1_method_107_code (5 : Nat) (Option.some Jvm.ClassFile.FieldType.int)) ∈ lw_all := lw_g (lw_at lw_m5 45 rfl) rfl
theorem q1107 : (Jvm.Cond.constant "ShorePools" (383 : Nat) (2147483647 : Int32)) ∈ lw_all := lw_g (lw_at lw_m5 46 rfl) rfl
theorem q1108 : (Jvm.Cond.methodLink "ShorePools" (378 : Nat) ({ cls := "ShorePools", name := "lostWith", desc := "(II)I" } : Jvm.MethodName)) ∈ lw_all := lw_g (lw_at lw_m5 47 rfl) rfl
theorem q1109 : (Jvm.Cond.privateMethod ({ cls := "ShorePools", name := "lostWith", desc := "(II)I" } : Jvm.MethodName)) ∈ lw_tbl := lw_at lw_m5 48 rfl
theorem q1110 : (Jvm.Cond.instanceMethod ({ cls := "ShorePools", name := "lostWith", desc := "(II)I" } : Jvm.MethodName)) ∈ lw_all := lw_g (lw_at lw_m5 49 rfl) rfl
theorem q1111 : (Jvm.Cond.codeWith ({ cls := "ShorePools", name := "lostWith", desc := "(II)I" } : Jvm.MethodName) prog_1_method_103_code (6 : Nat) (Option.some Jvm.ClassFile.FieldType.int) [((13 : Nat), (42 : Nat), (50 : Nat), (0 : Nat)), ((50 : Nat), (52 : Nat), (50 : Nat), (0 : Nat))]) ∈ lw_all := lw_g (lw_at lw_m5 50 rfl) rfl
theorem q1112 : (Jvm.Cond.methodLink "ShorePools" (183 : Nat) ({ cls := "java/lang/Math", name := "min", desc := "(II)I" } : Jvm.MethodName)) ∈ lw_all := lw_g (lw_at lw_m5 51 rfl) rfl
theorem q1113 : (Jvm.Cond.methodLink "ShorePools" (309 : Nat) ({ cls := "ShorePools", name := "passes", desc := "(I)I" } : Jvm.MethodName)) ∈ lw_all := lw_g (lw_at lw_m5 52 rfl) rfl
theorem q1114 : (Jvm.Cond.privateMethod ({ cls := "ShorePools", name := "passes", desc := "(I)I" } : Jvm.MethodName)) ∈ lw_tbl := lw_at lw_m5 53 rfl
theorem q1115 : (Jvm.Cond.instanceMethod ({ cls := "ShorePools", name := "passes", desc := "(I)I" } : Jvm.MethodName)) ∈ lw_all := lw_g (lw_at lw_m5 54 rfl) rfl
theorem q1116 : (Jvm.Cond.code ({ cls := "ShorePools", name := "passes", desc := "(I)I" } : Jvm.MethodName) prog_1_method_34_code (4 : Nat) (Option.some Jvm.ClassFile.FieldType.int)) ∈ lw_all := lw_g (lw_at lw_m5 55 rfl) rfl
theorem q1117 : (Jvm.Cond.methodLink "ShorePools" (268 : Nat) ({ cls := "ShorePools", name := "passOne", desc := "()V" } : Jvm.MethodName)) ∈ lw_all := lw_g (lw_at lw_m5 56 rfl) rfl
theorem q1118 : (Jvm.Cond.privateMethod ({ cls := "ShorePools", name := "passOne", desc := "()V" } : Jvm.MethodName)) ∈ lw_tbl := lw_at lw_m5 57 rfl
theorem q1119 : (Jvm.Cond.instanceMethod ({ cls := "ShorePools", name := "passOne", desc := "()V" } : Jvm.MethodName)) ∈ lw_all := lw_g (lw_at lw_m5 58 rfl) rfl
theorem q1120 : (Jvm.Cond.code ({ cls := "ShorePools", name := "passOne", desc := "()V" } : Jvm.MethodName) prog_1_method_33_code (3 : Nat) (Option.none : Option Jvm.ClassFile.FieldType)) ∈ lw_all := lw_g (lw_at lw_m5 59 rfl) rfl
theorem q1121 : (Jvm.Cond.methodLink "ShorePools" (244 : Nat) ({ cls := "ShorePools", name := "changePool", desc := "(I)V" } : Jvm.MethodName)) ∈ lw_all := lw_g (lw_at lw_m5 60 rfl) rfl
theorem q1122 : (Jvm.Cond.privateMethod ({ cls := "ShorePools", name := "changePool", desc := "(I)V" } : Jvm.MethodName)) ∈ lw_tbl := lw_at lw_m5 61 rfl
theorem q1123 : (Jvm.Cond.instanceMethod ({ cls := "ShorePools", name := "changePool", desc := "(I)V" } : Jvm.MethodName)) ∈ lw_all := lw_g (lw_at lw_m5 62 rfl) rfl
theorem q1124 : (Jvm.Cond.code ({ cls := "ShorePools", name := "changePool", desc := "(I)V" } : Jvm.MethodName) prog_1_method_24_code (3 : Nat) (Option.none : Option Jvm.ClassFile.FieldType)) ∈ lw_all := lw_g (lw_at lw_m5 63 rfl) rfl
theorem q1125 : (Jvm.Cond.methodLink "ShorePools" (249 : Nat) ({ cls := "ShorePools", name := "liveOn", desc := "(LShorePools$Limpet;)V" } : Jvm.MethodName)) ∈ lw_all := lw_g (lw_at lw_m5 64 rfl) rfl
theorem q1126 : (Jvm.Cond.privateMethod ({ cls := "ShorePools", name := "liveOn", desc := "(LShorePools$Limpet;)V" } : Jvm.MethodName)) ∈ lw_tbl := lw_at lw_m5 65 rfl
theorem q1127 : (Jvm.Cond.instanceMethod ({ cls := "ShorePools", name := "liveOn", desc := "(LShorePools$Limpet;)V" } : Jvm.MethodName)) ∈ lw_all := lw_g (lw_at lw_m5 66 rfl) rfl
theorem q1128 : (Jvm.Cond.code ({ cls := "ShorePools", name := "liveOn", desc := "(LShorePools$Limpet;)V" } : Jvm.MethodName) prog_1_method_25_code (4 : Nat) (Option.none : Option Jvm.ClassFile.FieldType)) ∈ lw_all := lw_g (lw_at lw_m5 67 rfl) rfl
theorem q1129 : (Jvm.Cond.methodLink "ShorePools" (202 : Nat) ({ cls := "java/lang/Math", name := "max", desc := "(II)I" } : Jvm.MethodName)) ∈ lw_all := lw_g (lw_at lw_m5 68 rfl) rfl
theorem q1130 : (Jvm.Cond.methodLink "ShorePools" (205 : Nat) ({ cls := "ShorePools", name := "loseLimpet", desc := "(LShorePools$Limpet;I)V" } : Jvm.MethodName)) ∈ lw_all := lw_g (lw_at lw_m5 69 rfl) rfl
theorem q1131 : (Jvm.Cond.privateMethod ({ cls := "ShorePools", name := "loseLimpet", desc := "(LShorePools$Limpet;I)V" } : Jvm.MethodName)) ∈ lw_tbl := lw_at lw_m5 70 rfl
theorem q1132 : (Jvm.Cond.instanceMethod ({ cls := "ShorePools", name := "loseLimpet", desc := "(LShorePools$Limpet;I)V" } : Jvm.MethodName)) ∈ lw_all := lw_g (lw_at lw_m5 71 rfl) rfl
theorem q1133 : (Jvm.Cond.code ({ cls := "ShorePools", name := "loseLimpet", desc := "(LShorePools$Limpet;I)V" } : Jvm.MethodName) prog_1_method_23_code (3 : Nat) (Option.none : Option Jvm.ClassFile.FieldType)) ∈ lw_all := lw_g (lw_at lw_m5 72 rfl) rfl
theorem q1134 : (Jvm.Cond.methodLink "ShorePools" (253 : Nat) ({ cls := "ShorePools", name := "wander", desc := "(LShorePools$Crab;)V" } : Jvm.MethodName)) ∈ lw_all := lw_g (lw_at lw_m5 73 rfl) rfl
theorem q1135 : (Jvm.Cond.privateMethod ({ cls := "ShorePools", name := "wander", desc := "(LShorePools$Crab;)V" } : Jvm.MethodName)) ∈ lw_tbl := lw_at lw_m5 74 rfl
theorem q1136 : (Jvm.Cond.instanceMethod ({ cls := "ShorePools", name := "wander", desc := "(LShorePools$Crab;)V" } : Jvm.MethodName)) ∈ lw_all := lw_g (lw_at lw_m5 75 rfl) rfl
theorem q1137 : (Jvm.Cond.code ({ cls := "ShorePools", name := "wander", desc := "(LShorePools$Crab;)V" } : Jvm.MethodName) prog_1_method_26_code (6 : Nat) (Option.none : Option Jvm.ClassFile.FieldType)) ∈ lw_all := lw_g (lw_at lw_m5 76 rfl) rfl
theorem q1138 : (Jvm.Cond.methodLink "ShorePools" (209 : Nat) ({ cls := "ShorePools", name := "isTight", desc := "(LShorePools$Crab;)Z" } : Jvm.MethodName)) ∈ lw_all := lw_g (lw_at lw_m5 77 rfl) rfl
theorem q1139 : (Jvm.Cond.privateMethod ({ cls := "ShorePools", name := "isTight", desc := "(LShorePools$Crab;)Z" } : Jvm.MethodName)) ∈ lw_tbl := lw_at lw_m5 78 rfl
theorem q1140 : (Jvm.Cond.instanceMethod ({ cls := "ShorePools", name := "isTight", desc := "(LShorePools$Crab;)Z" } : Jvm.MethodName)) ∈ lw_all := lw_g (lw_at lw_m5 79 rfl) rfl
theorem q1141 : (Jvm.Cond.code ({ cls := "ShorePools", name := "isTight", desc := "(LShorePools$Crab;)Z" } : Jvm.MethodName) prog_1_method_15_code (2 : Nat) (Option.some Jvm.ClassFile.FieldType.boolean)) ∈ lw_all := lw_g (lw_at lw_m5 80 rfl) rfl
theorem q1172 : (Jvm.Cond.methodLink "ShorePools" (126 : Nat) ({ cls := "ShorePools", name := "worthOfOwn", desc := "(LShorePools$Crab;)I" } : Jvm.MethodName)) ∈ lw_all := lw_g (lw_at lw_m5 111 rfl) rfl
theorem q1173 : (Jvm.Cond.privateMethod ({ cls := "ShorePools", name := "worthOfOwn", desc := "(LShorePools$Crab;)I" } : Jvm.MethodName)) ∈ lw_tbl := lw_at lw_m5 112 rfl
theorem q1174 : (Jvm.Cond.instanceMethod ({ cls := "ShorePools", name := "worthOfOwn", desc := "(LShorePools$Crab;)I" } : Jvm.MethodName)) ∈ lw_all := lw_g (lw_at lw_m5 113 rfl) rfl
theorem q1175 : (Jvm.Cond.code ({ cls := "ShorePools", name := "worthOfOwn", desc := "(LShorePools$Crab;)I" } : Jvm.MethodName) prog_1_method_14_code (2 : Nat) (Option.some Jvm.ClassFile.FieldType.int)) ∈ lw_all := lw_g (lw_at lw_m5 114 rfl) rfl
theorem q1176 : (Jvm.Cond.classLink "ShorePools" (116 : Nat) "ShorePools$Sized") ∈ lw_all := lw_g (lw_at lw_m5 115 rfl) rfl
theorem q1177 : (Jvm.Cond.methodLink "ShorePools" (118 : Nat) ({ cls := "ShorePools$Sized", name := "worth", desc := "(LShorePools$Sized;LShorePools$Sized;)I" } : Jvm.MethodName)) ∈ lw_all := lw_g (lw_at lw_m5 116 rfl) rfl
theorem q1183 : (Jvm.Cond.methodLink "ShorePools" (154 : Nat) ({ cls := "ShorePools", name := "bestShell", desc := "(LShorePools$Crab;I)I" } : Jvm.MethodName)) ∈ lw_all := lw_g (lw_at lw_m5 122 rfl) rfl
theorem q1184 : (Jvm.Cond.privateMethod ({ cls := "ShorePools", name := "bestShell", desc := "(LShorePools$Crab;I)I" } : Jvm.MethodName)) ∈ lw_tbl := lw_at lw_m5 123 rfl
theorem q1185 : (Jvm.Cond.instanceMethod ({ cls := "ShorePools", name := "bestShell", desc := "(LShorePools$Crab;I)I" } : Jvm.MethodName)) ∈ lw_all := lw_g (lw_at lw_m5 124 rfl) rfl
theorem q1186 : (Jvm.Cond.code ({ cls := "ShorePools", name := "bestShell", desc := "(LShorePools$Crab;I)I" } : Jvm.MethodName) prog_1_method_16_code (7 : Nat) (Option.some Jvm.ClassFile.FieldType.int)) ∈ lw_all := lw_g (lw_at lw_m5 125 rfl) rfl
theorem q1187 : (Jvm.Cond.methodLink "ShorePools" (130 : Nat) ({ cls := "ShorePools$Shell", name := "liesIn", desc := "(I)Z" } : Jvm.MethodName)) ∈ lw_all := lw_g (lw_at lw_m5 126 rfl) rfl
theorem q1191 : (Jvm.Cond.methodLink "ShorePools" (256 : Nat) ({ cls := "ShorePools", name := "changeShells", desc := "()I" } : Jvm.MethodName)) ∈ lw_all := lw_g (lw_at lw_m5 130 rfl) rfl
theorem q1192 : (Jvm.Cond.privateMethod ({ cls := "ShorePools", name := "changeShells", desc := "()I" } : Jvm.MethodName)) ∈ lw_tbl := lw_at lw_m5 131 rfl
theorem q1193 : (Jvm.Cond.instanceMethod ({ cls := "ShorePools", name := "changeShells", desc := "()I" } : Jvm.MethodName)) ∈ lw_all := lw_g (lw_at lw_m5 132 rfl) rfl
theorem q1194 : (Jvm.Cond.code ({ cls := "ShorePools", name := "changeShells", desc := "()I" } : Jvm.MethodName) prog_1_method_21_code (1 : Nat) (Option.some Jvm.ClassFile.FieldType.int)) ∈ lw_all := lw_g (lw_at lw_m5 133 rfl) rfl
theorem q1195 : (Jvm.Cond.methodLink "ShorePools" (164 : Nat) ({ cls := "ShorePools", name := "orderCrabs", desc := "()V" } : Jvm.MethodName)) ∈ lw_all := lw_g (lw_at lw_m5 134 rfl) rfl
theorem q1196 : (Jvm.Cond.privateMethod ({ cls := "ShorePools", name := "orderCrabs", desc := "()V" } : Jvm.MethodName)) ∈ lw_tbl := lw_at lw_m5 135 rfl
theorem q1197 : (Jvm.Cond.instanceMethod ({ cls := "ShorePools", name := "orderCrabs", desc := "()V" } : Jvm.MethodName)) ∈ lw_all := lw_g (lw_at lw_m5 136 rfl) rfl
theorem q1198 : (Jvm.Cond.code ({ cls := "ShorePools", name := "orderCrabs", desc := "()V" } : Jvm.MethodName) prog_1_method_19_code (3 : Nat) (Option.none : Option Jvm.ClassFile.FieldType)) ∈ lw_all := lw_g (lw_at lw_m5 137 rfl) rfl
theorem q1199 : (Jvm.Cond.methodLink "ShorePools" (161 : Nat) ({ cls := "ShorePools", name := "changeFrom", desc := "(I)I" } : Jvm.MethodName)) ∈ lw_all := lw_g (lw_at lw_m5 138 rfl) rfl
theorem q1200 : (Jvm.Cond.privateMethod ({ cls := "ShorePools", name := "changeFrom", desc := "(I)I" } : Jvm.MethodName)) ∈ lw_tbl := lw_at lw_m5 139 rfl
theorem q1201 : (Jvm.Cond.instanceMethod ({ cls := "ShorePools", name := "changeFrom", desc := "(I)I" } : Jvm.MethodName)) ∈ lw_all := lw_g (lw_at lw_m5 140 rfl) rfl
theorem q1202 : (Jvm.Cond.code ({ cls := "ShorePools", name := "changeFrom", desc := "(I)I" } : Jvm.MethodName) prog_1_method_20_code (4 : Nat) (Option.some Jvm.ClassFile.FieldType.int)) ∈ lw_all := lw_g (lw_at lw_m5 141 rfl) rfl
theorem q1203 : (Jvm.Cond.methodLink "ShorePools" (158 : Nat) ({ cls := "ShorePools", name := "takeShell", desc := "(II)V" } : Jvm.MethodName)) ∈ lw_all := lw_g (lw_at lw_m5 142 rfl) rfl
theorem q1204 : (Jvm.Cond.privateMethod ({ cls := "ShorePools", name := "takeShell", desc := "(II)V" } : Jvm.MethodName)) ∈ lw_tbl := lw_at lw_m5 143 rfl
theorem q1205 : (Jvm.Cond.instanceMethod ({ cls := "ShorePools", name := "takeShell", desc := "(II)V" } : Jvm.MethodName)) ∈ lw_all := lw_g (lw_at lw_m5 144 rfl) rfl
theorem q1206 : (Jvm.Cond.code ({ cls := "ShorePools", name := "takeShell", desc := "(II)V" } : Jvm.MethodName) prog_1_method_18_code (4 : Nat) (Option.none : Option Jvm.ClassFile.FieldType)) ∈ lw_all := lw_g (lw_at lw_m5 145 rfl) rfl
theorem q1207 : (Jvm.Cond.methodLink "ShorePools" (141 : Nat) ({ cls := "ShorePools", name := "leaveShell", desc := "(LShorePools$Crab;)V" } : Jvm.MethodName)) ∈ lw_all := lw_g (lw_at lw_m5 146 rfl) rfl
theorem q1208 : (Jvm.Cond.privateMethod ({ cls := "ShorePools", name := "leaveShell", desc := "(LShorePools$Crab;)V" } : Jvm.MethodName)) ∈ lw_tbl := lw_at lw_m5 147 rfl
theorem q1209 : (Jvm.Cond.instanceMethod ({ cls := "ShorePools", name := "leaveShell", desc := "(LShorePools$Crab;)V" } : Jvm.MethodName)) ∈ lw_all := lw_g (lw_at lw_m5 148 rfl) rfl
theorem q1210 : (Jvm.Cond.code ({ cls := "ShorePools", name := "leaveShell", desc := "(LShorePools$Crab;)V" } : Jvm.MethodName) prog_1_method_17_code (3 : Nat) (Option.none : Option Jvm.ClassFile.FieldType)) ∈ lw_all := lw_g (lw_at lw_m5 149 rfl) rfl
theorem q1211 : (Jvm.Cond.methodLink "ShorePools" (233 : Nat) ({ cls := "ShorePools", name := "loseCrab", desc := "(LShorePools$Crab;I)V" } : Jvm.MethodName)) ∈ lw_all := lw_g (lw_at lw_m5 150 rfl) rfl
theorem q1212 : (Jvm.Cond.privateMethod ({ cls := "ShorePools", name := "loseCrab", desc := "(LShorePools$Crab;I)V" } : Jvm.MethodName)) ∈ lw_tbl := lw_at lw_m5 151 rfl
theorem q1213 : (Jvm.Cond.instanceMethod ({ cls := "ShorePools", name := "loseCrab", desc := "(LShorePools$Crab;I)V" } : Jvm.MethodName)) ∈ lw_all := lw_g (lw_at lw_m5 152 rfl) rfl
theorem q1214 : (Jvm.Cond.code ({ cls := "ShorePools", name := "loseCrab", desc := "(LShorePools$Crab;I)V" } : Jvm.MethodName) prog_1_method_22_code (3 : Nat) (Option.none : Option Jvm.ClassFile.FieldType)) ∈ lw_all := lw_g (lw_at lw_m5 153 rfl) rfl
theorem q1215 : (Jvm.Cond.methodLink "ShorePools" (262 : Nat) ({ cls := "ShorePools", name := "visit", desc := "()V" } : Jvm.MethodName)) ∈ lw_all := lw_g (lw_at lw_m5 154 rfl) rfl
theorem q1216 : (Jvm.Cond.privateMethod ({ cls := "ShorePools", name := "visit", desc := "()V" } : Jvm.MethodName)) ∈ lw_tbl := lw_at lw_m5 155 rfl
theorem q1217 : (Jvm.Cond.instanceMethod ({ cls := "ShorePools", name := "visit", desc := "()V" } : Jvm.MethodName)) ∈ lw_all := lw_g (lw_at lw_m5 156 rfl) rfl
theorem q1218 : (Jvm.Cond.code ({ cls := "ShorePools", name := "visit", desc := "()V" } : Jvm.MethodName) prog_1_method_31_code (3 : Nat) (Option.none : Option Jvm.ClassFile.FieldType)) ∈ lw_all := lw_g (lw_at lw_m5 157 rfl) rfl
theorem q1219 : (Jvm.Cond.methodLink "ShorePools" (230 : Nat) ({ cls := "ShorePools", name := "prey", desc := "(I)I" } : Jvm.MethodName)) ∈ lw_all := lw_g (lw_at lw_m5 158 rfl) rfl
theorem q1220 : (Jvm.Cond.privateMethod ({ cls := "ShorePools", name := "prey", desc := "(I)I" } : Jvm.MethodName)) ∈ lw_tbl := lw_at lw_m5 159 rfl
theorem q1221 : (Jvm.Cond.instanceMethod ({ cls := "ShorePools", name := "prey", desc := "(I)I" } : Jvm.MethodName)) ∈ lw_all := lw_g (lw_at lw_m5 160 rfl) rfl
theorem q1222 : (Jvm.Cond.code ({ cls := "ShorePools", name := "prey", desc := "(I)I" } : Jvm.MethodName) prog_1_method_30_code (4 : Nat) (Option.some Jvm.ClassFile.FieldType.int)) ∈ lw_all := lw_g (lw_at lw_m5 161 rfl) rfl
theorem q1223 : (Jvm.Cond.methodLink "ShorePools" (220 : Nat) ({ cls := "ShorePools", name := "preyCrab", desc := "(IZ)I" } : Jvm.MethodName)) ∈ lw_all := lw_g (lw_at lw_m5 162 rfl) rfl
theorem q1224 : (Jvm.Cond.privateMethod ({ cls := "ShorePools", name := "preyCrab", desc := "(IZ)I" } : Jvm.MethodName)) ∈ lw_tbl := lw_at lw_m5 163 rfl
theorem q1225 : (Jvm.Cond.instanceMethod ({ cls := "ShorePools", name := "preyCrab", desc := "(IZ)I" } : Jvm.MethodName)) ∈ lw_all := lw_g (lw_at lw_m5 164 rfl) rfl
theorem q1226 : (Jvm.Cond.code ({ cls := "ShorePools", name := "preyCrab", desc := "(IZ)I" } : Jvm.MethodName) prog_1_method_28_code (7 : Nat) (Option.some Jvm.ClassFile.FieldType.int)) ∈ lw_all := lw_g (lw_at lw_m5 165 rfl) rfl
theorem q1249 : (Jvm.Cond.methodLink "ShorePools" (224 : Nat) ({ cls := "ShorePools", name := "preyLimpet", desc := "(I)I" } : Jvm.MethodName)) ∈ lw_all := lw_g (lw_at lw_m5 188 rfl) rfl
theorem q1250 : (Jvm.Cond.privateMethod ({ cls := "ShorePools", name := "preyLimpet", desc := "(I)I" } : Jvm.MethodName)) ∈ lw_tbl := lw_at lw_m5 189 rfl
theorem q1251 : (Jvm.Cond.instanceMethod ({ cls := "ShorePools", name := "preyLimpet", desc := "(I)I" } : Jvm.MethodName)) ∈ lw_all := lw_g (lw_at lw_m5 190 rfl) rfl
theorem q1252 : (Jvm.Cond.code ({ cls := "ShorePools", name := "preyLimpet", desc := "(I)I" } : Jvm.MethodName) prog_1_method_29_code (6 : Nat) (Option.some Jvm.ClassFile.FieldType.int)) ∈ lw_all := lw_g (lw_at lw_m5 191 rfl) rfl
theorem q1254 : (Jvm.Cond.methodLink "ShorePools" (265 : Nat) ({ cls := "ShorePools", name := "grow", desc := "(LShorePools$Crab;)V" } : Jvm.MethodName)) ∈ lw_all := lw_g (lw_at lw_m5 193 rfl) rfl
theorem q1255 : (Jvm.Cond.privateMethod ({ cls := "ShorePools", name := "grow", desc := "(LShorePools$Crab;)V" } : Jvm.MethodName)) ∈ lw_tbl := lw_at lw_m5 194 rfl
theorem q1256 : (Jvm.Cond.instanceMethod ({ cls := "ShorePools", name := "grow", desc := "(LShorePools$Crab;)V" } : Jvm.MethodName)) ∈ lw_all := lw_g (lw_at lw_m5 195 rfl) rfl
theorem q1257 : (Jvm.Cond.code ({ cls := "ShorePools", name := "grow", desc := "(LShorePools$Crab;)V" } : Jvm.MethodName) prog_1_method_32_code (2 : Nat) (Option.none : Option Jvm.ClassFile.FieldType)) ∈ lw_all := lw_g (lw_at lw_m5 196 rfl) rfl
theorem q1259 : (Jvm.Cond.instanceMethod ({ cls := "ShorePools", name := "recordedStates", desc := "()I" } : Jvm.MethodName)) ∈ lw_all := lw_g (lw_at lw_m5 198 rfl) rfl
theorem q1260 : (Jvm.Cond.selects "ShorePools" ({ cls := "ShorePools", name := "recordedStates", desc := "()I" } : Jvm.MethodName) ({ cls := "ShorePools", name := "recordedStates", desc := "()I" } : Jvm.MethodName)) ∈ lw_all := lw_g (lw_at lw_m5 199 rfl) rfl
theorem q1261 : (Jvm.Cond.code ({ cls := "ShorePools", name := "recordedStates", desc := "()I" } : Jvm.MethodName) prog_1_method_108_code (1 : Nat) (Option.some Jvm.ClassFile.FieldType.int)) ∈ lw_all := lw_g (lw_at lw_m5 200 rfl) rfl
theorem q1262 : (Jvm.Cond.methodLink "ShorePools" (349 : Nat) ({ cls := "ShorePools$Record", name := "count", desc := "(LShorePools$Record;)I" } : Jvm.MethodName)) ∈ lw_all := lw_g (lw_at lw_m5 201 rfl) rfl
theorem q1274 : (Jvm.Cond.instanceMethod ({ cls := "ShorePools", name := "addLimpet", desc := "(I)I" } : Jvm.MethodName)) ∈ lw_all := lw_g (lw_at lw_m5 213 rfl) rfl
theorem q1275 : (Jvm.Cond.selects "ShorePools" ({ cls := "ShorePools", name := "addLimpet", desc := "(I)I" } : Jvm.MethodName) ({ cls := "ShorePools", name := "addLimpet", desc := "(I)I" } : Jvm.MethodName)) ∈ lw_all := lw_g (lw_at lw_m5 214 rfl) rfl
theorem q1276 : (Jvm.Cond.code ({ cls := "ShorePools", name := "addLimpet", desc := "(I)I" } : Jvm.MethodName) prog_1_method_36_code (2 : Nat) (Option.some Jvm.ClassFile.FieldType.int)) ∈ lw_all := lw_g (lw_at lw_m5 215 rfl) rfl
theorem q1277 : (Jvm.Cond.methodLink "ShorePools" (277 : Nat) ({ cls := "ShorePools", name := "checkPool", desc := "(I)V" } : Jvm.MethodName)) ∈ lw_all := lw_g (lw_at lw_m5 216 rfl) rfl
theorem q1278 : (Jvm.Cond.static ({ cls := "ShorePools", name := "checkPool", desc := "(I)V" } : Jvm.MethodName)) ∈ lw_all := lw_g (lw_at lw_m5 217 rfl) rfl
theorem q1279 : (Jvm.Cond.code ({ cls := "ShorePools", name := "checkPool", desc := "(I)V" } : Jvm.MethodName) prog_1_method_3_code (1 : Nat) (Option.none : Option Jvm.ClassFile.FieldType)) ∈ lw_all := lw_g (lw_at lw_m5 218 rfl) rfl
theorem q1280 : (Jvm.Cond.methodLink "ShorePools" (36 : Nat) ({ cls := "ShorePools", name := "checkIndex", desc := "(II)V" } : Jvm.MethodName)) ∈ lw_all := lw_g (lw_at lw_m5 219 rfl) rfl
theorem q1281 : (Jvm.Cond.static ({ cls := "ShorePools", name := "checkIndex", desc := "(II)V" } : Jvm.MethodName)) ∈ lw_all := lw_g (lw_at lw_m5 220 rfl) rfl
theorem q1282 : (Jvm.Cond.code ({ cls := "ShorePools", name := "checkIndex", desc := "(II)V" } : Jvm.MethodName) prog_1_method_2_code (2 : Nat) (Option.none : Option Jvm.ClassFile.FieldType)) ∈ lw_all := lw_g (lw_at lw_m5 221 rfl) rfl
theorem q1283 : (Jvm.Cond.classLink "ShorePools" (33 : Nat) "java/lang/IndexOutOfBoundsException") ∈ lw_all := lw_g (lw_at lw_m5 222 rfl) rfl
theorem q1292 : (Jvm.Cond.methodLink "ShorePools" (35 : Nat) ({ cls := "java/lang/IndexOutOfBoundsException", name := "<init>", desc := "()V" } : Jvm.MethodName)) ∈ lw_all := lw_g (lw_at lw_m5 231 rfl) rfl
theorem q1304 : (Jvm.Cond.methodLink "ShorePools" (280 : Nat) ({ cls := "ShorePools", name := "check", desc := "(Z)V" } : Jvm.MethodName)) ∈ lw_all := lw_g (lw_at lw_m6 3 rfl) rfl
theorem q1305 : (Jvm.Cond.static ({ cls := "ShorePools", name := "check", desc := "(Z)V" } : Jvm.MethodName)) ∈ lw_all := lw_g (lw_at lw_m6 4 rfl) rfl
theorem q1306 : (Jvm.Cond.code ({ cls := "ShorePools", name := "check", desc := "(Z)V" } : Jvm.MethodName) prog_1_method_5_code (1 : Nat) (Option.none : Option Jvm.ClassFile.FieldType)) ∈ lw_all := lw_g (lw_at lw_m6 5 rfl) rfl
theorem q1307 : (Jvm.Cond.classLink "ShorePools" (43 : Nat) "java/lang/IllegalStateException") ∈ lw_all := lw_g (lw_at lw_m6 6 rfl) rfl
theorem q1316 : (Jvm.Cond.methodLink "ShorePools" (45 : Nat) ({ cls := "java/lang/IllegalStateException", name := "<init>", desc := "()V" } : Jvm.MethodName)) ∈ lw_all := lw_g (lw_at lw_m6 15 rfl) rfl
theorem q1322 : (Jvm.Cond.methodLink "ShorePools" (284 : Nat) ({ cls := "ShorePools", name := "record", desc := "()V" } : Jvm.MethodName)) ∈ lw_all := lw_g (lw_at lw_m6 21 rfl) rfl
theorem q1323 : (Jvm.Cond.privateMethod ({ cls := "ShorePools", name := "record", desc := "()V" } : Jvm.MethodName)) ∈ lw_tbl := lw_at lw_m6 22 rfl
theorem q1324 : (Jvm.Cond.instanceMethod ({ cls := "ShorePools", name := "record", desc := "()V" } : Jvm.MethodName)) ∈ lw_all := lw_g (lw_at lw_m6 23 rfl) rfl
theorem q1325 : (Jvm.Cond.code ({ cls := "ShorePools", name := "record", desc := "()V" } : Jvm.MethodName) prog_1_method_9_code (1 : Nat) (Option.none : Option Jvm.ClassFile.FieldType)) ∈ lw_all := lw_g (lw_at lw_m6 24 rfl) rfl
theorem q1326 : (Jvm.Cond.classLink "ShorePools" (72 : Nat) "ShorePools$Record") ∈ lw_all := lw_g (lw_at lw_m6 25 rfl) rfl
theorem q1328 : (Jvm.Cond.methodLink "ShorePools" (82 : Nat) ({ cls := "ShorePools$Record", name := "latest", desc := "(LShorePools$Record;I)LShorePools$Record;" } : Jvm.MethodName)) ∈ lw_all := lw_g (lw_at lw_m6 27 rfl) rfl
theorem q1338 : (Jvm.Cond.fieldLink "ShorePools" (343 : Nat) "ShorePools$Record" "state" "LShorePools$State;") ∈ lw_all := lw_g (lw_at lw_m6 37 rfl) rfl
theorem q1340 : (Jvm.Cond.fieldLink "ShorePools" (346 : Nat) "ShorePools$Record" "before" "LShorePools$Record;") ∈ lw_all := lw_g (lw_at lw_m6 39 rfl) rfl
theorem q1346 : (Jvm.Cond.methodLink "ShorePools" (86 : Nat) ({ cls := "ShorePools$Record", name := "<init>", desc := "(LShorePools$State;LShorePools$Record;)V" } : Jvm.MethodName)) ∈ lw_all := lw_g (lw_at lw_m6 45 rfl) rfl
theorem q1347 : (Jvm.Cond.methodLink "ShorePools" (287 : Nat) ({ cls := "ShorePools", name := "limpetComes", desc := "(I)I" } : Jvm.MethodName)) ∈ lw_all := lw_g (lw_at lw_m6 46 rfl) rfl
theorem q1348 : (Jvm.Cond.privateMethod ({ cls := "ShorePools", name := "limpetComes", desc := "(I)I" } : Jvm.MethodName)) ∈ lw_tbl := lw_at lw_m6 47 rfl
theorem q1349 : (Jvm.Cond.instanceMethod ({ cls := "ShorePools", name := "limpetComes", desc := "(I)I" } : Jvm.MethodName)) ∈ lw_all := lw_g (lw_at lw_m6 48 rfl) rfl
theorem q1350 : (Jvm.Cond.code ({ cls := "ShorePools", name := "limpetComes", desc := "(I)I" } : Jvm.MethodName) prog_1_method_35_code (2 : Nat) (Option.some Jvm.ClassFile.FieldType.int)) ∈ lw_all := lw_g (lw_at lw_m6 49 rfl) rfl
theorem q1351 : (Jvm.Cond.methodLink "ShorePools" (271 : Nat) ({ cls := "ShorePools$Limpet", name := "<init>", desc := "(I)V" } : Jvm.MethodName)) ∈ lw_all := lw_g (lw_at lw_m6 50 rfl) rfl
theorem q1352 : (Jvm.Cond.methodLink "ShorePools" (273 : Nat) ({ cls := "java/util/ArrayList", name := "add", desc := "(Ljava/lang/Object;)Z" } : Jvm.MethodName)) ∈ lw_all := lw_g (lw_at lw_m6 51 rfl) rfl
theorem q1358 : (Jvm.Cond.instanceMethod ({ cls := "ShorePools", name := "addCrab", desc := "(II)I" } : Jvm.MethodName)) ∈ lw_all := lw_g (lw_at lw_m6 57 rfl) rfl
theorem q1359 : (Jvm.Cond.selects "ShorePools" ({ cls := "ShorePools", name := "addCrab", desc := "(II)I" } : Jvm.MethodName) ({ cls := "ShorePools", name := "addCrab", desc := "(II)I" } : Jvm.MethodName)) ∈ lw_all := lw_g (lw_at lw_m6 58 rfl) rfl
theorem q1360 : (Jvm.Cond.code ({ cls := "ShorePools", name := "addCrab", desc := "(II)I" } : Jvm.MethodName) prog_1_method_38_code (3 : Nat) (Option.some Jvm.ClassFile.FieldType.int)) ∈ lw_all := lw_g (lw_at lw_m6 59 rfl) rfl
theorem q1361 : (Jvm.Cond.methodLink "ShorePools" (292 : Nat) ({ cls := "ShorePools", name := "checkRange", desc := "(III)V" } : Jvm.MethodName)) ∈ lw_all := lw_g (lw_at lw_m6 60 rfl) rfl
theorem q1362 : (Jvm.Cond.static ({ cls := "ShorePools", name := "checkRange", desc := "(III)V" } : Jvm.MethodName)) ∈ lw_all := lw_g (lw_at lw_m6 61 rfl) rfl
theorem q1363 : (Jvm.Cond.code ({ cls := "ShorePools", name := "checkRange", desc := "(III)V" } : Jvm.MethodName) prog_1_method_4_code (3 : Nat) (Option.none : Option Jvm.ClassFile.FieldType)) ∈ lw_all := lw_g (lw_at lw_m6 62 rfl) rfl
theorem q1364 : (Jvm.Cond.classLink "ShorePools" (40 : Nat) "java/lang/IllegalArgumentException") ∈ lw_all := lw_g (lw_at lw_m6 63 rfl) rfl
theorem q1365 : (Jvm.Cond.methodLink "ShorePools" (42 : Nat) ({ cls := "java/lang/IllegalArgumentException", name := "<init>", desc := "()V" } : Jvm.MethodName)) ∈ lw_all := lw_g (lw_at lw_m6 64 rfl) rfl
theorem q1369 : (Jvm.Cond.methodLink "ShorePools" (296 : Nat) ({ cls := "ShorePools", name := "crabComes", desc := "(II)I" } : Jvm.MethodName)) ∈ lw_all := lw_g (lw_at lw_m6 68 rfl) rfl
theorem q1370 : (Jvm.Cond.privateMethod ({ cls := "ShorePools", name := "crabComes", desc := "(II)I" } : Jvm.MethodName)) ∈ lw_tbl := lw_at lw_m6 69 rfl
theorem q1371 : (Jvm.Cond.instanceMethod ({ cls := "ShorePools", name := "crabComes", desc := "(II)I" } : Jvm.MethodName)) ∈ lw_all := lw_g (lw_at lw_m6 70 rfl) rfl
theorem q1372 : (Jvm.Cond.code ({ cls := "ShorePools", name := "crabComes", desc := "(II)I" } : Jvm.MethodName) prog_1_method_37_code (3 : Nat) (Option.some Jvm.ClassFile.FieldType.int)) ∈ lw_all := lw_g (lw_at lw_m6 71 rfl) rfl
theorem q1373 : (Jvm.Cond.methodLink "ShorePools" (290 : Nat) ({ cls := "ShorePools$Crab", name := "<init>", desc := "(II)V" } : Jvm.MethodName)) ∈ lw_all := lw_g (lw_at lw_m6 72 rfl) rfl
theorem q1378 : (Jvm.Cond.instanceMethod ({ cls := "ShorePools", name := "addShell", desc := "(II)I" } : Jvm.MethodName)) ∈ lw_all := lw_g (lw_at lw_m6 77 rfl) rfl
theorem q1379 : (Jvm.Cond.selects "ShorePools" ({ cls := "ShorePools", name := "addShell", desc := "(II)I" } : Jvm.MethodName) ({ cls := "ShorePools", name := "addShell", desc := "(II)I" } : Jvm.MethodName)) ∈ lw_all := lw_g (lw_at lw_m6 78 rfl) rfl
theorem q1380 : (Jvm.Cond.code ({ cls := "ShorePools", name := "addShell", desc := "(II)I" } : Jvm.MethodName) prog_1_method_40_code (3 : Nat) (Option.some Jvm.ClassFile.FieldType.int)) ∈ lw_all := lw_g (lw_at lw_m6 79 rfl) rfl
theorem q1381 : (Jvm.Cond.methodLink "ShorePools" (300 : Nat) ({ cls := "ShorePools", name := "shellComes", desc := "(II)I" } : Jvm.MethodName)) ∈ lw_all := lw_g (lw_at lw_m6 80 rfl) rfl
theorem q1382 : (Jvm.Cond.privateMethod ({ cls := "ShorePools", name := "shellComes", desc := "(II)I" } : Jvm.MethodName)) ∈ lw_tbl := lw_at lw_m6 81 rfl
theorem q1383 : (Jvm.Cond.instanceMethod ({ cls := "ShorePools", name := "shellComes", desc := "(II)I" } : Jvm.MethodName)) ∈ lw_all := lw_g (lw_at lw_m6 82 rfl) rfl
theorem q1384 : (Jvm.Cond.code ({ cls := "ShorePools", name := "shellComes", desc := "(II)I" } : Jvm.MethodName) prog_1_method_39_code (3 : Nat) (Option.some Jvm.ClassFile.FieldType.int)) ∈ lw_all := lw_g (lw_at lw_m6 83 rfl) rfl
theorem q1385 : (Jvm.Cond.methodLink "ShorePools" (299 : Nat) ({ cls := "ShorePools$Shell", name := "<init>", desc := "(II)V" } : Jvm.MethodName)) ∈ lw_all := lw_g (lw_at lw_m6 84 rfl) rfl
theorem q1390 : (Jvm.Cond.instanceMethod ({ cls := "ShorePools", name := "carryShell", desc := "(II)I" } : Jvm.MethodName)) ∈ lw_all := lw_g (lw_at lw_m6 89 rfl) rfl
theorem q1391 : (Jvm.Cond.selects "ShorePools" ({ cls := "ShorePools", name := "carryShell", desc := "(II)I" } : Jvm.MethodName) ({ cls := "ShorePools", name := "carryShell", desc := "(II)I" } : Jvm.MethodName)) ∈ lw_all := lw_g (lw_at lw_m6 90 rfl) rfl
theorem q1392 : (Jvm.Cond.code ({ cls := "ShorePools", name := "carryShell", desc := "(II)I" } : Jvm.MethodName) prog_1_method_41_code (5 : Nat) (Option.some Jvm.ClassFile.FieldType.int)) ∈ lw_all := lw_g (lw_at lw_m6 91 rfl) rfl
theorem q1393 : (Jvm.Cond.methodLink "ShorePools" (303 : Nat) ({ cls := "ShorePools", name := "shell", desc := "(I)LShorePools$Shell;" } : Jvm.MethodName)) ∈ lw_all := lw_g (lw_at lw_m6 92 rfl) rfl
theorem q1394 : (Jvm.Cond.privateMethod ({ cls := "ShorePools", name := "shell", desc := "(I)LShorePools$Shell;" } : Jvm.MethodName)) ∈ lw_tbl := lw_at lw_m6 93 rfl
theorem q1395 : (Jvm.Cond.instanceMethod ({ cls := "ShorePools", name := "shell", desc := "(I)LShorePools$Shell;" } : Jvm.MethodName)) ∈ lw_all := lw_g (lw_at lw_m6 94 rfl) rfl
theorem q1396 : (Jvm.Cond.code ({ cls := "ShorePools", name := "shell", desc := "(I)LShorePools$Shell;" } : Jvm.MethodName) prog_1_method_7_code (2 : Nat) (Option.some (Jvm.ClassFile.FieldType.object "ShorePools$Shell"))) ∈ lw_all := lw_g (lw_at lw_m6 95 rfl) rfl
theorem q1401 : (Jvm.Cond.instanceMethod ({ cls := "ShorePools", name := "setHeight", desc := "(II)I" } : Jvm.MethodName)) ∈ lw_all := lw_g (lw_at lw_m6 100 rfl) rfl
theorem q1402 : (Jvm.Cond.selects "ShorePools" ({ cls := "ShorePools", name := "setHeight", desc := "(II)I" } : Jvm.MethodName) ({ cls := "ShorePools", name := "setHeight", desc := "(II)I" } : Jvm.MethodName)) ∈ lw_all := lw_g (lw_at lw_m6 101 rfl) rfl
theorem q1403 : (Jvm.Cond.code ({ cls := "ShorePools", name := "setHeight", desc := "(II)I" } : Jvm.MethodName) prog_1_method_42_code (4 : Nat) (Option.some Jvm.ClassFile.FieldType.int)) ∈ lw_all := lw_g (lw_at lw_m6 102 rfl) rfl
theorem q1408 : (Jvm.Cond.instanceMethod ({ cls := "ShorePools", name := "setTide", desc := "(II)I" } : Jvm.MethodName)) ∈ lw_all := lw_g (lw_at lw_m6 107 rfl) rfl
theorem q1409 : (Jvm.Cond.selects "ShorePools" ({ cls := "ShorePools", name := "setTide", desc := "(II)I" } : Jvm.MethodName) ({ cls := "ShorePools", name := "setTide", desc := "(II)I" } : Jvm.MethodName)) ∈ lw_all := lw_g (lw_at lw_m6 108 rfl) rfl
theorem q1410 : (Jvm.Cond.code ({ cls := "ShorePools", name := "setTide", desc := "(II)I" } : Jvm.MethodName) prog_1_method_43_code (3 : Nat) (Option.some Jvm.ClassFile.FieldType.int)) ∈ lw_all := lw_g (lw_at lw_m6 109 rfl) rfl
theorem q1415 : (Jvm.Cond.instanceMethod ({ cls := "ShorePools", name := "setHeat", desc := "(I)I" } : Jvm.MethodName)) ∈ lw_all := lw_g (lw_at lw_m6 114 rfl) rfl
theorem q1416 : (Jvm.Cond.selects "ShorePools" ({ cls := "ShorePools", name := "setHeat", desc := "(I)I" } : Jvm.MethodName) ({ cls := "ShorePools", name := "setHeat", desc := "(I)I" } : Jvm.MethodName)) ∈ lw_all := lw_g (lw_at lw_m6 115 rfl) rfl
theorem q1417 : (Jvm.Cond.code ({ cls := "ShorePools", name := "setHeat", desc := "(I)I" } : Jvm.MethodName) prog_1_method_44_code (3 : Nat) (Option.some Jvm.ClassFile.FieldType.int)) ∈ lw_all := lw_g (lw_at lw_m6 116 rfl) rfl
theorem q1422 : (Jvm.Cond.instanceMethod ({ cls := "ShorePools", name := "setPause", desc := "(I)I" } : Jvm.MethodName)) ∈ lw_all := lw_g (lw_at lw_m6 121 rfl) rfl
theorem q1423 : (Jvm.Cond.selects "ShorePools" ({ cls := "ShorePools", name := "setPause", desc := "(I)I" } : Jvm.MethodName) ({ cls := "ShorePools", name := "setPause", desc := "(I)I" } : Jvm.MethodName)) ∈ lw_all := lw_g (lw_at lw_m6 122 rfl) rfl
theorem q1424 : (Jvm.Cond.code ({ cls := "ShorePools", name := "setPause", desc := "(I)I" } : Jvm.MethodName) prog_1_method_45_code (3 : Nat) (Option.some Jvm.ClassFile.FieldType.int)) ∈ lw_all := lw_g (lw_at lw_m6 123 rfl) rfl
theorem q1429 : (Jvm.Cond.instanceMethod ({ cls := "ShorePools", name := "pass", desc := "(I)I" } : Jvm.MethodName)) ∈ lw_all := lw_g (lw_at lw_m6 128 rfl) rfl
theorem q1430 : (Jvm.Cond.selects "ShorePools" ({ cls := "ShorePools", name := "pass", desc := "(I)I" } : Jvm.MethodName) ({ cls := "ShorePools", name := "pass", desc := "(I)I" } : Jvm.MethodName)) ∈ lw_all := lw_g (lw_at lw_m6 129 rfl) rfl
theorem q1431 : (Jvm.Cond.code ({ cls := "ShorePools", name := "pass", desc := "(I)I" } : Jvm.MethodName) prog_1_method_47_code (2 : Nat) (Option.some Jvm.ClassFile.FieldType.int)) ∈ lw_all := lw_g (lw_at lw_m6 130 rfl) rfl
theorem q1432 : (Jvm.Cond.methodLink "ShorePools" (306 : Nat) ({ cls := "ShorePools", name := "canPass", desc := "(I)Z" } : Jvm.MethodName)) ∈ lw_all := lw_g (lw_at lw_m6 131 rfl) rfl
theorem q1433 : (Jvm.Cond.privateMethod ({ cls := "ShorePools", name := "canPass", desc := "(I)Z" } : Jvm.MethodName)) ∈ lw_tbl := lw_at lw_m6 132 rfl
theorem q1434 : (Jvm.Cond.instanceMethod ({ cls := "ShorePools", name := "canPass", desc := "(I)Z" } : Jvm.MethodName)) ∈ lw_all := lw_g (lw_at lw_m6 133 rfl) rfl
theorem q1435 : (Jvm.Cond.code ({ cls := "ShorePools", name := "canPass", desc := "(I)Z" } : Jvm.MethodName) prog_1_method_46_code (2 : Nat) (Option.some Jvm.ClassFile.FieldType.boolean)) ∈ lw_all := lw_g (lw_at lw_m6 134 rfl) rfl
theorem q1440 : (Jvm.Cond.instanceMethod ({ cls := "ShorePools", name := "type", desc := "(C)I" } : Jvm.MethodName)) ∈ lw_all := lw_g (lw_at lw_m6 139 rfl) rfl
theorem q1441 : (Jvm.Cond.selects "ShorePools" ({ cls := "ShorePools", name := "type", desc := "(C)I" } : Jvm.MethodName) ({ cls := "ShorePools", name := "type", desc := "(C)I" } : Jvm.MethodName)) ∈ lw_all := lw_g (lw_at lw_m6 140 rfl) rfl
theorem q1442 : (Jvm.Cond.code ({ cls := "ShorePools", name := "type", desc := "(C)I" } : Jvm.MethodName) prog_1_method_48_code (2 : Nat) (Option.some Jvm.ClassFile.FieldType.int)) ∈ lw_all := lw_g (lw_at lw_m6 141 rfl) rfl
theorem q1443 : (Jvm.Cond.methodLink "ShorePools" (315 : Nat) ({ cls := "java/lang/StringBuilder", name := "append", desc := "(C)Ljava/lang/StringBuilder;" } : Jvm.MethodName)) ∈ lw_all := lw_g (lw_at lw_m6 142 rfl) rfl
theorem q1464 : (Jvm.Cond.instanceMethod ({ cls := "ShorePools", name := "impossibleOrder", desc := "()I" } : Jvm.MethodName)) ∈ lw_all := lw_g (lw_at lw_m6 163 rfl) rfl
theorem q1465 : (Jvm.Cond.selects "ShorePools" ({ cls := "ShorePools", name := "impossibleOrder", desc := "()I" } : Jvm.MethodName) ({ cls := "ShorePools", name := "impossibleOrder", desc := "()I" } : Jvm.MethodName)) ∈ lw_all := lw_g (lw_at lw_m6 164 rfl) rfl
theorem q1466 : (Jvm.Cond.code ({ cls := "ShorePools", name := "impossibleOrder", desc := "()I" } : Jvm.MethodName) prog_1_method_52_code (1 : Nat) (Option.some Jvm.ClassFile.FieldType.int)) ∈ lw_all := lw_g (lw_at lw_m6 165 rfl) rfl
theorem q1467 : (Jvm.Cond.methodLink "ShorePools" (333 : Nat) ({ cls := "ShorePools", name := "noteError", desc := "()I" } : Jvm.MethodName)) ∈ lw_all := lw_g (lw_at lw_m6 166 rfl) rfl
theorem q1468 : (Jvm.Cond.methodLink "ShorePools" (336 : Nat) ({ cls := "ShorePools", name := "stopped", desc := "()I" } : Jvm.MethodName)) ∈ lw_all := lw_g (lw_at lw_m6 167 rfl) rfl
theorem q1469 : (Jvm.Cond.privateMethod ({ cls := "ShorePools", name := "stopped", desc := "()I" } : Jvm.MethodName)) ∈ lw_tbl := lw_at lw_m6 168 rfl
theorem q1470 : (Jvm.Cond.instanceMethod ({ cls := "ShorePools", name := "stopped", desc := "()I" } : Jvm.MethodName)) ∈ lw_all := lw_g (lw_at lw_m6 169 rfl) rfl
theorem q1471 : (Jvm.Cond.codeWith ({ cls := "ShorePools", name := "stopped", desc := "()I" } : Jvm.MethodName) prog_1_method_51_code (4 : Nat) (Option.some Jvm.ClassFile.FieldType.int) [((13 : Nat), (25 : Nat), (32 : Nat), (0 : Nat))]) ∈ lw_all := lw_g (lw_at lw_m6 170 rfl) rfl
theorem q1472 : (Jvm.Cond.methodLink "ShorePools" (330 : Nat) ({ cls := "ShorePools$Reader", name := "doAll", desc := "()I" } : Jvm.MethodName)) ∈ lw_all := lw_g (lw_at lw_m6 171 rfl) rfl
theorem q1494 : (Jvm.Cond.instanceMethod ({ cls := "ShorePools", name := "carryOut", desc := "()I" } : Jvm.MethodName)) ∈ lw_all := lw_g (lw_at lw_m6 193 rfl) rfl
theorem q1495 : (Jvm.Cond.selects "ShorePools" ({ cls := "ShorePools", name := "carryOut", desc := "()I" } : Jvm.MethodName) ({ cls := "ShorePools", name := "carryOut", desc := "()I" } : Jvm.MethodName)) ∈ lw_all := lw_g (lw_at lw_m6 194 rfl) rfl
theorem q1496 : (Jvm.Cond.code ({ cls := "ShorePools", name := "carryOut", desc := "()I" } : Jvm.MethodName) prog_1_method_53_code (3 : Nat) (Option.some Jvm.ClassFile.FieldType.int)) ∈ lw_all := lw_g (lw_at lw_m6 195 rfl) rfl
theorem q1497 : (Jvm.Cond.methodLink "ShorePools" (339 : Nat) ({ cls := "java/lang/StringBuilder", name := "charAt", desc := "(I)C" } : Jvm.MethodName)) ∈ lw_all := lw_g (lw_at lw_m6 196 rfl) rfl
theorem q1502 : (Jvm.Cond.instanceMethod ({ cls := "ShorePools", name := "undo", desc := "()I" } : Jvm.MethodName)) ∈ lw_all := lw_g (lw_at lw_m6 201 rfl) rfl
theorem q1503 : (Jvm.Cond.selects "ShorePools" ({ cls := "ShorePools", name := "undo", desc := "()I" } : Jvm.MethodName) ({ cls := "ShorePools", name := "undo", desc := "()I" } : Jvm.MethodName)) ∈ lw_all := lw_g (lw_at lw_m6 202 rfl) rfl
theorem q1504 : (Jvm.Cond.code ({ cls := "ShorePools", name := "undo", desc := "()I" } : Jvm.MethodName) prog_1_method_54_code (1 : Nat) (Option.some Jvm.ClassFile.FieldType.int)) ∈ lw_all := lw_g (lw_at lw_m6 203 rfl) rfl
theorem q1509 : (Jvm.Cond.instanceMethod ({ cls := "ShorePools", name := "restoreSnapshot", desc := "()I" } : Jvm.MethodName)) ∈ lw_all := lw_g (lw_at lw_m6 208 rfl) rfl
theorem q1510 : (Jvm.Cond.selects "ShorePools" ({ cls := "ShorePools", name := "restoreSnapshot", desc := "()I" } : Jvm.MethodName) ({ cls := "ShorePools", name := "restoreSnapshot", desc := "()I" } : Jvm.MethodName)) ∈ lw_all := lw_g (lw_at lw_m6 209 rfl) rfl
theorem q1511 : (Jvm.Cond.code ({ cls := "ShorePools", name := "restoreSnapshot", desc := "()I" } : Jvm.MethodName) prog_1_method_56_code (1 : Nat) (Option.some Jvm.ClassFile.FieldType.int)) ∈ lw_all := lw_g (lw_at lw_m6 210 rfl) rfl
theorem q1516 : (Jvm.Cond.instanceMethod ({ cls := "ShorePools", name := "tideAt", desc := "(I)I" } : Jvm.MethodName)) ∈ lw_all := lw_g (lw_at lw_m6 215 rfl) rfl
theorem q1517 : (Jvm.Cond.selects "ShorePools" ({ cls := "ShorePools", name := "tideAt", desc := "(I)I" } : Jvm.MethodName) ({ cls := "ShorePools", name := "tideAt", desc := "(I)I" } : Jvm.MethodName)) ∈ lw_all := lw_g (lw_at lw_m6 216 rfl) rfl
theorem q1518 : (Jvm.Cond.code ({ cls := "ShorePools", name := "tideAt", desc := "(I)I" } : Jvm.MethodName) prog_1_method_59_code (2 : Nat) (Option.some Jvm.ClassFile.FieldType.int)) ∈ lw_all := lw_g (lw_at lw_m6 217 rfl) rfl
theorem q1523 : (Jvm.Cond.instanceMethod ({ cls := "ShorePools", name := "heightOf", desc := "(I)I" } : Jvm.MethodName)) ∈ lw_all := lw_g (lw_at lw_m6 222 rfl) rfl
theorem q1524 : (Jvm.Cond.selects "ShorePools" ({ cls := "ShorePools", name := "heightOf", desc := "(I)I" } : Jvm.MethodName) ({ cls := "ShorePools", name := "heightOf", desc := "(I)I" } : Jvm.MethodName)) ∈ lw_all := lw_g (lw_at lw_m6 223 rfl) rfl
theorem q1525 : (Jvm.Cond.code ({ cls := "ShorePools", name := "heightOf", desc := "(I)I" } : Jvm.MethodName) prog_1_method_62_code (2 : Nat) (Option.some Jvm.ClassFile.FieldType.int)) ∈ lw_all := lw_g (lw_at lw_m6 224 rfl) rfl
theorem q1530 : (Jvm.Cond.instanceMethod ({ cls := "ShorePools", name := "isFlooded", desc := "(I)Z" } : Jvm.MethodName)) ∈ lw_all := lw_g (lw_at lw_m6 229 rfl) rfl
theorem q1531 : (Jvm.Cond.selects "ShorePools" ({ cls := "ShorePools", name := "isFlooded", desc := "(I)Z" } : Jvm.MethodName) ({ cls := "ShorePools", name := "isFlooded", desc := "(I)Z" } : Jvm.MethodName)) ∈ lw_all := lw_g (lw_at lw_m6 230 rfl) rfl
theorem q1532 : (Jvm.Cond.code ({ cls := "ShorePools", name := "isFlooded", desc := "(I)Z" } : Jvm.MethodName) prog_1_method_63_code (2 : Nat) (Option.some Jvm.ClassFile.FieldType.boolean)) ∈ lw_all := lw_g (lw_at lw_m6 231 rfl) rfl
theorem q1537 : (Jvm.Cond.instanceMethod ({ cls := "ShorePools", name := "warmthOf", desc := "(I)I" } : Jvm.MethodName)) ∈ lw_all := lw_g (lw_at lw_m6 236 rfl) rfl
theorem q1538 : (Jvm.Cond.selects "ShorePools" ({ cls := "ShorePools", name := "warmthOf", desc := "(I)I" } : Jvm.MethodName) ({ cls := "ShorePools", name := "warmthOf", desc := "(I)I" } : Jvm.MethodName)) ∈ lw_all := lw_g (lw_at lw_m6 237 rfl) rfl
theorem q1539 : (Jvm.Cond.code ({ cls := "ShorePools", name := "warmthOf", desc := "(I)I" } : Jvm.MethodName) prog_1_method_65_code (2 : Nat) (Option.some Jvm.ClassFile.FieldType.int)) ∈ lw_all := lw_g (lw_at lw_m6 238 rfl) rfl
theorem q1544 : (Jvm.Cond.instanceMethod ({ cls := "ShorePools", name := "weedOf", desc := "(I)I" } : Jvm.MethodName)) ∈ lw_all := lw_g (lw_at lw_m7 3 rfl) rfl
theorem q1545 : (Jvm.Cond.selects "ShorePools" ({ cls := "ShorePools", name := "weedOf", desc := "(I)I" } : Jvm.MethodName) ({ cls := "ShorePools", name := "weedOf", desc := "(I)I" } : Jvm.MethodName)) ∈ lw_all := lw_g (lw_at lw_m7 4 rfl) rfl
theorem q1546 : (Jvm.Cond.code ({ cls := "ShorePools", name := "weedOf", desc := "(I)I" } : Jvm.MethodName) prog_1_method_66_code (2 : Nat) (Option.some Jvm.ClassFile.FieldType.int)) ∈ lw_all := lw_g (lw_at lw_m7 5 rfl) rfl
theorem q1551 : (Jvm.Cond.instanceMethod ({ cls := "ShorePools", name := "hoursToFlood", desc := "(I)I" } : Jvm.MethodName)) ∈ lw_all := lw_g (lw_at lw_m7 10 rfl) rfl
theorem q1552 : (Jvm.Cond.selects "ShorePools" ({ cls := "ShorePools", name := "hoursToFlood", desc := "(I)I" } : Jvm.MethodName) ({ cls := "ShorePools", name := "hoursToFlood", desc := "(I)I" } : Jvm.MethodName)) ∈ lw_all := lw_g (lw_at lw_m7 11 rfl) rfl
theorem q1553 : (Jvm.Cond.code ({ cls := "ShorePools", name := "hoursToFlood", desc := "(I)I" } : Jvm.MethodName) prog_1_method_67_code (3 : Nat) (Option.some Jvm.ClassFile.FieldType.int)) ∈ lw_all := lw_g (lw_at lw_m7 12 rfl) rfl
theorem q1558 : (Jvm.Cond.instanceMethod ({ cls := "ShorePools", name := "floodHours", desc := "(I)I" } : Jvm.MethodName)) ∈ lw_all := lw_g (lw_at lw_m7 17 rfl) rfl
theorem q1559 : (Jvm.Cond.selects "ShorePools" ({ cls := "ShorePools", name := "floodHours", desc := "(I)I" } : Jvm.MethodName) ({ cls := "ShorePools", name := "floodHours", desc := "(I)I" } : Jvm.MethodName)) ∈ lw_all := lw_g (lw_at lw_m7 18 rfl) rfl
theorem q1560 : (Jvm.Cond.code ({ cls := "ShorePools", name := "floodHours", desc := "(I)I" } : Jvm.MethodName) prog_1_method_68_code (3 : Nat) (Option.some Jvm.ClassFile.FieldType.int)) ∈ lw_all := lw_g (lw_at lw_m7 19 rfl) rfl
theorem q1565 : (Jvm.Cond.instanceMethod ({ cls := "ShorePools", name := "floodHoursByCounting", desc := "(I)I" } : Jvm.MethodName)) ∈ lw_all := lw_g (lw_at lw_m7 24 rfl) rfl
theorem q1566 : (Jvm.Cond.selects "ShorePools" ({ cls := "ShorePools", name := "floodHoursByCounting", desc := "(I)I" } : Jvm.MethodName) ({ cls := "ShorePools", name := "floodHoursByCounting", desc := "(I)I" } : Jvm.MethodName)) ∈ lw_all := lw_g (lw_at lw_m7 25 rfl) rfl
theorem q1567 : (Jvm.Cond.code ({ cls := "ShorePools", name := "floodHoursByCounting", desc := "(I)I" } : Jvm.MethodName) prog_1_method_69_code (4 : Nat) (Option.some Jvm.ClassFile.FieldType.int)) ∈ lw_all := lw_g (lw_at lw_m7 26 rfl) rfl
theorem q1572 : (Jvm.Cond.instanceMethod ({ cls := "ShorePools", name := "fateOfLimpet", desc := "(I)I" } : Jvm.MethodName)) ∈ lw_all := lw_g (lw_at lw_m7 31 rfl) rfl
theorem q1573 : (Jvm.Cond.selects "ShorePools" ({ cls := "ShorePools", name := "fateOfLimpet", desc := "(I)I" } : Jvm.MethodName) ({ cls := "ShorePools", name := "fateOfLimpet", desc := "(I)I" } : Jvm.MethodName)) ∈ lw_all := lw_g (lw_at lw_m7 32 rfl) rfl
theorem q1574 : (Jvm.Cond.code ({ cls := "ShorePools", name := "fateOfLimpet", desc := "(I)I" } : Jvm.MethodName) prog_1_method_72_code (2 : Nat) (Option.some Jvm.ClassFile.FieldType.int)) ∈ lw_all := lw_g (lw_at lw_m7 33 rfl) rfl
theorem q1575 : (Jvm.Cond.methodLink "ShorePools" (356 : Nat) ({ cls := "ShorePools", name := "limpet", desc := "(I)LShorePools$Limpet;" } : Jvm.MethodName)) ∈ lw_all := lw_g (lw_at lw_m7 34 rfl) rfl
theorem q1576 : (Jvm.Cond.privateMethod ({ cls := "ShorePools", name := "limpet", desc := "(I)LShorePools$Limpet;" } : Jvm.MethodName)) ∈ lw_tbl := lw_at lw_m7 35 rfl
theorem q1577 : (Jvm.Cond.instanceMethod ({ cls := "ShorePools", name := "limpet", desc := "(I)LShorePools$Limpet;" } : Jvm.MethodName)) ∈ lw_all := lw_g (lw_at lw_m7 36 rfl) rfl
theorem q1578 : (Jvm.Cond.code ({ cls := "ShorePools", name := "limpet", desc := "(I)LShorePools$Limpet;" } : Jvm.MethodName) prog_1_method_6_code (2 : Nat) (Option.some (Jvm.ClassFile.FieldType.object "ShorePools$Limpet"))) ∈ lw_all := lw_g (lw_at lw_m7 37 rfl) rfl
theorem q1583 : (Jvm.Cond.instanceMethod ({ cls := "ShorePools", name := "poolOfLimpet", desc := "(I)I" } : Jvm.MethodName)) ∈ lw_all := lw_g (lw_at lw_m7 42 rfl) rfl
theorem q1584 : (Jvm.Cond.selects "ShorePools" ({ cls := "ShorePools", name := "poolOfLimpet", desc := "(I)I" } : Jvm.MethodName) ({ cls := "ShorePools", name := "poolOfLimpet", desc := "(I)I" } : Jvm.MethodName)) ∈ lw_all := lw_g (lw_at lw_m7 43 rfl) rfl
theorem q1585 : (Jvm.Cond.code ({ cls := "ShorePools", name := "poolOfLimpet", desc := "(I)I" } : Jvm.MethodName) prog_1_method_73_code (2 : Nat) (Option.some Jvm.ClassFile.FieldType.int)) ∈ lw_all := lw_g (lw_at lw_m7 44 rfl) rfl
theorem q1590 : (Jvm.Cond.instanceMethod ({ cls := "ShorePools", name := "waterOf", desc := "(I)I" } : Jvm.MethodName)) ∈ lw_all := lw_g (lw_at lw_m7 49 rfl) rfl
theorem q1591 : (Jvm.Cond.selects "ShorePools" ({ cls := "ShorePools", name := "waterOf", desc := "(I)I" } : Jvm.MethodName) ({ cls := "ShorePools", name := "waterOf", desc := "(I)I" } : Jvm.MethodName)) ∈ lw_all := lw_g (lw_at lw_m7 50 rfl) rfl
theorem q1592 : (Jvm.Cond.code ({ cls := "ShorePools", name := "waterOf", desc := "(I)I" } : Jvm.MethodName) prog_1_method_74_code (2 : Nat) (Option.some Jvm.ClassFile.FieldType.int)) ∈ lw_all := lw_g (lw_at lw_m7 51 rfl) rfl
theorem q1597 : (Jvm.Cond.instanceMethod ({ cls := "ShorePools", name := "foodOf", desc := "(I)I" } : Jvm.MethodName)) ∈ lw_all := lw_g (lw_at lw_m7 56 rfl) rfl
theorem q1598 : (Jvm.Cond.selects "ShorePools" ({ cls := "ShorePools", name := "foodOf", desc := "(I)I" } : Jvm.MethodName) ({ cls := "ShorePools", name := "foodOf", desc := "(I)I" } : Jvm.MethodName)) ∈ lw_all := lw_g (lw_at lw_m7 57 rfl) rfl
theorem q1599 : (Jvm.Cond.code ({ cls := "ShorePools", name := "foodOf", desc := "(I)I" } : Jvm.MethodName) prog_1_method_75_code (2 : Nat) (Option.some Jvm.ClassFile.FieldType.int)) ∈ lw_all := lw_g (lw_at lw_m7 58 rfl) rfl
theorem q1604 : (Jvm.Cond.instanceMethod ({ cls := "ShorePools", name := "stepsOf", desc := "(I)I" } : Jvm.MethodName)) ∈ lw_all := lw_g (lw_at lw_m7 63 rfl) rfl
theorem q1605 : (Jvm.Cond.selects "ShorePools" ({ cls := "ShorePools", name := "stepsOf", desc := "(I)I" } : Jvm.MethodName) ({ cls := "ShorePools", name := "stepsOf", desc := "(I)I" } : Jvm.MethodName)) ∈ lw_all := lw_g (lw_at lw_m7 64 rfl) rfl
theorem q1606 : (Jvm.Cond.code ({ cls := "ShorePools", name := "stepsOf", desc := "(I)I" } : Jvm.MethodName) prog_1_method_76_code (2 : Nat) (Option.some Jvm.ClassFile.FieldType.int)) ∈ lw_all := lw_g (lw_at lw_m7 65 rfl) rfl
theorem q1611 : (Jvm.Cond.instanceMethod ({ cls := "ShorePools", name := "sizeOfShell", desc := "(I)I" } : Jvm.MethodName)) ∈ lw_all := lw_g (lw_at lw_m7 70 rfl) rfl
theorem q1612 : (Jvm.Cond.selects "ShorePools" ({ cls := "ShorePools", name := "sizeOfShell", desc := "(I)I" } : Jvm.MethodName) ({ cls := "ShorePools", name := "sizeOfShell", desc := "(I)I" } : Jvm.MethodName)) ∈ lw_all := lw_g (lw_at lw_m7 71 rfl) rfl
theorem q1613 : (Jvm.Cond.code ({ cls := "ShorePools", name := "sizeOfShell", desc := "(I)I" } : Jvm.MethodName) prog_1_method_83_code (2 : Nat) (Option.some Jvm.ClassFile.FieldType.int)) ∈ lw_all := lw_g (lw_at lw_m7 72 rfl) rfl
theorem q1618 : (Jvm.Cond.instanceMethod ({ cls := "ShorePools", name := "poolOfShell", desc := "(I)I" } : Jvm.MethodName)) ∈ lw_all := lw_g (lw_at lw_m7 77 rfl) rfl
theorem q1619 : (Jvm.Cond.selects "ShorePools" ({ cls := "ShorePools", name := "poolOfShell", desc := "(I)I" } : Jvm.MethodName) ({ cls := "ShorePools", name := "poolOfShell", desc := "(I)I" } : Jvm.MethodName)) ∈ lw_all := lw_g (lw_at lw_m7 78 rfl) rfl
theorem q1620 : (Jvm.Cond.code ({ cls := "ShorePools", name := "poolOfShell", desc := "(I)I" } : Jvm.MethodName) prog_1_method_84_code (2 : Nat) (Option.some Jvm.ClassFile.FieldType.int)) ∈ lw_all := lw_g (lw_at lw_m7 79 rfl) rfl
theorem q1625 : (Jvm.Cond.instanceMethod ({ cls := "ShorePools", name := "wearerOf", desc := "(I)I" } : Jvm.MethodName)) ∈ lw_all := lw_g (lw_at lw_m7 84 rfl) rfl
theorem q1626 : (Jvm.Cond.selects "ShorePools" ({ cls := "ShorePools", name := "wearerOf", desc := "(I)I" } : Jvm.MethodName) ({ cls := "ShorePools", name := "wearerOf", desc := "(I)I" } : Jvm.MethodName)) ∈ lw_all := lw_g (lw_at lw_m7 85 rfl) rfl
theorem q1627 : (Jvm.Cond.code ({ cls := "ShorePools", name := "wearerOf", desc := "(I)I" } : Jvm.MethodName) prog_1_method_85_code (2 : Nat) (Option.some Jvm.ClassFile.FieldType.int)) ∈ lw_all := lw_g (lw_at lw_m7 86 rfl) rfl
theorem q1632 : (Jvm.Cond.instanceMethod ({ cls := "ShorePools", name := "fateOfCrab", desc := "(I)I" } : Jvm.MethodName)) ∈ lw_all := lw_g (lw_at lw_m7 91 rfl) rfl
theorem q1633 : (Jvm.Cond.selects "ShorePools" ({ cls := "ShorePools", name := "fateOfCrab", desc := "(I)I" } : Jvm.MethodName) ({ cls := "ShorePools", name := "fateOfCrab", desc := "(I)I" } : Jvm.MethodName)) ∈ lw_all := lw_g (lw_at lw_m7 92 rfl) rfl
theorem q1634 : (Jvm.Cond.code ({ cls := "ShorePools", name := "fateOfCrab", desc := "(I)I" } : Jvm.MethodName) prog_1_method_86_code (2 : Nat) (Option.some Jvm.ClassFile.FieldType.int)) ∈ lw_all := lw_g (lw_at lw_m7 93 rfl) rfl
theorem q1635 : (Jvm.Cond.methodLink "ShorePools" (361 : Nat) ({ cls := "ShorePools", name := "crab", desc := "(I)LShorePools$Crab;" } : Jvm.MethodName)) ∈ lw_all := lw_g (lw_at lw_m7 94 rfl) rfl
theorem q1636 : (Jvm.Cond.privateMethod ({ cls := "ShorePools", name := "crab", desc := "(I)LShorePools$Crab;" } : Jvm.MethodName)) ∈ lw_tbl := lw_at lw_m7 95 rfl
theorem q1637 : (Jvm.Cond.instanceMethod ({ cls := "ShorePools", name := "crab", desc := "(I)LShorePools$Crab;" } : Jvm.MethodName)) ∈ lw_all := lw_g (lw_at lw_m7 96 rfl) rfl
theorem q1638 : (Jvm.Cond.code ({ cls := "ShorePools", name := "crab", desc := "(I)LShorePools$Crab;" } : Jvm.MethodName) prog_1_method_8_code (2 : Nat) (Option.some (Jvm.ClassFile.FieldType.object "ShorePools$Crab"))) ∈ lw_all := lw_g (lw_at lw_m7 97 rfl) rfl
theorem q1643 : (Jvm.Cond.instanceMethod ({ cls := "ShorePools", name := "sizeOfCrab", desc := "(I)I" } : Jvm.MethodName)) ∈ lw_all := lw_g (lw_at lw_m7 102 rfl) rfl
theorem q1644 : (Jvm.Cond.selects "ShorePools" ({ cls := "ShorePools", name := "sizeOfCrab", desc := "(I)I" } : Jvm.MethodName) ({ cls := "ShorePools", name := "sizeOfCrab", desc := "(I)I" } : Jvm.MethodName)) ∈ lw_all := lw_g (lw_at lw_m7 103 rfl) rfl
theorem q1645 : (Jvm.Cond.code ({ cls := "ShorePools", name := "sizeOfCrab", desc := "(I)I" } : Jvm.MethodName) prog_1_method_87_code (2 : Nat) (Option.some Jvm.ClassFile.FieldType.int)) ∈ lw_all := lw_g (lw_at lw_m7 104 rfl) rfl
theorem q1650 : (Jvm.Cond.instanceMethod ({ cls := "ShorePools", name := "poolOfCrab", desc := "(I)I" } : Jvm.MethodName)) ∈ lw_all := lw_g (lw_at lw_m7 109 rfl) rfl
theorem q1651 : (Jvm.Cond.selects "ShorePools" ({ cls := "ShorePools", name := "poolOfCrab", desc := "(I)I" } : Jvm.MethodName) ({ cls := "ShorePools", name := "poolOfCrab", desc := "(I)I" } : Jvm.MethodName)) ∈ lw_all := lw_g (lw_at lw_m7 110 rfl) rfl
theorem q1652 : (Jvm.Cond.code ({ cls := "ShorePools", name := "poolOfCrab", desc := "(I)I" } : Jvm.MethodName) prog_1_method_88_code (2 : Nat) (Option.some Jvm.ClassFile.FieldType.int)) ∈ lw_all := lw_g (lw_at lw_m7 111 rfl) rfl
theorem q1657 : (Jvm.Cond.instanceMethod ({ cls := "ShorePools", name := "shellOf", desc := "(I)I" } : Jvm.MethodName)) ∈ lw_all := lw_g (lw_at lw_m7 116 rfl) rfl
theorem q1658 : (Jvm.Cond.selects "ShorePools" ({ cls := "ShorePools", name := "shellOf", desc := "(I)I" } : Jvm.MethodName) ({ cls := "ShorePools", name := "shellOf", desc := "(I)I" } : Jvm.MethodName)) ∈ lw_all := lw_g (lw_at lw_m7 117 rfl) rfl
theorem q1659 : (Jvm.Cond.code ({ cls := "ShorePools", name := "shellOf", desc := "(I)I" } : Jvm.MethodName) prog_1_method_89_code (2 : Nat) (Option.some Jvm.ClassFile.FieldType.int)) ∈ lw_all := lw_g (lw_at lw_m7 118 rfl) rfl
theorem q1664 : (Jvm.Cond.instanceMethod ({ cls := "ShorePools", name := "worth", desc := "(II)I" } : Jvm.MethodName)) ∈ lw_all := lw_g (lw_at lw_m7 123 rfl) rfl
theorem q1665 : (Jvm.Cond.selects "ShorePools" ({ cls := "ShorePools", name := "worth", desc := "(II)I" } : Jvm.MethodName) ({ cls := "ShorePools", name := "worth", desc := "(II)I" } : Jvm.MethodName)) ∈ lw_all := lw_g (lw_at lw_m7 124 rfl) rfl
theorem q1666 : (Jvm.Cond.code ({ cls := "ShorePools", name := "worth", desc := "(II)I" } : Jvm.MethodName) prog_1_method_90_code (3 : Nat) (Option.some Jvm.ClassFile.FieldType.int)) ∈ lw_all := lw_g (lw_at lw_m7 125 rfl) rfl
theorem q1671 : (Jvm.Cond.instanceMethod ({ cls := "ShorePools", name := "wouldTake", desc := "(I)I" } : Jvm.MethodName)) ∈ lw_all := lw_g (lw_at lw_m7 130 rfl) rfl
theorem q1672 : (Jvm.Cond.selects "ShorePools" ({ cls := "ShorePools", name := "wouldTake", desc := "(I)I" } : Jvm.MethodName) ({ cls := "ShorePools", name := "wouldTake", desc := "(I)I" } : Jvm.MethodName)) ∈ lw_all := lw_g (lw_at lw_m7 131 rfl) rfl
theorem q1673 : (Jvm.Cond.code ({ cls := "ShorePools", name := "wouldTake", desc := "(I)I" } : Jvm.MethodName) prog_1_method_91_code (3 : Nat) (Option.some Jvm.ClassFile.FieldType.int)) ∈ lw_all := lw_g (lw_at lw_m7 132 rfl) rfl
theorem q1678 : (Jvm.Cond.instanceMethod ({ cls := "ShorePools", name := "changesOf", desc := "(I)I" } : Jvm.MethodName)) ∈ lw_all := lw_g (lw_at lw_m7 137 rfl) rfl
theorem q1679 : (Jvm.Cond.selects "ShorePools" ({ cls := "ShorePools", name := "changesOf", desc := "(I)I" } : Jvm.MethodName) ({ cls := "ShorePools", name := "changesOf", desc := "(I)I" } : Jvm.MethodName)) ∈ lw_all := lw_g (lw_at lw_m7 138 rfl) rfl
theorem q1680 : (Jvm.Cond.code ({ cls := "ShorePools", name := "changesOf", desc := "(I)I" } : Jvm.MethodName) prog_1_method_92_code (2 : Nat) (Option.some Jvm.ClassFile.FieldType.int)) ∈ lw_all := lw_g (lw_at lw_m7 139 rfl) rfl
theorem q1685 : (Jvm.Cond.instanceMethod ({ cls := "ShorePools", name := "preyIn", desc := "(I)I" } : Jvm.MethodName)) ∈ lw_all := lw_g (lw_at lw_m7 144 rfl) rfl
theorem q1686 : (Jvm.Cond.selects "ShorePools" ({ cls := "ShorePools", name := "preyIn", desc := "(I)I" } : Jvm.MethodName) ({ cls := "ShorePools", name := "preyIn", desc := "(I)I" } : Jvm.MethodName)) ∈ lw_all := lw_g (lw_at lw_m7 145 rfl) rfl
theorem q1687 : (Jvm.Cond.code ({ cls := "ShorePools", name := "preyIn", desc := "(I)I" } : Jvm.MethodName) prog_1_method_95_code (2 : Nat) (Option.some Jvm.ClassFile.FieldType.int)) ∈ lw_all := lw_g (lw_at lw_m7 146 rfl) rfl
theorem q1692 : (Jvm.Cond.instanceMethod ({ cls := "ShorePools", name := "chainBy", desc := "(II)I" } : Jvm.MethodName)) ∈ lw_all := lw_g (lw_at lw_m7 151 rfl) rfl
theorem q1693 : (Jvm.Cond.selects "ShorePools" ({ cls := "ShorePools", name := "chainBy", desc := "(II)I" } : Jvm.MethodName) ({ cls := "ShorePools", name := "chainBy", desc := "(II)I" } : Jvm.MethodName)) ∈ lw_all := lw_g (lw_at lw_m7 152 rfl) rfl
theorem q1694 : (Jvm.Cond.code ({ cls := "ShorePools", name := "chainBy", desc := "(II)I" } : Jvm.MethodName) prog_1_method_101_code (3 : Nat) (Option.some Jvm.ClassFile.FieldType.int)) ∈ lw_all := lw_g (lw_at lw_m7 153 rfl) rfl
theorem q1695 : (Jvm.Cond.methodLink "ShorePools" (375 : Nat) ({ cls := "ShorePools", name := "chain", desc := "(II)I" } : Jvm.MethodName)) ∈ lw_all := lw_g (lw_at lw_m7 154 rfl) rfl
theorem q1696 : (Jvm.Cond.privateMethod ({ cls := "ShorePools", name := "chain", desc := "(II)I" } : Jvm.MethodName)) ∈ lw_tbl := lw_at lw_m7 155 rfl
theorem q1697 : (Jvm.Cond.instanceMethod ({ cls := "ShorePools", name := "chain", desc := "(II)I" } : Jvm.MethodName)) ∈ lw_all := lw_g (lw_at lw_m7 156 rfl) rfl
theorem q1698 : (Jvm.Cond.code ({ cls := "ShorePools", name := "chain", desc := "(II)I" } : Jvm.MethodName) prog_1_method_98_code (9 : Nat) (Option.some Jvm.ClassFile.FieldType.int)) ∈ lw_all := lw_g (lw_at lw_m7 157 rfl) rfl
theorem q1699 : (Jvm.Cond.methodLink "ShorePools" (365 : Nat) ({ cls := "ShorePools", name := "trialShell", desc := "(LShorePools$Crab;III)I" } : Jvm.MethodName)) ∈ lw_all := lw_g (lw_at lw_m7 158 rfl) rfl
theorem q1700 : (Jvm.Cond.privateMethod ({ cls := "ShorePools", name := "trialShell", desc := "(LShorePools$Crab;III)I" } : Jvm.MethodName)) ∈ lw_tbl := lw_at lw_m7 159 rfl
theorem q1701 : (Jvm.Cond.instanceMethod ({ cls := "ShorePools", name := "trialShell", desc := "(LShorePools$Crab;III)I" } : Jvm.MethodName)) ∈ lw_all := lw_g (lw_at lw_m7 160 rfl) rfl
theorem q1702 : (Jvm.Cond.code ({ cls := "ShorePools", name := "trialShell", desc := "(LShorePools$Crab;III)I" } : Jvm.MethodName) prog_1_method_100_code (11 : Nat) (Option.some Jvm.ClassFile.FieldType.int)) ∈ lw_all := lw_g (lw_at lw_m7 161 rfl) rfl
theorem q1703 : (Jvm.Cond.methodLink "ShorePools" (369 : Nat) ({ cls := "ShorePools", name := "sizeWith", desc := "(II)I" } : Jvm.MethodName)) ∈ lw_all := lw_g (lw_at lw_m7 162 rfl) rfl
theorem q1704 : (Jvm.Cond.privateMethod ({ cls := "ShorePools", name := "sizeWith", desc := "(II)I" } : Jvm.MethodName)) ∈ lw_tbl := lw_at lw_m7 163 rfl
theorem q1705 : (Jvm.Cond.instanceMethod ({ cls := "ShorePools", name := "sizeWith", desc := "(II)I" } : Jvm.MethodName)) ∈ lw_all := lw_g (lw_at lw_m7 164 rfl) rfl
theorem q1706 : (Jvm.Cond.code ({ cls := "ShorePools", name := "sizeWith", desc := "(II)I" } : Jvm.MethodName) prog_1_method_99_code (3 : Nat) (Option.some Jvm.ClassFile.FieldType.int)) ∈ lw_all := lw_g (lw_at lw_m7 165 rfl) rfl
theorem q1707 : (Jvm.Cond.methodLink "ShorePools" (372 : Nat) ({ cls := "ShorePools$Sized", name := "worthOfGap", desc := "(I)I" } : Jvm.MethodName)) ∈ lw_all := lw_g (lw_at lw_m7 166 rfl) rfl
theorem q1712 : (Jvm.Cond.instanceMethod ({ cls := "ShorePools", name := "bestSize", desc := "(I)I" } : Jvm.MethodName)) ∈ lw_all := lw_g (lw_at lw_m7 171 rfl) rfl
theorem q1713 : (Jvm.Cond.selects "ShorePools" ({ cls := "ShorePools", name := "bestSize", desc := "(I)I" } : Jvm.MethodName) ({ cls := "ShorePools", name := "bestSize", desc := "(I)I" } : Jvm.MethodName)) ∈ lw_all := lw_g (lw_at lw_m7 172 rfl) rfl
theorem q1714 : (Jvm.Cond.code ({ cls := "ShorePools", name := "bestSize", desc := "(I)I" } : Jvm.MethodName) prog_1_method_102_code (6 : Nat) (Option.some Jvm.ClassFile.FieldType.int)) ∈ lw_all := lw_g (lw_at lw_m7 173 rfl) rfl
theorem q1719 : (Jvm.Cond.instanceMethod ({ cls := "ShorePools", name := "lostIn", desc := "(I)I" } : Jvm.MethodName)) ∈ lw_all := lw_g (lw_at lw_m7 178 rfl) rfl
theorem q1720 : (Jvm.Cond.selects "ShorePools" ({ cls := "ShorePools", name := "lostIn", desc := "(I)I" } : Jvm.MethodName) ({ cls := "ShorePools", name := "lostIn", desc := "(I)I" } : Jvm.MethodName)) ∈ lw_all := lw_g (lw_at lw_m7 179 rfl) rfl
theorem q1721 : (Jvm.Cond.code ({ cls := "ShorePools", name := "lostIn", desc := "(I)I" } : Jvm.MethodName) prog_1_method_104_code (2 : Nat) (Option.some Jvm.ClassFile.FieldType.int)) ∈ lw_all := lw_g (lw_at lw_m7 180 rfl) rfl
theorem q1726 : (Jvm.Cond.instanceMethod ({ cls := "ShorePools", name := "hoursToLive", desc := "(I)I" } : Jvm.MethodName)) ∈ lw_all := lw_g (lw_at lw_m7 185 rfl) rfl
theorem q1727 : (Jvm.Cond.selects "ShorePools" ({ cls := "ShorePools", name := "hoursToLive", desc := "(I)I" } : Jvm.MethodName) ({ cls := "ShorePools", name := "hoursToLive", desc := "(I)I" } : Jvm.MethodName)) ∈ lw_all := lw_g (lw_at lw_m7 186 rfl) rfl
theorem q1728 : (Jvm.Cond.codeWith ({ cls := "ShorePools", name := "hoursToLive", desc := "(I)I" } : Jvm.MethodName) prog_1_method_105_code (6 : Nat) (Option.some Jvm.ClassFile.FieldType.int) [((24 : Nat), (72 : Nat), (95 : Nat), (0 : Nat)), ((80 : Nat), (88 : Nat), (95 : Nat), (0 : Nat)), ((95 : Nat), (97 : Nat), (95 : Nat), (0 : Nat))]) ∈ lw_all := lw_g (lw_at lw_m7 187 rfl) rfl
theorem q1733 : (Jvm.Cond.instanceMethod ({ cls := "ShorePools", name := "hoursToChange", desc := "(I)I" } : Jvm.MethodName)) ∈ lw_all := lw_g (lw_at lw_m7 192 rfl) rfl
theorem q1734 : (Jvm.Cond.selects "ShorePools" ({ cls := "ShorePools", name := "hoursToChange", desc := "(I)I" } : Jvm.MethodName) ({ cls := "ShorePools", name := "hoursToChange", desc := "(I)I" } : Jvm.MethodName)) ∈ lw_all := lw_g (lw_at lw_m7 193 rfl) rfl
theorem q1735 : (Jvm.Cond.codeWith ({ cls := "ShorePools", name := "hoursToChange", desc := "(I)I" } : Jvm.MethodName) prog_1_method_106_code (6 : Nat) (Option.some Jvm.ClassFile.FieldType.int) [((24 : Nat), (86 : Nat), (109 : Nat), (0 : Nat)), ((94 : Nat), (102 : Nat), (109 : Nat), (0 : Nat)), ((109 : Nat), (111 : Nat), (109 : Nat), (0 : Nat))]) ∈ lw_all := lw_g (lw_at lw_m7 194 rfl) rfl
theorem q2285 : (Jvm.Cond.castable "ShorePools" "java/lang/Object") ∈ lw_tbl := lw_at lw_m10 24 rfl
theorem in_X1 : ∀ w ∈ wsX10, w ∈ lw_all := lw_in wsX10 [281, 283, 285, 287, 289, 291, 293] (by decide +kernel) (by decide +kernel)
