/-! ShorePoolsModel -/
set_option maxRecDepth 100000
def RX3 : String := "ShorePoolsModel"
def TX3 : u_T := fun k => match k with
  | 0 => ("ShorePoolsModel", "s", "[I", true)
  | 1 => ("ShorePoolsModel", "past", "[I", true)
  | 2 => ("ShorePoolsModel", "known", "I", false)
  | 3 => ("ShorePoolsModel", "kept", "[I", true)
  | 4 => ("ShorePoolsModel", "isKept", "Z", false)
  | 5 => ("ShorePoolsModel", "note", "[I", true)
  | 6 => ("ShorePoolsModel", "length", "I", false)
  | 7 => ("ShorePoolsModel", "thrown", "I", false)
  | 8 => ("ShorePoolsModel", "at", "I", false)
  | 9 => ("ShorePoolsModel", "order", "I", false)
  | 10 => ("ShorePoolsModel", "one", "I", false)
  | 11 => ("ShorePoolsModel", "other", "I", false)
  | _ => ("ShorePoolsModel", "orders", "I", false)
def tyX3 : Nat → FieldType := fun k => match k with
  | 0 => .array .int
  | 1 => .array .int
  | 2 => .int
  | 3 => .array .int
  | 4 => .boolean
  | 5 => .array .int
  | 6 => .int
  | 7 => .int
  | 8 => .int
  | 9 => .int
  | 10 => .int
  | 11 => .int
  | _ => .int
abbrev wsX30 : List Cond := u_ws RX3 TX3 13
set_option maxRecDepth 100000 in
theorem nmX3 : ∀ a, a < 13 → ∀ b, b < 13 → a ≠ b → (TX3 a).2.1 ≠ (TX3 b).2.1 := by decide +kernel
set_option maxRecDepth 100000 in
theorem tyX3_ok : ∀ k, k < 13 → parseFieldDescriptor (TX3 k).2.2.1 = some (tyX3 k) := by decide +kernel
abbrev cX3_init : ByteArray := prog_11_method_1_code
def yX3_init : MethodName := ⟨RX3, "<init>", "()V"⟩
def dkwX3_init_5 : List UInt8 := [96, 16, 20, 79, 132, 1, 1, 167, 255, 210, 177]
abbrev dktX3_init_5 : List UInt8 := dkwX3_init_5 ++ []
def dkwX3_init_4 : List UInt8 := [16, 7, 27, 104, 96, 79, 42, 180, 0, 7, 16, 15, 27, 96, 16, 10, 79, 42, 180, 0, 7, 16, 23, 27]
abbrev dktX3_init_4 : List UInt8 := dkwX3_init_4 ++ dktX3_init_5
def dkwX3_init_3 : List UInt8 := [180, 0, 7, 8, 16, 7, 79, 3, 60, 27, 16, 8, 162, 0, 46, 42, 180, 0, 7, 16, 7, 27, 96, 8]
abbrev dktX3_init_3 : List UInt8 := dkwX3_init_3 ++ dktX3_init_4
def dkwX3_init_2 : List UInt8 := [42, 180, 0, 7, 5, 16, 50, 79, 42, 180, 0, 7, 6, 5, 79, 42, 180, 0, 7, 7, 6, 79, 42]
abbrev dktX3_init_2 : List UInt8 := dkwX3_init_2 ++ dktX3_init_3
def dkwX3_init_1 : List UInt8 := [17, 1, 31, 188, 10, 181, 0, 16, 42, 16, 60, 188, 10, 181, 0, 19, 42, 180, 0, 7, 4, 16, 8, 79]
abbrev dktX3_init_1 : List UInt8 := dkwX3_init_1 ++ dktX3_init_2
def dkwX3_init_0 : List UInt8 := [42, 183, 0, 1, 42, 17, 2, 62, 188, 10, 181, 0, 7, 42, 17, 4, 124, 188, 10, 181, 0, 13, 42]
abbrev dktX3_init_0 : List UInt8 := dkwX3_init_0 ++ dktX3_init_1
theorem dksX3_init_0 : cX3_init.data.toList.drop 0 = dktX3_init_0 := by decide +kernel
theorem dksX3_init_1 : cX3_init.data.toList.drop 23 = dktX3_init_1 := dk_seg dksX3_init_0 23 rfl rfl
theorem dksX3_init_2 : cX3_init.data.toList.drop 47 = dktX3_init_2 := dk_seg dksX3_init_1 24 rfl rfl
theorem dksX3_init_3 : cX3_init.data.toList.drop 70 = dktX3_init_3 := dk_seg dksX3_init_2 23 rfl rfl
theorem dksX3_init_4 : cX3_init.data.toList.drop 94 = dktX3_init_4 := dk_seg dksX3_init_3 24 rfl rfl
theorem dksX3_init_5 : cX3_init.data.toList.drop 118 = dktX3_init_5 := dk_seg dksX3_init_4 24 rfl rfl
theorem dX3_init_0 : decode cX3_init 0 = .ok (.aload_n 0, 1) := dk_42 (dk_at dksX3_init_0 0 rfl rfl)
theorem dX3_init_1 : decode cX3_init 1 = .ok (.invokespecial 1, 3) := dk_183 0 1 (dk_at dksX3_init_0 1 rfl rfl)
theorem dX3_init_4 : decode cX3_init 4 = .ok (.aload_n 0, 1) := dk_42 (dk_at dksX3_init_0 4 rfl rfl)
theorem dX3_init_5 : decode cX3_init 5 = .ok (.sipush 574, 3) := dk_17 2 62 (dk_at dksX3_init_0 5 rfl rfl)
theorem dX3_init_8 : decode cX3_init 8 = .ok (.newarray .int, 2) := dk_188_10 (dk_at dksX3_init_0 8 rfl rfl)
theorem dX3_init_10 : decode cX3_init 10 = .ok (.putfield 7, 3) := dk_181 0 7 (dk_at dksX3_init_0 10 rfl rfl)
theorem dX3_init_13 : decode cX3_init 13 = .ok (.aload_n 0, 1) := dk_42 (dk_at dksX3_init_0 13 rfl rfl)
theorem dX3_init_14 : decode cX3_init 14 = .ok (.sipush 1148, 3) := dk_17 4 124 (dk_at dksX3_init_0 14 rfl rfl)
theorem dX3_init_17 : decode cX3_init 17 = .ok (.newarray .int, 2) := dk_188_10 (dk_at dksX3_init_0 17 rfl rfl)
theorem dX3_init_19 : decode cX3_init 19 = .ok (.putfield 13, 3) := dk_181 0 13 (dk_at dksX3_init_0 19 rfl rfl)
theorem dX3_init_22 : decode cX3_init 22 = .ok (.aload_n 0, 1) := dk_42 (dk_at dksX3_init_0 22 rfl rfl)
theorem dX3_init_23 : decode cX3_init 23 = .ok (.sipush 287, 3) := dk_17 1 31 (dk_at dksX3_init_1 0 rfl rfl)
theorem dX3_init_26 : decode cX3_init 26 = .ok (.newarray .int, 2) := dk_188_10 (dk_at dksX3_init_1 3 rfl rfl)
theorem dX3_init_28 : decode cX3_init 28 = .ok (.putfield 16, 3) := dk_181 0 16 (dk_at dksX3_init_1 5 rfl rfl)
theorem dX3_init_31 : decode cX3_init 31 = .ok (.aload_n 0, 1) := dk_42 (dk_at dksX3_init_1 8 rfl rfl)
theorem dX3_init_32 : decode cX3_init 32 = .ok (.bipush 60, 2) := dk_16 60 (dk_at dksX3_init_1 9 rfl rfl)
theorem dX3_init_34 : decode cX3_init 34 = .ok (.newarray .int, 2) := dk_188_10 (dk_at dksX3_init_1 11 rfl rfl)
theorem dX3_init_36 : decode cX3_init 36 = .ok (.putfield 19, 3) := dk_181 0 19 (dk_at dksX3_init_1 13 rfl rfl)
theorem dX3_init_39 : decode cX3_init 39 = .ok (.aload_n 0, 1) := dk_42 (dk_at dksX3_init_1 16 rfl rfl)
theorem dX3_init_40 : decode cX3_init 40 = .ok (.getfield 7, 3) := dk_180 0 7 (dk_at dksX3_init_1 17 rfl rfl)
theorem dX3_init_43 : decode cX3_init 43 = .ok (.iconst 1, 1) := dk_4 (dk_at dksX3_init_1 20 rfl rfl)
theorem dX3_init_44 : decode cX3_init 44 = .ok (.bipush 8, 2) := dk_16 8 (dk_at dksX3_init_1 21 rfl rfl)
theorem dX3_init_46 : decode cX3_init 46 = .ok (.iastore, 1) := dk_79 (dk_at dksX3_init_1 23 rfl rfl)
theorem dX3_init_47 : decode cX3_init 47 = .ok (.aload_n 0, 1) := dk_42 (dk_at dksX3_init_2 0 rfl rfl)
theorem dX3_init_48 : decode cX3_init 48 = .ok (.getfield 7, 3) := dk_180 0 7 (dk_at dksX3_init_2 1 rfl rfl)
theorem dX3_init_51 : decode cX3_init 51 = .ok (.iconst 2, 1) := dk_5 (dk_at dksX3_init_2 4 rfl rfl)
theorem dX3_init_52 : decode cX3_init 52 = .ok (.bipush 50, 2) := dk_16 50 (dk_at dksX3_init_2 5 rfl rfl)
theorem dX3_init_54 : decode cX3_init 54 = .ok (.iastore, 1) := dk_79 (dk_at dksX3_init_2 7 rfl rfl)
theorem dX3_init_55 : decode cX3_init 55 = .ok (.aload_n 0, 1) := dk_42 (dk_at dksX3_init_2 8 rfl rfl)
theorem dX3_init_56 : decode cX3_init 56 = .ok (.getfield 7, 3) := dk_180 0 7 (dk_at dksX3_init_2 9 rfl rfl)
theorem dX3_init_59 : decode cX3_init 59 = .ok (.iconst 3, 1) := dk_6 (dk_at dksX3_init_2 12 rfl rfl)
theorem dX3_init_60 : decode cX3_init 60 = .ok (.iconst 2, 1) := dk_5 (dk_at dksX3_init_2 13 rfl rfl)
theorem dX3_init_61 : decode cX3_init 61 = .ok (.iastore, 1) := dk_79 (dk_at dksX3_init_2 14 rfl rfl)
theorem dX3_init_62 : decode cX3_init 62 = .ok (.aload_n 0, 1) := dk_42 (dk_at dksX3_init_2 15 rfl rfl)
theorem dX3_init_63 : decode cX3_init 63 = .ok (.getfield 7, 3) := dk_180 0 7 (dk_at dksX3_init_2 16 rfl rfl)
theorem dX3_init_66 : decode cX3_init 66 = .ok (.iconst 4, 1) := dk_7 (dk_at dksX3_init_2 19 rfl rfl)
theorem dX3_init_67 : decode cX3_init 67 = .ok (.iconst 3, 1) := dk_6 (dk_at dksX3_init_2 20 rfl rfl)
theorem dX3_init_68 : decode cX3_init 68 = .ok (.iastore, 1) := dk_79 (dk_at dksX3_init_2 21 rfl rfl)
theorem dX3_init_69 : decode cX3_init 69 = .ok (.aload_n 0, 1) := dk_42 (dk_at dksX3_init_2 22 rfl rfl)
theorem dX3_init_70 : decode cX3_init 70 = .ok (.getfield 7, 3) := dk_180 0 7 (dk_at dksX3_init_3 0 rfl rfl)
theorem dX3_init_73 : decode cX3_init 73 = .ok (.iconst 5, 1) := dk_8 (dk_at dksX3_init_3 3 rfl rfl)
theorem dX3_init_74 : decode cX3_init 74 = .ok (.bipush 7, 2) := dk_16 7 (dk_at dksX3_init_3 4 rfl rfl)
theorem dX3_init_76 : decode cX3_init 76 = .ok (.iastore, 1) := dk_79 (dk_at dksX3_init_3 6 rfl rfl)
theorem dX3_init_77 : decode cX3_init 77 = .ok (.iconst 0, 1) := dk_3 (dk_at dksX3_init_3 7 rfl rfl)
theorem dX3_init_78 : decode cX3_init 78 = .ok (.istore_n 1, 1) := dk_60 (dk_at dksX3_init_3 8 rfl rfl)
theorem dX3_init_79 : decode cX3_init 79 = .ok (.iload_n 1, 1) := dk_27 (dk_at dksX3_init_3 9 rfl rfl)
theorem dX3_init_80 : decode cX3_init 80 = .ok (.bipush 8, 2) := dk_16 8 (dk_at dksX3_init_3 10 rfl rfl)
theorem dX3_init_82 : decode cX3_init 82 = .ok (.if_icmp .ge 46, 3) := dk_162 0 46 (dk_at dksX3_init_3 12 rfl rfl)
theorem dX3_init_85 : decode cX3_init 85 = .ok (.aload_n 0, 1) := dk_42 (dk_at dksX3_init_3 15 rfl rfl)
theorem dX3_init_86 : decode cX3_init 86 = .ok (.getfield 7, 3) := dk_180 0 7 (dk_at dksX3_init_3 16 rfl rfl)
theorem dX3_init_89 : decode cX3_init 89 = .ok (.bipush 7, 2) := dk_16 7 (dk_at dksX3_init_3 19 rfl rfl)
theorem dX3_init_91 : decode cX3_init 91 = .ok (.iload_n 1, 1) := dk_27 (dk_at dksX3_init_3 21 rfl rfl)
theorem dX3_init_92 : decode cX3_init 92 = .ok (.iadd, 1) := dk_96 (dk_at dksX3_init_3 22 rfl rfl)
theorem dX3_init_93 : decode cX3_init 93 = .ok (.iconst 5, 1) := dk_8 (dk_at dksX3_init_3 23 rfl rfl)
theorem dX3_init_94 : decode cX3_init 94 = .ok (.bipush 7, 2) := dk_16 7 (dk_at dksX3_init_4 0 rfl rfl)
theorem dX3_init_96 : decode cX3_init 96 = .ok (.iload_n 1, 1) := dk_27 (dk_at dksX3_init_4 2 rfl rfl)
theorem dX3_init_97 : decode cX3_init 97 = .ok (.imul, 1) := dk_104 (dk_at dksX3_init_4 3 rfl rfl)
theorem dX3_init_98 : decode cX3_init 98 = .ok (.iadd, 1) := dk_96 (dk_at dksX3_init_4 4 rfl rfl)
theorem dX3_init_99 : decode cX3_init 99 = .ok (.iastore, 1) := dk_79 (dk_at dksX3_init_4 5 rfl rfl)
theorem dX3_init_100 : decode cX3_init 100 = .ok (.aload_n 0, 1) := dk_42 (dk_at dksX3_init_4 6 rfl rfl)
theorem dX3_init_101 : decode cX3_init 101 = .ok (.getfield 7, 3) := dk_180 0 7 (dk_at dksX3_init_4 7 rfl rfl)
theorem dX3_init_104 : decode cX3_init 104 = .ok (.bipush 15, 2) := dk_16 15 (dk_at dksX3_init_4 10 rfl rfl)
theorem dX3_init_106 : decode cX3_init 106 = .ok (.iload_n 1, 1) := dk_27 (dk_at dksX3_init_4 12 rfl rfl)
theorem dX3_init_107 : decode cX3_init 107 = .ok (.iadd, 1) := dk_96 (dk_at dksX3_init_4 13 rfl rfl)
theorem dX3_init_108 : decode cX3_init 108 = .ok (.bipush 10, 2) := dk_16 10 (dk_at dksX3_init_4 14 rfl rfl)
theorem dX3_init_110 : decode cX3_init 110 = .ok (.iastore, 1) := dk_79 (dk_at dksX3_init_4 16 rfl rfl)
theorem dX3_init_111 : decode cX3_init 111 = .ok (.aload_n 0, 1) := dk_42 (dk_at dksX3_init_4 17 rfl rfl)
theorem dX3_init_112 : decode cX3_init 112 = .ok (.getfield 7, 3) := dk_180 0 7 (dk_at dksX3_init_4 18 rfl rfl)
theorem dX3_init_115 : decode cX3_init 115 = .ok (.bipush 23, 2) := dk_16 23 (dk_at dksX3_init_4 21 rfl rfl)
theorem dX3_init_117 : decode cX3_init 117 = .ok (.iload_n 1, 1) := dk_27 (dk_at dksX3_init_4 23 rfl rfl)
theorem dX3_init_118 : decode cX3_init 118 = .ok (.iadd, 1) := dk_96 (dk_at dksX3_init_5 0 rfl rfl)
theorem dX3_init_119 : decode cX3_init 119 = .ok (.bipush 20, 2) := dk_16 20 (dk_at dksX3_init_5 1 rfl rfl)
theorem dX3_init_121 : decode cX3_init 121 = .ok (.iastore, 1) := dk_79 (dk_at dksX3_init_5 3 rfl rfl)
theorem dX3_init_122 : decode cX3_init 122 = .ok (.iinc 1 1, 3) := dk_132 1 1 (dk_at dksX3_init_5 4 rfl rfl)
theorem dX3_init_125 : decode cX3_init 125 = .ok (.goto (-46), 3) := dk_167 255 210 (dk_at dksX3_init_5 7 rfl rfl)
theorem dX3_init_128 : decode cX3_init 128 = .ok (.return_, 1) := dk_177 (dk_at dksX3_init_5 10 rfl rfl)
abbrev cX3_thrown : ByteArray := prog_11_method_2_code
def yX3_thrown : MethodName := ⟨RX3, "thrown", "()I"⟩
theorem dX3_thrown_0 : decode cX3_thrown 0 = .ok (.aload_n 0, 1) := by decide +kernel
theorem dX3_thrown_1 : decode cX3_thrown 1 = .ok (.getfield 22, 3) := by decide +kernel
theorem dX3_thrown_4 : decode cX3_thrown 4 = .ok (.ireturn, 1) := by decide +kernel
abbrev cX3_addLimpet : ByteArray := prog_11_method_19_code
def yX3_addLimpet : MethodName := ⟨RX3, "addLimpet", "(I)I"⟩
def dkwX3_addLimpet_2 : List UInt8 := [153, 0, 15, 42, 180, 0, 7, 16, 31, 46, 4, 100, 167, 0, 4, 3, 172]
abbrev dktX3_addLimpet_2 : List UInt8 := dkwX3_addLimpet_2 ++ []
def dkwX3_addLimpet_1 : List UInt8 := [5, 167, 0, 4, 3, 182, 0, 54, 153, 0, 5, 3, 172, 42, 182, 0, 33, 42, 3, 27, 182, 0, 57]
abbrev dktX3_addLimpet_1 : List UInt8 := dkwX3_addLimpet_1 ++ dktX3_addLimpet_2
def dkwX3_addLimpet_0 : List UInt8 := [42, 27, 184, 0, 50, 154, 0, 7, 4, 167, 0, 20, 42, 180, 0, 7, 16, 31, 46, 16, 20, 160, 0, 7]
abbrev dktX3_addLimpet_0 : List UInt8 := dkwX3_addLimpet_0 ++ dktX3_addLimpet_1
theorem dksX3_addLimpet_0 : cX3_addLimpet.data.toList.drop 0 = dktX3_addLimpet_0 := by decide +kernel
theorem dksX3_addLimpet_1 : cX3_addLimpet.data.toList.drop 24 = dktX3_addLimpet_1 := dk_seg dksX3_addLimpet_0 24 rfl rfl
theorem dksX3_addLimpet_2 : cX3_addLimpet.data.toList.drop 47 = dktX3_addLimpet_2 := dk_seg dksX3_addLimpet_1 23 rfl rfl
theorem dX3_addLimpet_0 : decode cX3_addLimpet 0 = .ok (.aload_n 0, 1) := dk_42 (dk_at dksX3_addLimpet_0 0 rfl rfl)
theorem dX3_addLimpet_1 : decode cX3_addLimpet 1 = .ok (.iload_n 1, 1) := dk_27 (dk_at dksX3_addLimpet_0 1 rfl rfl)
theorem dX3_addLimpet_2 : decode cX3_addLimpet 2 = .ok (.invokestatic 50, 3) := dk_184 0 50 (dk_at dksX3_addLimpet_0 2 rfl rfl)
theorem dX3_addLimpet_5 : decode cX3_addLimpet 5 = .ok (.ifCond .ne 7, 3) := dk_154 0 7 (dk_at dksX3_addLimpet_0 5 rfl rfl)
theorem dX3_addLimpet_8 : decode cX3_addLimpet 8 = .ok (.iconst 1, 1) := dk_4 (dk_at dksX3_addLimpet_0 8 rfl rfl)
theorem dX3_addLimpet_9 : decode cX3_addLimpet 9 = .ok (.goto 20, 3) := dk_167 0 20 (dk_at dksX3_addLimpet_0 9 rfl rfl)
theorem dX3_addLimpet_12 : decode cX3_addLimpet 12 = .ok (.aload_n 0, 1) := dk_42 (dk_at dksX3_addLimpet_0 12 rfl rfl)
theorem dX3_addLimpet_13 : decode cX3_addLimpet 13 = .ok (.getfield 7, 3) := dk_180 0 7 (dk_at dksX3_addLimpet_0 13 rfl rfl)
theorem dX3_addLimpet_16 : decode cX3_addLimpet 16 = .ok (.bipush 31, 2) := dk_16 31 (dk_at dksX3_addLimpet_0 16 rfl rfl)
theorem dX3_addLimpet_18 : decode cX3_addLimpet 18 = .ok (.iaload, 1) := dk_46 (dk_at dksX3_addLimpet_0 18 rfl rfl)
theorem dX3_addLimpet_19 : decode cX3_addLimpet 19 = .ok (.bipush 20, 2) := dk_16 20 (dk_at dksX3_addLimpet_0 19 rfl rfl)
theorem dX3_addLimpet_21 : decode cX3_addLimpet 21 = .ok (.if_icmp .ne 7, 3) := dk_160 0 7 (dk_at dksX3_addLimpet_0 21 rfl rfl)
theorem dX3_addLimpet_24 : decode cX3_addLimpet 24 = .ok (.iconst 2, 1) := dk_5 (dk_at dksX3_addLimpet_1 0 rfl rfl)
theorem dX3_addLimpet_25 : decode cX3_addLimpet 25 = .ok (.goto 4, 3) := dk_167 0 4 (dk_at dksX3_addLimpet_1 1 rfl rfl)
theorem dX3_addLimpet_28 : decode cX3_addLimpet 28 = .ok (.iconst 0, 1) := dk_3 (dk_at dksX3_addLimpet_1 4 rfl rfl)
theorem dX3_addLimpet_29 : decode cX3_addLimpet 29 = .ok (.invokevirtual 54, 3) := dk_182 0 54 (dk_at dksX3_addLimpet_1 5 rfl rfl)
theorem dX3_addLimpet_32 : decode cX3_addLimpet 32 = .ok (.ifCond .eq 5, 3) := dk_153 0 5 (dk_at dksX3_addLimpet_1 8 rfl rfl)
theorem dX3_addLimpet_35 : decode cX3_addLimpet 35 = .ok (.iconst 0, 1) := dk_3 (dk_at dksX3_addLimpet_1 11 rfl rfl)
theorem dX3_addLimpet_36 : decode cX3_addLimpet 36 = .ok (.ireturn, 1) := dk_172 (dk_at dksX3_addLimpet_1 12 rfl rfl)
theorem dX3_addLimpet_37 : decode cX3_addLimpet 37 = .ok (.aload_n 0, 1) := dk_42 (dk_at dksX3_addLimpet_1 13 rfl rfl)
theorem dX3_addLimpet_38 : decode cX3_addLimpet 38 = .ok (.invokevirtual 33, 3) := dk_182 0 33 (dk_at dksX3_addLimpet_1 14 rfl rfl)
theorem dX3_addLimpet_41 : decode cX3_addLimpet 41 = .ok (.aload_n 0, 1) := dk_42 (dk_at dksX3_addLimpet_1 17 rfl rfl)
theorem dX3_addLimpet_42 : decode cX3_addLimpet 42 = .ok (.iconst 0, 1) := dk_3 (dk_at dksX3_addLimpet_1 18 rfl rfl)
theorem dX3_addLimpet_43 : decode cX3_addLimpet 43 = .ok (.iload_n 1, 1) := dk_27 (dk_at dksX3_addLimpet_1 19 rfl rfl)
theorem dX3_addLimpet_44 : decode cX3_addLimpet 44 = .ok (.invokevirtual 57, 3) := dk_182 0 57 (dk_at dksX3_addLimpet_1 20 rfl rfl)
theorem dX3_addLimpet_47 : decode cX3_addLimpet 47 = .ok (.ifCond .eq 15, 3) := dk_153 0 15 (dk_at dksX3_addLimpet_2 0 rfl rfl)
theorem dX3_addLimpet_50 : decode cX3_addLimpet 50 = .ok (.aload_n 0, 1) := dk_42 (dk_at dksX3_addLimpet_2 3 rfl rfl)
theorem dX3_addLimpet_51 : decode cX3_addLimpet 51 = .ok (.getfield 7, 3) := dk_180 0 7 (dk_at dksX3_addLimpet_2 4 rfl rfl)
theorem dX3_addLimpet_54 : decode cX3_addLimpet 54 = .ok (.bipush 31, 2) := dk_16 31 (dk_at dksX3_addLimpet_2 7 rfl rfl)
theorem dX3_addLimpet_56 : decode cX3_addLimpet 56 = .ok (.iaload, 1) := dk_46 (dk_at dksX3_addLimpet_2 9 rfl rfl)
theorem dX3_addLimpet_57 : decode cX3_addLimpet 57 = .ok (.iconst 1, 1) := dk_4 (dk_at dksX3_addLimpet_2 10 rfl rfl)
theorem dX3_addLimpet_58 : decode cX3_addLimpet 58 = .ok (.isub, 1) := dk_100 (dk_at dksX3_addLimpet_2 11 rfl rfl)
theorem dX3_addLimpet_59 : decode cX3_addLimpet 59 = .ok (.goto 4, 3) := dk_167 0 4 (dk_at dksX3_addLimpet_2 12 rfl rfl)
theorem dX3_addLimpet_62 : decode cX3_addLimpet 62 = .ok (.iconst 0, 1) := dk_3 (dk_at dksX3_addLimpet_2 15 rfl rfl)
theorem dX3_addLimpet_63 : decode cX3_addLimpet 63 = .ok (.ireturn, 1) := dk_172 (dk_at dksX3_addLimpet_2 16 rfl rfl)
abbrev cX3_isPool : ByteArray := prog_11_method_5_code
def yX3_isPool : MethodName := ⟨RX3, "isPool", "(I)Z"⟩
def dkwX3_isPool_0 : List UInt8 := [26, 3, 16, 7, 184, 0, 26, 172]
abbrev dktX3_isPool_0 : List UInt8 := dkwX3_isPool_0 ++ []
theorem dksX3_isPool_0 : cX3_isPool.data.toList.drop 0 = dktX3_isPool_0 := by decide +kernel
theorem dX3_isPool_0 : decode cX3_isPool 0 = .ok (.iload_n 0, 1) := dk_26 (dk_at dksX3_isPool_0 0 rfl rfl)
theorem dX3_isPool_1 : decode cX3_isPool 1 = .ok (.iconst 0, 1) := dk_3 (dk_at dksX3_isPool_0 1 rfl rfl)
theorem dX3_isPool_2 : decode cX3_isPool 2 = .ok (.bipush 7, 2) := dk_16 7 (dk_at dksX3_isPool_0 2 rfl rfl)
theorem dX3_isPool_4 : decode cX3_isPool 4 = .ok (.invokestatic 26, 3) := dk_184 0 26 (dk_at dksX3_isPool_0 4 rfl rfl)
theorem dX3_isPool_7 : decode cX3_isPool 7 = .ok (.ireturn, 1) := dk_172 (dk_at dksX3_isPool_0 7 rfl rfl)
abbrev cX3_in : ByteArray := prog_11_method_4_code
def yX3_in : MethodName := ⟨RX3, "in", "(III)Z"⟩
def dkwX3_in_0 : List UInt8 := [26, 27, 161, 0, 12, 26, 28, 163, 0, 7, 4, 167, 0, 4, 3, 172]
abbrev dktX3_in_0 : List UInt8 := dkwX3_in_0 ++ []
theorem dksX3_in_0 : cX3_in.data.toList.drop 0 = dktX3_in_0 := by decide +kernel
theorem dX3_in_0 : decode cX3_in 0 = .ok (.iload_n 0, 1) := dk_26 (dk_at dksX3_in_0 0 rfl rfl)
theorem dX3_in_1 : decode cX3_in 1 = .ok (.iload_n 1, 1) := dk_27 (dk_at dksX3_in_0 1 rfl rfl)
theorem dX3_in_2 : decode cX3_in 2 = .ok (.if_icmp .lt 12, 3) := dk_161 0 12 (dk_at dksX3_in_0 2 rfl rfl)
theorem dX3_in_5 : decode cX3_in 5 = .ok (.iload_n 0, 1) := dk_26 (dk_at dksX3_in_0 5 rfl rfl)
theorem dX3_in_6 : decode cX3_in 6 = .ok (.iload_n 2, 1) := dk_28 (dk_at dksX3_in_0 6 rfl rfl)
theorem dX3_in_7 : decode cX3_in 7 = .ok (.if_icmp .gt 7, 3) := dk_163 0 7 (dk_at dksX3_in_0 7 rfl rfl)
theorem dX3_in_10 : decode cX3_in 10 = .ok (.iconst 1, 1) := dk_4 (dk_at dksX3_in_0 10 rfl rfl)
theorem dX3_in_11 : decode cX3_in 11 = .ok (.goto 4, 3) := dk_167 0 4 (dk_at dksX3_in_0 11 rfl rfl)
theorem dX3_in_14 : decode cX3_in 14 = .ok (.iconst 0, 1) := dk_3 (dk_at dksX3_in_0 14 rfl rfl)
theorem dX3_in_15 : decode cX3_in 15 = .ok (.ireturn, 1) := dk_172 (dk_at dksX3_in_0 15 rfl rfl)
abbrev cX3_throwsAt : ByteArray := prog_11_method_3_code
def yX3_throwsAt : MethodName := ⟨RX3, "throwsAt", "(I)Z"⟩
def dkwX3_throwsAt_0 : List UInt8 := [42, 27, 181, 0, 22, 27, 158, 0, 7, 4, 167, 0, 4, 3, 172]
abbrev dktX3_throwsAt_0 : List UInt8 := dkwX3_throwsAt_0 ++ []
theorem dksX3_throwsAt_0 : cX3_throwsAt.data.toList.drop 0 = dktX3_throwsAt_0 := by decide +kernel
theorem dX3_throwsAt_0 : decode cX3_throwsAt 0 = .ok (.aload_n 0, 1) := dk_42 (dk_at dksX3_throwsAt_0 0 rfl rfl)
theorem dX3_throwsAt_1 : decode cX3_throwsAt 1 = .ok (.iload_n 1, 1) := dk_27 (dk_at dksX3_throwsAt_0 1 rfl rfl)
theorem dX3_throwsAt_2 : decode cX3_throwsAt 2 = .ok (.putfield 22, 3) := dk_181 0 22 (dk_at dksX3_throwsAt_0 2 rfl rfl)
theorem dX3_throwsAt_5 : decode cX3_throwsAt 5 = .ok (.iload_n 1, 1) := dk_27 (dk_at dksX3_throwsAt_0 5 rfl rfl)
theorem dX3_throwsAt_6 : decode cX3_throwsAt 6 = .ok (.ifCond .le 7, 3) := dk_158 0 7 (dk_at dksX3_throwsAt_0 6 rfl rfl)
theorem dX3_throwsAt_9 : decode cX3_throwsAt 9 = .ok (.iconst 1, 1) := dk_4 (dk_at dksX3_throwsAt_0 9 rfl rfl)
theorem dX3_throwsAt_10 : decode cX3_throwsAt 10 = .ok (.goto 4, 3) := dk_167 0 4 (dk_at dksX3_throwsAt_0 10 rfl rfl)
theorem dX3_throwsAt_13 : decode cX3_throwsAt 13 = .ok (.iconst 0, 1) := dk_3 (dk_at dksX3_throwsAt_0 13 rfl rfl)
theorem dX3_throwsAt_14 : decode cX3_throwsAt 14 = .ok (.ireturn, 1) := dk_172 (dk_at dksX3_throwsAt_0 14 rfl rfl)
abbrev cX3_records : ByteArray := prog_11_method_12_code
def yX3_records : MethodName := ⟨RX3, "records", "()V"⟩
def dkwX3_records_4 : List UInt8 := [181, 0, 30, 177]
abbrev dktX3_records_4 : List UInt8 := dkwX3_records_4 ++ []
def dkwX3_records_3 : List UInt8 := [27, 96, 42, 180, 0, 7, 27, 46, 79, 132, 1, 1, 167, 255, 225, 42, 89, 180, 0, 30, 4, 96]
abbrev dktX3_records_3 : List UInt8 := dkwX3_records_3 ++ dktX3_records_4
def dkwX3_records_2 : List UInt8 := [181, 0, 30, 3, 60, 27, 17, 1, 31, 162, 0, 30, 42, 180, 0, 13, 17, 1, 31, 42, 180, 0, 30, 104]
abbrev dktX3_records_2 : List UInt8 := dkwX3_records_2 ++ dktX3_records_3
def dkwX3_records_1 : List UInt8 := [180, 0, 13, 17, 1, 31, 27, 96, 46, 79, 132, 1, 1, 167, 255, 230, 42, 89, 180, 0, 30, 4, 100]
abbrev dktX3_records_1 : List UInt8 := dkwX3_records_1 ++ dktX3_records_2
def dkwX3_records_0 : List UInt8 := [42, 180, 0, 30, 7, 160, 0, 44, 3, 60, 27, 17, 3, 93, 162, 0, 25, 42, 180, 0, 13, 27, 42]
abbrev dktX3_records_0 : List UInt8 := dkwX3_records_0 ++ dktX3_records_1
theorem dksX3_records_0 : cX3_records.data.toList.drop 0 = dktX3_records_0 := by decide +kernel
theorem dksX3_records_1 : cX3_records.data.toList.drop 23 = dktX3_records_1 := dk_seg dksX3_records_0 23 rfl rfl
theorem dksX3_records_2 : cX3_records.data.toList.drop 46 = dktX3_records_2 := dk_seg dksX3_records_1 23 rfl rfl
theorem dksX3_records_3 : cX3_records.data.toList.drop 70 = dktX3_records_3 := dk_seg dksX3_records_2 24 rfl rfl
theorem dksX3_records_4 : cX3_records.data.toList.drop 92 = dktX3_records_4 := dk_seg dksX3_records_3 22 rfl rfl
theorem dX3_records_0 : decode cX3_records 0 = .ok (.aload_n 0, 1) := dk_42 (dk_at dksX3_records_0 0 rfl rfl)
theorem dX3_records_1 : decode cX3_records 1 = .ok (.getfield 30, 3) := dk_180 0 30 (dk_at dksX3_records_0 1 rfl rfl)
theorem dX3_records_4 : decode cX3_records 4 = .ok (.iconst 4, 1) := dk_7 (dk_at dksX3_records_0 4 rfl rfl)
theorem dX3_records_5 : decode cX3_records 5 = .ok (.if_icmp .ne 44, 3) := dk_160 0 44 (dk_at dksX3_records_0 5 rfl rfl)
theorem dX3_records_8 : decode cX3_records 8 = .ok (.iconst 0, 1) := dk_3 (dk_at dksX3_records_0 8 rfl rfl)
theorem dX3_records_9 : decode cX3_records 9 = .ok (.istore_n 1, 1) := dk_60 (dk_at dksX3_records_0 9 rfl rfl)
theorem dX3_records_10 : decode cX3_records 10 = .ok (.iload_n 1, 1) := dk_27 (dk_at dksX3_records_0 10 rfl rfl)
theorem dX3_records_11 : decode cX3_records 11 = .ok (.sipush 861, 3) := dk_17 3 93 (dk_at dksX3_records_0 11 rfl rfl)
theorem dX3_records_14 : decode cX3_records 14 = .ok (.if_icmp .ge 25, 3) := dk_162 0 25 (dk_at dksX3_records_0 14 rfl rfl)
theorem dX3_records_17 : decode cX3_records 17 = .ok (.aload_n 0, 1) := dk_42 (dk_at dksX3_records_0 17 rfl rfl)
theorem dX3_records_18 : decode cX3_records 18 = .ok (.getfield 13, 3) := dk_180 0 13 (dk_at dksX3_records_0 18 rfl rfl)
theorem dX3_records_21 : decode cX3_records 21 = .ok (.iload_n 1, 1) := dk_27 (dk_at dksX3_records_0 21 rfl rfl)
theorem dX3_records_22 : decode cX3_records 22 = .ok (.aload_n 0, 1) := dk_42 (dk_at dksX3_records_0 22 rfl rfl)
theorem dX3_records_23 : decode cX3_records 23 = .ok (.getfield 13, 3) := dk_180 0 13 (dk_at dksX3_records_1 0 rfl rfl)
theorem dX3_records_26 : decode cX3_records 26 = .ok (.sipush 287, 3) := dk_17 1 31 (dk_at dksX3_records_1 3 rfl rfl)
theorem dX3_records_29 : decode cX3_records 29 = .ok (.iload_n 1, 1) := dk_27 (dk_at dksX3_records_1 6 rfl rfl)
theorem dX3_records_30 : decode cX3_records 30 = .ok (.iadd, 1) := dk_96 (dk_at dksX3_records_1 7 rfl rfl)
theorem dX3_records_31 : decode cX3_records 31 = .ok (.iaload, 1) := dk_46 (dk_at dksX3_records_1 8 rfl rfl)
theorem dX3_records_32 : decode cX3_records 32 = .ok (.iastore, 1) := dk_79 (dk_at dksX3_records_1 9 rfl rfl)
theorem dX3_records_33 : decode cX3_records 33 = .ok (.iinc 1 1, 3) := dk_132 1 1 (dk_at dksX3_records_1 10 rfl rfl)
theorem dX3_records_36 : decode cX3_records 36 = .ok (.goto (-26), 3) := dk_167 255 230 (dk_at dksX3_records_1 13 rfl rfl)
theorem dX3_records_39 : decode cX3_records 39 = .ok (.aload_n 0, 1) := dk_42 (dk_at dksX3_records_1 16 rfl rfl)
theorem dX3_records_40 : decode cX3_records 40 = .ok (.dup, 1) := dk_89 (dk_at dksX3_records_1 17 rfl rfl)
theorem dX3_records_41 : decode cX3_records 41 = .ok (.getfield 30, 3) := dk_180 0 30 (dk_at dksX3_records_1 18 rfl rfl)
theorem dX3_records_44 : decode cX3_records 44 = .ok (.iconst 1, 1) := dk_4 (dk_at dksX3_records_1 21 rfl rfl)
theorem dX3_records_45 : decode cX3_records 45 = .ok (.isub, 1) := dk_100 (dk_at dksX3_records_1 22 rfl rfl)
theorem dX3_records_46 : decode cX3_records 46 = .ok (.putfield 30, 3) := dk_181 0 30 (dk_at dksX3_records_2 0 rfl rfl)
theorem dX3_records_49 : decode cX3_records 49 = .ok (.iconst 0, 1) := dk_3 (dk_at dksX3_records_2 3 rfl rfl)
theorem dX3_records_50 : decode cX3_records 50 = .ok (.istore_n 1, 1) := dk_60 (dk_at dksX3_records_2 4 rfl rfl)
theorem dX3_records_51 : decode cX3_records 51 = .ok (.iload_n 1, 1) := dk_27 (dk_at dksX3_records_2 5 rfl rfl)
theorem dX3_records_52 : decode cX3_records 52 = .ok (.sipush 287, 3) := dk_17 1 31 (dk_at dksX3_records_2 6 rfl rfl)
theorem dX3_records_55 : decode cX3_records 55 = .ok (.if_icmp .ge 30, 3) := dk_162 0 30 (dk_at dksX3_records_2 9 rfl rfl)
theorem dX3_records_58 : decode cX3_records 58 = .ok (.aload_n 0, 1) := dk_42 (dk_at dksX3_records_2 12 rfl rfl)
theorem dX3_records_59 : decode cX3_records 59 = .ok (.getfield 13, 3) := dk_180 0 13 (dk_at dksX3_records_2 13 rfl rfl)
theorem dX3_records_62 : decode cX3_records 62 = .ok (.sipush 287, 3) := dk_17 1 31 (dk_at dksX3_records_2 16 rfl rfl)
theorem dX3_records_65 : decode cX3_records 65 = .ok (.aload_n 0, 1) := dk_42 (dk_at dksX3_records_2 19 rfl rfl)
theorem dX3_records_66 : decode cX3_records 66 = .ok (.getfield 30, 3) := dk_180 0 30 (dk_at dksX3_records_2 20 rfl rfl)
theorem dX3_records_69 : decode cX3_records 69 = .ok (.imul, 1) := dk_104 (dk_at dksX3_records_2 23 rfl rfl)
theorem dX3_records_70 : decode cX3_records 70 = .ok (.iload_n 1, 1) := dk_27 (dk_at dksX3_records_3 0 rfl rfl)
theorem dX3_records_71 : decode cX3_records 71 = .ok (.iadd, 1) := dk_96 (dk_at dksX3_records_3 1 rfl rfl)
theorem dX3_records_72 : decode cX3_records 72 = .ok (.aload_n 0, 1) := dk_42 (dk_at dksX3_records_3 2 rfl rfl)
theorem dX3_records_73 : decode cX3_records 73 = .ok (.getfield 7, 3) := dk_180 0 7 (dk_at dksX3_records_3 3 rfl rfl)
theorem dX3_records_76 : decode cX3_records 76 = .ok (.iload_n 1, 1) := dk_27 (dk_at dksX3_records_3 6 rfl rfl)
theorem dX3_records_77 : decode cX3_records 77 = .ok (.iaload, 1) := dk_46 (dk_at dksX3_records_3 7 rfl rfl)
theorem dX3_records_78 : decode cX3_records 78 = .ok (.iastore, 1) := dk_79 (dk_at dksX3_records_3 8 rfl rfl)
theorem dX3_records_79 : decode cX3_records 79 = .ok (.iinc 1 1, 3) := dk_132 1 1 (dk_at dksX3_records_3 9 rfl rfl)
theorem dX3_records_82 : decode cX3_records 82 = .ok (.goto (-31), 3) := dk_167 255 225 (dk_at dksX3_records_3 12 rfl rfl)
theorem dX3_records_85 : decode cX3_records 85 = .ok (.aload_n 0, 1) := dk_42 (dk_at dksX3_records_3 15 rfl rfl)
theorem dX3_records_86 : decode cX3_records 86 = .ok (.dup, 1) := dk_89 (dk_at dksX3_records_3 16 rfl rfl)
theorem dX3_records_87 : decode cX3_records 87 = .ok (.getfield 30, 3) := dk_180 0 30 (dk_at dksX3_records_3 17 rfl rfl)
theorem dX3_records_90 : decode cX3_records 90 = .ok (.iconst 1, 1) := dk_4 (dk_at dksX3_records_3 20 rfl rfl)
theorem dX3_records_91 : decode cX3_records 91 = .ok (.iadd, 1) := dk_96 (dk_at dksX3_records_3 21 rfl rfl)
theorem dX3_records_92 : decode cX3_records 92 = .ok (.putfield 30, 3) := dk_181 0 30 (dk_at dksX3_records_4 0 rfl rfl)
theorem dX3_records_95 : decode cX3_records 95 = .ok (.return_, 1) := dk_177 (dk_at dksX3_records_4 3 rfl rfl)
abbrev cX3_comesLimpet : ByteArray := prog_11_method_15_code
def yX3_comesLimpet : MethodName := ⟨RX3, "comesLimpet", "(II)Z"⟩
def dkwX3_comesLimpet_3 : List UInt8 := [96, 3, 79, 42, 180, 0, 7, 27, 16, 31, 96, 92, 46, 4, 96, 79, 4, 172]
abbrev dktX3_comesLimpet_3 : List UInt8 := dkwX3_comesLimpet_3 ++ []
def dkwX3_comesLimpet_2 : List UInt8 := [180, 0, 7, 29, 5, 96, 16, 10, 79, 42, 180, 0, 7, 29, 6, 96, 3, 79, 42, 180, 0, 7, 29, 7]
abbrev dktX3_comesLimpet_2 : List UInt8 := dkwX3_comesLimpet_2 ++ dktX3_comesLimpet_3
def dkwX3_comesLimpet_1 : List UInt8 := [96, 46, 184, 0, 36, 62, 42, 180, 0, 7, 29, 28, 79, 42, 180, 0, 7, 29, 4, 96, 16, 12, 79, 42]
abbrev dktX3_comesLimpet_1 : List UInt8 := dkwX3_comesLimpet_1 ++ dktX3_comesLimpet_2
def dkwX3_comesLimpet_0 : List UInt8 := [42, 180, 0, 7, 27, 16, 31, 96, 46, 16, 20, 160, 0, 5, 3, 172, 27, 42, 180, 0, 7, 27, 16, 31]
abbrev dktX3_comesLimpet_0 : List UInt8 := dkwX3_comesLimpet_0 ++ dktX3_comesLimpet_1
theorem dksX3_comesLimpet_0 : cX3_comesLimpet.data.toList.drop 0 = dktX3_comesLimpet_0 := by decide +kernel
theorem dksX3_comesLimpet_1 : cX3_comesLimpet.data.toList.drop 24 = dktX3_comesLimpet_1 := dk_seg dksX3_comesLimpet_0 24 rfl rfl
theorem dksX3_comesLimpet_2 : cX3_comesLimpet.data.toList.drop 48 = dktX3_comesLimpet_2 := dk_seg dksX3_comesLimpet_1 24 rfl rfl
theorem dksX3_comesLimpet_3 : cX3_comesLimpet.data.toList.drop 72 = dktX3_comesLimpet_3 := dk_seg dksX3_comesLimpet_2 24 rfl rfl
theorem dX3_comesLimpet_0 : decode cX3_comesLimpet 0 = .ok (.aload_n 0, 1) := dk_42 (dk_at dksX3_comesLimpet_0 0 rfl rfl)
theorem dX3_comesLimpet_1 : decode cX3_comesLimpet 1 = .ok (.getfield 7, 3) := dk_180 0 7 (dk_at dksX3_comesLimpet_0 1 rfl rfl)
theorem dX3_comesLimpet_4 : decode cX3_comesLimpet 4 = .ok (.iload_n 1, 1) := dk_27 (dk_at dksX3_comesLimpet_0 4 rfl rfl)
theorem dX3_comesLimpet_5 : decode cX3_comesLimpet 5 = .ok (.bipush 31, 2) := dk_16 31 (dk_at dksX3_comesLimpet_0 5 rfl rfl)
theorem dX3_comesLimpet_7 : decode cX3_comesLimpet 7 = .ok (.iadd, 1) := dk_96 (dk_at dksX3_comesLimpet_0 7 rfl rfl)
theorem dX3_comesLimpet_8 : decode cX3_comesLimpet 8 = .ok (.iaload, 1) := dk_46 (dk_at dksX3_comesLimpet_0 8 rfl rfl)
theorem dX3_comesLimpet_9 : decode cX3_comesLimpet 9 = .ok (.bipush 20, 2) := dk_16 20 (dk_at dksX3_comesLimpet_0 9 rfl rfl)
theorem dX3_comesLimpet_11 : decode cX3_comesLimpet 11 = .ok (.if_icmp .ne 5, 3) := dk_160 0 5 (dk_at dksX3_comesLimpet_0 11 rfl rfl)
theorem dX3_comesLimpet_14 : decode cX3_comesLimpet 14 = .ok (.iconst 0, 1) := dk_3 (dk_at dksX3_comesLimpet_0 14 rfl rfl)
theorem dX3_comesLimpet_15 : decode cX3_comesLimpet 15 = .ok (.ireturn, 1) := dk_172 (dk_at dksX3_comesLimpet_0 15 rfl rfl)
theorem dX3_comesLimpet_16 : decode cX3_comesLimpet 16 = .ok (.iload_n 1, 1) := dk_27 (dk_at dksX3_comesLimpet_0 16 rfl rfl)
theorem dX3_comesLimpet_17 : decode cX3_comesLimpet 17 = .ok (.aload_n 0, 1) := dk_42 (dk_at dksX3_comesLimpet_0 17 rfl rfl)
theorem dX3_comesLimpet_18 : decode cX3_comesLimpet 18 = .ok (.getfield 7, 3) := dk_180 0 7 (dk_at dksX3_comesLimpet_0 18 rfl rfl)
theorem dX3_comesLimpet_21 : decode cX3_comesLimpet 21 = .ok (.iload_n 1, 1) := dk_27 (dk_at dksX3_comesLimpet_0 21 rfl rfl)
theorem dX3_comesLimpet_22 : decode cX3_comesLimpet 22 = .ok (.bipush 31, 2) := dk_16 31 (dk_at dksX3_comesLimpet_0 22 rfl rfl)
theorem dX3_comesLimpet_24 : decode cX3_comesLimpet 24 = .ok (.iadd, 1) := dk_96 (dk_at dksX3_comesLimpet_1 0 rfl rfl)
theorem dX3_comesLimpet_25 : decode cX3_comesLimpet 25 = .ok (.iaload, 1) := dk_46 (dk_at dksX3_comesLimpet_1 1 rfl rfl)
theorem dX3_comesLimpet_26 : decode cX3_comesLimpet 26 = .ok (.invokestatic 36, 3) := dk_184 0 36 (dk_at dksX3_comesLimpet_1 2 rfl rfl)
theorem dX3_comesLimpet_29 : decode cX3_comesLimpet 29 = .ok (.istore_n 3, 1) := dk_62 (dk_at dksX3_comesLimpet_1 5 rfl rfl)
theorem dX3_comesLimpet_30 : decode cX3_comesLimpet 30 = .ok (.aload_n 0, 1) := dk_42 (dk_at dksX3_comesLimpet_1 6 rfl rfl)
theorem dX3_comesLimpet_31 : decode cX3_comesLimpet 31 = .ok (.getfield 7, 3) := dk_180 0 7 (dk_at dksX3_comesLimpet_1 7 rfl rfl)
theorem dX3_comesLimpet_34 : decode cX3_comesLimpet 34 = .ok (.iload_n 3, 1) := dk_29 (dk_at dksX3_comesLimpet_1 10 rfl rfl)
theorem dX3_comesLimpet_35 : decode cX3_comesLimpet 35 = .ok (.iload_n 2, 1) := dk_28 (dk_at dksX3_comesLimpet_1 11 rfl rfl)
theorem dX3_comesLimpet_36 : decode cX3_comesLimpet 36 = .ok (.iastore, 1) := dk_79 (dk_at dksX3_comesLimpet_1 12 rfl rfl)
theorem dX3_comesLimpet_37 : decode cX3_comesLimpet 37 = .ok (.aload_n 0, 1) := dk_42 (dk_at dksX3_comesLimpet_1 13 rfl rfl)
theorem dX3_comesLimpet_38 : decode cX3_comesLimpet 38 = .ok (.getfield 7, 3) := dk_180 0 7 (dk_at dksX3_comesLimpet_1 14 rfl rfl)
theorem dX3_comesLimpet_41 : decode cX3_comesLimpet 41 = .ok (.iload_n 3, 1) := dk_29 (dk_at dksX3_comesLimpet_1 17 rfl rfl)
theorem dX3_comesLimpet_42 : decode cX3_comesLimpet 42 = .ok (.iconst 1, 1) := dk_4 (dk_at dksX3_comesLimpet_1 18 rfl rfl)
theorem dX3_comesLimpet_43 : decode cX3_comesLimpet 43 = .ok (.iadd, 1) := dk_96 (dk_at dksX3_comesLimpet_1 19 rfl rfl)
theorem dX3_comesLimpet_44 : decode cX3_comesLimpet 44 = .ok (.bipush 12, 2) := dk_16 12 (dk_at dksX3_comesLimpet_1 20 rfl rfl)
theorem dX3_comesLimpet_46 : decode cX3_comesLimpet 46 = .ok (.iastore, 1) := dk_79 (dk_at dksX3_comesLimpet_1 22 rfl rfl)
theorem dX3_comesLimpet_47 : decode cX3_comesLimpet 47 = .ok (.aload_n 0, 1) := dk_42 (dk_at dksX3_comesLimpet_1 23 rfl rfl)
theorem dX3_comesLimpet_48 : decode cX3_comesLimpet 48 = .ok (.getfield 7, 3) := dk_180 0 7 (dk_at dksX3_comesLimpet_2 0 rfl rfl)
theorem dX3_comesLimpet_51 : decode cX3_comesLimpet 51 = .ok (.iload_n 3, 1) := dk_29 (dk_at dksX3_comesLimpet_2 3 rfl rfl)
theorem dX3_comesLimpet_52 : decode cX3_comesLimpet 52 = .ok (.iconst 2, 1) := dk_5 (dk_at dksX3_comesLimpet_2 4 rfl rfl)
theorem dX3_comesLimpet_53 : decode cX3_comesLimpet 53 = .ok (.iadd, 1) := dk_96 (dk_at dksX3_comesLimpet_2 5 rfl rfl)
theorem dX3_comesLimpet_54 : decode cX3_comesLimpet 54 = .ok (.bipush 10, 2) := dk_16 10 (dk_at dksX3_comesLimpet_2 6 rfl rfl)
theorem dX3_comesLimpet_56 : decode cX3_comesLimpet 56 = .ok (.iastore, 1) := dk_79 (dk_at dksX3_comesLimpet_2 8 rfl rfl)
theorem dX3_comesLimpet_57 : decode cX3_comesLimpet 57 = .ok (.aload_n 0, 1) := dk_42 (dk_at dksX3_comesLimpet_2 9 rfl rfl)
theorem dX3_comesLimpet_58 : decode cX3_comesLimpet 58 = .ok (.getfield 7, 3) := dk_180 0 7 (dk_at dksX3_comesLimpet_2 10 rfl rfl)
theorem dX3_comesLimpet_61 : decode cX3_comesLimpet 61 = .ok (.iload_n 3, 1) := dk_29 (dk_at dksX3_comesLimpet_2 13 rfl rfl)
theorem dX3_comesLimpet_62 : decode cX3_comesLimpet 62 = .ok (.iconst 3, 1) := dk_6 (dk_at dksX3_comesLimpet_2 14 rfl rfl)
theorem dX3_comesLimpet_63 : decode cX3_comesLimpet 63 = .ok (.iadd, 1) := dk_96 (dk_at dksX3_comesLimpet_2 15 rfl rfl)
theorem dX3_comesLimpet_64 : decode cX3_comesLimpet 64 = .ok (.iconst 0, 1) := dk_3 (dk_at dksX3_comesLimpet_2 16 rfl rfl)
theorem dX3_comesLimpet_65 : decode cX3_comesLimpet 65 = .ok (.iastore, 1) := dk_79 (dk_at dksX3_comesLimpet_2 17 rfl rfl)
theorem dX3_comesLimpet_66 : decode cX3_comesLimpet 66 = .ok (.aload_n 0, 1) := dk_42 (dk_at dksX3_comesLimpet_2 18 rfl rfl)
theorem dX3_comesLimpet_67 : decode cX3_comesLimpet 67 = .ok (.getfield 7, 3) := dk_180 0 7 (dk_at dksX3_comesLimpet_2 19 rfl rfl)
theorem dX3_comesLimpet_70 : decode cX3_comesLimpet 70 = .ok (.iload_n 3, 1) := dk_29 (dk_at dksX3_comesLimpet_2 22 rfl rfl)
theorem dX3_comesLimpet_71 : decode cX3_comesLimpet 71 = .ok (.iconst 4, 1) := dk_7 (dk_at dksX3_comesLimpet_2 23 rfl rfl)
theorem dX3_comesLimpet_72 : decode cX3_comesLimpet 72 = .ok (.iadd, 1) := dk_96 (dk_at dksX3_comesLimpet_3 0 rfl rfl)
theorem dX3_comesLimpet_73 : decode cX3_comesLimpet 73 = .ok (.iconst 0, 1) := dk_3 (dk_at dksX3_comesLimpet_3 1 rfl rfl)
theorem dX3_comesLimpet_74 : decode cX3_comesLimpet 74 = .ok (.iastore, 1) := dk_79 (dk_at dksX3_comesLimpet_3 2 rfl rfl)
theorem dX3_comesLimpet_75 : decode cX3_comesLimpet 75 = .ok (.aload_n 0, 1) := dk_42 (dk_at dksX3_comesLimpet_3 3 rfl rfl)
theorem dX3_comesLimpet_76 : decode cX3_comesLimpet 76 = .ok (.getfield 7, 3) := dk_180 0 7 (dk_at dksX3_comesLimpet_3 4 rfl rfl)
theorem dX3_comesLimpet_79 : decode cX3_comesLimpet 79 = .ok (.iload_n 1, 1) := dk_27 (dk_at dksX3_comesLimpet_3 7 rfl rfl)
theorem dX3_comesLimpet_80 : decode cX3_comesLimpet 80 = .ok (.bipush 31, 2) := dk_16 31 (dk_at dksX3_comesLimpet_3 8 rfl rfl)
theorem dX3_comesLimpet_82 : decode cX3_comesLimpet 82 = .ok (.iadd, 1) := dk_96 (dk_at dksX3_comesLimpet_3 10 rfl rfl)
theorem dX3_comesLimpet_83 : decode cX3_comesLimpet 83 = .ok (.dup2, 1) := dk_92 (dk_at dksX3_comesLimpet_3 11 rfl rfl)
theorem dX3_comesLimpet_84 : decode cX3_comesLimpet 84 = .ok (.iaload, 1) := dk_46 (dk_at dksX3_comesLimpet_3 12 rfl rfl)
theorem dX3_comesLimpet_85 : decode cX3_comesLimpet 85 = .ok (.iconst 1, 1) := dk_4 (dk_at dksX3_comesLimpet_3 13 rfl rfl)
theorem dX3_comesLimpet_86 : decode cX3_comesLimpet 86 = .ok (.iadd, 1) := dk_96 (dk_at dksX3_comesLimpet_3 14 rfl rfl)
theorem dX3_comesLimpet_87 : decode cX3_comesLimpet 87 = .ok (.iastore, 1) := dk_79 (dk_at dksX3_comesLimpet_3 15 rfl rfl)
theorem dX3_comesLimpet_88 : decode cX3_comesLimpet 88 = .ok (.iconst 1, 1) := dk_4 (dk_at dksX3_comesLimpet_3 16 rfl rfl)
theorem dX3_comesLimpet_89 : decode cX3_comesLimpet 89 = .ok (.ireturn, 1) := dk_172 (dk_at dksX3_comesLimpet_3 17 rfl rfl)
abbrev cX3_limpet : ByteArray := prog_11_method_9_code
def yX3_limpet : MethodName := ⟨RX3, "limpet", "(II)I"⟩
def dkwX3_limpet_0 : List UInt8 := [26, 16, 32, 96, 8, 27, 104, 96, 172]
abbrev dktX3_limpet_0 : List UInt8 := dkwX3_limpet_0 ++ []
theorem dksX3_limpet_0 : cX3_limpet.data.toList.drop 0 = dktX3_limpet_0 := by decide +kernel
theorem dX3_limpet_0 : decode cX3_limpet 0 = .ok (.iload_n 0, 1) := dk_26 (dk_at dksX3_limpet_0 0 rfl rfl)
theorem dX3_limpet_1 : decode cX3_limpet 1 = .ok (.bipush 32, 2) := dk_16 32 (dk_at dksX3_limpet_0 1 rfl rfl)
theorem dX3_limpet_3 : decode cX3_limpet 3 = .ok (.iadd, 1) := dk_96 (dk_at dksX3_limpet_0 3 rfl rfl)
theorem dX3_limpet_4 : decode cX3_limpet 4 = .ok (.iconst 5, 1) := dk_8 (dk_at dksX3_limpet_0 4 rfl rfl)
theorem dX3_limpet_5 : decode cX3_limpet 5 = .ok (.iload_n 1, 1) := dk_27 (dk_at dksX3_limpet_0 5 rfl rfl)
theorem dX3_limpet_6 : decode cX3_limpet 6 = .ok (.imul, 1) := dk_104 (dk_at dksX3_limpet_0 6 rfl rfl)
theorem dX3_limpet_7 : decode cX3_limpet 7 = .ok (.iadd, 1) := dk_96 (dk_at dksX3_limpet_0 7 rfl rfl)
theorem dX3_limpet_8 : decode cX3_limpet 8 = .ok (.ireturn, 1) := dk_172 (dk_at dksX3_limpet_0 8 rfl rfl)
abbrev cX3_addCrab : ByteArray := prog_11_method_20_code
def yX3_addCrab : MethodName := ⟨RX3, "addCrab", "(II)I"⟩
def dkwX3_addCrab_3 : List UInt8 := [17, 0, 211, 46, 4, 100, 167, 0, 4, 3, 172]
abbrev dktX3_addCrab_3 : List UInt8 := dkwX3_addCrab_3 ++ []
def dkwX3_addCrab_2 : List UInt8 := [153, 0, 5, 3, 172, 42, 182, 0, 33, 42, 3, 27, 28, 182, 0, 61, 153, 0, 16, 42, 180, 0, 7]
abbrev dktX3_addCrab_2 : List UInt8 := dkwX3_addCrab_2 ++ dktX3_addCrab_3
def dkwX3_addCrab_1 : List UInt8 := [167, 0, 21, 42, 180, 0, 7, 17, 0, 211, 46, 16, 15, 160, 0, 7, 6, 167, 0, 4, 3, 182, 0, 54]
abbrev dktX3_addCrab_1 : List UInt8 := dkwX3_addCrab_1 ++ dktX3_addCrab_2
def dkwX3_addCrab_0 : List UInt8 := [42, 27, 184, 0, 50, 154, 0, 7, 4, 167, 0, 35, 28, 4, 16, 20, 184, 0, 26, 154, 0, 7, 5]
abbrev dktX3_addCrab_0 : List UInt8 := dkwX3_addCrab_0 ++ dktX3_addCrab_1
theorem dksX3_addCrab_0 : cX3_addCrab.data.toList.drop 0 = dktX3_addCrab_0 := by decide +kernel
theorem dksX3_addCrab_1 : cX3_addCrab.data.toList.drop 23 = dktX3_addCrab_1 := dk_seg dksX3_addCrab_0 23 rfl rfl
theorem dksX3_addCrab_2 : cX3_addCrab.data.toList.drop 47 = dktX3_addCrab_2 := dk_seg dksX3_addCrab_1 24 rfl rfl
theorem dksX3_addCrab_3 : cX3_addCrab.data.toList.drop 70 = dktX3_addCrab_3 := dk_seg dksX3_addCrab_2 23 rfl rfl
theorem dX3_addCrab_0 : decode cX3_addCrab 0 = .ok (.aload_n 0, 1) := dk_42 (dk_at dksX3_addCrab_0 0 rfl rfl)
theorem dX3_addCrab_1 : decode cX3_addCrab 1 = .ok (.iload_n 1, 1) := dk_27 (dk_at dksX3_addCrab_0 1 rfl rfl)
theorem dX3_addCrab_2 : decode cX3_addCrab 2 = .ok (.invokestatic 50, 3) := dk_184 0 50 (dk_at dksX3_addCrab_0 2 rfl rfl)
theorem dX3_addCrab_5 : decode cX3_addCrab 5 = .ok (.ifCond .ne 7, 3) := dk_154 0 7 (dk_at dksX3_addCrab_0 5 rfl rfl)
theorem dX3_addCrab_8 : decode cX3_addCrab 8 = .ok (.iconst 1, 1) := dk_4 (dk_at dksX3_addCrab_0 8 rfl rfl)
theorem dX3_addCrab_9 : decode cX3_addCrab 9 = .ok (.goto 35, 3) := dk_167 0 35 (dk_at dksX3_addCrab_0 9 rfl rfl)
theorem dX3_addCrab_12 : decode cX3_addCrab 12 = .ok (.iload_n 2, 1) := dk_28 (dk_at dksX3_addCrab_0 12 rfl rfl)
theorem dX3_addCrab_13 : decode cX3_addCrab 13 = .ok (.iconst 1, 1) := dk_4 (dk_at dksX3_addCrab_0 13 rfl rfl)
theorem dX3_addCrab_14 : decode cX3_addCrab 14 = .ok (.bipush 20, 2) := dk_16 20 (dk_at dksX3_addCrab_0 14 rfl rfl)
theorem dX3_addCrab_16 : decode cX3_addCrab 16 = .ok (.invokestatic 26, 3) := dk_184 0 26 (dk_at dksX3_addCrab_0 16 rfl rfl)
theorem dX3_addCrab_19 : decode cX3_addCrab 19 = .ok (.ifCond .ne 7, 3) := dk_154 0 7 (dk_at dksX3_addCrab_0 19 rfl rfl)
theorem dX3_addCrab_22 : decode cX3_addCrab 22 = .ok (.iconst 2, 1) := dk_5 (dk_at dksX3_addCrab_0 22 rfl rfl)
theorem dX3_addCrab_23 : decode cX3_addCrab 23 = .ok (.goto 21, 3) := dk_167 0 21 (dk_at dksX3_addCrab_1 0 rfl rfl)
theorem dX3_addCrab_26 : decode cX3_addCrab 26 = .ok (.aload_n 0, 1) := dk_42 (dk_at dksX3_addCrab_1 3 rfl rfl)
theorem dX3_addCrab_27 : decode cX3_addCrab 27 = .ok (.getfield 7, 3) := dk_180 0 7 (dk_at dksX3_addCrab_1 4 rfl rfl)
theorem dX3_addCrab_30 : decode cX3_addCrab 30 = .ok (.sipush 211, 3) := dk_17 0 211 (dk_at dksX3_addCrab_1 7 rfl rfl)
theorem dX3_addCrab_33 : decode cX3_addCrab 33 = .ok (.iaload, 1) := dk_46 (dk_at dksX3_addCrab_1 10 rfl rfl)
theorem dX3_addCrab_34 : decode cX3_addCrab 34 = .ok (.bipush 15, 2) := dk_16 15 (dk_at dksX3_addCrab_1 11 rfl rfl)
theorem dX3_addCrab_36 : decode cX3_addCrab 36 = .ok (.if_icmp .ne 7, 3) := dk_160 0 7 (dk_at dksX3_addCrab_1 13 rfl rfl)
theorem dX3_addCrab_39 : decode cX3_addCrab 39 = .ok (.iconst 3, 1) := dk_6 (dk_at dksX3_addCrab_1 16 rfl rfl)
theorem dX3_addCrab_40 : decode cX3_addCrab 40 = .ok (.goto 4, 3) := dk_167 0 4 (dk_at dksX3_addCrab_1 17 rfl rfl)
theorem dX3_addCrab_43 : decode cX3_addCrab 43 = .ok (.iconst 0, 1) := dk_3 (dk_at dksX3_addCrab_1 20 rfl rfl)
theorem dX3_addCrab_44 : decode cX3_addCrab 44 = .ok (.invokevirtual 54, 3) := dk_182 0 54 (dk_at dksX3_addCrab_1 21 rfl rfl)
theorem dX3_addCrab_47 : decode cX3_addCrab 47 = .ok (.ifCond .eq 5, 3) := dk_153 0 5 (dk_at dksX3_addCrab_2 0 rfl rfl)
theorem dX3_addCrab_50 : decode cX3_addCrab 50 = .ok (.iconst 0, 1) := dk_3 (dk_at dksX3_addCrab_2 3 rfl rfl)
theorem dX3_addCrab_51 : decode cX3_addCrab 51 = .ok (.ireturn, 1) := dk_172 (dk_at dksX3_addCrab_2 4 rfl rfl)
theorem dX3_addCrab_52 : decode cX3_addCrab 52 = .ok (.aload_n 0, 1) := dk_42 (dk_at dksX3_addCrab_2 5 rfl rfl)
theorem dX3_addCrab_53 : decode cX3_addCrab 53 = .ok (.invokevirtual 33, 3) := dk_182 0 33 (dk_at dksX3_addCrab_2 6 rfl rfl)
theorem dX3_addCrab_56 : decode cX3_addCrab 56 = .ok (.aload_n 0, 1) := dk_42 (dk_at dksX3_addCrab_2 9 rfl rfl)
theorem dX3_addCrab_57 : decode cX3_addCrab 57 = .ok (.iconst 0, 1) := dk_3 (dk_at dksX3_addCrab_2 10 rfl rfl)
theorem dX3_addCrab_58 : decode cX3_addCrab 58 = .ok (.iload_n 1, 1) := dk_27 (dk_at dksX3_addCrab_2 11 rfl rfl)
theorem dX3_addCrab_59 : decode cX3_addCrab 59 = .ok (.iload_n 2, 1) := dk_28 (dk_at dksX3_addCrab_2 12 rfl rfl)
theorem dX3_addCrab_60 : decode cX3_addCrab 60 = .ok (.invokevirtual 61, 3) := dk_182 0 61 (dk_at dksX3_addCrab_2 13 rfl rfl)
theorem dX3_addCrab_63 : decode cX3_addCrab 63 = .ok (.ifCond .eq 16, 3) := dk_153 0 16 (dk_at dksX3_addCrab_2 16 rfl rfl)
theorem dX3_addCrab_66 : decode cX3_addCrab 66 = .ok (.aload_n 0, 1) := dk_42 (dk_at dksX3_addCrab_2 19 rfl rfl)
theorem dX3_addCrab_67 : decode cX3_addCrab 67 = .ok (.getfield 7, 3) := dk_180 0 7 (dk_at dksX3_addCrab_2 20 rfl rfl)
theorem dX3_addCrab_70 : decode cX3_addCrab 70 = .ok (.sipush 211, 3) := dk_17 0 211 (dk_at dksX3_addCrab_3 0 rfl rfl)
theorem dX3_addCrab_73 : decode cX3_addCrab 73 = .ok (.iaload, 1) := dk_46 (dk_at dksX3_addCrab_3 3 rfl rfl)
theorem dX3_addCrab_74 : decode cX3_addCrab 74 = .ok (.iconst 1, 1) := dk_4 (dk_at dksX3_addCrab_3 4 rfl rfl)
theorem dX3_addCrab_75 : decode cX3_addCrab 75 = .ok (.isub, 1) := dk_100 (dk_at dksX3_addCrab_3 5 rfl rfl)
theorem dX3_addCrab_76 : decode cX3_addCrab 76 = .ok (.goto 4, 3) := dk_167 0 4 (dk_at dksX3_addCrab_3 6 rfl rfl)
theorem dX3_addCrab_79 : decode cX3_addCrab 79 = .ok (.iconst 0, 1) := dk_3 (dk_at dksX3_addCrab_3 9 rfl rfl)
theorem dX3_addCrab_80 : decode cX3_addCrab 80 = .ok (.ireturn, 1) := dk_172 (dk_at dksX3_addCrab_3 10 rfl rfl)
abbrev cX3_comesCrab : ByteArray := prog_11_method_16_code
def yX3_comesCrab : MethodName := ⟨RX3, "comesCrab", "(III)Z"⟩
def dkwX3_comesCrab_4 : List UInt8 := [4, 172]
abbrev dktX3_comesCrab_4 : List UInt8 := dkwX3_comesCrab_4 ++ []
def dkwX3_comesCrab_3 : List UInt8 := [42, 180, 0, 7, 21, 4, 7, 96, 3, 79, 42, 180, 0, 7, 27, 17, 0, 211, 96, 92, 46, 4, 96, 79]
abbrev dktX3_comesCrab_3 : List UInt8 := dkwX3_comesCrab_3 ++ dktX3_comesCrab_4
def dkwX3_comesCrab_2 : List UInt8 := [4, 96, 28, 79, 42, 180, 0, 7, 21, 4, 5, 96, 2, 79, 42, 180, 0, 7, 21, 4, 6, 96, 3, 79]
abbrev dktX3_comesCrab_2 : List UInt8 := dkwX3_comesCrab_2 ++ dktX3_comesCrab_3
def dkwX3_comesCrab_1 : List UInt8 := [17, 0, 211, 96, 46, 184, 0, 40, 54, 4, 42, 180, 0, 7, 21, 4, 29, 79, 42, 180, 0, 7, 21, 4]
abbrev dktX3_comesCrab_1 : List UInt8 := dkwX3_comesCrab_1 ++ dktX3_comesCrab_2
def dkwX3_comesCrab_0 : List UInt8 := [42, 180, 0, 7, 27, 17, 0, 211, 96, 46, 16, 15, 160, 0, 5, 3, 172, 27, 42, 180, 0, 7, 27]
abbrev dktX3_comesCrab_0 : List UInt8 := dkwX3_comesCrab_0 ++ dktX3_comesCrab_1
theorem dksX3_comesCrab_0 : cX3_comesCrab.data.toList.drop 0 = dktX3_comesCrab_0 := by decide +kernel
theorem dksX3_comesCrab_1 : cX3_comesCrab.data.toList.drop 23 = dktX3_comesCrab_1 := dk_seg dksX3_comesCrab_0 23 rfl rfl
theorem dksX3_comesCrab_2 : cX3_comesCrab.data.toList.drop 47 = dktX3_comesCrab_2 := dk_seg dksX3_comesCrab_1 24 rfl rfl
theorem dksX3_comesCrab_3 : cX3_comesCrab.data.toList.drop 71 = dktX3_comesCrab_3 := dk_seg dksX3_comesCrab_2 24 rfl rfl
theorem dksX3_comesCrab_4 : cX3_comesCrab.data.toList.drop 95 = dktX3_comesCrab_4 := dk_seg dksX3_comesCrab_3 24 rfl rfl
theorem dX3_comesCrab_0 : decode cX3_comesCrab 0 = .ok (.aload_n 0, 1) := dk_42 (dk_at dksX3_comesCrab_0 0 rfl rfl)
theorem dX3_comesCrab_1 : decode cX3_comesCrab 1 = .ok (.getfield 7, 3) := dk_180 0 7 (dk_at dksX3_comesCrab_0 1 rfl rfl)
theorem dX3_comesCrab_4 : decode cX3_comesCrab 4 = .ok (.iload_n 1, 1) := dk_27 (dk_at dksX3_comesCrab_0 4 rfl rfl)
theorem dX3_comesCrab_5 : decode cX3_comesCrab 5 = .ok (.sipush 211, 3) := dk_17 0 211 (dk_at dksX3_comesCrab_0 5 rfl rfl)
theorem dX3_comesCrab_8 : decode cX3_comesCrab 8 = .ok (.iadd, 1) := dk_96 (dk_at dksX3_comesCrab_0 8 rfl rfl)
theorem dX3_comesCrab_9 : decode cX3_comesCrab 9 = .ok (.iaload, 1) := dk_46 (dk_at dksX3_comesCrab_0 9 rfl rfl)
theorem dX3_comesCrab_10 : decode cX3_comesCrab 10 = .ok (.bipush 15, 2) := dk_16 15 (dk_at dksX3_comesCrab_0 10 rfl rfl)
theorem dX3_comesCrab_12 : decode cX3_comesCrab 12 = .ok (.if_icmp .ne 5, 3) := dk_160 0 5 (dk_at dksX3_comesCrab_0 12 rfl rfl)
theorem dX3_comesCrab_15 : decode cX3_comesCrab 15 = .ok (.iconst 0, 1) := dk_3 (dk_at dksX3_comesCrab_0 15 rfl rfl)
theorem dX3_comesCrab_16 : decode cX3_comesCrab 16 = .ok (.ireturn, 1) := dk_172 (dk_at dksX3_comesCrab_0 16 rfl rfl)
theorem dX3_comesCrab_17 : decode cX3_comesCrab 17 = .ok (.iload_n 1, 1) := dk_27 (dk_at dksX3_comesCrab_0 17 rfl rfl)
theorem dX3_comesCrab_18 : decode cX3_comesCrab 18 = .ok (.aload_n 0, 1) := dk_42 (dk_at dksX3_comesCrab_0 18 rfl rfl)
theorem dX3_comesCrab_19 : decode cX3_comesCrab 19 = .ok (.getfield 7, 3) := dk_180 0 7 (dk_at dksX3_comesCrab_0 19 rfl rfl)
theorem dX3_comesCrab_22 : decode cX3_comesCrab 22 = .ok (.iload_n 1, 1) := dk_27 (dk_at dksX3_comesCrab_0 22 rfl rfl)
theorem dX3_comesCrab_23 : decode cX3_comesCrab 23 = .ok (.sipush 211, 3) := dk_17 0 211 (dk_at dksX3_comesCrab_1 0 rfl rfl)
theorem dX3_comesCrab_26 : decode cX3_comesCrab 26 = .ok (.iadd, 1) := dk_96 (dk_at dksX3_comesCrab_1 3 rfl rfl)
theorem dX3_comesCrab_27 : decode cX3_comesCrab 27 = .ok (.iaload, 1) := dk_46 (dk_at dksX3_comesCrab_1 4 rfl rfl)
theorem dX3_comesCrab_28 : decode cX3_comesCrab 28 = .ok (.invokestatic 40, 3) := dk_184 0 40 (dk_at dksX3_comesCrab_1 5 rfl rfl)
theorem dX3_comesCrab_31 : decode cX3_comesCrab 31 = .ok (.istore 4, 2) := dk_54 4 (dk_at dksX3_comesCrab_1 8 rfl rfl)
theorem dX3_comesCrab_33 : decode cX3_comesCrab 33 = .ok (.aload_n 0, 1) := dk_42 (dk_at dksX3_comesCrab_1 10 rfl rfl)
theorem dX3_comesCrab_34 : decode cX3_comesCrab 34 = .ok (.getfield 7, 3) := dk_180 0 7 (dk_at dksX3_comesCrab_1 11 rfl rfl)
theorem dX3_comesCrab_37 : decode cX3_comesCrab 37 = .ok (.iload 4, 2) := dk_21 4 (dk_at dksX3_comesCrab_1 14 rfl rfl)
theorem dX3_comesCrab_39 : decode cX3_comesCrab 39 = .ok (.iload_n 3, 1) := dk_29 (dk_at dksX3_comesCrab_1 16 rfl rfl)
theorem dX3_comesCrab_40 : decode cX3_comesCrab 40 = .ok (.iastore, 1) := dk_79 (dk_at dksX3_comesCrab_1 17 rfl rfl)
theorem dX3_comesCrab_41 : decode cX3_comesCrab 41 = .ok (.aload_n 0, 1) := dk_42 (dk_at dksX3_comesCrab_1 18 rfl rfl)
theorem dX3_comesCrab_42 : decode cX3_comesCrab 42 = .ok (.getfield 7, 3) := dk_180 0 7 (dk_at dksX3_comesCrab_1 19 rfl rfl)
theorem dX3_comesCrab_45 : decode cX3_comesCrab 45 = .ok (.iload 4, 2) := dk_21 4 (dk_at dksX3_comesCrab_1 22 rfl rfl)
theorem dX3_comesCrab_47 : decode cX3_comesCrab 47 = .ok (.iconst 1, 1) := dk_4 (dk_at dksX3_comesCrab_2 0 rfl rfl)
theorem dX3_comesCrab_48 : decode cX3_comesCrab 48 = .ok (.iadd, 1) := dk_96 (dk_at dksX3_comesCrab_2 1 rfl rfl)
theorem dX3_comesCrab_49 : decode cX3_comesCrab 49 = .ok (.iload_n 2, 1) := dk_28 (dk_at dksX3_comesCrab_2 2 rfl rfl)
theorem dX3_comesCrab_50 : decode cX3_comesCrab 50 = .ok (.iastore, 1) := dk_79 (dk_at dksX3_comesCrab_2 3 rfl rfl)
theorem dX3_comesCrab_51 : decode cX3_comesCrab 51 = .ok (.aload_n 0, 1) := dk_42 (dk_at dksX3_comesCrab_2 4 rfl rfl)
theorem dX3_comesCrab_52 : decode cX3_comesCrab 52 = .ok (.getfield 7, 3) := dk_180 0 7 (dk_at dksX3_comesCrab_2 5 rfl rfl)
theorem dX3_comesCrab_55 : decode cX3_comesCrab 55 = .ok (.iload 4, 2) := dk_21 4 (dk_at dksX3_comesCrab_2 8 rfl rfl)
theorem dX3_comesCrab_57 : decode cX3_comesCrab 57 = .ok (.iconst 2, 1) := dk_5 (dk_at dksX3_comesCrab_2 10 rfl rfl)
theorem dX3_comesCrab_58 : decode cX3_comesCrab 58 = .ok (.iadd, 1) := dk_96 (dk_at dksX3_comesCrab_2 11 rfl rfl)
theorem dX3_comesCrab_59 : decode cX3_comesCrab 59 = .ok (.iconst (-1), 1) := dk_2 (dk_at dksX3_comesCrab_2 12 rfl rfl)
theorem dX3_comesCrab_60 : decode cX3_comesCrab 60 = .ok (.iastore, 1) := dk_79 (dk_at dksX3_comesCrab_2 13 rfl rfl)
theorem dX3_comesCrab_61 : decode cX3_comesCrab 61 = .ok (.aload_n 0, 1) := dk_42 (dk_at dksX3_comesCrab_2 14 rfl rfl)
theorem dX3_comesCrab_62 : decode cX3_comesCrab 62 = .ok (.getfield 7, 3) := dk_180 0 7 (dk_at dksX3_comesCrab_2 15 rfl rfl)
theorem dX3_comesCrab_65 : decode cX3_comesCrab 65 = .ok (.iload 4, 2) := dk_21 4 (dk_at dksX3_comesCrab_2 18 rfl rfl)
theorem dX3_comesCrab_67 : decode cX3_comesCrab 67 = .ok (.iconst 3, 1) := dk_6 (dk_at dksX3_comesCrab_2 20 rfl rfl)
theorem dX3_comesCrab_68 : decode cX3_comesCrab 68 = .ok (.iadd, 1) := dk_96 (dk_at dksX3_comesCrab_2 21 rfl rfl)
theorem dX3_comesCrab_69 : decode cX3_comesCrab 69 = .ok (.iconst 0, 1) := dk_3 (dk_at dksX3_comesCrab_2 22 rfl rfl)
theorem dX3_comesCrab_70 : decode cX3_comesCrab 70 = .ok (.iastore, 1) := dk_79 (dk_at dksX3_comesCrab_2 23 rfl rfl)
theorem dX3_comesCrab_71 : decode cX3_comesCrab 71 = .ok (.aload_n 0, 1) := dk_42 (dk_at dksX3_comesCrab_3 0 rfl rfl)
theorem dX3_comesCrab_72 : decode cX3_comesCrab 72 = .ok (.getfield 7, 3) := dk_180 0 7 (dk_at dksX3_comesCrab_3 1 rfl rfl)
theorem dX3_comesCrab_75 : decode cX3_comesCrab 75 = .ok (.iload 4, 2) := dk_21 4 (dk_at dksX3_comesCrab_3 4 rfl rfl)
theorem dX3_comesCrab_77 : decode cX3_comesCrab 77 = .ok (.iconst 4, 1) := dk_7 (dk_at dksX3_comesCrab_3 6 rfl rfl)
theorem dX3_comesCrab_78 : decode cX3_comesCrab 78 = .ok (.iadd, 1) := dk_96 (dk_at dksX3_comesCrab_3 7 rfl rfl)
theorem dX3_comesCrab_79 : decode cX3_comesCrab 79 = .ok (.iconst 0, 1) := dk_3 (dk_at dksX3_comesCrab_3 8 rfl rfl)
theorem dX3_comesCrab_80 : decode cX3_comesCrab 80 = .ok (.iastore, 1) := dk_79 (dk_at dksX3_comesCrab_3 9 rfl rfl)
theorem dX3_comesCrab_81 : decode cX3_comesCrab 81 = .ok (.aload_n 0, 1) := dk_42 (dk_at dksX3_comesCrab_3 10 rfl rfl)
theorem dX3_comesCrab_82 : decode cX3_comesCrab 82 = .ok (.getfield 7, 3) := dk_180 0 7 (dk_at dksX3_comesCrab_3 11 rfl rfl)
theorem dX3_comesCrab_85 : decode cX3_comesCrab 85 = .ok (.iload_n 1, 1) := dk_27 (dk_at dksX3_comesCrab_3 14 rfl rfl)
theorem dX3_comesCrab_86 : decode cX3_comesCrab 86 = .ok (.sipush 211, 3) := dk_17 0 211 (dk_at dksX3_comesCrab_3 15 rfl rfl)
theorem dX3_comesCrab_89 : decode cX3_comesCrab 89 = .ok (.iadd, 1) := dk_96 (dk_at dksX3_comesCrab_3 18 rfl rfl)
theorem dX3_comesCrab_90 : decode cX3_comesCrab 90 = .ok (.dup2, 1) := dk_92 (dk_at dksX3_comesCrab_3 19 rfl rfl)
theorem dX3_comesCrab_91 : decode cX3_comesCrab 91 = .ok (.iaload, 1) := dk_46 (dk_at dksX3_comesCrab_3 20 rfl rfl)
theorem dX3_comesCrab_92 : decode cX3_comesCrab 92 = .ok (.iconst 1, 1) := dk_4 (dk_at dksX3_comesCrab_3 21 rfl rfl)
theorem dX3_comesCrab_93 : decode cX3_comesCrab 93 = .ok (.iadd, 1) := dk_96 (dk_at dksX3_comesCrab_3 22 rfl rfl)
theorem dX3_comesCrab_94 : decode cX3_comesCrab 94 = .ok (.iastore, 1) := dk_79 (dk_at dksX3_comesCrab_3 23 rfl rfl)
theorem dX3_comesCrab_95 : decode cX3_comesCrab 95 = .ok (.iconst 1, 1) := dk_4 (dk_at dksX3_comesCrab_4 0 rfl rfl)
theorem dX3_comesCrab_96 : decode cX3_comesCrab 96 = .ok (.ireturn, 1) := dk_172 (dk_at dksX3_comesCrab_4 1 rfl rfl)
abbrev cX3_crab : ByteArray := prog_11_method_11_code
def yX3_crab : MethodName := ⟨RX3, "crab", "(II)I"⟩
def dkwX3_crab_0 : List UInt8 := [26, 17, 0, 212, 96, 8, 27, 104, 96, 172]
abbrev dktX3_crab_0 : List UInt8 := dkwX3_crab_0 ++ []
theorem dksX3_crab_0 : cX3_crab.data.toList.drop 0 = dktX3_crab_0 := by decide +kernel
theorem dX3_crab_0 : decode cX3_crab 0 = .ok (.iload_n 0, 1) := dk_26 (dk_at dksX3_crab_0 0 rfl rfl)
theorem dX3_crab_1 : decode cX3_crab 1 = .ok (.sipush 212, 3) := dk_17 0 212 (dk_at dksX3_crab_0 1 rfl rfl)
theorem dX3_crab_4 : decode cX3_crab 4 = .ok (.iadd, 1) := dk_96 (dk_at dksX3_crab_0 4 rfl rfl)
theorem dX3_crab_5 : decode cX3_crab 5 = .ok (.iconst 5, 1) := dk_8 (dk_at dksX3_crab_0 5 rfl rfl)
theorem dX3_crab_6 : decode cX3_crab 6 = .ok (.iload_n 1, 1) := dk_27 (dk_at dksX3_crab_0 6 rfl rfl)
theorem dX3_crab_7 : decode cX3_crab 7 = .ok (.imul, 1) := dk_104 (dk_at dksX3_crab_0 7 rfl rfl)
theorem dX3_crab_8 : decode cX3_crab 8 = .ok (.iadd, 1) := dk_96 (dk_at dksX3_crab_0 8 rfl rfl)
theorem dX3_crab_9 : decode cX3_crab 9 = .ok (.ireturn, 1) := dk_172 (dk_at dksX3_crab_0 9 rfl rfl)
abbrev cX3_addShell : ByteArray := prog_11_method_21_code
def yX3_addShell : MethodName := ⟨RX3, "addShell", "(II)I"⟩
def dkwX3_addShell_3 : List UInt8 := [17, 0, 132, 46, 4, 100, 167, 0, 4, 3, 172]
abbrev dktX3_addShell_3 : List UInt8 := dkwX3_addShell_3 ++ []
def dkwX3_addShell_2 : List UInt8 := [153, 0, 5, 3, 172, 42, 182, 0, 33, 42, 3, 27, 28, 182, 0, 64, 153, 0, 16, 42, 180, 0, 7]
abbrev dktX3_addShell_2 : List UInt8 := dkwX3_addShell_2 ++ dktX3_addShell_3
def dkwX3_addShell_1 : List UInt8 := [167, 0, 21, 42, 180, 0, 7, 17, 0, 132, 46, 16, 25, 160, 0, 7, 6, 167, 0, 4, 3, 182, 0, 54]
abbrev dktX3_addShell_1 : List UInt8 := dkwX3_addShell_1 ++ dktX3_addShell_2
def dkwX3_addShell_0 : List UInt8 := [42, 27, 184, 0, 50, 154, 0, 7, 4, 167, 0, 35, 28, 4, 16, 20, 184, 0, 26, 154, 0, 7, 5]
abbrev dktX3_addShell_0 : List UInt8 := dkwX3_addShell_0 ++ dktX3_addShell_1
theorem dksX3_addShell_0 : cX3_addShell.data.toList.drop 0 = dktX3_addShell_0 := by decide +kernel
theorem dksX3_addShell_1 : cX3_addShell.data.toList.drop 23 = dktX3_addShell_1 := dk_seg dksX3_addShell_0 23 rfl rfl
theorem dksX3_addShell_2 : cX3_addShell.data.toList.drop 47 = dktX3_addShell_2 := dk_seg dksX3_addShell_1 24 rfl rfl
theorem dksX3_addShell_3 : cX3_addShell.data.toList.drop 70 = dktX3_addShell_3 := dk_seg dksX3_addShell_2 23 rfl rfl
theorem dX3_addShell_0 : decode cX3_addShell 0 = .ok (.aload_n 0, 1) := dk_42 (dk_at dksX3_addShell_0 0 rfl rfl)
theorem dX3_addShell_1 : decode cX3_addShell 1 = .ok (.iload_n 1, 1) := dk_27 (dk_at dksX3_addShell_0 1 rfl rfl)
theorem dX3_addShell_2 : decode cX3_addShell 2 = .ok (.invokestatic 50, 3) := dk_184 0 50 (dk_at dksX3_addShell_0 2 rfl rfl)
theorem dX3_addShell_5 : decode cX3_addShell 5 = .ok (.ifCond .ne 7, 3) := dk_154 0 7 (dk_at dksX3_addShell_0 5 rfl rfl)
theorem dX3_addShell_8 : decode cX3_addShell 8 = .ok (.iconst 1, 1) := dk_4 (dk_at dksX3_addShell_0 8 rfl rfl)
theorem dX3_addShell_9 : decode cX3_addShell 9 = .ok (.goto 35, 3) := dk_167 0 35 (dk_at dksX3_addShell_0 9 rfl rfl)
theorem dX3_addShell_12 : decode cX3_addShell 12 = .ok (.iload_n 2, 1) := dk_28 (dk_at dksX3_addShell_0 12 rfl rfl)
theorem dX3_addShell_13 : decode cX3_addShell 13 = .ok (.iconst 1, 1) := dk_4 (dk_at dksX3_addShell_0 13 rfl rfl)
theorem dX3_addShell_14 : decode cX3_addShell 14 = .ok (.bipush 20, 2) := dk_16 20 (dk_at dksX3_addShell_0 14 rfl rfl)
theorem dX3_addShell_16 : decode cX3_addShell 16 = .ok (.invokestatic 26, 3) := dk_184 0 26 (dk_at dksX3_addShell_0 16 rfl rfl)
theorem dX3_addShell_19 : decode cX3_addShell 19 = .ok (.ifCond .ne 7, 3) := dk_154 0 7 (dk_at dksX3_addShell_0 19 rfl rfl)
theorem dX3_addShell_22 : decode cX3_addShell 22 = .ok (.iconst 2, 1) := dk_5 (dk_at dksX3_addShell_0 22 rfl rfl)
theorem dX3_addShell_23 : decode cX3_addShell 23 = .ok (.goto 21, 3) := dk_167 0 21 (dk_at dksX3_addShell_1 0 rfl rfl)
theorem dX3_addShell_26 : decode cX3_addShell 26 = .ok (.aload_n 0, 1) := dk_42 (dk_at dksX3_addShell_1 3 rfl rfl)
theorem dX3_addShell_27 : decode cX3_addShell 27 = .ok (.getfield 7, 3) := dk_180 0 7 (dk_at dksX3_addShell_1 4 rfl rfl)
theorem dX3_addShell_30 : decode cX3_addShell 30 = .ok (.sipush 132, 3) := dk_17 0 132 (dk_at dksX3_addShell_1 7 rfl rfl)
theorem dX3_addShell_33 : decode cX3_addShell 33 = .ok (.iaload, 1) := dk_46 (dk_at dksX3_addShell_1 10 rfl rfl)
theorem dX3_addShell_34 : decode cX3_addShell 34 = .ok (.bipush 25, 2) := dk_16 25 (dk_at dksX3_addShell_1 11 rfl rfl)
theorem dX3_addShell_36 : decode cX3_addShell 36 = .ok (.if_icmp .ne 7, 3) := dk_160 0 7 (dk_at dksX3_addShell_1 13 rfl rfl)
theorem dX3_addShell_39 : decode cX3_addShell 39 = .ok (.iconst 3, 1) := dk_6 (dk_at dksX3_addShell_1 16 rfl rfl)
theorem dX3_addShell_40 : decode cX3_addShell 40 = .ok (.goto 4, 3) := dk_167 0 4 (dk_at dksX3_addShell_1 17 rfl rfl)
theorem dX3_addShell_43 : decode cX3_addShell 43 = .ok (.iconst 0, 1) := dk_3 (dk_at dksX3_addShell_1 20 rfl rfl)
theorem dX3_addShell_44 : decode cX3_addShell 44 = .ok (.invokevirtual 54, 3) := dk_182 0 54 (dk_at dksX3_addShell_1 21 rfl rfl)
theorem dX3_addShell_47 : decode cX3_addShell 47 = .ok (.ifCond .eq 5, 3) := dk_153 0 5 (dk_at dksX3_addShell_2 0 rfl rfl)
theorem dX3_addShell_50 : decode cX3_addShell 50 = .ok (.iconst 0, 1) := dk_3 (dk_at dksX3_addShell_2 3 rfl rfl)
theorem dX3_addShell_51 : decode cX3_addShell 51 = .ok (.ireturn, 1) := dk_172 (dk_at dksX3_addShell_2 4 rfl rfl)
theorem dX3_addShell_52 : decode cX3_addShell 52 = .ok (.aload_n 0, 1) := dk_42 (dk_at dksX3_addShell_2 5 rfl rfl)
theorem dX3_addShell_53 : decode cX3_addShell 53 = .ok (.invokevirtual 33, 3) := dk_182 0 33 (dk_at dksX3_addShell_2 6 rfl rfl)
theorem dX3_addShell_56 : decode cX3_addShell 56 = .ok (.aload_n 0, 1) := dk_42 (dk_at dksX3_addShell_2 9 rfl rfl)
theorem dX3_addShell_57 : decode cX3_addShell 57 = .ok (.iconst 0, 1) := dk_3 (dk_at dksX3_addShell_2 10 rfl rfl)
theorem dX3_addShell_58 : decode cX3_addShell 58 = .ok (.iload_n 1, 1) := dk_27 (dk_at dksX3_addShell_2 11 rfl rfl)
theorem dX3_addShell_59 : decode cX3_addShell 59 = .ok (.iload_n 2, 1) := dk_28 (dk_at dksX3_addShell_2 12 rfl rfl)
theorem dX3_addShell_60 : decode cX3_addShell 60 = .ok (.invokevirtual 64, 3) := dk_182 0 64 (dk_at dksX3_addShell_2 13 rfl rfl)
theorem dX3_addShell_63 : decode cX3_addShell 63 = .ok (.ifCond .eq 16, 3) := dk_153 0 16 (dk_at dksX3_addShell_2 16 rfl rfl)
theorem dX3_addShell_66 : decode cX3_addShell 66 = .ok (.aload_n 0, 1) := dk_42 (dk_at dksX3_addShell_2 19 rfl rfl)
theorem dX3_addShell_67 : decode cX3_addShell 67 = .ok (.getfield 7, 3) := dk_180 0 7 (dk_at dksX3_addShell_2 20 rfl rfl)
theorem dX3_addShell_70 : decode cX3_addShell 70 = .ok (.sipush 132, 3) := dk_17 0 132 (dk_at dksX3_addShell_3 0 rfl rfl)
theorem dX3_addShell_73 : decode cX3_addShell 73 = .ok (.iaload, 1) := dk_46 (dk_at dksX3_addShell_3 3 rfl rfl)
theorem dX3_addShell_74 : decode cX3_addShell 74 = .ok (.iconst 1, 1) := dk_4 (dk_at dksX3_addShell_3 4 rfl rfl)
theorem dX3_addShell_75 : decode cX3_addShell 75 = .ok (.isub, 1) := dk_100 (dk_at dksX3_addShell_3 5 rfl rfl)
theorem dX3_addShell_76 : decode cX3_addShell 76 = .ok (.goto 4, 3) := dk_167 0 4 (dk_at dksX3_addShell_3 6 rfl rfl)
theorem dX3_addShell_79 : decode cX3_addShell 79 = .ok (.iconst 0, 1) := dk_3 (dk_at dksX3_addShell_3 9 rfl rfl)
theorem dX3_addShell_80 : decode cX3_addShell 80 = .ok (.ireturn, 1) := dk_172 (dk_at dksX3_addShell_3 10 rfl rfl)
abbrev cX3_comesShell : ByteArray := prog_11_method_18_code
def yX3_comesShell : MethodName := ⟨RX3, "comesShell", "(III)Z"⟩
def dkwX3_comesShell_1 : List UInt8 := [153, 0, 10, 42, 27, 28, 29, 182, 0, 46, 21, 4, 172]
abbrev dktX3_comesShell_1 : List UInt8 := dkwX3_comesShell_1 ++ []
def dkwX3_comesShell_0 : List UInt8 := [42, 180, 0, 7, 27, 17, 0, 132, 96, 46, 16, 25, 162, 0, 7, 4, 167, 0, 4, 3, 54, 4, 21, 4]
abbrev dktX3_comesShell_0 : List UInt8 := dkwX3_comesShell_0 ++ dktX3_comesShell_1
theorem dksX3_comesShell_0 : cX3_comesShell.data.toList.drop 0 = dktX3_comesShell_0 := by decide +kernel
theorem dksX3_comesShell_1 : cX3_comesShell.data.toList.drop 24 = dktX3_comesShell_1 := dk_seg dksX3_comesShell_0 24 rfl rfl
theorem dX3_comesShell_0 : decode cX3_comesShell 0 = .ok (.aload_n 0, 1) := dk_42 (dk_at dksX3_comesShell_0 0 rfl rfl)
theorem dX3_comesShell_1 : decode cX3_comesShell 1 = .ok (.getfield 7, 3) := dk_180 0 7 (dk_at dksX3_comesShell_0 1 rfl rfl)
theorem dX3_comesShell_4 : decode cX3_comesShell 4 = .ok (.iload_n 1, 1) := dk_27 (dk_at dksX3_comesShell_0 4 rfl rfl)
theorem dX3_comesShell_5 : decode cX3_comesShell 5 = .ok (.sipush 132, 3) := dk_17 0 132 (dk_at dksX3_comesShell_0 5 rfl rfl)
theorem dX3_comesShell_8 : decode cX3_comesShell 8 = .ok (.iadd, 1) := dk_96 (dk_at dksX3_comesShell_0 8 rfl rfl)
theorem dX3_comesShell_9 : decode cX3_comesShell 9 = .ok (.iaload, 1) := dk_46 (dk_at dksX3_comesShell_0 9 rfl rfl)
theorem dX3_comesShell_10 : decode cX3_comesShell 10 = .ok (.bipush 25, 2) := dk_16 25 (dk_at dksX3_comesShell_0 10 rfl rfl)
theorem dX3_comesShell_12 : decode cX3_comesShell 12 = .ok (.if_icmp .ge 7, 3) := dk_162 0 7 (dk_at dksX3_comesShell_0 12 rfl rfl)
theorem dX3_comesShell_15 : decode cX3_comesShell 15 = .ok (.iconst 1, 1) := dk_4 (dk_at dksX3_comesShell_0 15 rfl rfl)
theorem dX3_comesShell_16 : decode cX3_comesShell 16 = .ok (.goto 4, 3) := dk_167 0 4 (dk_at dksX3_comesShell_0 16 rfl rfl)
theorem dX3_comesShell_19 : decode cX3_comesShell 19 = .ok (.iconst 0, 1) := dk_3 (dk_at dksX3_comesShell_0 19 rfl rfl)
theorem dX3_comesShell_20 : decode cX3_comesShell 20 = .ok (.istore 4, 2) := dk_54 4 (dk_at dksX3_comesShell_0 20 rfl rfl)
theorem dX3_comesShell_22 : decode cX3_comesShell 22 = .ok (.iload 4, 2) := dk_21 4 (dk_at dksX3_comesShell_0 22 rfl rfl)
theorem dX3_comesShell_24 : decode cX3_comesShell 24 = .ok (.ifCond .eq 10, 3) := dk_153 0 10 (dk_at dksX3_comesShell_1 0 rfl rfl)
theorem dX3_comesShell_27 : decode cX3_comesShell 27 = .ok (.aload_n 0, 1) := dk_42 (dk_at dksX3_comesShell_1 3 rfl rfl)
theorem dX3_comesShell_28 : decode cX3_comesShell 28 = .ok (.iload_n 1, 1) := dk_27 (dk_at dksX3_comesShell_1 4 rfl rfl)
theorem dX3_comesShell_29 : decode cX3_comesShell 29 = .ok (.iload_n 2, 1) := dk_28 (dk_at dksX3_comesShell_1 5 rfl rfl)
theorem dX3_comesShell_30 : decode cX3_comesShell 30 = .ok (.iload_n 3, 1) := dk_29 (dk_at dksX3_comesShell_1 6 rfl rfl)
theorem dX3_comesShell_31 : decode cX3_comesShell 31 = .ok (.invokevirtual 46, 3) := dk_182 0 46 (dk_at dksX3_comesShell_1 7 rfl rfl)
theorem dX3_comesShell_34 : decode cX3_comesShell 34 = .ok (.iload 4, 2) := dk_21 4 (dk_at dksX3_comesShell_1 10 rfl rfl)
theorem dX3_comesShell_36 : decode cX3_comesShell 36 = .ok (.ireturn, 1) := dk_172 (dk_at dksX3_comesShell_1 12 rfl rfl)
abbrev cX3_laysShell : ByteArray := prog_11_method_17_code
def yX3_laysShell : MethodName := ⟨RX3, "laysShell", "(III)V"⟩
def dkwX3_laysShell_2 : List UInt8 := [27, 17, 0, 132, 96, 92, 46, 4, 96, 79, 177]
abbrev dktX3_laysShell_2 : List UInt8 := dkwX3_laysShell_2 ++ []
def dkwX3_laysShell_1 : List UInt8 := [42, 180, 0, 7, 21, 4, 4, 96, 28, 79, 42, 180, 0, 7, 21, 4, 5, 96, 2, 79, 42, 180, 0, 7]
abbrev dktX3_laysShell_1 : List UInt8 := dkwX3_laysShell_1 ++ dktX3_laysShell_2
def dkwX3_laysShell_0 : List UInt8 := [27, 42, 180, 0, 7, 27, 17, 0, 132, 96, 46, 184, 0, 43, 54, 4, 42, 180, 0, 7, 21, 4, 29, 79]
abbrev dktX3_laysShell_0 : List UInt8 := dkwX3_laysShell_0 ++ dktX3_laysShell_1
theorem dksX3_laysShell_0 : cX3_laysShell.data.toList.drop 0 = dktX3_laysShell_0 := by decide +kernel
theorem dksX3_laysShell_1 : cX3_laysShell.data.toList.drop 24 = dktX3_laysShell_1 := dk_seg dksX3_laysShell_0 24 rfl rfl
theorem dksX3_laysShell_2 : cX3_laysShell.data.toList.drop 48 = dktX3_laysShell_2 := dk_seg dksX3_laysShell_1 24 rfl rfl
theorem dX3_laysShell_0 : decode cX3_laysShell 0 = .ok (.iload_n 1, 1) := dk_27 (dk_at dksX3_laysShell_0 0 rfl rfl)
theorem dX3_laysShell_1 : decode cX3_laysShell 1 = .ok (.aload_n 0, 1) := dk_42 (dk_at dksX3_laysShell_0 1 rfl rfl)
theorem dX3_laysShell_2 : decode cX3_laysShell 2 = .ok (.getfield 7, 3) := dk_180 0 7 (dk_at dksX3_laysShell_0 2 rfl rfl)
theorem dX3_laysShell_5 : decode cX3_laysShell 5 = .ok (.iload_n 1, 1) := dk_27 (dk_at dksX3_laysShell_0 5 rfl rfl)
theorem dX3_laysShell_6 : decode cX3_laysShell 6 = .ok (.sipush 132, 3) := dk_17 0 132 (dk_at dksX3_laysShell_0 6 rfl rfl)
theorem dX3_laysShell_9 : decode cX3_laysShell 9 = .ok (.iadd, 1) := dk_96 (dk_at dksX3_laysShell_0 9 rfl rfl)
theorem dX3_laysShell_10 : decode cX3_laysShell 10 = .ok (.iaload, 1) := dk_46 (dk_at dksX3_laysShell_0 10 rfl rfl)
theorem dX3_laysShell_11 : decode cX3_laysShell 11 = .ok (.invokestatic 43, 3) := dk_184 0 43 (dk_at dksX3_laysShell_0 11 rfl rfl)
theorem dX3_laysShell_14 : decode cX3_laysShell 14 = .ok (.istore 4, 2) := dk_54 4 (dk_at dksX3_laysShell_0 14 rfl rfl)
theorem dX3_laysShell_16 : decode cX3_laysShell 16 = .ok (.aload_n 0, 1) := dk_42 (dk_at dksX3_laysShell_0 16 rfl rfl)
theorem dX3_laysShell_17 : decode cX3_laysShell 17 = .ok (.getfield 7, 3) := dk_180 0 7 (dk_at dksX3_laysShell_0 17 rfl rfl)
theorem dX3_laysShell_20 : decode cX3_laysShell 20 = .ok (.iload 4, 2) := dk_21 4 (dk_at dksX3_laysShell_0 20 rfl rfl)
theorem dX3_laysShell_22 : decode cX3_laysShell 22 = .ok (.iload_n 3, 1) := dk_29 (dk_at dksX3_laysShell_0 22 rfl rfl)
theorem dX3_laysShell_23 : decode cX3_laysShell 23 = .ok (.iastore, 1) := dk_79 (dk_at dksX3_laysShell_0 23 rfl rfl)
theorem dX3_laysShell_24 : decode cX3_laysShell 24 = .ok (.aload_n 0, 1) := dk_42 (dk_at dksX3_laysShell_1 0 rfl rfl)
theorem dX3_laysShell_25 : decode cX3_laysShell 25 = .ok (.getfield 7, 3) := dk_180 0 7 (dk_at dksX3_laysShell_1 1 rfl rfl)
theorem dX3_laysShell_28 : decode cX3_laysShell 28 = .ok (.iload 4, 2) := dk_21 4 (dk_at dksX3_laysShell_1 4 rfl rfl)
theorem dX3_laysShell_30 : decode cX3_laysShell 30 = .ok (.iconst 1, 1) := dk_4 (dk_at dksX3_laysShell_1 6 rfl rfl)
theorem dX3_laysShell_31 : decode cX3_laysShell 31 = .ok (.iadd, 1) := dk_96 (dk_at dksX3_laysShell_1 7 rfl rfl)
theorem dX3_laysShell_32 : decode cX3_laysShell 32 = .ok (.iload_n 2, 1) := dk_28 (dk_at dksX3_laysShell_1 8 rfl rfl)
theorem dX3_laysShell_33 : decode cX3_laysShell 33 = .ok (.iastore, 1) := dk_79 (dk_at dksX3_laysShell_1 9 rfl rfl)
theorem dX3_laysShell_34 : decode cX3_laysShell 34 = .ok (.aload_n 0, 1) := dk_42 (dk_at dksX3_laysShell_1 10 rfl rfl)
theorem dX3_laysShell_35 : decode cX3_laysShell 35 = .ok (.getfield 7, 3) := dk_180 0 7 (dk_at dksX3_laysShell_1 11 rfl rfl)
theorem dX3_laysShell_38 : decode cX3_laysShell 38 = .ok (.iload 4, 2) := dk_21 4 (dk_at dksX3_laysShell_1 14 rfl rfl)
theorem dX3_laysShell_40 : decode cX3_laysShell 40 = .ok (.iconst 2, 1) := dk_5 (dk_at dksX3_laysShell_1 16 rfl rfl)
theorem dX3_laysShell_41 : decode cX3_laysShell 41 = .ok (.iadd, 1) := dk_96 (dk_at dksX3_laysShell_1 17 rfl rfl)
theorem dX3_laysShell_42 : decode cX3_laysShell 42 = .ok (.iconst (-1), 1) := dk_2 (dk_at dksX3_laysShell_1 18 rfl rfl)
theorem dX3_laysShell_43 : decode cX3_laysShell 43 = .ok (.iastore, 1) := dk_79 (dk_at dksX3_laysShell_1 19 rfl rfl)
theorem dX3_laysShell_44 : decode cX3_laysShell 44 = .ok (.aload_n 0, 1) := dk_42 (dk_at dksX3_laysShell_1 20 rfl rfl)
theorem dX3_laysShell_45 : decode cX3_laysShell 45 = .ok (.getfield 7, 3) := dk_180 0 7 (dk_at dksX3_laysShell_1 21 rfl rfl)
theorem dX3_laysShell_48 : decode cX3_laysShell 48 = .ok (.iload_n 1, 1) := dk_27 (dk_at dksX3_laysShell_2 0 rfl rfl)
theorem dX3_laysShell_49 : decode cX3_laysShell 49 = .ok (.sipush 132, 3) := dk_17 0 132 (dk_at dksX3_laysShell_2 1 rfl rfl)
theorem dX3_laysShell_52 : decode cX3_laysShell 52 = .ok (.iadd, 1) := dk_96 (dk_at dksX3_laysShell_2 4 rfl rfl)
theorem dX3_laysShell_53 : decode cX3_laysShell 53 = .ok (.dup2, 1) := dk_92 (dk_at dksX3_laysShell_2 5 rfl rfl)
theorem dX3_laysShell_54 : decode cX3_laysShell 54 = .ok (.iaload, 1) := dk_46 (dk_at dksX3_laysShell_2 6 rfl rfl)
theorem dX3_laysShell_55 : decode cX3_laysShell 55 = .ok (.iconst 1, 1) := dk_4 (dk_at dksX3_laysShell_2 7 rfl rfl)
theorem dX3_laysShell_56 : decode cX3_laysShell 56 = .ok (.iadd, 1) := dk_96 (dk_at dksX3_laysShell_2 8 rfl rfl)
theorem dX3_laysShell_57 : decode cX3_laysShell 57 = .ok (.iastore, 1) := dk_79 (dk_at dksX3_laysShell_2 9 rfl rfl)
theorem dX3_laysShell_58 : decode cX3_laysShell 58 = .ok (.return_, 1) := dk_177 (dk_at dksX3_laysShell_2 10 rfl rfl)
abbrev cX3_shell : ByteArray := prog_11_method_10_code
def yX3_shell : MethodName := ⟨RX3, "shell", "(II)I"⟩
def dkwX3_shell_0 : List UInt8 := [26, 17, 0, 133, 96, 6, 27, 104, 96, 172]
abbrev dktX3_shell_0 : List UInt8 := dkwX3_shell_0 ++ []
theorem dksX3_shell_0 : cX3_shell.data.toList.drop 0 = dktX3_shell_0 := by decide +kernel
theorem dX3_shell_0 : decode cX3_shell 0 = .ok (.iload_n 0, 1) := dk_26 (dk_at dksX3_shell_0 0 rfl rfl)
theorem dX3_shell_1 : decode cX3_shell 1 = .ok (.sipush 133, 3) := dk_17 0 133 (dk_at dksX3_shell_0 1 rfl rfl)
theorem dX3_shell_4 : decode cX3_shell 4 = .ok (.iadd, 1) := dk_96 (dk_at dksX3_shell_0 4 rfl rfl)
theorem dX3_shell_5 : decode cX3_shell 5 = .ok (.iconst 3, 1) := dk_6 (dk_at dksX3_shell_0 5 rfl rfl)
theorem dX3_shell_6 : decode cX3_shell 6 = .ok (.iload_n 1, 1) := dk_27 (dk_at dksX3_shell_0 6 rfl rfl)
theorem dX3_shell_7 : decode cX3_shell 7 = .ok (.imul, 1) := dk_104 (dk_at dksX3_shell_0 7 rfl rfl)
theorem dX3_shell_8 : decode cX3_shell 8 = .ok (.iadd, 1) := dk_96 (dk_at dksX3_shell_0 8 rfl rfl)
theorem dX3_shell_9 : decode cX3_shell 9 = .ok (.ireturn, 1) := dk_172 (dk_at dksX3_shell_0 9 rfl rfl)
abbrev cX3_carryShell : ByteArray := prog_11_method_22_code
def yX3_carryShell : MethodName := ⟨RX3, "carryShell", "(II)I"⟩
def dkwX3_carryShell_3 : List UInt8 := [172]
abbrev dktX3_carryShell_3 : List UInt8 := dkwX3_carryShell_3 ++ []
def dkwX3_carryShell_2 : List UInt8 := [167, 0, 4, 5, 182, 0, 54, 153, 0, 5, 3, 172, 42, 3, 27, 184, 0, 43, 4, 96, 28, 182, 0, 70]
abbrev dktX3_carryShell_2 : List UInt8 := dkwX3_carryShell_2 ++ dktX3_carryShell_3
def dkwX3_carryShell_1 : List UInt8 := [154, 0, 7, 4, 167, 0, 24, 42, 180, 0, 7, 3, 27, 184, 0, 43, 5, 96, 46, 2, 160, 0, 7, 3]
abbrev dktX3_carryShell_1 : List UInt8 := dkwX3_carryShell_1 ++ dktX3_carryShell_2
def dkwX3_carryShell_0 : List UInt8 := [42, 27, 182, 0, 67, 153, 0, 14, 28, 184, 0, 50, 153, 0, 7, 4, 167, 0, 4, 3, 62, 42, 29]
abbrev dktX3_carryShell_0 : List UInt8 := dkwX3_carryShell_0 ++ dktX3_carryShell_1
theorem dksX3_carryShell_0 : cX3_carryShell.data.toList.drop 0 = dktX3_carryShell_0 := by decide +kernel
theorem dksX3_carryShell_1 : cX3_carryShell.data.toList.drop 23 = dktX3_carryShell_1 := dk_seg dksX3_carryShell_0 23 rfl rfl
theorem dksX3_carryShell_2 : cX3_carryShell.data.toList.drop 47 = dktX3_carryShell_2 := dk_seg dksX3_carryShell_1 24 rfl rfl
theorem dksX3_carryShell_3 : cX3_carryShell.data.toList.drop 71 = dktX3_carryShell_3 := dk_seg dksX3_carryShell_2 24 rfl rfl
theorem dX3_carryShell_0 : decode cX3_carryShell 0 = .ok (.aload_n 0, 1) := dk_42 (dk_at dksX3_carryShell_0 0 rfl rfl)
theorem dX3_carryShell_1 : decode cX3_carryShell 1 = .ok (.iload_n 1, 1) := dk_27 (dk_at dksX3_carryShell_0 1 rfl rfl)
theorem dX3_carryShell_2 : decode cX3_carryShell 2 = .ok (.invokevirtual 67, 3) := dk_182 0 67 (dk_at dksX3_carryShell_0 2 rfl rfl)
theorem dX3_carryShell_5 : decode cX3_carryShell 5 = .ok (.ifCond .eq 14, 3) := dk_153 0 14 (dk_at dksX3_carryShell_0 5 rfl rfl)
theorem dX3_carryShell_8 : decode cX3_carryShell 8 = .ok (.iload_n 2, 1) := dk_28 (dk_at dksX3_carryShell_0 8 rfl rfl)
theorem dX3_carryShell_9 : decode cX3_carryShell 9 = .ok (.invokestatic 50, 3) := dk_184 0 50 (dk_at dksX3_carryShell_0 9 rfl rfl)
theorem dX3_carryShell_12 : decode cX3_carryShell 12 = .ok (.ifCond .eq 7, 3) := dk_153 0 7 (dk_at dksX3_carryShell_0 12 rfl rfl)
theorem dX3_carryShell_15 : decode cX3_carryShell 15 = .ok (.iconst 1, 1) := dk_4 (dk_at dksX3_carryShell_0 15 rfl rfl)
theorem dX3_carryShell_16 : decode cX3_carryShell 16 = .ok (.goto 4, 3) := dk_167 0 4 (dk_at dksX3_carryShell_0 16 rfl rfl)
theorem dX3_carryShell_19 : decode cX3_carryShell 19 = .ok (.iconst 0, 1) := dk_3 (dk_at dksX3_carryShell_0 19 rfl rfl)
theorem dX3_carryShell_20 : decode cX3_carryShell 20 = .ok (.istore_n 3, 1) := dk_62 (dk_at dksX3_carryShell_0 20 rfl rfl)
theorem dX3_carryShell_21 : decode cX3_carryShell 21 = .ok (.aload_n 0, 1) := dk_42 (dk_at dksX3_carryShell_0 21 rfl rfl)
theorem dX3_carryShell_22 : decode cX3_carryShell 22 = .ok (.iload_n 3, 1) := dk_29 (dk_at dksX3_carryShell_0 22 rfl rfl)
theorem dX3_carryShell_23 : decode cX3_carryShell 23 = .ok (.ifCond .ne 7, 3) := dk_154 0 7 (dk_at dksX3_carryShell_1 0 rfl rfl)
theorem dX3_carryShell_26 : decode cX3_carryShell 26 = .ok (.iconst 1, 1) := dk_4 (dk_at dksX3_carryShell_1 3 rfl rfl)
theorem dX3_carryShell_27 : decode cX3_carryShell 27 = .ok (.goto 24, 3) := dk_167 0 24 (dk_at dksX3_carryShell_1 4 rfl rfl)
theorem dX3_carryShell_30 : decode cX3_carryShell 30 = .ok (.aload_n 0, 1) := dk_42 (dk_at dksX3_carryShell_1 7 rfl rfl)
theorem dX3_carryShell_31 : decode cX3_carryShell 31 = .ok (.getfield 7, 3) := dk_180 0 7 (dk_at dksX3_carryShell_1 8 rfl rfl)
theorem dX3_carryShell_34 : decode cX3_carryShell 34 = .ok (.iconst 0, 1) := dk_3 (dk_at dksX3_carryShell_1 11 rfl rfl)
theorem dX3_carryShell_35 : decode cX3_carryShell 35 = .ok (.iload_n 1, 1) := dk_27 (dk_at dksX3_carryShell_1 12 rfl rfl)
theorem dX3_carryShell_36 : decode cX3_carryShell 36 = .ok (.invokestatic 43, 3) := dk_184 0 43 (dk_at dksX3_carryShell_1 13 rfl rfl)
theorem dX3_carryShell_39 : decode cX3_carryShell 39 = .ok (.iconst 2, 1) := dk_5 (dk_at dksX3_carryShell_1 16 rfl rfl)
theorem dX3_carryShell_40 : decode cX3_carryShell 40 = .ok (.iadd, 1) := dk_96 (dk_at dksX3_carryShell_1 17 rfl rfl)
theorem dX3_carryShell_41 : decode cX3_carryShell 41 = .ok (.iaload, 1) := dk_46 (dk_at dksX3_carryShell_1 18 rfl rfl)
theorem dX3_carryShell_42 : decode cX3_carryShell 42 = .ok (.iconst (-1), 1) := dk_2 (dk_at dksX3_carryShell_1 19 rfl rfl)
theorem dX3_carryShell_43 : decode cX3_carryShell 43 = .ok (.if_icmp .ne 7, 3) := dk_160 0 7 (dk_at dksX3_carryShell_1 20 rfl rfl)
theorem dX3_carryShell_46 : decode cX3_carryShell 46 = .ok (.iconst 0, 1) := dk_3 (dk_at dksX3_carryShell_1 23 rfl rfl)
theorem dX3_carryShell_47 : decode cX3_carryShell 47 = .ok (.goto 4, 3) := dk_167 0 4 (dk_at dksX3_carryShell_2 0 rfl rfl)
theorem dX3_carryShell_50 : decode cX3_carryShell 50 = .ok (.iconst 2, 1) := dk_5 (dk_at dksX3_carryShell_2 3 rfl rfl)
theorem dX3_carryShell_51 : decode cX3_carryShell 51 = .ok (.invokevirtual 54, 3) := dk_182 0 54 (dk_at dksX3_carryShell_2 4 rfl rfl)
theorem dX3_carryShell_54 : decode cX3_carryShell 54 = .ok (.ifCond .eq 5, 3) := dk_153 0 5 (dk_at dksX3_carryShell_2 7 rfl rfl)
theorem dX3_carryShell_57 : decode cX3_carryShell 57 = .ok (.iconst 0, 1) := dk_3 (dk_at dksX3_carryShell_2 10 rfl rfl)
theorem dX3_carryShell_58 : decode cX3_carryShell 58 = .ok (.ireturn, 1) := dk_172 (dk_at dksX3_carryShell_2 11 rfl rfl)
theorem dX3_carryShell_59 : decode cX3_carryShell 59 = .ok (.aload_n 0, 1) := dk_42 (dk_at dksX3_carryShell_2 12 rfl rfl)
theorem dX3_carryShell_60 : decode cX3_carryShell 60 = .ok (.iconst 0, 1) := dk_3 (dk_at dksX3_carryShell_2 13 rfl rfl)
theorem dX3_carryShell_61 : decode cX3_carryShell 61 = .ok (.iload_n 1, 1) := dk_27 (dk_at dksX3_carryShell_2 14 rfl rfl)
theorem dX3_carryShell_62 : decode cX3_carryShell 62 = .ok (.invokestatic 43, 3) := dk_184 0 43 (dk_at dksX3_carryShell_2 15 rfl rfl)
theorem dX3_carryShell_65 : decode cX3_carryShell 65 = .ok (.iconst 1, 1) := dk_4 (dk_at dksX3_carryShell_2 18 rfl rfl)
theorem dX3_carryShell_66 : decode cX3_carryShell 66 = .ok (.iadd, 1) := dk_96 (dk_at dksX3_carryShell_2 19 rfl rfl)
theorem dX3_carryShell_67 : decode cX3_carryShell 67 = .ok (.iload_n 2, 1) := dk_28 (dk_at dksX3_carryShell_2 20 rfl rfl)
theorem dX3_carryShell_68 : decode cX3_carryShell 68 = .ok (.invokevirtual 70, 3) := dk_182 0 70 (dk_at dksX3_carryShell_2 21 rfl rfl)
theorem dX3_carryShell_71 : decode cX3_carryShell 71 = .ok (.ireturn, 1) := dk_172 (dk_at dksX3_carryShell_3 0 rfl rfl)
abbrev cX3_isShell : ByteArray := prog_11_method_7_code
def yX3_isShell : MethodName := ⟨RX3, "isShell", "(I)Z"⟩
def dkwX3_isShell_0 : List UInt8 := [27, 3, 42, 180, 0, 7, 17, 0, 132, 46, 4, 100, 184, 0, 26, 172]
abbrev dktX3_isShell_0 : List UInt8 := dkwX3_isShell_0 ++ []
theorem dksX3_isShell_0 : cX3_isShell.data.toList.drop 0 = dktX3_isShell_0 := by decide +kernel
theorem dX3_isShell_0 : decode cX3_isShell 0 = .ok (.iload_n 1, 1) := dk_27 (dk_at dksX3_isShell_0 0 rfl rfl)
theorem dX3_isShell_1 : decode cX3_isShell 1 = .ok (.iconst 0, 1) := dk_3 (dk_at dksX3_isShell_0 1 rfl rfl)
theorem dX3_isShell_2 : decode cX3_isShell 2 = .ok (.aload_n 0, 1) := dk_42 (dk_at dksX3_isShell_0 2 rfl rfl)
theorem dX3_isShell_3 : decode cX3_isShell 3 = .ok (.getfield 7, 3) := dk_180 0 7 (dk_at dksX3_isShell_0 3 rfl rfl)
theorem dX3_isShell_6 : decode cX3_isShell 6 = .ok (.sipush 132, 3) := dk_17 0 132 (dk_at dksX3_isShell_0 6 rfl rfl)
theorem dX3_isShell_9 : decode cX3_isShell 9 = .ok (.iaload, 1) := dk_46 (dk_at dksX3_isShell_0 9 rfl rfl)
theorem dX3_isShell_10 : decode cX3_isShell 10 = .ok (.iconst 1, 1) := dk_4 (dk_at dksX3_isShell_0 10 rfl rfl)
theorem dX3_isShell_11 : decode cX3_isShell 11 = .ok (.isub, 1) := dk_100 (dk_at dksX3_isShell_0 11 rfl rfl)
theorem dX3_isShell_12 : decode cX3_isShell 12 = .ok (.invokestatic 26, 3) := dk_184 0 26 (dk_at dksX3_isShell_0 12 rfl rfl)
theorem dX3_isShell_15 : decode cX3_isShell 15 = .ok (.ireturn, 1) := dk_172 (dk_at dksX3_isShell_0 15 rfl rfl)
abbrev cX3_sets : ByteArray := prog_11_method_14_code
def yX3_sets : MethodName := ⟨RX3, "sets", "(II)I"⟩
def dkwX3_sets_0 : List UInt8 := [42, 182, 0, 33, 42, 180, 0, 7, 27, 46, 62, 42, 180, 0, 7, 27, 28, 79, 29, 172]
abbrev dktX3_sets_0 : List UInt8 := dkwX3_sets_0 ++ []
theorem dksX3_sets_0 : cX3_sets.data.toList.drop 0 = dktX3_sets_0 := by decide +kernel
theorem dX3_sets_0 : decode cX3_sets 0 = .ok (.aload_n 0, 1) := dk_42 (dk_at dksX3_sets_0 0 rfl rfl)
theorem dX3_sets_1 : decode cX3_sets 1 = .ok (.invokevirtual 33, 3) := dk_182 0 33 (dk_at dksX3_sets_0 1 rfl rfl)
theorem dX3_sets_4 : decode cX3_sets 4 = .ok (.aload_n 0, 1) := dk_42 (dk_at dksX3_sets_0 4 rfl rfl)
theorem dX3_sets_5 : decode cX3_sets 5 = .ok (.getfield 7, 3) := dk_180 0 7 (dk_at dksX3_sets_0 5 rfl rfl)
theorem dX3_sets_8 : decode cX3_sets 8 = .ok (.iload_n 1, 1) := dk_27 (dk_at dksX3_sets_0 8 rfl rfl)
theorem dX3_sets_9 : decode cX3_sets 9 = .ok (.iaload, 1) := dk_46 (dk_at dksX3_sets_0 9 rfl rfl)
theorem dX3_sets_10 : decode cX3_sets 10 = .ok (.istore_n 3, 1) := dk_62 (dk_at dksX3_sets_0 10 rfl rfl)
theorem dX3_sets_11 : decode cX3_sets 11 = .ok (.aload_n 0, 1) := dk_42 (dk_at dksX3_sets_0 11 rfl rfl)
theorem dX3_sets_12 : decode cX3_sets 12 = .ok (.getfield 7, 3) := dk_180 0 7 (dk_at dksX3_sets_0 12 rfl rfl)
theorem dX3_sets_15 : decode cX3_sets 15 = .ok (.iload_n 1, 1) := dk_27 (dk_at dksX3_sets_0 15 rfl rfl)
theorem dX3_sets_16 : decode cX3_sets 16 = .ok (.iload_n 2, 1) := dk_28 (dk_at dksX3_sets_0 16 rfl rfl)
theorem dX3_sets_17 : decode cX3_sets 17 = .ok (.iastore, 1) := dk_79 (dk_at dksX3_sets_0 17 rfl rfl)
theorem dX3_sets_18 : decode cX3_sets 18 = .ok (.iload_n 3, 1) := dk_29 (dk_at dksX3_sets_0 18 rfl rfl)
theorem dX3_sets_19 : decode cX3_sets 19 = .ok (.ireturn, 1) := dk_172 (dk_at dksX3_sets_0 19 rfl rfl)
abbrev cX3_setHeight : ByteArray := prog_11_method_23_code
def yX3_setHeight : MethodName := ⟨RX3, "setHeight", "(II)I"⟩
def dkwX3_setHeight_1 : List UInt8 := [167, 0, 4, 5, 182, 0, 54, 153, 0, 7, 3, 167, 0, 12, 42, 16, 7, 27, 96, 28, 182, 0, 70, 172]
abbrev dktX3_setHeight_1 : List UInt8 := dkwX3_setHeight_1 ++ []
def dkwX3_setHeight_0 : List UInt8 := [42, 27, 184, 0, 50, 154, 0, 7, 4, 167, 0, 18, 28, 3, 16, 60, 184, 0, 26, 153, 0, 7, 3]
abbrev dktX3_setHeight_0 : List UInt8 := dkwX3_setHeight_0 ++ dktX3_setHeight_1
theorem dksX3_setHeight_0 : cX3_setHeight.data.toList.drop 0 = dktX3_setHeight_0 := by decide +kernel
theorem dksX3_setHeight_1 : cX3_setHeight.data.toList.drop 23 = dktX3_setHeight_1 := dk_seg dksX3_setHeight_0 23 rfl rfl
theorem dX3_setHeight_0 : decode cX3_setHeight 0 = .ok (.aload_n 0, 1) := dk_42 (dk_at dksX3_setHeight_0 0 rfl rfl)
theorem dX3_setHeight_1 : decode cX3_setHeight 1 = .ok (.iload_n 1, 1) := dk_27 (dk_at dksX3_setHeight_0 1 rfl rfl)
theorem dX3_setHeight_2 : decode cX3_setHeight 2 = .ok (.invokestatic 50, 3) := dk_184 0 50 (dk_at dksX3_setHeight_0 2 rfl rfl)
theorem dX3_setHeight_5 : decode cX3_setHeight 5 = .ok (.ifCond .ne 7, 3) := dk_154 0 7 (dk_at dksX3_setHeight_0 5 rfl rfl)
theorem dX3_setHeight_8 : decode cX3_setHeight 8 = .ok (.iconst 1, 1) := dk_4 (dk_at dksX3_setHeight_0 8 rfl rfl)
theorem dX3_setHeight_9 : decode cX3_setHeight 9 = .ok (.goto 18, 3) := dk_167 0 18 (dk_at dksX3_setHeight_0 9 rfl rfl)
theorem dX3_setHeight_12 : decode cX3_setHeight 12 = .ok (.iload_n 2, 1) := dk_28 (dk_at dksX3_setHeight_0 12 rfl rfl)
theorem dX3_setHeight_13 : decode cX3_setHeight 13 = .ok (.iconst 0, 1) := dk_3 (dk_at dksX3_setHeight_0 13 rfl rfl)
theorem dX3_setHeight_14 : decode cX3_setHeight 14 = .ok (.bipush 60, 2) := dk_16 60 (dk_at dksX3_setHeight_0 14 rfl rfl)
theorem dX3_setHeight_16 : decode cX3_setHeight 16 = .ok (.invokestatic 26, 3) := dk_184 0 26 (dk_at dksX3_setHeight_0 16 rfl rfl)
theorem dX3_setHeight_19 : decode cX3_setHeight 19 = .ok (.ifCond .eq 7, 3) := dk_153 0 7 (dk_at dksX3_setHeight_0 19 rfl rfl)
theorem dX3_setHeight_22 : decode cX3_setHeight 22 = .ok (.iconst 0, 1) := dk_3 (dk_at dksX3_setHeight_0 22 rfl rfl)
theorem dX3_setHeight_23 : decode cX3_setHeight 23 = .ok (.goto 4, 3) := dk_167 0 4 (dk_at dksX3_setHeight_1 0 rfl rfl)
theorem dX3_setHeight_26 : decode cX3_setHeight 26 = .ok (.iconst 2, 1) := dk_5 (dk_at dksX3_setHeight_1 3 rfl rfl)
theorem dX3_setHeight_27 : decode cX3_setHeight 27 = .ok (.invokevirtual 54, 3) := dk_182 0 54 (dk_at dksX3_setHeight_1 4 rfl rfl)
theorem dX3_setHeight_30 : decode cX3_setHeight 30 = .ok (.ifCond .eq 7, 3) := dk_153 0 7 (dk_at dksX3_setHeight_1 7 rfl rfl)
theorem dX3_setHeight_33 : decode cX3_setHeight 33 = .ok (.iconst 0, 1) := dk_3 (dk_at dksX3_setHeight_1 10 rfl rfl)
theorem dX3_setHeight_34 : decode cX3_setHeight 34 = .ok (.goto 12, 3) := dk_167 0 12 (dk_at dksX3_setHeight_1 11 rfl rfl)
theorem dX3_setHeight_37 : decode cX3_setHeight 37 = .ok (.aload_n 0, 1) := dk_42 (dk_at dksX3_setHeight_1 14 rfl rfl)
theorem dX3_setHeight_38 : decode cX3_setHeight 38 = .ok (.bipush 7, 2) := dk_16 7 (dk_at dksX3_setHeight_1 15 rfl rfl)
theorem dX3_setHeight_40 : decode cX3_setHeight 40 = .ok (.iload_n 1, 1) := dk_27 (dk_at dksX3_setHeight_1 17 rfl rfl)
theorem dX3_setHeight_41 : decode cX3_setHeight 41 = .ok (.iadd, 1) := dk_96 (dk_at dksX3_setHeight_1 18 rfl rfl)
theorem dX3_setHeight_42 : decode cX3_setHeight 42 = .ok (.iload_n 2, 1) := dk_28 (dk_at dksX3_setHeight_1 19 rfl rfl)
theorem dX3_setHeight_43 : decode cX3_setHeight 43 = .ok (.invokevirtual 70, 3) := dk_182 0 70 (dk_at dksX3_setHeight_1 20 rfl rfl)
theorem dX3_setHeight_46 : decode cX3_setHeight 46 = .ok (.ireturn, 1) := dk_172 (dk_at dksX3_setHeight_1 23 rfl rfl)
abbrev cX3_setTide : ByteArray := prog_11_method_24_code
def yX3_setTide : MethodName := ⟨RX3, "setTide", "(II)I"⟩
def dkwX3_setTide_2 : List UInt8 := [180, 0, 7, 5, 28, 79, 42, 3, 42, 180, 0, 7, 3, 46, 182, 0, 73, 172]
abbrev dktX3_setTide_2 : List UInt8 := dkwX3_setTide_2 ++ []
def dkwX3_setTide_1 : List UInt8 := [167, 0, 4, 4, 182, 0, 54, 153, 0, 5, 3, 172, 42, 182, 0, 33, 42, 180, 0, 7, 4, 27, 79, 42]
abbrev dktX3_setTide_1 : List UInt8 := dkwX3_setTide_1 ++ dktX3_setTide_2
def dkwX3_setTide_0 : List UInt8 := [42, 27, 3, 16, 30, 184, 0, 26, 153, 0, 18, 28, 16, 31, 16, 60, 184, 0, 26, 153, 0, 7, 3]
abbrev dktX3_setTide_0 : List UInt8 := dkwX3_setTide_0 ++ dktX3_setTide_1
theorem dksX3_setTide_0 : cX3_setTide.data.toList.drop 0 = dktX3_setTide_0 := by decide +kernel
theorem dksX3_setTide_1 : cX3_setTide.data.toList.drop 23 = dktX3_setTide_1 := dk_seg dksX3_setTide_0 23 rfl rfl
theorem dksX3_setTide_2 : cX3_setTide.data.toList.drop 47 = dktX3_setTide_2 := dk_seg dksX3_setTide_1 24 rfl rfl
theorem dX3_setTide_0 : decode cX3_setTide 0 = .ok (.aload_n 0, 1) := dk_42 (dk_at dksX3_setTide_0 0 rfl rfl)
theorem dX3_setTide_1 : decode cX3_setTide 1 = .ok (.iload_n 1, 1) := dk_27 (dk_at dksX3_setTide_0 1 rfl rfl)
theorem dX3_setTide_2 : decode cX3_setTide 2 = .ok (.iconst 0, 1) := dk_3 (dk_at dksX3_setTide_0 2 rfl rfl)
theorem dX3_setTide_3 : decode cX3_setTide 3 = .ok (.bipush 30, 2) := dk_16 30 (dk_at dksX3_setTide_0 3 rfl rfl)
theorem dX3_setTide_5 : decode cX3_setTide 5 = .ok (.invokestatic 26, 3) := dk_184 0 26 (dk_at dksX3_setTide_0 5 rfl rfl)
theorem dX3_setTide_8 : decode cX3_setTide 8 = .ok (.ifCond .eq 18, 3) := dk_153 0 18 (dk_at dksX3_setTide_0 8 rfl rfl)
theorem dX3_setTide_11 : decode cX3_setTide 11 = .ok (.iload_n 2, 1) := dk_28 (dk_at dksX3_setTide_0 11 rfl rfl)
theorem dX3_setTide_12 : decode cX3_setTide 12 = .ok (.bipush 31, 2) := dk_16 31 (dk_at dksX3_setTide_0 12 rfl rfl)
theorem dX3_setTide_14 : decode cX3_setTide 14 = .ok (.bipush 60, 2) := dk_16 60 (dk_at dksX3_setTide_0 14 rfl rfl)
theorem dX3_setTide_16 : decode cX3_setTide 16 = .ok (.invokestatic 26, 3) := dk_184 0 26 (dk_at dksX3_setTide_0 16 rfl rfl)
theorem dX3_setTide_19 : decode cX3_setTide 19 = .ok (.ifCond .eq 7, 3) := dk_153 0 7 (dk_at dksX3_setTide_0 19 rfl rfl)
theorem dX3_setTide_22 : decode cX3_setTide 22 = .ok (.iconst 0, 1) := dk_3 (dk_at dksX3_setTide_0 22 rfl rfl)
theorem dX3_setTide_23 : decode cX3_setTide 23 = .ok (.goto 4, 3) := dk_167 0 4 (dk_at dksX3_setTide_1 0 rfl rfl)
theorem dX3_setTide_26 : decode cX3_setTide 26 = .ok (.iconst 1, 1) := dk_4 (dk_at dksX3_setTide_1 3 rfl rfl)
theorem dX3_setTide_27 : decode cX3_setTide 27 = .ok (.invokevirtual 54, 3) := dk_182 0 54 (dk_at dksX3_setTide_1 4 rfl rfl)
theorem dX3_setTide_30 : decode cX3_setTide 30 = .ok (.ifCond .eq 5, 3) := dk_153 0 5 (dk_at dksX3_setTide_1 7 rfl rfl)
theorem dX3_setTide_33 : decode cX3_setTide 33 = .ok (.iconst 0, 1) := dk_3 (dk_at dksX3_setTide_1 10 rfl rfl)
theorem dX3_setTide_34 : decode cX3_setTide 34 = .ok (.ireturn, 1) := dk_172 (dk_at dksX3_setTide_1 11 rfl rfl)
theorem dX3_setTide_35 : decode cX3_setTide 35 = .ok (.aload_n 0, 1) := dk_42 (dk_at dksX3_setTide_1 12 rfl rfl)
theorem dX3_setTide_36 : decode cX3_setTide 36 = .ok (.invokevirtual 33, 3) := dk_182 0 33 (dk_at dksX3_setTide_1 13 rfl rfl)
theorem dX3_setTide_39 : decode cX3_setTide 39 = .ok (.aload_n 0, 1) := dk_42 (dk_at dksX3_setTide_1 16 rfl rfl)
theorem dX3_setTide_40 : decode cX3_setTide 40 = .ok (.getfield 7, 3) := dk_180 0 7 (dk_at dksX3_setTide_1 17 rfl rfl)
theorem dX3_setTide_43 : decode cX3_setTide 43 = .ok (.iconst 1, 1) := dk_4 (dk_at dksX3_setTide_1 20 rfl rfl)
theorem dX3_setTide_44 : decode cX3_setTide 44 = .ok (.iload_n 1, 1) := dk_27 (dk_at dksX3_setTide_1 21 rfl rfl)
theorem dX3_setTide_45 : decode cX3_setTide 45 = .ok (.iastore, 1) := dk_79 (dk_at dksX3_setTide_1 22 rfl rfl)
theorem dX3_setTide_46 : decode cX3_setTide 46 = .ok (.aload_n 0, 1) := dk_42 (dk_at dksX3_setTide_1 23 rfl rfl)
theorem dX3_setTide_47 : decode cX3_setTide 47 = .ok (.getfield 7, 3) := dk_180 0 7 (dk_at dksX3_setTide_2 0 rfl rfl)
theorem dX3_setTide_50 : decode cX3_setTide 50 = .ok (.iconst 2, 1) := dk_5 (dk_at dksX3_setTide_2 3 rfl rfl)
theorem dX3_setTide_51 : decode cX3_setTide 51 = .ok (.iload_n 2, 1) := dk_28 (dk_at dksX3_setTide_2 4 rfl rfl)
theorem dX3_setTide_52 : decode cX3_setTide 52 = .ok (.iastore, 1) := dk_79 (dk_at dksX3_setTide_2 5 rfl rfl)
theorem dX3_setTide_53 : decode cX3_setTide 53 = .ok (.aload_n 0, 1) := dk_42 (dk_at dksX3_setTide_2 6 rfl rfl)
theorem dX3_setTide_54 : decode cX3_setTide 54 = .ok (.iconst 0, 1) := dk_3 (dk_at dksX3_setTide_2 7 rfl rfl)
theorem dX3_setTide_55 : decode cX3_setTide 55 = .ok (.aload_n 0, 1) := dk_42 (dk_at dksX3_setTide_2 8 rfl rfl)
theorem dX3_setTide_56 : decode cX3_setTide 56 = .ok (.getfield 7, 3) := dk_180 0 7 (dk_at dksX3_setTide_2 9 rfl rfl)
theorem dX3_setTide_59 : decode cX3_setTide 59 = .ok (.iconst 0, 1) := dk_3 (dk_at dksX3_setTide_2 12 rfl rfl)
theorem dX3_setTide_60 : decode cX3_setTide 60 = .ok (.iaload, 1) := dk_46 (dk_at dksX3_setTide_2 13 rfl rfl)
theorem dX3_setTide_61 : decode cX3_setTide 61 = .ok (.invokevirtual 73, 3) := dk_182 0 73 (dk_at dksX3_setTide_2 14 rfl rfl)
theorem dX3_setTide_64 : decode cX3_setTide 64 = .ok (.ireturn, 1) := dk_172 (dk_at dksX3_setTide_2 17 rfl rfl)
abbrev cX3_tideOf : ByteArray := prog_11_method_27_code
def yX3_tideOf : MethodName := ⟨RX3, "tideOf", "(II)I"⟩
def dkwX3_tideOf_2 : List UInt8 := [21, 4, 104, 16, 6, 108, 96, 172]
abbrev dktX3_tideOf_2 : List UInt8 := dkwX3_tideOf_2 ++ []
def dkwX3_tideOf_1 : List UInt8 := [180, 0, 7, 27, 4, 96, 46, 42, 180, 0, 7, 27, 5, 96, 46, 42, 180, 0, 7, 27, 4, 96, 46, 100]
abbrev dktX3_tideOf_1 : List UInt8 := dkwX3_tideOf_1 ++ dktX3_tideOf_2
def dkwX3_tideOf_0 : List UInt8 := [28, 16, 12, 112, 62, 29, 16, 6, 164, 0, 10, 16, 12, 29, 100, 167, 0, 4, 29, 54, 4, 42]
abbrev dktX3_tideOf_0 : List UInt8 := dkwX3_tideOf_0 ++ dktX3_tideOf_1
theorem dksX3_tideOf_0 : cX3_tideOf.data.toList.drop 0 = dktX3_tideOf_0 := by decide +kernel
theorem dksX3_tideOf_1 : cX3_tideOf.data.toList.drop 22 = dktX3_tideOf_1 := dk_seg dksX3_tideOf_0 22 rfl rfl
theorem dksX3_tideOf_2 : cX3_tideOf.data.toList.drop 46 = dktX3_tideOf_2 := dk_seg dksX3_tideOf_1 24 rfl rfl
theorem dX3_tideOf_0 : decode cX3_tideOf 0 = .ok (.iload_n 2, 1) := dk_28 (dk_at dksX3_tideOf_0 0 rfl rfl)
theorem dX3_tideOf_1 : decode cX3_tideOf 1 = .ok (.bipush 12, 2) := dk_16 12 (dk_at dksX3_tideOf_0 1 rfl rfl)
theorem dX3_tideOf_3 : decode cX3_tideOf 3 = .ok (.irem, 1) := dk_112 (dk_at dksX3_tideOf_0 3 rfl rfl)
theorem dX3_tideOf_4 : decode cX3_tideOf 4 = .ok (.istore_n 3, 1) := dk_62 (dk_at dksX3_tideOf_0 4 rfl rfl)
theorem dX3_tideOf_5 : decode cX3_tideOf 5 = .ok (.iload_n 3, 1) := dk_29 (dk_at dksX3_tideOf_0 5 rfl rfl)
theorem dX3_tideOf_6 : decode cX3_tideOf 6 = .ok (.bipush 6, 2) := dk_16 6 (dk_at dksX3_tideOf_0 6 rfl rfl)
theorem dX3_tideOf_8 : decode cX3_tideOf 8 = .ok (.if_icmp .le 10, 3) := dk_164 0 10 (dk_at dksX3_tideOf_0 8 rfl rfl)
theorem dX3_tideOf_11 : decode cX3_tideOf 11 = .ok (.bipush 12, 2) := dk_16 12 (dk_at dksX3_tideOf_0 11 rfl rfl)
theorem dX3_tideOf_13 : decode cX3_tideOf 13 = .ok (.iload_n 3, 1) := dk_29 (dk_at dksX3_tideOf_0 13 rfl rfl)
theorem dX3_tideOf_14 : decode cX3_tideOf 14 = .ok (.isub, 1) := dk_100 (dk_at dksX3_tideOf_0 14 rfl rfl)
theorem dX3_tideOf_15 : decode cX3_tideOf 15 = .ok (.goto 4, 3) := dk_167 0 4 (dk_at dksX3_tideOf_0 15 rfl rfl)
theorem dX3_tideOf_18 : decode cX3_tideOf 18 = .ok (.iload_n 3, 1) := dk_29 (dk_at dksX3_tideOf_0 18 rfl rfl)
theorem dX3_tideOf_19 : decode cX3_tideOf 19 = .ok (.istore 4, 2) := dk_54 4 (dk_at dksX3_tideOf_0 19 rfl rfl)
theorem dX3_tideOf_21 : decode cX3_tideOf 21 = .ok (.aload_n 0, 1) := dk_42 (dk_at dksX3_tideOf_0 21 rfl rfl)
theorem dX3_tideOf_22 : decode cX3_tideOf 22 = .ok (.getfield 7, 3) := dk_180 0 7 (dk_at dksX3_tideOf_1 0 rfl rfl)
theorem dX3_tideOf_25 : decode cX3_tideOf 25 = .ok (.iload_n 1, 1) := dk_27 (dk_at dksX3_tideOf_1 3 rfl rfl)
theorem dX3_tideOf_26 : decode cX3_tideOf 26 = .ok (.iconst 1, 1) := dk_4 (dk_at dksX3_tideOf_1 4 rfl rfl)
theorem dX3_tideOf_27 : decode cX3_tideOf 27 = .ok (.iadd, 1) := dk_96 (dk_at dksX3_tideOf_1 5 rfl rfl)
theorem dX3_tideOf_28 : decode cX3_tideOf 28 = .ok (.iaload, 1) := dk_46 (dk_at dksX3_tideOf_1 6 rfl rfl)
theorem dX3_tideOf_29 : decode cX3_tideOf 29 = .ok (.aload_n 0, 1) := dk_42 (dk_at dksX3_tideOf_1 7 rfl rfl)
theorem dX3_tideOf_30 : decode cX3_tideOf 30 = .ok (.getfield 7, 3) := dk_180 0 7 (dk_at dksX3_tideOf_1 8 rfl rfl)
theorem dX3_tideOf_33 : decode cX3_tideOf 33 = .ok (.iload_n 1, 1) := dk_27 (dk_at dksX3_tideOf_1 11 rfl rfl)
theorem dX3_tideOf_34 : decode cX3_tideOf 34 = .ok (.iconst 2, 1) := dk_5 (dk_at dksX3_tideOf_1 12 rfl rfl)
theorem dX3_tideOf_35 : decode cX3_tideOf 35 = .ok (.iadd, 1) := dk_96 (dk_at dksX3_tideOf_1 13 rfl rfl)
theorem dX3_tideOf_36 : decode cX3_tideOf 36 = .ok (.iaload, 1) := dk_46 (dk_at dksX3_tideOf_1 14 rfl rfl)
theorem dX3_tideOf_37 : decode cX3_tideOf 37 = .ok (.aload_n 0, 1) := dk_42 (dk_at dksX3_tideOf_1 15 rfl rfl)
theorem dX3_tideOf_38 : decode cX3_tideOf 38 = .ok (.getfield 7, 3) := dk_180 0 7 (dk_at dksX3_tideOf_1 16 rfl rfl)
theorem dX3_tideOf_41 : decode cX3_tideOf 41 = .ok (.iload_n 1, 1) := dk_27 (dk_at dksX3_tideOf_1 19 rfl rfl)
theorem dX3_tideOf_42 : decode cX3_tideOf 42 = .ok (.iconst 1, 1) := dk_4 (dk_at dksX3_tideOf_1 20 rfl rfl)
theorem dX3_tideOf_43 : decode cX3_tideOf 43 = .ok (.iadd, 1) := dk_96 (dk_at dksX3_tideOf_1 21 rfl rfl)
theorem dX3_tideOf_44 : decode cX3_tideOf 44 = .ok (.iaload, 1) := dk_46 (dk_at dksX3_tideOf_1 22 rfl rfl)
theorem dX3_tideOf_45 : decode cX3_tideOf 45 = .ok (.isub, 1) := dk_100 (dk_at dksX3_tideOf_1 23 rfl rfl)
theorem dX3_tideOf_46 : decode cX3_tideOf 46 = .ok (.iload 4, 2) := dk_21 4 (dk_at dksX3_tideOf_2 0 rfl rfl)
theorem dX3_tideOf_48 : decode cX3_tideOf 48 = .ok (.imul, 1) := dk_104 (dk_at dksX3_tideOf_2 2 rfl rfl)
theorem dX3_tideOf_49 : decode cX3_tideOf 49 = .ok (.bipush 6, 2) := dk_16 6 (dk_at dksX3_tideOf_2 3 rfl rfl)
theorem dX3_tideOf_51 : decode cX3_tideOf 51 = .ok (.idiv, 1) := dk_108 (dk_at dksX3_tideOf_2 5 rfl rfl)
theorem dX3_tideOf_52 : decode cX3_tideOf 52 = .ok (.iadd, 1) := dk_96 (dk_at dksX3_tideOf_2 6 rfl rfl)
theorem dX3_tideOf_53 : decode cX3_tideOf 53 = .ok (.ireturn, 1) := dk_172 (dk_at dksX3_tideOf_2 7 rfl rfl)
abbrev cX3_setHeat : ByteArray := prog_11_method_25_code
def yX3_setHeat : MethodName := ⟨RX3, "setHeat", "(I)I"⟩
def dkwX3_setHeat_1 : List UInt8 := [167, 0, 9, 42, 6, 27, 182, 0, 70, 172]
abbrev dktX3_setHeat_1 : List UInt8 := dkwX3_setHeat_1 ++ []
def dkwX3_setHeat_0 : List UInt8 := [42, 27, 3, 7, 184, 0, 26, 153, 0, 7, 3, 167, 0, 4, 4, 182, 0, 54, 153, 0, 7, 3]
abbrev dktX3_setHeat_0 : List UInt8 := dkwX3_setHeat_0 ++ dktX3_setHeat_1
theorem dksX3_setHeat_0 : cX3_setHeat.data.toList.drop 0 = dktX3_setHeat_0 := by decide +kernel
theorem dksX3_setHeat_1 : cX3_setHeat.data.toList.drop 22 = dktX3_setHeat_1 := dk_seg dksX3_setHeat_0 22 rfl rfl
theorem dX3_setHeat_0 : decode cX3_setHeat 0 = .ok (.aload_n 0, 1) := dk_42 (dk_at dksX3_setHeat_0 0 rfl rfl)
theorem dX3_setHeat_1 : decode cX3_setHeat 1 = .ok (.iload_n 1, 1) := dk_27 (dk_at dksX3_setHeat_0 1 rfl rfl)
theorem dX3_setHeat_2 : decode cX3_setHeat 2 = .ok (.iconst 0, 1) := dk_3 (dk_at dksX3_setHeat_0 2 rfl rfl)
theorem dX3_setHeat_3 : decode cX3_setHeat 3 = .ok (.iconst 4, 1) := dk_7 (dk_at dksX3_setHeat_0 3 rfl rfl)
theorem dX3_setHeat_4 : decode cX3_setHeat 4 = .ok (.invokestatic 26, 3) := dk_184 0 26 (dk_at dksX3_setHeat_0 4 rfl rfl)
theorem dX3_setHeat_7 : decode cX3_setHeat 7 = .ok (.ifCond .eq 7, 3) := dk_153 0 7 (dk_at dksX3_setHeat_0 7 rfl rfl)
theorem dX3_setHeat_10 : decode cX3_setHeat 10 = .ok (.iconst 0, 1) := dk_3 (dk_at dksX3_setHeat_0 10 rfl rfl)
theorem dX3_setHeat_11 : decode cX3_setHeat 11 = .ok (.goto 4, 3) := dk_167 0 4 (dk_at dksX3_setHeat_0 11 rfl rfl)
theorem dX3_setHeat_14 : decode cX3_setHeat 14 = .ok (.iconst 1, 1) := dk_4 (dk_at dksX3_setHeat_0 14 rfl rfl)
theorem dX3_setHeat_15 : decode cX3_setHeat 15 = .ok (.invokevirtual 54, 3) := dk_182 0 54 (dk_at dksX3_setHeat_0 15 rfl rfl)
theorem dX3_setHeat_18 : decode cX3_setHeat 18 = .ok (.ifCond .eq 7, 3) := dk_153 0 7 (dk_at dksX3_setHeat_0 18 rfl rfl)
theorem dX3_setHeat_21 : decode cX3_setHeat 21 = .ok (.iconst 0, 1) := dk_3 (dk_at dksX3_setHeat_0 21 rfl rfl)
theorem dX3_setHeat_22 : decode cX3_setHeat 22 = .ok (.goto 9, 3) := dk_167 0 9 (dk_at dksX3_setHeat_1 0 rfl rfl)
theorem dX3_setHeat_25 : decode cX3_setHeat 25 = .ok (.aload_n 0, 1) := dk_42 (dk_at dksX3_setHeat_1 3 rfl rfl)
theorem dX3_setHeat_26 : decode cX3_setHeat 26 = .ok (.iconst 3, 1) := dk_6 (dk_at dksX3_setHeat_1 4 rfl rfl)
theorem dX3_setHeat_27 : decode cX3_setHeat 27 = .ok (.iload_n 1, 1) := dk_27 (dk_at dksX3_setHeat_1 5 rfl rfl)
theorem dX3_setHeat_28 : decode cX3_setHeat 28 = .ok (.invokevirtual 70, 3) := dk_182 0 70 (dk_at dksX3_setHeat_1 6 rfl rfl)
theorem dX3_setHeat_31 : decode cX3_setHeat 31 = .ok (.ireturn, 1) := dk_172 (dk_at dksX3_setHeat_1 9 rfl rfl)
abbrev cX3_setPause : ByteArray := prog_11_method_26_code
def yX3_setPause : MethodName := ⟨RX3, "setPause", "(I)I"⟩
def dkwX3_setPause_1 : List UInt8 := [167, 0, 9, 42, 7, 27, 182, 0, 70, 172]
abbrev dktX3_setPause_1 : List UInt8 := dkwX3_setPause_1 ++ []
def dkwX3_setPause_0 : List UInt8 := [42, 27, 4, 16, 12, 184, 0, 26, 153, 0, 7, 3, 167, 0, 4, 4, 182, 0, 54, 153, 0, 7, 3]
abbrev dktX3_setPause_0 : List UInt8 := dkwX3_setPause_0 ++ dktX3_setPause_1
theorem dksX3_setPause_0 : cX3_setPause.data.toList.drop 0 = dktX3_setPause_0 := by decide +kernel
theorem dksX3_setPause_1 : cX3_setPause.data.toList.drop 23 = dktX3_setPause_1 := dk_seg dksX3_setPause_0 23 rfl rfl
theorem dX3_setPause_0 : decode cX3_setPause 0 = .ok (.aload_n 0, 1) := dk_42 (dk_at dksX3_setPause_0 0 rfl rfl)
theorem dX3_setPause_1 : decode cX3_setPause 1 = .ok (.iload_n 1, 1) := dk_27 (dk_at dksX3_setPause_0 1 rfl rfl)
theorem dX3_setPause_2 : decode cX3_setPause 2 = .ok (.iconst 1, 1) := dk_4 (dk_at dksX3_setPause_0 2 rfl rfl)
theorem dX3_setPause_3 : decode cX3_setPause 3 = .ok (.bipush 12, 2) := dk_16 12 (dk_at dksX3_setPause_0 3 rfl rfl)
theorem dX3_setPause_5 : decode cX3_setPause 5 = .ok (.invokestatic 26, 3) := dk_184 0 26 (dk_at dksX3_setPause_0 5 rfl rfl)
theorem dX3_setPause_8 : decode cX3_setPause 8 = .ok (.ifCond .eq 7, 3) := dk_153 0 7 (dk_at dksX3_setPause_0 8 rfl rfl)
theorem dX3_setPause_11 : decode cX3_setPause 11 = .ok (.iconst 0, 1) := dk_3 (dk_at dksX3_setPause_0 11 rfl rfl)
theorem dX3_setPause_12 : decode cX3_setPause 12 = .ok (.goto 4, 3) := dk_167 0 4 (dk_at dksX3_setPause_0 12 rfl rfl)
theorem dX3_setPause_15 : decode cX3_setPause 15 = .ok (.iconst 1, 1) := dk_4 (dk_at dksX3_setPause_0 15 rfl rfl)
theorem dX3_setPause_16 : decode cX3_setPause 16 = .ok (.invokevirtual 54, 3) := dk_182 0 54 (dk_at dksX3_setPause_0 16 rfl rfl)
theorem dX3_setPause_19 : decode cX3_setPause 19 = .ok (.ifCond .eq 7, 3) := dk_153 0 7 (dk_at dksX3_setPause_0 19 rfl rfl)
theorem dX3_setPause_22 : decode cX3_setPause 22 = .ok (.iconst 0, 1) := dk_3 (dk_at dksX3_setPause_0 22 rfl rfl)
theorem dX3_setPause_23 : decode cX3_setPause 23 = .ok (.goto 9, 3) := dk_167 0 9 (dk_at dksX3_setPause_1 0 rfl rfl)
theorem dX3_setPause_26 : decode cX3_setPause 26 = .ok (.aload_n 0, 1) := dk_42 (dk_at dksX3_setPause_1 3 rfl rfl)
theorem dX3_setPause_27 : decode cX3_setPause 27 = .ok (.iconst 4, 1) := dk_7 (dk_at dksX3_setPause_1 4 rfl rfl)
theorem dX3_setPause_28 : decode cX3_setPause 28 = .ok (.iload_n 1, 1) := dk_27 (dk_at dksX3_setPause_1 5 rfl rfl)
theorem dX3_setPause_29 : decode cX3_setPause 29 = .ok (.invokevirtual 70, 3) := dk_182 0 70 (dk_at dksX3_setPause_1 6 rfl rfl)
theorem dX3_setPause_32 : decode cX3_setPause 32 = .ok (.ireturn, 1) := dk_172 (dk_at dksX3_setPause_1 9 rfl rfl)
abbrev cX3_pass : ByteArray := prog_11_method_50_code
def yX3_pass : MethodName := ⟨RX3, "pass", "(I)I"⟩
def dkwX3_pass_2 : List UInt8 := [3, 27, 182, 0, 144, 172]
abbrev dktX3_pass_2 : List UInt8 := dkwX3_pass_2 ++ []
def dkwX3_pass_1 : List UInt8 := [17, 3, 231, 164, 0, 7, 5, 167, 0, 4, 3, 182, 0, 54, 153, 0, 5, 3, 172, 42, 182, 0, 33, 42]
abbrev dktX3_pass_1 : List UInt8 := dkwX3_pass_1 ++ dktX3_pass_2
def dkwX3_pass_0 : List UInt8 := [42, 27, 4, 16, 99, 184, 0, 26, 154, 0, 7, 4, 167, 0, 22, 42, 180, 0, 7, 3, 46, 27, 96]
abbrev dktX3_pass_0 : List UInt8 := dkwX3_pass_0 ++ dktX3_pass_1
theorem dksX3_pass_0 : cX3_pass.data.toList.drop 0 = dktX3_pass_0 := by decide +kernel
theorem dksX3_pass_1 : cX3_pass.data.toList.drop 23 = dktX3_pass_1 := dk_seg dksX3_pass_0 23 rfl rfl
theorem dksX3_pass_2 : cX3_pass.data.toList.drop 47 = dktX3_pass_2 := dk_seg dksX3_pass_1 24 rfl rfl
theorem dX3_pass_0 : decode cX3_pass 0 = .ok (.aload_n 0, 1) := dk_42 (dk_at dksX3_pass_0 0 rfl rfl)
theorem dX3_pass_1 : decode cX3_pass 1 = .ok (.iload_n 1, 1) := dk_27 (dk_at dksX3_pass_0 1 rfl rfl)
theorem dX3_pass_2 : decode cX3_pass 2 = .ok (.iconst 1, 1) := dk_4 (dk_at dksX3_pass_0 2 rfl rfl)
theorem dX3_pass_3 : decode cX3_pass 3 = .ok (.bipush 99, 2) := dk_16 99 (dk_at dksX3_pass_0 3 rfl rfl)
theorem dX3_pass_5 : decode cX3_pass 5 = .ok (.invokestatic 26, 3) := dk_184 0 26 (dk_at dksX3_pass_0 5 rfl rfl)
theorem dX3_pass_8 : decode cX3_pass 8 = .ok (.ifCond .ne 7, 3) := dk_154 0 7 (dk_at dksX3_pass_0 8 rfl rfl)
theorem dX3_pass_11 : decode cX3_pass 11 = .ok (.iconst 1, 1) := dk_4 (dk_at dksX3_pass_0 11 rfl rfl)
theorem dX3_pass_12 : decode cX3_pass 12 = .ok (.goto 22, 3) := dk_167 0 22 (dk_at dksX3_pass_0 12 rfl rfl)
theorem dX3_pass_15 : decode cX3_pass 15 = .ok (.aload_n 0, 1) := dk_42 (dk_at dksX3_pass_0 15 rfl rfl)
theorem dX3_pass_16 : decode cX3_pass 16 = .ok (.getfield 7, 3) := dk_180 0 7 (dk_at dksX3_pass_0 16 rfl rfl)
theorem dX3_pass_19 : decode cX3_pass 19 = .ok (.iconst 0, 1) := dk_3 (dk_at dksX3_pass_0 19 rfl rfl)
theorem dX3_pass_20 : decode cX3_pass 20 = .ok (.iaload, 1) := dk_46 (dk_at dksX3_pass_0 20 rfl rfl)
theorem dX3_pass_21 : decode cX3_pass 21 = .ok (.iload_n 1, 1) := dk_27 (dk_at dksX3_pass_0 21 rfl rfl)
theorem dX3_pass_22 : decode cX3_pass 22 = .ok (.iadd, 1) := dk_96 (dk_at dksX3_pass_0 22 rfl rfl)
theorem dX3_pass_23 : decode cX3_pass 23 = .ok (.sipush 999, 3) := dk_17 3 231 (dk_at dksX3_pass_1 0 rfl rfl)
theorem dX3_pass_26 : decode cX3_pass 26 = .ok (.if_icmp .le 7, 3) := dk_164 0 7 (dk_at dksX3_pass_1 3 rfl rfl)
theorem dX3_pass_29 : decode cX3_pass 29 = .ok (.iconst 2, 1) := dk_5 (dk_at dksX3_pass_1 6 rfl rfl)
theorem dX3_pass_30 : decode cX3_pass 30 = .ok (.goto 4, 3) := dk_167 0 4 (dk_at dksX3_pass_1 7 rfl rfl)
theorem dX3_pass_33 : decode cX3_pass 33 = .ok (.iconst 0, 1) := dk_3 (dk_at dksX3_pass_1 10 rfl rfl)
theorem dX3_pass_34 : decode cX3_pass 34 = .ok (.invokevirtual 54, 3) := dk_182 0 54 (dk_at dksX3_pass_1 11 rfl rfl)
theorem dX3_pass_37 : decode cX3_pass 37 = .ok (.ifCond .eq 5, 3) := dk_153 0 5 (dk_at dksX3_pass_1 14 rfl rfl)
theorem dX3_pass_40 : decode cX3_pass 40 = .ok (.iconst 0, 1) := dk_3 (dk_at dksX3_pass_1 17 rfl rfl)
theorem dX3_pass_41 : decode cX3_pass 41 = .ok (.ireturn, 1) := dk_172 (dk_at dksX3_pass_1 18 rfl rfl)
theorem dX3_pass_42 : decode cX3_pass 42 = .ok (.aload_n 0, 1) := dk_42 (dk_at dksX3_pass_1 19 rfl rfl)
theorem dX3_pass_43 : decode cX3_pass 43 = .ok (.invokevirtual 33, 3) := dk_182 0 33 (dk_at dksX3_pass_1 20 rfl rfl)
theorem dX3_pass_46 : decode cX3_pass 46 = .ok (.aload_n 0, 1) := dk_42 (dk_at dksX3_pass_1 23 rfl rfl)
theorem dX3_pass_47 : decode cX3_pass 47 = .ok (.iconst 0, 1) := dk_3 (dk_at dksX3_pass_2 0 rfl rfl)
theorem dX3_pass_48 : decode cX3_pass 48 = .ok (.iload_n 1, 1) := dk_27 (dk_at dksX3_pass_2 1 rfl rfl)
theorem dX3_pass_49 : decode cX3_pass 49 = .ok (.invokevirtual 144, 3) := dk_182 0 144 (dk_at dksX3_pass_2 2 rfl rfl)
theorem dX3_pass_52 : decode cX3_pass 52 = .ok (.ireturn, 1) := dk_172 (dk_at dksX3_pass_2 5 rfl rfl)
abbrev cX3_passes : ByteArray := prog_11_method_49_code
def yX3_passes : MethodName := ⟨RX3, "passes", "(II)I"⟩
def dkwX3_passes_1 : List UInt8 := [167, 255, 239, 29, 172]
abbrev dktX3_passes_1 : List UInt8 := dkwX3_passes_1 ++ []
def dkwX3_passes_0 : List UInt8 := [3, 62, 3, 54, 4, 21, 4, 28, 162, 0, 17, 29, 42, 27, 182, 0, 141, 96, 62, 132, 4, 1]
abbrev dktX3_passes_0 : List UInt8 := dkwX3_passes_0 ++ dktX3_passes_1
theorem dksX3_passes_0 : cX3_passes.data.toList.drop 0 = dktX3_passes_0 := by decide +kernel
theorem dksX3_passes_1 : cX3_passes.data.toList.drop 22 = dktX3_passes_1 := dk_seg dksX3_passes_0 22 rfl rfl
theorem dX3_passes_0 : decode cX3_passes 0 = .ok (.iconst 0, 1) := dk_3 (dk_at dksX3_passes_0 0 rfl rfl)
theorem dX3_passes_1 : decode cX3_passes 1 = .ok (.istore_n 3, 1) := dk_62 (dk_at dksX3_passes_0 1 rfl rfl)
theorem dX3_passes_2 : decode cX3_passes 2 = .ok (.iconst 0, 1) := dk_3 (dk_at dksX3_passes_0 2 rfl rfl)
theorem dX3_passes_3 : decode cX3_passes 3 = .ok (.istore 4, 2) := dk_54 4 (dk_at dksX3_passes_0 3 rfl rfl)
theorem dX3_passes_5 : decode cX3_passes 5 = .ok (.iload 4, 2) := dk_21 4 (dk_at dksX3_passes_0 5 rfl rfl)
theorem dX3_passes_7 : decode cX3_passes 7 = .ok (.iload_n 2, 1) := dk_28 (dk_at dksX3_passes_0 7 rfl rfl)
theorem dX3_passes_8 : decode cX3_passes 8 = .ok (.if_icmp .ge 17, 3) := dk_162 0 17 (dk_at dksX3_passes_0 8 rfl rfl)
theorem dX3_passes_11 : decode cX3_passes 11 = .ok (.iload_n 3, 1) := dk_29 (dk_at dksX3_passes_0 11 rfl rfl)
theorem dX3_passes_12 : decode cX3_passes 12 = .ok (.aload_n 0, 1) := dk_42 (dk_at dksX3_passes_0 12 rfl rfl)
theorem dX3_passes_13 : decode cX3_passes 13 = .ok (.iload_n 1, 1) := dk_27 (dk_at dksX3_passes_0 13 rfl rfl)
theorem dX3_passes_14 : decode cX3_passes 14 = .ok (.invokevirtual 141, 3) := dk_182 0 141 (dk_at dksX3_passes_0 14 rfl rfl)
theorem dX3_passes_17 : decode cX3_passes 17 = .ok (.iadd, 1) := dk_96 (dk_at dksX3_passes_0 17 rfl rfl)
theorem dX3_passes_18 : decode cX3_passes 18 = .ok (.istore_n 3, 1) := dk_62 (dk_at dksX3_passes_0 18 rfl rfl)
theorem dX3_passes_19 : decode cX3_passes 19 = .ok (.iinc 4 1, 3) := dk_132 4 1 (dk_at dksX3_passes_0 19 rfl rfl)
theorem dX3_passes_22 : decode cX3_passes 22 = .ok (.goto (-17), 3) := dk_167 255 239 (dk_at dksX3_passes_1 0 rfl rfl)
theorem dX3_passes_25 : decode cX3_passes 25 = .ok (.iload_n 3, 1) := dk_29 (dk_at dksX3_passes_1 3 rfl rfl)
theorem dX3_passes_26 : decode cX3_passes 26 = .ok (.ireturn, 1) := dk_172 (dk_at dksX3_passes_1 4 rfl rfl)
abbrev cX3_hour : ByteArray := prog_11_method_48_code
def yX3_hour : MethodName := ⟨RX3, "hour", "(I)I"⟩
def dkwX3_hour_2 : List UInt8 := [182, 0, 135, 96, 167, 0, 4, 3, 96, 61, 42, 27, 182, 0, 138, 28, 172]
abbrev dktX3_hour_2 : List UInt8 := dkwX3_hour_2 ++ []
def dkwX3_hour_1 : List UInt8 := [27, 182, 0, 126, 42, 27, 182, 0, 129, 62, 28, 29, 155, 0, 17, 42, 27, 182, 0, 132, 42, 27]
abbrev dktX3_hour_1 : List UInt8 := dkwX3_hour_1 ++ dktX3_hour_2
def dkwX3_hour_0 : List UInt8 := [42, 180, 0, 7, 27, 3, 96, 92, 46, 4, 96, 79, 42, 27, 182, 0, 119, 42, 27, 182, 0, 123, 61, 42]
abbrev dktX3_hour_0 : List UInt8 := dkwX3_hour_0 ++ dktX3_hour_1
theorem dksX3_hour_0 : cX3_hour.data.toList.drop 0 = dktX3_hour_0 := by decide +kernel
theorem dksX3_hour_1 : cX3_hour.data.toList.drop 24 = dktX3_hour_1 := dk_seg dksX3_hour_0 24 rfl rfl
theorem dksX3_hour_2 : cX3_hour.data.toList.drop 46 = dktX3_hour_2 := dk_seg dksX3_hour_1 22 rfl rfl
theorem dX3_hour_0 : decode cX3_hour 0 = .ok (.aload_n 0, 1) := dk_42 (dk_at dksX3_hour_0 0 rfl rfl)
theorem dX3_hour_1 : decode cX3_hour 1 = .ok (.getfield 7, 3) := dk_180 0 7 (dk_at dksX3_hour_0 1 rfl rfl)
theorem dX3_hour_4 : decode cX3_hour 4 = .ok (.iload_n 1, 1) := dk_27 (dk_at dksX3_hour_0 4 rfl rfl)
theorem dX3_hour_5 : decode cX3_hour 5 = .ok (.iconst 0, 1) := dk_3 (dk_at dksX3_hour_0 5 rfl rfl)
theorem dX3_hour_6 : decode cX3_hour 6 = .ok (.iadd, 1) := dk_96 (dk_at dksX3_hour_0 6 rfl rfl)
theorem dX3_hour_7 : decode cX3_hour 7 = .ok (.dup2, 1) := dk_92 (dk_at dksX3_hour_0 7 rfl rfl)
theorem dX3_hour_8 : decode cX3_hour 8 = .ok (.iaload, 1) := dk_46 (dk_at dksX3_hour_0 8 rfl rfl)
theorem dX3_hour_9 : decode cX3_hour 9 = .ok (.iconst 1, 1) := dk_4 (dk_at dksX3_hour_0 9 rfl rfl)
theorem dX3_hour_10 : decode cX3_hour 10 = .ok (.iadd, 1) := dk_96 (dk_at dksX3_hour_0 10 rfl rfl)
theorem dX3_hour_11 : decode cX3_hour 11 = .ok (.iastore, 1) := dk_79 (dk_at dksX3_hour_0 11 rfl rfl)
theorem dX3_hour_12 : decode cX3_hour 12 = .ok (.aload_n 0, 1) := dk_42 (dk_at dksX3_hour_0 12 rfl rfl)
theorem dX3_hour_13 : decode cX3_hour 13 = .ok (.iload_n 1, 1) := dk_27 (dk_at dksX3_hour_0 13 rfl rfl)
theorem dX3_hour_14 : decode cX3_hour 14 = .ok (.invokevirtual 119, 3) := dk_182 0 119 (dk_at dksX3_hour_0 14 rfl rfl)
theorem dX3_hour_17 : decode cX3_hour 17 = .ok (.aload_n 0, 1) := dk_42 (dk_at dksX3_hour_0 17 rfl rfl)
theorem dX3_hour_18 : decode cX3_hour 18 = .ok (.iload_n 1, 1) := dk_27 (dk_at dksX3_hour_0 18 rfl rfl)
theorem dX3_hour_19 : decode cX3_hour 19 = .ok (.invokevirtual 123, 3) := dk_182 0 123 (dk_at dksX3_hour_0 19 rfl rfl)
theorem dX3_hour_22 : decode cX3_hour 22 = .ok (.istore_n 2, 1) := dk_61 (dk_at dksX3_hour_0 22 rfl rfl)
theorem dX3_hour_23 : decode cX3_hour 23 = .ok (.aload_n 0, 1) := dk_42 (dk_at dksX3_hour_0 23 rfl rfl)
theorem dX3_hour_24 : decode cX3_hour 24 = .ok (.iload_n 1, 1) := dk_27 (dk_at dksX3_hour_1 0 rfl rfl)
theorem dX3_hour_25 : decode cX3_hour 25 = .ok (.invokevirtual 126, 3) := dk_182 0 126 (dk_at dksX3_hour_1 1 rfl rfl)
theorem dX3_hour_28 : decode cX3_hour 28 = .ok (.aload_n 0, 1) := dk_42 (dk_at dksX3_hour_1 4 rfl rfl)
theorem dX3_hour_29 : decode cX3_hour 29 = .ok (.iload_n 1, 1) := dk_27 (dk_at dksX3_hour_1 5 rfl rfl)
theorem dX3_hour_30 : decode cX3_hour 30 = .ok (.invokevirtual 129, 3) := dk_182 0 129 (dk_at dksX3_hour_1 6 rfl rfl)
theorem dX3_hour_33 : decode cX3_hour 33 = .ok (.istore_n 3, 1) := dk_62 (dk_at dksX3_hour_1 9 rfl rfl)
theorem dX3_hour_34 : decode cX3_hour 34 = .ok (.iload_n 2, 1) := dk_28 (dk_at dksX3_hour_1 10 rfl rfl)
theorem dX3_hour_35 : decode cX3_hour 35 = .ok (.iload_n 3, 1) := dk_29 (dk_at dksX3_hour_1 11 rfl rfl)
theorem dX3_hour_36 : decode cX3_hour 36 = .ok (.ifCond .lt 17, 3) := dk_155 0 17 (dk_at dksX3_hour_1 12 rfl rfl)
theorem dX3_hour_39 : decode cX3_hour 39 = .ok (.aload_n 0, 1) := dk_42 (dk_at dksX3_hour_1 15 rfl rfl)
theorem dX3_hour_40 : decode cX3_hour 40 = .ok (.iload_n 1, 1) := dk_27 (dk_at dksX3_hour_1 16 rfl rfl)
theorem dX3_hour_41 : decode cX3_hour 41 = .ok (.invokevirtual 132, 3) := dk_182 0 132 (dk_at dksX3_hour_1 17 rfl rfl)
theorem dX3_hour_44 : decode cX3_hour 44 = .ok (.aload_n 0, 1) := dk_42 (dk_at dksX3_hour_1 20 rfl rfl)
theorem dX3_hour_45 : decode cX3_hour 45 = .ok (.iload_n 1, 1) := dk_27 (dk_at dksX3_hour_1 21 rfl rfl)
theorem dX3_hour_46 : decode cX3_hour 46 = .ok (.invokevirtual 135, 3) := dk_182 0 135 (dk_at dksX3_hour_2 0 rfl rfl)
theorem dX3_hour_49 : decode cX3_hour 49 = .ok (.iadd, 1) := dk_96 (dk_at dksX3_hour_2 3 rfl rfl)
theorem dX3_hour_50 : decode cX3_hour 50 = .ok (.goto 4, 3) := dk_167 0 4 (dk_at dksX3_hour_2 4 rfl rfl)
theorem dX3_hour_53 : decode cX3_hour 53 = .ok (.iconst 0, 1) := dk_3 (dk_at dksX3_hour_2 7 rfl rfl)
theorem dX3_hour_54 : decode cX3_hour 54 = .ok (.iadd, 1) := dk_96 (dk_at dksX3_hour_2 8 rfl rfl)
theorem dX3_hour_55 : decode cX3_hour 55 = .ok (.istore_n 2, 1) := dk_61 (dk_at dksX3_hour_2 9 rfl rfl)
theorem dX3_hour_56 : decode cX3_hour 56 = .ok (.aload_n 0, 1) := dk_42 (dk_at dksX3_hour_2 10 rfl rfl)
theorem dX3_hour_57 : decode cX3_hour 57 = .ok (.iload_n 1, 1) := dk_27 (dk_at dksX3_hour_2 11 rfl rfl)
theorem dX3_hour_58 : decode cX3_hour 58 = .ok (.invokevirtual 138, 3) := dk_182 0 138 (dk_at dksX3_hour_2 12 rfl rfl)
theorem dX3_hour_61 : decode cX3_hour 61 = .ok (.iload_n 2, 1) := dk_28 (dk_at dksX3_hour_2 15 rfl rfl)
theorem dX3_hour_62 : decode cX3_hour 62 = .ok (.ireturn, 1) := dk_172 (dk_at dksX3_hour_2 16 rfl rfl)
abbrev cX3_warms : ByteArray := prog_11_method_34_code
def yX3_warms : MethodName := ⟨RX3, "warms", "(I)V"⟩
def dkwX3_warms_5 : List UInt8 := [132, 2, 1, 167, 255, 136, 177]
abbrev dktX3_warms_5 : List UInt8 := dkwX3_warms_5 ++ []
def dkwX3_warms_4 : List UInt8 := [180, 0, 7, 27, 16, 23, 96, 28, 96, 21, 5, 16, 99, 164, 0, 8, 16, 99, 167, 0, 5, 21, 5, 79]
abbrev dktX3_warms_4 : List UInt8 := dkwX3_warms_4 ++ dktX3_warms_5
def dkwX3_warms_3 : List UInt8 := [153, 0, 8, 16, 10, 167, 0, 17, 21, 4, 16, 40, 164, 0, 8, 16, 40, 167, 0, 5, 21, 4, 79, 42]
abbrev dktX3_warms_3 : List UInt8 := dkwX3_warms_3 ++ dktX3_warms_4
def dkwX3_warms_2 : List UInt8 := [29, 153, 0, 7, 6, 167, 0, 4, 4, 96, 54, 5, 42, 180, 0, 7, 27, 16, 15, 96, 28, 96, 29]
abbrev dktX3_warms_2 : List UInt8 := dkwX3_warms_2 ++ dktX3_warms_3
def dkwX3_warms_1 : List UInt8 := [96, 46, 42, 180, 0, 7, 27, 6, 96, 46, 96, 54, 4, 42, 180, 0, 7, 27, 16, 23, 96, 28, 96, 46]
abbrev dktX3_warms_1 : List UInt8 := dkwX3_warms_1 ++ dktX3_warms_2
def dkwX3_warms_0 : List UInt8 := [3, 61, 28, 16, 8, 162, 0, 120, 42, 27, 28, 182, 0, 83, 62, 42, 180, 0, 7, 27, 16, 15, 96, 28]
abbrev dktX3_warms_0 : List UInt8 := dkwX3_warms_0 ++ dktX3_warms_1
theorem dksX3_warms_0 : cX3_warms.data.toList.drop 0 = dktX3_warms_0 := by decide +kernel
theorem dksX3_warms_1 : cX3_warms.data.toList.drop 24 = dktX3_warms_1 := dk_seg dksX3_warms_0 24 rfl rfl
theorem dksX3_warms_2 : cX3_warms.data.toList.drop 48 = dktX3_warms_2 := dk_seg dksX3_warms_1 24 rfl rfl
theorem dksX3_warms_3 : cX3_warms.data.toList.drop 71 = dktX3_warms_3 := dk_seg dksX3_warms_2 23 rfl rfl
theorem dksX3_warms_4 : cX3_warms.data.toList.drop 95 = dktX3_warms_4 := dk_seg dksX3_warms_3 24 rfl rfl
theorem dksX3_warms_5 : cX3_warms.data.toList.drop 119 = dktX3_warms_5 := dk_seg dksX3_warms_4 24 rfl rfl
theorem dX3_warms_0 : decode cX3_warms 0 = .ok (.iconst 0, 1) := dk_3 (dk_at dksX3_warms_0 0 rfl rfl)
theorem dX3_warms_1 : decode cX3_warms 1 = .ok (.istore_n 2, 1) := dk_61 (dk_at dksX3_warms_0 1 rfl rfl)
theorem dX3_warms_2 : decode cX3_warms 2 = .ok (.iload_n 2, 1) := dk_28 (dk_at dksX3_warms_0 2 rfl rfl)
theorem dX3_warms_3 : decode cX3_warms 3 = .ok (.bipush 8, 2) := dk_16 8 (dk_at dksX3_warms_0 3 rfl rfl)
theorem dX3_warms_5 : decode cX3_warms 5 = .ok (.if_icmp .ge 120, 3) := dk_162 0 120 (dk_at dksX3_warms_0 5 rfl rfl)
theorem dX3_warms_8 : decode cX3_warms 8 = .ok (.aload_n 0, 1) := dk_42 (dk_at dksX3_warms_0 8 rfl rfl)
theorem dX3_warms_9 : decode cX3_warms 9 = .ok (.iload_n 1, 1) := dk_27 (dk_at dksX3_warms_0 9 rfl rfl)
theorem dX3_warms_10 : decode cX3_warms 10 = .ok (.iload_n 2, 1) := dk_28 (dk_at dksX3_warms_0 10 rfl rfl)
theorem dX3_warms_11 : decode cX3_warms 11 = .ok (.invokevirtual 83, 3) := dk_182 0 83 (dk_at dksX3_warms_0 11 rfl rfl)
theorem dX3_warms_14 : decode cX3_warms 14 = .ok (.istore_n 3, 1) := dk_62 (dk_at dksX3_warms_0 14 rfl rfl)
theorem dX3_warms_15 : decode cX3_warms 15 = .ok (.aload_n 0, 1) := dk_42 (dk_at dksX3_warms_0 15 rfl rfl)
theorem dX3_warms_16 : decode cX3_warms 16 = .ok (.getfield 7, 3) := dk_180 0 7 (dk_at dksX3_warms_0 16 rfl rfl)
theorem dX3_warms_19 : decode cX3_warms 19 = .ok (.iload_n 1, 1) := dk_27 (dk_at dksX3_warms_0 19 rfl rfl)
theorem dX3_warms_20 : decode cX3_warms 20 = .ok (.bipush 15, 2) := dk_16 15 (dk_at dksX3_warms_0 20 rfl rfl)
theorem dX3_warms_22 : decode cX3_warms 22 = .ok (.iadd, 1) := dk_96 (dk_at dksX3_warms_0 22 rfl rfl)
theorem dX3_warms_23 : decode cX3_warms 23 = .ok (.iload_n 2, 1) := dk_28 (dk_at dksX3_warms_0 23 rfl rfl)
theorem dX3_warms_24 : decode cX3_warms 24 = .ok (.iadd, 1) := dk_96 (dk_at dksX3_warms_1 0 rfl rfl)
theorem dX3_warms_25 : decode cX3_warms 25 = .ok (.iaload, 1) := dk_46 (dk_at dksX3_warms_1 1 rfl rfl)
theorem dX3_warms_26 : decode cX3_warms 26 = .ok (.aload_n 0, 1) := dk_42 (dk_at dksX3_warms_1 2 rfl rfl)
theorem dX3_warms_27 : decode cX3_warms 27 = .ok (.getfield 7, 3) := dk_180 0 7 (dk_at dksX3_warms_1 3 rfl rfl)
theorem dX3_warms_30 : decode cX3_warms 30 = .ok (.iload_n 1, 1) := dk_27 (dk_at dksX3_warms_1 6 rfl rfl)
theorem dX3_warms_31 : decode cX3_warms 31 = .ok (.iconst 3, 1) := dk_6 (dk_at dksX3_warms_1 7 rfl rfl)
theorem dX3_warms_32 : decode cX3_warms 32 = .ok (.iadd, 1) := dk_96 (dk_at dksX3_warms_1 8 rfl rfl)
theorem dX3_warms_33 : decode cX3_warms 33 = .ok (.iaload, 1) := dk_46 (dk_at dksX3_warms_1 9 rfl rfl)
theorem dX3_warms_34 : decode cX3_warms 34 = .ok (.iadd, 1) := dk_96 (dk_at dksX3_warms_1 10 rfl rfl)
theorem dX3_warms_35 : decode cX3_warms 35 = .ok (.istore 4, 2) := dk_54 4 (dk_at dksX3_warms_1 11 rfl rfl)
theorem dX3_warms_37 : decode cX3_warms 37 = .ok (.aload_n 0, 1) := dk_42 (dk_at dksX3_warms_1 13 rfl rfl)
theorem dX3_warms_38 : decode cX3_warms 38 = .ok (.getfield 7, 3) := dk_180 0 7 (dk_at dksX3_warms_1 14 rfl rfl)
theorem dX3_warms_41 : decode cX3_warms 41 = .ok (.iload_n 1, 1) := dk_27 (dk_at dksX3_warms_1 17 rfl rfl)
theorem dX3_warms_42 : decode cX3_warms 42 = .ok (.bipush 23, 2) := dk_16 23 (dk_at dksX3_warms_1 18 rfl rfl)
theorem dX3_warms_44 : decode cX3_warms 44 = .ok (.iadd, 1) := dk_96 (dk_at dksX3_warms_1 20 rfl rfl)
theorem dX3_warms_45 : decode cX3_warms 45 = .ok (.iload_n 2, 1) := dk_28 (dk_at dksX3_warms_1 21 rfl rfl)
theorem dX3_warms_46 : decode cX3_warms 46 = .ok (.iadd, 1) := dk_96 (dk_at dksX3_warms_1 22 rfl rfl)
theorem dX3_warms_47 : decode cX3_warms 47 = .ok (.iaload, 1) := dk_46 (dk_at dksX3_warms_1 23 rfl rfl)
theorem dX3_warms_48 : decode cX3_warms 48 = .ok (.iload_n 3, 1) := dk_29 (dk_at dksX3_warms_2 0 rfl rfl)
theorem dX3_warms_49 : decode cX3_warms 49 = .ok (.ifCond .eq 7, 3) := dk_153 0 7 (dk_at dksX3_warms_2 1 rfl rfl)
theorem dX3_warms_52 : decode cX3_warms 52 = .ok (.iconst 3, 1) := dk_6 (dk_at dksX3_warms_2 4 rfl rfl)
theorem dX3_warms_53 : decode cX3_warms 53 = .ok (.goto 4, 3) := dk_167 0 4 (dk_at dksX3_warms_2 5 rfl rfl)
theorem dX3_warms_56 : decode cX3_warms 56 = .ok (.iconst 1, 1) := dk_4 (dk_at dksX3_warms_2 8 rfl rfl)
theorem dX3_warms_57 : decode cX3_warms 57 = .ok (.iadd, 1) := dk_96 (dk_at dksX3_warms_2 9 rfl rfl)
theorem dX3_warms_58 : decode cX3_warms 58 = .ok (.istore 5, 2) := dk_54 5 (dk_at dksX3_warms_2 10 rfl rfl)
theorem dX3_warms_60 : decode cX3_warms 60 = .ok (.aload_n 0, 1) := dk_42 (dk_at dksX3_warms_2 12 rfl rfl)
theorem dX3_warms_61 : decode cX3_warms 61 = .ok (.getfield 7, 3) := dk_180 0 7 (dk_at dksX3_warms_2 13 rfl rfl)
theorem dX3_warms_64 : decode cX3_warms 64 = .ok (.iload_n 1, 1) := dk_27 (dk_at dksX3_warms_2 16 rfl rfl)
theorem dX3_warms_65 : decode cX3_warms 65 = .ok (.bipush 15, 2) := dk_16 15 (dk_at dksX3_warms_2 17 rfl rfl)
theorem dX3_warms_67 : decode cX3_warms 67 = .ok (.iadd, 1) := dk_96 (dk_at dksX3_warms_2 19 rfl rfl)
theorem dX3_warms_68 : decode cX3_warms 68 = .ok (.iload_n 2, 1) := dk_28 (dk_at dksX3_warms_2 20 rfl rfl)
theorem dX3_warms_69 : decode cX3_warms 69 = .ok (.iadd, 1) := dk_96 (dk_at dksX3_warms_2 21 rfl rfl)
theorem dX3_warms_70 : decode cX3_warms 70 = .ok (.iload_n 3, 1) := dk_29 (dk_at dksX3_warms_2 22 rfl rfl)
theorem dX3_warms_71 : decode cX3_warms 71 = .ok (.ifCond .eq 8, 3) := dk_153 0 8 (dk_at dksX3_warms_3 0 rfl rfl)
theorem dX3_warms_74 : decode cX3_warms 74 = .ok (.bipush 10, 2) := dk_16 10 (dk_at dksX3_warms_3 3 rfl rfl)
theorem dX3_warms_76 : decode cX3_warms 76 = .ok (.goto 17, 3) := dk_167 0 17 (dk_at dksX3_warms_3 5 rfl rfl)
theorem dX3_warms_79 : decode cX3_warms 79 = .ok (.iload 4, 2) := dk_21 4 (dk_at dksX3_warms_3 8 rfl rfl)
theorem dX3_warms_81 : decode cX3_warms 81 = .ok (.bipush 40, 2) := dk_16 40 (dk_at dksX3_warms_3 10 rfl rfl)
theorem dX3_warms_83 : decode cX3_warms 83 = .ok (.if_icmp .le 8, 3) := dk_164 0 8 (dk_at dksX3_warms_3 12 rfl rfl)
theorem dX3_warms_86 : decode cX3_warms 86 = .ok (.bipush 40, 2) := dk_16 40 (dk_at dksX3_warms_3 15 rfl rfl)
theorem dX3_warms_88 : decode cX3_warms 88 = .ok (.goto 5, 3) := dk_167 0 5 (dk_at dksX3_warms_3 17 rfl rfl)
theorem dX3_warms_91 : decode cX3_warms 91 = .ok (.iload 4, 2) := dk_21 4 (dk_at dksX3_warms_3 20 rfl rfl)
theorem dX3_warms_93 : decode cX3_warms 93 = .ok (.iastore, 1) := dk_79 (dk_at dksX3_warms_3 22 rfl rfl)
theorem dX3_warms_94 : decode cX3_warms 94 = .ok (.aload_n 0, 1) := dk_42 (dk_at dksX3_warms_3 23 rfl rfl)
theorem dX3_warms_95 : decode cX3_warms 95 = .ok (.getfield 7, 3) := dk_180 0 7 (dk_at dksX3_warms_4 0 rfl rfl)
theorem dX3_warms_98 : decode cX3_warms 98 = .ok (.iload_n 1, 1) := dk_27 (dk_at dksX3_warms_4 3 rfl rfl)
theorem dX3_warms_99 : decode cX3_warms 99 = .ok (.bipush 23, 2) := dk_16 23 (dk_at dksX3_warms_4 4 rfl rfl)
theorem dX3_warms_101 : decode cX3_warms 101 = .ok (.iadd, 1) := dk_96 (dk_at dksX3_warms_4 6 rfl rfl)
theorem dX3_warms_102 : decode cX3_warms 102 = .ok (.iload_n 2, 1) := dk_28 (dk_at dksX3_warms_4 7 rfl rfl)
theorem dX3_warms_103 : decode cX3_warms 103 = .ok (.iadd, 1) := dk_96 (dk_at dksX3_warms_4 8 rfl rfl)
theorem dX3_warms_104 : decode cX3_warms 104 = .ok (.iload 5, 2) := dk_21 5 (dk_at dksX3_warms_4 9 rfl rfl)
theorem dX3_warms_106 : decode cX3_warms 106 = .ok (.bipush 99, 2) := dk_16 99 (dk_at dksX3_warms_4 11 rfl rfl)
theorem dX3_warms_108 : decode cX3_warms 108 = .ok (.if_icmp .le 8, 3) := dk_164 0 8 (dk_at dksX3_warms_4 13 rfl rfl)
theorem dX3_warms_111 : decode cX3_warms 111 = .ok (.bipush 99, 2) := dk_16 99 (dk_at dksX3_warms_4 16 rfl rfl)
theorem dX3_warms_113 : decode cX3_warms 113 = .ok (.goto 5, 3) := dk_167 0 5 (dk_at dksX3_warms_4 18 rfl rfl)
theorem dX3_warms_116 : decode cX3_warms 116 = .ok (.iload 5, 2) := dk_21 5 (dk_at dksX3_warms_4 21 rfl rfl)
theorem dX3_warms_118 : decode cX3_warms 118 = .ok (.iastore, 1) := dk_79 (dk_at dksX3_warms_4 23 rfl rfl)
theorem dX3_warms_119 : decode cX3_warms 119 = .ok (.iinc 2 1, 3) := dk_132 2 1 (dk_at dksX3_warms_5 0 rfl rfl)
theorem dX3_warms_122 : decode cX3_warms 122 = .ok (.goto (-120), 3) := dk_167 255 136 (dk_at dksX3_warms_5 3 rfl rfl)
theorem dX3_warms_125 : decode cX3_warms 125 = .ok (.return_, 1) := dk_177 (dk_at dksX3_warms_5 6 rfl rfl)
abbrev cX3_isWet : ByteArray := prog_11_method_28_code
def yX3_isWet : MethodName := ⟨RX3, "isWet", "(II)Z"⟩
def dkwX3_isWet_1 : List UInt8 := [161, 0, 7, 4, 167, 0, 4, 3, 172]
abbrev dktX3_isWet_1 : List UInt8 := dkwX3_isWet_1 ++ []
def dkwX3_isWet_0 : List UInt8 := [42, 27, 42, 180, 0, 7, 27, 3, 96, 46, 182, 0, 73, 42, 180, 0, 7, 27, 16, 7, 96, 28, 96, 46]
abbrev dktX3_isWet_0 : List UInt8 := dkwX3_isWet_0 ++ dktX3_isWet_1
theorem dksX3_isWet_0 : cX3_isWet.data.toList.drop 0 = dktX3_isWet_0 := by decide +kernel
theorem dksX3_isWet_1 : cX3_isWet.data.toList.drop 24 = dktX3_isWet_1 := dk_seg dksX3_isWet_0 24 rfl rfl
theorem dX3_isWet_0 : decode cX3_isWet 0 = .ok (.aload_n 0, 1) := dk_42 (dk_at dksX3_isWet_0 0 rfl rfl)
theorem dX3_isWet_1 : decode cX3_isWet 1 = .ok (.iload_n 1, 1) := dk_27 (dk_at dksX3_isWet_0 1 rfl rfl)
theorem dX3_isWet_2 : decode cX3_isWet 2 = .ok (.aload_n 0, 1) := dk_42 (dk_at dksX3_isWet_0 2 rfl rfl)
theorem dX3_isWet_3 : decode cX3_isWet 3 = .ok (.getfield 7, 3) := dk_180 0 7 (dk_at dksX3_isWet_0 3 rfl rfl)
theorem dX3_isWet_6 : decode cX3_isWet 6 = .ok (.iload_n 1, 1) := dk_27 (dk_at dksX3_isWet_0 6 rfl rfl)
theorem dX3_isWet_7 : decode cX3_isWet 7 = .ok (.iconst 0, 1) := dk_3 (dk_at dksX3_isWet_0 7 rfl rfl)
theorem dX3_isWet_8 : decode cX3_isWet 8 = .ok (.iadd, 1) := dk_96 (dk_at dksX3_isWet_0 8 rfl rfl)
theorem dX3_isWet_9 : decode cX3_isWet 9 = .ok (.iaload, 1) := dk_46 (dk_at dksX3_isWet_0 9 rfl rfl)
theorem dX3_isWet_10 : decode cX3_isWet 10 = .ok (.invokevirtual 73, 3) := dk_182 0 73 (dk_at dksX3_isWet_0 10 rfl rfl)
theorem dX3_isWet_13 : decode cX3_isWet 13 = .ok (.aload_n 0, 1) := dk_42 (dk_at dksX3_isWet_0 13 rfl rfl)
theorem dX3_isWet_14 : decode cX3_isWet 14 = .ok (.getfield 7, 3) := dk_180 0 7 (dk_at dksX3_isWet_0 14 rfl rfl)
theorem dX3_isWet_17 : decode cX3_isWet 17 = .ok (.iload_n 1, 1) := dk_27 (dk_at dksX3_isWet_0 17 rfl rfl)
theorem dX3_isWet_18 : decode cX3_isWet 18 = .ok (.bipush 7, 2) := dk_16 7 (dk_at dksX3_isWet_0 18 rfl rfl)
theorem dX3_isWet_20 : decode cX3_isWet 20 = .ok (.iadd, 1) := dk_96 (dk_at dksX3_isWet_0 20 rfl rfl)
theorem dX3_isWet_21 : decode cX3_isWet 21 = .ok (.iload_n 2, 1) := dk_28 (dk_at dksX3_isWet_0 21 rfl rfl)
theorem dX3_isWet_22 : decode cX3_isWet 22 = .ok (.iadd, 1) := dk_96 (dk_at dksX3_isWet_0 22 rfl rfl)
theorem dX3_isWet_23 : decode cX3_isWet 23 = .ok (.iaload, 1) := dk_46 (dk_at dksX3_isWet_0 23 rfl rfl)
theorem dX3_isWet_24 : decode cX3_isWet 24 = .ok (.if_icmp .lt 7, 3) := dk_161 0 7 (dk_at dksX3_isWet_1 0 rfl rfl)
theorem dX3_isWet_27 : decode cX3_isWet 27 = .ok (.iconst 1, 1) := dk_4 (dk_at dksX3_isWet_1 3 rfl rfl)
theorem dX3_isWet_28 : decode cX3_isWet 28 = .ok (.goto 4, 3) := dk_167 0 4 (dk_at dksX3_isWet_1 4 rfl rfl)
theorem dX3_isWet_31 : decode cX3_isWet 31 = .ok (.iconst 0, 1) := dk_3 (dk_at dksX3_isWet_1 7 rfl rfl)
theorem dX3_isWet_32 : decode cX3_isWet 32 = .ok (.ireturn, 1) := dk_172 (dk_at dksX3_isWet_1 8 rfl rfl)
abbrev cX3_grazes : ByteArray := prog_11_method_37_code
def yX3_grazes : MethodName := ⟨RX3, "grazes", "(I)I"⟩
def dkwX3_grazes_7 : List UInt8 := [28, 172]
abbrev dktX3_grazes_7 : List UInt8 := dkwX3_grazes_7 ++ []
def dkwX3_grazes_6 : List UInt8 := [180, 0, 7, 21, 4, 7, 96, 46, 154, 0, 7, 3, 167, 0, 4, 4, 96, 61, 132, 3, 1, 167, 255, 97]
abbrev dktX3_grazes_6 : List UInt8 := dkwX3_grazes_6 ++ dktX3_grazes_7
def dkwX3_grazes_5 : List UInt8 := [167, 0, 20, 42, 180, 0, 7, 21, 4, 5, 96, 46, 154, 0, 7, 5, 167, 0, 4, 3, 79, 28, 42]
abbrev dktX3_grazes_5 : List UInt8 := dkwX3_grazes_5 ++ dktX3_grazes_6
def dkwX3_grazes_4 : List UInt8 := [100, 79, 42, 180, 0, 7, 21, 4, 7, 96, 42, 180, 0, 7, 21, 4, 4, 96, 46, 154, 0, 7, 4]
abbrev dktX3_grazes_4 : List UInt8 := dkwX3_grazes_4 ++ dktX3_grazes_5
def dkwX3_grazes_3 : List UInt8 := [21, 4, 5, 96, 92, 46, 42, 180, 0, 7, 27, 3, 96, 46, 7, 112, 154, 0, 7, 4, 167, 0, 4, 3]
abbrev dktX3_grazes_3 : List UInt8 := dkwX3_grazes_3 ++ dktX3_grazes_4
def dkwX3_grazes_2 : List UInt8 := [153, 0, 13, 42, 27, 21, 4, 182, 0, 86, 167, 0, 10, 42, 27, 21, 4, 182, 0, 90, 42, 180, 0, 7]
abbrev dktX3_grazes_2 : List UInt8 := dkwX3_grazes_2 ++ dktX3_grazes_3
def dkwX3_grazes_1 : List UInt8 := [42, 180, 0, 7, 21, 4, 7, 96, 46, 154, 0, 127, 42, 27, 42, 180, 0, 7, 21, 4, 46, 182, 0, 83]
abbrev dktX3_grazes_1 : List UInt8 := dkwX3_grazes_1 ++ dktX3_grazes_2
def dkwX3_grazes_0 : List UInt8 := [3, 61, 3, 62, 29, 42, 180, 0, 7, 27, 16, 31, 96, 46, 162, 0, 152, 27, 29, 184, 0, 36, 54, 4]
abbrev dktX3_grazes_0 : List UInt8 := dkwX3_grazes_0 ++ dktX3_grazes_1
theorem dksX3_grazes_0 : cX3_grazes.data.toList.drop 0 = dktX3_grazes_0 := by decide +kernel
theorem dksX3_grazes_1 : cX3_grazes.data.toList.drop 24 = dktX3_grazes_1 := dk_seg dksX3_grazes_0 24 rfl rfl
theorem dksX3_grazes_2 : cX3_grazes.data.toList.drop 48 = dktX3_grazes_2 := dk_seg dksX3_grazes_1 24 rfl rfl
theorem dksX3_grazes_3 : cX3_grazes.data.toList.drop 72 = dktX3_grazes_3 := dk_seg dksX3_grazes_2 24 rfl rfl
theorem dksX3_grazes_4 : cX3_grazes.data.toList.drop 96 = dktX3_grazes_4 := dk_seg dksX3_grazes_3 24 rfl rfl
theorem dksX3_grazes_5 : cX3_grazes.data.toList.drop 119 = dktX3_grazes_5 := dk_seg dksX3_grazes_4 23 rfl rfl
theorem dksX3_grazes_6 : cX3_grazes.data.toList.drop 142 = dktX3_grazes_6 := dk_seg dksX3_grazes_5 23 rfl rfl
theorem dksX3_grazes_7 : cX3_grazes.data.toList.drop 166 = dktX3_grazes_7 := dk_seg dksX3_grazes_6 24 rfl rfl
theorem dX3_grazes_0 : decode cX3_grazes 0 = .ok (.iconst 0, 1) := dk_3 (dk_at dksX3_grazes_0 0 rfl rfl)
theorem dX3_grazes_1 : decode cX3_grazes 1 = .ok (.istore_n 2, 1) := dk_61 (dk_at dksX3_grazes_0 1 rfl rfl)
theorem dX3_grazes_2 : decode cX3_grazes 2 = .ok (.iconst 0, 1) := dk_3 (dk_at dksX3_grazes_0 2 rfl rfl)
theorem dX3_grazes_3 : decode cX3_grazes 3 = .ok (.istore_n 3, 1) := dk_62 (dk_at dksX3_grazes_0 3 rfl rfl)
theorem dX3_grazes_4 : decode cX3_grazes 4 = .ok (.iload_n 3, 1) := dk_29 (dk_at dksX3_grazes_0 4 rfl rfl)
theorem dX3_grazes_5 : decode cX3_grazes 5 = .ok (.aload_n 0, 1) := dk_42 (dk_at dksX3_grazes_0 5 rfl rfl)
theorem dX3_grazes_6 : decode cX3_grazes 6 = .ok (.getfield 7, 3) := dk_180 0 7 (dk_at dksX3_grazes_0 6 rfl rfl)
theorem dX3_grazes_9 : decode cX3_grazes 9 = .ok (.iload_n 1, 1) := dk_27 (dk_at dksX3_grazes_0 9 rfl rfl)
theorem dX3_grazes_10 : decode cX3_grazes 10 = .ok (.bipush 31, 2) := dk_16 31 (dk_at dksX3_grazes_0 10 rfl rfl)
theorem dX3_grazes_12 : decode cX3_grazes 12 = .ok (.iadd, 1) := dk_96 (dk_at dksX3_grazes_0 12 rfl rfl)
theorem dX3_grazes_13 : decode cX3_grazes 13 = .ok (.iaload, 1) := dk_46 (dk_at dksX3_grazes_0 13 rfl rfl)
theorem dX3_grazes_14 : decode cX3_grazes 14 = .ok (.if_icmp .ge 152, 3) := dk_162 0 152 (dk_at dksX3_grazes_0 14 rfl rfl)
theorem dX3_grazes_17 : decode cX3_grazes 17 = .ok (.iload_n 1, 1) := dk_27 (dk_at dksX3_grazes_0 17 rfl rfl)
theorem dX3_grazes_18 : decode cX3_grazes 18 = .ok (.iload_n 3, 1) := dk_29 (dk_at dksX3_grazes_0 18 rfl rfl)
theorem dX3_grazes_19 : decode cX3_grazes 19 = .ok (.invokestatic 36, 3) := dk_184 0 36 (dk_at dksX3_grazes_0 19 rfl rfl)
theorem dX3_grazes_22 : decode cX3_grazes 22 = .ok (.istore 4, 2) := dk_54 4 (dk_at dksX3_grazes_0 22 rfl rfl)
theorem dX3_grazes_24 : decode cX3_grazes 24 = .ok (.aload_n 0, 1) := dk_42 (dk_at dksX3_grazes_1 0 rfl rfl)
theorem dX3_grazes_25 : decode cX3_grazes 25 = .ok (.getfield 7, 3) := dk_180 0 7 (dk_at dksX3_grazes_1 1 rfl rfl)
theorem dX3_grazes_28 : decode cX3_grazes 28 = .ok (.iload 4, 2) := dk_21 4 (dk_at dksX3_grazes_1 4 rfl rfl)
theorem dX3_grazes_30 : decode cX3_grazes 30 = .ok (.iconst 4, 1) := dk_7 (dk_at dksX3_grazes_1 6 rfl rfl)
theorem dX3_grazes_31 : decode cX3_grazes 31 = .ok (.iadd, 1) := dk_96 (dk_at dksX3_grazes_1 7 rfl rfl)
theorem dX3_grazes_32 : decode cX3_grazes 32 = .ok (.iaload, 1) := dk_46 (dk_at dksX3_grazes_1 8 rfl rfl)
theorem dX3_grazes_33 : decode cX3_grazes 33 = .ok (.ifCond .ne 127, 3) := dk_154 0 127 (dk_at dksX3_grazes_1 9 rfl rfl)
theorem dX3_grazes_36 : decode cX3_grazes 36 = .ok (.aload_n 0, 1) := dk_42 (dk_at dksX3_grazes_1 12 rfl rfl)
theorem dX3_grazes_37 : decode cX3_grazes 37 = .ok (.iload_n 1, 1) := dk_27 (dk_at dksX3_grazes_1 13 rfl rfl)
theorem dX3_grazes_38 : decode cX3_grazes 38 = .ok (.aload_n 0, 1) := dk_42 (dk_at dksX3_grazes_1 14 rfl rfl)
theorem dX3_grazes_39 : decode cX3_grazes 39 = .ok (.getfield 7, 3) := dk_180 0 7 (dk_at dksX3_grazes_1 15 rfl rfl)
theorem dX3_grazes_42 : decode cX3_grazes 42 = .ok (.iload 4, 2) := dk_21 4 (dk_at dksX3_grazes_1 18 rfl rfl)
theorem dX3_grazes_44 : decode cX3_grazes 44 = .ok (.iaload, 1) := dk_46 (dk_at dksX3_grazes_1 20 rfl rfl)
theorem dX3_grazes_45 : decode cX3_grazes 45 = .ok (.invokevirtual 83, 3) := dk_182 0 83 (dk_at dksX3_grazes_1 21 rfl rfl)
theorem dX3_grazes_48 : decode cX3_grazes 48 = .ok (.ifCond .eq 13, 3) := dk_153 0 13 (dk_at dksX3_grazes_2 0 rfl rfl)
theorem dX3_grazes_51 : decode cX3_grazes 51 = .ok (.aload_n 0, 1) := dk_42 (dk_at dksX3_grazes_2 3 rfl rfl)
theorem dX3_grazes_52 : decode cX3_grazes 52 = .ok (.iload_n 1, 1) := dk_27 (dk_at dksX3_grazes_2 4 rfl rfl)
theorem dX3_grazes_53 : decode cX3_grazes 53 = .ok (.iload 4, 2) := dk_21 4 (dk_at dksX3_grazes_2 5 rfl rfl)
theorem dX3_grazes_55 : decode cX3_grazes 55 = .ok (.invokevirtual 86, 3) := dk_182 0 86 (dk_at dksX3_grazes_2 7 rfl rfl)
theorem dX3_grazes_58 : decode cX3_grazes 58 = .ok (.goto 10, 3) := dk_167 0 10 (dk_at dksX3_grazes_2 10 rfl rfl)
theorem dX3_grazes_61 : decode cX3_grazes 61 = .ok (.aload_n 0, 1) := dk_42 (dk_at dksX3_grazes_2 13 rfl rfl)
theorem dX3_grazes_62 : decode cX3_grazes 62 = .ok (.iload_n 1, 1) := dk_27 (dk_at dksX3_grazes_2 14 rfl rfl)
theorem dX3_grazes_63 : decode cX3_grazes 63 = .ok (.iload 4, 2) := dk_21 4 (dk_at dksX3_grazes_2 15 rfl rfl)
theorem dX3_grazes_65 : decode cX3_grazes 65 = .ok (.invokevirtual 90, 3) := dk_182 0 90 (dk_at dksX3_grazes_2 17 rfl rfl)
theorem dX3_grazes_68 : decode cX3_grazes 68 = .ok (.aload_n 0, 1) := dk_42 (dk_at dksX3_grazes_2 20 rfl rfl)
theorem dX3_grazes_69 : decode cX3_grazes 69 = .ok (.getfield 7, 3) := dk_180 0 7 (dk_at dksX3_grazes_2 21 rfl rfl)
theorem dX3_grazes_72 : decode cX3_grazes 72 = .ok (.iload 4, 2) := dk_21 4 (dk_at dksX3_grazes_3 0 rfl rfl)
theorem dX3_grazes_74 : decode cX3_grazes 74 = .ok (.iconst 2, 1) := dk_5 (dk_at dksX3_grazes_3 2 rfl rfl)
theorem dX3_grazes_75 : decode cX3_grazes 75 = .ok (.iadd, 1) := dk_96 (dk_at dksX3_grazes_3 3 rfl rfl)
theorem dX3_grazes_76 : decode cX3_grazes 76 = .ok (.dup2, 1) := dk_92 (dk_at dksX3_grazes_3 4 rfl rfl)
theorem dX3_grazes_77 : decode cX3_grazes 77 = .ok (.iaload, 1) := dk_46 (dk_at dksX3_grazes_3 5 rfl rfl)
theorem dX3_grazes_78 : decode cX3_grazes 78 = .ok (.aload_n 0, 1) := dk_42 (dk_at dksX3_grazes_3 6 rfl rfl)
theorem dX3_grazes_79 : decode cX3_grazes 79 = .ok (.getfield 7, 3) := dk_180 0 7 (dk_at dksX3_grazes_3 7 rfl rfl)
theorem dX3_grazes_82 : decode cX3_grazes 82 = .ok (.iload_n 1, 1) := dk_27 (dk_at dksX3_grazes_3 10 rfl rfl)
theorem dX3_grazes_83 : decode cX3_grazes 83 = .ok (.iconst 0, 1) := dk_3 (dk_at dksX3_grazes_3 11 rfl rfl)
theorem dX3_grazes_84 : decode cX3_grazes 84 = .ok (.iadd, 1) := dk_96 (dk_at dksX3_grazes_3 12 rfl rfl)
theorem dX3_grazes_85 : decode cX3_grazes 85 = .ok (.iaload, 1) := dk_46 (dk_at dksX3_grazes_3 13 rfl rfl)
theorem dX3_grazes_86 : decode cX3_grazes 86 = .ok (.iconst 4, 1) := dk_7 (dk_at dksX3_grazes_3 14 rfl rfl)
theorem dX3_grazes_87 : decode cX3_grazes 87 = .ok (.irem, 1) := dk_112 (dk_at dksX3_grazes_3 15 rfl rfl)
theorem dX3_grazes_88 : decode cX3_grazes 88 = .ok (.ifCond .ne 7, 3) := dk_154 0 7 (dk_at dksX3_grazes_3 16 rfl rfl)
theorem dX3_grazes_91 : decode cX3_grazes 91 = .ok (.iconst 1, 1) := dk_4 (dk_at dksX3_grazes_3 19 rfl rfl)
theorem dX3_grazes_92 : decode cX3_grazes 92 = .ok (.goto 4, 3) := dk_167 0 4 (dk_at dksX3_grazes_3 20 rfl rfl)
theorem dX3_grazes_95 : decode cX3_grazes 95 = .ok (.iconst 0, 1) := dk_3 (dk_at dksX3_grazes_3 23 rfl rfl)
theorem dX3_grazes_96 : decode cX3_grazes 96 = .ok (.isub, 1) := dk_100 (dk_at dksX3_grazes_4 0 rfl rfl)
theorem dX3_grazes_97 : decode cX3_grazes 97 = .ok (.iastore, 1) := dk_79 (dk_at dksX3_grazes_4 1 rfl rfl)
theorem dX3_grazes_98 : decode cX3_grazes 98 = .ok (.aload_n 0, 1) := dk_42 (dk_at dksX3_grazes_4 2 rfl rfl)
theorem dX3_grazes_99 : decode cX3_grazes 99 = .ok (.getfield 7, 3) := dk_180 0 7 (dk_at dksX3_grazes_4 3 rfl rfl)
theorem dX3_grazes_102 : decode cX3_grazes 102 = .ok (.iload 4, 2) := dk_21 4 (dk_at dksX3_grazes_4 6 rfl rfl)
theorem dX3_grazes_104 : decode cX3_grazes 104 = .ok (.iconst 4, 1) := dk_7 (dk_at dksX3_grazes_4 8 rfl rfl)
theorem dX3_grazes_105 : decode cX3_grazes 105 = .ok (.iadd, 1) := dk_96 (dk_at dksX3_grazes_4 9 rfl rfl)
theorem dX3_grazes_106 : decode cX3_grazes 106 = .ok (.aload_n 0, 1) := dk_42 (dk_at dksX3_grazes_4 10 rfl rfl)
theorem dX3_grazes_107 : decode cX3_grazes 107 = .ok (.getfield 7, 3) := dk_180 0 7 (dk_at dksX3_grazes_4 11 rfl rfl)
theorem dX3_grazes_110 : decode cX3_grazes 110 = .ok (.iload 4, 2) := dk_21 4 (dk_at dksX3_grazes_4 14 rfl rfl)
theorem dX3_grazes_112 : decode cX3_grazes 112 = .ok (.iconst 1, 1) := dk_4 (dk_at dksX3_grazes_4 16 rfl rfl)
theorem dX3_grazes_113 : decode cX3_grazes 113 = .ok (.iadd, 1) := dk_96 (dk_at dksX3_grazes_4 17 rfl rfl)
theorem dX3_grazes_114 : decode cX3_grazes 114 = .ok (.iaload, 1) := dk_46 (dk_at dksX3_grazes_4 18 rfl rfl)
theorem dX3_grazes_115 : decode cX3_grazes 115 = .ok (.ifCond .ne 7, 3) := dk_154 0 7 (dk_at dksX3_grazes_4 19 rfl rfl)
theorem dX3_grazes_118 : decode cX3_grazes 118 = .ok (.iconst 1, 1) := dk_4 (dk_at dksX3_grazes_4 22 rfl rfl)
theorem dX3_grazes_119 : decode cX3_grazes 119 = .ok (.goto 20, 3) := dk_167 0 20 (dk_at dksX3_grazes_5 0 rfl rfl)
theorem dX3_grazes_122 : decode cX3_grazes 122 = .ok (.aload_n 0, 1) := dk_42 (dk_at dksX3_grazes_5 3 rfl rfl)
theorem dX3_grazes_123 : decode cX3_grazes 123 = .ok (.getfield 7, 3) := dk_180 0 7 (dk_at dksX3_grazes_5 4 rfl rfl)
theorem dX3_grazes_126 : decode cX3_grazes 126 = .ok (.iload 4, 2) := dk_21 4 (dk_at dksX3_grazes_5 7 rfl rfl)
theorem dX3_grazes_128 : decode cX3_grazes 128 = .ok (.iconst 2, 1) := dk_5 (dk_at dksX3_grazes_5 9 rfl rfl)
theorem dX3_grazes_129 : decode cX3_grazes 129 = .ok (.iadd, 1) := dk_96 (dk_at dksX3_grazes_5 10 rfl rfl)
theorem dX3_grazes_130 : decode cX3_grazes 130 = .ok (.iaload, 1) := dk_46 (dk_at dksX3_grazes_5 11 rfl rfl)
theorem dX3_grazes_131 : decode cX3_grazes 131 = .ok (.ifCond .ne 7, 3) := dk_154 0 7 (dk_at dksX3_grazes_5 12 rfl rfl)
theorem dX3_grazes_134 : decode cX3_grazes 134 = .ok (.iconst 2, 1) := dk_5 (dk_at dksX3_grazes_5 15 rfl rfl)
theorem dX3_grazes_135 : decode cX3_grazes 135 = .ok (.goto 4, 3) := dk_167 0 4 (dk_at dksX3_grazes_5 16 rfl rfl)
theorem dX3_grazes_138 : decode cX3_grazes 138 = .ok (.iconst 0, 1) := dk_3 (dk_at dksX3_grazes_5 19 rfl rfl)
theorem dX3_grazes_139 : decode cX3_grazes 139 = .ok (.iastore, 1) := dk_79 (dk_at dksX3_grazes_5 20 rfl rfl)
theorem dX3_grazes_140 : decode cX3_grazes 140 = .ok (.iload_n 2, 1) := dk_28 (dk_at dksX3_grazes_5 21 rfl rfl)
theorem dX3_grazes_141 : decode cX3_grazes 141 = .ok (.aload_n 0, 1) := dk_42 (dk_at dksX3_grazes_5 22 rfl rfl)
theorem dX3_grazes_142 : decode cX3_grazes 142 = .ok (.getfield 7, 3) := dk_180 0 7 (dk_at dksX3_grazes_6 0 rfl rfl)
theorem dX3_grazes_145 : decode cX3_grazes 145 = .ok (.iload 4, 2) := dk_21 4 (dk_at dksX3_grazes_6 3 rfl rfl)
theorem dX3_grazes_147 : decode cX3_grazes 147 = .ok (.iconst 4, 1) := dk_7 (dk_at dksX3_grazes_6 5 rfl rfl)
theorem dX3_grazes_148 : decode cX3_grazes 148 = .ok (.iadd, 1) := dk_96 (dk_at dksX3_grazes_6 6 rfl rfl)
theorem dX3_grazes_149 : decode cX3_grazes 149 = .ok (.iaload, 1) := dk_46 (dk_at dksX3_grazes_6 7 rfl rfl)
theorem dX3_grazes_150 : decode cX3_grazes 150 = .ok (.ifCond .ne 7, 3) := dk_154 0 7 (dk_at dksX3_grazes_6 8 rfl rfl)
theorem dX3_grazes_153 : decode cX3_grazes 153 = .ok (.iconst 0, 1) := dk_3 (dk_at dksX3_grazes_6 11 rfl rfl)
theorem dX3_grazes_154 : decode cX3_grazes 154 = .ok (.goto 4, 3) := dk_167 0 4 (dk_at dksX3_grazes_6 12 rfl rfl)
theorem dX3_grazes_157 : decode cX3_grazes 157 = .ok (.iconst 1, 1) := dk_4 (dk_at dksX3_grazes_6 15 rfl rfl)
theorem dX3_grazes_158 : decode cX3_grazes 158 = .ok (.iadd, 1) := dk_96 (dk_at dksX3_grazes_6 16 rfl rfl)
theorem dX3_grazes_159 : decode cX3_grazes 159 = .ok (.istore_n 2, 1) := dk_61 (dk_at dksX3_grazes_6 17 rfl rfl)
theorem dX3_grazes_160 : decode cX3_grazes 160 = .ok (.iinc 3 1, 3) := dk_132 3 1 (dk_at dksX3_grazes_6 18 rfl rfl)
theorem dX3_grazes_163 : decode cX3_grazes 163 = .ok (.goto (-159), 3) := dk_167 255 97 (dk_at dksX3_grazes_6 21 rfl rfl)
theorem dX3_grazes_166 : decode cX3_grazes 166 = .ok (.iload_n 2, 1) := dk_28 (dk_at dksX3_grazes_7 0 rfl rfl)
theorem dX3_grazes_167 : decode cX3_grazes 167 = .ok (.ireturn, 1) := dk_172 (dk_at dksX3_grazes_7 1 rfl rfl)
abbrev cX3_feeds : ByteArray := prog_11_method_35_code
def yX3_feeds : MethodName := ⟨RX3, "feeds", "(II)V"⟩
def dkwX3_feeds_6 : List UInt8 := [16, 20, 164, 0, 8, 16, 20, 167, 0, 14, 42, 180, 0, 7, 28, 5, 96, 46, 21, 4, 96, 79, 177]
abbrev dktX3_feeds_6 : List UInt8 := dkwX3_feeds_6 ++ []
def dkwX3_feeds_5 : List UInt8 := [92, 46, 21, 4, 100, 79, 42, 180, 0, 7, 28, 5, 96, 42, 180, 0, 7, 28, 5, 96, 46, 21, 4, 96]
abbrev dktX3_feeds_5 : List UInt8 := dkwX3_feeds_5 ++ dktX3_feeds_6
def dkwX3_feeds_4 : List UInt8 := [167, 0, 13, 42, 180, 0, 7, 28, 6, 96, 46, 4, 96, 79, 42, 180, 0, 7, 27, 16, 23, 96, 29, 96]
abbrev dktX3_feeds_4 : List UInt8 := dkwX3_feeds_4 ++ dktX3_feeds_5
def dkwX3_feeds_3 : List UInt8 := [46, 54, 4, 42, 180, 0, 7, 28, 6, 96, 42, 180, 0, 7, 28, 6, 96, 46, 6, 160, 0, 7, 6]
abbrev dktX3_feeds_3 : List UInt8 := dkwX3_feeds_3 ++ dktX3_feeds_4
def dkwX3_feeds_2 : List UInt8 := [16, 23, 96, 29, 96, 46, 5, 164, 0, 7, 5, 167, 0, 14, 42, 180, 0, 7, 27, 16, 23, 96, 29, 96]
abbrev dktX3_feeds_2 : List UInt8 := dkwX3_feeds_2 ++ dktX3_feeds_3
def dkwX3_feeds_1 : List UInt8 := [46, 157, 0, 17, 42, 180, 0, 7, 27, 16, 23, 96, 29, 96, 46, 158, 0, 125, 42, 180, 0, 7, 27]
abbrev dktX3_feeds_1 : List UInt8 := dkwX3_feeds_1 ++ dktX3_feeds_2
def dkwX3_feeds_0 : List UInt8 := [42, 180, 0, 7, 28, 46, 62, 42, 180, 0, 7, 28, 4, 96, 16, 12, 79, 42, 180, 0, 7, 28, 6, 96]
abbrev dktX3_feeds_0 : List UInt8 := dkwX3_feeds_0 ++ dktX3_feeds_1
theorem dksX3_feeds_0 : cX3_feeds.data.toList.drop 0 = dktX3_feeds_0 := by decide +kernel
theorem dksX3_feeds_1 : cX3_feeds.data.toList.drop 24 = dktX3_feeds_1 := dk_seg dksX3_feeds_0 24 rfl rfl
theorem dksX3_feeds_2 : cX3_feeds.data.toList.drop 47 = dktX3_feeds_2 := dk_seg dksX3_feeds_1 23 rfl rfl
theorem dksX3_feeds_3 : cX3_feeds.data.toList.drop 71 = dktX3_feeds_3 := dk_seg dksX3_feeds_2 24 rfl rfl
theorem dksX3_feeds_4 : cX3_feeds.data.toList.drop 94 = dktX3_feeds_4 := dk_seg dksX3_feeds_3 23 rfl rfl
theorem dksX3_feeds_5 : cX3_feeds.data.toList.drop 118 = dktX3_feeds_5 := dk_seg dksX3_feeds_4 24 rfl rfl
theorem dksX3_feeds_6 : cX3_feeds.data.toList.drop 142 = dktX3_feeds_6 := dk_seg dksX3_feeds_5 24 rfl rfl
theorem dX3_feeds_0 : decode cX3_feeds 0 = .ok (.aload_n 0, 1) := dk_42 (dk_at dksX3_feeds_0 0 rfl rfl)
theorem dX3_feeds_1 : decode cX3_feeds 1 = .ok (.getfield 7, 3) := dk_180 0 7 (dk_at dksX3_feeds_0 1 rfl rfl)
theorem dX3_feeds_4 : decode cX3_feeds 4 = .ok (.iload_n 2, 1) := dk_28 (dk_at dksX3_feeds_0 4 rfl rfl)
theorem dX3_feeds_5 : decode cX3_feeds 5 = .ok (.iaload, 1) := dk_46 (dk_at dksX3_feeds_0 5 rfl rfl)
theorem dX3_feeds_6 : decode cX3_feeds 6 = .ok (.istore_n 3, 1) := dk_62 (dk_at dksX3_feeds_0 6 rfl rfl)
theorem dX3_feeds_7 : decode cX3_feeds 7 = .ok (.aload_n 0, 1) := dk_42 (dk_at dksX3_feeds_0 7 rfl rfl)
theorem dX3_feeds_8 : decode cX3_feeds 8 = .ok (.getfield 7, 3) := dk_180 0 7 (dk_at dksX3_feeds_0 8 rfl rfl)
theorem dX3_feeds_11 : decode cX3_feeds 11 = .ok (.iload_n 2, 1) := dk_28 (dk_at dksX3_feeds_0 11 rfl rfl)
theorem dX3_feeds_12 : decode cX3_feeds 12 = .ok (.iconst 1, 1) := dk_4 (dk_at dksX3_feeds_0 12 rfl rfl)
theorem dX3_feeds_13 : decode cX3_feeds 13 = .ok (.iadd, 1) := dk_96 (dk_at dksX3_feeds_0 13 rfl rfl)
theorem dX3_feeds_14 : decode cX3_feeds 14 = .ok (.bipush 12, 2) := dk_16 12 (dk_at dksX3_feeds_0 14 rfl rfl)
theorem dX3_feeds_16 : decode cX3_feeds 16 = .ok (.iastore, 1) := dk_79 (dk_at dksX3_feeds_0 16 rfl rfl)
theorem dX3_feeds_17 : decode cX3_feeds 17 = .ok (.aload_n 0, 1) := dk_42 (dk_at dksX3_feeds_0 17 rfl rfl)
theorem dX3_feeds_18 : decode cX3_feeds 18 = .ok (.getfield 7, 3) := dk_180 0 7 (dk_at dksX3_feeds_0 18 rfl rfl)
theorem dX3_feeds_21 : decode cX3_feeds 21 = .ok (.iload_n 2, 1) := dk_28 (dk_at dksX3_feeds_0 21 rfl rfl)
theorem dX3_feeds_22 : decode cX3_feeds 22 = .ok (.iconst 3, 1) := dk_6 (dk_at dksX3_feeds_0 22 rfl rfl)
theorem dX3_feeds_23 : decode cX3_feeds 23 = .ok (.iadd, 1) := dk_96 (dk_at dksX3_feeds_0 23 rfl rfl)
theorem dX3_feeds_24 : decode cX3_feeds 24 = .ok (.iaload, 1) := dk_46 (dk_at dksX3_feeds_1 0 rfl rfl)
theorem dX3_feeds_25 : decode cX3_feeds 25 = .ok (.ifCond .gt 17, 3) := dk_157 0 17 (dk_at dksX3_feeds_1 1 rfl rfl)
theorem dX3_feeds_28 : decode cX3_feeds 28 = .ok (.aload_n 0, 1) := dk_42 (dk_at dksX3_feeds_1 4 rfl rfl)
theorem dX3_feeds_29 : decode cX3_feeds 29 = .ok (.getfield 7, 3) := dk_180 0 7 (dk_at dksX3_feeds_1 5 rfl rfl)
theorem dX3_feeds_32 : decode cX3_feeds 32 = .ok (.iload_n 1, 1) := dk_27 (dk_at dksX3_feeds_1 8 rfl rfl)
theorem dX3_feeds_33 : decode cX3_feeds 33 = .ok (.bipush 23, 2) := dk_16 23 (dk_at dksX3_feeds_1 9 rfl rfl)
theorem dX3_feeds_35 : decode cX3_feeds 35 = .ok (.iadd, 1) := dk_96 (dk_at dksX3_feeds_1 11 rfl rfl)
theorem dX3_feeds_36 : decode cX3_feeds 36 = .ok (.iload_n 3, 1) := dk_29 (dk_at dksX3_feeds_1 12 rfl rfl)
theorem dX3_feeds_37 : decode cX3_feeds 37 = .ok (.iadd, 1) := dk_96 (dk_at dksX3_feeds_1 13 rfl rfl)
theorem dX3_feeds_38 : decode cX3_feeds 38 = .ok (.iaload, 1) := dk_46 (dk_at dksX3_feeds_1 14 rfl rfl)
theorem dX3_feeds_39 : decode cX3_feeds 39 = .ok (.ifCond .le 125, 3) := dk_158 0 125 (dk_at dksX3_feeds_1 15 rfl rfl)
theorem dX3_feeds_42 : decode cX3_feeds 42 = .ok (.aload_n 0, 1) := dk_42 (dk_at dksX3_feeds_1 18 rfl rfl)
theorem dX3_feeds_43 : decode cX3_feeds 43 = .ok (.getfield 7, 3) := dk_180 0 7 (dk_at dksX3_feeds_1 19 rfl rfl)
theorem dX3_feeds_46 : decode cX3_feeds 46 = .ok (.iload_n 1, 1) := dk_27 (dk_at dksX3_feeds_1 22 rfl rfl)
theorem dX3_feeds_47 : decode cX3_feeds 47 = .ok (.bipush 23, 2) := dk_16 23 (dk_at dksX3_feeds_2 0 rfl rfl)
theorem dX3_feeds_49 : decode cX3_feeds 49 = .ok (.iadd, 1) := dk_96 (dk_at dksX3_feeds_2 2 rfl rfl)
theorem dX3_feeds_50 : decode cX3_feeds 50 = .ok (.iload_n 3, 1) := dk_29 (dk_at dksX3_feeds_2 3 rfl rfl)
theorem dX3_feeds_51 : decode cX3_feeds 51 = .ok (.iadd, 1) := dk_96 (dk_at dksX3_feeds_2 4 rfl rfl)
theorem dX3_feeds_52 : decode cX3_feeds 52 = .ok (.iaload, 1) := dk_46 (dk_at dksX3_feeds_2 5 rfl rfl)
theorem dX3_feeds_53 : decode cX3_feeds 53 = .ok (.iconst 2, 1) := dk_5 (dk_at dksX3_feeds_2 6 rfl rfl)
theorem dX3_feeds_54 : decode cX3_feeds 54 = .ok (.if_icmp .le 7, 3) := dk_164 0 7 (dk_at dksX3_feeds_2 7 rfl rfl)
theorem dX3_feeds_57 : decode cX3_feeds 57 = .ok (.iconst 2, 1) := dk_5 (dk_at dksX3_feeds_2 10 rfl rfl)
theorem dX3_feeds_58 : decode cX3_feeds 58 = .ok (.goto 14, 3) := dk_167 0 14 (dk_at dksX3_feeds_2 11 rfl rfl)
theorem dX3_feeds_61 : decode cX3_feeds 61 = .ok (.aload_n 0, 1) := dk_42 (dk_at dksX3_feeds_2 14 rfl rfl)
theorem dX3_feeds_62 : decode cX3_feeds 62 = .ok (.getfield 7, 3) := dk_180 0 7 (dk_at dksX3_feeds_2 15 rfl rfl)
theorem dX3_feeds_65 : decode cX3_feeds 65 = .ok (.iload_n 1, 1) := dk_27 (dk_at dksX3_feeds_2 18 rfl rfl)
theorem dX3_feeds_66 : decode cX3_feeds 66 = .ok (.bipush 23, 2) := dk_16 23 (dk_at dksX3_feeds_2 19 rfl rfl)
theorem dX3_feeds_68 : decode cX3_feeds 68 = .ok (.iadd, 1) := dk_96 (dk_at dksX3_feeds_2 21 rfl rfl)
theorem dX3_feeds_69 : decode cX3_feeds 69 = .ok (.iload_n 3, 1) := dk_29 (dk_at dksX3_feeds_2 22 rfl rfl)
theorem dX3_feeds_70 : decode cX3_feeds 70 = .ok (.iadd, 1) := dk_96 (dk_at dksX3_feeds_2 23 rfl rfl)
theorem dX3_feeds_71 : decode cX3_feeds 71 = .ok (.iaload, 1) := dk_46 (dk_at dksX3_feeds_3 0 rfl rfl)
theorem dX3_feeds_72 : decode cX3_feeds 72 = .ok (.istore 4, 2) := dk_54 4 (dk_at dksX3_feeds_3 1 rfl rfl)
theorem dX3_feeds_74 : decode cX3_feeds 74 = .ok (.aload_n 0, 1) := dk_42 (dk_at dksX3_feeds_3 3 rfl rfl)
theorem dX3_feeds_75 : decode cX3_feeds 75 = .ok (.getfield 7, 3) := dk_180 0 7 (dk_at dksX3_feeds_3 4 rfl rfl)
theorem dX3_feeds_78 : decode cX3_feeds 78 = .ok (.iload_n 2, 1) := dk_28 (dk_at dksX3_feeds_3 7 rfl rfl)
theorem dX3_feeds_79 : decode cX3_feeds 79 = .ok (.iconst 3, 1) := dk_6 (dk_at dksX3_feeds_3 8 rfl rfl)
theorem dX3_feeds_80 : decode cX3_feeds 80 = .ok (.iadd, 1) := dk_96 (dk_at dksX3_feeds_3 9 rfl rfl)
theorem dX3_feeds_81 : decode cX3_feeds 81 = .ok (.aload_n 0, 1) := dk_42 (dk_at dksX3_feeds_3 10 rfl rfl)
theorem dX3_feeds_82 : decode cX3_feeds 82 = .ok (.getfield 7, 3) := dk_180 0 7 (dk_at dksX3_feeds_3 11 rfl rfl)
theorem dX3_feeds_85 : decode cX3_feeds 85 = .ok (.iload_n 2, 1) := dk_28 (dk_at dksX3_feeds_3 14 rfl rfl)
theorem dX3_feeds_86 : decode cX3_feeds 86 = .ok (.iconst 3, 1) := dk_6 (dk_at dksX3_feeds_3 15 rfl rfl)
theorem dX3_feeds_87 : decode cX3_feeds 87 = .ok (.iadd, 1) := dk_96 (dk_at dksX3_feeds_3 16 rfl rfl)
theorem dX3_feeds_88 : decode cX3_feeds 88 = .ok (.iaload, 1) := dk_46 (dk_at dksX3_feeds_3 17 rfl rfl)
theorem dX3_feeds_89 : decode cX3_feeds 89 = .ok (.iconst 3, 1) := dk_6 (dk_at dksX3_feeds_3 18 rfl rfl)
theorem dX3_feeds_90 : decode cX3_feeds 90 = .ok (.if_icmp .ne 7, 3) := dk_160 0 7 (dk_at dksX3_feeds_3 19 rfl rfl)
theorem dX3_feeds_93 : decode cX3_feeds 93 = .ok (.iconst 3, 1) := dk_6 (dk_at dksX3_feeds_3 22 rfl rfl)
theorem dX3_feeds_94 : decode cX3_feeds 94 = .ok (.goto 13, 3) := dk_167 0 13 (dk_at dksX3_feeds_4 0 rfl rfl)
theorem dX3_feeds_97 : decode cX3_feeds 97 = .ok (.aload_n 0, 1) := dk_42 (dk_at dksX3_feeds_4 3 rfl rfl)
theorem dX3_feeds_98 : decode cX3_feeds 98 = .ok (.getfield 7, 3) := dk_180 0 7 (dk_at dksX3_feeds_4 4 rfl rfl)
theorem dX3_feeds_101 : decode cX3_feeds 101 = .ok (.iload_n 2, 1) := dk_28 (dk_at dksX3_feeds_4 7 rfl rfl)
theorem dX3_feeds_102 : decode cX3_feeds 102 = .ok (.iconst 3, 1) := dk_6 (dk_at dksX3_feeds_4 8 rfl rfl)
theorem dX3_feeds_103 : decode cX3_feeds 103 = .ok (.iadd, 1) := dk_96 (dk_at dksX3_feeds_4 9 rfl rfl)
theorem dX3_feeds_104 : decode cX3_feeds 104 = .ok (.iaload, 1) := dk_46 (dk_at dksX3_feeds_4 10 rfl rfl)
theorem dX3_feeds_105 : decode cX3_feeds 105 = .ok (.iconst 1, 1) := dk_4 (dk_at dksX3_feeds_4 11 rfl rfl)
theorem dX3_feeds_106 : decode cX3_feeds 106 = .ok (.iadd, 1) := dk_96 (dk_at dksX3_feeds_4 12 rfl rfl)
theorem dX3_feeds_107 : decode cX3_feeds 107 = .ok (.iastore, 1) := dk_79 (dk_at dksX3_feeds_4 13 rfl rfl)
theorem dX3_feeds_108 : decode cX3_feeds 108 = .ok (.aload_n 0, 1) := dk_42 (dk_at dksX3_feeds_4 14 rfl rfl)
theorem dX3_feeds_109 : decode cX3_feeds 109 = .ok (.getfield 7, 3) := dk_180 0 7 (dk_at dksX3_feeds_4 15 rfl rfl)
theorem dX3_feeds_112 : decode cX3_feeds 112 = .ok (.iload_n 1, 1) := dk_27 (dk_at dksX3_feeds_4 18 rfl rfl)
theorem dX3_feeds_113 : decode cX3_feeds 113 = .ok (.bipush 23, 2) := dk_16 23 (dk_at dksX3_feeds_4 19 rfl rfl)
theorem dX3_feeds_115 : decode cX3_feeds 115 = .ok (.iadd, 1) := dk_96 (dk_at dksX3_feeds_4 21 rfl rfl)
theorem dX3_feeds_116 : decode cX3_feeds 116 = .ok (.iload_n 3, 1) := dk_29 (dk_at dksX3_feeds_4 22 rfl rfl)
theorem dX3_feeds_117 : decode cX3_feeds 117 = .ok (.iadd, 1) := dk_96 (dk_at dksX3_feeds_4 23 rfl rfl)
theorem dX3_feeds_118 : decode cX3_feeds 118 = .ok (.dup2, 1) := dk_92 (dk_at dksX3_feeds_5 0 rfl rfl)
theorem dX3_feeds_119 : decode cX3_feeds 119 = .ok (.iaload, 1) := dk_46 (dk_at dksX3_feeds_5 1 rfl rfl)
theorem dX3_feeds_120 : decode cX3_feeds 120 = .ok (.iload 4, 2) := dk_21 4 (dk_at dksX3_feeds_5 2 rfl rfl)
theorem dX3_feeds_122 : decode cX3_feeds 122 = .ok (.isub, 1) := dk_100 (dk_at dksX3_feeds_5 4 rfl rfl)
theorem dX3_feeds_123 : decode cX3_feeds 123 = .ok (.iastore, 1) := dk_79 (dk_at dksX3_feeds_5 5 rfl rfl)
theorem dX3_feeds_124 : decode cX3_feeds 124 = .ok (.aload_n 0, 1) := dk_42 (dk_at dksX3_feeds_5 6 rfl rfl)
theorem dX3_feeds_125 : decode cX3_feeds 125 = .ok (.getfield 7, 3) := dk_180 0 7 (dk_at dksX3_feeds_5 7 rfl rfl)
theorem dX3_feeds_128 : decode cX3_feeds 128 = .ok (.iload_n 2, 1) := dk_28 (dk_at dksX3_feeds_5 10 rfl rfl)
theorem dX3_feeds_129 : decode cX3_feeds 129 = .ok (.iconst 2, 1) := dk_5 (dk_at dksX3_feeds_5 11 rfl rfl)
theorem dX3_feeds_130 : decode cX3_feeds 130 = .ok (.iadd, 1) := dk_96 (dk_at dksX3_feeds_5 12 rfl rfl)
theorem dX3_feeds_131 : decode cX3_feeds 131 = .ok (.aload_n 0, 1) := dk_42 (dk_at dksX3_feeds_5 13 rfl rfl)
theorem dX3_feeds_132 : decode cX3_feeds 132 = .ok (.getfield 7, 3) := dk_180 0 7 (dk_at dksX3_feeds_5 14 rfl rfl)
theorem dX3_feeds_135 : decode cX3_feeds 135 = .ok (.iload_n 2, 1) := dk_28 (dk_at dksX3_feeds_5 17 rfl rfl)
theorem dX3_feeds_136 : decode cX3_feeds 136 = .ok (.iconst 2, 1) := dk_5 (dk_at dksX3_feeds_5 18 rfl rfl)
theorem dX3_feeds_137 : decode cX3_feeds 137 = .ok (.iadd, 1) := dk_96 (dk_at dksX3_feeds_5 19 rfl rfl)
theorem dX3_feeds_138 : decode cX3_feeds 138 = .ok (.iaload, 1) := dk_46 (dk_at dksX3_feeds_5 20 rfl rfl)
theorem dX3_feeds_139 : decode cX3_feeds 139 = .ok (.iload 4, 2) := dk_21 4 (dk_at dksX3_feeds_5 21 rfl rfl)
theorem dX3_feeds_141 : decode cX3_feeds 141 = .ok (.iadd, 1) := dk_96 (dk_at dksX3_feeds_5 23 rfl rfl)
theorem dX3_feeds_142 : decode cX3_feeds 142 = .ok (.bipush 20, 2) := dk_16 20 (dk_at dksX3_feeds_6 0 rfl rfl)
theorem dX3_feeds_144 : decode cX3_feeds 144 = .ok (.if_icmp .le 8, 3) := dk_164 0 8 (dk_at dksX3_feeds_6 2 rfl rfl)
theorem dX3_feeds_147 : decode cX3_feeds 147 = .ok (.bipush 20, 2) := dk_16 20 (dk_at dksX3_feeds_6 5 rfl rfl)
theorem dX3_feeds_149 : decode cX3_feeds 149 = .ok (.goto 14, 3) := dk_167 0 14 (dk_at dksX3_feeds_6 7 rfl rfl)
theorem dX3_feeds_152 : decode cX3_feeds 152 = .ok (.aload_n 0, 1) := dk_42 (dk_at dksX3_feeds_6 10 rfl rfl)
theorem dX3_feeds_153 : decode cX3_feeds 153 = .ok (.getfield 7, 3) := dk_180 0 7 (dk_at dksX3_feeds_6 11 rfl rfl)
theorem dX3_feeds_156 : decode cX3_feeds 156 = .ok (.iload_n 2, 1) := dk_28 (dk_at dksX3_feeds_6 14 rfl rfl)
theorem dX3_feeds_157 : decode cX3_feeds 157 = .ok (.iconst 2, 1) := dk_5 (dk_at dksX3_feeds_6 15 rfl rfl)
theorem dX3_feeds_158 : decode cX3_feeds 158 = .ok (.iadd, 1) := dk_96 (dk_at dksX3_feeds_6 16 rfl rfl)
theorem dX3_feeds_159 : decode cX3_feeds 159 = .ok (.iaload, 1) := dk_46 (dk_at dksX3_feeds_6 17 rfl rfl)
theorem dX3_feeds_160 : decode cX3_feeds 160 = .ok (.iload 4, 2) := dk_21 4 (dk_at dksX3_feeds_6 18 rfl rfl)
theorem dX3_feeds_162 : decode cX3_feeds 162 = .ok (.iadd, 1) := dk_96 (dk_at dksX3_feeds_6 20 rfl rfl)
theorem dX3_feeds_163 : decode cX3_feeds 163 = .ok (.iastore, 1) := dk_79 (dk_at dksX3_feeds_6 21 rfl rfl)
theorem dX3_feeds_164 : decode cX3_feeds 164 = .ok (.return_, 1) := dk_177 (dk_at dksX3_feeds_6 22 rfl rfl)
abbrev cX3_dries : ByteArray := prog_11_method_36_code
def yX3_dries : MethodName := ⟨RX3, "dries", "(II)V"⟩
def dkwX3_dries_4 : List UInt8 := [180, 0, 7, 28, 4, 96, 46, 156, 0, 7, 3, 167, 0, 11, 42, 180, 0, 7, 28, 4, 96, 46, 79, 177]
abbrev dktX3_dries_4 : List UInt8 := dkwX3_dries_4 ++ []
def dkwX3_dries_3 : List UInt8 := [46, 96, 46, 16, 25, 161, 0, 7, 4, 167, 0, 4, 3, 96, 100, 79, 42, 180, 0, 7, 28, 4, 96, 42]
abbrev dktX3_dries_3 : List UInt8 := dkwX3_dries_3 ++ dktX3_dries_4
def dkwX3_dries_2 : List UInt8 := [6, 96, 46, 154, 0, 7, 4, 167, 0, 4, 7, 42, 180, 0, 7, 27, 16, 15, 96, 42, 180, 0, 7, 28]
abbrev dktX3_dries_2 : List UInt8 := dkwX3_dries_2 ++ dktX3_dries_3
def dkwX3_dries_1 : List UInt8 := [180, 0, 7, 28, 6, 96, 46, 4, 100, 79, 42, 180, 0, 7, 28, 4, 96, 92, 46, 42, 180, 0, 7, 28]
abbrev dktX3_dries_1 : List UInt8 := dkwX3_dries_1 ++ dktX3_dries_2
def dkwX3_dries_0 : List UInt8 := [42, 180, 0, 7, 28, 6, 96, 42, 180, 0, 7, 28, 6, 96, 46, 154, 0, 7, 3, 167, 0, 13, 42]
abbrev dktX3_dries_0 : List UInt8 := dkwX3_dries_0 ++ dktX3_dries_1
theorem dksX3_dries_0 : cX3_dries.data.toList.drop 0 = dktX3_dries_0 := by decide +kernel
theorem dksX3_dries_1 : cX3_dries.data.toList.drop 23 = dktX3_dries_1 := dk_seg dksX3_dries_0 23 rfl rfl
theorem dksX3_dries_2 : cX3_dries.data.toList.drop 47 = dktX3_dries_2 := dk_seg dksX3_dries_1 24 rfl rfl
theorem dksX3_dries_3 : cX3_dries.data.toList.drop 71 = dktX3_dries_3 := dk_seg dksX3_dries_2 24 rfl rfl
theorem dksX3_dries_4 : cX3_dries.data.toList.drop 95 = dktX3_dries_4 := dk_seg dksX3_dries_3 24 rfl rfl
theorem dX3_dries_0 : decode cX3_dries 0 = .ok (.aload_n 0, 1) := dk_42 (dk_at dksX3_dries_0 0 rfl rfl)
theorem dX3_dries_1 : decode cX3_dries 1 = .ok (.getfield 7, 3) := dk_180 0 7 (dk_at dksX3_dries_0 1 rfl rfl)
theorem dX3_dries_4 : decode cX3_dries 4 = .ok (.iload_n 2, 1) := dk_28 (dk_at dksX3_dries_0 4 rfl rfl)
theorem dX3_dries_5 : decode cX3_dries 5 = .ok (.iconst 3, 1) := dk_6 (dk_at dksX3_dries_0 5 rfl rfl)
theorem dX3_dries_6 : decode cX3_dries 6 = .ok (.iadd, 1) := dk_96 (dk_at dksX3_dries_0 6 rfl rfl)
theorem dX3_dries_7 : decode cX3_dries 7 = .ok (.aload_n 0, 1) := dk_42 (dk_at dksX3_dries_0 7 rfl rfl)
theorem dX3_dries_8 : decode cX3_dries 8 = .ok (.getfield 7, 3) := dk_180 0 7 (dk_at dksX3_dries_0 8 rfl rfl)
theorem dX3_dries_11 : decode cX3_dries 11 = .ok (.iload_n 2, 1) := dk_28 (dk_at dksX3_dries_0 11 rfl rfl)
theorem dX3_dries_12 : decode cX3_dries 12 = .ok (.iconst 3, 1) := dk_6 (dk_at dksX3_dries_0 12 rfl rfl)
theorem dX3_dries_13 : decode cX3_dries 13 = .ok (.iadd, 1) := dk_96 (dk_at dksX3_dries_0 13 rfl rfl)
theorem dX3_dries_14 : decode cX3_dries 14 = .ok (.iaload, 1) := dk_46 (dk_at dksX3_dries_0 14 rfl rfl)
theorem dX3_dries_15 : decode cX3_dries 15 = .ok (.ifCond .ne 7, 3) := dk_154 0 7 (dk_at dksX3_dries_0 15 rfl rfl)
theorem dX3_dries_18 : decode cX3_dries 18 = .ok (.iconst 0, 1) := dk_3 (dk_at dksX3_dries_0 18 rfl rfl)
theorem dX3_dries_19 : decode cX3_dries 19 = .ok (.goto 13, 3) := dk_167 0 13 (dk_at dksX3_dries_0 19 rfl rfl)
theorem dX3_dries_22 : decode cX3_dries 22 = .ok (.aload_n 0, 1) := dk_42 (dk_at dksX3_dries_0 22 rfl rfl)
theorem dX3_dries_23 : decode cX3_dries 23 = .ok (.getfield 7, 3) := dk_180 0 7 (dk_at dksX3_dries_1 0 rfl rfl)
theorem dX3_dries_26 : decode cX3_dries 26 = .ok (.iload_n 2, 1) := dk_28 (dk_at dksX3_dries_1 3 rfl rfl)
theorem dX3_dries_27 : decode cX3_dries 27 = .ok (.iconst 3, 1) := dk_6 (dk_at dksX3_dries_1 4 rfl rfl)
theorem dX3_dries_28 : decode cX3_dries 28 = .ok (.iadd, 1) := dk_96 (dk_at dksX3_dries_1 5 rfl rfl)
theorem dX3_dries_29 : decode cX3_dries 29 = .ok (.iaload, 1) := dk_46 (dk_at dksX3_dries_1 6 rfl rfl)
theorem dX3_dries_30 : decode cX3_dries 30 = .ok (.iconst 1, 1) := dk_4 (dk_at dksX3_dries_1 7 rfl rfl)
theorem dX3_dries_31 : decode cX3_dries 31 = .ok (.isub, 1) := dk_100 (dk_at dksX3_dries_1 8 rfl rfl)
theorem dX3_dries_32 : decode cX3_dries 32 = .ok (.iastore, 1) := dk_79 (dk_at dksX3_dries_1 9 rfl rfl)
theorem dX3_dries_33 : decode cX3_dries 33 = .ok (.aload_n 0, 1) := dk_42 (dk_at dksX3_dries_1 10 rfl rfl)
theorem dX3_dries_34 : decode cX3_dries 34 = .ok (.getfield 7, 3) := dk_180 0 7 (dk_at dksX3_dries_1 11 rfl rfl)
theorem dX3_dries_37 : decode cX3_dries 37 = .ok (.iload_n 2, 1) := dk_28 (dk_at dksX3_dries_1 14 rfl rfl)
theorem dX3_dries_38 : decode cX3_dries 38 = .ok (.iconst 1, 1) := dk_4 (dk_at dksX3_dries_1 15 rfl rfl)
theorem dX3_dries_39 : decode cX3_dries 39 = .ok (.iadd, 1) := dk_96 (dk_at dksX3_dries_1 16 rfl rfl)
theorem dX3_dries_40 : decode cX3_dries 40 = .ok (.dup2, 1) := dk_92 (dk_at dksX3_dries_1 17 rfl rfl)
theorem dX3_dries_41 : decode cX3_dries 41 = .ok (.iaload, 1) := dk_46 (dk_at dksX3_dries_1 18 rfl rfl)
theorem dX3_dries_42 : decode cX3_dries 42 = .ok (.aload_n 0, 1) := dk_42 (dk_at dksX3_dries_1 19 rfl rfl)
theorem dX3_dries_43 : decode cX3_dries 43 = .ok (.getfield 7, 3) := dk_180 0 7 (dk_at dksX3_dries_1 20 rfl rfl)
theorem dX3_dries_46 : decode cX3_dries 46 = .ok (.iload_n 2, 1) := dk_28 (dk_at dksX3_dries_1 23 rfl rfl)
theorem dX3_dries_47 : decode cX3_dries 47 = .ok (.iconst 3, 1) := dk_6 (dk_at dksX3_dries_2 0 rfl rfl)
theorem dX3_dries_48 : decode cX3_dries 48 = .ok (.iadd, 1) := dk_96 (dk_at dksX3_dries_2 1 rfl rfl)
theorem dX3_dries_49 : decode cX3_dries 49 = .ok (.iaload, 1) := dk_46 (dk_at dksX3_dries_2 2 rfl rfl)
theorem dX3_dries_50 : decode cX3_dries 50 = .ok (.ifCond .ne 7, 3) := dk_154 0 7 (dk_at dksX3_dries_2 3 rfl rfl)
theorem dX3_dries_53 : decode cX3_dries 53 = .ok (.iconst 1, 1) := dk_4 (dk_at dksX3_dries_2 6 rfl rfl)
theorem dX3_dries_54 : decode cX3_dries 54 = .ok (.goto 4, 3) := dk_167 0 4 (dk_at dksX3_dries_2 7 rfl rfl)
theorem dX3_dries_57 : decode cX3_dries 57 = .ok (.iconst 4, 1) := dk_7 (dk_at dksX3_dries_2 10 rfl rfl)
theorem dX3_dries_58 : decode cX3_dries 58 = .ok (.aload_n 0, 1) := dk_42 (dk_at dksX3_dries_2 11 rfl rfl)
theorem dX3_dries_59 : decode cX3_dries 59 = .ok (.getfield 7, 3) := dk_180 0 7 (dk_at dksX3_dries_2 12 rfl rfl)
theorem dX3_dries_62 : decode cX3_dries 62 = .ok (.iload_n 1, 1) := dk_27 (dk_at dksX3_dries_2 15 rfl rfl)
theorem dX3_dries_63 : decode cX3_dries 63 = .ok (.bipush 15, 2) := dk_16 15 (dk_at dksX3_dries_2 16 rfl rfl)
theorem dX3_dries_65 : decode cX3_dries 65 = .ok (.iadd, 1) := dk_96 (dk_at dksX3_dries_2 18 rfl rfl)
theorem dX3_dries_66 : decode cX3_dries 66 = .ok (.aload_n 0, 1) := dk_42 (dk_at dksX3_dries_2 19 rfl rfl)
theorem dX3_dries_67 : decode cX3_dries 67 = .ok (.getfield 7, 3) := dk_180 0 7 (dk_at dksX3_dries_2 20 rfl rfl)
theorem dX3_dries_70 : decode cX3_dries 70 = .ok (.iload_n 2, 1) := dk_28 (dk_at dksX3_dries_2 23 rfl rfl)
theorem dX3_dries_71 : decode cX3_dries 71 = .ok (.iaload, 1) := dk_46 (dk_at dksX3_dries_3 0 rfl rfl)
theorem dX3_dries_72 : decode cX3_dries 72 = .ok (.iadd, 1) := dk_96 (dk_at dksX3_dries_3 1 rfl rfl)
theorem dX3_dries_73 : decode cX3_dries 73 = .ok (.iaload, 1) := dk_46 (dk_at dksX3_dries_3 2 rfl rfl)
theorem dX3_dries_74 : decode cX3_dries 74 = .ok (.bipush 25, 2) := dk_16 25 (dk_at dksX3_dries_3 3 rfl rfl)
theorem dX3_dries_76 : decode cX3_dries 76 = .ok (.if_icmp .lt 7, 3) := dk_161 0 7 (dk_at dksX3_dries_3 5 rfl rfl)
theorem dX3_dries_79 : decode cX3_dries 79 = .ok (.iconst 1, 1) := dk_4 (dk_at dksX3_dries_3 8 rfl rfl)
theorem dX3_dries_80 : decode cX3_dries 80 = .ok (.goto 4, 3) := dk_167 0 4 (dk_at dksX3_dries_3 9 rfl rfl)
theorem dX3_dries_83 : decode cX3_dries 83 = .ok (.iconst 0, 1) := dk_3 (dk_at dksX3_dries_3 12 rfl rfl)
theorem dX3_dries_84 : decode cX3_dries 84 = .ok (.iadd, 1) := dk_96 (dk_at dksX3_dries_3 13 rfl rfl)
theorem dX3_dries_85 : decode cX3_dries 85 = .ok (.isub, 1) := dk_100 (dk_at dksX3_dries_3 14 rfl rfl)
theorem dX3_dries_86 : decode cX3_dries 86 = .ok (.iastore, 1) := dk_79 (dk_at dksX3_dries_3 15 rfl rfl)
theorem dX3_dries_87 : decode cX3_dries 87 = .ok (.aload_n 0, 1) := dk_42 (dk_at dksX3_dries_3 16 rfl rfl)
theorem dX3_dries_88 : decode cX3_dries 88 = .ok (.getfield 7, 3) := dk_180 0 7 (dk_at dksX3_dries_3 17 rfl rfl)
theorem dX3_dries_91 : decode cX3_dries 91 = .ok (.iload_n 2, 1) := dk_28 (dk_at dksX3_dries_3 20 rfl rfl)
theorem dX3_dries_92 : decode cX3_dries 92 = .ok (.iconst 1, 1) := dk_4 (dk_at dksX3_dries_3 21 rfl rfl)
theorem dX3_dries_93 : decode cX3_dries 93 = .ok (.iadd, 1) := dk_96 (dk_at dksX3_dries_3 22 rfl rfl)
theorem dX3_dries_94 : decode cX3_dries 94 = .ok (.aload_n 0, 1) := dk_42 (dk_at dksX3_dries_3 23 rfl rfl)
theorem dX3_dries_95 : decode cX3_dries 95 = .ok (.getfield 7, 3) := dk_180 0 7 (dk_at dksX3_dries_4 0 rfl rfl)
theorem dX3_dries_98 : decode cX3_dries 98 = .ok (.iload_n 2, 1) := dk_28 (dk_at dksX3_dries_4 3 rfl rfl)
theorem dX3_dries_99 : decode cX3_dries 99 = .ok (.iconst 1, 1) := dk_4 (dk_at dksX3_dries_4 4 rfl rfl)
theorem dX3_dries_100 : decode cX3_dries 100 = .ok (.iadd, 1) := dk_96 (dk_at dksX3_dries_4 5 rfl rfl)
theorem dX3_dries_101 : decode cX3_dries 101 = .ok (.iaload, 1) := dk_46 (dk_at dksX3_dries_4 6 rfl rfl)
theorem dX3_dries_102 : decode cX3_dries 102 = .ok (.ifCond .ge 7, 3) := dk_156 0 7 (dk_at dksX3_dries_4 7 rfl rfl)
theorem dX3_dries_105 : decode cX3_dries 105 = .ok (.iconst 0, 1) := dk_3 (dk_at dksX3_dries_4 10 rfl rfl)
theorem dX3_dries_106 : decode cX3_dries 106 = .ok (.goto 11, 3) := dk_167 0 11 (dk_at dksX3_dries_4 11 rfl rfl)
theorem dX3_dries_109 : decode cX3_dries 109 = .ok (.aload_n 0, 1) := dk_42 (dk_at dksX3_dries_4 14 rfl rfl)
theorem dX3_dries_110 : decode cX3_dries 110 = .ok (.getfield 7, 3) := dk_180 0 7 (dk_at dksX3_dries_4 15 rfl rfl)
theorem dX3_dries_113 : decode cX3_dries 113 = .ok (.iload_n 2, 1) := dk_28 (dk_at dksX3_dries_4 18 rfl rfl)
theorem dX3_dries_114 : decode cX3_dries 114 = .ok (.iconst 1, 1) := dk_4 (dk_at dksX3_dries_4 19 rfl rfl)
theorem dX3_dries_115 : decode cX3_dries 115 = .ok (.iadd, 1) := dk_96 (dk_at dksX3_dries_4 20 rfl rfl)
theorem dX3_dries_116 : decode cX3_dries 116 = .ok (.iaload, 1) := dk_46 (dk_at dksX3_dries_4 21 rfl rfl)
theorem dX3_dries_117 : decode cX3_dries 117 = .ok (.iastore, 1) := dk_79 (dk_at dksX3_dries_4 22 rfl rfl)
theorem dX3_dries_118 : decode cX3_dries 118 = .ok (.return_, 1) := dk_177 (dk_at dksX3_dries_4 23 rfl rfl)
abbrev cX3_wanders : ByteArray := prog_11_method_39_code
def yX3_wanders : MethodName := ⟨RX3, "wanders", "(I)V"⟩
def dkwX3_wanders_6 : List UInt8 := [132, 2, 1, 167, 255, 114, 177]
abbrev dktX3_wanders_6 : List UInt8 := dkwX3_wanders_6 ++ []
def dkwX3_wanders_5 : List UInt8 := [159, 0, 24, 42, 180, 0, 7, 27, 42, 180, 0, 7, 29, 5, 96, 46, 184, 0, 43, 4, 96, 21, 5, 79]
abbrev dktX3_wanders_5 : List UInt8 := dkwX3_wanders_5 ++ dktX3_wanders_6
def dkwX3_wanders_4 : List UInt8 := [159, 0, 46, 42, 180, 0, 7, 29, 4, 96, 21, 5, 79, 42, 180, 0, 7, 29, 5, 96, 46, 2]
abbrev dktX3_wanders_4 : List UInt8 := dkwX3_wanders_4 ++ dktX3_wanders_5
def dkwX3_wanders_3 : List UInt8 := [3, 54, 4, 21, 4, 153, 0, 12, 42, 27, 28, 182, 0, 102, 167, 0, 4, 2, 54, 5, 21, 5, 2]
abbrev dktX3_wanders_3 : List UInt8 := dkwX3_wanders_3 ++ dktX3_wanders_4
def dkwX3_wanders_2 : List UInt8 := [180, 0, 7, 29, 5, 96, 46, 2, 159, 0, 12, 42, 27, 28, 182, 0, 99, 153, 0, 7, 4, 167, 0, 4]
abbrev dktX3_wanders_2 : List UInt8 := dkwX3_wanders_2 ++ dktX3_wanders_3
def dkwX3_wanders_1 : List UInt8 := [28, 182, 0, 96, 153, 0, 44, 42, 27, 42, 180, 0, 7, 29, 4, 96, 46, 182, 0, 83, 153, 0, 28, 42]
abbrev dktX3_wanders_1 : List UInt8 := dkwX3_wanders_1 ++ dktX3_wanders_2
def dkwX3_wanders_0 : List UInt8 := [3, 61, 28, 42, 180, 0, 7, 27, 17, 0, 211, 96, 46, 162, 0, 134, 27, 28, 184, 0, 40, 62, 42, 27]
abbrev dktX3_wanders_0 : List UInt8 := dkwX3_wanders_0 ++ dktX3_wanders_1
theorem dksX3_wanders_0 : cX3_wanders.data.toList.drop 0 = dktX3_wanders_0 := by decide +kernel
theorem dksX3_wanders_1 : cX3_wanders.data.toList.drop 24 = dktX3_wanders_1 := dk_seg dksX3_wanders_0 24 rfl rfl
theorem dksX3_wanders_2 : cX3_wanders.data.toList.drop 48 = dktX3_wanders_2 := dk_seg dksX3_wanders_1 24 rfl rfl
theorem dksX3_wanders_3 : cX3_wanders.data.toList.drop 72 = dktX3_wanders_3 := dk_seg dksX3_wanders_2 24 rfl rfl
theorem dksX3_wanders_4 : cX3_wanders.data.toList.drop 95 = dktX3_wanders_4 := dk_seg dksX3_wanders_3 23 rfl rfl
theorem dksX3_wanders_5 : cX3_wanders.data.toList.drop 117 = dktX3_wanders_5 := dk_seg dksX3_wanders_4 22 rfl rfl
theorem dksX3_wanders_6 : cX3_wanders.data.toList.drop 141 = dktX3_wanders_6 := dk_seg dksX3_wanders_5 24 rfl rfl
theorem dX3_wanders_0 : decode cX3_wanders 0 = .ok (.iconst 0, 1) := dk_3 (dk_at dksX3_wanders_0 0 rfl rfl)
theorem dX3_wanders_1 : decode cX3_wanders 1 = .ok (.istore_n 2, 1) := dk_61 (dk_at dksX3_wanders_0 1 rfl rfl)
theorem dX3_wanders_2 : decode cX3_wanders 2 = .ok (.iload_n 2, 1) := dk_28 (dk_at dksX3_wanders_0 2 rfl rfl)
theorem dX3_wanders_3 : decode cX3_wanders 3 = .ok (.aload_n 0, 1) := dk_42 (dk_at dksX3_wanders_0 3 rfl rfl)
theorem dX3_wanders_4 : decode cX3_wanders 4 = .ok (.getfield 7, 3) := dk_180 0 7 (dk_at dksX3_wanders_0 4 rfl rfl)
theorem dX3_wanders_7 : decode cX3_wanders 7 = .ok (.iload_n 1, 1) := dk_27 (dk_at dksX3_wanders_0 7 rfl rfl)
theorem dX3_wanders_8 : decode cX3_wanders 8 = .ok (.sipush 211, 3) := dk_17 0 211 (dk_at dksX3_wanders_0 8 rfl rfl)
theorem dX3_wanders_11 : decode cX3_wanders 11 = .ok (.iadd, 1) := dk_96 (dk_at dksX3_wanders_0 11 rfl rfl)
theorem dX3_wanders_12 : decode cX3_wanders 12 = .ok (.iaload, 1) := dk_46 (dk_at dksX3_wanders_0 12 rfl rfl)
theorem dX3_wanders_13 : decode cX3_wanders 13 = .ok (.if_icmp .ge 134, 3) := dk_162 0 134 (dk_at dksX3_wanders_0 13 rfl rfl)
theorem dX3_wanders_16 : decode cX3_wanders 16 = .ok (.iload_n 1, 1) := dk_27 (dk_at dksX3_wanders_0 16 rfl rfl)
theorem dX3_wanders_17 : decode cX3_wanders 17 = .ok (.iload_n 2, 1) := dk_28 (dk_at dksX3_wanders_0 17 rfl rfl)
theorem dX3_wanders_18 : decode cX3_wanders 18 = .ok (.invokestatic 40, 3) := dk_184 0 40 (dk_at dksX3_wanders_0 18 rfl rfl)
theorem dX3_wanders_21 : decode cX3_wanders 21 = .ok (.istore_n 3, 1) := dk_62 (dk_at dksX3_wanders_0 21 rfl rfl)
theorem dX3_wanders_22 : decode cX3_wanders 22 = .ok (.aload_n 0, 1) := dk_42 (dk_at dksX3_wanders_0 22 rfl rfl)
theorem dX3_wanders_23 : decode cX3_wanders 23 = .ok (.iload_n 1, 1) := dk_27 (dk_at dksX3_wanders_0 23 rfl rfl)
theorem dX3_wanders_24 : decode cX3_wanders 24 = .ok (.iload_n 2, 1) := dk_28 (dk_at dksX3_wanders_1 0 rfl rfl)
theorem dX3_wanders_25 : decode cX3_wanders 25 = .ok (.invokevirtual 96, 3) := dk_182 0 96 (dk_at dksX3_wanders_1 1 rfl rfl)
theorem dX3_wanders_28 : decode cX3_wanders 28 = .ok (.ifCond .eq 44, 3) := dk_153 0 44 (dk_at dksX3_wanders_1 4 rfl rfl)
theorem dX3_wanders_31 : decode cX3_wanders 31 = .ok (.aload_n 0, 1) := dk_42 (dk_at dksX3_wanders_1 7 rfl rfl)
theorem dX3_wanders_32 : decode cX3_wanders 32 = .ok (.iload_n 1, 1) := dk_27 (dk_at dksX3_wanders_1 8 rfl rfl)
theorem dX3_wanders_33 : decode cX3_wanders 33 = .ok (.aload_n 0, 1) := dk_42 (dk_at dksX3_wanders_1 9 rfl rfl)
theorem dX3_wanders_34 : decode cX3_wanders 34 = .ok (.getfield 7, 3) := dk_180 0 7 (dk_at dksX3_wanders_1 10 rfl rfl)
theorem dX3_wanders_37 : decode cX3_wanders 37 = .ok (.iload_n 3, 1) := dk_29 (dk_at dksX3_wanders_1 13 rfl rfl)
theorem dX3_wanders_38 : decode cX3_wanders 38 = .ok (.iconst 1, 1) := dk_4 (dk_at dksX3_wanders_1 14 rfl rfl)
theorem dX3_wanders_39 : decode cX3_wanders 39 = .ok (.iadd, 1) := dk_96 (dk_at dksX3_wanders_1 15 rfl rfl)
theorem dX3_wanders_40 : decode cX3_wanders 40 = .ok (.iaload, 1) := dk_46 (dk_at dksX3_wanders_1 16 rfl rfl)
theorem dX3_wanders_41 : decode cX3_wanders 41 = .ok (.invokevirtual 83, 3) := dk_182 0 83 (dk_at dksX3_wanders_1 17 rfl rfl)
theorem dX3_wanders_44 : decode cX3_wanders 44 = .ok (.ifCond .eq 28, 3) := dk_153 0 28 (dk_at dksX3_wanders_1 20 rfl rfl)
theorem dX3_wanders_47 : decode cX3_wanders 47 = .ok (.aload_n 0, 1) := dk_42 (dk_at dksX3_wanders_1 23 rfl rfl)
theorem dX3_wanders_48 : decode cX3_wanders 48 = .ok (.getfield 7, 3) := dk_180 0 7 (dk_at dksX3_wanders_2 0 rfl rfl)
theorem dX3_wanders_51 : decode cX3_wanders 51 = .ok (.iload_n 3, 1) := dk_29 (dk_at dksX3_wanders_2 3 rfl rfl)
theorem dX3_wanders_52 : decode cX3_wanders 52 = .ok (.iconst 2, 1) := dk_5 (dk_at dksX3_wanders_2 4 rfl rfl)
theorem dX3_wanders_53 : decode cX3_wanders 53 = .ok (.iadd, 1) := dk_96 (dk_at dksX3_wanders_2 5 rfl rfl)
theorem dX3_wanders_54 : decode cX3_wanders 54 = .ok (.iaload, 1) := dk_46 (dk_at dksX3_wanders_2 6 rfl rfl)
theorem dX3_wanders_55 : decode cX3_wanders 55 = .ok (.iconst (-1), 1) := dk_2 (dk_at dksX3_wanders_2 7 rfl rfl)
theorem dX3_wanders_56 : decode cX3_wanders 56 = .ok (.if_icmp .eq 12, 3) := dk_159 0 12 (dk_at dksX3_wanders_2 8 rfl rfl)
theorem dX3_wanders_59 : decode cX3_wanders 59 = .ok (.aload_n 0, 1) := dk_42 (dk_at dksX3_wanders_2 11 rfl rfl)
theorem dX3_wanders_60 : decode cX3_wanders 60 = .ok (.iload_n 1, 1) := dk_27 (dk_at dksX3_wanders_2 12 rfl rfl)
theorem dX3_wanders_61 : decode cX3_wanders 61 = .ok (.iload_n 2, 1) := dk_28 (dk_at dksX3_wanders_2 13 rfl rfl)
theorem dX3_wanders_62 : decode cX3_wanders 62 = .ok (.invokevirtual 99, 3) := dk_182 0 99 (dk_at dksX3_wanders_2 14 rfl rfl)
theorem dX3_wanders_65 : decode cX3_wanders 65 = .ok (.ifCond .eq 7, 3) := dk_153 0 7 (dk_at dksX3_wanders_2 17 rfl rfl)
theorem dX3_wanders_68 : decode cX3_wanders 68 = .ok (.iconst 1, 1) := dk_4 (dk_at dksX3_wanders_2 20 rfl rfl)
theorem dX3_wanders_69 : decode cX3_wanders 69 = .ok (.goto 4, 3) := dk_167 0 4 (dk_at dksX3_wanders_2 21 rfl rfl)
theorem dX3_wanders_72 : decode cX3_wanders 72 = .ok (.iconst 0, 1) := dk_3 (dk_at dksX3_wanders_3 0 rfl rfl)
theorem dX3_wanders_73 : decode cX3_wanders 73 = .ok (.istore 4, 2) := dk_54 4 (dk_at dksX3_wanders_3 1 rfl rfl)
theorem dX3_wanders_75 : decode cX3_wanders 75 = .ok (.iload 4, 2) := dk_21 4 (dk_at dksX3_wanders_3 3 rfl rfl)
theorem dX3_wanders_77 : decode cX3_wanders 77 = .ok (.ifCond .eq 12, 3) := dk_153 0 12 (dk_at dksX3_wanders_3 5 rfl rfl)
theorem dX3_wanders_80 : decode cX3_wanders 80 = .ok (.aload_n 0, 1) := dk_42 (dk_at dksX3_wanders_3 8 rfl rfl)
theorem dX3_wanders_81 : decode cX3_wanders 81 = .ok (.iload_n 1, 1) := dk_27 (dk_at dksX3_wanders_3 9 rfl rfl)
theorem dX3_wanders_82 : decode cX3_wanders 82 = .ok (.iload_n 2, 1) := dk_28 (dk_at dksX3_wanders_3 10 rfl rfl)
theorem dX3_wanders_83 : decode cX3_wanders 83 = .ok (.invokevirtual 102, 3) := dk_182 0 102 (dk_at dksX3_wanders_3 11 rfl rfl)
theorem dX3_wanders_86 : decode cX3_wanders 86 = .ok (.goto 4, 3) := dk_167 0 4 (dk_at dksX3_wanders_3 14 rfl rfl)
theorem dX3_wanders_89 : decode cX3_wanders 89 = .ok (.iconst (-1), 1) := dk_2 (dk_at dksX3_wanders_3 17 rfl rfl)
theorem dX3_wanders_90 : decode cX3_wanders 90 = .ok (.istore 5, 2) := dk_54 5 (dk_at dksX3_wanders_3 18 rfl rfl)
theorem dX3_wanders_92 : decode cX3_wanders 92 = .ok (.iload 5, 2) := dk_21 5 (dk_at dksX3_wanders_3 20 rfl rfl)
theorem dX3_wanders_94 : decode cX3_wanders 94 = .ok (.iconst (-1), 1) := dk_2 (dk_at dksX3_wanders_3 22 rfl rfl)
theorem dX3_wanders_95 : decode cX3_wanders 95 = .ok (.if_icmp .eq 46, 3) := dk_159 0 46 (dk_at dksX3_wanders_4 0 rfl rfl)
theorem dX3_wanders_98 : decode cX3_wanders 98 = .ok (.aload_n 0, 1) := dk_42 (dk_at dksX3_wanders_4 3 rfl rfl)
theorem dX3_wanders_99 : decode cX3_wanders 99 = .ok (.getfield 7, 3) := dk_180 0 7 (dk_at dksX3_wanders_4 4 rfl rfl)
theorem dX3_wanders_102 : decode cX3_wanders 102 = .ok (.iload_n 3, 1) := dk_29 (dk_at dksX3_wanders_4 7 rfl rfl)
theorem dX3_wanders_103 : decode cX3_wanders 103 = .ok (.iconst 1, 1) := dk_4 (dk_at dksX3_wanders_4 8 rfl rfl)
theorem dX3_wanders_104 : decode cX3_wanders 104 = .ok (.iadd, 1) := dk_96 (dk_at dksX3_wanders_4 9 rfl rfl)
theorem dX3_wanders_105 : decode cX3_wanders 105 = .ok (.iload 5, 2) := dk_21 5 (dk_at dksX3_wanders_4 10 rfl rfl)
theorem dX3_wanders_107 : decode cX3_wanders 107 = .ok (.iastore, 1) := dk_79 (dk_at dksX3_wanders_4 12 rfl rfl)
theorem dX3_wanders_108 : decode cX3_wanders 108 = .ok (.aload_n 0, 1) := dk_42 (dk_at dksX3_wanders_4 13 rfl rfl)
theorem dX3_wanders_109 : decode cX3_wanders 109 = .ok (.getfield 7, 3) := dk_180 0 7 (dk_at dksX3_wanders_4 14 rfl rfl)
theorem dX3_wanders_112 : decode cX3_wanders 112 = .ok (.iload_n 3, 1) := dk_29 (dk_at dksX3_wanders_4 17 rfl rfl)
theorem dX3_wanders_113 : decode cX3_wanders 113 = .ok (.iconst 2, 1) := dk_5 (dk_at dksX3_wanders_4 18 rfl rfl)
theorem dX3_wanders_114 : decode cX3_wanders 114 = .ok (.iadd, 1) := dk_96 (dk_at dksX3_wanders_4 19 rfl rfl)
theorem dX3_wanders_115 : decode cX3_wanders 115 = .ok (.iaload, 1) := dk_46 (dk_at dksX3_wanders_4 20 rfl rfl)
theorem dX3_wanders_116 : decode cX3_wanders 116 = .ok (.iconst (-1), 1) := dk_2 (dk_at dksX3_wanders_4 21 rfl rfl)
theorem dX3_wanders_117 : decode cX3_wanders 117 = .ok (.if_icmp .eq 24, 3) := dk_159 0 24 (dk_at dksX3_wanders_5 0 rfl rfl)
theorem dX3_wanders_120 : decode cX3_wanders 120 = .ok (.aload_n 0, 1) := dk_42 (dk_at dksX3_wanders_5 3 rfl rfl)
theorem dX3_wanders_121 : decode cX3_wanders 121 = .ok (.getfield 7, 3) := dk_180 0 7 (dk_at dksX3_wanders_5 4 rfl rfl)
theorem dX3_wanders_124 : decode cX3_wanders 124 = .ok (.iload_n 1, 1) := dk_27 (dk_at dksX3_wanders_5 7 rfl rfl)
theorem dX3_wanders_125 : decode cX3_wanders 125 = .ok (.aload_n 0, 1) := dk_42 (dk_at dksX3_wanders_5 8 rfl rfl)
theorem dX3_wanders_126 : decode cX3_wanders 126 = .ok (.getfield 7, 3) := dk_180 0 7 (dk_at dksX3_wanders_5 9 rfl rfl)
theorem dX3_wanders_129 : decode cX3_wanders 129 = .ok (.iload_n 3, 1) := dk_29 (dk_at dksX3_wanders_5 12 rfl rfl)
theorem dX3_wanders_130 : decode cX3_wanders 130 = .ok (.iconst 2, 1) := dk_5 (dk_at dksX3_wanders_5 13 rfl rfl)
theorem dX3_wanders_131 : decode cX3_wanders 131 = .ok (.iadd, 1) := dk_96 (dk_at dksX3_wanders_5 14 rfl rfl)
theorem dX3_wanders_132 : decode cX3_wanders 132 = .ok (.iaload, 1) := dk_46 (dk_at dksX3_wanders_5 15 rfl rfl)
theorem dX3_wanders_133 : decode cX3_wanders 133 = .ok (.invokestatic 43, 3) := dk_184 0 43 (dk_at dksX3_wanders_5 16 rfl rfl)
theorem dX3_wanders_136 : decode cX3_wanders 136 = .ok (.iconst 1, 1) := dk_4 (dk_at dksX3_wanders_5 19 rfl rfl)
theorem dX3_wanders_137 : decode cX3_wanders 137 = .ok (.iadd, 1) := dk_96 (dk_at dksX3_wanders_5 20 rfl rfl)
theorem dX3_wanders_138 : decode cX3_wanders 138 = .ok (.iload 5, 2) := dk_21 5 (dk_at dksX3_wanders_5 21 rfl rfl)
theorem dX3_wanders_140 : decode cX3_wanders 140 = .ok (.iastore, 1) := dk_79 (dk_at dksX3_wanders_5 23 rfl rfl)
theorem dX3_wanders_141 : decode cX3_wanders 141 = .ok (.iinc 2 1, 3) := dk_132 2 1 (dk_at dksX3_wanders_6 0 rfl rfl)
theorem dX3_wanders_144 : decode cX3_wanders 144 = .ok (.goto (-142), 3) := dk_167 255 114 (dk_at dksX3_wanders_6 3 rfl rfl)
theorem dX3_wanders_147 : decode cX3_wanders 147 = .ok (.return_, 1) := dk_177 (dk_at dksX3_wanders_6 6 rfl rfl)
abbrev cX3_lives : ByteArray := prog_11_method_32_code
def yX3_lives : MethodName := ⟨RX3, "lives", "(II)Z"⟩
def dkwX3_lives_0 : List UInt8 := [42, 180, 0, 7, 27, 28, 184, 0, 40, 6, 96, 46, 154, 0, 7, 4, 167, 0, 4, 3, 172]
abbrev dktX3_lives_0 : List UInt8 := dkwX3_lives_0 ++ []
theorem dksX3_lives_0 : cX3_lives.data.toList.drop 0 = dktX3_lives_0 := by decide +kernel
theorem dX3_lives_0 : decode cX3_lives 0 = .ok (.aload_n 0, 1) := dk_42 (dk_at dksX3_lives_0 0 rfl rfl)
theorem dX3_lives_1 : decode cX3_lives 1 = .ok (.getfield 7, 3) := dk_180 0 7 (dk_at dksX3_lives_0 1 rfl rfl)
theorem dX3_lives_4 : decode cX3_lives 4 = .ok (.iload_n 1, 1) := dk_27 (dk_at dksX3_lives_0 4 rfl rfl)
theorem dX3_lives_5 : decode cX3_lives 5 = .ok (.iload_n 2, 1) := dk_28 (dk_at dksX3_lives_0 5 rfl rfl)
theorem dX3_lives_6 : decode cX3_lives 6 = .ok (.invokestatic 40, 3) := dk_184 0 40 (dk_at dksX3_lives_0 6 rfl rfl)
theorem dX3_lives_9 : decode cX3_lives 9 = .ok (.iconst 3, 1) := dk_6 (dk_at dksX3_lives_0 9 rfl rfl)
theorem dX3_lives_10 : decode cX3_lives 10 = .ok (.iadd, 1) := dk_96 (dk_at dksX3_lives_0 10 rfl rfl)
theorem dX3_lives_11 : decode cX3_lives 11 = .ok (.iaload, 1) := dk_46 (dk_at dksX3_lives_0 11 rfl rfl)
theorem dX3_lives_12 : decode cX3_lives 12 = .ok (.ifCond .ne 7, 3) := dk_154 0 7 (dk_at dksX3_lives_0 12 rfl rfl)
theorem dX3_lives_15 : decode cX3_lives 15 = .ok (.iconst 1, 1) := dk_4 (dk_at dksX3_lives_0 15 rfl rfl)
theorem dX3_lives_16 : decode cX3_lives 16 = .ok (.goto 4, 3) := dk_167 0 4 (dk_at dksX3_lives_0 16 rfl rfl)
theorem dX3_lives_19 : decode cX3_lives 19 = .ok (.iconst 0, 1) := dk_3 (dk_at dksX3_lives_0 19 rfl rfl)
theorem dX3_lives_20 : decode cX3_lives 20 = .ok (.ireturn, 1) := dk_172 (dk_at dksX3_lives_0 20 rfl rfl)
abbrev cX3_isTight : ByteArray := prog_11_method_31_code
def yX3_isTight : MethodName := ⟨RX3, "isTight", "(II)Z"⟩
def dkwX3_isTight_1 : List UInt8 := [184, 0, 43, 46, 42, 180, 0, 7, 27, 28, 184, 0, 40, 46, 162, 0, 7, 4, 167, 0, 4, 3, 172]
abbrev dktX3_isTight_1 : List UInt8 := dkwX3_isTight_1 ++ []
def dkwX3_isTight_0 : List UInt8 := [42, 180, 0, 7, 27, 28, 184, 0, 40, 5, 96, 46, 62, 29, 2, 159, 0, 30, 42, 180, 0, 7, 27, 29]
abbrev dktX3_isTight_0 : List UInt8 := dkwX3_isTight_0 ++ dktX3_isTight_1
theorem dksX3_isTight_0 : cX3_isTight.data.toList.drop 0 = dktX3_isTight_0 := by decide +kernel
theorem dksX3_isTight_1 : cX3_isTight.data.toList.drop 24 = dktX3_isTight_1 := dk_seg dksX3_isTight_0 24 rfl rfl
theorem dX3_isTight_0 : decode cX3_isTight 0 = .ok (.aload_n 0, 1) := dk_42 (dk_at dksX3_isTight_0 0 rfl rfl)
theorem dX3_isTight_1 : decode cX3_isTight 1 = .ok (.getfield 7, 3) := dk_180 0 7 (dk_at dksX3_isTight_0 1 rfl rfl)
theorem dX3_isTight_4 : decode cX3_isTight 4 = .ok (.iload_n 1, 1) := dk_27 (dk_at dksX3_isTight_0 4 rfl rfl)
theorem dX3_isTight_5 : decode cX3_isTight 5 = .ok (.iload_n 2, 1) := dk_28 (dk_at dksX3_isTight_0 5 rfl rfl)
theorem dX3_isTight_6 : decode cX3_isTight 6 = .ok (.invokestatic 40, 3) := dk_184 0 40 (dk_at dksX3_isTight_0 6 rfl rfl)
theorem dX3_isTight_9 : decode cX3_isTight 9 = .ok (.iconst 2, 1) := dk_5 (dk_at dksX3_isTight_0 9 rfl rfl)
theorem dX3_isTight_10 : decode cX3_isTight 10 = .ok (.iadd, 1) := dk_96 (dk_at dksX3_isTight_0 10 rfl rfl)
theorem dX3_isTight_11 : decode cX3_isTight 11 = .ok (.iaload, 1) := dk_46 (dk_at dksX3_isTight_0 11 rfl rfl)
theorem dX3_isTight_12 : decode cX3_isTight 12 = .ok (.istore_n 3, 1) := dk_62 (dk_at dksX3_isTight_0 12 rfl rfl)
theorem dX3_isTight_13 : decode cX3_isTight 13 = .ok (.iload_n 3, 1) := dk_29 (dk_at dksX3_isTight_0 13 rfl rfl)
theorem dX3_isTight_14 : decode cX3_isTight 14 = .ok (.iconst (-1), 1) := dk_2 (dk_at dksX3_isTight_0 14 rfl rfl)
theorem dX3_isTight_15 : decode cX3_isTight 15 = .ok (.if_icmp .eq 30, 3) := dk_159 0 30 (dk_at dksX3_isTight_0 15 rfl rfl)
theorem dX3_isTight_18 : decode cX3_isTight 18 = .ok (.aload_n 0, 1) := dk_42 (dk_at dksX3_isTight_0 18 rfl rfl)
theorem dX3_isTight_19 : decode cX3_isTight 19 = .ok (.getfield 7, 3) := dk_180 0 7 (dk_at dksX3_isTight_0 19 rfl rfl)
theorem dX3_isTight_22 : decode cX3_isTight 22 = .ok (.iload_n 1, 1) := dk_27 (dk_at dksX3_isTight_0 22 rfl rfl)
theorem dX3_isTight_23 : decode cX3_isTight 23 = .ok (.iload_n 3, 1) := dk_29 (dk_at dksX3_isTight_0 23 rfl rfl)
theorem dX3_isTight_24 : decode cX3_isTight 24 = .ok (.invokestatic 43, 3) := dk_184 0 43 (dk_at dksX3_isTight_1 0 rfl rfl)
theorem dX3_isTight_27 : decode cX3_isTight 27 = .ok (.iaload, 1) := dk_46 (dk_at dksX3_isTight_1 3 rfl rfl)
theorem dX3_isTight_28 : decode cX3_isTight 28 = .ok (.aload_n 0, 1) := dk_42 (dk_at dksX3_isTight_1 4 rfl rfl)
theorem dX3_isTight_29 : decode cX3_isTight 29 = .ok (.getfield 7, 3) := dk_180 0 7 (dk_at dksX3_isTight_1 5 rfl rfl)
theorem dX3_isTight_32 : decode cX3_isTight 32 = .ok (.iload_n 1, 1) := dk_27 (dk_at dksX3_isTight_1 8 rfl rfl)
theorem dX3_isTight_33 : decode cX3_isTight 33 = .ok (.iload_n 2, 1) := dk_28 (dk_at dksX3_isTight_1 9 rfl rfl)
theorem dX3_isTight_34 : decode cX3_isTight 34 = .ok (.invokestatic 40, 3) := dk_184 0 40 (dk_at dksX3_isTight_1 10 rfl rfl)
theorem dX3_isTight_37 : decode cX3_isTight 37 = .ok (.iaload, 1) := dk_46 (dk_at dksX3_isTight_1 13 rfl rfl)
theorem dX3_isTight_38 : decode cX3_isTight 38 = .ok (.if_icmp .ge 7, 3) := dk_162 0 7 (dk_at dksX3_isTight_1 14 rfl rfl)
theorem dX3_isTight_41 : decode cX3_isTight 41 = .ok (.iconst 1, 1) := dk_4 (dk_at dksX3_isTight_1 17 rfl rfl)
theorem dX3_isTight_42 : decode cX3_isTight 42 = .ok (.goto 4, 3) := dk_167 0 4 (dk_at dksX3_isTight_1 18 rfl rfl)
theorem dX3_isTight_45 : decode cX3_isTight 45 = .ok (.iconst 0, 1) := dk_3 (dk_at dksX3_isTight_1 21 rfl rfl)
theorem dX3_isTight_46 : decode cX3_isTight 46 = .ok (.ireturn, 1) := dk_172 (dk_at dksX3_isTight_1 22 rfl rfl)
abbrev cX3_wayOf : ByteArray := prog_11_method_38_code
def yX3_wayOf : MethodName := ⟨RX3, "wayOf", "(II)I"⟩
def dkwX3_wayOf_5 : List UInt8 := [167, 0, 5, 21, 5, 54, 5, 132, 6, 1, 167, 255, 156, 21, 4, 172]
abbrev dktX3_wayOf_5 : List UInt8 := dkwX3_wayOf_5 ++ []
def dkwX3_wayOf_4 : List UInt8 := [21, 6, 167, 0, 5, 21, 4, 54, 4, 21, 8, 153, 0, 14, 42, 27, 21, 7, 28, 182, 0, 76]
abbrev dktX3_wayOf_4 : List UInt8 := dkwX3_wayOf_4 ++ dktX3_wayOf_5
def dkwX3_wayOf_3 : List UInt8 := [27, 21, 7, 28, 182, 0, 76, 21, 5, 164, 0, 7, 4, 167, 0, 4, 3, 54, 8, 21, 8, 153, 0, 8]
abbrev dktX3_wayOf_3 : List UInt8 := dkwX3_wayOf_3 ++ dktX3_wayOf_4
def dkwX3_wayOf_2 : List UInt8 := [153, 0, 14, 42, 27, 28, 21, 6, 182, 0, 93, 167, 0, 4, 2, 54, 7, 21, 7, 2, 159, 0, 20, 42]
abbrev dktX3_wayOf_2 : List UInt8 := dkwX3_wayOf_2 ++ dktX3_wayOf_3
def dkwX3_wayOf_1 : List UInt8 := [3, 54, 6, 21, 6, 16, 8, 162, 0, 99, 21, 6, 29, 159, 0, 24, 42, 27, 21, 6, 182, 0, 83]
abbrev dktX3_wayOf_1 : List UInt8 := dkwX3_wayOf_1 ++ dktX3_wayOf_2
def dkwX3_wayOf_0 : List UInt8 := [42, 180, 0, 7, 27, 28, 184, 0, 40, 4, 96, 46, 62, 2, 54, 4, 42, 27, 28, 182, 0, 80, 54, 5]
abbrev dktX3_wayOf_0 : List UInt8 := dkwX3_wayOf_0 ++ dktX3_wayOf_1
theorem dksX3_wayOf_0 : cX3_wayOf.data.toList.drop 0 = dktX3_wayOf_0 := by decide +kernel
theorem dksX3_wayOf_1 : cX3_wayOf.data.toList.drop 24 = dktX3_wayOf_1 := dk_seg dksX3_wayOf_0 24 rfl rfl
theorem dksX3_wayOf_2 : cX3_wayOf.data.toList.drop 47 = dktX3_wayOf_2 := dk_seg dksX3_wayOf_1 23 rfl rfl
theorem dksX3_wayOf_3 : cX3_wayOf.data.toList.drop 71 = dktX3_wayOf_3 := dk_seg dksX3_wayOf_2 24 rfl rfl
theorem dksX3_wayOf_4 : cX3_wayOf.data.toList.drop 95 = dktX3_wayOf_4 := dk_seg dksX3_wayOf_3 24 rfl rfl
theorem dksX3_wayOf_5 : cX3_wayOf.data.toList.drop 117 = dktX3_wayOf_5 := dk_seg dksX3_wayOf_4 22 rfl rfl
theorem dX3_wayOf_0 : decode cX3_wayOf 0 = .ok (.aload_n 0, 1) := dk_42 (dk_at dksX3_wayOf_0 0 rfl rfl)
theorem dX3_wayOf_1 : decode cX3_wayOf 1 = .ok (.getfield 7, 3) := dk_180 0 7 (dk_at dksX3_wayOf_0 1 rfl rfl)
theorem dX3_wayOf_4 : decode cX3_wayOf 4 = .ok (.iload_n 1, 1) := dk_27 (dk_at dksX3_wayOf_0 4 rfl rfl)
theorem dX3_wayOf_5 : decode cX3_wayOf 5 = .ok (.iload_n 2, 1) := dk_28 (dk_at dksX3_wayOf_0 5 rfl rfl)
theorem dX3_wayOf_6 : decode cX3_wayOf 6 = .ok (.invokestatic 40, 3) := dk_184 0 40 (dk_at dksX3_wayOf_0 6 rfl rfl)
theorem dX3_wayOf_9 : decode cX3_wayOf 9 = .ok (.iconst 1, 1) := dk_4 (dk_at dksX3_wayOf_0 9 rfl rfl)
theorem dX3_wayOf_10 : decode cX3_wayOf 10 = .ok (.iadd, 1) := dk_96 (dk_at dksX3_wayOf_0 10 rfl rfl)
theorem dX3_wayOf_11 : decode cX3_wayOf 11 = .ok (.iaload, 1) := dk_46 (dk_at dksX3_wayOf_0 11 rfl rfl)
theorem dX3_wayOf_12 : decode cX3_wayOf 12 = .ok (.istore_n 3, 1) := dk_62 (dk_at dksX3_wayOf_0 12 rfl rfl)
theorem dX3_wayOf_13 : decode cX3_wayOf 13 = .ok (.iconst (-1), 1) := dk_2 (dk_at dksX3_wayOf_0 13 rfl rfl)
theorem dX3_wayOf_14 : decode cX3_wayOf 14 = .ok (.istore 4, 2) := dk_54 4 (dk_at dksX3_wayOf_0 14 rfl rfl)
theorem dX3_wayOf_16 : decode cX3_wayOf 16 = .ok (.aload_n 0, 1) := dk_42 (dk_at dksX3_wayOf_0 16 rfl rfl)
theorem dX3_wayOf_17 : decode cX3_wayOf 17 = .ok (.iload_n 1, 1) := dk_27 (dk_at dksX3_wayOf_0 17 rfl rfl)
theorem dX3_wayOf_18 : decode cX3_wayOf 18 = .ok (.iload_n 2, 1) := dk_28 (dk_at dksX3_wayOf_0 18 rfl rfl)
theorem dX3_wayOf_19 : decode cX3_wayOf 19 = .ok (.invokevirtual 80, 3) := dk_182 0 80 (dk_at dksX3_wayOf_0 19 rfl rfl)
theorem dX3_wayOf_22 : decode cX3_wayOf 22 = .ok (.istore 5, 2) := dk_54 5 (dk_at dksX3_wayOf_0 22 rfl rfl)
theorem dX3_wayOf_24 : decode cX3_wayOf 24 = .ok (.iconst 0, 1) := dk_3 (dk_at dksX3_wayOf_1 0 rfl rfl)
theorem dX3_wayOf_25 : decode cX3_wayOf 25 = .ok (.istore 6, 2) := dk_54 6 (dk_at dksX3_wayOf_1 1 rfl rfl)
theorem dX3_wayOf_27 : decode cX3_wayOf 27 = .ok (.iload 6, 2) := dk_21 6 (dk_at dksX3_wayOf_1 3 rfl rfl)
theorem dX3_wayOf_29 : decode cX3_wayOf 29 = .ok (.bipush 8, 2) := dk_16 8 (dk_at dksX3_wayOf_1 5 rfl rfl)
theorem dX3_wayOf_31 : decode cX3_wayOf 31 = .ok (.if_icmp .ge 99, 3) := dk_162 0 99 (dk_at dksX3_wayOf_1 7 rfl rfl)
theorem dX3_wayOf_34 : decode cX3_wayOf 34 = .ok (.iload 6, 2) := dk_21 6 (dk_at dksX3_wayOf_1 10 rfl rfl)
theorem dX3_wayOf_36 : decode cX3_wayOf 36 = .ok (.iload_n 3, 1) := dk_29 (dk_at dksX3_wayOf_1 12 rfl rfl)
theorem dX3_wayOf_37 : decode cX3_wayOf 37 = .ok (.if_icmp .eq 24, 3) := dk_159 0 24 (dk_at dksX3_wayOf_1 13 rfl rfl)
theorem dX3_wayOf_40 : decode cX3_wayOf 40 = .ok (.aload_n 0, 1) := dk_42 (dk_at dksX3_wayOf_1 16 rfl rfl)
theorem dX3_wayOf_41 : decode cX3_wayOf 41 = .ok (.iload_n 1, 1) := dk_27 (dk_at dksX3_wayOf_1 17 rfl rfl)
theorem dX3_wayOf_42 : decode cX3_wayOf 42 = .ok (.iload 6, 2) := dk_21 6 (dk_at dksX3_wayOf_1 18 rfl rfl)
theorem dX3_wayOf_44 : decode cX3_wayOf 44 = .ok (.invokevirtual 83, 3) := dk_182 0 83 (dk_at dksX3_wayOf_1 20 rfl rfl)
theorem dX3_wayOf_47 : decode cX3_wayOf 47 = .ok (.ifCond .eq 14, 3) := dk_153 0 14 (dk_at dksX3_wayOf_2 0 rfl rfl)
theorem dX3_wayOf_50 : decode cX3_wayOf 50 = .ok (.aload_n 0, 1) := dk_42 (dk_at dksX3_wayOf_2 3 rfl rfl)
theorem dX3_wayOf_51 : decode cX3_wayOf 51 = .ok (.iload_n 1, 1) := dk_27 (dk_at dksX3_wayOf_2 4 rfl rfl)
theorem dX3_wayOf_52 : decode cX3_wayOf 52 = .ok (.iload_n 2, 1) := dk_28 (dk_at dksX3_wayOf_2 5 rfl rfl)
theorem dX3_wayOf_53 : decode cX3_wayOf 53 = .ok (.iload 6, 2) := dk_21 6 (dk_at dksX3_wayOf_2 6 rfl rfl)
theorem dX3_wayOf_55 : decode cX3_wayOf 55 = .ok (.invokevirtual 93, 3) := dk_182 0 93 (dk_at dksX3_wayOf_2 8 rfl rfl)
theorem dX3_wayOf_58 : decode cX3_wayOf 58 = .ok (.goto 4, 3) := dk_167 0 4 (dk_at dksX3_wayOf_2 11 rfl rfl)
theorem dX3_wayOf_61 : decode cX3_wayOf 61 = .ok (.iconst (-1), 1) := dk_2 (dk_at dksX3_wayOf_2 14 rfl rfl)
theorem dX3_wayOf_62 : decode cX3_wayOf 62 = .ok (.istore 7, 2) := dk_54 7 (dk_at dksX3_wayOf_2 15 rfl rfl)
theorem dX3_wayOf_64 : decode cX3_wayOf 64 = .ok (.iload 7, 2) := dk_21 7 (dk_at dksX3_wayOf_2 17 rfl rfl)
theorem dX3_wayOf_66 : decode cX3_wayOf 66 = .ok (.iconst (-1), 1) := dk_2 (dk_at dksX3_wayOf_2 19 rfl rfl)
theorem dX3_wayOf_67 : decode cX3_wayOf 67 = .ok (.if_icmp .eq 20, 3) := dk_159 0 20 (dk_at dksX3_wayOf_2 20 rfl rfl)
theorem dX3_wayOf_70 : decode cX3_wayOf 70 = .ok (.aload_n 0, 1) := dk_42 (dk_at dksX3_wayOf_2 23 rfl rfl)
theorem dX3_wayOf_71 : decode cX3_wayOf 71 = .ok (.iload_n 1, 1) := dk_27 (dk_at dksX3_wayOf_3 0 rfl rfl)
theorem dX3_wayOf_72 : decode cX3_wayOf 72 = .ok (.iload 7, 2) := dk_21 7 (dk_at dksX3_wayOf_3 1 rfl rfl)
theorem dX3_wayOf_74 : decode cX3_wayOf 74 = .ok (.iload_n 2, 1) := dk_28 (dk_at dksX3_wayOf_3 3 rfl rfl)
theorem dX3_wayOf_75 : decode cX3_wayOf 75 = .ok (.invokevirtual 76, 3) := dk_182 0 76 (dk_at dksX3_wayOf_3 4 rfl rfl)
theorem dX3_wayOf_78 : decode cX3_wayOf 78 = .ok (.iload 5, 2) := dk_21 5 (dk_at dksX3_wayOf_3 7 rfl rfl)
theorem dX3_wayOf_80 : decode cX3_wayOf 80 = .ok (.if_icmp .le 7, 3) := dk_164 0 7 (dk_at dksX3_wayOf_3 9 rfl rfl)
theorem dX3_wayOf_83 : decode cX3_wayOf 83 = .ok (.iconst 1, 1) := dk_4 (dk_at dksX3_wayOf_3 12 rfl rfl)
theorem dX3_wayOf_84 : decode cX3_wayOf 84 = .ok (.goto 4, 3) := dk_167 0 4 (dk_at dksX3_wayOf_3 13 rfl rfl)
theorem dX3_wayOf_87 : decode cX3_wayOf 87 = .ok (.iconst 0, 1) := dk_3 (dk_at dksX3_wayOf_3 16 rfl rfl)
theorem dX3_wayOf_88 : decode cX3_wayOf 88 = .ok (.istore 8, 2) := dk_54 8 (dk_at dksX3_wayOf_3 17 rfl rfl)
theorem dX3_wayOf_90 : decode cX3_wayOf 90 = .ok (.iload 8, 2) := dk_21 8 (dk_at dksX3_wayOf_3 19 rfl rfl)
theorem dX3_wayOf_92 : decode cX3_wayOf 92 = .ok (.ifCond .eq 8, 3) := dk_153 0 8 (dk_at dksX3_wayOf_3 21 rfl rfl)
theorem dX3_wayOf_95 : decode cX3_wayOf 95 = .ok (.iload 6, 2) := dk_21 6 (dk_at dksX3_wayOf_4 0 rfl rfl)
theorem dX3_wayOf_97 : decode cX3_wayOf 97 = .ok (.goto 5, 3) := dk_167 0 5 (dk_at dksX3_wayOf_4 2 rfl rfl)
theorem dX3_wayOf_100 : decode cX3_wayOf 100 = .ok (.iload 4, 2) := dk_21 4 (dk_at dksX3_wayOf_4 5 rfl rfl)
theorem dX3_wayOf_102 : decode cX3_wayOf 102 = .ok (.istore 4, 2) := dk_54 4 (dk_at dksX3_wayOf_4 7 rfl rfl)
theorem dX3_wayOf_104 : decode cX3_wayOf 104 = .ok (.iload 8, 2) := dk_21 8 (dk_at dksX3_wayOf_4 9 rfl rfl)
theorem dX3_wayOf_106 : decode cX3_wayOf 106 = .ok (.ifCond .eq 14, 3) := dk_153 0 14 (dk_at dksX3_wayOf_4 11 rfl rfl)
theorem dX3_wayOf_109 : decode cX3_wayOf 109 = .ok (.aload_n 0, 1) := dk_42 (dk_at dksX3_wayOf_4 14 rfl rfl)
theorem dX3_wayOf_110 : decode cX3_wayOf 110 = .ok (.iload_n 1, 1) := dk_27 (dk_at dksX3_wayOf_4 15 rfl rfl)
theorem dX3_wayOf_111 : decode cX3_wayOf 111 = .ok (.iload 7, 2) := dk_21 7 (dk_at dksX3_wayOf_4 16 rfl rfl)
theorem dX3_wayOf_113 : decode cX3_wayOf 113 = .ok (.iload_n 2, 1) := dk_28 (dk_at dksX3_wayOf_4 18 rfl rfl)
theorem dX3_wayOf_114 : decode cX3_wayOf 114 = .ok (.invokevirtual 76, 3) := dk_182 0 76 (dk_at dksX3_wayOf_4 19 rfl rfl)
theorem dX3_wayOf_117 : decode cX3_wayOf 117 = .ok (.goto 5, 3) := dk_167 0 5 (dk_at dksX3_wayOf_5 0 rfl rfl)
theorem dX3_wayOf_120 : decode cX3_wayOf 120 = .ok (.iload 5, 2) := dk_21 5 (dk_at dksX3_wayOf_5 3 rfl rfl)
theorem dX3_wayOf_122 : decode cX3_wayOf 122 = .ok (.istore 5, 2) := dk_54 5 (dk_at dksX3_wayOf_5 5 rfl rfl)
theorem dX3_wayOf_124 : decode cX3_wayOf 124 = .ok (.iinc 6 1, 3) := dk_132 6 1 (dk_at dksX3_wayOf_5 7 rfl rfl)
theorem dX3_wayOf_127 : decode cX3_wayOf 127 = .ok (.goto (-100), 3) := dk_167 255 156 (dk_at dksX3_wayOf_5 10 rfl rfl)
theorem dX3_wayOf_130 : decode cX3_wayOf 130 = .ok (.iload 4, 2) := dk_21 4 (dk_at dksX3_wayOf_5 13 rfl rfl)
theorem dX3_wayOf_132 : decode cX3_wayOf 132 = .ok (.ireturn, 1) := dk_172 (dk_at dksX3_wayOf_5 15 rfl rfl)
abbrev cX3_worn : ByteArray := prog_11_method_30_code
def yX3_worn : MethodName := ⟨RX3, "worn", "(II)I"⟩
def dkwX3_worn_1 : List UInt8 := [27, 29, 28, 182, 0, 76, 172]
abbrev dktX3_worn_1 : List UInt8 := dkwX3_worn_1 ++ []
def dkwX3_worn_0 : List UInt8 := [42, 180, 0, 7, 27, 28, 184, 0, 40, 5, 96, 46, 62, 29, 2, 160, 0, 8, 16, 216, 167, 0, 10, 42]
abbrev dktX3_worn_0 : List UInt8 := dkwX3_worn_0 ++ dktX3_worn_1
theorem dksX3_worn_0 : cX3_worn.data.toList.drop 0 = dktX3_worn_0 := by decide +kernel
theorem dksX3_worn_1 : cX3_worn.data.toList.drop 24 = dktX3_worn_1 := dk_seg dksX3_worn_0 24 rfl rfl
theorem dX3_worn_0 : decode cX3_worn 0 = .ok (.aload_n 0, 1) := dk_42 (dk_at dksX3_worn_0 0 rfl rfl)
theorem dX3_worn_1 : decode cX3_worn 1 = .ok (.getfield 7, 3) := dk_180 0 7 (dk_at dksX3_worn_0 1 rfl rfl)
theorem dX3_worn_4 : decode cX3_worn 4 = .ok (.iload_n 1, 1) := dk_27 (dk_at dksX3_worn_0 4 rfl rfl)
theorem dX3_worn_5 : decode cX3_worn 5 = .ok (.iload_n 2, 1) := dk_28 (dk_at dksX3_worn_0 5 rfl rfl)
theorem dX3_worn_6 : decode cX3_worn 6 = .ok (.invokestatic 40, 3) := dk_184 0 40 (dk_at dksX3_worn_0 6 rfl rfl)
theorem dX3_worn_9 : decode cX3_worn 9 = .ok (.iconst 2, 1) := dk_5 (dk_at dksX3_worn_0 9 rfl rfl)
theorem dX3_worn_10 : decode cX3_worn 10 = .ok (.iadd, 1) := dk_96 (dk_at dksX3_worn_0 10 rfl rfl)
theorem dX3_worn_11 : decode cX3_worn 11 = .ok (.iaload, 1) := dk_46 (dk_at dksX3_worn_0 11 rfl rfl)
theorem dX3_worn_12 : decode cX3_worn 12 = .ok (.istore_n 3, 1) := dk_62 (dk_at dksX3_worn_0 12 rfl rfl)
theorem dX3_worn_13 : decode cX3_worn 13 = .ok (.iload_n 3, 1) := dk_29 (dk_at dksX3_worn_0 13 rfl rfl)
theorem dX3_worn_14 : decode cX3_worn 14 = .ok (.iconst (-1), 1) := dk_2 (dk_at dksX3_worn_0 14 rfl rfl)
theorem dX3_worn_15 : decode cX3_worn 15 = .ok (.if_icmp .ne 8, 3) := dk_160 0 8 (dk_at dksX3_worn_0 15 rfl rfl)
theorem dX3_worn_18 : decode cX3_worn 18 = .ok (.bipush (-40), 2) := dk_16 216 (dk_at dksX3_worn_0 18 rfl rfl)
theorem dX3_worn_20 : decode cX3_worn 20 = .ok (.goto 10, 3) := dk_167 0 10 (dk_at dksX3_worn_0 20 rfl rfl)
theorem dX3_worn_23 : decode cX3_worn 23 = .ok (.aload_n 0, 1) := dk_42 (dk_at dksX3_worn_0 23 rfl rfl)
theorem dX3_worn_24 : decode cX3_worn 24 = .ok (.iload_n 1, 1) := dk_27 (dk_at dksX3_worn_1 0 rfl rfl)
theorem dX3_worn_25 : decode cX3_worn 25 = .ok (.iload_n 3, 1) := dk_29 (dk_at dksX3_worn_1 1 rfl rfl)
theorem dX3_worn_26 : decode cX3_worn 26 = .ok (.iload_n 2, 1) := dk_28 (dk_at dksX3_worn_1 2 rfl rfl)
theorem dX3_worn_27 : decode cX3_worn 27 = .ok (.invokevirtual 76, 3) := dk_182 0 76 (dk_at dksX3_worn_1 3 rfl rfl)
theorem dX3_worn_30 : decode cX3_worn 30 = .ok (.ireturn, 1) := dk_172 (dk_at dksX3_worn_1 6 rfl rfl)
abbrev cX3_worthOf : ByteArray := prog_11_method_29_code
def yX3_worthOf : MethodName := ⟨RX3, "worthOf", "(III)I"⟩
def dkwX3_worthOf_2 : List UInt8 := [104, 100, 21, 4, 156, 0, 8, 16, 10, 167, 0, 4, 3, 100, 172]
abbrev dktX3_worthOf_2 : List UInt8 := dkwX3_worthOf_2 ++ []
def dkwX3_worthOf_1 : List UInt8 := [21, 4, 4, 164, 0, 10, 21, 4, 4, 100, 167, 0, 7, 4, 21, 4, 100, 54, 5, 16, 20, 6, 21, 5]
abbrev dktX3_worthOf_1 : List UInt8 := dkwX3_worthOf_1 ++ dktX3_worthOf_2
def dkwX3_worthOf_0 : List UInt8 := [42, 180, 0, 7, 27, 28, 184, 0, 43, 46, 42, 180, 0, 7, 27, 29, 184, 0, 40, 46, 100, 54, 4]
abbrev dktX3_worthOf_0 : List UInt8 := dkwX3_worthOf_0 ++ dktX3_worthOf_1
theorem dksX3_worthOf_0 : cX3_worthOf.data.toList.drop 0 = dktX3_worthOf_0 := by decide +kernel
theorem dksX3_worthOf_1 : cX3_worthOf.data.toList.drop 23 = dktX3_worthOf_1 := dk_seg dksX3_worthOf_0 23 rfl rfl
theorem dksX3_worthOf_2 : cX3_worthOf.data.toList.drop 47 = dktX3_worthOf_2 := dk_seg dksX3_worthOf_1 24 rfl rfl
theorem dX3_worthOf_0 : decode cX3_worthOf 0 = .ok (.aload_n 0, 1) := dk_42 (dk_at dksX3_worthOf_0 0 rfl rfl)
theorem dX3_worthOf_1 : decode cX3_worthOf 1 = .ok (.getfield 7, 3) := dk_180 0 7 (dk_at dksX3_worthOf_0 1 rfl rfl)
theorem dX3_worthOf_4 : decode cX3_worthOf 4 = .ok (.iload_n 1, 1) := dk_27 (dk_at dksX3_worthOf_0 4 rfl rfl)
theorem dX3_worthOf_5 : decode cX3_worthOf 5 = .ok (.iload_n 2, 1) := dk_28 (dk_at dksX3_worthOf_0 5 rfl rfl)
theorem dX3_worthOf_6 : decode cX3_worthOf 6 = .ok (.invokestatic 43, 3) := dk_184 0 43 (dk_at dksX3_worthOf_0 6 rfl rfl)
theorem dX3_worthOf_9 : decode cX3_worthOf 9 = .ok (.iaload, 1) := dk_46 (dk_at dksX3_worthOf_0 9 rfl rfl)
theorem dX3_worthOf_10 : decode cX3_worthOf 10 = .ok (.aload_n 0, 1) := dk_42 (dk_at dksX3_worthOf_0 10 rfl rfl)
theorem dX3_worthOf_11 : decode cX3_worthOf 11 = .ok (.getfield 7, 3) := dk_180 0 7 (dk_at dksX3_worthOf_0 11 rfl rfl)
theorem dX3_worthOf_14 : decode cX3_worthOf 14 = .ok (.iload_n 1, 1) := dk_27 (dk_at dksX3_worthOf_0 14 rfl rfl)
theorem dX3_worthOf_15 : decode cX3_worthOf 15 = .ok (.iload_n 3, 1) := dk_29 (dk_at dksX3_worthOf_0 15 rfl rfl)
theorem dX3_worthOf_16 : decode cX3_worthOf 16 = .ok (.invokestatic 40, 3) := dk_184 0 40 (dk_at dksX3_worthOf_0 16 rfl rfl)
theorem dX3_worthOf_19 : decode cX3_worthOf 19 = .ok (.iaload, 1) := dk_46 (dk_at dksX3_worthOf_0 19 rfl rfl)
theorem dX3_worthOf_20 : decode cX3_worthOf 20 = .ok (.isub, 1) := dk_100 (dk_at dksX3_worthOf_0 20 rfl rfl)
theorem dX3_worthOf_21 : decode cX3_worthOf 21 = .ok (.istore 4, 2) := dk_54 4 (dk_at dksX3_worthOf_0 21 rfl rfl)
theorem dX3_worthOf_23 : decode cX3_worthOf 23 = .ok (.iload 4, 2) := dk_21 4 (dk_at dksX3_worthOf_1 0 rfl rfl)
theorem dX3_worthOf_25 : decode cX3_worthOf 25 = .ok (.iconst 1, 1) := dk_4 (dk_at dksX3_worthOf_1 2 rfl rfl)
theorem dX3_worthOf_26 : decode cX3_worthOf 26 = .ok (.if_icmp .le 10, 3) := dk_164 0 10 (dk_at dksX3_worthOf_1 3 rfl rfl)
theorem dX3_worthOf_29 : decode cX3_worthOf 29 = .ok (.iload 4, 2) := dk_21 4 (dk_at dksX3_worthOf_1 6 rfl rfl)
theorem dX3_worthOf_31 : decode cX3_worthOf 31 = .ok (.iconst 1, 1) := dk_4 (dk_at dksX3_worthOf_1 8 rfl rfl)
theorem dX3_worthOf_32 : decode cX3_worthOf 32 = .ok (.isub, 1) := dk_100 (dk_at dksX3_worthOf_1 9 rfl rfl)
theorem dX3_worthOf_33 : decode cX3_worthOf 33 = .ok (.goto 7, 3) := dk_167 0 7 (dk_at dksX3_worthOf_1 10 rfl rfl)
theorem dX3_worthOf_36 : decode cX3_worthOf 36 = .ok (.iconst 1, 1) := dk_4 (dk_at dksX3_worthOf_1 13 rfl rfl)
theorem dX3_worthOf_37 : decode cX3_worthOf 37 = .ok (.iload 4, 2) := dk_21 4 (dk_at dksX3_worthOf_1 14 rfl rfl)
theorem dX3_worthOf_39 : decode cX3_worthOf 39 = .ok (.isub, 1) := dk_100 (dk_at dksX3_worthOf_1 16 rfl rfl)
theorem dX3_worthOf_40 : decode cX3_worthOf 40 = .ok (.istore 5, 2) := dk_54 5 (dk_at dksX3_worthOf_1 17 rfl rfl)
theorem dX3_worthOf_42 : decode cX3_worthOf 42 = .ok (.bipush 20, 2) := dk_16 20 (dk_at dksX3_worthOf_1 19 rfl rfl)
theorem dX3_worthOf_44 : decode cX3_worthOf 44 = .ok (.iconst 3, 1) := dk_6 (dk_at dksX3_worthOf_1 21 rfl rfl)
theorem dX3_worthOf_45 : decode cX3_worthOf 45 = .ok (.iload 5, 2) := dk_21 5 (dk_at dksX3_worthOf_1 22 rfl rfl)
theorem dX3_worthOf_47 : decode cX3_worthOf 47 = .ok (.imul, 1) := dk_104 (dk_at dksX3_worthOf_2 0 rfl rfl)
theorem dX3_worthOf_48 : decode cX3_worthOf 48 = .ok (.isub, 1) := dk_100 (dk_at dksX3_worthOf_2 1 rfl rfl)
theorem dX3_worthOf_49 : decode cX3_worthOf 49 = .ok (.iload 4, 2) := dk_21 4 (dk_at dksX3_worthOf_2 2 rfl rfl)
theorem dX3_worthOf_51 : decode cX3_worthOf 51 = .ok (.ifCond .ge 8, 3) := dk_156 0 8 (dk_at dksX3_worthOf_2 4 rfl rfl)
theorem dX3_worthOf_54 : decode cX3_worthOf 54 = .ok (.bipush 10, 2) := dk_16 10 (dk_at dksX3_worthOf_2 7 rfl rfl)
theorem dX3_worthOf_56 : decode cX3_worthOf 56 = .ok (.goto 4, 3) := dk_167 0 4 (dk_at dksX3_worthOf_2 9 rfl rfl)
theorem dX3_worthOf_59 : decode cX3_worthOf 59 = .ok (.iconst 0, 1) := dk_3 (dk_at dksX3_worthOf_2 12 rfl rfl)
theorem dX3_worthOf_60 : decode cX3_worthOf 60 = .ok (.isub, 1) := dk_100 (dk_at dksX3_worthOf_2 13 rfl rfl)
theorem dX3_worthOf_61 : decode cX3_worthOf 61 = .ok (.ireturn, 1) := dk_172 (dk_at dksX3_worthOf_2 14 rfl rfl)
abbrev cX3_better : ByteArray := prog_11_method_33_code
def yX3_better : MethodName := ⟨RX3, "better", "(III)I"⟩
def dkwX3_better_5 : List UInt8 := [132, 6, 1, 167, 255, 150, 21, 4, 172]
abbrev dktX3_better_5 : List UInt8 := dkwX3_better_5 ++ []
def dkwX3_better_4 : List UInt8 := [54, 4, 21, 8, 153, 0, 14, 42, 27, 21, 6, 28, 182, 0, 76, 167, 0, 5, 21, 5, 54, 5]
abbrev dktX3_better_4 : List UInt8 := dkwX3_better_4 ++ dktX3_better_5
def dkwX3_better_3 : List UInt8 := [21, 5, 164, 0, 7, 4, 167, 0, 4, 3, 54, 8, 21, 8, 153, 0, 8, 21, 6, 167, 0, 5, 21, 4]
abbrev dktX3_better_3 : List UInt8 := dkwX3_better_3 ++ dktX3_better_4
def dkwX3_better_2 : List UInt8 := [160, 0, 33, 42, 180, 0, 7, 21, 7, 4, 96, 46, 29, 160, 0, 20, 42, 27, 21, 6, 28, 182, 0, 76]
abbrev dktX3_better_2 : List UInt8 := dkwX3_better_2 ++ dktX3_better_3
def dkwX3_better_1 : List UInt8 := [96, 46, 162, 0, 97, 27, 21, 6, 184, 0, 43, 54, 7, 42, 180, 0, 7, 21, 7, 5, 96, 46, 2]
abbrev dktX3_better_1 : List UInt8 := dkwX3_better_1 ++ dktX3_better_2
def dkwX3_better_0 : List UInt8 := [2, 54, 4, 42, 27, 28, 182, 0, 80, 54, 5, 3, 54, 6, 21, 6, 42, 180, 0, 7, 27, 17, 0, 132]
abbrev dktX3_better_0 : List UInt8 := dkwX3_better_0 ++ dktX3_better_1
theorem dksX3_better_0 : cX3_better.data.toList.drop 0 = dktX3_better_0 := by decide +kernel
theorem dksX3_better_1 : cX3_better.data.toList.drop 24 = dktX3_better_1 := dk_seg dksX3_better_0 24 rfl rfl
theorem dksX3_better_2 : cX3_better.data.toList.drop 47 = dktX3_better_2 := dk_seg dksX3_better_1 23 rfl rfl
theorem dksX3_better_3 : cX3_better.data.toList.drop 71 = dktX3_better_3 := dk_seg dksX3_better_2 24 rfl rfl
theorem dksX3_better_4 : cX3_better.data.toList.drop 95 = dktX3_better_4 := dk_seg dksX3_better_3 24 rfl rfl
theorem dksX3_better_5 : cX3_better.data.toList.drop 117 = dktX3_better_5 := dk_seg dksX3_better_4 22 rfl rfl
theorem dX3_better_0 : decode cX3_better 0 = .ok (.iconst (-1), 1) := dk_2 (dk_at dksX3_better_0 0 rfl rfl)
theorem dX3_better_1 : decode cX3_better 1 = .ok (.istore 4, 2) := dk_54 4 (dk_at dksX3_better_0 1 rfl rfl)
theorem dX3_better_3 : decode cX3_better 3 = .ok (.aload_n 0, 1) := dk_42 (dk_at dksX3_better_0 3 rfl rfl)
theorem dX3_better_4 : decode cX3_better 4 = .ok (.iload_n 1, 1) := dk_27 (dk_at dksX3_better_0 4 rfl rfl)
theorem dX3_better_5 : decode cX3_better 5 = .ok (.iload_n 2, 1) := dk_28 (dk_at dksX3_better_0 5 rfl rfl)
theorem dX3_better_6 : decode cX3_better 6 = .ok (.invokevirtual 80, 3) := dk_182 0 80 (dk_at dksX3_better_0 6 rfl rfl)
theorem dX3_better_9 : decode cX3_better 9 = .ok (.istore 5, 2) := dk_54 5 (dk_at dksX3_better_0 9 rfl rfl)
theorem dX3_better_11 : decode cX3_better 11 = .ok (.iconst 0, 1) := dk_3 (dk_at dksX3_better_0 11 rfl rfl)
theorem dX3_better_12 : decode cX3_better 12 = .ok (.istore 6, 2) := dk_54 6 (dk_at dksX3_better_0 12 rfl rfl)
theorem dX3_better_14 : decode cX3_better 14 = .ok (.iload 6, 2) := dk_21 6 (dk_at dksX3_better_0 14 rfl rfl)
theorem dX3_better_16 : decode cX3_better 16 = .ok (.aload_n 0, 1) := dk_42 (dk_at dksX3_better_0 16 rfl rfl)
theorem dX3_better_17 : decode cX3_better 17 = .ok (.getfield 7, 3) := dk_180 0 7 (dk_at dksX3_better_0 17 rfl rfl)
theorem dX3_better_20 : decode cX3_better 20 = .ok (.iload_n 1, 1) := dk_27 (dk_at dksX3_better_0 20 rfl rfl)
theorem dX3_better_21 : decode cX3_better 21 = .ok (.sipush 132, 3) := dk_17 0 132 (dk_at dksX3_better_0 21 rfl rfl)
theorem dX3_better_24 : decode cX3_better 24 = .ok (.iadd, 1) := dk_96 (dk_at dksX3_better_1 0 rfl rfl)
theorem dX3_better_25 : decode cX3_better 25 = .ok (.iaload, 1) := dk_46 (dk_at dksX3_better_1 1 rfl rfl)
theorem dX3_better_26 : decode cX3_better 26 = .ok (.if_icmp .ge 97, 3) := dk_162 0 97 (dk_at dksX3_better_1 2 rfl rfl)
theorem dX3_better_29 : decode cX3_better 29 = .ok (.iload_n 1, 1) := dk_27 (dk_at dksX3_better_1 5 rfl rfl)
theorem dX3_better_30 : decode cX3_better 30 = .ok (.iload 6, 2) := dk_21 6 (dk_at dksX3_better_1 6 rfl rfl)
theorem dX3_better_32 : decode cX3_better 32 = .ok (.invokestatic 43, 3) := dk_184 0 43 (dk_at dksX3_better_1 8 rfl rfl)
theorem dX3_better_35 : decode cX3_better 35 = .ok (.istore 7, 2) := dk_54 7 (dk_at dksX3_better_1 11 rfl rfl)
theorem dX3_better_37 : decode cX3_better 37 = .ok (.aload_n 0, 1) := dk_42 (dk_at dksX3_better_1 13 rfl rfl)
theorem dX3_better_38 : decode cX3_better 38 = .ok (.getfield 7, 3) := dk_180 0 7 (dk_at dksX3_better_1 14 rfl rfl)
theorem dX3_better_41 : decode cX3_better 41 = .ok (.iload 7, 2) := dk_21 7 (dk_at dksX3_better_1 17 rfl rfl)
theorem dX3_better_43 : decode cX3_better 43 = .ok (.iconst 2, 1) := dk_5 (dk_at dksX3_better_1 19 rfl rfl)
theorem dX3_better_44 : decode cX3_better 44 = .ok (.iadd, 1) := dk_96 (dk_at dksX3_better_1 20 rfl rfl)
theorem dX3_better_45 : decode cX3_better 45 = .ok (.iaload, 1) := dk_46 (dk_at dksX3_better_1 21 rfl rfl)
theorem dX3_better_46 : decode cX3_better 46 = .ok (.iconst (-1), 1) := dk_2 (dk_at dksX3_better_1 22 rfl rfl)
theorem dX3_better_47 : decode cX3_better 47 = .ok (.if_icmp .ne 33, 3) := dk_160 0 33 (dk_at dksX3_better_2 0 rfl rfl)
theorem dX3_better_50 : decode cX3_better 50 = .ok (.aload_n 0, 1) := dk_42 (dk_at dksX3_better_2 3 rfl rfl)
theorem dX3_better_51 : decode cX3_better 51 = .ok (.getfield 7, 3) := dk_180 0 7 (dk_at dksX3_better_2 4 rfl rfl)
theorem dX3_better_54 : decode cX3_better 54 = .ok (.iload 7, 2) := dk_21 7 (dk_at dksX3_better_2 7 rfl rfl)
theorem dX3_better_56 : decode cX3_better 56 = .ok (.iconst 1, 1) := dk_4 (dk_at dksX3_better_2 9 rfl rfl)
theorem dX3_better_57 : decode cX3_better 57 = .ok (.iadd, 1) := dk_96 (dk_at dksX3_better_2 10 rfl rfl)
theorem dX3_better_58 : decode cX3_better 58 = .ok (.iaload, 1) := dk_46 (dk_at dksX3_better_2 11 rfl rfl)
theorem dX3_better_59 : decode cX3_better 59 = .ok (.iload_n 3, 1) := dk_29 (dk_at dksX3_better_2 12 rfl rfl)
theorem dX3_better_60 : decode cX3_better 60 = .ok (.if_icmp .ne 20, 3) := dk_160 0 20 (dk_at dksX3_better_2 13 rfl rfl)
theorem dX3_better_63 : decode cX3_better 63 = .ok (.aload_n 0, 1) := dk_42 (dk_at dksX3_better_2 16 rfl rfl)
theorem dX3_better_64 : decode cX3_better 64 = .ok (.iload_n 1, 1) := dk_27 (dk_at dksX3_better_2 17 rfl rfl)
theorem dX3_better_65 : decode cX3_better 65 = .ok (.iload 6, 2) := dk_21 6 (dk_at dksX3_better_2 18 rfl rfl)
theorem dX3_better_67 : decode cX3_better 67 = .ok (.iload_n 2, 1) := dk_28 (dk_at dksX3_better_2 20 rfl rfl)
theorem dX3_better_68 : decode cX3_better 68 = .ok (.invokevirtual 76, 3) := dk_182 0 76 (dk_at dksX3_better_2 21 rfl rfl)
theorem dX3_better_71 : decode cX3_better 71 = .ok (.iload 5, 2) := dk_21 5 (dk_at dksX3_better_3 0 rfl rfl)
theorem dX3_better_73 : decode cX3_better 73 = .ok (.if_icmp .le 7, 3) := dk_164 0 7 (dk_at dksX3_better_3 2 rfl rfl)
theorem dX3_better_76 : decode cX3_better 76 = .ok (.iconst 1, 1) := dk_4 (dk_at dksX3_better_3 5 rfl rfl)
theorem dX3_better_77 : decode cX3_better 77 = .ok (.goto 4, 3) := dk_167 0 4 (dk_at dksX3_better_3 6 rfl rfl)
theorem dX3_better_80 : decode cX3_better 80 = .ok (.iconst 0, 1) := dk_3 (dk_at dksX3_better_3 9 rfl rfl)
theorem dX3_better_81 : decode cX3_better 81 = .ok (.istore 8, 2) := dk_54 8 (dk_at dksX3_better_3 10 rfl rfl)
theorem dX3_better_83 : decode cX3_better 83 = .ok (.iload 8, 2) := dk_21 8 (dk_at dksX3_better_3 12 rfl rfl)
theorem dX3_better_85 : decode cX3_better 85 = .ok (.ifCond .eq 8, 3) := dk_153 0 8 (dk_at dksX3_better_3 14 rfl rfl)
theorem dX3_better_88 : decode cX3_better 88 = .ok (.iload 6, 2) := dk_21 6 (dk_at dksX3_better_3 17 rfl rfl)
theorem dX3_better_90 : decode cX3_better 90 = .ok (.goto 5, 3) := dk_167 0 5 (dk_at dksX3_better_3 19 rfl rfl)
theorem dX3_better_93 : decode cX3_better 93 = .ok (.iload 4, 2) := dk_21 4 (dk_at dksX3_better_3 22 rfl rfl)
theorem dX3_better_95 : decode cX3_better 95 = .ok (.istore 4, 2) := dk_54 4 (dk_at dksX3_better_4 0 rfl rfl)
theorem dX3_better_97 : decode cX3_better 97 = .ok (.iload 8, 2) := dk_21 8 (dk_at dksX3_better_4 2 rfl rfl)
theorem dX3_better_99 : decode cX3_better 99 = .ok (.ifCond .eq 14, 3) := dk_153 0 14 (dk_at dksX3_better_4 4 rfl rfl)
theorem dX3_better_102 : decode cX3_better 102 = .ok (.aload_n 0, 1) := dk_42 (dk_at dksX3_better_4 7 rfl rfl)
theorem dX3_better_103 : decode cX3_better 103 = .ok (.iload_n 1, 1) := dk_27 (dk_at dksX3_better_4 8 rfl rfl)
theorem dX3_better_104 : decode cX3_better 104 = .ok (.iload 6, 2) := dk_21 6 (dk_at dksX3_better_4 9 rfl rfl)
theorem dX3_better_106 : decode cX3_better 106 = .ok (.iload_n 2, 1) := dk_28 (dk_at dksX3_better_4 11 rfl rfl)
theorem dX3_better_107 : decode cX3_better 107 = .ok (.invokevirtual 76, 3) := dk_182 0 76 (dk_at dksX3_better_4 12 rfl rfl)
theorem dX3_better_110 : decode cX3_better 110 = .ok (.goto 5, 3) := dk_167 0 5 (dk_at dksX3_better_4 15 rfl rfl)
theorem dX3_better_113 : decode cX3_better 113 = .ok (.iload 5, 2) := dk_21 5 (dk_at dksX3_better_4 18 rfl rfl)
theorem dX3_better_115 : decode cX3_better 115 = .ok (.istore 5, 2) := dk_54 5 (dk_at dksX3_better_4 20 rfl rfl)
theorem dX3_better_117 : decode cX3_better 117 = .ok (.iinc 6 1, 3) := dk_132 6 1 (dk_at dksX3_better_5 0 rfl rfl)
theorem dX3_better_120 : decode cX3_better 120 = .ok (.goto (-106), 3) := dk_167 255 150 (dk_at dksX3_better_5 3 rfl rfl)
theorem dX3_better_123 : decode cX3_better 123 = .ok (.iload 4, 2) := dk_21 4 (dk_at dksX3_better_5 6 rfl rfl)
theorem dX3_better_125 : decode cX3_better 125 = .ok (.ireturn, 1) := dk_172 (dk_at dksX3_better_5 8 rfl rfl)
abbrev cX3_changes : ByteArray := prog_11_method_40_code
def yX3_changes : MethodName := ⟨RX3, "changes", "(I)I"⟩
def dkwX3_changes_7 : List UInt8 := [132, 3, 1, 167, 255, 90, 28, 172]
abbrev dktX3_changes_7 : List UInt8 := dkwX3_changes_7 ++ []
def dkwX3_changes_6 : List UInt8 := [184, 0, 43, 5, 96, 21, 4, 79, 42, 180, 0, 7, 21, 5, 7, 96, 92, 46, 4, 96, 79, 132, 2, 1]
abbrev dktX3_changes_6 : List UInt8 := dkwX3_changes_6 ++ dktX3_changes_7
def dkwX3_changes_5 : List UInt8 := [27, 21, 4, 182, 0, 105, 42, 180, 0, 7, 21, 5, 5, 96, 21, 7, 79, 42, 180, 0, 7, 27, 21, 7]
abbrev dktX3_changes_5 : List UInt8 := dkwX3_changes_5 ++ dktX3_changes_6
def dkwX3_changes_4 : List UInt8 := [180, 0, 7, 21, 5, 4, 96, 46, 182, 0, 93, 167, 0, 4, 2, 54, 7, 21, 7, 2, 159, 0, 52, 42]
abbrev dktX3_changes_4 : List UInt8 := dkwX3_changes_4 ++ dktX3_changes_5
def dkwX3_changes_3 : List UInt8 := [96, 46, 108, 100, 160, 0, 7, 4, 167, 0, 4, 3, 54, 6, 21, 6, 153, 0, 22, 42, 27, 21, 4, 42]
abbrev dktX3_changes_3 : List UInt8 := dkwX3_changes_3 ++ dktX3_changes_4
def dkwX3_changes_2 : List UInt8 := [182, 0, 96, 153, 0, 32, 42, 180, 0, 7, 21, 5, 46, 16, 20, 29, 42, 180, 0, 7, 27, 17, 0, 211]
abbrev dktX3_changes_2 : List UInt8 := dkwX3_changes_2 ++ dktX3_changes_3
def dkwX3_changes_1 : List UInt8 := [180, 0, 7, 27, 17, 0, 211, 96, 46, 112, 54, 4, 27, 21, 4, 184, 0, 40, 54, 5, 42, 27, 21, 4]
abbrev dktX3_changes_1 : List UInt8 := dkwX3_changes_1 ++ dktX3_changes_2
def dkwX3_changes_0 : List UInt8 := [3, 61, 3, 62, 29, 16, 20, 42, 180, 0, 7, 27, 17, 0, 211, 96, 46, 104, 162, 0, 155, 29, 42]
abbrev dktX3_changes_0 : List UInt8 := dkwX3_changes_0 ++ dktX3_changes_1
theorem dksX3_changes_0 : cX3_changes.data.toList.drop 0 = dktX3_changes_0 := by decide +kernel
theorem dksX3_changes_1 : cX3_changes.data.toList.drop 23 = dktX3_changes_1 := dk_seg dksX3_changes_0 23 rfl rfl
theorem dksX3_changes_2 : cX3_changes.data.toList.drop 47 = dktX3_changes_2 := dk_seg dksX3_changes_1 24 rfl rfl
theorem dksX3_changes_3 : cX3_changes.data.toList.drop 71 = dktX3_changes_3 := dk_seg dksX3_changes_2 24 rfl rfl
theorem dksX3_changes_4 : cX3_changes.data.toList.drop 95 = dktX3_changes_4 := dk_seg dksX3_changes_3 24 rfl rfl
theorem dksX3_changes_5 : cX3_changes.data.toList.drop 119 = dktX3_changes_5 := dk_seg dksX3_changes_4 24 rfl rfl
theorem dksX3_changes_6 : cX3_changes.data.toList.drop 143 = dktX3_changes_6 := dk_seg dksX3_changes_5 24 rfl rfl
theorem dksX3_changes_7 : cX3_changes.data.toList.drop 167 = dktX3_changes_7 := dk_seg dksX3_changes_6 24 rfl rfl
theorem dX3_changes_0 : decode cX3_changes 0 = .ok (.iconst 0, 1) := dk_3 (dk_at dksX3_changes_0 0 rfl rfl)
theorem dX3_changes_1 : decode cX3_changes 1 = .ok (.istore_n 2, 1) := dk_61 (dk_at dksX3_changes_0 1 rfl rfl)
theorem dX3_changes_2 : decode cX3_changes 2 = .ok (.iconst 0, 1) := dk_3 (dk_at dksX3_changes_0 2 rfl rfl)
theorem dX3_changes_3 : decode cX3_changes 3 = .ok (.istore_n 3, 1) := dk_62 (dk_at dksX3_changes_0 3 rfl rfl)
theorem dX3_changes_4 : decode cX3_changes 4 = .ok (.iload_n 3, 1) := dk_29 (dk_at dksX3_changes_0 4 rfl rfl)
theorem dX3_changes_5 : decode cX3_changes 5 = .ok (.bipush 20, 2) := dk_16 20 (dk_at dksX3_changes_0 5 rfl rfl)
theorem dX3_changes_7 : decode cX3_changes 7 = .ok (.aload_n 0, 1) := dk_42 (dk_at dksX3_changes_0 7 rfl rfl)
theorem dX3_changes_8 : decode cX3_changes 8 = .ok (.getfield 7, 3) := dk_180 0 7 (dk_at dksX3_changes_0 8 rfl rfl)
theorem dX3_changes_11 : decode cX3_changes 11 = .ok (.iload_n 1, 1) := dk_27 (dk_at dksX3_changes_0 11 rfl rfl)
theorem dX3_changes_12 : decode cX3_changes 12 = .ok (.sipush 211, 3) := dk_17 0 211 (dk_at dksX3_changes_0 12 rfl rfl)
theorem dX3_changes_15 : decode cX3_changes 15 = .ok (.iadd, 1) := dk_96 (dk_at dksX3_changes_0 15 rfl rfl)
theorem dX3_changes_16 : decode cX3_changes 16 = .ok (.iaload, 1) := dk_46 (dk_at dksX3_changes_0 16 rfl rfl)
theorem dX3_changes_17 : decode cX3_changes 17 = .ok (.imul, 1) := dk_104 (dk_at dksX3_changes_0 17 rfl rfl)
theorem dX3_changes_18 : decode cX3_changes 18 = .ok (.if_icmp .ge 155, 3) := dk_162 0 155 (dk_at dksX3_changes_0 18 rfl rfl)
theorem dX3_changes_21 : decode cX3_changes 21 = .ok (.iload_n 3, 1) := dk_29 (dk_at dksX3_changes_0 21 rfl rfl)
theorem dX3_changes_22 : decode cX3_changes 22 = .ok (.aload_n 0, 1) := dk_42 (dk_at dksX3_changes_0 22 rfl rfl)
theorem dX3_changes_23 : decode cX3_changes 23 = .ok (.getfield 7, 3) := dk_180 0 7 (dk_at dksX3_changes_1 0 rfl rfl)
theorem dX3_changes_26 : decode cX3_changes 26 = .ok (.iload_n 1, 1) := dk_27 (dk_at dksX3_changes_1 3 rfl rfl)
theorem dX3_changes_27 : decode cX3_changes 27 = .ok (.sipush 211, 3) := dk_17 0 211 (dk_at dksX3_changes_1 4 rfl rfl)
theorem dX3_changes_30 : decode cX3_changes 30 = .ok (.iadd, 1) := dk_96 (dk_at dksX3_changes_1 7 rfl rfl)
theorem dX3_changes_31 : decode cX3_changes 31 = .ok (.iaload, 1) := dk_46 (dk_at dksX3_changes_1 8 rfl rfl)
theorem dX3_changes_32 : decode cX3_changes 32 = .ok (.irem, 1) := dk_112 (dk_at dksX3_changes_1 9 rfl rfl)
theorem dX3_changes_33 : decode cX3_changes 33 = .ok (.istore 4, 2) := dk_54 4 (dk_at dksX3_changes_1 10 rfl rfl)
theorem dX3_changes_35 : decode cX3_changes 35 = .ok (.iload_n 1, 1) := dk_27 (dk_at dksX3_changes_1 12 rfl rfl)
theorem dX3_changes_36 : decode cX3_changes 36 = .ok (.iload 4, 2) := dk_21 4 (dk_at dksX3_changes_1 13 rfl rfl)
theorem dX3_changes_38 : decode cX3_changes 38 = .ok (.invokestatic 40, 3) := dk_184 0 40 (dk_at dksX3_changes_1 15 rfl rfl)
theorem dX3_changes_41 : decode cX3_changes 41 = .ok (.istore 5, 2) := dk_54 5 (dk_at dksX3_changes_1 18 rfl rfl)
theorem dX3_changes_43 : decode cX3_changes 43 = .ok (.aload_n 0, 1) := dk_42 (dk_at dksX3_changes_1 20 rfl rfl)
theorem dX3_changes_44 : decode cX3_changes 44 = .ok (.iload_n 1, 1) := dk_27 (dk_at dksX3_changes_1 21 rfl rfl)
theorem dX3_changes_45 : decode cX3_changes 45 = .ok (.iload 4, 2) := dk_21 4 (dk_at dksX3_changes_1 22 rfl rfl)
theorem dX3_changes_47 : decode cX3_changes 47 = .ok (.invokevirtual 96, 3) := dk_182 0 96 (dk_at dksX3_changes_2 0 rfl rfl)
theorem dX3_changes_50 : decode cX3_changes 50 = .ok (.ifCond .eq 32, 3) := dk_153 0 32 (dk_at dksX3_changes_2 3 rfl rfl)
theorem dX3_changes_53 : decode cX3_changes 53 = .ok (.aload_n 0, 1) := dk_42 (dk_at dksX3_changes_2 6 rfl rfl)
theorem dX3_changes_54 : decode cX3_changes 54 = .ok (.getfield 7, 3) := dk_180 0 7 (dk_at dksX3_changes_2 7 rfl rfl)
theorem dX3_changes_57 : decode cX3_changes 57 = .ok (.iload 5, 2) := dk_21 5 (dk_at dksX3_changes_2 10 rfl rfl)
theorem dX3_changes_59 : decode cX3_changes 59 = .ok (.iaload, 1) := dk_46 (dk_at dksX3_changes_2 12 rfl rfl)
theorem dX3_changes_60 : decode cX3_changes 60 = .ok (.bipush 20, 2) := dk_16 20 (dk_at dksX3_changes_2 13 rfl rfl)
theorem dX3_changes_62 : decode cX3_changes 62 = .ok (.iload_n 3, 1) := dk_29 (dk_at dksX3_changes_2 15 rfl rfl)
theorem dX3_changes_63 : decode cX3_changes 63 = .ok (.aload_n 0, 1) := dk_42 (dk_at dksX3_changes_2 16 rfl rfl)
theorem dX3_changes_64 : decode cX3_changes 64 = .ok (.getfield 7, 3) := dk_180 0 7 (dk_at dksX3_changes_2 17 rfl rfl)
theorem dX3_changes_67 : decode cX3_changes 67 = .ok (.iload_n 1, 1) := dk_27 (dk_at dksX3_changes_2 20 rfl rfl)
theorem dX3_changes_68 : decode cX3_changes 68 = .ok (.sipush 211, 3) := dk_17 0 211 (dk_at dksX3_changes_2 21 rfl rfl)
theorem dX3_changes_71 : decode cX3_changes 71 = .ok (.iadd, 1) := dk_96 (dk_at dksX3_changes_3 0 rfl rfl)
theorem dX3_changes_72 : decode cX3_changes 72 = .ok (.iaload, 1) := dk_46 (dk_at dksX3_changes_3 1 rfl rfl)
theorem dX3_changes_73 : decode cX3_changes 73 = .ok (.idiv, 1) := dk_108 (dk_at dksX3_changes_3 2 rfl rfl)
theorem dX3_changes_74 : decode cX3_changes 74 = .ok (.isub, 1) := dk_100 (dk_at dksX3_changes_3 3 rfl rfl)
theorem dX3_changes_75 : decode cX3_changes 75 = .ok (.if_icmp .ne 7, 3) := dk_160 0 7 (dk_at dksX3_changes_3 4 rfl rfl)
theorem dX3_changes_78 : decode cX3_changes 78 = .ok (.iconst 1, 1) := dk_4 (dk_at dksX3_changes_3 7 rfl rfl)
theorem dX3_changes_79 : decode cX3_changes 79 = .ok (.goto 4, 3) := dk_167 0 4 (dk_at dksX3_changes_3 8 rfl rfl)
theorem dX3_changes_82 : decode cX3_changes 82 = .ok (.iconst 0, 1) := dk_3 (dk_at dksX3_changes_3 11 rfl rfl)
theorem dX3_changes_83 : decode cX3_changes 83 = .ok (.istore 6, 2) := dk_54 6 (dk_at dksX3_changes_3 12 rfl rfl)
theorem dX3_changes_85 : decode cX3_changes 85 = .ok (.iload 6, 2) := dk_21 6 (dk_at dksX3_changes_3 14 rfl rfl)
theorem dX3_changes_87 : decode cX3_changes 87 = .ok (.ifCond .eq 22, 3) := dk_153 0 22 (dk_at dksX3_changes_3 16 rfl rfl)
theorem dX3_changes_90 : decode cX3_changes 90 = .ok (.aload_n 0, 1) := dk_42 (dk_at dksX3_changes_3 19 rfl rfl)
theorem dX3_changes_91 : decode cX3_changes 91 = .ok (.iload_n 1, 1) := dk_27 (dk_at dksX3_changes_3 20 rfl rfl)
theorem dX3_changes_92 : decode cX3_changes 92 = .ok (.iload 4, 2) := dk_21 4 (dk_at dksX3_changes_3 21 rfl rfl)
theorem dX3_changes_94 : decode cX3_changes 94 = .ok (.aload_n 0, 1) := dk_42 (dk_at dksX3_changes_3 23 rfl rfl)
theorem dX3_changes_95 : decode cX3_changes 95 = .ok (.getfield 7, 3) := dk_180 0 7 (dk_at dksX3_changes_4 0 rfl rfl)
theorem dX3_changes_98 : decode cX3_changes 98 = .ok (.iload 5, 2) := dk_21 5 (dk_at dksX3_changes_4 3 rfl rfl)
theorem dX3_changes_100 : decode cX3_changes 100 = .ok (.iconst 1, 1) := dk_4 (dk_at dksX3_changes_4 5 rfl rfl)
theorem dX3_changes_101 : decode cX3_changes 101 = .ok (.iadd, 1) := dk_96 (dk_at dksX3_changes_4 6 rfl rfl)
theorem dX3_changes_102 : decode cX3_changes 102 = .ok (.iaload, 1) := dk_46 (dk_at dksX3_changes_4 7 rfl rfl)
theorem dX3_changes_103 : decode cX3_changes 103 = .ok (.invokevirtual 93, 3) := dk_182 0 93 (dk_at dksX3_changes_4 8 rfl rfl)
theorem dX3_changes_106 : decode cX3_changes 106 = .ok (.goto 4, 3) := dk_167 0 4 (dk_at dksX3_changes_4 11 rfl rfl)
theorem dX3_changes_109 : decode cX3_changes 109 = .ok (.iconst (-1), 1) := dk_2 (dk_at dksX3_changes_4 14 rfl rfl)
theorem dX3_changes_110 : decode cX3_changes 110 = .ok (.istore 7, 2) := dk_54 7 (dk_at dksX3_changes_4 15 rfl rfl)
theorem dX3_changes_112 : decode cX3_changes 112 = .ok (.iload 7, 2) := dk_21 7 (dk_at dksX3_changes_4 17 rfl rfl)
theorem dX3_changes_114 : decode cX3_changes 114 = .ok (.iconst (-1), 1) := dk_2 (dk_at dksX3_changes_4 19 rfl rfl)
theorem dX3_changes_115 : decode cX3_changes 115 = .ok (.if_icmp .eq 52, 3) := dk_159 0 52 (dk_at dksX3_changes_4 20 rfl rfl)
theorem dX3_changes_118 : decode cX3_changes 118 = .ok (.aload_n 0, 1) := dk_42 (dk_at dksX3_changes_4 23 rfl rfl)
theorem dX3_changes_119 : decode cX3_changes 119 = .ok (.iload_n 1, 1) := dk_27 (dk_at dksX3_changes_5 0 rfl rfl)
theorem dX3_changes_120 : decode cX3_changes 120 = .ok (.iload 4, 2) := dk_21 4 (dk_at dksX3_changes_5 1 rfl rfl)
theorem dX3_changes_122 : decode cX3_changes 122 = .ok (.invokevirtual 105, 3) := dk_182 0 105 (dk_at dksX3_changes_5 3 rfl rfl)
theorem dX3_changes_125 : decode cX3_changes 125 = .ok (.aload_n 0, 1) := dk_42 (dk_at dksX3_changes_5 6 rfl rfl)
theorem dX3_changes_126 : decode cX3_changes 126 = .ok (.getfield 7, 3) := dk_180 0 7 (dk_at dksX3_changes_5 7 rfl rfl)
theorem dX3_changes_129 : decode cX3_changes 129 = .ok (.iload 5, 2) := dk_21 5 (dk_at dksX3_changes_5 10 rfl rfl)
theorem dX3_changes_131 : decode cX3_changes 131 = .ok (.iconst 2, 1) := dk_5 (dk_at dksX3_changes_5 12 rfl rfl)
theorem dX3_changes_132 : decode cX3_changes 132 = .ok (.iadd, 1) := dk_96 (dk_at dksX3_changes_5 13 rfl rfl)
theorem dX3_changes_133 : decode cX3_changes 133 = .ok (.iload 7, 2) := dk_21 7 (dk_at dksX3_changes_5 14 rfl rfl)
theorem dX3_changes_135 : decode cX3_changes 135 = .ok (.iastore, 1) := dk_79 (dk_at dksX3_changes_5 16 rfl rfl)
theorem dX3_changes_136 : decode cX3_changes 136 = .ok (.aload_n 0, 1) := dk_42 (dk_at dksX3_changes_5 17 rfl rfl)
theorem dX3_changes_137 : decode cX3_changes 137 = .ok (.getfield 7, 3) := dk_180 0 7 (dk_at dksX3_changes_5 18 rfl rfl)
theorem dX3_changes_140 : decode cX3_changes 140 = .ok (.iload_n 1, 1) := dk_27 (dk_at dksX3_changes_5 21 rfl rfl)
theorem dX3_changes_141 : decode cX3_changes 141 = .ok (.iload 7, 2) := dk_21 7 (dk_at dksX3_changes_5 22 rfl rfl)
theorem dX3_changes_143 : decode cX3_changes 143 = .ok (.invokestatic 43, 3) := dk_184 0 43 (dk_at dksX3_changes_6 0 rfl rfl)
theorem dX3_changes_146 : decode cX3_changes 146 = .ok (.iconst 2, 1) := dk_5 (dk_at dksX3_changes_6 3 rfl rfl)
theorem dX3_changes_147 : decode cX3_changes 147 = .ok (.iadd, 1) := dk_96 (dk_at dksX3_changes_6 4 rfl rfl)
theorem dX3_changes_148 : decode cX3_changes 148 = .ok (.iload 4, 2) := dk_21 4 (dk_at dksX3_changes_6 5 rfl rfl)
theorem dX3_changes_150 : decode cX3_changes 150 = .ok (.iastore, 1) := dk_79 (dk_at dksX3_changes_6 7 rfl rfl)
theorem dX3_changes_151 : decode cX3_changes 151 = .ok (.aload_n 0, 1) := dk_42 (dk_at dksX3_changes_6 8 rfl rfl)
theorem dX3_changes_152 : decode cX3_changes 152 = .ok (.getfield 7, 3) := dk_180 0 7 (dk_at dksX3_changes_6 9 rfl rfl)
theorem dX3_changes_155 : decode cX3_changes 155 = .ok (.iload 5, 2) := dk_21 5 (dk_at dksX3_changes_6 12 rfl rfl)
theorem dX3_changes_157 : decode cX3_changes 157 = .ok (.iconst 4, 1) := dk_7 (dk_at dksX3_changes_6 14 rfl rfl)
theorem dX3_changes_158 : decode cX3_changes 158 = .ok (.iadd, 1) := dk_96 (dk_at dksX3_changes_6 15 rfl rfl)
theorem dX3_changes_159 : decode cX3_changes 159 = .ok (.dup2, 1) := dk_92 (dk_at dksX3_changes_6 16 rfl rfl)
theorem dX3_changes_160 : decode cX3_changes 160 = .ok (.iaload, 1) := dk_46 (dk_at dksX3_changes_6 17 rfl rfl)
theorem dX3_changes_161 : decode cX3_changes 161 = .ok (.iconst 1, 1) := dk_4 (dk_at dksX3_changes_6 18 rfl rfl)
theorem dX3_changes_162 : decode cX3_changes 162 = .ok (.iadd, 1) := dk_96 (dk_at dksX3_changes_6 19 rfl rfl)
theorem dX3_changes_163 : decode cX3_changes 163 = .ok (.iastore, 1) := dk_79 (dk_at dksX3_changes_6 20 rfl rfl)
theorem dX3_changes_164 : decode cX3_changes 164 = .ok (.iinc 2 1, 3) := dk_132 2 1 (dk_at dksX3_changes_6 21 rfl rfl)
theorem dX3_changes_167 : decode cX3_changes 167 = .ok (.iinc 3 1, 3) := dk_132 3 1 (dk_at dksX3_changes_7 0 rfl rfl)
theorem dX3_changes_170 : decode cX3_changes 170 = .ok (.goto (-166), 3) := dk_167 255 90 (dk_at dksX3_changes_7 3 rfl rfl)
theorem dX3_changes_173 : decode cX3_changes 173 = .ok (.iload_n 2, 1) := dk_28 (dk_at dksX3_changes_7 6 rfl rfl)
theorem dX3_changes_174 : decode cX3_changes 174 = .ok (.ireturn, 1) := dk_172 (dk_at dksX3_changes_7 7 rfl rfl)
abbrev cX3_leaves : ByteArray := prog_11_method_41_code
def yX3_leaves : MethodName := ⟨RX3, "leaves", "(II)V"⟩
def dkwX3_leaves_1 : List UInt8 := [180, 0, 7, 29, 5, 96, 46, 184, 0, 43, 5, 96, 2, 79, 42, 180, 0, 7, 29, 5, 96, 2, 79, 177]
abbrev dktX3_leaves_1 : List UInt8 := dkwX3_leaves_1 ++ []
def dkwX3_leaves_0 : List UInt8 := [27, 28, 184, 0, 40, 62, 42, 180, 0, 7, 29, 5, 96, 46, 2, 159, 0, 32, 42, 180, 0, 7, 27, 42]
abbrev dktX3_leaves_0 : List UInt8 := dkwX3_leaves_0 ++ dktX3_leaves_1
theorem dksX3_leaves_0 : cX3_leaves.data.toList.drop 0 = dktX3_leaves_0 := by decide +kernel
theorem dksX3_leaves_1 : cX3_leaves.data.toList.drop 24 = dktX3_leaves_1 := dk_seg dksX3_leaves_0 24 rfl rfl
theorem dX3_leaves_0 : decode cX3_leaves 0 = .ok (.iload_n 1, 1) := dk_27 (dk_at dksX3_leaves_0 0 rfl rfl)
theorem dX3_leaves_1 : decode cX3_leaves 1 = .ok (.iload_n 2, 1) := dk_28 (dk_at dksX3_leaves_0 1 rfl rfl)
theorem dX3_leaves_2 : decode cX3_leaves 2 = .ok (.invokestatic 40, 3) := dk_184 0 40 (dk_at dksX3_leaves_0 2 rfl rfl)
theorem dX3_leaves_5 : decode cX3_leaves 5 = .ok (.istore_n 3, 1) := dk_62 (dk_at dksX3_leaves_0 5 rfl rfl)
theorem dX3_leaves_6 : decode cX3_leaves 6 = .ok (.aload_n 0, 1) := dk_42 (dk_at dksX3_leaves_0 6 rfl rfl)
theorem dX3_leaves_7 : decode cX3_leaves 7 = .ok (.getfield 7, 3) := dk_180 0 7 (dk_at dksX3_leaves_0 7 rfl rfl)
theorem dX3_leaves_10 : decode cX3_leaves 10 = .ok (.iload_n 3, 1) := dk_29 (dk_at dksX3_leaves_0 10 rfl rfl)
theorem dX3_leaves_11 : decode cX3_leaves 11 = .ok (.iconst 2, 1) := dk_5 (dk_at dksX3_leaves_0 11 rfl rfl)
theorem dX3_leaves_12 : decode cX3_leaves 12 = .ok (.iadd, 1) := dk_96 (dk_at dksX3_leaves_0 12 rfl rfl)
theorem dX3_leaves_13 : decode cX3_leaves 13 = .ok (.iaload, 1) := dk_46 (dk_at dksX3_leaves_0 13 rfl rfl)
theorem dX3_leaves_14 : decode cX3_leaves 14 = .ok (.iconst (-1), 1) := dk_2 (dk_at dksX3_leaves_0 14 rfl rfl)
theorem dX3_leaves_15 : decode cX3_leaves 15 = .ok (.if_icmp .eq 32, 3) := dk_159 0 32 (dk_at dksX3_leaves_0 15 rfl rfl)
theorem dX3_leaves_18 : decode cX3_leaves 18 = .ok (.aload_n 0, 1) := dk_42 (dk_at dksX3_leaves_0 18 rfl rfl)
theorem dX3_leaves_19 : decode cX3_leaves 19 = .ok (.getfield 7, 3) := dk_180 0 7 (dk_at dksX3_leaves_0 19 rfl rfl)
theorem dX3_leaves_22 : decode cX3_leaves 22 = .ok (.iload_n 1, 1) := dk_27 (dk_at dksX3_leaves_0 22 rfl rfl)
theorem dX3_leaves_23 : decode cX3_leaves 23 = .ok (.aload_n 0, 1) := dk_42 (dk_at dksX3_leaves_0 23 rfl rfl)
theorem dX3_leaves_24 : decode cX3_leaves 24 = .ok (.getfield 7, 3) := dk_180 0 7 (dk_at dksX3_leaves_1 0 rfl rfl)
theorem dX3_leaves_27 : decode cX3_leaves 27 = .ok (.iload_n 3, 1) := dk_29 (dk_at dksX3_leaves_1 3 rfl rfl)
theorem dX3_leaves_28 : decode cX3_leaves 28 = .ok (.iconst 2, 1) := dk_5 (dk_at dksX3_leaves_1 4 rfl rfl)
theorem dX3_leaves_29 : decode cX3_leaves 29 = .ok (.iadd, 1) := dk_96 (dk_at dksX3_leaves_1 5 rfl rfl)
theorem dX3_leaves_30 : decode cX3_leaves 30 = .ok (.iaload, 1) := dk_46 (dk_at dksX3_leaves_1 6 rfl rfl)
theorem dX3_leaves_31 : decode cX3_leaves 31 = .ok (.invokestatic 43, 3) := dk_184 0 43 (dk_at dksX3_leaves_1 7 rfl rfl)
theorem dX3_leaves_34 : decode cX3_leaves 34 = .ok (.iconst 2, 1) := dk_5 (dk_at dksX3_leaves_1 10 rfl rfl)
theorem dX3_leaves_35 : decode cX3_leaves 35 = .ok (.iadd, 1) := dk_96 (dk_at dksX3_leaves_1 11 rfl rfl)
theorem dX3_leaves_36 : decode cX3_leaves 36 = .ok (.iconst (-1), 1) := dk_2 (dk_at dksX3_leaves_1 12 rfl rfl)
theorem dX3_leaves_37 : decode cX3_leaves 37 = .ok (.iastore, 1) := dk_79 (dk_at dksX3_leaves_1 13 rfl rfl)
theorem dX3_leaves_38 : decode cX3_leaves 38 = .ok (.aload_n 0, 1) := dk_42 (dk_at dksX3_leaves_1 14 rfl rfl)
theorem dX3_leaves_39 : decode cX3_leaves 39 = .ok (.getfield 7, 3) := dk_180 0 7 (dk_at dksX3_leaves_1 15 rfl rfl)
theorem dX3_leaves_42 : decode cX3_leaves 42 = .ok (.iload_n 3, 1) := dk_29 (dk_at dksX3_leaves_1 18 rfl rfl)
theorem dX3_leaves_43 : decode cX3_leaves 43 = .ok (.iconst 2, 1) := dk_5 (dk_at dksX3_leaves_1 19 rfl rfl)
theorem dX3_leaves_44 : decode cX3_leaves 44 = .ok (.iadd, 1) := dk_96 (dk_at dksX3_leaves_1 20 rfl rfl)
theorem dX3_leaves_45 : decode cX3_leaves 45 = .ok (.iconst (-1), 1) := dk_2 (dk_at dksX3_leaves_1 21 rfl rfl)
theorem dX3_leaves_46 : decode cX3_leaves 46 = .ok (.iastore, 1) := dk_79 (dk_at dksX3_leaves_1 22 rfl rfl)
theorem dX3_leaves_47 : decode cX3_leaves 47 = .ok (.return_, 1) := dk_177 (dk_at dksX3_leaves_1 23 rfl rfl)
abbrev cX3_heats : ByteArray := prog_11_method_42_code
def yX3_heats : MethodName := ⟨RX3, "heats", "(I)I"⟩
def dkwX3_heats_4 : List UInt8 := [7, 79, 132, 2, 1, 132, 3, 1, 167, 255, 159, 28, 172]
abbrev dktX3_heats_4 : List UInt8 := dkwX3_heats_4 ++ []
def dkwX3_heats_3 : List UInt8 := [180, 0, 7, 27, 16, 15, 96, 21, 5, 96, 46, 16, 30, 161, 0, 16, 42, 180, 0, 7, 21, 4, 6, 96]
abbrev dktX3_heats_3 : List UInt8 := dkwX3_heats_3 ++ dktX3_heats_4
def dkwX3_heats_2 : List UInt8 := [180, 0, 7, 21, 4, 5, 96, 46, 2, 160, 0, 43, 42, 27, 21, 5, 182, 0, 83, 154, 0, 33, 42]
abbrev dktX3_heats_2 : List UInt8 := dkwX3_heats_2 ++ dktX3_heats_3
def dkwX3_heats_1 : List UInt8 := [54, 4, 42, 180, 0, 7, 21, 4, 4, 96, 46, 54, 5, 42, 27, 29, 182, 0, 96, 153, 0, 56, 42]
abbrev dktX3_heats_1 : List UInt8 := dkwX3_heats_1 ++ dktX3_heats_2
def dkwX3_heats_0 : List UInt8 := [3, 61, 3, 62, 29, 42, 180, 0, 7, 27, 17, 0, 211, 96, 46, 162, 0, 89, 27, 29, 184, 0, 40]
abbrev dktX3_heats_0 : List UInt8 := dkwX3_heats_0 ++ dktX3_heats_1
theorem dksX3_heats_0 : cX3_heats.data.toList.drop 0 = dktX3_heats_0 := by decide +kernel
theorem dksX3_heats_1 : cX3_heats.data.toList.drop 23 = dktX3_heats_1 := dk_seg dksX3_heats_0 23 rfl rfl
theorem dksX3_heats_2 : cX3_heats.data.toList.drop 46 = dktX3_heats_2 := dk_seg dksX3_heats_1 23 rfl rfl
theorem dksX3_heats_3 : cX3_heats.data.toList.drop 69 = dktX3_heats_3 := dk_seg dksX3_heats_2 23 rfl rfl
theorem dksX3_heats_4 : cX3_heats.data.toList.drop 93 = dktX3_heats_4 := dk_seg dksX3_heats_3 24 rfl rfl
theorem dX3_heats_0 : decode cX3_heats 0 = .ok (.iconst 0, 1) := dk_3 (dk_at dksX3_heats_0 0 rfl rfl)
theorem dX3_heats_1 : decode cX3_heats 1 = .ok (.istore_n 2, 1) := dk_61 (dk_at dksX3_heats_0 1 rfl rfl)
theorem dX3_heats_2 : decode cX3_heats 2 = .ok (.iconst 0, 1) := dk_3 (dk_at dksX3_heats_0 2 rfl rfl)
theorem dX3_heats_3 : decode cX3_heats 3 = .ok (.istore_n 3, 1) := dk_62 (dk_at dksX3_heats_0 3 rfl rfl)
theorem dX3_heats_4 : decode cX3_heats 4 = .ok (.iload_n 3, 1) := dk_29 (dk_at dksX3_heats_0 4 rfl rfl)
theorem dX3_heats_5 : decode cX3_heats 5 = .ok (.aload_n 0, 1) := dk_42 (dk_at dksX3_heats_0 5 rfl rfl)
theorem dX3_heats_6 : decode cX3_heats 6 = .ok (.getfield 7, 3) := dk_180 0 7 (dk_at dksX3_heats_0 6 rfl rfl)
theorem dX3_heats_9 : decode cX3_heats 9 = .ok (.iload_n 1, 1) := dk_27 (dk_at dksX3_heats_0 9 rfl rfl)
theorem dX3_heats_10 : decode cX3_heats 10 = .ok (.sipush 211, 3) := dk_17 0 211 (dk_at dksX3_heats_0 10 rfl rfl)
theorem dX3_heats_13 : decode cX3_heats 13 = .ok (.iadd, 1) := dk_96 (dk_at dksX3_heats_0 13 rfl rfl)
theorem dX3_heats_14 : decode cX3_heats 14 = .ok (.iaload, 1) := dk_46 (dk_at dksX3_heats_0 14 rfl rfl)
theorem dX3_heats_15 : decode cX3_heats 15 = .ok (.if_icmp .ge 89, 3) := dk_162 0 89 (dk_at dksX3_heats_0 15 rfl rfl)
theorem dX3_heats_18 : decode cX3_heats 18 = .ok (.iload_n 1, 1) := dk_27 (dk_at dksX3_heats_0 18 rfl rfl)
theorem dX3_heats_19 : decode cX3_heats 19 = .ok (.iload_n 3, 1) := dk_29 (dk_at dksX3_heats_0 19 rfl rfl)
theorem dX3_heats_20 : decode cX3_heats 20 = .ok (.invokestatic 40, 3) := dk_184 0 40 (dk_at dksX3_heats_0 20 rfl rfl)
theorem dX3_heats_23 : decode cX3_heats 23 = .ok (.istore 4, 2) := dk_54 4 (dk_at dksX3_heats_1 0 rfl rfl)
theorem dX3_heats_25 : decode cX3_heats 25 = .ok (.aload_n 0, 1) := dk_42 (dk_at dksX3_heats_1 2 rfl rfl)
theorem dX3_heats_26 : decode cX3_heats 26 = .ok (.getfield 7, 3) := dk_180 0 7 (dk_at dksX3_heats_1 3 rfl rfl)
theorem dX3_heats_29 : decode cX3_heats 29 = .ok (.iload 4, 2) := dk_21 4 (dk_at dksX3_heats_1 6 rfl rfl)
theorem dX3_heats_31 : decode cX3_heats 31 = .ok (.iconst 1, 1) := dk_4 (dk_at dksX3_heats_1 8 rfl rfl)
theorem dX3_heats_32 : decode cX3_heats 32 = .ok (.iadd, 1) := dk_96 (dk_at dksX3_heats_1 9 rfl rfl)
theorem dX3_heats_33 : decode cX3_heats 33 = .ok (.iaload, 1) := dk_46 (dk_at dksX3_heats_1 10 rfl rfl)
theorem dX3_heats_34 : decode cX3_heats 34 = .ok (.istore 5, 2) := dk_54 5 (dk_at dksX3_heats_1 11 rfl rfl)
theorem dX3_heats_36 : decode cX3_heats 36 = .ok (.aload_n 0, 1) := dk_42 (dk_at dksX3_heats_1 13 rfl rfl)
theorem dX3_heats_37 : decode cX3_heats 37 = .ok (.iload_n 1, 1) := dk_27 (dk_at dksX3_heats_1 14 rfl rfl)
theorem dX3_heats_38 : decode cX3_heats 38 = .ok (.iload_n 3, 1) := dk_29 (dk_at dksX3_heats_1 15 rfl rfl)
theorem dX3_heats_39 : decode cX3_heats 39 = .ok (.invokevirtual 96, 3) := dk_182 0 96 (dk_at dksX3_heats_1 16 rfl rfl)
theorem dX3_heats_42 : decode cX3_heats 42 = .ok (.ifCond .eq 56, 3) := dk_153 0 56 (dk_at dksX3_heats_1 19 rfl rfl)
theorem dX3_heats_45 : decode cX3_heats 45 = .ok (.aload_n 0, 1) := dk_42 (dk_at dksX3_heats_1 22 rfl rfl)
theorem dX3_heats_46 : decode cX3_heats 46 = .ok (.getfield 7, 3) := dk_180 0 7 (dk_at dksX3_heats_2 0 rfl rfl)
theorem dX3_heats_49 : decode cX3_heats 49 = .ok (.iload 4, 2) := dk_21 4 (dk_at dksX3_heats_2 3 rfl rfl)
theorem dX3_heats_51 : decode cX3_heats 51 = .ok (.iconst 2, 1) := dk_5 (dk_at dksX3_heats_2 5 rfl rfl)
theorem dX3_heats_52 : decode cX3_heats 52 = .ok (.iadd, 1) := dk_96 (dk_at dksX3_heats_2 6 rfl rfl)
theorem dX3_heats_53 : decode cX3_heats 53 = .ok (.iaload, 1) := dk_46 (dk_at dksX3_heats_2 7 rfl rfl)
theorem dX3_heats_54 : decode cX3_heats 54 = .ok (.iconst (-1), 1) := dk_2 (dk_at dksX3_heats_2 8 rfl rfl)
theorem dX3_heats_55 : decode cX3_heats 55 = .ok (.if_icmp .ne 43, 3) := dk_160 0 43 (dk_at dksX3_heats_2 9 rfl rfl)
theorem dX3_heats_58 : decode cX3_heats 58 = .ok (.aload_n 0, 1) := dk_42 (dk_at dksX3_heats_2 12 rfl rfl)
theorem dX3_heats_59 : decode cX3_heats 59 = .ok (.iload_n 1, 1) := dk_27 (dk_at dksX3_heats_2 13 rfl rfl)
theorem dX3_heats_60 : decode cX3_heats 60 = .ok (.iload 5, 2) := dk_21 5 (dk_at dksX3_heats_2 14 rfl rfl)
theorem dX3_heats_62 : decode cX3_heats 62 = .ok (.invokevirtual 83, 3) := dk_182 0 83 (dk_at dksX3_heats_2 16 rfl rfl)
theorem dX3_heats_65 : decode cX3_heats 65 = .ok (.ifCond .ne 33, 3) := dk_154 0 33 (dk_at dksX3_heats_2 19 rfl rfl)
theorem dX3_heats_68 : decode cX3_heats 68 = .ok (.aload_n 0, 1) := dk_42 (dk_at dksX3_heats_2 22 rfl rfl)
theorem dX3_heats_69 : decode cX3_heats 69 = .ok (.getfield 7, 3) := dk_180 0 7 (dk_at dksX3_heats_3 0 rfl rfl)
theorem dX3_heats_72 : decode cX3_heats 72 = .ok (.iload_n 1, 1) := dk_27 (dk_at dksX3_heats_3 3 rfl rfl)
theorem dX3_heats_73 : decode cX3_heats 73 = .ok (.bipush 15, 2) := dk_16 15 (dk_at dksX3_heats_3 4 rfl rfl)
theorem dX3_heats_75 : decode cX3_heats 75 = .ok (.iadd, 1) := dk_96 (dk_at dksX3_heats_3 6 rfl rfl)
theorem dX3_heats_76 : decode cX3_heats 76 = .ok (.iload 5, 2) := dk_21 5 (dk_at dksX3_heats_3 7 rfl rfl)
theorem dX3_heats_78 : decode cX3_heats 78 = .ok (.iadd, 1) := dk_96 (dk_at dksX3_heats_3 9 rfl rfl)
theorem dX3_heats_79 : decode cX3_heats 79 = .ok (.iaload, 1) := dk_46 (dk_at dksX3_heats_3 10 rfl rfl)
theorem dX3_heats_80 : decode cX3_heats 80 = .ok (.bipush 30, 2) := dk_16 30 (dk_at dksX3_heats_3 11 rfl rfl)
theorem dX3_heats_82 : decode cX3_heats 82 = .ok (.if_icmp .lt 16, 3) := dk_161 0 16 (dk_at dksX3_heats_3 13 rfl rfl)
theorem dX3_heats_85 : decode cX3_heats 85 = .ok (.aload_n 0, 1) := dk_42 (dk_at dksX3_heats_3 16 rfl rfl)
theorem dX3_heats_86 : decode cX3_heats 86 = .ok (.getfield 7, 3) := dk_180 0 7 (dk_at dksX3_heats_3 17 rfl rfl)
theorem dX3_heats_89 : decode cX3_heats 89 = .ok (.iload 4, 2) := dk_21 4 (dk_at dksX3_heats_3 20 rfl rfl)
theorem dX3_heats_91 : decode cX3_heats 91 = .ok (.iconst 3, 1) := dk_6 (dk_at dksX3_heats_3 22 rfl rfl)
theorem dX3_heats_92 : decode cX3_heats 92 = .ok (.iadd, 1) := dk_96 (dk_at dksX3_heats_3 23 rfl rfl)
theorem dX3_heats_93 : decode cX3_heats 93 = .ok (.iconst 4, 1) := dk_7 (dk_at dksX3_heats_4 0 rfl rfl)
theorem dX3_heats_94 : decode cX3_heats 94 = .ok (.iastore, 1) := dk_79 (dk_at dksX3_heats_4 1 rfl rfl)
theorem dX3_heats_95 : decode cX3_heats 95 = .ok (.iinc 2 1, 3) := dk_132 2 1 (dk_at dksX3_heats_4 2 rfl rfl)
theorem dX3_heats_98 : decode cX3_heats 98 = .ok (.iinc 3 1, 3) := dk_132 3 1 (dk_at dksX3_heats_4 5 rfl rfl)
theorem dX3_heats_101 : decode cX3_heats 101 = .ok (.goto (-97), 3) := dk_167 255 159 (dk_at dksX3_heats_4 8 rfl rfl)
theorem dX3_heats_104 : decode cX3_heats 104 = .ok (.iload_n 2, 1) := dk_28 (dk_at dksX3_heats_4 11 rfl rfl)
theorem dX3_heats_105 : decode cX3_heats 105 = .ok (.ireturn, 1) := dk_172 (dk_at dksX3_heats_4 12 rfl rfl)
abbrev cX3_hunts : ByteArray := prog_11_method_46_code
def yX3_hunts : MethodName := ⟨RX3, "hunts", "(I)I"⟩
def dkwX3_hunts_6 : List UInt8 := [154, 0, 7, 3, 167, 0, 4, 4, 96, 79, 29, 154, 0, 7, 3, 167, 0, 4, 4, 172]
abbrev dktX3_hunts_6 : List UInt8 := dkwX3_hunts_6 ++ []
def dkwX3_hunts_5 : List UInt8 := [29, 16, 100, 100, 184, 0, 40, 6, 96, 6, 79, 42, 180, 0, 7, 27, 16, 6, 96, 92, 46, 29]
abbrev dktX3_hunts_5 : List UInt8 := dkwX3_hunts_5 ++ dktX3_hunts_6
def dkwX3_hunts_4 : List UInt8 := [79, 167, 0, 34, 29, 16, 100, 161, 0, 28, 42, 27, 29, 16, 100, 100, 182, 0, 105, 42, 180, 0, 7, 27]
abbrev dktX3_hunts_4 : List UInt8 := dkwX3_hunts_4 ++ dktX3_hunts_5
def dkwX3_hunts_3 : List UInt8 := [79, 29, 17, 0, 200, 161, 0, 23, 42, 180, 0, 7, 27, 29, 17, 0, 200, 100, 184, 0, 36, 7, 96, 6]
abbrev dktX3_hunts_3 : List UInt8 := dkwX3_hunts_3 ++ dktX3_hunts_4
def dkwX3_hunts_2 : List UInt8 := [42, 180, 0, 7, 27, 8, 96, 28, 2, 160, 0, 14, 42, 180, 0, 7, 27, 8, 96, 46, 167, 0, 4, 28]
abbrev dktX3_hunts_2 : List UInt8 := dkwX3_hunts_2 ++ dktX3_hunts_3
def dkwX3_hunts_1 : List UInt8 := [182, 0, 112, 167, 0, 4, 2, 61, 28, 2, 160, 0, 7, 3, 167, 0, 9, 42, 27, 28, 182, 0, 116, 62]
abbrev dktX3_hunts_1 : List UInt8 := dkwX3_hunts_1 ++ dktX3_hunts_2
def dkwX3_hunts_0 : List UInt8 := [42, 180, 0, 7, 27, 3, 96, 46, 42, 180, 0, 7, 27, 7, 96, 46, 112, 154, 0, 11, 42, 27]
abbrev dktX3_hunts_0 : List UInt8 := dkwX3_hunts_0 ++ dktX3_hunts_1
theorem dksX3_hunts_0 : cX3_hunts.data.toList.drop 0 = dktX3_hunts_0 := by decide +kernel
theorem dksX3_hunts_1 : cX3_hunts.data.toList.drop 22 = dktX3_hunts_1 := dk_seg dksX3_hunts_0 22 rfl rfl
theorem dksX3_hunts_2 : cX3_hunts.data.toList.drop 46 = dktX3_hunts_2 := dk_seg dksX3_hunts_1 24 rfl rfl
theorem dksX3_hunts_3 : cX3_hunts.data.toList.drop 70 = dktX3_hunts_3 := dk_seg dksX3_hunts_2 24 rfl rfl
theorem dksX3_hunts_4 : cX3_hunts.data.toList.drop 94 = dktX3_hunts_4 := dk_seg dksX3_hunts_3 24 rfl rfl
theorem dksX3_hunts_5 : cX3_hunts.data.toList.drop 118 = dktX3_hunts_5 := dk_seg dksX3_hunts_4 24 rfl rfl
theorem dksX3_hunts_6 : cX3_hunts.data.toList.drop 140 = dktX3_hunts_6 := dk_seg dksX3_hunts_5 22 rfl rfl
theorem dX3_hunts_0 : decode cX3_hunts 0 = .ok (.aload_n 0, 1) := dk_42 (dk_at dksX3_hunts_0 0 rfl rfl)
theorem dX3_hunts_1 : decode cX3_hunts 1 = .ok (.getfield 7, 3) := dk_180 0 7 (dk_at dksX3_hunts_0 1 rfl rfl)
theorem dX3_hunts_4 : decode cX3_hunts 4 = .ok (.iload_n 1, 1) := dk_27 (dk_at dksX3_hunts_0 4 rfl rfl)
theorem dX3_hunts_5 : decode cX3_hunts 5 = .ok (.iconst 0, 1) := dk_3 (dk_at dksX3_hunts_0 5 rfl rfl)
theorem dX3_hunts_6 : decode cX3_hunts 6 = .ok (.iadd, 1) := dk_96 (dk_at dksX3_hunts_0 6 rfl rfl)
theorem dX3_hunts_7 : decode cX3_hunts 7 = .ok (.iaload, 1) := dk_46 (dk_at dksX3_hunts_0 7 rfl rfl)
theorem dX3_hunts_8 : decode cX3_hunts 8 = .ok (.aload_n 0, 1) := dk_42 (dk_at dksX3_hunts_0 8 rfl rfl)
theorem dX3_hunts_9 : decode cX3_hunts 9 = .ok (.getfield 7, 3) := dk_180 0 7 (dk_at dksX3_hunts_0 9 rfl rfl)
theorem dX3_hunts_12 : decode cX3_hunts 12 = .ok (.iload_n 1, 1) := dk_27 (dk_at dksX3_hunts_0 12 rfl rfl)
theorem dX3_hunts_13 : decode cX3_hunts 13 = .ok (.iconst 4, 1) := dk_7 (dk_at dksX3_hunts_0 13 rfl rfl)
theorem dX3_hunts_14 : decode cX3_hunts 14 = .ok (.iadd, 1) := dk_96 (dk_at dksX3_hunts_0 14 rfl rfl)
theorem dX3_hunts_15 : decode cX3_hunts 15 = .ok (.iaload, 1) := dk_46 (dk_at dksX3_hunts_0 15 rfl rfl)
theorem dX3_hunts_16 : decode cX3_hunts 16 = .ok (.irem, 1) := dk_112 (dk_at dksX3_hunts_0 16 rfl rfl)
theorem dX3_hunts_17 : decode cX3_hunts 17 = .ok (.ifCond .ne 11, 3) := dk_154 0 11 (dk_at dksX3_hunts_0 17 rfl rfl)
theorem dX3_hunts_20 : decode cX3_hunts 20 = .ok (.aload_n 0, 1) := dk_42 (dk_at dksX3_hunts_0 20 rfl rfl)
theorem dX3_hunts_21 : decode cX3_hunts 21 = .ok (.iload_n 1, 1) := dk_27 (dk_at dksX3_hunts_0 21 rfl rfl)
theorem dX3_hunts_22 : decode cX3_hunts 22 = .ok (.invokevirtual 112, 3) := dk_182 0 112 (dk_at dksX3_hunts_1 0 rfl rfl)
theorem dX3_hunts_25 : decode cX3_hunts 25 = .ok (.goto 4, 3) := dk_167 0 4 (dk_at dksX3_hunts_1 3 rfl rfl)
theorem dX3_hunts_28 : decode cX3_hunts 28 = .ok (.iconst (-1), 1) := dk_2 (dk_at dksX3_hunts_1 6 rfl rfl)
theorem dX3_hunts_29 : decode cX3_hunts 29 = .ok (.istore_n 2, 1) := dk_61 (dk_at dksX3_hunts_1 7 rfl rfl)
theorem dX3_hunts_30 : decode cX3_hunts 30 = .ok (.iload_n 2, 1) := dk_28 (dk_at dksX3_hunts_1 8 rfl rfl)
theorem dX3_hunts_31 : decode cX3_hunts 31 = .ok (.iconst (-1), 1) := dk_2 (dk_at dksX3_hunts_1 9 rfl rfl)
theorem dX3_hunts_32 : decode cX3_hunts 32 = .ok (.if_icmp .ne 7, 3) := dk_160 0 7 (dk_at dksX3_hunts_1 10 rfl rfl)
theorem dX3_hunts_35 : decode cX3_hunts 35 = .ok (.iconst 0, 1) := dk_3 (dk_at dksX3_hunts_1 13 rfl rfl)
theorem dX3_hunts_36 : decode cX3_hunts 36 = .ok (.goto 9, 3) := dk_167 0 9 (dk_at dksX3_hunts_1 14 rfl rfl)
theorem dX3_hunts_39 : decode cX3_hunts 39 = .ok (.aload_n 0, 1) := dk_42 (dk_at dksX3_hunts_1 17 rfl rfl)
theorem dX3_hunts_40 : decode cX3_hunts 40 = .ok (.iload_n 1, 1) := dk_27 (dk_at dksX3_hunts_1 18 rfl rfl)
theorem dX3_hunts_41 : decode cX3_hunts 41 = .ok (.iload_n 2, 1) := dk_28 (dk_at dksX3_hunts_1 19 rfl rfl)
theorem dX3_hunts_42 : decode cX3_hunts 42 = .ok (.invokevirtual 116, 3) := dk_182 0 116 (dk_at dksX3_hunts_1 20 rfl rfl)
theorem dX3_hunts_45 : decode cX3_hunts 45 = .ok (.istore_n 3, 1) := dk_62 (dk_at dksX3_hunts_1 23 rfl rfl)
theorem dX3_hunts_46 : decode cX3_hunts 46 = .ok (.aload_n 0, 1) := dk_42 (dk_at dksX3_hunts_2 0 rfl rfl)
theorem dX3_hunts_47 : decode cX3_hunts 47 = .ok (.getfield 7, 3) := dk_180 0 7 (dk_at dksX3_hunts_2 1 rfl rfl)
theorem dX3_hunts_50 : decode cX3_hunts 50 = .ok (.iload_n 1, 1) := dk_27 (dk_at dksX3_hunts_2 4 rfl rfl)
theorem dX3_hunts_51 : decode cX3_hunts 51 = .ok (.iconst 5, 1) := dk_8 (dk_at dksX3_hunts_2 5 rfl rfl)
theorem dX3_hunts_52 : decode cX3_hunts 52 = .ok (.iadd, 1) := dk_96 (dk_at dksX3_hunts_2 6 rfl rfl)
theorem dX3_hunts_53 : decode cX3_hunts 53 = .ok (.iload_n 2, 1) := dk_28 (dk_at dksX3_hunts_2 7 rfl rfl)
theorem dX3_hunts_54 : decode cX3_hunts 54 = .ok (.iconst (-1), 1) := dk_2 (dk_at dksX3_hunts_2 8 rfl rfl)
theorem dX3_hunts_55 : decode cX3_hunts 55 = .ok (.if_icmp .ne 14, 3) := dk_160 0 14 (dk_at dksX3_hunts_2 9 rfl rfl)
theorem dX3_hunts_58 : decode cX3_hunts 58 = .ok (.aload_n 0, 1) := dk_42 (dk_at dksX3_hunts_2 12 rfl rfl)
theorem dX3_hunts_59 : decode cX3_hunts 59 = .ok (.getfield 7, 3) := dk_180 0 7 (dk_at dksX3_hunts_2 13 rfl rfl)
theorem dX3_hunts_62 : decode cX3_hunts 62 = .ok (.iload_n 1, 1) := dk_27 (dk_at dksX3_hunts_2 16 rfl rfl)
theorem dX3_hunts_63 : decode cX3_hunts 63 = .ok (.iconst 5, 1) := dk_8 (dk_at dksX3_hunts_2 17 rfl rfl)
theorem dX3_hunts_64 : decode cX3_hunts 64 = .ok (.iadd, 1) := dk_96 (dk_at dksX3_hunts_2 18 rfl rfl)
theorem dX3_hunts_65 : decode cX3_hunts 65 = .ok (.iaload, 1) := dk_46 (dk_at dksX3_hunts_2 19 rfl rfl)
theorem dX3_hunts_66 : decode cX3_hunts 66 = .ok (.goto 4, 3) := dk_167 0 4 (dk_at dksX3_hunts_2 20 rfl rfl)
theorem dX3_hunts_69 : decode cX3_hunts 69 = .ok (.iload_n 2, 1) := dk_28 (dk_at dksX3_hunts_2 23 rfl rfl)
theorem dX3_hunts_70 : decode cX3_hunts 70 = .ok (.iastore, 1) := dk_79 (dk_at dksX3_hunts_3 0 rfl rfl)
theorem dX3_hunts_71 : decode cX3_hunts 71 = .ok (.iload_n 3, 1) := dk_29 (dk_at dksX3_hunts_3 1 rfl rfl)
theorem dX3_hunts_72 : decode cX3_hunts 72 = .ok (.sipush 200, 3) := dk_17 0 200 (dk_at dksX3_hunts_3 2 rfl rfl)
theorem dX3_hunts_75 : decode cX3_hunts 75 = .ok (.if_icmp .lt 23, 3) := dk_161 0 23 (dk_at dksX3_hunts_3 5 rfl rfl)
theorem dX3_hunts_78 : decode cX3_hunts 78 = .ok (.aload_n 0, 1) := dk_42 (dk_at dksX3_hunts_3 8 rfl rfl)
theorem dX3_hunts_79 : decode cX3_hunts 79 = .ok (.getfield 7, 3) := dk_180 0 7 (dk_at dksX3_hunts_3 9 rfl rfl)
theorem dX3_hunts_82 : decode cX3_hunts 82 = .ok (.iload_n 1, 1) := dk_27 (dk_at dksX3_hunts_3 12 rfl rfl)
theorem dX3_hunts_83 : decode cX3_hunts 83 = .ok (.iload_n 3, 1) := dk_29 (dk_at dksX3_hunts_3 13 rfl rfl)
theorem dX3_hunts_84 : decode cX3_hunts 84 = .ok (.sipush 200, 3) := dk_17 0 200 (dk_at dksX3_hunts_3 14 rfl rfl)
theorem dX3_hunts_87 : decode cX3_hunts 87 = .ok (.isub, 1) := dk_100 (dk_at dksX3_hunts_3 17 rfl rfl)
theorem dX3_hunts_88 : decode cX3_hunts 88 = .ok (.invokestatic 36, 3) := dk_184 0 36 (dk_at dksX3_hunts_3 18 rfl rfl)
theorem dX3_hunts_91 : decode cX3_hunts 91 = .ok (.iconst 4, 1) := dk_7 (dk_at dksX3_hunts_3 21 rfl rfl)
theorem dX3_hunts_92 : decode cX3_hunts 92 = .ok (.iadd, 1) := dk_96 (dk_at dksX3_hunts_3 22 rfl rfl)
theorem dX3_hunts_93 : decode cX3_hunts 93 = .ok (.iconst 3, 1) := dk_6 (dk_at dksX3_hunts_3 23 rfl rfl)
theorem dX3_hunts_94 : decode cX3_hunts 94 = .ok (.iastore, 1) := dk_79 (dk_at dksX3_hunts_4 0 rfl rfl)
theorem dX3_hunts_95 : decode cX3_hunts 95 = .ok (.goto 34, 3) := dk_167 0 34 (dk_at dksX3_hunts_4 1 rfl rfl)
theorem dX3_hunts_98 : decode cX3_hunts 98 = .ok (.iload_n 3, 1) := dk_29 (dk_at dksX3_hunts_4 4 rfl rfl)
theorem dX3_hunts_99 : decode cX3_hunts 99 = .ok (.bipush 100, 2) := dk_16 100 (dk_at dksX3_hunts_4 5 rfl rfl)
theorem dX3_hunts_101 : decode cX3_hunts 101 = .ok (.if_icmp .lt 28, 3) := dk_161 0 28 (dk_at dksX3_hunts_4 7 rfl rfl)
theorem dX3_hunts_104 : decode cX3_hunts 104 = .ok (.aload_n 0, 1) := dk_42 (dk_at dksX3_hunts_4 10 rfl rfl)
theorem dX3_hunts_105 : decode cX3_hunts 105 = .ok (.iload_n 1, 1) := dk_27 (dk_at dksX3_hunts_4 11 rfl rfl)
theorem dX3_hunts_106 : decode cX3_hunts 106 = .ok (.iload_n 3, 1) := dk_29 (dk_at dksX3_hunts_4 12 rfl rfl)
theorem dX3_hunts_107 : decode cX3_hunts 107 = .ok (.bipush 100, 2) := dk_16 100 (dk_at dksX3_hunts_4 13 rfl rfl)
theorem dX3_hunts_109 : decode cX3_hunts 109 = .ok (.isub, 1) := dk_100 (dk_at dksX3_hunts_4 15 rfl rfl)
theorem dX3_hunts_110 : decode cX3_hunts 110 = .ok (.invokevirtual 105, 3) := dk_182 0 105 (dk_at dksX3_hunts_4 16 rfl rfl)
theorem dX3_hunts_113 : decode cX3_hunts 113 = .ok (.aload_n 0, 1) := dk_42 (dk_at dksX3_hunts_4 19 rfl rfl)
theorem dX3_hunts_114 : decode cX3_hunts 114 = .ok (.getfield 7, 3) := dk_180 0 7 (dk_at dksX3_hunts_4 20 rfl rfl)
theorem dX3_hunts_117 : decode cX3_hunts 117 = .ok (.iload_n 1, 1) := dk_27 (dk_at dksX3_hunts_4 23 rfl rfl)
theorem dX3_hunts_118 : decode cX3_hunts 118 = .ok (.iload_n 3, 1) := dk_29 (dk_at dksX3_hunts_5 0 rfl rfl)
theorem dX3_hunts_119 : decode cX3_hunts 119 = .ok (.bipush 100, 2) := dk_16 100 (dk_at dksX3_hunts_5 1 rfl rfl)
theorem dX3_hunts_121 : decode cX3_hunts 121 = .ok (.isub, 1) := dk_100 (dk_at dksX3_hunts_5 3 rfl rfl)
theorem dX3_hunts_122 : decode cX3_hunts 122 = .ok (.invokestatic 40, 3) := dk_184 0 40 (dk_at dksX3_hunts_5 4 rfl rfl)
theorem dX3_hunts_125 : decode cX3_hunts 125 = .ok (.iconst 3, 1) := dk_6 (dk_at dksX3_hunts_5 7 rfl rfl)
theorem dX3_hunts_126 : decode cX3_hunts 126 = .ok (.iadd, 1) := dk_96 (dk_at dksX3_hunts_5 8 rfl rfl)
theorem dX3_hunts_127 : decode cX3_hunts 127 = .ok (.iconst 3, 1) := dk_6 (dk_at dksX3_hunts_5 9 rfl rfl)
theorem dX3_hunts_128 : decode cX3_hunts 128 = .ok (.iastore, 1) := dk_79 (dk_at dksX3_hunts_5 10 rfl rfl)
theorem dX3_hunts_129 : decode cX3_hunts 129 = .ok (.aload_n 0, 1) := dk_42 (dk_at dksX3_hunts_5 11 rfl rfl)
theorem dX3_hunts_130 : decode cX3_hunts 130 = .ok (.getfield 7, 3) := dk_180 0 7 (dk_at dksX3_hunts_5 12 rfl rfl)
theorem dX3_hunts_133 : decode cX3_hunts 133 = .ok (.iload_n 1, 1) := dk_27 (dk_at dksX3_hunts_5 15 rfl rfl)
theorem dX3_hunts_134 : decode cX3_hunts 134 = .ok (.bipush 6, 2) := dk_16 6 (dk_at dksX3_hunts_5 16 rfl rfl)
theorem dX3_hunts_136 : decode cX3_hunts 136 = .ok (.iadd, 1) := dk_96 (dk_at dksX3_hunts_5 18 rfl rfl)
theorem dX3_hunts_137 : decode cX3_hunts 137 = .ok (.dup2, 1) := dk_92 (dk_at dksX3_hunts_5 19 rfl rfl)
theorem dX3_hunts_138 : decode cX3_hunts 138 = .ok (.iaload, 1) := dk_46 (dk_at dksX3_hunts_5 20 rfl rfl)
theorem dX3_hunts_139 : decode cX3_hunts 139 = .ok (.iload_n 3, 1) := dk_29 (dk_at dksX3_hunts_5 21 rfl rfl)
theorem dX3_hunts_140 : decode cX3_hunts 140 = .ok (.ifCond .ne 7, 3) := dk_154 0 7 (dk_at dksX3_hunts_6 0 rfl rfl)
theorem dX3_hunts_143 : decode cX3_hunts 143 = .ok (.iconst 0, 1) := dk_3 (dk_at dksX3_hunts_6 3 rfl rfl)
theorem dX3_hunts_144 : decode cX3_hunts 144 = .ok (.goto 4, 3) := dk_167 0 4 (dk_at dksX3_hunts_6 4 rfl rfl)
theorem dX3_hunts_147 : decode cX3_hunts 147 = .ok (.iconst 1, 1) := dk_4 (dk_at dksX3_hunts_6 7 rfl rfl)
theorem dX3_hunts_148 : decode cX3_hunts 148 = .ok (.iadd, 1) := dk_96 (dk_at dksX3_hunts_6 8 rfl rfl)
theorem dX3_hunts_149 : decode cX3_hunts 149 = .ok (.iastore, 1) := dk_79 (dk_at dksX3_hunts_6 9 rfl rfl)
theorem dX3_hunts_150 : decode cX3_hunts 150 = .ok (.iload_n 3, 1) := dk_29 (dk_at dksX3_hunts_6 10 rfl rfl)
theorem dX3_hunts_151 : decode cX3_hunts 151 = .ok (.ifCond .ne 7, 3) := dk_154 0 7 (dk_at dksX3_hunts_6 11 rfl rfl)
theorem dX3_hunts_154 : decode cX3_hunts 154 = .ok (.iconst 0, 1) := dk_3 (dk_at dksX3_hunts_6 14 rfl rfl)
theorem dX3_hunts_155 : decode cX3_hunts 155 = .ok (.goto 4, 3) := dk_167 0 4 (dk_at dksX3_hunts_6 15 rfl rfl)
theorem dX3_hunts_158 : decode cX3_hunts 158 = .ok (.iconst 1, 1) := dk_4 (dk_at dksX3_hunts_6 18 rfl rfl)
theorem dX3_hunts_159 : decode cX3_hunts 159 = .ok (.ireturn, 1) := dk_172 (dk_at dksX3_hunts_6 19 rfl rfl)
abbrev cX3_next : ByteArray := prog_11_method_45_code
def yX3_next : MethodName := ⟨RX3, "next", "(I)I"⟩
def dkwX3_next_1 : List UInt8 := [29, 182, 0, 83, 154, 0, 5, 29, 172, 132, 2, 1, 167, 255, 222, 2, 172]
abbrev dktX3_next_1 : List UInt8 := dkwX3_next_1 ++ []
def dkwX3_next_0 : List UInt8 := [4, 61, 28, 16, 8, 163, 0, 34, 42, 180, 0, 7, 27, 8, 96, 46, 28, 96, 16, 8, 112, 62, 42, 27]
abbrev dktX3_next_0 : List UInt8 := dkwX3_next_0 ++ dktX3_next_1
theorem dksX3_next_0 : cX3_next.data.toList.drop 0 = dktX3_next_0 := by decide +kernel
theorem dksX3_next_1 : cX3_next.data.toList.drop 24 = dktX3_next_1 := dk_seg dksX3_next_0 24 rfl rfl
theorem dX3_next_0 : decode cX3_next 0 = .ok (.iconst 1, 1) := dk_4 (dk_at dksX3_next_0 0 rfl rfl)
theorem dX3_next_1 : decode cX3_next 1 = .ok (.istore_n 2, 1) := dk_61 (dk_at dksX3_next_0 1 rfl rfl)
theorem dX3_next_2 : decode cX3_next 2 = .ok (.iload_n 2, 1) := dk_28 (dk_at dksX3_next_0 2 rfl rfl)
theorem dX3_next_3 : decode cX3_next 3 = .ok (.bipush 8, 2) := dk_16 8 (dk_at dksX3_next_0 3 rfl rfl)
theorem dX3_next_5 : decode cX3_next 5 = .ok (.if_icmp .gt 34, 3) := dk_163 0 34 (dk_at dksX3_next_0 5 rfl rfl)
theorem dX3_next_8 : decode cX3_next 8 = .ok (.aload_n 0, 1) := dk_42 (dk_at dksX3_next_0 8 rfl rfl)
theorem dX3_next_9 : decode cX3_next 9 = .ok (.getfield 7, 3) := dk_180 0 7 (dk_at dksX3_next_0 9 rfl rfl)
theorem dX3_next_12 : decode cX3_next 12 = .ok (.iload_n 1, 1) := dk_27 (dk_at dksX3_next_0 12 rfl rfl)
theorem dX3_next_13 : decode cX3_next 13 = .ok (.iconst 5, 1) := dk_8 (dk_at dksX3_next_0 13 rfl rfl)
theorem dX3_next_14 : decode cX3_next 14 = .ok (.iadd, 1) := dk_96 (dk_at dksX3_next_0 14 rfl rfl)
theorem dX3_next_15 : decode cX3_next 15 = .ok (.iaload, 1) := dk_46 (dk_at dksX3_next_0 15 rfl rfl)
theorem dX3_next_16 : decode cX3_next 16 = .ok (.iload_n 2, 1) := dk_28 (dk_at dksX3_next_0 16 rfl rfl)
theorem dX3_next_17 : decode cX3_next 17 = .ok (.iadd, 1) := dk_96 (dk_at dksX3_next_0 17 rfl rfl)
theorem dX3_next_18 : decode cX3_next 18 = .ok (.bipush 8, 2) := dk_16 8 (dk_at dksX3_next_0 18 rfl rfl)
theorem dX3_next_20 : decode cX3_next 20 = .ok (.irem, 1) := dk_112 (dk_at dksX3_next_0 20 rfl rfl)
theorem dX3_next_21 : decode cX3_next 21 = .ok (.istore_n 3, 1) := dk_62 (dk_at dksX3_next_0 21 rfl rfl)
theorem dX3_next_22 : decode cX3_next 22 = .ok (.aload_n 0, 1) := dk_42 (dk_at dksX3_next_0 22 rfl rfl)
theorem dX3_next_23 : decode cX3_next 23 = .ok (.iload_n 1, 1) := dk_27 (dk_at dksX3_next_0 23 rfl rfl)
theorem dX3_next_24 : decode cX3_next 24 = .ok (.iload_n 3, 1) := dk_29 (dk_at dksX3_next_1 0 rfl rfl)
theorem dX3_next_25 : decode cX3_next 25 = .ok (.invokevirtual 83, 3) := dk_182 0 83 (dk_at dksX3_next_1 1 rfl rfl)
theorem dX3_next_28 : decode cX3_next 28 = .ok (.ifCond .ne 5, 3) := dk_154 0 5 (dk_at dksX3_next_1 4 rfl rfl)
theorem dX3_next_31 : decode cX3_next 31 = .ok (.iload_n 3, 1) := dk_29 (dk_at dksX3_next_1 7 rfl rfl)
theorem dX3_next_32 : decode cX3_next 32 = .ok (.ireturn, 1) := dk_172 (dk_at dksX3_next_1 8 rfl rfl)
theorem dX3_next_33 : decode cX3_next 33 = .ok (.iinc 2 1, 3) := dk_132 2 1 (dk_at dksX3_next_1 9 rfl rfl)
theorem dX3_next_36 : decode cX3_next 36 = .ok (.goto (-34), 3) := dk_167 255 222 (dk_at dksX3_next_1 12 rfl rfl)
theorem dX3_next_39 : decode cX3_next 39 = .ok (.iconst (-1), 1) := dk_2 (dk_at dksX3_next_1 15 rfl rfl)
theorem dX3_next_40 : decode cX3_next 40 = .ok (.ireturn, 1) := dk_172 (dk_at dksX3_next_1 16 rfl rfl)
abbrev cX3_prey : ByteArray := prog_11_method_44_code
def yX3_prey : MethodName := ⟨RX3, "prey", "(II)I"⟩
def dkwX3_prey_7 : List UInt8 := [21, 4, 96, 172]
abbrev dktX3_prey_7 : List UInt8 := dkwX3_prey_7 ++ []
def dkwX3_prey_6 : List UInt8 := [21, 5, 54, 5, 132, 6, 1, 167, 255, 152, 21, 4, 2, 160, 0, 7, 3, 167, 0, 9, 17, 0, 200]
abbrev dktX3_prey_6 : List UInt8 := dkwX3_prey_6 ++ dktX3_prey_7
def dkwX3_prey_5 : List UInt8 := [167, 0, 5, 21, 4, 54, 4, 21, 8, 153, 0, 15, 42, 180, 0, 7, 21, 7, 6, 96, 46, 167, 0, 5]
abbrev dktX3_prey_5 : List UInt8 := dkwX3_prey_5 ++ dktX3_prey_6
def dkwX3_prey_4 : List UInt8 := [21, 7, 6, 96, 46, 21, 5, 164, 0, 7, 4, 167, 0, 4, 3, 54, 8, 21, 8, 153, 0, 8, 21, 6]
abbrev dktX3_prey_4 : List UInt8 := dkwX3_prey_4 ++ dktX3_prey_5
def dkwX3_prey_3 : List UInt8 := [21, 7, 7, 96, 46, 154, 0, 32, 42, 180, 0, 7, 21, 7, 46, 28, 160, 0, 21, 42, 180, 0, 7]
abbrev dktX3_prey_3 : List UInt8 := dkwX3_prey_3 ++ dktX3_prey_4
def dkwX3_prey_2 : List UInt8 := [180, 0, 7, 27, 16, 31, 96, 46, 162, 0, 96, 27, 21, 6, 184, 0, 36, 54, 7, 42, 180, 0, 7]
abbrev dktX3_prey_2 : List UInt8 := dkwX3_prey_2 ++ dktX3_prey_3
def dkwX3_prey_1 : List UInt8 := [62, 29, 2, 159, 0, 8, 16, 100, 29, 96, 172, 2, 54, 4, 3, 54, 5, 3, 54, 6, 21, 6, 42]
abbrev dktX3_prey_1 : List UInt8 := dkwX3_prey_1 ++ dktX3_prey_2
def dkwX3_prey_0 : List UInt8 := [42, 27, 28, 4, 182, 0, 108, 62, 29, 2, 160, 0, 13, 42, 27, 28, 3, 182, 0, 108, 167, 0, 4, 29]
abbrev dktX3_prey_0 : List UInt8 := dkwX3_prey_0 ++ dktX3_prey_1
theorem dksX3_prey_0 : cX3_prey.data.toList.drop 0 = dktX3_prey_0 := by decide +kernel
theorem dksX3_prey_1 : cX3_prey.data.toList.drop 24 = dktX3_prey_1 := dk_seg dksX3_prey_0 24 rfl rfl
theorem dksX3_prey_2 : cX3_prey.data.toList.drop 47 = dktX3_prey_2 := dk_seg dksX3_prey_1 23 rfl rfl
theorem dksX3_prey_3 : cX3_prey.data.toList.drop 70 = dktX3_prey_3 := dk_seg dksX3_prey_2 23 rfl rfl
theorem dksX3_prey_4 : cX3_prey.data.toList.drop 93 = dktX3_prey_4 := dk_seg dksX3_prey_3 23 rfl rfl
theorem dksX3_prey_5 : cX3_prey.data.toList.drop 117 = dktX3_prey_5 := dk_seg dksX3_prey_4 24 rfl rfl
theorem dksX3_prey_6 : cX3_prey.data.toList.drop 141 = dktX3_prey_6 := dk_seg dksX3_prey_5 24 rfl rfl
theorem dksX3_prey_7 : cX3_prey.data.toList.drop 164 = dktX3_prey_7 := dk_seg dksX3_prey_6 23 rfl rfl
theorem dX3_prey_0 : decode cX3_prey 0 = .ok (.aload_n 0, 1) := dk_42 (dk_at dksX3_prey_0 0 rfl rfl)
theorem dX3_prey_1 : decode cX3_prey 1 = .ok (.iload_n 1, 1) := dk_27 (dk_at dksX3_prey_0 1 rfl rfl)
theorem dX3_prey_2 : decode cX3_prey 2 = .ok (.iload_n 2, 1) := dk_28 (dk_at dksX3_prey_0 2 rfl rfl)
theorem dX3_prey_3 : decode cX3_prey 3 = .ok (.iconst 1, 1) := dk_4 (dk_at dksX3_prey_0 3 rfl rfl)
theorem dX3_prey_4 : decode cX3_prey 4 = .ok (.invokevirtual 108, 3) := dk_182 0 108 (dk_at dksX3_prey_0 4 rfl rfl)
theorem dX3_prey_7 : decode cX3_prey 7 = .ok (.istore_n 3, 1) := dk_62 (dk_at dksX3_prey_0 7 rfl rfl)
theorem dX3_prey_8 : decode cX3_prey 8 = .ok (.iload_n 3, 1) := dk_29 (dk_at dksX3_prey_0 8 rfl rfl)
theorem dX3_prey_9 : decode cX3_prey 9 = .ok (.iconst (-1), 1) := dk_2 (dk_at dksX3_prey_0 9 rfl rfl)
theorem dX3_prey_10 : decode cX3_prey 10 = .ok (.if_icmp .ne 13, 3) := dk_160 0 13 (dk_at dksX3_prey_0 10 rfl rfl)
theorem dX3_prey_13 : decode cX3_prey 13 = .ok (.aload_n 0, 1) := dk_42 (dk_at dksX3_prey_0 13 rfl rfl)
theorem dX3_prey_14 : decode cX3_prey 14 = .ok (.iload_n 1, 1) := dk_27 (dk_at dksX3_prey_0 14 rfl rfl)
theorem dX3_prey_15 : decode cX3_prey 15 = .ok (.iload_n 2, 1) := dk_28 (dk_at dksX3_prey_0 15 rfl rfl)
theorem dX3_prey_16 : decode cX3_prey 16 = .ok (.iconst 0, 1) := dk_3 (dk_at dksX3_prey_0 16 rfl rfl)
theorem dX3_prey_17 : decode cX3_prey 17 = .ok (.invokevirtual 108, 3) := dk_182 0 108 (dk_at dksX3_prey_0 17 rfl rfl)
theorem dX3_prey_20 : decode cX3_prey 20 = .ok (.goto 4, 3) := dk_167 0 4 (dk_at dksX3_prey_0 20 rfl rfl)
theorem dX3_prey_23 : decode cX3_prey 23 = .ok (.iload_n 3, 1) := dk_29 (dk_at dksX3_prey_0 23 rfl rfl)
theorem dX3_prey_24 : decode cX3_prey 24 = .ok (.istore_n 3, 1) := dk_62 (dk_at dksX3_prey_1 0 rfl rfl)
theorem dX3_prey_25 : decode cX3_prey 25 = .ok (.iload_n 3, 1) := dk_29 (dk_at dksX3_prey_1 1 rfl rfl)
theorem dX3_prey_26 : decode cX3_prey 26 = .ok (.iconst (-1), 1) := dk_2 (dk_at dksX3_prey_1 2 rfl rfl)
theorem dX3_prey_27 : decode cX3_prey 27 = .ok (.if_icmp .eq 8, 3) := dk_159 0 8 (dk_at dksX3_prey_1 3 rfl rfl)
theorem dX3_prey_30 : decode cX3_prey 30 = .ok (.bipush 100, 2) := dk_16 100 (dk_at dksX3_prey_1 6 rfl rfl)
theorem dX3_prey_32 : decode cX3_prey 32 = .ok (.iload_n 3, 1) := dk_29 (dk_at dksX3_prey_1 8 rfl rfl)
theorem dX3_prey_33 : decode cX3_prey 33 = .ok (.iadd, 1) := dk_96 (dk_at dksX3_prey_1 9 rfl rfl)
theorem dX3_prey_34 : decode cX3_prey 34 = .ok (.ireturn, 1) := dk_172 (dk_at dksX3_prey_1 10 rfl rfl)
theorem dX3_prey_35 : decode cX3_prey 35 = .ok (.iconst (-1), 1) := dk_2 (dk_at dksX3_prey_1 11 rfl rfl)
theorem dX3_prey_36 : decode cX3_prey 36 = .ok (.istore 4, 2) := dk_54 4 (dk_at dksX3_prey_1 12 rfl rfl)
theorem dX3_prey_38 : decode cX3_prey 38 = .ok (.iconst 0, 1) := dk_3 (dk_at dksX3_prey_1 14 rfl rfl)
theorem dX3_prey_39 : decode cX3_prey 39 = .ok (.istore 5, 2) := dk_54 5 (dk_at dksX3_prey_1 15 rfl rfl)
theorem dX3_prey_41 : decode cX3_prey 41 = .ok (.iconst 0, 1) := dk_3 (dk_at dksX3_prey_1 17 rfl rfl)
theorem dX3_prey_42 : decode cX3_prey 42 = .ok (.istore 6, 2) := dk_54 6 (dk_at dksX3_prey_1 18 rfl rfl)
theorem dX3_prey_44 : decode cX3_prey 44 = .ok (.iload 6, 2) := dk_21 6 (dk_at dksX3_prey_1 20 rfl rfl)
theorem dX3_prey_46 : decode cX3_prey 46 = .ok (.aload_n 0, 1) := dk_42 (dk_at dksX3_prey_1 22 rfl rfl)
theorem dX3_prey_47 : decode cX3_prey 47 = .ok (.getfield 7, 3) := dk_180 0 7 (dk_at dksX3_prey_2 0 rfl rfl)
theorem dX3_prey_50 : decode cX3_prey 50 = .ok (.iload_n 1, 1) := dk_27 (dk_at dksX3_prey_2 3 rfl rfl)
theorem dX3_prey_51 : decode cX3_prey 51 = .ok (.bipush 31, 2) := dk_16 31 (dk_at dksX3_prey_2 4 rfl rfl)
theorem dX3_prey_53 : decode cX3_prey 53 = .ok (.iadd, 1) := dk_96 (dk_at dksX3_prey_2 6 rfl rfl)
theorem dX3_prey_54 : decode cX3_prey 54 = .ok (.iaload, 1) := dk_46 (dk_at dksX3_prey_2 7 rfl rfl)
theorem dX3_prey_55 : decode cX3_prey 55 = .ok (.if_icmp .ge 96, 3) := dk_162 0 96 (dk_at dksX3_prey_2 8 rfl rfl)
theorem dX3_prey_58 : decode cX3_prey 58 = .ok (.iload_n 1, 1) := dk_27 (dk_at dksX3_prey_2 11 rfl rfl)
theorem dX3_prey_59 : decode cX3_prey 59 = .ok (.iload 6, 2) := dk_21 6 (dk_at dksX3_prey_2 12 rfl rfl)
theorem dX3_prey_61 : decode cX3_prey 61 = .ok (.invokestatic 36, 3) := dk_184 0 36 (dk_at dksX3_prey_2 14 rfl rfl)
theorem dX3_prey_64 : decode cX3_prey 64 = .ok (.istore 7, 2) := dk_54 7 (dk_at dksX3_prey_2 17 rfl rfl)
theorem dX3_prey_66 : decode cX3_prey 66 = .ok (.aload_n 0, 1) := dk_42 (dk_at dksX3_prey_2 19 rfl rfl)
theorem dX3_prey_67 : decode cX3_prey 67 = .ok (.getfield 7, 3) := dk_180 0 7 (dk_at dksX3_prey_2 20 rfl rfl)
theorem dX3_prey_70 : decode cX3_prey 70 = .ok (.iload 7, 2) := dk_21 7 (dk_at dksX3_prey_3 0 rfl rfl)
theorem dX3_prey_72 : decode cX3_prey 72 = .ok (.iconst 4, 1) := dk_7 (dk_at dksX3_prey_3 2 rfl rfl)
theorem dX3_prey_73 : decode cX3_prey 73 = .ok (.iadd, 1) := dk_96 (dk_at dksX3_prey_3 3 rfl rfl)
theorem dX3_prey_74 : decode cX3_prey 74 = .ok (.iaload, 1) := dk_46 (dk_at dksX3_prey_3 4 rfl rfl)
theorem dX3_prey_75 : decode cX3_prey 75 = .ok (.ifCond .ne 32, 3) := dk_154 0 32 (dk_at dksX3_prey_3 5 rfl rfl)
theorem dX3_prey_78 : decode cX3_prey 78 = .ok (.aload_n 0, 1) := dk_42 (dk_at dksX3_prey_3 8 rfl rfl)
theorem dX3_prey_79 : decode cX3_prey 79 = .ok (.getfield 7, 3) := dk_180 0 7 (dk_at dksX3_prey_3 9 rfl rfl)
theorem dX3_prey_82 : decode cX3_prey 82 = .ok (.iload 7, 2) := dk_21 7 (dk_at dksX3_prey_3 12 rfl rfl)
theorem dX3_prey_84 : decode cX3_prey 84 = .ok (.iaload, 1) := dk_46 (dk_at dksX3_prey_3 14 rfl rfl)
theorem dX3_prey_85 : decode cX3_prey 85 = .ok (.iload_n 2, 1) := dk_28 (dk_at dksX3_prey_3 15 rfl rfl)
theorem dX3_prey_86 : decode cX3_prey 86 = .ok (.if_icmp .ne 21, 3) := dk_160 0 21 (dk_at dksX3_prey_3 16 rfl rfl)
theorem dX3_prey_89 : decode cX3_prey 89 = .ok (.aload_n 0, 1) := dk_42 (dk_at dksX3_prey_3 19 rfl rfl)
theorem dX3_prey_90 : decode cX3_prey 90 = .ok (.getfield 7, 3) := dk_180 0 7 (dk_at dksX3_prey_3 20 rfl rfl)
theorem dX3_prey_93 : decode cX3_prey 93 = .ok (.iload 7, 2) := dk_21 7 (dk_at dksX3_prey_4 0 rfl rfl)
theorem dX3_prey_95 : decode cX3_prey 95 = .ok (.iconst 3, 1) := dk_6 (dk_at dksX3_prey_4 2 rfl rfl)
theorem dX3_prey_96 : decode cX3_prey 96 = .ok (.iadd, 1) := dk_96 (dk_at dksX3_prey_4 3 rfl rfl)
theorem dX3_prey_97 : decode cX3_prey 97 = .ok (.iaload, 1) := dk_46 (dk_at dksX3_prey_4 4 rfl rfl)
theorem dX3_prey_98 : decode cX3_prey 98 = .ok (.iload 5, 2) := dk_21 5 (dk_at dksX3_prey_4 5 rfl rfl)
theorem dX3_prey_100 : decode cX3_prey 100 = .ok (.if_icmp .le 7, 3) := dk_164 0 7 (dk_at dksX3_prey_4 7 rfl rfl)
theorem dX3_prey_103 : decode cX3_prey 103 = .ok (.iconst 1, 1) := dk_4 (dk_at dksX3_prey_4 10 rfl rfl)
theorem dX3_prey_104 : decode cX3_prey 104 = .ok (.goto 4, 3) := dk_167 0 4 (dk_at dksX3_prey_4 11 rfl rfl)
theorem dX3_prey_107 : decode cX3_prey 107 = .ok (.iconst 0, 1) := dk_3 (dk_at dksX3_prey_4 14 rfl rfl)
theorem dX3_prey_108 : decode cX3_prey 108 = .ok (.istore 8, 2) := dk_54 8 (dk_at dksX3_prey_4 15 rfl rfl)
theorem dX3_prey_110 : decode cX3_prey 110 = .ok (.iload 8, 2) := dk_21 8 (dk_at dksX3_prey_4 17 rfl rfl)
theorem dX3_prey_112 : decode cX3_prey 112 = .ok (.ifCond .eq 8, 3) := dk_153 0 8 (dk_at dksX3_prey_4 19 rfl rfl)
theorem dX3_prey_115 : decode cX3_prey 115 = .ok (.iload 6, 2) := dk_21 6 (dk_at dksX3_prey_4 22 rfl rfl)
theorem dX3_prey_117 : decode cX3_prey 117 = .ok (.goto 5, 3) := dk_167 0 5 (dk_at dksX3_prey_5 0 rfl rfl)
theorem dX3_prey_120 : decode cX3_prey 120 = .ok (.iload 4, 2) := dk_21 4 (dk_at dksX3_prey_5 3 rfl rfl)
theorem dX3_prey_122 : decode cX3_prey 122 = .ok (.istore 4, 2) := dk_54 4 (dk_at dksX3_prey_5 5 rfl rfl)
theorem dX3_prey_124 : decode cX3_prey 124 = .ok (.iload 8, 2) := dk_21 8 (dk_at dksX3_prey_5 7 rfl rfl)
theorem dX3_prey_126 : decode cX3_prey 126 = .ok (.ifCond .eq 15, 3) := dk_153 0 15 (dk_at dksX3_prey_5 9 rfl rfl)
theorem dX3_prey_129 : decode cX3_prey 129 = .ok (.aload_n 0, 1) := dk_42 (dk_at dksX3_prey_5 12 rfl rfl)
theorem dX3_prey_130 : decode cX3_prey 130 = .ok (.getfield 7, 3) := dk_180 0 7 (dk_at dksX3_prey_5 13 rfl rfl)
theorem dX3_prey_133 : decode cX3_prey 133 = .ok (.iload 7, 2) := dk_21 7 (dk_at dksX3_prey_5 16 rfl rfl)
theorem dX3_prey_135 : decode cX3_prey 135 = .ok (.iconst 3, 1) := dk_6 (dk_at dksX3_prey_5 18 rfl rfl)
theorem dX3_prey_136 : decode cX3_prey 136 = .ok (.iadd, 1) := dk_96 (dk_at dksX3_prey_5 19 rfl rfl)
theorem dX3_prey_137 : decode cX3_prey 137 = .ok (.iaload, 1) := dk_46 (dk_at dksX3_prey_5 20 rfl rfl)
theorem dX3_prey_138 : decode cX3_prey 138 = .ok (.goto 5, 3) := dk_167 0 5 (dk_at dksX3_prey_5 21 rfl rfl)
theorem dX3_prey_141 : decode cX3_prey 141 = .ok (.iload 5, 2) := dk_21 5 (dk_at dksX3_prey_6 0 rfl rfl)
theorem dX3_prey_143 : decode cX3_prey 143 = .ok (.istore 5, 2) := dk_54 5 (dk_at dksX3_prey_6 2 rfl rfl)
theorem dX3_prey_145 : decode cX3_prey 145 = .ok (.iinc 6 1, 3) := dk_132 6 1 (dk_at dksX3_prey_6 4 rfl rfl)
theorem dX3_prey_148 : decode cX3_prey 148 = .ok (.goto (-104), 3) := dk_167 255 152 (dk_at dksX3_prey_6 7 rfl rfl)
theorem dX3_prey_151 : decode cX3_prey 151 = .ok (.iload 4, 2) := dk_21 4 (dk_at dksX3_prey_6 10 rfl rfl)
theorem dX3_prey_153 : decode cX3_prey 153 = .ok (.iconst (-1), 1) := dk_2 (dk_at dksX3_prey_6 12 rfl rfl)
theorem dX3_prey_154 : decode cX3_prey 154 = .ok (.if_icmp .ne 7, 3) := dk_160 0 7 (dk_at dksX3_prey_6 13 rfl rfl)
theorem dX3_prey_157 : decode cX3_prey 157 = .ok (.iconst 0, 1) := dk_3 (dk_at dksX3_prey_6 16 rfl rfl)
theorem dX3_prey_158 : decode cX3_prey 158 = .ok (.goto 9, 3) := dk_167 0 9 (dk_at dksX3_prey_6 17 rfl rfl)
theorem dX3_prey_161 : decode cX3_prey 161 = .ok (.sipush 200, 3) := dk_17 0 200 (dk_at dksX3_prey_6 20 rfl rfl)
theorem dX3_prey_164 : decode cX3_prey 164 = .ok (.iload 4, 2) := dk_21 4 (dk_at dksX3_prey_7 0 rfl rfl)
theorem dX3_prey_166 : decode cX3_prey 166 = .ok (.iadd, 1) := dk_96 (dk_at dksX3_prey_7 2 rfl rfl)
theorem dX3_prey_167 : decode cX3_prey 167 = .ok (.ireturn, 1) := dk_172 (dk_at dksX3_prey_7 3 rfl rfl)
abbrev cX3_greatest : ByteArray := prog_11_method_43_code
def yX3_greatest : MethodName := ⟨RX3, "greatest", "(IIZ)I"⟩
def dkwX3_greatest_5 : List UInt8 := [164, 0, 8, 21, 5, 167, 0, 5, 21, 4, 54, 4, 132, 5, 1, 167, 255, 129, 21, 4, 172]
abbrev dktX3_greatest_5 : List UInt8 := dkwX3_greatest_5 ++ []
def dkwX3_greatest_4 : List UInt8 := [2, 159, 0, 24, 42, 180, 0, 7, 21, 6, 46, 42, 180, 0, 7, 27, 21, 4, 184, 0, 40, 46]
abbrev dktX3_greatest_4 : List UInt8 := dkwX3_greatest_4 ++ dktX3_greatest_5
def dkwX3_greatest_3 : List UInt8 := [42, 27, 21, 5, 182, 0, 99, 153, 0, 7, 4, 167, 0, 4, 3, 54, 7, 21, 7, 153, 0, 35, 21, 4]
abbrev dktX3_greatest_3 : List UInt8 := dkwX3_greatest_3 ++ dktX3_greatest_4
def dkwX3_greatest_2 : List UInt8 := [28, 160, 0, 37, 29, 153, 0, 19, 42, 180, 0, 7, 21, 6, 5, 96, 46, 2, 160, 0, 20, 167, 0, 13]
abbrev dktX3_greatest_2 : List UInt8 := dkwX3_greatest_2 ++ dktX3_greatest_3
def dkwX3_greatest_1 : List UInt8 := [184, 0, 40, 54, 6, 42, 27, 21, 5, 182, 0, 96, 153, 0, 50, 42, 180, 0, 7, 21, 6, 4, 96, 46]
abbrev dktX3_greatest_1 : List UInt8 := dkwX3_greatest_1 ++ dktX3_greatest_2
def dkwX3_greatest_0 : List UInt8 := [2, 54, 4, 3, 54, 5, 21, 5, 42, 180, 0, 7, 27, 17, 0, 211, 96, 46, 162, 0, 118, 27, 21, 5]
abbrev dktX3_greatest_0 : List UInt8 := dkwX3_greatest_0 ++ dktX3_greatest_1
theorem dksX3_greatest_0 : cX3_greatest.data.toList.drop 0 = dktX3_greatest_0 := by decide +kernel
theorem dksX3_greatest_1 : cX3_greatest.data.toList.drop 24 = dktX3_greatest_1 := dk_seg dksX3_greatest_0 24 rfl rfl
theorem dksX3_greatest_2 : cX3_greatest.data.toList.drop 48 = dktX3_greatest_2 := dk_seg dksX3_greatest_1 24 rfl rfl
theorem dksX3_greatest_3 : cX3_greatest.data.toList.drop 72 = dktX3_greatest_3 := dk_seg dksX3_greatest_2 24 rfl rfl
theorem dksX3_greatest_4 : cX3_greatest.data.toList.drop 96 = dktX3_greatest_4 := dk_seg dksX3_greatest_3 24 rfl rfl
theorem dksX3_greatest_5 : cX3_greatest.data.toList.drop 118 = dktX3_greatest_5 := dk_seg dksX3_greatest_4 22 rfl rfl
theorem dX3_greatest_0 : decode cX3_greatest 0 = .ok (.iconst (-1), 1) := dk_2 (dk_at dksX3_greatest_0 0 rfl rfl)
theorem dX3_greatest_1 : decode cX3_greatest 1 = .ok (.istore 4, 2) := dk_54 4 (dk_at dksX3_greatest_0 1 rfl rfl)
theorem dX3_greatest_3 : decode cX3_greatest 3 = .ok (.iconst 0, 1) := dk_3 (dk_at dksX3_greatest_0 3 rfl rfl)
theorem dX3_greatest_4 : decode cX3_greatest 4 = .ok (.istore 5, 2) := dk_54 5 (dk_at dksX3_greatest_0 4 rfl rfl)
theorem dX3_greatest_6 : decode cX3_greatest 6 = .ok (.iload 5, 2) := dk_21 5 (dk_at dksX3_greatest_0 6 rfl rfl)
theorem dX3_greatest_8 : decode cX3_greatest 8 = .ok (.aload_n 0, 1) := dk_42 (dk_at dksX3_greatest_0 8 rfl rfl)
theorem dX3_greatest_9 : decode cX3_greatest 9 = .ok (.getfield 7, 3) := dk_180 0 7 (dk_at dksX3_greatest_0 9 rfl rfl)
theorem dX3_greatest_12 : decode cX3_greatest 12 = .ok (.iload_n 1, 1) := dk_27 (dk_at dksX3_greatest_0 12 rfl rfl)
theorem dX3_greatest_13 : decode cX3_greatest 13 = .ok (.sipush 211, 3) := dk_17 0 211 (dk_at dksX3_greatest_0 13 rfl rfl)
theorem dX3_greatest_16 : decode cX3_greatest 16 = .ok (.iadd, 1) := dk_96 (dk_at dksX3_greatest_0 16 rfl rfl)
theorem dX3_greatest_17 : decode cX3_greatest 17 = .ok (.iaload, 1) := dk_46 (dk_at dksX3_greatest_0 17 rfl rfl)
theorem dX3_greatest_18 : decode cX3_greatest 18 = .ok (.if_icmp .ge 118, 3) := dk_162 0 118 (dk_at dksX3_greatest_0 18 rfl rfl)
theorem dX3_greatest_21 : decode cX3_greatest 21 = .ok (.iload_n 1, 1) := dk_27 (dk_at dksX3_greatest_0 21 rfl rfl)
theorem dX3_greatest_22 : decode cX3_greatest 22 = .ok (.iload 5, 2) := dk_21 5 (dk_at dksX3_greatest_0 22 rfl rfl)
theorem dX3_greatest_24 : decode cX3_greatest 24 = .ok (.invokestatic 40, 3) := dk_184 0 40 (dk_at dksX3_greatest_1 0 rfl rfl)
theorem dX3_greatest_27 : decode cX3_greatest 27 = .ok (.istore 6, 2) := dk_54 6 (dk_at dksX3_greatest_1 3 rfl rfl)
theorem dX3_greatest_29 : decode cX3_greatest 29 = .ok (.aload_n 0, 1) := dk_42 (dk_at dksX3_greatest_1 5 rfl rfl)
theorem dX3_greatest_30 : decode cX3_greatest 30 = .ok (.iload_n 1, 1) := dk_27 (dk_at dksX3_greatest_1 6 rfl rfl)
theorem dX3_greatest_31 : decode cX3_greatest 31 = .ok (.iload 5, 2) := dk_21 5 (dk_at dksX3_greatest_1 7 rfl rfl)
theorem dX3_greatest_33 : decode cX3_greatest 33 = .ok (.invokevirtual 96, 3) := dk_182 0 96 (dk_at dksX3_greatest_1 9 rfl rfl)
theorem dX3_greatest_36 : decode cX3_greatest 36 = .ok (.ifCond .eq 50, 3) := dk_153 0 50 (dk_at dksX3_greatest_1 12 rfl rfl)
theorem dX3_greatest_39 : decode cX3_greatest 39 = .ok (.aload_n 0, 1) := dk_42 (dk_at dksX3_greatest_1 15 rfl rfl)
theorem dX3_greatest_40 : decode cX3_greatest 40 = .ok (.getfield 7, 3) := dk_180 0 7 (dk_at dksX3_greatest_1 16 rfl rfl)
theorem dX3_greatest_43 : decode cX3_greatest 43 = .ok (.iload 6, 2) := dk_21 6 (dk_at dksX3_greatest_1 19 rfl rfl)
theorem dX3_greatest_45 : decode cX3_greatest 45 = .ok (.iconst 1, 1) := dk_4 (dk_at dksX3_greatest_1 21 rfl rfl)
theorem dX3_greatest_46 : decode cX3_greatest 46 = .ok (.iadd, 1) := dk_96 (dk_at dksX3_greatest_1 22 rfl rfl)
theorem dX3_greatest_47 : decode cX3_greatest 47 = .ok (.iaload, 1) := dk_46 (dk_at dksX3_greatest_1 23 rfl rfl)
theorem dX3_greatest_48 : decode cX3_greatest 48 = .ok (.iload_n 2, 1) := dk_28 (dk_at dksX3_greatest_2 0 rfl rfl)
theorem dX3_greatest_49 : decode cX3_greatest 49 = .ok (.if_icmp .ne 37, 3) := dk_160 0 37 (dk_at dksX3_greatest_2 1 rfl rfl)
theorem dX3_greatest_52 : decode cX3_greatest 52 = .ok (.iload_n 3, 1) := dk_29 (dk_at dksX3_greatest_2 4 rfl rfl)
theorem dX3_greatest_53 : decode cX3_greatest 53 = .ok (.ifCond .eq 19, 3) := dk_153 0 19 (dk_at dksX3_greatest_2 5 rfl rfl)
theorem dX3_greatest_56 : decode cX3_greatest 56 = .ok (.aload_n 0, 1) := dk_42 (dk_at dksX3_greatest_2 8 rfl rfl)
theorem dX3_greatest_57 : decode cX3_greatest 57 = .ok (.getfield 7, 3) := dk_180 0 7 (dk_at dksX3_greatest_2 9 rfl rfl)
theorem dX3_greatest_60 : decode cX3_greatest 60 = .ok (.iload 6, 2) := dk_21 6 (dk_at dksX3_greatest_2 12 rfl rfl)
theorem dX3_greatest_62 : decode cX3_greatest 62 = .ok (.iconst 2, 1) := dk_5 (dk_at dksX3_greatest_2 14 rfl rfl)
theorem dX3_greatest_63 : decode cX3_greatest 63 = .ok (.iadd, 1) := dk_96 (dk_at dksX3_greatest_2 15 rfl rfl)
theorem dX3_greatest_64 : decode cX3_greatest 64 = .ok (.iaload, 1) := dk_46 (dk_at dksX3_greatest_2 16 rfl rfl)
theorem dX3_greatest_65 : decode cX3_greatest 65 = .ok (.iconst (-1), 1) := dk_2 (dk_at dksX3_greatest_2 17 rfl rfl)
theorem dX3_greatest_66 : decode cX3_greatest 66 = .ok (.if_icmp .ne 20, 3) := dk_160 0 20 (dk_at dksX3_greatest_2 18 rfl rfl)
theorem dX3_greatest_69 : decode cX3_greatest 69 = .ok (.goto 13, 3) := dk_167 0 13 (dk_at dksX3_greatest_2 21 rfl rfl)
theorem dX3_greatest_72 : decode cX3_greatest 72 = .ok (.aload_n 0, 1) := dk_42 (dk_at dksX3_greatest_3 0 rfl rfl)
theorem dX3_greatest_73 : decode cX3_greatest 73 = .ok (.iload_n 1, 1) := dk_27 (dk_at dksX3_greatest_3 1 rfl rfl)
theorem dX3_greatest_74 : decode cX3_greatest 74 = .ok (.iload 5, 2) := dk_21 5 (dk_at dksX3_greatest_3 2 rfl rfl)
theorem dX3_greatest_76 : decode cX3_greatest 76 = .ok (.invokevirtual 99, 3) := dk_182 0 99 (dk_at dksX3_greatest_3 4 rfl rfl)
theorem dX3_greatest_79 : decode cX3_greatest 79 = .ok (.ifCond .eq 7, 3) := dk_153 0 7 (dk_at dksX3_greatest_3 7 rfl rfl)
theorem dX3_greatest_82 : decode cX3_greatest 82 = .ok (.iconst 1, 1) := dk_4 (dk_at dksX3_greatest_3 10 rfl rfl)
theorem dX3_greatest_83 : decode cX3_greatest 83 = .ok (.goto 4, 3) := dk_167 0 4 (dk_at dksX3_greatest_3 11 rfl rfl)
theorem dX3_greatest_86 : decode cX3_greatest 86 = .ok (.iconst 0, 1) := dk_3 (dk_at dksX3_greatest_3 14 rfl rfl)
theorem dX3_greatest_87 : decode cX3_greatest 87 = .ok (.istore 7, 2) := dk_54 7 (dk_at dksX3_greatest_3 15 rfl rfl)
theorem dX3_greatest_89 : decode cX3_greatest 89 = .ok (.iload 7, 2) := dk_21 7 (dk_at dksX3_greatest_3 17 rfl rfl)
theorem dX3_greatest_91 : decode cX3_greatest 91 = .ok (.ifCond .eq 35, 3) := dk_153 0 35 (dk_at dksX3_greatest_3 19 rfl rfl)
theorem dX3_greatest_94 : decode cX3_greatest 94 = .ok (.iload 4, 2) := dk_21 4 (dk_at dksX3_greatest_3 22 rfl rfl)
theorem dX3_greatest_96 : decode cX3_greatest 96 = .ok (.iconst (-1), 1) := dk_2 (dk_at dksX3_greatest_4 0 rfl rfl)
theorem dX3_greatest_97 : decode cX3_greatest 97 = .ok (.if_icmp .eq 24, 3) := dk_159 0 24 (dk_at dksX3_greatest_4 1 rfl rfl)
theorem dX3_greatest_100 : decode cX3_greatest 100 = .ok (.aload_n 0, 1) := dk_42 (dk_at dksX3_greatest_4 4 rfl rfl)
theorem dX3_greatest_101 : decode cX3_greatest 101 = .ok (.getfield 7, 3) := dk_180 0 7 (dk_at dksX3_greatest_4 5 rfl rfl)
theorem dX3_greatest_104 : decode cX3_greatest 104 = .ok (.iload 6, 2) := dk_21 6 (dk_at dksX3_greatest_4 8 rfl rfl)
theorem dX3_greatest_106 : decode cX3_greatest 106 = .ok (.iaload, 1) := dk_46 (dk_at dksX3_greatest_4 10 rfl rfl)
theorem dX3_greatest_107 : decode cX3_greatest 107 = .ok (.aload_n 0, 1) := dk_42 (dk_at dksX3_greatest_4 11 rfl rfl)
theorem dX3_greatest_108 : decode cX3_greatest 108 = .ok (.getfield 7, 3) := dk_180 0 7 (dk_at dksX3_greatest_4 12 rfl rfl)
theorem dX3_greatest_111 : decode cX3_greatest 111 = .ok (.iload_n 1, 1) := dk_27 (dk_at dksX3_greatest_4 15 rfl rfl)
theorem dX3_greatest_112 : decode cX3_greatest 112 = .ok (.iload 4, 2) := dk_21 4 (dk_at dksX3_greatest_4 16 rfl rfl)
theorem dX3_greatest_114 : decode cX3_greatest 114 = .ok (.invokestatic 40, 3) := dk_184 0 40 (dk_at dksX3_greatest_4 18 rfl rfl)
theorem dX3_greatest_117 : decode cX3_greatest 117 = .ok (.iaload, 1) := dk_46 (dk_at dksX3_greatest_4 21 rfl rfl)
theorem dX3_greatest_118 : decode cX3_greatest 118 = .ok (.if_icmp .le 8, 3) := dk_164 0 8 (dk_at dksX3_greatest_5 0 rfl rfl)
theorem dX3_greatest_121 : decode cX3_greatest 121 = .ok (.iload 5, 2) := dk_21 5 (dk_at dksX3_greatest_5 3 rfl rfl)
theorem dX3_greatest_123 : decode cX3_greatest 123 = .ok (.goto 5, 3) := dk_167 0 5 (dk_at dksX3_greatest_5 5 rfl rfl)
theorem dX3_greatest_126 : decode cX3_greatest 126 = .ok (.iload 4, 2) := dk_21 4 (dk_at dksX3_greatest_5 8 rfl rfl)
theorem dX3_greatest_128 : decode cX3_greatest 128 = .ok (.istore 4, 2) := dk_54 4 (dk_at dksX3_greatest_5 10 rfl rfl)
theorem dX3_greatest_130 : decode cX3_greatest 130 = .ok (.iinc 5 1, 3) := dk_132 5 1 (dk_at dksX3_greatest_5 12 rfl rfl)
theorem dX3_greatest_133 : decode cX3_greatest 133 = .ok (.goto (-127), 3) := dk_167 255 129 (dk_at dksX3_greatest_5 15 rfl rfl)
theorem dX3_greatest_136 : decode cX3_greatest 136 = .ok (.iload 4, 2) := dk_21 4 (dk_at dksX3_greatest_5 18 rfl rfl)
theorem dX3_greatest_138 : decode cX3_greatest 138 = .ok (.ireturn, 1) := dk_172 (dk_at dksX3_greatest_5 20 rfl rfl)
abbrev cX3_grows : ByteArray := prog_11_method_47_code
def yX3_grows : MethodName := ⟨RX3, "grows", "(I)V"⟩
def dkwX3_grows_5 : List UInt8 := [96, 79, 132, 2, 1, 167, 255, 135, 177]
abbrev dktX3_grows_5 : List UInt8 := dkwX3_grows_5 ++ []
def dkwX3_grows_4 : List UInt8 := [29, 92, 46, 21, 4, 153, 0, 18, 42, 180, 0, 7, 29, 46, 16, 20, 162, 0, 7, 4, 167, 0, 4, 3]
abbrev dktX3_grows_4 : List UInt8 := dkwX3_grows_4 ++ dktX3_grows_5
def dkwX3_grows_3 : List UInt8 := [184, 0, 43, 46, 42, 180, 0, 7, 29, 46, 164, 0, 7, 4, 167, 0, 4, 3, 54, 4, 42, 180, 0, 7]
abbrev dktX3_grows_3 : List UInt8 := dkwX3_grows_3 ++ dktX3_grows_4
def dkwX3_grows_2 : List UInt8 := [180, 0, 7, 29, 5, 96, 46, 2, 159, 0, 33, 42, 180, 0, 7, 27, 42, 180, 0, 7, 29, 5, 96, 46]
abbrev dktX3_grows_2 : List UInt8 := dkwX3_grows_2 ++ dktX3_grows_3
def dkwX3_grows_1 : List UInt8 := [16, 24, 112, 154, 0, 99, 27, 28, 184, 0, 40, 62, 42, 27, 28, 182, 0, 96, 153, 0, 45, 42]
abbrev dktX3_grows_1 : List UInt8 := dkwX3_grows_1 ++ dktX3_grows_2
def dkwX3_grows_0 : List UInt8 := [3, 61, 28, 42, 180, 0, 7, 27, 17, 0, 211, 96, 46, 162, 0, 113, 42, 180, 0, 7, 27, 3, 96, 46]
abbrev dktX3_grows_0 : List UInt8 := dkwX3_grows_0 ++ dktX3_grows_1
theorem dksX3_grows_0 : cX3_grows.data.toList.drop 0 = dktX3_grows_0 := by decide +kernel
theorem dksX3_grows_1 : cX3_grows.data.toList.drop 24 = dktX3_grows_1 := dk_seg dksX3_grows_0 24 rfl rfl
theorem dksX3_grows_2 : cX3_grows.data.toList.drop 46 = dktX3_grows_2 := dk_seg dksX3_grows_1 22 rfl rfl
theorem dksX3_grows_3 : cX3_grows.data.toList.drop 70 = dktX3_grows_3 := dk_seg dksX3_grows_2 24 rfl rfl
theorem dksX3_grows_4 : cX3_grows.data.toList.drop 94 = dktX3_grows_4 := dk_seg dksX3_grows_3 24 rfl rfl
theorem dksX3_grows_5 : cX3_grows.data.toList.drop 118 = dktX3_grows_5 := dk_seg dksX3_grows_4 24 rfl rfl
theorem dX3_grows_0 : decode cX3_grows 0 = .ok (.iconst 0, 1) := dk_3 (dk_at dksX3_grows_0 0 rfl rfl)
theorem dX3_grows_1 : decode cX3_grows 1 = .ok (.istore_n 2, 1) := dk_61 (dk_at dksX3_grows_0 1 rfl rfl)
theorem dX3_grows_2 : decode cX3_grows 2 = .ok (.iload_n 2, 1) := dk_28 (dk_at dksX3_grows_0 2 rfl rfl)
theorem dX3_grows_3 : decode cX3_grows 3 = .ok (.aload_n 0, 1) := dk_42 (dk_at dksX3_grows_0 3 rfl rfl)
theorem dX3_grows_4 : decode cX3_grows 4 = .ok (.getfield 7, 3) := dk_180 0 7 (dk_at dksX3_grows_0 4 rfl rfl)
theorem dX3_grows_7 : decode cX3_grows 7 = .ok (.iload_n 1, 1) := dk_27 (dk_at dksX3_grows_0 7 rfl rfl)
theorem dX3_grows_8 : decode cX3_grows 8 = .ok (.sipush 211, 3) := dk_17 0 211 (dk_at dksX3_grows_0 8 rfl rfl)
theorem dX3_grows_11 : decode cX3_grows 11 = .ok (.iadd, 1) := dk_96 (dk_at dksX3_grows_0 11 rfl rfl)
theorem dX3_grows_12 : decode cX3_grows 12 = .ok (.iaload, 1) := dk_46 (dk_at dksX3_grows_0 12 rfl rfl)
theorem dX3_grows_13 : decode cX3_grows 13 = .ok (.if_icmp .ge 113, 3) := dk_162 0 113 (dk_at dksX3_grows_0 13 rfl rfl)
theorem dX3_grows_16 : decode cX3_grows 16 = .ok (.aload_n 0, 1) := dk_42 (dk_at dksX3_grows_0 16 rfl rfl)
theorem dX3_grows_17 : decode cX3_grows 17 = .ok (.getfield 7, 3) := dk_180 0 7 (dk_at dksX3_grows_0 17 rfl rfl)
theorem dX3_grows_20 : decode cX3_grows 20 = .ok (.iload_n 1, 1) := dk_27 (dk_at dksX3_grows_0 20 rfl rfl)
theorem dX3_grows_21 : decode cX3_grows 21 = .ok (.iconst 0, 1) := dk_3 (dk_at dksX3_grows_0 21 rfl rfl)
theorem dX3_grows_22 : decode cX3_grows 22 = .ok (.iadd, 1) := dk_96 (dk_at dksX3_grows_0 22 rfl rfl)
theorem dX3_grows_23 : decode cX3_grows 23 = .ok (.iaload, 1) := dk_46 (dk_at dksX3_grows_0 23 rfl rfl)
theorem dX3_grows_24 : decode cX3_grows 24 = .ok (.bipush 24, 2) := dk_16 24 (dk_at dksX3_grows_1 0 rfl rfl)
theorem dX3_grows_26 : decode cX3_grows 26 = .ok (.irem, 1) := dk_112 (dk_at dksX3_grows_1 2 rfl rfl)
theorem dX3_grows_27 : decode cX3_grows 27 = .ok (.ifCond .ne 99, 3) := dk_154 0 99 (dk_at dksX3_grows_1 3 rfl rfl)
theorem dX3_grows_30 : decode cX3_grows 30 = .ok (.iload_n 1, 1) := dk_27 (dk_at dksX3_grows_1 6 rfl rfl)
theorem dX3_grows_31 : decode cX3_grows 31 = .ok (.iload_n 2, 1) := dk_28 (dk_at dksX3_grows_1 7 rfl rfl)
theorem dX3_grows_32 : decode cX3_grows 32 = .ok (.invokestatic 40, 3) := dk_184 0 40 (dk_at dksX3_grows_1 8 rfl rfl)
theorem dX3_grows_35 : decode cX3_grows 35 = .ok (.istore_n 3, 1) := dk_62 (dk_at dksX3_grows_1 11 rfl rfl)
theorem dX3_grows_36 : decode cX3_grows 36 = .ok (.aload_n 0, 1) := dk_42 (dk_at dksX3_grows_1 12 rfl rfl)
theorem dX3_grows_37 : decode cX3_grows 37 = .ok (.iload_n 1, 1) := dk_27 (dk_at dksX3_grows_1 13 rfl rfl)
theorem dX3_grows_38 : decode cX3_grows 38 = .ok (.iload_n 2, 1) := dk_28 (dk_at dksX3_grows_1 14 rfl rfl)
theorem dX3_grows_39 : decode cX3_grows 39 = .ok (.invokevirtual 96, 3) := dk_182 0 96 (dk_at dksX3_grows_1 15 rfl rfl)
theorem dX3_grows_42 : decode cX3_grows 42 = .ok (.ifCond .eq 45, 3) := dk_153 0 45 (dk_at dksX3_grows_1 18 rfl rfl)
theorem dX3_grows_45 : decode cX3_grows 45 = .ok (.aload_n 0, 1) := dk_42 (dk_at dksX3_grows_1 21 rfl rfl)
theorem dX3_grows_46 : decode cX3_grows 46 = .ok (.getfield 7, 3) := dk_180 0 7 (dk_at dksX3_grows_2 0 rfl rfl)
theorem dX3_grows_49 : decode cX3_grows 49 = .ok (.iload_n 3, 1) := dk_29 (dk_at dksX3_grows_2 3 rfl rfl)
theorem dX3_grows_50 : decode cX3_grows 50 = .ok (.iconst 2, 1) := dk_5 (dk_at dksX3_grows_2 4 rfl rfl)
theorem dX3_grows_51 : decode cX3_grows 51 = .ok (.iadd, 1) := dk_96 (dk_at dksX3_grows_2 5 rfl rfl)
theorem dX3_grows_52 : decode cX3_grows 52 = .ok (.iaload, 1) := dk_46 (dk_at dksX3_grows_2 6 rfl rfl)
theorem dX3_grows_53 : decode cX3_grows 53 = .ok (.iconst (-1), 1) := dk_2 (dk_at dksX3_grows_2 7 rfl rfl)
theorem dX3_grows_54 : decode cX3_grows 54 = .ok (.if_icmp .eq 33, 3) := dk_159 0 33 (dk_at dksX3_grows_2 8 rfl rfl)
theorem dX3_grows_57 : decode cX3_grows 57 = .ok (.aload_n 0, 1) := dk_42 (dk_at dksX3_grows_2 11 rfl rfl)
theorem dX3_grows_58 : decode cX3_grows 58 = .ok (.getfield 7, 3) := dk_180 0 7 (dk_at dksX3_grows_2 12 rfl rfl)
theorem dX3_grows_61 : decode cX3_grows 61 = .ok (.iload_n 1, 1) := dk_27 (dk_at dksX3_grows_2 15 rfl rfl)
theorem dX3_grows_62 : decode cX3_grows 62 = .ok (.aload_n 0, 1) := dk_42 (dk_at dksX3_grows_2 16 rfl rfl)
theorem dX3_grows_63 : decode cX3_grows 63 = .ok (.getfield 7, 3) := dk_180 0 7 (dk_at dksX3_grows_2 17 rfl rfl)
theorem dX3_grows_66 : decode cX3_grows 66 = .ok (.iload_n 3, 1) := dk_29 (dk_at dksX3_grows_2 20 rfl rfl)
theorem dX3_grows_67 : decode cX3_grows 67 = .ok (.iconst 2, 1) := dk_5 (dk_at dksX3_grows_2 21 rfl rfl)
theorem dX3_grows_68 : decode cX3_grows 68 = .ok (.iadd, 1) := dk_96 (dk_at dksX3_grows_2 22 rfl rfl)
theorem dX3_grows_69 : decode cX3_grows 69 = .ok (.iaload, 1) := dk_46 (dk_at dksX3_grows_2 23 rfl rfl)
theorem dX3_grows_70 : decode cX3_grows 70 = .ok (.invokestatic 43, 3) := dk_184 0 43 (dk_at dksX3_grows_3 0 rfl rfl)
theorem dX3_grows_73 : decode cX3_grows 73 = .ok (.iaload, 1) := dk_46 (dk_at dksX3_grows_3 3 rfl rfl)
theorem dX3_grows_74 : decode cX3_grows 74 = .ok (.aload_n 0, 1) := dk_42 (dk_at dksX3_grows_3 4 rfl rfl)
theorem dX3_grows_75 : decode cX3_grows 75 = .ok (.getfield 7, 3) := dk_180 0 7 (dk_at dksX3_grows_3 5 rfl rfl)
theorem dX3_grows_78 : decode cX3_grows 78 = .ok (.iload_n 3, 1) := dk_29 (dk_at dksX3_grows_3 8 rfl rfl)
theorem dX3_grows_79 : decode cX3_grows 79 = .ok (.iaload, 1) := dk_46 (dk_at dksX3_grows_3 9 rfl rfl)
theorem dX3_grows_80 : decode cX3_grows 80 = .ok (.if_icmp .le 7, 3) := dk_164 0 7 (dk_at dksX3_grows_3 10 rfl rfl)
theorem dX3_grows_83 : decode cX3_grows 83 = .ok (.iconst 1, 1) := dk_4 (dk_at dksX3_grows_3 13 rfl rfl)
theorem dX3_grows_84 : decode cX3_grows 84 = .ok (.goto 4, 3) := dk_167 0 4 (dk_at dksX3_grows_3 14 rfl rfl)
theorem dX3_grows_87 : decode cX3_grows 87 = .ok (.iconst 0, 1) := dk_3 (dk_at dksX3_grows_3 17 rfl rfl)
theorem dX3_grows_88 : decode cX3_grows 88 = .ok (.istore 4, 2) := dk_54 4 (dk_at dksX3_grows_3 18 rfl rfl)
theorem dX3_grows_90 : decode cX3_grows 90 = .ok (.aload_n 0, 1) := dk_42 (dk_at dksX3_grows_3 20 rfl rfl)
theorem dX3_grows_91 : decode cX3_grows 91 = .ok (.getfield 7, 3) := dk_180 0 7 (dk_at dksX3_grows_3 21 rfl rfl)
theorem dX3_grows_94 : decode cX3_grows 94 = .ok (.iload_n 3, 1) := dk_29 (dk_at dksX3_grows_4 0 rfl rfl)
theorem dX3_grows_95 : decode cX3_grows 95 = .ok (.dup2, 1) := dk_92 (dk_at dksX3_grows_4 1 rfl rfl)
theorem dX3_grows_96 : decode cX3_grows 96 = .ok (.iaload, 1) := dk_46 (dk_at dksX3_grows_4 2 rfl rfl)
theorem dX3_grows_97 : decode cX3_grows 97 = .ok (.iload 4, 2) := dk_21 4 (dk_at dksX3_grows_4 3 rfl rfl)
theorem dX3_grows_99 : decode cX3_grows 99 = .ok (.ifCond .eq 18, 3) := dk_153 0 18 (dk_at dksX3_grows_4 5 rfl rfl)
theorem dX3_grows_102 : decode cX3_grows 102 = .ok (.aload_n 0, 1) := dk_42 (dk_at dksX3_grows_4 8 rfl rfl)
theorem dX3_grows_103 : decode cX3_grows 103 = .ok (.getfield 7, 3) := dk_180 0 7 (dk_at dksX3_grows_4 9 rfl rfl)
theorem dX3_grows_106 : decode cX3_grows 106 = .ok (.iload_n 3, 1) := dk_29 (dk_at dksX3_grows_4 12 rfl rfl)
theorem dX3_grows_107 : decode cX3_grows 107 = .ok (.iaload, 1) := dk_46 (dk_at dksX3_grows_4 13 rfl rfl)
theorem dX3_grows_108 : decode cX3_grows 108 = .ok (.bipush 20, 2) := dk_16 20 (dk_at dksX3_grows_4 14 rfl rfl)
theorem dX3_grows_110 : decode cX3_grows 110 = .ok (.if_icmp .ge 7, 3) := dk_162 0 7 (dk_at dksX3_grows_4 16 rfl rfl)
theorem dX3_grows_113 : decode cX3_grows 113 = .ok (.iconst 1, 1) := dk_4 (dk_at dksX3_grows_4 19 rfl rfl)
theorem dX3_grows_114 : decode cX3_grows 114 = .ok (.goto 4, 3) := dk_167 0 4 (dk_at dksX3_grows_4 20 rfl rfl)
theorem dX3_grows_117 : decode cX3_grows 117 = .ok (.iconst 0, 1) := dk_3 (dk_at dksX3_grows_4 23 rfl rfl)
theorem dX3_grows_118 : decode cX3_grows 118 = .ok (.iadd, 1) := dk_96 (dk_at dksX3_grows_5 0 rfl rfl)
theorem dX3_grows_119 : decode cX3_grows 119 = .ok (.iastore, 1) := dk_79 (dk_at dksX3_grows_5 1 rfl rfl)
theorem dX3_grows_120 : decode cX3_grows 120 = .ok (.iinc 2 1, 3) := dk_132 2 1 (dk_at dksX3_grows_5 2 rfl rfl)
theorem dX3_grows_123 : decode cX3_grows 123 = .ok (.goto (-121), 3) := dk_167 255 135 (dk_at dksX3_grows_5 5 rfl rfl)
theorem dX3_grows_126 : decode cX3_grows 126 = .ok (.return_, 1) := dk_177 (dk_at dksX3_grows_5 8 rfl rfl)
abbrev cX3_type : ByteArray := prog_11_method_51_code
def yX3_type : MethodName := ⟨RX3, "type", "(C)I"⟩
def dkwX3_type_1 : List UInt8 := [180, 0, 19, 42, 180, 0, 147, 27, 79, 42, 89, 180, 0, 147, 4, 96, 181, 0, 147, 42, 180, 0, 147, 172]
abbrev dktX3_type_1 : List UInt8 := dkwX3_type_1 ++ []
def dkwX3_type_0 : List UInt8 := [42, 42, 180, 0, 147, 16, 60, 160, 0, 7, 4, 167, 0, 4, 3, 182, 0, 54, 153, 0, 5, 3, 172, 42]
abbrev dktX3_type_0 : List UInt8 := dkwX3_type_0 ++ dktX3_type_1
theorem dksX3_type_0 : cX3_type.data.toList.drop 0 = dktX3_type_0 := by decide +kernel
theorem dksX3_type_1 : cX3_type.data.toList.drop 24 = dktX3_type_1 := dk_seg dksX3_type_0 24 rfl rfl
theorem dX3_type_0 : decode cX3_type 0 = .ok (.aload_n 0, 1) := dk_42 (dk_at dksX3_type_0 0 rfl rfl)
theorem dX3_type_1 : decode cX3_type 1 = .ok (.aload_n 0, 1) := dk_42 (dk_at dksX3_type_0 1 rfl rfl)
theorem dX3_type_2 : decode cX3_type 2 = .ok (.getfield 147, 3) := dk_180 0 147 (dk_at dksX3_type_0 2 rfl rfl)
theorem dX3_type_5 : decode cX3_type 5 = .ok (.bipush 60, 2) := dk_16 60 (dk_at dksX3_type_0 5 rfl rfl)
theorem dX3_type_7 : decode cX3_type 7 = .ok (.if_icmp .ne 7, 3) := dk_160 0 7 (dk_at dksX3_type_0 7 rfl rfl)
theorem dX3_type_10 : decode cX3_type 10 = .ok (.iconst 1, 1) := dk_4 (dk_at dksX3_type_0 10 rfl rfl)
theorem dX3_type_11 : decode cX3_type 11 = .ok (.goto 4, 3) := dk_167 0 4 (dk_at dksX3_type_0 11 rfl rfl)
theorem dX3_type_14 : decode cX3_type 14 = .ok (.iconst 0, 1) := dk_3 (dk_at dksX3_type_0 14 rfl rfl)
theorem dX3_type_15 : decode cX3_type 15 = .ok (.invokevirtual 54, 3) := dk_182 0 54 (dk_at dksX3_type_0 15 rfl rfl)
theorem dX3_type_18 : decode cX3_type 18 = .ok (.ifCond .eq 5, 3) := dk_153 0 5 (dk_at dksX3_type_0 18 rfl rfl)
theorem dX3_type_21 : decode cX3_type 21 = .ok (.iconst 0, 1) := dk_3 (dk_at dksX3_type_0 21 rfl rfl)
theorem dX3_type_22 : decode cX3_type 22 = .ok (.ireturn, 1) := dk_172 (dk_at dksX3_type_0 22 rfl rfl)
theorem dX3_type_23 : decode cX3_type 23 = .ok (.aload_n 0, 1) := dk_42 (dk_at dksX3_type_0 23 rfl rfl)
theorem dX3_type_24 : decode cX3_type 24 = .ok (.getfield 19, 3) := dk_180 0 19 (dk_at dksX3_type_1 0 rfl rfl)
theorem dX3_type_27 : decode cX3_type 27 = .ok (.aload_n 0, 1) := dk_42 (dk_at dksX3_type_1 3 rfl rfl)
theorem dX3_type_28 : decode cX3_type 28 = .ok (.getfield 147, 3) := dk_180 0 147 (dk_at dksX3_type_1 4 rfl rfl)
theorem dX3_type_31 : decode cX3_type 31 = .ok (.iload_n 1, 1) := dk_27 (dk_at dksX3_type_1 7 rfl rfl)
theorem dX3_type_32 : decode cX3_type 32 = .ok (.iastore, 1) := dk_79 (dk_at dksX3_type_1 8 rfl rfl)
theorem dX3_type_33 : decode cX3_type 33 = .ok (.aload_n 0, 1) := dk_42 (dk_at dksX3_type_1 9 rfl rfl)
theorem dX3_type_34 : decode cX3_type 34 = .ok (.dup, 1) := dk_89 (dk_at dksX3_type_1 10 rfl rfl)
theorem dX3_type_35 : decode cX3_type 35 = .ok (.getfield 147, 3) := dk_180 0 147 (dk_at dksX3_type_1 11 rfl rfl)
theorem dX3_type_38 : decode cX3_type 38 = .ok (.iconst 1, 1) := dk_4 (dk_at dksX3_type_1 14 rfl rfl)
theorem dX3_type_39 : decode cX3_type 39 = .ok (.iadd, 1) := dk_96 (dk_at dksX3_type_1 15 rfl rfl)
theorem dX3_type_40 : decode cX3_type 40 = .ok (.putfield 147, 3) := dk_181 0 147 (dk_at dksX3_type_1 16 rfl rfl)
theorem dX3_type_43 : decode cX3_type 43 = .ok (.aload_n 0, 1) := dk_42 (dk_at dksX3_type_1 19 rfl rfl)
theorem dX3_type_44 : decode cX3_type 44 = .ok (.getfield 147, 3) := dk_180 0 147 (dk_at dksX3_type_1 20 rfl rfl)
theorem dX3_type_47 : decode cX3_type 47 = .ok (.ireturn, 1) := dk_172 (dk_at dksX3_type_1 23 rfl rfl)
abbrev cX3_clearNote : ByteArray := prog_11_method_52_code
def yX3_clearNote : MethodName := ⟨RX3, "clearNote", "()I"⟩
def dkwX3_clearNote_0 : List UInt8 := [42, 3, 181, 0, 22, 42, 180, 0, 147, 60, 42, 3, 181, 0, 147, 27, 172]
abbrev dktX3_clearNote_0 : List UInt8 := dkwX3_clearNote_0 ++ []
theorem dksX3_clearNote_0 : cX3_clearNote.data.toList.drop 0 = dktX3_clearNote_0 := by decide +kernel
theorem dX3_clearNote_0 : decode cX3_clearNote 0 = .ok (.aload_n 0, 1) := dk_42 (dk_at dksX3_clearNote_0 0 rfl rfl)
theorem dX3_clearNote_1 : decode cX3_clearNote 1 = .ok (.iconst 0, 1) := dk_3 (dk_at dksX3_clearNote_0 1 rfl rfl)
theorem dX3_clearNote_2 : decode cX3_clearNote 2 = .ok (.putfield 22, 3) := dk_181 0 22 (dk_at dksX3_clearNote_0 2 rfl rfl)
theorem dX3_clearNote_5 : decode cX3_clearNote 5 = .ok (.aload_n 0, 1) := dk_42 (dk_at dksX3_clearNote_0 5 rfl rfl)
theorem dX3_clearNote_6 : decode cX3_clearNote 6 = .ok (.getfield 147, 3) := dk_180 0 147 (dk_at dksX3_clearNote_0 6 rfl rfl)
theorem dX3_clearNote_9 : decode cX3_clearNote 9 = .ok (.istore_n 1, 1) := dk_60 (dk_at dksX3_clearNote_0 9 rfl rfl)
theorem dX3_clearNote_10 : decode cX3_clearNote 10 = .ok (.aload_n 0, 1) := dk_42 (dk_at dksX3_clearNote_0 10 rfl rfl)
theorem dX3_clearNote_11 : decode cX3_clearNote 11 = .ok (.iconst 0, 1) := dk_3 (dk_at dksX3_clearNote_0 11 rfl rfl)
theorem dX3_clearNote_12 : decode cX3_clearNote 12 = .ok (.putfield 147, 3) := dk_181 0 147 (dk_at dksX3_clearNote_0 12 rfl rfl)
theorem dX3_clearNote_15 : decode cX3_clearNote 15 = .ok (.iload_n 1, 1) := dk_27 (dk_at dksX3_clearNote_0 15 rfl rfl)
theorem dX3_clearNote_16 : decode cX3_clearNote 16 = .ok (.ireturn, 1) := dk_172 (dk_at dksX3_clearNote_0 16 rfl rfl)
abbrev cX3_noteError : ByteArray := prog_11_method_59_code
def yX3_noteError : MethodName := ⟨RX3, "noteError", "()I"⟩
def dkwX3_noteError_0 : List UInt8 := [42, 3, 181, 0, 22, 42, 182, 0, 178, 172]
abbrev dktX3_noteError_0 : List UInt8 := dkwX3_noteError_0 ++ []
theorem dksX3_noteError_0 : cX3_noteError.data.toList.drop 0 = dktX3_noteError_0 := by decide +kernel
theorem dX3_noteError_0 : decode cX3_noteError 0 = .ok (.aload_n 0, 1) := dk_42 (dk_at dksX3_noteError_0 0 rfl rfl)
theorem dX3_noteError_1 : decode cX3_noteError 1 = .ok (.iconst 0, 1) := dk_3 (dk_at dksX3_noteError_0 1 rfl rfl)
theorem dX3_noteError_2 : decode cX3_noteError 2 = .ok (.putfield 22, 3) := dk_181 0 22 (dk_at dksX3_noteError_0 2 rfl rfl)
theorem dX3_noteError_5 : decode cX3_noteError 5 = .ok (.aload_n 0, 1) := dk_42 (dk_at dksX3_noteError_0 5 rfl rfl)
theorem dX3_noteError_6 : decode cX3_noteError 6 = .ok (.invokevirtual 178, 3) := dk_182 0 178 (dk_at dksX3_noteError_0 6 rfl rfl)
theorem dX3_noteError_9 : decode cX3_noteError 9 = .ok (.ireturn, 1) := dk_172 (dk_at dksX3_noteError_0 9 rfl rfl)
abbrev cX3_error : ByteArray := prog_11_method_58_code
def yX3_error : MethodName := ⟨RX3, "error", "()I"⟩
def dkwX3_error_1 : List UInt8 := [172, 42, 16, 59, 182, 0, 169, 154, 255, 230, 42, 180, 0, 150, 172, 42, 180, 0, 150, 172]
abbrev dktX3_error_1 : List UInt8 := dkwX3_error_1 ++ []
def dkwX3_error_0 : List UInt8 := [42, 3, 181, 0, 150, 42, 182, 0, 175, 153, 0, 30, 42, 180, 0, 150, 42, 180, 0, 147, 160, 0, 5, 2]
abbrev dktX3_error_0 : List UInt8 := dkwX3_error_0 ++ dktX3_error_1
theorem dksX3_error_0 : cX3_error.data.toList.drop 0 = dktX3_error_0 := by decide +kernel
theorem dksX3_error_1 : cX3_error.data.toList.drop 24 = dktX3_error_1 := dk_seg dksX3_error_0 24 rfl rfl
theorem dX3_error_0 : decode cX3_error 0 = .ok (.aload_n 0, 1) := dk_42 (dk_at dksX3_error_0 0 rfl rfl)
theorem dX3_error_1 : decode cX3_error 1 = .ok (.iconst 0, 1) := dk_3 (dk_at dksX3_error_0 1 rfl rfl)
theorem dX3_error_2 : decode cX3_error 2 = .ok (.putfield 150, 3) := dk_181 0 150 (dk_at dksX3_error_0 2 rfl rfl)
theorem dX3_error_5 : decode cX3_error 5 = .ok (.aload_n 0, 1) := dk_42 (dk_at dksX3_error_0 5 rfl rfl)
theorem dX3_error_6 : decode cX3_error 6 = .ok (.invokevirtual 175, 3) := dk_182 0 175 (dk_at dksX3_error_0 6 rfl rfl)
theorem dX3_error_9 : decode cX3_error 9 = .ok (.ifCond .eq 30, 3) := dk_153 0 30 (dk_at dksX3_error_0 9 rfl rfl)
theorem dX3_error_12 : decode cX3_error 12 = .ok (.aload_n 0, 1) := dk_42 (dk_at dksX3_error_0 12 rfl rfl)
theorem dX3_error_13 : decode cX3_error 13 = .ok (.getfield 150, 3) := dk_180 0 150 (dk_at dksX3_error_0 13 rfl rfl)
theorem dX3_error_16 : decode cX3_error 16 = .ok (.aload_n 0, 1) := dk_42 (dk_at dksX3_error_0 16 rfl rfl)
theorem dX3_error_17 : decode cX3_error 17 = .ok (.getfield 147, 3) := dk_180 0 147 (dk_at dksX3_error_0 17 rfl rfl)
theorem dX3_error_20 : decode cX3_error 20 = .ok (.if_icmp .ne 5, 3) := dk_160 0 5 (dk_at dksX3_error_0 20 rfl rfl)
theorem dX3_error_23 : decode cX3_error 23 = .ok (.iconst (-1), 1) := dk_2 (dk_at dksX3_error_0 23 rfl rfl)
theorem dX3_error_24 : decode cX3_error 24 = .ok (.ireturn, 1) := dk_172 (dk_at dksX3_error_1 0 rfl rfl)
theorem dX3_error_25 : decode cX3_error 25 = .ok (.aload_n 0, 1) := dk_42 (dk_at dksX3_error_1 1 rfl rfl)
theorem dX3_error_26 : decode cX3_error 26 = .ok (.bipush 59, 2) := dk_16 59 (dk_at dksX3_error_1 2 rfl rfl)
theorem dX3_error_28 : decode cX3_error 28 = .ok (.invokevirtual 169, 3) := dk_182 0 169 (dk_at dksX3_error_1 4 rfl rfl)
theorem dX3_error_31 : decode cX3_error 31 = .ok (.ifCond .ne (-26), 3) := dk_154 255 230 (dk_at dksX3_error_1 7 rfl rfl)
theorem dX3_error_34 : decode cX3_error 34 = .ok (.aload_n 0, 1) := dk_42 (dk_at dksX3_error_1 10 rfl rfl)
theorem dX3_error_35 : decode cX3_error 35 = .ok (.getfield 150, 3) := dk_180 0 150 (dk_at dksX3_error_1 11 rfl rfl)
theorem dX3_error_38 : decode cX3_error 38 = .ok (.ireturn, 1) := dk_172 (dk_at dksX3_error_1 14 rfl rfl)
theorem dX3_error_39 : decode cX3_error 39 = .ok (.aload_n 0, 1) := dk_42 (dk_at dksX3_error_1 15 rfl rfl)
theorem dX3_error_40 : decode cX3_error 40 = .ok (.getfield 150, 3) := dk_180 0 150 (dk_at dksX3_error_1 16 rfl rfl)
theorem dX3_error_43 : decode cX3_error 43 = .ok (.ireturn, 1) := dk_172 (dk_at dksX3_error_1 19 rfl rfl)
abbrev cX3_isOrder : ByteArray := prog_11_method_57_code
def yX3_isOrder : MethodName := ⟨RX3, "isOrder", "()Z"⟩
def dkwX3_isOrder_8 : List UInt8 := [182, 0, 172, 172, 42, 89, 180, 0, 150, 4, 100, 181, 0, 150, 3, 172]
abbrev dktX3_isOrder_8 : List UInt8 := dkwX3_isOrder_8 ++ []
def dkwX3_isOrder_7 : List UInt8 := [153, 0, 18, 42, 16, 31, 16, 60, 182, 0, 172, 153, 0, 7, 4, 167, 0, 4, 3, 172, 42, 4, 16, 99]
abbrev dktX3_isOrder_7 : List UInt8 := dkwX3_isOrder_7 ++ dktX3_isOrder_8
def dkwX3_isOrder_6 : List UInt8 := [16, 30, 182, 0, 172, 60, 42, 42, 180, 0, 160, 181, 0, 153, 27, 153, 0, 27, 42, 16, 45, 182, 0, 169]
abbrev dktX3_isOrder_6 : List UInt8 := dkwX3_isOrder_6 ++ dktX3_isOrder_7
def dkwX3_isOrder_5 : List UInt8 := [182, 0, 169, 153, 0, 17, 42, 3, 16, 60, 182, 0, 172, 153, 0, 7, 4, 167, 0, 4, 3, 172, 42, 3]
abbrev dktX3_isOrder_5 : List UInt8 := dkwX3_isOrder_5 ++ dktX3_isOrder_6
def dkwX3_isOrder_4 : List UInt8 := [16, 20, 182, 0, 172, 153, 0, 7, 4, 167, 0, 4, 3, 172, 42, 182, 0, 166, 153, 0, 26, 42, 16, 64]
abbrev dktX3_isOrder_4 : List UInt8 := dkwX3_isOrder_4 ++ dktX3_isOrder_5
def dkwX3_isOrder_3 : List UInt8 := [42, 182, 0, 166, 172, 42, 182, 0, 166, 153, 0, 26, 42, 16, 64, 182, 0, 169, 153, 0, 17, 42, 4]
abbrev dktX3_isOrder_3 : List UInt8 := dkwX3_isOrder_3 ++ dktX3_isOrder_4
def dkwX3_isOrder_2 : List UInt8 := [171, 0, 0, 0, 0, 181, 0, 0, 0, 6, 0, 0, 0, 99, 0, 0, 0, 63, 0, 0, 0, 104, 0, 0, 0, 95, 0, 0, 0, 108, 0, 0, 0, 58, 0, 0, 0, 115, 0, 0, 0, 63, 0, 0, 0, 116, 0, 0, 0, 127, 0, 0, 0, 119, 0, 0, 0, 173]
abbrev dktX3_isOrder_2 : List UInt8 := dkwX3_isOrder_2 ++ dktX3_isOrder_3
def dkwX3_isOrder_1 : List UInt8 := [3, 181, 0, 163, 42, 89, 180, 0, 150, 4, 96, 181, 0, 150, 42, 180, 0, 163]
abbrev dktX3_isOrder_1 : List UInt8 := dkwX3_isOrder_1 ++ dktX3_isOrder_2
def dkwX3_isOrder_0 : List UInt8 := [42, 42, 180, 0, 150, 42, 180, 0, 147, 162, 0, 15, 42, 180, 0, 19, 42, 180, 0, 150, 46, 167, 0, 4]
abbrev dktX3_isOrder_0 : List UInt8 := dkwX3_isOrder_0 ++ dktX3_isOrder_1
theorem dksX3_isOrder_0 : cX3_isOrder.data.toList.drop 0 = dktX3_isOrder_0 := by decide +kernel
theorem dksX3_isOrder_1 : cX3_isOrder.data.toList.drop 24 = dktX3_isOrder_1 := dk_seg dksX3_isOrder_0 24 rfl rfl
theorem dksX3_isOrder_2 : cX3_isOrder.data.toList.drop 42 = dktX3_isOrder_2 := dk_seg dksX3_isOrder_1 18 rfl rfl
theorem dksX3_isOrder_3 : cX3_isOrder.data.toList.drop 100 = dktX3_isOrder_3 := dk_seg dksX3_isOrder_2 58 rfl rfl
theorem dksX3_isOrder_4 : cX3_isOrder.data.toList.drop 123 = dktX3_isOrder_4 := dk_seg dksX3_isOrder_3 23 rfl rfl
theorem dksX3_isOrder_5 : cX3_isOrder.data.toList.drop 147 = dktX3_isOrder_5 := dk_seg dksX3_isOrder_4 24 rfl rfl
theorem dksX3_isOrder_6 : cX3_isOrder.data.toList.drop 171 = dktX3_isOrder_6 := dk_seg dksX3_isOrder_5 24 rfl rfl
theorem dksX3_isOrder_7 : cX3_isOrder.data.toList.drop 195 = dktX3_isOrder_7 := dk_seg dksX3_isOrder_6 24 rfl rfl
theorem dksX3_isOrder_8 : cX3_isOrder.data.toList.drop 219 = dktX3_isOrder_8 := dk_seg dksX3_isOrder_7 24 rfl rfl
theorem dX3_isOrder_0 : decode cX3_isOrder 0 = .ok (.aload_n 0, 1) := dk_42 (dk_at dksX3_isOrder_0 0 rfl rfl)
theorem dX3_isOrder_1 : decode cX3_isOrder 1 = .ok (.aload_n 0, 1) := dk_42 (dk_at dksX3_isOrder_0 1 rfl rfl)
theorem dX3_isOrder_2 : decode cX3_isOrder 2 = .ok (.getfield 150, 3) := dk_180 0 150 (dk_at dksX3_isOrder_0 2 rfl rfl)
theorem dX3_isOrder_5 : decode cX3_isOrder 5 = .ok (.aload_n 0, 1) := dk_42 (dk_at dksX3_isOrder_0 5 rfl rfl)
theorem dX3_isOrder_6 : decode cX3_isOrder 6 = .ok (.getfield 147, 3) := dk_180 0 147 (dk_at dksX3_isOrder_0 6 rfl rfl)
theorem dX3_isOrder_9 : decode cX3_isOrder 9 = .ok (.if_icmp .ge 15, 3) := dk_162 0 15 (dk_at dksX3_isOrder_0 9 rfl rfl)
theorem dX3_isOrder_12 : decode cX3_isOrder 12 = .ok (.aload_n 0, 1) := dk_42 (dk_at dksX3_isOrder_0 12 rfl rfl)
theorem dX3_isOrder_13 : decode cX3_isOrder 13 = .ok (.getfield 19, 3) := dk_180 0 19 (dk_at dksX3_isOrder_0 13 rfl rfl)
theorem dX3_isOrder_16 : decode cX3_isOrder 16 = .ok (.aload_n 0, 1) := dk_42 (dk_at dksX3_isOrder_0 16 rfl rfl)
theorem dX3_isOrder_17 : decode cX3_isOrder 17 = .ok (.getfield 150, 3) := dk_180 0 150 (dk_at dksX3_isOrder_0 17 rfl rfl)
theorem dX3_isOrder_20 : decode cX3_isOrder 20 = .ok (.iaload, 1) := dk_46 (dk_at dksX3_isOrder_0 20 rfl rfl)
theorem dX3_isOrder_21 : decode cX3_isOrder 21 = .ok (.goto 4, 3) := dk_167 0 4 (dk_at dksX3_isOrder_0 21 rfl rfl)
theorem dX3_isOrder_24 : decode cX3_isOrder 24 = .ok (.iconst 0, 1) := dk_3 (dk_at dksX3_isOrder_1 0 rfl rfl)
theorem dX3_isOrder_25 : decode cX3_isOrder 25 = .ok (.putfield 163, 3) := dk_181 0 163 (dk_at dksX3_isOrder_1 1 rfl rfl)
theorem dX3_isOrder_28 : decode cX3_isOrder 28 = .ok (.aload_n 0, 1) := dk_42 (dk_at dksX3_isOrder_1 4 rfl rfl)
theorem dX3_isOrder_29 : decode cX3_isOrder 29 = .ok (.dup, 1) := dk_89 (dk_at dksX3_isOrder_1 5 rfl rfl)
theorem dX3_isOrder_30 : decode cX3_isOrder 30 = .ok (.getfield 150, 3) := dk_180 0 150 (dk_at dksX3_isOrder_1 6 rfl rfl)
theorem dX3_isOrder_33 : decode cX3_isOrder 33 = .ok (.iconst 1, 1) := dk_4 (dk_at dksX3_isOrder_1 9 rfl rfl)
theorem dX3_isOrder_34 : decode cX3_isOrder 34 = .ok (.iadd, 1) := dk_96 (dk_at dksX3_isOrder_1 10 rfl rfl)
theorem dX3_isOrder_35 : decode cX3_isOrder 35 = .ok (.putfield 150, 3) := dk_181 0 150 (dk_at dksX3_isOrder_1 11 rfl rfl)
theorem dX3_isOrder_38 : decode cX3_isOrder 38 = .ok (.aload_n 0, 1) := dk_42 (dk_at dksX3_isOrder_1 14 rfl rfl)
theorem dX3_isOrder_39 : decode cX3_isOrder 39 = .ok (.getfield 163, 3) := dk_180 0 163 (dk_at dksX3_isOrder_1 15 rfl rfl)
theorem dX3_isOrder_42 : decode cX3_isOrder 42 = .ok (.lookupswitch 181 #[(99, 63), (104, 95), (108, 58), (115, 63), (116, 127), (119, 173)], 58) := by decide +kernel
theorem dX3_isOrder_100 : decode cX3_isOrder 100 = .ok (.aload_n 0, 1) := dk_42 (dk_at dksX3_isOrder_3 0 rfl rfl)
theorem dX3_isOrder_101 : decode cX3_isOrder 101 = .ok (.invokevirtual 166, 3) := dk_182 0 166 (dk_at dksX3_isOrder_3 1 rfl rfl)
theorem dX3_isOrder_104 : decode cX3_isOrder 104 = .ok (.ireturn, 1) := dk_172 (dk_at dksX3_isOrder_3 4 rfl rfl)
theorem dX3_isOrder_105 : decode cX3_isOrder 105 = .ok (.aload_n 0, 1) := dk_42 (dk_at dksX3_isOrder_3 5 rfl rfl)
theorem dX3_isOrder_106 : decode cX3_isOrder 106 = .ok (.invokevirtual 166, 3) := dk_182 0 166 (dk_at dksX3_isOrder_3 6 rfl rfl)
theorem dX3_isOrder_109 : decode cX3_isOrder 109 = .ok (.ifCond .eq 26, 3) := dk_153 0 26 (dk_at dksX3_isOrder_3 9 rfl rfl)
theorem dX3_isOrder_112 : decode cX3_isOrder 112 = .ok (.aload_n 0, 1) := dk_42 (dk_at dksX3_isOrder_3 12 rfl rfl)
theorem dX3_isOrder_113 : decode cX3_isOrder 113 = .ok (.bipush 64, 2) := dk_16 64 (dk_at dksX3_isOrder_3 13 rfl rfl)
theorem dX3_isOrder_115 : decode cX3_isOrder 115 = .ok (.invokevirtual 169, 3) := dk_182 0 169 (dk_at dksX3_isOrder_3 15 rfl rfl)
theorem dX3_isOrder_118 : decode cX3_isOrder 118 = .ok (.ifCond .eq 17, 3) := dk_153 0 17 (dk_at dksX3_isOrder_3 18 rfl rfl)
theorem dX3_isOrder_121 : decode cX3_isOrder 121 = .ok (.aload_n 0, 1) := dk_42 (dk_at dksX3_isOrder_3 21 rfl rfl)
theorem dX3_isOrder_122 : decode cX3_isOrder 122 = .ok (.iconst 1, 1) := dk_4 (dk_at dksX3_isOrder_3 22 rfl rfl)
theorem dX3_isOrder_123 : decode cX3_isOrder 123 = .ok (.bipush 20, 2) := dk_16 20 (dk_at dksX3_isOrder_4 0 rfl rfl)
theorem dX3_isOrder_125 : decode cX3_isOrder 125 = .ok (.invokevirtual 172, 3) := dk_182 0 172 (dk_at dksX3_isOrder_4 2 rfl rfl)
theorem dX3_isOrder_128 : decode cX3_isOrder 128 = .ok (.ifCond .eq 7, 3) := dk_153 0 7 (dk_at dksX3_isOrder_4 5 rfl rfl)
theorem dX3_isOrder_131 : decode cX3_isOrder 131 = .ok (.iconst 1, 1) := dk_4 (dk_at dksX3_isOrder_4 8 rfl rfl)
theorem dX3_isOrder_132 : decode cX3_isOrder 132 = .ok (.goto 4, 3) := dk_167 0 4 (dk_at dksX3_isOrder_4 9 rfl rfl)
theorem dX3_isOrder_135 : decode cX3_isOrder 135 = .ok (.iconst 0, 1) := dk_3 (dk_at dksX3_isOrder_4 12 rfl rfl)
theorem dX3_isOrder_136 : decode cX3_isOrder 136 = .ok (.ireturn, 1) := dk_172 (dk_at dksX3_isOrder_4 13 rfl rfl)
theorem dX3_isOrder_137 : decode cX3_isOrder 137 = .ok (.aload_n 0, 1) := dk_42 (dk_at dksX3_isOrder_4 14 rfl rfl)
theorem dX3_isOrder_138 : decode cX3_isOrder 138 = .ok (.invokevirtual 166, 3) := dk_182 0 166 (dk_at dksX3_isOrder_4 15 rfl rfl)
theorem dX3_isOrder_141 : decode cX3_isOrder 141 = .ok (.ifCond .eq 26, 3) := dk_153 0 26 (dk_at dksX3_isOrder_4 18 rfl rfl)
theorem dX3_isOrder_144 : decode cX3_isOrder 144 = .ok (.aload_n 0, 1) := dk_42 (dk_at dksX3_isOrder_4 21 rfl rfl)
theorem dX3_isOrder_145 : decode cX3_isOrder 145 = .ok (.bipush 64, 2) := dk_16 64 (dk_at dksX3_isOrder_4 22 rfl rfl)
theorem dX3_isOrder_147 : decode cX3_isOrder 147 = .ok (.invokevirtual 169, 3) := dk_182 0 169 (dk_at dksX3_isOrder_5 0 rfl rfl)
theorem dX3_isOrder_150 : decode cX3_isOrder 150 = .ok (.ifCond .eq 17, 3) := dk_153 0 17 (dk_at dksX3_isOrder_5 3 rfl rfl)
theorem dX3_isOrder_153 : decode cX3_isOrder 153 = .ok (.aload_n 0, 1) := dk_42 (dk_at dksX3_isOrder_5 6 rfl rfl)
theorem dX3_isOrder_154 : decode cX3_isOrder 154 = .ok (.iconst 0, 1) := dk_3 (dk_at dksX3_isOrder_5 7 rfl rfl)
theorem dX3_isOrder_155 : decode cX3_isOrder 155 = .ok (.bipush 60, 2) := dk_16 60 (dk_at dksX3_isOrder_5 8 rfl rfl)
theorem dX3_isOrder_157 : decode cX3_isOrder 157 = .ok (.invokevirtual 172, 3) := dk_182 0 172 (dk_at dksX3_isOrder_5 10 rfl rfl)
theorem dX3_isOrder_160 : decode cX3_isOrder 160 = .ok (.ifCond .eq 7, 3) := dk_153 0 7 (dk_at dksX3_isOrder_5 13 rfl rfl)
theorem dX3_isOrder_163 : decode cX3_isOrder 163 = .ok (.iconst 1, 1) := dk_4 (dk_at dksX3_isOrder_5 16 rfl rfl)
theorem dX3_isOrder_164 : decode cX3_isOrder 164 = .ok (.goto 4, 3) := dk_167 0 4 (dk_at dksX3_isOrder_5 17 rfl rfl)
theorem dX3_isOrder_167 : decode cX3_isOrder 167 = .ok (.iconst 0, 1) := dk_3 (dk_at dksX3_isOrder_5 20 rfl rfl)
theorem dX3_isOrder_168 : decode cX3_isOrder 168 = .ok (.ireturn, 1) := dk_172 (dk_at dksX3_isOrder_5 21 rfl rfl)
theorem dX3_isOrder_169 : decode cX3_isOrder 169 = .ok (.aload_n 0, 1) := dk_42 (dk_at dksX3_isOrder_5 22 rfl rfl)
theorem dX3_isOrder_170 : decode cX3_isOrder 170 = .ok (.iconst 0, 1) := dk_3 (dk_at dksX3_isOrder_5 23 rfl rfl)
theorem dX3_isOrder_171 : decode cX3_isOrder 171 = .ok (.bipush 30, 2) := dk_16 30 (dk_at dksX3_isOrder_6 0 rfl rfl)
theorem dX3_isOrder_173 : decode cX3_isOrder 173 = .ok (.invokevirtual 172, 3) := dk_182 0 172 (dk_at dksX3_isOrder_6 2 rfl rfl)
theorem dX3_isOrder_176 : decode cX3_isOrder 176 = .ok (.istore_n 1, 1) := dk_60 (dk_at dksX3_isOrder_6 5 rfl rfl)
theorem dX3_isOrder_177 : decode cX3_isOrder 177 = .ok (.aload_n 0, 1) := dk_42 (dk_at dksX3_isOrder_6 6 rfl rfl)
theorem dX3_isOrder_178 : decode cX3_isOrder 178 = .ok (.aload_n 0, 1) := dk_42 (dk_at dksX3_isOrder_6 7 rfl rfl)
theorem dX3_isOrder_179 : decode cX3_isOrder 179 = .ok (.getfield 160, 3) := dk_180 0 160 (dk_at dksX3_isOrder_6 8 rfl rfl)
theorem dX3_isOrder_182 : decode cX3_isOrder 182 = .ok (.putfield 153, 3) := dk_181 0 153 (dk_at dksX3_isOrder_6 11 rfl rfl)
theorem dX3_isOrder_185 : decode cX3_isOrder 185 = .ok (.iload_n 1, 1) := dk_27 (dk_at dksX3_isOrder_6 14 rfl rfl)
theorem dX3_isOrder_186 : decode cX3_isOrder 186 = .ok (.ifCond .eq 27, 3) := dk_153 0 27 (dk_at dksX3_isOrder_6 15 rfl rfl)
theorem dX3_isOrder_189 : decode cX3_isOrder 189 = .ok (.aload_n 0, 1) := dk_42 (dk_at dksX3_isOrder_6 18 rfl rfl)
theorem dX3_isOrder_190 : decode cX3_isOrder 190 = .ok (.bipush 45, 2) := dk_16 45 (dk_at dksX3_isOrder_6 19 rfl rfl)
theorem dX3_isOrder_192 : decode cX3_isOrder 192 = .ok (.invokevirtual 169, 3) := dk_182 0 169 (dk_at dksX3_isOrder_6 21 rfl rfl)
theorem dX3_isOrder_195 : decode cX3_isOrder 195 = .ok (.ifCond .eq 18, 3) := dk_153 0 18 (dk_at dksX3_isOrder_7 0 rfl rfl)
theorem dX3_isOrder_198 : decode cX3_isOrder 198 = .ok (.aload_n 0, 1) := dk_42 (dk_at dksX3_isOrder_7 3 rfl rfl)
theorem dX3_isOrder_199 : decode cX3_isOrder 199 = .ok (.bipush 31, 2) := dk_16 31 (dk_at dksX3_isOrder_7 4 rfl rfl)
theorem dX3_isOrder_201 : decode cX3_isOrder 201 = .ok (.bipush 60, 2) := dk_16 60 (dk_at dksX3_isOrder_7 6 rfl rfl)
theorem dX3_isOrder_203 : decode cX3_isOrder 203 = .ok (.invokevirtual 172, 3) := dk_182 0 172 (dk_at dksX3_isOrder_7 8 rfl rfl)
theorem dX3_isOrder_206 : decode cX3_isOrder 206 = .ok (.ifCond .eq 7, 3) := dk_153 0 7 (dk_at dksX3_isOrder_7 11 rfl rfl)
theorem dX3_isOrder_209 : decode cX3_isOrder 209 = .ok (.iconst 1, 1) := dk_4 (dk_at dksX3_isOrder_7 14 rfl rfl)
theorem dX3_isOrder_210 : decode cX3_isOrder 210 = .ok (.goto 4, 3) := dk_167 0 4 (dk_at dksX3_isOrder_7 15 rfl rfl)
theorem dX3_isOrder_213 : decode cX3_isOrder 213 = .ok (.iconst 0, 1) := dk_3 (dk_at dksX3_isOrder_7 18 rfl rfl)
theorem dX3_isOrder_214 : decode cX3_isOrder 214 = .ok (.ireturn, 1) := dk_172 (dk_at dksX3_isOrder_7 19 rfl rfl)
theorem dX3_isOrder_215 : decode cX3_isOrder 215 = .ok (.aload_n 0, 1) := dk_42 (dk_at dksX3_isOrder_7 20 rfl rfl)
theorem dX3_isOrder_216 : decode cX3_isOrder 216 = .ok (.iconst 1, 1) := dk_4 (dk_at dksX3_isOrder_7 21 rfl rfl)
theorem dX3_isOrder_217 : decode cX3_isOrder 217 = .ok (.bipush 99, 2) := dk_16 99 (dk_at dksX3_isOrder_7 22 rfl rfl)
theorem dX3_isOrder_219 : decode cX3_isOrder 219 = .ok (.invokevirtual 172, 3) := dk_182 0 172 (dk_at dksX3_isOrder_8 0 rfl rfl)
theorem dX3_isOrder_222 : decode cX3_isOrder 222 = .ok (.ireturn, 1) := dk_172 (dk_at dksX3_isOrder_8 3 rfl rfl)
theorem dX3_isOrder_223 : decode cX3_isOrder 223 = .ok (.aload_n 0, 1) := dk_42 (dk_at dksX3_isOrder_8 4 rfl rfl)
theorem dX3_isOrder_224 : decode cX3_isOrder 224 = .ok (.dup, 1) := dk_89 (dk_at dksX3_isOrder_8 5 rfl rfl)
theorem dX3_isOrder_225 : decode cX3_isOrder 225 = .ok (.getfield 150, 3) := dk_180 0 150 (dk_at dksX3_isOrder_8 6 rfl rfl)
theorem dX3_isOrder_228 : decode cX3_isOrder 228 = .ok (.iconst 1, 1) := dk_4 (dk_at dksX3_isOrder_8 9 rfl rfl)
theorem dX3_isOrder_229 : decode cX3_isOrder 229 = .ok (.isub, 1) := dk_100 (dk_at dksX3_isOrder_8 10 rfl rfl)
theorem dX3_isOrder_230 : decode cX3_isOrder 230 = .ok (.putfield 150, 3) := dk_181 0 150 (dk_at dksX3_isOrder_8 11 rfl rfl)
theorem dX3_isOrder_233 : decode cX3_isOrder 233 = .ok (.iconst 0, 1) := dk_3 (dk_at dksX3_isOrder_8 14 rfl rfl)
theorem dX3_isOrder_234 : decode cX3_isOrder 234 = .ok (.ireturn, 1) := dk_172 (dk_at dksX3_isOrder_8 15 rfl rfl)
abbrev cX3_isPlace : ByteArray := prog_11_method_55_code
def yX3_isPlace : MethodName := ⟨RX3, "isPlace", "()Z"⟩
def dkwX3_isPlace_3 : List UInt8 := [167, 0, 4, 3, 96, 181, 0, 150, 27, 172]
abbrev dktX3_isPlace_3 : List UInt8 := dkwX3_isPlace_3 ++ []
def dkwX3_isPlace_2 : List UInt8 := [180, 0, 150, 46, 16, 48, 100, 167, 0, 4, 3, 181, 0, 153, 42, 89, 180, 0, 150, 27, 153, 0, 7, 4]
abbrev dktX3_isPlace_2 : List UInt8 := dkwX3_isPlace_2 ++ dktX3_isPlace_3
def dkwX3_isPlace_1 : List UInt8 := [184, 0, 26, 153, 0, 7, 4, 167, 0, 4, 3, 60, 42, 27, 153, 0, 18, 42, 180, 0, 19, 42]
abbrev dktX3_isPlace_1 : List UInt8 := dkwX3_isPlace_1 ++ dktX3_isPlace_2
def dkwX3_isPlace_0 : List UInt8 := [42, 180, 0, 150, 42, 180, 0, 147, 162, 0, 26, 42, 180, 0, 19, 42, 180, 0, 150, 46, 16, 48, 16, 55]
abbrev dktX3_isPlace_0 : List UInt8 := dkwX3_isPlace_0 ++ dktX3_isPlace_1
theorem dksX3_isPlace_0 : cX3_isPlace.data.toList.drop 0 = dktX3_isPlace_0 := by decide +kernel
theorem dksX3_isPlace_1 : cX3_isPlace.data.toList.drop 24 = dktX3_isPlace_1 := dk_seg dksX3_isPlace_0 24 rfl rfl
theorem dksX3_isPlace_2 : cX3_isPlace.data.toList.drop 46 = dktX3_isPlace_2 := dk_seg dksX3_isPlace_1 22 rfl rfl
theorem dksX3_isPlace_3 : cX3_isPlace.data.toList.drop 70 = dktX3_isPlace_3 := dk_seg dksX3_isPlace_2 24 rfl rfl
theorem dX3_isPlace_0 : decode cX3_isPlace 0 = .ok (.aload_n 0, 1) := dk_42 (dk_at dksX3_isPlace_0 0 rfl rfl)
theorem dX3_isPlace_1 : decode cX3_isPlace 1 = .ok (.getfield 150, 3) := dk_180 0 150 (dk_at dksX3_isPlace_0 1 rfl rfl)
theorem dX3_isPlace_4 : decode cX3_isPlace 4 = .ok (.aload_n 0, 1) := dk_42 (dk_at dksX3_isPlace_0 4 rfl rfl)
theorem dX3_isPlace_5 : decode cX3_isPlace 5 = .ok (.getfield 147, 3) := dk_180 0 147 (dk_at dksX3_isPlace_0 5 rfl rfl)
theorem dX3_isPlace_8 : decode cX3_isPlace 8 = .ok (.if_icmp .ge 26, 3) := dk_162 0 26 (dk_at dksX3_isPlace_0 8 rfl rfl)
theorem dX3_isPlace_11 : decode cX3_isPlace 11 = .ok (.aload_n 0, 1) := dk_42 (dk_at dksX3_isPlace_0 11 rfl rfl)
theorem dX3_isPlace_12 : decode cX3_isPlace 12 = .ok (.getfield 19, 3) := dk_180 0 19 (dk_at dksX3_isPlace_0 12 rfl rfl)
theorem dX3_isPlace_15 : decode cX3_isPlace 15 = .ok (.aload_n 0, 1) := dk_42 (dk_at dksX3_isPlace_0 15 rfl rfl)
theorem dX3_isPlace_16 : decode cX3_isPlace 16 = .ok (.getfield 150, 3) := dk_180 0 150 (dk_at dksX3_isPlace_0 16 rfl rfl)
theorem dX3_isPlace_19 : decode cX3_isPlace 19 = .ok (.iaload, 1) := dk_46 (dk_at dksX3_isPlace_0 19 rfl rfl)
theorem dX3_isPlace_20 : decode cX3_isPlace 20 = .ok (.bipush 48, 2) := dk_16 48 (dk_at dksX3_isPlace_0 20 rfl rfl)
theorem dX3_isPlace_22 : decode cX3_isPlace 22 = .ok (.bipush 55, 2) := dk_16 55 (dk_at dksX3_isPlace_0 22 rfl rfl)
theorem dX3_isPlace_24 : decode cX3_isPlace 24 = .ok (.invokestatic 26, 3) := dk_184 0 26 (dk_at dksX3_isPlace_1 0 rfl rfl)
theorem dX3_isPlace_27 : decode cX3_isPlace 27 = .ok (.ifCond .eq 7, 3) := dk_153 0 7 (dk_at dksX3_isPlace_1 3 rfl rfl)
theorem dX3_isPlace_30 : decode cX3_isPlace 30 = .ok (.iconst 1, 1) := dk_4 (dk_at dksX3_isPlace_1 6 rfl rfl)
theorem dX3_isPlace_31 : decode cX3_isPlace 31 = .ok (.goto 4, 3) := dk_167 0 4 (dk_at dksX3_isPlace_1 7 rfl rfl)
theorem dX3_isPlace_34 : decode cX3_isPlace 34 = .ok (.iconst 0, 1) := dk_3 (dk_at dksX3_isPlace_1 10 rfl rfl)
theorem dX3_isPlace_35 : decode cX3_isPlace 35 = .ok (.istore_n 1, 1) := dk_60 (dk_at dksX3_isPlace_1 11 rfl rfl)
theorem dX3_isPlace_36 : decode cX3_isPlace 36 = .ok (.aload_n 0, 1) := dk_42 (dk_at dksX3_isPlace_1 12 rfl rfl)
theorem dX3_isPlace_37 : decode cX3_isPlace 37 = .ok (.iload_n 1, 1) := dk_27 (dk_at dksX3_isPlace_1 13 rfl rfl)
theorem dX3_isPlace_38 : decode cX3_isPlace 38 = .ok (.ifCond .eq 18, 3) := dk_153 0 18 (dk_at dksX3_isPlace_1 14 rfl rfl)
theorem dX3_isPlace_41 : decode cX3_isPlace 41 = .ok (.aload_n 0, 1) := dk_42 (dk_at dksX3_isPlace_1 17 rfl rfl)
theorem dX3_isPlace_42 : decode cX3_isPlace 42 = .ok (.getfield 19, 3) := dk_180 0 19 (dk_at dksX3_isPlace_1 18 rfl rfl)
theorem dX3_isPlace_45 : decode cX3_isPlace 45 = .ok (.aload_n 0, 1) := dk_42 (dk_at dksX3_isPlace_1 21 rfl rfl)
theorem dX3_isPlace_46 : decode cX3_isPlace 46 = .ok (.getfield 150, 3) := dk_180 0 150 (dk_at dksX3_isPlace_2 0 rfl rfl)
theorem dX3_isPlace_49 : decode cX3_isPlace 49 = .ok (.iaload, 1) := dk_46 (dk_at dksX3_isPlace_2 3 rfl rfl)
theorem dX3_isPlace_50 : decode cX3_isPlace 50 = .ok (.bipush 48, 2) := dk_16 48 (dk_at dksX3_isPlace_2 4 rfl rfl)
theorem dX3_isPlace_52 : decode cX3_isPlace 52 = .ok (.isub, 1) := dk_100 (dk_at dksX3_isPlace_2 6 rfl rfl)
theorem dX3_isPlace_53 : decode cX3_isPlace 53 = .ok (.goto 4, 3) := dk_167 0 4 (dk_at dksX3_isPlace_2 7 rfl rfl)
theorem dX3_isPlace_56 : decode cX3_isPlace 56 = .ok (.iconst 0, 1) := dk_3 (dk_at dksX3_isPlace_2 10 rfl rfl)
theorem dX3_isPlace_57 : decode cX3_isPlace 57 = .ok (.putfield 153, 3) := dk_181 0 153 (dk_at dksX3_isPlace_2 11 rfl rfl)
theorem dX3_isPlace_60 : decode cX3_isPlace 60 = .ok (.aload_n 0, 1) := dk_42 (dk_at dksX3_isPlace_2 14 rfl rfl)
theorem dX3_isPlace_61 : decode cX3_isPlace 61 = .ok (.dup, 1) := dk_89 (dk_at dksX3_isPlace_2 15 rfl rfl)
theorem dX3_isPlace_62 : decode cX3_isPlace 62 = .ok (.getfield 150, 3) := dk_180 0 150 (dk_at dksX3_isPlace_2 16 rfl rfl)
theorem dX3_isPlace_65 : decode cX3_isPlace 65 = .ok (.iload_n 1, 1) := dk_27 (dk_at dksX3_isPlace_2 19 rfl rfl)
theorem dX3_isPlace_66 : decode cX3_isPlace 66 = .ok (.ifCond .eq 7, 3) := dk_153 0 7 (dk_at dksX3_isPlace_2 20 rfl rfl)
theorem dX3_isPlace_69 : decode cX3_isPlace 69 = .ok (.iconst 1, 1) := dk_4 (dk_at dksX3_isPlace_2 23 rfl rfl)
theorem dX3_isPlace_70 : decode cX3_isPlace 70 = .ok (.goto 4, 3) := dk_167 0 4 (dk_at dksX3_isPlace_3 0 rfl rfl)
theorem dX3_isPlace_73 : decode cX3_isPlace 73 = .ok (.iconst 0, 1) := dk_3 (dk_at dksX3_isPlace_3 3 rfl rfl)
theorem dX3_isPlace_74 : decode cX3_isPlace 74 = .ok (.iadd, 1) := dk_96 (dk_at dksX3_isPlace_3 4 rfl rfl)
theorem dX3_isPlace_75 : decode cX3_isPlace 75 = .ok (.putfield 150, 3) := dk_181 0 150 (dk_at dksX3_isPlace_3 5 rfl rfl)
theorem dX3_isPlace_78 : decode cX3_isPlace 78 = .ok (.iload_n 1, 1) := dk_27 (dk_at dksX3_isPlace_3 8 rfl rfl)
theorem dX3_isPlace_79 : decode cX3_isPlace 79 = .ok (.ireturn, 1) := dk_172 (dk_at dksX3_isPlace_3 9 rfl rfl)
abbrev cX3_isSign : ByteArray := prog_11_method_54_code
def yX3_isSign : MethodName := ⟨RX3, "isSign", "(I)Z"⟩
def dkwX3_isSign_2 : List UInt8 := [28, 172]
abbrev dktX3_isSign_2 : List UInt8 := dkwX3_isSign_2 ++ []
def dkwX3_isSign_1 : List UInt8 := [4, 167, 0, 4, 3, 61, 42, 89, 180, 0, 150, 28, 153, 0, 7, 4, 167, 0, 4, 3, 96, 181, 0, 150]
abbrev dktX3_isSign_1 : List UInt8 := dkwX3_isSign_1 ++ dktX3_isSign_2
def dkwX3_isSign_0 : List UInt8 := [42, 180, 0, 150, 42, 180, 0, 147, 162, 0, 20, 42, 180, 0, 19, 42, 180, 0, 150, 46, 27, 160, 0, 7]
abbrev dktX3_isSign_0 : List UInt8 := dkwX3_isSign_0 ++ dktX3_isSign_1
theorem dksX3_isSign_0 : cX3_isSign.data.toList.drop 0 = dktX3_isSign_0 := by decide +kernel
theorem dksX3_isSign_1 : cX3_isSign.data.toList.drop 24 = dktX3_isSign_1 := dk_seg dksX3_isSign_0 24 rfl rfl
theorem dksX3_isSign_2 : cX3_isSign.data.toList.drop 48 = dktX3_isSign_2 := dk_seg dksX3_isSign_1 24 rfl rfl
theorem dX3_isSign_0 : decode cX3_isSign 0 = .ok (.aload_n 0, 1) := dk_42 (dk_at dksX3_isSign_0 0 rfl rfl)
theorem dX3_isSign_1 : decode cX3_isSign 1 = .ok (.getfield 150, 3) := dk_180 0 150 (dk_at dksX3_isSign_0 1 rfl rfl)
theorem dX3_isSign_4 : decode cX3_isSign 4 = .ok (.aload_n 0, 1) := dk_42 (dk_at dksX3_isSign_0 4 rfl rfl)
theorem dX3_isSign_5 : decode cX3_isSign 5 = .ok (.getfield 147, 3) := dk_180 0 147 (dk_at dksX3_isSign_0 5 rfl rfl)
theorem dX3_isSign_8 : decode cX3_isSign 8 = .ok (.if_icmp .ge 20, 3) := dk_162 0 20 (dk_at dksX3_isSign_0 8 rfl rfl)
theorem dX3_isSign_11 : decode cX3_isSign 11 = .ok (.aload_n 0, 1) := dk_42 (dk_at dksX3_isSign_0 11 rfl rfl)
theorem dX3_isSign_12 : decode cX3_isSign 12 = .ok (.getfield 19, 3) := dk_180 0 19 (dk_at dksX3_isSign_0 12 rfl rfl)
theorem dX3_isSign_15 : decode cX3_isSign 15 = .ok (.aload_n 0, 1) := dk_42 (dk_at dksX3_isSign_0 15 rfl rfl)
theorem dX3_isSign_16 : decode cX3_isSign 16 = .ok (.getfield 150, 3) := dk_180 0 150 (dk_at dksX3_isSign_0 16 rfl rfl)
theorem dX3_isSign_19 : decode cX3_isSign 19 = .ok (.iaload, 1) := dk_46 (dk_at dksX3_isSign_0 19 rfl rfl)
theorem dX3_isSign_20 : decode cX3_isSign 20 = .ok (.iload_n 1, 1) := dk_27 (dk_at dksX3_isSign_0 20 rfl rfl)
theorem dX3_isSign_21 : decode cX3_isSign 21 = .ok (.if_icmp .ne 7, 3) := dk_160 0 7 (dk_at dksX3_isSign_0 21 rfl rfl)
theorem dX3_isSign_24 : decode cX3_isSign 24 = .ok (.iconst 1, 1) := dk_4 (dk_at dksX3_isSign_1 0 rfl rfl)
theorem dX3_isSign_25 : decode cX3_isSign 25 = .ok (.goto 4, 3) := dk_167 0 4 (dk_at dksX3_isSign_1 1 rfl rfl)
theorem dX3_isSign_28 : decode cX3_isSign 28 = .ok (.iconst 0, 1) := dk_3 (dk_at dksX3_isSign_1 4 rfl rfl)
theorem dX3_isSign_29 : decode cX3_isSign 29 = .ok (.istore_n 2, 1) := dk_61 (dk_at dksX3_isSign_1 5 rfl rfl)
theorem dX3_isSign_30 : decode cX3_isSign 30 = .ok (.aload_n 0, 1) := dk_42 (dk_at dksX3_isSign_1 6 rfl rfl)
theorem dX3_isSign_31 : decode cX3_isSign 31 = .ok (.dup, 1) := dk_89 (dk_at dksX3_isSign_1 7 rfl rfl)
theorem dX3_isSign_32 : decode cX3_isSign 32 = .ok (.getfield 150, 3) := dk_180 0 150 (dk_at dksX3_isSign_1 8 rfl rfl)
theorem dX3_isSign_35 : decode cX3_isSign 35 = .ok (.iload_n 2, 1) := dk_28 (dk_at dksX3_isSign_1 11 rfl rfl)
theorem dX3_isSign_36 : decode cX3_isSign 36 = .ok (.ifCond .eq 7, 3) := dk_153 0 7 (dk_at dksX3_isSign_1 12 rfl rfl)
theorem dX3_isSign_39 : decode cX3_isSign 39 = .ok (.iconst 1, 1) := dk_4 (dk_at dksX3_isSign_1 15 rfl rfl)
theorem dX3_isSign_40 : decode cX3_isSign 40 = .ok (.goto 4, 3) := dk_167 0 4 (dk_at dksX3_isSign_1 16 rfl rfl)
theorem dX3_isSign_43 : decode cX3_isSign 43 = .ok (.iconst 0, 1) := dk_3 (dk_at dksX3_isSign_1 19 rfl rfl)
theorem dX3_isSign_44 : decode cX3_isSign 44 = .ok (.iadd, 1) := dk_96 (dk_at dksX3_isSign_1 20 rfl rfl)
theorem dX3_isSign_45 : decode cX3_isSign 45 = .ok (.putfield 150, 3) := dk_181 0 150 (dk_at dksX3_isSign_1 21 rfl rfl)
theorem dX3_isSign_48 : decode cX3_isSign 48 = .ok (.iload_n 2, 1) := dk_28 (dk_at dksX3_isSign_2 0 rfl rfl)
theorem dX3_isSign_49 : decode cX3_isSign 49 = .ok (.ireturn, 1) := dk_172 (dk_at dksX3_isSign_2 1 rfl rfl)
abbrev cX3_isNumber : ByteArray := prog_11_method_56_code
def yX3_isNumber : MethodName := ⟨RX3, "isNumber", "(II)Z"⟩
def dkwX3_isNumber_6 : List UInt8 := [181, 0, 150, 42, 29, 181, 0, 160, 29, 27, 161, 0, 7, 4, 167, 0, 4, 3, 172]
abbrev dktX3_isNumber_6 : List UInt8 := dkwX3_isNumber_6 ++ []
def dkwX3_isNumber_5 : List UInt8 := [104, 42, 180, 0, 19, 42, 180, 0, 150, 46, 96, 16, 48, 100, 62, 42, 89, 180, 0, 150, 4, 96]
abbrev dktX3_isNumber_5 : List UInt8 := dkwX3_isNumber_5 ++ dktX3_isNumber_6
def dkwX3_isNumber_4 : List UInt8 := [42, 180, 0, 19, 42, 180, 0, 150, 46, 96, 16, 48, 100, 27, 28, 184, 0, 26, 153, 0, 31, 16, 10, 29]
abbrev dktX3_isNumber_4 : List UInt8 := dkwX3_isNumber_4 ++ dktX3_isNumber_5
def dkwX3_isNumber_3 : List UInt8 := [89, 180, 0, 150, 4, 96, 181, 0, 150, 29, 158, 0, 63, 42, 182, 0, 156, 153, 0, 56, 16, 10, 29, 104]
abbrev dktX3_isNumber_3 : List UInt8 := dkwX3_isNumber_3 ++ dktX3_isNumber_4
def dkwX3_isNumber_2 : List UInt8 := [161, 0, 21, 29, 28, 163, 0, 16, 29, 27, 162, 0, 13, 16, 10, 29, 104, 28, 164, 0, 5, 3, 172, 42]
abbrev dktX3_isNumber_2 : List UInt8 := dkwX3_isNumber_2 ++ dktX3_isNumber_3
def dkwX3_isNumber_1 : List UInt8 := [154, 0, 10, 27, 158, 0, 42, 167, 0, 37, 29, 27, 162, 0, 14, 16, 10, 29, 104, 16, 9, 96, 27]
abbrev dktX3_isNumber_1 : List UInt8 := dkwX3_isNumber_1 ++ dktX3_isNumber_2
def dkwX3_isNumber_0 : List UInt8 := [42, 182, 0, 156, 154, 0, 5, 3, 172, 42, 180, 0, 19, 42, 180, 0, 150, 46, 16, 48, 100, 62, 29]
abbrev dktX3_isNumber_0 : List UInt8 := dkwX3_isNumber_0 ++ dktX3_isNumber_1
theorem dksX3_isNumber_0 : cX3_isNumber.data.toList.drop 0 = dktX3_isNumber_0 := by decide +kernel
theorem dksX3_isNumber_1 : cX3_isNumber.data.toList.drop 23 = dktX3_isNumber_1 := dk_seg dksX3_isNumber_0 23 rfl rfl
theorem dksX3_isNumber_2 : cX3_isNumber.data.toList.drop 46 = dktX3_isNumber_2 := dk_seg dksX3_isNumber_1 23 rfl rfl
theorem dksX3_isNumber_3 : cX3_isNumber.data.toList.drop 70 = dktX3_isNumber_3 := dk_seg dksX3_isNumber_2 24 rfl rfl
theorem dksX3_isNumber_4 : cX3_isNumber.data.toList.drop 94 = dktX3_isNumber_4 := dk_seg dksX3_isNumber_3 24 rfl rfl
theorem dksX3_isNumber_5 : cX3_isNumber.data.toList.drop 118 = dktX3_isNumber_5 := dk_seg dksX3_isNumber_4 24 rfl rfl
theorem dksX3_isNumber_6 : cX3_isNumber.data.toList.drop 140 = dktX3_isNumber_6 := dk_seg dksX3_isNumber_5 22 rfl rfl
theorem dX3_isNumber_0 : decode cX3_isNumber 0 = .ok (.aload_n 0, 1) := dk_42 (dk_at dksX3_isNumber_0 0 rfl rfl)
theorem dX3_isNumber_1 : decode cX3_isNumber 1 = .ok (.invokevirtual 156, 3) := dk_182 0 156 (dk_at dksX3_isNumber_0 1 rfl rfl)
theorem dX3_isNumber_4 : decode cX3_isNumber 4 = .ok (.ifCond .ne 5, 3) := dk_154 0 5 (dk_at dksX3_isNumber_0 4 rfl rfl)
theorem dX3_isNumber_7 : decode cX3_isNumber 7 = .ok (.iconst 0, 1) := dk_3 (dk_at dksX3_isNumber_0 7 rfl rfl)
theorem dX3_isNumber_8 : decode cX3_isNumber 8 = .ok (.ireturn, 1) := dk_172 (dk_at dksX3_isNumber_0 8 rfl rfl)
theorem dX3_isNumber_9 : decode cX3_isNumber 9 = .ok (.aload_n 0, 1) := dk_42 (dk_at dksX3_isNumber_0 9 rfl rfl)
theorem dX3_isNumber_10 : decode cX3_isNumber 10 = .ok (.getfield 19, 3) := dk_180 0 19 (dk_at dksX3_isNumber_0 10 rfl rfl)
theorem dX3_isNumber_13 : decode cX3_isNumber 13 = .ok (.aload_n 0, 1) := dk_42 (dk_at dksX3_isNumber_0 13 rfl rfl)
theorem dX3_isNumber_14 : decode cX3_isNumber 14 = .ok (.getfield 150, 3) := dk_180 0 150 (dk_at dksX3_isNumber_0 14 rfl rfl)
theorem dX3_isNumber_17 : decode cX3_isNumber 17 = .ok (.iaload, 1) := dk_46 (dk_at dksX3_isNumber_0 17 rfl rfl)
theorem dX3_isNumber_18 : decode cX3_isNumber 18 = .ok (.bipush 48, 2) := dk_16 48 (dk_at dksX3_isNumber_0 18 rfl rfl)
theorem dX3_isNumber_20 : decode cX3_isNumber 20 = .ok (.isub, 1) := dk_100 (dk_at dksX3_isNumber_0 20 rfl rfl)
theorem dX3_isNumber_21 : decode cX3_isNumber 21 = .ok (.istore_n 3, 1) := dk_62 (dk_at dksX3_isNumber_0 21 rfl rfl)
theorem dX3_isNumber_22 : decode cX3_isNumber 22 = .ok (.iload_n 3, 1) := dk_29 (dk_at dksX3_isNumber_0 22 rfl rfl)
theorem dX3_isNumber_23 : decode cX3_isNumber 23 = .ok (.ifCond .ne 10, 3) := dk_154 0 10 (dk_at dksX3_isNumber_1 0 rfl rfl)
theorem dX3_isNumber_26 : decode cX3_isNumber 26 = .ok (.iload_n 1, 1) := dk_27 (dk_at dksX3_isNumber_1 3 rfl rfl)
theorem dX3_isNumber_27 : decode cX3_isNumber 27 = .ok (.ifCond .le 42, 3) := dk_158 0 42 (dk_at dksX3_isNumber_1 4 rfl rfl)
theorem dX3_isNumber_30 : decode cX3_isNumber 30 = .ok (.goto 37, 3) := dk_167 0 37 (dk_at dksX3_isNumber_1 7 rfl rfl)
theorem dX3_isNumber_33 : decode cX3_isNumber 33 = .ok (.iload_n 3, 1) := dk_29 (dk_at dksX3_isNumber_1 10 rfl rfl)
theorem dX3_isNumber_34 : decode cX3_isNumber 34 = .ok (.iload_n 1, 1) := dk_27 (dk_at dksX3_isNumber_1 11 rfl rfl)
theorem dX3_isNumber_35 : decode cX3_isNumber 35 = .ok (.if_icmp .ge 14, 3) := dk_162 0 14 (dk_at dksX3_isNumber_1 12 rfl rfl)
theorem dX3_isNumber_38 : decode cX3_isNumber 38 = .ok (.bipush 10, 2) := dk_16 10 (dk_at dksX3_isNumber_1 15 rfl rfl)
theorem dX3_isNumber_40 : decode cX3_isNumber 40 = .ok (.iload_n 3, 1) := dk_29 (dk_at dksX3_isNumber_1 17 rfl rfl)
theorem dX3_isNumber_41 : decode cX3_isNumber 41 = .ok (.imul, 1) := dk_104 (dk_at dksX3_isNumber_1 18 rfl rfl)
theorem dX3_isNumber_42 : decode cX3_isNumber 42 = .ok (.bipush 9, 2) := dk_16 9 (dk_at dksX3_isNumber_1 19 rfl rfl)
theorem dX3_isNumber_44 : decode cX3_isNumber 44 = .ok (.iadd, 1) := dk_96 (dk_at dksX3_isNumber_1 21 rfl rfl)
theorem dX3_isNumber_45 : decode cX3_isNumber 45 = .ok (.iload_n 1, 1) := dk_27 (dk_at dksX3_isNumber_1 22 rfl rfl)
theorem dX3_isNumber_46 : decode cX3_isNumber 46 = .ok (.if_icmp .lt 21, 3) := dk_161 0 21 (dk_at dksX3_isNumber_2 0 rfl rfl)
theorem dX3_isNumber_49 : decode cX3_isNumber 49 = .ok (.iload_n 3, 1) := dk_29 (dk_at dksX3_isNumber_2 3 rfl rfl)
theorem dX3_isNumber_50 : decode cX3_isNumber 50 = .ok (.iload_n 2, 1) := dk_28 (dk_at dksX3_isNumber_2 4 rfl rfl)
theorem dX3_isNumber_51 : decode cX3_isNumber 51 = .ok (.if_icmp .gt 16, 3) := dk_163 0 16 (dk_at dksX3_isNumber_2 5 rfl rfl)
theorem dX3_isNumber_54 : decode cX3_isNumber 54 = .ok (.iload_n 3, 1) := dk_29 (dk_at dksX3_isNumber_2 8 rfl rfl)
theorem dX3_isNumber_55 : decode cX3_isNumber 55 = .ok (.iload_n 1, 1) := dk_27 (dk_at dksX3_isNumber_2 9 rfl rfl)
theorem dX3_isNumber_56 : decode cX3_isNumber 56 = .ok (.if_icmp .ge 13, 3) := dk_162 0 13 (dk_at dksX3_isNumber_2 10 rfl rfl)
theorem dX3_isNumber_59 : decode cX3_isNumber 59 = .ok (.bipush 10, 2) := dk_16 10 (dk_at dksX3_isNumber_2 13 rfl rfl)
theorem dX3_isNumber_61 : decode cX3_isNumber 61 = .ok (.iload_n 3, 1) := dk_29 (dk_at dksX3_isNumber_2 15 rfl rfl)
theorem dX3_isNumber_62 : decode cX3_isNumber 62 = .ok (.imul, 1) := dk_104 (dk_at dksX3_isNumber_2 16 rfl rfl)
theorem dX3_isNumber_63 : decode cX3_isNumber 63 = .ok (.iload_n 2, 1) := dk_28 (dk_at dksX3_isNumber_2 17 rfl rfl)
theorem dX3_isNumber_64 : decode cX3_isNumber 64 = .ok (.if_icmp .le 5, 3) := dk_164 0 5 (dk_at dksX3_isNumber_2 18 rfl rfl)
theorem dX3_isNumber_67 : decode cX3_isNumber 67 = .ok (.iconst 0, 1) := dk_3 (dk_at dksX3_isNumber_2 21 rfl rfl)
theorem dX3_isNumber_68 : decode cX3_isNumber 68 = .ok (.ireturn, 1) := dk_172 (dk_at dksX3_isNumber_2 22 rfl rfl)
theorem dX3_isNumber_69 : decode cX3_isNumber 69 = .ok (.aload_n 0, 1) := dk_42 (dk_at dksX3_isNumber_2 23 rfl rfl)
theorem dX3_isNumber_70 : decode cX3_isNumber 70 = .ok (.dup, 1) := dk_89 (dk_at dksX3_isNumber_3 0 rfl rfl)
theorem dX3_isNumber_71 : decode cX3_isNumber 71 = .ok (.getfield 150, 3) := dk_180 0 150 (dk_at dksX3_isNumber_3 1 rfl rfl)
theorem dX3_isNumber_74 : decode cX3_isNumber 74 = .ok (.iconst 1, 1) := dk_4 (dk_at dksX3_isNumber_3 4 rfl rfl)
theorem dX3_isNumber_75 : decode cX3_isNumber 75 = .ok (.iadd, 1) := dk_96 (dk_at dksX3_isNumber_3 5 rfl rfl)
theorem dX3_isNumber_76 : decode cX3_isNumber 76 = .ok (.putfield 150, 3) := dk_181 0 150 (dk_at dksX3_isNumber_3 6 rfl rfl)
theorem dX3_isNumber_79 : decode cX3_isNumber 79 = .ok (.iload_n 3, 1) := dk_29 (dk_at dksX3_isNumber_3 9 rfl rfl)
theorem dX3_isNumber_80 : decode cX3_isNumber 80 = .ok (.ifCond .le 63, 3) := dk_158 0 63 (dk_at dksX3_isNumber_3 10 rfl rfl)
theorem dX3_isNumber_83 : decode cX3_isNumber 83 = .ok (.aload_n 0, 1) := dk_42 (dk_at dksX3_isNumber_3 13 rfl rfl)
theorem dX3_isNumber_84 : decode cX3_isNumber 84 = .ok (.invokevirtual 156, 3) := dk_182 0 156 (dk_at dksX3_isNumber_3 14 rfl rfl)
theorem dX3_isNumber_87 : decode cX3_isNumber 87 = .ok (.ifCond .eq 56, 3) := dk_153 0 56 (dk_at dksX3_isNumber_3 17 rfl rfl)
theorem dX3_isNumber_90 : decode cX3_isNumber 90 = .ok (.bipush 10, 2) := dk_16 10 (dk_at dksX3_isNumber_3 20 rfl rfl)
theorem dX3_isNumber_92 : decode cX3_isNumber 92 = .ok (.iload_n 3, 1) := dk_29 (dk_at dksX3_isNumber_3 22 rfl rfl)
theorem dX3_isNumber_93 : decode cX3_isNumber 93 = .ok (.imul, 1) := dk_104 (dk_at dksX3_isNumber_3 23 rfl rfl)
theorem dX3_isNumber_94 : decode cX3_isNumber 94 = .ok (.aload_n 0, 1) := dk_42 (dk_at dksX3_isNumber_4 0 rfl rfl)
theorem dX3_isNumber_95 : decode cX3_isNumber 95 = .ok (.getfield 19, 3) := dk_180 0 19 (dk_at dksX3_isNumber_4 1 rfl rfl)
theorem dX3_isNumber_98 : decode cX3_isNumber 98 = .ok (.aload_n 0, 1) := dk_42 (dk_at dksX3_isNumber_4 4 rfl rfl)
theorem dX3_isNumber_99 : decode cX3_isNumber 99 = .ok (.getfield 150, 3) := dk_180 0 150 (dk_at dksX3_isNumber_4 5 rfl rfl)
theorem dX3_isNumber_102 : decode cX3_isNumber 102 = .ok (.iaload, 1) := dk_46 (dk_at dksX3_isNumber_4 8 rfl rfl)
theorem dX3_isNumber_103 : decode cX3_isNumber 103 = .ok (.iadd, 1) := dk_96 (dk_at dksX3_isNumber_4 9 rfl rfl)
theorem dX3_isNumber_104 : decode cX3_isNumber 104 = .ok (.bipush 48, 2) := dk_16 48 (dk_at dksX3_isNumber_4 10 rfl rfl)
theorem dX3_isNumber_106 : decode cX3_isNumber 106 = .ok (.isub, 1) := dk_100 (dk_at dksX3_isNumber_4 12 rfl rfl)
theorem dX3_isNumber_107 : decode cX3_isNumber 107 = .ok (.iload_n 1, 1) := dk_27 (dk_at dksX3_isNumber_4 13 rfl rfl)
theorem dX3_isNumber_108 : decode cX3_isNumber 108 = .ok (.iload_n 2, 1) := dk_28 (dk_at dksX3_isNumber_4 14 rfl rfl)
theorem dX3_isNumber_109 : decode cX3_isNumber 109 = .ok (.invokestatic 26, 3) := dk_184 0 26 (dk_at dksX3_isNumber_4 15 rfl rfl)
theorem dX3_isNumber_112 : decode cX3_isNumber 112 = .ok (.ifCond .eq 31, 3) := dk_153 0 31 (dk_at dksX3_isNumber_4 18 rfl rfl)
theorem dX3_isNumber_115 : decode cX3_isNumber 115 = .ok (.bipush 10, 2) := dk_16 10 (dk_at dksX3_isNumber_4 21 rfl rfl)
theorem dX3_isNumber_117 : decode cX3_isNumber 117 = .ok (.iload_n 3, 1) := dk_29 (dk_at dksX3_isNumber_4 23 rfl rfl)
theorem dX3_isNumber_118 : decode cX3_isNumber 118 = .ok (.imul, 1) := dk_104 (dk_at dksX3_isNumber_5 0 rfl rfl)
theorem dX3_isNumber_119 : decode cX3_isNumber 119 = .ok (.aload_n 0, 1) := dk_42 (dk_at dksX3_isNumber_5 1 rfl rfl)
theorem dX3_isNumber_120 : decode cX3_isNumber 120 = .ok (.getfield 19, 3) := dk_180 0 19 (dk_at dksX3_isNumber_5 2 rfl rfl)
theorem dX3_isNumber_123 : decode cX3_isNumber 123 = .ok (.aload_n 0, 1) := dk_42 (dk_at dksX3_isNumber_5 5 rfl rfl)
theorem dX3_isNumber_124 : decode cX3_isNumber 124 = .ok (.getfield 150, 3) := dk_180 0 150 (dk_at dksX3_isNumber_5 6 rfl rfl)
theorem dX3_isNumber_127 : decode cX3_isNumber 127 = .ok (.iaload, 1) := dk_46 (dk_at dksX3_isNumber_5 9 rfl rfl)
theorem dX3_isNumber_128 : decode cX3_isNumber 128 = .ok (.iadd, 1) := dk_96 (dk_at dksX3_isNumber_5 10 rfl rfl)
theorem dX3_isNumber_129 : decode cX3_isNumber 129 = .ok (.bipush 48, 2) := dk_16 48 (dk_at dksX3_isNumber_5 11 rfl rfl)
theorem dX3_isNumber_131 : decode cX3_isNumber 131 = .ok (.isub, 1) := dk_100 (dk_at dksX3_isNumber_5 13 rfl rfl)
theorem dX3_isNumber_132 : decode cX3_isNumber 132 = .ok (.istore_n 3, 1) := dk_62 (dk_at dksX3_isNumber_5 14 rfl rfl)
theorem dX3_isNumber_133 : decode cX3_isNumber 133 = .ok (.aload_n 0, 1) := dk_42 (dk_at dksX3_isNumber_5 15 rfl rfl)
theorem dX3_isNumber_134 : decode cX3_isNumber 134 = .ok (.dup, 1) := dk_89 (dk_at dksX3_isNumber_5 16 rfl rfl)
theorem dX3_isNumber_135 : decode cX3_isNumber 135 = .ok (.getfield 150, 3) := dk_180 0 150 (dk_at dksX3_isNumber_5 17 rfl rfl)
theorem dX3_isNumber_138 : decode cX3_isNumber 138 = .ok (.iconst 1, 1) := dk_4 (dk_at dksX3_isNumber_5 20 rfl rfl)
theorem dX3_isNumber_139 : decode cX3_isNumber 139 = .ok (.iadd, 1) := dk_96 (dk_at dksX3_isNumber_5 21 rfl rfl)
theorem dX3_isNumber_140 : decode cX3_isNumber 140 = .ok (.putfield 150, 3) := dk_181 0 150 (dk_at dksX3_isNumber_6 0 rfl rfl)
theorem dX3_isNumber_143 : decode cX3_isNumber 143 = .ok (.aload_n 0, 1) := dk_42 (dk_at dksX3_isNumber_6 3 rfl rfl)
theorem dX3_isNumber_144 : decode cX3_isNumber 144 = .ok (.iload_n 3, 1) := dk_29 (dk_at dksX3_isNumber_6 4 rfl rfl)
theorem dX3_isNumber_145 : decode cX3_isNumber 145 = .ok (.putfield 160, 3) := dk_181 0 160 (dk_at dksX3_isNumber_6 5 rfl rfl)
theorem dX3_isNumber_148 : decode cX3_isNumber 148 = .ok (.iload_n 3, 1) := dk_29 (dk_at dksX3_isNumber_6 8 rfl rfl)
theorem dX3_isNumber_149 : decode cX3_isNumber 149 = .ok (.iload_n 1, 1) := dk_27 (dk_at dksX3_isNumber_6 9 rfl rfl)
theorem dX3_isNumber_150 : decode cX3_isNumber 150 = .ok (.if_icmp .lt 7, 3) := dk_161 0 7 (dk_at dksX3_isNumber_6 10 rfl rfl)
theorem dX3_isNumber_153 : decode cX3_isNumber 153 = .ok (.iconst 1, 1) := dk_4 (dk_at dksX3_isNumber_6 13 rfl rfl)
theorem dX3_isNumber_154 : decode cX3_isNumber 154 = .ok (.goto 4, 3) := dk_167 0 4 (dk_at dksX3_isNumber_6 14 rfl rfl)
theorem dX3_isNumber_157 : decode cX3_isNumber 157 = .ok (.iconst 0, 1) := dk_3 (dk_at dksX3_isNumber_6 17 rfl rfl)
theorem dX3_isNumber_158 : decode cX3_isNumber 158 = .ok (.ireturn, 1) := dk_172 (dk_at dksX3_isNumber_6 18 rfl rfl)
abbrev cX3_isDigit : ByteArray := prog_11_method_53_code
def yX3_isDigit : MethodName := ⟨RX3, "isDigit", "()Z"⟩
def dkwX3_isDigit_1 : List UInt8 := [184, 0, 26, 153, 0, 7, 4, 167, 0, 4, 3, 172]
abbrev dktX3_isDigit_1 : List UInt8 := dkwX3_isDigit_1 ++ []
def dkwX3_isDigit_0 : List UInt8 := [42, 180, 0, 150, 42, 180, 0, 147, 162, 0, 26, 42, 180, 0, 19, 42, 180, 0, 150, 46, 16, 48, 16, 57]
abbrev dktX3_isDigit_0 : List UInt8 := dkwX3_isDigit_0 ++ dktX3_isDigit_1
theorem dksX3_isDigit_0 : cX3_isDigit.data.toList.drop 0 = dktX3_isDigit_0 := by decide +kernel
theorem dksX3_isDigit_1 : cX3_isDigit.data.toList.drop 24 = dktX3_isDigit_1 := dk_seg dksX3_isDigit_0 24 rfl rfl
theorem dX3_isDigit_0 : decode cX3_isDigit 0 = .ok (.aload_n 0, 1) := dk_42 (dk_at dksX3_isDigit_0 0 rfl rfl)
theorem dX3_isDigit_1 : decode cX3_isDigit 1 = .ok (.getfield 150, 3) := dk_180 0 150 (dk_at dksX3_isDigit_0 1 rfl rfl)
theorem dX3_isDigit_4 : decode cX3_isDigit 4 = .ok (.aload_n 0, 1) := dk_42 (dk_at dksX3_isDigit_0 4 rfl rfl)
theorem dX3_isDigit_5 : decode cX3_isDigit 5 = .ok (.getfield 147, 3) := dk_180 0 147 (dk_at dksX3_isDigit_0 5 rfl rfl)
theorem dX3_isDigit_8 : decode cX3_isDigit 8 = .ok (.if_icmp .ge 26, 3) := dk_162 0 26 (dk_at dksX3_isDigit_0 8 rfl rfl)
theorem dX3_isDigit_11 : decode cX3_isDigit 11 = .ok (.aload_n 0, 1) := dk_42 (dk_at dksX3_isDigit_0 11 rfl rfl)
theorem dX3_isDigit_12 : decode cX3_isDigit 12 = .ok (.getfield 19, 3) := dk_180 0 19 (dk_at dksX3_isDigit_0 12 rfl rfl)
theorem dX3_isDigit_15 : decode cX3_isDigit 15 = .ok (.aload_n 0, 1) := dk_42 (dk_at dksX3_isDigit_0 15 rfl rfl)
theorem dX3_isDigit_16 : decode cX3_isDigit 16 = .ok (.getfield 150, 3) := dk_180 0 150 (dk_at dksX3_isDigit_0 16 rfl rfl)
theorem dX3_isDigit_19 : decode cX3_isDigit 19 = .ok (.iaload, 1) := dk_46 (dk_at dksX3_isDigit_0 19 rfl rfl)
theorem dX3_isDigit_20 : decode cX3_isDigit 20 = .ok (.bipush 48, 2) := dk_16 48 (dk_at dksX3_isDigit_0 20 rfl rfl)
theorem dX3_isDigit_22 : decode cX3_isDigit 22 = .ok (.bipush 57, 2) := dk_16 57 (dk_at dksX3_isDigit_0 22 rfl rfl)
theorem dX3_isDigit_24 : decode cX3_isDigit 24 = .ok (.invokestatic 26, 3) := dk_184 0 26 (dk_at dksX3_isDigit_1 0 rfl rfl)
theorem dX3_isDigit_27 : decode cX3_isDigit 27 = .ok (.ifCond .eq 7, 3) := dk_153 0 7 (dk_at dksX3_isDigit_1 3 rfl rfl)
theorem dX3_isDigit_30 : decode cX3_isDigit 30 = .ok (.iconst 1, 1) := dk_4 (dk_at dksX3_isDigit_1 6 rfl rfl)
theorem dX3_isDigit_31 : decode cX3_isDigit 31 = .ok (.goto 4, 3) := dk_167 0 4 (dk_at dksX3_isDigit_1 7 rfl rfl)
theorem dX3_isDigit_34 : decode cX3_isDigit 34 = .ok (.iconst 0, 1) := dk_3 (dk_at dksX3_isDigit_1 10 rfl rfl)
theorem dX3_isDigit_35 : decode cX3_isDigit 35 = .ok (.ireturn, 1) := dk_172 (dk_at dksX3_isDigit_1 11 rfl rfl)
abbrev cX3_impossibleOrder : ByteArray := prog_11_method_62_code
def yX3_impossibleOrder : MethodName := ⟨RX3, "impossibleOrder", "()I"⟩
def dkwX3_impossibleOrder_1 : List UInt8 := [42, 182, 0, 191, 172]
abbrev dktX3_impossibleOrder_1 : List UInt8 := dkwX3_impossibleOrder_1 ++ []
def dkwX3_impossibleOrder_0 : List UInt8 := [42, 42, 182, 0, 178, 2, 160, 0, 7, 3, 167, 0, 4, 4, 182, 0, 54, 153, 0, 7, 3, 167, 0, 7]
abbrev dktX3_impossibleOrder_0 : List UInt8 := dkwX3_impossibleOrder_0 ++ dktX3_impossibleOrder_1
theorem dksX3_impossibleOrder_0 : cX3_impossibleOrder.data.toList.drop 0 = dktX3_impossibleOrder_0 := by decide +kernel
theorem dksX3_impossibleOrder_1 : cX3_impossibleOrder.data.toList.drop 24 = dktX3_impossibleOrder_1 := dk_seg dksX3_impossibleOrder_0 24 rfl rfl
theorem dX3_impossibleOrder_0 : decode cX3_impossibleOrder 0 = .ok (.aload_n 0, 1) := dk_42 (dk_at dksX3_impossibleOrder_0 0 rfl rfl)
theorem dX3_impossibleOrder_1 : decode cX3_impossibleOrder 1 = .ok (.aload_n 0, 1) := dk_42 (dk_at dksX3_impossibleOrder_0 1 rfl rfl)
theorem dX3_impossibleOrder_2 : decode cX3_impossibleOrder 2 = .ok (.invokevirtual 178, 3) := dk_182 0 178 (dk_at dksX3_impossibleOrder_0 2 rfl rfl)
theorem dX3_impossibleOrder_5 : decode cX3_impossibleOrder 5 = .ok (.iconst (-1), 1) := dk_2 (dk_at dksX3_impossibleOrder_0 5 rfl rfl)
theorem dX3_impossibleOrder_6 : decode cX3_impossibleOrder 6 = .ok (.if_icmp .ne 7, 3) := dk_160 0 7 (dk_at dksX3_impossibleOrder_0 6 rfl rfl)
theorem dX3_impossibleOrder_9 : decode cX3_impossibleOrder 9 = .ok (.iconst 0, 1) := dk_3 (dk_at dksX3_impossibleOrder_0 9 rfl rfl)
theorem dX3_impossibleOrder_10 : decode cX3_impossibleOrder 10 = .ok (.goto 4, 3) := dk_167 0 4 (dk_at dksX3_impossibleOrder_0 10 rfl rfl)
theorem dX3_impossibleOrder_13 : decode cX3_impossibleOrder 13 = .ok (.iconst 1, 1) := dk_4 (dk_at dksX3_impossibleOrder_0 13 rfl rfl)
theorem dX3_impossibleOrder_14 : decode cX3_impossibleOrder 14 = .ok (.invokevirtual 54, 3) := dk_182 0 54 (dk_at dksX3_impossibleOrder_0 14 rfl rfl)
theorem dX3_impossibleOrder_17 : decode cX3_impossibleOrder 17 = .ok (.ifCond .eq 7, 3) := dk_153 0 7 (dk_at dksX3_impossibleOrder_0 17 rfl rfl)
theorem dX3_impossibleOrder_20 : decode cX3_impossibleOrder 20 = .ok (.iconst 0, 1) := dk_3 (dk_at dksX3_impossibleOrder_0 20 rfl rfl)
theorem dX3_impossibleOrder_21 : decode cX3_impossibleOrder 21 = .ok (.goto 7, 3) := dk_167 0 7 (dk_at dksX3_impossibleOrder_0 21 rfl rfl)
theorem dX3_impossibleOrder_24 : decode cX3_impossibleOrder 24 = .ok (.aload_n 0, 1) := dk_42 (dk_at dksX3_impossibleOrder_1 0 rfl rfl)
theorem dX3_impossibleOrder_25 : decode cX3_impossibleOrder 25 = .ok (.invokevirtual 191, 3) := dk_182 0 191 (dk_at dksX3_impossibleOrder_1 1 rfl rfl)
theorem dX3_impossibleOrder_28 : decode cX3_impossibleOrder 28 = .ok (.ireturn, 1) := dk_172 (dk_at dksX3_impossibleOrder_1 4 rfl rfl)
abbrev cX3_tries : ByteArray := prog_11_method_61_code
def yX3_tries : MethodName := ⟨RX3, "tries", "()I"⟩
def dkwX3_tries_3 : List UInt8 := [2, 172]
abbrev dktX3_tries_3 : List UInt8 := dkwX3_tries_3 ++ []
def dkwX3_tries_2 : List UInt8 := [180, 0, 185, 172, 42, 89, 180, 0, 185, 4, 96, 181, 0, 185, 42, 16, 59, 182, 0, 169, 60, 167, 255, 203]
abbrev dktX3_tries_2 : List UInt8 := dkwX3_tries_2 ++ dktX3_tries_3
def dkwX3_tries_1 : List UInt8 := [153, 0, 17, 42, 17, 1, 31, 182, 0, 188, 153, 0, 7, 4, 167, 0, 4, 3, 61, 28, 154, 0, 8, 42]
abbrev dktX3_tries_1 : List UInt8 := dkwX3_tries_1 ++ dktX3_tries_2
def dkwX3_tries_0 : List UInt8 := [42, 182, 0, 182, 42, 3, 181, 0, 150, 42, 3, 181, 0, 185, 4, 60, 27, 153, 0, 55, 42, 182, 0, 175]
abbrev dktX3_tries_0 : List UInt8 := dkwX3_tries_0 ++ dktX3_tries_1
theorem dksX3_tries_0 : cX3_tries.data.toList.drop 0 = dktX3_tries_0 := by decide +kernel
theorem dksX3_tries_1 : cX3_tries.data.toList.drop 24 = dktX3_tries_1 := dk_seg dksX3_tries_0 24 rfl rfl
theorem dksX3_tries_2 : cX3_tries.data.toList.drop 48 = dktX3_tries_2 := dk_seg dksX3_tries_1 24 rfl rfl
theorem dksX3_tries_3 : cX3_tries.data.toList.drop 72 = dktX3_tries_3 := dk_seg dksX3_tries_2 24 rfl rfl
theorem dX3_tries_0 : decode cX3_tries 0 = .ok (.aload_n 0, 1) := dk_42 (dk_at dksX3_tries_0 0 rfl rfl)
theorem dX3_tries_1 : decode cX3_tries 1 = .ok (.invokevirtual 182, 3) := dk_182 0 182 (dk_at dksX3_tries_0 1 rfl rfl)
theorem dX3_tries_4 : decode cX3_tries 4 = .ok (.aload_n 0, 1) := dk_42 (dk_at dksX3_tries_0 4 rfl rfl)
theorem dX3_tries_5 : decode cX3_tries 5 = .ok (.iconst 0, 1) := dk_3 (dk_at dksX3_tries_0 5 rfl rfl)
theorem dX3_tries_6 : decode cX3_tries 6 = .ok (.putfield 150, 3) := dk_181 0 150 (dk_at dksX3_tries_0 6 rfl rfl)
theorem dX3_tries_9 : decode cX3_tries 9 = .ok (.aload_n 0, 1) := dk_42 (dk_at dksX3_tries_0 9 rfl rfl)
theorem dX3_tries_10 : decode cX3_tries 10 = .ok (.iconst 0, 1) := dk_3 (dk_at dksX3_tries_0 10 rfl rfl)
theorem dX3_tries_11 : decode cX3_tries 11 = .ok (.putfield 185, 3) := dk_181 0 185 (dk_at dksX3_tries_0 11 rfl rfl)
theorem dX3_tries_14 : decode cX3_tries 14 = .ok (.iconst 1, 1) := dk_4 (dk_at dksX3_tries_0 14 rfl rfl)
theorem dX3_tries_15 : decode cX3_tries 15 = .ok (.istore_n 1, 1) := dk_60 (dk_at dksX3_tries_0 15 rfl rfl)
theorem dX3_tries_16 : decode cX3_tries 16 = .ok (.iload_n 1, 1) := dk_27 (dk_at dksX3_tries_0 16 rfl rfl)
theorem dX3_tries_17 : decode cX3_tries 17 = .ok (.ifCond .eq 55, 3) := dk_153 0 55 (dk_at dksX3_tries_0 17 rfl rfl)
theorem dX3_tries_20 : decode cX3_tries 20 = .ok (.aload_n 0, 1) := dk_42 (dk_at dksX3_tries_0 20 rfl rfl)
theorem dX3_tries_21 : decode cX3_tries 21 = .ok (.invokevirtual 175, 3) := dk_182 0 175 (dk_at dksX3_tries_0 21 rfl rfl)
theorem dX3_tries_24 : decode cX3_tries 24 = .ok (.ifCond .eq 17, 3) := dk_153 0 17 (dk_at dksX3_tries_1 0 rfl rfl)
theorem dX3_tries_27 : decode cX3_tries 27 = .ok (.aload_n 0, 1) := dk_42 (dk_at dksX3_tries_1 3 rfl rfl)
theorem dX3_tries_28 : decode cX3_tries 28 = .ok (.sipush 287, 3) := dk_17 1 31 (dk_at dksX3_tries_1 4 rfl rfl)
theorem dX3_tries_31 : decode cX3_tries 31 = .ok (.invokevirtual 188, 3) := dk_182 0 188 (dk_at dksX3_tries_1 7 rfl rfl)
theorem dX3_tries_34 : decode cX3_tries 34 = .ok (.ifCond .eq 7, 3) := dk_153 0 7 (dk_at dksX3_tries_1 10 rfl rfl)
theorem dX3_tries_37 : decode cX3_tries 37 = .ok (.iconst 1, 1) := dk_4 (dk_at dksX3_tries_1 13 rfl rfl)
theorem dX3_tries_38 : decode cX3_tries 38 = .ok (.goto 4, 3) := dk_167 0 4 (dk_at dksX3_tries_1 14 rfl rfl)
theorem dX3_tries_41 : decode cX3_tries 41 = .ok (.iconst 0, 1) := dk_3 (dk_at dksX3_tries_1 17 rfl rfl)
theorem dX3_tries_42 : decode cX3_tries 42 = .ok (.istore_n 2, 1) := dk_61 (dk_at dksX3_tries_1 18 rfl rfl)
theorem dX3_tries_43 : decode cX3_tries 43 = .ok (.iload_n 2, 1) := dk_28 (dk_at dksX3_tries_1 19 rfl rfl)
theorem dX3_tries_44 : decode cX3_tries 44 = .ok (.ifCond .ne 8, 3) := dk_154 0 8 (dk_at dksX3_tries_1 20 rfl rfl)
theorem dX3_tries_47 : decode cX3_tries 47 = .ok (.aload_n 0, 1) := dk_42 (dk_at dksX3_tries_1 23 rfl rfl)
theorem dX3_tries_48 : decode cX3_tries 48 = .ok (.getfield 185, 3) := dk_180 0 185 (dk_at dksX3_tries_2 0 rfl rfl)
theorem dX3_tries_51 : decode cX3_tries 51 = .ok (.ireturn, 1) := dk_172 (dk_at dksX3_tries_2 3 rfl rfl)
theorem dX3_tries_52 : decode cX3_tries 52 = .ok (.aload_n 0, 1) := dk_42 (dk_at dksX3_tries_2 4 rfl rfl)
theorem dX3_tries_53 : decode cX3_tries 53 = .ok (.dup, 1) := dk_89 (dk_at dksX3_tries_2 5 rfl rfl)
theorem dX3_tries_54 : decode cX3_tries 54 = .ok (.getfield 185, 3) := dk_180 0 185 (dk_at dksX3_tries_2 6 rfl rfl)
theorem dX3_tries_57 : decode cX3_tries 57 = .ok (.iconst 1, 1) := dk_4 (dk_at dksX3_tries_2 9 rfl rfl)
theorem dX3_tries_58 : decode cX3_tries 58 = .ok (.iadd, 1) := dk_96 (dk_at dksX3_tries_2 10 rfl rfl)
theorem dX3_tries_59 : decode cX3_tries 59 = .ok (.putfield 185, 3) := dk_181 0 185 (dk_at dksX3_tries_2 11 rfl rfl)
theorem dX3_tries_62 : decode cX3_tries 62 = .ok (.aload_n 0, 1) := dk_42 (dk_at dksX3_tries_2 14 rfl rfl)
theorem dX3_tries_63 : decode cX3_tries 63 = .ok (.bipush 59, 2) := dk_16 59 (dk_at dksX3_tries_2 15 rfl rfl)
theorem dX3_tries_65 : decode cX3_tries 65 = .ok (.invokevirtual 169, 3) := dk_182 0 169 (dk_at dksX3_tries_2 17 rfl rfl)
theorem dX3_tries_68 : decode cX3_tries 68 = .ok (.istore_n 1, 1) := dk_60 (dk_at dksX3_tries_2 20 rfl rfl)
theorem dX3_tries_69 : decode cX3_tries 69 = .ok (.goto (-53), 3) := dk_167 255 203 (dk_at dksX3_tries_2 21 rfl rfl)
theorem dX3_tries_72 : decode cX3_tries 72 = .ok (.iconst (-1), 1) := dk_2 (dk_at dksX3_tries_3 0 rfl rfl)
theorem dX3_tries_73 : decode cX3_tries 73 = .ok (.ireturn, 1) := dk_172 (dk_at dksX3_tries_3 1 rfl rfl)
abbrev cX3_copies : ByteArray := prog_11_method_13_code
def yX3_copies : MethodName := ⟨RX3, "copies", "()V"⟩
def dkwX3_copies_1 : List UInt8 := [79, 132, 1, 1, 167, 255, 230, 177]
abbrev dktX3_copies_1 : List UInt8 := dkwX3_copies_1 ++ []
def dkwX3_copies_0 : List UInt8 := [3, 60, 27, 17, 1, 31, 162, 0, 25, 42, 180, 0, 7, 17, 1, 31, 27, 96, 42, 180, 0, 7, 27, 46]
abbrev dktX3_copies_0 : List UInt8 := dkwX3_copies_0 ++ dktX3_copies_1
theorem dksX3_copies_0 : cX3_copies.data.toList.drop 0 = dktX3_copies_0 := by decide +kernel
theorem dksX3_copies_1 : cX3_copies.data.toList.drop 24 = dktX3_copies_1 := dk_seg dksX3_copies_0 24 rfl rfl
theorem dX3_copies_0 : decode cX3_copies 0 = .ok (.iconst 0, 1) := dk_3 (dk_at dksX3_copies_0 0 rfl rfl)
theorem dX3_copies_1 : decode cX3_copies 1 = .ok (.istore_n 1, 1) := dk_60 (dk_at dksX3_copies_0 1 rfl rfl)
theorem dX3_copies_2 : decode cX3_copies 2 = .ok (.iload_n 1, 1) := dk_27 (dk_at dksX3_copies_0 2 rfl rfl)
theorem dX3_copies_3 : decode cX3_copies 3 = .ok (.sipush 287, 3) := dk_17 1 31 (dk_at dksX3_copies_0 3 rfl rfl)
theorem dX3_copies_6 : decode cX3_copies 6 = .ok (.if_icmp .ge 25, 3) := dk_162 0 25 (dk_at dksX3_copies_0 6 rfl rfl)
theorem dX3_copies_9 : decode cX3_copies 9 = .ok (.aload_n 0, 1) := dk_42 (dk_at dksX3_copies_0 9 rfl rfl)
theorem dX3_copies_10 : decode cX3_copies 10 = .ok (.getfield 7, 3) := dk_180 0 7 (dk_at dksX3_copies_0 10 rfl rfl)
theorem dX3_copies_13 : decode cX3_copies 13 = .ok (.sipush 287, 3) := dk_17 1 31 (dk_at dksX3_copies_0 13 rfl rfl)
theorem dX3_copies_16 : decode cX3_copies 16 = .ok (.iload_n 1, 1) := dk_27 (dk_at dksX3_copies_0 16 rfl rfl)
theorem dX3_copies_17 : decode cX3_copies 17 = .ok (.iadd, 1) := dk_96 (dk_at dksX3_copies_0 17 rfl rfl)
theorem dX3_copies_18 : decode cX3_copies 18 = .ok (.aload_n 0, 1) := dk_42 (dk_at dksX3_copies_0 18 rfl rfl)
theorem dX3_copies_19 : decode cX3_copies 19 = .ok (.getfield 7, 3) := dk_180 0 7 (dk_at dksX3_copies_0 19 rfl rfl)
theorem dX3_copies_22 : decode cX3_copies 22 = .ok (.iload_n 1, 1) := dk_27 (dk_at dksX3_copies_0 22 rfl rfl)
theorem dX3_copies_23 : decode cX3_copies 23 = .ok (.iaload, 1) := dk_46 (dk_at dksX3_copies_0 23 rfl rfl)
theorem dX3_copies_24 : decode cX3_copies 24 = .ok (.iastore, 1) := dk_79 (dk_at dksX3_copies_1 0 rfl rfl)
theorem dX3_copies_25 : decode cX3_copies 25 = .ok (.iinc 1 1, 3) := dk_132 1 1 (dk_at dksX3_copies_1 1 rfl rfl)
theorem dX3_copies_28 : decode cX3_copies 28 = .ok (.goto (-26), 3) := dk_167 255 230 (dk_at dksX3_copies_1 4 rfl rfl)
theorem dX3_copies_31 : decode cX3_copies 31 = .ok (.return_, 1) := dk_177 (dk_at dksX3_copies_1 7 rfl rfl)
abbrev cX3_carries : ByteArray := prog_11_method_60_code
def yX3_carries : MethodName := ⟨RX3, "carries", "(I)Z"⟩
def dkwX3_carries_8 : List UInt8 := [172]
abbrev dktX3_carries_8 : List UInt8 := dkwX3_carries_8 ++ []
def dkwX3_carries_7 : List UInt8 := [180, 0, 160, 182, 0, 144, 167, 0, 4, 3, 62, 28, 153, 0, 11, 29, 155, 0, 7, 4, 167, 0, 4, 3]
abbrev dktX3_carries_7 : List UInt8 := dkwX3_carries_7 ++ dktX3_carries_8
def dkwX3_carries_6 : List UInt8 := [180, 0, 160, 96, 17, 3, 231, 163, 0, 7, 4, 167, 0, 4, 3, 61, 28, 153, 0, 15, 42, 27, 42]
abbrev dktX3_carries_6 : List UInt8 := dkwX3_carries_6 ++ dktX3_carries_7
def dkwX3_carries_5 : List UInt8 := [180, 0, 7, 27, 5, 96, 42, 180, 0, 160, 79, 4, 172, 42, 180, 0, 7, 27, 3, 96, 46, 42]
abbrev dktX3_carries_5 : List UInt8 := dkwX3_carries_5 ++ dktX3_carries_6
def dkwX3_carries_4 : List UInt8 := [180, 0, 153, 96, 42, 180, 0, 160, 79, 4, 172, 42, 180, 0, 7, 27, 4, 96, 42, 180, 0, 153, 79, 42]
abbrev dktX3_carries_4 : List UInt8 := dkwX3_carries_4 ++ dktX3_carries_5
def dkwX3_carries_3 : List UInt8 := [42, 27, 42, 180, 0, 153, 42, 180, 0, 160, 182, 0, 64, 172, 42, 180, 0, 7, 27, 16, 7, 96, 42]
abbrev dktX3_carries_3 : List UInt8 := dkwX3_carries_3 ++ dktX3_carries_4
def dkwX3_carries_2 : List UInt8 := [42, 27, 42, 180, 0, 153, 182, 0, 57, 172, 42, 27, 42, 180, 0, 153, 42, 180, 0, 160, 182, 0, 61, 172]
abbrev dktX3_carries_2 : List UInt8 := dkwX3_carries_2 ++ dktX3_carries_3
def dkwX3_carries_1 : List UInt8 := [171, 0, 0, 0, 0, 0, 0, 136, 0, 0, 0, 5, 0, 0, 0, 99, 0, 0, 0, 62, 0, 0, 0, 104, 0, 0, 0, 90, 0, 0, 0, 108, 0, 0, 0, 52, 0, 0, 0, 115, 0, 0, 0, 76, 0, 0, 0, 116, 0, 0, 0, 110]
abbrev dktX3_carries_1 : List UInt8 := dkwX3_carries_1 ++ dktX3_carries_2
def dkwX3_carries_0 : List UInt8 := [42, 180, 0, 163]
abbrev dktX3_carries_0 : List UInt8 := dkwX3_carries_0 ++ dktX3_carries_1
theorem dksX3_carries_0 : cX3_carries.data.toList.drop 0 = dktX3_carries_0 := by decide +kernel
theorem dksX3_carries_1 : cX3_carries.data.toList.drop 4 = dktX3_carries_1 := dk_seg dksX3_carries_0 4 rfl rfl
theorem dksX3_carries_2 : cX3_carries.data.toList.drop 56 = dktX3_carries_2 := dk_seg dksX3_carries_1 52 rfl rfl
theorem dksX3_carries_3 : cX3_carries.data.toList.drop 80 = dktX3_carries_3 := dk_seg dksX3_carries_2 24 rfl rfl
theorem dksX3_carries_4 : cX3_carries.data.toList.drop 103 = dktX3_carries_4 := dk_seg dksX3_carries_3 23 rfl rfl
theorem dksX3_carries_5 : cX3_carries.data.toList.drop 127 = dktX3_carries_5 := dk_seg dksX3_carries_4 24 rfl rfl
theorem dksX3_carries_6 : cX3_carries.data.toList.drop 149 = dktX3_carries_6 := dk_seg dksX3_carries_5 22 rfl rfl
theorem dksX3_carries_7 : cX3_carries.data.toList.drop 172 = dktX3_carries_7 := dk_seg dksX3_carries_6 23 rfl rfl
theorem dksX3_carries_8 : cX3_carries.data.toList.drop 196 = dktX3_carries_8 := dk_seg dksX3_carries_7 24 rfl rfl
theorem dX3_carries_0 : decode cX3_carries 0 = .ok (.aload_n 0, 1) := dk_42 (dk_at dksX3_carries_0 0 rfl rfl)
theorem dX3_carries_1 : decode cX3_carries 1 = .ok (.getfield 163, 3) := dk_180 0 163 (dk_at dksX3_carries_0 1 rfl rfl)
theorem dX3_carries_4 : decode cX3_carries 4 = .ok (.lookupswitch 136 #[(99, 62), (104, 90), (108, 52), (115, 76), (116, 110)], 52) := by decide +kernel
theorem dX3_carries_56 : decode cX3_carries 56 = .ok (.aload_n 0, 1) := dk_42 (dk_at dksX3_carries_2 0 rfl rfl)
theorem dX3_carries_57 : decode cX3_carries 57 = .ok (.iload_n 1, 1) := dk_27 (dk_at dksX3_carries_2 1 rfl rfl)
theorem dX3_carries_58 : decode cX3_carries 58 = .ok (.aload_n 0, 1) := dk_42 (dk_at dksX3_carries_2 2 rfl rfl)
theorem dX3_carries_59 : decode cX3_carries 59 = .ok (.getfield 153, 3) := dk_180 0 153 (dk_at dksX3_carries_2 3 rfl rfl)
theorem dX3_carries_62 : decode cX3_carries 62 = .ok (.invokevirtual 57, 3) := dk_182 0 57 (dk_at dksX3_carries_2 6 rfl rfl)
theorem dX3_carries_65 : decode cX3_carries 65 = .ok (.ireturn, 1) := dk_172 (dk_at dksX3_carries_2 9 rfl rfl)
theorem dX3_carries_66 : decode cX3_carries 66 = .ok (.aload_n 0, 1) := dk_42 (dk_at dksX3_carries_2 10 rfl rfl)
theorem dX3_carries_67 : decode cX3_carries 67 = .ok (.iload_n 1, 1) := dk_27 (dk_at dksX3_carries_2 11 rfl rfl)
theorem dX3_carries_68 : decode cX3_carries 68 = .ok (.aload_n 0, 1) := dk_42 (dk_at dksX3_carries_2 12 rfl rfl)
theorem dX3_carries_69 : decode cX3_carries 69 = .ok (.getfield 153, 3) := dk_180 0 153 (dk_at dksX3_carries_2 13 rfl rfl)
theorem dX3_carries_72 : decode cX3_carries 72 = .ok (.aload_n 0, 1) := dk_42 (dk_at dksX3_carries_2 16 rfl rfl)
theorem dX3_carries_73 : decode cX3_carries 73 = .ok (.getfield 160, 3) := dk_180 0 160 (dk_at dksX3_carries_2 17 rfl rfl)
theorem dX3_carries_76 : decode cX3_carries 76 = .ok (.invokevirtual 61, 3) := dk_182 0 61 (dk_at dksX3_carries_2 20 rfl rfl)
theorem dX3_carries_79 : decode cX3_carries 79 = .ok (.ireturn, 1) := dk_172 (dk_at dksX3_carries_2 23 rfl rfl)
theorem dX3_carries_80 : decode cX3_carries 80 = .ok (.aload_n 0, 1) := dk_42 (dk_at dksX3_carries_3 0 rfl rfl)
theorem dX3_carries_81 : decode cX3_carries 81 = .ok (.iload_n 1, 1) := dk_27 (dk_at dksX3_carries_3 1 rfl rfl)
theorem dX3_carries_82 : decode cX3_carries 82 = .ok (.aload_n 0, 1) := dk_42 (dk_at dksX3_carries_3 2 rfl rfl)
theorem dX3_carries_83 : decode cX3_carries 83 = .ok (.getfield 153, 3) := dk_180 0 153 (dk_at dksX3_carries_3 3 rfl rfl)
theorem dX3_carries_86 : decode cX3_carries 86 = .ok (.aload_n 0, 1) := dk_42 (dk_at dksX3_carries_3 6 rfl rfl)
theorem dX3_carries_87 : decode cX3_carries 87 = .ok (.getfield 160, 3) := dk_180 0 160 (dk_at dksX3_carries_3 7 rfl rfl)
theorem dX3_carries_90 : decode cX3_carries 90 = .ok (.invokevirtual 64, 3) := dk_182 0 64 (dk_at dksX3_carries_3 10 rfl rfl)
theorem dX3_carries_93 : decode cX3_carries 93 = .ok (.ireturn, 1) := dk_172 (dk_at dksX3_carries_3 13 rfl rfl)
theorem dX3_carries_94 : decode cX3_carries 94 = .ok (.aload_n 0, 1) := dk_42 (dk_at dksX3_carries_3 14 rfl rfl)
theorem dX3_carries_95 : decode cX3_carries 95 = .ok (.getfield 7, 3) := dk_180 0 7 (dk_at dksX3_carries_3 15 rfl rfl)
theorem dX3_carries_98 : decode cX3_carries 98 = .ok (.iload_n 1, 1) := dk_27 (dk_at dksX3_carries_3 18 rfl rfl)
theorem dX3_carries_99 : decode cX3_carries 99 = .ok (.bipush 7, 2) := dk_16 7 (dk_at dksX3_carries_3 19 rfl rfl)
theorem dX3_carries_101 : decode cX3_carries 101 = .ok (.iadd, 1) := dk_96 (dk_at dksX3_carries_3 21 rfl rfl)
theorem dX3_carries_102 : decode cX3_carries 102 = .ok (.aload_n 0, 1) := dk_42 (dk_at dksX3_carries_3 22 rfl rfl)
theorem dX3_carries_103 : decode cX3_carries 103 = .ok (.getfield 153, 3) := dk_180 0 153 (dk_at dksX3_carries_4 0 rfl rfl)
theorem dX3_carries_106 : decode cX3_carries 106 = .ok (.iadd, 1) := dk_96 (dk_at dksX3_carries_4 3 rfl rfl)
theorem dX3_carries_107 : decode cX3_carries 107 = .ok (.aload_n 0, 1) := dk_42 (dk_at dksX3_carries_4 4 rfl rfl)
theorem dX3_carries_108 : decode cX3_carries 108 = .ok (.getfield 160, 3) := dk_180 0 160 (dk_at dksX3_carries_4 5 rfl rfl)
theorem dX3_carries_111 : decode cX3_carries 111 = .ok (.iastore, 1) := dk_79 (dk_at dksX3_carries_4 8 rfl rfl)
theorem dX3_carries_112 : decode cX3_carries 112 = .ok (.iconst 1, 1) := dk_4 (dk_at dksX3_carries_4 9 rfl rfl)
theorem dX3_carries_113 : decode cX3_carries 113 = .ok (.ireturn, 1) := dk_172 (dk_at dksX3_carries_4 10 rfl rfl)
theorem dX3_carries_114 : decode cX3_carries 114 = .ok (.aload_n 0, 1) := dk_42 (dk_at dksX3_carries_4 11 rfl rfl)
theorem dX3_carries_115 : decode cX3_carries 115 = .ok (.getfield 7, 3) := dk_180 0 7 (dk_at dksX3_carries_4 12 rfl rfl)
theorem dX3_carries_118 : decode cX3_carries 118 = .ok (.iload_n 1, 1) := dk_27 (dk_at dksX3_carries_4 15 rfl rfl)
theorem dX3_carries_119 : decode cX3_carries 119 = .ok (.iconst 1, 1) := dk_4 (dk_at dksX3_carries_4 16 rfl rfl)
theorem dX3_carries_120 : decode cX3_carries 120 = .ok (.iadd, 1) := dk_96 (dk_at dksX3_carries_4 17 rfl rfl)
theorem dX3_carries_121 : decode cX3_carries 121 = .ok (.aload_n 0, 1) := dk_42 (dk_at dksX3_carries_4 18 rfl rfl)
theorem dX3_carries_122 : decode cX3_carries 122 = .ok (.getfield 153, 3) := dk_180 0 153 (dk_at dksX3_carries_4 19 rfl rfl)
theorem dX3_carries_125 : decode cX3_carries 125 = .ok (.iastore, 1) := dk_79 (dk_at dksX3_carries_4 22 rfl rfl)
theorem dX3_carries_126 : decode cX3_carries 126 = .ok (.aload_n 0, 1) := dk_42 (dk_at dksX3_carries_4 23 rfl rfl)
theorem dX3_carries_127 : decode cX3_carries 127 = .ok (.getfield 7, 3) := dk_180 0 7 (dk_at dksX3_carries_5 0 rfl rfl)
theorem dX3_carries_130 : decode cX3_carries 130 = .ok (.iload_n 1, 1) := dk_27 (dk_at dksX3_carries_5 3 rfl rfl)
theorem dX3_carries_131 : decode cX3_carries 131 = .ok (.iconst 2, 1) := dk_5 (dk_at dksX3_carries_5 4 rfl rfl)
theorem dX3_carries_132 : decode cX3_carries 132 = .ok (.iadd, 1) := dk_96 (dk_at dksX3_carries_5 5 rfl rfl)
theorem dX3_carries_133 : decode cX3_carries 133 = .ok (.aload_n 0, 1) := dk_42 (dk_at dksX3_carries_5 6 rfl rfl)
theorem dX3_carries_134 : decode cX3_carries 134 = .ok (.getfield 160, 3) := dk_180 0 160 (dk_at dksX3_carries_5 7 rfl rfl)
theorem dX3_carries_137 : decode cX3_carries 137 = .ok (.iastore, 1) := dk_79 (dk_at dksX3_carries_5 10 rfl rfl)
theorem dX3_carries_138 : decode cX3_carries 138 = .ok (.iconst 1, 1) := dk_4 (dk_at dksX3_carries_5 11 rfl rfl)
theorem dX3_carries_139 : decode cX3_carries 139 = .ok (.ireturn, 1) := dk_172 (dk_at dksX3_carries_5 12 rfl rfl)
theorem dX3_carries_140 : decode cX3_carries 140 = .ok (.aload_n 0, 1) := dk_42 (dk_at dksX3_carries_5 13 rfl rfl)
theorem dX3_carries_141 : decode cX3_carries 141 = .ok (.getfield 7, 3) := dk_180 0 7 (dk_at dksX3_carries_5 14 rfl rfl)
theorem dX3_carries_144 : decode cX3_carries 144 = .ok (.iload_n 1, 1) := dk_27 (dk_at dksX3_carries_5 17 rfl rfl)
theorem dX3_carries_145 : decode cX3_carries 145 = .ok (.iconst 0, 1) := dk_3 (dk_at dksX3_carries_5 18 rfl rfl)
theorem dX3_carries_146 : decode cX3_carries 146 = .ok (.iadd, 1) := dk_96 (dk_at dksX3_carries_5 19 rfl rfl)
theorem dX3_carries_147 : decode cX3_carries 147 = .ok (.iaload, 1) := dk_46 (dk_at dksX3_carries_5 20 rfl rfl)
theorem dX3_carries_148 : decode cX3_carries 148 = .ok (.aload_n 0, 1) := dk_42 (dk_at dksX3_carries_5 21 rfl rfl)
theorem dX3_carries_149 : decode cX3_carries 149 = .ok (.getfield 160, 3) := dk_180 0 160 (dk_at dksX3_carries_6 0 rfl rfl)
theorem dX3_carries_152 : decode cX3_carries 152 = .ok (.iadd, 1) := dk_96 (dk_at dksX3_carries_6 3 rfl rfl)
theorem dX3_carries_153 : decode cX3_carries 153 = .ok (.sipush 999, 3) := dk_17 3 231 (dk_at dksX3_carries_6 4 rfl rfl)
theorem dX3_carries_156 : decode cX3_carries 156 = .ok (.if_icmp .gt 7, 3) := dk_163 0 7 (dk_at dksX3_carries_6 7 rfl rfl)
theorem dX3_carries_159 : decode cX3_carries 159 = .ok (.iconst 1, 1) := dk_4 (dk_at dksX3_carries_6 10 rfl rfl)
theorem dX3_carries_160 : decode cX3_carries 160 = .ok (.goto 4, 3) := dk_167 0 4 (dk_at dksX3_carries_6 11 rfl rfl)
theorem dX3_carries_163 : decode cX3_carries 163 = .ok (.iconst 0, 1) := dk_3 (dk_at dksX3_carries_6 14 rfl rfl)
theorem dX3_carries_164 : decode cX3_carries 164 = .ok (.istore_n 2, 1) := dk_61 (dk_at dksX3_carries_6 15 rfl rfl)
theorem dX3_carries_165 : decode cX3_carries 165 = .ok (.iload_n 2, 1) := dk_28 (dk_at dksX3_carries_6 16 rfl rfl)
theorem dX3_carries_166 : decode cX3_carries 166 = .ok (.ifCond .eq 15, 3) := dk_153 0 15 (dk_at dksX3_carries_6 17 rfl rfl)
theorem dX3_carries_169 : decode cX3_carries 169 = .ok (.aload_n 0, 1) := dk_42 (dk_at dksX3_carries_6 20 rfl rfl)
theorem dX3_carries_170 : decode cX3_carries 170 = .ok (.iload_n 1, 1) := dk_27 (dk_at dksX3_carries_6 21 rfl rfl)
theorem dX3_carries_171 : decode cX3_carries 171 = .ok (.aload_n 0, 1) := dk_42 (dk_at dksX3_carries_6 22 rfl rfl)
theorem dX3_carries_172 : decode cX3_carries 172 = .ok (.getfield 160, 3) := dk_180 0 160 (dk_at dksX3_carries_7 0 rfl rfl)
theorem dX3_carries_175 : decode cX3_carries 175 = .ok (.invokevirtual 144, 3) := dk_182 0 144 (dk_at dksX3_carries_7 3 rfl rfl)
theorem dX3_carries_178 : decode cX3_carries 178 = .ok (.goto 4, 3) := dk_167 0 4 (dk_at dksX3_carries_7 6 rfl rfl)
theorem dX3_carries_181 : decode cX3_carries 181 = .ok (.iconst 0, 1) := dk_3 (dk_at dksX3_carries_7 9 rfl rfl)
theorem dX3_carries_182 : decode cX3_carries 182 = .ok (.istore_n 3, 1) := dk_62 (dk_at dksX3_carries_7 10 rfl rfl)
theorem dX3_carries_183 : decode cX3_carries 183 = .ok (.iload_n 2, 1) := dk_28 (dk_at dksX3_carries_7 11 rfl rfl)
theorem dX3_carries_184 : decode cX3_carries 184 = .ok (.ifCond .eq 11, 3) := dk_153 0 11 (dk_at dksX3_carries_7 12 rfl rfl)
theorem dX3_carries_187 : decode cX3_carries 187 = .ok (.iload_n 3, 1) := dk_29 (dk_at dksX3_carries_7 15 rfl rfl)
theorem dX3_carries_188 : decode cX3_carries 188 = .ok (.ifCond .lt 7, 3) := dk_155 0 7 (dk_at dksX3_carries_7 16 rfl rfl)
theorem dX3_carries_191 : decode cX3_carries 191 = .ok (.iconst 1, 1) := dk_4 (dk_at dksX3_carries_7 19 rfl rfl)
theorem dX3_carries_192 : decode cX3_carries 192 = .ok (.goto 4, 3) := dk_167 0 4 (dk_at dksX3_carries_7 20 rfl rfl)
theorem dX3_carries_195 : decode cX3_carries 195 = .ok (.iconst 0, 1) := dk_3 (dk_at dksX3_carries_7 23 rfl rfl)
theorem dX3_carries_196 : decode cX3_carries 196 = .ok (.ireturn, 1) := dk_172 (dk_at dksX3_carries_8 0 rfl rfl)
abbrev cX3_carryOut : ByteArray := prog_11_method_63_code
def yX3_carryOut : MethodName := ⟨RX3, "carryOut", "()I"⟩
def dkwX3_carryOut_3 : List UInt8 := [132, 2, 1, 167, 255, 230, 42, 180, 0, 185, 172]
abbrev dktX3_carryOut_3 : List UInt8 := dkwX3_carryOut_3 ++ []
def dkwX3_carryOut_2 : List UInt8 := [17, 1, 31, 162, 0, 25, 42, 180, 0, 7, 28, 42, 180, 0, 7, 17, 1, 31, 28, 96, 46, 79]
abbrev dktX3_carryOut_2 : List UInt8 := dkwX3_carryOut_2 ++ dktX3_carryOut_3
def dkwX3_carryOut_1 : List UInt8 := [153, 0, 7, 3, 167, 0, 4, 4, 182, 0, 54, 153, 0, 5, 3, 172, 42, 182, 0, 33, 3, 61, 28]
abbrev dktX3_carryOut_1 : List UInt8 := dkwX3_carryOut_1 ++ dktX3_carryOut_2
def dkwX3_carryOut_0 : List UInt8 := [42, 182, 0, 178, 2, 160, 0, 15, 42, 182, 0, 191, 2, 160, 0, 7, 4, 167, 0, 4, 3, 60, 42, 27]
abbrev dktX3_carryOut_0 : List UInt8 := dkwX3_carryOut_0 ++ dktX3_carryOut_1
theorem dksX3_carryOut_0 : cX3_carryOut.data.toList.drop 0 = dktX3_carryOut_0 := by decide +kernel
theorem dksX3_carryOut_1 : cX3_carryOut.data.toList.drop 24 = dktX3_carryOut_1 := dk_seg dksX3_carryOut_0 24 rfl rfl
theorem dksX3_carryOut_2 : cX3_carryOut.data.toList.drop 47 = dktX3_carryOut_2 := dk_seg dksX3_carryOut_1 23 rfl rfl
theorem dksX3_carryOut_3 : cX3_carryOut.data.toList.drop 69 = dktX3_carryOut_3 := dk_seg dksX3_carryOut_2 22 rfl rfl
theorem dX3_carryOut_0 : decode cX3_carryOut 0 = .ok (.aload_n 0, 1) := dk_42 (dk_at dksX3_carryOut_0 0 rfl rfl)
theorem dX3_carryOut_1 : decode cX3_carryOut 1 = .ok (.invokevirtual 178, 3) := dk_182 0 178 (dk_at dksX3_carryOut_0 1 rfl rfl)
theorem dX3_carryOut_4 : decode cX3_carryOut 4 = .ok (.iconst (-1), 1) := dk_2 (dk_at dksX3_carryOut_0 4 rfl rfl)
theorem dX3_carryOut_5 : decode cX3_carryOut 5 = .ok (.if_icmp .ne 15, 3) := dk_160 0 15 (dk_at dksX3_carryOut_0 5 rfl rfl)
theorem dX3_carryOut_8 : decode cX3_carryOut 8 = .ok (.aload_n 0, 1) := dk_42 (dk_at dksX3_carryOut_0 8 rfl rfl)
theorem dX3_carryOut_9 : decode cX3_carryOut 9 = .ok (.invokevirtual 191, 3) := dk_182 0 191 (dk_at dksX3_carryOut_0 9 rfl rfl)
theorem dX3_carryOut_12 : decode cX3_carryOut 12 = .ok (.iconst (-1), 1) := dk_2 (dk_at dksX3_carryOut_0 12 rfl rfl)
theorem dX3_carryOut_13 : decode cX3_carryOut 13 = .ok (.if_icmp .ne 7, 3) := dk_160 0 7 (dk_at dksX3_carryOut_0 13 rfl rfl)
theorem dX3_carryOut_16 : decode cX3_carryOut 16 = .ok (.iconst 1, 1) := dk_4 (dk_at dksX3_carryOut_0 16 rfl rfl)
theorem dX3_carryOut_17 : decode cX3_carryOut 17 = .ok (.goto 4, 3) := dk_167 0 4 (dk_at dksX3_carryOut_0 17 rfl rfl)
theorem dX3_carryOut_20 : decode cX3_carryOut 20 = .ok (.iconst 0, 1) := dk_3 (dk_at dksX3_carryOut_0 20 rfl rfl)
theorem dX3_carryOut_21 : decode cX3_carryOut 21 = .ok (.istore_n 1, 1) := dk_60 (dk_at dksX3_carryOut_0 21 rfl rfl)
theorem dX3_carryOut_22 : decode cX3_carryOut 22 = .ok (.aload_n 0, 1) := dk_42 (dk_at dksX3_carryOut_0 22 rfl rfl)
theorem dX3_carryOut_23 : decode cX3_carryOut 23 = .ok (.iload_n 1, 1) := dk_27 (dk_at dksX3_carryOut_0 23 rfl rfl)
theorem dX3_carryOut_24 : decode cX3_carryOut 24 = .ok (.ifCond .eq 7, 3) := dk_153 0 7 (dk_at dksX3_carryOut_1 0 rfl rfl)
theorem dX3_carryOut_27 : decode cX3_carryOut 27 = .ok (.iconst 0, 1) := dk_3 (dk_at dksX3_carryOut_1 3 rfl rfl)
theorem dX3_carryOut_28 : decode cX3_carryOut 28 = .ok (.goto 4, 3) := dk_167 0 4 (dk_at dksX3_carryOut_1 4 rfl rfl)
theorem dX3_carryOut_31 : decode cX3_carryOut 31 = .ok (.iconst 1, 1) := dk_4 (dk_at dksX3_carryOut_1 7 rfl rfl)
theorem dX3_carryOut_32 : decode cX3_carryOut 32 = .ok (.invokevirtual 54, 3) := dk_182 0 54 (dk_at dksX3_carryOut_1 8 rfl rfl)
theorem dX3_carryOut_35 : decode cX3_carryOut 35 = .ok (.ifCond .eq 5, 3) := dk_153 0 5 (dk_at dksX3_carryOut_1 11 rfl rfl)
theorem dX3_carryOut_38 : decode cX3_carryOut 38 = .ok (.iconst 0, 1) := dk_3 (dk_at dksX3_carryOut_1 14 rfl rfl)
theorem dX3_carryOut_39 : decode cX3_carryOut 39 = .ok (.ireturn, 1) := dk_172 (dk_at dksX3_carryOut_1 15 rfl rfl)
theorem dX3_carryOut_40 : decode cX3_carryOut 40 = .ok (.aload_n 0, 1) := dk_42 (dk_at dksX3_carryOut_1 16 rfl rfl)
theorem dX3_carryOut_41 : decode cX3_carryOut 41 = .ok (.invokevirtual 33, 3) := dk_182 0 33 (dk_at dksX3_carryOut_1 17 rfl rfl)
theorem dX3_carryOut_44 : decode cX3_carryOut 44 = .ok (.iconst 0, 1) := dk_3 (dk_at dksX3_carryOut_1 20 rfl rfl)
theorem dX3_carryOut_45 : decode cX3_carryOut 45 = .ok (.istore_n 2, 1) := dk_61 (dk_at dksX3_carryOut_1 21 rfl rfl)
theorem dX3_carryOut_46 : decode cX3_carryOut 46 = .ok (.iload_n 2, 1) := dk_28 (dk_at dksX3_carryOut_1 22 rfl rfl)
theorem dX3_carryOut_47 : decode cX3_carryOut 47 = .ok (.sipush 287, 3) := dk_17 1 31 (dk_at dksX3_carryOut_2 0 rfl rfl)
theorem dX3_carryOut_50 : decode cX3_carryOut 50 = .ok (.if_icmp .ge 25, 3) := dk_162 0 25 (dk_at dksX3_carryOut_2 3 rfl rfl)
theorem dX3_carryOut_53 : decode cX3_carryOut 53 = .ok (.aload_n 0, 1) := dk_42 (dk_at dksX3_carryOut_2 6 rfl rfl)
theorem dX3_carryOut_54 : decode cX3_carryOut 54 = .ok (.getfield 7, 3) := dk_180 0 7 (dk_at dksX3_carryOut_2 7 rfl rfl)
theorem dX3_carryOut_57 : decode cX3_carryOut 57 = .ok (.iload_n 2, 1) := dk_28 (dk_at dksX3_carryOut_2 10 rfl rfl)
theorem dX3_carryOut_58 : decode cX3_carryOut 58 = .ok (.aload_n 0, 1) := dk_42 (dk_at dksX3_carryOut_2 11 rfl rfl)
theorem dX3_carryOut_59 : decode cX3_carryOut 59 = .ok (.getfield 7, 3) := dk_180 0 7 (dk_at dksX3_carryOut_2 12 rfl rfl)
theorem dX3_carryOut_62 : decode cX3_carryOut 62 = .ok (.sipush 287, 3) := dk_17 1 31 (dk_at dksX3_carryOut_2 15 rfl rfl)
theorem dX3_carryOut_65 : decode cX3_carryOut 65 = .ok (.iload_n 2, 1) := dk_28 (dk_at dksX3_carryOut_2 18 rfl rfl)
theorem dX3_carryOut_66 : decode cX3_carryOut 66 = .ok (.iadd, 1) := dk_96 (dk_at dksX3_carryOut_2 19 rfl rfl)
theorem dX3_carryOut_67 : decode cX3_carryOut 67 = .ok (.iaload, 1) := dk_46 (dk_at dksX3_carryOut_2 20 rfl rfl)
theorem dX3_carryOut_68 : decode cX3_carryOut 68 = .ok (.iastore, 1) := dk_79 (dk_at dksX3_carryOut_2 21 rfl rfl)
theorem dX3_carryOut_69 : decode cX3_carryOut 69 = .ok (.iinc 2 1, 3) := dk_132 2 1 (dk_at dksX3_carryOut_3 0 rfl rfl)
theorem dX3_carryOut_72 : decode cX3_carryOut 72 = .ok (.goto (-26), 3) := dk_167 255 230 (dk_at dksX3_carryOut_3 3 rfl rfl)
theorem dX3_carryOut_75 : decode cX3_carryOut 75 = .ok (.aload_n 0, 1) := dk_42 (dk_at dksX3_carryOut_3 6 rfl rfl)
theorem dX3_carryOut_76 : decode cX3_carryOut 76 = .ok (.getfield 185, 3) := dk_180 0 185 (dk_at dksX3_carryOut_3 7 rfl rfl)
theorem dX3_carryOut_79 : decode cX3_carryOut 79 = .ok (.ireturn, 1) := dk_172 (dk_at dksX3_carryOut_3 10 rfl rfl)
abbrev cX3_undo : ByteArray := prog_11_method_64_code
def yX3_undo : MethodName := ⟨RX3, "undo", "()I"⟩
def dkwX3_undo_3 : List UInt8 := [180, 0, 30, 172]
abbrev dktX3_undo_3 : List UInt8 := dkwX3_undo_3 ++ []
def dkwX3_undo_2 : List UInt8 := [180, 0, 13, 17, 1, 31, 42, 180, 0, 30, 104, 27, 96, 46, 79, 132, 1, 1, 167, 255, 225, 42]
abbrev dktX3_undo_2 : List UInt8 := dkwX3_undo_2 ++ dktX3_undo_3
def dkwX3_undo_1 : List UInt8 := [180, 0, 30, 4, 100, 181, 0, 30, 3, 60, 27, 17, 1, 31, 162, 0, 30, 42, 180, 0, 7, 27, 42]
abbrev dktX3_undo_1 : List UInt8 := dkwX3_undo_1 ++ dktX3_undo_2
def dkwX3_undo_0 : List UInt8 := [42, 42, 180, 0, 30, 154, 0, 7, 4, 167, 0, 4, 3, 182, 0, 54, 153, 0, 5, 3, 172, 42, 89]
abbrev dktX3_undo_0 : List UInt8 := dkwX3_undo_0 ++ dktX3_undo_1
theorem dksX3_undo_0 : cX3_undo.data.toList.drop 0 = dktX3_undo_0 := by decide +kernel
theorem dksX3_undo_1 : cX3_undo.data.toList.drop 23 = dktX3_undo_1 := dk_seg dksX3_undo_0 23 rfl rfl
theorem dksX3_undo_2 : cX3_undo.data.toList.drop 46 = dktX3_undo_2 := dk_seg dksX3_undo_1 23 rfl rfl
theorem dksX3_undo_3 : cX3_undo.data.toList.drop 68 = dktX3_undo_3 := dk_seg dksX3_undo_2 22 rfl rfl
theorem dX3_undo_0 : decode cX3_undo 0 = .ok (.aload_n 0, 1) := dk_42 (dk_at dksX3_undo_0 0 rfl rfl)
theorem dX3_undo_1 : decode cX3_undo 1 = .ok (.aload_n 0, 1) := dk_42 (dk_at dksX3_undo_0 1 rfl rfl)
theorem dX3_undo_2 : decode cX3_undo 2 = .ok (.getfield 30, 3) := dk_180 0 30 (dk_at dksX3_undo_0 2 rfl rfl)
theorem dX3_undo_5 : decode cX3_undo 5 = .ok (.ifCond .ne 7, 3) := dk_154 0 7 (dk_at dksX3_undo_0 5 rfl rfl)
theorem dX3_undo_8 : decode cX3_undo 8 = .ok (.iconst 1, 1) := dk_4 (dk_at dksX3_undo_0 8 rfl rfl)
theorem dX3_undo_9 : decode cX3_undo 9 = .ok (.goto 4, 3) := dk_167 0 4 (dk_at dksX3_undo_0 9 rfl rfl)
theorem dX3_undo_12 : decode cX3_undo 12 = .ok (.iconst 0, 1) := dk_3 (dk_at dksX3_undo_0 12 rfl rfl)
theorem dX3_undo_13 : decode cX3_undo 13 = .ok (.invokevirtual 54, 3) := dk_182 0 54 (dk_at dksX3_undo_0 13 rfl rfl)
theorem dX3_undo_16 : decode cX3_undo 16 = .ok (.ifCond .eq 5, 3) := dk_153 0 5 (dk_at dksX3_undo_0 16 rfl rfl)
theorem dX3_undo_19 : decode cX3_undo 19 = .ok (.iconst 0, 1) := dk_3 (dk_at dksX3_undo_0 19 rfl rfl)
theorem dX3_undo_20 : decode cX3_undo 20 = .ok (.ireturn, 1) := dk_172 (dk_at dksX3_undo_0 20 rfl rfl)
theorem dX3_undo_21 : decode cX3_undo 21 = .ok (.aload_n 0, 1) := dk_42 (dk_at dksX3_undo_0 21 rfl rfl)
theorem dX3_undo_22 : decode cX3_undo 22 = .ok (.dup, 1) := dk_89 (dk_at dksX3_undo_0 22 rfl rfl)
theorem dX3_undo_23 : decode cX3_undo 23 = .ok (.getfield 30, 3) := dk_180 0 30 (dk_at dksX3_undo_1 0 rfl rfl)
theorem dX3_undo_26 : decode cX3_undo 26 = .ok (.iconst 1, 1) := dk_4 (dk_at dksX3_undo_1 3 rfl rfl)
theorem dX3_undo_27 : decode cX3_undo 27 = .ok (.isub, 1) := dk_100 (dk_at dksX3_undo_1 4 rfl rfl)
theorem dX3_undo_28 : decode cX3_undo 28 = .ok (.putfield 30, 3) := dk_181 0 30 (dk_at dksX3_undo_1 5 rfl rfl)
theorem dX3_undo_31 : decode cX3_undo 31 = .ok (.iconst 0, 1) := dk_3 (dk_at dksX3_undo_1 8 rfl rfl)
theorem dX3_undo_32 : decode cX3_undo 32 = .ok (.istore_n 1, 1) := dk_60 (dk_at dksX3_undo_1 9 rfl rfl)
theorem dX3_undo_33 : decode cX3_undo 33 = .ok (.iload_n 1, 1) := dk_27 (dk_at dksX3_undo_1 10 rfl rfl)
theorem dX3_undo_34 : decode cX3_undo 34 = .ok (.sipush 287, 3) := dk_17 1 31 (dk_at dksX3_undo_1 11 rfl rfl)
theorem dX3_undo_37 : decode cX3_undo 37 = .ok (.if_icmp .ge 30, 3) := dk_162 0 30 (dk_at dksX3_undo_1 14 rfl rfl)
theorem dX3_undo_40 : decode cX3_undo 40 = .ok (.aload_n 0, 1) := dk_42 (dk_at dksX3_undo_1 17 rfl rfl)
theorem dX3_undo_41 : decode cX3_undo 41 = .ok (.getfield 7, 3) := dk_180 0 7 (dk_at dksX3_undo_1 18 rfl rfl)
theorem dX3_undo_44 : decode cX3_undo 44 = .ok (.iload_n 1, 1) := dk_27 (dk_at dksX3_undo_1 21 rfl rfl)
theorem dX3_undo_45 : decode cX3_undo 45 = .ok (.aload_n 0, 1) := dk_42 (dk_at dksX3_undo_1 22 rfl rfl)
theorem dX3_undo_46 : decode cX3_undo 46 = .ok (.getfield 13, 3) := dk_180 0 13 (dk_at dksX3_undo_2 0 rfl rfl)
theorem dX3_undo_49 : decode cX3_undo 49 = .ok (.sipush 287, 3) := dk_17 1 31 (dk_at dksX3_undo_2 3 rfl rfl)
theorem dX3_undo_52 : decode cX3_undo 52 = .ok (.aload_n 0, 1) := dk_42 (dk_at dksX3_undo_2 6 rfl rfl)
theorem dX3_undo_53 : decode cX3_undo 53 = .ok (.getfield 30, 3) := dk_180 0 30 (dk_at dksX3_undo_2 7 rfl rfl)
theorem dX3_undo_56 : decode cX3_undo 56 = .ok (.imul, 1) := dk_104 (dk_at dksX3_undo_2 10 rfl rfl)
theorem dX3_undo_57 : decode cX3_undo 57 = .ok (.iload_n 1, 1) := dk_27 (dk_at dksX3_undo_2 11 rfl rfl)
theorem dX3_undo_58 : decode cX3_undo 58 = .ok (.iadd, 1) := dk_96 (dk_at dksX3_undo_2 12 rfl rfl)
theorem dX3_undo_59 : decode cX3_undo 59 = .ok (.iaload, 1) := dk_46 (dk_at dksX3_undo_2 13 rfl rfl)
theorem dX3_undo_60 : decode cX3_undo 60 = .ok (.iastore, 1) := dk_79 (dk_at dksX3_undo_2 14 rfl rfl)
theorem dX3_undo_61 : decode cX3_undo 61 = .ok (.iinc 1 1, 3) := dk_132 1 1 (dk_at dksX3_undo_2 15 rfl rfl)
theorem dX3_undo_64 : decode cX3_undo 64 = .ok (.goto (-31), 3) := dk_167 255 225 (dk_at dksX3_undo_2 18 rfl rfl)
theorem dX3_undo_67 : decode cX3_undo 67 = .ok (.aload_n 0, 1) := dk_42 (dk_at dksX3_undo_2 21 rfl rfl)
theorem dX3_undo_68 : decode cX3_undo 68 = .ok (.getfield 30, 3) := dk_180 0 30 (dk_at dksX3_undo_3 0 rfl rfl)
theorem dX3_undo_71 : decode cX3_undo 71 = .ok (.ireturn, 1) := dk_172 (dk_at dksX3_undo_3 3 rfl rfl)
abbrev cX3_takeSnapshot : ByteArray := prog_11_method_65_code
def yX3_takeSnapshot : MethodName := ⟨RX3, "takeSnapshot", "()I"⟩
def dkwX3_takeSnapshot_1 : List UInt8 := [46, 79, 132, 1, 1, 167, 255, 234, 42, 4, 181, 0, 194, 42, 180, 0, 7, 3, 46, 172]
abbrev dktX3_takeSnapshot_1 : List UInt8 := dkwX3_takeSnapshot_1 ++ []
def dkwX3_takeSnapshot_0 : List UInt8 := [42, 3, 181, 0, 22, 3, 60, 27, 17, 1, 31, 162, 0, 21, 42, 180, 0, 16, 27, 42, 180, 0, 7, 27]
abbrev dktX3_takeSnapshot_0 : List UInt8 := dkwX3_takeSnapshot_0 ++ dktX3_takeSnapshot_1
theorem dksX3_takeSnapshot_0 : cX3_takeSnapshot.data.toList.drop 0 = dktX3_takeSnapshot_0 := by decide +kernel
theorem dksX3_takeSnapshot_1 : cX3_takeSnapshot.data.toList.drop 24 = dktX3_takeSnapshot_1 := dk_seg dksX3_takeSnapshot_0 24 rfl rfl
theorem dX3_takeSnapshot_0 : decode cX3_takeSnapshot 0 = .ok (.aload_n 0, 1) := dk_42 (dk_at dksX3_takeSnapshot_0 0 rfl rfl)
theorem dX3_takeSnapshot_1 : decode cX3_takeSnapshot 1 = .ok (.iconst 0, 1) := dk_3 (dk_at dksX3_takeSnapshot_0 1 rfl rfl)
theorem dX3_takeSnapshot_2 : decode cX3_takeSnapshot 2 = .ok (.putfield 22, 3) := dk_181 0 22 (dk_at dksX3_takeSnapshot_0 2 rfl rfl)
theorem dX3_takeSnapshot_5 : decode cX3_takeSnapshot 5 = .ok (.iconst 0, 1) := dk_3 (dk_at dksX3_takeSnapshot_0 5 rfl rfl)
theorem dX3_takeSnapshot_6 : decode cX3_takeSnapshot 6 = .ok (.istore_n 1, 1) := dk_60 (dk_at dksX3_takeSnapshot_0 6 rfl rfl)
theorem dX3_takeSnapshot_7 : decode cX3_takeSnapshot 7 = .ok (.iload_n 1, 1) := dk_27 (dk_at dksX3_takeSnapshot_0 7 rfl rfl)
theorem dX3_takeSnapshot_8 : decode cX3_takeSnapshot 8 = .ok (.sipush 287, 3) := dk_17 1 31 (dk_at dksX3_takeSnapshot_0 8 rfl rfl)
theorem dX3_takeSnapshot_11 : decode cX3_takeSnapshot 11 = .ok (.if_icmp .ge 21, 3) := dk_162 0 21 (dk_at dksX3_takeSnapshot_0 11 rfl rfl)
theorem dX3_takeSnapshot_14 : decode cX3_takeSnapshot 14 = .ok (.aload_n 0, 1) := dk_42 (dk_at dksX3_takeSnapshot_0 14 rfl rfl)
theorem dX3_takeSnapshot_15 : decode cX3_takeSnapshot 15 = .ok (.getfield 16, 3) := dk_180 0 16 (dk_at dksX3_takeSnapshot_0 15 rfl rfl)
theorem dX3_takeSnapshot_18 : decode cX3_takeSnapshot 18 = .ok (.iload_n 1, 1) := dk_27 (dk_at dksX3_takeSnapshot_0 18 rfl rfl)
theorem dX3_takeSnapshot_19 : decode cX3_takeSnapshot 19 = .ok (.aload_n 0, 1) := dk_42 (dk_at dksX3_takeSnapshot_0 19 rfl rfl)
theorem dX3_takeSnapshot_20 : decode cX3_takeSnapshot 20 = .ok (.getfield 7, 3) := dk_180 0 7 (dk_at dksX3_takeSnapshot_0 20 rfl rfl)
theorem dX3_takeSnapshot_23 : decode cX3_takeSnapshot 23 = .ok (.iload_n 1, 1) := dk_27 (dk_at dksX3_takeSnapshot_0 23 rfl rfl)
theorem dX3_takeSnapshot_24 : decode cX3_takeSnapshot 24 = .ok (.iaload, 1) := dk_46 (dk_at dksX3_takeSnapshot_1 0 rfl rfl)
theorem dX3_takeSnapshot_25 : decode cX3_takeSnapshot 25 = .ok (.iastore, 1) := dk_79 (dk_at dksX3_takeSnapshot_1 1 rfl rfl)
theorem dX3_takeSnapshot_26 : decode cX3_takeSnapshot 26 = .ok (.iinc 1 1, 3) := dk_132 1 1 (dk_at dksX3_takeSnapshot_1 2 rfl rfl)
theorem dX3_takeSnapshot_29 : decode cX3_takeSnapshot 29 = .ok (.goto (-22), 3) := dk_167 255 234 (dk_at dksX3_takeSnapshot_1 5 rfl rfl)
theorem dX3_takeSnapshot_32 : decode cX3_takeSnapshot 32 = .ok (.aload_n 0, 1) := dk_42 (dk_at dksX3_takeSnapshot_1 8 rfl rfl)
theorem dX3_takeSnapshot_33 : decode cX3_takeSnapshot 33 = .ok (.iconst 1, 1) := dk_4 (dk_at dksX3_takeSnapshot_1 9 rfl rfl)
theorem dX3_takeSnapshot_34 : decode cX3_takeSnapshot 34 = .ok (.putfield 194, 3) := dk_181 0 194 (dk_at dksX3_takeSnapshot_1 10 rfl rfl)
theorem dX3_takeSnapshot_37 : decode cX3_takeSnapshot 37 = .ok (.aload_n 0, 1) := dk_42 (dk_at dksX3_takeSnapshot_1 13 rfl rfl)
theorem dX3_takeSnapshot_38 : decode cX3_takeSnapshot 38 = .ok (.getfield 7, 3) := dk_180 0 7 (dk_at dksX3_takeSnapshot_1 14 rfl rfl)
theorem dX3_takeSnapshot_41 : decode cX3_takeSnapshot 41 = .ok (.iconst 0, 1) := dk_3 (dk_at dksX3_takeSnapshot_1 17 rfl rfl)
theorem dX3_takeSnapshot_42 : decode cX3_takeSnapshot 42 = .ok (.iaload, 1) := dk_46 (dk_at dksX3_takeSnapshot_1 18 rfl rfl)
theorem dX3_takeSnapshot_43 : decode cX3_takeSnapshot 43 = .ok (.ireturn, 1) := dk_172 (dk_at dksX3_takeSnapshot_1 19 rfl rfl)
abbrev cX3_restoreSnapshot : ByteArray := prog_11_method_66_code
def yX3_restoreSnapshot : MethodName := ⟨RX3, "restoreSnapshot", "()I"⟩
def dkwX3_restoreSnapshot_2 : List UInt8 := [132, 1, 1, 167, 255, 234, 42, 180, 0, 7, 3, 46, 172]
abbrev dktX3_restoreSnapshot_2 : List UInt8 := dkwX3_restoreSnapshot_2 ++ []
def dkwX3_restoreSnapshot_1 : List UInt8 := [182, 0, 33, 3, 60, 27, 17, 1, 31, 162, 0, 21, 42, 180, 0, 7, 27, 42, 180, 0, 16, 27, 46, 79]
abbrev dktX3_restoreSnapshot_1 : List UInt8 := dkwX3_restoreSnapshot_1 ++ dktX3_restoreSnapshot_2
def dkwX3_restoreSnapshot_0 : List UInt8 := [42, 42, 180, 0, 194, 153, 0, 7, 3, 167, 0, 4, 4, 182, 0, 54, 153, 0, 5, 3, 172, 42]
abbrev dktX3_restoreSnapshot_0 : List UInt8 := dkwX3_restoreSnapshot_0 ++ dktX3_restoreSnapshot_1
theorem dksX3_restoreSnapshot_0 : cX3_restoreSnapshot.data.toList.drop 0 = dktX3_restoreSnapshot_0 := by decide +kernel
theorem dksX3_restoreSnapshot_1 : cX3_restoreSnapshot.data.toList.drop 22 = dktX3_restoreSnapshot_1 := dk_seg dksX3_restoreSnapshot_0 22 rfl rfl
theorem dksX3_restoreSnapshot_2 : cX3_restoreSnapshot.data.toList.drop 46 = dktX3_restoreSnapshot_2 := dk_seg dksX3_restoreSnapshot_1 24 rfl rfl
theorem dX3_restoreSnapshot_0 : decode cX3_restoreSnapshot 0 = .ok (.aload_n 0, 1) := dk_42 (dk_at dksX3_restoreSnapshot_0 0 rfl rfl)
theorem dX3_restoreSnapshot_1 : decode cX3_restoreSnapshot 1 = .ok (.aload_n 0, 1) := dk_42 (dk_at dksX3_restoreSnapshot_0 1 rfl rfl)
theorem dX3_restoreSnapshot_2 : decode cX3_restoreSnapshot 2 = .ok (.getfield 194, 3) := dk_180 0 194 (dk_at dksX3_restoreSnapshot_0 2 rfl rfl)
theorem dX3_restoreSnapshot_5 : decode cX3_restoreSnapshot 5 = .ok (.ifCond .eq 7, 3) := dk_153 0 7 (dk_at dksX3_restoreSnapshot_0 5 rfl rfl)
theorem dX3_restoreSnapshot_8 : decode cX3_restoreSnapshot 8 = .ok (.iconst 0, 1) := dk_3 (dk_at dksX3_restoreSnapshot_0 8 rfl rfl)
theorem dX3_restoreSnapshot_9 : decode cX3_restoreSnapshot 9 = .ok (.goto 4, 3) := dk_167 0 4 (dk_at dksX3_restoreSnapshot_0 9 rfl rfl)
theorem dX3_restoreSnapshot_12 : decode cX3_restoreSnapshot 12 = .ok (.iconst 1, 1) := dk_4 (dk_at dksX3_restoreSnapshot_0 12 rfl rfl)
theorem dX3_restoreSnapshot_13 : decode cX3_restoreSnapshot 13 = .ok (.invokevirtual 54, 3) := dk_182 0 54 (dk_at dksX3_restoreSnapshot_0 13 rfl rfl)
theorem dX3_restoreSnapshot_16 : decode cX3_restoreSnapshot 16 = .ok (.ifCond .eq 5, 3) := dk_153 0 5 (dk_at dksX3_restoreSnapshot_0 16 rfl rfl)
theorem dX3_restoreSnapshot_19 : decode cX3_restoreSnapshot 19 = .ok (.iconst 0, 1) := dk_3 (dk_at dksX3_restoreSnapshot_0 19 rfl rfl)
theorem dX3_restoreSnapshot_20 : decode cX3_restoreSnapshot 20 = .ok (.ireturn, 1) := dk_172 (dk_at dksX3_restoreSnapshot_0 20 rfl rfl)
theorem dX3_restoreSnapshot_21 : decode cX3_restoreSnapshot 21 = .ok (.aload_n 0, 1) := dk_42 (dk_at dksX3_restoreSnapshot_0 21 rfl rfl)
theorem dX3_restoreSnapshot_22 : decode cX3_restoreSnapshot 22 = .ok (.invokevirtual 33, 3) := dk_182 0 33 (dk_at dksX3_restoreSnapshot_1 0 rfl rfl)
theorem dX3_restoreSnapshot_25 : decode cX3_restoreSnapshot 25 = .ok (.iconst 0, 1) := dk_3 (dk_at dksX3_restoreSnapshot_1 3 rfl rfl)
theorem dX3_restoreSnapshot_26 : decode cX3_restoreSnapshot 26 = .ok (.istore_n 1, 1) := dk_60 (dk_at dksX3_restoreSnapshot_1 4 rfl rfl)
theorem dX3_restoreSnapshot_27 : decode cX3_restoreSnapshot 27 = .ok (.iload_n 1, 1) := dk_27 (dk_at dksX3_restoreSnapshot_1 5 rfl rfl)
theorem dX3_restoreSnapshot_28 : decode cX3_restoreSnapshot 28 = .ok (.sipush 287, 3) := dk_17 1 31 (dk_at dksX3_restoreSnapshot_1 6 rfl rfl)
theorem dX3_restoreSnapshot_31 : decode cX3_restoreSnapshot 31 = .ok (.if_icmp .ge 21, 3) := dk_162 0 21 (dk_at dksX3_restoreSnapshot_1 9 rfl rfl)
theorem dX3_restoreSnapshot_34 : decode cX3_restoreSnapshot 34 = .ok (.aload_n 0, 1) := dk_42 (dk_at dksX3_restoreSnapshot_1 12 rfl rfl)
theorem dX3_restoreSnapshot_35 : decode cX3_restoreSnapshot 35 = .ok (.getfield 7, 3) := dk_180 0 7 (dk_at dksX3_restoreSnapshot_1 13 rfl rfl)
theorem dX3_restoreSnapshot_38 : decode cX3_restoreSnapshot 38 = .ok (.iload_n 1, 1) := dk_27 (dk_at dksX3_restoreSnapshot_1 16 rfl rfl)
theorem dX3_restoreSnapshot_39 : decode cX3_restoreSnapshot 39 = .ok (.aload_n 0, 1) := dk_42 (dk_at dksX3_restoreSnapshot_1 17 rfl rfl)
theorem dX3_restoreSnapshot_40 : decode cX3_restoreSnapshot 40 = .ok (.getfield 16, 3) := dk_180 0 16 (dk_at dksX3_restoreSnapshot_1 18 rfl rfl)
theorem dX3_restoreSnapshot_43 : decode cX3_restoreSnapshot 43 = .ok (.iload_n 1, 1) := dk_27 (dk_at dksX3_restoreSnapshot_1 21 rfl rfl)
theorem dX3_restoreSnapshot_44 : decode cX3_restoreSnapshot 44 = .ok (.iaload, 1) := dk_46 (dk_at dksX3_restoreSnapshot_1 22 rfl rfl)
theorem dX3_restoreSnapshot_45 : decode cX3_restoreSnapshot 45 = .ok (.iastore, 1) := dk_79 (dk_at dksX3_restoreSnapshot_1 23 rfl rfl)
theorem dX3_restoreSnapshot_46 : decode cX3_restoreSnapshot 46 = .ok (.iinc 1 1, 3) := dk_132 1 1 (dk_at dksX3_restoreSnapshot_2 0 rfl rfl)
theorem dX3_restoreSnapshot_49 : decode cX3_restoreSnapshot 49 = .ok (.goto (-22), 3) := dk_167 255 234 (dk_at dksX3_restoreSnapshot_2 3 rfl rfl)
theorem dX3_restoreSnapshot_52 : decode cX3_restoreSnapshot 52 = .ok (.aload_n 0, 1) := dk_42 (dk_at dksX3_restoreSnapshot_2 6 rfl rfl)
theorem dX3_restoreSnapshot_53 : decode cX3_restoreSnapshot 53 = .ok (.getfield 7, 3) := dk_180 0 7 (dk_at dksX3_restoreSnapshot_2 7 rfl rfl)
theorem dX3_restoreSnapshot_56 : decode cX3_restoreSnapshot 56 = .ok (.iconst 0, 1) := dk_3 (dk_at dksX3_restoreSnapshot_2 10 rfl rfl)
theorem dX3_restoreSnapshot_57 : decode cX3_restoreSnapshot 57 = .ok (.iaload, 1) := dk_46 (dk_at dksX3_restoreSnapshot_2 11 rfl rfl)
theorem dX3_restoreSnapshot_58 : decode cX3_restoreSnapshot 58 = .ok (.ireturn, 1) := dk_172 (dk_at dksX3_restoreSnapshot_2 12 rfl rfl)
abbrev cX3_time : ByteArray := prog_11_method_68_code
def yX3_time : MethodName := ⟨RX3, "time", "()I"⟩
def dkwX3_time_0 : List UInt8 := [42, 3, 182, 0, 198, 172]
abbrev dktX3_time_0 : List UInt8 := dkwX3_time_0 ++ []
theorem dksX3_time_0 : cX3_time.data.toList.drop 0 = dktX3_time_0 := by decide +kernel
theorem dX3_time_0 : decode cX3_time 0 = .ok (.aload_n 0, 1) := dk_42 (dk_at dksX3_time_0 0 rfl rfl)
theorem dX3_time_1 : decode cX3_time 1 = .ok (.iconst 0, 1) := dk_3 (dk_at dksX3_time_0 1 rfl rfl)
theorem dX3_time_2 : decode cX3_time 2 = .ok (.invokevirtual 198, 3) := dk_182 0 198 (dk_at dksX3_time_0 2 rfl rfl)
theorem dX3_time_5 : decode cX3_time 5 = .ok (.ireturn, 1) := dk_172 (dk_at dksX3_time_0 5 rfl rfl)
abbrev cX3_tells : ByteArray := prog_11_method_67_code
def yX3_tells : MethodName := ⟨RX3, "tells", "(I)I"⟩
def dkwX3_tells_0 : List UInt8 := [42, 3, 181, 0, 22, 42, 180, 0, 7, 27, 46, 172]
abbrev dktX3_tells_0 : List UInt8 := dkwX3_tells_0 ++ []
theorem dksX3_tells_0 : cX3_tells.data.toList.drop 0 = dktX3_tells_0 := by decide +kernel
theorem dX3_tells_0 : decode cX3_tells 0 = .ok (.aload_n 0, 1) := dk_42 (dk_at dksX3_tells_0 0 rfl rfl)
theorem dX3_tells_1 : decode cX3_tells 1 = .ok (.iconst 0, 1) := dk_3 (dk_at dksX3_tells_0 1 rfl rfl)
theorem dX3_tells_2 : decode cX3_tells 2 = .ok (.putfield 22, 3) := dk_181 0 22 (dk_at dksX3_tells_0 2 rfl rfl)
theorem dX3_tells_5 : decode cX3_tells 5 = .ok (.aload_n 0, 1) := dk_42 (dk_at dksX3_tells_0 5 rfl rfl)
theorem dX3_tells_6 : decode cX3_tells 6 = .ok (.getfield 7, 3) := dk_180 0 7 (dk_at dksX3_tells_0 6 rfl rfl)
theorem dX3_tells_9 : decode cX3_tells 9 = .ok (.iload_n 1, 1) := dk_27 (dk_at dksX3_tells_0 9 rfl rfl)
theorem dX3_tells_10 : decode cX3_tells 10 = .ok (.iaload, 1) := dk_46 (dk_at dksX3_tells_0 10 rfl rfl)
theorem dX3_tells_11 : decode cX3_tells 11 = .ok (.ireturn, 1) := dk_172 (dk_at dksX3_tells_0 11 rfl rfl)
abbrev cX3_tide : ByteArray := prog_11_method_69_code
def yX3_tide : MethodName := ⟨RX3, "tide", "()I"⟩
def dkwX3_tide_0 : List UInt8 := [42, 3, 181, 0, 22, 42, 3, 42, 180, 0, 7, 3, 46, 182, 0, 73, 172]
abbrev dktX3_tide_0 : List UInt8 := dkwX3_tide_0 ++ []
theorem dksX3_tide_0 : cX3_tide.data.toList.drop 0 = dktX3_tide_0 := by decide +kernel
theorem dX3_tide_0 : decode cX3_tide 0 = .ok (.aload_n 0, 1) := dk_42 (dk_at dksX3_tide_0 0 rfl rfl)
theorem dX3_tide_1 : decode cX3_tide 1 = .ok (.iconst 0, 1) := dk_3 (dk_at dksX3_tide_0 1 rfl rfl)
theorem dX3_tide_2 : decode cX3_tide 2 = .ok (.putfield 22, 3) := dk_181 0 22 (dk_at dksX3_tide_0 2 rfl rfl)
theorem dX3_tide_5 : decode cX3_tide 5 = .ok (.aload_n 0, 1) := dk_42 (dk_at dksX3_tide_0 5 rfl rfl)
theorem dX3_tide_6 : decode cX3_tide 6 = .ok (.iconst 0, 1) := dk_3 (dk_at dksX3_tide_0 6 rfl rfl)
theorem dX3_tide_7 : decode cX3_tide 7 = .ok (.aload_n 0, 1) := dk_42 (dk_at dksX3_tide_0 7 rfl rfl)
theorem dX3_tide_8 : decode cX3_tide 8 = .ok (.getfield 7, 3) := dk_180 0 7 (dk_at dksX3_tide_0 8 rfl rfl)
theorem dX3_tide_11 : decode cX3_tide 11 = .ok (.iconst 0, 1) := dk_3 (dk_at dksX3_tide_0 11 rfl rfl)
theorem dX3_tide_12 : decode cX3_tide 12 = .ok (.iaload, 1) := dk_46 (dk_at dksX3_tide_0 12 rfl rfl)
theorem dX3_tide_13 : decode cX3_tide 13 = .ok (.invokevirtual 73, 3) := dk_182 0 73 (dk_at dksX3_tide_0 13 rfl rfl)
theorem dX3_tide_16 : decode cX3_tide 16 = .ok (.ireturn, 1) := dk_172 (dk_at dksX3_tide_0 16 rfl rfl)
abbrev cX3_tideAt : ByteArray := prog_11_method_70_code
def yX3_tideAt : MethodName := ⟨RX3, "tideAt", "(I)I"⟩
def dkwX3_tideAt_1 : List UInt8 := [167, 0, 9, 42, 3, 27, 182, 0, 73, 172]
abbrev dktX3_tideAt_1 : List UInt8 := dkwX3_tideAt_1 ++ []
def dkwX3_tideAt_0 : List UInt8 := [42, 27, 3, 17, 7, 207, 184, 0, 26, 153, 0, 7, 3, 167, 0, 4, 4, 182, 0, 54, 153, 0, 7, 3]
abbrev dktX3_tideAt_0 : List UInt8 := dkwX3_tideAt_0 ++ dktX3_tideAt_1
theorem dksX3_tideAt_0 : cX3_tideAt.data.toList.drop 0 = dktX3_tideAt_0 := by decide +kernel
theorem dksX3_tideAt_1 : cX3_tideAt.data.toList.drop 24 = dktX3_tideAt_1 := dk_seg dksX3_tideAt_0 24 rfl rfl
theorem dX3_tideAt_0 : decode cX3_tideAt 0 = .ok (.aload_n 0, 1) := dk_42 (dk_at dksX3_tideAt_0 0 rfl rfl)
theorem dX3_tideAt_1 : decode cX3_tideAt 1 = .ok (.iload_n 1, 1) := dk_27 (dk_at dksX3_tideAt_0 1 rfl rfl)
theorem dX3_tideAt_2 : decode cX3_tideAt 2 = .ok (.iconst 0, 1) := dk_3 (dk_at dksX3_tideAt_0 2 rfl rfl)
theorem dX3_tideAt_3 : decode cX3_tideAt 3 = .ok (.sipush 1999, 3) := dk_17 7 207 (dk_at dksX3_tideAt_0 3 rfl rfl)
theorem dX3_tideAt_6 : decode cX3_tideAt 6 = .ok (.invokestatic 26, 3) := dk_184 0 26 (dk_at dksX3_tideAt_0 6 rfl rfl)
theorem dX3_tideAt_9 : decode cX3_tideAt 9 = .ok (.ifCond .eq 7, 3) := dk_153 0 7 (dk_at dksX3_tideAt_0 9 rfl rfl)
theorem dX3_tideAt_12 : decode cX3_tideAt 12 = .ok (.iconst 0, 1) := dk_3 (dk_at dksX3_tideAt_0 12 rfl rfl)
theorem dX3_tideAt_13 : decode cX3_tideAt 13 = .ok (.goto 4, 3) := dk_167 0 4 (dk_at dksX3_tideAt_0 13 rfl rfl)
theorem dX3_tideAt_16 : decode cX3_tideAt 16 = .ok (.iconst 1, 1) := dk_4 (dk_at dksX3_tideAt_0 16 rfl rfl)
theorem dX3_tideAt_17 : decode cX3_tideAt 17 = .ok (.invokevirtual 54, 3) := dk_182 0 54 (dk_at dksX3_tideAt_0 17 rfl rfl)
theorem dX3_tideAt_20 : decode cX3_tideAt 20 = .ok (.ifCond .eq 7, 3) := dk_153 0 7 (dk_at dksX3_tideAt_0 20 rfl rfl)
theorem dX3_tideAt_23 : decode cX3_tideAt 23 = .ok (.iconst 0, 1) := dk_3 (dk_at dksX3_tideAt_0 23 rfl rfl)
theorem dX3_tideAt_24 : decode cX3_tideAt 24 = .ok (.goto 9, 3) := dk_167 0 9 (dk_at dksX3_tideAt_1 0 rfl rfl)
theorem dX3_tideAt_27 : decode cX3_tideAt 27 = .ok (.aload_n 0, 1) := dk_42 (dk_at dksX3_tideAt_1 3 rfl rfl)
theorem dX3_tideAt_28 : decode cX3_tideAt 28 = .ok (.iconst 0, 1) := dk_3 (dk_at dksX3_tideAt_1 4 rfl rfl)
theorem dX3_tideAt_29 : decode cX3_tideAt 29 = .ok (.iload_n 1, 1) := dk_27 (dk_at dksX3_tideAt_1 5 rfl rfl)
theorem dX3_tideAt_30 : decode cX3_tideAt 30 = .ok (.invokevirtual 73, 3) := dk_182 0 73 (dk_at dksX3_tideAt_1 6 rfl rfl)
theorem dX3_tideAt_33 : decode cX3_tideAt 33 = .ok (.ireturn, 1) := dk_172 (dk_at dksX3_tideAt_1 9 rfl rfl)
abbrev cX3_heat : ByteArray := prog_11_method_71_code
def yX3_heat : MethodName := ⟨RX3, "heat", "()I"⟩
def dkwX3_heat_0 : List UInt8 := [42, 6, 182, 0, 198, 172]
abbrev dktX3_heat_0 : List UInt8 := dkwX3_heat_0 ++ []
theorem dksX3_heat_0 : cX3_heat.data.toList.drop 0 = dktX3_heat_0 := by decide +kernel
theorem dX3_heat_0 : decode cX3_heat 0 = .ok (.aload_n 0, 1) := dk_42 (dk_at dksX3_heat_0 0 rfl rfl)
theorem dX3_heat_1 : decode cX3_heat 1 = .ok (.iconst 3, 1) := dk_6 (dk_at dksX3_heat_0 1 rfl rfl)
theorem dX3_heat_2 : decode cX3_heat 2 = .ok (.invokevirtual 198, 3) := dk_182 0 198 (dk_at dksX3_heat_0 2 rfl rfl)
theorem dX3_heat_5 : decode cX3_heat 5 = .ok (.ireturn, 1) := dk_172 (dk_at dksX3_heat_0 5 rfl rfl)
abbrev cX3_pause : ByteArray := prog_11_method_72_code
def yX3_pause : MethodName := ⟨RX3, "pause", "()I"⟩
def dkwX3_pause_0 : List UInt8 := [42, 7, 182, 0, 198, 172]
abbrev dktX3_pause_0 : List UInt8 := dkwX3_pause_0 ++ []
theorem dksX3_pause_0 : cX3_pause.data.toList.drop 0 = dktX3_pause_0 := by decide +kernel
theorem dX3_pause_0 : decode cX3_pause 0 = .ok (.aload_n 0, 1) := dk_42 (dk_at dksX3_pause_0 0 rfl rfl)
theorem dX3_pause_1 : decode cX3_pause 1 = .ok (.iconst 4, 1) := dk_7 (dk_at dksX3_pause_0 1 rfl rfl)
theorem dX3_pause_2 : decode cX3_pause 2 = .ok (.invokevirtual 198, 3) := dk_182 0 198 (dk_at dksX3_pause_0 2 rfl rfl)
theorem dX3_pause_5 : decode cX3_pause 5 = .ok (.ireturn, 1) := dk_172 (dk_at dksX3_pause_0 5 rfl rfl)
abbrev cX3_heightOf : ByteArray := prog_11_method_74_code
def yX3_heightOf : MethodName := ⟨RX3, "heightOf", "(I)I"⟩
def dkwX3_heightOf_0 : List UInt8 := [42, 16, 7, 27, 182, 0, 201, 172]
abbrev dktX3_heightOf_0 : List UInt8 := dkwX3_heightOf_0 ++ []
theorem dksX3_heightOf_0 : cX3_heightOf.data.toList.drop 0 = dktX3_heightOf_0 := by decide +kernel
theorem dX3_heightOf_0 : decode cX3_heightOf 0 = .ok (.aload_n 0, 1) := dk_42 (dk_at dksX3_heightOf_0 0 rfl rfl)
theorem dX3_heightOf_1 : decode cX3_heightOf 1 = .ok (.bipush 7, 2) := dk_16 7 (dk_at dksX3_heightOf_0 1 rfl rfl)
theorem dX3_heightOf_3 : decode cX3_heightOf 3 = .ok (.iload_n 1, 1) := dk_27 (dk_at dksX3_heightOf_0 3 rfl rfl)
theorem dX3_heightOf_4 : decode cX3_heightOf 4 = .ok (.invokevirtual 201, 3) := dk_182 0 201 (dk_at dksX3_heightOf_0 4 rfl rfl)
theorem dX3_heightOf_7 : decode cX3_heightOf 7 = .ok (.ireturn, 1) := dk_172 (dk_at dksX3_heightOf_0 7 rfl rfl)
abbrev cX3_ofPool : ByteArray := prog_11_method_73_code
def yX3_ofPool : MethodName := ⟨RX3, "ofPool", "(II)I"⟩
def dkwX3_ofPool_1 : List UInt8 := [180, 0, 7, 27, 28, 96, 46, 172]
abbrev dktX3_ofPool_1 : List UInt8 := dkwX3_ofPool_1 ++ []
def dkwX3_ofPool_0 : List UInt8 := [42, 28, 184, 0, 50, 153, 0, 7, 3, 167, 0, 4, 4, 182, 0, 54, 153, 0, 7, 3, 167, 0, 11, 42]
abbrev dktX3_ofPool_0 : List UInt8 := dkwX3_ofPool_0 ++ dktX3_ofPool_1
theorem dksX3_ofPool_0 : cX3_ofPool.data.toList.drop 0 = dktX3_ofPool_0 := by decide +kernel
theorem dksX3_ofPool_1 : cX3_ofPool.data.toList.drop 24 = dktX3_ofPool_1 := dk_seg dksX3_ofPool_0 24 rfl rfl
theorem dX3_ofPool_0 : decode cX3_ofPool 0 = .ok (.aload_n 0, 1) := dk_42 (dk_at dksX3_ofPool_0 0 rfl rfl)
theorem dX3_ofPool_1 : decode cX3_ofPool 1 = .ok (.iload_n 2, 1) := dk_28 (dk_at dksX3_ofPool_0 1 rfl rfl)
theorem dX3_ofPool_2 : decode cX3_ofPool 2 = .ok (.invokestatic 50, 3) := dk_184 0 50 (dk_at dksX3_ofPool_0 2 rfl rfl)
theorem dX3_ofPool_5 : decode cX3_ofPool 5 = .ok (.ifCond .eq 7, 3) := dk_153 0 7 (dk_at dksX3_ofPool_0 5 rfl rfl)
theorem dX3_ofPool_8 : decode cX3_ofPool 8 = .ok (.iconst 0, 1) := dk_3 (dk_at dksX3_ofPool_0 8 rfl rfl)
theorem dX3_ofPool_9 : decode cX3_ofPool 9 = .ok (.goto 4, 3) := dk_167 0 4 (dk_at dksX3_ofPool_0 9 rfl rfl)
theorem dX3_ofPool_12 : decode cX3_ofPool 12 = .ok (.iconst 1, 1) := dk_4 (dk_at dksX3_ofPool_0 12 rfl rfl)
theorem dX3_ofPool_13 : decode cX3_ofPool 13 = .ok (.invokevirtual 54, 3) := dk_182 0 54 (dk_at dksX3_ofPool_0 13 rfl rfl)
theorem dX3_ofPool_16 : decode cX3_ofPool 16 = .ok (.ifCond .eq 7, 3) := dk_153 0 7 (dk_at dksX3_ofPool_0 16 rfl rfl)
theorem dX3_ofPool_19 : decode cX3_ofPool 19 = .ok (.iconst 0, 1) := dk_3 (dk_at dksX3_ofPool_0 19 rfl rfl)
theorem dX3_ofPool_20 : decode cX3_ofPool 20 = .ok (.goto 11, 3) := dk_167 0 11 (dk_at dksX3_ofPool_0 20 rfl rfl)
theorem dX3_ofPool_23 : decode cX3_ofPool 23 = .ok (.aload_n 0, 1) := dk_42 (dk_at dksX3_ofPool_0 23 rfl rfl)
theorem dX3_ofPool_24 : decode cX3_ofPool 24 = .ok (.getfield 7, 3) := dk_180 0 7 (dk_at dksX3_ofPool_1 0 rfl rfl)
theorem dX3_ofPool_27 : decode cX3_ofPool 27 = .ok (.iload_n 1, 1) := dk_27 (dk_at dksX3_ofPool_1 3 rfl rfl)
theorem dX3_ofPool_28 : decode cX3_ofPool 28 = .ok (.iload_n 2, 1) := dk_28 (dk_at dksX3_ofPool_1 4 rfl rfl)
theorem dX3_ofPool_29 : decode cX3_ofPool 29 = .ok (.iadd, 1) := dk_96 (dk_at dksX3_ofPool_1 5 rfl rfl)
theorem dX3_ofPool_30 : decode cX3_ofPool 30 = .ok (.iaload, 1) := dk_46 (dk_at dksX3_ofPool_1 6 rfl rfl)
theorem dX3_ofPool_31 : decode cX3_ofPool 31 = .ok (.ireturn, 1) := dk_172 (dk_at dksX3_ofPool_1 7 rfl rfl)
abbrev cX3_isFlooded : ByteArray := prog_11_method_75_code
def yX3_isFlooded : MethodName := ⟨RX3, "isFlooded", "(I)Z"⟩
def dkwX3_isFlooded_1 : List UInt8 := [182, 0, 83, 153, 0, 7, 4, 167, 0, 4, 3, 172]
abbrev dktX3_isFlooded_1 : List UInt8 := dkwX3_isFlooded_1 ++ []
def dkwX3_isFlooded_0 : List UInt8 := [42, 27, 184, 0, 50, 153, 0, 7, 3, 167, 0, 4, 4, 182, 0, 54, 154, 0, 16, 42, 3, 27]
abbrev dktX3_isFlooded_0 : List UInt8 := dkwX3_isFlooded_0 ++ dktX3_isFlooded_1
theorem dksX3_isFlooded_0 : cX3_isFlooded.data.toList.drop 0 = dktX3_isFlooded_0 := by decide +kernel
theorem dksX3_isFlooded_1 : cX3_isFlooded.data.toList.drop 22 = dktX3_isFlooded_1 := dk_seg dksX3_isFlooded_0 22 rfl rfl
theorem dX3_isFlooded_0 : decode cX3_isFlooded 0 = .ok (.aload_n 0, 1) := dk_42 (dk_at dksX3_isFlooded_0 0 rfl rfl)
theorem dX3_isFlooded_1 : decode cX3_isFlooded 1 = .ok (.iload_n 1, 1) := dk_27 (dk_at dksX3_isFlooded_0 1 rfl rfl)
theorem dX3_isFlooded_2 : decode cX3_isFlooded 2 = .ok (.invokestatic 50, 3) := dk_184 0 50 (dk_at dksX3_isFlooded_0 2 rfl rfl)
theorem dX3_isFlooded_5 : decode cX3_isFlooded 5 = .ok (.ifCond .eq 7, 3) := dk_153 0 7 (dk_at dksX3_isFlooded_0 5 rfl rfl)
theorem dX3_isFlooded_8 : decode cX3_isFlooded 8 = .ok (.iconst 0, 1) := dk_3 (dk_at dksX3_isFlooded_0 8 rfl rfl)
theorem dX3_isFlooded_9 : decode cX3_isFlooded 9 = .ok (.goto 4, 3) := dk_167 0 4 (dk_at dksX3_isFlooded_0 9 rfl rfl)
theorem dX3_isFlooded_12 : decode cX3_isFlooded 12 = .ok (.iconst 1, 1) := dk_4 (dk_at dksX3_isFlooded_0 12 rfl rfl)
theorem dX3_isFlooded_13 : decode cX3_isFlooded 13 = .ok (.invokevirtual 54, 3) := dk_182 0 54 (dk_at dksX3_isFlooded_0 13 rfl rfl)
theorem dX3_isFlooded_16 : decode cX3_isFlooded 16 = .ok (.ifCond .ne 16, 3) := dk_154 0 16 (dk_at dksX3_isFlooded_0 16 rfl rfl)
theorem dX3_isFlooded_19 : decode cX3_isFlooded 19 = .ok (.aload_n 0, 1) := dk_42 (dk_at dksX3_isFlooded_0 19 rfl rfl)
theorem dX3_isFlooded_20 : decode cX3_isFlooded 20 = .ok (.iconst 0, 1) := dk_3 (dk_at dksX3_isFlooded_0 20 rfl rfl)
theorem dX3_isFlooded_21 : decode cX3_isFlooded 21 = .ok (.iload_n 1, 1) := dk_27 (dk_at dksX3_isFlooded_0 21 rfl rfl)
theorem dX3_isFlooded_22 : decode cX3_isFlooded 22 = .ok (.invokevirtual 83, 3) := dk_182 0 83 (dk_at dksX3_isFlooded_1 0 rfl rfl)
theorem dX3_isFlooded_25 : decode cX3_isFlooded 25 = .ok (.ifCond .eq 7, 3) := dk_153 0 7 (dk_at dksX3_isFlooded_1 3 rfl rfl)
theorem dX3_isFlooded_28 : decode cX3_isFlooded 28 = .ok (.iconst 1, 1) := dk_4 (dk_at dksX3_isFlooded_1 6 rfl rfl)
theorem dX3_isFlooded_29 : decode cX3_isFlooded 29 = .ok (.goto 4, 3) := dk_167 0 4 (dk_at dksX3_isFlooded_1 7 rfl rfl)
theorem dX3_isFlooded_32 : decode cX3_isFlooded 32 = .ok (.iconst 0, 1) := dk_3 (dk_at dksX3_isFlooded_1 10 rfl rfl)
theorem dX3_isFlooded_33 : decode cX3_isFlooded 33 = .ok (.ireturn, 1) := dk_172 (dk_at dksX3_isFlooded_1 11 rfl rfl)
abbrev cX3_floodedPools : ByteArray := prog_11_method_76_code
def yX3_floodedPools : MethodName := ⟨RX3, "floodedPools", "()I"⟩
def dkwX3_floodedPools_1 : List UInt8 := [153, 0, 7, 4, 167, 0, 4, 3, 96, 60, 132, 2, 1, 167, 255, 230, 27, 172]
abbrev dktX3_floodedPools_1 : List UInt8 := dkwX3_floodedPools_1 ++ []
def dkwX3_floodedPools_0 : List UInt8 := [42, 3, 181, 0, 22, 3, 60, 3, 61, 28, 16, 8, 162, 0, 26, 27, 42, 3, 28, 182, 0, 83]
abbrev dktX3_floodedPools_0 : List UInt8 := dkwX3_floodedPools_0 ++ dktX3_floodedPools_1
theorem dksX3_floodedPools_0 : cX3_floodedPools.data.toList.drop 0 = dktX3_floodedPools_0 := by decide +kernel
theorem dksX3_floodedPools_1 : cX3_floodedPools.data.toList.drop 22 = dktX3_floodedPools_1 := dk_seg dksX3_floodedPools_0 22 rfl rfl
theorem dX3_floodedPools_0 : decode cX3_floodedPools 0 = .ok (.aload_n 0, 1) := dk_42 (dk_at dksX3_floodedPools_0 0 rfl rfl)
theorem dX3_floodedPools_1 : decode cX3_floodedPools 1 = .ok (.iconst 0, 1) := dk_3 (dk_at dksX3_floodedPools_0 1 rfl rfl)
theorem dX3_floodedPools_2 : decode cX3_floodedPools 2 = .ok (.putfield 22, 3) := dk_181 0 22 (dk_at dksX3_floodedPools_0 2 rfl rfl)
theorem dX3_floodedPools_5 : decode cX3_floodedPools 5 = .ok (.iconst 0, 1) := dk_3 (dk_at dksX3_floodedPools_0 5 rfl rfl)
theorem dX3_floodedPools_6 : decode cX3_floodedPools 6 = .ok (.istore_n 1, 1) := dk_60 (dk_at dksX3_floodedPools_0 6 rfl rfl)
theorem dX3_floodedPools_7 : decode cX3_floodedPools 7 = .ok (.iconst 0, 1) := dk_3 (dk_at dksX3_floodedPools_0 7 rfl rfl)
theorem dX3_floodedPools_8 : decode cX3_floodedPools 8 = .ok (.istore_n 2, 1) := dk_61 (dk_at dksX3_floodedPools_0 8 rfl rfl)
theorem dX3_floodedPools_9 : decode cX3_floodedPools 9 = .ok (.iload_n 2, 1) := dk_28 (dk_at dksX3_floodedPools_0 9 rfl rfl)
theorem dX3_floodedPools_10 : decode cX3_floodedPools 10 = .ok (.bipush 8, 2) := dk_16 8 (dk_at dksX3_floodedPools_0 10 rfl rfl)
theorem dX3_floodedPools_12 : decode cX3_floodedPools 12 = .ok (.if_icmp .ge 26, 3) := dk_162 0 26 (dk_at dksX3_floodedPools_0 12 rfl rfl)
theorem dX3_floodedPools_15 : decode cX3_floodedPools 15 = .ok (.iload_n 1, 1) := dk_27 (dk_at dksX3_floodedPools_0 15 rfl rfl)
theorem dX3_floodedPools_16 : decode cX3_floodedPools 16 = .ok (.aload_n 0, 1) := dk_42 (dk_at dksX3_floodedPools_0 16 rfl rfl)
theorem dX3_floodedPools_17 : decode cX3_floodedPools 17 = .ok (.iconst 0, 1) := dk_3 (dk_at dksX3_floodedPools_0 17 rfl rfl)
theorem dX3_floodedPools_18 : decode cX3_floodedPools 18 = .ok (.iload_n 2, 1) := dk_28 (dk_at dksX3_floodedPools_0 18 rfl rfl)
theorem dX3_floodedPools_19 : decode cX3_floodedPools 19 = .ok (.invokevirtual 83, 3) := dk_182 0 83 (dk_at dksX3_floodedPools_0 19 rfl rfl)
theorem dX3_floodedPools_22 : decode cX3_floodedPools 22 = .ok (.ifCond .eq 7, 3) := dk_153 0 7 (dk_at dksX3_floodedPools_1 0 rfl rfl)
theorem dX3_floodedPools_25 : decode cX3_floodedPools 25 = .ok (.iconst 1, 1) := dk_4 (dk_at dksX3_floodedPools_1 3 rfl rfl)
theorem dX3_floodedPools_26 : decode cX3_floodedPools 26 = .ok (.goto 4, 3) := dk_167 0 4 (dk_at dksX3_floodedPools_1 4 rfl rfl)
theorem dX3_floodedPools_29 : decode cX3_floodedPools 29 = .ok (.iconst 0, 1) := dk_3 (dk_at dksX3_floodedPools_1 7 rfl rfl)
theorem dX3_floodedPools_30 : decode cX3_floodedPools 30 = .ok (.iadd, 1) := dk_96 (dk_at dksX3_floodedPools_1 8 rfl rfl)
theorem dX3_floodedPools_31 : decode cX3_floodedPools 31 = .ok (.istore_n 1, 1) := dk_60 (dk_at dksX3_floodedPools_1 9 rfl rfl)
theorem dX3_floodedPools_32 : decode cX3_floodedPools 32 = .ok (.iinc 2 1, 3) := dk_132 2 1 (dk_at dksX3_floodedPools_1 10 rfl rfl)
theorem dX3_floodedPools_35 : decode cX3_floodedPools 35 = .ok (.goto (-26), 3) := dk_167 255 230 (dk_at dksX3_floodedPools_1 13 rfl rfl)
theorem dX3_floodedPools_38 : decode cX3_floodedPools 38 = .ok (.iload_n 1, 1) := dk_27 (dk_at dksX3_floodedPools_1 16 rfl rfl)
theorem dX3_floodedPools_39 : decode cX3_floodedPools 39 = .ok (.ireturn, 1) := dk_172 (dk_at dksX3_floodedPools_1 17 rfl rfl)
abbrev cX3_warmthOf : ByteArray := prog_11_method_77_code
def yX3_warmthOf : MethodName := ⟨RX3, "warmthOf", "(I)I"⟩
def dkwX3_warmthOf_0 : List UInt8 := [42, 16, 15, 27, 182, 0, 201, 172]
abbrev dktX3_warmthOf_0 : List UInt8 := dkwX3_warmthOf_0 ++ []
theorem dksX3_warmthOf_0 : cX3_warmthOf.data.toList.drop 0 = dktX3_warmthOf_0 := by decide +kernel
theorem dX3_warmthOf_0 : decode cX3_warmthOf 0 = .ok (.aload_n 0, 1) := dk_42 (dk_at dksX3_warmthOf_0 0 rfl rfl)
theorem dX3_warmthOf_1 : decode cX3_warmthOf 1 = .ok (.bipush 15, 2) := dk_16 15 (dk_at dksX3_warmthOf_0 1 rfl rfl)
theorem dX3_warmthOf_3 : decode cX3_warmthOf 3 = .ok (.iload_n 1, 1) := dk_27 (dk_at dksX3_warmthOf_0 3 rfl rfl)
theorem dX3_warmthOf_4 : decode cX3_warmthOf 4 = .ok (.invokevirtual 201, 3) := dk_182 0 201 (dk_at dksX3_warmthOf_0 4 rfl rfl)
theorem dX3_warmthOf_7 : decode cX3_warmthOf 7 = .ok (.ireturn, 1) := dk_172 (dk_at dksX3_warmthOf_0 7 rfl rfl)
abbrev cX3_weedOf : ByteArray := prog_11_method_78_code
def yX3_weedOf : MethodName := ⟨RX3, "weedOf", "(I)I"⟩
def dkwX3_weedOf_0 : List UInt8 := [42, 16, 23, 27, 182, 0, 201, 172]
abbrev dktX3_weedOf_0 : List UInt8 := dkwX3_weedOf_0 ++ []
theorem dksX3_weedOf_0 : cX3_weedOf.data.toList.drop 0 = dktX3_weedOf_0 := by decide +kernel
theorem dX3_weedOf_0 : decode cX3_weedOf 0 = .ok (.aload_n 0, 1) := dk_42 (dk_at dksX3_weedOf_0 0 rfl rfl)
theorem dX3_weedOf_1 : decode cX3_weedOf 1 = .ok (.bipush 23, 2) := dk_16 23 (dk_at dksX3_weedOf_0 1 rfl rfl)
theorem dX3_weedOf_3 : decode cX3_weedOf 3 = .ok (.iload_n 1, 1) := dk_27 (dk_at dksX3_weedOf_0 3 rfl rfl)
theorem dX3_weedOf_4 : decode cX3_weedOf 4 = .ok (.invokevirtual 201, 3) := dk_182 0 201 (dk_at dksX3_weedOf_0 4 rfl rfl)
theorem dX3_weedOf_7 : decode cX3_weedOf 7 = .ok (.ireturn, 1) := dk_172 (dk_at dksX3_weedOf_0 7 rfl rfl)
abbrev cX3_hoursToFlood : ByteArray := prog_11_method_79_code
def yX3_hoursToFlood : MethodName := ⟨RX3, "hoursToFlood", "(I)I"⟩
def dkwX3_hoursToFlood_2 : List UInt8 := [27, 96, 46, 161, 0, 5, 28, 172, 132, 2, 1, 167, 255, 220, 2, 172]
abbrev dktX3_hoursToFlood_2 : List UInt8 := dkwX3_hoursToFlood_2 ++ []
def dkwX3_hoursToFlood_1 : List UInt8 := [16, 13, 162, 0, 36, 42, 3, 42, 180, 0, 7, 3, 46, 28, 96, 182, 0, 73, 42, 180, 0, 7, 16, 7]
abbrev dktX3_hoursToFlood_1 : List UInt8 := dkwX3_hoursToFlood_1 ++ dktX3_hoursToFlood_2
def dkwX3_hoursToFlood_0 : List UInt8 := [42, 27, 184, 0, 50, 153, 0, 7, 3, 167, 0, 4, 4, 182, 0, 54, 153, 0, 5, 3, 172, 3, 61, 28]
abbrev dktX3_hoursToFlood_0 : List UInt8 := dkwX3_hoursToFlood_0 ++ dktX3_hoursToFlood_1
theorem dksX3_hoursToFlood_0 : cX3_hoursToFlood.data.toList.drop 0 = dktX3_hoursToFlood_0 := by decide +kernel
theorem dksX3_hoursToFlood_1 : cX3_hoursToFlood.data.toList.drop 24 = dktX3_hoursToFlood_1 := dk_seg dksX3_hoursToFlood_0 24 rfl rfl
theorem dksX3_hoursToFlood_2 : cX3_hoursToFlood.data.toList.drop 48 = dktX3_hoursToFlood_2 := dk_seg dksX3_hoursToFlood_1 24 rfl rfl
theorem dX3_hoursToFlood_0 : decode cX3_hoursToFlood 0 = .ok (.aload_n 0, 1) := dk_42 (dk_at dksX3_hoursToFlood_0 0 rfl rfl)
theorem dX3_hoursToFlood_1 : decode cX3_hoursToFlood 1 = .ok (.iload_n 1, 1) := dk_27 (dk_at dksX3_hoursToFlood_0 1 rfl rfl)
theorem dX3_hoursToFlood_2 : decode cX3_hoursToFlood 2 = .ok (.invokestatic 50, 3) := dk_184 0 50 (dk_at dksX3_hoursToFlood_0 2 rfl rfl)
theorem dX3_hoursToFlood_5 : decode cX3_hoursToFlood 5 = .ok (.ifCond .eq 7, 3) := dk_153 0 7 (dk_at dksX3_hoursToFlood_0 5 rfl rfl)
theorem dX3_hoursToFlood_8 : decode cX3_hoursToFlood 8 = .ok (.iconst 0, 1) := dk_3 (dk_at dksX3_hoursToFlood_0 8 rfl rfl)
theorem dX3_hoursToFlood_9 : decode cX3_hoursToFlood 9 = .ok (.goto 4, 3) := dk_167 0 4 (dk_at dksX3_hoursToFlood_0 9 rfl rfl)
theorem dX3_hoursToFlood_12 : decode cX3_hoursToFlood 12 = .ok (.iconst 1, 1) := dk_4 (dk_at dksX3_hoursToFlood_0 12 rfl rfl)
theorem dX3_hoursToFlood_13 : decode cX3_hoursToFlood 13 = .ok (.invokevirtual 54, 3) := dk_182 0 54 (dk_at dksX3_hoursToFlood_0 13 rfl rfl)
theorem dX3_hoursToFlood_16 : decode cX3_hoursToFlood 16 = .ok (.ifCond .eq 5, 3) := dk_153 0 5 (dk_at dksX3_hoursToFlood_0 16 rfl rfl)
theorem dX3_hoursToFlood_19 : decode cX3_hoursToFlood 19 = .ok (.iconst 0, 1) := dk_3 (dk_at dksX3_hoursToFlood_0 19 rfl rfl)
theorem dX3_hoursToFlood_20 : decode cX3_hoursToFlood 20 = .ok (.ireturn, 1) := dk_172 (dk_at dksX3_hoursToFlood_0 20 rfl rfl)
theorem dX3_hoursToFlood_21 : decode cX3_hoursToFlood 21 = .ok (.iconst 0, 1) := dk_3 (dk_at dksX3_hoursToFlood_0 21 rfl rfl)
theorem dX3_hoursToFlood_22 : decode cX3_hoursToFlood 22 = .ok (.istore_n 2, 1) := dk_61 (dk_at dksX3_hoursToFlood_0 22 rfl rfl)
theorem dX3_hoursToFlood_23 : decode cX3_hoursToFlood 23 = .ok (.iload_n 2, 1) := dk_28 (dk_at dksX3_hoursToFlood_0 23 rfl rfl)
theorem dX3_hoursToFlood_24 : decode cX3_hoursToFlood 24 = .ok (.bipush 13, 2) := dk_16 13 (dk_at dksX3_hoursToFlood_1 0 rfl rfl)
theorem dX3_hoursToFlood_26 : decode cX3_hoursToFlood 26 = .ok (.if_icmp .ge 36, 3) := dk_162 0 36 (dk_at dksX3_hoursToFlood_1 2 rfl rfl)
theorem dX3_hoursToFlood_29 : decode cX3_hoursToFlood 29 = .ok (.aload_n 0, 1) := dk_42 (dk_at dksX3_hoursToFlood_1 5 rfl rfl)
theorem dX3_hoursToFlood_30 : decode cX3_hoursToFlood 30 = .ok (.iconst 0, 1) := dk_3 (dk_at dksX3_hoursToFlood_1 6 rfl rfl)
theorem dX3_hoursToFlood_31 : decode cX3_hoursToFlood 31 = .ok (.aload_n 0, 1) := dk_42 (dk_at dksX3_hoursToFlood_1 7 rfl rfl)
theorem dX3_hoursToFlood_32 : decode cX3_hoursToFlood 32 = .ok (.getfield 7, 3) := dk_180 0 7 (dk_at dksX3_hoursToFlood_1 8 rfl rfl)
theorem dX3_hoursToFlood_35 : decode cX3_hoursToFlood 35 = .ok (.iconst 0, 1) := dk_3 (dk_at dksX3_hoursToFlood_1 11 rfl rfl)
theorem dX3_hoursToFlood_36 : decode cX3_hoursToFlood 36 = .ok (.iaload, 1) := dk_46 (dk_at dksX3_hoursToFlood_1 12 rfl rfl)
theorem dX3_hoursToFlood_37 : decode cX3_hoursToFlood 37 = .ok (.iload_n 2, 1) := dk_28 (dk_at dksX3_hoursToFlood_1 13 rfl rfl)
theorem dX3_hoursToFlood_38 : decode cX3_hoursToFlood 38 = .ok (.iadd, 1) := dk_96 (dk_at dksX3_hoursToFlood_1 14 rfl rfl)
theorem dX3_hoursToFlood_39 : decode cX3_hoursToFlood 39 = .ok (.invokevirtual 73, 3) := dk_182 0 73 (dk_at dksX3_hoursToFlood_1 15 rfl rfl)
theorem dX3_hoursToFlood_42 : decode cX3_hoursToFlood 42 = .ok (.aload_n 0, 1) := dk_42 (dk_at dksX3_hoursToFlood_1 18 rfl rfl)
theorem dX3_hoursToFlood_43 : decode cX3_hoursToFlood 43 = .ok (.getfield 7, 3) := dk_180 0 7 (dk_at dksX3_hoursToFlood_1 19 rfl rfl)
theorem dX3_hoursToFlood_46 : decode cX3_hoursToFlood 46 = .ok (.bipush 7, 2) := dk_16 7 (dk_at dksX3_hoursToFlood_1 22 rfl rfl)
theorem dX3_hoursToFlood_48 : decode cX3_hoursToFlood 48 = .ok (.iload_n 1, 1) := dk_27 (dk_at dksX3_hoursToFlood_2 0 rfl rfl)
theorem dX3_hoursToFlood_49 : decode cX3_hoursToFlood 49 = .ok (.iadd, 1) := dk_96 (dk_at dksX3_hoursToFlood_2 1 rfl rfl)
theorem dX3_hoursToFlood_50 : decode cX3_hoursToFlood 50 = .ok (.iaload, 1) := dk_46 (dk_at dksX3_hoursToFlood_2 2 rfl rfl)
theorem dX3_hoursToFlood_51 : decode cX3_hoursToFlood 51 = .ok (.if_icmp .lt 5, 3) := dk_161 0 5 (dk_at dksX3_hoursToFlood_2 3 rfl rfl)
theorem dX3_hoursToFlood_54 : decode cX3_hoursToFlood 54 = .ok (.iload_n 2, 1) := dk_28 (dk_at dksX3_hoursToFlood_2 6 rfl rfl)
theorem dX3_hoursToFlood_55 : decode cX3_hoursToFlood 55 = .ok (.ireturn, 1) := dk_172 (dk_at dksX3_hoursToFlood_2 7 rfl rfl)
theorem dX3_hoursToFlood_56 : decode cX3_hoursToFlood 56 = .ok (.iinc 2 1, 3) := dk_132 2 1 (dk_at dksX3_hoursToFlood_2 8 rfl rfl)
theorem dX3_hoursToFlood_59 : decode cX3_hoursToFlood 59 = .ok (.goto (-36), 3) := dk_167 255 220 (dk_at dksX3_hoursToFlood_2 11 rfl rfl)
theorem dX3_hoursToFlood_62 : decode cX3_hoursToFlood 62 = .ok (.iconst (-1), 1) := dk_2 (dk_at dksX3_hoursToFlood_2 14 rfl rfl)
theorem dX3_hoursToFlood_63 : decode cX3_hoursToFlood 63 = .ok (.ireturn, 1) := dk_172 (dk_at dksX3_hoursToFlood_2 15 rfl rfl)
abbrev cX3_floodHours : ByteArray := prog_11_method_80_code
def yX3_floodHours : MethodName := ⟨RX3, "floodHours", "(I)I"⟩
def dkwX3_floodHours_3 : List UInt8 := [167, 0, 9, 16, 13, 5, 28, 104, 100, 172]
abbrev dktX3_floodHours_3 : List UInt8 := dkwX3_floodHours_3 ++ []
def dkwX3_floodHours_2 : List UInt8 := [132, 2, 1, 167, 255, 229, 28, 154, 0, 8, 16, 12, 167, 0, 19, 28, 16, 7, 160, 0, 7, 3]
abbrev dktX3_floodHours_2 : List UInt8 := dkwX3_floodHours_2 ++ dktX3_floodHours_3
def dkwX3_floodHours_1 : List UInt8 := [16, 7, 162, 0, 27, 42, 3, 28, 182, 0, 73, 42, 180, 0, 7, 16, 7, 27, 96, 46, 162, 0, 9]
abbrev dktX3_floodHours_1 : List UInt8 := dkwX3_floodHours_1 ++ dktX3_floodHours_2
def dkwX3_floodHours_0 : List UInt8 := [42, 27, 184, 0, 50, 153, 0, 7, 3, 167, 0, 4, 4, 182, 0, 54, 153, 0, 5, 3, 172, 3, 61, 28]
abbrev dktX3_floodHours_0 : List UInt8 := dkwX3_floodHours_0 ++ dktX3_floodHours_1
theorem dksX3_floodHours_0 : cX3_floodHours.data.toList.drop 0 = dktX3_floodHours_0 := by decide +kernel
theorem dksX3_floodHours_1 : cX3_floodHours.data.toList.drop 24 = dktX3_floodHours_1 := dk_seg dksX3_floodHours_0 24 rfl rfl
theorem dksX3_floodHours_2 : cX3_floodHours.data.toList.drop 47 = dktX3_floodHours_2 := dk_seg dksX3_floodHours_1 23 rfl rfl
theorem dksX3_floodHours_3 : cX3_floodHours.data.toList.drop 69 = dktX3_floodHours_3 := dk_seg dksX3_floodHours_2 22 rfl rfl
theorem dX3_floodHours_0 : decode cX3_floodHours 0 = .ok (.aload_n 0, 1) := dk_42 (dk_at dksX3_floodHours_0 0 rfl rfl)
theorem dX3_floodHours_1 : decode cX3_floodHours 1 = .ok (.iload_n 1, 1) := dk_27 (dk_at dksX3_floodHours_0 1 rfl rfl)
theorem dX3_floodHours_2 : decode cX3_floodHours 2 = .ok (.invokestatic 50, 3) := dk_184 0 50 (dk_at dksX3_floodHours_0 2 rfl rfl)
theorem dX3_floodHours_5 : decode cX3_floodHours 5 = .ok (.ifCond .eq 7, 3) := dk_153 0 7 (dk_at dksX3_floodHours_0 5 rfl rfl)
theorem dX3_floodHours_8 : decode cX3_floodHours 8 = .ok (.iconst 0, 1) := dk_3 (dk_at dksX3_floodHours_0 8 rfl rfl)
theorem dX3_floodHours_9 : decode cX3_floodHours 9 = .ok (.goto 4, 3) := dk_167 0 4 (dk_at dksX3_floodHours_0 9 rfl rfl)
theorem dX3_floodHours_12 : decode cX3_floodHours 12 = .ok (.iconst 1, 1) := dk_4 (dk_at dksX3_floodHours_0 12 rfl rfl)
theorem dX3_floodHours_13 : decode cX3_floodHours 13 = .ok (.invokevirtual 54, 3) := dk_182 0 54 (dk_at dksX3_floodHours_0 13 rfl rfl)
theorem dX3_floodHours_16 : decode cX3_floodHours 16 = .ok (.ifCond .eq 5, 3) := dk_153 0 5 (dk_at dksX3_floodHours_0 16 rfl rfl)
theorem dX3_floodHours_19 : decode cX3_floodHours 19 = .ok (.iconst 0, 1) := dk_3 (dk_at dksX3_floodHours_0 19 rfl rfl)
theorem dX3_floodHours_20 : decode cX3_floodHours 20 = .ok (.ireturn, 1) := dk_172 (dk_at dksX3_floodHours_0 20 rfl rfl)
theorem dX3_floodHours_21 : decode cX3_floodHours 21 = .ok (.iconst 0, 1) := dk_3 (dk_at dksX3_floodHours_0 21 rfl rfl)
theorem dX3_floodHours_22 : decode cX3_floodHours 22 = .ok (.istore_n 2, 1) := dk_61 (dk_at dksX3_floodHours_0 22 rfl rfl)
theorem dX3_floodHours_23 : decode cX3_floodHours 23 = .ok (.iload_n 2, 1) := dk_28 (dk_at dksX3_floodHours_0 23 rfl rfl)
theorem dX3_floodHours_24 : decode cX3_floodHours 24 = .ok (.bipush 7, 2) := dk_16 7 (dk_at dksX3_floodHours_1 0 rfl rfl)
theorem dX3_floodHours_26 : decode cX3_floodHours 26 = .ok (.if_icmp .ge 27, 3) := dk_162 0 27 (dk_at dksX3_floodHours_1 2 rfl rfl)
theorem dX3_floodHours_29 : decode cX3_floodHours 29 = .ok (.aload_n 0, 1) := dk_42 (dk_at dksX3_floodHours_1 5 rfl rfl)
theorem dX3_floodHours_30 : decode cX3_floodHours 30 = .ok (.iconst 0, 1) := dk_3 (dk_at dksX3_floodHours_1 6 rfl rfl)
theorem dX3_floodHours_31 : decode cX3_floodHours 31 = .ok (.iload_n 2, 1) := dk_28 (dk_at dksX3_floodHours_1 7 rfl rfl)
theorem dX3_floodHours_32 : decode cX3_floodHours 32 = .ok (.invokevirtual 73, 3) := dk_182 0 73 (dk_at dksX3_floodHours_1 8 rfl rfl)
theorem dX3_floodHours_35 : decode cX3_floodHours 35 = .ok (.aload_n 0, 1) := dk_42 (dk_at dksX3_floodHours_1 11 rfl rfl)
theorem dX3_floodHours_36 : decode cX3_floodHours 36 = .ok (.getfield 7, 3) := dk_180 0 7 (dk_at dksX3_floodHours_1 12 rfl rfl)
theorem dX3_floodHours_39 : decode cX3_floodHours 39 = .ok (.bipush 7, 2) := dk_16 7 (dk_at dksX3_floodHours_1 15 rfl rfl)
theorem dX3_floodHours_41 : decode cX3_floodHours 41 = .ok (.iload_n 1, 1) := dk_27 (dk_at dksX3_floodHours_1 17 rfl rfl)
theorem dX3_floodHours_42 : decode cX3_floodHours 42 = .ok (.iadd, 1) := dk_96 (dk_at dksX3_floodHours_1 18 rfl rfl)
theorem dX3_floodHours_43 : decode cX3_floodHours 43 = .ok (.iaload, 1) := dk_46 (dk_at dksX3_floodHours_1 19 rfl rfl)
theorem dX3_floodHours_44 : decode cX3_floodHours 44 = .ok (.if_icmp .ge 9, 3) := dk_162 0 9 (dk_at dksX3_floodHours_1 20 rfl rfl)
theorem dX3_floodHours_47 : decode cX3_floodHours 47 = .ok (.iinc 2 1, 3) := dk_132 2 1 (dk_at dksX3_floodHours_2 0 rfl rfl)
theorem dX3_floodHours_50 : decode cX3_floodHours 50 = .ok (.goto (-27), 3) := dk_167 255 229 (dk_at dksX3_floodHours_2 3 rfl rfl)
theorem dX3_floodHours_53 : decode cX3_floodHours 53 = .ok (.iload_n 2, 1) := dk_28 (dk_at dksX3_floodHours_2 6 rfl rfl)
theorem dX3_floodHours_54 : decode cX3_floodHours 54 = .ok (.ifCond .ne 8, 3) := dk_154 0 8 (dk_at dksX3_floodHours_2 7 rfl rfl)
theorem dX3_floodHours_57 : decode cX3_floodHours 57 = .ok (.bipush 12, 2) := dk_16 12 (dk_at dksX3_floodHours_2 10 rfl rfl)
theorem dX3_floodHours_59 : decode cX3_floodHours 59 = .ok (.goto 19, 3) := dk_167 0 19 (dk_at dksX3_floodHours_2 12 rfl rfl)
theorem dX3_floodHours_62 : decode cX3_floodHours 62 = .ok (.iload_n 2, 1) := dk_28 (dk_at dksX3_floodHours_2 15 rfl rfl)
theorem dX3_floodHours_63 : decode cX3_floodHours 63 = .ok (.bipush 7, 2) := dk_16 7 (dk_at dksX3_floodHours_2 16 rfl rfl)
theorem dX3_floodHours_65 : decode cX3_floodHours 65 = .ok (.if_icmp .ne 7, 3) := dk_160 0 7 (dk_at dksX3_floodHours_2 18 rfl rfl)
theorem dX3_floodHours_68 : decode cX3_floodHours 68 = .ok (.iconst 0, 1) := dk_3 (dk_at dksX3_floodHours_2 21 rfl rfl)
theorem dX3_floodHours_69 : decode cX3_floodHours 69 = .ok (.goto 9, 3) := dk_167 0 9 (dk_at dksX3_floodHours_3 0 rfl rfl)
theorem dX3_floodHours_72 : decode cX3_floodHours 72 = .ok (.bipush 13, 2) := dk_16 13 (dk_at dksX3_floodHours_3 3 rfl rfl)
theorem dX3_floodHours_74 : decode cX3_floodHours 74 = .ok (.iconst 2, 1) := dk_5 (dk_at dksX3_floodHours_3 5 rfl rfl)
theorem dX3_floodHours_75 : decode cX3_floodHours 75 = .ok (.iload_n 2, 1) := dk_28 (dk_at dksX3_floodHours_3 6 rfl rfl)
theorem dX3_floodHours_76 : decode cX3_floodHours 76 = .ok (.imul, 1) := dk_104 (dk_at dksX3_floodHours_3 7 rfl rfl)
theorem dX3_floodHours_77 : decode cX3_floodHours 77 = .ok (.isub, 1) := dk_100 (dk_at dksX3_floodHours_3 8 rfl rfl)
theorem dX3_floodHours_78 : decode cX3_floodHours 78 = .ok (.ireturn, 1) := dk_172 (dk_at dksX3_floodHours_3 9 rfl rfl)
abbrev cX3_floodHoursByCounting : ByteArray := prog_11_method_81_code
def yX3_floodHoursByCounting : MethodName := ⟨RX3, "floodHoursByCounting", "(I)I"⟩
def dkwX3_floodHoursByCounting_2 : List UInt8 := [161, 0, 7, 4, 167, 0, 4, 3, 96, 61, 132, 3, 1, 167, 255, 221, 28, 172]
abbrev dktX3_floodHoursByCounting_2 : List UInt8 := dkwX3_floodHoursByCounting_2 ++ []
def dkwX3_floodHoursByCounting_1 : List UInt8 := [62, 29, 16, 12, 162, 0, 35, 28, 42, 3, 29, 182, 0, 73, 42, 180, 0, 7, 16, 7, 27, 96, 46]
abbrev dktX3_floodHoursByCounting_1 : List UInt8 := dkwX3_floodHoursByCounting_1 ++ dktX3_floodHoursByCounting_2
def dkwX3_floodHoursByCounting_0 : List UInt8 := [42, 27, 184, 0, 50, 153, 0, 7, 3, 167, 0, 4, 4, 182, 0, 54, 153, 0, 5, 3, 172, 3, 61, 3]
abbrev dktX3_floodHoursByCounting_0 : List UInt8 := dkwX3_floodHoursByCounting_0 ++ dktX3_floodHoursByCounting_1
theorem dksX3_floodHoursByCounting_0 : cX3_floodHoursByCounting.data.toList.drop 0 = dktX3_floodHoursByCounting_0 := by decide +kernel
theorem dksX3_floodHoursByCounting_1 : cX3_floodHoursByCounting.data.toList.drop 24 = dktX3_floodHoursByCounting_1 := dk_seg dksX3_floodHoursByCounting_0 24 rfl rfl
theorem dksX3_floodHoursByCounting_2 : cX3_floodHoursByCounting.data.toList.drop 47 = dktX3_floodHoursByCounting_2 := dk_seg dksX3_floodHoursByCounting_1 23 rfl rfl
theorem dX3_floodHoursByCounting_0 : decode cX3_floodHoursByCounting 0 = .ok (.aload_n 0, 1) := dk_42 (dk_at dksX3_floodHoursByCounting_0 0 rfl rfl)
theorem dX3_floodHoursByCounting_1 : decode cX3_floodHoursByCounting 1 = .ok (.iload_n 1, 1) := dk_27 (dk_at dksX3_floodHoursByCounting_0 1 rfl rfl)
theorem dX3_floodHoursByCounting_2 : decode cX3_floodHoursByCounting 2 = .ok (.invokestatic 50, 3) := dk_184 0 50 (dk_at dksX3_floodHoursByCounting_0 2 rfl rfl)
theorem dX3_floodHoursByCounting_5 : decode cX3_floodHoursByCounting 5 = .ok (.ifCond .eq 7, 3) := dk_153 0 7 (dk_at dksX3_floodHoursByCounting_0 5 rfl rfl)
theorem dX3_floodHoursByCounting_8 : decode cX3_floodHoursByCounting 8 = .ok (.iconst 0, 1) := dk_3 (dk_at dksX3_floodHoursByCounting_0 8 rfl rfl)
theorem dX3_floodHoursByCounting_9 : decode cX3_floodHoursByCounting 9 = .ok (.goto 4, 3) := dk_167 0 4 (dk_at dksX3_floodHoursByCounting_0 9 rfl rfl)
theorem dX3_floodHoursByCounting_12 : decode cX3_floodHoursByCounting 12 = .ok (.iconst 1, 1) := dk_4 (dk_at dksX3_floodHoursByCounting_0 12 rfl rfl)
theorem dX3_floodHoursByCounting_13 : decode cX3_floodHoursByCounting 13 = .ok (.invokevirtual 54, 3) := dk_182 0 54 (dk_at dksX3_floodHoursByCounting_0 13 rfl rfl)
theorem dX3_floodHoursByCounting_16 : decode cX3_floodHoursByCounting 16 = .ok (.ifCond .eq 5, 3) := dk_153 0 5 (dk_at dksX3_floodHoursByCounting_0 16 rfl rfl)
theorem dX3_floodHoursByCounting_19 : decode cX3_floodHoursByCounting 19 = .ok (.iconst 0, 1) := dk_3 (dk_at dksX3_floodHoursByCounting_0 19 rfl rfl)
theorem dX3_floodHoursByCounting_20 : decode cX3_floodHoursByCounting 20 = .ok (.ireturn, 1) := dk_172 (dk_at dksX3_floodHoursByCounting_0 20 rfl rfl)
theorem dX3_floodHoursByCounting_21 : decode cX3_floodHoursByCounting 21 = .ok (.iconst 0, 1) := dk_3 (dk_at dksX3_floodHoursByCounting_0 21 rfl rfl)
theorem dX3_floodHoursByCounting_22 : decode cX3_floodHoursByCounting 22 = .ok (.istore_n 2, 1) := dk_61 (dk_at dksX3_floodHoursByCounting_0 22 rfl rfl)
theorem dX3_floodHoursByCounting_23 : decode cX3_floodHoursByCounting 23 = .ok (.iconst 0, 1) := dk_3 (dk_at dksX3_floodHoursByCounting_0 23 rfl rfl)
theorem dX3_floodHoursByCounting_24 : decode cX3_floodHoursByCounting 24 = .ok (.istore_n 3, 1) := dk_62 (dk_at dksX3_floodHoursByCounting_1 0 rfl rfl)
theorem dX3_floodHoursByCounting_25 : decode cX3_floodHoursByCounting 25 = .ok (.iload_n 3, 1) := dk_29 (dk_at dksX3_floodHoursByCounting_1 1 rfl rfl)
theorem dX3_floodHoursByCounting_26 : decode cX3_floodHoursByCounting 26 = .ok (.bipush 12, 2) := dk_16 12 (dk_at dksX3_floodHoursByCounting_1 2 rfl rfl)
theorem dX3_floodHoursByCounting_28 : decode cX3_floodHoursByCounting 28 = .ok (.if_icmp .ge 35, 3) := dk_162 0 35 (dk_at dksX3_floodHoursByCounting_1 4 rfl rfl)
theorem dX3_floodHoursByCounting_31 : decode cX3_floodHoursByCounting 31 = .ok (.iload_n 2, 1) := dk_28 (dk_at dksX3_floodHoursByCounting_1 7 rfl rfl)
theorem dX3_floodHoursByCounting_32 : decode cX3_floodHoursByCounting 32 = .ok (.aload_n 0, 1) := dk_42 (dk_at dksX3_floodHoursByCounting_1 8 rfl rfl)
theorem dX3_floodHoursByCounting_33 : decode cX3_floodHoursByCounting 33 = .ok (.iconst 0, 1) := dk_3 (dk_at dksX3_floodHoursByCounting_1 9 rfl rfl)
theorem dX3_floodHoursByCounting_34 : decode cX3_floodHoursByCounting 34 = .ok (.iload_n 3, 1) := dk_29 (dk_at dksX3_floodHoursByCounting_1 10 rfl rfl)
theorem dX3_floodHoursByCounting_35 : decode cX3_floodHoursByCounting 35 = .ok (.invokevirtual 73, 3) := dk_182 0 73 (dk_at dksX3_floodHoursByCounting_1 11 rfl rfl)
theorem dX3_floodHoursByCounting_38 : decode cX3_floodHoursByCounting 38 = .ok (.aload_n 0, 1) := dk_42 (dk_at dksX3_floodHoursByCounting_1 14 rfl rfl)
theorem dX3_floodHoursByCounting_39 : decode cX3_floodHoursByCounting 39 = .ok (.getfield 7, 3) := dk_180 0 7 (dk_at dksX3_floodHoursByCounting_1 15 rfl rfl)
theorem dX3_floodHoursByCounting_42 : decode cX3_floodHoursByCounting 42 = .ok (.bipush 7, 2) := dk_16 7 (dk_at dksX3_floodHoursByCounting_1 18 rfl rfl)
theorem dX3_floodHoursByCounting_44 : decode cX3_floodHoursByCounting 44 = .ok (.iload_n 1, 1) := dk_27 (dk_at dksX3_floodHoursByCounting_1 20 rfl rfl)
theorem dX3_floodHoursByCounting_45 : decode cX3_floodHoursByCounting 45 = .ok (.iadd, 1) := dk_96 (dk_at dksX3_floodHoursByCounting_1 21 rfl rfl)
theorem dX3_floodHoursByCounting_46 : decode cX3_floodHoursByCounting 46 = .ok (.iaload, 1) := dk_46 (dk_at dksX3_floodHoursByCounting_1 22 rfl rfl)
theorem dX3_floodHoursByCounting_47 : decode cX3_floodHoursByCounting 47 = .ok (.if_icmp .lt 7, 3) := dk_161 0 7 (dk_at dksX3_floodHoursByCounting_2 0 rfl rfl)
theorem dX3_floodHoursByCounting_50 : decode cX3_floodHoursByCounting 50 = .ok (.iconst 1, 1) := dk_4 (dk_at dksX3_floodHoursByCounting_2 3 rfl rfl)
theorem dX3_floodHoursByCounting_51 : decode cX3_floodHoursByCounting 51 = .ok (.goto 4, 3) := dk_167 0 4 (dk_at dksX3_floodHoursByCounting_2 4 rfl rfl)
theorem dX3_floodHoursByCounting_54 : decode cX3_floodHoursByCounting 54 = .ok (.iconst 0, 1) := dk_3 (dk_at dksX3_floodHoursByCounting_2 7 rfl rfl)
theorem dX3_floodHoursByCounting_55 : decode cX3_floodHoursByCounting 55 = .ok (.iadd, 1) := dk_96 (dk_at dksX3_floodHoursByCounting_2 8 rfl rfl)
theorem dX3_floodHoursByCounting_56 : decode cX3_floodHoursByCounting 56 = .ok (.istore_n 2, 1) := dk_61 (dk_at dksX3_floodHoursByCounting_2 9 rfl rfl)
theorem dX3_floodHoursByCounting_57 : decode cX3_floodHoursByCounting 57 = .ok (.iinc 3 1, 3) := dk_132 3 1 (dk_at dksX3_floodHoursByCounting_2 10 rfl rfl)
theorem dX3_floodHoursByCounting_60 : decode cX3_floodHoursByCounting 60 = .ok (.goto (-35), 3) := dk_167 255 221 (dk_at dksX3_floodHoursByCounting_2 13 rfl rfl)
theorem dX3_floodHoursByCounting_63 : decode cX3_floodHoursByCounting 63 = .ok (.iload_n 2, 1) := dk_28 (dk_at dksX3_floodHoursByCounting_2 16 rfl rfl)
theorem dX3_floodHoursByCounting_64 : decode cX3_floodHoursByCounting 64 = .ok (.ireturn, 1) := dk_172 (dk_at dksX3_floodHoursByCounting_2 17 rfl rfl)
abbrev cX3_limpets : ByteArray := prog_11_method_82_code
def yX3_limpets : MethodName := ⟨RX3, "limpets", "()I"⟩
def dkwX3_limpets_0 : List UInt8 := [42, 16, 31, 182, 0, 198, 172]
abbrev dktX3_limpets_0 : List UInt8 := dkwX3_limpets_0 ++ []
theorem dksX3_limpets_0 : cX3_limpets.data.toList.drop 0 = dktX3_limpets_0 := by decide +kernel
theorem dX3_limpets_0 : decode cX3_limpets 0 = .ok (.aload_n 0, 1) := dk_42 (dk_at dksX3_limpets_0 0 rfl rfl)
theorem dX3_limpets_1 : decode cX3_limpets 1 = .ok (.bipush 31, 2) := dk_16 31 (dk_at dksX3_limpets_0 1 rfl rfl)
theorem dX3_limpets_3 : decode cX3_limpets 3 = .ok (.invokevirtual 198, 3) := dk_182 0 198 (dk_at dksX3_limpets_0 3 rfl rfl)
theorem dX3_limpets_6 : decode cX3_limpets 6 = .ok (.ireturn, 1) := dk_172 (dk_at dksX3_limpets_0 6 rfl rfl)
abbrev cX3_livingLimpets : ByteArray := prog_11_method_85_code
def yX3_livingLimpets : MethodName := ⟨RX3, "livingLimpets", "()I"⟩
def dkwX3_livingLimpets_0 : List UInt8 := [42, 3, 181, 0, 22, 42, 3, 182, 0, 204, 172]
abbrev dktX3_livingLimpets_0 : List UInt8 := dkwX3_livingLimpets_0 ++ []
theorem dksX3_livingLimpets_0 : cX3_livingLimpets.data.toList.drop 0 = dktX3_livingLimpets_0 := by decide +kernel
theorem dX3_livingLimpets_0 : decode cX3_livingLimpets 0 = .ok (.aload_n 0, 1) := dk_42 (dk_at dksX3_livingLimpets_0 0 rfl rfl)
theorem dX3_livingLimpets_1 : decode cX3_livingLimpets 1 = .ok (.iconst 0, 1) := dk_3 (dk_at dksX3_livingLimpets_0 1 rfl rfl)
theorem dX3_livingLimpets_2 : decode cX3_livingLimpets 2 = .ok (.putfield 22, 3) := dk_181 0 22 (dk_at dksX3_livingLimpets_0 2 rfl rfl)
theorem dX3_livingLimpets_5 : decode cX3_livingLimpets 5 = .ok (.aload_n 0, 1) := dk_42 (dk_at dksX3_livingLimpets_0 5 rfl rfl)
theorem dX3_livingLimpets_6 : decode cX3_livingLimpets 6 = .ok (.iconst 0, 1) := dk_3 (dk_at dksX3_livingLimpets_0 6 rfl rfl)
theorem dX3_livingLimpets_7 : decode cX3_livingLimpets 7 = .ok (.invokevirtual 204, 3) := dk_182 0 204 (dk_at dksX3_livingLimpets_0 7 rfl rfl)
theorem dX3_livingLimpets_10 : decode cX3_livingLimpets 10 = .ok (.ireturn, 1) := dk_172 (dk_at dksX3_livingLimpets_0 10 rfl rfl)
abbrev cX3_limpetsWith : ByteArray := prog_11_method_83_code
def yX3_limpetsWith : MethodName := ⟨RX3, "limpetsWith", "(I)I"⟩
def dkwX3_limpetsWith_2 : List UInt8 := [172]
abbrev dktX3_limpetsWith_2 : List UInt8 := dkwX3_limpetsWith_2 ++ []
def dkwX3_limpetsWith_1 : List UInt8 := [184, 0, 36, 7, 96, 46, 27, 160, 0, 7, 4, 167, 0, 4, 3, 96, 61, 132, 3, 1, 167, 255, 218, 28]
abbrev dktX3_limpetsWith_1 : List UInt8 := dkwX3_limpetsWith_1 ++ dktX3_limpetsWith_2
def dkwX3_limpetsWith_0 : List UInt8 := [3, 61, 3, 62, 29, 42, 180, 0, 7, 16, 31, 46, 162, 0, 33, 28, 42, 180, 0, 7, 3, 29]
abbrev dktX3_limpetsWith_0 : List UInt8 := dkwX3_limpetsWith_0 ++ dktX3_limpetsWith_1
theorem dksX3_limpetsWith_0 : cX3_limpetsWith.data.toList.drop 0 = dktX3_limpetsWith_0 := by decide +kernel
theorem dksX3_limpetsWith_1 : cX3_limpetsWith.data.toList.drop 22 = dktX3_limpetsWith_1 := dk_seg dksX3_limpetsWith_0 22 rfl rfl
theorem dksX3_limpetsWith_2 : cX3_limpetsWith.data.toList.drop 46 = dktX3_limpetsWith_2 := dk_seg dksX3_limpetsWith_1 24 rfl rfl
theorem dX3_limpetsWith_0 : decode cX3_limpetsWith 0 = .ok (.iconst 0, 1) := dk_3 (dk_at dksX3_limpetsWith_0 0 rfl rfl)
theorem dX3_limpetsWith_1 : decode cX3_limpetsWith 1 = .ok (.istore_n 2, 1) := dk_61 (dk_at dksX3_limpetsWith_0 1 rfl rfl)
theorem dX3_limpetsWith_2 : decode cX3_limpetsWith 2 = .ok (.iconst 0, 1) := dk_3 (dk_at dksX3_limpetsWith_0 2 rfl rfl)
theorem dX3_limpetsWith_3 : decode cX3_limpetsWith 3 = .ok (.istore_n 3, 1) := dk_62 (dk_at dksX3_limpetsWith_0 3 rfl rfl)
theorem dX3_limpetsWith_4 : decode cX3_limpetsWith 4 = .ok (.iload_n 3, 1) := dk_29 (dk_at dksX3_limpetsWith_0 4 rfl rfl)
theorem dX3_limpetsWith_5 : decode cX3_limpetsWith 5 = .ok (.aload_n 0, 1) := dk_42 (dk_at dksX3_limpetsWith_0 5 rfl rfl)
theorem dX3_limpetsWith_6 : decode cX3_limpetsWith 6 = .ok (.getfield 7, 3) := dk_180 0 7 (dk_at dksX3_limpetsWith_0 6 rfl rfl)
theorem dX3_limpetsWith_9 : decode cX3_limpetsWith 9 = .ok (.bipush 31, 2) := dk_16 31 (dk_at dksX3_limpetsWith_0 9 rfl rfl)
theorem dX3_limpetsWith_11 : decode cX3_limpetsWith 11 = .ok (.iaload, 1) := dk_46 (dk_at dksX3_limpetsWith_0 11 rfl rfl)
theorem dX3_limpetsWith_12 : decode cX3_limpetsWith 12 = .ok (.if_icmp .ge 33, 3) := dk_162 0 33 (dk_at dksX3_limpetsWith_0 12 rfl rfl)
theorem dX3_limpetsWith_15 : decode cX3_limpetsWith 15 = .ok (.iload_n 2, 1) := dk_28 (dk_at dksX3_limpetsWith_0 15 rfl rfl)
theorem dX3_limpetsWith_16 : decode cX3_limpetsWith 16 = .ok (.aload_n 0, 1) := dk_42 (dk_at dksX3_limpetsWith_0 16 rfl rfl)
theorem dX3_limpetsWith_17 : decode cX3_limpetsWith 17 = .ok (.getfield 7, 3) := dk_180 0 7 (dk_at dksX3_limpetsWith_0 17 rfl rfl)
theorem dX3_limpetsWith_20 : decode cX3_limpetsWith 20 = .ok (.iconst 0, 1) := dk_3 (dk_at dksX3_limpetsWith_0 20 rfl rfl)
theorem dX3_limpetsWith_21 : decode cX3_limpetsWith 21 = .ok (.iload_n 3, 1) := dk_29 (dk_at dksX3_limpetsWith_0 21 rfl rfl)
theorem dX3_limpetsWith_22 : decode cX3_limpetsWith 22 = .ok (.invokestatic 36, 3) := dk_184 0 36 (dk_at dksX3_limpetsWith_1 0 rfl rfl)
theorem dX3_limpetsWith_25 : decode cX3_limpetsWith 25 = .ok (.iconst 4, 1) := dk_7 (dk_at dksX3_limpetsWith_1 3 rfl rfl)
theorem dX3_limpetsWith_26 : decode cX3_limpetsWith 26 = .ok (.iadd, 1) := dk_96 (dk_at dksX3_limpetsWith_1 4 rfl rfl)
theorem dX3_limpetsWith_27 : decode cX3_limpetsWith 27 = .ok (.iaload, 1) := dk_46 (dk_at dksX3_limpetsWith_1 5 rfl rfl)
theorem dX3_limpetsWith_28 : decode cX3_limpetsWith 28 = .ok (.iload_n 1, 1) := dk_27 (dk_at dksX3_limpetsWith_1 6 rfl rfl)
theorem dX3_limpetsWith_29 : decode cX3_limpetsWith 29 = .ok (.if_icmp .ne 7, 3) := dk_160 0 7 (dk_at dksX3_limpetsWith_1 7 rfl rfl)
theorem dX3_limpetsWith_32 : decode cX3_limpetsWith 32 = .ok (.iconst 1, 1) := dk_4 (dk_at dksX3_limpetsWith_1 10 rfl rfl)
theorem dX3_limpetsWith_33 : decode cX3_limpetsWith 33 = .ok (.goto 4, 3) := dk_167 0 4 (dk_at dksX3_limpetsWith_1 11 rfl rfl)
theorem dX3_limpetsWith_36 : decode cX3_limpetsWith 36 = .ok (.iconst 0, 1) := dk_3 (dk_at dksX3_limpetsWith_1 14 rfl rfl)
theorem dX3_limpetsWith_37 : decode cX3_limpetsWith 37 = .ok (.iadd, 1) := dk_96 (dk_at dksX3_limpetsWith_1 15 rfl rfl)
theorem dX3_limpetsWith_38 : decode cX3_limpetsWith 38 = .ok (.istore_n 2, 1) := dk_61 (dk_at dksX3_limpetsWith_1 16 rfl rfl)
theorem dX3_limpetsWith_39 : decode cX3_limpetsWith 39 = .ok (.iinc 3 1, 3) := dk_132 3 1 (dk_at dksX3_limpetsWith_1 17 rfl rfl)
theorem dX3_limpetsWith_42 : decode cX3_limpetsWith 42 = .ok (.goto (-38), 3) := dk_167 255 218 (dk_at dksX3_limpetsWith_1 20 rfl rfl)
theorem dX3_limpetsWith_45 : decode cX3_limpetsWith 45 = .ok (.iload_n 2, 1) := dk_28 (dk_at dksX3_limpetsWith_1 23 rfl rfl)
theorem dX3_limpetsWith_46 : decode cX3_limpetsWith 46 = .ok (.ireturn, 1) := dk_172 (dk_at dksX3_limpetsWith_2 0 rfl rfl)
abbrev cX3_fateOfLimpet : ByteArray := prog_11_method_87_code
def yX3_fateOfLimpet : MethodName := ⟨RX3, "fateOfLimpet", "(I)I"⟩
def dkwX3_fateOfLimpet_0 : List UInt8 := [42, 27, 7, 182, 0, 210, 172]
abbrev dktX3_fateOfLimpet_0 : List UInt8 := dkwX3_fateOfLimpet_0 ++ []
theorem dksX3_fateOfLimpet_0 : cX3_fateOfLimpet.data.toList.drop 0 = dktX3_fateOfLimpet_0 := by decide +kernel
theorem dX3_fateOfLimpet_0 : decode cX3_fateOfLimpet 0 = .ok (.aload_n 0, 1) := dk_42 (dk_at dksX3_fateOfLimpet_0 0 rfl rfl)
theorem dX3_fateOfLimpet_1 : decode cX3_fateOfLimpet 1 = .ok (.iload_n 1, 1) := dk_27 (dk_at dksX3_fateOfLimpet_0 1 rfl rfl)
theorem dX3_fateOfLimpet_2 : decode cX3_fateOfLimpet 2 = .ok (.iconst 4, 1) := dk_7 (dk_at dksX3_fateOfLimpet_0 2 rfl rfl)
theorem dX3_fateOfLimpet_3 : decode cX3_fateOfLimpet 3 = .ok (.invokevirtual 210, 3) := dk_182 0 210 (dk_at dksX3_fateOfLimpet_0 3 rfl rfl)
theorem dX3_fateOfLimpet_6 : decode cX3_fateOfLimpet 6 = .ok (.ireturn, 1) := dk_172 (dk_at dksX3_fateOfLimpet_0 6 rfl rfl)
abbrev cX3_ofLimpet : ByteArray := prog_11_method_86_code
def yX3_ofLimpet : MethodName := ⟨RX3, "ofLimpet", "(II)I"⟩
def dkwX3_ofLimpet_1 : List UInt8 := [42, 180, 0, 7, 3, 27, 184, 0, 36, 28, 96, 46, 172]
abbrev dktX3_ofLimpet_1 : List UInt8 := dkwX3_ofLimpet_1 ++ []
def dkwX3_ofLimpet_0 : List UInt8 := [42, 42, 27, 182, 0, 207, 153, 0, 7, 3, 167, 0, 4, 4, 182, 0, 54, 153, 0, 7, 3, 167, 0, 15]
abbrev dktX3_ofLimpet_0 : List UInt8 := dkwX3_ofLimpet_0 ++ dktX3_ofLimpet_1
theorem dksX3_ofLimpet_0 : cX3_ofLimpet.data.toList.drop 0 = dktX3_ofLimpet_0 := by decide +kernel
theorem dksX3_ofLimpet_1 : cX3_ofLimpet.data.toList.drop 24 = dktX3_ofLimpet_1 := dk_seg dksX3_ofLimpet_0 24 rfl rfl
theorem dX3_ofLimpet_0 : decode cX3_ofLimpet 0 = .ok (.aload_n 0, 1) := dk_42 (dk_at dksX3_ofLimpet_0 0 rfl rfl)
theorem dX3_ofLimpet_1 : decode cX3_ofLimpet 1 = .ok (.aload_n 0, 1) := dk_42 (dk_at dksX3_ofLimpet_0 1 rfl rfl)
theorem dX3_ofLimpet_2 : decode cX3_ofLimpet 2 = .ok (.iload_n 1, 1) := dk_27 (dk_at dksX3_ofLimpet_0 2 rfl rfl)
theorem dX3_ofLimpet_3 : decode cX3_ofLimpet 3 = .ok (.invokevirtual 207, 3) := dk_182 0 207 (dk_at dksX3_ofLimpet_0 3 rfl rfl)
theorem dX3_ofLimpet_6 : decode cX3_ofLimpet 6 = .ok (.ifCond .eq 7, 3) := dk_153 0 7 (dk_at dksX3_ofLimpet_0 6 rfl rfl)
theorem dX3_ofLimpet_9 : decode cX3_ofLimpet 9 = .ok (.iconst 0, 1) := dk_3 (dk_at dksX3_ofLimpet_0 9 rfl rfl)
theorem dX3_ofLimpet_10 : decode cX3_ofLimpet 10 = .ok (.goto 4, 3) := dk_167 0 4 (dk_at dksX3_ofLimpet_0 10 rfl rfl)
theorem dX3_ofLimpet_13 : decode cX3_ofLimpet 13 = .ok (.iconst 1, 1) := dk_4 (dk_at dksX3_ofLimpet_0 13 rfl rfl)
theorem dX3_ofLimpet_14 : decode cX3_ofLimpet 14 = .ok (.invokevirtual 54, 3) := dk_182 0 54 (dk_at dksX3_ofLimpet_0 14 rfl rfl)
theorem dX3_ofLimpet_17 : decode cX3_ofLimpet 17 = .ok (.ifCond .eq 7, 3) := dk_153 0 7 (dk_at dksX3_ofLimpet_0 17 rfl rfl)
theorem dX3_ofLimpet_20 : decode cX3_ofLimpet 20 = .ok (.iconst 0, 1) := dk_3 (dk_at dksX3_ofLimpet_0 20 rfl rfl)
theorem dX3_ofLimpet_21 : decode cX3_ofLimpet 21 = .ok (.goto 15, 3) := dk_167 0 15 (dk_at dksX3_ofLimpet_0 21 rfl rfl)
theorem dX3_ofLimpet_24 : decode cX3_ofLimpet 24 = .ok (.aload_n 0, 1) := dk_42 (dk_at dksX3_ofLimpet_1 0 rfl rfl)
theorem dX3_ofLimpet_25 : decode cX3_ofLimpet 25 = .ok (.getfield 7, 3) := dk_180 0 7 (dk_at dksX3_ofLimpet_1 1 rfl rfl)
theorem dX3_ofLimpet_28 : decode cX3_ofLimpet 28 = .ok (.iconst 0, 1) := dk_3 (dk_at dksX3_ofLimpet_1 4 rfl rfl)
theorem dX3_ofLimpet_29 : decode cX3_ofLimpet 29 = .ok (.iload_n 1, 1) := dk_27 (dk_at dksX3_ofLimpet_1 5 rfl rfl)
theorem dX3_ofLimpet_30 : decode cX3_ofLimpet 30 = .ok (.invokestatic 36, 3) := dk_184 0 36 (dk_at dksX3_ofLimpet_1 6 rfl rfl)
theorem dX3_ofLimpet_33 : decode cX3_ofLimpet 33 = .ok (.iload_n 2, 1) := dk_28 (dk_at dksX3_ofLimpet_1 9 rfl rfl)
theorem dX3_ofLimpet_34 : decode cX3_ofLimpet 34 = .ok (.iadd, 1) := dk_96 (dk_at dksX3_ofLimpet_1 10 rfl rfl)
theorem dX3_ofLimpet_35 : decode cX3_ofLimpet 35 = .ok (.iaload, 1) := dk_46 (dk_at dksX3_ofLimpet_1 11 rfl rfl)
theorem dX3_ofLimpet_36 : decode cX3_ofLimpet 36 = .ok (.ireturn, 1) := dk_172 (dk_at dksX3_ofLimpet_1 12 rfl rfl)
abbrev cX3_isLimpet : ByteArray := prog_11_method_6_code
def yX3_isLimpet : MethodName := ⟨RX3, "isLimpet", "(I)Z"⟩
def dkwX3_isLimpet_0 : List UInt8 := [27, 3, 42, 180, 0, 7, 16, 31, 46, 4, 100, 184, 0, 26, 172]
abbrev dktX3_isLimpet_0 : List UInt8 := dkwX3_isLimpet_0 ++ []
theorem dksX3_isLimpet_0 : cX3_isLimpet.data.toList.drop 0 = dktX3_isLimpet_0 := by decide +kernel
theorem dX3_isLimpet_0 : decode cX3_isLimpet 0 = .ok (.iload_n 1, 1) := dk_27 (dk_at dksX3_isLimpet_0 0 rfl rfl)
theorem dX3_isLimpet_1 : decode cX3_isLimpet 1 = .ok (.iconst 0, 1) := dk_3 (dk_at dksX3_isLimpet_0 1 rfl rfl)
theorem dX3_isLimpet_2 : decode cX3_isLimpet 2 = .ok (.aload_n 0, 1) := dk_42 (dk_at dksX3_isLimpet_0 2 rfl rfl)
theorem dX3_isLimpet_3 : decode cX3_isLimpet 3 = .ok (.getfield 7, 3) := dk_180 0 7 (dk_at dksX3_isLimpet_0 3 rfl rfl)
theorem dX3_isLimpet_6 : decode cX3_isLimpet 6 = .ok (.bipush 31, 2) := dk_16 31 (dk_at dksX3_isLimpet_0 6 rfl rfl)
theorem dX3_isLimpet_8 : decode cX3_isLimpet 8 = .ok (.iaload, 1) := dk_46 (dk_at dksX3_isLimpet_0 8 rfl rfl)
theorem dX3_isLimpet_9 : decode cX3_isLimpet 9 = .ok (.iconst 1, 1) := dk_4 (dk_at dksX3_isLimpet_0 9 rfl rfl)
theorem dX3_isLimpet_10 : decode cX3_isLimpet 10 = .ok (.isub, 1) := dk_100 (dk_at dksX3_isLimpet_0 10 rfl rfl)
theorem dX3_isLimpet_11 : decode cX3_isLimpet 11 = .ok (.invokestatic 26, 3) := dk_184 0 26 (dk_at dksX3_isLimpet_0 11 rfl rfl)
theorem dX3_isLimpet_14 : decode cX3_isLimpet 14 = .ok (.ireturn, 1) := dk_172 (dk_at dksX3_isLimpet_0 14 rfl rfl)
abbrev cX3_poolOfLimpet : ByteArray := prog_11_method_88_code
def yX3_poolOfLimpet : MethodName := ⟨RX3, "poolOfLimpet", "(I)I"⟩
def dkwX3_poolOfLimpet_0 : List UInt8 := [42, 27, 3, 182, 0, 210, 172]
abbrev dktX3_poolOfLimpet_0 : List UInt8 := dkwX3_poolOfLimpet_0 ++ []
theorem dksX3_poolOfLimpet_0 : cX3_poolOfLimpet.data.toList.drop 0 = dktX3_poolOfLimpet_0 := by decide +kernel
theorem dX3_poolOfLimpet_0 : decode cX3_poolOfLimpet 0 = .ok (.aload_n 0, 1) := dk_42 (dk_at dksX3_poolOfLimpet_0 0 rfl rfl)
theorem dX3_poolOfLimpet_1 : decode cX3_poolOfLimpet 1 = .ok (.iload_n 1, 1) := dk_27 (dk_at dksX3_poolOfLimpet_0 1 rfl rfl)
theorem dX3_poolOfLimpet_2 : decode cX3_poolOfLimpet 2 = .ok (.iconst 0, 1) := dk_3 (dk_at dksX3_poolOfLimpet_0 2 rfl rfl)
theorem dX3_poolOfLimpet_3 : decode cX3_poolOfLimpet 3 = .ok (.invokevirtual 210, 3) := dk_182 0 210 (dk_at dksX3_poolOfLimpet_0 3 rfl rfl)
theorem dX3_poolOfLimpet_6 : decode cX3_poolOfLimpet 6 = .ok (.ireturn, 1) := dk_172 (dk_at dksX3_poolOfLimpet_0 6 rfl rfl)
abbrev cX3_waterOf : ByteArray := prog_11_method_89_code
def yX3_waterOf : MethodName := ⟨RX3, "waterOf", "(I)I"⟩
def dkwX3_waterOf_0 : List UInt8 := [42, 27, 4, 182, 0, 210, 172]
abbrev dktX3_waterOf_0 : List UInt8 := dkwX3_waterOf_0 ++ []
theorem dksX3_waterOf_0 : cX3_waterOf.data.toList.drop 0 = dktX3_waterOf_0 := by decide +kernel
theorem dX3_waterOf_0 : decode cX3_waterOf 0 = .ok (.aload_n 0, 1) := dk_42 (dk_at dksX3_waterOf_0 0 rfl rfl)
theorem dX3_waterOf_1 : decode cX3_waterOf 1 = .ok (.iload_n 1, 1) := dk_27 (dk_at dksX3_waterOf_0 1 rfl rfl)
theorem dX3_waterOf_2 : decode cX3_waterOf 2 = .ok (.iconst 1, 1) := dk_4 (dk_at dksX3_waterOf_0 2 rfl rfl)
theorem dX3_waterOf_3 : decode cX3_waterOf 3 = .ok (.invokevirtual 210, 3) := dk_182 0 210 (dk_at dksX3_waterOf_0 3 rfl rfl)
theorem dX3_waterOf_6 : decode cX3_waterOf 6 = .ok (.ireturn, 1) := dk_172 (dk_at dksX3_waterOf_0 6 rfl rfl)
abbrev cX3_foodOf : ByteArray := prog_11_method_90_code
def yX3_foodOf : MethodName := ⟨RX3, "foodOf", "(I)I"⟩
def dkwX3_foodOf_0 : List UInt8 := [42, 27, 5, 182, 0, 210, 172]
abbrev dktX3_foodOf_0 : List UInt8 := dkwX3_foodOf_0 ++ []
theorem dksX3_foodOf_0 : cX3_foodOf.data.toList.drop 0 = dktX3_foodOf_0 := by decide +kernel
theorem dX3_foodOf_0 : decode cX3_foodOf 0 = .ok (.aload_n 0, 1) := dk_42 (dk_at dksX3_foodOf_0 0 rfl rfl)
theorem dX3_foodOf_1 : decode cX3_foodOf 1 = .ok (.iload_n 1, 1) := dk_27 (dk_at dksX3_foodOf_0 1 rfl rfl)
theorem dX3_foodOf_2 : decode cX3_foodOf 2 = .ok (.iconst 2, 1) := dk_5 (dk_at dksX3_foodOf_0 2 rfl rfl)
theorem dX3_foodOf_3 : decode cX3_foodOf 3 = .ok (.invokevirtual 210, 3) := dk_182 0 210 (dk_at dksX3_foodOf_0 3 rfl rfl)
theorem dX3_foodOf_6 : decode cX3_foodOf 6 = .ok (.ireturn, 1) := dk_172 (dk_at dksX3_foodOf_0 6 rfl rfl)
abbrev cX3_stepsOf : ByteArray := prog_11_method_91_code
def yX3_stepsOf : MethodName := ⟨RX3, "stepsOf", "(I)I"⟩
def dkwX3_stepsOf_0 : List UInt8 := [42, 27, 6, 182, 0, 210, 172]
abbrev dktX3_stepsOf_0 : List UInt8 := dkwX3_stepsOf_0 ++ []
theorem dksX3_stepsOf_0 : cX3_stepsOf.data.toList.drop 0 = dktX3_stepsOf_0 := by decide +kernel
theorem dX3_stepsOf_0 : decode cX3_stepsOf 0 = .ok (.aload_n 0, 1) := dk_42 (dk_at dksX3_stepsOf_0 0 rfl rfl)
theorem dX3_stepsOf_1 : decode cX3_stepsOf 1 = .ok (.iload_n 1, 1) := dk_27 (dk_at dksX3_stepsOf_0 1 rfl rfl)
theorem dX3_stepsOf_2 : decode cX3_stepsOf 2 = .ok (.iconst 3, 1) := dk_6 (dk_at dksX3_stepsOf_0 2 rfl rfl)
theorem dX3_stepsOf_3 : decode cX3_stepsOf 3 = .ok (.invokevirtual 210, 3) := dk_182 0 210 (dk_at dksX3_stepsOf_0 3 rfl rfl)
theorem dX3_stepsOf_6 : decode cX3_stepsOf 6 = .ok (.ireturn, 1) := dk_172 (dk_at dksX3_stepsOf_0 6 rfl rfl)
abbrev cX3_driest : ByteArray := prog_11_method_92_code
def yX3_driest : MethodName := ⟨RX3, "driest", "()I"⟩
def dkwX3_driest_4 : List UInt8 := [21, 5, 153, 0, 8, 21, 4, 167, 0, 4, 28, 61, 132, 3, 1, 167, 255, 156, 27, 172]
abbrev dktX3_driest_4 : List UInt8 := dkwX3_driest_4 ++ []
def dkwX3_driest_3 : List UInt8 := [21, 4, 28, 162, 0, 7, 4, 167, 0, 4, 3, 54, 5, 21, 5, 153, 0, 7, 29, 167, 0, 4, 27, 60]
abbrev dktX3_driest_3 : List UInt8 := dkwX3_driest_3 ++ dktX3_driest_4
def dkwX3_driest_2 : List UInt8 := [46, 96, 54, 4, 42, 180, 0, 7, 3, 29, 184, 0, 36, 7, 96, 46, 154, 0, 18, 27, 2, 159, 0, 9]
abbrev dktX3_driest_2 : List UInt8 := dkwX3_driest_2 ++ dktX3_driest_3
def dkwX3_driest_1 : List UInt8 := [42, 180, 0, 7, 3, 29, 184, 0, 36, 4, 96, 46, 104, 42, 180, 0, 7, 3, 29, 184, 0, 36, 5, 96]
abbrev dktX3_driest_1 : List UInt8 := dkwX3_driest_1 ++ dktX3_driest_2
def dkwX3_driest_0 : List UInt8 := [42, 3, 181, 0, 22, 2, 60, 3, 61, 3, 62, 29, 42, 180, 0, 7, 16, 31, 46, 162, 0, 95, 16, 100]
abbrev dktX3_driest_0 : List UInt8 := dkwX3_driest_0 ++ dktX3_driest_1
theorem dksX3_driest_0 : cX3_driest.data.toList.drop 0 = dktX3_driest_0 := by decide +kernel
theorem dksX3_driest_1 : cX3_driest.data.toList.drop 24 = dktX3_driest_1 := dk_seg dksX3_driest_0 24 rfl rfl
theorem dksX3_driest_2 : cX3_driest.data.toList.drop 48 = dktX3_driest_2 := dk_seg dksX3_driest_1 24 rfl rfl
theorem dksX3_driest_3 : cX3_driest.data.toList.drop 72 = dktX3_driest_3 := dk_seg dksX3_driest_2 24 rfl rfl
theorem dksX3_driest_4 : cX3_driest.data.toList.drop 96 = dktX3_driest_4 := dk_seg dksX3_driest_3 24 rfl rfl
theorem dX3_driest_0 : decode cX3_driest 0 = .ok (.aload_n 0, 1) := dk_42 (dk_at dksX3_driest_0 0 rfl rfl)
theorem dX3_driest_1 : decode cX3_driest 1 = .ok (.iconst 0, 1) := dk_3 (dk_at dksX3_driest_0 1 rfl rfl)
theorem dX3_driest_2 : decode cX3_driest 2 = .ok (.putfield 22, 3) := dk_181 0 22 (dk_at dksX3_driest_0 2 rfl rfl)
theorem dX3_driest_5 : decode cX3_driest 5 = .ok (.iconst (-1), 1) := dk_2 (dk_at dksX3_driest_0 5 rfl rfl)
theorem dX3_driest_6 : decode cX3_driest 6 = .ok (.istore_n 1, 1) := dk_60 (dk_at dksX3_driest_0 6 rfl rfl)
theorem dX3_driest_7 : decode cX3_driest 7 = .ok (.iconst 0, 1) := dk_3 (dk_at dksX3_driest_0 7 rfl rfl)
theorem dX3_driest_8 : decode cX3_driest 8 = .ok (.istore_n 2, 1) := dk_61 (dk_at dksX3_driest_0 8 rfl rfl)
theorem dX3_driest_9 : decode cX3_driest 9 = .ok (.iconst 0, 1) := dk_3 (dk_at dksX3_driest_0 9 rfl rfl)
theorem dX3_driest_10 : decode cX3_driest 10 = .ok (.istore_n 3, 1) := dk_62 (dk_at dksX3_driest_0 10 rfl rfl)
theorem dX3_driest_11 : decode cX3_driest 11 = .ok (.iload_n 3, 1) := dk_29 (dk_at dksX3_driest_0 11 rfl rfl)
theorem dX3_driest_12 : decode cX3_driest 12 = .ok (.aload_n 0, 1) := dk_42 (dk_at dksX3_driest_0 12 rfl rfl)
theorem dX3_driest_13 : decode cX3_driest 13 = .ok (.getfield 7, 3) := dk_180 0 7 (dk_at dksX3_driest_0 13 rfl rfl)
theorem dX3_driest_16 : decode cX3_driest 16 = .ok (.bipush 31, 2) := dk_16 31 (dk_at dksX3_driest_0 16 rfl rfl)
theorem dX3_driest_18 : decode cX3_driest 18 = .ok (.iaload, 1) := dk_46 (dk_at dksX3_driest_0 18 rfl rfl)
theorem dX3_driest_19 : decode cX3_driest 19 = .ok (.if_icmp .ge 95, 3) := dk_162 0 95 (dk_at dksX3_driest_0 19 rfl rfl)
theorem dX3_driest_22 : decode cX3_driest 22 = .ok (.bipush 100, 2) := dk_16 100 (dk_at dksX3_driest_0 22 rfl rfl)
theorem dX3_driest_24 : decode cX3_driest 24 = .ok (.aload_n 0, 1) := dk_42 (dk_at dksX3_driest_1 0 rfl rfl)
theorem dX3_driest_25 : decode cX3_driest 25 = .ok (.getfield 7, 3) := dk_180 0 7 (dk_at dksX3_driest_1 1 rfl rfl)
theorem dX3_driest_28 : decode cX3_driest 28 = .ok (.iconst 0, 1) := dk_3 (dk_at dksX3_driest_1 4 rfl rfl)
theorem dX3_driest_29 : decode cX3_driest 29 = .ok (.iload_n 3, 1) := dk_29 (dk_at dksX3_driest_1 5 rfl rfl)
theorem dX3_driest_30 : decode cX3_driest 30 = .ok (.invokestatic 36, 3) := dk_184 0 36 (dk_at dksX3_driest_1 6 rfl rfl)
theorem dX3_driest_33 : decode cX3_driest 33 = .ok (.iconst 1, 1) := dk_4 (dk_at dksX3_driest_1 9 rfl rfl)
theorem dX3_driest_34 : decode cX3_driest 34 = .ok (.iadd, 1) := dk_96 (dk_at dksX3_driest_1 10 rfl rfl)
theorem dX3_driest_35 : decode cX3_driest 35 = .ok (.iaload, 1) := dk_46 (dk_at dksX3_driest_1 11 rfl rfl)
theorem dX3_driest_36 : decode cX3_driest 36 = .ok (.imul, 1) := dk_104 (dk_at dksX3_driest_1 12 rfl rfl)
theorem dX3_driest_37 : decode cX3_driest 37 = .ok (.aload_n 0, 1) := dk_42 (dk_at dksX3_driest_1 13 rfl rfl)
theorem dX3_driest_38 : decode cX3_driest 38 = .ok (.getfield 7, 3) := dk_180 0 7 (dk_at dksX3_driest_1 14 rfl rfl)
theorem dX3_driest_41 : decode cX3_driest 41 = .ok (.iconst 0, 1) := dk_3 (dk_at dksX3_driest_1 17 rfl rfl)
theorem dX3_driest_42 : decode cX3_driest 42 = .ok (.iload_n 3, 1) := dk_29 (dk_at dksX3_driest_1 18 rfl rfl)
theorem dX3_driest_43 : decode cX3_driest 43 = .ok (.invokestatic 36, 3) := dk_184 0 36 (dk_at dksX3_driest_1 19 rfl rfl)
theorem dX3_driest_46 : decode cX3_driest 46 = .ok (.iconst 2, 1) := dk_5 (dk_at dksX3_driest_1 22 rfl rfl)
theorem dX3_driest_47 : decode cX3_driest 47 = .ok (.iadd, 1) := dk_96 (dk_at dksX3_driest_1 23 rfl rfl)
theorem dX3_driest_48 : decode cX3_driest 48 = .ok (.iaload, 1) := dk_46 (dk_at dksX3_driest_2 0 rfl rfl)
theorem dX3_driest_49 : decode cX3_driest 49 = .ok (.iadd, 1) := dk_96 (dk_at dksX3_driest_2 1 rfl rfl)
theorem dX3_driest_50 : decode cX3_driest 50 = .ok (.istore 4, 2) := dk_54 4 (dk_at dksX3_driest_2 2 rfl rfl)
theorem dX3_driest_52 : decode cX3_driest 52 = .ok (.aload_n 0, 1) := dk_42 (dk_at dksX3_driest_2 4 rfl rfl)
theorem dX3_driest_53 : decode cX3_driest 53 = .ok (.getfield 7, 3) := dk_180 0 7 (dk_at dksX3_driest_2 5 rfl rfl)
theorem dX3_driest_56 : decode cX3_driest 56 = .ok (.iconst 0, 1) := dk_3 (dk_at dksX3_driest_2 8 rfl rfl)
theorem dX3_driest_57 : decode cX3_driest 57 = .ok (.iload_n 3, 1) := dk_29 (dk_at dksX3_driest_2 9 rfl rfl)
theorem dX3_driest_58 : decode cX3_driest 58 = .ok (.invokestatic 36, 3) := dk_184 0 36 (dk_at dksX3_driest_2 10 rfl rfl)
theorem dX3_driest_61 : decode cX3_driest 61 = .ok (.iconst 4, 1) := dk_7 (dk_at dksX3_driest_2 13 rfl rfl)
theorem dX3_driest_62 : decode cX3_driest 62 = .ok (.iadd, 1) := dk_96 (dk_at dksX3_driest_2 14 rfl rfl)
theorem dX3_driest_63 : decode cX3_driest 63 = .ok (.iaload, 1) := dk_46 (dk_at dksX3_driest_2 15 rfl rfl)
theorem dX3_driest_64 : decode cX3_driest 64 = .ok (.ifCond .ne 18, 3) := dk_154 0 18 (dk_at dksX3_driest_2 16 rfl rfl)
theorem dX3_driest_67 : decode cX3_driest 67 = .ok (.iload_n 1, 1) := dk_27 (dk_at dksX3_driest_2 19 rfl rfl)
theorem dX3_driest_68 : decode cX3_driest 68 = .ok (.iconst (-1), 1) := dk_2 (dk_at dksX3_driest_2 20 rfl rfl)
theorem dX3_driest_69 : decode cX3_driest 69 = .ok (.if_icmp .eq 9, 3) := dk_159 0 9 (dk_at dksX3_driest_2 21 rfl rfl)
theorem dX3_driest_72 : decode cX3_driest 72 = .ok (.iload 4, 2) := dk_21 4 (dk_at dksX3_driest_3 0 rfl rfl)
theorem dX3_driest_74 : decode cX3_driest 74 = .ok (.iload_n 2, 1) := dk_28 (dk_at dksX3_driest_3 2 rfl rfl)
theorem dX3_driest_75 : decode cX3_driest 75 = .ok (.if_icmp .ge 7, 3) := dk_162 0 7 (dk_at dksX3_driest_3 3 rfl rfl)
theorem dX3_driest_78 : decode cX3_driest 78 = .ok (.iconst 1, 1) := dk_4 (dk_at dksX3_driest_3 6 rfl rfl)
theorem dX3_driest_79 : decode cX3_driest 79 = .ok (.goto 4, 3) := dk_167 0 4 (dk_at dksX3_driest_3 7 rfl rfl)
theorem dX3_driest_82 : decode cX3_driest 82 = .ok (.iconst 0, 1) := dk_3 (dk_at dksX3_driest_3 10 rfl rfl)
theorem dX3_driest_83 : decode cX3_driest 83 = .ok (.istore 5, 2) := dk_54 5 (dk_at dksX3_driest_3 11 rfl rfl)
theorem dX3_driest_85 : decode cX3_driest 85 = .ok (.iload 5, 2) := dk_21 5 (dk_at dksX3_driest_3 13 rfl rfl)
theorem dX3_driest_87 : decode cX3_driest 87 = .ok (.ifCond .eq 7, 3) := dk_153 0 7 (dk_at dksX3_driest_3 15 rfl rfl)
theorem dX3_driest_90 : decode cX3_driest 90 = .ok (.iload_n 3, 1) := dk_29 (dk_at dksX3_driest_3 18 rfl rfl)
theorem dX3_driest_91 : decode cX3_driest 91 = .ok (.goto 4, 3) := dk_167 0 4 (dk_at dksX3_driest_3 19 rfl rfl)
theorem dX3_driest_94 : decode cX3_driest 94 = .ok (.iload_n 1, 1) := dk_27 (dk_at dksX3_driest_3 22 rfl rfl)
theorem dX3_driest_95 : decode cX3_driest 95 = .ok (.istore_n 1, 1) := dk_60 (dk_at dksX3_driest_3 23 rfl rfl)
theorem dX3_driest_96 : decode cX3_driest 96 = .ok (.iload 5, 2) := dk_21 5 (dk_at dksX3_driest_4 0 rfl rfl)
theorem dX3_driest_98 : decode cX3_driest 98 = .ok (.ifCond .eq 8, 3) := dk_153 0 8 (dk_at dksX3_driest_4 2 rfl rfl)
theorem dX3_driest_101 : decode cX3_driest 101 = .ok (.iload 4, 2) := dk_21 4 (dk_at dksX3_driest_4 5 rfl rfl)
theorem dX3_driest_103 : decode cX3_driest 103 = .ok (.goto 4, 3) := dk_167 0 4 (dk_at dksX3_driest_4 7 rfl rfl)
theorem dX3_driest_106 : decode cX3_driest 106 = .ok (.iload_n 2, 1) := dk_28 (dk_at dksX3_driest_4 10 rfl rfl)
theorem dX3_driest_107 : decode cX3_driest 107 = .ok (.istore_n 2, 1) := dk_61 (dk_at dksX3_driest_4 11 rfl rfl)
theorem dX3_driest_108 : decode cX3_driest 108 = .ok (.iinc 3 1, 3) := dk_132 3 1 (dk_at dksX3_driest_4 12 rfl rfl)
theorem dX3_driest_111 : decode cX3_driest 111 = .ok (.goto (-100), 3) := dk_167 255 156 (dk_at dksX3_driest_4 15 rfl rfl)
theorem dX3_driest_114 : decode cX3_driest 114 = .ok (.iload_n 1, 1) := dk_27 (dk_at dksX3_driest_4 18 rfl rfl)
theorem dX3_driest_115 : decode cX3_driest 115 = .ok (.ireturn, 1) := dk_172 (dk_at dksX3_driest_4 19 rfl rfl)
abbrev cX3_shells : ByteArray := prog_11_method_93_code
def yX3_shells : MethodName := ⟨RX3, "shells", "()I"⟩
def dkwX3_shells_0 : List UInt8 := [42, 17, 0, 132, 182, 0, 198, 172]
abbrev dktX3_shells_0 : List UInt8 := dkwX3_shells_0 ++ []
theorem dksX3_shells_0 : cX3_shells.data.toList.drop 0 = dktX3_shells_0 := by decide +kernel
theorem dX3_shells_0 : decode cX3_shells 0 = .ok (.aload_n 0, 1) := dk_42 (dk_at dksX3_shells_0 0 rfl rfl)
theorem dX3_shells_1 : decode cX3_shells 1 = .ok (.sipush 132, 3) := dk_17 0 132 (dk_at dksX3_shells_0 1 rfl rfl)
theorem dX3_shells_4 : decode cX3_shells 4 = .ok (.invokevirtual 198, 3) := dk_182 0 198 (dk_at dksX3_shells_0 4 rfl rfl)
theorem dX3_shells_7 : decode cX3_shells 7 = .ok (.ireturn, 1) := dk_172 (dk_at dksX3_shells_0 7 rfl rfl)
abbrev cX3_crabs : ByteArray := prog_11_method_94_code
def yX3_crabs : MethodName := ⟨RX3, "crabs", "()I"⟩
def dkwX3_crabs_0 : List UInt8 := [42, 17, 0, 211, 182, 0, 198, 172]
abbrev dktX3_crabs_0 : List UInt8 := dkwX3_crabs_0 ++ []
theorem dksX3_crabs_0 : cX3_crabs.data.toList.drop 0 = dktX3_crabs_0 := by decide +kernel
theorem dX3_crabs_0 : decode cX3_crabs 0 = .ok (.aload_n 0, 1) := dk_42 (dk_at dksX3_crabs_0 0 rfl rfl)
theorem dX3_crabs_1 : decode cX3_crabs 1 = .ok (.sipush 211, 3) := dk_17 0 211 (dk_at dksX3_crabs_0 1 rfl rfl)
theorem dX3_crabs_4 : decode cX3_crabs 4 = .ok (.invokevirtual 198, 3) := dk_182 0 198 (dk_at dksX3_crabs_0 4 rfl rfl)
theorem dX3_crabs_7 : decode cX3_crabs 7 = .ok (.ireturn, 1) := dk_172 (dk_at dksX3_crabs_0 7 rfl rfl)
abbrev cX3_livingCrabs : ByteArray := prog_11_method_95_code
def yX3_livingCrabs : MethodName := ⟨RX3, "livingCrabs", "()I"⟩
def dkwX3_livingCrabs_0 : List UInt8 := [42, 3, 181, 0, 22, 42, 3, 182, 0, 213, 172]
abbrev dktX3_livingCrabs_0 : List UInt8 := dkwX3_livingCrabs_0 ++ []
theorem dksX3_livingCrabs_0 : cX3_livingCrabs.data.toList.drop 0 = dktX3_livingCrabs_0 := by decide +kernel
theorem dX3_livingCrabs_0 : decode cX3_livingCrabs 0 = .ok (.aload_n 0, 1) := dk_42 (dk_at dksX3_livingCrabs_0 0 rfl rfl)
theorem dX3_livingCrabs_1 : decode cX3_livingCrabs 1 = .ok (.iconst 0, 1) := dk_3 (dk_at dksX3_livingCrabs_0 1 rfl rfl)
theorem dX3_livingCrabs_2 : decode cX3_livingCrabs 2 = .ok (.putfield 22, 3) := dk_181 0 22 (dk_at dksX3_livingCrabs_0 2 rfl rfl)
theorem dX3_livingCrabs_5 : decode cX3_livingCrabs 5 = .ok (.aload_n 0, 1) := dk_42 (dk_at dksX3_livingCrabs_0 5 rfl rfl)
theorem dX3_livingCrabs_6 : decode cX3_livingCrabs 6 = .ok (.iconst 0, 1) := dk_3 (dk_at dksX3_livingCrabs_0 6 rfl rfl)
theorem dX3_livingCrabs_7 : decode cX3_livingCrabs 7 = .ok (.invokevirtual 213, 3) := dk_182 0 213 (dk_at dksX3_livingCrabs_0 7 rfl rfl)
theorem dX3_livingCrabs_10 : decode cX3_livingCrabs 10 = .ok (.ireturn, 1) := dk_172 (dk_at dksX3_livingCrabs_0 10 rfl rfl)
abbrev cX3_crabsWith : ByteArray := prog_11_method_84_code
def yX3_crabsWith : MethodName := ⟨RX3, "crabsWith", "(I)I"⟩
def dkwX3_crabsWith_2 : List UInt8 := [172]
abbrev dktX3_crabsWith_2 : List UInt8 := dkwX3_crabsWith_2 ++ []
def dkwX3_crabsWith_1 : List UInt8 := [184, 0, 40, 6, 96, 46, 27, 160, 0, 7, 4, 167, 0, 4, 3, 96, 61, 132, 3, 1, 167, 255, 217, 28]
abbrev dktX3_crabsWith_1 : List UInt8 := dkwX3_crabsWith_1 ++ dktX3_crabsWith_2
def dkwX3_crabsWith_0 : List UInt8 := [3, 61, 3, 62, 29, 42, 180, 0, 7, 17, 0, 211, 46, 162, 0, 33, 28, 42, 180, 0, 7, 3, 29]
abbrev dktX3_crabsWith_0 : List UInt8 := dkwX3_crabsWith_0 ++ dktX3_crabsWith_1
theorem dksX3_crabsWith_0 : cX3_crabsWith.data.toList.drop 0 = dktX3_crabsWith_0 := by decide +kernel
theorem dksX3_crabsWith_1 : cX3_crabsWith.data.toList.drop 23 = dktX3_crabsWith_1 := dk_seg dksX3_crabsWith_0 23 rfl rfl
theorem dksX3_crabsWith_2 : cX3_crabsWith.data.toList.drop 47 = dktX3_crabsWith_2 := dk_seg dksX3_crabsWith_1 24 rfl rfl
theorem dX3_crabsWith_0 : decode cX3_crabsWith 0 = .ok (.iconst 0, 1) := dk_3 (dk_at dksX3_crabsWith_0 0 rfl rfl)
theorem dX3_crabsWith_1 : decode cX3_crabsWith 1 = .ok (.istore_n 2, 1) := dk_61 (dk_at dksX3_crabsWith_0 1 rfl rfl)
theorem dX3_crabsWith_2 : decode cX3_crabsWith 2 = .ok (.iconst 0, 1) := dk_3 (dk_at dksX3_crabsWith_0 2 rfl rfl)
theorem dX3_crabsWith_3 : decode cX3_crabsWith 3 = .ok (.istore_n 3, 1) := dk_62 (dk_at dksX3_crabsWith_0 3 rfl rfl)
theorem dX3_crabsWith_4 : decode cX3_crabsWith 4 = .ok (.iload_n 3, 1) := dk_29 (dk_at dksX3_crabsWith_0 4 rfl rfl)
theorem dX3_crabsWith_5 : decode cX3_crabsWith 5 = .ok (.aload_n 0, 1) := dk_42 (dk_at dksX3_crabsWith_0 5 rfl rfl)
theorem dX3_crabsWith_6 : decode cX3_crabsWith 6 = .ok (.getfield 7, 3) := dk_180 0 7 (dk_at dksX3_crabsWith_0 6 rfl rfl)
theorem dX3_crabsWith_9 : decode cX3_crabsWith 9 = .ok (.sipush 211, 3) := dk_17 0 211 (dk_at dksX3_crabsWith_0 9 rfl rfl)
theorem dX3_crabsWith_12 : decode cX3_crabsWith 12 = .ok (.iaload, 1) := dk_46 (dk_at dksX3_crabsWith_0 12 rfl rfl)
theorem dX3_crabsWith_13 : decode cX3_crabsWith 13 = .ok (.if_icmp .ge 33, 3) := dk_162 0 33 (dk_at dksX3_crabsWith_0 13 rfl rfl)
theorem dX3_crabsWith_16 : decode cX3_crabsWith 16 = .ok (.iload_n 2, 1) := dk_28 (dk_at dksX3_crabsWith_0 16 rfl rfl)
theorem dX3_crabsWith_17 : decode cX3_crabsWith 17 = .ok (.aload_n 0, 1) := dk_42 (dk_at dksX3_crabsWith_0 17 rfl rfl)
theorem dX3_crabsWith_18 : decode cX3_crabsWith 18 = .ok (.getfield 7, 3) := dk_180 0 7 (dk_at dksX3_crabsWith_0 18 rfl rfl)
theorem dX3_crabsWith_21 : decode cX3_crabsWith 21 = .ok (.iconst 0, 1) := dk_3 (dk_at dksX3_crabsWith_0 21 rfl rfl)
theorem dX3_crabsWith_22 : decode cX3_crabsWith 22 = .ok (.iload_n 3, 1) := dk_29 (dk_at dksX3_crabsWith_0 22 rfl rfl)
theorem dX3_crabsWith_23 : decode cX3_crabsWith 23 = .ok (.invokestatic 40, 3) := dk_184 0 40 (dk_at dksX3_crabsWith_1 0 rfl rfl)
theorem dX3_crabsWith_26 : decode cX3_crabsWith 26 = .ok (.iconst 3, 1) := dk_6 (dk_at dksX3_crabsWith_1 3 rfl rfl)
theorem dX3_crabsWith_27 : decode cX3_crabsWith 27 = .ok (.iadd, 1) := dk_96 (dk_at dksX3_crabsWith_1 4 rfl rfl)
theorem dX3_crabsWith_28 : decode cX3_crabsWith 28 = .ok (.iaload, 1) := dk_46 (dk_at dksX3_crabsWith_1 5 rfl rfl)
theorem dX3_crabsWith_29 : decode cX3_crabsWith 29 = .ok (.iload_n 1, 1) := dk_27 (dk_at dksX3_crabsWith_1 6 rfl rfl)
theorem dX3_crabsWith_30 : decode cX3_crabsWith 30 = .ok (.if_icmp .ne 7, 3) := dk_160 0 7 (dk_at dksX3_crabsWith_1 7 rfl rfl)
theorem dX3_crabsWith_33 : decode cX3_crabsWith 33 = .ok (.iconst 1, 1) := dk_4 (dk_at dksX3_crabsWith_1 10 rfl rfl)
theorem dX3_crabsWith_34 : decode cX3_crabsWith 34 = .ok (.goto 4, 3) := dk_167 0 4 (dk_at dksX3_crabsWith_1 11 rfl rfl)
theorem dX3_crabsWith_37 : decode cX3_crabsWith 37 = .ok (.iconst 0, 1) := dk_3 (dk_at dksX3_crabsWith_1 14 rfl rfl)
theorem dX3_crabsWith_38 : decode cX3_crabsWith 38 = .ok (.iadd, 1) := dk_96 (dk_at dksX3_crabsWith_1 15 rfl rfl)
theorem dX3_crabsWith_39 : decode cX3_crabsWith 39 = .ok (.istore_n 2, 1) := dk_61 (dk_at dksX3_crabsWith_1 16 rfl rfl)
theorem dX3_crabsWith_40 : decode cX3_crabsWith 40 = .ok (.iinc 3 1, 3) := dk_132 3 1 (dk_at dksX3_crabsWith_1 17 rfl rfl)
theorem dX3_crabsWith_43 : decode cX3_crabsWith 43 = .ok (.goto (-39), 3) := dk_167 255 217 (dk_at dksX3_crabsWith_1 20 rfl rfl)
theorem dX3_crabsWith_46 : decode cX3_crabsWith 46 = .ok (.iload_n 2, 1) := dk_28 (dk_at dksX3_crabsWith_1 23 rfl rfl)
theorem dX3_crabsWith_47 : decode cX3_crabsWith 47 = .ok (.ireturn, 1) := dk_172 (dk_at dksX3_crabsWith_2 0 rfl rfl)
abbrev cX3_wornByShells : ByteArray := prog_11_method_96_code
def yX3_wornByShells : MethodName := ⟨RX3, "wornByShells", "()I"⟩
def dkwX3_wornByShells_2 : List UInt8 := [132, 2, 1, 167, 255, 217, 27, 172]
abbrev dktX3_wornByShells_2 : List UInt8 := dkwX3_wornByShells_2 ++ []
def dkwX3_wornByShells_1 : List UInt8 := [180, 0, 7, 3, 28, 184, 0, 43, 5, 96, 46, 2, 160, 0, 7, 3, 167, 0, 4, 4, 96, 60]
abbrev dktX3_wornByShells_1 : List UInt8 := dkwX3_wornByShells_1 ++ dktX3_wornByShells_2
def dkwX3_wornByShells_0 : List UInt8 := [42, 3, 181, 0, 22, 3, 60, 3, 61, 28, 42, 180, 0, 7, 17, 0, 132, 46, 162, 0, 33, 27, 42]
abbrev dktX3_wornByShells_0 : List UInt8 := dkwX3_wornByShells_0 ++ dktX3_wornByShells_1
theorem dksX3_wornByShells_0 : cX3_wornByShells.data.toList.drop 0 = dktX3_wornByShells_0 := by decide +kernel
theorem dksX3_wornByShells_1 : cX3_wornByShells.data.toList.drop 23 = dktX3_wornByShells_1 := dk_seg dksX3_wornByShells_0 23 rfl rfl
theorem dksX3_wornByShells_2 : cX3_wornByShells.data.toList.drop 45 = dktX3_wornByShells_2 := dk_seg dksX3_wornByShells_1 22 rfl rfl
theorem dX3_wornByShells_0 : decode cX3_wornByShells 0 = .ok (.aload_n 0, 1) := dk_42 (dk_at dksX3_wornByShells_0 0 rfl rfl)
theorem dX3_wornByShells_1 : decode cX3_wornByShells 1 = .ok (.iconst 0, 1) := dk_3 (dk_at dksX3_wornByShells_0 1 rfl rfl)
theorem dX3_wornByShells_2 : decode cX3_wornByShells 2 = .ok (.putfield 22, 3) := dk_181 0 22 (dk_at dksX3_wornByShells_0 2 rfl rfl)
theorem dX3_wornByShells_5 : decode cX3_wornByShells 5 = .ok (.iconst 0, 1) := dk_3 (dk_at dksX3_wornByShells_0 5 rfl rfl)
theorem dX3_wornByShells_6 : decode cX3_wornByShells 6 = .ok (.istore_n 1, 1) := dk_60 (dk_at dksX3_wornByShells_0 6 rfl rfl)
theorem dX3_wornByShells_7 : decode cX3_wornByShells 7 = .ok (.iconst 0, 1) := dk_3 (dk_at dksX3_wornByShells_0 7 rfl rfl)
theorem dX3_wornByShells_8 : decode cX3_wornByShells 8 = .ok (.istore_n 2, 1) := dk_61 (dk_at dksX3_wornByShells_0 8 rfl rfl)
theorem dX3_wornByShells_9 : decode cX3_wornByShells 9 = .ok (.iload_n 2, 1) := dk_28 (dk_at dksX3_wornByShells_0 9 rfl rfl)
theorem dX3_wornByShells_10 : decode cX3_wornByShells 10 = .ok (.aload_n 0, 1) := dk_42 (dk_at dksX3_wornByShells_0 10 rfl rfl)
theorem dX3_wornByShells_11 : decode cX3_wornByShells 11 = .ok (.getfield 7, 3) := dk_180 0 7 (dk_at dksX3_wornByShells_0 11 rfl rfl)
theorem dX3_wornByShells_14 : decode cX3_wornByShells 14 = .ok (.sipush 132, 3) := dk_17 0 132 (dk_at dksX3_wornByShells_0 14 rfl rfl)
theorem dX3_wornByShells_17 : decode cX3_wornByShells 17 = .ok (.iaload, 1) := dk_46 (dk_at dksX3_wornByShells_0 17 rfl rfl)
theorem dX3_wornByShells_18 : decode cX3_wornByShells 18 = .ok (.if_icmp .ge 33, 3) := dk_162 0 33 (dk_at dksX3_wornByShells_0 18 rfl rfl)
theorem dX3_wornByShells_21 : decode cX3_wornByShells 21 = .ok (.iload_n 1, 1) := dk_27 (dk_at dksX3_wornByShells_0 21 rfl rfl)
theorem dX3_wornByShells_22 : decode cX3_wornByShells 22 = .ok (.aload_n 0, 1) := dk_42 (dk_at dksX3_wornByShells_0 22 rfl rfl)
theorem dX3_wornByShells_23 : decode cX3_wornByShells 23 = .ok (.getfield 7, 3) := dk_180 0 7 (dk_at dksX3_wornByShells_1 0 rfl rfl)
theorem dX3_wornByShells_26 : decode cX3_wornByShells 26 = .ok (.iconst 0, 1) := dk_3 (dk_at dksX3_wornByShells_1 3 rfl rfl)
theorem dX3_wornByShells_27 : decode cX3_wornByShells 27 = .ok (.iload_n 2, 1) := dk_28 (dk_at dksX3_wornByShells_1 4 rfl rfl)
theorem dX3_wornByShells_28 : decode cX3_wornByShells 28 = .ok (.invokestatic 43, 3) := dk_184 0 43 (dk_at dksX3_wornByShells_1 5 rfl rfl)
theorem dX3_wornByShells_31 : decode cX3_wornByShells 31 = .ok (.iconst 2, 1) := dk_5 (dk_at dksX3_wornByShells_1 8 rfl rfl)
theorem dX3_wornByShells_32 : decode cX3_wornByShells 32 = .ok (.iadd, 1) := dk_96 (dk_at dksX3_wornByShells_1 9 rfl rfl)
theorem dX3_wornByShells_33 : decode cX3_wornByShells 33 = .ok (.iaload, 1) := dk_46 (dk_at dksX3_wornByShells_1 10 rfl rfl)
theorem dX3_wornByShells_34 : decode cX3_wornByShells 34 = .ok (.iconst (-1), 1) := dk_2 (dk_at dksX3_wornByShells_1 11 rfl rfl)
theorem dX3_wornByShells_35 : decode cX3_wornByShells 35 = .ok (.if_icmp .ne 7, 3) := dk_160 0 7 (dk_at dksX3_wornByShells_1 12 rfl rfl)
theorem dX3_wornByShells_38 : decode cX3_wornByShells 38 = .ok (.iconst 0, 1) := dk_3 (dk_at dksX3_wornByShells_1 15 rfl rfl)
theorem dX3_wornByShells_39 : decode cX3_wornByShells 39 = .ok (.goto 4, 3) := dk_167 0 4 (dk_at dksX3_wornByShells_1 16 rfl rfl)
theorem dX3_wornByShells_42 : decode cX3_wornByShells 42 = .ok (.iconst 1, 1) := dk_4 (dk_at dksX3_wornByShells_1 19 rfl rfl)
theorem dX3_wornByShells_43 : decode cX3_wornByShells 43 = .ok (.iadd, 1) := dk_96 (dk_at dksX3_wornByShells_1 20 rfl rfl)
theorem dX3_wornByShells_44 : decode cX3_wornByShells 44 = .ok (.istore_n 1, 1) := dk_60 (dk_at dksX3_wornByShells_1 21 rfl rfl)
theorem dX3_wornByShells_45 : decode cX3_wornByShells 45 = .ok (.iinc 2 1, 3) := dk_132 2 1 (dk_at dksX3_wornByShells_2 0 rfl rfl)
theorem dX3_wornByShells_48 : decode cX3_wornByShells 48 = .ok (.goto (-39), 3) := dk_167 255 217 (dk_at dksX3_wornByShells_2 3 rfl rfl)
theorem dX3_wornByShells_51 : decode cX3_wornByShells 51 = .ok (.iload_n 1, 1) := dk_27 (dk_at dksX3_wornByShells_2 6 rfl rfl)
theorem dX3_wornByShells_52 : decode cX3_wornByShells 52 = .ok (.ireturn, 1) := dk_172 (dk_at dksX3_wornByShells_2 7 rfl rfl)
abbrev cX3_wornByCrabs : ByteArray := prog_11_method_97_code
def yX3_wornByCrabs : MethodName := ⟨RX3, "wornByCrabs", "()I"⟩
def dkwX3_wornByCrabs_2 : List UInt8 := [132, 2, 1, 167, 255, 217, 27, 172]
abbrev dktX3_wornByCrabs_2 : List UInt8 := dkwX3_wornByCrabs_2 ++ []
def dkwX3_wornByCrabs_1 : List UInt8 := [180, 0, 7, 3, 28, 184, 0, 40, 5, 96, 46, 2, 160, 0, 7, 3, 167, 0, 4, 4, 96, 60]
abbrev dktX3_wornByCrabs_1 : List UInt8 := dkwX3_wornByCrabs_1 ++ dktX3_wornByCrabs_2
def dkwX3_wornByCrabs_0 : List UInt8 := [42, 3, 181, 0, 22, 3, 60, 3, 61, 28, 42, 180, 0, 7, 17, 0, 211, 46, 162, 0, 33, 27, 42]
abbrev dktX3_wornByCrabs_0 : List UInt8 := dkwX3_wornByCrabs_0 ++ dktX3_wornByCrabs_1
theorem dksX3_wornByCrabs_0 : cX3_wornByCrabs.data.toList.drop 0 = dktX3_wornByCrabs_0 := by decide +kernel
theorem dksX3_wornByCrabs_1 : cX3_wornByCrabs.data.toList.drop 23 = dktX3_wornByCrabs_1 := dk_seg dksX3_wornByCrabs_0 23 rfl rfl
theorem dksX3_wornByCrabs_2 : cX3_wornByCrabs.data.toList.drop 45 = dktX3_wornByCrabs_2 := dk_seg dksX3_wornByCrabs_1 22 rfl rfl
theorem dX3_wornByCrabs_0 : decode cX3_wornByCrabs 0 = .ok (.aload_n 0, 1) := dk_42 (dk_at dksX3_wornByCrabs_0 0 rfl rfl)
theorem dX3_wornByCrabs_1 : decode cX3_wornByCrabs 1 = .ok (.iconst 0, 1) := dk_3 (dk_at dksX3_wornByCrabs_0 1 rfl rfl)
theorem dX3_wornByCrabs_2 : decode cX3_wornByCrabs 2 = .ok (.putfield 22, 3) := dk_181 0 22 (dk_at dksX3_wornByCrabs_0 2 rfl rfl)
theorem dX3_wornByCrabs_5 : decode cX3_wornByCrabs 5 = .ok (.iconst 0, 1) := dk_3 (dk_at dksX3_wornByCrabs_0 5 rfl rfl)
theorem dX3_wornByCrabs_6 : decode cX3_wornByCrabs 6 = .ok (.istore_n 1, 1) := dk_60 (dk_at dksX3_wornByCrabs_0 6 rfl rfl)
theorem dX3_wornByCrabs_7 : decode cX3_wornByCrabs 7 = .ok (.iconst 0, 1) := dk_3 (dk_at dksX3_wornByCrabs_0 7 rfl rfl)
theorem dX3_wornByCrabs_8 : decode cX3_wornByCrabs 8 = .ok (.istore_n 2, 1) := dk_61 (dk_at dksX3_wornByCrabs_0 8 rfl rfl)
theorem dX3_wornByCrabs_9 : decode cX3_wornByCrabs 9 = .ok (.iload_n 2, 1) := dk_28 (dk_at dksX3_wornByCrabs_0 9 rfl rfl)
theorem dX3_wornByCrabs_10 : decode cX3_wornByCrabs 10 = .ok (.aload_n 0, 1) := dk_42 (dk_at dksX3_wornByCrabs_0 10 rfl rfl)
theorem dX3_wornByCrabs_11 : decode cX3_wornByCrabs 11 = .ok (.getfield 7, 3) := dk_180 0 7 (dk_at dksX3_wornByCrabs_0 11 rfl rfl)
theorem dX3_wornByCrabs_14 : decode cX3_wornByCrabs 14 = .ok (.sipush 211, 3) := dk_17 0 211 (dk_at dksX3_wornByCrabs_0 14 rfl rfl)
theorem dX3_wornByCrabs_17 : decode cX3_wornByCrabs 17 = .ok (.iaload, 1) := dk_46 (dk_at dksX3_wornByCrabs_0 17 rfl rfl)
theorem dX3_wornByCrabs_18 : decode cX3_wornByCrabs 18 = .ok (.if_icmp .ge 33, 3) := dk_162 0 33 (dk_at dksX3_wornByCrabs_0 18 rfl rfl)
theorem dX3_wornByCrabs_21 : decode cX3_wornByCrabs 21 = .ok (.iload_n 1, 1) := dk_27 (dk_at dksX3_wornByCrabs_0 21 rfl rfl)
theorem dX3_wornByCrabs_22 : decode cX3_wornByCrabs 22 = .ok (.aload_n 0, 1) := dk_42 (dk_at dksX3_wornByCrabs_0 22 rfl rfl)
theorem dX3_wornByCrabs_23 : decode cX3_wornByCrabs 23 = .ok (.getfield 7, 3) := dk_180 0 7 (dk_at dksX3_wornByCrabs_1 0 rfl rfl)
theorem dX3_wornByCrabs_26 : decode cX3_wornByCrabs 26 = .ok (.iconst 0, 1) := dk_3 (dk_at dksX3_wornByCrabs_1 3 rfl rfl)
theorem dX3_wornByCrabs_27 : decode cX3_wornByCrabs 27 = .ok (.iload_n 2, 1) := dk_28 (dk_at dksX3_wornByCrabs_1 4 rfl rfl)
theorem dX3_wornByCrabs_28 : decode cX3_wornByCrabs 28 = .ok (.invokestatic 40, 3) := dk_184 0 40 (dk_at dksX3_wornByCrabs_1 5 rfl rfl)
theorem dX3_wornByCrabs_31 : decode cX3_wornByCrabs 31 = .ok (.iconst 2, 1) := dk_5 (dk_at dksX3_wornByCrabs_1 8 rfl rfl)
theorem dX3_wornByCrabs_32 : decode cX3_wornByCrabs 32 = .ok (.iadd, 1) := dk_96 (dk_at dksX3_wornByCrabs_1 9 rfl rfl)
theorem dX3_wornByCrabs_33 : decode cX3_wornByCrabs 33 = .ok (.iaload, 1) := dk_46 (dk_at dksX3_wornByCrabs_1 10 rfl rfl)
theorem dX3_wornByCrabs_34 : decode cX3_wornByCrabs 34 = .ok (.iconst (-1), 1) := dk_2 (dk_at dksX3_wornByCrabs_1 11 rfl rfl)
theorem dX3_wornByCrabs_35 : decode cX3_wornByCrabs 35 = .ok (.if_icmp .ne 7, 3) := dk_160 0 7 (dk_at dksX3_wornByCrabs_1 12 rfl rfl)
theorem dX3_wornByCrabs_38 : decode cX3_wornByCrabs 38 = .ok (.iconst 0, 1) := dk_3 (dk_at dksX3_wornByCrabs_1 15 rfl rfl)
theorem dX3_wornByCrabs_39 : decode cX3_wornByCrabs 39 = .ok (.goto 4, 3) := dk_167 0 4 (dk_at dksX3_wornByCrabs_1 16 rfl rfl)
theorem dX3_wornByCrabs_42 : decode cX3_wornByCrabs 42 = .ok (.iconst 1, 1) := dk_4 (dk_at dksX3_wornByCrabs_1 19 rfl rfl)
theorem dX3_wornByCrabs_43 : decode cX3_wornByCrabs 43 = .ok (.iadd, 1) := dk_96 (dk_at dksX3_wornByCrabs_1 20 rfl rfl)
theorem dX3_wornByCrabs_44 : decode cX3_wornByCrabs 44 = .ok (.istore_n 1, 1) := dk_60 (dk_at dksX3_wornByCrabs_1 21 rfl rfl)
theorem dX3_wornByCrabs_45 : decode cX3_wornByCrabs 45 = .ok (.iinc 2 1, 3) := dk_132 2 1 (dk_at dksX3_wornByCrabs_2 0 rfl rfl)
theorem dX3_wornByCrabs_48 : decode cX3_wornByCrabs 48 = .ok (.goto (-39), 3) := dk_167 255 217 (dk_at dksX3_wornByCrabs_2 3 rfl rfl)
theorem dX3_wornByCrabs_51 : decode cX3_wornByCrabs 51 = .ok (.iload_n 1, 1) := dk_27 (dk_at dksX3_wornByCrabs_2 6 rfl rfl)
theorem dX3_wornByCrabs_52 : decode cX3_wornByCrabs 52 = .ok (.ireturn, 1) := dk_172 (dk_at dksX3_wornByCrabs_2 7 rfl rfl)
abbrev cX3_sizeOfShell : ByteArray := prog_11_method_99_code
def yX3_sizeOfShell : MethodName := ⟨RX3, "sizeOfShell", "(I)I"⟩
def dkwX3_sizeOfShell_0 : List UInt8 := [42, 27, 3, 182, 0, 216, 172]
abbrev dktX3_sizeOfShell_0 : List UInt8 := dkwX3_sizeOfShell_0 ++ []
theorem dksX3_sizeOfShell_0 : cX3_sizeOfShell.data.toList.drop 0 = dktX3_sizeOfShell_0 := by decide +kernel
theorem dX3_sizeOfShell_0 : decode cX3_sizeOfShell 0 = .ok (.aload_n 0, 1) := dk_42 (dk_at dksX3_sizeOfShell_0 0 rfl rfl)
theorem dX3_sizeOfShell_1 : decode cX3_sizeOfShell 1 = .ok (.iload_n 1, 1) := dk_27 (dk_at dksX3_sizeOfShell_0 1 rfl rfl)
theorem dX3_sizeOfShell_2 : decode cX3_sizeOfShell 2 = .ok (.iconst 0, 1) := dk_3 (dk_at dksX3_sizeOfShell_0 2 rfl rfl)
theorem dX3_sizeOfShell_3 : decode cX3_sizeOfShell 3 = .ok (.invokevirtual 216, 3) := dk_182 0 216 (dk_at dksX3_sizeOfShell_0 3 rfl rfl)
theorem dX3_sizeOfShell_6 : decode cX3_sizeOfShell 6 = .ok (.ireturn, 1) := dk_172 (dk_at dksX3_sizeOfShell_0 6 rfl rfl)
abbrev cX3_ofShell : ByteArray := prog_11_method_98_code
def yX3_ofShell : MethodName := ⟨RX3, "ofShell", "(II)I"⟩
def dkwX3_ofShell_1 : List UInt8 := [42, 180, 0, 7, 3, 27, 184, 0, 43, 28, 96, 46, 172]
abbrev dktX3_ofShell_1 : List UInt8 := dkwX3_ofShell_1 ++ []
def dkwX3_ofShell_0 : List UInt8 := [42, 42, 27, 182, 0, 67, 153, 0, 7, 3, 167, 0, 4, 4, 182, 0, 54, 153, 0, 7, 3, 167, 0, 15]
abbrev dktX3_ofShell_0 : List UInt8 := dkwX3_ofShell_0 ++ dktX3_ofShell_1
theorem dksX3_ofShell_0 : cX3_ofShell.data.toList.drop 0 = dktX3_ofShell_0 := by decide +kernel
theorem dksX3_ofShell_1 : cX3_ofShell.data.toList.drop 24 = dktX3_ofShell_1 := dk_seg dksX3_ofShell_0 24 rfl rfl
theorem dX3_ofShell_0 : decode cX3_ofShell 0 = .ok (.aload_n 0, 1) := dk_42 (dk_at dksX3_ofShell_0 0 rfl rfl)
theorem dX3_ofShell_1 : decode cX3_ofShell 1 = .ok (.aload_n 0, 1) := dk_42 (dk_at dksX3_ofShell_0 1 rfl rfl)
theorem dX3_ofShell_2 : decode cX3_ofShell 2 = .ok (.iload_n 1, 1) := dk_27 (dk_at dksX3_ofShell_0 2 rfl rfl)
theorem dX3_ofShell_3 : decode cX3_ofShell 3 = .ok (.invokevirtual 67, 3) := dk_182 0 67 (dk_at dksX3_ofShell_0 3 rfl rfl)
theorem dX3_ofShell_6 : decode cX3_ofShell 6 = .ok (.ifCond .eq 7, 3) := dk_153 0 7 (dk_at dksX3_ofShell_0 6 rfl rfl)
theorem dX3_ofShell_9 : decode cX3_ofShell 9 = .ok (.iconst 0, 1) := dk_3 (dk_at dksX3_ofShell_0 9 rfl rfl)
theorem dX3_ofShell_10 : decode cX3_ofShell 10 = .ok (.goto 4, 3) := dk_167 0 4 (dk_at dksX3_ofShell_0 10 rfl rfl)
theorem dX3_ofShell_13 : decode cX3_ofShell 13 = .ok (.iconst 1, 1) := dk_4 (dk_at dksX3_ofShell_0 13 rfl rfl)
theorem dX3_ofShell_14 : decode cX3_ofShell 14 = .ok (.invokevirtual 54, 3) := dk_182 0 54 (dk_at dksX3_ofShell_0 14 rfl rfl)
theorem dX3_ofShell_17 : decode cX3_ofShell 17 = .ok (.ifCond .eq 7, 3) := dk_153 0 7 (dk_at dksX3_ofShell_0 17 rfl rfl)
theorem dX3_ofShell_20 : decode cX3_ofShell 20 = .ok (.iconst 0, 1) := dk_3 (dk_at dksX3_ofShell_0 20 rfl rfl)
theorem dX3_ofShell_21 : decode cX3_ofShell 21 = .ok (.goto 15, 3) := dk_167 0 15 (dk_at dksX3_ofShell_0 21 rfl rfl)
theorem dX3_ofShell_24 : decode cX3_ofShell 24 = .ok (.aload_n 0, 1) := dk_42 (dk_at dksX3_ofShell_1 0 rfl rfl)
theorem dX3_ofShell_25 : decode cX3_ofShell 25 = .ok (.getfield 7, 3) := dk_180 0 7 (dk_at dksX3_ofShell_1 1 rfl rfl)
theorem dX3_ofShell_28 : decode cX3_ofShell 28 = .ok (.iconst 0, 1) := dk_3 (dk_at dksX3_ofShell_1 4 rfl rfl)
theorem dX3_ofShell_29 : decode cX3_ofShell 29 = .ok (.iload_n 1, 1) := dk_27 (dk_at dksX3_ofShell_1 5 rfl rfl)
theorem dX3_ofShell_30 : decode cX3_ofShell 30 = .ok (.invokestatic 43, 3) := dk_184 0 43 (dk_at dksX3_ofShell_1 6 rfl rfl)
theorem dX3_ofShell_33 : decode cX3_ofShell 33 = .ok (.iload_n 2, 1) := dk_28 (dk_at dksX3_ofShell_1 9 rfl rfl)
theorem dX3_ofShell_34 : decode cX3_ofShell 34 = .ok (.iadd, 1) := dk_96 (dk_at dksX3_ofShell_1 10 rfl rfl)
theorem dX3_ofShell_35 : decode cX3_ofShell 35 = .ok (.iaload, 1) := dk_46 (dk_at dksX3_ofShell_1 11 rfl rfl)
theorem dX3_ofShell_36 : decode cX3_ofShell 36 = .ok (.ireturn, 1) := dk_172 (dk_at dksX3_ofShell_1 12 rfl rfl)
abbrev cX3_poolOfShell : ByteArray := prog_11_method_100_code
def yX3_poolOfShell : MethodName := ⟨RX3, "poolOfShell", "(I)I"⟩
def dkwX3_poolOfShell_0 : List UInt8 := [42, 27, 4, 182, 0, 216, 172]
abbrev dktX3_poolOfShell_0 : List UInt8 := dkwX3_poolOfShell_0 ++ []
theorem dksX3_poolOfShell_0 : cX3_poolOfShell.data.toList.drop 0 = dktX3_poolOfShell_0 := by decide +kernel
theorem dX3_poolOfShell_0 : decode cX3_poolOfShell 0 = .ok (.aload_n 0, 1) := dk_42 (dk_at dksX3_poolOfShell_0 0 rfl rfl)
theorem dX3_poolOfShell_1 : decode cX3_poolOfShell 1 = .ok (.iload_n 1, 1) := dk_27 (dk_at dksX3_poolOfShell_0 1 rfl rfl)
theorem dX3_poolOfShell_2 : decode cX3_poolOfShell 2 = .ok (.iconst 1, 1) := dk_4 (dk_at dksX3_poolOfShell_0 2 rfl rfl)
theorem dX3_poolOfShell_3 : decode cX3_poolOfShell 3 = .ok (.invokevirtual 216, 3) := dk_182 0 216 (dk_at dksX3_poolOfShell_0 3 rfl rfl)
theorem dX3_poolOfShell_6 : decode cX3_poolOfShell 6 = .ok (.ireturn, 1) := dk_172 (dk_at dksX3_poolOfShell_0 6 rfl rfl)
abbrev cX3_wearerOf : ByteArray := prog_11_method_101_code
def yX3_wearerOf : MethodName := ⟨RX3, "wearerOf", "(I)I"⟩
def dkwX3_wearerOf_0 : List UInt8 := [42, 27, 5, 182, 0, 216, 172]
abbrev dktX3_wearerOf_0 : List UInt8 := dkwX3_wearerOf_0 ++ []
theorem dksX3_wearerOf_0 : cX3_wearerOf.data.toList.drop 0 = dktX3_wearerOf_0 := by decide +kernel
theorem dX3_wearerOf_0 : decode cX3_wearerOf 0 = .ok (.aload_n 0, 1) := dk_42 (dk_at dksX3_wearerOf_0 0 rfl rfl)
theorem dX3_wearerOf_1 : decode cX3_wearerOf 1 = .ok (.iload_n 1, 1) := dk_27 (dk_at dksX3_wearerOf_0 1 rfl rfl)
theorem dX3_wearerOf_2 : decode cX3_wearerOf 2 = .ok (.iconst 2, 1) := dk_5 (dk_at dksX3_wearerOf_0 2 rfl rfl)
theorem dX3_wearerOf_3 : decode cX3_wearerOf 3 = .ok (.invokevirtual 216, 3) := dk_182 0 216 (dk_at dksX3_wearerOf_0 3 rfl rfl)
theorem dX3_wearerOf_6 : decode cX3_wearerOf 6 = .ok (.ireturn, 1) := dk_172 (dk_at dksX3_wearerOf_0 6 rfl rfl)
abbrev cX3_fateOfCrab : ByteArray := prog_11_method_103_code
def yX3_fateOfCrab : MethodName := ⟨RX3, "fateOfCrab", "(I)I"⟩
def dkwX3_fateOfCrab_0 : List UInt8 := [42, 27, 6, 182, 0, 222, 172]
abbrev dktX3_fateOfCrab_0 : List UInt8 := dkwX3_fateOfCrab_0 ++ []
theorem dksX3_fateOfCrab_0 : cX3_fateOfCrab.data.toList.drop 0 = dktX3_fateOfCrab_0 := by decide +kernel
theorem dX3_fateOfCrab_0 : decode cX3_fateOfCrab 0 = .ok (.aload_n 0, 1) := dk_42 (dk_at dksX3_fateOfCrab_0 0 rfl rfl)
theorem dX3_fateOfCrab_1 : decode cX3_fateOfCrab 1 = .ok (.iload_n 1, 1) := dk_27 (dk_at dksX3_fateOfCrab_0 1 rfl rfl)
theorem dX3_fateOfCrab_2 : decode cX3_fateOfCrab 2 = .ok (.iconst 3, 1) := dk_6 (dk_at dksX3_fateOfCrab_0 2 rfl rfl)
theorem dX3_fateOfCrab_3 : decode cX3_fateOfCrab 3 = .ok (.invokevirtual 222, 3) := dk_182 0 222 (dk_at dksX3_fateOfCrab_0 3 rfl rfl)
theorem dX3_fateOfCrab_6 : decode cX3_fateOfCrab 6 = .ok (.ireturn, 1) := dk_172 (dk_at dksX3_fateOfCrab_0 6 rfl rfl)
abbrev cX3_ofCrab : ByteArray := prog_11_method_102_code
def yX3_ofCrab : MethodName := ⟨RX3, "ofCrab", "(II)I"⟩
def dkwX3_ofCrab_1 : List UInt8 := [42, 180, 0, 7, 3, 27, 184, 0, 40, 28, 96, 46, 172]
abbrev dktX3_ofCrab_1 : List UInt8 := dkwX3_ofCrab_1 ++ []
def dkwX3_ofCrab_0 : List UInt8 := [42, 42, 27, 182, 0, 219, 153, 0, 7, 3, 167, 0, 4, 4, 182, 0, 54, 153, 0, 7, 3, 167, 0, 15]
abbrev dktX3_ofCrab_0 : List UInt8 := dkwX3_ofCrab_0 ++ dktX3_ofCrab_1
theorem dksX3_ofCrab_0 : cX3_ofCrab.data.toList.drop 0 = dktX3_ofCrab_0 := by decide +kernel
theorem dksX3_ofCrab_1 : cX3_ofCrab.data.toList.drop 24 = dktX3_ofCrab_1 := dk_seg dksX3_ofCrab_0 24 rfl rfl
theorem dX3_ofCrab_0 : decode cX3_ofCrab 0 = .ok (.aload_n 0, 1) := dk_42 (dk_at dksX3_ofCrab_0 0 rfl rfl)
theorem dX3_ofCrab_1 : decode cX3_ofCrab 1 = .ok (.aload_n 0, 1) := dk_42 (dk_at dksX3_ofCrab_0 1 rfl rfl)
theorem dX3_ofCrab_2 : decode cX3_ofCrab 2 = .ok (.iload_n 1, 1) := dk_27 (dk_at dksX3_ofCrab_0 2 rfl rfl)
theorem dX3_ofCrab_3 : decode cX3_ofCrab 3 = .ok (.invokevirtual 219, 3) := dk_182 0 219 (dk_at dksX3_ofCrab_0 3 rfl rfl)
theorem dX3_ofCrab_6 : decode cX3_ofCrab 6 = .ok (.ifCond .eq 7, 3) := dk_153 0 7 (dk_at dksX3_ofCrab_0 6 rfl rfl)
theorem dX3_ofCrab_9 : decode cX3_ofCrab 9 = .ok (.iconst 0, 1) := dk_3 (dk_at dksX3_ofCrab_0 9 rfl rfl)
theorem dX3_ofCrab_10 : decode cX3_ofCrab 10 = .ok (.goto 4, 3) := dk_167 0 4 (dk_at dksX3_ofCrab_0 10 rfl rfl)
theorem dX3_ofCrab_13 : decode cX3_ofCrab 13 = .ok (.iconst 1, 1) := dk_4 (dk_at dksX3_ofCrab_0 13 rfl rfl)
theorem dX3_ofCrab_14 : decode cX3_ofCrab 14 = .ok (.invokevirtual 54, 3) := dk_182 0 54 (dk_at dksX3_ofCrab_0 14 rfl rfl)
theorem dX3_ofCrab_17 : decode cX3_ofCrab 17 = .ok (.ifCond .eq 7, 3) := dk_153 0 7 (dk_at dksX3_ofCrab_0 17 rfl rfl)
theorem dX3_ofCrab_20 : decode cX3_ofCrab 20 = .ok (.iconst 0, 1) := dk_3 (dk_at dksX3_ofCrab_0 20 rfl rfl)
theorem dX3_ofCrab_21 : decode cX3_ofCrab 21 = .ok (.goto 15, 3) := dk_167 0 15 (dk_at dksX3_ofCrab_0 21 rfl rfl)
theorem dX3_ofCrab_24 : decode cX3_ofCrab 24 = .ok (.aload_n 0, 1) := dk_42 (dk_at dksX3_ofCrab_1 0 rfl rfl)
theorem dX3_ofCrab_25 : decode cX3_ofCrab 25 = .ok (.getfield 7, 3) := dk_180 0 7 (dk_at dksX3_ofCrab_1 1 rfl rfl)
theorem dX3_ofCrab_28 : decode cX3_ofCrab 28 = .ok (.iconst 0, 1) := dk_3 (dk_at dksX3_ofCrab_1 4 rfl rfl)
theorem dX3_ofCrab_29 : decode cX3_ofCrab 29 = .ok (.iload_n 1, 1) := dk_27 (dk_at dksX3_ofCrab_1 5 rfl rfl)
theorem dX3_ofCrab_30 : decode cX3_ofCrab 30 = .ok (.invokestatic 40, 3) := dk_184 0 40 (dk_at dksX3_ofCrab_1 6 rfl rfl)
theorem dX3_ofCrab_33 : decode cX3_ofCrab 33 = .ok (.iload_n 2, 1) := dk_28 (dk_at dksX3_ofCrab_1 9 rfl rfl)
theorem dX3_ofCrab_34 : decode cX3_ofCrab 34 = .ok (.iadd, 1) := dk_96 (dk_at dksX3_ofCrab_1 10 rfl rfl)
theorem dX3_ofCrab_35 : decode cX3_ofCrab 35 = .ok (.iaload, 1) := dk_46 (dk_at dksX3_ofCrab_1 11 rfl rfl)
theorem dX3_ofCrab_36 : decode cX3_ofCrab 36 = .ok (.ireturn, 1) := dk_172 (dk_at dksX3_ofCrab_1 12 rfl rfl)
abbrev cX3_isCrab : ByteArray := prog_11_method_8_code
def yX3_isCrab : MethodName := ⟨RX3, "isCrab", "(I)Z"⟩
def dkwX3_isCrab_0 : List UInt8 := [27, 3, 42, 180, 0, 7, 17, 0, 211, 46, 4, 100, 184, 0, 26, 172]
abbrev dktX3_isCrab_0 : List UInt8 := dkwX3_isCrab_0 ++ []
theorem dksX3_isCrab_0 : cX3_isCrab.data.toList.drop 0 = dktX3_isCrab_0 := by decide +kernel
theorem dX3_isCrab_0 : decode cX3_isCrab 0 = .ok (.iload_n 1, 1) := dk_27 (dk_at dksX3_isCrab_0 0 rfl rfl)
theorem dX3_isCrab_1 : decode cX3_isCrab 1 = .ok (.iconst 0, 1) := dk_3 (dk_at dksX3_isCrab_0 1 rfl rfl)
theorem dX3_isCrab_2 : decode cX3_isCrab 2 = .ok (.aload_n 0, 1) := dk_42 (dk_at dksX3_isCrab_0 2 rfl rfl)
theorem dX3_isCrab_3 : decode cX3_isCrab 3 = .ok (.getfield 7, 3) := dk_180 0 7 (dk_at dksX3_isCrab_0 3 rfl rfl)
theorem dX3_isCrab_6 : decode cX3_isCrab 6 = .ok (.sipush 211, 3) := dk_17 0 211 (dk_at dksX3_isCrab_0 6 rfl rfl)
theorem dX3_isCrab_9 : decode cX3_isCrab 9 = .ok (.iaload, 1) := dk_46 (dk_at dksX3_isCrab_0 9 rfl rfl)
theorem dX3_isCrab_10 : decode cX3_isCrab 10 = .ok (.iconst 1, 1) := dk_4 (dk_at dksX3_isCrab_0 10 rfl rfl)
theorem dX3_isCrab_11 : decode cX3_isCrab 11 = .ok (.isub, 1) := dk_100 (dk_at dksX3_isCrab_0 11 rfl rfl)
theorem dX3_isCrab_12 : decode cX3_isCrab 12 = .ok (.invokestatic 26, 3) := dk_184 0 26 (dk_at dksX3_isCrab_0 12 rfl rfl)
theorem dX3_isCrab_15 : decode cX3_isCrab 15 = .ok (.ireturn, 1) := dk_172 (dk_at dksX3_isCrab_0 15 rfl rfl)
abbrev cX3_sizeOfCrab : ByteArray := prog_11_method_104_code
def yX3_sizeOfCrab : MethodName := ⟨RX3, "sizeOfCrab", "(I)I"⟩
def dkwX3_sizeOfCrab_0 : List UInt8 := [42, 27, 3, 182, 0, 222, 172]
abbrev dktX3_sizeOfCrab_0 : List UInt8 := dkwX3_sizeOfCrab_0 ++ []
theorem dksX3_sizeOfCrab_0 : cX3_sizeOfCrab.data.toList.drop 0 = dktX3_sizeOfCrab_0 := by decide +kernel
theorem dX3_sizeOfCrab_0 : decode cX3_sizeOfCrab 0 = .ok (.aload_n 0, 1) := dk_42 (dk_at dksX3_sizeOfCrab_0 0 rfl rfl)
theorem dX3_sizeOfCrab_1 : decode cX3_sizeOfCrab 1 = .ok (.iload_n 1, 1) := dk_27 (dk_at dksX3_sizeOfCrab_0 1 rfl rfl)
theorem dX3_sizeOfCrab_2 : decode cX3_sizeOfCrab 2 = .ok (.iconst 0, 1) := dk_3 (dk_at dksX3_sizeOfCrab_0 2 rfl rfl)
theorem dX3_sizeOfCrab_3 : decode cX3_sizeOfCrab 3 = .ok (.invokevirtual 222, 3) := dk_182 0 222 (dk_at dksX3_sizeOfCrab_0 3 rfl rfl)
theorem dX3_sizeOfCrab_6 : decode cX3_sizeOfCrab 6 = .ok (.ireturn, 1) := dk_172 (dk_at dksX3_sizeOfCrab_0 6 rfl rfl)
abbrev cX3_poolOfCrab : ByteArray := prog_11_method_105_code
def yX3_poolOfCrab : MethodName := ⟨RX3, "poolOfCrab", "(I)I"⟩
def dkwX3_poolOfCrab_0 : List UInt8 := [42, 27, 4, 182, 0, 222, 172]
abbrev dktX3_poolOfCrab_0 : List UInt8 := dkwX3_poolOfCrab_0 ++ []
theorem dksX3_poolOfCrab_0 : cX3_poolOfCrab.data.toList.drop 0 = dktX3_poolOfCrab_0 := by decide +kernel
theorem dX3_poolOfCrab_0 : decode cX3_poolOfCrab 0 = .ok (.aload_n 0, 1) := dk_42 (dk_at dksX3_poolOfCrab_0 0 rfl rfl)
theorem dX3_poolOfCrab_1 : decode cX3_poolOfCrab 1 = .ok (.iload_n 1, 1) := dk_27 (dk_at dksX3_poolOfCrab_0 1 rfl rfl)
theorem dX3_poolOfCrab_2 : decode cX3_poolOfCrab 2 = .ok (.iconst 1, 1) := dk_4 (dk_at dksX3_poolOfCrab_0 2 rfl rfl)
theorem dX3_poolOfCrab_3 : decode cX3_poolOfCrab 3 = .ok (.invokevirtual 222, 3) := dk_182 0 222 (dk_at dksX3_poolOfCrab_0 3 rfl rfl)
theorem dX3_poolOfCrab_6 : decode cX3_poolOfCrab 6 = .ok (.ireturn, 1) := dk_172 (dk_at dksX3_poolOfCrab_0 6 rfl rfl)
abbrev cX3_shellOf : ByteArray := prog_11_method_106_code
def yX3_shellOf : MethodName := ⟨RX3, "shellOf", "(I)I"⟩
def dkwX3_shellOf_0 : List UInt8 := [42, 27, 5, 182, 0, 222, 172]
abbrev dktX3_shellOf_0 : List UInt8 := dkwX3_shellOf_0 ++ []
theorem dksX3_shellOf_0 : cX3_shellOf.data.toList.drop 0 = dktX3_shellOf_0 := by decide +kernel
theorem dX3_shellOf_0 : decode cX3_shellOf 0 = .ok (.aload_n 0, 1) := dk_42 (dk_at dksX3_shellOf_0 0 rfl rfl)
theorem dX3_shellOf_1 : decode cX3_shellOf 1 = .ok (.iload_n 1, 1) := dk_27 (dk_at dksX3_shellOf_0 1 rfl rfl)
theorem dX3_shellOf_2 : decode cX3_shellOf 2 = .ok (.iconst 2, 1) := dk_5 (dk_at dksX3_shellOf_0 2 rfl rfl)
theorem dX3_shellOf_3 : decode cX3_shellOf 3 = .ok (.invokevirtual 222, 3) := dk_182 0 222 (dk_at dksX3_shellOf_0 3 rfl rfl)
theorem dX3_shellOf_6 : decode cX3_shellOf 6 = .ok (.ireturn, 1) := dk_172 (dk_at dksX3_shellOf_0 6 rfl rfl)
abbrev cX3_changesOf : ByteArray := prog_11_method_107_code
def yX3_changesOf : MethodName := ⟨RX3, "changesOf", "(I)I"⟩
def dkwX3_changesOf_0 : List UInt8 := [42, 27, 7, 182, 0, 222, 172]
abbrev dktX3_changesOf_0 : List UInt8 := dkwX3_changesOf_0 ++ []
theorem dksX3_changesOf_0 : cX3_changesOf.data.toList.drop 0 = dktX3_changesOf_0 := by decide +kernel
theorem dX3_changesOf_0 : decode cX3_changesOf 0 = .ok (.aload_n 0, 1) := dk_42 (dk_at dksX3_changesOf_0 0 rfl rfl)
theorem dX3_changesOf_1 : decode cX3_changesOf 1 = .ok (.iload_n 1, 1) := dk_27 (dk_at dksX3_changesOf_0 1 rfl rfl)
theorem dX3_changesOf_2 : decode cX3_changesOf 2 = .ok (.iconst 4, 1) := dk_7 (dk_at dksX3_changesOf_0 2 rfl rfl)
theorem dX3_changesOf_3 : decode cX3_changesOf 3 = .ok (.invokevirtual 222, 3) := dk_182 0 222 (dk_at dksX3_changesOf_0 3 rfl rfl)
theorem dX3_changesOf_6 : decode cX3_changesOf 6 = .ok (.ireturn, 1) := dk_172 (dk_at dksX3_changesOf_0 6 rfl rfl)
abbrev cX3_worth : ByteArray := prog_11_method_108_code
def yX3_worth : MethodName := ⟨RX3, "worth", "(II)I"⟩
def dkwX3_worth_1 : List UInt8 := [182, 0, 54, 153, 0, 7, 3, 167, 0, 10, 42, 3, 27, 28, 182, 0, 76, 172]
abbrev dktX3_worth_1 : List UInt8 := dkwX3_worth_1 ++ []
def dkwX3_worth_0 : List UInt8 := [42, 42, 27, 182, 0, 67, 153, 0, 15, 42, 28, 182, 0, 219, 153, 0, 7, 3, 167, 0, 4, 4]
abbrev dktX3_worth_0 : List UInt8 := dkwX3_worth_0 ++ dktX3_worth_1
theorem dksX3_worth_0 : cX3_worth.data.toList.drop 0 = dktX3_worth_0 := by decide +kernel
theorem dksX3_worth_1 : cX3_worth.data.toList.drop 22 = dktX3_worth_1 := dk_seg dksX3_worth_0 22 rfl rfl
theorem dX3_worth_0 : decode cX3_worth 0 = .ok (.aload_n 0, 1) := dk_42 (dk_at dksX3_worth_0 0 rfl rfl)
theorem dX3_worth_1 : decode cX3_worth 1 = .ok (.aload_n 0, 1) := dk_42 (dk_at dksX3_worth_0 1 rfl rfl)
theorem dX3_worth_2 : decode cX3_worth 2 = .ok (.iload_n 1, 1) := dk_27 (dk_at dksX3_worth_0 2 rfl rfl)
theorem dX3_worth_3 : decode cX3_worth 3 = .ok (.invokevirtual 67, 3) := dk_182 0 67 (dk_at dksX3_worth_0 3 rfl rfl)
theorem dX3_worth_6 : decode cX3_worth 6 = .ok (.ifCond .eq 15, 3) := dk_153 0 15 (dk_at dksX3_worth_0 6 rfl rfl)
theorem dX3_worth_9 : decode cX3_worth 9 = .ok (.aload_n 0, 1) := dk_42 (dk_at dksX3_worth_0 9 rfl rfl)
theorem dX3_worth_10 : decode cX3_worth 10 = .ok (.iload_n 2, 1) := dk_28 (dk_at dksX3_worth_0 10 rfl rfl)
theorem dX3_worth_11 : decode cX3_worth 11 = .ok (.invokevirtual 219, 3) := dk_182 0 219 (dk_at dksX3_worth_0 11 rfl rfl)
theorem dX3_worth_14 : decode cX3_worth 14 = .ok (.ifCond .eq 7, 3) := dk_153 0 7 (dk_at dksX3_worth_0 14 rfl rfl)
theorem dX3_worth_17 : decode cX3_worth 17 = .ok (.iconst 0, 1) := dk_3 (dk_at dksX3_worth_0 17 rfl rfl)
theorem dX3_worth_18 : decode cX3_worth 18 = .ok (.goto 4, 3) := dk_167 0 4 (dk_at dksX3_worth_0 18 rfl rfl)
theorem dX3_worth_21 : decode cX3_worth 21 = .ok (.iconst 1, 1) := dk_4 (dk_at dksX3_worth_0 21 rfl rfl)
theorem dX3_worth_22 : decode cX3_worth 22 = .ok (.invokevirtual 54, 3) := dk_182 0 54 (dk_at dksX3_worth_1 0 rfl rfl)
theorem dX3_worth_25 : decode cX3_worth 25 = .ok (.ifCond .eq 7, 3) := dk_153 0 7 (dk_at dksX3_worth_1 3 rfl rfl)
theorem dX3_worth_28 : decode cX3_worth 28 = .ok (.iconst 0, 1) := dk_3 (dk_at dksX3_worth_1 6 rfl rfl)
theorem dX3_worth_29 : decode cX3_worth 29 = .ok (.goto 10, 3) := dk_167 0 10 (dk_at dksX3_worth_1 7 rfl rfl)
theorem dX3_worth_32 : decode cX3_worth 32 = .ok (.aload_n 0, 1) := dk_42 (dk_at dksX3_worth_1 10 rfl rfl)
theorem dX3_worth_33 : decode cX3_worth 33 = .ok (.iconst 0, 1) := dk_3 (dk_at dksX3_worth_1 11 rfl rfl)
theorem dX3_worth_34 : decode cX3_worth 34 = .ok (.iload_n 1, 1) := dk_27 (dk_at dksX3_worth_1 12 rfl rfl)
theorem dX3_worth_35 : decode cX3_worth 35 = .ok (.iload_n 2, 1) := dk_28 (dk_at dksX3_worth_1 13 rfl rfl)
theorem dX3_worth_36 : decode cX3_worth 36 = .ok (.invokevirtual 76, 3) := dk_182 0 76 (dk_at dksX3_worth_1 14 rfl rfl)
theorem dX3_worth_39 : decode cX3_worth 39 = .ok (.ireturn, 1) := dk_172 (dk_at dksX3_worth_1 17 rfl rfl)
abbrev cX3_wouldTake : ByteArray := prog_11_method_109_code
def yX3_wouldTake : MethodName := ⟨RX3, "wouldTake", "(I)I"⟩
def dkwX3_wouldTake_2 : List UInt8 := [182, 0, 93, 167, 0, 4, 2, 172]
abbrev dktX3_wouldTake_2 : List UInt8 := dkwX3_wouldTake_2 ++ []
def dkwX3_wouldTake_1 : List UInt8 := [27, 182, 0, 96, 153, 0, 24, 42, 3, 27, 42, 180, 0, 7, 3, 27, 184, 0, 40, 4, 96, 46]
abbrev dktX3_wouldTake_1 : List UInt8 := dkwX3_wouldTake_1 ++ dktX3_wouldTake_2
def dkwX3_wouldTake_0 : List UInt8 := [42, 42, 27, 182, 0, 219, 153, 0, 7, 3, 167, 0, 4, 4, 182, 0, 54, 153, 0, 5, 3, 172, 42, 3]
abbrev dktX3_wouldTake_0 : List UInt8 := dkwX3_wouldTake_0 ++ dktX3_wouldTake_1
theorem dksX3_wouldTake_0 : cX3_wouldTake.data.toList.drop 0 = dktX3_wouldTake_0 := by decide +kernel
theorem dksX3_wouldTake_1 : cX3_wouldTake.data.toList.drop 24 = dktX3_wouldTake_1 := dk_seg dksX3_wouldTake_0 24 rfl rfl
theorem dksX3_wouldTake_2 : cX3_wouldTake.data.toList.drop 46 = dktX3_wouldTake_2 := dk_seg dksX3_wouldTake_1 22 rfl rfl
theorem dX3_wouldTake_0 : decode cX3_wouldTake 0 = .ok (.aload_n 0, 1) := dk_42 (dk_at dksX3_wouldTake_0 0 rfl rfl)
theorem dX3_wouldTake_1 : decode cX3_wouldTake 1 = .ok (.aload_n 0, 1) := dk_42 (dk_at dksX3_wouldTake_0 1 rfl rfl)
theorem dX3_wouldTake_2 : decode cX3_wouldTake 2 = .ok (.iload_n 1, 1) := dk_27 (dk_at dksX3_wouldTake_0 2 rfl rfl)
theorem dX3_wouldTake_3 : decode cX3_wouldTake 3 = .ok (.invokevirtual 219, 3) := dk_182 0 219 (dk_at dksX3_wouldTake_0 3 rfl rfl)
theorem dX3_wouldTake_6 : decode cX3_wouldTake 6 = .ok (.ifCond .eq 7, 3) := dk_153 0 7 (dk_at dksX3_wouldTake_0 6 rfl rfl)
theorem dX3_wouldTake_9 : decode cX3_wouldTake 9 = .ok (.iconst 0, 1) := dk_3 (dk_at dksX3_wouldTake_0 9 rfl rfl)
theorem dX3_wouldTake_10 : decode cX3_wouldTake 10 = .ok (.goto 4, 3) := dk_167 0 4 (dk_at dksX3_wouldTake_0 10 rfl rfl)
theorem dX3_wouldTake_13 : decode cX3_wouldTake 13 = .ok (.iconst 1, 1) := dk_4 (dk_at dksX3_wouldTake_0 13 rfl rfl)
theorem dX3_wouldTake_14 : decode cX3_wouldTake 14 = .ok (.invokevirtual 54, 3) := dk_182 0 54 (dk_at dksX3_wouldTake_0 14 rfl rfl)
theorem dX3_wouldTake_17 : decode cX3_wouldTake 17 = .ok (.ifCond .eq 5, 3) := dk_153 0 5 (dk_at dksX3_wouldTake_0 17 rfl rfl)
theorem dX3_wouldTake_20 : decode cX3_wouldTake 20 = .ok (.iconst 0, 1) := dk_3 (dk_at dksX3_wouldTake_0 20 rfl rfl)
theorem dX3_wouldTake_21 : decode cX3_wouldTake 21 = .ok (.ireturn, 1) := dk_172 (dk_at dksX3_wouldTake_0 21 rfl rfl)
theorem dX3_wouldTake_22 : decode cX3_wouldTake 22 = .ok (.aload_n 0, 1) := dk_42 (dk_at dksX3_wouldTake_0 22 rfl rfl)
theorem dX3_wouldTake_23 : decode cX3_wouldTake 23 = .ok (.iconst 0, 1) := dk_3 (dk_at dksX3_wouldTake_0 23 rfl rfl)
theorem dX3_wouldTake_24 : decode cX3_wouldTake 24 = .ok (.iload_n 1, 1) := dk_27 (dk_at dksX3_wouldTake_1 0 rfl rfl)
theorem dX3_wouldTake_25 : decode cX3_wouldTake 25 = .ok (.invokevirtual 96, 3) := dk_182 0 96 (dk_at dksX3_wouldTake_1 1 rfl rfl)
theorem dX3_wouldTake_28 : decode cX3_wouldTake 28 = .ok (.ifCond .eq 24, 3) := dk_153 0 24 (dk_at dksX3_wouldTake_1 4 rfl rfl)
theorem dX3_wouldTake_31 : decode cX3_wouldTake 31 = .ok (.aload_n 0, 1) := dk_42 (dk_at dksX3_wouldTake_1 7 rfl rfl)
theorem dX3_wouldTake_32 : decode cX3_wouldTake 32 = .ok (.iconst 0, 1) := dk_3 (dk_at dksX3_wouldTake_1 8 rfl rfl)
theorem dX3_wouldTake_33 : decode cX3_wouldTake 33 = .ok (.iload_n 1, 1) := dk_27 (dk_at dksX3_wouldTake_1 9 rfl rfl)
theorem dX3_wouldTake_34 : decode cX3_wouldTake 34 = .ok (.aload_n 0, 1) := dk_42 (dk_at dksX3_wouldTake_1 10 rfl rfl)
theorem dX3_wouldTake_35 : decode cX3_wouldTake 35 = .ok (.getfield 7, 3) := dk_180 0 7 (dk_at dksX3_wouldTake_1 11 rfl rfl)
theorem dX3_wouldTake_38 : decode cX3_wouldTake 38 = .ok (.iconst 0, 1) := dk_3 (dk_at dksX3_wouldTake_1 14 rfl rfl)
theorem dX3_wouldTake_39 : decode cX3_wouldTake 39 = .ok (.iload_n 1, 1) := dk_27 (dk_at dksX3_wouldTake_1 15 rfl rfl)
theorem dX3_wouldTake_40 : decode cX3_wouldTake 40 = .ok (.invokestatic 40, 3) := dk_184 0 40 (dk_at dksX3_wouldTake_1 16 rfl rfl)
theorem dX3_wouldTake_43 : decode cX3_wouldTake 43 = .ok (.iconst 1, 1) := dk_4 (dk_at dksX3_wouldTake_1 19 rfl rfl)
theorem dX3_wouldTake_44 : decode cX3_wouldTake 44 = .ok (.iadd, 1) := dk_96 (dk_at dksX3_wouldTake_1 20 rfl rfl)
theorem dX3_wouldTake_45 : decode cX3_wouldTake 45 = .ok (.iaload, 1) := dk_46 (dk_at dksX3_wouldTake_1 21 rfl rfl)
theorem dX3_wouldTake_46 : decode cX3_wouldTake 46 = .ok (.invokevirtual 93, 3) := dk_182 0 93 (dk_at dksX3_wouldTake_2 0 rfl rfl)
theorem dX3_wouldTake_49 : decode cX3_wouldTake 49 = .ok (.goto 4, 3) := dk_167 0 4 (dk_at dksX3_wouldTake_2 3 rfl rfl)
theorem dX3_wouldTake_52 : decode cX3_wouldTake 52 = .ok (.iconst (-1), 1) := dk_2 (dk_at dksX3_wouldTake_2 6 rfl rfl)
theorem dX3_wouldTake_53 : decode cX3_wouldTake 53 = .ok (.ireturn, 1) := dk_172 (dk_at dksX3_wouldTake_2 7 rfl rfl)
abbrev cX3_heronAt : ByteArray := prog_11_method_110_code
def yX3_heronAt : MethodName := ⟨RX3, "heronAt", "()I"⟩
def dkwX3_heronAt_0 : List UInt8 := [42, 8, 182, 0, 198, 172]
abbrev dktX3_heronAt_0 : List UInt8 := dkwX3_heronAt_0 ++ []
theorem dksX3_heronAt_0 : cX3_heronAt.data.toList.drop 0 = dktX3_heronAt_0 := by decide +kernel
theorem dX3_heronAt_0 : decode cX3_heronAt 0 = .ok (.aload_n 0, 1) := dk_42 (dk_at dksX3_heronAt_0 0 rfl rfl)
theorem dX3_heronAt_1 : decode cX3_heronAt 1 = .ok (.iconst 5, 1) := dk_8 (dk_at dksX3_heronAt_0 1 rfl rfl)
theorem dX3_heronAt_2 : decode cX3_heronAt 2 = .ok (.invokevirtual 198, 3) := dk_182 0 198 (dk_at dksX3_heronAt_0 2 rfl rfl)
theorem dX3_heronAt_5 : decode cX3_heronAt 5 = .ok (.ireturn, 1) := dk_172 (dk_at dksX3_heronAt_0 5 rfl rfl)
abbrev cX3_nextOfHeron : ByteArray := prog_11_method_111_code
def yX3_nextOfHeron : MethodName := ⟨RX3, "nextOfHeron", "()I"⟩
def dkwX3_nextOfHeron_0 : List UInt8 := [42, 3, 181, 0, 22, 42, 3, 182, 0, 112, 172]
abbrev dktX3_nextOfHeron_0 : List UInt8 := dkwX3_nextOfHeron_0 ++ []
theorem dksX3_nextOfHeron_0 : cX3_nextOfHeron.data.toList.drop 0 = dktX3_nextOfHeron_0 := by decide +kernel
theorem dX3_nextOfHeron_0 : decode cX3_nextOfHeron 0 = .ok (.aload_n 0, 1) := dk_42 (dk_at dksX3_nextOfHeron_0 0 rfl rfl)
theorem dX3_nextOfHeron_1 : decode cX3_nextOfHeron 1 = .ok (.iconst 0, 1) := dk_3 (dk_at dksX3_nextOfHeron_0 1 rfl rfl)
theorem dX3_nextOfHeron_2 : decode cX3_nextOfHeron 2 = .ok (.putfield 22, 3) := dk_181 0 22 (dk_at dksX3_nextOfHeron_0 2 rfl rfl)
theorem dX3_nextOfHeron_5 : decode cX3_nextOfHeron 5 = .ok (.aload_n 0, 1) := dk_42 (dk_at dksX3_nextOfHeron_0 5 rfl rfl)
theorem dX3_nextOfHeron_6 : decode cX3_nextOfHeron 6 = .ok (.iconst 0, 1) := dk_3 (dk_at dksX3_nextOfHeron_0 6 rfl rfl)
theorem dX3_nextOfHeron_7 : decode cX3_nextOfHeron 7 = .ok (.invokevirtual 112, 3) := dk_182 0 112 (dk_at dksX3_nextOfHeron_0 7 rfl rfl)
theorem dX3_nextOfHeron_10 : decode cX3_nextOfHeron 10 = .ok (.ireturn, 1) := dk_172 (dk_at dksX3_nextOfHeron_0 10 rfl rfl)
abbrev cX3_preyIn : ByteArray := prog_11_method_112_code
def yX3_preyIn : MethodName := ⟨RX3, "preyIn", "(I)I"⟩
def dkwX3_preyIn_1 : List UInt8 := [3, 27, 182, 0, 116, 172]
abbrev dktX3_preyIn_1 : List UInt8 := dkwX3_preyIn_1 ++ []
def dkwX3_preyIn_0 : List UInt8 := [42, 27, 184, 0, 50, 153, 0, 7, 3, 167, 0, 4, 4, 182, 0, 54, 153, 0, 7, 3, 167, 0, 9, 42]
abbrev dktX3_preyIn_0 : List UInt8 := dkwX3_preyIn_0 ++ dktX3_preyIn_1
theorem dksX3_preyIn_0 : cX3_preyIn.data.toList.drop 0 = dktX3_preyIn_0 := by decide +kernel
theorem dksX3_preyIn_1 : cX3_preyIn.data.toList.drop 24 = dktX3_preyIn_1 := dk_seg dksX3_preyIn_0 24 rfl rfl
theorem dX3_preyIn_0 : decode cX3_preyIn 0 = .ok (.aload_n 0, 1) := dk_42 (dk_at dksX3_preyIn_0 0 rfl rfl)
theorem dX3_preyIn_1 : decode cX3_preyIn 1 = .ok (.iload_n 1, 1) := dk_27 (dk_at dksX3_preyIn_0 1 rfl rfl)
theorem dX3_preyIn_2 : decode cX3_preyIn 2 = .ok (.invokestatic 50, 3) := dk_184 0 50 (dk_at dksX3_preyIn_0 2 rfl rfl)
theorem dX3_preyIn_5 : decode cX3_preyIn 5 = .ok (.ifCond .eq 7, 3) := dk_153 0 7 (dk_at dksX3_preyIn_0 5 rfl rfl)
theorem dX3_preyIn_8 : decode cX3_preyIn 8 = .ok (.iconst 0, 1) := dk_3 (dk_at dksX3_preyIn_0 8 rfl rfl)
theorem dX3_preyIn_9 : decode cX3_preyIn 9 = .ok (.goto 4, 3) := dk_167 0 4 (dk_at dksX3_preyIn_0 9 rfl rfl)
theorem dX3_preyIn_12 : decode cX3_preyIn 12 = .ok (.iconst 1, 1) := dk_4 (dk_at dksX3_preyIn_0 12 rfl rfl)
theorem dX3_preyIn_13 : decode cX3_preyIn 13 = .ok (.invokevirtual 54, 3) := dk_182 0 54 (dk_at dksX3_preyIn_0 13 rfl rfl)
theorem dX3_preyIn_16 : decode cX3_preyIn 16 = .ok (.ifCond .eq 7, 3) := dk_153 0 7 (dk_at dksX3_preyIn_0 16 rfl rfl)
theorem dX3_preyIn_19 : decode cX3_preyIn 19 = .ok (.iconst 0, 1) := dk_3 (dk_at dksX3_preyIn_0 19 rfl rfl)
theorem dX3_preyIn_20 : decode cX3_preyIn 20 = .ok (.goto 9, 3) := dk_167 0 9 (dk_at dksX3_preyIn_0 20 rfl rfl)
theorem dX3_preyIn_23 : decode cX3_preyIn 23 = .ok (.aload_n 0, 1) := dk_42 (dk_at dksX3_preyIn_0 23 rfl rfl)
theorem dX3_preyIn_24 : decode cX3_preyIn 24 = .ok (.iconst 0, 1) := dk_3 (dk_at dksX3_preyIn_1 0 rfl rfl)
theorem dX3_preyIn_25 : decode cX3_preyIn 25 = .ok (.iload_n 1, 1) := dk_27 (dk_at dksX3_preyIn_1 1 rfl rfl)
theorem dX3_preyIn_26 : decode cX3_preyIn 26 = .ok (.invokevirtual 116, 3) := dk_182 0 116 (dk_at dksX3_preyIn_1 2 rfl rfl)
theorem dX3_preyIn_29 : decode cX3_preyIn 29 = .ok (.ireturn, 1) := dk_172 (dk_at dksX3_preyIn_1 5 rfl rfl)
abbrev cX3_taken : ByteArray := prog_11_method_113_code
def yX3_taken : MethodName := ⟨RX3, "taken", "()I"⟩
def dkwX3_taken_0 : List UInt8 := [42, 16, 6, 182, 0, 198, 172]
abbrev dktX3_taken_0 : List UInt8 := dkwX3_taken_0 ++ []
theorem dksX3_taken_0 : cX3_taken.data.toList.drop 0 = dktX3_taken_0 := by decide +kernel
theorem dX3_taken_0 : decode cX3_taken 0 = .ok (.aload_n 0, 1) := dk_42 (dk_at dksX3_taken_0 0 rfl rfl)
theorem dX3_taken_1 : decode cX3_taken 1 = .ok (.bipush 6, 2) := dk_16 6 (dk_at dksX3_taken_0 1 rfl rfl)
theorem dX3_taken_3 : decode cX3_taken 3 = .ok (.invokevirtual 198, 3) := dk_182 0 198 (dk_at dksX3_taken_0 3 rfl rfl)
theorem dX3_taken_6 : decode cX3_taken 6 = .ok (.ireturn, 1) := dk_172 (dk_at dksX3_taken_0 6 rfl rfl)
abbrev cX3_takenByFates : ByteArray := prog_11_method_114_code
def yX3_takenByFates : MethodName := ⟨RX3, "takenByFates", "()I"⟩
def dkwX3_takenByFates_0 : List UInt8 := [42, 3, 181, 0, 22, 42, 6, 182, 0, 204, 42, 6, 182, 0, 213, 96, 172]
abbrev dktX3_takenByFates_0 : List UInt8 := dkwX3_takenByFates_0 ++ []
theorem dksX3_takenByFates_0 : cX3_takenByFates.data.toList.drop 0 = dktX3_takenByFates_0 := by decide +kernel
theorem dX3_takenByFates_0 : decode cX3_takenByFates 0 = .ok (.aload_n 0, 1) := dk_42 (dk_at dksX3_takenByFates_0 0 rfl rfl)
theorem dX3_takenByFates_1 : decode cX3_takenByFates 1 = .ok (.iconst 0, 1) := dk_3 (dk_at dksX3_takenByFates_0 1 rfl rfl)
theorem dX3_takenByFates_2 : decode cX3_takenByFates 2 = .ok (.putfield 22, 3) := dk_181 0 22 (dk_at dksX3_takenByFates_0 2 rfl rfl)
theorem dX3_takenByFates_5 : decode cX3_takenByFates 5 = .ok (.aload_n 0, 1) := dk_42 (dk_at dksX3_takenByFates_0 5 rfl rfl)
theorem dX3_takenByFates_6 : decode cX3_takenByFates 6 = .ok (.iconst 3, 1) := dk_6 (dk_at dksX3_takenByFates_0 6 rfl rfl)
theorem dX3_takenByFates_7 : decode cX3_takenByFates 7 = .ok (.invokevirtual 204, 3) := dk_182 0 204 (dk_at dksX3_takenByFates_0 7 rfl rfl)
theorem dX3_takenByFates_10 : decode cX3_takenByFates 10 = .ok (.aload_n 0, 1) := dk_42 (dk_at dksX3_takenByFates_0 10 rfl rfl)
theorem dX3_takenByFates_11 : decode cX3_takenByFates 11 = .ok (.iconst 3, 1) := dk_6 (dk_at dksX3_takenByFates_0 11 rfl rfl)
theorem dX3_takenByFates_12 : decode cX3_takenByFates 12 = .ok (.invokevirtual 213, 3) := dk_182 0 213 (dk_at dksX3_takenByFates_0 12 rfl rfl)
theorem dX3_takenByFates_15 : decode cX3_takenByFates 15 = .ok (.iadd, 1) := dk_96 (dk_at dksX3_takenByFates_0 15 rfl rfl)
theorem dX3_takenByFates_16 : decode cX3_takenByFates 16 = .ok (.ireturn, 1) := dk_172 (dk_at dksX3_takenByFates_0 16 rfl rfl)
abbrev cX3_chainBy : ByteArray := prog_11_method_116_code
def yX3_chainBy : MethodName := ⟨RX3, "chainBy", "(II)I"⟩
def dkwX3_chainBy_1 : List UInt8 := [167, 0, 4, 5, 182, 0, 54, 153, 0, 7, 3, 167, 0, 9, 42, 27, 28, 182, 0, 225, 172]
abbrev dktX3_chainBy_1 : List UInt8 := dkwX3_chainBy_1 ++ []
def dkwX3_chainBy_0 : List UInt8 := [42, 27, 184, 0, 50, 154, 0, 7, 4, 167, 0, 18, 28, 4, 16, 20, 184, 0, 26, 153, 0, 7, 3]
abbrev dktX3_chainBy_0 : List UInt8 := dkwX3_chainBy_0 ++ dktX3_chainBy_1
theorem dksX3_chainBy_0 : cX3_chainBy.data.toList.drop 0 = dktX3_chainBy_0 := by decide +kernel
theorem dksX3_chainBy_1 : cX3_chainBy.data.toList.drop 23 = dktX3_chainBy_1 := dk_seg dksX3_chainBy_0 23 rfl rfl
theorem dX3_chainBy_0 : decode cX3_chainBy 0 = .ok (.aload_n 0, 1) := dk_42 (dk_at dksX3_chainBy_0 0 rfl rfl)
theorem dX3_chainBy_1 : decode cX3_chainBy 1 = .ok (.iload_n 1, 1) := dk_27 (dk_at dksX3_chainBy_0 1 rfl rfl)
theorem dX3_chainBy_2 : decode cX3_chainBy 2 = .ok (.invokestatic 50, 3) := dk_184 0 50 (dk_at dksX3_chainBy_0 2 rfl rfl)
theorem dX3_chainBy_5 : decode cX3_chainBy 5 = .ok (.ifCond .ne 7, 3) := dk_154 0 7 (dk_at dksX3_chainBy_0 5 rfl rfl)
theorem dX3_chainBy_8 : decode cX3_chainBy 8 = .ok (.iconst 1, 1) := dk_4 (dk_at dksX3_chainBy_0 8 rfl rfl)
theorem dX3_chainBy_9 : decode cX3_chainBy 9 = .ok (.goto 18, 3) := dk_167 0 18 (dk_at dksX3_chainBy_0 9 rfl rfl)
theorem dX3_chainBy_12 : decode cX3_chainBy 12 = .ok (.iload_n 2, 1) := dk_28 (dk_at dksX3_chainBy_0 12 rfl rfl)
theorem dX3_chainBy_13 : decode cX3_chainBy 13 = .ok (.iconst 1, 1) := dk_4 (dk_at dksX3_chainBy_0 13 rfl rfl)
theorem dX3_chainBy_14 : decode cX3_chainBy 14 = .ok (.bipush 20, 2) := dk_16 20 (dk_at dksX3_chainBy_0 14 rfl rfl)
theorem dX3_chainBy_16 : decode cX3_chainBy 16 = .ok (.invokestatic 26, 3) := dk_184 0 26 (dk_at dksX3_chainBy_0 16 rfl rfl)
theorem dX3_chainBy_19 : decode cX3_chainBy 19 = .ok (.ifCond .eq 7, 3) := dk_153 0 7 (dk_at dksX3_chainBy_0 19 rfl rfl)
theorem dX3_chainBy_22 : decode cX3_chainBy 22 = .ok (.iconst 0, 1) := dk_3 (dk_at dksX3_chainBy_0 22 rfl rfl)
theorem dX3_chainBy_23 : decode cX3_chainBy 23 = .ok (.goto 4, 3) := dk_167 0 4 (dk_at dksX3_chainBy_1 0 rfl rfl)
theorem dX3_chainBy_26 : decode cX3_chainBy 26 = .ok (.iconst 2, 1) := dk_5 (dk_at dksX3_chainBy_1 3 rfl rfl)
theorem dX3_chainBy_27 : decode cX3_chainBy 27 = .ok (.invokevirtual 54, 3) := dk_182 0 54 (dk_at dksX3_chainBy_1 4 rfl rfl)
theorem dX3_chainBy_30 : decode cX3_chainBy 30 = .ok (.ifCond .eq 7, 3) := dk_153 0 7 (dk_at dksX3_chainBy_1 7 rfl rfl)
theorem dX3_chainBy_33 : decode cX3_chainBy 33 = .ok (.iconst 0, 1) := dk_3 (dk_at dksX3_chainBy_1 10 rfl rfl)
theorem dX3_chainBy_34 : decode cX3_chainBy 34 = .ok (.goto 9, 3) := dk_167 0 9 (dk_at dksX3_chainBy_1 11 rfl rfl)
theorem dX3_chainBy_37 : decode cX3_chainBy 37 = .ok (.aload_n 0, 1) := dk_42 (dk_at dksX3_chainBy_1 14 rfl rfl)
theorem dX3_chainBy_38 : decode cX3_chainBy 38 = .ok (.iload_n 1, 1) := dk_27 (dk_at dksX3_chainBy_1 15 rfl rfl)
theorem dX3_chainBy_39 : decode cX3_chainBy 39 = .ok (.iload_n 2, 1) := dk_28 (dk_at dksX3_chainBy_1 16 rfl rfl)
theorem dX3_chainBy_40 : decode cX3_chainBy 40 = .ok (.invokevirtual 225, 3) := dk_182 0 225 (dk_at dksX3_chainBy_1 17 rfl rfl)
theorem dX3_chainBy_43 : decode cX3_chainBy 43 = .ok (.ireturn, 1) := dk_172 (dk_at dksX3_chainBy_1 20 rfl rfl)
abbrev cX3_chain : ByteArray := prog_11_method_115_code
def yX3_chain : MethodName := ⟨RX3, "chain", "(II)I"⟩
def dkwX3_chain_0 : List UInt8 := [42, 182, 0, 182, 42, 17, 1, 31, 27, 28, 182, 0, 46, 42, 17, 1, 31, 182, 0, 129, 172]
abbrev dktX3_chain_0 : List UInt8 := dkwX3_chain_0 ++ []
theorem dksX3_chain_0 : cX3_chain.data.toList.drop 0 = dktX3_chain_0 := by decide +kernel
theorem dX3_chain_0 : decode cX3_chain 0 = .ok (.aload_n 0, 1) := dk_42 (dk_at dksX3_chain_0 0 rfl rfl)
theorem dX3_chain_1 : decode cX3_chain 1 = .ok (.invokevirtual 182, 3) := dk_182 0 182 (dk_at dksX3_chain_0 1 rfl rfl)
theorem dX3_chain_4 : decode cX3_chain 4 = .ok (.aload_n 0, 1) := dk_42 (dk_at dksX3_chain_0 4 rfl rfl)
theorem dX3_chain_5 : decode cX3_chain 5 = .ok (.sipush 287, 3) := dk_17 1 31 (dk_at dksX3_chain_0 5 rfl rfl)
theorem dX3_chain_8 : decode cX3_chain 8 = .ok (.iload_n 1, 1) := dk_27 (dk_at dksX3_chain_0 8 rfl rfl)
theorem dX3_chain_9 : decode cX3_chain 9 = .ok (.iload_n 2, 1) := dk_28 (dk_at dksX3_chain_0 9 rfl rfl)
theorem dX3_chain_10 : decode cX3_chain 10 = .ok (.invokevirtual 46, 3) := dk_182 0 46 (dk_at dksX3_chain_0 10 rfl rfl)
theorem dX3_chain_13 : decode cX3_chain 13 = .ok (.aload_n 0, 1) := dk_42 (dk_at dksX3_chain_0 13 rfl rfl)
theorem dX3_chain_14 : decode cX3_chain 14 = .ok (.sipush 287, 3) := dk_17 1 31 (dk_at dksX3_chain_0 14 rfl rfl)
theorem dX3_chain_17 : decode cX3_chain 17 = .ok (.invokevirtual 129, 3) := dk_182 0 129 (dk_at dksX3_chain_0 17 rfl rfl)
theorem dX3_chain_20 : decode cX3_chain 20 = .ok (.ireturn, 1) := dk_172 (dk_at dksX3_chain_0 20 rfl rfl)
abbrev cX3_bestSize : ByteArray := prog_11_method_117_code
def yX3_bestSize : MethodName := ⟨RX3, "bestSize", "(I)I"⟩
def dkwX3_bestSize_3 : List UInt8 := [132, 4, 1, 167, 255, 211, 28, 172]
abbrev dktX3_bestSize_3 : List UInt8 := dkwX3_bestSize_3 ++ []
def dkwX3_bestSize_2 : List UInt8 := [164, 0, 8, 21, 4, 167, 0, 4, 28, 61, 21, 5, 29, 164, 0, 8, 21, 5, 167, 0, 4, 29, 62]
abbrev dktX3_bestSize_2 : List UInt8 := dkwX3_bestSize_2 ++ dktX3_bestSize_3
def dkwX3_bestSize_1 : List UInt8 := [62, 4, 54, 4, 21, 4, 16, 20, 163, 0, 44, 42, 27, 21, 4, 182, 0, 225, 54, 5, 21, 5, 29]
abbrev dktX3_bestSize_1 : List UInt8 := dkwX3_bestSize_1 ++ dktX3_bestSize_2
def dkwX3_bestSize_0 : List UInt8 := [42, 27, 184, 0, 50, 153, 0, 7, 3, 167, 0, 4, 4, 182, 0, 54, 153, 0, 5, 3, 172, 3, 61, 2]
abbrev dktX3_bestSize_0 : List UInt8 := dkwX3_bestSize_0 ++ dktX3_bestSize_1
theorem dksX3_bestSize_0 : cX3_bestSize.data.toList.drop 0 = dktX3_bestSize_0 := by decide +kernel
theorem dksX3_bestSize_1 : cX3_bestSize.data.toList.drop 24 = dktX3_bestSize_1 := dk_seg dksX3_bestSize_0 24 rfl rfl
theorem dksX3_bestSize_2 : cX3_bestSize.data.toList.drop 47 = dktX3_bestSize_2 := dk_seg dksX3_bestSize_1 23 rfl rfl
theorem dksX3_bestSize_3 : cX3_bestSize.data.toList.drop 70 = dktX3_bestSize_3 := dk_seg dksX3_bestSize_2 23 rfl rfl
theorem dX3_bestSize_0 : decode cX3_bestSize 0 = .ok (.aload_n 0, 1) := dk_42 (dk_at dksX3_bestSize_0 0 rfl rfl)
theorem dX3_bestSize_1 : decode cX3_bestSize 1 = .ok (.iload_n 1, 1) := dk_27 (dk_at dksX3_bestSize_0 1 rfl rfl)
theorem dX3_bestSize_2 : decode cX3_bestSize 2 = .ok (.invokestatic 50, 3) := dk_184 0 50 (dk_at dksX3_bestSize_0 2 rfl rfl)
theorem dX3_bestSize_5 : decode cX3_bestSize 5 = .ok (.ifCond .eq 7, 3) := dk_153 0 7 (dk_at dksX3_bestSize_0 5 rfl rfl)
theorem dX3_bestSize_8 : decode cX3_bestSize 8 = .ok (.iconst 0, 1) := dk_3 (dk_at dksX3_bestSize_0 8 rfl rfl)
theorem dX3_bestSize_9 : decode cX3_bestSize 9 = .ok (.goto 4, 3) := dk_167 0 4 (dk_at dksX3_bestSize_0 9 rfl rfl)
theorem dX3_bestSize_12 : decode cX3_bestSize 12 = .ok (.iconst 1, 1) := dk_4 (dk_at dksX3_bestSize_0 12 rfl rfl)
theorem dX3_bestSize_13 : decode cX3_bestSize 13 = .ok (.invokevirtual 54, 3) := dk_182 0 54 (dk_at dksX3_bestSize_0 13 rfl rfl)
theorem dX3_bestSize_16 : decode cX3_bestSize 16 = .ok (.ifCond .eq 5, 3) := dk_153 0 5 (dk_at dksX3_bestSize_0 16 rfl rfl)
theorem dX3_bestSize_19 : decode cX3_bestSize 19 = .ok (.iconst 0, 1) := dk_3 (dk_at dksX3_bestSize_0 19 rfl rfl)
theorem dX3_bestSize_20 : decode cX3_bestSize 20 = .ok (.ireturn, 1) := dk_172 (dk_at dksX3_bestSize_0 20 rfl rfl)
theorem dX3_bestSize_21 : decode cX3_bestSize 21 = .ok (.iconst 0, 1) := dk_3 (dk_at dksX3_bestSize_0 21 rfl rfl)
theorem dX3_bestSize_22 : decode cX3_bestSize 22 = .ok (.istore_n 2, 1) := dk_61 (dk_at dksX3_bestSize_0 22 rfl rfl)
theorem dX3_bestSize_23 : decode cX3_bestSize 23 = .ok (.iconst (-1), 1) := dk_2 (dk_at dksX3_bestSize_0 23 rfl rfl)
theorem dX3_bestSize_24 : decode cX3_bestSize 24 = .ok (.istore_n 3, 1) := dk_62 (dk_at dksX3_bestSize_1 0 rfl rfl)
theorem dX3_bestSize_25 : decode cX3_bestSize 25 = .ok (.iconst 1, 1) := dk_4 (dk_at dksX3_bestSize_1 1 rfl rfl)
theorem dX3_bestSize_26 : decode cX3_bestSize 26 = .ok (.istore 4, 2) := dk_54 4 (dk_at dksX3_bestSize_1 2 rfl rfl)
theorem dX3_bestSize_28 : decode cX3_bestSize 28 = .ok (.iload 4, 2) := dk_21 4 (dk_at dksX3_bestSize_1 4 rfl rfl)
theorem dX3_bestSize_30 : decode cX3_bestSize 30 = .ok (.bipush 20, 2) := dk_16 20 (dk_at dksX3_bestSize_1 6 rfl rfl)
theorem dX3_bestSize_32 : decode cX3_bestSize 32 = .ok (.if_icmp .gt 44, 3) := dk_163 0 44 (dk_at dksX3_bestSize_1 8 rfl rfl)
theorem dX3_bestSize_35 : decode cX3_bestSize 35 = .ok (.aload_n 0, 1) := dk_42 (dk_at dksX3_bestSize_1 11 rfl rfl)
theorem dX3_bestSize_36 : decode cX3_bestSize 36 = .ok (.iload_n 1, 1) := dk_27 (dk_at dksX3_bestSize_1 12 rfl rfl)
theorem dX3_bestSize_37 : decode cX3_bestSize 37 = .ok (.iload 4, 2) := dk_21 4 (dk_at dksX3_bestSize_1 13 rfl rfl)
theorem dX3_bestSize_39 : decode cX3_bestSize 39 = .ok (.invokevirtual 225, 3) := dk_182 0 225 (dk_at dksX3_bestSize_1 15 rfl rfl)
theorem dX3_bestSize_42 : decode cX3_bestSize 42 = .ok (.istore 5, 2) := dk_54 5 (dk_at dksX3_bestSize_1 18 rfl rfl)
theorem dX3_bestSize_44 : decode cX3_bestSize 44 = .ok (.iload 5, 2) := dk_21 5 (dk_at dksX3_bestSize_1 20 rfl rfl)
theorem dX3_bestSize_46 : decode cX3_bestSize 46 = .ok (.iload_n 3, 1) := dk_29 (dk_at dksX3_bestSize_1 22 rfl rfl)
theorem dX3_bestSize_47 : decode cX3_bestSize 47 = .ok (.if_icmp .le 8, 3) := dk_164 0 8 (dk_at dksX3_bestSize_2 0 rfl rfl)
theorem dX3_bestSize_50 : decode cX3_bestSize 50 = .ok (.iload 4, 2) := dk_21 4 (dk_at dksX3_bestSize_2 3 rfl rfl)
theorem dX3_bestSize_52 : decode cX3_bestSize 52 = .ok (.goto 4, 3) := dk_167 0 4 (dk_at dksX3_bestSize_2 5 rfl rfl)
theorem dX3_bestSize_55 : decode cX3_bestSize 55 = .ok (.iload_n 2, 1) := dk_28 (dk_at dksX3_bestSize_2 8 rfl rfl)
theorem dX3_bestSize_56 : decode cX3_bestSize 56 = .ok (.istore_n 2, 1) := dk_61 (dk_at dksX3_bestSize_2 9 rfl rfl)
theorem dX3_bestSize_57 : decode cX3_bestSize 57 = .ok (.iload 5, 2) := dk_21 5 (dk_at dksX3_bestSize_2 10 rfl rfl)
theorem dX3_bestSize_59 : decode cX3_bestSize 59 = .ok (.iload_n 3, 1) := dk_29 (dk_at dksX3_bestSize_2 12 rfl rfl)
theorem dX3_bestSize_60 : decode cX3_bestSize 60 = .ok (.if_icmp .le 8, 3) := dk_164 0 8 (dk_at dksX3_bestSize_2 13 rfl rfl)
theorem dX3_bestSize_63 : decode cX3_bestSize 63 = .ok (.iload 5, 2) := dk_21 5 (dk_at dksX3_bestSize_2 16 rfl rfl)
theorem dX3_bestSize_65 : decode cX3_bestSize 65 = .ok (.goto 4, 3) := dk_167 0 4 (dk_at dksX3_bestSize_2 18 rfl rfl)
theorem dX3_bestSize_68 : decode cX3_bestSize 68 = .ok (.iload_n 3, 1) := dk_29 (dk_at dksX3_bestSize_2 21 rfl rfl)
theorem dX3_bestSize_69 : decode cX3_bestSize 69 = .ok (.istore_n 3, 1) := dk_62 (dk_at dksX3_bestSize_2 22 rfl rfl)
theorem dX3_bestSize_70 : decode cX3_bestSize 70 = .ok (.iinc 4 1, 3) := dk_132 4 1 (dk_at dksX3_bestSize_3 0 rfl rfl)
theorem dX3_bestSize_73 : decode cX3_bestSize 73 = .ok (.goto (-45), 3) := dk_167 255 211 (dk_at dksX3_bestSize_3 3 rfl rfl)
theorem dX3_bestSize_76 : decode cX3_bestSize 76 = .ok (.iload_n 2, 1) := dk_28 (dk_at dksX3_bestSize_3 6 rfl rfl)
theorem dX3_bestSize_77 : decode cX3_bestSize 77 = .ok (.ireturn, 1) := dk_172 (dk_at dksX3_bestSize_3 7 rfl rfl)
abbrev cX3_lostIn : ByteArray := prog_11_method_119_code
def yX3_lostIn : MethodName := ⟨RX3, "lostIn", "(I)I"⟩
def dkwX3_lostIn_1 : List UInt8 := [42, 182, 0, 182, 42, 17, 1, 31, 42, 27, 182, 0, 228, 182, 0, 144, 172]
abbrev dktX3_lostIn_1 : List UInt8 := dkwX3_lostIn_1 ++ []
def dkwX3_lostIn_0 : List UInt8 := [42, 27, 4, 16, 99, 184, 0, 26, 153, 0, 7, 3, 167, 0, 4, 4, 182, 0, 54, 153, 0, 5, 3, 172]
abbrev dktX3_lostIn_0 : List UInt8 := dkwX3_lostIn_0 ++ dktX3_lostIn_1
theorem dksX3_lostIn_0 : cX3_lostIn.data.toList.drop 0 = dktX3_lostIn_0 := by decide +kernel
theorem dksX3_lostIn_1 : cX3_lostIn.data.toList.drop 24 = dktX3_lostIn_1 := dk_seg dksX3_lostIn_0 24 rfl rfl
theorem dX3_lostIn_0 : decode cX3_lostIn 0 = .ok (.aload_n 0, 1) := dk_42 (dk_at dksX3_lostIn_0 0 rfl rfl)
theorem dX3_lostIn_1 : decode cX3_lostIn 1 = .ok (.iload_n 1, 1) := dk_27 (dk_at dksX3_lostIn_0 1 rfl rfl)
theorem dX3_lostIn_2 : decode cX3_lostIn 2 = .ok (.iconst 1, 1) := dk_4 (dk_at dksX3_lostIn_0 2 rfl rfl)
theorem dX3_lostIn_3 : decode cX3_lostIn 3 = .ok (.bipush 99, 2) := dk_16 99 (dk_at dksX3_lostIn_0 3 rfl rfl)
theorem dX3_lostIn_5 : decode cX3_lostIn 5 = .ok (.invokestatic 26, 3) := dk_184 0 26 (dk_at dksX3_lostIn_0 5 rfl rfl)
theorem dX3_lostIn_8 : decode cX3_lostIn 8 = .ok (.ifCond .eq 7, 3) := dk_153 0 7 (dk_at dksX3_lostIn_0 8 rfl rfl)
theorem dX3_lostIn_11 : decode cX3_lostIn 11 = .ok (.iconst 0, 1) := dk_3 (dk_at dksX3_lostIn_0 11 rfl rfl)
theorem dX3_lostIn_12 : decode cX3_lostIn 12 = .ok (.goto 4, 3) := dk_167 0 4 (dk_at dksX3_lostIn_0 12 rfl rfl)
theorem dX3_lostIn_15 : decode cX3_lostIn 15 = .ok (.iconst 1, 1) := dk_4 (dk_at dksX3_lostIn_0 15 rfl rfl)
theorem dX3_lostIn_16 : decode cX3_lostIn 16 = .ok (.invokevirtual 54, 3) := dk_182 0 54 (dk_at dksX3_lostIn_0 16 rfl rfl)
theorem dX3_lostIn_19 : decode cX3_lostIn 19 = .ok (.ifCond .eq 5, 3) := dk_153 0 5 (dk_at dksX3_lostIn_0 19 rfl rfl)
theorem dX3_lostIn_22 : decode cX3_lostIn 22 = .ok (.iconst 0, 1) := dk_3 (dk_at dksX3_lostIn_0 22 rfl rfl)
theorem dX3_lostIn_23 : decode cX3_lostIn 23 = .ok (.ireturn, 1) := dk_172 (dk_at dksX3_lostIn_0 23 rfl rfl)
theorem dX3_lostIn_24 : decode cX3_lostIn 24 = .ok (.aload_n 0, 1) := dk_42 (dk_at dksX3_lostIn_1 0 rfl rfl)
theorem dX3_lostIn_25 : decode cX3_lostIn 25 = .ok (.invokevirtual 182, 3) := dk_182 0 182 (dk_at dksX3_lostIn_1 1 rfl rfl)
theorem dX3_lostIn_28 : decode cX3_lostIn 28 = .ok (.aload_n 0, 1) := dk_42 (dk_at dksX3_lostIn_1 4 rfl rfl)
theorem dX3_lostIn_29 : decode cX3_lostIn 29 = .ok (.sipush 287, 3) := dk_17 1 31 (dk_at dksX3_lostIn_1 5 rfl rfl)
theorem dX3_lostIn_32 : decode cX3_lostIn 32 = .ok (.aload_n 0, 1) := dk_42 (dk_at dksX3_lostIn_1 8 rfl rfl)
theorem dX3_lostIn_33 : decode cX3_lostIn 33 = .ok (.iload_n 1, 1) := dk_27 (dk_at dksX3_lostIn_1 9 rfl rfl)
theorem dX3_lostIn_34 : decode cX3_lostIn 34 = .ok (.invokevirtual 228, 3) := dk_182 0 228 (dk_at dksX3_lostIn_1 10 rfl rfl)
theorem dX3_lostIn_37 : decode cX3_lostIn 37 = .ok (.invokevirtual 144, 3) := dk_182 0 144 (dk_at dksX3_lostIn_1 13 rfl rfl)
theorem dX3_lostIn_40 : decode cX3_lostIn 40 = .ok (.ireturn, 1) := dk_172 (dk_at dksX3_lostIn_1 16 rfl rfl)
abbrev cX3_hoursOf : ByteArray := prog_11_method_118_code
def yX3_hoursOf : MethodName := ⟨RX3, "hoursOf", "(I)I"⟩
def dkwX3_hoursOf_1 : List UInt8 := [167, 0, 4, 27, 172]
abbrev dktX3_hoursOf_1 : List UInt8 := dkwX3_hoursOf_1 ++ []
def dkwX3_hoursOf_0 : List UInt8 := [17, 3, 231, 42, 180, 0, 7, 3, 46, 100, 27, 162, 0, 16, 17, 3, 231, 42, 180, 0, 7, 3, 46, 100]
abbrev dktX3_hoursOf_0 : List UInt8 := dkwX3_hoursOf_0 ++ dktX3_hoursOf_1
theorem dksX3_hoursOf_0 : cX3_hoursOf.data.toList.drop 0 = dktX3_hoursOf_0 := by decide +kernel
theorem dksX3_hoursOf_1 : cX3_hoursOf.data.toList.drop 24 = dktX3_hoursOf_1 := dk_seg dksX3_hoursOf_0 24 rfl rfl
theorem dX3_hoursOf_0 : decode cX3_hoursOf 0 = .ok (.sipush 999, 3) := dk_17 3 231 (dk_at dksX3_hoursOf_0 0 rfl rfl)
theorem dX3_hoursOf_3 : decode cX3_hoursOf 3 = .ok (.aload_n 0, 1) := dk_42 (dk_at dksX3_hoursOf_0 3 rfl rfl)
theorem dX3_hoursOf_4 : decode cX3_hoursOf 4 = .ok (.getfield 7, 3) := dk_180 0 7 (dk_at dksX3_hoursOf_0 4 rfl rfl)
theorem dX3_hoursOf_7 : decode cX3_hoursOf 7 = .ok (.iconst 0, 1) := dk_3 (dk_at dksX3_hoursOf_0 7 rfl rfl)
theorem dX3_hoursOf_8 : decode cX3_hoursOf 8 = .ok (.iaload, 1) := dk_46 (dk_at dksX3_hoursOf_0 8 rfl rfl)
theorem dX3_hoursOf_9 : decode cX3_hoursOf 9 = .ok (.isub, 1) := dk_100 (dk_at dksX3_hoursOf_0 9 rfl rfl)
theorem dX3_hoursOf_10 : decode cX3_hoursOf 10 = .ok (.iload_n 1, 1) := dk_27 (dk_at dksX3_hoursOf_0 10 rfl rfl)
theorem dX3_hoursOf_11 : decode cX3_hoursOf 11 = .ok (.if_icmp .ge 16, 3) := dk_162 0 16 (dk_at dksX3_hoursOf_0 11 rfl rfl)
theorem dX3_hoursOf_14 : decode cX3_hoursOf 14 = .ok (.sipush 999, 3) := dk_17 3 231 (dk_at dksX3_hoursOf_0 14 rfl rfl)
theorem dX3_hoursOf_17 : decode cX3_hoursOf 17 = .ok (.aload_n 0, 1) := dk_42 (dk_at dksX3_hoursOf_0 17 rfl rfl)
theorem dX3_hoursOf_18 : decode cX3_hoursOf 18 = .ok (.getfield 7, 3) := dk_180 0 7 (dk_at dksX3_hoursOf_0 18 rfl rfl)
theorem dX3_hoursOf_21 : decode cX3_hoursOf 21 = .ok (.iconst 0, 1) := dk_3 (dk_at dksX3_hoursOf_0 21 rfl rfl)
theorem dX3_hoursOf_22 : decode cX3_hoursOf 22 = .ok (.iaload, 1) := dk_46 (dk_at dksX3_hoursOf_0 22 rfl rfl)
theorem dX3_hoursOf_23 : decode cX3_hoursOf 23 = .ok (.isub, 1) := dk_100 (dk_at dksX3_hoursOf_0 23 rfl rfl)
theorem dX3_hoursOf_24 : decode cX3_hoursOf 24 = .ok (.goto 4, 3) := dk_167 0 4 (dk_at dksX3_hoursOf_1 0 rfl rfl)
theorem dX3_hoursOf_27 : decode cX3_hoursOf 27 = .ok (.iload_n 1, 1) := dk_27 (dk_at dksX3_hoursOf_1 3 rfl rfl)
theorem dX3_hoursOf_28 : decode cX3_hoursOf 28 = .ok (.ireturn, 1) := dk_172 (dk_at dksX3_hoursOf_1 4 rfl rfl)
abbrev cX3_hoursToLive : ByteArray := prog_11_method_120_code
def yX3_hoursToLive : MethodName := ⟨RX3, "hoursToLive", "(I)I"⟩
def dkwX3_hoursToLive_4 : List UInt8 := [2, 172]
abbrev dktX3_hoursToLive_4 : List UInt8 := dkwX3_hoursToLive_4 ++ []
def dkwX3_hoursToLive_3 : List UInt8 := [180, 0, 7, 17, 1, 31, 27, 184, 0, 36, 7, 96, 46, 153, 0, 5, 28, 172, 132, 2, 1, 167, 255, 212]
abbrev dktX3_hoursToLive_3 : List UInt8 := dkwX3_hoursToLive_3 ++ dktX3_hoursToLive_4
def dkwX3_hoursToLive_2 : List UInt8 := [42, 16, 99, 182, 0, 228, 163, 0, 40, 42, 17, 1, 31, 182, 0, 141, 62, 29, 158, 0, 22, 42]
abbrev dktX3_hoursToLive_2 : List UInt8 := dkwX3_hoursToLive_2 ++ dktX3_hoursToLive_3
def dkwX3_hoursToLive_1 : List UInt8 := [46, 154, 0, 7, 3, 167, 0, 4, 5, 182, 0, 54, 153, 0, 5, 3, 172, 42, 182, 0, 182, 4, 61, 28]
abbrev dktX3_hoursToLive_1 : List UInt8 := dkwX3_hoursToLive_1 ++ dktX3_hoursToLive_2
def dkwX3_hoursToLive_0 : List UInt8 := [42, 42, 27, 182, 0, 207, 154, 0, 7, 4, 167, 0, 23, 42, 180, 0, 7, 3, 27, 184, 0, 36, 7, 96]
abbrev dktX3_hoursToLive_0 : List UInt8 := dkwX3_hoursToLive_0 ++ dktX3_hoursToLive_1
theorem dksX3_hoursToLive_0 : cX3_hoursToLive.data.toList.drop 0 = dktX3_hoursToLive_0 := by decide +kernel
theorem dksX3_hoursToLive_1 : cX3_hoursToLive.data.toList.drop 24 = dktX3_hoursToLive_1 := dk_seg dksX3_hoursToLive_0 24 rfl rfl
theorem dksX3_hoursToLive_2 : cX3_hoursToLive.data.toList.drop 48 = dktX3_hoursToLive_2 := dk_seg dksX3_hoursToLive_1 24 rfl rfl
theorem dksX3_hoursToLive_3 : cX3_hoursToLive.data.toList.drop 70 = dktX3_hoursToLive_3 := dk_seg dksX3_hoursToLive_2 22 rfl rfl
theorem dksX3_hoursToLive_4 : cX3_hoursToLive.data.toList.drop 94 = dktX3_hoursToLive_4 := dk_seg dksX3_hoursToLive_3 24 rfl rfl
theorem dX3_hoursToLive_0 : decode cX3_hoursToLive 0 = .ok (.aload_n 0, 1) := dk_42 (dk_at dksX3_hoursToLive_0 0 rfl rfl)
theorem dX3_hoursToLive_1 : decode cX3_hoursToLive 1 = .ok (.aload_n 0, 1) := dk_42 (dk_at dksX3_hoursToLive_0 1 rfl rfl)
theorem dX3_hoursToLive_2 : decode cX3_hoursToLive 2 = .ok (.iload_n 1, 1) := dk_27 (dk_at dksX3_hoursToLive_0 2 rfl rfl)
theorem dX3_hoursToLive_3 : decode cX3_hoursToLive 3 = .ok (.invokevirtual 207, 3) := dk_182 0 207 (dk_at dksX3_hoursToLive_0 3 rfl rfl)
theorem dX3_hoursToLive_6 : decode cX3_hoursToLive 6 = .ok (.ifCond .ne 7, 3) := dk_154 0 7 (dk_at dksX3_hoursToLive_0 6 rfl rfl)
theorem dX3_hoursToLive_9 : decode cX3_hoursToLive 9 = .ok (.iconst 1, 1) := dk_4 (dk_at dksX3_hoursToLive_0 9 rfl rfl)
theorem dX3_hoursToLive_10 : decode cX3_hoursToLive 10 = .ok (.goto 23, 3) := dk_167 0 23 (dk_at dksX3_hoursToLive_0 10 rfl rfl)
theorem dX3_hoursToLive_13 : decode cX3_hoursToLive 13 = .ok (.aload_n 0, 1) := dk_42 (dk_at dksX3_hoursToLive_0 13 rfl rfl)
theorem dX3_hoursToLive_14 : decode cX3_hoursToLive 14 = .ok (.getfield 7, 3) := dk_180 0 7 (dk_at dksX3_hoursToLive_0 14 rfl rfl)
theorem dX3_hoursToLive_17 : decode cX3_hoursToLive 17 = .ok (.iconst 0, 1) := dk_3 (dk_at dksX3_hoursToLive_0 17 rfl rfl)
theorem dX3_hoursToLive_18 : decode cX3_hoursToLive 18 = .ok (.iload_n 1, 1) := dk_27 (dk_at dksX3_hoursToLive_0 18 rfl rfl)
theorem dX3_hoursToLive_19 : decode cX3_hoursToLive 19 = .ok (.invokestatic 36, 3) := dk_184 0 36 (dk_at dksX3_hoursToLive_0 19 rfl rfl)
theorem dX3_hoursToLive_22 : decode cX3_hoursToLive 22 = .ok (.iconst 4, 1) := dk_7 (dk_at dksX3_hoursToLive_0 22 rfl rfl)
theorem dX3_hoursToLive_23 : decode cX3_hoursToLive 23 = .ok (.iadd, 1) := dk_96 (dk_at dksX3_hoursToLive_0 23 rfl rfl)
theorem dX3_hoursToLive_24 : decode cX3_hoursToLive 24 = .ok (.iaload, 1) := dk_46 (dk_at dksX3_hoursToLive_1 0 rfl rfl)
theorem dX3_hoursToLive_25 : decode cX3_hoursToLive 25 = .ok (.ifCond .ne 7, 3) := dk_154 0 7 (dk_at dksX3_hoursToLive_1 1 rfl rfl)
theorem dX3_hoursToLive_28 : decode cX3_hoursToLive 28 = .ok (.iconst 0, 1) := dk_3 (dk_at dksX3_hoursToLive_1 4 rfl rfl)
theorem dX3_hoursToLive_29 : decode cX3_hoursToLive 29 = .ok (.goto 4, 3) := dk_167 0 4 (dk_at dksX3_hoursToLive_1 5 rfl rfl)
theorem dX3_hoursToLive_32 : decode cX3_hoursToLive 32 = .ok (.iconst 2, 1) := dk_5 (dk_at dksX3_hoursToLive_1 8 rfl rfl)
theorem dX3_hoursToLive_33 : decode cX3_hoursToLive 33 = .ok (.invokevirtual 54, 3) := dk_182 0 54 (dk_at dksX3_hoursToLive_1 9 rfl rfl)
theorem dX3_hoursToLive_36 : decode cX3_hoursToLive 36 = .ok (.ifCond .eq 5, 3) := dk_153 0 5 (dk_at dksX3_hoursToLive_1 12 rfl rfl)
theorem dX3_hoursToLive_39 : decode cX3_hoursToLive 39 = .ok (.iconst 0, 1) := dk_3 (dk_at dksX3_hoursToLive_1 15 rfl rfl)
theorem dX3_hoursToLive_40 : decode cX3_hoursToLive 40 = .ok (.ireturn, 1) := dk_172 (dk_at dksX3_hoursToLive_1 16 rfl rfl)
theorem dX3_hoursToLive_41 : decode cX3_hoursToLive 41 = .ok (.aload_n 0, 1) := dk_42 (dk_at dksX3_hoursToLive_1 17 rfl rfl)
theorem dX3_hoursToLive_42 : decode cX3_hoursToLive 42 = .ok (.invokevirtual 182, 3) := dk_182 0 182 (dk_at dksX3_hoursToLive_1 18 rfl rfl)
theorem dX3_hoursToLive_45 : decode cX3_hoursToLive 45 = .ok (.iconst 1, 1) := dk_4 (dk_at dksX3_hoursToLive_1 21 rfl rfl)
theorem dX3_hoursToLive_46 : decode cX3_hoursToLive 46 = .ok (.istore_n 2, 1) := dk_61 (dk_at dksX3_hoursToLive_1 22 rfl rfl)
theorem dX3_hoursToLive_47 : decode cX3_hoursToLive 47 = .ok (.iload_n 2, 1) := dk_28 (dk_at dksX3_hoursToLive_1 23 rfl rfl)
theorem dX3_hoursToLive_48 : decode cX3_hoursToLive 48 = .ok (.aload_n 0, 1) := dk_42 (dk_at dksX3_hoursToLive_2 0 rfl rfl)
theorem dX3_hoursToLive_49 : decode cX3_hoursToLive 49 = .ok (.bipush 99, 2) := dk_16 99 (dk_at dksX3_hoursToLive_2 1 rfl rfl)
theorem dX3_hoursToLive_51 : decode cX3_hoursToLive 51 = .ok (.invokevirtual 228, 3) := dk_182 0 228 (dk_at dksX3_hoursToLive_2 3 rfl rfl)
theorem dX3_hoursToLive_54 : decode cX3_hoursToLive 54 = .ok (.if_icmp .gt 40, 3) := dk_163 0 40 (dk_at dksX3_hoursToLive_2 6 rfl rfl)
theorem dX3_hoursToLive_57 : decode cX3_hoursToLive 57 = .ok (.aload_n 0, 1) := dk_42 (dk_at dksX3_hoursToLive_2 9 rfl rfl)
theorem dX3_hoursToLive_58 : decode cX3_hoursToLive 58 = .ok (.sipush 287, 3) := dk_17 1 31 (dk_at dksX3_hoursToLive_2 10 rfl rfl)
theorem dX3_hoursToLive_61 : decode cX3_hoursToLive 61 = .ok (.invokevirtual 141, 3) := dk_182 0 141 (dk_at dksX3_hoursToLive_2 13 rfl rfl)
theorem dX3_hoursToLive_64 : decode cX3_hoursToLive 64 = .ok (.istore_n 3, 1) := dk_62 (dk_at dksX3_hoursToLive_2 16 rfl rfl)
theorem dX3_hoursToLive_65 : decode cX3_hoursToLive 65 = .ok (.iload_n 3, 1) := dk_29 (dk_at dksX3_hoursToLive_2 17 rfl rfl)
theorem dX3_hoursToLive_66 : decode cX3_hoursToLive 66 = .ok (.ifCond .le 22, 3) := dk_158 0 22 (dk_at dksX3_hoursToLive_2 18 rfl rfl)
theorem dX3_hoursToLive_69 : decode cX3_hoursToLive 69 = .ok (.aload_n 0, 1) := dk_42 (dk_at dksX3_hoursToLive_2 21 rfl rfl)
theorem dX3_hoursToLive_70 : decode cX3_hoursToLive 70 = .ok (.getfield 7, 3) := dk_180 0 7 (dk_at dksX3_hoursToLive_3 0 rfl rfl)
theorem dX3_hoursToLive_73 : decode cX3_hoursToLive 73 = .ok (.sipush 287, 3) := dk_17 1 31 (dk_at dksX3_hoursToLive_3 3 rfl rfl)
theorem dX3_hoursToLive_76 : decode cX3_hoursToLive 76 = .ok (.iload_n 1, 1) := dk_27 (dk_at dksX3_hoursToLive_3 6 rfl rfl)
theorem dX3_hoursToLive_77 : decode cX3_hoursToLive 77 = .ok (.invokestatic 36, 3) := dk_184 0 36 (dk_at dksX3_hoursToLive_3 7 rfl rfl)
theorem dX3_hoursToLive_80 : decode cX3_hoursToLive 80 = .ok (.iconst 4, 1) := dk_7 (dk_at dksX3_hoursToLive_3 10 rfl rfl)
theorem dX3_hoursToLive_81 : decode cX3_hoursToLive 81 = .ok (.iadd, 1) := dk_96 (dk_at dksX3_hoursToLive_3 11 rfl rfl)
theorem dX3_hoursToLive_82 : decode cX3_hoursToLive 82 = .ok (.iaload, 1) := dk_46 (dk_at dksX3_hoursToLive_3 12 rfl rfl)
theorem dX3_hoursToLive_83 : decode cX3_hoursToLive 83 = .ok (.ifCond .eq 5, 3) := dk_153 0 5 (dk_at dksX3_hoursToLive_3 13 rfl rfl)
theorem dX3_hoursToLive_86 : decode cX3_hoursToLive 86 = .ok (.iload_n 2, 1) := dk_28 (dk_at dksX3_hoursToLive_3 16 rfl rfl)
theorem dX3_hoursToLive_87 : decode cX3_hoursToLive 87 = .ok (.ireturn, 1) := dk_172 (dk_at dksX3_hoursToLive_3 17 rfl rfl)
theorem dX3_hoursToLive_88 : decode cX3_hoursToLive 88 = .ok (.iinc 2 1, 3) := dk_132 2 1 (dk_at dksX3_hoursToLive_3 18 rfl rfl)
theorem dX3_hoursToLive_91 : decode cX3_hoursToLive 91 = .ok (.goto (-44), 3) := dk_167 255 212 (dk_at dksX3_hoursToLive_3 21 rfl rfl)
theorem dX3_hoursToLive_94 : decode cX3_hoursToLive 94 = .ok (.iconst (-1), 1) := dk_2 (dk_at dksX3_hoursToLive_4 0 rfl rfl)
theorem dX3_hoursToLive_95 : decode cX3_hoursToLive 95 = .ok (.ireturn, 1) := dk_172 (dk_at dksX3_hoursToLive_4 1 rfl rfl)
abbrev cX3_hoursToChange : ByteArray := prog_11_method_121_code
def yX3_hoursToChange : MethodName := ⟨RX3, "hoursToChange", "(I)I"⟩
def dkwX3_hoursToChange_4 : List UInt8 := [164, 0, 5, 28, 172, 132, 2, 1, 167, 255, 200, 2, 172]
abbrev dktX3_hoursToChange_4 : List UInt8 := dkwX3_hoursToChange_4 ++ []
def dkwX3_hoursToChange_3 : List UInt8 := [17, 1, 31, 27, 184, 0, 40, 7, 96, 46, 42, 180, 0, 7, 3, 27, 184, 0, 40, 7, 96, 46]
abbrev dktX3_hoursToChange_3 : List UInt8 := dkwX3_hoursToChange_3 ++ dktX3_hoursToChange_4
def dkwX3_hoursToChange_2 : List UInt8 := [182, 0, 228, 163, 0, 52, 42, 17, 1, 31, 182, 0, 141, 62, 29, 155, 0, 34, 42, 180, 0, 7]
abbrev dktX3_hoursToChange_2 : List UInt8 := dkwX3_hoursToChange_2 ++ dktX3_hoursToChange_3
def dkwX3_hoursToChange_1 : List UInt8 := [167, 0, 4, 5, 182, 0, 54, 153, 0, 5, 3, 172, 42, 182, 0, 182, 4, 61, 28, 42, 16, 99]
abbrev dktX3_hoursToChange_1 : List UInt8 := dkwX3_hoursToChange_1 ++ dktX3_hoursToChange_2
def dkwX3_hoursToChange_0 : List UInt8 := [42, 42, 27, 182, 0, 219, 154, 0, 7, 4, 167, 0, 17, 42, 3, 27, 182, 0, 96, 153, 0, 7, 3]
abbrev dktX3_hoursToChange_0 : List UInt8 := dkwX3_hoursToChange_0 ++ dktX3_hoursToChange_1
theorem dksX3_hoursToChange_0 : cX3_hoursToChange.data.toList.drop 0 = dktX3_hoursToChange_0 := by decide +kernel
theorem dksX3_hoursToChange_1 : cX3_hoursToChange.data.toList.drop 23 = dktX3_hoursToChange_1 := dk_seg dksX3_hoursToChange_0 23 rfl rfl
theorem dksX3_hoursToChange_2 : cX3_hoursToChange.data.toList.drop 45 = dktX3_hoursToChange_2 := dk_seg dksX3_hoursToChange_1 22 rfl rfl
theorem dksX3_hoursToChange_3 : cX3_hoursToChange.data.toList.drop 67 = dktX3_hoursToChange_3 := dk_seg dksX3_hoursToChange_2 22 rfl rfl
theorem dksX3_hoursToChange_4 : cX3_hoursToChange.data.toList.drop 89 = dktX3_hoursToChange_4 := dk_seg dksX3_hoursToChange_3 22 rfl rfl
theorem dX3_hoursToChange_0 : decode cX3_hoursToChange 0 = .ok (.aload_n 0, 1) := dk_42 (dk_at dksX3_hoursToChange_0 0 rfl rfl)
theorem dX3_hoursToChange_1 : decode cX3_hoursToChange 1 = .ok (.aload_n 0, 1) := dk_42 (dk_at dksX3_hoursToChange_0 1 rfl rfl)
theorem dX3_hoursToChange_2 : decode cX3_hoursToChange 2 = .ok (.iload_n 1, 1) := dk_27 (dk_at dksX3_hoursToChange_0 2 rfl rfl)
theorem dX3_hoursToChange_3 : decode cX3_hoursToChange 3 = .ok (.invokevirtual 219, 3) := dk_182 0 219 (dk_at dksX3_hoursToChange_0 3 rfl rfl)
theorem dX3_hoursToChange_6 : decode cX3_hoursToChange 6 = .ok (.ifCond .ne 7, 3) := dk_154 0 7 (dk_at dksX3_hoursToChange_0 6 rfl rfl)
theorem dX3_hoursToChange_9 : decode cX3_hoursToChange 9 = .ok (.iconst 1, 1) := dk_4 (dk_at dksX3_hoursToChange_0 9 rfl rfl)
theorem dX3_hoursToChange_10 : decode cX3_hoursToChange 10 = .ok (.goto 17, 3) := dk_167 0 17 (dk_at dksX3_hoursToChange_0 10 rfl rfl)
theorem dX3_hoursToChange_13 : decode cX3_hoursToChange 13 = .ok (.aload_n 0, 1) := dk_42 (dk_at dksX3_hoursToChange_0 13 rfl rfl)
theorem dX3_hoursToChange_14 : decode cX3_hoursToChange 14 = .ok (.iconst 0, 1) := dk_3 (dk_at dksX3_hoursToChange_0 14 rfl rfl)
theorem dX3_hoursToChange_15 : decode cX3_hoursToChange 15 = .ok (.iload_n 1, 1) := dk_27 (dk_at dksX3_hoursToChange_0 15 rfl rfl)
theorem dX3_hoursToChange_16 : decode cX3_hoursToChange 16 = .ok (.invokevirtual 96, 3) := dk_182 0 96 (dk_at dksX3_hoursToChange_0 16 rfl rfl)
theorem dX3_hoursToChange_19 : decode cX3_hoursToChange 19 = .ok (.ifCond .eq 7, 3) := dk_153 0 7 (dk_at dksX3_hoursToChange_0 19 rfl rfl)
theorem dX3_hoursToChange_22 : decode cX3_hoursToChange 22 = .ok (.iconst 0, 1) := dk_3 (dk_at dksX3_hoursToChange_0 22 rfl rfl)
theorem dX3_hoursToChange_23 : decode cX3_hoursToChange 23 = .ok (.goto 4, 3) := dk_167 0 4 (dk_at dksX3_hoursToChange_1 0 rfl rfl)
theorem dX3_hoursToChange_26 : decode cX3_hoursToChange 26 = .ok (.iconst 2, 1) := dk_5 (dk_at dksX3_hoursToChange_1 3 rfl rfl)
theorem dX3_hoursToChange_27 : decode cX3_hoursToChange 27 = .ok (.invokevirtual 54, 3) := dk_182 0 54 (dk_at dksX3_hoursToChange_1 4 rfl rfl)
theorem dX3_hoursToChange_30 : decode cX3_hoursToChange 30 = .ok (.ifCond .eq 5, 3) := dk_153 0 5 (dk_at dksX3_hoursToChange_1 7 rfl rfl)
theorem dX3_hoursToChange_33 : decode cX3_hoursToChange 33 = .ok (.iconst 0, 1) := dk_3 (dk_at dksX3_hoursToChange_1 10 rfl rfl)
theorem dX3_hoursToChange_34 : decode cX3_hoursToChange 34 = .ok (.ireturn, 1) := dk_172 (dk_at dksX3_hoursToChange_1 11 rfl rfl)
theorem dX3_hoursToChange_35 : decode cX3_hoursToChange 35 = .ok (.aload_n 0, 1) := dk_42 (dk_at dksX3_hoursToChange_1 12 rfl rfl)
theorem dX3_hoursToChange_36 : decode cX3_hoursToChange 36 = .ok (.invokevirtual 182, 3) := dk_182 0 182 (dk_at dksX3_hoursToChange_1 13 rfl rfl)
theorem dX3_hoursToChange_39 : decode cX3_hoursToChange 39 = .ok (.iconst 1, 1) := dk_4 (dk_at dksX3_hoursToChange_1 16 rfl rfl)
theorem dX3_hoursToChange_40 : decode cX3_hoursToChange 40 = .ok (.istore_n 2, 1) := dk_61 (dk_at dksX3_hoursToChange_1 17 rfl rfl)
theorem dX3_hoursToChange_41 : decode cX3_hoursToChange 41 = .ok (.iload_n 2, 1) := dk_28 (dk_at dksX3_hoursToChange_1 18 rfl rfl)
theorem dX3_hoursToChange_42 : decode cX3_hoursToChange 42 = .ok (.aload_n 0, 1) := dk_42 (dk_at dksX3_hoursToChange_1 19 rfl rfl)
theorem dX3_hoursToChange_43 : decode cX3_hoursToChange 43 = .ok (.bipush 99, 2) := dk_16 99 (dk_at dksX3_hoursToChange_1 20 rfl rfl)
theorem dX3_hoursToChange_45 : decode cX3_hoursToChange 45 = .ok (.invokevirtual 228, 3) := dk_182 0 228 (dk_at dksX3_hoursToChange_2 0 rfl rfl)
theorem dX3_hoursToChange_48 : decode cX3_hoursToChange 48 = .ok (.if_icmp .gt 52, 3) := dk_163 0 52 (dk_at dksX3_hoursToChange_2 3 rfl rfl)
theorem dX3_hoursToChange_51 : decode cX3_hoursToChange 51 = .ok (.aload_n 0, 1) := dk_42 (dk_at dksX3_hoursToChange_2 6 rfl rfl)
theorem dX3_hoursToChange_52 : decode cX3_hoursToChange 52 = .ok (.sipush 287, 3) := dk_17 1 31 (dk_at dksX3_hoursToChange_2 7 rfl rfl)
theorem dX3_hoursToChange_55 : decode cX3_hoursToChange 55 = .ok (.invokevirtual 141, 3) := dk_182 0 141 (dk_at dksX3_hoursToChange_2 10 rfl rfl)
theorem dX3_hoursToChange_58 : decode cX3_hoursToChange 58 = .ok (.istore_n 3, 1) := dk_62 (dk_at dksX3_hoursToChange_2 13 rfl rfl)
theorem dX3_hoursToChange_59 : decode cX3_hoursToChange 59 = .ok (.iload_n 3, 1) := dk_29 (dk_at dksX3_hoursToChange_2 14 rfl rfl)
theorem dX3_hoursToChange_60 : decode cX3_hoursToChange 60 = .ok (.ifCond .lt 34, 3) := dk_155 0 34 (dk_at dksX3_hoursToChange_2 15 rfl rfl)
theorem dX3_hoursToChange_63 : decode cX3_hoursToChange 63 = .ok (.aload_n 0, 1) := dk_42 (dk_at dksX3_hoursToChange_2 18 rfl rfl)
theorem dX3_hoursToChange_64 : decode cX3_hoursToChange 64 = .ok (.getfield 7, 3) := dk_180 0 7 (dk_at dksX3_hoursToChange_2 19 rfl rfl)
theorem dX3_hoursToChange_67 : decode cX3_hoursToChange 67 = .ok (.sipush 287, 3) := dk_17 1 31 (dk_at dksX3_hoursToChange_3 0 rfl rfl)
theorem dX3_hoursToChange_70 : decode cX3_hoursToChange 70 = .ok (.iload_n 1, 1) := dk_27 (dk_at dksX3_hoursToChange_3 3 rfl rfl)
theorem dX3_hoursToChange_71 : decode cX3_hoursToChange 71 = .ok (.invokestatic 40, 3) := dk_184 0 40 (dk_at dksX3_hoursToChange_3 4 rfl rfl)
theorem dX3_hoursToChange_74 : decode cX3_hoursToChange 74 = .ok (.iconst 4, 1) := dk_7 (dk_at dksX3_hoursToChange_3 7 rfl rfl)
theorem dX3_hoursToChange_75 : decode cX3_hoursToChange 75 = .ok (.iadd, 1) := dk_96 (dk_at dksX3_hoursToChange_3 8 rfl rfl)
theorem dX3_hoursToChange_76 : decode cX3_hoursToChange 76 = .ok (.iaload, 1) := dk_46 (dk_at dksX3_hoursToChange_3 9 rfl rfl)
theorem dX3_hoursToChange_77 : decode cX3_hoursToChange 77 = .ok (.aload_n 0, 1) := dk_42 (dk_at dksX3_hoursToChange_3 10 rfl rfl)
theorem dX3_hoursToChange_78 : decode cX3_hoursToChange 78 = .ok (.getfield 7, 3) := dk_180 0 7 (dk_at dksX3_hoursToChange_3 11 rfl rfl)
theorem dX3_hoursToChange_81 : decode cX3_hoursToChange 81 = .ok (.iconst 0, 1) := dk_3 (dk_at dksX3_hoursToChange_3 14 rfl rfl)
theorem dX3_hoursToChange_82 : decode cX3_hoursToChange 82 = .ok (.iload_n 1, 1) := dk_27 (dk_at dksX3_hoursToChange_3 15 rfl rfl)
theorem dX3_hoursToChange_83 : decode cX3_hoursToChange 83 = .ok (.invokestatic 40, 3) := dk_184 0 40 (dk_at dksX3_hoursToChange_3 16 rfl rfl)
theorem dX3_hoursToChange_86 : decode cX3_hoursToChange 86 = .ok (.iconst 4, 1) := dk_7 (dk_at dksX3_hoursToChange_3 19 rfl rfl)
theorem dX3_hoursToChange_87 : decode cX3_hoursToChange 87 = .ok (.iadd, 1) := dk_96 (dk_at dksX3_hoursToChange_3 20 rfl rfl)
theorem dX3_hoursToChange_88 : decode cX3_hoursToChange 88 = .ok (.iaload, 1) := dk_46 (dk_at dksX3_hoursToChange_3 21 rfl rfl)
theorem dX3_hoursToChange_89 : decode cX3_hoursToChange 89 = .ok (.if_icmp .le 5, 3) := dk_164 0 5 (dk_at dksX3_hoursToChange_4 0 rfl rfl)
theorem dX3_hoursToChange_92 : decode cX3_hoursToChange 92 = .ok (.iload_n 2, 1) := dk_28 (dk_at dksX3_hoursToChange_4 3 rfl rfl)
theorem dX3_hoursToChange_93 : decode cX3_hoursToChange 93 = .ok (.ireturn, 1) := dk_172 (dk_at dksX3_hoursToChange_4 4 rfl rfl)
theorem dX3_hoursToChange_94 : decode cX3_hoursToChange 94 = .ok (.iinc 2 1, 3) := dk_132 2 1 (dk_at dksX3_hoursToChange_4 5 rfl rfl)
theorem dX3_hoursToChange_97 : decode cX3_hoursToChange 97 = .ok (.goto (-56), 3) := dk_167 255 200 (dk_at dksX3_hoursToChange_4 8 rfl rfl)
theorem dX3_hoursToChange_100 : decode cX3_hoursToChange 100 = .ok (.iconst (-1), 1) := dk_2 (dk_at dksX3_hoursToChange_4 11 rfl rfl)
theorem dX3_hoursToChange_101 : decode cX3_hoursToChange 101 = .ok (.ireturn, 1) := dk_172 (dk_at dksX3_hoursToChange_4 12 rfl rfl)
abbrev cX3_mildestPause : ByteArray := prog_11_method_122_code
def yX3_mildestPause : MethodName := ⟨RX3, "mildestPause", "()I"⟩
def dkwX3_mildestPause_3 : List UInt8 := [167, 0, 4, 28, 61, 132, 3, 1, 167, 255, 191, 27, 172]
abbrev dktX3_mildestPause_3 : List UInt8 := dkwX3_mildestPause_3 ++ []
def dkwX3_mildestPause_2 : List UInt8 := [153, 0, 9, 21, 4, 28, 162, 0, 7, 29, 167, 0, 4, 27, 60, 27, 29, 160, 0, 8, 21, 4]
abbrev dktX3_mildestPause_2 : List UInt8 := dkwX3_mildestPause_2 ++ dktX3_mildestPause_3
def dkwX3_mildestPause_1 : List UInt8 := [180, 0, 7, 17, 1, 35, 29, 79, 42, 17, 1, 31, 42, 16, 48, 182, 0, 228, 182, 0, 144, 54, 4, 27]
abbrev dktX3_mildestPause_1 : List UInt8 := dkwX3_mildestPause_1 ++ dktX3_mildestPause_2
def dkwX3_mildestPause_0 : List UInt8 := [42, 3, 181, 0, 22, 3, 60, 3, 61, 4, 62, 29, 16, 12, 163, 0, 65, 42, 182, 0, 182, 42]
abbrev dktX3_mildestPause_0 : List UInt8 := dkwX3_mildestPause_0 ++ dktX3_mildestPause_1
theorem dksX3_mildestPause_0 : cX3_mildestPause.data.toList.drop 0 = dktX3_mildestPause_0 := by decide +kernel
theorem dksX3_mildestPause_1 : cX3_mildestPause.data.toList.drop 22 = dktX3_mildestPause_1 := dk_seg dksX3_mildestPause_0 22 rfl rfl
theorem dksX3_mildestPause_2 : cX3_mildestPause.data.toList.drop 46 = dktX3_mildestPause_2 := dk_seg dksX3_mildestPause_1 24 rfl rfl
theorem dksX3_mildestPause_3 : cX3_mildestPause.data.toList.drop 68 = dktX3_mildestPause_3 := dk_seg dksX3_mildestPause_2 22 rfl rfl
theorem dX3_mildestPause_0 : decode cX3_mildestPause 0 = .ok (.aload_n 0, 1) := dk_42 (dk_at dksX3_mildestPause_0 0 rfl rfl)
theorem dX3_mildestPause_1 : decode cX3_mildestPause 1 = .ok (.iconst 0, 1) := dk_3 (dk_at dksX3_mildestPause_0 1 rfl rfl)
theorem dX3_mildestPause_2 : decode cX3_mildestPause 2 = .ok (.putfield 22, 3) := dk_181 0 22 (dk_at dksX3_mildestPause_0 2 rfl rfl)
theorem dX3_mildestPause_5 : decode cX3_mildestPause 5 = .ok (.iconst 0, 1) := dk_3 (dk_at dksX3_mildestPause_0 5 rfl rfl)
theorem dX3_mildestPause_6 : decode cX3_mildestPause 6 = .ok (.istore_n 1, 1) := dk_60 (dk_at dksX3_mildestPause_0 6 rfl rfl)
theorem dX3_mildestPause_7 : decode cX3_mildestPause 7 = .ok (.iconst 0, 1) := dk_3 (dk_at dksX3_mildestPause_0 7 rfl rfl)
theorem dX3_mildestPause_8 : decode cX3_mildestPause 8 = .ok (.istore_n 2, 1) := dk_61 (dk_at dksX3_mildestPause_0 8 rfl rfl)
theorem dX3_mildestPause_9 : decode cX3_mildestPause 9 = .ok (.iconst 1, 1) := dk_4 (dk_at dksX3_mildestPause_0 9 rfl rfl)
theorem dX3_mildestPause_10 : decode cX3_mildestPause 10 = .ok (.istore_n 3, 1) := dk_62 (dk_at dksX3_mildestPause_0 10 rfl rfl)
theorem dX3_mildestPause_11 : decode cX3_mildestPause 11 = .ok (.iload_n 3, 1) := dk_29 (dk_at dksX3_mildestPause_0 11 rfl rfl)
theorem dX3_mildestPause_12 : decode cX3_mildestPause 12 = .ok (.bipush 12, 2) := dk_16 12 (dk_at dksX3_mildestPause_0 12 rfl rfl)
theorem dX3_mildestPause_14 : decode cX3_mildestPause 14 = .ok (.if_icmp .gt 65, 3) := dk_163 0 65 (dk_at dksX3_mildestPause_0 14 rfl rfl)
theorem dX3_mildestPause_17 : decode cX3_mildestPause 17 = .ok (.aload_n 0, 1) := dk_42 (dk_at dksX3_mildestPause_0 17 rfl rfl)
theorem dX3_mildestPause_18 : decode cX3_mildestPause 18 = .ok (.invokevirtual 182, 3) := dk_182 0 182 (dk_at dksX3_mildestPause_0 18 rfl rfl)
theorem dX3_mildestPause_21 : decode cX3_mildestPause 21 = .ok (.aload_n 0, 1) := dk_42 (dk_at dksX3_mildestPause_0 21 rfl rfl)
theorem dX3_mildestPause_22 : decode cX3_mildestPause 22 = .ok (.getfield 7, 3) := dk_180 0 7 (dk_at dksX3_mildestPause_1 0 rfl rfl)
theorem dX3_mildestPause_25 : decode cX3_mildestPause 25 = .ok (.sipush 291, 3) := dk_17 1 35 (dk_at dksX3_mildestPause_1 3 rfl rfl)
theorem dX3_mildestPause_28 : decode cX3_mildestPause 28 = .ok (.iload_n 3, 1) := dk_29 (dk_at dksX3_mildestPause_1 6 rfl rfl)
theorem dX3_mildestPause_29 : decode cX3_mildestPause 29 = .ok (.iastore, 1) := dk_79 (dk_at dksX3_mildestPause_1 7 rfl rfl)
theorem dX3_mildestPause_30 : decode cX3_mildestPause 30 = .ok (.aload_n 0, 1) := dk_42 (dk_at dksX3_mildestPause_1 8 rfl rfl)
theorem dX3_mildestPause_31 : decode cX3_mildestPause 31 = .ok (.sipush 287, 3) := dk_17 1 31 (dk_at dksX3_mildestPause_1 9 rfl rfl)
theorem dX3_mildestPause_34 : decode cX3_mildestPause 34 = .ok (.aload_n 0, 1) := dk_42 (dk_at dksX3_mildestPause_1 12 rfl rfl)
theorem dX3_mildestPause_35 : decode cX3_mildestPause 35 = .ok (.bipush 48, 2) := dk_16 48 (dk_at dksX3_mildestPause_1 13 rfl rfl)
theorem dX3_mildestPause_37 : decode cX3_mildestPause 37 = .ok (.invokevirtual 228, 3) := dk_182 0 228 (dk_at dksX3_mildestPause_1 15 rfl rfl)
theorem dX3_mildestPause_40 : decode cX3_mildestPause 40 = .ok (.invokevirtual 144, 3) := dk_182 0 144 (dk_at dksX3_mildestPause_1 18 rfl rfl)
theorem dX3_mildestPause_43 : decode cX3_mildestPause 43 = .ok (.istore 4, 2) := dk_54 4 (dk_at dksX3_mildestPause_1 21 rfl rfl)
theorem dX3_mildestPause_45 : decode cX3_mildestPause 45 = .ok (.iload_n 1, 1) := dk_27 (dk_at dksX3_mildestPause_1 23 rfl rfl)
theorem dX3_mildestPause_46 : decode cX3_mildestPause 46 = .ok (.ifCond .eq 9, 3) := dk_153 0 9 (dk_at dksX3_mildestPause_2 0 rfl rfl)
theorem dX3_mildestPause_49 : decode cX3_mildestPause 49 = .ok (.iload 4, 2) := dk_21 4 (dk_at dksX3_mildestPause_2 3 rfl rfl)
theorem dX3_mildestPause_51 : decode cX3_mildestPause 51 = .ok (.iload_n 2, 1) := dk_28 (dk_at dksX3_mildestPause_2 5 rfl rfl)
theorem dX3_mildestPause_52 : decode cX3_mildestPause 52 = .ok (.if_icmp .ge 7, 3) := dk_162 0 7 (dk_at dksX3_mildestPause_2 6 rfl rfl)
theorem dX3_mildestPause_55 : decode cX3_mildestPause 55 = .ok (.iload_n 3, 1) := dk_29 (dk_at dksX3_mildestPause_2 9 rfl rfl)
theorem dX3_mildestPause_56 : decode cX3_mildestPause 56 = .ok (.goto 4, 3) := dk_167 0 4 (dk_at dksX3_mildestPause_2 10 rfl rfl)
theorem dX3_mildestPause_59 : decode cX3_mildestPause 59 = .ok (.iload_n 1, 1) := dk_27 (dk_at dksX3_mildestPause_2 13 rfl rfl)
theorem dX3_mildestPause_60 : decode cX3_mildestPause 60 = .ok (.istore_n 1, 1) := dk_60 (dk_at dksX3_mildestPause_2 14 rfl rfl)
theorem dX3_mildestPause_61 : decode cX3_mildestPause 61 = .ok (.iload_n 1, 1) := dk_27 (dk_at dksX3_mildestPause_2 15 rfl rfl)
theorem dX3_mildestPause_62 : decode cX3_mildestPause 62 = .ok (.iload_n 3, 1) := dk_29 (dk_at dksX3_mildestPause_2 16 rfl rfl)
theorem dX3_mildestPause_63 : decode cX3_mildestPause 63 = .ok (.if_icmp .ne 8, 3) := dk_160 0 8 (dk_at dksX3_mildestPause_2 17 rfl rfl)
theorem dX3_mildestPause_66 : decode cX3_mildestPause 66 = .ok (.iload 4, 2) := dk_21 4 (dk_at dksX3_mildestPause_2 20 rfl rfl)
theorem dX3_mildestPause_68 : decode cX3_mildestPause 68 = .ok (.goto 4, 3) := dk_167 0 4 (dk_at dksX3_mildestPause_3 0 rfl rfl)
theorem dX3_mildestPause_71 : decode cX3_mildestPause 71 = .ok (.iload_n 2, 1) := dk_28 (dk_at dksX3_mildestPause_3 3 rfl rfl)
theorem dX3_mildestPause_72 : decode cX3_mildestPause 72 = .ok (.istore_n 2, 1) := dk_61 (dk_at dksX3_mildestPause_3 4 rfl rfl)
theorem dX3_mildestPause_73 : decode cX3_mildestPause 73 = .ok (.iinc 3 1, 3) := dk_132 3 1 (dk_at dksX3_mildestPause_3 5 rfl rfl)
theorem dX3_mildestPause_76 : decode cX3_mildestPause 76 = .ok (.goto (-65), 3) := dk_167 255 191 (dk_at dksX3_mildestPause_3 8 rfl rfl)
theorem dX3_mildestPause_79 : decode cX3_mildestPause 79 = .ok (.iload_n 1, 1) := dk_27 (dk_at dksX3_mildestPause_3 11 rfl rfl)
theorem dX3_mildestPause_80 : decode cX3_mildestPause 80 = .ok (.ireturn, 1) := dk_172 (dk_at dksX3_mildestPause_3 12 rfl rfl)
abbrev cX3_recordedStates : ByteArray := prog_11_method_123_code
def yX3_recordedStates : MethodName := ⟨RX3, "recordedStates", "()I"⟩
def dkwX3_recordedStates_0 : List UInt8 := [42, 3, 181, 0, 22, 42, 180, 0, 30, 172]
abbrev dktX3_recordedStates_0 : List UInt8 := dkwX3_recordedStates_0 ++ []
theorem dksX3_recordedStates_0 : cX3_recordedStates.data.toList.drop 0 = dktX3_recordedStates_0 := by decide +kernel
theorem dX3_recordedStates_0 : decode cX3_recordedStates 0 = .ok (.aload_n 0, 1) := dk_42 (dk_at dksX3_recordedStates_0 0 rfl rfl)
theorem dX3_recordedStates_1 : decode cX3_recordedStates 1 = .ok (.iconst 0, 1) := dk_3 (dk_at dksX3_recordedStates_0 1 rfl rfl)
theorem dX3_recordedStates_2 : decode cX3_recordedStates 2 = .ok (.putfield 22, 3) := dk_181 0 22 (dk_at dksX3_recordedStates_0 2 rfl rfl)
theorem dX3_recordedStates_5 : decode cX3_recordedStates 5 = .ok (.aload_n 0, 1) := dk_42 (dk_at dksX3_recordedStates_0 5 rfl rfl)
theorem dX3_recordedStates_6 : decode cX3_recordedStates 6 = .ok (.getfield 30, 3) := dk_180 0 30 (dk_at dksX3_recordedStates_0 6 rfl rfl)
theorem dX3_recordedStates_9 : decode cX3_recordedStates 9 = .ok (.ireturn, 1) := dk_172 (dk_at dksX3_recordedStates_0 9 rfl rfl)
theorem q111 : (Jvm.Cond.initialized "ShorePoolsModel") ∈ lw_all := lw_g (lw_at lw_m1 10 rfl) rfl
theorem q914 : (Jvm.Cond.selects "ShorePoolsModel" ({ cls := "java/lang/Object", name := "getClass", desc := "()Ljava/lang/Class;" } : Jvm.MethodName) ({ cls := "java/lang/Object", name := "getClass", desc := "()Ljava/lang/Class;" } : Jvm.MethodName)) ∈ lw_all := lw_g (lw_at lw_m4 93 rfl) rfl
theorem q1737 : (Jvm.Cond.instantiable "ShorePoolsModel" (13 : Nat)) ∈ lw_all := lw_g (lw_at lw_m7 196 rfl) rfl
theorem q1739 : (Jvm.Cond.instanceMethod ({ cls := "ShorePoolsModel", name := "<init>", desc := "()V" } : Jvm.MethodName)) ∈ lw_all := lw_g (lw_at lw_m7 198 rfl) rfl
theorem q1740 : (Jvm.Cond.code ({ cls := "ShorePoolsModel", name := "<init>", desc := "()V" } : Jvm.MethodName) prog_11_method_1_code (2 : Nat) (Option.none : Option Jvm.ClassFile.FieldType)) ∈ lw_all := lw_g (lw_at lw_m7 199 rfl) rfl
theorem q1741 : (Jvm.Cond.methodLink "ShorePoolsModel" (1 : Nat) ({ cls := "java/lang/Object", name := "<init>", desc := "()V" } : Jvm.MethodName)) ∈ lw_all := lw_g (lw_at lw_m7 200 rfl) rfl
theorem q1742 : (Jvm.Cond.fieldLink "ShorePoolsModel" (7 : Nat) "ShorePoolsModel" "s" "[I") ∈ lw_all := lw_g (lw_at lw_m7 201 rfl) rfl
theorem q1743 : (Jvm.Cond.fieldLink "ShorePoolsModel" (13 : Nat) "ShorePoolsModel" "past" "[I") ∈ lw_all := lw_g (lw_at lw_m7 202 rfl) rfl
theorem q1744 : (Jvm.Cond.fieldLink "ShorePoolsModel" (30 : Nat) "ShorePoolsModel" "known" "I") ∈ lw_all := lw_g (lw_at lw_m7 203 rfl) rfl
theorem q1745 : (Jvm.Cond.fieldLink "ShorePoolsModel" (16 : Nat) "ShorePoolsModel" "kept" "[I") ∈ lw_all := lw_g (lw_at lw_m7 204 rfl) rfl
theorem q1746 : (Jvm.Cond.fieldLink "ShorePoolsModel" (194 : Nat) "ShorePoolsModel" "isKept" "Z") ∈ lw_all := lw_g (lw_at lw_m7 205 rfl) rfl
theorem q1747 : (Jvm.Cond.fieldLink "ShorePoolsModel" (19 : Nat) "ShorePoolsModel" "note" "[I") ∈ lw_all := lw_g (lw_at lw_m7 206 rfl) rfl
theorem q1748 : (Jvm.Cond.fieldLink "ShorePoolsModel" (147 : Nat) "ShorePoolsModel" "length" "I") ∈ lw_all := lw_g (lw_at lw_m7 207 rfl) rfl
theorem q1749 : (Jvm.Cond.fieldLink "ShorePoolsModel" (22 : Nat) "ShorePoolsModel" "thrown" "I") ∈ lw_all := lw_g (lw_at lw_m7 208 rfl) rfl
theorem q1750 : (Jvm.Cond.fieldLink "ShorePoolsModel" (150 : Nat) "ShorePoolsModel" "at" "I") ∈ lw_all := lw_g (lw_at lw_m7 209 rfl) rfl
theorem q1751 : (Jvm.Cond.fieldLink "ShorePoolsModel" (163 : Nat) "ShorePoolsModel" "order" "I") ∈ lw_all := lw_g (lw_at lw_m7 210 rfl) rfl
theorem q1752 : (Jvm.Cond.fieldLink "ShorePoolsModel" (153 : Nat) "ShorePoolsModel" "one" "I") ∈ lw_all := lw_g (lw_at lw_m7 211 rfl) rfl
theorem q1753 : (Jvm.Cond.fieldLink "ShorePoolsModel" (160 : Nat) "ShorePoolsModel" "other" "I") ∈ lw_all := lw_g (lw_at lw_m7 212 rfl) rfl
theorem q1754 : (Jvm.Cond.fieldLink "ShorePoolsModel" (185 : Nat) "ShorePoolsModel" "orders" "I") ∈ lw_all := lw_g (lw_at lw_m7 213 rfl) rfl
theorem q1755 : (Jvm.Cond.laysFinal "ShorePoolsModel" "ShorePoolsModel" "s" "[I") ∈ lw_all := lw_g (lw_at lw_m7 214 rfl) rfl
theorem q1756 : (Jvm.Cond.soleField "ShorePoolsModel" "s") ∈ lw_all := lw_g (lw_at lw_m7 215 rfl) rfl
theorem q1757 : (Jvm.Cond.laysFinal "ShorePoolsModel" "ShorePoolsModel" "past" "[I") ∈ lw_all := lw_g (lw_at lw_m7 216 rfl) rfl
theorem q1758 : (Jvm.Cond.soleField "ShorePoolsModel" "past") ∈ lw_all := lw_g (lw_at lw_m7 217 rfl) rfl
theorem q1759 : (Jvm.Cond.lays "ShorePoolsModel" "ShorePoolsModel" "known" "I") ∈ lw_all := lw_g (lw_at lw_m7 218 rfl) rfl
theorem q1760 : (Jvm.Cond.soleField "ShorePoolsModel" "known") ∈ lw_all := lw_g (lw_at lw_m7 219 rfl) rfl
theorem q1761 : (Jvm.Cond.laysFinal "ShorePoolsModel" "ShorePoolsModel" "kept" "[I") ∈ lw_all := lw_g (lw_at lw_m7 220 rfl) rfl
theorem q1762 : (Jvm.Cond.soleField "ShorePoolsModel" "kept") ∈ lw_all := lw_g (lw_at lw_m7 221 rfl) rfl
theorem q1763 : (Jvm.Cond.lays "ShorePoolsModel" "ShorePoolsModel" "isKept" "Z") ∈ lw_all := lw_g (lw_at lw_m7 222 rfl) rfl
theorem q1764 : (Jvm.Cond.soleField "ShorePoolsModel" "isKept") ∈ lw_all := lw_g (lw_at lw_m7 223 rfl) rfl
theorem q1765 : (Jvm.Cond.laysFinal "ShorePoolsModel" "ShorePoolsModel" "note" "[I") ∈ lw_all := lw_g (lw_at lw_m7 224 rfl) rfl
theorem q1766 : (Jvm.Cond.soleField "ShorePoolsModel" "note") ∈ lw_all := lw_g (lw_at lw_m7 225 rfl) rfl
theorem q1767 : (Jvm.Cond.lays "ShorePoolsModel" "ShorePoolsModel" "length" "I") ∈ lw_all := lw_g (lw_at lw_m7 226 rfl) rfl
theorem q1768 : (Jvm.Cond.soleField "ShorePoolsModel" "length") ∈ lw_all := lw_g (lw_at lw_m7 227 rfl) rfl
theorem q1769 : (Jvm.Cond.lays "ShorePoolsModel" "ShorePoolsModel" "thrown" "I") ∈ lw_all := lw_g (lw_at lw_m7 228 rfl) rfl
theorem q1770 : (Jvm.Cond.soleField "ShorePoolsModel" "thrown") ∈ lw_all := lw_g (lw_at lw_m7 229 rfl) rfl
theorem q1771 : (Jvm.Cond.lays "ShorePoolsModel" "ShorePoolsModel" "at" "I") ∈ lw_all := lw_g (lw_at lw_m7 230 rfl) rfl
theorem q1772 : (Jvm.Cond.soleField "ShorePoolsModel" "at") ∈ lw_all := lw_g (lw_at lw_m7 231 rfl) rfl
theorem q1773 : (Jvm.Cond.lays "ShorePoolsModel" "ShorePoolsModel" "order" "I") ∈ lw_all := lw_g (lw_at lw_m7 232 rfl) rfl
theorem q1774 : (Jvm.Cond.soleField "ShorePoolsModel" "order") ∈ lw_all := lw_g (lw_at lw_m7 233 rfl) rfl
theorem q1775 : (Jvm.Cond.lays "ShorePoolsModel" "ShorePoolsModel" "one" "I") ∈ lw_all := lw_g (lw_at lw_m7 234 rfl) rfl
theorem q1776 : (Jvm.Cond.soleField "ShorePoolsModel" "one") ∈ lw_all := lw_g (lw_at lw_m7 235 rfl) rfl
theorem q1777 : (Jvm.Cond.lays "ShorePoolsModel" "ShorePoolsModel" "other" "I") ∈ lw_all := lw_g (lw_at lw_m7 236 rfl) rfl
theorem q1778 : (Jvm.Cond.soleField "ShorePoolsModel" "other") ∈ lw_all := lw_g (lw_at lw_m7 237 rfl) rfl
theorem q1779 : (Jvm.Cond.lays "ShorePoolsModel" "ShorePoolsModel" "orders" "I") ∈ lw_all := lw_g (lw_at lw_m7 238 rfl) rfl
theorem q1780 : (Jvm.Cond.soleField "ShorePoolsModel" "orders") ∈ lw_all := lw_g (lw_at lw_m7 239 rfl) rfl
theorem q1781 : (Jvm.Cond.superclass "ShorePoolsModel" "java/lang/Object") ∈ lw_all := lw_g (lw_at lw_m8 0 rfl) rfl
theorem q1783 : (Jvm.Cond.instanceMethod ({ cls := "ShorePoolsModel", name := "thrown", desc := "()I" } : Jvm.MethodName)) ∈ lw_all := lw_g (lw_at lw_m8 2 rfl) rfl
theorem q1784 : (Jvm.Cond.selects "ShorePoolsModel" ({ cls := "ShorePoolsModel", name := "thrown", desc := "()I" } : Jvm.MethodName) ({ cls := "ShorePoolsModel", name := "thrown", desc := "()I" } : Jvm.MethodName)) ∈ lw_all := lw_g (lw_at lw_m8 3 rfl) rfl
theorem q1785 : (Jvm.Cond.code ({ cls := "ShorePoolsModel", name := "thrown", desc := "()I" } : Jvm.MethodName) prog_11_method_2_code (1 : Nat) (Option.some Jvm.ClassFile.FieldType.int)) ∈ lw_all := lw_g (lw_at lw_m8 4 rfl) rfl
theorem q1787 : (Jvm.Cond.instanceMethod ({ cls := "ShorePoolsModel", name := "addLimpet", desc := "(I)I" } : Jvm.MethodName)) ∈ lw_all := lw_g (lw_at lw_m8 6 rfl) rfl
theorem q1788 : (Jvm.Cond.selects "ShorePoolsModel" ({ cls := "ShorePoolsModel", name := "addLimpet", desc := "(I)I" } : Jvm.MethodName) ({ cls := "ShorePoolsModel", name := "addLimpet", desc := "(I)I" } : Jvm.MethodName)) ∈ lw_all := lw_g (lw_at lw_m8 7 rfl) rfl
theorem q1789 : (Jvm.Cond.code ({ cls := "ShorePoolsModel", name := "addLimpet", desc := "(I)I" } : Jvm.MethodName) prog_11_method_19_code (2 : Nat) (Option.some Jvm.ClassFile.FieldType.int)) ∈ lw_all := lw_g (lw_at lw_m8 8 rfl) rfl
theorem q1790 : (Jvm.Cond.methodLink "ShorePoolsModel" (50 : Nat) ({ cls := "ShorePoolsModel", name := "isPool", desc := "(I)Z" } : Jvm.MethodName)) ∈ lw_all := lw_g (lw_at lw_m8 9 rfl) rfl
theorem q1791 : (Jvm.Cond.static ({ cls := "ShorePoolsModel", name := "isPool", desc := "(I)Z" } : Jvm.MethodName)) ∈ lw_all := lw_g (lw_at lw_m8 10 rfl) rfl
theorem q1792 : (Jvm.Cond.code ({ cls := "ShorePoolsModel", name := "isPool", desc := "(I)Z" } : Jvm.MethodName) prog_11_method_5_code (1 : Nat) (Option.some Jvm.ClassFile.FieldType.boolean)) ∈ lw_all := lw_g (lw_at lw_m8 11 rfl) rfl
theorem q1793 : (Jvm.Cond.methodLink "ShorePoolsModel" (26 : Nat) ({ cls := "ShorePoolsModel", name := "in", desc := "(III)Z" } : Jvm.MethodName)) ∈ lw_all := lw_g (lw_at lw_m8 12 rfl) rfl
theorem q1794 : (Jvm.Cond.static ({ cls := "ShorePoolsModel", name := "in", desc := "(III)Z" } : Jvm.MethodName)) ∈ lw_all := lw_g (lw_at lw_m8 13 rfl) rfl
theorem q1795 : (Jvm.Cond.code ({ cls := "ShorePoolsModel", name := "in", desc := "(III)Z" } : Jvm.MethodName) prog_11_method_4_code (3 : Nat) (Option.some Jvm.ClassFile.FieldType.boolean)) ∈ lw_all := lw_g (lw_at lw_m8 14 rfl) rfl
theorem q1796 : (Jvm.Cond.methodLink "ShorePoolsModel" (54 : Nat) ({ cls := "ShorePoolsModel", name := "throwsAt", desc := "(I)Z" } : Jvm.MethodName)) ∈ lw_all := lw_g (lw_at lw_m8 15 rfl) rfl
theorem q1797 : (Jvm.Cond.privateMethod ({ cls := "ShorePoolsModel", name := "throwsAt", desc := "(I)Z" } : Jvm.MethodName)) ∈ lw_tbl := lw_at lw_m8 16 rfl
theorem q1798 : (Jvm.Cond.instanceMethod ({ cls := "ShorePoolsModel", name := "throwsAt", desc := "(I)Z" } : Jvm.MethodName)) ∈ lw_all := lw_g (lw_at lw_m8 17 rfl) rfl
theorem q1799 : (Jvm.Cond.code ({ cls := "ShorePoolsModel", name := "throwsAt", desc := "(I)Z" } : Jvm.MethodName) prog_11_method_3_code (2 : Nat) (Option.some Jvm.ClassFile.FieldType.boolean)) ∈ lw_all := lw_g (lw_at lw_m8 18 rfl) rfl
theorem q1800 : (Jvm.Cond.methodLink "ShorePoolsModel" (33 : Nat) ({ cls := "ShorePoolsModel", name := "records", desc := "()V" } : Jvm.MethodName)) ∈ lw_all := lw_g (lw_at lw_m8 19 rfl) rfl
theorem q1801 : (Jvm.Cond.privateMethod ({ cls := "ShorePoolsModel", name := "records", desc := "()V" } : Jvm.MethodName)) ∈ lw_tbl := lw_at lw_m8 20 rfl
theorem q1802 : (Jvm.Cond.instanceMethod ({ cls := "ShorePoolsModel", name := "records", desc := "()V" } : Jvm.MethodName)) ∈ lw_all := lw_g (lw_at lw_m8 21 rfl) rfl
theorem q1803 : (Jvm.Cond.code ({ cls := "ShorePoolsModel", name := "records", desc := "()V" } : Jvm.MethodName) prog_11_method_12_code (2 : Nat) (Option.none : Option Jvm.ClassFile.FieldType)) ∈ lw_all := lw_g (lw_at lw_m8 22 rfl) rfl
theorem q1804 : (Jvm.Cond.methodLink "ShorePoolsModel" (57 : Nat) ({ cls := "ShorePoolsModel", name := "comesLimpet", desc := "(II)Z" } : Jvm.MethodName)) ∈ lw_all := lw_g (lw_at lw_m8 23 rfl) rfl
theorem q1805 : (Jvm.Cond.privateMethod ({ cls := "ShorePoolsModel", name := "comesLimpet", desc := "(II)Z" } : Jvm.MethodName)) ∈ lw_tbl := lw_at lw_m8 24 rfl
theorem q1806 : (Jvm.Cond.instanceMethod ({ cls := "ShorePoolsModel", name := "comesLimpet", desc := "(II)Z" } : Jvm.MethodName)) ∈ lw_all := lw_g (lw_at lw_m8 25 rfl) rfl
theorem q1807 : (Jvm.Cond.code ({ cls := "ShorePoolsModel", name := "comesLimpet", desc := "(II)Z" } : Jvm.MethodName) prog_11_method_15_code (4 : Nat) (Option.some Jvm.ClassFile.FieldType.boolean)) ∈ lw_all := lw_g (lw_at lw_m8 26 rfl) rfl
theorem q1808 : (Jvm.Cond.methodLink "ShorePoolsModel" (36 : Nat) ({ cls := "ShorePoolsModel", name := "limpet", desc := "(II)I" } : Jvm.MethodName)) ∈ lw_all := lw_g (lw_at lw_m8 27 rfl) rfl
theorem q1809 : (Jvm.Cond.static ({ cls := "ShorePoolsModel", name := "limpet", desc := "(II)I" } : Jvm.MethodName)) ∈ lw_all := lw_g (lw_at lw_m8 28 rfl) rfl
theorem q1810 : (Jvm.Cond.code ({ cls := "ShorePoolsModel", name := "limpet", desc := "(II)I" } : Jvm.MethodName) prog_11_method_9_code (2 : Nat) (Option.some Jvm.ClassFile.FieldType.int)) ∈ lw_all := lw_g (lw_at lw_m8 29 rfl) rfl
theorem q1812 : (Jvm.Cond.instanceMethod ({ cls := "ShorePoolsModel", name := "addCrab", desc := "(II)I" } : Jvm.MethodName)) ∈ lw_all := lw_g (lw_at lw_m8 31 rfl) rfl
theorem q1813 : (Jvm.Cond.selects "ShorePoolsModel" ({ cls := "ShorePoolsModel", name := "addCrab", desc := "(II)I" } : Jvm.MethodName) ({ cls := "ShorePoolsModel", name := "addCrab", desc := "(II)I" } : Jvm.MethodName)) ∈ lw_all := lw_g (lw_at lw_m8 32 rfl) rfl
theorem q1814 : (Jvm.Cond.code ({ cls := "ShorePoolsModel", name := "addCrab", desc := "(II)I" } : Jvm.MethodName) prog_11_method_20_code (3 : Nat) (Option.some Jvm.ClassFile.FieldType.int)) ∈ lw_all := lw_g (lw_at lw_m8 33 rfl) rfl
theorem q1815 : (Jvm.Cond.methodLink "ShorePoolsModel" (61 : Nat) ({ cls := "ShorePoolsModel", name := "comesCrab", desc := "(III)Z" } : Jvm.MethodName)) ∈ lw_all := lw_g (lw_at lw_m8 34 rfl) rfl
theorem q1816 : (Jvm.Cond.privateMethod ({ cls := "ShorePoolsModel", name := "comesCrab", desc := "(III)Z" } : Jvm.MethodName)) ∈ lw_tbl := lw_at lw_m8 35 rfl
theorem q1817 : (Jvm.Cond.instanceMethod ({ cls := "ShorePoolsModel", name := "comesCrab", desc := "(III)Z" } : Jvm.MethodName)) ∈ lw_all := lw_g (lw_at lw_m8 36 rfl) rfl
theorem q1818 : (Jvm.Cond.code ({ cls := "ShorePoolsModel", name := "comesCrab", desc := "(III)Z" } : Jvm.MethodName) prog_11_method_16_code (5 : Nat) (Option.some Jvm.ClassFile.FieldType.boolean)) ∈ lw_all := lw_g (lw_at lw_m8 37 rfl) rfl
theorem q1819 : (Jvm.Cond.methodLink "ShorePoolsModel" (40 : Nat) ({ cls := "ShorePoolsModel", name := "crab", desc := "(II)I" } : Jvm.MethodName)) ∈ lw_all := lw_g (lw_at lw_m8 38 rfl) rfl
theorem q1820 : (Jvm.Cond.static ({ cls := "ShorePoolsModel", name := "crab", desc := "(II)I" } : Jvm.MethodName)) ∈ lw_all := lw_g (lw_at lw_m8 39 rfl) rfl
theorem q1821 : (Jvm.Cond.code ({ cls := "ShorePoolsModel", name := "crab", desc := "(II)I" } : Jvm.MethodName) prog_11_method_11_code (2 : Nat) (Option.some Jvm.ClassFile.FieldType.int)) ∈ lw_all := lw_g (lw_at lw_m8 40 rfl) rfl
theorem q1823 : (Jvm.Cond.instanceMethod ({ cls := "ShorePoolsModel", name := "addShell", desc := "(II)I" } : Jvm.MethodName)) ∈ lw_all := lw_g (lw_at lw_m8 42 rfl) rfl
theorem q1824 : (Jvm.Cond.selects "ShorePoolsModel" ({ cls := "ShorePoolsModel", name := "addShell", desc := "(II)I" } : Jvm.MethodName) ({ cls := "ShorePoolsModel", name := "addShell", desc := "(II)I" } : Jvm.MethodName)) ∈ lw_all := lw_g (lw_at lw_m8 43 rfl) rfl
theorem q1825 : (Jvm.Cond.code ({ cls := "ShorePoolsModel", name := "addShell", desc := "(II)I" } : Jvm.MethodName) prog_11_method_21_code (3 : Nat) (Option.some Jvm.ClassFile.FieldType.int)) ∈ lw_all := lw_g (lw_at lw_m8 44 rfl) rfl
theorem q1826 : (Jvm.Cond.methodLink "ShorePoolsModel" (64 : Nat) ({ cls := "ShorePoolsModel", name := "comesShell", desc := "(III)Z" } : Jvm.MethodName)) ∈ lw_all := lw_g (lw_at lw_m8 45 rfl) rfl
theorem q1827 : (Jvm.Cond.privateMethod ({ cls := "ShorePoolsModel", name := "comesShell", desc := "(III)Z" } : Jvm.MethodName)) ∈ lw_tbl := lw_at lw_m8 46 rfl
theorem q1828 : (Jvm.Cond.instanceMethod ({ cls := "ShorePoolsModel", name := "comesShell", desc := "(III)Z" } : Jvm.MethodName)) ∈ lw_all := lw_g (lw_at lw_m8 47 rfl) rfl
theorem q1829 : (Jvm.Cond.code ({ cls := "ShorePoolsModel", name := "comesShell", desc := "(III)Z" } : Jvm.MethodName) prog_11_method_18_code (5 : Nat) (Option.some Jvm.ClassFile.FieldType.boolean)) ∈ lw_all := lw_g (lw_at lw_m8 48 rfl) rfl
theorem q1830 : (Jvm.Cond.methodLink "ShorePoolsModel" (46 : Nat) ({ cls := "ShorePoolsModel", name := "laysShell", desc := "(III)V" } : Jvm.MethodName)) ∈ lw_all := lw_g (lw_at lw_m8 49 rfl) rfl
theorem q1831 : (Jvm.Cond.privateMethod ({ cls := "ShorePoolsModel", name := "laysShell", desc := "(III)V" } : Jvm.MethodName)) ∈ lw_tbl := lw_at lw_m8 50 rfl
theorem q1832 : (Jvm.Cond.instanceMethod ({ cls := "ShorePoolsModel", name := "laysShell", desc := "(III)V" } : Jvm.MethodName)) ∈ lw_all := lw_g (lw_at lw_m8 51 rfl) rfl
theorem q1833 : (Jvm.Cond.code ({ cls := "ShorePoolsModel", name := "laysShell", desc := "(III)V" } : Jvm.MethodName) prog_11_method_17_code (5 : Nat) (Option.none : Option Jvm.ClassFile.FieldType)) ∈ lw_all := lw_g (lw_at lw_m8 52 rfl) rfl
theorem q1834 : (Jvm.Cond.methodLink "ShorePoolsModel" (43 : Nat) ({ cls := "ShorePoolsModel", name := "shell", desc := "(II)I" } : Jvm.MethodName)) ∈ lw_all := lw_g (lw_at lw_m8 53 rfl) rfl
theorem q1835 : (Jvm.Cond.static ({ cls := "ShorePoolsModel", name := "shell", desc := "(II)I" } : Jvm.MethodName)) ∈ lw_all := lw_g (lw_at lw_m8 54 rfl) rfl
theorem q1836 : (Jvm.Cond.code ({ cls := "ShorePoolsModel", name := "shell", desc := "(II)I" } : Jvm.MethodName) prog_11_method_10_code (2 : Nat) (Option.some Jvm.ClassFile.FieldType.int)) ∈ lw_all := lw_g (lw_at lw_m8 55 rfl) rfl
theorem q1838 : (Jvm.Cond.instanceMethod ({ cls := "ShorePoolsModel", name := "carryShell", desc := "(II)I" } : Jvm.MethodName)) ∈ lw_all := lw_g (lw_at lw_m8 57 rfl) rfl
theorem q1839 : (Jvm.Cond.selects "ShorePoolsModel" ({ cls := "ShorePoolsModel", name := "carryShell", desc := "(II)I" } : Jvm.MethodName) ({ cls := "ShorePoolsModel", name := "carryShell", desc := "(II)I" } : Jvm.MethodName)) ∈ lw_all := lw_g (lw_at lw_m8 58 rfl) rfl
theorem q1840 : (Jvm.Cond.code ({ cls := "ShorePoolsModel", name := "carryShell", desc := "(II)I" } : Jvm.MethodName) prog_11_method_22_code (4 : Nat) (Option.some Jvm.ClassFile.FieldType.int)) ∈ lw_all := lw_g (lw_at lw_m8 59 rfl) rfl
theorem q1841 : (Jvm.Cond.methodLink "ShorePoolsModel" (67 : Nat) ({ cls := "ShorePoolsModel", name := "isShell", desc := "(I)Z" } : Jvm.MethodName)) ∈ lw_all := lw_g (lw_at lw_m8 60 rfl) rfl
theorem q1842 : (Jvm.Cond.privateMethod ({ cls := "ShorePoolsModel", name := "isShell", desc := "(I)Z" } : Jvm.MethodName)) ∈ lw_tbl := lw_at lw_m8 61 rfl
theorem q1843 : (Jvm.Cond.instanceMethod ({ cls := "ShorePoolsModel", name := "isShell", desc := "(I)Z" } : Jvm.MethodName)) ∈ lw_all := lw_g (lw_at lw_m8 62 rfl) rfl
theorem q1844 : (Jvm.Cond.code ({ cls := "ShorePoolsModel", name := "isShell", desc := "(I)Z" } : Jvm.MethodName) prog_11_method_7_code (2 : Nat) (Option.some Jvm.ClassFile.FieldType.boolean)) ∈ lw_all := lw_g (lw_at lw_m8 63 rfl) rfl
theorem q1845 : (Jvm.Cond.methodLink "ShorePoolsModel" (70 : Nat) ({ cls := "ShorePoolsModel", name := "sets", desc := "(II)I" } : Jvm.MethodName)) ∈ lw_all := lw_g (lw_at lw_m8 64 rfl) rfl
theorem q1846 : (Jvm.Cond.privateMethod ({ cls := "ShorePoolsModel", name := "sets", desc := "(II)I" } : Jvm.MethodName)) ∈ lw_tbl := lw_at lw_m8 65 rfl
theorem q1847 : (Jvm.Cond.instanceMethod ({ cls := "ShorePoolsModel", name := "sets", desc := "(II)I" } : Jvm.MethodName)) ∈ lw_all := lw_g (lw_at lw_m8 66 rfl) rfl
theorem q1848 : (Jvm.Cond.code ({ cls := "ShorePoolsModel", name := "sets", desc := "(II)I" } : Jvm.MethodName) prog_11_method_14_code (4 : Nat) (Option.some Jvm.ClassFile.FieldType.int)) ∈ lw_all := lw_g (lw_at lw_m8 67 rfl) rfl
theorem q1850 : (Jvm.Cond.instanceMethod ({ cls := "ShorePoolsModel", name := "setHeight", desc := "(II)I" } : Jvm.MethodName)) ∈ lw_all := lw_g (lw_at lw_m8 69 rfl) rfl
theorem q1851 : (Jvm.Cond.selects "ShorePoolsModel" ({ cls := "ShorePoolsModel", name := "setHeight", desc := "(II)I" } : Jvm.MethodName) ({ cls := "ShorePoolsModel", name := "setHeight", desc := "(II)I" } : Jvm.MethodName)) ∈ lw_all := lw_g (lw_at lw_m8 70 rfl) rfl
theorem q1852 : (Jvm.Cond.code ({ cls := "ShorePoolsModel", name := "setHeight", desc := "(II)I" } : Jvm.MethodName) prog_11_method_23_code (3 : Nat) (Option.some Jvm.ClassFile.FieldType.int)) ∈ lw_all := lw_g (lw_at lw_m8 71 rfl) rfl
theorem q1854 : (Jvm.Cond.instanceMethod ({ cls := "ShorePoolsModel", name := "setTide", desc := "(II)I" } : Jvm.MethodName)) ∈ lw_all := lw_g (lw_at lw_m8 73 rfl) rfl
theorem q1855 : (Jvm.Cond.selects "ShorePoolsModel" ({ cls := "ShorePoolsModel", name := "setTide", desc := "(II)I" } : Jvm.MethodName) ({ cls := "ShorePoolsModel", name := "setTide", desc := "(II)I" } : Jvm.MethodName)) ∈ lw_all := lw_g (lw_at lw_m8 74 rfl) rfl
theorem q1856 : (Jvm.Cond.code ({ cls := "ShorePoolsModel", name := "setTide", desc := "(II)I" } : Jvm.MethodName) prog_11_method_24_code (3 : Nat) (Option.some Jvm.ClassFile.FieldType.int)) ∈ lw_all := lw_g (lw_at lw_m8 75 rfl) rfl
theorem q1857 : (Jvm.Cond.methodLink "ShorePoolsModel" (73 : Nat) ({ cls := "ShorePoolsModel", name := "tideOf", desc := "(II)I" } : Jvm.MethodName)) ∈ lw_all := lw_g (lw_at lw_m8 76 rfl) rfl
theorem q1858 : (Jvm.Cond.privateMethod ({ cls := "ShorePoolsModel", name := "tideOf", desc := "(II)I" } : Jvm.MethodName)) ∈ lw_tbl := lw_at lw_m8 77 rfl
theorem q1859 : (Jvm.Cond.instanceMethod ({ cls := "ShorePoolsModel", name := "tideOf", desc := "(II)I" } : Jvm.MethodName)) ∈ lw_all := lw_g (lw_at lw_m8 78 rfl) rfl
theorem q1860 : (Jvm.Cond.code ({ cls := "ShorePoolsModel", name := "tideOf", desc := "(II)I" } : Jvm.MethodName) prog_11_method_27_code (5 : Nat) (Option.some Jvm.ClassFile.FieldType.int)) ∈ lw_all := lw_g (lw_at lw_m8 79 rfl) rfl
theorem q1862 : (Jvm.Cond.instanceMethod ({ cls := "ShorePoolsModel", name := "setHeat", desc := "(I)I" } : Jvm.MethodName)) ∈ lw_all := lw_g (lw_at lw_m8 81 rfl) rfl
theorem q1863 : (Jvm.Cond.selects "ShorePoolsModel" ({ cls := "ShorePoolsModel", name := "setHeat", desc := "(I)I" } : Jvm.MethodName) ({ cls := "ShorePoolsModel", name := "setHeat", desc := "(I)I" } : Jvm.MethodName)) ∈ lw_all := lw_g (lw_at lw_m8 82 rfl) rfl
theorem q1864 : (Jvm.Cond.code ({ cls := "ShorePoolsModel", name := "setHeat", desc := "(I)I" } : Jvm.MethodName) prog_11_method_25_code (2 : Nat) (Option.some Jvm.ClassFile.FieldType.int)) ∈ lw_all := lw_g (lw_at lw_m8 83 rfl) rfl
theorem q1866 : (Jvm.Cond.instanceMethod ({ cls := "ShorePoolsModel", name := "setPause", desc := "(I)I" } : Jvm.MethodName)) ∈ lw_all := lw_g (lw_at lw_m8 85 rfl) rfl
theorem q1867 : (Jvm.Cond.selects "ShorePoolsModel" ({ cls := "ShorePoolsModel", name := "setPause", desc := "(I)I" } : Jvm.MethodName) ({ cls := "ShorePoolsModel", name := "setPause", desc := "(I)I" } : Jvm.MethodName)) ∈ lw_all := lw_g (lw_at lw_m8 86 rfl) rfl
theorem q1868 : (Jvm.Cond.code ({ cls := "ShorePoolsModel", name := "setPause", desc := "(I)I" } : Jvm.MethodName) prog_11_method_26_code (2 : Nat) (Option.some Jvm.ClassFile.FieldType.int)) ∈ lw_all := lw_g (lw_at lw_m8 87 rfl) rfl
theorem q1870 : (Jvm.Cond.instanceMethod ({ cls := "ShorePoolsModel", name := "pass", desc := "(I)I" } : Jvm.MethodName)) ∈ lw_all := lw_g (lw_at lw_m8 89 rfl) rfl
theorem q1871 : (Jvm.Cond.selects "ShorePoolsModel" ({ cls := "ShorePoolsModel", name := "pass", desc := "(I)I" } : Jvm.MethodName) ({ cls := "ShorePoolsModel", name := "pass", desc := "(I)I" } : Jvm.MethodName)) ∈ lw_all := lw_g (lw_at lw_m8 90 rfl) rfl
theorem q1872 : (Jvm.Cond.code ({ cls := "ShorePoolsModel", name := "pass", desc := "(I)I" } : Jvm.MethodName) prog_11_method_50_code (2 : Nat) (Option.some Jvm.ClassFile.FieldType.int)) ∈ lw_all := lw_g (lw_at lw_m8 91 rfl) rfl
theorem q1873 : (Jvm.Cond.methodLink "ShorePoolsModel" (144 : Nat) ({ cls := "ShorePoolsModel", name := "passes", desc := "(II)I" } : Jvm.MethodName)) ∈ lw_all := lw_g (lw_at lw_m8 92 rfl) rfl
theorem q1874 : (Jvm.Cond.privateMethod ({ cls := "ShorePoolsModel", name := "passes", desc := "(II)I" } : Jvm.MethodName)) ∈ lw_tbl := lw_at lw_m8 93 rfl
theorem q1875 : (Jvm.Cond.instanceMethod ({ cls := "ShorePoolsModel", name := "passes", desc := "(II)I" } : Jvm.MethodName)) ∈ lw_all := lw_g (lw_at lw_m8 94 rfl) rfl
theorem q1876 : (Jvm.Cond.code ({ cls := "ShorePoolsModel", name := "passes", desc := "(II)I" } : Jvm.MethodName) prog_11_method_49_code (5 : Nat) (Option.some Jvm.ClassFile.FieldType.int)) ∈ lw_all := lw_g (lw_at lw_m8 95 rfl) rfl
theorem q1877 : (Jvm.Cond.methodLink "ShorePoolsModel" (141 : Nat) ({ cls := "ShorePoolsModel", name := "hour", desc := "(I)I" } : Jvm.MethodName)) ∈ lw_all := lw_g (lw_at lw_m8 96 rfl) rfl
theorem q1878 : (Jvm.Cond.privateMethod ({ cls := "ShorePoolsModel", name := "hour", desc := "(I)I" } : Jvm.MethodName)) ∈ lw_tbl := lw_at lw_m8 97 rfl
theorem q1879 : (Jvm.Cond.instanceMethod ({ cls := "ShorePoolsModel", name := "hour", desc := "(I)I" } : Jvm.MethodName)) ∈ lw_all := lw_g (lw_at lw_m8 98 rfl) rfl
theorem q1880 : (Jvm.Cond.code ({ cls := "ShorePoolsModel", name := "hour", desc := "(I)I" } : Jvm.MethodName) prog_11_method_48_code (4 : Nat) (Option.some Jvm.ClassFile.FieldType.int)) ∈ lw_all := lw_g (lw_at lw_m8 99 rfl) rfl
theorem q1881 : (Jvm.Cond.methodLink "ShorePoolsModel" (119 : Nat) ({ cls := "ShorePoolsModel", name := "warms", desc := "(I)V" } : Jvm.MethodName)) ∈ lw_all := lw_g (lw_at lw_m8 100 rfl) rfl
theorem q1882 : (Jvm.Cond.privateMethod ({ cls := "ShorePoolsModel", name := "warms", desc := "(I)V" } : Jvm.MethodName)) ∈ lw_tbl := lw_at lw_m8 101 rfl
theorem q1883 : (Jvm.Cond.instanceMethod ({ cls := "ShorePoolsModel", name := "warms", desc := "(I)V" } : Jvm.MethodName)) ∈ lw_all := lw_g (lw_at lw_m8 102 rfl) rfl
theorem q1884 : (Jvm.Cond.code ({ cls := "ShorePoolsModel", name := "warms", desc := "(I)V" } : Jvm.MethodName) prog_11_method_34_code (6 : Nat) (Option.none : Option Jvm.ClassFile.FieldType)) ∈ lw_all := lw_g (lw_at lw_m8 103 rfl) rfl
theorem q1885 : (Jvm.Cond.methodLink "ShorePoolsModel" (83 : Nat) ({ cls := "ShorePoolsModel", name := "isWet", desc := "(II)Z" } : Jvm.MethodName)) ∈ lw_all := lw_g (lw_at lw_m8 104 rfl) rfl
theorem q1886 : (Jvm.Cond.privateMethod ({ cls := "ShorePoolsModel", name := "isWet", desc := "(II)Z" } : Jvm.MethodName)) ∈ lw_tbl := lw_at lw_m8 105 rfl
theorem q1887 : (Jvm.Cond.instanceMethod ({ cls := "ShorePoolsModel", name := "isWet", desc := "(II)Z" } : Jvm.MethodName)) ∈ lw_all := lw_g (lw_at lw_m8 106 rfl) rfl
theorem q1888 : (Jvm.Cond.code ({ cls := "ShorePoolsModel", name := "isWet", desc := "(II)Z" } : Jvm.MethodName) prog_11_method_28_code (3 : Nat) (Option.some Jvm.ClassFile.FieldType.boolean)) ∈ lw_all := lw_g (lw_at lw_m8 107 rfl) rfl
theorem q1889 : (Jvm.Cond.methodLink "ShorePoolsModel" (123 : Nat) ({ cls := "ShorePoolsModel", name := "grazes", desc := "(I)I" } : Jvm.MethodName)) ∈ lw_all := lw_g (lw_at lw_m8 108 rfl) rfl
theorem q1890 : (Jvm.Cond.privateMethod ({ cls := "ShorePoolsModel", name := "grazes", desc := "(I)I" } : Jvm.MethodName)) ∈ lw_tbl := lw_at lw_m8 109 rfl
theorem q1891 : (Jvm.Cond.instanceMethod ({ cls := "ShorePoolsModel", name := "grazes", desc := "(I)I" } : Jvm.MethodName)) ∈ lw_all := lw_g (lw_at lw_m8 110 rfl) rfl
theorem q1892 : (Jvm.Cond.code ({ cls := "ShorePoolsModel", name := "grazes", desc := "(I)I" } : Jvm.MethodName) prog_11_method_37_code (5 : Nat) (Option.some Jvm.ClassFile.FieldType.int)) ∈ lw_all := lw_g (lw_at lw_m8 111 rfl) rfl
theorem q1893 : (Jvm.Cond.methodLink "ShorePoolsModel" (86 : Nat) ({ cls := "ShorePoolsModel", name := "feeds", desc := "(II)V" } : Jvm.MethodName)) ∈ lw_all := lw_g (lw_at lw_m8 112 rfl) rfl
theorem q1894 : (Jvm.Cond.privateMethod ({ cls := "ShorePoolsModel", name := "feeds", desc := "(II)V" } : Jvm.MethodName)) ∈ lw_tbl := lw_at lw_m8 113 rfl
theorem q1895 : (Jvm.Cond.instanceMethod ({ cls := "ShorePoolsModel", name := "feeds", desc := "(II)V" } : Jvm.MethodName)) ∈ lw_all := lw_g (lw_at lw_m8 114 rfl) rfl
theorem q1896 : (Jvm.Cond.code ({ cls := "ShorePoolsModel", name := "feeds", desc := "(II)V" } : Jvm.MethodName) prog_11_method_35_code (5 : Nat) (Option.none : Option Jvm.ClassFile.FieldType)) ∈ lw_all := lw_g (lw_at lw_m8 115 rfl) rfl
theorem q1897 : (Jvm.Cond.methodLink "ShorePoolsModel" (90 : Nat) ({ cls := "ShorePoolsModel", name := "dries", desc := "(II)V" } : Jvm.MethodName)) ∈ lw_all := lw_g (lw_at lw_m8 116 rfl) rfl
theorem q1898 : (Jvm.Cond.privateMethod ({ cls := "ShorePoolsModel", name := "dries", desc := "(II)V" } : Jvm.MethodName)) ∈ lw_tbl := lw_at lw_m8 117 rfl
theorem q1899 : (Jvm.Cond.instanceMethod ({ cls := "ShorePoolsModel", name := "dries", desc := "(II)V" } : Jvm.MethodName)) ∈ lw_all := lw_g (lw_at lw_m8 118 rfl) rfl
theorem q1900 : (Jvm.Cond.code ({ cls := "ShorePoolsModel", name := "dries", desc := "(II)V" } : Jvm.MethodName) prog_11_method_36_code (3 : Nat) (Option.none : Option Jvm.ClassFile.FieldType)) ∈ lw_all := lw_g (lw_at lw_m8 119 rfl) rfl
theorem q1901 : (Jvm.Cond.methodLink "ShorePoolsModel" (126 : Nat) ({ cls := "ShorePoolsModel", name := "wanders", desc := "(I)V" } : Jvm.MethodName)) ∈ lw_all := lw_g (lw_at lw_m8 120 rfl) rfl
theorem q1902 : (Jvm.Cond.privateMethod ({ cls := "ShorePoolsModel", name := "wanders", desc := "(I)V" } : Jvm.MethodName)) ∈ lw_tbl := lw_at lw_m8 121 rfl
theorem q1903 : (Jvm.Cond.instanceMethod ({ cls := "ShorePoolsModel", name := "wanders", desc := "(I)V" } : Jvm.MethodName)) ∈ lw_all := lw_g (lw_at lw_m8 122 rfl) rfl
theorem q1904 : (Jvm.Cond.code ({ cls := "ShorePoolsModel", name := "wanders", desc := "(I)V" } : Jvm.MethodName) prog_11_method_39_code (6 : Nat) (Option.none : Option Jvm.ClassFile.FieldType)) ∈ lw_all := lw_g (lw_at lw_m8 123 rfl) rfl
theorem q1905 : (Jvm.Cond.methodLink "ShorePoolsModel" (96 : Nat) ({ cls := "ShorePoolsModel", name := "lives", desc := "(II)Z" } : Jvm.MethodName)) ∈ lw_all := lw_g (lw_at lw_m8 124 rfl) rfl
theorem q1906 : (Jvm.Cond.privateMethod ({ cls := "ShorePoolsModel", name := "lives", desc := "(II)Z" } : Jvm.MethodName)) ∈ lw_tbl := lw_at lw_m8 125 rfl
theorem q1907 : (Jvm.Cond.instanceMethod ({ cls := "ShorePoolsModel", name := "lives", desc := "(II)Z" } : Jvm.MethodName)) ∈ lw_all := lw_g (lw_at lw_m8 126 rfl) rfl
theorem q1908 : (Jvm.Cond.code ({ cls := "ShorePoolsModel", name := "lives", desc := "(II)Z" } : Jvm.MethodName) prog_11_method_32_code (3 : Nat) (Option.some Jvm.ClassFile.FieldType.boolean)) ∈ lw_all := lw_g (lw_at lw_m8 127 rfl) rfl
theorem q1909 : (Jvm.Cond.methodLink "ShorePoolsModel" (99 : Nat) ({ cls := "ShorePoolsModel", name := "isTight", desc := "(II)Z" } : Jvm.MethodName)) ∈ lw_all := lw_g (lw_at lw_m8 128 rfl) rfl
theorem q1910 : (Jvm.Cond.privateMethod ({ cls := "ShorePoolsModel", name := "isTight", desc := "(II)Z" } : Jvm.MethodName)) ∈ lw_tbl := lw_at lw_m8 129 rfl
theorem q1911 : (Jvm.Cond.instanceMethod ({ cls := "ShorePoolsModel", name := "isTight", desc := "(II)Z" } : Jvm.MethodName)) ∈ lw_all := lw_g (lw_at lw_m8 130 rfl) rfl
theorem q1912 : (Jvm.Cond.code ({ cls := "ShorePoolsModel", name := "isTight", desc := "(II)Z" } : Jvm.MethodName) prog_11_method_31_code (4 : Nat) (Option.some Jvm.ClassFile.FieldType.boolean)) ∈ lw_all := lw_g (lw_at lw_m8 131 rfl) rfl
theorem q1913 : (Jvm.Cond.methodLink "ShorePoolsModel" (102 : Nat) ({ cls := "ShorePoolsModel", name := "wayOf", desc := "(II)I" } : Jvm.MethodName)) ∈ lw_all := lw_g (lw_at lw_m8 132 rfl) rfl
theorem q1914 : (Jvm.Cond.privateMethod ({ cls := "ShorePoolsModel", name := "wayOf", desc := "(II)I" } : Jvm.MethodName)) ∈ lw_tbl := lw_at lw_m8 133 rfl
theorem q1915 : (Jvm.Cond.instanceMethod ({ cls := "ShorePoolsModel", name := "wayOf", desc := "(II)I" } : Jvm.MethodName)) ∈ lw_all := lw_g (lw_at lw_m8 134 rfl) rfl
theorem q1916 : (Jvm.Cond.code ({ cls := "ShorePoolsModel", name := "wayOf", desc := "(II)I" } : Jvm.MethodName) prog_11_method_38_code (9 : Nat) (Option.some Jvm.ClassFile.FieldType.int)) ∈ lw_all := lw_g (lw_at lw_m8 135 rfl) rfl
theorem q1917 : (Jvm.Cond.methodLink "ShorePoolsModel" (80 : Nat) ({ cls := "ShorePoolsModel", name := "worn", desc := "(II)I" } : Jvm.MethodName)) ∈ lw_all := lw_g (lw_at lw_m8 136 rfl) rfl
theorem q1918 : (Jvm.Cond.privateMethod ({ cls := "ShorePoolsModel", name := "worn", desc := "(II)I" } : Jvm.MethodName)) ∈ lw_tbl := lw_at lw_m8 137 rfl
theorem q1919 : (Jvm.Cond.instanceMethod ({ cls := "ShorePoolsModel", name := "worn", desc := "(II)I" } : Jvm.MethodName)) ∈ lw_all := lw_g (lw_at lw_m8 138 rfl) rfl
theorem q1920 : (Jvm.Cond.code ({ cls := "ShorePoolsModel", name := "worn", desc := "(II)I" } : Jvm.MethodName) prog_11_method_30_code (4 : Nat) (Option.some Jvm.ClassFile.FieldType.int)) ∈ lw_all := lw_g (lw_at lw_m8 139 rfl) rfl
theorem q1921 : (Jvm.Cond.methodLink "ShorePoolsModel" (76 : Nat) ({ cls := "ShorePoolsModel", name := "worthOf", desc := "(III)I" } : Jvm.MethodName)) ∈ lw_all := lw_g (lw_at lw_m8 140 rfl) rfl
theorem q1922 : (Jvm.Cond.privateMethod ({ cls := "ShorePoolsModel", name := "worthOf", desc := "(III)I" } : Jvm.MethodName)) ∈ lw_tbl := lw_at lw_m8 141 rfl
theorem q1923 : (Jvm.Cond.instanceMethod ({ cls := "ShorePoolsModel", name := "worthOf", desc := "(III)I" } : Jvm.MethodName)) ∈ lw_all := lw_g (lw_at lw_m8 142 rfl) rfl
theorem q1924 : (Jvm.Cond.code ({ cls := "ShorePoolsModel", name := "worthOf", desc := "(III)I" } : Jvm.MethodName) prog_11_method_29_code (6 : Nat) (Option.some Jvm.ClassFile.FieldType.int)) ∈ lw_all := lw_g (lw_at lw_m8 143 rfl) rfl
theorem q1925 : (Jvm.Cond.methodLink "ShorePoolsModel" (93 : Nat) ({ cls := "ShorePoolsModel", name := "better", desc := "(III)I" } : Jvm.MethodName)) ∈ lw_all := lw_g (lw_at lw_m8 144 rfl) rfl
theorem q1926 : (Jvm.Cond.privateMethod ({ cls := "ShorePoolsModel", name := "better", desc := "(III)I" } : Jvm.MethodName)) ∈ lw_tbl := lw_at lw_m8 145 rfl
theorem q1927 : (Jvm.Cond.instanceMethod ({ cls := "ShorePoolsModel", name := "better", desc := "(III)I" } : Jvm.MethodName)) ∈ lw_all := lw_g (lw_at lw_m8 146 rfl) rfl
theorem q1928 : (Jvm.Cond.code ({ cls := "ShorePoolsModel", name := "better", desc := "(III)I" } : Jvm.MethodName) prog_11_method_33_code (9 : Nat) (Option.some Jvm.ClassFile.FieldType.int)) ∈ lw_all := lw_g (lw_at lw_m8 147 rfl) rfl
theorem q1929 : (Jvm.Cond.methodLink "ShorePoolsModel" (129 : Nat) ({ cls := "ShorePoolsModel", name := "changes", desc := "(I)I" } : Jvm.MethodName)) ∈ lw_all := lw_g (lw_at lw_m8 148 rfl) rfl
theorem q1930 : (Jvm.Cond.privateMethod ({ cls := "ShorePoolsModel", name := "changes", desc := "(I)I" } : Jvm.MethodName)) ∈ lw_tbl := lw_at lw_m8 149 rfl
theorem q1931 : (Jvm.Cond.instanceMethod ({ cls := "ShorePoolsModel", name := "changes", desc := "(I)I" } : Jvm.MethodName)) ∈ lw_all := lw_g (lw_at lw_m8 150 rfl) rfl
theorem q1932 : (Jvm.Cond.code ({ cls := "ShorePoolsModel", name := "changes", desc := "(I)I" } : Jvm.MethodName) prog_11_method_40_code (8 : Nat) (Option.some Jvm.ClassFile.FieldType.int)) ∈ lw_all := lw_g (lw_at lw_m8 151 rfl) rfl
theorem q1933 : (Jvm.Cond.methodLink "ShorePoolsModel" (105 : Nat) ({ cls := "ShorePoolsModel", name := "leaves", desc := "(II)V" } : Jvm.MethodName)) ∈ lw_all := lw_g (lw_at lw_m8 152 rfl) rfl
theorem q1934 : (Jvm.Cond.privateMethod ({ cls := "ShorePoolsModel", name := "leaves", desc := "(II)V" } : Jvm.MethodName)) ∈ lw_tbl := lw_at lw_m8 153 rfl
theorem q1935 : (Jvm.Cond.instanceMethod ({ cls := "ShorePoolsModel", name := "leaves", desc := "(II)V" } : Jvm.MethodName)) ∈ lw_all := lw_g (lw_at lw_m8 154 rfl) rfl
theorem q1936 : (Jvm.Cond.code ({ cls := "ShorePoolsModel", name := "leaves", desc := "(II)V" } : Jvm.MethodName) prog_11_method_41_code (4 : Nat) (Option.none : Option Jvm.ClassFile.FieldType)) ∈ lw_all := lw_g (lw_at lw_m8 155 rfl) rfl
theorem q1937 : (Jvm.Cond.methodLink "ShorePoolsModel" (132 : Nat) ({ cls := "ShorePoolsModel", name := "heats", desc := "(I)I" } : Jvm.MethodName)) ∈ lw_all := lw_g (lw_at lw_m8 156 rfl) rfl
theorem q1938 : (Jvm.Cond.privateMethod ({ cls := "ShorePoolsModel", name := "heats", desc := "(I)I" } : Jvm.MethodName)) ∈ lw_tbl := lw_at lw_m8 157 rfl
theorem q1939 : (Jvm.Cond.instanceMethod ({ cls := "ShorePoolsModel", name := "heats", desc := "(I)I" } : Jvm.MethodName)) ∈ lw_all := lw_g (lw_at lw_m8 158 rfl) rfl
theorem q1940 : (Jvm.Cond.code ({ cls := "ShorePoolsModel", name := "heats", desc := "(I)I" } : Jvm.MethodName) prog_11_method_42_code (6 : Nat) (Option.some Jvm.ClassFile.FieldType.int)) ∈ lw_all := lw_g (lw_at lw_m8 159 rfl) rfl
theorem q1941 : (Jvm.Cond.methodLink "ShorePoolsModel" (135 : Nat) ({ cls := "ShorePoolsModel", name := "hunts", desc := "(I)I" } : Jvm.MethodName)) ∈ lw_all := lw_g (lw_at lw_m8 160 rfl) rfl
theorem q1942 : (Jvm.Cond.privateMethod ({ cls := "ShorePoolsModel", name := "hunts", desc := "(I)I" } : Jvm.MethodName)) ∈ lw_tbl := lw_at lw_m8 161 rfl
theorem q1943 : (Jvm.Cond.instanceMethod ({ cls := "ShorePoolsModel", name := "hunts", desc := "(I)I" } : Jvm.MethodName)) ∈ lw_all := lw_g (lw_at lw_m8 162 rfl) rfl
theorem q1944 : (Jvm.Cond.code ({ cls := "ShorePoolsModel", name := "hunts", desc := "(I)I" } : Jvm.MethodName) prog_11_method_46_code (4 : Nat) (Option.some Jvm.ClassFile.FieldType.int)) ∈ lw_all := lw_g (lw_at lw_m8 163 rfl) rfl
theorem q1945 : (Jvm.Cond.methodLink "ShorePoolsModel" (112 : Nat) ({ cls := "ShorePoolsModel", name := "next", desc := "(I)I" } : Jvm.MethodName)) ∈ lw_all := lw_g (lw_at lw_m8 164 rfl) rfl
theorem q1946 : (Jvm.Cond.privateMethod ({ cls := "ShorePoolsModel", name := "next", desc := "(I)I" } : Jvm.MethodName)) ∈ lw_tbl := lw_at lw_m8 165 rfl
theorem q1947 : (Jvm.Cond.instanceMethod ({ cls := "ShorePoolsModel", name := "next", desc := "(I)I" } : Jvm.MethodName)) ∈ lw_all := lw_g (lw_at lw_m8 166 rfl) rfl
theorem q1948 : (Jvm.Cond.code ({ cls := "ShorePoolsModel", name := "next", desc := "(I)I" } : Jvm.MethodName) prog_11_method_45_code (4 : Nat) (Option.some Jvm.ClassFile.FieldType.int)) ∈ lw_all := lw_g (lw_at lw_m8 167 rfl) rfl
theorem q1949 : (Jvm.Cond.methodLink "ShorePoolsModel" (116 : Nat) ({ cls := "ShorePoolsModel", name := "prey", desc := "(II)I" } : Jvm.MethodName)) ∈ lw_all := lw_g (lw_at lw_m8 168 rfl) rfl
theorem q1950 : (Jvm.Cond.privateMethod ({ cls := "ShorePoolsModel", name := "prey", desc := "(II)I" } : Jvm.MethodName)) ∈ lw_tbl := lw_at lw_m8 169 rfl
theorem q1951 : (Jvm.Cond.instanceMethod ({ cls := "ShorePoolsModel", name := "prey", desc := "(II)I" } : Jvm.MethodName)) ∈ lw_all := lw_g (lw_at lw_m8 170 rfl) rfl
theorem q1952 : (Jvm.Cond.code ({ cls := "ShorePoolsModel", name := "prey", desc := "(II)I" } : Jvm.MethodName) prog_11_method_44_code (9 : Nat) (Option.some Jvm.ClassFile.FieldType.int)) ∈ lw_all := lw_g (lw_at lw_m8 171 rfl) rfl
theorem q1953 : (Jvm.Cond.methodLink "ShorePoolsModel" (108 : Nat) ({ cls := "ShorePoolsModel", name := "greatest", desc := "(IIZ)I" } : Jvm.MethodName)) ∈ lw_all := lw_g (lw_at lw_m8 172 rfl) rfl
theorem q1954 : (Jvm.Cond.privateMethod ({ cls := "ShorePoolsModel", name := "greatest", desc := "(IIZ)I" } : Jvm.MethodName)) ∈ lw_tbl := lw_at lw_m8 173 rfl
theorem q1955 : (Jvm.Cond.instanceMethod ({ cls := "ShorePoolsModel", name := "greatest", desc := "(IIZ)I" } : Jvm.MethodName)) ∈ lw_all := lw_g (lw_at lw_m8 174 rfl) rfl
theorem q1956 : (Jvm.Cond.code ({ cls := "ShorePoolsModel", name := "greatest", desc := "(IIZ)I" } : Jvm.MethodName) prog_11_method_43_code (8 : Nat) (Option.some Jvm.ClassFile.FieldType.int)) ∈ lw_all := lw_g (lw_at lw_m8 175 rfl) rfl
theorem q1957 : (Jvm.Cond.methodLink "ShorePoolsModel" (138 : Nat) ({ cls := "ShorePoolsModel", name := "grows", desc := "(I)V" } : Jvm.MethodName)) ∈ lw_all := lw_g (lw_at lw_m8 176 rfl) rfl
theorem q1958 : (Jvm.Cond.privateMethod ({ cls := "ShorePoolsModel", name := "grows", desc := "(I)V" } : Jvm.MethodName)) ∈ lw_tbl := lw_at lw_m8 177 rfl
theorem q1959 : (Jvm.Cond.instanceMethod ({ cls := "ShorePoolsModel", name := "grows", desc := "(I)V" } : Jvm.MethodName)) ∈ lw_all := lw_g (lw_at lw_m8 178 rfl) rfl
theorem q1960 : (Jvm.Cond.code ({ cls := "ShorePoolsModel", name := "grows", desc := "(I)V" } : Jvm.MethodName) prog_11_method_47_code (5 : Nat) (Option.none : Option Jvm.ClassFile.FieldType)) ∈ lw_all := lw_g (lw_at lw_m8 179 rfl) rfl
theorem q1962 : (Jvm.Cond.instanceMethod ({ cls := "ShorePoolsModel", name := "type", desc := "(C)I" } : Jvm.MethodName)) ∈ lw_all := lw_g (lw_at lw_m8 181 rfl) rfl
theorem q1963 : (Jvm.Cond.selects "ShorePoolsModel" ({ cls := "ShorePoolsModel", name := "type", desc := "(C)I" } : Jvm.MethodName) ({ cls := "ShorePoolsModel", name := "type", desc := "(C)I" } : Jvm.MethodName)) ∈ lw_all := lw_g (lw_at lw_m8 182 rfl) rfl
theorem q1964 : (Jvm.Cond.code ({ cls := "ShorePoolsModel", name := "type", desc := "(C)I" } : Jvm.MethodName) prog_11_method_51_code (2 : Nat) (Option.some Jvm.ClassFile.FieldType.int)) ∈ lw_all := lw_g (lw_at lw_m8 183 rfl) rfl
theorem q1966 : (Jvm.Cond.instanceMethod ({ cls := "ShorePoolsModel", name := "clearNote", desc := "()I" } : Jvm.MethodName)) ∈ lw_all := lw_g (lw_at lw_m8 185 rfl) rfl
theorem q1967 : (Jvm.Cond.selects "ShorePoolsModel" ({ cls := "ShorePoolsModel", name := "clearNote", desc := "()I" } : Jvm.MethodName) ({ cls := "ShorePoolsModel", name := "clearNote", desc := "()I" } : Jvm.MethodName)) ∈ lw_all := lw_g (lw_at lw_m8 186 rfl) rfl
theorem q1968 : (Jvm.Cond.code ({ cls := "ShorePoolsModel", name := "clearNote", desc := "()I" } : Jvm.MethodName) prog_11_method_52_code (2 : Nat) (Option.some Jvm.ClassFile.FieldType.int)) ∈ lw_all := lw_g (lw_at lw_m8 187 rfl) rfl
theorem q1970 : (Jvm.Cond.instanceMethod ({ cls := "ShorePoolsModel", name := "noteError", desc := "()I" } : Jvm.MethodName)) ∈ lw_all := lw_g (lw_at lw_m8 189 rfl) rfl
theorem q1971 : (Jvm.Cond.selects "ShorePoolsModel" ({ cls := "ShorePoolsModel", name := "noteError", desc := "()I" } : Jvm.MethodName) ({ cls := "ShorePoolsModel", name := "noteError", desc := "()I" } : Jvm.MethodName)) ∈ lw_all := lw_g (lw_at lw_m8 190 rfl) rfl
theorem q1972 : (Jvm.Cond.code ({ cls := "ShorePoolsModel", name := "noteError", desc := "()I" } : Jvm.MethodName) prog_11_method_59_code (1 : Nat) (Option.some Jvm.ClassFile.FieldType.int)) ∈ lw_all := lw_g (lw_at lw_m8 191 rfl) rfl
theorem q1973 : (Jvm.Cond.methodLink "ShorePoolsModel" (178 : Nat) ({ cls := "ShorePoolsModel", name := "error", desc := "()I" } : Jvm.MethodName)) ∈ lw_all := lw_g (lw_at lw_m8 192 rfl) rfl
theorem q1974 : (Jvm.Cond.privateMethod ({ cls := "ShorePoolsModel", name := "error", desc := "()I" } : Jvm.MethodName)) ∈ lw_tbl := lw_at lw_m8 193 rfl
theorem q1975 : (Jvm.Cond.instanceMethod ({ cls := "ShorePoolsModel", name := "error", desc := "()I" } : Jvm.MethodName)) ∈ lw_all := lw_g (lw_at lw_m8 194 rfl) rfl
theorem q1976 : (Jvm.Cond.code ({ cls := "ShorePoolsModel", name := "error", desc := "()I" } : Jvm.MethodName) prog_11_method_58_code (1 : Nat) (Option.some Jvm.ClassFile.FieldType.int)) ∈ lw_all := lw_g (lw_at lw_m8 195 rfl) rfl
theorem q1977 : (Jvm.Cond.methodLink "ShorePoolsModel" (175 : Nat) ({ cls := "ShorePoolsModel", name := "isOrder", desc := "()Z" } : Jvm.MethodName)) ∈ lw_all := lw_g (lw_at lw_m8 196 rfl) rfl
theorem q1978 : (Jvm.Cond.privateMethod ({ cls := "ShorePoolsModel", name := "isOrder", desc := "()Z" } : Jvm.MethodName)) ∈ lw_tbl := lw_at lw_m8 197 rfl
theorem q1979 : (Jvm.Cond.instanceMethod ({ cls := "ShorePoolsModel", name := "isOrder", desc := "()Z" } : Jvm.MethodName)) ∈ lw_all := lw_g (lw_at lw_m8 198 rfl) rfl
theorem q1980 : (Jvm.Cond.code ({ cls := "ShorePoolsModel", name := "isOrder", desc := "()Z" } : Jvm.MethodName) prog_11_method_57_code (2 : Nat) (Option.some Jvm.ClassFile.FieldType.boolean)) ∈ lw_all := lw_g (lw_at lw_m8 199 rfl) rfl
theorem q1981 : (Jvm.Cond.methodLink "ShorePoolsModel" (166 : Nat) ({ cls := "ShorePoolsModel", name := "isPlace", desc := "()Z" } : Jvm.MethodName)) ∈ lw_all := lw_g (lw_at lw_m8 200 rfl) rfl
theorem q1982 : (Jvm.Cond.privateMethod ({ cls := "ShorePoolsModel", name := "isPlace", desc := "()Z" } : Jvm.MethodName)) ∈ lw_tbl := lw_at lw_m8 201 rfl
theorem q1983 : (Jvm.Cond.instanceMethod ({ cls := "ShorePoolsModel", name := "isPlace", desc := "()Z" } : Jvm.MethodName)) ∈ lw_all := lw_g (lw_at lw_m8 202 rfl) rfl
theorem q1984 : (Jvm.Cond.code ({ cls := "ShorePoolsModel", name := "isPlace", desc := "()Z" } : Jvm.MethodName) prog_11_method_55_code (2 : Nat) (Option.some Jvm.ClassFile.FieldType.boolean)) ∈ lw_all := lw_g (lw_at lw_m8 203 rfl) rfl
theorem q1985 : (Jvm.Cond.methodLink "ShorePoolsModel" (169 : Nat) ({ cls := "ShorePoolsModel", name := "isSign", desc := "(I)Z" } : Jvm.MethodName)) ∈ lw_all := lw_g (lw_at lw_m8 204 rfl) rfl
theorem q1986 : (Jvm.Cond.privateMethod ({ cls := "ShorePoolsModel", name := "isSign", desc := "(I)Z" } : Jvm.MethodName)) ∈ lw_tbl := lw_at lw_m8 205 rfl
theorem q1987 : (Jvm.Cond.instanceMethod ({ cls := "ShorePoolsModel", name := "isSign", desc := "(I)Z" } : Jvm.MethodName)) ∈ lw_all := lw_g (lw_at lw_m8 206 rfl) rfl
theorem q1988 : (Jvm.Cond.code ({ cls := "ShorePoolsModel", name := "isSign", desc := "(I)Z" } : Jvm.MethodName) prog_11_method_54_code (3 : Nat) (Option.some Jvm.ClassFile.FieldType.boolean)) ∈ lw_all := lw_g (lw_at lw_m8 207 rfl) rfl
theorem q1989 : (Jvm.Cond.methodLink "ShorePoolsModel" (172 : Nat) ({ cls := "ShorePoolsModel", name := "isNumber", desc := "(II)Z" } : Jvm.MethodName)) ∈ lw_all := lw_g (lw_at lw_m8 208 rfl) rfl
theorem q1990 : (Jvm.Cond.privateMethod ({ cls := "ShorePoolsModel", name := "isNumber", desc := "(II)Z" } : Jvm.MethodName)) ∈ lw_tbl := lw_at lw_m8 209 rfl
theorem q1991 : (Jvm.Cond.instanceMethod ({ cls := "ShorePoolsModel", name := "isNumber", desc := "(II)Z" } : Jvm.MethodName)) ∈ lw_all := lw_g (lw_at lw_m8 210 rfl) rfl
theorem q1992 : (Jvm.Cond.code ({ cls := "ShorePoolsModel", name := "isNumber", desc := "(II)Z" } : Jvm.MethodName) prog_11_method_56_code (4 : Nat) (Option.some Jvm.ClassFile.FieldType.boolean)) ∈ lw_all := lw_g (lw_at lw_m8 211 rfl) rfl
theorem q1993 : (Jvm.Cond.methodLink "ShorePoolsModel" (156 : Nat) ({ cls := "ShorePoolsModel", name := "isDigit", desc := "()Z" } : Jvm.MethodName)) ∈ lw_all := lw_g (lw_at lw_m8 212 rfl) rfl
theorem q1994 : (Jvm.Cond.privateMethod ({ cls := "ShorePoolsModel", name := "isDigit", desc := "()Z" } : Jvm.MethodName)) ∈ lw_tbl := lw_at lw_m8 213 rfl
theorem q1995 : (Jvm.Cond.instanceMethod ({ cls := "ShorePoolsModel", name := "isDigit", desc := "()Z" } : Jvm.MethodName)) ∈ lw_all := lw_g (lw_at lw_m8 214 rfl) rfl
theorem q1996 : (Jvm.Cond.code ({ cls := "ShorePoolsModel", name := "isDigit", desc := "()Z" } : Jvm.MethodName) prog_11_method_53_code (1 : Nat) (Option.some Jvm.ClassFile.FieldType.boolean)) ∈ lw_all := lw_g (lw_at lw_m8 215 rfl) rfl
theorem q1998 : (Jvm.Cond.instanceMethod ({ cls := "ShorePoolsModel", name := "impossibleOrder", desc := "()I" } : Jvm.MethodName)) ∈ lw_all := lw_g (lw_at lw_m8 217 rfl) rfl
theorem q1999 : (Jvm.Cond.selects "ShorePoolsModel" ({ cls := "ShorePoolsModel", name := "impossibleOrder", desc := "()I" } : Jvm.MethodName) ({ cls := "ShorePoolsModel", name := "impossibleOrder", desc := "()I" } : Jvm.MethodName)) ∈ lw_all := lw_g (lw_at lw_m8 218 rfl) rfl
theorem q2000 : (Jvm.Cond.code ({ cls := "ShorePoolsModel", name := "impossibleOrder", desc := "()I" } : Jvm.MethodName) prog_11_method_62_code (1 : Nat) (Option.some Jvm.ClassFile.FieldType.int)) ∈ lw_all := lw_g (lw_at lw_m8 219 rfl) rfl
theorem q2001 : (Jvm.Cond.methodLink "ShorePoolsModel" (191 : Nat) ({ cls := "ShorePoolsModel", name := "tries", desc := "()I" } : Jvm.MethodName)) ∈ lw_all := lw_g (lw_at lw_m8 220 rfl) rfl
theorem q2002 : (Jvm.Cond.privateMethod ({ cls := "ShorePoolsModel", name := "tries", desc := "()I" } : Jvm.MethodName)) ∈ lw_tbl := lw_at lw_m8 221 rfl
theorem q2003 : (Jvm.Cond.instanceMethod ({ cls := "ShorePoolsModel", name := "tries", desc := "()I" } : Jvm.MethodName)) ∈ lw_all := lw_g (lw_at lw_m8 222 rfl) rfl
theorem q2004 : (Jvm.Cond.code ({ cls := "ShorePoolsModel", name := "tries", desc := "()I" } : Jvm.MethodName) prog_11_method_61_code (3 : Nat) (Option.some Jvm.ClassFile.FieldType.int)) ∈ lw_all := lw_g (lw_at lw_m8 223 rfl) rfl
theorem q2005 : (Jvm.Cond.methodLink "ShorePoolsModel" (182 : Nat) ({ cls := "ShorePoolsModel", name := "copies", desc := "()V" } : Jvm.MethodName)) ∈ lw_all := lw_g (lw_at lw_m8 224 rfl) rfl
theorem q2006 : (Jvm.Cond.privateMethod ({ cls := "ShorePoolsModel", name := "copies", desc := "()V" } : Jvm.MethodName)) ∈ lw_tbl := lw_at lw_m8 225 rfl
theorem q2007 : (Jvm.Cond.instanceMethod ({ cls := "ShorePoolsModel", name := "copies", desc := "()V" } : Jvm.MethodName)) ∈ lw_all := lw_g (lw_at lw_m8 226 rfl) rfl
theorem q2008 : (Jvm.Cond.code ({ cls := "ShorePoolsModel", name := "copies", desc := "()V" } : Jvm.MethodName) prog_11_method_13_code (2 : Nat) (Option.none : Option Jvm.ClassFile.FieldType)) ∈ lw_all := lw_g (lw_at lw_m8 227 rfl) rfl
theorem q2009 : (Jvm.Cond.methodLink "ShorePoolsModel" (188 : Nat) ({ cls := "ShorePoolsModel", name := "carries", desc := "(I)Z" } : Jvm.MethodName)) ∈ lw_all := lw_g (lw_at lw_m8 228 rfl) rfl
theorem q2010 : (Jvm.Cond.privateMethod ({ cls := "ShorePoolsModel", name := "carries", desc := "(I)Z" } : Jvm.MethodName)) ∈ lw_tbl := lw_at lw_m8 229 rfl
theorem q2011 : (Jvm.Cond.instanceMethod ({ cls := "ShorePoolsModel", name := "carries", desc := "(I)Z" } : Jvm.MethodName)) ∈ lw_all := lw_g (lw_at lw_m8 230 rfl) rfl
theorem q2012 : (Jvm.Cond.code ({ cls := "ShorePoolsModel", name := "carries", desc := "(I)Z" } : Jvm.MethodName) prog_11_method_60_code (4 : Nat) (Option.some Jvm.ClassFile.FieldType.boolean)) ∈ lw_all := lw_g (lw_at lw_m8 231 rfl) rfl
theorem q2014 : (Jvm.Cond.instanceMethod ({ cls := "ShorePoolsModel", name := "carryOut", desc := "()I" } : Jvm.MethodName)) ∈ lw_all := lw_g (lw_at lw_m8 233 rfl) rfl
theorem q2015 : (Jvm.Cond.selects "ShorePoolsModel" ({ cls := "ShorePoolsModel", name := "carryOut", desc := "()I" } : Jvm.MethodName) ({ cls := "ShorePoolsModel", name := "carryOut", desc := "()I" } : Jvm.MethodName)) ∈ lw_all := lw_g (lw_at lw_m8 234 rfl) rfl
theorem q2016 : (Jvm.Cond.code ({ cls := "ShorePoolsModel", name := "carryOut", desc := "()I" } : Jvm.MethodName) prog_11_method_63_code (3 : Nat) (Option.some Jvm.ClassFile.FieldType.int)) ∈ lw_all := lw_g (lw_at lw_m8 235 rfl) rfl
theorem q2018 : (Jvm.Cond.instanceMethod ({ cls := "ShorePoolsModel", name := "undo", desc := "()I" } : Jvm.MethodName)) ∈ lw_all := lw_g (lw_at lw_m8 237 rfl) rfl
theorem q2019 : (Jvm.Cond.selects "ShorePoolsModel" ({ cls := "ShorePoolsModel", name := "undo", desc := "()I" } : Jvm.MethodName) ({ cls := "ShorePoolsModel", name := "undo", desc := "()I" } : Jvm.MethodName)) ∈ lw_all := lw_g (lw_at lw_m8 238 rfl) rfl
theorem q2020 : (Jvm.Cond.code ({ cls := "ShorePoolsModel", name := "undo", desc := "()I" } : Jvm.MethodName) prog_11_method_64_code (2 : Nat) (Option.some Jvm.ClassFile.FieldType.int)) ∈ lw_all := lw_g (lw_at lw_m8 239 rfl) rfl
theorem q2022 : (Jvm.Cond.instanceMethod ({ cls := "ShorePoolsModel", name := "takeSnapshot", desc := "()I" } : Jvm.MethodName)) ∈ lw_all := lw_g (lw_at lw_m9 1 rfl) rfl
theorem q2023 : (Jvm.Cond.selects "ShorePoolsModel" ({ cls := "ShorePoolsModel", name := "takeSnapshot", desc := "()I" } : Jvm.MethodName) ({ cls := "ShorePoolsModel", name := "takeSnapshot", desc := "()I" } : Jvm.MethodName)) ∈ lw_all := lw_g (lw_at lw_m9 2 rfl) rfl
theorem q2024 : (Jvm.Cond.code ({ cls := "ShorePoolsModel", name := "takeSnapshot", desc := "()I" } : Jvm.MethodName) prog_11_method_65_code (2 : Nat) (Option.some Jvm.ClassFile.FieldType.int)) ∈ lw_all := lw_g (lw_at lw_m9 3 rfl) rfl
theorem q2026 : (Jvm.Cond.instanceMethod ({ cls := "ShorePoolsModel", name := "restoreSnapshot", desc := "()I" } : Jvm.MethodName)) ∈ lw_all := lw_g (lw_at lw_m9 5 rfl) rfl
theorem q2027 : (Jvm.Cond.selects "ShorePoolsModel" ({ cls := "ShorePoolsModel", name := "restoreSnapshot", desc := "()I" } : Jvm.MethodName) ({ cls := "ShorePoolsModel", name := "restoreSnapshot", desc := "()I" } : Jvm.MethodName)) ∈ lw_all := lw_g (lw_at lw_m9 6 rfl) rfl
theorem q2028 : (Jvm.Cond.code ({ cls := "ShorePoolsModel", name := "restoreSnapshot", desc := "()I" } : Jvm.MethodName) prog_11_method_66_code (2 : Nat) (Option.some Jvm.ClassFile.FieldType.int)) ∈ lw_all := lw_g (lw_at lw_m9 7 rfl) rfl
theorem q2030 : (Jvm.Cond.instanceMethod ({ cls := "ShorePoolsModel", name := "time", desc := "()I" } : Jvm.MethodName)) ∈ lw_all := lw_g (lw_at lw_m9 9 rfl) rfl
theorem q2031 : (Jvm.Cond.selects "ShorePoolsModel" ({ cls := "ShorePoolsModel", name := "time", desc := "()I" } : Jvm.MethodName) ({ cls := "ShorePoolsModel", name := "time", desc := "()I" } : Jvm.MethodName)) ∈ lw_all := lw_g (lw_at lw_m9 10 rfl) rfl
theorem q2032 : (Jvm.Cond.code ({ cls := "ShorePoolsModel", name := "time", desc := "()I" } : Jvm.MethodName) prog_11_method_68_code (1 : Nat) (Option.some Jvm.ClassFile.FieldType.int)) ∈ lw_all := lw_g (lw_at lw_m9 11 rfl) rfl
theorem q2033 : (Jvm.Cond.methodLink "ShorePoolsModel" (198 : Nat) ({ cls := "ShorePoolsModel", name := "tells", desc := "(I)I" } : Jvm.MethodName)) ∈ lw_all := lw_g (lw_at lw_m9 12 rfl) rfl
theorem q2034 : (Jvm.Cond.privateMethod ({ cls := "ShorePoolsModel", name := "tells", desc := "(I)I" } : Jvm.MethodName)) ∈ lw_tbl := lw_at lw_m9 13 rfl
theorem q2035 : (Jvm.Cond.instanceMethod ({ cls := "ShorePoolsModel", name := "tells", desc := "(I)I" } : Jvm.MethodName)) ∈ lw_all := lw_g (lw_at lw_m9 14 rfl) rfl
theorem q2036 : (Jvm.Cond.code ({ cls := "ShorePoolsModel", name := "tells", desc := "(I)I" } : Jvm.MethodName) prog_11_method_67_code (2 : Nat) (Option.some Jvm.ClassFile.FieldType.int)) ∈ lw_all := lw_g (lw_at lw_m9 15 rfl) rfl
theorem q2038 : (Jvm.Cond.instanceMethod ({ cls := "ShorePoolsModel", name := "tide", desc := "()I" } : Jvm.MethodName)) ∈ lw_all := lw_g (lw_at lw_m9 17 rfl) rfl
theorem q2039 : (Jvm.Cond.selects "ShorePoolsModel" ({ cls := "ShorePoolsModel", name := "tide", desc := "()I" } : Jvm.MethodName) ({ cls := "ShorePoolsModel", name := "tide", desc := "()I" } : Jvm.MethodName)) ∈ lw_all := lw_g (lw_at lw_m9 18 rfl) rfl
theorem q2040 : (Jvm.Cond.code ({ cls := "ShorePoolsModel", name := "tide", desc := "()I" } : Jvm.MethodName) prog_11_method_69_code (1 : Nat) (Option.some Jvm.ClassFile.FieldType.int)) ∈ lw_all := lw_g (lw_at lw_m9 19 rfl) rfl
theorem q2042 : (Jvm.Cond.instanceMethod ({ cls := "ShorePoolsModel", name := "tideAt", desc := "(I)I" } : Jvm.MethodName)) ∈ lw_all := lw_g (lw_at lw_m9 21 rfl) rfl
theorem q2043 : (Jvm.Cond.selects "ShorePoolsModel" ({ cls := "ShorePoolsModel", name := "tideAt", desc := "(I)I" } : Jvm.MethodName) ({ cls := "ShorePoolsModel", name := "tideAt", desc := "(I)I" } : Jvm.MethodName)) ∈ lw_all := lw_g (lw_at lw_m9 22 rfl) rfl
theorem q2044 : (Jvm.Cond.code ({ cls := "ShorePoolsModel", name := "tideAt", desc := "(I)I" } : Jvm.MethodName) prog_11_method_70_code (2 : Nat) (Option.some Jvm.ClassFile.FieldType.int)) ∈ lw_all := lw_g (lw_at lw_m9 23 rfl) rfl
theorem q2046 : (Jvm.Cond.instanceMethod ({ cls := "ShorePoolsModel", name := "heat", desc := "()I" } : Jvm.MethodName)) ∈ lw_all := lw_g (lw_at lw_m9 25 rfl) rfl
theorem q2047 : (Jvm.Cond.selects "ShorePoolsModel" ({ cls := "ShorePoolsModel", name := "heat", desc := "()I" } : Jvm.MethodName) ({ cls := "ShorePoolsModel", name := "heat", desc := "()I" } : Jvm.MethodName)) ∈ lw_all := lw_g (lw_at lw_m9 26 rfl) rfl
theorem q2048 : (Jvm.Cond.code ({ cls := "ShorePoolsModel", name := "heat", desc := "()I" } : Jvm.MethodName) prog_11_method_71_code (1 : Nat) (Option.some Jvm.ClassFile.FieldType.int)) ∈ lw_all := lw_g (lw_at lw_m9 27 rfl) rfl
theorem q2050 : (Jvm.Cond.instanceMethod ({ cls := "ShorePoolsModel", name := "pause", desc := "()I" } : Jvm.MethodName)) ∈ lw_all := lw_g (lw_at lw_m9 29 rfl) rfl
theorem q2051 : (Jvm.Cond.selects "ShorePoolsModel" ({ cls := "ShorePoolsModel", name := "pause", desc := "()I" } : Jvm.MethodName) ({ cls := "ShorePoolsModel", name := "pause", desc := "()I" } : Jvm.MethodName)) ∈ lw_all := lw_g (lw_at lw_m9 30 rfl) rfl
theorem q2052 : (Jvm.Cond.code ({ cls := "ShorePoolsModel", name := "pause", desc := "()I" } : Jvm.MethodName) prog_11_method_72_code (1 : Nat) (Option.some Jvm.ClassFile.FieldType.int)) ∈ lw_all := lw_g (lw_at lw_m9 31 rfl) rfl
theorem q2054 : (Jvm.Cond.instanceMethod ({ cls := "ShorePoolsModel", name := "heightOf", desc := "(I)I" } : Jvm.MethodName)) ∈ lw_all := lw_g (lw_at lw_m9 33 rfl) rfl
theorem q2055 : (Jvm.Cond.selects "ShorePoolsModel" ({ cls := "ShorePoolsModel", name := "heightOf", desc := "(I)I" } : Jvm.MethodName) ({ cls := "ShorePoolsModel", name := "heightOf", desc := "(I)I" } : Jvm.MethodName)) ∈ lw_all := lw_g (lw_at lw_m9 34 rfl) rfl
theorem q2056 : (Jvm.Cond.code ({ cls := "ShorePoolsModel", name := "heightOf", desc := "(I)I" } : Jvm.MethodName) prog_11_method_74_code (2 : Nat) (Option.some Jvm.ClassFile.FieldType.int)) ∈ lw_all := lw_g (lw_at lw_m9 35 rfl) rfl
theorem q2057 : (Jvm.Cond.methodLink "ShorePoolsModel" (201 : Nat) ({ cls := "ShorePoolsModel", name := "ofPool", desc := "(II)I" } : Jvm.MethodName)) ∈ lw_all := lw_g (lw_at lw_m9 36 rfl) rfl
theorem q2058 : (Jvm.Cond.privateMethod ({ cls := "ShorePoolsModel", name := "ofPool", desc := "(II)I" } : Jvm.MethodName)) ∈ lw_tbl := lw_at lw_m9 37 rfl
theorem q2059 : (Jvm.Cond.instanceMethod ({ cls := "ShorePoolsModel", name := "ofPool", desc := "(II)I" } : Jvm.MethodName)) ∈ lw_all := lw_g (lw_at lw_m9 38 rfl) rfl
theorem q2060 : (Jvm.Cond.code ({ cls := "ShorePoolsModel", name := "ofPool", desc := "(II)I" } : Jvm.MethodName) prog_11_method_73_code (3 : Nat) (Option.some Jvm.ClassFile.FieldType.int)) ∈ lw_all := lw_g (lw_at lw_m9 39 rfl) rfl
theorem q2062 : (Jvm.Cond.instanceMethod ({ cls := "ShorePoolsModel", name := "isFlooded", desc := "(I)Z" } : Jvm.MethodName)) ∈ lw_all := lw_g (lw_at lw_m9 41 rfl) rfl
theorem q2063 : (Jvm.Cond.selects "ShorePoolsModel" ({ cls := "ShorePoolsModel", name := "isFlooded", desc := "(I)Z" } : Jvm.MethodName) ({ cls := "ShorePoolsModel", name := "isFlooded", desc := "(I)Z" } : Jvm.MethodName)) ∈ lw_all := lw_g (lw_at lw_m9 42 rfl) rfl
theorem q2064 : (Jvm.Cond.code ({ cls := "ShorePoolsModel", name := "isFlooded", desc := "(I)Z" } : Jvm.MethodName) prog_11_method_75_code (2 : Nat) (Option.some Jvm.ClassFile.FieldType.boolean)) ∈ lw_all := lw_g (lw_at lw_m9 43 rfl) rfl
theorem q2066 : (Jvm.Cond.instanceMethod ({ cls := "ShorePoolsModel", name := "floodedPools", desc := "()I" } : Jvm.MethodName)) ∈ lw_all := lw_g (lw_at lw_m9 45 rfl) rfl
theorem q2067 : (Jvm.Cond.selects "ShorePoolsModel" ({ cls := "ShorePoolsModel", name := "floodedPools", desc := "()I" } : Jvm.MethodName) ({ cls := "ShorePoolsModel", name := "floodedPools", desc := "()I" } : Jvm.MethodName)) ∈ lw_all := lw_g (lw_at lw_m9 46 rfl) rfl
theorem q2068 : (Jvm.Cond.code ({ cls := "ShorePoolsModel", name := "floodedPools", desc := "()I" } : Jvm.MethodName) prog_11_method_76_code (3 : Nat) (Option.some Jvm.ClassFile.FieldType.int)) ∈ lw_all := lw_g (lw_at lw_m9 47 rfl) rfl
theorem q2070 : (Jvm.Cond.instanceMethod ({ cls := "ShorePoolsModel", name := "warmthOf", desc := "(I)I" } : Jvm.MethodName)) ∈ lw_all := lw_g (lw_at lw_m9 49 rfl) rfl
theorem q2071 : (Jvm.Cond.selects "ShorePoolsModel" ({ cls := "ShorePoolsModel", name := "warmthOf", desc := "(I)I" } : Jvm.MethodName) ({ cls := "ShorePoolsModel", name := "warmthOf", desc := "(I)I" } : Jvm.MethodName)) ∈ lw_all := lw_g (lw_at lw_m9 50 rfl) rfl
theorem q2072 : (Jvm.Cond.code ({ cls := "ShorePoolsModel", name := "warmthOf", desc := "(I)I" } : Jvm.MethodName) prog_11_method_77_code (2 : Nat) (Option.some Jvm.ClassFile.FieldType.int)) ∈ lw_all := lw_g (lw_at lw_m9 51 rfl) rfl
theorem q2074 : (Jvm.Cond.instanceMethod ({ cls := "ShorePoolsModel", name := "weedOf", desc := "(I)I" } : Jvm.MethodName)) ∈ lw_all := lw_g (lw_at lw_m9 53 rfl) rfl
theorem q2075 : (Jvm.Cond.selects "ShorePoolsModel" ({ cls := "ShorePoolsModel", name := "weedOf", desc := "(I)I" } : Jvm.MethodName) ({ cls := "ShorePoolsModel", name := "weedOf", desc := "(I)I" } : Jvm.MethodName)) ∈ lw_all := lw_g (lw_at lw_m9 54 rfl) rfl
theorem q2076 : (Jvm.Cond.code ({ cls := "ShorePoolsModel", name := "weedOf", desc := "(I)I" } : Jvm.MethodName) prog_11_method_78_code (2 : Nat) (Option.some Jvm.ClassFile.FieldType.int)) ∈ lw_all := lw_g (lw_at lw_m9 55 rfl) rfl
theorem q2078 : (Jvm.Cond.instanceMethod ({ cls := "ShorePoolsModel", name := "hoursToFlood", desc := "(I)I" } : Jvm.MethodName)) ∈ lw_all := lw_g (lw_at lw_m9 57 rfl) rfl
theorem q2079 : (Jvm.Cond.selects "ShorePoolsModel" ({ cls := "ShorePoolsModel", name := "hoursToFlood", desc := "(I)I" } : Jvm.MethodName) ({ cls := "ShorePoolsModel", name := "hoursToFlood", desc := "(I)I" } : Jvm.MethodName)) ∈ lw_all := lw_g (lw_at lw_m9 58 rfl) rfl
theorem q2080 : (Jvm.Cond.code ({ cls := "ShorePoolsModel", name := "hoursToFlood", desc := "(I)I" } : Jvm.MethodName) prog_11_method_79_code (3 : Nat) (Option.some Jvm.ClassFile.FieldType.int)) ∈ lw_all := lw_g (lw_at lw_m9 59 rfl) rfl
theorem q2082 : (Jvm.Cond.instanceMethod ({ cls := "ShorePoolsModel", name := "floodHours", desc := "(I)I" } : Jvm.MethodName)) ∈ lw_all := lw_g (lw_at lw_m9 61 rfl) rfl
theorem q2083 : (Jvm.Cond.selects "ShorePoolsModel" ({ cls := "ShorePoolsModel", name := "floodHours", desc := "(I)I" } : Jvm.MethodName) ({ cls := "ShorePoolsModel", name := "floodHours", desc := "(I)I" } : Jvm.MethodName)) ∈ lw_all := lw_g (lw_at lw_m9 62 rfl) rfl
theorem q2084 : (Jvm.Cond.code ({ cls := "ShorePoolsModel", name := "floodHours", desc := "(I)I" } : Jvm.MethodName) prog_11_method_80_code (3 : Nat) (Option.some Jvm.ClassFile.FieldType.int)) ∈ lw_all := lw_g (lw_at lw_m9 63 rfl) rfl
theorem q2086 : (Jvm.Cond.instanceMethod ({ cls := "ShorePoolsModel", name := "floodHoursByCounting", desc := "(I)I" } : Jvm.MethodName)) ∈ lw_all := lw_g (lw_at lw_m9 65 rfl) rfl
theorem q2087 : (Jvm.Cond.selects "ShorePoolsModel" ({ cls := "ShorePoolsModel", name := "floodHoursByCounting", desc := "(I)I" } : Jvm.MethodName) ({ cls := "ShorePoolsModel", name := "floodHoursByCounting", desc := "(I)I" } : Jvm.MethodName)) ∈ lw_all := lw_g (lw_at lw_m9 66 rfl) rfl
theorem q2088 : (Jvm.Cond.code ({ cls := "ShorePoolsModel", name := "floodHoursByCounting", desc := "(I)I" } : Jvm.MethodName) prog_11_method_81_code (4 : Nat) (Option.some Jvm.ClassFile.FieldType.int)) ∈ lw_all := lw_g (lw_at lw_m9 67 rfl) rfl
theorem q2090 : (Jvm.Cond.instanceMethod ({ cls := "ShorePoolsModel", name := "limpets", desc := "()I" } : Jvm.MethodName)) ∈ lw_all := lw_g (lw_at lw_m9 69 rfl) rfl
theorem q2091 : (Jvm.Cond.selects "ShorePoolsModel" ({ cls := "ShorePoolsModel", name := "limpets", desc := "()I" } : Jvm.MethodName) ({ cls := "ShorePoolsModel", name := "limpets", desc := "()I" } : Jvm.MethodName)) ∈ lw_all := lw_g (lw_at lw_m9 70 rfl) rfl
theorem q2092 : (Jvm.Cond.code ({ cls := "ShorePoolsModel", name := "limpets", desc := "()I" } : Jvm.MethodName) prog_11_method_82_code (1 : Nat) (Option.some Jvm.ClassFile.FieldType.int)) ∈ lw_all := lw_g (lw_at lw_m9 71 rfl) rfl
theorem q2094 : (Jvm.Cond.instanceMethod ({ cls := "ShorePoolsModel", name := "livingLimpets", desc := "()I" } : Jvm.MethodName)) ∈ lw_all := lw_g (lw_at lw_m9 73 rfl) rfl
theorem q2095 : (Jvm.Cond.selects "ShorePoolsModel" ({ cls := "ShorePoolsModel", name := "livingLimpets", desc := "()I" } : Jvm.MethodName) ({ cls := "ShorePoolsModel", name := "livingLimpets", desc := "()I" } : Jvm.MethodName)) ∈ lw_all := lw_g (lw_at lw_m9 74 rfl) rfl
theorem q2096 : (Jvm.Cond.code ({ cls := "ShorePoolsModel", name := "livingLimpets", desc := "()I" } : Jvm.MethodName) prog_11_method_85_code (1 : Nat) (Option.some Jvm.ClassFile.FieldType.int)) ∈ lw_all := lw_g (lw_at lw_m9 75 rfl) rfl
theorem q2097 : (Jvm.Cond.methodLink "ShorePoolsModel" (204 : Nat) ({ cls := "ShorePoolsModel", name := "limpetsWith", desc := "(I)I" } : Jvm.MethodName)) ∈ lw_all := lw_g (lw_at lw_m9 76 rfl) rfl
theorem q2098 : (Jvm.Cond.privateMethod ({ cls := "ShorePoolsModel", name := "limpetsWith", desc := "(I)I" } : Jvm.MethodName)) ∈ lw_tbl := lw_at lw_m9 77 rfl
theorem q2099 : (Jvm.Cond.instanceMethod ({ cls := "ShorePoolsModel", name := "limpetsWith", desc := "(I)I" } : Jvm.MethodName)) ∈ lw_all := lw_g (lw_at lw_m9 78 rfl) rfl
theorem q2100 : (Jvm.Cond.code ({ cls := "ShorePoolsModel", name := "limpetsWith", desc := "(I)I" } : Jvm.MethodName) prog_11_method_83_code (4 : Nat) (Option.some Jvm.ClassFile.FieldType.int)) ∈ lw_all := lw_g (lw_at lw_m9 79 rfl) rfl
theorem q2102 : (Jvm.Cond.instanceMethod ({ cls := "ShorePoolsModel", name := "fateOfLimpet", desc := "(I)I" } : Jvm.MethodName)) ∈ lw_all := lw_g (lw_at lw_m9 81 rfl) rfl
theorem q2103 : (Jvm.Cond.selects "ShorePoolsModel" ({ cls := "ShorePoolsModel", name := "fateOfLimpet", desc := "(I)I" } : Jvm.MethodName) ({ cls := "ShorePoolsModel", name := "fateOfLimpet", desc := "(I)I" } : Jvm.MethodName)) ∈ lw_all := lw_g (lw_at lw_m9 82 rfl) rfl
theorem q2104 : (Jvm.Cond.code ({ cls := "ShorePoolsModel", name := "fateOfLimpet", desc := "(I)I" } : Jvm.MethodName) prog_11_method_87_code (2 : Nat) (Option.some Jvm.ClassFile.FieldType.int)) ∈ lw_all := lw_g (lw_at lw_m9 83 rfl) rfl
theorem q2105 : (Jvm.Cond.methodLink "ShorePoolsModel" (210 : Nat) ({ cls := "ShorePoolsModel", name := "ofLimpet", desc := "(II)I" } : Jvm.MethodName)) ∈ lw_all := lw_g (lw_at lw_m9 84 rfl) rfl
theorem q2106 : (Jvm.Cond.privateMethod ({ cls := "ShorePoolsModel", name := "ofLimpet", desc := "(II)I" } : Jvm.MethodName)) ∈ lw_tbl := lw_at lw_m9 85 rfl
theorem q2107 : (Jvm.Cond.instanceMethod ({ cls := "ShorePoolsModel", name := "ofLimpet", desc := "(II)I" } : Jvm.MethodName)) ∈ lw_all := lw_g (lw_at lw_m9 86 rfl) rfl
theorem q2108 : (Jvm.Cond.code ({ cls := "ShorePoolsModel", name := "ofLimpet", desc := "(II)I" } : Jvm.MethodName) prog_11_method_86_code (3 : Nat) (Option.some Jvm.ClassFile.FieldType.int)) ∈ lw_all := lw_g (lw_at lw_m9 87 rfl) rfl
theorem q2109 : (Jvm.Cond.methodLink "ShorePoolsModel" (207 : Nat) ({ cls := "ShorePoolsModel", name := "isLimpet", desc := "(I)Z" } : Jvm.MethodName)) ∈ lw_all := lw_g (lw_at lw_m9 88 rfl) rfl
theorem q2110 : (Jvm.Cond.privateMethod ({ cls := "ShorePoolsModel", name := "isLimpet", desc := "(I)Z" } : Jvm.MethodName)) ∈ lw_tbl := lw_at lw_m9 89 rfl
theorem q2111 : (Jvm.Cond.instanceMethod ({ cls := "ShorePoolsModel", name := "isLimpet", desc := "(I)Z" } : Jvm.MethodName)) ∈ lw_all := lw_g (lw_at lw_m9 90 rfl) rfl
theorem q2112 : (Jvm.Cond.code ({ cls := "ShorePoolsModel", name := "isLimpet", desc := "(I)Z" } : Jvm.MethodName) prog_11_method_6_code (2 : Nat) (Option.some Jvm.ClassFile.FieldType.boolean)) ∈ lw_all := lw_g (lw_at lw_m9 91 rfl) rfl
theorem q2114 : (Jvm.Cond.instanceMethod ({ cls := "ShorePoolsModel", name := "poolOfLimpet", desc := "(I)I" } : Jvm.MethodName)) ∈ lw_all := lw_g (lw_at lw_m9 93 rfl) rfl
theorem q2115 : (Jvm.Cond.selects "ShorePoolsModel" ({ cls := "ShorePoolsModel", name := "poolOfLimpet", desc := "(I)I" } : Jvm.MethodName) ({ cls := "ShorePoolsModel", name := "poolOfLimpet", desc := "(I)I" } : Jvm.MethodName)) ∈ lw_all := lw_g (lw_at lw_m9 94 rfl) rfl
theorem q2116 : (Jvm.Cond.code ({ cls := "ShorePoolsModel", name := "poolOfLimpet", desc := "(I)I" } : Jvm.MethodName) prog_11_method_88_code (2 : Nat) (Option.some Jvm.ClassFile.FieldType.int)) ∈ lw_all := lw_g (lw_at lw_m9 95 rfl) rfl
theorem q2118 : (Jvm.Cond.instanceMethod ({ cls := "ShorePoolsModel", name := "waterOf", desc := "(I)I" } : Jvm.MethodName)) ∈ lw_all := lw_g (lw_at lw_m9 97 rfl) rfl
theorem q2119 : (Jvm.Cond.selects "ShorePoolsModel" ({ cls := "ShorePoolsModel", name := "waterOf", desc := "(I)I" } : Jvm.MethodName) ({ cls := "ShorePoolsModel", name := "waterOf", desc := "(I)I" } : Jvm.MethodName)) ∈ lw_all := lw_g (lw_at lw_m9 98 rfl) rfl
theorem q2120 : (Jvm.Cond.code ({ cls := "ShorePoolsModel", name := "waterOf", desc := "(I)I" } : Jvm.MethodName) prog_11_method_89_code (2 : Nat) (Option.some Jvm.ClassFile.FieldType.int)) ∈ lw_all := lw_g (lw_at lw_m9 99 rfl) rfl
theorem q2122 : (Jvm.Cond.instanceMethod ({ cls := "ShorePoolsModel", name := "foodOf", desc := "(I)I" } : Jvm.MethodName)) ∈ lw_all := lw_g (lw_at lw_m9 101 rfl) rfl
theorem q2123 : (Jvm.Cond.selects "ShorePoolsModel" ({ cls := "ShorePoolsModel", name := "foodOf", desc := "(I)I" } : Jvm.MethodName) ({ cls := "ShorePoolsModel", name := "foodOf", desc := "(I)I" } : Jvm.MethodName)) ∈ lw_all := lw_g (lw_at lw_m9 102 rfl) rfl
theorem q2124 : (Jvm.Cond.code ({ cls := "ShorePoolsModel", name := "foodOf", desc := "(I)I" } : Jvm.MethodName) prog_11_method_90_code (2 : Nat) (Option.some Jvm.ClassFile.FieldType.int)) ∈ lw_all := lw_g (lw_at lw_m9 103 rfl) rfl
theorem q2126 : (Jvm.Cond.instanceMethod ({ cls := "ShorePoolsModel", name := "stepsOf", desc := "(I)I" } : Jvm.MethodName)) ∈ lw_all := lw_g (lw_at lw_m9 105 rfl) rfl
theorem q2127 : (Jvm.Cond.selects "ShorePoolsModel" ({ cls := "ShorePoolsModel", name := "stepsOf", desc := "(I)I" } : Jvm.MethodName) ({ cls := "ShorePoolsModel", name := "stepsOf", desc := "(I)I" } : Jvm.MethodName)) ∈ lw_all := lw_g (lw_at lw_m9 106 rfl) rfl
theorem q2128 : (Jvm.Cond.code ({ cls := "ShorePoolsModel", name := "stepsOf", desc := "(I)I" } : Jvm.MethodName) prog_11_method_91_code (2 : Nat) (Option.some Jvm.ClassFile.FieldType.int)) ∈ lw_all := lw_g (lw_at lw_m9 107 rfl) rfl
theorem q2130 : (Jvm.Cond.instanceMethod ({ cls := "ShorePoolsModel", name := "driest", desc := "()I" } : Jvm.MethodName)) ∈ lw_all := lw_g (lw_at lw_m9 109 rfl) rfl
theorem q2131 : (Jvm.Cond.selects "ShorePoolsModel" ({ cls := "ShorePoolsModel", name := "driest", desc := "()I" } : Jvm.MethodName) ({ cls := "ShorePoolsModel", name := "driest", desc := "()I" } : Jvm.MethodName)) ∈ lw_all := lw_g (lw_at lw_m9 110 rfl) rfl
theorem q2132 : (Jvm.Cond.code ({ cls := "ShorePoolsModel", name := "driest", desc := "()I" } : Jvm.MethodName) prog_11_method_92_code (6 : Nat) (Option.some Jvm.ClassFile.FieldType.int)) ∈ lw_all := lw_g (lw_at lw_m9 111 rfl) rfl
theorem q2134 : (Jvm.Cond.instanceMethod ({ cls := "ShorePoolsModel", name := "shells", desc := "()I" } : Jvm.MethodName)) ∈ lw_all := lw_g (lw_at lw_m9 113 rfl) rfl
theorem q2135 : (Jvm.Cond.selects "ShorePoolsModel" ({ cls := "ShorePoolsModel", name := "shells", desc := "()I" } : Jvm.MethodName) ({ cls := "ShorePoolsModel", name := "shells", desc := "()I" } : Jvm.MethodName)) ∈ lw_all := lw_g (lw_at lw_m9 114 rfl) rfl
theorem q2136 : (Jvm.Cond.code ({ cls := "ShorePoolsModel", name := "shells", desc := "()I" } : Jvm.MethodName) prog_11_method_93_code (1 : Nat) (Option.some Jvm.ClassFile.FieldType.int)) ∈ lw_all := lw_g (lw_at lw_m9 115 rfl) rfl
theorem q2138 : (Jvm.Cond.instanceMethod ({ cls := "ShorePoolsModel", name := "crabs", desc := "()I" } : Jvm.MethodName)) ∈ lw_all := lw_g (lw_at lw_m9 117 rfl) rfl
theorem q2139 : (Jvm.Cond.selects "ShorePoolsModel" ({ cls := "ShorePoolsModel", name := "crabs", desc := "()I" } : Jvm.MethodName) ({ cls := "ShorePoolsModel", name := "crabs", desc := "()I" } : Jvm.MethodName)) ∈ lw_all := lw_g (lw_at lw_m9 118 rfl) rfl
theorem q2140 : (Jvm.Cond.code ({ cls := "ShorePoolsModel", name := "crabs", desc := "()I" } : Jvm.MethodName) prog_11_method_94_code (1 : Nat) (Option.some Jvm.ClassFile.FieldType.int)) ∈ lw_all := lw_g (lw_at lw_m9 119 rfl) rfl
theorem q2142 : (Jvm.Cond.instanceMethod ({ cls := "ShorePoolsModel", name := "livingCrabs", desc := "()I" } : Jvm.MethodName)) ∈ lw_all := lw_g (lw_at lw_m9 121 rfl) rfl
theorem q2143 : (Jvm.Cond.selects "ShorePoolsModel" ({ cls := "ShorePoolsModel", name := "livingCrabs", desc := "()I" } : Jvm.MethodName) ({ cls := "ShorePoolsModel", name := "livingCrabs", desc := "()I" } : Jvm.MethodName)) ∈ lw_all := lw_g (lw_at lw_m9 122 rfl) rfl
theorem q2144 : (Jvm.Cond.code ({ cls := "ShorePoolsModel", name := "livingCrabs", desc := "()I" } : Jvm.MethodName) prog_11_method_95_code (1 : Nat) (Option.some Jvm.ClassFile.FieldType.int)) ∈ lw_all := lw_g (lw_at lw_m9 123 rfl) rfl
theorem q2145 : (Jvm.Cond.methodLink "ShorePoolsModel" (213 : Nat) ({ cls := "ShorePoolsModel", name := "crabsWith", desc := "(I)I" } : Jvm.MethodName)) ∈ lw_all := lw_g (lw_at lw_m9 124 rfl) rfl
theorem q2146 : (Jvm.Cond.privateMethod ({ cls := "ShorePoolsModel", name := "crabsWith", desc := "(I)I" } : Jvm.MethodName)) ∈ lw_tbl := lw_at lw_m9 125 rfl
theorem q2147 : (Jvm.Cond.instanceMethod ({ cls := "ShorePoolsModel", name := "crabsWith", desc := "(I)I" } : Jvm.MethodName)) ∈ lw_all := lw_g (lw_at lw_m9 126 rfl) rfl
theorem q2148 : (Jvm.Cond.code ({ cls := "ShorePoolsModel", name := "crabsWith", desc := "(I)I" } : Jvm.MethodName) prog_11_method_84_code (4 : Nat) (Option.some Jvm.ClassFile.FieldType.int)) ∈ lw_all := lw_g (lw_at lw_m9 127 rfl) rfl
theorem q2150 : (Jvm.Cond.instanceMethod ({ cls := "ShorePoolsModel", name := "wornByShells", desc := "()I" } : Jvm.MethodName)) ∈ lw_all := lw_g (lw_at lw_m9 129 rfl) rfl
theorem q2151 : (Jvm.Cond.selects "ShorePoolsModel" ({ cls := "ShorePoolsModel", name := "wornByShells", desc := "()I" } : Jvm.MethodName) ({ cls := "ShorePoolsModel", name := "wornByShells", desc := "()I" } : Jvm.MethodName)) ∈ lw_all := lw_g (lw_at lw_m9 130 rfl) rfl
theorem q2152 : (Jvm.Cond.code ({ cls := "ShorePoolsModel", name := "wornByShells", desc := "()I" } : Jvm.MethodName) prog_11_method_96_code (3 : Nat) (Option.some Jvm.ClassFile.FieldType.int)) ∈ lw_all := lw_g (lw_at lw_m9 131 rfl) rfl
theorem q2154 : (Jvm.Cond.instanceMethod ({ cls := "ShorePoolsModel", name := "wornByCrabs", desc := "()I" } : Jvm.MethodName)) ∈ lw_all := lw_g (lw_at lw_m9 133 rfl) rfl
theorem q2155 : (Jvm.Cond.selects "ShorePoolsModel" ({ cls := "ShorePoolsModel", name := "wornByCrabs", desc := "()I" } : Jvm.MethodName) ({ cls := "ShorePoolsModel", name := "wornByCrabs", desc := "()I" } : Jvm.MethodName)) ∈ lw_all := lw_g (lw_at lw_m9 134 rfl) rfl
theorem q2156 : (Jvm.Cond.code ({ cls := "ShorePoolsModel", name := "wornByCrabs", desc := "()I" } : Jvm.MethodName) prog_11_method_97_code (3 : Nat) (Option.some Jvm.ClassFile.FieldType.int)) ∈ lw_all := lw_g (lw_at lw_m9 135 rfl) rfl
theorem q2158 : (Jvm.Cond.instanceMethod ({ cls := "ShorePoolsModel", name := "sizeOfShell", desc := "(I)I" } : Jvm.MethodName)) ∈ lw_all := lw_g (lw_at lw_m9 137 rfl) rfl
theorem q2159 : (Jvm.Cond.selects "ShorePoolsModel" ({ cls := "ShorePoolsModel", name := "sizeOfShell", desc := "(I)I" } : Jvm.MethodName) ({ cls := "ShorePoolsModel", name := "sizeOfShell", desc := "(I)I" } : Jvm.MethodName)) ∈ lw_all := lw_g (lw_at lw_m9 138 rfl) rfl
theorem q2160 : (Jvm.Cond.code ({ cls := "ShorePoolsModel", name := "sizeOfShell", desc := "(I)I" } : Jvm.MethodName) prog_11_method_99_code (2 : Nat) (Option.some Jvm.ClassFile.FieldType.int)) ∈ lw_all := lw_g (lw_at lw_m9 139 rfl) rfl
theorem q2161 : (Jvm.Cond.methodLink "ShorePoolsModel" (216 : Nat) ({ cls := "ShorePoolsModel", name := "ofShell", desc := "(II)I" } : Jvm.MethodName)) ∈ lw_all := lw_g (lw_at lw_m9 140 rfl) rfl
theorem q2162 : (Jvm.Cond.privateMethod ({ cls := "ShorePoolsModel", name := "ofShell", desc := "(II)I" } : Jvm.MethodName)) ∈ lw_tbl := lw_at lw_m9 141 rfl
theorem q2163 : (Jvm.Cond.instanceMethod ({ cls := "ShorePoolsModel", name := "ofShell", desc := "(II)I" } : Jvm.MethodName)) ∈ lw_all := lw_g (lw_at lw_m9 142 rfl) rfl
theorem q2164 : (Jvm.Cond.code ({ cls := "ShorePoolsModel", name := "ofShell", desc := "(II)I" } : Jvm.MethodName) prog_11_method_98_code (3 : Nat) (Option.some Jvm.ClassFile.FieldType.int)) ∈ lw_all := lw_g (lw_at lw_m9 143 rfl) rfl
theorem q2166 : (Jvm.Cond.instanceMethod ({ cls := "ShorePoolsModel", name := "poolOfShell", desc := "(I)I" } : Jvm.MethodName)) ∈ lw_all := lw_g (lw_at lw_m9 145 rfl) rfl
theorem q2167 : (Jvm.Cond.selects "ShorePoolsModel" ({ cls := "ShorePoolsModel", name := "poolOfShell", desc := "(I)I" } : Jvm.MethodName) ({ cls := "ShorePoolsModel", name := "poolOfShell", desc := "(I)I" } : Jvm.MethodName)) ∈ lw_all := lw_g (lw_at lw_m9 146 rfl) rfl
theorem q2168 : (Jvm.Cond.code ({ cls := "ShorePoolsModel", name := "poolOfShell", desc := "(I)I" } : Jvm.MethodName) prog_11_method_100_code (2 : Nat) (Option.some Jvm.ClassFile.FieldType.int)) ∈ lw_all := lw_g (lw_at lw_m9 147 rfl) rfl
theorem q2170 : (Jvm.Cond.instanceMethod ({ cls := "ShorePoolsModel", name := "wearerOf", desc := "(I)I" } : Jvm.MethodName)) ∈ lw_all := lw_g (lw_at lw_m9 149 rfl) rfl
theorem q2171 : (Jvm.Cond.selects "ShorePoolsModel" ({ cls := "ShorePoolsModel", name := "wearerOf", desc := "(I)I" } : Jvm.MethodName) ({ cls := "ShorePoolsModel", name := "wearerOf", desc := "(I)I" } : Jvm.MethodName)) ∈ lw_all := lw_g (lw_at lw_m9 150 rfl) rfl
theorem q2172 : (Jvm.Cond.code ({ cls := "ShorePoolsModel", name := "wearerOf", desc := "(I)I" } : Jvm.MethodName) prog_11_method_101_code (2 : Nat) (Option.some Jvm.ClassFile.FieldType.int)) ∈ lw_all := lw_g (lw_at lw_m9 151 rfl) rfl
theorem q2174 : (Jvm.Cond.instanceMethod ({ cls := "ShorePoolsModel", name := "fateOfCrab", desc := "(I)I" } : Jvm.MethodName)) ∈ lw_all := lw_g (lw_at lw_m9 153 rfl) rfl
theorem q2175 : (Jvm.Cond.selects "ShorePoolsModel" ({ cls := "ShorePoolsModel", name := "fateOfCrab", desc := "(I)I" } : Jvm.MethodName) ({ cls := "ShorePoolsModel", name := "fateOfCrab", desc := "(I)I" } : Jvm.MethodName)) ∈ lw_all := lw_g (lw_at lw_m9 154 rfl) rfl
theorem q2176 : (Jvm.Cond.code ({ cls := "ShorePoolsModel", name := "fateOfCrab", desc := "(I)I" } : Jvm.MethodName) prog_11_method_103_code (2 : Nat) (Option.some Jvm.ClassFile.FieldType.int)) ∈ lw_all := lw_g (lw_at lw_m9 155 rfl) rfl
theorem q2177 : (Jvm.Cond.methodLink "ShorePoolsModel" (222 : Nat) ({ cls := "ShorePoolsModel", name := "ofCrab", desc := "(II)I" } : Jvm.MethodName)) ∈ lw_all := lw_g (lw_at lw_m9 156 rfl) rfl
theorem q2178 : (Jvm.Cond.privateMethod ({ cls := "ShorePoolsModel", name := "ofCrab", desc := "(II)I" } : Jvm.MethodName)) ∈ lw_tbl := lw_at lw_m9 157 rfl
theorem q2179 : (Jvm.Cond.instanceMethod ({ cls := "ShorePoolsModel", name := "ofCrab", desc := "(II)I" } : Jvm.MethodName)) ∈ lw_all := lw_g (lw_at lw_m9 158 rfl) rfl
theorem q2180 : (Jvm.Cond.code ({ cls := "ShorePoolsModel", name := "ofCrab", desc := "(II)I" } : Jvm.MethodName) prog_11_method_102_code (3 : Nat) (Option.some Jvm.ClassFile.FieldType.int)) ∈ lw_all := lw_g (lw_at lw_m9 159 rfl) rfl
theorem q2181 : (Jvm.Cond.methodLink "ShorePoolsModel" (219 : Nat) ({ cls := "ShorePoolsModel", name := "isCrab", desc := "(I)Z" } : Jvm.MethodName)) ∈ lw_all := lw_g (lw_at lw_m9 160 rfl) rfl
theorem q2182 : (Jvm.Cond.privateMethod ({ cls := "ShorePoolsModel", name := "isCrab", desc := "(I)Z" } : Jvm.MethodName)) ∈ lw_tbl := lw_at lw_m9 161 rfl
theorem q2183 : (Jvm.Cond.instanceMethod ({ cls := "ShorePoolsModel", name := "isCrab", desc := "(I)Z" } : Jvm.MethodName)) ∈ lw_all := lw_g (lw_at lw_m9 162 rfl) rfl
theorem q2184 : (Jvm.Cond.code ({ cls := "ShorePoolsModel", name := "isCrab", desc := "(I)Z" } : Jvm.MethodName) prog_11_method_8_code (2 : Nat) (Option.some Jvm.ClassFile.FieldType.boolean)) ∈ lw_all := lw_g (lw_at lw_m9 163 rfl) rfl
theorem q2186 : (Jvm.Cond.instanceMethod ({ cls := "ShorePoolsModel", name := "sizeOfCrab", desc := "(I)I" } : Jvm.MethodName)) ∈ lw_all := lw_g (lw_at lw_m9 165 rfl) rfl
theorem q2187 : (Jvm.Cond.selects "ShorePoolsModel" ({ cls := "ShorePoolsModel", name := "sizeOfCrab", desc := "(I)I" } : Jvm.MethodName) ({ cls := "ShorePoolsModel", name := "sizeOfCrab", desc := "(I)I" } : Jvm.MethodName)) ∈ lw_all := lw_g (lw_at lw_m9 166 rfl) rfl
theorem q2188 : (Jvm.Cond.code ({ cls := "ShorePoolsModel", name := "sizeOfCrab", desc := "(I)I" } : Jvm.MethodName) prog_11_method_104_code (2 : Nat) (Option.some Jvm.ClassFile.FieldType.int)) ∈ lw_all := lw_g (lw_at lw_m9 167 rfl) rfl
theorem q2190 : (Jvm.Cond.instanceMethod ({ cls := "ShorePoolsModel", name := "poolOfCrab", desc := "(I)I" } : Jvm.MethodName)) ∈ lw_all := lw_g (lw_at lw_m9 169 rfl) rfl
theorem q2191 : (Jvm.Cond.selects "ShorePoolsModel" ({ cls := "ShorePoolsModel", name := "poolOfCrab", desc := "(I)I" } : Jvm.MethodName) ({ cls := "ShorePoolsModel", name := "poolOfCrab", desc := "(I)I" } : Jvm.MethodName)) ∈ lw_all := lw_g (lw_at lw_m9 170 rfl) rfl
theorem q2192 : (Jvm.Cond.code ({ cls := "ShorePoolsModel", name := "poolOfCrab", desc := "(I)I" } : Jvm.MethodName) prog_11_method_105_code (2 : Nat) (Option.some Jvm.ClassFile.FieldType.int)) ∈ lw_all := lw_g (lw_at lw_m9 171 rfl) rfl
theorem q2194 : (Jvm.Cond.instanceMethod ({ cls := "ShorePoolsModel", name := "shellOf", desc := "(I)I" } : Jvm.MethodName)) ∈ lw_all := lw_g (lw_at lw_m9 173 rfl) rfl
theorem q2195 : (Jvm.Cond.selects "ShorePoolsModel" ({ cls := "ShorePoolsModel", name := "shellOf", desc := "(I)I" } : Jvm.MethodName) ({ cls := "ShorePoolsModel", name := "shellOf", desc := "(I)I" } : Jvm.MethodName)) ∈ lw_all := lw_g (lw_at lw_m9 174 rfl) rfl
theorem q2196 : (Jvm.Cond.code ({ cls := "ShorePoolsModel", name := "shellOf", desc := "(I)I" } : Jvm.MethodName) prog_11_method_106_code (2 : Nat) (Option.some Jvm.ClassFile.FieldType.int)) ∈ lw_all := lw_g (lw_at lw_m9 175 rfl) rfl
theorem q2198 : (Jvm.Cond.instanceMethod ({ cls := "ShorePoolsModel", name := "changesOf", desc := "(I)I" } : Jvm.MethodName)) ∈ lw_all := lw_g (lw_at lw_m9 177 rfl) rfl
theorem q2199 : (Jvm.Cond.selects "ShorePoolsModel" ({ cls := "ShorePoolsModel", name := "changesOf", desc := "(I)I" } : Jvm.MethodName) ({ cls := "ShorePoolsModel", name := "changesOf", desc := "(I)I" } : Jvm.MethodName)) ∈ lw_all := lw_g (lw_at lw_m9 178 rfl) rfl
theorem q2200 : (Jvm.Cond.code ({ cls := "ShorePoolsModel", name := "changesOf", desc := "(I)I" } : Jvm.MethodName) prog_11_method_107_code (2 : Nat) (Option.some Jvm.ClassFile.FieldType.int)) ∈ lw_all := lw_g (lw_at lw_m9 179 rfl) rfl
theorem q2202 : (Jvm.Cond.instanceMethod ({ cls := "ShorePoolsModel", name := "worth", desc := "(II)I" } : Jvm.MethodName)) ∈ lw_all := lw_g (lw_at lw_m9 181 rfl) rfl
theorem q2203 : (Jvm.Cond.selects "ShorePoolsModel" ({ cls := "ShorePoolsModel", name := "worth", desc := "(II)I" } : Jvm.MethodName) ({ cls := "ShorePoolsModel", name := "worth", desc := "(II)I" } : Jvm.MethodName)) ∈ lw_all := lw_g (lw_at lw_m9 182 rfl) rfl
theorem q2204 : (Jvm.Cond.code ({ cls := "ShorePoolsModel", name := "worth", desc := "(II)I" } : Jvm.MethodName) prog_11_method_108_code (3 : Nat) (Option.some Jvm.ClassFile.FieldType.int)) ∈ lw_all := lw_g (lw_at lw_m9 183 rfl) rfl
theorem q2206 : (Jvm.Cond.instanceMethod ({ cls := "ShorePoolsModel", name := "wouldTake", desc := "(I)I" } : Jvm.MethodName)) ∈ lw_all := lw_g (lw_at lw_m9 185 rfl) rfl
theorem q2207 : (Jvm.Cond.selects "ShorePoolsModel" ({ cls := "ShorePoolsModel", name := "wouldTake", desc := "(I)I" } : Jvm.MethodName) ({ cls := "ShorePoolsModel", name := "wouldTake", desc := "(I)I" } : Jvm.MethodName)) ∈ lw_all := lw_g (lw_at lw_m9 186 rfl) rfl
theorem q2208 : (Jvm.Cond.code ({ cls := "ShorePoolsModel", name := "wouldTake", desc := "(I)I" } : Jvm.MethodName) prog_11_method_109_code (2 : Nat) (Option.some Jvm.ClassFile.FieldType.int)) ∈ lw_all := lw_g (lw_at lw_m9 187 rfl) rfl
theorem q2210 : (Jvm.Cond.instanceMethod ({ cls := "ShorePoolsModel", name := "heronAt", desc := "()I" } : Jvm.MethodName)) ∈ lw_all := lw_g (lw_at lw_m9 189 rfl) rfl
theorem q2211 : (Jvm.Cond.selects "ShorePoolsModel" ({ cls := "ShorePoolsModel", name := "heronAt", desc := "()I" } : Jvm.MethodName) ({ cls := "ShorePoolsModel", name := "heronAt", desc := "()I" } : Jvm.MethodName)) ∈ lw_all := lw_g (lw_at lw_m9 190 rfl) rfl
theorem q2212 : (Jvm.Cond.code ({ cls := "ShorePoolsModel", name := "heronAt", desc := "()I" } : Jvm.MethodName) prog_11_method_110_code (1 : Nat) (Option.some Jvm.ClassFile.FieldType.int)) ∈ lw_all := lw_g (lw_at lw_m9 191 rfl) rfl
theorem q2214 : (Jvm.Cond.instanceMethod ({ cls := "ShorePoolsModel", name := "nextOfHeron", desc := "()I" } : Jvm.MethodName)) ∈ lw_all := lw_g (lw_at lw_m9 193 rfl) rfl
theorem q2215 : (Jvm.Cond.selects "ShorePoolsModel" ({ cls := "ShorePoolsModel", name := "nextOfHeron", desc := "()I" } : Jvm.MethodName) ({ cls := "ShorePoolsModel", name := "nextOfHeron", desc := "()I" } : Jvm.MethodName)) ∈ lw_all := lw_g (lw_at lw_m9 194 rfl) rfl
theorem q2216 : (Jvm.Cond.code ({ cls := "ShorePoolsModel", name := "nextOfHeron", desc := "()I" } : Jvm.MethodName) prog_11_method_111_code (1 : Nat) (Option.some Jvm.ClassFile.FieldType.int)) ∈ lw_all := lw_g (lw_at lw_m9 195 rfl) rfl
theorem q2218 : (Jvm.Cond.instanceMethod ({ cls := "ShorePoolsModel", name := "preyIn", desc := "(I)I" } : Jvm.MethodName)) ∈ lw_all := lw_g (lw_at lw_m9 197 rfl) rfl
theorem q2219 : (Jvm.Cond.selects "ShorePoolsModel" ({ cls := "ShorePoolsModel", name := "preyIn", desc := "(I)I" } : Jvm.MethodName) ({ cls := "ShorePoolsModel", name := "preyIn", desc := "(I)I" } : Jvm.MethodName)) ∈ lw_all := lw_g (lw_at lw_m9 198 rfl) rfl
theorem q2220 : (Jvm.Cond.code ({ cls := "ShorePoolsModel", name := "preyIn", desc := "(I)I" } : Jvm.MethodName) prog_11_method_112_code (2 : Nat) (Option.some Jvm.ClassFile.FieldType.int)) ∈ lw_all := lw_g (lw_at lw_m9 199 rfl) rfl
theorem q2222 : (Jvm.Cond.instanceMethod ({ cls := "ShorePoolsModel", name := "taken", desc := "()I" } : Jvm.MethodName)) ∈ lw_all := lw_g (lw_at lw_m9 201 rfl) rfl
theorem q2223 : (Jvm.Cond.selects "ShorePoolsModel" ({ cls := "ShorePoolsModel", name := "taken", desc := "()I" } : Jvm.MethodName) ({ cls := "ShorePoolsModel", name := "taken", desc := "()I" } : Jvm.MethodName)) ∈ lw_all := lw_g (lw_at lw_m9 202 rfl) rfl
theorem q2224 : (Jvm.Cond.code ({ cls := "ShorePoolsModel", name := "taken", desc := "()I" } : Jvm.MethodName) prog_11_method_113_code (1 : Nat) (Option.some Jvm.ClassFile.FieldType.int)) ∈ lw_all := lw_g (lw_at lw_m9 203 rfl) rfl
theorem q2226 : (Jvm.Cond.instanceMethod ({ cls := "ShorePoolsModel", name := "takenByFates", desc := "()I" } : Jvm.MethodName)) ∈ lw_all := lw_g (lw_at lw_m9 205 rfl) rfl
theorem q2227 : (Jvm.Cond.selects "ShorePoolsModel" ({ cls := "ShorePoolsModel", name := "takenByFates", desc := "()I" } : Jvm.MethodName) ({ cls := "ShorePoolsModel", name := "takenByFates", desc := "()I" } : Jvm.MethodName)) ∈ lw_all := lw_g (lw_at lw_m9 206 rfl) rfl
theorem q2228 : (Jvm.Cond.code ({ cls := "ShorePoolsModel", name := "takenByFates", desc := "()I" } : Jvm.MethodName) prog_11_method_114_code (1 : Nat) (Option.some Jvm.ClassFile.FieldType.int)) ∈ lw_all := lw_g (lw_at lw_m9 207 rfl) rfl
theorem q2230 : (Jvm.Cond.instanceMethod ({ cls := "ShorePoolsModel", name := "chainBy", desc := "(II)I" } : Jvm.MethodName)) ∈ lw_all := lw_g (lw_at lw_m9 209 rfl) rfl
theorem q2231 : (Jvm.Cond.selects "ShorePoolsModel" ({ cls := "ShorePoolsModel", name := "chainBy", desc := "(II)I" } : Jvm.MethodName) ({ cls := "ShorePoolsModel", name := "chainBy", desc := "(II)I" } : Jvm.MethodName)) ∈ lw_all := lw_g (lw_at lw_m9 210 rfl) rfl
theorem q2232 : (Jvm.Cond.code ({ cls := "ShorePoolsModel", name := "chainBy", desc := "(II)I" } : Jvm.MethodName) prog_11_method_116_code (3 : Nat) (Option.some Jvm.ClassFile.FieldType.int)) ∈ lw_all := lw_g (lw_at lw_m9 211 rfl) rfl
theorem q2233 : (Jvm.Cond.methodLink "ShorePoolsModel" (225 : Nat) ({ cls := "ShorePoolsModel", name := "chain", desc := "(II)I" } : Jvm.MethodName)) ∈ lw_all := lw_g (lw_at lw_m9 212 rfl) rfl
theorem q2234 : (Jvm.Cond.privateMethod ({ cls := "ShorePoolsModel", name := "chain", desc := "(II)I" } : Jvm.MethodName)) ∈ lw_tbl := lw_at lw_m9 213 rfl
theorem q2235 : (Jvm.Cond.instanceMethod ({ cls := "ShorePoolsModel", name := "chain", desc := "(II)I" } : Jvm.MethodName)) ∈ lw_all := lw_g (lw_at lw_m9 214 rfl) rfl
theorem q2236 : (Jvm.Cond.code ({ cls := "ShorePoolsModel", name := "chain", desc := "(II)I" } : Jvm.MethodName) prog_11_method_115_code (3 : Nat) (Option.some Jvm.ClassFile.FieldType.int)) ∈ lw_all := lw_g (lw_at lw_m9 215 rfl) rfl
theorem q2238 : (Jvm.Cond.instanceMethod ({ cls := "ShorePoolsModel", name := "bestSize", desc := "(I)I" } : Jvm.MethodName)) ∈ lw_all := lw_g (lw_at lw_m9 217 rfl) rfl
theorem q2239 : (Jvm.Cond.selects "ShorePoolsModel" ({ cls := "ShorePoolsModel", name := "bestSize", desc := "(I)I" } : Jvm.MethodName) ({ cls := "ShorePoolsModel", name := "bestSize", desc := "(I)I" } : Jvm.MethodName)) ∈ lw_all := lw_g (lw_at lw_m9 218 rfl) rfl
theorem q2240 : (Jvm.Cond.code ({ cls := "ShorePoolsModel", name := "bestSize", desc := "(I)I" } : Jvm.MethodName) prog_11_method_117_code (6 : Nat) (Option.some Jvm.ClassFile.FieldType.int)) ∈ lw_all := lw_g (lw_at lw_m9 219 rfl) rfl
theorem q2242 : (Jvm.Cond.instanceMethod ({ cls := "ShorePoolsModel", name := "lostIn", desc := "(I)I" } : Jvm.MethodName)) ∈ lw_all := lw_g (lw_at lw_m9 221 rfl) rfl
theorem q2243 : (Jvm.Cond.selects "ShorePoolsModel" ({ cls := "ShorePoolsModel", name := "lostIn", desc := "(I)I" } : Jvm.MethodName) ({ cls := "ShorePoolsModel", name := "lostIn", desc := "(I)I" } : Jvm.MethodName)) ∈ lw_all := lw_g (lw_at lw_m9 222 rfl) rfl
theorem q2244 : (Jvm.Cond.code ({ cls := "ShorePoolsModel", name := "lostIn", desc := "(I)I" } : Jvm.MethodName) prog_11_method_119_code (2 : Nat) (Option.some Jvm.ClassFile.FieldType.int)) ∈ lw_all := lw_g (lw_at lw_m9 223 rfl) rfl
theorem q2245 : (Jvm.Cond.methodLink "ShorePoolsModel" (228 : Nat) ({ cls := "ShorePoolsModel", name := "hoursOf", desc := "(I)I" } : Jvm.MethodName)) ∈ lw_all := lw_g (lw_at lw_m9 224 rfl) rfl
theorem q2246 : (Jvm.Cond.privateMethod ({ cls := "ShorePoolsModel", name := "hoursOf", desc := "(I)I" } : Jvm.MethodName)) ∈ lw_tbl := lw_at lw_m9 225 rfl
theorem q2247 : (Jvm.Cond.instanceMethod ({ cls := "ShorePoolsModel", name := "hoursOf", desc := "(I)I" } : Jvm.MethodName)) ∈ lw_all := lw_g (lw_at lw_m9 226 rfl) rfl
theorem q2248 : (Jvm.Cond.code ({ cls := "ShorePoolsModel", name := "hoursOf", desc := "(I)I" } : Jvm.MethodName) prog_11_method_118_code (2 : Nat) (Option.some Jvm.ClassFile.FieldType.int)) ∈ lw_all := lw_g (lw_at lw_m9 227 rfl) rfl
theorem q2250 : (Jvm.Cond.instanceMethod ({ cls := "ShorePoolsModel", name := "hoursToLive", desc := "(I)I" } : Jvm.MethodName)) ∈ lw_all := lw_g (lw_at lw_m9 229 rfl) rfl
theorem q2251 : (Jvm.Cond.selects "ShorePoolsModel" ({ cls := "ShorePoolsModel", name := "hoursToLive", desc := "(I)I" } : Jvm.MethodName) ({ cls := "ShorePoolsModel", name := "hoursToLive", desc := "(I)I" } : Jvm.MethodName)) ∈ lw_all := lw_g (lw_at lw_m9 230 rfl) rfl
theorem q2252 : (Jvm.Cond.code ({ cls := "ShorePoolsModel", name := "hoursToLive", desc := "(I)I" } : Jvm.MethodName) prog_11_method_120_code (4 : Nat) (Option.some Jvm.ClassFile.FieldType.int)) ∈ lw_all := lw_g (lw_at lw_m9 231 rfl) rfl
theorem q2254 : (Jvm.Cond.instanceMethod ({ cls := "ShorePoolsModel", name := "hoursToChange", desc := "(I)I" } : Jvm.MethodName)) ∈ lw_all := lw_g (lw_at lw_m9 233 rfl) rfl
theorem q2255 : (Jvm.Cond.selects "ShorePoolsModel" ({ cls := "ShorePoolsModel", name := "hoursToChange", desc := "(I)I" } : Jvm.MethodName) ({ cls := "ShorePoolsModel", name := "hoursToChange", desc := "(I)I" } : Jvm.MethodName)) ∈ lw_all := lw_g (lw_at lw_m9 234 rfl) rfl
theorem q2256 : (Jvm.Cond.code ({ cls := "ShorePoolsModel", name := "hoursToChange", desc := "(I)I" } : Jvm.MethodName) prog_11_method_121_code (4 : Nat) (Option.some Jvm.ClassFile.FieldType.int)) ∈ lw_all := lw_g (lw_at lw_m9 235 rfl) rfl
theorem q2258 : (Jvm.Cond.instanceMethod ({ cls := "ShorePoolsModel", name := "mildestPause", desc := "()I" } : Jvm.MethodName)) ∈ lw_all := lw_g (lw_at lw_m9 237 rfl) rfl
theorem q2259 : (Jvm.Cond.selects "ShorePoolsModel" ({ cls := "ShorePoolsModel", name := "mildestPause", desc := "()I" } : Jvm.MethodName) ({ cls := "ShorePoolsModel", name := "mildestPause", desc := "()I" } : Jvm.MethodName)) ∈ lw_all := lw_g (lw_at lw_m9 238 rfl) rfl
theorem q2260 : (Jvm.Cond.code ({ cls := "ShorePoolsModel", name := "mildestPause", desc := "()I" } : Jvm.MethodName) prog_11_method_122_code (5 : Nat) (Option.some Jvm.ClassFile.FieldType.int)) ∈ lw_all := lw_g (lw_at lw_m9 239 rfl) rfl
theorem q2262 : (Jvm.Cond.instanceMethod ({ cls := "ShorePoolsModel", name := "recordedStates", desc := "()I" } : Jvm.MethodName)) ∈ lw_all := lw_g (lw_at lw_m10 1 rfl) rfl
theorem q2263 : (Jvm.Cond.selects "ShorePoolsModel" ({ cls := "ShorePoolsModel", name := "recordedStates", desc := "()I" } : Jvm.MethodName) ({ cls := "ShorePoolsModel", name := "recordedStates", desc := "()I" } : Jvm.MethodName)) ∈ lw_all := lw_g (lw_at lw_m10 2 rfl) rfl
theorem q2264 : (Jvm.Cond.code ({ cls := "ShorePoolsModel", name := "recordedStates", desc := "()I" } : Jvm.MethodName) prog_11_method_123_code (1 : Nat) (Option.some Jvm.ClassFile.FieldType.int)) ∈ lw_all := lw_g (lw_at lw_m10 3 rfl) rfl
theorem q2289 : (Jvm.Cond.castable "ShorePoolsModel" "java/lang/Object") ∈ lw_tbl := lw_at lw_m10 28 rfl
theorem in_X3 : ∀ w ∈ wsX30, w ∈ lw_all := lw_in wsX30 [1755, 1757, 1759, 1761, 1763, 1765, 1767, 1769, 1771, 1773, 1775, 1777, 1779] (by decide +kernel) (by decide +kernel)
