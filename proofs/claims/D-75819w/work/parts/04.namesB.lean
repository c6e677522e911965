/-! MailSessionsModel -/
set_option maxRecDepth 100000
def RX3 : String := "MailSessionsModel"
def TX3 : u_T := fun k => match k with
  | 0 => ("MailSessionsModel", "thrown", "I", false)
  | 1 => ("MailSessionsModel", "net", "[J", true)
  | 2 => ("MailSessionsModel", "draft", "[J", true)
  | 3 => ("MailSessionsModel", "row", "[J", false)
  | 4 => ("MailSessionsModel", "notices", "[I", true)
  | 5 => ("MailSessionsModel", "noticed", "I", false)
  | 6 => ("MailSessionsModel", "copied", "[I", true)
  | 7 => ("MailSessionsModel", "input", "[B", true)
  | 8 => ("MailSessionsModel", "inputSize", "I", false)
  | 9 => ("MailSessionsModel", "textSize", "I", false)
  | 10 => ("MailSessionsModel", "next", "I", false)
  | 11 => ("MailSessionsModel", "start", "I", false)
  | 12 => ("MailSessionsModel", "token", "I", false)
  | 13 => ("MailSessionsModel", "value", "I", false)
  | 14 => ("MailSessionsModel", "errorFound", "I", false)
  | 15 => ("MailSessionsModel", "errorPlace", "I", false)
  | 16 => ("MailSessionsModel", "hasLimit", "Z", false)
  | 17 => ("MailSessionsModel", "told", "I", false)
  | 18 => ("MailSessionsModel", "selects", "[I", true)
  | 19 => ("MailSessionsModel", "selectsToRead", "[Z", true)
  | 20 => ("MailSessionsModel", "asked", "I", false)
  | 21 => ("MailSessionsModel", "open", "I", false)
  | 22 => ("MailSessionsModel", "slots", "[J", true)
  | 23 => ("MailSessionsModel", "isKept", "[Z", true)
  | 24 => ("MailSessionsModel", "past", "[J", true)
  | 25 => ("MailSessionsModel", "remembered", "I", false)
  | 26 => ("MailSessionsModel", "output", "[B", true)
  | _ => ("MailSessionsModel", "outputSize", "I", false)
def tyX3 : Nat → FieldType := fun k => match k with
  | 0 => .int
  | 1 => .array .long
  | 2 => .array .long
  | 3 => .array .long
  | 4 => .array .int
  | 5 => .int
  | 6 => .array .int
  | 7 => .array .byte
  | 8 => .int
  | 9 => .int
  | 10 => .int
  | 11 => .int
  | 12 => .int
  | 13 => .int
  | 14 => .int
  | 15 => .int
  | 16 => .boolean
  | 17 => .int
  | 18 => .array .int
  | 19 => .array .boolean
  | 20 => .int
  | 21 => .int
  | 22 => .array .long
  | 23 => .array .boolean
  | 24 => .array .long
  | 25 => .int
  | 26 => .array .byte
  | _ => .int
abbrev wsX30 : List Cond := u_ws RX3 TX3 28
set_option maxRecDepth 100000 in
theorem nmX3 : ∀ a, a < 28 → ∀ b, b < 28 → a ≠ b → (TX3 a).2.1 ≠ (TX3 b).2.1 := by decide +kernel
set_option maxRecDepth 100000 in
theorem tyX3_ok : ∀ k, k < 28 → parseFieldDescriptor (TX3 k).2.2.1 = some (tyX3 k) := by decide +kernel
abbrev cX3_thrown : ByteArray := prog_13_method_1_code
def yX3_thrown : MethodName := ⟨RX3, "thrown", "()I"⟩
theorem dX3_thrown_0 : decode cX3_thrown 0 = .ok (.aload_n 0, 1) := by decide +kernel
theorem dX3_thrown_1 : decode cX3_thrown 1 = .ok (.getfield 3, 3) := by decide +kernel
theorem dX3_thrown_4 : decode cX3_thrown 4 = .ok (.ireturn, 1) := by decide +kernel
abbrev cX3_init : ByteArray := prog_13_method_7_code
def yX3_init : MethodName := ⟨RX3, "<init>", "()V"⟩
def dkwX3_init_4 : List UInt8 := [188, 11, 181, 0, 54, 42, 17, 46, 224, 188, 8, 181, 0, 57, 42, 180, 0, 17, 3, 20, 0, 60, 80, 177]
abbrev dktX3_init_4 : List UInt8 := dkwX3_init_4 ++ []
def dkwX3_init_3 : List UInt8 := [181, 0, 44, 42, 17, 6, 76, 188, 11, 181, 0, 48, 42, 5, 188, 4, 181, 0, 51, 42, 17, 18, 228]
abbrev dktX3_init_3 : List UInt8 := dkwX3_init_3 ++ dktX3_init_4
def dkwX3_init_2 : List UInt8 := [17, 2, 188, 188, 8, 181, 0, 34, 42, 2, 181, 0, 38, 42, 7, 188, 10, 181, 0, 41, 42, 7, 188, 4]
abbrev dktX3_init_2 : List UInt8 := dkwX3_init_2 ++ dktX3_init_3
def dkwX3_init_1 : List UInt8 := [180, 0, 17, 181, 0, 24, 42, 17, 15, 160, 188, 10, 181, 0, 27, 42, 16, 60, 188, 10, 181, 0, 31, 42]
abbrev dktX3_init_1 : List UInt8 := dkwX3_init_1 ++ dktX3_init_2
def dkwX3_init_0 : List UInt8 := [42, 183, 0, 11, 42, 17, 3, 38, 188, 11, 181, 0, 17, 42, 17, 3, 38, 188, 11, 181, 0, 21, 42, 42]
abbrev dktX3_init_0 : List UInt8 := dkwX3_init_0 ++ dktX3_init_1
theorem dksX3_init_0 : cX3_init.data.toList.drop 0 = dktX3_init_0 := by decide +kernel
theorem dksX3_init_1 : cX3_init.data.toList.drop 24 = dktX3_init_1 := dk_seg dksX3_init_0 24 rfl rfl
theorem dksX3_init_2 : cX3_init.data.toList.drop 48 = dktX3_init_2 := dk_seg dksX3_init_1 24 rfl rfl
theorem dksX3_init_3 : cX3_init.data.toList.drop 72 = dktX3_init_3 := dk_seg dksX3_init_2 24 rfl rfl
theorem dksX3_init_4 : cX3_init.data.toList.drop 95 = dktX3_init_4 := dk_seg dksX3_init_3 23 rfl rfl
theorem dX3_init_0 : decode cX3_init 0 = .ok (.aload_n 0, 1) := dk_42 (dk_at dksX3_init_0 0 rfl rfl)
theorem dX3_init_1 : decode cX3_init 1 = .ok (.invokespecial 11, 3) := dk_183 0 11 (dk_at dksX3_init_0 1 rfl rfl)
theorem dX3_init_4 : decode cX3_init 4 = .ok (.aload_n 0, 1) := dk_42 (dk_at dksX3_init_0 4 rfl rfl)
theorem dX3_init_5 : decode cX3_init 5 = .ok (.sipush 806, 3) := dk_17 3 38 (dk_at dksX3_init_0 5 rfl rfl)
theorem dX3_init_8 : decode cX3_init 8 = .ok (.newarray .long, 2) := dk_188_11 (dk_at dksX3_init_0 8 rfl rfl)
theorem dX3_init_10 : decode cX3_init 10 = .ok (.putfield 17, 3) := dk_181 0 17 (dk_at dksX3_init_0 10 rfl rfl)
theorem dX3_init_13 : decode cX3_init 13 = .ok (.aload_n 0, 1) := dk_42 (dk_at dksX3_init_0 13 rfl rfl)
theorem dX3_init_14 : decode cX3_init 14 = .ok (.sipush 806, 3) := dk_17 3 38 (dk_at dksX3_init_0 14 rfl rfl)
theorem dX3_init_17 : decode cX3_init 17 = .ok (.newarray .long, 2) := dk_188_11 (dk_at dksX3_init_0 17 rfl rfl)
theorem dX3_init_19 : decode cX3_init 19 = .ok (.putfield 21, 3) := dk_181 0 21 (dk_at dksX3_init_0 19 rfl rfl)
theorem dX3_init_22 : decode cX3_init 22 = .ok (.aload_n 0, 1) := dk_42 (dk_at dksX3_init_0 22 rfl rfl)
theorem dX3_init_23 : decode cX3_init 23 = .ok (.aload_n 0, 1) := dk_42 (dk_at dksX3_init_0 23 rfl rfl)
theorem dX3_init_24 : decode cX3_init 24 = .ok (.getfield 17, 3) := dk_180 0 17 (dk_at dksX3_init_1 0 rfl rfl)
theorem dX3_init_27 : decode cX3_init 27 = .ok (.putfield 24, 3) := dk_181 0 24 (dk_at dksX3_init_1 3 rfl rfl)
theorem dX3_init_30 : decode cX3_init 30 = .ok (.aload_n 0, 1) := dk_42 (dk_at dksX3_init_1 6 rfl rfl)
theorem dX3_init_31 : decode cX3_init 31 = .ok (.sipush 4000, 3) := dk_17 15 160 (dk_at dksX3_init_1 7 rfl rfl)
theorem dX3_init_34 : decode cX3_init 34 = .ok (.newarray .int, 2) := dk_188_10 (dk_at dksX3_init_1 10 rfl rfl)
theorem dX3_init_36 : decode cX3_init 36 = .ok (.putfield 27, 3) := dk_181 0 27 (dk_at dksX3_init_1 12 rfl rfl)
theorem dX3_init_39 : decode cX3_init 39 = .ok (.aload_n 0, 1) := dk_42 (dk_at dksX3_init_1 15 rfl rfl)
theorem dX3_init_40 : decode cX3_init 40 = .ok (.bipush 60, 2) := dk_16 60 (dk_at dksX3_init_1 16 rfl rfl)
theorem dX3_init_42 : decode cX3_init 42 = .ok (.newarray .int, 2) := dk_188_10 (dk_at dksX3_init_1 18 rfl rfl)
theorem dX3_init_44 : decode cX3_init 44 = .ok (.putfield 31, 3) := dk_181 0 31 (dk_at dksX3_init_1 20 rfl rfl)
theorem dX3_init_47 : decode cX3_init 47 = .ok (.aload_n 0, 1) := dk_42 (dk_at dksX3_init_1 23 rfl rfl)
theorem dX3_init_48 : decode cX3_init 48 = .ok (.sipush 700, 3) := dk_17 2 188 (dk_at dksX3_init_2 0 rfl rfl)
theorem dX3_init_51 : decode cX3_init 51 = .ok (.newarray .byte, 2) := dk_188_8 (dk_at dksX3_init_2 3 rfl rfl)
theorem dX3_init_53 : decode cX3_init 53 = .ok (.putfield 34, 3) := dk_181 0 34 (dk_at dksX3_init_2 5 rfl rfl)
theorem dX3_init_56 : decode cX3_init 56 = .ok (.aload_n 0, 1) := dk_42 (dk_at dksX3_init_2 8 rfl rfl)
theorem dX3_init_57 : decode cX3_init 57 = .ok (.iconst (-1), 1) := dk_2 (dk_at dksX3_init_2 9 rfl rfl)
theorem dX3_init_58 : decode cX3_init 58 = .ok (.putfield 38, 3) := dk_181 0 38 (dk_at dksX3_init_2 10 rfl rfl)
theorem dX3_init_61 : decode cX3_init 61 = .ok (.aload_n 0, 1) := dk_42 (dk_at dksX3_init_2 13 rfl rfl)
theorem dX3_init_62 : decode cX3_init 62 = .ok (.iconst 4, 1) := dk_7 (dk_at dksX3_init_2 14 rfl rfl)
theorem dX3_init_63 : decode cX3_init 63 = .ok (.newarray .int, 2) := dk_188_10 (dk_at dksX3_init_2 15 rfl rfl)
theorem dX3_init_65 : decode cX3_init 65 = .ok (.putfield 41, 3) := dk_181 0 41 (dk_at dksX3_init_2 17 rfl rfl)
theorem dX3_init_68 : decode cX3_init 68 = .ok (.aload_n 0, 1) := dk_42 (dk_at dksX3_init_2 20 rfl rfl)
theorem dX3_init_69 : decode cX3_init 69 = .ok (.iconst 4, 1) := dk_7 (dk_at dksX3_init_2 21 rfl rfl)
theorem dX3_init_70 : decode cX3_init 70 = .ok (.newarray .boolean, 2) := dk_188_4 (dk_at dksX3_init_2 22 rfl rfl)
theorem dX3_init_72 : decode cX3_init 72 = .ok (.putfield 44, 3) := dk_181 0 44 (dk_at dksX3_init_3 0 rfl rfl)
theorem dX3_init_75 : decode cX3_init 75 = .ok (.aload_n 0, 1) := dk_42 (dk_at dksX3_init_3 3 rfl rfl)
theorem dX3_init_76 : decode cX3_init 76 = .ok (.sipush 1612, 3) := dk_17 6 76 (dk_at dksX3_init_3 4 rfl rfl)
theorem dX3_init_79 : decode cX3_init 79 = .ok (.newarray .long, 2) := dk_188_11 (dk_at dksX3_init_3 7 rfl rfl)
theorem dX3_init_81 : decode cX3_init 81 = .ok (.putfield 48, 3) := dk_181 0 48 (dk_at dksX3_init_3 9 rfl rfl)
theorem dX3_init_84 : decode cX3_init 84 = .ok (.aload_n 0, 1) := dk_42 (dk_at dksX3_init_3 12 rfl rfl)
theorem dX3_init_85 : decode cX3_init 85 = .ok (.iconst 2, 1) := dk_5 (dk_at dksX3_init_3 13 rfl rfl)
theorem dX3_init_86 : decode cX3_init 86 = .ok (.newarray .boolean, 2) := dk_188_4 (dk_at dksX3_init_3 14 rfl rfl)
theorem dX3_init_88 : decode cX3_init 88 = .ok (.putfield 51, 3) := dk_181 0 51 (dk_at dksX3_init_3 16 rfl rfl)
theorem dX3_init_91 : decode cX3_init 91 = .ok (.aload_n 0, 1) := dk_42 (dk_at dksX3_init_3 19 rfl rfl)
theorem dX3_init_92 : decode cX3_init 92 = .ok (.sipush 4836, 3) := dk_17 18 228 (dk_at dksX3_init_3 20 rfl rfl)
theorem dX3_init_95 : decode cX3_init 95 = .ok (.newarray .long, 2) := dk_188_11 (dk_at dksX3_init_4 0 rfl rfl)
theorem dX3_init_97 : decode cX3_init 97 = .ok (.putfield 54, 3) := dk_181 0 54 (dk_at dksX3_init_4 2 rfl rfl)
theorem dX3_init_100 : decode cX3_init 100 = .ok (.aload_n 0, 1) := dk_42 (dk_at dksX3_init_4 5 rfl rfl)
theorem dX3_init_101 : decode cX3_init 101 = .ok (.sipush 12000, 3) := dk_17 46 224 (dk_at dksX3_init_4 6 rfl rfl)
theorem dX3_init_104 : decode cX3_init 104 = .ok (.newarray .byte, 2) := dk_188_8 (dk_at dksX3_init_4 9 rfl rfl)
theorem dX3_init_106 : decode cX3_init 106 = .ok (.putfield 57, 3) := dk_181 0 57 (dk_at dksX3_init_4 11 rfl rfl)
theorem dX3_init_109 : decode cX3_init 109 = .ok (.aload_n 0, 1) := dk_42 (dk_at dksX3_init_4 14 rfl rfl)
theorem dX3_init_110 : decode cX3_init 110 = .ok (.getfield 17, 3) := dk_180 0 17 (dk_at dksX3_init_4 15 rfl rfl)
theorem dX3_init_113 : decode cX3_init 113 = .ok (.iconst 0, 1) := dk_3 (dk_at dksX3_init_4 18 rfl rfl)
theorem dX3_init_114 : decode cX3_init 114 = .ok (.ldc2_w 60, 3) := dk_20 0 60 (dk_at dksX3_init_4 19 rfl rfl)
theorem dX3_init_117 : decode cX3_init 117 = .ok (.lastore, 1) := dk_80 (dk_at dksX3_init_4 22 rfl rfl)
theorem dX3_init_118 : decode cX3_init 118 = .ok (.return_, 1) := dk_177 (dk_at dksX3_init_4 23 rfl rfl)
abbrev cX3_select : ByteArray := prog_13_method_50_code
def yX3_select : MethodName := ⟨RX3, "select", "(IIZ)I"⟩
def dkwX3_select_3 : List UInt8 := [182, 0, 97, 172]
abbrev dktX3_select_3 : List UInt8 := dkwX3_select_3 ++ []
def dkwX3_select_2 : List UInt8 := [154, 0, 5, 3, 172, 42, 27, 182, 0, 196, 42, 27, 28, 29, 182, 0, 199, 42, 182, 0, 178, 42, 27]
abbrev dktX3_select_2 : List UInt8 := dkwX3_select_2 ++ dktX3_select_3
def dkwX3_select_1 : List UInt8 := [21, 4, 21, 4, 153, 0, 15, 42, 27, 182, 0, 162, 154, 0, 7, 4, 167, 0, 4, 3, 182, 0, 192]
abbrev dktX3_select_1 : List UInt8 := dkwX3_select_1 ++ dktX3_select_2
def dkwX3_select_0 : List UInt8 := [42, 27, 182, 0, 93, 153, 0, 15, 42, 28, 182, 0, 189, 153, 0, 7, 4, 167, 0, 4, 3, 54, 4, 42]
abbrev dktX3_select_0 : List UInt8 := dkwX3_select_0 ++ dktX3_select_1
theorem dksX3_select_0 : cX3_select.data.toList.drop 0 = dktX3_select_0 := by decide +kernel
theorem dksX3_select_1 : cX3_select.data.toList.drop 24 = dktX3_select_1 := dk_seg dksX3_select_0 24 rfl rfl
theorem dksX3_select_2 : cX3_select.data.toList.drop 47 = dktX3_select_2 := dk_seg dksX3_select_1 23 rfl rfl
theorem dksX3_select_3 : cX3_select.data.toList.drop 70 = dktX3_select_3 := dk_seg dksX3_select_2 23 rfl rfl
theorem dX3_select_0 : decode cX3_select 0 = .ok (.aload_n 0, 1) := dk_42 (dk_at dksX3_select_0 0 rfl rfl)
theorem dX3_select_1 : decode cX3_select 1 = .ok (.iload_n 1, 1) := dk_27 (dk_at dksX3_select_0 1 rfl rfl)
theorem dX3_select_2 : decode cX3_select 2 = .ok (.invokevirtual 93, 3) := dk_182 0 93 (dk_at dksX3_select_0 2 rfl rfl)
theorem dX3_select_5 : decode cX3_select 5 = .ok (.ifCond .eq 15, 3) := dk_153 0 15 (dk_at dksX3_select_0 5 rfl rfl)
theorem dX3_select_8 : decode cX3_select 8 = .ok (.aload_n 0, 1) := dk_42 (dk_at dksX3_select_0 8 rfl rfl)
theorem dX3_select_9 : decode cX3_select 9 = .ok (.iload_n 2, 1) := dk_28 (dk_at dksX3_select_0 9 rfl rfl)
theorem dX3_select_10 : decode cX3_select 10 = .ok (.invokevirtual 189, 3) := dk_182 0 189 (dk_at dksX3_select_0 10 rfl rfl)
theorem dX3_select_13 : decode cX3_select 13 = .ok (.ifCond .eq 7, 3) := dk_153 0 7 (dk_at dksX3_select_0 13 rfl rfl)
theorem dX3_select_16 : decode cX3_select 16 = .ok (.iconst 1, 1) := dk_4 (dk_at dksX3_select_0 16 rfl rfl)
theorem dX3_select_17 : decode cX3_select 17 = .ok (.goto 4, 3) := dk_167 0 4 (dk_at dksX3_select_0 17 rfl rfl)
theorem dX3_select_20 : decode cX3_select 20 = .ok (.iconst 0, 1) := dk_3 (dk_at dksX3_select_0 20 rfl rfl)
theorem dX3_select_21 : decode cX3_select 21 = .ok (.istore 4, 2) := dk_54 4 (dk_at dksX3_select_0 21 rfl rfl)
theorem dX3_select_23 : decode cX3_select 23 = .ok (.aload_n 0, 1) := dk_42 (dk_at dksX3_select_0 23 rfl rfl)
theorem dX3_select_24 : decode cX3_select 24 = .ok (.iload 4, 2) := dk_21 4 (dk_at dksX3_select_1 0 rfl rfl)
theorem dX3_select_26 : decode cX3_select 26 = .ok (.iload 4, 2) := dk_21 4 (dk_at dksX3_select_1 2 rfl rfl)
theorem dX3_select_28 : decode cX3_select 28 = .ok (.ifCond .eq 15, 3) := dk_153 0 15 (dk_at dksX3_select_1 4 rfl rfl)
theorem dX3_select_31 : decode cX3_select 31 = .ok (.aload_n 0, 1) := dk_42 (dk_at dksX3_select_1 7 rfl rfl)
theorem dX3_select_32 : decode cX3_select 32 = .ok (.iload_n 1, 1) := dk_27 (dk_at dksX3_select_1 8 rfl rfl)
theorem dX3_select_33 : decode cX3_select 33 = .ok (.invokevirtual 162, 3) := dk_182 0 162 (dk_at dksX3_select_1 9 rfl rfl)
theorem dX3_select_36 : decode cX3_select 36 = .ok (.ifCond .ne 7, 3) := dk_154 0 7 (dk_at dksX3_select_1 12 rfl rfl)
theorem dX3_select_39 : decode cX3_select 39 = .ok (.iconst 1, 1) := dk_4 (dk_at dksX3_select_1 15 rfl rfl)
theorem dX3_select_40 : decode cX3_select 40 = .ok (.goto 4, 3) := dk_167 0 4 (dk_at dksX3_select_1 16 rfl rfl)
theorem dX3_select_43 : decode cX3_select 43 = .ok (.iconst 0, 1) := dk_3 (dk_at dksX3_select_1 19 rfl rfl)
theorem dX3_select_44 : decode cX3_select 44 = .ok (.invokevirtual 192, 3) := dk_182 0 192 (dk_at dksX3_select_1 20 rfl rfl)
theorem dX3_select_47 : decode cX3_select 47 = .ok (.ifCond .ne 5, 3) := dk_154 0 5 (dk_at dksX3_select_2 0 rfl rfl)
theorem dX3_select_50 : decode cX3_select 50 = .ok (.iconst 0, 1) := dk_3 (dk_at dksX3_select_2 3 rfl rfl)
theorem dX3_select_51 : decode cX3_select 51 = .ok (.ireturn, 1) := dk_172 (dk_at dksX3_select_2 4 rfl rfl)
theorem dX3_select_52 : decode cX3_select 52 = .ok (.aload_n 0, 1) := dk_42 (dk_at dksX3_select_2 5 rfl rfl)
theorem dX3_select_53 : decode cX3_select 53 = .ok (.iload_n 1, 1) := dk_27 (dk_at dksX3_select_2 6 rfl rfl)
theorem dX3_select_54 : decode cX3_select 54 = .ok (.invokevirtual 196, 3) := dk_182 0 196 (dk_at dksX3_select_2 7 rfl rfl)
theorem dX3_select_57 : decode cX3_select 57 = .ok (.aload_n 0, 1) := dk_42 (dk_at dksX3_select_2 10 rfl rfl)
theorem dX3_select_58 : decode cX3_select 58 = .ok (.iload_n 1, 1) := dk_27 (dk_at dksX3_select_2 11 rfl rfl)
theorem dX3_select_59 : decode cX3_select 59 = .ok (.iload_n 2, 1) := dk_28 (dk_at dksX3_select_2 12 rfl rfl)
theorem dX3_select_60 : decode cX3_select 60 = .ok (.iload_n 3, 1) := dk_29 (dk_at dksX3_select_2 13 rfl rfl)
theorem dX3_select_61 : decode cX3_select 61 = .ok (.invokevirtual 199, 3) := dk_182 0 199 (dk_at dksX3_select_2 14 rfl rfl)
theorem dX3_select_64 : decode cX3_select 64 = .ok (.aload_n 0, 1) := dk_42 (dk_at dksX3_select_2 17 rfl rfl)
theorem dX3_select_65 : decode cX3_select 65 = .ok (.invokevirtual 178, 3) := dk_182 0 178 (dk_at dksX3_select_2 18 rfl rfl)
theorem dX3_select_68 : decode cX3_select 68 = .ok (.aload_n 0, 1) := dk_42 (dk_at dksX3_select_2 21 rfl rfl)
theorem dX3_select_69 : decode cX3_select 69 = .ok (.iload_n 1, 1) := dk_27 (dk_at dksX3_select_2 22 rfl rfl)
theorem dX3_select_70 : decode cX3_select 70 = .ok (.invokevirtual 97, 3) := dk_182 0 97 (dk_at dksX3_select_3 0 rfl rfl)
theorem dX3_select_73 : decode cX3_select 73 = .ok (.ireturn, 1) := dk_172 (dk_at dksX3_select_3 3 rfl rfl)
abbrev cX3_isSession : ByteArray := prog_13_method_12_code
def yX3_isSession : MethodName := ⟨RX3, "isSession", "(I)Z"⟩
def dkwX3_isSession_0 : List UInt8 := [27, 133, 9, 42, 182, 0, 74, 4, 100, 133, 184, 0, 70, 172]
abbrev dktX3_isSession_0 : List UInt8 := dkwX3_isSession_0 ++ []
theorem dksX3_isSession_0 : cX3_isSession.data.toList.drop 0 = dktX3_isSession_0 := by decide +kernel
theorem dX3_isSession_0 : decode cX3_isSession 0 = .ok (.iload_n 1, 1) := dk_27 (dk_at dksX3_isSession_0 0 rfl rfl)
theorem dX3_isSession_1 : decode cX3_isSession 1 = .ok (.i2l, 1) := dk_133 (dk_at dksX3_isSession_0 1 rfl rfl)
theorem dX3_isSession_2 : decode cX3_isSession 2 = .ok (.lconst 0, 1) := dk_9 (dk_at dksX3_isSession_0 2 rfl rfl)
theorem dX3_isSession_3 : decode cX3_isSession 3 = .ok (.aload_n 0, 1) := dk_42 (dk_at dksX3_isSession_0 3 rfl rfl)
theorem dX3_isSession_4 : decode cX3_isSession 4 = .ok (.invokevirtual 74, 3) := dk_182 0 74 (dk_at dksX3_isSession_0 4 rfl rfl)
theorem dX3_isSession_7 : decode cX3_isSession 7 = .ok (.iconst 1, 1) := dk_4 (dk_at dksX3_isSession_0 7 rfl rfl)
theorem dX3_isSession_8 : decode cX3_isSession 8 = .ok (.isub, 1) := dk_100 (dk_at dksX3_isSession_0 8 rfl rfl)
theorem dX3_isSession_9 : decode cX3_isSession 9 = .ok (.i2l, 1) := dk_133 (dk_at dksX3_isSession_0 9 rfl rfl)
theorem dX3_isSession_10 : decode cX3_isSession 10 = .ok (.invokestatic 70, 3) := dk_184 0 70 (dk_at dksX3_isSession_0 10 rfl rfl)
theorem dX3_isSession_13 : decode cX3_isSession 13 = .ok (.ireturn, 1) := dk_172 (dk_at dksX3_isSession_0 13 rfl rfl)
abbrev cX3_sessions : ByteArray := prog_13_method_10_code
def yX3_sessions : MethodName := ⟨RX3, "sessions", "()I"⟩
def dkwX3_sessions_0 : List UInt8 := [42, 5, 182, 0, 62, 172]
abbrev dktX3_sessions_0 : List UInt8 := dkwX3_sessions_0 ++ []
theorem dksX3_sessions_0 : cX3_sessions.data.toList.drop 0 = dktX3_sessions_0 := by decide +kernel
theorem dX3_sessions_0 : decode cX3_sessions 0 = .ok (.aload_n 0, 1) := dk_42 (dk_at dksX3_sessions_0 0 rfl rfl)
theorem dX3_sessions_1 : decode cX3_sessions 1 = .ok (.iconst 2, 1) := dk_5 (dk_at dksX3_sessions_0 1 rfl rfl)
theorem dX3_sessions_2 : decode cX3_sessions 2 = .ok (.invokevirtual 62, 3) := dk_182 0 62 (dk_at dksX3_sessions_0 2 rfl rfl)
theorem dX3_sessions_5 : decode cX3_sessions 5 = .ok (.ireturn, 1) := dk_172 (dk_at dksX3_sessions_0 5 rfl rfl)
abbrev cX3_get : ByteArray := prog_13_method_8_code
def yX3_get : MethodName := ⟨RX3, "get", "(I)I"⟩
def dkwX3_get_0 : List UInt8 := [42, 180, 0, 24, 27, 47, 136, 172]
abbrev dktX3_get_0 : List UInt8 := dkwX3_get_0 ++ []
theorem dksX3_get_0 : cX3_get.data.toList.drop 0 = dktX3_get_0 := by decide +kernel
theorem dX3_get_0 : decode cX3_get 0 = .ok (.aload_n 0, 1) := dk_42 (dk_at dksX3_get_0 0 rfl rfl)
theorem dX3_get_1 : decode cX3_get 1 = .ok (.getfield 24, 3) := dk_180 0 24 (dk_at dksX3_get_0 1 rfl rfl)
theorem dX3_get_4 : decode cX3_get 4 = .ok (.iload_n 1, 1) := dk_27 (dk_at dksX3_get_0 4 rfl rfl)
theorem dX3_get_5 : decode cX3_get 5 = .ok (.laload, 1) := dk_47 (dk_at dksX3_get_0 5 rfl rfl)
theorem dX3_get_6 : decode cX3_get 6 = .ok (.l2i, 1) := dk_136 (dk_at dksX3_get_0 6 rfl rfl)
theorem dX3_get_7 : decode cX3_get 7 = .ok (.ireturn, 1) := dk_172 (dk_at dksX3_get_0 7 rfl rfl)
abbrev cX3_in : ByteArray := prog_13_method_2_code
def yX3_in : MethodName := ⟨RX3, "in", "(JJJ)Z"⟩
def dkwX3_in_0 : List UInt8 := [30, 32, 148, 155, 0, 14, 30, 22, 4, 148, 157, 0, 7, 4, 167, 0, 4, 3, 172]
abbrev dktX3_in_0 : List UInt8 := dkwX3_in_0 ++ []
theorem dksX3_in_0 : cX3_in.data.toList.drop 0 = dktX3_in_0 := by decide +kernel
theorem dX3_in_0 : decode cX3_in 0 = .ok (.lload_n 0, 1) := dk_30 (dk_at dksX3_in_0 0 rfl rfl)
theorem dX3_in_1 : decode cX3_in 1 = .ok (.lload_n 2, 1) := dk_32 (dk_at dksX3_in_0 1 rfl rfl)
theorem dX3_in_2 : decode cX3_in 2 = .ok (.lcmp, 1) := dk_148 (dk_at dksX3_in_0 2 rfl rfl)
theorem dX3_in_3 : decode cX3_in 3 = .ok (.ifCond .lt 14, 3) := dk_155 0 14 (dk_at dksX3_in_0 3 rfl rfl)
theorem dX3_in_6 : decode cX3_in 6 = .ok (.lload_n 0, 1) := dk_30 (dk_at dksX3_in_0 6 rfl rfl)
theorem dX3_in_7 : decode cX3_in 7 = .ok (.lload 4, 2) := dk_22 4 (dk_at dksX3_in_0 7 rfl rfl)
theorem dX3_in_9 : decode cX3_in 9 = .ok (.lcmp, 1) := dk_148 (dk_at dksX3_in_0 9 rfl rfl)
theorem dX3_in_10 : decode cX3_in 10 = .ok (.ifCond .gt 7, 3) := dk_157 0 7 (dk_at dksX3_in_0 10 rfl rfl)
theorem dX3_in_13 : decode cX3_in 13 = .ok (.iconst 1, 1) := dk_4 (dk_at dksX3_in_0 13 rfl rfl)
theorem dX3_in_14 : decode cX3_in 14 = .ok (.goto 4, 3) := dk_167 0 4 (dk_at dksX3_in_0 14 rfl rfl)
theorem dX3_in_17 : decode cX3_in 17 = .ok (.iconst 0, 1) := dk_3 (dk_at dksX3_in_0 17 rfl rfl)
theorem dX3_in_18 : decode cX3_in 18 = .ok (.ireturn, 1) := dk_172 (dk_at dksX3_in_0 18 rfl rfl)
abbrev cX3_isBox : ByteArray := prog_13_method_11_code
def yX3_isBox : MethodName := ⟨RX3, "isBox", "(I)Z"⟩
def dkwX3_isBox_0 : List UInt8 := [27, 133, 9, 42, 182, 0, 66, 4, 100, 133, 184, 0, 70, 172]
abbrev dktX3_isBox_0 : List UInt8 := dkwX3_isBox_0 ++ []
theorem dksX3_isBox_0 : cX3_isBox.data.toList.drop 0 = dktX3_isBox_0 := by decide +kernel
theorem dX3_isBox_0 : decode cX3_isBox 0 = .ok (.iload_n 1, 1) := dk_27 (dk_at dksX3_isBox_0 0 rfl rfl)
theorem dX3_isBox_1 : decode cX3_isBox 1 = .ok (.i2l, 1) := dk_133 (dk_at dksX3_isBox_0 1 rfl rfl)
theorem dX3_isBox_2 : decode cX3_isBox 2 = .ok (.lconst 0, 1) := dk_9 (dk_at dksX3_isBox_0 2 rfl rfl)
theorem dX3_isBox_3 : decode cX3_isBox 3 = .ok (.aload_n 0, 1) := dk_42 (dk_at dksX3_isBox_0 3 rfl rfl)
theorem dX3_isBox_4 : decode cX3_isBox 4 = .ok (.invokevirtual 66, 3) := dk_182 0 66 (dk_at dksX3_isBox_0 4 rfl rfl)
theorem dX3_isBox_7 : decode cX3_isBox 7 = .ok (.iconst 1, 1) := dk_4 (dk_at dksX3_isBox_0 7 rfl rfl)
theorem dX3_isBox_8 : decode cX3_isBox 8 = .ok (.isub, 1) := dk_100 (dk_at dksX3_isBox_0 8 rfl rfl)
theorem dX3_isBox_9 : decode cX3_isBox 9 = .ok (.i2l, 1) := dk_133 (dk_at dksX3_isBox_0 9 rfl rfl)
theorem dX3_isBox_10 : decode cX3_isBox 10 = .ok (.invokestatic 70, 3) := dk_184 0 70 (dk_at dksX3_isBox_0 10 rfl rfl)
theorem dX3_isBox_13 : decode cX3_isBox 13 = .ok (.ireturn, 1) := dk_172 (dk_at dksX3_isBox_0 13 rfl rfl)
abbrev cX3_boxes : ByteArray := prog_13_method_9_code
def yX3_boxes : MethodName := ⟨RX3, "boxes", "()I"⟩
def dkwX3_boxes_0 : List UInt8 := [42, 4, 182, 0, 62, 172]
abbrev dktX3_boxes_0 : List UInt8 := dkwX3_boxes_0 ++ []
theorem dksX3_boxes_0 : cX3_boxes.data.toList.drop 0 = dktX3_boxes_0 := by decide +kernel
theorem dX3_boxes_0 : decode cX3_boxes 0 = .ok (.aload_n 0, 1) := dk_42 (dk_at dksX3_boxes_0 0 rfl rfl)
theorem dX3_boxes_1 : decode cX3_boxes 1 = .ok (.iconst 1, 1) := dk_4 (dk_at dksX3_boxes_0 1 rfl rfl)
theorem dX3_boxes_2 : decode cX3_boxes 2 = .ok (.invokevirtual 62, 3) := dk_182 0 62 (dk_at dksX3_boxes_0 2 rfl rfl)
theorem dX3_boxes_5 : decode cX3_boxes 5 = .ok (.ireturn, 1) := dk_172 (dk_at dksX3_boxes_0 5 rfl rfl)
abbrev cX3_isIdle : ByteArray := prog_13_method_21_code
def yX3_isIdle : MethodName := ⟨RX3, "isIdle", "(I)Z"⟩
def dkwX3_isIdle_0 : List UInt8 := [42, 27, 184, 0, 84, 6, 96, 182, 0, 62, 4, 160, 0, 7, 4, 167, 0, 4, 3, 172]
abbrev dktX3_isIdle_0 : List UInt8 := dkwX3_isIdle_0 ++ []
theorem dksX3_isIdle_0 : cX3_isIdle.data.toList.drop 0 = dktX3_isIdle_0 := by decide +kernel
theorem dX3_isIdle_0 : decode cX3_isIdle 0 = .ok (.aload_n 0, 1) := dk_42 (dk_at dksX3_isIdle_0 0 rfl rfl)
theorem dX3_isIdle_1 : decode cX3_isIdle 1 = .ok (.iload_n 1, 1) := dk_27 (dk_at dksX3_isIdle_0 1 rfl rfl)
theorem dX3_isIdle_2 : decode cX3_isIdle 2 = .ok (.invokestatic 84, 3) := dk_184 0 84 (dk_at dksX3_isIdle_0 2 rfl rfl)
theorem dX3_isIdle_5 : decode cX3_isIdle 5 = .ok (.iconst 3, 1) := dk_6 (dk_at dksX3_isIdle_0 5 rfl rfl)
theorem dX3_isIdle_6 : decode cX3_isIdle 6 = .ok (.iadd, 1) := dk_96 (dk_at dksX3_isIdle_0 6 rfl rfl)
theorem dX3_isIdle_7 : decode cX3_isIdle 7 = .ok (.invokevirtual 62, 3) := dk_182 0 62 (dk_at dksX3_isIdle_0 7 rfl rfl)
theorem dX3_isIdle_10 : decode cX3_isIdle 10 = .ok (.iconst 1, 1) := dk_4 (dk_at dksX3_isIdle_0 10 rfl rfl)
theorem dX3_isIdle_11 : decode cX3_isIdle 11 = .ok (.if_icmp .ne 7, 3) := dk_160 0 7 (dk_at dksX3_isIdle_0 11 rfl rfl)
theorem dX3_isIdle_14 : decode cX3_isIdle 14 = .ok (.iconst 1, 1) := dk_4 (dk_at dksX3_isIdle_0 14 rfl rfl)
theorem dX3_isIdle_15 : decode cX3_isIdle 15 = .ok (.goto 4, 3) := dk_167 0 4 (dk_at dksX3_isIdle_0 15 rfl rfl)
theorem dX3_isIdle_18 : decode cX3_isIdle 18 = .ok (.iconst 0, 1) := dk_3 (dk_at dksX3_isIdle_0 18 rfl rfl)
theorem dX3_isIdle_19 : decode cX3_isIdle 19 = .ok (.ireturn, 1) := dk_172 (dk_at dksX3_isIdle_0 19 rfl rfl)
abbrev cX3_sessionAt : ByteArray := prog_13_method_14_code
def yX3_sessionAt : MethodName := ⟨RX3, "sessionAt", "(I)I"⟩
def dkwX3_sessionAt_0 : List UInt8 := [17, 1, 26, 17, 0, 131, 26, 104, 96, 172]
abbrev dktX3_sessionAt_0 : List UInt8 := dkwX3_sessionAt_0 ++ []
theorem dksX3_sessionAt_0 : cX3_sessionAt.data.toList.drop 0 = dktX3_sessionAt_0 := by decide +kernel
theorem dX3_sessionAt_0 : decode cX3_sessionAt 0 = .ok (.sipush 282, 3) := dk_17 1 26 (dk_at dksX3_sessionAt_0 0 rfl rfl)
theorem dX3_sessionAt_3 : decode cX3_sessionAt 3 = .ok (.sipush 131, 3) := dk_17 0 131 (dk_at dksX3_sessionAt_0 3 rfl rfl)
theorem dX3_sessionAt_6 : decode cX3_sessionAt 6 = .ok (.iload_n 0, 1) := dk_26 (dk_at dksX3_sessionAt_0 6 rfl rfl)
theorem dX3_sessionAt_7 : decode cX3_sessionAt 7 = .ok (.imul, 1) := dk_104 (dk_at dksX3_sessionAt_0 7 rfl rfl)
theorem dX3_sessionAt_8 : decode cX3_sessionAt 8 = .ok (.iadd, 1) := dk_96 (dk_at dksX3_sessionAt_0 8 rfl rfl)
theorem dX3_sessionAt_9 : decode cX3_sessionAt 9 = .ok (.ireturn, 1) := dk_172 (dk_at dksX3_sessionAt_0 9 rfl rfl)
abbrev cX3_passes2 : ByteArray := prog_13_method_5_code
def yX3_passes2 : MethodName := ⟨RX3, "passes2", "(ZZ)Z"⟩
def dkwX3_passes2_0 : List UInt8 := [42, 27, 28, 4, 182, 0, 7, 172]
abbrev dktX3_passes2_0 : List UInt8 := dkwX3_passes2_0 ++ []
theorem dksX3_passes2_0 : cX3_passes2.data.toList.drop 0 = dktX3_passes2_0 := by decide +kernel
theorem dX3_passes2_0 : decode cX3_passes2 0 = .ok (.aload_n 0, 1) := dk_42 (dk_at dksX3_passes2_0 0 rfl rfl)
theorem dX3_passes2_1 : decode cX3_passes2 1 = .ok (.iload_n 1, 1) := dk_27 (dk_at dksX3_passes2_0 1 rfl rfl)
theorem dX3_passes2_2 : decode cX3_passes2 2 = .ok (.iload_n 2, 1) := dk_28 (dk_at dksX3_passes2_0 2 rfl rfl)
theorem dX3_passes2_3 : decode cX3_passes2 3 = .ok (.iconst 1, 1) := dk_4 (dk_at dksX3_passes2_0 3 rfl rfl)
theorem dX3_passes2_4 : decode cX3_passes2 4 = .ok (.invokevirtual 7, 3) := dk_182 0 7 (dk_at dksX3_passes2_0 4 rfl rfl)
theorem dX3_passes2_7 : decode cX3_passes2 7 = .ok (.ireturn, 1) := dk_172 (dk_at dksX3_passes2_0 7 rfl rfl)
abbrev cX3_passes3 : ByteArray := prog_13_method_4_code
def yX3_passes3 : MethodName := ⟨RX3, "passes3", "(ZZZ)Z"⟩
def dkwX3_passes3_1 : List UInt8 := [167, 0, 4, 3, 181, 0, 3, 42, 180, 0, 3, 154, 0, 7, 4, 167, 0, 4, 3, 172]
abbrev dktX3_passes3_1 : List UInt8 := dkwX3_passes3_1 ++ []
def dkwX3_passes3_0 : List UInt8 := [42, 27, 154, 0, 7, 4, 167, 0, 20, 28, 154, 0, 7, 5, 167, 0, 12, 29, 154, 0, 7, 6]
abbrev dktX3_passes3_0 : List UInt8 := dkwX3_passes3_0 ++ dktX3_passes3_1
theorem dksX3_passes3_0 : cX3_passes3.data.toList.drop 0 = dktX3_passes3_0 := by decide +kernel
theorem dksX3_passes3_1 : cX3_passes3.data.toList.drop 22 = dktX3_passes3_1 := dk_seg dksX3_passes3_0 22 rfl rfl
theorem dX3_passes3_0 : decode cX3_passes3 0 = .ok (.aload_n 0, 1) := dk_42 (dk_at dksX3_passes3_0 0 rfl rfl)
theorem dX3_passes3_1 : decode cX3_passes3 1 = .ok (.iload_n 1, 1) := dk_27 (dk_at dksX3_passes3_0 1 rfl rfl)
theorem dX3_passes3_2 : decode cX3_passes3 2 = .ok (.ifCond .ne 7, 3) := dk_154 0 7 (dk_at dksX3_passes3_0 2 rfl rfl)
theorem dX3_passes3_5 : decode cX3_passes3 5 = .ok (.iconst 1, 1) := dk_4 (dk_at dksX3_passes3_0 5 rfl rfl)
theorem dX3_passes3_6 : decode cX3_passes3 6 = .ok (.goto 20, 3) := dk_167 0 20 (dk_at dksX3_passes3_0 6 rfl rfl)
theorem dX3_passes3_9 : decode cX3_passes3 9 = .ok (.iload_n 2, 1) := dk_28 (dk_at dksX3_passes3_0 9 rfl rfl)
theorem dX3_passes3_10 : decode cX3_passes3 10 = .ok (.ifCond .ne 7, 3) := dk_154 0 7 (dk_at dksX3_passes3_0 10 rfl rfl)
theorem dX3_passes3_13 : decode cX3_passes3 13 = .ok (.iconst 2, 1) := dk_5 (dk_at dksX3_passes3_0 13 rfl rfl)
theorem dX3_passes3_14 : decode cX3_passes3 14 = .ok (.goto 12, 3) := dk_167 0 12 (dk_at dksX3_passes3_0 14 rfl rfl)
theorem dX3_passes3_17 : decode cX3_passes3 17 = .ok (.iload_n 3, 1) := dk_29 (dk_at dksX3_passes3_0 17 rfl rfl)
theorem dX3_passes3_18 : decode cX3_passes3 18 = .ok (.ifCond .ne 7, 3) := dk_154 0 7 (dk_at dksX3_passes3_0 18 rfl rfl)
theorem dX3_passes3_21 : decode cX3_passes3 21 = .ok (.iconst 3, 1) := dk_6 (dk_at dksX3_passes3_0 21 rfl rfl)
theorem dX3_passes3_22 : decode cX3_passes3 22 = .ok (.goto 4, 3) := dk_167 0 4 (dk_at dksX3_passes3_1 0 rfl rfl)
theorem dX3_passes3_25 : decode cX3_passes3 25 = .ok (.iconst 0, 1) := dk_3 (dk_at dksX3_passes3_1 3 rfl rfl)
theorem dX3_passes3_26 : decode cX3_passes3 26 = .ok (.putfield 3, 3) := dk_181 0 3 (dk_at dksX3_passes3_1 4 rfl rfl)
theorem dX3_passes3_29 : decode cX3_passes3 29 = .ok (.aload_n 0, 1) := dk_42 (dk_at dksX3_passes3_1 7 rfl rfl)
theorem dX3_passes3_30 : decode cX3_passes3 30 = .ok (.getfield 3, 3) := dk_180 0 3 (dk_at dksX3_passes3_1 8 rfl rfl)
theorem dX3_passes3_33 : decode cX3_passes3 33 = .ok (.ifCond .ne 7, 3) := dk_154 0 7 (dk_at dksX3_passes3_1 11 rfl rfl)
theorem dX3_passes3_36 : decode cX3_passes3 36 = .ok (.iconst 1, 1) := dk_4 (dk_at dksX3_passes3_1 14 rfl rfl)
theorem dX3_passes3_37 : decode cX3_passes3 37 = .ok (.goto 4, 3) := dk_167 0 4 (dk_at dksX3_passes3_1 15 rfl rfl)
theorem dX3_passes3_40 : decode cX3_passes3 40 = .ok (.iconst 0, 1) := dk_3 (dk_at dksX3_passes3_1 18 rfl rfl)
theorem dX3_passes3_41 : decode cX3_passes3 41 = .ok (.ireturn, 1) := dk_172 (dk_at dksX3_passes3_1 19 rfl rfl)
abbrev cX3_begins : ByteArray := prog_13_method_45_code
def yX3_begins : MethodName := ⟨RX3, "begins", "(I)V"⟩
def dkwX3_begins_1 : List UInt8 := [80, 177]
abbrev dktX3_begins_1 : List UInt8 := dkwX3_begins_1 ++ []
def dkwX3_begins_0 : List UInt8 := [42, 182, 0, 175, 42, 3, 181, 0, 138, 42, 180, 0, 17, 27, 184, 0, 84, 16, 6, 96, 92, 47, 10, 97]
abbrev dktX3_begins_0 : List UInt8 := dkwX3_begins_0 ++ dktX3_begins_1
theorem dksX3_begins_0 : cX3_begins.data.toList.drop 0 = dktX3_begins_0 := by decide +kernel
theorem dksX3_begins_1 : cX3_begins.data.toList.drop 24 = dktX3_begins_1 := dk_seg dksX3_begins_0 24 rfl rfl
theorem dX3_begins_0 : decode cX3_begins 0 = .ok (.aload_n 0, 1) := dk_42 (dk_at dksX3_begins_0 0 rfl rfl)
theorem dX3_begins_1 : decode cX3_begins 1 = .ok (.invokevirtual 175, 3) := dk_182 0 175 (dk_at dksX3_begins_0 1 rfl rfl)
theorem dX3_begins_4 : decode cX3_begins 4 = .ok (.aload_n 0, 1) := dk_42 (dk_at dksX3_begins_0 4 rfl rfl)
theorem dX3_begins_5 : decode cX3_begins 5 = .ok (.iconst 0, 1) := dk_3 (dk_at dksX3_begins_0 5 rfl rfl)
theorem dX3_begins_6 : decode cX3_begins 6 = .ok (.putfield 138, 3) := dk_181 0 138 (dk_at dksX3_begins_0 6 rfl rfl)
theorem dX3_begins_9 : decode cX3_begins 9 = .ok (.aload_n 0, 1) := dk_42 (dk_at dksX3_begins_0 9 rfl rfl)
theorem dX3_begins_10 : decode cX3_begins 10 = .ok (.getfield 17, 3) := dk_180 0 17 (dk_at dksX3_begins_0 10 rfl rfl)
theorem dX3_begins_13 : decode cX3_begins 13 = .ok (.iload_n 1, 1) := dk_27 (dk_at dksX3_begins_0 13 rfl rfl)
theorem dX3_begins_14 : decode cX3_begins 14 = .ok (.invokestatic 84, 3) := dk_184 0 84 (dk_at dksX3_begins_0 14 rfl rfl)
theorem dX3_begins_17 : decode cX3_begins 17 = .ok (.bipush 6, 2) := dk_16 6 (dk_at dksX3_begins_0 17 rfl rfl)
theorem dX3_begins_19 : decode cX3_begins 19 = .ok (.iadd, 1) := dk_96 (dk_at dksX3_begins_0 19 rfl rfl)
theorem dX3_begins_20 : decode cX3_begins 20 = .ok (.dup2, 1) := dk_92 (dk_at dksX3_begins_0 20 rfl rfl)
theorem dX3_begins_21 : decode cX3_begins 21 = .ok (.laload, 1) := dk_47 (dk_at dksX3_begins_0 21 rfl rfl)
theorem dX3_begins_22 : decode cX3_begins 22 = .ok (.lconst 1, 1) := dk_10 (dk_at dksX3_begins_0 22 rfl rfl)
theorem dX3_begins_23 : decode cX3_begins 23 = .ok (.ladd, 1) := dk_97 (dk_at dksX3_begins_0 23 rfl rfl)
theorem dX3_begins_24 : decode cX3_begins 24 = .ok (.lastore, 1) := dk_80 (dk_at dksX3_begins_1 0 rfl rfl)
theorem dX3_begins_25 : decode cX3_begins 25 = .ok (.return_, 1) := dk_177 (dk_at dksX3_begins_1 1 rfl rfl)
abbrev cX3_remember : ByteArray := prog_13_method_152_code
def yX3_remember : MethodName := ⟨RX3, "remember", "()V"⟩
def dkwX3_remember_4 : List UInt8 := [181, 2, 4, 177]
abbrev dktX3_remember_4 : List UInt8 := dkwX3_remember_4 ++ []
def dkwX3_remember_3 : List UInt8 := [104, 27, 96, 42, 180, 0, 17, 27, 47, 80, 132, 1, 1, 167, 255, 225, 42, 89, 180, 2, 4, 4, 96]
abbrev dktX3_remember_3 : List UInt8 := dkwX3_remember_3 ++ dktX3_remember_4
def dkwX3_remember_2 : List UInt8 := [100, 181, 2, 4, 3, 60, 27, 17, 3, 38, 162, 0, 30, 42, 180, 0, 54, 17, 3, 38, 42, 180, 2, 4]
abbrev dktX3_remember_2 : List UInt8 := dkwX3_remember_2 ++ dktX3_remember_3
def dkwX3_remember_1 : List UInt8 := [27, 17, 3, 38, 100, 42, 180, 0, 54, 27, 47, 80, 132, 1, 1, 167, 255, 230, 42, 89, 180, 2, 4, 4]
abbrev dktX3_remember_1 : List UInt8 := dkwX3_remember_1 ++ dktX3_remember_2
def dkwX3_remember_0 : List UInt8 := [42, 180, 2, 4, 16, 6, 160, 0, 46, 17, 3, 38, 60, 27, 17, 18, 228, 162, 0, 25, 42, 180, 0, 54]
abbrev dktX3_remember_0 : List UInt8 := dkwX3_remember_0 ++ dktX3_remember_1
theorem dksX3_remember_0 : cX3_remember.data.toList.drop 0 = dktX3_remember_0 := by decide +kernel
theorem dksX3_remember_1 : cX3_remember.data.toList.drop 24 = dktX3_remember_1 := dk_seg dksX3_remember_0 24 rfl rfl
theorem dksX3_remember_2 : cX3_remember.data.toList.drop 48 = dktX3_remember_2 := dk_seg dksX3_remember_1 24 rfl rfl
theorem dksX3_remember_3 : cX3_remember.data.toList.drop 72 = dktX3_remember_3 := dk_seg dksX3_remember_2 24 rfl rfl
theorem dksX3_remember_4 : cX3_remember.data.toList.drop 95 = dktX3_remember_4 := dk_seg dksX3_remember_3 23 rfl rfl
theorem dX3_remember_0 : decode cX3_remember 0 = .ok (.aload_n 0, 1) := dk_42 (dk_at dksX3_remember_0 0 rfl rfl)
theorem dX3_remember_1 : decode cX3_remember 1 = .ok (.getfield 516, 3) := dk_180 2 4 (dk_at dksX3_remember_0 1 rfl rfl)
theorem dX3_remember_4 : decode cX3_remember 4 = .ok (.bipush 6, 2) := dk_16 6 (dk_at dksX3_remember_0 4 rfl rfl)
theorem dX3_remember_6 : decode cX3_remember 6 = .ok (.if_icmp .ne 46, 3) := dk_160 0 46 (dk_at dksX3_remember_0 6 rfl rfl)
theorem dX3_remember_9 : decode cX3_remember 9 = .ok (.sipush 806, 3) := dk_17 3 38 (dk_at dksX3_remember_0 9 rfl rfl)
theorem dX3_remember_12 : decode cX3_remember 12 = .ok (.istore_n 1, 1) := dk_60 (dk_at dksX3_remember_0 12 rfl rfl)
theorem dX3_remember_13 : decode cX3_remember 13 = .ok (.iload_n 1, 1) := dk_27 (dk_at dksX3_remember_0 13 rfl rfl)
theorem dX3_remember_14 : decode cX3_remember 14 = .ok (.sipush 4836, 3) := dk_17 18 228 (dk_at dksX3_remember_0 14 rfl rfl)
theorem dX3_remember_17 : decode cX3_remember 17 = .ok (.if_icmp .ge 25, 3) := dk_162 0 25 (dk_at dksX3_remember_0 17 rfl rfl)
theorem dX3_remember_20 : decode cX3_remember 20 = .ok (.aload_n 0, 1) := dk_42 (dk_at dksX3_remember_0 20 rfl rfl)
theorem dX3_remember_21 : decode cX3_remember 21 = .ok (.getfield 54, 3) := dk_180 0 54 (dk_at dksX3_remember_0 21 rfl rfl)
theorem dX3_remember_24 : decode cX3_remember 24 = .ok (.iload_n 1, 1) := dk_27 (dk_at dksX3_remember_1 0 rfl rfl)
theorem dX3_remember_25 : decode cX3_remember 25 = .ok (.sipush 806, 3) := dk_17 3 38 (dk_at dksX3_remember_1 1 rfl rfl)
theorem dX3_remember_28 : decode cX3_remember 28 = .ok (.isub, 1) := dk_100 (dk_at dksX3_remember_1 4 rfl rfl)
theorem dX3_remember_29 : decode cX3_remember 29 = .ok (.aload_n 0, 1) := dk_42 (dk_at dksX3_remember_1 5 rfl rfl)
theorem dX3_remember_30 : decode cX3_remember 30 = .ok (.getfield 54, 3) := dk_180 0 54 (dk_at dksX3_remember_1 6 rfl rfl)
theorem dX3_remember_33 : decode cX3_remember 33 = .ok (.iload_n 1, 1) := dk_27 (dk_at dksX3_remember_1 9 rfl rfl)
theorem dX3_remember_34 : decode cX3_remember 34 = .ok (.laload, 1) := dk_47 (dk_at dksX3_remember_1 10 rfl rfl)
theorem dX3_remember_35 : decode cX3_remember 35 = .ok (.lastore, 1) := dk_80 (dk_at dksX3_remember_1 11 rfl rfl)
theorem dX3_remember_36 : decode cX3_remember 36 = .ok (.iinc 1 1, 3) := dk_132 1 1 (dk_at dksX3_remember_1 12 rfl rfl)
theorem dX3_remember_39 : decode cX3_remember 39 = .ok (.goto (-26), 3) := dk_167 255 230 (dk_at dksX3_remember_1 15 rfl rfl)
theorem dX3_remember_42 : decode cX3_remember 42 = .ok (.aload_n 0, 1) := dk_42 (dk_at dksX3_remember_1 18 rfl rfl)
theorem dX3_remember_43 : decode cX3_remember 43 = .ok (.dup, 1) := dk_89 (dk_at dksX3_remember_1 19 rfl rfl)
theorem dX3_remember_44 : decode cX3_remember 44 = .ok (.getfield 516, 3) := dk_180 2 4 (dk_at dksX3_remember_1 20 rfl rfl)
theorem dX3_remember_47 : decode cX3_remember 47 = .ok (.iconst 1, 1) := dk_4 (dk_at dksX3_remember_1 23 rfl rfl)
theorem dX3_remember_48 : decode cX3_remember 48 = .ok (.isub, 1) := dk_100 (dk_at dksX3_remember_2 0 rfl rfl)
theorem dX3_remember_49 : decode cX3_remember 49 = .ok (.putfield 516, 3) := dk_181 2 4 (dk_at dksX3_remember_2 1 rfl rfl)
theorem dX3_remember_52 : decode cX3_remember 52 = .ok (.iconst 0, 1) := dk_3 (dk_at dksX3_remember_2 4 rfl rfl)
theorem dX3_remember_53 : decode cX3_remember 53 = .ok (.istore_n 1, 1) := dk_60 (dk_at dksX3_remember_2 5 rfl rfl)
theorem dX3_remember_54 : decode cX3_remember 54 = .ok (.iload_n 1, 1) := dk_27 (dk_at dksX3_remember_2 6 rfl rfl)
theorem dX3_remember_55 : decode cX3_remember 55 = .ok (.sipush 806, 3) := dk_17 3 38 (dk_at dksX3_remember_2 7 rfl rfl)
theorem dX3_remember_58 : decode cX3_remember 58 = .ok (.if_icmp .ge 30, 3) := dk_162 0 30 (dk_at dksX3_remember_2 10 rfl rfl)
theorem dX3_remember_61 : decode cX3_remember 61 = .ok (.aload_n 0, 1) := dk_42 (dk_at dksX3_remember_2 13 rfl rfl)
theorem dX3_remember_62 : decode cX3_remember 62 = .ok (.getfield 54, 3) := dk_180 0 54 (dk_at dksX3_remember_2 14 rfl rfl)
theorem dX3_remember_65 : decode cX3_remember 65 = .ok (.sipush 806, 3) := dk_17 3 38 (dk_at dksX3_remember_2 17 rfl rfl)
theorem dX3_remember_68 : decode cX3_remember 68 = .ok (.aload_n 0, 1) := dk_42 (dk_at dksX3_remember_2 20 rfl rfl)
theorem dX3_remember_69 : decode cX3_remember 69 = .ok (.getfield 516, 3) := dk_180 2 4 (dk_at dksX3_remember_2 21 rfl rfl)
theorem dX3_remember_72 : decode cX3_remember 72 = .ok (.imul, 1) := dk_104 (dk_at dksX3_remember_3 0 rfl rfl)
theorem dX3_remember_73 : decode cX3_remember 73 = .ok (.iload_n 1, 1) := dk_27 (dk_at dksX3_remember_3 1 rfl rfl)
theorem dX3_remember_74 : decode cX3_remember 74 = .ok (.iadd, 1) := dk_96 (dk_at dksX3_remember_3 2 rfl rfl)
theorem dX3_remember_75 : decode cX3_remember 75 = .ok (.aload_n 0, 1) := dk_42 (dk_at dksX3_remember_3 3 rfl rfl)
theorem dX3_remember_76 : decode cX3_remember 76 = .ok (.getfield 17, 3) := dk_180 0 17 (dk_at dksX3_remember_3 4 rfl rfl)
theorem dX3_remember_79 : decode cX3_remember 79 = .ok (.iload_n 1, 1) := dk_27 (dk_at dksX3_remember_3 7 rfl rfl)
theorem dX3_remember_80 : decode cX3_remember 80 = .ok (.laload, 1) := dk_47 (dk_at dksX3_remember_3 8 rfl rfl)
theorem dX3_remember_81 : decode cX3_remember 81 = .ok (.lastore, 1) := dk_80 (dk_at dksX3_remember_3 9 rfl rfl)
theorem dX3_remember_82 : decode cX3_remember 82 = .ok (.iinc 1 1, 3) := dk_132 1 1 (dk_at dksX3_remember_3 10 rfl rfl)
theorem dX3_remember_85 : decode cX3_remember 85 = .ok (.goto (-31), 3) := dk_167 255 225 (dk_at dksX3_remember_3 13 rfl rfl)
theorem dX3_remember_88 : decode cX3_remember 88 = .ok (.aload_n 0, 1) := dk_42 (dk_at dksX3_remember_3 16 rfl rfl)
theorem dX3_remember_89 : decode cX3_remember 89 = .ok (.dup, 1) := dk_89 (dk_at dksX3_remember_3 17 rfl rfl)
theorem dX3_remember_90 : decode cX3_remember 90 = .ok (.getfield 516, 3) := dk_180 2 4 (dk_at dksX3_remember_3 18 rfl rfl)
theorem dX3_remember_93 : decode cX3_remember 93 = .ok (.iconst 1, 1) := dk_4 (dk_at dksX3_remember_3 21 rfl rfl)
theorem dX3_remember_94 : decode cX3_remember 94 = .ok (.iadd, 1) := dk_96 (dk_at dksX3_remember_3 22 rfl rfl)
theorem dX3_remember_95 : decode cX3_remember 95 = .ok (.putfield 516, 3) := dk_181 2 4 (dk_at dksX3_remember_4 0 rfl rfl)
theorem dX3_remember_98 : decode cX3_remember 98 = .ok (.return_, 1) := dk_177 (dk_at dksX3_remember_4 3 rfl rfl)
abbrev cX3_takeBox : ByteArray := prog_13_method_49_code
def yX3_takeBox : MethodName := ⟨RX3, "takeBox", "(IIZ)V"⟩
def dkwX3_takeBox_2 : List UInt8 := [182, 0, 100, 162, 0, 16, 42, 27, 21, 4, 182, 0, 149, 132, 4, 1, 167, 255, 236, 177]
abbrev dktX3_takeBox_2 : List UInt8 := dkwX3_takeBox_2 ++ []
def dkwX3_takeBox_1 : List UInt8 := [184, 0, 84, 5, 96, 29, 153, 0, 7, 10, 167, 0, 4, 9, 80, 3, 54, 4, 21, 4, 42, 28]
abbrev dktX3_takeBox_1 : List UInt8 := dkwX3_takeBox_1 ++ dktX3_takeBox_2
def dkwX3_takeBox_0 : List UInt8 := [42, 27, 182, 0, 186, 42, 180, 0, 24, 27, 184, 0, 84, 4, 96, 28, 133, 80, 42, 180, 0, 24, 27]
abbrev dktX3_takeBox_0 : List UInt8 := dkwX3_takeBox_0 ++ dktX3_takeBox_1
theorem dksX3_takeBox_0 : cX3_takeBox.data.toList.drop 0 = dktX3_takeBox_0 := by decide +kernel
theorem dksX3_takeBox_1 : cX3_takeBox.data.toList.drop 23 = dktX3_takeBox_1 := dk_seg dksX3_takeBox_0 23 rfl rfl
theorem dksX3_takeBox_2 : cX3_takeBox.data.toList.drop 45 = dktX3_takeBox_2 := dk_seg dksX3_takeBox_1 22 rfl rfl
theorem dX3_takeBox_0 : decode cX3_takeBox 0 = .ok (.aload_n 0, 1) := dk_42 (dk_at dksX3_takeBox_0 0 rfl rfl)
theorem dX3_takeBox_1 : decode cX3_takeBox 1 = .ok (.iload_n 1, 1) := dk_27 (dk_at dksX3_takeBox_0 1 rfl rfl)
theorem dX3_takeBox_2 : decode cX3_takeBox 2 = .ok (.invokevirtual 186, 3) := dk_182 0 186 (dk_at dksX3_takeBox_0 2 rfl rfl)
theorem dX3_takeBox_5 : decode cX3_takeBox 5 = .ok (.aload_n 0, 1) := dk_42 (dk_at dksX3_takeBox_0 5 rfl rfl)
theorem dX3_takeBox_6 : decode cX3_takeBox 6 = .ok (.getfield 24, 3) := dk_180 0 24 (dk_at dksX3_takeBox_0 6 rfl rfl)
theorem dX3_takeBox_9 : decode cX3_takeBox 9 = .ok (.iload_n 1, 1) := dk_27 (dk_at dksX3_takeBox_0 9 rfl rfl)
theorem dX3_takeBox_10 : decode cX3_takeBox 10 = .ok (.invokestatic 84, 3) := dk_184 0 84 (dk_at dksX3_takeBox_0 10 rfl rfl)
theorem dX3_takeBox_13 : decode cX3_takeBox 13 = .ok (.iconst 1, 1) := dk_4 (dk_at dksX3_takeBox_0 13 rfl rfl)
theorem dX3_takeBox_14 : decode cX3_takeBox 14 = .ok (.iadd, 1) := dk_96 (dk_at dksX3_takeBox_0 14 rfl rfl)
theorem dX3_takeBox_15 : decode cX3_takeBox 15 = .ok (.iload_n 2, 1) := dk_28 (dk_at dksX3_takeBox_0 15 rfl rfl)
theorem dX3_takeBox_16 : decode cX3_takeBox 16 = .ok (.i2l, 1) := dk_133 (dk_at dksX3_takeBox_0 16 rfl rfl)
theorem dX3_takeBox_17 : decode cX3_takeBox 17 = .ok (.lastore, 1) := dk_80 (dk_at dksX3_takeBox_0 17 rfl rfl)
theorem dX3_takeBox_18 : decode cX3_takeBox 18 = .ok (.aload_n 0, 1) := dk_42 (dk_at dksX3_takeBox_0 18 rfl rfl)
theorem dX3_takeBox_19 : decode cX3_takeBox 19 = .ok (.getfield 24, 3) := dk_180 0 24 (dk_at dksX3_takeBox_0 19 rfl rfl)
theorem dX3_takeBox_22 : decode cX3_takeBox 22 = .ok (.iload_n 1, 1) := dk_27 (dk_at dksX3_takeBox_0 22 rfl rfl)
theorem dX3_takeBox_23 : decode cX3_takeBox 23 = .ok (.invokestatic 84, 3) := dk_184 0 84 (dk_at dksX3_takeBox_1 0 rfl rfl)
theorem dX3_takeBox_26 : decode cX3_takeBox 26 = .ok (.iconst 2, 1) := dk_5 (dk_at dksX3_takeBox_1 3 rfl rfl)
theorem dX3_takeBox_27 : decode cX3_takeBox 27 = .ok (.iadd, 1) := dk_96 (dk_at dksX3_takeBox_1 4 rfl rfl)
theorem dX3_takeBox_28 : decode cX3_takeBox 28 = .ok (.iload_n 3, 1) := dk_29 (dk_at dksX3_takeBox_1 5 rfl rfl)
theorem dX3_takeBox_29 : decode cX3_takeBox 29 = .ok (.ifCond .eq 7, 3) := dk_153 0 7 (dk_at dksX3_takeBox_1 6 rfl rfl)
theorem dX3_takeBox_32 : decode cX3_takeBox 32 = .ok (.lconst 1, 1) := dk_10 (dk_at dksX3_takeBox_1 9 rfl rfl)
theorem dX3_takeBox_33 : decode cX3_takeBox 33 = .ok (.goto 4, 3) := dk_167 0 4 (dk_at dksX3_takeBox_1 10 rfl rfl)
theorem dX3_takeBox_36 : decode cX3_takeBox 36 = .ok (.lconst 0, 1) := dk_9 (dk_at dksX3_takeBox_1 13 rfl rfl)
theorem dX3_takeBox_37 : decode cX3_takeBox 37 = .ok (.lastore, 1) := dk_80 (dk_at dksX3_takeBox_1 14 rfl rfl)
theorem dX3_takeBox_38 : decode cX3_takeBox 38 = .ok (.iconst 0, 1) := dk_3 (dk_at dksX3_takeBox_1 15 rfl rfl)
theorem dX3_takeBox_39 : decode cX3_takeBox 39 = .ok (.istore 4, 2) := dk_54 4 (dk_at dksX3_takeBox_1 16 rfl rfl)
theorem dX3_takeBox_41 : decode cX3_takeBox 41 = .ok (.iload 4, 2) := dk_21 4 (dk_at dksX3_takeBox_1 18 rfl rfl)
theorem dX3_takeBox_43 : decode cX3_takeBox 43 = .ok (.aload_n 0, 1) := dk_42 (dk_at dksX3_takeBox_1 20 rfl rfl)
theorem dX3_takeBox_44 : decode cX3_takeBox 44 = .ok (.iload_n 2, 1) := dk_28 (dk_at dksX3_takeBox_1 21 rfl rfl)
theorem dX3_takeBox_45 : decode cX3_takeBox 45 = .ok (.invokevirtual 100, 3) := dk_182 0 100 (dk_at dksX3_takeBox_2 0 rfl rfl)
theorem dX3_takeBox_48 : decode cX3_takeBox 48 = .ok (.if_icmp .ge 16, 3) := dk_162 0 16 (dk_at dksX3_takeBox_2 3 rfl rfl)
theorem dX3_takeBox_51 : decode cX3_takeBox 51 = .ok (.aload_n 0, 1) := dk_42 (dk_at dksX3_takeBox_2 6 rfl rfl)
theorem dX3_takeBox_52 : decode cX3_takeBox 52 = .ok (.iload_n 1, 1) := dk_27 (dk_at dksX3_takeBox_2 7 rfl rfl)
theorem dX3_takeBox_53 : decode cX3_takeBox 53 = .ok (.iload 4, 2) := dk_21 4 (dk_at dksX3_takeBox_2 8 rfl rfl)
theorem dX3_takeBox_55 : decode cX3_takeBox 55 = .ok (.invokevirtual 149, 3) := dk_182 0 149 (dk_at dksX3_takeBox_2 10 rfl rfl)
theorem dX3_takeBox_58 : decode cX3_takeBox 58 = .ok (.iinc 4 1, 3) := dk_132 4 1 (dk_at dksX3_takeBox_2 13 rfl rfl)
theorem dX3_takeBox_61 : decode cX3_takeBox 61 = .ok (.goto (-20), 3) := dk_167 255 236 (dk_at dksX3_takeBox_2 16 rfl rfl)
theorem dX3_takeBox_64 : decode cX3_takeBox 64 = .ok (.return_, 1) := dk_177 (dk_at dksX3_takeBox_2 19 rfl rfl)
abbrev cX3_leaveBox : ByteArray := prog_13_method_48_code
def yX3_leaveBox : MethodName := ⟨RX3, "leaveBox", "(I)V"⟩
def dkwX3_leaveBox_1 : List UInt8 := [80, 42, 180, 0, 24, 28, 7, 96, 9, 80, 42, 180, 0, 24, 28, 8, 96, 9, 80, 177]
abbrev dktX3_leaveBox_1 : List UInt8 := dkwX3_leaveBox_1 ++ []
def dkwX3_leaveBox_0 : List UInt8 := [27, 184, 0, 84, 61, 42, 180, 0, 24, 28, 4, 96, 20, 0, 184, 80, 42, 180, 0, 24, 28, 5, 96, 9]
abbrev dktX3_leaveBox_0 : List UInt8 := dkwX3_leaveBox_0 ++ dktX3_leaveBox_1
theorem dksX3_leaveBox_0 : cX3_leaveBox.data.toList.drop 0 = dktX3_leaveBox_0 := by decide +kernel
theorem dksX3_leaveBox_1 : cX3_leaveBox.data.toList.drop 24 = dktX3_leaveBox_1 := dk_seg dksX3_leaveBox_0 24 rfl rfl
theorem dX3_leaveBox_0 : decode cX3_leaveBox 0 = .ok (.iload_n 1, 1) := dk_27 (dk_at dksX3_leaveBox_0 0 rfl rfl)
theorem dX3_leaveBox_1 : decode cX3_leaveBox 1 = .ok (.invokestatic 84, 3) := dk_184 0 84 (dk_at dksX3_leaveBox_0 1 rfl rfl)
theorem dX3_leaveBox_4 : decode cX3_leaveBox 4 = .ok (.istore_n 2, 1) := dk_61 (dk_at dksX3_leaveBox_0 4 rfl rfl)
theorem dX3_leaveBox_5 : decode cX3_leaveBox 5 = .ok (.aload_n 0, 1) := dk_42 (dk_at dksX3_leaveBox_0 5 rfl rfl)
theorem dX3_leaveBox_6 : decode cX3_leaveBox 6 = .ok (.getfield 24, 3) := dk_180 0 24 (dk_at dksX3_leaveBox_0 6 rfl rfl)
theorem dX3_leaveBox_9 : decode cX3_leaveBox 9 = .ok (.iload_n 2, 1) := dk_28 (dk_at dksX3_leaveBox_0 9 rfl rfl)
theorem dX3_leaveBox_10 : decode cX3_leaveBox 10 = .ok (.iconst 1, 1) := dk_4 (dk_at dksX3_leaveBox_0 10 rfl rfl)
theorem dX3_leaveBox_11 : decode cX3_leaveBox 11 = .ok (.iadd, 1) := dk_96 (dk_at dksX3_leaveBox_0 11 rfl rfl)
theorem dX3_leaveBox_12 : decode cX3_leaveBox 12 = .ok (.ldc2_w 184, 3) := dk_20 0 184 (dk_at dksX3_leaveBox_0 12 rfl rfl)
theorem dX3_leaveBox_15 : decode cX3_leaveBox 15 = .ok (.lastore, 1) := dk_80 (dk_at dksX3_leaveBox_0 15 rfl rfl)
theorem dX3_leaveBox_16 : decode cX3_leaveBox 16 = .ok (.aload_n 0, 1) := dk_42 (dk_at dksX3_leaveBox_0 16 rfl rfl)
theorem dX3_leaveBox_17 : decode cX3_leaveBox 17 = .ok (.getfield 24, 3) := dk_180 0 24 (dk_at dksX3_leaveBox_0 17 rfl rfl)
theorem dX3_leaveBox_20 : decode cX3_leaveBox 20 = .ok (.iload_n 2, 1) := dk_28 (dk_at dksX3_leaveBox_0 20 rfl rfl)
theorem dX3_leaveBox_21 : decode cX3_leaveBox 21 = .ok (.iconst 2, 1) := dk_5 (dk_at dksX3_leaveBox_0 21 rfl rfl)
theorem dX3_leaveBox_22 : decode cX3_leaveBox 22 = .ok (.iadd, 1) := dk_96 (dk_at dksX3_leaveBox_0 22 rfl rfl)
theorem dX3_leaveBox_23 : decode cX3_leaveBox 23 = .ok (.lconst 0, 1) := dk_9 (dk_at dksX3_leaveBox_0 23 rfl rfl)
theorem dX3_leaveBox_24 : decode cX3_leaveBox 24 = .ok (.lastore, 1) := dk_80 (dk_at dksX3_leaveBox_1 0 rfl rfl)
theorem dX3_leaveBox_25 : decode cX3_leaveBox 25 = .ok (.aload_n 0, 1) := dk_42 (dk_at dksX3_leaveBox_1 1 rfl rfl)
theorem dX3_leaveBox_26 : decode cX3_leaveBox 26 = .ok (.getfield 24, 3) := dk_180 0 24 (dk_at dksX3_leaveBox_1 2 rfl rfl)
theorem dX3_leaveBox_29 : decode cX3_leaveBox 29 = .ok (.iload_n 2, 1) := dk_28 (dk_at dksX3_leaveBox_1 5 rfl rfl)
theorem dX3_leaveBox_30 : decode cX3_leaveBox 30 = .ok (.iconst 4, 1) := dk_7 (dk_at dksX3_leaveBox_1 6 rfl rfl)
theorem dX3_leaveBox_31 : decode cX3_leaveBox 31 = .ok (.iadd, 1) := dk_96 (dk_at dksX3_leaveBox_1 7 rfl rfl)
theorem dX3_leaveBox_32 : decode cX3_leaveBox 32 = .ok (.lconst 0, 1) := dk_9 (dk_at dksX3_leaveBox_1 8 rfl rfl)
theorem dX3_leaveBox_33 : decode cX3_leaveBox 33 = .ok (.lastore, 1) := dk_80 (dk_at dksX3_leaveBox_1 9 rfl rfl)
theorem dX3_leaveBox_34 : decode cX3_leaveBox 34 = .ok (.aload_n 0, 1) := dk_42 (dk_at dksX3_leaveBox_1 10 rfl rfl)
theorem dX3_leaveBox_35 : decode cX3_leaveBox 35 = .ok (.getfield 24, 3) := dk_180 0 24 (dk_at dksX3_leaveBox_1 11 rfl rfl)
theorem dX3_leaveBox_38 : decode cX3_leaveBox 38 = .ok (.iload_n 2, 1) := dk_28 (dk_at dksX3_leaveBox_1 14 rfl rfl)
theorem dX3_leaveBox_39 : decode cX3_leaveBox 39 = .ok (.iconst 5, 1) := dk_8 (dk_at dksX3_leaveBox_1 15 rfl rfl)
theorem dX3_leaveBox_40 : decode cX3_leaveBox 40 = .ok (.iadd, 1) := dk_96 (dk_at dksX3_leaveBox_1 16 rfl rfl)
theorem dX3_leaveBox_41 : decode cX3_leaveBox 41 = .ok (.lconst 0, 1) := dk_9 (dk_at dksX3_leaveBox_1 17 rfl rfl)
theorem dX3_leaveBox_42 : decode cX3_leaveBox 42 = .ok (.lastore, 1) := dk_80 (dk_at dksX3_leaveBox_1 18 rfl rfl)
theorem dX3_leaveBox_43 : decode cX3_leaveBox 43 = .ok (.return_, 1) := dk_177 (dk_at dksX3_leaveBox_1 19 rfl rfl)
abbrev cX3_manyIn : ByteArray := prog_13_method_15_code
def yX3_manyIn : MethodName := ⟨RX3, "manyIn", "(I)I"⟩
def dkwX3_manyIn_0 : List UInt8 := [42, 27, 184, 0, 77, 4, 96, 182, 0, 62, 172]
abbrev dktX3_manyIn_0 : List UInt8 := dkwX3_manyIn_0 ++ []
theorem dksX3_manyIn_0 : cX3_manyIn.data.toList.drop 0 = dktX3_manyIn_0 := by decide +kernel
theorem dX3_manyIn_0 : decode cX3_manyIn 0 = .ok (.aload_n 0, 1) := dk_42 (dk_at dksX3_manyIn_0 0 rfl rfl)
theorem dX3_manyIn_1 : decode cX3_manyIn 1 = .ok (.iload_n 1, 1) := dk_27 (dk_at dksX3_manyIn_0 1 rfl rfl)
theorem dX3_manyIn_2 : decode cX3_manyIn 2 = .ok (.invokestatic 77, 3) := dk_184 0 77 (dk_at dksX3_manyIn_0 2 rfl rfl)
theorem dX3_manyIn_5 : decode cX3_manyIn 5 = .ok (.iconst 1, 1) := dk_4 (dk_at dksX3_manyIn_0 5 rfl rfl)
theorem dX3_manyIn_6 : decode cX3_manyIn 6 = .ok (.iadd, 1) := dk_96 (dk_at dksX3_manyIn_0 6 rfl rfl)
theorem dX3_manyIn_7 : decode cX3_manyIn 7 = .ok (.invokevirtual 62, 3) := dk_182 0 62 (dk_at dksX3_manyIn_0 7 rfl rfl)
theorem dX3_manyIn_10 : decode cX3_manyIn 10 = .ok (.ireturn, 1) := dk_172 (dk_at dksX3_manyIn_0 10 rfl rfl)
abbrev cX3_boxAt : ByteArray := prog_13_method_13_code
def yX3_boxAt : MethodName := ⟨RX3, "boxAt", "(I)I"⟩
def dkwX3_boxAt_0 : List UInt8 := [6, 16, 93, 26, 104, 96, 172]
abbrev dktX3_boxAt_0 : List UInt8 := dkwX3_boxAt_0 ++ []
theorem dksX3_boxAt_0 : cX3_boxAt.data.toList.drop 0 = dktX3_boxAt_0 := by decide +kernel
theorem dX3_boxAt_0 : decode cX3_boxAt 0 = .ok (.iconst 3, 1) := dk_6 (dk_at dksX3_boxAt_0 0 rfl rfl)
theorem dX3_boxAt_1 : decode cX3_boxAt 1 = .ok (.bipush 93, 2) := dk_16 93 (dk_at dksX3_boxAt_0 1 rfl rfl)
theorem dX3_boxAt_3 : decode cX3_boxAt 3 = .ok (.iload_n 0, 1) := dk_26 (dk_at dksX3_boxAt_0 3 rfl rfl)
theorem dX3_boxAt_4 : decode cX3_boxAt 4 = .ok (.imul, 1) := dk_104 (dk_at dksX3_boxAt_0 4 rfl rfl)
theorem dX3_boxAt_5 : decode cX3_boxAt 5 = .ok (.iadd, 1) := dk_96 (dk_at dksX3_boxAt_0 5 rfl rfl)
theorem dX3_boxAt_6 : decode cX3_boxAt 6 = .ok (.ireturn, 1) := dk_172 (dk_at dksX3_boxAt_0 6 rfl rfl)
abbrev cX3_putEntry : ByteArray := prog_13_method_36_code
def yX3_putEntry : MethodName := ⟨RX3, "putEntry", "(II)V"⟩
def dkwX3_putEntry_3 : List UInt8 := [180, 0, 24, 29, 8, 96, 42, 180, 0, 24, 21, 4, 3, 96, 47, 80, 177]
abbrev dktX3_putEntry_3 : List UInt8 := dkwX3_putEntry_3 ++ []
def dkwX3_putEntry_2 : List UInt8 := [133, 80, 42, 180, 0, 24, 21, 4, 4, 96, 42, 42, 27, 182, 0, 87, 28, 5, 182, 0, 103, 133, 80, 42]
abbrev dktX3_putEntry_2 : List UInt8 := dkwX3_putEntry_2 ++ dktX3_putEntry_3
def dkwX3_putEntry_1 : List UInt8 := [184, 0, 90, 54, 4, 42, 180, 0, 24, 21, 4, 3, 96, 42, 42, 27, 182, 0, 87, 28, 3, 182, 0, 103]
abbrev dktX3_putEntry_1 : List UInt8 := dkwX3_putEntry_1 ++ dktX3_putEntry_2
def dkwX3_putEntry_0 : List UInt8 := [27, 184, 0, 84, 62, 42, 180, 0, 24, 29, 7, 96, 92, 47, 10, 97, 80, 27, 42, 27, 182, 0, 97]
abbrev dktX3_putEntry_0 : List UInt8 := dkwX3_putEntry_0 ++ dktX3_putEntry_1
theorem dksX3_putEntry_0 : cX3_putEntry.data.toList.drop 0 = dktX3_putEntry_0 := by decide +kernel
theorem dksX3_putEntry_1 : cX3_putEntry.data.toList.drop 23 = dktX3_putEntry_1 := dk_seg dksX3_putEntry_0 23 rfl rfl
theorem dksX3_putEntry_2 : cX3_putEntry.data.toList.drop 47 = dktX3_putEntry_2 := dk_seg dksX3_putEntry_1 24 rfl rfl
theorem dksX3_putEntry_3 : cX3_putEntry.data.toList.drop 71 = dktX3_putEntry_3 := dk_seg dksX3_putEntry_2 24 rfl rfl
theorem dX3_putEntry_0 : decode cX3_putEntry 0 = .ok (.iload_n 1, 1) := dk_27 (dk_at dksX3_putEntry_0 0 rfl rfl)
theorem dX3_putEntry_1 : decode cX3_putEntry 1 = .ok (.invokestatic 84, 3) := dk_184 0 84 (dk_at dksX3_putEntry_0 1 rfl rfl)
theorem dX3_putEntry_4 : decode cX3_putEntry 4 = .ok (.istore_n 3, 1) := dk_62 (dk_at dksX3_putEntry_0 4 rfl rfl)
theorem dX3_putEntry_5 : decode cX3_putEntry 5 = .ok (.aload_n 0, 1) := dk_42 (dk_at dksX3_putEntry_0 5 rfl rfl)
theorem dX3_putEntry_6 : decode cX3_putEntry 6 = .ok (.getfield 24, 3) := dk_180 0 24 (dk_at dksX3_putEntry_0 6 rfl rfl)
theorem dX3_putEntry_9 : decode cX3_putEntry 9 = .ok (.iload_n 3, 1) := dk_29 (dk_at dksX3_putEntry_0 9 rfl rfl)
theorem dX3_putEntry_10 : decode cX3_putEntry 10 = .ok (.iconst 4, 1) := dk_7 (dk_at dksX3_putEntry_0 10 rfl rfl)
theorem dX3_putEntry_11 : decode cX3_putEntry 11 = .ok (.iadd, 1) := dk_96 (dk_at dksX3_putEntry_0 11 rfl rfl)
theorem dX3_putEntry_12 : decode cX3_putEntry 12 = .ok (.dup2, 1) := dk_92 (dk_at dksX3_putEntry_0 12 rfl rfl)
theorem dX3_putEntry_13 : decode cX3_putEntry 13 = .ok (.laload, 1) := dk_47 (dk_at dksX3_putEntry_0 13 rfl rfl)
theorem dX3_putEntry_14 : decode cX3_putEntry 14 = .ok (.lconst 1, 1) := dk_10 (dk_at dksX3_putEntry_0 14 rfl rfl)
theorem dX3_putEntry_15 : decode cX3_putEntry 15 = .ok (.ladd, 1) := dk_97 (dk_at dksX3_putEntry_0 15 rfl rfl)
theorem dX3_putEntry_16 : decode cX3_putEntry 16 = .ok (.lastore, 1) := dk_80 (dk_at dksX3_putEntry_0 16 rfl rfl)
theorem dX3_putEntry_17 : decode cX3_putEntry 17 = .ok (.iload_n 1, 1) := dk_27 (dk_at dksX3_putEntry_0 17 rfl rfl)
theorem dX3_putEntry_18 : decode cX3_putEntry 18 = .ok (.aload_n 0, 1) := dk_42 (dk_at dksX3_putEntry_0 18 rfl rfl)
theorem dX3_putEntry_19 : decode cX3_putEntry 19 = .ok (.iload_n 1, 1) := dk_27 (dk_at dksX3_putEntry_0 19 rfl rfl)
theorem dX3_putEntry_20 : decode cX3_putEntry 20 = .ok (.invokevirtual 97, 3) := dk_182 0 97 (dk_at dksX3_putEntry_0 20 rfl rfl)
theorem dX3_putEntry_23 : decode cX3_putEntry 23 = .ok (.invokestatic 90, 3) := dk_184 0 90 (dk_at dksX3_putEntry_1 0 rfl rfl)
theorem dX3_putEntry_26 : decode cX3_putEntry 26 = .ok (.istore 4, 2) := dk_54 4 (dk_at dksX3_putEntry_1 3 rfl rfl)
theorem dX3_putEntry_28 : decode cX3_putEntry 28 = .ok (.aload_n 0, 1) := dk_42 (dk_at dksX3_putEntry_1 5 rfl rfl)
theorem dX3_putEntry_29 : decode cX3_putEntry 29 = .ok (.getfield 24, 3) := dk_180 0 24 (dk_at dksX3_putEntry_1 6 rfl rfl)
theorem dX3_putEntry_32 : decode cX3_putEntry 32 = .ok (.iload 4, 2) := dk_21 4 (dk_at dksX3_putEntry_1 9 rfl rfl)
theorem dX3_putEntry_34 : decode cX3_putEntry 34 = .ok (.iconst 0, 1) := dk_3 (dk_at dksX3_putEntry_1 11 rfl rfl)
theorem dX3_putEntry_35 : decode cX3_putEntry 35 = .ok (.iadd, 1) := dk_96 (dk_at dksX3_putEntry_1 12 rfl rfl)
theorem dX3_putEntry_36 : decode cX3_putEntry 36 = .ok (.aload_n 0, 1) := dk_42 (dk_at dksX3_putEntry_1 13 rfl rfl)
theorem dX3_putEntry_37 : decode cX3_putEntry 37 = .ok (.aload_n 0, 1) := dk_42 (dk_at dksX3_putEntry_1 14 rfl rfl)
theorem dX3_putEntry_38 : decode cX3_putEntry 38 = .ok (.iload_n 1, 1) := dk_27 (dk_at dksX3_putEntry_1 15 rfl rfl)
theorem dX3_putEntry_39 : decode cX3_putEntry 39 = .ok (.invokevirtual 87, 3) := dk_182 0 87 (dk_at dksX3_putEntry_1 16 rfl rfl)
theorem dX3_putEntry_42 : decode cX3_putEntry 42 = .ok (.iload_n 2, 1) := dk_28 (dk_at dksX3_putEntry_1 19 rfl rfl)
theorem dX3_putEntry_43 : decode cX3_putEntry 43 = .ok (.iconst 0, 1) := dk_3 (dk_at dksX3_putEntry_1 20 rfl rfl)
theorem dX3_putEntry_44 : decode cX3_putEntry 44 = .ok (.invokevirtual 103, 3) := dk_182 0 103 (dk_at dksX3_putEntry_1 21 rfl rfl)
theorem dX3_putEntry_47 : decode cX3_putEntry 47 = .ok (.i2l, 1) := dk_133 (dk_at dksX3_putEntry_2 0 rfl rfl)
theorem dX3_putEntry_48 : decode cX3_putEntry 48 = .ok (.lastore, 1) := dk_80 (dk_at dksX3_putEntry_2 1 rfl rfl)
theorem dX3_putEntry_49 : decode cX3_putEntry 49 = .ok (.aload_n 0, 1) := dk_42 (dk_at dksX3_putEntry_2 2 rfl rfl)
theorem dX3_putEntry_50 : decode cX3_putEntry 50 = .ok (.getfield 24, 3) := dk_180 0 24 (dk_at dksX3_putEntry_2 3 rfl rfl)
theorem dX3_putEntry_53 : decode cX3_putEntry 53 = .ok (.iload 4, 2) := dk_21 4 (dk_at dksX3_putEntry_2 6 rfl rfl)
theorem dX3_putEntry_55 : decode cX3_putEntry 55 = .ok (.iconst 1, 1) := dk_4 (dk_at dksX3_putEntry_2 8 rfl rfl)
theorem dX3_putEntry_56 : decode cX3_putEntry 56 = .ok (.iadd, 1) := dk_96 (dk_at dksX3_putEntry_2 9 rfl rfl)
theorem dX3_putEntry_57 : decode cX3_putEntry 57 = .ok (.aload_n 0, 1) := dk_42 (dk_at dksX3_putEntry_2 10 rfl rfl)
theorem dX3_putEntry_58 : decode cX3_putEntry 58 = .ok (.aload_n 0, 1) := dk_42 (dk_at dksX3_putEntry_2 11 rfl rfl)
theorem dX3_putEntry_59 : decode cX3_putEntry 59 = .ok (.iload_n 1, 1) := dk_27 (dk_at dksX3_putEntry_2 12 rfl rfl)
theorem dX3_putEntry_60 : decode cX3_putEntry 60 = .ok (.invokevirtual 87, 3) := dk_182 0 87 (dk_at dksX3_putEntry_2 13 rfl rfl)
theorem dX3_putEntry_63 : decode cX3_putEntry 63 = .ok (.iload_n 2, 1) := dk_28 (dk_at dksX3_putEntry_2 16 rfl rfl)
theorem dX3_putEntry_64 : decode cX3_putEntry 64 = .ok (.iconst 2, 1) := dk_5 (dk_at dksX3_putEntry_2 17 rfl rfl)
theorem dX3_putEntry_65 : decode cX3_putEntry 65 = .ok (.invokevirtual 103, 3) := dk_182 0 103 (dk_at dksX3_putEntry_2 18 rfl rfl)
theorem dX3_putEntry_68 : decode cX3_putEntry 68 = .ok (.i2l, 1) := dk_133 (dk_at dksX3_putEntry_2 21 rfl rfl)
theorem dX3_putEntry_69 : decode cX3_putEntry 69 = .ok (.lastore, 1) := dk_80 (dk_at dksX3_putEntry_2 22 rfl rfl)
theorem dX3_putEntry_70 : decode cX3_putEntry 70 = .ok (.aload_n 0, 1) := dk_42 (dk_at dksX3_putEntry_2 23 rfl rfl)
theorem dX3_putEntry_71 : decode cX3_putEntry 71 = .ok (.getfield 24, 3) := dk_180 0 24 (dk_at dksX3_putEntry_3 0 rfl rfl)
theorem dX3_putEntry_74 : decode cX3_putEntry 74 = .ok (.iload_n 3, 1) := dk_29 (dk_at dksX3_putEntry_3 3 rfl rfl)
theorem dX3_putEntry_75 : decode cX3_putEntry 75 = .ok (.iconst 5, 1) := dk_8 (dk_at dksX3_putEntry_3 4 rfl rfl)
theorem dX3_putEntry_76 : decode cX3_putEntry 76 = .ok (.iadd, 1) := dk_96 (dk_at dksX3_putEntry_3 5 rfl rfl)
theorem dX3_putEntry_77 : decode cX3_putEntry 77 = .ok (.aload_n 0, 1) := dk_42 (dk_at dksX3_putEntry_3 6 rfl rfl)
theorem dX3_putEntry_78 : decode cX3_putEntry 78 = .ok (.getfield 24, 3) := dk_180 0 24 (dk_at dksX3_putEntry_3 7 rfl rfl)
theorem dX3_putEntry_81 : decode cX3_putEntry 81 = .ok (.iload 4, 2) := dk_21 4 (dk_at dksX3_putEntry_3 10 rfl rfl)
theorem dX3_putEntry_83 : decode cX3_putEntry 83 = .ok (.iconst 0, 1) := dk_3 (dk_at dksX3_putEntry_3 12 rfl rfl)
theorem dX3_putEntry_84 : decode cX3_putEntry 84 = .ok (.iadd, 1) := dk_96 (dk_at dksX3_putEntry_3 13 rfl rfl)
theorem dX3_putEntry_85 : decode cX3_putEntry 85 = .ok (.laload, 1) := dk_47 (dk_at dksX3_putEntry_3 14 rfl rfl)
theorem dX3_putEntry_86 : decode cX3_putEntry 86 = .ok (.lastore, 1) := dk_80 (dk_at dksX3_putEntry_3 15 rfl rfl)
theorem dX3_putEntry_87 : decode cX3_putEntry 87 = .ok (.return_, 1) := dk_177 (dk_at dksX3_putEntry_3 16 rfl rfl)
abbrev cX3_entries : ByteArray := prog_13_method_22_code
def yX3_entries : MethodName := ⟨RX3, "entries", "(I)I"⟩
def dkwX3_entries_0 : List UInt8 := [42, 27, 184, 0, 84, 7, 96, 182, 0, 62, 172]
abbrev dktX3_entries_0 : List UInt8 := dkwX3_entries_0 ++ []
theorem dksX3_entries_0 : cX3_entries.data.toList.drop 0 = dktX3_entries_0 := by decide +kernel
theorem dX3_entries_0 : decode cX3_entries 0 = .ok (.aload_n 0, 1) := dk_42 (dk_at dksX3_entries_0 0 rfl rfl)
theorem dX3_entries_1 : decode cX3_entries 1 = .ok (.iload_n 1, 1) := dk_27 (dk_at dksX3_entries_0 1 rfl rfl)
theorem dX3_entries_2 : decode cX3_entries 2 = .ok (.invokestatic 84, 3) := dk_184 0 84 (dk_at dksX3_entries_0 2 rfl rfl)
theorem dX3_entries_5 : decode cX3_entries 5 = .ok (.iconst 4, 1) := dk_7 (dk_at dksX3_entries_0 5 rfl rfl)
theorem dX3_entries_6 : decode cX3_entries 6 = .ok (.iadd, 1) := dk_96 (dk_at dksX3_entries_0 6 rfl rfl)
theorem dX3_entries_7 : decode cX3_entries 7 = .ok (.invokevirtual 62, 3) := dk_182 0 62 (dk_at dksX3_entries_0 7 rfl rfl)
theorem dX3_entries_10 : decode cX3_entries 10 = .ok (.ireturn, 1) := dk_172 (dk_at dksX3_entries_0 10 rfl rfl)
abbrev cX3_entryAt : ByteArray := prog_13_method_23_code
def yX3_entryAt : MethodName := ⟨RX3, "entryAt", "(II)I"⟩
def dkwX3_entryAt_0 : List UInt8 := [26, 184, 0, 84, 16, 11, 96, 5, 27, 4, 100, 104, 96, 172]
abbrev dktX3_entryAt_0 : List UInt8 := dkwX3_entryAt_0 ++ []
theorem dksX3_entryAt_0 : cX3_entryAt.data.toList.drop 0 = dktX3_entryAt_0 := by decide +kernel
theorem dX3_entryAt_0 : decode cX3_entryAt 0 = .ok (.iload_n 0, 1) := dk_26 (dk_at dksX3_entryAt_0 0 rfl rfl)
theorem dX3_entryAt_1 : decode cX3_entryAt 1 = .ok (.invokestatic 84, 3) := dk_184 0 84 (dk_at dksX3_entryAt_0 1 rfl rfl)
theorem dX3_entryAt_4 : decode cX3_entryAt 4 = .ok (.bipush 11, 2) := dk_16 11 (dk_at dksX3_entryAt_0 4 rfl rfl)
theorem dX3_entryAt_6 : decode cX3_entryAt 6 = .ok (.iadd, 1) := dk_96 (dk_at dksX3_entryAt_0 6 rfl rfl)
theorem dX3_entryAt_7 : decode cX3_entryAt 7 = .ok (.iconst 2, 1) := dk_5 (dk_at dksX3_entryAt_0 7 rfl rfl)
theorem dX3_entryAt_8 : decode cX3_entryAt 8 = .ok (.iload_n 1, 1) := dk_27 (dk_at dksX3_entryAt_0 8 rfl rfl)
theorem dX3_entryAt_9 : decode cX3_entryAt 9 = .ok (.iconst 1, 1) := dk_4 (dk_at dksX3_entryAt_0 9 rfl rfl)
theorem dX3_entryAt_10 : decode cX3_entryAt 10 = .ok (.isub, 1) := dk_100 (dk_at dksX3_entryAt_0 10 rfl rfl)
theorem dX3_entryAt_11 : decode cX3_entryAt 11 = .ok (.imul, 1) := dk_104 (dk_at dksX3_entryAt_0 11 rfl rfl)
theorem dX3_entryAt_12 : decode cX3_entryAt 12 = .ok (.iadd, 1) := dk_96 (dk_at dksX3_entryAt_0 12 rfl rfl)
theorem dX3_entryAt_13 : decode cX3_entryAt 13 = .ok (.ireturn, 1) := dk_172 (dk_at dksX3_entryAt_0 13 rfl rfl)
abbrev cX3_boxOf : ByteArray := prog_13_method_18_code
def yX3_boxOf : MethodName := ⟨RX3, "boxOf", "(I)I"⟩
def dkwX3_boxOf_0 : List UInt8 := [42, 27, 184, 0, 84, 4, 96, 182, 0, 62, 172]
abbrev dktX3_boxOf_0 : List UInt8 := dkwX3_boxOf_0 ++ []
theorem dksX3_boxOf_0 : cX3_boxOf.data.toList.drop 0 = dktX3_boxOf_0 := by decide +kernel
theorem dX3_boxOf_0 : decode cX3_boxOf 0 = .ok (.aload_n 0, 1) := dk_42 (dk_at dksX3_boxOf_0 0 rfl rfl)
theorem dX3_boxOf_1 : decode cX3_boxOf 1 = .ok (.iload_n 1, 1) := dk_27 (dk_at dksX3_boxOf_0 1 rfl rfl)
theorem dX3_boxOf_2 : decode cX3_boxOf 2 = .ok (.invokestatic 84, 3) := dk_184 0 84 (dk_at dksX3_boxOf_0 2 rfl rfl)
theorem dX3_boxOf_5 : decode cX3_boxOf 5 = .ok (.iconst 1, 1) := dk_4 (dk_at dksX3_boxOf_0 5 rfl rfl)
theorem dX3_boxOf_6 : decode cX3_boxOf 6 = .ok (.iadd, 1) := dk_96 (dk_at dksX3_boxOf_0 6 rfl rfl)
theorem dX3_boxOf_7 : decode cX3_boxOf 7 = .ok (.invokevirtual 62, 3) := dk_182 0 62 (dk_at dksX3_boxOf_0 7 rfl rfl)
theorem dX3_boxOf_10 : decode cX3_boxOf 10 = .ok (.ireturn, 1) := dk_172 (dk_at dksX3_boxOf_0 10 rfl rfl)
abbrev cX3_ofMessage : ByteArray := prog_13_method_17_code
def yX3_ofMessage : MethodName := ⟨RX3, "ofMessage", "(III)I"⟩
def dkwX3_ofMessage_0 : List UInt8 := [42, 27, 28, 184, 0, 80, 29, 96, 182, 0, 62, 172]
abbrev dktX3_ofMessage_0 : List UInt8 := dkwX3_ofMessage_0 ++ []
theorem dksX3_ofMessage_0 : cX3_ofMessage.data.toList.drop 0 = dktX3_ofMessage_0 := by decide +kernel
theorem dX3_ofMessage_0 : decode cX3_ofMessage 0 = .ok (.aload_n 0, 1) := dk_42 (dk_at dksX3_ofMessage_0 0 rfl rfl)
theorem dX3_ofMessage_1 : decode cX3_ofMessage 1 = .ok (.iload_n 1, 1) := dk_27 (dk_at dksX3_ofMessage_0 1 rfl rfl)
theorem dX3_ofMessage_2 : decode cX3_ofMessage 2 = .ok (.iload_n 2, 1) := dk_28 (dk_at dksX3_ofMessage_0 2 rfl rfl)
theorem dX3_ofMessage_3 : decode cX3_ofMessage 3 = .ok (.invokestatic 80, 3) := dk_184 0 80 (dk_at dksX3_ofMessage_0 3 rfl rfl)
theorem dX3_ofMessage_6 : decode cX3_ofMessage 6 = .ok (.iload_n 3, 1) := dk_29 (dk_at dksX3_ofMessage_0 6 rfl rfl)
theorem dX3_ofMessage_7 : decode cX3_ofMessage 7 = .ok (.iadd, 1) := dk_96 (dk_at dksX3_ofMessage_0 7 rfl rfl)
theorem dX3_ofMessage_8 : decode cX3_ofMessage 8 = .ok (.invokevirtual 62, 3) := dk_182 0 62 (dk_at dksX3_ofMessage_0 8 rfl rfl)
theorem dX3_ofMessage_11 : decode cX3_ofMessage 11 = .ok (.ireturn, 1) := dk_172 (dk_at dksX3_ofMessage_0 11 rfl rfl)
abbrev cX3_messageAt : ByteArray := prog_13_method_16_code
def yX3_messageAt : MethodName := ⟨RX3, "messageAt", "(II)I"⟩
def dkwX3_messageAt_0 : List UInt8 := [26, 184, 0, 77, 6, 96, 6, 27, 104, 96, 172]
abbrev dktX3_messageAt_0 : List UInt8 := dkwX3_messageAt_0 ++ []
theorem dksX3_messageAt_0 : cX3_messageAt.data.toList.drop 0 = dktX3_messageAt_0 := by decide +kernel
theorem dX3_messageAt_0 : decode cX3_messageAt 0 = .ok (.iload_n 0, 1) := dk_26 (dk_at dksX3_messageAt_0 0 rfl rfl)
theorem dX3_messageAt_1 : decode cX3_messageAt 1 = .ok (.invokestatic 77, 3) := dk_184 0 77 (dk_at dksX3_messageAt_0 1 rfl rfl)
theorem dX3_messageAt_4 : decode cX3_messageAt 4 = .ok (.iconst 3, 1) := dk_6 (dk_at dksX3_messageAt_0 4 rfl rfl)
theorem dX3_messageAt_5 : decode cX3_messageAt 5 = .ok (.iadd, 1) := dk_96 (dk_at dksX3_messageAt_0 5 rfl rfl)
theorem dX3_messageAt_6 : decode cX3_messageAt 6 = .ok (.iconst 3, 1) := dk_6 (dk_at dksX3_messageAt_0 6 rfl rfl)
theorem dX3_messageAt_7 : decode cX3_messageAt 7 = .ok (.iload_n 1, 1) := dk_27 (dk_at dksX3_messageAt_0 7 rfl rfl)
theorem dX3_messageAt_8 : decode cX3_messageAt 8 = .ok (.imul, 1) := dk_104 (dk_at dksX3_messageAt_0 8 rfl rfl)
theorem dX3_messageAt_9 : decode cX3_messageAt 9 = .ok (.iadd, 1) := dk_96 (dk_at dksX3_messageAt_0 9 rfl rfl)
theorem dX3_messageAt_10 : decode cX3_messageAt 10 = .ok (.ireturn, 1) := dk_172 (dk_at dksX3_messageAt_0 10 rfl rfl)
abbrev cX3_tellsIdle : ByteArray := prog_13_method_42_code
def yX3_tellsIdle : MethodName := ⟨RX3, "tellsIdle", "()V"⟩
def dkwX3_tellsIdle_1 : List UInt8 := [61, 132, 1, 1, 167, 255, 230, 177]
abbrev dktX3_tellsIdle_1 : List UInt8 := dkwX3_tellsIdle_1 ++ []
def dkwX3_tellsIdle_0 : List UInt8 := [3, 60, 27, 42, 182, 0, 74, 162, 0, 24, 42, 27, 182, 0, 162, 153, 0, 10, 42, 27, 4, 182, 0, 165]
abbrev dktX3_tellsIdle_0 : List UInt8 := dkwX3_tellsIdle_0 ++ dktX3_tellsIdle_1
theorem dksX3_tellsIdle_0 : cX3_tellsIdle.data.toList.drop 0 = dktX3_tellsIdle_0 := by decide +kernel
theorem dksX3_tellsIdle_1 : cX3_tellsIdle.data.toList.drop 24 = dktX3_tellsIdle_1 := dk_seg dksX3_tellsIdle_0 24 rfl rfl
theorem dX3_tellsIdle_0 : decode cX3_tellsIdle 0 = .ok (.iconst 0, 1) := dk_3 (dk_at dksX3_tellsIdle_0 0 rfl rfl)
theorem dX3_tellsIdle_1 : decode cX3_tellsIdle 1 = .ok (.istore_n 1, 1) := dk_60 (dk_at dksX3_tellsIdle_0 1 rfl rfl)
theorem dX3_tellsIdle_2 : decode cX3_tellsIdle 2 = .ok (.iload_n 1, 1) := dk_27 (dk_at dksX3_tellsIdle_0 2 rfl rfl)
theorem dX3_tellsIdle_3 : decode cX3_tellsIdle 3 = .ok (.aload_n 0, 1) := dk_42 (dk_at dksX3_tellsIdle_0 3 rfl rfl)
theorem dX3_tellsIdle_4 : decode cX3_tellsIdle 4 = .ok (.invokevirtual 74, 3) := dk_182 0 74 (dk_at dksX3_tellsIdle_0 4 rfl rfl)
theorem dX3_tellsIdle_7 : decode cX3_tellsIdle 7 = .ok (.if_icmp .ge 24, 3) := dk_162 0 24 (dk_at dksX3_tellsIdle_0 7 rfl rfl)
theorem dX3_tellsIdle_10 : decode cX3_tellsIdle 10 = .ok (.aload_n 0, 1) := dk_42 (dk_at dksX3_tellsIdle_0 10 rfl rfl)
theorem dX3_tellsIdle_11 : decode cX3_tellsIdle 11 = .ok (.iload_n 1, 1) := dk_27 (dk_at dksX3_tellsIdle_0 11 rfl rfl)
theorem dX3_tellsIdle_12 : decode cX3_tellsIdle 12 = .ok (.invokevirtual 162, 3) := dk_182 0 162 (dk_at dksX3_tellsIdle_0 12 rfl rfl)
theorem dX3_tellsIdle_15 : decode cX3_tellsIdle 15 = .ok (.ifCond .eq 10, 3) := dk_153 0 10 (dk_at dksX3_tellsIdle_0 15 rfl rfl)
theorem dX3_tellsIdle_18 : decode cX3_tellsIdle 18 = .ok (.aload_n 0, 1) := dk_42 (dk_at dksX3_tellsIdle_0 18 rfl rfl)
theorem dX3_tellsIdle_19 : decode cX3_tellsIdle 19 = .ok (.iload_n 1, 1) := dk_27 (dk_at dksX3_tellsIdle_0 19 rfl rfl)
theorem dX3_tellsIdle_20 : decode cX3_tellsIdle 20 = .ok (.iconst 1, 1) := dk_4 (dk_at dksX3_tellsIdle_0 20 rfl rfl)
theorem dX3_tellsIdle_21 : decode cX3_tellsIdle 21 = .ok (.invokevirtual 165, 3) := dk_182 0 165 (dk_at dksX3_tellsIdle_0 21 rfl rfl)
theorem dX3_tellsIdle_24 : decode cX3_tellsIdle 24 = .ok (.istore_n 2, 1) := dk_61 (dk_at dksX3_tellsIdle_1 0 rfl rfl)
theorem dX3_tellsIdle_25 : decode cX3_tellsIdle 25 = .ok (.iinc 1 1, 3) := dk_132 1 1 (dk_at dksX3_tellsIdle_1 1 rfl rfl)
theorem dX3_tellsIdle_28 : decode cX3_tellsIdle 28 = .ok (.goto (-26), 3) := dk_167 255 230 (dk_at dksX3_tellsIdle_1 4 rfl rfl)
theorem dX3_tellsIdle_31 : decode cX3_tellsIdle 31 = .ok (.return_, 1) := dk_177 (dk_at dksX3_tellsIdle_1 7 rfl rfl)
abbrev cX3_tells : ByteArray := prog_13_method_41_code
def yX3_tells : MethodName := ⟨RX3, "tells", "(IZ)I"⟩
def dkwX3_tells_1 : List UInt8 := [42, 27, 182, 0, 156, 42, 27, 182, 0, 159, 42, 180, 0, 138, 29, 100, 172]
abbrev dktX3_tells_1 : List UInt8 := dkwX3_tells_1 ++ []
def dkwX3_tells_0 : List UInt8 := [42, 180, 0, 138, 62, 42, 27, 182, 0, 126, 154, 0, 5, 3, 172, 28, 153, 0, 8, 42, 27, 182, 0, 152]
abbrev dktX3_tells_0 : List UInt8 := dkwX3_tells_0 ++ dktX3_tells_1
theorem dksX3_tells_0 : cX3_tells.data.toList.drop 0 = dktX3_tells_0 := by decide +kernel
theorem dksX3_tells_1 : cX3_tells.data.toList.drop 24 = dktX3_tells_1 := dk_seg dksX3_tells_0 24 rfl rfl
theorem dX3_tells_0 : decode cX3_tells 0 = .ok (.aload_n 0, 1) := dk_42 (dk_at dksX3_tells_0 0 rfl rfl)
theorem dX3_tells_1 : decode cX3_tells 1 = .ok (.getfield 138, 3) := dk_180 0 138 (dk_at dksX3_tells_0 1 rfl rfl)
theorem dX3_tells_4 : decode cX3_tells 4 = .ok (.istore_n 3, 1) := dk_62 (dk_at dksX3_tells_0 4 rfl rfl)
theorem dX3_tells_5 : decode cX3_tells 5 = .ok (.aload_n 0, 1) := dk_42 (dk_at dksX3_tells_0 5 rfl rfl)
theorem dX3_tells_6 : decode cX3_tells 6 = .ok (.iload_n 1, 1) := dk_27 (dk_at dksX3_tells_0 6 rfl rfl)
theorem dX3_tells_7 : decode cX3_tells 7 = .ok (.invokevirtual 126, 3) := dk_182 0 126 (dk_at dksX3_tells_0 7 rfl rfl)
theorem dX3_tells_10 : decode cX3_tells 10 = .ok (.ifCond .ne 5, 3) := dk_154 0 5 (dk_at dksX3_tells_0 10 rfl rfl)
theorem dX3_tells_13 : decode cX3_tells 13 = .ok (.iconst 0, 1) := dk_3 (dk_at dksX3_tells_0 13 rfl rfl)
theorem dX3_tells_14 : decode cX3_tells 14 = .ok (.ireturn, 1) := dk_172 (dk_at dksX3_tells_0 14 rfl rfl)
theorem dX3_tells_15 : decode cX3_tells 15 = .ok (.iload_n 2, 1) := dk_28 (dk_at dksX3_tells_0 15 rfl rfl)
theorem dX3_tells_16 : decode cX3_tells 16 = .ok (.ifCond .eq 8, 3) := dk_153 0 8 (dk_at dksX3_tells_0 16 rfl rfl)
theorem dX3_tells_19 : decode cX3_tells 19 = .ok (.aload_n 0, 1) := dk_42 (dk_at dksX3_tells_0 19 rfl rfl)
theorem dX3_tells_20 : decode cX3_tells 20 = .ok (.iload_n 1, 1) := dk_27 (dk_at dksX3_tells_0 20 rfl rfl)
theorem dX3_tells_21 : decode cX3_tells 21 = .ok (.invokevirtual 152, 3) := dk_182 0 152 (dk_at dksX3_tells_0 21 rfl rfl)
theorem dX3_tells_24 : decode cX3_tells 24 = .ok (.aload_n 0, 1) := dk_42 (dk_at dksX3_tells_1 0 rfl rfl)
theorem dX3_tells_25 : decode cX3_tells 25 = .ok (.iload_n 1, 1) := dk_27 (dk_at dksX3_tells_1 1 rfl rfl)
theorem dX3_tells_26 : decode cX3_tells 26 = .ok (.invokevirtual 156, 3) := dk_182 0 156 (dk_at dksX3_tells_1 2 rfl rfl)
theorem dX3_tells_29 : decode cX3_tells 29 = .ok (.aload_n 0, 1) := dk_42 (dk_at dksX3_tells_1 5 rfl rfl)
theorem dX3_tells_30 : decode cX3_tells 30 = .ok (.iload_n 1, 1) := dk_27 (dk_at dksX3_tells_1 6 rfl rfl)
theorem dX3_tells_31 : decode cX3_tells 31 = .ok (.invokevirtual 159, 3) := dk_182 0 159 (dk_at dksX3_tells_1 7 rfl rfl)
theorem dX3_tells_34 : decode cX3_tells 34 = .ok (.aload_n 0, 1) := dk_42 (dk_at dksX3_tells_1 10 rfl rfl)
theorem dX3_tells_35 : decode cX3_tells 35 = .ok (.getfield 138, 3) := dk_180 0 138 (dk_at dksX3_tells_1 11 rfl rfl)
theorem dX3_tells_38 : decode cX3_tells 38 = .ok (.iload_n 3, 1) := dk_29 (dk_at dksX3_tells_1 14 rfl rfl)
theorem dX3_tells_39 : decode cX3_tells 39 = .ok (.isub, 1) := dk_100 (dk_at dksX3_tells_1 15 rfl rfl)
theorem dX3_tells_40 : decode cX3_tells 40 = .ok (.ireturn, 1) := dk_172 (dk_at dksX3_tells_1 16 rfl rfl)
abbrev cX3_hasBox : ByteArray := prog_13_method_19_code
def yX3_hasBox : MethodName := ⟨RX3, "hasBox", "(I)Z"⟩
def dkwX3_hasBox_0 : List UInt8 := [42, 27, 182, 0, 87, 2, 159, 0, 7, 4, 167, 0, 4, 3, 172]
abbrev dktX3_hasBox_0 : List UInt8 := dkwX3_hasBox_0 ++ []
theorem dksX3_hasBox_0 : cX3_hasBox.data.toList.drop 0 = dktX3_hasBox_0 := by decide +kernel
theorem dX3_hasBox_0 : decode cX3_hasBox 0 = .ok (.aload_n 0, 1) := dk_42 (dk_at dksX3_hasBox_0 0 rfl rfl)
theorem dX3_hasBox_1 : decode cX3_hasBox 1 = .ok (.iload_n 1, 1) := dk_27 (dk_at dksX3_hasBox_0 1 rfl rfl)
theorem dX3_hasBox_2 : decode cX3_hasBox 2 = .ok (.invokevirtual 87, 3) := dk_182 0 87 (dk_at dksX3_hasBox_0 2 rfl rfl)
theorem dX3_hasBox_5 : decode cX3_hasBox 5 = .ok (.iconst (-1), 1) := dk_2 (dk_at dksX3_hasBox_0 5 rfl rfl)
theorem dX3_hasBox_6 : decode cX3_hasBox 6 = .ok (.if_icmp .eq 7, 3) := dk_159 0 7 (dk_at dksX3_hasBox_0 6 rfl rfl)
theorem dX3_hasBox_9 : decode cX3_hasBox 9 = .ok (.iconst 1, 1) := dk_4 (dk_at dksX3_hasBox_0 9 rfl rfl)
theorem dX3_hasBox_10 : decode cX3_hasBox 10 = .ok (.goto 4, 3) := dk_167 0 4 (dk_at dksX3_hasBox_0 10 rfl rfl)
theorem dX3_hasBox_13 : decode cX3_hasBox 13 = .ok (.iconst 0, 1) := dk_3 (dk_at dksX3_hasBox_0 13 rfl rfl)
theorem dX3_hasBox_14 : decode cX3_hasBox 14 = .ok (.ireturn, 1) := dk_172 (dk_at dksX3_hasBox_0 14 rfl rfl)
abbrev cX3_tellGone : ByteArray := prog_13_method_38_code
def yX3_tellGone : MethodName := ⟨RX3, "tellGone", "(I)V"⟩
def dkwX3_tellGone_1 : List UInt8 := [167, 255, 235, 42, 27, 3, 28, 3, 182, 0, 141, 42, 27, 28, 182, 0, 145, 167, 255, 218, 177]
abbrev dktX3_tellGone_1 : List UInt8 := dkwX3_tellGone_1 ++ []
def dkwX3_tellGone_0 : List UInt8 := [4, 61, 28, 42, 27, 182, 0, 97, 163, 0, 35, 42, 27, 28, 182, 0, 116, 154, 0, 9, 132, 2, 1]
abbrev dktX3_tellGone_0 : List UInt8 := dkwX3_tellGone_0 ++ dktX3_tellGone_1
theorem dksX3_tellGone_0 : cX3_tellGone.data.toList.drop 0 = dktX3_tellGone_0 := by decide +kernel
theorem dksX3_tellGone_1 : cX3_tellGone.data.toList.drop 23 = dktX3_tellGone_1 := dk_seg dksX3_tellGone_0 23 rfl rfl
theorem dX3_tellGone_0 : decode cX3_tellGone 0 = .ok (.iconst 1, 1) := dk_4 (dk_at dksX3_tellGone_0 0 rfl rfl)
theorem dX3_tellGone_1 : decode cX3_tellGone 1 = .ok (.istore_n 2, 1) := dk_61 (dk_at dksX3_tellGone_0 1 rfl rfl)
theorem dX3_tellGone_2 : decode cX3_tellGone 2 = .ok (.iload_n 2, 1) := dk_28 (dk_at dksX3_tellGone_0 2 rfl rfl)
theorem dX3_tellGone_3 : decode cX3_tellGone 3 = .ok (.aload_n 0, 1) := dk_42 (dk_at dksX3_tellGone_0 3 rfl rfl)
theorem dX3_tellGone_4 : decode cX3_tellGone 4 = .ok (.iload_n 1, 1) := dk_27 (dk_at dksX3_tellGone_0 4 rfl rfl)
theorem dX3_tellGone_5 : decode cX3_tellGone 5 = .ok (.invokevirtual 97, 3) := dk_182 0 97 (dk_at dksX3_tellGone_0 5 rfl rfl)
theorem dX3_tellGone_8 : decode cX3_tellGone 8 = .ok (.if_icmp .gt 35, 3) := dk_163 0 35 (dk_at dksX3_tellGone_0 8 rfl rfl)
theorem dX3_tellGone_11 : decode cX3_tellGone 11 = .ok (.aload_n 0, 1) := dk_42 (dk_at dksX3_tellGone_0 11 rfl rfl)
theorem dX3_tellGone_12 : decode cX3_tellGone 12 = .ok (.iload_n 1, 1) := dk_27 (dk_at dksX3_tellGone_0 12 rfl rfl)
theorem dX3_tellGone_13 : decode cX3_tellGone 13 = .ok (.iload_n 2, 1) := dk_28 (dk_at dksX3_tellGone_0 13 rfl rfl)
theorem dX3_tellGone_14 : decode cX3_tellGone 14 = .ok (.invokevirtual 116, 3) := dk_182 0 116 (dk_at dksX3_tellGone_0 14 rfl rfl)
theorem dX3_tellGone_17 : decode cX3_tellGone 17 = .ok (.ifCond .ne 9, 3) := dk_154 0 9 (dk_at dksX3_tellGone_0 17 rfl rfl)
theorem dX3_tellGone_20 : decode cX3_tellGone 20 = .ok (.iinc 2 1, 3) := dk_132 2 1 (dk_at dksX3_tellGone_0 20 rfl rfl)
theorem dX3_tellGone_23 : decode cX3_tellGone 23 = .ok (.goto (-21), 3) := dk_167 255 235 (dk_at dksX3_tellGone_1 0 rfl rfl)
theorem dX3_tellGone_26 : decode cX3_tellGone 26 = .ok (.aload_n 0, 1) := dk_42 (dk_at dksX3_tellGone_1 3 rfl rfl)
theorem dX3_tellGone_27 : decode cX3_tellGone 27 = .ok (.iload_n 1, 1) := dk_27 (dk_at dksX3_tellGone_1 4 rfl rfl)
theorem dX3_tellGone_28 : decode cX3_tellGone 28 = .ok (.iconst 0, 1) := dk_3 (dk_at dksX3_tellGone_1 5 rfl rfl)
theorem dX3_tellGone_29 : decode cX3_tellGone 29 = .ok (.iload_n 2, 1) := dk_28 (dk_at dksX3_tellGone_1 6 rfl rfl)
theorem dX3_tellGone_30 : decode cX3_tellGone 30 = .ok (.iconst 0, 1) := dk_3 (dk_at dksX3_tellGone_1 7 rfl rfl)
theorem dX3_tellGone_31 : decode cX3_tellGone 31 = .ok (.invokevirtual 141, 3) := dk_182 0 141 (dk_at dksX3_tellGone_1 8 rfl rfl)
theorem dX3_tellGone_34 : decode cX3_tellGone 34 = .ok (.aload_n 0, 1) := dk_42 (dk_at dksX3_tellGone_1 11 rfl rfl)
theorem dX3_tellGone_35 : decode cX3_tellGone 35 = .ok (.iload_n 1, 1) := dk_27 (dk_at dksX3_tellGone_1 12 rfl rfl)
theorem dX3_tellGone_36 : decode cX3_tellGone 36 = .ok (.iload_n 2, 1) := dk_28 (dk_at dksX3_tellGone_1 13 rfl rfl)
theorem dX3_tellGone_37 : decode cX3_tellGone 37 = .ok (.invokevirtual 145, 3) := dk_182 0 145 (dk_at dksX3_tellGone_1 14 rfl rfl)
theorem dX3_tellGone_40 : decode cX3_tellGone 40 = .ok (.goto (-38), 3) := dk_167 255 218 (dk_at dksX3_tellGone_1 17 rfl rfl)
theorem dX3_tellGone_43 : decode cX3_tellGone 43 = .ok (.return_, 1) := dk_177 (dk_at dksX3_tellGone_1 20 rfl rfl)
abbrev cX3_isGone : ByteArray := prog_13_method_28_code
def yX3_isGone : MethodName := ⟨RX3, "isGone", "(II)Z"⟩
def dkwX3_isGone_0 : List UInt8 := [42, 27, 28, 182, 0, 113, 2, 160, 0, 7, 4, 167, 0, 4, 3, 172]
abbrev dktX3_isGone_0 : List UInt8 := dkwX3_isGone_0 ++ []
theorem dksX3_isGone_0 : cX3_isGone.data.toList.drop 0 = dktX3_isGone_0 := by decide +kernel
theorem dX3_isGone_0 : decode cX3_isGone 0 = .ok (.aload_n 0, 1) := dk_42 (dk_at dksX3_isGone_0 0 rfl rfl)
theorem dX3_isGone_1 : decode cX3_isGone 1 = .ok (.iload_n 1, 1) := dk_27 (dk_at dksX3_isGone_0 1 rfl rfl)
theorem dX3_isGone_2 : decode cX3_isGone 2 = .ok (.iload_n 2, 1) := dk_28 (dk_at dksX3_isGone_0 2 rfl rfl)
theorem dX3_isGone_3 : decode cX3_isGone 3 = .ok (.invokevirtual 113, 3) := dk_182 0 113 (dk_at dksX3_isGone_0 3 rfl rfl)
theorem dX3_isGone_6 : decode cX3_isGone 6 = .ok (.iconst (-1), 1) := dk_2 (dk_at dksX3_isGone_0 6 rfl rfl)
theorem dX3_isGone_7 : decode cX3_isGone 7 = .ok (.if_icmp .ne 7, 3) := dk_160 0 7 (dk_at dksX3_isGone_0 7 rfl rfl)
theorem dX3_isGone_10 : decode cX3_isGone 10 = .ok (.iconst 1, 1) := dk_4 (dk_at dksX3_isGone_0 10 rfl rfl)
theorem dX3_isGone_11 : decode cX3_isGone 11 = .ok (.goto 4, 3) := dk_167 0 4 (dk_at dksX3_isGone_0 11 rfl rfl)
theorem dX3_isGone_14 : decode cX3_isGone 14 = .ok (.iconst 0, 1) := dk_3 (dk_at dksX3_isGone_0 14 rfl rfl)
theorem dX3_isGone_15 : decode cX3_isGone 15 = .ok (.ireturn, 1) := dk_172 (dk_at dksX3_isGone_0 15 rfl rfl)
abbrev cX3_messageOf : ByteArray := prog_13_method_27_code
def yX3_messageOf : MethodName := ⟨RX3, "messageOf", "(II)I"⟩
def dkwX3_messageOf_0 : List UInt8 := [42, 42, 27, 182, 0, 87, 42, 27, 28, 3, 182, 0, 107, 182, 0, 110, 172]
abbrev dktX3_messageOf_0 : List UInt8 := dkwX3_messageOf_0 ++ []
theorem dksX3_messageOf_0 : cX3_messageOf.data.toList.drop 0 = dktX3_messageOf_0 := by decide +kernel
theorem dX3_messageOf_0 : decode cX3_messageOf 0 = .ok (.aload_n 0, 1) := dk_42 (dk_at dksX3_messageOf_0 0 rfl rfl)
theorem dX3_messageOf_1 : decode cX3_messageOf 1 = .ok (.aload_n 0, 1) := dk_42 (dk_at dksX3_messageOf_0 1 rfl rfl)
theorem dX3_messageOf_2 : decode cX3_messageOf 2 = .ok (.iload_n 1, 1) := dk_27 (dk_at dksX3_messageOf_0 2 rfl rfl)
theorem dX3_messageOf_3 : decode cX3_messageOf 3 = .ok (.invokevirtual 87, 3) := dk_182 0 87 (dk_at dksX3_messageOf_0 3 rfl rfl)
theorem dX3_messageOf_6 : decode cX3_messageOf 6 = .ok (.aload_n 0, 1) := dk_42 (dk_at dksX3_messageOf_0 6 rfl rfl)
theorem dX3_messageOf_7 : decode cX3_messageOf 7 = .ok (.iload_n 1, 1) := dk_27 (dk_at dksX3_messageOf_0 7 rfl rfl)
theorem dX3_messageOf_8 : decode cX3_messageOf 8 = .ok (.iload_n 2, 1) := dk_28 (dk_at dksX3_messageOf_0 8 rfl rfl)
theorem dX3_messageOf_9 : decode cX3_messageOf 9 = .ok (.iconst 0, 1) := dk_3 (dk_at dksX3_messageOf_0 9 rfl rfl)
theorem dX3_messageOf_10 : decode cX3_messageOf 10 = .ok (.invokevirtual 107, 3) := dk_182 0 107 (dk_at dksX3_messageOf_0 10 rfl rfl)
theorem dX3_messageOf_13 : decode cX3_messageOf 13 = .ok (.invokevirtual 110, 3) := dk_182 0 110 (dk_at dksX3_messageOf_0 13 rfl rfl)
theorem dX3_messageOf_16 : decode cX3_messageOf 16 = .ok (.ireturn, 1) := dk_172 (dk_at dksX3_messageOf_0 16 rfl rfl)
abbrev cX3_ofEntry : ByteArray := prog_13_method_24_code
def yX3_ofEntry : MethodName := ⟨RX3, "ofEntry", "(III)I"⟩
def dkwX3_ofEntry_0 : List UInt8 := [42, 27, 28, 184, 0, 90, 29, 96, 182, 0, 62, 172]
abbrev dktX3_ofEntry_0 : List UInt8 := dkwX3_ofEntry_0 ++ []
theorem dksX3_ofEntry_0 : cX3_ofEntry.data.toList.drop 0 = dktX3_ofEntry_0 := by decide +kernel
theorem dX3_ofEntry_0 : decode cX3_ofEntry 0 = .ok (.aload_n 0, 1) := dk_42 (dk_at dksX3_ofEntry_0 0 rfl rfl)
theorem dX3_ofEntry_1 : decode cX3_ofEntry 1 = .ok (.iload_n 1, 1) := dk_27 (dk_at dksX3_ofEntry_0 1 rfl rfl)
theorem dX3_ofEntry_2 : decode cX3_ofEntry 2 = .ok (.iload_n 2, 1) := dk_28 (dk_at dksX3_ofEntry_0 2 rfl rfl)
theorem dX3_ofEntry_3 : decode cX3_ofEntry 3 = .ok (.invokestatic 90, 3) := dk_184 0 90 (dk_at dksX3_ofEntry_0 3 rfl rfl)
theorem dX3_ofEntry_6 : decode cX3_ofEntry 6 = .ok (.iload_n 3, 1) := dk_29 (dk_at dksX3_ofEntry_0 6 rfl rfl)
theorem dX3_ofEntry_7 : decode cX3_ofEntry 7 = .ok (.iadd, 1) := dk_96 (dk_at dksX3_ofEntry_0 7 rfl rfl)
theorem dX3_ofEntry_8 : decode cX3_ofEntry 8 = .ok (.invokevirtual 62, 3) := dk_182 0 62 (dk_at dksX3_ofEntry_0 8 rfl rfl)
theorem dX3_ofEntry_11 : decode cX3_ofEntry 11 = .ok (.ireturn, 1) := dk_172 (dk_at dksX3_ofEntry_0 11 rfl rfl)
abbrev cX3_withUid : ByteArray := prog_13_method_26_code
def yX3_withUid : MethodName := ⟨RX3, "withUid", "(II)I"⟩
def dkwX3_withUid_1 : List UInt8 := [132, 3, 1, 167, 255, 231, 2, 172]
abbrev dktX3_withUid_1 : List UInt8 := dkwX3_withUid_1 ++ []
def dkwX3_withUid_0 : List UInt8 := [3, 62, 29, 42, 27, 182, 0, 100, 162, 0, 22, 42, 27, 29, 3, 182, 0, 103, 28, 160, 0, 5, 29, 172]
abbrev dktX3_withUid_0 : List UInt8 := dkwX3_withUid_0 ++ dktX3_withUid_1
theorem dksX3_withUid_0 : cX3_withUid.data.toList.drop 0 = dktX3_withUid_0 := by decide +kernel
theorem dksX3_withUid_1 : cX3_withUid.data.toList.drop 24 = dktX3_withUid_1 := dk_seg dksX3_withUid_0 24 rfl rfl
theorem dX3_withUid_0 : decode cX3_withUid 0 = .ok (.iconst 0, 1) := dk_3 (dk_at dksX3_withUid_0 0 rfl rfl)
theorem dX3_withUid_1 : decode cX3_withUid 1 = .ok (.istore_n 3, 1) := dk_62 (dk_at dksX3_withUid_0 1 rfl rfl)
theorem dX3_withUid_2 : decode cX3_withUid 2 = .ok (.iload_n 3, 1) := dk_29 (dk_at dksX3_withUid_0 2 rfl rfl)
theorem dX3_withUid_3 : decode cX3_withUid 3 = .ok (.aload_n 0, 1) := dk_42 (dk_at dksX3_withUid_0 3 rfl rfl)
theorem dX3_withUid_4 : decode cX3_withUid 4 = .ok (.iload_n 1, 1) := dk_27 (dk_at dksX3_withUid_0 4 rfl rfl)
theorem dX3_withUid_5 : decode cX3_withUid 5 = .ok (.invokevirtual 100, 3) := dk_182 0 100 (dk_at dksX3_withUid_0 5 rfl rfl)
theorem dX3_withUid_8 : decode cX3_withUid 8 = .ok (.if_icmp .ge 22, 3) := dk_162 0 22 (dk_at dksX3_withUid_0 8 rfl rfl)
theorem dX3_withUid_11 : decode cX3_withUid 11 = .ok (.aload_n 0, 1) := dk_42 (dk_at dksX3_withUid_0 11 rfl rfl)
theorem dX3_withUid_12 : decode cX3_withUid 12 = .ok (.iload_n 1, 1) := dk_27 (dk_at dksX3_withUid_0 12 rfl rfl)
theorem dX3_withUid_13 : decode cX3_withUid 13 = .ok (.iload_n 3, 1) := dk_29 (dk_at dksX3_withUid_0 13 rfl rfl)
theorem dX3_withUid_14 : decode cX3_withUid 14 = .ok (.iconst 0, 1) := dk_3 (dk_at dksX3_withUid_0 14 rfl rfl)
theorem dX3_withUid_15 : decode cX3_withUid 15 = .ok (.invokevirtual 103, 3) := dk_182 0 103 (dk_at dksX3_withUid_0 15 rfl rfl)
theorem dX3_withUid_18 : decode cX3_withUid 18 = .ok (.iload_n 2, 1) := dk_28 (dk_at dksX3_withUid_0 18 rfl rfl)
theorem dX3_withUid_19 : decode cX3_withUid 19 = .ok (.if_icmp .ne 5, 3) := dk_160 0 5 (dk_at dksX3_withUid_0 19 rfl rfl)
theorem dX3_withUid_22 : decode cX3_withUid 22 = .ok (.iload_n 3, 1) := dk_29 (dk_at dksX3_withUid_0 22 rfl rfl)
theorem dX3_withUid_23 : decode cX3_withUid 23 = .ok (.ireturn, 1) := dk_172 (dk_at dksX3_withUid_0 23 rfl rfl)
theorem dX3_withUid_24 : decode cX3_withUid 24 = .ok (.iinc 3 1, 3) := dk_132 3 1 (dk_at dksX3_withUid_1 0 rfl rfl)
theorem dX3_withUid_27 : decode cX3_withUid 27 = .ok (.goto (-25), 3) := dk_167 255 231 (dk_at dksX3_withUid_1 3 rfl rfl)
theorem dX3_withUid_30 : decode cX3_withUid 30 = .ok (.iconst (-1), 1) := dk_2 (dk_at dksX3_withUid_1 6 rfl rfl)
theorem dX3_withUid_31 : decode cX3_withUid 31 = .ok (.ireturn, 1) := dk_172 (dk_at dksX3_withUid_1 7 rfl rfl)
abbrev cX3_notes : ByteArray := prog_13_method_35_code
def yX3_notes : MethodName := ⟨RX3, "notes", "(IIII)V"⟩
def dkwX3_notes_3 : List UInt8 := [92, 47, 10, 97, 80, 177]
abbrev dktX3_notes_3 : List UInt8 := dkwX3_notes_3 ++ []
def dkwX3_notes_2 : List UInt8 := [89, 180, 0, 138, 4, 96, 181, 0, 138, 42, 180, 0, 17, 27, 184, 0, 84, 16, 6, 96, 4, 96, 28, 96]
abbrev dktX3_notes_2 : List UInt8 := dkwX3_notes_2 ++ dktX3_notes_3
def dkwX3_notes_1 : List UInt8 := [28, 79, 42, 180, 0, 27, 21, 5, 5, 96, 29, 79, 42, 180, 0, 27, 21, 5, 6, 96, 21, 4, 79, 42]
abbrev dktX3_notes_1 : List UInt8 := dkwX3_notes_1 ++ dktX3_notes_2
def dkwX3_notes_0 : List UInt8 := [7, 42, 180, 0, 138, 104, 54, 5, 42, 180, 0, 27, 21, 5, 27, 79, 42, 180, 0, 27, 21, 5, 4, 96]
abbrev dktX3_notes_0 : List UInt8 := dkwX3_notes_0 ++ dktX3_notes_1
theorem dksX3_notes_0 : cX3_notes.data.toList.drop 0 = dktX3_notes_0 := by decide +kernel
theorem dksX3_notes_1 : cX3_notes.data.toList.drop 24 = dktX3_notes_1 := dk_seg dksX3_notes_0 24 rfl rfl
theorem dksX3_notes_2 : cX3_notes.data.toList.drop 48 = dktX3_notes_2 := dk_seg dksX3_notes_1 24 rfl rfl
theorem dksX3_notes_3 : cX3_notes.data.toList.drop 72 = dktX3_notes_3 := dk_seg dksX3_notes_2 24 rfl rfl
theorem dX3_notes_0 : decode cX3_notes 0 = .ok (.iconst 4, 1) := dk_7 (dk_at dksX3_notes_0 0 rfl rfl)
theorem dX3_notes_1 : decode cX3_notes 1 = .ok (.aload_n 0, 1) := dk_42 (dk_at dksX3_notes_0 1 rfl rfl)
theorem dX3_notes_2 : decode cX3_notes 2 = .ok (.getfield 138, 3) := dk_180 0 138 (dk_at dksX3_notes_0 2 rfl rfl)
theorem dX3_notes_5 : decode cX3_notes 5 = .ok (.imul, 1) := dk_104 (dk_at dksX3_notes_0 5 rfl rfl)
theorem dX3_notes_6 : decode cX3_notes 6 = .ok (.istore 5, 2) := dk_54 5 (dk_at dksX3_notes_0 6 rfl rfl)
theorem dX3_notes_8 : decode cX3_notes 8 = .ok (.aload_n 0, 1) := dk_42 (dk_at dksX3_notes_0 8 rfl rfl)
theorem dX3_notes_9 : decode cX3_notes 9 = .ok (.getfield 27, 3) := dk_180 0 27 (dk_at dksX3_notes_0 9 rfl rfl)
theorem dX3_notes_12 : decode cX3_notes 12 = .ok (.iload 5, 2) := dk_21 5 (dk_at dksX3_notes_0 12 rfl rfl)
theorem dX3_notes_14 : decode cX3_notes 14 = .ok (.iload_n 1, 1) := dk_27 (dk_at dksX3_notes_0 14 rfl rfl)
theorem dX3_notes_15 : decode cX3_notes 15 = .ok (.iastore, 1) := dk_79 (dk_at dksX3_notes_0 15 rfl rfl)
theorem dX3_notes_16 : decode cX3_notes 16 = .ok (.aload_n 0, 1) := dk_42 (dk_at dksX3_notes_0 16 rfl rfl)
theorem dX3_notes_17 : decode cX3_notes 17 = .ok (.getfield 27, 3) := dk_180 0 27 (dk_at dksX3_notes_0 17 rfl rfl)
theorem dX3_notes_20 : decode cX3_notes 20 = .ok (.iload 5, 2) := dk_21 5 (dk_at dksX3_notes_0 20 rfl rfl)
theorem dX3_notes_22 : decode cX3_notes 22 = .ok (.iconst 1, 1) := dk_4 (dk_at dksX3_notes_0 22 rfl rfl)
theorem dX3_notes_23 : decode cX3_notes 23 = .ok (.iadd, 1) := dk_96 (dk_at dksX3_notes_0 23 rfl rfl)
theorem dX3_notes_24 : decode cX3_notes 24 = .ok (.iload_n 2, 1) := dk_28 (dk_at dksX3_notes_1 0 rfl rfl)
theorem dX3_notes_25 : decode cX3_notes 25 = .ok (.iastore, 1) := dk_79 (dk_at dksX3_notes_1 1 rfl rfl)
theorem dX3_notes_26 : decode cX3_notes 26 = .ok (.aload_n 0, 1) := dk_42 (dk_at dksX3_notes_1 2 rfl rfl)
theorem dX3_notes_27 : decode cX3_notes 27 = .ok (.getfield 27, 3) := dk_180 0 27 (dk_at dksX3_notes_1 3 rfl rfl)
theorem dX3_notes_30 : decode cX3_notes 30 = .ok (.iload 5, 2) := dk_21 5 (dk_at dksX3_notes_1 6 rfl rfl)
theorem dX3_notes_32 : decode cX3_notes 32 = .ok (.iconst 2, 1) := dk_5 (dk_at dksX3_notes_1 8 rfl rfl)
theorem dX3_notes_33 : decode cX3_notes 33 = .ok (.iadd, 1) := dk_96 (dk_at dksX3_notes_1 9 rfl rfl)
theorem dX3_notes_34 : decode cX3_notes 34 = .ok (.iload_n 3, 1) := dk_29 (dk_at dksX3_notes_1 10 rfl rfl)
theorem dX3_notes_35 : decode cX3_notes 35 = .ok (.iastore, 1) := dk_79 (dk_at dksX3_notes_1 11 rfl rfl)
theorem dX3_notes_36 : decode cX3_notes 36 = .ok (.aload_n 0, 1) := dk_42 (dk_at dksX3_notes_1 12 rfl rfl)
theorem dX3_notes_37 : decode cX3_notes 37 = .ok (.getfield 27, 3) := dk_180 0 27 (dk_at dksX3_notes_1 13 rfl rfl)
theorem dX3_notes_40 : decode cX3_notes 40 = .ok (.iload 5, 2) := dk_21 5 (dk_at dksX3_notes_1 16 rfl rfl)
theorem dX3_notes_42 : decode cX3_notes 42 = .ok (.iconst 3, 1) := dk_6 (dk_at dksX3_notes_1 18 rfl rfl)
theorem dX3_notes_43 : decode cX3_notes 43 = .ok (.iadd, 1) := dk_96 (dk_at dksX3_notes_1 19 rfl rfl)
theorem dX3_notes_44 : decode cX3_notes 44 = .ok (.iload 4, 2) := dk_21 4 (dk_at dksX3_notes_1 20 rfl rfl)
theorem dX3_notes_46 : decode cX3_notes 46 = .ok (.iastore, 1) := dk_79 (dk_at dksX3_notes_1 22 rfl rfl)
theorem dX3_notes_47 : decode cX3_notes 47 = .ok (.aload_n 0, 1) := dk_42 (dk_at dksX3_notes_1 23 rfl rfl)
theorem dX3_notes_48 : decode cX3_notes 48 = .ok (.dup, 1) := dk_89 (dk_at dksX3_notes_2 0 rfl rfl)
theorem dX3_notes_49 : decode cX3_notes 49 = .ok (.getfield 138, 3) := dk_180 0 138 (dk_at dksX3_notes_2 1 rfl rfl)
theorem dX3_notes_52 : decode cX3_notes 52 = .ok (.iconst 1, 1) := dk_4 (dk_at dksX3_notes_2 4 rfl rfl)
theorem dX3_notes_53 : decode cX3_notes 53 = .ok (.iadd, 1) := dk_96 (dk_at dksX3_notes_2 5 rfl rfl)
theorem dX3_notes_54 : decode cX3_notes 54 = .ok (.putfield 138, 3) := dk_181 0 138 (dk_at dksX3_notes_2 6 rfl rfl)
theorem dX3_notes_57 : decode cX3_notes 57 = .ok (.aload_n 0, 1) := dk_42 (dk_at dksX3_notes_2 9 rfl rfl)
theorem dX3_notes_58 : decode cX3_notes 58 = .ok (.getfield 17, 3) := dk_180 0 17 (dk_at dksX3_notes_2 10 rfl rfl)
theorem dX3_notes_61 : decode cX3_notes 61 = .ok (.iload_n 1, 1) := dk_27 (dk_at dksX3_notes_2 13 rfl rfl)
theorem dX3_notes_62 : decode cX3_notes 62 = .ok (.invokestatic 84, 3) := dk_184 0 84 (dk_at dksX3_notes_2 14 rfl rfl)
theorem dX3_notes_65 : decode cX3_notes 65 = .ok (.bipush 6, 2) := dk_16 6 (dk_at dksX3_notes_2 17 rfl rfl)
theorem dX3_notes_67 : decode cX3_notes 67 = .ok (.iadd, 1) := dk_96 (dk_at dksX3_notes_2 19 rfl rfl)
theorem dX3_notes_68 : decode cX3_notes 68 = .ok (.iconst 1, 1) := dk_4 (dk_at dksX3_notes_2 20 rfl rfl)
theorem dX3_notes_69 : decode cX3_notes 69 = .ok (.iadd, 1) := dk_96 (dk_at dksX3_notes_2 21 rfl rfl)
theorem dX3_notes_70 : decode cX3_notes 70 = .ok (.iload_n 2, 1) := dk_28 (dk_at dksX3_notes_2 22 rfl rfl)
theorem dX3_notes_71 : decode cX3_notes 71 = .ok (.iadd, 1) := dk_96 (dk_at dksX3_notes_2 23 rfl rfl)
theorem dX3_notes_72 : decode cX3_notes 72 = .ok (.dup2, 1) := dk_92 (dk_at dksX3_notes_3 0 rfl rfl)
theorem dX3_notes_73 : decode cX3_notes 73 = .ok (.laload, 1) := dk_47 (dk_at dksX3_notes_3 1 rfl rfl)
theorem dX3_notes_74 : decode cX3_notes 74 = .ok (.lconst 1, 1) := dk_10 (dk_at dksX3_notes_3 2 rfl rfl)
theorem dX3_notes_75 : decode cX3_notes 75 = .ok (.ladd, 1) := dk_97 (dk_at dksX3_notes_3 3 rfl rfl)
theorem dX3_notes_76 : decode cX3_notes 76 = .ok (.lastore, 1) := dk_80 (dk_at dksX3_notes_3 4 rfl rfl)
theorem dX3_notes_77 : decode cX3_notes 77 = .ok (.return_, 1) := dk_177 (dk_at dksX3_notes_3 5 rfl rfl)
abbrev cX3_dropEntry : ByteArray := prog_13_method_37_code
def yX3_dropEntry : MethodName := ⟨RX3, "dropEntry", "(II)V"⟩
def dkwX3_dropEntry_2 : List UInt8 := [47, 80, 132, 3, 1, 167, 255, 224, 177]
abbrev dktX3_dropEntry_2 : List UInt8 := dkwX3_dropEntry_2 ++ []
def dkwX3_dropEntry_1 : List UInt8 := [27, 182, 0, 97, 4, 96, 184, 0, 90, 162, 0, 23, 42, 180, 0, 17, 29, 42, 180, 0, 17, 29, 5, 96]
abbrev dktX3_dropEntry_1 : List UInt8 := dkwX3_dropEntry_1 ++ dktX3_dropEntry_2
def dkwX3_dropEntry_0 : List UInt8 := [42, 180, 0, 17, 27, 184, 0, 84, 7, 96, 92, 47, 10, 101, 80, 27, 28, 184, 0, 90, 62, 29, 27, 42]
abbrev dktX3_dropEntry_0 : List UInt8 := dkwX3_dropEntry_0 ++ dktX3_dropEntry_1
theorem dksX3_dropEntry_0 : cX3_dropEntry.data.toList.drop 0 = dktX3_dropEntry_0 := by decide +kernel
theorem dksX3_dropEntry_1 : cX3_dropEntry.data.toList.drop 24 = dktX3_dropEntry_1 := dk_seg dksX3_dropEntry_0 24 rfl rfl
theorem dksX3_dropEntry_2 : cX3_dropEntry.data.toList.drop 48 = dktX3_dropEntry_2 := dk_seg dksX3_dropEntry_1 24 rfl rfl
theorem dX3_dropEntry_0 : decode cX3_dropEntry 0 = .ok (.aload_n 0, 1) := dk_42 (dk_at dksX3_dropEntry_0 0 rfl rfl)
theorem dX3_dropEntry_1 : decode cX3_dropEntry 1 = .ok (.getfield 17, 3) := dk_180 0 17 (dk_at dksX3_dropEntry_0 1 rfl rfl)
theorem dX3_dropEntry_4 : decode cX3_dropEntry 4 = .ok (.iload_n 1, 1) := dk_27 (dk_at dksX3_dropEntry_0 4 rfl rfl)
theorem dX3_dropEntry_5 : decode cX3_dropEntry 5 = .ok (.invokestatic 84, 3) := dk_184 0 84 (dk_at dksX3_dropEntry_0 5 rfl rfl)
theorem dX3_dropEntry_8 : decode cX3_dropEntry 8 = .ok (.iconst 4, 1) := dk_7 (dk_at dksX3_dropEntry_0 8 rfl rfl)
theorem dX3_dropEntry_9 : decode cX3_dropEntry 9 = .ok (.iadd, 1) := dk_96 (dk_at dksX3_dropEntry_0 9 rfl rfl)
theorem dX3_dropEntry_10 : decode cX3_dropEntry 10 = .ok (.dup2, 1) := dk_92 (dk_at dksX3_dropEntry_0 10 rfl rfl)
theorem dX3_dropEntry_11 : decode cX3_dropEntry 11 = .ok (.laload, 1) := dk_47 (dk_at dksX3_dropEntry_0 11 rfl rfl)
theorem dX3_dropEntry_12 : decode cX3_dropEntry 12 = .ok (.lconst 1, 1) := dk_10 (dk_at dksX3_dropEntry_0 12 rfl rfl)
theorem dX3_dropEntry_13 : decode cX3_dropEntry 13 = .ok (.lsub, 1) := dk_101 (dk_at dksX3_dropEntry_0 13 rfl rfl)
theorem dX3_dropEntry_14 : decode cX3_dropEntry 14 = .ok (.lastore, 1) := dk_80 (dk_at dksX3_dropEntry_0 14 rfl rfl)
theorem dX3_dropEntry_15 : decode cX3_dropEntry 15 = .ok (.iload_n 1, 1) := dk_27 (dk_at dksX3_dropEntry_0 15 rfl rfl)
theorem dX3_dropEntry_16 : decode cX3_dropEntry 16 = .ok (.iload_n 2, 1) := dk_28 (dk_at dksX3_dropEntry_0 16 rfl rfl)
theorem dX3_dropEntry_17 : decode cX3_dropEntry 17 = .ok (.invokestatic 90, 3) := dk_184 0 90 (dk_at dksX3_dropEntry_0 17 rfl rfl)
theorem dX3_dropEntry_20 : decode cX3_dropEntry 20 = .ok (.istore_n 3, 1) := dk_62 (dk_at dksX3_dropEntry_0 20 rfl rfl)
theorem dX3_dropEntry_21 : decode cX3_dropEntry 21 = .ok (.iload_n 3, 1) := dk_29 (dk_at dksX3_dropEntry_0 21 rfl rfl)
theorem dX3_dropEntry_22 : decode cX3_dropEntry 22 = .ok (.iload_n 1, 1) := dk_27 (dk_at dksX3_dropEntry_0 22 rfl rfl)
theorem dX3_dropEntry_23 : decode cX3_dropEntry 23 = .ok (.aload_n 0, 1) := dk_42 (dk_at dksX3_dropEntry_0 23 rfl rfl)
theorem dX3_dropEntry_24 : decode cX3_dropEntry 24 = .ok (.iload_n 1, 1) := dk_27 (dk_at dksX3_dropEntry_1 0 rfl rfl)
theorem dX3_dropEntry_25 : decode cX3_dropEntry 25 = .ok (.invokevirtual 97, 3) := dk_182 0 97 (dk_at dksX3_dropEntry_1 1 rfl rfl)
theorem dX3_dropEntry_28 : decode cX3_dropEntry 28 = .ok (.iconst 1, 1) := dk_4 (dk_at dksX3_dropEntry_1 4 rfl rfl)
theorem dX3_dropEntry_29 : decode cX3_dropEntry 29 = .ok (.iadd, 1) := dk_96 (dk_at dksX3_dropEntry_1 5 rfl rfl)
theorem dX3_dropEntry_30 : decode cX3_dropEntry 30 = .ok (.invokestatic 90, 3) := dk_184 0 90 (dk_at dksX3_dropEntry_1 6 rfl rfl)
theorem dX3_dropEntry_33 : decode cX3_dropEntry 33 = .ok (.if_icmp .ge 23, 3) := dk_162 0 23 (dk_at dksX3_dropEntry_1 9 rfl rfl)
theorem dX3_dropEntry_36 : decode cX3_dropEntry 36 = .ok (.aload_n 0, 1) := dk_42 (dk_at dksX3_dropEntry_1 12 rfl rfl)
theorem dX3_dropEntry_37 : decode cX3_dropEntry 37 = .ok (.getfield 17, 3) := dk_180 0 17 (dk_at dksX3_dropEntry_1 13 rfl rfl)
theorem dX3_dropEntry_40 : decode cX3_dropEntry 40 = .ok (.iload_n 3, 1) := dk_29 (dk_at dksX3_dropEntry_1 16 rfl rfl)
theorem dX3_dropEntry_41 : decode cX3_dropEntry 41 = .ok (.aload_n 0, 1) := dk_42 (dk_at dksX3_dropEntry_1 17 rfl rfl)
theorem dX3_dropEntry_42 : decode cX3_dropEntry 42 = .ok (.getfield 17, 3) := dk_180 0 17 (dk_at dksX3_dropEntry_1 18 rfl rfl)
theorem dX3_dropEntry_45 : decode cX3_dropEntry 45 = .ok (.iload_n 3, 1) := dk_29 (dk_at dksX3_dropEntry_1 21 rfl rfl)
theorem dX3_dropEntry_46 : decode cX3_dropEntry 46 = .ok (.iconst 2, 1) := dk_5 (dk_at dksX3_dropEntry_1 22 rfl rfl)
theorem dX3_dropEntry_47 : decode cX3_dropEntry 47 = .ok (.iadd, 1) := dk_96 (dk_at dksX3_dropEntry_1 23 rfl rfl)
theorem dX3_dropEntry_48 : decode cX3_dropEntry 48 = .ok (.laload, 1) := dk_47 (dk_at dksX3_dropEntry_2 0 rfl rfl)
theorem dX3_dropEntry_49 : decode cX3_dropEntry 49 = .ok (.lastore, 1) := dk_80 (dk_at dksX3_dropEntry_2 1 rfl rfl)
theorem dX3_dropEntry_50 : decode cX3_dropEntry 50 = .ok (.iinc 3 1, 3) := dk_132 3 1 (dk_at dksX3_dropEntry_2 2 rfl rfl)
theorem dX3_dropEntry_53 : decode cX3_dropEntry 53 = .ok (.goto (-32), 3) := dk_167 255 224 (dk_at dksX3_dropEntry_2 5 rfl rfl)
theorem dX3_dropEntry_56 : decode cX3_dropEntry 56 = .ok (.return_, 1) := dk_177 (dk_at dksX3_dropEntry_2 8 rfl rfl)
abbrev cX3_tellFlags : ByteArray := prog_13_method_39_code
def yX3_tellFlags : MethodName := ⟨RX3, "tellFlags", "(I)V"⟩
def dkwX3_tellFlags_2 : List UInt8 := [28, 182, 0, 120, 182, 0, 141, 132, 2, 1, 167, 255, 200, 177]
abbrev dktX3_tellFlags_2 : List UInt8 := dkwX3_tellFlags_2 ++ []
def dkwX3_tellFlags_1 : List UInt8 := [180, 0, 17, 27, 28, 184, 0, 90, 4, 96, 42, 27, 28, 182, 0, 120, 133, 80, 42, 27, 4, 28, 42, 27]
abbrev dktX3_tellFlags_1 : List UInt8 := dkwX3_tellFlags_1 ++ dktX3_tellFlags_2
def dkwX3_tellFlags_0 : List UInt8 := [4, 61, 28, 42, 27, 182, 0, 97, 163, 0, 53, 42, 27, 28, 182, 0, 123, 154, 0, 6, 167, 0, 35, 42]
abbrev dktX3_tellFlags_0 : List UInt8 := dkwX3_tellFlags_0 ++ dktX3_tellFlags_1
theorem dksX3_tellFlags_0 : cX3_tellFlags.data.toList.drop 0 = dktX3_tellFlags_0 := by decide +kernel
theorem dksX3_tellFlags_1 : cX3_tellFlags.data.toList.drop 24 = dktX3_tellFlags_1 := dk_seg dksX3_tellFlags_0 24 rfl rfl
theorem dksX3_tellFlags_2 : cX3_tellFlags.data.toList.drop 48 = dktX3_tellFlags_2 := dk_seg dksX3_tellFlags_1 24 rfl rfl
theorem dX3_tellFlags_0 : decode cX3_tellFlags 0 = .ok (.iconst 1, 1) := dk_4 (dk_at dksX3_tellFlags_0 0 rfl rfl)
theorem dX3_tellFlags_1 : decode cX3_tellFlags 1 = .ok (.istore_n 2, 1) := dk_61 (dk_at dksX3_tellFlags_0 1 rfl rfl)
theorem dX3_tellFlags_2 : decode cX3_tellFlags 2 = .ok (.iload_n 2, 1) := dk_28 (dk_at dksX3_tellFlags_0 2 rfl rfl)
theorem dX3_tellFlags_3 : decode cX3_tellFlags 3 = .ok (.aload_n 0, 1) := dk_42 (dk_at dksX3_tellFlags_0 3 rfl rfl)
theorem dX3_tellFlags_4 : decode cX3_tellFlags 4 = .ok (.iload_n 1, 1) := dk_27 (dk_at dksX3_tellFlags_0 4 rfl rfl)
theorem dX3_tellFlags_5 : decode cX3_tellFlags 5 = .ok (.invokevirtual 97, 3) := dk_182 0 97 (dk_at dksX3_tellFlags_0 5 rfl rfl)
theorem dX3_tellFlags_8 : decode cX3_tellFlags 8 = .ok (.if_icmp .gt 53, 3) := dk_163 0 53 (dk_at dksX3_tellFlags_0 8 rfl rfl)
theorem dX3_tellFlags_11 : decode cX3_tellFlags 11 = .ok (.aload_n 0, 1) := dk_42 (dk_at dksX3_tellFlags_0 11 rfl rfl)
theorem dX3_tellFlags_12 : decode cX3_tellFlags 12 = .ok (.iload_n 1, 1) := dk_27 (dk_at dksX3_tellFlags_0 12 rfl rfl)
theorem dX3_tellFlags_13 : decode cX3_tellFlags 13 = .ok (.iload_n 2, 1) := dk_28 (dk_at dksX3_tellFlags_0 13 rfl rfl)
theorem dX3_tellFlags_14 : decode cX3_tellFlags 14 = .ok (.invokevirtual 123, 3) := dk_182 0 123 (dk_at dksX3_tellFlags_0 14 rfl rfl)
theorem dX3_tellFlags_17 : decode cX3_tellFlags 17 = .ok (.ifCond .ne 6, 3) := dk_154 0 6 (dk_at dksX3_tellFlags_0 17 rfl rfl)
theorem dX3_tellFlags_20 : decode cX3_tellFlags 20 = .ok (.goto 35, 3) := dk_167 0 35 (dk_at dksX3_tellFlags_0 20 rfl rfl)
theorem dX3_tellFlags_23 : decode cX3_tellFlags 23 = .ok (.aload_n 0, 1) := dk_42 (dk_at dksX3_tellFlags_0 23 rfl rfl)
theorem dX3_tellFlags_24 : decode cX3_tellFlags 24 = .ok (.getfield 17, 3) := dk_180 0 17 (dk_at dksX3_tellFlags_1 0 rfl rfl)
theorem dX3_tellFlags_27 : decode cX3_tellFlags 27 = .ok (.iload_n 1, 1) := dk_27 (dk_at dksX3_tellFlags_1 3 rfl rfl)
theorem dX3_tellFlags_28 : decode cX3_tellFlags 28 = .ok (.iload_n 2, 1) := dk_28 (dk_at dksX3_tellFlags_1 4 rfl rfl)
theorem dX3_tellFlags_29 : decode cX3_tellFlags 29 = .ok (.invokestatic 90, 3) := dk_184 0 90 (dk_at dksX3_tellFlags_1 5 rfl rfl)
theorem dX3_tellFlags_32 : decode cX3_tellFlags 32 = .ok (.iconst 1, 1) := dk_4 (dk_at dksX3_tellFlags_1 8 rfl rfl)
theorem dX3_tellFlags_33 : decode cX3_tellFlags 33 = .ok (.iadd, 1) := dk_96 (dk_at dksX3_tellFlags_1 9 rfl rfl)
theorem dX3_tellFlags_34 : decode cX3_tellFlags 34 = .ok (.aload_n 0, 1) := dk_42 (dk_at dksX3_tellFlags_1 10 rfl rfl)
theorem dX3_tellFlags_35 : decode cX3_tellFlags 35 = .ok (.iload_n 1, 1) := dk_27 (dk_at dksX3_tellFlags_1 11 rfl rfl)
theorem dX3_tellFlags_36 : decode cX3_tellFlags 36 = .ok (.iload_n 2, 1) := dk_28 (dk_at dksX3_tellFlags_1 12 rfl rfl)
theorem dX3_tellFlags_37 : decode cX3_tellFlags 37 = .ok (.invokevirtual 120, 3) := dk_182 0 120 (dk_at dksX3_tellFlags_1 13 rfl rfl)
theorem dX3_tellFlags_40 : decode cX3_tellFlags 40 = .ok (.i2l, 1) := dk_133 (dk_at dksX3_tellFlags_1 16 rfl rfl)
theorem dX3_tellFlags_41 : decode cX3_tellFlags 41 = .ok (.lastore, 1) := dk_80 (dk_at dksX3_tellFlags_1 17 rfl rfl)
theorem dX3_tellFlags_42 : decode cX3_tellFlags 42 = .ok (.aload_n 0, 1) := dk_42 (dk_at dksX3_tellFlags_1 18 rfl rfl)
theorem dX3_tellFlags_43 : decode cX3_tellFlags 43 = .ok (.iload_n 1, 1) := dk_27 (dk_at dksX3_tellFlags_1 19 rfl rfl)
theorem dX3_tellFlags_44 : decode cX3_tellFlags 44 = .ok (.iconst 1, 1) := dk_4 (dk_at dksX3_tellFlags_1 20 rfl rfl)
theorem dX3_tellFlags_45 : decode cX3_tellFlags 45 = .ok (.iload_n 2, 1) := dk_28 (dk_at dksX3_tellFlags_1 21 rfl rfl)
theorem dX3_tellFlags_46 : decode cX3_tellFlags 46 = .ok (.aload_n 0, 1) := dk_42 (dk_at dksX3_tellFlags_1 22 rfl rfl)
theorem dX3_tellFlags_47 : decode cX3_tellFlags 47 = .ok (.iload_n 1, 1) := dk_27 (dk_at dksX3_tellFlags_1 23 rfl rfl)
theorem dX3_tellFlags_48 : decode cX3_tellFlags 48 = .ok (.iload_n 2, 1) := dk_28 (dk_at dksX3_tellFlags_2 0 rfl rfl)
theorem dX3_tellFlags_49 : decode cX3_tellFlags 49 = .ok (.invokevirtual 120, 3) := dk_182 0 120 (dk_at dksX3_tellFlags_2 1 rfl rfl)
theorem dX3_tellFlags_52 : decode cX3_tellFlags 52 = .ok (.invokevirtual 141, 3) := dk_182 0 141 (dk_at dksX3_tellFlags_2 4 rfl rfl)
theorem dX3_tellFlags_55 : decode cX3_tellFlags 55 = .ok (.iinc 2 1, 3) := dk_132 2 1 (dk_at dksX3_tellFlags_2 7 rfl rfl)
theorem dX3_tellFlags_58 : decode cX3_tellFlags 58 = .ok (.goto (-56), 3) := dk_167 255 200 (dk_at dksX3_tellFlags_2 10 rfl rfl)
theorem dX3_tellFlags_61 : decode cX3_tellFlags 61 = .ok (.return_, 1) := dk_177 (dk_at dksX3_tellFlags_2 13 rfl rfl)
abbrev cX3_isOther : ByteArray := prog_13_method_30_code
def yX3_isOther : MethodName := ⟨RX3, "isOther", "(II)Z"⟩
def dkwX3_isOther_1 : List UInt8 := [159, 0, 7, 4, 167, 0, 4, 3, 172]
abbrev dktX3_isOther_1 : List UInt8 := dkwX3_isOther_1 ++ []
def dkwX3_isOther_0 : List UInt8 := [42, 27, 28, 182, 0, 116, 154, 0, 23, 42, 27, 28, 182, 0, 120, 42, 27, 28, 4, 182, 0, 107]
abbrev dktX3_isOther_0 : List UInt8 := dkwX3_isOther_0 ++ dktX3_isOther_1
theorem dksX3_isOther_0 : cX3_isOther.data.toList.drop 0 = dktX3_isOther_0 := by decide +kernel
theorem dksX3_isOther_1 : cX3_isOther.data.toList.drop 22 = dktX3_isOther_1 := dk_seg dksX3_isOther_0 22 rfl rfl
theorem dX3_isOther_0 : decode cX3_isOther 0 = .ok (.aload_n 0, 1) := dk_42 (dk_at dksX3_isOther_0 0 rfl rfl)
theorem dX3_isOther_1 : decode cX3_isOther 1 = .ok (.iload_n 1, 1) := dk_27 (dk_at dksX3_isOther_0 1 rfl rfl)
theorem dX3_isOther_2 : decode cX3_isOther 2 = .ok (.iload_n 2, 1) := dk_28 (dk_at dksX3_isOther_0 2 rfl rfl)
theorem dX3_isOther_3 : decode cX3_isOther 3 = .ok (.invokevirtual 116, 3) := dk_182 0 116 (dk_at dksX3_isOther_0 3 rfl rfl)
theorem dX3_isOther_6 : decode cX3_isOther 6 = .ok (.ifCond .ne 23, 3) := dk_154 0 23 (dk_at dksX3_isOther_0 6 rfl rfl)
theorem dX3_isOther_9 : decode cX3_isOther 9 = .ok (.aload_n 0, 1) := dk_42 (dk_at dksX3_isOther_0 9 rfl rfl)
theorem dX3_isOther_10 : decode cX3_isOther 10 = .ok (.iload_n 1, 1) := dk_27 (dk_at dksX3_isOther_0 10 rfl rfl)
theorem dX3_isOther_11 : decode cX3_isOther 11 = .ok (.iload_n 2, 1) := dk_28 (dk_at dksX3_isOther_0 11 rfl rfl)
theorem dX3_isOther_12 : decode cX3_isOther 12 = .ok (.invokevirtual 120, 3) := dk_182 0 120 (dk_at dksX3_isOther_0 12 rfl rfl)
theorem dX3_isOther_15 : decode cX3_isOther 15 = .ok (.aload_n 0, 1) := dk_42 (dk_at dksX3_isOther_0 15 rfl rfl)
theorem dX3_isOther_16 : decode cX3_isOther 16 = .ok (.iload_n 1, 1) := dk_27 (dk_at dksX3_isOther_0 16 rfl rfl)
theorem dX3_isOther_17 : decode cX3_isOther 17 = .ok (.iload_n 2, 1) := dk_28 (dk_at dksX3_isOther_0 17 rfl rfl)
theorem dX3_isOther_18 : decode cX3_isOther 18 = .ok (.iconst 1, 1) := dk_4 (dk_at dksX3_isOther_0 18 rfl rfl)
theorem dX3_isOther_19 : decode cX3_isOther 19 = .ok (.invokevirtual 107, 3) := dk_182 0 107 (dk_at dksX3_isOther_0 19 rfl rfl)
theorem dX3_isOther_22 : decode cX3_isOther 22 = .ok (.if_icmp .eq 7, 3) := dk_159 0 7 (dk_at dksX3_isOther_1 0 rfl rfl)
theorem dX3_isOther_25 : decode cX3_isOther 25 = .ok (.iconst 1, 1) := dk_4 (dk_at dksX3_isOther_1 3 rfl rfl)
theorem dX3_isOther_26 : decode cX3_isOther 26 = .ok (.goto 4, 3) := dk_167 0 4 (dk_at dksX3_isOther_1 4 rfl rfl)
theorem dX3_isOther_29 : decode cX3_isOther 29 = .ok (.iconst 0, 1) := dk_3 (dk_at dksX3_isOther_1 7 rfl rfl)
theorem dX3_isOther_30 : decode cX3_isOther 30 = .ok (.ireturn, 1) := dk_172 (dk_at dksX3_isOther_1 8 rfl rfl)
abbrev cX3_flagsOf : ByteArray := prog_13_method_29_code
def yX3_flagsOf : MethodName := ⟨RX3, "flagsOf", "(II)I"⟩
def dkwX3_flagsOf_0 : List UInt8 := [42, 42, 27, 182, 0, 87, 42, 27, 28, 182, 0, 113, 5, 182, 0, 103, 172]
abbrev dktX3_flagsOf_0 : List UInt8 := dkwX3_flagsOf_0 ++ []
theorem dksX3_flagsOf_0 : cX3_flagsOf.data.toList.drop 0 = dktX3_flagsOf_0 := by decide +kernel
theorem dX3_flagsOf_0 : decode cX3_flagsOf 0 = .ok (.aload_n 0, 1) := dk_42 (dk_at dksX3_flagsOf_0 0 rfl rfl)
theorem dX3_flagsOf_1 : decode cX3_flagsOf 1 = .ok (.aload_n 0, 1) := dk_42 (dk_at dksX3_flagsOf_0 1 rfl rfl)
theorem dX3_flagsOf_2 : decode cX3_flagsOf 2 = .ok (.iload_n 1, 1) := dk_27 (dk_at dksX3_flagsOf_0 2 rfl rfl)
theorem dX3_flagsOf_3 : decode cX3_flagsOf 3 = .ok (.invokevirtual 87, 3) := dk_182 0 87 (dk_at dksX3_flagsOf_0 3 rfl rfl)
theorem dX3_flagsOf_6 : decode cX3_flagsOf 6 = .ok (.aload_n 0, 1) := dk_42 (dk_at dksX3_flagsOf_0 6 rfl rfl)
theorem dX3_flagsOf_7 : decode cX3_flagsOf 7 = .ok (.iload_n 1, 1) := dk_27 (dk_at dksX3_flagsOf_0 7 rfl rfl)
theorem dX3_flagsOf_8 : decode cX3_flagsOf 8 = .ok (.iload_n 2, 1) := dk_28 (dk_at dksX3_flagsOf_0 8 rfl rfl)
theorem dX3_flagsOf_9 : decode cX3_flagsOf 9 = .ok (.invokevirtual 113, 3) := dk_182 0 113 (dk_at dksX3_flagsOf_0 9 rfl rfl)
theorem dX3_flagsOf_12 : decode cX3_flagsOf 12 = .ok (.iconst 2, 1) := dk_5 (dk_at dksX3_flagsOf_0 12 rfl rfl)
theorem dX3_flagsOf_13 : decode cX3_flagsOf 13 = .ok (.invokevirtual 103, 3) := dk_182 0 103 (dk_at dksX3_flagsOf_0 13 rfl rfl)
theorem dX3_flagsOf_16 : decode cX3_flagsOf 16 = .ok (.ireturn, 1) := dk_172 (dk_at dksX3_flagsOf_0 16 rfl rfl)
abbrev cX3_tellNew : ByteArray := prog_13_method_40_code
def yX3_tellNew : MethodName := ⟨RX3, "tellNew", "(I)V"⟩
def dkwX3_tellNew_3 : List UInt8 := [182, 0, 97, 28, 164, 0, 15, 42, 27, 5, 42, 27, 182, 0, 97, 3, 182, 0, 141, 177]
abbrev dktX3_tellNew_3 : List UInt8 := dkwX3_tellNew_3 ++ []
def dkwX3_tellNew_2 : List UInt8 := [8, 96, 182, 0, 62, 164, 0, 9, 42, 27, 29, 182, 0, 149, 132, 3, 1, 167, 255, 200, 42, 27]
abbrev dktX3_tellNew_2 : List UInt8 := dkwX3_tellNew_2 ++ dktX3_tellNew_3
def dkwX3_tellNew_1 : List UInt8 := [182, 0, 97, 16, 60, 162, 0, 39, 42, 42, 27, 182, 0, 87, 29, 3, 182, 0, 103, 42, 27, 184, 0, 84]
abbrev dktX3_tellNew_1 : List UInt8 := dkwX3_tellNew_1 ++ dktX3_tellNew_2
def dkwX3_tellNew_0 : List UInt8 := [42, 27, 182, 0, 97, 61, 3, 62, 29, 42, 42, 27, 182, 0, 87, 182, 0, 100, 162, 0, 49, 42, 27]
abbrev dktX3_tellNew_0 : List UInt8 := dkwX3_tellNew_0 ++ dktX3_tellNew_1
theorem dksX3_tellNew_0 : cX3_tellNew.data.toList.drop 0 = dktX3_tellNew_0 := by decide +kernel
theorem dksX3_tellNew_1 : cX3_tellNew.data.toList.drop 23 = dktX3_tellNew_1 := dk_seg dksX3_tellNew_0 23 rfl rfl
theorem dksX3_tellNew_2 : cX3_tellNew.data.toList.drop 47 = dktX3_tellNew_2 := dk_seg dksX3_tellNew_1 24 rfl rfl
theorem dksX3_tellNew_3 : cX3_tellNew.data.toList.drop 69 = dktX3_tellNew_3 := dk_seg dksX3_tellNew_2 22 rfl rfl
theorem dX3_tellNew_0 : decode cX3_tellNew 0 = .ok (.aload_n 0, 1) := dk_42 (dk_at dksX3_tellNew_0 0 rfl rfl)
theorem dX3_tellNew_1 : decode cX3_tellNew 1 = .ok (.iload_n 1, 1) := dk_27 (dk_at dksX3_tellNew_0 1 rfl rfl)
theorem dX3_tellNew_2 : decode cX3_tellNew 2 = .ok (.invokevirtual 97, 3) := dk_182 0 97 (dk_at dksX3_tellNew_0 2 rfl rfl)
theorem dX3_tellNew_5 : decode cX3_tellNew 5 = .ok (.istore_n 2, 1) := dk_61 (dk_at dksX3_tellNew_0 5 rfl rfl)
theorem dX3_tellNew_6 : decode cX3_tellNew 6 = .ok (.iconst 0, 1) := dk_3 (dk_at dksX3_tellNew_0 6 rfl rfl)
theorem dX3_tellNew_7 : decode cX3_tellNew 7 = .ok (.istore_n 3, 1) := dk_62 (dk_at dksX3_tellNew_0 7 rfl rfl)
theorem dX3_tellNew_8 : decode cX3_tellNew 8 = .ok (.iload_n 3, 1) := dk_29 (dk_at dksX3_tellNew_0 8 rfl rfl)
theorem dX3_tellNew_9 : decode cX3_tellNew 9 = .ok (.aload_n 0, 1) := dk_42 (dk_at dksX3_tellNew_0 9 rfl rfl)
theorem dX3_tellNew_10 : decode cX3_tellNew 10 = .ok (.aload_n 0, 1) := dk_42 (dk_at dksX3_tellNew_0 10 rfl rfl)
theorem dX3_tellNew_11 : decode cX3_tellNew 11 = .ok (.iload_n 1, 1) := dk_27 (dk_at dksX3_tellNew_0 11 rfl rfl)
theorem dX3_tellNew_12 : decode cX3_tellNew 12 = .ok (.invokevirtual 87, 3) := dk_182 0 87 (dk_at dksX3_tellNew_0 12 rfl rfl)
theorem dX3_tellNew_15 : decode cX3_tellNew 15 = .ok (.invokevirtual 100, 3) := dk_182 0 100 (dk_at dksX3_tellNew_0 15 rfl rfl)
theorem dX3_tellNew_18 : decode cX3_tellNew 18 = .ok (.if_icmp .ge 49, 3) := dk_162 0 49 (dk_at dksX3_tellNew_0 18 rfl rfl)
theorem dX3_tellNew_21 : decode cX3_tellNew 21 = .ok (.aload_n 0, 1) := dk_42 (dk_at dksX3_tellNew_0 21 rfl rfl)
theorem dX3_tellNew_22 : decode cX3_tellNew 22 = .ok (.iload_n 1, 1) := dk_27 (dk_at dksX3_tellNew_0 22 rfl rfl)
theorem dX3_tellNew_23 : decode cX3_tellNew 23 = .ok (.invokevirtual 97, 3) := dk_182 0 97 (dk_at dksX3_tellNew_1 0 rfl rfl)
theorem dX3_tellNew_26 : decode cX3_tellNew 26 = .ok (.bipush 60, 2) := dk_16 60 (dk_at dksX3_tellNew_1 3 rfl rfl)
theorem dX3_tellNew_28 : decode cX3_tellNew 28 = .ok (.if_icmp .ge 39, 3) := dk_162 0 39 (dk_at dksX3_tellNew_1 5 rfl rfl)
theorem dX3_tellNew_31 : decode cX3_tellNew 31 = .ok (.aload_n 0, 1) := dk_42 (dk_at dksX3_tellNew_1 8 rfl rfl)
theorem dX3_tellNew_32 : decode cX3_tellNew 32 = .ok (.aload_n 0, 1) := dk_42 (dk_at dksX3_tellNew_1 9 rfl rfl)
theorem dX3_tellNew_33 : decode cX3_tellNew 33 = .ok (.iload_n 1, 1) := dk_27 (dk_at dksX3_tellNew_1 10 rfl rfl)
theorem dX3_tellNew_34 : decode cX3_tellNew 34 = .ok (.invokevirtual 87, 3) := dk_182 0 87 (dk_at dksX3_tellNew_1 11 rfl rfl)
theorem dX3_tellNew_37 : decode cX3_tellNew 37 = .ok (.iload_n 3, 1) := dk_29 (dk_at dksX3_tellNew_1 14 rfl rfl)
theorem dX3_tellNew_38 : decode cX3_tellNew 38 = .ok (.iconst 0, 1) := dk_3 (dk_at dksX3_tellNew_1 15 rfl rfl)
theorem dX3_tellNew_39 : decode cX3_tellNew 39 = .ok (.invokevirtual 103, 3) := dk_182 0 103 (dk_at dksX3_tellNew_1 16 rfl rfl)
theorem dX3_tellNew_42 : decode cX3_tellNew 42 = .ok (.aload_n 0, 1) := dk_42 (dk_at dksX3_tellNew_1 19 rfl rfl)
theorem dX3_tellNew_43 : decode cX3_tellNew 43 = .ok (.iload_n 1, 1) := dk_27 (dk_at dksX3_tellNew_1 20 rfl rfl)
theorem dX3_tellNew_44 : decode cX3_tellNew 44 = .ok (.invokestatic 84, 3) := dk_184 0 84 (dk_at dksX3_tellNew_1 21 rfl rfl)
theorem dX3_tellNew_47 : decode cX3_tellNew 47 = .ok (.iconst 5, 1) := dk_8 (dk_at dksX3_tellNew_2 0 rfl rfl)
theorem dX3_tellNew_48 : decode cX3_tellNew 48 = .ok (.iadd, 1) := dk_96 (dk_at dksX3_tellNew_2 1 rfl rfl)
theorem dX3_tellNew_49 : decode cX3_tellNew 49 = .ok (.invokevirtual 62, 3) := dk_182 0 62 (dk_at dksX3_tellNew_2 2 rfl rfl)
theorem dX3_tellNew_52 : decode cX3_tellNew 52 = .ok (.if_icmp .le 9, 3) := dk_164 0 9 (dk_at dksX3_tellNew_2 5 rfl rfl)
theorem dX3_tellNew_55 : decode cX3_tellNew 55 = .ok (.aload_n 0, 1) := dk_42 (dk_at dksX3_tellNew_2 8 rfl rfl)
theorem dX3_tellNew_56 : decode cX3_tellNew 56 = .ok (.iload_n 1, 1) := dk_27 (dk_at dksX3_tellNew_2 9 rfl rfl)
theorem dX3_tellNew_57 : decode cX3_tellNew 57 = .ok (.iload_n 3, 1) := dk_29 (dk_at dksX3_tellNew_2 10 rfl rfl)
theorem dX3_tellNew_58 : decode cX3_tellNew 58 = .ok (.invokevirtual 149, 3) := dk_182 0 149 (dk_at dksX3_tellNew_2 11 rfl rfl)
theorem dX3_tellNew_61 : decode cX3_tellNew 61 = .ok (.iinc 3 1, 3) := dk_132 3 1 (dk_at dksX3_tellNew_2 14 rfl rfl)
theorem dX3_tellNew_64 : decode cX3_tellNew 64 = .ok (.goto (-56), 3) := dk_167 255 200 (dk_at dksX3_tellNew_2 17 rfl rfl)
theorem dX3_tellNew_67 : decode cX3_tellNew 67 = .ok (.aload_n 0, 1) := dk_42 (dk_at dksX3_tellNew_2 20 rfl rfl)
theorem dX3_tellNew_68 : decode cX3_tellNew 68 = .ok (.iload_n 1, 1) := dk_27 (dk_at dksX3_tellNew_2 21 rfl rfl)
theorem dX3_tellNew_69 : decode cX3_tellNew 69 = .ok (.invokevirtual 97, 3) := dk_182 0 97 (dk_at dksX3_tellNew_3 0 rfl rfl)
theorem dX3_tellNew_72 : decode cX3_tellNew 72 = .ok (.iload_n 2, 1) := dk_28 (dk_at dksX3_tellNew_3 3 rfl rfl)
theorem dX3_tellNew_73 : decode cX3_tellNew 73 = .ok (.if_icmp .le 15, 3) := dk_164 0 15 (dk_at dksX3_tellNew_3 4 rfl rfl)
theorem dX3_tellNew_76 : decode cX3_tellNew 76 = .ok (.aload_n 0, 1) := dk_42 (dk_at dksX3_tellNew_3 7 rfl rfl)
theorem dX3_tellNew_77 : decode cX3_tellNew 77 = .ok (.iload_n 1, 1) := dk_27 (dk_at dksX3_tellNew_3 8 rfl rfl)
theorem dX3_tellNew_78 : decode cX3_tellNew 78 = .ok (.iconst 2, 1) := dk_5 (dk_at dksX3_tellNew_3 9 rfl rfl)
theorem dX3_tellNew_79 : decode cX3_tellNew 79 = .ok (.aload_n 0, 1) := dk_42 (dk_at dksX3_tellNew_3 10 rfl rfl)
theorem dX3_tellNew_80 : decode cX3_tellNew 80 = .ok (.iload_n 1, 1) := dk_27 (dk_at dksX3_tellNew_3 11 rfl rfl)
theorem dX3_tellNew_81 : decode cX3_tellNew 81 = .ok (.invokevirtual 97, 3) := dk_182 0 97 (dk_at dksX3_tellNew_3 12 rfl rfl)
theorem dX3_tellNew_84 : decode cX3_tellNew 84 = .ok (.iconst 0, 1) := dk_3 (dk_at dksX3_tellNew_3 15 rfl rfl)
theorem dX3_tellNew_85 : decode cX3_tellNew 85 = .ok (.invokevirtual 141, 3) := dk_182 0 141 (dk_at dksX3_tellNew_3 16 rfl rfl)
theorem dX3_tellNew_88 : decode cX3_tellNew 88 = .ok (.return_, 1) := dk_177 (dk_at dksX3_tellNew_3 19 rfl rfl)
abbrev cX3_noop : ByteArray := prog_13_method_51_code
def yX3_noop : MethodName := ⟨RX3, "noop", "(I)I"⟩
def dkwX3_noop_1 : List UInt8 := [42, 27, 4, 182, 0, 181, 172]
abbrev dktX3_noop_1 : List UInt8 := dkwX3_noop_1 ++ []
def dkwX3_noop_0 : List UInt8 := [42, 42, 27, 182, 0, 93, 42, 27, 182, 0, 169, 182, 0, 192, 154, 0, 5, 3, 172, 42, 27, 182, 0, 196]
abbrev dktX3_noop_0 : List UInt8 := dkwX3_noop_0 ++ dktX3_noop_1
theorem dksX3_noop_0 : cX3_noop.data.toList.drop 0 = dktX3_noop_0 := by decide +kernel
theorem dksX3_noop_1 : cX3_noop.data.toList.drop 24 = dktX3_noop_1 := dk_seg dksX3_noop_0 24 rfl rfl
theorem dX3_noop_0 : decode cX3_noop 0 = .ok (.aload_n 0, 1) := dk_42 (dk_at dksX3_noop_0 0 rfl rfl)
theorem dX3_noop_1 : decode cX3_noop 1 = .ok (.aload_n 0, 1) := dk_42 (dk_at dksX3_noop_0 1 rfl rfl)
theorem dX3_noop_2 : decode cX3_noop 2 = .ok (.iload_n 1, 1) := dk_27 (dk_at dksX3_noop_0 2 rfl rfl)
theorem dX3_noop_3 : decode cX3_noop 3 = .ok (.invokevirtual 93, 3) := dk_182 0 93 (dk_at dksX3_noop_0 3 rfl rfl)
theorem dX3_noop_6 : decode cX3_noop 6 = .ok (.aload_n 0, 1) := dk_42 (dk_at dksX3_noop_0 6 rfl rfl)
theorem dX3_noop_7 : decode cX3_noop 7 = .ok (.iload_n 1, 1) := dk_27 (dk_at dksX3_noop_0 7 rfl rfl)
theorem dX3_noop_8 : decode cX3_noop 8 = .ok (.invokevirtual 169, 3) := dk_182 0 169 (dk_at dksX3_noop_0 8 rfl rfl)
theorem dX3_noop_11 : decode cX3_noop 11 = .ok (.invokevirtual 192, 3) := dk_182 0 192 (dk_at dksX3_noop_0 11 rfl rfl)
theorem dX3_noop_14 : decode cX3_noop 14 = .ok (.ifCond .ne 5, 3) := dk_154 0 5 (dk_at dksX3_noop_0 14 rfl rfl)
theorem dX3_noop_17 : decode cX3_noop 17 = .ok (.iconst 0, 1) := dk_3 (dk_at dksX3_noop_0 17 rfl rfl)
theorem dX3_noop_18 : decode cX3_noop 18 = .ok (.ireturn, 1) := dk_172 (dk_at dksX3_noop_0 18 rfl rfl)
theorem dX3_noop_19 : decode cX3_noop 19 = .ok (.aload_n 0, 1) := dk_42 (dk_at dksX3_noop_0 19 rfl rfl)
theorem dX3_noop_20 : decode cX3_noop 20 = .ok (.iload_n 1, 1) := dk_27 (dk_at dksX3_noop_0 20 rfl rfl)
theorem dX3_noop_21 : decode cX3_noop 21 = .ok (.invokevirtual 196, 3) := dk_182 0 196 (dk_at dksX3_noop_0 21 rfl rfl)
theorem dX3_noop_24 : decode cX3_noop 24 = .ok (.aload_n 0, 1) := dk_42 (dk_at dksX3_noop_1 0 rfl rfl)
theorem dX3_noop_25 : decode cX3_noop 25 = .ok (.iload_n 1, 1) := dk_27 (dk_at dksX3_noop_1 1 rfl rfl)
theorem dX3_noop_26 : decode cX3_noop 26 = .ok (.iconst 1, 1) := dk_4 (dk_at dksX3_noop_1 2 rfl rfl)
theorem dX3_noop_27 : decode cX3_noop 27 = .ok (.invokevirtual 181, 3) := dk_182 0 181 (dk_at dksX3_noop_1 3 rfl rfl)
theorem dX3_noop_30 : decode cX3_noop 30 = .ok (.ireturn, 1) := dk_172 (dk_at dksX3_noop_1 6 rfl rfl)
abbrev cX3_canDo : ByteArray := prog_13_method_43_code
def yX3_canDo : MethodName := ⟨RX3, "canDo", "(I)Z"⟩
def dkwX3_canDo_1 : List UInt8 := [4, 167, 0, 4, 3, 172]
abbrev dktX3_canDo_1 : List UInt8 := dkwX3_canDo_1 ++ []
def dkwX3_canDo_0 : List UInt8 := [42, 27, 182, 0, 93, 153, 0, 23, 42, 27, 182, 0, 126, 153, 0, 15, 42, 27, 182, 0, 162, 154, 0, 7]
abbrev dktX3_canDo_0 : List UInt8 := dkwX3_canDo_0 ++ dktX3_canDo_1
theorem dksX3_canDo_0 : cX3_canDo.data.toList.drop 0 = dktX3_canDo_0 := by decide +kernel
theorem dksX3_canDo_1 : cX3_canDo.data.toList.drop 24 = dktX3_canDo_1 := dk_seg dksX3_canDo_0 24 rfl rfl
theorem dX3_canDo_0 : decode cX3_canDo 0 = .ok (.aload_n 0, 1) := dk_42 (dk_at dksX3_canDo_0 0 rfl rfl)
theorem dX3_canDo_1 : decode cX3_canDo 1 = .ok (.iload_n 1, 1) := dk_27 (dk_at dksX3_canDo_0 1 rfl rfl)
theorem dX3_canDo_2 : decode cX3_canDo 2 = .ok (.invokevirtual 93, 3) := dk_182 0 93 (dk_at dksX3_canDo_0 2 rfl rfl)
theorem dX3_canDo_5 : decode cX3_canDo 5 = .ok (.ifCond .eq 23, 3) := dk_153 0 23 (dk_at dksX3_canDo_0 5 rfl rfl)
theorem dX3_canDo_8 : decode cX3_canDo 8 = .ok (.aload_n 0, 1) := dk_42 (dk_at dksX3_canDo_0 8 rfl rfl)
theorem dX3_canDo_9 : decode cX3_canDo 9 = .ok (.iload_n 1, 1) := dk_27 (dk_at dksX3_canDo_0 9 rfl rfl)
theorem dX3_canDo_10 : decode cX3_canDo 10 = .ok (.invokevirtual 126, 3) := dk_182 0 126 (dk_at dksX3_canDo_0 10 rfl rfl)
theorem dX3_canDo_13 : decode cX3_canDo 13 = .ok (.ifCond .eq 15, 3) := dk_153 0 15 (dk_at dksX3_canDo_0 13 rfl rfl)
theorem dX3_canDo_16 : decode cX3_canDo 16 = .ok (.aload_n 0, 1) := dk_42 (dk_at dksX3_canDo_0 16 rfl rfl)
theorem dX3_canDo_17 : decode cX3_canDo 17 = .ok (.iload_n 1, 1) := dk_27 (dk_at dksX3_canDo_0 17 rfl rfl)
theorem dX3_canDo_18 : decode cX3_canDo 18 = .ok (.invokevirtual 162, 3) := dk_182 0 162 (dk_at dksX3_canDo_0 18 rfl rfl)
theorem dX3_canDo_21 : decode cX3_canDo 21 = .ok (.ifCond .ne 7, 3) := dk_154 0 7 (dk_at dksX3_canDo_0 21 rfl rfl)
theorem dX3_canDo_24 : decode cX3_canDo 24 = .ok (.iconst 1, 1) := dk_4 (dk_at dksX3_canDo_1 0 rfl rfl)
theorem dX3_canDo_25 : decode cX3_canDo 25 = .ok (.goto 4, 3) := dk_167 0 4 (dk_at dksX3_canDo_1 1 rfl rfl)
theorem dX3_canDo_28 : decode cX3_canDo 28 = .ok (.iconst 0, 1) := dk_3 (dk_at dksX3_canDo_1 4 rfl rfl)
theorem dX3_canDo_29 : decode cX3_canDo 29 = .ok (.ireturn, 1) := dk_172 (dk_at dksX3_canDo_1 5 rfl rfl)
abbrev cX3_ends : ByteArray := prog_13_method_46_code
def yX3_ends : MethodName := ⟨RX3, "ends", "(IZ)I"⟩
def dkwX3_ends_0 : List UInt8 := [42, 27, 28, 182, 0, 165, 62, 42, 182, 0, 178, 29, 172]
abbrev dktX3_ends_0 : List UInt8 := dkwX3_ends_0 ++ []
theorem dksX3_ends_0 : cX3_ends.data.toList.drop 0 = dktX3_ends_0 := by decide +kernel
theorem dX3_ends_0 : decode cX3_ends 0 = .ok (.aload_n 0, 1) := dk_42 (dk_at dksX3_ends_0 0 rfl rfl)
theorem dX3_ends_1 : decode cX3_ends 1 = .ok (.iload_n 1, 1) := dk_27 (dk_at dksX3_ends_0 1 rfl rfl)
theorem dX3_ends_2 : decode cX3_ends 2 = .ok (.iload_n 2, 1) := dk_28 (dk_at dksX3_ends_0 2 rfl rfl)
theorem dX3_ends_3 : decode cX3_ends 3 = .ok (.invokevirtual 165, 3) := dk_182 0 165 (dk_at dksX3_ends_0 3 rfl rfl)
theorem dX3_ends_6 : decode cX3_ends 6 = .ok (.istore_n 3, 1) := dk_62 (dk_at dksX3_ends_0 6 rfl rfl)
theorem dX3_ends_7 : decode cX3_ends 7 = .ok (.aload_n 0, 1) := dk_42 (dk_at dksX3_ends_0 7 rfl rfl)
theorem dX3_ends_8 : decode cX3_ends 8 = .ok (.invokevirtual 178, 3) := dk_182 0 178 (dk_at dksX3_ends_0 8 rfl rfl)
theorem dX3_ends_11 : decode cX3_ends 11 = .ok (.iload_n 3, 1) := dk_29 (dk_at dksX3_ends_0 11 rfl rfl)
theorem dX3_ends_12 : decode cX3_ends 12 = .ok (.ireturn, 1) := dk_172 (dk_at dksX3_ends_0 12 rfl rfl)
abbrev cX3_startIdle : ByteArray := prog_13_method_52_code
def yX3_startIdle : MethodName := ⟨RX3, "startIdle", "(I)I"⟩
def dkwX3_startIdle_1 : List UInt8 := [42, 180, 0, 17, 27, 184, 0, 84, 6, 96, 10, 80, 42, 27, 4, 182, 0, 181, 172]
abbrev dktX3_startIdle_1 : List UInt8 := dkwX3_startIdle_1 ++ []
def dkwX3_startIdle_0 : List UInt8 := [42, 42, 27, 182, 0, 93, 42, 27, 182, 0, 169, 182, 0, 192, 154, 0, 5, 3, 172, 42, 27, 182, 0, 196]
abbrev dktX3_startIdle_0 : List UInt8 := dkwX3_startIdle_0 ++ dktX3_startIdle_1
theorem dksX3_startIdle_0 : cX3_startIdle.data.toList.drop 0 = dktX3_startIdle_0 := by decide +kernel
theorem dksX3_startIdle_1 : cX3_startIdle.data.toList.drop 24 = dktX3_startIdle_1 := dk_seg dksX3_startIdle_0 24 rfl rfl
theorem dX3_startIdle_0 : decode cX3_startIdle 0 = .ok (.aload_n 0, 1) := dk_42 (dk_at dksX3_startIdle_0 0 rfl rfl)
theorem dX3_startIdle_1 : decode cX3_startIdle 1 = .ok (.aload_n 0, 1) := dk_42 (dk_at dksX3_startIdle_0 1 rfl rfl)
theorem dX3_startIdle_2 : decode cX3_startIdle 2 = .ok (.iload_n 1, 1) := dk_27 (dk_at dksX3_startIdle_0 2 rfl rfl)
theorem dX3_startIdle_3 : decode cX3_startIdle 3 = .ok (.invokevirtual 93, 3) := dk_182 0 93 (dk_at dksX3_startIdle_0 3 rfl rfl)
theorem dX3_startIdle_6 : decode cX3_startIdle 6 = .ok (.aload_n 0, 1) := dk_42 (dk_at dksX3_startIdle_0 6 rfl rfl)
theorem dX3_startIdle_7 : decode cX3_startIdle 7 = .ok (.iload_n 1, 1) := dk_27 (dk_at dksX3_startIdle_0 7 rfl rfl)
theorem dX3_startIdle_8 : decode cX3_startIdle 8 = .ok (.invokevirtual 169, 3) := dk_182 0 169 (dk_at dksX3_startIdle_0 8 rfl rfl)
theorem dX3_startIdle_11 : decode cX3_startIdle 11 = .ok (.invokevirtual 192, 3) := dk_182 0 192 (dk_at dksX3_startIdle_0 11 rfl rfl)
theorem dX3_startIdle_14 : decode cX3_startIdle 14 = .ok (.ifCond .ne 5, 3) := dk_154 0 5 (dk_at dksX3_startIdle_0 14 rfl rfl)
theorem dX3_startIdle_17 : decode cX3_startIdle 17 = .ok (.iconst 0, 1) := dk_3 (dk_at dksX3_startIdle_0 17 rfl rfl)
theorem dX3_startIdle_18 : decode cX3_startIdle 18 = .ok (.ireturn, 1) := dk_172 (dk_at dksX3_startIdle_0 18 rfl rfl)
theorem dX3_startIdle_19 : decode cX3_startIdle 19 = .ok (.aload_n 0, 1) := dk_42 (dk_at dksX3_startIdle_0 19 rfl rfl)
theorem dX3_startIdle_20 : decode cX3_startIdle 20 = .ok (.iload_n 1, 1) := dk_27 (dk_at dksX3_startIdle_0 20 rfl rfl)
theorem dX3_startIdle_21 : decode cX3_startIdle 21 = .ok (.invokevirtual 196, 3) := dk_182 0 196 (dk_at dksX3_startIdle_0 21 rfl rfl)
theorem dX3_startIdle_24 : decode cX3_startIdle 24 = .ok (.aload_n 0, 1) := dk_42 (dk_at dksX3_startIdle_1 0 rfl rfl)
theorem dX3_startIdle_25 : decode cX3_startIdle 25 = .ok (.getfield 17, 3) := dk_180 0 17 (dk_at dksX3_startIdle_1 1 rfl rfl)
theorem dX3_startIdle_28 : decode cX3_startIdle 28 = .ok (.iload_n 1, 1) := dk_27 (dk_at dksX3_startIdle_1 4 rfl rfl)
theorem dX3_startIdle_29 : decode cX3_startIdle 29 = .ok (.invokestatic 84, 3) := dk_184 0 84 (dk_at dksX3_startIdle_1 5 rfl rfl)
theorem dX3_startIdle_32 : decode cX3_startIdle 32 = .ok (.iconst 3, 1) := dk_6 (dk_at dksX3_startIdle_1 8 rfl rfl)
theorem dX3_startIdle_33 : decode cX3_startIdle 33 = .ok (.iadd, 1) := dk_96 (dk_at dksX3_startIdle_1 9 rfl rfl)
theorem dX3_startIdle_34 : decode cX3_startIdle 34 = .ok (.lconst 1, 1) := dk_10 (dk_at dksX3_startIdle_1 10 rfl rfl)
theorem dX3_startIdle_35 : decode cX3_startIdle 35 = .ok (.lastore, 1) := dk_80 (dk_at dksX3_startIdle_1 11 rfl rfl)
theorem dX3_startIdle_36 : decode cX3_startIdle 36 = .ok (.aload_n 0, 1) := dk_42 (dk_at dksX3_startIdle_1 12 rfl rfl)
theorem dX3_startIdle_37 : decode cX3_startIdle 37 = .ok (.iload_n 1, 1) := dk_27 (dk_at dksX3_startIdle_1 13 rfl rfl)
theorem dX3_startIdle_38 : decode cX3_startIdle 38 = .ok (.iconst 1, 1) := dk_4 (dk_at dksX3_startIdle_1 14 rfl rfl)
theorem dX3_startIdle_39 : decode cX3_startIdle 39 = .ok (.invokevirtual 181, 3) := dk_182 0 181 (dk_at dksX3_startIdle_1 15 rfl rfl)
theorem dX3_startIdle_42 : decode cX3_startIdle 42 = .ok (.ireturn, 1) := dk_172 (dk_at dksX3_startIdle_1 18 rfl rfl)
abbrev cX3_stopIdle : ByteArray := prog_13_method_53_code
def yX3_stopIdle : MethodName := ⟨RX3, "stopIdle", "(I)I"⟩
def dkwX3_stopIdle_2 : List UInt8 := [9, 80, 42, 27, 4, 182, 0, 181, 172]
abbrev dktX3_stopIdle_2 : List UInt8 := dkwX3_stopIdle_2 ++ []
def dkwX3_stopIdle_1 : List UInt8 := [3, 182, 0, 192, 154, 0, 5, 3, 172, 42, 27, 182, 0, 196, 42, 180, 0, 17, 27, 184, 0, 84, 6, 96]
abbrev dktX3_stopIdle_1 : List UInt8 := dkwX3_stopIdle_1 ++ dktX3_stopIdle_2
def dkwX3_stopIdle_0 : List UInt8 := [42, 27, 182, 0, 93, 61, 42, 28, 28, 153, 0, 15, 42, 27, 182, 0, 162, 153, 0, 7, 4, 167, 0, 4]
abbrev dktX3_stopIdle_0 : List UInt8 := dkwX3_stopIdle_0 ++ dktX3_stopIdle_1
theorem dksX3_stopIdle_0 : cX3_stopIdle.data.toList.drop 0 = dktX3_stopIdle_0 := by decide +kernel
theorem dksX3_stopIdle_1 : cX3_stopIdle.data.toList.drop 24 = dktX3_stopIdle_1 := dk_seg dksX3_stopIdle_0 24 rfl rfl
theorem dksX3_stopIdle_2 : cX3_stopIdle.data.toList.drop 48 = dktX3_stopIdle_2 := dk_seg dksX3_stopIdle_1 24 rfl rfl
theorem dX3_stopIdle_0 : decode cX3_stopIdle 0 = .ok (.aload_n 0, 1) := dk_42 (dk_at dksX3_stopIdle_0 0 rfl rfl)
theorem dX3_stopIdle_1 : decode cX3_stopIdle 1 = .ok (.iload_n 1, 1) := dk_27 (dk_at dksX3_stopIdle_0 1 rfl rfl)
theorem dX3_stopIdle_2 : decode cX3_stopIdle 2 = .ok (.invokevirtual 93, 3) := dk_182 0 93 (dk_at dksX3_stopIdle_0 2 rfl rfl)
theorem dX3_stopIdle_5 : decode cX3_stopIdle 5 = .ok (.istore_n 2, 1) := dk_61 (dk_at dksX3_stopIdle_0 5 rfl rfl)
theorem dX3_stopIdle_6 : decode cX3_stopIdle 6 = .ok (.aload_n 0, 1) := dk_42 (dk_at dksX3_stopIdle_0 6 rfl rfl)
theorem dX3_stopIdle_7 : decode cX3_stopIdle 7 = .ok (.iload_n 2, 1) := dk_28 (dk_at dksX3_stopIdle_0 7 rfl rfl)
theorem dX3_stopIdle_8 : decode cX3_stopIdle 8 = .ok (.iload_n 2, 1) := dk_28 (dk_at dksX3_stopIdle_0 8 rfl rfl)
theorem dX3_stopIdle_9 : decode cX3_stopIdle 9 = .ok (.ifCond .eq 15, 3) := dk_153 0 15 (dk_at dksX3_stopIdle_0 9 rfl rfl)
theorem dX3_stopIdle_12 : decode cX3_stopIdle 12 = .ok (.aload_n 0, 1) := dk_42 (dk_at dksX3_stopIdle_0 12 rfl rfl)
theorem dX3_stopIdle_13 : decode cX3_stopIdle 13 = .ok (.iload_n 1, 1) := dk_27 (dk_at dksX3_stopIdle_0 13 rfl rfl)
theorem dX3_stopIdle_14 : decode cX3_stopIdle 14 = .ok (.invokevirtual 162, 3) := dk_182 0 162 (dk_at dksX3_stopIdle_0 14 rfl rfl)
theorem dX3_stopIdle_17 : decode cX3_stopIdle 17 = .ok (.ifCond .eq 7, 3) := dk_153 0 7 (dk_at dksX3_stopIdle_0 17 rfl rfl)
theorem dX3_stopIdle_20 : decode cX3_stopIdle 20 = .ok (.iconst 1, 1) := dk_4 (dk_at dksX3_stopIdle_0 20 rfl rfl)
theorem dX3_stopIdle_21 : decode cX3_stopIdle 21 = .ok (.goto 4, 3) := dk_167 0 4 (dk_at dksX3_stopIdle_0 21 rfl rfl)
theorem dX3_stopIdle_24 : decode cX3_stopIdle 24 = .ok (.iconst 0, 1) := dk_3 (dk_at dksX3_stopIdle_1 0 rfl rfl)
theorem dX3_stopIdle_25 : decode cX3_stopIdle 25 = .ok (.invokevirtual 192, 3) := dk_182 0 192 (dk_at dksX3_stopIdle_1 1 rfl rfl)
theorem dX3_stopIdle_28 : decode cX3_stopIdle 28 = .ok (.ifCond .ne 5, 3) := dk_154 0 5 (dk_at dksX3_stopIdle_1 4 rfl rfl)
theorem dX3_stopIdle_31 : decode cX3_stopIdle 31 = .ok (.iconst 0, 1) := dk_3 (dk_at dksX3_stopIdle_1 7 rfl rfl)
theorem dX3_stopIdle_32 : decode cX3_stopIdle 32 = .ok (.ireturn, 1) := dk_172 (dk_at dksX3_stopIdle_1 8 rfl rfl)
theorem dX3_stopIdle_33 : decode cX3_stopIdle 33 = .ok (.aload_n 0, 1) := dk_42 (dk_at dksX3_stopIdle_1 9 rfl rfl)
theorem dX3_stopIdle_34 : decode cX3_stopIdle 34 = .ok (.iload_n 1, 1) := dk_27 (dk_at dksX3_stopIdle_1 10 rfl rfl)
theorem dX3_stopIdle_35 : decode cX3_stopIdle 35 = .ok (.invokevirtual 196, 3) := dk_182 0 196 (dk_at dksX3_stopIdle_1 11 rfl rfl)
theorem dX3_stopIdle_38 : decode cX3_stopIdle 38 = .ok (.aload_n 0, 1) := dk_42 (dk_at dksX3_stopIdle_1 14 rfl rfl)
theorem dX3_stopIdle_39 : decode cX3_stopIdle 39 = .ok (.getfield 17, 3) := dk_180 0 17 (dk_at dksX3_stopIdle_1 15 rfl rfl)
theorem dX3_stopIdle_42 : decode cX3_stopIdle 42 = .ok (.iload_n 1, 1) := dk_27 (dk_at dksX3_stopIdle_1 18 rfl rfl)
theorem dX3_stopIdle_43 : decode cX3_stopIdle 43 = .ok (.invokestatic 84, 3) := dk_184 0 84 (dk_at dksX3_stopIdle_1 19 rfl rfl)
theorem dX3_stopIdle_46 : decode cX3_stopIdle 46 = .ok (.iconst 3, 1) := dk_6 (dk_at dksX3_stopIdle_1 22 rfl rfl)
theorem dX3_stopIdle_47 : decode cX3_stopIdle 47 = .ok (.iadd, 1) := dk_96 (dk_at dksX3_stopIdle_1 23 rfl rfl)
theorem dX3_stopIdle_48 : decode cX3_stopIdle 48 = .ok (.lconst 0, 1) := dk_9 (dk_at dksX3_stopIdle_2 0 rfl rfl)
theorem dX3_stopIdle_49 : decode cX3_stopIdle 49 = .ok (.lastore, 1) := dk_80 (dk_at dksX3_stopIdle_2 1 rfl rfl)
theorem dX3_stopIdle_50 : decode cX3_stopIdle 50 = .ok (.aload_n 0, 1) := dk_42 (dk_at dksX3_stopIdle_2 2 rfl rfl)
theorem dX3_stopIdle_51 : decode cX3_stopIdle 51 = .ok (.iload_n 1, 1) := dk_27 (dk_at dksX3_stopIdle_2 3 rfl rfl)
theorem dX3_stopIdle_52 : decode cX3_stopIdle 52 = .ok (.iconst 1, 1) := dk_4 (dk_at dksX3_stopIdle_2 4 rfl rfl)
theorem dX3_stopIdle_53 : decode cX3_stopIdle 53 = .ok (.invokevirtual 181, 3) := dk_182 0 181 (dk_at dksX3_stopIdle_2 5 rfl rfl)
theorem dX3_stopIdle_56 : decode cX3_stopIdle 56 = .ok (.ireturn, 1) := dk_172 (dk_at dksX3_stopIdle_2 8 rfl rfl)
abbrev cX3_fetch : ByteArray := prog_13_method_56_code
def yX3_fetch : MethodName := ⟨RX3, "fetch", "(IIIZ)I"⟩
def dkwX3_fetch_6 : List UInt8 := [21, 6, 133, 97, 80, 42, 27, 3, 21, 6, 182, 0, 214, 172]
abbrev dktX3_fetch_6 : List UInt8 := dkwX3_fetch_6 ++ []
def dkwX3_fetch_5 : List UInt8 := [182, 0, 210, 132, 7, 1, 167, 255, 183, 42, 180, 0, 17, 27, 184, 0, 84, 16, 6, 96, 7, 96, 92, 47]
abbrev dktX3_fetch_5 : List UInt8 := dkwX3_fetch_5 ++ dktX3_fetch_6
def dkwX3_fetch_4 : List UInt8 := [182, 0, 172, 154, 0, 22, 42, 21, 5, 21, 8, 42, 21, 5, 21, 8, 5, 182, 0, 103, 4, 128]
abbrev dktX3_fetch_4 : List UInt8 := dkwX3_fetch_4 ++ dktX3_fetch_5
def dkwX3_fetch_3 : List UInt8 := [167, 0, 49, 21, 6, 42, 21, 5, 21, 8, 4, 182, 0, 103, 96, 54, 6, 21, 4, 154, 0, 30, 42, 27]
abbrev dktX3_fetch_3 : List UInt8 := dkwX3_fetch_3 ++ dktX3_fetch_4
def dkwX3_fetch_2 : List UInt8 := [54, 7, 21, 7, 29, 163, 0, 73, 42, 27, 21, 7, 182, 0, 113, 54, 8, 21, 8, 2, 160, 0, 6]
abbrev dktX3_fetch_2 : List UInt8 := dkwX3_fetch_2 ++ dktX3_fetch_3
def dkwX3_fetch_1 : List UInt8 := [182, 0, 7, 154, 0, 5, 3, 172, 42, 27, 182, 0, 196, 42, 27, 182, 0, 87, 54, 5, 3, 54, 6, 28]
abbrev dktX3_fetch_1 : List UInt8 := dkwX3_fetch_1 ++ dktX3_fetch_2
def dkwX3_fetch_0 : List UInt8 := [42, 42, 27, 28, 29, 182, 0, 206, 29, 28, 161, 0, 7, 4, 167, 0, 4, 3, 42, 27, 182, 0, 169]
abbrev dktX3_fetch_0 : List UInt8 := dkwX3_fetch_0 ++ dktX3_fetch_1
theorem dksX3_fetch_0 : cX3_fetch.data.toList.drop 0 = dktX3_fetch_0 := by decide +kernel
theorem dksX3_fetch_1 : cX3_fetch.data.toList.drop 23 = dktX3_fetch_1 := dk_seg dksX3_fetch_0 23 rfl rfl
theorem dksX3_fetch_2 : cX3_fetch.data.toList.drop 47 = dktX3_fetch_2 := dk_seg dksX3_fetch_1 24 rfl rfl
theorem dksX3_fetch_3 : cX3_fetch.data.toList.drop 70 = dktX3_fetch_3 := dk_seg dksX3_fetch_2 23 rfl rfl
theorem dksX3_fetch_4 : cX3_fetch.data.toList.drop 94 = dktX3_fetch_4 := dk_seg dksX3_fetch_3 24 rfl rfl
theorem dksX3_fetch_5 : cX3_fetch.data.toList.drop 116 = dktX3_fetch_5 := dk_seg dksX3_fetch_4 22 rfl rfl
theorem dksX3_fetch_6 : cX3_fetch.data.toList.drop 140 = dktX3_fetch_6 := dk_seg dksX3_fetch_5 24 rfl rfl
theorem dX3_fetch_0 : decode cX3_fetch 0 = .ok (.aload_n 0, 1) := dk_42 (dk_at dksX3_fetch_0 0 rfl rfl)
theorem dX3_fetch_1 : decode cX3_fetch 1 = .ok (.aload_n 0, 1) := dk_42 (dk_at dksX3_fetch_0 1 rfl rfl)
theorem dX3_fetch_2 : decode cX3_fetch 2 = .ok (.iload_n 1, 1) := dk_27 (dk_at dksX3_fetch_0 2 rfl rfl)
theorem dX3_fetch_3 : decode cX3_fetch 3 = .ok (.iload_n 2, 1) := dk_28 (dk_at dksX3_fetch_0 3 rfl rfl)
theorem dX3_fetch_4 : decode cX3_fetch 4 = .ok (.iload_n 3, 1) := dk_29 (dk_at dksX3_fetch_0 4 rfl rfl)
theorem dX3_fetch_5 : decode cX3_fetch 5 = .ok (.invokevirtual 206, 3) := dk_182 0 206 (dk_at dksX3_fetch_0 5 rfl rfl)
theorem dX3_fetch_8 : decode cX3_fetch 8 = .ok (.iload_n 3, 1) := dk_29 (dk_at dksX3_fetch_0 8 rfl rfl)
theorem dX3_fetch_9 : decode cX3_fetch 9 = .ok (.iload_n 2, 1) := dk_28 (dk_at dksX3_fetch_0 9 rfl rfl)
theorem dX3_fetch_10 : decode cX3_fetch 10 = .ok (.if_icmp .lt 7, 3) := dk_161 0 7 (dk_at dksX3_fetch_0 10 rfl rfl)
theorem dX3_fetch_13 : decode cX3_fetch 13 = .ok (.iconst 1, 1) := dk_4 (dk_at dksX3_fetch_0 13 rfl rfl)
theorem dX3_fetch_14 : decode cX3_fetch 14 = .ok (.goto 4, 3) := dk_167 0 4 (dk_at dksX3_fetch_0 14 rfl rfl)
theorem dX3_fetch_17 : decode cX3_fetch 17 = .ok (.iconst 0, 1) := dk_3 (dk_at dksX3_fetch_0 17 rfl rfl)
theorem dX3_fetch_18 : decode cX3_fetch 18 = .ok (.aload_n 0, 1) := dk_42 (dk_at dksX3_fetch_0 18 rfl rfl)
theorem dX3_fetch_19 : decode cX3_fetch 19 = .ok (.iload_n 1, 1) := dk_27 (dk_at dksX3_fetch_0 19 rfl rfl)
theorem dX3_fetch_20 : decode cX3_fetch 20 = .ok (.invokevirtual 169, 3) := dk_182 0 169 (dk_at dksX3_fetch_0 20 rfl rfl)
theorem dX3_fetch_23 : decode cX3_fetch 23 = .ok (.invokevirtual 7, 3) := dk_182 0 7 (dk_at dksX3_fetch_1 0 rfl rfl)
theorem dX3_fetch_26 : decode cX3_fetch 26 = .ok (.ifCond .ne 5, 3) := dk_154 0 5 (dk_at dksX3_fetch_1 3 rfl rfl)
theorem dX3_fetch_29 : decode cX3_fetch 29 = .ok (.iconst 0, 1) := dk_3 (dk_at dksX3_fetch_1 6 rfl rfl)
theorem dX3_fetch_30 : decode cX3_fetch 30 = .ok (.ireturn, 1) := dk_172 (dk_at dksX3_fetch_1 7 rfl rfl)
theorem dX3_fetch_31 : decode cX3_fetch 31 = .ok (.aload_n 0, 1) := dk_42 (dk_at dksX3_fetch_1 8 rfl rfl)
theorem dX3_fetch_32 : decode cX3_fetch 32 = .ok (.iload_n 1, 1) := dk_27 (dk_at dksX3_fetch_1 9 rfl rfl)
theorem dX3_fetch_33 : decode cX3_fetch 33 = .ok (.invokevirtual 196, 3) := dk_182 0 196 (dk_at dksX3_fetch_1 10 rfl rfl)
theorem dX3_fetch_36 : decode cX3_fetch 36 = .ok (.aload_n 0, 1) := dk_42 (dk_at dksX3_fetch_1 13 rfl rfl)
theorem dX3_fetch_37 : decode cX3_fetch 37 = .ok (.iload_n 1, 1) := dk_27 (dk_at dksX3_fetch_1 14 rfl rfl)
theorem dX3_fetch_38 : decode cX3_fetch 38 = .ok (.invokevirtual 87, 3) := dk_182 0 87 (dk_at dksX3_fetch_1 15 rfl rfl)
theorem dX3_fetch_41 : decode cX3_fetch 41 = .ok (.istore 5, 2) := dk_54 5 (dk_at dksX3_fetch_1 18 rfl rfl)
theorem dX3_fetch_43 : decode cX3_fetch 43 = .ok (.iconst 0, 1) := dk_3 (dk_at dksX3_fetch_1 20 rfl rfl)
theorem dX3_fetch_44 : decode cX3_fetch 44 = .ok (.istore 6, 2) := dk_54 6 (dk_at dksX3_fetch_1 21 rfl rfl)
theorem dX3_fetch_46 : decode cX3_fetch 46 = .ok (.iload_n 2, 1) := dk_28 (dk_at dksX3_fetch_1 23 rfl rfl)
theorem dX3_fetch_47 : decode cX3_fetch 47 = .ok (.istore 7, 2) := dk_54 7 (dk_at dksX3_fetch_2 0 rfl rfl)
theorem dX3_fetch_49 : decode cX3_fetch 49 = .ok (.iload 7, 2) := dk_21 7 (dk_at dksX3_fetch_2 2 rfl rfl)
theorem dX3_fetch_51 : decode cX3_fetch 51 = .ok (.iload_n 3, 1) := dk_29 (dk_at dksX3_fetch_2 4 rfl rfl)
theorem dX3_fetch_52 : decode cX3_fetch 52 = .ok (.if_icmp .gt 73, 3) := dk_163 0 73 (dk_at dksX3_fetch_2 5 rfl rfl)
theorem dX3_fetch_55 : decode cX3_fetch 55 = .ok (.aload_n 0, 1) := dk_42 (dk_at dksX3_fetch_2 8 rfl rfl)
theorem dX3_fetch_56 : decode cX3_fetch 56 = .ok (.iload_n 1, 1) := dk_27 (dk_at dksX3_fetch_2 9 rfl rfl)
theorem dX3_fetch_57 : decode cX3_fetch 57 = .ok (.iload 7, 2) := dk_21 7 (dk_at dksX3_fetch_2 10 rfl rfl)
theorem dX3_fetch_59 : decode cX3_fetch 59 = .ok (.invokevirtual 113, 3) := dk_182 0 113 (dk_at dksX3_fetch_2 12 rfl rfl)
theorem dX3_fetch_62 : decode cX3_fetch 62 = .ok (.istore 8, 2) := dk_54 8 (dk_at dksX3_fetch_2 15 rfl rfl)
theorem dX3_fetch_64 : decode cX3_fetch 64 = .ok (.iload 8, 2) := dk_21 8 (dk_at dksX3_fetch_2 17 rfl rfl)
theorem dX3_fetch_66 : decode cX3_fetch 66 = .ok (.iconst (-1), 1) := dk_2 (dk_at dksX3_fetch_2 19 rfl rfl)
theorem dX3_fetch_67 : decode cX3_fetch 67 = .ok (.if_icmp .ne 6, 3) := dk_160 0 6 (dk_at dksX3_fetch_2 20 rfl rfl)
theorem dX3_fetch_70 : decode cX3_fetch 70 = .ok (.goto 49, 3) := dk_167 0 49 (dk_at dksX3_fetch_3 0 rfl rfl)
theorem dX3_fetch_73 : decode cX3_fetch 73 = .ok (.iload 6, 2) := dk_21 6 (dk_at dksX3_fetch_3 3 rfl rfl)
theorem dX3_fetch_75 : decode cX3_fetch 75 = .ok (.aload_n 0, 1) := dk_42 (dk_at dksX3_fetch_3 5 rfl rfl)
theorem dX3_fetch_76 : decode cX3_fetch 76 = .ok (.iload 5, 2) := dk_21 5 (dk_at dksX3_fetch_3 6 rfl rfl)
theorem dX3_fetch_78 : decode cX3_fetch 78 = .ok (.iload 8, 2) := dk_21 8 (dk_at dksX3_fetch_3 8 rfl rfl)
theorem dX3_fetch_80 : decode cX3_fetch 80 = .ok (.iconst 1, 1) := dk_4 (dk_at dksX3_fetch_3 10 rfl rfl)
theorem dX3_fetch_81 : decode cX3_fetch 81 = .ok (.invokevirtual 103, 3) := dk_182 0 103 (dk_at dksX3_fetch_3 11 rfl rfl)
theorem dX3_fetch_84 : decode cX3_fetch 84 = .ok (.iadd, 1) := dk_96 (dk_at dksX3_fetch_3 14 rfl rfl)
theorem dX3_fetch_85 : decode cX3_fetch 85 = .ok (.istore 6, 2) := dk_54 6 (dk_at dksX3_fetch_3 15 rfl rfl)
theorem dX3_fetch_87 : decode cX3_fetch 87 = .ok (.iload 4, 2) := dk_21 4 (dk_at dksX3_fetch_3 17 rfl rfl)
theorem dX3_fetch_89 : decode cX3_fetch 89 = .ok (.ifCond .ne 30, 3) := dk_154 0 30 (dk_at dksX3_fetch_3 19 rfl rfl)
theorem dX3_fetch_92 : decode cX3_fetch 92 = .ok (.aload_n 0, 1) := dk_42 (dk_at dksX3_fetch_3 22 rfl rfl)
theorem dX3_fetch_93 : decode cX3_fetch 93 = .ok (.iload_n 1, 1) := dk_27 (dk_at dksX3_fetch_3 23 rfl rfl)
theorem dX3_fetch_94 : decode cX3_fetch 94 = .ok (.invokevirtual 172, 3) := dk_182 0 172 (dk_at dksX3_fetch_4 0 rfl rfl)
theorem dX3_fetch_97 : decode cX3_fetch 97 = .ok (.ifCond .ne 22, 3) := dk_154 0 22 (dk_at dksX3_fetch_4 3 rfl rfl)
theorem dX3_fetch_100 : decode cX3_fetch 100 = .ok (.aload_n 0, 1) := dk_42 (dk_at dksX3_fetch_4 6 rfl rfl)
theorem dX3_fetch_101 : decode cX3_fetch 101 = .ok (.iload 5, 2) := dk_21 5 (dk_at dksX3_fetch_4 7 rfl rfl)
theorem dX3_fetch_103 : decode cX3_fetch 103 = .ok (.iload 8, 2) := dk_21 8 (dk_at dksX3_fetch_4 9 rfl rfl)
theorem dX3_fetch_105 : decode cX3_fetch 105 = .ok (.aload_n 0, 1) := dk_42 (dk_at dksX3_fetch_4 11 rfl rfl)
theorem dX3_fetch_106 : decode cX3_fetch 106 = .ok (.iload 5, 2) := dk_21 5 (dk_at dksX3_fetch_4 12 rfl rfl)
theorem dX3_fetch_108 : decode cX3_fetch 108 = .ok (.iload 8, 2) := dk_21 8 (dk_at dksX3_fetch_4 14 rfl rfl)
theorem dX3_fetch_110 : decode cX3_fetch 110 = .ok (.iconst 2, 1) := dk_5 (dk_at dksX3_fetch_4 16 rfl rfl)
theorem dX3_fetch_111 : decode cX3_fetch 111 = .ok (.invokevirtual 103, 3) := dk_182 0 103 (dk_at dksX3_fetch_4 17 rfl rfl)
theorem dX3_fetch_114 : decode cX3_fetch 114 = .ok (.iconst 1, 1) := dk_4 (dk_at dksX3_fetch_4 20 rfl rfl)
theorem dX3_fetch_115 : decode cX3_fetch 115 = .ok (.ior, 1) := dk_128 (dk_at dksX3_fetch_4 21 rfl rfl)
theorem dX3_fetch_116 : decode cX3_fetch 116 = .ok (.invokevirtual 210, 3) := dk_182 0 210 (dk_at dksX3_fetch_5 0 rfl rfl)
theorem dX3_fetch_119 : decode cX3_fetch 119 = .ok (.iinc 7 1, 3) := dk_132 7 1 (dk_at dksX3_fetch_5 3 rfl rfl)
theorem dX3_fetch_122 : decode cX3_fetch 122 = .ok (.goto (-73), 3) := dk_167 255 183 (dk_at dksX3_fetch_5 6 rfl rfl)
theorem dX3_fetch_125 : decode cX3_fetch 125 = .ok (.aload_n 0, 1) := dk_42 (dk_at dksX3_fetch_5 9 rfl rfl)
theorem dX3_fetch_126 : decode cX3_fetch 126 = .ok (.getfield 17, 3) := dk_180 0 17 (dk_at dksX3_fetch_5 10 rfl rfl)
theorem dX3_fetch_129 : decode cX3_fetch 129 = .ok (.iload_n 1, 1) := dk_27 (dk_at dksX3_fetch_5 13 rfl rfl)
theorem dX3_fetch_130 : decode cX3_fetch 130 = .ok (.invokestatic 84, 3) := dk_184 0 84 (dk_at dksX3_fetch_5 14 rfl rfl)
theorem dX3_fetch_133 : decode cX3_fetch 133 = .ok (.bipush 6, 2) := dk_16 6 (dk_at dksX3_fetch_5 17 rfl rfl)
theorem dX3_fetch_135 : decode cX3_fetch 135 = .ok (.iadd, 1) := dk_96 (dk_at dksX3_fetch_5 19 rfl rfl)
theorem dX3_fetch_136 : decode cX3_fetch 136 = .ok (.iconst 4, 1) := dk_7 (dk_at dksX3_fetch_5 20 rfl rfl)
theorem dX3_fetch_137 : decode cX3_fetch 137 = .ok (.iadd, 1) := dk_96 (dk_at dksX3_fetch_5 21 rfl rfl)
theorem dX3_fetch_138 : decode cX3_fetch 138 = .ok (.dup2, 1) := dk_92 (dk_at dksX3_fetch_5 22 rfl rfl)
theorem dX3_fetch_139 : decode cX3_fetch 139 = .ok (.laload, 1) := dk_47 (dk_at dksX3_fetch_5 23 rfl rfl)
theorem dX3_fetch_140 : decode cX3_fetch 140 = .ok (.iload 6, 2) := dk_21 6 (dk_at dksX3_fetch_6 0 rfl rfl)
theorem dX3_fetch_142 : decode cX3_fetch 142 = .ok (.i2l, 1) := dk_133 (dk_at dksX3_fetch_6 2 rfl rfl)
theorem dX3_fetch_143 : decode cX3_fetch 143 = .ok (.ladd, 1) := dk_97 (dk_at dksX3_fetch_6 3 rfl rfl)
theorem dX3_fetch_144 : decode cX3_fetch 144 = .ok (.lastore, 1) := dk_80 (dk_at dksX3_fetch_6 4 rfl rfl)
theorem dX3_fetch_145 : decode cX3_fetch 145 = .ok (.aload_n 0, 1) := dk_42 (dk_at dksX3_fetch_6 5 rfl rfl)
theorem dX3_fetch_146 : decode cX3_fetch 146 = .ok (.iload_n 1, 1) := dk_27 (dk_at dksX3_fetch_6 6 rfl rfl)
theorem dX3_fetch_147 : decode cX3_fetch 147 = .ok (.iconst 0, 1) := dk_3 (dk_at dksX3_fetch_6 7 rfl rfl)
theorem dX3_fetch_148 : decode cX3_fetch 148 = .ok (.iload 6, 2) := dk_21 6 (dk_at dksX3_fetch_6 8 rfl rfl)
theorem dX3_fetch_150 : decode cX3_fetch 150 = .ok (.invokevirtual 214, 3) := dk_182 0 214 (dk_at dksX3_fetch_6 10 rfl rfl)
theorem dX3_fetch_153 : decode cX3_fetch 153 = .ok (.ireturn, 1) := dk_172 (dk_at dksX3_fetch_6 13 rfl rfl)
abbrev cX3_areEntries : ByteArray := prog_13_method_54_code
def yX3_areEntries : MethodName := ⟨RX3, "areEntries", "(III)Z"⟩
def dkwX3_areEntries_0 : List UInt8 := [42, 27, 28, 182, 0, 203, 153, 0, 16, 42, 27, 29, 182, 0, 203, 153, 0, 7, 4, 167, 0, 4, 3, 172]
abbrev dktX3_areEntries_0 : List UInt8 := dkwX3_areEntries_0 ++ []
theorem dksX3_areEntries_0 : cX3_areEntries.data.toList.drop 0 = dktX3_areEntries_0 := by decide +kernel
theorem dX3_areEntries_0 : decode cX3_areEntries 0 = .ok (.aload_n 0, 1) := dk_42 (dk_at dksX3_areEntries_0 0 rfl rfl)
theorem dX3_areEntries_1 : decode cX3_areEntries 1 = .ok (.iload_n 1, 1) := dk_27 (dk_at dksX3_areEntries_0 1 rfl rfl)
theorem dX3_areEntries_2 : decode cX3_areEntries 2 = .ok (.iload_n 2, 1) := dk_28 (dk_at dksX3_areEntries_0 2 rfl rfl)
theorem dX3_areEntries_3 : decode cX3_areEntries 3 = .ok (.invokevirtual 203, 3) := dk_182 0 203 (dk_at dksX3_areEntries_0 3 rfl rfl)
theorem dX3_areEntries_6 : decode cX3_areEntries 6 = .ok (.ifCond .eq 16, 3) := dk_153 0 16 (dk_at dksX3_areEntries_0 6 rfl rfl)
theorem dX3_areEntries_9 : decode cX3_areEntries 9 = .ok (.aload_n 0, 1) := dk_42 (dk_at dksX3_areEntries_0 9 rfl rfl)
theorem dX3_areEntries_10 : decode cX3_areEntries 10 = .ok (.iload_n 1, 1) := dk_27 (dk_at dksX3_areEntries_0 10 rfl rfl)
theorem dX3_areEntries_11 : decode cX3_areEntries 11 = .ok (.iload_n 3, 1) := dk_29 (dk_at dksX3_areEntries_0 11 rfl rfl)
theorem dX3_areEntries_12 : decode cX3_areEntries 12 = .ok (.invokevirtual 203, 3) := dk_182 0 203 (dk_at dksX3_areEntries_0 12 rfl rfl)
theorem dX3_areEntries_15 : decode cX3_areEntries 15 = .ok (.ifCond .eq 7, 3) := dk_153 0 7 (dk_at dksX3_areEntries_0 15 rfl rfl)
theorem dX3_areEntries_18 : decode cX3_areEntries 18 = .ok (.iconst 1, 1) := dk_4 (dk_at dksX3_areEntries_0 18 rfl rfl)
theorem dX3_areEntries_19 : decode cX3_areEntries 19 = .ok (.goto 4, 3) := dk_167 0 4 (dk_at dksX3_areEntries_0 19 rfl rfl)
theorem dX3_areEntries_22 : decode cX3_areEntries 22 = .ok (.iconst 0, 1) := dk_3 (dk_at dksX3_areEntries_0 22 rfl rfl)
theorem dX3_areEntries_23 : decode cX3_areEntries 23 = .ok (.ireturn, 1) := dk_172 (dk_at dksX3_areEntries_0 23 rfl rfl)
abbrev cX3_isEntry : ByteArray := prog_13_method_25_code
def yX3_isEntry : MethodName := ⟨RX3, "isEntry", "(II)Z"⟩
def dkwX3_isEntry_1 : List UInt8 := [167, 0, 4, 3, 172]
abbrev dktX3_isEntry_1 : List UInt8 := dkwX3_isEntry_1 ++ []
def dkwX3_isEntry_0 : List UInt8 := [42, 27, 182, 0, 93, 153, 0, 22, 28, 133, 10, 42, 27, 182, 0, 97, 133, 184, 0, 70, 153, 0, 7, 4]
abbrev dktX3_isEntry_0 : List UInt8 := dkwX3_isEntry_0 ++ dktX3_isEntry_1
theorem dksX3_isEntry_0 : cX3_isEntry.data.toList.drop 0 = dktX3_isEntry_0 := by decide +kernel
theorem dksX3_isEntry_1 : cX3_isEntry.data.toList.drop 24 = dktX3_isEntry_1 := dk_seg dksX3_isEntry_0 24 rfl rfl
theorem dX3_isEntry_0 : decode cX3_isEntry 0 = .ok (.aload_n 0, 1) := dk_42 (dk_at dksX3_isEntry_0 0 rfl rfl)
theorem dX3_isEntry_1 : decode cX3_isEntry 1 = .ok (.iload_n 1, 1) := dk_27 (dk_at dksX3_isEntry_0 1 rfl rfl)
theorem dX3_isEntry_2 : decode cX3_isEntry 2 = .ok (.invokevirtual 93, 3) := dk_182 0 93 (dk_at dksX3_isEntry_0 2 rfl rfl)
theorem dX3_isEntry_5 : decode cX3_isEntry 5 = .ok (.ifCond .eq 22, 3) := dk_153 0 22 (dk_at dksX3_isEntry_0 5 rfl rfl)
theorem dX3_isEntry_8 : decode cX3_isEntry 8 = .ok (.iload_n 2, 1) := dk_28 (dk_at dksX3_isEntry_0 8 rfl rfl)
theorem dX3_isEntry_9 : decode cX3_isEntry 9 = .ok (.i2l, 1) := dk_133 (dk_at dksX3_isEntry_0 9 rfl rfl)
theorem dX3_isEntry_10 : decode cX3_isEntry 10 = .ok (.lconst 1, 1) := dk_10 (dk_at dksX3_isEntry_0 10 rfl rfl)
theorem dX3_isEntry_11 : decode cX3_isEntry 11 = .ok (.aload_n 0, 1) := dk_42 (dk_at dksX3_isEntry_0 11 rfl rfl)
theorem dX3_isEntry_12 : decode cX3_isEntry 12 = .ok (.iload_n 1, 1) := dk_27 (dk_at dksX3_isEntry_0 12 rfl rfl)
theorem dX3_isEntry_13 : decode cX3_isEntry 13 = .ok (.invokevirtual 97, 3) := dk_182 0 97 (dk_at dksX3_isEntry_0 13 rfl rfl)
theorem dX3_isEntry_16 : decode cX3_isEntry 16 = .ok (.i2l, 1) := dk_133 (dk_at dksX3_isEntry_0 16 rfl rfl)
theorem dX3_isEntry_17 : decode cX3_isEntry 17 = .ok (.invokestatic 70, 3) := dk_184 0 70 (dk_at dksX3_isEntry_0 17 rfl rfl)
theorem dX3_isEntry_20 : decode cX3_isEntry 20 = .ok (.ifCond .eq 7, 3) := dk_153 0 7 (dk_at dksX3_isEntry_0 20 rfl rfl)
theorem dX3_isEntry_23 : decode cX3_isEntry 23 = .ok (.iconst 1, 1) := dk_4 (dk_at dksX3_isEntry_0 23 rfl rfl)
theorem dX3_isEntry_24 : decode cX3_isEntry 24 = .ok (.goto 4, 3) := dk_167 0 4 (dk_at dksX3_isEntry_1 0 rfl rfl)
theorem dX3_isEntry_27 : decode cX3_isEntry 27 = .ok (.iconst 0, 1) := dk_3 (dk_at dksX3_isEntry_1 3 rfl rfl)
theorem dX3_isEntry_28 : decode cX3_isEntry 28 = .ok (.ireturn, 1) := dk_172 (dk_at dksX3_isEntry_1 4 rfl rfl)
abbrev cX3_doesRead : ByteArray := prog_13_method_20_code
def yX3_doesRead : MethodName := ⟨RX3, "doesRead", "(I)Z"⟩
def dkwX3_doesRead_0 : List UInt8 := [42, 27, 184, 0, 84, 5, 96, 182, 0, 62, 4, 160, 0, 7, 4, 167, 0, 4, 3, 172]
abbrev dktX3_doesRead_0 : List UInt8 := dkwX3_doesRead_0 ++ []
theorem dksX3_doesRead_0 : cX3_doesRead.data.toList.drop 0 = dktX3_doesRead_0 := by decide +kernel
theorem dX3_doesRead_0 : decode cX3_doesRead 0 = .ok (.aload_n 0, 1) := dk_42 (dk_at dksX3_doesRead_0 0 rfl rfl)
theorem dX3_doesRead_1 : decode cX3_doesRead 1 = .ok (.iload_n 1, 1) := dk_27 (dk_at dksX3_doesRead_0 1 rfl rfl)
theorem dX3_doesRead_2 : decode cX3_doesRead 2 = .ok (.invokestatic 84, 3) := dk_184 0 84 (dk_at dksX3_doesRead_0 2 rfl rfl)
theorem dX3_doesRead_5 : decode cX3_doesRead 5 = .ok (.iconst 2, 1) := dk_5 (dk_at dksX3_doesRead_0 5 rfl rfl)
theorem dX3_doesRead_6 : decode cX3_doesRead 6 = .ok (.iadd, 1) := dk_96 (dk_at dksX3_doesRead_0 6 rfl rfl)
theorem dX3_doesRead_7 : decode cX3_doesRead 7 = .ok (.invokevirtual 62, 3) := dk_182 0 62 (dk_at dksX3_doesRead_0 7 rfl rfl)
theorem dX3_doesRead_10 : decode cX3_doesRead 10 = .ok (.iconst 1, 1) := dk_4 (dk_at dksX3_doesRead_0 10 rfl rfl)
theorem dX3_doesRead_11 : decode cX3_doesRead 11 = .ok (.if_icmp .ne 7, 3) := dk_160 0 7 (dk_at dksX3_doesRead_0 11 rfl rfl)
theorem dX3_doesRead_14 : decode cX3_doesRead 14 = .ok (.iconst 1, 1) := dk_4 (dk_at dksX3_doesRead_0 14 rfl rfl)
theorem dX3_doesRead_15 : decode cX3_doesRead 15 = .ok (.goto 4, 3) := dk_167 0 4 (dk_at dksX3_doesRead_0 15 rfl rfl)
theorem dX3_doesRead_18 : decode cX3_doesRead 18 = .ok (.iconst 0, 1) := dk_3 (dk_at dksX3_doesRead_0 18 rfl rfl)
theorem dX3_doesRead_19 : decode cX3_doesRead 19 = .ok (.ireturn, 1) := dk_172 (dk_at dksX3_doesRead_0 19 rfl rfl)
abbrev cX3_putFlags : ByteArray := prog_13_method_55_code
def yX3_putFlags : MethodName := ⟨RX3, "putFlags", "(III)V"⟩
def dkwX3_putFlags_0 : List UInt8 := [42, 180, 0, 17, 27, 28, 184, 0, 80, 5, 96, 29, 133, 80, 177]
abbrev dktX3_putFlags_0 : List UInt8 := dkwX3_putFlags_0 ++ []
theorem dksX3_putFlags_0 : cX3_putFlags.data.toList.drop 0 = dktX3_putFlags_0 := by decide +kernel
theorem dX3_putFlags_0 : decode cX3_putFlags 0 = .ok (.aload_n 0, 1) := dk_42 (dk_at dksX3_putFlags_0 0 rfl rfl)
theorem dX3_putFlags_1 : decode cX3_putFlags 1 = .ok (.getfield 17, 3) := dk_180 0 17 (dk_at dksX3_putFlags_0 1 rfl rfl)
theorem dX3_putFlags_4 : decode cX3_putFlags 4 = .ok (.iload_n 1, 1) := dk_27 (dk_at dksX3_putFlags_0 4 rfl rfl)
theorem dX3_putFlags_5 : decode cX3_putFlags 5 = .ok (.iload_n 2, 1) := dk_28 (dk_at dksX3_putFlags_0 5 rfl rfl)
theorem dX3_putFlags_6 : decode cX3_putFlags 6 = .ok (.invokestatic 80, 3) := dk_184 0 80 (dk_at dksX3_putFlags_0 6 rfl rfl)
theorem dX3_putFlags_9 : decode cX3_putFlags 9 = .ok (.iconst 2, 1) := dk_5 (dk_at dksX3_putFlags_0 9 rfl rfl)
theorem dX3_putFlags_10 : decode cX3_putFlags 10 = .ok (.iadd, 1) := dk_96 (dk_at dksX3_putFlags_0 10 rfl rfl)
theorem dX3_putFlags_11 : decode cX3_putFlags 11 = .ok (.iload_n 3, 1) := dk_29 (dk_at dksX3_putFlags_0 11 rfl rfl)
theorem dX3_putFlags_12 : decode cX3_putFlags 12 = .ok (.i2l, 1) := dk_133 (dk_at dksX3_putFlags_0 12 rfl rfl)
theorem dX3_putFlags_13 : decode cX3_putFlags 13 = .ok (.lastore, 1) := dk_80 (dk_at dksX3_putFlags_0 13 rfl rfl)
theorem dX3_putFlags_14 : decode cX3_putFlags 14 = .ok (.return_, 1) := dk_177 (dk_at dksX3_putFlags_0 14 rfl rfl)
abbrev cX3_done : ByteArray := prog_13_method_47_code
def yX3_done : MethodName := ⟨RX3, "done", "(IZI)I"⟩
def dkwX3_done_0 : List UInt8 := [42, 27, 28, 182, 0, 181, 54, 4, 29, 172]
abbrev dktX3_done_0 : List UInt8 := dkwX3_done_0 ++ []
theorem dksX3_done_0 : cX3_done.data.toList.drop 0 = dktX3_done_0 := by decide +kernel
theorem dX3_done_0 : decode cX3_done 0 = .ok (.aload_n 0, 1) := dk_42 (dk_at dksX3_done_0 0 rfl rfl)
theorem dX3_done_1 : decode cX3_done 1 = .ok (.iload_n 1, 1) := dk_27 (dk_at dksX3_done_0 1 rfl rfl)
theorem dX3_done_2 : decode cX3_done 2 = .ok (.iload_n 2, 1) := dk_28 (dk_at dksX3_done_0 2 rfl rfl)
theorem dX3_done_3 : decode cX3_done 3 = .ok (.invokevirtual 181, 3) := dk_182 0 181 (dk_at dksX3_done_0 3 rfl rfl)
theorem dX3_done_6 : decode cX3_done 6 = .ok (.istore 4, 2) := dk_54 4 (dk_at dksX3_done_0 6 rfl rfl)
theorem dX3_done_8 : decode cX3_done 8 = .ok (.iload_n 3, 1) := dk_29 (dk_at dksX3_done_0 8 rfl rfl)
theorem dX3_done_9 : decode cX3_done 9 = .ok (.ireturn, 1) := dk_172 (dk_at dksX3_done_0 9 rfl rfl)
abbrev cX3_store : ByteArray := prog_13_method_61_code
def yX3_store : MethodName := ⟨RX3, "store", "(IIIIIZ)I"⟩
def dkwX3_store_6 : List UInt8 := [132, 9, 1, 167, 255, 175, 42, 27, 3, 21, 8, 182, 0, 214, 172]
abbrev dktX3_store_6 : List UInt8 := dkwX3_store_6 ++ []
def dkwX3_store_5 : List UInt8 := [153, 0, 24, 42, 180, 0, 17, 27, 21, 9, 184, 0, 90, 4, 96, 42, 27, 21, 9, 182, 0, 120, 133, 80]
abbrev dktX3_store_5 : List UInt8 := dkwX3_store_5 ++ dktX3_store_6
def dkwX3_store_4 : List UInt8 := [21, 10, 21, 4, 21, 5, 182, 0, 234, 153, 0, 7, 4, 167, 0, 4, 3, 96, 54, 8, 21, 6]
abbrev dktX3_store_4 : List UInt8 := dkwX3_store_4 ++ dktX3_store_5
def dkwX3_store_3 : List UInt8 := [21, 9, 182, 0, 113, 54, 10, 21, 10, 2, 160, 0, 6, 167, 0, 57, 21, 8, 42, 42, 27, 182, 0, 87]
abbrev dktX3_store_3 : List UInt8 := dkwX3_store_3 ++ dktX3_store_4
def dkwX3_store_2 : List UInt8 := [154, 0, 5, 3, 172, 42, 27, 182, 0, 196, 3, 54, 8, 28, 54, 9, 21, 9, 29, 163, 0, 81, 42, 27]
abbrev dktX3_store_2 : List UInt8 := dkwX3_store_2 ++ dktX3_store_3
def dkwX3_store_1 : List UInt8 := [167, 0, 4, 3, 54, 7, 42, 42, 27, 28, 29, 182, 0, 206, 21, 7, 42, 27, 182, 0, 231, 182, 0, 7]
abbrev dktX3_store_1 : List UInt8 := dkwX3_store_1 ++ dktX3_store_2
def dkwX3_store_0 : List UInt8 := [29, 28, 161, 0, 23, 21, 4, 184, 0, 225, 153, 0, 15, 21, 5, 184, 0, 228, 153, 0, 7, 4]
abbrev dktX3_store_0 : List UInt8 := dkwX3_store_0 ++ dktX3_store_1
theorem dksX3_store_0 : cX3_store.data.toList.drop 0 = dktX3_store_0 := by decide +kernel
theorem dksX3_store_1 : cX3_store.data.toList.drop 22 = dktX3_store_1 := dk_seg dksX3_store_0 22 rfl rfl
theorem dksX3_store_2 : cX3_store.data.toList.drop 46 = dktX3_store_2 := dk_seg dksX3_store_1 24 rfl rfl
theorem dksX3_store_3 : cX3_store.data.toList.drop 70 = dktX3_store_3 := dk_seg dksX3_store_2 24 rfl rfl
theorem dksX3_store_4 : cX3_store.data.toList.drop 94 = dktX3_store_4 := dk_seg dksX3_store_3 24 rfl rfl
theorem dksX3_store_5 : cX3_store.data.toList.drop 116 = dktX3_store_5 := dk_seg dksX3_store_4 22 rfl rfl
theorem dksX3_store_6 : cX3_store.data.toList.drop 140 = dktX3_store_6 := dk_seg dksX3_store_5 24 rfl rfl
theorem dX3_store_0 : decode cX3_store 0 = .ok (.iload_n 3, 1) := dk_29 (dk_at dksX3_store_0 0 rfl rfl)
theorem dX3_store_1 : decode cX3_store 1 = .ok (.iload_n 2, 1) := dk_28 (dk_at dksX3_store_0 1 rfl rfl)
theorem dX3_store_2 : decode cX3_store 2 = .ok (.if_icmp .lt 23, 3) := dk_161 0 23 (dk_at dksX3_store_0 2 rfl rfl)
theorem dX3_store_5 : decode cX3_store 5 = .ok (.iload 4, 2) := dk_21 4 (dk_at dksX3_store_0 5 rfl rfl)
theorem dX3_store_7 : decode cX3_store 7 = .ok (.invokestatic 225, 3) := dk_184 0 225 (dk_at dksX3_store_0 7 rfl rfl)
theorem dX3_store_10 : decode cX3_store 10 = .ok (.ifCond .eq 15, 3) := dk_153 0 15 (dk_at dksX3_store_0 10 rfl rfl)
theorem dX3_store_13 : decode cX3_store 13 = .ok (.iload 5, 2) := dk_21 5 (dk_at dksX3_store_0 13 rfl rfl)
theorem dX3_store_15 : decode cX3_store 15 = .ok (.invokestatic 228, 3) := dk_184 0 228 (dk_at dksX3_store_0 15 rfl rfl)
theorem dX3_store_18 : decode cX3_store 18 = .ok (.ifCond .eq 7, 3) := dk_153 0 7 (dk_at dksX3_store_0 18 rfl rfl)
theorem dX3_store_21 : decode cX3_store 21 = .ok (.iconst 1, 1) := dk_4 (dk_at dksX3_store_0 21 rfl rfl)
theorem dX3_store_22 : decode cX3_store 22 = .ok (.goto 4, 3) := dk_167 0 4 (dk_at dksX3_store_1 0 rfl rfl)
theorem dX3_store_25 : decode cX3_store 25 = .ok (.iconst 0, 1) := dk_3 (dk_at dksX3_store_1 3 rfl rfl)
theorem dX3_store_26 : decode cX3_store 26 = .ok (.istore 7, 2) := dk_54 7 (dk_at dksX3_store_1 4 rfl rfl)
theorem dX3_store_28 : decode cX3_store 28 = .ok (.aload_n 0, 1) := dk_42 (dk_at dksX3_store_1 6 rfl rfl)
theorem dX3_store_29 : decode cX3_store 29 = .ok (.aload_n 0, 1) := dk_42 (dk_at dksX3_store_1 7 rfl rfl)
theorem dX3_store_30 : decode cX3_store 30 = .ok (.iload_n 1, 1) := dk_27 (dk_at dksX3_store_1 8 rfl rfl)
theorem dX3_store_31 : decode cX3_store 31 = .ok (.iload_n 2, 1) := dk_28 (dk_at dksX3_store_1 9 rfl rfl)
theorem dX3_store_32 : decode cX3_store 32 = .ok (.iload_n 3, 1) := dk_29 (dk_at dksX3_store_1 10 rfl rfl)
theorem dX3_store_33 : decode cX3_store 33 = .ok (.invokevirtual 206, 3) := dk_182 0 206 (dk_at dksX3_store_1 11 rfl rfl)
theorem dX3_store_36 : decode cX3_store 36 = .ok (.iload 7, 2) := dk_21 7 (dk_at dksX3_store_1 14 rfl rfl)
theorem dX3_store_38 : decode cX3_store 38 = .ok (.aload_n 0, 1) := dk_42 (dk_at dksX3_store_1 16 rfl rfl)
theorem dX3_store_39 : decode cX3_store 39 = .ok (.iload_n 1, 1) := dk_27 (dk_at dksX3_store_1 17 rfl rfl)
theorem dX3_store_40 : decode cX3_store 40 = .ok (.invokevirtual 231, 3) := dk_182 0 231 (dk_at dksX3_store_1 18 rfl rfl)
theorem dX3_store_43 : decode cX3_store 43 = .ok (.invokevirtual 7, 3) := dk_182 0 7 (dk_at dksX3_store_1 21 rfl rfl)
theorem dX3_store_46 : decode cX3_store 46 = .ok (.ifCond .ne 5, 3) := dk_154 0 5 (dk_at dksX3_store_2 0 rfl rfl)
theorem dX3_store_49 : decode cX3_store 49 = .ok (.iconst 0, 1) := dk_3 (dk_at dksX3_store_2 3 rfl rfl)
theorem dX3_store_50 : decode cX3_store 50 = .ok (.ireturn, 1) := dk_172 (dk_at dksX3_store_2 4 rfl rfl)
theorem dX3_store_51 : decode cX3_store 51 = .ok (.aload_n 0, 1) := dk_42 (dk_at dksX3_store_2 5 rfl rfl)
theorem dX3_store_52 : decode cX3_store 52 = .ok (.iload_n 1, 1) := dk_27 (dk_at dksX3_store_2 6 rfl rfl)
theorem dX3_store_53 : decode cX3_store 53 = .ok (.invokevirtual 196, 3) := dk_182 0 196 (dk_at dksX3_store_2 7 rfl rfl)
theorem dX3_store_56 : decode cX3_store 56 = .ok (.iconst 0, 1) := dk_3 (dk_at dksX3_store_2 10 rfl rfl)
theorem dX3_store_57 : decode cX3_store 57 = .ok (.istore 8, 2) := dk_54 8 (dk_at dksX3_store_2 11 rfl rfl)
theorem dX3_store_59 : decode cX3_store 59 = .ok (.iload_n 2, 1) := dk_28 (dk_at dksX3_store_2 13 rfl rfl)
theorem dX3_store_60 : decode cX3_store 60 = .ok (.istore 9, 2) := dk_54 9 (dk_at dksX3_store_2 14 rfl rfl)
theorem dX3_store_62 : decode cX3_store 62 = .ok (.iload 9, 2) := dk_21 9 (dk_at dksX3_store_2 16 rfl rfl)
theorem dX3_store_64 : decode cX3_store 64 = .ok (.iload_n 3, 1) := dk_29 (dk_at dksX3_store_2 18 rfl rfl)
theorem dX3_store_65 : decode cX3_store 65 = .ok (.if_icmp .gt 81, 3) := dk_163 0 81 (dk_at dksX3_store_2 19 rfl rfl)
theorem dX3_store_68 : decode cX3_store 68 = .ok (.aload_n 0, 1) := dk_42 (dk_at dksX3_store_2 22 rfl rfl)
theorem dX3_store_69 : decode cX3_store 69 = .ok (.iload_n 1, 1) := dk_27 (dk_at dksX3_store_2 23 rfl rfl)
theorem dX3_store_70 : decode cX3_store 70 = .ok (.iload 9, 2) := dk_21 9 (dk_at dksX3_store_3 0 rfl rfl)
theorem dX3_store_72 : decode cX3_store 72 = .ok (.invokevirtual 113, 3) := dk_182 0 113 (dk_at dksX3_store_3 2 rfl rfl)
theorem dX3_store_75 : decode cX3_store 75 = .ok (.istore 10, 2) := dk_54 10 (dk_at dksX3_store_3 5 rfl rfl)
theorem dX3_store_77 : decode cX3_store 77 = .ok (.iload 10, 2) := dk_21 10 (dk_at dksX3_store_3 7 rfl rfl)
theorem dX3_store_79 : decode cX3_store 79 = .ok (.iconst (-1), 1) := dk_2 (dk_at dksX3_store_3 9 rfl rfl)
theorem dX3_store_80 : decode cX3_store 80 = .ok (.if_icmp .ne 6, 3) := dk_160 0 6 (dk_at dksX3_store_3 10 rfl rfl)
theorem dX3_store_83 : decode cX3_store 83 = .ok (.goto 57, 3) := dk_167 0 57 (dk_at dksX3_store_3 13 rfl rfl)
theorem dX3_store_86 : decode cX3_store 86 = .ok (.iload 8, 2) := dk_21 8 (dk_at dksX3_store_3 16 rfl rfl)
theorem dX3_store_88 : decode cX3_store 88 = .ok (.aload_n 0, 1) := dk_42 (dk_at dksX3_store_3 18 rfl rfl)
theorem dX3_store_89 : decode cX3_store 89 = .ok (.aload_n 0, 1) := dk_42 (dk_at dksX3_store_3 19 rfl rfl)
theorem dX3_store_90 : decode cX3_store 90 = .ok (.iload_n 1, 1) := dk_27 (dk_at dksX3_store_3 20 rfl rfl)
theorem dX3_store_91 : decode cX3_store 91 = .ok (.invokevirtual 87, 3) := dk_182 0 87 (dk_at dksX3_store_3 21 rfl rfl)
theorem dX3_store_94 : decode cX3_store 94 = .ok (.iload 10, 2) := dk_21 10 (dk_at dksX3_store_4 0 rfl rfl)
theorem dX3_store_96 : decode cX3_store 96 = .ok (.iload 4, 2) := dk_21 4 (dk_at dksX3_store_4 2 rfl rfl)
theorem dX3_store_98 : decode cX3_store 98 = .ok (.iload 5, 2) := dk_21 5 (dk_at dksX3_store_4 4 rfl rfl)
theorem dX3_store_100 : decode cX3_store 100 = .ok (.invokevirtual 234, 3) := dk_182 0 234 (dk_at dksX3_store_4 6 rfl rfl)
theorem dX3_store_103 : decode cX3_store 103 = .ok (.ifCond .eq 7, 3) := dk_153 0 7 (dk_at dksX3_store_4 9 rfl rfl)
theorem dX3_store_106 : decode cX3_store 106 = .ok (.iconst 1, 1) := dk_4 (dk_at dksX3_store_4 12 rfl rfl)
theorem dX3_store_107 : decode cX3_store 107 = .ok (.goto 4, 3) := dk_167 0 4 (dk_at dksX3_store_4 13 rfl rfl)
theorem dX3_store_110 : decode cX3_store 110 = .ok (.iconst 0, 1) := dk_3 (dk_at dksX3_store_4 16 rfl rfl)
theorem dX3_store_111 : decode cX3_store 111 = .ok (.iadd, 1) := dk_96 (dk_at dksX3_store_4 17 rfl rfl)
theorem dX3_store_112 : decode cX3_store 112 = .ok (.istore 8, 2) := dk_54 8 (dk_at dksX3_store_4 18 rfl rfl)
theorem dX3_store_114 : decode cX3_store 114 = .ok (.iload 6, 2) := dk_21 6 (dk_at dksX3_store_4 20 rfl rfl)
theorem dX3_store_116 : decode cX3_store 116 = .ok (.ifCond .eq 24, 3) := dk_153 0 24 (dk_at dksX3_store_5 0 rfl rfl)
theorem dX3_store_119 : decode cX3_store 119 = .ok (.aload_n 0, 1) := dk_42 (dk_at dksX3_store_5 3 rfl rfl)
theorem dX3_store_120 : decode cX3_store 120 = .ok (.getfield 17, 3) := dk_180 0 17 (dk_at dksX3_store_5 4 rfl rfl)
theorem dX3_store_123 : decode cX3_store 123 = .ok (.iload_n 1, 1) := dk_27 (dk_at dksX3_store_5 7 rfl rfl)
theorem dX3_store_124 : decode cX3_store 124 = .ok (.iload 9, 2) := dk_21 9 (dk_at dksX3_store_5 8 rfl rfl)
theorem dX3_store_126 : decode cX3_store 126 = .ok (.invokestatic 90, 3) := dk_184 0 90 (dk_at dksX3_store_5 10 rfl rfl)
theorem dX3_store_129 : decode cX3_store 129 = .ok (.iconst 1, 1) := dk_4 (dk_at dksX3_store_5 13 rfl rfl)
theorem dX3_store_130 : decode cX3_store 130 = .ok (.iadd, 1) := dk_96 (dk_at dksX3_store_5 14 rfl rfl)
theorem dX3_store_131 : decode cX3_store 131 = .ok (.aload_n 0, 1) := dk_42 (dk_at dksX3_store_5 15 rfl rfl)
theorem dX3_store_132 : decode cX3_store 132 = .ok (.iload_n 1, 1) := dk_27 (dk_at dksX3_store_5 16 rfl rfl)
theorem dX3_store_133 : decode cX3_store 133 = .ok (.iload 9, 2) := dk_21 9 (dk_at dksX3_store_5 17 rfl rfl)
theorem dX3_store_135 : decode cX3_store 135 = .ok (.invokevirtual 120, 3) := dk_182 0 120 (dk_at dksX3_store_5 19 rfl rfl)
theorem dX3_store_138 : decode cX3_store 138 = .ok (.i2l, 1) := dk_133 (dk_at dksX3_store_5 22 rfl rfl)
theorem dX3_store_139 : decode cX3_store 139 = .ok (.lastore, 1) := dk_80 (dk_at dksX3_store_5 23 rfl rfl)
theorem dX3_store_140 : decode cX3_store 140 = .ok (.iinc 9 1, 3) := dk_132 9 1 (dk_at dksX3_store_6 0 rfl rfl)
theorem dX3_store_143 : decode cX3_store 143 = .ok (.goto (-81), 3) := dk_167 255 175 (dk_at dksX3_store_6 3 rfl rfl)
theorem dX3_store_146 : decode cX3_store 146 = .ok (.aload_n 0, 1) := dk_42 (dk_at dksX3_store_6 6 rfl rfl)
theorem dX3_store_147 : decode cX3_store 147 = .ok (.iload_n 1, 1) := dk_27 (dk_at dksX3_store_6 7 rfl rfl)
theorem dX3_store_148 : decode cX3_store 148 = .ok (.iconst 0, 1) := dk_3 (dk_at dksX3_store_6 8 rfl rfl)
theorem dX3_store_149 : decode cX3_store 149 = .ok (.iload 8, 2) := dk_21 8 (dk_at dksX3_store_6 9 rfl rfl)
theorem dX3_store_151 : decode cX3_store 151 = .ok (.invokevirtual 214, 3) := dk_182 0 214 (dk_at dksX3_store_6 11 rfl rfl)
theorem dX3_store_154 : decode cX3_store 154 = .ok (.ireturn, 1) := dk_172 (dk_at dksX3_store_6 14 rfl rfl)
abbrev cX3_isMode : ByteArray := prog_13_method_58_code
def yX3_isMode : MethodName := ⟨RX3, "isMode", "(I)Z"⟩
def dkwX3_isMode_0 : List UInt8 := [26, 133, 9, 20, 0, 220, 184, 0, 70, 172]
abbrev dktX3_isMode_0 : List UInt8 := dkwX3_isMode_0 ++ []
theorem dksX3_isMode_0 : cX3_isMode.data.toList.drop 0 = dktX3_isMode_0 := by decide +kernel
theorem dX3_isMode_0 : decode cX3_isMode 0 = .ok (.iload_n 0, 1) := dk_26 (dk_at dksX3_isMode_0 0 rfl rfl)
theorem dX3_isMode_1 : decode cX3_isMode 1 = .ok (.i2l, 1) := dk_133 (dk_at dksX3_isMode_0 1 rfl rfl)
theorem dX3_isMode_2 : decode cX3_isMode 2 = .ok (.lconst 0, 1) := dk_9 (dk_at dksX3_isMode_0 2 rfl rfl)
theorem dX3_isMode_3 : decode cX3_isMode 3 = .ok (.ldc2_w 220, 3) := dk_20 0 220 (dk_at dksX3_isMode_0 3 rfl rfl)
theorem dX3_isMode_6 : decode cX3_isMode 6 = .ok (.invokestatic 70, 3) := dk_184 0 70 (dk_at dksX3_isMode_0 6 rfl rfl)
theorem dX3_isMode_9 : decode cX3_isMode 9 = .ok (.ireturn, 1) := dk_172 (dk_at dksX3_isMode_0 9 rfl rfl)
abbrev cX3_isSet : ByteArray := prog_13_method_57_code
def yX3_isSet : MethodName := ⟨RX3, "isSet", "(I)Z"⟩
def dkwX3_isSet_0 : List UInt8 := [26, 133, 9, 20, 0, 218, 184, 0, 70, 172]
abbrev dktX3_isSet_0 : List UInt8 := dkwX3_isSet_0 ++ []
theorem dksX3_isSet_0 : cX3_isSet.data.toList.drop 0 = dktX3_isSet_0 := by decide +kernel
theorem dX3_isSet_0 : decode cX3_isSet 0 = .ok (.iload_n 0, 1) := dk_26 (dk_at dksX3_isSet_0 0 rfl rfl)
theorem dX3_isSet_1 : decode cX3_isSet 1 = .ok (.i2l, 1) := dk_133 (dk_at dksX3_isSet_0 1 rfl rfl)
theorem dX3_isSet_2 : decode cX3_isSet 2 = .ok (.lconst 0, 1) := dk_9 (dk_at dksX3_isSet_0 2 rfl rfl)
theorem dX3_isSet_3 : decode cX3_isSet 3 = .ok (.ldc2_w 218, 3) := dk_20 0 218 (dk_at dksX3_isSet_0 3 rfl rfl)
theorem dX3_isSet_6 : decode cX3_isSet 6 = .ok (.invokestatic 70, 3) := dk_184 0 70 (dk_at dksX3_isSet_0 6 rfl rfl)
theorem dX3_isSet_9 : decode cX3_isSet 9 = .ok (.ireturn, 1) := dk_172 (dk_at dksX3_isSet_0 9 rfl rfl)
abbrev cX3_canChange : ByteArray := prog_13_method_44_code
def yX3_canChange : MethodName := ⟨RX3, "canChange", "(I)Z"⟩
def dkwX3_canChange_0 : List UInt8 := [42, 27, 182, 0, 169, 153, 0, 15, 42, 27, 182, 0, 172, 154, 0, 7, 4, 167, 0, 4, 3, 172]
abbrev dktX3_canChange_0 : List UInt8 := dkwX3_canChange_0 ++ []
theorem dksX3_canChange_0 : cX3_canChange.data.toList.drop 0 = dktX3_canChange_0 := by decide +kernel
theorem dX3_canChange_0 : decode cX3_canChange 0 = .ok (.aload_n 0, 1) := dk_42 (dk_at dksX3_canChange_0 0 rfl rfl)
theorem dX3_canChange_1 : decode cX3_canChange 1 = .ok (.iload_n 1, 1) := dk_27 (dk_at dksX3_canChange_0 1 rfl rfl)
theorem dX3_canChange_2 : decode cX3_canChange 2 = .ok (.invokevirtual 169, 3) := dk_182 0 169 (dk_at dksX3_canChange_0 2 rfl rfl)
theorem dX3_canChange_5 : decode cX3_canChange 5 = .ok (.ifCond .eq 15, 3) := dk_153 0 15 (dk_at dksX3_canChange_0 5 rfl rfl)
theorem dX3_canChange_8 : decode cX3_canChange 8 = .ok (.aload_n 0, 1) := dk_42 (dk_at dksX3_canChange_0 8 rfl rfl)
theorem dX3_canChange_9 : decode cX3_canChange 9 = .ok (.iload_n 1, 1) := dk_27 (dk_at dksX3_canChange_0 9 rfl rfl)
theorem dX3_canChange_10 : decode cX3_canChange 10 = .ok (.invokevirtual 172, 3) := dk_182 0 172 (dk_at dksX3_canChange_0 10 rfl rfl)
theorem dX3_canChange_13 : decode cX3_canChange 13 = .ok (.ifCond .ne 7, 3) := dk_154 0 7 (dk_at dksX3_canChange_0 13 rfl rfl)
theorem dX3_canChange_16 : decode cX3_canChange 16 = .ok (.iconst 1, 1) := dk_4 (dk_at dksX3_canChange_0 16 rfl rfl)
theorem dX3_canChange_17 : decode cX3_canChange 17 = .ok (.goto 4, 3) := dk_167 0 4 (dk_at dksX3_canChange_0 17 rfl rfl)
theorem dX3_canChange_20 : decode cX3_canChange 20 = .ok (.iconst 0, 1) := dk_3 (dk_at dksX3_canChange_0 20 rfl rfl)
theorem dX3_canChange_21 : decode cX3_canChange 21 = .ok (.ireturn, 1) := dk_172 (dk_at dksX3_canChange_0 21 rfl rfl)
abbrev cX3_sets : ByteArray := prog_13_method_60_code
def yX3_sets : MethodName := ⟨RX3, "sets", "(IIII)Z"⟩
def dkwX3_sets_1 : List UInt8 := [27, 28, 5, 182, 0, 103, 21, 5, 159, 0, 7, 4, 167, 0, 4, 3, 172]
abbrev dktX3_sets_1 : List UInt8 := dkwX3_sets_1 ++ []
def dkwX3_sets_0 : List UInt8 := [42, 27, 28, 5, 182, 0, 103, 54, 5, 42, 27, 28, 21, 5, 29, 21, 4, 184, 0, 222, 182, 0, 210, 42]
abbrev dktX3_sets_0 : List UInt8 := dkwX3_sets_0 ++ dktX3_sets_1
theorem dksX3_sets_0 : cX3_sets.data.toList.drop 0 = dktX3_sets_0 := by decide +kernel
theorem dksX3_sets_1 : cX3_sets.data.toList.drop 24 = dktX3_sets_1 := dk_seg dksX3_sets_0 24 rfl rfl
theorem dX3_sets_0 : decode cX3_sets 0 = .ok (.aload_n 0, 1) := dk_42 (dk_at dksX3_sets_0 0 rfl rfl)
theorem dX3_sets_1 : decode cX3_sets 1 = .ok (.iload_n 1, 1) := dk_27 (dk_at dksX3_sets_0 1 rfl rfl)
theorem dX3_sets_2 : decode cX3_sets 2 = .ok (.iload_n 2, 1) := dk_28 (dk_at dksX3_sets_0 2 rfl rfl)
theorem dX3_sets_3 : decode cX3_sets 3 = .ok (.iconst 2, 1) := dk_5 (dk_at dksX3_sets_0 3 rfl rfl)
theorem dX3_sets_4 : decode cX3_sets 4 = .ok (.invokevirtual 103, 3) := dk_182 0 103 (dk_at dksX3_sets_0 4 rfl rfl)
theorem dX3_sets_7 : decode cX3_sets 7 = .ok (.istore 5, 2) := dk_54 5 (dk_at dksX3_sets_0 7 rfl rfl)
theorem dX3_sets_9 : decode cX3_sets 9 = .ok (.aload_n 0, 1) := dk_42 (dk_at dksX3_sets_0 9 rfl rfl)
theorem dX3_sets_10 : decode cX3_sets 10 = .ok (.iload_n 1, 1) := dk_27 (dk_at dksX3_sets_0 10 rfl rfl)
theorem dX3_sets_11 : decode cX3_sets 11 = .ok (.iload_n 2, 1) := dk_28 (dk_at dksX3_sets_0 11 rfl rfl)
theorem dX3_sets_12 : decode cX3_sets 12 = .ok (.iload 5, 2) := dk_21 5 (dk_at dksX3_sets_0 12 rfl rfl)
theorem dX3_sets_14 : decode cX3_sets 14 = .ok (.iload_n 3, 1) := dk_29 (dk_at dksX3_sets_0 14 rfl rfl)
theorem dX3_sets_15 : decode cX3_sets 15 = .ok (.iload 4, 2) := dk_21 4 (dk_at dksX3_sets_0 15 rfl rfl)
theorem dX3_sets_17 : decode cX3_sets 17 = .ok (.invokestatic 222, 3) := dk_184 0 222 (dk_at dksX3_sets_0 17 rfl rfl)
theorem dX3_sets_20 : decode cX3_sets 20 = .ok (.invokevirtual 210, 3) := dk_182 0 210 (dk_at dksX3_sets_0 20 rfl rfl)
theorem dX3_sets_23 : decode cX3_sets 23 = .ok (.aload_n 0, 1) := dk_42 (dk_at dksX3_sets_0 23 rfl rfl)
theorem dX3_sets_24 : decode cX3_sets 24 = .ok (.iload_n 1, 1) := dk_27 (dk_at dksX3_sets_1 0 rfl rfl)
theorem dX3_sets_25 : decode cX3_sets 25 = .ok (.iload_n 2, 1) := dk_28 (dk_at dksX3_sets_1 1 rfl rfl)
theorem dX3_sets_26 : decode cX3_sets 26 = .ok (.iconst 2, 1) := dk_5 (dk_at dksX3_sets_1 2 rfl rfl)
theorem dX3_sets_27 : decode cX3_sets 27 = .ok (.invokevirtual 103, 3) := dk_182 0 103 (dk_at dksX3_sets_1 3 rfl rfl)
theorem dX3_sets_30 : decode cX3_sets 30 = .ok (.iload 5, 2) := dk_21 5 (dk_at dksX3_sets_1 6 rfl rfl)
theorem dX3_sets_32 : decode cX3_sets 32 = .ok (.if_icmp .eq 7, 3) := dk_159 0 7 (dk_at dksX3_sets_1 8 rfl rfl)
theorem dX3_sets_35 : decode cX3_sets 35 = .ok (.iconst 1, 1) := dk_4 (dk_at dksX3_sets_1 11 rfl rfl)
theorem dX3_sets_36 : decode cX3_sets 36 = .ok (.goto 4, 3) := dk_167 0 4 (dk_at dksX3_sets_1 12 rfl rfl)
theorem dX3_sets_39 : decode cX3_sets 39 = .ok (.iconst 0, 1) := dk_3 (dk_at dksX3_sets_1 15 rfl rfl)
theorem dX3_sets_40 : decode cX3_sets 40 = .ok (.ireturn, 1) := dk_172 (dk_at dksX3_sets_1 16 rfl rfl)
abbrev cX3_flagsBy : ByteArray := prog_13_method_59_code
def yX3_flagsBy : MethodName := ⟨RX3, "flagsBy", "(III)I"⟩
def dkwX3_flagsBy_1 : List UInt8 := [172]
abbrev dktX3_flagsBy_1 : List UInt8 := dkwX3_flagsBy_1 ++ []
def dkwX3_flagsBy_0 : List UInt8 := [27, 154, 0, 7, 28, 167, 0, 19, 27, 4, 160, 0, 9, 26, 28, 128, 167, 0, 8, 26, 28, 2, 130, 126]
abbrev dktX3_flagsBy_0 : List UInt8 := dkwX3_flagsBy_0 ++ dktX3_flagsBy_1
theorem dksX3_flagsBy_0 : cX3_flagsBy.data.toList.drop 0 = dktX3_flagsBy_0 := by decide +kernel
theorem dksX3_flagsBy_1 : cX3_flagsBy.data.toList.drop 24 = dktX3_flagsBy_1 := dk_seg dksX3_flagsBy_0 24 rfl rfl
theorem dX3_flagsBy_0 : decode cX3_flagsBy 0 = .ok (.iload_n 1, 1) := dk_27 (dk_at dksX3_flagsBy_0 0 rfl rfl)
theorem dX3_flagsBy_1 : decode cX3_flagsBy 1 = .ok (.ifCond .ne 7, 3) := dk_154 0 7 (dk_at dksX3_flagsBy_0 1 rfl rfl)
theorem dX3_flagsBy_4 : decode cX3_flagsBy 4 = .ok (.iload_n 2, 1) := dk_28 (dk_at dksX3_flagsBy_0 4 rfl rfl)
theorem dX3_flagsBy_5 : decode cX3_flagsBy 5 = .ok (.goto 19, 3) := dk_167 0 19 (dk_at dksX3_flagsBy_0 5 rfl rfl)
theorem dX3_flagsBy_8 : decode cX3_flagsBy 8 = .ok (.iload_n 1, 1) := dk_27 (dk_at dksX3_flagsBy_0 8 rfl rfl)
theorem dX3_flagsBy_9 : decode cX3_flagsBy 9 = .ok (.iconst 1, 1) := dk_4 (dk_at dksX3_flagsBy_0 9 rfl rfl)
theorem dX3_flagsBy_10 : decode cX3_flagsBy 10 = .ok (.if_icmp .ne 9, 3) := dk_160 0 9 (dk_at dksX3_flagsBy_0 10 rfl rfl)
theorem dX3_flagsBy_13 : decode cX3_flagsBy 13 = .ok (.iload_n 0, 1) := dk_26 (dk_at dksX3_flagsBy_0 13 rfl rfl)
theorem dX3_flagsBy_14 : decode cX3_flagsBy 14 = .ok (.iload_n 2, 1) := dk_28 (dk_at dksX3_flagsBy_0 14 rfl rfl)
theorem dX3_flagsBy_15 : decode cX3_flagsBy 15 = .ok (.ior, 1) := dk_128 (dk_at dksX3_flagsBy_0 15 rfl rfl)
theorem dX3_flagsBy_16 : decode cX3_flagsBy 16 = .ok (.goto 8, 3) := dk_167 0 8 (dk_at dksX3_flagsBy_0 16 rfl rfl)
theorem dX3_flagsBy_19 : decode cX3_flagsBy 19 = .ok (.iload_n 0, 1) := dk_26 (dk_at dksX3_flagsBy_0 19 rfl rfl)
theorem dX3_flagsBy_20 : decode cX3_flagsBy 20 = .ok (.iload_n 2, 1) := dk_28 (dk_at dksX3_flagsBy_0 20 rfl rfl)
theorem dX3_flagsBy_21 : decode cX3_flagsBy 21 = .ok (.iconst (-1), 1) := dk_2 (dk_at dksX3_flagsBy_0 21 rfl rfl)
theorem dX3_flagsBy_22 : decode cX3_flagsBy 22 = .ok (.ixor, 1) := dk_130 (dk_at dksX3_flagsBy_0 22 rfl rfl)
theorem dX3_flagsBy_23 : decode cX3_flagsBy 23 = .ok (.iand, 1) := dk_126 (dk_at dksX3_flagsBy_0 23 rfl rfl)
theorem dX3_flagsBy_24 : decode cX3_flagsBy 24 = .ok (.ireturn, 1) := dk_172 (dk_at dksX3_flagsBy_1 0 rfl rfl)
abbrev cX3_uidStore : ByteArray := prog_13_method_62_code
def yX3_uidStore : MethodName := ⟨RX3, "uidStore", "(IIIII)I"⟩
def dkwX3_uidStore_5 : List UInt8 := [167, 255, 197, 42, 27, 4, 21, 7, 182, 0, 214, 172]
abbrev dktX3_uidStore_5 : List UInt8 := dkwX3_uidStore_5 ++ []
def dkwX3_uidStore_4 : List UInt8 := [21, 8, 21, 4, 21, 5, 182, 0, 234, 153, 0, 7, 4, 167, 0, 4, 3, 96, 54, 7, 132, 8, 1]
abbrev dktX3_uidStore_4 : List UInt8 := dkwX3_uidStore_4 ++ dktX3_uidStore_5
def dkwX3_uidStore_3 : List UInt8 := [21, 6, 21, 8, 3, 182, 0, 103, 133, 28, 133, 29, 133, 184, 0, 70, 153, 0, 28, 21, 7, 42, 21, 6]
abbrev dktX3_uidStore_3 : List UInt8 := dkwX3_uidStore_3 ++ dktX3_uidStore_4
def dkwX3_uidStore_2 : List UInt8 := [182, 0, 87, 54, 6, 3, 54, 7, 3, 54, 8, 21, 8, 42, 21, 6, 182, 0, 100, 162, 0, 54, 42]
abbrev dktX3_uidStore_2 : List UInt8 := dkwX3_uidStore_2 ++ dktX3_uidStore_3
def dkwX3_uidStore_1 : List UInt8 := [167, 0, 4, 3, 42, 27, 182, 0, 231, 182, 0, 7, 154, 0, 5, 3, 172, 42, 27, 182, 0, 196, 42, 27]
abbrev dktX3_uidStore_1 : List UInt8 := dkwX3_uidStore_1 ++ dktX3_uidStore_2
def dkwX3_uidStore_0 : List UInt8 := [42, 42, 27, 182, 0, 93, 21, 4, 184, 0, 225, 153, 0, 15, 21, 5, 184, 0, 228, 153, 0, 7, 4]
abbrev dktX3_uidStore_0 : List UInt8 := dkwX3_uidStore_0 ++ dktX3_uidStore_1
theorem dksX3_uidStore_0 : cX3_uidStore.data.toList.drop 0 = dktX3_uidStore_0 := by decide +kernel
theorem dksX3_uidStore_1 : cX3_uidStore.data.toList.drop 23 = dktX3_uidStore_1 := dk_seg dksX3_uidStore_0 23 rfl rfl
theorem dksX3_uidStore_2 : cX3_uidStore.data.toList.drop 47 = dktX3_uidStore_2 := dk_seg dksX3_uidStore_1 24 rfl rfl
theorem dksX3_uidStore_3 : cX3_uidStore.data.toList.drop 70 = dktX3_uidStore_3 := dk_seg dksX3_uidStore_2 23 rfl rfl
theorem dksX3_uidStore_4 : cX3_uidStore.data.toList.drop 94 = dktX3_uidStore_4 := dk_seg dksX3_uidStore_3 24 rfl rfl
theorem dksX3_uidStore_5 : cX3_uidStore.data.toList.drop 117 = dktX3_uidStore_5 := dk_seg dksX3_uidStore_4 23 rfl rfl
theorem dX3_uidStore_0 : decode cX3_uidStore 0 = .ok (.aload_n 0, 1) := dk_42 (dk_at dksX3_uidStore_0 0 rfl rfl)
theorem dX3_uidStore_1 : decode cX3_uidStore 1 = .ok (.aload_n 0, 1) := dk_42 (dk_at dksX3_uidStore_0 1 rfl rfl)
theorem dX3_uidStore_2 : decode cX3_uidStore 2 = .ok (.iload_n 1, 1) := dk_27 (dk_at dksX3_uidStore_0 2 rfl rfl)
theorem dX3_uidStore_3 : decode cX3_uidStore 3 = .ok (.invokevirtual 93, 3) := dk_182 0 93 (dk_at dksX3_uidStore_0 3 rfl rfl)
theorem dX3_uidStore_6 : decode cX3_uidStore 6 = .ok (.iload 4, 2) := dk_21 4 (dk_at dksX3_uidStore_0 6 rfl rfl)
theorem dX3_uidStore_8 : decode cX3_uidStore 8 = .ok (.invokestatic 225, 3) := dk_184 0 225 (dk_at dksX3_uidStore_0 8 rfl rfl)
theorem dX3_uidStore_11 : decode cX3_uidStore 11 = .ok (.ifCond .eq 15, 3) := dk_153 0 15 (dk_at dksX3_uidStore_0 11 rfl rfl)
theorem dX3_uidStore_14 : decode cX3_uidStore 14 = .ok (.iload 5, 2) := dk_21 5 (dk_at dksX3_uidStore_0 14 rfl rfl)
theorem dX3_uidStore_16 : decode cX3_uidStore 16 = .ok (.invokestatic 228, 3) := dk_184 0 228 (dk_at dksX3_uidStore_0 16 rfl rfl)
theorem dX3_uidStore_19 : decode cX3_uidStore 19 = .ok (.ifCond .eq 7, 3) := dk_153 0 7 (dk_at dksX3_uidStore_0 19 rfl rfl)
theorem dX3_uidStore_22 : decode cX3_uidStore 22 = .ok (.iconst 1, 1) := dk_4 (dk_at dksX3_uidStore_0 22 rfl rfl)
theorem dX3_uidStore_23 : decode cX3_uidStore 23 = .ok (.goto 4, 3) := dk_167 0 4 (dk_at dksX3_uidStore_1 0 rfl rfl)
theorem dX3_uidStore_26 : decode cX3_uidStore 26 = .ok (.iconst 0, 1) := dk_3 (dk_at dksX3_uidStore_1 3 rfl rfl)
theorem dX3_uidStore_27 : decode cX3_uidStore 27 = .ok (.aload_n 0, 1) := dk_42 (dk_at dksX3_uidStore_1 4 rfl rfl)
theorem dX3_uidStore_28 : decode cX3_uidStore 28 = .ok (.iload_n 1, 1) := dk_27 (dk_at dksX3_uidStore_1 5 rfl rfl)
theorem dX3_uidStore_29 : decode cX3_uidStore 29 = .ok (.invokevirtual 231, 3) := dk_182 0 231 (dk_at dksX3_uidStore_1 6 rfl rfl)
theorem dX3_uidStore_32 : decode cX3_uidStore 32 = .ok (.invokevirtual 7, 3) := dk_182 0 7 (dk_at dksX3_uidStore_1 9 rfl rfl)
theorem dX3_uidStore_35 : decode cX3_uidStore 35 = .ok (.ifCond .ne 5, 3) := dk_154 0 5 (dk_at dksX3_uidStore_1 12 rfl rfl)
theorem dX3_uidStore_38 : decode cX3_uidStore 38 = .ok (.iconst 0, 1) := dk_3 (dk_at dksX3_uidStore_1 15 rfl rfl)
theorem dX3_uidStore_39 : decode cX3_uidStore 39 = .ok (.ireturn, 1) := dk_172 (dk_at dksX3_uidStore_1 16 rfl rfl)
theorem dX3_uidStore_40 : decode cX3_uidStore 40 = .ok (.aload_n 0, 1) := dk_42 (dk_at dksX3_uidStore_1 17 rfl rfl)
theorem dX3_uidStore_41 : decode cX3_uidStore 41 = .ok (.iload_n 1, 1) := dk_27 (dk_at dksX3_uidStore_1 18 rfl rfl)
theorem dX3_uidStore_42 : decode cX3_uidStore 42 = .ok (.invokevirtual 196, 3) := dk_182 0 196 (dk_at dksX3_uidStore_1 19 rfl rfl)
theorem dX3_uidStore_45 : decode cX3_uidStore 45 = .ok (.aload_n 0, 1) := dk_42 (dk_at dksX3_uidStore_1 22 rfl rfl)
theorem dX3_uidStore_46 : decode cX3_uidStore 46 = .ok (.iload_n 1, 1) := dk_27 (dk_at dksX3_uidStore_1 23 rfl rfl)
theorem dX3_uidStore_47 : decode cX3_uidStore 47 = .ok (.invokevirtual 87, 3) := dk_182 0 87 (dk_at dksX3_uidStore_2 0 rfl rfl)
theorem dX3_uidStore_50 : decode cX3_uidStore 50 = .ok (.istore 6, 2) := dk_54 6 (dk_at dksX3_uidStore_2 3 rfl rfl)
theorem dX3_uidStore_52 : decode cX3_uidStore 52 = .ok (.iconst 0, 1) := dk_3 (dk_at dksX3_uidStore_2 5 rfl rfl)
theorem dX3_uidStore_53 : decode cX3_uidStore 53 = .ok (.istore 7, 2) := dk_54 7 (dk_at dksX3_uidStore_2 6 rfl rfl)
theorem dX3_uidStore_55 : decode cX3_uidStore 55 = .ok (.iconst 0, 1) := dk_3 (dk_at dksX3_uidStore_2 8 rfl rfl)
theorem dX3_uidStore_56 : decode cX3_uidStore 56 = .ok (.istore 8, 2) := dk_54 8 (dk_at dksX3_uidStore_2 9 rfl rfl)
theorem dX3_uidStore_58 : decode cX3_uidStore 58 = .ok (.iload 8, 2) := dk_21 8 (dk_at dksX3_uidStore_2 11 rfl rfl)
theorem dX3_uidStore_60 : decode cX3_uidStore 60 = .ok (.aload_n 0, 1) := dk_42 (dk_at dksX3_uidStore_2 13 rfl rfl)
theorem dX3_uidStore_61 : decode cX3_uidStore 61 = .ok (.iload 6, 2) := dk_21 6 (dk_at dksX3_uidStore_2 14 rfl rfl)
theorem dX3_uidStore_63 : decode cX3_uidStore 63 = .ok (.invokevirtual 100, 3) := dk_182 0 100 (dk_at dksX3_uidStore_2 16 rfl rfl)
theorem dX3_uidStore_66 : decode cX3_uidStore 66 = .ok (.if_icmp .ge 54, 3) := dk_162 0 54 (dk_at dksX3_uidStore_2 19 rfl rfl)
theorem dX3_uidStore_69 : decode cX3_uidStore 69 = .ok (.aload_n 0, 1) := dk_42 (dk_at dksX3_uidStore_2 22 rfl rfl)
theorem dX3_uidStore_70 : decode cX3_uidStore 70 = .ok (.iload 6, 2) := dk_21 6 (dk_at dksX3_uidStore_3 0 rfl rfl)
theorem dX3_uidStore_72 : decode cX3_uidStore 72 = .ok (.iload 8, 2) := dk_21 8 (dk_at dksX3_uidStore_3 2 rfl rfl)
theorem dX3_uidStore_74 : decode cX3_uidStore 74 = .ok (.iconst 0, 1) := dk_3 (dk_at dksX3_uidStore_3 4 rfl rfl)
theorem dX3_uidStore_75 : decode cX3_uidStore 75 = .ok (.invokevirtual 103, 3) := dk_182 0 103 (dk_at dksX3_uidStore_3 5 rfl rfl)
theorem dX3_uidStore_78 : decode cX3_uidStore 78 = .ok (.i2l, 1) := dk_133 (dk_at dksX3_uidStore_3 8 rfl rfl)
theorem dX3_uidStore_79 : decode cX3_uidStore 79 = .ok (.iload_n 2, 1) := dk_28 (dk_at dksX3_uidStore_3 9 rfl rfl)
theorem dX3_uidStore_80 : decode cX3_uidStore 80 = .ok (.i2l, 1) := dk_133 (dk_at dksX3_uidStore_3 10 rfl rfl)
theorem dX3_uidStore_81 : decode cX3_uidStore 81 = .ok (.iload_n 3, 1) := dk_29 (dk_at dksX3_uidStore_3 11 rfl rfl)
theorem dX3_uidStore_82 : decode cX3_uidStore 82 = .ok (.i2l, 1) := dk_133 (dk_at dksX3_uidStore_3 12 rfl rfl)
theorem dX3_uidStore_83 : decode cX3_uidStore 83 = .ok (.invokestatic 70, 3) := dk_184 0 70 (dk_at dksX3_uidStore_3 13 rfl rfl)
theorem dX3_uidStore_86 : decode cX3_uidStore 86 = .ok (.ifCond .eq 28, 3) := dk_153 0 28 (dk_at dksX3_uidStore_3 16 rfl rfl)
theorem dX3_uidStore_89 : decode cX3_uidStore 89 = .ok (.iload 7, 2) := dk_21 7 (dk_at dksX3_uidStore_3 19 rfl rfl)
theorem dX3_uidStore_91 : decode cX3_uidStore 91 = .ok (.aload_n 0, 1) := dk_42 (dk_at dksX3_uidStore_3 21 rfl rfl)
theorem dX3_uidStore_92 : decode cX3_uidStore 92 = .ok (.iload 6, 2) := dk_21 6 (dk_at dksX3_uidStore_3 22 rfl rfl)
theorem dX3_uidStore_94 : decode cX3_uidStore 94 = .ok (.iload 8, 2) := dk_21 8 (dk_at dksX3_uidStore_4 0 rfl rfl)
theorem dX3_uidStore_96 : decode cX3_uidStore 96 = .ok (.iload 4, 2) := dk_21 4 (dk_at dksX3_uidStore_4 2 rfl rfl)
theorem dX3_uidStore_98 : decode cX3_uidStore 98 = .ok (.iload 5, 2) := dk_21 5 (dk_at dksX3_uidStore_4 4 rfl rfl)
theorem dX3_uidStore_100 : decode cX3_uidStore 100 = .ok (.invokevirtual 234, 3) := dk_182 0 234 (dk_at dksX3_uidStore_4 6 rfl rfl)
theorem dX3_uidStore_103 : decode cX3_uidStore 103 = .ok (.ifCond .eq 7, 3) := dk_153 0 7 (dk_at dksX3_uidStore_4 9 rfl rfl)
theorem dX3_uidStore_106 : decode cX3_uidStore 106 = .ok (.iconst 1, 1) := dk_4 (dk_at dksX3_uidStore_4 12 rfl rfl)
theorem dX3_uidStore_107 : decode cX3_uidStore 107 = .ok (.goto 4, 3) := dk_167 0 4 (dk_at dksX3_uidStore_4 13 rfl rfl)
theorem dX3_uidStore_110 : decode cX3_uidStore 110 = .ok (.iconst 0, 1) := dk_3 (dk_at dksX3_uidStore_4 16 rfl rfl)
theorem dX3_uidStore_111 : decode cX3_uidStore 111 = .ok (.iadd, 1) := dk_96 (dk_at dksX3_uidStore_4 17 rfl rfl)
theorem dX3_uidStore_112 : decode cX3_uidStore 112 = .ok (.istore 7, 2) := dk_54 7 (dk_at dksX3_uidStore_4 18 rfl rfl)
theorem dX3_uidStore_114 : decode cX3_uidStore 114 = .ok (.iinc 8 1, 3) := dk_132 8 1 (dk_at dksX3_uidStore_4 20 rfl rfl)
theorem dX3_uidStore_117 : decode cX3_uidStore 117 = .ok (.goto (-59), 3) := dk_167 255 197 (dk_at dksX3_uidStore_5 0 rfl rfl)
theorem dX3_uidStore_120 : decode cX3_uidStore 120 = .ok (.aload_n 0, 1) := dk_42 (dk_at dksX3_uidStore_5 3 rfl rfl)
theorem dX3_uidStore_121 : decode cX3_uidStore 121 = .ok (.iload_n 1, 1) := dk_27 (dk_at dksX3_uidStore_5 4 rfl rfl)
theorem dX3_uidStore_122 : decode cX3_uidStore 122 = .ok (.iconst 1, 1) := dk_4 (dk_at dksX3_uidStore_5 5 rfl rfl)
theorem dX3_uidStore_123 : decode cX3_uidStore 123 = .ok (.iload 7, 2) := dk_21 7 (dk_at dksX3_uidStore_5 6 rfl rfl)
theorem dX3_uidStore_125 : decode cX3_uidStore 125 = .ok (.invokevirtual 214, 3) := dk_182 0 214 (dk_at dksX3_uidStore_5 8 rfl rfl)
theorem dX3_uidStore_128 : decode cX3_uidStore 128 = .ok (.ireturn, 1) := dk_172 (dk_at dksX3_uidStore_5 11 rfl rfl)
abbrev cX3_expunge : ByteArray := prog_13_method_65_code
def yX3_expunge : MethodName := ⟨RX3, "expunge", "(I)I"⟩
def dkwX3_expunge_1 : List UInt8 := [42, 27, 4, 42, 42, 27, 182, 0, 87, 3, 18, 243, 182, 0, 244, 182, 0, 214, 172]
abbrev dktX3_expunge_1 : List UInt8 := dkwX3_expunge_1 ++ []
def dkwX3_expunge_0 : List UInt8 := [42, 42, 27, 182, 0, 93, 42, 27, 182, 0, 231, 182, 0, 192, 154, 0, 5, 3, 172, 42, 27, 182, 0, 196]
abbrev dktX3_expunge_0 : List UInt8 := dkwX3_expunge_0 ++ dktX3_expunge_1
theorem dksX3_expunge_0 : cX3_expunge.data.toList.drop 0 = dktX3_expunge_0 := by decide +kernel
theorem dksX3_expunge_1 : cX3_expunge.data.toList.drop 24 = dktX3_expunge_1 := dk_seg dksX3_expunge_0 24 rfl rfl
theorem dX3_expunge_0 : decode cX3_expunge 0 = .ok (.aload_n 0, 1) := dk_42 (dk_at dksX3_expunge_0 0 rfl rfl)
theorem dX3_expunge_1 : decode cX3_expunge 1 = .ok (.aload_n 0, 1) := dk_42 (dk_at dksX3_expunge_0 1 rfl rfl)
theorem dX3_expunge_2 : decode cX3_expunge 2 = .ok (.iload_n 1, 1) := dk_27 (dk_at dksX3_expunge_0 2 rfl rfl)
theorem dX3_expunge_3 : decode cX3_expunge 3 = .ok (.invokevirtual 93, 3) := dk_182 0 93 (dk_at dksX3_expunge_0 3 rfl rfl)
theorem dX3_expunge_6 : decode cX3_expunge 6 = .ok (.aload_n 0, 1) := dk_42 (dk_at dksX3_expunge_0 6 rfl rfl)
theorem dX3_expunge_7 : decode cX3_expunge 7 = .ok (.iload_n 1, 1) := dk_27 (dk_at dksX3_expunge_0 7 rfl rfl)
theorem dX3_expunge_8 : decode cX3_expunge 8 = .ok (.invokevirtual 231, 3) := dk_182 0 231 (dk_at dksX3_expunge_0 8 rfl rfl)
theorem dX3_expunge_11 : decode cX3_expunge 11 = .ok (.invokevirtual 192, 3) := dk_182 0 192 (dk_at dksX3_expunge_0 11 rfl rfl)
theorem dX3_expunge_14 : decode cX3_expunge 14 = .ok (.ifCond .ne 5, 3) := dk_154 0 5 (dk_at dksX3_expunge_0 14 rfl rfl)
theorem dX3_expunge_17 : decode cX3_expunge 17 = .ok (.iconst 0, 1) := dk_3 (dk_at dksX3_expunge_0 17 rfl rfl)
theorem dX3_expunge_18 : decode cX3_expunge 18 = .ok (.ireturn, 1) := dk_172 (dk_at dksX3_expunge_0 18 rfl rfl)
theorem dX3_expunge_19 : decode cX3_expunge 19 = .ok (.aload_n 0, 1) := dk_42 (dk_at dksX3_expunge_0 19 rfl rfl)
theorem dX3_expunge_20 : decode cX3_expunge 20 = .ok (.iload_n 1, 1) := dk_27 (dk_at dksX3_expunge_0 20 rfl rfl)
theorem dX3_expunge_21 : decode cX3_expunge 21 = .ok (.invokevirtual 196, 3) := dk_182 0 196 (dk_at dksX3_expunge_0 21 rfl rfl)
theorem dX3_expunge_24 : decode cX3_expunge 24 = .ok (.aload_n 0, 1) := dk_42 (dk_at dksX3_expunge_1 0 rfl rfl)
theorem dX3_expunge_25 : decode cX3_expunge 25 = .ok (.iload_n 1, 1) := dk_27 (dk_at dksX3_expunge_1 1 rfl rfl)
theorem dX3_expunge_26 : decode cX3_expunge 26 = .ok (.iconst 1, 1) := dk_4 (dk_at dksX3_expunge_1 2 rfl rfl)
theorem dX3_expunge_27 : decode cX3_expunge 27 = .ok (.aload_n 0, 1) := dk_42 (dk_at dksX3_expunge_1 3 rfl rfl)
theorem dX3_expunge_28 : decode cX3_expunge 28 = .ok (.aload_n 0, 1) := dk_42 (dk_at dksX3_expunge_1 4 rfl rfl)
theorem dX3_expunge_29 : decode cX3_expunge 29 = .ok (.iload_n 1, 1) := dk_27 (dk_at dksX3_expunge_1 5 rfl rfl)
theorem dX3_expunge_30 : decode cX3_expunge 30 = .ok (.invokevirtual 87, 3) := dk_182 0 87 (dk_at dksX3_expunge_1 6 rfl rfl)
theorem dX3_expunge_33 : decode cX3_expunge 33 = .ok (.iconst 0, 1) := dk_3 (dk_at dksX3_expunge_1 9 rfl rfl)
theorem dX3_expunge_34 : decode cX3_expunge 34 = .ok (.ldc 243, 2) := dk_18 243 (dk_at dksX3_expunge_1 10 rfl rfl)
theorem dX3_expunge_36 : decode cX3_expunge 36 = .ok (.invokevirtual 244, 3) := dk_182 0 244 (dk_at dksX3_expunge_1 12 rfl rfl)
theorem dX3_expunge_39 : decode cX3_expunge 39 = .ok (.invokevirtual 214, 3) := dk_182 0 214 (dk_at dksX3_expunge_1 15 rfl rfl)
theorem dX3_expunge_42 : decode cX3_expunge 42 = .ok (.ireturn, 1) := dk_172 (dk_at dksX3_expunge_1 18 rfl rfl)
abbrev cX3_removeDeleted : ByteArray := prog_13_method_64_code
def yX3_removeDeleted : MethodName := ⟨RX3, "removeDeleted", "(III)I"⟩
def dkwX3_removeDeleted_4 : List UInt8 := [21, 4, 172]
abbrev dktX3_removeDeleted_4 : List UInt8 := dkwX3_removeDeleted_4 ++ []
def dkwX3_removeDeleted_3 : List UInt8 := [167, 0, 6, 132, 5, 1, 21, 4, 21, 6, 153, 0, 7, 4, 167, 0, 4, 3, 96, 54, 4, 167, 255, 173]
abbrev dktX3_removeDeleted_3 : List UInt8 := dkwX3_removeDeleted_3 ++ dktX3_removeDeleted_4
def dkwX3_removeDeleted_2 : List UInt8 := [153, 0, 7, 4, 167, 0, 4, 3, 54, 6, 21, 6, 153, 0, 13, 42, 27, 21, 5, 182, 0, 238]
abbrev dktX3_removeDeleted_2 : List UInt8 := dkwX3_removeDeleted_2 ++ dktX3_removeDeleted_3
def dkwX3_removeDeleted_1 : List UInt8 := [16, 8, 126, 153, 0, 26, 42, 27, 21, 5, 3, 182, 0, 103, 133, 28, 133, 29, 133, 184, 0, 70]
abbrev dktX3_removeDeleted_1 : List UInt8 := dkwX3_removeDeleted_1 ++ dktX3_removeDeleted_2
def dkwX3_removeDeleted_0 : List UInt8 := [3, 54, 4, 3, 54, 5, 21, 5, 42, 27, 182, 0, 100, 162, 0, 79, 42, 27, 21, 5, 5, 182, 0, 103]
abbrev dktX3_removeDeleted_0 : List UInt8 := dkwX3_removeDeleted_0 ++ dktX3_removeDeleted_1
theorem dksX3_removeDeleted_0 : cX3_removeDeleted.data.toList.drop 0 = dktX3_removeDeleted_0 := by decide +kernel
theorem dksX3_removeDeleted_1 : cX3_removeDeleted.data.toList.drop 24 = dktX3_removeDeleted_1 := dk_seg dksX3_removeDeleted_0 24 rfl rfl
theorem dksX3_removeDeleted_2 : cX3_removeDeleted.data.toList.drop 46 = dktX3_removeDeleted_2 := dk_seg dksX3_removeDeleted_1 22 rfl rfl
theorem dksX3_removeDeleted_3 : cX3_removeDeleted.data.toList.drop 68 = dktX3_removeDeleted_3 := dk_seg dksX3_removeDeleted_2 22 rfl rfl
theorem dksX3_removeDeleted_4 : cX3_removeDeleted.data.toList.drop 92 = dktX3_removeDeleted_4 := dk_seg dksX3_removeDeleted_3 24 rfl rfl
theorem dX3_removeDeleted_0 : decode cX3_removeDeleted 0 = .ok (.iconst 0, 1) := dk_3 (dk_at dksX3_removeDeleted_0 0 rfl rfl)
theorem dX3_removeDeleted_1 : decode cX3_removeDeleted 1 = .ok (.istore 4, 2) := dk_54 4 (dk_at dksX3_removeDeleted_0 1 rfl rfl)
theorem dX3_removeDeleted_3 : decode cX3_removeDeleted 3 = .ok (.iconst 0, 1) := dk_3 (dk_at dksX3_removeDeleted_0 3 rfl rfl)
theorem dX3_removeDeleted_4 : decode cX3_removeDeleted 4 = .ok (.istore 5, 2) := dk_54 5 (dk_at dksX3_removeDeleted_0 4 rfl rfl)
theorem dX3_removeDeleted_6 : decode cX3_removeDeleted 6 = .ok (.iload 5, 2) := dk_21 5 (dk_at dksX3_removeDeleted_0 6 rfl rfl)
theorem dX3_removeDeleted_8 : decode cX3_removeDeleted 8 = .ok (.aload_n 0, 1) := dk_42 (dk_at dksX3_removeDeleted_0 8 rfl rfl)
theorem dX3_removeDeleted_9 : decode cX3_removeDeleted 9 = .ok (.iload_n 1, 1) := dk_27 (dk_at dksX3_removeDeleted_0 9 rfl rfl)
theorem dX3_removeDeleted_10 : decode cX3_removeDeleted 10 = .ok (.invokevirtual 100, 3) := dk_182 0 100 (dk_at dksX3_removeDeleted_0 10 rfl rfl)
theorem dX3_removeDeleted_13 : decode cX3_removeDeleted 13 = .ok (.if_icmp .ge 79, 3) := dk_162 0 79 (dk_at dksX3_removeDeleted_0 13 rfl rfl)
theorem dX3_removeDeleted_16 : decode cX3_removeDeleted 16 = .ok (.aload_n 0, 1) := dk_42 (dk_at dksX3_removeDeleted_0 16 rfl rfl)
theorem dX3_removeDeleted_17 : decode cX3_removeDeleted 17 = .ok (.iload_n 1, 1) := dk_27 (dk_at dksX3_removeDeleted_0 17 rfl rfl)
theorem dX3_removeDeleted_18 : decode cX3_removeDeleted 18 = .ok (.iload 5, 2) := dk_21 5 (dk_at dksX3_removeDeleted_0 18 rfl rfl)
theorem dX3_removeDeleted_20 : decode cX3_removeDeleted 20 = .ok (.iconst 2, 1) := dk_5 (dk_at dksX3_removeDeleted_0 20 rfl rfl)
theorem dX3_removeDeleted_21 : decode cX3_removeDeleted 21 = .ok (.invokevirtual 103, 3) := dk_182 0 103 (dk_at dksX3_removeDeleted_0 21 rfl rfl)
theorem dX3_removeDeleted_24 : decode cX3_removeDeleted 24 = .ok (.bipush 8, 2) := dk_16 8 (dk_at dksX3_removeDeleted_1 0 rfl rfl)
theorem dX3_removeDeleted_26 : decode cX3_removeDeleted 26 = .ok (.iand, 1) := dk_126 (dk_at dksX3_removeDeleted_1 2 rfl rfl)
theorem dX3_removeDeleted_27 : decode cX3_removeDeleted 27 = .ok (.ifCond .eq 26, 3) := dk_153 0 26 (dk_at dksX3_removeDeleted_1 3 rfl rfl)
theorem dX3_removeDeleted_30 : decode cX3_removeDeleted 30 = .ok (.aload_n 0, 1) := dk_42 (dk_at dksX3_removeDeleted_1 6 rfl rfl)
theorem dX3_removeDeleted_31 : decode cX3_removeDeleted 31 = .ok (.iload_n 1, 1) := dk_27 (dk_at dksX3_removeDeleted_1 7 rfl rfl)
theorem dX3_removeDeleted_32 : decode cX3_removeDeleted 32 = .ok (.iload 5, 2) := dk_21 5 (dk_at dksX3_removeDeleted_1 8 rfl rfl)
theorem dX3_removeDeleted_34 : decode cX3_removeDeleted 34 = .ok (.iconst 0, 1) := dk_3 (dk_at dksX3_removeDeleted_1 10 rfl rfl)
theorem dX3_removeDeleted_35 : decode cX3_removeDeleted 35 = .ok (.invokevirtual 103, 3) := dk_182 0 103 (dk_at dksX3_removeDeleted_1 11 rfl rfl)
theorem dX3_removeDeleted_38 : decode cX3_removeDeleted 38 = .ok (.i2l, 1) := dk_133 (dk_at dksX3_removeDeleted_1 14 rfl rfl)
theorem dX3_removeDeleted_39 : decode cX3_removeDeleted 39 = .ok (.iload_n 2, 1) := dk_28 (dk_at dksX3_removeDeleted_1 15 rfl rfl)
theorem dX3_removeDeleted_40 : decode cX3_removeDeleted 40 = .ok (.i2l, 1) := dk_133 (dk_at dksX3_removeDeleted_1 16 rfl rfl)
theorem dX3_removeDeleted_41 : decode cX3_removeDeleted 41 = .ok (.iload_n 3, 1) := dk_29 (dk_at dksX3_removeDeleted_1 17 rfl rfl)
theorem dX3_removeDeleted_42 : decode cX3_removeDeleted 42 = .ok (.i2l, 1) := dk_133 (dk_at dksX3_removeDeleted_1 18 rfl rfl)
theorem dX3_removeDeleted_43 : decode cX3_removeDeleted 43 = .ok (.invokestatic 70, 3) := dk_184 0 70 (dk_at dksX3_removeDeleted_1 19 rfl rfl)
theorem dX3_removeDeleted_46 : decode cX3_removeDeleted 46 = .ok (.ifCond .eq 7, 3) := dk_153 0 7 (dk_at dksX3_removeDeleted_2 0 rfl rfl)
theorem dX3_removeDeleted_49 : decode cX3_removeDeleted 49 = .ok (.iconst 1, 1) := dk_4 (dk_at dksX3_removeDeleted_2 3 rfl rfl)
theorem dX3_removeDeleted_50 : decode cX3_removeDeleted 50 = .ok (.goto 4, 3) := dk_167 0 4 (dk_at dksX3_removeDeleted_2 4 rfl rfl)
theorem dX3_removeDeleted_53 : decode cX3_removeDeleted 53 = .ok (.iconst 0, 1) := dk_3 (dk_at dksX3_removeDeleted_2 7 rfl rfl)
theorem dX3_removeDeleted_54 : decode cX3_removeDeleted 54 = .ok (.istore 6, 2) := dk_54 6 (dk_at dksX3_removeDeleted_2 8 rfl rfl)
theorem dX3_removeDeleted_56 : decode cX3_removeDeleted 56 = .ok (.iload 6, 2) := dk_21 6 (dk_at dksX3_removeDeleted_2 10 rfl rfl)
theorem dX3_removeDeleted_58 : decode cX3_removeDeleted 58 = .ok (.ifCond .eq 13, 3) := dk_153 0 13 (dk_at dksX3_removeDeleted_2 12 rfl rfl)
theorem dX3_removeDeleted_61 : decode cX3_removeDeleted 61 = .ok (.aload_n 0, 1) := dk_42 (dk_at dksX3_removeDeleted_2 15 rfl rfl)
theorem dX3_removeDeleted_62 : decode cX3_removeDeleted 62 = .ok (.iload_n 1, 1) := dk_27 (dk_at dksX3_removeDeleted_2 16 rfl rfl)
theorem dX3_removeDeleted_63 : decode cX3_removeDeleted 63 = .ok (.iload 5, 2) := dk_21 5 (dk_at dksX3_removeDeleted_2 17 rfl rfl)
theorem dX3_removeDeleted_65 : decode cX3_removeDeleted 65 = .ok (.invokevirtual 238, 3) := dk_182 0 238 (dk_at dksX3_removeDeleted_2 19 rfl rfl)
theorem dX3_removeDeleted_68 : decode cX3_removeDeleted 68 = .ok (.goto 6, 3) := dk_167 0 6 (dk_at dksX3_removeDeleted_3 0 rfl rfl)
theorem dX3_removeDeleted_71 : decode cX3_removeDeleted 71 = .ok (.iinc 5 1, 3) := dk_132 5 1 (dk_at dksX3_removeDeleted_3 3 rfl rfl)
theorem dX3_removeDeleted_74 : decode cX3_removeDeleted 74 = .ok (.iload 4, 2) := dk_21 4 (dk_at dksX3_removeDeleted_3 6 rfl rfl)
theorem dX3_removeDeleted_76 : decode cX3_removeDeleted 76 = .ok (.iload 6, 2) := dk_21 6 (dk_at dksX3_removeDeleted_3 8 rfl rfl)
theorem dX3_removeDeleted_78 : decode cX3_removeDeleted 78 = .ok (.ifCond .eq 7, 3) := dk_153 0 7 (dk_at dksX3_removeDeleted_3 10 rfl rfl)
theorem dX3_removeDeleted_81 : decode cX3_removeDeleted 81 = .ok (.iconst 1, 1) := dk_4 (dk_at dksX3_removeDeleted_3 13 rfl rfl)
theorem dX3_removeDeleted_82 : decode cX3_removeDeleted 82 = .ok (.goto 4, 3) := dk_167 0 4 (dk_at dksX3_removeDeleted_3 14 rfl rfl)
theorem dX3_removeDeleted_85 : decode cX3_removeDeleted 85 = .ok (.iconst 0, 1) := dk_3 (dk_at dksX3_removeDeleted_3 17 rfl rfl)
theorem dX3_removeDeleted_86 : decode cX3_removeDeleted 86 = .ok (.iadd, 1) := dk_96 (dk_at dksX3_removeDeleted_3 18 rfl rfl)
theorem dX3_removeDeleted_87 : decode cX3_removeDeleted 87 = .ok (.istore 4, 2) := dk_54 4 (dk_at dksX3_removeDeleted_3 19 rfl rfl)
theorem dX3_removeDeleted_89 : decode cX3_removeDeleted 89 = .ok (.goto (-83), 3) := dk_167 255 173 (dk_at dksX3_removeDeleted_3 21 rfl rfl)
theorem dX3_removeDeleted_92 : decode cX3_removeDeleted 92 = .ok (.iload 4, 2) := dk_21 4 (dk_at dksX3_removeDeleted_4 0 rfl rfl)
theorem dX3_removeDeleted_94 : decode cX3_removeDeleted 94 = .ok (.ireturn, 1) := dk_172 (dk_at dksX3_removeDeleted_4 2 rfl rfl)
abbrev cX3_removeMessage : ByteArray := prog_13_method_63_code
def yX3_removeMessage : MethodName := ⟨RX3, "removeMessage", "(II)V"⟩
def dkwX3_removeMessage_2 : List UInt8 := [132, 3, 1, 167, 255, 226, 177]
abbrev dktX3_removeMessage_2 : List UInt8 := dkwX3_removeMessage_2 ++ []
def dkwX3_removeMessage_1 : List UInt8 := [27, 182, 0, 100, 184, 0, 80, 162, 0, 23, 42, 180, 0, 17, 29, 42, 180, 0, 17, 29, 6, 96, 47, 80]
abbrev dktX3_removeMessage_1 : List UInt8 := dkwX3_removeMessage_1 ++ dktX3_removeMessage_2
def dkwX3_removeMessage_0 : List UInt8 := [42, 180, 0, 17, 27, 184, 0, 77, 4, 96, 92, 47, 10, 101, 80, 27, 28, 184, 0, 80, 62, 29, 27, 42]
abbrev dktX3_removeMessage_0 : List UInt8 := dkwX3_removeMessage_0 ++ dktX3_removeMessage_1
theorem dksX3_removeMessage_0 : cX3_removeMessage.data.toList.drop 0 = dktX3_removeMessage_0 := by decide +kernel
theorem dksX3_removeMessage_1 : cX3_removeMessage.data.toList.drop 24 = dktX3_removeMessage_1 := dk_seg dksX3_removeMessage_0 24 rfl rfl
theorem dksX3_removeMessage_2 : cX3_removeMessage.data.toList.drop 48 = dktX3_removeMessage_2 := dk_seg dksX3_removeMessage_1 24 rfl rfl
theorem dX3_removeMessage_0 : decode cX3_removeMessage 0 = .ok (.aload_n 0, 1) := dk_42 (dk_at dksX3_removeMessage_0 0 rfl rfl)
theorem dX3_removeMessage_1 : decode cX3_removeMessage 1 = .ok (.getfield 17, 3) := dk_180 0 17 (dk_at dksX3_removeMessage_0 1 rfl rfl)
theorem dX3_removeMessage_4 : decode cX3_removeMessage 4 = .ok (.iload_n 1, 1) := dk_27 (dk_at dksX3_removeMessage_0 4 rfl rfl)
theorem dX3_removeMessage_5 : decode cX3_removeMessage 5 = .ok (.invokestatic 77, 3) := dk_184 0 77 (dk_at dksX3_removeMessage_0 5 rfl rfl)
theorem dX3_removeMessage_8 : decode cX3_removeMessage 8 = .ok (.iconst 1, 1) := dk_4 (dk_at dksX3_removeMessage_0 8 rfl rfl)
theorem dX3_removeMessage_9 : decode cX3_removeMessage 9 = .ok (.iadd, 1) := dk_96 (dk_at dksX3_removeMessage_0 9 rfl rfl)
theorem dX3_removeMessage_10 : decode cX3_removeMessage 10 = .ok (.dup2, 1) := dk_92 (dk_at dksX3_removeMessage_0 10 rfl rfl)
theorem dX3_removeMessage_11 : decode cX3_removeMessage 11 = .ok (.laload, 1) := dk_47 (dk_at dksX3_removeMessage_0 11 rfl rfl)
theorem dX3_removeMessage_12 : decode cX3_removeMessage 12 = .ok (.lconst 1, 1) := dk_10 (dk_at dksX3_removeMessage_0 12 rfl rfl)
theorem dX3_removeMessage_13 : decode cX3_removeMessage 13 = .ok (.lsub, 1) := dk_101 (dk_at dksX3_removeMessage_0 13 rfl rfl)
theorem dX3_removeMessage_14 : decode cX3_removeMessage 14 = .ok (.lastore, 1) := dk_80 (dk_at dksX3_removeMessage_0 14 rfl rfl)
theorem dX3_removeMessage_15 : decode cX3_removeMessage 15 = .ok (.iload_n 1, 1) := dk_27 (dk_at dksX3_removeMessage_0 15 rfl rfl)
theorem dX3_removeMessage_16 : decode cX3_removeMessage 16 = .ok (.iload_n 2, 1) := dk_28 (dk_at dksX3_removeMessage_0 16 rfl rfl)
theorem dX3_removeMessage_17 : decode cX3_removeMessage 17 = .ok (.invokestatic 80, 3) := dk_184 0 80 (dk_at dksX3_removeMessage_0 17 rfl rfl)
theorem dX3_removeMessage_20 : decode cX3_removeMessage 20 = .ok (.istore_n 3, 1) := dk_62 (dk_at dksX3_removeMessage_0 20 rfl rfl)
theorem dX3_removeMessage_21 : decode cX3_removeMessage 21 = .ok (.iload_n 3, 1) := dk_29 (dk_at dksX3_removeMessage_0 21 rfl rfl)
theorem dX3_removeMessage_22 : decode cX3_removeMessage 22 = .ok (.iload_n 1, 1) := dk_27 (dk_at dksX3_removeMessage_0 22 rfl rfl)
theorem dX3_removeMessage_23 : decode cX3_removeMessage 23 = .ok (.aload_n 0, 1) := dk_42 (dk_at dksX3_removeMessage_0 23 rfl rfl)
theorem dX3_removeMessage_24 : decode cX3_removeMessage 24 = .ok (.iload_n 1, 1) := dk_27 (dk_at dksX3_removeMessage_1 0 rfl rfl)
theorem dX3_removeMessage_25 : decode cX3_removeMessage 25 = .ok (.invokevirtual 100, 3) := dk_182 0 100 (dk_at dksX3_removeMessage_1 1 rfl rfl)
theorem dX3_removeMessage_28 : decode cX3_removeMessage 28 = .ok (.invokestatic 80, 3) := dk_184 0 80 (dk_at dksX3_removeMessage_1 4 rfl rfl)
theorem dX3_removeMessage_31 : decode cX3_removeMessage 31 = .ok (.if_icmp .ge 23, 3) := dk_162 0 23 (dk_at dksX3_removeMessage_1 7 rfl rfl)
theorem dX3_removeMessage_34 : decode cX3_removeMessage 34 = .ok (.aload_n 0, 1) := dk_42 (dk_at dksX3_removeMessage_1 10 rfl rfl)
theorem dX3_removeMessage_35 : decode cX3_removeMessage 35 = .ok (.getfield 17, 3) := dk_180 0 17 (dk_at dksX3_removeMessage_1 11 rfl rfl)
theorem dX3_removeMessage_38 : decode cX3_removeMessage 38 = .ok (.iload_n 3, 1) := dk_29 (dk_at dksX3_removeMessage_1 14 rfl rfl)
theorem dX3_removeMessage_39 : decode cX3_removeMessage 39 = .ok (.aload_n 0, 1) := dk_42 (dk_at dksX3_removeMessage_1 15 rfl rfl)
theorem dX3_removeMessage_40 : decode cX3_removeMessage 40 = .ok (.getfield 17, 3) := dk_180 0 17 (dk_at dksX3_removeMessage_1 16 rfl rfl)
theorem dX3_removeMessage_43 : decode cX3_removeMessage 43 = .ok (.iload_n 3, 1) := dk_29 (dk_at dksX3_removeMessage_1 19 rfl rfl)
theorem dX3_removeMessage_44 : decode cX3_removeMessage 44 = .ok (.iconst 3, 1) := dk_6 (dk_at dksX3_removeMessage_1 20 rfl rfl)
theorem dX3_removeMessage_45 : decode cX3_removeMessage 45 = .ok (.iadd, 1) := dk_96 (dk_at dksX3_removeMessage_1 21 rfl rfl)
theorem dX3_removeMessage_46 : decode cX3_removeMessage 46 = .ok (.laload, 1) := dk_47 (dk_at dksX3_removeMessage_1 22 rfl rfl)
theorem dX3_removeMessage_47 : decode cX3_removeMessage 47 = .ok (.lastore, 1) := dk_80 (dk_at dksX3_removeMessage_1 23 rfl rfl)
theorem dX3_removeMessage_48 : decode cX3_removeMessage 48 = .ok (.iinc 3 1, 3) := dk_132 3 1 (dk_at dksX3_removeMessage_2 0 rfl rfl)
theorem dX3_removeMessage_51 : decode cX3_removeMessage 51 = .ok (.goto (-30), 3) := dk_167 255 226 (dk_at dksX3_removeMessage_2 3 rfl rfl)
theorem dX3_removeMessage_54 : decode cX3_removeMessage 54 = .ok (.return_, 1) := dk_177 (dk_at dksX3_removeMessage_2 6 rfl rfl)
abbrev cX3_uidExpunge : ByteArray := prog_13_method_66_code
def yX3_uidExpunge : MethodName := ⟨RX3, "uidExpunge", "(III)I"⟩
def dkwX3_uidExpunge_1 : List UInt8 := [42, 27, 4, 42, 42, 27, 182, 0, 87, 28, 29, 182, 0, 244, 182, 0, 214, 172]
abbrev dktX3_uidExpunge_1 : List UInt8 := dkwX3_uidExpunge_1 ++ []
def dkwX3_uidExpunge_0 : List UInt8 := [42, 42, 27, 182, 0, 93, 42, 27, 182, 0, 231, 182, 0, 192, 154, 0, 5, 3, 172, 42, 27, 182, 0, 196]
abbrev dktX3_uidExpunge_0 : List UInt8 := dkwX3_uidExpunge_0 ++ dktX3_uidExpunge_1
theorem dksX3_uidExpunge_0 : cX3_uidExpunge.data.toList.drop 0 = dktX3_uidExpunge_0 := by decide +kernel
theorem dksX3_uidExpunge_1 : cX3_uidExpunge.data.toList.drop 24 = dktX3_uidExpunge_1 := dk_seg dksX3_uidExpunge_0 24 rfl rfl
theorem dX3_uidExpunge_0 : decode cX3_uidExpunge 0 = .ok (.aload_n 0, 1) := dk_42 (dk_at dksX3_uidExpunge_0 0 rfl rfl)
theorem dX3_uidExpunge_1 : decode cX3_uidExpunge 1 = .ok (.aload_n 0, 1) := dk_42 (dk_at dksX3_uidExpunge_0 1 rfl rfl)
theorem dX3_uidExpunge_2 : decode cX3_uidExpunge 2 = .ok (.iload_n 1, 1) := dk_27 (dk_at dksX3_uidExpunge_0 2 rfl rfl)
theorem dX3_uidExpunge_3 : decode cX3_uidExpunge 3 = .ok (.invokevirtual 93, 3) := dk_182 0 93 (dk_at dksX3_uidExpunge_0 3 rfl rfl)
theorem dX3_uidExpunge_6 : decode cX3_uidExpunge 6 = .ok (.aload_n 0, 1) := dk_42 (dk_at dksX3_uidExpunge_0 6 rfl rfl)
theorem dX3_uidExpunge_7 : decode cX3_uidExpunge 7 = .ok (.iload_n 1, 1) := dk_27 (dk_at dksX3_uidExpunge_0 7 rfl rfl)
theorem dX3_uidExpunge_8 : decode cX3_uidExpunge 8 = .ok (.invokevirtual 231, 3) := dk_182 0 231 (dk_at dksX3_uidExpunge_0 8 rfl rfl)
theorem dX3_uidExpunge_11 : decode cX3_uidExpunge 11 = .ok (.invokevirtual 192, 3) := dk_182 0 192 (dk_at dksX3_uidExpunge_0 11 rfl rfl)
theorem dX3_uidExpunge_14 : decode cX3_uidExpunge 14 = .ok (.ifCond .ne 5, 3) := dk_154 0 5 (dk_at dksX3_uidExpunge_0 14 rfl rfl)
theorem dX3_uidExpunge_17 : decode cX3_uidExpunge 17 = .ok (.iconst 0, 1) := dk_3 (dk_at dksX3_uidExpunge_0 17 rfl rfl)
theorem dX3_uidExpunge_18 : decode cX3_uidExpunge 18 = .ok (.ireturn, 1) := dk_172 (dk_at dksX3_uidExpunge_0 18 rfl rfl)
theorem dX3_uidExpunge_19 : decode cX3_uidExpunge 19 = .ok (.aload_n 0, 1) := dk_42 (dk_at dksX3_uidExpunge_0 19 rfl rfl)
theorem dX3_uidExpunge_20 : decode cX3_uidExpunge 20 = .ok (.iload_n 1, 1) := dk_27 (dk_at dksX3_uidExpunge_0 20 rfl rfl)
theorem dX3_uidExpunge_21 : decode cX3_uidExpunge 21 = .ok (.invokevirtual 196, 3) := dk_182 0 196 (dk_at dksX3_uidExpunge_0 21 rfl rfl)
theorem dX3_uidExpunge_24 : decode cX3_uidExpunge 24 = .ok (.aload_n 0, 1) := dk_42 (dk_at dksX3_uidExpunge_1 0 rfl rfl)
theorem dX3_uidExpunge_25 : decode cX3_uidExpunge 25 = .ok (.iload_n 1, 1) := dk_27 (dk_at dksX3_uidExpunge_1 1 rfl rfl)
theorem dX3_uidExpunge_26 : decode cX3_uidExpunge 26 = .ok (.iconst 1, 1) := dk_4 (dk_at dksX3_uidExpunge_1 2 rfl rfl)
theorem dX3_uidExpunge_27 : decode cX3_uidExpunge 27 = .ok (.aload_n 0, 1) := dk_42 (dk_at dksX3_uidExpunge_1 3 rfl rfl)
theorem dX3_uidExpunge_28 : decode cX3_uidExpunge 28 = .ok (.aload_n 0, 1) := dk_42 (dk_at dksX3_uidExpunge_1 4 rfl rfl)
theorem dX3_uidExpunge_29 : decode cX3_uidExpunge 29 = .ok (.iload_n 1, 1) := dk_27 (dk_at dksX3_uidExpunge_1 5 rfl rfl)
theorem dX3_uidExpunge_30 : decode cX3_uidExpunge 30 = .ok (.invokevirtual 87, 3) := dk_182 0 87 (dk_at dksX3_uidExpunge_1 6 rfl rfl)
theorem dX3_uidExpunge_33 : decode cX3_uidExpunge 33 = .ok (.iload_n 2, 1) := dk_28 (dk_at dksX3_uidExpunge_1 9 rfl rfl)
theorem dX3_uidExpunge_34 : decode cX3_uidExpunge 34 = .ok (.iload_n 3, 1) := dk_29 (dk_at dksX3_uidExpunge_1 10 rfl rfl)
theorem dX3_uidExpunge_35 : decode cX3_uidExpunge 35 = .ok (.invokevirtual 244, 3) := dk_182 0 244 (dk_at dksX3_uidExpunge_1 11 rfl rfl)
theorem dX3_uidExpunge_38 : decode cX3_uidExpunge 38 = .ok (.invokevirtual 214, 3) := dk_182 0 214 (dk_at dksX3_uidExpunge_1 14 rfl rfl)
theorem dX3_uidExpunge_41 : decode cX3_uidExpunge 41 = .ok (.ireturn, 1) := dk_172 (dk_at dksX3_uidExpunge_1 17 rfl rfl)
abbrev cX3_copy : ByteArray := prog_13_method_72_code
def yX3_copy : MethodName := ⟨RX3, "copy", "(IIII)I"⟩
def dkwX3_copy_1 : List UInt8 := [42, 27, 4, 42, 27, 28, 29, 21, 4, 182, 1, 4, 182, 0, 214, 172]
abbrev dktX3_copy_1 : List UInt8 := dkwX3_copy_1 ++ []
def dkwX3_copy_0 : List UInt8 := [42, 27, 28, 29, 21, 4, 42, 27, 182, 0, 169, 182, 1, 0, 154, 0, 5, 3, 172, 42, 27, 182, 0, 196]
abbrev dktX3_copy_0 : List UInt8 := dkwX3_copy_0 ++ dktX3_copy_1
theorem dksX3_copy_0 : cX3_copy.data.toList.drop 0 = dktX3_copy_0 := by decide +kernel
theorem dksX3_copy_1 : cX3_copy.data.toList.drop 24 = dktX3_copy_1 := dk_seg dksX3_copy_0 24 rfl rfl
theorem dX3_copy_0 : decode cX3_copy 0 = .ok (.aload_n 0, 1) := dk_42 (dk_at dksX3_copy_0 0 rfl rfl)
theorem dX3_copy_1 : decode cX3_copy 1 = .ok (.iload_n 1, 1) := dk_27 (dk_at dksX3_copy_0 1 rfl rfl)
theorem dX3_copy_2 : decode cX3_copy 2 = .ok (.iload_n 2, 1) := dk_28 (dk_at dksX3_copy_0 2 rfl rfl)
theorem dX3_copy_3 : decode cX3_copy 3 = .ok (.iload_n 3, 1) := dk_29 (dk_at dksX3_copy_0 3 rfl rfl)
theorem dX3_copy_4 : decode cX3_copy 4 = .ok (.iload 4, 2) := dk_21 4 (dk_at dksX3_copy_0 4 rfl rfl)
theorem dX3_copy_6 : decode cX3_copy 6 = .ok (.aload_n 0, 1) := dk_42 (dk_at dksX3_copy_0 6 rfl rfl)
theorem dX3_copy_7 : decode cX3_copy 7 = .ok (.iload_n 1, 1) := dk_27 (dk_at dksX3_copy_0 7 rfl rfl)
theorem dX3_copy_8 : decode cX3_copy 8 = .ok (.invokevirtual 169, 3) := dk_182 0 169 (dk_at dksX3_copy_0 8 rfl rfl)
theorem dX3_copy_11 : decode cX3_copy 11 = .ok (.invokevirtual 256, 3) := dk_182 1 0 (dk_at dksX3_copy_0 11 rfl rfl)
theorem dX3_copy_14 : decode cX3_copy 14 = .ok (.ifCond .ne 5, 3) := dk_154 0 5 (dk_at dksX3_copy_0 14 rfl rfl)
theorem dX3_copy_17 : decode cX3_copy 17 = .ok (.iconst 0, 1) := dk_3 (dk_at dksX3_copy_0 17 rfl rfl)
theorem dX3_copy_18 : decode cX3_copy 18 = .ok (.ireturn, 1) := dk_172 (dk_at dksX3_copy_0 18 rfl rfl)
theorem dX3_copy_19 : decode cX3_copy 19 = .ok (.aload_n 0, 1) := dk_42 (dk_at dksX3_copy_0 19 rfl rfl)
theorem dX3_copy_20 : decode cX3_copy 20 = .ok (.iload_n 1, 1) := dk_27 (dk_at dksX3_copy_0 20 rfl rfl)
theorem dX3_copy_21 : decode cX3_copy 21 = .ok (.invokevirtual 196, 3) := dk_182 0 196 (dk_at dksX3_copy_0 21 rfl rfl)
theorem dX3_copy_24 : decode cX3_copy 24 = .ok (.aload_n 0, 1) := dk_42 (dk_at dksX3_copy_1 0 rfl rfl)
theorem dX3_copy_25 : decode cX3_copy 25 = .ok (.iload_n 1, 1) := dk_27 (dk_at dksX3_copy_1 1 rfl rfl)
theorem dX3_copy_26 : decode cX3_copy 26 = .ok (.iconst 1, 1) := dk_4 (dk_at dksX3_copy_1 2 rfl rfl)
theorem dX3_copy_27 : decode cX3_copy 27 = .ok (.aload_n 0, 1) := dk_42 (dk_at dksX3_copy_1 3 rfl rfl)
theorem dX3_copy_28 : decode cX3_copy 28 = .ok (.iload_n 1, 1) := dk_27 (dk_at dksX3_copy_1 4 rfl rfl)
theorem dX3_copy_29 : decode cX3_copy 29 = .ok (.iload_n 2, 1) := dk_28 (dk_at dksX3_copy_1 5 rfl rfl)
theorem dX3_copy_30 : decode cX3_copy 30 = .ok (.iload_n 3, 1) := dk_29 (dk_at dksX3_copy_1 6 rfl rfl)
theorem dX3_copy_31 : decode cX3_copy 31 = .ok (.iload 4, 2) := dk_21 4 (dk_at dksX3_copy_1 7 rfl rfl)
theorem dX3_copy_33 : decode cX3_copy 33 = .ok (.invokevirtual 260, 3) := dk_182 1 4 (dk_at dksX3_copy_1 9 rfl rfl)
theorem dX3_copy_36 : decode cX3_copy 36 = .ok (.invokevirtual 214, 3) := dk_182 0 214 (dk_at dksX3_copy_1 12 rfl rfl)
theorem dX3_copy_39 : decode cX3_copy 39 = .ok (.ireturn, 1) := dk_172 (dk_at dksX3_copy_1 15 rfl rfl)
abbrev cX3_asksCopy : ByteArray := prog_13_method_71_code
def yX3_asksCopy : MethodName := ⟨RX3, "asksCopy", "(IIIIZ)Z"⟩
def dkwX3_asksCopy_3 : List UInt8 := [29, 182, 0, 250, 182, 0, 253, 153, 0, 7, 4, 167, 0, 4, 3, 182, 0, 7, 172]
abbrev dktX3_asksCopy_3 : List UInt8 := dkwX3_asksCopy_3 ++ []
def dkwX3_asksCopy_2 : List UInt8 := [161, 0, 7, 4, 167, 0, 4, 3, 21, 7, 153, 0, 28, 21, 5, 153, 0, 23, 42, 21, 4, 42, 27, 28]
abbrev dktX3_asksCopy_2 : List UInt8 := dkwX3_asksCopy_2 ++ dktX3_asksCopy_3
def dkwX3_asksCopy_1 : List UInt8 := [54, 6, 21, 6, 153, 0, 12, 29, 28, 161, 0, 7, 4, 167, 0, 4, 3, 54, 7, 42, 21, 6, 29, 28]
abbrev dktX3_asksCopy_1 : List UInt8 := dkwX3_asksCopy_1 ++ dktX3_asksCopy_2
def dkwX3_asksCopy_0 : List UInt8 := [42, 27, 28, 29, 182, 0, 206, 153, 0, 16, 42, 21, 4, 182, 0, 189, 153, 0, 7, 4, 167, 0, 4, 3]
abbrev dktX3_asksCopy_0 : List UInt8 := dkwX3_asksCopy_0 ++ dktX3_asksCopy_1
theorem dksX3_asksCopy_0 : cX3_asksCopy.data.toList.drop 0 = dktX3_asksCopy_0 := by decide +kernel
theorem dksX3_asksCopy_1 : cX3_asksCopy.data.toList.drop 24 = dktX3_asksCopy_1 := dk_seg dksX3_asksCopy_0 24 rfl rfl
theorem dksX3_asksCopy_2 : cX3_asksCopy.data.toList.drop 48 = dktX3_asksCopy_2 := dk_seg dksX3_asksCopy_1 24 rfl rfl
theorem dksX3_asksCopy_3 : cX3_asksCopy.data.toList.drop 72 = dktX3_asksCopy_3 := dk_seg dksX3_asksCopy_2 24 rfl rfl
theorem dX3_asksCopy_0 : decode cX3_asksCopy 0 = .ok (.aload_n 0, 1) := dk_42 (dk_at dksX3_asksCopy_0 0 rfl rfl)
theorem dX3_asksCopy_1 : decode cX3_asksCopy 1 = .ok (.iload_n 1, 1) := dk_27 (dk_at dksX3_asksCopy_0 1 rfl rfl)
theorem dX3_asksCopy_2 : decode cX3_asksCopy 2 = .ok (.iload_n 2, 1) := dk_28 (dk_at dksX3_asksCopy_0 2 rfl rfl)
theorem dX3_asksCopy_3 : decode cX3_asksCopy 3 = .ok (.iload_n 3, 1) := dk_29 (dk_at dksX3_asksCopy_0 3 rfl rfl)
theorem dX3_asksCopy_4 : decode cX3_asksCopy 4 = .ok (.invokevirtual 206, 3) := dk_182 0 206 (dk_at dksX3_asksCopy_0 4 rfl rfl)
theorem dX3_asksCopy_7 : decode cX3_asksCopy 7 = .ok (.ifCond .eq 16, 3) := dk_153 0 16 (dk_at dksX3_asksCopy_0 7 rfl rfl)
theorem dX3_asksCopy_10 : decode cX3_asksCopy 10 = .ok (.aload_n 0, 1) := dk_42 (dk_at dksX3_asksCopy_0 10 rfl rfl)
theorem dX3_asksCopy_11 : decode cX3_asksCopy 11 = .ok (.iload 4, 2) := dk_21 4 (dk_at dksX3_asksCopy_0 11 rfl rfl)
theorem dX3_asksCopy_13 : decode cX3_asksCopy 13 = .ok (.invokevirtual 189, 3) := dk_182 0 189 (dk_at dksX3_asksCopy_0 13 rfl rfl)
theorem dX3_asksCopy_16 : decode cX3_asksCopy 16 = .ok (.ifCond .eq 7, 3) := dk_153 0 7 (dk_at dksX3_asksCopy_0 16 rfl rfl)
theorem dX3_asksCopy_19 : decode cX3_asksCopy 19 = .ok (.iconst 1, 1) := dk_4 (dk_at dksX3_asksCopy_0 19 rfl rfl)
theorem dX3_asksCopy_20 : decode cX3_asksCopy 20 = .ok (.goto 4, 3) := dk_167 0 4 (dk_at dksX3_asksCopy_0 20 rfl rfl)
theorem dX3_asksCopy_23 : decode cX3_asksCopy 23 = .ok (.iconst 0, 1) := dk_3 (dk_at dksX3_asksCopy_0 23 rfl rfl)
theorem dX3_asksCopy_24 : decode cX3_asksCopy 24 = .ok (.istore 6, 2) := dk_54 6 (dk_at dksX3_asksCopy_1 0 rfl rfl)
theorem dX3_asksCopy_26 : decode cX3_asksCopy 26 = .ok (.iload 6, 2) := dk_21 6 (dk_at dksX3_asksCopy_1 2 rfl rfl)
theorem dX3_asksCopy_28 : decode cX3_asksCopy 28 = .ok (.ifCond .eq 12, 3) := dk_153 0 12 (dk_at dksX3_asksCopy_1 4 rfl rfl)
theorem dX3_asksCopy_31 : decode cX3_asksCopy 31 = .ok (.iload_n 3, 1) := dk_29 (dk_at dksX3_asksCopy_1 7 rfl rfl)
theorem dX3_asksCopy_32 : decode cX3_asksCopy 32 = .ok (.iload_n 2, 1) := dk_28 (dk_at dksX3_asksCopy_1 8 rfl rfl)
theorem dX3_asksCopy_33 : decode cX3_asksCopy 33 = .ok (.if_icmp .lt 7, 3) := dk_161 0 7 (dk_at dksX3_asksCopy_1 9 rfl rfl)
theorem dX3_asksCopy_36 : decode cX3_asksCopy 36 = .ok (.iconst 1, 1) := dk_4 (dk_at dksX3_asksCopy_1 12 rfl rfl)
theorem dX3_asksCopy_37 : decode cX3_asksCopy 37 = .ok (.goto 4, 3) := dk_167 0 4 (dk_at dksX3_asksCopy_1 13 rfl rfl)
theorem dX3_asksCopy_40 : decode cX3_asksCopy 40 = .ok (.iconst 0, 1) := dk_3 (dk_at dksX3_asksCopy_1 16 rfl rfl)
theorem dX3_asksCopy_41 : decode cX3_asksCopy 41 = .ok (.istore 7, 2) := dk_54 7 (dk_at dksX3_asksCopy_1 17 rfl rfl)
theorem dX3_asksCopy_43 : decode cX3_asksCopy 43 = .ok (.aload_n 0, 1) := dk_42 (dk_at dksX3_asksCopy_1 19 rfl rfl)
theorem dX3_asksCopy_44 : decode cX3_asksCopy 44 = .ok (.iload 6, 2) := dk_21 6 (dk_at dksX3_asksCopy_1 20 rfl rfl)
theorem dX3_asksCopy_46 : decode cX3_asksCopy 46 = .ok (.iload_n 3, 1) := dk_29 (dk_at dksX3_asksCopy_1 22 rfl rfl)
theorem dX3_asksCopy_47 : decode cX3_asksCopy 47 = .ok (.iload_n 2, 1) := dk_28 (dk_at dksX3_asksCopy_1 23 rfl rfl)
theorem dX3_asksCopy_48 : decode cX3_asksCopy 48 = .ok (.if_icmp .lt 7, 3) := dk_161 0 7 (dk_at dksX3_asksCopy_2 0 rfl rfl)
theorem dX3_asksCopy_51 : decode cX3_asksCopy 51 = .ok (.iconst 1, 1) := dk_4 (dk_at dksX3_asksCopy_2 3 rfl rfl)
theorem dX3_asksCopy_52 : decode cX3_asksCopy 52 = .ok (.goto 4, 3) := dk_167 0 4 (dk_at dksX3_asksCopy_2 4 rfl rfl)
theorem dX3_asksCopy_55 : decode cX3_asksCopy 55 = .ok (.iconst 0, 1) := dk_3 (dk_at dksX3_asksCopy_2 7 rfl rfl)
theorem dX3_asksCopy_56 : decode cX3_asksCopy 56 = .ok (.iload 7, 2) := dk_21 7 (dk_at dksX3_asksCopy_2 8 rfl rfl)
theorem dX3_asksCopy_58 : decode cX3_asksCopy 58 = .ok (.ifCond .eq 28, 3) := dk_153 0 28 (dk_at dksX3_asksCopy_2 10 rfl rfl)
theorem dX3_asksCopy_61 : decode cX3_asksCopy 61 = .ok (.iload 5, 2) := dk_21 5 (dk_at dksX3_asksCopy_2 13 rfl rfl)
theorem dX3_asksCopy_63 : decode cX3_asksCopy 63 = .ok (.ifCond .eq 23, 3) := dk_153 0 23 (dk_at dksX3_asksCopy_2 15 rfl rfl)
theorem dX3_asksCopy_66 : decode cX3_asksCopy 66 = .ok (.aload_n 0, 1) := dk_42 (dk_at dksX3_asksCopy_2 18 rfl rfl)
theorem dX3_asksCopy_67 : decode cX3_asksCopy 67 = .ok (.iload 4, 2) := dk_21 4 (dk_at dksX3_asksCopy_2 19 rfl rfl)
theorem dX3_asksCopy_69 : decode cX3_asksCopy 69 = .ok (.aload_n 0, 1) := dk_42 (dk_at dksX3_asksCopy_2 21 rfl rfl)
theorem dX3_asksCopy_70 : decode cX3_asksCopy 70 = .ok (.iload_n 1, 1) := dk_27 (dk_at dksX3_asksCopy_2 22 rfl rfl)
theorem dX3_asksCopy_71 : decode cX3_asksCopy 71 = .ok (.iload_n 2, 1) := dk_28 (dk_at dksX3_asksCopy_2 23 rfl rfl)
theorem dX3_asksCopy_72 : decode cX3_asksCopy 72 = .ok (.iload_n 3, 1) := dk_29 (dk_at dksX3_asksCopy_3 0 rfl rfl)
theorem dX3_asksCopy_73 : decode cX3_asksCopy 73 = .ok (.invokevirtual 250, 3) := dk_182 0 250 (dk_at dksX3_asksCopy_3 1 rfl rfl)
theorem dX3_asksCopy_76 : decode cX3_asksCopy 76 = .ok (.invokevirtual 253, 3) := dk_182 0 253 (dk_at dksX3_asksCopy_3 4 rfl rfl)
theorem dX3_asksCopy_79 : decode cX3_asksCopy 79 = .ok (.ifCond .eq 7, 3) := dk_153 0 7 (dk_at dksX3_asksCopy_3 7 rfl rfl)
theorem dX3_asksCopy_82 : decode cX3_asksCopy 82 = .ok (.iconst 1, 1) := dk_4 (dk_at dksX3_asksCopy_3 10 rfl rfl)
theorem dX3_asksCopy_83 : decode cX3_asksCopy 83 = .ok (.goto 4, 3) := dk_167 0 4 (dk_at dksX3_asksCopy_3 11 rfl rfl)
theorem dX3_asksCopy_86 : decode cX3_asksCopy 86 = .ok (.iconst 0, 1) := dk_3 (dk_at dksX3_asksCopy_3 14 rfl rfl)
theorem dX3_asksCopy_87 : decode cX3_asksCopy 87 = .ok (.invokevirtual 7, 3) := dk_182 0 7 (dk_at dksX3_asksCopy_3 15 rfl rfl)
theorem dX3_asksCopy_90 : decode cX3_asksCopy 90 = .ok (.ireturn, 1) := dk_172 (dk_at dksX3_asksCopy_3 18 rfl rfl)
abbrev cX3_thereMany : ByteArray := prog_13_method_67_code
def yX3_thereMany : MethodName := ⟨RX3, "thereMany", "(III)I"⟩
def dkwX3_thereMany_1 : List UInt8 := [3, 167, 0, 4, 4, 96, 54, 4, 132, 5, 1, 167, 255, 227, 21, 4, 172]
abbrev dktX3_thereMany_1 : List UInt8 := dkwX3_thereMany_1 ++ []
def dkwX3_thereMany_0 : List UInt8 := [3, 54, 4, 28, 54, 5, 21, 5, 29, 163, 0, 29, 21, 4, 42, 27, 21, 5, 182, 0, 116, 153, 0, 7]
abbrev dktX3_thereMany_0 : List UInt8 := dkwX3_thereMany_0 ++ dktX3_thereMany_1
theorem dksX3_thereMany_0 : cX3_thereMany.data.toList.drop 0 = dktX3_thereMany_0 := by decide +kernel
theorem dksX3_thereMany_1 : cX3_thereMany.data.toList.drop 24 = dktX3_thereMany_1 := dk_seg dksX3_thereMany_0 24 rfl rfl
theorem dX3_thereMany_0 : decode cX3_thereMany 0 = .ok (.iconst 0, 1) := dk_3 (dk_at dksX3_thereMany_0 0 rfl rfl)
theorem dX3_thereMany_1 : decode cX3_thereMany 1 = .ok (.istore 4, 2) := dk_54 4 (dk_at dksX3_thereMany_0 1 rfl rfl)
theorem dX3_thereMany_3 : decode cX3_thereMany 3 = .ok (.iload_n 2, 1) := dk_28 (dk_at dksX3_thereMany_0 3 rfl rfl)
theorem dX3_thereMany_4 : decode cX3_thereMany 4 = .ok (.istore 5, 2) := dk_54 5 (dk_at dksX3_thereMany_0 4 rfl rfl)
theorem dX3_thereMany_6 : decode cX3_thereMany 6 = .ok (.iload 5, 2) := dk_21 5 (dk_at dksX3_thereMany_0 6 rfl rfl)
theorem dX3_thereMany_8 : decode cX3_thereMany 8 = .ok (.iload_n 3, 1) := dk_29 (dk_at dksX3_thereMany_0 8 rfl rfl)
theorem dX3_thereMany_9 : decode cX3_thereMany 9 = .ok (.if_icmp .gt 29, 3) := dk_163 0 29 (dk_at dksX3_thereMany_0 9 rfl rfl)
theorem dX3_thereMany_12 : decode cX3_thereMany 12 = .ok (.iload 4, 2) := dk_21 4 (dk_at dksX3_thereMany_0 12 rfl rfl)
theorem dX3_thereMany_14 : decode cX3_thereMany 14 = .ok (.aload_n 0, 1) := dk_42 (dk_at dksX3_thereMany_0 14 rfl rfl)
theorem dX3_thereMany_15 : decode cX3_thereMany 15 = .ok (.iload_n 1, 1) := dk_27 (dk_at dksX3_thereMany_0 15 rfl rfl)
theorem dX3_thereMany_16 : decode cX3_thereMany 16 = .ok (.iload 5, 2) := dk_21 5 (dk_at dksX3_thereMany_0 16 rfl rfl)
theorem dX3_thereMany_18 : decode cX3_thereMany 18 = .ok (.invokevirtual 116, 3) := dk_182 0 116 (dk_at dksX3_thereMany_0 18 rfl rfl)
theorem dX3_thereMany_21 : decode cX3_thereMany 21 = .ok (.ifCond .eq 7, 3) := dk_153 0 7 (dk_at dksX3_thereMany_0 21 rfl rfl)
theorem dX3_thereMany_24 : decode cX3_thereMany 24 = .ok (.iconst 0, 1) := dk_3 (dk_at dksX3_thereMany_1 0 rfl rfl)
theorem dX3_thereMany_25 : decode cX3_thereMany 25 = .ok (.goto 4, 3) := dk_167 0 4 (dk_at dksX3_thereMany_1 1 rfl rfl)
theorem dX3_thereMany_28 : decode cX3_thereMany 28 = .ok (.iconst 1, 1) := dk_4 (dk_at dksX3_thereMany_1 4 rfl rfl)
theorem dX3_thereMany_29 : decode cX3_thereMany 29 = .ok (.iadd, 1) := dk_96 (dk_at dksX3_thereMany_1 5 rfl rfl)
theorem dX3_thereMany_30 : decode cX3_thereMany 30 = .ok (.istore 4, 2) := dk_54 4 (dk_at dksX3_thereMany_1 6 rfl rfl)
theorem dX3_thereMany_32 : decode cX3_thereMany 32 = .ok (.iinc 5 1, 3) := dk_132 5 1 (dk_at dksX3_thereMany_1 8 rfl rfl)
theorem dX3_thereMany_35 : decode cX3_thereMany 35 = .ok (.goto (-29), 3) := dk_167 255 227 (dk_at dksX3_thereMany_1 11 rfl rfl)
theorem dX3_thereMany_38 : decode cX3_thereMany 38 = .ok (.iload 4, 2) := dk_21 4 (dk_at dksX3_thereMany_1 14 rfl rfl)
theorem dX3_thereMany_40 : decode cX3_thereMany 40 = .ok (.ireturn, 1) := dk_172 (dk_at dksX3_thereMany_1 16 rfl rfl)
abbrev cX3_hasRoom : ByteArray := prog_13_method_68_code
def yX3_hasRoom : MethodName := ⟨RX3, "hasRoom", "(II)Z"⟩
def dkwX3_hasRoom_1 : List UInt8 := [172]
abbrev dktX3_hasRoom_1 : List UInt8 := dkwX3_hasRoom_1 ++ []
def dkwX3_hasRoom_0 : List UInt8 := [28, 153, 0, 18, 42, 27, 182, 0, 100, 28, 96, 42, 3, 182, 0, 62, 163, 0, 7, 4, 167, 0, 4, 3]
abbrev dktX3_hasRoom_0 : List UInt8 := dkwX3_hasRoom_0 ++ dktX3_hasRoom_1
theorem dksX3_hasRoom_0 : cX3_hasRoom.data.toList.drop 0 = dktX3_hasRoom_0 := by decide +kernel
theorem dksX3_hasRoom_1 : cX3_hasRoom.data.toList.drop 24 = dktX3_hasRoom_1 := dk_seg dksX3_hasRoom_0 24 rfl rfl
theorem dX3_hasRoom_0 : decode cX3_hasRoom 0 = .ok (.iload_n 2, 1) := dk_28 (dk_at dksX3_hasRoom_0 0 rfl rfl)
theorem dX3_hasRoom_1 : decode cX3_hasRoom 1 = .ok (.ifCond .eq 18, 3) := dk_153 0 18 (dk_at dksX3_hasRoom_0 1 rfl rfl)
theorem dX3_hasRoom_4 : decode cX3_hasRoom 4 = .ok (.aload_n 0, 1) := dk_42 (dk_at dksX3_hasRoom_0 4 rfl rfl)
theorem dX3_hasRoom_5 : decode cX3_hasRoom 5 = .ok (.iload_n 1, 1) := dk_27 (dk_at dksX3_hasRoom_0 5 rfl rfl)
theorem dX3_hasRoom_6 : decode cX3_hasRoom 6 = .ok (.invokevirtual 100, 3) := dk_182 0 100 (dk_at dksX3_hasRoom_0 6 rfl rfl)
theorem dX3_hasRoom_9 : decode cX3_hasRoom 9 = .ok (.iload_n 2, 1) := dk_28 (dk_at dksX3_hasRoom_0 9 rfl rfl)
theorem dX3_hasRoom_10 : decode cX3_hasRoom 10 = .ok (.iadd, 1) := dk_96 (dk_at dksX3_hasRoom_0 10 rfl rfl)
theorem dX3_hasRoom_11 : decode cX3_hasRoom 11 = .ok (.aload_n 0, 1) := dk_42 (dk_at dksX3_hasRoom_0 11 rfl rfl)
theorem dX3_hasRoom_12 : decode cX3_hasRoom 12 = .ok (.iconst 0, 1) := dk_3 (dk_at dksX3_hasRoom_0 12 rfl rfl)
theorem dX3_hasRoom_13 : decode cX3_hasRoom 13 = .ok (.invokevirtual 62, 3) := dk_182 0 62 (dk_at dksX3_hasRoom_0 13 rfl rfl)
theorem dX3_hasRoom_16 : decode cX3_hasRoom 16 = .ok (.if_icmp .gt 7, 3) := dk_163 0 7 (dk_at dksX3_hasRoom_0 16 rfl rfl)
theorem dX3_hasRoom_19 : decode cX3_hasRoom 19 = .ok (.iconst 1, 1) := dk_4 (dk_at dksX3_hasRoom_0 19 rfl rfl)
theorem dX3_hasRoom_20 : decode cX3_hasRoom 20 = .ok (.goto 4, 3) := dk_167 0 4 (dk_at dksX3_hasRoom_0 20 rfl rfl)
theorem dX3_hasRoom_23 : decode cX3_hasRoom 23 = .ok (.iconst 0, 1) := dk_3 (dk_at dksX3_hasRoom_0 23 rfl rfl)
theorem dX3_hasRoom_24 : decode cX3_hasRoom 24 = .ok (.ireturn, 1) := dk_172 (dk_at dksX3_hasRoom_1 0 rfl rfl)
abbrev cX3_copies : ByteArray := prog_13_method_70_code
def yX3_copies : MethodName := ⟨RX3, "copies", "(IIII)I"⟩
def dkwX3_copies_3 : List UInt8 := [182, 0, 103, 182, 0, 247, 54, 8, 132, 6, 1, 167, 255, 179, 21, 5, 172]
abbrev dktX3_copies_3 : List UInt8 := dkwX3_copies_3 ++ []
def dkwX3_copies_2 : List UInt8 := [42, 21, 4, 42, 42, 27, 182, 0, 87, 21, 7, 4, 182, 0, 103, 42, 42, 27, 182, 0, 87, 21, 7, 5]
abbrev dktX3_copies_2 : List UInt8 := dkwX3_copies_2 ++ dktX3_copies_3
def dkwX3_copies_1 : List UInt8 := [160, 0, 6, 167, 0, 53, 42, 180, 0, 31, 21, 5, 42, 27, 21, 6, 3, 182, 0, 107, 79, 132, 5, 1]
abbrev dktX3_copies_1 : List UInt8 := dkwX3_copies_1 ++ dktX3_copies_2
def dkwX3_copies_0 : List UInt8 := [3, 54, 5, 28, 54, 6, 21, 6, 29, 163, 0, 77, 42, 27, 21, 6, 182, 0, 113, 54, 7, 21, 7, 2]
abbrev dktX3_copies_0 : List UInt8 := dkwX3_copies_0 ++ dktX3_copies_1
theorem dksX3_copies_0 : cX3_copies.data.toList.drop 0 = dktX3_copies_0 := by decide +kernel
theorem dksX3_copies_1 : cX3_copies.data.toList.drop 24 = dktX3_copies_1 := dk_seg dksX3_copies_0 24 rfl rfl
theorem dksX3_copies_2 : cX3_copies.data.toList.drop 48 = dktX3_copies_2 := dk_seg dksX3_copies_1 24 rfl rfl
theorem dksX3_copies_3 : cX3_copies.data.toList.drop 72 = dktX3_copies_3 := dk_seg dksX3_copies_2 24 rfl rfl
theorem dX3_copies_0 : decode cX3_copies 0 = .ok (.iconst 0, 1) := dk_3 (dk_at dksX3_copies_0 0 rfl rfl)
theorem dX3_copies_1 : decode cX3_copies 1 = .ok (.istore 5, 2) := dk_54 5 (dk_at dksX3_copies_0 1 rfl rfl)
theorem dX3_copies_3 : decode cX3_copies 3 = .ok (.iload_n 2, 1) := dk_28 (dk_at dksX3_copies_0 3 rfl rfl)
theorem dX3_copies_4 : decode cX3_copies 4 = .ok (.istore 6, 2) := dk_54 6 (dk_at dksX3_copies_0 4 rfl rfl)
theorem dX3_copies_6 : decode cX3_copies 6 = .ok (.iload 6, 2) := dk_21 6 (dk_at dksX3_copies_0 6 rfl rfl)
theorem dX3_copies_8 : decode cX3_copies 8 = .ok (.iload_n 3, 1) := dk_29 (dk_at dksX3_copies_0 8 rfl rfl)
theorem dX3_copies_9 : decode cX3_copies 9 = .ok (.if_icmp .gt 77, 3) := dk_163 0 77 (dk_at dksX3_copies_0 9 rfl rfl)
theorem dX3_copies_12 : decode cX3_copies 12 = .ok (.aload_n 0, 1) := dk_42 (dk_at dksX3_copies_0 12 rfl rfl)
theorem dX3_copies_13 : decode cX3_copies 13 = .ok (.iload_n 1, 1) := dk_27 (dk_at dksX3_copies_0 13 rfl rfl)
theorem dX3_copies_14 : decode cX3_copies 14 = .ok (.iload 6, 2) := dk_21 6 (dk_at dksX3_copies_0 14 rfl rfl)
theorem dX3_copies_16 : decode cX3_copies 16 = .ok (.invokevirtual 113, 3) := dk_182 0 113 (dk_at dksX3_copies_0 16 rfl rfl)
theorem dX3_copies_19 : decode cX3_copies 19 = .ok (.istore 7, 2) := dk_54 7 (dk_at dksX3_copies_0 19 rfl rfl)
theorem dX3_copies_21 : decode cX3_copies 21 = .ok (.iload 7, 2) := dk_21 7 (dk_at dksX3_copies_0 21 rfl rfl)
theorem dX3_copies_23 : decode cX3_copies 23 = .ok (.iconst (-1), 1) := dk_2 (dk_at dksX3_copies_0 23 rfl rfl)
theorem dX3_copies_24 : decode cX3_copies 24 = .ok (.if_icmp .ne 6, 3) := dk_160 0 6 (dk_at dksX3_copies_1 0 rfl rfl)
theorem dX3_copies_27 : decode cX3_copies 27 = .ok (.goto 53, 3) := dk_167 0 53 (dk_at dksX3_copies_1 3 rfl rfl)
theorem dX3_copies_30 : decode cX3_copies 30 = .ok (.aload_n 0, 1) := dk_42 (dk_at dksX3_copies_1 6 rfl rfl)
theorem dX3_copies_31 : decode cX3_copies 31 = .ok (.getfield 31, 3) := dk_180 0 31 (dk_at dksX3_copies_1 7 rfl rfl)
theorem dX3_copies_34 : decode cX3_copies 34 = .ok (.iload 5, 2) := dk_21 5 (dk_at dksX3_copies_1 10 rfl rfl)
theorem dX3_copies_36 : decode cX3_copies 36 = .ok (.aload_n 0, 1) := dk_42 (dk_at dksX3_copies_1 12 rfl rfl)
theorem dX3_copies_37 : decode cX3_copies 37 = .ok (.iload_n 1, 1) := dk_27 (dk_at dksX3_copies_1 13 rfl rfl)
theorem dX3_copies_38 : decode cX3_copies 38 = .ok (.iload 6, 2) := dk_21 6 (dk_at dksX3_copies_1 14 rfl rfl)
theorem dX3_copies_40 : decode cX3_copies 40 = .ok (.iconst 0, 1) := dk_3 (dk_at dksX3_copies_1 16 rfl rfl)
theorem dX3_copies_41 : decode cX3_copies 41 = .ok (.invokevirtual 107, 3) := dk_182 0 107 (dk_at dksX3_copies_1 17 rfl rfl)
theorem dX3_copies_44 : decode cX3_copies 44 = .ok (.iastore, 1) := dk_79 (dk_at dksX3_copies_1 20 rfl rfl)
theorem dX3_copies_45 : decode cX3_copies 45 = .ok (.iinc 5 1, 3) := dk_132 5 1 (dk_at dksX3_copies_1 21 rfl rfl)
theorem dX3_copies_48 : decode cX3_copies 48 = .ok (.aload_n 0, 1) := dk_42 (dk_at dksX3_copies_2 0 rfl rfl)
theorem dX3_copies_49 : decode cX3_copies 49 = .ok (.iload 4, 2) := dk_21 4 (dk_at dksX3_copies_2 1 rfl rfl)
theorem dX3_copies_51 : decode cX3_copies 51 = .ok (.aload_n 0, 1) := dk_42 (dk_at dksX3_copies_2 3 rfl rfl)
theorem dX3_copies_52 : decode cX3_copies 52 = .ok (.aload_n 0, 1) := dk_42 (dk_at dksX3_copies_2 4 rfl rfl)
theorem dX3_copies_53 : decode cX3_copies 53 = .ok (.iload_n 1, 1) := dk_27 (dk_at dksX3_copies_2 5 rfl rfl)
theorem dX3_copies_54 : decode cX3_copies 54 = .ok (.invokevirtual 87, 3) := dk_182 0 87 (dk_at dksX3_copies_2 6 rfl rfl)
theorem dX3_copies_57 : decode cX3_copies 57 = .ok (.iload 7, 2) := dk_21 7 (dk_at dksX3_copies_2 9 rfl rfl)
theorem dX3_copies_59 : decode cX3_copies 59 = .ok (.iconst 1, 1) := dk_4 (dk_at dksX3_copies_2 11 rfl rfl)
theorem dX3_copies_60 : decode cX3_copies 60 = .ok (.invokevirtual 103, 3) := dk_182 0 103 (dk_at dksX3_copies_2 12 rfl rfl)
theorem dX3_copies_63 : decode cX3_copies 63 = .ok (.aload_n 0, 1) := dk_42 (dk_at dksX3_copies_2 15 rfl rfl)
theorem dX3_copies_64 : decode cX3_copies 64 = .ok (.aload_n 0, 1) := dk_42 (dk_at dksX3_copies_2 16 rfl rfl)
theorem dX3_copies_65 : decode cX3_copies 65 = .ok (.iload_n 1, 1) := dk_27 (dk_at dksX3_copies_2 17 rfl rfl)
theorem dX3_copies_66 : decode cX3_copies 66 = .ok (.invokevirtual 87, 3) := dk_182 0 87 (dk_at dksX3_copies_2 18 rfl rfl)
theorem dX3_copies_69 : decode cX3_copies 69 = .ok (.iload 7, 2) := dk_21 7 (dk_at dksX3_copies_2 21 rfl rfl)
theorem dX3_copies_71 : decode cX3_copies 71 = .ok (.iconst 2, 1) := dk_5 (dk_at dksX3_copies_2 23 rfl rfl)
theorem dX3_copies_72 : decode cX3_copies 72 = .ok (.invokevirtual 103, 3) := dk_182 0 103 (dk_at dksX3_copies_3 0 rfl rfl)
theorem dX3_copies_75 : decode cX3_copies 75 = .ok (.invokevirtual 247, 3) := dk_182 0 247 (dk_at dksX3_copies_3 3 rfl rfl)
theorem dX3_copies_78 : decode cX3_copies 78 = .ok (.istore 8, 2) := dk_54 8 (dk_at dksX3_copies_3 6 rfl rfl)
theorem dX3_copies_80 : decode cX3_copies 80 = .ok (.iinc 6 1, 3) := dk_132 6 1 (dk_at dksX3_copies_3 8 rfl rfl)
theorem dX3_copies_83 : decode cX3_copies 83 = .ok (.goto (-77), 3) := dk_167 255 179 (dk_at dksX3_copies_3 11 rfl rfl)
theorem dX3_copies_86 : decode cX3_copies 86 = .ok (.iload 5, 2) := dk_21 5 (dk_at dksX3_copies_3 14 rfl rfl)
theorem dX3_copies_88 : decode cX3_copies 88 = .ok (.ireturn, 1) := dk_172 (dk_at dksX3_copies_3 16 rfl rfl)
abbrev cX3_comes : ByteArray := prog_13_method_69_code
def yX3_comes : MethodName := ⟨RX3, "comes", "(III)I"⟩
def dkwX3_comes_3 : List UInt8 := [80, 42, 180, 0, 24, 27, 184, 0, 77, 5, 96, 92, 47, 10, 97, 80, 21, 5, 172]
abbrev dktX3_comes_3 : List UInt8 := dkwX3_comes_3 ++ []
def dkwX3_comes_2 : List UInt8 := [180, 0, 24, 21, 4, 5, 96, 29, 133, 80, 42, 180, 0, 24, 27, 184, 0, 77, 4, 96, 92, 47, 10, 97]
abbrev dktX3_comes_2 : List UInt8 := dkwX3_comes_2 ++ dktX3_comes_3
def dkwX3_comes_1 : List UInt8 := [180, 0, 24, 21, 4, 3, 96, 21, 5, 133, 80, 42, 180, 0, 24, 21, 4, 4, 96, 28, 133, 80, 42]
abbrev dktX3_comes_1 : List UInt8 := dkwX3_comes_1 ++ dktX3_comes_2
def dkwX3_comes_0 : List UInt8 := [27, 42, 27, 182, 0, 100, 184, 0, 80, 54, 4, 42, 27, 184, 0, 77, 5, 96, 182, 0, 62, 54, 5, 42]
abbrev dktX3_comes_0 : List UInt8 := dkwX3_comes_0 ++ dktX3_comes_1
theorem dksX3_comes_0 : cX3_comes.data.toList.drop 0 = dktX3_comes_0 := by decide +kernel
theorem dksX3_comes_1 : cX3_comes.data.toList.drop 24 = dktX3_comes_1 := dk_seg dksX3_comes_0 24 rfl rfl
theorem dksX3_comes_2 : cX3_comes.data.toList.drop 47 = dktX3_comes_2 := dk_seg dksX3_comes_1 23 rfl rfl
theorem dksX3_comes_3 : cX3_comes.data.toList.drop 71 = dktX3_comes_3 := dk_seg dksX3_comes_2 24 rfl rfl
theorem dX3_comes_0 : decode cX3_comes 0 = .ok (.iload_n 1, 1) := dk_27 (dk_at dksX3_comes_0 0 rfl rfl)
theorem dX3_comes_1 : decode cX3_comes 1 = .ok (.aload_n 0, 1) := dk_42 (dk_at dksX3_comes_0 1 rfl rfl)
theorem dX3_comes_2 : decode cX3_comes 2 = .ok (.iload_n 1, 1) := dk_27 (dk_at dksX3_comes_0 2 rfl rfl)
theorem dX3_comes_3 : decode cX3_comes 3 = .ok (.invokevirtual 100, 3) := dk_182 0 100 (dk_at dksX3_comes_0 3 rfl rfl)
theorem dX3_comes_6 : decode cX3_comes 6 = .ok (.invokestatic 80, 3) := dk_184 0 80 (dk_at dksX3_comes_0 6 rfl rfl)
theorem dX3_comes_9 : decode cX3_comes 9 = .ok (.istore 4, 2) := dk_54 4 (dk_at dksX3_comes_0 9 rfl rfl)
theorem dX3_comes_11 : decode cX3_comes 11 = .ok (.aload_n 0, 1) := dk_42 (dk_at dksX3_comes_0 11 rfl rfl)
theorem dX3_comes_12 : decode cX3_comes 12 = .ok (.iload_n 1, 1) := dk_27 (dk_at dksX3_comes_0 12 rfl rfl)
theorem dX3_comes_13 : decode cX3_comes 13 = .ok (.invokestatic 77, 3) := dk_184 0 77 (dk_at dksX3_comes_0 13 rfl rfl)
theorem dX3_comes_16 : decode cX3_comes 16 = .ok (.iconst 2, 1) := dk_5 (dk_at dksX3_comes_0 16 rfl rfl)
theorem dX3_comes_17 : decode cX3_comes 17 = .ok (.iadd, 1) := dk_96 (dk_at dksX3_comes_0 17 rfl rfl)
theorem dX3_comes_18 : decode cX3_comes 18 = .ok (.invokevirtual 62, 3) := dk_182 0 62 (dk_at dksX3_comes_0 18 rfl rfl)
theorem dX3_comes_21 : decode cX3_comes 21 = .ok (.istore 5, 2) := dk_54 5 (dk_at dksX3_comes_0 21 rfl rfl)
theorem dX3_comes_23 : decode cX3_comes 23 = .ok (.aload_n 0, 1) := dk_42 (dk_at dksX3_comes_0 23 rfl rfl)
theorem dX3_comes_24 : decode cX3_comes 24 = .ok (.getfield 24, 3) := dk_180 0 24 (dk_at dksX3_comes_1 0 rfl rfl)
theorem dX3_comes_27 : decode cX3_comes 27 = .ok (.iload 4, 2) := dk_21 4 (dk_at dksX3_comes_1 3 rfl rfl)
theorem dX3_comes_29 : decode cX3_comes 29 = .ok (.iconst 0, 1) := dk_3 (dk_at dksX3_comes_1 5 rfl rfl)
theorem dX3_comes_30 : decode cX3_comes 30 = .ok (.iadd, 1) := dk_96 (dk_at dksX3_comes_1 6 rfl rfl)
theorem dX3_comes_31 : decode cX3_comes 31 = .ok (.iload 5, 2) := dk_21 5 (dk_at dksX3_comes_1 7 rfl rfl)
theorem dX3_comes_33 : decode cX3_comes 33 = .ok (.i2l, 1) := dk_133 (dk_at dksX3_comes_1 9 rfl rfl)
theorem dX3_comes_34 : decode cX3_comes 34 = .ok (.lastore, 1) := dk_80 (dk_at dksX3_comes_1 10 rfl rfl)
theorem dX3_comes_35 : decode cX3_comes 35 = .ok (.aload_n 0, 1) := dk_42 (dk_at dksX3_comes_1 11 rfl rfl)
theorem dX3_comes_36 : decode cX3_comes 36 = .ok (.getfield 24, 3) := dk_180 0 24 (dk_at dksX3_comes_1 12 rfl rfl)
theorem dX3_comes_39 : decode cX3_comes 39 = .ok (.iload 4, 2) := dk_21 4 (dk_at dksX3_comes_1 15 rfl rfl)
theorem dX3_comes_41 : decode cX3_comes 41 = .ok (.iconst 1, 1) := dk_4 (dk_at dksX3_comes_1 17 rfl rfl)
theorem dX3_comes_42 : decode cX3_comes 42 = .ok (.iadd, 1) := dk_96 (dk_at dksX3_comes_1 18 rfl rfl)
theorem dX3_comes_43 : decode cX3_comes 43 = .ok (.iload_n 2, 1) := dk_28 (dk_at dksX3_comes_1 19 rfl rfl)
theorem dX3_comes_44 : decode cX3_comes 44 = .ok (.i2l, 1) := dk_133 (dk_at dksX3_comes_1 20 rfl rfl)
theorem dX3_comes_45 : decode cX3_comes 45 = .ok (.lastore, 1) := dk_80 (dk_at dksX3_comes_1 21 rfl rfl)
theorem dX3_comes_46 : decode cX3_comes 46 = .ok (.aload_n 0, 1) := dk_42 (dk_at dksX3_comes_1 22 rfl rfl)
theorem dX3_comes_47 : decode cX3_comes 47 = .ok (.getfield 24, 3) := dk_180 0 24 (dk_at dksX3_comes_2 0 rfl rfl)
theorem dX3_comes_50 : decode cX3_comes 50 = .ok (.iload 4, 2) := dk_21 4 (dk_at dksX3_comes_2 3 rfl rfl)
theorem dX3_comes_52 : decode cX3_comes 52 = .ok (.iconst 2, 1) := dk_5 (dk_at dksX3_comes_2 5 rfl rfl)
theorem dX3_comes_53 : decode cX3_comes 53 = .ok (.iadd, 1) := dk_96 (dk_at dksX3_comes_2 6 rfl rfl)
theorem dX3_comes_54 : decode cX3_comes 54 = .ok (.iload_n 3, 1) := dk_29 (dk_at dksX3_comes_2 7 rfl rfl)
theorem dX3_comes_55 : decode cX3_comes 55 = .ok (.i2l, 1) := dk_133 (dk_at dksX3_comes_2 8 rfl rfl)
theorem dX3_comes_56 : decode cX3_comes 56 = .ok (.lastore, 1) := dk_80 (dk_at dksX3_comes_2 9 rfl rfl)
theorem dX3_comes_57 : decode cX3_comes 57 = .ok (.aload_n 0, 1) := dk_42 (dk_at dksX3_comes_2 10 rfl rfl)
theorem dX3_comes_58 : decode cX3_comes 58 = .ok (.getfield 24, 3) := dk_180 0 24 (dk_at dksX3_comes_2 11 rfl rfl)
theorem dX3_comes_61 : decode cX3_comes 61 = .ok (.iload_n 1, 1) := dk_27 (dk_at dksX3_comes_2 14 rfl rfl)
theorem dX3_comes_62 : decode cX3_comes 62 = .ok (.invokestatic 77, 3) := dk_184 0 77 (dk_at dksX3_comes_2 15 rfl rfl)
theorem dX3_comes_65 : decode cX3_comes 65 = .ok (.iconst 1, 1) := dk_4 (dk_at dksX3_comes_2 18 rfl rfl)
theorem dX3_comes_66 : decode cX3_comes 66 = .ok (.iadd, 1) := dk_96 (dk_at dksX3_comes_2 19 rfl rfl)
theorem dX3_comes_67 : decode cX3_comes 67 = .ok (.dup2, 1) := dk_92 (dk_at dksX3_comes_2 20 rfl rfl)
theorem dX3_comes_68 : decode cX3_comes 68 = .ok (.laload, 1) := dk_47 (dk_at dksX3_comes_2 21 rfl rfl)
theorem dX3_comes_69 : decode cX3_comes 69 = .ok (.lconst 1, 1) := dk_10 (dk_at dksX3_comes_2 22 rfl rfl)
theorem dX3_comes_70 : decode cX3_comes 70 = .ok (.ladd, 1) := dk_97 (dk_at dksX3_comes_2 23 rfl rfl)
theorem dX3_comes_71 : decode cX3_comes 71 = .ok (.lastore, 1) := dk_80 (dk_at dksX3_comes_3 0 rfl rfl)
theorem dX3_comes_72 : decode cX3_comes 72 = .ok (.aload_n 0, 1) := dk_42 (dk_at dksX3_comes_3 1 rfl rfl)
theorem dX3_comes_73 : decode cX3_comes 73 = .ok (.getfield 24, 3) := dk_180 0 24 (dk_at dksX3_comes_3 2 rfl rfl)
theorem dX3_comes_76 : decode cX3_comes 76 = .ok (.iload_n 1, 1) := dk_27 (dk_at dksX3_comes_3 5 rfl rfl)
theorem dX3_comes_77 : decode cX3_comes 77 = .ok (.invokestatic 77, 3) := dk_184 0 77 (dk_at dksX3_comes_3 6 rfl rfl)
theorem dX3_comes_80 : decode cX3_comes 80 = .ok (.iconst 2, 1) := dk_5 (dk_at dksX3_comes_3 9 rfl rfl)
theorem dX3_comes_81 : decode cX3_comes 81 = .ok (.iadd, 1) := dk_96 (dk_at dksX3_comes_3 10 rfl rfl)
theorem dX3_comes_82 : decode cX3_comes 82 = .ok (.dup2, 1) := dk_92 (dk_at dksX3_comes_3 11 rfl rfl)
theorem dX3_comes_83 : decode cX3_comes 83 = .ok (.laload, 1) := dk_47 (dk_at dksX3_comes_3 12 rfl rfl)
theorem dX3_comes_84 : decode cX3_comes 84 = .ok (.lconst 1, 1) := dk_10 (dk_at dksX3_comes_3 13 rfl rfl)
theorem dX3_comes_85 : decode cX3_comes 85 = .ok (.ladd, 1) := dk_97 (dk_at dksX3_comes_3 14 rfl rfl)
theorem dX3_comes_86 : decode cX3_comes 86 = .ok (.lastore, 1) := dk_80 (dk_at dksX3_comes_3 15 rfl rfl)
theorem dX3_comes_87 : decode cX3_comes 87 = .ok (.iload 5, 2) := dk_21 5 (dk_at dksX3_comes_3 16 rfl rfl)
theorem dX3_comes_89 : decode cX3_comes 89 = .ok (.ireturn, 1) := dk_172 (dk_at dksX3_comes_3 18 rfl rfl)
abbrev cX3_move : ByteArray := prog_13_method_73_code
def yX3_move : MethodName := ⟨RX3, "move", "(IIII)I"⟩
def dkwX3_move_3 : List UInt8 := [132, 6, 1, 167, 255, 221, 42, 27, 4, 21, 5, 182, 0, 214, 172]
abbrev dktX3_move_3 : List UInt8 := dkwX3_move_3 ++ []
def dkwX3_move_2 : List UInt8 := [182, 0, 87, 42, 42, 27, 182, 0, 87, 42, 180, 0, 31, 21, 6, 46, 182, 0, 110, 182, 0, 238]
abbrev dktX3_move_2 : List UInt8 := dkwX3_move_2 ++ dktX3_move_3
def dkwX3_move_1 : List UInt8 := [42, 27, 28, 29, 21, 4, 182, 1, 4, 54, 5, 3, 54, 6, 21, 6, 21, 5, 162, 0, 34, 42, 42, 27]
abbrev dktX3_move_1 : List UInt8 := dkwX3_move_1 ++ dktX3_move_2
def dkwX3_move_0 : List UInt8 := [42, 27, 28, 29, 21, 4, 42, 27, 182, 0, 231, 182, 1, 0, 154, 0, 5, 3, 172, 42, 27, 182, 0, 196]
abbrev dktX3_move_0 : List UInt8 := dkwX3_move_0 ++ dktX3_move_1
theorem dksX3_move_0 : cX3_move.data.toList.drop 0 = dktX3_move_0 := by decide +kernel
theorem dksX3_move_1 : cX3_move.data.toList.drop 24 = dktX3_move_1 := dk_seg dksX3_move_0 24 rfl rfl
theorem dksX3_move_2 : cX3_move.data.toList.drop 48 = dktX3_move_2 := dk_seg dksX3_move_1 24 rfl rfl
theorem dksX3_move_3 : cX3_move.data.toList.drop 70 = dktX3_move_3 := dk_seg dksX3_move_2 22 rfl rfl
theorem dX3_move_0 : decode cX3_move 0 = .ok (.aload_n 0, 1) := dk_42 (dk_at dksX3_move_0 0 rfl rfl)
theorem dX3_move_1 : decode cX3_move 1 = .ok (.iload_n 1, 1) := dk_27 (dk_at dksX3_move_0 1 rfl rfl)
theorem dX3_move_2 : decode cX3_move 2 = .ok (.iload_n 2, 1) := dk_28 (dk_at dksX3_move_0 2 rfl rfl)
theorem dX3_move_3 : decode cX3_move 3 = .ok (.iload_n 3, 1) := dk_29 (dk_at dksX3_move_0 3 rfl rfl)
theorem dX3_move_4 : decode cX3_move 4 = .ok (.iload 4, 2) := dk_21 4 (dk_at dksX3_move_0 4 rfl rfl)
theorem dX3_move_6 : decode cX3_move 6 = .ok (.aload_n 0, 1) := dk_42 (dk_at dksX3_move_0 6 rfl rfl)
theorem dX3_move_7 : decode cX3_move 7 = .ok (.iload_n 1, 1) := dk_27 (dk_at dksX3_move_0 7 rfl rfl)
theorem dX3_move_8 : decode cX3_move 8 = .ok (.invokevirtual 231, 3) := dk_182 0 231 (dk_at dksX3_move_0 8 rfl rfl)
theorem dX3_move_11 : decode cX3_move 11 = .ok (.invokevirtual 256, 3) := dk_182 1 0 (dk_at dksX3_move_0 11 rfl rfl)
theorem dX3_move_14 : decode cX3_move 14 = .ok (.ifCond .ne 5, 3) := dk_154 0 5 (dk_at dksX3_move_0 14 rfl rfl)
theorem dX3_move_17 : decode cX3_move 17 = .ok (.iconst 0, 1) := dk_3 (dk_at dksX3_move_0 17 rfl rfl)
theorem dX3_move_18 : decode cX3_move 18 = .ok (.ireturn, 1) := dk_172 (dk_at dksX3_move_0 18 rfl rfl)
theorem dX3_move_19 : decode cX3_move 19 = .ok (.aload_n 0, 1) := dk_42 (dk_at dksX3_move_0 19 rfl rfl)
theorem dX3_move_20 : decode cX3_move 20 = .ok (.iload_n 1, 1) := dk_27 (dk_at dksX3_move_0 20 rfl rfl)
theorem dX3_move_21 : decode cX3_move 21 = .ok (.invokevirtual 196, 3) := dk_182 0 196 (dk_at dksX3_move_0 21 rfl rfl)
theorem dX3_move_24 : decode cX3_move 24 = .ok (.aload_n 0, 1) := dk_42 (dk_at dksX3_move_1 0 rfl rfl)
theorem dX3_move_25 : decode cX3_move 25 = .ok (.iload_n 1, 1) := dk_27 (dk_at dksX3_move_1 1 rfl rfl)
theorem dX3_move_26 : decode cX3_move 26 = .ok (.iload_n 2, 1) := dk_28 (dk_at dksX3_move_1 2 rfl rfl)
theorem dX3_move_27 : decode cX3_move 27 = .ok (.iload_n 3, 1) := dk_29 (dk_at dksX3_move_1 3 rfl rfl)
theorem dX3_move_28 : decode cX3_move 28 = .ok (.iload 4, 2) := dk_21 4 (dk_at dksX3_move_1 4 rfl rfl)
theorem dX3_move_30 : decode cX3_move 30 = .ok (.invokevirtual 260, 3) := dk_182 1 4 (dk_at dksX3_move_1 6 rfl rfl)
theorem dX3_move_33 : decode cX3_move 33 = .ok (.istore 5, 2) := dk_54 5 (dk_at dksX3_move_1 9 rfl rfl)
theorem dX3_move_35 : decode cX3_move 35 = .ok (.iconst 0, 1) := dk_3 (dk_at dksX3_move_1 11 rfl rfl)
theorem dX3_move_36 : decode cX3_move 36 = .ok (.istore 6, 2) := dk_54 6 (dk_at dksX3_move_1 12 rfl rfl)
theorem dX3_move_38 : decode cX3_move 38 = .ok (.iload 6, 2) := dk_21 6 (dk_at dksX3_move_1 14 rfl rfl)
theorem dX3_move_40 : decode cX3_move 40 = .ok (.iload 5, 2) := dk_21 5 (dk_at dksX3_move_1 16 rfl rfl)
theorem dX3_move_42 : decode cX3_move 42 = .ok (.if_icmp .ge 34, 3) := dk_162 0 34 (dk_at dksX3_move_1 18 rfl rfl)
theorem dX3_move_45 : decode cX3_move 45 = .ok (.aload_n 0, 1) := dk_42 (dk_at dksX3_move_1 21 rfl rfl)
theorem dX3_move_46 : decode cX3_move 46 = .ok (.aload_n 0, 1) := dk_42 (dk_at dksX3_move_1 22 rfl rfl)
theorem dX3_move_47 : decode cX3_move 47 = .ok (.iload_n 1, 1) := dk_27 (dk_at dksX3_move_1 23 rfl rfl)
theorem dX3_move_48 : decode cX3_move 48 = .ok (.invokevirtual 87, 3) := dk_182 0 87 (dk_at dksX3_move_2 0 rfl rfl)
theorem dX3_move_51 : decode cX3_move 51 = .ok (.aload_n 0, 1) := dk_42 (dk_at dksX3_move_2 3 rfl rfl)
theorem dX3_move_52 : decode cX3_move 52 = .ok (.aload_n 0, 1) := dk_42 (dk_at dksX3_move_2 4 rfl rfl)
theorem dX3_move_53 : decode cX3_move 53 = .ok (.iload_n 1, 1) := dk_27 (dk_at dksX3_move_2 5 rfl rfl)
theorem dX3_move_54 : decode cX3_move 54 = .ok (.invokevirtual 87, 3) := dk_182 0 87 (dk_at dksX3_move_2 6 rfl rfl)
theorem dX3_move_57 : decode cX3_move 57 = .ok (.aload_n 0, 1) := dk_42 (dk_at dksX3_move_2 9 rfl rfl)
theorem dX3_move_58 : decode cX3_move 58 = .ok (.getfield 31, 3) := dk_180 0 31 (dk_at dksX3_move_2 10 rfl rfl)
theorem dX3_move_61 : decode cX3_move 61 = .ok (.iload 6, 2) := dk_21 6 (dk_at dksX3_move_2 13 rfl rfl)
theorem dX3_move_63 : decode cX3_move 63 = .ok (.iaload, 1) := dk_46 (dk_at dksX3_move_2 15 rfl rfl)
theorem dX3_move_64 : decode cX3_move 64 = .ok (.invokevirtual 110, 3) := dk_182 0 110 (dk_at dksX3_move_2 16 rfl rfl)
theorem dX3_move_67 : decode cX3_move 67 = .ok (.invokevirtual 238, 3) := dk_182 0 238 (dk_at dksX3_move_2 19 rfl rfl)
theorem dX3_move_70 : decode cX3_move 70 = .ok (.iinc 6 1, 3) := dk_132 6 1 (dk_at dksX3_move_3 0 rfl rfl)
theorem dX3_move_73 : decode cX3_move 73 = .ok (.goto (-35), 3) := dk_167 255 221 (dk_at dksX3_move_3 3 rfl rfl)
theorem dX3_move_76 : decode cX3_move 76 = .ok (.aload_n 0, 1) := dk_42 (dk_at dksX3_move_3 6 rfl rfl)
theorem dX3_move_77 : decode cX3_move 77 = .ok (.iload_n 1, 1) := dk_27 (dk_at dksX3_move_3 7 rfl rfl)
theorem dX3_move_78 : decode cX3_move 78 = .ok (.iconst 1, 1) := dk_4 (dk_at dksX3_move_3 8 rfl rfl)
theorem dX3_move_79 : decode cX3_move 79 = .ok (.iload 5, 2) := dk_21 5 (dk_at dksX3_move_3 9 rfl rfl)
theorem dX3_move_81 : decode cX3_move 81 = .ok (.invokevirtual 214, 3) := dk_182 0 214 (dk_at dksX3_move_3 11 rfl rfl)
theorem dX3_move_84 : decode cX3_move 84 = .ok (.ireturn, 1) := dk_172 (dk_at dksX3_move_3 14 rfl rfl)
abbrev cX3_close : ByteArray := prog_13_method_74_code
def yX3_close : MethodName := ⟨RX3, "close", "(I)I"⟩
def dkwX3_close_2 : List UInt8 := [61, 42, 27, 182, 0, 186, 42, 182, 0, 178, 28, 172]
abbrev dktX3_close_2 : List UInt8 := dkwX3_close_2 ++ []
def dkwX3_close_1 : List UInt8 := [42, 27, 182, 0, 172, 153, 0, 7, 3, 167, 0, 15, 42, 42, 27, 182, 0, 87, 3, 18, 243, 182, 0, 244]
abbrev dktX3_close_1 : List UInt8 := dkwX3_close_1 ++ dktX3_close_2
def dkwX3_close_0 : List UInt8 := [42, 42, 27, 182, 0, 93, 42, 27, 182, 0, 169, 182, 0, 192, 154, 0, 5, 3, 172, 42, 27, 182, 0, 196]
abbrev dktX3_close_0 : List UInt8 := dkwX3_close_0 ++ dktX3_close_1
theorem dksX3_close_0 : cX3_close.data.toList.drop 0 = dktX3_close_0 := by decide +kernel
theorem dksX3_close_1 : cX3_close.data.toList.drop 24 = dktX3_close_1 := dk_seg dksX3_close_0 24 rfl rfl
theorem dksX3_close_2 : cX3_close.data.toList.drop 48 = dktX3_close_2 := dk_seg dksX3_close_1 24 rfl rfl
theorem dX3_close_0 : decode cX3_close 0 = .ok (.aload_n 0, 1) := dk_42 (dk_at dksX3_close_0 0 rfl rfl)
theorem dX3_close_1 : decode cX3_close 1 = .ok (.aload_n 0, 1) := dk_42 (dk_at dksX3_close_0 1 rfl rfl)
theorem dX3_close_2 : decode cX3_close 2 = .ok (.iload_n 1, 1) := dk_27 (dk_at dksX3_close_0 2 rfl rfl)
theorem dX3_close_3 : decode cX3_close 3 = .ok (.invokevirtual 93, 3) := dk_182 0 93 (dk_at dksX3_close_0 3 rfl rfl)
theorem dX3_close_6 : decode cX3_close 6 = .ok (.aload_n 0, 1) := dk_42 (dk_at dksX3_close_0 6 rfl rfl)
theorem dX3_close_7 : decode cX3_close 7 = .ok (.iload_n 1, 1) := dk_27 (dk_at dksX3_close_0 7 rfl rfl)
theorem dX3_close_8 : decode cX3_close 8 = .ok (.invokevirtual 169, 3) := dk_182 0 169 (dk_at dksX3_close_0 8 rfl rfl)
theorem dX3_close_11 : decode cX3_close 11 = .ok (.invokevirtual 192, 3) := dk_182 0 192 (dk_at dksX3_close_0 11 rfl rfl)
theorem dX3_close_14 : decode cX3_close 14 = .ok (.ifCond .ne 5, 3) := dk_154 0 5 (dk_at dksX3_close_0 14 rfl rfl)
theorem dX3_close_17 : decode cX3_close 17 = .ok (.iconst 0, 1) := dk_3 (dk_at dksX3_close_0 17 rfl rfl)
theorem dX3_close_18 : decode cX3_close 18 = .ok (.ireturn, 1) := dk_172 (dk_at dksX3_close_0 18 rfl rfl)
theorem dX3_close_19 : decode cX3_close 19 = .ok (.aload_n 0, 1) := dk_42 (dk_at dksX3_close_0 19 rfl rfl)
theorem dX3_close_20 : decode cX3_close 20 = .ok (.iload_n 1, 1) := dk_27 (dk_at dksX3_close_0 20 rfl rfl)
theorem dX3_close_21 : decode cX3_close 21 = .ok (.invokevirtual 196, 3) := dk_182 0 196 (dk_at dksX3_close_0 21 rfl rfl)
theorem dX3_close_24 : decode cX3_close 24 = .ok (.aload_n 0, 1) := dk_42 (dk_at dksX3_close_1 0 rfl rfl)
theorem dX3_close_25 : decode cX3_close 25 = .ok (.iload_n 1, 1) := dk_27 (dk_at dksX3_close_1 1 rfl rfl)
theorem dX3_close_26 : decode cX3_close 26 = .ok (.invokevirtual 172, 3) := dk_182 0 172 (dk_at dksX3_close_1 2 rfl rfl)
theorem dX3_close_29 : decode cX3_close 29 = .ok (.ifCond .eq 7, 3) := dk_153 0 7 (dk_at dksX3_close_1 5 rfl rfl)
theorem dX3_close_32 : decode cX3_close 32 = .ok (.iconst 0, 1) := dk_3 (dk_at dksX3_close_1 8 rfl rfl)
theorem dX3_close_33 : decode cX3_close 33 = .ok (.goto 15, 3) := dk_167 0 15 (dk_at dksX3_close_1 9 rfl rfl)
theorem dX3_close_36 : decode cX3_close 36 = .ok (.aload_n 0, 1) := dk_42 (dk_at dksX3_close_1 12 rfl rfl)
theorem dX3_close_37 : decode cX3_close 37 = .ok (.aload_n 0, 1) := dk_42 (dk_at dksX3_close_1 13 rfl rfl)
theorem dX3_close_38 : decode cX3_close 38 = .ok (.iload_n 1, 1) := dk_27 (dk_at dksX3_close_1 14 rfl rfl)
theorem dX3_close_39 : decode cX3_close 39 = .ok (.invokevirtual 87, 3) := dk_182 0 87 (dk_at dksX3_close_1 15 rfl rfl)
theorem dX3_close_42 : decode cX3_close 42 = .ok (.iconst 0, 1) := dk_3 (dk_at dksX3_close_1 18 rfl rfl)
theorem dX3_close_43 : decode cX3_close 43 = .ok (.ldc 243, 2) := dk_18 243 (dk_at dksX3_close_1 19 rfl rfl)
theorem dX3_close_45 : decode cX3_close 45 = .ok (.invokevirtual 244, 3) := dk_182 0 244 (dk_at dksX3_close_1 21 rfl rfl)
theorem dX3_close_48 : decode cX3_close 48 = .ok (.istore_n 2, 1) := dk_61 (dk_at dksX3_close_2 0 rfl rfl)
theorem dX3_close_49 : decode cX3_close 49 = .ok (.aload_n 0, 1) := dk_42 (dk_at dksX3_close_2 1 rfl rfl)
theorem dX3_close_50 : decode cX3_close 50 = .ok (.iload_n 1, 1) := dk_27 (dk_at dksX3_close_2 2 rfl rfl)
theorem dX3_close_51 : decode cX3_close 51 = .ok (.invokevirtual 186, 3) := dk_182 0 186 (dk_at dksX3_close_2 3 rfl rfl)
theorem dX3_close_54 : decode cX3_close 54 = .ok (.aload_n 0, 1) := dk_42 (dk_at dksX3_close_2 6 rfl rfl)
theorem dX3_close_55 : decode cX3_close 55 = .ok (.invokevirtual 178, 3) := dk_182 0 178 (dk_at dksX3_close_2 7 rfl rfl)
theorem dX3_close_58 : decode cX3_close 58 = .ok (.iload_n 2, 1) := dk_28 (dk_at dksX3_close_2 10 rfl rfl)
theorem dX3_close_59 : decode cX3_close 59 = .ok (.ireturn, 1) := dk_172 (dk_at dksX3_close_2 11 rfl rfl)
abbrev cX3_deliver : ByteArray := prog_13_method_75_code
def yX3_deliver : MethodName := ⟨RX3, "deliver", "(III)I"⟩
def dkwX3_deliver_3 : List UInt8 := [181, 0, 138, 42, 27, 28, 29, 182, 0, 247, 54, 5, 42, 182, 0, 178, 21, 5, 172]
abbrev dktX3_deliver_3 : List UInt8 := dkwX3_deliver_3 ++ []
def dkwX3_deliver_2 : List UInt8 := [153, 0, 7, 4, 167, 0, 4, 3, 182, 0, 7, 154, 0, 5, 3, 172, 42, 182, 0, 175, 42, 3]
abbrev dktX3_deliver_2 : List UInt8 := dkwX3_deliver_2 ++ dktX3_deliver_3
def dkwX3_deliver_1 : List UInt8 := [184, 0, 228, 153, 0, 7, 4, 167, 0, 4, 3, 21, 4, 153, 0, 16, 42, 27, 4, 182, 0, 253]
abbrev dktX3_deliver_1 : List UInt8 := dkwX3_deliver_1 ++ dktX3_deliver_2
def dkwX3_deliver_0 : List UInt8 := [42, 27, 182, 0, 189, 54, 4, 42, 21, 4, 28, 133, 10, 20, 1, 8, 184, 0, 70, 153, 0, 14, 29]
abbrev dktX3_deliver_0 : List UInt8 := dkwX3_deliver_0 ++ dktX3_deliver_1
theorem dksX3_deliver_0 : cX3_deliver.data.toList.drop 0 = dktX3_deliver_0 := by decide +kernel
theorem dksX3_deliver_1 : cX3_deliver.data.toList.drop 23 = dktX3_deliver_1 := dk_seg dksX3_deliver_0 23 rfl rfl
theorem dksX3_deliver_2 : cX3_deliver.data.toList.drop 45 = dktX3_deliver_2 := dk_seg dksX3_deliver_1 22 rfl rfl
theorem dksX3_deliver_3 : cX3_deliver.data.toList.drop 67 = dktX3_deliver_3 := dk_seg dksX3_deliver_2 22 rfl rfl
theorem dX3_deliver_0 : decode cX3_deliver 0 = .ok (.aload_n 0, 1) := dk_42 (dk_at dksX3_deliver_0 0 rfl rfl)
theorem dX3_deliver_1 : decode cX3_deliver 1 = .ok (.iload_n 1, 1) := dk_27 (dk_at dksX3_deliver_0 1 rfl rfl)
theorem dX3_deliver_2 : decode cX3_deliver 2 = .ok (.invokevirtual 189, 3) := dk_182 0 189 (dk_at dksX3_deliver_0 2 rfl rfl)
theorem dX3_deliver_5 : decode cX3_deliver 5 = .ok (.istore 4, 2) := dk_54 4 (dk_at dksX3_deliver_0 5 rfl rfl)
theorem dX3_deliver_7 : decode cX3_deliver 7 = .ok (.aload_n 0, 1) := dk_42 (dk_at dksX3_deliver_0 7 rfl rfl)
theorem dX3_deliver_8 : decode cX3_deliver 8 = .ok (.iload 4, 2) := dk_21 4 (dk_at dksX3_deliver_0 8 rfl rfl)
theorem dX3_deliver_10 : decode cX3_deliver 10 = .ok (.iload_n 2, 1) := dk_28 (dk_at dksX3_deliver_0 10 rfl rfl)
theorem dX3_deliver_11 : decode cX3_deliver 11 = .ok (.i2l, 1) := dk_133 (dk_at dksX3_deliver_0 11 rfl rfl)
theorem dX3_deliver_12 : decode cX3_deliver 12 = .ok (.lconst 1, 1) := dk_10 (dk_at dksX3_deliver_0 12 rfl rfl)
theorem dX3_deliver_13 : decode cX3_deliver 13 = .ok (.ldc2_w 264, 3) := dk_20 1 8 (dk_at dksX3_deliver_0 13 rfl rfl)
theorem dX3_deliver_16 : decode cX3_deliver 16 = .ok (.invokestatic 70, 3) := dk_184 0 70 (dk_at dksX3_deliver_0 16 rfl rfl)
theorem dX3_deliver_19 : decode cX3_deliver 19 = .ok (.ifCond .eq 14, 3) := dk_153 0 14 (dk_at dksX3_deliver_0 19 rfl rfl)
theorem dX3_deliver_22 : decode cX3_deliver 22 = .ok (.iload_n 3, 1) := dk_29 (dk_at dksX3_deliver_0 22 rfl rfl)
theorem dX3_deliver_23 : decode cX3_deliver 23 = .ok (.invokestatic 228, 3) := dk_184 0 228 (dk_at dksX3_deliver_1 0 rfl rfl)
theorem dX3_deliver_26 : decode cX3_deliver 26 = .ok (.ifCond .eq 7, 3) := dk_153 0 7 (dk_at dksX3_deliver_1 3 rfl rfl)
theorem dX3_deliver_29 : decode cX3_deliver 29 = .ok (.iconst 1, 1) := dk_4 (dk_at dksX3_deliver_1 6 rfl rfl)
theorem dX3_deliver_30 : decode cX3_deliver 30 = .ok (.goto 4, 3) := dk_167 0 4 (dk_at dksX3_deliver_1 7 rfl rfl)
theorem dX3_deliver_33 : decode cX3_deliver 33 = .ok (.iconst 0, 1) := dk_3 (dk_at dksX3_deliver_1 10 rfl rfl)
theorem dX3_deliver_34 : decode cX3_deliver 34 = .ok (.iload 4, 2) := dk_21 4 (dk_at dksX3_deliver_1 11 rfl rfl)
theorem dX3_deliver_36 : decode cX3_deliver 36 = .ok (.ifCond .eq 16, 3) := dk_153 0 16 (dk_at dksX3_deliver_1 13 rfl rfl)
theorem dX3_deliver_39 : decode cX3_deliver 39 = .ok (.aload_n 0, 1) := dk_42 (dk_at dksX3_deliver_1 16 rfl rfl)
theorem dX3_deliver_40 : decode cX3_deliver 40 = .ok (.iload_n 1, 1) := dk_27 (dk_at dksX3_deliver_1 17 rfl rfl)
theorem dX3_deliver_41 : decode cX3_deliver 41 = .ok (.iconst 1, 1) := dk_4 (dk_at dksX3_deliver_1 18 rfl rfl)
theorem dX3_deliver_42 : decode cX3_deliver 42 = .ok (.invokevirtual 253, 3) := dk_182 0 253 (dk_at dksX3_deliver_1 19 rfl rfl)
theorem dX3_deliver_45 : decode cX3_deliver 45 = .ok (.ifCond .eq 7, 3) := dk_153 0 7 (dk_at dksX3_deliver_2 0 rfl rfl)
theorem dX3_deliver_48 : decode cX3_deliver 48 = .ok (.iconst 1, 1) := dk_4 (dk_at dksX3_deliver_2 3 rfl rfl)
theorem dX3_deliver_49 : decode cX3_deliver 49 = .ok (.goto 4, 3) := dk_167 0 4 (dk_at dksX3_deliver_2 4 rfl rfl)
theorem dX3_deliver_52 : decode cX3_deliver 52 = .ok (.iconst 0, 1) := dk_3 (dk_at dksX3_deliver_2 7 rfl rfl)
theorem dX3_deliver_53 : decode cX3_deliver 53 = .ok (.invokevirtual 7, 3) := dk_182 0 7 (dk_at dksX3_deliver_2 8 rfl rfl)
theorem dX3_deliver_56 : decode cX3_deliver 56 = .ok (.ifCond .ne 5, 3) := dk_154 0 5 (dk_at dksX3_deliver_2 11 rfl rfl)
theorem dX3_deliver_59 : decode cX3_deliver 59 = .ok (.iconst 0, 1) := dk_3 (dk_at dksX3_deliver_2 14 rfl rfl)
theorem dX3_deliver_60 : decode cX3_deliver 60 = .ok (.ireturn, 1) := dk_172 (dk_at dksX3_deliver_2 15 rfl rfl)
theorem dX3_deliver_61 : decode cX3_deliver 61 = .ok (.aload_n 0, 1) := dk_42 (dk_at dksX3_deliver_2 16 rfl rfl)
theorem dX3_deliver_62 : decode cX3_deliver 62 = .ok (.invokevirtual 175, 3) := dk_182 0 175 (dk_at dksX3_deliver_2 17 rfl rfl)
theorem dX3_deliver_65 : decode cX3_deliver 65 = .ok (.aload_n 0, 1) := dk_42 (dk_at dksX3_deliver_2 20 rfl rfl)
theorem dX3_deliver_66 : decode cX3_deliver 66 = .ok (.iconst 0, 1) := dk_3 (dk_at dksX3_deliver_2 21 rfl rfl)
theorem dX3_deliver_67 : decode cX3_deliver 67 = .ok (.putfield 138, 3) := dk_181 0 138 (dk_at dksX3_deliver_3 0 rfl rfl)
theorem dX3_deliver_70 : decode cX3_deliver 70 = .ok (.aload_n 0, 1) := dk_42 (dk_at dksX3_deliver_3 3 rfl rfl)
theorem dX3_deliver_71 : decode cX3_deliver 71 = .ok (.iload_n 1, 1) := dk_27 (dk_at dksX3_deliver_3 4 rfl rfl)
theorem dX3_deliver_72 : decode cX3_deliver 72 = .ok (.iload_n 2, 1) := dk_28 (dk_at dksX3_deliver_3 5 rfl rfl)
theorem dX3_deliver_73 : decode cX3_deliver 73 = .ok (.iload_n 3, 1) := dk_29 (dk_at dksX3_deliver_3 6 rfl rfl)
theorem dX3_deliver_74 : decode cX3_deliver 74 = .ok (.invokevirtual 247, 3) := dk_182 0 247 (dk_at dksX3_deliver_3 7 rfl rfl)
theorem dX3_deliver_77 : decode cX3_deliver 77 = .ok (.istore 5, 2) := dk_54 5 (dk_at dksX3_deliver_3 10 rfl rfl)
theorem dX3_deliver_79 : decode cX3_deliver 79 = .ok (.aload_n 0, 1) := dk_42 (dk_at dksX3_deliver_3 12 rfl rfl)
theorem dX3_deliver_80 : decode cX3_deliver 80 = .ok (.invokevirtual 178, 3) := dk_182 0 178 (dk_at dksX3_deliver_3 13 rfl rfl)
theorem dX3_deliver_83 : decode cX3_deliver 83 = .ok (.iload 5, 2) := dk_21 5 (dk_at dksX3_deliver_3 16 rfl rfl)
theorem dX3_deliver_85 : decode cX3_deliver 85 = .ok (.ireturn, 1) := dk_172 (dk_at dksX3_deliver_3 18 rfl rfl)
abbrev cX3_setLimit : ByteArray := prog_13_method_76_code
def yX3_setLimit : MethodName := ⟨RX3, "setLimit", "(I)I"⟩
def dkwX3_setLimit_1 : List UInt8 := [181, 0, 138, 42, 3, 182, 0, 62, 61, 42, 180, 0, 17, 3, 27, 133, 80, 28, 172]
abbrev dktX3_setLimit_1 : List UInt8 := dkwX3_setLimit_1 ++ []
def dkwX3_setLimit_0 : List UInt8 := [42, 27, 133, 10, 20, 0, 60, 184, 0, 70, 182, 1, 10, 154, 0, 5, 3, 172, 42, 182, 0, 175, 42, 3]
abbrev dktX3_setLimit_0 : List UInt8 := dkwX3_setLimit_0 ++ dktX3_setLimit_1
theorem dksX3_setLimit_0 : cX3_setLimit.data.toList.drop 0 = dktX3_setLimit_0 := by decide +kernel
theorem dksX3_setLimit_1 : cX3_setLimit.data.toList.drop 24 = dktX3_setLimit_1 := dk_seg dksX3_setLimit_0 24 rfl rfl
theorem dX3_setLimit_0 : decode cX3_setLimit 0 = .ok (.aload_n 0, 1) := dk_42 (dk_at dksX3_setLimit_0 0 rfl rfl)
theorem dX3_setLimit_1 : decode cX3_setLimit 1 = .ok (.iload_n 1, 1) := dk_27 (dk_at dksX3_setLimit_0 1 rfl rfl)
theorem dX3_setLimit_2 : decode cX3_setLimit 2 = .ok (.i2l, 1) := dk_133 (dk_at dksX3_setLimit_0 2 rfl rfl)
theorem dX3_setLimit_3 : decode cX3_setLimit 3 = .ok (.lconst 1, 1) := dk_10 (dk_at dksX3_setLimit_0 3 rfl rfl)
theorem dX3_setLimit_4 : decode cX3_setLimit 4 = .ok (.ldc2_w 60, 3) := dk_20 0 60 (dk_at dksX3_setLimit_0 4 rfl rfl)
theorem dX3_setLimit_7 : decode cX3_setLimit 7 = .ok (.invokestatic 70, 3) := dk_184 0 70 (dk_at dksX3_setLimit_0 7 rfl rfl)
theorem dX3_setLimit_10 : decode cX3_setLimit 10 = .ok (.invokevirtual 266, 3) := dk_182 1 10 (dk_at dksX3_setLimit_0 10 rfl rfl)
theorem dX3_setLimit_13 : decode cX3_setLimit 13 = .ok (.ifCond .ne 5, 3) := dk_154 0 5 (dk_at dksX3_setLimit_0 13 rfl rfl)
theorem dX3_setLimit_16 : decode cX3_setLimit 16 = .ok (.iconst 0, 1) := dk_3 (dk_at dksX3_setLimit_0 16 rfl rfl)
theorem dX3_setLimit_17 : decode cX3_setLimit 17 = .ok (.ireturn, 1) := dk_172 (dk_at dksX3_setLimit_0 17 rfl rfl)
theorem dX3_setLimit_18 : decode cX3_setLimit 18 = .ok (.aload_n 0, 1) := dk_42 (dk_at dksX3_setLimit_0 18 rfl rfl)
theorem dX3_setLimit_19 : decode cX3_setLimit 19 = .ok (.invokevirtual 175, 3) := dk_182 0 175 (dk_at dksX3_setLimit_0 19 rfl rfl)
theorem dX3_setLimit_22 : decode cX3_setLimit 22 = .ok (.aload_n 0, 1) := dk_42 (dk_at dksX3_setLimit_0 22 rfl rfl)
theorem dX3_setLimit_23 : decode cX3_setLimit 23 = .ok (.iconst 0, 1) := dk_3 (dk_at dksX3_setLimit_0 23 rfl rfl)
theorem dX3_setLimit_24 : decode cX3_setLimit 24 = .ok (.putfield 138, 3) := dk_181 0 138 (dk_at dksX3_setLimit_1 0 rfl rfl)
theorem dX3_setLimit_27 : decode cX3_setLimit 27 = .ok (.aload_n 0, 1) := dk_42 (dk_at dksX3_setLimit_1 3 rfl rfl)
theorem dX3_setLimit_28 : decode cX3_setLimit 28 = .ok (.iconst 0, 1) := dk_3 (dk_at dksX3_setLimit_1 4 rfl rfl)
theorem dX3_setLimit_29 : decode cX3_setLimit 29 = .ok (.invokevirtual 62, 3) := dk_182 0 62 (dk_at dksX3_setLimit_1 5 rfl rfl)
theorem dX3_setLimit_32 : decode cX3_setLimit 32 = .ok (.istore_n 2, 1) := dk_61 (dk_at dksX3_setLimit_1 8 rfl rfl)
theorem dX3_setLimit_33 : decode cX3_setLimit 33 = .ok (.aload_n 0, 1) := dk_42 (dk_at dksX3_setLimit_1 9 rfl rfl)
theorem dX3_setLimit_34 : decode cX3_setLimit 34 = .ok (.getfield 17, 3) := dk_180 0 17 (dk_at dksX3_setLimit_1 10 rfl rfl)
theorem dX3_setLimit_37 : decode cX3_setLimit 37 = .ok (.iconst 0, 1) := dk_3 (dk_at dksX3_setLimit_1 13 rfl rfl)
theorem dX3_setLimit_38 : decode cX3_setLimit 38 = .ok (.iload_n 1, 1) := dk_27 (dk_at dksX3_setLimit_1 14 rfl rfl)
theorem dX3_setLimit_39 : decode cX3_setLimit 39 = .ok (.i2l, 1) := dk_133 (dk_at dksX3_setLimit_1 15 rfl rfl)
theorem dX3_setLimit_40 : decode cX3_setLimit 40 = .ok (.lastore, 1) := dk_80 (dk_at dksX3_setLimit_1 16 rfl rfl)
theorem dX3_setLimit_41 : decode cX3_setLimit 41 = .ok (.iload_n 2, 1) := dk_28 (dk_at dksX3_setLimit_1 17 rfl rfl)
theorem dX3_setLimit_42 : decode cX3_setLimit 42 = .ok (.ireturn, 1) := dk_172 (dk_at dksX3_setLimit_1 18 rfl rfl)
abbrev cX3_passes : ByteArray := prog_13_method_6_code
def yX3_passes : MethodName := ⟨RX3, "passes", "(Z)Z"⟩
def dkwX3_passes_0 : List UInt8 := [42, 27, 4, 4, 182, 0, 7, 172]
abbrev dktX3_passes_0 : List UInt8 := dkwX3_passes_0 ++ []
theorem dksX3_passes_0 : cX3_passes.data.toList.drop 0 = dktX3_passes_0 := by decide +kernel
theorem dX3_passes_0 : decode cX3_passes 0 = .ok (.aload_n 0, 1) := dk_42 (dk_at dksX3_passes_0 0 rfl rfl)
theorem dX3_passes_1 : decode cX3_passes 1 = .ok (.iload_n 1, 1) := dk_27 (dk_at dksX3_passes_0 1 rfl rfl)
theorem dX3_passes_2 : decode cX3_passes 2 = .ok (.iconst 1, 1) := dk_4 (dk_at dksX3_passes_0 2 rfl rfl)
theorem dX3_passes_3 : decode cX3_passes 3 = .ok (.iconst 1, 1) := dk_4 (dk_at dksX3_passes_0 3 rfl rfl)
theorem dX3_passes_4 : decode cX3_passes 4 = .ok (.invokevirtual 7, 3) := dk_182 0 7 (dk_at dksX3_passes_0 4 rfl rfl)
theorem dX3_passes_7 : decode cX3_passes 7 = .ok (.ireturn, 1) := dk_172 (dk_at dksX3_passes_0 7 rfl rfl)
abbrev cX3_append : ByteArray := prog_13_method_78_code
def yX3_append : MethodName := ⟨RX3, "append", "(IIIII)I"⟩
def dkwX3_append_2 : List UInt8 := [182, 1, 17, 42, 21, 5, 182, 1, 17, 42, 180, 1, 14, 172]
abbrev dktX3_append_2 : List UInt8 := dkwX3_append_2 ++ []
def dkwX3_append_1 : List UInt8 := [154, 0, 5, 3, 172, 42, 27, 182, 1, 17, 42, 28, 182, 1, 17, 42, 29, 182, 1, 17, 42, 21, 4]
abbrev dktX3_append_1 : List UInt8 := dkwX3_append_1 ++ dktX3_append_2
def dkwX3_append_0 : List UInt8 := [42, 42, 180, 1, 14, 16, 20, 96, 17, 2, 188, 163, 0, 7, 4, 167, 0, 4, 3, 182, 1, 10]
abbrev dktX3_append_0 : List UInt8 := dkwX3_append_0 ++ dktX3_append_1
theorem dksX3_append_0 : cX3_append.data.toList.drop 0 = dktX3_append_0 := by decide +kernel
theorem dksX3_append_1 : cX3_append.data.toList.drop 22 = dktX3_append_1 := dk_seg dksX3_append_0 22 rfl rfl
theorem dksX3_append_2 : cX3_append.data.toList.drop 45 = dktX3_append_2 := dk_seg dksX3_append_1 23 rfl rfl
theorem dX3_append_0 : decode cX3_append 0 = .ok (.aload_n 0, 1) := dk_42 (dk_at dksX3_append_0 0 rfl rfl)
theorem dX3_append_1 : decode cX3_append 1 = .ok (.aload_n 0, 1) := dk_42 (dk_at dksX3_append_0 1 rfl rfl)
theorem dX3_append_2 : decode cX3_append 2 = .ok (.getfield 270, 3) := dk_180 1 14 (dk_at dksX3_append_0 2 rfl rfl)
theorem dX3_append_5 : decode cX3_append 5 = .ok (.bipush 20, 2) := dk_16 20 (dk_at dksX3_append_0 5 rfl rfl)
theorem dX3_append_7 : decode cX3_append 7 = .ok (.iadd, 1) := dk_96 (dk_at dksX3_append_0 7 rfl rfl)
theorem dX3_append_8 : decode cX3_append 8 = .ok (.sipush 700, 3) := dk_17 2 188 (dk_at dksX3_append_0 8 rfl rfl)
theorem dX3_append_11 : decode cX3_append 11 = .ok (.if_icmp .gt 7, 3) := dk_163 0 7 (dk_at dksX3_append_0 11 rfl rfl)
theorem dX3_append_14 : decode cX3_append 14 = .ok (.iconst 1, 1) := dk_4 (dk_at dksX3_append_0 14 rfl rfl)
theorem dX3_append_15 : decode cX3_append 15 = .ok (.goto 4, 3) := dk_167 0 4 (dk_at dksX3_append_0 15 rfl rfl)
theorem dX3_append_18 : decode cX3_append 18 = .ok (.iconst 0, 1) := dk_3 (dk_at dksX3_append_0 18 rfl rfl)
theorem dX3_append_19 : decode cX3_append 19 = .ok (.invokevirtual 266, 3) := dk_182 1 10 (dk_at dksX3_append_0 19 rfl rfl)
theorem dX3_append_22 : decode cX3_append 22 = .ok (.ifCond .ne 5, 3) := dk_154 0 5 (dk_at dksX3_append_1 0 rfl rfl)
theorem dX3_append_25 : decode cX3_append 25 = .ok (.iconst 0, 1) := dk_3 (dk_at dksX3_append_1 3 rfl rfl)
theorem dX3_append_26 : decode cX3_append 26 = .ok (.ireturn, 1) := dk_172 (dk_at dksX3_append_1 4 rfl rfl)
theorem dX3_append_27 : decode cX3_append 27 = .ok (.aload_n 0, 1) := dk_42 (dk_at dksX3_append_1 5 rfl rfl)
theorem dX3_append_28 : decode cX3_append 28 = .ok (.iload_n 1, 1) := dk_27 (dk_at dksX3_append_1 6 rfl rfl)
theorem dX3_append_29 : decode cX3_append 29 = .ok (.invokevirtual 273, 3) := dk_182 1 17 (dk_at dksX3_append_1 7 rfl rfl)
theorem dX3_append_32 : decode cX3_append 32 = .ok (.aload_n 0, 1) := dk_42 (dk_at dksX3_append_1 10 rfl rfl)
theorem dX3_append_33 : decode cX3_append 33 = .ok (.iload_n 2, 1) := dk_28 (dk_at dksX3_append_1 11 rfl rfl)
theorem dX3_append_34 : decode cX3_append 34 = .ok (.invokevirtual 273, 3) := dk_182 1 17 (dk_at dksX3_append_1 12 rfl rfl)
theorem dX3_append_37 : decode cX3_append 37 = .ok (.aload_n 0, 1) := dk_42 (dk_at dksX3_append_1 15 rfl rfl)
theorem dX3_append_38 : decode cX3_append 38 = .ok (.iload_n 3, 1) := dk_29 (dk_at dksX3_append_1 16 rfl rfl)
theorem dX3_append_39 : decode cX3_append 39 = .ok (.invokevirtual 273, 3) := dk_182 1 17 (dk_at dksX3_append_1 17 rfl rfl)
theorem dX3_append_42 : decode cX3_append 42 = .ok (.aload_n 0, 1) := dk_42 (dk_at dksX3_append_1 20 rfl rfl)
theorem dX3_append_43 : decode cX3_append 43 = .ok (.iload 4, 2) := dk_21 4 (dk_at dksX3_append_1 21 rfl rfl)
theorem dX3_append_45 : decode cX3_append 45 = .ok (.invokevirtual 273, 3) := dk_182 1 17 (dk_at dksX3_append_2 0 rfl rfl)
theorem dX3_append_48 : decode cX3_append 48 = .ok (.aload_n 0, 1) := dk_42 (dk_at dksX3_append_2 3 rfl rfl)
theorem dX3_append_49 : decode cX3_append 49 = .ok (.iload 5, 2) := dk_21 5 (dk_at dksX3_append_2 4 rfl rfl)
theorem dX3_append_51 : decode cX3_append 51 = .ok (.invokevirtual 273, 3) := dk_182 1 17 (dk_at dksX3_append_2 6 rfl rfl)
theorem dX3_append_54 : decode cX3_append 54 = .ok (.aload_n 0, 1) := dk_42 (dk_at dksX3_append_2 9 rfl rfl)
theorem dX3_append_55 : decode cX3_append 55 = .ok (.getfield 270, 3) := dk_180 1 14 (dk_at dksX3_append_2 10 rfl rfl)
theorem dX3_append_58 : decode cX3_append 58 = .ok (.ireturn, 1) := dk_172 (dk_at dksX3_append_2 13 rfl rfl)
abbrev cX3_appendFour : ByteArray := prog_13_method_77_code
def yX3_appendFour : MethodName := ⟨RX3, "appendFour", "(I)V"⟩
def dkwX3_appendFour_1 : List UInt8 := [180, 1, 14, 4, 96, 181, 1, 14, 132, 2, 248, 167, 255, 226, 177]
abbrev dktX3_appendFour_1 : List UInt8 := dkwX3_appendFour_1 ++ []
def dkwX3_appendFour_0 : List UInt8 := [16, 24, 61, 28, 155, 0, 32, 42, 180, 0, 34, 42, 180, 1, 14, 27, 28, 122, 145, 84, 42, 89]
abbrev dktX3_appendFour_0 : List UInt8 := dkwX3_appendFour_0 ++ dktX3_appendFour_1
theorem dksX3_appendFour_0 : cX3_appendFour.data.toList.drop 0 = dktX3_appendFour_0 := by decide +kernel
theorem dksX3_appendFour_1 : cX3_appendFour.data.toList.drop 22 = dktX3_appendFour_1 := dk_seg dksX3_appendFour_0 22 rfl rfl
theorem dX3_appendFour_0 : decode cX3_appendFour 0 = .ok (.bipush 24, 2) := dk_16 24 (dk_at dksX3_appendFour_0 0 rfl rfl)
theorem dX3_appendFour_2 : decode cX3_appendFour 2 = .ok (.istore_n 2, 1) := dk_61 (dk_at dksX3_appendFour_0 2 rfl rfl)
theorem dX3_appendFour_3 : decode cX3_appendFour 3 = .ok (.iload_n 2, 1) := dk_28 (dk_at dksX3_appendFour_0 3 rfl rfl)
theorem dX3_appendFour_4 : decode cX3_appendFour 4 = .ok (.ifCond .lt 32, 3) := dk_155 0 32 (dk_at dksX3_appendFour_0 4 rfl rfl)
theorem dX3_appendFour_7 : decode cX3_appendFour 7 = .ok (.aload_n 0, 1) := dk_42 (dk_at dksX3_appendFour_0 7 rfl rfl)
theorem dX3_appendFour_8 : decode cX3_appendFour 8 = .ok (.getfield 34, 3) := dk_180 0 34 (dk_at dksX3_appendFour_0 8 rfl rfl)
theorem dX3_appendFour_11 : decode cX3_appendFour 11 = .ok (.aload_n 0, 1) := dk_42 (dk_at dksX3_appendFour_0 11 rfl rfl)
theorem dX3_appendFour_12 : decode cX3_appendFour 12 = .ok (.getfield 270, 3) := dk_180 1 14 (dk_at dksX3_appendFour_0 12 rfl rfl)
theorem dX3_appendFour_15 : decode cX3_appendFour 15 = .ok (.iload_n 1, 1) := dk_27 (dk_at dksX3_appendFour_0 15 rfl rfl)
theorem dX3_appendFour_16 : decode cX3_appendFour 16 = .ok (.iload_n 2, 1) := dk_28 (dk_at dksX3_appendFour_0 16 rfl rfl)
theorem dX3_appendFour_17 : decode cX3_appendFour 17 = .ok (.ishr, 1) := dk_122 (dk_at dksX3_appendFour_0 17 rfl rfl)
theorem dX3_appendFour_18 : decode cX3_appendFour 18 = .ok (.i2b, 1) := dk_145 (dk_at dksX3_appendFour_0 18 rfl rfl)
theorem dX3_appendFour_19 : decode cX3_appendFour 19 = .ok (.bastore, 1) := dk_84 (dk_at dksX3_appendFour_0 19 rfl rfl)
theorem dX3_appendFour_20 : decode cX3_appendFour 20 = .ok (.aload_n 0, 1) := dk_42 (dk_at dksX3_appendFour_0 20 rfl rfl)
theorem dX3_appendFour_21 : decode cX3_appendFour 21 = .ok (.dup, 1) := dk_89 (dk_at dksX3_appendFour_0 21 rfl rfl)
theorem dX3_appendFour_22 : decode cX3_appendFour 22 = .ok (.getfield 270, 3) := dk_180 1 14 (dk_at dksX3_appendFour_1 0 rfl rfl)
theorem dX3_appendFour_25 : decode cX3_appendFour 25 = .ok (.iconst 1, 1) := dk_4 (dk_at dksX3_appendFour_1 3 rfl rfl)
theorem dX3_appendFour_26 : decode cX3_appendFour 26 = .ok (.iadd, 1) := dk_96 (dk_at dksX3_appendFour_1 4 rfl rfl)
theorem dX3_appendFour_27 : decode cX3_appendFour 27 = .ok (.putfield 270, 3) := dk_181 1 14 (dk_at dksX3_appendFour_1 5 rfl rfl)
theorem dX3_appendFour_30 : decode cX3_appendFour 30 = .ok (.iinc 2 (-8), 3) := dk_132 2 248 (dk_at dksX3_appendFour_1 8 rfl rfl)
theorem dX3_appendFour_33 : decode cX3_appendFour 33 = .ok (.goto (-30), 3) := dk_167 255 226 (dk_at dksX3_appendFour_1 11 rfl rfl)
theorem dX3_appendFour_36 : decode cX3_appendFour 36 = .ok (.return_, 1) := dk_177 (dk_at dksX3_appendFour_1 14 rfl rfl)
abbrev cX3_truncate : ByteArray := prog_13_method_79_code
def yX3_truncate : MethodName := ⟨RX3, "truncate", "(I)V"⟩
def dkwX3_truncate_0 : List UInt8 := [42, 27, 133, 9, 42, 180, 1, 14, 133, 184, 0, 70, 182, 1, 10, 153, 0, 8, 42, 27, 181, 1, 14, 177]
abbrev dktX3_truncate_0 : List UInt8 := dkwX3_truncate_0 ++ []
theorem dksX3_truncate_0 : cX3_truncate.data.toList.drop 0 = dktX3_truncate_0 := by decide +kernel
theorem dX3_truncate_0 : decode cX3_truncate 0 = .ok (.aload_n 0, 1) := dk_42 (dk_at dksX3_truncate_0 0 rfl rfl)
theorem dX3_truncate_1 : decode cX3_truncate 1 = .ok (.iload_n 1, 1) := dk_27 (dk_at dksX3_truncate_0 1 rfl rfl)
theorem dX3_truncate_2 : decode cX3_truncate 2 = .ok (.i2l, 1) := dk_133 (dk_at dksX3_truncate_0 2 rfl rfl)
theorem dX3_truncate_3 : decode cX3_truncate 3 = .ok (.lconst 0, 1) := dk_9 (dk_at dksX3_truncate_0 3 rfl rfl)
theorem dX3_truncate_4 : decode cX3_truncate 4 = .ok (.aload_n 0, 1) := dk_42 (dk_at dksX3_truncate_0 4 rfl rfl)
theorem dX3_truncate_5 : decode cX3_truncate 5 = .ok (.getfield 270, 3) := dk_180 1 14 (dk_at dksX3_truncate_0 5 rfl rfl)
theorem dX3_truncate_8 : decode cX3_truncate 8 = .ok (.i2l, 1) := dk_133 (dk_at dksX3_truncate_0 8 rfl rfl)
theorem dX3_truncate_9 : decode cX3_truncate 9 = .ok (.invokestatic 70, 3) := dk_184 0 70 (dk_at dksX3_truncate_0 9 rfl rfl)
theorem dX3_truncate_12 : decode cX3_truncate 12 = .ok (.invokevirtual 266, 3) := dk_182 1 10 (dk_at dksX3_truncate_0 12 rfl rfl)
theorem dX3_truncate_15 : decode cX3_truncate 15 = .ok (.ifCond .eq 8, 3) := dk_153 0 8 (dk_at dksX3_truncate_0 15 rfl rfl)
theorem dX3_truncate_18 : decode cX3_truncate 18 = .ok (.aload_n 0, 1) := dk_42 (dk_at dksX3_truncate_0 18 rfl rfl)
theorem dX3_truncate_19 : decode cX3_truncate 19 = .ok (.iload_n 1, 1) := dk_27 (dk_at dksX3_truncate_0 19 rfl rfl)
theorem dX3_truncate_20 : decode cX3_truncate 20 = .ok (.putfield 270, 3) := dk_181 1 14 (dk_at dksX3_truncate_0 20 rfl rfl)
theorem dX3_truncate_23 : decode cX3_truncate 23 = .ok (.return_, 1) := dk_177 (dk_at dksX3_truncate_0 23 rfl rfl)
abbrev cX3_load : ByteArray := prog_13_method_107_code
def yX3_load : MethodName := ⟨RX3, "load", "()I"⟩
def dkwX3_load_6 : List UInt8 := [47, 80, 132, 1, 1, 167, 255, 234, 42, 3, 181, 0, 138, 42, 180, 1, 133, 172]
abbrev dktX3_load_6 : List UInt8 := dkwX3_load_6 ++ []
def dkwX3_load_5 : List UInt8 := [172, 42, 182, 0, 175, 3, 60, 27, 17, 3, 38, 162, 0, 21, 42, 180, 0, 17, 27, 42, 180, 0, 21, 27]
abbrev dktX3_load_5 : List UInt8 := dkwX3_load_5 ++ dktX3_load_6
def dkwX3_load_4 : List UInt8 := [153, 0, 7, 42, 182, 1, 187, 42, 42, 180, 0, 17, 181, 0, 24, 42, 182, 1, 23, 154, 0, 6, 16, 252]
abbrev dktX3_load_4 : List UInt8 := dkwX3_load_4 ++ dktX3_load_5
def dkwX3_load_3 : List UInt8 := [182, 1, 23, 153, 0, 17, 42, 180, 1, 39, 153, 0, 10, 42, 182, 1, 184, 167, 255, 238, 42, 182, 1, 23]
abbrev dktX3_load_3 : List UInt8 := dkwX3_load_3 ++ dktX3_load_4
def dkwX3_load_2 : List UInt8 := [180, 0, 21, 181, 0, 24, 42, 182, 1, 181, 42, 180, 1, 39, 154, 0, 8, 42, 4, 182, 1, 81, 42]
abbrev dktX3_load_2 : List UInt8 := dkwX3_load_2 ++ dktX3_load_3
def dkwX3_load_1 : List UInt8 := [42, 180, 0, 21, 27, 9, 80, 132, 1, 1, 167, 255, 239, 42, 180, 0, 21, 3, 20, 0, 60, 80, 42, 42]
abbrev dktX3_load_1 : List UInt8 := dkwX3_load_1 ++ dktX3_load_2
def dkwX3_load_0 : List UInt8 := [42, 3, 181, 0, 3, 42, 3, 181, 1, 136, 42, 3, 181, 1, 133, 3, 60, 27, 17, 3, 38, 162, 0, 16]
abbrev dktX3_load_0 : List UInt8 := dkwX3_load_0 ++ dktX3_load_1
theorem dksX3_load_0 : cX3_load.data.toList.drop 0 = dktX3_load_0 := by decide +kernel
theorem dksX3_load_1 : cX3_load.data.toList.drop 24 = dktX3_load_1 := dk_seg dksX3_load_0 24 rfl rfl
theorem dksX3_load_2 : cX3_load.data.toList.drop 48 = dktX3_load_2 := dk_seg dksX3_load_1 24 rfl rfl
theorem dksX3_load_3 : cX3_load.data.toList.drop 71 = dktX3_load_3 := dk_seg dksX3_load_2 23 rfl rfl
theorem dksX3_load_4 : cX3_load.data.toList.drop 95 = dktX3_load_4 := dk_seg dksX3_load_3 24 rfl rfl
theorem dksX3_load_5 : cX3_load.data.toList.drop 119 = dktX3_load_5 := dk_seg dksX3_load_4 24 rfl rfl
theorem dksX3_load_6 : cX3_load.data.toList.drop 143 = dktX3_load_6 := dk_seg dksX3_load_5 24 rfl rfl
theorem dX3_load_0 : decode cX3_load 0 = .ok (.aload_n 0, 1) := dk_42 (dk_at dksX3_load_0 0 rfl rfl)
theorem dX3_load_1 : decode cX3_load 1 = .ok (.iconst 0, 1) := dk_3 (dk_at dksX3_load_0 1 rfl rfl)
theorem dX3_load_2 : decode cX3_load 2 = .ok (.putfield 3, 3) := dk_181 0 3 (dk_at dksX3_load_0 2 rfl rfl)
theorem dX3_load_5 : decode cX3_load 5 = .ok (.aload_n 0, 1) := dk_42 (dk_at dksX3_load_0 5 rfl rfl)
theorem dX3_load_6 : decode cX3_load 6 = .ok (.iconst 0, 1) := dk_3 (dk_at dksX3_load_0 6 rfl rfl)
theorem dX3_load_7 : decode cX3_load 7 = .ok (.putfield 392, 3) := dk_181 1 136 (dk_at dksX3_load_0 7 rfl rfl)
theorem dX3_load_10 : decode cX3_load 10 = .ok (.aload_n 0, 1) := dk_42 (dk_at dksX3_load_0 10 rfl rfl)
theorem dX3_load_11 : decode cX3_load 11 = .ok (.iconst 0, 1) := dk_3 (dk_at dksX3_load_0 11 rfl rfl)
theorem dX3_load_12 : decode cX3_load 12 = .ok (.putfield 389, 3) := dk_181 1 133 (dk_at dksX3_load_0 12 rfl rfl)
theorem dX3_load_15 : decode cX3_load 15 = .ok (.iconst 0, 1) := dk_3 (dk_at dksX3_load_0 15 rfl rfl)
theorem dX3_load_16 : decode cX3_load 16 = .ok (.istore_n 1, 1) := dk_60 (dk_at dksX3_load_0 16 rfl rfl)
theorem dX3_load_17 : decode cX3_load 17 = .ok (.iload_n 1, 1) := dk_27 (dk_at dksX3_load_0 17 rfl rfl)
theorem dX3_load_18 : decode cX3_load 18 = .ok (.sipush 806, 3) := dk_17 3 38 (dk_at dksX3_load_0 18 rfl rfl)
theorem dX3_load_21 : decode cX3_load 21 = .ok (.if_icmp .ge 16, 3) := dk_162 0 16 (dk_at dksX3_load_0 21 rfl rfl)
theorem dX3_load_24 : decode cX3_load 24 = .ok (.aload_n 0, 1) := dk_42 (dk_at dksX3_load_1 0 rfl rfl)
theorem dX3_load_25 : decode cX3_load 25 = .ok (.getfield 21, 3) := dk_180 0 21 (dk_at dksX3_load_1 1 rfl rfl)
theorem dX3_load_28 : decode cX3_load 28 = .ok (.iload_n 1, 1) := dk_27 (dk_at dksX3_load_1 4 rfl rfl)
theorem dX3_load_29 : decode cX3_load 29 = .ok (.lconst 0, 1) := dk_9 (dk_at dksX3_load_1 5 rfl rfl)
theorem dX3_load_30 : decode cX3_load 30 = .ok (.lastore, 1) := dk_80 (dk_at dksX3_load_1 6 rfl rfl)
theorem dX3_load_31 : decode cX3_load 31 = .ok (.iinc 1 1, 3) := dk_132 1 1 (dk_at dksX3_load_1 7 rfl rfl)
theorem dX3_load_34 : decode cX3_load 34 = .ok (.goto (-17), 3) := dk_167 255 239 (dk_at dksX3_load_1 10 rfl rfl)
theorem dX3_load_37 : decode cX3_load 37 = .ok (.aload_n 0, 1) := dk_42 (dk_at dksX3_load_1 13 rfl rfl)
theorem dX3_load_38 : decode cX3_load 38 = .ok (.getfield 21, 3) := dk_180 0 21 (dk_at dksX3_load_1 14 rfl rfl)
theorem dX3_load_41 : decode cX3_load 41 = .ok (.iconst 0, 1) := dk_3 (dk_at dksX3_load_1 17 rfl rfl)
theorem dX3_load_42 : decode cX3_load 42 = .ok (.ldc2_w 60, 3) := dk_20 0 60 (dk_at dksX3_load_1 18 rfl rfl)
theorem dX3_load_45 : decode cX3_load 45 = .ok (.lastore, 1) := dk_80 (dk_at dksX3_load_1 21 rfl rfl)
theorem dX3_load_46 : decode cX3_load 46 = .ok (.aload_n 0, 1) := dk_42 (dk_at dksX3_load_1 22 rfl rfl)
theorem dX3_load_47 : decode cX3_load 47 = .ok (.aload_n 0, 1) := dk_42 (dk_at dksX3_load_1 23 rfl rfl)
theorem dX3_load_48 : decode cX3_load 48 = .ok (.getfield 21, 3) := dk_180 0 21 (dk_at dksX3_load_2 0 rfl rfl)
theorem dX3_load_51 : decode cX3_load 51 = .ok (.putfield 24, 3) := dk_181 0 24 (dk_at dksX3_load_2 3 rfl rfl)
theorem dX3_load_54 : decode cX3_load 54 = .ok (.aload_n 0, 1) := dk_42 (dk_at dksX3_load_2 6 rfl rfl)
theorem dX3_load_55 : decode cX3_load 55 = .ok (.invokevirtual 437, 3) := dk_182 1 181 (dk_at dksX3_load_2 7 rfl rfl)
theorem dX3_load_58 : decode cX3_load 58 = .ok (.aload_n 0, 1) := dk_42 (dk_at dksX3_load_2 10 rfl rfl)
theorem dX3_load_59 : decode cX3_load 59 = .ok (.getfield 295, 3) := dk_180 1 39 (dk_at dksX3_load_2 11 rfl rfl)
theorem dX3_load_62 : decode cX3_load 62 = .ok (.ifCond .ne 8, 3) := dk_154 0 8 (dk_at dksX3_load_2 14 rfl rfl)
theorem dX3_load_65 : decode cX3_load 65 = .ok (.aload_n 0, 1) := dk_42 (dk_at dksX3_load_2 17 rfl rfl)
theorem dX3_load_66 : decode cX3_load 66 = .ok (.iconst 1, 1) := dk_4 (dk_at dksX3_load_2 18 rfl rfl)
theorem dX3_load_67 : decode cX3_load 67 = .ok (.invokevirtual 337, 3) := dk_182 1 81 (dk_at dksX3_load_2 19 rfl rfl)
theorem dX3_load_70 : decode cX3_load 70 = .ok (.aload_n 0, 1) := dk_42 (dk_at dksX3_load_2 22 rfl rfl)
theorem dX3_load_71 : decode cX3_load 71 = .ok (.invokevirtual 279, 3) := dk_182 1 23 (dk_at dksX3_load_3 0 rfl rfl)
theorem dX3_load_74 : decode cX3_load 74 = .ok (.ifCond .eq 17, 3) := dk_153 0 17 (dk_at dksX3_load_3 3 rfl rfl)
theorem dX3_load_77 : decode cX3_load 77 = .ok (.aload_n 0, 1) := dk_42 (dk_at dksX3_load_3 6 rfl rfl)
theorem dX3_load_78 : decode cX3_load 78 = .ok (.getfield 295, 3) := dk_180 1 39 (dk_at dksX3_load_3 7 rfl rfl)
theorem dX3_load_81 : decode cX3_load 81 = .ok (.ifCond .eq 10, 3) := dk_153 0 10 (dk_at dksX3_load_3 10 rfl rfl)
theorem dX3_load_84 : decode cX3_load 84 = .ok (.aload_n 0, 1) := dk_42 (dk_at dksX3_load_3 13 rfl rfl)
theorem dX3_load_85 : decode cX3_load 85 = .ok (.invokevirtual 440, 3) := dk_182 1 184 (dk_at dksX3_load_3 14 rfl rfl)
theorem dX3_load_88 : decode cX3_load 88 = .ok (.goto (-18), 3) := dk_167 255 238 (dk_at dksX3_load_3 17 rfl rfl)
theorem dX3_load_91 : decode cX3_load 91 = .ok (.aload_n 0, 1) := dk_42 (dk_at dksX3_load_3 20 rfl rfl)
theorem dX3_load_92 : decode cX3_load 92 = .ok (.invokevirtual 279, 3) := dk_182 1 23 (dk_at dksX3_load_3 21 rfl rfl)
theorem dX3_load_95 : decode cX3_load 95 = .ok (.ifCond .eq 7, 3) := dk_153 0 7 (dk_at dksX3_load_4 0 rfl rfl)
theorem dX3_load_98 : decode cX3_load 98 = .ok (.aload_n 0, 1) := dk_42 (dk_at dksX3_load_4 3 rfl rfl)
theorem dX3_load_99 : decode cX3_load 99 = .ok (.invokevirtual 443, 3) := dk_182 1 187 (dk_at dksX3_load_4 4 rfl rfl)
theorem dX3_load_102 : decode cX3_load 102 = .ok (.aload_n 0, 1) := dk_42 (dk_at dksX3_load_4 7 rfl rfl)
theorem dX3_load_103 : decode cX3_load 103 = .ok (.aload_n 0, 1) := dk_42 (dk_at dksX3_load_4 8 rfl rfl)
theorem dX3_load_104 : decode cX3_load 104 = .ok (.getfield 17, 3) := dk_180 0 17 (dk_at dksX3_load_4 9 rfl rfl)
theorem dX3_load_107 : decode cX3_load 107 = .ok (.putfield 24, 3) := dk_181 0 24 (dk_at dksX3_load_4 12 rfl rfl)
theorem dX3_load_110 : decode cX3_load 110 = .ok (.aload_n 0, 1) := dk_42 (dk_at dksX3_load_4 15 rfl rfl)
theorem dX3_load_111 : decode cX3_load 111 = .ok (.invokevirtual 279, 3) := dk_182 1 23 (dk_at dksX3_load_4 16 rfl rfl)
theorem dX3_load_114 : decode cX3_load 114 = .ok (.ifCond .ne 6, 3) := dk_154 0 6 (dk_at dksX3_load_4 19 rfl rfl)
theorem dX3_load_117 : decode cX3_load 117 = .ok (.bipush (-4), 2) := dk_16 252 (dk_at dksX3_load_4 22 rfl rfl)
theorem dX3_load_119 : decode cX3_load 119 = .ok (.ireturn, 1) := dk_172 (dk_at dksX3_load_5 0 rfl rfl)
theorem dX3_load_120 : decode cX3_load 120 = .ok (.aload_n 0, 1) := dk_42 (dk_at dksX3_load_5 1 rfl rfl)
theorem dX3_load_121 : decode cX3_load 121 = .ok (.invokevirtual 175, 3) := dk_182 0 175 (dk_at dksX3_load_5 2 rfl rfl)
theorem dX3_load_124 : decode cX3_load 124 = .ok (.iconst 0, 1) := dk_3 (dk_at dksX3_load_5 5 rfl rfl)
theorem dX3_load_125 : decode cX3_load 125 = .ok (.istore_n 1, 1) := dk_60 (dk_at dksX3_load_5 6 rfl rfl)
theorem dX3_load_126 : decode cX3_load 126 = .ok (.iload_n 1, 1) := dk_27 (dk_at dksX3_load_5 7 rfl rfl)
theorem dX3_load_127 : decode cX3_load 127 = .ok (.sipush 806, 3) := dk_17 3 38 (dk_at dksX3_load_5 8 rfl rfl)
theorem dX3_load_130 : decode cX3_load 130 = .ok (.if_icmp .ge 21, 3) := dk_162 0 21 (dk_at dksX3_load_5 11 rfl rfl)
theorem dX3_load_133 : decode cX3_load 133 = .ok (.aload_n 0, 1) := dk_42 (dk_at dksX3_load_5 14 rfl rfl)
theorem dX3_load_134 : decode cX3_load 134 = .ok (.getfield 17, 3) := dk_180 0 17 (dk_at dksX3_load_5 15 rfl rfl)
theorem dX3_load_137 : decode cX3_load 137 = .ok (.iload_n 1, 1) := dk_27 (dk_at dksX3_load_5 18 rfl rfl)
theorem dX3_load_138 : decode cX3_load 138 = .ok (.aload_n 0, 1) := dk_42 (dk_at dksX3_load_5 19 rfl rfl)
theorem dX3_load_139 : decode cX3_load 139 = .ok (.getfield 21, 3) := dk_180 0 21 (dk_at dksX3_load_5 20 rfl rfl)
theorem dX3_load_142 : decode cX3_load 142 = .ok (.iload_n 1, 1) := dk_27 (dk_at dksX3_load_5 23 rfl rfl)
theorem dX3_load_143 : decode cX3_load 143 = .ok (.laload, 1) := dk_47 (dk_at dksX3_load_6 0 rfl rfl)
theorem dX3_load_144 : decode cX3_load 144 = .ok (.lastore, 1) := dk_80 (dk_at dksX3_load_6 1 rfl rfl)
theorem dX3_load_145 : decode cX3_load 145 = .ok (.iinc 1 1, 3) := dk_132 1 1 (dk_at dksX3_load_6 2 rfl rfl)
theorem dX3_load_148 : decode cX3_load 148 = .ok (.goto (-22), 3) := dk_167 255 234 (dk_at dksX3_load_6 5 rfl rfl)
theorem dX3_load_151 : decode cX3_load 151 = .ok (.aload_n 0, 1) := dk_42 (dk_at dksX3_load_6 8 rfl rfl)
theorem dX3_load_152 : decode cX3_load 152 = .ok (.iconst 0, 1) := dk_3 (dk_at dksX3_load_6 9 rfl rfl)
theorem dX3_load_153 : decode cX3_load 153 = .ok (.putfield 138, 3) := dk_181 0 138 (dk_at dksX3_load_6 10 rfl rfl)
theorem dX3_load_156 : decode cX3_load 156 = .ok (.aload_n 0, 1) := dk_42 (dk_at dksX3_load_6 13 rfl rfl)
theorem dX3_load_157 : decode cX3_load 157 = .ok (.getfield 389, 3) := dk_180 1 133 (dk_at dksX3_load_6 14 rfl rfl)
theorem dX3_load_160 : decode cX3_load 160 = .ok (.ireturn, 1) := dk_172 (dk_at dksX3_load_6 17 rfl rfl)
abbrev cX3_beginText : ByteArray := prog_13_method_84_code
def yX3_beginText : MethodName := ⟨RX3, "beginText", "()V"⟩
def dkwX3_beginText_1 : List UInt8 := [2, 181, 0, 38, 42, 182, 1, 59, 177]
abbrev dktX3_beginText_1 : List UInt8 := dkwX3_beginText_1 ++ []
def dkwX3_beginText_0 : List UInt8 := [42, 42, 180, 1, 14, 181, 1, 30, 42, 3, 181, 1, 14, 42, 3, 181, 1, 33, 42, 3, 181, 1, 20, 42]
abbrev dktX3_beginText_0 : List UInt8 := dkwX3_beginText_0 ++ dktX3_beginText_1
theorem dksX3_beginText_0 : cX3_beginText.data.toList.drop 0 = dktX3_beginText_0 := by decide +kernel
theorem dksX3_beginText_1 : cX3_beginText.data.toList.drop 24 = dktX3_beginText_1 := dk_seg dksX3_beginText_0 24 rfl rfl
theorem dX3_beginText_0 : decode cX3_beginText 0 = .ok (.aload_n 0, 1) := dk_42 (dk_at dksX3_beginText_0 0 rfl rfl)
theorem dX3_beginText_1 : decode cX3_beginText 1 = .ok (.aload_n 0, 1) := dk_42 (dk_at dksX3_beginText_0 1 rfl rfl)
theorem dX3_beginText_2 : decode cX3_beginText 2 = .ok (.getfield 270, 3) := dk_180 1 14 (dk_at dksX3_beginText_0 2 rfl rfl)
theorem dX3_beginText_5 : decode cX3_beginText 5 = .ok (.putfield 286, 3) := dk_181 1 30 (dk_at dksX3_beginText_0 5 rfl rfl)
theorem dX3_beginText_8 : decode cX3_beginText 8 = .ok (.aload_n 0, 1) := dk_42 (dk_at dksX3_beginText_0 8 rfl rfl)
theorem dX3_beginText_9 : decode cX3_beginText 9 = .ok (.iconst 0, 1) := dk_3 (dk_at dksX3_beginText_0 9 rfl rfl)
theorem dX3_beginText_10 : decode cX3_beginText 10 = .ok (.putfield 270, 3) := dk_181 1 14 (dk_at dksX3_beginText_0 10 rfl rfl)
theorem dX3_beginText_13 : decode cX3_beginText 13 = .ok (.aload_n 0, 1) := dk_42 (dk_at dksX3_beginText_0 13 rfl rfl)
theorem dX3_beginText_14 : decode cX3_beginText 14 = .ok (.iconst 0, 1) := dk_3 (dk_at dksX3_beginText_0 14 rfl rfl)
theorem dX3_beginText_15 : decode cX3_beginText 15 = .ok (.putfield 289, 3) := dk_181 1 33 (dk_at dksX3_beginText_0 15 rfl rfl)
theorem dX3_beginText_18 : decode cX3_beginText 18 = .ok (.aload_n 0, 1) := dk_42 (dk_at dksX3_beginText_0 18 rfl rfl)
theorem dX3_beginText_19 : decode cX3_beginText 19 = .ok (.iconst 0, 1) := dk_3 (dk_at dksX3_beginText_0 19 rfl rfl)
theorem dX3_beginText_20 : decode cX3_beginText 20 = .ok (.putfield 276, 3) := dk_181 1 20 (dk_at dksX3_beginText_0 20 rfl rfl)
theorem dX3_beginText_23 : decode cX3_beginText 23 = .ok (.aload_n 0, 1) := dk_42 (dk_at dksX3_beginText_0 23 rfl rfl)
theorem dX3_beginText_24 : decode cX3_beginText 24 = .ok (.iconst (-1), 1) := dk_2 (dk_at dksX3_beginText_1 0 rfl rfl)
theorem dX3_beginText_25 : decode cX3_beginText 25 = .ok (.putfield 38, 3) := dk_181 0 38 (dk_at dksX3_beginText_1 1 rfl rfl)
theorem dX3_beginText_28 : decode cX3_beginText 28 = .ok (.aload_n 0, 1) := dk_42 (dk_at dksX3_beginText_1 4 rfl rfl)
theorem dX3_beginText_29 : decode cX3_beginText 29 = .ok (.invokevirtual 315, 3) := dk_182 1 59 (dk_at dksX3_beginText_1 5 rfl rfl)
theorem dX3_beginText_32 : decode cX3_beginText 32 = .ok (.return_, 1) := dk_177 (dk_at dksX3_beginText_1 8 rfl rfl)
abbrev cX3_scan : ByteArray := prog_13_method_83_code
def yX3_scan : MethodName := ⟨RX3, "scan", "()V"⟩
def dkwX3_scan_9 : List UInt8 := [167, 0, 23, 42, 6, 181, 1, 39, 42, 27, 181, 1, 50, 42, 89, 180, 1, 33, 4, 96, 181, 1, 33, 177]
abbrev dktX3_scan_9 : List UInt8 := dkwX3_scan_9 ++ []
def dkwX3_scan_8 : List UInt8 := [184, 1, 54, 181, 1, 50, 42, 89, 180, 1, 33, 4, 96, 181, 1, 33, 167, 255, 196, 42, 5, 181, 1, 39]
abbrev dktX3_scan_8 : List UInt8 := dkwX3_scan_8 ++ dktX3_scan_9
def dkwX3_scan_7 : List UInt8 := [42, 19, 1, 53, 16, 10, 42, 180, 1, 50, 104, 42, 42, 180, 1, 33, 182, 1, 36, 96, 16, 48, 100]
abbrev dktX3_scan_7 : List UInt8 := dkwX3_scan_7 ++ dktX3_scan_8
def dkwX3_scan_6 : List UInt8 := [181, 1, 50, 42, 42, 180, 1, 33, 182, 1, 36, 133, 20, 1, 46, 20, 1, 48, 184, 0, 70, 153, 0, 45]
abbrev dktX3_scan_6 : List UInt8 := dkwX3_scan_6 ++ dktX3_scan_7
def dkwX3_scan_5 : List UInt8 := [181, 1, 39, 167, 0, 113, 27, 133, 20, 1, 46, 20, 1, 48, 184, 0, 70, 153, 0, 79, 42, 3]
abbrev dktX3_scan_5 : List UInt8 := dkwX3_scan_5 ++ dktX3_scan_6
def dkwX3_scan_4 : List UInt8 := [20, 1, 44, 184, 0, 70, 153, 0, 16, 42, 89, 180, 1, 33, 4, 96, 181, 1, 33, 167, 255, 225, 42, 4]
abbrev dktX3_scan_4 : List UInt8 := dkwX3_scan_4 ++ dktX3_scan_5
def dkwX3_scan_3 : List UInt8 := [20, 1, 42, 20, 1, 44, 184, 0, 70, 153, 0, 45, 42, 42, 180, 1, 33, 182, 1, 36, 133, 20, 1, 42]
abbrev dktX3_scan_3 : List UInt8 := dkwX3_scan_3 ++ dktX3_scan_4
def dkwX3_scan_2 : List UInt8 := [42, 42, 180, 1, 33, 182, 1, 36, 60, 27, 2, 160, 0, 11, 42, 3, 181, 1, 39, 167, 0, 169, 27, 133]
abbrev dktX3_scan_2 : List UInt8 := dkwX3_scan_2 ++ dktX3_scan_3
def dkwX3_scan_1 : List UInt8 := [160, 0, 16, 42, 89, 180, 1, 33, 4, 96, 181, 1, 33, 167, 255, 220, 42, 42, 180, 1, 33, 181, 1, 27]
abbrev dktX3_scan_1 : List UInt8 := dkwX3_scan_1 ++ dktX3_scan_2
def dkwX3_scan_0 : List UInt8 := [42, 42, 180, 1, 33, 182, 1, 36, 16, 32, 159, 0, 16, 42, 42, 180, 1, 33, 182, 1, 36, 16, 10]
abbrev dktX3_scan_0 : List UInt8 := dkwX3_scan_0 ++ dktX3_scan_1
theorem dksX3_scan_0 : cX3_scan.data.toList.drop 0 = dktX3_scan_0 := by decide +kernel
theorem dksX3_scan_1 : cX3_scan.data.toList.drop 23 = dktX3_scan_1 := dk_seg dksX3_scan_0 23 rfl rfl
theorem dksX3_scan_2 : cX3_scan.data.toList.drop 47 = dktX3_scan_2 := dk_seg dksX3_scan_1 24 rfl rfl
theorem dksX3_scan_3 : cX3_scan.data.toList.drop 71 = dktX3_scan_3 := dk_seg dksX3_scan_2 24 rfl rfl
theorem dksX3_scan_4 : cX3_scan.data.toList.drop 95 = dktX3_scan_4 := dk_seg dksX3_scan_3 24 rfl rfl
theorem dksX3_scan_5 : cX3_scan.data.toList.drop 119 = dktX3_scan_5 := dk_seg dksX3_scan_4 24 rfl rfl
theorem dksX3_scan_6 : cX3_scan.data.toList.drop 141 = dktX3_scan_6 := dk_seg dksX3_scan_5 22 rfl rfl
theorem dksX3_scan_7 : cX3_scan.data.toList.drop 165 = dktX3_scan_7 := dk_seg dksX3_scan_6 24 rfl rfl
theorem dksX3_scan_8 : cX3_scan.data.toList.drop 188 = dktX3_scan_8 := dk_seg dksX3_scan_7 23 rfl rfl
theorem dksX3_scan_9 : cX3_scan.data.toList.drop 212 = dktX3_scan_9 := dk_seg dksX3_scan_8 24 rfl rfl
theorem dX3_scan_0 : decode cX3_scan 0 = .ok (.aload_n 0, 1) := dk_42 (dk_at dksX3_scan_0 0 rfl rfl)
theorem dX3_scan_1 : decode cX3_scan 1 = .ok (.aload_n 0, 1) := dk_42 (dk_at dksX3_scan_0 1 rfl rfl)
theorem dX3_scan_2 : decode cX3_scan 2 = .ok (.getfield 289, 3) := dk_180 1 33 (dk_at dksX3_scan_0 2 rfl rfl)
theorem dX3_scan_5 : decode cX3_scan 5 = .ok (.invokevirtual 292, 3) := dk_182 1 36 (dk_at dksX3_scan_0 5 rfl rfl)
theorem dX3_scan_8 : decode cX3_scan 8 = .ok (.bipush 32, 2) := dk_16 32 (dk_at dksX3_scan_0 8 rfl rfl)
theorem dX3_scan_10 : decode cX3_scan 10 = .ok (.if_icmp .eq 16, 3) := dk_159 0 16 (dk_at dksX3_scan_0 10 rfl rfl)
theorem dX3_scan_13 : decode cX3_scan 13 = .ok (.aload_n 0, 1) := dk_42 (dk_at dksX3_scan_0 13 rfl rfl)
theorem dX3_scan_14 : decode cX3_scan 14 = .ok (.aload_n 0, 1) := dk_42 (dk_at dksX3_scan_0 14 rfl rfl)
theorem dX3_scan_15 : decode cX3_scan 15 = .ok (.getfield 289, 3) := dk_180 1 33 (dk_at dksX3_scan_0 15 rfl rfl)
theorem dX3_scan_18 : decode cX3_scan 18 = .ok (.invokevirtual 292, 3) := dk_182 1 36 (dk_at dksX3_scan_0 18 rfl rfl)
theorem dX3_scan_21 : decode cX3_scan 21 = .ok (.bipush 10, 2) := dk_16 10 (dk_at dksX3_scan_0 21 rfl rfl)
theorem dX3_scan_23 : decode cX3_scan 23 = .ok (.if_icmp .ne 16, 3) := dk_160 0 16 (dk_at dksX3_scan_1 0 rfl rfl)
theorem dX3_scan_26 : decode cX3_scan 26 = .ok (.aload_n 0, 1) := dk_42 (dk_at dksX3_scan_1 3 rfl rfl)
theorem dX3_scan_27 : decode cX3_scan 27 = .ok (.dup, 1) := dk_89 (dk_at dksX3_scan_1 4 rfl rfl)
theorem dX3_scan_28 : decode cX3_scan 28 = .ok (.getfield 289, 3) := dk_180 1 33 (dk_at dksX3_scan_1 5 rfl rfl)
theorem dX3_scan_31 : decode cX3_scan 31 = .ok (.iconst 1, 1) := dk_4 (dk_at dksX3_scan_1 8 rfl rfl)
theorem dX3_scan_32 : decode cX3_scan 32 = .ok (.iadd, 1) := dk_96 (dk_at dksX3_scan_1 9 rfl rfl)
theorem dX3_scan_33 : decode cX3_scan 33 = .ok (.putfield 289, 3) := dk_181 1 33 (dk_at dksX3_scan_1 10 rfl rfl)
theorem dX3_scan_36 : decode cX3_scan 36 = .ok (.goto (-36), 3) := dk_167 255 220 (dk_at dksX3_scan_1 13 rfl rfl)
theorem dX3_scan_39 : decode cX3_scan 39 = .ok (.aload_n 0, 1) := dk_42 (dk_at dksX3_scan_1 16 rfl rfl)
theorem dX3_scan_40 : decode cX3_scan 40 = .ok (.aload_n 0, 1) := dk_42 (dk_at dksX3_scan_1 17 rfl rfl)
theorem dX3_scan_41 : decode cX3_scan 41 = .ok (.getfield 289, 3) := dk_180 1 33 (dk_at dksX3_scan_1 18 rfl rfl)
theorem dX3_scan_44 : decode cX3_scan 44 = .ok (.putfield 283, 3) := dk_181 1 27 (dk_at dksX3_scan_1 21 rfl rfl)
theorem dX3_scan_47 : decode cX3_scan 47 = .ok (.aload_n 0, 1) := dk_42 (dk_at dksX3_scan_2 0 rfl rfl)
theorem dX3_scan_48 : decode cX3_scan 48 = .ok (.aload_n 0, 1) := dk_42 (dk_at dksX3_scan_2 1 rfl rfl)
theorem dX3_scan_49 : decode cX3_scan 49 = .ok (.getfield 289, 3) := dk_180 1 33 (dk_at dksX3_scan_2 2 rfl rfl)
theorem dX3_scan_52 : decode cX3_scan 52 = .ok (.invokevirtual 292, 3) := dk_182 1 36 (dk_at dksX3_scan_2 5 rfl rfl)
theorem dX3_scan_55 : decode cX3_scan 55 = .ok (.istore_n 1, 1) := dk_60 (dk_at dksX3_scan_2 8 rfl rfl)
theorem dX3_scan_56 : decode cX3_scan 56 = .ok (.iload_n 1, 1) := dk_27 (dk_at dksX3_scan_2 9 rfl rfl)
theorem dX3_scan_57 : decode cX3_scan 57 = .ok (.iconst (-1), 1) := dk_2 (dk_at dksX3_scan_2 10 rfl rfl)
theorem dX3_scan_58 : decode cX3_scan 58 = .ok (.if_icmp .ne 11, 3) := dk_160 0 11 (dk_at dksX3_scan_2 11 rfl rfl)
theorem dX3_scan_61 : decode cX3_scan 61 = .ok (.aload_n 0, 1) := dk_42 (dk_at dksX3_scan_2 14 rfl rfl)
theorem dX3_scan_62 : decode cX3_scan 62 = .ok (.iconst 0, 1) := dk_3 (dk_at dksX3_scan_2 15 rfl rfl)
theorem dX3_scan_63 : decode cX3_scan 63 = .ok (.putfield 295, 3) := dk_181 1 39 (dk_at dksX3_scan_2 16 rfl rfl)
theorem dX3_scan_66 : decode cX3_scan 66 = .ok (.goto 169, 3) := dk_167 0 169 (dk_at dksX3_scan_2 19 rfl rfl)
theorem dX3_scan_69 : decode cX3_scan 69 = .ok (.iload_n 1, 1) := dk_27 (dk_at dksX3_scan_2 22 rfl rfl)
theorem dX3_scan_70 : decode cX3_scan 70 = .ok (.i2l, 1) := dk_133 (dk_at dksX3_scan_2 23 rfl rfl)
theorem dX3_scan_71 : decode cX3_scan 71 = .ok (.ldc2_w 298, 3) := dk_20 1 42 (dk_at dksX3_scan_3 0 rfl rfl)
theorem dX3_scan_74 : decode cX3_scan 74 = .ok (.ldc2_w 300, 3) := dk_20 1 44 (dk_at dksX3_scan_3 3 rfl rfl)
theorem dX3_scan_77 : decode cX3_scan 77 = .ok (.invokestatic 70, 3) := dk_184 0 70 (dk_at dksX3_scan_3 6 rfl rfl)
theorem dX3_scan_80 : decode cX3_scan 80 = .ok (.ifCond .eq 45, 3) := dk_153 0 45 (dk_at dksX3_scan_3 9 rfl rfl)
theorem dX3_scan_83 : decode cX3_scan 83 = .ok (.aload_n 0, 1) := dk_42 (dk_at dksX3_scan_3 12 rfl rfl)
theorem dX3_scan_84 : decode cX3_scan 84 = .ok (.aload_n 0, 1) := dk_42 (dk_at dksX3_scan_3 13 rfl rfl)
theorem dX3_scan_85 : decode cX3_scan 85 = .ok (.getfield 289, 3) := dk_180 1 33 (dk_at dksX3_scan_3 14 rfl rfl)
theorem dX3_scan_88 : decode cX3_scan 88 = .ok (.invokevirtual 292, 3) := dk_182 1 36 (dk_at dksX3_scan_3 17 rfl rfl)
theorem dX3_scan_91 : decode cX3_scan 91 = .ok (.i2l, 1) := dk_133 (dk_at dksX3_scan_3 20 rfl rfl)
theorem dX3_scan_92 : decode cX3_scan 92 = .ok (.ldc2_w 298, 3) := dk_20 1 42 (dk_at dksX3_scan_3 21 rfl rfl)
theorem dX3_scan_95 : decode cX3_scan 95 = .ok (.ldc2_w 300, 3) := dk_20 1 44 (dk_at dksX3_scan_4 0 rfl rfl)
theorem dX3_scan_98 : decode cX3_scan 98 = .ok (.invokestatic 70, 3) := dk_184 0 70 (dk_at dksX3_scan_4 3 rfl rfl)
theorem dX3_scan_101 : decode cX3_scan 101 = .ok (.ifCond .eq 16, 3) := dk_153 0 16 (dk_at dksX3_scan_4 6 rfl rfl)
theorem dX3_scan_104 : decode cX3_scan 104 = .ok (.aload_n 0, 1) := dk_42 (dk_at dksX3_scan_4 9 rfl rfl)
theorem dX3_scan_105 : decode cX3_scan 105 = .ok (.dup, 1) := dk_89 (dk_at dksX3_scan_4 10 rfl rfl)
theorem dX3_scan_106 : decode cX3_scan 106 = .ok (.getfield 289, 3) := dk_180 1 33 (dk_at dksX3_scan_4 11 rfl rfl)
theorem dX3_scan_109 : decode cX3_scan 109 = .ok (.iconst 1, 1) := dk_4 (dk_at dksX3_scan_4 14 rfl rfl)
theorem dX3_scan_110 : decode cX3_scan 110 = .ok (.iadd, 1) := dk_96 (dk_at dksX3_scan_4 15 rfl rfl)
theorem dX3_scan_111 : decode cX3_scan 111 = .ok (.putfield 289, 3) := dk_181 1 33 (dk_at dksX3_scan_4 16 rfl rfl)
theorem dX3_scan_114 : decode cX3_scan 114 = .ok (.goto (-31), 3) := dk_167 255 225 (dk_at dksX3_scan_4 19 rfl rfl)
theorem dX3_scan_117 : decode cX3_scan 117 = .ok (.aload_n 0, 1) := dk_42 (dk_at dksX3_scan_4 22 rfl rfl)
theorem dX3_scan_118 : decode cX3_scan 118 = .ok (.iconst 1, 1) := dk_4 (dk_at dksX3_scan_4 23 rfl rfl)
theorem dX3_scan_119 : decode cX3_scan 119 = .ok (.putfield 295, 3) := dk_181 1 39 (dk_at dksX3_scan_5 0 rfl rfl)
theorem dX3_scan_122 : decode cX3_scan 122 = .ok (.goto 113, 3) := dk_167 0 113 (dk_at dksX3_scan_5 3 rfl rfl)
theorem dX3_scan_125 : decode cX3_scan 125 = .ok (.iload_n 1, 1) := dk_27 (dk_at dksX3_scan_5 6 rfl rfl)
theorem dX3_scan_126 : decode cX3_scan 126 = .ok (.i2l, 1) := dk_133 (dk_at dksX3_scan_5 7 rfl rfl)
theorem dX3_scan_127 : decode cX3_scan 127 = .ok (.ldc2_w 302, 3) := dk_20 1 46 (dk_at dksX3_scan_5 8 rfl rfl)
theorem dX3_scan_130 : decode cX3_scan 130 = .ok (.ldc2_w 304, 3) := dk_20 1 48 (dk_at dksX3_scan_5 11 rfl rfl)
theorem dX3_scan_133 : decode cX3_scan 133 = .ok (.invokestatic 70, 3) := dk_184 0 70 (dk_at dksX3_scan_5 14 rfl rfl)
theorem dX3_scan_136 : decode cX3_scan 136 = .ok (.ifCond .eq 79, 3) := dk_153 0 79 (dk_at dksX3_scan_5 17 rfl rfl)
theorem dX3_scan_139 : decode cX3_scan 139 = .ok (.aload_n 0, 1) := dk_42 (dk_at dksX3_scan_5 20 rfl rfl)
theorem dX3_scan_140 : decode cX3_scan 140 = .ok (.iconst 0, 1) := dk_3 (dk_at dksX3_scan_5 21 rfl rfl)
theorem dX3_scan_141 : decode cX3_scan 141 = .ok (.putfield 306, 3) := dk_181 1 50 (dk_at dksX3_scan_6 0 rfl rfl)
theorem dX3_scan_144 : decode cX3_scan 144 = .ok (.aload_n 0, 1) := dk_42 (dk_at dksX3_scan_6 3 rfl rfl)
theorem dX3_scan_145 : decode cX3_scan 145 = .ok (.aload_n 0, 1) := dk_42 (dk_at dksX3_scan_6 4 rfl rfl)
theorem dX3_scan_146 : decode cX3_scan 146 = .ok (.getfield 289, 3) := dk_180 1 33 (dk_at dksX3_scan_6 5 rfl rfl)
theorem dX3_scan_149 : decode cX3_scan 149 = .ok (.invokevirtual 292, 3) := dk_182 1 36 (dk_at dksX3_scan_6 8 rfl rfl)
theorem dX3_scan_152 : decode cX3_scan 152 = .ok (.i2l, 1) := dk_133 (dk_at dksX3_scan_6 11 rfl rfl)
theorem dX3_scan_153 : decode cX3_scan 153 = .ok (.ldc2_w 302, 3) := dk_20 1 46 (dk_at dksX3_scan_6 12 rfl rfl)
theorem dX3_scan_156 : decode cX3_scan 156 = .ok (.ldc2_w 304, 3) := dk_20 1 48 (dk_at dksX3_scan_6 15 rfl rfl)
theorem dX3_scan_159 : decode cX3_scan 159 = .ok (.invokestatic 70, 3) := dk_184 0 70 (dk_at dksX3_scan_6 18 rfl rfl)
theorem dX3_scan_162 : decode cX3_scan 162 = .ok (.ifCond .eq 45, 3) := dk_153 0 45 (dk_at dksX3_scan_6 21 rfl rfl)
theorem dX3_scan_165 : decode cX3_scan 165 = .ok (.aload_n 0, 1) := dk_42 (dk_at dksX3_scan_7 0 rfl rfl)
theorem dX3_scan_166 : decode cX3_scan 166 = .ok (.ldc_w 309, 3) := dk_19 1 53 (dk_at dksX3_scan_7 1 rfl rfl)
theorem dX3_scan_169 : decode cX3_scan 169 = .ok (.bipush 10, 2) := dk_16 10 (dk_at dksX3_scan_7 4 rfl rfl)
theorem dX3_scan_171 : decode cX3_scan 171 = .ok (.aload_n 0, 1) := dk_42 (dk_at dksX3_scan_7 6 rfl rfl)
theorem dX3_scan_172 : decode cX3_scan 172 = .ok (.getfield 306, 3) := dk_180 1 50 (dk_at dksX3_scan_7 7 rfl rfl)
theorem dX3_scan_175 : decode cX3_scan 175 = .ok (.imul, 1) := dk_104 (dk_at dksX3_scan_7 10 rfl rfl)
theorem dX3_scan_176 : decode cX3_scan 176 = .ok (.aload_n 0, 1) := dk_42 (dk_at dksX3_scan_7 11 rfl rfl)
theorem dX3_scan_177 : decode cX3_scan 177 = .ok (.aload_n 0, 1) := dk_42 (dk_at dksX3_scan_7 12 rfl rfl)
theorem dX3_scan_178 : decode cX3_scan 178 = .ok (.getfield 289, 3) := dk_180 1 33 (dk_at dksX3_scan_7 13 rfl rfl)
theorem dX3_scan_181 : decode cX3_scan 181 = .ok (.invokevirtual 292, 3) := dk_182 1 36 (dk_at dksX3_scan_7 16 rfl rfl)
theorem dX3_scan_184 : decode cX3_scan 184 = .ok (.iadd, 1) := dk_96 (dk_at dksX3_scan_7 19 rfl rfl)
theorem dX3_scan_185 : decode cX3_scan 185 = .ok (.bipush 48, 2) := dk_16 48 (dk_at dksX3_scan_7 20 rfl rfl)
theorem dX3_scan_187 : decode cX3_scan 187 = .ok (.isub, 1) := dk_100 (dk_at dksX3_scan_7 22 rfl rfl)
theorem dX3_scan_188 : decode cX3_scan 188 = .ok (.invokestatic 310, 3) := dk_184 1 54 (dk_at dksX3_scan_8 0 rfl rfl)
theorem dX3_scan_191 : decode cX3_scan 191 = .ok (.putfield 306, 3) := dk_181 1 50 (dk_at dksX3_scan_8 3 rfl rfl)
theorem dX3_scan_194 : decode cX3_scan 194 = .ok (.aload_n 0, 1) := dk_42 (dk_at dksX3_scan_8 6 rfl rfl)
theorem dX3_scan_195 : decode cX3_scan 195 = .ok (.dup, 1) := dk_89 (dk_at dksX3_scan_8 7 rfl rfl)
theorem dX3_scan_196 : decode cX3_scan 196 = .ok (.getfield 289, 3) := dk_180 1 33 (dk_at dksX3_scan_8 8 rfl rfl)
theorem dX3_scan_199 : decode cX3_scan 199 = .ok (.iconst 1, 1) := dk_4 (dk_at dksX3_scan_8 11 rfl rfl)
theorem dX3_scan_200 : decode cX3_scan 200 = .ok (.iadd, 1) := dk_96 (dk_at dksX3_scan_8 12 rfl rfl)
theorem dX3_scan_201 : decode cX3_scan 201 = .ok (.putfield 289, 3) := dk_181 1 33 (dk_at dksX3_scan_8 13 rfl rfl)
theorem dX3_scan_204 : decode cX3_scan 204 = .ok (.goto (-60), 3) := dk_167 255 196 (dk_at dksX3_scan_8 16 rfl rfl)
theorem dX3_scan_207 : decode cX3_scan 207 = .ok (.aload_n 0, 1) := dk_42 (dk_at dksX3_scan_8 19 rfl rfl)
theorem dX3_scan_208 : decode cX3_scan 208 = .ok (.iconst 2, 1) := dk_5 (dk_at dksX3_scan_8 20 rfl rfl)
theorem dX3_scan_209 : decode cX3_scan 209 = .ok (.putfield 295, 3) := dk_181 1 39 (dk_at dksX3_scan_8 21 rfl rfl)
theorem dX3_scan_212 : decode cX3_scan 212 = .ok (.goto 23, 3) := dk_167 0 23 (dk_at dksX3_scan_9 0 rfl rfl)
theorem dX3_scan_215 : decode cX3_scan 215 = .ok (.aload_n 0, 1) := dk_42 (dk_at dksX3_scan_9 3 rfl rfl)
theorem dX3_scan_216 : decode cX3_scan 216 = .ok (.iconst 3, 1) := dk_6 (dk_at dksX3_scan_9 4 rfl rfl)
theorem dX3_scan_217 : decode cX3_scan 217 = .ok (.putfield 295, 3) := dk_181 1 39 (dk_at dksX3_scan_9 5 rfl rfl)
theorem dX3_scan_220 : decode cX3_scan 220 = .ok (.aload_n 0, 1) := dk_42 (dk_at dksX3_scan_9 8 rfl rfl)
theorem dX3_scan_221 : decode cX3_scan 221 = .ok (.iload_n 1, 1) := dk_27 (dk_at dksX3_scan_9 9 rfl rfl)
theorem dX3_scan_222 : decode cX3_scan 222 = .ok (.putfield 306, 3) := dk_181 1 50 (dk_at dksX3_scan_9 10 rfl rfl)
theorem dX3_scan_225 : decode cX3_scan 225 = .ok (.aload_n 0, 1) := dk_42 (dk_at dksX3_scan_9 13 rfl rfl)
theorem dX3_scan_226 : decode cX3_scan 226 = .ok (.dup, 1) := dk_89 (dk_at dksX3_scan_9 14 rfl rfl)
theorem dX3_scan_227 : decode cX3_scan 227 = .ok (.getfield 289, 3) := dk_180 1 33 (dk_at dksX3_scan_9 15 rfl rfl)
theorem dX3_scan_230 : decode cX3_scan 230 = .ok (.iconst 1, 1) := dk_4 (dk_at dksX3_scan_9 18 rfl rfl)
theorem dX3_scan_231 : decode cX3_scan 231 = .ok (.iadd, 1) := dk_96 (dk_at dksX3_scan_9 19 rfl rfl)
theorem dX3_scan_232 : decode cX3_scan 232 = .ok (.putfield 289, 3) := dk_181 1 33 (dk_at dksX3_scan_9 20 rfl rfl)
theorem dX3_scan_235 : decode cX3_scan 235 = .ok (.return_, 1) := dk_177 (dk_at dksX3_scan_9 23 rfl rfl)
abbrev cX3_byteAt : ByteArray := prog_13_method_82_code
def yX3_byteAt : MethodName := ⟨RX3, "byteAt", "(I)I"⟩
def dkwX3_byteAt_0 : List UInt8 := [27, 42, 180, 1, 30, 162, 0, 16, 42, 180, 0, 34, 27, 51, 17, 0, 255, 126, 167, 0, 4, 2, 172]
abbrev dktX3_byteAt_0 : List UInt8 := dkwX3_byteAt_0 ++ []
theorem dksX3_byteAt_0 : cX3_byteAt.data.toList.drop 0 = dktX3_byteAt_0 := by decide +kernel
theorem dX3_byteAt_0 : decode cX3_byteAt 0 = .ok (.iload_n 1, 1) := dk_27 (dk_at dksX3_byteAt_0 0 rfl rfl)
theorem dX3_byteAt_1 : decode cX3_byteAt 1 = .ok (.aload_n 0, 1) := dk_42 (dk_at dksX3_byteAt_0 1 rfl rfl)
theorem dX3_byteAt_2 : decode cX3_byteAt 2 = .ok (.getfield 286, 3) := dk_180 1 30 (dk_at dksX3_byteAt_0 2 rfl rfl)
theorem dX3_byteAt_5 : decode cX3_byteAt 5 = .ok (.if_icmp .ge 16, 3) := dk_162 0 16 (dk_at dksX3_byteAt_0 5 rfl rfl)
theorem dX3_byteAt_8 : decode cX3_byteAt 8 = .ok (.aload_n 0, 1) := dk_42 (dk_at dksX3_byteAt_0 8 rfl rfl)
theorem dX3_byteAt_9 : decode cX3_byteAt 9 = .ok (.getfield 34, 3) := dk_180 0 34 (dk_at dksX3_byteAt_0 9 rfl rfl)
theorem dX3_byteAt_12 : decode cX3_byteAt 12 = .ok (.iload_n 1, 1) := dk_27 (dk_at dksX3_byteAt_0 12 rfl rfl)
theorem dX3_byteAt_13 : decode cX3_byteAt 13 = .ok (.baload, 1) := dk_51 (dk_at dksX3_byteAt_0 13 rfl rfl)
theorem dX3_byteAt_14 : decode cX3_byteAt 14 = .ok (.sipush 255, 3) := dk_17 0 255 (dk_at dksX3_byteAt_0 14 rfl rfl)
theorem dX3_byteAt_17 : decode cX3_byteAt 17 = .ok (.iand, 1) := dk_126 (dk_at dksX3_byteAt_0 17 rfl rfl)
theorem dX3_byteAt_18 : decode cX3_byteAt 18 = .ok (.goto 4, 3) := dk_167 0 4 (dk_at dksX3_byteAt_0 18 rfl rfl)
theorem dX3_byteAt_21 : decode cX3_byteAt 21 = .ok (.iconst (-1), 1) := dk_2 (dk_at dksX3_byteAt_0 21 rfl rfl)
theorem dX3_byteAt_22 : decode cX3_byteAt 22 = .ok (.ireturn, 1) := dk_172 (dk_at dksX3_byteAt_0 22 rfl rfl)
abbrev cX3_errs : ByteArray := prog_13_method_81_code
def yX3_errs : MethodName := ⟨RX3, "errs", "(I)V"⟩
def dkwX3_errs_0 : List UInt8 := [42, 182, 1, 23, 154, 0, 4, 177, 42, 27, 181, 1, 20, 42, 42, 180, 1, 27, 181, 0, 38, 177]
abbrev dktX3_errs_0 : List UInt8 := dkwX3_errs_0 ++ []
theorem dksX3_errs_0 : cX3_errs.data.toList.drop 0 = dktX3_errs_0 := by decide +kernel
theorem dX3_errs_0 : decode cX3_errs 0 = .ok (.aload_n 0, 1) := dk_42 (dk_at dksX3_errs_0 0 rfl rfl)
theorem dX3_errs_1 : decode cX3_errs 1 = .ok (.invokevirtual 279, 3) := dk_182 1 23 (dk_at dksX3_errs_0 1 rfl rfl)
theorem dX3_errs_4 : decode cX3_errs 4 = .ok (.ifCond .ne 4, 3) := dk_154 0 4 (dk_at dksX3_errs_0 4 rfl rfl)
theorem dX3_errs_7 : decode cX3_errs 7 = .ok (.return_, 1) := dk_177 (dk_at dksX3_errs_0 7 rfl rfl)
theorem dX3_errs_8 : decode cX3_errs 8 = .ok (.aload_n 0, 1) := dk_42 (dk_at dksX3_errs_0 8 rfl rfl)
theorem dX3_errs_9 : decode cX3_errs 9 = .ok (.iload_n 1, 1) := dk_27 (dk_at dksX3_errs_0 9 rfl rfl)
theorem dX3_errs_10 : decode cX3_errs 10 = .ok (.putfield 276, 3) := dk_181 1 20 (dk_at dksX3_errs_0 10 rfl rfl)
theorem dX3_errs_13 : decode cX3_errs 13 = .ok (.aload_n 0, 1) := dk_42 (dk_at dksX3_errs_0 13 rfl rfl)
theorem dX3_errs_14 : decode cX3_errs 14 = .ok (.aload_n 0, 1) := dk_42 (dk_at dksX3_errs_0 14 rfl rfl)
theorem dX3_errs_15 : decode cX3_errs 15 = .ok (.getfield 283, 3) := dk_180 1 27 (dk_at dksX3_errs_0 15 rfl rfl)
theorem dX3_errs_18 : decode cX3_errs 18 = .ok (.putfield 38, 3) := dk_181 0 38 (dk_at dksX3_errs_0 18 rfl rfl)
theorem dX3_errs_21 : decode cX3_errs 21 = .ok (.return_, 1) := dk_177 (dk_at dksX3_errs_0 21 rfl rfl)
abbrev cX3_good : ByteArray := prog_13_method_80_code
def yX3_good : MethodName := ⟨RX3, "good", "()Z"⟩
def dkwX3_good_0 : List UInt8 := [42, 180, 1, 20, 154, 0, 7, 4, 167, 0, 4, 3, 172]
abbrev dktX3_good_0 : List UInt8 := dkwX3_good_0 ++ []
theorem dksX3_good_0 : cX3_good.data.toList.drop 0 = dktX3_good_0 := by decide +kernel
theorem dX3_good_0 : decode cX3_good 0 = .ok (.aload_n 0, 1) := dk_42 (dk_at dksX3_good_0 0 rfl rfl)
theorem dX3_good_1 : decode cX3_good 1 = .ok (.getfield 276, 3) := dk_180 1 20 (dk_at dksX3_good_0 1 rfl rfl)
theorem dX3_good_4 : decode cX3_good 4 = .ok (.ifCond .ne 7, 3) := dk_154 0 7 (dk_at dksX3_good_0 4 rfl rfl)
theorem dX3_good_7 : decode cX3_good 7 = .ok (.iconst 1, 1) := dk_4 (dk_at dksX3_good_0 7 rfl rfl)
theorem dX3_good_8 : decode cX3_good 8 = .ok (.goto 4, 3) := dk_167 0 4 (dk_at dksX3_good_0 8 rfl rfl)
theorem dX3_good_11 : decode cX3_good 11 = .ok (.iconst 0, 1) := dk_3 (dk_at dksX3_good_0 11 rfl rfl)
theorem dX3_good_12 : decode cX3_good 12 = .ok (.ireturn, 1) := dk_172 (dk_at dksX3_good_0 12 rfl rfl)
abbrev cX3_parseStatement : ByteArray := prog_13_method_105_code
def yX3_parseStatement : MethodName := ⟨RX3, "parseStatement", "()V"⟩
def dkwX3_parseStatement_3 : List UInt8 := [182, 1, 81, 42, 16, 59, 182, 1, 178, 177]
abbrev dktX3_parseStatement_3 : List UInt8 := dkwX3_parseStatement_3 ++ []
def dkwX3_parseStatement_2 : List UInt8 := [167, 0, 25, 42, 19, 1, 104, 182, 1, 71, 153, 0, 10, 42, 182, 1, 175, 167, 0, 8, 42, 4]
abbrev dktX3_parseStatement_2 : List UInt8 := dkwX3_parseStatement_2 ++ dktX3_parseStatement_3
def dkwX3_parseStatement_1 : List UInt8 := [153, 0, 10, 42, 182, 1, 169, 167, 0, 42, 42, 19, 1, 100, 182, 1, 71, 153, 0, 10, 42, 182, 1, 172]
abbrev dktX3_parseStatement_1 : List UInt8 := dkwX3_parseStatement_1 ++ dktX3_parseStatement_2
def dkwX3_parseStatement_0 : List UInt8 := [42, 19, 1, 96, 182, 1, 71, 153, 0, 10, 42, 182, 1, 166, 167, 0, 59, 42, 19, 1, 98, 182, 1, 71]
abbrev dktX3_parseStatement_0 : List UInt8 := dkwX3_parseStatement_0 ++ dktX3_parseStatement_1
theorem dksX3_parseStatement_0 : cX3_parseStatement.data.toList.drop 0 = dktX3_parseStatement_0 := by decide +kernel
theorem dksX3_parseStatement_1 : cX3_parseStatement.data.toList.drop 24 = dktX3_parseStatement_1 := dk_seg dksX3_parseStatement_0 24 rfl rfl
theorem dksX3_parseStatement_2 : cX3_parseStatement.data.toList.drop 48 = dktX3_parseStatement_2 := dk_seg dksX3_parseStatement_1 24 rfl rfl
theorem dksX3_parseStatement_3 : cX3_parseStatement.data.toList.drop 70 = dktX3_parseStatement_3 := dk_seg dksX3_parseStatement_2 22 rfl rfl
theorem dX3_parseStatement_0 : decode cX3_parseStatement 0 = .ok (.aload_n 0, 1) := dk_42 (dk_at dksX3_parseStatement_0 0 rfl rfl)
theorem dX3_parseStatement_1 : decode cX3_parseStatement 1 = .ok (.ldc_w 352, 3) := dk_19 1 96 (dk_at dksX3_parseStatement_0 1 rfl rfl)
theorem dX3_parseStatement_4 : decode cX3_parseStatement 4 = .ok (.invokevirtual 327, 3) := dk_182 1 71 (dk_at dksX3_parseStatement_0 4 rfl rfl)
theorem dX3_parseStatement_7 : decode cX3_parseStatement 7 = .ok (.ifCond .eq 10, 3) := dk_153 0 10 (dk_at dksX3_parseStatement_0 7 rfl rfl)
theorem dX3_parseStatement_10 : decode cX3_parseStatement 10 = .ok (.aload_n 0, 1) := dk_42 (dk_at dksX3_parseStatement_0 10 rfl rfl)
theorem dX3_parseStatement_11 : decode cX3_parseStatement 11 = .ok (.invokevirtual 422, 3) := dk_182 1 166 (dk_at dksX3_parseStatement_0 11 rfl rfl)
theorem dX3_parseStatement_14 : decode cX3_parseStatement 14 = .ok (.goto 59, 3) := dk_167 0 59 (dk_at dksX3_parseStatement_0 14 rfl rfl)
theorem dX3_parseStatement_17 : decode cX3_parseStatement 17 = .ok (.aload_n 0, 1) := dk_42 (dk_at dksX3_parseStatement_0 17 rfl rfl)
theorem dX3_parseStatement_18 : decode cX3_parseStatement 18 = .ok (.ldc_w 354, 3) := dk_19 1 98 (dk_at dksX3_parseStatement_0 18 rfl rfl)
theorem dX3_parseStatement_21 : decode cX3_parseStatement 21 = .ok (.invokevirtual 327, 3) := dk_182 1 71 (dk_at dksX3_parseStatement_0 21 rfl rfl)
theorem dX3_parseStatement_24 : decode cX3_parseStatement 24 = .ok (.ifCond .eq 10, 3) := dk_153 0 10 (dk_at dksX3_parseStatement_1 0 rfl rfl)
theorem dX3_parseStatement_27 : decode cX3_parseStatement 27 = .ok (.aload_n 0, 1) := dk_42 (dk_at dksX3_parseStatement_1 3 rfl rfl)
theorem dX3_parseStatement_28 : decode cX3_parseStatement 28 = .ok (.invokevirtual 425, 3) := dk_182 1 169 (dk_at dksX3_parseStatement_1 4 rfl rfl)
theorem dX3_parseStatement_31 : decode cX3_parseStatement 31 = .ok (.goto 42, 3) := dk_167 0 42 (dk_at dksX3_parseStatement_1 7 rfl rfl)
theorem dX3_parseStatement_34 : decode cX3_parseStatement 34 = .ok (.aload_n 0, 1) := dk_42 (dk_at dksX3_parseStatement_1 10 rfl rfl)
theorem dX3_parseStatement_35 : decode cX3_parseStatement 35 = .ok (.ldc_w 356, 3) := dk_19 1 100 (dk_at dksX3_parseStatement_1 11 rfl rfl)
theorem dX3_parseStatement_38 : decode cX3_parseStatement 38 = .ok (.invokevirtual 327, 3) := dk_182 1 71 (dk_at dksX3_parseStatement_1 14 rfl rfl)
theorem dX3_parseStatement_41 : decode cX3_parseStatement 41 = .ok (.ifCond .eq 10, 3) := dk_153 0 10 (dk_at dksX3_parseStatement_1 17 rfl rfl)
theorem dX3_parseStatement_44 : decode cX3_parseStatement 44 = .ok (.aload_n 0, 1) := dk_42 (dk_at dksX3_parseStatement_1 20 rfl rfl)
theorem dX3_parseStatement_45 : decode cX3_parseStatement 45 = .ok (.invokevirtual 428, 3) := dk_182 1 172 (dk_at dksX3_parseStatement_1 21 rfl rfl)
theorem dX3_parseStatement_48 : decode cX3_parseStatement 48 = .ok (.goto 25, 3) := dk_167 0 25 (dk_at dksX3_parseStatement_2 0 rfl rfl)
theorem dX3_parseStatement_51 : decode cX3_parseStatement 51 = .ok (.aload_n 0, 1) := dk_42 (dk_at dksX3_parseStatement_2 3 rfl rfl)
theorem dX3_parseStatement_52 : decode cX3_parseStatement 52 = .ok (.ldc_w 360, 3) := dk_19 1 104 (dk_at dksX3_parseStatement_2 4 rfl rfl)
theorem dX3_parseStatement_55 : decode cX3_parseStatement 55 = .ok (.invokevirtual 327, 3) := dk_182 1 71 (dk_at dksX3_parseStatement_2 7 rfl rfl)
theorem dX3_parseStatement_58 : decode cX3_parseStatement 58 = .ok (.ifCond .eq 10, 3) := dk_153 0 10 (dk_at dksX3_parseStatement_2 10 rfl rfl)
theorem dX3_parseStatement_61 : decode cX3_parseStatement 61 = .ok (.aload_n 0, 1) := dk_42 (dk_at dksX3_parseStatement_2 13 rfl rfl)
theorem dX3_parseStatement_62 : decode cX3_parseStatement 62 = .ok (.invokevirtual 431, 3) := dk_182 1 175 (dk_at dksX3_parseStatement_2 14 rfl rfl)
theorem dX3_parseStatement_65 : decode cX3_parseStatement 65 = .ok (.goto 8, 3) := dk_167 0 8 (dk_at dksX3_parseStatement_2 17 rfl rfl)
theorem dX3_parseStatement_68 : decode cX3_parseStatement 68 = .ok (.aload_n 0, 1) := dk_42 (dk_at dksX3_parseStatement_2 20 rfl rfl)
theorem dX3_parseStatement_69 : decode cX3_parseStatement 69 = .ok (.iconst 1, 1) := dk_4 (dk_at dksX3_parseStatement_2 21 rfl rfl)
theorem dX3_parseStatement_70 : decode cX3_parseStatement 70 = .ok (.invokevirtual 337, 3) := dk_182 1 81 (dk_at dksX3_parseStatement_3 0 rfl rfl)
theorem dX3_parseStatement_73 : decode cX3_parseStatement 73 = .ok (.aload_n 0, 1) := dk_42 (dk_at dksX3_parseStatement_3 3 rfl rfl)
theorem dX3_parseStatement_74 : decode cX3_parseStatement 74 = .ok (.bipush 59, 2) := dk_16 59 (dk_at dksX3_parseStatement_3 4 rfl rfl)
theorem dX3_parseStatement_76 : decode cX3_parseStatement 76 = .ok (.invokevirtual 434, 3) := dk_182 1 178 (dk_at dksX3_parseStatement_3 6 rfl rfl)
theorem dX3_parseStatement_79 : decode cX3_parseStatement 79 = .ok (.return_, 1) := dk_177 (dk_at dksX3_parseStatement_3 9 rfl rfl)
abbrev cX3_isWord : ByteArray := prog_13_method_86_code
def yX3_isWord : MethodName := ⟨RX3, "isWord", "(Ljava/lang/String;)Z"⟩
def dkwX3_isWord_3 : List UInt8 := [167, 0, 4, 3, 61, 132, 3, 1, 167, 255, 216, 28, 172]
abbrev dktX3_isWord_3 : List UInt8 := dkwX3_isWord_3 ++ []
def dkwX3_isWord_2 : List UInt8 := [153, 0, 34, 42, 180, 0, 34, 42, 180, 1, 27, 29, 96, 51, 43, 29, 182, 1, 67, 160, 0, 7, 4]
abbrev dktX3_isWord_2 : List UInt8 := dkwX3_isWord_2 ++ dktX3_isWord_3
def dkwX3_isWord_1 : List UInt8 := [43, 182, 1, 62, 160, 0, 7, 4, 167, 0, 4, 3, 61, 3, 62, 29, 43, 182, 1, 62, 162, 0, 38, 28]
abbrev dktX3_isWord_1 : List UInt8 := dkwX3_isWord_1 ++ dktX3_isWord_2
def dkwX3_isWord_0 : List UInt8 := [42, 182, 1, 23, 153, 0, 31, 42, 180, 1, 39, 4, 160, 0, 23, 42, 180, 1, 33, 42, 180, 1, 27, 100]
abbrev dktX3_isWord_0 : List UInt8 := dkwX3_isWord_0 ++ dktX3_isWord_1
theorem dksX3_isWord_0 : cX3_isWord.data.toList.drop 0 = dktX3_isWord_0 := by decide +kernel
theorem dksX3_isWord_1 : cX3_isWord.data.toList.drop 24 = dktX3_isWord_1 := dk_seg dksX3_isWord_0 24 rfl rfl
theorem dksX3_isWord_2 : cX3_isWord.data.toList.drop 48 = dktX3_isWord_2 := dk_seg dksX3_isWord_1 24 rfl rfl
theorem dksX3_isWord_3 : cX3_isWord.data.toList.drop 71 = dktX3_isWord_3 := dk_seg dksX3_isWord_2 23 rfl rfl
theorem dX3_isWord_0 : decode cX3_isWord 0 = .ok (.aload_n 0, 1) := dk_42 (dk_at dksX3_isWord_0 0 rfl rfl)
theorem dX3_isWord_1 : decode cX3_isWord 1 = .ok (.invokevirtual 279, 3) := dk_182 1 23 (dk_at dksX3_isWord_0 1 rfl rfl)
theorem dX3_isWord_4 : decode cX3_isWord 4 = .ok (.ifCond .eq 31, 3) := dk_153 0 31 (dk_at dksX3_isWord_0 4 rfl rfl)
theorem dX3_isWord_7 : decode cX3_isWord 7 = .ok (.aload_n 0, 1) := dk_42 (dk_at dksX3_isWord_0 7 rfl rfl)
theorem dX3_isWord_8 : decode cX3_isWord 8 = .ok (.getfield 295, 3) := dk_180 1 39 (dk_at dksX3_isWord_0 8 rfl rfl)
theorem dX3_isWord_11 : decode cX3_isWord 11 = .ok (.iconst 1, 1) := dk_4 (dk_at dksX3_isWord_0 11 rfl rfl)
theorem dX3_isWord_12 : decode cX3_isWord 12 = .ok (.if_icmp .ne 23, 3) := dk_160 0 23 (dk_at dksX3_isWord_0 12 rfl rfl)
theorem dX3_isWord_15 : decode cX3_isWord 15 = .ok (.aload_n 0, 1) := dk_42 (dk_at dksX3_isWord_0 15 rfl rfl)
theorem dX3_isWord_16 : decode cX3_isWord 16 = .ok (.getfield 289, 3) := dk_180 1 33 (dk_at dksX3_isWord_0 16 rfl rfl)
theorem dX3_isWord_19 : decode cX3_isWord 19 = .ok (.aload_n 0, 1) := dk_42 (dk_at dksX3_isWord_0 19 rfl rfl)
theorem dX3_isWord_20 : decode cX3_isWord 20 = .ok (.getfield 283, 3) := dk_180 1 27 (dk_at dksX3_isWord_0 20 rfl rfl)
theorem dX3_isWord_23 : decode cX3_isWord 23 = .ok (.isub, 1) := dk_100 (dk_at dksX3_isWord_0 23 rfl rfl)
theorem dX3_isWord_24 : decode cX3_isWord 24 = .ok (.aload_n 1, 1) := dk_43 (dk_at dksX3_isWord_1 0 rfl rfl)
theorem dX3_isWord_25 : decode cX3_isWord 25 = .ok (.invokevirtual 318, 3) := dk_182 1 62 (dk_at dksX3_isWord_1 1 rfl rfl)
theorem dX3_isWord_28 : decode cX3_isWord 28 = .ok (.if_icmp .ne 7, 3) := dk_160 0 7 (dk_at dksX3_isWord_1 4 rfl rfl)
theorem dX3_isWord_31 : decode cX3_isWord 31 = .ok (.iconst 1, 1) := dk_4 (dk_at dksX3_isWord_1 7 rfl rfl)
theorem dX3_isWord_32 : decode cX3_isWord 32 = .ok (.goto 4, 3) := dk_167 0 4 (dk_at dksX3_isWord_1 8 rfl rfl)
theorem dX3_isWord_35 : decode cX3_isWord 35 = .ok (.iconst 0, 1) := dk_3 (dk_at dksX3_isWord_1 11 rfl rfl)
theorem dX3_isWord_36 : decode cX3_isWord 36 = .ok (.istore_n 2, 1) := dk_61 (dk_at dksX3_isWord_1 12 rfl rfl)
theorem dX3_isWord_37 : decode cX3_isWord 37 = .ok (.iconst 0, 1) := dk_3 (dk_at dksX3_isWord_1 13 rfl rfl)
theorem dX3_isWord_38 : decode cX3_isWord 38 = .ok (.istore_n 3, 1) := dk_62 (dk_at dksX3_isWord_1 14 rfl rfl)
theorem dX3_isWord_39 : decode cX3_isWord 39 = .ok (.iload_n 3, 1) := dk_29 (dk_at dksX3_isWord_1 15 rfl rfl)
theorem dX3_isWord_40 : decode cX3_isWord 40 = .ok (.aload_n 1, 1) := dk_43 (dk_at dksX3_isWord_1 16 rfl rfl)
theorem dX3_isWord_41 : decode cX3_isWord 41 = .ok (.invokevirtual 318, 3) := dk_182 1 62 (dk_at dksX3_isWord_1 17 rfl rfl)
theorem dX3_isWord_44 : decode cX3_isWord 44 = .ok (.if_icmp .ge 38, 3) := dk_162 0 38 (dk_at dksX3_isWord_1 20 rfl rfl)
theorem dX3_isWord_47 : decode cX3_isWord 47 = .ok (.iload_n 2, 1) := dk_28 (dk_at dksX3_isWord_1 23 rfl rfl)
theorem dX3_isWord_48 : decode cX3_isWord 48 = .ok (.ifCond .eq 34, 3) := dk_153 0 34 (dk_at dksX3_isWord_2 0 rfl rfl)
theorem dX3_isWord_51 : decode cX3_isWord 51 = .ok (.aload_n 0, 1) := dk_42 (dk_at dksX3_isWord_2 3 rfl rfl)
theorem dX3_isWord_52 : decode cX3_isWord 52 = .ok (.getfield 34, 3) := dk_180 0 34 (dk_at dksX3_isWord_2 4 rfl rfl)
theorem dX3_isWord_55 : decode cX3_isWord 55 = .ok (.aload_n 0, 1) := dk_42 (dk_at dksX3_isWord_2 7 rfl rfl)
theorem dX3_isWord_56 : decode cX3_isWord 56 = .ok (.getfield 283, 3) := dk_180 1 27 (dk_at dksX3_isWord_2 8 rfl rfl)
theorem dX3_isWord_59 : decode cX3_isWord 59 = .ok (.iload_n 3, 1) := dk_29 (dk_at dksX3_isWord_2 11 rfl rfl)
theorem dX3_isWord_60 : decode cX3_isWord 60 = .ok (.iadd, 1) := dk_96 (dk_at dksX3_isWord_2 12 rfl rfl)
theorem dX3_isWord_61 : decode cX3_isWord 61 = .ok (.baload, 1) := dk_51 (dk_at dksX3_isWord_2 13 rfl rfl)
theorem dX3_isWord_62 : decode cX3_isWord 62 = .ok (.aload_n 1, 1) := dk_43 (dk_at dksX3_isWord_2 14 rfl rfl)
theorem dX3_isWord_63 : decode cX3_isWord 63 = .ok (.iload_n 3, 1) := dk_29 (dk_at dksX3_isWord_2 15 rfl rfl)
theorem dX3_isWord_64 : decode cX3_isWord 64 = .ok (.invokevirtual 323, 3) := dk_182 1 67 (dk_at dksX3_isWord_2 16 rfl rfl)
theorem dX3_isWord_67 : decode cX3_isWord 67 = .ok (.if_icmp .ne 7, 3) := dk_160 0 7 (dk_at dksX3_isWord_2 19 rfl rfl)
theorem dX3_isWord_70 : decode cX3_isWord 70 = .ok (.iconst 1, 1) := dk_4 (dk_at dksX3_isWord_2 22 rfl rfl)
theorem dX3_isWord_71 : decode cX3_isWord 71 = .ok (.goto 4, 3) := dk_167 0 4 (dk_at dksX3_isWord_3 0 rfl rfl)
theorem dX3_isWord_74 : decode cX3_isWord 74 = .ok (.iconst 0, 1) := dk_3 (dk_at dksX3_isWord_3 3 rfl rfl)
theorem dX3_isWord_75 : decode cX3_isWord 75 = .ok (.istore_n 2, 1) := dk_61 (dk_at dksX3_isWord_3 4 rfl rfl)
theorem dX3_isWord_76 : decode cX3_isWord 76 = .ok (.iinc 3 1, 3) := dk_132 3 1 (dk_at dksX3_isWord_3 5 rfl rfl)
theorem dX3_isWord_79 : decode cX3_isWord 79 = .ok (.goto (-40), 3) := dk_167 255 216 (dk_at dksX3_isWord_3 8 rfl rfl)
theorem dX3_isWord_82 : decode cX3_isWord 82 = .ok (.iload_n 2, 1) := dk_28 (dk_at dksX3_isWord_3 11 rfl rfl)
theorem dX3_isWord_83 : decode cX3_isWord 83 = .ok (.ireturn, 1) := dk_172 (dk_at dksX3_isWord_3 12 rfl rfl)
abbrev cX3_parseLimit : ByteArray := prog_13_method_99_code
def yX3_parseLimit : MethodName := ⟨RX3, "parseLimit", "()V"⟩
def dkwX3_parseLimit_1 : List UInt8 := [42, 4, 181, 1, 136, 42, 182, 1, 84, 42, 180, 0, 24, 3, 42, 4, 16, 30, 182, 1, 140, 133, 80, 177]
abbrev dktX3_parseLimit_1 : List UInt8 := dkwX3_parseLimit_1 ++ []
def dkwX3_parseLimit_0 : List UInt8 := [42, 180, 1, 133, 158, 0, 8, 42, 4, 182, 1, 81, 42, 180, 1, 136, 153, 0, 8, 42, 6, 182, 1, 81]
abbrev dktX3_parseLimit_0 : List UInt8 := dkwX3_parseLimit_0 ++ dktX3_parseLimit_1
theorem dksX3_parseLimit_0 : cX3_parseLimit.data.toList.drop 0 = dktX3_parseLimit_0 := by decide +kernel
theorem dksX3_parseLimit_1 : cX3_parseLimit.data.toList.drop 24 = dktX3_parseLimit_1 := dk_seg dksX3_parseLimit_0 24 rfl rfl
theorem dX3_parseLimit_0 : decode cX3_parseLimit 0 = .ok (.aload_n 0, 1) := dk_42 (dk_at dksX3_parseLimit_0 0 rfl rfl)
theorem dX3_parseLimit_1 : decode cX3_parseLimit 1 = .ok (.getfield 389, 3) := dk_180 1 133 (dk_at dksX3_parseLimit_0 1 rfl rfl)
theorem dX3_parseLimit_4 : decode cX3_parseLimit 4 = .ok (.ifCond .le 8, 3) := dk_158 0 8 (dk_at dksX3_parseLimit_0 4 rfl rfl)
theorem dX3_parseLimit_7 : decode cX3_parseLimit 7 = .ok (.aload_n 0, 1) := dk_42 (dk_at dksX3_parseLimit_0 7 rfl rfl)
theorem dX3_parseLimit_8 : decode cX3_parseLimit 8 = .ok (.iconst 1, 1) := dk_4 (dk_at dksX3_parseLimit_0 8 rfl rfl)
theorem dX3_parseLimit_9 : decode cX3_parseLimit 9 = .ok (.invokevirtual 337, 3) := dk_182 1 81 (dk_at dksX3_parseLimit_0 9 rfl rfl)
theorem dX3_parseLimit_12 : decode cX3_parseLimit 12 = .ok (.aload_n 0, 1) := dk_42 (dk_at dksX3_parseLimit_0 12 rfl rfl)
theorem dX3_parseLimit_13 : decode cX3_parseLimit 13 = .ok (.getfield 392, 3) := dk_180 1 136 (dk_at dksX3_parseLimit_0 13 rfl rfl)
theorem dX3_parseLimit_16 : decode cX3_parseLimit 16 = .ok (.ifCond .eq 8, 3) := dk_153 0 8 (dk_at dksX3_parseLimit_0 16 rfl rfl)
theorem dX3_parseLimit_19 : decode cX3_parseLimit 19 = .ok (.aload_n 0, 1) := dk_42 (dk_at dksX3_parseLimit_0 19 rfl rfl)
theorem dX3_parseLimit_20 : decode cX3_parseLimit 20 = .ok (.iconst 3, 1) := dk_6 (dk_at dksX3_parseLimit_0 20 rfl rfl)
theorem dX3_parseLimit_21 : decode cX3_parseLimit 21 = .ok (.invokevirtual 337, 3) := dk_182 1 81 (dk_at dksX3_parseLimit_0 21 rfl rfl)
theorem dX3_parseLimit_24 : decode cX3_parseLimit 24 = .ok (.aload_n 0, 1) := dk_42 (dk_at dksX3_parseLimit_1 0 rfl rfl)
theorem dX3_parseLimit_25 : decode cX3_parseLimit 25 = .ok (.iconst 1, 1) := dk_4 (dk_at dksX3_parseLimit_1 1 rfl rfl)
theorem dX3_parseLimit_26 : decode cX3_parseLimit 26 = .ok (.putfield 392, 3) := dk_181 1 136 (dk_at dksX3_parseLimit_1 2 rfl rfl)
theorem dX3_parseLimit_29 : decode cX3_parseLimit 29 = .ok (.aload_n 0, 1) := dk_42 (dk_at dksX3_parseLimit_1 5 rfl rfl)
theorem dX3_parseLimit_30 : decode cX3_parseLimit 30 = .ok (.invokevirtual 340, 3) := dk_182 1 84 (dk_at dksX3_parseLimit_1 6 rfl rfl)
theorem dX3_parseLimit_33 : decode cX3_parseLimit 33 = .ok (.aload_n 0, 1) := dk_42 (dk_at dksX3_parseLimit_1 9 rfl rfl)
theorem dX3_parseLimit_34 : decode cX3_parseLimit 34 = .ok (.getfield 24, 3) := dk_180 0 24 (dk_at dksX3_parseLimit_1 10 rfl rfl)
theorem dX3_parseLimit_37 : decode cX3_parseLimit 37 = .ok (.iconst 0, 1) := dk_3 (dk_at dksX3_parseLimit_1 13 rfl rfl)
theorem dX3_parseLimit_38 : decode cX3_parseLimit 38 = .ok (.aload_n 0, 1) := dk_42 (dk_at dksX3_parseLimit_1 14 rfl rfl)
theorem dX3_parseLimit_39 : decode cX3_parseLimit 39 = .ok (.iconst 1, 1) := dk_4 (dk_at dksX3_parseLimit_1 15 rfl rfl)
theorem dX3_parseLimit_40 : decode cX3_parseLimit 40 = .ok (.bipush 30, 2) := dk_16 30 (dk_at dksX3_parseLimit_1 16 rfl rfl)
theorem dX3_parseLimit_42 : decode cX3_parseLimit 42 = .ok (.invokevirtual 396, 3) := dk_182 1 140 (dk_at dksX3_parseLimit_1 18 rfl rfl)
theorem dX3_parseLimit_45 : decode cX3_parseLimit 45 = .ok (.i2l, 1) := dk_133 (dk_at dksX3_parseLimit_1 21 rfl rfl)
theorem dX3_parseLimit_46 : decode cX3_parseLimit 46 = .ok (.lastore, 1) := dk_80 (dk_at dksX3_parseLimit_1 22 rfl rfl)
theorem dX3_parseLimit_47 : decode cX3_parseLimit 47 = .ok (.return_, 1) := dk_177 (dk_at dksX3_parseLimit_1 23 rfl rfl)
abbrev cX3_goOn : ByteArray := prog_13_method_85_code
def yX3_goOn : MethodName := ⟨RX3, "goOn", "()V"⟩
def dkwX3_goOn_0 : List UInt8 := [42, 182, 1, 23, 153, 0, 7, 42, 182, 1, 59, 177]
abbrev dktX3_goOn_0 : List UInt8 := dkwX3_goOn_0 ++ []
theorem dksX3_goOn_0 : cX3_goOn.data.toList.drop 0 = dktX3_goOn_0 := by decide +kernel
theorem dX3_goOn_0 : decode cX3_goOn 0 = .ok (.aload_n 0, 1) := dk_42 (dk_at dksX3_goOn_0 0 rfl rfl)
theorem dX3_goOn_1 : decode cX3_goOn 1 = .ok (.invokevirtual 279, 3) := dk_182 1 23 (dk_at dksX3_goOn_0 1 rfl rfl)
theorem dX3_goOn_4 : decode cX3_goOn 4 = .ok (.ifCond .eq 7, 3) := dk_153 0 7 (dk_at dksX3_goOn_0 4 rfl rfl)
theorem dX3_goOn_7 : decode cX3_goOn 7 = .ok (.aload_n 0, 1) := dk_42 (dk_at dksX3_goOn_0 7 rfl rfl)
theorem dX3_goOn_8 : decode cX3_goOn 8 = .ok (.invokevirtual 315, 3) := dk_182 1 59 (dk_at dksX3_goOn_0 8 rfl rfl)
theorem dX3_goOn_11 : decode cX3_goOn 11 = .ok (.return_, 1) := dk_177 (dk_at dksX3_goOn_0 11 rfl rfl)
abbrev cX3_number : ByteArray := prog_13_method_91_code
def yX3_number : MethodName := ⟨RX3, "number", "(II)I"⟩
def dkwX3_number_2 : List UInt8 := [182, 1, 23, 153, 0, 10, 42, 180, 1, 50, 167, 0, 4, 27, 62, 42, 182, 1, 84, 29, 172]
abbrev dktX3_number_2 : List UInt8 := dkwX3_number_2 ++ []
def dkwX3_number_1 : List UInt8 := [153, 0, 23, 42, 180, 1, 50, 133, 27, 133, 28, 133, 184, 0, 70, 154, 0, 8, 42, 5, 182, 1, 81, 42]
abbrev dktX3_number_1 : List UInt8 := dkwX3_number_1 ++ dktX3_number_2
def dkwX3_number_0 : List UInt8 := [42, 182, 1, 23, 153, 0, 16, 42, 180, 1, 39, 5, 159, 0, 8, 42, 4, 182, 1, 81, 42, 182, 1, 23]
abbrev dktX3_number_0 : List UInt8 := dkwX3_number_0 ++ dktX3_number_1
theorem dksX3_number_0 : cX3_number.data.toList.drop 0 = dktX3_number_0 := by decide +kernel
theorem dksX3_number_1 : cX3_number.data.toList.drop 24 = dktX3_number_1 := dk_seg dksX3_number_0 24 rfl rfl
theorem dksX3_number_2 : cX3_number.data.toList.drop 48 = dktX3_number_2 := dk_seg dksX3_number_1 24 rfl rfl
theorem dX3_number_0 : decode cX3_number 0 = .ok (.aload_n 0, 1) := dk_42 (dk_at dksX3_number_0 0 rfl rfl)
theorem dX3_number_1 : decode cX3_number 1 = .ok (.invokevirtual 279, 3) := dk_182 1 23 (dk_at dksX3_number_0 1 rfl rfl)
theorem dX3_number_4 : decode cX3_number 4 = .ok (.ifCond .eq 16, 3) := dk_153 0 16 (dk_at dksX3_number_0 4 rfl rfl)
theorem dX3_number_7 : decode cX3_number 7 = .ok (.aload_n 0, 1) := dk_42 (dk_at dksX3_number_0 7 rfl rfl)
theorem dX3_number_8 : decode cX3_number 8 = .ok (.getfield 295, 3) := dk_180 1 39 (dk_at dksX3_number_0 8 rfl rfl)
theorem dX3_number_11 : decode cX3_number 11 = .ok (.iconst 2, 1) := dk_5 (dk_at dksX3_number_0 11 rfl rfl)
theorem dX3_number_12 : decode cX3_number 12 = .ok (.if_icmp .eq 8, 3) := dk_159 0 8 (dk_at dksX3_number_0 12 rfl rfl)
theorem dX3_number_15 : decode cX3_number 15 = .ok (.aload_n 0, 1) := dk_42 (dk_at dksX3_number_0 15 rfl rfl)
theorem dX3_number_16 : decode cX3_number 16 = .ok (.iconst 1, 1) := dk_4 (dk_at dksX3_number_0 16 rfl rfl)
theorem dX3_number_17 : decode cX3_number 17 = .ok (.invokevirtual 337, 3) := dk_182 1 81 (dk_at dksX3_number_0 17 rfl rfl)
theorem dX3_number_20 : decode cX3_number 20 = .ok (.aload_n 0, 1) := dk_42 (dk_at dksX3_number_0 20 rfl rfl)
theorem dX3_number_21 : decode cX3_number 21 = .ok (.invokevirtual 279, 3) := dk_182 1 23 (dk_at dksX3_number_0 21 rfl rfl)
theorem dX3_number_24 : decode cX3_number 24 = .ok (.ifCond .eq 23, 3) := dk_153 0 23 (dk_at dksX3_number_1 0 rfl rfl)
theorem dX3_number_27 : decode cX3_number 27 = .ok (.aload_n 0, 1) := dk_42 (dk_at dksX3_number_1 3 rfl rfl)
theorem dX3_number_28 : decode cX3_number 28 = .ok (.getfield 306, 3) := dk_180 1 50 (dk_at dksX3_number_1 4 rfl rfl)
theorem dX3_number_31 : decode cX3_number 31 = .ok (.i2l, 1) := dk_133 (dk_at dksX3_number_1 7 rfl rfl)
theorem dX3_number_32 : decode cX3_number 32 = .ok (.iload_n 1, 1) := dk_27 (dk_at dksX3_number_1 8 rfl rfl)
theorem dX3_number_33 : decode cX3_number 33 = .ok (.i2l, 1) := dk_133 (dk_at dksX3_number_1 9 rfl rfl)
theorem dX3_number_34 : decode cX3_number 34 = .ok (.iload_n 2, 1) := dk_28 (dk_at dksX3_number_1 10 rfl rfl)
theorem dX3_number_35 : decode cX3_number 35 = .ok (.i2l, 1) := dk_133 (dk_at dksX3_number_1 11 rfl rfl)
theorem dX3_number_36 : decode cX3_number 36 = .ok (.invokestatic 70, 3) := dk_184 0 70 (dk_at dksX3_number_1 12 rfl rfl)
theorem dX3_number_39 : decode cX3_number 39 = .ok (.ifCond .ne 8, 3) := dk_154 0 8 (dk_at dksX3_number_1 15 rfl rfl)
theorem dX3_number_42 : decode cX3_number 42 = .ok (.aload_n 0, 1) := dk_42 (dk_at dksX3_number_1 18 rfl rfl)
theorem dX3_number_43 : decode cX3_number 43 = .ok (.iconst 2, 1) := dk_5 (dk_at dksX3_number_1 19 rfl rfl)
theorem dX3_number_44 : decode cX3_number 44 = .ok (.invokevirtual 337, 3) := dk_182 1 81 (dk_at dksX3_number_1 20 rfl rfl)
theorem dX3_number_47 : decode cX3_number 47 = .ok (.aload_n 0, 1) := dk_42 (dk_at dksX3_number_1 23 rfl rfl)
theorem dX3_number_48 : decode cX3_number 48 = .ok (.invokevirtual 279, 3) := dk_182 1 23 (dk_at dksX3_number_2 0 rfl rfl)
theorem dX3_number_51 : decode cX3_number 51 = .ok (.ifCond .eq 10, 3) := dk_153 0 10 (dk_at dksX3_number_2 3 rfl rfl)
theorem dX3_number_54 : decode cX3_number 54 = .ok (.aload_n 0, 1) := dk_42 (dk_at dksX3_number_2 6 rfl rfl)
theorem dX3_number_55 : decode cX3_number 55 = .ok (.getfield 306, 3) := dk_180 1 50 (dk_at dksX3_number_2 7 rfl rfl)
theorem dX3_number_58 : decode cX3_number 58 = .ok (.goto 4, 3) := dk_167 0 4 (dk_at dksX3_number_2 10 rfl rfl)
theorem dX3_number_61 : decode cX3_number 61 = .ok (.iload_n 1, 1) := dk_27 (dk_at dksX3_number_2 13 rfl rfl)
theorem dX3_number_62 : decode cX3_number 62 = .ok (.istore_n 3, 1) := dk_62 (dk_at dksX3_number_2 14 rfl rfl)
theorem dX3_number_63 : decode cX3_number 63 = .ok (.aload_n 0, 1) := dk_42 (dk_at dksX3_number_2 15 rfl rfl)
theorem dX3_number_64 : decode cX3_number 64 = .ok (.invokevirtual 340, 3) := dk_182 1 84 (dk_at dksX3_number_2 16 rfl rfl)
theorem dX3_number_67 : decode cX3_number 67 = .ok (.iload_n 3, 1) := dk_29 (dk_at dksX3_number_2 19 rfl rfl)
theorem dX3_number_68 : decode cX3_number 68 = .ok (.ireturn, 1) := dk_172 (dk_at dksX3_number_2 20 rfl rfl)
abbrev cX3_parseBox : ByteArray := prog_13_method_100_code
def yX3_parseBox : MethodName := ⟨RX3, "parseBox", "()V"⟩
def dkwX3_parseBox_3 : List UInt8 := [184, 0, 77, 5, 96, 10, 80, 42, 180, 0, 24, 4, 92, 47, 10, 97, 80, 42, 182, 1, 84, 177]
abbrev dktX3_parseBox_3 : List UInt8 := dkwX3_parseBox_3 ++ []
def dkwX3_parseBox_2 : List UInt8 := [182, 1, 23, 154, 0, 4, 177, 42, 180, 0, 24, 27, 184, 0, 77, 3, 96, 32, 80, 42, 180, 0, 24, 27]
abbrev dktX3_parseBox_2 : List UInt8 := dkwX3_parseBox_2 ++ dktX3_parseBox_3
def dkwX3_parseBox_1 : List UInt8 := [42, 182, 1, 23, 153, 0, 17, 42, 32, 182, 1, 147, 2, 159, 0, 8, 42, 6, 182, 1, 81, 42]
abbrev dktX3_parseBox_1 : List UInt8 := dkwX3_parseBox_1 ++ dktX3_parseBox_2
def dkwX3_parseBox_0 : List UInt8 := [42, 182, 0, 66, 60, 27, 6, 160, 0, 8, 42, 7, 182, 1, 81, 42, 182, 1, 84, 42, 182, 1, 143, 65]
abbrev dktX3_parseBox_0 : List UInt8 := dkwX3_parseBox_0 ++ dktX3_parseBox_1
theorem dksX3_parseBox_0 : cX3_parseBox.data.toList.drop 0 = dktX3_parseBox_0 := by decide +kernel
theorem dksX3_parseBox_1 : cX3_parseBox.data.toList.drop 24 = dktX3_parseBox_1 := dk_seg dksX3_parseBox_0 24 rfl rfl
theorem dksX3_parseBox_2 : cX3_parseBox.data.toList.drop 46 = dktX3_parseBox_2 := dk_seg dksX3_parseBox_1 22 rfl rfl
theorem dksX3_parseBox_3 : cX3_parseBox.data.toList.drop 70 = dktX3_parseBox_3 := dk_seg dksX3_parseBox_2 24 rfl rfl
theorem dX3_parseBox_0 : decode cX3_parseBox 0 = .ok (.aload_n 0, 1) := dk_42 (dk_at dksX3_parseBox_0 0 rfl rfl)
theorem dX3_parseBox_1 : decode cX3_parseBox 1 = .ok (.invokevirtual 66, 3) := dk_182 0 66 (dk_at dksX3_parseBox_0 1 rfl rfl)
theorem dX3_parseBox_4 : decode cX3_parseBox 4 = .ok (.istore_n 1, 1) := dk_60 (dk_at dksX3_parseBox_0 4 rfl rfl)
theorem dX3_parseBox_5 : decode cX3_parseBox 5 = .ok (.iload_n 1, 1) := dk_27 (dk_at dksX3_parseBox_0 5 rfl rfl)
theorem dX3_parseBox_6 : decode cX3_parseBox 6 = .ok (.iconst 3, 1) := dk_6 (dk_at dksX3_parseBox_0 6 rfl rfl)
theorem dX3_parseBox_7 : decode cX3_parseBox 7 = .ok (.if_icmp .ne 8, 3) := dk_160 0 8 (dk_at dksX3_parseBox_0 7 rfl rfl)
theorem dX3_parseBox_10 : decode cX3_parseBox 10 = .ok (.aload_n 0, 1) := dk_42 (dk_at dksX3_parseBox_0 10 rfl rfl)
theorem dX3_parseBox_11 : decode cX3_parseBox 11 = .ok (.iconst 4, 1) := dk_7 (dk_at dksX3_parseBox_0 11 rfl rfl)
theorem dX3_parseBox_12 : decode cX3_parseBox 12 = .ok (.invokevirtual 337, 3) := dk_182 1 81 (dk_at dksX3_parseBox_0 12 rfl rfl)
theorem dX3_parseBox_15 : decode cX3_parseBox 15 = .ok (.aload_n 0, 1) := dk_42 (dk_at dksX3_parseBox_0 15 rfl rfl)
theorem dX3_parseBox_16 : decode cX3_parseBox 16 = .ok (.invokevirtual 340, 3) := dk_182 1 84 (dk_at dksX3_parseBox_0 16 rfl rfl)
theorem dX3_parseBox_19 : decode cX3_parseBox 19 = .ok (.aload_n 0, 1) := dk_42 (dk_at dksX3_parseBox_0 19 rfl rfl)
theorem dX3_parseBox_20 : decode cX3_parseBox 20 = .ok (.invokevirtual 399, 3) := dk_182 1 143 (dk_at dksX3_parseBox_0 20 rfl rfl)
theorem dX3_parseBox_23 : decode cX3_parseBox 23 = .ok (.lstore_n 2, 1) := dk_65 (dk_at dksX3_parseBox_0 23 rfl rfl)
theorem dX3_parseBox_24 : decode cX3_parseBox 24 = .ok (.aload_n 0, 1) := dk_42 (dk_at dksX3_parseBox_1 0 rfl rfl)
theorem dX3_parseBox_25 : decode cX3_parseBox 25 = .ok (.invokevirtual 279, 3) := dk_182 1 23 (dk_at dksX3_parseBox_1 1 rfl rfl)
theorem dX3_parseBox_28 : decode cX3_parseBox 28 = .ok (.ifCond .eq 17, 3) := dk_153 0 17 (dk_at dksX3_parseBox_1 4 rfl rfl)
theorem dX3_parseBox_31 : decode cX3_parseBox 31 = .ok (.aload_n 0, 1) := dk_42 (dk_at dksX3_parseBox_1 7 rfl rfl)
theorem dX3_parseBox_32 : decode cX3_parseBox 32 = .ok (.lload_n 2, 1) := dk_32 (dk_at dksX3_parseBox_1 8 rfl rfl)
theorem dX3_parseBox_33 : decode cX3_parseBox 33 = .ok (.invokevirtual 403, 3) := dk_182 1 147 (dk_at dksX3_parseBox_1 9 rfl rfl)
theorem dX3_parseBox_36 : decode cX3_parseBox 36 = .ok (.iconst (-1), 1) := dk_2 (dk_at dksX3_parseBox_1 12 rfl rfl)
theorem dX3_parseBox_37 : decode cX3_parseBox 37 = .ok (.if_icmp .eq 8, 3) := dk_159 0 8 (dk_at dksX3_parseBox_1 13 rfl rfl)
theorem dX3_parseBox_40 : decode cX3_parseBox 40 = .ok (.aload_n 0, 1) := dk_42 (dk_at dksX3_parseBox_1 16 rfl rfl)
theorem dX3_parseBox_41 : decode cX3_parseBox 41 = .ok (.iconst 3, 1) := dk_6 (dk_at dksX3_parseBox_1 17 rfl rfl)
theorem dX3_parseBox_42 : decode cX3_parseBox 42 = .ok (.invokevirtual 337, 3) := dk_182 1 81 (dk_at dksX3_parseBox_1 18 rfl rfl)
theorem dX3_parseBox_45 : decode cX3_parseBox 45 = .ok (.aload_n 0, 1) := dk_42 (dk_at dksX3_parseBox_1 21 rfl rfl)
theorem dX3_parseBox_46 : decode cX3_parseBox 46 = .ok (.invokevirtual 279, 3) := dk_182 1 23 (dk_at dksX3_parseBox_2 0 rfl rfl)
theorem dX3_parseBox_49 : decode cX3_parseBox 49 = .ok (.ifCond .ne 4, 3) := dk_154 0 4 (dk_at dksX3_parseBox_2 3 rfl rfl)
theorem dX3_parseBox_52 : decode cX3_parseBox 52 = .ok (.return_, 1) := dk_177 (dk_at dksX3_parseBox_2 6 rfl rfl)
theorem dX3_parseBox_53 : decode cX3_parseBox 53 = .ok (.aload_n 0, 1) := dk_42 (dk_at dksX3_parseBox_2 7 rfl rfl)
theorem dX3_parseBox_54 : decode cX3_parseBox 54 = .ok (.getfield 24, 3) := dk_180 0 24 (dk_at dksX3_parseBox_2 8 rfl rfl)
theorem dX3_parseBox_57 : decode cX3_parseBox 57 = .ok (.iload_n 1, 1) := dk_27 (dk_at dksX3_parseBox_2 11 rfl rfl)
theorem dX3_parseBox_58 : decode cX3_parseBox 58 = .ok (.invokestatic 77, 3) := dk_184 0 77 (dk_at dksX3_parseBox_2 12 rfl rfl)
theorem dX3_parseBox_61 : decode cX3_parseBox 61 = .ok (.iconst 0, 1) := dk_3 (dk_at dksX3_parseBox_2 15 rfl rfl)
theorem dX3_parseBox_62 : decode cX3_parseBox 62 = .ok (.iadd, 1) := dk_96 (dk_at dksX3_parseBox_2 16 rfl rfl)
theorem dX3_parseBox_63 : decode cX3_parseBox 63 = .ok (.lload_n 2, 1) := dk_32 (dk_at dksX3_parseBox_2 17 rfl rfl)
theorem dX3_parseBox_64 : decode cX3_parseBox 64 = .ok (.lastore, 1) := dk_80 (dk_at dksX3_parseBox_2 18 rfl rfl)
theorem dX3_parseBox_65 : decode cX3_parseBox 65 = .ok (.aload_n 0, 1) := dk_42 (dk_at dksX3_parseBox_2 19 rfl rfl)
theorem dX3_parseBox_66 : decode cX3_parseBox 66 = .ok (.getfield 24, 3) := dk_180 0 24 (dk_at dksX3_parseBox_2 20 rfl rfl)
theorem dX3_parseBox_69 : decode cX3_parseBox 69 = .ok (.iload_n 1, 1) := dk_27 (dk_at dksX3_parseBox_2 23 rfl rfl)
theorem dX3_parseBox_70 : decode cX3_parseBox 70 = .ok (.invokestatic 77, 3) := dk_184 0 77 (dk_at dksX3_parseBox_3 0 rfl rfl)
theorem dX3_parseBox_73 : decode cX3_parseBox 73 = .ok (.iconst 2, 1) := dk_5 (dk_at dksX3_parseBox_3 3 rfl rfl)
theorem dX3_parseBox_74 : decode cX3_parseBox 74 = .ok (.iadd, 1) := dk_96 (dk_at dksX3_parseBox_3 4 rfl rfl)
theorem dX3_parseBox_75 : decode cX3_parseBox 75 = .ok (.lconst 1, 1) := dk_10 (dk_at dksX3_parseBox_3 5 rfl rfl)
theorem dX3_parseBox_76 : decode cX3_parseBox 76 = .ok (.lastore, 1) := dk_80 (dk_at dksX3_parseBox_3 6 rfl rfl)
theorem dX3_parseBox_77 : decode cX3_parseBox 77 = .ok (.aload_n 0, 1) := dk_42 (dk_at dksX3_parseBox_3 7 rfl rfl)
theorem dX3_parseBox_78 : decode cX3_parseBox 78 = .ok (.getfield 24, 3) := dk_180 0 24 (dk_at dksX3_parseBox_3 8 rfl rfl)
theorem dX3_parseBox_81 : decode cX3_parseBox 81 = .ok (.iconst 1, 1) := dk_4 (dk_at dksX3_parseBox_3 11 rfl rfl)
theorem dX3_parseBox_82 : decode cX3_parseBox 82 = .ok (.dup2, 1) := dk_92 (dk_at dksX3_parseBox_3 12 rfl rfl)
theorem dX3_parseBox_83 : decode cX3_parseBox 83 = .ok (.laload, 1) := dk_47 (dk_at dksX3_parseBox_3 13 rfl rfl)
theorem dX3_parseBox_84 : decode cX3_parseBox 84 = .ok (.lconst 1, 1) := dk_10 (dk_at dksX3_parseBox_3 14 rfl rfl)
theorem dX3_parseBox_85 : decode cX3_parseBox 85 = .ok (.ladd, 1) := dk_97 (dk_at dksX3_parseBox_3 15 rfl rfl)
theorem dX3_parseBox_86 : decode cX3_parseBox 86 = .ok (.lastore, 1) := dk_80 (dk_at dksX3_parseBox_3 16 rfl rfl)
theorem dX3_parseBox_87 : decode cX3_parseBox 87 = .ok (.aload_n 0, 1) := dk_42 (dk_at dksX3_parseBox_3 17 rfl rfl)
theorem dX3_parseBox_88 : decode cX3_parseBox 88 = .ok (.invokevirtual 340, 3) := dk_182 1 84 (dk_at dksX3_parseBox_3 18 rfl rfl)
theorem dX3_parseBox_91 : decode cX3_parseBox 91 = .ok (.return_, 1) := dk_177 (dk_at dksX3_parseBox_3 21 rfl rfl)
abbrev cX3_nameHere : ByteArray := prog_13_method_96_code
def yX3_nameHere : MethodName := ⟨RX3, "nameHere", "()J"⟩
def dkwX3_nameHere_1 : List UInt8 := [180, 1, 27, 42, 180, 1, 33, 184, 1, 129, 167, 0, 4, 9, 173]
abbrev dktX3_nameHere_1 : List UInt8 := dkwX3_nameHere_1 ++ []
def dkwX3_nameHere_0 : List UInt8 := [42, 182, 1, 126, 154, 0, 8, 42, 4, 182, 1, 81, 42, 182, 1, 23, 153, 0, 21, 42, 180, 0, 34, 42]
abbrev dktX3_nameHere_0 : List UInt8 := dkwX3_nameHere_0 ++ dktX3_nameHere_1
theorem dksX3_nameHere_0 : cX3_nameHere.data.toList.drop 0 = dktX3_nameHere_0 := by decide +kernel
theorem dksX3_nameHere_1 : cX3_nameHere.data.toList.drop 24 = dktX3_nameHere_1 := dk_seg dksX3_nameHere_0 24 rfl rfl
theorem dX3_nameHere_0 : decode cX3_nameHere 0 = .ok (.aload_n 0, 1) := dk_42 (dk_at dksX3_nameHere_0 0 rfl rfl)
theorem dX3_nameHere_1 : decode cX3_nameHere 1 = .ok (.invokevirtual 382, 3) := dk_182 1 126 (dk_at dksX3_nameHere_0 1 rfl rfl)
theorem dX3_nameHere_4 : decode cX3_nameHere 4 = .ok (.ifCond .ne 8, 3) := dk_154 0 8 (dk_at dksX3_nameHere_0 4 rfl rfl)
theorem dX3_nameHere_7 : decode cX3_nameHere 7 = .ok (.aload_n 0, 1) := dk_42 (dk_at dksX3_nameHere_0 7 rfl rfl)
theorem dX3_nameHere_8 : decode cX3_nameHere 8 = .ok (.iconst 1, 1) := dk_4 (dk_at dksX3_nameHere_0 8 rfl rfl)
theorem dX3_nameHere_9 : decode cX3_nameHere 9 = .ok (.invokevirtual 337, 3) := dk_182 1 81 (dk_at dksX3_nameHere_0 9 rfl rfl)
theorem dX3_nameHere_12 : decode cX3_nameHere 12 = .ok (.aload_n 0, 1) := dk_42 (dk_at dksX3_nameHere_0 12 rfl rfl)
theorem dX3_nameHere_13 : decode cX3_nameHere 13 = .ok (.invokevirtual 279, 3) := dk_182 1 23 (dk_at dksX3_nameHere_0 13 rfl rfl)
theorem dX3_nameHere_16 : decode cX3_nameHere 16 = .ok (.ifCond .eq 21, 3) := dk_153 0 21 (dk_at dksX3_nameHere_0 16 rfl rfl)
theorem dX3_nameHere_19 : decode cX3_nameHere 19 = .ok (.aload_n 0, 1) := dk_42 (dk_at dksX3_nameHere_0 19 rfl rfl)
theorem dX3_nameHere_20 : decode cX3_nameHere 20 = .ok (.getfield 34, 3) := dk_180 0 34 (dk_at dksX3_nameHere_0 20 rfl rfl)
theorem dX3_nameHere_23 : decode cX3_nameHere 23 = .ok (.aload_n 0, 1) := dk_42 (dk_at dksX3_nameHere_0 23 rfl rfl)
theorem dX3_nameHere_24 : decode cX3_nameHere 24 = .ok (.getfield 283, 3) := dk_180 1 27 (dk_at dksX3_nameHere_1 0 rfl rfl)
theorem dX3_nameHere_27 : decode cX3_nameHere 27 = .ok (.aload_n 0, 1) := dk_42 (dk_at dksX3_nameHere_1 3 rfl rfl)
theorem dX3_nameHere_28 : decode cX3_nameHere 28 = .ok (.getfield 289, 3) := dk_180 1 33 (dk_at dksX3_nameHere_1 4 rfl rfl)
theorem dX3_nameHere_31 : decode cX3_nameHere 31 = .ok (.invokestatic 385, 3) := dk_184 1 129 (dk_at dksX3_nameHere_1 7 rfl rfl)
theorem dX3_nameHere_34 : decode cX3_nameHere 34 = .ok (.goto 4, 3) := dk_167 0 4 (dk_at dksX3_nameHere_1 10 rfl rfl)
theorem dX3_nameHere_37 : decode cX3_nameHere 37 = .ok (.lconst 0, 1) := dk_9 (dk_at dksX3_nameHere_1 13 rfl rfl)
theorem dX3_nameHere_38 : decode cX3_nameHere 38 = .ok (.lreturn, 1) := dk_173 (dk_at dksX3_nameHere_1 14 rfl rfl)
abbrev cX3_isName : ByteArray := prog_13_method_95_code
def yX3_isName : MethodName := ⟨RX3, "isName", "()Z"⟩
def dkwX3_isName_1 : List UInt8 := [16, 6, 163, 0, 14, 42, 182, 1, 123, 154, 0, 7, 4, 167, 0, 4, 3, 172]
abbrev dktX3_isName_1 : List UInt8 := dkwX3_isName_1 ++ []
def dkwX3_isName_0 : List UInt8 := [42, 182, 1, 23, 153, 0, 36, 42, 180, 1, 39, 4, 160, 0, 28, 42, 180, 1, 33, 42, 180, 1, 27, 100]
abbrev dktX3_isName_0 : List UInt8 := dkwX3_isName_0 ++ dktX3_isName_1
theorem dksX3_isName_0 : cX3_isName.data.toList.drop 0 = dktX3_isName_0 := by decide +kernel
theorem dksX3_isName_1 : cX3_isName.data.toList.drop 24 = dktX3_isName_1 := dk_seg dksX3_isName_0 24 rfl rfl
theorem dX3_isName_0 : decode cX3_isName 0 = .ok (.aload_n 0, 1) := dk_42 (dk_at dksX3_isName_0 0 rfl rfl)
theorem dX3_isName_1 : decode cX3_isName 1 = .ok (.invokevirtual 279, 3) := dk_182 1 23 (dk_at dksX3_isName_0 1 rfl rfl)
theorem dX3_isName_4 : decode cX3_isName 4 = .ok (.ifCond .eq 36, 3) := dk_153 0 36 (dk_at dksX3_isName_0 4 rfl rfl)
theorem dX3_isName_7 : decode cX3_isName 7 = .ok (.aload_n 0, 1) := dk_42 (dk_at dksX3_isName_0 7 rfl rfl)
theorem dX3_isName_8 : decode cX3_isName 8 = .ok (.getfield 295, 3) := dk_180 1 39 (dk_at dksX3_isName_0 8 rfl rfl)
theorem dX3_isName_11 : decode cX3_isName 11 = .ok (.iconst 1, 1) := dk_4 (dk_at dksX3_isName_0 11 rfl rfl)
theorem dX3_isName_12 : decode cX3_isName 12 = .ok (.if_icmp .ne 28, 3) := dk_160 0 28 (dk_at dksX3_isName_0 12 rfl rfl)
theorem dX3_isName_15 : decode cX3_isName 15 = .ok (.aload_n 0, 1) := dk_42 (dk_at dksX3_isName_0 15 rfl rfl)
theorem dX3_isName_16 : decode cX3_isName 16 = .ok (.getfield 289, 3) := dk_180 1 33 (dk_at dksX3_isName_0 16 rfl rfl)
theorem dX3_isName_19 : decode cX3_isName 19 = .ok (.aload_n 0, 1) := dk_42 (dk_at dksX3_isName_0 19 rfl rfl)
theorem dX3_isName_20 : decode cX3_isName 20 = .ok (.getfield 283, 3) := dk_180 1 27 (dk_at dksX3_isName_0 20 rfl rfl)
theorem dX3_isName_23 : decode cX3_isName 23 = .ok (.isub, 1) := dk_100 (dk_at dksX3_isName_0 23 rfl rfl)
theorem dX3_isName_24 : decode cX3_isName 24 = .ok (.bipush 6, 2) := dk_16 6 (dk_at dksX3_isName_1 0 rfl rfl)
theorem dX3_isName_26 : decode cX3_isName 26 = .ok (.if_icmp .gt 14, 3) := dk_163 0 14 (dk_at dksX3_isName_1 2 rfl rfl)
theorem dX3_isName_29 : decode cX3_isName 29 = .ok (.aload_n 0, 1) := dk_42 (dk_at dksX3_isName_1 5 rfl rfl)
theorem dX3_isName_30 : decode cX3_isName 30 = .ok (.invokevirtual 379, 3) := dk_182 1 123 (dk_at dksX3_isName_1 6 rfl rfl)
theorem dX3_isName_33 : decode cX3_isName 33 = .ok (.ifCond .ne 7, 3) := dk_154 0 7 (dk_at dksX3_isName_1 9 rfl rfl)
theorem dX3_isName_36 : decode cX3_isName 36 = .ok (.iconst 1, 1) := dk_4 (dk_at dksX3_isName_1 12 rfl rfl)
theorem dX3_isName_37 : decode cX3_isName 37 = .ok (.goto 4, 3) := dk_167 0 4 (dk_at dksX3_isName_1 13 rfl rfl)
theorem dX3_isName_40 : decode cX3_isName 40 = .ok (.iconst 0, 1) := dk_3 (dk_at dksX3_isName_1 16 rfl rfl)
theorem dX3_isName_41 : decode cX3_isName 41 = .ok (.ireturn, 1) := dk_172 (dk_at dksX3_isName_1 17 rfl rfl)
abbrev cX3_isKeyword : ByteArray := prog_13_method_93_code
def yX3_isKeyword : MethodName := ⟨RX3, "isKeyword", "()Z"⟩
def dkwX3_isKeyword_5 : List UInt8 := [4, 167, 0, 4, 3, 172]
abbrev dktX3_isKeyword_5 : List UInt8 := dkwX3_isKeyword_5 ++ []
def dkwX3_isKeyword_4 : List UInt8 := [182, 1, 71, 154, 0, 21, 42, 19, 1, 114, 182, 1, 71, 154, 0, 11, 42, 182, 1, 116, 2, 159, 0, 7]
abbrev dktX3_isKeyword_4 : List UInt8 := dkwX3_isKeyword_4 ++ dktX3_isKeyword_5
def dkwX3_isKeyword_3 : List UInt8 := [19, 1, 108, 182, 1, 71, 154, 0, 41, 42, 19, 1, 110, 182, 1, 71, 154, 0, 31, 42, 19, 1, 112]
abbrev dktX3_isKeyword_3 : List UInt8 := dkwX3_isKeyword_3 ++ dktX3_isKeyword_4
def dkwX3_isKeyword_2 : List UInt8 := [154, 0, 13, 42, 19, 1, 106, 182, 1, 71, 153, 0, 7, 4, 167, 0, 4, 3, 60, 27, 154, 0, 51, 42]
abbrev dktX3_isKeyword_2 : List UInt8 := dkwX3_isKeyword_2 ++ dktX3_isKeyword_3
def dkwX3_isKeyword_1 : List UInt8 := [182, 1, 71, 154, 0, 33, 42, 19, 1, 102, 182, 1, 71, 154, 0, 23, 42, 19, 1, 104, 182, 1, 71]
abbrev dktX3_isKeyword_1 : List UInt8 := dkwX3_isKeyword_1 ++ dktX3_isKeyword_2
def dkwX3_isKeyword_0 : List UInt8 := [42, 19, 1, 96, 182, 1, 71, 154, 0, 53, 42, 19, 1, 98, 182, 1, 71, 154, 0, 43, 42, 19, 1, 100]
abbrev dktX3_isKeyword_0 : List UInt8 := dkwX3_isKeyword_0 ++ dktX3_isKeyword_1
theorem dksX3_isKeyword_0 : cX3_isKeyword.data.toList.drop 0 = dktX3_isKeyword_0 := by decide +kernel
theorem dksX3_isKeyword_1 : cX3_isKeyword.data.toList.drop 24 = dktX3_isKeyword_1 := dk_seg dksX3_isKeyword_0 24 rfl rfl
theorem dksX3_isKeyword_2 : cX3_isKeyword.data.toList.drop 47 = dktX3_isKeyword_2 := dk_seg dksX3_isKeyword_1 23 rfl rfl
theorem dksX3_isKeyword_3 : cX3_isKeyword.data.toList.drop 71 = dktX3_isKeyword_3 := dk_seg dksX3_isKeyword_2 24 rfl rfl
theorem dksX3_isKeyword_4 : cX3_isKeyword.data.toList.drop 94 = dktX3_isKeyword_4 := dk_seg dksX3_isKeyword_3 23 rfl rfl
theorem dksX3_isKeyword_5 : cX3_isKeyword.data.toList.drop 118 = dktX3_isKeyword_5 := dk_seg dksX3_isKeyword_4 24 rfl rfl
theorem dX3_isKeyword_0 : decode cX3_isKeyword 0 = .ok (.aload_n 0, 1) := dk_42 (dk_at dksX3_isKeyword_0 0 rfl rfl)
theorem dX3_isKeyword_1 : decode cX3_isKeyword 1 = .ok (.ldc_w 352, 3) := dk_19 1 96 (dk_at dksX3_isKeyword_0 1 rfl rfl)
theorem dX3_isKeyword_4 : decode cX3_isKeyword 4 = .ok (.invokevirtual 327, 3) := dk_182 1 71 (dk_at dksX3_isKeyword_0 4 rfl rfl)
theorem dX3_isKeyword_7 : decode cX3_isKeyword 7 = .ok (.ifCond .ne 53, 3) := dk_154 0 53 (dk_at dksX3_isKeyword_0 7 rfl rfl)
theorem dX3_isKeyword_10 : decode cX3_isKeyword 10 = .ok (.aload_n 0, 1) := dk_42 (dk_at dksX3_isKeyword_0 10 rfl rfl)
theorem dX3_isKeyword_11 : decode cX3_isKeyword 11 = .ok (.ldc_w 354, 3) := dk_19 1 98 (dk_at dksX3_isKeyword_0 11 rfl rfl)
theorem dX3_isKeyword_14 : decode cX3_isKeyword 14 = .ok (.invokevirtual 327, 3) := dk_182 1 71 (dk_at dksX3_isKeyword_0 14 rfl rfl)
theorem dX3_isKeyword_17 : decode cX3_isKeyword 17 = .ok (.ifCond .ne 43, 3) := dk_154 0 43 (dk_at dksX3_isKeyword_0 17 rfl rfl)
theorem dX3_isKeyword_20 : decode cX3_isKeyword 20 = .ok (.aload_n 0, 1) := dk_42 (dk_at dksX3_isKeyword_0 20 rfl rfl)
theorem dX3_isKeyword_21 : decode cX3_isKeyword 21 = .ok (.ldc_w 356, 3) := dk_19 1 100 (dk_at dksX3_isKeyword_0 21 rfl rfl)
theorem dX3_isKeyword_24 : decode cX3_isKeyword 24 = .ok (.invokevirtual 327, 3) := dk_182 1 71 (dk_at dksX3_isKeyword_1 0 rfl rfl)
theorem dX3_isKeyword_27 : decode cX3_isKeyword 27 = .ok (.ifCond .ne 33, 3) := dk_154 0 33 (dk_at dksX3_isKeyword_1 3 rfl rfl)
theorem dX3_isKeyword_30 : decode cX3_isKeyword 30 = .ok (.aload_n 0, 1) := dk_42 (dk_at dksX3_isKeyword_1 6 rfl rfl)
theorem dX3_isKeyword_31 : decode cX3_isKeyword 31 = .ok (.ldc_w 358, 3) := dk_19 1 102 (dk_at dksX3_isKeyword_1 7 rfl rfl)
theorem dX3_isKeyword_34 : decode cX3_isKeyword 34 = .ok (.invokevirtual 327, 3) := dk_182 1 71 (dk_at dksX3_isKeyword_1 10 rfl rfl)
theorem dX3_isKeyword_37 : decode cX3_isKeyword 37 = .ok (.ifCond .ne 23, 3) := dk_154 0 23 (dk_at dksX3_isKeyword_1 13 rfl rfl)
theorem dX3_isKeyword_40 : decode cX3_isKeyword 40 = .ok (.aload_n 0, 1) := dk_42 (dk_at dksX3_isKeyword_1 16 rfl rfl)
theorem dX3_isKeyword_41 : decode cX3_isKeyword 41 = .ok (.ldc_w 360, 3) := dk_19 1 104 (dk_at dksX3_isKeyword_1 17 rfl rfl)
theorem dX3_isKeyword_44 : decode cX3_isKeyword 44 = .ok (.invokevirtual 327, 3) := dk_182 1 71 (dk_at dksX3_isKeyword_1 20 rfl rfl)
theorem dX3_isKeyword_47 : decode cX3_isKeyword 47 = .ok (.ifCond .ne 13, 3) := dk_154 0 13 (dk_at dksX3_isKeyword_2 0 rfl rfl)
theorem dX3_isKeyword_50 : decode cX3_isKeyword 50 = .ok (.aload_n 0, 1) := dk_42 (dk_at dksX3_isKeyword_2 3 rfl rfl)
theorem dX3_isKeyword_51 : decode cX3_isKeyword 51 = .ok (.ldc_w 362, 3) := dk_19 1 106 (dk_at dksX3_isKeyword_2 4 rfl rfl)
theorem dX3_isKeyword_54 : decode cX3_isKeyword 54 = .ok (.invokevirtual 327, 3) := dk_182 1 71 (dk_at dksX3_isKeyword_2 7 rfl rfl)
theorem dX3_isKeyword_57 : decode cX3_isKeyword 57 = .ok (.ifCond .eq 7, 3) := dk_153 0 7 (dk_at dksX3_isKeyword_2 10 rfl rfl)
theorem dX3_isKeyword_60 : decode cX3_isKeyword 60 = .ok (.iconst 1, 1) := dk_4 (dk_at dksX3_isKeyword_2 13 rfl rfl)
theorem dX3_isKeyword_61 : decode cX3_isKeyword 61 = .ok (.goto 4, 3) := dk_167 0 4 (dk_at dksX3_isKeyword_2 14 rfl rfl)
theorem dX3_isKeyword_64 : decode cX3_isKeyword 64 = .ok (.iconst 0, 1) := dk_3 (dk_at dksX3_isKeyword_2 17 rfl rfl)
theorem dX3_isKeyword_65 : decode cX3_isKeyword 65 = .ok (.istore_n 1, 1) := dk_60 (dk_at dksX3_isKeyword_2 18 rfl rfl)
theorem dX3_isKeyword_66 : decode cX3_isKeyword 66 = .ok (.iload_n 1, 1) := dk_27 (dk_at dksX3_isKeyword_2 19 rfl rfl)
theorem dX3_isKeyword_67 : decode cX3_isKeyword 67 = .ok (.ifCond .ne 51, 3) := dk_154 0 51 (dk_at dksX3_isKeyword_2 20 rfl rfl)
theorem dX3_isKeyword_70 : decode cX3_isKeyword 70 = .ok (.aload_n 0, 1) := dk_42 (dk_at dksX3_isKeyword_2 23 rfl rfl)
theorem dX3_isKeyword_71 : decode cX3_isKeyword 71 = .ok (.ldc_w 364, 3) := dk_19 1 108 (dk_at dksX3_isKeyword_3 0 rfl rfl)
theorem dX3_isKeyword_74 : decode cX3_isKeyword 74 = .ok (.invokevirtual 327, 3) := dk_182 1 71 (dk_at dksX3_isKeyword_3 3 rfl rfl)
theorem dX3_isKeyword_77 : decode cX3_isKeyword 77 = .ok (.ifCond .ne 41, 3) := dk_154 0 41 (dk_at dksX3_isKeyword_3 6 rfl rfl)
theorem dX3_isKeyword_80 : decode cX3_isKeyword 80 = .ok (.aload_n 0, 1) := dk_42 (dk_at dksX3_isKeyword_3 9 rfl rfl)
theorem dX3_isKeyword_81 : decode cX3_isKeyword 81 = .ok (.ldc_w 366, 3) := dk_19 1 110 (dk_at dksX3_isKeyword_3 10 rfl rfl)
theorem dX3_isKeyword_84 : decode cX3_isKeyword 84 = .ok (.invokevirtual 327, 3) := dk_182 1 71 (dk_at dksX3_isKeyword_3 13 rfl rfl)
theorem dX3_isKeyword_87 : decode cX3_isKeyword 87 = .ok (.ifCond .ne 31, 3) := dk_154 0 31 (dk_at dksX3_isKeyword_3 16 rfl rfl)
theorem dX3_isKeyword_90 : decode cX3_isKeyword 90 = .ok (.aload_n 0, 1) := dk_42 (dk_at dksX3_isKeyword_3 19 rfl rfl)
theorem dX3_isKeyword_91 : decode cX3_isKeyword 91 = .ok (.ldc_w 368, 3) := dk_19 1 112 (dk_at dksX3_isKeyword_3 20 rfl rfl)
theorem dX3_isKeyword_94 : decode cX3_isKeyword 94 = .ok (.invokevirtual 327, 3) := dk_182 1 71 (dk_at dksX3_isKeyword_4 0 rfl rfl)
theorem dX3_isKeyword_97 : decode cX3_isKeyword 97 = .ok (.ifCond .ne 21, 3) := dk_154 0 21 (dk_at dksX3_isKeyword_4 3 rfl rfl)
theorem dX3_isKeyword_100 : decode cX3_isKeyword 100 = .ok (.aload_n 0, 1) := dk_42 (dk_at dksX3_isKeyword_4 6 rfl rfl)
theorem dX3_isKeyword_101 : decode cX3_isKeyword 101 = .ok (.ldc_w 370, 3) := dk_19 1 114 (dk_at dksX3_isKeyword_4 7 rfl rfl)
theorem dX3_isKeyword_104 : decode cX3_isKeyword 104 = .ok (.invokevirtual 327, 3) := dk_182 1 71 (dk_at dksX3_isKeyword_4 10 rfl rfl)
theorem dX3_isKeyword_107 : decode cX3_isKeyword 107 = .ok (.ifCond .ne 11, 3) := dk_154 0 11 (dk_at dksX3_isKeyword_4 13 rfl rfl)
theorem dX3_isKeyword_110 : decode cX3_isKeyword 110 = .ok (.aload_n 0, 1) := dk_42 (dk_at dksX3_isKeyword_4 16 rfl rfl)
theorem dX3_isKeyword_111 : decode cX3_isKeyword 111 = .ok (.invokevirtual 372, 3) := dk_182 1 116 (dk_at dksX3_isKeyword_4 17 rfl rfl)
theorem dX3_isKeyword_114 : decode cX3_isKeyword 114 = .ok (.iconst (-1), 1) := dk_2 (dk_at dksX3_isKeyword_4 20 rfl rfl)
theorem dX3_isKeyword_115 : decode cX3_isKeyword 115 = .ok (.if_icmp .eq 7, 3) := dk_159 0 7 (dk_at dksX3_isKeyword_4 21 rfl rfl)
theorem dX3_isKeyword_118 : decode cX3_isKeyword 118 = .ok (.iconst 1, 1) := dk_4 (dk_at dksX3_isKeyword_5 0 rfl rfl)
theorem dX3_isKeyword_119 : decode cX3_isKeyword 119 = .ok (.goto 4, 3) := dk_167 0 4 (dk_at dksX3_isKeyword_5 1 rfl rfl)
theorem dX3_isKeyword_122 : decode cX3_isKeyword 122 = .ok (.iconst 0, 1) := dk_3 (dk_at dksX3_isKeyword_5 4 rfl rfl)
theorem dX3_isKeyword_123 : decode cX3_isKeyword 123 = .ok (.ireturn, 1) := dk_172 (dk_at dksX3_isKeyword_5 5 rfl rfl)
abbrev cX3_flagHere : ByteArray := prog_13_method_92_code
def yX3_flagHere : MethodName := ⟨RX3, "flagHere", "()I"⟩
def dkwX3_flagHere_2 : List UInt8 := [42, 19, 1, 95, 182, 1, 71, 153, 0, 7, 7, 167, 0, 4, 2, 172]
abbrev dktX3_flagHere_2 : List UInt8 := dkwX3_flagHere_2 ++ []
def dkwX3_flagHere_1 : List UInt8 := [42, 19, 1, 91, 182, 1, 71, 153, 0, 5, 5, 172, 42, 19, 1, 93, 182, 1, 71, 153, 0, 5, 6, 172]
abbrev dktX3_flagHere_1 : List UInt8 := dkwX3_flagHere_1 ++ dktX3_flagHere_2
def dkwX3_flagHere_0 : List UInt8 := [42, 19, 1, 87, 182, 1, 71, 153, 0, 5, 3, 172, 42, 19, 1, 89, 182, 1, 71, 153, 0, 5, 4, 172]
abbrev dktX3_flagHere_0 : List UInt8 := dkwX3_flagHere_0 ++ dktX3_flagHere_1
theorem dksX3_flagHere_0 : cX3_flagHere.data.toList.drop 0 = dktX3_flagHere_0 := by decide +kernel
theorem dksX3_flagHere_1 : cX3_flagHere.data.toList.drop 24 = dktX3_flagHere_1 := dk_seg dksX3_flagHere_0 24 rfl rfl
theorem dksX3_flagHere_2 : cX3_flagHere.data.toList.drop 48 = dktX3_flagHere_2 := dk_seg dksX3_flagHere_1 24 rfl rfl
theorem dX3_flagHere_0 : decode cX3_flagHere 0 = .ok (.aload_n 0, 1) := dk_42 (dk_at dksX3_flagHere_0 0 rfl rfl)
theorem dX3_flagHere_1 : decode cX3_flagHere 1 = .ok (.ldc_w 343, 3) := dk_19 1 87 (dk_at dksX3_flagHere_0 1 rfl rfl)
theorem dX3_flagHere_4 : decode cX3_flagHere 4 = .ok (.invokevirtual 327, 3) := dk_182 1 71 (dk_at dksX3_flagHere_0 4 rfl rfl)
theorem dX3_flagHere_7 : decode cX3_flagHere 7 = .ok (.ifCond .eq 5, 3) := dk_153 0 5 (dk_at dksX3_flagHere_0 7 rfl rfl)
theorem dX3_flagHere_10 : decode cX3_flagHere 10 = .ok (.iconst 0, 1) := dk_3 (dk_at dksX3_flagHere_0 10 rfl rfl)
theorem dX3_flagHere_11 : decode cX3_flagHere 11 = .ok (.ireturn, 1) := dk_172 (dk_at dksX3_flagHere_0 11 rfl rfl)
theorem dX3_flagHere_12 : decode cX3_flagHere 12 = .ok (.aload_n 0, 1) := dk_42 (dk_at dksX3_flagHere_0 12 rfl rfl)
theorem dX3_flagHere_13 : decode cX3_flagHere 13 = .ok (.ldc_w 345, 3) := dk_19 1 89 (dk_at dksX3_flagHere_0 13 rfl rfl)
theorem dX3_flagHere_16 : decode cX3_flagHere 16 = .ok (.invokevirtual 327, 3) := dk_182 1 71 (dk_at dksX3_flagHere_0 16 rfl rfl)
theorem dX3_flagHere_19 : decode cX3_flagHere 19 = .ok (.ifCond .eq 5, 3) := dk_153 0 5 (dk_at dksX3_flagHere_0 19 rfl rfl)
theorem dX3_flagHere_22 : decode cX3_flagHere 22 = .ok (.iconst 1, 1) := dk_4 (dk_at dksX3_flagHere_0 22 rfl rfl)
theorem dX3_flagHere_23 : decode cX3_flagHere 23 = .ok (.ireturn, 1) := dk_172 (dk_at dksX3_flagHere_0 23 rfl rfl)
theorem dX3_flagHere_24 : decode cX3_flagHere 24 = .ok (.aload_n 0, 1) := dk_42 (dk_at dksX3_flagHere_1 0 rfl rfl)
theorem dX3_flagHere_25 : decode cX3_flagHere 25 = .ok (.ldc_w 347, 3) := dk_19 1 91 (dk_at dksX3_flagHere_1 1 rfl rfl)
theorem dX3_flagHere_28 : decode cX3_flagHere 28 = .ok (.invokevirtual 327, 3) := dk_182 1 71 (dk_at dksX3_flagHere_1 4 rfl rfl)
theorem dX3_flagHere_31 : decode cX3_flagHere 31 = .ok (.ifCond .eq 5, 3) := dk_153 0 5 (dk_at dksX3_flagHere_1 7 rfl rfl)
theorem dX3_flagHere_34 : decode cX3_flagHere 34 = .ok (.iconst 2, 1) := dk_5 (dk_at dksX3_flagHere_1 10 rfl rfl)
theorem dX3_flagHere_35 : decode cX3_flagHere 35 = .ok (.ireturn, 1) := dk_172 (dk_at dksX3_flagHere_1 11 rfl rfl)
theorem dX3_flagHere_36 : decode cX3_flagHere 36 = .ok (.aload_n 0, 1) := dk_42 (dk_at dksX3_flagHere_1 12 rfl rfl)
theorem dX3_flagHere_37 : decode cX3_flagHere 37 = .ok (.ldc_w 349, 3) := dk_19 1 93 (dk_at dksX3_flagHere_1 13 rfl rfl)
theorem dX3_flagHere_40 : decode cX3_flagHere 40 = .ok (.invokevirtual 327, 3) := dk_182 1 71 (dk_at dksX3_flagHere_1 16 rfl rfl)
theorem dX3_flagHere_43 : decode cX3_flagHere 43 = .ok (.ifCond .eq 5, 3) := dk_153 0 5 (dk_at dksX3_flagHere_1 19 rfl rfl)
theorem dX3_flagHere_46 : decode cX3_flagHere 46 = .ok (.iconst 3, 1) := dk_6 (dk_at dksX3_flagHere_1 22 rfl rfl)
theorem dX3_flagHere_47 : decode cX3_flagHere 47 = .ok (.ireturn, 1) := dk_172 (dk_at dksX3_flagHere_1 23 rfl rfl)
theorem dX3_flagHere_48 : decode cX3_flagHere 48 = .ok (.aload_n 0, 1) := dk_42 (dk_at dksX3_flagHere_2 0 rfl rfl)
theorem dX3_flagHere_49 : decode cX3_flagHere 49 = .ok (.ldc_w 351, 3) := dk_19 1 95 (dk_at dksX3_flagHere_2 1 rfl rfl)
theorem dX3_flagHere_52 : decode cX3_flagHere 52 = .ok (.invokevirtual 327, 3) := dk_182 1 71 (dk_at dksX3_flagHere_2 4 rfl rfl)
theorem dX3_flagHere_55 : decode cX3_flagHere 55 = .ok (.ifCond .eq 7, 3) := dk_153 0 7 (dk_at dksX3_flagHere_2 7 rfl rfl)
theorem dX3_flagHere_58 : decode cX3_flagHere 58 = .ok (.iconst 4, 1) := dk_7 (dk_at dksX3_flagHere_2 10 rfl rfl)
theorem dX3_flagHere_59 : decode cX3_flagHere 59 = .ok (.goto 4, 3) := dk_167 0 4 (dk_at dksX3_flagHere_2 11 rfl rfl)
theorem dX3_flagHere_62 : decode cX3_flagHere 62 = .ok (.iconst (-1), 1) := dk_2 (dk_at dksX3_flagHere_2 14 rfl rfl)
theorem dX3_flagHere_63 : decode cX3_flagHere 63 = .ok (.ireturn, 1) := dk_172 (dk_at dksX3_flagHere_2 15 rfl rfl)
abbrev cX3_nameOf : ByteArray := prog_13_method_94_code
def yX3_nameOf : MethodName := ⟨RX3, "nameOf", "([BII)J"⟩
def dkwX3_nameOf_1 : List UInt8 := [20, 1, 121, 101, 66, 132, 5, 1, 167, 255, 231, 33, 173]
abbrev dktX3_nameOf_1 : List UInt8 := dkwX3_nameOf_1 ++ []
def dkwX3_nameOf_0 : List UInt8 := [9, 66, 27, 54, 5, 21, 5, 28, 162, 0, 25, 20, 1, 119, 33, 105, 42, 21, 5, 51, 133, 97]
abbrev dktX3_nameOf_0 : List UInt8 := dkwX3_nameOf_0 ++ dktX3_nameOf_1
theorem dksX3_nameOf_0 : cX3_nameOf.data.toList.drop 0 = dktX3_nameOf_0 := by decide +kernel
theorem dksX3_nameOf_1 : cX3_nameOf.data.toList.drop 22 = dktX3_nameOf_1 := dk_seg dksX3_nameOf_0 22 rfl rfl
theorem dX3_nameOf_0 : decode cX3_nameOf 0 = .ok (.lconst 0, 1) := dk_9 (dk_at dksX3_nameOf_0 0 rfl rfl)
theorem dX3_nameOf_1 : decode cX3_nameOf 1 = .ok (.lstore_n 3, 1) := dk_66 (dk_at dksX3_nameOf_0 1 rfl rfl)
theorem dX3_nameOf_2 : decode cX3_nameOf 2 = .ok (.iload_n 1, 1) := dk_27 (dk_at dksX3_nameOf_0 2 rfl rfl)
theorem dX3_nameOf_3 : decode cX3_nameOf 3 = .ok (.istore 5, 2) := dk_54 5 (dk_at dksX3_nameOf_0 3 rfl rfl)
theorem dX3_nameOf_5 : decode cX3_nameOf 5 = .ok (.iload 5, 2) := dk_21 5 (dk_at dksX3_nameOf_0 5 rfl rfl)
theorem dX3_nameOf_7 : decode cX3_nameOf 7 = .ok (.iload_n 2, 1) := dk_28 (dk_at dksX3_nameOf_0 7 rfl rfl)
theorem dX3_nameOf_8 : decode cX3_nameOf 8 = .ok (.if_icmp .ge 25, 3) := dk_162 0 25 (dk_at dksX3_nameOf_0 8 rfl rfl)
theorem dX3_nameOf_11 : decode cX3_nameOf 11 = .ok (.ldc2_w 375, 3) := dk_20 1 119 (dk_at dksX3_nameOf_0 11 rfl rfl)
theorem dX3_nameOf_14 : decode cX3_nameOf 14 = .ok (.lload_n 3, 1) := dk_33 (dk_at dksX3_nameOf_0 14 rfl rfl)
theorem dX3_nameOf_15 : decode cX3_nameOf 15 = .ok (.lmul, 1) := dk_105 (dk_at dksX3_nameOf_0 15 rfl rfl)
theorem dX3_nameOf_16 : decode cX3_nameOf 16 = .ok (.aload_n 0, 1) := dk_42 (dk_at dksX3_nameOf_0 16 rfl rfl)
theorem dX3_nameOf_17 : decode cX3_nameOf 17 = .ok (.iload 5, 2) := dk_21 5 (dk_at dksX3_nameOf_0 17 rfl rfl)
theorem dX3_nameOf_19 : decode cX3_nameOf 19 = .ok (.baload, 1) := dk_51 (dk_at dksX3_nameOf_0 19 rfl rfl)
theorem dX3_nameOf_20 : decode cX3_nameOf 20 = .ok (.i2l, 1) := dk_133 (dk_at dksX3_nameOf_0 20 rfl rfl)
theorem dX3_nameOf_21 : decode cX3_nameOf 21 = .ok (.ladd, 1) := dk_97 (dk_at dksX3_nameOf_0 21 rfl rfl)
theorem dX3_nameOf_22 : decode cX3_nameOf 22 = .ok (.ldc2_w 377, 3) := dk_20 1 121 (dk_at dksX3_nameOf_1 0 rfl rfl)
theorem dX3_nameOf_25 : decode cX3_nameOf 25 = .ok (.lsub, 1) := dk_101 (dk_at dksX3_nameOf_1 3 rfl rfl)
theorem dX3_nameOf_26 : decode cX3_nameOf 26 = .ok (.lstore_n 3, 1) := dk_66 (dk_at dksX3_nameOf_1 4 rfl rfl)
theorem dX3_nameOf_27 : decode cX3_nameOf 27 = .ok (.iinc 5 1, 3) := dk_132 5 1 (dk_at dksX3_nameOf_1 5 rfl rfl)
theorem dX3_nameOf_30 : decode cX3_nameOf 30 = .ok (.goto (-25), 3) := dk_167 255 231 (dk_at dksX3_nameOf_1 8 rfl rfl)
theorem dX3_nameOf_33 : decode cX3_nameOf 33 = .ok (.lload_n 3, 1) := dk_33 (dk_at dksX3_nameOf_1 11 rfl rfl)
theorem dX3_nameOf_34 : decode cX3_nameOf 34 = .ok (.lreturn, 1) := dk_173 (dk_at dksX3_nameOf_1 12 rfl rfl)
abbrev cX3_boxNamed : ByteArray := prog_13_method_97_code
def yX3_boxNamed : MethodName := ⟨RX3, "boxNamed", "(J)I"⟩
def dkwX3_boxNamed_1 : List UInt8 := [154, 0, 5, 29, 172, 132, 3, 1, 167, 255, 227, 2, 172]
abbrev dktX3_boxNamed_1 : List UInt8 := dkwX3_boxNamed_1 ++ []
def dkwX3_boxNamed_0 : List UInt8 := [3, 62, 29, 42, 182, 0, 66, 162, 0, 27, 42, 180, 0, 24, 29, 184, 0, 77, 3, 96, 47, 31, 148]
abbrev dktX3_boxNamed_0 : List UInt8 := dkwX3_boxNamed_0 ++ dktX3_boxNamed_1
theorem dksX3_boxNamed_0 : cX3_boxNamed.data.toList.drop 0 = dktX3_boxNamed_0 := by decide +kernel
theorem dksX3_boxNamed_1 : cX3_boxNamed.data.toList.drop 23 = dktX3_boxNamed_1 := dk_seg dksX3_boxNamed_0 23 rfl rfl
theorem dX3_boxNamed_0 : decode cX3_boxNamed 0 = .ok (.iconst 0, 1) := dk_3 (dk_at dksX3_boxNamed_0 0 rfl rfl)
theorem dX3_boxNamed_1 : decode cX3_boxNamed 1 = .ok (.istore_n 3, 1) := dk_62 (dk_at dksX3_boxNamed_0 1 rfl rfl)
theorem dX3_boxNamed_2 : decode cX3_boxNamed 2 = .ok (.iload_n 3, 1) := dk_29 (dk_at dksX3_boxNamed_0 2 rfl rfl)
theorem dX3_boxNamed_3 : decode cX3_boxNamed 3 = .ok (.aload_n 0, 1) := dk_42 (dk_at dksX3_boxNamed_0 3 rfl rfl)
theorem dX3_boxNamed_4 : decode cX3_boxNamed 4 = .ok (.invokevirtual 66, 3) := dk_182 0 66 (dk_at dksX3_boxNamed_0 4 rfl rfl)
theorem dX3_boxNamed_7 : decode cX3_boxNamed 7 = .ok (.if_icmp .ge 27, 3) := dk_162 0 27 (dk_at dksX3_boxNamed_0 7 rfl rfl)
theorem dX3_boxNamed_10 : decode cX3_boxNamed 10 = .ok (.aload_n 0, 1) := dk_42 (dk_at dksX3_boxNamed_0 10 rfl rfl)
theorem dX3_boxNamed_11 : decode cX3_boxNamed 11 = .ok (.getfield 24, 3) := dk_180 0 24 (dk_at dksX3_boxNamed_0 11 rfl rfl)
theorem dX3_boxNamed_14 : decode cX3_boxNamed 14 = .ok (.iload_n 3, 1) := dk_29 (dk_at dksX3_boxNamed_0 14 rfl rfl)
theorem dX3_boxNamed_15 : decode cX3_boxNamed 15 = .ok (.invokestatic 77, 3) := dk_184 0 77 (dk_at dksX3_boxNamed_0 15 rfl rfl)
theorem dX3_boxNamed_18 : decode cX3_boxNamed 18 = .ok (.iconst 0, 1) := dk_3 (dk_at dksX3_boxNamed_0 18 rfl rfl)
theorem dX3_boxNamed_19 : decode cX3_boxNamed 19 = .ok (.iadd, 1) := dk_96 (dk_at dksX3_boxNamed_0 19 rfl rfl)
theorem dX3_boxNamed_20 : decode cX3_boxNamed 20 = .ok (.laload, 1) := dk_47 (dk_at dksX3_boxNamed_0 20 rfl rfl)
theorem dX3_boxNamed_21 : decode cX3_boxNamed 21 = .ok (.lload_n 1, 1) := dk_31 (dk_at dksX3_boxNamed_0 21 rfl rfl)
theorem dX3_boxNamed_22 : decode cX3_boxNamed 22 = .ok (.lcmp, 1) := dk_148 (dk_at dksX3_boxNamed_0 22 rfl rfl)
theorem dX3_boxNamed_23 : decode cX3_boxNamed 23 = .ok (.ifCond .ne 5, 3) := dk_154 0 5 (dk_at dksX3_boxNamed_1 0 rfl rfl)
theorem dX3_boxNamed_26 : decode cX3_boxNamed 26 = .ok (.iload_n 3, 1) := dk_29 (dk_at dksX3_boxNamed_1 3 rfl rfl)
theorem dX3_boxNamed_27 : decode cX3_boxNamed 27 = .ok (.ireturn, 1) := dk_172 (dk_at dksX3_boxNamed_1 4 rfl rfl)
theorem dX3_boxNamed_28 : decode cX3_boxNamed 28 = .ok (.iinc 3 1, 3) := dk_132 3 1 (dk_at dksX3_boxNamed_1 5 rfl rfl)
theorem dX3_boxNamed_31 : decode cX3_boxNamed 31 = .ok (.goto (-29), 3) := dk_167 255 227 (dk_at dksX3_boxNamed_1 8 rfl rfl)
theorem dX3_boxNamed_34 : decode cX3_boxNamed 34 = .ok (.iconst (-1), 1) := dk_2 (dk_at dksX3_boxNamed_1 11 rfl rfl)
theorem dX3_boxNamed_35 : decode cX3_boxNamed 35 = .ok (.ireturn, 1) := dk_172 (dk_at dksX3_boxNamed_1 12 rfl rfl)
abbrev cX3_parseMessage : ByteArray := prog_13_method_103_code
def yX3_parseMessage : MethodName := ⟨RX3, "parseMessage", "()V"⟩
def dkwX3_parseMessage_4 : List UInt8 := [181, 1, 133, 177]
abbrev dktX3_parseMessage_4 : List UInt8 := dkwX3_parseMessage_4 ++ []
def dkwX3_parseMessage_3 : List UInt8 := [182, 1, 23, 154, 0, 4, 177, 42, 27, 28, 29, 182, 0, 247, 54, 4, 42, 89, 180, 1, 133, 4, 96]
abbrev dktX3_parseMessage_3 : List UInt8 := dkwX3_parseMessage_3 ++ dktX3_parseMessage_4
def dkwX3_parseMessage_2 : List UInt8 := [154, 0, 8, 42, 4, 182, 1, 81, 42, 4, 17, 39, 15, 182, 1, 140, 61, 42, 182, 1, 160, 62, 42]
abbrev dktX3_parseMessage_2 : List UInt8 := dkwX3_parseMessage_2 ++ dktX3_parseMessage_3
def dkwX3_parseMessage_1 : List UInt8 := [182, 0, 62, 161, 0, 8, 42, 7, 182, 1, 81, 42, 182, 1, 84, 42, 19, 1, 102, 182, 1, 157]
abbrev dktX3_parseMessage_1 : List UInt8 := dkwX3_parseMessage_1 ++ dktX3_parseMessage_2
def dkwX3_parseMessage_0 : List UInt8 := [42, 182, 1, 84, 42, 182, 1, 154, 60, 42, 182, 1, 23, 153, 0, 21, 42, 27, 182, 0, 100, 42, 3]
abbrev dktX3_parseMessage_0 : List UInt8 := dkwX3_parseMessage_0 ++ dktX3_parseMessage_1
theorem dksX3_parseMessage_0 : cX3_parseMessage.data.toList.drop 0 = dktX3_parseMessage_0 := by decide +kernel
theorem dksX3_parseMessage_1 : cX3_parseMessage.data.toList.drop 23 = dktX3_parseMessage_1 := dk_seg dksX3_parseMessage_0 23 rfl rfl
theorem dksX3_parseMessage_2 : cX3_parseMessage.data.toList.drop 45 = dktX3_parseMessage_2 := dk_seg dksX3_parseMessage_1 22 rfl rfl
theorem dksX3_parseMessage_3 : cX3_parseMessage.data.toList.drop 68 = dktX3_parseMessage_3 := dk_seg dksX3_parseMessage_2 23 rfl rfl
theorem dksX3_parseMessage_4 : cX3_parseMessage.data.toList.drop 91 = dktX3_parseMessage_4 := dk_seg dksX3_parseMessage_3 23 rfl rfl
theorem dX3_parseMessage_0 : decode cX3_parseMessage 0 = .ok (.aload_n 0, 1) := dk_42 (dk_at dksX3_parseMessage_0 0 rfl rfl)
theorem dX3_parseMessage_1 : decode cX3_parseMessage 1 = .ok (.invokevirtual 340, 3) := dk_182 1 84 (dk_at dksX3_parseMessage_0 1 rfl rfl)
theorem dX3_parseMessage_4 : decode cX3_parseMessage 4 = .ok (.aload_n 0, 1) := dk_42 (dk_at dksX3_parseMessage_0 4 rfl rfl)
theorem dX3_parseMessage_5 : decode cX3_parseMessage 5 = .ok (.invokevirtual 410, 3) := dk_182 1 154 (dk_at dksX3_parseMessage_0 5 rfl rfl)
theorem dX3_parseMessage_8 : decode cX3_parseMessage 8 = .ok (.istore_n 1, 1) := dk_60 (dk_at dksX3_parseMessage_0 8 rfl rfl)
theorem dX3_parseMessage_9 : decode cX3_parseMessage 9 = .ok (.aload_n 0, 1) := dk_42 (dk_at dksX3_parseMessage_0 9 rfl rfl)
theorem dX3_parseMessage_10 : decode cX3_parseMessage 10 = .ok (.invokevirtual 279, 3) := dk_182 1 23 (dk_at dksX3_parseMessage_0 10 rfl rfl)
theorem dX3_parseMessage_13 : decode cX3_parseMessage 13 = .ok (.ifCond .eq 21, 3) := dk_153 0 21 (dk_at dksX3_parseMessage_0 13 rfl rfl)
theorem dX3_parseMessage_16 : decode cX3_parseMessage 16 = .ok (.aload_n 0, 1) := dk_42 (dk_at dksX3_parseMessage_0 16 rfl rfl)
theorem dX3_parseMessage_17 : decode cX3_parseMessage 17 = .ok (.iload_n 1, 1) := dk_27 (dk_at dksX3_parseMessage_0 17 rfl rfl)
theorem dX3_parseMessage_18 : decode cX3_parseMessage 18 = .ok (.invokevirtual 100, 3) := dk_182 0 100 (dk_at dksX3_parseMessage_0 18 rfl rfl)
theorem dX3_parseMessage_21 : decode cX3_parseMessage 21 = .ok (.aload_n 0, 1) := dk_42 (dk_at dksX3_parseMessage_0 21 rfl rfl)
theorem dX3_parseMessage_22 : decode cX3_parseMessage 22 = .ok (.iconst 0, 1) := dk_3 (dk_at dksX3_parseMessage_0 22 rfl rfl)
theorem dX3_parseMessage_23 : decode cX3_parseMessage 23 = .ok (.invokevirtual 62, 3) := dk_182 0 62 (dk_at dksX3_parseMessage_1 0 rfl rfl)
theorem dX3_parseMessage_26 : decode cX3_parseMessage 26 = .ok (.if_icmp .lt 8, 3) := dk_161 0 8 (dk_at dksX3_parseMessage_1 3 rfl rfl)
theorem dX3_parseMessage_29 : decode cX3_parseMessage 29 = .ok (.aload_n 0, 1) := dk_42 (dk_at dksX3_parseMessage_1 6 rfl rfl)
theorem dX3_parseMessage_30 : decode cX3_parseMessage 30 = .ok (.iconst 4, 1) := dk_7 (dk_at dksX3_parseMessage_1 7 rfl rfl)
theorem dX3_parseMessage_31 : decode cX3_parseMessage 31 = .ok (.invokevirtual 337, 3) := dk_182 1 81 (dk_at dksX3_parseMessage_1 8 rfl rfl)
theorem dX3_parseMessage_34 : decode cX3_parseMessage 34 = .ok (.aload_n 0, 1) := dk_42 (dk_at dksX3_parseMessage_1 11 rfl rfl)
theorem dX3_parseMessage_35 : decode cX3_parseMessage 35 = .ok (.invokevirtual 340, 3) := dk_182 1 84 (dk_at dksX3_parseMessage_1 12 rfl rfl)
theorem dX3_parseMessage_38 : decode cX3_parseMessage 38 = .ok (.aload_n 0, 1) := dk_42 (dk_at dksX3_parseMessage_1 15 rfl rfl)
theorem dX3_parseMessage_39 : decode cX3_parseMessage 39 = .ok (.ldc_w 358, 3) := dk_19 1 102 (dk_at dksX3_parseMessage_1 16 rfl rfl)
theorem dX3_parseMessage_42 : decode cX3_parseMessage 42 = .ok (.invokevirtual 413, 3) := dk_182 1 157 (dk_at dksX3_parseMessage_1 19 rfl rfl)
theorem dX3_parseMessage_45 : decode cX3_parseMessage 45 = .ok (.ifCond .ne 8, 3) := dk_154 0 8 (dk_at dksX3_parseMessage_2 0 rfl rfl)
theorem dX3_parseMessage_48 : decode cX3_parseMessage 48 = .ok (.aload_n 0, 1) := dk_42 (dk_at dksX3_parseMessage_2 3 rfl rfl)
theorem dX3_parseMessage_49 : decode cX3_parseMessage 49 = .ok (.iconst 1, 1) := dk_4 (dk_at dksX3_parseMessage_2 4 rfl rfl)
theorem dX3_parseMessage_50 : decode cX3_parseMessage 50 = .ok (.invokevirtual 337, 3) := dk_182 1 81 (dk_at dksX3_parseMessage_2 5 rfl rfl)
theorem dX3_parseMessage_53 : decode cX3_parseMessage 53 = .ok (.aload_n 0, 1) := dk_42 (dk_at dksX3_parseMessage_2 8 rfl rfl)
theorem dX3_parseMessage_54 : decode cX3_parseMessage 54 = .ok (.iconst 1, 1) := dk_4 (dk_at dksX3_parseMessage_2 9 rfl rfl)
theorem dX3_parseMessage_55 : decode cX3_parseMessage 55 = .ok (.sipush 9999, 3) := dk_17 39 15 (dk_at dksX3_parseMessage_2 10 rfl rfl)
theorem dX3_parseMessage_58 : decode cX3_parseMessage 58 = .ok (.invokevirtual 396, 3) := dk_182 1 140 (dk_at dksX3_parseMessage_2 13 rfl rfl)
theorem dX3_parseMessage_61 : decode cX3_parseMessage 61 = .ok (.istore_n 2, 1) := dk_61 (dk_at dksX3_parseMessage_2 16 rfl rfl)
theorem dX3_parseMessage_62 : decode cX3_parseMessage 62 = .ok (.aload_n 0, 1) := dk_42 (dk_at dksX3_parseMessage_2 17 rfl rfl)
theorem dX3_parseMessage_63 : decode cX3_parseMessage 63 = .ok (.invokevirtual 416, 3) := dk_182 1 160 (dk_at dksX3_parseMessage_2 18 rfl rfl)
theorem dX3_parseMessage_66 : decode cX3_parseMessage 66 = .ok (.istore_n 3, 1) := dk_62 (dk_at dksX3_parseMessage_2 21 rfl rfl)
theorem dX3_parseMessage_67 : decode cX3_parseMessage 67 = .ok (.aload_n 0, 1) := dk_42 (dk_at dksX3_parseMessage_2 22 rfl rfl)
theorem dX3_parseMessage_68 : decode cX3_parseMessage 68 = .ok (.invokevirtual 279, 3) := dk_182 1 23 (dk_at dksX3_parseMessage_3 0 rfl rfl)
theorem dX3_parseMessage_71 : decode cX3_parseMessage 71 = .ok (.ifCond .ne 4, 3) := dk_154 0 4 (dk_at dksX3_parseMessage_3 3 rfl rfl)
theorem dX3_parseMessage_74 : decode cX3_parseMessage 74 = .ok (.return_, 1) := dk_177 (dk_at dksX3_parseMessage_3 6 rfl rfl)
theorem dX3_parseMessage_75 : decode cX3_parseMessage 75 = .ok (.aload_n 0, 1) := dk_42 (dk_at dksX3_parseMessage_3 7 rfl rfl)
theorem dX3_parseMessage_76 : decode cX3_parseMessage 76 = .ok (.iload_n 1, 1) := dk_27 (dk_at dksX3_parseMessage_3 8 rfl rfl)
theorem dX3_parseMessage_77 : decode cX3_parseMessage 77 = .ok (.iload_n 2, 1) := dk_28 (dk_at dksX3_parseMessage_3 9 rfl rfl)
theorem dX3_parseMessage_78 : decode cX3_parseMessage 78 = .ok (.iload_n 3, 1) := dk_29 (dk_at dksX3_parseMessage_3 10 rfl rfl)
theorem dX3_parseMessage_79 : decode cX3_parseMessage 79 = .ok (.invokevirtual 247, 3) := dk_182 0 247 (dk_at dksX3_parseMessage_3 11 rfl rfl)
theorem dX3_parseMessage_82 : decode cX3_parseMessage 82 = .ok (.istore 4, 2) := dk_54 4 (dk_at dksX3_parseMessage_3 14 rfl rfl)
theorem dX3_parseMessage_84 : decode cX3_parseMessage 84 = .ok (.aload_n 0, 1) := dk_42 (dk_at dksX3_parseMessage_3 16 rfl rfl)
theorem dX3_parseMessage_85 : decode cX3_parseMessage 85 = .ok (.dup, 1) := dk_89 (dk_at dksX3_parseMessage_3 17 rfl rfl)
theorem dX3_parseMessage_86 : decode cX3_parseMessage 86 = .ok (.getfield 389, 3) := dk_180 1 133 (dk_at dksX3_parseMessage_3 18 rfl rfl)
theorem dX3_parseMessage_89 : decode cX3_parseMessage 89 = .ok (.iconst 1, 1) := dk_4 (dk_at dksX3_parseMessage_3 21 rfl rfl)
theorem dX3_parseMessage_90 : decode cX3_parseMessage 90 = .ok (.iadd, 1) := dk_96 (dk_at dksX3_parseMessage_3 22 rfl rfl)
theorem dX3_parseMessage_91 : decode cX3_parseMessage 91 = .ok (.putfield 389, 3) := dk_181 1 133 (dk_at dksX3_parseMessage_4 0 rfl rfl)
theorem dX3_parseMessage_94 : decode cX3_parseMessage 94 = .ok (.return_, 1) := dk_177 (dk_at dksX3_parseMessage_4 3 rfl rfl)
abbrev cX3_boxHere : ByteArray := prog_13_method_101_code
def yX3_boxHere : MethodName := ⟨RX3, "boxHere", "()I"⟩
def dkwX3_boxHere_1 : List UInt8 := [160, 0, 8, 42, 6, 182, 1, 81, 29, 172]
abbrev dktX3_boxHere_1 : List UInt8 := dkwX3_boxHere_1 ++ []
def dkwX3_boxHere_0 : List UInt8 := [42, 182, 1, 143, 64, 42, 182, 1, 23, 153, 0, 11, 42, 31, 182, 1, 147, 167, 0, 4, 2, 62, 29, 2]
abbrev dktX3_boxHere_0 : List UInt8 := dkwX3_boxHere_0 ++ dktX3_boxHere_1
theorem dksX3_boxHere_0 : cX3_boxHere.data.toList.drop 0 = dktX3_boxHere_0 := by decide +kernel
theorem dksX3_boxHere_1 : cX3_boxHere.data.toList.drop 24 = dktX3_boxHere_1 := dk_seg dksX3_boxHere_0 24 rfl rfl
theorem dX3_boxHere_0 : decode cX3_boxHere 0 = .ok (.aload_n 0, 1) := dk_42 (dk_at dksX3_boxHere_0 0 rfl rfl)
theorem dX3_boxHere_1 : decode cX3_boxHere 1 = .ok (.invokevirtual 399, 3) := dk_182 1 143 (dk_at dksX3_boxHere_0 1 rfl rfl)
theorem dX3_boxHere_4 : decode cX3_boxHere 4 = .ok (.lstore_n 1, 1) := dk_64 (dk_at dksX3_boxHere_0 4 rfl rfl)
theorem dX3_boxHere_5 : decode cX3_boxHere 5 = .ok (.aload_n 0, 1) := dk_42 (dk_at dksX3_boxHere_0 5 rfl rfl)
theorem dX3_boxHere_6 : decode cX3_boxHere 6 = .ok (.invokevirtual 279, 3) := dk_182 1 23 (dk_at dksX3_boxHere_0 6 rfl rfl)
theorem dX3_boxHere_9 : decode cX3_boxHere 9 = .ok (.ifCond .eq 11, 3) := dk_153 0 11 (dk_at dksX3_boxHere_0 9 rfl rfl)
theorem dX3_boxHere_12 : decode cX3_boxHere 12 = .ok (.aload_n 0, 1) := dk_42 (dk_at dksX3_boxHere_0 12 rfl rfl)
theorem dX3_boxHere_13 : decode cX3_boxHere 13 = .ok (.lload_n 1, 1) := dk_31 (dk_at dksX3_boxHere_0 13 rfl rfl)
theorem dX3_boxHere_14 : decode cX3_boxHere 14 = .ok (.invokevirtual 403, 3) := dk_182 1 147 (dk_at dksX3_boxHere_0 14 rfl rfl)
theorem dX3_boxHere_17 : decode cX3_boxHere 17 = .ok (.goto 4, 3) := dk_167 0 4 (dk_at dksX3_boxHere_0 17 rfl rfl)
theorem dX3_boxHere_20 : decode cX3_boxHere 20 = .ok (.iconst (-1), 1) := dk_2 (dk_at dksX3_boxHere_0 20 rfl rfl)
theorem dX3_boxHere_21 : decode cX3_boxHere 21 = .ok (.istore_n 3, 1) := dk_62 (dk_at dksX3_boxHere_0 21 rfl rfl)
theorem dX3_boxHere_22 : decode cX3_boxHere 22 = .ok (.iload_n 3, 1) := dk_29 (dk_at dksX3_boxHere_0 22 rfl rfl)
theorem dX3_boxHere_23 : decode cX3_boxHere 23 = .ok (.iconst (-1), 1) := dk_2 (dk_at dksX3_boxHere_0 23 rfl rfl)
theorem dX3_boxHere_24 : decode cX3_boxHere 24 = .ok (.if_icmp .ne 8, 3) := dk_160 0 8 (dk_at dksX3_boxHere_1 0 rfl rfl)
theorem dX3_boxHere_27 : decode cX3_boxHere 27 = .ok (.aload_n 0, 1) := dk_42 (dk_at dksX3_boxHere_1 3 rfl rfl)
theorem dX3_boxHere_28 : decode cX3_boxHere 28 = .ok (.iconst 3, 1) := dk_6 (dk_at dksX3_boxHere_1 4 rfl rfl)
theorem dX3_boxHere_29 : decode cX3_boxHere 29 = .ok (.invokevirtual 337, 3) := dk_182 1 81 (dk_at dksX3_boxHere_1 5 rfl rfl)
theorem dX3_boxHere_32 : decode cX3_boxHere 32 = .ok (.iload_n 3, 1) := dk_29 (dk_at dksX3_boxHere_1 8 rfl rfl)
theorem dX3_boxHere_33 : decode cX3_boxHere 33 = .ok (.ireturn, 1) := dk_172 (dk_at dksX3_boxHere_1 9 rfl rfl)
abbrev cX3_takesWord : ByteArray := prog_13_method_88_code
def yX3_takesWord : MethodName := ⟨RX3, "takesWord", "(Ljava/lang/String;)Z"⟩
def dkwX3_takesWord_0 : List UInt8 := [42, 43, 182, 1, 71, 61, 28, 153, 0, 7, 42, 182, 1, 59, 28, 172]
abbrev dktX3_takesWord_0 : List UInt8 := dkwX3_takesWord_0 ++ []
theorem dksX3_takesWord_0 : cX3_takesWord.data.toList.drop 0 = dktX3_takesWord_0 := by decide +kernel
theorem dX3_takesWord_0 : decode cX3_takesWord 0 = .ok (.aload_n 0, 1) := dk_42 (dk_at dksX3_takesWord_0 0 rfl rfl)
theorem dX3_takesWord_1 : decode cX3_takesWord 1 = .ok (.aload_n 1, 1) := dk_43 (dk_at dksX3_takesWord_0 1 rfl rfl)
theorem dX3_takesWord_2 : decode cX3_takesWord 2 = .ok (.invokevirtual 327, 3) := dk_182 1 71 (dk_at dksX3_takesWord_0 2 rfl rfl)
theorem dX3_takesWord_5 : decode cX3_takesWord 5 = .ok (.istore_n 2, 1) := dk_61 (dk_at dksX3_takesWord_0 5 rfl rfl)
theorem dX3_takesWord_6 : decode cX3_takesWord 6 = .ok (.iload_n 2, 1) := dk_28 (dk_at dksX3_takesWord_0 6 rfl rfl)
theorem dX3_takesWord_7 : decode cX3_takesWord 7 = .ok (.ifCond .eq 7, 3) := dk_153 0 7 (dk_at dksX3_takesWord_0 7 rfl rfl)
theorem dX3_takesWord_10 : decode cX3_takesWord 10 = .ok (.aload_n 0, 1) := dk_42 (dk_at dksX3_takesWord_0 10 rfl rfl)
theorem dX3_takesWord_11 : decode cX3_takesWord 11 = .ok (.invokevirtual 315, 3) := dk_182 1 59 (dk_at dksX3_takesWord_0 11 rfl rfl)
theorem dX3_takesWord_14 : decode cX3_takesWord 14 = .ok (.iload_n 2, 1) := dk_28 (dk_at dksX3_takesWord_0 14 rfl rfl)
theorem dX3_takesWord_15 : decode cX3_takesWord 15 = .ok (.ireturn, 1) := dk_172 (dk_at dksX3_takesWord_0 15 rfl rfl)
abbrev cX3_parseFlags : ByteArray := prog_13_method_102_code
def yX3_parseFlags : MethodName := ⟨RX3, "parseFlags", "()I"⟩
def dkwX3_parseFlags_1 : List UInt8 := [182, 1, 81, 27, 4, 28, 120, 128, 60, 42, 182, 1, 84, 42, 182, 1, 116, 61, 167, 255, 223, 27, 172]
abbrev dktX3_parseFlags_1 : List UInt8 := dkwX3_parseFlags_1 ++ []
def dkwX3_parseFlags_0 : List UInt8 := [3, 60, 42, 182, 1, 116, 61, 28, 2, 159, 0, 34, 27, 28, 184, 1, 151, 153, 0, 8, 42, 6]
abbrev dktX3_parseFlags_0 : List UInt8 := dkwX3_parseFlags_0 ++ dktX3_parseFlags_1
theorem dksX3_parseFlags_0 : cX3_parseFlags.data.toList.drop 0 = dktX3_parseFlags_0 := by decide +kernel
theorem dksX3_parseFlags_1 : cX3_parseFlags.data.toList.drop 22 = dktX3_parseFlags_1 := dk_seg dksX3_parseFlags_0 22 rfl rfl
theorem dX3_parseFlags_0 : decode cX3_parseFlags 0 = .ok (.iconst 0, 1) := dk_3 (dk_at dksX3_parseFlags_0 0 rfl rfl)
theorem dX3_parseFlags_1 : decode cX3_parseFlags 1 = .ok (.istore_n 1, 1) := dk_60 (dk_at dksX3_parseFlags_0 1 rfl rfl)
theorem dX3_parseFlags_2 : decode cX3_parseFlags 2 = .ok (.aload_n 0, 1) := dk_42 (dk_at dksX3_parseFlags_0 2 rfl rfl)
theorem dX3_parseFlags_3 : decode cX3_parseFlags 3 = .ok (.invokevirtual 372, 3) := dk_182 1 116 (dk_at dksX3_parseFlags_0 3 rfl rfl)
theorem dX3_parseFlags_6 : decode cX3_parseFlags 6 = .ok (.istore_n 2, 1) := dk_61 (dk_at dksX3_parseFlags_0 6 rfl rfl)
theorem dX3_parseFlags_7 : decode cX3_parseFlags 7 = .ok (.iload_n 2, 1) := dk_28 (dk_at dksX3_parseFlags_0 7 rfl rfl)
theorem dX3_parseFlags_8 : decode cX3_parseFlags 8 = .ok (.iconst (-1), 1) := dk_2 (dk_at dksX3_parseFlags_0 8 rfl rfl)
theorem dX3_parseFlags_9 : decode cX3_parseFlags 9 = .ok (.if_icmp .eq 34, 3) := dk_159 0 34 (dk_at dksX3_parseFlags_0 9 rfl rfl)
theorem dX3_parseFlags_12 : decode cX3_parseFlags 12 = .ok (.iload_n 1, 1) := dk_27 (dk_at dksX3_parseFlags_0 12 rfl rfl)
theorem dX3_parseFlags_13 : decode cX3_parseFlags 13 = .ok (.iload_n 2, 1) := dk_28 (dk_at dksX3_parseFlags_0 13 rfl rfl)
theorem dX3_parseFlags_14 : decode cX3_parseFlags 14 = .ok (.invokestatic 407, 3) := dk_184 1 151 (dk_at dksX3_parseFlags_0 14 rfl rfl)
theorem dX3_parseFlags_17 : decode cX3_parseFlags 17 = .ok (.ifCond .eq 8, 3) := dk_153 0 8 (dk_at dksX3_parseFlags_0 17 rfl rfl)
theorem dX3_parseFlags_20 : decode cX3_parseFlags 20 = .ok (.aload_n 0, 1) := dk_42 (dk_at dksX3_parseFlags_0 20 rfl rfl)
theorem dX3_parseFlags_21 : decode cX3_parseFlags 21 = .ok (.iconst 3, 1) := dk_6 (dk_at dksX3_parseFlags_0 21 rfl rfl)
theorem dX3_parseFlags_22 : decode cX3_parseFlags 22 = .ok (.invokevirtual 337, 3) := dk_182 1 81 (dk_at dksX3_parseFlags_1 0 rfl rfl)
theorem dX3_parseFlags_25 : decode cX3_parseFlags 25 = .ok (.iload_n 1, 1) := dk_27 (dk_at dksX3_parseFlags_1 3 rfl rfl)
theorem dX3_parseFlags_26 : decode cX3_parseFlags 26 = .ok (.iconst 1, 1) := dk_4 (dk_at dksX3_parseFlags_1 4 rfl rfl)
theorem dX3_parseFlags_27 : decode cX3_parseFlags 27 = .ok (.iload_n 2, 1) := dk_28 (dk_at dksX3_parseFlags_1 5 rfl rfl)
theorem dX3_parseFlags_28 : decode cX3_parseFlags 28 = .ok (.ishl, 1) := dk_120 (dk_at dksX3_parseFlags_1 6 rfl rfl)
theorem dX3_parseFlags_29 : decode cX3_parseFlags 29 = .ok (.ior, 1) := dk_128 (dk_at dksX3_parseFlags_1 7 rfl rfl)
theorem dX3_parseFlags_30 : decode cX3_parseFlags 30 = .ok (.istore_n 1, 1) := dk_60 (dk_at dksX3_parseFlags_1 8 rfl rfl)
theorem dX3_parseFlags_31 : decode cX3_parseFlags 31 = .ok (.aload_n 0, 1) := dk_42 (dk_at dksX3_parseFlags_1 9 rfl rfl)
theorem dX3_parseFlags_32 : decode cX3_parseFlags 32 = .ok (.invokevirtual 340, 3) := dk_182 1 84 (dk_at dksX3_parseFlags_1 10 rfl rfl)
theorem dX3_parseFlags_35 : decode cX3_parseFlags 35 = .ok (.aload_n 0, 1) := dk_42 (dk_at dksX3_parseFlags_1 13 rfl rfl)
theorem dX3_parseFlags_36 : decode cX3_parseFlags 36 = .ok (.invokevirtual 372, 3) := dk_182 1 116 (dk_at dksX3_parseFlags_1 14 rfl rfl)
theorem dX3_parseFlags_39 : decode cX3_parseFlags 39 = .ok (.istore_n 2, 1) := dk_61 (dk_at dksX3_parseFlags_1 17 rfl rfl)
theorem dX3_parseFlags_40 : decode cX3_parseFlags 40 = .ok (.goto (-33), 3) := dk_167 255 223 (dk_at dksX3_parseFlags_1 18 rfl rfl)
theorem dX3_parseFlags_43 : decode cX3_parseFlags 43 = .ok (.iload_n 1, 1) := dk_27 (dk_at dksX3_parseFlags_1 21 rfl rfl)
theorem dX3_parseFlags_44 : decode cX3_parseFlags 44 = .ok (.ireturn, 1) := dk_172 (dk_at dksX3_parseFlags_1 22 rfl rfl)
abbrev cX3_has : ByteArray := prog_13_method_3_code
def yX3_has : MethodName := ⟨RX3, "has", "(II)Z"⟩
def dkwX3_has_0 : List UInt8 := [26, 27, 122, 4, 126, 4, 160, 0, 7, 4, 167, 0, 4, 3, 172]
abbrev dktX3_has_0 : List UInt8 := dkwX3_has_0 ++ []
theorem dksX3_has_0 : cX3_has.data.toList.drop 0 = dktX3_has_0 := by decide +kernel
theorem dX3_has_0 : decode cX3_has 0 = .ok (.iload_n 0, 1) := dk_26 (dk_at dksX3_has_0 0 rfl rfl)
theorem dX3_has_1 : decode cX3_has 1 = .ok (.iload_n 1, 1) := dk_27 (dk_at dksX3_has_0 1 rfl rfl)
theorem dX3_has_2 : decode cX3_has 2 = .ok (.ishr, 1) := dk_122 (dk_at dksX3_has_0 2 rfl rfl)
theorem dX3_has_3 : decode cX3_has 3 = .ok (.iconst 1, 1) := dk_4 (dk_at dksX3_has_0 3 rfl rfl)
theorem dX3_has_4 : decode cX3_has 4 = .ok (.iand, 1) := dk_126 (dk_at dksX3_has_0 4 rfl rfl)
theorem dX3_has_5 : decode cX3_has 5 = .ok (.iconst 1, 1) := dk_4 (dk_at dksX3_has_0 5 rfl rfl)
theorem dX3_has_6 : decode cX3_has 6 = .ok (.if_icmp .ne 7, 3) := dk_160 0 7 (dk_at dksX3_has_0 6 rfl rfl)
theorem dX3_has_9 : decode cX3_has 9 = .ok (.iconst 1, 1) := dk_4 (dk_at dksX3_has_0 9 rfl rfl)
theorem dX3_has_10 : decode cX3_has 10 = .ok (.goto 4, 3) := dk_167 0 4 (dk_at dksX3_has_0 10 rfl rfl)
theorem dX3_has_13 : decode cX3_has 13 = .ok (.iconst 0, 1) := dk_3 (dk_at dksX3_has_0 13 rfl rfl)
theorem dX3_has_14 : decode cX3_has 14 = .ok (.ireturn, 1) := dk_172 (dk_at dksX3_has_0 14 rfl rfl)
abbrev cX3_parseSession : ByteArray := prog_13_method_104_code
def yX3_parseSession : MethodName := ⟨RX3, "parseSession", "()V"⟩
def dkwX3_parseSession_5 : List UInt8 := [42, 180, 0, 41, 27, 42, 182, 1, 154, 79, 42, 182, 1, 84, 177]
abbrev dktX3_parseSession_5 : List UInt8 := dkwX3_parseSession_5 ++ []
def dkwX3_parseSession_4 : List UInt8 := [19, 1, 106, 182, 1, 157, 84, 42, 180, 0, 44, 27, 51, 154, 0, 11, 42, 182, 1, 126, 154, 0, 4, 177]
abbrev dktX3_parseSession_4 : List UInt8 := dkwX3_parseSession_4 ++ dktX3_parseSession_5
def dkwX3_parseSession_3 : List UInt8 := [92, 47, 10, 97, 80, 42, 180, 0, 41, 27, 2, 79, 42, 182, 1, 84, 42, 180, 0, 44, 27, 42]
abbrev dktX3_parseSession_3 : List UInt8 := dkwX3_parseSession_3 ++ dktX3_parseSession_4
def dkwX3_parseSession_2 : List UInt8 := [182, 1, 23, 154, 0, 4, 177, 42, 180, 0, 24, 27, 184, 0, 84, 3, 96, 32, 80, 42, 180, 0, 24, 5]
abbrev dktX3_parseSession_2 : List UInt8 := dkwX3_parseSession_2 ++ dktX3_parseSession_3
def dkwX3_parseSession_1 : List UInt8 := [42, 182, 1, 23, 153, 0, 17, 42, 32, 182, 1, 163, 2, 159, 0, 8, 42, 6, 182, 1, 81, 42]
abbrev dktX3_parseSession_1 : List UInt8 := dkwX3_parseSession_1 ++ dktX3_parseSession_2
def dkwX3_parseSession_0 : List UInt8 := [42, 182, 0, 74, 60, 27, 7, 160, 0, 8, 42, 7, 182, 1, 81, 42, 182, 1, 84, 42, 182, 1, 143, 65]
abbrev dktX3_parseSession_0 : List UInt8 := dkwX3_parseSession_0 ++ dktX3_parseSession_1
theorem dksX3_parseSession_0 : cX3_parseSession.data.toList.drop 0 = dktX3_parseSession_0 := by decide +kernel
theorem dksX3_parseSession_1 : cX3_parseSession.data.toList.drop 24 = dktX3_parseSession_1 := dk_seg dksX3_parseSession_0 24 rfl rfl
theorem dksX3_parseSession_2 : cX3_parseSession.data.toList.drop 46 = dktX3_parseSession_2 := dk_seg dksX3_parseSession_1 22 rfl rfl
theorem dksX3_parseSession_3 : cX3_parseSession.data.toList.drop 70 = dktX3_parseSession_3 := dk_seg dksX3_parseSession_2 24 rfl rfl
theorem dksX3_parseSession_4 : cX3_parseSession.data.toList.drop 92 = dktX3_parseSession_4 := dk_seg dksX3_parseSession_3 22 rfl rfl
theorem dksX3_parseSession_5 : cX3_parseSession.data.toList.drop 116 = dktX3_parseSession_5 := dk_seg dksX3_parseSession_4 24 rfl rfl
theorem dX3_parseSession_0 : decode cX3_parseSession 0 = .ok (.aload_n 0, 1) := dk_42 (dk_at dksX3_parseSession_0 0 rfl rfl)
theorem dX3_parseSession_1 : decode cX3_parseSession 1 = .ok (.invokevirtual 74, 3) := dk_182 0 74 (dk_at dksX3_parseSession_0 1 rfl rfl)
theorem dX3_parseSession_4 : decode cX3_parseSession 4 = .ok (.istore_n 1, 1) := dk_60 (dk_at dksX3_parseSession_0 4 rfl rfl)
theorem dX3_parseSession_5 : decode cX3_parseSession 5 = .ok (.iload_n 1, 1) := dk_27 (dk_at dksX3_parseSession_0 5 rfl rfl)
theorem dX3_parseSession_6 : decode cX3_parseSession 6 = .ok (.iconst 4, 1) := dk_7 (dk_at dksX3_parseSession_0 6 rfl rfl)
theorem dX3_parseSession_7 : decode cX3_parseSession 7 = .ok (.if_icmp .ne 8, 3) := dk_160 0 8 (dk_at dksX3_parseSession_0 7 rfl rfl)
theorem dX3_parseSession_10 : decode cX3_parseSession 10 = .ok (.aload_n 0, 1) := dk_42 (dk_at dksX3_parseSession_0 10 rfl rfl)
theorem dX3_parseSession_11 : decode cX3_parseSession 11 = .ok (.iconst 4, 1) := dk_7 (dk_at dksX3_parseSession_0 11 rfl rfl)
theorem dX3_parseSession_12 : decode cX3_parseSession 12 = .ok (.invokevirtual 337, 3) := dk_182 1 81 (dk_at dksX3_parseSession_0 12 rfl rfl)
theorem dX3_parseSession_15 : decode cX3_parseSession 15 = .ok (.aload_n 0, 1) := dk_42 (dk_at dksX3_parseSession_0 15 rfl rfl)
theorem dX3_parseSession_16 : decode cX3_parseSession 16 = .ok (.invokevirtual 340, 3) := dk_182 1 84 (dk_at dksX3_parseSession_0 16 rfl rfl)
theorem dX3_parseSession_19 : decode cX3_parseSession 19 = .ok (.aload_n 0, 1) := dk_42 (dk_at dksX3_parseSession_0 19 rfl rfl)
theorem dX3_parseSession_20 : decode cX3_parseSession 20 = .ok (.invokevirtual 399, 3) := dk_182 1 143 (dk_at dksX3_parseSession_0 20 rfl rfl)
theorem dX3_parseSession_23 : decode cX3_parseSession 23 = .ok (.lstore_n 2, 1) := dk_65 (dk_at dksX3_parseSession_0 23 rfl rfl)
theorem dX3_parseSession_24 : decode cX3_parseSession 24 = .ok (.aload_n 0, 1) := dk_42 (dk_at dksX3_parseSession_1 0 rfl rfl)
theorem dX3_parseSession_25 : decode cX3_parseSession 25 = .ok (.invokevirtual 279, 3) := dk_182 1 23 (dk_at dksX3_parseSession_1 1 rfl rfl)
theorem dX3_parseSession_28 : decode cX3_parseSession 28 = .ok (.ifCond .eq 17, 3) := dk_153 0 17 (dk_at dksX3_parseSession_1 4 rfl rfl)
theorem dX3_parseSession_31 : decode cX3_parseSession 31 = .ok (.aload_n 0, 1) := dk_42 (dk_at dksX3_parseSession_1 7 rfl rfl)
theorem dX3_parseSession_32 : decode cX3_parseSession 32 = .ok (.lload_n 2, 1) := dk_32 (dk_at dksX3_parseSession_1 8 rfl rfl)
theorem dX3_parseSession_33 : decode cX3_parseSession 33 = .ok (.invokevirtual 419, 3) := dk_182 1 163 (dk_at dksX3_parseSession_1 9 rfl rfl)
theorem dX3_parseSession_36 : decode cX3_parseSession 36 = .ok (.iconst (-1), 1) := dk_2 (dk_at dksX3_parseSession_1 12 rfl rfl)
theorem dX3_parseSession_37 : decode cX3_parseSession 37 = .ok (.if_icmp .eq 8, 3) := dk_159 0 8 (dk_at dksX3_parseSession_1 13 rfl rfl)
theorem dX3_parseSession_40 : decode cX3_parseSession 40 = .ok (.aload_n 0, 1) := dk_42 (dk_at dksX3_parseSession_1 16 rfl rfl)
theorem dX3_parseSession_41 : decode cX3_parseSession 41 = .ok (.iconst 3, 1) := dk_6 (dk_at dksX3_parseSession_1 17 rfl rfl)
theorem dX3_parseSession_42 : decode cX3_parseSession 42 = .ok (.invokevirtual 337, 3) := dk_182 1 81 (dk_at dksX3_parseSession_1 18 rfl rfl)
theorem dX3_parseSession_45 : decode cX3_parseSession 45 = .ok (.aload_n 0, 1) := dk_42 (dk_at dksX3_parseSession_1 21 rfl rfl)
theorem dX3_parseSession_46 : decode cX3_parseSession 46 = .ok (.invokevirtual 279, 3) := dk_182 1 23 (dk_at dksX3_parseSession_2 0 rfl rfl)
theorem dX3_parseSession_49 : decode cX3_parseSession 49 = .ok (.ifCond .ne 4, 3) := dk_154 0 4 (dk_at dksX3_parseSession_2 3 rfl rfl)
theorem dX3_parseSession_52 : decode cX3_parseSession 52 = .ok (.return_, 1) := dk_177 (dk_at dksX3_parseSession_2 6 rfl rfl)
theorem dX3_parseSession_53 : decode cX3_parseSession 53 = .ok (.aload_n 0, 1) := dk_42 (dk_at dksX3_parseSession_2 7 rfl rfl)
theorem dX3_parseSession_54 : decode cX3_parseSession 54 = .ok (.getfield 24, 3) := dk_180 0 24 (dk_at dksX3_parseSession_2 8 rfl rfl)
theorem dX3_parseSession_57 : decode cX3_parseSession 57 = .ok (.iload_n 1, 1) := dk_27 (dk_at dksX3_parseSession_2 11 rfl rfl)
theorem dX3_parseSession_58 : decode cX3_parseSession 58 = .ok (.invokestatic 84, 3) := dk_184 0 84 (dk_at dksX3_parseSession_2 12 rfl rfl)
theorem dX3_parseSession_61 : decode cX3_parseSession 61 = .ok (.iconst 0, 1) := dk_3 (dk_at dksX3_parseSession_2 15 rfl rfl)
theorem dX3_parseSession_62 : decode cX3_parseSession 62 = .ok (.iadd, 1) := dk_96 (dk_at dksX3_parseSession_2 16 rfl rfl)
theorem dX3_parseSession_63 : decode cX3_parseSession 63 = .ok (.lload_n 2, 1) := dk_32 (dk_at dksX3_parseSession_2 17 rfl rfl)
theorem dX3_parseSession_64 : decode cX3_parseSession 64 = .ok (.lastore, 1) := dk_80 (dk_at dksX3_parseSession_2 18 rfl rfl)
theorem dX3_parseSession_65 : decode cX3_parseSession 65 = .ok (.aload_n 0, 1) := dk_42 (dk_at dksX3_parseSession_2 19 rfl rfl)
theorem dX3_parseSession_66 : decode cX3_parseSession 66 = .ok (.getfield 24, 3) := dk_180 0 24 (dk_at dksX3_parseSession_2 20 rfl rfl)
theorem dX3_parseSession_69 : decode cX3_parseSession 69 = .ok (.iconst 2, 1) := dk_5 (dk_at dksX3_parseSession_2 23 rfl rfl)
theorem dX3_parseSession_70 : decode cX3_parseSession 70 = .ok (.dup2, 1) := dk_92 (dk_at dksX3_parseSession_3 0 rfl rfl)
theorem dX3_parseSession_71 : decode cX3_parseSession 71 = .ok (.laload, 1) := dk_47 (dk_at dksX3_parseSession_3 1 rfl rfl)
theorem dX3_parseSession_72 : decode cX3_parseSession 72 = .ok (.lconst 1, 1) := dk_10 (dk_at dksX3_parseSession_3 2 rfl rfl)
theorem dX3_parseSession_73 : decode cX3_parseSession 73 = .ok (.ladd, 1) := dk_97 (dk_at dksX3_parseSession_3 3 rfl rfl)
theorem dX3_parseSession_74 : decode cX3_parseSession 74 = .ok (.lastore, 1) := dk_80 (dk_at dksX3_parseSession_3 4 rfl rfl)
theorem dX3_parseSession_75 : decode cX3_parseSession 75 = .ok (.aload_n 0, 1) := dk_42 (dk_at dksX3_parseSession_3 5 rfl rfl)
theorem dX3_parseSession_76 : decode cX3_parseSession 76 = .ok (.getfield 41, 3) := dk_180 0 41 (dk_at dksX3_parseSession_3 6 rfl rfl)
theorem dX3_parseSession_79 : decode cX3_parseSession 79 = .ok (.iload_n 1, 1) := dk_27 (dk_at dksX3_parseSession_3 9 rfl rfl)
theorem dX3_parseSession_80 : decode cX3_parseSession 80 = .ok (.iconst (-1), 1) := dk_2 (dk_at dksX3_parseSession_3 10 rfl rfl)
theorem dX3_parseSession_81 : decode cX3_parseSession 81 = .ok (.iastore, 1) := dk_79 (dk_at dksX3_parseSession_3 11 rfl rfl)
theorem dX3_parseSession_82 : decode cX3_parseSession 82 = .ok (.aload_n 0, 1) := dk_42 (dk_at dksX3_parseSession_3 12 rfl rfl)
theorem dX3_parseSession_83 : decode cX3_parseSession 83 = .ok (.invokevirtual 340, 3) := dk_182 1 84 (dk_at dksX3_parseSession_3 13 rfl rfl)
theorem dX3_parseSession_86 : decode cX3_parseSession 86 = .ok (.aload_n 0, 1) := dk_42 (dk_at dksX3_parseSession_3 16 rfl rfl)
theorem dX3_parseSession_87 : decode cX3_parseSession 87 = .ok (.getfield 44, 3) := dk_180 0 44 (dk_at dksX3_parseSession_3 17 rfl rfl)
theorem dX3_parseSession_90 : decode cX3_parseSession 90 = .ok (.iload_n 1, 1) := dk_27 (dk_at dksX3_parseSession_3 20 rfl rfl)
theorem dX3_parseSession_91 : decode cX3_parseSession 91 = .ok (.aload_n 0, 1) := dk_42 (dk_at dksX3_parseSession_3 21 rfl rfl)
theorem dX3_parseSession_92 : decode cX3_parseSession 92 = .ok (.ldc_w 362, 3) := dk_19 1 106 (dk_at dksX3_parseSession_4 0 rfl rfl)
theorem dX3_parseSession_95 : decode cX3_parseSession 95 = .ok (.invokevirtual 413, 3) := dk_182 1 157 (dk_at dksX3_parseSession_4 3 rfl rfl)
theorem dX3_parseSession_98 : decode cX3_parseSession 98 = .ok (.bastore, 1) := dk_84 (dk_at dksX3_parseSession_4 6 rfl rfl)
theorem dX3_parseSession_99 : decode cX3_parseSession 99 = .ok (.aload_n 0, 1) := dk_42 (dk_at dksX3_parseSession_4 7 rfl rfl)
theorem dX3_parseSession_100 : decode cX3_parseSession 100 = .ok (.getfield 44, 3) := dk_180 0 44 (dk_at dksX3_parseSession_4 8 rfl rfl)
theorem dX3_parseSession_103 : decode cX3_parseSession 103 = .ok (.iload_n 1, 1) := dk_27 (dk_at dksX3_parseSession_4 11 rfl rfl)
theorem dX3_parseSession_104 : decode cX3_parseSession 104 = .ok (.baload, 1) := dk_51 (dk_at dksX3_parseSession_4 12 rfl rfl)
theorem dX3_parseSession_105 : decode cX3_parseSession 105 = .ok (.ifCond .ne 11, 3) := dk_154 0 11 (dk_at dksX3_parseSession_4 13 rfl rfl)
theorem dX3_parseSession_108 : decode cX3_parseSession 108 = .ok (.aload_n 0, 1) := dk_42 (dk_at dksX3_parseSession_4 16 rfl rfl)
theorem dX3_parseSession_109 : decode cX3_parseSession 109 = .ok (.invokevirtual 382, 3) := dk_182 1 126 (dk_at dksX3_parseSession_4 17 rfl rfl)
theorem dX3_parseSession_112 : decode cX3_parseSession 112 = .ok (.ifCond .ne 4, 3) := dk_154 0 4 (dk_at dksX3_parseSession_4 20 rfl rfl)
theorem dX3_parseSession_115 : decode cX3_parseSession 115 = .ok (.return_, 1) := dk_177 (dk_at dksX3_parseSession_4 23 rfl rfl)
theorem dX3_parseSession_116 : decode cX3_parseSession 116 = .ok (.aload_n 0, 1) := dk_42 (dk_at dksX3_parseSession_5 0 rfl rfl)
theorem dX3_parseSession_117 : decode cX3_parseSession 117 = .ok (.getfield 41, 3) := dk_180 0 41 (dk_at dksX3_parseSession_5 1 rfl rfl)
theorem dX3_parseSession_120 : decode cX3_parseSession 120 = .ok (.iload_n 1, 1) := dk_27 (dk_at dksX3_parseSession_5 4 rfl rfl)
theorem dX3_parseSession_121 : decode cX3_parseSession 121 = .ok (.aload_n 0, 1) := dk_42 (dk_at dksX3_parseSession_5 5 rfl rfl)
theorem dX3_parseSession_122 : decode cX3_parseSession 122 = .ok (.invokevirtual 410, 3) := dk_182 1 154 (dk_at dksX3_parseSession_5 6 rfl rfl)
theorem dX3_parseSession_125 : decode cX3_parseSession 125 = .ok (.iastore, 1) := dk_79 (dk_at dksX3_parseSession_5 9 rfl rfl)
theorem dX3_parseSession_126 : decode cX3_parseSession 126 = .ok (.aload_n 0, 1) := dk_42 (dk_at dksX3_parseSession_5 10 rfl rfl)
theorem dX3_parseSession_127 : decode cX3_parseSession 127 = .ok (.invokevirtual 340, 3) := dk_182 1 84 (dk_at dksX3_parseSession_5 11 rfl rfl)
theorem dX3_parseSession_130 : decode cX3_parseSession 130 = .ok (.return_, 1) := dk_177 (dk_at dksX3_parseSession_5 14 rfl rfl)
abbrev cX3_sessionNamed : ByteArray := prog_13_method_98_code
def yX3_sessionNamed : MethodName := ⟨RX3, "sessionNamed", "(J)I"⟩
def dkwX3_sessionNamed_1 : List UInt8 := [154, 0, 5, 29, 172, 132, 3, 1, 167, 255, 227, 2, 172]
abbrev dktX3_sessionNamed_1 : List UInt8 := dkwX3_sessionNamed_1 ++ []
def dkwX3_sessionNamed_0 : List UInt8 := [3, 62, 29, 42, 182, 0, 74, 162, 0, 27, 42, 180, 0, 24, 29, 184, 0, 84, 3, 96, 47, 31, 148]
abbrev dktX3_sessionNamed_0 : List UInt8 := dkwX3_sessionNamed_0 ++ dktX3_sessionNamed_1
theorem dksX3_sessionNamed_0 : cX3_sessionNamed.data.toList.drop 0 = dktX3_sessionNamed_0 := by decide +kernel
theorem dksX3_sessionNamed_1 : cX3_sessionNamed.data.toList.drop 23 = dktX3_sessionNamed_1 := dk_seg dksX3_sessionNamed_0 23 rfl rfl
theorem dX3_sessionNamed_0 : decode cX3_sessionNamed 0 = .ok (.iconst 0, 1) := dk_3 (dk_at dksX3_sessionNamed_0 0 rfl rfl)
theorem dX3_sessionNamed_1 : decode cX3_sessionNamed 1 = .ok (.istore_n 3, 1) := dk_62 (dk_at dksX3_sessionNamed_0 1 rfl rfl)
theorem dX3_sessionNamed_2 : decode cX3_sessionNamed 2 = .ok (.iload_n 3, 1) := dk_29 (dk_at dksX3_sessionNamed_0 2 rfl rfl)
theorem dX3_sessionNamed_3 : decode cX3_sessionNamed 3 = .ok (.aload_n 0, 1) := dk_42 (dk_at dksX3_sessionNamed_0 3 rfl rfl)
theorem dX3_sessionNamed_4 : decode cX3_sessionNamed 4 = .ok (.invokevirtual 74, 3) := dk_182 0 74 (dk_at dksX3_sessionNamed_0 4 rfl rfl)
theorem dX3_sessionNamed_7 : decode cX3_sessionNamed 7 = .ok (.if_icmp .ge 27, 3) := dk_162 0 27 (dk_at dksX3_sessionNamed_0 7 rfl rfl)
theorem dX3_sessionNamed_10 : decode cX3_sessionNamed 10 = .ok (.aload_n 0, 1) := dk_42 (dk_at dksX3_sessionNamed_0 10 rfl rfl)
theorem dX3_sessionNamed_11 : decode cX3_sessionNamed 11 = .ok (.getfield 24, 3) := dk_180 0 24 (dk_at dksX3_sessionNamed_0 11 rfl rfl)
theorem dX3_sessionNamed_14 : decode cX3_sessionNamed 14 = .ok (.iload_n 3, 1) := dk_29 (dk_at dksX3_sessionNamed_0 14 rfl rfl)
theorem dX3_sessionNamed_15 : decode cX3_sessionNamed 15 = .ok (.invokestatic 84, 3) := dk_184 0 84 (dk_at dksX3_sessionNamed_0 15 rfl rfl)
theorem dX3_sessionNamed_18 : decode cX3_sessionNamed 18 = .ok (.iconst 0, 1) := dk_3 (dk_at dksX3_sessionNamed_0 18 rfl rfl)
theorem dX3_sessionNamed_19 : decode cX3_sessionNamed 19 = .ok (.iadd, 1) := dk_96 (dk_at dksX3_sessionNamed_0 19 rfl rfl)
theorem dX3_sessionNamed_20 : decode cX3_sessionNamed 20 = .ok (.laload, 1) := dk_47 (dk_at dksX3_sessionNamed_0 20 rfl rfl)
theorem dX3_sessionNamed_21 : decode cX3_sessionNamed 21 = .ok (.lload_n 1, 1) := dk_31 (dk_at dksX3_sessionNamed_0 21 rfl rfl)
theorem dX3_sessionNamed_22 : decode cX3_sessionNamed 22 = .ok (.lcmp, 1) := dk_148 (dk_at dksX3_sessionNamed_0 22 rfl rfl)
theorem dX3_sessionNamed_23 : decode cX3_sessionNamed 23 = .ok (.ifCond .ne 5, 3) := dk_154 0 5 (dk_at dksX3_sessionNamed_1 0 rfl rfl)
theorem dX3_sessionNamed_26 : decode cX3_sessionNamed 26 = .ok (.iload_n 3, 1) := dk_29 (dk_at dksX3_sessionNamed_1 3 rfl rfl)
theorem dX3_sessionNamed_27 : decode cX3_sessionNamed 27 = .ok (.ireturn, 1) := dk_172 (dk_at dksX3_sessionNamed_1 4 rfl rfl)
theorem dX3_sessionNamed_28 : decode cX3_sessionNamed 28 = .ok (.iinc 3 1, 3) := dk_132 3 1 (dk_at dksX3_sessionNamed_1 5 rfl rfl)
theorem dX3_sessionNamed_31 : decode cX3_sessionNamed 31 = .ok (.goto (-29), 3) := dk_167 255 227 (dk_at dksX3_sessionNamed_1 8 rfl rfl)
theorem dX3_sessionNamed_34 : decode cX3_sessionNamed 34 = .ok (.iconst (-1), 1) := dk_2 (dk_at dksX3_sessionNamed_1 11 rfl rfl)
theorem dX3_sessionNamed_35 : decode cX3_sessionNamed 35 = .ok (.ireturn, 1) := dk_172 (dk_at dksX3_sessionNamed_1 12 rfl rfl)
abbrev cX3_need : ByteArray := prog_13_method_90_code
def yX3_need : MethodName := ⟨RX3, "need", "(I)V"⟩
def dkwX3_need_0 : List UInt8 := [42, 27, 182, 1, 78, 154, 0, 8, 42, 4, 182, 1, 81, 177]
abbrev dktX3_need_0 : List UInt8 := dkwX3_need_0 ++ []
theorem dksX3_need_0 : cX3_need.data.toList.drop 0 = dktX3_need_0 := by decide +kernel
theorem dX3_need_0 : decode cX3_need 0 = .ok (.aload_n 0, 1) := dk_42 (dk_at dksX3_need_0 0 rfl rfl)
theorem dX3_need_1 : decode cX3_need 1 = .ok (.iload_n 1, 1) := dk_27 (dk_at dksX3_need_0 1 rfl rfl)
theorem dX3_need_2 : decode cX3_need 2 = .ok (.invokevirtual 334, 3) := dk_182 1 78 (dk_at dksX3_need_0 2 rfl rfl)
theorem dX3_need_5 : decode cX3_need 5 = .ok (.ifCond .ne 8, 3) := dk_154 0 8 (dk_at dksX3_need_0 5 rfl rfl)
theorem dX3_need_8 : decode cX3_need 8 = .ok (.aload_n 0, 1) := dk_42 (dk_at dksX3_need_0 8 rfl rfl)
theorem dX3_need_9 : decode cX3_need 9 = .ok (.iconst 1, 1) := dk_4 (dk_at dksX3_need_0 9 rfl rfl)
theorem dX3_need_10 : decode cX3_need 10 = .ok (.invokevirtual 337, 3) := dk_182 1 81 (dk_at dksX3_need_0 10 rfl rfl)
theorem dX3_need_13 : decode cX3_need 13 = .ok (.return_, 1) := dk_177 (dk_at dksX3_need_0 13 rfl rfl)
abbrev cX3_takes : ByteArray := prog_13_method_89_code
def yX3_takes : MethodName := ⟨RX3, "takes", "(I)Z"⟩
def dkwX3_takes_0 : List UInt8 := [42, 27, 182, 1, 75, 61, 28, 153, 0, 7, 42, 182, 1, 59, 28, 172]
abbrev dktX3_takes_0 : List UInt8 := dkwX3_takes_0 ++ []
theorem dksX3_takes_0 : cX3_takes.data.toList.drop 0 = dktX3_takes_0 := by decide +kernel
theorem dX3_takes_0 : decode cX3_takes 0 = .ok (.aload_n 0, 1) := dk_42 (dk_at dksX3_takes_0 0 rfl rfl)
theorem dX3_takes_1 : decode cX3_takes 1 = .ok (.iload_n 1, 1) := dk_27 (dk_at dksX3_takes_0 1 rfl rfl)
theorem dX3_takes_2 : decode cX3_takes 2 = .ok (.invokevirtual 331, 3) := dk_182 1 75 (dk_at dksX3_takes_0 2 rfl rfl)
theorem dX3_takes_5 : decode cX3_takes 5 = .ok (.istore_n 2, 1) := dk_61 (dk_at dksX3_takes_0 5 rfl rfl)
theorem dX3_takes_6 : decode cX3_takes 6 = .ok (.iload_n 2, 1) := dk_28 (dk_at dksX3_takes_0 6 rfl rfl)
theorem dX3_takes_7 : decode cX3_takes 7 = .ok (.ifCond .eq 7, 3) := dk_153 0 7 (dk_at dksX3_takes_0 7 rfl rfl)
theorem dX3_takes_10 : decode cX3_takes 10 = .ok (.aload_n 0, 1) := dk_42 (dk_at dksX3_takes_0 10 rfl rfl)
theorem dX3_takes_11 : decode cX3_takes 11 = .ok (.invokevirtual 315, 3) := dk_182 1 59 (dk_at dksX3_takes_0 11 rfl rfl)
theorem dX3_takes_14 : decode cX3_takes 14 = .ok (.iload_n 2, 1) := dk_28 (dk_at dksX3_takes_0 14 rfl rfl)
theorem dX3_takes_15 : decode cX3_takes 15 = .ok (.ireturn, 1) := dk_172 (dk_at dksX3_takes_0 15 rfl rfl)
abbrev cX3_isSymbol : ByteArray := prog_13_method_87_code
def yX3_isSymbol : MethodName := ⟨RX3, "isSymbol", "(I)Z"⟩
def dkwX3_isSymbol_1 : List UInt8 := [167, 0, 4, 3, 172]
abbrev dktX3_isSymbol_1 : List UInt8 := dkwX3_isSymbol_1 ++ []
def dkwX3_isSymbol_0 : List UInt8 := [42, 182, 1, 23, 153, 0, 23, 42, 180, 1, 39, 6, 160, 0, 15, 42, 180, 1, 50, 27, 160, 0, 7, 4]
abbrev dktX3_isSymbol_0 : List UInt8 := dkwX3_isSymbol_0 ++ dktX3_isSymbol_1
theorem dksX3_isSymbol_0 : cX3_isSymbol.data.toList.drop 0 = dktX3_isSymbol_0 := by decide +kernel
theorem dksX3_isSymbol_1 : cX3_isSymbol.data.toList.drop 24 = dktX3_isSymbol_1 := dk_seg dksX3_isSymbol_0 24 rfl rfl
theorem dX3_isSymbol_0 : decode cX3_isSymbol 0 = .ok (.aload_n 0, 1) := dk_42 (dk_at dksX3_isSymbol_0 0 rfl rfl)
theorem dX3_isSymbol_1 : decode cX3_isSymbol 1 = .ok (.invokevirtual 279, 3) := dk_182 1 23 (dk_at dksX3_isSymbol_0 1 rfl rfl)
theorem dX3_isSymbol_4 : decode cX3_isSymbol 4 = .ok (.ifCond .eq 23, 3) := dk_153 0 23 (dk_at dksX3_isSymbol_0 4 rfl rfl)
theorem dX3_isSymbol_7 : decode cX3_isSymbol 7 = .ok (.aload_n 0, 1) := dk_42 (dk_at dksX3_isSymbol_0 7 rfl rfl)
theorem dX3_isSymbol_8 : decode cX3_isSymbol 8 = .ok (.getfield 295, 3) := dk_180 1 39 (dk_at dksX3_isSymbol_0 8 rfl rfl)
theorem dX3_isSymbol_11 : decode cX3_isSymbol 11 = .ok (.iconst 3, 1) := dk_6 (dk_at dksX3_isSymbol_0 11 rfl rfl)
theorem dX3_isSymbol_12 : decode cX3_isSymbol 12 = .ok (.if_icmp .ne 15, 3) := dk_160 0 15 (dk_at dksX3_isSymbol_0 12 rfl rfl)
theorem dX3_isSymbol_15 : decode cX3_isSymbol 15 = .ok (.aload_n 0, 1) := dk_42 (dk_at dksX3_isSymbol_0 15 rfl rfl)
theorem dX3_isSymbol_16 : decode cX3_isSymbol 16 = .ok (.getfield 306, 3) := dk_180 1 50 (dk_at dksX3_isSymbol_0 16 rfl rfl)
theorem dX3_isSymbol_19 : decode cX3_isSymbol 19 = .ok (.iload_n 1, 1) := dk_27 (dk_at dksX3_isSymbol_0 19 rfl rfl)
theorem dX3_isSymbol_20 : decode cX3_isSymbol 20 = .ok (.if_icmp .ne 7, 3) := dk_160 0 7 (dk_at dksX3_isSymbol_0 20 rfl rfl)
theorem dX3_isSymbol_23 : decode cX3_isSymbol 23 = .ok (.iconst 1, 1) := dk_4 (dk_at dksX3_isSymbol_0 23 rfl rfl)
theorem dX3_isSymbol_24 : decode cX3_isSymbol 24 = .ok (.goto 4, 3) := dk_167 0 4 (dk_at dksX3_isSymbol_1 0 rfl rfl)
theorem dX3_isSymbol_27 : decode cX3_isSymbol 27 = .ok (.iconst 0, 1) := dk_3 (dk_at dksX3_isSymbol_1 3 rfl rfl)
theorem dX3_isSymbol_28 : decode cX3_isSymbol 28 = .ok (.ireturn, 1) := dk_172 (dk_at dksX3_isSymbol_1 4 rfl rfl)
abbrev cX3_selectAll : ByteArray := prog_13_method_106_code
def yX3_selectAll : MethodName := ⟨RX3, "selectAll", "()V"⟩
def dkwX3_selectAll_2 : List UInt8 := [167, 255, 213, 177]
abbrev dktX3_selectAll_2 : List UInt8 := dkwX3_selectAll_2 ++ []
def dkwX3_selectAll_1 : List UInt8 := [159, 0, 20, 42, 27, 42, 180, 0, 41, 27, 46, 42, 180, 0, 44, 27, 51, 182, 0, 199, 132, 1, 1]
abbrev dktX3_selectAll_1 : List UInt8 := dkwX3_selectAll_1 ++ dktX3_selectAll_2
def dkwX3_selectAll_0 : List UInt8 := [3, 60, 27, 42, 182, 0, 74, 162, 0, 41, 42, 27, 182, 0, 186, 42, 180, 0, 41, 27, 46, 2]
abbrev dktX3_selectAll_0 : List UInt8 := dkwX3_selectAll_0 ++ dktX3_selectAll_1
theorem dksX3_selectAll_0 : cX3_selectAll.data.toList.drop 0 = dktX3_selectAll_0 := by decide +kernel
theorem dksX3_selectAll_1 : cX3_selectAll.data.toList.drop 22 = dktX3_selectAll_1 := dk_seg dksX3_selectAll_0 22 rfl rfl
theorem dksX3_selectAll_2 : cX3_selectAll.data.toList.drop 45 = dktX3_selectAll_2 := dk_seg dksX3_selectAll_1 23 rfl rfl
theorem dX3_selectAll_0 : decode cX3_selectAll 0 = .ok (.iconst 0, 1) := dk_3 (dk_at dksX3_selectAll_0 0 rfl rfl)
theorem dX3_selectAll_1 : decode cX3_selectAll 1 = .ok (.istore_n 1, 1) := dk_60 (dk_at dksX3_selectAll_0 1 rfl rfl)
theorem dX3_selectAll_2 : decode cX3_selectAll 2 = .ok (.iload_n 1, 1) := dk_27 (dk_at dksX3_selectAll_0 2 rfl rfl)
theorem dX3_selectAll_3 : decode cX3_selectAll 3 = .ok (.aload_n 0, 1) := dk_42 (dk_at dksX3_selectAll_0 3 rfl rfl)
theorem dX3_selectAll_4 : decode cX3_selectAll 4 = .ok (.invokevirtual 74, 3) := dk_182 0 74 (dk_at dksX3_selectAll_0 4 rfl rfl)
theorem dX3_selectAll_7 : decode cX3_selectAll 7 = .ok (.if_icmp .ge 41, 3) := dk_162 0 41 (dk_at dksX3_selectAll_0 7 rfl rfl)
theorem dX3_selectAll_10 : decode cX3_selectAll 10 = .ok (.aload_n 0, 1) := dk_42 (dk_at dksX3_selectAll_0 10 rfl rfl)
theorem dX3_selectAll_11 : decode cX3_selectAll 11 = .ok (.iload_n 1, 1) := dk_27 (dk_at dksX3_selectAll_0 11 rfl rfl)
theorem dX3_selectAll_12 : decode cX3_selectAll 12 = .ok (.invokevirtual 186, 3) := dk_182 0 186 (dk_at dksX3_selectAll_0 12 rfl rfl)
theorem dX3_selectAll_15 : decode cX3_selectAll 15 = .ok (.aload_n 0, 1) := dk_42 (dk_at dksX3_selectAll_0 15 rfl rfl)
theorem dX3_selectAll_16 : decode cX3_selectAll 16 = .ok (.getfield 41, 3) := dk_180 0 41 (dk_at dksX3_selectAll_0 16 rfl rfl)
theorem dX3_selectAll_19 : decode cX3_selectAll 19 = .ok (.iload_n 1, 1) := dk_27 (dk_at dksX3_selectAll_0 19 rfl rfl)
theorem dX3_selectAll_20 : decode cX3_selectAll 20 = .ok (.iaload, 1) := dk_46 (dk_at dksX3_selectAll_0 20 rfl rfl)
theorem dX3_selectAll_21 : decode cX3_selectAll 21 = .ok (.iconst (-1), 1) := dk_2 (dk_at dksX3_selectAll_0 21 rfl rfl)
theorem dX3_selectAll_22 : decode cX3_selectAll 22 = .ok (.if_icmp .eq 20, 3) := dk_159 0 20 (dk_at dksX3_selectAll_1 0 rfl rfl)
theorem dX3_selectAll_25 : decode cX3_selectAll 25 = .ok (.aload_n 0, 1) := dk_42 (dk_at dksX3_selectAll_1 3 rfl rfl)
theorem dX3_selectAll_26 : decode cX3_selectAll 26 = .ok (.iload_n 1, 1) := dk_27 (dk_at dksX3_selectAll_1 4 rfl rfl)
theorem dX3_selectAll_27 : decode cX3_selectAll 27 = .ok (.aload_n 0, 1) := dk_42 (dk_at dksX3_selectAll_1 5 rfl rfl)
theorem dX3_selectAll_28 : decode cX3_selectAll 28 = .ok (.getfield 41, 3) := dk_180 0 41 (dk_at dksX3_selectAll_1 6 rfl rfl)
theorem dX3_selectAll_31 : decode cX3_selectAll 31 = .ok (.iload_n 1, 1) := dk_27 (dk_at dksX3_selectAll_1 9 rfl rfl)
theorem dX3_selectAll_32 : decode cX3_selectAll 32 = .ok (.iaload, 1) := dk_46 (dk_at dksX3_selectAll_1 10 rfl rfl)
theorem dX3_selectAll_33 : decode cX3_selectAll 33 = .ok (.aload_n 0, 1) := dk_42 (dk_at dksX3_selectAll_1 11 rfl rfl)
theorem dX3_selectAll_34 : decode cX3_selectAll 34 = .ok (.getfield 44, 3) := dk_180 0 44 (dk_at dksX3_selectAll_1 12 rfl rfl)
theorem dX3_selectAll_37 : decode cX3_selectAll 37 = .ok (.iload_n 1, 1) := dk_27 (dk_at dksX3_selectAll_1 15 rfl rfl)
theorem dX3_selectAll_38 : decode cX3_selectAll 38 = .ok (.baload, 1) := dk_51 (dk_at dksX3_selectAll_1 16 rfl rfl)
theorem dX3_selectAll_39 : decode cX3_selectAll 39 = .ok (.invokevirtual 199, 3) := dk_182 0 199 (dk_at dksX3_selectAll_1 17 rfl rfl)
theorem dX3_selectAll_42 : decode cX3_selectAll 42 = .ok (.iinc 1 1, 3) := dk_132 1 1 (dk_at dksX3_selectAll_1 20 rfl rfl)
theorem dX3_selectAll_45 : decode cX3_selectAll 45 = .ok (.goto (-43), 3) := dk_167 255 213 (dk_at dksX3_selectAll_2 0 rfl rfl)
theorem dX3_selectAll_48 : decode cX3_selectAll 48 = .ok (.return_, 1) := dk_177 (dk_at dksX3_selectAll_2 3 rfl rfl)
abbrev cX3_errorCode : ByteArray := prog_13_method_108_code
def yX3_errorCode : MethodName := ⟨RX3, "errorCode", "()I"⟩
def dkwX3_errorCode_0 : List UInt8 := [42, 3, 181, 0, 3, 42, 180, 1, 20, 172]
abbrev dktX3_errorCode_0 : List UInt8 := dkwX3_errorCode_0 ++ []
theorem dksX3_errorCode_0 : cX3_errorCode.data.toList.drop 0 = dktX3_errorCode_0 := by decide +kernel
theorem dX3_errorCode_0 : decode cX3_errorCode 0 = .ok (.aload_n 0, 1) := dk_42 (dk_at dksX3_errorCode_0 0 rfl rfl)
theorem dX3_errorCode_1 : decode cX3_errorCode 1 = .ok (.iconst 0, 1) := dk_3 (dk_at dksX3_errorCode_0 1 rfl rfl)
theorem dX3_errorCode_2 : decode cX3_errorCode 2 = .ok (.putfield 3, 3) := dk_181 0 3 (dk_at dksX3_errorCode_0 2 rfl rfl)
theorem dX3_errorCode_5 : decode cX3_errorCode 5 = .ok (.aload_n 0, 1) := dk_42 (dk_at dksX3_errorCode_0 5 rfl rfl)
theorem dX3_errorCode_6 : decode cX3_errorCode 6 = .ok (.getfield 276, 3) := dk_180 1 20 (dk_at dksX3_errorCode_0 6 rfl rfl)
theorem dX3_errorCode_9 : decode cX3_errorCode 9 = .ok (.ireturn, 1) := dk_172 (dk_at dksX3_errorCode_0 9 rfl rfl)
abbrev cX3_errorPosition : ByteArray := prog_13_method_109_code
def yX3_errorPosition : MethodName := ⟨RX3, "errorPosition", "()I"⟩
def dkwX3_errorPosition_0 : List UInt8 := [42, 3, 181, 0, 3, 42, 180, 0, 38, 172]
abbrev dktX3_errorPosition_0 : List UInt8 := dkwX3_errorPosition_0 ++ []
theorem dksX3_errorPosition_0 : cX3_errorPosition.data.toList.drop 0 = dktX3_errorPosition_0 := by decide +kernel
theorem dX3_errorPosition_0 : decode cX3_errorPosition 0 = .ok (.aload_n 0, 1) := dk_42 (dk_at dksX3_errorPosition_0 0 rfl rfl)
theorem dX3_errorPosition_1 : decode cX3_errorPosition 1 = .ok (.iconst 0, 1) := dk_3 (dk_at dksX3_errorPosition_0 1 rfl rfl)
theorem dX3_errorPosition_2 : decode cX3_errorPosition 2 = .ok (.putfield 3, 3) := dk_181 0 3 (dk_at dksX3_errorPosition_0 2 rfl rfl)
theorem dX3_errorPosition_5 : decode cX3_errorPosition 5 = .ok (.aload_n 0, 1) := dk_42 (dk_at dksX3_errorPosition_0 5 rfl rfl)
theorem dX3_errorPosition_6 : decode cX3_errorPosition 6 = .ok (.getfield 38, 3) := dk_180 0 38 (dk_at dksX3_errorPosition_0 6 rfl rfl)
theorem dX3_errorPosition_9 : decode cX3_errorPosition 9 = .ok (.ireturn, 1) := dk_172 (dk_at dksX3_errorPosition_0 9 rfl rfl)
abbrev cX3_findBox : ByteArray := prog_13_method_111_code
def yX3_findBox : MethodName := ⟨RX3, "findBox", "()I"⟩
def dkwX3_findBox_1 : List UInt8 := [182, 1, 147, 172]
abbrev dktX3_findBox_1 : List UInt8 := dkwX3_findBox_1 ++ []
def dkwX3_findBox_0 : List UInt8 := [42, 3, 181, 0, 3, 42, 182, 1, 192, 64, 31, 9, 148, 154, 0, 7, 2, 167, 0, 8, 42, 31]
abbrev dktX3_findBox_0 : List UInt8 := dkwX3_findBox_0 ++ dktX3_findBox_1
theorem dksX3_findBox_0 : cX3_findBox.data.toList.drop 0 = dktX3_findBox_0 := by decide +kernel
theorem dksX3_findBox_1 : cX3_findBox.data.toList.drop 22 = dktX3_findBox_1 := dk_seg dksX3_findBox_0 22 rfl rfl
theorem dX3_findBox_0 : decode cX3_findBox 0 = .ok (.aload_n 0, 1) := dk_42 (dk_at dksX3_findBox_0 0 rfl rfl)
theorem dX3_findBox_1 : decode cX3_findBox 1 = .ok (.iconst 0, 1) := dk_3 (dk_at dksX3_findBox_0 1 rfl rfl)
theorem dX3_findBox_2 : decode cX3_findBox 2 = .ok (.putfield 3, 3) := dk_181 0 3 (dk_at dksX3_findBox_0 2 rfl rfl)
theorem dX3_findBox_5 : decode cX3_findBox 5 = .ok (.aload_n 0, 1) := dk_42 (dk_at dksX3_findBox_0 5 rfl rfl)
theorem dX3_findBox_6 : decode cX3_findBox 6 = .ok (.invokevirtual 448, 3) := dk_182 1 192 (dk_at dksX3_findBox_0 6 rfl rfl)
theorem dX3_findBox_9 : decode cX3_findBox 9 = .ok (.lstore_n 1, 1) := dk_64 (dk_at dksX3_findBox_0 9 rfl rfl)
theorem dX3_findBox_10 : decode cX3_findBox 10 = .ok (.lload_n 1, 1) := dk_31 (dk_at dksX3_findBox_0 10 rfl rfl)
theorem dX3_findBox_11 : decode cX3_findBox 11 = .ok (.lconst 0, 1) := dk_9 (dk_at dksX3_findBox_0 11 rfl rfl)
theorem dX3_findBox_12 : decode cX3_findBox 12 = .ok (.lcmp, 1) := dk_148 (dk_at dksX3_findBox_0 12 rfl rfl)
theorem dX3_findBox_13 : decode cX3_findBox 13 = .ok (.ifCond .ne 7, 3) := dk_154 0 7 (dk_at dksX3_findBox_0 13 rfl rfl)
theorem dX3_findBox_16 : decode cX3_findBox 16 = .ok (.iconst (-1), 1) := dk_2 (dk_at dksX3_findBox_0 16 rfl rfl)
theorem dX3_findBox_17 : decode cX3_findBox 17 = .ok (.goto 8, 3) := dk_167 0 8 (dk_at dksX3_findBox_0 17 rfl rfl)
theorem dX3_findBox_20 : decode cX3_findBox 20 = .ok (.aload_n 0, 1) := dk_42 (dk_at dksX3_findBox_0 20 rfl rfl)
theorem dX3_findBox_21 : decode cX3_findBox 21 = .ok (.lload_n 1, 1) := dk_31 (dk_at dksX3_findBox_0 21 rfl rfl)
theorem dX3_findBox_22 : decode cX3_findBox 22 = .ok (.invokevirtual 403, 3) := dk_182 1 147 (dk_at dksX3_findBox_1 0 rfl rfl)
theorem dX3_findBox_25 : decode cX3_findBox 25 = .ok (.ireturn, 1) := dk_172 (dk_at dksX3_findBox_1 3 rfl rfl)
abbrev cX3_wholeName : ByteArray := prog_13_method_110_code
def yX3_wholeName : MethodName := ⟨RX3, "wholeName", "()J"⟩
def dkwX3_wholeName_3 : List UInt8 := [42, 3, 181, 1, 14, 32, 173]
abbrev dktX3_wholeName_3 : List UInt8 := dkwX3_wholeName_3 ++ []
def dkwX3_wholeName_2 : List UInt8 := [167, 255, 224, 27, 153, 0, 18, 42, 180, 0, 34, 3, 42, 180, 1, 14, 184, 1, 129, 167, 0, 4, 9, 65]
abbrev dktX3_wholeName_2 : List UInt8 := dkwX3_wholeName_2 ++ dktX3_wholeName_3
def dkwX3_wholeName_1 : List UInt8 := [153, 0, 26, 42, 180, 0, 34, 28, 51, 133, 20, 1, 42, 20, 1, 44, 184, 0, 70, 60, 132, 2, 1]
abbrev dktX3_wholeName_1 : List UInt8 := dkwX3_wholeName_1 ++ dktX3_wholeName_2
def dkwX3_wholeName_0 : List UInt8 := [42, 180, 1, 14, 133, 10, 20, 1, 190, 184, 0, 70, 60, 3, 61, 28, 42, 180, 1, 14, 162, 0, 30, 27]
abbrev dktX3_wholeName_0 : List UInt8 := dkwX3_wholeName_0 ++ dktX3_wholeName_1
theorem dksX3_wholeName_0 : cX3_wholeName.data.toList.drop 0 = dktX3_wholeName_0 := by decide +kernel
theorem dksX3_wholeName_1 : cX3_wholeName.data.toList.drop 24 = dktX3_wholeName_1 := dk_seg dksX3_wholeName_0 24 rfl rfl
theorem dksX3_wholeName_2 : cX3_wholeName.data.toList.drop 47 = dktX3_wholeName_2 := dk_seg dksX3_wholeName_1 23 rfl rfl
theorem dksX3_wholeName_3 : cX3_wholeName.data.toList.drop 71 = dktX3_wholeName_3 := dk_seg dksX3_wholeName_2 24 rfl rfl
theorem dX3_wholeName_0 : decode cX3_wholeName 0 = .ok (.aload_n 0, 1) := dk_42 (dk_at dksX3_wholeName_0 0 rfl rfl)
theorem dX3_wholeName_1 : decode cX3_wholeName 1 = .ok (.getfield 270, 3) := dk_180 1 14 (dk_at dksX3_wholeName_0 1 rfl rfl)
theorem dX3_wholeName_4 : decode cX3_wholeName 4 = .ok (.i2l, 1) := dk_133 (dk_at dksX3_wholeName_0 4 rfl rfl)
theorem dX3_wholeName_5 : decode cX3_wholeName 5 = .ok (.lconst 1, 1) := dk_10 (dk_at dksX3_wholeName_0 5 rfl rfl)
theorem dX3_wholeName_6 : decode cX3_wholeName 6 = .ok (.ldc2_w 446, 3) := dk_20 1 190 (dk_at dksX3_wholeName_0 6 rfl rfl)
theorem dX3_wholeName_9 : decode cX3_wholeName 9 = .ok (.invokestatic 70, 3) := dk_184 0 70 (dk_at dksX3_wholeName_0 9 rfl rfl)
theorem dX3_wholeName_12 : decode cX3_wholeName 12 = .ok (.istore_n 1, 1) := dk_60 (dk_at dksX3_wholeName_0 12 rfl rfl)
theorem dX3_wholeName_13 : decode cX3_wholeName 13 = .ok (.iconst 0, 1) := dk_3 (dk_at dksX3_wholeName_0 13 rfl rfl)
theorem dX3_wholeName_14 : decode cX3_wholeName 14 = .ok (.istore_n 2, 1) := dk_61 (dk_at dksX3_wholeName_0 14 rfl rfl)
theorem dX3_wholeName_15 : decode cX3_wholeName 15 = .ok (.iload_n 2, 1) := dk_28 (dk_at dksX3_wholeName_0 15 rfl rfl)
theorem dX3_wholeName_16 : decode cX3_wholeName 16 = .ok (.aload_n 0, 1) := dk_42 (dk_at dksX3_wholeName_0 16 rfl rfl)
theorem dX3_wholeName_17 : decode cX3_wholeName 17 = .ok (.getfield 270, 3) := dk_180 1 14 (dk_at dksX3_wholeName_0 17 rfl rfl)
theorem dX3_wholeName_20 : decode cX3_wholeName 20 = .ok (.if_icmp .ge 30, 3) := dk_162 0 30 (dk_at dksX3_wholeName_0 20 rfl rfl)
theorem dX3_wholeName_23 : decode cX3_wholeName 23 = .ok (.iload_n 1, 1) := dk_27 (dk_at dksX3_wholeName_0 23 rfl rfl)
theorem dX3_wholeName_24 : decode cX3_wholeName 24 = .ok (.ifCond .eq 26, 3) := dk_153 0 26 (dk_at dksX3_wholeName_1 0 rfl rfl)
theorem dX3_wholeName_27 : decode cX3_wholeName 27 = .ok (.aload_n 0, 1) := dk_42 (dk_at dksX3_wholeName_1 3 rfl rfl)
theorem dX3_wholeName_28 : decode cX3_wholeName 28 = .ok (.getfield 34, 3) := dk_180 0 34 (dk_at dksX3_wholeName_1 4 rfl rfl)
theorem dX3_wholeName_31 : decode cX3_wholeName 31 = .ok (.iload_n 2, 1) := dk_28 (dk_at dksX3_wholeName_1 7 rfl rfl)
theorem dX3_wholeName_32 : decode cX3_wholeName 32 = .ok (.baload, 1) := dk_51 (dk_at dksX3_wholeName_1 8 rfl rfl)
theorem dX3_wholeName_33 : decode cX3_wholeName 33 = .ok (.i2l, 1) := dk_133 (dk_at dksX3_wholeName_1 9 rfl rfl)
theorem dX3_wholeName_34 : decode cX3_wholeName 34 = .ok (.ldc2_w 298, 3) := dk_20 1 42 (dk_at dksX3_wholeName_1 10 rfl rfl)
theorem dX3_wholeName_37 : decode cX3_wholeName 37 = .ok (.ldc2_w 300, 3) := dk_20 1 44 (dk_at dksX3_wholeName_1 13 rfl rfl)
theorem dX3_wholeName_40 : decode cX3_wholeName 40 = .ok (.invokestatic 70, 3) := dk_184 0 70 (dk_at dksX3_wholeName_1 16 rfl rfl)
theorem dX3_wholeName_43 : decode cX3_wholeName 43 = .ok (.istore_n 1, 1) := dk_60 (dk_at dksX3_wholeName_1 19 rfl rfl)
theorem dX3_wholeName_44 : decode cX3_wholeName 44 = .ok (.iinc 2 1, 3) := dk_132 2 1 (dk_at dksX3_wholeName_1 20 rfl rfl)
theorem dX3_wholeName_47 : decode cX3_wholeName 47 = .ok (.goto (-32), 3) := dk_167 255 224 (dk_at dksX3_wholeName_2 0 rfl rfl)
theorem dX3_wholeName_50 : decode cX3_wholeName 50 = .ok (.iload_n 1, 1) := dk_27 (dk_at dksX3_wholeName_2 3 rfl rfl)
theorem dX3_wholeName_51 : decode cX3_wholeName 51 = .ok (.ifCond .eq 18, 3) := dk_153 0 18 (dk_at dksX3_wholeName_2 4 rfl rfl)
theorem dX3_wholeName_54 : decode cX3_wholeName 54 = .ok (.aload_n 0, 1) := dk_42 (dk_at dksX3_wholeName_2 7 rfl rfl)
theorem dX3_wholeName_55 : decode cX3_wholeName 55 = .ok (.getfield 34, 3) := dk_180 0 34 (dk_at dksX3_wholeName_2 8 rfl rfl)
theorem dX3_wholeName_58 : decode cX3_wholeName 58 = .ok (.iconst 0, 1) := dk_3 (dk_at dksX3_wholeName_2 11 rfl rfl)
theorem dX3_wholeName_59 : decode cX3_wholeName 59 = .ok (.aload_n 0, 1) := dk_42 (dk_at dksX3_wholeName_2 12 rfl rfl)
theorem dX3_wholeName_60 : decode cX3_wholeName 60 = .ok (.getfield 270, 3) := dk_180 1 14 (dk_at dksX3_wholeName_2 13 rfl rfl)
theorem dX3_wholeName_63 : decode cX3_wholeName 63 = .ok (.invokestatic 385, 3) := dk_184 1 129 (dk_at dksX3_wholeName_2 16 rfl rfl)
theorem dX3_wholeName_66 : decode cX3_wholeName 66 = .ok (.goto 4, 3) := dk_167 0 4 (dk_at dksX3_wholeName_2 19 rfl rfl)
theorem dX3_wholeName_69 : decode cX3_wholeName 69 = .ok (.lconst 0, 1) := dk_9 (dk_at dksX3_wholeName_2 22 rfl rfl)
theorem dX3_wholeName_70 : decode cX3_wholeName 70 = .ok (.lstore_n 2, 1) := dk_65 (dk_at dksX3_wholeName_2 23 rfl rfl)
theorem dX3_wholeName_71 : decode cX3_wholeName 71 = .ok (.aload_n 0, 1) := dk_42 (dk_at dksX3_wholeName_3 0 rfl rfl)
theorem dX3_wholeName_72 : decode cX3_wholeName 72 = .ok (.iconst 0, 1) := dk_3 (dk_at dksX3_wholeName_3 1 rfl rfl)
theorem dX3_wholeName_73 : decode cX3_wholeName 73 = .ok (.putfield 270, 3) := dk_181 1 14 (dk_at dksX3_wholeName_3 2 rfl rfl)
theorem dX3_wholeName_76 : decode cX3_wholeName 76 = .ok (.lload_n 2, 1) := dk_32 (dk_at dksX3_wholeName_3 5 rfl rfl)
theorem dX3_wholeName_77 : decode cX3_wholeName 77 = .ok (.lreturn, 1) := dk_173 (dk_at dksX3_wholeName_3 6 rfl rfl)
abbrev cX3_findSession : ByteArray := prog_13_method_112_code
def yX3_findSession : MethodName := ⟨RX3, "findSession", "()I"⟩
def dkwX3_findSession_1 : List UInt8 := [182, 1, 163, 172]
abbrev dktX3_findSession_1 : List UInt8 := dkwX3_findSession_1 ++ []
def dkwX3_findSession_0 : List UInt8 := [42, 3, 181, 0, 3, 42, 182, 1, 192, 64, 31, 9, 148, 154, 0, 7, 2, 167, 0, 8, 42, 31]
abbrev dktX3_findSession_0 : List UInt8 := dkwX3_findSession_0 ++ dktX3_findSession_1
theorem dksX3_findSession_0 : cX3_findSession.data.toList.drop 0 = dktX3_findSession_0 := by decide +kernel
theorem dksX3_findSession_1 : cX3_findSession.data.toList.drop 22 = dktX3_findSession_1 := dk_seg dksX3_findSession_0 22 rfl rfl
theorem dX3_findSession_0 : decode cX3_findSession 0 = .ok (.aload_n 0, 1) := dk_42 (dk_at dksX3_findSession_0 0 rfl rfl)
theorem dX3_findSession_1 : decode cX3_findSession 1 = .ok (.iconst 0, 1) := dk_3 (dk_at dksX3_findSession_0 1 rfl rfl)
theorem dX3_findSession_2 : decode cX3_findSession 2 = .ok (.putfield 3, 3) := dk_181 0 3 (dk_at dksX3_findSession_0 2 rfl rfl)
theorem dX3_findSession_5 : decode cX3_findSession 5 = .ok (.aload_n 0, 1) := dk_42 (dk_at dksX3_findSession_0 5 rfl rfl)
theorem dX3_findSession_6 : decode cX3_findSession 6 = .ok (.invokevirtual 448, 3) := dk_182 1 192 (dk_at dksX3_findSession_0 6 rfl rfl)
theorem dX3_findSession_9 : decode cX3_findSession 9 = .ok (.lstore_n 1, 1) := dk_64 (dk_at dksX3_findSession_0 9 rfl rfl)
theorem dX3_findSession_10 : decode cX3_findSession 10 = .ok (.lload_n 1, 1) := dk_31 (dk_at dksX3_findSession_0 10 rfl rfl)
theorem dX3_findSession_11 : decode cX3_findSession 11 = .ok (.lconst 0, 1) := dk_9 (dk_at dksX3_findSession_0 11 rfl rfl)
theorem dX3_findSession_12 : decode cX3_findSession 12 = .ok (.lcmp, 1) := dk_148 (dk_at dksX3_findSession_0 12 rfl rfl)
theorem dX3_findSession_13 : decode cX3_findSession 13 = .ok (.ifCond .ne 7, 3) := dk_154 0 7 (dk_at dksX3_findSession_0 13 rfl rfl)
theorem dX3_findSession_16 : decode cX3_findSession 16 = .ok (.iconst (-1), 1) := dk_2 (dk_at dksX3_findSession_0 16 rfl rfl)
theorem dX3_findSession_17 : decode cX3_findSession 17 = .ok (.goto 8, 3) := dk_167 0 8 (dk_at dksX3_findSession_0 17 rfl rfl)
theorem dX3_findSession_20 : decode cX3_findSession 20 = .ok (.aload_n 0, 1) := dk_42 (dk_at dksX3_findSession_0 20 rfl rfl)
theorem dX3_findSession_21 : decode cX3_findSession 21 = .ok (.lload_n 1, 1) := dk_31 (dk_at dksX3_findSession_0 21 rfl rfl)
theorem dX3_findSession_22 : decode cX3_findSession 22 = .ok (.invokevirtual 419, 3) := dk_182 1 163 (dk_at dksX3_findSession_1 0 rfl rfl)
theorem dX3_findSession_25 : decode cX3_findSession 25 = .ok (.ireturn, 1) := dk_172 (dk_at dksX3_findSession_1 3 rfl rfl)
abbrev cX3_searchBox : ByteArray := prog_13_method_122_code
def yX3_searchBox : MethodName := ⟨RX3, "searchBox", "(I)I"⟩
def dkwX3_searchBox_1 : List UInt8 := [153, 0, 7, 28, 167, 0, 5, 16, 252, 172]
abbrev dktX3_searchBox_1 : List UInt8 := dkwX3_searchBox_1 ++ []
def dkwX3_searchBox_0 : List UInt8 := [42, 42, 27, 182, 0, 189, 182, 1, 10, 154, 0, 5, 3, 172, 42, 27, 182, 1, 225, 61, 42, 182, 1, 23]
abbrev dktX3_searchBox_0 : List UInt8 := dkwX3_searchBox_0 ++ dktX3_searchBox_1
theorem dksX3_searchBox_0 : cX3_searchBox.data.toList.drop 0 = dktX3_searchBox_0 := by decide +kernel
theorem dksX3_searchBox_1 : cX3_searchBox.data.toList.drop 24 = dktX3_searchBox_1 := dk_seg dksX3_searchBox_0 24 rfl rfl
theorem dX3_searchBox_0 : decode cX3_searchBox 0 = .ok (.aload_n 0, 1) := dk_42 (dk_at dksX3_searchBox_0 0 rfl rfl)
theorem dX3_searchBox_1 : decode cX3_searchBox 1 = .ok (.aload_n 0, 1) := dk_42 (dk_at dksX3_searchBox_0 1 rfl rfl)
theorem dX3_searchBox_2 : decode cX3_searchBox 2 = .ok (.iload_n 1, 1) := dk_27 (dk_at dksX3_searchBox_0 2 rfl rfl)
theorem dX3_searchBox_3 : decode cX3_searchBox 3 = .ok (.invokevirtual 189, 3) := dk_182 0 189 (dk_at dksX3_searchBox_0 3 rfl rfl)
theorem dX3_searchBox_6 : decode cX3_searchBox 6 = .ok (.invokevirtual 266, 3) := dk_182 1 10 (dk_at dksX3_searchBox_0 6 rfl rfl)
theorem dX3_searchBox_9 : decode cX3_searchBox 9 = .ok (.ifCond .ne 5, 3) := dk_154 0 5 (dk_at dksX3_searchBox_0 9 rfl rfl)
theorem dX3_searchBox_12 : decode cX3_searchBox 12 = .ok (.iconst 0, 1) := dk_3 (dk_at dksX3_searchBox_0 12 rfl rfl)
theorem dX3_searchBox_13 : decode cX3_searchBox 13 = .ok (.ireturn, 1) := dk_172 (dk_at dksX3_searchBox_0 13 rfl rfl)
theorem dX3_searchBox_14 : decode cX3_searchBox 14 = .ok (.aload_n 0, 1) := dk_42 (dk_at dksX3_searchBox_0 14 rfl rfl)
theorem dX3_searchBox_15 : decode cX3_searchBox 15 = .ok (.iload_n 1, 1) := dk_27 (dk_at dksX3_searchBox_0 15 rfl rfl)
theorem dX3_searchBox_16 : decode cX3_searchBox 16 = .ok (.invokevirtual 481, 3) := dk_182 1 225 (dk_at dksX3_searchBox_0 16 rfl rfl)
theorem dX3_searchBox_19 : decode cX3_searchBox 19 = .ok (.istore_n 2, 1) := dk_61 (dk_at dksX3_searchBox_0 19 rfl rfl)
theorem dX3_searchBox_20 : decode cX3_searchBox 20 = .ok (.aload_n 0, 1) := dk_42 (dk_at dksX3_searchBox_0 20 rfl rfl)
theorem dX3_searchBox_21 : decode cX3_searchBox 21 = .ok (.invokevirtual 279, 3) := dk_182 1 23 (dk_at dksX3_searchBox_0 21 rfl rfl)
theorem dX3_searchBox_24 : decode cX3_searchBox 24 = .ok (.ifCond .eq 7, 3) := dk_153 0 7 (dk_at dksX3_searchBox_1 0 rfl rfl)
theorem dX3_searchBox_27 : decode cX3_searchBox 27 = .ok (.iload_n 2, 1) := dk_28 (dk_at dksX3_searchBox_1 3 rfl rfl)
theorem dX3_searchBox_28 : decode cX3_searchBox 28 = .ok (.goto 5, 3) := dk_167 0 5 (dk_at dksX3_searchBox_1 4 rfl rfl)
theorem dX3_searchBox_31 : decode cX3_searchBox 31 = .ok (.bipush (-4), 2) := dk_16 252 (dk_at dksX3_searchBox_1 7 rfl rfl)
theorem dX3_searchBox_33 : decode cX3_searchBox 33 = .ok (.ireturn, 1) := dk_172 (dk_at dksX3_searchBox_1 9 rfl rfl)
abbrev cX3_wholeQuery : ByteArray := prog_13_method_121_code
def yX3_wholeQuery : MethodName := ⟨RX3, "wholeQuery", "(I)I"⟩
def dkwX3_wholeQuery_1 : List UInt8 := [153, 0, 15, 42, 180, 1, 39, 153, 0, 8, 42, 4, 182, 1, 81, 28, 172]
abbrev dktX3_wholeQuery_1 : List UInt8 := dkwX3_wholeQuery_1 ++ []
def dkwX3_wholeQuery_0 : List UInt8 := [42, 27, 181, 1, 195, 42, 3, 181, 1, 198, 42, 182, 1, 181, 42, 182, 1, 210, 61, 42, 182, 1, 23]
abbrev dktX3_wholeQuery_0 : List UInt8 := dkwX3_wholeQuery_0 ++ dktX3_wholeQuery_1
theorem dksX3_wholeQuery_0 : cX3_wholeQuery.data.toList.drop 0 = dktX3_wholeQuery_0 := by decide +kernel
theorem dksX3_wholeQuery_1 : cX3_wholeQuery.data.toList.drop 23 = dktX3_wholeQuery_1 := dk_seg dksX3_wholeQuery_0 23 rfl rfl
theorem dX3_wholeQuery_0 : decode cX3_wholeQuery 0 = .ok (.aload_n 0, 1) := dk_42 (dk_at dksX3_wholeQuery_0 0 rfl rfl)
theorem dX3_wholeQuery_1 : decode cX3_wholeQuery 1 = .ok (.iload_n 1, 1) := dk_27 (dk_at dksX3_wholeQuery_0 1 rfl rfl)
theorem dX3_wholeQuery_2 : decode cX3_wholeQuery 2 = .ok (.putfield 451, 3) := dk_181 1 195 (dk_at dksX3_wholeQuery_0 2 rfl rfl)
theorem dX3_wholeQuery_5 : decode cX3_wholeQuery 5 = .ok (.aload_n 0, 1) := dk_42 (dk_at dksX3_wholeQuery_0 5 rfl rfl)
theorem dX3_wholeQuery_6 : decode cX3_wholeQuery 6 = .ok (.iconst 0, 1) := dk_3 (dk_at dksX3_wholeQuery_0 6 rfl rfl)
theorem dX3_wholeQuery_7 : decode cX3_wholeQuery 7 = .ok (.putfield 454, 3) := dk_181 1 198 (dk_at dksX3_wholeQuery_0 7 rfl rfl)
theorem dX3_wholeQuery_10 : decode cX3_wholeQuery 10 = .ok (.aload_n 0, 1) := dk_42 (dk_at dksX3_wholeQuery_0 10 rfl rfl)
theorem dX3_wholeQuery_11 : decode cX3_wholeQuery 11 = .ok (.invokevirtual 437, 3) := dk_182 1 181 (dk_at dksX3_wholeQuery_0 11 rfl rfl)
theorem dX3_wholeQuery_14 : decode cX3_wholeQuery 14 = .ok (.aload_n 0, 1) := dk_42 (dk_at dksX3_wholeQuery_0 14 rfl rfl)
theorem dX3_wholeQuery_15 : decode cX3_wholeQuery 15 = .ok (.invokevirtual 466, 3) := dk_182 1 210 (dk_at dksX3_wholeQuery_0 15 rfl rfl)
theorem dX3_wholeQuery_18 : decode cX3_wholeQuery 18 = .ok (.istore_n 2, 1) := dk_61 (dk_at dksX3_wholeQuery_0 18 rfl rfl)
theorem dX3_wholeQuery_19 : decode cX3_wholeQuery 19 = .ok (.aload_n 0, 1) := dk_42 (dk_at dksX3_wholeQuery_0 19 rfl rfl)
theorem dX3_wholeQuery_20 : decode cX3_wholeQuery 20 = .ok (.invokevirtual 279, 3) := dk_182 1 23 (dk_at dksX3_wholeQuery_0 20 rfl rfl)
theorem dX3_wholeQuery_23 : decode cX3_wholeQuery 23 = .ok (.ifCond .eq 15, 3) := dk_153 0 15 (dk_at dksX3_wholeQuery_1 0 rfl rfl)
theorem dX3_wholeQuery_26 : decode cX3_wholeQuery 26 = .ok (.aload_n 0, 1) := dk_42 (dk_at dksX3_wholeQuery_1 3 rfl rfl)
theorem dX3_wholeQuery_27 : decode cX3_wholeQuery 27 = .ok (.getfield 295, 3) := dk_180 1 39 (dk_at dksX3_wholeQuery_1 4 rfl rfl)
theorem dX3_wholeQuery_30 : decode cX3_wholeQuery 30 = .ok (.ifCond .eq 8, 3) := dk_153 0 8 (dk_at dksX3_wholeQuery_1 7 rfl rfl)
theorem dX3_wholeQuery_33 : decode cX3_wholeQuery 33 = .ok (.aload_n 0, 1) := dk_42 (dk_at dksX3_wholeQuery_1 10 rfl rfl)
theorem dX3_wholeQuery_34 : decode cX3_wholeQuery 34 = .ok (.iconst 1, 1) := dk_4 (dk_at dksX3_wholeQuery_1 11 rfl rfl)
theorem dX3_wholeQuery_35 : decode cX3_wholeQuery 35 = .ok (.invokevirtual 337, 3) := dk_182 1 81 (dk_at dksX3_wholeQuery_1 12 rfl rfl)
theorem dX3_wholeQuery_38 : decode cX3_wholeQuery 38 = .ok (.iload_n 2, 1) := dk_28 (dk_at dksX3_wholeQuery_1 15 rfl rfl)
theorem dX3_wholeQuery_39 : decode cX3_wholeQuery 39 = .ok (.ireturn, 1) := dk_172 (dk_at dksX3_wholeQuery_1 16 rfl rfl)
abbrev cX3_query : ByteArray := prog_13_method_120_code
def yX3_query : MethodName := ⟨RX3, "query", "()I"⟩
def dkwX3_query_1 : List UInt8 := [182, 1, 222, 128, 60, 167, 255, 232, 27, 172]
abbrev dktX3_query_1 : List UInt8 := dkwX3_query_1 ++ []
def dkwX3_query_0 : List UInt8 := [42, 182, 1, 222, 60, 42, 182, 1, 23, 153, 0, 23, 42, 19, 1, 114, 182, 1, 157, 153, 0, 13, 27, 42]
abbrev dktX3_query_0 : List UInt8 := dkwX3_query_0 ++ dktX3_query_1
theorem dksX3_query_0 : cX3_query.data.toList.drop 0 = dktX3_query_0 := by decide +kernel
theorem dksX3_query_1 : cX3_query.data.toList.drop 24 = dktX3_query_1 := dk_seg dksX3_query_0 24 rfl rfl
theorem dX3_query_0 : decode cX3_query 0 = .ok (.aload_n 0, 1) := dk_42 (dk_at dksX3_query_0 0 rfl rfl)
theorem dX3_query_1 : decode cX3_query 1 = .ok (.invokevirtual 478, 3) := dk_182 1 222 (dk_at dksX3_query_0 1 rfl rfl)
theorem dX3_query_4 : decode cX3_query 4 = .ok (.istore_n 1, 1) := dk_60 (dk_at dksX3_query_0 4 rfl rfl)
theorem dX3_query_5 : decode cX3_query 5 = .ok (.aload_n 0, 1) := dk_42 (dk_at dksX3_query_0 5 rfl rfl)
theorem dX3_query_6 : decode cX3_query 6 = .ok (.invokevirtual 279, 3) := dk_182 1 23 (dk_at dksX3_query_0 6 rfl rfl)
theorem dX3_query_9 : decode cX3_query 9 = .ok (.ifCond .eq 23, 3) := dk_153 0 23 (dk_at dksX3_query_0 9 rfl rfl)
theorem dX3_query_12 : decode cX3_query 12 = .ok (.aload_n 0, 1) := dk_42 (dk_at dksX3_query_0 12 rfl rfl)
theorem dX3_query_13 : decode cX3_query 13 = .ok (.ldc_w 370, 3) := dk_19 1 114 (dk_at dksX3_query_0 13 rfl rfl)
theorem dX3_query_16 : decode cX3_query 16 = .ok (.invokevirtual 413, 3) := dk_182 1 157 (dk_at dksX3_query_0 16 rfl rfl)
theorem dX3_query_19 : decode cX3_query 19 = .ok (.ifCond .eq 13, 3) := dk_153 0 13 (dk_at dksX3_query_0 19 rfl rfl)
theorem dX3_query_22 : decode cX3_query 22 = .ok (.iload_n 1, 1) := dk_27 (dk_at dksX3_query_0 22 rfl rfl)
theorem dX3_query_23 : decode cX3_query 23 = .ok (.aload_n 0, 1) := dk_42 (dk_at dksX3_query_0 23 rfl rfl)
theorem dX3_query_24 : decode cX3_query 24 = .ok (.invokevirtual 478, 3) := dk_182 1 222 (dk_at dksX3_query_1 0 rfl rfl)
theorem dX3_query_27 : decode cX3_query 27 = .ok (.ior, 1) := dk_128 (dk_at dksX3_query_1 3 rfl rfl)
theorem dX3_query_28 : decode cX3_query 28 = .ok (.istore_n 1, 1) := dk_60 (dk_at dksX3_query_1 4 rfl rfl)
theorem dX3_query_29 : decode cX3_query 29 = .ok (.goto (-24), 3) := dk_167 255 232 (dk_at dksX3_query_1 5 rfl rfl)
theorem dX3_query_32 : decode cX3_query 32 = .ok (.iload_n 1, 1) := dk_27 (dk_at dksX3_query_1 8 rfl rfl)
theorem dX3_query_33 : decode cX3_query 33 = .ok (.ireturn, 1) := dk_172 (dk_at dksX3_query_1 9 rfl rfl)
abbrev cX3_term : ByteArray := prog_13_method_119_code
def yX3_term : MethodName := ⟨RX3, "term", "()I"⟩
def dkwX3_term_1 : List UInt8 := [126, 60, 167, 255, 235, 27, 172]
abbrev dktX3_term_1 : List UInt8 := dkwX3_term_1 ++ []
def dkwX3_term_0 : List UInt8 := [42, 182, 1, 204, 60, 42, 182, 1, 23, 153, 0, 20, 42, 182, 1, 219, 153, 0, 13, 27, 42, 182, 1, 204]
abbrev dktX3_term_0 : List UInt8 := dkwX3_term_0 ++ dktX3_term_1
theorem dksX3_term_0 : cX3_term.data.toList.drop 0 = dktX3_term_0 := by decide +kernel
theorem dksX3_term_1 : cX3_term.data.toList.drop 24 = dktX3_term_1 := dk_seg dksX3_term_0 24 rfl rfl
theorem dX3_term_0 : decode cX3_term 0 = .ok (.aload_n 0, 1) := dk_42 (dk_at dksX3_term_0 0 rfl rfl)
theorem dX3_term_1 : decode cX3_term 1 = .ok (.invokevirtual 460, 3) := dk_182 1 204 (dk_at dksX3_term_0 1 rfl rfl)
theorem dX3_term_4 : decode cX3_term 4 = .ok (.istore_n 1, 1) := dk_60 (dk_at dksX3_term_0 4 rfl rfl)
theorem dX3_term_5 : decode cX3_term 5 = .ok (.aload_n 0, 1) := dk_42 (dk_at dksX3_term_0 5 rfl rfl)
theorem dX3_term_6 : decode cX3_term 6 = .ok (.invokevirtual 279, 3) := dk_182 1 23 (dk_at dksX3_term_0 6 rfl rfl)
theorem dX3_term_9 : decode cX3_term 9 = .ok (.ifCond .eq 20, 3) := dk_153 0 20 (dk_at dksX3_term_0 9 rfl rfl)
theorem dX3_term_12 : decode cX3_term 12 = .ok (.aload_n 0, 1) := dk_42 (dk_at dksX3_term_0 12 rfl rfl)
theorem dX3_term_13 : decode cX3_term 13 = .ok (.invokevirtual 475, 3) := dk_182 1 219 (dk_at dksX3_term_0 13 rfl rfl)
theorem dX3_term_16 : decode cX3_term 16 = .ok (.ifCond .eq 13, 3) := dk_153 0 13 (dk_at dksX3_term_0 16 rfl rfl)
theorem dX3_term_19 : decode cX3_term 19 = .ok (.iload_n 1, 1) := dk_27 (dk_at dksX3_term_0 19 rfl rfl)
theorem dX3_term_20 : decode cX3_term 20 = .ok (.aload_n 0, 1) := dk_42 (dk_at dksX3_term_0 20 rfl rfl)
theorem dX3_term_21 : decode cX3_term 21 = .ok (.invokevirtual 460, 3) := dk_182 1 204 (dk_at dksX3_term_0 21 rfl rfl)
theorem dX3_term_24 : decode cX3_term 24 = .ok (.iand, 1) := dk_126 (dk_at dksX3_term_1 0 rfl rfl)
theorem dX3_term_25 : decode cX3_term 25 = .ok (.istore_n 1, 1) := dk_60 (dk_at dksX3_term_1 1 rfl rfl)
theorem dX3_term_26 : decode cX3_term 26 = .ok (.goto (-21), 3) := dk_167 255 235 (dk_at dksX3_term_1 2 rfl rfl)
theorem dX3_term_29 : decode cX3_term 29 = .ok (.iload_n 1, 1) := dk_27 (dk_at dksX3_term_1 5 rfl rfl)
theorem dX3_term_30 : decode cX3_term 30 = .ok (.ireturn, 1) := dk_172 (dk_at dksX3_term_1 6 rfl rfl)
abbrev cX3_factor : ByteArray := prog_13_method_117_code
def yX3_factor : MethodName := ⟨RX3, "factor", "()I"⟩
def dkwX3_factor_7 : List UInt8 := [182, 1, 81, 3, 172]
abbrev dktX3_factor_7 : List UInt8 := dkwX3_factor_7 ++ []
def dkwX3_factor_6 : List UInt8 := [42, 4, 182, 1, 216, 172, 42, 19, 1, 110, 182, 1, 157, 153, 0, 9, 42, 3, 182, 1, 216, 172, 42, 4]
abbrev dktX3_factor_6 : List UInt8 := dkwX3_factor_6 ++ dktX3_factor_7
def dkwX3_factor_5 : List UInt8 := [19, 1, 108, 182, 1, 157, 153, 0, 8, 42, 182, 1, 207, 172, 42, 19, 1, 102, 182, 1, 157, 153, 0, 9]
abbrev dktX3_factor_5 : List UInt8 := dkwX3_factor_5 ++ dktX3_factor_6
def dkwX3_factor_4 : List UInt8 := [27, 172, 42, 182, 1, 116, 60, 27, 2, 159, 0, 13, 42, 182, 1, 84, 42, 27, 182, 1, 213, 172, 42]
abbrev dktX3_factor_4 : List UInt8 := dkwX3_factor_4 ++ dktX3_factor_5
def dkwX3_factor_3 : List UInt8 := [182, 1, 210, 167, 0, 4, 3, 60, 42, 16, 41, 182, 1, 178, 42, 89, 180, 1, 198, 4, 100, 181, 1, 198]
abbrev dktX3_factor_3 : List UInt8 := dkwX3_factor_3 ++ dktX3_factor_4
def dkwX3_factor_2 : List UInt8 := [130, 126, 172, 42, 16, 40, 182, 1, 75, 153, 0, 41, 42, 182, 1, 201, 42, 182, 1, 23, 153, 0, 10, 42]
abbrev dktX3_factor_2 : List UInt8 := dkwX3_factor_2 ++ dktX3_factor_3
def dkwX3_factor_1 : List UInt8 := [182, 1, 204, 167, 0, 4, 3, 60, 42, 89, 180, 1, 198, 4, 100, 181, 1, 198, 42, 182, 1, 207, 27, 2]
abbrev dktX3_factor_1 : List UInt8 := dkwX3_factor_1 ++ dktX3_factor_2
def dkwX3_factor_0 : List UInt8 := [42, 19, 1, 112, 182, 1, 71, 153, 0, 42, 42, 182, 1, 201, 42, 182, 1, 23, 153, 0, 10, 42]
abbrev dktX3_factor_0 : List UInt8 := dkwX3_factor_0 ++ dktX3_factor_1
theorem dksX3_factor_0 : cX3_factor.data.toList.drop 0 = dktX3_factor_0 := by decide +kernel
theorem dksX3_factor_1 : cX3_factor.data.toList.drop 22 = dktX3_factor_1 := dk_seg dksX3_factor_0 22 rfl rfl
theorem dksX3_factor_2 : cX3_factor.data.toList.drop 46 = dktX3_factor_2 := dk_seg dksX3_factor_1 24 rfl rfl
theorem dksX3_factor_3 : cX3_factor.data.toList.drop 70 = dktX3_factor_3 := dk_seg dksX3_factor_2 24 rfl rfl
theorem dksX3_factor_4 : cX3_factor.data.toList.drop 94 = dktX3_factor_4 := dk_seg dksX3_factor_3 24 rfl rfl
theorem dksX3_factor_5 : cX3_factor.data.toList.drop 117 = dktX3_factor_5 := dk_seg dksX3_factor_4 23 rfl rfl
theorem dksX3_factor_6 : cX3_factor.data.toList.drop 141 = dktX3_factor_6 := dk_seg dksX3_factor_5 24 rfl rfl
theorem dksX3_factor_7 : cX3_factor.data.toList.drop 165 = dktX3_factor_7 := dk_seg dksX3_factor_6 24 rfl rfl
theorem dX3_factor_0 : decode cX3_factor 0 = .ok (.aload_n 0, 1) := dk_42 (dk_at dksX3_factor_0 0 rfl rfl)
theorem dX3_factor_1 : decode cX3_factor 1 = .ok (.ldc_w 368, 3) := dk_19 1 112 (dk_at dksX3_factor_0 1 rfl rfl)
theorem dX3_factor_4 : decode cX3_factor 4 = .ok (.invokevirtual 327, 3) := dk_182 1 71 (dk_at dksX3_factor_0 4 rfl rfl)
theorem dX3_factor_7 : decode cX3_factor 7 = .ok (.ifCond .eq 42, 3) := dk_153 0 42 (dk_at dksX3_factor_0 7 rfl rfl)
theorem dX3_factor_10 : decode cX3_factor 10 = .ok (.aload_n 0, 1) := dk_42 (dk_at dksX3_factor_0 10 rfl rfl)
theorem dX3_factor_11 : decode cX3_factor 11 = .ok (.invokevirtual 457, 3) := dk_182 1 201 (dk_at dksX3_factor_0 11 rfl rfl)
theorem dX3_factor_14 : decode cX3_factor 14 = .ok (.aload_n 0, 1) := dk_42 (dk_at dksX3_factor_0 14 rfl rfl)
theorem dX3_factor_15 : decode cX3_factor 15 = .ok (.invokevirtual 279, 3) := dk_182 1 23 (dk_at dksX3_factor_0 15 rfl rfl)
theorem dX3_factor_18 : decode cX3_factor 18 = .ok (.ifCond .eq 10, 3) := dk_153 0 10 (dk_at dksX3_factor_0 18 rfl rfl)
theorem dX3_factor_21 : decode cX3_factor 21 = .ok (.aload_n 0, 1) := dk_42 (dk_at dksX3_factor_0 21 rfl rfl)
theorem dX3_factor_22 : decode cX3_factor 22 = .ok (.invokevirtual 460, 3) := dk_182 1 204 (dk_at dksX3_factor_1 0 rfl rfl)
theorem dX3_factor_25 : decode cX3_factor 25 = .ok (.goto 4, 3) := dk_167 0 4 (dk_at dksX3_factor_1 3 rfl rfl)
theorem dX3_factor_28 : decode cX3_factor 28 = .ok (.iconst 0, 1) := dk_3 (dk_at dksX3_factor_1 6 rfl rfl)
theorem dX3_factor_29 : decode cX3_factor 29 = .ok (.istore_n 1, 1) := dk_60 (dk_at dksX3_factor_1 7 rfl rfl)
theorem dX3_factor_30 : decode cX3_factor 30 = .ok (.aload_n 0, 1) := dk_42 (dk_at dksX3_factor_1 8 rfl rfl)
theorem dX3_factor_31 : decode cX3_factor 31 = .ok (.dup, 1) := dk_89 (dk_at dksX3_factor_1 9 rfl rfl)
theorem dX3_factor_32 : decode cX3_factor 32 = .ok (.getfield 454, 3) := dk_180 1 198 (dk_at dksX3_factor_1 10 rfl rfl)
theorem dX3_factor_35 : decode cX3_factor 35 = .ok (.iconst 1, 1) := dk_4 (dk_at dksX3_factor_1 13 rfl rfl)
theorem dX3_factor_36 : decode cX3_factor 36 = .ok (.isub, 1) := dk_100 (dk_at dksX3_factor_1 14 rfl rfl)
theorem dX3_factor_37 : decode cX3_factor 37 = .ok (.putfield 454, 3) := dk_181 1 198 (dk_at dksX3_factor_1 15 rfl rfl)
theorem dX3_factor_40 : decode cX3_factor 40 = .ok (.aload_n 0, 1) := dk_42 (dk_at dksX3_factor_1 18 rfl rfl)
theorem dX3_factor_41 : decode cX3_factor 41 = .ok (.invokevirtual 463, 3) := dk_182 1 207 (dk_at dksX3_factor_1 19 rfl rfl)
theorem dX3_factor_44 : decode cX3_factor 44 = .ok (.iload_n 1, 1) := dk_27 (dk_at dksX3_factor_1 22 rfl rfl)
theorem dX3_factor_45 : decode cX3_factor 45 = .ok (.iconst (-1), 1) := dk_2 (dk_at dksX3_factor_1 23 rfl rfl)
theorem dX3_factor_46 : decode cX3_factor 46 = .ok (.ixor, 1) := dk_130 (dk_at dksX3_factor_2 0 rfl rfl)
theorem dX3_factor_47 : decode cX3_factor 47 = .ok (.iand, 1) := dk_126 (dk_at dksX3_factor_2 1 rfl rfl)
theorem dX3_factor_48 : decode cX3_factor 48 = .ok (.ireturn, 1) := dk_172 (dk_at dksX3_factor_2 2 rfl rfl)
theorem dX3_factor_49 : decode cX3_factor 49 = .ok (.aload_n 0, 1) := dk_42 (dk_at dksX3_factor_2 3 rfl rfl)
theorem dX3_factor_50 : decode cX3_factor 50 = .ok (.bipush 40, 2) := dk_16 40 (dk_at dksX3_factor_2 4 rfl rfl)
theorem dX3_factor_52 : decode cX3_factor 52 = .ok (.invokevirtual 331, 3) := dk_182 1 75 (dk_at dksX3_factor_2 6 rfl rfl)
theorem dX3_factor_55 : decode cX3_factor 55 = .ok (.ifCond .eq 41, 3) := dk_153 0 41 (dk_at dksX3_factor_2 9 rfl rfl)
theorem dX3_factor_58 : decode cX3_factor 58 = .ok (.aload_n 0, 1) := dk_42 (dk_at dksX3_factor_2 12 rfl rfl)
theorem dX3_factor_59 : decode cX3_factor 59 = .ok (.invokevirtual 457, 3) := dk_182 1 201 (dk_at dksX3_factor_2 13 rfl rfl)
theorem dX3_factor_62 : decode cX3_factor 62 = .ok (.aload_n 0, 1) := dk_42 (dk_at dksX3_factor_2 16 rfl rfl)
theorem dX3_factor_63 : decode cX3_factor 63 = .ok (.invokevirtual 279, 3) := dk_182 1 23 (dk_at dksX3_factor_2 17 rfl rfl)
theorem dX3_factor_66 : decode cX3_factor 66 = .ok (.ifCond .eq 10, 3) := dk_153 0 10 (dk_at dksX3_factor_2 20 rfl rfl)
theorem dX3_factor_69 : decode cX3_factor 69 = .ok (.aload_n 0, 1) := dk_42 (dk_at dksX3_factor_2 23 rfl rfl)
theorem dX3_factor_70 : decode cX3_factor 70 = .ok (.invokevirtual 466, 3) := dk_182 1 210 (dk_at dksX3_factor_3 0 rfl rfl)
theorem dX3_factor_73 : decode cX3_factor 73 = .ok (.goto 4, 3) := dk_167 0 4 (dk_at dksX3_factor_3 3 rfl rfl)
theorem dX3_factor_76 : decode cX3_factor 76 = .ok (.iconst 0, 1) := dk_3 (dk_at dksX3_factor_3 6 rfl rfl)
theorem dX3_factor_77 : decode cX3_factor 77 = .ok (.istore_n 1, 1) := dk_60 (dk_at dksX3_factor_3 7 rfl rfl)
theorem dX3_factor_78 : decode cX3_factor 78 = .ok (.aload_n 0, 1) := dk_42 (dk_at dksX3_factor_3 8 rfl rfl)
theorem dX3_factor_79 : decode cX3_factor 79 = .ok (.bipush 41, 2) := dk_16 41 (dk_at dksX3_factor_3 9 rfl rfl)
theorem dX3_factor_81 : decode cX3_factor 81 = .ok (.invokevirtual 434, 3) := dk_182 1 178 (dk_at dksX3_factor_3 11 rfl rfl)
theorem dX3_factor_84 : decode cX3_factor 84 = .ok (.aload_n 0, 1) := dk_42 (dk_at dksX3_factor_3 14 rfl rfl)
theorem dX3_factor_85 : decode cX3_factor 85 = .ok (.dup, 1) := dk_89 (dk_at dksX3_factor_3 15 rfl rfl)
theorem dX3_factor_86 : decode cX3_factor 86 = .ok (.getfield 454, 3) := dk_180 1 198 (dk_at dksX3_factor_3 16 rfl rfl)
theorem dX3_factor_89 : decode cX3_factor 89 = .ok (.iconst 1, 1) := dk_4 (dk_at dksX3_factor_3 19 rfl rfl)
theorem dX3_factor_90 : decode cX3_factor 90 = .ok (.isub, 1) := dk_100 (dk_at dksX3_factor_3 20 rfl rfl)
theorem dX3_factor_91 : decode cX3_factor 91 = .ok (.putfield 454, 3) := dk_181 1 198 (dk_at dksX3_factor_3 21 rfl rfl)
theorem dX3_factor_94 : decode cX3_factor 94 = .ok (.iload_n 1, 1) := dk_27 (dk_at dksX3_factor_4 0 rfl rfl)
theorem dX3_factor_95 : decode cX3_factor 95 = .ok (.ireturn, 1) := dk_172 (dk_at dksX3_factor_4 1 rfl rfl)
theorem dX3_factor_96 : decode cX3_factor 96 = .ok (.aload_n 0, 1) := dk_42 (dk_at dksX3_factor_4 2 rfl rfl)
theorem dX3_factor_97 : decode cX3_factor 97 = .ok (.invokevirtual 372, 3) := dk_182 1 116 (dk_at dksX3_factor_4 3 rfl rfl)
theorem dX3_factor_100 : decode cX3_factor 100 = .ok (.istore_n 1, 1) := dk_60 (dk_at dksX3_factor_4 6 rfl rfl)
theorem dX3_factor_101 : decode cX3_factor 101 = .ok (.iload_n 1, 1) := dk_27 (dk_at dksX3_factor_4 7 rfl rfl)
theorem dX3_factor_102 : decode cX3_factor 102 = .ok (.iconst (-1), 1) := dk_2 (dk_at dksX3_factor_4 8 rfl rfl)
theorem dX3_factor_103 : decode cX3_factor 103 = .ok (.if_icmp .eq 13, 3) := dk_159 0 13 (dk_at dksX3_factor_4 9 rfl rfl)
theorem dX3_factor_106 : decode cX3_factor 106 = .ok (.aload_n 0, 1) := dk_42 (dk_at dksX3_factor_4 12 rfl rfl)
theorem dX3_factor_107 : decode cX3_factor 107 = .ok (.invokevirtual 340, 3) := dk_182 1 84 (dk_at dksX3_factor_4 13 rfl rfl)
theorem dX3_factor_110 : decode cX3_factor 110 = .ok (.aload_n 0, 1) := dk_42 (dk_at dksX3_factor_4 16 rfl rfl)
theorem dX3_factor_111 : decode cX3_factor 111 = .ok (.iload_n 1, 1) := dk_27 (dk_at dksX3_factor_4 17 rfl rfl)
theorem dX3_factor_112 : decode cX3_factor 112 = .ok (.invokevirtual 469, 3) := dk_182 1 213 (dk_at dksX3_factor_4 18 rfl rfl)
theorem dX3_factor_115 : decode cX3_factor 115 = .ok (.ireturn, 1) := dk_172 (dk_at dksX3_factor_4 21 rfl rfl)
theorem dX3_factor_116 : decode cX3_factor 116 = .ok (.aload_n 0, 1) := dk_42 (dk_at dksX3_factor_4 22 rfl rfl)
theorem dX3_factor_117 : decode cX3_factor 117 = .ok (.ldc_w 364, 3) := dk_19 1 108 (dk_at dksX3_factor_5 0 rfl rfl)
theorem dX3_factor_120 : decode cX3_factor 120 = .ok (.invokevirtual 413, 3) := dk_182 1 157 (dk_at dksX3_factor_5 3 rfl rfl)
theorem dX3_factor_123 : decode cX3_factor 123 = .ok (.ifCond .eq 8, 3) := dk_153 0 8 (dk_at dksX3_factor_5 6 rfl rfl)
theorem dX3_factor_126 : decode cX3_factor 126 = .ok (.aload_n 0, 1) := dk_42 (dk_at dksX3_factor_5 9 rfl rfl)
theorem dX3_factor_127 : decode cX3_factor 127 = .ok (.invokevirtual 463, 3) := dk_182 1 207 (dk_at dksX3_factor_5 10 rfl rfl)
theorem dX3_factor_130 : decode cX3_factor 130 = .ok (.ireturn, 1) := dk_172 (dk_at dksX3_factor_5 13 rfl rfl)
theorem dX3_factor_131 : decode cX3_factor 131 = .ok (.aload_n 0, 1) := dk_42 (dk_at dksX3_factor_5 14 rfl rfl)
theorem dX3_factor_132 : decode cX3_factor 132 = .ok (.ldc_w 358, 3) := dk_19 1 102 (dk_at dksX3_factor_5 15 rfl rfl)
theorem dX3_factor_135 : decode cX3_factor 135 = .ok (.invokevirtual 413, 3) := dk_182 1 157 (dk_at dksX3_factor_5 18 rfl rfl)
theorem dX3_factor_138 : decode cX3_factor 138 = .ok (.ifCond .eq 9, 3) := dk_153 0 9 (dk_at dksX3_factor_5 21 rfl rfl)
theorem dX3_factor_141 : decode cX3_factor 141 = .ok (.aload_n 0, 1) := dk_42 (dk_at dksX3_factor_6 0 rfl rfl)
theorem dX3_factor_142 : decode cX3_factor 142 = .ok (.iconst 1, 1) := dk_4 (dk_at dksX3_factor_6 1 rfl rfl)
theorem dX3_factor_143 : decode cX3_factor 143 = .ok (.invokevirtual 472, 3) := dk_182 1 216 (dk_at dksX3_factor_6 2 rfl rfl)
theorem dX3_factor_146 : decode cX3_factor 146 = .ok (.ireturn, 1) := dk_172 (dk_at dksX3_factor_6 5 rfl rfl)
theorem dX3_factor_147 : decode cX3_factor 147 = .ok (.aload_n 0, 1) := dk_42 (dk_at dksX3_factor_6 6 rfl rfl)
theorem dX3_factor_148 : decode cX3_factor 148 = .ok (.ldc_w 366, 3) := dk_19 1 110 (dk_at dksX3_factor_6 7 rfl rfl)
theorem dX3_factor_151 : decode cX3_factor 151 = .ok (.invokevirtual 413, 3) := dk_182 1 157 (dk_at dksX3_factor_6 10 rfl rfl)
theorem dX3_factor_154 : decode cX3_factor 154 = .ok (.ifCond .eq 9, 3) := dk_153 0 9 (dk_at dksX3_factor_6 13 rfl rfl)
theorem dX3_factor_157 : decode cX3_factor 157 = .ok (.aload_n 0, 1) := dk_42 (dk_at dksX3_factor_6 16 rfl rfl)
theorem dX3_factor_158 : decode cX3_factor 158 = .ok (.iconst 0, 1) := dk_3 (dk_at dksX3_factor_6 17 rfl rfl)
theorem dX3_factor_159 : decode cX3_factor 159 = .ok (.invokevirtual 472, 3) := dk_182 1 216 (dk_at dksX3_factor_6 18 rfl rfl)
theorem dX3_factor_162 : decode cX3_factor 162 = .ok (.ireturn, 1) := dk_172 (dk_at dksX3_factor_6 21 rfl rfl)
theorem dX3_factor_163 : decode cX3_factor 163 = .ok (.aload_n 0, 1) := dk_42 (dk_at dksX3_factor_6 22 rfl rfl)
theorem dX3_factor_164 : decode cX3_factor 164 = .ok (.iconst 1, 1) := dk_4 (dk_at dksX3_factor_6 23 rfl rfl)
theorem dX3_factor_165 : decode cX3_factor 165 = .ok (.invokevirtual 337, 3) := dk_182 1 81 (dk_at dksX3_factor_7 0 rfl rfl)
theorem dX3_factor_168 : decode cX3_factor 168 = .ok (.iconst 0, 1) := dk_3 (dk_at dksX3_factor_7 3 rfl rfl)
theorem dX3_factor_169 : decode cX3_factor 169 = .ok (.ireturn, 1) := dk_172 (dk_at dksX3_factor_7 4 rfl rfl)
abbrev cX3_opens : ByteArray := prog_13_method_116_code
def yX3_opens : MethodName := ⟨RX3, "opens", "()V"⟩
def dkwX3_opens_1 : List UInt8 := [182, 1, 84, 177]
abbrev dktX3_opens_1 : List UInt8 := dkwX3_opens_1 ++ []
def dkwX3_opens_0 : List UInt8 := [42, 180, 1, 198, 8, 160, 0, 8, 42, 8, 182, 1, 81, 42, 89, 180, 1, 198, 4, 96, 181, 1, 198, 42]
abbrev dktX3_opens_0 : List UInt8 := dkwX3_opens_0 ++ dktX3_opens_1
theorem dksX3_opens_0 : cX3_opens.data.toList.drop 0 = dktX3_opens_0 := by decide +kernel
theorem dksX3_opens_1 : cX3_opens.data.toList.drop 24 = dktX3_opens_1 := dk_seg dksX3_opens_0 24 rfl rfl
theorem dX3_opens_0 : decode cX3_opens 0 = .ok (.aload_n 0, 1) := dk_42 (dk_at dksX3_opens_0 0 rfl rfl)
theorem dX3_opens_1 : decode cX3_opens 1 = .ok (.getfield 454, 3) := dk_180 1 198 (dk_at dksX3_opens_0 1 rfl rfl)
theorem dX3_opens_4 : decode cX3_opens 4 = .ok (.iconst 5, 1) := dk_8 (dk_at dksX3_opens_0 4 rfl rfl)
theorem dX3_opens_5 : decode cX3_opens 5 = .ok (.if_icmp .ne 8, 3) := dk_160 0 8 (dk_at dksX3_opens_0 5 rfl rfl)
theorem dX3_opens_8 : decode cX3_opens 8 = .ok (.aload_n 0, 1) := dk_42 (dk_at dksX3_opens_0 8 rfl rfl)
theorem dX3_opens_9 : decode cX3_opens 9 = .ok (.iconst 5, 1) := dk_8 (dk_at dksX3_opens_0 9 rfl rfl)
theorem dX3_opens_10 : decode cX3_opens 10 = .ok (.invokevirtual 337, 3) := dk_182 1 81 (dk_at dksX3_opens_0 10 rfl rfl)
theorem dX3_opens_13 : decode cX3_opens 13 = .ok (.aload_n 0, 1) := dk_42 (dk_at dksX3_opens_0 13 rfl rfl)
theorem dX3_opens_14 : decode cX3_opens 14 = .ok (.dup, 1) := dk_89 (dk_at dksX3_opens_0 14 rfl rfl)
theorem dX3_opens_15 : decode cX3_opens 15 = .ok (.getfield 454, 3) := dk_180 1 198 (dk_at dksX3_opens_0 15 rfl rfl)
theorem dX3_opens_18 : decode cX3_opens 18 = .ok (.iconst 1, 1) := dk_4 (dk_at dksX3_opens_0 18 rfl rfl)
theorem dX3_opens_19 : decode cX3_opens 19 = .ok (.iadd, 1) := dk_96 (dk_at dksX3_opens_0 19 rfl rfl)
theorem dX3_opens_20 : decode cX3_opens 20 = .ok (.putfield 454, 3) := dk_181 1 198 (dk_at dksX3_opens_0 20 rfl rfl)
theorem dX3_opens_23 : decode cX3_opens 23 = .ok (.aload_n 0, 1) := dk_42 (dk_at dksX3_opens_0 23 rfl rfl)
theorem dX3_opens_24 : decode cX3_opens 24 = .ok (.invokevirtual 340, 3) := dk_182 1 84 (dk_at dksX3_opens_1 0 rfl rfl)
theorem dX3_opens_27 : decode cX3_opens 27 = .ok (.return_, 1) := dk_177 (dk_at dksX3_opens_1 3 rfl rfl)
abbrev cX3_allOf : ByteArray := prog_13_method_113_code
def yX3_allOf : MethodName := ⟨RX3, "allOf", "()I"⟩
def dkwX3_allOf_0 : List UInt8 := [10, 42, 42, 180, 1, 195, 182, 0, 100, 121, 10, 101, 136, 172]
abbrev dktX3_allOf_0 : List UInt8 := dkwX3_allOf_0 ++ []
theorem dksX3_allOf_0 : cX3_allOf.data.toList.drop 0 = dktX3_allOf_0 := by decide +kernel
theorem dX3_allOf_0 : decode cX3_allOf 0 = .ok (.lconst 1, 1) := dk_10 (dk_at dksX3_allOf_0 0 rfl rfl)
theorem dX3_allOf_1 : decode cX3_allOf 1 = .ok (.aload_n 0, 1) := dk_42 (dk_at dksX3_allOf_0 1 rfl rfl)
theorem dX3_allOf_2 : decode cX3_allOf 2 = .ok (.aload_n 0, 1) := dk_42 (dk_at dksX3_allOf_0 2 rfl rfl)
theorem dX3_allOf_3 : decode cX3_allOf 3 = .ok (.getfield 451, 3) := dk_180 1 195 (dk_at dksX3_allOf_0 3 rfl rfl)
theorem dX3_allOf_6 : decode cX3_allOf 6 = .ok (.invokevirtual 100, 3) := dk_182 0 100 (dk_at dksX3_allOf_0 6 rfl rfl)
theorem dX3_allOf_9 : decode cX3_allOf 9 = .ok (.lshl, 1) := dk_121 (dk_at dksX3_allOf_0 9 rfl rfl)
theorem dX3_allOf_10 : decode cX3_allOf 10 = .ok (.lconst 1, 1) := dk_10 (dk_at dksX3_allOf_0 10 rfl rfl)
theorem dX3_allOf_11 : decode cX3_allOf 11 = .ok (.lsub, 1) := dk_101 (dk_at dksX3_allOf_0 11 rfl rfl)
theorem dX3_allOf_12 : decode cX3_allOf 12 = .ok (.l2i, 1) := dk_136 (dk_at dksX3_allOf_0 12 rfl rfl)
theorem dX3_allOf_13 : decode cX3_allOf 13 = .ok (.ireturn, 1) := dk_172 (dk_at dksX3_allOf_0 13 rfl rfl)
abbrev cX3_withFlag : ByteArray := prog_13_method_114_code
def yX3_withFlag : MethodName := ⟨RX3, "withFlag", "(I)I"⟩
def dkwX3_withFlag_2 : List UInt8 := [167, 255, 214, 28, 172]
abbrev dktX3_withFlag_2 : List UInt8 := dkwX3_withFlag_2 ++ []
def dkwX3_withFlag_1 : List UInt8 := [182, 0, 103, 27, 184, 1, 151, 153, 0, 9, 4, 29, 120, 167, 0, 4, 3, 128, 61, 132, 3, 1]
abbrev dktX3_withFlag_1 : List UInt8 := dkwX3_withFlag_1 ++ dktX3_withFlag_2
def dkwX3_withFlag_0 : List UInt8 := [3, 61, 3, 62, 29, 42, 42, 180, 1, 195, 182, 0, 100, 162, 0, 36, 28, 42, 42, 180, 1, 195, 29, 5]
abbrev dktX3_withFlag_0 : List UInt8 := dkwX3_withFlag_0 ++ dktX3_withFlag_1
theorem dksX3_withFlag_0 : cX3_withFlag.data.toList.drop 0 = dktX3_withFlag_0 := by decide +kernel
theorem dksX3_withFlag_1 : cX3_withFlag.data.toList.drop 24 = dktX3_withFlag_1 := dk_seg dksX3_withFlag_0 24 rfl rfl
theorem dksX3_withFlag_2 : cX3_withFlag.data.toList.drop 46 = dktX3_withFlag_2 := dk_seg dksX3_withFlag_1 22 rfl rfl
theorem dX3_withFlag_0 : decode cX3_withFlag 0 = .ok (.iconst 0, 1) := dk_3 (dk_at dksX3_withFlag_0 0 rfl rfl)
theorem dX3_withFlag_1 : decode cX3_withFlag 1 = .ok (.istore_n 2, 1) := dk_61 (dk_at dksX3_withFlag_0 1 rfl rfl)
theorem dX3_withFlag_2 : decode cX3_withFlag 2 = .ok (.iconst 0, 1) := dk_3 (dk_at dksX3_withFlag_0 2 rfl rfl)
theorem dX3_withFlag_3 : decode cX3_withFlag 3 = .ok (.istore_n 3, 1) := dk_62 (dk_at dksX3_withFlag_0 3 rfl rfl)
theorem dX3_withFlag_4 : decode cX3_withFlag 4 = .ok (.iload_n 3, 1) := dk_29 (dk_at dksX3_withFlag_0 4 rfl rfl)
theorem dX3_withFlag_5 : decode cX3_withFlag 5 = .ok (.aload_n 0, 1) := dk_42 (dk_at dksX3_withFlag_0 5 rfl rfl)
theorem dX3_withFlag_6 : decode cX3_withFlag 6 = .ok (.aload_n 0, 1) := dk_42 (dk_at dksX3_withFlag_0 6 rfl rfl)
theorem dX3_withFlag_7 : decode cX3_withFlag 7 = .ok (.getfield 451, 3) := dk_180 1 195 (dk_at dksX3_withFlag_0 7 rfl rfl)
theorem dX3_withFlag_10 : decode cX3_withFlag 10 = .ok (.invokevirtual 100, 3) := dk_182 0 100 (dk_at dksX3_withFlag_0 10 rfl rfl)
theorem dX3_withFlag_13 : decode cX3_withFlag 13 = .ok (.if_icmp .ge 36, 3) := dk_162 0 36 (dk_at dksX3_withFlag_0 13 rfl rfl)
theorem dX3_withFlag_16 : decode cX3_withFlag 16 = .ok (.iload_n 2, 1) := dk_28 (dk_at dksX3_withFlag_0 16 rfl rfl)
theorem dX3_withFlag_17 : decode cX3_withFlag 17 = .ok (.aload_n 0, 1) := dk_42 (dk_at dksX3_withFlag_0 17 rfl rfl)
theorem dX3_withFlag_18 : decode cX3_withFlag 18 = .ok (.aload_n 0, 1) := dk_42 (dk_at dksX3_withFlag_0 18 rfl rfl)
theorem dX3_withFlag_19 : decode cX3_withFlag 19 = .ok (.getfield 451, 3) := dk_180 1 195 (dk_at dksX3_withFlag_0 19 rfl rfl)
theorem dX3_withFlag_22 : decode cX3_withFlag 22 = .ok (.iload_n 3, 1) := dk_29 (dk_at dksX3_withFlag_0 22 rfl rfl)
theorem dX3_withFlag_23 : decode cX3_withFlag 23 = .ok (.iconst 2, 1) := dk_5 (dk_at dksX3_withFlag_0 23 rfl rfl)
theorem dX3_withFlag_24 : decode cX3_withFlag 24 = .ok (.invokevirtual 103, 3) := dk_182 0 103 (dk_at dksX3_withFlag_1 0 rfl rfl)
theorem dX3_withFlag_27 : decode cX3_withFlag 27 = .ok (.iload_n 1, 1) := dk_27 (dk_at dksX3_withFlag_1 3 rfl rfl)
theorem dX3_withFlag_28 : decode cX3_withFlag 28 = .ok (.invokestatic 407, 3) := dk_184 1 151 (dk_at dksX3_withFlag_1 4 rfl rfl)
theorem dX3_withFlag_31 : decode cX3_withFlag 31 = .ok (.ifCond .eq 9, 3) := dk_153 0 9 (dk_at dksX3_withFlag_1 7 rfl rfl)
theorem dX3_withFlag_34 : decode cX3_withFlag 34 = .ok (.iconst 1, 1) := dk_4 (dk_at dksX3_withFlag_1 10 rfl rfl)
theorem dX3_withFlag_35 : decode cX3_withFlag 35 = .ok (.iload_n 3, 1) := dk_29 (dk_at dksX3_withFlag_1 11 rfl rfl)
theorem dX3_withFlag_36 : decode cX3_withFlag 36 = .ok (.ishl, 1) := dk_120 (dk_at dksX3_withFlag_1 12 rfl rfl)
theorem dX3_withFlag_37 : decode cX3_withFlag 37 = .ok (.goto 4, 3) := dk_167 0 4 (dk_at dksX3_withFlag_1 13 rfl rfl)
theorem dX3_withFlag_40 : decode cX3_withFlag 40 = .ok (.iconst 0, 1) := dk_3 (dk_at dksX3_withFlag_1 16 rfl rfl)
theorem dX3_withFlag_41 : decode cX3_withFlag 41 = .ok (.ior, 1) := dk_128 (dk_at dksX3_withFlag_1 17 rfl rfl)
theorem dX3_withFlag_42 : decode cX3_withFlag 42 = .ok (.istore_n 2, 1) := dk_61 (dk_at dksX3_withFlag_1 18 rfl rfl)
theorem dX3_withFlag_43 : decode cX3_withFlag 43 = .ok (.iinc 3 1, 3) := dk_132 3 1 (dk_at dksX3_withFlag_1 19 rfl rfl)
theorem dX3_withFlag_46 : decode cX3_withFlag 46 = .ok (.goto (-42), 3) := dk_167 255 214 (dk_at dksX3_withFlag_2 0 rfl rfl)
theorem dX3_withFlag_49 : decode cX3_withFlag 49 = .ok (.iload_n 2, 1) := dk_28 (dk_at dksX3_withFlag_2 3 rfl rfl)
theorem dX3_withFlag_50 : decode cX3_withFlag 50 = .ok (.ireturn, 1) := dk_172 (dk_at dksX3_withFlag_2 4 rfl rfl)
abbrev cX3_compared : ByteArray := prog_13_method_115_code
def yX3_compared : MethodName := ⟨RX3, "compared", "(I)I"⟩
def dkwX3_compared_4 : List UInt8 := [120, 167, 0, 4, 3, 128, 54, 4, 132, 5, 1, 167, 255, 195, 21, 4, 172]
abbrev dktX3_compared_4 : List UInt8 := dkwX3_compared_4 ++ []
def dkwX3_compared_3 : List UInt8 := [21, 4, 28, 153, 0, 12, 21, 6, 29, 162, 0, 19, 167, 0, 9, 21, 6, 29, 164, 0, 10, 4, 21, 5]
abbrev dktX3_compared_3 : List UInt8 := dkwX3_compared_3 ++ dktX3_compared_4
def dkwX3_compared_2 : List UInt8 := [42, 42, 180, 1, 195, 182, 0, 100, 162, 0, 54, 42, 42, 180, 1, 195, 21, 5, 27, 182, 0, 103, 54, 6]
abbrev dktX3_compared_2 : List UInt8 := dkwX3_compared_2 ++ dktX3_compared_3
def dkwX3_compared_1 : List UInt8 := [182, 1, 81, 42, 182, 1, 84, 42, 3, 17, 39, 15, 182, 1, 140, 62, 3, 54, 4, 3, 54, 5, 21, 5]
abbrev dktX3_compared_1 : List UInt8 := dkwX3_compared_1 ++ dktX3_compared_2
def dkwX3_compared_0 : List UInt8 := [42, 16, 60, 182, 1, 75, 61, 28, 154, 0, 17, 42, 16, 62, 182, 1, 75, 154, 0, 8, 42, 4]
abbrev dktX3_compared_0 : List UInt8 := dkwX3_compared_0 ++ dktX3_compared_1
theorem dksX3_compared_0 : cX3_compared.data.toList.drop 0 = dktX3_compared_0 := by decide +kernel
theorem dksX3_compared_1 : cX3_compared.data.toList.drop 22 = dktX3_compared_1 := dk_seg dksX3_compared_0 22 rfl rfl
theorem dksX3_compared_2 : cX3_compared.data.toList.drop 46 = dktX3_compared_2 := dk_seg dksX3_compared_1 24 rfl rfl
theorem dksX3_compared_3 : cX3_compared.data.toList.drop 70 = dktX3_compared_3 := dk_seg dksX3_compared_2 24 rfl rfl
theorem dksX3_compared_4 : cX3_compared.data.toList.drop 94 = dktX3_compared_4 := dk_seg dksX3_compared_3 24 rfl rfl
theorem dX3_compared_0 : decode cX3_compared 0 = .ok (.aload_n 0, 1) := dk_42 (dk_at dksX3_compared_0 0 rfl rfl)
theorem dX3_compared_1 : decode cX3_compared 1 = .ok (.bipush 60, 2) := dk_16 60 (dk_at dksX3_compared_0 1 rfl rfl)
theorem dX3_compared_3 : decode cX3_compared 3 = .ok (.invokevirtual 331, 3) := dk_182 1 75 (dk_at dksX3_compared_0 3 rfl rfl)
theorem dX3_compared_6 : decode cX3_compared 6 = .ok (.istore_n 2, 1) := dk_61 (dk_at dksX3_compared_0 6 rfl rfl)
theorem dX3_compared_7 : decode cX3_compared 7 = .ok (.iload_n 2, 1) := dk_28 (dk_at dksX3_compared_0 7 rfl rfl)
theorem dX3_compared_8 : decode cX3_compared 8 = .ok (.ifCond .ne 17, 3) := dk_154 0 17 (dk_at dksX3_compared_0 8 rfl rfl)
theorem dX3_compared_11 : decode cX3_compared 11 = .ok (.aload_n 0, 1) := dk_42 (dk_at dksX3_compared_0 11 rfl rfl)
theorem dX3_compared_12 : decode cX3_compared 12 = .ok (.bipush 62, 2) := dk_16 62 (dk_at dksX3_compared_0 12 rfl rfl)
theorem dX3_compared_14 : decode cX3_compared 14 = .ok (.invokevirtual 331, 3) := dk_182 1 75 (dk_at dksX3_compared_0 14 rfl rfl)
theorem dX3_compared_17 : decode cX3_compared 17 = .ok (.ifCond .ne 8, 3) := dk_154 0 8 (dk_at dksX3_compared_0 17 rfl rfl)
theorem dX3_compared_20 : decode cX3_compared 20 = .ok (.aload_n 0, 1) := dk_42 (dk_at dksX3_compared_0 20 rfl rfl)
theorem dX3_compared_21 : decode cX3_compared 21 = .ok (.iconst 1, 1) := dk_4 (dk_at dksX3_compared_0 21 rfl rfl)
theorem dX3_compared_22 : decode cX3_compared 22 = .ok (.invokevirtual 337, 3) := dk_182 1 81 (dk_at dksX3_compared_1 0 rfl rfl)
theorem dX3_compared_25 : decode cX3_compared 25 = .ok (.aload_n 0, 1) := dk_42 (dk_at dksX3_compared_1 3 rfl rfl)
theorem dX3_compared_26 : decode cX3_compared 26 = .ok (.invokevirtual 340, 3) := dk_182 1 84 (dk_at dksX3_compared_1 4 rfl rfl)
theorem dX3_compared_29 : decode cX3_compared 29 = .ok (.aload_n 0, 1) := dk_42 (dk_at dksX3_compared_1 7 rfl rfl)
theorem dX3_compared_30 : decode cX3_compared 30 = .ok (.iconst 0, 1) := dk_3 (dk_at dksX3_compared_1 8 rfl rfl)
theorem dX3_compared_31 : decode cX3_compared 31 = .ok (.sipush 9999, 3) := dk_17 39 15 (dk_at dksX3_compared_1 9 rfl rfl)
theorem dX3_compared_34 : decode cX3_compared 34 = .ok (.invokevirtual 396, 3) := dk_182 1 140 (dk_at dksX3_compared_1 12 rfl rfl)
theorem dX3_compared_37 : decode cX3_compared 37 = .ok (.istore_n 3, 1) := dk_62 (dk_at dksX3_compared_1 15 rfl rfl)
theorem dX3_compared_38 : decode cX3_compared 38 = .ok (.iconst 0, 1) := dk_3 (dk_at dksX3_compared_1 16 rfl rfl)
theorem dX3_compared_39 : decode cX3_compared 39 = .ok (.istore 4, 2) := dk_54 4 (dk_at dksX3_compared_1 17 rfl rfl)
theorem dX3_compared_41 : decode cX3_compared 41 = .ok (.iconst 0, 1) := dk_3 (dk_at dksX3_compared_1 19 rfl rfl)
theorem dX3_compared_42 : decode cX3_compared 42 = .ok (.istore 5, 2) := dk_54 5 (dk_at dksX3_compared_1 20 rfl rfl)
theorem dX3_compared_44 : decode cX3_compared 44 = .ok (.iload 5, 2) := dk_21 5 (dk_at dksX3_compared_1 22 rfl rfl)
theorem dX3_compared_46 : decode cX3_compared 46 = .ok (.aload_n 0, 1) := dk_42 (dk_at dksX3_compared_2 0 rfl rfl)
theorem dX3_compared_47 : decode cX3_compared 47 = .ok (.aload_n 0, 1) := dk_42 (dk_at dksX3_compared_2 1 rfl rfl)
theorem dX3_compared_48 : decode cX3_compared 48 = .ok (.getfield 451, 3) := dk_180 1 195 (dk_at dksX3_compared_2 2 rfl rfl)
theorem dX3_compared_51 : decode cX3_compared 51 = .ok (.invokevirtual 100, 3) := dk_182 0 100 (dk_at dksX3_compared_2 5 rfl rfl)
theorem dX3_compared_54 : decode cX3_compared 54 = .ok (.if_icmp .ge 54, 3) := dk_162 0 54 (dk_at dksX3_compared_2 8 rfl rfl)
theorem dX3_compared_57 : decode cX3_compared 57 = .ok (.aload_n 0, 1) := dk_42 (dk_at dksX3_compared_2 11 rfl rfl)
theorem dX3_compared_58 : decode cX3_compared 58 = .ok (.aload_n 0, 1) := dk_42 (dk_at dksX3_compared_2 12 rfl rfl)
theorem dX3_compared_59 : decode cX3_compared 59 = .ok (.getfield 451, 3) := dk_180 1 195 (dk_at dksX3_compared_2 13 rfl rfl)
theorem dX3_compared_62 : decode cX3_compared 62 = .ok (.iload 5, 2) := dk_21 5 (dk_at dksX3_compared_2 16 rfl rfl)
theorem dX3_compared_64 : decode cX3_compared 64 = .ok (.iload_n 1, 1) := dk_27 (dk_at dksX3_compared_2 18 rfl rfl)
theorem dX3_compared_65 : decode cX3_compared 65 = .ok (.invokevirtual 103, 3) := dk_182 0 103 (dk_at dksX3_compared_2 19 rfl rfl)
theorem dX3_compared_68 : decode cX3_compared 68 = .ok (.istore 6, 2) := dk_54 6 (dk_at dksX3_compared_2 22 rfl rfl)
theorem dX3_compared_70 : decode cX3_compared 70 = .ok (.iload 4, 2) := dk_21 4 (dk_at dksX3_compared_3 0 rfl rfl)
theorem dX3_compared_72 : decode cX3_compared 72 = .ok (.iload_n 2, 1) := dk_28 (dk_at dksX3_compared_3 2 rfl rfl)
theorem dX3_compared_73 : decode cX3_compared 73 = .ok (.ifCond .eq 12, 3) := dk_153 0 12 (dk_at dksX3_compared_3 3 rfl rfl)
theorem dX3_compared_76 : decode cX3_compared 76 = .ok (.iload 6, 2) := dk_21 6 (dk_at dksX3_compared_3 6 rfl rfl)
theorem dX3_compared_78 : decode cX3_compared 78 = .ok (.iload_n 3, 1) := dk_29 (dk_at dksX3_compared_3 8 rfl rfl)
theorem dX3_compared_79 : decode cX3_compared 79 = .ok (.if_icmp .ge 19, 3) := dk_162 0 19 (dk_at dksX3_compared_3 9 rfl rfl)
theorem dX3_compared_82 : decode cX3_compared 82 = .ok (.goto 9, 3) := dk_167 0 9 (dk_at dksX3_compared_3 12 rfl rfl)
theorem dX3_compared_85 : decode cX3_compared 85 = .ok (.iload 6, 2) := dk_21 6 (dk_at dksX3_compared_3 15 rfl rfl)
theorem dX3_compared_87 : decode cX3_compared 87 = .ok (.iload_n 3, 1) := dk_29 (dk_at dksX3_compared_3 17 rfl rfl)
theorem dX3_compared_88 : decode cX3_compared 88 = .ok (.if_icmp .le 10, 3) := dk_164 0 10 (dk_at dksX3_compared_3 18 rfl rfl)
theorem dX3_compared_91 : decode cX3_compared 91 = .ok (.iconst 1, 1) := dk_4 (dk_at dksX3_compared_3 21 rfl rfl)
theorem dX3_compared_92 : decode cX3_compared 92 = .ok (.iload 5, 2) := dk_21 5 (dk_at dksX3_compared_3 22 rfl rfl)
theorem dX3_compared_94 : decode cX3_compared 94 = .ok (.ishl, 1) := dk_120 (dk_at dksX3_compared_4 0 rfl rfl)
theorem dX3_compared_95 : decode cX3_compared 95 = .ok (.goto 4, 3) := dk_167 0 4 (dk_at dksX3_compared_4 1 rfl rfl)
theorem dX3_compared_98 : decode cX3_compared 98 = .ok (.iconst 0, 1) := dk_3 (dk_at dksX3_compared_4 4 rfl rfl)
theorem dX3_compared_99 : decode cX3_compared 99 = .ok (.ior, 1) := dk_128 (dk_at dksX3_compared_4 5 rfl rfl)
theorem dX3_compared_100 : decode cX3_compared 100 = .ok (.istore 4, 2) := dk_54 4 (dk_at dksX3_compared_4 6 rfl rfl)
theorem dX3_compared_102 : decode cX3_compared 102 = .ok (.iinc 5 1, 3) := dk_132 5 1 (dk_at dksX3_compared_4 8 rfl rfl)
theorem dX3_compared_105 : decode cX3_compared 105 = .ok (.goto (-61), 3) := dk_167 255 195 (dk_at dksX3_compared_4 11 rfl rfl)
theorem dX3_compared_108 : decode cX3_compared 108 = .ok (.iload 4, 2) := dk_21 4 (dk_at dksX3_compared_4 14 rfl rfl)
theorem dX3_compared_110 : decode cX3_compared 110 = .ok (.ireturn, 1) := dk_172 (dk_at dksX3_compared_4 16 rfl rfl)
abbrev cX3_isFactor : ByteArray := prog_13_method_118_code
def yX3_isFactor : MethodName := ⟨RX3, "isFactor", "()Z"⟩
def dkwX3_isFactor_2 : List UInt8 := [19, 1, 110, 182, 1, 71, 153, 0, 7, 4, 167, 0, 4, 3, 172]
abbrev dktX3_isFactor_2 : List UInt8 := dkwX3_isFactor_2 ++ []
def dkwX3_isFactor_1 : List UInt8 := [160, 0, 33, 42, 19, 1, 108, 182, 1, 71, 154, 0, 23, 42, 19, 1, 102, 182, 1, 71, 154, 0, 13, 42]
abbrev dktX3_isFactor_1 : List UInt8 := dkwX3_isFactor_1 ++ dktX3_isFactor_2
def dkwX3_isFactor_0 : List UInt8 := [42, 19, 1, 112, 182, 1, 71, 154, 0, 50, 42, 16, 40, 182, 1, 75, 154, 0, 41, 42, 182, 1, 116, 2]
abbrev dktX3_isFactor_0 : List UInt8 := dkwX3_isFactor_0 ++ dktX3_isFactor_1
theorem dksX3_isFactor_0 : cX3_isFactor.data.toList.drop 0 = dktX3_isFactor_0 := by decide +kernel
theorem dksX3_isFactor_1 : cX3_isFactor.data.toList.drop 24 = dktX3_isFactor_1 := dk_seg dksX3_isFactor_0 24 rfl rfl
theorem dksX3_isFactor_2 : cX3_isFactor.data.toList.drop 48 = dktX3_isFactor_2 := dk_seg dksX3_isFactor_1 24 rfl rfl
theorem dX3_isFactor_0 : decode cX3_isFactor 0 = .ok (.aload_n 0, 1) := dk_42 (dk_at dksX3_isFactor_0 0 rfl rfl)
theorem dX3_isFactor_1 : decode cX3_isFactor 1 = .ok (.ldc_w 368, 3) := dk_19 1 112 (dk_at dksX3_isFactor_0 1 rfl rfl)
theorem dX3_isFactor_4 : decode cX3_isFactor 4 = .ok (.invokevirtual 327, 3) := dk_182 1 71 (dk_at dksX3_isFactor_0 4 rfl rfl)
theorem dX3_isFactor_7 : decode cX3_isFactor 7 = .ok (.ifCond .ne 50, 3) := dk_154 0 50 (dk_at dksX3_isFactor_0 7 rfl rfl)
theorem dX3_isFactor_10 : decode cX3_isFactor 10 = .ok (.aload_n 0, 1) := dk_42 (dk_at dksX3_isFactor_0 10 rfl rfl)
theorem dX3_isFactor_11 : decode cX3_isFactor 11 = .ok (.bipush 40, 2) := dk_16 40 (dk_at dksX3_isFactor_0 11 rfl rfl)
theorem dX3_isFactor_13 : decode cX3_isFactor 13 = .ok (.invokevirtual 331, 3) := dk_182 1 75 (dk_at dksX3_isFactor_0 13 rfl rfl)
theorem dX3_isFactor_16 : decode cX3_isFactor 16 = .ok (.ifCond .ne 41, 3) := dk_154 0 41 (dk_at dksX3_isFactor_0 16 rfl rfl)
theorem dX3_isFactor_19 : decode cX3_isFactor 19 = .ok (.aload_n 0, 1) := dk_42 (dk_at dksX3_isFactor_0 19 rfl rfl)
theorem dX3_isFactor_20 : decode cX3_isFactor 20 = .ok (.invokevirtual 372, 3) := dk_182 1 116 (dk_at dksX3_isFactor_0 20 rfl rfl)
theorem dX3_isFactor_23 : decode cX3_isFactor 23 = .ok (.iconst (-1), 1) := dk_2 (dk_at dksX3_isFactor_0 23 rfl rfl)
theorem dX3_isFactor_24 : decode cX3_isFactor 24 = .ok (.if_icmp .ne 33, 3) := dk_160 0 33 (dk_at dksX3_isFactor_1 0 rfl rfl)
theorem dX3_isFactor_27 : decode cX3_isFactor 27 = .ok (.aload_n 0, 1) := dk_42 (dk_at dksX3_isFactor_1 3 rfl rfl)
theorem dX3_isFactor_28 : decode cX3_isFactor 28 = .ok (.ldc_w 364, 3) := dk_19 1 108 (dk_at dksX3_isFactor_1 4 rfl rfl)
theorem dX3_isFactor_31 : decode cX3_isFactor 31 = .ok (.invokevirtual 327, 3) := dk_182 1 71 (dk_at dksX3_isFactor_1 7 rfl rfl)
theorem dX3_isFactor_34 : decode cX3_isFactor 34 = .ok (.ifCond .ne 23, 3) := dk_154 0 23 (dk_at dksX3_isFactor_1 10 rfl rfl)
theorem dX3_isFactor_37 : decode cX3_isFactor 37 = .ok (.aload_n 0, 1) := dk_42 (dk_at dksX3_isFactor_1 13 rfl rfl)
theorem dX3_isFactor_38 : decode cX3_isFactor 38 = .ok (.ldc_w 358, 3) := dk_19 1 102 (dk_at dksX3_isFactor_1 14 rfl rfl)
theorem dX3_isFactor_41 : decode cX3_isFactor 41 = .ok (.invokevirtual 327, 3) := dk_182 1 71 (dk_at dksX3_isFactor_1 17 rfl rfl)
theorem dX3_isFactor_44 : decode cX3_isFactor 44 = .ok (.ifCond .ne 13, 3) := dk_154 0 13 (dk_at dksX3_isFactor_1 20 rfl rfl)
theorem dX3_isFactor_47 : decode cX3_isFactor 47 = .ok (.aload_n 0, 1) := dk_42 (dk_at dksX3_isFactor_1 23 rfl rfl)
theorem dX3_isFactor_48 : decode cX3_isFactor 48 = .ok (.ldc_w 366, 3) := dk_19 1 110 (dk_at dksX3_isFactor_2 0 rfl rfl)
theorem dX3_isFactor_51 : decode cX3_isFactor 51 = .ok (.invokevirtual 327, 3) := dk_182 1 71 (dk_at dksX3_isFactor_2 3 rfl rfl)
theorem dX3_isFactor_54 : decode cX3_isFactor 54 = .ok (.ifCond .eq 7, 3) := dk_153 0 7 (dk_at dksX3_isFactor_2 6 rfl rfl)
theorem dX3_isFactor_57 : decode cX3_isFactor 57 = .ok (.iconst 1, 1) := dk_4 (dk_at dksX3_isFactor_2 9 rfl rfl)
theorem dX3_isFactor_58 : decode cX3_isFactor 58 = .ok (.goto 4, 3) := dk_167 0 4 (dk_at dksX3_isFactor_2 10 rfl rfl)
theorem dX3_isFactor_61 : decode cX3_isFactor 61 = .ok (.iconst 0, 1) := dk_3 (dk_at dksX3_isFactor_2 13 rfl rfl)
theorem dX3_isFactor_62 : decode cX3_isFactor 62 = .ok (.ireturn, 1) := dk_172 (dk_at dksX3_isFactor_2 14 rfl rfl)
abbrev cX3_search : ByteArray := prog_13_method_123_code
def yX3_search : MethodName := ⟨RX3, "search", "(I)J"⟩
def dkwX3_search_4 : List UInt8 := [132, 5, 1, 167, 255, 212, 42, 27, 3, 182, 0, 181, 54, 5, 33, 173]
abbrev dktX3_search_4 : List UInt8 := dkwX3_search_4 ++ []
def dkwX3_search_3 : List UInt8 := [21, 6, 2, 159, 0, 19, 28, 21, 6, 184, 1, 151, 153, 0, 10, 33, 10, 21, 5, 121, 129, 66]
abbrev dktX3_search_3 : List UInt8 := dkwX3_search_3 ++ dktX3_search_4
def dkwX3_search_2 : List UInt8 := [66, 4, 54, 5, 21, 5, 42, 27, 182, 0, 97, 163, 0, 40, 42, 27, 21, 5, 182, 0, 113, 54, 6]
abbrev dktX3_search_2 : List UInt8 := dkwX3_search_2 ++ dktX3_search_3
def dkwX3_search_1 : List UInt8 := [182, 0, 87, 182, 1, 225, 61, 42, 182, 1, 23, 154, 0, 7, 20, 1, 228, 173, 42, 27, 182, 0, 196, 9]
abbrev dktX3_search_1 : List UInt8 := dkwX3_search_1 ++ dktX3_search_2
def dkwX3_search_0 : List UInt8 := [42, 42, 27, 182, 0, 93, 42, 27, 182, 0, 169, 182, 0, 192, 154, 0, 5, 9, 173, 42, 42, 27]
abbrev dktX3_search_0 : List UInt8 := dkwX3_search_0 ++ dktX3_search_1
theorem dksX3_search_0 : cX3_search.data.toList.drop 0 = dktX3_search_0 := by decide +kernel
theorem dksX3_search_1 : cX3_search.data.toList.drop 22 = dktX3_search_1 := dk_seg dksX3_search_0 22 rfl rfl
theorem dksX3_search_2 : cX3_search.data.toList.drop 46 = dktX3_search_2 := dk_seg dksX3_search_1 24 rfl rfl
theorem dksX3_search_3 : cX3_search.data.toList.drop 69 = dktX3_search_3 := dk_seg dksX3_search_2 23 rfl rfl
theorem dksX3_search_4 : cX3_search.data.toList.drop 91 = dktX3_search_4 := dk_seg dksX3_search_3 22 rfl rfl
theorem dX3_search_0 : decode cX3_search 0 = .ok (.aload_n 0, 1) := dk_42 (dk_at dksX3_search_0 0 rfl rfl)
theorem dX3_search_1 : decode cX3_search 1 = .ok (.aload_n 0, 1) := dk_42 (dk_at dksX3_search_0 1 rfl rfl)
theorem dX3_search_2 : decode cX3_search 2 = .ok (.iload_n 1, 1) := dk_27 (dk_at dksX3_search_0 2 rfl rfl)
theorem dX3_search_3 : decode cX3_search 3 = .ok (.invokevirtual 93, 3) := dk_182 0 93 (dk_at dksX3_search_0 3 rfl rfl)
theorem dX3_search_6 : decode cX3_search 6 = .ok (.aload_n 0, 1) := dk_42 (dk_at dksX3_search_0 6 rfl rfl)
theorem dX3_search_7 : decode cX3_search 7 = .ok (.iload_n 1, 1) := dk_27 (dk_at dksX3_search_0 7 rfl rfl)
theorem dX3_search_8 : decode cX3_search 8 = .ok (.invokevirtual 169, 3) := dk_182 0 169 (dk_at dksX3_search_0 8 rfl rfl)
theorem dX3_search_11 : decode cX3_search 11 = .ok (.invokevirtual 192, 3) := dk_182 0 192 (dk_at dksX3_search_0 11 rfl rfl)
theorem dX3_search_14 : decode cX3_search 14 = .ok (.ifCond .ne 5, 3) := dk_154 0 5 (dk_at dksX3_search_0 14 rfl rfl)
theorem dX3_search_17 : decode cX3_search 17 = .ok (.lconst 0, 1) := dk_9 (dk_at dksX3_search_0 17 rfl rfl)
theorem dX3_search_18 : decode cX3_search 18 = .ok (.lreturn, 1) := dk_173 (dk_at dksX3_search_0 18 rfl rfl)
theorem dX3_search_19 : decode cX3_search 19 = .ok (.aload_n 0, 1) := dk_42 (dk_at dksX3_search_0 19 rfl rfl)
theorem dX3_search_20 : decode cX3_search 20 = .ok (.aload_n 0, 1) := dk_42 (dk_at dksX3_search_0 20 rfl rfl)
theorem dX3_search_21 : decode cX3_search 21 = .ok (.iload_n 1, 1) := dk_27 (dk_at dksX3_search_0 21 rfl rfl)
theorem dX3_search_22 : decode cX3_search 22 = .ok (.invokevirtual 87, 3) := dk_182 0 87 (dk_at dksX3_search_1 0 rfl rfl)
theorem dX3_search_25 : decode cX3_search 25 = .ok (.invokevirtual 481, 3) := dk_182 1 225 (dk_at dksX3_search_1 3 rfl rfl)
theorem dX3_search_28 : decode cX3_search 28 = .ok (.istore_n 2, 1) := dk_61 (dk_at dksX3_search_1 6 rfl rfl)
theorem dX3_search_29 : decode cX3_search 29 = .ok (.aload_n 0, 1) := dk_42 (dk_at dksX3_search_1 7 rfl rfl)
theorem dX3_search_30 : decode cX3_search 30 = .ok (.invokevirtual 279, 3) := dk_182 1 23 (dk_at dksX3_search_1 8 rfl rfl)
theorem dX3_search_33 : decode cX3_search 33 = .ok (.ifCond .ne 7, 3) := dk_154 0 7 (dk_at dksX3_search_1 11 rfl rfl)
theorem dX3_search_36 : decode cX3_search 36 = .ok (.ldc2_w 484, 3) := dk_20 1 228 (dk_at dksX3_search_1 14 rfl rfl)
theorem dX3_search_39 : decode cX3_search 39 = .ok (.lreturn, 1) := dk_173 (dk_at dksX3_search_1 17 rfl rfl)
theorem dX3_search_40 : decode cX3_search 40 = .ok (.aload_n 0, 1) := dk_42 (dk_at dksX3_search_1 18 rfl rfl)
theorem dX3_search_41 : decode cX3_search 41 = .ok (.iload_n 1, 1) := dk_27 (dk_at dksX3_search_1 19 rfl rfl)
theorem dX3_search_42 : decode cX3_search 42 = .ok (.invokevirtual 196, 3) := dk_182 0 196 (dk_at dksX3_search_1 20 rfl rfl)
theorem dX3_search_45 : decode cX3_search 45 = .ok (.lconst 0, 1) := dk_9 (dk_at dksX3_search_1 23 rfl rfl)
theorem dX3_search_46 : decode cX3_search 46 = .ok (.lstore_n 3, 1) := dk_66 (dk_at dksX3_search_2 0 rfl rfl)
theorem dX3_search_47 : decode cX3_search 47 = .ok (.iconst 1, 1) := dk_4 (dk_at dksX3_search_2 1 rfl rfl)
theorem dX3_search_48 : decode cX3_search 48 = .ok (.istore 5, 2) := dk_54 5 (dk_at dksX3_search_2 2 rfl rfl)
theorem dX3_search_50 : decode cX3_search 50 = .ok (.iload 5, 2) := dk_21 5 (dk_at dksX3_search_2 4 rfl rfl)
theorem dX3_search_52 : decode cX3_search 52 = .ok (.aload_n 0, 1) := dk_42 (dk_at dksX3_search_2 6 rfl rfl)
theorem dX3_search_53 : decode cX3_search 53 = .ok (.iload_n 1, 1) := dk_27 (dk_at dksX3_search_2 7 rfl rfl)
theorem dX3_search_54 : decode cX3_search 54 = .ok (.invokevirtual 97, 3) := dk_182 0 97 (dk_at dksX3_search_2 8 rfl rfl)
theorem dX3_search_57 : decode cX3_search 57 = .ok (.if_icmp .gt 40, 3) := dk_163 0 40 (dk_at dksX3_search_2 11 rfl rfl)
theorem dX3_search_60 : decode cX3_search 60 = .ok (.aload_n 0, 1) := dk_42 (dk_at dksX3_search_2 14 rfl rfl)
theorem dX3_search_61 : decode cX3_search 61 = .ok (.iload_n 1, 1) := dk_27 (dk_at dksX3_search_2 15 rfl rfl)
theorem dX3_search_62 : decode cX3_search 62 = .ok (.iload 5, 2) := dk_21 5 (dk_at dksX3_search_2 16 rfl rfl)
theorem dX3_search_64 : decode cX3_search 64 = .ok (.invokevirtual 113, 3) := dk_182 0 113 (dk_at dksX3_search_2 18 rfl rfl)
theorem dX3_search_67 : decode cX3_search 67 = .ok (.istore 6, 2) := dk_54 6 (dk_at dksX3_search_2 21 rfl rfl)
theorem dX3_search_69 : decode cX3_search 69 = .ok (.iload 6, 2) := dk_21 6 (dk_at dksX3_search_3 0 rfl rfl)
theorem dX3_search_71 : decode cX3_search 71 = .ok (.iconst (-1), 1) := dk_2 (dk_at dksX3_search_3 2 rfl rfl)
theorem dX3_search_72 : decode cX3_search 72 = .ok (.if_icmp .eq 19, 3) := dk_159 0 19 (dk_at dksX3_search_3 3 rfl rfl)
theorem dX3_search_75 : decode cX3_search 75 = .ok (.iload_n 2, 1) := dk_28 (dk_at dksX3_search_3 6 rfl rfl)
theorem dX3_search_76 : decode cX3_search 76 = .ok (.iload 6, 2) := dk_21 6 (dk_at dksX3_search_3 7 rfl rfl)
theorem dX3_search_78 : decode cX3_search 78 = .ok (.invokestatic 407, 3) := dk_184 1 151 (dk_at dksX3_search_3 9 rfl rfl)
theorem dX3_search_81 : decode cX3_search 81 = .ok (.ifCond .eq 10, 3) := dk_153 0 10 (dk_at dksX3_search_3 12 rfl rfl)
theorem dX3_search_84 : decode cX3_search 84 = .ok (.lload_n 3, 1) := dk_33 (dk_at dksX3_search_3 15 rfl rfl)
theorem dX3_search_85 : decode cX3_search 85 = .ok (.lconst 1, 1) := dk_10 (dk_at dksX3_search_3 16 rfl rfl)
theorem dX3_search_86 : decode cX3_search 86 = .ok (.iload 5, 2) := dk_21 5 (dk_at dksX3_search_3 17 rfl rfl)
theorem dX3_search_88 : decode cX3_search 88 = .ok (.lshl, 1) := dk_121 (dk_at dksX3_search_3 19 rfl rfl)
theorem dX3_search_89 : decode cX3_search 89 = .ok (.lor, 1) := dk_129 (dk_at dksX3_search_3 20 rfl rfl)
theorem dX3_search_90 : decode cX3_search 90 = .ok (.lstore_n 3, 1) := dk_66 (dk_at dksX3_search_3 21 rfl rfl)
theorem dX3_search_91 : decode cX3_search 91 = .ok (.iinc 5 1, 3) := dk_132 5 1 (dk_at dksX3_search_4 0 rfl rfl)
theorem dX3_search_94 : decode cX3_search 94 = .ok (.goto (-44), 3) := dk_167 255 212 (dk_at dksX3_search_4 3 rfl rfl)
theorem dX3_search_97 : decode cX3_search 97 = .ok (.aload_n 0, 1) := dk_42 (dk_at dksX3_search_4 6 rfl rfl)
theorem dX3_search_98 : decode cX3_search 98 = .ok (.iload_n 1, 1) := dk_27 (dk_at dksX3_search_4 7 rfl rfl)
theorem dX3_search_99 : decode cX3_search 99 = .ok (.iconst 0, 1) := dk_3 (dk_at dksX3_search_4 8 rfl rfl)
theorem dX3_search_100 : decode cX3_search 100 = .ok (.invokevirtual 181, 3) := dk_182 0 181 (dk_at dksX3_search_4 9 rfl rfl)
theorem dX3_search_103 : decode cX3_search 103 = .ok (.istore 5, 2) := dk_54 5 (dk_at dksX3_search_4 12 rfl rfl)
theorem dX3_search_105 : decode cX3_search 105 = .ok (.lload_n 3, 1) := dk_33 (dk_at dksX3_search_4 14 rfl rfl)
theorem dX3_search_106 : decode cX3_search 106 = .ok (.lreturn, 1) := dk_173 (dk_at dksX3_search_4 15 rfl rfl)
abbrev cX3_property : ByteArray := prog_13_method_125_code
def yX3_property : MethodName := ⟨RX3, "property", "(I)I"⟩
def dkwX3_property_3 : List UInt8 := [180, 0, 138, 172]
abbrev dktX3_property_3 : List UInt8 := dkwX3_property_3 ++ []
def dkwX3_property_2 : List UInt8 := [42, 182, 0, 66, 172, 42, 182, 0, 74, 172, 42, 3, 182, 0, 62, 172, 42, 182, 1, 232, 172, 42]
abbrev dktX3_property_2 : List UInt8 := dkwX3_property_2 ++ dktX3_property_3
def dkwX3_property_1 : List UInt8 := [170, 0, 0, 0, 50, 0, 0, 0, 0, 0, 0, 0, 3, 0, 0, 0, 29, 0, 0, 0, 34, 0, 0, 0, 39, 0, 0, 0, 45]
abbrev dktX3_property_1 : List UInt8 := dkwX3_property_1 ++ dktX3_property_2
def dkwX3_property_0 : List UInt8 := [42, 27, 133, 9, 20, 1, 230, 184, 0, 70, 182, 1, 10, 154, 0, 5, 3, 172, 27]
abbrev dktX3_property_0 : List UInt8 := dkwX3_property_0 ++ dktX3_property_1
theorem dksX3_property_0 : cX3_property.data.toList.drop 0 = dktX3_property_0 := by decide +kernel
theorem dksX3_property_1 : cX3_property.data.toList.drop 19 = dktX3_property_1 := dk_seg dksX3_property_0 19 rfl rfl
theorem dksX3_property_2 : cX3_property.data.toList.drop 48 = dktX3_property_2 := dk_seg dksX3_property_1 29 rfl rfl
theorem dksX3_property_3 : cX3_property.data.toList.drop 70 = dktX3_property_3 := dk_seg dksX3_property_2 22 rfl rfl
theorem dX3_property_0 : decode cX3_property 0 = .ok (.aload_n 0, 1) := dk_42 (dk_at dksX3_property_0 0 rfl rfl)
theorem dX3_property_1 : decode cX3_property 1 = .ok (.iload_n 1, 1) := dk_27 (dk_at dksX3_property_0 1 rfl rfl)
theorem dX3_property_2 : decode cX3_property 2 = .ok (.i2l, 1) := dk_133 (dk_at dksX3_property_0 2 rfl rfl)
theorem dX3_property_3 : decode cX3_property 3 = .ok (.lconst 0, 1) := dk_9 (dk_at dksX3_property_0 3 rfl rfl)
theorem dX3_property_4 : decode cX3_property 4 = .ok (.ldc2_w 486, 3) := dk_20 1 230 (dk_at dksX3_property_0 4 rfl rfl)
theorem dX3_property_7 : decode cX3_property 7 = .ok (.invokestatic 70, 3) := dk_184 0 70 (dk_at dksX3_property_0 7 rfl rfl)
theorem dX3_property_10 : decode cX3_property 10 = .ok (.invokevirtual 266, 3) := dk_182 1 10 (dk_at dksX3_property_0 10 rfl rfl)
theorem dX3_property_13 : decode cX3_property 13 = .ok (.ifCond .ne 5, 3) := dk_154 0 5 (dk_at dksX3_property_0 13 rfl rfl)
theorem dX3_property_16 : decode cX3_property 16 = .ok (.iconst 0, 1) := dk_3 (dk_at dksX3_property_0 16 rfl rfl)
theorem dX3_property_17 : decode cX3_property 17 = .ok (.ireturn, 1) := dk_172 (dk_at dksX3_property_0 17 rfl rfl)
theorem dX3_property_18 : decode cX3_property 18 = .ok (.iload_n 1, 1) := dk_27 (dk_at dksX3_property_0 18 rfl rfl)
theorem dX3_property_19 : decode cX3_property 19 = .ok (.tableswitch 50 0 3 #[29, 34, 39, 45], 29) := by decide +kernel
theorem dX3_property_48 : decode cX3_property 48 = .ok (.aload_n 0, 1) := dk_42 (dk_at dksX3_property_2 0 rfl rfl)
theorem dX3_property_49 : decode cX3_property 49 = .ok (.invokevirtual 66, 3) := dk_182 0 66 (dk_at dksX3_property_2 1 rfl rfl)
theorem dX3_property_52 : decode cX3_property 52 = .ok (.ireturn, 1) := dk_172 (dk_at dksX3_property_2 4 rfl rfl)
theorem dX3_property_53 : decode cX3_property 53 = .ok (.aload_n 0, 1) := dk_42 (dk_at dksX3_property_2 5 rfl rfl)
theorem dX3_property_54 : decode cX3_property 54 = .ok (.invokevirtual 74, 3) := dk_182 0 74 (dk_at dksX3_property_2 6 rfl rfl)
theorem dX3_property_57 : decode cX3_property 57 = .ok (.ireturn, 1) := dk_172 (dk_at dksX3_property_2 9 rfl rfl)
theorem dX3_property_58 : decode cX3_property 58 = .ok (.aload_n 0, 1) := dk_42 (dk_at dksX3_property_2 10 rfl rfl)
theorem dX3_property_59 : decode cX3_property 59 = .ok (.iconst 0, 1) := dk_3 (dk_at dksX3_property_2 11 rfl rfl)
theorem dX3_property_60 : decode cX3_property 60 = .ok (.invokevirtual 62, 3) := dk_182 0 62 (dk_at dksX3_property_2 12 rfl rfl)
theorem dX3_property_63 : decode cX3_property 63 = .ok (.ireturn, 1) := dk_172 (dk_at dksX3_property_2 15 rfl rfl)
theorem dX3_property_64 : decode cX3_property 64 = .ok (.aload_n 0, 1) := dk_42 (dk_at dksX3_property_2 16 rfl rfl)
theorem dX3_property_65 : decode cX3_property 65 = .ok (.invokevirtual 488, 3) := dk_182 1 232 (dk_at dksX3_property_2 17 rfl rfl)
theorem dX3_property_68 : decode cX3_property 68 = .ok (.ireturn, 1) := dk_172 (dk_at dksX3_property_2 20 rfl rfl)
theorem dX3_property_69 : decode cX3_property 69 = .ok (.aload_n 0, 1) := dk_42 (dk_at dksX3_property_2 21 rfl rfl)
theorem dX3_property_70 : decode cX3_property 70 = .ok (.getfield 138, 3) := dk_180 0 138 (dk_at dksX3_property_3 0 rfl rfl)
theorem dX3_property_73 : decode cX3_property 73 = .ok (.ireturn, 1) := dk_172 (dk_at dksX3_property_3 3 rfl rfl)
abbrev cX3_allMessages : ByteArray := prog_13_method_124_code
def yX3_allMessages : MethodName := ⟨RX3, "allMessages", "()I"⟩
def dkwX3_allMessages_1 : List UInt8 := [167, 255, 237, 27, 172]
abbrev dktX3_allMessages_1 : List UInt8 := dkwX3_allMessages_1 ++ []
def dkwX3_allMessages_0 : List UInt8 := [3, 60, 3, 61, 28, 42, 182, 0, 66, 162, 0, 17, 27, 42, 28, 182, 0, 100, 96, 60, 132, 2, 1]
abbrev dktX3_allMessages_0 : List UInt8 := dkwX3_allMessages_0 ++ dktX3_allMessages_1
theorem dksX3_allMessages_0 : cX3_allMessages.data.toList.drop 0 = dktX3_allMessages_0 := by decide +kernel
theorem dksX3_allMessages_1 : cX3_allMessages.data.toList.drop 23 = dktX3_allMessages_1 := dk_seg dksX3_allMessages_0 23 rfl rfl
theorem dX3_allMessages_0 : decode cX3_allMessages 0 = .ok (.iconst 0, 1) := dk_3 (dk_at dksX3_allMessages_0 0 rfl rfl)
theorem dX3_allMessages_1 : decode cX3_allMessages 1 = .ok (.istore_n 1, 1) := dk_60 (dk_at dksX3_allMessages_0 1 rfl rfl)
theorem dX3_allMessages_2 : decode cX3_allMessages 2 = .ok (.iconst 0, 1) := dk_3 (dk_at dksX3_allMessages_0 2 rfl rfl)
theorem dX3_allMessages_3 : decode cX3_allMessages 3 = .ok (.istore_n 2, 1) := dk_61 (dk_at dksX3_allMessages_0 3 rfl rfl)
theorem dX3_allMessages_4 : decode cX3_allMessages 4 = .ok (.iload_n 2, 1) := dk_28 (dk_at dksX3_allMessages_0 4 rfl rfl)
theorem dX3_allMessages_5 : decode cX3_allMessages 5 = .ok (.aload_n 0, 1) := dk_42 (dk_at dksX3_allMessages_0 5 rfl rfl)
theorem dX3_allMessages_6 : decode cX3_allMessages 6 = .ok (.invokevirtual 66, 3) := dk_182 0 66 (dk_at dksX3_allMessages_0 6 rfl rfl)
theorem dX3_allMessages_9 : decode cX3_allMessages 9 = .ok (.if_icmp .ge 17, 3) := dk_162 0 17 (dk_at dksX3_allMessages_0 9 rfl rfl)
theorem dX3_allMessages_12 : decode cX3_allMessages 12 = .ok (.iload_n 1, 1) := dk_27 (dk_at dksX3_allMessages_0 12 rfl rfl)
theorem dX3_allMessages_13 : decode cX3_allMessages 13 = .ok (.aload_n 0, 1) := dk_42 (dk_at dksX3_allMessages_0 13 rfl rfl)
theorem dX3_allMessages_14 : decode cX3_allMessages 14 = .ok (.iload_n 2, 1) := dk_28 (dk_at dksX3_allMessages_0 14 rfl rfl)
theorem dX3_allMessages_15 : decode cX3_allMessages 15 = .ok (.invokevirtual 100, 3) := dk_182 0 100 (dk_at dksX3_allMessages_0 15 rfl rfl)
theorem dX3_allMessages_18 : decode cX3_allMessages 18 = .ok (.iadd, 1) := dk_96 (dk_at dksX3_allMessages_0 18 rfl rfl)
theorem dX3_allMessages_19 : decode cX3_allMessages 19 = .ok (.istore_n 1, 1) := dk_60 (dk_at dksX3_allMessages_0 19 rfl rfl)
theorem dX3_allMessages_20 : decode cX3_allMessages 20 = .ok (.iinc 2 1, 3) := dk_132 2 1 (dk_at dksX3_allMessages_0 20 rfl rfl)
theorem dX3_allMessages_23 : decode cX3_allMessages 23 = .ok (.goto (-19), 3) := dk_167 255 237 (dk_at dksX3_allMessages_1 0 rfl rfl)
theorem dX3_allMessages_26 : decode cX3_allMessages 26 = .ok (.iload_n 1, 1) := dk_27 (dk_at dksX3_allMessages_1 3 rfl rfl)
theorem dX3_allMessages_27 : decode cX3_allMessages 27 = .ok (.ireturn, 1) := dk_172 (dk_at dksX3_allMessages_1 4 rfl rfl)
abbrev cX3_box : ByteArray := prog_13_method_129_code
def yX3_box : MethodName := ⟨RX3, "box", "(II)I"⟩
def dkwX3_box_4 : List UInt8 := [182, 1, 243, 172]
abbrev dktX3_box_4 : List UInt8 := dkwX3_box_4 ++ []
def dkwX3_box_3 : List UInt8 := [27, 182, 0, 100, 42, 27, 4, 182, 1, 240, 100, 172, 42, 27, 16, 8, 182, 1, 240, 172, 42, 27]
abbrev dktX3_box_3 : List UInt8 := dkwX3_box_3 ++ dktX3_box_4
def dkwX3_box_2 : List UInt8 := [42, 27, 182, 0, 100, 172, 42, 27, 184, 0, 77, 5, 96, 182, 0, 62, 172, 42, 27, 182, 1, 237, 172, 42]
abbrev dktX3_box_2 : List UInt8 := dkwX3_box_2 ++ dktX3_box_3
def dkwX3_box_1 : List UInt8 := [170, 0, 0, 0, 0, 0, 0, 80, 0, 0, 0, 0, 0, 0, 0, 4, 0, 0, 0, 36, 0, 0, 0, 42, 0, 0, 0, 53, 0, 0, 0, 59, 0, 0, 0, 72]
abbrev dktX3_box_1 : List UInt8 := dkwX3_box_1 ++ dktX3_box_2
def dkwX3_box_0 : List UInt8 := [42, 42, 27, 182, 0, 189, 28, 133, 9, 20, 1, 235, 184, 0, 70, 182, 0, 192, 154, 0, 5, 3, 172, 28]
abbrev dktX3_box_0 : List UInt8 := dkwX3_box_0 ++ dktX3_box_1
theorem dksX3_box_0 : cX3_box.data.toList.drop 0 = dktX3_box_0 := by decide +kernel
theorem dksX3_box_1 : cX3_box.data.toList.drop 24 = dktX3_box_1 := dk_seg dksX3_box_0 24 rfl rfl
theorem dksX3_box_2 : cX3_box.data.toList.drop 60 = dktX3_box_2 := dk_seg dksX3_box_1 36 rfl rfl
theorem dksX3_box_3 : cX3_box.data.toList.drop 84 = dktX3_box_3 := dk_seg dksX3_box_2 24 rfl rfl
theorem dksX3_box_4 : cX3_box.data.toList.drop 106 = dktX3_box_4 := dk_seg dksX3_box_3 22 rfl rfl
theorem dX3_box_0 : decode cX3_box 0 = .ok (.aload_n 0, 1) := dk_42 (dk_at dksX3_box_0 0 rfl rfl)
theorem dX3_box_1 : decode cX3_box 1 = .ok (.aload_n 0, 1) := dk_42 (dk_at dksX3_box_0 1 rfl rfl)
theorem dX3_box_2 : decode cX3_box 2 = .ok (.iload_n 1, 1) := dk_27 (dk_at dksX3_box_0 2 rfl rfl)
theorem dX3_box_3 : decode cX3_box 3 = .ok (.invokevirtual 189, 3) := dk_182 0 189 (dk_at dksX3_box_0 3 rfl rfl)
theorem dX3_box_6 : decode cX3_box 6 = .ok (.iload_n 2, 1) := dk_28 (dk_at dksX3_box_0 6 rfl rfl)
theorem dX3_box_7 : decode cX3_box 7 = .ok (.i2l, 1) := dk_133 (dk_at dksX3_box_0 7 rfl rfl)
theorem dX3_box_8 : decode cX3_box 8 = .ok (.lconst 0, 1) := dk_9 (dk_at dksX3_box_0 8 rfl rfl)
theorem dX3_box_9 : decode cX3_box 9 = .ok (.ldc2_w 491, 3) := dk_20 1 235 (dk_at dksX3_box_0 9 rfl rfl)
theorem dX3_box_12 : decode cX3_box 12 = .ok (.invokestatic 70, 3) := dk_184 0 70 (dk_at dksX3_box_0 12 rfl rfl)
theorem dX3_box_15 : decode cX3_box 15 = .ok (.invokevirtual 192, 3) := dk_182 0 192 (dk_at dksX3_box_0 15 rfl rfl)
theorem dX3_box_18 : decode cX3_box 18 = .ok (.ifCond .ne 5, 3) := dk_154 0 5 (dk_at dksX3_box_0 18 rfl rfl)
theorem dX3_box_21 : decode cX3_box 21 = .ok (.iconst 0, 1) := dk_3 (dk_at dksX3_box_0 21 rfl rfl)
theorem dX3_box_22 : decode cX3_box 22 = .ok (.ireturn, 1) := dk_172 (dk_at dksX3_box_0 22 rfl rfl)
theorem dX3_box_23 : decode cX3_box 23 = .ok (.iload_n 2, 1) := dk_28 (dk_at dksX3_box_0 23 rfl rfl)
theorem dX3_box_24 : decode cX3_box 24 = .ok (.tableswitch 80 0 4 #[36, 42, 53, 59, 72], 36) := by decide +kernel
theorem dX3_box_60 : decode cX3_box 60 = .ok (.aload_n 0, 1) := dk_42 (dk_at dksX3_box_2 0 rfl rfl)
theorem dX3_box_61 : decode cX3_box 61 = .ok (.iload_n 1, 1) := dk_27 (dk_at dksX3_box_2 1 rfl rfl)
theorem dX3_box_62 : decode cX3_box 62 = .ok (.invokevirtual 100, 3) := dk_182 0 100 (dk_at dksX3_box_2 2 rfl rfl)
theorem dX3_box_65 : decode cX3_box 65 = .ok (.ireturn, 1) := dk_172 (dk_at dksX3_box_2 5 rfl rfl)
theorem dX3_box_66 : decode cX3_box 66 = .ok (.aload_n 0, 1) := dk_42 (dk_at dksX3_box_2 6 rfl rfl)
theorem dX3_box_67 : decode cX3_box 67 = .ok (.iload_n 1, 1) := dk_27 (dk_at dksX3_box_2 7 rfl rfl)
theorem dX3_box_68 : decode cX3_box 68 = .ok (.invokestatic 77, 3) := dk_184 0 77 (dk_at dksX3_box_2 8 rfl rfl)
theorem dX3_box_71 : decode cX3_box 71 = .ok (.iconst 2, 1) := dk_5 (dk_at dksX3_box_2 11 rfl rfl)
theorem dX3_box_72 : decode cX3_box 72 = .ok (.iadd, 1) := dk_96 (dk_at dksX3_box_2 12 rfl rfl)
theorem dX3_box_73 : decode cX3_box 73 = .ok (.invokevirtual 62, 3) := dk_182 0 62 (dk_at dksX3_box_2 13 rfl rfl)
theorem dX3_box_76 : decode cX3_box 76 = .ok (.ireturn, 1) := dk_172 (dk_at dksX3_box_2 16 rfl rfl)
theorem dX3_box_77 : decode cX3_box 77 = .ok (.aload_n 0, 1) := dk_42 (dk_at dksX3_box_2 17 rfl rfl)
theorem dX3_box_78 : decode cX3_box 78 = .ok (.iload_n 1, 1) := dk_27 (dk_at dksX3_box_2 18 rfl rfl)
theorem dX3_box_79 : decode cX3_box 79 = .ok (.invokevirtual 493, 3) := dk_182 1 237 (dk_at dksX3_box_2 19 rfl rfl)
theorem dX3_box_82 : decode cX3_box 82 = .ok (.ireturn, 1) := dk_172 (dk_at dksX3_box_2 22 rfl rfl)
theorem dX3_box_83 : decode cX3_box 83 = .ok (.aload_n 0, 1) := dk_42 (dk_at dksX3_box_2 23 rfl rfl)
theorem dX3_box_84 : decode cX3_box 84 = .ok (.iload_n 1, 1) := dk_27 (dk_at dksX3_box_3 0 rfl rfl)
theorem dX3_box_85 : decode cX3_box 85 = .ok (.invokevirtual 100, 3) := dk_182 0 100 (dk_at dksX3_box_3 1 rfl rfl)
theorem dX3_box_88 : decode cX3_box 88 = .ok (.aload_n 0, 1) := dk_42 (dk_at dksX3_box_3 4 rfl rfl)
theorem dX3_box_89 : decode cX3_box 89 = .ok (.iload_n 1, 1) := dk_27 (dk_at dksX3_box_3 5 rfl rfl)
theorem dX3_box_90 : decode cX3_box 90 = .ok (.iconst 1, 1) := dk_4 (dk_at dksX3_box_3 6 rfl rfl)
theorem dX3_box_91 : decode cX3_box 91 = .ok (.invokevirtual 496, 3) := dk_182 1 240 (dk_at dksX3_box_3 7 rfl rfl)
theorem dX3_box_94 : decode cX3_box 94 = .ok (.isub, 1) := dk_100 (dk_at dksX3_box_3 10 rfl rfl)
theorem dX3_box_95 : decode cX3_box 95 = .ok (.ireturn, 1) := dk_172 (dk_at dksX3_box_3 11 rfl rfl)
theorem dX3_box_96 : decode cX3_box 96 = .ok (.aload_n 0, 1) := dk_42 (dk_at dksX3_box_3 12 rfl rfl)
theorem dX3_box_97 : decode cX3_box 97 = .ok (.iload_n 1, 1) := dk_27 (dk_at dksX3_box_3 13 rfl rfl)
theorem dX3_box_98 : decode cX3_box 98 = .ok (.bipush 8, 2) := dk_16 8 (dk_at dksX3_box_3 14 rfl rfl)
theorem dX3_box_100 : decode cX3_box 100 = .ok (.invokevirtual 496, 3) := dk_182 1 240 (dk_at dksX3_box_3 16 rfl rfl)
theorem dX3_box_103 : decode cX3_box 103 = .ok (.ireturn, 1) := dk_172 (dk_at dksX3_box_3 19 rfl rfl)
theorem dX3_box_104 : decode cX3_box 104 = .ok (.aload_n 0, 1) := dk_42 (dk_at dksX3_box_3 20 rfl rfl)
theorem dX3_box_105 : decode cX3_box 105 = .ok (.iload_n 1, 1) := dk_27 (dk_at dksX3_box_3 21 rfl rfl)
theorem dX3_box_106 : decode cX3_box 106 = .ok (.invokevirtual 499, 3) := dk_182 1 243 (dk_at dksX3_box_4 0 rfl rfl)
theorem dX3_box_109 : decode cX3_box 109 = .ok (.ireturn, 1) := dk_172 (dk_at dksX3_box_4 3 rfl rfl)
abbrev cX3_sizesOf : ByteArray := prog_13_method_126_code
def yX3_sizesOf : MethodName := ⟨RX3, "sizesOf", "(I)I"⟩
def dkwX3_sizesOf_1 : List UInt8 := [132, 3, 1, 167, 255, 234, 28, 172]
abbrev dktX3_sizesOf_1 : List UInt8 := dkwX3_sizesOf_1 ++ []
def dkwX3_sizesOf_0 : List UInt8 := [3, 61, 3, 62, 29, 42, 27, 182, 0, 100, 162, 0, 19, 28, 42, 27, 29, 4, 182, 0, 103, 96, 61]
abbrev dktX3_sizesOf_0 : List UInt8 := dkwX3_sizesOf_0 ++ dktX3_sizesOf_1
theorem dksX3_sizesOf_0 : cX3_sizesOf.data.toList.drop 0 = dktX3_sizesOf_0 := by decide +kernel
theorem dksX3_sizesOf_1 : cX3_sizesOf.data.toList.drop 23 = dktX3_sizesOf_1 := dk_seg dksX3_sizesOf_0 23 rfl rfl
theorem dX3_sizesOf_0 : decode cX3_sizesOf 0 = .ok (.iconst 0, 1) := dk_3 (dk_at dksX3_sizesOf_0 0 rfl rfl)
theorem dX3_sizesOf_1 : decode cX3_sizesOf 1 = .ok (.istore_n 2, 1) := dk_61 (dk_at dksX3_sizesOf_0 1 rfl rfl)
theorem dX3_sizesOf_2 : decode cX3_sizesOf 2 = .ok (.iconst 0, 1) := dk_3 (dk_at dksX3_sizesOf_0 2 rfl rfl)
theorem dX3_sizesOf_3 : decode cX3_sizesOf 3 = .ok (.istore_n 3, 1) := dk_62 (dk_at dksX3_sizesOf_0 3 rfl rfl)
theorem dX3_sizesOf_4 : decode cX3_sizesOf 4 = .ok (.iload_n 3, 1) := dk_29 (dk_at dksX3_sizesOf_0 4 rfl rfl)
theorem dX3_sizesOf_5 : decode cX3_sizesOf 5 = .ok (.aload_n 0, 1) := dk_42 (dk_at dksX3_sizesOf_0 5 rfl rfl)
theorem dX3_sizesOf_6 : decode cX3_sizesOf 6 = .ok (.iload_n 1, 1) := dk_27 (dk_at dksX3_sizesOf_0 6 rfl rfl)
theorem dX3_sizesOf_7 : decode cX3_sizesOf 7 = .ok (.invokevirtual 100, 3) := dk_182 0 100 (dk_at dksX3_sizesOf_0 7 rfl rfl)
theorem dX3_sizesOf_10 : decode cX3_sizesOf 10 = .ok (.if_icmp .ge 19, 3) := dk_162 0 19 (dk_at dksX3_sizesOf_0 10 rfl rfl)
theorem dX3_sizesOf_13 : decode cX3_sizesOf 13 = .ok (.iload_n 2, 1) := dk_28 (dk_at dksX3_sizesOf_0 13 rfl rfl)
theorem dX3_sizesOf_14 : decode cX3_sizesOf 14 = .ok (.aload_n 0, 1) := dk_42 (dk_at dksX3_sizesOf_0 14 rfl rfl)
theorem dX3_sizesOf_15 : decode cX3_sizesOf 15 = .ok (.iload_n 1, 1) := dk_27 (dk_at dksX3_sizesOf_0 15 rfl rfl)
theorem dX3_sizesOf_16 : decode cX3_sizesOf 16 = .ok (.iload_n 3, 1) := dk_29 (dk_at dksX3_sizesOf_0 16 rfl rfl)
theorem dX3_sizesOf_17 : decode cX3_sizesOf 17 = .ok (.iconst 1, 1) := dk_4 (dk_at dksX3_sizesOf_0 17 rfl rfl)
theorem dX3_sizesOf_18 : decode cX3_sizesOf 18 = .ok (.invokevirtual 103, 3) := dk_182 0 103 (dk_at dksX3_sizesOf_0 18 rfl rfl)
theorem dX3_sizesOf_21 : decode cX3_sizesOf 21 = .ok (.iadd, 1) := dk_96 (dk_at dksX3_sizesOf_0 21 rfl rfl)
theorem dX3_sizesOf_22 : decode cX3_sizesOf 22 = .ok (.istore_n 2, 1) := dk_61 (dk_at dksX3_sizesOf_0 22 rfl rfl)
theorem dX3_sizesOf_23 : decode cX3_sizesOf 23 = .ok (.iinc 3 1, 3) := dk_132 3 1 (dk_at dksX3_sizesOf_1 0 rfl rfl)
theorem dX3_sizesOf_26 : decode cX3_sizesOf 26 = .ok (.goto (-22), 3) := dk_167 255 234 (dk_at dksX3_sizesOf_1 3 rfl rfl)
theorem dX3_sizesOf_29 : decode cX3_sizesOf 29 = .ok (.iload_n 2, 1) := dk_28 (dk_at dksX3_sizesOf_1 6 rfl rfl)
theorem dX3_sizesOf_30 : decode cX3_sizesOf 30 = .ok (.ireturn, 1) := dk_172 (dk_at dksX3_sizesOf_1 7 rfl rfl)
abbrev cX3_flaggedMany : ByteArray := prog_13_method_127_code
def yX3_flaggedMany : MethodName := ⟨RX3, "flaggedMany", "(II)I"⟩
def dkwX3_flaggedMany_1 : List UInt8 := [28, 126, 153, 0, 7, 4, 167, 0, 4, 3, 96, 62, 132, 4, 1, 167, 255, 222, 29, 172]
abbrev dktX3_flaggedMany_1 : List UInt8 := dkwX3_flaggedMany_1 ++ []
def dkwX3_flaggedMany_0 : List UInt8 := [3, 62, 3, 54, 4, 21, 4, 42, 27, 182, 0, 100, 162, 0, 30, 29, 42, 27, 21, 4, 5, 182, 0, 103]
abbrev dktX3_flaggedMany_0 : List UInt8 := dkwX3_flaggedMany_0 ++ dktX3_flaggedMany_1
theorem dksX3_flaggedMany_0 : cX3_flaggedMany.data.toList.drop 0 = dktX3_flaggedMany_0 := by decide +kernel
theorem dksX3_flaggedMany_1 : cX3_flaggedMany.data.toList.drop 24 = dktX3_flaggedMany_1 := dk_seg dksX3_flaggedMany_0 24 rfl rfl
theorem dX3_flaggedMany_0 : decode cX3_flaggedMany 0 = .ok (.iconst 0, 1) := dk_3 (dk_at dksX3_flaggedMany_0 0 rfl rfl)
theorem dX3_flaggedMany_1 : decode cX3_flaggedMany 1 = .ok (.istore_n 3, 1) := dk_62 (dk_at dksX3_flaggedMany_0 1 rfl rfl)
theorem dX3_flaggedMany_2 : decode cX3_flaggedMany 2 = .ok (.iconst 0, 1) := dk_3 (dk_at dksX3_flaggedMany_0 2 rfl rfl)
theorem dX3_flaggedMany_3 : decode cX3_flaggedMany 3 = .ok (.istore 4, 2) := dk_54 4 (dk_at dksX3_flaggedMany_0 3 rfl rfl)
theorem dX3_flaggedMany_5 : decode cX3_flaggedMany 5 = .ok (.iload 4, 2) := dk_21 4 (dk_at dksX3_flaggedMany_0 5 rfl rfl)
theorem dX3_flaggedMany_7 : decode cX3_flaggedMany 7 = .ok (.aload_n 0, 1) := dk_42 (dk_at dksX3_flaggedMany_0 7 rfl rfl)
theorem dX3_flaggedMany_8 : decode cX3_flaggedMany 8 = .ok (.iload_n 1, 1) := dk_27 (dk_at dksX3_flaggedMany_0 8 rfl rfl)
theorem dX3_flaggedMany_9 : decode cX3_flaggedMany 9 = .ok (.invokevirtual 100, 3) := dk_182 0 100 (dk_at dksX3_flaggedMany_0 9 rfl rfl)
theorem dX3_flaggedMany_12 : decode cX3_flaggedMany 12 = .ok (.if_icmp .ge 30, 3) := dk_162 0 30 (dk_at dksX3_flaggedMany_0 12 rfl rfl)
theorem dX3_flaggedMany_15 : decode cX3_flaggedMany 15 = .ok (.iload_n 3, 1) := dk_29 (dk_at dksX3_flaggedMany_0 15 rfl rfl)
theorem dX3_flaggedMany_16 : decode cX3_flaggedMany 16 = .ok (.aload_n 0, 1) := dk_42 (dk_at dksX3_flaggedMany_0 16 rfl rfl)
theorem dX3_flaggedMany_17 : decode cX3_flaggedMany 17 = .ok (.iload_n 1, 1) := dk_27 (dk_at dksX3_flaggedMany_0 17 rfl rfl)
theorem dX3_flaggedMany_18 : decode cX3_flaggedMany 18 = .ok (.iload 4, 2) := dk_21 4 (dk_at dksX3_flaggedMany_0 18 rfl rfl)
theorem dX3_flaggedMany_20 : decode cX3_flaggedMany 20 = .ok (.iconst 2, 1) := dk_5 (dk_at dksX3_flaggedMany_0 20 rfl rfl)
theorem dX3_flaggedMany_21 : decode cX3_flaggedMany 21 = .ok (.invokevirtual 103, 3) := dk_182 0 103 (dk_at dksX3_flaggedMany_0 21 rfl rfl)
theorem dX3_flaggedMany_24 : decode cX3_flaggedMany 24 = .ok (.iload_n 2, 1) := dk_28 (dk_at dksX3_flaggedMany_1 0 rfl rfl)
theorem dX3_flaggedMany_25 : decode cX3_flaggedMany 25 = .ok (.iand, 1) := dk_126 (dk_at dksX3_flaggedMany_1 1 rfl rfl)
theorem dX3_flaggedMany_26 : decode cX3_flaggedMany 26 = .ok (.ifCond .eq 7, 3) := dk_153 0 7 (dk_at dksX3_flaggedMany_1 2 rfl rfl)
theorem dX3_flaggedMany_29 : decode cX3_flaggedMany 29 = .ok (.iconst 1, 1) := dk_4 (dk_at dksX3_flaggedMany_1 5 rfl rfl)
theorem dX3_flaggedMany_30 : decode cX3_flaggedMany 30 = .ok (.goto 4, 3) := dk_167 0 4 (dk_at dksX3_flaggedMany_1 6 rfl rfl)
theorem dX3_flaggedMany_33 : decode cX3_flaggedMany 33 = .ok (.iconst 0, 1) := dk_3 (dk_at dksX3_flaggedMany_1 9 rfl rfl)
theorem dX3_flaggedMany_34 : decode cX3_flaggedMany 34 = .ok (.iadd, 1) := dk_96 (dk_at dksX3_flaggedMany_1 10 rfl rfl)
theorem dX3_flaggedMany_35 : decode cX3_flaggedMany 35 = .ok (.istore_n 3, 1) := dk_62 (dk_at dksX3_flaggedMany_1 11 rfl rfl)
theorem dX3_flaggedMany_36 : decode cX3_flaggedMany 36 = .ok (.iinc 4 1, 3) := dk_132 4 1 (dk_at dksX3_flaggedMany_1 12 rfl rfl)
theorem dX3_flaggedMany_39 : decode cX3_flaggedMany 39 = .ok (.goto (-34), 3) := dk_167 255 222 (dk_at dksX3_flaggedMany_1 15 rfl rfl)
theorem dX3_flaggedMany_42 : decode cX3_flaggedMany 42 = .ok (.iload_n 3, 1) := dk_29 (dk_at dksX3_flaggedMany_1 18 rfl rfl)
theorem dX3_flaggedMany_43 : decode cX3_flaggedMany 43 = .ok (.ireturn, 1) := dk_172 (dk_at dksX3_flaggedMany_1 19 rfl rfl)
abbrev cX3_selecting : ByteArray := prog_13_method_128_code
def yX3_selecting : MethodName := ⟨RX3, "selecting", "(I)I"⟩
def dkwX3_selecting_1 : List UInt8 := [120, 167, 0, 4, 3, 128, 61, 132, 3, 1, 167, 255, 226, 28, 172]
abbrev dktX3_selecting_1 : List UInt8 := dkwX3_selecting_1 ++ []
def dkwX3_selecting_0 : List UInt8 := [3, 61, 3, 62, 29, 42, 182, 0, 74, 162, 0, 28, 28, 42, 29, 182, 0, 87, 27, 160, 0, 9, 4, 29]
abbrev dktX3_selecting_0 : List UInt8 := dkwX3_selecting_0 ++ dktX3_selecting_1
theorem dksX3_selecting_0 : cX3_selecting.data.toList.drop 0 = dktX3_selecting_0 := by decide +kernel
theorem dksX3_selecting_1 : cX3_selecting.data.toList.drop 24 = dktX3_selecting_1 := dk_seg dksX3_selecting_0 24 rfl rfl
theorem dX3_selecting_0 : decode cX3_selecting 0 = .ok (.iconst 0, 1) := dk_3 (dk_at dksX3_selecting_0 0 rfl rfl)
theorem dX3_selecting_1 : decode cX3_selecting 1 = .ok (.istore_n 2, 1) := dk_61 (dk_at dksX3_selecting_0 1 rfl rfl)
theorem dX3_selecting_2 : decode cX3_selecting 2 = .ok (.iconst 0, 1) := dk_3 (dk_at dksX3_selecting_0 2 rfl rfl)
theorem dX3_selecting_3 : decode cX3_selecting 3 = .ok (.istore_n 3, 1) := dk_62 (dk_at dksX3_selecting_0 3 rfl rfl)
theorem dX3_selecting_4 : decode cX3_selecting 4 = .ok (.iload_n 3, 1) := dk_29 (dk_at dksX3_selecting_0 4 rfl rfl)
theorem dX3_selecting_5 : decode cX3_selecting 5 = .ok (.aload_n 0, 1) := dk_42 (dk_at dksX3_selecting_0 5 rfl rfl)
theorem dX3_selecting_6 : decode cX3_selecting 6 = .ok (.invokevirtual 74, 3) := dk_182 0 74 (dk_at dksX3_selecting_0 6 rfl rfl)
theorem dX3_selecting_9 : decode cX3_selecting 9 = .ok (.if_icmp .ge 28, 3) := dk_162 0 28 (dk_at dksX3_selecting_0 9 rfl rfl)
theorem dX3_selecting_12 : decode cX3_selecting 12 = .ok (.iload_n 2, 1) := dk_28 (dk_at dksX3_selecting_0 12 rfl rfl)
theorem dX3_selecting_13 : decode cX3_selecting 13 = .ok (.aload_n 0, 1) := dk_42 (dk_at dksX3_selecting_0 13 rfl rfl)
theorem dX3_selecting_14 : decode cX3_selecting 14 = .ok (.iload_n 3, 1) := dk_29 (dk_at dksX3_selecting_0 14 rfl rfl)
theorem dX3_selecting_15 : decode cX3_selecting 15 = .ok (.invokevirtual 87, 3) := dk_182 0 87 (dk_at dksX3_selecting_0 15 rfl rfl)
theorem dX3_selecting_18 : decode cX3_selecting 18 = .ok (.iload_n 1, 1) := dk_27 (dk_at dksX3_selecting_0 18 rfl rfl)
theorem dX3_selecting_19 : decode cX3_selecting 19 = .ok (.if_icmp .ne 9, 3) := dk_160 0 9 (dk_at dksX3_selecting_0 19 rfl rfl)
theorem dX3_selecting_22 : decode cX3_selecting 22 = .ok (.iconst 1, 1) := dk_4 (dk_at dksX3_selecting_0 22 rfl rfl)
theorem dX3_selecting_23 : decode cX3_selecting 23 = .ok (.iload_n 3, 1) := dk_29 (dk_at dksX3_selecting_0 23 rfl rfl)
theorem dX3_selecting_24 : decode cX3_selecting 24 = .ok (.ishl, 1) := dk_120 (dk_at dksX3_selecting_1 0 rfl rfl)
theorem dX3_selecting_25 : decode cX3_selecting 25 = .ok (.goto 4, 3) := dk_167 0 4 (dk_at dksX3_selecting_1 1 rfl rfl)
theorem dX3_selecting_28 : decode cX3_selecting 28 = .ok (.iconst 0, 1) := dk_3 (dk_at dksX3_selecting_1 4 rfl rfl)
theorem dX3_selecting_29 : decode cX3_selecting 29 = .ok (.ior, 1) := dk_128 (dk_at dksX3_selecting_1 5 rfl rfl)
theorem dX3_selecting_30 : decode cX3_selecting 30 = .ok (.istore_n 2, 1) := dk_61 (dk_at dksX3_selecting_1 6 rfl rfl)
theorem dX3_selecting_31 : decode cX3_selecting 31 = .ok (.iinc 3 1, 3) := dk_132 3 1 (dk_at dksX3_selecting_1 7 rfl rfl)
theorem dX3_selecting_34 : decode cX3_selecting 34 = .ok (.goto (-30), 3) := dk_167 255 226 (dk_at dksX3_selecting_1 10 rfl rfl)
theorem dX3_selecting_37 : decode cX3_selecting 37 = .ok (.iload_n 2, 1) := dk_28 (dk_at dksX3_selecting_1 13 rfl rfl)
theorem dX3_selecting_38 : decode cX3_selecting 38 = .ok (.ireturn, 1) := dk_172 (dk_at dksX3_selecting_1 14 rfl rfl)
abbrev cX3_message : ByteArray := prog_13_method_130_code
def yX3_message : MethodName := ⟨RX3, "message", "(III)I"⟩
def dkwX3_message_2 : List UInt8 := [27, 28, 29, 182, 0, 103, 167, 0, 4, 3, 172]
abbrev dktX3_message_2 : List UInt8 := dkwX3_message_2 ++ []
def dkwX3_message_1 : List UInt8 := [153, 0, 7, 4, 167, 0, 4, 3, 29, 133, 9, 20, 0, 220, 184, 0, 70, 182, 0, 192, 153, 0, 13, 42]
abbrev dktX3_message_1 : List UInt8 := dkwX3_message_1 ++ dktX3_message_2
def dkwX3_message_0 : List UInt8 := [42, 42, 27, 182, 0, 189, 153, 0, 24, 28, 133, 9, 42, 27, 182, 0, 100, 4, 100, 133, 184, 0, 70]
abbrev dktX3_message_0 : List UInt8 := dkwX3_message_0 ++ dktX3_message_1
theorem dksX3_message_0 : cX3_message.data.toList.drop 0 = dktX3_message_0 := by decide +kernel
theorem dksX3_message_1 : cX3_message.data.toList.drop 23 = dktX3_message_1 := dk_seg dksX3_message_0 23 rfl rfl
theorem dksX3_message_2 : cX3_message.data.toList.drop 47 = dktX3_message_2 := dk_seg dksX3_message_1 24 rfl rfl
theorem dX3_message_0 : decode cX3_message 0 = .ok (.aload_n 0, 1) := dk_42 (dk_at dksX3_message_0 0 rfl rfl)
theorem dX3_message_1 : decode cX3_message 1 = .ok (.aload_n 0, 1) := dk_42 (dk_at dksX3_message_0 1 rfl rfl)
theorem dX3_message_2 : decode cX3_message 2 = .ok (.iload_n 1, 1) := dk_27 (dk_at dksX3_message_0 2 rfl rfl)
theorem dX3_message_3 : decode cX3_message 3 = .ok (.invokevirtual 189, 3) := dk_182 0 189 (dk_at dksX3_message_0 3 rfl rfl)
theorem dX3_message_6 : decode cX3_message 6 = .ok (.ifCond .eq 24, 3) := dk_153 0 24 (dk_at dksX3_message_0 6 rfl rfl)
theorem dX3_message_9 : decode cX3_message 9 = .ok (.iload_n 2, 1) := dk_28 (dk_at dksX3_message_0 9 rfl rfl)
theorem dX3_message_10 : decode cX3_message 10 = .ok (.i2l, 1) := dk_133 (dk_at dksX3_message_0 10 rfl rfl)
theorem dX3_message_11 : decode cX3_message 11 = .ok (.lconst 0, 1) := dk_9 (dk_at dksX3_message_0 11 rfl rfl)
theorem dX3_message_12 : decode cX3_message 12 = .ok (.aload_n 0, 1) := dk_42 (dk_at dksX3_message_0 12 rfl rfl)
theorem dX3_message_13 : decode cX3_message 13 = .ok (.iload_n 1, 1) := dk_27 (dk_at dksX3_message_0 13 rfl rfl)
theorem dX3_message_14 : decode cX3_message 14 = .ok (.invokevirtual 100, 3) := dk_182 0 100 (dk_at dksX3_message_0 14 rfl rfl)
theorem dX3_message_17 : decode cX3_message 17 = .ok (.iconst 1, 1) := dk_4 (dk_at dksX3_message_0 17 rfl rfl)
theorem dX3_message_18 : decode cX3_message 18 = .ok (.isub, 1) := dk_100 (dk_at dksX3_message_0 18 rfl rfl)
theorem dX3_message_19 : decode cX3_message 19 = .ok (.i2l, 1) := dk_133 (dk_at dksX3_message_0 19 rfl rfl)
theorem dX3_message_20 : decode cX3_message 20 = .ok (.invokestatic 70, 3) := dk_184 0 70 (dk_at dksX3_message_0 20 rfl rfl)
theorem dX3_message_23 : decode cX3_message 23 = .ok (.ifCond .eq 7, 3) := dk_153 0 7 (dk_at dksX3_message_1 0 rfl rfl)
theorem dX3_message_26 : decode cX3_message 26 = .ok (.iconst 1, 1) := dk_4 (dk_at dksX3_message_1 3 rfl rfl)
theorem dX3_message_27 : decode cX3_message 27 = .ok (.goto 4, 3) := dk_167 0 4 (dk_at dksX3_message_1 4 rfl rfl)
theorem dX3_message_30 : decode cX3_message 30 = .ok (.iconst 0, 1) := dk_3 (dk_at dksX3_message_1 7 rfl rfl)
theorem dX3_message_31 : decode cX3_message 31 = .ok (.iload_n 3, 1) := dk_29 (dk_at dksX3_message_1 8 rfl rfl)
theorem dX3_message_32 : decode cX3_message 32 = .ok (.i2l, 1) := dk_133 (dk_at dksX3_message_1 9 rfl rfl)
theorem dX3_message_33 : decode cX3_message 33 = .ok (.lconst 0, 1) := dk_9 (dk_at dksX3_message_1 10 rfl rfl)
theorem dX3_message_34 : decode cX3_message 34 = .ok (.ldc2_w 220, 3) := dk_20 0 220 (dk_at dksX3_message_1 11 rfl rfl)
theorem dX3_message_37 : decode cX3_message 37 = .ok (.invokestatic 70, 3) := dk_184 0 70 (dk_at dksX3_message_1 14 rfl rfl)
theorem dX3_message_40 : decode cX3_message 40 = .ok (.invokevirtual 192, 3) := dk_182 0 192 (dk_at dksX3_message_1 17 rfl rfl)
theorem dX3_message_43 : decode cX3_message 43 = .ok (.ifCond .eq 13, 3) := dk_153 0 13 (dk_at dksX3_message_1 20 rfl rfl)
theorem dX3_message_46 : decode cX3_message 46 = .ok (.aload_n 0, 1) := dk_42 (dk_at dksX3_message_1 23 rfl rfl)
theorem dX3_message_47 : decode cX3_message 47 = .ok (.iload_n 1, 1) := dk_27 (dk_at dksX3_message_2 0 rfl rfl)
theorem dX3_message_48 : decode cX3_message 48 = .ok (.iload_n 2, 1) := dk_28 (dk_at dksX3_message_2 1 rfl rfl)
theorem dX3_message_49 : decode cX3_message 49 = .ok (.iload_n 3, 1) := dk_29 (dk_at dksX3_message_2 2 rfl rfl)
theorem dX3_message_50 : decode cX3_message 50 = .ok (.invokevirtual 103, 3) := dk_182 0 103 (dk_at dksX3_message_2 3 rfl rfl)
theorem dX3_message_53 : decode cX3_message 53 = .ok (.goto 4, 3) := dk_167 0 4 (dk_at dksX3_message_2 6 rfl rfl)
theorem dX3_message_56 : decode cX3_message 56 = .ok (.iconst 0, 1) := dk_3 (dk_at dksX3_message_2 9 rfl rfl)
theorem dX3_message_57 : decode cX3_message 57 = .ok (.ireturn, 1) := dk_172 (dk_at dksX3_message_2 10 rfl rfl)
abbrev cX3_indexOf : ByteArray := prog_13_method_131_code
def yX3_indexOf : MethodName := ⟨RX3, "indexOf", "(II)I"⟩
def dkwX3_indexOf_0 : List UInt8 := [42, 42, 27, 182, 0, 189, 182, 1, 10, 153, 0, 12, 42, 27, 28, 182, 0, 110, 167, 0, 4, 3, 172]
abbrev dktX3_indexOf_0 : List UInt8 := dkwX3_indexOf_0 ++ []
theorem dksX3_indexOf_0 : cX3_indexOf.data.toList.drop 0 = dktX3_indexOf_0 := by decide +kernel
theorem dX3_indexOf_0 : decode cX3_indexOf 0 = .ok (.aload_n 0, 1) := dk_42 (dk_at dksX3_indexOf_0 0 rfl rfl)
theorem dX3_indexOf_1 : decode cX3_indexOf 1 = .ok (.aload_n 0, 1) := dk_42 (dk_at dksX3_indexOf_0 1 rfl rfl)
theorem dX3_indexOf_2 : decode cX3_indexOf 2 = .ok (.iload_n 1, 1) := dk_27 (dk_at dksX3_indexOf_0 2 rfl rfl)
theorem dX3_indexOf_3 : decode cX3_indexOf 3 = .ok (.invokevirtual 189, 3) := dk_182 0 189 (dk_at dksX3_indexOf_0 3 rfl rfl)
theorem dX3_indexOf_6 : decode cX3_indexOf 6 = .ok (.invokevirtual 266, 3) := dk_182 1 10 (dk_at dksX3_indexOf_0 6 rfl rfl)
theorem dX3_indexOf_9 : decode cX3_indexOf 9 = .ok (.ifCond .eq 12, 3) := dk_153 0 12 (dk_at dksX3_indexOf_0 9 rfl rfl)
theorem dX3_indexOf_12 : decode cX3_indexOf 12 = .ok (.aload_n 0, 1) := dk_42 (dk_at dksX3_indexOf_0 12 rfl rfl)
theorem dX3_indexOf_13 : decode cX3_indexOf 13 = .ok (.iload_n 1, 1) := dk_27 (dk_at dksX3_indexOf_0 13 rfl rfl)
theorem dX3_indexOf_14 : decode cX3_indexOf 14 = .ok (.iload_n 2, 1) := dk_28 (dk_at dksX3_indexOf_0 14 rfl rfl)
theorem dX3_indexOf_15 : decode cX3_indexOf 15 = .ok (.invokevirtual 110, 3) := dk_182 0 110 (dk_at dksX3_indexOf_0 15 rfl rfl)
theorem dX3_indexOf_18 : decode cX3_indexOf 18 = .ok (.goto 4, 3) := dk_167 0 4 (dk_at dksX3_indexOf_0 18 rfl rfl)
theorem dX3_indexOf_21 : decode cX3_indexOf 21 = .ok (.iconst 0, 1) := dk_3 (dk_at dksX3_indexOf_0 21 rfl rfl)
theorem dX3_indexOf_22 : decode cX3_indexOf 22 = .ok (.ireturn, 1) := dk_172 (dk_at dksX3_indexOf_0 22 rfl rfl)
abbrev cX3_session : ByteArray := prog_13_method_132_code
def yX3_session : MethodName := ⟨RX3, "session", "(II)I"⟩
def dkwX3_session_4 : List UInt8 := [42, 27, 182, 0, 132, 172, 42, 27, 182, 0, 135, 172]
abbrev dktX3_session_4 : List UInt8 := dkwX3_session_4 ++ []
def dkwX3_session_3 : List UInt8 := [182, 0, 162, 153, 0, 7, 4, 167, 0, 4, 3, 172, 42, 27, 182, 0, 97, 172, 42, 27, 182, 0, 129, 172]
abbrev dktX3_session_3 : List UInt8 := dkwX3_session_3 ++ dktX3_session_4
def dkwX3_session_2 : List UInt8 := [42, 27, 182, 0, 87, 172, 42, 27, 182, 0, 172, 153, 0, 7, 4, 167, 0, 4, 3, 172, 42, 27]
abbrev dktX3_session_2 : List UInt8 := dkwX3_session_2 ++ dktX3_session_3
def dkwX3_session_1 : List UInt8 := [170, 0, 0, 0, 0, 0, 0, 92, 0, 0, 0, 0, 0, 0, 0, 5, 0, 0, 0, 40, 0, 0, 0, 46, 0, 0, 0, 60, 0, 0, 0, 74, 0, 0, 0, 80, 0, 0, 0, 86]
abbrev dktX3_session_1 : List UInt8 := dkwX3_session_1 ++ dktX3_session_2
def dkwX3_session_0 : List UInt8 := [42, 42, 27, 182, 0, 93, 28, 133, 9, 20, 1, 190, 184, 0, 70, 182, 0, 192, 154, 0, 5, 3, 172, 28]
abbrev dktX3_session_0 : List UInt8 := dkwX3_session_0 ++ dktX3_session_1
theorem dksX3_session_0 : cX3_session.data.toList.drop 0 = dktX3_session_0 := by decide +kernel
theorem dksX3_session_1 : cX3_session.data.toList.drop 24 = dktX3_session_1 := dk_seg dksX3_session_0 24 rfl rfl
theorem dksX3_session_2 : cX3_session.data.toList.drop 64 = dktX3_session_2 := dk_seg dksX3_session_1 40 rfl rfl
theorem dksX3_session_3 : cX3_session.data.toList.drop 86 = dktX3_session_3 := dk_seg dksX3_session_2 22 rfl rfl
theorem dksX3_session_4 : cX3_session.data.toList.drop 110 = dktX3_session_4 := dk_seg dksX3_session_3 24 rfl rfl
theorem dX3_session_0 : decode cX3_session 0 = .ok (.aload_n 0, 1) := dk_42 (dk_at dksX3_session_0 0 rfl rfl)
theorem dX3_session_1 : decode cX3_session 1 = .ok (.aload_n 0, 1) := dk_42 (dk_at dksX3_session_0 1 rfl rfl)
theorem dX3_session_2 : decode cX3_session 2 = .ok (.iload_n 1, 1) := dk_27 (dk_at dksX3_session_0 2 rfl rfl)
theorem dX3_session_3 : decode cX3_session 3 = .ok (.invokevirtual 93, 3) := dk_182 0 93 (dk_at dksX3_session_0 3 rfl rfl)
theorem dX3_session_6 : decode cX3_session 6 = .ok (.iload_n 2, 1) := dk_28 (dk_at dksX3_session_0 6 rfl rfl)
theorem dX3_session_7 : decode cX3_session 7 = .ok (.i2l, 1) := dk_133 (dk_at dksX3_session_0 7 rfl rfl)
theorem dX3_session_8 : decode cX3_session 8 = .ok (.lconst 0, 1) := dk_9 (dk_at dksX3_session_0 8 rfl rfl)
theorem dX3_session_9 : decode cX3_session 9 = .ok (.ldc2_w 446, 3) := dk_20 1 190 (dk_at dksX3_session_0 9 rfl rfl)
theorem dX3_session_12 : decode cX3_session 12 = .ok (.invokestatic 70, 3) := dk_184 0 70 (dk_at dksX3_session_0 12 rfl rfl)
theorem dX3_session_15 : decode cX3_session 15 = .ok (.invokevirtual 192, 3) := dk_182 0 192 (dk_at dksX3_session_0 15 rfl rfl)
theorem dX3_session_18 : decode cX3_session 18 = .ok (.ifCond .ne 5, 3) := dk_154 0 5 (dk_at dksX3_session_0 18 rfl rfl)
theorem dX3_session_21 : decode cX3_session 21 = .ok (.iconst 0, 1) := dk_3 (dk_at dksX3_session_0 21 rfl rfl)
theorem dX3_session_22 : decode cX3_session 22 = .ok (.ireturn, 1) := dk_172 (dk_at dksX3_session_0 22 rfl rfl)
theorem dX3_session_23 : decode cX3_session 23 = .ok (.iload_n 2, 1) := dk_28 (dk_at dksX3_session_0 23 rfl rfl)
theorem dX3_session_24 : decode cX3_session 24 = .ok (.tableswitch 92 0 5 #[40, 46, 60, 74, 80, 86], 40) := by decide +kernel
theorem dX3_session_64 : decode cX3_session 64 = .ok (.aload_n 0, 1) := dk_42 (dk_at dksX3_session_2 0 rfl rfl)
theorem dX3_session_65 : decode cX3_session 65 = .ok (.iload_n 1, 1) := dk_27 (dk_at dksX3_session_2 1 rfl rfl)
theorem dX3_session_66 : decode cX3_session 66 = .ok (.invokevirtual 87, 3) := dk_182 0 87 (dk_at dksX3_session_2 2 rfl rfl)
theorem dX3_session_69 : decode cX3_session 69 = .ok (.ireturn, 1) := dk_172 (dk_at dksX3_session_2 5 rfl rfl)
theorem dX3_session_70 : decode cX3_session 70 = .ok (.aload_n 0, 1) := dk_42 (dk_at dksX3_session_2 6 rfl rfl)
theorem dX3_session_71 : decode cX3_session 71 = .ok (.iload_n 1, 1) := dk_27 (dk_at dksX3_session_2 7 rfl rfl)
theorem dX3_session_72 : decode cX3_session 72 = .ok (.invokevirtual 172, 3) := dk_182 0 172 (dk_at dksX3_session_2 8 rfl rfl)
theorem dX3_session_75 : decode cX3_session 75 = .ok (.ifCond .eq 7, 3) := dk_153 0 7 (dk_at dksX3_session_2 11 rfl rfl)
theorem dX3_session_78 : decode cX3_session 78 = .ok (.iconst 1, 1) := dk_4 (dk_at dksX3_session_2 14 rfl rfl)
theorem dX3_session_79 : decode cX3_session 79 = .ok (.goto 4, 3) := dk_167 0 4 (dk_at dksX3_session_2 15 rfl rfl)
theorem dX3_session_82 : decode cX3_session 82 = .ok (.iconst 0, 1) := dk_3 (dk_at dksX3_session_2 18 rfl rfl)
theorem dX3_session_83 : decode cX3_session 83 = .ok (.ireturn, 1) := dk_172 (dk_at dksX3_session_2 19 rfl rfl)
theorem dX3_session_84 : decode cX3_session 84 = .ok (.aload_n 0, 1) := dk_42 (dk_at dksX3_session_2 20 rfl rfl)
theorem dX3_session_85 : decode cX3_session 85 = .ok (.iload_n 1, 1) := dk_27 (dk_at dksX3_session_2 21 rfl rfl)
theorem dX3_session_86 : decode cX3_session 86 = .ok (.invokevirtual 162, 3) := dk_182 0 162 (dk_at dksX3_session_3 0 rfl rfl)
theorem dX3_session_89 : decode cX3_session 89 = .ok (.ifCond .eq 7, 3) := dk_153 0 7 (dk_at dksX3_session_3 3 rfl rfl)
theorem dX3_session_92 : decode cX3_session 92 = .ok (.iconst 1, 1) := dk_4 (dk_at dksX3_session_3 6 rfl rfl)
theorem dX3_session_93 : decode cX3_session 93 = .ok (.goto 4, 3) := dk_167 0 4 (dk_at dksX3_session_3 7 rfl rfl)
theorem dX3_session_96 : decode cX3_session 96 = .ok (.iconst 0, 1) := dk_3 (dk_at dksX3_session_3 10 rfl rfl)
theorem dX3_session_97 : decode cX3_session 97 = .ok (.ireturn, 1) := dk_172 (dk_at dksX3_session_3 11 rfl rfl)
theorem dX3_session_98 : decode cX3_session 98 = .ok (.aload_n 0, 1) := dk_42 (dk_at dksX3_session_3 12 rfl rfl)
theorem dX3_session_99 : decode cX3_session 99 = .ok (.iload_n 1, 1) := dk_27 (dk_at dksX3_session_3 13 rfl rfl)
theorem dX3_session_100 : decode cX3_session 100 = .ok (.invokevirtual 97, 3) := dk_182 0 97 (dk_at dksX3_session_3 14 rfl rfl)
theorem dX3_session_103 : decode cX3_session 103 = .ok (.ireturn, 1) := dk_172 (dk_at dksX3_session_3 17 rfl rfl)
theorem dX3_session_104 : decode cX3_session 104 = .ok (.aload_n 0, 1) := dk_42 (dk_at dksX3_session_3 18 rfl rfl)
theorem dX3_session_105 : decode cX3_session 105 = .ok (.iload_n 1, 1) := dk_27 (dk_at dksX3_session_3 19 rfl rfl)
theorem dX3_session_106 : decode cX3_session 106 = .ok (.invokevirtual 129, 3) := dk_182 0 129 (dk_at dksX3_session_3 20 rfl rfl)
theorem dX3_session_109 : decode cX3_session 109 = .ok (.ireturn, 1) := dk_172 (dk_at dksX3_session_3 23 rfl rfl)
theorem dX3_session_110 : decode cX3_session 110 = .ok (.aload_n 0, 1) := dk_42 (dk_at dksX3_session_4 0 rfl rfl)
theorem dX3_session_111 : decode cX3_session 111 = .ok (.iload_n 1, 1) := dk_27 (dk_at dksX3_session_4 1 rfl rfl)
theorem dX3_session_112 : decode cX3_session 112 = .ok (.invokevirtual 132, 3) := dk_182 0 132 (dk_at dksX3_session_4 2 rfl rfl)
theorem dX3_session_115 : decode cX3_session 115 = .ok (.ireturn, 1) := dk_172 (dk_at dksX3_session_4 5 rfl rfl)
theorem dX3_session_116 : decode cX3_session 116 = .ok (.aload_n 0, 1) := dk_42 (dk_at dksX3_session_4 6 rfl rfl)
theorem dX3_session_117 : decode cX3_session 117 = .ok (.iload_n 1, 1) := dk_27 (dk_at dksX3_session_4 7 rfl rfl)
theorem dX3_session_118 : decode cX3_session 118 = .ok (.invokevirtual 135, 3) := dk_182 0 135 (dk_at dksX3_session_4 8 rfl rfl)
theorem dX3_session_121 : decode cX3_session 121 = .ok (.ireturn, 1) := dk_172 (dk_at dksX3_session_4 11 rfl rfl)
abbrev cX3_goneMany : ByteArray := prog_13_method_31_code
def yX3_goneMany : MethodName := ⟨RX3, "goneMany", "(I)I"⟩
def dkwX3_goneMany_1 : List UInt8 := [167, 0, 4, 3, 96, 61, 132, 3, 1, 167, 255, 227, 28, 172]
abbrev dktX3_goneMany_1 : List UInt8 := dkwX3_goneMany_1 ++ []
def dkwX3_goneMany_0 : List UInt8 := [3, 61, 4, 62, 29, 42, 27, 182, 0, 97, 163, 0, 26, 28, 42, 27, 29, 182, 0, 116, 153, 0, 7, 4]
abbrev dktX3_goneMany_0 : List UInt8 := dkwX3_goneMany_0 ++ dktX3_goneMany_1
theorem dksX3_goneMany_0 : cX3_goneMany.data.toList.drop 0 = dktX3_goneMany_0 := by decide +kernel
theorem dksX3_goneMany_1 : cX3_goneMany.data.toList.drop 24 = dktX3_goneMany_1 := dk_seg dksX3_goneMany_0 24 rfl rfl
theorem dX3_goneMany_0 : decode cX3_goneMany 0 = .ok (.iconst 0, 1) := dk_3 (dk_at dksX3_goneMany_0 0 rfl rfl)
theorem dX3_goneMany_1 : decode cX3_goneMany 1 = .ok (.istore_n 2, 1) := dk_61 (dk_at dksX3_goneMany_0 1 rfl rfl)
theorem dX3_goneMany_2 : decode cX3_goneMany 2 = .ok (.iconst 1, 1) := dk_4 (dk_at dksX3_goneMany_0 2 rfl rfl)
theorem dX3_goneMany_3 : decode cX3_goneMany 3 = .ok (.istore_n 3, 1) := dk_62 (dk_at dksX3_goneMany_0 3 rfl rfl)
theorem dX3_goneMany_4 : decode cX3_goneMany 4 = .ok (.iload_n 3, 1) := dk_29 (dk_at dksX3_goneMany_0 4 rfl rfl)
theorem dX3_goneMany_5 : decode cX3_goneMany 5 = .ok (.aload_n 0, 1) := dk_42 (dk_at dksX3_goneMany_0 5 rfl rfl)
theorem dX3_goneMany_6 : decode cX3_goneMany 6 = .ok (.iload_n 1, 1) := dk_27 (dk_at dksX3_goneMany_0 6 rfl rfl)
theorem dX3_goneMany_7 : decode cX3_goneMany 7 = .ok (.invokevirtual 97, 3) := dk_182 0 97 (dk_at dksX3_goneMany_0 7 rfl rfl)
theorem dX3_goneMany_10 : decode cX3_goneMany 10 = .ok (.if_icmp .gt 26, 3) := dk_163 0 26 (dk_at dksX3_goneMany_0 10 rfl rfl)
theorem dX3_goneMany_13 : decode cX3_goneMany 13 = .ok (.iload_n 2, 1) := dk_28 (dk_at dksX3_goneMany_0 13 rfl rfl)
theorem dX3_goneMany_14 : decode cX3_goneMany 14 = .ok (.aload_n 0, 1) := dk_42 (dk_at dksX3_goneMany_0 14 rfl rfl)
theorem dX3_goneMany_15 : decode cX3_goneMany 15 = .ok (.iload_n 1, 1) := dk_27 (dk_at dksX3_goneMany_0 15 rfl rfl)
theorem dX3_goneMany_16 : decode cX3_goneMany 16 = .ok (.iload_n 3, 1) := dk_29 (dk_at dksX3_goneMany_0 16 rfl rfl)
theorem dX3_goneMany_17 : decode cX3_goneMany 17 = .ok (.invokevirtual 116, 3) := dk_182 0 116 (dk_at dksX3_goneMany_0 17 rfl rfl)
theorem dX3_goneMany_20 : decode cX3_goneMany 20 = .ok (.ifCond .eq 7, 3) := dk_153 0 7 (dk_at dksX3_goneMany_0 20 rfl rfl)
theorem dX3_goneMany_23 : decode cX3_goneMany 23 = .ok (.iconst 1, 1) := dk_4 (dk_at dksX3_goneMany_0 23 rfl rfl)
theorem dX3_goneMany_24 : decode cX3_goneMany 24 = .ok (.goto 4, 3) := dk_167 0 4 (dk_at dksX3_goneMany_1 0 rfl rfl)
theorem dX3_goneMany_27 : decode cX3_goneMany 27 = .ok (.iconst 0, 1) := dk_3 (dk_at dksX3_goneMany_1 3 rfl rfl)
theorem dX3_goneMany_28 : decode cX3_goneMany 28 = .ok (.iadd, 1) := dk_96 (dk_at dksX3_goneMany_1 4 rfl rfl)
theorem dX3_goneMany_29 : decode cX3_goneMany 29 = .ok (.istore_n 2, 1) := dk_61 (dk_at dksX3_goneMany_1 5 rfl rfl)
theorem dX3_goneMany_30 : decode cX3_goneMany 30 = .ok (.iinc 3 1, 3) := dk_132 3 1 (dk_at dksX3_goneMany_1 6 rfl rfl)
theorem dX3_goneMany_33 : decode cX3_goneMany 33 = .ok (.goto (-29), 3) := dk_167 255 227 (dk_at dksX3_goneMany_1 9 rfl rfl)
theorem dX3_goneMany_36 : decode cX3_goneMany 36 = .ok (.iload_n 2, 1) := dk_28 (dk_at dksX3_goneMany_1 12 rfl rfl)
theorem dX3_goneMany_37 : decode cX3_goneMany 37 = .ok (.ireturn, 1) := dk_172 (dk_at dksX3_goneMany_1 13 rfl rfl)
abbrev cX3_otherMany : ByteArray := prog_13_method_32_code
def yX3_otherMany : MethodName := ⟨RX3, "otherMany", "(I)I"⟩
def dkwX3_otherMany_1 : List UInt8 := [167, 0, 4, 3, 96, 61, 132, 3, 1, 167, 255, 227, 28, 172]
abbrev dktX3_otherMany_1 : List UInt8 := dkwX3_otherMany_1 ++ []
def dkwX3_otherMany_0 : List UInt8 := [3, 61, 4, 62, 29, 42, 27, 182, 0, 97, 163, 0, 26, 28, 42, 27, 29, 182, 0, 123, 153, 0, 7, 4]
abbrev dktX3_otherMany_0 : List UInt8 := dkwX3_otherMany_0 ++ dktX3_otherMany_1
theorem dksX3_otherMany_0 : cX3_otherMany.data.toList.drop 0 = dktX3_otherMany_0 := by decide +kernel
theorem dksX3_otherMany_1 : cX3_otherMany.data.toList.drop 24 = dktX3_otherMany_1 := dk_seg dksX3_otherMany_0 24 rfl rfl
theorem dX3_otherMany_0 : decode cX3_otherMany 0 = .ok (.iconst 0, 1) := dk_3 (dk_at dksX3_otherMany_0 0 rfl rfl)
theorem dX3_otherMany_1 : decode cX3_otherMany 1 = .ok (.istore_n 2, 1) := dk_61 (dk_at dksX3_otherMany_0 1 rfl rfl)
theorem dX3_otherMany_2 : decode cX3_otherMany 2 = .ok (.iconst 1, 1) := dk_4 (dk_at dksX3_otherMany_0 2 rfl rfl)
theorem dX3_otherMany_3 : decode cX3_otherMany 3 = .ok (.istore_n 3, 1) := dk_62 (dk_at dksX3_otherMany_0 3 rfl rfl)
theorem dX3_otherMany_4 : decode cX3_otherMany 4 = .ok (.iload_n 3, 1) := dk_29 (dk_at dksX3_otherMany_0 4 rfl rfl)
theorem dX3_otherMany_5 : decode cX3_otherMany 5 = .ok (.aload_n 0, 1) := dk_42 (dk_at dksX3_otherMany_0 5 rfl rfl)
theorem dX3_otherMany_6 : decode cX3_otherMany 6 = .ok (.iload_n 1, 1) := dk_27 (dk_at dksX3_otherMany_0 6 rfl rfl)
theorem dX3_otherMany_7 : decode cX3_otherMany 7 = .ok (.invokevirtual 97, 3) := dk_182 0 97 (dk_at dksX3_otherMany_0 7 rfl rfl)
theorem dX3_otherMany_10 : decode cX3_otherMany 10 = .ok (.if_icmp .gt 26, 3) := dk_163 0 26 (dk_at dksX3_otherMany_0 10 rfl rfl)
theorem dX3_otherMany_13 : decode cX3_otherMany 13 = .ok (.iload_n 2, 1) := dk_28 (dk_at dksX3_otherMany_0 13 rfl rfl)
theorem dX3_otherMany_14 : decode cX3_otherMany 14 = .ok (.aload_n 0, 1) := dk_42 (dk_at dksX3_otherMany_0 14 rfl rfl)
theorem dX3_otherMany_15 : decode cX3_otherMany 15 = .ok (.iload_n 1, 1) := dk_27 (dk_at dksX3_otherMany_0 15 rfl rfl)
theorem dX3_otherMany_16 : decode cX3_otherMany 16 = .ok (.iload_n 3, 1) := dk_29 (dk_at dksX3_otherMany_0 16 rfl rfl)
theorem dX3_otherMany_17 : decode cX3_otherMany 17 = .ok (.invokevirtual 123, 3) := dk_182 0 123 (dk_at dksX3_otherMany_0 17 rfl rfl)
theorem dX3_otherMany_20 : decode cX3_otherMany 20 = .ok (.ifCond .eq 7, 3) := dk_153 0 7 (dk_at dksX3_otherMany_0 20 rfl rfl)
theorem dX3_otherMany_23 : decode cX3_otherMany 23 = .ok (.iconst 1, 1) := dk_4 (dk_at dksX3_otherMany_0 23 rfl rfl)
theorem dX3_otherMany_24 : decode cX3_otherMany 24 = .ok (.goto 4, 3) := dk_167 0 4 (dk_at dksX3_otherMany_1 0 rfl rfl)
theorem dX3_otherMany_27 : decode cX3_otherMany 27 = .ok (.iconst 0, 1) := dk_3 (dk_at dksX3_otherMany_1 3 rfl rfl)
theorem dX3_otherMany_28 : decode cX3_otherMany 28 = .ok (.iadd, 1) := dk_96 (dk_at dksX3_otherMany_1 4 rfl rfl)
theorem dX3_otherMany_29 : decode cX3_otherMany 29 = .ok (.istore_n 2, 1) := dk_61 (dk_at dksX3_otherMany_1 5 rfl rfl)
theorem dX3_otherMany_30 : decode cX3_otherMany 30 = .ok (.iinc 3 1, 3) := dk_132 3 1 (dk_at dksX3_otherMany_1 6 rfl rfl)
theorem dX3_otherMany_33 : decode cX3_otherMany 33 = .ok (.goto (-29), 3) := dk_167 255 227 (dk_at dksX3_otherMany_1 9 rfl rfl)
theorem dX3_otherMany_36 : decode cX3_otherMany 36 = .ok (.iload_n 2, 1) := dk_28 (dk_at dksX3_otherMany_1 12 rfl rfl)
theorem dX3_otherMany_37 : decode cX3_otherMany 37 = .ok (.ireturn, 1) := dk_172 (dk_at dksX3_otherMany_1 13 rfl rfl)
abbrev cX3_newMany : ByteArray := prog_13_method_33_code
def yX3_newMany : MethodName := ⟨RX3, "newMany", "(I)I"⟩
def dkwX3_newMany_2 : List UInt8 := [182, 0, 62, 164, 0, 7, 4, 167, 0, 4, 3, 96, 61, 132, 3, 1, 167, 255, 200, 28, 172]
abbrev dktX3_newMany_2 : List UInt8 := dkwX3_newMany_2 ++ []
def dkwX3_newMany_1 : List UInt8 := [162, 0, 41, 28, 42, 42, 27, 182, 0, 87, 29, 3, 182, 0, 103, 42, 27, 184, 0, 84, 8, 96]
abbrev dktX3_newMany_1 : List UInt8 := dkwX3_newMany_1 ++ dktX3_newMany_2
def dkwX3_newMany_0 : List UInt8 := [3, 61, 3, 62, 42, 27, 182, 0, 126, 153, 0, 54, 29, 42, 42, 27, 182, 0, 87, 182, 0, 100]
abbrev dktX3_newMany_0 : List UInt8 := dkwX3_newMany_0 ++ dktX3_newMany_1
theorem dksX3_newMany_0 : cX3_newMany.data.toList.drop 0 = dktX3_newMany_0 := by decide +kernel
theorem dksX3_newMany_1 : cX3_newMany.data.toList.drop 22 = dktX3_newMany_1 := dk_seg dksX3_newMany_0 22 rfl rfl
theorem dksX3_newMany_2 : cX3_newMany.data.toList.drop 44 = dktX3_newMany_2 := dk_seg dksX3_newMany_1 22 rfl rfl
theorem dX3_newMany_0 : decode cX3_newMany 0 = .ok (.iconst 0, 1) := dk_3 (dk_at dksX3_newMany_0 0 rfl rfl)
theorem dX3_newMany_1 : decode cX3_newMany 1 = .ok (.istore_n 2, 1) := dk_61 (dk_at dksX3_newMany_0 1 rfl rfl)
theorem dX3_newMany_2 : decode cX3_newMany 2 = .ok (.iconst 0, 1) := dk_3 (dk_at dksX3_newMany_0 2 rfl rfl)
theorem dX3_newMany_3 : decode cX3_newMany 3 = .ok (.istore_n 3, 1) := dk_62 (dk_at dksX3_newMany_0 3 rfl rfl)
theorem dX3_newMany_4 : decode cX3_newMany 4 = .ok (.aload_n 0, 1) := dk_42 (dk_at dksX3_newMany_0 4 rfl rfl)
theorem dX3_newMany_5 : decode cX3_newMany 5 = .ok (.iload_n 1, 1) := dk_27 (dk_at dksX3_newMany_0 5 rfl rfl)
theorem dX3_newMany_6 : decode cX3_newMany 6 = .ok (.invokevirtual 126, 3) := dk_182 0 126 (dk_at dksX3_newMany_0 6 rfl rfl)
theorem dX3_newMany_9 : decode cX3_newMany 9 = .ok (.ifCond .eq 54, 3) := dk_153 0 54 (dk_at dksX3_newMany_0 9 rfl rfl)
theorem dX3_newMany_12 : decode cX3_newMany 12 = .ok (.iload_n 3, 1) := dk_29 (dk_at dksX3_newMany_0 12 rfl rfl)
theorem dX3_newMany_13 : decode cX3_newMany 13 = .ok (.aload_n 0, 1) := dk_42 (dk_at dksX3_newMany_0 13 rfl rfl)
theorem dX3_newMany_14 : decode cX3_newMany 14 = .ok (.aload_n 0, 1) := dk_42 (dk_at dksX3_newMany_0 14 rfl rfl)
theorem dX3_newMany_15 : decode cX3_newMany 15 = .ok (.iload_n 1, 1) := dk_27 (dk_at dksX3_newMany_0 15 rfl rfl)
theorem dX3_newMany_16 : decode cX3_newMany 16 = .ok (.invokevirtual 87, 3) := dk_182 0 87 (dk_at dksX3_newMany_0 16 rfl rfl)
theorem dX3_newMany_19 : decode cX3_newMany 19 = .ok (.invokevirtual 100, 3) := dk_182 0 100 (dk_at dksX3_newMany_0 19 rfl rfl)
theorem dX3_newMany_22 : decode cX3_newMany 22 = .ok (.if_icmp .ge 41, 3) := dk_162 0 41 (dk_at dksX3_newMany_1 0 rfl rfl)
theorem dX3_newMany_25 : decode cX3_newMany 25 = .ok (.iload_n 2, 1) := dk_28 (dk_at dksX3_newMany_1 3 rfl rfl)
theorem dX3_newMany_26 : decode cX3_newMany 26 = .ok (.aload_n 0, 1) := dk_42 (dk_at dksX3_newMany_1 4 rfl rfl)
theorem dX3_newMany_27 : decode cX3_newMany 27 = .ok (.aload_n 0, 1) := dk_42 (dk_at dksX3_newMany_1 5 rfl rfl)
theorem dX3_newMany_28 : decode cX3_newMany 28 = .ok (.iload_n 1, 1) := dk_27 (dk_at dksX3_newMany_1 6 rfl rfl)
theorem dX3_newMany_29 : decode cX3_newMany 29 = .ok (.invokevirtual 87, 3) := dk_182 0 87 (dk_at dksX3_newMany_1 7 rfl rfl)
theorem dX3_newMany_32 : decode cX3_newMany 32 = .ok (.iload_n 3, 1) := dk_29 (dk_at dksX3_newMany_1 10 rfl rfl)
theorem dX3_newMany_33 : decode cX3_newMany 33 = .ok (.iconst 0, 1) := dk_3 (dk_at dksX3_newMany_1 11 rfl rfl)
theorem dX3_newMany_34 : decode cX3_newMany 34 = .ok (.invokevirtual 103, 3) := dk_182 0 103 (dk_at dksX3_newMany_1 12 rfl rfl)
theorem dX3_newMany_37 : decode cX3_newMany 37 = .ok (.aload_n 0, 1) := dk_42 (dk_at dksX3_newMany_1 15 rfl rfl)
theorem dX3_newMany_38 : decode cX3_newMany 38 = .ok (.iload_n 1, 1) := dk_27 (dk_at dksX3_newMany_1 16 rfl rfl)
theorem dX3_newMany_39 : decode cX3_newMany 39 = .ok (.invokestatic 84, 3) := dk_184 0 84 (dk_at dksX3_newMany_1 17 rfl rfl)
theorem dX3_newMany_42 : decode cX3_newMany 42 = .ok (.iconst 5, 1) := dk_8 (dk_at dksX3_newMany_1 20 rfl rfl)
theorem dX3_newMany_43 : decode cX3_newMany 43 = .ok (.iadd, 1) := dk_96 (dk_at dksX3_newMany_1 21 rfl rfl)
theorem dX3_newMany_44 : decode cX3_newMany 44 = .ok (.invokevirtual 62, 3) := dk_182 0 62 (dk_at dksX3_newMany_2 0 rfl rfl)
theorem dX3_newMany_47 : decode cX3_newMany 47 = .ok (.if_icmp .le 7, 3) := dk_164 0 7 (dk_at dksX3_newMany_2 3 rfl rfl)
theorem dX3_newMany_50 : decode cX3_newMany 50 = .ok (.iconst 1, 1) := dk_4 (dk_at dksX3_newMany_2 6 rfl rfl)
theorem dX3_newMany_51 : decode cX3_newMany 51 = .ok (.goto 4, 3) := dk_167 0 4 (dk_at dksX3_newMany_2 7 rfl rfl)
theorem dX3_newMany_54 : decode cX3_newMany 54 = .ok (.iconst 0, 1) := dk_3 (dk_at dksX3_newMany_2 10 rfl rfl)
theorem dX3_newMany_55 : decode cX3_newMany 55 = .ok (.iadd, 1) := dk_96 (dk_at dksX3_newMany_2 11 rfl rfl)
theorem dX3_newMany_56 : decode cX3_newMany 56 = .ok (.istore_n 2, 1) := dk_61 (dk_at dksX3_newMany_2 12 rfl rfl)
theorem dX3_newMany_57 : decode cX3_newMany 57 = .ok (.iinc 3 1, 3) := dk_132 3 1 (dk_at dksX3_newMany_2 13 rfl rfl)
theorem dX3_newMany_60 : decode cX3_newMany 60 = .ok (.goto (-56), 3) := dk_167 255 200 (dk_at dksX3_newMany_2 16 rfl rfl)
theorem dX3_newMany_63 : decode cX3_newMany 63 = .ok (.iload_n 2, 1) := dk_28 (dk_at dksX3_newMany_2 19 rfl rfl)
theorem dX3_newMany_64 : decode cX3_newMany 64 = .ok (.ireturn, 1) := dk_172 (dk_at dksX3_newMany_2 20 rfl rfl)
abbrev cX3_entry : ByteArray := prog_13_method_133_code
def yX3_entry : MethodName := ⟨RX3, "entry", "(III)I"⟩
def dkwX3_entry_5 : List UInt8 := [182, 0, 113, 4, 182, 0, 103, 172, 21, 4, 153, 0, 7, 3, 167, 0, 9, 42, 27, 28, 182, 0, 120, 172]
abbrev dktX3_entry_5 : List UInt8 := dkwX3_entry_5 ++ []
def dkwX3_entry_4 : List UInt8 := [167, 0, 4, 3, 172, 21, 4, 153, 0, 7, 3, 167, 0, 19, 42, 42, 27, 182, 0, 87, 42, 27, 28]
abbrev dktX3_entry_4 : List UInt8 := dkwX3_entry_4 ++ dktX3_entry_5
def dkwX3_entry_3 : List UInt8 := [42, 27, 28, 3, 182, 0, 107, 172, 42, 27, 28, 4, 182, 0, 107, 172, 21, 4, 153, 0, 7, 4]
abbrev dktX3_entry_3 : List UInt8 := dkwX3_entry_3 ++ dktX3_entry_4
def dkwX3_entry_2 : List UInt8 := [170, 0, 0, 0, 0, 0, 84, 0, 0, 0, 0, 0, 0, 0, 3, 0, 0, 0, 31, 0, 0, 0, 39, 0, 0, 0, 47, 0, 0, 0, 58]
abbrev dktX3_entry_2 : List UInt8 := dkwX3_entry_2 ++ dktX3_entry_3
def dkwX3_entry_1 : List UInt8 := [42, 27, 28, 182, 0, 116, 54, 4, 29]
abbrev dktX3_entry_1 : List UInt8 := dkwX3_entry_1 ++ dktX3_entry_2
def dkwX3_entry_0 : List UInt8 := [42, 42, 27, 28, 182, 0, 203, 29, 133, 9, 20, 1, 230, 184, 0, 70, 182, 0, 192, 154, 0, 5, 3, 172]
abbrev dktX3_entry_0 : List UInt8 := dkwX3_entry_0 ++ dktX3_entry_1
theorem dksX3_entry_0 : cX3_entry.data.toList.drop 0 = dktX3_entry_0 := by decide +kernel
theorem dksX3_entry_1 : cX3_entry.data.toList.drop 24 = dktX3_entry_1 := dk_seg dksX3_entry_0 24 rfl rfl
theorem dksX3_entry_2 : cX3_entry.data.toList.drop 33 = dktX3_entry_2 := dk_seg dksX3_entry_1 9 rfl rfl
theorem dksX3_entry_3 : cX3_entry.data.toList.drop 64 = dktX3_entry_3 := dk_seg dksX3_entry_2 31 rfl rfl
theorem dksX3_entry_4 : cX3_entry.data.toList.drop 86 = dktX3_entry_4 := dk_seg dksX3_entry_3 22 rfl rfl
theorem dksX3_entry_5 : cX3_entry.data.toList.drop 109 = dktX3_entry_5 := dk_seg dksX3_entry_4 23 rfl rfl
theorem dX3_entry_0 : decode cX3_entry 0 = .ok (.aload_n 0, 1) := dk_42 (dk_at dksX3_entry_0 0 rfl rfl)
theorem dX3_entry_1 : decode cX3_entry 1 = .ok (.aload_n 0, 1) := dk_42 (dk_at dksX3_entry_0 1 rfl rfl)
theorem dX3_entry_2 : decode cX3_entry 2 = .ok (.iload_n 1, 1) := dk_27 (dk_at dksX3_entry_0 2 rfl rfl)
theorem dX3_entry_3 : decode cX3_entry 3 = .ok (.iload_n 2, 1) := dk_28 (dk_at dksX3_entry_0 3 rfl rfl)
theorem dX3_entry_4 : decode cX3_entry 4 = .ok (.invokevirtual 203, 3) := dk_182 0 203 (dk_at dksX3_entry_0 4 rfl rfl)
theorem dX3_entry_7 : decode cX3_entry 7 = .ok (.iload_n 3, 1) := dk_29 (dk_at dksX3_entry_0 7 rfl rfl)
theorem dX3_entry_8 : decode cX3_entry 8 = .ok (.i2l, 1) := dk_133 (dk_at dksX3_entry_0 8 rfl rfl)
theorem dX3_entry_9 : decode cX3_entry 9 = .ok (.lconst 0, 1) := dk_9 (dk_at dksX3_entry_0 9 rfl rfl)
theorem dX3_entry_10 : decode cX3_entry 10 = .ok (.ldc2_w 486, 3) := dk_20 1 230 (dk_at dksX3_entry_0 10 rfl rfl)
theorem dX3_entry_13 : decode cX3_entry 13 = .ok (.invokestatic 70, 3) := dk_184 0 70 (dk_at dksX3_entry_0 13 rfl rfl)
theorem dX3_entry_16 : decode cX3_entry 16 = .ok (.invokevirtual 192, 3) := dk_182 0 192 (dk_at dksX3_entry_0 16 rfl rfl)
theorem dX3_entry_19 : decode cX3_entry 19 = .ok (.ifCond .ne 5, 3) := dk_154 0 5 (dk_at dksX3_entry_0 19 rfl rfl)
theorem dX3_entry_22 : decode cX3_entry 22 = .ok (.iconst 0, 1) := dk_3 (dk_at dksX3_entry_0 22 rfl rfl)
theorem dX3_entry_23 : decode cX3_entry 23 = .ok (.ireturn, 1) := dk_172 (dk_at dksX3_entry_0 23 rfl rfl)
theorem dX3_entry_24 : decode cX3_entry 24 = .ok (.aload_n 0, 1) := dk_42 (dk_at dksX3_entry_1 0 rfl rfl)
theorem dX3_entry_25 : decode cX3_entry 25 = .ok (.iload_n 1, 1) := dk_27 (dk_at dksX3_entry_1 1 rfl rfl)
theorem dX3_entry_26 : decode cX3_entry 26 = .ok (.iload_n 2, 1) := dk_28 (dk_at dksX3_entry_1 2 rfl rfl)
theorem dX3_entry_27 : decode cX3_entry 27 = .ok (.invokevirtual 116, 3) := dk_182 0 116 (dk_at dksX3_entry_1 3 rfl rfl)
theorem dX3_entry_30 : decode cX3_entry 30 = .ok (.istore 4, 2) := dk_54 4 (dk_at dksX3_entry_1 6 rfl rfl)
theorem dX3_entry_32 : decode cX3_entry 32 = .ok (.iload_n 3, 1) := dk_29 (dk_at dksX3_entry_1 8 rfl rfl)
theorem dX3_entry_33 : decode cX3_entry 33 = .ok (.tableswitch 84 0 3 #[31, 39, 47, 58], 31) := by decide +kernel
theorem dX3_entry_64 : decode cX3_entry 64 = .ok (.aload_n 0, 1) := dk_42 (dk_at dksX3_entry_3 0 rfl rfl)
theorem dX3_entry_65 : decode cX3_entry 65 = .ok (.iload_n 1, 1) := dk_27 (dk_at dksX3_entry_3 1 rfl rfl)
theorem dX3_entry_66 : decode cX3_entry 66 = .ok (.iload_n 2, 1) := dk_28 (dk_at dksX3_entry_3 2 rfl rfl)
theorem dX3_entry_67 : decode cX3_entry 67 = .ok (.iconst 0, 1) := dk_3 (dk_at dksX3_entry_3 3 rfl rfl)
theorem dX3_entry_68 : decode cX3_entry 68 = .ok (.invokevirtual 107, 3) := dk_182 0 107 (dk_at dksX3_entry_3 4 rfl rfl)
theorem dX3_entry_71 : decode cX3_entry 71 = .ok (.ireturn, 1) := dk_172 (dk_at dksX3_entry_3 7 rfl rfl)
theorem dX3_entry_72 : decode cX3_entry 72 = .ok (.aload_n 0, 1) := dk_42 (dk_at dksX3_entry_3 8 rfl rfl)
theorem dX3_entry_73 : decode cX3_entry 73 = .ok (.iload_n 1, 1) := dk_27 (dk_at dksX3_entry_3 9 rfl rfl)
theorem dX3_entry_74 : decode cX3_entry 74 = .ok (.iload_n 2, 1) := dk_28 (dk_at dksX3_entry_3 10 rfl rfl)
theorem dX3_entry_75 : decode cX3_entry 75 = .ok (.iconst 1, 1) := dk_4 (dk_at dksX3_entry_3 11 rfl rfl)
theorem dX3_entry_76 : decode cX3_entry 76 = .ok (.invokevirtual 107, 3) := dk_182 0 107 (dk_at dksX3_entry_3 12 rfl rfl)
theorem dX3_entry_79 : decode cX3_entry 79 = .ok (.ireturn, 1) := dk_172 (dk_at dksX3_entry_3 15 rfl rfl)
theorem dX3_entry_80 : decode cX3_entry 80 = .ok (.iload 4, 2) := dk_21 4 (dk_at dksX3_entry_3 16 rfl rfl)
theorem dX3_entry_82 : decode cX3_entry 82 = .ok (.ifCond .eq 7, 3) := dk_153 0 7 (dk_at dksX3_entry_3 18 rfl rfl)
theorem dX3_entry_85 : decode cX3_entry 85 = .ok (.iconst 1, 1) := dk_4 (dk_at dksX3_entry_3 21 rfl rfl)
theorem dX3_entry_86 : decode cX3_entry 86 = .ok (.goto 4, 3) := dk_167 0 4 (dk_at dksX3_entry_4 0 rfl rfl)
theorem dX3_entry_89 : decode cX3_entry 89 = .ok (.iconst 0, 1) := dk_3 (dk_at dksX3_entry_4 3 rfl rfl)
theorem dX3_entry_90 : decode cX3_entry 90 = .ok (.ireturn, 1) := dk_172 (dk_at dksX3_entry_4 4 rfl rfl)
theorem dX3_entry_91 : decode cX3_entry 91 = .ok (.iload 4, 2) := dk_21 4 (dk_at dksX3_entry_4 5 rfl rfl)
theorem dX3_entry_93 : decode cX3_entry 93 = .ok (.ifCond .eq 7, 3) := dk_153 0 7 (dk_at dksX3_entry_4 7 rfl rfl)
theorem dX3_entry_96 : decode cX3_entry 96 = .ok (.iconst 0, 1) := dk_3 (dk_at dksX3_entry_4 10 rfl rfl)
theorem dX3_entry_97 : decode cX3_entry 97 = .ok (.goto 19, 3) := dk_167 0 19 (dk_at dksX3_entry_4 11 rfl rfl)
theorem dX3_entry_100 : decode cX3_entry 100 = .ok (.aload_n 0, 1) := dk_42 (dk_at dksX3_entry_4 14 rfl rfl)
theorem dX3_entry_101 : decode cX3_entry 101 = .ok (.aload_n 0, 1) := dk_42 (dk_at dksX3_entry_4 15 rfl rfl)
theorem dX3_entry_102 : decode cX3_entry 102 = .ok (.iload_n 1, 1) := dk_27 (dk_at dksX3_entry_4 16 rfl rfl)
theorem dX3_entry_103 : decode cX3_entry 103 = .ok (.invokevirtual 87, 3) := dk_182 0 87 (dk_at dksX3_entry_4 17 rfl rfl)
theorem dX3_entry_106 : decode cX3_entry 106 = .ok (.aload_n 0, 1) := dk_42 (dk_at dksX3_entry_4 20 rfl rfl)
theorem dX3_entry_107 : decode cX3_entry 107 = .ok (.iload_n 1, 1) := dk_27 (dk_at dksX3_entry_4 21 rfl rfl)
theorem dX3_entry_108 : decode cX3_entry 108 = .ok (.iload_n 2, 1) := dk_28 (dk_at dksX3_entry_4 22 rfl rfl)
theorem dX3_entry_109 : decode cX3_entry 109 = .ok (.invokevirtual 113, 3) := dk_182 0 113 (dk_at dksX3_entry_5 0 rfl rfl)
theorem dX3_entry_112 : decode cX3_entry 112 = .ok (.iconst 1, 1) := dk_4 (dk_at dksX3_entry_5 3 rfl rfl)
theorem dX3_entry_113 : decode cX3_entry 113 = .ok (.invokevirtual 103, 3) := dk_182 0 103 (dk_at dksX3_entry_5 4 rfl rfl)
theorem dX3_entry_116 : decode cX3_entry 116 = .ok (.ireturn, 1) := dk_172 (dk_at dksX3_entry_5 7 rfl rfl)
theorem dX3_entry_117 : decode cX3_entry 117 = .ok (.iload 4, 2) := dk_21 4 (dk_at dksX3_entry_5 8 rfl rfl)
theorem dX3_entry_119 : decode cX3_entry 119 = .ok (.ifCond .eq 7, 3) := dk_153 0 7 (dk_at dksX3_entry_5 10 rfl rfl)
theorem dX3_entry_122 : decode cX3_entry 122 = .ok (.iconst 0, 1) := dk_3 (dk_at dksX3_entry_5 13 rfl rfl)
theorem dX3_entry_123 : decode cX3_entry 123 = .ok (.goto 9, 3) := dk_167 0 9 (dk_at dksX3_entry_5 14 rfl rfl)
theorem dX3_entry_126 : decode cX3_entry 126 = .ok (.aload_n 0, 1) := dk_42 (dk_at dksX3_entry_5 17 rfl rfl)
theorem dX3_entry_127 : decode cX3_entry 127 = .ok (.iload_n 1, 1) := dk_27 (dk_at dksX3_entry_5 18 rfl rfl)
theorem dX3_entry_128 : decode cX3_entry 128 = .ok (.iload_n 2, 1) := dk_28 (dk_at dksX3_entry_5 19 rfl rfl)
theorem dX3_entry_129 : decode cX3_entry 129 = .ok (.invokevirtual 120, 3) := dk_182 0 120 (dk_at dksX3_entry_5 20 rfl rfl)
theorem dX3_entry_132 : decode cX3_entry 132 = .ok (.ireturn, 1) := dk_172 (dk_at dksX3_entry_5 23 rfl rfl)
abbrev cX3_numberOf : ByteArray := prog_13_method_135_code
def yX3_numberOf : MethodName := ⟨RX3, "numberOf", "(II)I"⟩
def dkwX3_numberOf_0 : List UInt8 := [42, 42, 27, 182, 0, 93, 182, 1, 10, 153, 0, 12, 42, 27, 28, 182, 1, 246, 167, 0, 4, 3, 172]
abbrev dktX3_numberOf_0 : List UInt8 := dkwX3_numberOf_0 ++ []
theorem dksX3_numberOf_0 : cX3_numberOf.data.toList.drop 0 = dktX3_numberOf_0 := by decide +kernel
theorem dX3_numberOf_0 : decode cX3_numberOf 0 = .ok (.aload_n 0, 1) := dk_42 (dk_at dksX3_numberOf_0 0 rfl rfl)
theorem dX3_numberOf_1 : decode cX3_numberOf 1 = .ok (.aload_n 0, 1) := dk_42 (dk_at dksX3_numberOf_0 1 rfl rfl)
theorem dX3_numberOf_2 : decode cX3_numberOf 2 = .ok (.iload_n 1, 1) := dk_27 (dk_at dksX3_numberOf_0 2 rfl rfl)
theorem dX3_numberOf_3 : decode cX3_numberOf 3 = .ok (.invokevirtual 93, 3) := dk_182 0 93 (dk_at dksX3_numberOf_0 3 rfl rfl)
theorem dX3_numberOf_6 : decode cX3_numberOf 6 = .ok (.invokevirtual 266, 3) := dk_182 1 10 (dk_at dksX3_numberOf_0 6 rfl rfl)
theorem dX3_numberOf_9 : decode cX3_numberOf 9 = .ok (.ifCond .eq 12, 3) := dk_153 0 12 (dk_at dksX3_numberOf_0 9 rfl rfl)
theorem dX3_numberOf_12 : decode cX3_numberOf 12 = .ok (.aload_n 0, 1) := dk_42 (dk_at dksX3_numberOf_0 12 rfl rfl)
theorem dX3_numberOf_13 : decode cX3_numberOf 13 = .ok (.iload_n 1, 1) := dk_27 (dk_at dksX3_numberOf_0 13 rfl rfl)
theorem dX3_numberOf_14 : decode cX3_numberOf 14 = .ok (.iload_n 2, 1) := dk_28 (dk_at dksX3_numberOf_0 14 rfl rfl)
theorem dX3_numberOf_15 : decode cX3_numberOf 15 = .ok (.invokevirtual 502, 3) := dk_182 1 246 (dk_at dksX3_numberOf_0 15 rfl rfl)
theorem dX3_numberOf_18 : decode cX3_numberOf 18 = .ok (.goto 4, 3) := dk_167 0 4 (dk_at dksX3_numberOf_0 18 rfl rfl)
theorem dX3_numberOf_21 : decode cX3_numberOf 21 = .ok (.iconst 0, 1) := dk_3 (dk_at dksX3_numberOf_0 21 rfl rfl)
theorem dX3_numberOf_22 : decode cX3_numberOf 22 = .ok (.ireturn, 1) := dk_172 (dk_at dksX3_numberOf_0 22 rfl rfl)
abbrev cX3_entryWith : ByteArray := prog_13_method_134_code
def yX3_entryWith : MethodName := ⟨RX3, "entryWith", "(II)I"⟩
def dkwX3_entryWith_1 : List UInt8 := [132, 3, 1, 167, 255, 231, 2, 172]
abbrev dktX3_entryWith_1 : List UInt8 := dkwX3_entryWith_1 ++ []
def dkwX3_entryWith_0 : List UInt8 := [4, 62, 29, 42, 27, 182, 0, 97, 163, 0, 22, 42, 27, 29, 3, 182, 0, 107, 28, 160, 0, 5, 29, 172]
abbrev dktX3_entryWith_0 : List UInt8 := dkwX3_entryWith_0 ++ dktX3_entryWith_1
theorem dksX3_entryWith_0 : cX3_entryWith.data.toList.drop 0 = dktX3_entryWith_0 := by decide +kernel
theorem dksX3_entryWith_1 : cX3_entryWith.data.toList.drop 24 = dktX3_entryWith_1 := dk_seg dksX3_entryWith_0 24 rfl rfl
theorem dX3_entryWith_0 : decode cX3_entryWith 0 = .ok (.iconst 1, 1) := dk_4 (dk_at dksX3_entryWith_0 0 rfl rfl)
theorem dX3_entryWith_1 : decode cX3_entryWith 1 = .ok (.istore_n 3, 1) := dk_62 (dk_at dksX3_entryWith_0 1 rfl rfl)
theorem dX3_entryWith_2 : decode cX3_entryWith 2 = .ok (.iload_n 3, 1) := dk_29 (dk_at dksX3_entryWith_0 2 rfl rfl)
theorem dX3_entryWith_3 : decode cX3_entryWith 3 = .ok (.aload_n 0, 1) := dk_42 (dk_at dksX3_entryWith_0 3 rfl rfl)
theorem dX3_entryWith_4 : decode cX3_entryWith 4 = .ok (.iload_n 1, 1) := dk_27 (dk_at dksX3_entryWith_0 4 rfl rfl)
theorem dX3_entryWith_5 : decode cX3_entryWith 5 = .ok (.invokevirtual 97, 3) := dk_182 0 97 (dk_at dksX3_entryWith_0 5 rfl rfl)
theorem dX3_entryWith_8 : decode cX3_entryWith 8 = .ok (.if_icmp .gt 22, 3) := dk_163 0 22 (dk_at dksX3_entryWith_0 8 rfl rfl)
theorem dX3_entryWith_11 : decode cX3_entryWith 11 = .ok (.aload_n 0, 1) := dk_42 (dk_at dksX3_entryWith_0 11 rfl rfl)
theorem dX3_entryWith_12 : decode cX3_entryWith 12 = .ok (.iload_n 1, 1) := dk_27 (dk_at dksX3_entryWith_0 12 rfl rfl)
theorem dX3_entryWith_13 : decode cX3_entryWith 13 = .ok (.iload_n 3, 1) := dk_29 (dk_at dksX3_entryWith_0 13 rfl rfl)
theorem dX3_entryWith_14 : decode cX3_entryWith 14 = .ok (.iconst 0, 1) := dk_3 (dk_at dksX3_entryWith_0 14 rfl rfl)
theorem dX3_entryWith_15 : decode cX3_entryWith 15 = .ok (.invokevirtual 107, 3) := dk_182 0 107 (dk_at dksX3_entryWith_0 15 rfl rfl)
theorem dX3_entryWith_18 : decode cX3_entryWith 18 = .ok (.iload_n 2, 1) := dk_28 (dk_at dksX3_entryWith_0 18 rfl rfl)
theorem dX3_entryWith_19 : decode cX3_entryWith 19 = .ok (.if_icmp .ne 5, 3) := dk_160 0 5 (dk_at dksX3_entryWith_0 19 rfl rfl)
theorem dX3_entryWith_22 : decode cX3_entryWith 22 = .ok (.iload_n 3, 1) := dk_29 (dk_at dksX3_entryWith_0 22 rfl rfl)
theorem dX3_entryWith_23 : decode cX3_entryWith 23 = .ok (.ireturn, 1) := dk_172 (dk_at dksX3_entryWith_0 23 rfl rfl)
theorem dX3_entryWith_24 : decode cX3_entryWith 24 = .ok (.iinc 3 1, 3) := dk_132 3 1 (dk_at dksX3_entryWith_1 0 rfl rfl)
theorem dX3_entryWith_27 : decode cX3_entryWith 27 = .ok (.goto (-25), 3) := dk_167 255 231 (dk_at dksX3_entryWith_1 3 rfl rfl)
theorem dX3_entryWith_30 : decode cX3_entryWith 30 = .ok (.iconst (-1), 1) := dk_2 (dk_at dksX3_entryWith_1 6 rfl rfl)
theorem dX3_entryWith_31 : decode cX3_entryWith 31 = .ok (.ireturn, 1) := dk_172 (dk_at dksX3_entryWith_1 7 rfl rfl)
abbrev cX3_numberThen : ByteArray := prog_13_method_136_code
def yX3_numberThen : MethodName := ⟨RX3, "numberThen", "(II)I"⟩
def dkwX3_numberThen_1 : List UInt8 := [2, 172, 42, 27, 4, 28, 182, 0, 250, 172]
abbrev dktX3_numberThen_1 : List UInt8 := dkwX3_numberThen_1 ++ []
def dkwX3_numberThen_0 : List UInt8 := [42, 42, 27, 28, 182, 0, 203, 182, 1, 10, 154, 0, 5, 3, 172, 42, 27, 28, 182, 0, 116, 153, 0, 5]
abbrev dktX3_numberThen_0 : List UInt8 := dkwX3_numberThen_0 ++ dktX3_numberThen_1
theorem dksX3_numberThen_0 : cX3_numberThen.data.toList.drop 0 = dktX3_numberThen_0 := by decide +kernel
theorem dksX3_numberThen_1 : cX3_numberThen.data.toList.drop 24 = dktX3_numberThen_1 := dk_seg dksX3_numberThen_0 24 rfl rfl
theorem dX3_numberThen_0 : decode cX3_numberThen 0 = .ok (.aload_n 0, 1) := dk_42 (dk_at dksX3_numberThen_0 0 rfl rfl)
theorem dX3_numberThen_1 : decode cX3_numberThen 1 = .ok (.aload_n 0, 1) := dk_42 (dk_at dksX3_numberThen_0 1 rfl rfl)
theorem dX3_numberThen_2 : decode cX3_numberThen 2 = .ok (.iload_n 1, 1) := dk_27 (dk_at dksX3_numberThen_0 2 rfl rfl)
theorem dX3_numberThen_3 : decode cX3_numberThen 3 = .ok (.iload_n 2, 1) := dk_28 (dk_at dksX3_numberThen_0 3 rfl rfl)
theorem dX3_numberThen_4 : decode cX3_numberThen 4 = .ok (.invokevirtual 203, 3) := dk_182 0 203 (dk_at dksX3_numberThen_0 4 rfl rfl)
theorem dX3_numberThen_7 : decode cX3_numberThen 7 = .ok (.invokevirtual 266, 3) := dk_182 1 10 (dk_at dksX3_numberThen_0 7 rfl rfl)
theorem dX3_numberThen_10 : decode cX3_numberThen 10 = .ok (.ifCond .ne 5, 3) := dk_154 0 5 (dk_at dksX3_numberThen_0 10 rfl rfl)
theorem dX3_numberThen_13 : decode cX3_numberThen 13 = .ok (.iconst 0, 1) := dk_3 (dk_at dksX3_numberThen_0 13 rfl rfl)
theorem dX3_numberThen_14 : decode cX3_numberThen 14 = .ok (.ireturn, 1) := dk_172 (dk_at dksX3_numberThen_0 14 rfl rfl)
theorem dX3_numberThen_15 : decode cX3_numberThen 15 = .ok (.aload_n 0, 1) := dk_42 (dk_at dksX3_numberThen_0 15 rfl rfl)
theorem dX3_numberThen_16 : decode cX3_numberThen 16 = .ok (.iload_n 1, 1) := dk_27 (dk_at dksX3_numberThen_0 16 rfl rfl)
theorem dX3_numberThen_17 : decode cX3_numberThen 17 = .ok (.iload_n 2, 1) := dk_28 (dk_at dksX3_numberThen_0 17 rfl rfl)
theorem dX3_numberThen_18 : decode cX3_numberThen 18 = .ok (.invokevirtual 116, 3) := dk_182 0 116 (dk_at dksX3_numberThen_0 18 rfl rfl)
theorem dX3_numberThen_21 : decode cX3_numberThen 21 = .ok (.ifCond .eq 5, 3) := dk_153 0 5 (dk_at dksX3_numberThen_0 21 rfl rfl)
theorem dX3_numberThen_24 : decode cX3_numberThen 24 = .ok (.iconst (-1), 1) := dk_2 (dk_at dksX3_numberThen_1 0 rfl rfl)
theorem dX3_numberThen_25 : decode cX3_numberThen 25 = .ok (.ireturn, 1) := dk_172 (dk_at dksX3_numberThen_1 1 rfl rfl)
theorem dX3_numberThen_26 : decode cX3_numberThen 26 = .ok (.aload_n 0, 1) := dk_42 (dk_at dksX3_numberThen_1 2 rfl rfl)
theorem dX3_numberThen_27 : decode cX3_numberThen 27 = .ok (.iload_n 1, 1) := dk_27 (dk_at dksX3_numberThen_1 3 rfl rfl)
theorem dX3_numberThen_28 : decode cX3_numberThen 28 = .ok (.iconst 1, 1) := dk_4 (dk_at dksX3_numberThen_1 4 rfl rfl)
theorem dX3_numberThen_29 : decode cX3_numberThen 29 = .ok (.iload_n 2, 1) := dk_28 (dk_at dksX3_numberThen_1 5 rfl rfl)
theorem dX3_numberThen_30 : decode cX3_numberThen 30 = .ok (.invokevirtual 250, 3) := dk_182 0 250 (dk_at dksX3_numberThen_1 6 rfl rfl)
theorem dX3_numberThen_33 : decode cX3_numberThen 33 = .ok (.ireturn, 1) := dk_172 (dk_at dksX3_numberThen_1 9 rfl rfl)
abbrev cX3_pending : ByteArray := prog_13_method_137_code
def yX3_pending : MethodName := ⟨RX3, "pending", "(I)I"⟩
def dkwX3_pending_0 : List UInt8 := [42, 42, 27, 182, 0, 93, 182, 1, 10, 153, 0, 11, 42, 27, 182, 1, 249, 167, 0, 4, 3, 172]
abbrev dktX3_pending_0 : List UInt8 := dkwX3_pending_0 ++ []
theorem dksX3_pending_0 : cX3_pending.data.toList.drop 0 = dktX3_pending_0 := by decide +kernel
theorem dX3_pending_0 : decode cX3_pending 0 = .ok (.aload_n 0, 1) := dk_42 (dk_at dksX3_pending_0 0 rfl rfl)
theorem dX3_pending_1 : decode cX3_pending 1 = .ok (.aload_n 0, 1) := dk_42 (dk_at dksX3_pending_0 1 rfl rfl)
theorem dX3_pending_2 : decode cX3_pending 2 = .ok (.iload_n 1, 1) := dk_27 (dk_at dksX3_pending_0 2 rfl rfl)
theorem dX3_pending_3 : decode cX3_pending 3 = .ok (.invokevirtual 93, 3) := dk_182 0 93 (dk_at dksX3_pending_0 3 rfl rfl)
theorem dX3_pending_6 : decode cX3_pending 6 = .ok (.invokevirtual 266, 3) := dk_182 1 10 (dk_at dksX3_pending_0 6 rfl rfl)
theorem dX3_pending_9 : decode cX3_pending 9 = .ok (.ifCond .eq 11, 3) := dk_153 0 11 (dk_at dksX3_pending_0 9 rfl rfl)
theorem dX3_pending_12 : decode cX3_pending 12 = .ok (.aload_n 0, 1) := dk_42 (dk_at dksX3_pending_0 12 rfl rfl)
theorem dX3_pending_13 : decode cX3_pending 13 = .ok (.iload_n 1, 1) := dk_27 (dk_at dksX3_pending_0 13 rfl rfl)
theorem dX3_pending_14 : decode cX3_pending 14 = .ok (.invokevirtual 505, 3) := dk_182 1 249 (dk_at dksX3_pending_0 14 rfl rfl)
theorem dX3_pending_17 : decode cX3_pending 17 = .ok (.goto 4, 3) := dk_167 0 4 (dk_at dksX3_pending_0 17 rfl rfl)
theorem dX3_pending_20 : decode cX3_pending 20 = .ok (.iconst 0, 1) := dk_3 (dk_at dksX3_pending_0 20 rfl rfl)
theorem dX3_pending_21 : decode cX3_pending 21 = .ok (.ireturn, 1) := dk_172 (dk_at dksX3_pending_0 21 rfl rfl)
abbrev cX3_pendingOf : ByteArray := prog_13_method_34_code
def yX3_pendingOf : MethodName := ⟨RX3, "pendingOf", "(I)I"⟩
def dkwX3_pendingOf_1 : List UInt8 := [182, 0, 97, 28, 100, 16, 60, 162, 0, 7, 4, 167, 0, 4, 3, 96, 172]
abbrev dktX3_pendingOf_1 : List UInt8 := dkwX3_pendingOf_1 ++ []
def dkwX3_pendingOf_0 : List UInt8 := [42, 27, 182, 0, 129, 61, 28, 42, 27, 182, 0, 132, 96, 42, 27, 182, 0, 135, 158, 0, 19, 42, 27]
abbrev dktX3_pendingOf_0 : List UInt8 := dkwX3_pendingOf_0 ++ dktX3_pendingOf_1
theorem dksX3_pendingOf_0 : cX3_pendingOf.data.toList.drop 0 = dktX3_pendingOf_0 := by decide +kernel
theorem dksX3_pendingOf_1 : cX3_pendingOf.data.toList.drop 23 = dktX3_pendingOf_1 := dk_seg dksX3_pendingOf_0 23 rfl rfl
theorem dX3_pendingOf_0 : decode cX3_pendingOf 0 = .ok (.aload_n 0, 1) := dk_42 (dk_at dksX3_pendingOf_0 0 rfl rfl)
theorem dX3_pendingOf_1 : decode cX3_pendingOf 1 = .ok (.iload_n 1, 1) := dk_27 (dk_at dksX3_pendingOf_0 1 rfl rfl)
theorem dX3_pendingOf_2 : decode cX3_pendingOf 2 = .ok (.invokevirtual 129, 3) := dk_182 0 129 (dk_at dksX3_pendingOf_0 2 rfl rfl)
theorem dX3_pendingOf_5 : decode cX3_pendingOf 5 = .ok (.istore_n 2, 1) := dk_61 (dk_at dksX3_pendingOf_0 5 rfl rfl)
theorem dX3_pendingOf_6 : decode cX3_pendingOf 6 = .ok (.iload_n 2, 1) := dk_28 (dk_at dksX3_pendingOf_0 6 rfl rfl)
theorem dX3_pendingOf_7 : decode cX3_pendingOf 7 = .ok (.aload_n 0, 1) := dk_42 (dk_at dksX3_pendingOf_0 7 rfl rfl)
theorem dX3_pendingOf_8 : decode cX3_pendingOf 8 = .ok (.iload_n 1, 1) := dk_27 (dk_at dksX3_pendingOf_0 8 rfl rfl)
theorem dX3_pendingOf_9 : decode cX3_pendingOf 9 = .ok (.invokevirtual 132, 3) := dk_182 0 132 (dk_at dksX3_pendingOf_0 9 rfl rfl)
theorem dX3_pendingOf_12 : decode cX3_pendingOf 12 = .ok (.iadd, 1) := dk_96 (dk_at dksX3_pendingOf_0 12 rfl rfl)
theorem dX3_pendingOf_13 : decode cX3_pendingOf 13 = .ok (.aload_n 0, 1) := dk_42 (dk_at dksX3_pendingOf_0 13 rfl rfl)
theorem dX3_pendingOf_14 : decode cX3_pendingOf 14 = .ok (.iload_n 1, 1) := dk_27 (dk_at dksX3_pendingOf_0 14 rfl rfl)
theorem dX3_pendingOf_15 : decode cX3_pendingOf 15 = .ok (.invokevirtual 135, 3) := dk_182 0 135 (dk_at dksX3_pendingOf_0 15 rfl rfl)
theorem dX3_pendingOf_18 : decode cX3_pendingOf 18 = .ok (.ifCond .le 19, 3) := dk_158 0 19 (dk_at dksX3_pendingOf_0 18 rfl rfl)
theorem dX3_pendingOf_21 : decode cX3_pendingOf 21 = .ok (.aload_n 0, 1) := dk_42 (dk_at dksX3_pendingOf_0 21 rfl rfl)
theorem dX3_pendingOf_22 : decode cX3_pendingOf 22 = .ok (.iload_n 1, 1) := dk_27 (dk_at dksX3_pendingOf_0 22 rfl rfl)
theorem dX3_pendingOf_23 : decode cX3_pendingOf 23 = .ok (.invokevirtual 97, 3) := dk_182 0 97 (dk_at dksX3_pendingOf_1 0 rfl rfl)
theorem dX3_pendingOf_26 : decode cX3_pendingOf 26 = .ok (.iload_n 2, 1) := dk_28 (dk_at dksX3_pendingOf_1 3 rfl rfl)
theorem dX3_pendingOf_27 : decode cX3_pendingOf 27 = .ok (.isub, 1) := dk_100 (dk_at dksX3_pendingOf_1 4 rfl rfl)
theorem dX3_pendingOf_28 : decode cX3_pendingOf 28 = .ok (.bipush 60, 2) := dk_16 60 (dk_at dksX3_pendingOf_1 5 rfl rfl)
theorem dX3_pendingOf_30 : decode cX3_pendingOf 30 = .ok (.if_icmp .ge 7, 3) := dk_162 0 7 (dk_at dksX3_pendingOf_1 7 rfl rfl)
theorem dX3_pendingOf_33 : decode cX3_pendingOf 33 = .ok (.iconst 1, 1) := dk_4 (dk_at dksX3_pendingOf_1 10 rfl rfl)
theorem dX3_pendingOf_34 : decode cX3_pendingOf 34 = .ok (.goto 4, 3) := dk_167 0 4 (dk_at dksX3_pendingOf_1 11 rfl rfl)
theorem dX3_pendingOf_37 : decode cX3_pendingOf 37 = .ok (.iconst 0, 1) := dk_3 (dk_at dksX3_pendingOf_1 14 rfl rfl)
theorem dX3_pendingOf_38 : decode cX3_pendingOf 38 = .ok (.iadd, 1) := dk_96 (dk_at dksX3_pendingOf_1 15 rfl rfl)
theorem dX3_pendingOf_39 : decode cX3_pendingOf 39 = .ok (.ireturn, 1) := dk_172 (dk_at dksX3_pendingOf_1 16 rfl rfl)
abbrev cX3_isCurrent : ByteArray := prog_13_method_139_code
def yX3_isCurrent : MethodName := ⟨RX3, "isCurrent", "(I)Z"⟩
def dkwX3_isCurrent_1 : List UInt8 := [3, 172]
abbrev dktX3_isCurrent_1 : List UInt8 := dkwX3_isCurrent_1 ++ []
def dkwX3_isCurrent_0 : List UInt8 := [42, 42, 27, 182, 0, 93, 182, 1, 10, 153, 0, 15, 42, 27, 182, 1, 252, 153, 0, 7, 4, 167, 0, 4]
abbrev dktX3_isCurrent_0 : List UInt8 := dkwX3_isCurrent_0 ++ dktX3_isCurrent_1
theorem dksX3_isCurrent_0 : cX3_isCurrent.data.toList.drop 0 = dktX3_isCurrent_0 := by decide +kernel
theorem dksX3_isCurrent_1 : cX3_isCurrent.data.toList.drop 24 = dktX3_isCurrent_1 := dk_seg dksX3_isCurrent_0 24 rfl rfl
theorem dX3_isCurrent_0 : decode cX3_isCurrent 0 = .ok (.aload_n 0, 1) := dk_42 (dk_at dksX3_isCurrent_0 0 rfl rfl)
theorem dX3_isCurrent_1 : decode cX3_isCurrent 1 = .ok (.aload_n 0, 1) := dk_42 (dk_at dksX3_isCurrent_0 1 rfl rfl)
theorem dX3_isCurrent_2 : decode cX3_isCurrent 2 = .ok (.iload_n 1, 1) := dk_27 (dk_at dksX3_isCurrent_0 2 rfl rfl)
theorem dX3_isCurrent_3 : decode cX3_isCurrent 3 = .ok (.invokevirtual 93, 3) := dk_182 0 93 (dk_at dksX3_isCurrent_0 3 rfl rfl)
theorem dX3_isCurrent_6 : decode cX3_isCurrent 6 = .ok (.invokevirtual 266, 3) := dk_182 1 10 (dk_at dksX3_isCurrent_0 6 rfl rfl)
theorem dX3_isCurrent_9 : decode cX3_isCurrent 9 = .ok (.ifCond .eq 15, 3) := dk_153 0 15 (dk_at dksX3_isCurrent_0 9 rfl rfl)
theorem dX3_isCurrent_12 : decode cX3_isCurrent 12 = .ok (.aload_n 0, 1) := dk_42 (dk_at dksX3_isCurrent_0 12 rfl rfl)
theorem dX3_isCurrent_13 : decode cX3_isCurrent 13 = .ok (.iload_n 1, 1) := dk_27 (dk_at dksX3_isCurrent_0 13 rfl rfl)
theorem dX3_isCurrent_14 : decode cX3_isCurrent 14 = .ok (.invokevirtual 508, 3) := dk_182 1 252 (dk_at dksX3_isCurrent_0 14 rfl rfl)
theorem dX3_isCurrent_17 : decode cX3_isCurrent 17 = .ok (.ifCond .eq 7, 3) := dk_153 0 7 (dk_at dksX3_isCurrent_0 17 rfl rfl)
theorem dX3_isCurrent_20 : decode cX3_isCurrent 20 = .ok (.iconst 1, 1) := dk_4 (dk_at dksX3_isCurrent_0 20 rfl rfl)
theorem dX3_isCurrent_21 : decode cX3_isCurrent 21 = .ok (.goto 4, 3) := dk_167 0 4 (dk_at dksX3_isCurrent_0 21 rfl rfl)
theorem dX3_isCurrent_24 : decode cX3_isCurrent 24 = .ok (.iconst 0, 1) := dk_3 (dk_at dksX3_isCurrent_1 0 rfl rfl)
theorem dX3_isCurrent_25 : decode cX3_isCurrent 25 = .ok (.ireturn, 1) := dk_172 (dk_at dksX3_isCurrent_1 1 rfl rfl)
abbrev cX3_isUpToDate : ByteArray := prog_13_method_138_code
def yX3_isUpToDate : MethodName := ⟨RX3, "isUpToDate", "(I)Z"⟩
def dkwX3_isUpToDate_0 : List UInt8 := [42, 27, 182, 0, 126, 153, 0, 15, 42, 27, 182, 1, 249, 154, 0, 7, 4, 167, 0, 4, 3, 172]
abbrev dktX3_isUpToDate_0 : List UInt8 := dkwX3_isUpToDate_0 ++ []
theorem dksX3_isUpToDate_0 : cX3_isUpToDate.data.toList.drop 0 = dktX3_isUpToDate_0 := by decide +kernel
theorem dX3_isUpToDate_0 : decode cX3_isUpToDate 0 = .ok (.aload_n 0, 1) := dk_42 (dk_at dksX3_isUpToDate_0 0 rfl rfl)
theorem dX3_isUpToDate_1 : decode cX3_isUpToDate 1 = .ok (.iload_n 1, 1) := dk_27 (dk_at dksX3_isUpToDate_0 1 rfl rfl)
theorem dX3_isUpToDate_2 : decode cX3_isUpToDate 2 = .ok (.invokevirtual 126, 3) := dk_182 0 126 (dk_at dksX3_isUpToDate_0 2 rfl rfl)
theorem dX3_isUpToDate_5 : decode cX3_isUpToDate 5 = .ok (.ifCond .eq 15, 3) := dk_153 0 15 (dk_at dksX3_isUpToDate_0 5 rfl rfl)
theorem dX3_isUpToDate_8 : decode cX3_isUpToDate 8 = .ok (.aload_n 0, 1) := dk_42 (dk_at dksX3_isUpToDate_0 8 rfl rfl)
theorem dX3_isUpToDate_9 : decode cX3_isUpToDate 9 = .ok (.iload_n 1, 1) := dk_27 (dk_at dksX3_isUpToDate_0 9 rfl rfl)
theorem dX3_isUpToDate_10 : decode cX3_isUpToDate 10 = .ok (.invokevirtual 505, 3) := dk_182 1 249 (dk_at dksX3_isUpToDate_0 10 rfl rfl)
theorem dX3_isUpToDate_13 : decode cX3_isUpToDate 13 = .ok (.ifCond .ne 7, 3) := dk_154 0 7 (dk_at dksX3_isUpToDate_0 13 rfl rfl)
theorem dX3_isUpToDate_16 : decode cX3_isUpToDate 16 = .ok (.iconst 1, 1) := dk_4 (dk_at dksX3_isUpToDate_0 16 rfl rfl)
theorem dX3_isUpToDate_17 : decode cX3_isUpToDate 17 = .ok (.goto 4, 3) := dk_167 0 4 (dk_at dksX3_isUpToDate_0 17 rfl rfl)
theorem dX3_isUpToDate_20 : decode cX3_isUpToDate 20 = .ok (.iconst 0, 1) := dk_3 (dk_at dksX3_isUpToDate_0 20 rfl rfl)
theorem dX3_isUpToDate_21 : decode cX3_isUpToDate 21 = .ok (.ireturn, 1) := dk_172 (dk_at dksX3_isUpToDate_0 21 rfl rfl)
abbrev cX3_firstUnseen : ByteArray := prog_13_method_140_code
def yX3_firstUnseen : MethodName := ⟨RX3, "firstUnseen", "(I)I"⟩
def dkwX3_firstUnseen_2 : List UInt8 := [172]
abbrev dktX3_firstUnseen_2 : List UInt8 := dkwX3_firstUnseen_2 ++ []
def dkwX3_firstUnseen_1 : List UInt8 := [163, 0, 23, 42, 27, 28, 4, 182, 0, 107, 4, 126, 154, 0, 5, 28, 172, 132, 2, 1, 167, 255, 230, 2]
abbrev dktX3_firstUnseen_1 : List UInt8 := dkwX3_firstUnseen_1 ++ dktX3_firstUnseen_2
def dkwX3_firstUnseen_0 : List UInt8 := [42, 42, 27, 182, 0, 93, 182, 1, 10, 154, 0, 5, 3, 172, 4, 61, 28, 42, 27, 182, 0, 97]
abbrev dktX3_firstUnseen_0 : List UInt8 := dkwX3_firstUnseen_0 ++ dktX3_firstUnseen_1
theorem dksX3_firstUnseen_0 : cX3_firstUnseen.data.toList.drop 0 = dktX3_firstUnseen_0 := by decide +kernel
theorem dksX3_firstUnseen_1 : cX3_firstUnseen.data.toList.drop 22 = dktX3_firstUnseen_1 := dk_seg dksX3_firstUnseen_0 22 rfl rfl
theorem dksX3_firstUnseen_2 : cX3_firstUnseen.data.toList.drop 46 = dktX3_firstUnseen_2 := dk_seg dksX3_firstUnseen_1 24 rfl rfl
theorem dX3_firstUnseen_0 : decode cX3_firstUnseen 0 = .ok (.aload_n 0, 1) := dk_42 (dk_at dksX3_firstUnseen_0 0 rfl rfl)
theorem dX3_firstUnseen_1 : decode cX3_firstUnseen 1 = .ok (.aload_n 0, 1) := dk_42 (dk_at dksX3_firstUnseen_0 1 rfl rfl)
theorem dX3_firstUnseen_2 : decode cX3_firstUnseen 2 = .ok (.iload_n 1, 1) := dk_27 (dk_at dksX3_firstUnseen_0 2 rfl rfl)
theorem dX3_firstUnseen_3 : decode cX3_firstUnseen 3 = .ok (.invokevirtual 93, 3) := dk_182 0 93 (dk_at dksX3_firstUnseen_0 3 rfl rfl)
theorem dX3_firstUnseen_6 : decode cX3_firstUnseen 6 = .ok (.invokevirtual 266, 3) := dk_182 1 10 (dk_at dksX3_firstUnseen_0 6 rfl rfl)
theorem dX3_firstUnseen_9 : decode cX3_firstUnseen 9 = .ok (.ifCond .ne 5, 3) := dk_154 0 5 (dk_at dksX3_firstUnseen_0 9 rfl rfl)
theorem dX3_firstUnseen_12 : decode cX3_firstUnseen 12 = .ok (.iconst 0, 1) := dk_3 (dk_at dksX3_firstUnseen_0 12 rfl rfl)
theorem dX3_firstUnseen_13 : decode cX3_firstUnseen 13 = .ok (.ireturn, 1) := dk_172 (dk_at dksX3_firstUnseen_0 13 rfl rfl)
theorem dX3_firstUnseen_14 : decode cX3_firstUnseen 14 = .ok (.iconst 1, 1) := dk_4 (dk_at dksX3_firstUnseen_0 14 rfl rfl)
theorem dX3_firstUnseen_15 : decode cX3_firstUnseen 15 = .ok (.istore_n 2, 1) := dk_61 (dk_at dksX3_firstUnseen_0 15 rfl rfl)
theorem dX3_firstUnseen_16 : decode cX3_firstUnseen 16 = .ok (.iload_n 2, 1) := dk_28 (dk_at dksX3_firstUnseen_0 16 rfl rfl)
theorem dX3_firstUnseen_17 : decode cX3_firstUnseen 17 = .ok (.aload_n 0, 1) := dk_42 (dk_at dksX3_firstUnseen_0 17 rfl rfl)
theorem dX3_firstUnseen_18 : decode cX3_firstUnseen 18 = .ok (.iload_n 1, 1) := dk_27 (dk_at dksX3_firstUnseen_0 18 rfl rfl)
theorem dX3_firstUnseen_19 : decode cX3_firstUnseen 19 = .ok (.invokevirtual 97, 3) := dk_182 0 97 (dk_at dksX3_firstUnseen_0 19 rfl rfl)
theorem dX3_firstUnseen_22 : decode cX3_firstUnseen 22 = .ok (.if_icmp .gt 23, 3) := dk_163 0 23 (dk_at dksX3_firstUnseen_1 0 rfl rfl)
theorem dX3_firstUnseen_25 : decode cX3_firstUnseen 25 = .ok (.aload_n 0, 1) := dk_42 (dk_at dksX3_firstUnseen_1 3 rfl rfl)
theorem dX3_firstUnseen_26 : decode cX3_firstUnseen 26 = .ok (.iload_n 1, 1) := dk_27 (dk_at dksX3_firstUnseen_1 4 rfl rfl)
theorem dX3_firstUnseen_27 : decode cX3_firstUnseen 27 = .ok (.iload_n 2, 1) := dk_28 (dk_at dksX3_firstUnseen_1 5 rfl rfl)
theorem dX3_firstUnseen_28 : decode cX3_firstUnseen 28 = .ok (.iconst 1, 1) := dk_4 (dk_at dksX3_firstUnseen_1 6 rfl rfl)
theorem dX3_firstUnseen_29 : decode cX3_firstUnseen 29 = .ok (.invokevirtual 107, 3) := dk_182 0 107 (dk_at dksX3_firstUnseen_1 7 rfl rfl)
theorem dX3_firstUnseen_32 : decode cX3_firstUnseen 32 = .ok (.iconst 1, 1) := dk_4 (dk_at dksX3_firstUnseen_1 10 rfl rfl)
theorem dX3_firstUnseen_33 : decode cX3_firstUnseen 33 = .ok (.iand, 1) := dk_126 (dk_at dksX3_firstUnseen_1 11 rfl rfl)
theorem dX3_firstUnseen_34 : decode cX3_firstUnseen 34 = .ok (.ifCond .ne 5, 3) := dk_154 0 5 (dk_at dksX3_firstUnseen_1 12 rfl rfl)
theorem dX3_firstUnseen_37 : decode cX3_firstUnseen 37 = .ok (.iload_n 2, 1) := dk_28 (dk_at dksX3_firstUnseen_1 15 rfl rfl)
theorem dX3_firstUnseen_38 : decode cX3_firstUnseen 38 = .ok (.ireturn, 1) := dk_172 (dk_at dksX3_firstUnseen_1 16 rfl rfl)
theorem dX3_firstUnseen_39 : decode cX3_firstUnseen 39 = .ok (.iinc 2 1, 3) := dk_132 2 1 (dk_at dksX3_firstUnseen_1 17 rfl rfl)
theorem dX3_firstUnseen_42 : decode cX3_firstUnseen 42 = .ok (.goto (-26), 3) := dk_167 255 230 (dk_at dksX3_firstUnseen_1 20 rfl rfl)
theorem dX3_firstUnseen_45 : decode cX3_firstUnseen 45 = .ok (.iconst (-1), 1) := dk_2 (dk_at dksX3_firstUnseen_1 23 rfl rfl)
theorem dX3_firstUnseen_46 : decode cX3_firstUnseen 46 = .ok (.ireturn, 1) := dk_172 (dk_at dksX3_firstUnseen_2 0 rfl rfl)
abbrev cX3_largest : ByteArray := prog_13_method_141_code
def yX3_largest : MethodName := ⟨RX3, "largest", "(I)I"⟩
def dkwX3_largest_3 : List UInt8 := [167, 0, 9, 21, 4, 61, 21, 5, 62, 132, 4, 1, 167, 255, 195, 28, 172]
abbrev dktX3_largest_3 : List UInt8 := dkwX3_largest_3 ++ []
def dkwX3_largest_2 : List UInt8 := [182, 0, 87, 42, 27, 21, 4, 182, 0, 113, 4, 182, 0, 103, 54, 5, 21, 5, 29, 163, 0, 6]
abbrev dktX3_largest_2 : List UInt8 := dkwX3_largest_2 ++ dktX3_largest_3
def dkwX3_largest_1 : List UInt8 := [27, 182, 0, 97, 163, 0, 57, 42, 27, 21, 4, 182, 0, 116, 153, 0, 7, 3, 167, 0, 20, 42, 42, 27]
abbrev dktX3_largest_1 : List UInt8 := dkwX3_largest_1 ++ dktX3_largest_2
def dkwX3_largest_0 : List UInt8 := [42, 42, 27, 182, 0, 93, 182, 1, 10, 154, 0, 5, 3, 172, 2, 61, 3, 62, 4, 54, 4, 21, 4, 42]
abbrev dktX3_largest_0 : List UInt8 := dkwX3_largest_0 ++ dktX3_largest_1
theorem dksX3_largest_0 : cX3_largest.data.toList.drop 0 = dktX3_largest_0 := by decide +kernel
theorem dksX3_largest_1 : cX3_largest.data.toList.drop 24 = dktX3_largest_1 := dk_seg dksX3_largest_0 24 rfl rfl
theorem dksX3_largest_2 : cX3_largest.data.toList.drop 48 = dktX3_largest_2 := dk_seg dksX3_largest_1 24 rfl rfl
theorem dksX3_largest_3 : cX3_largest.data.toList.drop 70 = dktX3_largest_3 := dk_seg dksX3_largest_2 22 rfl rfl
theorem dX3_largest_0 : decode cX3_largest 0 = .ok (.aload_n 0, 1) := dk_42 (dk_at dksX3_largest_0 0 rfl rfl)
theorem dX3_largest_1 : decode cX3_largest 1 = .ok (.aload_n 0, 1) := dk_42 (dk_at dksX3_largest_0 1 rfl rfl)
theorem dX3_largest_2 : decode cX3_largest 2 = .ok (.iload_n 1, 1) := dk_27 (dk_at dksX3_largest_0 2 rfl rfl)
theorem dX3_largest_3 : decode cX3_largest 3 = .ok (.invokevirtual 93, 3) := dk_182 0 93 (dk_at dksX3_largest_0 3 rfl rfl)
theorem dX3_largest_6 : decode cX3_largest 6 = .ok (.invokevirtual 266, 3) := dk_182 1 10 (dk_at dksX3_largest_0 6 rfl rfl)
theorem dX3_largest_9 : decode cX3_largest 9 = .ok (.ifCond .ne 5, 3) := dk_154 0 5 (dk_at dksX3_largest_0 9 rfl rfl)
theorem dX3_largest_12 : decode cX3_largest 12 = .ok (.iconst 0, 1) := dk_3 (dk_at dksX3_largest_0 12 rfl rfl)
theorem dX3_largest_13 : decode cX3_largest 13 = .ok (.ireturn, 1) := dk_172 (dk_at dksX3_largest_0 13 rfl rfl)
theorem dX3_largest_14 : decode cX3_largest 14 = .ok (.iconst (-1), 1) := dk_2 (dk_at dksX3_largest_0 14 rfl rfl)
theorem dX3_largest_15 : decode cX3_largest 15 = .ok (.istore_n 2, 1) := dk_61 (dk_at dksX3_largest_0 15 rfl rfl)
theorem dX3_largest_16 : decode cX3_largest 16 = .ok (.iconst 0, 1) := dk_3 (dk_at dksX3_largest_0 16 rfl rfl)
theorem dX3_largest_17 : decode cX3_largest 17 = .ok (.istore_n 3, 1) := dk_62 (dk_at dksX3_largest_0 17 rfl rfl)
theorem dX3_largest_18 : decode cX3_largest 18 = .ok (.iconst 1, 1) := dk_4 (dk_at dksX3_largest_0 18 rfl rfl)
theorem dX3_largest_19 : decode cX3_largest 19 = .ok (.istore 4, 2) := dk_54 4 (dk_at dksX3_largest_0 19 rfl rfl)
theorem dX3_largest_21 : decode cX3_largest 21 = .ok (.iload 4, 2) := dk_21 4 (dk_at dksX3_largest_0 21 rfl rfl)
theorem dX3_largest_23 : decode cX3_largest 23 = .ok (.aload_n 0, 1) := dk_42 (dk_at dksX3_largest_0 23 rfl rfl)
theorem dX3_largest_24 : decode cX3_largest 24 = .ok (.iload_n 1, 1) := dk_27 (dk_at dksX3_largest_1 0 rfl rfl)
theorem dX3_largest_25 : decode cX3_largest 25 = .ok (.invokevirtual 97, 3) := dk_182 0 97 (dk_at dksX3_largest_1 1 rfl rfl)
theorem dX3_largest_28 : decode cX3_largest 28 = .ok (.if_icmp .gt 57, 3) := dk_163 0 57 (dk_at dksX3_largest_1 4 rfl rfl)
theorem dX3_largest_31 : decode cX3_largest 31 = .ok (.aload_n 0, 1) := dk_42 (dk_at dksX3_largest_1 7 rfl rfl)
theorem dX3_largest_32 : decode cX3_largest 32 = .ok (.iload_n 1, 1) := dk_27 (dk_at dksX3_largest_1 8 rfl rfl)
theorem dX3_largest_33 : decode cX3_largest 33 = .ok (.iload 4, 2) := dk_21 4 (dk_at dksX3_largest_1 9 rfl rfl)
theorem dX3_largest_35 : decode cX3_largest 35 = .ok (.invokevirtual 116, 3) := dk_182 0 116 (dk_at dksX3_largest_1 11 rfl rfl)
theorem dX3_largest_38 : decode cX3_largest 38 = .ok (.ifCond .eq 7, 3) := dk_153 0 7 (dk_at dksX3_largest_1 14 rfl rfl)
theorem dX3_largest_41 : decode cX3_largest 41 = .ok (.iconst 0, 1) := dk_3 (dk_at dksX3_largest_1 17 rfl rfl)
theorem dX3_largest_42 : decode cX3_largest 42 = .ok (.goto 20, 3) := dk_167 0 20 (dk_at dksX3_largest_1 18 rfl rfl)
theorem dX3_largest_45 : decode cX3_largest 45 = .ok (.aload_n 0, 1) := dk_42 (dk_at dksX3_largest_1 21 rfl rfl)
theorem dX3_largest_46 : decode cX3_largest 46 = .ok (.aload_n 0, 1) := dk_42 (dk_at dksX3_largest_1 22 rfl rfl)
theorem dX3_largest_47 : decode cX3_largest 47 = .ok (.iload_n 1, 1) := dk_27 (dk_at dksX3_largest_1 23 rfl rfl)
theorem dX3_largest_48 : decode cX3_largest 48 = .ok (.invokevirtual 87, 3) := dk_182 0 87 (dk_at dksX3_largest_2 0 rfl rfl)
theorem dX3_largest_51 : decode cX3_largest 51 = .ok (.aload_n 0, 1) := dk_42 (dk_at dksX3_largest_2 3 rfl rfl)
theorem dX3_largest_52 : decode cX3_largest 52 = .ok (.iload_n 1, 1) := dk_27 (dk_at dksX3_largest_2 4 rfl rfl)
theorem dX3_largest_53 : decode cX3_largest 53 = .ok (.iload 4, 2) := dk_21 4 (dk_at dksX3_largest_2 5 rfl rfl)
theorem dX3_largest_55 : decode cX3_largest 55 = .ok (.invokevirtual 113, 3) := dk_182 0 113 (dk_at dksX3_largest_2 7 rfl rfl)
theorem dX3_largest_58 : decode cX3_largest 58 = .ok (.iconst 1, 1) := dk_4 (dk_at dksX3_largest_2 10 rfl rfl)
theorem dX3_largest_59 : decode cX3_largest 59 = .ok (.invokevirtual 103, 3) := dk_182 0 103 (dk_at dksX3_largest_2 11 rfl rfl)
theorem dX3_largest_62 : decode cX3_largest 62 = .ok (.istore 5, 2) := dk_54 5 (dk_at dksX3_largest_2 14 rfl rfl)
theorem dX3_largest_64 : decode cX3_largest 64 = .ok (.iload 5, 2) := dk_21 5 (dk_at dksX3_largest_2 16 rfl rfl)
theorem dX3_largest_66 : decode cX3_largest 66 = .ok (.iload_n 3, 1) := dk_29 (dk_at dksX3_largest_2 18 rfl rfl)
theorem dX3_largest_67 : decode cX3_largest 67 = .ok (.if_icmp .gt 6, 3) := dk_163 0 6 (dk_at dksX3_largest_2 19 rfl rfl)
theorem dX3_largest_70 : decode cX3_largest 70 = .ok (.goto 9, 3) := dk_167 0 9 (dk_at dksX3_largest_3 0 rfl rfl)
theorem dX3_largest_73 : decode cX3_largest 73 = .ok (.iload 4, 2) := dk_21 4 (dk_at dksX3_largest_3 3 rfl rfl)
theorem dX3_largest_75 : decode cX3_largest 75 = .ok (.istore_n 2, 1) := dk_61 (dk_at dksX3_largest_3 5 rfl rfl)
theorem dX3_largest_76 : decode cX3_largest 76 = .ok (.iload 5, 2) := dk_21 5 (dk_at dksX3_largest_3 6 rfl rfl)
theorem dX3_largest_78 : decode cX3_largest 78 = .ok (.istore_n 3, 1) := dk_62 (dk_at dksX3_largest_3 8 rfl rfl)
theorem dX3_largest_79 : decode cX3_largest 79 = .ok (.iinc 4 1, 3) := dk_132 4 1 (dk_at dksX3_largest_3 9 rfl rfl)
theorem dX3_largest_82 : decode cX3_largest 82 = .ok (.goto (-61), 3) := dk_167 255 195 (dk_at dksX3_largest_3 12 rfl rfl)
theorem dX3_largest_85 : decode cX3_largest 85 = .ok (.iload_n 2, 1) := dk_28 (dk_at dksX3_largest_3 15 rfl rfl)
theorem dX3_largest_86 : decode cX3_largest 86 = .ok (.ireturn, 1) := dk_172 (dk_at dksX3_largest_3 16 rfl rfl)
abbrev cX3_common : ByteArray := prog_13_method_142_code
def yX3_common : MethodName := ⟨RX3, "common", "(II)I"⟩
def dkwX3_common_4 : List UInt8 := [167, 255, 218, 29, 172]
abbrev dktX3_common_4 : List UInt8 := dkwX3_common_4 ++ []
def dkwX3_common_3 : List UInt8 := [27, 21, 4, 3, 182, 0, 107, 182, 1, 246, 2, 160, 0, 7, 3, 167, 0, 4, 4, 96, 62, 132, 4, 1]
abbrev dktX3_common_3 : List UInt8 := dkwX3_common_3 ++ dktX3_common_4
def dkwX3_common_2 : List UInt8 := [159, 0, 5, 3, 172, 3, 62, 4, 54, 4, 21, 4, 42, 27, 182, 0, 97, 163, 0, 34, 29, 42, 28, 42]
abbrev dktX3_common_2 : List UInt8 := dkwX3_common_2 ++ dktX3_common_3
def dkwX3_common_1 : List UInt8 := [182, 1, 10, 153, 0, 24, 42, 27, 182, 0, 126, 153, 0, 16, 42, 27, 182, 0, 87, 42, 28, 182, 0, 87]
abbrev dktX3_common_1 : List UInt8 := dkwX3_common_1 ++ dktX3_common_2
def dkwX3_common_0 : List UInt8 := [42, 42, 27, 182, 0, 93, 153, 0, 15, 42, 28, 182, 0, 93, 153, 0, 7, 4, 167, 0, 4, 3]
abbrev dktX3_common_0 : List UInt8 := dkwX3_common_0 ++ dktX3_common_1
theorem dksX3_common_0 : cX3_common.data.toList.drop 0 = dktX3_common_0 := by decide +kernel
theorem dksX3_common_1 : cX3_common.data.toList.drop 22 = dktX3_common_1 := dk_seg dksX3_common_0 22 rfl rfl
theorem dksX3_common_2 : cX3_common.data.toList.drop 46 = dktX3_common_2 := dk_seg dksX3_common_1 24 rfl rfl
theorem dksX3_common_3 : cX3_common.data.toList.drop 70 = dktX3_common_3 := dk_seg dksX3_common_2 24 rfl rfl
theorem dksX3_common_4 : cX3_common.data.toList.drop 94 = dktX3_common_4 := dk_seg dksX3_common_3 24 rfl rfl
theorem dX3_common_0 : decode cX3_common 0 = .ok (.aload_n 0, 1) := dk_42 (dk_at dksX3_common_0 0 rfl rfl)
theorem dX3_common_1 : decode cX3_common 1 = .ok (.aload_n 0, 1) := dk_42 (dk_at dksX3_common_0 1 rfl rfl)
theorem dX3_common_2 : decode cX3_common 2 = .ok (.iload_n 1, 1) := dk_27 (dk_at dksX3_common_0 2 rfl rfl)
theorem dX3_common_3 : decode cX3_common 3 = .ok (.invokevirtual 93, 3) := dk_182 0 93 (dk_at dksX3_common_0 3 rfl rfl)
theorem dX3_common_6 : decode cX3_common 6 = .ok (.ifCond .eq 15, 3) := dk_153 0 15 (dk_at dksX3_common_0 6 rfl rfl)
theorem dX3_common_9 : decode cX3_common 9 = .ok (.aload_n 0, 1) := dk_42 (dk_at dksX3_common_0 9 rfl rfl)
theorem dX3_common_10 : decode cX3_common 10 = .ok (.iload_n 2, 1) := dk_28 (dk_at dksX3_common_0 10 rfl rfl)
theorem dX3_common_11 : decode cX3_common 11 = .ok (.invokevirtual 93, 3) := dk_182 0 93 (dk_at dksX3_common_0 11 rfl rfl)
theorem dX3_common_14 : decode cX3_common 14 = .ok (.ifCond .eq 7, 3) := dk_153 0 7 (dk_at dksX3_common_0 14 rfl rfl)
theorem dX3_common_17 : decode cX3_common 17 = .ok (.iconst 1, 1) := dk_4 (dk_at dksX3_common_0 17 rfl rfl)
theorem dX3_common_18 : decode cX3_common 18 = .ok (.goto 4, 3) := dk_167 0 4 (dk_at dksX3_common_0 18 rfl rfl)
theorem dX3_common_21 : decode cX3_common 21 = .ok (.iconst 0, 1) := dk_3 (dk_at dksX3_common_0 21 rfl rfl)
theorem dX3_common_22 : decode cX3_common 22 = .ok (.invokevirtual 266, 3) := dk_182 1 10 (dk_at dksX3_common_1 0 rfl rfl)
theorem dX3_common_25 : decode cX3_common 25 = .ok (.ifCond .eq 24, 3) := dk_153 0 24 (dk_at dksX3_common_1 3 rfl rfl)
theorem dX3_common_28 : decode cX3_common 28 = .ok (.aload_n 0, 1) := dk_42 (dk_at dksX3_common_1 6 rfl rfl)
theorem dX3_common_29 : decode cX3_common 29 = .ok (.iload_n 1, 1) := dk_27 (dk_at dksX3_common_1 7 rfl rfl)
theorem dX3_common_30 : decode cX3_common 30 = .ok (.invokevirtual 126, 3) := dk_182 0 126 (dk_at dksX3_common_1 8 rfl rfl)
theorem dX3_common_33 : decode cX3_common 33 = .ok (.ifCond .eq 16, 3) := dk_153 0 16 (dk_at dksX3_common_1 11 rfl rfl)
theorem dX3_common_36 : decode cX3_common 36 = .ok (.aload_n 0, 1) := dk_42 (dk_at dksX3_common_1 14 rfl rfl)
theorem dX3_common_37 : decode cX3_common 37 = .ok (.iload_n 1, 1) := dk_27 (dk_at dksX3_common_1 15 rfl rfl)
theorem dX3_common_38 : decode cX3_common 38 = .ok (.invokevirtual 87, 3) := dk_182 0 87 (dk_at dksX3_common_1 16 rfl rfl)
theorem dX3_common_41 : decode cX3_common 41 = .ok (.aload_n 0, 1) := dk_42 (dk_at dksX3_common_1 19 rfl rfl)
theorem dX3_common_42 : decode cX3_common 42 = .ok (.iload_n 2, 1) := dk_28 (dk_at dksX3_common_1 20 rfl rfl)
theorem dX3_common_43 : decode cX3_common 43 = .ok (.invokevirtual 87, 3) := dk_182 0 87 (dk_at dksX3_common_1 21 rfl rfl)
theorem dX3_common_46 : decode cX3_common 46 = .ok (.if_icmp .eq 5, 3) := dk_159 0 5 (dk_at dksX3_common_2 0 rfl rfl)
theorem dX3_common_49 : decode cX3_common 49 = .ok (.iconst 0, 1) := dk_3 (dk_at dksX3_common_2 3 rfl rfl)
theorem dX3_common_50 : decode cX3_common 50 = .ok (.ireturn, 1) := dk_172 (dk_at dksX3_common_2 4 rfl rfl)
theorem dX3_common_51 : decode cX3_common 51 = .ok (.iconst 0, 1) := dk_3 (dk_at dksX3_common_2 5 rfl rfl)
theorem dX3_common_52 : decode cX3_common 52 = .ok (.istore_n 3, 1) := dk_62 (dk_at dksX3_common_2 6 rfl rfl)
theorem dX3_common_53 : decode cX3_common 53 = .ok (.iconst 1, 1) := dk_4 (dk_at dksX3_common_2 7 rfl rfl)
theorem dX3_common_54 : decode cX3_common 54 = .ok (.istore 4, 2) := dk_54 4 (dk_at dksX3_common_2 8 rfl rfl)
theorem dX3_common_56 : decode cX3_common 56 = .ok (.iload 4, 2) := dk_21 4 (dk_at dksX3_common_2 10 rfl rfl)
theorem dX3_common_58 : decode cX3_common 58 = .ok (.aload_n 0, 1) := dk_42 (dk_at dksX3_common_2 12 rfl rfl)
theorem dX3_common_59 : decode cX3_common 59 = .ok (.iload_n 1, 1) := dk_27 (dk_at dksX3_common_2 13 rfl rfl)
theorem dX3_common_60 : decode cX3_common 60 = .ok (.invokevirtual 97, 3) := dk_182 0 97 (dk_at dksX3_common_2 14 rfl rfl)
theorem dX3_common_63 : decode cX3_common 63 = .ok (.if_icmp .gt 34, 3) := dk_163 0 34 (dk_at dksX3_common_2 17 rfl rfl)
theorem dX3_common_66 : decode cX3_common 66 = .ok (.iload_n 3, 1) := dk_29 (dk_at dksX3_common_2 20 rfl rfl)
theorem dX3_common_67 : decode cX3_common 67 = .ok (.aload_n 0, 1) := dk_42 (dk_at dksX3_common_2 21 rfl rfl)
theorem dX3_common_68 : decode cX3_common 68 = .ok (.iload_n 2, 1) := dk_28 (dk_at dksX3_common_2 22 rfl rfl)
theorem dX3_common_69 : decode cX3_common 69 = .ok (.aload_n 0, 1) := dk_42 (dk_at dksX3_common_2 23 rfl rfl)
theorem dX3_common_70 : decode cX3_common 70 = .ok (.iload_n 1, 1) := dk_27 (dk_at dksX3_common_3 0 rfl rfl)
theorem dX3_common_71 : decode cX3_common 71 = .ok (.iload 4, 2) := dk_21 4 (dk_at dksX3_common_3 1 rfl rfl)
theorem dX3_common_73 : decode cX3_common 73 = .ok (.iconst 0, 1) := dk_3 (dk_at dksX3_common_3 3 rfl rfl)
theorem dX3_common_74 : decode cX3_common 74 = .ok (.invokevirtual 107, 3) := dk_182 0 107 (dk_at dksX3_common_3 4 rfl rfl)
theorem dX3_common_77 : decode cX3_common 77 = .ok (.invokevirtual 502, 3) := dk_182 1 246 (dk_at dksX3_common_3 7 rfl rfl)
theorem dX3_common_80 : decode cX3_common 80 = .ok (.iconst (-1), 1) := dk_2 (dk_at dksX3_common_3 10 rfl rfl)
theorem dX3_common_81 : decode cX3_common 81 = .ok (.if_icmp .ne 7, 3) := dk_160 0 7 (dk_at dksX3_common_3 11 rfl rfl)
theorem dX3_common_84 : decode cX3_common 84 = .ok (.iconst 0, 1) := dk_3 (dk_at dksX3_common_3 14 rfl rfl)
theorem dX3_common_85 : decode cX3_common 85 = .ok (.goto 4, 3) := dk_167 0 4 (dk_at dksX3_common_3 15 rfl rfl)
theorem dX3_common_88 : decode cX3_common 88 = .ok (.iconst 1, 1) := dk_4 (dk_at dksX3_common_3 18 rfl rfl)
theorem dX3_common_89 : decode cX3_common 89 = .ok (.iadd, 1) := dk_96 (dk_at dksX3_common_3 19 rfl rfl)
theorem dX3_common_90 : decode cX3_common 90 = .ok (.istore_n 3, 1) := dk_62 (dk_at dksX3_common_3 20 rfl rfl)
theorem dX3_common_91 : decode cX3_common 91 = .ok (.iinc 4 1, 3) := dk_132 4 1 (dk_at dksX3_common_3 21 rfl rfl)
theorem dX3_common_94 : decode cX3_common 94 = .ok (.goto (-38), 3) := dk_167 255 218 (dk_at dksX3_common_4 0 rfl rfl)
theorem dX3_common_97 : decode cX3_common 97 = .ok (.iload_n 3, 1) := dk_29 (dk_at dksX3_common_4 3 rfl rfl)
theorem dX3_common_98 : decode cX3_common 98 = .ok (.ireturn, 1) := dk_172 (dk_at dksX3_common_4 4 rfl rfl)
abbrev cX3_holders : ByteArray := prog_13_method_143_code
def yX3_holders : MethodName := ⟨RX3, "holders", "(II)I"⟩
def dkwX3_holders_2 : List UInt8 := [2, 159, 0, 10, 4, 21, 4, 120, 167, 0, 4, 3, 128, 62, 132, 4, 1, 167, 255, 212, 29, 172]
abbrev dktX3_holders_2 : List UInt8 := dkwX3_holders_2 ++ []
def dkwX3_holders_1 : List UInt8 := [182, 0, 74, 162, 0, 41, 29, 42, 21, 4, 182, 0, 87, 27, 160, 0, 21, 42, 21, 4, 28, 182, 1, 246]
abbrev dktX3_holders_1 : List UInt8 := dkwX3_holders_1 ++ dktX3_holders_2
def dkwX3_holders_0 : List UInt8 := [42, 42, 27, 182, 0, 189, 182, 1, 10, 154, 0, 5, 3, 172, 3, 62, 3, 54, 4, 21, 4, 42]
abbrev dktX3_holders_0 : List UInt8 := dkwX3_holders_0 ++ dktX3_holders_1
theorem dksX3_holders_0 : cX3_holders.data.toList.drop 0 = dktX3_holders_0 := by decide +kernel
theorem dksX3_holders_1 : cX3_holders.data.toList.drop 22 = dktX3_holders_1 := dk_seg dksX3_holders_0 22 rfl rfl
theorem dksX3_holders_2 : cX3_holders.data.toList.drop 46 = dktX3_holders_2 := dk_seg dksX3_holders_1 24 rfl rfl
theorem dX3_holders_0 : decode cX3_holders 0 = .ok (.aload_n 0, 1) := dk_42 (dk_at dksX3_holders_0 0 rfl rfl)
theorem dX3_holders_1 : decode cX3_holders 1 = .ok (.aload_n 0, 1) := dk_42 (dk_at dksX3_holders_0 1 rfl rfl)
theorem dX3_holders_2 : decode cX3_holders 2 = .ok (.iload_n 1, 1) := dk_27 (dk_at dksX3_holders_0 2 rfl rfl)
theorem dX3_holders_3 : decode cX3_holders 3 = .ok (.invokevirtual 189, 3) := dk_182 0 189 (dk_at dksX3_holders_0 3 rfl rfl)
theorem dX3_holders_6 : decode cX3_holders 6 = .ok (.invokevirtual 266, 3) := dk_182 1 10 (dk_at dksX3_holders_0 6 rfl rfl)
theorem dX3_holders_9 : decode cX3_holders 9 = .ok (.ifCond .ne 5, 3) := dk_154 0 5 (dk_at dksX3_holders_0 9 rfl rfl)
theorem dX3_holders_12 : decode cX3_holders 12 = .ok (.iconst 0, 1) := dk_3 (dk_at dksX3_holders_0 12 rfl rfl)
theorem dX3_holders_13 : decode cX3_holders 13 = .ok (.ireturn, 1) := dk_172 (dk_at dksX3_holders_0 13 rfl rfl)
theorem dX3_holders_14 : decode cX3_holders 14 = .ok (.iconst 0, 1) := dk_3 (dk_at dksX3_holders_0 14 rfl rfl)
theorem dX3_holders_15 : decode cX3_holders 15 = .ok (.istore_n 3, 1) := dk_62 (dk_at dksX3_holders_0 15 rfl rfl)
theorem dX3_holders_16 : decode cX3_holders 16 = .ok (.iconst 0, 1) := dk_3 (dk_at dksX3_holders_0 16 rfl rfl)
theorem dX3_holders_17 : decode cX3_holders 17 = .ok (.istore 4, 2) := dk_54 4 (dk_at dksX3_holders_0 17 rfl rfl)
theorem dX3_holders_19 : decode cX3_holders 19 = .ok (.iload 4, 2) := dk_21 4 (dk_at dksX3_holders_0 19 rfl rfl)
theorem dX3_holders_21 : decode cX3_holders 21 = .ok (.aload_n 0, 1) := dk_42 (dk_at dksX3_holders_0 21 rfl rfl)
theorem dX3_holders_22 : decode cX3_holders 22 = .ok (.invokevirtual 74, 3) := dk_182 0 74 (dk_at dksX3_holders_1 0 rfl rfl)
theorem dX3_holders_25 : decode cX3_holders 25 = .ok (.if_icmp .ge 41, 3) := dk_162 0 41 (dk_at dksX3_holders_1 3 rfl rfl)
theorem dX3_holders_28 : decode cX3_holders 28 = .ok (.iload_n 3, 1) := dk_29 (dk_at dksX3_holders_1 6 rfl rfl)
theorem dX3_holders_29 : decode cX3_holders 29 = .ok (.aload_n 0, 1) := dk_42 (dk_at dksX3_holders_1 7 rfl rfl)
theorem dX3_holders_30 : decode cX3_holders 30 = .ok (.iload 4, 2) := dk_21 4 (dk_at dksX3_holders_1 8 rfl rfl)
theorem dX3_holders_32 : decode cX3_holders 32 = .ok (.invokevirtual 87, 3) := dk_182 0 87 (dk_at dksX3_holders_1 10 rfl rfl)
theorem dX3_holders_35 : decode cX3_holders 35 = .ok (.iload_n 1, 1) := dk_27 (dk_at dksX3_holders_1 13 rfl rfl)
theorem dX3_holders_36 : decode cX3_holders 36 = .ok (.if_icmp .ne 21, 3) := dk_160 0 21 (dk_at dksX3_holders_1 14 rfl rfl)
theorem dX3_holders_39 : decode cX3_holders 39 = .ok (.aload_n 0, 1) := dk_42 (dk_at dksX3_holders_1 17 rfl rfl)
theorem dX3_holders_40 : decode cX3_holders 40 = .ok (.iload 4, 2) := dk_21 4 (dk_at dksX3_holders_1 18 rfl rfl)
theorem dX3_holders_42 : decode cX3_holders 42 = .ok (.iload_n 2, 1) := dk_28 (dk_at dksX3_holders_1 20 rfl rfl)
theorem dX3_holders_43 : decode cX3_holders 43 = .ok (.invokevirtual 502, 3) := dk_182 1 246 (dk_at dksX3_holders_1 21 rfl rfl)
theorem dX3_holders_46 : decode cX3_holders 46 = .ok (.iconst (-1), 1) := dk_2 (dk_at dksX3_holders_2 0 rfl rfl)
theorem dX3_holders_47 : decode cX3_holders 47 = .ok (.if_icmp .eq 10, 3) := dk_159 0 10 (dk_at dksX3_holders_2 1 rfl rfl)
theorem dX3_holders_50 : decode cX3_holders 50 = .ok (.iconst 1, 1) := dk_4 (dk_at dksX3_holders_2 4 rfl rfl)
theorem dX3_holders_51 : decode cX3_holders 51 = .ok (.iload 4, 2) := dk_21 4 (dk_at dksX3_holders_2 5 rfl rfl)
theorem dX3_holders_53 : decode cX3_holders 53 = .ok (.ishl, 1) := dk_120 (dk_at dksX3_holders_2 7 rfl rfl)
theorem dX3_holders_54 : decode cX3_holders 54 = .ok (.goto 4, 3) := dk_167 0 4 (dk_at dksX3_holders_2 8 rfl rfl)
theorem dX3_holders_57 : decode cX3_holders 57 = .ok (.iconst 0, 1) := dk_3 (dk_at dksX3_holders_2 11 rfl rfl)
theorem dX3_holders_58 : decode cX3_holders 58 = .ok (.ior, 1) := dk_128 (dk_at dksX3_holders_2 12 rfl rfl)
theorem dX3_holders_59 : decode cX3_holders 59 = .ok (.istore_n 3, 1) := dk_62 (dk_at dksX3_holders_2 13 rfl rfl)
theorem dX3_holders_60 : decode cX3_holders 60 = .ok (.iinc 4 1, 3) := dk_132 4 1 (dk_at dksX3_holders_2 14 rfl rfl)
theorem dX3_holders_63 : decode cX3_holders 63 = .ok (.goto (-44), 3) := dk_167 255 212 (dk_at dksX3_holders_2 17 rfl rfl)
theorem dX3_holders_66 : decode cX3_holders 66 = .ok (.iload_n 3, 1) := dk_29 (dk_at dksX3_holders_2 20 rfl rfl)
theorem dX3_holders_67 : decode cX3_holders 67 = .ok (.ireturn, 1) := dk_172 (dk_at dksX3_holders_2 21 rfl rfl)
abbrev cX3_stale : ByteArray := prog_13_method_144_code
def yX3_stale : MethodName := ⟨RX3, "stale", "()I"⟩
def dkwX3_stale_2 : List UInt8 := [167, 255, 219, 27, 172]
abbrev dktX3_stale_2 : List UInt8 := dkwX3_stale_2 ++ []
def dkwX3_stale_1 : List UInt8 := [153, 0, 17, 42, 28, 182, 1, 252, 154, 0, 9, 4, 28, 120, 167, 0, 4, 3, 128, 60, 132, 2, 1]
abbrev dktX3_stale_1 : List UInt8 := dkwX3_stale_1 ++ dktX3_stale_2
def dkwX3_stale_0 : List UInt8 := [42, 3, 181, 0, 3, 3, 60, 3, 61, 28, 42, 182, 0, 74, 162, 0, 35, 27, 42, 28, 182, 0, 126]
abbrev dktX3_stale_0 : List UInt8 := dkwX3_stale_0 ++ dktX3_stale_1
theorem dksX3_stale_0 : cX3_stale.data.toList.drop 0 = dktX3_stale_0 := by decide +kernel
theorem dksX3_stale_1 : cX3_stale.data.toList.drop 23 = dktX3_stale_1 := dk_seg dksX3_stale_0 23 rfl rfl
theorem dksX3_stale_2 : cX3_stale.data.toList.drop 46 = dktX3_stale_2 := dk_seg dksX3_stale_1 23 rfl rfl
theorem dX3_stale_0 : decode cX3_stale 0 = .ok (.aload_n 0, 1) := dk_42 (dk_at dksX3_stale_0 0 rfl rfl)
theorem dX3_stale_1 : decode cX3_stale 1 = .ok (.iconst 0, 1) := dk_3 (dk_at dksX3_stale_0 1 rfl rfl)
theorem dX3_stale_2 : decode cX3_stale 2 = .ok (.putfield 3, 3) := dk_181 0 3 (dk_at dksX3_stale_0 2 rfl rfl)
theorem dX3_stale_5 : decode cX3_stale 5 = .ok (.iconst 0, 1) := dk_3 (dk_at dksX3_stale_0 5 rfl rfl)
theorem dX3_stale_6 : decode cX3_stale 6 = .ok (.istore_n 1, 1) := dk_60 (dk_at dksX3_stale_0 6 rfl rfl)
theorem dX3_stale_7 : decode cX3_stale 7 = .ok (.iconst 0, 1) := dk_3 (dk_at dksX3_stale_0 7 rfl rfl)
theorem dX3_stale_8 : decode cX3_stale 8 = .ok (.istore_n 2, 1) := dk_61 (dk_at dksX3_stale_0 8 rfl rfl)
theorem dX3_stale_9 : decode cX3_stale 9 = .ok (.iload_n 2, 1) := dk_28 (dk_at dksX3_stale_0 9 rfl rfl)
theorem dX3_stale_10 : decode cX3_stale 10 = .ok (.aload_n 0, 1) := dk_42 (dk_at dksX3_stale_0 10 rfl rfl)
theorem dX3_stale_11 : decode cX3_stale 11 = .ok (.invokevirtual 74, 3) := dk_182 0 74 (dk_at dksX3_stale_0 11 rfl rfl)
theorem dX3_stale_14 : decode cX3_stale 14 = .ok (.if_icmp .ge 35, 3) := dk_162 0 35 (dk_at dksX3_stale_0 14 rfl rfl)
theorem dX3_stale_17 : decode cX3_stale 17 = .ok (.iload_n 1, 1) := dk_27 (dk_at dksX3_stale_0 17 rfl rfl)
theorem dX3_stale_18 : decode cX3_stale 18 = .ok (.aload_n 0, 1) := dk_42 (dk_at dksX3_stale_0 18 rfl rfl)
theorem dX3_stale_19 : decode cX3_stale 19 = .ok (.iload_n 2, 1) := dk_28 (dk_at dksX3_stale_0 19 rfl rfl)
theorem dX3_stale_20 : decode cX3_stale 20 = .ok (.invokevirtual 126, 3) := dk_182 0 126 (dk_at dksX3_stale_0 20 rfl rfl)
theorem dX3_stale_23 : decode cX3_stale 23 = .ok (.ifCond .eq 17, 3) := dk_153 0 17 (dk_at dksX3_stale_1 0 rfl rfl)
theorem dX3_stale_26 : decode cX3_stale 26 = .ok (.aload_n 0, 1) := dk_42 (dk_at dksX3_stale_1 3 rfl rfl)
theorem dX3_stale_27 : decode cX3_stale 27 = .ok (.iload_n 2, 1) := dk_28 (dk_at dksX3_stale_1 4 rfl rfl)
theorem dX3_stale_28 : decode cX3_stale 28 = .ok (.invokevirtual 508, 3) := dk_182 1 252 (dk_at dksX3_stale_1 5 rfl rfl)
theorem dX3_stale_31 : decode cX3_stale 31 = .ok (.ifCond .ne 9, 3) := dk_154 0 9 (dk_at dksX3_stale_1 8 rfl rfl)
theorem dX3_stale_34 : decode cX3_stale 34 = .ok (.iconst 1, 1) := dk_4 (dk_at dksX3_stale_1 11 rfl rfl)
theorem dX3_stale_35 : decode cX3_stale 35 = .ok (.iload_n 2, 1) := dk_28 (dk_at dksX3_stale_1 12 rfl rfl)
theorem dX3_stale_36 : decode cX3_stale 36 = .ok (.ishl, 1) := dk_120 (dk_at dksX3_stale_1 13 rfl rfl)
theorem dX3_stale_37 : decode cX3_stale 37 = .ok (.goto 4, 3) := dk_167 0 4 (dk_at dksX3_stale_1 14 rfl rfl)
theorem dX3_stale_40 : decode cX3_stale 40 = .ok (.iconst 0, 1) := dk_3 (dk_at dksX3_stale_1 17 rfl rfl)
theorem dX3_stale_41 : decode cX3_stale 41 = .ok (.ior, 1) := dk_128 (dk_at dksX3_stale_1 18 rfl rfl)
theorem dX3_stale_42 : decode cX3_stale 42 = .ok (.istore_n 1, 1) := dk_60 (dk_at dksX3_stale_1 19 rfl rfl)
theorem dX3_stale_43 : decode cX3_stale 43 = .ok (.iinc 2 1, 3) := dk_132 2 1 (dk_at dksX3_stale_1 20 rfl rfl)
theorem dX3_stale_46 : decode cX3_stale 46 = .ok (.goto (-37), 3) := dk_167 255 219 (dk_at dksX3_stale_2 0 rfl rfl)
theorem dX3_stale_49 : decode cX3_stale 49 = .ok (.iload_n 1, 1) := dk_27 (dk_at dksX3_stale_2 3 rfl rfl)
theorem dX3_stale_50 : decode cX3_stale 50 = .ok (.ireturn, 1) := dk_172 (dk_at dksX3_stale_2 4 rfl rfl)
abbrev cX3_unseen : ByteArray := prog_13_method_145_code
def yX3_unseen : MethodName := ⟨RX3, "unseen", "(I)F"⟩
def dkwX3_unseen_1 : List UInt8 := [182, 0, 100, 42, 27, 4, 182, 1, 240, 100, 134, 42, 27, 182, 0, 100, 134, 110, 174]
abbrev dktX3_unseen_1 : List UInt8 := dkwX3_unseen_1 ++ []
def dkwX3_unseen_0 : List UInt8 := [42, 42, 27, 182, 0, 189, 182, 1, 10, 153, 0, 11, 42, 27, 182, 0, 100, 154, 0, 5, 11, 174, 42, 27]
abbrev dktX3_unseen_0 : List UInt8 := dkwX3_unseen_0 ++ dktX3_unseen_1
theorem dksX3_unseen_0 : cX3_unseen.data.toList.drop 0 = dktX3_unseen_0 := by decide +kernel
theorem dksX3_unseen_1 : cX3_unseen.data.toList.drop 24 = dktX3_unseen_1 := dk_seg dksX3_unseen_0 24 rfl rfl
theorem dX3_unseen_0 : decode cX3_unseen 0 = .ok (.aload_n 0, 1) := dk_42 (dk_at dksX3_unseen_0 0 rfl rfl)
theorem dX3_unseen_1 : decode cX3_unseen 1 = .ok (.aload_n 0, 1) := dk_42 (dk_at dksX3_unseen_0 1 rfl rfl)
theorem dX3_unseen_2 : decode cX3_unseen 2 = .ok (.iload_n 1, 1) := dk_27 (dk_at dksX3_unseen_0 2 rfl rfl)
theorem dX3_unseen_3 : decode cX3_unseen 3 = .ok (.invokevirtual 189, 3) := dk_182 0 189 (dk_at dksX3_unseen_0 3 rfl rfl)
theorem dX3_unseen_6 : decode cX3_unseen 6 = .ok (.invokevirtual 266, 3) := dk_182 1 10 (dk_at dksX3_unseen_0 6 rfl rfl)
theorem dX3_unseen_9 : decode cX3_unseen 9 = .ok (.ifCond .eq 11, 3) := dk_153 0 11 (dk_at dksX3_unseen_0 9 rfl rfl)
theorem dX3_unseen_12 : decode cX3_unseen 12 = .ok (.aload_n 0, 1) := dk_42 (dk_at dksX3_unseen_0 12 rfl rfl)
theorem dX3_unseen_13 : decode cX3_unseen 13 = .ok (.iload_n 1, 1) := dk_27 (dk_at dksX3_unseen_0 13 rfl rfl)
theorem dX3_unseen_14 : decode cX3_unseen 14 = .ok (.invokevirtual 100, 3) := dk_182 0 100 (dk_at dksX3_unseen_0 14 rfl rfl)
theorem dX3_unseen_17 : decode cX3_unseen 17 = .ok (.ifCond .ne 5, 3) := dk_154 0 5 (dk_at dksX3_unseen_0 17 rfl rfl)
theorem dX3_unseen_20 : decode cX3_unseen 20 = .ok (.fconst 0, 1) := dk_11 (dk_at dksX3_unseen_0 20 rfl rfl)
theorem dX3_unseen_21 : decode cX3_unseen 21 = .ok (.freturn, 1) := dk_174 (dk_at dksX3_unseen_0 21 rfl rfl)
theorem dX3_unseen_22 : decode cX3_unseen 22 = .ok (.aload_n 0, 1) := dk_42 (dk_at dksX3_unseen_0 22 rfl rfl)
theorem dX3_unseen_23 : decode cX3_unseen 23 = .ok (.iload_n 1, 1) := dk_27 (dk_at dksX3_unseen_0 23 rfl rfl)
theorem dX3_unseen_24 : decode cX3_unseen 24 = .ok (.invokevirtual 100, 3) := dk_182 0 100 (dk_at dksX3_unseen_1 0 rfl rfl)
theorem dX3_unseen_27 : decode cX3_unseen 27 = .ok (.aload_n 0, 1) := dk_42 (dk_at dksX3_unseen_1 3 rfl rfl)
theorem dX3_unseen_28 : decode cX3_unseen 28 = .ok (.iload_n 1, 1) := dk_27 (dk_at dksX3_unseen_1 4 rfl rfl)
theorem dX3_unseen_29 : decode cX3_unseen 29 = .ok (.iconst 1, 1) := dk_4 (dk_at dksX3_unseen_1 5 rfl rfl)
theorem dX3_unseen_30 : decode cX3_unseen 30 = .ok (.invokevirtual 496, 3) := dk_182 1 240 (dk_at dksX3_unseen_1 6 rfl rfl)
theorem dX3_unseen_33 : decode cX3_unseen 33 = .ok (.isub, 1) := dk_100 (dk_at dksX3_unseen_1 9 rfl rfl)
theorem dX3_unseen_34 : decode cX3_unseen 34 = .ok (.i2f, 1) := dk_134 (dk_at dksX3_unseen_1 10 rfl rfl)
theorem dX3_unseen_35 : decode cX3_unseen 35 = .ok (.aload_n 0, 1) := dk_42 (dk_at dksX3_unseen_1 11 rfl rfl)
theorem dX3_unseen_36 : decode cX3_unseen 36 = .ok (.iload_n 1, 1) := dk_27 (dk_at dksX3_unseen_1 12 rfl rfl)
theorem dX3_unseen_37 : decode cX3_unseen 37 = .ok (.invokevirtual 100, 3) := dk_182 0 100 (dk_at dksX3_unseen_1 13 rfl rfl)
theorem dX3_unseen_40 : decode cX3_unseen 40 = .ok (.i2f, 1) := dk_134 (dk_at dksX3_unseen_1 16 rfl rfl)
theorem dX3_unseen_41 : decode cX3_unseen 41 = .ok (.fdiv, 1) := dk_110 (dk_at dksX3_unseen_1 17 rfl rfl)
theorem dX3_unseen_42 : decode cX3_unseen 42 = .ok (.freturn, 1) := dk_174 (dk_at dksX3_unseen_1 18 rfl rfl)
abbrev cX3_mean : ByteArray := prog_13_method_146_code
def yX3_mean : MethodName := ⟨RX3, "mean", "(I)D"⟩
def dkwX3_mean_1 : List UInt8 := [182, 1, 237, 135, 42, 27, 182, 0, 100, 135, 111, 175]
abbrev dktX3_mean_1 : List UInt8 := dkwX3_mean_1 ++ []
def dkwX3_mean_0 : List UInt8 := [42, 42, 27, 182, 0, 189, 182, 1, 10, 153, 0, 11, 42, 27, 182, 0, 100, 154, 0, 5, 14, 175, 42, 27]
abbrev dktX3_mean_0 : List UInt8 := dkwX3_mean_0 ++ dktX3_mean_1
theorem dksX3_mean_0 : cX3_mean.data.toList.drop 0 = dktX3_mean_0 := by decide +kernel
theorem dksX3_mean_1 : cX3_mean.data.toList.drop 24 = dktX3_mean_1 := dk_seg dksX3_mean_0 24 rfl rfl
theorem dX3_mean_0 : decode cX3_mean 0 = .ok (.aload_n 0, 1) := dk_42 (dk_at dksX3_mean_0 0 rfl rfl)
theorem dX3_mean_1 : decode cX3_mean 1 = .ok (.aload_n 0, 1) := dk_42 (dk_at dksX3_mean_0 1 rfl rfl)
theorem dX3_mean_2 : decode cX3_mean 2 = .ok (.iload_n 1, 1) := dk_27 (dk_at dksX3_mean_0 2 rfl rfl)
theorem dX3_mean_3 : decode cX3_mean 3 = .ok (.invokevirtual 189, 3) := dk_182 0 189 (dk_at dksX3_mean_0 3 rfl rfl)
theorem dX3_mean_6 : decode cX3_mean 6 = .ok (.invokevirtual 266, 3) := dk_182 1 10 (dk_at dksX3_mean_0 6 rfl rfl)
theorem dX3_mean_9 : decode cX3_mean 9 = .ok (.ifCond .eq 11, 3) := dk_153 0 11 (dk_at dksX3_mean_0 9 rfl rfl)
theorem dX3_mean_12 : decode cX3_mean 12 = .ok (.aload_n 0, 1) := dk_42 (dk_at dksX3_mean_0 12 rfl rfl)
theorem dX3_mean_13 : decode cX3_mean 13 = .ok (.iload_n 1, 1) := dk_27 (dk_at dksX3_mean_0 13 rfl rfl)
theorem dX3_mean_14 : decode cX3_mean 14 = .ok (.invokevirtual 100, 3) := dk_182 0 100 (dk_at dksX3_mean_0 14 rfl rfl)
theorem dX3_mean_17 : decode cX3_mean 17 = .ok (.ifCond .ne 5, 3) := dk_154 0 5 (dk_at dksX3_mean_0 17 rfl rfl)
theorem dX3_mean_20 : decode cX3_mean 20 = .ok (.dconst 0, 1) := dk_14 (dk_at dksX3_mean_0 20 rfl rfl)
theorem dX3_mean_21 : decode cX3_mean 21 = .ok (.dreturn, 1) := dk_175 (dk_at dksX3_mean_0 21 rfl rfl)
theorem dX3_mean_22 : decode cX3_mean 22 = .ok (.aload_n 0, 1) := dk_42 (dk_at dksX3_mean_0 22 rfl rfl)
theorem dX3_mean_23 : decode cX3_mean 23 = .ok (.iload_n 1, 1) := dk_27 (dk_at dksX3_mean_0 23 rfl rfl)
theorem dX3_mean_24 : decode cX3_mean 24 = .ok (.invokevirtual 493, 3) := dk_182 1 237 (dk_at dksX3_mean_1 0 rfl rfl)
theorem dX3_mean_27 : decode cX3_mean 27 = .ok (.i2d, 1) := dk_135 (dk_at dksX3_mean_1 3 rfl rfl)
theorem dX3_mean_28 : decode cX3_mean 28 = .ok (.aload_n 0, 1) := dk_42 (dk_at dksX3_mean_1 4 rfl rfl)
theorem dX3_mean_29 : decode cX3_mean 29 = .ok (.iload_n 1, 1) := dk_27 (dk_at dksX3_mean_1 5 rfl rfl)
theorem dX3_mean_30 : decode cX3_mean 30 = .ok (.invokevirtual 100, 3) := dk_182 0 100 (dk_at dksX3_mean_1 6 rfl rfl)
theorem dX3_mean_33 : decode cX3_mean 33 = .ok (.i2d, 1) := dk_135 (dk_at dksX3_mean_1 9 rfl rfl)
theorem dX3_mean_34 : decode cX3_mean 34 = .ok (.ddiv, 1) := dk_111 (dk_at dksX3_mean_1 10 rfl rfl)
theorem dX3_mean_35 : decode cX3_mean 35 = .ok (.dreturn, 1) := dk_175 (dk_at dksX3_mean_1 11 rfl rfl)
abbrev cX3_account : ByteArray := prog_13_method_147_code
def yX3_account : MethodName := ⟨RX3, "account", "(II)I"⟩
def dkwX3_account_1 : List UInt8 := [184, 0, 84, 16, 6, 96, 28, 96, 182, 0, 62, 167, 0, 4, 3, 172]
abbrev dktX3_account_1 : List UInt8 := dkwX3_account_1 ++ []
def dkwX3_account_0 : List UInt8 := [42, 42, 27, 182, 0, 93, 28, 133, 9, 20, 1, 230, 184, 0, 70, 182, 0, 192, 153, 0, 19, 42, 27]
abbrev dktX3_account_0 : List UInt8 := dkwX3_account_0 ++ dktX3_account_1
theorem dksX3_account_0 : cX3_account.data.toList.drop 0 = dktX3_account_0 := by decide +kernel
theorem dksX3_account_1 : cX3_account.data.toList.drop 23 = dktX3_account_1 := dk_seg dksX3_account_0 23 rfl rfl
theorem dX3_account_0 : decode cX3_account 0 = .ok (.aload_n 0, 1) := dk_42 (dk_at dksX3_account_0 0 rfl rfl)
theorem dX3_account_1 : decode cX3_account 1 = .ok (.aload_n 0, 1) := dk_42 (dk_at dksX3_account_0 1 rfl rfl)
theorem dX3_account_2 : decode cX3_account 2 = .ok (.iload_n 1, 1) := dk_27 (dk_at dksX3_account_0 2 rfl rfl)
theorem dX3_account_3 : decode cX3_account 3 = .ok (.invokevirtual 93, 3) := dk_182 0 93 (dk_at dksX3_account_0 3 rfl rfl)
theorem dX3_account_6 : decode cX3_account 6 = .ok (.iload_n 2, 1) := dk_28 (dk_at dksX3_account_0 6 rfl rfl)
theorem dX3_account_7 : decode cX3_account 7 = .ok (.i2l, 1) := dk_133 (dk_at dksX3_account_0 7 rfl rfl)
theorem dX3_account_8 : decode cX3_account 8 = .ok (.lconst 0, 1) := dk_9 (dk_at dksX3_account_0 8 rfl rfl)
theorem dX3_account_9 : decode cX3_account 9 = .ok (.ldc2_w 486, 3) := dk_20 1 230 (dk_at dksX3_account_0 9 rfl rfl)
theorem dX3_account_12 : decode cX3_account 12 = .ok (.invokestatic 70, 3) := dk_184 0 70 (dk_at dksX3_account_0 12 rfl rfl)
theorem dX3_account_15 : decode cX3_account 15 = .ok (.invokevirtual 192, 3) := dk_182 0 192 (dk_at dksX3_account_0 15 rfl rfl)
theorem dX3_account_18 : decode cX3_account 18 = .ok (.ifCond .eq 19, 3) := dk_153 0 19 (dk_at dksX3_account_0 18 rfl rfl)
theorem dX3_account_21 : decode cX3_account 21 = .ok (.aload_n 0, 1) := dk_42 (dk_at dksX3_account_0 21 rfl rfl)
theorem dX3_account_22 : decode cX3_account 22 = .ok (.iload_n 1, 1) := dk_27 (dk_at dksX3_account_0 22 rfl rfl)
theorem dX3_account_23 : decode cX3_account 23 = .ok (.invokestatic 84, 3) := dk_184 0 84 (dk_at dksX3_account_1 0 rfl rfl)
theorem dX3_account_26 : decode cX3_account 26 = .ok (.bipush 6, 2) := dk_16 6 (dk_at dksX3_account_1 3 rfl rfl)
theorem dX3_account_28 : decode cX3_account 28 = .ok (.iadd, 1) := dk_96 (dk_at dksX3_account_1 5 rfl rfl)
theorem dX3_account_29 : decode cX3_account 29 = .ok (.iload_n 2, 1) := dk_28 (dk_at dksX3_account_1 6 rfl rfl)
theorem dX3_account_30 : decode cX3_account 30 = .ok (.iadd, 1) := dk_96 (dk_at dksX3_account_1 7 rfl rfl)
theorem dX3_account_31 : decode cX3_account 31 = .ok (.invokevirtual 62, 3) := dk_182 0 62 (dk_at dksX3_account_1 8 rfl rfl)
theorem dX3_account_34 : decode cX3_account 34 = .ok (.goto 4, 3) := dk_167 0 4 (dk_at dksX3_account_1 11 rfl rfl)
theorem dX3_account_37 : decode cX3_account 37 = .ok (.iconst 0, 1) := dk_3 (dk_at dksX3_account_1 14 rfl rfl)
theorem dX3_account_38 : decode cX3_account 38 = .ok (.ireturn, 1) := dk_172 (dk_at dksX3_account_1 15 rfl rfl)
abbrev cX3_notice : ByteArray := prog_13_method_148_code
def yX3_notice : MethodName := ⟨RX3, "notice", "(II)I"⟩
def dkwX3_notice_1 : List UInt8 := [182, 0, 192, 153, 0, 16, 42, 180, 0, 27, 7, 27, 104, 28, 96, 46, 167, 0, 4, 3, 172]
abbrev dktX3_notice_1 : List UInt8 := dkwX3_notice_1 ++ []
def dkwX3_notice_0 : List UInt8 := [42, 28, 133, 9, 20, 1, 255, 184, 0, 70, 27, 133, 9, 42, 180, 0, 138, 4, 100, 133, 184, 0, 70]
abbrev dktX3_notice_0 : List UInt8 := dkwX3_notice_0 ++ dktX3_notice_1
theorem dksX3_notice_0 : cX3_notice.data.toList.drop 0 = dktX3_notice_0 := by decide +kernel
theorem dksX3_notice_1 : cX3_notice.data.toList.drop 23 = dktX3_notice_1 := dk_seg dksX3_notice_0 23 rfl rfl
theorem dX3_notice_0 : decode cX3_notice 0 = .ok (.aload_n 0, 1) := dk_42 (dk_at dksX3_notice_0 0 rfl rfl)
theorem dX3_notice_1 : decode cX3_notice 1 = .ok (.iload_n 2, 1) := dk_28 (dk_at dksX3_notice_0 1 rfl rfl)
theorem dX3_notice_2 : decode cX3_notice 2 = .ok (.i2l, 1) := dk_133 (dk_at dksX3_notice_0 2 rfl rfl)
theorem dX3_notice_3 : decode cX3_notice 3 = .ok (.lconst 0, 1) := dk_9 (dk_at dksX3_notice_0 3 rfl rfl)
theorem dX3_notice_4 : decode cX3_notice 4 = .ok (.ldc2_w 511, 3) := dk_20 1 255 (dk_at dksX3_notice_0 4 rfl rfl)
theorem dX3_notice_7 : decode cX3_notice 7 = .ok (.invokestatic 70, 3) := dk_184 0 70 (dk_at dksX3_notice_0 7 rfl rfl)
theorem dX3_notice_10 : decode cX3_notice 10 = .ok (.iload_n 1, 1) := dk_27 (dk_at dksX3_notice_0 10 rfl rfl)
theorem dX3_notice_11 : decode cX3_notice 11 = .ok (.i2l, 1) := dk_133 (dk_at dksX3_notice_0 11 rfl rfl)
theorem dX3_notice_12 : decode cX3_notice 12 = .ok (.lconst 0, 1) := dk_9 (dk_at dksX3_notice_0 12 rfl rfl)
theorem dX3_notice_13 : decode cX3_notice 13 = .ok (.aload_n 0, 1) := dk_42 (dk_at dksX3_notice_0 13 rfl rfl)
theorem dX3_notice_14 : decode cX3_notice 14 = .ok (.getfield 138, 3) := dk_180 0 138 (dk_at dksX3_notice_0 14 rfl rfl)
theorem dX3_notice_17 : decode cX3_notice 17 = .ok (.iconst 1, 1) := dk_4 (dk_at dksX3_notice_0 17 rfl rfl)
theorem dX3_notice_18 : decode cX3_notice 18 = .ok (.isub, 1) := dk_100 (dk_at dksX3_notice_0 18 rfl rfl)
theorem dX3_notice_19 : decode cX3_notice 19 = .ok (.i2l, 1) := dk_133 (dk_at dksX3_notice_0 19 rfl rfl)
theorem dX3_notice_20 : decode cX3_notice 20 = .ok (.invokestatic 70, 3) := dk_184 0 70 (dk_at dksX3_notice_0 20 rfl rfl)
theorem dX3_notice_23 : decode cX3_notice 23 = .ok (.invokevirtual 192, 3) := dk_182 0 192 (dk_at dksX3_notice_1 0 rfl rfl)
theorem dX3_notice_26 : decode cX3_notice 26 = .ok (.ifCond .eq 16, 3) := dk_153 0 16 (dk_at dksX3_notice_1 3 rfl rfl)
theorem dX3_notice_29 : decode cX3_notice 29 = .ok (.aload_n 0, 1) := dk_42 (dk_at dksX3_notice_1 6 rfl rfl)
theorem dX3_notice_30 : decode cX3_notice 30 = .ok (.getfield 27, 3) := dk_180 0 27 (dk_at dksX3_notice_1 7 rfl rfl)
theorem dX3_notice_33 : decode cX3_notice 33 = .ok (.iconst 4, 1) := dk_7 (dk_at dksX3_notice_1 10 rfl rfl)
theorem dX3_notice_34 : decode cX3_notice 34 = .ok (.iload_n 1, 1) := dk_27 (dk_at dksX3_notice_1 11 rfl rfl)
theorem dX3_notice_35 : decode cX3_notice 35 = .ok (.imul, 1) := dk_104 (dk_at dksX3_notice_1 12 rfl rfl)
theorem dX3_notice_36 : decode cX3_notice 36 = .ok (.iload_n 2, 1) := dk_28 (dk_at dksX3_notice_1 13 rfl rfl)
theorem dX3_notice_37 : decode cX3_notice 37 = .ok (.iadd, 1) := dk_96 (dk_at dksX3_notice_1 14 rfl rfl)
theorem dX3_notice_38 : decode cX3_notice 38 = .ok (.iaload, 1) := dk_46 (dk_at dksX3_notice_1 15 rfl rfl)
theorem dX3_notice_39 : decode cX3_notice 39 = .ok (.goto 4, 3) := dk_167 0 4 (dk_at dksX3_notice_1 16 rfl rfl)
theorem dX3_notice_42 : decode cX3_notice 42 = .ok (.iconst 0, 1) := dk_3 (dk_at dksX3_notice_1 19 rfl rfl)
theorem dX3_notice_43 : decode cX3_notice 43 = .ok (.ireturn, 1) := dk_172 (dk_at dksX3_notice_1 20 rfl rfl)
abbrev cX3_keep : ByteArray := prog_13_method_150_code
def yX3_keep : MethodName := ⟨RX3, "keep", "(I)I"⟩
def dkwX3_keep_2 : List UInt8 := [180, 0, 51, 27, 4, 84, 42, 182, 1, 232, 172]
abbrev dktX3_keep_2 : List UInt8 := dkwX3_keep_2 ++ []
def dkwX3_keep_1 : List UInt8 := [180, 0, 48, 17, 3, 38, 27, 104, 28, 96, 42, 180, 0, 17, 28, 47, 80, 132, 2, 1, 167, 255, 228, 42]
abbrev dktX3_keep_1 : List UInt8 := dkwX3_keep_1 ++ dktX3_keep_2
def dkwX3_keep_0 : List UInt8 := [42, 27, 184, 2, 1, 182, 1, 10, 154, 0, 5, 3, 172, 3, 61, 28, 17, 3, 38, 162, 0, 27, 42]
abbrev dktX3_keep_0 : List UInt8 := dkwX3_keep_0 ++ dktX3_keep_1
theorem dksX3_keep_0 : cX3_keep.data.toList.drop 0 = dktX3_keep_0 := by decide +kernel
theorem dksX3_keep_1 : cX3_keep.data.toList.drop 23 = dktX3_keep_1 := dk_seg dksX3_keep_0 23 rfl rfl
theorem dksX3_keep_2 : cX3_keep.data.toList.drop 47 = dktX3_keep_2 := dk_seg dksX3_keep_1 24 rfl rfl
theorem dX3_keep_0 : decode cX3_keep 0 = .ok (.aload_n 0, 1) := dk_42 (dk_at dksX3_keep_0 0 rfl rfl)
theorem dX3_keep_1 : decode cX3_keep 1 = .ok (.iload_n 1, 1) := dk_27 (dk_at dksX3_keep_0 1 rfl rfl)
theorem dX3_keep_2 : decode cX3_keep 2 = .ok (.invokestatic 513, 3) := dk_184 2 1 (dk_at dksX3_keep_0 2 rfl rfl)
theorem dX3_keep_5 : decode cX3_keep 5 = .ok (.invokevirtual 266, 3) := dk_182 1 10 (dk_at dksX3_keep_0 5 rfl rfl)
theorem dX3_keep_8 : decode cX3_keep 8 = .ok (.ifCond .ne 5, 3) := dk_154 0 5 (dk_at dksX3_keep_0 8 rfl rfl)
theorem dX3_keep_11 : decode cX3_keep 11 = .ok (.iconst 0, 1) := dk_3 (dk_at dksX3_keep_0 11 rfl rfl)
theorem dX3_keep_12 : decode cX3_keep 12 = .ok (.ireturn, 1) := dk_172 (dk_at dksX3_keep_0 12 rfl rfl)
theorem dX3_keep_13 : decode cX3_keep 13 = .ok (.iconst 0, 1) := dk_3 (dk_at dksX3_keep_0 13 rfl rfl)
theorem dX3_keep_14 : decode cX3_keep 14 = .ok (.istore_n 2, 1) := dk_61 (dk_at dksX3_keep_0 14 rfl rfl)
theorem dX3_keep_15 : decode cX3_keep 15 = .ok (.iload_n 2, 1) := dk_28 (dk_at dksX3_keep_0 15 rfl rfl)
theorem dX3_keep_16 : decode cX3_keep 16 = .ok (.sipush 806, 3) := dk_17 3 38 (dk_at dksX3_keep_0 16 rfl rfl)
theorem dX3_keep_19 : decode cX3_keep 19 = .ok (.if_icmp .ge 27, 3) := dk_162 0 27 (dk_at dksX3_keep_0 19 rfl rfl)
theorem dX3_keep_22 : decode cX3_keep 22 = .ok (.aload_n 0, 1) := dk_42 (dk_at dksX3_keep_0 22 rfl rfl)
theorem dX3_keep_23 : decode cX3_keep 23 = .ok (.getfield 48, 3) := dk_180 0 48 (dk_at dksX3_keep_1 0 rfl rfl)
theorem dX3_keep_26 : decode cX3_keep 26 = .ok (.sipush 806, 3) := dk_17 3 38 (dk_at dksX3_keep_1 3 rfl rfl)
theorem dX3_keep_29 : decode cX3_keep 29 = .ok (.iload_n 1, 1) := dk_27 (dk_at dksX3_keep_1 6 rfl rfl)
theorem dX3_keep_30 : decode cX3_keep 30 = .ok (.imul, 1) := dk_104 (dk_at dksX3_keep_1 7 rfl rfl)
theorem dX3_keep_31 : decode cX3_keep 31 = .ok (.iload_n 2, 1) := dk_28 (dk_at dksX3_keep_1 8 rfl rfl)
theorem dX3_keep_32 : decode cX3_keep 32 = .ok (.iadd, 1) := dk_96 (dk_at dksX3_keep_1 9 rfl rfl)
theorem dX3_keep_33 : decode cX3_keep 33 = .ok (.aload_n 0, 1) := dk_42 (dk_at dksX3_keep_1 10 rfl rfl)
theorem dX3_keep_34 : decode cX3_keep 34 = .ok (.getfield 17, 3) := dk_180 0 17 (dk_at dksX3_keep_1 11 rfl rfl)
theorem dX3_keep_37 : decode cX3_keep 37 = .ok (.iload_n 2, 1) := dk_28 (dk_at dksX3_keep_1 14 rfl rfl)
theorem dX3_keep_38 : decode cX3_keep 38 = .ok (.laload, 1) := dk_47 (dk_at dksX3_keep_1 15 rfl rfl)
theorem dX3_keep_39 : decode cX3_keep 39 = .ok (.lastore, 1) := dk_80 (dk_at dksX3_keep_1 16 rfl rfl)
theorem dX3_keep_40 : decode cX3_keep 40 = .ok (.iinc 2 1, 3) := dk_132 2 1 (dk_at dksX3_keep_1 17 rfl rfl)
theorem dX3_keep_43 : decode cX3_keep 43 = .ok (.goto (-28), 3) := dk_167 255 228 (dk_at dksX3_keep_1 20 rfl rfl)
theorem dX3_keep_46 : decode cX3_keep 46 = .ok (.aload_n 0, 1) := dk_42 (dk_at dksX3_keep_1 23 rfl rfl)
theorem dX3_keep_47 : decode cX3_keep 47 = .ok (.getfield 51, 3) := dk_180 0 51 (dk_at dksX3_keep_2 0 rfl rfl)
theorem dX3_keep_50 : decode cX3_keep 50 = .ok (.iload_n 1, 1) := dk_27 (dk_at dksX3_keep_2 3 rfl rfl)
theorem dX3_keep_51 : decode cX3_keep 51 = .ok (.iconst 1, 1) := dk_4 (dk_at dksX3_keep_2 4 rfl rfl)
theorem dX3_keep_52 : decode cX3_keep 52 = .ok (.bastore, 1) := dk_84 (dk_at dksX3_keep_2 5 rfl rfl)
theorem dX3_keep_53 : decode cX3_keep 53 = .ok (.aload_n 0, 1) := dk_42 (dk_at dksX3_keep_2 6 rfl rfl)
theorem dX3_keep_54 : decode cX3_keep 54 = .ok (.invokevirtual 488, 3) := dk_182 1 232 (dk_at dksX3_keep_2 7 rfl rfl)
theorem dX3_keep_57 : decode cX3_keep 57 = .ok (.ireturn, 1) := dk_172 (dk_at dksX3_keep_2 10 rfl rfl)
abbrev cX3_isSlot : ByteArray := prog_13_method_149_code
def yX3_isSlot : MethodName := ⟨RX3, "isSlot", "(I)Z"⟩
def dkwX3_isSlot_0 : List UInt8 := [26, 133, 9, 10, 184, 0, 70, 172]
abbrev dktX3_isSlot_0 : List UInt8 := dkwX3_isSlot_0 ++ []
theorem dksX3_isSlot_0 : cX3_isSlot.data.toList.drop 0 = dktX3_isSlot_0 := by decide +kernel
theorem dX3_isSlot_0 : decode cX3_isSlot 0 = .ok (.iload_n 0, 1) := dk_26 (dk_at dksX3_isSlot_0 0 rfl rfl)
theorem dX3_isSlot_1 : decode cX3_isSlot 1 = .ok (.i2l, 1) := dk_133 (dk_at dksX3_isSlot_0 1 rfl rfl)
theorem dX3_isSlot_2 : decode cX3_isSlot 2 = .ok (.lconst 0, 1) := dk_9 (dk_at dksX3_isSlot_0 2 rfl rfl)
theorem dX3_isSlot_3 : decode cX3_isSlot 3 = .ok (.lconst 1, 1) := dk_10 (dk_at dksX3_isSlot_0 3 rfl rfl)
theorem dX3_isSlot_4 : decode cX3_isSlot 4 = .ok (.invokestatic 70, 3) := dk_184 0 70 (dk_at dksX3_isSlot_0 4 rfl rfl)
theorem dX3_isSlot_7 : decode cX3_isSlot 7 = .ok (.ireturn, 1) := dk_172 (dk_at dksX3_isSlot_0 7 rfl rfl)
abbrev cX3_restore : ByteArray := prog_13_method_151_code
def yX3_restore : MethodName := ⟨RX3, "restore", "(I)I"⟩
def dkwX3_restore_3 : List UInt8 := [132, 2, 1, 167, 255, 228, 42, 182, 1, 232, 172]
abbrev dktX3_restore_3 : List UInt8 := dkwX3_restore_3 ++ []
def dkwX3_restore_2 : List UInt8 := [17, 3, 38, 162, 0, 27, 42, 180, 0, 17, 28, 42, 180, 0, 48, 17, 3, 38, 27, 104, 28, 96, 47, 80]
abbrev dktX3_restore_2 : List UInt8 := dkwX3_restore_2 ++ dktX3_restore_3
def dkwX3_restore_1 : List UInt8 := [167, 0, 4, 3, 182, 0, 192, 154, 0, 5, 3, 172, 42, 182, 0, 175, 42, 3, 181, 0, 138, 3, 61, 28]
abbrev dktX3_restore_1 : List UInt8 := dkwX3_restore_1 ++ dktX3_restore_2
def dkwX3_restore_0 : List UInt8 := [42, 27, 184, 2, 1, 27, 184, 2, 1, 153, 0, 12, 42, 180, 0, 51, 27, 51, 153, 0, 7, 4]
abbrev dktX3_restore_0 : List UInt8 := dkwX3_restore_0 ++ dktX3_restore_1
theorem dksX3_restore_0 : cX3_restore.data.toList.drop 0 = dktX3_restore_0 := by decide +kernel
theorem dksX3_restore_1 : cX3_restore.data.toList.drop 22 = dktX3_restore_1 := dk_seg dksX3_restore_0 22 rfl rfl
theorem dksX3_restore_2 : cX3_restore.data.toList.drop 46 = dktX3_restore_2 := dk_seg dksX3_restore_1 24 rfl rfl
theorem dksX3_restore_3 : cX3_restore.data.toList.drop 70 = dktX3_restore_3 := dk_seg dksX3_restore_2 24 rfl rfl
theorem dX3_restore_0 : decode cX3_restore 0 = .ok (.aload_n 0, 1) := dk_42 (dk_at dksX3_restore_0 0 rfl rfl)
theorem dX3_restore_1 : decode cX3_restore 1 = .ok (.iload_n 1, 1) := dk_27 (dk_at dksX3_restore_0 1 rfl rfl)
theorem dX3_restore_2 : decode cX3_restore 2 = .ok (.invokestatic 513, 3) := dk_184 2 1 (dk_at dksX3_restore_0 2 rfl rfl)
theorem dX3_restore_5 : decode cX3_restore 5 = .ok (.iload_n 1, 1) := dk_27 (dk_at dksX3_restore_0 5 rfl rfl)
theorem dX3_restore_6 : decode cX3_restore 6 = .ok (.invokestatic 513, 3) := dk_184 2 1 (dk_at dksX3_restore_0 6 rfl rfl)
theorem dX3_restore_9 : decode cX3_restore 9 = .ok (.ifCond .eq 12, 3) := dk_153 0 12 (dk_at dksX3_restore_0 9 rfl rfl)
theorem dX3_restore_12 : decode cX3_restore 12 = .ok (.aload_n 0, 1) := dk_42 (dk_at dksX3_restore_0 12 rfl rfl)
theorem dX3_restore_13 : decode cX3_restore 13 = .ok (.getfield 51, 3) := dk_180 0 51 (dk_at dksX3_restore_0 13 rfl rfl)
theorem dX3_restore_16 : decode cX3_restore 16 = .ok (.iload_n 1, 1) := dk_27 (dk_at dksX3_restore_0 16 rfl rfl)
theorem dX3_restore_17 : decode cX3_restore 17 = .ok (.baload, 1) := dk_51 (dk_at dksX3_restore_0 17 rfl rfl)
theorem dX3_restore_18 : decode cX3_restore 18 = .ok (.ifCond .eq 7, 3) := dk_153 0 7 (dk_at dksX3_restore_0 18 rfl rfl)
theorem dX3_restore_21 : decode cX3_restore 21 = .ok (.iconst 1, 1) := dk_4 (dk_at dksX3_restore_0 21 rfl rfl)
theorem dX3_restore_22 : decode cX3_restore 22 = .ok (.goto 4, 3) := dk_167 0 4 (dk_at dksX3_restore_1 0 rfl rfl)
theorem dX3_restore_25 : decode cX3_restore 25 = .ok (.iconst 0, 1) := dk_3 (dk_at dksX3_restore_1 3 rfl rfl)
theorem dX3_restore_26 : decode cX3_restore 26 = .ok (.invokevirtual 192, 3) := dk_182 0 192 (dk_at dksX3_restore_1 4 rfl rfl)
theorem dX3_restore_29 : decode cX3_restore 29 = .ok (.ifCond .ne 5, 3) := dk_154 0 5 (dk_at dksX3_restore_1 7 rfl rfl)
theorem dX3_restore_32 : decode cX3_restore 32 = .ok (.iconst 0, 1) := dk_3 (dk_at dksX3_restore_1 10 rfl rfl)
theorem dX3_restore_33 : decode cX3_restore 33 = .ok (.ireturn, 1) := dk_172 (dk_at dksX3_restore_1 11 rfl rfl)
theorem dX3_restore_34 : decode cX3_restore 34 = .ok (.aload_n 0, 1) := dk_42 (dk_at dksX3_restore_1 12 rfl rfl)
theorem dX3_restore_35 : decode cX3_restore 35 = .ok (.invokevirtual 175, 3) := dk_182 0 175 (dk_at dksX3_restore_1 13 rfl rfl)
theorem dX3_restore_38 : decode cX3_restore 38 = .ok (.aload_n 0, 1) := dk_42 (dk_at dksX3_restore_1 16 rfl rfl)
theorem dX3_restore_39 : decode cX3_restore 39 = .ok (.iconst 0, 1) := dk_3 (dk_at dksX3_restore_1 17 rfl rfl)
theorem dX3_restore_40 : decode cX3_restore 40 = .ok (.putfield 138, 3) := dk_181 0 138 (dk_at dksX3_restore_1 18 rfl rfl)
theorem dX3_restore_43 : decode cX3_restore 43 = .ok (.iconst 0, 1) := dk_3 (dk_at dksX3_restore_1 21 rfl rfl)
theorem dX3_restore_44 : decode cX3_restore 44 = .ok (.istore_n 2, 1) := dk_61 (dk_at dksX3_restore_1 22 rfl rfl)
theorem dX3_restore_45 : decode cX3_restore 45 = .ok (.iload_n 2, 1) := dk_28 (dk_at dksX3_restore_1 23 rfl rfl)
theorem dX3_restore_46 : decode cX3_restore 46 = .ok (.sipush 806, 3) := dk_17 3 38 (dk_at dksX3_restore_2 0 rfl rfl)
theorem dX3_restore_49 : decode cX3_restore 49 = .ok (.if_icmp .ge 27, 3) := dk_162 0 27 (dk_at dksX3_restore_2 3 rfl rfl)
theorem dX3_restore_52 : decode cX3_restore 52 = .ok (.aload_n 0, 1) := dk_42 (dk_at dksX3_restore_2 6 rfl rfl)
theorem dX3_restore_53 : decode cX3_restore 53 = .ok (.getfield 17, 3) := dk_180 0 17 (dk_at dksX3_restore_2 7 rfl rfl)
theorem dX3_restore_56 : decode cX3_restore 56 = .ok (.iload_n 2, 1) := dk_28 (dk_at dksX3_restore_2 10 rfl rfl)
theorem dX3_restore_57 : decode cX3_restore 57 = .ok (.aload_n 0, 1) := dk_42 (dk_at dksX3_restore_2 11 rfl rfl)
theorem dX3_restore_58 : decode cX3_restore 58 = .ok (.getfield 48, 3) := dk_180 0 48 (dk_at dksX3_restore_2 12 rfl rfl)
theorem dX3_restore_61 : decode cX3_restore 61 = .ok (.sipush 806, 3) := dk_17 3 38 (dk_at dksX3_restore_2 15 rfl rfl)
theorem dX3_restore_64 : decode cX3_restore 64 = .ok (.iload_n 1, 1) := dk_27 (dk_at dksX3_restore_2 18 rfl rfl)
theorem dX3_restore_65 : decode cX3_restore 65 = .ok (.imul, 1) := dk_104 (dk_at dksX3_restore_2 19 rfl rfl)
theorem dX3_restore_66 : decode cX3_restore 66 = .ok (.iload_n 2, 1) := dk_28 (dk_at dksX3_restore_2 20 rfl rfl)
theorem dX3_restore_67 : decode cX3_restore 67 = .ok (.iadd, 1) := dk_96 (dk_at dksX3_restore_2 21 rfl rfl)
theorem dX3_restore_68 : decode cX3_restore 68 = .ok (.laload, 1) := dk_47 (dk_at dksX3_restore_2 22 rfl rfl)
theorem dX3_restore_69 : decode cX3_restore 69 = .ok (.lastore, 1) := dk_80 (dk_at dksX3_restore_2 23 rfl rfl)
theorem dX3_restore_70 : decode cX3_restore 70 = .ok (.iinc 2 1, 3) := dk_132 2 1 (dk_at dksX3_restore_3 0 rfl rfl)
theorem dX3_restore_73 : decode cX3_restore 73 = .ok (.goto (-28), 3) := dk_167 255 228 (dk_at dksX3_restore_3 3 rfl rfl)
theorem dX3_restore_76 : decode cX3_restore 76 = .ok (.aload_n 0, 1) := dk_42 (dk_at dksX3_restore_3 6 rfl rfl)
theorem dX3_restore_77 : decode cX3_restore 77 = .ok (.invokevirtual 488, 3) := dk_182 1 232 (dk_at dksX3_restore_3 7 rfl rfl)
theorem dX3_restore_80 : decode cX3_restore 80 = .ok (.ireturn, 1) := dk_172 (dk_at dksX3_restore_3 10 rfl rfl)
abbrev cX3_undo : ByteArray := prog_13_method_153_code
def yX3_undo : MethodName := ⟨RX3, "undo", "()I"⟩
def dkwX3_undo_3 : List UInt8 := [167, 255, 225, 42, 180, 2, 4, 172]
abbrev dktX3_undo_3 : List UInt8 := dkwX3_undo_3 ++ []
def dkwX3_undo_2 : List UInt8 := [180, 0, 17, 27, 42, 180, 0, 54, 17, 3, 38, 42, 180, 2, 4, 104, 27, 96, 47, 80, 132, 1, 1]
abbrev dktX3_undo_2 : List UInt8 := dkwX3_undo_2 ++ dktX3_undo_3
def dkwX3_undo_1 : List UInt8 := [180, 2, 4, 4, 100, 181, 2, 4, 42, 3, 181, 0, 138, 3, 60, 27, 17, 3, 38, 162, 0, 30, 42]
abbrev dktX3_undo_1 : List UInt8 := dkwX3_undo_1 ++ dktX3_undo_2
def dkwX3_undo_0 : List UInt8 := [42, 42, 180, 2, 4, 158, 0, 7, 4, 167, 0, 4, 3, 182, 1, 10, 154, 0, 5, 3, 172, 42, 89]
abbrev dktX3_undo_0 : List UInt8 := dkwX3_undo_0 ++ dktX3_undo_1
theorem dksX3_undo_0 : cX3_undo.data.toList.drop 0 = dktX3_undo_0 := by decide +kernel
theorem dksX3_undo_1 : cX3_undo.data.toList.drop 23 = dktX3_undo_1 := dk_seg dksX3_undo_0 23 rfl rfl
theorem dksX3_undo_2 : cX3_undo.data.toList.drop 46 = dktX3_undo_2 := dk_seg dksX3_undo_1 23 rfl rfl
theorem dksX3_undo_3 : cX3_undo.data.toList.drop 69 = dktX3_undo_3 := dk_seg dksX3_undo_2 23 rfl rfl
theorem dX3_undo_0 : decode cX3_undo 0 = .ok (.aload_n 0, 1) := dk_42 (dk_at dksX3_undo_0 0 rfl rfl)
theorem dX3_undo_1 : decode cX3_undo 1 = .ok (.aload_n 0, 1) := dk_42 (dk_at dksX3_undo_0 1 rfl rfl)
theorem dX3_undo_2 : decode cX3_undo 2 = .ok (.getfield 516, 3) := dk_180 2 4 (dk_at dksX3_undo_0 2 rfl rfl)
theorem dX3_undo_5 : decode cX3_undo 5 = .ok (.ifCond .le 7, 3) := dk_158 0 7 (dk_at dksX3_undo_0 5 rfl rfl)
theorem dX3_undo_8 : decode cX3_undo 8 = .ok (.iconst 1, 1) := dk_4 (dk_at dksX3_undo_0 8 rfl rfl)
theorem dX3_undo_9 : decode cX3_undo 9 = .ok (.goto 4, 3) := dk_167 0 4 (dk_at dksX3_undo_0 9 rfl rfl)
theorem dX3_undo_12 : decode cX3_undo 12 = .ok (.iconst 0, 1) := dk_3 (dk_at dksX3_undo_0 12 rfl rfl)
theorem dX3_undo_13 : decode cX3_undo 13 = .ok (.invokevirtual 266, 3) := dk_182 1 10 (dk_at dksX3_undo_0 13 rfl rfl)
theorem dX3_undo_16 : decode cX3_undo 16 = .ok (.ifCond .ne 5, 3) := dk_154 0 5 (dk_at dksX3_undo_0 16 rfl rfl)
theorem dX3_undo_19 : decode cX3_undo 19 = .ok (.iconst 0, 1) := dk_3 (dk_at dksX3_undo_0 19 rfl rfl)
theorem dX3_undo_20 : decode cX3_undo 20 = .ok (.ireturn, 1) := dk_172 (dk_at dksX3_undo_0 20 rfl rfl)
theorem dX3_undo_21 : decode cX3_undo 21 = .ok (.aload_n 0, 1) := dk_42 (dk_at dksX3_undo_0 21 rfl rfl)
theorem dX3_undo_22 : decode cX3_undo 22 = .ok (.dup, 1) := dk_89 (dk_at dksX3_undo_0 22 rfl rfl)
theorem dX3_undo_23 : decode cX3_undo 23 = .ok (.getfield 516, 3) := dk_180 2 4 (dk_at dksX3_undo_1 0 rfl rfl)
theorem dX3_undo_26 : decode cX3_undo 26 = .ok (.iconst 1, 1) := dk_4 (dk_at dksX3_undo_1 3 rfl rfl)
theorem dX3_undo_27 : decode cX3_undo 27 = .ok (.isub, 1) := dk_100 (dk_at dksX3_undo_1 4 rfl rfl)
theorem dX3_undo_28 : decode cX3_undo 28 = .ok (.putfield 516, 3) := dk_181 2 4 (dk_at dksX3_undo_1 5 rfl rfl)
theorem dX3_undo_31 : decode cX3_undo 31 = .ok (.aload_n 0, 1) := dk_42 (dk_at dksX3_undo_1 8 rfl rfl)
theorem dX3_undo_32 : decode cX3_undo 32 = .ok (.iconst 0, 1) := dk_3 (dk_at dksX3_undo_1 9 rfl rfl)
theorem dX3_undo_33 : decode cX3_undo 33 = .ok (.putfield 138, 3) := dk_181 0 138 (dk_at dksX3_undo_1 10 rfl rfl)
theorem dX3_undo_36 : decode cX3_undo 36 = .ok (.iconst 0, 1) := dk_3 (dk_at dksX3_undo_1 13 rfl rfl)
theorem dX3_undo_37 : decode cX3_undo 37 = .ok (.istore_n 1, 1) := dk_60 (dk_at dksX3_undo_1 14 rfl rfl)
theorem dX3_undo_38 : decode cX3_undo 38 = .ok (.iload_n 1, 1) := dk_27 (dk_at dksX3_undo_1 15 rfl rfl)
theorem dX3_undo_39 : decode cX3_undo 39 = .ok (.sipush 806, 3) := dk_17 3 38 (dk_at dksX3_undo_1 16 rfl rfl)
theorem dX3_undo_42 : decode cX3_undo 42 = .ok (.if_icmp .ge 30, 3) := dk_162 0 30 (dk_at dksX3_undo_1 19 rfl rfl)
theorem dX3_undo_45 : decode cX3_undo 45 = .ok (.aload_n 0, 1) := dk_42 (dk_at dksX3_undo_1 22 rfl rfl)
theorem dX3_undo_46 : decode cX3_undo 46 = .ok (.getfield 17, 3) := dk_180 0 17 (dk_at dksX3_undo_2 0 rfl rfl)
theorem dX3_undo_49 : decode cX3_undo 49 = .ok (.iload_n 1, 1) := dk_27 (dk_at dksX3_undo_2 3 rfl rfl)
theorem dX3_undo_50 : decode cX3_undo 50 = .ok (.aload_n 0, 1) := dk_42 (dk_at dksX3_undo_2 4 rfl rfl)
theorem dX3_undo_51 : decode cX3_undo 51 = .ok (.getfield 54, 3) := dk_180 0 54 (dk_at dksX3_undo_2 5 rfl rfl)
theorem dX3_undo_54 : decode cX3_undo 54 = .ok (.sipush 806, 3) := dk_17 3 38 (dk_at dksX3_undo_2 8 rfl rfl)
theorem dX3_undo_57 : decode cX3_undo 57 = .ok (.aload_n 0, 1) := dk_42 (dk_at dksX3_undo_2 11 rfl rfl)
theorem dX3_undo_58 : decode cX3_undo 58 = .ok (.getfield 516, 3) := dk_180 2 4 (dk_at dksX3_undo_2 12 rfl rfl)
theorem dX3_undo_61 : decode cX3_undo 61 = .ok (.imul, 1) := dk_104 (dk_at dksX3_undo_2 15 rfl rfl)
theorem dX3_undo_62 : decode cX3_undo 62 = .ok (.iload_n 1, 1) := dk_27 (dk_at dksX3_undo_2 16 rfl rfl)
theorem dX3_undo_63 : decode cX3_undo 63 = .ok (.iadd, 1) := dk_96 (dk_at dksX3_undo_2 17 rfl rfl)
theorem dX3_undo_64 : decode cX3_undo 64 = .ok (.laload, 1) := dk_47 (dk_at dksX3_undo_2 18 rfl rfl)
theorem dX3_undo_65 : decode cX3_undo 65 = .ok (.lastore, 1) := dk_80 (dk_at dksX3_undo_2 19 rfl rfl)
theorem dX3_undo_66 : decode cX3_undo 66 = .ok (.iinc 1 1, 3) := dk_132 1 1 (dk_at dksX3_undo_2 20 rfl rfl)
theorem dX3_undo_69 : decode cX3_undo 69 = .ok (.goto (-31), 3) := dk_167 255 225 (dk_at dksX3_undo_3 0 rfl rfl)
theorem dX3_undo_72 : decode cX3_undo 72 = .ok (.aload_n 0, 1) := dk_42 (dk_at dksX3_undo_3 3 rfl rfl)
theorem dX3_undo_73 : decode cX3_undo 73 = .ok (.getfield 516, 3) := dk_180 2 4 (dk_at dksX3_undo_3 4 rfl rfl)
theorem dX3_undo_76 : decode cX3_undo 76 = .ok (.ireturn, 1) := dk_172 (dk_at dksX3_undo_3 7 rfl rfl)
abbrev cX3_undoCount : ByteArray := prog_13_method_154_code
def yX3_undoCount : MethodName := ⟨RX3, "undoCount", "()I"⟩
def dkwX3_undoCount_0 : List UInt8 := [42, 3, 181, 0, 3, 42, 180, 2, 4, 172]
abbrev dktX3_undoCount_0 : List UInt8 := dkwX3_undoCount_0 ++ []
theorem dksX3_undoCount_0 : cX3_undoCount.data.toList.drop 0 = dktX3_undoCount_0 := by decide +kernel
theorem dX3_undoCount_0 : decode cX3_undoCount 0 = .ok (.aload_n 0, 1) := dk_42 (dk_at dksX3_undoCount_0 0 rfl rfl)
theorem dX3_undoCount_1 : decode cX3_undoCount 1 = .ok (.iconst 0, 1) := dk_3 (dk_at dksX3_undoCount_0 1 rfl rfl)
theorem dX3_undoCount_2 : decode cX3_undoCount 2 = .ok (.putfield 3, 3) := dk_181 0 3 (dk_at dksX3_undoCount_0 2 rfl rfl)
theorem dX3_undoCount_5 : decode cX3_undoCount 5 = .ok (.aload_n 0, 1) := dk_42 (dk_at dksX3_undoCount_0 5 rfl rfl)
theorem dX3_undoCount_6 : decode cX3_undoCount 6 = .ok (.getfield 516, 3) := dk_180 2 4 (dk_at dksX3_undoCount_0 6 rfl rfl)
theorem dX3_undoCount_9 : decode cX3_undoCount 9 = .ok (.ireturn, 1) := dk_172 (dk_at dksX3_undoCount_0 9 rfl rfl)
abbrev cX3_writeBox : ByteArray := prog_13_method_159_code
def yX3_writeBox : MethodName := ⟨RX3, "writeBox", "(I)I"⟩
def dkwX3_writeBox_3 : List UInt8 := [182, 2, 19, 132, 2, 1, 167, 255, 201, 42, 180, 2, 7, 172]
abbrev dktX3_writeBox_3 : List UInt8 := dkwX3_writeBox_3 ++ []
def dkwX3_writeBox_2 : List UInt8 := [182, 2, 10, 42, 42, 27, 28, 4, 182, 0, 103, 182, 2, 16, 42, 42, 27, 28, 5, 182, 0, 103]
abbrev dktX3_writeBox_2 : List UInt8 := dkwX3_writeBox_2 ++ dktX3_writeBox_3
def dkwX3_writeBox_1 : List UInt8 := [182, 0, 100, 162, 0, 52, 42, 182, 2, 13, 42, 42, 27, 28, 3, 182, 0, 103, 182, 2, 16, 42, 16, 58]
abbrev dktX3_writeBox_1 : List UInt8 := dkwX3_writeBox_1 ++ dktX3_writeBox_2
def dkwX3_writeBox_0 : List UInt8 := [42, 42, 27, 182, 0, 189, 182, 1, 10, 154, 0, 5, 3, 172, 42, 3, 181, 2, 7, 3, 61, 28, 42, 27]
abbrev dktX3_writeBox_0 : List UInt8 := dkwX3_writeBox_0 ++ dktX3_writeBox_1
theorem dksX3_writeBox_0 : cX3_writeBox.data.toList.drop 0 = dktX3_writeBox_0 := by decide +kernel
theorem dksX3_writeBox_1 : cX3_writeBox.data.toList.drop 24 = dktX3_writeBox_1 := dk_seg dksX3_writeBox_0 24 rfl rfl
theorem dksX3_writeBox_2 : cX3_writeBox.data.toList.drop 48 = dktX3_writeBox_2 := dk_seg dksX3_writeBox_1 24 rfl rfl
theorem dksX3_writeBox_3 : cX3_writeBox.data.toList.drop 70 = dktX3_writeBox_3 := dk_seg dksX3_writeBox_2 22 rfl rfl
theorem dX3_writeBox_0 : decode cX3_writeBox 0 = .ok (.aload_n 0, 1) := dk_42 (dk_at dksX3_writeBox_0 0 rfl rfl)
theorem dX3_writeBox_1 : decode cX3_writeBox 1 = .ok (.aload_n 0, 1) := dk_42 (dk_at dksX3_writeBox_0 1 rfl rfl)
theorem dX3_writeBox_2 : decode cX3_writeBox 2 = .ok (.iload_n 1, 1) := dk_27 (dk_at dksX3_writeBox_0 2 rfl rfl)
theorem dX3_writeBox_3 : decode cX3_writeBox 3 = .ok (.invokevirtual 189, 3) := dk_182 0 189 (dk_at dksX3_writeBox_0 3 rfl rfl)
theorem dX3_writeBox_6 : decode cX3_writeBox 6 = .ok (.invokevirtual 266, 3) := dk_182 1 10 (dk_at dksX3_writeBox_0 6 rfl rfl)
theorem dX3_writeBox_9 : decode cX3_writeBox 9 = .ok (.ifCond .ne 5, 3) := dk_154 0 5 (dk_at dksX3_writeBox_0 9 rfl rfl)
theorem dX3_writeBox_12 : decode cX3_writeBox 12 = .ok (.iconst 0, 1) := dk_3 (dk_at dksX3_writeBox_0 12 rfl rfl)
theorem dX3_writeBox_13 : decode cX3_writeBox 13 = .ok (.ireturn, 1) := dk_172 (dk_at dksX3_writeBox_0 13 rfl rfl)
theorem dX3_writeBox_14 : decode cX3_writeBox 14 = .ok (.aload_n 0, 1) := dk_42 (dk_at dksX3_writeBox_0 14 rfl rfl)
theorem dX3_writeBox_15 : decode cX3_writeBox 15 = .ok (.iconst 0, 1) := dk_3 (dk_at dksX3_writeBox_0 15 rfl rfl)
theorem dX3_writeBox_16 : decode cX3_writeBox 16 = .ok (.putfield 519, 3) := dk_181 2 7 (dk_at dksX3_writeBox_0 16 rfl rfl)
theorem dX3_writeBox_19 : decode cX3_writeBox 19 = .ok (.iconst 0, 1) := dk_3 (dk_at dksX3_writeBox_0 19 rfl rfl)
theorem dX3_writeBox_20 : decode cX3_writeBox 20 = .ok (.istore_n 2, 1) := dk_61 (dk_at dksX3_writeBox_0 20 rfl rfl)
theorem dX3_writeBox_21 : decode cX3_writeBox 21 = .ok (.iload_n 2, 1) := dk_28 (dk_at dksX3_writeBox_0 21 rfl rfl)
theorem dX3_writeBox_22 : decode cX3_writeBox 22 = .ok (.aload_n 0, 1) := dk_42 (dk_at dksX3_writeBox_0 22 rfl rfl)
theorem dX3_writeBox_23 : decode cX3_writeBox 23 = .ok (.iload_n 1, 1) := dk_27 (dk_at dksX3_writeBox_0 23 rfl rfl)
theorem dX3_writeBox_24 : decode cX3_writeBox 24 = .ok (.invokevirtual 100, 3) := dk_182 0 100 (dk_at dksX3_writeBox_1 0 rfl rfl)
theorem dX3_writeBox_27 : decode cX3_writeBox 27 = .ok (.if_icmp .ge 52, 3) := dk_162 0 52 (dk_at dksX3_writeBox_1 3 rfl rfl)
theorem dX3_writeBox_30 : decode cX3_writeBox 30 = .ok (.aload_n 0, 1) := dk_42 (dk_at dksX3_writeBox_1 6 rfl rfl)
theorem dX3_writeBox_31 : decode cX3_writeBox 31 = .ok (.invokevirtual 525, 3) := dk_182 2 13 (dk_at dksX3_writeBox_1 7 rfl rfl)
theorem dX3_writeBox_34 : decode cX3_writeBox 34 = .ok (.aload_n 0, 1) := dk_42 (dk_at dksX3_writeBox_1 10 rfl rfl)
theorem dX3_writeBox_35 : decode cX3_writeBox 35 = .ok (.aload_n 0, 1) := dk_42 (dk_at dksX3_writeBox_1 11 rfl rfl)
theorem dX3_writeBox_36 : decode cX3_writeBox 36 = .ok (.iload_n 1, 1) := dk_27 (dk_at dksX3_writeBox_1 12 rfl rfl)
theorem dX3_writeBox_37 : decode cX3_writeBox 37 = .ok (.iload_n 2, 1) := dk_28 (dk_at dksX3_writeBox_1 13 rfl rfl)
theorem dX3_writeBox_38 : decode cX3_writeBox 38 = .ok (.iconst 0, 1) := dk_3 (dk_at dksX3_writeBox_1 14 rfl rfl)
theorem dX3_writeBox_39 : decode cX3_writeBox 39 = .ok (.invokevirtual 103, 3) := dk_182 0 103 (dk_at dksX3_writeBox_1 15 rfl rfl)
theorem dX3_writeBox_42 : decode cX3_writeBox 42 = .ok (.invokevirtual 528, 3) := dk_182 2 16 (dk_at dksX3_writeBox_1 18 rfl rfl)
theorem dX3_writeBox_45 : decode cX3_writeBox 45 = .ok (.aload_n 0, 1) := dk_42 (dk_at dksX3_writeBox_1 21 rfl rfl)
theorem dX3_writeBox_46 : decode cX3_writeBox 46 = .ok (.bipush 58, 2) := dk_16 58 (dk_at dksX3_writeBox_1 22 rfl rfl)
theorem dX3_writeBox_48 : decode cX3_writeBox 48 = .ok (.invokevirtual 522, 3) := dk_182 2 10 (dk_at dksX3_writeBox_2 0 rfl rfl)
theorem dX3_writeBox_51 : decode cX3_writeBox 51 = .ok (.aload_n 0, 1) := dk_42 (dk_at dksX3_writeBox_2 3 rfl rfl)
theorem dX3_writeBox_52 : decode cX3_writeBox 52 = .ok (.aload_n 0, 1) := dk_42 (dk_at dksX3_writeBox_2 4 rfl rfl)
theorem dX3_writeBox_53 : decode cX3_writeBox 53 = .ok (.iload_n 1, 1) := dk_27 (dk_at dksX3_writeBox_2 5 rfl rfl)
theorem dX3_writeBox_54 : decode cX3_writeBox 54 = .ok (.iload_n 2, 1) := dk_28 (dk_at dksX3_writeBox_2 6 rfl rfl)
theorem dX3_writeBox_55 : decode cX3_writeBox 55 = .ok (.iconst 1, 1) := dk_4 (dk_at dksX3_writeBox_2 7 rfl rfl)
theorem dX3_writeBox_56 : decode cX3_writeBox 56 = .ok (.invokevirtual 103, 3) := dk_182 0 103 (dk_at dksX3_writeBox_2 8 rfl rfl)
theorem dX3_writeBox_59 : decode cX3_writeBox 59 = .ok (.invokevirtual 528, 3) := dk_182 2 16 (dk_at dksX3_writeBox_2 11 rfl rfl)
theorem dX3_writeBox_62 : decode cX3_writeBox 62 = .ok (.aload_n 0, 1) := dk_42 (dk_at dksX3_writeBox_2 14 rfl rfl)
theorem dX3_writeBox_63 : decode cX3_writeBox 63 = .ok (.aload_n 0, 1) := dk_42 (dk_at dksX3_writeBox_2 15 rfl rfl)
theorem dX3_writeBox_64 : decode cX3_writeBox 64 = .ok (.iload_n 1, 1) := dk_27 (dk_at dksX3_writeBox_2 16 rfl rfl)
theorem dX3_writeBox_65 : decode cX3_writeBox 65 = .ok (.iload_n 2, 1) := dk_28 (dk_at dksX3_writeBox_2 17 rfl rfl)
theorem dX3_writeBox_66 : decode cX3_writeBox 66 = .ok (.iconst 2, 1) := dk_5 (dk_at dksX3_writeBox_2 18 rfl rfl)
theorem dX3_writeBox_67 : decode cX3_writeBox 67 = .ok (.invokevirtual 103, 3) := dk_182 0 103 (dk_at dksX3_writeBox_2 19 rfl rfl)
theorem dX3_writeBox_70 : decode cX3_writeBox 70 = .ok (.invokevirtual 531, 3) := dk_182 2 19 (dk_at dksX3_writeBox_3 0 rfl rfl)
theorem dX3_writeBox_73 : decode cX3_writeBox 73 = .ok (.iinc 2 1, 3) := dk_132 2 1 (dk_at dksX3_writeBox_3 3 rfl rfl)
theorem dX3_writeBox_76 : decode cX3_writeBox 76 = .ok (.goto (-55), 3) := dk_167 255 201 (dk_at dksX3_writeBox_3 6 rfl rfl)
theorem dX3_writeBox_79 : decode cX3_writeBox 79 = .ok (.aload_n 0, 1) := dk_42 (dk_at dksX3_writeBox_3 9 rfl rfl)
theorem dX3_writeBox_80 : decode cX3_writeBox 80 = .ok (.getfield 519, 3) := dk_180 2 7 (dk_at dksX3_writeBox_3 10 rfl rfl)
theorem dX3_writeBox_83 : decode cX3_writeBox 83 = .ok (.ireturn, 1) := dk_172 (dk_at dksX3_writeBox_3 13 rfl rfl)
abbrev cX3_writeGap : ByteArray := prog_13_method_158_code
def yX3_writeGap : MethodName := ⟨RX3, "writeGap", "()V"⟩
def dkwX3_writeGap_0 : List UInt8 := [42, 180, 2, 7, 158, 0, 9, 42, 16, 32, 182, 2, 10, 177]
abbrev dktX3_writeGap_0 : List UInt8 := dkwX3_writeGap_0 ++ []
theorem dksX3_writeGap_0 : cX3_writeGap.data.toList.drop 0 = dktX3_writeGap_0 := by decide +kernel
theorem dX3_writeGap_0 : decode cX3_writeGap 0 = .ok (.aload_n 0, 1) := dk_42 (dk_at dksX3_writeGap_0 0 rfl rfl)
theorem dX3_writeGap_1 : decode cX3_writeGap 1 = .ok (.getfield 519, 3) := dk_180 2 7 (dk_at dksX3_writeGap_0 1 rfl rfl)
theorem dX3_writeGap_4 : decode cX3_writeGap 4 = .ok (.ifCond .le 9, 3) := dk_158 0 9 (dk_at dksX3_writeGap_0 4 rfl rfl)
theorem dX3_writeGap_7 : decode cX3_writeGap 7 = .ok (.aload_n 0, 1) := dk_42 (dk_at dksX3_writeGap_0 7 rfl rfl)
theorem dX3_writeGap_8 : decode cX3_writeGap 8 = .ok (.bipush 32, 2) := dk_16 32 (dk_at dksX3_writeGap_0 8 rfl rfl)
theorem dX3_writeGap_10 : decode cX3_writeGap 10 = .ok (.invokevirtual 522, 3) := dk_182 2 10 (dk_at dksX3_writeGap_0 10 rfl rfl)
theorem dX3_writeGap_13 : decode cX3_writeGap 13 = .ok (.return_, 1) := dk_177 (dk_at dksX3_writeGap_0 13 rfl rfl)
abbrev cX3_write : ByteArray := prog_13_method_155_code
def yX3_write : MethodName := ⟨RX3, "write", "(I)V"⟩
def dkwX3_write_0 : List UInt8 := [42, 180, 0, 57, 42, 180, 2, 7, 27, 145, 84, 42, 89, 180, 2, 7, 4, 96, 181, 2, 7, 177]
abbrev dktX3_write_0 : List UInt8 := dkwX3_write_0 ++ []
theorem dksX3_write_0 : cX3_write.data.toList.drop 0 = dktX3_write_0 := by decide +kernel
theorem dX3_write_0 : decode cX3_write 0 = .ok (.aload_n 0, 1) := dk_42 (dk_at dksX3_write_0 0 rfl rfl)
theorem dX3_write_1 : decode cX3_write 1 = .ok (.getfield 57, 3) := dk_180 0 57 (dk_at dksX3_write_0 1 rfl rfl)
theorem dX3_write_4 : decode cX3_write 4 = .ok (.aload_n 0, 1) := dk_42 (dk_at dksX3_write_0 4 rfl rfl)
theorem dX3_write_5 : decode cX3_write 5 = .ok (.getfield 519, 3) := dk_180 2 7 (dk_at dksX3_write_0 5 rfl rfl)
theorem dX3_write_8 : decode cX3_write 8 = .ok (.iload_n 1, 1) := dk_27 (dk_at dksX3_write_0 8 rfl rfl)
theorem dX3_write_9 : decode cX3_write 9 = .ok (.i2b, 1) := dk_145 (dk_at dksX3_write_0 9 rfl rfl)
theorem dX3_write_10 : decode cX3_write 10 = .ok (.bastore, 1) := dk_84 (dk_at dksX3_write_0 10 rfl rfl)
theorem dX3_write_11 : decode cX3_write 11 = .ok (.aload_n 0, 1) := dk_42 (dk_at dksX3_write_0 11 rfl rfl)
theorem dX3_write_12 : decode cX3_write 12 = .ok (.dup, 1) := dk_89 (dk_at dksX3_write_0 12 rfl rfl)
theorem dX3_write_13 : decode cX3_write 13 = .ok (.getfield 519, 3) := dk_180 2 7 (dk_at dksX3_write_0 13 rfl rfl)
theorem dX3_write_16 : decode cX3_write 16 = .ok (.iconst 1, 1) := dk_4 (dk_at dksX3_write_0 16 rfl rfl)
theorem dX3_write_17 : decode cX3_write 17 = .ok (.iadd, 1) := dk_96 (dk_at dksX3_write_0 17 rfl rfl)
theorem dX3_write_18 : decode cX3_write 18 = .ok (.putfield 519, 3) := dk_181 2 7 (dk_at dksX3_write_0 18 rfl rfl)
theorem dX3_write_21 : decode cX3_write 21 = .ok (.return_, 1) := dk_177 (dk_at dksX3_write_0 21 rfl rfl)
abbrev cX3_writeNumber : ByteArray := prog_13_method_156_code
def yX3_writeNumber : MethodName := ⟨RX3, "writeNumber", "(I)V"⟩
def dkwX3_writeNumber_1 : List UInt8 := [42, 16, 48, 27, 29, 108, 16, 10, 112, 96, 182, 2, 10, 29, 16, 10, 108, 62, 167, 255, 234, 177]
abbrev dktX3_writeNumber_1 : List UInt8 := dkwX3_writeNumber_1 ++ []
def dkwX3_writeNumber_0 : List UInt8 := [4, 61, 27, 28, 108, 16, 10, 161, 0, 11, 28, 16, 10, 104, 61, 167, 255, 243, 28, 62, 29, 158, 0, 24]
abbrev dktX3_writeNumber_0 : List UInt8 := dkwX3_writeNumber_0 ++ dktX3_writeNumber_1
theorem dksX3_writeNumber_0 : cX3_writeNumber.data.toList.drop 0 = dktX3_writeNumber_0 := by decide +kernel
theorem dksX3_writeNumber_1 : cX3_writeNumber.data.toList.drop 24 = dktX3_writeNumber_1 := dk_seg dksX3_writeNumber_0 24 rfl rfl
theorem dX3_writeNumber_0 : decode cX3_writeNumber 0 = .ok (.iconst 1, 1) := dk_4 (dk_at dksX3_writeNumber_0 0 rfl rfl)
theorem dX3_writeNumber_1 : decode cX3_writeNumber 1 = .ok (.istore_n 2, 1) := dk_61 (dk_at dksX3_writeNumber_0 1 rfl rfl)
theorem dX3_writeNumber_2 : decode cX3_writeNumber 2 = .ok (.iload_n 1, 1) := dk_27 (dk_at dksX3_writeNumber_0 2 rfl rfl)
theorem dX3_writeNumber_3 : decode cX3_writeNumber 3 = .ok (.iload_n 2, 1) := dk_28 (dk_at dksX3_writeNumber_0 3 rfl rfl)
theorem dX3_writeNumber_4 : decode cX3_writeNumber 4 = .ok (.idiv, 1) := dk_108 (dk_at dksX3_writeNumber_0 4 rfl rfl)
theorem dX3_writeNumber_5 : decode cX3_writeNumber 5 = .ok (.bipush 10, 2) := dk_16 10 (dk_at dksX3_writeNumber_0 5 rfl rfl)
theorem dX3_writeNumber_7 : decode cX3_writeNumber 7 = .ok (.if_icmp .lt 11, 3) := dk_161 0 11 (dk_at dksX3_writeNumber_0 7 rfl rfl)
theorem dX3_writeNumber_10 : decode cX3_writeNumber 10 = .ok (.iload_n 2, 1) := dk_28 (dk_at dksX3_writeNumber_0 10 rfl rfl)
theorem dX3_writeNumber_11 : decode cX3_writeNumber 11 = .ok (.bipush 10, 2) := dk_16 10 (dk_at dksX3_writeNumber_0 11 rfl rfl)
theorem dX3_writeNumber_13 : decode cX3_writeNumber 13 = .ok (.imul, 1) := dk_104 (dk_at dksX3_writeNumber_0 13 rfl rfl)
theorem dX3_writeNumber_14 : decode cX3_writeNumber 14 = .ok (.istore_n 2, 1) := dk_61 (dk_at dksX3_writeNumber_0 14 rfl rfl)
theorem dX3_writeNumber_15 : decode cX3_writeNumber 15 = .ok (.goto (-13), 3) := dk_167 255 243 (dk_at dksX3_writeNumber_0 15 rfl rfl)
theorem dX3_writeNumber_18 : decode cX3_writeNumber 18 = .ok (.iload_n 2, 1) := dk_28 (dk_at dksX3_writeNumber_0 18 rfl rfl)
theorem dX3_writeNumber_19 : decode cX3_writeNumber 19 = .ok (.istore_n 3, 1) := dk_62 (dk_at dksX3_writeNumber_0 19 rfl rfl)
theorem dX3_writeNumber_20 : decode cX3_writeNumber 20 = .ok (.iload_n 3, 1) := dk_29 (dk_at dksX3_writeNumber_0 20 rfl rfl)
theorem dX3_writeNumber_21 : decode cX3_writeNumber 21 = .ok (.ifCond .le 24, 3) := dk_158 0 24 (dk_at dksX3_writeNumber_0 21 rfl rfl)
theorem dX3_writeNumber_24 : decode cX3_writeNumber 24 = .ok (.aload_n 0, 1) := dk_42 (dk_at dksX3_writeNumber_1 0 rfl rfl)
theorem dX3_writeNumber_25 : decode cX3_writeNumber 25 = .ok (.bipush 48, 2) := dk_16 48 (dk_at dksX3_writeNumber_1 1 rfl rfl)
theorem dX3_writeNumber_27 : decode cX3_writeNumber 27 = .ok (.iload_n 1, 1) := dk_27 (dk_at dksX3_writeNumber_1 3 rfl rfl)
theorem dX3_writeNumber_28 : decode cX3_writeNumber 28 = .ok (.iload_n 3, 1) := dk_29 (dk_at dksX3_writeNumber_1 4 rfl rfl)
theorem dX3_writeNumber_29 : decode cX3_writeNumber 29 = .ok (.idiv, 1) := dk_108 (dk_at dksX3_writeNumber_1 5 rfl rfl)
theorem dX3_writeNumber_30 : decode cX3_writeNumber 30 = .ok (.bipush 10, 2) := dk_16 10 (dk_at dksX3_writeNumber_1 6 rfl rfl)
theorem dX3_writeNumber_32 : decode cX3_writeNumber 32 = .ok (.irem, 1) := dk_112 (dk_at dksX3_writeNumber_1 8 rfl rfl)
theorem dX3_writeNumber_33 : decode cX3_writeNumber 33 = .ok (.iadd, 1) := dk_96 (dk_at dksX3_writeNumber_1 9 rfl rfl)
theorem dX3_writeNumber_34 : decode cX3_writeNumber 34 = .ok (.invokevirtual 522, 3) := dk_182 2 10 (dk_at dksX3_writeNumber_1 10 rfl rfl)
theorem dX3_writeNumber_37 : decode cX3_writeNumber 37 = .ok (.iload_n 3, 1) := dk_29 (dk_at dksX3_writeNumber_1 13 rfl rfl)
theorem dX3_writeNumber_38 : decode cX3_writeNumber 38 = .ok (.bipush 10, 2) := dk_16 10 (dk_at dksX3_writeNumber_1 14 rfl rfl)
theorem dX3_writeNumber_40 : decode cX3_writeNumber 40 = .ok (.idiv, 1) := dk_108 (dk_at dksX3_writeNumber_1 16 rfl rfl)
theorem dX3_writeNumber_41 : decode cX3_writeNumber 41 = .ok (.istore_n 3, 1) := dk_62 (dk_at dksX3_writeNumber_1 17 rfl rfl)
theorem dX3_writeNumber_42 : decode cX3_writeNumber 42 = .ok (.goto (-22), 3) := dk_167 255 234 (dk_at dksX3_writeNumber_1 18 rfl rfl)
theorem dX3_writeNumber_45 : decode cX3_writeNumber 45 = .ok (.return_, 1) := dk_177 (dk_at dksX3_writeNumber_1 21 rfl rfl)
abbrev cX3_writeFlags : ByteArray := prog_13_method_157_code
def yX3_writeFlags : MethodName := ⟨RX3, "writeFlags", "(I)V"⟩
def dkwX3_writeFlags_2 : List UInt8 := [153, 0, 9, 42, 16, 100, 182, 2, 10, 27, 7, 184, 1, 151, 153, 0, 9, 42, 16, 114, 182, 2, 10, 177]
abbrev dktX3_writeFlags_2 : List UInt8 := dkwX3_writeFlags_2 ++ []
def dkwX3_writeFlags_1 : List UInt8 := [16, 97, 182, 2, 10, 27, 5, 184, 1, 151, 153, 0, 9, 42, 16, 102, 182, 2, 10, 27, 6, 184, 1, 151]
abbrev dktX3_writeFlags_1 : List UInt8 := dkwX3_writeFlags_1 ++ dktX3_writeFlags_2
def dkwX3_writeFlags_0 : List UInt8 := [27, 3, 184, 1, 151, 153, 0, 9, 42, 16, 115, 182, 2, 10, 27, 4, 184, 1, 151, 153, 0, 9, 42]
abbrev dktX3_writeFlags_0 : List UInt8 := dkwX3_writeFlags_0 ++ dktX3_writeFlags_1
theorem dksX3_writeFlags_0 : cX3_writeFlags.data.toList.drop 0 = dktX3_writeFlags_0 := by decide +kernel
theorem dksX3_writeFlags_1 : cX3_writeFlags.data.toList.drop 23 = dktX3_writeFlags_1 := dk_seg dksX3_writeFlags_0 23 rfl rfl
theorem dksX3_writeFlags_2 : cX3_writeFlags.data.toList.drop 47 = dktX3_writeFlags_2 := dk_seg dksX3_writeFlags_1 24 rfl rfl
theorem dX3_writeFlags_0 : decode cX3_writeFlags 0 = .ok (.iload_n 1, 1) := dk_27 (dk_at dksX3_writeFlags_0 0 rfl rfl)
theorem dX3_writeFlags_1 : decode cX3_writeFlags 1 = .ok (.iconst 0, 1) := dk_3 (dk_at dksX3_writeFlags_0 1 rfl rfl)
theorem dX3_writeFlags_2 : decode cX3_writeFlags 2 = .ok (.invokestatic 407, 3) := dk_184 1 151 (dk_at dksX3_writeFlags_0 2 rfl rfl)
theorem dX3_writeFlags_5 : decode cX3_writeFlags 5 = .ok (.ifCond .eq 9, 3) := dk_153 0 9 (dk_at dksX3_writeFlags_0 5 rfl rfl)
theorem dX3_writeFlags_8 : decode cX3_writeFlags 8 = .ok (.aload_n 0, 1) := dk_42 (dk_at dksX3_writeFlags_0 8 rfl rfl)
theorem dX3_writeFlags_9 : decode cX3_writeFlags 9 = .ok (.bipush 115, 2) := dk_16 115 (dk_at dksX3_writeFlags_0 9 rfl rfl)
theorem dX3_writeFlags_11 : decode cX3_writeFlags 11 = .ok (.invokevirtual 522, 3) := dk_182 2 10 (dk_at dksX3_writeFlags_0 11 rfl rfl)
theorem dX3_writeFlags_14 : decode cX3_writeFlags 14 = .ok (.iload_n 1, 1) := dk_27 (dk_at dksX3_writeFlags_0 14 rfl rfl)
theorem dX3_writeFlags_15 : decode cX3_writeFlags 15 = .ok (.iconst 1, 1) := dk_4 (dk_at dksX3_writeFlags_0 15 rfl rfl)
theorem dX3_writeFlags_16 : decode cX3_writeFlags 16 = .ok (.invokestatic 407, 3) := dk_184 1 151 (dk_at dksX3_writeFlags_0 16 rfl rfl)
theorem dX3_writeFlags_19 : decode cX3_writeFlags 19 = .ok (.ifCond .eq 9, 3) := dk_153 0 9 (dk_at dksX3_writeFlags_0 19 rfl rfl)
theorem dX3_writeFlags_22 : decode cX3_writeFlags 22 = .ok (.aload_n 0, 1) := dk_42 (dk_at dksX3_writeFlags_0 22 rfl rfl)
theorem dX3_writeFlags_23 : decode cX3_writeFlags 23 = .ok (.bipush 97, 2) := dk_16 97 (dk_at dksX3_writeFlags_1 0 rfl rfl)
theorem dX3_writeFlags_25 : decode cX3_writeFlags 25 = .ok (.invokevirtual 522, 3) := dk_182 2 10 (dk_at dksX3_writeFlags_1 2 rfl rfl)
theorem dX3_writeFlags_28 : decode cX3_writeFlags 28 = .ok (.iload_n 1, 1) := dk_27 (dk_at dksX3_writeFlags_1 5 rfl rfl)
theorem dX3_writeFlags_29 : decode cX3_writeFlags 29 = .ok (.iconst 2, 1) := dk_5 (dk_at dksX3_writeFlags_1 6 rfl rfl)
theorem dX3_writeFlags_30 : decode cX3_writeFlags 30 = .ok (.invokestatic 407, 3) := dk_184 1 151 (dk_at dksX3_writeFlags_1 7 rfl rfl)
theorem dX3_writeFlags_33 : decode cX3_writeFlags 33 = .ok (.ifCond .eq 9, 3) := dk_153 0 9 (dk_at dksX3_writeFlags_1 10 rfl rfl)
theorem dX3_writeFlags_36 : decode cX3_writeFlags 36 = .ok (.aload_n 0, 1) := dk_42 (dk_at dksX3_writeFlags_1 13 rfl rfl)
theorem dX3_writeFlags_37 : decode cX3_writeFlags 37 = .ok (.bipush 102, 2) := dk_16 102 (dk_at dksX3_writeFlags_1 14 rfl rfl)
theorem dX3_writeFlags_39 : decode cX3_writeFlags 39 = .ok (.invokevirtual 522, 3) := dk_182 2 10 (dk_at dksX3_writeFlags_1 16 rfl rfl)
theorem dX3_writeFlags_42 : decode cX3_writeFlags 42 = .ok (.iload_n 1, 1) := dk_27 (dk_at dksX3_writeFlags_1 19 rfl rfl)
theorem dX3_writeFlags_43 : decode cX3_writeFlags 43 = .ok (.iconst 3, 1) := dk_6 (dk_at dksX3_writeFlags_1 20 rfl rfl)
theorem dX3_writeFlags_44 : decode cX3_writeFlags 44 = .ok (.invokestatic 407, 3) := dk_184 1 151 (dk_at dksX3_writeFlags_1 21 rfl rfl)
theorem dX3_writeFlags_47 : decode cX3_writeFlags 47 = .ok (.ifCond .eq 9, 3) := dk_153 0 9 (dk_at dksX3_writeFlags_2 0 rfl rfl)
theorem dX3_writeFlags_50 : decode cX3_writeFlags 50 = .ok (.aload_n 0, 1) := dk_42 (dk_at dksX3_writeFlags_2 3 rfl rfl)
theorem dX3_writeFlags_51 : decode cX3_writeFlags 51 = .ok (.bipush 100, 2) := dk_16 100 (dk_at dksX3_writeFlags_2 4 rfl rfl)
theorem dX3_writeFlags_53 : decode cX3_writeFlags 53 = .ok (.invokevirtual 522, 3) := dk_182 2 10 (dk_at dksX3_writeFlags_2 6 rfl rfl)
theorem dX3_writeFlags_56 : decode cX3_writeFlags 56 = .ok (.iload_n 1, 1) := dk_27 (dk_at dksX3_writeFlags_2 9 rfl rfl)
theorem dX3_writeFlags_57 : decode cX3_writeFlags 57 = .ok (.iconst 4, 1) := dk_7 (dk_at dksX3_writeFlags_2 10 rfl rfl)
theorem dX3_writeFlags_58 : decode cX3_writeFlags 58 = .ok (.invokestatic 407, 3) := dk_184 1 151 (dk_at dksX3_writeFlags_2 11 rfl rfl)
theorem dX3_writeFlags_61 : decode cX3_writeFlags 61 = .ok (.ifCond .eq 9, 3) := dk_153 0 9 (dk_at dksX3_writeFlags_2 14 rfl rfl)
theorem dX3_writeFlags_64 : decode cX3_writeFlags 64 = .ok (.aload_n 0, 1) := dk_42 (dk_at dksX3_writeFlags_2 17 rfl rfl)
theorem dX3_writeFlags_65 : decode cX3_writeFlags 65 = .ok (.bipush 114, 2) := dk_16 114 (dk_at dksX3_writeFlags_2 18 rfl rfl)
theorem dX3_writeFlags_67 : decode cX3_writeFlags 67 = .ok (.invokevirtual 522, 3) := dk_182 2 10 (dk_at dksX3_writeFlags_2 20 rfl rfl)
theorem dX3_writeFlags_70 : decode cX3_writeFlags 70 = .ok (.return_, 1) := dk_177 (dk_at dksX3_writeFlags_2 23 rfl rfl)
abbrev cX3_writeView : ByteArray := prog_13_method_160_code
def yX3_writeView : MethodName := ⟨RX3, "writeView", "(I)I"⟩
def dkwX3_writeView_3 : List UInt8 := [182, 0, 116, 153, 0, 9, 42, 16, 33, 182, 2, 10, 132, 2, 1, 167, 255, 192, 42, 180, 2, 7, 172]
abbrev dktX3_writeView_3 : List UInt8 := dkwX3_writeView_3 ++ []
def dkwX3_writeView_2 : List UInt8 := [28, 3, 182, 0, 107, 182, 2, 16, 42, 42, 27, 28, 4, 182, 0, 107, 182, 2, 19, 42, 27, 28]
abbrev dktX3_writeView_2 : List UInt8 := dkwX3_writeView_2 ++ dktX3_writeView_3
def dkwX3_writeView_1 : List UInt8 := [182, 0, 97, 163, 0, 61, 42, 182, 2, 13, 42, 28, 182, 2, 16, 42, 16, 58, 182, 2, 10, 42, 42, 27]
abbrev dktX3_writeView_1 : List UInt8 := dkwX3_writeView_1 ++ dktX3_writeView_2
def dkwX3_writeView_0 : List UInt8 := [42, 42, 27, 182, 0, 93, 182, 1, 10, 154, 0, 5, 3, 172, 42, 3, 181, 2, 7, 4, 61, 28, 42, 27]
abbrev dktX3_writeView_0 : List UInt8 := dkwX3_writeView_0 ++ dktX3_writeView_1
theorem dksX3_writeView_0 : cX3_writeView.data.toList.drop 0 = dktX3_writeView_0 := by decide +kernel
theorem dksX3_writeView_1 : cX3_writeView.data.toList.drop 24 = dktX3_writeView_1 := dk_seg dksX3_writeView_0 24 rfl rfl
theorem dksX3_writeView_2 : cX3_writeView.data.toList.drop 48 = dktX3_writeView_2 := dk_seg dksX3_writeView_1 24 rfl rfl
theorem dksX3_writeView_3 : cX3_writeView.data.toList.drop 70 = dktX3_writeView_3 := dk_seg dksX3_writeView_2 22 rfl rfl
theorem dX3_writeView_0 : decode cX3_writeView 0 = .ok (.aload_n 0, 1) := dk_42 (dk_at dksX3_writeView_0 0 rfl rfl)
theorem dX3_writeView_1 : decode cX3_writeView 1 = .ok (.aload_n 0, 1) := dk_42 (dk_at dksX3_writeView_0 1 rfl rfl)
theorem dX3_writeView_2 : decode cX3_writeView 2 = .ok (.iload_n 1, 1) := dk_27 (dk_at dksX3_writeView_0 2 rfl rfl)
theorem dX3_writeView_3 : decode cX3_writeView 3 = .ok (.invokevirtual 93, 3) := dk_182 0 93 (dk_at dksX3_writeView_0 3 rfl rfl)
theorem dX3_writeView_6 : decode cX3_writeView 6 = .ok (.invokevirtual 266, 3) := dk_182 1 10 (dk_at dksX3_writeView_0 6 rfl rfl)
theorem dX3_writeView_9 : decode cX3_writeView 9 = .ok (.ifCond .ne 5, 3) := dk_154 0 5 (dk_at dksX3_writeView_0 9 rfl rfl)
theorem dX3_writeView_12 : decode cX3_writeView 12 = .ok (.iconst 0, 1) := dk_3 (dk_at dksX3_writeView_0 12 rfl rfl)
theorem dX3_writeView_13 : decode cX3_writeView 13 = .ok (.ireturn, 1) := dk_172 (dk_at dksX3_writeView_0 13 rfl rfl)
theorem dX3_writeView_14 : decode cX3_writeView 14 = .ok (.aload_n 0, 1) := dk_42 (dk_at dksX3_writeView_0 14 rfl rfl)
theorem dX3_writeView_15 : decode cX3_writeView 15 = .ok (.iconst 0, 1) := dk_3 (dk_at dksX3_writeView_0 15 rfl rfl)
theorem dX3_writeView_16 : decode cX3_writeView 16 = .ok (.putfield 519, 3) := dk_181 2 7 (dk_at dksX3_writeView_0 16 rfl rfl)
theorem dX3_writeView_19 : decode cX3_writeView 19 = .ok (.iconst 1, 1) := dk_4 (dk_at dksX3_writeView_0 19 rfl rfl)
theorem dX3_writeView_20 : decode cX3_writeView 20 = .ok (.istore_n 2, 1) := dk_61 (dk_at dksX3_writeView_0 20 rfl rfl)
theorem dX3_writeView_21 : decode cX3_writeView 21 = .ok (.iload_n 2, 1) := dk_28 (dk_at dksX3_writeView_0 21 rfl rfl)
theorem dX3_writeView_22 : decode cX3_writeView 22 = .ok (.aload_n 0, 1) := dk_42 (dk_at dksX3_writeView_0 22 rfl rfl)
theorem dX3_writeView_23 : decode cX3_writeView 23 = .ok (.iload_n 1, 1) := dk_27 (dk_at dksX3_writeView_0 23 rfl rfl)
theorem dX3_writeView_24 : decode cX3_writeView 24 = .ok (.invokevirtual 97, 3) := dk_182 0 97 (dk_at dksX3_writeView_1 0 rfl rfl)
theorem dX3_writeView_27 : decode cX3_writeView 27 = .ok (.if_icmp .gt 61, 3) := dk_163 0 61 (dk_at dksX3_writeView_1 3 rfl rfl)
theorem dX3_writeView_30 : decode cX3_writeView 30 = .ok (.aload_n 0, 1) := dk_42 (dk_at dksX3_writeView_1 6 rfl rfl)
theorem dX3_writeView_31 : decode cX3_writeView 31 = .ok (.invokevirtual 525, 3) := dk_182 2 13 (dk_at dksX3_writeView_1 7 rfl rfl)
theorem dX3_writeView_34 : decode cX3_writeView 34 = .ok (.aload_n 0, 1) := dk_42 (dk_at dksX3_writeView_1 10 rfl rfl)
theorem dX3_writeView_35 : decode cX3_writeView 35 = .ok (.iload_n 2, 1) := dk_28 (dk_at dksX3_writeView_1 11 rfl rfl)
theorem dX3_writeView_36 : decode cX3_writeView 36 = .ok (.invokevirtual 528, 3) := dk_182 2 16 (dk_at dksX3_writeView_1 12 rfl rfl)
theorem dX3_writeView_39 : decode cX3_writeView 39 = .ok (.aload_n 0, 1) := dk_42 (dk_at dksX3_writeView_1 15 rfl rfl)
theorem dX3_writeView_40 : decode cX3_writeView 40 = .ok (.bipush 58, 2) := dk_16 58 (dk_at dksX3_writeView_1 16 rfl rfl)
theorem dX3_writeView_42 : decode cX3_writeView 42 = .ok (.invokevirtual 522, 3) := dk_182 2 10 (dk_at dksX3_writeView_1 18 rfl rfl)
theorem dX3_writeView_45 : decode cX3_writeView 45 = .ok (.aload_n 0, 1) := dk_42 (dk_at dksX3_writeView_1 21 rfl rfl)
theorem dX3_writeView_46 : decode cX3_writeView 46 = .ok (.aload_n 0, 1) := dk_42 (dk_at dksX3_writeView_1 22 rfl rfl)
theorem dX3_writeView_47 : decode cX3_writeView 47 = .ok (.iload_n 1, 1) := dk_27 (dk_at dksX3_writeView_1 23 rfl rfl)
theorem dX3_writeView_48 : decode cX3_writeView 48 = .ok (.iload_n 2, 1) := dk_28 (dk_at dksX3_writeView_2 0 rfl rfl)
theorem dX3_writeView_49 : decode cX3_writeView 49 = .ok (.iconst 0, 1) := dk_3 (dk_at dksX3_writeView_2 1 rfl rfl)
theorem dX3_writeView_50 : decode cX3_writeView 50 = .ok (.invokevirtual 107, 3) := dk_182 0 107 (dk_at dksX3_writeView_2 2 rfl rfl)
theorem dX3_writeView_53 : decode cX3_writeView 53 = .ok (.invokevirtual 528, 3) := dk_182 2 16 (dk_at dksX3_writeView_2 5 rfl rfl)
theorem dX3_writeView_56 : decode cX3_writeView 56 = .ok (.aload_n 0, 1) := dk_42 (dk_at dksX3_writeView_2 8 rfl rfl)
theorem dX3_writeView_57 : decode cX3_writeView 57 = .ok (.aload_n 0, 1) := dk_42 (dk_at dksX3_writeView_2 9 rfl rfl)
theorem dX3_writeView_58 : decode cX3_writeView 58 = .ok (.iload_n 1, 1) := dk_27 (dk_at dksX3_writeView_2 10 rfl rfl)
theorem dX3_writeView_59 : decode cX3_writeView 59 = .ok (.iload_n 2, 1) := dk_28 (dk_at dksX3_writeView_2 11 rfl rfl)
theorem dX3_writeView_60 : decode cX3_writeView 60 = .ok (.iconst 1, 1) := dk_4 (dk_at dksX3_writeView_2 12 rfl rfl)
theorem dX3_writeView_61 : decode cX3_writeView 61 = .ok (.invokevirtual 107, 3) := dk_182 0 107 (dk_at dksX3_writeView_2 13 rfl rfl)
theorem dX3_writeView_64 : decode cX3_writeView 64 = .ok (.invokevirtual 531, 3) := dk_182 2 19 (dk_at dksX3_writeView_2 16 rfl rfl)
theorem dX3_writeView_67 : decode cX3_writeView 67 = .ok (.aload_n 0, 1) := dk_42 (dk_at dksX3_writeView_2 19 rfl rfl)
theorem dX3_writeView_68 : decode cX3_writeView 68 = .ok (.iload_n 1, 1) := dk_27 (dk_at dksX3_writeView_2 20 rfl rfl)
theorem dX3_writeView_69 : decode cX3_writeView 69 = .ok (.iload_n 2, 1) := dk_28 (dk_at dksX3_writeView_2 21 rfl rfl)
theorem dX3_writeView_70 : decode cX3_writeView 70 = .ok (.invokevirtual 116, 3) := dk_182 0 116 (dk_at dksX3_writeView_3 0 rfl rfl)
theorem dX3_writeView_73 : decode cX3_writeView 73 = .ok (.ifCond .eq 9, 3) := dk_153 0 9 (dk_at dksX3_writeView_3 3 rfl rfl)
theorem dX3_writeView_76 : decode cX3_writeView 76 = .ok (.aload_n 0, 1) := dk_42 (dk_at dksX3_writeView_3 6 rfl rfl)
theorem dX3_writeView_77 : decode cX3_writeView 77 = .ok (.bipush 33, 2) := dk_16 33 (dk_at dksX3_writeView_3 7 rfl rfl)
theorem dX3_writeView_79 : decode cX3_writeView 79 = .ok (.invokevirtual 522, 3) := dk_182 2 10 (dk_at dksX3_writeView_3 9 rfl rfl)
theorem dX3_writeView_82 : decode cX3_writeView 82 = .ok (.iinc 2 1, 3) := dk_132 2 1 (dk_at dksX3_writeView_3 12 rfl rfl)
theorem dX3_writeView_85 : decode cX3_writeView 85 = .ok (.goto (-64), 3) := dk_167 255 192 (dk_at dksX3_writeView_3 15 rfl rfl)
theorem dX3_writeView_88 : decode cX3_writeView 88 = .ok (.aload_n 0, 1) := dk_42 (dk_at dksX3_writeView_3 18 rfl rfl)
theorem dX3_writeView_89 : decode cX3_writeView 89 = .ok (.getfield 519, 3) := dk_180 2 7 (dk_at dksX3_writeView_3 19 rfl rfl)
theorem dX3_writeView_92 : decode cX3_writeView 92 = .ok (.ireturn, 1) := dk_172 (dk_at dksX3_writeView_3 22 rfl rfl)
abbrev cX3_writeNotices : ByteArray := prog_13_method_161_code
def yX3_writeNotices : MethodName := ⟨RX3, "writeNotices", "()I"⟩
def dkwX3_writeNotices_5 : List UInt8 := [167, 255, 151, 42, 180, 2, 7, 172]
abbrev dktX3_writeNotices_5 : List UInt8 := dkwX3_writeNotices_5 ++ []
def dkwX3_writeNotices_4 : List UInt8 := [16, 58, 182, 2, 10, 42, 42, 180, 0, 27, 7, 27, 104, 6, 96, 46, 182, 2, 19, 132, 1, 1]
abbrev dktX3_writeNotices_4 : List UInt8 := dkwX3_writeNotices_4 ++ dktX3_writeNotices_5
def dkwX3_writeNotices_3 : List UInt8 := [42, 42, 180, 0, 27, 7, 27, 104, 5, 96, 46, 182, 2, 16, 28, 4, 159, 0, 6, 167, 0, 23, 42]
abbrev dktX3_writeNotices_3 : List UInt8 := dkwX3_writeNotices_3 ++ dktX3_writeNotices_4
def dkwX3_writeNotices_2 : List UInt8 := [28, 154, 0, 8, 16, 45, 167, 0, 15, 28, 4, 160, 0, 8, 16, 61, 167, 0, 5, 16, 43, 182, 2, 10]
abbrev dktX3_writeNotices_2 : List UInt8 := dkwX3_writeNotices_2 ++ dktX3_writeNotices_3
def dkwX3_writeNotices_1 : List UInt8 := [42, 42, 180, 0, 27, 7, 27, 104, 46, 182, 2, 16, 42, 180, 0, 27, 7, 27, 104, 4, 96, 46, 61, 42]
abbrev dktX3_writeNotices_1 : List UInt8 := dkwX3_writeNotices_1 ++ dktX3_writeNotices_2
def dkwX3_writeNotices_0 : List UInt8 := [42, 3, 181, 0, 3, 42, 3, 181, 2, 7, 3, 60, 27, 42, 180, 0, 138, 162, 0, 103, 42, 182, 2, 13]
abbrev dktX3_writeNotices_0 : List UInt8 := dkwX3_writeNotices_0 ++ dktX3_writeNotices_1
theorem dksX3_writeNotices_0 : cX3_writeNotices.data.toList.drop 0 = dktX3_writeNotices_0 := by decide +kernel
theorem dksX3_writeNotices_1 : cX3_writeNotices.data.toList.drop 24 = dktX3_writeNotices_1 := dk_seg dksX3_writeNotices_0 24 rfl rfl
theorem dksX3_writeNotices_2 : cX3_writeNotices.data.toList.drop 48 = dktX3_writeNotices_2 := dk_seg dksX3_writeNotices_1 24 rfl rfl
theorem dksX3_writeNotices_3 : cX3_writeNotices.data.toList.drop 72 = dktX3_writeNotices_3 := dk_seg dksX3_writeNotices_2 24 rfl rfl
theorem dksX3_writeNotices_4 : cX3_writeNotices.data.toList.drop 95 = dktX3_writeNotices_4 := dk_seg dksX3_writeNotices_3 23 rfl rfl
theorem dksX3_writeNotices_5 : cX3_writeNotices.data.toList.drop 117 = dktX3_writeNotices_5 := dk_seg dksX3_writeNotices_4 22 rfl rfl
theorem dX3_writeNotices_0 : decode cX3_writeNotices 0 = .ok (.aload_n 0, 1) := dk_42 (dk_at dksX3_writeNotices_0 0 rfl rfl)
theorem dX3_writeNotices_1 : decode cX3_writeNotices 1 = .ok (.iconst 0, 1) := dk_3 (dk_at dksX3_writeNotices_0 1 rfl rfl)
theorem dX3_writeNotices_2 : decode cX3_writeNotices 2 = .ok (.putfield 3, 3) := dk_181 0 3 (dk_at dksX3_writeNotices_0 2 rfl rfl)
theorem dX3_writeNotices_5 : decode cX3_writeNotices 5 = .ok (.aload_n 0, 1) := dk_42 (dk_at dksX3_writeNotices_0 5 rfl rfl)
theorem dX3_writeNotices_6 : decode cX3_writeNotices 6 = .ok (.iconst 0, 1) := dk_3 (dk_at dksX3_writeNotices_0 6 rfl rfl)
theorem dX3_writeNotices_7 : decode cX3_writeNotices 7 = .ok (.putfield 519, 3) := dk_181 2 7 (dk_at dksX3_writeNotices_0 7 rfl rfl)
theorem dX3_writeNotices_10 : decode cX3_writeNotices 10 = .ok (.iconst 0, 1) := dk_3 (dk_at dksX3_writeNotices_0 10 rfl rfl)
theorem dX3_writeNotices_11 : decode cX3_writeNotices 11 = .ok (.istore_n 1, 1) := dk_60 (dk_at dksX3_writeNotices_0 11 rfl rfl)
theorem dX3_writeNotices_12 : decode cX3_writeNotices 12 = .ok (.iload_n 1, 1) := dk_27 (dk_at dksX3_writeNotices_0 12 rfl rfl)
theorem dX3_writeNotices_13 : decode cX3_writeNotices 13 = .ok (.aload_n 0, 1) := dk_42 (dk_at dksX3_writeNotices_0 13 rfl rfl)
theorem dX3_writeNotices_14 : decode cX3_writeNotices 14 = .ok (.getfield 138, 3) := dk_180 0 138 (dk_at dksX3_writeNotices_0 14 rfl rfl)
theorem dX3_writeNotices_17 : decode cX3_writeNotices 17 = .ok (.if_icmp .ge 103, 3) := dk_162 0 103 (dk_at dksX3_writeNotices_0 17 rfl rfl)
theorem dX3_writeNotices_20 : decode cX3_writeNotices 20 = .ok (.aload_n 0, 1) := dk_42 (dk_at dksX3_writeNotices_0 20 rfl rfl)
theorem dX3_writeNotices_21 : decode cX3_writeNotices 21 = .ok (.invokevirtual 525, 3) := dk_182 2 13 (dk_at dksX3_writeNotices_0 21 rfl rfl)
theorem dX3_writeNotices_24 : decode cX3_writeNotices 24 = .ok (.aload_n 0, 1) := dk_42 (dk_at dksX3_writeNotices_1 0 rfl rfl)
theorem dX3_writeNotices_25 : decode cX3_writeNotices 25 = .ok (.aload_n 0, 1) := dk_42 (dk_at dksX3_writeNotices_1 1 rfl rfl)
theorem dX3_writeNotices_26 : decode cX3_writeNotices 26 = .ok (.getfield 27, 3) := dk_180 0 27 (dk_at dksX3_writeNotices_1 2 rfl rfl)
theorem dX3_writeNotices_29 : decode cX3_writeNotices 29 = .ok (.iconst 4, 1) := dk_7 (dk_at dksX3_writeNotices_1 5 rfl rfl)
theorem dX3_writeNotices_30 : decode cX3_writeNotices 30 = .ok (.iload_n 1, 1) := dk_27 (dk_at dksX3_writeNotices_1 6 rfl rfl)
theorem dX3_writeNotices_31 : decode cX3_writeNotices 31 = .ok (.imul, 1) := dk_104 (dk_at dksX3_writeNotices_1 7 rfl rfl)
theorem dX3_writeNotices_32 : decode cX3_writeNotices 32 = .ok (.iaload, 1) := dk_46 (dk_at dksX3_writeNotices_1 8 rfl rfl)
theorem dX3_writeNotices_33 : decode cX3_writeNotices 33 = .ok (.invokevirtual 528, 3) := dk_182 2 16 (dk_at dksX3_writeNotices_1 9 rfl rfl)
theorem dX3_writeNotices_36 : decode cX3_writeNotices 36 = .ok (.aload_n 0, 1) := dk_42 (dk_at dksX3_writeNotices_1 12 rfl rfl)
theorem dX3_writeNotices_37 : decode cX3_writeNotices 37 = .ok (.getfield 27, 3) := dk_180 0 27 (dk_at dksX3_writeNotices_1 13 rfl rfl)
theorem dX3_writeNotices_40 : decode cX3_writeNotices 40 = .ok (.iconst 4, 1) := dk_7 (dk_at dksX3_writeNotices_1 16 rfl rfl)
theorem dX3_writeNotices_41 : decode cX3_writeNotices 41 = .ok (.iload_n 1, 1) := dk_27 (dk_at dksX3_writeNotices_1 17 rfl rfl)
theorem dX3_writeNotices_42 : decode cX3_writeNotices 42 = .ok (.imul, 1) := dk_104 (dk_at dksX3_writeNotices_1 18 rfl rfl)
theorem dX3_writeNotices_43 : decode cX3_writeNotices 43 = .ok (.iconst 1, 1) := dk_4 (dk_at dksX3_writeNotices_1 19 rfl rfl)
theorem dX3_writeNotices_44 : decode cX3_writeNotices 44 = .ok (.iadd, 1) := dk_96 (dk_at dksX3_writeNotices_1 20 rfl rfl)
theorem dX3_writeNotices_45 : decode cX3_writeNotices 45 = .ok (.iaload, 1) := dk_46 (dk_at dksX3_writeNotices_1 21 rfl rfl)
theorem dX3_writeNotices_46 : decode cX3_writeNotices 46 = .ok (.istore_n 2, 1) := dk_61 (dk_at dksX3_writeNotices_1 22 rfl rfl)
theorem dX3_writeNotices_47 : decode cX3_writeNotices 47 = .ok (.aload_n 0, 1) := dk_42 (dk_at dksX3_writeNotices_1 23 rfl rfl)
theorem dX3_writeNotices_48 : decode cX3_writeNotices 48 = .ok (.iload_n 2, 1) := dk_28 (dk_at dksX3_writeNotices_2 0 rfl rfl)
theorem dX3_writeNotices_49 : decode cX3_writeNotices 49 = .ok (.ifCond .ne 8, 3) := dk_154 0 8 (dk_at dksX3_writeNotices_2 1 rfl rfl)
theorem dX3_writeNotices_52 : decode cX3_writeNotices 52 = .ok (.bipush 45, 2) := dk_16 45 (dk_at dksX3_writeNotices_2 4 rfl rfl)
theorem dX3_writeNotices_54 : decode cX3_writeNotices 54 = .ok (.goto 15, 3) := dk_167 0 15 (dk_at dksX3_writeNotices_2 6 rfl rfl)
theorem dX3_writeNotices_57 : decode cX3_writeNotices 57 = .ok (.iload_n 2, 1) := dk_28 (dk_at dksX3_writeNotices_2 9 rfl rfl)
theorem dX3_writeNotices_58 : decode cX3_writeNotices 58 = .ok (.iconst 1, 1) := dk_4 (dk_at dksX3_writeNotices_2 10 rfl rfl)
theorem dX3_writeNotices_59 : decode cX3_writeNotices 59 = .ok (.if_icmp .ne 8, 3) := dk_160 0 8 (dk_at dksX3_writeNotices_2 11 rfl rfl)
theorem dX3_writeNotices_62 : decode cX3_writeNotices 62 = .ok (.bipush 61, 2) := dk_16 61 (dk_at dksX3_writeNotices_2 14 rfl rfl)
theorem dX3_writeNotices_64 : decode cX3_writeNotices 64 = .ok (.goto 5, 3) := dk_167 0 5 (dk_at dksX3_writeNotices_2 16 rfl rfl)
theorem dX3_writeNotices_67 : decode cX3_writeNotices 67 = .ok (.bipush 43, 2) := dk_16 43 (dk_at dksX3_writeNotices_2 19 rfl rfl)
theorem dX3_writeNotices_69 : decode cX3_writeNotices 69 = .ok (.invokevirtual 522, 3) := dk_182 2 10 (dk_at dksX3_writeNotices_2 21 rfl rfl)
theorem dX3_writeNotices_72 : decode cX3_writeNotices 72 = .ok (.aload_n 0, 1) := dk_42 (dk_at dksX3_writeNotices_3 0 rfl rfl)
theorem dX3_writeNotices_73 : decode cX3_writeNotices 73 = .ok (.aload_n 0, 1) := dk_42 (dk_at dksX3_writeNotices_3 1 rfl rfl)
theorem dX3_writeNotices_74 : decode cX3_writeNotices 74 = .ok (.getfield 27, 3) := dk_180 0 27 (dk_at dksX3_writeNotices_3 2 rfl rfl)
theorem dX3_writeNotices_77 : decode cX3_writeNotices 77 = .ok (.iconst 4, 1) := dk_7 (dk_at dksX3_writeNotices_3 5 rfl rfl)
theorem dX3_writeNotices_78 : decode cX3_writeNotices 78 = .ok (.iload_n 1, 1) := dk_27 (dk_at dksX3_writeNotices_3 6 rfl rfl)
theorem dX3_writeNotices_79 : decode cX3_writeNotices 79 = .ok (.imul, 1) := dk_104 (dk_at dksX3_writeNotices_3 7 rfl rfl)
theorem dX3_writeNotices_80 : decode cX3_writeNotices 80 = .ok (.iconst 2, 1) := dk_5 (dk_at dksX3_writeNotices_3 8 rfl rfl)
theorem dX3_writeNotices_81 : decode cX3_writeNotices 81 = .ok (.iadd, 1) := dk_96 (dk_at dksX3_writeNotices_3 9 rfl rfl)
theorem dX3_writeNotices_82 : decode cX3_writeNotices 82 = .ok (.iaload, 1) := dk_46 (dk_at dksX3_writeNotices_3 10 rfl rfl)
theorem dX3_writeNotices_83 : decode cX3_writeNotices 83 = .ok (.invokevirtual 528, 3) := dk_182 2 16 (dk_at dksX3_writeNotices_3 11 rfl rfl)
theorem dX3_writeNotices_86 : decode cX3_writeNotices 86 = .ok (.iload_n 2, 1) := dk_28 (dk_at dksX3_writeNotices_3 14 rfl rfl)
theorem dX3_writeNotices_87 : decode cX3_writeNotices 87 = .ok (.iconst 1, 1) := dk_4 (dk_at dksX3_writeNotices_3 15 rfl rfl)
theorem dX3_writeNotices_88 : decode cX3_writeNotices 88 = .ok (.if_icmp .eq 6, 3) := dk_159 0 6 (dk_at dksX3_writeNotices_3 16 rfl rfl)
theorem dX3_writeNotices_91 : decode cX3_writeNotices 91 = .ok (.goto 23, 3) := dk_167 0 23 (dk_at dksX3_writeNotices_3 19 rfl rfl)
theorem dX3_writeNotices_94 : decode cX3_writeNotices 94 = .ok (.aload_n 0, 1) := dk_42 (dk_at dksX3_writeNotices_3 22 rfl rfl)
theorem dX3_writeNotices_95 : decode cX3_writeNotices 95 = .ok (.bipush 58, 2) := dk_16 58 (dk_at dksX3_writeNotices_4 0 rfl rfl)
theorem dX3_writeNotices_97 : decode cX3_writeNotices 97 = .ok (.invokevirtual 522, 3) := dk_182 2 10 (dk_at dksX3_writeNotices_4 2 rfl rfl)
theorem dX3_writeNotices_100 : decode cX3_writeNotices 100 = .ok (.aload_n 0, 1) := dk_42 (dk_at dksX3_writeNotices_4 5 rfl rfl)
theorem dX3_writeNotices_101 : decode cX3_writeNotices 101 = .ok (.aload_n 0, 1) := dk_42 (dk_at dksX3_writeNotices_4 6 rfl rfl)
theorem dX3_writeNotices_102 : decode cX3_writeNotices 102 = .ok (.getfield 27, 3) := dk_180 0 27 (dk_at dksX3_writeNotices_4 7 rfl rfl)
theorem dX3_writeNotices_105 : decode cX3_writeNotices 105 = .ok (.iconst 4, 1) := dk_7 (dk_at dksX3_writeNotices_4 10 rfl rfl)
theorem dX3_writeNotices_106 : decode cX3_writeNotices 106 = .ok (.iload_n 1, 1) := dk_27 (dk_at dksX3_writeNotices_4 11 rfl rfl)
theorem dX3_writeNotices_107 : decode cX3_writeNotices 107 = .ok (.imul, 1) := dk_104 (dk_at dksX3_writeNotices_4 12 rfl rfl)
theorem dX3_writeNotices_108 : decode cX3_writeNotices 108 = .ok (.iconst 3, 1) := dk_6 (dk_at dksX3_writeNotices_4 13 rfl rfl)
theorem dX3_writeNotices_109 : decode cX3_writeNotices 109 = .ok (.iadd, 1) := dk_96 (dk_at dksX3_writeNotices_4 14 rfl rfl)
theorem dX3_writeNotices_110 : decode cX3_writeNotices 110 = .ok (.iaload, 1) := dk_46 (dk_at dksX3_writeNotices_4 15 rfl rfl)
theorem dX3_writeNotices_111 : decode cX3_writeNotices 111 = .ok (.invokevirtual 531, 3) := dk_182 2 19 (dk_at dksX3_writeNotices_4 16 rfl rfl)
theorem dX3_writeNotices_114 : decode cX3_writeNotices 114 = .ok (.iinc 1 1, 3) := dk_132 1 1 (dk_at dksX3_writeNotices_4 19 rfl rfl)
theorem dX3_writeNotices_117 : decode cX3_writeNotices 117 = .ok (.goto (-105), 3) := dk_167 255 151 (dk_at dksX3_writeNotices_5 0 rfl rfl)
theorem dX3_writeNotices_120 : decode cX3_writeNotices 120 = .ok (.aload_n 0, 1) := dk_42 (dk_at dksX3_writeNotices_5 3 rfl rfl)
theorem dX3_writeNotices_121 : decode cX3_writeNotices 121 = .ok (.getfield 519, 3) := dk_180 2 7 (dk_at dksX3_writeNotices_5 4 rfl rfl)
theorem dX3_writeNotices_124 : decode cX3_writeNotices 124 = .ok (.ireturn, 1) := dk_172 (dk_at dksX3_writeNotices_5 7 rfl rfl)
abbrev cX3_outputByte : ByteArray := prog_13_method_162_code
def yX3_outputByte : MethodName := ⟨RX3, "outputByte", "(I)I"⟩
def dkwX3_outputByte_1 : List UInt8 := [27, 51, 167, 0, 4, 3, 172]
abbrev dktX3_outputByte_1 : List UInt8 := dkwX3_outputByte_1 ++ []
def dkwX3_outputByte_0 : List UInt8 := [42, 27, 133, 9, 42, 180, 2, 7, 4, 100, 133, 184, 0, 70, 182, 1, 10, 153, 0, 12, 42, 180, 0, 57]
abbrev dktX3_outputByte_0 : List UInt8 := dkwX3_outputByte_0 ++ dktX3_outputByte_1
theorem dksX3_outputByte_0 : cX3_outputByte.data.toList.drop 0 = dktX3_outputByte_0 := by decide +kernel
theorem dksX3_outputByte_1 : cX3_outputByte.data.toList.drop 24 = dktX3_outputByte_1 := dk_seg dksX3_outputByte_0 24 rfl rfl
theorem dX3_outputByte_0 : decode cX3_outputByte 0 = .ok (.aload_n 0, 1) := dk_42 (dk_at dksX3_outputByte_0 0 rfl rfl)
theorem dX3_outputByte_1 : decode cX3_outputByte 1 = .ok (.iload_n 1, 1) := dk_27 (dk_at dksX3_outputByte_0 1 rfl rfl)
theorem dX3_outputByte_2 : decode cX3_outputByte 2 = .ok (.i2l, 1) := dk_133 (dk_at dksX3_outputByte_0 2 rfl rfl)
theorem dX3_outputByte_3 : decode cX3_outputByte 3 = .ok (.lconst 0, 1) := dk_9 (dk_at dksX3_outputByte_0 3 rfl rfl)
theorem dX3_outputByte_4 : decode cX3_outputByte 4 = .ok (.aload_n 0, 1) := dk_42 (dk_at dksX3_outputByte_0 4 rfl rfl)
theorem dX3_outputByte_5 : decode cX3_outputByte 5 = .ok (.getfield 519, 3) := dk_180 2 7 (dk_at dksX3_outputByte_0 5 rfl rfl)
theorem dX3_outputByte_8 : decode cX3_outputByte 8 = .ok (.iconst 1, 1) := dk_4 (dk_at dksX3_outputByte_0 8 rfl rfl)
theorem dX3_outputByte_9 : decode cX3_outputByte 9 = .ok (.isub, 1) := dk_100 (dk_at dksX3_outputByte_0 9 rfl rfl)
theorem dX3_outputByte_10 : decode cX3_outputByte 10 = .ok (.i2l, 1) := dk_133 (dk_at dksX3_outputByte_0 10 rfl rfl)
theorem dX3_outputByte_11 : decode cX3_outputByte 11 = .ok (.invokestatic 70, 3) := dk_184 0 70 (dk_at dksX3_outputByte_0 11 rfl rfl)
theorem dX3_outputByte_14 : decode cX3_outputByte 14 = .ok (.invokevirtual 266, 3) := dk_182 1 10 (dk_at dksX3_outputByte_0 14 rfl rfl)
theorem dX3_outputByte_17 : decode cX3_outputByte 17 = .ok (.ifCond .eq 12, 3) := dk_153 0 12 (dk_at dksX3_outputByte_0 17 rfl rfl)
theorem dX3_outputByte_20 : decode cX3_outputByte 20 = .ok (.aload_n 0, 1) := dk_42 (dk_at dksX3_outputByte_0 20 rfl rfl)
theorem dX3_outputByte_21 : decode cX3_outputByte 21 = .ok (.getfield 57, 3) := dk_180 0 57 (dk_at dksX3_outputByte_0 21 rfl rfl)
theorem dX3_outputByte_24 : decode cX3_outputByte 24 = .ok (.iload_n 1, 1) := dk_27 (dk_at dksX3_outputByte_1 0 rfl rfl)
theorem dX3_outputByte_25 : decode cX3_outputByte 25 = .ok (.baload, 1) := dk_51 (dk_at dksX3_outputByte_1 1 rfl rfl)
theorem dX3_outputByte_26 : decode cX3_outputByte 26 = .ok (.goto 4, 3) := dk_167 0 4 (dk_at dksX3_outputByte_1 2 rfl rfl)
theorem dX3_outputByte_29 : decode cX3_outputByte 29 = .ok (.iconst 0, 1) := dk_3 (dk_at dksX3_outputByte_1 5 rfl rfl)
theorem dX3_outputByte_30 : decode cX3_outputByte 30 = .ok (.ireturn, 1) := dk_172 (dk_at dksX3_outputByte_1 6 rfl rfl)
theorem q173 : (Jvm.Cond.initialized "MailSessionsModel") ∈ lw_all := lw_g (lw_at lw_m1 23 rfl) rfl
theorem q952 : (Jvm.Cond.selects "MailSessionsModel" ({ cls := "java/lang/Object", name := "getClass", desc := "()Ljava/lang/Class;" } : Jvm.MethodName) ({ cls := "java/lang/Object", name := "getClass", desc := "()Ljava/lang/Class;" } : Jvm.MethodName)) ∈ lw_all := lw_g (lw_at lw_m4 82 rfl) rfl
theorem q2034 : (Jvm.Cond.instanceMethod ({ cls := "MailSessionsModel", name := "thrown", desc := "()I" } : Jvm.MethodName)) ∈ lw_all := lw_g (lw_at lw_m8 204 rfl) rfl
theorem q2035 : (Jvm.Cond.selects "MailSessionsModel" ({ cls := "MailSessionsModel", name := "thrown", desc := "()I" } : Jvm.MethodName) ({ cls := "MailSessionsModel", name := "thrown", desc := "()I" } : Jvm.MethodName)) ∈ lw_all := lw_g (lw_at lw_m8 205 rfl) rfl
theorem q2036 : (Jvm.Cond.code ({ cls := "MailSessionsModel", name := "thrown", desc := "()I" } : Jvm.MethodName) prog_13_method_1_code (1 : Nat) (Option.some Jvm.ClassFile.FieldType.int)) ∈ lw_all := lw_g (lw_at lw_m8 206 rfl) rfl
theorem q2038 : (Jvm.Cond.instantiable "MailSessionsModel" (28 : Nat)) ∈ lw_all := lw_g (lw_at lw_m8 208 rfl) rfl
theorem q2040 : (Jvm.Cond.instanceMethod ({ cls := "MailSessionsModel", name := "<init>", desc := "()V" } : Jvm.MethodName)) ∈ lw_all := lw_g (lw_at lw_m8 210 rfl) rfl
theorem q2041 : (Jvm.Cond.code ({ cls := "MailSessionsModel", name := "<init>", desc := "()V" } : Jvm.MethodName) prog_13_method_7_code (1 : Nat) (Option.none : Option Jvm.ClassFile.FieldType)) ∈ lw_all := lw_g (lw_at lw_m8 211 rfl) rfl
theorem q2042 : (Jvm.Cond.methodLink "MailSessionsModel" (11 : Nat) ({ cls := "java/lang/Object", name := "<init>", desc := "()V" } : Jvm.MethodName)) ∈ lw_all := lw_g (lw_at lw_m8 212 rfl) rfl
theorem q2043 : (Jvm.Cond.constantLong "MailSessionsModel" (60 : Nat) (30 : Int64)) ∈ lw_all := lw_g (lw_at lw_m8 213 rfl) rfl
theorem q2044 : (Jvm.Cond.fieldLink "MailSessionsModel" (3 : Nat) "MailSessionsModel" "thrown" "I") ∈ lw_all := lw_g (lw_at lw_m8 214 rfl) rfl
theorem q2045 : (Jvm.Cond.fieldLink "MailSessionsModel" (17 : Nat) "MailSessionsModel" "net" "[J") ∈ lw_all := lw_g (lw_at lw_m8 215 rfl) rfl
theorem q2046 : (Jvm.Cond.fieldLink "MailSessionsModel" (21 : Nat) "MailSessionsModel" "draft" "[J") ∈ lw_all := lw_g (lw_at lw_m8 216 rfl) rfl
theorem q2047 : (Jvm.Cond.fieldLink "MailSessionsModel" (24 : Nat) "MailSessionsModel" "row" "[J") ∈ lw_all := lw_g (lw_at lw_m8 217 rfl) rfl
theorem q2048 : (Jvm.Cond.fieldLink "MailSessionsModel" (27 : Nat) "MailSessionsModel" "notices" "[I") ∈ lw_all := lw_g (lw_at lw_m8 218 rfl) rfl
theorem q2049 : (Jvm.Cond.fieldLink "MailSessionsModel" (138 : Nat) "MailSessionsModel" "noticed" "I") ∈ lw_all := lw_g (lw_at lw_m8 219 rfl) rfl
theorem q2050 : (Jvm.Cond.fieldLink "MailSessionsModel" (31 : Nat) "MailSessionsModel" "copied" "[I") ∈ lw_all := lw_g (lw_at lw_m8 220 rfl) rfl
theorem q2051 : (Jvm.Cond.fieldLink "MailSessionsModel" (34 : Nat) "MailSessionsModel" "input" "[B") ∈ lw_all := lw_g (lw_at lw_m8 221 rfl) rfl
theorem q2052 : (Jvm.Cond.fieldLink "MailSessionsModel" (270 : Nat) "MailSessionsModel" "inputSize" "I") ∈ lw_all := lw_g (lw_at lw_m8 222 rfl) rfl
theorem q2053 : (Jvm.Cond.fieldLink "MailSessionsModel" (286 : Nat) "MailSessionsModel" "textSize" "I") ∈ lw_all := lw_g (lw_at lw_m8 223 rfl) rfl
theorem q2054 : (Jvm.Cond.fieldLink "MailSessionsModel" (289 : Nat) "MailSessionsModel" "next" "I") ∈ lw_all := lw_g (lw_at lw_m8 224 rfl) rfl
theorem q2055 : (Jvm.Cond.fieldLink "MailSessionsModel" (283 : Nat) "MailSessionsModel" "start" "I") ∈ lw_all := lw_g (lw_at lw_m8 225 rfl) rfl
theorem q2056 : (Jvm.Cond.fieldLink "MailSessionsModel" (295 : Nat) "MailSessionsModel" "token" "I") ∈ lw_all := lw_g (lw_at lw_m8 226 rfl) rfl
theorem q2057 : (Jvm.Cond.fieldLink "MailSessionsModel" (306 : Nat) "MailSessionsModel" "value" "I") ∈ lw_all := lw_g (lw_at lw_m8 227 rfl) rfl
theorem q2058 : (Jvm.Cond.fieldLink "MailSessionsModel" (276 : Nat) "MailSessionsModel" "errorFound" "I") ∈ lw_all := lw_g (lw_at lw_m8 228 rfl) rfl
theorem q2059 : (Jvm.Cond.fieldLink "MailSessionsModel" (38 : Nat) "MailSessionsModel" "errorPlace" "I") ∈ lw_all := lw_g (lw_at lw_m8 229 rfl) rfl
theorem q2060 : (Jvm.Cond.fieldLink "MailSessionsModel" (392 : Nat) "MailSessionsModel" "hasLimit" "Z") ∈ lw_all := lw_g (lw_at lw_m8 230 rfl) rfl
theorem q2061 : (Jvm.Cond.fieldLink "MailSessionsModel" (389 : Nat) "MailSessionsModel" "told" "I") ∈ lw_all := lw_g (lw_at lw_m8 231 rfl) rfl
theorem q2062 : (Jvm.Cond.fieldLink "MailSessionsModel" (41 : Nat) "MailSessionsModel" "selects" "[I") ∈ lw_all := lw_g (lw_at lw_m8 232 rfl) rfl
theorem q2063 : (Jvm.Cond.fieldLink "MailSessionsModel" (44 : Nat) "MailSessionsModel" "selectsToRead" "[Z") ∈ lw_all := lw_g (lw_at lw_m8 233 rfl) rfl
theorem q2064 : (Jvm.Cond.fieldLink "MailSessionsModel" (451 : Nat) "MailSessionsModel" "asked" "I") ∈ lw_all := lw_g (lw_at lw_m8 234 rfl) rfl
theorem q2065 : (Jvm.Cond.fieldLink "MailSessionsModel" (454 : Nat) "MailSessionsModel" "open" "I") ∈ lw_all := lw_g (lw_at lw_m8 235 rfl) rfl
theorem q2066 : (Jvm.Cond.fieldLink "MailSessionsModel" (48 : Nat) "MailSessionsModel" "slots" "[J") ∈ lw_all := lw_g (lw_at lw_m8 236 rfl) rfl
theorem q2067 : (Jvm.Cond.fieldLink "MailSessionsModel" (51 : Nat) "MailSessionsModel" "isKept" "[Z") ∈ lw_all := lw_g (lw_at lw_m8 237 rfl) rfl
theorem q2068 : (Jvm.Cond.fieldLink "MailSessionsModel" (54 : Nat) "MailSessionsModel" "past" "[J") ∈ lw_all := lw_g (lw_at lw_m8 238 rfl) rfl
theorem q2069 : (Jvm.Cond.fieldLink "MailSessionsModel" (516 : Nat) "MailSessionsModel" "remembered" "I") ∈ lw_all := lw_g (lw_at lw_m8 239 rfl) rfl
theorem q2070 : (Jvm.Cond.fieldLink "MailSessionsModel" (57 : Nat) "MailSessionsModel" "output" "[B") ∈ lw_all := lw_g (lw_at lw_m9 0 rfl) rfl
theorem q2071 : (Jvm.Cond.fieldLink "MailSessionsModel" (519 : Nat) "MailSessionsModel" "outputSize" "I") ∈ lw_all := lw_g (lw_at lw_m9 1 rfl) rfl
theorem q2072 : (Jvm.Cond.lays "MailSessionsModel" "MailSessionsModel" "thrown" "I") ∈ lw_all := lw_g (lw_at lw_m9 2 rfl) rfl
theorem q2073 : (Jvm.Cond.soleField "MailSessionsModel" "thrown") ∈ lw_all := lw_g (lw_at lw_m9 3 rfl) rfl
theorem q2074 : (Jvm.Cond.laysFinal "MailSessionsModel" "MailSessionsModel" "net" "[J") ∈ lw_all := lw_g (lw_at lw_m9 4 rfl) rfl
theorem q2075 : (Jvm.Cond.soleField "MailSessionsModel" "net") ∈ lw_all := lw_g (lw_at lw_m9 5 rfl) rfl
theorem q2076 : (Jvm.Cond.laysFinal "MailSessionsModel" "MailSessionsModel" "draft" "[J") ∈ lw_all := lw_g (lw_at lw_m9 6 rfl) rfl
theorem q2077 : (Jvm.Cond.soleField "MailSessionsModel" "draft") ∈ lw_all := lw_g (lw_at lw_m9 7 rfl) rfl
theorem q2078 : (Jvm.Cond.lays "MailSessionsModel" "MailSessionsModel" "row" "[J") ∈ lw_all := lw_g (lw_at lw_m9 8 rfl) rfl
theorem q2079 : (Jvm.Cond.soleField "MailSessionsModel" "row") ∈ lw_all := lw_g (lw_at lw_m9 9 rfl) rfl
theorem q2080 : (Jvm.Cond.laysFinal "MailSessionsModel" "MailSessionsModel" "notices" "[I") ∈ lw_all := lw_g (lw_at lw_m9 10 rfl) rfl
theorem q2081 : (Jvm.Cond.soleField "MailSessionsModel" "notices") ∈ lw_all := lw_g (lw_at lw_m9 11 rfl) rfl
theorem q2082 : (Jvm.Cond.lays "MailSessionsModel" "MailSessionsModel" "noticed" "I") ∈ lw_all := lw_g (lw_at lw_m9 12 rfl) rfl
theorem q2083 : (Jvm.Cond.soleField "MailSessionsModel" "noticed") ∈ lw_all := lw_g (lw_at lw_m9 13 rfl) rfl
theorem q2084 : (Jvm.Cond.laysFinal "MailSessionsModel" "MailSessionsModel" "copied" "[I") ∈ lw_all := lw_g (lw_at lw_m9 14 rfl) rfl
theorem q2085 : (Jvm.Cond.soleField "MailSessionsModel" "copied") ∈ lw_all := lw_g (lw_at lw_m9 15 rfl) rfl
theorem q2086 : (Jvm.Cond.laysFinal "MailSessionsModel" "MailSessionsModel" "input" "[B") ∈ lw_all := lw_g (lw_at lw_m9 16 rfl) rfl
theorem q2087 : (Jvm.Cond.soleField "MailSessionsModel" "input") ∈ lw_all := lw_g (lw_at lw_m9 17 rfl) rfl
theorem q2088 : (Jvm.Cond.lays "MailSessionsModel" "MailSessionsModel" "inputSize" "I") ∈ lw_all := lw_g (lw_at lw_m9 18 rfl) rfl
theorem q2089 : (Jvm.Cond.soleField "MailSessionsModel" "inputSize") ∈ lw_all := lw_g (lw_at lw_m9 19 rfl) rfl
theorem q2090 : (Jvm.Cond.lays "MailSessionsModel" "MailSessionsModel" "textSize" "I") ∈ lw_all := lw_g (lw_at lw_m9 20 rfl) rfl
theorem q2091 : (Jvm.Cond.soleField "MailSessionsModel" "textSize") ∈ lw_all := lw_g (lw_at lw_m9 21 rfl) rfl
theorem q2092 : (Jvm.Cond.lays "MailSessionsModel" "MailSessionsModel" "next" "I") ∈ lw_all := lw_g (lw_at lw_m9 22 rfl) rfl
theorem q2093 : (Jvm.Cond.soleField "MailSessionsModel" "next") ∈ lw_all := lw_g (lw_at lw_m9 23 rfl) rfl
theorem q2094 : (Jvm.Cond.lays "MailSessionsModel" "MailSessionsModel" "start" "I") ∈ lw_all := lw_g (lw_at lw_m9 24 rfl) rfl
theorem q2095 : (Jvm.Cond.soleField "MailSessionsModel" "start") ∈ lw_all := lw_g (lw_at lw_m9 25 rfl) rfl
theorem q2096 : (Jvm.Cond.lays "MailSessionsModel" "MailSessionsModel" "token" "I") ∈ lw_all := lw_g (lw_at lw_m9 26 rfl) rfl
theorem q2097 : (Jvm.Cond.soleField "MailSessionsModel" "token") ∈ lw_all := lw_g (lw_at lw_m9 27 rfl) rfl
theorem q2098 : (Jvm.Cond.lays "MailSessionsModel" "MailSessionsModel" "value" "I") ∈ lw_all := lw_g (lw_at lw_m9 28 rfl) rfl
theorem q2099 : (Jvm.Cond.soleField "MailSessionsModel" "value") ∈ lw_all := lw_g (lw_at lw_m9 29 rfl) rfl
theorem q2100 : (Jvm.Cond.lays "MailSessionsModel" "MailSessionsModel" "errorFound" "I") ∈ lw_all := lw_g (lw_at lw_m9 30 rfl) rfl
theorem q2101 : (Jvm.Cond.soleField "MailSessionsModel" "errorFound") ∈ lw_all := lw_g (lw_at lw_m9 31 rfl) rfl
theorem q2102 : (Jvm.Cond.lays "MailSessionsModel" "MailSessionsModel" "errorPlace" "I") ∈ lw_all := lw_g (lw_at lw_m9 32 rfl) rfl
theorem q2103 : (Jvm.Cond.soleField "MailSessionsModel" "errorPlace") ∈ lw_all := lw_g (lw_at lw_m9 33 rfl) rfl
theorem q2104 : (Jvm.Cond.lays "MailSessionsModel" "MailSessionsModel" "hasLimit" "Z") ∈ lw_all := lw_g (lw_at lw_m9 34 rfl) rfl
theorem q2105 : (Jvm.Cond.soleField "MailSessionsModel" "hasLimit") ∈ lw_all := lw_g (lw_at lw_m9 35 rfl) rfl
theorem q2106 : (Jvm.Cond.lays "MailSessionsModel" "MailSessionsModel" "told" "I") ∈ lw_all := lw_g (lw_at lw_m9 36 rfl) rfl
theorem q2107 : (Jvm.Cond.soleField "MailSessionsModel" "told") ∈ lw_all := lw_g (lw_at lw_m9 37 rfl) rfl
theorem q2108 : (Jvm.Cond.laysFinal "MailSessionsModel" "MailSessionsModel" "selects" "[I") ∈ lw_all := lw_g (lw_at lw_m9 38 rfl) rfl
theorem q2109 : (Jvm.Cond.soleField "MailSessionsModel" "selects") ∈ lw_all := lw_g (lw_at lw_m9 39 rfl) rfl
theorem q2110 : (Jvm.Cond.laysFinal "MailSessionsModel" "MailSessionsModel" "selectsToRead" "[Z") ∈ lw_all := lw_g (lw_at lw_m9 40 rfl) rfl
theorem q2111 : (Jvm.Cond.soleField "MailSessionsModel" "selectsToRead") ∈ lw_all := lw_g (lw_at lw_m9 41 rfl) rfl
theorem q2112 : (Jvm.Cond.lays "MailSessionsModel" "MailSessionsModel" "asked" "I") ∈ lw_all := lw_g (lw_at lw_m9 42 rfl) rfl
theorem q2113 : (Jvm.Cond.soleField "MailSessionsModel" "asked") ∈ lw_all := lw_g (lw_at lw_m9 43 rfl) rfl
theorem q2114 : (Jvm.Cond.lays "MailSessionsModel" "MailSessionsModel" "open" "I") ∈ lw_all := lw_g (lw_at lw_m9 44 rfl) rfl
theorem q2115 : (Jvm.Cond.soleField "MailSessionsModel" "open") ∈ lw_all := lw_g (lw_at lw_m9 45 rfl) rfl
theorem q2116 : (Jvm.Cond.laysFinal "MailSessionsModel" "MailSessionsModel" "slots" "[J") ∈ lw_all := lw_g (lw_at lw_m9 46 rfl) rfl
theorem q2117 : (Jvm.Cond.soleField "MailSessionsModel" "slots") ∈ lw_all := lw_g (lw_at lw_m9 47 rfl) rfl
theorem q2118 : (Jvm.Cond.laysFinal "MailSessionsModel" "MailSessionsModel" "isKept" "[Z") ∈ lw_all := lw_g (lw_at lw_m9 48 rfl) rfl
theorem q2119 : (Jvm.Cond.soleField "MailSessionsModel" "isKept") ∈ lw_all := lw_g (lw_at lw_m9 49 rfl) rfl
theorem q2120 : (Jvm.Cond.laysFinal "MailSessionsModel" "MailSessionsModel" "past" "[J") ∈ lw_all := lw_g (lw_at lw_m9 50 rfl) rfl
theorem q2121 : (Jvm.Cond.soleField "MailSessionsModel" "past") ∈ lw_all := lw_g (lw_at lw_m9 51 rfl) rfl
theorem q2122 : (Jvm.Cond.lays "MailSessionsModel" "MailSessionsModel" "remembered" "I") ∈ lw_all := lw_g (lw_at lw_m9 52 rfl) rfl
theorem q2123 : (Jvm.Cond.soleField "MailSessionsModel" "remembered") ∈ lw_all := lw_g (lw_at lw_m9 53 rfl) rfl
theorem q2124 : (Jvm.Cond.laysFinal "MailSessionsModel" "MailSessionsModel" "output" "[B") ∈ lw_all := lw_g (lw_at lw_m9 54 rfl) rfl
theorem q2125 : (Jvm.Cond.soleField "MailSessionsModel" "output") ∈ lw_all := lw_g (lw_at lw_m9 55 rfl) rfl
theorem q2126 : (Jvm.Cond.lays "MailSessionsModel" "MailSessionsModel" "outputSize" "I") ∈ lw_all := lw_g (lw_at lw_m9 56 rfl) rfl
theorem q2127 : (Jvm.Cond.soleField "MailSessionsModel" "outputSize") ∈ lw_all := lw_g (lw_at lw_m9 57 rfl) rfl
theorem q2128 : (Jvm.Cond.superclass "MailSessionsModel" "java/lang/Object") ∈ lw_all := lw_g (lw_at lw_m9 58 rfl) rfl
theorem q2131 : (Jvm.Cond.instanceMethod ({ cls := "MailSessionsModel", name := "select", desc := "(IIZ)I" } : Jvm.MethodName)) ∈ lw_all := lw_g (lw_at lw_m9 61 rfl) rfl
theorem q2132 : (Jvm.Cond.selects "MailSessionsModel" ({ cls := "MailSessionsModel", name := "select", desc := "(IIZ)I" } : Jvm.MethodName) ({ cls := "MailSessionsModel", name := "select", desc := "(IIZ)I" } : Jvm.MethodName)) ∈ lw_all := lw_g (lw_at lw_m9 62 rfl) rfl
theorem q2133 : (Jvm.Cond.code ({ cls := "MailSessionsModel", name := "select", desc := "(IIZ)I" } : Jvm.MethodName) prog_13_method_50_code (5 : Nat) (Option.some Jvm.ClassFile.FieldType.int)) ∈ lw_all := lw_g (lw_at lw_m9 63 rfl) rfl
theorem q2134 : (Jvm.Cond.methodLink "MailSessionsModel" (93 : Nat) ({ cls := "MailSessionsModel", name := "isSession", desc := "(I)Z" } : Jvm.MethodName)) ∈ lw_all := lw_g (lw_at lw_m9 64 rfl) rfl
theorem q2135 : (Jvm.Cond.privateMethod ({ cls := "MailSessionsModel", name := "isSession", desc := "(I)Z" } : Jvm.MethodName)) ∈ lw_tbl := lw_at lw_m9 65 rfl
theorem q2136 : (Jvm.Cond.instanceMethod ({ cls := "MailSessionsModel", name := "isSession", desc := "(I)Z" } : Jvm.MethodName)) ∈ lw_all := lw_g (lw_at lw_m9 66 rfl) rfl
theorem q2137 : (Jvm.Cond.code ({ cls := "MailSessionsModel", name := "isSession", desc := "(I)Z" } : Jvm.MethodName) prog_13_method_12_code (2 : Nat) (Option.some Jvm.ClassFile.FieldType.boolean)) ∈ lw_all := lw_g (lw_at lw_m9 67 rfl) rfl
theorem q2138 : (Jvm.Cond.methodLink "MailSessionsModel" (74 : Nat) ({ cls := "MailSessionsModel", name := "sessions", desc := "()I" } : Jvm.MethodName)) ∈ lw_all := lw_g (lw_at lw_m9 68 rfl) rfl
theorem q2139 : (Jvm.Cond.privateMethod ({ cls := "MailSessionsModel", name := "sessions", desc := "()I" } : Jvm.MethodName)) ∈ lw_tbl := lw_at lw_m9 69 rfl
theorem q2140 : (Jvm.Cond.instanceMethod ({ cls := "MailSessionsModel", name := "sessions", desc := "()I" } : Jvm.MethodName)) ∈ lw_all := lw_g (lw_at lw_m9 70 rfl) rfl
theorem q2141 : (Jvm.Cond.code ({ cls := "MailSessionsModel", name := "sessions", desc := "()I" } : Jvm.MethodName) prog_13_method_10_code (1 : Nat) (Option.some Jvm.ClassFile.FieldType.int)) ∈ lw_all := lw_g (lw_at lw_m9 71 rfl) rfl
theorem q2142 : (Jvm.Cond.methodLink "MailSessionsModel" (62 : Nat) ({ cls := "MailSessionsModel", name := "get", desc := "(I)I" } : Jvm.MethodName)) ∈ lw_all := lw_g (lw_at lw_m9 72 rfl) rfl
theorem q2143 : (Jvm.Cond.privateMethod ({ cls := "MailSessionsModel", name := "get", desc := "(I)I" } : Jvm.MethodName)) ∈ lw_tbl := lw_at lw_m9 73 rfl
theorem q2144 : (Jvm.Cond.instanceMethod ({ cls := "MailSessionsModel", name := "get", desc := "(I)I" } : Jvm.MethodName)) ∈ lw_all := lw_g (lw_at lw_m9 74 rfl) rfl
theorem q2145 : (Jvm.Cond.code ({ cls := "MailSessionsModel", name := "get", desc := "(I)I" } : Jvm.MethodName) prog_13_method_8_code (2 : Nat) (Option.some Jvm.ClassFile.FieldType.int)) ∈ lw_all := lw_g (lw_at lw_m9 75 rfl) rfl
theorem q2146 : (Jvm.Cond.methodLink "MailSessionsModel" (70 : Nat) ({ cls := "MailSessionsModel", name := "in", desc := "(JJJ)Z" } : Jvm.MethodName)) ∈ lw_all := lw_g (lw_at lw_m9 76 rfl) rfl
theorem q2147 : (Jvm.Cond.static ({ cls := "MailSessionsModel", name := "in", desc := "(JJJ)Z" } : Jvm.MethodName)) ∈ lw_all := lw_g (lw_at lw_m9 77 rfl) rfl
theorem q2148 : (Jvm.Cond.code ({ cls := "MailSessionsModel", name := "in", desc := "(JJJ)Z" } : Jvm.MethodName) prog_13_method_2_code (6 : Nat) (Option.some Jvm.ClassFile.FieldType.boolean)) ∈ lw_all := lw_g (lw_at lw_m9 78 rfl) rfl
theorem q2149 : (Jvm.Cond.methodLink "MailSessionsModel" (189 : Nat) ({ cls := "MailSessionsModel", name := "isBox", desc := "(I)Z" } : Jvm.MethodName)) ∈ lw_all := lw_g (lw_at lw_m9 79 rfl) rfl
theorem q2150 : (Jvm.Cond.privateMethod ({ cls := "MailSessionsModel", name := "isBox", desc := "(I)Z" } : Jvm.MethodName)) ∈ lw_tbl := lw_at lw_m9 80 rfl
theorem q2151 : (Jvm.Cond.instanceMethod ({ cls := "MailSessionsModel", name := "isBox", desc := "(I)Z" } : Jvm.MethodName)) ∈ lw_all := lw_g (lw_at lw_m9 81 rfl) rfl
theorem q2152 : (Jvm.Cond.code ({ cls := "MailSessionsModel", name := "isBox", desc := "(I)Z" } : Jvm.MethodName) prog_13_method_11_code (2 : Nat) (Option.some Jvm.ClassFile.FieldType.boolean)) ∈ lw_all := lw_g (lw_at lw_m9 82 rfl) rfl
theorem q2153 : (Jvm.Cond.methodLink "MailSessionsModel" (66 : Nat) ({ cls := "MailSessionsModel", name := "boxes", desc := "()I" } : Jvm.MethodName)) ∈ lw_all := lw_g (lw_at lw_m9 83 rfl) rfl
theorem q2154 : (Jvm.Cond.privateMethod ({ cls := "MailSessionsModel", name := "boxes", desc := "()I" } : Jvm.MethodName)) ∈ lw_tbl := lw_at lw_m9 84 rfl
theorem q2155 : (Jvm.Cond.instanceMethod ({ cls := "MailSessionsModel", name := "boxes", desc := "()I" } : Jvm.MethodName)) ∈ lw_all := lw_g (lw_at lw_m9 85 rfl) rfl
theorem q2156 : (Jvm.Cond.code ({ cls := "MailSessionsModel", name := "boxes", desc := "()I" } : Jvm.MethodName) prog_13_method_9_code (1 : Nat) (Option.some Jvm.ClassFile.FieldType.int)) ∈ lw_all := lw_g (lw_at lw_m9 86 rfl) rfl
theorem q2157 : (Jvm.Cond.methodLink "MailSessionsModel" (162 : Nat) ({ cls := "MailSessionsModel", name := "isIdle", desc := "(I)Z" } : Jvm.MethodName)) ∈ lw_all := lw_g (lw_at lw_m9 87 rfl) rfl
theorem q2158 : (Jvm.Cond.privateMethod ({ cls := "MailSessionsModel", name := "isIdle", desc := "(I)Z" } : Jvm.MethodName)) ∈ lw_tbl := lw_at lw_m9 88 rfl
theorem q2159 : (Jvm.Cond.instanceMethod ({ cls := "MailSessionsModel", name := "isIdle", desc := "(I)Z" } : Jvm.MethodName)) ∈ lw_all := lw_g (lw_at lw_m9 89 rfl) rfl
theorem q2160 : (Jvm.Cond.code ({ cls := "MailSessionsModel", name := "isIdle", desc := "(I)Z" } : Jvm.MethodName) prog_13_method_21_code (2 : Nat) (Option.some Jvm.ClassFile.FieldType.boolean)) ∈ lw_all := lw_g (lw_at lw_m9 90 rfl) rfl
theorem q2161 : (Jvm.Cond.methodLink "MailSessionsModel" (84 : Nat) ({ cls := "MailSessionsModel", name := "sessionAt", desc := "(I)I" } : Jvm.MethodName)) ∈ lw_all := lw_g (lw_at lw_m9 91 rfl) rfl
theorem q2162 : (Jvm.Cond.static ({ cls := "MailSessionsModel", name := "sessionAt", desc := "(I)I" } : Jvm.MethodName)) ∈ lw_all := lw_g (lw_at lw_m9 92 rfl) rfl
theorem q2163 : (Jvm.Cond.code ({ cls := "MailSessionsModel", name := "sessionAt", desc := "(I)I" } : Jvm.MethodName) prog_13_method_14_code (1 : Nat) (Option.some Jvm.ClassFile.FieldType.int)) ∈ lw_all := lw_g (lw_at lw_m9 93 rfl) rfl
theorem q2164 : (Jvm.Cond.methodLink "MailSessionsModel" (192 : Nat) ({ cls := "MailSessionsModel", name := "passes2", desc := "(ZZ)Z" } : Jvm.MethodName)) ∈ lw_all := lw_g (lw_at lw_m9 94 rfl) rfl
theorem q2165 : (Jvm.Cond.privateMethod ({ cls := "MailSessionsModel", name := "passes2", desc := "(ZZ)Z" } : Jvm.MethodName)) ∈ lw_tbl := lw_at lw_m9 95 rfl
theorem q2166 : (Jvm.Cond.instanceMethod ({ cls := "MailSessionsModel", name := "passes2", desc := "(ZZ)Z" } : Jvm.MethodName)) ∈ lw_all := lw_g (lw_at lw_m9 96 rfl) rfl
theorem q2167 : (Jvm.Cond.code ({ cls := "MailSessionsModel", name := "passes2", desc := "(ZZ)Z" } : Jvm.MethodName) prog_13_method_5_code (3 : Nat) (Option.some Jvm.ClassFile.FieldType.boolean)) ∈ lw_all := lw_g (lw_at lw_m9 97 rfl) rfl
theorem q2168 : (Jvm.Cond.methodLink "MailSessionsModel" (7 : Nat) ({ cls := "MailSessionsModel", name := "passes3", desc := "(ZZZ)Z" } : Jvm.MethodName)) ∈ lw_all := lw_g (lw_at lw_m9 98 rfl) rfl
theorem q2169 : (Jvm.Cond.privateMethod ({ cls := "MailSessionsModel", name := "passes3", desc := "(ZZZ)Z" } : Jvm.MethodName)) ∈ lw_tbl := lw_at lw_m9 99 rfl
theorem q2170 : (Jvm.Cond.instanceMethod ({ cls := "MailSessionsModel", name := "passes3", desc := "(ZZZ)Z" } : Jvm.MethodName)) ∈ lw_all := lw_g (lw_at lw_m9 100 rfl) rfl
theorem q2171 : (Jvm.Cond.code ({ cls := "MailSessionsModel", name := "passes3", desc := "(ZZZ)Z" } : Jvm.MethodName) prog_13_method_4_code (4 : Nat) (Option.some Jvm.ClassFile.FieldType.boolean)) ∈ lw_all := lw_g (lw_at lw_m9 101 rfl) rfl
theorem q2172 : (Jvm.Cond.methodLink "MailSessionsModel" (196 : Nat) ({ cls := "MailSessionsModel", name := "begins", desc := "(I)V" } : Jvm.MethodName)) ∈ lw_all := lw_g (lw_at lw_m9 102 rfl) rfl
theorem q2173 : (Jvm.Cond.privateMethod ({ cls := "MailSessionsModel", name := "begins", desc := "(I)V" } : Jvm.MethodName)) ∈ lw_tbl := lw_at lw_m9 103 rfl
theorem q2174 : (Jvm.Cond.instanceMethod ({ cls := "MailSessionsModel", name := "begins", desc := "(I)V" } : Jvm.MethodName)) ∈ lw_all := lw_g (lw_at lw_m9 104 rfl) rfl
theorem q2175 : (Jvm.Cond.code ({ cls := "MailSessionsModel", name := "begins", desc := "(I)V" } : Jvm.MethodName) prog_13_method_45_code (2 : Nat) (Option.none : Option Jvm.ClassFile.FieldType)) ∈ lw_all := lw_g (lw_at lw_m9 105 rfl) rfl
theorem q2176 : (Jvm.Cond.methodLink "MailSessionsModel" (175 : Nat) ({ cls := "MailSessionsModel", name := "remember", desc := "()V" } : Jvm.MethodName)) ∈ lw_all := lw_g (lw_at lw_m9 106 rfl) rfl
theorem q2177 : (Jvm.Cond.privateMethod ({ cls := "MailSessionsModel", name := "remember", desc := "()V" } : Jvm.MethodName)) ∈ lw_tbl := lw_at lw_m9 107 rfl
theorem q2178 : (Jvm.Cond.instanceMethod ({ cls := "MailSessionsModel", name := "remember", desc := "()V" } : Jvm.MethodName)) ∈ lw_all := lw_g (lw_at lw_m9 108 rfl) rfl
theorem q2179 : (Jvm.Cond.code ({ cls := "MailSessionsModel", name := "remember", desc := "()V" } : Jvm.MethodName) prog_13_method_152_code (2 : Nat) (Option.none : Option Jvm.ClassFile.FieldType)) ∈ lw_all := lw_g (lw_at lw_m9 109 rfl) rfl
theorem q2180 : (Jvm.Cond.methodLink "MailSessionsModel" (199 : Nat) ({ cls := "MailSessionsModel", name := "takeBox", desc := "(IIZ)V" } : Jvm.MethodName)) ∈ lw_all := lw_g (lw_at lw_m9 110 rfl) rfl
theorem q2181 : (Jvm.Cond.privateMethod ({ cls := "MailSessionsModel", name := "takeBox", desc := "(IIZ)V" } : Jvm.MethodName)) ∈ lw_tbl := lw_at lw_m9 111 rfl
theorem q2182 : (Jvm.Cond.instanceMethod ({ cls := "MailSessionsModel", name := "takeBox", desc := "(IIZ)V" } : Jvm.MethodName)) ∈ lw_all := lw_g (lw_at lw_m9 112 rfl) rfl
theorem q2183 : (Jvm.Cond.code ({ cls := "MailSessionsModel", name := "takeBox", desc := "(IIZ)V" } : Jvm.MethodName) prog_13_method_49_code (5 : Nat) (Option.none : Option Jvm.ClassFile.FieldType)) ∈ lw_all := lw_g (lw_at lw_m9 113 rfl) rfl
theorem q2184 : (Jvm.Cond.methodLink "MailSessionsModel" (186 : Nat) ({ cls := "MailSessionsModel", name := "leaveBox", desc := "(I)V" } : Jvm.MethodName)) ∈ lw_all := lw_g (lw_at lw_m9 114 rfl) rfl
theorem q2185 : (Jvm.Cond.privateMethod ({ cls := "MailSessionsModel", name := "leaveBox", desc := "(I)V" } : Jvm.MethodName)) ∈ lw_tbl := lw_at lw_m9 115 rfl
theorem q2186 : (Jvm.Cond.instanceMethod ({ cls := "MailSessionsModel", name := "leaveBox", desc := "(I)V" } : Jvm.MethodName)) ∈ lw_all := lw_g (lw_at lw_m9 116 rfl) rfl
theorem q2187 : (Jvm.Cond.code ({ cls := "MailSessionsModel", name := "leaveBox", desc := "(I)V" } : Jvm.MethodName) prog_13_method_48_code (3 : Nat) (Option.none : Option Jvm.ClassFile.FieldType)) ∈ lw_all := lw_g (lw_at lw_m9 117 rfl) rfl
theorem q2188 : (Jvm.Cond.constantLong "MailSessionsModel" (184 : Nat) (-1 : Int64)) ∈ lw_all := lw_g (lw_at lw_m9 118 rfl) rfl
theorem q2189 : (Jvm.Cond.methodLink "MailSessionsModel" (100 : Nat) ({ cls := "MailSessionsModel", name := "manyIn", desc := "(I)I" } : Jvm.MethodName)) ∈ lw_all := lw_g (lw_at lw_m9 119 rfl) rfl
theorem q2190 : (Jvm.Cond.privateMethod ({ cls := "MailSessionsModel", name := "manyIn", desc := "(I)I" } : Jvm.MethodName)) ∈ lw_tbl := lw_at lw_m9 120 rfl
theorem q2191 : (Jvm.Cond.instanceMethod ({ cls := "MailSessionsModel", name := "manyIn", desc := "(I)I" } : Jvm.MethodName)) ∈ lw_all := lw_g (lw_at lw_m9 121 rfl) rfl
theorem q2192 : (Jvm.Cond.code ({ cls := "MailSessionsModel", name := "manyIn", desc := "(I)I" } : Jvm.MethodName) prog_13_method_15_code (2 : Nat) (Option.some Jvm.ClassFile.FieldType.int)) ∈ lw_all := lw_g (lw_at lw_m9 122 rfl) rfl
theorem q2193 : (Jvm.Cond.methodLink "MailSessionsModel" (77 : Nat) ({ cls := "MailSessionsModel", name := "boxAt", desc := "(I)I" } : Jvm.MethodName)) ∈ lw_all := lw_g (lw_at lw_m9 123 rfl) rfl
theorem q2194 : (Jvm.Cond.static ({ cls := "MailSessionsModel", name := "boxAt", desc := "(I)I" } : Jvm.MethodName)) ∈ lw_all := lw_g (lw_at lw_m9 124 rfl) rfl
theorem q2195 : (Jvm.Cond.code ({ cls := "MailSessionsModel", name := "boxAt", desc := "(I)I" } : Jvm.MethodName) prog_13_method_13_code (1 : Nat) (Option.some Jvm.ClassFile.FieldType.int)) ∈ lw_all := lw_g (lw_at lw_m9 125 rfl) rfl
theorem q2196 : (Jvm.Cond.methodLink "MailSessionsModel" (149 : Nat) ({ cls := "MailSessionsModel", name := "putEntry", desc := "(II)V" } : Jvm.MethodName)) ∈ lw_all := lw_g (lw_at lw_m9 126 rfl) rfl
theorem q2197 : (Jvm.Cond.privateMethod ({ cls := "MailSessionsModel", name := "putEntry", desc := "(II)V" } : Jvm.MethodName)) ∈ lw_tbl := lw_at lw_m9 127 rfl
theorem q2198 : (Jvm.Cond.instanceMethod ({ cls := "MailSessionsModel", name := "putEntry", desc := "(II)V" } : Jvm.MethodName)) ∈ lw_all := lw_g (lw_at lw_m9 128 rfl) rfl
theorem q2199 : (Jvm.Cond.code ({ cls := "MailSessionsModel", name := "putEntry", desc := "(II)V" } : Jvm.MethodName) prog_13_method_36_code (5 : Nat) (Option.none : Option Jvm.ClassFile.FieldType)) ∈ lw_all := lw_g (lw_at lw_m9 129 rfl) rfl
theorem q2200 : (Jvm.Cond.methodLink "MailSessionsModel" (97 : Nat) ({ cls := "MailSessionsModel", name := "entries", desc := "(I)I" } : Jvm.MethodName)) ∈ lw_all := lw_g (lw_at lw_m9 130 rfl) rfl
theorem q2201 : (Jvm.Cond.privateMethod ({ cls := "MailSessionsModel", name := "entries", desc := "(I)I" } : Jvm.MethodName)) ∈ lw_tbl := lw_at lw_m9 131 rfl
theorem q2202 : (Jvm.Cond.instanceMethod ({ cls := "MailSessionsModel", name := "entries", desc := "(I)I" } : Jvm.MethodName)) ∈ lw_all := lw_g (lw_at lw_m9 132 rfl) rfl
theorem q2203 : (Jvm.Cond.code ({ cls := "MailSessionsModel", name := "entries", desc := "(I)I" } : Jvm.MethodName) prog_13_method_22_code (2 : Nat) (Option.some Jvm.ClassFile.FieldType.int)) ∈ lw_all := lw_g (lw_at lw_m9 133 rfl) rfl
theorem q2204 : (Jvm.Cond.methodLink "MailSessionsModel" (90 : Nat) ({ cls := "MailSessionsModel", name := "entryAt", desc := "(II)I" } : Jvm.MethodName)) ∈ lw_all := lw_g (lw_at lw_m9 134 rfl) rfl
theorem q2205 : (Jvm.Cond.static ({ cls := "MailSessionsModel", name := "entryAt", desc := "(II)I" } : Jvm.MethodName)) ∈ lw_all := lw_g (lw_at lw_m9 135 rfl) rfl
theorem q2206 : (Jvm.Cond.code ({ cls := "MailSessionsModel", name := "entryAt", desc := "(II)I" } : Jvm.MethodName) prog_13_method_23_code (2 : Nat) (Option.some Jvm.ClassFile.FieldType.int)) ∈ lw_all := lw_g (lw_at lw_m9 136 rfl) rfl
theorem q2207 : (Jvm.Cond.methodLink "MailSessionsModel" (87 : Nat) ({ cls := "MailSessionsModel", name := "boxOf", desc := "(I)I" } : Jvm.MethodName)) ∈ lw_all := lw_g (lw_at lw_m9 137 rfl) rfl
theorem q2208 : (Jvm.Cond.privateMethod ({ cls := "MailSessionsModel", name := "boxOf", desc := "(I)I" } : Jvm.MethodName)) ∈ lw_tbl := lw_at lw_m9 138 rfl
theorem q2209 : (Jvm.Cond.instanceMethod ({ cls := "MailSessionsModel", name := "boxOf", desc := "(I)I" } : Jvm.MethodName)) ∈ lw_all := lw_g (lw_at lw_m9 139 rfl) rfl
theorem q2210 : (Jvm.Cond.code ({ cls := "MailSessionsModel", name := "boxOf", desc := "(I)I" } : Jvm.MethodName) prog_13_method_18_code (2 : Nat) (Option.some Jvm.ClassFile.FieldType.int)) ∈ lw_all := lw_g (lw_at lw_m9 140 rfl) rfl
theorem q2211 : (Jvm.Cond.methodLink "MailSessionsModel" (103 : Nat) ({ cls := "MailSessionsModel", name := "ofMessage", desc := "(III)I" } : Jvm.MethodName)) ∈ lw_all := lw_g (lw_at lw_m9 141 rfl) rfl
theorem q2212 : (Jvm.Cond.privateMethod ({ cls := "MailSessionsModel", name := "ofMessage", desc := "(III)I" } : Jvm.MethodName)) ∈ lw_tbl := lw_at lw_m9 142 rfl
theorem q2213 : (Jvm.Cond.instanceMethod ({ cls := "MailSessionsModel", name := "ofMessage", desc := "(III)I" } : Jvm.MethodName)) ∈ lw_all := lw_g (lw_at lw_m9 143 rfl) rfl
theorem q2214 : (Jvm.Cond.code ({ cls := "MailSessionsModel", name := "ofMessage", desc := "(III)I" } : Jvm.MethodName) prog_13_method_17_code (4 : Nat) (Option.some Jvm.ClassFile.FieldType.int)) ∈ lw_all := lw_g (lw_at lw_m9 144 rfl) rfl
theorem q2215 : (Jvm.Cond.methodLink "MailSessionsModel" (80 : Nat) ({ cls := "MailSessionsModel", name := "messageAt", desc := "(II)I" } : Jvm.MethodName)) ∈ lw_all := lw_g (lw_at lw_m9 145 rfl) rfl
theorem q2216 : (Jvm.Cond.static ({ cls := "MailSessionsModel", name := "messageAt", desc := "(II)I" } : Jvm.MethodName)) ∈ lw_all := lw_g (lw_at lw_m9 146 rfl) rfl
theorem q2217 : (Jvm.Cond.code ({ cls := "MailSessionsModel", name := "messageAt", desc := "(II)I" } : Jvm.MethodName) prog_13_method_16_code (2 : Nat) (Option.some Jvm.ClassFile.FieldType.int)) ∈ lw_all := lw_g (lw_at lw_m9 147 rfl) rfl
theorem q2218 : (Jvm.Cond.methodLink "MailSessionsModel" (178 : Nat) ({ cls := "MailSessionsModel", name := "tellsIdle", desc := "()V" } : Jvm.MethodName)) ∈ lw_all := lw_g (lw_at lw_m9 148 rfl) rfl
theorem q2219 : (Jvm.Cond.privateMethod ({ cls := "MailSessionsModel", name := "tellsIdle", desc := "()V" } : Jvm.MethodName)) ∈ lw_tbl := lw_at lw_m9 149 rfl
theorem q2220 : (Jvm.Cond.instanceMethod ({ cls := "MailSessionsModel", name := "tellsIdle", desc := "()V" } : Jvm.MethodName)) ∈ lw_all := lw_g (lw_at lw_m9 150 rfl) rfl
theorem q2221 : (Jvm.Cond.code ({ cls := "MailSessionsModel", name := "tellsIdle", desc := "()V" } : Jvm.MethodName) prog_13_method_42_code (3 : Nat) (Option.none : Option Jvm.ClassFile.FieldType)) ∈ lw_all := lw_g (lw_at lw_m9 151 rfl) rfl
theorem q2222 : (Jvm.Cond.methodLink "MailSessionsModel" (165 : Nat) ({ cls := "MailSessionsModel", name := "tells", desc := "(IZ)I" } : Jvm.MethodName)) ∈ lw_all := lw_g (lw_at lw_m9 152 rfl) rfl
theorem q2223 : (Jvm.Cond.privateMethod ({ cls := "MailSessionsModel", name := "tells", desc := "(IZ)I" } : Jvm.MethodName)) ∈ lw_tbl := lw_at lw_m9 153 rfl
theorem q2224 : (Jvm.Cond.instanceMethod ({ cls := "MailSessionsModel", name := "tells", desc := "(IZ)I" } : Jvm.MethodName)) ∈ lw_all := lw_g (lw_at lw_m9 154 rfl) rfl
theorem q2225 : (Jvm.Cond.code ({ cls := "MailSessionsModel", name := "tells", desc := "(IZ)I" } : Jvm.MethodName) prog_13_method_41_code (4 : Nat) (Option.some Jvm.ClassFile.FieldType.int)) ∈ lw_all := lw_g (lw_at lw_m9 155 rfl) rfl
theorem q2226 : (Jvm.Cond.methodLink "MailSessionsModel" (126 : Nat) ({ cls := "MailSessionsModel", name := "hasBox", desc := "(I)Z" } : Jvm.MethodName)) ∈ lw_all := lw_g (lw_at lw_m9 156 rfl) rfl
theorem q2227 : (Jvm.Cond.privateMethod ({ cls := "MailSessionsModel", name := "hasBox", desc := "(I)Z" } : Jvm.MethodName)) ∈ lw_tbl := lw_at lw_m9 157 rfl
theorem q2228 : (Jvm.Cond.instanceMethod ({ cls := "MailSessionsModel", name := "hasBox", desc := "(I)Z" } : Jvm.MethodName)) ∈ lw_all := lw_g (lw_at lw_m9 158 rfl) rfl
theorem q2229 : (Jvm.Cond.code ({ cls := "MailSessionsModel", name := "hasBox", desc := "(I)Z" } : Jvm.MethodName) prog_13_method_19_code (2 : Nat) (Option.some Jvm.ClassFile.FieldType.boolean)) ∈ lw_all := lw_g (lw_at lw_m9 159 rfl) rfl
theorem q2230 : (Jvm.Cond.methodLink "MailSessionsModel" (152 : Nat) ({ cls := "MailSessionsModel", name := "tellGone", desc := "(I)V" } : Jvm.MethodName)) ∈ lw_all := lw_g (lw_at lw_m9 160 rfl) rfl
theorem q2231 : (Jvm.Cond.privateMethod ({ cls := "MailSessionsModel", name := "tellGone", desc := "(I)V" } : Jvm.MethodName)) ∈ lw_tbl := lw_at lw_m9 161 rfl
theorem q2232 : (Jvm.Cond.instanceMethod ({ cls := "MailSessionsModel", name := "tellGone", desc := "(I)V" } : Jvm.MethodName)) ∈ lw_all := lw_g (lw_at lw_m9 162 rfl) rfl
theorem q2233 : (Jvm.Cond.code ({ cls := "MailSessionsModel", name := "tellGone", desc := "(I)V" } : Jvm.MethodName) prog_13_method_38_code (3 : Nat) (Option.none : Option Jvm.ClassFile.FieldType)) ∈ lw_all := lw_g (lw_at lw_m9 163 rfl) rfl
theorem q2234 : (Jvm.Cond.methodLink "MailSessionsModel" (116 : Nat) ({ cls := "MailSessionsModel", name := "isGone", desc := "(II)Z" } : Jvm.MethodName)) ∈ lw_all := lw_g (lw_at lw_m9 164 rfl) rfl
theorem q2235 : (Jvm.Cond.privateMethod ({ cls := "MailSessionsModel", name := "isGone", desc := "(II)Z" } : Jvm.MethodName)) ∈ lw_tbl := lw_at lw_m9 165 rfl
theorem q2236 : (Jvm.Cond.instanceMethod ({ cls := "MailSessionsModel", name := "isGone", desc := "(II)Z" } : Jvm.MethodName)) ∈ lw_all := lw_g (lw_at lw_m9 166 rfl) rfl
theorem q2237 : (Jvm.Cond.code ({ cls := "MailSessionsModel", name := "isGone", desc := "(II)Z" } : Jvm.MethodName) prog_13_method_28_code (3 : Nat) (Option.some Jvm.ClassFile.FieldType.boolean)) ∈ lw_all := lw_g (lw_at lw_m9 167 rfl) rfl
theorem q2238 : (Jvm.Cond.methodLink "MailSessionsModel" (113 : Nat) ({ cls := "MailSessionsModel", name := "messageOf", desc := "(II)I" } : Jvm.MethodName)) ∈ lw_all := lw_g (lw_at lw_m9 168 rfl) rfl
theorem q2239 : (Jvm.Cond.privateMethod ({ cls := "MailSessionsModel", name := "messageOf", desc := "(II)I" } : Jvm.MethodName)) ∈ lw_tbl := lw_at lw_m9 169 rfl
theorem q2240 : (Jvm.Cond.instanceMethod ({ cls := "MailSessionsModel", name := "messageOf", desc := "(II)I" } : Jvm.MethodName)) ∈ lw_all := lw_g (lw_at lw_m9 170 rfl) rfl
theorem q2241 : (Jvm.Cond.code ({ cls := "MailSessionsModel", name := "messageOf", desc := "(II)I" } : Jvm.MethodName) prog_13_method_27_code (3 : Nat) (Option.some Jvm.ClassFile.FieldType.int)) ∈ lw_all := lw_g (lw_at lw_m9 171 rfl) rfl
theorem q2242 : (Jvm.Cond.methodLink "MailSessionsModel" (107 : Nat) ({ cls := "MailSessionsModel", name := "ofEntry", desc := "(III)I" } : Jvm.MethodName)) ∈ lw_all := lw_g (lw_at lw_m9 172 rfl) rfl
theorem q2243 : (Jvm.Cond.privateMethod ({ cls := "MailSessionsModel", name := "ofEntry", desc := "(III)I" } : Jvm.MethodName)) ∈ lw_tbl := lw_at lw_m9 173 rfl
theorem q2244 : (Jvm.Cond.instanceMethod ({ cls := "MailSessionsModel", name := "ofEntry", desc := "(III)I" } : Jvm.MethodName)) ∈ lw_all := lw_g (lw_at lw_m9 174 rfl) rfl
theorem q2245 : (Jvm.Cond.code ({ cls := "MailSessionsModel", name := "ofEntry", desc := "(III)I" } : Jvm.MethodName) prog_13_method_24_code (4 : Nat) (Option.some Jvm.ClassFile.FieldType.int)) ∈ lw_all := lw_g (lw_at lw_m9 175 rfl) rfl
theorem q2246 : (Jvm.Cond.methodLink "MailSessionsModel" (110 : Nat) ({ cls := "MailSessionsModel", name := "withUid", desc := "(II)I" } : Jvm.MethodName)) ∈ lw_all := lw_g (lw_at lw_m9 176 rfl) rfl
theorem q2247 : (Jvm.Cond.privateMethod ({ cls := "MailSessionsModel", name := "withUid", desc := "(II)I" } : Jvm.MethodName)) ∈ lw_tbl := lw_at lw_m9 177 rfl
theorem q2248 : (Jvm.Cond.instanceMethod ({ cls := "MailSessionsModel", name := "withUid", desc := "(II)I" } : Jvm.MethodName)) ∈ lw_all := lw_g (lw_at lw_m9 178 rfl) rfl
theorem q2249 : (Jvm.Cond.code ({ cls := "MailSessionsModel", name := "withUid", desc := "(II)I" } : Jvm.MethodName) prog_13_method_26_code (4 : Nat) (Option.some Jvm.ClassFile.FieldType.int)) ∈ lw_all := lw_g (lw_at lw_m9 179 rfl) rfl
theorem q2250 : (Jvm.Cond.methodLink "MailSessionsModel" (141 : Nat) ({ cls := "MailSessionsModel", name := "notes", desc := "(IIII)V" } : Jvm.MethodName)) ∈ lw_all := lw_g (lw_at lw_m9 180 rfl) rfl
theorem q2251 : (Jvm.Cond.privateMethod ({ cls := "MailSessionsModel", name := "notes", desc := "(IIII)V" } : Jvm.MethodName)) ∈ lw_tbl := lw_at lw_m9 181 rfl
theorem q2252 : (Jvm.Cond.instanceMethod ({ cls := "MailSessionsModel", name := "notes", desc := "(IIII)V" } : Jvm.MethodName)) ∈ lw_all := lw_g (lw_at lw_m9 182 rfl) rfl
theorem q2253 : (Jvm.Cond.code ({ cls := "MailSessionsModel", name := "notes", desc := "(IIII)V" } : Jvm.MethodName) prog_13_method_35_code (6 : Nat) (Option.none : Option Jvm.ClassFile.FieldType)) ∈ lw_all := lw_g (lw_at lw_m9 183 rfl) rfl
theorem q2254 : (Jvm.Cond.methodLink "MailSessionsModel" (145 : Nat) ({ cls := "MailSessionsModel", name := "dropEntry", desc := "(II)V" } : Jvm.MethodName)) ∈ lw_all := lw_g (lw_at lw_m9 184 rfl) rfl
theorem q2255 : (Jvm.Cond.privateMethod ({ cls := "MailSessionsModel", name := "dropEntry", desc := "(II)V" } : Jvm.MethodName)) ∈ lw_tbl := lw_at lw_m9 185 rfl
theorem q2256 : (Jvm.Cond.instanceMethod ({ cls := "MailSessionsModel", name := "dropEntry", desc := "(II)V" } : Jvm.MethodName)) ∈ lw_all := lw_g (lw_at lw_m9 186 rfl) rfl
theorem q2257 : (Jvm.Cond.code ({ cls := "MailSessionsModel", name := "dropEntry", desc := "(II)V" } : Jvm.MethodName) prog_13_method_37_code (4 : Nat) (Option.none : Option Jvm.ClassFile.FieldType)) ∈ lw_all := lw_g (lw_at lw_m9 187 rfl) rfl
theorem q2258 : (Jvm.Cond.methodLink "MailSessionsModel" (156 : Nat) ({ cls := "MailSessionsModel", name := "tellFlags", desc := "(I)V" } : Jvm.MethodName)) ∈ lw_all := lw_g (lw_at lw_m9 188 rfl) rfl
theorem q2259 : (Jvm.Cond.privateMethod ({ cls := "MailSessionsModel", name := "tellFlags", desc := "(I)V" } : Jvm.MethodName)) ∈ lw_tbl := lw_at lw_m9 189 rfl
theorem q2260 : (Jvm.Cond.instanceMethod ({ cls := "MailSessionsModel", name := "tellFlags", desc := "(I)V" } : Jvm.MethodName)) ∈ lw_all := lw_g (lw_at lw_m9 190 rfl) rfl
theorem q2261 : (Jvm.Cond.code ({ cls := "MailSessionsModel", name := "tellFlags", desc := "(I)V" } : Jvm.MethodName) prog_13_method_39_code (3 : Nat) (Option.none : Option Jvm.ClassFile.FieldType)) ∈ lw_all := lw_g (lw_at lw_m9 191 rfl) rfl
theorem q2262 : (Jvm.Cond.methodLink "MailSessionsModel" (123 : Nat) ({ cls := "MailSessionsModel", name := "isOther", desc := "(II)Z" } : Jvm.MethodName)) ∈ lw_all := lw_g (lw_at lw_m9 192 rfl) rfl
theorem q2263 : (Jvm.Cond.privateMethod ({ cls := "MailSessionsModel", name := "isOther", desc := "(II)Z" } : Jvm.MethodName)) ∈ lw_tbl := lw_at lw_m9 193 rfl
theorem q2264 : (Jvm.Cond.instanceMethod ({ cls := "MailSessionsModel", name := "isOther", desc := "(II)Z" } : Jvm.MethodName)) ∈ lw_all := lw_g (lw_at lw_m9 194 rfl) rfl
theorem q2265 : (Jvm.Cond.code ({ cls := "MailSessionsModel", name := "isOther", desc := "(II)Z" } : Jvm.MethodName) prog_13_method_30_code (3 : Nat) (Option.some Jvm.ClassFile.FieldType.boolean)) ∈ lw_all := lw_g (lw_at lw_m9 195 rfl) rfl
theorem q2266 : (Jvm.Cond.methodLink "MailSessionsModel" (120 : Nat) ({ cls := "MailSessionsModel", name := "flagsOf", desc := "(II)I" } : Jvm.MethodName)) ∈ lw_all := lw_g (lw_at lw_m9 196 rfl) rfl
theorem q2267 : (Jvm.Cond.privateMethod ({ cls := "MailSessionsModel", name := "flagsOf", desc := "(II)I" } : Jvm.MethodName)) ∈ lw_tbl := lw_at lw_m9 197 rfl
theorem q2268 : (Jvm.Cond.instanceMethod ({ cls := "MailSessionsModel", name := "flagsOf", desc := "(II)I" } : Jvm.MethodName)) ∈ lw_all := lw_g (lw_at lw_m9 198 rfl) rfl
theorem q2269 : (Jvm.Cond.code ({ cls := "MailSessionsModel", name := "flagsOf", desc := "(II)I" } : Jvm.MethodName) prog_13_method_29_code (3 : Nat) (Option.some Jvm.ClassFile.FieldType.int)) ∈ lw_all := lw_g (lw_at lw_m9 199 rfl) rfl
theorem q2270 : (Jvm.Cond.methodLink "MailSessionsModel" (159 : Nat) ({ cls := "MailSessionsModel", name := "tellNew", desc := "(I)V" } : Jvm.MethodName)) ∈ lw_all := lw_g (lw_at lw_m9 200 rfl) rfl
theorem q2271 : (Jvm.Cond.privateMethod ({ cls := "MailSessionsModel", name := "tellNew", desc := "(I)V" } : Jvm.MethodName)) ∈ lw_tbl := lw_at lw_m9 201 rfl
theorem q2272 : (Jvm.Cond.instanceMethod ({ cls := "MailSessionsModel", name := "tellNew", desc := "(I)V" } : Jvm.MethodName)) ∈ lw_all := lw_g (lw_at lw_m9 202 rfl) rfl
theorem q2273 : (Jvm.Cond.code ({ cls := "MailSessionsModel", name := "tellNew", desc := "(I)V" } : Jvm.MethodName) prog_13_method_40_code (4 : Nat) (Option.none : Option Jvm.ClassFile.FieldType)) ∈ lw_all := lw_g (lw_at lw_m9 203 rfl) rfl
theorem q2275 : (Jvm.Cond.instanceMethod ({ cls := "MailSessionsModel", name := "noop", desc := "(I)I" } : Jvm.MethodName)) ∈ lw_all := lw_g (lw_at lw_m9 205 rfl) rfl
theorem q2276 : (Jvm.Cond.selects "MailSessionsModel" ({ cls := "MailSessionsModel", name := "noop", desc := "(I)I" } : Jvm.MethodName) ({ cls := "MailSessionsModel", name := "noop", desc := "(I)I" } : Jvm.MethodName)) ∈ lw_all := lw_g (lw_at lw_m9 206 rfl) rfl
theorem q2277 : (Jvm.Cond.code ({ cls := "MailSessionsModel", name := "noop", desc := "(I)I" } : Jvm.MethodName) prog_13_method_51_code (2 : Nat) (Option.some Jvm.ClassFile.FieldType.int)) ∈ lw_all := lw_g (lw_at lw_m9 207 rfl) rfl
theorem q2278 : (Jvm.Cond.methodLink "MailSessionsModel" (169 : Nat) ({ cls := "MailSessionsModel", name := "canDo", desc := "(I)Z" } : Jvm.MethodName)) ∈ lw_all := lw_g (lw_at lw_m9 208 rfl) rfl
theorem q2279 : (Jvm.Cond.privateMethod ({ cls := "MailSessionsModel", name := "canDo", desc := "(I)Z" } : Jvm.MethodName)) ∈ lw_tbl := lw_at lw_m9 209 rfl
theorem q2280 : (Jvm.Cond.instanceMethod ({ cls := "MailSessionsModel", name := "canDo", desc := "(I)Z" } : Jvm.MethodName)) ∈ lw_all := lw_g (lw_at lw_m9 210 rfl) rfl
theorem q2281 : (Jvm.Cond.code ({ cls := "MailSessionsModel", name := "canDo", desc := "(I)Z" } : Jvm.MethodName) prog_13_method_43_code (2 : Nat) (Option.some Jvm.ClassFile.FieldType.boolean)) ∈ lw_all := lw_g (lw_at lw_m9 211 rfl) rfl
theorem q2282 : (Jvm.Cond.methodLink "MailSessionsModel" (181 : Nat) ({ cls := "MailSessionsModel", name := "ends", desc := "(IZ)I" } : Jvm.MethodName)) ∈ lw_all := lw_g (lw_at lw_m9 212 rfl) rfl
theorem q2283 : (Jvm.Cond.privateMethod ({ cls := "MailSessionsModel", name := "ends", desc := "(IZ)I" } : Jvm.MethodName)) ∈ lw_tbl := lw_at lw_m9 213 rfl
theorem q2284 : (Jvm.Cond.instanceMethod ({ cls := "MailSessionsModel", name := "ends", desc := "(IZ)I" } : Jvm.MethodName)) ∈ lw_all := lw_g (lw_at lw_m9 214 rfl) rfl
theorem q2285 : (Jvm.Cond.code ({ cls := "MailSessionsModel", name := "ends", desc := "(IZ)I" } : Jvm.MethodName) prog_13_method_46_code (4 : Nat) (Option.some Jvm.ClassFile.FieldType.int)) ∈ lw_all := lw_g (lw_at lw_m9 215 rfl) rfl
theorem q2287 : (Jvm.Cond.instanceMethod ({ cls := "MailSessionsModel", name := "startIdle", desc := "(I)I" } : Jvm.MethodName)) ∈ lw_all := lw_g (lw_at lw_m9 217 rfl) rfl
theorem q2288 : (Jvm.Cond.selects "MailSessionsModel" ({ cls := "MailSessionsModel", name := "startIdle", desc := "(I)I" } : Jvm.MethodName) ({ cls := "MailSessionsModel", name := "startIdle", desc := "(I)I" } : Jvm.MethodName)) ∈ lw_all := lw_g (lw_at lw_m9 218 rfl) rfl
theorem q2289 : (Jvm.Cond.code ({ cls := "MailSessionsModel", name := "startIdle", desc := "(I)I" } : Jvm.MethodName) prog_13_method_52_code (2 : Nat) (Option.some Jvm.ClassFile.FieldType.int)) ∈ lw_all := lw_g (lw_at lw_m9 219 rfl) rfl
theorem q2291 : (Jvm.Cond.instanceMethod ({ cls := "MailSessionsModel", name := "stopIdle", desc := "(I)I" } : Jvm.MethodName)) ∈ lw_all := lw_g (lw_at lw_m9 221 rfl) rfl
theorem q2292 : (Jvm.Cond.selects "MailSessionsModel" ({ cls := "MailSessionsModel", name := "stopIdle", desc := "(I)I" } : Jvm.MethodName) ({ cls := "MailSessionsModel", name := "stopIdle", desc := "(I)I" } : Jvm.MethodName)) ∈ lw_all := lw_g (lw_at lw_m9 222 rfl) rfl
theorem q2293 : (Jvm.Cond.code ({ cls := "MailSessionsModel", name := "stopIdle", desc := "(I)I" } : Jvm.MethodName) prog_13_method_53_code (3 : Nat) (Option.some Jvm.ClassFile.FieldType.int)) ∈ lw_all := lw_g (lw_at lw_m9 223 rfl) rfl
theorem q2295 : (Jvm.Cond.instanceMethod ({ cls := "MailSessionsModel", name := "fetch", desc := "(IIIZ)I" } : Jvm.MethodName)) ∈ lw_all := lw_g (lw_at lw_m9 225 rfl) rfl
theorem q2296 : (Jvm.Cond.selects "MailSessionsModel" ({ cls := "MailSessionsModel", name := "fetch", desc := "(IIIZ)I" } : Jvm.MethodName) ({ cls := "MailSessionsModel", name := "fetch", desc := "(IIIZ)I" } : Jvm.MethodName)) ∈ lw_all := lw_g (lw_at lw_m9 226 rfl) rfl
theorem q2297 : (Jvm.Cond.code ({ cls := "MailSessionsModel", name := "fetch", desc := "(IIIZ)I" } : Jvm.MethodName) prog_13_method_56_code (9 : Nat) (Option.some Jvm.ClassFile.FieldType.int)) ∈ lw_all := lw_g (lw_at lw_m9 227 rfl) rfl
theorem q2298 : (Jvm.Cond.methodLink "MailSessionsModel" (206 : Nat) ({ cls := "MailSessionsModel", name := "areEntries", desc := "(III)Z" } : Jvm.MethodName)) ∈ lw_all := lw_g (lw_at lw_m9 228 rfl) rfl
theorem q2299 : (Jvm.Cond.privateMethod ({ cls := "MailSessionsModel", name := "areEntries", desc := "(III)Z" } : Jvm.MethodName)) ∈ lw_tbl := lw_at lw_m9 229 rfl
theorem q2300 : (Jvm.Cond.instanceMethod ({ cls := "MailSessionsModel", name := "areEntries", desc := "(III)Z" } : Jvm.MethodName)) ∈ lw_all := lw_g (lw_at lw_m9 230 rfl) rfl
theorem q2301 : (Jvm.Cond.code ({ cls := "MailSessionsModel", name := "areEntries", desc := "(III)Z" } : Jvm.MethodName) prog_13_method_54_code (4 : Nat) (Option.some Jvm.ClassFile.FieldType.boolean)) ∈ lw_all := lw_g (lw_at lw_m9 231 rfl) rfl
theorem q2302 : (Jvm.Cond.methodLink "MailSessionsModel" (203 : Nat) ({ cls := "MailSessionsModel", name := "isEntry", desc := "(II)Z" } : Jvm.MethodName)) ∈ lw_all := lw_g (lw_at lw_m9 232 rfl) rfl
theorem q2303 : (Jvm.Cond.privateMethod ({ cls := "MailSessionsModel", name := "isEntry", desc := "(II)Z" } : Jvm.MethodName)) ∈ lw_tbl := lw_at lw_m9 233 rfl
theorem q2304 : (Jvm.Cond.instanceMethod ({ cls := "MailSessionsModel", name := "isEntry", desc := "(II)Z" } : Jvm.MethodName)) ∈ lw_all := lw_g (lw_at lw_m9 234 rfl) rfl
theorem q2305 : (Jvm.Cond.code ({ cls := "MailSessionsModel", name := "isEntry", desc := "(II)Z" } : Jvm.MethodName) prog_13_method_25_code (3 : Nat) (Option.some Jvm.ClassFile.FieldType.boolean)) ∈ lw_all := lw_g (lw_at lw_m9 235 rfl) rfl
theorem q2306 : (Jvm.Cond.methodLink "MailSessionsModel" (172 : Nat) ({ cls := "MailSessionsModel", name := "doesRead", desc := "(I)Z" } : Jvm.MethodName)) ∈ lw_all := lw_g (lw_at lw_m9 236 rfl) rfl
theorem q2307 : (Jvm.Cond.privateMethod ({ cls := "MailSessionsModel", name := "doesRead", desc := "(I)Z" } : Jvm.MethodName)) ∈ lw_tbl := lw_at lw_m9 237 rfl
theorem q2308 : (Jvm.Cond.instanceMethod ({ cls := "MailSessionsModel", name := "doesRead", desc := "(I)Z" } : Jvm.MethodName)) ∈ lw_all := lw_g (lw_at lw_m9 238 rfl) rfl
theorem q2309 : (Jvm.Cond.code ({ cls := "MailSessionsModel", name := "doesRead", desc := "(I)Z" } : Jvm.MethodName) prog_13_method_20_code (2 : Nat) (Option.some Jvm.ClassFile.FieldType.boolean)) ∈ lw_all := lw_g (lw_at lw_m9 239 rfl) rfl
theorem q2310 : (Jvm.Cond.methodLink "MailSessionsModel" (210 : Nat) ({ cls := "MailSessionsModel", name := "putFlags", desc := "(III)V" } : Jvm.MethodName)) ∈ lw_all := lw_g (lw_at lw_m10 0 rfl) rfl
theorem q2311 : (Jvm.Cond.privateMethod ({ cls := "MailSessionsModel", name := "putFlags", desc := "(III)V" } : Jvm.MethodName)) ∈ lw_tbl := lw_at lw_m10 1 rfl
theorem q2312 : (Jvm.Cond.instanceMethod ({ cls := "MailSessionsModel", name := "putFlags", desc := "(III)V" } : Jvm.MethodName)) ∈ lw_all := lw_g (lw_at lw_m10 2 rfl) rfl
theorem q2313 : (Jvm.Cond.code ({ cls := "MailSessionsModel", name := "putFlags", desc := "(III)V" } : Jvm.MethodName) prog_13_method_55_code (4 : Nat) (Option.none : Option Jvm.ClassFile.FieldType)) ∈ lw_all := lw_g (lw_at lw_m10 3 rfl) rfl
theorem q2314 : (Jvm.Cond.methodLink "MailSessionsModel" (214 : Nat) ({ cls := "MailSessionsModel", name := "done", desc := "(IZI)I" } : Jvm.MethodName)) ∈ lw_all := lw_g (lw_at lw_m10 4 rfl) rfl
theorem q2315 : (Jvm.Cond.privateMethod ({ cls := "MailSessionsModel", name := "done", desc := "(IZI)I" } : Jvm.MethodName)) ∈ lw_tbl := lw_at lw_m10 5 rfl
theorem q2316 : (Jvm.Cond.instanceMethod ({ cls := "MailSessionsModel", name := "done", desc := "(IZI)I" } : Jvm.MethodName)) ∈ lw_all := lw_g (lw_at lw_m10 6 rfl) rfl
theorem q2317 : (Jvm.Cond.code ({ cls := "MailSessionsModel", name := "done", desc := "(IZI)I" } : Jvm.MethodName) prog_13_method_47_code (5 : Nat) (Option.some Jvm.ClassFile.FieldType.int)) ∈ lw_all := lw_g (lw_at lw_m10 7 rfl) rfl
theorem q2319 : (Jvm.Cond.instanceMethod ({ cls := "MailSessionsModel", name := "store", desc := "(IIIIIZ)I" } : Jvm.MethodName)) ∈ lw_all := lw_g (lw_at lw_m10 9 rfl) rfl
theorem q2320 : (Jvm.Cond.selects "MailSessionsModel" ({ cls := "MailSessionsModel", name := "store", desc := "(IIIIIZ)I" } : Jvm.MethodName) ({ cls := "MailSessionsModel", name := "store", desc := "(IIIIIZ)I" } : Jvm.MethodName)) ∈ lw_all := lw_g (lw_at lw_m10 10 rfl) rfl
theorem q2321 : (Jvm.Cond.code ({ cls := "MailSessionsModel", name := "store", desc := "(IIIIIZ)I" } : Jvm.MethodName) prog_13_method_61_code (11 : Nat) (Option.some Jvm.ClassFile.FieldType.int)) ∈ lw_all := lw_g (lw_at lw_m10 11 rfl) rfl
theorem q2322 : (Jvm.Cond.methodLink "MailSessionsModel" (225 : Nat) ({ cls := "MailSessionsModel", name := "isMode", desc := "(I)Z" } : Jvm.MethodName)) ∈ lw_all := lw_g (lw_at lw_m10 12 rfl) rfl
theorem q2323 : (Jvm.Cond.static ({ cls := "MailSessionsModel", name := "isMode", desc := "(I)Z" } : Jvm.MethodName)) ∈ lw_all := lw_g (lw_at lw_m10 13 rfl) rfl
theorem q2324 : (Jvm.Cond.code ({ cls := "MailSessionsModel", name := "isMode", desc := "(I)Z" } : Jvm.MethodName) prog_13_method_58_code (1 : Nat) (Option.some Jvm.ClassFile.FieldType.boolean)) ∈ lw_all := lw_g (lw_at lw_m10 14 rfl) rfl
theorem q2325 : (Jvm.Cond.constantLong "MailSessionsModel" (220 : Nat) (2 : Int64)) ∈ lw_all := lw_g (lw_at lw_m10 15 rfl) rfl
theorem q2326 : (Jvm.Cond.methodLink "MailSessionsModel" (228 : Nat) ({ cls := "MailSessionsModel", name := "isSet", desc := "(I)Z" } : Jvm.MethodName)) ∈ lw_all := lw_g (lw_at lw_m10 16 rfl) rfl
theorem q2327 : (Jvm.Cond.static ({ cls := "MailSessionsModel", name := "isSet", desc := "(I)Z" } : Jvm.MethodName)) ∈ lw_all := lw_g (lw_at lw_m10 17 rfl) rfl
theorem q2328 : (Jvm.Cond.code ({ cls := "MailSessionsModel", name := "isSet", desc := "(I)Z" } : Jvm.MethodName) prog_13_method_57_code (1 : Nat) (Option.some Jvm.ClassFile.FieldType.boolean)) ∈ lw_all := lw_g (lw_at lw_m10 18 rfl) rfl
theorem q2329 : (Jvm.Cond.constantLong "MailSessionsModel" (218 : Nat) (31 : Int64)) ∈ lw_all := lw_g (lw_at lw_m10 19 rfl) rfl
theorem q2330 : (Jvm.Cond.methodLink "MailSessionsModel" (231 : Nat) ({ cls := "MailSessionsModel", name := "canChange", desc := "(I)Z" } : Jvm.MethodName)) ∈ lw_all := lw_g (lw_at lw_m10 20 rfl) rfl
theorem q2331 : (Jvm.Cond.privateMethod ({ cls := "MailSessionsModel", name := "canChange", desc := "(I)Z" } : Jvm.MethodName)) ∈ lw_tbl := lw_at lw_m10 21 rfl
theorem q2332 : (Jvm.Cond.instanceMethod ({ cls := "MailSessionsModel", name := "canChange", desc := "(I)Z" } : Jvm.MethodName)) ∈ lw_all := lw_g (lw_at lw_m10 22 rfl) rfl
theorem q2333 : (Jvm.Cond.code ({ cls := "MailSessionsModel", name := "canChange", desc := "(I)Z" } : Jvm.MethodName) prog_13_method_44_code (2 : Nat) (Option.some Jvm.ClassFile.FieldType.boolean)) ∈ lw_all := lw_g (lw_at lw_m10 23 rfl) rfl
theorem q2334 : (Jvm.Cond.methodLink "MailSessionsModel" (234 : Nat) ({ cls := "MailSessionsModel", name := "sets", desc := "(IIII)Z" } : Jvm.MethodName)) ∈ lw_all := lw_g (lw_at lw_m10 24 rfl) rfl
theorem q2335 : (Jvm.Cond.privateMethod ({ cls := "MailSessionsModel", name := "sets", desc := "(IIII)Z" } : Jvm.MethodName)) ∈ lw_tbl := lw_at lw_m10 25 rfl
theorem q2336 : (Jvm.Cond.instanceMethod ({ cls := "MailSessionsModel", name := "sets", desc := "(IIII)Z" } : Jvm.MethodName)) ∈ lw_all := lw_g (lw_at lw_m10 26 rfl) rfl
theorem q2337 : (Jvm.Cond.code ({ cls := "MailSessionsModel", name := "sets", desc := "(IIII)Z" } : Jvm.MethodName) prog_13_method_60_code (6 : Nat) (Option.some Jvm.ClassFile.FieldType.boolean)) ∈ lw_all := lw_g (lw_at lw_m10 27 rfl) rfl
theorem q2338 : (Jvm.Cond.methodLink "MailSessionsModel" (222 : Nat) ({ cls := "MailSessionsModel", name := "flagsBy", desc := "(III)I" } : Jvm.MethodName)) ∈ lw_all := lw_g (lw_at lw_m10 28 rfl) rfl
theorem q2339 : (Jvm.Cond.static ({ cls := "MailSessionsModel", name := "flagsBy", desc := "(III)I" } : Jvm.MethodName)) ∈ lw_all := lw_g (lw_at lw_m10 29 rfl) rfl
theorem q2340 : (Jvm.Cond.code ({ cls := "MailSessionsModel", name := "flagsBy", desc := "(III)I" } : Jvm.MethodName) prog_13_method_59_code (3 : Nat) (Option.some Jvm.ClassFile.FieldType.int)) ∈ lw_all := lw_g (lw_at lw_m10 30 rfl) rfl
theorem q2342 : (Jvm.Cond.instanceMethod ({ cls := "MailSessionsModel", name := "uidStore", desc := "(IIIII)I" } : Jvm.MethodName)) ∈ lw_all := lw_g (lw_at lw_m10 32 rfl) rfl
theorem q2343 : (Jvm.Cond.selects "MailSessionsModel" ({ cls := "MailSessionsModel", name := "uidStore", desc := "(IIIII)I" } : Jvm.MethodName) ({ cls := "MailSessionsModel", name := "uidStore", desc := "(IIIII)I" } : Jvm.MethodName)) ∈ lw_all := lw_g (lw_at lw_m10 33 rfl) rfl
theorem q2344 : (Jvm.Cond.code ({ cls := "MailSessionsModel", name := "uidStore", desc := "(IIIII)I" } : Jvm.MethodName) prog_13_method_62_code (9 : Nat) (Option.some Jvm.ClassFile.FieldType.int)) ∈ lw_all := lw_g (lw_at lw_m10 34 rfl) rfl
theorem q2346 : (Jvm.Cond.instanceMethod ({ cls := "MailSessionsModel", name := "expunge", desc := "(I)I" } : Jvm.MethodName)) ∈ lw_all := lw_g (lw_at lw_m10 36 rfl) rfl
theorem q2347 : (Jvm.Cond.selects "MailSessionsModel" ({ cls := "MailSessionsModel", name := "expunge", desc := "(I)I" } : Jvm.MethodName) ({ cls := "MailSessionsModel", name := "expunge", desc := "(I)I" } : Jvm.MethodName)) ∈ lw_all := lw_g (lw_at lw_m10 37 rfl) rfl
theorem q2348 : (Jvm.Cond.code ({ cls := "MailSessionsModel", name := "expunge", desc := "(I)I" } : Jvm.MethodName) prog_13_method_65_code (2 : Nat) (Option.some Jvm.ClassFile.FieldType.int)) ∈ lw_all := lw_g (lw_at lw_m10 38 rfl) rfl
theorem q2349 : (Jvm.Cond.constant "MailSessionsModel" (243 : Nat) (2147483647 : Int32)) ∈ lw_all := lw_g (lw_at lw_m10 39 rfl) rfl
theorem q2350 : (Jvm.Cond.methodLink "MailSessionsModel" (244 : Nat) ({ cls := "MailSessionsModel", name := "removeDeleted", desc := "(III)I" } : Jvm.MethodName)) ∈ lw_all := lw_g (lw_at lw_m10 40 rfl) rfl
theorem q2351 : (Jvm.Cond.privateMethod ({ cls := "MailSessionsModel", name := "removeDeleted", desc := "(III)I" } : Jvm.MethodName)) ∈ lw_tbl := lw_at lw_m10 41 rfl
theorem q2352 : (Jvm.Cond.instanceMethod ({ cls := "MailSessionsModel", name := "removeDeleted", desc := "(III)I" } : Jvm.MethodName)) ∈ lw_all := lw_g (lw_at lw_m10 42 rfl) rfl
theorem q2353 : (Jvm.Cond.code ({ cls := "MailSessionsModel", name := "removeDeleted", desc := "(III)I" } : Jvm.MethodName) prog_13_method_64_code (7 : Nat) (Option.some Jvm.ClassFile.FieldType.int)) ∈ lw_all := lw_g (lw_at lw_m10 43 rfl) rfl
theorem q2354 : (Jvm.Cond.methodLink "MailSessionsModel" (238 : Nat) ({ cls := "MailSessionsModel", name := "removeMessage", desc := "(II)V" } : Jvm.MethodName)) ∈ lw_all := lw_g (lw_at lw_m10 44 rfl) rfl
theorem q2355 : (Jvm.Cond.privateMethod ({ cls := "MailSessionsModel", name := "removeMessage", desc := "(II)V" } : Jvm.MethodName)) ∈ lw_tbl := lw_at lw_m10 45 rfl
theorem q2356 : (Jvm.Cond.instanceMethod ({ cls := "MailSessionsModel", name := "removeMessage", desc := "(II)V" } : Jvm.MethodName)) ∈ lw_all := lw_g (lw_at lw_m10 46 rfl) rfl
theorem q2357 : (Jvm.Cond.code ({ cls := "MailSessionsModel", name := "removeMessage", desc := "(II)V" } : Jvm.MethodName) prog_13_method_63_code (4 : Nat) (Option.none : Option Jvm.ClassFile.FieldType)) ∈ lw_all := lw_g (lw_at lw_m10 47 rfl) rfl
theorem q2359 : (Jvm.Cond.instanceMethod ({ cls := "MailSessionsModel", name := "uidExpunge", desc := "(III)I" } : Jvm.MethodName)) ∈ lw_all := lw_g (lw_at lw_m10 49 rfl) rfl
theorem q2360 : (Jvm.Cond.selects "MailSessionsModel" ({ cls := "MailSessionsModel", name := "uidExpunge", desc := "(III)I" } : Jvm.MethodName) ({ cls := "MailSessionsModel", name := "uidExpunge", desc := "(III)I" } : Jvm.MethodName)) ∈ lw_all := lw_g (lw_at lw_m10 50 rfl) rfl
theorem q2361 : (Jvm.Cond.code ({ cls := "MailSessionsModel", name := "uidExpunge", desc := "(III)I" } : Jvm.MethodName) prog_13_method_66_code (4 : Nat) (Option.some Jvm.ClassFile.FieldType.int)) ∈ lw_all := lw_g (lw_at lw_m10 51 rfl) rfl
theorem q2363 : (Jvm.Cond.instanceMethod ({ cls := "MailSessionsModel", name := "copy", desc := "(IIII)I" } : Jvm.MethodName)) ∈ lw_all := lw_g (lw_at lw_m10 53 rfl) rfl
theorem q2364 : (Jvm.Cond.selects "MailSessionsModel" ({ cls := "MailSessionsModel", name := "copy", desc := "(IIII)I" } : Jvm.MethodName) ({ cls := "MailSessionsModel", name := "copy", desc := "(IIII)I" } : Jvm.MethodName)) ∈ lw_all := lw_g (lw_at lw_m10 54 rfl) rfl
theorem q2365 : (Jvm.Cond.code ({ cls := "MailSessionsModel", name := "copy", desc := "(IIII)I" } : Jvm.MethodName) prog_13_method_72_code (5 : Nat) (Option.some Jvm.ClassFile.FieldType.int)) ∈ lw_all := lw_g (lw_at lw_m10 55 rfl) rfl
theorem q2366 : (Jvm.Cond.methodLink "MailSessionsModel" (256 : Nat) ({ cls := "MailSessionsModel", name := "asksCopy", desc := "(IIIIZ)Z" } : Jvm.MethodName)) ∈ lw_all := lw_g (lw_at lw_m10 56 rfl) rfl
theorem q2367 : (Jvm.Cond.privateMethod ({ cls := "MailSessionsModel", name := "asksCopy", desc := "(IIIIZ)Z" } : Jvm.MethodName)) ∈ lw_tbl := lw_at lw_m10 57 rfl
theorem q2368 : (Jvm.Cond.instanceMethod ({ cls := "MailSessionsModel", name := "asksCopy", desc := "(IIIIZ)Z" } : Jvm.MethodName)) ∈ lw_all := lw_g (lw_at lw_m10 58 rfl) rfl
theorem q2369 : (Jvm.Cond.code ({ cls := "MailSessionsModel", name := "asksCopy", desc := "(IIIIZ)Z" } : Jvm.MethodName) prog_13_method_71_code (8 : Nat) (Option.some Jvm.ClassFile.FieldType.boolean)) ∈ lw_all := lw_g (lw_at lw_m10 59 rfl) rfl
theorem q2370 : (Jvm.Cond.methodLink "MailSessionsModel" (250 : Nat) ({ cls := "MailSessionsModel", name := "thereMany", desc := "(III)I" } : Jvm.MethodName)) ∈ lw_all := lw_g (lw_at lw_m10 60 rfl) rfl
theorem q2371 : (Jvm.Cond.privateMethod ({ cls := "MailSessionsModel", name := "thereMany", desc := "(III)I" } : Jvm.MethodName)) ∈ lw_tbl := lw_at lw_m10 61 rfl
theorem q2372 : (Jvm.Cond.instanceMethod ({ cls := "MailSessionsModel", name := "thereMany", desc := "(III)I" } : Jvm.MethodName)) ∈ lw_all := lw_g (lw_at lw_m10 62 rfl) rfl
theorem q2373 : (Jvm.Cond.code ({ cls := "MailSessionsModel", name := "thereMany", desc := "(III)I" } : Jvm.MethodName) prog_13_method_67_code (6 : Nat) (Option.some Jvm.ClassFile.FieldType.int)) ∈ lw_all := lw_g (lw_at lw_m10 63 rfl) rfl
theorem q2374 : (Jvm.Cond.methodLink "MailSessionsModel" (253 : Nat) ({ cls := "MailSessionsModel", name := "hasRoom", desc := "(II)Z" } : Jvm.MethodName)) ∈ lw_all := lw_g (lw_at lw_m10 64 rfl) rfl
theorem q2375 : (Jvm.Cond.privateMethod ({ cls := "MailSessionsModel", name := "hasRoom", desc := "(II)Z" } : Jvm.MethodName)) ∈ lw_tbl := lw_at lw_m10 65 rfl
theorem q2376 : (Jvm.Cond.instanceMethod ({ cls := "MailSessionsModel", name := "hasRoom", desc := "(II)Z" } : Jvm.MethodName)) ∈ lw_all := lw_g (lw_at lw_m10 66 rfl) rfl
theorem q2377 : (Jvm.Cond.code ({ cls := "MailSessionsModel", name := "hasRoom", desc := "(II)Z" } : Jvm.MethodName) prog_13_method_68_code (3 : Nat) (Option.some Jvm.ClassFile.FieldType.boolean)) ∈ lw_all := lw_g (lw_at lw_m10 67 rfl) rfl
theorem q2378 : (Jvm.Cond.methodLink "MailSessionsModel" (260 : Nat) ({ cls := "MailSessionsModel", name := "copies", desc := "(IIII)I" } : Jvm.MethodName)) ∈ lw_all := lw_g (lw_at lw_m10 68 rfl) rfl
theorem q2379 : (Jvm.Cond.privateMethod ({ cls := "MailSessionsModel", name := "copies", desc := "(IIII)I" } : Jvm.MethodName)) ∈ lw_tbl := lw_at lw_m10 69 rfl
theorem q2380 : (Jvm.Cond.instanceMethod ({ cls := "MailSessionsModel", name := "copies", desc := "(IIII)I" } : Jvm.MethodName)) ∈ lw_all := lw_g (lw_at lw_m10 70 rfl) rfl
theorem q2381 : (Jvm.Cond.code ({ cls := "MailSessionsModel", name := "copies", desc := "(IIII)I" } : Jvm.MethodName) prog_13_method_70_code (9 : Nat) (Option.some Jvm.ClassFile.FieldType.int)) ∈ lw_all := lw_g (lw_at lw_m10 71 rfl) rfl
theorem q2382 : (Jvm.Cond.methodLink "MailSessionsModel" (247 : Nat) ({ cls := "MailSessionsModel", name := "comes", desc := "(III)I" } : Jvm.MethodName)) ∈ lw_all := lw_g (lw_at lw_m10 72 rfl) rfl
theorem q2383 : (Jvm.Cond.privateMethod ({ cls := "MailSessionsModel", name := "comes", desc := "(III)I" } : Jvm.MethodName)) ∈ lw_tbl := lw_at lw_m10 73 rfl
theorem q2384 : (Jvm.Cond.instanceMethod ({ cls := "MailSessionsModel", name := "comes", desc := "(III)I" } : Jvm.MethodName)) ∈ lw_all := lw_g (lw_at lw_m10 74 rfl) rfl
theorem q2385 : (Jvm.Cond.code ({ cls := "MailSessionsModel", name := "comes", desc := "(III)I" } : Jvm.MethodName) prog_13_method_69_code (6 : Nat) (Option.some Jvm.ClassFile.FieldType.int)) ∈ lw_all := lw_g (lw_at lw_m10 75 rfl) rfl
theorem q2387 : (Jvm.Cond.instanceMethod ({ cls := "MailSessionsModel", name := "move", desc := "(IIII)I" } : Jvm.MethodName)) ∈ lw_all := lw_g (lw_at lw_m10 77 rfl) rfl
theorem q2388 : (Jvm.Cond.selects "MailSessionsModel" ({ cls := "MailSessionsModel", name := "move", desc := "(IIII)I" } : Jvm.MethodName) ({ cls := "MailSessionsModel", name := "move", desc := "(IIII)I" } : Jvm.MethodName)) ∈ lw_all := lw_g (lw_at lw_m10 78 rfl) rfl
theorem q2389 : (Jvm.Cond.code ({ cls := "MailSessionsModel", name := "move", desc := "(IIII)I" } : Jvm.MethodName) prog_13_method_73_code (7 : Nat) (Option.some Jvm.ClassFile.FieldType.int)) ∈ lw_all := lw_g (lw_at lw_m10 79 rfl) rfl
theorem q2391 : (Jvm.Cond.instanceMethod ({ cls := "MailSessionsModel", name := "close", desc := "(I)I" } : Jvm.MethodName)) ∈ lw_all := lw_g (lw_at lw_m10 81 rfl) rfl
theorem q2392 : (Jvm.Cond.selects "MailSessionsModel" ({ cls := "MailSessionsModel", name := "close", desc := "(I)I" } : Jvm.MethodName) ({ cls := "MailSessionsModel", name := "close", desc := "(I)I" } : Jvm.MethodName)) ∈ lw_all := lw_g (lw_at lw_m10 82 rfl) rfl
theorem q2393 : (Jvm.Cond.code ({ cls := "MailSessionsModel", name := "close", desc := "(I)I" } : Jvm.MethodName) prog_13_method_74_code (3 : Nat) (Option.some Jvm.ClassFile.FieldType.int)) ∈ lw_all := lw_g (lw_at lw_m10 83 rfl) rfl
theorem q2395 : (Jvm.Cond.instanceMethod ({ cls := "MailSessionsModel", name := "deliver", desc := "(III)I" } : Jvm.MethodName)) ∈ lw_all := lw_g (lw_at lw_m10 85 rfl) rfl
theorem q2396 : (Jvm.Cond.selects "MailSessionsModel" ({ cls := "MailSessionsModel", name := "deliver", desc := "(III)I" } : Jvm.MethodName) ({ cls := "MailSessionsModel", name := "deliver", desc := "(III)I" } : Jvm.MethodName)) ∈ lw_all := lw_g (lw_at lw_m10 86 rfl) rfl
theorem q2397 : (Jvm.Cond.code ({ cls := "MailSessionsModel", name := "deliver", desc := "(III)I" } : Jvm.MethodName) prog_13_method_75_code (6 : Nat) (Option.some Jvm.ClassFile.FieldType.int)) ∈ lw_all := lw_g (lw_at lw_m10 87 rfl) rfl
theorem q2398 : (Jvm.Cond.constantLong "MailSessionsModel" (264 : Nat) (9999 : Int64)) ∈ lw_all := lw_g (lw_at lw_m10 88 rfl) rfl
theorem q2400 : (Jvm.Cond.instanceMethod ({ cls := "MailSessionsModel", name := "setLimit", desc := "(I)I" } : Jvm.MethodName)) ∈ lw_all := lw_g (lw_at lw_m10 90 rfl) rfl
theorem q2401 : (Jvm.Cond.selects "MailSessionsModel" ({ cls := "MailSessionsModel", name := "setLimit", desc := "(I)I" } : Jvm.MethodName) ({ cls := "MailSessionsModel", name := "setLimit", desc := "(I)I" } : Jvm.MethodName)) ∈ lw_all := lw_g (lw_at lw_m10 91 rfl) rfl
theorem q2402 : (Jvm.Cond.code ({ cls := "MailSessionsModel", name := "setLimit", desc := "(I)I" } : Jvm.MethodName) prog_13_method_76_code (3 : Nat) (Option.some Jvm.ClassFile.FieldType.int)) ∈ lw_all := lw_g (lw_at lw_m10 92 rfl) rfl
theorem q2403 : (Jvm.Cond.methodLink "MailSessionsModel" (266 : Nat) ({ cls := "MailSessionsModel", name := "passes", desc := "(Z)Z" } : Jvm.MethodName)) ∈ lw_all := lw_g (lw_at lw_m10 93 rfl) rfl
theorem q2404 : (Jvm.Cond.privateMethod ({ cls := "MailSessionsModel", name := "passes", desc := "(Z)Z" } : Jvm.MethodName)) ∈ lw_tbl := lw_at lw_m10 94 rfl
theorem q2405 : (Jvm.Cond.instanceMethod ({ cls := "MailSessionsModel", name := "passes", desc := "(Z)Z" } : Jvm.MethodName)) ∈ lw_all := lw_g (lw_at lw_m10 95 rfl) rfl
theorem q2406 : (Jvm.Cond.code ({ cls := "MailSessionsModel", name := "passes", desc := "(Z)Z" } : Jvm.MethodName) prog_13_method_6_code (2 : Nat) (Option.some Jvm.ClassFile.FieldType.boolean)) ∈ lw_all := lw_g (lw_at lw_m10 96 rfl) rfl
theorem q2408 : (Jvm.Cond.instanceMethod ({ cls := "MailSessionsModel", name := "append", desc := "(IIIII)I" } : Jvm.MethodName)) ∈ lw_all := lw_g (lw_at lw_m10 98 rfl) rfl
theorem q2409 : (Jvm.Cond.selects "MailSessionsModel" ({ cls := "MailSessionsModel", name := "append", desc := "(IIIII)I" } : Jvm.MethodName) ({ cls := "MailSessionsModel", name := "append", desc := "(IIIII)I" } : Jvm.MethodName)) ∈ lw_all := lw_g (lw_at lw_m10 99 rfl) rfl
theorem q2410 : (Jvm.Cond.code ({ cls := "MailSessionsModel", name := "append", desc := "(IIIII)I" } : Jvm.MethodName) prog_13_method_78_code (6 : Nat) (Option.some Jvm.ClassFile.FieldType.int)) ∈ lw_all := lw_g (lw_at lw_m10 100 rfl) rfl
theorem q2411 : (Jvm.Cond.methodLink "MailSessionsModel" (273 : Nat) ({ cls := "MailSessionsModel", name := "appendFour", desc := "(I)V" } : Jvm.MethodName)) ∈ lw_all := lw_g (lw_at lw_m10 101 rfl) rfl
theorem q2412 : (Jvm.Cond.privateMethod ({ cls := "MailSessionsModel", name := "appendFour", desc := "(I)V" } : Jvm.MethodName)) ∈ lw_tbl := lw_at lw_m10 102 rfl
theorem q2413 : (Jvm.Cond.instanceMethod ({ cls := "MailSessionsModel", name := "appendFour", desc := "(I)V" } : Jvm.MethodName)) ∈ lw_all := lw_g (lw_at lw_m10 103 rfl) rfl
theorem q2414 : (Jvm.Cond.code ({ cls := "MailSessionsModel", name := "appendFour", desc := "(I)V" } : Jvm.MethodName) prog_13_method_77_code (3 : Nat) (Option.none : Option Jvm.ClassFile.FieldType)) ∈ lw_all := lw_g (lw_at lw_m10 104 rfl) rfl
theorem q2416 : (Jvm.Cond.instanceMethod ({ cls := "MailSessionsModel", name := "truncate", desc := "(I)V" } : Jvm.MethodName)) ∈ lw_all := lw_g (lw_at lw_m10 106 rfl) rfl
theorem q2417 : (Jvm.Cond.selects "MailSessionsModel" ({ cls := "MailSessionsModel", name := "truncate", desc := "(I)V" } : Jvm.MethodName) ({ cls := "MailSessionsModel", name := "truncate", desc := "(I)V" } : Jvm.MethodName)) ∈ lw_all := lw_g (lw_at lw_m10 107 rfl) rfl
theorem q2418 : (Jvm.Cond.code ({ cls := "MailSessionsModel", name := "truncate", desc := "(I)V" } : Jvm.MethodName) prog_13_method_79_code (2 : Nat) (Option.none : Option Jvm.ClassFile.FieldType)) ∈ lw_all := lw_g (lw_at lw_m10 108 rfl) rfl
theorem q2420 : (Jvm.Cond.instanceMethod ({ cls := "MailSessionsModel", name := "load", desc := "()I" } : Jvm.MethodName)) ∈ lw_all := lw_g (lw_at lw_m10 110 rfl) rfl
theorem q2421 : (Jvm.Cond.selects "MailSessionsModel" ({ cls := "MailSessionsModel", name := "load", desc := "()I" } : Jvm.MethodName) ({ cls := "MailSessionsModel", name := "load", desc := "()I" } : Jvm.MethodName)) ∈ lw_all := lw_g (lw_at lw_m10 111 rfl) rfl
theorem q2422 : (Jvm.Cond.code ({ cls := "MailSessionsModel", name := "load", desc := "()I" } : Jvm.MethodName) prog_13_method_107_code (2 : Nat) (Option.some Jvm.ClassFile.FieldType.int)) ∈ lw_all := lw_g (lw_at lw_m10 112 rfl) rfl
theorem q2423 : (Jvm.Cond.methodLink "MailSessionsModel" (437 : Nat) ({ cls := "MailSessionsModel", name := "beginText", desc := "()V" } : Jvm.MethodName)) ∈ lw_all := lw_g (lw_at lw_m10 113 rfl) rfl
theorem q2424 : (Jvm.Cond.privateMethod ({ cls := "MailSessionsModel", name := "beginText", desc := "()V" } : Jvm.MethodName)) ∈ lw_tbl := lw_at lw_m10 114 rfl
theorem q2425 : (Jvm.Cond.instanceMethod ({ cls := "MailSessionsModel", name := "beginText", desc := "()V" } : Jvm.MethodName)) ∈ lw_all := lw_g (lw_at lw_m10 115 rfl) rfl
theorem q2426 : (Jvm.Cond.code ({ cls := "MailSessionsModel", name := "beginText", desc := "()V" } : Jvm.MethodName) prog_13_method_84_code (1 : Nat) (Option.none : Option Jvm.ClassFile.FieldType)) ∈ lw_all := lw_g (lw_at lw_m10 116 rfl) rfl
theorem q2427 : (Jvm.Cond.methodLink "MailSessionsModel" (315 : Nat) ({ cls := "MailSessionsModel", name := "scan", desc := "()V" } : Jvm.MethodName)) ∈ lw_all := lw_g (lw_at lw_m10 117 rfl) rfl
theorem q2428 : (Jvm.Cond.privateMethod ({ cls := "MailSessionsModel", name := "scan", desc := "()V" } : Jvm.MethodName)) ∈ lw_tbl := lw_at lw_m10 118 rfl
theorem q2429 : (Jvm.Cond.instanceMethod ({ cls := "MailSessionsModel", name := "scan", desc := "()V" } : Jvm.MethodName)) ∈ lw_all := lw_g (lw_at lw_m10 119 rfl) rfl
theorem q2430 : (Jvm.Cond.code ({ cls := "MailSessionsModel", name := "scan", desc := "()V" } : Jvm.MethodName) prog_13_method_83_code (2 : Nat) (Option.none : Option Jvm.ClassFile.FieldType)) ∈ lw_all := lw_g (lw_at lw_m10 120 rfl) rfl
theorem q2431 : (Jvm.Cond.methodLink "MailSessionsModel" (292 : Nat) ({ cls := "MailSessionsModel", name := "byteAt", desc := "(I)I" } : Jvm.MethodName)) ∈ lw_all := lw_g (lw_at lw_m10 121 rfl) rfl
theorem q2432 : (Jvm.Cond.privateMethod ({ cls := "MailSessionsModel", name := "byteAt", desc := "(I)I" } : Jvm.MethodName)) ∈ lw_tbl := lw_at lw_m10 122 rfl
theorem q2433 : (Jvm.Cond.instanceMethod ({ cls := "MailSessionsModel", name := "byteAt", desc := "(I)I" } : Jvm.MethodName)) ∈ lw_all := lw_g (lw_at lw_m10 123 rfl) rfl
theorem q2434 : (Jvm.Cond.code ({ cls := "MailSessionsModel", name := "byteAt", desc := "(I)I" } : Jvm.MethodName) prog_13_method_82_code (2 : Nat) (Option.some Jvm.ClassFile.FieldType.int)) ∈ lw_all := lw_g (lw_at lw_m10 124 rfl) rfl
theorem q2435 : (Jvm.Cond.constantLong "MailSessionsModel" (298 : Nat) (97 : Int64)) ∈ lw_all := lw_g (lw_at lw_m10 125 rfl) rfl
theorem q2436 : (Jvm.Cond.constantLong "MailSessionsModel" (300 : Nat) (122 : Int64)) ∈ lw_all := lw_g (lw_at lw_m10 126 rfl) rfl
theorem q2437 : (Jvm.Cond.constantLong "MailSessionsModel" (302 : Nat) (48 : Int64)) ∈ lw_all := lw_g (lw_at lw_m10 127 rfl) rfl
theorem q2438 : (Jvm.Cond.constantLong "MailSessionsModel" (304 : Nat) (57 : Int64)) ∈ lw_all := lw_g (lw_at lw_m10 128 rfl) rfl
theorem q2439 : (Jvm.Cond.constant "MailSessionsModel" (309 : Nat) (99999 : Int32)) ∈ lw_all := lw_g (lw_at lw_m10 129 rfl) rfl
theorem q2440 : (Jvm.Cond.methodLink "MailSessionsModel" (310 : Nat) ({ cls := "java/lang/Math", name := "min", desc := "(II)I" } : Jvm.MethodName)) ∈ lw_all := lw_g (lw_at lw_m10 130 rfl) rfl
theorem q2441 : (Jvm.Cond.methodLink "MailSessionsModel" (337 : Nat) ({ cls := "MailSessionsModel", name := "errs", desc := "(I)V" } : Jvm.MethodName)) ∈ lw_all := lw_g (lw_at lw_m10 131 rfl) rfl
theorem q2442 : (Jvm.Cond.privateMethod ({ cls := "MailSessionsModel", name := "errs", desc := "(I)V" } : Jvm.MethodName)) ∈ lw_tbl := lw_at lw_m10 132 rfl
theorem q2443 : (Jvm.Cond.instanceMethod ({ cls := "MailSessionsModel", name := "errs", desc := "(I)V" } : Jvm.MethodName)) ∈ lw_all := lw_g (lw_at lw_m10 133 rfl) rfl
theorem q2444 : (Jvm.Cond.code ({ cls := "MailSessionsModel", name := "errs", desc := "(I)V" } : Jvm.MethodName) prog_13_method_81_code (2 : Nat) (Option.none : Option Jvm.ClassFile.FieldType)) ∈ lw_all := lw_g (lw_at lw_m10 134 rfl) rfl
theorem q2445 : (Jvm.Cond.methodLink "MailSessionsModel" (279 : Nat) ({ cls := "MailSessionsModel", name := "good", desc := "()Z" } : Jvm.MethodName)) ∈ lw_all := lw_g (lw_at lw_m10 135 rfl) rfl
theorem q2446 : (Jvm.Cond.privateMethod ({ cls := "MailSessionsModel", name := "good", desc := "()Z" } : Jvm.MethodName)) ∈ lw_tbl := lw_at lw_m10 136 rfl
theorem q2447 : (Jvm.Cond.instanceMethod ({ cls := "MailSessionsModel", name := "good", desc := "()Z" } : Jvm.MethodName)) ∈ lw_all := lw_g (lw_at lw_m10 137 rfl) rfl
theorem q2448 : (Jvm.Cond.code ({ cls := "MailSessionsModel", name := "good", desc := "()Z" } : Jvm.MethodName) prog_13_method_80_code (1 : Nat) (Option.some Jvm.ClassFile.FieldType.boolean)) ∈ lw_all := lw_g (lw_at lw_m10 138 rfl) rfl
theorem q2449 : (Jvm.Cond.methodLink "MailSessionsModel" (440 : Nat) ({ cls := "MailSessionsModel", name := "parseStatement", desc := "()V" } : Jvm.MethodName)) ∈ lw_all := lw_g (lw_at lw_m10 139 rfl) rfl
theorem q2450 : (Jvm.Cond.privateMethod ({ cls := "MailSessionsModel", name := "parseStatement", desc := "()V" } : Jvm.MethodName)) ∈ lw_tbl := lw_at lw_m10 140 rfl
theorem q2451 : (Jvm.Cond.instanceMethod ({ cls := "MailSessionsModel", name := "parseStatement", desc := "()V" } : Jvm.MethodName)) ∈ lw_all := lw_g (lw_at lw_m10 141 rfl) rfl
theorem q2452 : (Jvm.Cond.code ({ cls := "MailSessionsModel", name := "parseStatement", desc := "()V" } : Jvm.MethodName) prog_13_method_105_code (1 : Nat) (Option.none : Option Jvm.ClassFile.FieldType)) ∈ lw_all := lw_g (lw_at lw_m10 142 rfl) rfl
theorem q2453 : (Jvm.Cond.stringRef "MailSessionsModel" (352 : Nat) "limit") ∈ lw_tbl := lw_at lw_m10 143 rfl
theorem q2454 : (Jvm.Cond.methodLink "MailSessionsModel" (327 : Nat) ({ cls := "MailSessionsModel", name := "isWord", desc := "(Ljava/lang/String;)Z" } : Jvm.MethodName)) ∈ lw_all := lw_g (lw_at lw_m10 144 rfl) rfl
theorem q2455 : (Jvm.Cond.privateMethod ({ cls := "MailSessionsModel", name := "isWord", desc := "(Ljava/lang/String;)Z" } : Jvm.MethodName)) ∈ lw_tbl := lw_at lw_m10 145 rfl
theorem q2456 : (Jvm.Cond.instanceMethod ({ cls := "MailSessionsModel", name := "isWord", desc := "(Ljava/lang/String;)Z" } : Jvm.MethodName)) ∈ lw_all := lw_g (lw_at lw_m10 146 rfl) rfl
theorem q2457 : (Jvm.Cond.code ({ cls := "MailSessionsModel", name := "isWord", desc := "(Ljava/lang/String;)Z" } : Jvm.MethodName) prog_13_method_86_code (4 : Nat) (Option.some Jvm.ClassFile.FieldType.boolean)) ∈ lw_all := lw_g (lw_at lw_m10 147 rfl) rfl
theorem q2458 : (Jvm.Cond.methodLink "MailSessionsModel" (318 : Nat) ({ cls := "java/lang/String", name := "length", desc := "()I" } : Jvm.MethodName)) ∈ lw_all := lw_g (lw_at lw_m10 148 rfl) rfl
theorem q2459 : (Jvm.Cond.methodLink "MailSessionsModel" (323 : Nat) ({ cls := "java/lang/String", name := "charAt", desc := "(I)C" } : Jvm.MethodName)) ∈ lw_all := lw_g (lw_at lw_m10 149 rfl) rfl
theorem q2460 : (Jvm.Cond.methodLink "MailSessionsModel" (422 : Nat) ({ cls := "MailSessionsModel", name := "parseLimit", desc := "()V" } : Jvm.MethodName)) ∈ lw_all := lw_g (lw_at lw_m10 150 rfl) rfl
theorem q2461 : (Jvm.Cond.privateMethod ({ cls := "MailSessionsModel", name := "parseLimit", desc := "()V" } : Jvm.MethodName)) ∈ lw_tbl := lw_at lw_m10 151 rfl
theorem q2462 : (Jvm.Cond.instanceMethod ({ cls := "MailSessionsModel", name := "parseLimit", desc := "()V" } : Jvm.MethodName)) ∈ lw_all := lw_g (lw_at lw_m10 152 rfl) rfl
theorem q2463 : (Jvm.Cond.code ({ cls := "MailSessionsModel", name := "parseLimit", desc := "()V" } : Jvm.MethodName) prog_13_method_99_code (1 : Nat) (Option.none : Option Jvm.ClassFile.FieldType)) ∈ lw_all := lw_g (lw_at lw_m10 153 rfl) rfl
theorem q2464 : (Jvm.Cond.methodLink "MailSessionsModel" (340 : Nat) ({ cls := "MailSessionsModel", name := "goOn", desc := "()V" } : Jvm.MethodName)) ∈ lw_all := lw_g (lw_at lw_m10 154 rfl) rfl
theorem q2465 : (Jvm.Cond.privateMethod ({ cls := "MailSessionsModel", name := "goOn", desc := "()V" } : Jvm.MethodName)) ∈ lw_tbl := lw_at lw_m10 155 rfl
theorem q2466 : (Jvm.Cond.instanceMethod ({ cls := "MailSessionsModel", name := "goOn", desc := "()V" } : Jvm.MethodName)) ∈ lw_all := lw_g (lw_at lw_m10 156 rfl) rfl
theorem q2467 : (Jvm.Cond.code ({ cls := "MailSessionsModel", name := "goOn", desc := "()V" } : Jvm.MethodName) prog_13_method_85_code (1 : Nat) (Option.none : Option Jvm.ClassFile.FieldType)) ∈ lw_all := lw_g (lw_at lw_m10 157 rfl) rfl
theorem q2468 : (Jvm.Cond.methodLink "MailSessionsModel" (396 : Nat) ({ cls := "MailSessionsModel", name := "number", desc := "(II)I" } : Jvm.MethodName)) ∈ lw_all := lw_g (lw_at lw_m10 158 rfl) rfl
theorem q2469 : (Jvm.Cond.privateMethod ({ cls := "MailSessionsModel", name := "number", desc := "(II)I" } : Jvm.MethodName)) ∈ lw_tbl := lw_at lw_m10 159 rfl
theorem q2470 : (Jvm.Cond.instanceMethod ({ cls := "MailSessionsModel", name := "number", desc := "(II)I" } : Jvm.MethodName)) ∈ lw_all := lw_g (lw_at lw_m10 160 rfl) rfl
theorem q2471 : (Jvm.Cond.code ({ cls := "MailSessionsModel", name := "number", desc := "(II)I" } : Jvm.MethodName) prog_13_method_91_code (4 : Nat) (Option.some Jvm.ClassFile.FieldType.int)) ∈ lw_all := lw_g (lw_at lw_m10 161 rfl) rfl
theorem q2472 : (Jvm.Cond.stringRef "MailSessionsModel" (354 : Nat) "box") ∈ lw_tbl := lw_at lw_m10 162 rfl
theorem q2473 : (Jvm.Cond.methodLink "MailSessionsModel" (425 : Nat) ({ cls := "MailSessionsModel", name := "parseBox", desc := "()V" } : Jvm.MethodName)) ∈ lw_all := lw_g (lw_at lw_m10 163 rfl) rfl
theorem q2474 : (Jvm.Cond.privateMethod ({ cls := "MailSessionsModel", name := "parseBox", desc := "()V" } : Jvm.MethodName)) ∈ lw_tbl := lw_at lw_m10 164 rfl
theorem q2475 : (Jvm.Cond.instanceMethod ({ cls := "MailSessionsModel", name := "parseBox", desc := "()V" } : Jvm.MethodName)) ∈ lw_all := lw_g (lw_at lw_m10 165 rfl) rfl
theorem q2476 : (Jvm.Cond.code ({ cls := "MailSessionsModel", name := "parseBox", desc := "()V" } : Jvm.MethodName) prog_13_method_100_code (4 : Nat) (Option.none : Option Jvm.ClassFile.FieldType)) ∈ lw_all := lw_g (lw_at lw_m10 166 rfl) rfl
theorem q2477 : (Jvm.Cond.methodLink "MailSessionsModel" (399 : Nat) ({ cls := "MailSessionsModel", name := "nameHere", desc := "()J" } : Jvm.MethodName)) ∈ lw_all := lw_g (lw_at lw_m10 167 rfl) rfl
theorem q2478 : (Jvm.Cond.privateMethod ({ cls := "MailSessionsModel", name := "nameHere", desc := "()J" } : Jvm.MethodName)) ∈ lw_tbl := lw_at lw_m10 168 rfl
theorem q2479 : (Jvm.Cond.instanceMethod ({ cls := "MailSessionsModel", name := "nameHere", desc := "()J" } : Jvm.MethodName)) ∈ lw_all := lw_g (lw_at lw_m10 169 rfl) rfl
theorem q2480 : (Jvm.Cond.code ({ cls := "MailSessionsModel", name := "nameHere", desc := "()J" } : Jvm.MethodName) prog_13_method_96_code (1 : Nat) (Option.some Jvm.ClassFile.FieldType.long)) ∈ lw_all := lw_g (lw_at lw_m10 170 rfl) rfl
theorem q2481 : (Jvm.Cond.methodLink "MailSessionsModel" (382 : Nat) ({ cls := "MailSessionsModel", name := "isName", desc := "()Z" } : Jvm.MethodName)) ∈ lw_all := lw_g (lw_at lw_m10 171 rfl) rfl
theorem q2482 : (Jvm.Cond.privateMethod ({ cls := "MailSessionsModel", name := "isName", desc := "()Z" } : Jvm.MethodName)) ∈ lw_tbl := lw_at lw_m10 172 rfl
theorem q2483 : (Jvm.Cond.instanceMethod ({ cls := "MailSessionsModel", name := "isName", desc := "()Z" } : Jvm.MethodName)) ∈ lw_all := lw_g (lw_at lw_m10 173 rfl) rfl
theorem q2484 : (Jvm.Cond.code ({ cls := "MailSessionsModel", name := "isName", desc := "()Z" } : Jvm.MethodName) prog_13_method_95_code (1 : Nat) (Option.some Jvm.ClassFile.FieldType.boolean)) ∈ lw_all := lw_g (lw_at lw_m10 174 rfl) rfl
theorem q2485 : (Jvm.Cond.methodLink "MailSessionsModel" (379 : Nat) ({ cls := "MailSessionsModel", name := "isKeyword", desc := "()Z" } : Jvm.MethodName)) ∈ lw_all := lw_g (lw_at lw_m10 175 rfl) rfl
theorem q2486 : (Jvm.Cond.privateMethod ({ cls := "MailSessionsModel", name := "isKeyword", desc := "()Z" } : Jvm.MethodName)) ∈ lw_tbl := lw_at lw_m10 176 rfl
theorem q2487 : (Jvm.Cond.instanceMethod ({ cls := "MailSessionsModel", name := "isKeyword", desc := "()Z" } : Jvm.MethodName)) ∈ lw_all := lw_g (lw_at lw_m10 177 rfl) rfl
theorem q2488 : (Jvm.Cond.code ({ cls := "MailSessionsModel", name := "isKeyword", desc := "()Z" } : Jvm.MethodName) prog_13_method_93_code (2 : Nat) (Option.some Jvm.ClassFile.FieldType.boolean)) ∈ lw_all := lw_g (lw_at lw_m10 178 rfl) rfl
theorem q2489 : (Jvm.Cond.stringRef "MailSessionsModel" (356 : Nat) "message") ∈ lw_tbl := lw_at lw_m10 179 rfl
theorem q2490 : (Jvm.Cond.stringRef "MailSessionsModel" (358 : Nat) "size") ∈ lw_tbl := lw_at lw_m10 180 rfl
theorem q2491 : (Jvm.Cond.stringRef "MailSessionsModel" (360 : Nat) "session") ∈ lw_tbl := lw_at lw_m10 181 rfl
theorem q2492 : (Jvm.Cond.stringRef "MailSessionsModel" (362 : Nat) "reads") ∈ lw_tbl := lw_at lw_m10 182 rfl
theorem q2493 : (Jvm.Cond.stringRef "MailSessionsModel" (364 : Nat) "all") ∈ lw_tbl := lw_at lw_m10 183 rfl
theorem q2494 : (Jvm.Cond.stringRef "MailSessionsModel" (366 : Nat) "uid") ∈ lw_tbl := lw_at lw_m10 184 rfl
theorem q2495 : (Jvm.Cond.stringRef "MailSessionsModel" (368 : Nat) "not") ∈ lw_tbl := lw_at lw_m10 185 rfl
theorem q2496 : (Jvm.Cond.stringRef "MailSessionsModel" (370 : Nat) "or") ∈ lw_tbl := lw_at lw_m10 186 rfl
theorem q2497 : (Jvm.Cond.methodLink "MailSessionsModel" (372 : Nat) ({ cls := "MailSessionsModel", name := "flagHere", desc := "()I" } : Jvm.MethodName)) ∈ lw_all := lw_g (lw_at lw_m10 187 rfl) rfl
theorem q2498 : (Jvm.Cond.privateMethod ({ cls := "MailSessionsModel", name := "flagHere", desc := "()I" } : Jvm.MethodName)) ∈ lw_tbl := lw_at lw_m10 188 rfl
theorem q2499 : (Jvm.Cond.instanceMethod ({ cls := "MailSessionsModel", name := "flagHere", desc := "()I" } : Jvm.MethodName)) ∈ lw_all := lw_g (lw_at lw_m10 189 rfl) rfl
theorem q2500 : (Jvm.Cond.code ({ cls := "MailSessionsModel", name := "flagHere", desc := "()I" } : Jvm.MethodName) prog_13_method_92_code (1 : Nat) (Option.some Jvm.ClassFile.FieldType.int)) ∈ lw_all := lw_g (lw_at lw_m10 190 rfl) rfl
theorem q2501 : (Jvm.Cond.stringRef "MailSessionsModel" (343 : Nat) "seen") ∈ lw_tbl := lw_at lw_m10 191 rfl
theorem q2502 : (Jvm.Cond.stringRef "MailSessionsModel" (345 : Nat) "answered") ∈ lw_tbl := lw_at lw_m10 192 rfl
theorem q2503 : (Jvm.Cond.stringRef "MailSessionsModel" (347 : Nat) "flagged") ∈ lw_tbl := lw_at lw_m10 193 rfl
theorem q2504 : (Jvm.Cond.stringRef "MailSessionsModel" (349 : Nat) "deleted") ∈ lw_tbl := lw_at lw_m10 194 rfl
theorem q2505 : (Jvm.Cond.stringRef "MailSessionsModel" (351 : Nat) "draft") ∈ lw_tbl := lw_at lw_m10 195 rfl
theorem q2506 : (Jvm.Cond.methodLink "MailSessionsModel" (385 : Nat) ({ cls := "MailSessionsModel", name := "nameOf", desc := "([BII)J" } : Jvm.MethodName)) ∈ lw_all := lw_g (lw_at lw_m10 196 rfl) rfl
theorem q2507 : (Jvm.Cond.static ({ cls := "MailSessionsModel", name := "nameOf", desc := "([BII)J" } : Jvm.MethodName)) ∈ lw_all := lw_g (lw_at lw_m10 197 rfl) rfl
theorem q2508 : (Jvm.Cond.code ({ cls := "MailSessionsModel", name := "nameOf", desc := "([BII)J" } : Jvm.MethodName) prog_13_method_94_code (6 : Nat) (Option.some Jvm.ClassFile.FieldType.long)) ∈ lw_all := lw_g (lw_at lw_m10 198 rfl) rfl
theorem q2509 : (Jvm.Cond.constantLong "MailSessionsModel" (375 : Nat) (27 : Int64)) ∈ lw_all := lw_g (lw_at lw_m10 199 rfl) rfl
theorem q2510 : (Jvm.Cond.constantLong "MailSessionsModel" (377 : Nat) (96 : Int64)) ∈ lw_all := lw_g (lw_at lw_m10 200 rfl) rfl
theorem q2511 : (Jvm.Cond.methodLink "MailSessionsModel" (403 : Nat) ({ cls := "MailSessionsModel", name := "boxNamed", desc := "(J)I" } : Jvm.MethodName)) ∈ lw_all := lw_g (lw_at lw_m10 201 rfl) rfl
theorem q2512 : (Jvm.Cond.privateMethod ({ cls := "MailSessionsModel", name := "boxNamed", desc := "(J)I" } : Jvm.MethodName)) ∈ lw_tbl := lw_at lw_m10 202 rfl
theorem q2513 : (Jvm.Cond.instanceMethod ({ cls := "MailSessionsModel", name := "boxNamed", desc := "(J)I" } : Jvm.MethodName)) ∈ lw_all := lw_g (lw_at lw_m10 203 rfl) rfl
theorem q2514 : (Jvm.Cond.code ({ cls := "MailSessionsModel", name := "boxNamed", desc := "(J)I" } : Jvm.MethodName) prog_13_method_97_code (4 : Nat) (Option.some Jvm.ClassFile.FieldType.int)) ∈ lw_all := lw_g (lw_at lw_m10 204 rfl) rfl
theorem q2515 : (Jvm.Cond.methodLink "MailSessionsModel" (428 : Nat) ({ cls := "MailSessionsModel", name := "parseMessage", desc := "()V" } : Jvm.MethodName)) ∈ lw_all := lw_g (lw_at lw_m10 205 rfl) rfl
theorem q2516 : (Jvm.Cond.privateMethod ({ cls := "MailSessionsModel", name := "parseMessage", desc := "()V" } : Jvm.MethodName)) ∈ lw_tbl := lw_at lw_m10 206 rfl
theorem q2517 : (Jvm.Cond.instanceMethod ({ cls := "MailSessionsModel", name := "parseMessage", desc := "()V" } : Jvm.MethodName)) ∈ lw_all := lw_g (lw_at lw_m10 207 rfl) rfl
theorem q2518 : (Jvm.Cond.code ({ cls := "MailSessionsModel", name := "parseMessage", desc := "()V" } : Jvm.MethodName) prog_13_method_103_code (5 : Nat) (Option.none : Option Jvm.ClassFile.FieldType)) ∈ lw_all := lw_g (lw_at lw_m10 208 rfl) rfl
theorem q2519 : (Jvm.Cond.methodLink "MailSessionsModel" (410 : Nat) ({ cls := "MailSessionsModel", name := "boxHere", desc := "()I" } : Jvm.MethodName)) ∈ lw_all := lw_g (lw_at lw_m10 209 rfl) rfl
theorem q2520 : (Jvm.Cond.privateMethod ({ cls := "MailSessionsModel", name := "boxHere", desc := "()I" } : Jvm.MethodName)) ∈ lw_tbl := lw_at lw_m10 210 rfl
theorem q2521 : (Jvm.Cond.instanceMethod ({ cls := "MailSessionsModel", name := "boxHere", desc := "()I" } : Jvm.MethodName)) ∈ lw_all := lw_g (lw_at lw_m10 211 rfl) rfl
theorem q2522 : (Jvm.Cond.code ({ cls := "MailSessionsModel", name := "boxHere", desc := "()I" } : Jvm.MethodName) prog_13_method_101_code (4 : Nat) (Option.some Jvm.ClassFile.FieldType.int)) ∈ lw_all := lw_g (lw_at lw_m10 212 rfl) rfl
theorem q2523 : (Jvm.Cond.methodLink "MailSessionsModel" (413 : Nat) ({ cls := "MailSessionsModel", name := "takesWord", desc := "(Ljava/lang/String;)Z" } : Jvm.MethodName)) ∈ lw_all := lw_g (lw_at lw_m10 213 rfl) rfl
theorem q2524 : (Jvm.Cond.privateMethod ({ cls := "MailSessionsModel", name := "takesWord", desc := "(Ljava/lang/String;)Z" } : Jvm.MethodName)) ∈ lw_tbl := lw_at lw_m10 214 rfl
theorem q2525 : (Jvm.Cond.instanceMethod ({ cls := "MailSessionsModel", name := "takesWord", desc := "(Ljava/lang/String;)Z" } : Jvm.MethodName)) ∈ lw_all := lw_g (lw_at lw_m10 215 rfl) rfl
theorem q2526 : (Jvm.Cond.code ({ cls := "MailSessionsModel", name := "takesWord", desc := "(Ljava/lang/String;)Z" } : Jvm.MethodName) prog_13_method_88_code (3 : Nat) (Option.some Jvm.ClassFile.FieldType.boolean)) ∈ lw_all := lw_g (lw_at lw_m10 216 rfl) rfl
theorem q2527 : (Jvm.Cond.methodLink "MailSessionsModel" (416 : Nat) ({ cls := "MailSessionsModel", name := "parseFlags", desc := "()I" } : Jvm.MethodName)) ∈ lw_all := lw_g (lw_at lw_m10 217 rfl) rfl
theorem q2528 : (Jvm.Cond.privateMethod ({ cls := "MailSessionsModel", name := "parseFlags", desc := "()I" } : Jvm.MethodName)) ∈ lw_tbl := lw_at lw_m10 218 rfl
theorem q2529 : (Jvm.Cond.instanceMethod ({ cls := "MailSessionsModel", name := "parseFlags", desc := "()I" } : Jvm.MethodName)) ∈ lw_all := lw_g (lw_at lw_m10 219 rfl) rfl
theorem q2530 : (Jvm.Cond.code ({ cls := "MailSessionsModel", name := "parseFlags", desc := "()I" } : Jvm.MethodName) prog_13_method_102_code (3 : Nat) (Option.some Jvm.ClassFile.FieldType.int)) ∈ lw_all := lw_g (lw_at lw_m10 220 rfl) rfl
theorem q2531 : (Jvm.Cond.methodLink "MailSessionsModel" (407 : Nat) ({ cls := "MailSessionsModel", name := "has", desc := "(II)Z" } : Jvm.MethodName)) ∈ lw_all := lw_g (lw_at lw_m10 221 rfl) rfl
theorem q2532 : (Jvm.Cond.static ({ cls := "MailSessionsModel", name := "has", desc := "(II)Z" } : Jvm.MethodName)) ∈ lw_all := lw_g (lw_at lw_m10 222 rfl) rfl
theorem q2533 : (Jvm.Cond.code ({ cls := "MailSessionsModel", name := "has", desc := "(II)Z" } : Jvm.MethodName) prog_13_method_3_code (2 : Nat) (Option.some Jvm.ClassFile.FieldType.boolean)) ∈ lw_all := lw_g (lw_at lw_m10 223 rfl) rfl
theorem q2534 : (Jvm.Cond.methodLink "MailSessionsModel" (431 : Nat) ({ cls := "MailSessionsModel", name := "parseSession", desc := "()V" } : Jvm.MethodName)) ∈ lw_all := lw_g (lw_at lw_m10 224 rfl) rfl
theorem q2535 : (Jvm.Cond.privateMethod ({ cls := "MailSessionsModel", name := "parseSession", desc := "()V" } : Jvm.MethodName)) ∈ lw_tbl := lw_at lw_m10 225 rfl
theorem q2536 : (Jvm.Cond.instanceMethod ({ cls := "MailSessionsModel", name := "parseSession", desc := "()V" } : Jvm.MethodName)) ∈ lw_all := lw_g (lw_at lw_m10 226 rfl) rfl
theorem q2537 : (Jvm.Cond.code ({ cls := "MailSessionsModel", name := "parseSession", desc := "()V" } : Jvm.MethodName) prog_13_method_104_code (4 : Nat) (Option.none : Option Jvm.ClassFile.FieldType)) ∈ lw_all := lw_g (lw_at lw_m10 227 rfl) rfl
theorem q2538 : (Jvm.Cond.methodLink "MailSessionsModel" (419 : Nat) ({ cls := "MailSessionsModel", name := "sessionNamed", desc := "(J)I" } : Jvm.MethodName)) ∈ lw_all := lw_g (lw_at lw_m10 228 rfl) rfl
theorem q2539 : (Jvm.Cond.privateMethod ({ cls := "MailSessionsModel", name := "sessionNamed", desc := "(J)I" } : Jvm.MethodName)) ∈ lw_tbl := lw_at lw_m10 229 rfl
theorem q2540 : (Jvm.Cond.instanceMethod ({ cls := "MailSessionsModel", name := "sessionNamed", desc := "(J)I" } : Jvm.MethodName)) ∈ lw_all := lw_g (lw_at lw_m10 230 rfl) rfl
theorem q2541 : (Jvm.Cond.code ({ cls := "MailSessionsModel", name := "sessionNamed", desc := "(J)I" } : Jvm.MethodName) prog_13_method_98_code (4 : Nat) (Option.some Jvm.ClassFile.FieldType.int)) ∈ lw_all := lw_g (lw_at lw_m10 231 rfl) rfl
theorem q2542 : (Jvm.Cond.methodLink "MailSessionsModel" (434 : Nat) ({ cls := "MailSessionsModel", name := "need", desc := "(I)V" } : Jvm.MethodName)) ∈ lw_all := lw_g (lw_at lw_m10 232 rfl) rfl
theorem q2543 : (Jvm.Cond.privateMethod ({ cls := "MailSessionsModel", name := "need", desc := "(I)V" } : Jvm.MethodName)) ∈ lw_tbl := lw_at lw_m10 233 rfl
theorem q2544 : (Jvm.Cond.instanceMethod ({ cls := "MailSessionsModel", name := "need", desc := "(I)V" } : Jvm.MethodName)) ∈ lw_all := lw_g (lw_at lw_m10 234 rfl) rfl
theorem q2545 : (Jvm.Cond.code ({ cls := "MailSessionsModel", name := "need", desc := "(I)V" } : Jvm.MethodName) prog_13_method_90_code (2 : Nat) (Option.none : Option Jvm.ClassFile.FieldType)) ∈ lw_all := lw_g (lw_at lw_m10 235 rfl) rfl
theorem q2546 : (Jvm.Cond.methodLink "MailSessionsModel" (334 : Nat) ({ cls := "MailSessionsModel", name := "takes", desc := "(I)Z" } : Jvm.MethodName)) ∈ lw_all := lw_g (lw_at lw_m10 236 rfl) rfl
theorem q2547 : (Jvm.Cond.privateMethod ({ cls := "MailSessionsModel", name := "takes", desc := "(I)Z" } : Jvm.MethodName)) ∈ lw_tbl := lw_at lw_m10 237 rfl
theorem q2548 : (Jvm.Cond.instanceMethod ({ cls := "MailSessionsModel", name := "takes", desc := "(I)Z" } : Jvm.MethodName)) ∈ lw_all := lw_g (lw_at lw_m10 238 rfl) rfl
theorem q2549 : (Jvm.Cond.code ({ cls := "MailSessionsModel", name := "takes", desc := "(I)Z" } : Jvm.MethodName) prog_13_method_89_code (3 : Nat) (Option.some Jvm.ClassFile.FieldType.boolean)) ∈ lw_all := lw_g (lw_at lw_m10 239 rfl) rfl
theorem q2550 : (Jvm.Cond.methodLink "MailSessionsModel" (331 : Nat) ({ cls := "MailSessionsModel", name := "isSymbol", desc := "(I)Z" } : Jvm.MethodName)) ∈ lw_all := lw_g (lw_at lw_m11 0 rfl) rfl
theorem q2551 : (Jvm.Cond.privateMethod ({ cls := "MailSessionsModel", name := "isSymbol", desc := "(I)Z" } : Jvm.MethodName)) ∈ lw_tbl := lw_at lw_m11 1 rfl
theorem q2552 : (Jvm.Cond.instanceMethod ({ cls := "MailSessionsModel", name := "isSymbol", desc := "(I)Z" } : Jvm.MethodName)) ∈ lw_all := lw_g (lw_at lw_m11 2 rfl) rfl
theorem q2553 : (Jvm.Cond.code ({ cls := "MailSessionsModel", name := "isSymbol", desc := "(I)Z" } : Jvm.MethodName) prog_13_method_87_code (2 : Nat) (Option.some Jvm.ClassFile.FieldType.boolean)) ∈ lw_all := lw_g (lw_at lw_m11 3 rfl) rfl
theorem q2554 : (Jvm.Cond.methodLink "MailSessionsModel" (443 : Nat) ({ cls := "MailSessionsModel", name := "selectAll", desc := "()V" } : Jvm.MethodName)) ∈ lw_all := lw_g (lw_at lw_m11 4 rfl) rfl
theorem q2555 : (Jvm.Cond.privateMethod ({ cls := "MailSessionsModel", name := "selectAll", desc := "()V" } : Jvm.MethodName)) ∈ lw_tbl := lw_at lw_m11 5 rfl
theorem q2556 : (Jvm.Cond.instanceMethod ({ cls := "MailSessionsModel", name := "selectAll", desc := "()V" } : Jvm.MethodName)) ∈ lw_all := lw_g (lw_at lw_m11 6 rfl) rfl
theorem q2557 : (Jvm.Cond.code ({ cls := "MailSessionsModel", name := "selectAll", desc := "()V" } : Jvm.MethodName) prog_13_method_106_code (2 : Nat) (Option.none : Option Jvm.ClassFile.FieldType)) ∈ lw_all := lw_g (lw_at lw_m11 7 rfl) rfl
theorem q2559 : (Jvm.Cond.instanceMethod ({ cls := "MailSessionsModel", name := "errorCode", desc := "()I" } : Jvm.MethodName)) ∈ lw_all := lw_g (lw_at lw_m11 9 rfl) rfl
theorem q2560 : (Jvm.Cond.selects "MailSessionsModel" ({ cls := "MailSessionsModel", name := "errorCode", desc := "()I" } : Jvm.MethodName) ({ cls := "MailSessionsModel", name := "errorCode", desc := "()I" } : Jvm.MethodName)) ∈ lw_all := lw_g (lw_at lw_m11 10 rfl) rfl
theorem q2561 : (Jvm.Cond.code ({ cls := "MailSessionsModel", name := "errorCode", desc := "()I" } : Jvm.MethodName) prog_13_method_108_code (1 : Nat) (Option.some Jvm.ClassFile.FieldType.int)) ∈ lw_all := lw_g (lw_at lw_m11 11 rfl) rfl
theorem q2563 : (Jvm.Cond.instanceMethod ({ cls := "MailSessionsModel", name := "errorPosition", desc := "()I" } : Jvm.MethodName)) ∈ lw_all := lw_g (lw_at lw_m11 13 rfl) rfl
theorem q2564 : (Jvm.Cond.selects "MailSessionsModel" ({ cls := "MailSessionsModel", name := "errorPosition", desc := "()I" } : Jvm.MethodName) ({ cls := "MailSessionsModel", name := "errorPosition", desc := "()I" } : Jvm.MethodName)) ∈ lw_all := lw_g (lw_at lw_m11 14 rfl) rfl
theorem q2565 : (Jvm.Cond.code ({ cls := "MailSessionsModel", name := "errorPosition", desc := "()I" } : Jvm.MethodName) prog_13_method_109_code (1 : Nat) (Option.some Jvm.ClassFile.FieldType.int)) ∈ lw_all := lw_g (lw_at lw_m11 15 rfl) rfl
theorem q2567 : (Jvm.Cond.instanceMethod ({ cls := "MailSessionsModel", name := "findBox", desc := "()I" } : Jvm.MethodName)) ∈ lw_all := lw_g (lw_at lw_m11 17 rfl) rfl
theorem q2568 : (Jvm.Cond.selects "MailSessionsModel" ({ cls := "MailSessionsModel", name := "findBox", desc := "()I" } : Jvm.MethodName) ({ cls := "MailSessionsModel", name := "findBox", desc := "()I" } : Jvm.MethodName)) ∈ lw_all := lw_g (lw_at lw_m11 18 rfl) rfl
theorem q2569 : (Jvm.Cond.code ({ cls := "MailSessionsModel", name := "findBox", desc := "()I" } : Jvm.MethodName) prog_13_method_111_code (3 : Nat) (Option.some Jvm.ClassFile.FieldType.int)) ∈ lw_all := lw_g (lw_at lw_m11 19 rfl) rfl
theorem q2570 : (Jvm.Cond.methodLink "MailSessionsModel" (448 : Nat) ({ cls := "MailSessionsModel", name := "wholeName", desc := "()J" } : Jvm.MethodName)) ∈ lw_all := lw_g (lw_at lw_m11 20 rfl) rfl
theorem q2571 : (Jvm.Cond.privateMethod ({ cls := "MailSessionsModel", name := "wholeName", desc := "()J" } : Jvm.MethodName)) ∈ lw_tbl := lw_at lw_m11 21 rfl
theorem q2572 : (Jvm.Cond.instanceMethod ({ cls := "MailSessionsModel", name := "wholeName", desc := "()J" } : Jvm.MethodName)) ∈ lw_all := lw_g (lw_at lw_m11 22 rfl) rfl
theorem q2573 : (Jvm.Cond.code ({ cls := "MailSessionsModel", name := "wholeName", desc := "()J" } : Jvm.MethodName) prog_13_method_110_code (4 : Nat) (Option.some Jvm.ClassFile.FieldType.long)) ∈ lw_all := lw_g (lw_at lw_m11 23 rfl) rfl
theorem q2574 : (Jvm.Cond.constantLong "MailSessionsModel" (446 : Nat) (6 : Int64)) ∈ lw_all := lw_g (lw_at lw_m11 24 rfl) rfl
theorem q2576 : (Jvm.Cond.instanceMethod ({ cls := "MailSessionsModel", name := "findSession", desc := "()I" } : Jvm.MethodName)) ∈ lw_all := lw_g (lw_at lw_m11 26 rfl) rfl
theorem q2577 : (Jvm.Cond.selects "MailSessionsModel" ({ cls := "MailSessionsModel", name := "findSession", desc := "()I" } : Jvm.MethodName) ({ cls := "MailSessionsModel", name := "findSession", desc := "()I" } : Jvm.MethodName)) ∈ lw_all := lw_g (lw_at lw_m11 27 rfl) rfl
theorem q2578 : (Jvm.Cond.code ({ cls := "MailSessionsModel", name := "findSession", desc := "()I" } : Jvm.MethodName) prog_13_method_112_code (3 : Nat) (Option.some Jvm.ClassFile.FieldType.int)) ∈ lw_all := lw_g (lw_at lw_m11 28 rfl) rfl
theorem q2580 : (Jvm.Cond.instanceMethod ({ cls := "MailSessionsModel", name := "searchBox", desc := "(I)I" } : Jvm.MethodName)) ∈ lw_all := lw_g (lw_at lw_m11 30 rfl) rfl
theorem q2581 : (Jvm.Cond.selects "MailSessionsModel" ({ cls := "MailSessionsModel", name := "searchBox", desc := "(I)I" } : Jvm.MethodName) ({ cls := "MailSessionsModel", name := "searchBox", desc := "(I)I" } : Jvm.MethodName)) ∈ lw_all := lw_g (lw_at lw_m11 31 rfl) rfl
theorem q2582 : (Jvm.Cond.code ({ cls := "MailSessionsModel", name := "searchBox", desc := "(I)I" } : Jvm.MethodName) prog_13_method_122_code (3 : Nat) (Option.some Jvm.ClassFile.FieldType.int)) ∈ lw_all := lw_g (lw_at lw_m11 32 rfl) rfl
theorem q2583 : (Jvm.Cond.methodLink "MailSessionsModel" (481 : Nat) ({ cls := "MailSessionsModel", name := "wholeQuery", desc := "(I)I" } : Jvm.MethodName)) ∈ lw_all := lw_g (lw_at lw_m11 33 rfl) rfl
theorem q2584 : (Jvm.Cond.privateMethod ({ cls := "MailSessionsModel", name := "wholeQuery", desc := "(I)I" } : Jvm.MethodName)) ∈ lw_tbl := lw_at lw_m11 34 rfl
theorem q2585 : (Jvm.Cond.instanceMethod ({ cls := "MailSessionsModel", name := "wholeQuery", desc := "(I)I" } : Jvm.MethodName)) ∈ lw_all := lw_g (lw_at lw_m11 35 rfl) rfl
theorem q2586 : (Jvm.Cond.code ({ cls := "MailSessionsModel", name := "wholeQuery", desc := "(I)I" } : Jvm.MethodName) prog_13_method_121_code (3 : Nat) (Option.some Jvm.ClassFile.FieldType.int)) ∈ lw_all := lw_g (lw_at lw_m11 36 rfl) rfl
theorem q2587 : (Jvm.Cond.methodLink "MailSessionsModel" (466 : Nat) ({ cls := "MailSessionsModel", name := "query", desc := "()I" } : Jvm.MethodName)) ∈ lw_all := lw_g (lw_at lw_m11 37 rfl) rfl
theorem q2588 : (Jvm.Cond.privateMethod ({ cls := "MailSessionsModel", name := "query", desc := "()I" } : Jvm.MethodName)) ∈ lw_tbl := lw_at lw_m11 38 rfl
theorem q2589 : (Jvm.Cond.instanceMethod ({ cls := "MailSessionsModel", name := "query", desc := "()I" } : Jvm.MethodName)) ∈ lw_all := lw_g (lw_at lw_m11 39 rfl) rfl
theorem q2590 : (Jvm.Cond.code ({ cls := "MailSessionsModel", name := "query", desc := "()I" } : Jvm.MethodName) prog_13_method_120_code (2 : Nat) (Option.some Jvm.ClassFile.FieldType.int)) ∈ lw_all := lw_g (lw_at lw_m11 40 rfl) rfl
theorem q2591 : (Jvm.Cond.methodLink "MailSessionsModel" (478 : Nat) ({ cls := "MailSessionsModel", name := "term", desc := "()I" } : Jvm.MethodName)) ∈ lw_all := lw_g (lw_at lw_m11 41 rfl) rfl
theorem q2592 : (Jvm.Cond.privateMethod ({ cls := "MailSessionsModel", name := "term", desc := "()I" } : Jvm.MethodName)) ∈ lw_tbl := lw_at lw_m11 42 rfl
theorem q2593 : (Jvm.Cond.instanceMethod ({ cls := "MailSessionsModel", name := "term", desc := "()I" } : Jvm.MethodName)) ∈ lw_all := lw_g (lw_at lw_m11 43 rfl) rfl
theorem q2594 : (Jvm.Cond.code ({ cls := "MailSessionsModel", name := "term", desc := "()I" } : Jvm.MethodName) prog_13_method_119_code (2 : Nat) (Option.some Jvm.ClassFile.FieldType.int)) ∈ lw_all := lw_g (lw_at lw_m11 44 rfl) rfl
theorem q2595 : (Jvm.Cond.methodLink "MailSessionsModel" (460 : Nat) ({ cls := "MailSessionsModel", name := "factor", desc := "()I" } : Jvm.MethodName)) ∈ lw_all := lw_g (lw_at lw_m11 45 rfl) rfl
theorem q2596 : (Jvm.Cond.privateMethod ({ cls := "MailSessionsModel", name := "factor", desc := "()I" } : Jvm.MethodName)) ∈ lw_tbl := lw_at lw_m11 46 rfl
theorem q2597 : (Jvm.Cond.instanceMethod ({ cls := "MailSessionsModel", name := "factor", desc := "()I" } : Jvm.MethodName)) ∈ lw_all := lw_g (lw_at lw_m11 47 rfl) rfl
theorem q2598 : (Jvm.Cond.code ({ cls := "MailSessionsModel", name := "factor", desc := "()I" } : Jvm.MethodName) prog_13_method_117_code (2 : Nat) (Option.some Jvm.ClassFile.FieldType.int)) ∈ lw_all := lw_g (lw_at lw_m11 48 rfl) rfl
theorem q2599 : (Jvm.Cond.methodLink "MailSessionsModel" (457 : Nat) ({ cls := "MailSessionsModel", name := "opens", desc := "()V" } : Jvm.MethodName)) ∈ lw_all := lw_g (lw_at lw_m11 49 rfl) rfl
theorem q2600 : (Jvm.Cond.privateMethod ({ cls := "MailSessionsModel", name := "opens", desc := "()V" } : Jvm.MethodName)) ∈ lw_tbl := lw_at lw_m11 50 rfl
theorem q2601 : (Jvm.Cond.instanceMethod ({ cls := "MailSessionsModel", name := "opens", desc := "()V" } : Jvm.MethodName)) ∈ lw_all := lw_g (lw_at lw_m11 51 rfl) rfl
theorem q2602 : (Jvm.Cond.code ({ cls := "MailSessionsModel", name := "opens", desc := "()V" } : Jvm.MethodName) prog_13_method_116_code (1 : Nat) (Option.none : Option Jvm.ClassFile.FieldType)) ∈ lw_all := lw_g (lw_at lw_m11 52 rfl) rfl
theorem q2603 : (Jvm.Cond.methodLink "MailSessionsModel" (463 : Nat) ({ cls := "MailSessionsModel", name := "allOf", desc := "()I" } : Jvm.MethodName)) ∈ lw_all := lw_g (lw_at lw_m11 53 rfl) rfl
theorem q2604 : (Jvm.Cond.privateMethod ({ cls := "MailSessionsModel", name := "allOf", desc := "()I" } : Jvm.MethodName)) ∈ lw_tbl := lw_at lw_m11 54 rfl
theorem q2605 : (Jvm.Cond.instanceMethod ({ cls := "MailSessionsModel", name := "allOf", desc := "()I" } : Jvm.MethodName)) ∈ lw_all := lw_g (lw_at lw_m11 55 rfl) rfl
theorem q2606 : (Jvm.Cond.code ({ cls := "MailSessionsModel", name := "allOf", desc := "()I" } : Jvm.MethodName) prog_13_method_113_code (1 : Nat) (Option.some Jvm.ClassFile.FieldType.int)) ∈ lw_all := lw_g (lw_at lw_m11 56 rfl) rfl
theorem q2607 : (Jvm.Cond.methodLink "MailSessionsModel" (469 : Nat) ({ cls := "MailSessionsModel", name := "withFlag", desc := "(I)I" } : Jvm.MethodName)) ∈ lw_all := lw_g (lw_at lw_m11 57 rfl) rfl
theorem q2608 : (Jvm.Cond.privateMethod ({ cls := "MailSessionsModel", name := "withFlag", desc := "(I)I" } : Jvm.MethodName)) ∈ lw_tbl := lw_at lw_m11 58 rfl
theorem q2609 : (Jvm.Cond.instanceMethod ({ cls := "MailSessionsModel", name := "withFlag", desc := "(I)I" } : Jvm.MethodName)) ∈ lw_all := lw_g (lw_at lw_m11 59 rfl) rfl
theorem q2610 : (Jvm.Cond.code ({ cls := "MailSessionsModel", name := "withFlag", desc := "(I)I" } : Jvm.MethodName) prog_13_method_114_code (4 : Nat) (Option.some Jvm.ClassFile.FieldType.int)) ∈ lw_all := lw_g (lw_at lw_m11 60 rfl) rfl
theorem q2611 : (Jvm.Cond.methodLink "MailSessionsModel" (472 : Nat) ({ cls := "MailSessionsModel", name := "compared", desc := "(I)I" } : Jvm.MethodName)) ∈ lw_all := lw_g (lw_at lw_m11 61 rfl) rfl
theorem q2612 : (Jvm.Cond.privateMethod ({ cls := "MailSessionsModel", name := "compared", desc := "(I)I" } : Jvm.MethodName)) ∈ lw_tbl := lw_at lw_m11 62 rfl
theorem q2613 : (Jvm.Cond.instanceMethod ({ cls := "MailSessionsModel", name := "compared", desc := "(I)I" } : Jvm.MethodName)) ∈ lw_all := lw_g (lw_at lw_m11 63 rfl) rfl
theorem q2614 : (Jvm.Cond.code ({ cls := "MailSessionsModel", name := "compared", desc := "(I)I" } : Jvm.MethodName) prog_13_method_115_code (7 : Nat) (Option.some Jvm.ClassFile.FieldType.int)) ∈ lw_all := lw_g (lw_at lw_m11 64 rfl) rfl
theorem q2615 : (Jvm.Cond.methodLink "MailSessionsModel" (475 : Nat) ({ cls := "MailSessionsModel", name := "isFactor", desc := "()Z" } : Jvm.MethodName)) ∈ lw_all := lw_g (lw_at lw_m11 65 rfl) rfl
theorem q2616 : (Jvm.Cond.privateMethod ({ cls := "MailSessionsModel", name := "isFactor", desc := "()Z" } : Jvm.MethodName)) ∈ lw_tbl := lw_at lw_m11 66 rfl
theorem q2617 : (Jvm.Cond.instanceMethod ({ cls := "MailSessionsModel", name := "isFactor", desc := "()Z" } : Jvm.MethodName)) ∈ lw_all := lw_g (lw_at lw_m11 67 rfl) rfl
theorem q2618 : (Jvm.Cond.code ({ cls := "MailSessionsModel", name := "isFactor", desc := "()Z" } : Jvm.MethodName) prog_13_method_118_code (1 : Nat) (Option.some Jvm.ClassFile.FieldType.boolean)) ∈ lw_all := lw_g (lw_at lw_m11 68 rfl) rfl
theorem q2620 : (Jvm.Cond.instanceMethod ({ cls := "MailSessionsModel", name := "search", desc := "(I)J" } : Jvm.MethodName)) ∈ lw_all := lw_g (lw_at lw_m11 70 rfl) rfl
theorem q2621 : (Jvm.Cond.selects "MailSessionsModel" ({ cls := "MailSessionsModel", name := "search", desc := "(I)J" } : Jvm.MethodName) ({ cls := "MailSessionsModel", name := "search", desc := "(I)J" } : Jvm.MethodName)) ∈ lw_all := lw_g (lw_at lw_m11 71 rfl) rfl
theorem q2622 : (Jvm.Cond.code ({ cls := "MailSessionsModel", name := "search", desc := "(I)J" } : Jvm.MethodName) prog_13_method_123_code (7 : Nat) (Option.some Jvm.ClassFile.FieldType.long)) ∈ lw_all := lw_g (lw_at lw_m11 72 rfl) rfl
theorem q2623 : (Jvm.Cond.constantLong "MailSessionsModel" (484 : Nat) (-4 : Int64)) ∈ lw_all := lw_g (lw_at lw_m11 73 rfl) rfl
theorem q2625 : (Jvm.Cond.instanceMethod ({ cls := "MailSessionsModel", name := "property", desc := "(I)I" } : Jvm.MethodName)) ∈ lw_all := lw_g (lw_at lw_m11 75 rfl) rfl
theorem q2626 : (Jvm.Cond.selects "MailSessionsModel" ({ cls := "MailSessionsModel", name := "property", desc := "(I)I" } : Jvm.MethodName) ({ cls := "MailSessionsModel", name := "property", desc := "(I)I" } : Jvm.MethodName)) ∈ lw_all := lw_g (lw_at lw_m11 76 rfl) rfl
theorem q2627 : (Jvm.Cond.code ({ cls := "MailSessionsModel", name := "property", desc := "(I)I" } : Jvm.MethodName) prog_13_method_125_code (2 : Nat) (Option.some Jvm.ClassFile.FieldType.int)) ∈ lw_all := lw_g (lw_at lw_m11 77 rfl) rfl
theorem q2628 : (Jvm.Cond.constantLong "MailSessionsModel" (486 : Nat) (4 : Int64)) ∈ lw_all := lw_g (lw_at lw_m11 78 rfl) rfl
theorem q2629 : (Jvm.Cond.methodLink "MailSessionsModel" (488 : Nat) ({ cls := "MailSessionsModel", name := "allMessages", desc := "()I" } : Jvm.MethodName)) ∈ lw_all := lw_g (lw_at lw_m11 79 rfl) rfl
theorem q2630 : (Jvm.Cond.privateMethod ({ cls := "MailSessionsModel", name := "allMessages", desc := "()I" } : Jvm.MethodName)) ∈ lw_tbl := lw_at lw_m11 80 rfl
theorem q2631 : (Jvm.Cond.instanceMethod ({ cls := "MailSessionsModel", name := "allMessages", desc := "()I" } : Jvm.MethodName)) ∈ lw_all := lw_g (lw_at lw_m11 81 rfl) rfl
theorem q2632 : (Jvm.Cond.code ({ cls := "MailSessionsModel", name := "allMessages", desc := "()I" } : Jvm.MethodName) prog_13_method_124_code (3 : Nat) (Option.some Jvm.ClassFile.FieldType.int)) ∈ lw_all := lw_g (lw_at lw_m11 82 rfl) rfl
theorem q2634 : (Jvm.Cond.instanceMethod ({ cls := "MailSessionsModel", name := "box", desc := "(II)I" } : Jvm.MethodName)) ∈ lw_all := lw_g (lw_at lw_m11 84 rfl) rfl
theorem q2635 : (Jvm.Cond.selects "MailSessionsModel" ({ cls := "MailSessionsModel", name := "box", desc := "(II)I" } : Jvm.MethodName) ({ cls := "MailSessionsModel", name := "box", desc := "(II)I" } : Jvm.MethodName)) ∈ lw_all := lw_g (lw_at lw_m11 85 rfl) rfl
theorem q2636 : (Jvm.Cond.code ({ cls := "MailSessionsModel", name := "box", desc := "(II)I" } : Jvm.MethodName) prog_13_method_129_code (3 : Nat) (Option.some Jvm.ClassFile.FieldType.int)) ∈ lw_all := lw_g (lw_at lw_m11 86 rfl) rfl
theorem q2637 : (Jvm.Cond.constantLong "MailSessionsModel" (491 : Nat) (5 : Int64)) ∈ lw_all := lw_g (lw_at lw_m11 87 rfl) rfl
theorem q2638 : (Jvm.Cond.methodLink "MailSessionsModel" (493 : Nat) ({ cls := "MailSessionsModel", name := "sizesOf", desc := "(I)I" } : Jvm.MethodName)) ∈ lw_all := lw_g (lw_at lw_m11 88 rfl) rfl
theorem q2639 : (Jvm.Cond.privateMethod ({ cls := "MailSessionsModel", name := "sizesOf", desc := "(I)I" } : Jvm.MethodName)) ∈ lw_tbl := lw_at lw_m11 89 rfl
theorem q2640 : (Jvm.Cond.instanceMethod ({ cls := "MailSessionsModel", name := "sizesOf", desc := "(I)I" } : Jvm.MethodName)) ∈ lw_all := lw_g (lw_at lw_m11 90 rfl) rfl
theorem q2641 : (Jvm.Cond.code ({ cls := "MailSessionsModel", name := "sizesOf", desc := "(I)I" } : Jvm.MethodName) prog_13_method_126_code (4 : Nat) (Option.some Jvm.ClassFile.FieldType.int)) ∈ lw_all := lw_g (lw_at lw_m11 91 rfl) rfl
theorem q2642 : (Jvm.Cond.methodLink "MailSessionsModel" (496 : Nat) ({ cls := "MailSessionsModel", name := "flaggedMany", desc := "(II)I" } : Jvm.MethodName)) ∈ lw_all := lw_g (lw_at lw_m11 92 rfl) rfl
theorem q2643 : (Jvm.Cond.privateMethod ({ cls := "MailSessionsModel", name := "flaggedMany", desc := "(II)I" } : Jvm.MethodName)) ∈ lw_tbl := lw_at lw_m11 93 rfl
theorem q2644 : (Jvm.Cond.instanceMethod ({ cls := "MailSessionsModel", name := "flaggedMany", desc := "(II)I" } : Jvm.MethodName)) ∈ lw_all := lw_g (lw_at lw_m11 94 rfl) rfl
theorem q2645 : (Jvm.Cond.code ({ cls := "MailSessionsModel", name := "flaggedMany", desc := "(II)I" } : Jvm.MethodName) prog_13_method_127_code (5 : Nat) (Option.some Jvm.ClassFile.FieldType.int)) ∈ lw_all := lw_g (lw_at lw_m11 95 rfl) rfl
theorem q2646 : (Jvm.Cond.methodLink "MailSessionsModel" (499 : Nat) ({ cls := "MailSessionsModel", name := "selecting", desc := "(I)I" } : Jvm.MethodName)) ∈ lw_all := lw_g (lw_at lw_m11 96 rfl) rfl
theorem q2647 : (Jvm.Cond.privateMethod ({ cls := "MailSessionsModel", name := "selecting", desc := "(I)I" } : Jvm.MethodName)) ∈ lw_tbl := lw_at lw_m11 97 rfl
theorem q2648 : (Jvm.Cond.instanceMethod ({ cls := "MailSessionsModel", name := "selecting", desc := "(I)I" } : Jvm.MethodName)) ∈ lw_all := lw_g (lw_at lw_m11 98 rfl) rfl
theorem q2649 : (Jvm.Cond.code ({ cls := "MailSessionsModel", name := "selecting", desc := "(I)I" } : Jvm.MethodName) prog_13_method_128_code (4 : Nat) (Option.some Jvm.ClassFile.FieldType.int)) ∈ lw_all := lw_g (lw_at lw_m11 99 rfl) rfl
theorem q2651 : (Jvm.Cond.instanceMethod ({ cls := "MailSessionsModel", name := "message", desc := "(III)I" } : Jvm.MethodName)) ∈ lw_all := lw_g (lw_at lw_m11 101 rfl) rfl
theorem q2652 : (Jvm.Cond.selects "MailSessionsModel" ({ cls := "MailSessionsModel", name := "message", desc := "(III)I" } : Jvm.MethodName) ({ cls := "MailSessionsModel", name := "message", desc := "(III)I" } : Jvm.MethodName)) ∈ lw_all := lw_g (lw_at lw_m11 102 rfl) rfl
theorem q2653 : (Jvm.Cond.code ({ cls := "MailSessionsModel", name := "message", desc := "(III)I" } : Jvm.MethodName) prog_13_method_130_code (4 : Nat) (Option.some Jvm.ClassFile.FieldType.int)) ∈ lw_all := lw_g (lw_at lw_m11 103 rfl) rfl
theorem q2655 : (Jvm.Cond.instanceMethod ({ cls := "MailSessionsModel", name := "indexOf", desc := "(II)I" } : Jvm.MethodName)) ∈ lw_all := lw_g (lw_at lw_m11 105 rfl) rfl
theorem q2656 : (Jvm.Cond.selects "MailSessionsModel" ({ cls := "MailSessionsModel", name := "indexOf", desc := "(II)I" } : Jvm.MethodName) ({ cls := "MailSessionsModel", name := "indexOf", desc := "(II)I" } : Jvm.MethodName)) ∈ lw_all := lw_g (lw_at lw_m11 106 rfl) rfl
theorem q2657 : (Jvm.Cond.code ({ cls := "MailSessionsModel", name := "indexOf", desc := "(II)I" } : Jvm.MethodName) prog_13_method_131_code (3 : Nat) (Option.some Jvm.ClassFile.FieldType.int)) ∈ lw_all := lw_g (lw_at lw_m11 107 rfl) rfl
theorem q2659 : (Jvm.Cond.instanceMethod ({ cls := "MailSessionsModel", name := "session", desc := "(II)I" } : Jvm.MethodName)) ∈ lw_all := lw_g (lw_at lw_m11 109 rfl) rfl
theorem q2660 : (Jvm.Cond.selects "MailSessionsModel" ({ cls := "MailSessionsModel", name := "session", desc := "(II)I" } : Jvm.MethodName) ({ cls := "MailSessionsModel", name := "session", desc := "(II)I" } : Jvm.MethodName)) ∈ lw_all := lw_g (lw_at lw_m11 110 rfl) rfl
theorem q2661 : (Jvm.Cond.code ({ cls := "MailSessionsModel", name := "session", desc := "(II)I" } : Jvm.MethodName) prog_13_method_132_code (3 : Nat) (Option.some Jvm.ClassFile.FieldType.int)) ∈ lw_all := lw_g (lw_at lw_m11 111 rfl) rfl
theorem q2662 : (Jvm.Cond.methodLink "MailSessionsModel" (129 : Nat) ({ cls := "MailSessionsModel", name := "goneMany", desc := "(I)I" } : Jvm.MethodName)) ∈ lw_all := lw_g (lw_at lw_m11 112 rfl) rfl
theorem q2663 : (Jvm.Cond.privateMethod ({ cls := "MailSessionsModel", name := "goneMany", desc := "(I)I" } : Jvm.MethodName)) ∈ lw_tbl := lw_at lw_m11 113 rfl
theorem q2664 : (Jvm.Cond.instanceMethod ({ cls := "MailSessionsModel", name := "goneMany", desc := "(I)I" } : Jvm.MethodName)) ∈ lw_all := lw_g (lw_at lw_m11 114 rfl) rfl
theorem q2665 : (Jvm.Cond.code ({ cls := "MailSessionsModel", name := "goneMany", desc := "(I)I" } : Jvm.MethodName) prog_13_method_31_code (4 : Nat) (Option.some Jvm.ClassFile.FieldType.int)) ∈ lw_all := lw_g (lw_at lw_m11 115 rfl) rfl
theorem q2666 : (Jvm.Cond.methodLink "MailSessionsModel" (132 : Nat) ({ cls := "MailSessionsModel", name := "otherMany", desc := "(I)I" } : Jvm.MethodName)) ∈ lw_all := lw_g (lw_at lw_m11 116 rfl) rfl
theorem q2667 : (Jvm.Cond.privateMethod ({ cls := "MailSessionsModel", name := "otherMany", desc := "(I)I" } : Jvm.MethodName)) ∈ lw_tbl := lw_at lw_m11 117 rfl
theorem q2668 : (Jvm.Cond.instanceMethod ({ cls := "MailSessionsModel", name := "otherMany", desc := "(I)I" } : Jvm.MethodName)) ∈ lw_all := lw_g (lw_at lw_m11 118 rfl) rfl
theorem q2669 : (Jvm.Cond.code ({ cls := "MailSessionsModel", name := "otherMany", desc := "(I)I" } : Jvm.MethodName) prog_13_method_32_code (4 : Nat) (Option.some Jvm.ClassFile.FieldType.int)) ∈ lw_all := lw_g (lw_at lw_m11 119 rfl) rfl
theorem q2670 : (Jvm.Cond.methodLink "MailSessionsModel" (135 : Nat) ({ cls := "MailSessionsModel", name := "newMany", desc := "(I)I" } : Jvm.MethodName)) ∈ lw_all := lw_g (lw_at lw_m11 120 rfl) rfl
theorem q2671 : (Jvm.Cond.privateMethod ({ cls := "MailSessionsModel", name := "newMany", desc := "(I)I" } : Jvm.MethodName)) ∈ lw_tbl := lw_at lw_m11 121 rfl
theorem q2672 : (Jvm.Cond.instanceMethod ({ cls := "MailSessionsModel", name := "newMany", desc := "(I)I" } : Jvm.MethodName)) ∈ lw_all := lw_g (lw_at lw_m11 122 rfl) rfl
theorem q2673 : (Jvm.Cond.code ({ cls := "MailSessionsModel", name := "newMany", desc := "(I)I" } : Jvm.MethodName) prog_13_method_33_code (4 : Nat) (Option.some Jvm.ClassFile.FieldType.int)) ∈ lw_all := lw_g (lw_at lw_m11 123 rfl) rfl
theorem q2675 : (Jvm.Cond.instanceMethod ({ cls := "MailSessionsModel", name := "entry", desc := "(III)I" } : Jvm.MethodName)) ∈ lw_all := lw_g (lw_at lw_m11 125 rfl) rfl
theorem q2676 : (Jvm.Cond.selects "MailSessionsModel" ({ cls := "MailSessionsModel", name := "entry", desc := "(III)I" } : Jvm.MethodName) ({ cls := "MailSessionsModel", name := "entry", desc := "(III)I" } : Jvm.MethodName)) ∈ lw_all := lw_g (lw_at lw_m11 126 rfl) rfl
theorem q2677 : (Jvm.Cond.code ({ cls := "MailSessionsModel", name := "entry", desc := "(III)I" } : Jvm.MethodName) prog_13_method_133_code (5 : Nat) (Option.some Jvm.ClassFile.FieldType.int)) ∈ lw_all := lw_g (lw_at lw_m11 127 rfl) rfl
theorem q2679 : (Jvm.Cond.instanceMethod ({ cls := "MailSessionsModel", name := "numberOf", desc := "(II)I" } : Jvm.MethodName)) ∈ lw_all := lw_g (lw_at lw_m11 129 rfl) rfl
theorem q2680 : (Jvm.Cond.selects "MailSessionsModel" ({ cls := "MailSessionsModel", name := "numberOf", desc := "(II)I" } : Jvm.MethodName) ({ cls := "MailSessionsModel", name := "numberOf", desc := "(II)I" } : Jvm.MethodName)) ∈ lw_all := lw_g (lw_at lw_m11 130 rfl) rfl
theorem q2681 : (Jvm.Cond.code ({ cls := "MailSessionsModel", name := "numberOf", desc := "(II)I" } : Jvm.MethodName) prog_13_method_135_code (3 : Nat) (Option.some Jvm.ClassFile.FieldType.int)) ∈ lw_all := lw_g (lw_at lw_m11 131 rfl) rfl
theorem q2682 : (Jvm.Cond.methodLink "MailSessionsModel" (502 : Nat) ({ cls := "MailSessionsModel", name := "entryWith", desc := "(II)I" } : Jvm.MethodName)) ∈ lw_all := lw_g (lw_at lw_m11 132 rfl) rfl
theorem q2683 : (Jvm.Cond.privateMethod ({ cls := "MailSessionsModel", name := "entryWith", desc := "(II)I" } : Jvm.MethodName)) ∈ lw_tbl := lw_at lw_m11 133 rfl
theorem q2684 : (Jvm.Cond.instanceMethod ({ cls := "MailSessionsModel", name := "entryWith", desc := "(II)I" } : Jvm.MethodName)) ∈ lw_all := lw_g (lw_at lw_m11 134 rfl) rfl
theorem q2685 : (Jvm.Cond.code ({ cls := "MailSessionsModel", name := "entryWith", desc := "(II)I" } : Jvm.MethodName) prog_13_method_134_code (4 : Nat) (Option.some Jvm.ClassFile.FieldType.int)) ∈ lw_all := lw_g (lw_at lw_m11 135 rfl) rfl
theorem q2687 : (Jvm.Cond.instanceMethod ({ cls := "MailSessionsModel", name := "numberThen", desc := "(II)I" } : Jvm.MethodName)) ∈ lw_all := lw_g (lw_at lw_m11 137 rfl) rfl
theorem q2688 : (Jvm.Cond.selects "MailSessionsModel" ({ cls := "MailSessionsModel", name := "numberThen", desc := "(II)I" } : Jvm.MethodName) ({ cls := "MailSessionsModel", name := "numberThen", desc := "(II)I" } : Jvm.MethodName)) ∈ lw_all := lw_g (lw_at lw_m11 138 rfl) rfl
theorem q2689 : (Jvm.Cond.code ({ cls := "MailSessionsModel", name := "numberThen", desc := "(II)I" } : Jvm.MethodName) prog_13_method_136_code (3 : Nat) (Option.some Jvm.ClassFile.FieldType.int)) ∈ lw_all := lw_g (lw_at lw_m11 139 rfl) rfl
theorem q2691 : (Jvm.Cond.instanceMethod ({ cls := "MailSessionsModel", name := "pending", desc := "(I)I" } : Jvm.MethodName)) ∈ lw_all := lw_g (lw_at lw_m11 141 rfl) rfl
theorem q2692 : (Jvm.Cond.selects "MailSessionsModel" ({ cls := "MailSessionsModel", name := "pending", desc := "(I)I" } : Jvm.MethodName) ({ cls := "MailSessionsModel", name := "pending", desc := "(I)I" } : Jvm.MethodName)) ∈ lw_all := lw_g (lw_at lw_m11 142 rfl) rfl
theorem q2693 : (Jvm.Cond.code ({ cls := "MailSessionsModel", name := "pending", desc := "(I)I" } : Jvm.MethodName) prog_13_method_137_code (2 : Nat) (Option.some Jvm.ClassFile.FieldType.int)) ∈ lw_all := lw_g (lw_at lw_m11 143 rfl) rfl
theorem q2694 : (Jvm.Cond.methodLink "MailSessionsModel" (505 : Nat) ({ cls := "MailSessionsModel", name := "pendingOf", desc := "(I)I" } : Jvm.MethodName)) ∈ lw_all := lw_g (lw_at lw_m11 144 rfl) rfl
theorem q2695 : (Jvm.Cond.privateMethod ({ cls := "MailSessionsModel", name := "pendingOf", desc := "(I)I" } : Jvm.MethodName)) ∈ lw_tbl := lw_at lw_m11 145 rfl
theorem q2696 : (Jvm.Cond.instanceMethod ({ cls := "MailSessionsModel", name := "pendingOf", desc := "(I)I" } : Jvm.MethodName)) ∈ lw_all := lw_g (lw_at lw_m11 146 rfl) rfl
theorem q2697 : (Jvm.Cond.code ({ cls := "MailSessionsModel", name := "pendingOf", desc := "(I)I" } : Jvm.MethodName) prog_13_method_34_code (3 : Nat) (Option.some Jvm.ClassFile.FieldType.int)) ∈ lw_all := lw_g (lw_at lw_m11 147 rfl) rfl
theorem q2699 : (Jvm.Cond.instanceMethod ({ cls := "MailSessionsModel", name := "isCurrent", desc := "(I)Z" } : Jvm.MethodName)) ∈ lw_all := lw_g (lw_at lw_m11 149 rfl) rfl
theorem q2700 : (Jvm.Cond.selects "MailSessionsModel" ({ cls := "MailSessionsModel", name := "isCurrent", desc := "(I)Z" } : Jvm.MethodName) ({ cls := "MailSessionsModel", name := "isCurrent", desc := "(I)Z" } : Jvm.MethodName)) ∈ lw_all := lw_g (lw_at lw_m11 150 rfl) rfl
theorem q2701 : (Jvm.Cond.code ({ cls := "MailSessionsModel", name := "isCurrent", desc := "(I)Z" } : Jvm.MethodName) prog_13_method_139_code (2 : Nat) (Option.some Jvm.ClassFile.FieldType.boolean)) ∈ lw_all := lw_g (lw_at lw_m11 151 rfl) rfl
theorem q2702 : (Jvm.Cond.methodLink "MailSessionsModel" (508 : Nat) ({ cls := "MailSessionsModel", name := "isUpToDate", desc := "(I)Z" } : Jvm.MethodName)) ∈ lw_all := lw_g (lw_at lw_m11 152 rfl) rfl
theorem q2703 : (Jvm.Cond.privateMethod ({ cls := "MailSessionsModel", name := "isUpToDate", desc := "(I)Z" } : Jvm.MethodName)) ∈ lw_tbl := lw_at lw_m11 153 rfl
theorem q2704 : (Jvm.Cond.instanceMethod ({ cls := "MailSessionsModel", name := "isUpToDate", desc := "(I)Z" } : Jvm.MethodName)) ∈ lw_all := lw_g (lw_at lw_m11 154 rfl) rfl
theorem q2705 : (Jvm.Cond.code ({ cls := "MailSessionsModel", name := "isUpToDate", desc := "(I)Z" } : Jvm.MethodName) prog_13_method_138_code (2 : Nat) (Option.some Jvm.ClassFile.FieldType.boolean)) ∈ lw_all := lw_g (lw_at lw_m11 155 rfl) rfl
theorem q2707 : (Jvm.Cond.instanceMethod ({ cls := "MailSessionsModel", name := "firstUnseen", desc := "(I)I" } : Jvm.MethodName)) ∈ lw_all := lw_g (lw_at lw_m11 157 rfl) rfl
theorem q2708 : (Jvm.Cond.selects "MailSessionsModel" ({ cls := "MailSessionsModel", name := "firstUnseen", desc := "(I)I" } : Jvm.MethodName) ({ cls := "MailSessionsModel", name := "firstUnseen", desc := "(I)I" } : Jvm.MethodName)) ∈ lw_all := lw_g (lw_at lw_m11 158 rfl) rfl
theorem q2709 : (Jvm.Cond.code ({ cls := "MailSessionsModel", name := "firstUnseen", desc := "(I)I" } : Jvm.MethodName) prog_13_method_140_code (3 : Nat) (Option.some Jvm.ClassFile.FieldType.int)) ∈ lw_all := lw_g (lw_at lw_m11 159 rfl) rfl
theorem q2711 : (Jvm.Cond.instanceMethod ({ cls := "MailSessionsModel", name := "largest", desc := "(I)I" } : Jvm.MethodName)) ∈ lw_all := lw_g (lw_at lw_m11 161 rfl) rfl
theorem q2712 : (Jvm.Cond.selects "MailSessionsModel" ({ cls := "MailSessionsModel", name := "largest", desc := "(I)I" } : Jvm.MethodName) ({ cls := "MailSessionsModel", name := "largest", desc := "(I)I" } : Jvm.MethodName)) ∈ lw_all := lw_g (lw_at lw_m11 162 rfl) rfl
theorem q2713 : (Jvm.Cond.code ({ cls := "MailSessionsModel", name := "largest", desc := "(I)I" } : Jvm.MethodName) prog_13_method_141_code (6 : Nat) (Option.some Jvm.ClassFile.FieldType.int)) ∈ lw_all := lw_g (lw_at lw_m11 163 rfl) rfl
theorem q2715 : (Jvm.Cond.instanceMethod ({ cls := "MailSessionsModel", name := "common", desc := "(II)I" } : Jvm.MethodName)) ∈ lw_all := lw_g (lw_at lw_m11 165 rfl) rfl
theorem q2716 : (Jvm.Cond.selects "MailSessionsModel" ({ cls := "MailSessionsModel", name := "common", desc := "(II)I" } : Jvm.MethodName) ({ cls := "MailSessionsModel", name := "common", desc := "(II)I" } : Jvm.MethodName)) ∈ lw_all := lw_g (lw_at lw_m11 166 rfl) rfl
theorem q2717 : (Jvm.Cond.code ({ cls := "MailSessionsModel", name := "common", desc := "(II)I" } : Jvm.MethodName) prog_13_method_142_code (5 : Nat) (Option.some Jvm.ClassFile.FieldType.int)) ∈ lw_all := lw_g (lw_at lw_m11 167 rfl) rfl
theorem q2719 : (Jvm.Cond.instanceMethod ({ cls := "MailSessionsModel", name := "holders", desc := "(II)I" } : Jvm.MethodName)) ∈ lw_all := lw_g (lw_at lw_m11 169 rfl) rfl
theorem q2720 : (Jvm.Cond.selects "MailSessionsModel" ({ cls := "MailSessionsModel", name := "holders", desc := "(II)I" } : Jvm.MethodName) ({ cls := "MailSessionsModel", name := "holders", desc := "(II)I" } : Jvm.MethodName)) ∈ lw_all := lw_g (lw_at lw_m11 170 rfl) rfl
theorem q2721 : (Jvm.Cond.code ({ cls := "MailSessionsModel", name := "holders", desc := "(II)I" } : Jvm.MethodName) prog_13_method_143_code (5 : Nat) (Option.some Jvm.ClassFile.FieldType.int)) ∈ lw_all := lw_g (lw_at lw_m11 171 rfl) rfl
theorem q2723 : (Jvm.Cond.instanceMethod ({ cls := "MailSessionsModel", name := "stale", desc := "()I" } : Jvm.MethodName)) ∈ lw_all := lw_g (lw_at lw_m11 173 rfl) rfl
theorem q2724 : (Jvm.Cond.selects "MailSessionsModel" ({ cls := "MailSessionsModel", name := "stale", desc := "()I" } : Jvm.MethodName) ({ cls := "MailSessionsModel", name := "stale", desc := "()I" } : Jvm.MethodName)) ∈ lw_all := lw_g (lw_at lw_m11 174 rfl) rfl
theorem q2725 : (Jvm.Cond.code ({ cls := "MailSessionsModel", name := "stale", desc := "()I" } : Jvm.MethodName) prog_13_method_144_code (3 : Nat) (Option.some Jvm.ClassFile.FieldType.int)) ∈ lw_all := lw_g (lw_at lw_m11 175 rfl) rfl
theorem q2727 : (Jvm.Cond.instanceMethod ({ cls := "MailSessionsModel", name := "unseen", desc := "(I)F" } : Jvm.MethodName)) ∈ lw_all := lw_g (lw_at lw_m11 177 rfl) rfl
theorem q2728 : (Jvm.Cond.selects "MailSessionsModel" ({ cls := "MailSessionsModel", name := "unseen", desc := "(I)F" } : Jvm.MethodName) ({ cls := "MailSessionsModel", name := "unseen", desc := "(I)F" } : Jvm.MethodName)) ∈ lw_all := lw_g (lw_at lw_m11 178 rfl) rfl
theorem q2729 : (Jvm.Cond.code ({ cls := "MailSessionsModel", name := "unseen", desc := "(I)F" } : Jvm.MethodName) prog_13_method_145_code (2 : Nat) (Option.some Jvm.ClassFile.FieldType.float)) ∈ lw_all := lw_g (lw_at lw_m11 179 rfl) rfl
theorem q2731 : (Jvm.Cond.instanceMethod ({ cls := "MailSessionsModel", name := "mean", desc := "(I)D" } : Jvm.MethodName)) ∈ lw_all := lw_g (lw_at lw_m11 181 rfl) rfl
theorem q2732 : (Jvm.Cond.selects "MailSessionsModel" ({ cls := "MailSessionsModel", name := "mean", desc := "(I)D" } : Jvm.MethodName) ({ cls := "MailSessionsModel", name := "mean", desc := "(I)D" } : Jvm.MethodName)) ∈ lw_all := lw_g (lw_at lw_m11 182 rfl) rfl
theorem q2733 : (Jvm.Cond.code ({ cls := "MailSessionsModel", name := "mean", desc := "(I)D" } : Jvm.MethodName) prog_13_method_146_code (2 : Nat) (Option.some Jvm.ClassFile.FieldType.double)) ∈ lw_all := lw_g (lw_at lw_m11 183 rfl) rfl
theorem q2735 : (Jvm.Cond.instanceMethod ({ cls := "MailSessionsModel", name := "account", desc := "(II)I" } : Jvm.MethodName)) ∈ lw_all := lw_g (lw_at lw_m11 185 rfl) rfl
theorem q2736 : (Jvm.Cond.selects "MailSessionsModel" ({ cls := "MailSessionsModel", name := "account", desc := "(II)I" } : Jvm.MethodName) ({ cls := "MailSessionsModel", name := "account", desc := "(II)I" } : Jvm.MethodName)) ∈ lw_all := lw_g (lw_at lw_m11 186 rfl) rfl
theorem q2737 : (Jvm.Cond.code ({ cls := "MailSessionsModel", name := "account", desc := "(II)I" } : Jvm.MethodName) prog_13_method_147_code (3 : Nat) (Option.some Jvm.ClassFile.FieldType.int)) ∈ lw_all := lw_g (lw_at lw_m11 187 rfl) rfl
theorem q2739 : (Jvm.Cond.instanceMethod ({ cls := "MailSessionsModel", name := "notice", desc := "(II)I" } : Jvm.MethodName)) ∈ lw_all := lw_g (lw_at lw_m11 189 rfl) rfl
theorem q2740 : (Jvm.Cond.selects "MailSessionsModel" ({ cls := "MailSessionsModel", name := "notice", desc := "(II)I" } : Jvm.MethodName) ({ cls := "MailSessionsModel", name := "notice", desc := "(II)I" } : Jvm.MethodName)) ∈ lw_all := lw_g (lw_at lw_m11 190 rfl) rfl
theorem q2741 : (Jvm.Cond.code ({ cls := "MailSessionsModel", name := "notice", desc := "(II)I" } : Jvm.MethodName) prog_13_method_148_code (3 : Nat) (Option.some Jvm.ClassFile.FieldType.int)) ∈ lw_all := lw_g (lw_at lw_m11 191 rfl) rfl
theorem q2742 : (Jvm.Cond.constantLong "MailSessionsModel" (511 : Nat) (3 : Int64)) ∈ lw_all := lw_g (lw_at lw_m11 192 rfl) rfl
theorem q2744 : (Jvm.Cond.instanceMethod ({ cls := "MailSessionsModel", name := "keep", desc := "(I)I" } : Jvm.MethodName)) ∈ lw_all := lw_g (lw_at lw_m11 194 rfl) rfl
theorem q2745 : (Jvm.Cond.selects "MailSessionsModel" ({ cls := "MailSessionsModel", name := "keep", desc := "(I)I" } : Jvm.MethodName) ({ cls := "MailSessionsModel", name := "keep", desc := "(I)I" } : Jvm.MethodName)) ∈ lw_all := lw_g (lw_at lw_m11 195 rfl) rfl
theorem q2746 : (Jvm.Cond.code ({ cls := "MailSessionsModel", name := "keep", desc := "(I)I" } : Jvm.MethodName) prog_13_method_150_code (3 : Nat) (Option.some Jvm.ClassFile.FieldType.int)) ∈ lw_all := lw_g (lw_at lw_m11 196 rfl) rfl
theorem q2747 : (Jvm.Cond.methodLink "MailSessionsModel" (513 : Nat) ({ cls := "MailSessionsModel", name := "isSlot", desc := "(I)Z" } : Jvm.MethodName)) ∈ lw_all := lw_g (lw_at lw_m11 197 rfl) rfl
theorem q2748 : (Jvm.Cond.static ({ cls := "MailSessionsModel", name := "isSlot", desc := "(I)Z" } : Jvm.MethodName)) ∈ lw_all := lw_g (lw_at lw_m11 198 rfl) rfl
theorem q2749 : (Jvm.Cond.code ({ cls := "MailSessionsModel", name := "isSlot", desc := "(I)Z" } : Jvm.MethodName) prog_13_method_149_code (1 : Nat) (Option.some Jvm.ClassFile.FieldType.boolean)) ∈ lw_all := lw_g (lw_at lw_m11 199 rfl) rfl
theorem q2751 : (Jvm.Cond.instanceMethod ({ cls := "MailSessionsModel", name := "restore", desc := "(I)I" } : Jvm.MethodName)) ∈ lw_all := lw_g (lw_at lw_m11 201 rfl) rfl
theorem q2752 : (Jvm.Cond.selects "MailSessionsModel" ({ cls := "MailSessionsModel", name := "restore", desc := "(I)I" } : Jvm.MethodName) ({ cls := "MailSessionsModel", name := "restore", desc := "(I)I" } : Jvm.MethodName)) ∈ lw_all := lw_g (lw_at lw_m11 202 rfl) rfl
theorem q2753 : (Jvm.Cond.code ({ cls := "MailSessionsModel", name := "restore", desc := "(I)I" } : Jvm.MethodName) prog_13_method_151_code (3 : Nat) (Option.some Jvm.ClassFile.FieldType.int)) ∈ lw_all := lw_g (lw_at lw_m11 203 rfl) rfl
theorem q2755 : (Jvm.Cond.instanceMethod ({ cls := "MailSessionsModel", name := "undo", desc := "()I" } : Jvm.MethodName)) ∈ lw_all := lw_g (lw_at lw_m11 205 rfl) rfl
theorem q2756 : (Jvm.Cond.selects "MailSessionsModel" ({ cls := "MailSessionsModel", name := "undo", desc := "()I" } : Jvm.MethodName) ({ cls := "MailSessionsModel", name := "undo", desc := "()I" } : Jvm.MethodName)) ∈ lw_all := lw_g (lw_at lw_m11 206 rfl) rfl
theorem q2757 : (Jvm.Cond.code ({ cls := "MailSessionsModel", name := "undo", desc := "()I" } : Jvm.MethodName) prog_13_method_153_code (2 : Nat) (Option.some Jvm.ClassFile.FieldType.int)) ∈ lw_all := lw_g (lw_at lw_m11 207 rfl) rfl
theorem q2759 : (Jvm.Cond.instanceMethod ({ cls := "MailSessionsModel", name := "undoCount", desc := "()I" } : Jvm.MethodName)) ∈ lw_all := lw_g (lw_at lw_m11 209 rfl) rfl
theorem q2760 : (Jvm.Cond.selects "MailSessionsModel" ({ cls := "MailSessionsModel", name := "undoCount", desc := "()I" } : Jvm.MethodName) ({ cls := "MailSessionsModel", name := "undoCount", desc := "()I" } : Jvm.MethodName)) ∈ lw_all := lw_g (lw_at lw_m11 210 rfl) rfl
theorem q2761 : (Jvm.Cond.code ({ cls := "MailSessionsModel", name := "undoCount", desc := "()I" } : Jvm.MethodName) prog_13_method_154_code (1 : Nat) (Option.some Jvm.ClassFile.FieldType.int)) ∈ lw_all := lw_g (lw_at lw_m11 211 rfl) rfl
theorem q2763 : (Jvm.Cond.instanceMethod ({ cls := "MailSessionsModel", name := "writeBox", desc := "(I)I" } : Jvm.MethodName)) ∈ lw_all := lw_g (lw_at lw_m11 213 rfl) rfl
theorem q2764 : (Jvm.Cond.selects "MailSessionsModel" ({ cls := "MailSessionsModel", name := "writeBox", desc := "(I)I" } : Jvm.MethodName) ({ cls := "MailSessionsModel", name := "writeBox", desc := "(I)I" } : Jvm.MethodName)) ∈ lw_all := lw_g (lw_at lw_m11 214 rfl) rfl
theorem q2765 : (Jvm.Cond.code ({ cls := "MailSessionsModel", name := "writeBox", desc := "(I)I" } : Jvm.MethodName) prog_13_method_159_code (3 : Nat) (Option.some Jvm.ClassFile.FieldType.int)) ∈ lw_all := lw_g (lw_at lw_m11 215 rfl) rfl
theorem q2766 : (Jvm.Cond.methodLink "MailSessionsModel" (525 : Nat) ({ cls := "MailSessionsModel", name := "writeGap", desc := "()V" } : Jvm.MethodName)) ∈ lw_all := lw_g (lw_at lw_m11 216 rfl) rfl
theorem q2767 : (Jvm.Cond.privateMethod ({ cls := "MailSessionsModel", name := "writeGap", desc := "()V" } : Jvm.MethodName)) ∈ lw_tbl := lw_at lw_m11 217 rfl
theorem q2768 : (Jvm.Cond.instanceMethod ({ cls := "MailSessionsModel", name := "writeGap", desc := "()V" } : Jvm.MethodName)) ∈ lw_all := lw_g (lw_at lw_m11 218 rfl) rfl
theorem q2769 : (Jvm.Cond.code ({ cls := "MailSessionsModel", name := "writeGap", desc := "()V" } : Jvm.MethodName) prog_13_method_158_code (1 : Nat) (Option.none : Option Jvm.ClassFile.FieldType)) ∈ lw_all := lw_g (lw_at lw_m11 219 rfl) rfl
theorem q2770 : (Jvm.Cond.methodLink "MailSessionsModel" (522 : Nat) ({ cls := "MailSessionsModel", name := "write", desc := "(I)V" } : Jvm.MethodName)) ∈ lw_all := lw_g (lw_at lw_m11 220 rfl) rfl
theorem q2771 : (Jvm.Cond.privateMethod ({ cls := "MailSessionsModel", name := "write", desc := "(I)V" } : Jvm.MethodName)) ∈ lw_tbl := lw_at lw_m11 221 rfl
theorem q2772 : (Jvm.Cond.instanceMethod ({ cls := "MailSessionsModel", name := "write", desc := "(I)V" } : Jvm.MethodName)) ∈ lw_all := lw_g (lw_at lw_m11 222 rfl) rfl
theorem q2773 : (Jvm.Cond.code ({ cls := "MailSessionsModel", name := "write", desc := "(I)V" } : Jvm.MethodName) prog_13_method_155_code (2 : Nat) (Option.none : Option Jvm.ClassFile.FieldType)) ∈ lw_all := lw_g (lw_at lw_m11 223 rfl) rfl
theorem q2774 : (Jvm.Cond.methodLink "MailSessionsModel" (528 : Nat) ({ cls := "MailSessionsModel", name := "writeNumber", desc := "(I)V" } : Jvm.MethodName)) ∈ lw_all := lw_g (lw_at lw_m11 224 rfl) rfl
theorem q2775 : (Jvm.Cond.privateMethod ({ cls := "MailSessionsModel", name := "writeNumber", desc := "(I)V" } : Jvm.MethodName)) ∈ lw_tbl := lw_at lw_m11 225 rfl
theorem q2776 : (Jvm.Cond.instanceMethod ({ cls := "MailSessionsModel", name := "writeNumber", desc := "(I)V" } : Jvm.MethodName)) ∈ lw_all := lw_g (lw_at lw_m11 226 rfl) rfl
theorem q2777 : (Jvm.Cond.code ({ cls := "MailSessionsModel", name := "writeNumber", desc := "(I)V" } : Jvm.MethodName) prog_13_method_156_code (4 : Nat) (Option.none : Option Jvm.ClassFile.FieldType)) ∈ lw_all := lw_g (lw_at lw_m11 227 rfl) rfl
theorem q2778 : (Jvm.Cond.methodLink "MailSessionsModel" (531 : Nat) ({ cls := "MailSessionsModel", name := "writeFlags", desc := "(I)V" } : Jvm.MethodName)) ∈ lw_all := lw_g (lw_at lw_m11 228 rfl) rfl
theorem q2779 : (Jvm.Cond.privateMethod ({ cls := "MailSessionsModel", name := "writeFlags", desc := "(I)V" } : Jvm.MethodName)) ∈ lw_tbl := lw_at lw_m11 229 rfl
theorem q2780 : (Jvm.Cond.instanceMethod ({ cls := "MailSessionsModel", name := "writeFlags", desc := "(I)V" } : Jvm.MethodName)) ∈ lw_all := lw_g (lw_at lw_m11 230 rfl) rfl
theorem q2781 : (Jvm.Cond.code ({ cls := "MailSessionsModel", name := "writeFlags", desc := "(I)V" } : Jvm.MethodName) prog_13_method_157_code (2 : Nat) (Option.none : Option Jvm.ClassFile.FieldType)) ∈ lw_all := lw_g (lw_at lw_m11 231 rfl) rfl
theorem q2783 : (Jvm.Cond.instanceMethod ({ cls := "MailSessionsModel", name := "writeView", desc := "(I)I" } : Jvm.MethodName)) ∈ lw_all := lw_g (lw_at lw_m11 233 rfl) rfl
theorem q2784 : (Jvm.Cond.selects "MailSessionsModel" ({ cls := "MailSessionsModel", name := "writeView", desc := "(I)I" } : Jvm.MethodName) ({ cls := "MailSessionsModel", name := "writeView", desc := "(I)I" } : Jvm.MethodName)) ∈ lw_all := lw_g (lw_at lw_m11 234 rfl) rfl
theorem q2785 : (Jvm.Cond.code ({ cls := "MailSessionsModel", name := "writeView", desc := "(I)I" } : Jvm.MethodName) prog_13_method_160_code (3 : Nat) (Option.some Jvm.ClassFile.FieldType.int)) ∈ lw_all := lw_g (lw_at lw_m11 235 rfl) rfl
theorem q2787 : (Jvm.Cond.instanceMethod ({ cls := "MailSessionsModel", name := "writeNotices", desc := "()I" } : Jvm.MethodName)) ∈ lw_all := lw_g (lw_at lw_m11 237 rfl) rfl
theorem q2788 : (Jvm.Cond.selects "MailSessionsModel" ({ cls := "MailSessionsModel", name := "writeNotices", desc := "()I" } : Jvm.MethodName) ({ cls := "MailSessionsModel", name := "writeNotices", desc := "()I" } : Jvm.MethodName)) ∈ lw_all := lw_g (lw_at lw_m11 238 rfl) rfl
theorem q2789 : (Jvm.Cond.code ({ cls := "MailSessionsModel", name := "writeNotices", desc := "()I" } : Jvm.MethodName) prog_13_method_161_code (3 : Nat) (Option.some Jvm.ClassFile.FieldType.int)) ∈ lw_all := lw_g (lw_at lw_m11 239 rfl) rfl
theorem q2791 : (Jvm.Cond.instanceMethod ({ cls := "MailSessionsModel", name := "outputByte", desc := "(I)I" } : Jvm.MethodName)) ∈ lw_all := lw_g (lw_at lw_m12 1 rfl) rfl
theorem q2792 : (Jvm.Cond.selects "MailSessionsModel" ({ cls := "MailSessionsModel", name := "outputByte", desc := "(I)I" } : Jvm.MethodName) ({ cls := "MailSessionsModel", name := "outputByte", desc := "(I)I" } : Jvm.MethodName)) ∈ lw_all := lw_g (lw_at lw_m12 2 rfl) rfl
theorem q2793 : (Jvm.Cond.code ({ cls := "MailSessionsModel", name := "outputByte", desc := "(I)I" } : Jvm.MethodName) prog_13_method_162_code (2 : Nat) (Option.some Jvm.ClassFile.FieldType.int)) ∈ lw_all := lw_g (lw_at lw_m12 3 rfl) rfl
theorem q2818 : (Jvm.Cond.castable "MailSessionsModel" "java/lang/Object") ∈ lw_tbl := lw_at lw_m12 28 rfl
theorem in_X3 : ∀ w ∈ wsX30, w ∈ lw_all := lw_in wsX30 [2072, 2074, 2076, 2078, 2080, 2082, 2084, 2086, 2088, 2090, 2092, 2094, 2096, 2098, 2100, 2102, 2104, 2106, 2108, 2110, 2112, 2114, 2116, 2118, 2120, 2122, 2124, 2126] (by decide +kernel) (by decide +kernel)
