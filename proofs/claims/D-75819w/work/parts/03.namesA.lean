/-! MailSessions -/
set_option maxRecDepth 100000
def RX1 : String := "MailSessions"
def TX1 : u_T := fun k => match k with
  | 0 => ("MailSessions", "server", "LMailSessions$Server;", false)
  | 1 => ("MailSessions", "history", "Ljava/util/ArrayDeque;", true)
  | 2 => ("MailSessions", "slots", "[LMailSessions$Server;", true)
  | 3 => ("MailSessions", "notices", "Ljava/util/ArrayList;", false)
  | 4 => ("MailSessions", "input", "[B", true)
  | 5 => ("MailSessions", "inputLength", "I", false)
  | 6 => ("MailSessions", "errorCode", "I", false)
  | 7 => ("MailSessions", "errorPosition", "I", false)
  | _ => ("MailSessions", "output", "Ljava/lang/StringBuilder;", true)
def tyX1 : Nat → FieldType := fun k => match k with
  | 0 => .object "MailSessions$Server"
  | 1 => .object "java/util/ArrayDeque"
  | 2 => .array (.object "MailSessions$Server")
  | 3 => .object "java/util/ArrayList"
  | 4 => .array .byte
  | 5 => .int
  | 6 => .int
  | 7 => .int
  | _ => .object "java/lang/StringBuilder"
abbrev wsX10 : List Cond := u_ws RX1 TX1 9
theorem nmX1 : ∀ a, a < 9 → ∀ b, b < 9 → a ≠ b → (TX1 a).2.1 ≠ (TX1 b).2.1 := by decide +kernel
theorem tyX1_ok : ∀ k, k < 9 → parseFieldDescriptor (TX1 k).2.2.1 = some (tyX1 k) := by decide +kernel
abbrev cX1_init : ByteArray := prog_1_method_14_code
def yX1_init : MethodName := ⟨RX1, "<init>", "()V"⟩
def dkwX1_init_3 : List UInt8 := [177]
abbrev dktX1_init_3 : List UInt8 := dkwX1_init_3 ++ []
def dkwX1_init_2 : List UInt8 := [17, 2, 188, 188, 8, 181, 0, 68, 42, 2, 181, 0, 72, 42, 187, 0, 76, 89, 183, 0, 78, 181, 0, 79]
abbrev dktX1_init_2 : List UInt8 := dkwX1_init_2 ++ dktX1_init_3
def dkwX1_init_1 : List UInt8 := [181, 0, 53, 42, 5, 189, 0, 41, 181, 0, 57, 42, 187, 0, 61, 89, 183, 0, 63, 181, 0, 64, 42]
abbrev dktX1_init_1 : List UInt8 := dkwX1_init_1 ++ dktX1_init_2
def dkwX1_init_0 : List UInt8 := [42, 183, 0, 38, 42, 187, 0, 41, 89, 183, 0, 43, 181, 0, 44, 42, 187, 0, 50, 89, 183, 0, 52]
abbrev dktX1_init_0 : List UInt8 := dkwX1_init_0 ++ dktX1_init_1
theorem dksX1_init_0 : cX1_init.data.toList.drop 0 = dktX1_init_0 := by decide +kernel
theorem dksX1_init_1 : cX1_init.data.toList.drop 23 = dktX1_init_1 := dk_seg dksX1_init_0 23 rfl rfl
theorem dksX1_init_2 : cX1_init.data.toList.drop 46 = dktX1_init_2 := dk_seg dksX1_init_1 23 rfl rfl
theorem dksX1_init_3 : cX1_init.data.toList.drop 70 = dktX1_init_3 := dk_seg dksX1_init_2 24 rfl rfl
theorem dX1_init_0 : decode cX1_init 0 = .ok (.aload_n 0, 1) := dk_42 (dk_at dksX1_init_0 0 rfl rfl)
theorem dX1_init_1 : decode cX1_init 1 = .ok (.invokespecial 38, 3) := dk_183 0 38 (dk_at dksX1_init_0 1 rfl rfl)
theorem dX1_init_4 : decode cX1_init 4 = .ok (.aload_n 0, 1) := dk_42 (dk_at dksX1_init_0 4 rfl rfl)
theorem dX1_init_5 : decode cX1_init 5 = .ok (.new 41, 3) := dk_187 0 41 (dk_at dksX1_init_0 5 rfl rfl)
theorem dX1_init_8 : decode cX1_init 8 = .ok (.dup, 1) := dk_89 (dk_at dksX1_init_0 8 rfl rfl)
theorem dX1_init_9 : decode cX1_init 9 = .ok (.invokespecial 43, 3) := dk_183 0 43 (dk_at dksX1_init_0 9 rfl rfl)
theorem dX1_init_12 : decode cX1_init 12 = .ok (.putfield 44, 3) := dk_181 0 44 (dk_at dksX1_init_0 12 rfl rfl)
theorem dX1_init_15 : decode cX1_init 15 = .ok (.aload_n 0, 1) := dk_42 (dk_at dksX1_init_0 15 rfl rfl)
theorem dX1_init_16 : decode cX1_init 16 = .ok (.new 50, 3) := dk_187 0 50 (dk_at dksX1_init_0 16 rfl rfl)
theorem dX1_init_19 : decode cX1_init 19 = .ok (.dup, 1) := dk_89 (dk_at dksX1_init_0 19 rfl rfl)
theorem dX1_init_20 : decode cX1_init 20 = .ok (.invokespecial 52, 3) := dk_183 0 52 (dk_at dksX1_init_0 20 rfl rfl)
theorem dX1_init_23 : decode cX1_init 23 = .ok (.putfield 53, 3) := dk_181 0 53 (dk_at dksX1_init_1 0 rfl rfl)
theorem dX1_init_26 : decode cX1_init 26 = .ok (.aload_n 0, 1) := dk_42 (dk_at dksX1_init_1 3 rfl rfl)
theorem dX1_init_27 : decode cX1_init 27 = .ok (.iconst 2, 1) := dk_5 (dk_at dksX1_init_1 4 rfl rfl)
theorem dX1_init_28 : decode cX1_init 28 = .ok (.anewarray 41, 3) := dk_189 0 41 (dk_at dksX1_init_1 5 rfl rfl)
theorem dX1_init_31 : decode cX1_init 31 = .ok (.putfield 57, 3) := dk_181 0 57 (dk_at dksX1_init_1 8 rfl rfl)
theorem dX1_init_34 : decode cX1_init 34 = .ok (.aload_n 0, 1) := dk_42 (dk_at dksX1_init_1 11 rfl rfl)
theorem dX1_init_35 : decode cX1_init 35 = .ok (.new 61, 3) := dk_187 0 61 (dk_at dksX1_init_1 12 rfl rfl)
theorem dX1_init_38 : decode cX1_init 38 = .ok (.dup, 1) := dk_89 (dk_at dksX1_init_1 15 rfl rfl)
theorem dX1_init_39 : decode cX1_init 39 = .ok (.invokespecial 63, 3) := dk_183 0 63 (dk_at dksX1_init_1 16 rfl rfl)
theorem dX1_init_42 : decode cX1_init 42 = .ok (.putfield 64, 3) := dk_181 0 64 (dk_at dksX1_init_1 19 rfl rfl)
theorem dX1_init_45 : decode cX1_init 45 = .ok (.aload_n 0, 1) := dk_42 (dk_at dksX1_init_1 22 rfl rfl)
theorem dX1_init_46 : decode cX1_init 46 = .ok (.sipush 700, 3) := dk_17 2 188 (dk_at dksX1_init_2 0 rfl rfl)
theorem dX1_init_49 : decode cX1_init 49 = .ok (.newarray .byte, 2) := dk_188_8 (dk_at dksX1_init_2 3 rfl rfl)
theorem dX1_init_51 : decode cX1_init 51 = .ok (.putfield 68, 3) := dk_181 0 68 (dk_at dksX1_init_2 5 rfl rfl)
theorem dX1_init_54 : decode cX1_init 54 = .ok (.aload_n 0, 1) := dk_42 (dk_at dksX1_init_2 8 rfl rfl)
theorem dX1_init_55 : decode cX1_init 55 = .ok (.iconst (-1), 1) := dk_2 (dk_at dksX1_init_2 9 rfl rfl)
theorem dX1_init_56 : decode cX1_init 56 = .ok (.putfield 72, 3) := dk_181 0 72 (dk_at dksX1_init_2 10 rfl rfl)
theorem dX1_init_59 : decode cX1_init 59 = .ok (.aload_n 0, 1) := dk_42 (dk_at dksX1_init_2 13 rfl rfl)
theorem dX1_init_60 : decode cX1_init 60 = .ok (.new 76, 3) := dk_187 0 76 (dk_at dksX1_init_2 14 rfl rfl)
theorem dX1_init_63 : decode cX1_init 63 = .ok (.dup, 1) := dk_89 (dk_at dksX1_init_2 17 rfl rfl)
theorem dX1_init_64 : decode cX1_init 64 = .ok (.invokespecial 78, 3) := dk_183 0 78 (dk_at dksX1_init_2 18 rfl rfl)
theorem dX1_init_67 : decode cX1_init 67 = .ok (.putfield 79, 3) := dk_181 0 79 (dk_at dksX1_init_2 21 rfl rfl)
theorem dX1_init_70 : decode cX1_init 70 = .ok (.return_, 1) := dk_177 (dk_at dksX1_init_3 0 rfl rfl)
abbrev cX1_load : ByteArray := prog_1_method_22_code
def yX1_load : MethodName := ⟨RX1, "load", "()I"⟩
def dkwX1_load_2 : List UInt8 := [181, 0, 83, 28, 172, 78, 42, 3, 181, 0, 83, 45, 191]
abbrev dktX1_load_2 : List UInt8 := dkwX1_load_2 ++ []
def dkwX1_load_1 : List UInt8 := [182, 0, 142, 60, 42, 3, 181, 0, 83, 27, 172, 76, 42, 43, 182, 0, 145, 16, 252, 61, 42, 3]
abbrev dktX1_load_1 : List UInt8 := dkwX1_load_1 ++ dktX1_load_2
def dkwX1_load_0 : List UInt8 := [42, 182, 0, 130, 42, 187, 0, 133, 89, 42, 183, 0, 135, 182, 0, 138, 182, 0, 116, 42, 180, 0, 44]
abbrev dktX1_load_0 : List UInt8 := dkwX1_load_0 ++ dktX1_load_1
theorem dksX1_load_0 : cX1_load.data.toList.drop 0 = dktX1_load_0 := by decide +kernel
theorem dksX1_load_1 : cX1_load.data.toList.drop 23 = dktX1_load_1 := dk_seg dksX1_load_0 23 rfl rfl
theorem dksX1_load_2 : cX1_load.data.toList.drop 45 = dktX1_load_2 := dk_seg dksX1_load_1 22 rfl rfl
theorem dX1_load_0 : decode cX1_load 0 = .ok (.aload_n 0, 1) := dk_42 (dk_at dksX1_load_0 0 rfl rfl)
theorem dX1_load_1 : decode cX1_load 1 = .ok (.invokevirtual 130, 3) := dk_182 0 130 (dk_at dksX1_load_0 1 rfl rfl)
theorem dX1_load_4 : decode cX1_load 4 = .ok (.aload_n 0, 1) := dk_42 (dk_at dksX1_load_0 4 rfl rfl)
theorem dX1_load_5 : decode cX1_load 5 = .ok (.new 133, 3) := dk_187 0 133 (dk_at dksX1_load_0 5 rfl rfl)
theorem dX1_load_8 : decode cX1_load 8 = .ok (.dup, 1) := dk_89 (dk_at dksX1_load_0 8 rfl rfl)
theorem dX1_load_9 : decode cX1_load 9 = .ok (.aload_n 0, 1) := dk_42 (dk_at dksX1_load_0 9 rfl rfl)
theorem dX1_load_10 : decode cX1_load 10 = .ok (.invokespecial 135, 3) := dk_183 0 135 (dk_at dksX1_load_0 10 rfl rfl)
theorem dX1_load_13 : decode cX1_load 13 = .ok (.invokevirtual 138, 3) := dk_182 0 138 (dk_at dksX1_load_0 13 rfl rfl)
theorem dX1_load_16 : decode cX1_load 16 = .ok (.invokevirtual 116, 3) := dk_182 0 116 (dk_at dksX1_load_0 16 rfl rfl)
theorem dX1_load_19 : decode cX1_load 19 = .ok (.aload_n 0, 1) := dk_42 (dk_at dksX1_load_0 19 rfl rfl)
theorem dX1_load_20 : decode cX1_load 20 = .ok (.getfield 44, 3) := dk_180 0 44 (dk_at dksX1_load_0 20 rfl rfl)
theorem dX1_load_23 : decode cX1_load 23 = .ok (.invokevirtual 142, 3) := dk_182 0 142 (dk_at dksX1_load_1 0 rfl rfl)
theorem dX1_load_26 : decode cX1_load 26 = .ok (.istore_n 1, 1) := dk_60 (dk_at dksX1_load_1 3 rfl rfl)
theorem dX1_load_27 : decode cX1_load 27 = .ok (.aload_n 0, 1) := dk_42 (dk_at dksX1_load_1 4 rfl rfl)
theorem dX1_load_28 : decode cX1_load 28 = .ok (.iconst 0, 1) := dk_3 (dk_at dksX1_load_1 5 rfl rfl)
theorem dX1_load_29 : decode cX1_load 29 = .ok (.putfield 83, 3) := dk_181 0 83 (dk_at dksX1_load_1 6 rfl rfl)
theorem dX1_load_32 : decode cX1_load 32 = .ok (.iload_n 1, 1) := dk_27 (dk_at dksX1_load_1 9 rfl rfl)
theorem dX1_load_33 : decode cX1_load 33 = .ok (.ireturn, 1) := dk_172 (dk_at dksX1_load_1 10 rfl rfl)
theorem dX1_load_34 : decode cX1_load 34 = .ok (.astore_n 1, 1) := dk_76 (dk_at dksX1_load_1 11 rfl rfl)
theorem dX1_load_35 : decode cX1_load 35 = .ok (.aload_n 0, 1) := dk_42 (dk_at dksX1_load_1 12 rfl rfl)
theorem dX1_load_36 : decode cX1_load 36 = .ok (.aload_n 1, 1) := dk_43 (dk_at dksX1_load_1 13 rfl rfl)
theorem dX1_load_37 : decode cX1_load 37 = .ok (.invokevirtual 145, 3) := dk_182 0 145 (dk_at dksX1_load_1 14 rfl rfl)
theorem dX1_load_40 : decode cX1_load 40 = .ok (.bipush (-4), 2) := dk_16 252 (dk_at dksX1_load_1 17 rfl rfl)
theorem dX1_load_42 : decode cX1_load 42 = .ok (.istore_n 2, 1) := dk_61 (dk_at dksX1_load_1 19 rfl rfl)
theorem dX1_load_43 : decode cX1_load 43 = .ok (.aload_n 0, 1) := dk_42 (dk_at dksX1_load_1 20 rfl rfl)
theorem dX1_load_44 : decode cX1_load 44 = .ok (.iconst 0, 1) := dk_3 (dk_at dksX1_load_1 21 rfl rfl)
theorem dX1_load_45 : decode cX1_load 45 = .ok (.putfield 83, 3) := dk_181 0 83 (dk_at dksX1_load_2 0 rfl rfl)
theorem dX1_load_48 : decode cX1_load 48 = .ok (.iload_n 2, 1) := dk_28 (dk_at dksX1_load_2 3 rfl rfl)
theorem dX1_load_49 : decode cX1_load 49 = .ok (.ireturn, 1) := dk_172 (dk_at dksX1_load_2 4 rfl rfl)
theorem dX1_load_50 : decode cX1_load 50 = .ok (.astore_n 3, 1) := dk_78 (dk_at dksX1_load_2 5 rfl rfl)
theorem dX1_load_51 : decode cX1_load 51 = .ok (.aload_n 0, 1) := dk_42 (dk_at dksX1_load_2 6 rfl rfl)
theorem dX1_load_52 : decode cX1_load 52 = .ok (.iconst 0, 1) := dk_3 (dk_at dksX1_load_2 7 rfl rfl)
theorem dX1_load_53 : decode cX1_load 53 = .ok (.putfield 83, 3) := dk_181 0 83 (dk_at dksX1_load_2 8 rfl rfl)
theorem dX1_load_56 : decode cX1_load 56 = .ok (.aload_n 3, 1) := dk_45 (dk_at dksX1_load_2 11 rfl rfl)
theorem dX1_load_57 : decode cX1_load 57 = .ok (.athrow, 1) := dk_191 (dk_at dksX1_load_2 12 rfl rfl)
abbrev cX1_noError : ByteArray := prog_1_method_20_code
def yX1_noError : MethodName := ⟨RX1, "noError", "()V"⟩
def dkwX1_noError_0 : List UInt8 := [42, 3, 181, 0, 119, 42, 2, 181, 0, 72, 177]
abbrev dktX1_noError_0 : List UInt8 := dkwX1_noError_0 ++ []
theorem dksX1_noError_0 : cX1_noError.data.toList.drop 0 = dktX1_noError_0 := by decide +kernel
theorem dX1_noError_0 : decode cX1_noError 0 = .ok (.aload_n 0, 1) := dk_42 (dk_at dksX1_noError_0 0 rfl rfl)
theorem dX1_noError_1 : decode cX1_noError 1 = .ok (.iconst 0, 1) := dk_3 (dk_at dksX1_noError_0 1 rfl rfl)
theorem dX1_noError_2 : decode cX1_noError 2 = .ok (.putfield 119, 3) := dk_181 0 119 (dk_at dksX1_noError_0 2 rfl rfl)
theorem dX1_noError_5 : decode cX1_noError 5 = .ok (.aload_n 0, 1) := dk_42 (dk_at dksX1_noError_0 5 rfl rfl)
theorem dX1_noError_6 : decode cX1_noError 6 = .ok (.iconst (-1), 1) := dk_2 (dk_at dksX1_noError_0 6 rfl rfl)
theorem dX1_noError_7 : decode cX1_noError 7 = .ok (.putfield 72, 3) := dk_181 0 72 (dk_at dksX1_noError_0 7 rfl rfl)
theorem dX1_noError_10 : decode cX1_noError 10 = .ok (.return_, 1) := dk_177 (dk_at dksX1_noError_0 10 rfl rfl)
abbrev cX1_inRange : ByteArray := prog_1_method_1_code
def yX1_inRange : MethodName := ⟨RX1, "inRange", "(JJJ)Z"⟩
def dkwX1_inRange_0 : List UInt8 := [30, 32, 148, 155, 0, 14, 30, 22, 4, 148, 157, 0, 7, 4, 167, 0, 4, 3, 172]
abbrev dktX1_inRange_0 : List UInt8 := dkwX1_inRange_0 ++ []
theorem dksX1_inRange_0 : cX1_inRange.data.toList.drop 0 = dktX1_inRange_0 := by decide +kernel
theorem dX1_inRange_0 : decode cX1_inRange 0 = .ok (.lload_n 0, 1) := dk_30 (dk_at dksX1_inRange_0 0 rfl rfl)
theorem dX1_inRange_1 : decode cX1_inRange 1 = .ok (.lload_n 2, 1) := dk_32 (dk_at dksX1_inRange_0 1 rfl rfl)
theorem dX1_inRange_2 : decode cX1_inRange 2 = .ok (.lcmp, 1) := dk_148 (dk_at dksX1_inRange_0 2 rfl rfl)
theorem dX1_inRange_3 : decode cX1_inRange 3 = .ok (.ifCond .lt 14, 3) := dk_155 0 14 (dk_at dksX1_inRange_0 3 rfl rfl)
theorem dX1_inRange_6 : decode cX1_inRange 6 = .ok (.lload_n 0, 1) := dk_30 (dk_at dksX1_inRange_0 6 rfl rfl)
theorem dX1_inRange_7 : decode cX1_inRange 7 = .ok (.lload 4, 2) := dk_22 4 (dk_at dksX1_inRange_0 7 rfl rfl)
theorem dX1_inRange_9 : decode cX1_inRange 9 = .ok (.lcmp, 1) := dk_148 (dk_at dksX1_inRange_0 9 rfl rfl)
theorem dX1_inRange_10 : decode cX1_inRange 10 = .ok (.ifCond .gt 7, 3) := dk_157 0 7 (dk_at dksX1_inRange_0 10 rfl rfl)
theorem dX1_inRange_13 : decode cX1_inRange 13 = .ok (.iconst 1, 1) := dk_4 (dk_at dksX1_inRange_0 13 rfl rfl)
theorem dX1_inRange_14 : decode cX1_inRange 14 = .ok (.goto 4, 3) := dk_167 0 4 (dk_at dksX1_inRange_0 14 rfl rfl)
theorem dX1_inRange_17 : decode cX1_inRange 17 = .ok (.iconst 0, 1) := dk_3 (dk_at dksX1_inRange_0 17 rfl rfl)
theorem dX1_inRange_18 : decode cX1_inRange 18 = .ok (.ireturn, 1) := dk_172 (dk_at dksX1_inRange_0 18 rfl rfl)
abbrev cX1_has : ByteArray := prog_1_method_6_code
def yX1_has : MethodName := ⟨RX1, "has", "(II)Z"⟩
def dkwX1_has_0 : List UInt8 := [26, 27, 122, 4, 126, 4, 160, 0, 7, 4, 167, 0, 4, 3, 172]
abbrev dktX1_has_0 : List UInt8 := dkwX1_has_0 ++ []
theorem dksX1_has_0 : cX1_has.data.toList.drop 0 = dktX1_has_0 := by decide +kernel
theorem dX1_has_0 : decode cX1_has 0 = .ok (.iload_n 0, 1) := dk_26 (dk_at dksX1_has_0 0 rfl rfl)
theorem dX1_has_1 : decode cX1_has 1 = .ok (.iload_n 1, 1) := dk_27 (dk_at dksX1_has_0 1 rfl rfl)
theorem dX1_has_2 : decode cX1_has 2 = .ok (.ishr, 1) := dk_122 (dk_at dksX1_has_0 2 rfl rfl)
theorem dX1_has_3 : decode cX1_has 3 = .ok (.iconst 1, 1) := dk_4 (dk_at dksX1_has_0 3 rfl rfl)
theorem dX1_has_4 : decode cX1_has 4 = .ok (.iand, 1) := dk_126 (dk_at dksX1_has_0 4 rfl rfl)
theorem dX1_has_5 : decode cX1_has 5 = .ok (.iconst 1, 1) := dk_4 (dk_at dksX1_has_0 5 rfl rfl)
theorem dX1_has_6 : decode cX1_has 6 = .ok (.if_icmp .ne 7, 3) := dk_160 0 7 (dk_at dksX1_has_0 6 rfl rfl)
theorem dX1_has_9 : decode cX1_has 9 = .ok (.iconst 1, 1) := dk_4 (dk_at dksX1_has_0 9 rfl rfl)
theorem dX1_has_10 : decode cX1_has 10 = .ok (.goto 4, 3) := dk_167 0 4 (dk_at dksX1_has_0 10 rfl rfl)
theorem dX1_has_13 : decode cX1_has 13 = .ok (.iconst 0, 1) := dk_3 (dk_at dksX1_has_0 13 rfl rfl)
theorem dX1_has_14 : decode cX1_has 14 = .ok (.ireturn, 1) := dk_172 (dk_at dksX1_has_0 14 rfl rfl)
abbrev cX1_become : ByteArray := prog_1_method_18_code
def yX1_become : MethodName := ⟨RX1, "become", "(LMailSessions$Server;)V"⟩
def dkwX1_become_1 : List UInt8 := [42, 180, 0, 44, 182, 0, 109, 42, 43, 181, 0, 44, 42, 187, 0, 61, 89, 183, 0, 63, 181, 0, 64, 177]
abbrev dktX1_become_1 : List UInt8 := dkwX1_become_1 ++ []
def dkwX1_become_0 : List UInt8 := [42, 180, 0, 53, 182, 0, 101, 16, 6, 160, 0, 11, 42, 180, 0, 53, 182, 0, 105, 87, 42, 180, 0, 53]
abbrev dktX1_become_0 : List UInt8 := dkwX1_become_0 ++ dktX1_become_1
theorem dksX1_become_0 : cX1_become.data.toList.drop 0 = dktX1_become_0 := by decide +kernel
theorem dksX1_become_1 : cX1_become.data.toList.drop 24 = dktX1_become_1 := dk_seg dksX1_become_0 24 rfl rfl
theorem dX1_become_0 : decode cX1_become 0 = .ok (.aload_n 0, 1) := dk_42 (dk_at dksX1_become_0 0 rfl rfl)
theorem dX1_become_1 : decode cX1_become 1 = .ok (.getfield 53, 3) := dk_180 0 53 (dk_at dksX1_become_0 1 rfl rfl)
theorem dX1_become_4 : decode cX1_become 4 = .ok (.invokevirtual 101, 3) := dk_182 0 101 (dk_at dksX1_become_0 4 rfl rfl)
theorem dX1_become_7 : decode cX1_become 7 = .ok (.bipush 6, 2) := dk_16 6 (dk_at dksX1_become_0 7 rfl rfl)
theorem dX1_become_9 : decode cX1_become 9 = .ok (.if_icmp .ne 11, 3) := dk_160 0 11 (dk_at dksX1_become_0 9 rfl rfl)
theorem dX1_become_12 : decode cX1_become 12 = .ok (.aload_n 0, 1) := dk_42 (dk_at dksX1_become_0 12 rfl rfl)
theorem dX1_become_13 : decode cX1_become 13 = .ok (.getfield 53, 3) := dk_180 0 53 (dk_at dksX1_become_0 13 rfl rfl)
theorem dX1_become_16 : decode cX1_become 16 = .ok (.invokevirtual 105, 3) := dk_182 0 105 (dk_at dksX1_become_0 16 rfl rfl)
theorem dX1_become_19 : decode cX1_become 19 = .ok (.pop, 1) := dk_87 (dk_at dksX1_become_0 19 rfl rfl)
theorem dX1_become_20 : decode cX1_become 20 = .ok (.aload_n 0, 1) := dk_42 (dk_at dksX1_become_0 20 rfl rfl)
theorem dX1_become_21 : decode cX1_become 21 = .ok (.getfield 53, 3) := dk_180 0 53 (dk_at dksX1_become_0 21 rfl rfl)
theorem dX1_become_24 : decode cX1_become 24 = .ok (.aload_n 0, 1) := dk_42 (dk_at dksX1_become_1 0 rfl rfl)
theorem dX1_become_25 : decode cX1_become 25 = .ok (.getfield 44, 3) := dk_180 0 44 (dk_at dksX1_become_1 1 rfl rfl)
theorem dX1_become_28 : decode cX1_become 28 = .ok (.invokevirtual 109, 3) := dk_182 0 109 (dk_at dksX1_become_1 4 rfl rfl)
theorem dX1_become_31 : decode cX1_become 31 = .ok (.aload_n 0, 1) := dk_42 (dk_at dksX1_become_1 7 rfl rfl)
theorem dX1_become_32 : decode cX1_become 32 = .ok (.aload_n 1, 1) := dk_43 (dk_at dksX1_become_1 8 rfl rfl)
theorem dX1_become_33 : decode cX1_become 33 = .ok (.putfield 44, 3) := dk_181 0 44 (dk_at dksX1_become_1 9 rfl rfl)
theorem dX1_become_36 : decode cX1_become 36 = .ok (.aload_n 0, 1) := dk_42 (dk_at dksX1_become_1 12 rfl rfl)
theorem dX1_become_37 : decode cX1_become 37 = .ok (.new 61, 3) := dk_187 0 61 (dk_at dksX1_become_1 13 rfl rfl)
theorem dX1_become_40 : decode cX1_become 40 = .ok (.dup, 1) := dk_89 (dk_at dksX1_become_1 16 rfl rfl)
theorem dX1_become_41 : decode cX1_become 41 = .ok (.invokespecial 63, 3) := dk_183 0 63 (dk_at dksX1_become_1 17 rfl rfl)
theorem dX1_become_44 : decode cX1_become 44 = .ok (.putfield 64, 3) := dk_181 0 64 (dk_at dksX1_become_1 20 rfl rfl)
theorem dX1_become_47 : decode cX1_become 47 = .ok (.return_, 1) := dk_177 (dk_at dksX1_become_1 23 rfl rfl)
abbrev cX1_error : ByteArray := prog_1_method_21_code
def yX1_error : MethodName := ⟨RX1, "error", "(LMailSessions$ParseError;)V"⟩
def dkwX1_error_0 : List UInt8 := [42, 43, 180, 0, 122, 181, 0, 119, 42, 43, 180, 0, 127, 181, 0, 72, 177]
abbrev dktX1_error_0 : List UInt8 := dkwX1_error_0 ++ []
theorem dksX1_error_0 : cX1_error.data.toList.drop 0 = dktX1_error_0 := by decide +kernel
theorem dX1_error_0 : decode cX1_error 0 = .ok (.aload_n 0, 1) := dk_42 (dk_at dksX1_error_0 0 rfl rfl)
theorem dX1_error_1 : decode cX1_error 1 = .ok (.aload_n 1, 1) := dk_43 (dk_at dksX1_error_0 1 rfl rfl)
theorem dX1_error_2 : decode cX1_error 2 = .ok (.getfield 122, 3) := dk_180 0 122 (dk_at dksX1_error_0 2 rfl rfl)
theorem dX1_error_5 : decode cX1_error 5 = .ok (.putfield 119, 3) := dk_181 0 119 (dk_at dksX1_error_0 5 rfl rfl)
theorem dX1_error_8 : decode cX1_error 8 = .ok (.aload_n 0, 1) := dk_42 (dk_at dksX1_error_0 8 rfl rfl)
theorem dX1_error_9 : decode cX1_error 9 = .ok (.aload_n 1, 1) := dk_43 (dk_at dksX1_error_0 9 rfl rfl)
theorem dX1_error_10 : decode cX1_error 10 = .ok (.getfield 127, 3) := dk_180 0 127 (dk_at dksX1_error_0 10 rfl rfl)
theorem dX1_error_13 : decode cX1_error 13 = .ok (.putfield 72, 3) := dk_181 0 72 (dk_at dksX1_error_0 13 rfl rfl)
theorem dX1_error_16 : decode cX1_error 16 = .ok (.return_, 1) := dk_177 (dk_at dksX1_error_0 16 rfl rfl)
abbrev cX1_errorCode : ByteArray := prog_1_method_24_code
def yX1_errorCode : MethodName := ⟨RX1, "errorCode", "()I"⟩
theorem dX1_errorCode_0 : decode cX1_errorCode 0 = .ok (.aload_n 0, 1) := by decide +kernel
theorem dX1_errorCode_1 : decode cX1_errorCode 1 = .ok (.getfield 119, 3) := by decide +kernel
theorem dX1_errorCode_4 : decode cX1_errorCode 4 = .ok (.ireturn, 1) := by decide +kernel
abbrev cX1_errorPosition : ByteArray := prog_1_method_25_code
def yX1_errorPosition : MethodName := ⟨RX1, "errorPosition", "()I"⟩
theorem dX1_errorPosition_0 : decode cX1_errorPosition 0 = .ok (.aload_n 0, 1) := by decide +kernel
theorem dX1_errorPosition_1 : decode cX1_errorPosition 1 = .ok (.getfield 72, 3) := by decide +kernel
theorem dX1_errorPosition_4 : decode cX1_errorPosition 4 = .ok (.ireturn, 1) := by decide +kernel
abbrev cX1_findBox : ByteArray := prog_1_method_27_code
def yX1_findBox : MethodName := ⟨RX1, "findBox", "()I"⟩
def dkwX1_findBox_0 : List UInt8 := [42, 180, 0, 44, 42, 182, 0, 161, 182, 0, 164, 172]
abbrev dktX1_findBox_0 : List UInt8 := dkwX1_findBox_0 ++ []
theorem dksX1_findBox_0 : cX1_findBox.data.toList.drop 0 = dktX1_findBox_0 := by decide +kernel
theorem dX1_findBox_0 : decode cX1_findBox 0 = .ok (.aload_n 0, 1) := dk_42 (dk_at dksX1_findBox_0 0 rfl rfl)
theorem dX1_findBox_1 : decode cX1_findBox 1 = .ok (.getfield 44, 3) := dk_180 0 44 (dk_at dksX1_findBox_0 1 rfl rfl)
theorem dX1_findBox_4 : decode cX1_findBox 4 = .ok (.aload_n 0, 1) := dk_42 (dk_at dksX1_findBox_0 4 rfl rfl)
theorem dX1_findBox_5 : decode cX1_findBox 5 = .ok (.invokevirtual 161, 3) := dk_182 0 161 (dk_at dksX1_findBox_0 5 rfl rfl)
theorem dX1_findBox_8 : decode cX1_findBox 8 = .ok (.invokevirtual 164, 3) := dk_182 0 164 (dk_at dksX1_findBox_0 8 rfl rfl)
theorem dX1_findBox_11 : decode cX1_findBox 11 = .ok (.ireturn, 1) := dk_172 (dk_at dksX1_findBox_0 11 rfl rfl)
abbrev cX1_takeName : ByteArray := prog_1_method_26_code
def yX1_takeName : MethodName := ⟨RX1, "takeName", "()Ljava/lang/String;"⟩
def dkwX1_takeName_2 : List UInt8 := [182, 0, 157, 176]
abbrev dktX1_takeName_2 : List UInt8 := dkwX1_takeName_2 ++ []
def dkwX1_takeName_1 : List UInt8 := [51, 17, 0, 255, 126, 146, 182, 0, 153, 87, 132, 2, 1, 167, 255, 229, 42, 3, 181, 0, 83, 43]
abbrev dktX1_takeName_1 : List UInt8 := dkwX1_takeName_1 ++ dktX1_takeName_2
def dkwX1_takeName_0 : List UInt8 := [187, 0, 76, 89, 183, 0, 78, 76, 3, 61, 28, 42, 180, 0, 83, 162, 0, 25, 43, 42, 180, 0, 68, 28]
abbrev dktX1_takeName_0 : List UInt8 := dkwX1_takeName_0 ++ dktX1_takeName_1
theorem dksX1_takeName_0 : cX1_takeName.data.toList.drop 0 = dktX1_takeName_0 := by decide +kernel
theorem dksX1_takeName_1 : cX1_takeName.data.toList.drop 24 = dktX1_takeName_1 := dk_seg dksX1_takeName_0 24 rfl rfl
theorem dksX1_takeName_2 : cX1_takeName.data.toList.drop 46 = dktX1_takeName_2 := dk_seg dksX1_takeName_1 22 rfl rfl
theorem dX1_takeName_0 : decode cX1_takeName 0 = .ok (.new 76, 3) := dk_187 0 76 (dk_at dksX1_takeName_0 0 rfl rfl)
theorem dX1_takeName_3 : decode cX1_takeName 3 = .ok (.dup, 1) := dk_89 (dk_at dksX1_takeName_0 3 rfl rfl)
theorem dX1_takeName_4 : decode cX1_takeName 4 = .ok (.invokespecial 78, 3) := dk_183 0 78 (dk_at dksX1_takeName_0 4 rfl rfl)
theorem dX1_takeName_7 : decode cX1_takeName 7 = .ok (.astore_n 1, 1) := dk_76 (dk_at dksX1_takeName_0 7 rfl rfl)
theorem dX1_takeName_8 : decode cX1_takeName 8 = .ok (.iconst 0, 1) := dk_3 (dk_at dksX1_takeName_0 8 rfl rfl)
theorem dX1_takeName_9 : decode cX1_takeName 9 = .ok (.istore_n 2, 1) := dk_61 (dk_at dksX1_takeName_0 9 rfl rfl)
theorem dX1_takeName_10 : decode cX1_takeName 10 = .ok (.iload_n 2, 1) := dk_28 (dk_at dksX1_takeName_0 10 rfl rfl)
theorem dX1_takeName_11 : decode cX1_takeName 11 = .ok (.aload_n 0, 1) := dk_42 (dk_at dksX1_takeName_0 11 rfl rfl)
theorem dX1_takeName_12 : decode cX1_takeName 12 = .ok (.getfield 83, 3) := dk_180 0 83 (dk_at dksX1_takeName_0 12 rfl rfl)
theorem dX1_takeName_15 : decode cX1_takeName 15 = .ok (.if_icmp .ge 25, 3) := dk_162 0 25 (dk_at dksX1_takeName_0 15 rfl rfl)
theorem dX1_takeName_18 : decode cX1_takeName 18 = .ok (.aload_n 1, 1) := dk_43 (dk_at dksX1_takeName_0 18 rfl rfl)
theorem dX1_takeName_19 : decode cX1_takeName 19 = .ok (.aload_n 0, 1) := dk_42 (dk_at dksX1_takeName_0 19 rfl rfl)
theorem dX1_takeName_20 : decode cX1_takeName 20 = .ok (.getfield 68, 3) := dk_180 0 68 (dk_at dksX1_takeName_0 20 rfl rfl)
theorem dX1_takeName_23 : decode cX1_takeName 23 = .ok (.iload_n 2, 1) := dk_28 (dk_at dksX1_takeName_0 23 rfl rfl)
theorem dX1_takeName_24 : decode cX1_takeName 24 = .ok (.baload, 1) := dk_51 (dk_at dksX1_takeName_1 0 rfl rfl)
theorem dX1_takeName_25 : decode cX1_takeName 25 = .ok (.sipush 255, 3) := dk_17 0 255 (dk_at dksX1_takeName_1 1 rfl rfl)
theorem dX1_takeName_28 : decode cX1_takeName 28 = .ok (.iand, 1) := dk_126 (dk_at dksX1_takeName_1 4 rfl rfl)
theorem dX1_takeName_29 : decode cX1_takeName 29 = .ok (.i2c, 1) := dk_146 (dk_at dksX1_takeName_1 5 rfl rfl)
theorem dX1_takeName_30 : decode cX1_takeName 30 = .ok (.invokevirtual 153, 3) := dk_182 0 153 (dk_at dksX1_takeName_1 6 rfl rfl)
theorem dX1_takeName_33 : decode cX1_takeName 33 = .ok (.pop, 1) := dk_87 (dk_at dksX1_takeName_1 9 rfl rfl)
theorem dX1_takeName_34 : decode cX1_takeName 34 = .ok (.iinc 2 1, 3) := dk_132 2 1 (dk_at dksX1_takeName_1 10 rfl rfl)
theorem dX1_takeName_37 : decode cX1_takeName 37 = .ok (.goto (-27), 3) := dk_167 255 229 (dk_at dksX1_takeName_1 13 rfl rfl)
theorem dX1_takeName_40 : decode cX1_takeName 40 = .ok (.aload_n 0, 1) := dk_42 (dk_at dksX1_takeName_1 16 rfl rfl)
theorem dX1_takeName_41 : decode cX1_takeName 41 = .ok (.iconst 0, 1) := dk_3 (dk_at dksX1_takeName_1 17 rfl rfl)
theorem dX1_takeName_42 : decode cX1_takeName 42 = .ok (.putfield 83, 3) := dk_181 0 83 (dk_at dksX1_takeName_1 18 rfl rfl)
theorem dX1_takeName_45 : decode cX1_takeName 45 = .ok (.aload_n 1, 1) := dk_43 (dk_at dksX1_takeName_1 21 rfl rfl)
theorem dX1_takeName_46 : decode cX1_takeName 46 = .ok (.invokevirtual 157, 3) := dk_182 0 157 (dk_at dksX1_takeName_2 0 rfl rfl)
theorem dX1_takeName_49 : decode cX1_takeName 49 = .ok (.areturn, 1) := dk_176 (dk_at dksX1_takeName_2 3 rfl rfl)
abbrev cX1_findSession : ByteArray := prog_1_method_28_code
def yX1_findSession : MethodName := ⟨RX1, "findSession", "()I"⟩
def dkwX1_findSession_0 : List UInt8 := [42, 180, 0, 44, 42, 182, 0, 161, 182, 0, 168, 172]
abbrev dktX1_findSession_0 : List UInt8 := dkwX1_findSession_0 ++ []
theorem dksX1_findSession_0 : cX1_findSession.data.toList.drop 0 = dktX1_findSession_0 := by decide +kernel
theorem dX1_findSession_0 : decode cX1_findSession 0 = .ok (.aload_n 0, 1) := dk_42 (dk_at dksX1_findSession_0 0 rfl rfl)
theorem dX1_findSession_1 : decode cX1_findSession 1 = .ok (.getfield 44, 3) := dk_180 0 44 (dk_at dksX1_findSession_0 1 rfl rfl)
theorem dX1_findSession_4 : decode cX1_findSession 4 = .ok (.aload_n 0, 1) := dk_42 (dk_at dksX1_findSession_0 4 rfl rfl)
theorem dX1_findSession_5 : decode cX1_findSession 5 = .ok (.invokevirtual 161, 3) := dk_182 0 161 (dk_at dksX1_findSession_0 5 rfl rfl)
theorem dX1_findSession_8 : decode cX1_findSession 8 = .ok (.invokevirtual 168, 3) := dk_182 0 168 (dk_at dksX1_findSession_0 8 rfl rfl)
theorem dX1_findSession_11 : decode cX1_findSession 11 = .ok (.ireturn, 1) := dk_172 (dk_at dksX1_findSession_0 11 rfl rfl)
abbrev cX1_stale : ByteArray := prog_1_method_49_code
def yX1_stale : MethodName := ⟨RX1, "stale", "()I"⟩
def dkwX1_stale_2 : List UInt8 := [182, 1, 36, 154, 0, 9, 4, 28, 120, 167, 0, 4, 3, 128, 60, 132, 2, 1, 167, 255, 198, 27, 172]
abbrev dktX1_stale_2 : List UInt8 := dkwX1_stale_2 ++ []
def dkwX1_stale_1 : List UInt8 := [180, 0, 177, 28, 182, 0, 186, 192, 0, 192, 78, 27, 45, 180, 0, 194, 2, 159, 0, 17, 42, 45]
abbrev dktX1_stale_1 : List UInt8 := dkwX1_stale_1 ++ dktX1_stale_2
def dkwX1_stale_0 : List UInt8 := [3, 60, 3, 61, 28, 42, 180, 0, 44, 180, 0, 177, 182, 0, 176, 162, 0, 50, 42, 180, 0, 44]
abbrev dktX1_stale_0 : List UInt8 := dkwX1_stale_0 ++ dktX1_stale_1
theorem dksX1_stale_0 : cX1_stale.data.toList.drop 0 = dktX1_stale_0 := by decide +kernel
theorem dksX1_stale_1 : cX1_stale.data.toList.drop 22 = dktX1_stale_1 := dk_seg dksX1_stale_0 22 rfl rfl
theorem dksX1_stale_2 : cX1_stale.data.toList.drop 44 = dktX1_stale_2 := dk_seg dksX1_stale_1 22 rfl rfl
theorem dX1_stale_0 : decode cX1_stale 0 = .ok (.iconst 0, 1) := dk_3 (dk_at dksX1_stale_0 0 rfl rfl)
theorem dX1_stale_1 : decode cX1_stale 1 = .ok (.istore_n 1, 1) := dk_60 (dk_at dksX1_stale_0 1 rfl rfl)
theorem dX1_stale_2 : decode cX1_stale 2 = .ok (.iconst 0, 1) := dk_3 (dk_at dksX1_stale_0 2 rfl rfl)
theorem dX1_stale_3 : decode cX1_stale 3 = .ok (.istore_n 2, 1) := dk_61 (dk_at dksX1_stale_0 3 rfl rfl)
theorem dX1_stale_4 : decode cX1_stale 4 = .ok (.iload_n 2, 1) := dk_28 (dk_at dksX1_stale_0 4 rfl rfl)
theorem dX1_stale_5 : decode cX1_stale 5 = .ok (.aload_n 0, 1) := dk_42 (dk_at dksX1_stale_0 5 rfl rfl)
theorem dX1_stale_6 : decode cX1_stale 6 = .ok (.getfield 44, 3) := dk_180 0 44 (dk_at dksX1_stale_0 6 rfl rfl)
theorem dX1_stale_9 : decode cX1_stale 9 = .ok (.getfield 177, 3) := dk_180 0 177 (dk_at dksX1_stale_0 9 rfl rfl)
theorem dX1_stale_12 : decode cX1_stale 12 = .ok (.invokevirtual 176, 3) := dk_182 0 176 (dk_at dksX1_stale_0 12 rfl rfl)
theorem dX1_stale_15 : decode cX1_stale 15 = .ok (.if_icmp .ge 50, 3) := dk_162 0 50 (dk_at dksX1_stale_0 15 rfl rfl)
theorem dX1_stale_18 : decode cX1_stale 18 = .ok (.aload_n 0, 1) := dk_42 (dk_at dksX1_stale_0 18 rfl rfl)
theorem dX1_stale_19 : decode cX1_stale 19 = .ok (.getfield 44, 3) := dk_180 0 44 (dk_at dksX1_stale_0 19 rfl rfl)
theorem dX1_stale_22 : decode cX1_stale 22 = .ok (.getfield 177, 3) := dk_180 0 177 (dk_at dksX1_stale_1 0 rfl rfl)
theorem dX1_stale_25 : decode cX1_stale 25 = .ok (.iload_n 2, 1) := dk_28 (dk_at dksX1_stale_1 3 rfl rfl)
theorem dX1_stale_26 : decode cX1_stale 26 = .ok (.invokevirtual 186, 3) := dk_182 0 186 (dk_at dksX1_stale_1 4 rfl rfl)
theorem dX1_stale_29 : decode cX1_stale 29 = .ok (.checkcast 192, 3) := dk_192 0 192 (dk_at dksX1_stale_1 7 rfl rfl)
theorem dX1_stale_32 : decode cX1_stale 32 = .ok (.astore_n 3, 1) := dk_78 (dk_at dksX1_stale_1 10 rfl rfl)
theorem dX1_stale_33 : decode cX1_stale 33 = .ok (.iload_n 1, 1) := dk_27 (dk_at dksX1_stale_1 11 rfl rfl)
theorem dX1_stale_34 : decode cX1_stale 34 = .ok (.aload_n 3, 1) := dk_45 (dk_at dksX1_stale_1 12 rfl rfl)
theorem dX1_stale_35 : decode cX1_stale 35 = .ok (.getfield 194, 3) := dk_180 0 194 (dk_at dksX1_stale_1 13 rfl rfl)
theorem dX1_stale_38 : decode cX1_stale 38 = .ok (.iconst (-1), 1) := dk_2 (dk_at dksX1_stale_1 16 rfl rfl)
theorem dX1_stale_39 : decode cX1_stale 39 = .ok (.if_icmp .eq 17, 3) := dk_159 0 17 (dk_at dksX1_stale_1 17 rfl rfl)
theorem dX1_stale_42 : decode cX1_stale 42 = .ok (.aload_n 0, 1) := dk_42 (dk_at dksX1_stale_1 20 rfl rfl)
theorem dX1_stale_43 : decode cX1_stale 43 = .ok (.aload_n 3, 1) := dk_45 (dk_at dksX1_stale_1 21 rfl rfl)
theorem dX1_stale_44 : decode cX1_stale 44 = .ok (.invokevirtual 292, 3) := dk_182 1 36 (dk_at dksX1_stale_2 0 rfl rfl)
theorem dX1_stale_47 : decode cX1_stale 47 = .ok (.ifCond .ne 9, 3) := dk_154 0 9 (dk_at dksX1_stale_2 3 rfl rfl)
theorem dX1_stale_50 : decode cX1_stale 50 = .ok (.iconst 1, 1) := dk_4 (dk_at dksX1_stale_2 6 rfl rfl)
theorem dX1_stale_51 : decode cX1_stale 51 = .ok (.iload_n 2, 1) := dk_28 (dk_at dksX1_stale_2 7 rfl rfl)
theorem dX1_stale_52 : decode cX1_stale 52 = .ok (.ishl, 1) := dk_120 (dk_at dksX1_stale_2 8 rfl rfl)
theorem dX1_stale_53 : decode cX1_stale 53 = .ok (.goto 4, 3) := dk_167 0 4 (dk_at dksX1_stale_2 9 rfl rfl)
theorem dX1_stale_56 : decode cX1_stale 56 = .ok (.iconst 0, 1) := dk_3 (dk_at dksX1_stale_2 12 rfl rfl)
theorem dX1_stale_57 : decode cX1_stale 57 = .ok (.ior, 1) := dk_128 (dk_at dksX1_stale_2 13 rfl rfl)
theorem dX1_stale_58 : decode cX1_stale 58 = .ok (.istore_n 1, 1) := dk_60 (dk_at dksX1_stale_2 14 rfl rfl)
theorem dX1_stale_59 : decode cX1_stale 59 = .ok (.iinc 2 1, 3) := dk_132 2 1 (dk_at dksX1_stale_2 15 rfl rfl)
theorem dX1_stale_62 : decode cX1_stale 62 = .ok (.goto (-58), 3) := dk_167 255 198 (dk_at dksX1_stale_2 18 rfl rfl)
theorem dX1_stale_65 : decode cX1_stale 65 = .ok (.iload_n 1, 1) := dk_27 (dk_at dksX1_stale_2 21 rfl rfl)
theorem dX1_stale_66 : decode cX1_stale 66 = .ok (.ireturn, 1) := dk_172 (dk_at dksX1_stale_2 22 rfl rfl)
abbrev cX1_isTold : ByteArray := prog_1_method_43_code
def yX1_isTold : MethodName := ⟨RX1, "isTold", "(LMailSessions$Session;)Z"⟩
def dkwX1_isTold_1 : List UInt8 := [172]
abbrev dktX1_isTold_1 : List UInt8 := dkwX1_isTold_1 ++ []
def dkwX1_isTold_0 : List UInt8 := [43, 180, 0, 194, 2, 159, 0, 18, 42, 180, 0, 44, 43, 182, 1, 33, 154, 0, 7, 4, 167, 0, 4, 3]
abbrev dktX1_isTold_0 : List UInt8 := dkwX1_isTold_0 ++ dktX1_isTold_1
theorem dksX1_isTold_0 : cX1_isTold.data.toList.drop 0 = dktX1_isTold_0 := by decide +kernel
theorem dksX1_isTold_1 : cX1_isTold.data.toList.drop 24 = dktX1_isTold_1 := dk_seg dksX1_isTold_0 24 rfl rfl
theorem dX1_isTold_0 : decode cX1_isTold 0 = .ok (.aload_n 1, 1) := dk_43 (dk_at dksX1_isTold_0 0 rfl rfl)
theorem dX1_isTold_1 : decode cX1_isTold 1 = .ok (.getfield 194, 3) := dk_180 0 194 (dk_at dksX1_isTold_0 1 rfl rfl)
theorem dX1_isTold_4 : decode cX1_isTold 4 = .ok (.iconst (-1), 1) := dk_2 (dk_at dksX1_isTold_0 4 rfl rfl)
theorem dX1_isTold_5 : decode cX1_isTold 5 = .ok (.if_icmp .eq 18, 3) := dk_159 0 18 (dk_at dksX1_isTold_0 5 rfl rfl)
theorem dX1_isTold_8 : decode cX1_isTold 8 = .ok (.aload_n 0, 1) := dk_42 (dk_at dksX1_isTold_0 8 rfl rfl)
theorem dX1_isTold_9 : decode cX1_isTold 9 = .ok (.getfield 44, 3) := dk_180 0 44 (dk_at dksX1_isTold_0 9 rfl rfl)
theorem dX1_isTold_12 : decode cX1_isTold 12 = .ok (.aload_n 1, 1) := dk_43 (dk_at dksX1_isTold_0 12 rfl rfl)
theorem dX1_isTold_13 : decode cX1_isTold 13 = .ok (.invokevirtual 289, 3) := dk_182 1 33 (dk_at dksX1_isTold_0 13 rfl rfl)
theorem dX1_isTold_16 : decode cX1_isTold 16 = .ok (.ifCond .ne 7, 3) := dk_154 0 7 (dk_at dksX1_isTold_0 16 rfl rfl)
theorem dX1_isTold_19 : decode cX1_isTold 19 = .ok (.iconst 1, 1) := dk_4 (dk_at dksX1_isTold_0 19 rfl rfl)
theorem dX1_isTold_20 : decode cX1_isTold 20 = .ok (.goto 4, 3) := dk_167 0 4 (dk_at dksX1_isTold_0 20 rfl rfl)
theorem dX1_isTold_23 : decode cX1_isTold 23 = .ok (.iconst 0, 1) := dk_3 (dk_at dksX1_isTold_0 23 rfl rfl)
theorem dX1_isTold_24 : decode cX1_isTold 24 = .ok (.ireturn, 1) := dk_172 (dk_at dksX1_isTold_1 0 rfl rfl)
abbrev cX1_count : ByteArray := prog_1_method_7_code
def yX1_count : MethodName := ⟨RX1, "count", "(Z)I"⟩
def dkwX1_count_0 : List UInt8 := [26, 153, 0, 7, 4, 167, 0, 4, 3, 172]
abbrev dktX1_count_0 : List UInt8 := dkwX1_count_0 ++ []
theorem dksX1_count_0 : cX1_count.data.toList.drop 0 = dktX1_count_0 := by decide +kernel
theorem dX1_count_0 : decode cX1_count 0 = .ok (.iload_n 0, 1) := dk_26 (dk_at dksX1_count_0 0 rfl rfl)
theorem dX1_count_1 : decode cX1_count 1 = .ok (.ifCond .eq 7, 3) := dk_153 0 7 (dk_at dksX1_count_0 1 rfl rfl)
theorem dX1_count_4 : decode cX1_count 4 = .ok (.iconst 1, 1) := dk_4 (dk_at dksX1_count_0 4 rfl rfl)
theorem dX1_count_5 : decode cX1_count 5 = .ok (.goto 4, 3) := dk_167 0 4 (dk_at dksX1_count_0 5 rfl rfl)
theorem dX1_count_8 : decode cX1_count 8 = .ok (.iconst 0, 1) := dk_3 (dk_at dksX1_count_0 8 rfl rfl)
theorem dX1_count_9 : decode cX1_count 9 = .ok (.ireturn, 1) := dk_172 (dk_at dksX1_count_0 9 rfl rfl)
abbrev cX1_named : ByteArray := prog_1_method_12_code
def yX1_named : MethodName := ⟨RX1, "named", "(II)LMailSessions$Test;"⟩
def dkwX1_named_0 : List UInt8 := [26, 27, 186, 0, 27, 0, 0, 176]
abbrev dktX1_named_0 : List UInt8 := dkwX1_named_0 ++ []
theorem dksX1_named_0 : cX1_named.data.toList.drop 0 = dktX1_named_0 := by decide +kernel
theorem dX1_named_0 : decode cX1_named 0 = .ok (.iload_n 0, 1) := dk_26 (dk_at dksX1_named_0 0 rfl rfl)
theorem dX1_named_1 : decode cX1_named 1 = .ok (.iload_n 1, 1) := dk_27 (dk_at dksX1_named_0 1 rfl rfl)
theorem dX1_named_2 : decode cX1_named 2 = .ok (.invokedynamic 27, 5) := by decide +kernel
theorem dX1_named_7 : decode cX1_named 7 = .ok (.areturn, 1) := dk_176 (dk_at dksX1_named_0 7 rfl rfl)
abbrev cX1_lambda_named_4 : ByteArray := prog_1_method_94_code
def yX1_lambda_named_4 : MethodName := ⟨RX1, "lambda$named$4", "(IILMailSessions$Message;)Z"⟩
def dkwX1_lambda_named_4_0 : List UInt8 := [44, 180, 0, 229, 133, 26, 133, 27, 133, 184, 0, 94, 172]
abbrev dktX1_lambda_named_4_0 : List UInt8 := dkwX1_lambda_named_4_0 ++ []
theorem dksX1_lambda_named_4_0 : cX1_lambda_named_4.data.toList.drop 0 = dktX1_lambda_named_4_0 := by decide +kernel
theorem dX1_lambda_named_4_0 : decode cX1_lambda_named_4 0 = .ok (.aload_n 2, 1) := dk_44 (dk_at dksX1_lambda_named_4_0 0 rfl rfl)
theorem dX1_lambda_named_4_1 : decode cX1_lambda_named_4 1 = .ok (.getfield 229, 3) := dk_180 0 229 (dk_at dksX1_lambda_named_4_0 1 rfl rfl)
theorem dX1_lambda_named_4_4 : decode cX1_lambda_named_4 4 = .ok (.i2l, 1) := dk_133 (dk_at dksX1_lambda_named_4_0 4 rfl rfl)
theorem dX1_lambda_named_4_5 : decode cX1_lambda_named_4 5 = .ok (.iload_n 0, 1) := dk_26 (dk_at dksX1_lambda_named_4_0 5 rfl rfl)
theorem dX1_lambda_named_4_6 : decode cX1_lambda_named_4 6 = .ok (.i2l, 1) := dk_133 (dk_at dksX1_lambda_named_4_0 6 rfl rfl)
theorem dX1_lambda_named_4_7 : decode cX1_lambda_named_4 7 = .ok (.iload_n 1, 1) := dk_27 (dk_at dksX1_lambda_named_4_0 7 rfl rfl)
theorem dX1_lambda_named_4_8 : decode cX1_lambda_named_4 8 = .ok (.i2l, 1) := dk_133 (dk_at dksX1_lambda_named_4_0 8 rfl rfl)
theorem dX1_lambda_named_4_9 : decode cX1_lambda_named_4 9 = .ok (.invokestatic 94, 3) := dk_184 0 94 (dk_at dksX1_lambda_named_4_0 9 rfl rfl)
theorem dX1_lambda_named_4_12 : decode cX1_lambda_named_4 12 = .ok (.ireturn, 1) := dk_172 (dk_at dksX1_lambda_named_4_0 12 rfl rfl)
abbrev cX1_undoCount : ByteArray := prog_1_method_83_code
def yX1_undoCount : MethodName := ⟨RX1, "undoCount", "()I"⟩
def dkwX1_undoCount_0 : List UInt8 := [42, 180, 0, 53, 182, 0, 101, 172]
abbrev dktX1_undoCount_0 : List UInt8 := dkwX1_undoCount_0 ++ []
theorem dksX1_undoCount_0 : cX1_undoCount.data.toList.drop 0 = dktX1_undoCount_0 := by decide +kernel
theorem dX1_undoCount_0 : decode cX1_undoCount 0 = .ok (.aload_n 0, 1) := dk_42 (dk_at dksX1_undoCount_0 0 rfl rfl)
theorem dX1_undoCount_1 : decode cX1_undoCount 1 = .ok (.getfield 53, 3) := dk_180 0 53 (dk_at dksX1_undoCount_0 1 rfl rfl)
theorem dX1_undoCount_4 : decode cX1_undoCount 4 = .ok (.invokevirtual 101, 3) := dk_182 0 101 (dk_at dksX1_undoCount_0 4 rfl rfl)
theorem dX1_undoCount_7 : decode cX1_undoCount 7 = .ok (.ireturn, 1) := dk_172 (dk_at dksX1_undoCount_0 7 rfl rfl)
abbrev cX1_writeNotices : ByteArray := prog_1_method_88_code
def yX1_writeNotices : MethodName := ⟨RX1, "writeNotices", "()I"⟩
def dkwX1_writeNotices_5 : List UInt8 := [167, 255, 151, 42, 180, 0, 79, 182, 1, 170, 172]
abbrev dktX1_writeNotices_5 : List UInt8 := dkwX1_writeNotices_5 ++ []
def dkwX1_writeNotices_4 : List UInt8 := [160, 0, 13, 42, 180, 0, 79, 16, 58, 182, 0, 153, 87, 42, 44, 180, 1, 202, 182, 1, 190, 132, 1, 1]
abbrev dktX1_writeNotices_4 : List UInt8 := dkwX1_writeNotices_4 ++ dktX1_writeNotices_5
def dkwX1_writeNotices_3 : List UInt8 := [16, 61, 167, 0, 5, 16, 43, 182, 0, 153, 44, 180, 1, 199, 182, 1, 187, 87, 44, 180, 1, 196, 4]
abbrev dktX1_writeNotices_3 : List UInt8 := dkwX1_writeNotices_3 ++ dktX1_writeNotices_4
def dkwX1_writeNotices_2 : List UInt8 := [182, 1, 187, 44, 180, 1, 196, 154, 0, 8, 16, 45, 167, 0, 18, 44, 180, 1, 196, 4, 160, 0, 8]
abbrev dktX1_writeNotices_2 : List UInt8 := dkwX1_writeNotices_2 ++ dktX1_writeNotices_3
def dkwX1_writeNotices_1 : List UInt8 := [180, 0, 64, 27, 182, 0, 186, 192, 1, 56, 77, 42, 182, 1, 184, 42, 180, 0, 79, 44, 180, 1, 193]
abbrev dktX1_writeNotices_1 : List UInt8 := dkwX1_writeNotices_1 ++ dktX1_writeNotices_2
def dkwX1_writeNotices_0 : List UInt8 := [42, 180, 0, 79, 3, 182, 1, 181, 3, 60, 27, 42, 180, 0, 64, 182, 0, 176, 162, 0, 100, 42]
abbrev dktX1_writeNotices_0 : List UInt8 := dkwX1_writeNotices_0 ++ dktX1_writeNotices_1
theorem dksX1_writeNotices_0 : cX1_writeNotices.data.toList.drop 0 = dktX1_writeNotices_0 := by decide +kernel
theorem dksX1_writeNotices_1 : cX1_writeNotices.data.toList.drop 22 = dktX1_writeNotices_1 := dk_seg dksX1_writeNotices_0 22 rfl rfl
theorem dksX1_writeNotices_2 : cX1_writeNotices.data.toList.drop 45 = dktX1_writeNotices_2 := dk_seg dksX1_writeNotices_1 23 rfl rfl
theorem dksX1_writeNotices_3 : cX1_writeNotices.data.toList.drop 68 = dktX1_writeNotices_3 := dk_seg dksX1_writeNotices_2 23 rfl rfl
theorem dksX1_writeNotices_4 : cX1_writeNotices.data.toList.drop 91 = dktX1_writeNotices_4 := dk_seg dksX1_writeNotices_3 23 rfl rfl
theorem dksX1_writeNotices_5 : cX1_writeNotices.data.toList.drop 115 = dktX1_writeNotices_5 := dk_seg dksX1_writeNotices_4 24 rfl rfl
theorem dX1_writeNotices_0 : decode cX1_writeNotices 0 = .ok (.aload_n 0, 1) := dk_42 (dk_at dksX1_writeNotices_0 0 rfl rfl)
theorem dX1_writeNotices_1 : decode cX1_writeNotices 1 = .ok (.getfield 79, 3) := dk_180 0 79 (dk_at dksX1_writeNotices_0 1 rfl rfl)
theorem dX1_writeNotices_4 : decode cX1_writeNotices 4 = .ok (.iconst 0, 1) := dk_3 (dk_at dksX1_writeNotices_0 4 rfl rfl)
theorem dX1_writeNotices_5 : decode cX1_writeNotices 5 = .ok (.invokevirtual 437, 3) := dk_182 1 181 (dk_at dksX1_writeNotices_0 5 rfl rfl)
theorem dX1_writeNotices_8 : decode cX1_writeNotices 8 = .ok (.iconst 0, 1) := dk_3 (dk_at dksX1_writeNotices_0 8 rfl rfl)
theorem dX1_writeNotices_9 : decode cX1_writeNotices 9 = .ok (.istore_n 1, 1) := dk_60 (dk_at dksX1_writeNotices_0 9 rfl rfl)
theorem dX1_writeNotices_10 : decode cX1_writeNotices 10 = .ok (.iload_n 1, 1) := dk_27 (dk_at dksX1_writeNotices_0 10 rfl rfl)
theorem dX1_writeNotices_11 : decode cX1_writeNotices 11 = .ok (.aload_n 0, 1) := dk_42 (dk_at dksX1_writeNotices_0 11 rfl rfl)
theorem dX1_writeNotices_12 : decode cX1_writeNotices 12 = .ok (.getfield 64, 3) := dk_180 0 64 (dk_at dksX1_writeNotices_0 12 rfl rfl)
theorem dX1_writeNotices_15 : decode cX1_writeNotices 15 = .ok (.invokevirtual 176, 3) := dk_182 0 176 (dk_at dksX1_writeNotices_0 15 rfl rfl)
theorem dX1_writeNotices_18 : decode cX1_writeNotices 18 = .ok (.if_icmp .ge 100, 3) := dk_162 0 100 (dk_at dksX1_writeNotices_0 18 rfl rfl)
theorem dX1_writeNotices_21 : decode cX1_writeNotices 21 = .ok (.aload_n 0, 1) := dk_42 (dk_at dksX1_writeNotices_0 21 rfl rfl)
theorem dX1_writeNotices_22 : decode cX1_writeNotices 22 = .ok (.getfield 64, 3) := dk_180 0 64 (dk_at dksX1_writeNotices_1 0 rfl rfl)
theorem dX1_writeNotices_25 : decode cX1_writeNotices 25 = .ok (.iload_n 1, 1) := dk_27 (dk_at dksX1_writeNotices_1 3 rfl rfl)
theorem dX1_writeNotices_26 : decode cX1_writeNotices 26 = .ok (.invokevirtual 186, 3) := dk_182 0 186 (dk_at dksX1_writeNotices_1 4 rfl rfl)
theorem dX1_writeNotices_29 : decode cX1_writeNotices 29 = .ok (.checkcast 312, 3) := dk_192 1 56 (dk_at dksX1_writeNotices_1 7 rfl rfl)
theorem dX1_writeNotices_32 : decode cX1_writeNotices 32 = .ok (.astore_n 2, 1) := dk_77 (dk_at dksX1_writeNotices_1 10 rfl rfl)
theorem dX1_writeNotices_33 : decode cX1_writeNotices 33 = .ok (.aload_n 0, 1) := dk_42 (dk_at dksX1_writeNotices_1 11 rfl rfl)
theorem dX1_writeNotices_34 : decode cX1_writeNotices 34 = .ok (.invokevirtual 440, 3) := dk_182 1 184 (dk_at dksX1_writeNotices_1 12 rfl rfl)
theorem dX1_writeNotices_37 : decode cX1_writeNotices 37 = .ok (.aload_n 0, 1) := dk_42 (dk_at dksX1_writeNotices_1 15 rfl rfl)
theorem dX1_writeNotices_38 : decode cX1_writeNotices 38 = .ok (.getfield 79, 3) := dk_180 0 79 (dk_at dksX1_writeNotices_1 16 rfl rfl)
theorem dX1_writeNotices_41 : decode cX1_writeNotices 41 = .ok (.aload_n 2, 1) := dk_44 (dk_at dksX1_writeNotices_1 19 rfl rfl)
theorem dX1_writeNotices_42 : decode cX1_writeNotices 42 = .ok (.getfield 449, 3) := dk_180 1 193 (dk_at dksX1_writeNotices_1 20 rfl rfl)
theorem dX1_writeNotices_45 : decode cX1_writeNotices 45 = .ok (.invokevirtual 443, 3) := dk_182 1 187 (dk_at dksX1_writeNotices_2 0 rfl rfl)
theorem dX1_writeNotices_48 : decode cX1_writeNotices 48 = .ok (.aload_n 2, 1) := dk_44 (dk_at dksX1_writeNotices_2 3 rfl rfl)
theorem dX1_writeNotices_49 : decode cX1_writeNotices 49 = .ok (.getfield 452, 3) := dk_180 1 196 (dk_at dksX1_writeNotices_2 4 rfl rfl)
theorem dX1_writeNotices_52 : decode cX1_writeNotices 52 = .ok (.ifCond .ne 8, 3) := dk_154 0 8 (dk_at dksX1_writeNotices_2 7 rfl rfl)
theorem dX1_writeNotices_55 : decode cX1_writeNotices 55 = .ok (.bipush 45, 2) := dk_16 45 (dk_at dksX1_writeNotices_2 10 rfl rfl)
theorem dX1_writeNotices_57 : decode cX1_writeNotices 57 = .ok (.goto 18, 3) := dk_167 0 18 (dk_at dksX1_writeNotices_2 12 rfl rfl)
theorem dX1_writeNotices_60 : decode cX1_writeNotices 60 = .ok (.aload_n 2, 1) := dk_44 (dk_at dksX1_writeNotices_2 15 rfl rfl)
theorem dX1_writeNotices_61 : decode cX1_writeNotices 61 = .ok (.getfield 452, 3) := dk_180 1 196 (dk_at dksX1_writeNotices_2 16 rfl rfl)
theorem dX1_writeNotices_64 : decode cX1_writeNotices 64 = .ok (.iconst 1, 1) := dk_4 (dk_at dksX1_writeNotices_2 19 rfl rfl)
theorem dX1_writeNotices_65 : decode cX1_writeNotices 65 = .ok (.if_icmp .ne 8, 3) := dk_160 0 8 (dk_at dksX1_writeNotices_2 20 rfl rfl)
theorem dX1_writeNotices_68 : decode cX1_writeNotices 68 = .ok (.bipush 61, 2) := dk_16 61 (dk_at dksX1_writeNotices_3 0 rfl rfl)
theorem dX1_writeNotices_70 : decode cX1_writeNotices 70 = .ok (.goto 5, 3) := dk_167 0 5 (dk_at dksX1_writeNotices_3 2 rfl rfl)
theorem dX1_writeNotices_73 : decode cX1_writeNotices 73 = .ok (.bipush 43, 2) := dk_16 43 (dk_at dksX1_writeNotices_3 5 rfl rfl)
theorem dX1_writeNotices_75 : decode cX1_writeNotices 75 = .ok (.invokevirtual 153, 3) := dk_182 0 153 (dk_at dksX1_writeNotices_3 7 rfl rfl)
theorem dX1_writeNotices_78 : decode cX1_writeNotices 78 = .ok (.aload_n 2, 1) := dk_44 (dk_at dksX1_writeNotices_3 10 rfl rfl)
theorem dX1_writeNotices_79 : decode cX1_writeNotices 79 = .ok (.getfield 455, 3) := dk_180 1 199 (dk_at dksX1_writeNotices_3 11 rfl rfl)
theorem dX1_writeNotices_82 : decode cX1_writeNotices 82 = .ok (.invokevirtual 443, 3) := dk_182 1 187 (dk_at dksX1_writeNotices_3 14 rfl rfl)
theorem dX1_writeNotices_85 : decode cX1_writeNotices 85 = .ok (.pop, 1) := dk_87 (dk_at dksX1_writeNotices_3 17 rfl rfl)
theorem dX1_writeNotices_86 : decode cX1_writeNotices 86 = .ok (.aload_n 2, 1) := dk_44 (dk_at dksX1_writeNotices_3 18 rfl rfl)
theorem dX1_writeNotices_87 : decode cX1_writeNotices 87 = .ok (.getfield 452, 3) := dk_180 1 196 (dk_at dksX1_writeNotices_3 19 rfl rfl)
theorem dX1_writeNotices_90 : decode cX1_writeNotices 90 = .ok (.iconst 1, 1) := dk_4 (dk_at dksX1_writeNotices_3 22 rfl rfl)
theorem dX1_writeNotices_91 : decode cX1_writeNotices 91 = .ok (.if_icmp .ne 13, 3) := dk_160 0 13 (dk_at dksX1_writeNotices_4 0 rfl rfl)
theorem dX1_writeNotices_94 : decode cX1_writeNotices 94 = .ok (.aload_n 0, 1) := dk_42 (dk_at dksX1_writeNotices_4 3 rfl rfl)
theorem dX1_writeNotices_95 : decode cX1_writeNotices 95 = .ok (.getfield 79, 3) := dk_180 0 79 (dk_at dksX1_writeNotices_4 4 rfl rfl)
theorem dX1_writeNotices_98 : decode cX1_writeNotices 98 = .ok (.bipush 58, 2) := dk_16 58 (dk_at dksX1_writeNotices_4 7 rfl rfl)
theorem dX1_writeNotices_100 : decode cX1_writeNotices 100 = .ok (.invokevirtual 153, 3) := dk_182 0 153 (dk_at dksX1_writeNotices_4 9 rfl rfl)
theorem dX1_writeNotices_103 : decode cX1_writeNotices 103 = .ok (.pop, 1) := dk_87 (dk_at dksX1_writeNotices_4 12 rfl rfl)
theorem dX1_writeNotices_104 : decode cX1_writeNotices 104 = .ok (.aload_n 0, 1) := dk_42 (dk_at dksX1_writeNotices_4 13 rfl rfl)
theorem dX1_writeNotices_105 : decode cX1_writeNotices 105 = .ok (.aload_n 2, 1) := dk_44 (dk_at dksX1_writeNotices_4 14 rfl rfl)
theorem dX1_writeNotices_106 : decode cX1_writeNotices 106 = .ok (.getfield 458, 3) := dk_180 1 202 (dk_at dksX1_writeNotices_4 15 rfl rfl)
theorem dX1_writeNotices_109 : decode cX1_writeNotices 109 = .ok (.invokevirtual 446, 3) := dk_182 1 190 (dk_at dksX1_writeNotices_4 18 rfl rfl)
theorem dX1_writeNotices_112 : decode cX1_writeNotices 112 = .ok (.iinc 1 1, 3) := dk_132 1 1 (dk_at dksX1_writeNotices_4 21 rfl rfl)
theorem dX1_writeNotices_115 : decode cX1_writeNotices 115 = .ok (.goto (-105), 3) := dk_167 255 151 (dk_at dksX1_writeNotices_5 0 rfl rfl)
theorem dX1_writeNotices_118 : decode cX1_writeNotices 118 = .ok (.aload_n 0, 1) := dk_42 (dk_at dksX1_writeNotices_5 3 rfl rfl)
theorem dX1_writeNotices_119 : decode cX1_writeNotices 119 = .ok (.getfield 79, 3) := dk_180 0 79 (dk_at dksX1_writeNotices_5 4 rfl rfl)
theorem dX1_writeNotices_122 : decode cX1_writeNotices 122 = .ok (.invokevirtual 426, 3) := dk_182 1 170 (dk_at dksX1_writeNotices_5 7 rfl rfl)
theorem dX1_writeNotices_125 : decode cX1_writeNotices 125 = .ok (.ireturn, 1) := dk_172 (dk_at dksX1_writeNotices_5 10 rfl rfl)
abbrev cX1_begins : ByteArray := prog_1_method_84_code
def yX1_begins : MethodName := ⟨RX1, "begins", "()V"⟩
def dkwX1_begins_0 : List UInt8 := [42, 180, 0, 79, 182, 1, 170, 158, 0, 13, 42, 180, 0, 79, 16, 32, 182, 0, 153, 87, 177]
abbrev dktX1_begins_0 : List UInt8 := dkwX1_begins_0 ++ []
theorem dksX1_begins_0 : cX1_begins.data.toList.drop 0 = dktX1_begins_0 := by decide +kernel
theorem dX1_begins_0 : decode cX1_begins 0 = .ok (.aload_n 0, 1) := dk_42 (dk_at dksX1_begins_0 0 rfl rfl)
theorem dX1_begins_1 : decode cX1_begins 1 = .ok (.getfield 79, 3) := dk_180 0 79 (dk_at dksX1_begins_0 1 rfl rfl)
theorem dX1_begins_4 : decode cX1_begins 4 = .ok (.invokevirtual 426, 3) := dk_182 1 170 (dk_at dksX1_begins_0 4 rfl rfl)
theorem dX1_begins_7 : decode cX1_begins 7 = .ok (.ifCond .le 13, 3) := dk_158 0 13 (dk_at dksX1_begins_0 7 rfl rfl)
theorem dX1_begins_10 : decode cX1_begins 10 = .ok (.aload_n 0, 1) := dk_42 (dk_at dksX1_begins_0 10 rfl rfl)
theorem dX1_begins_11 : decode cX1_begins 11 = .ok (.getfield 79, 3) := dk_180 0 79 (dk_at dksX1_begins_0 11 rfl rfl)
theorem dX1_begins_14 : decode cX1_begins 14 = .ok (.bipush 32, 2) := dk_16 32 (dk_at dksX1_begins_0 14 rfl rfl)
theorem dX1_begins_16 : decode cX1_begins 16 = .ok (.invokevirtual 153, 3) := dk_182 0 153 (dk_at dksX1_begins_0 16 rfl rfl)
theorem dX1_begins_19 : decode cX1_begins 19 = .ok (.pop, 1) := dk_87 (dk_at dksX1_begins_0 19 rfl rfl)
theorem dX1_begins_20 : decode cX1_begins 20 = .ok (.return_, 1) := dk_177 (dk_at dksX1_begins_0 20 rfl rfl)
abbrev cX1_writeFlags : ByteArray := prog_1_method_85_code
def yX1_writeFlags : MethodName := ⟨RX1, "writeFlags", "(I)V"⟩
def dkwX1_writeFlags_1 : List UInt8 := [182, 1, 175, 182, 0, 153, 87, 132, 2, 1, 167, 255, 225, 177]
abbrev dktX1_writeFlags_1 : List UInt8 := dkwX1_writeFlags_1 ++ []
def dkwX1_writeFlags_0 : List UInt8 := [3, 61, 28, 8, 162, 0, 32, 27, 28, 184, 1, 40, 153, 0, 18, 42, 180, 0, 79, 19, 1, 173, 28]
abbrev dktX1_writeFlags_0 : List UInt8 := dkwX1_writeFlags_0 ++ dktX1_writeFlags_1
theorem dksX1_writeFlags_0 : cX1_writeFlags.data.toList.drop 0 = dktX1_writeFlags_0 := by decide +kernel
theorem dksX1_writeFlags_1 : cX1_writeFlags.data.toList.drop 23 = dktX1_writeFlags_1 := dk_seg dksX1_writeFlags_0 23 rfl rfl
theorem dX1_writeFlags_0 : decode cX1_writeFlags 0 = .ok (.iconst 0, 1) := dk_3 (dk_at dksX1_writeFlags_0 0 rfl rfl)
theorem dX1_writeFlags_1 : decode cX1_writeFlags 1 = .ok (.istore_n 2, 1) := dk_61 (dk_at dksX1_writeFlags_0 1 rfl rfl)
theorem dX1_writeFlags_2 : decode cX1_writeFlags 2 = .ok (.iload_n 2, 1) := dk_28 (dk_at dksX1_writeFlags_0 2 rfl rfl)
theorem dX1_writeFlags_3 : decode cX1_writeFlags 3 = .ok (.iconst 5, 1) := dk_8 (dk_at dksX1_writeFlags_0 3 rfl rfl)
theorem dX1_writeFlags_4 : decode cX1_writeFlags 4 = .ok (.if_icmp .ge 32, 3) := dk_162 0 32 (dk_at dksX1_writeFlags_0 4 rfl rfl)
theorem dX1_writeFlags_7 : decode cX1_writeFlags 7 = .ok (.iload_n 1, 1) := dk_27 (dk_at dksX1_writeFlags_0 7 rfl rfl)
theorem dX1_writeFlags_8 : decode cX1_writeFlags 8 = .ok (.iload_n 2, 1) := dk_28 (dk_at dksX1_writeFlags_0 8 rfl rfl)
theorem dX1_writeFlags_9 : decode cX1_writeFlags 9 = .ok (.invokestatic 296, 3) := dk_184 1 40 (dk_at dksX1_writeFlags_0 9 rfl rfl)
theorem dX1_writeFlags_12 : decode cX1_writeFlags 12 = .ok (.ifCond .eq 18, 3) := dk_153 0 18 (dk_at dksX1_writeFlags_0 12 rfl rfl)
theorem dX1_writeFlags_15 : decode cX1_writeFlags 15 = .ok (.aload_n 0, 1) := dk_42 (dk_at dksX1_writeFlags_0 15 rfl rfl)
theorem dX1_writeFlags_16 : decode cX1_writeFlags 16 = .ok (.getfield 79, 3) := dk_180 0 79 (dk_at dksX1_writeFlags_0 16 rfl rfl)
theorem dX1_writeFlags_19 : decode cX1_writeFlags 19 = .ok (.ldc_w 429, 3) := dk_19 1 173 (dk_at dksX1_writeFlags_0 19 rfl rfl)
theorem dX1_writeFlags_22 : decode cX1_writeFlags 22 = .ok (.iload_n 2, 1) := dk_28 (dk_at dksX1_writeFlags_0 22 rfl rfl)
theorem dX1_writeFlags_23 : decode cX1_writeFlags 23 = .ok (.invokevirtual 431, 3) := dk_182 1 175 (dk_at dksX1_writeFlags_1 0 rfl rfl)
theorem dX1_writeFlags_26 : decode cX1_writeFlags 26 = .ok (.invokevirtual 153, 3) := dk_182 0 153 (dk_at dksX1_writeFlags_1 3 rfl rfl)
theorem dX1_writeFlags_29 : decode cX1_writeFlags 29 = .ok (.pop, 1) := dk_87 (dk_at dksX1_writeFlags_1 6 rfl rfl)
theorem dX1_writeFlags_30 : decode cX1_writeFlags 30 = .ok (.iinc 2 1, 3) := dk_132 2 1 (dk_at dksX1_writeFlags_1 7 rfl rfl)
theorem dX1_writeFlags_33 : decode cX1_writeFlags 33 = .ok (.goto (-31), 3) := dk_167 255 225 (dk_at dksX1_writeFlags_1 10 rfl rfl)
theorem dX1_writeFlags_36 : decode cX1_writeFlags 36 = .ok (.return_, 1) := dk_177 (dk_at dksX1_writeFlags_1 13 rfl rfl)
abbrev cX1_append : ByteArray := prog_1_method_16_code
def yX1_append : MethodName := ⟨RX1, "append", "(IIIII)I"⟩
def dkwX1_append_2 : List UInt8 := [182, 0, 90, 42, 180, 0, 83, 172]
abbrev dktX1_append_2 : List UInt8 := dkwX1_append_2 ++ []
def dkwX1_append_1 : List UInt8 := [182, 0, 90, 42, 28, 182, 0, 90, 42, 29, 182, 0, 90, 42, 21, 4, 182, 0, 90, 42, 21, 5]
abbrev dktX1_append_1 : List UInt8 := dkwX1_append_1 ++ dktX1_append_2
def dkwX1_append_0 : List UInt8 := [42, 180, 0, 83, 16, 20, 96, 17, 2, 188, 163, 0, 7, 4, 167, 0, 4, 3, 184, 0, 86, 42, 27]
abbrev dktX1_append_0 : List UInt8 := dkwX1_append_0 ++ dktX1_append_1
theorem dksX1_append_0 : cX1_append.data.toList.drop 0 = dktX1_append_0 := by decide +kernel
theorem dksX1_append_1 : cX1_append.data.toList.drop 23 = dktX1_append_1 := dk_seg dksX1_append_0 23 rfl rfl
theorem dksX1_append_2 : cX1_append.data.toList.drop 45 = dktX1_append_2 := dk_seg dksX1_append_1 22 rfl rfl
theorem dX1_append_0 : decode cX1_append 0 = .ok (.aload_n 0, 1) := dk_42 (dk_at dksX1_append_0 0 rfl rfl)
theorem dX1_append_1 : decode cX1_append 1 = .ok (.getfield 83, 3) := dk_180 0 83 (dk_at dksX1_append_0 1 rfl rfl)
theorem dX1_append_4 : decode cX1_append 4 = .ok (.bipush 20, 2) := dk_16 20 (dk_at dksX1_append_0 4 rfl rfl)
theorem dX1_append_6 : decode cX1_append 6 = .ok (.iadd, 1) := dk_96 (dk_at dksX1_append_0 6 rfl rfl)
theorem dX1_append_7 : decode cX1_append 7 = .ok (.sipush 700, 3) := dk_17 2 188 (dk_at dksX1_append_0 7 rfl rfl)
theorem dX1_append_10 : decode cX1_append 10 = .ok (.if_icmp .gt 7, 3) := dk_163 0 7 (dk_at dksX1_append_0 10 rfl rfl)
theorem dX1_append_13 : decode cX1_append 13 = .ok (.iconst 1, 1) := dk_4 (dk_at dksX1_append_0 13 rfl rfl)
theorem dX1_append_14 : decode cX1_append 14 = .ok (.goto 4, 3) := dk_167 0 4 (dk_at dksX1_append_0 14 rfl rfl)
theorem dX1_append_17 : decode cX1_append 17 = .ok (.iconst 0, 1) := dk_3 (dk_at dksX1_append_0 17 rfl rfl)
theorem dX1_append_18 : decode cX1_append 18 = .ok (.invokestatic 86, 3) := dk_184 0 86 (dk_at dksX1_append_0 18 rfl rfl)
theorem dX1_append_21 : decode cX1_append 21 = .ok (.aload_n 0, 1) := dk_42 (dk_at dksX1_append_0 21 rfl rfl)
theorem dX1_append_22 : decode cX1_append 22 = .ok (.iload_n 1, 1) := dk_27 (dk_at dksX1_append_0 22 rfl rfl)
theorem dX1_append_23 : decode cX1_append 23 = .ok (.invokevirtual 90, 3) := dk_182 0 90 (dk_at dksX1_append_1 0 rfl rfl)
theorem dX1_append_26 : decode cX1_append 26 = .ok (.aload_n 0, 1) := dk_42 (dk_at dksX1_append_1 3 rfl rfl)
theorem dX1_append_27 : decode cX1_append 27 = .ok (.iload_n 2, 1) := dk_28 (dk_at dksX1_append_1 4 rfl rfl)
theorem dX1_append_28 : decode cX1_append 28 = .ok (.invokevirtual 90, 3) := dk_182 0 90 (dk_at dksX1_append_1 5 rfl rfl)
theorem dX1_append_31 : decode cX1_append 31 = .ok (.aload_n 0, 1) := dk_42 (dk_at dksX1_append_1 8 rfl rfl)
theorem dX1_append_32 : decode cX1_append 32 = .ok (.iload_n 3, 1) := dk_29 (dk_at dksX1_append_1 9 rfl rfl)
theorem dX1_append_33 : decode cX1_append 33 = .ok (.invokevirtual 90, 3) := dk_182 0 90 (dk_at dksX1_append_1 10 rfl rfl)
theorem dX1_append_36 : decode cX1_append 36 = .ok (.aload_n 0, 1) := dk_42 (dk_at dksX1_append_1 13 rfl rfl)
theorem dX1_append_37 : decode cX1_append 37 = .ok (.iload 4, 2) := dk_21 4 (dk_at dksX1_append_1 14 rfl rfl)
theorem dX1_append_39 : decode cX1_append 39 = .ok (.invokevirtual 90, 3) := dk_182 0 90 (dk_at dksX1_append_1 16 rfl rfl)
theorem dX1_append_42 : decode cX1_append 42 = .ok (.aload_n 0, 1) := dk_42 (dk_at dksX1_append_1 19 rfl rfl)
theorem dX1_append_43 : decode cX1_append 43 = .ok (.iload 5, 2) := dk_21 5 (dk_at dksX1_append_1 20 rfl rfl)
theorem dX1_append_45 : decode cX1_append 45 = .ok (.invokevirtual 90, 3) := dk_182 0 90 (dk_at dksX1_append_2 0 rfl rfl)
theorem dX1_append_48 : decode cX1_append 48 = .ok (.aload_n 0, 1) := dk_42 (dk_at dksX1_append_2 3 rfl rfl)
theorem dX1_append_49 : decode cX1_append 49 = .ok (.getfield 83, 3) := dk_180 0 83 (dk_at dksX1_append_2 4 rfl rfl)
theorem dX1_append_52 : decode cX1_append 52 = .ok (.ireturn, 1) := dk_172 (dk_at dksX1_append_2 7 rfl rfl)
abbrev cX1_requireState : ByteArray := prog_1_method_3_code
def yX1_requireState : MethodName := ⟨RX1, "requireState", "(Z)V"⟩
def dkwX1_requireState_0 : List UInt8 := [26, 154, 0, 11, 187, 0, 7, 89, 183, 0, 9, 191, 177]
abbrev dktX1_requireState_0 : List UInt8 := dkwX1_requireState_0 ++ []
theorem dksX1_requireState_0 : cX1_requireState.data.toList.drop 0 = dktX1_requireState_0 := by decide +kernel
theorem dX1_requireState_0 : decode cX1_requireState 0 = .ok (.iload_n 0, 1) := dk_26 (dk_at dksX1_requireState_0 0 rfl rfl)
theorem dX1_requireState_1 : decode cX1_requireState 1 = .ok (.ifCond .ne 11, 3) := dk_154 0 11 (dk_at dksX1_requireState_0 1 rfl rfl)
theorem dX1_requireState_4 : decode cX1_requireState 4 = .ok (.new 7, 3) := dk_187 0 7 (dk_at dksX1_requireState_0 4 rfl rfl)
theorem dX1_requireState_7 : decode cX1_requireState 7 = .ok (.dup, 1) := dk_89 (dk_at dksX1_requireState_0 7 rfl rfl)
theorem dX1_requireState_8 : decode cX1_requireState 8 = .ok (.invokespecial 9, 3) := dk_183 0 9 (dk_at dksX1_requireState_0 8 rfl rfl)
theorem dX1_requireState_11 : decode cX1_requireState 11 = .ok (.athrow, 1) := dk_191 (dk_at dksX1_requireState_0 11 rfl rfl)
theorem dX1_requireState_12 : decode cX1_requireState 12 = .ok (.return_, 1) := dk_177 (dk_at dksX1_requireState_0 12 rfl rfl)
abbrev cX1_appendWord : ByteArray := prog_1_method_15_code
def yX1_appendWord : MethodName := ⟨RX1, "appendWord", "(I)V"⟩
def dkwX1_appendWord_1 : List UInt8 := [180, 0, 83, 4, 96, 181, 0, 83, 132, 2, 248, 167, 255, 226, 177]
abbrev dktX1_appendWord_1 : List UInt8 := dkwX1_appendWord_1 ++ []
def dkwX1_appendWord_0 : List UInt8 := [16, 24, 61, 28, 155, 0, 32, 42, 180, 0, 68, 42, 180, 0, 83, 27, 28, 122, 145, 84, 42, 89]
abbrev dktX1_appendWord_0 : List UInt8 := dkwX1_appendWord_0 ++ dktX1_appendWord_1
theorem dksX1_appendWord_0 : cX1_appendWord.data.toList.drop 0 = dktX1_appendWord_0 := by decide +kernel
theorem dksX1_appendWord_1 : cX1_appendWord.data.toList.drop 22 = dktX1_appendWord_1 := dk_seg dksX1_appendWord_0 22 rfl rfl
theorem dX1_appendWord_0 : decode cX1_appendWord 0 = .ok (.bipush 24, 2) := dk_16 24 (dk_at dksX1_appendWord_0 0 rfl rfl)
theorem dX1_appendWord_2 : decode cX1_appendWord 2 = .ok (.istore_n 2, 1) := dk_61 (dk_at dksX1_appendWord_0 2 rfl rfl)
theorem dX1_appendWord_3 : decode cX1_appendWord 3 = .ok (.iload_n 2, 1) := dk_28 (dk_at dksX1_appendWord_0 3 rfl rfl)
theorem dX1_appendWord_4 : decode cX1_appendWord 4 = .ok (.ifCond .lt 32, 3) := dk_155 0 32 (dk_at dksX1_appendWord_0 4 rfl rfl)
theorem dX1_appendWord_7 : decode cX1_appendWord 7 = .ok (.aload_n 0, 1) := dk_42 (dk_at dksX1_appendWord_0 7 rfl rfl)
theorem dX1_appendWord_8 : decode cX1_appendWord 8 = .ok (.getfield 68, 3) := dk_180 0 68 (dk_at dksX1_appendWord_0 8 rfl rfl)
theorem dX1_appendWord_11 : decode cX1_appendWord 11 = .ok (.aload_n 0, 1) := dk_42 (dk_at dksX1_appendWord_0 11 rfl rfl)
theorem dX1_appendWord_12 : decode cX1_appendWord 12 = .ok (.getfield 83, 3) := dk_180 0 83 (dk_at dksX1_appendWord_0 12 rfl rfl)
theorem dX1_appendWord_15 : decode cX1_appendWord 15 = .ok (.iload_n 1, 1) := dk_27 (dk_at dksX1_appendWord_0 15 rfl rfl)
theorem dX1_appendWord_16 : decode cX1_appendWord 16 = .ok (.iload_n 2, 1) := dk_28 (dk_at dksX1_appendWord_0 16 rfl rfl)
theorem dX1_appendWord_17 : decode cX1_appendWord 17 = .ok (.ishr, 1) := dk_122 (dk_at dksX1_appendWord_0 17 rfl rfl)
theorem dX1_appendWord_18 : decode cX1_appendWord 18 = .ok (.i2b, 1) := dk_145 (dk_at dksX1_appendWord_0 18 rfl rfl)
theorem dX1_appendWord_19 : decode cX1_appendWord 19 = .ok (.bastore, 1) := dk_84 (dk_at dksX1_appendWord_0 19 rfl rfl)
theorem dX1_appendWord_20 : decode cX1_appendWord 20 = .ok (.aload_n 0, 1) := dk_42 (dk_at dksX1_appendWord_0 20 rfl rfl)
theorem dX1_appendWord_21 : decode cX1_appendWord 21 = .ok (.dup, 1) := dk_89 (dk_at dksX1_appendWord_0 21 rfl rfl)
theorem dX1_appendWord_22 : decode cX1_appendWord 22 = .ok (.getfield 83, 3) := dk_180 0 83 (dk_at dksX1_appendWord_1 0 rfl rfl)
theorem dX1_appendWord_25 : decode cX1_appendWord 25 = .ok (.iconst 1, 1) := dk_4 (dk_at dksX1_appendWord_1 3 rfl rfl)
theorem dX1_appendWord_26 : decode cX1_appendWord 26 = .ok (.iadd, 1) := dk_96 (dk_at dksX1_appendWord_1 4 rfl rfl)
theorem dX1_appendWord_27 : decode cX1_appendWord 27 = .ok (.putfield 83, 3) := dk_181 0 83 (dk_at dksX1_appendWord_1 5 rfl rfl)
theorem dX1_appendWord_30 : decode cX1_appendWord 30 = .ok (.iinc 2 (-8), 3) := dk_132 2 248 (dk_at dksX1_appendWord_1 8 rfl rfl)
theorem dX1_appendWord_33 : decode cX1_appendWord 33 = .ok (.goto (-30), 3) := dk_167 255 226 (dk_at dksX1_appendWord_1 11 rfl rfl)
theorem dX1_appendWord_36 : decode cX1_appendWord 36 = .ok (.return_, 1) := dk_177 (dk_at dksX1_appendWord_1 14 rfl rfl)
abbrev cX1_truncate : ByteArray := prog_1_method_17_code
def yX1_truncate : MethodName := ⟨RX1, "truncate", "(I)V"⟩
def dkwX1_truncate_0 : List UInt8 := [27, 133, 9, 42, 180, 0, 83, 133, 184, 0, 94, 184, 0, 98, 42, 27, 181, 0, 83, 177]
abbrev dktX1_truncate_0 : List UInt8 := dkwX1_truncate_0 ++ []
theorem dksX1_truncate_0 : cX1_truncate.data.toList.drop 0 = dktX1_truncate_0 := by decide +kernel
theorem dX1_truncate_0 : decode cX1_truncate 0 = .ok (.iload_n 1, 1) := dk_27 (dk_at dksX1_truncate_0 0 rfl rfl)
theorem dX1_truncate_1 : decode cX1_truncate 1 = .ok (.i2l, 1) := dk_133 (dk_at dksX1_truncate_0 1 rfl rfl)
theorem dX1_truncate_2 : decode cX1_truncate 2 = .ok (.lconst 0, 1) := dk_9 (dk_at dksX1_truncate_0 2 rfl rfl)
theorem dX1_truncate_3 : decode cX1_truncate 3 = .ok (.aload_n 0, 1) := dk_42 (dk_at dksX1_truncate_0 3 rfl rfl)
theorem dX1_truncate_4 : decode cX1_truncate 4 = .ok (.getfield 83, 3) := dk_180 0 83 (dk_at dksX1_truncate_0 4 rfl rfl)
theorem dX1_truncate_7 : decode cX1_truncate 7 = .ok (.i2l, 1) := dk_133 (dk_at dksX1_truncate_0 7 rfl rfl)
theorem dX1_truncate_8 : decode cX1_truncate 8 = .ok (.invokestatic 94, 3) := dk_184 0 94 (dk_at dksX1_truncate_0 8 rfl rfl)
theorem dX1_truncate_11 : decode cX1_truncate 11 = .ok (.invokestatic 98, 3) := dk_184 0 98 (dk_at dksX1_truncate_0 11 rfl rfl)
theorem dX1_truncate_14 : decode cX1_truncate 14 = .ok (.aload_n 0, 1) := dk_42 (dk_at dksX1_truncate_0 14 rfl rfl)
theorem dX1_truncate_15 : decode cX1_truncate 15 = .ok (.iload_n 1, 1) := dk_27 (dk_at dksX1_truncate_0 15 rfl rfl)
theorem dX1_truncate_16 : decode cX1_truncate 16 = .ok (.putfield 83, 3) := dk_181 0 83 (dk_at dksX1_truncate_0 16 rfl rfl)
theorem dX1_truncate_19 : decode cX1_truncate 19 = .ok (.return_, 1) := dk_177 (dk_at dksX1_truncate_0 19 rfl rfl)
abbrev cX1_requireArgument : ByteArray := prog_1_method_2_code
def yX1_requireArgument : MethodName := ⟨RX1, "requireArgument", "(Z)V"⟩
def dkwX1_requireArgument_0 : List UInt8 := [26, 154, 0, 11, 187, 0, 1, 89, 183, 0, 3, 191, 177]
abbrev dktX1_requireArgument_0 : List UInt8 := dkwX1_requireArgument_0 ++ []
theorem dksX1_requireArgument_0 : cX1_requireArgument.data.toList.drop 0 = dktX1_requireArgument_0 := by decide +kernel
theorem dX1_requireArgument_0 : decode cX1_requireArgument 0 = .ok (.iload_n 0, 1) := dk_26 (dk_at dksX1_requireArgument_0 0 rfl rfl)
theorem dX1_requireArgument_1 : decode cX1_requireArgument 1 = .ok (.ifCond .ne 11, 3) := dk_154 0 11 (dk_at dksX1_requireArgument_0 1 rfl rfl)
theorem dX1_requireArgument_4 : decode cX1_requireArgument 4 = .ok (.new 1, 3) := dk_187 0 1 (dk_at dksX1_requireArgument_0 4 rfl rfl)
theorem dX1_requireArgument_7 : decode cX1_requireArgument 7 = .ok (.dup, 1) := dk_89 (dk_at dksX1_requireArgument_0 7 rfl rfl)
theorem dX1_requireArgument_8 : decode cX1_requireArgument 8 = .ok (.invokespecial 3, 3) := dk_183 0 3 (dk_at dksX1_requireArgument_0 8 rfl rfl)
theorem dX1_requireArgument_11 : decode cX1_requireArgument 11 = .ok (.athrow, 1) := dk_191 (dk_at dksX1_requireArgument_0 11 rfl rfl)
theorem dX1_requireArgument_12 : decode cX1_requireArgument 12 = .ok (.return_, 1) := dk_177 (dk_at dksX1_requireArgument_0 12 rfl rfl)
abbrev cX1_property : ByteArray := prog_1_method_29_code
def yX1_property : MethodName := ⟨RX1, "property", "(I)I"⟩
def dkwX1_property_4 : List UInt8 := [180, 0, 64, 182, 0, 176, 172]
abbrev dktX1_property_4 : List UInt8 := dkwX1_property_4 ++ []
def dkwX1_property_3 : List UInt8 := [167, 0, 30, 42, 180, 0, 44, 180, 0, 180, 167, 0, 20, 42, 180, 0, 44, 182, 0, 142, 167, 0, 10, 42]
abbrev dktX1_property_3 : List UInt8 := dkwX1_property_3 ++ dktX1_property_4
def dkwX1_property_2 : List UInt8 := [42, 180, 0, 44, 180, 0, 173, 182, 0, 176, 167, 0, 43, 42, 180, 0, 44, 180, 0, 177, 182, 0, 176]
abbrev dktX1_property_2 : List UInt8 := dkwX1_property_2 ++ dktX1_property_3
def dkwX1_property_1 : List UInt8 := [170, 0, 0, 0, 0, 0, 77, 0, 0, 0, 0, 0, 0, 0, 3, 0, 0, 0, 31, 0, 0, 0, 44, 0, 0, 0, 57, 0, 0, 0, 67]
abbrev dktX1_property_1 : List UInt8 := dkwX1_property_1 ++ dktX1_property_2
def dkwX1_property_0 : List UInt8 := [27, 133, 9, 20, 0, 171, 184, 0, 94, 184, 0, 98, 27]
abbrev dktX1_property_0 : List UInt8 := dkwX1_property_0 ++ dktX1_property_1
theorem dksX1_property_0 : cX1_property.data.toList.drop 0 = dktX1_property_0 := by decide +kernel
theorem dksX1_property_1 : cX1_property.data.toList.drop 13 = dktX1_property_1 := dk_seg dksX1_property_0 13 rfl rfl
theorem dksX1_property_2 : cX1_property.data.toList.drop 44 = dktX1_property_2 := dk_seg dksX1_property_1 31 rfl rfl
theorem dksX1_property_3 : cX1_property.data.toList.drop 67 = dktX1_property_3 := dk_seg dksX1_property_2 23 rfl rfl
theorem dksX1_property_4 : cX1_property.data.toList.drop 91 = dktX1_property_4 := dk_seg dksX1_property_3 24 rfl rfl
theorem dX1_property_0 : decode cX1_property 0 = .ok (.iload_n 1, 1) := dk_27 (dk_at dksX1_property_0 0 rfl rfl)
theorem dX1_property_1 : decode cX1_property 1 = .ok (.i2l, 1) := dk_133 (dk_at dksX1_property_0 1 rfl rfl)
theorem dX1_property_2 : decode cX1_property 2 = .ok (.lconst 0, 1) := dk_9 (dk_at dksX1_property_0 2 rfl rfl)
theorem dX1_property_3 : decode cX1_property 3 = .ok (.ldc2_w 171, 3) := dk_20 0 171 (dk_at dksX1_property_0 3 rfl rfl)
theorem dX1_property_6 : decode cX1_property 6 = .ok (.invokestatic 94, 3) := dk_184 0 94 (dk_at dksX1_property_0 6 rfl rfl)
theorem dX1_property_9 : decode cX1_property 9 = .ok (.invokestatic 98, 3) := dk_184 0 98 (dk_at dksX1_property_0 9 rfl rfl)
theorem dX1_property_12 : decode cX1_property 12 = .ok (.iload_n 1, 1) := dk_27 (dk_at dksX1_property_0 12 rfl rfl)
theorem dX1_property_13 : decode cX1_property 13 = .ok (.tableswitch 77 0 3 #[31, 44, 57, 67], 31) := by decide +kernel
theorem dX1_property_44 : decode cX1_property 44 = .ok (.aload_n 0, 1) := dk_42 (dk_at dksX1_property_2 0 rfl rfl)
theorem dX1_property_45 : decode cX1_property 45 = .ok (.getfield 44, 3) := dk_180 0 44 (dk_at dksX1_property_2 1 rfl rfl)
theorem dX1_property_48 : decode cX1_property 48 = .ok (.getfield 173, 3) := dk_180 0 173 (dk_at dksX1_property_2 4 rfl rfl)
theorem dX1_property_51 : decode cX1_property 51 = .ok (.invokevirtual 176, 3) := dk_182 0 176 (dk_at dksX1_property_2 7 rfl rfl)
theorem dX1_property_54 : decode cX1_property 54 = .ok (.goto 43, 3) := dk_167 0 43 (dk_at dksX1_property_2 10 rfl rfl)
theorem dX1_property_57 : decode cX1_property 57 = .ok (.aload_n 0, 1) := dk_42 (dk_at dksX1_property_2 13 rfl rfl)
theorem dX1_property_58 : decode cX1_property 58 = .ok (.getfield 44, 3) := dk_180 0 44 (dk_at dksX1_property_2 14 rfl rfl)
theorem dX1_property_61 : decode cX1_property 61 = .ok (.getfield 177, 3) := dk_180 0 177 (dk_at dksX1_property_2 17 rfl rfl)
theorem dX1_property_64 : decode cX1_property 64 = .ok (.invokevirtual 176, 3) := dk_182 0 176 (dk_at dksX1_property_2 20 rfl rfl)
theorem dX1_property_67 : decode cX1_property 67 = .ok (.goto 30, 3) := dk_167 0 30 (dk_at dksX1_property_3 0 rfl rfl)
theorem dX1_property_70 : decode cX1_property 70 = .ok (.aload_n 0, 1) := dk_42 (dk_at dksX1_property_3 3 rfl rfl)
theorem dX1_property_71 : decode cX1_property 71 = .ok (.getfield 44, 3) := dk_180 0 44 (dk_at dksX1_property_3 4 rfl rfl)
theorem dX1_property_74 : decode cX1_property 74 = .ok (.getfield 180, 3) := dk_180 0 180 (dk_at dksX1_property_3 7 rfl rfl)
theorem dX1_property_77 : decode cX1_property 77 = .ok (.goto 20, 3) := dk_167 0 20 (dk_at dksX1_property_3 10 rfl rfl)
theorem dX1_property_80 : decode cX1_property 80 = .ok (.aload_n 0, 1) := dk_42 (dk_at dksX1_property_3 13 rfl rfl)
theorem dX1_property_81 : decode cX1_property 81 = .ok (.getfield 44, 3) := dk_180 0 44 (dk_at dksX1_property_3 14 rfl rfl)
theorem dX1_property_84 : decode cX1_property 84 = .ok (.invokevirtual 142, 3) := dk_182 0 142 (dk_at dksX1_property_3 17 rfl rfl)
theorem dX1_property_87 : decode cX1_property 87 = .ok (.goto 10, 3) := dk_167 0 10 (dk_at dksX1_property_3 20 rfl rfl)
theorem dX1_property_90 : decode cX1_property 90 = .ok (.aload_n 0, 1) := dk_42 (dk_at dksX1_property_3 23 rfl rfl)
theorem dX1_property_91 : decode cX1_property 91 = .ok (.getfield 64, 3) := dk_180 0 64 (dk_at dksX1_property_4 0 rfl rfl)
theorem dX1_property_94 : decode cX1_property 94 = .ok (.invokevirtual 176, 3) := dk_182 0 176 (dk_at dksX1_property_4 3 rfl rfl)
theorem dX1_property_97 : decode cX1_property 97 = .ok (.ireturn, 1) := dk_172 (dk_at dksX1_property_4 6 rfl rfl)
abbrev cX1_box : ByteArray := prog_1_method_33_code
def yX1_box : MethodName := ⟨RX1, "box", "(II)I"⟩
def dkwX1_box_4 : List UInt8 := [167, 0, 8, 42, 27, 182, 0, 221, 172]
abbrev dktX1_box_4 : List UInt8 := dkwX1_box_4 ++ []
def dkwX1_box_3 : List UInt8 := [45, 3, 184, 0, 211, 184, 0, 214, 182, 0, 217, 167, 0, 19, 45, 6, 184, 0, 211, 182, 0, 217]
abbrev dktX1_box_3 : List UInt8 := dkwX1_box_3 ++ dktX1_box_4
def dkwX1_box_2 : List UInt8 := [45, 180, 0, 203, 182, 0, 176, 167, 0, 47, 45, 180, 0, 205, 167, 0, 40, 45, 182, 0, 208, 167, 0, 33]
abbrev dktX1_box_2 : List UInt8 := dkwX1_box_2 ++ dktX1_box_3
def dkwX1_box_1 : List UInt8 := [170, 0, 0, 0, 82, 0, 0, 0, 0, 0, 0, 0, 4, 0, 0, 0, 33, 0, 0, 0, 43, 0, 0, 0, 50, 0, 0, 0, 57, 0, 0, 0, 71]
abbrev dktX1_box_1 : List UInt8 := dkwX1_box_1 ++ dktX1_box_2
def dkwX1_box_0 : List UInt8 := [42, 27, 182, 0, 197, 78, 28, 133, 9, 20, 0, 201, 184, 0, 94, 184, 0, 98, 28]
abbrev dktX1_box_0 : List UInt8 := dkwX1_box_0 ++ dktX1_box_1
theorem dksX1_box_0 : cX1_box.data.toList.drop 0 = dktX1_box_0 := by decide +kernel
theorem dksX1_box_1 : cX1_box.data.toList.drop 19 = dktX1_box_1 := dk_seg dksX1_box_0 19 rfl rfl
theorem dksX1_box_2 : cX1_box.data.toList.drop 52 = dktX1_box_2 := dk_seg dksX1_box_1 33 rfl rfl
theorem dksX1_box_3 : cX1_box.data.toList.drop 76 = dktX1_box_3 := dk_seg dksX1_box_2 24 rfl rfl
theorem dksX1_box_4 : cX1_box.data.toList.drop 98 = dktX1_box_4 := dk_seg dksX1_box_3 22 rfl rfl
theorem dX1_box_0 : decode cX1_box 0 = .ok (.aload_n 0, 1) := dk_42 (dk_at dksX1_box_0 0 rfl rfl)
theorem dX1_box_1 : decode cX1_box 1 = .ok (.iload_n 1, 1) := dk_27 (dk_at dksX1_box_0 1 rfl rfl)
theorem dX1_box_2 : decode cX1_box 2 = .ok (.invokevirtual 197, 3) := dk_182 0 197 (dk_at dksX1_box_0 2 rfl rfl)
theorem dX1_box_5 : decode cX1_box 5 = .ok (.astore_n 3, 1) := dk_78 (dk_at dksX1_box_0 5 rfl rfl)
theorem dX1_box_6 : decode cX1_box 6 = .ok (.iload_n 2, 1) := dk_28 (dk_at dksX1_box_0 6 rfl rfl)
theorem dX1_box_7 : decode cX1_box 7 = .ok (.i2l, 1) := dk_133 (dk_at dksX1_box_0 7 rfl rfl)
theorem dX1_box_8 : decode cX1_box 8 = .ok (.lconst 0, 1) := dk_9 (dk_at dksX1_box_0 8 rfl rfl)
theorem dX1_box_9 : decode cX1_box 9 = .ok (.ldc2_w 201, 3) := dk_20 0 201 (dk_at dksX1_box_0 9 rfl rfl)
theorem dX1_box_12 : decode cX1_box 12 = .ok (.invokestatic 94, 3) := dk_184 0 94 (dk_at dksX1_box_0 12 rfl rfl)
theorem dX1_box_15 : decode cX1_box 15 = .ok (.invokestatic 98, 3) := dk_184 0 98 (dk_at dksX1_box_0 15 rfl rfl)
theorem dX1_box_18 : decode cX1_box 18 = .ok (.iload_n 2, 1) := dk_28 (dk_at dksX1_box_0 18 rfl rfl)
theorem dX1_box_19 : decode cX1_box 19 = .ok (.tableswitch 82 0 4 #[33, 43, 50, 57, 71], 33) := by decide +kernel
theorem dX1_box_52 : decode cX1_box 52 = .ok (.aload_n 3, 1) := dk_45 (dk_at dksX1_box_2 0 rfl rfl)
theorem dX1_box_53 : decode cX1_box 53 = .ok (.getfield 203, 3) := dk_180 0 203 (dk_at dksX1_box_2 1 rfl rfl)
theorem dX1_box_56 : decode cX1_box 56 = .ok (.invokevirtual 176, 3) := dk_182 0 176 (dk_at dksX1_box_2 4 rfl rfl)
theorem dX1_box_59 : decode cX1_box 59 = .ok (.goto 47, 3) := dk_167 0 47 (dk_at dksX1_box_2 7 rfl rfl)
theorem dX1_box_62 : decode cX1_box 62 = .ok (.aload_n 3, 1) := dk_45 (dk_at dksX1_box_2 10 rfl rfl)
theorem dX1_box_63 : decode cX1_box 63 = .ok (.getfield 205, 3) := dk_180 0 205 (dk_at dksX1_box_2 11 rfl rfl)
theorem dX1_box_66 : decode cX1_box 66 = .ok (.goto 40, 3) := dk_167 0 40 (dk_at dksX1_box_2 14 rfl rfl)
theorem dX1_box_69 : decode cX1_box 69 = .ok (.aload_n 3, 1) := dk_45 (dk_at dksX1_box_2 17 rfl rfl)
theorem dX1_box_70 : decode cX1_box 70 = .ok (.invokevirtual 208, 3) := dk_182 0 208 (dk_at dksX1_box_2 18 rfl rfl)
theorem dX1_box_73 : decode cX1_box 73 = .ok (.goto 33, 3) := dk_167 0 33 (dk_at dksX1_box_2 21 rfl rfl)
theorem dX1_box_76 : decode cX1_box 76 = .ok (.aload_n 3, 1) := dk_45 (dk_at dksX1_box_3 0 rfl rfl)
theorem dX1_box_77 : decode cX1_box 77 = .ok (.iconst 0, 1) := dk_3 (dk_at dksX1_box_3 1 rfl rfl)
theorem dX1_box_78 : decode cX1_box 78 = .ok (.invokestatic 211, 3) := dk_184 0 211 (dk_at dksX1_box_3 2 rfl rfl)
theorem dX1_box_81 : decode cX1_box 81 = .ok (.invokestatic 214, 3) := dk_184 0 214 (dk_at dksX1_box_3 5 rfl rfl)
theorem dX1_box_84 : decode cX1_box 84 = .ok (.invokevirtual 217, 3) := dk_182 0 217 (dk_at dksX1_box_3 8 rfl rfl)
theorem dX1_box_87 : decode cX1_box 87 = .ok (.goto 19, 3) := dk_167 0 19 (dk_at dksX1_box_3 11 rfl rfl)
theorem dX1_box_90 : decode cX1_box 90 = .ok (.aload_n 3, 1) := dk_45 (dk_at dksX1_box_3 14 rfl rfl)
theorem dX1_box_91 : decode cX1_box 91 = .ok (.iconst 3, 1) := dk_6 (dk_at dksX1_box_3 15 rfl rfl)
theorem dX1_box_92 : decode cX1_box 92 = .ok (.invokestatic 211, 3) := dk_184 0 211 (dk_at dksX1_box_3 16 rfl rfl)
theorem dX1_box_95 : decode cX1_box 95 = .ok (.invokevirtual 217, 3) := dk_182 0 217 (dk_at dksX1_box_3 19 rfl rfl)
theorem dX1_box_98 : decode cX1_box 98 = .ok (.goto 8, 3) := dk_167 0 8 (dk_at dksX1_box_4 0 rfl rfl)
theorem dX1_box_101 : decode cX1_box 101 = .ok (.aload_n 0, 1) := dk_42 (dk_at dksX1_box_4 3 rfl rfl)
theorem dX1_box_102 : decode cX1_box 102 = .ok (.iload_n 1, 1) := dk_27 (dk_at dksX1_box_4 4 rfl rfl)
theorem dX1_box_103 : decode cX1_box 103 = .ok (.invokevirtual 221, 3) := dk_182 0 221 (dk_at dksX1_box_4 5 rfl rfl)
theorem dX1_box_106 : decode cX1_box 106 = .ok (.ireturn, 1) := dk_172 (dk_at dksX1_box_4 8 rfl rfl)
abbrev cX1_boxAt : ByteArray := prog_1_method_30_code
def yX1_boxAt : MethodName := ⟨RX1, "boxAt", "(I)LMailSessions$Box;"⟩
def dkwX1_boxAt_1 : List UInt8 := [180, 0, 44, 180, 0, 173, 27, 182, 0, 186, 192, 0, 190, 176]
abbrev dktX1_boxAt_1 : List UInt8 := dkwX1_boxAt_1 ++ []
def dkwX1_boxAt_0 : List UInt8 := [27, 133, 9, 42, 180, 0, 44, 180, 0, 173, 182, 0, 176, 4, 100, 133, 184, 0, 94, 184, 0, 183, 42]
abbrev dktX1_boxAt_0 : List UInt8 := dkwX1_boxAt_0 ++ dktX1_boxAt_1
theorem dksX1_boxAt_0 : cX1_boxAt.data.toList.drop 0 = dktX1_boxAt_0 := by decide +kernel
theorem dksX1_boxAt_1 : cX1_boxAt.data.toList.drop 23 = dktX1_boxAt_1 := dk_seg dksX1_boxAt_0 23 rfl rfl
theorem dX1_boxAt_0 : decode cX1_boxAt 0 = .ok (.iload_n 1, 1) := dk_27 (dk_at dksX1_boxAt_0 0 rfl rfl)
theorem dX1_boxAt_1 : decode cX1_boxAt 1 = .ok (.i2l, 1) := dk_133 (dk_at dksX1_boxAt_0 1 rfl rfl)
theorem dX1_boxAt_2 : decode cX1_boxAt 2 = .ok (.lconst 0, 1) := dk_9 (dk_at dksX1_boxAt_0 2 rfl rfl)
theorem dX1_boxAt_3 : decode cX1_boxAt 3 = .ok (.aload_n 0, 1) := dk_42 (dk_at dksX1_boxAt_0 3 rfl rfl)
theorem dX1_boxAt_4 : decode cX1_boxAt 4 = .ok (.getfield 44, 3) := dk_180 0 44 (dk_at dksX1_boxAt_0 4 rfl rfl)
theorem dX1_boxAt_7 : decode cX1_boxAt 7 = .ok (.getfield 173, 3) := dk_180 0 173 (dk_at dksX1_boxAt_0 7 rfl rfl)
theorem dX1_boxAt_10 : decode cX1_boxAt 10 = .ok (.invokevirtual 176, 3) := dk_182 0 176 (dk_at dksX1_boxAt_0 10 rfl rfl)
theorem dX1_boxAt_13 : decode cX1_boxAt 13 = .ok (.iconst 1, 1) := dk_4 (dk_at dksX1_boxAt_0 13 rfl rfl)
theorem dX1_boxAt_14 : decode cX1_boxAt 14 = .ok (.isub, 1) := dk_100 (dk_at dksX1_boxAt_0 14 rfl rfl)
theorem dX1_boxAt_15 : decode cX1_boxAt 15 = .ok (.i2l, 1) := dk_133 (dk_at dksX1_boxAt_0 15 rfl rfl)
theorem dX1_boxAt_16 : decode cX1_boxAt 16 = .ok (.invokestatic 94, 3) := dk_184 0 94 (dk_at dksX1_boxAt_0 16 rfl rfl)
theorem dX1_boxAt_19 : decode cX1_boxAt 19 = .ok (.invokestatic 183, 3) := dk_184 0 183 (dk_at dksX1_boxAt_0 19 rfl rfl)
theorem dX1_boxAt_22 : decode cX1_boxAt 22 = .ok (.aload_n 0, 1) := dk_42 (dk_at dksX1_boxAt_0 22 rfl rfl)
theorem dX1_boxAt_23 : decode cX1_boxAt 23 = .ok (.getfield 44, 3) := dk_180 0 44 (dk_at dksX1_boxAt_1 0 rfl rfl)
theorem dX1_boxAt_26 : decode cX1_boxAt 26 = .ok (.getfield 173, 3) := dk_180 0 173 (dk_at dksX1_boxAt_1 3 rfl rfl)
theorem dX1_boxAt_29 : decode cX1_boxAt 29 = .ok (.iload_n 1, 1) := dk_27 (dk_at dksX1_boxAt_1 6 rfl rfl)
theorem dX1_boxAt_30 : decode cX1_boxAt 30 = .ok (.invokevirtual 186, 3) := dk_182 0 186 (dk_at dksX1_boxAt_1 7 rfl rfl)
theorem dX1_boxAt_33 : decode cX1_boxAt 33 = .ok (.checkcast 190, 3) := dk_192 0 190 (dk_at dksX1_boxAt_1 10 rfl rfl)
theorem dX1_boxAt_36 : decode cX1_boxAt 36 = .ok (.areturn, 1) := dk_176 (dk_at dksX1_boxAt_1 13 rfl rfl)
abbrev cX1_requireIndex : ByteArray := prog_1_method_4_code
def yX1_requireIndex : MethodName := ⟨RX1, "requireIndex", "(Z)V"⟩
def dkwX1_requireIndex_0 : List UInt8 := [26, 154, 0, 11, 187, 0, 10, 89, 183, 0, 12, 191, 177]
abbrev dktX1_requireIndex_0 : List UInt8 := dkwX1_requireIndex_0 ++ []
theorem dksX1_requireIndex_0 : cX1_requireIndex.data.toList.drop 0 = dktX1_requireIndex_0 := by decide +kernel
theorem dX1_requireIndex_0 : decode cX1_requireIndex 0 = .ok (.iload_n 0, 1) := dk_26 (dk_at dksX1_requireIndex_0 0 rfl rfl)
theorem dX1_requireIndex_1 : decode cX1_requireIndex 1 = .ok (.ifCond .ne 11, 3) := dk_154 0 11 (dk_at dksX1_requireIndex_0 1 rfl rfl)
theorem dX1_requireIndex_4 : decode cX1_requireIndex 4 = .ok (.new 10, 3) := dk_187 0 10 (dk_at dksX1_requireIndex_0 4 rfl rfl)
theorem dX1_requireIndex_7 : decode cX1_requireIndex 7 = .ok (.dup, 1) := dk_89 (dk_at dksX1_requireIndex_0 7 rfl rfl)
theorem dX1_requireIndex_8 : decode cX1_requireIndex 8 = .ok (.invokespecial 12, 3) := dk_183 0 12 (dk_at dksX1_requireIndex_0 8 rfl rfl)
theorem dX1_requireIndex_11 : decode cX1_requireIndex 11 = .ok (.athrow, 1) := dk_191 (dk_at dksX1_requireIndex_0 11 rfl rfl)
theorem dX1_requireIndex_12 : decode cX1_requireIndex 12 = .ok (.return_, 1) := dk_177 (dk_at dksX1_requireIndex_0 12 rfl rfl)
abbrev cX1_flagged : ByteArray := prog_1_method_8_code
def yX1_flagged : MethodName := ⟨RX1, "flagged", "(I)LMailSessions$Test;"⟩
theorem dX1_flagged_0 : decode cX1_flagged 0 = .ok (.iload_n 0, 1) := by decide +kernel
theorem dX1_flagged_1 : decode cX1_flagged 1 = .ok (.invokedynamic 16, 5) := by decide +kernel
theorem dX1_flagged_6 : decode cX1_flagged 6 = .ok (.areturn, 1) := by decide +kernel
abbrev cX1_lambda_flagged_0 : ByteArray := prog_1_method_98_code
def yX1_lambda_flagged_0 : MethodName := ⟨RX1, "lambda$flagged$0", "(ILMailSessions$Message;)Z"⟩
def dkwX1_lambda_flagged_0_0 : List UInt8 := [43, 180, 0, 234, 26, 184, 1, 40, 172]
abbrev dktX1_lambda_flagged_0_0 : List UInt8 := dkwX1_lambda_flagged_0_0 ++ []
theorem dksX1_lambda_flagged_0_0 : cX1_lambda_flagged_0.data.toList.drop 0 = dktX1_lambda_flagged_0_0 := by decide +kernel
theorem dX1_lambda_flagged_0_0 : decode cX1_lambda_flagged_0 0 = .ok (.aload_n 1, 1) := dk_43 (dk_at dksX1_lambda_flagged_0_0 0 rfl rfl)
theorem dX1_lambda_flagged_0_1 : decode cX1_lambda_flagged_0 1 = .ok (.getfield 234, 3) := dk_180 0 234 (dk_at dksX1_lambda_flagged_0_0 1 rfl rfl)
theorem dX1_lambda_flagged_0_4 : decode cX1_lambda_flagged_0 4 = .ok (.iload_n 0, 1) := dk_26 (dk_at dksX1_lambda_flagged_0_0 4 rfl rfl)
theorem dX1_lambda_flagged_0_5 : decode cX1_lambda_flagged_0 5 = .ok (.invokestatic 296, 3) := dk_184 1 40 (dk_at dksX1_lambda_flagged_0_0 5 rfl rfl)
theorem dX1_lambda_flagged_0_8 : decode cX1_lambda_flagged_0 8 = .ok (.ireturn, 1) := dk_172 (dk_at dksX1_lambda_flagged_0_0 8 rfl rfl)
abbrev cX1_not : ByteArray := prog_1_method_11_code
def yX1_not : MethodName := ⟨RX1, "not", "(LMailSessions$Test;)LMailSessions$Test;"⟩
theorem dX1_not_0 : decode cX1_not 0 = .ok (.aload_n 0, 1) := by decide +kernel
theorem dX1_not_1 : decode cX1_not 1 = .ok (.invokedynamic 24, 5) := by decide +kernel
theorem dX1_not_6 : decode cX1_not 6 = .ok (.areturn, 1) := by decide +kernel
abbrev cX1_lambda_not_3 : ByteArray := prog_1_method_95_code
def yX1_lambda_not_3 : MethodName := ⟨RX1, "lambda$not$3", "(LMailSessions$Test;LMailSessions$Message;)Z"⟩
def dkwX1_lambda_not_3_0 : List UInt8 := [42, 43, 185, 1, 64, 2, 0, 154, 0, 7, 4, 167, 0, 4, 3, 172]
abbrev dktX1_lambda_not_3_0 : List UInt8 := dkwX1_lambda_not_3_0 ++ []
theorem dksX1_lambda_not_3_0 : cX1_lambda_not_3.data.toList.drop 0 = dktX1_lambda_not_3_0 := by decide +kernel
theorem dX1_lambda_not_3_0 : decode cX1_lambda_not_3 0 = .ok (.aload_n 0, 1) := dk_42 (dk_at dksX1_lambda_not_3_0 0 rfl rfl)
theorem dX1_lambda_not_3_1 : decode cX1_lambda_not_3 1 = .ok (.aload_n 1, 1) := dk_43 (dk_at dksX1_lambda_not_3_0 1 rfl rfl)
theorem dX1_lambda_not_3_2 : decode cX1_lambda_not_3 2 = .ok (.invokeinterface 320 2, 5) := by decide +kernel
theorem dX1_lambda_not_3_7 : decode cX1_lambda_not_3 7 = .ok (.ifCond .ne 7, 3) := dk_154 0 7 (dk_at dksX1_lambda_not_3_0 7 rfl rfl)
theorem dX1_lambda_not_3_10 : decode cX1_lambda_not_3 10 = .ok (.iconst 1, 1) := dk_4 (dk_at dksX1_lambda_not_3_0 10 rfl rfl)
theorem dX1_lambda_not_3_11 : decode cX1_lambda_not_3 11 = .ok (.goto 4, 3) := dk_167 0 4 (dk_at dksX1_lambda_not_3_0 11 rfl rfl)
theorem dX1_lambda_not_3_14 : decode cX1_lambda_not_3 14 = .ok (.iconst 0, 1) := dk_3 (dk_at dksX1_lambda_not_3_0 14 rfl rfl)
theorem dX1_lambda_not_3_15 : decode cX1_lambda_not_3 15 = .ok (.ireturn, 1) := dk_172 (dk_at dksX1_lambda_not_3_0 15 rfl rfl)
abbrev cX1_sessionsIn : ByteArray := prog_1_method_32_code
def yX1_sessionsIn : MethodName := ⟨RX1, "sessionsIn", "(I)I"⟩
def dkwX1_sessionsIn_2 : List UInt8 := [128, 61, 132, 3, 1, 167, 255, 208, 28, 172]
abbrev dktX1_sessionsIn_2 : List UInt8 := dkwX1_sessionsIn_2 ++ []
def dkwX1_sessionsIn_1 : List UInt8 := [180, 0, 177, 29, 182, 0, 186, 192, 0, 192, 180, 0, 194, 27, 160, 0, 9, 4, 29, 120, 167, 0, 4, 3]
abbrev dktX1_sessionsIn_1 : List UInt8 := dkwX1_sessionsIn_1 ++ dktX1_sessionsIn_2
def dkwX1_sessionsIn_0 : List UInt8 := [3, 61, 3, 62, 29, 42, 180, 0, 44, 180, 0, 177, 182, 0, 176, 162, 0, 40, 28, 42, 180, 0, 44]
abbrev dktX1_sessionsIn_0 : List UInt8 := dkwX1_sessionsIn_0 ++ dktX1_sessionsIn_1
theorem dksX1_sessionsIn_0 : cX1_sessionsIn.data.toList.drop 0 = dktX1_sessionsIn_0 := by decide +kernel
theorem dksX1_sessionsIn_1 : cX1_sessionsIn.data.toList.drop 23 = dktX1_sessionsIn_1 := dk_seg dksX1_sessionsIn_0 23 rfl rfl
theorem dksX1_sessionsIn_2 : cX1_sessionsIn.data.toList.drop 47 = dktX1_sessionsIn_2 := dk_seg dksX1_sessionsIn_1 24 rfl rfl
theorem dX1_sessionsIn_0 : decode cX1_sessionsIn 0 = .ok (.iconst 0, 1) := dk_3 (dk_at dksX1_sessionsIn_0 0 rfl rfl)
theorem dX1_sessionsIn_1 : decode cX1_sessionsIn 1 = .ok (.istore_n 2, 1) := dk_61 (dk_at dksX1_sessionsIn_0 1 rfl rfl)
theorem dX1_sessionsIn_2 : decode cX1_sessionsIn 2 = .ok (.iconst 0, 1) := dk_3 (dk_at dksX1_sessionsIn_0 2 rfl rfl)
theorem dX1_sessionsIn_3 : decode cX1_sessionsIn 3 = .ok (.istore_n 3, 1) := dk_62 (dk_at dksX1_sessionsIn_0 3 rfl rfl)
theorem dX1_sessionsIn_4 : decode cX1_sessionsIn 4 = .ok (.iload_n 3, 1) := dk_29 (dk_at dksX1_sessionsIn_0 4 rfl rfl)
theorem dX1_sessionsIn_5 : decode cX1_sessionsIn 5 = .ok (.aload_n 0, 1) := dk_42 (dk_at dksX1_sessionsIn_0 5 rfl rfl)
theorem dX1_sessionsIn_6 : decode cX1_sessionsIn 6 = .ok (.getfield 44, 3) := dk_180 0 44 (dk_at dksX1_sessionsIn_0 6 rfl rfl)
theorem dX1_sessionsIn_9 : decode cX1_sessionsIn 9 = .ok (.getfield 177, 3) := dk_180 0 177 (dk_at dksX1_sessionsIn_0 9 rfl rfl)
theorem dX1_sessionsIn_12 : decode cX1_sessionsIn 12 = .ok (.invokevirtual 176, 3) := dk_182 0 176 (dk_at dksX1_sessionsIn_0 12 rfl rfl)
theorem dX1_sessionsIn_15 : decode cX1_sessionsIn 15 = .ok (.if_icmp .ge 40, 3) := dk_162 0 40 (dk_at dksX1_sessionsIn_0 15 rfl rfl)
theorem dX1_sessionsIn_18 : decode cX1_sessionsIn 18 = .ok (.iload_n 2, 1) := dk_28 (dk_at dksX1_sessionsIn_0 18 rfl rfl)
theorem dX1_sessionsIn_19 : decode cX1_sessionsIn 19 = .ok (.aload_n 0, 1) := dk_42 (dk_at dksX1_sessionsIn_0 19 rfl rfl)
theorem dX1_sessionsIn_20 : decode cX1_sessionsIn 20 = .ok (.getfield 44, 3) := dk_180 0 44 (dk_at dksX1_sessionsIn_0 20 rfl rfl)
theorem dX1_sessionsIn_23 : decode cX1_sessionsIn 23 = .ok (.getfield 177, 3) := dk_180 0 177 (dk_at dksX1_sessionsIn_1 0 rfl rfl)
theorem dX1_sessionsIn_26 : decode cX1_sessionsIn 26 = .ok (.iload_n 3, 1) := dk_29 (dk_at dksX1_sessionsIn_1 3 rfl rfl)
theorem dX1_sessionsIn_27 : decode cX1_sessionsIn 27 = .ok (.invokevirtual 186, 3) := dk_182 0 186 (dk_at dksX1_sessionsIn_1 4 rfl rfl)
theorem dX1_sessionsIn_30 : decode cX1_sessionsIn 30 = .ok (.checkcast 192, 3) := dk_192 0 192 (dk_at dksX1_sessionsIn_1 7 rfl rfl)
theorem dX1_sessionsIn_33 : decode cX1_sessionsIn 33 = .ok (.getfield 194, 3) := dk_180 0 194 (dk_at dksX1_sessionsIn_1 10 rfl rfl)
theorem dX1_sessionsIn_36 : decode cX1_sessionsIn 36 = .ok (.iload_n 1, 1) := dk_27 (dk_at dksX1_sessionsIn_1 13 rfl rfl)
theorem dX1_sessionsIn_37 : decode cX1_sessionsIn 37 = .ok (.if_icmp .ne 9, 3) := dk_160 0 9 (dk_at dksX1_sessionsIn_1 14 rfl rfl)
theorem dX1_sessionsIn_40 : decode cX1_sessionsIn 40 = .ok (.iconst 1, 1) := dk_4 (dk_at dksX1_sessionsIn_1 17 rfl rfl)
theorem dX1_sessionsIn_41 : decode cX1_sessionsIn 41 = .ok (.iload_n 3, 1) := dk_29 (dk_at dksX1_sessionsIn_1 18 rfl rfl)
theorem dX1_sessionsIn_42 : decode cX1_sessionsIn 42 = .ok (.ishl, 1) := dk_120 (dk_at dksX1_sessionsIn_1 19 rfl rfl)
theorem dX1_sessionsIn_43 : decode cX1_sessionsIn 43 = .ok (.goto 4, 3) := dk_167 0 4 (dk_at dksX1_sessionsIn_1 20 rfl rfl)
theorem dX1_sessionsIn_46 : decode cX1_sessionsIn 46 = .ok (.iconst 0, 1) := dk_3 (dk_at dksX1_sessionsIn_1 23 rfl rfl)
theorem dX1_sessionsIn_47 : decode cX1_sessionsIn 47 = .ok (.ior, 1) := dk_128 (dk_at dksX1_sessionsIn_2 0 rfl rfl)
theorem dX1_sessionsIn_48 : decode cX1_sessionsIn 48 = .ok (.istore_n 2, 1) := dk_61 (dk_at dksX1_sessionsIn_2 1 rfl rfl)
theorem dX1_sessionsIn_49 : decode cX1_sessionsIn 49 = .ok (.iinc 3 1, 3) := dk_132 3 1 (dk_at dksX1_sessionsIn_2 2 rfl rfl)
theorem dX1_sessionsIn_52 : decode cX1_sessionsIn 52 = .ok (.goto (-48), 3) := dk_167 255 208 (dk_at dksX1_sessionsIn_2 5 rfl rfl)
theorem dX1_sessionsIn_55 : decode cX1_sessionsIn 55 = .ok (.iload_n 2, 1) := dk_28 (dk_at dksX1_sessionsIn_2 8 rfl rfl)
theorem dX1_sessionsIn_56 : decode cX1_sessionsIn 56 = .ok (.ireturn, 1) := dk_172 (dk_at dksX1_sessionsIn_2 9 rfl rfl)
abbrev cX1_message : ByteArray := prog_1_method_34_code
def yX1_message : MethodName := ⟨RX1, "message", "(III)I"⟩
def dkwX1_message_3 : List UInt8 := [180, 0, 232, 167, 0, 8, 25, 5, 180, 0, 234, 172]
abbrev dktX1_message_3 : List UInt8 := dkwX1_message_3 ++ []
def dkwX1_message_2 : List UInt8 := [192, 0, 227, 58, 5, 29, 154, 0, 11, 25, 5, 180, 0, 229, 167, 0, 21, 29, 4, 160, 0, 11, 25, 5]
abbrev dktX1_message_2 : List UInt8 := dkwX1_message_2 ++ dktX1_message_3
def dkwX1_message_1 : List UInt8 := [184, 0, 183, 29, 133, 9, 20, 0, 225, 184, 0, 94, 184, 0, 98, 25, 4, 180, 0, 203, 28, 182, 0, 186]
abbrev dktX1_message_1 : List UInt8 := dkwX1_message_1 ++ dktX1_message_2
def dkwX1_message_0 : List UInt8 := [42, 27, 182, 0, 197, 58, 4, 28, 133, 9, 25, 4, 180, 0, 203, 182, 0, 176, 4, 100, 133, 184, 0, 94]
abbrev dktX1_message_0 : List UInt8 := dkwX1_message_0 ++ dktX1_message_1
theorem dksX1_message_0 : cX1_message.data.toList.drop 0 = dktX1_message_0 := by decide +kernel
theorem dksX1_message_1 : cX1_message.data.toList.drop 24 = dktX1_message_1 := dk_seg dksX1_message_0 24 rfl rfl
theorem dksX1_message_2 : cX1_message.data.toList.drop 48 = dktX1_message_2 := dk_seg dksX1_message_1 24 rfl rfl
theorem dksX1_message_3 : cX1_message.data.toList.drop 72 = dktX1_message_3 := dk_seg dksX1_message_2 24 rfl rfl
theorem dX1_message_0 : decode cX1_message 0 = .ok (.aload_n 0, 1) := dk_42 (dk_at dksX1_message_0 0 rfl rfl)
theorem dX1_message_1 : decode cX1_message 1 = .ok (.iload_n 1, 1) := dk_27 (dk_at dksX1_message_0 1 rfl rfl)
theorem dX1_message_2 : decode cX1_message 2 = .ok (.invokevirtual 197, 3) := dk_182 0 197 (dk_at dksX1_message_0 2 rfl rfl)
theorem dX1_message_5 : decode cX1_message 5 = .ok (.astore 4, 2) := dk_58 4 (dk_at dksX1_message_0 5 rfl rfl)
theorem dX1_message_7 : decode cX1_message 7 = .ok (.iload_n 2, 1) := dk_28 (dk_at dksX1_message_0 7 rfl rfl)
theorem dX1_message_8 : decode cX1_message 8 = .ok (.i2l, 1) := dk_133 (dk_at dksX1_message_0 8 rfl rfl)
theorem dX1_message_9 : decode cX1_message 9 = .ok (.lconst 0, 1) := dk_9 (dk_at dksX1_message_0 9 rfl rfl)
theorem dX1_message_10 : decode cX1_message 10 = .ok (.aload 4, 2) := dk_25 4 (dk_at dksX1_message_0 10 rfl rfl)
theorem dX1_message_12 : decode cX1_message 12 = .ok (.getfield 203, 3) := dk_180 0 203 (dk_at dksX1_message_0 12 rfl rfl)
theorem dX1_message_15 : decode cX1_message 15 = .ok (.invokevirtual 176, 3) := dk_182 0 176 (dk_at dksX1_message_0 15 rfl rfl)
theorem dX1_message_18 : decode cX1_message 18 = .ok (.iconst 1, 1) := dk_4 (dk_at dksX1_message_0 18 rfl rfl)
theorem dX1_message_19 : decode cX1_message 19 = .ok (.isub, 1) := dk_100 (dk_at dksX1_message_0 19 rfl rfl)
theorem dX1_message_20 : decode cX1_message 20 = .ok (.i2l, 1) := dk_133 (dk_at dksX1_message_0 20 rfl rfl)
theorem dX1_message_21 : decode cX1_message 21 = .ok (.invokestatic 94, 3) := dk_184 0 94 (dk_at dksX1_message_0 21 rfl rfl)
theorem dX1_message_24 : decode cX1_message 24 = .ok (.invokestatic 183, 3) := dk_184 0 183 (dk_at dksX1_message_1 0 rfl rfl)
theorem dX1_message_27 : decode cX1_message 27 = .ok (.iload_n 3, 1) := dk_29 (dk_at dksX1_message_1 3 rfl rfl)
theorem dX1_message_28 : decode cX1_message 28 = .ok (.i2l, 1) := dk_133 (dk_at dksX1_message_1 4 rfl rfl)
theorem dX1_message_29 : decode cX1_message 29 = .ok (.lconst 0, 1) := dk_9 (dk_at dksX1_message_1 5 rfl rfl)
theorem dX1_message_30 : decode cX1_message 30 = .ok (.ldc2_w 225, 3) := dk_20 0 225 (dk_at dksX1_message_1 6 rfl rfl)
theorem dX1_message_33 : decode cX1_message 33 = .ok (.invokestatic 94, 3) := dk_184 0 94 (dk_at dksX1_message_1 9 rfl rfl)
theorem dX1_message_36 : decode cX1_message 36 = .ok (.invokestatic 98, 3) := dk_184 0 98 (dk_at dksX1_message_1 12 rfl rfl)
theorem dX1_message_39 : decode cX1_message 39 = .ok (.aload 4, 2) := dk_25 4 (dk_at dksX1_message_1 15 rfl rfl)
theorem dX1_message_41 : decode cX1_message 41 = .ok (.getfield 203, 3) := dk_180 0 203 (dk_at dksX1_message_1 17 rfl rfl)
theorem dX1_message_44 : decode cX1_message 44 = .ok (.iload_n 2, 1) := dk_28 (dk_at dksX1_message_1 20 rfl rfl)
theorem dX1_message_45 : decode cX1_message 45 = .ok (.invokevirtual 186, 3) := dk_182 0 186 (dk_at dksX1_message_1 21 rfl rfl)
theorem dX1_message_48 : decode cX1_message 48 = .ok (.checkcast 227, 3) := dk_192 0 227 (dk_at dksX1_message_2 0 rfl rfl)
theorem dX1_message_51 : decode cX1_message 51 = .ok (.astore 5, 2) := dk_58 5 (dk_at dksX1_message_2 3 rfl rfl)
theorem dX1_message_53 : decode cX1_message 53 = .ok (.iload_n 3, 1) := dk_29 (dk_at dksX1_message_2 5 rfl rfl)
theorem dX1_message_54 : decode cX1_message 54 = .ok (.ifCond .ne 11, 3) := dk_154 0 11 (dk_at dksX1_message_2 6 rfl rfl)
theorem dX1_message_57 : decode cX1_message 57 = .ok (.aload 5, 2) := dk_25 5 (dk_at dksX1_message_2 9 rfl rfl)
theorem dX1_message_59 : decode cX1_message 59 = .ok (.getfield 229, 3) := dk_180 0 229 (dk_at dksX1_message_2 11 rfl rfl)
theorem dX1_message_62 : decode cX1_message 62 = .ok (.goto 21, 3) := dk_167 0 21 (dk_at dksX1_message_2 14 rfl rfl)
theorem dX1_message_65 : decode cX1_message 65 = .ok (.iload_n 3, 1) := dk_29 (dk_at dksX1_message_2 17 rfl rfl)
theorem dX1_message_66 : decode cX1_message 66 = .ok (.iconst 1, 1) := dk_4 (dk_at dksX1_message_2 18 rfl rfl)
theorem dX1_message_67 : decode cX1_message 67 = .ok (.if_icmp .ne 11, 3) := dk_160 0 11 (dk_at dksX1_message_2 19 rfl rfl)
theorem dX1_message_70 : decode cX1_message 70 = .ok (.aload 5, 2) := dk_25 5 (dk_at dksX1_message_2 22 rfl rfl)
theorem dX1_message_72 : decode cX1_message 72 = .ok (.getfield 232, 3) := dk_180 0 232 (dk_at dksX1_message_3 0 rfl rfl)
theorem dX1_message_75 : decode cX1_message 75 = .ok (.goto 8, 3) := dk_167 0 8 (dk_at dksX1_message_3 3 rfl rfl)
theorem dX1_message_78 : decode cX1_message 78 = .ok (.aload 5, 2) := dk_25 5 (dk_at dksX1_message_3 6 rfl rfl)
theorem dX1_message_80 : decode cX1_message 80 = .ok (.getfield 234, 3) := dk_180 0 234 (dk_at dksX1_message_3 8 rfl rfl)
theorem dX1_message_83 : decode cX1_message 83 = .ok (.ireturn, 1) := dk_172 (dk_at dksX1_message_3 11 rfl rfl)
abbrev cX1_indexOf : ByteArray := prog_1_method_35_code
def yX1_indexOf : MethodName := ⟨RX1, "indexOf", "(II)I"⟩
def dkwX1_indexOf_0 : List UInt8 := [42, 27, 182, 0, 197, 28, 182, 0, 237, 172]
abbrev dktX1_indexOf_0 : List UInt8 := dkwX1_indexOf_0 ++ []
theorem dksX1_indexOf_0 : cX1_indexOf.data.toList.drop 0 = dktX1_indexOf_0 := by decide +kernel
theorem dX1_indexOf_0 : decode cX1_indexOf 0 = .ok (.aload_n 0, 1) := dk_42 (dk_at dksX1_indexOf_0 0 rfl rfl)
theorem dX1_indexOf_1 : decode cX1_indexOf 1 = .ok (.iload_n 1, 1) := dk_27 (dk_at dksX1_indexOf_0 1 rfl rfl)
theorem dX1_indexOf_2 : decode cX1_indexOf 2 = .ok (.invokevirtual 197, 3) := dk_182 0 197 (dk_at dksX1_indexOf_0 2 rfl rfl)
theorem dX1_indexOf_5 : decode cX1_indexOf 5 = .ok (.iload_n 2, 1) := dk_28 (dk_at dksX1_indexOf_0 5 rfl rfl)
theorem dX1_indexOf_6 : decode cX1_indexOf 6 = .ok (.invokevirtual 237, 3) := dk_182 0 237 (dk_at dksX1_indexOf_0 6 rfl rfl)
theorem dX1_indexOf_9 : decode cX1_indexOf 9 = .ok (.ireturn, 1) := dk_172 (dk_at dksX1_indexOf_0 9 rfl rfl)
abbrev cX1_session : ByteArray := prog_1_method_36_code
def yX1_session : MethodName := ⟨RX1, "session", "(II)I"⟩
def dkwX1_session_5 : List UInt8 := [182, 1, 7, 167, 0, 11, 42, 180, 0, 44, 45, 182, 1, 11, 172]
abbrev dktX1_session_5 : List UInt8 := dkwX1_session_5 ++ []
def dkwX1_session_4 : List UInt8 := [167, 0, 37, 42, 180, 0, 44, 45, 45, 180, 1, 1, 182, 1, 3, 167, 0, 22, 42, 180, 0, 44, 45]
abbrev dktX1_session_4 : List UInt8 := dkwX1_session_4 ++ dktX1_session_5
def dkwX1_session_3 : List UInt8 := [167, 0, 4, 3, 184, 0, 250, 167, 0, 54, 45, 180, 0, 254, 184, 0, 250, 167, 0, 44, 45, 180, 1, 1]
abbrev dktX1_session_3 : List UInt8 := dkwX1_session_3 ++ dktX1_session_4
def dkwX1_session_2 : List UInt8 := [45, 180, 0, 194, 167, 0, 80, 45, 180, 0, 194, 2, 159, 0, 14, 45, 180, 0, 246, 153, 0, 7, 4]
abbrev dktX1_session_2 : List UInt8 := dkwX1_session_2 ++ dktX1_session_3
def dkwX1_session_1 : List UInt8 := [170, 0, 0, 0, 113, 0, 0, 0, 0, 0, 0, 0, 5, 0, 0, 0, 37, 0, 0, 0, 44, 0, 0, 0, 70, 0, 0, 0, 80, 0, 0, 0, 87, 0, 0, 0, 102]
abbrev dktX1_session_1 : List UInt8 := dkwX1_session_1 ++ dktX1_session_2
def dkwX1_session_0 : List UInt8 := [42, 27, 182, 0, 240, 78, 28, 133, 9, 20, 0, 244, 184, 0, 94, 184, 0, 98, 28]
abbrev dktX1_session_0 : List UInt8 := dkwX1_session_0 ++ dktX1_session_1
theorem dksX1_session_0 : cX1_session.data.toList.drop 0 = dktX1_session_0 := by decide +kernel
theorem dksX1_session_1 : cX1_session.data.toList.drop 19 = dktX1_session_1 := dk_seg dksX1_session_0 19 rfl rfl
theorem dksX1_session_2 : cX1_session.data.toList.drop 56 = dktX1_session_2 := dk_seg dksX1_session_1 37 rfl rfl
theorem dksX1_session_3 : cX1_session.data.toList.drop 79 = dktX1_session_3 := dk_seg dksX1_session_2 23 rfl rfl
theorem dksX1_session_4 : cX1_session.data.toList.drop 103 = dktX1_session_4 := dk_seg dksX1_session_3 24 rfl rfl
theorem dksX1_session_5 : cX1_session.data.toList.drop 126 = dktX1_session_5 := dk_seg dksX1_session_4 23 rfl rfl
theorem dX1_session_0 : decode cX1_session 0 = .ok (.aload_n 0, 1) := dk_42 (dk_at dksX1_session_0 0 rfl rfl)
theorem dX1_session_1 : decode cX1_session 1 = .ok (.iload_n 1, 1) := dk_27 (dk_at dksX1_session_0 1 rfl rfl)
theorem dX1_session_2 : decode cX1_session 2 = .ok (.invokevirtual 240, 3) := dk_182 0 240 (dk_at dksX1_session_0 2 rfl rfl)
theorem dX1_session_5 : decode cX1_session 5 = .ok (.astore_n 3, 1) := dk_78 (dk_at dksX1_session_0 5 rfl rfl)
theorem dX1_session_6 : decode cX1_session 6 = .ok (.iload_n 2, 1) := dk_28 (dk_at dksX1_session_0 6 rfl rfl)
theorem dX1_session_7 : decode cX1_session 7 = .ok (.i2l, 1) := dk_133 (dk_at dksX1_session_0 7 rfl rfl)
theorem dX1_session_8 : decode cX1_session 8 = .ok (.lconst 0, 1) := dk_9 (dk_at dksX1_session_0 8 rfl rfl)
theorem dX1_session_9 : decode cX1_session 9 = .ok (.ldc2_w 244, 3) := dk_20 0 244 (dk_at dksX1_session_0 9 rfl rfl)
theorem dX1_session_12 : decode cX1_session 12 = .ok (.invokestatic 94, 3) := dk_184 0 94 (dk_at dksX1_session_0 12 rfl rfl)
theorem dX1_session_15 : decode cX1_session 15 = .ok (.invokestatic 98, 3) := dk_184 0 98 (dk_at dksX1_session_0 15 rfl rfl)
theorem dX1_session_18 : decode cX1_session 18 = .ok (.iload_n 2, 1) := dk_28 (dk_at dksX1_session_0 18 rfl rfl)
theorem dX1_session_19 : decode cX1_session 19 = .ok (.tableswitch 113 0 5 #[37, 44, 70, 80, 87, 102], 37) := by decide +kernel
theorem dX1_session_56 : decode cX1_session 56 = .ok (.aload_n 3, 1) := dk_45 (dk_at dksX1_session_2 0 rfl rfl)
theorem dX1_session_57 : decode cX1_session 57 = .ok (.getfield 194, 3) := dk_180 0 194 (dk_at dksX1_session_2 1 rfl rfl)
theorem dX1_session_60 : decode cX1_session 60 = .ok (.goto 80, 3) := dk_167 0 80 (dk_at dksX1_session_2 4 rfl rfl)
theorem dX1_session_63 : decode cX1_session 63 = .ok (.aload_n 3, 1) := dk_45 (dk_at dksX1_session_2 7 rfl rfl)
theorem dX1_session_64 : decode cX1_session 64 = .ok (.getfield 194, 3) := dk_180 0 194 (dk_at dksX1_session_2 8 rfl rfl)
theorem dX1_session_67 : decode cX1_session 67 = .ok (.iconst (-1), 1) := dk_2 (dk_at dksX1_session_2 11 rfl rfl)
theorem dX1_session_68 : decode cX1_session 68 = .ok (.if_icmp .eq 14, 3) := dk_159 0 14 (dk_at dksX1_session_2 12 rfl rfl)
theorem dX1_session_71 : decode cX1_session 71 = .ok (.aload_n 3, 1) := dk_45 (dk_at dksX1_session_2 15 rfl rfl)
theorem dX1_session_72 : decode cX1_session 72 = .ok (.getfield 246, 3) := dk_180 0 246 (dk_at dksX1_session_2 16 rfl rfl)
theorem dX1_session_75 : decode cX1_session 75 = .ok (.ifCond .eq 7, 3) := dk_153 0 7 (dk_at dksX1_session_2 19 rfl rfl)
theorem dX1_session_78 : decode cX1_session 78 = .ok (.iconst 1, 1) := dk_4 (dk_at dksX1_session_2 22 rfl rfl)
theorem dX1_session_79 : decode cX1_session 79 = .ok (.goto 4, 3) := dk_167 0 4 (dk_at dksX1_session_3 0 rfl rfl)
theorem dX1_session_82 : decode cX1_session 82 = .ok (.iconst 0, 1) := dk_3 (dk_at dksX1_session_3 3 rfl rfl)
theorem dX1_session_83 : decode cX1_session 83 = .ok (.invokestatic 250, 3) := dk_184 0 250 (dk_at dksX1_session_3 4 rfl rfl)
theorem dX1_session_86 : decode cX1_session 86 = .ok (.goto 54, 3) := dk_167 0 54 (dk_at dksX1_session_3 7 rfl rfl)
theorem dX1_session_89 : decode cX1_session 89 = .ok (.aload_n 3, 1) := dk_45 (dk_at dksX1_session_3 10 rfl rfl)
theorem dX1_session_90 : decode cX1_session 90 = .ok (.getfield 254, 3) := dk_180 0 254 (dk_at dksX1_session_3 11 rfl rfl)
theorem dX1_session_93 : decode cX1_session 93 = .ok (.invokestatic 250, 3) := dk_184 0 250 (dk_at dksX1_session_3 14 rfl rfl)
theorem dX1_session_96 : decode cX1_session 96 = .ok (.goto 44, 3) := dk_167 0 44 (dk_at dksX1_session_3 17 rfl rfl)
theorem dX1_session_99 : decode cX1_session 99 = .ok (.aload_n 3, 1) := dk_45 (dk_at dksX1_session_3 20 rfl rfl)
theorem dX1_session_100 : decode cX1_session 100 = .ok (.getfield 257, 3) := dk_180 1 1 (dk_at dksX1_session_3 21 rfl rfl)
theorem dX1_session_103 : decode cX1_session 103 = .ok (.goto 37, 3) := dk_167 0 37 (dk_at dksX1_session_4 0 rfl rfl)
theorem dX1_session_106 : decode cX1_session 106 = .ok (.aload_n 0, 1) := dk_42 (dk_at dksX1_session_4 3 rfl rfl)
theorem dX1_session_107 : decode cX1_session 107 = .ok (.getfield 44, 3) := dk_180 0 44 (dk_at dksX1_session_4 4 rfl rfl)
theorem dX1_session_110 : decode cX1_session 110 = .ok (.aload_n 3, 1) := dk_45 (dk_at dksX1_session_4 7 rfl rfl)
theorem dX1_session_111 : decode cX1_session 111 = .ok (.aload_n 3, 1) := dk_45 (dk_at dksX1_session_4 8 rfl rfl)
theorem dX1_session_112 : decode cX1_session 112 = .ok (.getfield 257, 3) := dk_180 1 1 (dk_at dksX1_session_4 9 rfl rfl)
theorem dX1_session_115 : decode cX1_session 115 = .ok (.invokevirtual 259, 3) := dk_182 1 3 (dk_at dksX1_session_4 12 rfl rfl)
theorem dX1_session_118 : decode cX1_session 118 = .ok (.goto 22, 3) := dk_167 0 22 (dk_at dksX1_session_4 15 rfl rfl)
theorem dX1_session_121 : decode cX1_session 121 = .ok (.aload_n 0, 1) := dk_42 (dk_at dksX1_session_4 18 rfl rfl)
theorem dX1_session_122 : decode cX1_session 122 = .ok (.getfield 44, 3) := dk_180 0 44 (dk_at dksX1_session_4 19 rfl rfl)
theorem dX1_session_125 : decode cX1_session 125 = .ok (.aload_n 3, 1) := dk_45 (dk_at dksX1_session_4 22 rfl rfl)
theorem dX1_session_126 : decode cX1_session 126 = .ok (.invokevirtual 263, 3) := dk_182 1 7 (dk_at dksX1_session_5 0 rfl rfl)
theorem dX1_session_129 : decode cX1_session 129 = .ok (.goto 11, 3) := dk_167 0 11 (dk_at dksX1_session_5 3 rfl rfl)
theorem dX1_session_132 : decode cX1_session 132 = .ok (.aload_n 0, 1) := dk_42 (dk_at dksX1_session_5 6 rfl rfl)
theorem dX1_session_133 : decode cX1_session 133 = .ok (.getfield 44, 3) := dk_180 0 44 (dk_at dksX1_session_5 7 rfl rfl)
theorem dX1_session_136 : decode cX1_session 136 = .ok (.aload_n 3, 1) := dk_45 (dk_at dksX1_session_5 10 rfl rfl)
theorem dX1_session_137 : decode cX1_session 137 = .ok (.invokevirtual 267, 3) := dk_182 1 11 (dk_at dksX1_session_5 11 rfl rfl)
theorem dX1_session_140 : decode cX1_session 140 = .ok (.ireturn, 1) := dk_172 (dk_at dksX1_session_5 14 rfl rfl)
abbrev cX1_sessionAt : ByteArray := prog_1_method_31_code
def yX1_sessionAt : MethodName := ⟨RX1, "sessionAt", "(I)LMailSessions$Session;"⟩
def dkwX1_sessionAt_1 : List UInt8 := [180, 0, 44, 180, 0, 177, 27, 182, 0, 186, 192, 0, 192, 176]
abbrev dktX1_sessionAt_1 : List UInt8 := dkwX1_sessionAt_1 ++ []
def dkwX1_sessionAt_0 : List UInt8 := [27, 133, 9, 42, 180, 0, 44, 180, 0, 177, 182, 0, 176, 4, 100, 133, 184, 0, 94, 184, 0, 183, 42]
abbrev dktX1_sessionAt_0 : List UInt8 := dkwX1_sessionAt_0 ++ dktX1_sessionAt_1
theorem dksX1_sessionAt_0 : cX1_sessionAt.data.toList.drop 0 = dktX1_sessionAt_0 := by decide +kernel
theorem dksX1_sessionAt_1 : cX1_sessionAt.data.toList.drop 23 = dktX1_sessionAt_1 := dk_seg dksX1_sessionAt_0 23 rfl rfl
theorem dX1_sessionAt_0 : decode cX1_sessionAt 0 = .ok (.iload_n 1, 1) := dk_27 (dk_at dksX1_sessionAt_0 0 rfl rfl)
theorem dX1_sessionAt_1 : decode cX1_sessionAt 1 = .ok (.i2l, 1) := dk_133 (dk_at dksX1_sessionAt_0 1 rfl rfl)
theorem dX1_sessionAt_2 : decode cX1_sessionAt 2 = .ok (.lconst 0, 1) := dk_9 (dk_at dksX1_sessionAt_0 2 rfl rfl)
theorem dX1_sessionAt_3 : decode cX1_sessionAt 3 = .ok (.aload_n 0, 1) := dk_42 (dk_at dksX1_sessionAt_0 3 rfl rfl)
theorem dX1_sessionAt_4 : decode cX1_sessionAt 4 = .ok (.getfield 44, 3) := dk_180 0 44 (dk_at dksX1_sessionAt_0 4 rfl rfl)
theorem dX1_sessionAt_7 : decode cX1_sessionAt 7 = .ok (.getfield 177, 3) := dk_180 0 177 (dk_at dksX1_sessionAt_0 7 rfl rfl)
theorem dX1_sessionAt_10 : decode cX1_sessionAt 10 = .ok (.invokevirtual 176, 3) := dk_182 0 176 (dk_at dksX1_sessionAt_0 10 rfl rfl)
theorem dX1_sessionAt_13 : decode cX1_sessionAt 13 = .ok (.iconst 1, 1) := dk_4 (dk_at dksX1_sessionAt_0 13 rfl rfl)
theorem dX1_sessionAt_14 : decode cX1_sessionAt 14 = .ok (.isub, 1) := dk_100 (dk_at dksX1_sessionAt_0 14 rfl rfl)
theorem dX1_sessionAt_15 : decode cX1_sessionAt 15 = .ok (.i2l, 1) := dk_133 (dk_at dksX1_sessionAt_0 15 rfl rfl)
theorem dX1_sessionAt_16 : decode cX1_sessionAt 16 = .ok (.invokestatic 94, 3) := dk_184 0 94 (dk_at dksX1_sessionAt_0 16 rfl rfl)
theorem dX1_sessionAt_19 : decode cX1_sessionAt 19 = .ok (.invokestatic 183, 3) := dk_184 0 183 (dk_at dksX1_sessionAt_0 19 rfl rfl)
theorem dX1_sessionAt_22 : decode cX1_sessionAt 22 = .ok (.aload_n 0, 1) := dk_42 (dk_at dksX1_sessionAt_0 22 rfl rfl)
theorem dX1_sessionAt_23 : decode cX1_sessionAt 23 = .ok (.getfield 44, 3) := dk_180 0 44 (dk_at dksX1_sessionAt_1 0 rfl rfl)
theorem dX1_sessionAt_26 : decode cX1_sessionAt 26 = .ok (.getfield 177, 3) := dk_180 0 177 (dk_at dksX1_sessionAt_1 3 rfl rfl)
theorem dX1_sessionAt_29 : decode cX1_sessionAt 29 = .ok (.iload_n 1, 1) := dk_27 (dk_at dksX1_sessionAt_1 6 rfl rfl)
theorem dX1_sessionAt_30 : decode cX1_sessionAt 30 = .ok (.invokevirtual 186, 3) := dk_182 0 186 (dk_at dksX1_sessionAt_1 7 rfl rfl)
theorem dX1_sessionAt_33 : decode cX1_sessionAt 33 = .ok (.checkcast 192, 3) := dk_192 0 192 (dk_at dksX1_sessionAt_1 10 rfl rfl)
theorem dX1_sessionAt_36 : decode cX1_sessionAt 36 = .ok (.areturn, 1) := dk_176 (dk_at dksX1_sessionAt_1 13 rfl rfl)
abbrev cX1_entry : ByteArray := prog_1_method_38_code
def yX1_entry : MethodName := ⟨RX1, "entry", "(III)I"⟩
def dkwX1_entry_6 : List UInt8 := [180, 0, 234, 172]
abbrev dktX1_entry_6 : List UInt8 := dkwX1_entry_6 ++ []
def dkwX1_entry_5 : List UInt8 := [167, 0, 25, 25, 5, 180, 0, 232, 167, 0, 17, 25, 5, 199, 0, 7, 3, 167, 0, 8, 25, 5]
abbrev dktX1_entry_5 : List UInt8 := dkwX1_entry_5 ++ dktX1_entry_6
def dkwX1_entry_4 : List UInt8 := [25, 5, 199, 0, 7, 4, 167, 0, 4, 3, 184, 0, 250, 167, 0, 34, 25, 5, 199, 0, 7, 3]
abbrev dktX1_entry_4 : List UInt8 := dkwX1_entry_4 ++ dktX1_entry_5
def dkwX1_entry_3 : List UInt8 := [25, 4, 180, 1, 22, 28, 4, 100, 46, 167, 0, 62, 25, 4, 180, 1, 26, 28, 4, 100, 46, 167, 0, 50]
abbrev dktX1_entry_3 : List UInt8 := dkwX1_entry_3 ++ dktX1_entry_4
def dkwX1_entry_2 : List UInt8 := [170, 0, 0, 0, 0, 0, 0, 89, 0, 0, 0, 0, 0, 0, 0, 3, 0, 0, 0, 32, 0, 0, 0, 44, 0, 0, 0, 56, 0, 0, 0, 72]
abbrev dktX1_entry_2 : List UInt8 := dkwX1_entry_2 ++ dktX1_entry_3
def dkwX1_entry_1 : List UInt8 := [184, 0, 98, 42, 180, 0, 44, 25, 4, 28, 4, 100, 182, 1, 18, 58, 5, 29]
abbrev dktX1_entry_1 : List UInt8 := dkwX1_entry_1 ++ dktX1_entry_2
def dkwX1_entry_0 : List UInt8 := [42, 27, 182, 0, 240, 58, 4, 25, 4, 28, 184, 1, 14, 29, 133, 9, 20, 0, 171, 184, 0, 94]
abbrev dktX1_entry_0 : List UInt8 := dkwX1_entry_0 ++ dktX1_entry_1
theorem dksX1_entry_0 : cX1_entry.data.toList.drop 0 = dktX1_entry_0 := by decide +kernel
theorem dksX1_entry_1 : cX1_entry.data.toList.drop 22 = dktX1_entry_1 := dk_seg dksX1_entry_0 22 rfl rfl
theorem dksX1_entry_2 : cX1_entry.data.toList.drop 40 = dktX1_entry_2 := dk_seg dksX1_entry_1 18 rfl rfl
theorem dksX1_entry_3 : cX1_entry.data.toList.drop 72 = dktX1_entry_3 := dk_seg dksX1_entry_2 32 rfl rfl
theorem dksX1_entry_4 : cX1_entry.data.toList.drop 96 = dktX1_entry_4 := dk_seg dksX1_entry_3 24 rfl rfl
theorem dksX1_entry_5 : cX1_entry.data.toList.drop 118 = dktX1_entry_5 := dk_seg dksX1_entry_4 22 rfl rfl
theorem dksX1_entry_6 : cX1_entry.data.toList.drop 140 = dktX1_entry_6 := dk_seg dksX1_entry_5 22 rfl rfl
theorem dX1_entry_0 : decode cX1_entry 0 = .ok (.aload_n 0, 1) := dk_42 (dk_at dksX1_entry_0 0 rfl rfl)
theorem dX1_entry_1 : decode cX1_entry 1 = .ok (.iload_n 1, 1) := dk_27 (dk_at dksX1_entry_0 1 rfl rfl)
theorem dX1_entry_2 : decode cX1_entry 2 = .ok (.invokevirtual 240, 3) := dk_182 0 240 (dk_at dksX1_entry_0 2 rfl rfl)
theorem dX1_entry_5 : decode cX1_entry 5 = .ok (.astore 4, 2) := dk_58 4 (dk_at dksX1_entry_0 5 rfl rfl)
theorem dX1_entry_7 : decode cX1_entry 7 = .ok (.aload 4, 2) := dk_25 4 (dk_at dksX1_entry_0 7 rfl rfl)
theorem dX1_entry_9 : decode cX1_entry 9 = .ok (.iload_n 2, 1) := dk_28 (dk_at dksX1_entry_0 9 rfl rfl)
theorem dX1_entry_10 : decode cX1_entry 10 = .ok (.invokestatic 270, 3) := dk_184 1 14 (dk_at dksX1_entry_0 10 rfl rfl)
theorem dX1_entry_13 : decode cX1_entry 13 = .ok (.iload_n 3, 1) := dk_29 (dk_at dksX1_entry_0 13 rfl rfl)
theorem dX1_entry_14 : decode cX1_entry 14 = .ok (.i2l, 1) := dk_133 (dk_at dksX1_entry_0 14 rfl rfl)
theorem dX1_entry_15 : decode cX1_entry 15 = .ok (.lconst 0, 1) := dk_9 (dk_at dksX1_entry_0 15 rfl rfl)
theorem dX1_entry_16 : decode cX1_entry 16 = .ok (.ldc2_w 171, 3) := dk_20 0 171 (dk_at dksX1_entry_0 16 rfl rfl)
theorem dX1_entry_19 : decode cX1_entry 19 = .ok (.invokestatic 94, 3) := dk_184 0 94 (dk_at dksX1_entry_0 19 rfl rfl)
theorem dX1_entry_22 : decode cX1_entry 22 = .ok (.invokestatic 98, 3) := dk_184 0 98 (dk_at dksX1_entry_1 0 rfl rfl)
theorem dX1_entry_25 : decode cX1_entry 25 = .ok (.aload_n 0, 1) := dk_42 (dk_at dksX1_entry_1 3 rfl rfl)
theorem dX1_entry_26 : decode cX1_entry 26 = .ok (.getfield 44, 3) := dk_180 0 44 (dk_at dksX1_entry_1 4 rfl rfl)
theorem dX1_entry_29 : decode cX1_entry 29 = .ok (.aload 4, 2) := dk_25 4 (dk_at dksX1_entry_1 7 rfl rfl)
theorem dX1_entry_31 : decode cX1_entry 31 = .ok (.iload_n 2, 1) := dk_28 (dk_at dksX1_entry_1 9 rfl rfl)
theorem dX1_entry_32 : decode cX1_entry 32 = .ok (.iconst 1, 1) := dk_4 (dk_at dksX1_entry_1 10 rfl rfl)
theorem dX1_entry_33 : decode cX1_entry 33 = .ok (.isub, 1) := dk_100 (dk_at dksX1_entry_1 11 rfl rfl)
theorem dX1_entry_34 : decode cX1_entry 34 = .ok (.invokevirtual 274, 3) := dk_182 1 18 (dk_at dksX1_entry_1 12 rfl rfl)
theorem dX1_entry_37 : decode cX1_entry 37 = .ok (.astore 5, 2) := dk_58 5 (dk_at dksX1_entry_1 15 rfl rfl)
theorem dX1_entry_39 : decode cX1_entry 39 = .ok (.iload_n 3, 1) := dk_29 (dk_at dksX1_entry_1 17 rfl rfl)
theorem dX1_entry_40 : decode cX1_entry 40 = .ok (.tableswitch 89 0 3 #[32, 44, 56, 72], 32) := by decide +kernel
theorem dX1_entry_72 : decode cX1_entry 72 = .ok (.aload 4, 2) := dk_25 4 (dk_at dksX1_entry_3 0 rfl rfl)
theorem dX1_entry_74 : decode cX1_entry 74 = .ok (.getfield 278, 3) := dk_180 1 22 (dk_at dksX1_entry_3 2 rfl rfl)
theorem dX1_entry_77 : decode cX1_entry 77 = .ok (.iload_n 2, 1) := dk_28 (dk_at dksX1_entry_3 5 rfl rfl)
theorem dX1_entry_78 : decode cX1_entry 78 = .ok (.iconst 1, 1) := dk_4 (dk_at dksX1_entry_3 6 rfl rfl)
theorem dX1_entry_79 : decode cX1_entry 79 = .ok (.isub, 1) := dk_100 (dk_at dksX1_entry_3 7 rfl rfl)
theorem dX1_entry_80 : decode cX1_entry 80 = .ok (.iaload, 1) := dk_46 (dk_at dksX1_entry_3 8 rfl rfl)
theorem dX1_entry_81 : decode cX1_entry 81 = .ok (.goto 62, 3) := dk_167 0 62 (dk_at dksX1_entry_3 9 rfl rfl)
theorem dX1_entry_84 : decode cX1_entry 84 = .ok (.aload 4, 2) := dk_25 4 (dk_at dksX1_entry_3 12 rfl rfl)
theorem dX1_entry_86 : decode cX1_entry 86 = .ok (.getfield 282, 3) := dk_180 1 26 (dk_at dksX1_entry_3 14 rfl rfl)
theorem dX1_entry_89 : decode cX1_entry 89 = .ok (.iload_n 2, 1) := dk_28 (dk_at dksX1_entry_3 17 rfl rfl)
theorem dX1_entry_90 : decode cX1_entry 90 = .ok (.iconst 1, 1) := dk_4 (dk_at dksX1_entry_3 18 rfl rfl)
theorem dX1_entry_91 : decode cX1_entry 91 = .ok (.isub, 1) := dk_100 (dk_at dksX1_entry_3 19 rfl rfl)
theorem dX1_entry_92 : decode cX1_entry 92 = .ok (.iaload, 1) := dk_46 (dk_at dksX1_entry_3 20 rfl rfl)
theorem dX1_entry_93 : decode cX1_entry 93 = .ok (.goto 50, 3) := dk_167 0 50 (dk_at dksX1_entry_3 21 rfl rfl)
theorem dX1_entry_96 : decode cX1_entry 96 = .ok (.aload 5, 2) := dk_25 5 (dk_at dksX1_entry_4 0 rfl rfl)
theorem dX1_entry_98 : decode cX1_entry 98 = .ok (.ifnonnull 7, 3) := dk_199 0 7 (dk_at dksX1_entry_4 2 rfl rfl)
theorem dX1_entry_101 : decode cX1_entry 101 = .ok (.iconst 1, 1) := dk_4 (dk_at dksX1_entry_4 5 rfl rfl)
theorem dX1_entry_102 : decode cX1_entry 102 = .ok (.goto 4, 3) := dk_167 0 4 (dk_at dksX1_entry_4 6 rfl rfl)
theorem dX1_entry_105 : decode cX1_entry 105 = .ok (.iconst 0, 1) := dk_3 (dk_at dksX1_entry_4 9 rfl rfl)
theorem dX1_entry_106 : decode cX1_entry 106 = .ok (.invokestatic 250, 3) := dk_184 0 250 (dk_at dksX1_entry_4 10 rfl rfl)
theorem dX1_entry_109 : decode cX1_entry 109 = .ok (.goto 34, 3) := dk_167 0 34 (dk_at dksX1_entry_4 13 rfl rfl)
theorem dX1_entry_112 : decode cX1_entry 112 = .ok (.aload 5, 2) := dk_25 5 (dk_at dksX1_entry_4 16 rfl rfl)
theorem dX1_entry_114 : decode cX1_entry 114 = .ok (.ifnonnull 7, 3) := dk_199 0 7 (dk_at dksX1_entry_4 18 rfl rfl)
theorem dX1_entry_117 : decode cX1_entry 117 = .ok (.iconst 0, 1) := dk_3 (dk_at dksX1_entry_4 21 rfl rfl)
theorem dX1_entry_118 : decode cX1_entry 118 = .ok (.goto 25, 3) := dk_167 0 25 (dk_at dksX1_entry_5 0 rfl rfl)
theorem dX1_entry_121 : decode cX1_entry 121 = .ok (.aload 5, 2) := dk_25 5 (dk_at dksX1_entry_5 3 rfl rfl)
theorem dX1_entry_123 : decode cX1_entry 123 = .ok (.getfield 232, 3) := dk_180 0 232 (dk_at dksX1_entry_5 5 rfl rfl)
theorem dX1_entry_126 : decode cX1_entry 126 = .ok (.goto 17, 3) := dk_167 0 17 (dk_at dksX1_entry_5 8 rfl rfl)
theorem dX1_entry_129 : decode cX1_entry 129 = .ok (.aload 5, 2) := dk_25 5 (dk_at dksX1_entry_5 11 rfl rfl)
theorem dX1_entry_131 : decode cX1_entry 131 = .ok (.ifnonnull 7, 3) := dk_199 0 7 (dk_at dksX1_entry_5 13 rfl rfl)
theorem dX1_entry_134 : decode cX1_entry 134 = .ok (.iconst 0, 1) := dk_3 (dk_at dksX1_entry_5 16 rfl rfl)
theorem dX1_entry_135 : decode cX1_entry 135 = .ok (.goto 8, 3) := dk_167 0 8 (dk_at dksX1_entry_5 17 rfl rfl)
theorem dX1_entry_138 : decode cX1_entry 138 = .ok (.aload 5, 2) := dk_25 5 (dk_at dksX1_entry_5 20 rfl rfl)
theorem dX1_entry_140 : decode cX1_entry 140 = .ok (.getfield 234, 3) := dk_180 0 234 (dk_at dksX1_entry_6 0 rfl rfl)
theorem dX1_entry_143 : decode cX1_entry 143 = .ok (.ireturn, 1) := dk_172 (dk_at dksX1_entry_6 3 rfl rfl)
abbrev cX1_requireEntry : ByteArray := prog_1_method_37_code
def yX1_requireEntry : MethodName := ⟨RX1, "requireEntry", "(LMailSessions$Session;I)V"⟩
def dkwX1_requireEntry_0 : List UInt8 := [27, 133, 10, 42, 180, 1, 1, 133, 184, 0, 94, 184, 0, 183, 177]
abbrev dktX1_requireEntry_0 : List UInt8 := dkwX1_requireEntry_0 ++ []
theorem dksX1_requireEntry_0 : cX1_requireEntry.data.toList.drop 0 = dktX1_requireEntry_0 := by decide +kernel
theorem dX1_requireEntry_0 : decode cX1_requireEntry 0 = .ok (.iload_n 1, 1) := dk_27 (dk_at dksX1_requireEntry_0 0 rfl rfl)
theorem dX1_requireEntry_1 : decode cX1_requireEntry 1 = .ok (.i2l, 1) := dk_133 (dk_at dksX1_requireEntry_0 1 rfl rfl)
theorem dX1_requireEntry_2 : decode cX1_requireEntry 2 = .ok (.lconst 1, 1) := dk_10 (dk_at dksX1_requireEntry_0 2 rfl rfl)
theorem dX1_requireEntry_3 : decode cX1_requireEntry 3 = .ok (.aload_n 0, 1) := dk_42 (dk_at dksX1_requireEntry_0 3 rfl rfl)
theorem dX1_requireEntry_4 : decode cX1_requireEntry 4 = .ok (.getfield 257, 3) := dk_180 1 1 (dk_at dksX1_requireEntry_0 4 rfl rfl)
theorem dX1_requireEntry_7 : decode cX1_requireEntry 7 = .ok (.i2l, 1) := dk_133 (dk_at dksX1_requireEntry_0 7 rfl rfl)
theorem dX1_requireEntry_8 : decode cX1_requireEntry 8 = .ok (.invokestatic 94, 3) := dk_184 0 94 (dk_at dksX1_requireEntry_0 8 rfl rfl)
theorem dX1_requireEntry_11 : decode cX1_requireEntry 11 = .ok (.invokestatic 183, 3) := dk_184 0 183 (dk_at dksX1_requireEntry_0 11 rfl rfl)
theorem dX1_requireEntry_14 : decode cX1_requireEntry 14 = .ok (.return_, 1) := dk_177 (dk_at dksX1_requireEntry_0 14 rfl rfl)
abbrev cX1_numberOf : ByteArray := prog_1_method_40_code
def yX1_numberOf : MethodName := ⟨RX1, "numberOf", "(II)I"⟩
def dkwX1_numberOf_0 : List UInt8 := [42, 27, 182, 0, 240, 28, 182, 1, 29, 184, 1, 30, 172]
abbrev dktX1_numberOf_0 : List UInt8 := dkwX1_numberOf_0 ++ []
theorem dksX1_numberOf_0 : cX1_numberOf.data.toList.drop 0 = dktX1_numberOf_0 := by decide +kernel
theorem dX1_numberOf_0 : decode cX1_numberOf 0 = .ok (.aload_n 0, 1) := dk_42 (dk_at dksX1_numberOf_0 0 rfl rfl)
theorem dX1_numberOf_1 : decode cX1_numberOf 1 = .ok (.iload_n 1, 1) := dk_27 (dk_at dksX1_numberOf_0 1 rfl rfl)
theorem dX1_numberOf_2 : decode cX1_numberOf 2 = .ok (.invokevirtual 240, 3) := dk_182 0 240 (dk_at dksX1_numberOf_0 2 rfl rfl)
theorem dX1_numberOf_5 : decode cX1_numberOf 5 = .ok (.iload_n 2, 1) := dk_28 (dk_at dksX1_numberOf_0 5 rfl rfl)
theorem dX1_numberOf_6 : decode cX1_numberOf 6 = .ok (.invokevirtual 285, 3) := dk_182 1 29 (dk_at dksX1_numberOf_0 6 rfl rfl)
theorem dX1_numberOf_9 : decode cX1_numberOf 9 = .ok (.invokestatic 286, 3) := dk_184 1 30 (dk_at dksX1_numberOf_0 9 rfl rfl)
theorem dX1_numberOf_12 : decode cX1_numberOf 12 = .ok (.ireturn, 1) := dk_172 (dk_at dksX1_numberOf_0 12 rfl rfl)
abbrev cX1_numberAt : ByteArray := prog_1_method_39_code
def yX1_numberAt : MethodName := ⟨RX1, "numberAt", "(I)I"⟩
def dkwX1_numberAt_0 : List UInt8 := [26, 2, 160, 0, 7, 2, 167, 0, 6, 26, 4, 96, 172]
abbrev dktX1_numberAt_0 : List UInt8 := dkwX1_numberAt_0 ++ []
theorem dksX1_numberAt_0 : cX1_numberAt.data.toList.drop 0 = dktX1_numberAt_0 := by decide +kernel
theorem dX1_numberAt_0 : decode cX1_numberAt 0 = .ok (.iload_n 0, 1) := dk_26 (dk_at dksX1_numberAt_0 0 rfl rfl)
theorem dX1_numberAt_1 : decode cX1_numberAt 1 = .ok (.iconst (-1), 1) := dk_2 (dk_at dksX1_numberAt_0 1 rfl rfl)
theorem dX1_numberAt_2 : decode cX1_numberAt 2 = .ok (.if_icmp .ne 7, 3) := dk_160 0 7 (dk_at dksX1_numberAt_0 2 rfl rfl)
theorem dX1_numberAt_5 : decode cX1_numberAt 5 = .ok (.iconst (-1), 1) := dk_2 (dk_at dksX1_numberAt_0 5 rfl rfl)
theorem dX1_numberAt_6 : decode cX1_numberAt 6 = .ok (.goto 6, 3) := dk_167 0 6 (dk_at dksX1_numberAt_0 6 rfl rfl)
theorem dX1_numberAt_9 : decode cX1_numberAt 9 = .ok (.iload_n 0, 1) := dk_26 (dk_at dksX1_numberAt_0 9 rfl rfl)
theorem dX1_numberAt_10 : decode cX1_numberAt 10 = .ok (.iconst 1, 1) := dk_4 (dk_at dksX1_numberAt_0 10 rfl rfl)
theorem dX1_numberAt_11 : decode cX1_numberAt 11 = .ok (.iadd, 1) := dk_96 (dk_at dksX1_numberAt_0 11 rfl rfl)
theorem dX1_numberAt_12 : decode cX1_numberAt 12 = .ok (.ireturn, 1) := dk_172 (dk_at dksX1_numberAt_0 12 rfl rfl)
abbrev cX1_numberThen : ByteArray := prog_1_method_41_code
def yX1_numberThen : MethodName := ⟨RX1, "numberThen", "(II)I"⟩
def dkwX1_numberThen_1 : List UInt8 := [199, 0, 7, 2, 167, 0, 14, 28, 42, 180, 0, 44, 45, 28, 182, 1, 3, 100, 172]
abbrev dktX1_numberThen_1 : List UInt8 := dkwX1_numberThen_1 ++ []
def dkwX1_numberThen_0 : List UInt8 := [42, 27, 182, 0, 240, 78, 45, 28, 184, 1, 14, 42, 180, 0, 44, 45, 28, 4, 100, 182, 1, 18]
abbrev dktX1_numberThen_0 : List UInt8 := dkwX1_numberThen_0 ++ dktX1_numberThen_1
theorem dksX1_numberThen_0 : cX1_numberThen.data.toList.drop 0 = dktX1_numberThen_0 := by decide +kernel
theorem dksX1_numberThen_1 : cX1_numberThen.data.toList.drop 22 = dktX1_numberThen_1 := dk_seg dksX1_numberThen_0 22 rfl rfl
theorem dX1_numberThen_0 : decode cX1_numberThen 0 = .ok (.aload_n 0, 1) := dk_42 (dk_at dksX1_numberThen_0 0 rfl rfl)
theorem dX1_numberThen_1 : decode cX1_numberThen 1 = .ok (.iload_n 1, 1) := dk_27 (dk_at dksX1_numberThen_0 1 rfl rfl)
theorem dX1_numberThen_2 : decode cX1_numberThen 2 = .ok (.invokevirtual 240, 3) := dk_182 0 240 (dk_at dksX1_numberThen_0 2 rfl rfl)
theorem dX1_numberThen_5 : decode cX1_numberThen 5 = .ok (.astore_n 3, 1) := dk_78 (dk_at dksX1_numberThen_0 5 rfl rfl)
theorem dX1_numberThen_6 : decode cX1_numberThen 6 = .ok (.aload_n 3, 1) := dk_45 (dk_at dksX1_numberThen_0 6 rfl rfl)
theorem dX1_numberThen_7 : decode cX1_numberThen 7 = .ok (.iload_n 2, 1) := dk_28 (dk_at dksX1_numberThen_0 7 rfl rfl)
theorem dX1_numberThen_8 : decode cX1_numberThen 8 = .ok (.invokestatic 270, 3) := dk_184 1 14 (dk_at dksX1_numberThen_0 8 rfl rfl)
theorem dX1_numberThen_11 : decode cX1_numberThen 11 = .ok (.aload_n 0, 1) := dk_42 (dk_at dksX1_numberThen_0 11 rfl rfl)
theorem dX1_numberThen_12 : decode cX1_numberThen 12 = .ok (.getfield 44, 3) := dk_180 0 44 (dk_at dksX1_numberThen_0 12 rfl rfl)
theorem dX1_numberThen_15 : decode cX1_numberThen 15 = .ok (.aload_n 3, 1) := dk_45 (dk_at dksX1_numberThen_0 15 rfl rfl)
theorem dX1_numberThen_16 : decode cX1_numberThen 16 = .ok (.iload_n 2, 1) := dk_28 (dk_at dksX1_numberThen_0 16 rfl rfl)
theorem dX1_numberThen_17 : decode cX1_numberThen 17 = .ok (.iconst 1, 1) := dk_4 (dk_at dksX1_numberThen_0 17 rfl rfl)
theorem dX1_numberThen_18 : decode cX1_numberThen 18 = .ok (.isub, 1) := dk_100 (dk_at dksX1_numberThen_0 18 rfl rfl)
theorem dX1_numberThen_19 : decode cX1_numberThen 19 = .ok (.invokevirtual 274, 3) := dk_182 1 18 (dk_at dksX1_numberThen_0 19 rfl rfl)
theorem dX1_numberThen_22 : decode cX1_numberThen 22 = .ok (.ifnonnull 7, 3) := dk_199 0 7 (dk_at dksX1_numberThen_1 0 rfl rfl)
theorem dX1_numberThen_25 : decode cX1_numberThen 25 = .ok (.iconst (-1), 1) := dk_2 (dk_at dksX1_numberThen_1 3 rfl rfl)
theorem dX1_numberThen_26 : decode cX1_numberThen 26 = .ok (.goto 14, 3) := dk_167 0 14 (dk_at dksX1_numberThen_1 4 rfl rfl)
theorem dX1_numberThen_29 : decode cX1_numberThen 29 = .ok (.iload_n 2, 1) := dk_28 (dk_at dksX1_numberThen_1 7 rfl rfl)
theorem dX1_numberThen_30 : decode cX1_numberThen 30 = .ok (.aload_n 0, 1) := dk_42 (dk_at dksX1_numberThen_1 8 rfl rfl)
theorem dX1_numberThen_31 : decode cX1_numberThen 31 = .ok (.getfield 44, 3) := dk_180 0 44 (dk_at dksX1_numberThen_1 9 rfl rfl)
theorem dX1_numberThen_34 : decode cX1_numberThen 34 = .ok (.aload_n 3, 1) := dk_45 (dk_at dksX1_numberThen_1 12 rfl rfl)
theorem dX1_numberThen_35 : decode cX1_numberThen 35 = .ok (.iload_n 2, 1) := dk_28 (dk_at dksX1_numberThen_1 13 rfl rfl)
theorem dX1_numberThen_36 : decode cX1_numberThen 36 = .ok (.invokevirtual 259, 3) := dk_182 1 3 (dk_at dksX1_numberThen_1 14 rfl rfl)
theorem dX1_numberThen_39 : decode cX1_numberThen 39 = .ok (.isub, 1) := dk_100 (dk_at dksX1_numberThen_1 17 rfl rfl)
theorem dX1_numberThen_40 : decode cX1_numberThen 40 = .ok (.ireturn, 1) := dk_172 (dk_at dksX1_numberThen_1 18 rfl rfl)
abbrev cX1_pending : ByteArray := prog_1_method_42_code
def yX1_pending : MethodName := ⟨RX1, "pending", "(I)I"⟩
def dkwX1_pending_0 : List UInt8 := [42, 180, 0, 44, 42, 27, 182, 0, 240, 182, 1, 33, 172]
abbrev dktX1_pending_0 : List UInt8 := dkwX1_pending_0 ++ []
theorem dksX1_pending_0 : cX1_pending.data.toList.drop 0 = dktX1_pending_0 := by decide +kernel
theorem dX1_pending_0 : decode cX1_pending 0 = .ok (.aload_n 0, 1) := dk_42 (dk_at dksX1_pending_0 0 rfl rfl)
theorem dX1_pending_1 : decode cX1_pending 1 = .ok (.getfield 44, 3) := dk_180 0 44 (dk_at dksX1_pending_0 1 rfl rfl)
theorem dX1_pending_4 : decode cX1_pending 4 = .ok (.aload_n 0, 1) := dk_42 (dk_at dksX1_pending_0 4 rfl rfl)
theorem dX1_pending_5 : decode cX1_pending 5 = .ok (.iload_n 1, 1) := dk_27 (dk_at dksX1_pending_0 5 rfl rfl)
theorem dX1_pending_6 : decode cX1_pending 6 = .ok (.invokevirtual 240, 3) := dk_182 0 240 (dk_at dksX1_pending_0 6 rfl rfl)
theorem dX1_pending_9 : decode cX1_pending 9 = .ok (.invokevirtual 289, 3) := dk_182 1 33 (dk_at dksX1_pending_0 9 rfl rfl)
theorem dX1_pending_12 : decode cX1_pending 12 = .ok (.ireturn, 1) := dk_172 (dk_at dksX1_pending_0 12 rfl rfl)
abbrev cX1_isCurrent : ByteArray := prog_1_method_44_code
def yX1_isCurrent : MethodName := ⟨RX1, "isCurrent", "(I)Z"⟩
def dkwX1_isCurrent_0 : List UInt8 := [42, 42, 27, 182, 0, 240, 182, 1, 36, 172]
abbrev dktX1_isCurrent_0 : List UInt8 := dkwX1_isCurrent_0 ++ []
theorem dksX1_isCurrent_0 : cX1_isCurrent.data.toList.drop 0 = dktX1_isCurrent_0 := by decide +kernel
theorem dX1_isCurrent_0 : decode cX1_isCurrent 0 = .ok (.aload_n 0, 1) := dk_42 (dk_at dksX1_isCurrent_0 0 rfl rfl)
theorem dX1_isCurrent_1 : decode cX1_isCurrent 1 = .ok (.aload_n 0, 1) := dk_42 (dk_at dksX1_isCurrent_0 1 rfl rfl)
theorem dX1_isCurrent_2 : decode cX1_isCurrent 2 = .ok (.iload_n 1, 1) := dk_27 (dk_at dksX1_isCurrent_0 2 rfl rfl)
theorem dX1_isCurrent_3 : decode cX1_isCurrent 3 = .ok (.invokevirtual 240, 3) := dk_182 0 240 (dk_at dksX1_isCurrent_0 3 rfl rfl)
theorem dX1_isCurrent_6 : decode cX1_isCurrent 6 = .ok (.invokevirtual 292, 3) := dk_182 1 36 (dk_at dksX1_isCurrent_0 6 rfl rfl)
theorem dX1_isCurrent_9 : decode cX1_isCurrent 9 = .ok (.ireturn, 1) := dk_172 (dk_at dksX1_isCurrent_0 9 rfl rfl)
abbrev cX1_firstUnseen : ByteArray := prog_1_method_45_code
def yX1_firstUnseen : MethodName := ⟨RX1, "firstUnseen", "(I)I"⟩
def dkwX1_firstUnseen_1 : List UInt8 := [184, 1, 40, 154, 0, 7, 29, 4, 96, 172, 132, 3, 1, 167, 255, 228, 2, 172]
abbrev dktX1_firstUnseen_1 : List UInt8 := dkwX1_firstUnseen_1 ++ []
def dkwX1_firstUnseen_0 : List UInt8 := [42, 27, 182, 0, 240, 77, 3, 62, 29, 44, 180, 1, 1, 162, 0, 26, 44, 180, 1, 26, 29, 46, 3]
abbrev dktX1_firstUnseen_0 : List UInt8 := dkwX1_firstUnseen_0 ++ dktX1_firstUnseen_1
theorem dksX1_firstUnseen_0 : cX1_firstUnseen.data.toList.drop 0 = dktX1_firstUnseen_0 := by decide +kernel
theorem dksX1_firstUnseen_1 : cX1_firstUnseen.data.toList.drop 23 = dktX1_firstUnseen_1 := dk_seg dksX1_firstUnseen_0 23 rfl rfl
theorem dX1_firstUnseen_0 : decode cX1_firstUnseen 0 = .ok (.aload_n 0, 1) := dk_42 (dk_at dksX1_firstUnseen_0 0 rfl rfl)
theorem dX1_firstUnseen_1 : decode cX1_firstUnseen 1 = .ok (.iload_n 1, 1) := dk_27 (dk_at dksX1_firstUnseen_0 1 rfl rfl)
theorem dX1_firstUnseen_2 : decode cX1_firstUnseen 2 = .ok (.invokevirtual 240, 3) := dk_182 0 240 (dk_at dksX1_firstUnseen_0 2 rfl rfl)
theorem dX1_firstUnseen_5 : decode cX1_firstUnseen 5 = .ok (.astore_n 2, 1) := dk_77 (dk_at dksX1_firstUnseen_0 5 rfl rfl)
theorem dX1_firstUnseen_6 : decode cX1_firstUnseen 6 = .ok (.iconst 0, 1) := dk_3 (dk_at dksX1_firstUnseen_0 6 rfl rfl)
theorem dX1_firstUnseen_7 : decode cX1_firstUnseen 7 = .ok (.istore_n 3, 1) := dk_62 (dk_at dksX1_firstUnseen_0 7 rfl rfl)
theorem dX1_firstUnseen_8 : decode cX1_firstUnseen 8 = .ok (.iload_n 3, 1) := dk_29 (dk_at dksX1_firstUnseen_0 8 rfl rfl)
theorem dX1_firstUnseen_9 : decode cX1_firstUnseen 9 = .ok (.aload_n 2, 1) := dk_44 (dk_at dksX1_firstUnseen_0 9 rfl rfl)
theorem dX1_firstUnseen_10 : decode cX1_firstUnseen 10 = .ok (.getfield 257, 3) := dk_180 1 1 (dk_at dksX1_firstUnseen_0 10 rfl rfl)
theorem dX1_firstUnseen_13 : decode cX1_firstUnseen 13 = .ok (.if_icmp .ge 26, 3) := dk_162 0 26 (dk_at dksX1_firstUnseen_0 13 rfl rfl)
theorem dX1_firstUnseen_16 : decode cX1_firstUnseen 16 = .ok (.aload_n 2, 1) := dk_44 (dk_at dksX1_firstUnseen_0 16 rfl rfl)
theorem dX1_firstUnseen_17 : decode cX1_firstUnseen 17 = .ok (.getfield 282, 3) := dk_180 1 26 (dk_at dksX1_firstUnseen_0 17 rfl rfl)
theorem dX1_firstUnseen_20 : decode cX1_firstUnseen 20 = .ok (.iload_n 3, 1) := dk_29 (dk_at dksX1_firstUnseen_0 20 rfl rfl)
theorem dX1_firstUnseen_21 : decode cX1_firstUnseen 21 = .ok (.iaload, 1) := dk_46 (dk_at dksX1_firstUnseen_0 21 rfl rfl)
theorem dX1_firstUnseen_22 : decode cX1_firstUnseen 22 = .ok (.iconst 0, 1) := dk_3 (dk_at dksX1_firstUnseen_0 22 rfl rfl)
theorem dX1_firstUnseen_23 : decode cX1_firstUnseen 23 = .ok (.invokestatic 296, 3) := dk_184 1 40 (dk_at dksX1_firstUnseen_1 0 rfl rfl)
theorem dX1_firstUnseen_26 : decode cX1_firstUnseen 26 = .ok (.ifCond .ne 7, 3) := dk_154 0 7 (dk_at dksX1_firstUnseen_1 3 rfl rfl)
theorem dX1_firstUnseen_29 : decode cX1_firstUnseen 29 = .ok (.iload_n 3, 1) := dk_29 (dk_at dksX1_firstUnseen_1 6 rfl rfl)
theorem dX1_firstUnseen_30 : decode cX1_firstUnseen 30 = .ok (.iconst 1, 1) := dk_4 (dk_at dksX1_firstUnseen_1 7 rfl rfl)
theorem dX1_firstUnseen_31 : decode cX1_firstUnseen 31 = .ok (.iadd, 1) := dk_96 (dk_at dksX1_firstUnseen_1 8 rfl rfl)
theorem dX1_firstUnseen_32 : decode cX1_firstUnseen 32 = .ok (.ireturn, 1) := dk_172 (dk_at dksX1_firstUnseen_1 9 rfl rfl)
theorem dX1_firstUnseen_33 : decode cX1_firstUnseen 33 = .ok (.iinc 3 1, 3) := dk_132 3 1 (dk_at dksX1_firstUnseen_1 10 rfl rfl)
theorem dX1_firstUnseen_36 : decode cX1_firstUnseen 36 = .ok (.goto (-28), 3) := dk_167 255 228 (dk_at dksX1_firstUnseen_1 13 rfl rfl)
theorem dX1_firstUnseen_39 : decode cX1_firstUnseen 39 = .ok (.iconst (-1), 1) := dk_2 (dk_at dksX1_firstUnseen_1 16 rfl rfl)
theorem dX1_firstUnseen_40 : decode cX1_firstUnseen 40 = .ok (.ireturn, 1) := dk_172 (dk_at dksX1_firstUnseen_1 17 rfl rfl)
abbrev cX1_largest : ByteArray := prog_1_method_46_code
def yX1_largest : MethodName := ⟨RX1, "largest", "(I)I"⟩
def dkwX1_largest_3 : List UInt8 := [184, 1, 30, 172]
abbrev dktX1_largest_3 : List UInt8 := dkwX1_largest_3 ++ []
def dkwX1_largest_2 : List UInt8 := [163, 0, 6, 167, 0, 13, 21, 5, 62, 25, 6, 180, 0, 232, 54, 4, 132, 5, 1, 167, 255, 204, 29]
abbrev dktX1_largest_2 : List UInt8 := dkwX1_largest_2 ++ dktX1_largest_3
def dkwX1_largest_1 : List UInt8 := [180, 0, 44, 44, 21, 5, 182, 1, 18, 58, 6, 25, 6, 198, 0, 26, 25, 6, 180, 0, 232, 21, 4]
abbrev dktX1_largest_1 : List UInt8 := dkwX1_largest_1 ++ dktX1_largest_2
def dkwX1_largest_0 : List UInt8 := [42, 27, 182, 0, 240, 77, 2, 62, 3, 54, 4, 3, 54, 5, 21, 5, 44, 180, 1, 1, 162, 0, 49, 42]
abbrev dktX1_largest_0 : List UInt8 := dkwX1_largest_0 ++ dktX1_largest_1
theorem dksX1_largest_0 : cX1_largest.data.toList.drop 0 = dktX1_largest_0 := by decide +kernel
theorem dksX1_largest_1 : cX1_largest.data.toList.drop 24 = dktX1_largest_1 := dk_seg dksX1_largest_0 24 rfl rfl
theorem dksX1_largest_2 : cX1_largest.data.toList.drop 47 = dktX1_largest_2 := dk_seg dksX1_largest_1 23 rfl rfl
theorem dksX1_largest_3 : cX1_largest.data.toList.drop 70 = dktX1_largest_3 := dk_seg dksX1_largest_2 23 rfl rfl
theorem dX1_largest_0 : decode cX1_largest 0 = .ok (.aload_n 0, 1) := dk_42 (dk_at dksX1_largest_0 0 rfl rfl)
theorem dX1_largest_1 : decode cX1_largest 1 = .ok (.iload_n 1, 1) := dk_27 (dk_at dksX1_largest_0 1 rfl rfl)
theorem dX1_largest_2 : decode cX1_largest 2 = .ok (.invokevirtual 240, 3) := dk_182 0 240 (dk_at dksX1_largest_0 2 rfl rfl)
theorem dX1_largest_5 : decode cX1_largest 5 = .ok (.astore_n 2, 1) := dk_77 (dk_at dksX1_largest_0 5 rfl rfl)
theorem dX1_largest_6 : decode cX1_largest 6 = .ok (.iconst (-1), 1) := dk_2 (dk_at dksX1_largest_0 6 rfl rfl)
theorem dX1_largest_7 : decode cX1_largest 7 = .ok (.istore_n 3, 1) := dk_62 (dk_at dksX1_largest_0 7 rfl rfl)
theorem dX1_largest_8 : decode cX1_largest 8 = .ok (.iconst 0, 1) := dk_3 (dk_at dksX1_largest_0 8 rfl rfl)
theorem dX1_largest_9 : decode cX1_largest 9 = .ok (.istore 4, 2) := dk_54 4 (dk_at dksX1_largest_0 9 rfl rfl)
theorem dX1_largest_11 : decode cX1_largest 11 = .ok (.iconst 0, 1) := dk_3 (dk_at dksX1_largest_0 11 rfl rfl)
theorem dX1_largest_12 : decode cX1_largest 12 = .ok (.istore 5, 2) := dk_54 5 (dk_at dksX1_largest_0 12 rfl rfl)
theorem dX1_largest_14 : decode cX1_largest 14 = .ok (.iload 5, 2) := dk_21 5 (dk_at dksX1_largest_0 14 rfl rfl)
theorem dX1_largest_16 : decode cX1_largest 16 = .ok (.aload_n 2, 1) := dk_44 (dk_at dksX1_largest_0 16 rfl rfl)
theorem dX1_largest_17 : decode cX1_largest 17 = .ok (.getfield 257, 3) := dk_180 1 1 (dk_at dksX1_largest_0 17 rfl rfl)
theorem dX1_largest_20 : decode cX1_largest 20 = .ok (.if_icmp .ge 49, 3) := dk_162 0 49 (dk_at dksX1_largest_0 20 rfl rfl)
theorem dX1_largest_23 : decode cX1_largest 23 = .ok (.aload_n 0, 1) := dk_42 (dk_at dksX1_largest_0 23 rfl rfl)
theorem dX1_largest_24 : decode cX1_largest 24 = .ok (.getfield 44, 3) := dk_180 0 44 (dk_at dksX1_largest_1 0 rfl rfl)
theorem dX1_largest_27 : decode cX1_largest 27 = .ok (.aload_n 2, 1) := dk_44 (dk_at dksX1_largest_1 3 rfl rfl)
theorem dX1_largest_28 : decode cX1_largest 28 = .ok (.iload 5, 2) := dk_21 5 (dk_at dksX1_largest_1 4 rfl rfl)
theorem dX1_largest_30 : decode cX1_largest 30 = .ok (.invokevirtual 274, 3) := dk_182 1 18 (dk_at dksX1_largest_1 6 rfl rfl)
theorem dX1_largest_33 : decode cX1_largest 33 = .ok (.astore 6, 2) := dk_58 6 (dk_at dksX1_largest_1 9 rfl rfl)
theorem dX1_largest_35 : decode cX1_largest 35 = .ok (.aload 6, 2) := dk_25 6 (dk_at dksX1_largest_1 11 rfl rfl)
theorem dX1_largest_37 : decode cX1_largest 37 = .ok (.ifnull 26, 3) := dk_198 0 26 (dk_at dksX1_largest_1 13 rfl rfl)
theorem dX1_largest_40 : decode cX1_largest 40 = .ok (.aload 6, 2) := dk_25 6 (dk_at dksX1_largest_1 16 rfl rfl)
theorem dX1_largest_42 : decode cX1_largest 42 = .ok (.getfield 232, 3) := dk_180 0 232 (dk_at dksX1_largest_1 18 rfl rfl)
theorem dX1_largest_45 : decode cX1_largest 45 = .ok (.iload 4, 2) := dk_21 4 (dk_at dksX1_largest_1 21 rfl rfl)
theorem dX1_largest_47 : decode cX1_largest 47 = .ok (.if_icmp .gt 6, 3) := dk_163 0 6 (dk_at dksX1_largest_2 0 rfl rfl)
theorem dX1_largest_50 : decode cX1_largest 50 = .ok (.goto 13, 3) := dk_167 0 13 (dk_at dksX1_largest_2 3 rfl rfl)
theorem dX1_largest_53 : decode cX1_largest 53 = .ok (.iload 5, 2) := dk_21 5 (dk_at dksX1_largest_2 6 rfl rfl)
theorem dX1_largest_55 : decode cX1_largest 55 = .ok (.istore_n 3, 1) := dk_62 (dk_at dksX1_largest_2 8 rfl rfl)
theorem dX1_largest_56 : decode cX1_largest 56 = .ok (.aload 6, 2) := dk_25 6 (dk_at dksX1_largest_2 9 rfl rfl)
theorem dX1_largest_58 : decode cX1_largest 58 = .ok (.getfield 232, 3) := dk_180 0 232 (dk_at dksX1_largest_2 11 rfl rfl)
theorem dX1_largest_61 : decode cX1_largest 61 = .ok (.istore 4, 2) := dk_54 4 (dk_at dksX1_largest_2 14 rfl rfl)
theorem dX1_largest_63 : decode cX1_largest 63 = .ok (.iinc 5 1, 3) := dk_132 5 1 (dk_at dksX1_largest_2 16 rfl rfl)
theorem dX1_largest_66 : decode cX1_largest 66 = .ok (.goto (-52), 3) := dk_167 255 204 (dk_at dksX1_largest_2 19 rfl rfl)
theorem dX1_largest_69 : decode cX1_largest 69 = .ok (.iload_n 3, 1) := dk_29 (dk_at dksX1_largest_2 22 rfl rfl)
theorem dX1_largest_70 : decode cX1_largest 70 = .ok (.invokestatic 286, 3) := dk_184 1 30 (dk_at dksX1_largest_3 0 rfl rfl)
theorem dX1_largest_73 : decode cX1_largest 73 = .ok (.ireturn, 1) := dk_172 (dk_at dksX1_largest_3 3 rfl rfl)
abbrev cX1_common : ByteArray := prog_1_method_47_code
def yX1_common : MethodName := ⟨RX1, "common", "(II)I"⟩
def dkwX1_common_3 : List UInt8 := [132, 6, 1, 167, 255, 203, 21, 5, 172]
abbrev dktX1_common_3 : List UInt8 := dkwX1_common_3 ++ []
def dkwX1_common_2 : List UInt8 := [180, 1, 22, 21, 6, 46, 182, 1, 29, 2, 159, 0, 7, 4, 167, 0, 4, 3, 184, 0, 250, 96, 54, 5]
abbrev dktX1_common_2 : List UInt8 := dkwX1_common_2 ++ dktX1_common_3
def dkwX1_common_1 : List UInt8 := [180, 1, 1, 162, 0, 50, 45, 180, 0, 194, 25, 4, 180, 0, 194, 160, 0, 38, 21, 5, 25, 4, 45]
abbrev dktX1_common_1 : List UInt8 := dkwX1_common_1 ++ dktX1_common_2
def dkwX1_common_0 : List UInt8 := [42, 27, 182, 0, 240, 78, 42, 28, 182, 0, 240, 58, 4, 3, 54, 5, 3, 54, 6, 21, 6, 45]
abbrev dktX1_common_0 : List UInt8 := dkwX1_common_0 ++ dktX1_common_1
theorem dksX1_common_0 : cX1_common.data.toList.drop 0 = dktX1_common_0 := by decide +kernel
theorem dksX1_common_1 : cX1_common.data.toList.drop 22 = dktX1_common_1 := dk_seg dksX1_common_0 22 rfl rfl
theorem dksX1_common_2 : cX1_common.data.toList.drop 45 = dktX1_common_2 := dk_seg dksX1_common_1 23 rfl rfl
theorem dksX1_common_3 : cX1_common.data.toList.drop 69 = dktX1_common_3 := dk_seg dksX1_common_2 24 rfl rfl
theorem dX1_common_0 : decode cX1_common 0 = .ok (.aload_n 0, 1) := dk_42 (dk_at dksX1_common_0 0 rfl rfl)
theorem dX1_common_1 : decode cX1_common 1 = .ok (.iload_n 1, 1) := dk_27 (dk_at dksX1_common_0 1 rfl rfl)
theorem dX1_common_2 : decode cX1_common 2 = .ok (.invokevirtual 240, 3) := dk_182 0 240 (dk_at dksX1_common_0 2 rfl rfl)
theorem dX1_common_5 : decode cX1_common 5 = .ok (.astore_n 3, 1) := dk_78 (dk_at dksX1_common_0 5 rfl rfl)
theorem dX1_common_6 : decode cX1_common 6 = .ok (.aload_n 0, 1) := dk_42 (dk_at dksX1_common_0 6 rfl rfl)
theorem dX1_common_7 : decode cX1_common 7 = .ok (.iload_n 2, 1) := dk_28 (dk_at dksX1_common_0 7 rfl rfl)
theorem dX1_common_8 : decode cX1_common 8 = .ok (.invokevirtual 240, 3) := dk_182 0 240 (dk_at dksX1_common_0 8 rfl rfl)
theorem dX1_common_11 : decode cX1_common 11 = .ok (.astore 4, 2) := dk_58 4 (dk_at dksX1_common_0 11 rfl rfl)
theorem dX1_common_13 : decode cX1_common 13 = .ok (.iconst 0, 1) := dk_3 (dk_at dksX1_common_0 13 rfl rfl)
theorem dX1_common_14 : decode cX1_common 14 = .ok (.istore 5, 2) := dk_54 5 (dk_at dksX1_common_0 14 rfl rfl)
theorem dX1_common_16 : decode cX1_common 16 = .ok (.iconst 0, 1) := dk_3 (dk_at dksX1_common_0 16 rfl rfl)
theorem dX1_common_17 : decode cX1_common 17 = .ok (.istore 6, 2) := dk_54 6 (dk_at dksX1_common_0 17 rfl rfl)
theorem dX1_common_19 : decode cX1_common 19 = .ok (.iload 6, 2) := dk_21 6 (dk_at dksX1_common_0 19 rfl rfl)
theorem dX1_common_21 : decode cX1_common 21 = .ok (.aload_n 3, 1) := dk_45 (dk_at dksX1_common_0 21 rfl rfl)
theorem dX1_common_22 : decode cX1_common 22 = .ok (.getfield 257, 3) := dk_180 1 1 (dk_at dksX1_common_1 0 rfl rfl)
theorem dX1_common_25 : decode cX1_common 25 = .ok (.if_icmp .ge 50, 3) := dk_162 0 50 (dk_at dksX1_common_1 3 rfl rfl)
theorem dX1_common_28 : decode cX1_common 28 = .ok (.aload_n 3, 1) := dk_45 (dk_at dksX1_common_1 6 rfl rfl)
theorem dX1_common_29 : decode cX1_common 29 = .ok (.getfield 194, 3) := dk_180 0 194 (dk_at dksX1_common_1 7 rfl rfl)
theorem dX1_common_32 : decode cX1_common 32 = .ok (.aload 4, 2) := dk_25 4 (dk_at dksX1_common_1 10 rfl rfl)
theorem dX1_common_34 : decode cX1_common 34 = .ok (.getfield 194, 3) := dk_180 0 194 (dk_at dksX1_common_1 12 rfl rfl)
theorem dX1_common_37 : decode cX1_common 37 = .ok (.if_icmp .ne 38, 3) := dk_160 0 38 (dk_at dksX1_common_1 15 rfl rfl)
theorem dX1_common_40 : decode cX1_common 40 = .ok (.iload 5, 2) := dk_21 5 (dk_at dksX1_common_1 18 rfl rfl)
theorem dX1_common_42 : decode cX1_common 42 = .ok (.aload 4, 2) := dk_25 4 (dk_at dksX1_common_1 20 rfl rfl)
theorem dX1_common_44 : decode cX1_common 44 = .ok (.aload_n 3, 1) := dk_45 (dk_at dksX1_common_1 22 rfl rfl)
theorem dX1_common_45 : decode cX1_common 45 = .ok (.getfield 278, 3) := dk_180 1 22 (dk_at dksX1_common_2 0 rfl rfl)
theorem dX1_common_48 : decode cX1_common 48 = .ok (.iload 6, 2) := dk_21 6 (dk_at dksX1_common_2 3 rfl rfl)
theorem dX1_common_50 : decode cX1_common 50 = .ok (.iaload, 1) := dk_46 (dk_at dksX1_common_2 5 rfl rfl)
theorem dX1_common_51 : decode cX1_common 51 = .ok (.invokevirtual 285, 3) := dk_182 1 29 (dk_at dksX1_common_2 6 rfl rfl)
theorem dX1_common_54 : decode cX1_common 54 = .ok (.iconst (-1), 1) := dk_2 (dk_at dksX1_common_2 9 rfl rfl)
theorem dX1_common_55 : decode cX1_common 55 = .ok (.if_icmp .eq 7, 3) := dk_159 0 7 (dk_at dksX1_common_2 10 rfl rfl)
theorem dX1_common_58 : decode cX1_common 58 = .ok (.iconst 1, 1) := dk_4 (dk_at dksX1_common_2 13 rfl rfl)
theorem dX1_common_59 : decode cX1_common 59 = .ok (.goto 4, 3) := dk_167 0 4 (dk_at dksX1_common_2 14 rfl rfl)
theorem dX1_common_62 : decode cX1_common 62 = .ok (.iconst 0, 1) := dk_3 (dk_at dksX1_common_2 17 rfl rfl)
theorem dX1_common_63 : decode cX1_common 63 = .ok (.invokestatic 250, 3) := dk_184 0 250 (dk_at dksX1_common_2 18 rfl rfl)
theorem dX1_common_66 : decode cX1_common 66 = .ok (.iadd, 1) := dk_96 (dk_at dksX1_common_2 21 rfl rfl)
theorem dX1_common_67 : decode cX1_common 67 = .ok (.istore 5, 2) := dk_54 5 (dk_at dksX1_common_2 22 rfl rfl)
theorem dX1_common_69 : decode cX1_common 69 = .ok (.iinc 6 1, 3) := dk_132 6 1 (dk_at dksX1_common_3 0 rfl rfl)
theorem dX1_common_72 : decode cX1_common 72 = .ok (.goto (-53), 3) := dk_167 255 203 (dk_at dksX1_common_3 3 rfl rfl)
theorem dX1_common_75 : decode cX1_common 75 = .ok (.iload 5, 2) := dk_21 5 (dk_at dksX1_common_3 6 rfl rfl)
theorem dX1_common_77 : decode cX1_common 77 = .ok (.ireturn, 1) := dk_172 (dk_at dksX1_common_3 8 rfl rfl)
abbrev cX1_holders : ByteArray := prog_1_method_48_code
def yX1_holders : MethodName := ⟨RX1, "holders", "(II)I"⟩
def dkwX1_holders_3 : List UInt8 := [3, 128, 54, 4, 132, 5, 1, 167, 255, 189, 21, 4, 172]
abbrev dktX1_holders_3 : List UInt8 := dkwX1_holders_3 ++ []
def dkwX1_holders_2 : List UInt8 := [180, 0, 194, 27, 160, 0, 20, 25, 6, 28, 182, 1, 29, 2, 159, 0, 10, 4, 21, 5, 120, 167, 0, 4]
abbrev dktX1_holders_2 : List UInt8 := dkwX1_holders_2 ++ dktX1_holders_3
def dkwX1_holders_1 : List UInt8 := [162, 0, 58, 42, 180, 0, 44, 180, 0, 177, 21, 5, 182, 0, 186, 192, 0, 192, 58, 6, 21, 4, 25, 6]
abbrev dktX1_holders_1 : List UInt8 := dkwX1_holders_1 ++ dktX1_holders_2
def dkwX1_holders_0 : List UInt8 := [42, 27, 182, 0, 197, 78, 3, 54, 4, 3, 54, 5, 21, 5, 42, 180, 0, 44, 180, 0, 177, 182, 0, 176]
abbrev dktX1_holders_0 : List UInt8 := dkwX1_holders_0 ++ dktX1_holders_1
theorem dksX1_holders_0 : cX1_holders.data.toList.drop 0 = dktX1_holders_0 := by decide +kernel
theorem dksX1_holders_1 : cX1_holders.data.toList.drop 24 = dktX1_holders_1 := dk_seg dksX1_holders_0 24 rfl rfl
theorem dksX1_holders_2 : cX1_holders.data.toList.drop 48 = dktX1_holders_2 := dk_seg dksX1_holders_1 24 rfl rfl
theorem dksX1_holders_3 : cX1_holders.data.toList.drop 72 = dktX1_holders_3 := dk_seg dksX1_holders_2 24 rfl rfl
theorem dX1_holders_0 : decode cX1_holders 0 = .ok (.aload_n 0, 1) := dk_42 (dk_at dksX1_holders_0 0 rfl rfl)
theorem dX1_holders_1 : decode cX1_holders 1 = .ok (.iload_n 1, 1) := dk_27 (dk_at dksX1_holders_0 1 rfl rfl)
theorem dX1_holders_2 : decode cX1_holders 2 = .ok (.invokevirtual 197, 3) := dk_182 0 197 (dk_at dksX1_holders_0 2 rfl rfl)
theorem dX1_holders_5 : decode cX1_holders 5 = .ok (.astore_n 3, 1) := dk_78 (dk_at dksX1_holders_0 5 rfl rfl)
theorem dX1_holders_6 : decode cX1_holders 6 = .ok (.iconst 0, 1) := dk_3 (dk_at dksX1_holders_0 6 rfl rfl)
theorem dX1_holders_7 : decode cX1_holders 7 = .ok (.istore 4, 2) := dk_54 4 (dk_at dksX1_holders_0 7 rfl rfl)
theorem dX1_holders_9 : decode cX1_holders 9 = .ok (.iconst 0, 1) := dk_3 (dk_at dksX1_holders_0 9 rfl rfl)
theorem dX1_holders_10 : decode cX1_holders 10 = .ok (.istore 5, 2) := dk_54 5 (dk_at dksX1_holders_0 10 rfl rfl)
theorem dX1_holders_12 : decode cX1_holders 12 = .ok (.iload 5, 2) := dk_21 5 (dk_at dksX1_holders_0 12 rfl rfl)
theorem dX1_holders_14 : decode cX1_holders 14 = .ok (.aload_n 0, 1) := dk_42 (dk_at dksX1_holders_0 14 rfl rfl)
theorem dX1_holders_15 : decode cX1_holders 15 = .ok (.getfield 44, 3) := dk_180 0 44 (dk_at dksX1_holders_0 15 rfl rfl)
theorem dX1_holders_18 : decode cX1_holders 18 = .ok (.getfield 177, 3) := dk_180 0 177 (dk_at dksX1_holders_0 18 rfl rfl)
theorem dX1_holders_21 : decode cX1_holders 21 = .ok (.invokevirtual 176, 3) := dk_182 0 176 (dk_at dksX1_holders_0 21 rfl rfl)
theorem dX1_holders_24 : decode cX1_holders 24 = .ok (.if_icmp .ge 58, 3) := dk_162 0 58 (dk_at dksX1_holders_1 0 rfl rfl)
theorem dX1_holders_27 : decode cX1_holders 27 = .ok (.aload_n 0, 1) := dk_42 (dk_at dksX1_holders_1 3 rfl rfl)
theorem dX1_holders_28 : decode cX1_holders 28 = .ok (.getfield 44, 3) := dk_180 0 44 (dk_at dksX1_holders_1 4 rfl rfl)
theorem dX1_holders_31 : decode cX1_holders 31 = .ok (.getfield 177, 3) := dk_180 0 177 (dk_at dksX1_holders_1 7 rfl rfl)
theorem dX1_holders_34 : decode cX1_holders 34 = .ok (.iload 5, 2) := dk_21 5 (dk_at dksX1_holders_1 10 rfl rfl)
theorem dX1_holders_36 : decode cX1_holders 36 = .ok (.invokevirtual 186, 3) := dk_182 0 186 (dk_at dksX1_holders_1 12 rfl rfl)
theorem dX1_holders_39 : decode cX1_holders 39 = .ok (.checkcast 192, 3) := dk_192 0 192 (dk_at dksX1_holders_1 15 rfl rfl)
theorem dX1_holders_42 : decode cX1_holders 42 = .ok (.astore 6, 2) := dk_58 6 (dk_at dksX1_holders_1 18 rfl rfl)
theorem dX1_holders_44 : decode cX1_holders 44 = .ok (.iload 4, 2) := dk_21 4 (dk_at dksX1_holders_1 20 rfl rfl)
theorem dX1_holders_46 : decode cX1_holders 46 = .ok (.aload 6, 2) := dk_25 6 (dk_at dksX1_holders_1 22 rfl rfl)
theorem dX1_holders_48 : decode cX1_holders 48 = .ok (.getfield 194, 3) := dk_180 0 194 (dk_at dksX1_holders_2 0 rfl rfl)
theorem dX1_holders_51 : decode cX1_holders 51 = .ok (.iload_n 1, 1) := dk_27 (dk_at dksX1_holders_2 3 rfl rfl)
theorem dX1_holders_52 : decode cX1_holders 52 = .ok (.if_icmp .ne 20, 3) := dk_160 0 20 (dk_at dksX1_holders_2 4 rfl rfl)
theorem dX1_holders_55 : decode cX1_holders 55 = .ok (.aload 6, 2) := dk_25 6 (dk_at dksX1_holders_2 7 rfl rfl)
theorem dX1_holders_57 : decode cX1_holders 57 = .ok (.iload_n 2, 1) := dk_28 (dk_at dksX1_holders_2 9 rfl rfl)
theorem dX1_holders_58 : decode cX1_holders 58 = .ok (.invokevirtual 285, 3) := dk_182 1 29 (dk_at dksX1_holders_2 10 rfl rfl)
theorem dX1_holders_61 : decode cX1_holders 61 = .ok (.iconst (-1), 1) := dk_2 (dk_at dksX1_holders_2 13 rfl rfl)
theorem dX1_holders_62 : decode cX1_holders 62 = .ok (.if_icmp .eq 10, 3) := dk_159 0 10 (dk_at dksX1_holders_2 14 rfl rfl)
theorem dX1_holders_65 : decode cX1_holders 65 = .ok (.iconst 1, 1) := dk_4 (dk_at dksX1_holders_2 17 rfl rfl)
theorem dX1_holders_66 : decode cX1_holders 66 = .ok (.iload 5, 2) := dk_21 5 (dk_at dksX1_holders_2 18 rfl rfl)
theorem dX1_holders_68 : decode cX1_holders 68 = .ok (.ishl, 1) := dk_120 (dk_at dksX1_holders_2 20 rfl rfl)
theorem dX1_holders_69 : decode cX1_holders 69 = .ok (.goto 4, 3) := dk_167 0 4 (dk_at dksX1_holders_2 21 rfl rfl)
theorem dX1_holders_72 : decode cX1_holders 72 = .ok (.iconst 0, 1) := dk_3 (dk_at dksX1_holders_3 0 rfl rfl)
theorem dX1_holders_73 : decode cX1_holders 73 = .ok (.ior, 1) := dk_128 (dk_at dksX1_holders_3 1 rfl rfl)
theorem dX1_holders_74 : decode cX1_holders 74 = .ok (.istore 4, 2) := dk_54 4 (dk_at dksX1_holders_3 2 rfl rfl)
theorem dX1_holders_76 : decode cX1_holders 76 = .ok (.iinc 5 1, 3) := dk_132 5 1 (dk_at dksX1_holders_3 4 rfl rfl)
theorem dX1_holders_79 : decode cX1_holders 79 = .ok (.goto (-67), 3) := dk_167 255 189 (dk_at dksX1_holders_3 7 rfl rfl)
theorem dX1_holders_82 : decode cX1_holders 82 = .ok (.iload 4, 2) := dk_21 4 (dk_at dksX1_holders_3 10 rfl rfl)
theorem dX1_holders_84 : decode cX1_holders 84 = .ok (.ireturn, 1) := dk_172 (dk_at dksX1_holders_3 12 rfl rfl)
abbrev cX1_unseen : ByteArray := prog_1_method_50_code
def yX1_unseen : MethodName := ⟨RX1, "unseen", "(I)F"⟩
def dkwX1_unseen_1 : List UInt8 := [184, 0, 211, 184, 0, 214, 182, 0, 217, 134, 44, 180, 0, 203, 182, 0, 176, 134, 110, 174]
abbrev dktX1_unseen_1 : List UInt8 := dkwX1_unseen_1 ++ []
def dkwX1_unseen_0 : List UInt8 := [42, 27, 182, 0, 197, 77, 44, 180, 0, 203, 182, 1, 44, 153, 0, 7, 11, 167, 0, 24, 44, 3]
abbrev dktX1_unseen_0 : List UInt8 := dkwX1_unseen_0 ++ dktX1_unseen_1
theorem dksX1_unseen_0 : cX1_unseen.data.toList.drop 0 = dktX1_unseen_0 := by decide +kernel
theorem dksX1_unseen_1 : cX1_unseen.data.toList.drop 22 = dktX1_unseen_1 := dk_seg dksX1_unseen_0 22 rfl rfl
theorem dX1_unseen_0 : decode cX1_unseen 0 = .ok (.aload_n 0, 1) := dk_42 (dk_at dksX1_unseen_0 0 rfl rfl)
theorem dX1_unseen_1 : decode cX1_unseen 1 = .ok (.iload_n 1, 1) := dk_27 (dk_at dksX1_unseen_0 1 rfl rfl)
theorem dX1_unseen_2 : decode cX1_unseen 2 = .ok (.invokevirtual 197, 3) := dk_182 0 197 (dk_at dksX1_unseen_0 2 rfl rfl)
theorem dX1_unseen_5 : decode cX1_unseen 5 = .ok (.astore_n 2, 1) := dk_77 (dk_at dksX1_unseen_0 5 rfl rfl)
theorem dX1_unseen_6 : decode cX1_unseen 6 = .ok (.aload_n 2, 1) := dk_44 (dk_at dksX1_unseen_0 6 rfl rfl)
theorem dX1_unseen_7 : decode cX1_unseen 7 = .ok (.getfield 203, 3) := dk_180 0 203 (dk_at dksX1_unseen_0 7 rfl rfl)
theorem dX1_unseen_10 : decode cX1_unseen 10 = .ok (.invokevirtual 300, 3) := dk_182 1 44 (dk_at dksX1_unseen_0 10 rfl rfl)
theorem dX1_unseen_13 : decode cX1_unseen 13 = .ok (.ifCond .eq 7, 3) := dk_153 0 7 (dk_at dksX1_unseen_0 13 rfl rfl)
theorem dX1_unseen_16 : decode cX1_unseen 16 = .ok (.fconst 0, 1) := dk_11 (dk_at dksX1_unseen_0 16 rfl rfl)
theorem dX1_unseen_17 : decode cX1_unseen 17 = .ok (.goto 24, 3) := dk_167 0 24 (dk_at dksX1_unseen_0 17 rfl rfl)
theorem dX1_unseen_20 : decode cX1_unseen 20 = .ok (.aload_n 2, 1) := dk_44 (dk_at dksX1_unseen_0 20 rfl rfl)
theorem dX1_unseen_21 : decode cX1_unseen 21 = .ok (.iconst 0, 1) := dk_3 (dk_at dksX1_unseen_0 21 rfl rfl)
theorem dX1_unseen_22 : decode cX1_unseen 22 = .ok (.invokestatic 211, 3) := dk_184 0 211 (dk_at dksX1_unseen_1 0 rfl rfl)
theorem dX1_unseen_25 : decode cX1_unseen 25 = .ok (.invokestatic 214, 3) := dk_184 0 214 (dk_at dksX1_unseen_1 3 rfl rfl)
theorem dX1_unseen_28 : decode cX1_unseen 28 = .ok (.invokevirtual 217, 3) := dk_182 0 217 (dk_at dksX1_unseen_1 6 rfl rfl)
theorem dX1_unseen_31 : decode cX1_unseen 31 = .ok (.i2f, 1) := dk_134 (dk_at dksX1_unseen_1 9 rfl rfl)
theorem dX1_unseen_32 : decode cX1_unseen 32 = .ok (.aload_n 2, 1) := dk_44 (dk_at dksX1_unseen_1 10 rfl rfl)
theorem dX1_unseen_33 : decode cX1_unseen 33 = .ok (.getfield 203, 3) := dk_180 0 203 (dk_at dksX1_unseen_1 11 rfl rfl)
theorem dX1_unseen_36 : decode cX1_unseen 36 = .ok (.invokevirtual 176, 3) := dk_182 0 176 (dk_at dksX1_unseen_1 14 rfl rfl)
theorem dX1_unseen_39 : decode cX1_unseen 39 = .ok (.i2f, 1) := dk_134 (dk_at dksX1_unseen_1 17 rfl rfl)
theorem dX1_unseen_40 : decode cX1_unseen 40 = .ok (.fdiv, 1) := dk_110 (dk_at dksX1_unseen_1 18 rfl rfl)
theorem dX1_unseen_41 : decode cX1_unseen 41 = .ok (.freturn, 1) := dk_174 (dk_at dksX1_unseen_1 19 rfl rfl)
abbrev cX1_mean : ByteArray := prog_1_method_51_code
def yX1_mean : MethodName := ⟨RX1, "mean", "(I)D"⟩
def dkwX1_mean_1 : List UInt8 := [135, 44, 180, 0, 203, 182, 0, 176, 135, 111, 175]
abbrev dktX1_mean_1 : List UInt8 := dkwX1_mean_1 ++ []
def dkwX1_mean_0 : List UInt8 := [42, 27, 182, 0, 197, 77, 44, 180, 0, 203, 182, 1, 44, 153, 0, 7, 14, 167, 0, 17, 44, 182, 0, 208]
abbrev dktX1_mean_0 : List UInt8 := dkwX1_mean_0 ++ dktX1_mean_1
theorem dksX1_mean_0 : cX1_mean.data.toList.drop 0 = dktX1_mean_0 := by decide +kernel
theorem dksX1_mean_1 : cX1_mean.data.toList.drop 24 = dktX1_mean_1 := dk_seg dksX1_mean_0 24 rfl rfl
theorem dX1_mean_0 : decode cX1_mean 0 = .ok (.aload_n 0, 1) := dk_42 (dk_at dksX1_mean_0 0 rfl rfl)
theorem dX1_mean_1 : decode cX1_mean 1 = .ok (.iload_n 1, 1) := dk_27 (dk_at dksX1_mean_0 1 rfl rfl)
theorem dX1_mean_2 : decode cX1_mean 2 = .ok (.invokevirtual 197, 3) := dk_182 0 197 (dk_at dksX1_mean_0 2 rfl rfl)
theorem dX1_mean_5 : decode cX1_mean 5 = .ok (.astore_n 2, 1) := dk_77 (dk_at dksX1_mean_0 5 rfl rfl)
theorem dX1_mean_6 : decode cX1_mean 6 = .ok (.aload_n 2, 1) := dk_44 (dk_at dksX1_mean_0 6 rfl rfl)
theorem dX1_mean_7 : decode cX1_mean 7 = .ok (.getfield 203, 3) := dk_180 0 203 (dk_at dksX1_mean_0 7 rfl rfl)
theorem dX1_mean_10 : decode cX1_mean 10 = .ok (.invokevirtual 300, 3) := dk_182 1 44 (dk_at dksX1_mean_0 10 rfl rfl)
theorem dX1_mean_13 : decode cX1_mean 13 = .ok (.ifCond .eq 7, 3) := dk_153 0 7 (dk_at dksX1_mean_0 13 rfl rfl)
theorem dX1_mean_16 : decode cX1_mean 16 = .ok (.dconst 0, 1) := dk_14 (dk_at dksX1_mean_0 16 rfl rfl)
theorem dX1_mean_17 : decode cX1_mean 17 = .ok (.goto 17, 3) := dk_167 0 17 (dk_at dksX1_mean_0 17 rfl rfl)
theorem dX1_mean_20 : decode cX1_mean 20 = .ok (.aload_n 2, 1) := dk_44 (dk_at dksX1_mean_0 20 rfl rfl)
theorem dX1_mean_21 : decode cX1_mean 21 = .ok (.invokevirtual 208, 3) := dk_182 0 208 (dk_at dksX1_mean_0 21 rfl rfl)
theorem dX1_mean_24 : decode cX1_mean 24 = .ok (.i2d, 1) := dk_135 (dk_at dksX1_mean_1 0 rfl rfl)
theorem dX1_mean_25 : decode cX1_mean 25 = .ok (.aload_n 2, 1) := dk_44 (dk_at dksX1_mean_1 1 rfl rfl)
theorem dX1_mean_26 : decode cX1_mean 26 = .ok (.getfield 203, 3) := dk_180 0 203 (dk_at dksX1_mean_1 2 rfl rfl)
theorem dX1_mean_29 : decode cX1_mean 29 = .ok (.invokevirtual 176, 3) := dk_182 0 176 (dk_at dksX1_mean_1 5 rfl rfl)
theorem dX1_mean_32 : decode cX1_mean 32 = .ok (.i2d, 1) := dk_135 (dk_at dksX1_mean_1 8 rfl rfl)
theorem dX1_mean_33 : decode cX1_mean 33 = .ok (.ddiv, 1) := dk_111 (dk_at dksX1_mean_1 9 rfl rfl)
theorem dX1_mean_34 : decode cX1_mean 34 = .ok (.dreturn, 1) := dk_175 (dk_at dksX1_mean_1 10 rfl rfl)
abbrev cX1_account : ByteArray := prog_1_method_52_code
def yX1_account : MethodName := ⟨RX1, "account", "(II)I"⟩
def dkwX1_account_1 : List UInt8 := [172]
abbrev dktX1_account_1 : List UInt8 := dkwX1_account_1 ++ []
def dkwX1_account_0 : List UInt8 := [42, 27, 182, 0, 240, 78, 28, 133, 9, 20, 0, 171, 184, 0, 94, 184, 0, 98, 45, 180, 1, 48, 28, 46]
abbrev dktX1_account_0 : List UInt8 := dkwX1_account_0 ++ dktX1_account_1
theorem dksX1_account_0 : cX1_account.data.toList.drop 0 = dktX1_account_0 := by decide +kernel
theorem dksX1_account_1 : cX1_account.data.toList.drop 24 = dktX1_account_1 := dk_seg dksX1_account_0 24 rfl rfl
theorem dX1_account_0 : decode cX1_account 0 = .ok (.aload_n 0, 1) := dk_42 (dk_at dksX1_account_0 0 rfl rfl)
theorem dX1_account_1 : decode cX1_account 1 = .ok (.iload_n 1, 1) := dk_27 (dk_at dksX1_account_0 1 rfl rfl)
theorem dX1_account_2 : decode cX1_account 2 = .ok (.invokevirtual 240, 3) := dk_182 0 240 (dk_at dksX1_account_0 2 rfl rfl)
theorem dX1_account_5 : decode cX1_account 5 = .ok (.astore_n 3, 1) := dk_78 (dk_at dksX1_account_0 5 rfl rfl)
theorem dX1_account_6 : decode cX1_account 6 = .ok (.iload_n 2, 1) := dk_28 (dk_at dksX1_account_0 6 rfl rfl)
theorem dX1_account_7 : decode cX1_account 7 = .ok (.i2l, 1) := dk_133 (dk_at dksX1_account_0 7 rfl rfl)
theorem dX1_account_8 : decode cX1_account 8 = .ok (.lconst 0, 1) := dk_9 (dk_at dksX1_account_0 8 rfl rfl)
theorem dX1_account_9 : decode cX1_account 9 = .ok (.ldc2_w 171, 3) := dk_20 0 171 (dk_at dksX1_account_0 9 rfl rfl)
theorem dX1_account_12 : decode cX1_account 12 = .ok (.invokestatic 94, 3) := dk_184 0 94 (dk_at dksX1_account_0 12 rfl rfl)
theorem dX1_account_15 : decode cX1_account 15 = .ok (.invokestatic 98, 3) := dk_184 0 98 (dk_at dksX1_account_0 15 rfl rfl)
theorem dX1_account_18 : decode cX1_account 18 = .ok (.aload_n 3, 1) := dk_45 (dk_at dksX1_account_0 18 rfl rfl)
theorem dX1_account_19 : decode cX1_account 19 = .ok (.getfield 304, 3) := dk_180 1 48 (dk_at dksX1_account_0 19 rfl rfl)
theorem dX1_account_22 : decode cX1_account 22 = .ok (.iload_n 2, 1) := dk_28 (dk_at dksX1_account_0 22 rfl rfl)
theorem dX1_account_23 : decode cX1_account 23 = .ok (.iaload, 1) := dk_46 (dk_at dksX1_account_0 23 rfl rfl)
theorem dX1_account_24 : decode cX1_account 24 = .ok (.ireturn, 1) := dk_172 (dk_at dksX1_account_1 0 rfl rfl)
abbrev cX1_notice : ByteArray := prog_1_method_53_code
def yX1_notice : MethodName := ⟨RX1, "notice", "(II)I"⟩
def dkwX1_notice_1 : List UInt8 := [133, 184, 0, 94, 184, 1, 53, 42, 180, 0, 64, 27, 182, 0, 186, 192, 1, 56, 28, 182, 1, 58, 172]
abbrev dktX1_notice_1 : List UInt8 := dkwX1_notice_1 ++ []
def dkwX1_notice_0 : List UInt8 := [28, 133, 9, 20, 1, 51, 184, 0, 94, 184, 0, 98, 27, 133, 9, 42, 180, 0, 64, 182, 0, 176, 4, 100]
abbrev dktX1_notice_0 : List UInt8 := dkwX1_notice_0 ++ dktX1_notice_1
theorem dksX1_notice_0 : cX1_notice.data.toList.drop 0 = dktX1_notice_0 := by decide +kernel
theorem dksX1_notice_1 : cX1_notice.data.toList.drop 24 = dktX1_notice_1 := dk_seg dksX1_notice_0 24 rfl rfl
theorem dX1_notice_0 : decode cX1_notice 0 = .ok (.iload_n 2, 1) := dk_28 (dk_at dksX1_notice_0 0 rfl rfl)
theorem dX1_notice_1 : decode cX1_notice 1 = .ok (.i2l, 1) := dk_133 (dk_at dksX1_notice_0 1 rfl rfl)
theorem dX1_notice_2 : decode cX1_notice 2 = .ok (.lconst 0, 1) := dk_9 (dk_at dksX1_notice_0 2 rfl rfl)
theorem dX1_notice_3 : decode cX1_notice 3 = .ok (.ldc2_w 307, 3) := dk_20 1 51 (dk_at dksX1_notice_0 3 rfl rfl)
theorem dX1_notice_6 : decode cX1_notice 6 = .ok (.invokestatic 94, 3) := dk_184 0 94 (dk_at dksX1_notice_0 6 rfl rfl)
theorem dX1_notice_9 : decode cX1_notice 9 = .ok (.invokestatic 98, 3) := dk_184 0 98 (dk_at dksX1_notice_0 9 rfl rfl)
theorem dX1_notice_12 : decode cX1_notice 12 = .ok (.iload_n 1, 1) := dk_27 (dk_at dksX1_notice_0 12 rfl rfl)
theorem dX1_notice_13 : decode cX1_notice 13 = .ok (.i2l, 1) := dk_133 (dk_at dksX1_notice_0 13 rfl rfl)
theorem dX1_notice_14 : decode cX1_notice 14 = .ok (.lconst 0, 1) := dk_9 (dk_at dksX1_notice_0 14 rfl rfl)
theorem dX1_notice_15 : decode cX1_notice 15 = .ok (.aload_n 0, 1) := dk_42 (dk_at dksX1_notice_0 15 rfl rfl)
theorem dX1_notice_16 : decode cX1_notice 16 = .ok (.getfield 64, 3) := dk_180 0 64 (dk_at dksX1_notice_0 16 rfl rfl)
theorem dX1_notice_19 : decode cX1_notice 19 = .ok (.invokevirtual 176, 3) := dk_182 0 176 (dk_at dksX1_notice_0 19 rfl rfl)
theorem dX1_notice_22 : decode cX1_notice 22 = .ok (.iconst 1, 1) := dk_4 (dk_at dksX1_notice_0 22 rfl rfl)
theorem dX1_notice_23 : decode cX1_notice 23 = .ok (.isub, 1) := dk_100 (dk_at dksX1_notice_0 23 rfl rfl)
theorem dX1_notice_24 : decode cX1_notice 24 = .ok (.i2l, 1) := dk_133 (dk_at dksX1_notice_1 0 rfl rfl)
theorem dX1_notice_25 : decode cX1_notice 25 = .ok (.invokestatic 94, 3) := dk_184 0 94 (dk_at dksX1_notice_1 1 rfl rfl)
theorem dX1_notice_28 : decode cX1_notice 28 = .ok (.invokestatic 309, 3) := dk_184 1 53 (dk_at dksX1_notice_1 4 rfl rfl)
theorem dX1_notice_31 : decode cX1_notice 31 = .ok (.aload_n 0, 1) := dk_42 (dk_at dksX1_notice_1 7 rfl rfl)
theorem dX1_notice_32 : decode cX1_notice 32 = .ok (.getfield 64, 3) := dk_180 0 64 (dk_at dksX1_notice_1 8 rfl rfl)
theorem dX1_notice_35 : decode cX1_notice 35 = .ok (.iload_n 1, 1) := dk_27 (dk_at dksX1_notice_1 11 rfl rfl)
theorem dX1_notice_36 : decode cX1_notice 36 = .ok (.invokevirtual 186, 3) := dk_182 0 186 (dk_at dksX1_notice_1 12 rfl rfl)
theorem dX1_notice_39 : decode cX1_notice 39 = .ok (.checkcast 312, 3) := dk_192 1 56 (dk_at dksX1_notice_1 15 rfl rfl)
theorem dX1_notice_42 : decode cX1_notice 42 = .ok (.iload_n 2, 1) := dk_28 (dk_at dksX1_notice_1 18 rfl rfl)
theorem dX1_notice_43 : decode cX1_notice 43 = .ok (.invokevirtual 314, 3) := dk_182 1 58 (dk_at dksX1_notice_1 19 rfl rfl)
theorem dX1_notice_46 : decode cX1_notice 46 = .ok (.ireturn, 1) := dk_172 (dk_at dksX1_notice_1 22 rfl rfl)
abbrev cX1_requireElement : ByteArray := prog_1_method_5_code
def yX1_requireElement : MethodName := ⟨RX1, "requireElement", "(Z)V"⟩
def dkwX1_requireElement_0 : List UInt8 := [26, 154, 0, 11, 187, 0, 13, 89, 183, 0, 15, 191, 177]
abbrev dktX1_requireElement_0 : List UInt8 := dkwX1_requireElement_0 ++ []
theorem dksX1_requireElement_0 : cX1_requireElement.data.toList.drop 0 = dktX1_requireElement_0 := by decide +kernel
theorem dX1_requireElement_0 : decode cX1_requireElement 0 = .ok (.iload_n 0, 1) := dk_26 (dk_at dksX1_requireElement_0 0 rfl rfl)
theorem dX1_requireElement_1 : decode cX1_requireElement 1 = .ok (.ifCond .ne 11, 3) := dk_154 0 11 (dk_at dksX1_requireElement_0 1 rfl rfl)
theorem dX1_requireElement_4 : decode cX1_requireElement 4 = .ok (.new 13, 3) := dk_187 0 13 (dk_at dksX1_requireElement_0 4 rfl rfl)
theorem dX1_requireElement_7 : decode cX1_requireElement 7 = .ok (.dup, 1) := dk_89 (dk_at dksX1_requireElement_0 7 rfl rfl)
theorem dX1_requireElement_8 : decode cX1_requireElement 8 = .ok (.invokespecial 15, 3) := dk_183 0 15 (dk_at dksX1_requireElement_0 8 rfl rfl)
theorem dX1_requireElement_11 : decode cX1_requireElement 11 = .ok (.athrow, 1) := dk_191 (dk_at dksX1_requireElement_0 11 rfl rfl)
theorem dX1_requireElement_12 : decode cX1_requireElement 12 = .ok (.return_, 1) := dk_177 (dk_at dksX1_requireElement_0 12 rfl rfl)
abbrev cX1_searchBox : ByteArray := prog_1_method_54_code
def yX1_searchBox : MethodName := ⟨RX1, "searchBox", "(I)I"⟩
def dkwX1_searchBox_3 : List UInt8 := [132, 5, 1, 167, 255, 207, 21, 4, 172]
abbrev dktX1_searchBox_3 : List UInt8 := dkwX1_searchBox_3 ++ []
def dkwX1_searchBox_2 : List UInt8 := [192, 0, 227, 185, 1, 64, 2, 0, 153, 0, 10, 4, 21, 5, 120, 167, 0, 4, 3, 128, 54, 4]
abbrev dktX1_searchBox_2 : List UInt8 := dkwX1_searchBox_2 ++ dktX1_searchBox_3
def dkwX1_searchBox_1 : List UInt8 := [21, 5, 44, 180, 0, 203, 182, 0, 176, 162, 0, 43, 21, 4, 45, 44, 180, 0, 203, 21, 5, 182, 0, 186]
abbrev dktX1_searchBox_1 : List UInt8 := dkwX1_searchBox_1 ++ dktX1_searchBox_2
def dkwX1_searchBox_0 : List UInt8 := [42, 27, 182, 0, 197, 77, 42, 182, 1, 61, 78, 45, 199, 0, 6, 16, 252, 172, 3, 54, 4, 3, 54, 5]
abbrev dktX1_searchBox_0 : List UInt8 := dkwX1_searchBox_0 ++ dktX1_searchBox_1
theorem dksX1_searchBox_0 : cX1_searchBox.data.toList.drop 0 = dktX1_searchBox_0 := by decide +kernel
theorem dksX1_searchBox_1 : cX1_searchBox.data.toList.drop 24 = dktX1_searchBox_1 := dk_seg dksX1_searchBox_0 24 rfl rfl
theorem dksX1_searchBox_2 : cX1_searchBox.data.toList.drop 48 = dktX1_searchBox_2 := dk_seg dksX1_searchBox_1 24 rfl rfl
theorem dksX1_searchBox_3 : cX1_searchBox.data.toList.drop 70 = dktX1_searchBox_3 := dk_seg dksX1_searchBox_2 22 rfl rfl
theorem dX1_searchBox_0 : decode cX1_searchBox 0 = .ok (.aload_n 0, 1) := dk_42 (dk_at dksX1_searchBox_0 0 rfl rfl)
theorem dX1_searchBox_1 : decode cX1_searchBox 1 = .ok (.iload_n 1, 1) := dk_27 (dk_at dksX1_searchBox_0 1 rfl rfl)
theorem dX1_searchBox_2 : decode cX1_searchBox 2 = .ok (.invokevirtual 197, 3) := dk_182 0 197 (dk_at dksX1_searchBox_0 2 rfl rfl)
theorem dX1_searchBox_5 : decode cX1_searchBox 5 = .ok (.astore_n 2, 1) := dk_77 (dk_at dksX1_searchBox_0 5 rfl rfl)
theorem dX1_searchBox_6 : decode cX1_searchBox 6 = .ok (.aload_n 0, 1) := dk_42 (dk_at dksX1_searchBox_0 6 rfl rfl)
theorem dX1_searchBox_7 : decode cX1_searchBox 7 = .ok (.invokevirtual 317, 3) := dk_182 1 61 (dk_at dksX1_searchBox_0 7 rfl rfl)
theorem dX1_searchBox_10 : decode cX1_searchBox 10 = .ok (.astore_n 3, 1) := dk_78 (dk_at dksX1_searchBox_0 10 rfl rfl)
theorem dX1_searchBox_11 : decode cX1_searchBox 11 = .ok (.aload_n 3, 1) := dk_45 (dk_at dksX1_searchBox_0 11 rfl rfl)
theorem dX1_searchBox_12 : decode cX1_searchBox 12 = .ok (.ifnonnull 6, 3) := dk_199 0 6 (dk_at dksX1_searchBox_0 12 rfl rfl)
theorem dX1_searchBox_15 : decode cX1_searchBox 15 = .ok (.bipush (-4), 2) := dk_16 252 (dk_at dksX1_searchBox_0 15 rfl rfl)
theorem dX1_searchBox_17 : decode cX1_searchBox 17 = .ok (.ireturn, 1) := dk_172 (dk_at dksX1_searchBox_0 17 rfl rfl)
theorem dX1_searchBox_18 : decode cX1_searchBox 18 = .ok (.iconst 0, 1) := dk_3 (dk_at dksX1_searchBox_0 18 rfl rfl)
theorem dX1_searchBox_19 : decode cX1_searchBox 19 = .ok (.istore 4, 2) := dk_54 4 (dk_at dksX1_searchBox_0 19 rfl rfl)
theorem dX1_searchBox_21 : decode cX1_searchBox 21 = .ok (.iconst 0, 1) := dk_3 (dk_at dksX1_searchBox_0 21 rfl rfl)
theorem dX1_searchBox_22 : decode cX1_searchBox 22 = .ok (.istore 5, 2) := dk_54 5 (dk_at dksX1_searchBox_0 22 rfl rfl)
theorem dX1_searchBox_24 : decode cX1_searchBox 24 = .ok (.iload 5, 2) := dk_21 5 (dk_at dksX1_searchBox_1 0 rfl rfl)
theorem dX1_searchBox_26 : decode cX1_searchBox 26 = .ok (.aload_n 2, 1) := dk_44 (dk_at dksX1_searchBox_1 2 rfl rfl)
theorem dX1_searchBox_27 : decode cX1_searchBox 27 = .ok (.getfield 203, 3) := dk_180 0 203 (dk_at dksX1_searchBox_1 3 rfl rfl)
theorem dX1_searchBox_30 : decode cX1_searchBox 30 = .ok (.invokevirtual 176, 3) := dk_182 0 176 (dk_at dksX1_searchBox_1 6 rfl rfl)
theorem dX1_searchBox_33 : decode cX1_searchBox 33 = .ok (.if_icmp .ge 43, 3) := dk_162 0 43 (dk_at dksX1_searchBox_1 9 rfl rfl)
theorem dX1_searchBox_36 : decode cX1_searchBox 36 = .ok (.iload 4, 2) := dk_21 4 (dk_at dksX1_searchBox_1 12 rfl rfl)
theorem dX1_searchBox_38 : decode cX1_searchBox 38 = .ok (.aload_n 3, 1) := dk_45 (dk_at dksX1_searchBox_1 14 rfl rfl)
theorem dX1_searchBox_39 : decode cX1_searchBox 39 = .ok (.aload_n 2, 1) := dk_44 (dk_at dksX1_searchBox_1 15 rfl rfl)
theorem dX1_searchBox_40 : decode cX1_searchBox 40 = .ok (.getfield 203, 3) := dk_180 0 203 (dk_at dksX1_searchBox_1 16 rfl rfl)
theorem dX1_searchBox_43 : decode cX1_searchBox 43 = .ok (.iload 5, 2) := dk_21 5 (dk_at dksX1_searchBox_1 19 rfl rfl)
theorem dX1_searchBox_45 : decode cX1_searchBox 45 = .ok (.invokevirtual 186, 3) := dk_182 0 186 (dk_at dksX1_searchBox_1 21 rfl rfl)
theorem dX1_searchBox_48 : decode cX1_searchBox 48 = .ok (.checkcast 227, 3) := dk_192 0 227 (dk_at dksX1_searchBox_2 0 rfl rfl)
theorem dX1_searchBox_51 : decode cX1_searchBox 51 = .ok (.invokeinterface 320 2, 5) := by decide +kernel
theorem dX1_searchBox_56 : decode cX1_searchBox 56 = .ok (.ifCond .eq 10, 3) := dk_153 0 10 (dk_at dksX1_searchBox_2 8 rfl rfl)
theorem dX1_searchBox_59 : decode cX1_searchBox 59 = .ok (.iconst 1, 1) := dk_4 (dk_at dksX1_searchBox_2 11 rfl rfl)
theorem dX1_searchBox_60 : decode cX1_searchBox 60 = .ok (.iload 5, 2) := dk_21 5 (dk_at dksX1_searchBox_2 12 rfl rfl)
theorem dX1_searchBox_62 : decode cX1_searchBox 62 = .ok (.ishl, 1) := dk_120 (dk_at dksX1_searchBox_2 14 rfl rfl)
theorem dX1_searchBox_63 : decode cX1_searchBox 63 = .ok (.goto 4, 3) := dk_167 0 4 (dk_at dksX1_searchBox_2 15 rfl rfl)
theorem dX1_searchBox_66 : decode cX1_searchBox 66 = .ok (.iconst 0, 1) := dk_3 (dk_at dksX1_searchBox_2 18 rfl rfl)
theorem dX1_searchBox_67 : decode cX1_searchBox 67 = .ok (.ior, 1) := dk_128 (dk_at dksX1_searchBox_2 19 rfl rfl)
theorem dX1_searchBox_68 : decode cX1_searchBox 68 = .ok (.istore 4, 2) := dk_54 4 (dk_at dksX1_searchBox_2 20 rfl rfl)
theorem dX1_searchBox_70 : decode cX1_searchBox 70 = .ok (.iinc 5 1, 3) := dk_132 5 1 (dk_at dksX1_searchBox_3 0 rfl rfl)
theorem dX1_searchBox_73 : decode cX1_searchBox 73 = .ok (.goto (-49), 3) := dk_167 255 207 (dk_at dksX1_searchBox_3 3 rfl rfl)
theorem dX1_searchBox_76 : decode cX1_searchBox 76 = .ok (.iload 4, 2) := dk_21 4 (dk_at dksX1_searchBox_3 6 rfl rfl)
theorem dX1_searchBox_78 : decode cX1_searchBox 78 = .ok (.ireturn, 1) := dk_172 (dk_at dksX1_searchBox_3 8 rfl rfl)
abbrev cX1_readQuery : ByteArray := prog_1_method_23_code
def yX1_readQuery : MethodName := ⟨RX1, "readQuery", "()LMailSessions$Test;"⟩
def dkwX1_readQuery_1 : List UInt8 := [42, 43, 182, 0, 145, 1, 77, 42, 3, 181, 0, 83, 44, 176, 78, 42, 3, 181, 0, 83, 45, 191]
abbrev dktX1_readQuery_1 : List UInt8 := dkwX1_readQuery_1 ++ []
def dkwX1_readQuery_0 : List UInt8 := [42, 182, 0, 130, 187, 0, 133, 89, 42, 183, 0, 135, 182, 0, 149, 76, 42, 3, 181, 0, 83, 43, 176, 76]
abbrev dktX1_readQuery_0 : List UInt8 := dkwX1_readQuery_0 ++ dktX1_readQuery_1
theorem dksX1_readQuery_0 : cX1_readQuery.data.toList.drop 0 = dktX1_readQuery_0 := by decide +kernel
theorem dksX1_readQuery_1 : cX1_readQuery.data.toList.drop 24 = dktX1_readQuery_1 := dk_seg dksX1_readQuery_0 24 rfl rfl
theorem dX1_readQuery_0 : decode cX1_readQuery 0 = .ok (.aload_n 0, 1) := dk_42 (dk_at dksX1_readQuery_0 0 rfl rfl)
theorem dX1_readQuery_1 : decode cX1_readQuery 1 = .ok (.invokevirtual 130, 3) := dk_182 0 130 (dk_at dksX1_readQuery_0 1 rfl rfl)
theorem dX1_readQuery_4 : decode cX1_readQuery 4 = .ok (.new 133, 3) := dk_187 0 133 (dk_at dksX1_readQuery_0 4 rfl rfl)
theorem dX1_readQuery_7 : decode cX1_readQuery 7 = .ok (.dup, 1) := dk_89 (dk_at dksX1_readQuery_0 7 rfl rfl)
theorem dX1_readQuery_8 : decode cX1_readQuery 8 = .ok (.aload_n 0, 1) := dk_42 (dk_at dksX1_readQuery_0 8 rfl rfl)
theorem dX1_readQuery_9 : decode cX1_readQuery 9 = .ok (.invokespecial 135, 3) := dk_183 0 135 (dk_at dksX1_readQuery_0 9 rfl rfl)
theorem dX1_readQuery_12 : decode cX1_readQuery 12 = .ok (.invokevirtual 149, 3) := dk_182 0 149 (dk_at dksX1_readQuery_0 12 rfl rfl)
theorem dX1_readQuery_15 : decode cX1_readQuery 15 = .ok (.astore_n 1, 1) := dk_76 (dk_at dksX1_readQuery_0 15 rfl rfl)
theorem dX1_readQuery_16 : decode cX1_readQuery 16 = .ok (.aload_n 0, 1) := dk_42 (dk_at dksX1_readQuery_0 16 rfl rfl)
theorem dX1_readQuery_17 : decode cX1_readQuery 17 = .ok (.iconst 0, 1) := dk_3 (dk_at dksX1_readQuery_0 17 rfl rfl)
theorem dX1_readQuery_18 : decode cX1_readQuery 18 = .ok (.putfield 83, 3) := dk_181 0 83 (dk_at dksX1_readQuery_0 18 rfl rfl)
theorem dX1_readQuery_21 : decode cX1_readQuery 21 = .ok (.aload_n 1, 1) := dk_43 (dk_at dksX1_readQuery_0 21 rfl rfl)
theorem dX1_readQuery_22 : decode cX1_readQuery 22 = .ok (.areturn, 1) := dk_176 (dk_at dksX1_readQuery_0 22 rfl rfl)
theorem dX1_readQuery_23 : decode cX1_readQuery 23 = .ok (.astore_n 1, 1) := dk_76 (dk_at dksX1_readQuery_0 23 rfl rfl)
theorem dX1_readQuery_24 : decode cX1_readQuery 24 = .ok (.aload_n 0, 1) := dk_42 (dk_at dksX1_readQuery_1 0 rfl rfl)
theorem dX1_readQuery_25 : decode cX1_readQuery 25 = .ok (.aload_n 1, 1) := dk_43 (dk_at dksX1_readQuery_1 1 rfl rfl)
theorem dX1_readQuery_26 : decode cX1_readQuery 26 = .ok (.invokevirtual 145, 3) := dk_182 0 145 (dk_at dksX1_readQuery_1 2 rfl rfl)
theorem dX1_readQuery_29 : decode cX1_readQuery 29 = .ok (.aconst_null, 1) := dk_1 (dk_at dksX1_readQuery_1 5 rfl rfl)
theorem dX1_readQuery_30 : decode cX1_readQuery 30 = .ok (.astore_n 2, 1) := dk_77 (dk_at dksX1_readQuery_1 6 rfl rfl)
theorem dX1_readQuery_31 : decode cX1_readQuery 31 = .ok (.aload_n 0, 1) := dk_42 (dk_at dksX1_readQuery_1 7 rfl rfl)
theorem dX1_readQuery_32 : decode cX1_readQuery 32 = .ok (.iconst 0, 1) := dk_3 (dk_at dksX1_readQuery_1 8 rfl rfl)
theorem dX1_readQuery_33 : decode cX1_readQuery 33 = .ok (.putfield 83, 3) := dk_181 0 83 (dk_at dksX1_readQuery_1 9 rfl rfl)
theorem dX1_readQuery_36 : decode cX1_readQuery 36 = .ok (.aload_n 2, 1) := dk_44 (dk_at dksX1_readQuery_1 12 rfl rfl)
theorem dX1_readQuery_37 : decode cX1_readQuery 37 = .ok (.areturn, 1) := dk_176 (dk_at dksX1_readQuery_1 13 rfl rfl)
theorem dX1_readQuery_38 : decode cX1_readQuery 38 = .ok (.astore_n 3, 1) := dk_78 (dk_at dksX1_readQuery_1 14 rfl rfl)
theorem dX1_readQuery_39 : decode cX1_readQuery 39 = .ok (.aload_n 0, 1) := dk_42 (dk_at dksX1_readQuery_1 15 rfl rfl)
theorem dX1_readQuery_40 : decode cX1_readQuery 40 = .ok (.iconst 0, 1) := dk_3 (dk_at dksX1_readQuery_1 16 rfl rfl)
theorem dX1_readQuery_41 : decode cX1_readQuery 41 = .ok (.putfield 83, 3) := dk_181 0 83 (dk_at dksX1_readQuery_1 17 rfl rfl)
theorem dX1_readQuery_44 : decode cX1_readQuery 44 = .ok (.aload_n 3, 1) := dk_45 (dk_at dksX1_readQuery_1 20 rfl rfl)
theorem dX1_readQuery_45 : decode cX1_readQuery 45 = .ok (.athrow, 1) := dk_191 (dk_at dksX1_readQuery_1 21 rfl rfl)
abbrev cX1_both : ByteArray := prog_1_method_10_code
def yX1_both : MethodName := ⟨RX1, "both", "(LMailSessions$Test;LMailSessions$Test;)LMailSessions$Test;"⟩
def dkwX1_both_0 : List UInt8 := [42, 43, 186, 0, 23, 0, 0, 176]
abbrev dktX1_both_0 : List UInt8 := dkwX1_both_0 ++ []
theorem dksX1_both_0 : cX1_both.data.toList.drop 0 = dktX1_both_0 := by decide +kernel
theorem dX1_both_0 : decode cX1_both 0 = .ok (.aload_n 0, 1) := dk_42 (dk_at dksX1_both_0 0 rfl rfl)
theorem dX1_both_1 : decode cX1_both 1 = .ok (.aload_n 1, 1) := dk_43 (dk_at dksX1_both_0 1 rfl rfl)
theorem dX1_both_2 : decode cX1_both 2 = .ok (.invokedynamic 23, 5) := by decide +kernel
theorem dX1_both_7 : decode cX1_both 7 = .ok (.areturn, 1) := dk_176 (dk_at dksX1_both_0 7 rfl rfl)
abbrev cX1_lambda_both_2 : ByteArray := prog_1_method_96_code
def yX1_lambda_both_2 : MethodName := ⟨RX1, "lambda$both$2", "(LMailSessions$Test;LMailSessions$Test;LMailSessions$Message;)Z"⟩
def dkwX1_lambda_both_2_1 : List UInt8 := [3, 172]
abbrev dktX1_lambda_both_2_1 : List UInt8 := dkwX1_lambda_both_2_1 ++ []
def dkwX1_lambda_both_2_0 : List UInt8 := [42, 44, 185, 1, 64, 2, 0, 153, 0, 17, 43, 44, 185, 1, 64, 2, 0, 153, 0, 7, 4, 167, 0, 4]
abbrev dktX1_lambda_both_2_0 : List UInt8 := dkwX1_lambda_both_2_0 ++ dktX1_lambda_both_2_1
theorem dksX1_lambda_both_2_0 : cX1_lambda_both_2.data.toList.drop 0 = dktX1_lambda_both_2_0 := by decide +kernel
theorem dksX1_lambda_both_2_1 : cX1_lambda_both_2.data.toList.drop 24 = dktX1_lambda_both_2_1 := dk_seg dksX1_lambda_both_2_0 24 rfl rfl
theorem dX1_lambda_both_2_0 : decode cX1_lambda_both_2 0 = .ok (.aload_n 0, 1) := dk_42 (dk_at dksX1_lambda_both_2_0 0 rfl rfl)
theorem dX1_lambda_both_2_1 : decode cX1_lambda_both_2 1 = .ok (.aload_n 2, 1) := dk_44 (dk_at dksX1_lambda_both_2_0 1 rfl rfl)
theorem dX1_lambda_both_2_2 : decode cX1_lambda_both_2 2 = .ok (.invokeinterface 320 2, 5) := by decide +kernel
theorem dX1_lambda_both_2_7 : decode cX1_lambda_both_2 7 = .ok (.ifCond .eq 17, 3) := dk_153 0 17 (dk_at dksX1_lambda_both_2_0 7 rfl rfl)
theorem dX1_lambda_both_2_10 : decode cX1_lambda_both_2 10 = .ok (.aload_n 1, 1) := dk_43 (dk_at dksX1_lambda_both_2_0 10 rfl rfl)
theorem dX1_lambda_both_2_11 : decode cX1_lambda_both_2 11 = .ok (.aload_n 2, 1) := dk_44 (dk_at dksX1_lambda_both_2_0 11 rfl rfl)
theorem dX1_lambda_both_2_12 : decode cX1_lambda_both_2 12 = .ok (.invokeinterface 320 2, 5) := by decide +kernel
theorem dX1_lambda_both_2_17 : decode cX1_lambda_both_2 17 = .ok (.ifCond .eq 7, 3) := dk_153 0 7 (dk_at dksX1_lambda_both_2_0 17 rfl rfl)
theorem dX1_lambda_both_2_20 : decode cX1_lambda_both_2 20 = .ok (.iconst 1, 1) := dk_4 (dk_at dksX1_lambda_both_2_0 20 rfl rfl)
theorem dX1_lambda_both_2_21 : decode cX1_lambda_both_2 21 = .ok (.goto 4, 3) := dk_167 0 4 (dk_at dksX1_lambda_both_2_0 21 rfl rfl)
theorem dX1_lambda_both_2_24 : decode cX1_lambda_both_2 24 = .ok (.iconst 0, 1) := dk_3 (dk_at dksX1_lambda_both_2_1 0 rfl rfl)
theorem dX1_lambda_both_2_25 : decode cX1_lambda_both_2 25 = .ok (.ireturn, 1) := dk_172 (dk_at dksX1_lambda_both_2_1 1 rfl rfl)
abbrev cX1_either : ByteArray := prog_1_method_9_code
def yX1_either : MethodName := ⟨RX1, "either", "(LMailSessions$Test;LMailSessions$Test;)LMailSessions$Test;"⟩
def dkwX1_either_0 : List UInt8 := [42, 43, 186, 0, 20, 0, 0, 176]
abbrev dktX1_either_0 : List UInt8 := dkwX1_either_0 ++ []
theorem dksX1_either_0 : cX1_either.data.toList.drop 0 = dktX1_either_0 := by decide +kernel
theorem dX1_either_0 : decode cX1_either 0 = .ok (.aload_n 0, 1) := dk_42 (dk_at dksX1_either_0 0 rfl rfl)
theorem dX1_either_1 : decode cX1_either 1 = .ok (.aload_n 1, 1) := dk_43 (dk_at dksX1_either_0 1 rfl rfl)
theorem dX1_either_2 : decode cX1_either 2 = .ok (.invokedynamic 20, 5) := by decide +kernel
theorem dX1_either_7 : decode cX1_either 7 = .ok (.areturn, 1) := dk_176 (dk_at dksX1_either_0 7 rfl rfl)
abbrev cX1_lambda_either_1 : ByteArray := prog_1_method_97_code
def yX1_lambda_either_1 : MethodName := ⟨RX1, "lambda$either$1", "(LMailSessions$Test;LMailSessions$Test;LMailSessions$Message;)Z"⟩
def dkwX1_lambda_either_1_1 : List UInt8 := [3, 172]
abbrev dktX1_lambda_either_1_1 : List UInt8 := dkwX1_lambda_either_1_1 ++ []
def dkwX1_lambda_either_1_0 : List UInt8 := [42, 44, 185, 1, 64, 2, 0, 154, 0, 13, 43, 44, 185, 1, 64, 2, 0, 153, 0, 7, 4, 167, 0, 4]
abbrev dktX1_lambda_either_1_0 : List UInt8 := dkwX1_lambda_either_1_0 ++ dktX1_lambda_either_1_1
theorem dksX1_lambda_either_1_0 : cX1_lambda_either_1.data.toList.drop 0 = dktX1_lambda_either_1_0 := by decide +kernel
theorem dksX1_lambda_either_1_1 : cX1_lambda_either_1.data.toList.drop 24 = dktX1_lambda_either_1_1 := dk_seg dksX1_lambda_either_1_0 24 rfl rfl
theorem dX1_lambda_either_1_0 : decode cX1_lambda_either_1 0 = .ok (.aload_n 0, 1) := dk_42 (dk_at dksX1_lambda_either_1_0 0 rfl rfl)
theorem dX1_lambda_either_1_1 : decode cX1_lambda_either_1 1 = .ok (.aload_n 2, 1) := dk_44 (dk_at dksX1_lambda_either_1_0 1 rfl rfl)
theorem dX1_lambda_either_1_2 : decode cX1_lambda_either_1 2 = .ok (.invokeinterface 320 2, 5) := by decide +kernel
theorem dX1_lambda_either_1_7 : decode cX1_lambda_either_1 7 = .ok (.ifCond .ne 13, 3) := dk_154 0 13 (dk_at dksX1_lambda_either_1_0 7 rfl rfl)
theorem dX1_lambda_either_1_10 : decode cX1_lambda_either_1 10 = .ok (.aload_n 1, 1) := dk_43 (dk_at dksX1_lambda_either_1_0 10 rfl rfl)
theorem dX1_lambda_either_1_11 : decode cX1_lambda_either_1 11 = .ok (.aload_n 2, 1) := dk_44 (dk_at dksX1_lambda_either_1_0 11 rfl rfl)
theorem dX1_lambda_either_1_12 : decode cX1_lambda_either_1 12 = .ok (.invokeinterface 320 2, 5) := by decide +kernel
theorem dX1_lambda_either_1_17 : decode cX1_lambda_either_1 17 = .ok (.ifCond .eq 7, 3) := dk_153 0 7 (dk_at dksX1_lambda_either_1_0 17 rfl rfl)
theorem dX1_lambda_either_1_20 : decode cX1_lambda_either_1 20 = .ok (.iconst 1, 1) := dk_4 (dk_at dksX1_lambda_either_1_0 20 rfl rfl)
theorem dX1_lambda_either_1_21 : decode cX1_lambda_either_1 21 = .ok (.goto 4, 3) := dk_167 0 4 (dk_at dksX1_lambda_either_1_0 21 rfl rfl)
theorem dX1_lambda_either_1_24 : decode cX1_lambda_either_1 24 = .ok (.iconst 0, 1) := dk_3 (dk_at dksX1_lambda_either_1_1 0 rfl rfl)
theorem dX1_lambda_either_1_25 : decode cX1_lambda_either_1 25 = .ok (.ireturn, 1) := dk_172 (dk_at dksX1_lambda_either_1_1 1 rfl rfl)
abbrev cX1_select : ByteArray := prog_1_method_59_code
def yX1_select : MethodName := ⟨RX1, "select", "(IIZ)I"⟩
def dkwX1_select_2 : List UInt8 := [182, 1, 83, 42, 180, 0, 44, 42, 180, 0, 64, 182, 1, 76, 25, 6, 180, 1, 1, 172]
abbrev dktX1_select_2 : List UInt8 := dkwX1_select_2 ++ []
def dkwX1_select_1 : List UInt8 := [167, 0, 4, 3, 184, 0, 86, 42, 27, 182, 1, 80, 58, 6, 42, 180, 0, 44, 25, 6, 28, 29]
abbrev dktX1_select_1 : List UInt8 := dkwX1_select_1 ++ dktX1_select_2
def dkwX1_select_0 : List UInt8 := [42, 27, 182, 0, 240, 58, 4, 42, 28, 182, 0, 197, 58, 5, 25, 4, 180, 0, 254, 154, 0, 7, 4]
abbrev dktX1_select_0 : List UInt8 := dkwX1_select_0 ++ dktX1_select_1
theorem dksX1_select_0 : cX1_select.data.toList.drop 0 = dktX1_select_0 := by decide +kernel
theorem dksX1_select_1 : cX1_select.data.toList.drop 23 = dktX1_select_1 := dk_seg dksX1_select_0 23 rfl rfl
theorem dksX1_select_2 : cX1_select.data.toList.drop 45 = dktX1_select_2 := dk_seg dksX1_select_1 22 rfl rfl
theorem dX1_select_0 : decode cX1_select 0 = .ok (.aload_n 0, 1) := dk_42 (dk_at dksX1_select_0 0 rfl rfl)
theorem dX1_select_1 : decode cX1_select 1 = .ok (.iload_n 1, 1) := dk_27 (dk_at dksX1_select_0 1 rfl rfl)
theorem dX1_select_2 : decode cX1_select 2 = .ok (.invokevirtual 240, 3) := dk_182 0 240 (dk_at dksX1_select_0 2 rfl rfl)
theorem dX1_select_5 : decode cX1_select 5 = .ok (.astore 4, 2) := dk_58 4 (dk_at dksX1_select_0 5 rfl rfl)
theorem dX1_select_7 : decode cX1_select 7 = .ok (.aload_n 0, 1) := dk_42 (dk_at dksX1_select_0 7 rfl rfl)
theorem dX1_select_8 : decode cX1_select 8 = .ok (.iload_n 2, 1) := dk_28 (dk_at dksX1_select_0 8 rfl rfl)
theorem dX1_select_9 : decode cX1_select 9 = .ok (.invokevirtual 197, 3) := dk_182 0 197 (dk_at dksX1_select_0 9 rfl rfl)
theorem dX1_select_12 : decode cX1_select 12 = .ok (.astore 5, 2) := dk_58 5 (dk_at dksX1_select_0 12 rfl rfl)
theorem dX1_select_14 : decode cX1_select 14 = .ok (.aload 4, 2) := dk_25 4 (dk_at dksX1_select_0 14 rfl rfl)
theorem dX1_select_16 : decode cX1_select 16 = .ok (.getfield 254, 3) := dk_180 0 254 (dk_at dksX1_select_0 16 rfl rfl)
theorem dX1_select_19 : decode cX1_select 19 = .ok (.ifCond .ne 7, 3) := dk_154 0 7 (dk_at dksX1_select_0 19 rfl rfl)
theorem dX1_select_22 : decode cX1_select 22 = .ok (.iconst 1, 1) := dk_4 (dk_at dksX1_select_0 22 rfl rfl)
theorem dX1_select_23 : decode cX1_select 23 = .ok (.goto 4, 3) := dk_167 0 4 (dk_at dksX1_select_1 0 rfl rfl)
theorem dX1_select_26 : decode cX1_select 26 = .ok (.iconst 0, 1) := dk_3 (dk_at dksX1_select_1 3 rfl rfl)
theorem dX1_select_27 : decode cX1_select 27 = .ok (.invokestatic 86, 3) := dk_184 0 86 (dk_at dksX1_select_1 4 rfl rfl)
theorem dX1_select_30 : decode cX1_select 30 = .ok (.aload_n 0, 1) := dk_42 (dk_at dksX1_select_1 7 rfl rfl)
theorem dX1_select_31 : decode cX1_select 31 = .ok (.iload_n 1, 1) := dk_27 (dk_at dksX1_select_1 8 rfl rfl)
theorem dX1_select_32 : decode cX1_select 32 = .ok (.invokevirtual 336, 3) := dk_182 1 80 (dk_at dksX1_select_1 9 rfl rfl)
theorem dX1_select_35 : decode cX1_select 35 = .ok (.astore 6, 2) := dk_58 6 (dk_at dksX1_select_1 12 rfl rfl)
theorem dX1_select_37 : decode cX1_select 37 = .ok (.aload_n 0, 1) := dk_42 (dk_at dksX1_select_1 14 rfl rfl)
theorem dX1_select_38 : decode cX1_select 38 = .ok (.getfield 44, 3) := dk_180 0 44 (dk_at dksX1_select_1 15 rfl rfl)
theorem dX1_select_41 : decode cX1_select 41 = .ok (.aload 6, 2) := dk_25 6 (dk_at dksX1_select_1 18 rfl rfl)
theorem dX1_select_43 : decode cX1_select 43 = .ok (.iload_n 2, 1) := dk_28 (dk_at dksX1_select_1 20 rfl rfl)
theorem dX1_select_44 : decode cX1_select 44 = .ok (.iload_n 3, 1) := dk_29 (dk_at dksX1_select_1 21 rfl rfl)
theorem dX1_select_45 : decode cX1_select 45 = .ok (.invokevirtual 339, 3) := dk_182 1 83 (dk_at dksX1_select_2 0 rfl rfl)
theorem dX1_select_48 : decode cX1_select 48 = .ok (.aload_n 0, 1) := dk_42 (dk_at dksX1_select_2 3 rfl rfl)
theorem dX1_select_49 : decode cX1_select 49 = .ok (.getfield 44, 3) := dk_180 0 44 (dk_at dksX1_select_2 4 rfl rfl)
theorem dX1_select_52 : decode cX1_select 52 = .ok (.aload_n 0, 1) := dk_42 (dk_at dksX1_select_2 7 rfl rfl)
theorem dX1_select_53 : decode cX1_select 53 = .ok (.getfield 64, 3) := dk_180 0 64 (dk_at dksX1_select_2 8 rfl rfl)
theorem dX1_select_56 : decode cX1_select 56 = .ok (.invokevirtual 332, 3) := dk_182 1 76 (dk_at dksX1_select_2 11 rfl rfl)
theorem dX1_select_59 : decode cX1_select 59 = .ok (.aload 6, 2) := dk_25 6 (dk_at dksX1_select_2 14 rfl rfl)
theorem dX1_select_61 : decode cX1_select 61 = .ok (.getfield 257, 3) := dk_180 1 1 (dk_at dksX1_select_2 16 rfl rfl)
theorem dX1_select_64 : decode cX1_select 64 = .ok (.ireturn, 1) := dk_172 (dk_at dksX1_select_2 19 rfl rfl)
abbrev cX1_begin : ByteArray := prog_1_method_57_code
def yX1_begin : MethodName := ⟨RX1, "begin", "(I)LMailSessions$Session;"⟩
def dkwX1_begin_1 : List UInt8 := [79, 44, 176]
abbrev dktX1_begin_1 : List UInt8 := dkwX1_begin_1 ++ []
def dkwX1_begin_0 : List UInt8 := [42, 182, 1, 69, 180, 0, 177, 27, 182, 0, 186, 192, 0, 192, 77, 44, 180, 1, 48, 3, 92, 46, 4, 96]
abbrev dktX1_begin_0 : List UInt8 := dkwX1_begin_0 ++ dktX1_begin_1
theorem dksX1_begin_0 : cX1_begin.data.toList.drop 0 = dktX1_begin_0 := by decide +kernel
theorem dksX1_begin_1 : cX1_begin.data.toList.drop 24 = dktX1_begin_1 := dk_seg dksX1_begin_0 24 rfl rfl
theorem dX1_begin_0 : decode cX1_begin 0 = .ok (.aload_n 0, 1) := dk_42 (dk_at dksX1_begin_0 0 rfl rfl)
theorem dX1_begin_1 : decode cX1_begin 1 = .ok (.invokevirtual 325, 3) := dk_182 1 69 (dk_at dksX1_begin_0 1 rfl rfl)
theorem dX1_begin_4 : decode cX1_begin 4 = .ok (.getfield 177, 3) := dk_180 0 177 (dk_at dksX1_begin_0 4 rfl rfl)
theorem dX1_begin_7 : decode cX1_begin 7 = .ok (.iload_n 1, 1) := dk_27 (dk_at dksX1_begin_0 7 rfl rfl)
theorem dX1_begin_8 : decode cX1_begin 8 = .ok (.invokevirtual 186, 3) := dk_182 0 186 (dk_at dksX1_begin_0 8 rfl rfl)
theorem dX1_begin_11 : decode cX1_begin 11 = .ok (.checkcast 192, 3) := dk_192 0 192 (dk_at dksX1_begin_0 11 rfl rfl)
theorem dX1_begin_14 : decode cX1_begin 14 = .ok (.astore_n 2, 1) := dk_77 (dk_at dksX1_begin_0 14 rfl rfl)
theorem dX1_begin_15 : decode cX1_begin 15 = .ok (.aload_n 2, 1) := dk_44 (dk_at dksX1_begin_0 15 rfl rfl)
theorem dX1_begin_16 : decode cX1_begin 16 = .ok (.getfield 304, 3) := dk_180 1 48 (dk_at dksX1_begin_0 16 rfl rfl)
theorem dX1_begin_19 : decode cX1_begin 19 = .ok (.iconst 0, 1) := dk_3 (dk_at dksX1_begin_0 19 rfl rfl)
theorem dX1_begin_20 : decode cX1_begin 20 = .ok (.dup2, 1) := dk_92 (dk_at dksX1_begin_0 20 rfl rfl)
theorem dX1_begin_21 : decode cX1_begin 21 = .ok (.iaload, 1) := dk_46 (dk_at dksX1_begin_0 21 rfl rfl)
theorem dX1_begin_22 : decode cX1_begin 22 = .ok (.iconst 1, 1) := dk_4 (dk_at dksX1_begin_0 22 rfl rfl)
theorem dX1_begin_23 : decode cX1_begin 23 = .ok (.iadd, 1) := dk_96 (dk_at dksX1_begin_0 23 rfl rfl)
theorem dX1_begin_24 : decode cX1_begin 24 = .ok (.iastore, 1) := dk_79 (dk_at dksX1_begin_1 0 rfl rfl)
theorem dX1_begin_25 : decode cX1_begin 25 = .ok (.aload_n 2, 1) := dk_44 (dk_at dksX1_begin_1 1 rfl rfl)
theorem dX1_begin_26 : decode cX1_begin 26 = .ok (.areturn, 1) := dk_176 (dk_at dksX1_begin_1 2 rfl rfl)
abbrev cX1_change : ByteArray := prog_1_method_19_code
def yX1_change : MethodName := ⟨RX1, "change", "()LMailSessions$Server;"⟩
def dkwX1_change_0 : List UInt8 := [42, 187, 0, 41, 89, 42, 180, 0, 44, 183, 0, 113, 182, 0, 116, 42, 180, 0, 44, 176]
abbrev dktX1_change_0 : List UInt8 := dkwX1_change_0 ++ []
theorem dksX1_change_0 : cX1_change.data.toList.drop 0 = dktX1_change_0 := by decide +kernel
theorem dX1_change_0 : decode cX1_change 0 = .ok (.aload_n 0, 1) := dk_42 (dk_at dksX1_change_0 0 rfl rfl)
theorem dX1_change_1 : decode cX1_change 1 = .ok (.new 41, 3) := dk_187 0 41 (dk_at dksX1_change_0 1 rfl rfl)
theorem dX1_change_4 : decode cX1_change 4 = .ok (.dup, 1) := dk_89 (dk_at dksX1_change_0 4 rfl rfl)
theorem dX1_change_5 : decode cX1_change 5 = .ok (.aload_n 0, 1) := dk_42 (dk_at dksX1_change_0 5 rfl rfl)
theorem dX1_change_6 : decode cX1_change 6 = .ok (.getfield 44, 3) := dk_180 0 44 (dk_at dksX1_change_0 6 rfl rfl)
theorem dX1_change_9 : decode cX1_change 9 = .ok (.invokespecial 113, 3) := dk_183 0 113 (dk_at dksX1_change_0 9 rfl rfl)
theorem dX1_change_12 : decode cX1_change 12 = .ok (.invokevirtual 116, 3) := dk_182 0 116 (dk_at dksX1_change_0 12 rfl rfl)
theorem dX1_change_15 : decode cX1_change 15 = .ok (.aload_n 0, 1) := dk_42 (dk_at dksX1_change_0 15 rfl rfl)
theorem dX1_change_16 : decode cX1_change 16 = .ok (.getfield 44, 3) := dk_180 0 44 (dk_at dksX1_change_0 16 rfl rfl)
theorem dX1_change_19 : decode cX1_change 19 = .ok (.areturn, 1) := dk_176 (dk_at dksX1_change_0 19 rfl rfl)
abbrev cX1_noop : ByteArray := prog_1_method_60_code
def yX1_noop : MethodName := ⟨RX1, "noop", "(I)I"⟩
def dkwX1_noop_0 : List UInt8 := [42, 27, 182, 0, 240, 184, 1, 87, 42, 27, 182, 1, 80, 77, 42, 27, 4, 182, 1, 91, 172]
abbrev dktX1_noop_0 : List UInt8 := dkwX1_noop_0 ++ []
theorem dksX1_noop_0 : cX1_noop.data.toList.drop 0 = dktX1_noop_0 := by decide +kernel
theorem dX1_noop_0 : decode cX1_noop 0 = .ok (.aload_n 0, 1) := dk_42 (dk_at dksX1_noop_0 0 rfl rfl)
theorem dX1_noop_1 : decode cX1_noop 1 = .ok (.iload_n 1, 1) := dk_27 (dk_at dksX1_noop_0 1 rfl rfl)
theorem dX1_noop_2 : decode cX1_noop 2 = .ok (.invokevirtual 240, 3) := dk_182 0 240 (dk_at dksX1_noop_0 2 rfl rfl)
theorem dX1_noop_5 : decode cX1_noop 5 = .ok (.invokestatic 343, 3) := dk_184 1 87 (dk_at dksX1_noop_0 5 rfl rfl)
theorem dX1_noop_8 : decode cX1_noop 8 = .ok (.aload_n 0, 1) := dk_42 (dk_at dksX1_noop_0 8 rfl rfl)
theorem dX1_noop_9 : decode cX1_noop 9 = .ok (.iload_n 1, 1) := dk_27 (dk_at dksX1_noop_0 9 rfl rfl)
theorem dX1_noop_10 : decode cX1_noop 10 = .ok (.invokevirtual 336, 3) := dk_182 1 80 (dk_at dksX1_noop_0 10 rfl rfl)
theorem dX1_noop_13 : decode cX1_noop 13 = .ok (.astore_n 2, 1) := dk_77 (dk_at dksX1_noop_0 13 rfl rfl)
theorem dX1_noop_14 : decode cX1_noop 14 = .ok (.aload_n 0, 1) := dk_42 (dk_at dksX1_noop_0 14 rfl rfl)
theorem dX1_noop_15 : decode cX1_noop 15 = .ok (.iload_n 1, 1) := dk_27 (dk_at dksX1_noop_0 15 rfl rfl)
theorem dX1_noop_16 : decode cX1_noop 16 = .ok (.iconst 1, 1) := dk_4 (dk_at dksX1_noop_0 16 rfl rfl)
theorem dX1_noop_17 : decode cX1_noop 17 = .ok (.invokevirtual 347, 3) := dk_182 1 91 (dk_at dksX1_noop_0 17 rfl rfl)
theorem dX1_noop_20 : decode cX1_noop 20 = .ok (.ireturn, 1) := dk_172 (dk_at dksX1_noop_0 20 rfl rfl)
abbrev cX1_requireOpen : ByteArray := prog_1_method_55_code
def yX1_requireOpen : MethodName := ⟨RX1, "requireOpen", "(LMailSessions$Session;)V"⟩
def dkwX1_requireOpen_0 : List UInt8 := [42, 180, 0, 194, 2, 159, 0, 14, 42, 180, 0, 254, 154, 0, 7, 4, 167, 0, 4, 3, 184, 0, 86, 177]
abbrev dktX1_requireOpen_0 : List UInt8 := dkwX1_requireOpen_0 ++ []
theorem dksX1_requireOpen_0 : cX1_requireOpen.data.toList.drop 0 = dktX1_requireOpen_0 := by decide +kernel
theorem dX1_requireOpen_0 : decode cX1_requireOpen 0 = .ok (.aload_n 0, 1) := dk_42 (dk_at dksX1_requireOpen_0 0 rfl rfl)
theorem dX1_requireOpen_1 : decode cX1_requireOpen 1 = .ok (.getfield 194, 3) := dk_180 0 194 (dk_at dksX1_requireOpen_0 1 rfl rfl)
theorem dX1_requireOpen_4 : decode cX1_requireOpen 4 = .ok (.iconst (-1), 1) := dk_2 (dk_at dksX1_requireOpen_0 4 rfl rfl)
theorem dX1_requireOpen_5 : decode cX1_requireOpen 5 = .ok (.if_icmp .eq 14, 3) := dk_159 0 14 (dk_at dksX1_requireOpen_0 5 rfl rfl)
theorem dX1_requireOpen_8 : decode cX1_requireOpen 8 = .ok (.aload_n 0, 1) := dk_42 (dk_at dksX1_requireOpen_0 8 rfl rfl)
theorem dX1_requireOpen_9 : decode cX1_requireOpen 9 = .ok (.getfield 254, 3) := dk_180 0 254 (dk_at dksX1_requireOpen_0 9 rfl rfl)
theorem dX1_requireOpen_12 : decode cX1_requireOpen 12 = .ok (.ifCond .ne 7, 3) := dk_154 0 7 (dk_at dksX1_requireOpen_0 12 rfl rfl)
theorem dX1_requireOpen_15 : decode cX1_requireOpen 15 = .ok (.iconst 1, 1) := dk_4 (dk_at dksX1_requireOpen_0 15 rfl rfl)
theorem dX1_requireOpen_16 : decode cX1_requireOpen 16 = .ok (.goto 4, 3) := dk_167 0 4 (dk_at dksX1_requireOpen_0 16 rfl rfl)
theorem dX1_requireOpen_19 : decode cX1_requireOpen 19 = .ok (.iconst 0, 1) := dk_3 (dk_at dksX1_requireOpen_0 19 rfl rfl)
theorem dX1_requireOpen_20 : decode cX1_requireOpen 20 = .ok (.invokestatic 86, 3) := dk_184 0 86 (dk_at dksX1_requireOpen_0 20 rfl rfl)
theorem dX1_requireOpen_23 : decode cX1_requireOpen 23 = .ok (.return_, 1) := dk_177 (dk_at dksX1_requireOpen_0 23 rfl rfl)
abbrev cX1_end : ByteArray := prog_1_method_58_code
def yX1_end : MethodName := ⟨RX1, "end", "(IZ)I"⟩
def dkwX1_end_1 : List UInt8 := [182, 1, 76, 29, 172]
abbrev dktX1_end_1 : List UInt8 := dkwX1_end_1 ++ []
def dkwX1_end_0 : List UInt8 := [42, 180, 0, 44, 27, 28, 42, 180, 0, 64, 182, 1, 72, 62, 42, 180, 0, 44, 42, 180, 0, 64]
abbrev dktX1_end_0 : List UInt8 := dkwX1_end_0 ++ dktX1_end_1
theorem dksX1_end_0 : cX1_end.data.toList.drop 0 = dktX1_end_0 := by decide +kernel
theorem dksX1_end_1 : cX1_end.data.toList.drop 22 = dktX1_end_1 := dk_seg dksX1_end_0 22 rfl rfl
theorem dX1_end_0 : decode cX1_end 0 = .ok (.aload_n 0, 1) := dk_42 (dk_at dksX1_end_0 0 rfl rfl)
theorem dX1_end_1 : decode cX1_end 1 = .ok (.getfield 44, 3) := dk_180 0 44 (dk_at dksX1_end_0 1 rfl rfl)
theorem dX1_end_4 : decode cX1_end 4 = .ok (.iload_n 1, 1) := dk_27 (dk_at dksX1_end_0 4 rfl rfl)
theorem dX1_end_5 : decode cX1_end 5 = .ok (.iload_n 2, 1) := dk_28 (dk_at dksX1_end_0 5 rfl rfl)
theorem dX1_end_6 : decode cX1_end 6 = .ok (.aload_n 0, 1) := dk_42 (dk_at dksX1_end_0 6 rfl rfl)
theorem dX1_end_7 : decode cX1_end 7 = .ok (.getfield 64, 3) := dk_180 0 64 (dk_at dksX1_end_0 7 rfl rfl)
theorem dX1_end_10 : decode cX1_end 10 = .ok (.invokevirtual 328, 3) := dk_182 1 72 (dk_at dksX1_end_0 10 rfl rfl)
theorem dX1_end_13 : decode cX1_end 13 = .ok (.istore_n 3, 1) := dk_62 (dk_at dksX1_end_0 13 rfl rfl)
theorem dX1_end_14 : decode cX1_end 14 = .ok (.aload_n 0, 1) := dk_42 (dk_at dksX1_end_0 14 rfl rfl)
theorem dX1_end_15 : decode cX1_end 15 = .ok (.getfield 44, 3) := dk_180 0 44 (dk_at dksX1_end_0 15 rfl rfl)
theorem dX1_end_18 : decode cX1_end 18 = .ok (.aload_n 0, 1) := dk_42 (dk_at dksX1_end_0 18 rfl rfl)
theorem dX1_end_19 : decode cX1_end 19 = .ok (.getfield 64, 3) := dk_180 0 64 (dk_at dksX1_end_0 19 rfl rfl)
theorem dX1_end_22 : decode cX1_end 22 = .ok (.invokevirtual 332, 3) := dk_182 1 76 (dk_at dksX1_end_1 0 rfl rfl)
theorem dX1_end_25 : decode cX1_end 25 = .ok (.iload_n 3, 1) := dk_29 (dk_at dksX1_end_1 3 rfl rfl)
theorem dX1_end_26 : decode cX1_end 26 = .ok (.ireturn, 1) := dk_172 (dk_at dksX1_end_1 4 rfl rfl)
abbrev cX1_startIdle : ByteArray := prog_1_method_61_code
def yX1_startIdle : MethodName := ⟨RX1, "startIdle", "(I)I"⟩
def dkwX1_startIdle_0 : List UInt8 := [42, 27, 182, 0, 240, 184, 1, 87, 42, 27, 182, 1, 80, 4, 181, 0, 254, 42, 27, 4, 182, 1, 91, 172]
abbrev dktX1_startIdle_0 : List UInt8 := dkwX1_startIdle_0 ++ []
theorem dksX1_startIdle_0 : cX1_startIdle.data.toList.drop 0 = dktX1_startIdle_0 := by decide +kernel
theorem dX1_startIdle_0 : decode cX1_startIdle 0 = .ok (.aload_n 0, 1) := dk_42 (dk_at dksX1_startIdle_0 0 rfl rfl)
theorem dX1_startIdle_1 : decode cX1_startIdle 1 = .ok (.iload_n 1, 1) := dk_27 (dk_at dksX1_startIdle_0 1 rfl rfl)
theorem dX1_startIdle_2 : decode cX1_startIdle 2 = .ok (.invokevirtual 240, 3) := dk_182 0 240 (dk_at dksX1_startIdle_0 2 rfl rfl)
theorem dX1_startIdle_5 : decode cX1_startIdle 5 = .ok (.invokestatic 343, 3) := dk_184 1 87 (dk_at dksX1_startIdle_0 5 rfl rfl)
theorem dX1_startIdle_8 : decode cX1_startIdle 8 = .ok (.aload_n 0, 1) := dk_42 (dk_at dksX1_startIdle_0 8 rfl rfl)
theorem dX1_startIdle_9 : decode cX1_startIdle 9 = .ok (.iload_n 1, 1) := dk_27 (dk_at dksX1_startIdle_0 9 rfl rfl)
theorem dX1_startIdle_10 : decode cX1_startIdle 10 = .ok (.invokevirtual 336, 3) := dk_182 1 80 (dk_at dksX1_startIdle_0 10 rfl rfl)
theorem dX1_startIdle_13 : decode cX1_startIdle 13 = .ok (.iconst 1, 1) := dk_4 (dk_at dksX1_startIdle_0 13 rfl rfl)
theorem dX1_startIdle_14 : decode cX1_startIdle 14 = .ok (.putfield 254, 3) := dk_181 0 254 (dk_at dksX1_startIdle_0 14 rfl rfl)
theorem dX1_startIdle_17 : decode cX1_startIdle 17 = .ok (.aload_n 0, 1) := dk_42 (dk_at dksX1_startIdle_0 17 rfl rfl)
theorem dX1_startIdle_18 : decode cX1_startIdle 18 = .ok (.iload_n 1, 1) := dk_27 (dk_at dksX1_startIdle_0 18 rfl rfl)
theorem dX1_startIdle_19 : decode cX1_startIdle 19 = .ok (.iconst 1, 1) := dk_4 (dk_at dksX1_startIdle_0 19 rfl rfl)
theorem dX1_startIdle_20 : decode cX1_startIdle 20 = .ok (.invokevirtual 347, 3) := dk_182 1 91 (dk_at dksX1_startIdle_0 20 rfl rfl)
theorem dX1_startIdle_23 : decode cX1_startIdle 23 = .ok (.ireturn, 1) := dk_172 (dk_at dksX1_startIdle_0 23 rfl rfl)
abbrev cX1_stopIdle : ByteArray := prog_1_method_62_code
def yX1_stopIdle : MethodName := ⟨RX1, "stopIdle", "(I)I"⟩
def dkwX1_stopIdle_1 : List UInt8 := [182, 1, 91, 172]
abbrev dktX1_stopIdle_1 : List UInt8 := dkwX1_stopIdle_1 ++ []
def dkwX1_stopIdle_0 : List UInt8 := [42, 27, 182, 0, 240, 180, 0, 254, 184, 0, 86, 42, 27, 182, 1, 80, 3, 181, 0, 254, 42, 27, 4]
abbrev dktX1_stopIdle_0 : List UInt8 := dkwX1_stopIdle_0 ++ dktX1_stopIdle_1
theorem dksX1_stopIdle_0 : cX1_stopIdle.data.toList.drop 0 = dktX1_stopIdle_0 := by decide +kernel
theorem dksX1_stopIdle_1 : cX1_stopIdle.data.toList.drop 23 = dktX1_stopIdle_1 := dk_seg dksX1_stopIdle_0 23 rfl rfl
theorem dX1_stopIdle_0 : decode cX1_stopIdle 0 = .ok (.aload_n 0, 1) := dk_42 (dk_at dksX1_stopIdle_0 0 rfl rfl)
theorem dX1_stopIdle_1 : decode cX1_stopIdle 1 = .ok (.iload_n 1, 1) := dk_27 (dk_at dksX1_stopIdle_0 1 rfl rfl)
theorem dX1_stopIdle_2 : decode cX1_stopIdle 2 = .ok (.invokevirtual 240, 3) := dk_182 0 240 (dk_at dksX1_stopIdle_0 2 rfl rfl)
theorem dX1_stopIdle_5 : decode cX1_stopIdle 5 = .ok (.getfield 254, 3) := dk_180 0 254 (dk_at dksX1_stopIdle_0 5 rfl rfl)
theorem dX1_stopIdle_8 : decode cX1_stopIdle 8 = .ok (.invokestatic 86, 3) := dk_184 0 86 (dk_at dksX1_stopIdle_0 8 rfl rfl)
theorem dX1_stopIdle_11 : decode cX1_stopIdle 11 = .ok (.aload_n 0, 1) := dk_42 (dk_at dksX1_stopIdle_0 11 rfl rfl)
theorem dX1_stopIdle_12 : decode cX1_stopIdle 12 = .ok (.iload_n 1, 1) := dk_27 (dk_at dksX1_stopIdle_0 12 rfl rfl)
theorem dX1_stopIdle_13 : decode cX1_stopIdle 13 = .ok (.invokevirtual 336, 3) := dk_182 1 80 (dk_at dksX1_stopIdle_0 13 rfl rfl)
theorem dX1_stopIdle_16 : decode cX1_stopIdle 16 = .ok (.iconst 0, 1) := dk_3 (dk_at dksX1_stopIdle_0 16 rfl rfl)
theorem dX1_stopIdle_17 : decode cX1_stopIdle 17 = .ok (.putfield 254, 3) := dk_181 0 254 (dk_at dksX1_stopIdle_0 17 rfl rfl)
theorem dX1_stopIdle_20 : decode cX1_stopIdle 20 = .ok (.aload_n 0, 1) := dk_42 (dk_at dksX1_stopIdle_0 20 rfl rfl)
theorem dX1_stopIdle_21 : decode cX1_stopIdle 21 = .ok (.iload_n 1, 1) := dk_27 (dk_at dksX1_stopIdle_0 21 rfl rfl)
theorem dX1_stopIdle_22 : decode cX1_stopIdle 22 = .ok (.iconst 1, 1) := dk_4 (dk_at dksX1_stopIdle_0 22 rfl rfl)
theorem dX1_stopIdle_23 : decode cX1_stopIdle 23 = .ok (.invokevirtual 347, 3) := dk_182 1 91 (dk_at dksX1_stopIdle_1 0 rfl rfl)
theorem dX1_stopIdle_26 : decode cX1_stopIdle 26 = .ok (.ireturn, 1) := dk_172 (dk_at dksX1_stopIdle_1 3 rfl rfl)
abbrev cX1_fetch : ByteArray := prog_1_method_65_code
def yX1_fetch : MethodName := ⟨RX1, "fetch", "(IIIZ)I"⟩
def dkwX1_fetch_5 : List UInt8 := [186, 1, 107, 0, 0, 182, 1, 110, 54, 7, 42, 27, 3, 182, 1, 91, 54, 7, 21, 6, 172]
abbrev dktX1_fetch_5 : List UInt8 := dkwX1_fetch_5 ++ []
def dkwX1_fetch_4 : List UInt8 := [154, 0, 30, 42, 25, 5, 182, 1, 99, 42, 180, 0, 44, 25, 5, 28, 29, 182, 1, 103]
abbrev dktX1_fetch_4 : List UInt8 := dkwX1_fetch_4 ++ dktX1_fetch_5
def dkwX1_fetch_3 : List UInt8 := [25, 5, 180, 1, 48, 7, 92, 46, 21, 6, 96, 79, 21, 4, 154, 0, 38, 25, 5, 180, 0, 246]
abbrev dktX1_fetch_3 : List UInt8 := dkwX1_fetch_3 ++ dktX1_fetch_4
def dkwX1_fetch_2 : List UInt8 := [25, 8, 199, 0, 7, 3, 167, 0, 8, 25, 8, 180, 0, 232, 96, 54, 6, 132, 7, 1, 167, 255, 215]
abbrev dktX1_fetch_2 : List UInt8 := dkwX1_fetch_2 ++ dktX1_fetch_3
def dkwX1_fetch_1 : List UInt8 := [54, 7, 21, 7, 29, 162, 0, 41, 42, 180, 0, 44, 25, 5, 21, 7, 182, 1, 18, 58, 8, 21, 6]
abbrev dktX1_fetch_1 : List UInt8 := dkwX1_fetch_1 ++ dktX1_fetch_2
def dkwX1_fetch_0 : List UInt8 := [42, 27, 28, 29, 182, 1, 95, 184, 1, 87, 42, 27, 182, 1, 80, 58, 5, 3, 54, 6, 28, 4, 100]
abbrev dktX1_fetch_0 : List UInt8 := dkwX1_fetch_0 ++ dktX1_fetch_1
theorem dksX1_fetch_0 : cX1_fetch.data.toList.drop 0 = dktX1_fetch_0 := by decide +kernel
theorem dksX1_fetch_1 : cX1_fetch.data.toList.drop 23 = dktX1_fetch_1 := dk_seg dksX1_fetch_0 23 rfl rfl
theorem dksX1_fetch_2 : cX1_fetch.data.toList.drop 46 = dktX1_fetch_2 := dk_seg dksX1_fetch_1 23 rfl rfl
theorem dksX1_fetch_3 : cX1_fetch.data.toList.drop 69 = dktX1_fetch_3 := dk_seg dksX1_fetch_2 23 rfl rfl
theorem dksX1_fetch_4 : cX1_fetch.data.toList.drop 91 = dktX1_fetch_4 := dk_seg dksX1_fetch_3 22 rfl rfl
theorem dksX1_fetch_5 : cX1_fetch.data.toList.drop 111 = dktX1_fetch_5 := dk_seg dksX1_fetch_4 20 rfl rfl
theorem dX1_fetch_0 : decode cX1_fetch 0 = .ok (.aload_n 0, 1) := dk_42 (dk_at dksX1_fetch_0 0 rfl rfl)
theorem dX1_fetch_1 : decode cX1_fetch 1 = .ok (.iload_n 1, 1) := dk_27 (dk_at dksX1_fetch_0 1 rfl rfl)
theorem dX1_fetch_2 : decode cX1_fetch 2 = .ok (.iload_n 2, 1) := dk_28 (dk_at dksX1_fetch_0 2 rfl rfl)
theorem dX1_fetch_3 : decode cX1_fetch 3 = .ok (.iload_n 3, 1) := dk_29 (dk_at dksX1_fetch_0 3 rfl rfl)
theorem dX1_fetch_4 : decode cX1_fetch 4 = .ok (.invokevirtual 351, 3) := dk_182 1 95 (dk_at dksX1_fetch_0 4 rfl rfl)
theorem dX1_fetch_7 : decode cX1_fetch 7 = .ok (.invokestatic 343, 3) := dk_184 1 87 (dk_at dksX1_fetch_0 7 rfl rfl)
theorem dX1_fetch_10 : decode cX1_fetch 10 = .ok (.aload_n 0, 1) := dk_42 (dk_at dksX1_fetch_0 10 rfl rfl)
theorem dX1_fetch_11 : decode cX1_fetch 11 = .ok (.iload_n 1, 1) := dk_27 (dk_at dksX1_fetch_0 11 rfl rfl)
theorem dX1_fetch_12 : decode cX1_fetch 12 = .ok (.invokevirtual 336, 3) := dk_182 1 80 (dk_at dksX1_fetch_0 12 rfl rfl)
theorem dX1_fetch_15 : decode cX1_fetch 15 = .ok (.astore 5, 2) := dk_58 5 (dk_at dksX1_fetch_0 15 rfl rfl)
theorem dX1_fetch_17 : decode cX1_fetch 17 = .ok (.iconst 0, 1) := dk_3 (dk_at dksX1_fetch_0 17 rfl rfl)
theorem dX1_fetch_18 : decode cX1_fetch 18 = .ok (.istore 6, 2) := dk_54 6 (dk_at dksX1_fetch_0 18 rfl rfl)
theorem dX1_fetch_20 : decode cX1_fetch 20 = .ok (.iload_n 2, 1) := dk_28 (dk_at dksX1_fetch_0 20 rfl rfl)
theorem dX1_fetch_21 : decode cX1_fetch 21 = .ok (.iconst 1, 1) := dk_4 (dk_at dksX1_fetch_0 21 rfl rfl)
theorem dX1_fetch_22 : decode cX1_fetch 22 = .ok (.isub, 1) := dk_100 (dk_at dksX1_fetch_0 22 rfl rfl)
theorem dX1_fetch_23 : decode cX1_fetch 23 = .ok (.istore 7, 2) := dk_54 7 (dk_at dksX1_fetch_1 0 rfl rfl)
theorem dX1_fetch_25 : decode cX1_fetch 25 = .ok (.iload 7, 2) := dk_21 7 (dk_at dksX1_fetch_1 2 rfl rfl)
theorem dX1_fetch_27 : decode cX1_fetch 27 = .ok (.iload_n 3, 1) := dk_29 (dk_at dksX1_fetch_1 4 rfl rfl)
theorem dX1_fetch_28 : decode cX1_fetch 28 = .ok (.if_icmp .ge 41, 3) := dk_162 0 41 (dk_at dksX1_fetch_1 5 rfl rfl)
theorem dX1_fetch_31 : decode cX1_fetch 31 = .ok (.aload_n 0, 1) := dk_42 (dk_at dksX1_fetch_1 8 rfl rfl)
theorem dX1_fetch_32 : decode cX1_fetch 32 = .ok (.getfield 44, 3) := dk_180 0 44 (dk_at dksX1_fetch_1 9 rfl rfl)
theorem dX1_fetch_35 : decode cX1_fetch 35 = .ok (.aload 5, 2) := dk_25 5 (dk_at dksX1_fetch_1 12 rfl rfl)
theorem dX1_fetch_37 : decode cX1_fetch 37 = .ok (.iload 7, 2) := dk_21 7 (dk_at dksX1_fetch_1 14 rfl rfl)
theorem dX1_fetch_39 : decode cX1_fetch 39 = .ok (.invokevirtual 274, 3) := dk_182 1 18 (dk_at dksX1_fetch_1 16 rfl rfl)
theorem dX1_fetch_42 : decode cX1_fetch 42 = .ok (.astore 8, 2) := dk_58 8 (dk_at dksX1_fetch_1 19 rfl rfl)
theorem dX1_fetch_44 : decode cX1_fetch 44 = .ok (.iload 6, 2) := dk_21 6 (dk_at dksX1_fetch_1 21 rfl rfl)
theorem dX1_fetch_46 : decode cX1_fetch 46 = .ok (.aload 8, 2) := dk_25 8 (dk_at dksX1_fetch_2 0 rfl rfl)
theorem dX1_fetch_48 : decode cX1_fetch 48 = .ok (.ifnonnull 7, 3) := dk_199 0 7 (dk_at dksX1_fetch_2 2 rfl rfl)
theorem dX1_fetch_51 : decode cX1_fetch 51 = .ok (.iconst 0, 1) := dk_3 (dk_at dksX1_fetch_2 5 rfl rfl)
theorem dX1_fetch_52 : decode cX1_fetch 52 = .ok (.goto 8, 3) := dk_167 0 8 (dk_at dksX1_fetch_2 6 rfl rfl)
theorem dX1_fetch_55 : decode cX1_fetch 55 = .ok (.aload 8, 2) := dk_25 8 (dk_at dksX1_fetch_2 9 rfl rfl)
theorem dX1_fetch_57 : decode cX1_fetch 57 = .ok (.getfield 232, 3) := dk_180 0 232 (dk_at dksX1_fetch_2 11 rfl rfl)
theorem dX1_fetch_60 : decode cX1_fetch 60 = .ok (.iadd, 1) := dk_96 (dk_at dksX1_fetch_2 14 rfl rfl)
theorem dX1_fetch_61 : decode cX1_fetch 61 = .ok (.istore 6, 2) := dk_54 6 (dk_at dksX1_fetch_2 15 rfl rfl)
theorem dX1_fetch_63 : decode cX1_fetch 63 = .ok (.iinc 7 1, 3) := dk_132 7 1 (dk_at dksX1_fetch_2 17 rfl rfl)
theorem dX1_fetch_66 : decode cX1_fetch 66 = .ok (.goto (-41), 3) := dk_167 255 215 (dk_at dksX1_fetch_2 20 rfl rfl)
theorem dX1_fetch_69 : decode cX1_fetch 69 = .ok (.aload 5, 2) := dk_25 5 (dk_at dksX1_fetch_3 0 rfl rfl)
theorem dX1_fetch_71 : decode cX1_fetch 71 = .ok (.getfield 304, 3) := dk_180 1 48 (dk_at dksX1_fetch_3 2 rfl rfl)
theorem dX1_fetch_74 : decode cX1_fetch 74 = .ok (.iconst 4, 1) := dk_7 (dk_at dksX1_fetch_3 5 rfl rfl)
theorem dX1_fetch_75 : decode cX1_fetch 75 = .ok (.dup2, 1) := dk_92 (dk_at dksX1_fetch_3 6 rfl rfl)
theorem dX1_fetch_76 : decode cX1_fetch 76 = .ok (.iaload, 1) := dk_46 (dk_at dksX1_fetch_3 7 rfl rfl)
theorem dX1_fetch_77 : decode cX1_fetch 77 = .ok (.iload 6, 2) := dk_21 6 (dk_at dksX1_fetch_3 8 rfl rfl)
theorem dX1_fetch_79 : decode cX1_fetch 79 = .ok (.iadd, 1) := dk_96 (dk_at dksX1_fetch_3 10 rfl rfl)
theorem dX1_fetch_80 : decode cX1_fetch 80 = .ok (.iastore, 1) := dk_79 (dk_at dksX1_fetch_3 11 rfl rfl)
theorem dX1_fetch_81 : decode cX1_fetch 81 = .ok (.iload 4, 2) := dk_21 4 (dk_at dksX1_fetch_3 12 rfl rfl)
theorem dX1_fetch_83 : decode cX1_fetch 83 = .ok (.ifCond .ne 38, 3) := dk_154 0 38 (dk_at dksX1_fetch_3 14 rfl rfl)
theorem dX1_fetch_86 : decode cX1_fetch 86 = .ok (.aload 5, 2) := dk_25 5 (dk_at dksX1_fetch_3 17 rfl rfl)
theorem dX1_fetch_88 : decode cX1_fetch 88 = .ok (.getfield 246, 3) := dk_180 0 246 (dk_at dksX1_fetch_3 19 rfl rfl)
theorem dX1_fetch_91 : decode cX1_fetch 91 = .ok (.ifCond .ne 30, 3) := dk_154 0 30 (dk_at dksX1_fetch_4 0 rfl rfl)
theorem dX1_fetch_94 : decode cX1_fetch 94 = .ok (.aload_n 0, 1) := dk_42 (dk_at dksX1_fetch_4 3 rfl rfl)
theorem dX1_fetch_95 : decode cX1_fetch 95 = .ok (.aload 5, 2) := dk_25 5 (dk_at dksX1_fetch_4 4 rfl rfl)
theorem dX1_fetch_97 : decode cX1_fetch 97 = .ok (.invokevirtual 355, 3) := dk_182 1 99 (dk_at dksX1_fetch_4 6 rfl rfl)
theorem dX1_fetch_100 : decode cX1_fetch 100 = .ok (.aload_n 0, 1) := dk_42 (dk_at dksX1_fetch_4 9 rfl rfl)
theorem dX1_fetch_101 : decode cX1_fetch 101 = .ok (.getfield 44, 3) := dk_180 0 44 (dk_at dksX1_fetch_4 10 rfl rfl)
theorem dX1_fetch_104 : decode cX1_fetch 104 = .ok (.aload 5, 2) := dk_25 5 (dk_at dksX1_fetch_4 13 rfl rfl)
theorem dX1_fetch_106 : decode cX1_fetch 106 = .ok (.iload_n 2, 1) := dk_28 (dk_at dksX1_fetch_4 15 rfl rfl)
theorem dX1_fetch_107 : decode cX1_fetch 107 = .ok (.iload_n 3, 1) := dk_29 (dk_at dksX1_fetch_4 16 rfl rfl)
theorem dX1_fetch_108 : decode cX1_fetch 108 = .ok (.invokevirtual 359, 3) := dk_182 1 103 (dk_at dksX1_fetch_4 17 rfl rfl)
theorem dX1_fetch_111 : decode cX1_fetch 111 = .ok (.invokedynamic 363, 5) := by decide +kernel
theorem dX1_fetch_116 : decode cX1_fetch 116 = .ok (.invokevirtual 366, 3) := dk_182 1 110 (dk_at dksX1_fetch_5 5 rfl rfl)
theorem dX1_fetch_119 : decode cX1_fetch 119 = .ok (.istore 7, 2) := dk_54 7 (dk_at dksX1_fetch_5 8 rfl rfl)
theorem dX1_fetch_121 : decode cX1_fetch 121 = .ok (.aload_n 0, 1) := dk_42 (dk_at dksX1_fetch_5 10 rfl rfl)
theorem dX1_fetch_122 : decode cX1_fetch 122 = .ok (.iload_n 1, 1) := dk_27 (dk_at dksX1_fetch_5 11 rfl rfl)
theorem dX1_fetch_123 : decode cX1_fetch 123 = .ok (.iconst 0, 1) := dk_3 (dk_at dksX1_fetch_5 12 rfl rfl)
theorem dX1_fetch_124 : decode cX1_fetch 124 = .ok (.invokevirtual 347, 3) := dk_182 1 91 (dk_at dksX1_fetch_5 13 rfl rfl)
theorem dX1_fetch_127 : decode cX1_fetch 127 = .ok (.istore 7, 2) := dk_54 7 (dk_at dksX1_fetch_5 16 rfl rfl)
theorem dX1_fetch_129 : decode cX1_fetch 129 = .ok (.iload 6, 2) := dk_21 6 (dk_at dksX1_fetch_5 18 rfl rfl)
theorem dX1_fetch_131 : decode cX1_fetch 131 = .ok (.ireturn, 1) := dk_172 (dk_at dksX1_fetch_5 20 rfl rfl)
abbrev cX1_rangeOf : ByteArray := prog_1_method_64_code
def yX1_rangeOf : MethodName := ⟨RX1, "rangeOf", "(III)LMailSessions$Session;"⟩
def dkwX1_rangeOf_1 : List UInt8 := [4, 167, 0, 4, 3, 184, 0, 98, 25, 4, 176]
abbrev dktX1_rangeOf_1 : List UInt8 := dkwX1_rangeOf_1 ++ []
def dkwX1_rangeOf_0 : List UInt8 := [42, 27, 182, 0, 240, 58, 4, 25, 4, 28, 184, 1, 14, 25, 4, 29, 184, 1, 14, 29, 28, 161, 0, 7]
abbrev dktX1_rangeOf_0 : List UInt8 := dkwX1_rangeOf_0 ++ dktX1_rangeOf_1
theorem dksX1_rangeOf_0 : cX1_rangeOf.data.toList.drop 0 = dktX1_rangeOf_0 := by decide +kernel
theorem dksX1_rangeOf_1 : cX1_rangeOf.data.toList.drop 24 = dktX1_rangeOf_1 := dk_seg dksX1_rangeOf_0 24 rfl rfl
theorem dX1_rangeOf_0 : decode cX1_rangeOf 0 = .ok (.aload_n 0, 1) := dk_42 (dk_at dksX1_rangeOf_0 0 rfl rfl)
theorem dX1_rangeOf_1 : decode cX1_rangeOf 1 = .ok (.iload_n 1, 1) := dk_27 (dk_at dksX1_rangeOf_0 1 rfl rfl)
theorem dX1_rangeOf_2 : decode cX1_rangeOf 2 = .ok (.invokevirtual 240, 3) := dk_182 0 240 (dk_at dksX1_rangeOf_0 2 rfl rfl)
theorem dX1_rangeOf_5 : decode cX1_rangeOf 5 = .ok (.astore 4, 2) := dk_58 4 (dk_at dksX1_rangeOf_0 5 rfl rfl)
theorem dX1_rangeOf_7 : decode cX1_rangeOf 7 = .ok (.aload 4, 2) := dk_25 4 (dk_at dksX1_rangeOf_0 7 rfl rfl)
theorem dX1_rangeOf_9 : decode cX1_rangeOf 9 = .ok (.iload_n 2, 1) := dk_28 (dk_at dksX1_rangeOf_0 9 rfl rfl)
theorem dX1_rangeOf_10 : decode cX1_rangeOf 10 = .ok (.invokestatic 270, 3) := dk_184 1 14 (dk_at dksX1_rangeOf_0 10 rfl rfl)
theorem dX1_rangeOf_13 : decode cX1_rangeOf 13 = .ok (.aload 4, 2) := dk_25 4 (dk_at dksX1_rangeOf_0 13 rfl rfl)
theorem dX1_rangeOf_15 : decode cX1_rangeOf 15 = .ok (.iload_n 3, 1) := dk_29 (dk_at dksX1_rangeOf_0 15 rfl rfl)
theorem dX1_rangeOf_16 : decode cX1_rangeOf 16 = .ok (.invokestatic 270, 3) := dk_184 1 14 (dk_at dksX1_rangeOf_0 16 rfl rfl)
theorem dX1_rangeOf_19 : decode cX1_rangeOf 19 = .ok (.iload_n 3, 1) := dk_29 (dk_at dksX1_rangeOf_0 19 rfl rfl)
theorem dX1_rangeOf_20 : decode cX1_rangeOf 20 = .ok (.iload_n 2, 1) := dk_28 (dk_at dksX1_rangeOf_0 20 rfl rfl)
theorem dX1_rangeOf_21 : decode cX1_rangeOf 21 = .ok (.if_icmp .lt 7, 3) := dk_161 0 7 (dk_at dksX1_rangeOf_0 21 rfl rfl)
theorem dX1_rangeOf_24 : decode cX1_rangeOf 24 = .ok (.iconst 1, 1) := dk_4 (dk_at dksX1_rangeOf_1 0 rfl rfl)
theorem dX1_rangeOf_25 : decode cX1_rangeOf 25 = .ok (.goto 4, 3) := dk_167 0 4 (dk_at dksX1_rangeOf_1 1 rfl rfl)
theorem dX1_rangeOf_28 : decode cX1_rangeOf 28 = .ok (.iconst 0, 1) := dk_3 (dk_at dksX1_rangeOf_1 4 rfl rfl)
theorem dX1_rangeOf_29 : decode cX1_rangeOf 29 = .ok (.invokestatic 98, 3) := dk_184 0 98 (dk_at dksX1_rangeOf_1 5 rfl rfl)
theorem dX1_rangeOf_32 : decode cX1_rangeOf 32 = .ok (.aload 4, 2) := dk_25 4 (dk_at dksX1_rangeOf_1 8 rfl rfl)
theorem dX1_rangeOf_34 : decode cX1_rangeOf 34 = .ok (.areturn, 1) := dk_176 (dk_at dksX1_rangeOf_1 10 rfl rfl)
abbrev cX1_boxOf : ByteArray := prog_1_method_63_code
def yX1_boxOf : MethodName := ⟨RX1, "boxOf", "(LMailSessions$Session;)LMailSessions$Box;"⟩
def dkwX1_boxOf_0 : List UInt8 := [42, 180, 0, 44, 180, 0, 173, 43, 180, 0, 194, 182, 0, 186, 192, 0, 190, 176]
abbrev dktX1_boxOf_0 : List UInt8 := dkwX1_boxOf_0 ++ []
theorem dksX1_boxOf_0 : cX1_boxOf.data.toList.drop 0 = dktX1_boxOf_0 := by decide +kernel
theorem dX1_boxOf_0 : decode cX1_boxOf 0 = .ok (.aload_n 0, 1) := dk_42 (dk_at dksX1_boxOf_0 0 rfl rfl)
theorem dX1_boxOf_1 : decode cX1_boxOf 1 = .ok (.getfield 44, 3) := dk_180 0 44 (dk_at dksX1_boxOf_0 1 rfl rfl)
theorem dX1_boxOf_4 : decode cX1_boxOf 4 = .ok (.getfield 173, 3) := dk_180 0 173 (dk_at dksX1_boxOf_0 4 rfl rfl)
theorem dX1_boxOf_7 : decode cX1_boxOf 7 = .ok (.aload_n 1, 1) := dk_43 (dk_at dksX1_boxOf_0 7 rfl rfl)
theorem dX1_boxOf_8 : decode cX1_boxOf 8 = .ok (.getfield 194, 3) := dk_180 0 194 (dk_at dksX1_boxOf_0 8 rfl rfl)
theorem dX1_boxOf_11 : decode cX1_boxOf 11 = .ok (.invokevirtual 186, 3) := dk_182 0 186 (dk_at dksX1_boxOf_0 11 rfl rfl)
theorem dX1_boxOf_14 : decode cX1_boxOf 14 = .ok (.checkcast 190, 3) := dk_192 0 190 (dk_at dksX1_boxOf_0 14 rfl rfl)
theorem dX1_boxOf_17 : decode cX1_boxOf 17 = .ok (.areturn, 1) := dk_176 (dk_at dksX1_boxOf_0 17 rfl rfl)
abbrev cX1_lambda_fetch_8 : ByteArray := prog_1_method_90_code
def yX1_lambda_fetch_8 : MethodName := ⟨RX1, "lambda$fetch$8", "(I)I"⟩
def dkwX1_lambda_fetch_8_0 : List UInt8 := [26, 4, 128, 172]
abbrev dktX1_lambda_fetch_8_0 : List UInt8 := dkwX1_lambda_fetch_8_0 ++ []
theorem dksX1_lambda_fetch_8_0 : cX1_lambda_fetch_8.data.toList.drop 0 = dktX1_lambda_fetch_8_0 := by decide +kernel
theorem dX1_lambda_fetch_8_0 : decode cX1_lambda_fetch_8 0 = .ok (.iload_n 0, 1) := dk_26 (dk_at dksX1_lambda_fetch_8_0 0 rfl rfl)
theorem dX1_lambda_fetch_8_1 : decode cX1_lambda_fetch_8 1 = .ok (.iconst 1, 1) := dk_4 (dk_at dksX1_lambda_fetch_8_0 1 rfl rfl)
theorem dX1_lambda_fetch_8_2 : decode cX1_lambda_fetch_8 2 = .ok (.ior, 1) := dk_128 (dk_at dksX1_lambda_fetch_8_0 2 rfl rfl)
theorem dX1_lambda_fetch_8_3 : decode cX1_lambda_fetch_8 3 = .ok (.ireturn, 1) := dk_172 (dk_at dksX1_lambda_fetch_8_0 3 rfl rfl)
abbrev cX1_store : ByteArray := prog_1_method_67_code
def yX1_store : MethodName := ⟨RX1, "store", "(IIIIIZ)I"⟩
def dkwX1_store_5 : List UInt8 := [54, 10, 21, 9, 172]
abbrev dktX1_store_5 : List UInt8 := dkwX1_store_5 ++ []
def dkwX1_store_4 : List UInt8 := [180, 1, 26, 21, 10, 25, 11, 180, 0, 234, 79, 132, 10, 1, 167, 255, 211, 42, 27, 3, 182, 1, 91]
abbrev dktX1_store_4 : List UInt8 := dkwX1_store_4 ++ dktX1_store_5
def dkwX1_store_3 : List UInt8 := [153, 0, 40, 42, 180, 0, 44, 25, 8, 21, 10, 182, 1, 18, 58, 11, 25, 11, 198, 0, 16, 25, 8]
abbrev dktX1_store_3 : List UInt8 := dkwX1_store_3 ++ dktX1_store_4
def dkwX1_store_2 : List UInt8 := [21, 5, 184, 1, 122, 182, 1, 110, 54, 9, 28, 4, 100, 54, 10, 21, 10, 29, 162, 0, 45, 21, 6]
abbrev dktX1_store_2 : List UInt8 := dkwX1_store_2 ++ dktX1_store_3
def dkwX1_store_1 : List UInt8 := [182, 1, 80, 58, 8, 42, 25, 8, 182, 1, 99, 42, 180, 0, 44, 25, 8, 28, 29, 182, 1, 103, 21, 4]
abbrev dktX1_store_1 : List UInt8 := dkwX1_store_1 ++ dktX1_store_2
def dkwX1_store_0 : List UInt8 := [42, 27, 28, 29, 182, 1, 95, 58, 7, 21, 4, 21, 5, 184, 1, 115, 25, 7, 184, 1, 119, 42, 27]
abbrev dktX1_store_0 : List UInt8 := dkwX1_store_0 ++ dktX1_store_1
theorem dksX1_store_0 : cX1_store.data.toList.drop 0 = dktX1_store_0 := by decide +kernel
theorem dksX1_store_1 : cX1_store.data.toList.drop 23 = dktX1_store_1 := dk_seg dksX1_store_0 23 rfl rfl
theorem dksX1_store_2 : cX1_store.data.toList.drop 47 = dktX1_store_2 := dk_seg dksX1_store_1 24 rfl rfl
theorem dksX1_store_3 : cX1_store.data.toList.drop 70 = dktX1_store_3 := dk_seg dksX1_store_2 23 rfl rfl
theorem dksX1_store_4 : cX1_store.data.toList.drop 93 = dktX1_store_4 := dk_seg dksX1_store_3 23 rfl rfl
theorem dksX1_store_5 : cX1_store.data.toList.drop 116 = dktX1_store_5 := dk_seg dksX1_store_4 23 rfl rfl
theorem dX1_store_0 : decode cX1_store 0 = .ok (.aload_n 0, 1) := dk_42 (dk_at dksX1_store_0 0 rfl rfl)
theorem dX1_store_1 : decode cX1_store 1 = .ok (.iload_n 1, 1) := dk_27 (dk_at dksX1_store_0 1 rfl rfl)
theorem dX1_store_2 : decode cX1_store 2 = .ok (.iload_n 2, 1) := dk_28 (dk_at dksX1_store_0 2 rfl rfl)
theorem dX1_store_3 : decode cX1_store 3 = .ok (.iload_n 3, 1) := dk_29 (dk_at dksX1_store_0 3 rfl rfl)
theorem dX1_store_4 : decode cX1_store 4 = .ok (.invokevirtual 351, 3) := dk_182 1 95 (dk_at dksX1_store_0 4 rfl rfl)
theorem dX1_store_7 : decode cX1_store 7 = .ok (.astore 7, 2) := dk_58 7 (dk_at dksX1_store_0 7 rfl rfl)
theorem dX1_store_9 : decode cX1_store 9 = .ok (.iload 4, 2) := dk_21 4 (dk_at dksX1_store_0 9 rfl rfl)
theorem dX1_store_11 : decode cX1_store 11 = .ok (.iload 5, 2) := dk_21 5 (dk_at dksX1_store_0 11 rfl rfl)
theorem dX1_store_13 : decode cX1_store 13 = .ok (.invokestatic 371, 3) := dk_184 1 115 (dk_at dksX1_store_0 13 rfl rfl)
theorem dX1_store_16 : decode cX1_store 16 = .ok (.aload 7, 2) := dk_25 7 (dk_at dksX1_store_0 16 rfl rfl)
theorem dX1_store_18 : decode cX1_store 18 = .ok (.invokestatic 375, 3) := dk_184 1 119 (dk_at dksX1_store_0 18 rfl rfl)
theorem dX1_store_21 : decode cX1_store 21 = .ok (.aload_n 0, 1) := dk_42 (dk_at dksX1_store_0 21 rfl rfl)
theorem dX1_store_22 : decode cX1_store 22 = .ok (.iload_n 1, 1) := dk_27 (dk_at dksX1_store_0 22 rfl rfl)
theorem dX1_store_23 : decode cX1_store 23 = .ok (.invokevirtual 336, 3) := dk_182 1 80 (dk_at dksX1_store_1 0 rfl rfl)
theorem dX1_store_26 : decode cX1_store 26 = .ok (.astore 8, 2) := dk_58 8 (dk_at dksX1_store_1 3 rfl rfl)
theorem dX1_store_28 : decode cX1_store 28 = .ok (.aload_n 0, 1) := dk_42 (dk_at dksX1_store_1 5 rfl rfl)
theorem dX1_store_29 : decode cX1_store 29 = .ok (.aload 8, 2) := dk_25 8 (dk_at dksX1_store_1 6 rfl rfl)
theorem dX1_store_31 : decode cX1_store 31 = .ok (.invokevirtual 355, 3) := dk_182 1 99 (dk_at dksX1_store_1 8 rfl rfl)
theorem dX1_store_34 : decode cX1_store 34 = .ok (.aload_n 0, 1) := dk_42 (dk_at dksX1_store_1 11 rfl rfl)
theorem dX1_store_35 : decode cX1_store 35 = .ok (.getfield 44, 3) := dk_180 0 44 (dk_at dksX1_store_1 12 rfl rfl)
theorem dX1_store_38 : decode cX1_store 38 = .ok (.aload 8, 2) := dk_25 8 (dk_at dksX1_store_1 15 rfl rfl)
theorem dX1_store_40 : decode cX1_store 40 = .ok (.iload_n 2, 1) := dk_28 (dk_at dksX1_store_1 17 rfl rfl)
theorem dX1_store_41 : decode cX1_store 41 = .ok (.iload_n 3, 1) := dk_29 (dk_at dksX1_store_1 18 rfl rfl)
theorem dX1_store_42 : decode cX1_store 42 = .ok (.invokevirtual 359, 3) := dk_182 1 103 (dk_at dksX1_store_1 19 rfl rfl)
theorem dX1_store_45 : decode cX1_store 45 = .ok (.iload 4, 2) := dk_21 4 (dk_at dksX1_store_1 22 rfl rfl)
theorem dX1_store_47 : decode cX1_store 47 = .ok (.iload 5, 2) := dk_21 5 (dk_at dksX1_store_2 0 rfl rfl)
theorem dX1_store_49 : decode cX1_store 49 = .ok (.invokestatic 378, 3) := dk_184 1 122 (dk_at dksX1_store_2 2 rfl rfl)
theorem dX1_store_52 : decode cX1_store 52 = .ok (.invokevirtual 366, 3) := dk_182 1 110 (dk_at dksX1_store_2 5 rfl rfl)
theorem dX1_store_55 : decode cX1_store 55 = .ok (.istore 9, 2) := dk_54 9 (dk_at dksX1_store_2 8 rfl rfl)
theorem dX1_store_57 : decode cX1_store 57 = .ok (.iload_n 2, 1) := dk_28 (dk_at dksX1_store_2 10 rfl rfl)
theorem dX1_store_58 : decode cX1_store 58 = .ok (.iconst 1, 1) := dk_4 (dk_at dksX1_store_2 11 rfl rfl)
theorem dX1_store_59 : decode cX1_store 59 = .ok (.isub, 1) := dk_100 (dk_at dksX1_store_2 12 rfl rfl)
theorem dX1_store_60 : decode cX1_store 60 = .ok (.istore 10, 2) := dk_54 10 (dk_at dksX1_store_2 13 rfl rfl)
theorem dX1_store_62 : decode cX1_store 62 = .ok (.iload 10, 2) := dk_21 10 (dk_at dksX1_store_2 15 rfl rfl)
theorem dX1_store_64 : decode cX1_store 64 = .ok (.iload_n 3, 1) := dk_29 (dk_at dksX1_store_2 17 rfl rfl)
theorem dX1_store_65 : decode cX1_store 65 = .ok (.if_icmp .ge 45, 3) := dk_162 0 45 (dk_at dksX1_store_2 18 rfl rfl)
theorem dX1_store_68 : decode cX1_store 68 = .ok (.iload 6, 2) := dk_21 6 (dk_at dksX1_store_2 21 rfl rfl)
theorem dX1_store_70 : decode cX1_store 70 = .ok (.ifCond .eq 40, 3) := dk_153 0 40 (dk_at dksX1_store_3 0 rfl rfl)
theorem dX1_store_73 : decode cX1_store 73 = .ok (.aload_n 0, 1) := dk_42 (dk_at dksX1_store_3 3 rfl rfl)
theorem dX1_store_74 : decode cX1_store 74 = .ok (.getfield 44, 3) := dk_180 0 44 (dk_at dksX1_store_3 4 rfl rfl)
theorem dX1_store_77 : decode cX1_store 77 = .ok (.aload 8, 2) := dk_25 8 (dk_at dksX1_store_3 7 rfl rfl)
theorem dX1_store_79 : decode cX1_store 79 = .ok (.iload 10, 2) := dk_21 10 (dk_at dksX1_store_3 9 rfl rfl)
theorem dX1_store_81 : decode cX1_store 81 = .ok (.invokevirtual 274, 3) := dk_182 1 18 (dk_at dksX1_store_3 11 rfl rfl)
theorem dX1_store_84 : decode cX1_store 84 = .ok (.astore 11, 2) := dk_58 11 (dk_at dksX1_store_3 14 rfl rfl)
theorem dX1_store_86 : decode cX1_store 86 = .ok (.aload 11, 2) := dk_25 11 (dk_at dksX1_store_3 16 rfl rfl)
theorem dX1_store_88 : decode cX1_store 88 = .ok (.ifnull 16, 3) := dk_198 0 16 (dk_at dksX1_store_3 18 rfl rfl)
theorem dX1_store_91 : decode cX1_store 91 = .ok (.aload 8, 2) := dk_25 8 (dk_at dksX1_store_3 21 rfl rfl)
theorem dX1_store_93 : decode cX1_store 93 = .ok (.getfield 282, 3) := dk_180 1 26 (dk_at dksX1_store_4 0 rfl rfl)
theorem dX1_store_96 : decode cX1_store 96 = .ok (.iload 10, 2) := dk_21 10 (dk_at dksX1_store_4 3 rfl rfl)
theorem dX1_store_98 : decode cX1_store 98 = .ok (.aload 11, 2) := dk_25 11 (dk_at dksX1_store_4 5 rfl rfl)
theorem dX1_store_100 : decode cX1_store 100 = .ok (.getfield 234, 3) := dk_180 0 234 (dk_at dksX1_store_4 7 rfl rfl)
theorem dX1_store_103 : decode cX1_store 103 = .ok (.iastore, 1) := dk_79 (dk_at dksX1_store_4 10 rfl rfl)
theorem dX1_store_104 : decode cX1_store 104 = .ok (.iinc 10 1, 3) := dk_132 10 1 (dk_at dksX1_store_4 11 rfl rfl)
theorem dX1_store_107 : decode cX1_store 107 = .ok (.goto (-45), 3) := dk_167 255 211 (dk_at dksX1_store_4 14 rfl rfl)
theorem dX1_store_110 : decode cX1_store 110 = .ok (.aload_n 0, 1) := dk_42 (dk_at dksX1_store_4 17 rfl rfl)
theorem dX1_store_111 : decode cX1_store 111 = .ok (.iload_n 1, 1) := dk_27 (dk_at dksX1_store_4 18 rfl rfl)
theorem dX1_store_112 : decode cX1_store 112 = .ok (.iconst 0, 1) := dk_3 (dk_at dksX1_store_4 19 rfl rfl)
theorem dX1_store_113 : decode cX1_store 113 = .ok (.invokevirtual 347, 3) := dk_182 1 91 (dk_at dksX1_store_4 20 rfl rfl)
theorem dX1_store_116 : decode cX1_store 116 = .ok (.istore 10, 2) := dk_54 10 (dk_at dksX1_store_5 0 rfl rfl)
theorem dX1_store_118 : decode cX1_store 118 = .ok (.iload 9, 2) := dk_21 9 (dk_at dksX1_store_5 2 rfl rfl)
theorem dX1_store_120 : decode cX1_store 120 = .ok (.ireturn, 1) := dk_172 (dk_at dksX1_store_5 4 rfl rfl)
abbrev cX1_requireFlags : ByteArray := prog_1_method_66_code
def yX1_requireFlags : MethodName := ⟨RX1, "requireFlags", "(II)V"⟩
def dkwX1_requireFlags_1 : List UInt8 := [4, 167, 0, 4, 3, 184, 0, 98, 177]
abbrev dktX1_requireFlags_1 : List UInt8 := dkwX1_requireFlags_1 ++ []
def dkwX1_requireFlags_0 : List UInt8 := [26, 133, 9, 20, 0, 225, 184, 0, 94, 153, 0, 19, 27, 133, 9, 20, 1, 113, 184, 0, 94, 153, 0, 7]
abbrev dktX1_requireFlags_0 : List UInt8 := dkwX1_requireFlags_0 ++ dktX1_requireFlags_1
theorem dksX1_requireFlags_0 : cX1_requireFlags.data.toList.drop 0 = dktX1_requireFlags_0 := by decide +kernel
theorem dksX1_requireFlags_1 : cX1_requireFlags.data.toList.drop 24 = dktX1_requireFlags_1 := dk_seg dksX1_requireFlags_0 24 rfl rfl
theorem dX1_requireFlags_0 : decode cX1_requireFlags 0 = .ok (.iload_n 0, 1) := dk_26 (dk_at dksX1_requireFlags_0 0 rfl rfl)
theorem dX1_requireFlags_1 : decode cX1_requireFlags 1 = .ok (.i2l, 1) := dk_133 (dk_at dksX1_requireFlags_0 1 rfl rfl)
theorem dX1_requireFlags_2 : decode cX1_requireFlags 2 = .ok (.lconst 0, 1) := dk_9 (dk_at dksX1_requireFlags_0 2 rfl rfl)
theorem dX1_requireFlags_3 : decode cX1_requireFlags 3 = .ok (.ldc2_w 225, 3) := dk_20 0 225 (dk_at dksX1_requireFlags_0 3 rfl rfl)
theorem dX1_requireFlags_6 : decode cX1_requireFlags 6 = .ok (.invokestatic 94, 3) := dk_184 0 94 (dk_at dksX1_requireFlags_0 6 rfl rfl)
theorem dX1_requireFlags_9 : decode cX1_requireFlags 9 = .ok (.ifCond .eq 19, 3) := dk_153 0 19 (dk_at dksX1_requireFlags_0 9 rfl rfl)
theorem dX1_requireFlags_12 : decode cX1_requireFlags 12 = .ok (.iload_n 1, 1) := dk_27 (dk_at dksX1_requireFlags_0 12 rfl rfl)
theorem dX1_requireFlags_13 : decode cX1_requireFlags 13 = .ok (.i2l, 1) := dk_133 (dk_at dksX1_requireFlags_0 13 rfl rfl)
theorem dX1_requireFlags_14 : decode cX1_requireFlags 14 = .ok (.lconst 0, 1) := dk_9 (dk_at dksX1_requireFlags_0 14 rfl rfl)
theorem dX1_requireFlags_15 : decode cX1_requireFlags 15 = .ok (.ldc2_w 369, 3) := dk_20 1 113 (dk_at dksX1_requireFlags_0 15 rfl rfl)
theorem dX1_requireFlags_18 : decode cX1_requireFlags 18 = .ok (.invokestatic 94, 3) := dk_184 0 94 (dk_at dksX1_requireFlags_0 18 rfl rfl)
theorem dX1_requireFlags_21 : decode cX1_requireFlags 21 = .ok (.ifCond .eq 7, 3) := dk_153 0 7 (dk_at dksX1_requireFlags_0 21 rfl rfl)
theorem dX1_requireFlags_24 : decode cX1_requireFlags 24 = .ok (.iconst 1, 1) := dk_4 (dk_at dksX1_requireFlags_1 0 rfl rfl)
theorem dX1_requireFlags_25 : decode cX1_requireFlags 25 = .ok (.goto 4, 3) := dk_167 0 4 (dk_at dksX1_requireFlags_1 1 rfl rfl)
theorem dX1_requireFlags_28 : decode cX1_requireFlags 28 = .ok (.iconst 0, 1) := dk_3 (dk_at dksX1_requireFlags_1 4 rfl rfl)
theorem dX1_requireFlags_29 : decode cX1_requireFlags 29 = .ok (.invokestatic 98, 3) := dk_184 0 98 (dk_at dksX1_requireFlags_1 5 rfl rfl)
theorem dX1_requireFlags_32 : decode cX1_requireFlags 32 = .ok (.return_, 1) := dk_177 (dk_at dksX1_requireFlags_1 8 rfl rfl)
abbrev cX1_requireWriter : ByteArray := prog_1_method_56_code
def yX1_requireWriter : MethodName := ⟨RX1, "requireWriter", "(LMailSessions$Session;)V"⟩
def dkwX1_requireWriter_1 : List UInt8 := [167, 0, 4, 3, 184, 0, 86, 177]
abbrev dktX1_requireWriter_1 : List UInt8 := dkwX1_requireWriter_1 ++ []
def dkwX1_requireWriter_0 : List UInt8 := [42, 180, 0, 194, 2, 159, 0, 21, 42, 180, 0, 254, 154, 0, 14, 42, 180, 0, 246, 154, 0, 7, 4]
abbrev dktX1_requireWriter_0 : List UInt8 := dkwX1_requireWriter_0 ++ dktX1_requireWriter_1
theorem dksX1_requireWriter_0 : cX1_requireWriter.data.toList.drop 0 = dktX1_requireWriter_0 := by decide +kernel
theorem dksX1_requireWriter_1 : cX1_requireWriter.data.toList.drop 23 = dktX1_requireWriter_1 := dk_seg dksX1_requireWriter_0 23 rfl rfl
theorem dX1_requireWriter_0 : decode cX1_requireWriter 0 = .ok (.aload_n 0, 1) := dk_42 (dk_at dksX1_requireWriter_0 0 rfl rfl)
theorem dX1_requireWriter_1 : decode cX1_requireWriter 1 = .ok (.getfield 194, 3) := dk_180 0 194 (dk_at dksX1_requireWriter_0 1 rfl rfl)
theorem dX1_requireWriter_4 : decode cX1_requireWriter 4 = .ok (.iconst (-1), 1) := dk_2 (dk_at dksX1_requireWriter_0 4 rfl rfl)
theorem dX1_requireWriter_5 : decode cX1_requireWriter 5 = .ok (.if_icmp .eq 21, 3) := dk_159 0 21 (dk_at dksX1_requireWriter_0 5 rfl rfl)
theorem dX1_requireWriter_8 : decode cX1_requireWriter 8 = .ok (.aload_n 0, 1) := dk_42 (dk_at dksX1_requireWriter_0 8 rfl rfl)
theorem dX1_requireWriter_9 : decode cX1_requireWriter 9 = .ok (.getfield 254, 3) := dk_180 0 254 (dk_at dksX1_requireWriter_0 9 rfl rfl)
theorem dX1_requireWriter_12 : decode cX1_requireWriter 12 = .ok (.ifCond .ne 14, 3) := dk_154 0 14 (dk_at dksX1_requireWriter_0 12 rfl rfl)
theorem dX1_requireWriter_15 : decode cX1_requireWriter 15 = .ok (.aload_n 0, 1) := dk_42 (dk_at dksX1_requireWriter_0 15 rfl rfl)
theorem dX1_requireWriter_16 : decode cX1_requireWriter 16 = .ok (.getfield 246, 3) := dk_180 0 246 (dk_at dksX1_requireWriter_0 16 rfl rfl)
theorem dX1_requireWriter_19 : decode cX1_requireWriter 19 = .ok (.ifCond .ne 7, 3) := dk_154 0 7 (dk_at dksX1_requireWriter_0 19 rfl rfl)
theorem dX1_requireWriter_22 : decode cX1_requireWriter 22 = .ok (.iconst 1, 1) := dk_4 (dk_at dksX1_requireWriter_0 22 rfl rfl)
theorem dX1_requireWriter_23 : decode cX1_requireWriter 23 = .ok (.goto 4, 3) := dk_167 0 4 (dk_at dksX1_requireWriter_1 0 rfl rfl)
theorem dX1_requireWriter_26 : decode cX1_requireWriter 26 = .ok (.iconst 0, 1) := dk_3 (dk_at dksX1_requireWriter_1 3 rfl rfl)
theorem dX1_requireWriter_27 : decode cX1_requireWriter 27 = .ok (.invokestatic 86, 3) := dk_184 0 86 (dk_at dksX1_requireWriter_1 4 rfl rfl)
theorem dX1_requireWriter_30 : decode cX1_requireWriter 30 = .ok (.return_, 1) := dk_177 (dk_at dksX1_requireWriter_1 7 rfl rfl)
abbrev cX1_changed : ByteArray := prog_1_method_13_code
def yX1_changed : MethodName := ⟨RX1, "changed", "(II)LMailSessions$Change;"⟩
def dkwX1_changed_1 : List UInt8 := [27, 186, 0, 37, 0, 0, 83, 77, 44, 26, 50, 176]
abbrev dktX1_changed_1 : List UInt8 := dkwX1_changed_1 ++ []
def dkwX1_changed_0 : List UInt8 := [6, 189, 0, 30, 89, 3, 27, 186, 0, 32, 0, 0, 83, 89, 4, 27, 186, 0, 36, 0, 0, 83, 89, 5]
abbrev dktX1_changed_0 : List UInt8 := dkwX1_changed_0 ++ dktX1_changed_1
theorem dksX1_changed_0 : cX1_changed.data.toList.drop 0 = dktX1_changed_0 := by decide +kernel
theorem dksX1_changed_1 : cX1_changed.data.toList.drop 24 = dktX1_changed_1 := dk_seg dksX1_changed_0 24 rfl rfl
theorem dX1_changed_0 : decode cX1_changed 0 = .ok (.iconst 3, 1) := dk_6 (dk_at dksX1_changed_0 0 rfl rfl)
theorem dX1_changed_1 : decode cX1_changed 1 = .ok (.anewarray 30, 3) := dk_189 0 30 (dk_at dksX1_changed_0 1 rfl rfl)
theorem dX1_changed_4 : decode cX1_changed 4 = .ok (.dup, 1) := dk_89 (dk_at dksX1_changed_0 4 rfl rfl)
theorem dX1_changed_5 : decode cX1_changed 5 = .ok (.iconst 0, 1) := dk_3 (dk_at dksX1_changed_0 5 rfl rfl)
theorem dX1_changed_6 : decode cX1_changed 6 = .ok (.iload_n 1, 1) := dk_27 (dk_at dksX1_changed_0 6 rfl rfl)
theorem dX1_changed_7 : decode cX1_changed 7 = .ok (.invokedynamic 32, 5) := by decide +kernel
theorem dX1_changed_12 : decode cX1_changed 12 = .ok (.aastore, 1) := dk_83 (dk_at dksX1_changed_0 12 rfl rfl)
theorem dX1_changed_13 : decode cX1_changed 13 = .ok (.dup, 1) := dk_89 (dk_at dksX1_changed_0 13 rfl rfl)
theorem dX1_changed_14 : decode cX1_changed 14 = .ok (.iconst 1, 1) := dk_4 (dk_at dksX1_changed_0 14 rfl rfl)
theorem dX1_changed_15 : decode cX1_changed 15 = .ok (.iload_n 1, 1) := dk_27 (dk_at dksX1_changed_0 15 rfl rfl)
theorem dX1_changed_16 : decode cX1_changed 16 = .ok (.invokedynamic 36, 5) := by decide +kernel
theorem dX1_changed_21 : decode cX1_changed 21 = .ok (.aastore, 1) := dk_83 (dk_at dksX1_changed_0 21 rfl rfl)
theorem dX1_changed_22 : decode cX1_changed 22 = .ok (.dup, 1) := dk_89 (dk_at dksX1_changed_0 22 rfl rfl)
theorem dX1_changed_23 : decode cX1_changed 23 = .ok (.iconst 2, 1) := dk_5 (dk_at dksX1_changed_0 23 rfl rfl)
theorem dX1_changed_24 : decode cX1_changed 24 = .ok (.iload_n 1, 1) := dk_27 (dk_at dksX1_changed_1 0 rfl rfl)
theorem dX1_changed_25 : decode cX1_changed 25 = .ok (.invokedynamic 37, 5) := by decide +kernel
theorem dX1_changed_30 : decode cX1_changed 30 = .ok (.aastore, 1) := dk_83 (dk_at dksX1_changed_1 6 rfl rfl)
theorem dX1_changed_31 : decode cX1_changed 31 = .ok (.astore_n 2, 1) := dk_77 (dk_at dksX1_changed_1 7 rfl rfl)
theorem dX1_changed_32 : decode cX1_changed 32 = .ok (.aload_n 2, 1) := dk_44 (dk_at dksX1_changed_1 8 rfl rfl)
theorem dX1_changed_33 : decode cX1_changed 33 = .ok (.iload_n 0, 1) := dk_26 (dk_at dksX1_changed_1 9 rfl rfl)
theorem dX1_changed_34 : decode cX1_changed 34 = .ok (.aaload, 1) := dk_50 (dk_at dksX1_changed_1 10 rfl rfl)
theorem dX1_changed_35 : decode cX1_changed 35 = .ok (.areturn, 1) := dk_176 (dk_at dksX1_changed_1 11 rfl rfl)
abbrev cX1_lambda_changed_5 : ByteArray := prog_1_method_93_code
def yX1_lambda_changed_5 : MethodName := ⟨RX1, "lambda$changed$5", "(II)I"⟩
theorem dX1_lambda_changed_5_0 : decode cX1_lambda_changed_5 0 = .ok (.iload_n 0, 1) := by decide +kernel
theorem dX1_lambda_changed_5_1 : decode cX1_lambda_changed_5 1 = .ok (.ireturn, 1) := by decide +kernel
abbrev cX1_lambda_changed_6 : ByteArray := prog_1_method_92_code
def yX1_lambda_changed_6 : MethodName := ⟨RX1, "lambda$changed$6", "(II)I"⟩
def dkwX1_lambda_changed_6_0 : List UInt8 := [27, 26, 128, 172]
abbrev dktX1_lambda_changed_6_0 : List UInt8 := dkwX1_lambda_changed_6_0 ++ []
theorem dksX1_lambda_changed_6_0 : cX1_lambda_changed_6.data.toList.drop 0 = dktX1_lambda_changed_6_0 := by decide +kernel
theorem dX1_lambda_changed_6_0 : decode cX1_lambda_changed_6 0 = .ok (.iload_n 1, 1) := dk_27 (dk_at dksX1_lambda_changed_6_0 0 rfl rfl)
theorem dX1_lambda_changed_6_1 : decode cX1_lambda_changed_6 1 = .ok (.iload_n 0, 1) := dk_26 (dk_at dksX1_lambda_changed_6_0 1 rfl rfl)
theorem dX1_lambda_changed_6_2 : decode cX1_lambda_changed_6 2 = .ok (.ior, 1) := dk_128 (dk_at dksX1_lambda_changed_6_0 2 rfl rfl)
theorem dX1_lambda_changed_6_3 : decode cX1_lambda_changed_6 3 = .ok (.ireturn, 1) := dk_172 (dk_at dksX1_lambda_changed_6_0 3 rfl rfl)
abbrev cX1_lambda_changed_7 : ByteArray := prog_1_method_91_code
def yX1_lambda_changed_7 : MethodName := ⟨RX1, "lambda$changed$7", "(II)I"⟩
def dkwX1_lambda_changed_7_0 : List UInt8 := [27, 26, 2, 130, 126, 172]
abbrev dktX1_lambda_changed_7_0 : List UInt8 := dkwX1_lambda_changed_7_0 ++ []
theorem dksX1_lambda_changed_7_0 : cX1_lambda_changed_7.data.toList.drop 0 = dktX1_lambda_changed_7_0 := by decide +kernel
theorem dX1_lambda_changed_7_0 : decode cX1_lambda_changed_7 0 = .ok (.iload_n 1, 1) := dk_27 (dk_at dksX1_lambda_changed_7_0 0 rfl rfl)
theorem dX1_lambda_changed_7_1 : decode cX1_lambda_changed_7 1 = .ok (.iload_n 0, 1) := dk_26 (dk_at dksX1_lambda_changed_7_0 1 rfl rfl)
theorem dX1_lambda_changed_7_2 : decode cX1_lambda_changed_7 2 = .ok (.iconst (-1), 1) := dk_2 (dk_at dksX1_lambda_changed_7_0 2 rfl rfl)
theorem dX1_lambda_changed_7_3 : decode cX1_lambda_changed_7 3 = .ok (.ixor, 1) := dk_130 (dk_at dksX1_lambda_changed_7_0 3 rfl rfl)
theorem dX1_lambda_changed_7_4 : decode cX1_lambda_changed_7 4 = .ok (.iand, 1) := dk_126 (dk_at dksX1_lambda_changed_7_0 4 rfl rfl)
theorem dX1_lambda_changed_7_5 : decode cX1_lambda_changed_7 5 = .ok (.ireturn, 1) := dk_172 (dk_at dksX1_lambda_changed_7_0 5 rfl rfl)
abbrev cX1_uidStore : ByteArray := prog_1_method_68_code
def yX1_uidStore : MethodName := ⟨RX1, "uidStore", "(IIIII)I"⟩
def dkwX1_uidStore_2 : List UInt8 := [54, 8, 42, 27, 4, 182, 1, 91, 54, 9, 21, 8, 172]
abbrev dktX1_uidStore_2 : List UInt8 := dkwX1_uidStore_2 ++ []
def dkwX1_uidStore_1 : List UInt8 := [58, 7, 42, 25, 7, 182, 1, 99, 28, 29, 184, 1, 125, 21, 4, 21, 5, 184, 1, 122, 182, 1, 110]
abbrev dktX1_uidStore_1 : List UInt8 := dkwX1_uidStore_1 ++ dktX1_uidStore_2
def dkwX1_uidStore_0 : List UInt8 := [42, 27, 182, 0, 240, 58, 6, 21, 4, 21, 5, 184, 1, 115, 25, 6, 184, 1, 119, 42, 27, 182, 1, 80]
abbrev dktX1_uidStore_0 : List UInt8 := dkwX1_uidStore_0 ++ dktX1_uidStore_1
theorem dksX1_uidStore_0 : cX1_uidStore.data.toList.drop 0 = dktX1_uidStore_0 := by decide +kernel
theorem dksX1_uidStore_1 : cX1_uidStore.data.toList.drop 24 = dktX1_uidStore_1 := dk_seg dksX1_uidStore_0 24 rfl rfl
theorem dksX1_uidStore_2 : cX1_uidStore.data.toList.drop 47 = dktX1_uidStore_2 := dk_seg dksX1_uidStore_1 23 rfl rfl
theorem dX1_uidStore_0 : decode cX1_uidStore 0 = .ok (.aload_n 0, 1) := dk_42 (dk_at dksX1_uidStore_0 0 rfl rfl)
theorem dX1_uidStore_1 : decode cX1_uidStore 1 = .ok (.iload_n 1, 1) := dk_27 (dk_at dksX1_uidStore_0 1 rfl rfl)
theorem dX1_uidStore_2 : decode cX1_uidStore 2 = .ok (.invokevirtual 240, 3) := dk_182 0 240 (dk_at dksX1_uidStore_0 2 rfl rfl)
theorem dX1_uidStore_5 : decode cX1_uidStore 5 = .ok (.astore 6, 2) := dk_58 6 (dk_at dksX1_uidStore_0 5 rfl rfl)
theorem dX1_uidStore_7 : decode cX1_uidStore 7 = .ok (.iload 4, 2) := dk_21 4 (dk_at dksX1_uidStore_0 7 rfl rfl)
theorem dX1_uidStore_9 : decode cX1_uidStore 9 = .ok (.iload 5, 2) := dk_21 5 (dk_at dksX1_uidStore_0 9 rfl rfl)
theorem dX1_uidStore_11 : decode cX1_uidStore 11 = .ok (.invokestatic 371, 3) := dk_184 1 115 (dk_at dksX1_uidStore_0 11 rfl rfl)
theorem dX1_uidStore_14 : decode cX1_uidStore 14 = .ok (.aload 6, 2) := dk_25 6 (dk_at dksX1_uidStore_0 14 rfl rfl)
theorem dX1_uidStore_16 : decode cX1_uidStore 16 = .ok (.invokestatic 375, 3) := dk_184 1 119 (dk_at dksX1_uidStore_0 16 rfl rfl)
theorem dX1_uidStore_19 : decode cX1_uidStore 19 = .ok (.aload_n 0, 1) := dk_42 (dk_at dksX1_uidStore_0 19 rfl rfl)
theorem dX1_uidStore_20 : decode cX1_uidStore 20 = .ok (.iload_n 1, 1) := dk_27 (dk_at dksX1_uidStore_0 20 rfl rfl)
theorem dX1_uidStore_21 : decode cX1_uidStore 21 = .ok (.invokevirtual 336, 3) := dk_182 1 80 (dk_at dksX1_uidStore_0 21 rfl rfl)
theorem dX1_uidStore_24 : decode cX1_uidStore 24 = .ok (.astore 7, 2) := dk_58 7 (dk_at dksX1_uidStore_1 0 rfl rfl)
theorem dX1_uidStore_26 : decode cX1_uidStore 26 = .ok (.aload_n 0, 1) := dk_42 (dk_at dksX1_uidStore_1 2 rfl rfl)
theorem dX1_uidStore_27 : decode cX1_uidStore 27 = .ok (.aload 7, 2) := dk_25 7 (dk_at dksX1_uidStore_1 3 rfl rfl)
theorem dX1_uidStore_29 : decode cX1_uidStore 29 = .ok (.invokevirtual 355, 3) := dk_182 1 99 (dk_at dksX1_uidStore_1 5 rfl rfl)
theorem dX1_uidStore_32 : decode cX1_uidStore 32 = .ok (.iload_n 2, 1) := dk_28 (dk_at dksX1_uidStore_1 8 rfl rfl)
theorem dX1_uidStore_33 : decode cX1_uidStore 33 = .ok (.iload_n 3, 1) := dk_29 (dk_at dksX1_uidStore_1 9 rfl rfl)
theorem dX1_uidStore_34 : decode cX1_uidStore 34 = .ok (.invokestatic 381, 3) := dk_184 1 125 (dk_at dksX1_uidStore_1 10 rfl rfl)
theorem dX1_uidStore_37 : decode cX1_uidStore 37 = .ok (.iload 4, 2) := dk_21 4 (dk_at dksX1_uidStore_1 13 rfl rfl)
theorem dX1_uidStore_39 : decode cX1_uidStore 39 = .ok (.iload 5, 2) := dk_21 5 (dk_at dksX1_uidStore_1 15 rfl rfl)
theorem dX1_uidStore_41 : decode cX1_uidStore 41 = .ok (.invokestatic 378, 3) := dk_184 1 122 (dk_at dksX1_uidStore_1 17 rfl rfl)
theorem dX1_uidStore_44 : decode cX1_uidStore 44 = .ok (.invokevirtual 366, 3) := dk_182 1 110 (dk_at dksX1_uidStore_1 20 rfl rfl)
theorem dX1_uidStore_47 : decode cX1_uidStore 47 = .ok (.istore 8, 2) := dk_54 8 (dk_at dksX1_uidStore_2 0 rfl rfl)
theorem dX1_uidStore_49 : decode cX1_uidStore 49 = .ok (.aload_n 0, 1) := dk_42 (dk_at dksX1_uidStore_2 2 rfl rfl)
theorem dX1_uidStore_50 : decode cX1_uidStore 50 = .ok (.iload_n 1, 1) := dk_27 (dk_at dksX1_uidStore_2 3 rfl rfl)
theorem dX1_uidStore_51 : decode cX1_uidStore 51 = .ok (.iconst 1, 1) := dk_4 (dk_at dksX1_uidStore_2 4 rfl rfl)
theorem dX1_uidStore_52 : decode cX1_uidStore 52 = .ok (.invokevirtual 347, 3) := dk_182 1 91 (dk_at dksX1_uidStore_2 5 rfl rfl)
theorem dX1_uidStore_55 : decode cX1_uidStore 55 = .ok (.istore 9, 2) := dk_54 9 (dk_at dksX1_uidStore_2 8 rfl rfl)
theorem dX1_uidStore_57 : decode cX1_uidStore 57 = .ok (.iload 8, 2) := dk_21 8 (dk_at dksX1_uidStore_2 10 rfl rfl)
theorem dX1_uidStore_59 : decode cX1_uidStore 59 = .ok (.ireturn, 1) := dk_172 (dk_at dksX1_uidStore_2 12 rfl rfl)
abbrev cX1_search : ByteArray := prog_1_method_69_code
def yX1_search : MethodName := ⟨RX1, "search", "(I)J"⟩
def dkwX1_search_4 : List UInt8 := [3, 182, 1, 91, 54, 6, 22, 4, 173]
abbrev dktX1_search_4 : List UInt8 := dkwX1_search_4 ++ []
def dkwX1_search_3 : List UInt8 := [153, 0, 12, 10, 21, 6, 4, 96, 121, 167, 0, 4, 9, 129, 55, 4, 132, 6, 1, 167, 255, 201, 42, 27]
abbrev dktX1_search_3 : List UInt8 := dkwX1_search_3 ++ dktX1_search_4
def dkwX1_search_2 : List UInt8 := [21, 6, 182, 1, 18, 58, 7, 22, 4, 25, 7, 198, 0, 23, 44, 25, 7, 185, 1, 64, 2, 0]
abbrev dktX1_search_2 : List UInt8 := dkwX1_search_2 ++ dktX1_search_3
def dkwX1_search_1 : List UInt8 := [182, 1, 80, 78, 9, 55, 4, 3, 54, 6, 21, 6, 45, 180, 1, 1, 162, 0, 52, 42, 180, 0, 44, 45]
abbrev dktX1_search_1 : List UInt8 := dkwX1_search_1 ++ dktX1_search_2
def dkwX1_search_0 : List UInt8 := [42, 27, 182, 0, 240, 184, 1, 87, 42, 182, 1, 61, 77, 44, 199, 0, 7, 20, 1, 128, 173, 42, 27]
abbrev dktX1_search_0 : List UInt8 := dkwX1_search_0 ++ dktX1_search_1
theorem dksX1_search_0 : cX1_search.data.toList.drop 0 = dktX1_search_0 := by decide +kernel
theorem dksX1_search_1 : cX1_search.data.toList.drop 23 = dktX1_search_1 := dk_seg dksX1_search_0 23 rfl rfl
theorem dksX1_search_2 : cX1_search.data.toList.drop 47 = dktX1_search_2 := dk_seg dksX1_search_1 24 rfl rfl
theorem dksX1_search_3 : cX1_search.data.toList.drop 69 = dktX1_search_3 := dk_seg dksX1_search_2 22 rfl rfl
theorem dksX1_search_4 : cX1_search.data.toList.drop 93 = dktX1_search_4 := dk_seg dksX1_search_3 24 rfl rfl
theorem dX1_search_0 : decode cX1_search 0 = .ok (.aload_n 0, 1) := dk_42 (dk_at dksX1_search_0 0 rfl rfl)
theorem dX1_search_1 : decode cX1_search 1 = .ok (.iload_n 1, 1) := dk_27 (dk_at dksX1_search_0 1 rfl rfl)
theorem dX1_search_2 : decode cX1_search 2 = .ok (.invokevirtual 240, 3) := dk_182 0 240 (dk_at dksX1_search_0 2 rfl rfl)
theorem dX1_search_5 : decode cX1_search 5 = .ok (.invokestatic 343, 3) := dk_184 1 87 (dk_at dksX1_search_0 5 rfl rfl)
theorem dX1_search_8 : decode cX1_search 8 = .ok (.aload_n 0, 1) := dk_42 (dk_at dksX1_search_0 8 rfl rfl)
theorem dX1_search_9 : decode cX1_search 9 = .ok (.invokevirtual 317, 3) := dk_182 1 61 (dk_at dksX1_search_0 9 rfl rfl)
theorem dX1_search_12 : decode cX1_search 12 = .ok (.astore_n 2, 1) := dk_77 (dk_at dksX1_search_0 12 rfl rfl)
theorem dX1_search_13 : decode cX1_search 13 = .ok (.aload_n 2, 1) := dk_44 (dk_at dksX1_search_0 13 rfl rfl)
theorem dX1_search_14 : decode cX1_search 14 = .ok (.ifnonnull 7, 3) := dk_199 0 7 (dk_at dksX1_search_0 14 rfl rfl)
theorem dX1_search_17 : decode cX1_search 17 = .ok (.ldc2_w 384, 3) := dk_20 1 128 (dk_at dksX1_search_0 17 rfl rfl)
theorem dX1_search_20 : decode cX1_search 20 = .ok (.lreturn, 1) := dk_173 (dk_at dksX1_search_0 20 rfl rfl)
theorem dX1_search_21 : decode cX1_search 21 = .ok (.aload_n 0, 1) := dk_42 (dk_at dksX1_search_0 21 rfl rfl)
theorem dX1_search_22 : decode cX1_search 22 = .ok (.iload_n 1, 1) := dk_27 (dk_at dksX1_search_0 22 rfl rfl)
theorem dX1_search_23 : decode cX1_search 23 = .ok (.invokevirtual 336, 3) := dk_182 1 80 (dk_at dksX1_search_1 0 rfl rfl)
theorem dX1_search_26 : decode cX1_search 26 = .ok (.astore_n 3, 1) := dk_78 (dk_at dksX1_search_1 3 rfl rfl)
theorem dX1_search_27 : decode cX1_search 27 = .ok (.lconst 0, 1) := dk_9 (dk_at dksX1_search_1 4 rfl rfl)
theorem dX1_search_28 : decode cX1_search 28 = .ok (.lstore 4, 2) := dk_55 4 (dk_at dksX1_search_1 5 rfl rfl)
theorem dX1_search_30 : decode cX1_search 30 = .ok (.iconst 0, 1) := dk_3 (dk_at dksX1_search_1 7 rfl rfl)
theorem dX1_search_31 : decode cX1_search 31 = .ok (.istore 6, 2) := dk_54 6 (dk_at dksX1_search_1 8 rfl rfl)
theorem dX1_search_33 : decode cX1_search 33 = .ok (.iload 6, 2) := dk_21 6 (dk_at dksX1_search_1 10 rfl rfl)
theorem dX1_search_35 : decode cX1_search 35 = .ok (.aload_n 3, 1) := dk_45 (dk_at dksX1_search_1 12 rfl rfl)
theorem dX1_search_36 : decode cX1_search 36 = .ok (.getfield 257, 3) := dk_180 1 1 (dk_at dksX1_search_1 13 rfl rfl)
theorem dX1_search_39 : decode cX1_search 39 = .ok (.if_icmp .ge 52, 3) := dk_162 0 52 (dk_at dksX1_search_1 16 rfl rfl)
theorem dX1_search_42 : decode cX1_search 42 = .ok (.aload_n 0, 1) := dk_42 (dk_at dksX1_search_1 19 rfl rfl)
theorem dX1_search_43 : decode cX1_search 43 = .ok (.getfield 44, 3) := dk_180 0 44 (dk_at dksX1_search_1 20 rfl rfl)
theorem dX1_search_46 : decode cX1_search 46 = .ok (.aload_n 3, 1) := dk_45 (dk_at dksX1_search_1 23 rfl rfl)
theorem dX1_search_47 : decode cX1_search 47 = .ok (.iload 6, 2) := dk_21 6 (dk_at dksX1_search_2 0 rfl rfl)
theorem dX1_search_49 : decode cX1_search 49 = .ok (.invokevirtual 274, 3) := dk_182 1 18 (dk_at dksX1_search_2 2 rfl rfl)
theorem dX1_search_52 : decode cX1_search 52 = .ok (.astore 7, 2) := dk_58 7 (dk_at dksX1_search_2 5 rfl rfl)
theorem dX1_search_54 : decode cX1_search 54 = .ok (.lload 4, 2) := dk_22 4 (dk_at dksX1_search_2 7 rfl rfl)
theorem dX1_search_56 : decode cX1_search 56 = .ok (.aload 7, 2) := dk_25 7 (dk_at dksX1_search_2 9 rfl rfl)
theorem dX1_search_58 : decode cX1_search 58 = .ok (.ifnull 23, 3) := dk_198 0 23 (dk_at dksX1_search_2 11 rfl rfl)
theorem dX1_search_61 : decode cX1_search 61 = .ok (.aload_n 2, 1) := dk_44 (dk_at dksX1_search_2 14 rfl rfl)
theorem dX1_search_62 : decode cX1_search 62 = .ok (.aload 7, 2) := dk_25 7 (dk_at dksX1_search_2 15 rfl rfl)
theorem dX1_search_64 : decode cX1_search 64 = .ok (.invokeinterface 320 2, 5) := by decide +kernel
theorem dX1_search_69 : decode cX1_search 69 = .ok (.ifCond .eq 12, 3) := dk_153 0 12 (dk_at dksX1_search_3 0 rfl rfl)
theorem dX1_search_72 : decode cX1_search 72 = .ok (.lconst 1, 1) := dk_10 (dk_at dksX1_search_3 3 rfl rfl)
theorem dX1_search_73 : decode cX1_search 73 = .ok (.iload 6, 2) := dk_21 6 (dk_at dksX1_search_3 4 rfl rfl)
theorem dX1_search_75 : decode cX1_search 75 = .ok (.iconst 1, 1) := dk_4 (dk_at dksX1_search_3 6 rfl rfl)
theorem dX1_search_76 : decode cX1_search 76 = .ok (.iadd, 1) := dk_96 (dk_at dksX1_search_3 7 rfl rfl)
theorem dX1_search_77 : decode cX1_search 77 = .ok (.lshl, 1) := dk_121 (dk_at dksX1_search_3 8 rfl rfl)
theorem dX1_search_78 : decode cX1_search 78 = .ok (.goto 4, 3) := dk_167 0 4 (dk_at dksX1_search_3 9 rfl rfl)
theorem dX1_search_81 : decode cX1_search 81 = .ok (.lconst 0, 1) := dk_9 (dk_at dksX1_search_3 12 rfl rfl)
theorem dX1_search_82 : decode cX1_search 82 = .ok (.lor, 1) := dk_129 (dk_at dksX1_search_3 13 rfl rfl)
theorem dX1_search_83 : decode cX1_search 83 = .ok (.lstore 4, 2) := dk_55 4 (dk_at dksX1_search_3 14 rfl rfl)
theorem dX1_search_85 : decode cX1_search 85 = .ok (.iinc 6 1, 3) := dk_132 6 1 (dk_at dksX1_search_3 16 rfl rfl)
theorem dX1_search_88 : decode cX1_search 88 = .ok (.goto (-55), 3) := dk_167 255 201 (dk_at dksX1_search_3 19 rfl rfl)
theorem dX1_search_91 : decode cX1_search 91 = .ok (.aload_n 0, 1) := dk_42 (dk_at dksX1_search_3 22 rfl rfl)
theorem dX1_search_92 : decode cX1_search 92 = .ok (.iload_n 1, 1) := dk_27 (dk_at dksX1_search_3 23 rfl rfl)
theorem dX1_search_93 : decode cX1_search 93 = .ok (.iconst 0, 1) := dk_3 (dk_at dksX1_search_4 0 rfl rfl)
theorem dX1_search_94 : decode cX1_search 94 = .ok (.invokevirtual 347, 3) := dk_182 1 91 (dk_at dksX1_search_4 1 rfl rfl)
theorem dX1_search_97 : decode cX1_search 97 = .ok (.istore 6, 2) := dk_54 6 (dk_at dksX1_search_4 4 rfl rfl)
theorem dX1_search_99 : decode cX1_search 99 = .ok (.lload 4, 2) := dk_22 4 (dk_at dksX1_search_4 6 rfl rfl)
theorem dX1_search_101 : decode cX1_search 101 = .ok (.lreturn, 1) := dk_173 (dk_at dksX1_search_4 8 rfl rfl)
abbrev cX1_expunge : ByteArray := prog_1_method_71_code
def yX1_expunge : MethodName := ⟨RX1, "expunge", "(I)I"⟩
def dkwX1_expunge_0 : List UInt8 := [42, 27, 182, 0, 240, 184, 1, 119, 42, 27, 6, 184, 0, 211, 182, 1, 133, 172]
abbrev dktX1_expunge_0 : List UInt8 := dkwX1_expunge_0 ++ []
theorem dksX1_expunge_0 : cX1_expunge.data.toList.drop 0 = dktX1_expunge_0 := by decide +kernel
theorem dX1_expunge_0 : decode cX1_expunge 0 = .ok (.aload_n 0, 1) := dk_42 (dk_at dksX1_expunge_0 0 rfl rfl)
theorem dX1_expunge_1 : decode cX1_expunge 1 = .ok (.iload_n 1, 1) := dk_27 (dk_at dksX1_expunge_0 1 rfl rfl)
theorem dX1_expunge_2 : decode cX1_expunge 2 = .ok (.invokevirtual 240, 3) := dk_182 0 240 (dk_at dksX1_expunge_0 2 rfl rfl)
theorem dX1_expunge_5 : decode cX1_expunge 5 = .ok (.invokestatic 375, 3) := dk_184 1 119 (dk_at dksX1_expunge_0 5 rfl rfl)
theorem dX1_expunge_8 : decode cX1_expunge 8 = .ok (.aload_n 0, 1) := dk_42 (dk_at dksX1_expunge_0 8 rfl rfl)
theorem dX1_expunge_9 : decode cX1_expunge 9 = .ok (.iload_n 1, 1) := dk_27 (dk_at dksX1_expunge_0 9 rfl rfl)
theorem dX1_expunge_10 : decode cX1_expunge 10 = .ok (.iconst 3, 1) := dk_6 (dk_at dksX1_expunge_0 10 rfl rfl)
theorem dX1_expunge_11 : decode cX1_expunge 11 = .ok (.invokestatic 211, 3) := dk_184 0 211 (dk_at dksX1_expunge_0 11 rfl rfl)
theorem dX1_expunge_14 : decode cX1_expunge 14 = .ok (.invokevirtual 389, 3) := dk_182 1 133 (dk_at dksX1_expunge_0 14 rfl rfl)
theorem dX1_expunge_17 : decode cX1_expunge 17 = .ok (.ireturn, 1) := dk_172 (dk_at dksX1_expunge_0 17 rfl rfl)
abbrev cX1_removes : ByteArray := prog_1_method_70_code
def yX1_removes : MethodName := ⟨RX1, "removes", "(ILMailSessions$Test;)I"⟩
def dkwX1_removes_1 : List UInt8 := [54, 5, 21, 4, 172]
abbrev dktX1_removes_1 : List UInt8 := dkwX1_removes_1 ++ []
def dkwX1_removes_0 : List UInt8 := [42, 27, 182, 1, 80, 78, 42, 45, 182, 1, 99, 44, 182, 1, 130, 54, 4, 42, 27, 4, 182, 1, 91]
abbrev dktX1_removes_0 : List UInt8 := dkwX1_removes_0 ++ dktX1_removes_1
theorem dksX1_removes_0 : cX1_removes.data.toList.drop 0 = dktX1_removes_0 := by decide +kernel
theorem dksX1_removes_1 : cX1_removes.data.toList.drop 23 = dktX1_removes_1 := dk_seg dksX1_removes_0 23 rfl rfl
theorem dX1_removes_0 : decode cX1_removes 0 = .ok (.aload_n 0, 1) := dk_42 (dk_at dksX1_removes_0 0 rfl rfl)
theorem dX1_removes_1 : decode cX1_removes 1 = .ok (.iload_n 1, 1) := dk_27 (dk_at dksX1_removes_0 1 rfl rfl)
theorem dX1_removes_2 : decode cX1_removes 2 = .ok (.invokevirtual 336, 3) := dk_182 1 80 (dk_at dksX1_removes_0 2 rfl rfl)
theorem dX1_removes_5 : decode cX1_removes 5 = .ok (.astore_n 3, 1) := dk_78 (dk_at dksX1_removes_0 5 rfl rfl)
theorem dX1_removes_6 : decode cX1_removes 6 = .ok (.aload_n 0, 1) := dk_42 (dk_at dksX1_removes_0 6 rfl rfl)
theorem dX1_removes_7 : decode cX1_removes 7 = .ok (.aload_n 3, 1) := dk_45 (dk_at dksX1_removes_0 7 rfl rfl)
theorem dX1_removes_8 : decode cX1_removes 8 = .ok (.invokevirtual 355, 3) := dk_182 1 99 (dk_at dksX1_removes_0 8 rfl rfl)
theorem dX1_removes_11 : decode cX1_removes 11 = .ok (.aload_n 2, 1) := dk_44 (dk_at dksX1_removes_0 11 rfl rfl)
theorem dX1_removes_12 : decode cX1_removes 12 = .ok (.invokevirtual 386, 3) := dk_182 1 130 (dk_at dksX1_removes_0 12 rfl rfl)
theorem dX1_removes_15 : decode cX1_removes 15 = .ok (.istore 4, 2) := dk_54 4 (dk_at dksX1_removes_0 15 rfl rfl)
theorem dX1_removes_17 : decode cX1_removes 17 = .ok (.aload_n 0, 1) := dk_42 (dk_at dksX1_removes_0 17 rfl rfl)
theorem dX1_removes_18 : decode cX1_removes 18 = .ok (.iload_n 1, 1) := dk_27 (dk_at dksX1_removes_0 18 rfl rfl)
theorem dX1_removes_19 : decode cX1_removes 19 = .ok (.iconst 1, 1) := dk_4 (dk_at dksX1_removes_0 19 rfl rfl)
theorem dX1_removes_20 : decode cX1_removes 20 = .ok (.invokevirtual 347, 3) := dk_182 1 91 (dk_at dksX1_removes_0 20 rfl rfl)
theorem dX1_removes_23 : decode cX1_removes 23 = .ok (.istore 5, 2) := dk_54 5 (dk_at dksX1_removes_1 0 rfl rfl)
theorem dX1_removes_25 : decode cX1_removes 25 = .ok (.iload 4, 2) := dk_21 4 (dk_at dksX1_removes_1 2 rfl rfl)
theorem dX1_removes_27 : decode cX1_removes 27 = .ok (.ireturn, 1) := dk_172 (dk_at dksX1_removes_1 4 rfl rfl)
abbrev cX1_uidExpunge : ByteArray := prog_1_method_72_code
def yX1_uidExpunge : MethodName := ⟨RX1, "uidExpunge", "(III)I"⟩
def dkwX1_uidExpunge_1 : List UInt8 := [182, 1, 133, 172]
abbrev dktX1_uidExpunge_1 : List UInt8 := dkwX1_uidExpunge_1 ++ []
def dkwX1_uidExpunge_0 : List UInt8 := [42, 27, 182, 0, 240, 184, 1, 119, 42, 27, 6, 184, 0, 211, 28, 29, 184, 1, 125, 184, 1, 137]
abbrev dktX1_uidExpunge_0 : List UInt8 := dkwX1_uidExpunge_0 ++ dktX1_uidExpunge_1
theorem dksX1_uidExpunge_0 : cX1_uidExpunge.data.toList.drop 0 = dktX1_uidExpunge_0 := by decide +kernel
theorem dksX1_uidExpunge_1 : cX1_uidExpunge.data.toList.drop 22 = dktX1_uidExpunge_1 := dk_seg dksX1_uidExpunge_0 22 rfl rfl
theorem dX1_uidExpunge_0 : decode cX1_uidExpunge 0 = .ok (.aload_n 0, 1) := dk_42 (dk_at dksX1_uidExpunge_0 0 rfl rfl)
theorem dX1_uidExpunge_1 : decode cX1_uidExpunge 1 = .ok (.iload_n 1, 1) := dk_27 (dk_at dksX1_uidExpunge_0 1 rfl rfl)
theorem dX1_uidExpunge_2 : decode cX1_uidExpunge 2 = .ok (.invokevirtual 240, 3) := dk_182 0 240 (dk_at dksX1_uidExpunge_0 2 rfl rfl)
theorem dX1_uidExpunge_5 : decode cX1_uidExpunge 5 = .ok (.invokestatic 375, 3) := dk_184 1 119 (dk_at dksX1_uidExpunge_0 5 rfl rfl)
theorem dX1_uidExpunge_8 : decode cX1_uidExpunge 8 = .ok (.aload_n 0, 1) := dk_42 (dk_at dksX1_uidExpunge_0 8 rfl rfl)
theorem dX1_uidExpunge_9 : decode cX1_uidExpunge 9 = .ok (.iload_n 1, 1) := dk_27 (dk_at dksX1_uidExpunge_0 9 rfl rfl)
theorem dX1_uidExpunge_10 : decode cX1_uidExpunge 10 = .ok (.iconst 3, 1) := dk_6 (dk_at dksX1_uidExpunge_0 10 rfl rfl)
theorem dX1_uidExpunge_11 : decode cX1_uidExpunge 11 = .ok (.invokestatic 211, 3) := dk_184 0 211 (dk_at dksX1_uidExpunge_0 11 rfl rfl)
theorem dX1_uidExpunge_14 : decode cX1_uidExpunge 14 = .ok (.iload_n 2, 1) := dk_28 (dk_at dksX1_uidExpunge_0 14 rfl rfl)
theorem dX1_uidExpunge_15 : decode cX1_uidExpunge 15 = .ok (.iload_n 3, 1) := dk_29 (dk_at dksX1_uidExpunge_0 15 rfl rfl)
theorem dX1_uidExpunge_16 : decode cX1_uidExpunge 16 = .ok (.invokestatic 381, 3) := dk_184 1 125 (dk_at dksX1_uidExpunge_0 16 rfl rfl)
theorem dX1_uidExpunge_19 : decode cX1_uidExpunge 19 = .ok (.invokestatic 393, 3) := dk_184 1 137 (dk_at dksX1_uidExpunge_0 19 rfl rfl)
theorem dX1_uidExpunge_22 : decode cX1_uidExpunge 22 = .ok (.invokevirtual 389, 3) := dk_182 1 133 (dk_at dksX1_uidExpunge_1 0 rfl rfl)
theorem dX1_uidExpunge_25 : decode cX1_uidExpunge 25 = .ok (.ireturn, 1) := dk_172 (dk_at dksX1_uidExpunge_1 3 rfl rfl)
abbrev cX1_copy : ByteArray := prog_1_method_74_code
def yX1_copy : MethodName := ⟨RX1, "copy", "(IIII)I"⟩
def dkwX1_copy_3 : List UInt8 := [182, 0, 186, 192, 0, 190, 182, 1, 144, 54, 8, 42, 27, 4, 182, 1, 91, 54, 9, 21, 8, 172]
abbrev dktX1_copy_3 : List UInt8 := dkwX1_copy_3 ++ []
def dkwX1_copy_2 : List UInt8 := [182, 1, 99, 42, 180, 0, 44, 25, 7, 28, 29, 182, 1, 103, 42, 180, 0, 44, 180, 0, 173, 21, 4]
abbrev dktX1_copy_2 : List UInt8 := dkwX1_copy_2 ++ dktX1_copy_3
def dkwX1_copy_1 : List UInt8 := [25, 6, 28, 29, 21, 4, 182, 1, 140, 42, 27, 182, 1, 80, 58, 7, 42, 180, 0, 44, 42, 25, 7]
abbrev dktX1_copy_1 : List UInt8 := dkwX1_copy_1 ++ dktX1_copy_2
def dkwX1_copy_0 : List UInt8 := [42, 21, 4, 182, 0, 197, 58, 5, 42, 27, 28, 29, 182, 1, 95, 58, 6, 25, 6, 184, 1, 87, 42]
abbrev dktX1_copy_0 : List UInt8 := dkwX1_copy_0 ++ dktX1_copy_1
theorem dksX1_copy_0 : cX1_copy.data.toList.drop 0 = dktX1_copy_0 := by decide +kernel
theorem dksX1_copy_1 : cX1_copy.data.toList.drop 23 = dktX1_copy_1 := dk_seg dksX1_copy_0 23 rfl rfl
theorem dksX1_copy_2 : cX1_copy.data.toList.drop 46 = dktX1_copy_2 := dk_seg dksX1_copy_1 23 rfl rfl
theorem dksX1_copy_3 : cX1_copy.data.toList.drop 69 = dktX1_copy_3 := dk_seg dksX1_copy_2 23 rfl rfl
theorem dX1_copy_0 : decode cX1_copy 0 = .ok (.aload_n 0, 1) := dk_42 (dk_at dksX1_copy_0 0 rfl rfl)
theorem dX1_copy_1 : decode cX1_copy 1 = .ok (.iload 4, 2) := dk_21 4 (dk_at dksX1_copy_0 1 rfl rfl)
theorem dX1_copy_3 : decode cX1_copy 3 = .ok (.invokevirtual 197, 3) := dk_182 0 197 (dk_at dksX1_copy_0 3 rfl rfl)
theorem dX1_copy_6 : decode cX1_copy 6 = .ok (.astore 5, 2) := dk_58 5 (dk_at dksX1_copy_0 6 rfl rfl)
theorem dX1_copy_8 : decode cX1_copy 8 = .ok (.aload_n 0, 1) := dk_42 (dk_at dksX1_copy_0 8 rfl rfl)
theorem dX1_copy_9 : decode cX1_copy 9 = .ok (.iload_n 1, 1) := dk_27 (dk_at dksX1_copy_0 9 rfl rfl)
theorem dX1_copy_10 : decode cX1_copy 10 = .ok (.iload_n 2, 1) := dk_28 (dk_at dksX1_copy_0 10 rfl rfl)
theorem dX1_copy_11 : decode cX1_copy 11 = .ok (.iload_n 3, 1) := dk_29 (dk_at dksX1_copy_0 11 rfl rfl)
theorem dX1_copy_12 : decode cX1_copy 12 = .ok (.invokevirtual 351, 3) := dk_182 1 95 (dk_at dksX1_copy_0 12 rfl rfl)
theorem dX1_copy_15 : decode cX1_copy 15 = .ok (.astore 6, 2) := dk_58 6 (dk_at dksX1_copy_0 15 rfl rfl)
theorem dX1_copy_17 : decode cX1_copy 17 = .ok (.aload 6, 2) := dk_25 6 (dk_at dksX1_copy_0 17 rfl rfl)
theorem dX1_copy_19 : decode cX1_copy 19 = .ok (.invokestatic 343, 3) := dk_184 1 87 (dk_at dksX1_copy_0 19 rfl rfl)
theorem dX1_copy_22 : decode cX1_copy 22 = .ok (.aload_n 0, 1) := dk_42 (dk_at dksX1_copy_0 22 rfl rfl)
theorem dX1_copy_23 : decode cX1_copy 23 = .ok (.aload 6, 2) := dk_25 6 (dk_at dksX1_copy_1 0 rfl rfl)
theorem dX1_copy_25 : decode cX1_copy 25 = .ok (.iload_n 2, 1) := dk_28 (dk_at dksX1_copy_1 2 rfl rfl)
theorem dX1_copy_26 : decode cX1_copy 26 = .ok (.iload_n 3, 1) := dk_29 (dk_at dksX1_copy_1 3 rfl rfl)
theorem dX1_copy_27 : decode cX1_copy 27 = .ok (.iload 4, 2) := dk_21 4 (dk_at dksX1_copy_1 4 rfl rfl)
theorem dX1_copy_29 : decode cX1_copy 29 = .ok (.invokevirtual 396, 3) := dk_182 1 140 (dk_at dksX1_copy_1 6 rfl rfl)
theorem dX1_copy_32 : decode cX1_copy 32 = .ok (.aload_n 0, 1) := dk_42 (dk_at dksX1_copy_1 9 rfl rfl)
theorem dX1_copy_33 : decode cX1_copy 33 = .ok (.iload_n 1, 1) := dk_27 (dk_at dksX1_copy_1 10 rfl rfl)
theorem dX1_copy_34 : decode cX1_copy 34 = .ok (.invokevirtual 336, 3) := dk_182 1 80 (dk_at dksX1_copy_1 11 rfl rfl)
theorem dX1_copy_37 : decode cX1_copy 37 = .ok (.astore 7, 2) := dk_58 7 (dk_at dksX1_copy_1 14 rfl rfl)
theorem dX1_copy_39 : decode cX1_copy 39 = .ok (.aload_n 0, 1) := dk_42 (dk_at dksX1_copy_1 16 rfl rfl)
theorem dX1_copy_40 : decode cX1_copy 40 = .ok (.getfield 44, 3) := dk_180 0 44 (dk_at dksX1_copy_1 17 rfl rfl)
theorem dX1_copy_43 : decode cX1_copy 43 = .ok (.aload_n 0, 1) := dk_42 (dk_at dksX1_copy_1 20 rfl rfl)
theorem dX1_copy_44 : decode cX1_copy 44 = .ok (.aload 7, 2) := dk_25 7 (dk_at dksX1_copy_1 21 rfl rfl)
theorem dX1_copy_46 : decode cX1_copy 46 = .ok (.invokevirtual 355, 3) := dk_182 1 99 (dk_at dksX1_copy_2 0 rfl rfl)
theorem dX1_copy_49 : decode cX1_copy 49 = .ok (.aload_n 0, 1) := dk_42 (dk_at dksX1_copy_2 3 rfl rfl)
theorem dX1_copy_50 : decode cX1_copy 50 = .ok (.getfield 44, 3) := dk_180 0 44 (dk_at dksX1_copy_2 4 rfl rfl)
theorem dX1_copy_53 : decode cX1_copy 53 = .ok (.aload 7, 2) := dk_25 7 (dk_at dksX1_copy_2 7 rfl rfl)
theorem dX1_copy_55 : decode cX1_copy 55 = .ok (.iload_n 2, 1) := dk_28 (dk_at dksX1_copy_2 9 rfl rfl)
theorem dX1_copy_56 : decode cX1_copy 56 = .ok (.iload_n 3, 1) := dk_29 (dk_at dksX1_copy_2 10 rfl rfl)
theorem dX1_copy_57 : decode cX1_copy 57 = .ok (.invokevirtual 359, 3) := dk_182 1 103 (dk_at dksX1_copy_2 11 rfl rfl)
theorem dX1_copy_60 : decode cX1_copy 60 = .ok (.aload_n 0, 1) := dk_42 (dk_at dksX1_copy_2 14 rfl rfl)
theorem dX1_copy_61 : decode cX1_copy 61 = .ok (.getfield 44, 3) := dk_180 0 44 (dk_at dksX1_copy_2 15 rfl rfl)
theorem dX1_copy_64 : decode cX1_copy 64 = .ok (.getfield 173, 3) := dk_180 0 173 (dk_at dksX1_copy_2 18 rfl rfl)
theorem dX1_copy_67 : decode cX1_copy 67 = .ok (.iload 4, 2) := dk_21 4 (dk_at dksX1_copy_2 21 rfl rfl)
theorem dX1_copy_69 : decode cX1_copy 69 = .ok (.invokevirtual 186, 3) := dk_182 0 186 (dk_at dksX1_copy_3 0 rfl rfl)
theorem dX1_copy_72 : decode cX1_copy 72 = .ok (.checkcast 190, 3) := dk_192 0 190 (dk_at dksX1_copy_3 3 rfl rfl)
theorem dX1_copy_75 : decode cX1_copy 75 = .ok (.invokevirtual 400, 3) := dk_182 1 144 (dk_at dksX1_copy_3 6 rfl rfl)
theorem dX1_copy_78 : decode cX1_copy 78 = .ok (.istore 8, 2) := dk_54 8 (dk_at dksX1_copy_3 9 rfl rfl)
theorem dX1_copy_80 : decode cX1_copy 80 = .ok (.aload_n 0, 1) := dk_42 (dk_at dksX1_copy_3 11 rfl rfl)
theorem dX1_copy_81 : decode cX1_copy 81 = .ok (.iload_n 1, 1) := dk_27 (dk_at dksX1_copy_3 12 rfl rfl)
theorem dX1_copy_82 : decode cX1_copy 82 = .ok (.iconst 1, 1) := dk_4 (dk_at dksX1_copy_3 13 rfl rfl)
theorem dX1_copy_83 : decode cX1_copy 83 = .ok (.invokevirtual 347, 3) := dk_182 1 91 (dk_at dksX1_copy_3 14 rfl rfl)
theorem dX1_copy_86 : decode cX1_copy 86 = .ok (.istore 9, 2) := dk_54 9 (dk_at dksX1_copy_3 17 rfl rfl)
theorem dX1_copy_88 : decode cX1_copy 88 = .ok (.iload 8, 2) := dk_21 8 (dk_at dksX1_copy_3 19 rfl rfl)
theorem dX1_copy_90 : decode cX1_copy 90 = .ok (.ireturn, 1) := dk_172 (dk_at dksX1_copy_3 21 rfl rfl)
abbrev cX1_requireRoom : ByteArray := prog_1_method_73_code
def yX1_requireRoom : MethodName := ⟨RX1, "requireRoom", "(LMailSessions$Session;III)V"⟩
def dkwX1_requireRoom_3 : List UInt8 := [167, 0, 4, 3, 184, 0, 86, 177]
abbrev dktX1_requireRoom_3 : List UInt8 := dkwX1_requireRoom_3 ++ []
def dkwX1_requireRoom_2 : List UInt8 := [192, 0, 190, 180, 0, 203, 182, 0, 176, 21, 5, 96, 42, 180, 0, 44, 180, 0, 180, 163, 0, 7, 4]
abbrev dktX1_requireRoom_2 : List UInt8 := dkwX1_requireRoom_2 ++ dktX1_requireRoom_3
def dkwX1_requireRoom_1 : List UInt8 := [182, 1, 3, 96, 54, 5, 21, 5, 153, 0, 37, 42, 180, 0, 44, 180, 0, 173, 21, 4, 182, 0, 186]
abbrev dktX1_requireRoom_1 : List UInt8 := dkwX1_requireRoom_1 ++ dktX1_requireRoom_2
def dkwX1_requireRoom_0 : List UInt8 := [29, 28, 100, 4, 96, 42, 180, 0, 44, 43, 29, 182, 1, 3, 100, 42, 180, 0, 44, 43, 28, 4, 100]
abbrev dktX1_requireRoom_0 : List UInt8 := dkwX1_requireRoom_0 ++ dktX1_requireRoom_1
theorem dksX1_requireRoom_0 : cX1_requireRoom.data.toList.drop 0 = dktX1_requireRoom_0 := by decide +kernel
theorem dksX1_requireRoom_1 : cX1_requireRoom.data.toList.drop 23 = dktX1_requireRoom_1 := dk_seg dksX1_requireRoom_0 23 rfl rfl
theorem dksX1_requireRoom_2 : cX1_requireRoom.data.toList.drop 46 = dktX1_requireRoom_2 := dk_seg dksX1_requireRoom_1 23 rfl rfl
theorem dksX1_requireRoom_3 : cX1_requireRoom.data.toList.drop 69 = dktX1_requireRoom_3 := dk_seg dksX1_requireRoom_2 23 rfl rfl
theorem dX1_requireRoom_0 : decode cX1_requireRoom 0 = .ok (.iload_n 3, 1) := dk_29 (dk_at dksX1_requireRoom_0 0 rfl rfl)
theorem dX1_requireRoom_1 : decode cX1_requireRoom 1 = .ok (.iload_n 2, 1) := dk_28 (dk_at dksX1_requireRoom_0 1 rfl rfl)
theorem dX1_requireRoom_2 : decode cX1_requireRoom 2 = .ok (.isub, 1) := dk_100 (dk_at dksX1_requireRoom_0 2 rfl rfl)
theorem dX1_requireRoom_3 : decode cX1_requireRoom 3 = .ok (.iconst 1, 1) := dk_4 (dk_at dksX1_requireRoom_0 3 rfl rfl)
theorem dX1_requireRoom_4 : decode cX1_requireRoom 4 = .ok (.iadd, 1) := dk_96 (dk_at dksX1_requireRoom_0 4 rfl rfl)
theorem dX1_requireRoom_5 : decode cX1_requireRoom 5 = .ok (.aload_n 0, 1) := dk_42 (dk_at dksX1_requireRoom_0 5 rfl rfl)
theorem dX1_requireRoom_6 : decode cX1_requireRoom 6 = .ok (.getfield 44, 3) := dk_180 0 44 (dk_at dksX1_requireRoom_0 6 rfl rfl)
theorem dX1_requireRoom_9 : decode cX1_requireRoom 9 = .ok (.aload_n 1, 1) := dk_43 (dk_at dksX1_requireRoom_0 9 rfl rfl)
theorem dX1_requireRoom_10 : decode cX1_requireRoom 10 = .ok (.iload_n 3, 1) := dk_29 (dk_at dksX1_requireRoom_0 10 rfl rfl)
theorem dX1_requireRoom_11 : decode cX1_requireRoom 11 = .ok (.invokevirtual 259, 3) := dk_182 1 3 (dk_at dksX1_requireRoom_0 11 rfl rfl)
theorem dX1_requireRoom_14 : decode cX1_requireRoom 14 = .ok (.isub, 1) := dk_100 (dk_at dksX1_requireRoom_0 14 rfl rfl)
theorem dX1_requireRoom_15 : decode cX1_requireRoom 15 = .ok (.aload_n 0, 1) := dk_42 (dk_at dksX1_requireRoom_0 15 rfl rfl)
theorem dX1_requireRoom_16 : decode cX1_requireRoom 16 = .ok (.getfield 44, 3) := dk_180 0 44 (dk_at dksX1_requireRoom_0 16 rfl rfl)
theorem dX1_requireRoom_19 : decode cX1_requireRoom 19 = .ok (.aload_n 1, 1) := dk_43 (dk_at dksX1_requireRoom_0 19 rfl rfl)
theorem dX1_requireRoom_20 : decode cX1_requireRoom 20 = .ok (.iload_n 2, 1) := dk_28 (dk_at dksX1_requireRoom_0 20 rfl rfl)
theorem dX1_requireRoom_21 : decode cX1_requireRoom 21 = .ok (.iconst 1, 1) := dk_4 (dk_at dksX1_requireRoom_0 21 rfl rfl)
theorem dX1_requireRoom_22 : decode cX1_requireRoom 22 = .ok (.isub, 1) := dk_100 (dk_at dksX1_requireRoom_0 22 rfl rfl)
theorem dX1_requireRoom_23 : decode cX1_requireRoom 23 = .ok (.invokevirtual 259, 3) := dk_182 1 3 (dk_at dksX1_requireRoom_1 0 rfl rfl)
theorem dX1_requireRoom_26 : decode cX1_requireRoom 26 = .ok (.iadd, 1) := dk_96 (dk_at dksX1_requireRoom_1 3 rfl rfl)
theorem dX1_requireRoom_27 : decode cX1_requireRoom 27 = .ok (.istore 5, 2) := dk_54 5 (dk_at dksX1_requireRoom_1 4 rfl rfl)
theorem dX1_requireRoom_29 : decode cX1_requireRoom 29 = .ok (.iload 5, 2) := dk_21 5 (dk_at dksX1_requireRoom_1 6 rfl rfl)
theorem dX1_requireRoom_31 : decode cX1_requireRoom 31 = .ok (.ifCond .eq 37, 3) := dk_153 0 37 (dk_at dksX1_requireRoom_1 8 rfl rfl)
theorem dX1_requireRoom_34 : decode cX1_requireRoom 34 = .ok (.aload_n 0, 1) := dk_42 (dk_at dksX1_requireRoom_1 11 rfl rfl)
theorem dX1_requireRoom_35 : decode cX1_requireRoom 35 = .ok (.getfield 44, 3) := dk_180 0 44 (dk_at dksX1_requireRoom_1 12 rfl rfl)
theorem dX1_requireRoom_38 : decode cX1_requireRoom 38 = .ok (.getfield 173, 3) := dk_180 0 173 (dk_at dksX1_requireRoom_1 15 rfl rfl)
theorem dX1_requireRoom_41 : decode cX1_requireRoom 41 = .ok (.iload 4, 2) := dk_21 4 (dk_at dksX1_requireRoom_1 18 rfl rfl)
theorem dX1_requireRoom_43 : decode cX1_requireRoom 43 = .ok (.invokevirtual 186, 3) := dk_182 0 186 (dk_at dksX1_requireRoom_1 20 rfl rfl)
theorem dX1_requireRoom_46 : decode cX1_requireRoom 46 = .ok (.checkcast 190, 3) := dk_192 0 190 (dk_at dksX1_requireRoom_2 0 rfl rfl)
theorem dX1_requireRoom_49 : decode cX1_requireRoom 49 = .ok (.getfield 203, 3) := dk_180 0 203 (dk_at dksX1_requireRoom_2 3 rfl rfl)
theorem dX1_requireRoom_52 : decode cX1_requireRoom 52 = .ok (.invokevirtual 176, 3) := dk_182 0 176 (dk_at dksX1_requireRoom_2 6 rfl rfl)
theorem dX1_requireRoom_55 : decode cX1_requireRoom 55 = .ok (.iload 5, 2) := dk_21 5 (dk_at dksX1_requireRoom_2 9 rfl rfl)
theorem dX1_requireRoom_57 : decode cX1_requireRoom 57 = .ok (.iadd, 1) := dk_96 (dk_at dksX1_requireRoom_2 11 rfl rfl)
theorem dX1_requireRoom_58 : decode cX1_requireRoom 58 = .ok (.aload_n 0, 1) := dk_42 (dk_at dksX1_requireRoom_2 12 rfl rfl)
theorem dX1_requireRoom_59 : decode cX1_requireRoom 59 = .ok (.getfield 44, 3) := dk_180 0 44 (dk_at dksX1_requireRoom_2 13 rfl rfl)
theorem dX1_requireRoom_62 : decode cX1_requireRoom 62 = .ok (.getfield 180, 3) := dk_180 0 180 (dk_at dksX1_requireRoom_2 16 rfl rfl)
theorem dX1_requireRoom_65 : decode cX1_requireRoom 65 = .ok (.if_icmp .gt 7, 3) := dk_163 0 7 (dk_at dksX1_requireRoom_2 19 rfl rfl)
theorem dX1_requireRoom_68 : decode cX1_requireRoom 68 = .ok (.iconst 1, 1) := dk_4 (dk_at dksX1_requireRoom_2 22 rfl rfl)
theorem dX1_requireRoom_69 : decode cX1_requireRoom 69 = .ok (.goto 4, 3) := dk_167 0 4 (dk_at dksX1_requireRoom_3 0 rfl rfl)
theorem dX1_requireRoom_72 : decode cX1_requireRoom 72 = .ok (.iconst 0, 1) := dk_3 (dk_at dksX1_requireRoom_3 3 rfl rfl)
theorem dX1_requireRoom_73 : decode cX1_requireRoom 73 = .ok (.invokestatic 86, 3) := dk_184 0 86 (dk_at dksX1_requireRoom_3 4 rfl rfl)
theorem dX1_requireRoom_76 : decode cX1_requireRoom 76 = .ok (.return_, 1) := dk_177 (dk_at dksX1_requireRoom_3 7 rfl rfl)
abbrev cX1_move : ByteArray := prog_1_method_75_code
def yX1_move : MethodName := ⟨RX1, "move", "(IIII)I"⟩
def dkwX1_move_4 : List UInt8 := [54, 9, 42, 27, 4, 182, 1, 91, 54, 10, 21, 9, 172]
abbrev dktX1_move_4 : List UInt8 := dkwX1_move_4 ++ []
def dkwX1_move_3 : List UInt8 := [21, 4, 182, 0, 186, 192, 0, 190, 182, 1, 144, 54, 9, 42, 25, 7, 182, 1, 99, 25, 8, 182, 1, 130]
abbrev dktX1_move_3 : List UInt8 := dkwX1_move_3 ++ dktX1_move_4
def dkwX1_move_2 : List UInt8 := [182, 1, 103, 58, 8, 42, 180, 0, 44, 42, 25, 7, 182, 1, 99, 25, 8, 42, 180, 0, 44, 180, 0, 173]
abbrev dktX1_move_2 : List UInt8 := dkwX1_move_2 ++ dktX1_move_3
def dkwX1_move_1 : List UInt8 := [25, 6, 28, 29, 21, 4, 182, 1, 140, 42, 27, 182, 1, 80, 58, 7, 42, 180, 0, 44, 25, 7, 28, 29]
abbrev dktX1_move_1 : List UInt8 := dkwX1_move_1 ++ dktX1_move_2
def dkwX1_move_0 : List UInt8 := [42, 21, 4, 182, 0, 197, 58, 5, 42, 27, 28, 29, 182, 1, 95, 58, 6, 25, 6, 184, 1, 119, 42]
abbrev dktX1_move_0 : List UInt8 := dkwX1_move_0 ++ dktX1_move_1
theorem dksX1_move_0 : cX1_move.data.toList.drop 0 = dktX1_move_0 := by decide +kernel
theorem dksX1_move_1 : cX1_move.data.toList.drop 23 = dktX1_move_1 := dk_seg dksX1_move_0 23 rfl rfl
theorem dksX1_move_2 : cX1_move.data.toList.drop 47 = dktX1_move_2 := dk_seg dksX1_move_1 24 rfl rfl
theorem dksX1_move_3 : cX1_move.data.toList.drop 71 = dktX1_move_3 := dk_seg dksX1_move_2 24 rfl rfl
theorem dksX1_move_4 : cX1_move.data.toList.drop 95 = dktX1_move_4 := dk_seg dksX1_move_3 24 rfl rfl
theorem dX1_move_0 : decode cX1_move 0 = .ok (.aload_n 0, 1) := dk_42 (dk_at dksX1_move_0 0 rfl rfl)
theorem dX1_move_1 : decode cX1_move 1 = .ok (.iload 4, 2) := dk_21 4 (dk_at dksX1_move_0 1 rfl rfl)
theorem dX1_move_3 : decode cX1_move 3 = .ok (.invokevirtual 197, 3) := dk_182 0 197 (dk_at dksX1_move_0 3 rfl rfl)
theorem dX1_move_6 : decode cX1_move 6 = .ok (.astore 5, 2) := dk_58 5 (dk_at dksX1_move_0 6 rfl rfl)
theorem dX1_move_8 : decode cX1_move 8 = .ok (.aload_n 0, 1) := dk_42 (dk_at dksX1_move_0 8 rfl rfl)
theorem dX1_move_9 : decode cX1_move 9 = .ok (.iload_n 1, 1) := dk_27 (dk_at dksX1_move_0 9 rfl rfl)
theorem dX1_move_10 : decode cX1_move 10 = .ok (.iload_n 2, 1) := dk_28 (dk_at dksX1_move_0 10 rfl rfl)
theorem dX1_move_11 : decode cX1_move 11 = .ok (.iload_n 3, 1) := dk_29 (dk_at dksX1_move_0 11 rfl rfl)
theorem dX1_move_12 : decode cX1_move 12 = .ok (.invokevirtual 351, 3) := dk_182 1 95 (dk_at dksX1_move_0 12 rfl rfl)
theorem dX1_move_15 : decode cX1_move 15 = .ok (.astore 6, 2) := dk_58 6 (dk_at dksX1_move_0 15 rfl rfl)
theorem dX1_move_17 : decode cX1_move 17 = .ok (.aload 6, 2) := dk_25 6 (dk_at dksX1_move_0 17 rfl rfl)
theorem dX1_move_19 : decode cX1_move 19 = .ok (.invokestatic 375, 3) := dk_184 1 119 (dk_at dksX1_move_0 19 rfl rfl)
theorem dX1_move_22 : decode cX1_move 22 = .ok (.aload_n 0, 1) := dk_42 (dk_at dksX1_move_0 22 rfl rfl)
theorem dX1_move_23 : decode cX1_move 23 = .ok (.aload 6, 2) := dk_25 6 (dk_at dksX1_move_1 0 rfl rfl)
theorem dX1_move_25 : decode cX1_move 25 = .ok (.iload_n 2, 1) := dk_28 (dk_at dksX1_move_1 2 rfl rfl)
theorem dX1_move_26 : decode cX1_move 26 = .ok (.iload_n 3, 1) := dk_29 (dk_at dksX1_move_1 3 rfl rfl)
theorem dX1_move_27 : decode cX1_move 27 = .ok (.iload 4, 2) := dk_21 4 (dk_at dksX1_move_1 4 rfl rfl)
theorem dX1_move_29 : decode cX1_move 29 = .ok (.invokevirtual 396, 3) := dk_182 1 140 (dk_at dksX1_move_1 6 rfl rfl)
theorem dX1_move_32 : decode cX1_move 32 = .ok (.aload_n 0, 1) := dk_42 (dk_at dksX1_move_1 9 rfl rfl)
theorem dX1_move_33 : decode cX1_move 33 = .ok (.iload_n 1, 1) := dk_27 (dk_at dksX1_move_1 10 rfl rfl)
theorem dX1_move_34 : decode cX1_move 34 = .ok (.invokevirtual 336, 3) := dk_182 1 80 (dk_at dksX1_move_1 11 rfl rfl)
theorem dX1_move_37 : decode cX1_move 37 = .ok (.astore 7, 2) := dk_58 7 (dk_at dksX1_move_1 14 rfl rfl)
theorem dX1_move_39 : decode cX1_move 39 = .ok (.aload_n 0, 1) := dk_42 (dk_at dksX1_move_1 16 rfl rfl)
theorem dX1_move_40 : decode cX1_move 40 = .ok (.getfield 44, 3) := dk_180 0 44 (dk_at dksX1_move_1 17 rfl rfl)
theorem dX1_move_43 : decode cX1_move 43 = .ok (.aload 7, 2) := dk_25 7 (dk_at dksX1_move_1 20 rfl rfl)
theorem dX1_move_45 : decode cX1_move 45 = .ok (.iload_n 2, 1) := dk_28 (dk_at dksX1_move_1 22 rfl rfl)
theorem dX1_move_46 : decode cX1_move 46 = .ok (.iload_n 3, 1) := dk_29 (dk_at dksX1_move_1 23 rfl rfl)
theorem dX1_move_47 : decode cX1_move 47 = .ok (.invokevirtual 359, 3) := dk_182 1 103 (dk_at dksX1_move_2 0 rfl rfl)
theorem dX1_move_50 : decode cX1_move 50 = .ok (.astore 8, 2) := dk_58 8 (dk_at dksX1_move_2 3 rfl rfl)
theorem dX1_move_52 : decode cX1_move 52 = .ok (.aload_n 0, 1) := dk_42 (dk_at dksX1_move_2 5 rfl rfl)
theorem dX1_move_53 : decode cX1_move 53 = .ok (.getfield 44, 3) := dk_180 0 44 (dk_at dksX1_move_2 6 rfl rfl)
theorem dX1_move_56 : decode cX1_move 56 = .ok (.aload_n 0, 1) := dk_42 (dk_at dksX1_move_2 9 rfl rfl)
theorem dX1_move_57 : decode cX1_move 57 = .ok (.aload 7, 2) := dk_25 7 (dk_at dksX1_move_2 10 rfl rfl)
theorem dX1_move_59 : decode cX1_move 59 = .ok (.invokevirtual 355, 3) := dk_182 1 99 (dk_at dksX1_move_2 12 rfl rfl)
theorem dX1_move_62 : decode cX1_move 62 = .ok (.aload 8, 2) := dk_25 8 (dk_at dksX1_move_2 15 rfl rfl)
theorem dX1_move_64 : decode cX1_move 64 = .ok (.aload_n 0, 1) := dk_42 (dk_at dksX1_move_2 17 rfl rfl)
theorem dX1_move_65 : decode cX1_move 65 = .ok (.getfield 44, 3) := dk_180 0 44 (dk_at dksX1_move_2 18 rfl rfl)
theorem dX1_move_68 : decode cX1_move 68 = .ok (.getfield 173, 3) := dk_180 0 173 (dk_at dksX1_move_2 21 rfl rfl)
theorem dX1_move_71 : decode cX1_move 71 = .ok (.iload 4, 2) := dk_21 4 (dk_at dksX1_move_3 0 rfl rfl)
theorem dX1_move_73 : decode cX1_move 73 = .ok (.invokevirtual 186, 3) := dk_182 0 186 (dk_at dksX1_move_3 2 rfl rfl)
theorem dX1_move_76 : decode cX1_move 76 = .ok (.checkcast 190, 3) := dk_192 0 190 (dk_at dksX1_move_3 5 rfl rfl)
theorem dX1_move_79 : decode cX1_move 79 = .ok (.invokevirtual 400, 3) := dk_182 1 144 (dk_at dksX1_move_3 8 rfl rfl)
theorem dX1_move_82 : decode cX1_move 82 = .ok (.istore 9, 2) := dk_54 9 (dk_at dksX1_move_3 11 rfl rfl)
theorem dX1_move_84 : decode cX1_move 84 = .ok (.aload_n 0, 1) := dk_42 (dk_at dksX1_move_3 13 rfl rfl)
theorem dX1_move_85 : decode cX1_move 85 = .ok (.aload 7, 2) := dk_25 7 (dk_at dksX1_move_3 14 rfl rfl)
theorem dX1_move_87 : decode cX1_move 87 = .ok (.invokevirtual 355, 3) := dk_182 1 99 (dk_at dksX1_move_3 16 rfl rfl)
theorem dX1_move_90 : decode cX1_move 90 = .ok (.aload 8, 2) := dk_25 8 (dk_at dksX1_move_3 19 rfl rfl)
theorem dX1_move_92 : decode cX1_move 92 = .ok (.invokevirtual 386, 3) := dk_182 1 130 (dk_at dksX1_move_3 21 rfl rfl)
theorem dX1_move_95 : decode cX1_move 95 = .ok (.istore 9, 2) := dk_54 9 (dk_at dksX1_move_4 0 rfl rfl)
theorem dX1_move_97 : decode cX1_move 97 = .ok (.aload_n 0, 1) := dk_42 (dk_at dksX1_move_4 2 rfl rfl)
theorem dX1_move_98 : decode cX1_move 98 = .ok (.iload_n 1, 1) := dk_27 (dk_at dksX1_move_4 3 rfl rfl)
theorem dX1_move_99 : decode cX1_move 99 = .ok (.iconst 1, 1) := dk_4 (dk_at dksX1_move_4 4 rfl rfl)
theorem dX1_move_100 : decode cX1_move 100 = .ok (.invokevirtual 347, 3) := dk_182 1 91 (dk_at dksX1_move_4 5 rfl rfl)
theorem dX1_move_103 : decode cX1_move 103 = .ok (.istore 10, 2) := dk_54 10 (dk_at dksX1_move_4 8 rfl rfl)
theorem dX1_move_105 : decode cX1_move 105 = .ok (.iload 9, 2) := dk_21 9 (dk_at dksX1_move_4 10 rfl rfl)
theorem dX1_move_107 : decode cX1_move 107 = .ok (.ireturn, 1) := dk_172 (dk_at dksX1_move_4 12 rfl rfl)
abbrev cX1_close : ByteArray := prog_1_method_76_code
def yX1_close : MethodName := ⟨RX1, "close", "(I)I"⟩
def dkwX1_close_2 : List UInt8 := [42, 180, 0, 64, 182, 1, 76, 29, 172]
abbrev dktX1_close_2 : List UInt8 := dkwX1_close_2 ++ []
def dkwX1_close_1 : List UInt8 := [167, 0, 15, 42, 44, 182, 1, 99, 6, 184, 0, 211, 182, 1, 130, 62, 44, 182, 1, 148, 42, 180, 0, 44]
abbrev dktX1_close_1 : List UInt8 := dkwX1_close_1 ++ dktX1_close_2
def dkwX1_close_0 : List UInt8 := [42, 27, 182, 0, 240, 184, 1, 87, 42, 27, 182, 1, 80, 77, 44, 180, 0, 246, 153, 0, 7, 3]
abbrev dktX1_close_0 : List UInt8 := dkwX1_close_0 ++ dktX1_close_1
theorem dksX1_close_0 : cX1_close.data.toList.drop 0 = dktX1_close_0 := by decide +kernel
theorem dksX1_close_1 : cX1_close.data.toList.drop 22 = dktX1_close_1 := dk_seg dksX1_close_0 22 rfl rfl
theorem dksX1_close_2 : cX1_close.data.toList.drop 46 = dktX1_close_2 := dk_seg dksX1_close_1 24 rfl rfl
theorem dX1_close_0 : decode cX1_close 0 = .ok (.aload_n 0, 1) := dk_42 (dk_at dksX1_close_0 0 rfl rfl)
theorem dX1_close_1 : decode cX1_close 1 = .ok (.iload_n 1, 1) := dk_27 (dk_at dksX1_close_0 1 rfl rfl)
theorem dX1_close_2 : decode cX1_close 2 = .ok (.invokevirtual 240, 3) := dk_182 0 240 (dk_at dksX1_close_0 2 rfl rfl)
theorem dX1_close_5 : decode cX1_close 5 = .ok (.invokestatic 343, 3) := dk_184 1 87 (dk_at dksX1_close_0 5 rfl rfl)
theorem dX1_close_8 : decode cX1_close 8 = .ok (.aload_n 0, 1) := dk_42 (dk_at dksX1_close_0 8 rfl rfl)
theorem dX1_close_9 : decode cX1_close 9 = .ok (.iload_n 1, 1) := dk_27 (dk_at dksX1_close_0 9 rfl rfl)
theorem dX1_close_10 : decode cX1_close 10 = .ok (.invokevirtual 336, 3) := dk_182 1 80 (dk_at dksX1_close_0 10 rfl rfl)
theorem dX1_close_13 : decode cX1_close 13 = .ok (.astore_n 2, 1) := dk_77 (dk_at dksX1_close_0 13 rfl rfl)
theorem dX1_close_14 : decode cX1_close 14 = .ok (.aload_n 2, 1) := dk_44 (dk_at dksX1_close_0 14 rfl rfl)
theorem dX1_close_15 : decode cX1_close 15 = .ok (.getfield 246, 3) := dk_180 0 246 (dk_at dksX1_close_0 15 rfl rfl)
theorem dX1_close_18 : decode cX1_close 18 = .ok (.ifCond .eq 7, 3) := dk_153 0 7 (dk_at dksX1_close_0 18 rfl rfl)
theorem dX1_close_21 : decode cX1_close 21 = .ok (.iconst 0, 1) := dk_3 (dk_at dksX1_close_0 21 rfl rfl)
theorem dX1_close_22 : decode cX1_close 22 = .ok (.goto 15, 3) := dk_167 0 15 (dk_at dksX1_close_1 0 rfl rfl)
theorem dX1_close_25 : decode cX1_close 25 = .ok (.aload_n 0, 1) := dk_42 (dk_at dksX1_close_1 3 rfl rfl)
theorem dX1_close_26 : decode cX1_close 26 = .ok (.aload_n 2, 1) := dk_44 (dk_at dksX1_close_1 4 rfl rfl)
theorem dX1_close_27 : decode cX1_close 27 = .ok (.invokevirtual 355, 3) := dk_182 1 99 (dk_at dksX1_close_1 5 rfl rfl)
theorem dX1_close_30 : decode cX1_close 30 = .ok (.iconst 3, 1) := dk_6 (dk_at dksX1_close_1 8 rfl rfl)
theorem dX1_close_31 : decode cX1_close 31 = .ok (.invokestatic 211, 3) := dk_184 0 211 (dk_at dksX1_close_1 9 rfl rfl)
theorem dX1_close_34 : decode cX1_close 34 = .ok (.invokevirtual 386, 3) := dk_182 1 130 (dk_at dksX1_close_1 12 rfl rfl)
theorem dX1_close_37 : decode cX1_close 37 = .ok (.istore_n 3, 1) := dk_62 (dk_at dksX1_close_1 15 rfl rfl)
theorem dX1_close_38 : decode cX1_close 38 = .ok (.aload_n 2, 1) := dk_44 (dk_at dksX1_close_1 16 rfl rfl)
theorem dX1_close_39 : decode cX1_close 39 = .ok (.invokevirtual 404, 3) := dk_182 1 148 (dk_at dksX1_close_1 17 rfl rfl)
theorem dX1_close_42 : decode cX1_close 42 = .ok (.aload_n 0, 1) := dk_42 (dk_at dksX1_close_1 20 rfl rfl)
theorem dX1_close_43 : decode cX1_close 43 = .ok (.getfield 44, 3) := dk_180 0 44 (dk_at dksX1_close_1 21 rfl rfl)
theorem dX1_close_46 : decode cX1_close 46 = .ok (.aload_n 0, 1) := dk_42 (dk_at dksX1_close_2 0 rfl rfl)
theorem dX1_close_47 : decode cX1_close 47 = .ok (.getfield 64, 3) := dk_180 0 64 (dk_at dksX1_close_2 1 rfl rfl)
theorem dX1_close_50 : decode cX1_close 50 = .ok (.invokevirtual 332, 3) := dk_182 1 76 (dk_at dksX1_close_2 4 rfl rfl)
theorem dX1_close_53 : decode cX1_close 53 = .ok (.iload_n 3, 1) := dk_29 (dk_at dksX1_close_2 7 rfl rfl)
theorem dX1_close_54 : decode cX1_close 54 = .ok (.ireturn, 1) := dk_172 (dk_at dksX1_close_2 8 rfl rfl)
abbrev cX1_deliver : ByteArray := prog_1_method_77_code
def yX1_deliver : MethodName := ⟨RX1, "deliver", "(III)I"⟩
def dkwX1_deliver_4 : List UInt8 := [21, 5, 172]
abbrev dktX1_deliver_4 : List UInt8 := dkwX1_deliver_4 ++ []
def dkwX1_deliver_3 : List UInt8 := [182, 0, 186, 192, 0, 190, 28, 29, 182, 1, 157, 54, 5, 42, 180, 0, 44, 42, 180, 0, 64, 182, 1, 76]
abbrev dktX1_deliver_3 : List UInt8 := dkwX1_deliver_3 ++ dktX1_deliver_4
def dkwX1_deliver_2 : List UInt8 := [182, 1, 153, 154, 0, 7, 4, 167, 0, 4, 3, 184, 0, 86, 42, 182, 1, 69, 180, 0, 173, 27]
abbrev dktX1_deliver_2 : List UInt8 := dkwX1_deliver_2 ++ dktX1_deliver_3
def dkwX1_deliver_1 : List UInt8 := [20, 1, 113, 184, 0, 94, 153, 0, 7, 4, 167, 0, 4, 3, 184, 0, 98, 42, 180, 0, 44, 27]
abbrev dktX1_deliver_1 : List UInt8 := dkwX1_deliver_1 ++ dktX1_deliver_2
def dkwX1_deliver_0 : List UInt8 := [42, 27, 182, 0, 197, 58, 4, 28, 133, 10, 20, 1, 151, 184, 0, 94, 153, 0, 19, 29, 133, 9]
abbrev dktX1_deliver_0 : List UInt8 := dkwX1_deliver_0 ++ dktX1_deliver_1
theorem dksX1_deliver_0 : cX1_deliver.data.toList.drop 0 = dktX1_deliver_0 := by decide +kernel
theorem dksX1_deliver_1 : cX1_deliver.data.toList.drop 22 = dktX1_deliver_1 := dk_seg dksX1_deliver_0 22 rfl rfl
theorem dksX1_deliver_2 : cX1_deliver.data.toList.drop 44 = dktX1_deliver_2 := dk_seg dksX1_deliver_1 22 rfl rfl
theorem dksX1_deliver_3 : cX1_deliver.data.toList.drop 66 = dktX1_deliver_3 := dk_seg dksX1_deliver_2 22 rfl rfl
theorem dksX1_deliver_4 : cX1_deliver.data.toList.drop 90 = dktX1_deliver_4 := dk_seg dksX1_deliver_3 24 rfl rfl
theorem dX1_deliver_0 : decode cX1_deliver 0 = .ok (.aload_n 0, 1) := dk_42 (dk_at dksX1_deliver_0 0 rfl rfl)
theorem dX1_deliver_1 : decode cX1_deliver 1 = .ok (.iload_n 1, 1) := dk_27 (dk_at dksX1_deliver_0 1 rfl rfl)
theorem dX1_deliver_2 : decode cX1_deliver 2 = .ok (.invokevirtual 197, 3) := dk_182 0 197 (dk_at dksX1_deliver_0 2 rfl rfl)
theorem dX1_deliver_5 : decode cX1_deliver 5 = .ok (.astore 4, 2) := dk_58 4 (dk_at dksX1_deliver_0 5 rfl rfl)
theorem dX1_deliver_7 : decode cX1_deliver 7 = .ok (.iload_n 2, 1) := dk_28 (dk_at dksX1_deliver_0 7 rfl rfl)
theorem dX1_deliver_8 : decode cX1_deliver 8 = .ok (.i2l, 1) := dk_133 (dk_at dksX1_deliver_0 8 rfl rfl)
theorem dX1_deliver_9 : decode cX1_deliver 9 = .ok (.lconst 1, 1) := dk_10 (dk_at dksX1_deliver_0 9 rfl rfl)
theorem dX1_deliver_10 : decode cX1_deliver 10 = .ok (.ldc2_w 407, 3) := dk_20 1 151 (dk_at dksX1_deliver_0 10 rfl rfl)
theorem dX1_deliver_13 : decode cX1_deliver 13 = .ok (.invokestatic 94, 3) := dk_184 0 94 (dk_at dksX1_deliver_0 13 rfl rfl)
theorem dX1_deliver_16 : decode cX1_deliver 16 = .ok (.ifCond .eq 19, 3) := dk_153 0 19 (dk_at dksX1_deliver_0 16 rfl rfl)
theorem dX1_deliver_19 : decode cX1_deliver 19 = .ok (.iload_n 3, 1) := dk_29 (dk_at dksX1_deliver_0 19 rfl rfl)
theorem dX1_deliver_20 : decode cX1_deliver 20 = .ok (.i2l, 1) := dk_133 (dk_at dksX1_deliver_0 20 rfl rfl)
theorem dX1_deliver_21 : decode cX1_deliver 21 = .ok (.lconst 0, 1) := dk_9 (dk_at dksX1_deliver_0 21 rfl rfl)
theorem dX1_deliver_22 : decode cX1_deliver 22 = .ok (.ldc2_w 369, 3) := dk_20 1 113 (dk_at dksX1_deliver_1 0 rfl rfl)
theorem dX1_deliver_25 : decode cX1_deliver 25 = .ok (.invokestatic 94, 3) := dk_184 0 94 (dk_at dksX1_deliver_1 3 rfl rfl)
theorem dX1_deliver_28 : decode cX1_deliver 28 = .ok (.ifCond .eq 7, 3) := dk_153 0 7 (dk_at dksX1_deliver_1 6 rfl rfl)
theorem dX1_deliver_31 : decode cX1_deliver 31 = .ok (.iconst 1, 1) := dk_4 (dk_at dksX1_deliver_1 9 rfl rfl)
theorem dX1_deliver_32 : decode cX1_deliver 32 = .ok (.goto 4, 3) := dk_167 0 4 (dk_at dksX1_deliver_1 10 rfl rfl)
theorem dX1_deliver_35 : decode cX1_deliver 35 = .ok (.iconst 0, 1) := dk_3 (dk_at dksX1_deliver_1 13 rfl rfl)
theorem dX1_deliver_36 : decode cX1_deliver 36 = .ok (.invokestatic 98, 3) := dk_184 0 98 (dk_at dksX1_deliver_1 14 rfl rfl)
theorem dX1_deliver_39 : decode cX1_deliver 39 = .ok (.aload_n 0, 1) := dk_42 (dk_at dksX1_deliver_1 17 rfl rfl)
theorem dX1_deliver_40 : decode cX1_deliver 40 = .ok (.getfield 44, 3) := dk_180 0 44 (dk_at dksX1_deliver_1 18 rfl rfl)
theorem dX1_deliver_43 : decode cX1_deliver 43 = .ok (.iload_n 1, 1) := dk_27 (dk_at dksX1_deliver_1 21 rfl rfl)
theorem dX1_deliver_44 : decode cX1_deliver 44 = .ok (.invokevirtual 409, 3) := dk_182 1 153 (dk_at dksX1_deliver_2 0 rfl rfl)
theorem dX1_deliver_47 : decode cX1_deliver 47 = .ok (.ifCond .ne 7, 3) := dk_154 0 7 (dk_at dksX1_deliver_2 3 rfl rfl)
theorem dX1_deliver_50 : decode cX1_deliver 50 = .ok (.iconst 1, 1) := dk_4 (dk_at dksX1_deliver_2 6 rfl rfl)
theorem dX1_deliver_51 : decode cX1_deliver 51 = .ok (.goto 4, 3) := dk_167 0 4 (dk_at dksX1_deliver_2 7 rfl rfl)
theorem dX1_deliver_54 : decode cX1_deliver 54 = .ok (.iconst 0, 1) := dk_3 (dk_at dksX1_deliver_2 10 rfl rfl)
theorem dX1_deliver_55 : decode cX1_deliver 55 = .ok (.invokestatic 86, 3) := dk_184 0 86 (dk_at dksX1_deliver_2 11 rfl rfl)
theorem dX1_deliver_58 : decode cX1_deliver 58 = .ok (.aload_n 0, 1) := dk_42 (dk_at dksX1_deliver_2 14 rfl rfl)
theorem dX1_deliver_59 : decode cX1_deliver 59 = .ok (.invokevirtual 325, 3) := dk_182 1 69 (dk_at dksX1_deliver_2 15 rfl rfl)
theorem dX1_deliver_62 : decode cX1_deliver 62 = .ok (.getfield 173, 3) := dk_180 0 173 (dk_at dksX1_deliver_2 18 rfl rfl)
theorem dX1_deliver_65 : decode cX1_deliver 65 = .ok (.iload_n 1, 1) := dk_27 (dk_at dksX1_deliver_2 21 rfl rfl)
theorem dX1_deliver_66 : decode cX1_deliver 66 = .ok (.invokevirtual 186, 3) := dk_182 0 186 (dk_at dksX1_deliver_3 0 rfl rfl)
theorem dX1_deliver_69 : decode cX1_deliver 69 = .ok (.checkcast 190, 3) := dk_192 0 190 (dk_at dksX1_deliver_3 3 rfl rfl)
theorem dX1_deliver_72 : decode cX1_deliver 72 = .ok (.iload_n 2, 1) := dk_28 (dk_at dksX1_deliver_3 6 rfl rfl)
theorem dX1_deliver_73 : decode cX1_deliver 73 = .ok (.iload_n 3, 1) := dk_29 (dk_at dksX1_deliver_3 7 rfl rfl)
theorem dX1_deliver_74 : decode cX1_deliver 74 = .ok (.invokevirtual 413, 3) := dk_182 1 157 (dk_at dksX1_deliver_3 8 rfl rfl)
theorem dX1_deliver_77 : decode cX1_deliver 77 = .ok (.istore 5, 2) := dk_54 5 (dk_at dksX1_deliver_3 11 rfl rfl)
theorem dX1_deliver_79 : decode cX1_deliver 79 = .ok (.aload_n 0, 1) := dk_42 (dk_at dksX1_deliver_3 13 rfl rfl)
theorem dX1_deliver_80 : decode cX1_deliver 80 = .ok (.getfield 44, 3) := dk_180 0 44 (dk_at dksX1_deliver_3 14 rfl rfl)
theorem dX1_deliver_83 : decode cX1_deliver 83 = .ok (.aload_n 0, 1) := dk_42 (dk_at dksX1_deliver_3 17 rfl rfl)
theorem dX1_deliver_84 : decode cX1_deliver 84 = .ok (.getfield 64, 3) := dk_180 0 64 (dk_at dksX1_deliver_3 18 rfl rfl)
theorem dX1_deliver_87 : decode cX1_deliver 87 = .ok (.invokevirtual 332, 3) := dk_182 1 76 (dk_at dksX1_deliver_3 21 rfl rfl)
theorem dX1_deliver_90 : decode cX1_deliver 90 = .ok (.iload 5, 2) := dk_21 5 (dk_at dksX1_deliver_4 0 rfl rfl)
theorem dX1_deliver_92 : decode cX1_deliver 92 = .ok (.ireturn, 1) := dk_172 (dk_at dksX1_deliver_4 2 rfl rfl)
abbrev cX1_setLimit : ByteArray := prog_1_method_78_code
def yX1_setLimit : MethodName := ⟨RX1, "setLimit", "(I)I"⟩
def dkwX1_setLimit_1 : List UInt8 := [27, 181, 0, 180, 28, 172]
abbrev dktX1_setLimit_1 : List UInt8 := dkwX1_setLimit_1 ++ []
def dkwX1_setLimit_0 : List UInt8 := [27, 133, 10, 20, 1, 161, 184, 0, 94, 184, 0, 98, 42, 180, 0, 44, 180, 0, 180, 61, 42, 182, 1, 69]
abbrev dktX1_setLimit_0 : List UInt8 := dkwX1_setLimit_0 ++ dktX1_setLimit_1
theorem dksX1_setLimit_0 : cX1_setLimit.data.toList.drop 0 = dktX1_setLimit_0 := by decide +kernel
theorem dksX1_setLimit_1 : cX1_setLimit.data.toList.drop 24 = dktX1_setLimit_1 := dk_seg dksX1_setLimit_0 24 rfl rfl
theorem dX1_setLimit_0 : decode cX1_setLimit 0 = .ok (.iload_n 1, 1) := dk_27 (dk_at dksX1_setLimit_0 0 rfl rfl)
theorem dX1_setLimit_1 : decode cX1_setLimit 1 = .ok (.i2l, 1) := dk_133 (dk_at dksX1_setLimit_0 1 rfl rfl)
theorem dX1_setLimit_2 : decode cX1_setLimit 2 = .ok (.lconst 1, 1) := dk_10 (dk_at dksX1_setLimit_0 2 rfl rfl)
theorem dX1_setLimit_3 : decode cX1_setLimit 3 = .ok (.ldc2_w 417, 3) := dk_20 1 161 (dk_at dksX1_setLimit_0 3 rfl rfl)
theorem dX1_setLimit_6 : decode cX1_setLimit 6 = .ok (.invokestatic 94, 3) := dk_184 0 94 (dk_at dksX1_setLimit_0 6 rfl rfl)
theorem dX1_setLimit_9 : decode cX1_setLimit 9 = .ok (.invokestatic 98, 3) := dk_184 0 98 (dk_at dksX1_setLimit_0 9 rfl rfl)
theorem dX1_setLimit_12 : decode cX1_setLimit 12 = .ok (.aload_n 0, 1) := dk_42 (dk_at dksX1_setLimit_0 12 rfl rfl)
theorem dX1_setLimit_13 : decode cX1_setLimit 13 = .ok (.getfield 44, 3) := dk_180 0 44 (dk_at dksX1_setLimit_0 13 rfl rfl)
theorem dX1_setLimit_16 : decode cX1_setLimit 16 = .ok (.getfield 180, 3) := dk_180 0 180 (dk_at dksX1_setLimit_0 16 rfl rfl)
theorem dX1_setLimit_19 : decode cX1_setLimit 19 = .ok (.istore_n 2, 1) := dk_61 (dk_at dksX1_setLimit_0 19 rfl rfl)
theorem dX1_setLimit_20 : decode cX1_setLimit 20 = .ok (.aload_n 0, 1) := dk_42 (dk_at dksX1_setLimit_0 20 rfl rfl)
theorem dX1_setLimit_21 : decode cX1_setLimit 21 = .ok (.invokevirtual 325, 3) := dk_182 1 69 (dk_at dksX1_setLimit_0 21 rfl rfl)
theorem dX1_setLimit_24 : decode cX1_setLimit 24 = .ok (.iload_n 1, 1) := dk_27 (dk_at dksX1_setLimit_1 0 rfl rfl)
theorem dX1_setLimit_25 : decode cX1_setLimit 25 = .ok (.putfield 180, 3) := dk_181 0 180 (dk_at dksX1_setLimit_1 1 rfl rfl)
theorem dX1_setLimit_28 : decode cX1_setLimit 28 = .ok (.iload_n 2, 1) := dk_28 (dk_at dksX1_setLimit_1 4 rfl rfl)
theorem dX1_setLimit_29 : decode cX1_setLimit 29 = .ok (.ireturn, 1) := dk_172 (dk_at dksX1_setLimit_1 5 rfl rfl)
abbrev cX1_keep : ByteArray := prog_1_method_80_code
def yX1_keep : MethodName := ⟨RX1, "keep", "(I)I"⟩
def dkwX1_keep_1 : List UInt8 := [180, 0, 44, 182, 0, 142, 172]
abbrev dktX1_keep_1 : List UInt8 := dkwX1_keep_1 ++ []
def dkwX1_keep_0 : List UInt8 := [27, 184, 1, 163, 42, 180, 0, 57, 27, 187, 0, 41, 89, 42, 180, 0, 44, 183, 0, 113, 83, 42]
abbrev dktX1_keep_0 : List UInt8 := dkwX1_keep_0 ++ dktX1_keep_1
theorem dksX1_keep_0 : cX1_keep.data.toList.drop 0 = dktX1_keep_0 := by decide +kernel
theorem dksX1_keep_1 : cX1_keep.data.toList.drop 22 = dktX1_keep_1 := dk_seg dksX1_keep_0 22 rfl rfl
theorem dX1_keep_0 : decode cX1_keep 0 = .ok (.iload_n 1, 1) := dk_27 (dk_at dksX1_keep_0 0 rfl rfl)
theorem dX1_keep_1 : decode cX1_keep 1 = .ok (.invokestatic 419, 3) := dk_184 1 163 (dk_at dksX1_keep_0 1 rfl rfl)
theorem dX1_keep_4 : decode cX1_keep 4 = .ok (.aload_n 0, 1) := dk_42 (dk_at dksX1_keep_0 4 rfl rfl)
theorem dX1_keep_5 : decode cX1_keep 5 = .ok (.getfield 57, 3) := dk_180 0 57 (dk_at dksX1_keep_0 5 rfl rfl)
theorem dX1_keep_8 : decode cX1_keep 8 = .ok (.iload_n 1, 1) := dk_27 (dk_at dksX1_keep_0 8 rfl rfl)
theorem dX1_keep_9 : decode cX1_keep 9 = .ok (.new 41, 3) := dk_187 0 41 (dk_at dksX1_keep_0 9 rfl rfl)
theorem dX1_keep_12 : decode cX1_keep 12 = .ok (.dup, 1) := dk_89 (dk_at dksX1_keep_0 12 rfl rfl)
theorem dX1_keep_13 : decode cX1_keep 13 = .ok (.aload_n 0, 1) := dk_42 (dk_at dksX1_keep_0 13 rfl rfl)
theorem dX1_keep_14 : decode cX1_keep 14 = .ok (.getfield 44, 3) := dk_180 0 44 (dk_at dksX1_keep_0 14 rfl rfl)
theorem dX1_keep_17 : decode cX1_keep 17 = .ok (.invokespecial 113, 3) := dk_183 0 113 (dk_at dksX1_keep_0 17 rfl rfl)
theorem dX1_keep_20 : decode cX1_keep 20 = .ok (.aastore, 1) := dk_83 (dk_at dksX1_keep_0 20 rfl rfl)
theorem dX1_keep_21 : decode cX1_keep 21 = .ok (.aload_n 0, 1) := dk_42 (dk_at dksX1_keep_0 21 rfl rfl)
theorem dX1_keep_22 : decode cX1_keep 22 = .ok (.getfield 44, 3) := dk_180 0 44 (dk_at dksX1_keep_1 0 rfl rfl)
theorem dX1_keep_25 : decode cX1_keep 25 = .ok (.invokevirtual 142, 3) := dk_182 0 142 (dk_at dksX1_keep_1 3 rfl rfl)
theorem dX1_keep_28 : decode cX1_keep 28 = .ok (.ireturn, 1) := dk_172 (dk_at dksX1_keep_1 6 rfl rfl)
abbrev cX1_requireSlot : ByteArray := prog_1_method_79_code
def yX1_requireSlot : MethodName := ⟨RX1, "requireSlot", "(I)V"⟩
def dkwX1_requireSlot_0 : List UInt8 := [26, 133, 9, 10, 184, 0, 94, 184, 0, 183, 177]
abbrev dktX1_requireSlot_0 : List UInt8 := dkwX1_requireSlot_0 ++ []
theorem dksX1_requireSlot_0 : cX1_requireSlot.data.toList.drop 0 = dktX1_requireSlot_0 := by decide +kernel
theorem dX1_requireSlot_0 : decode cX1_requireSlot 0 = .ok (.iload_n 0, 1) := dk_26 (dk_at dksX1_requireSlot_0 0 rfl rfl)
theorem dX1_requireSlot_1 : decode cX1_requireSlot 1 = .ok (.i2l, 1) := dk_133 (dk_at dksX1_requireSlot_0 1 rfl rfl)
theorem dX1_requireSlot_2 : decode cX1_requireSlot 2 = .ok (.lconst 0, 1) := dk_9 (dk_at dksX1_requireSlot_0 2 rfl rfl)
theorem dX1_requireSlot_3 : decode cX1_requireSlot 3 = .ok (.lconst 1, 1) := dk_10 (dk_at dksX1_requireSlot_0 3 rfl rfl)
theorem dX1_requireSlot_4 : decode cX1_requireSlot 4 = .ok (.invokestatic 94, 3) := dk_184 0 94 (dk_at dksX1_requireSlot_0 4 rfl rfl)
theorem dX1_requireSlot_7 : decode cX1_requireSlot 7 = .ok (.invokestatic 183, 3) := dk_184 0 183 (dk_at dksX1_requireSlot_0 7 rfl rfl)
theorem dX1_requireSlot_10 : decode cX1_requireSlot 10 = .ok (.return_, 1) := dk_177 (dk_at dksX1_requireSlot_0 10 rfl rfl)
abbrev cX1_restore : ByteArray := prog_1_method_81_code
def yX1_restore : MethodName := ⟨RX1, "restore", "(I)I"⟩
def dkwX1_restore_1 : List UInt8 := [187, 0, 41, 89, 42, 180, 0, 57, 27, 50, 183, 0, 113, 182, 0, 116, 42, 180, 0, 44, 182, 0, 142, 172]
abbrev dktX1_restore_1 : List UInt8 := dkwX1_restore_1 ++ []
def dkwX1_restore_0 : List UInt8 := [27, 184, 1, 163, 42, 180, 0, 57, 27, 50, 198, 0, 7, 4, 167, 0, 4, 3, 184, 0, 86, 42]
abbrev dktX1_restore_0 : List UInt8 := dkwX1_restore_0 ++ dktX1_restore_1
theorem dksX1_restore_0 : cX1_restore.data.toList.drop 0 = dktX1_restore_0 := by decide +kernel
theorem dksX1_restore_1 : cX1_restore.data.toList.drop 22 = dktX1_restore_1 := dk_seg dksX1_restore_0 22 rfl rfl
theorem dX1_restore_0 : decode cX1_restore 0 = .ok (.iload_n 1, 1) := dk_27 (dk_at dksX1_restore_0 0 rfl rfl)
theorem dX1_restore_1 : decode cX1_restore 1 = .ok (.invokestatic 419, 3) := dk_184 1 163 (dk_at dksX1_restore_0 1 rfl rfl)
theorem dX1_restore_4 : decode cX1_restore 4 = .ok (.aload_n 0, 1) := dk_42 (dk_at dksX1_restore_0 4 rfl rfl)
theorem dX1_restore_5 : decode cX1_restore 5 = .ok (.getfield 57, 3) := dk_180 0 57 (dk_at dksX1_restore_0 5 rfl rfl)
theorem dX1_restore_8 : decode cX1_restore 8 = .ok (.iload_n 1, 1) := dk_27 (dk_at dksX1_restore_0 8 rfl rfl)
theorem dX1_restore_9 : decode cX1_restore 9 = .ok (.aaload, 1) := dk_50 (dk_at dksX1_restore_0 9 rfl rfl)
theorem dX1_restore_10 : decode cX1_restore 10 = .ok (.ifnull 7, 3) := dk_198 0 7 (dk_at dksX1_restore_0 10 rfl rfl)
theorem dX1_restore_13 : decode cX1_restore 13 = .ok (.iconst 1, 1) := dk_4 (dk_at dksX1_restore_0 13 rfl rfl)
theorem dX1_restore_14 : decode cX1_restore 14 = .ok (.goto 4, 3) := dk_167 0 4 (dk_at dksX1_restore_0 14 rfl rfl)
theorem dX1_restore_17 : decode cX1_restore 17 = .ok (.iconst 0, 1) := dk_3 (dk_at dksX1_restore_0 17 rfl rfl)
theorem dX1_restore_18 : decode cX1_restore 18 = .ok (.invokestatic 86, 3) := dk_184 0 86 (dk_at dksX1_restore_0 18 rfl rfl)
theorem dX1_restore_21 : decode cX1_restore 21 = .ok (.aload_n 0, 1) := dk_42 (dk_at dksX1_restore_0 21 rfl rfl)
theorem dX1_restore_22 : decode cX1_restore 22 = .ok (.new 41, 3) := dk_187 0 41 (dk_at dksX1_restore_1 0 rfl rfl)
theorem dX1_restore_25 : decode cX1_restore 25 = .ok (.dup, 1) := dk_89 (dk_at dksX1_restore_1 3 rfl rfl)
theorem dX1_restore_26 : decode cX1_restore 26 = .ok (.aload_n 0, 1) := dk_42 (dk_at dksX1_restore_1 4 rfl rfl)
theorem dX1_restore_27 : decode cX1_restore 27 = .ok (.getfield 57, 3) := dk_180 0 57 (dk_at dksX1_restore_1 5 rfl rfl)
theorem dX1_restore_30 : decode cX1_restore 30 = .ok (.iload_n 1, 1) := dk_27 (dk_at dksX1_restore_1 8 rfl rfl)
theorem dX1_restore_31 : decode cX1_restore 31 = .ok (.aaload, 1) := dk_50 (dk_at dksX1_restore_1 9 rfl rfl)
theorem dX1_restore_32 : decode cX1_restore 32 = .ok (.invokespecial 113, 3) := dk_183 0 113 (dk_at dksX1_restore_1 10 rfl rfl)
theorem dX1_restore_35 : decode cX1_restore 35 = .ok (.invokevirtual 116, 3) := dk_182 0 116 (dk_at dksX1_restore_1 13 rfl rfl)
theorem dX1_restore_38 : decode cX1_restore 38 = .ok (.aload_n 0, 1) := dk_42 (dk_at dksX1_restore_1 16 rfl rfl)
theorem dX1_restore_39 : decode cX1_restore 39 = .ok (.getfield 44, 3) := dk_180 0 44 (dk_at dksX1_restore_1 17 rfl rfl)
theorem dX1_restore_42 : decode cX1_restore 42 = .ok (.invokevirtual 142, 3) := dk_182 0 142 (dk_at dksX1_restore_1 20 rfl rfl)
theorem dX1_restore_45 : decode cX1_restore 45 = .ok (.ireturn, 1) := dk_172 (dk_at dksX1_restore_1 23 rfl rfl)
abbrev cX1_undo : ByteArray := prog_1_method_82_code
def yX1_undo : MethodName := ⟨RX1, "undo", "()I"⟩
def dkwX1_undo_2 : List UInt8 := [182, 0, 101, 172]
abbrev dktX1_undo_2 : List UInt8 := dkwX1_undo_2 ++ []
def dkwX1_undo_1 : List UInt8 := [182, 1, 167, 192, 0, 41, 181, 0, 44, 42, 187, 0, 61, 89, 183, 0, 63, 181, 0, 64, 42, 180, 0, 53]
abbrev dktX1_undo_1 : List UInt8 := dkwX1_undo_1 ++ dktX1_undo_2
def dkwX1_undo_0 : List UInt8 := [42, 180, 0, 53, 182, 1, 166, 154, 0, 7, 4, 167, 0, 4, 3, 184, 0, 86, 42, 42, 180, 0, 53]
abbrev dktX1_undo_0 : List UInt8 := dkwX1_undo_0 ++ dktX1_undo_1
theorem dksX1_undo_0 : cX1_undo.data.toList.drop 0 = dktX1_undo_0 := by decide +kernel
theorem dksX1_undo_1 : cX1_undo.data.toList.drop 23 = dktX1_undo_1 := dk_seg dksX1_undo_0 23 rfl rfl
theorem dksX1_undo_2 : cX1_undo.data.toList.drop 47 = dktX1_undo_2 := dk_seg dksX1_undo_1 24 rfl rfl
theorem dX1_undo_0 : decode cX1_undo 0 = .ok (.aload_n 0, 1) := dk_42 (dk_at dksX1_undo_0 0 rfl rfl)
theorem dX1_undo_1 : decode cX1_undo 1 = .ok (.getfield 53, 3) := dk_180 0 53 (dk_at dksX1_undo_0 1 rfl rfl)
theorem dX1_undo_4 : decode cX1_undo 4 = .ok (.invokevirtual 422, 3) := dk_182 1 166 (dk_at dksX1_undo_0 4 rfl rfl)
theorem dX1_undo_7 : decode cX1_undo 7 = .ok (.ifCond .ne 7, 3) := dk_154 0 7 (dk_at dksX1_undo_0 7 rfl rfl)
theorem dX1_undo_10 : decode cX1_undo 10 = .ok (.iconst 1, 1) := dk_4 (dk_at dksX1_undo_0 10 rfl rfl)
theorem dX1_undo_11 : decode cX1_undo 11 = .ok (.goto 4, 3) := dk_167 0 4 (dk_at dksX1_undo_0 11 rfl rfl)
theorem dX1_undo_14 : decode cX1_undo 14 = .ok (.iconst 0, 1) := dk_3 (dk_at dksX1_undo_0 14 rfl rfl)
theorem dX1_undo_15 : decode cX1_undo 15 = .ok (.invokestatic 86, 3) := dk_184 0 86 (dk_at dksX1_undo_0 15 rfl rfl)
theorem dX1_undo_18 : decode cX1_undo 18 = .ok (.aload_n 0, 1) := dk_42 (dk_at dksX1_undo_0 18 rfl rfl)
theorem dX1_undo_19 : decode cX1_undo 19 = .ok (.aload_n 0, 1) := dk_42 (dk_at dksX1_undo_0 19 rfl rfl)
theorem dX1_undo_20 : decode cX1_undo 20 = .ok (.getfield 53, 3) := dk_180 0 53 (dk_at dksX1_undo_0 20 rfl rfl)
theorem dX1_undo_23 : decode cX1_undo 23 = .ok (.invokevirtual 423, 3) := dk_182 1 167 (dk_at dksX1_undo_1 0 rfl rfl)
theorem dX1_undo_26 : decode cX1_undo 26 = .ok (.checkcast 41, 3) := dk_192 0 41 (dk_at dksX1_undo_1 3 rfl rfl)
theorem dX1_undo_29 : decode cX1_undo 29 = .ok (.putfield 44, 3) := dk_181 0 44 (dk_at dksX1_undo_1 6 rfl rfl)
theorem dX1_undo_32 : decode cX1_undo 32 = .ok (.aload_n 0, 1) := dk_42 (dk_at dksX1_undo_1 9 rfl rfl)
theorem dX1_undo_33 : decode cX1_undo 33 = .ok (.new 61, 3) := dk_187 0 61 (dk_at dksX1_undo_1 10 rfl rfl)
theorem dX1_undo_36 : decode cX1_undo 36 = .ok (.dup, 1) := dk_89 (dk_at dksX1_undo_1 13 rfl rfl)
theorem dX1_undo_37 : decode cX1_undo 37 = .ok (.invokespecial 63, 3) := dk_183 0 63 (dk_at dksX1_undo_1 14 rfl rfl)
theorem dX1_undo_40 : decode cX1_undo 40 = .ok (.putfield 64, 3) := dk_181 0 64 (dk_at dksX1_undo_1 17 rfl rfl)
theorem dX1_undo_43 : decode cX1_undo 43 = .ok (.aload_n 0, 1) := dk_42 (dk_at dksX1_undo_1 20 rfl rfl)
theorem dX1_undo_44 : decode cX1_undo 44 = .ok (.getfield 53, 3) := dk_180 0 53 (dk_at dksX1_undo_1 21 rfl rfl)
theorem dX1_undo_47 : decode cX1_undo 47 = .ok (.invokevirtual 101, 3) := dk_182 0 101 (dk_at dksX1_undo_2 0 rfl rfl)
theorem dX1_undo_50 : decode cX1_undo 50 = .ok (.ireturn, 1) := dk_172 (dk_at dksX1_undo_2 3 rfl rfl)
abbrev cX1_writeBox : ByteArray := prog_1_method_86_code
def yX1_writeBox : MethodName := ⟨RX1, "writeBox", "(I)I"⟩
def dkwX1_writeBox_3 : List UInt8 := [25, 4, 180, 0, 234, 182, 1, 190, 132, 3, 1, 167, 255, 190, 42, 180, 0, 79, 182, 1, 170, 172]
abbrev dktX1_writeBox_3 : List UInt8 := dkwX1_writeBox_3 ++ []
def dkwX1_writeBox_2 : List UInt8 := [25, 4, 180, 0, 229, 182, 1, 187, 16, 58, 182, 0, 153, 25, 4, 180, 0, 232, 182, 1, 187, 87, 42]
abbrev dktX1_writeBox_2 : List UInt8 := dkwX1_writeBox_2 ++ dktX1_writeBox_3
def dkwX1_writeBox_1 : List UInt8 := [162, 0, 61, 44, 180, 0, 203, 29, 182, 0, 186, 192, 0, 227, 58, 4, 42, 182, 1, 184, 42, 180, 0, 79]
abbrev dktX1_writeBox_1 : List UInt8 := dkwX1_writeBox_1 ++ dktX1_writeBox_2
def dkwX1_writeBox_0 : List UInt8 := [42, 27, 182, 0, 197, 77, 42, 180, 0, 79, 3, 182, 1, 181, 3, 62, 29, 44, 180, 0, 203, 182, 0, 176]
abbrev dktX1_writeBox_0 : List UInt8 := dkwX1_writeBox_0 ++ dktX1_writeBox_1
theorem dksX1_writeBox_0 : cX1_writeBox.data.toList.drop 0 = dktX1_writeBox_0 := by decide +kernel
theorem dksX1_writeBox_1 : cX1_writeBox.data.toList.drop 24 = dktX1_writeBox_1 := dk_seg dksX1_writeBox_0 24 rfl rfl
theorem dksX1_writeBox_2 : cX1_writeBox.data.toList.drop 48 = dktX1_writeBox_2 := dk_seg dksX1_writeBox_1 24 rfl rfl
theorem dksX1_writeBox_3 : cX1_writeBox.data.toList.drop 71 = dktX1_writeBox_3 := dk_seg dksX1_writeBox_2 23 rfl rfl
theorem dX1_writeBox_0 : decode cX1_writeBox 0 = .ok (.aload_n 0, 1) := dk_42 (dk_at dksX1_writeBox_0 0 rfl rfl)
theorem dX1_writeBox_1 : decode cX1_writeBox 1 = .ok (.iload_n 1, 1) := dk_27 (dk_at dksX1_writeBox_0 1 rfl rfl)
theorem dX1_writeBox_2 : decode cX1_writeBox 2 = .ok (.invokevirtual 197, 3) := dk_182 0 197 (dk_at dksX1_writeBox_0 2 rfl rfl)
theorem dX1_writeBox_5 : decode cX1_writeBox 5 = .ok (.astore_n 2, 1) := dk_77 (dk_at dksX1_writeBox_0 5 rfl rfl)
theorem dX1_writeBox_6 : decode cX1_writeBox 6 = .ok (.aload_n 0, 1) := dk_42 (dk_at dksX1_writeBox_0 6 rfl rfl)
theorem dX1_writeBox_7 : decode cX1_writeBox 7 = .ok (.getfield 79, 3) := dk_180 0 79 (dk_at dksX1_writeBox_0 7 rfl rfl)
theorem dX1_writeBox_10 : decode cX1_writeBox 10 = .ok (.iconst 0, 1) := dk_3 (dk_at dksX1_writeBox_0 10 rfl rfl)
theorem dX1_writeBox_11 : decode cX1_writeBox 11 = .ok (.invokevirtual 437, 3) := dk_182 1 181 (dk_at dksX1_writeBox_0 11 rfl rfl)
theorem dX1_writeBox_14 : decode cX1_writeBox 14 = .ok (.iconst 0, 1) := dk_3 (dk_at dksX1_writeBox_0 14 rfl rfl)
theorem dX1_writeBox_15 : decode cX1_writeBox 15 = .ok (.istore_n 3, 1) := dk_62 (dk_at dksX1_writeBox_0 15 rfl rfl)
theorem dX1_writeBox_16 : decode cX1_writeBox 16 = .ok (.iload_n 3, 1) := dk_29 (dk_at dksX1_writeBox_0 16 rfl rfl)
theorem dX1_writeBox_17 : decode cX1_writeBox 17 = .ok (.aload_n 2, 1) := dk_44 (dk_at dksX1_writeBox_0 17 rfl rfl)
theorem dX1_writeBox_18 : decode cX1_writeBox 18 = .ok (.getfield 203, 3) := dk_180 0 203 (dk_at dksX1_writeBox_0 18 rfl rfl)
theorem dX1_writeBox_21 : decode cX1_writeBox 21 = .ok (.invokevirtual 176, 3) := dk_182 0 176 (dk_at dksX1_writeBox_0 21 rfl rfl)
theorem dX1_writeBox_24 : decode cX1_writeBox 24 = .ok (.if_icmp .ge 61, 3) := dk_162 0 61 (dk_at dksX1_writeBox_1 0 rfl rfl)
theorem dX1_writeBox_27 : decode cX1_writeBox 27 = .ok (.aload_n 2, 1) := dk_44 (dk_at dksX1_writeBox_1 3 rfl rfl)
theorem dX1_writeBox_28 : decode cX1_writeBox 28 = .ok (.getfield 203, 3) := dk_180 0 203 (dk_at dksX1_writeBox_1 4 rfl rfl)
theorem dX1_writeBox_31 : decode cX1_writeBox 31 = .ok (.iload_n 3, 1) := dk_29 (dk_at dksX1_writeBox_1 7 rfl rfl)
theorem dX1_writeBox_32 : decode cX1_writeBox 32 = .ok (.invokevirtual 186, 3) := dk_182 0 186 (dk_at dksX1_writeBox_1 8 rfl rfl)
theorem dX1_writeBox_35 : decode cX1_writeBox 35 = .ok (.checkcast 227, 3) := dk_192 0 227 (dk_at dksX1_writeBox_1 11 rfl rfl)
theorem dX1_writeBox_38 : decode cX1_writeBox 38 = .ok (.astore 4, 2) := dk_58 4 (dk_at dksX1_writeBox_1 14 rfl rfl)
theorem dX1_writeBox_40 : decode cX1_writeBox 40 = .ok (.aload_n 0, 1) := dk_42 (dk_at dksX1_writeBox_1 16 rfl rfl)
theorem dX1_writeBox_41 : decode cX1_writeBox 41 = .ok (.invokevirtual 440, 3) := dk_182 1 184 (dk_at dksX1_writeBox_1 17 rfl rfl)
theorem dX1_writeBox_44 : decode cX1_writeBox 44 = .ok (.aload_n 0, 1) := dk_42 (dk_at dksX1_writeBox_1 20 rfl rfl)
theorem dX1_writeBox_45 : decode cX1_writeBox 45 = .ok (.getfield 79, 3) := dk_180 0 79 (dk_at dksX1_writeBox_1 21 rfl rfl)
theorem dX1_writeBox_48 : decode cX1_writeBox 48 = .ok (.aload 4, 2) := dk_25 4 (dk_at dksX1_writeBox_2 0 rfl rfl)
theorem dX1_writeBox_50 : decode cX1_writeBox 50 = .ok (.getfield 229, 3) := dk_180 0 229 (dk_at dksX1_writeBox_2 2 rfl rfl)
theorem dX1_writeBox_53 : decode cX1_writeBox 53 = .ok (.invokevirtual 443, 3) := dk_182 1 187 (dk_at dksX1_writeBox_2 5 rfl rfl)
theorem dX1_writeBox_56 : decode cX1_writeBox 56 = .ok (.bipush 58, 2) := dk_16 58 (dk_at dksX1_writeBox_2 8 rfl rfl)
theorem dX1_writeBox_58 : decode cX1_writeBox 58 = .ok (.invokevirtual 153, 3) := dk_182 0 153 (dk_at dksX1_writeBox_2 10 rfl rfl)
theorem dX1_writeBox_61 : decode cX1_writeBox 61 = .ok (.aload 4, 2) := dk_25 4 (dk_at dksX1_writeBox_2 13 rfl rfl)
theorem dX1_writeBox_63 : decode cX1_writeBox 63 = .ok (.getfield 232, 3) := dk_180 0 232 (dk_at dksX1_writeBox_2 15 rfl rfl)
theorem dX1_writeBox_66 : decode cX1_writeBox 66 = .ok (.invokevirtual 443, 3) := dk_182 1 187 (dk_at dksX1_writeBox_2 18 rfl rfl)
theorem dX1_writeBox_69 : decode cX1_writeBox 69 = .ok (.pop, 1) := dk_87 (dk_at dksX1_writeBox_2 21 rfl rfl)
theorem dX1_writeBox_70 : decode cX1_writeBox 70 = .ok (.aload_n 0, 1) := dk_42 (dk_at dksX1_writeBox_2 22 rfl rfl)
theorem dX1_writeBox_71 : decode cX1_writeBox 71 = .ok (.aload 4, 2) := dk_25 4 (dk_at dksX1_writeBox_3 0 rfl rfl)
theorem dX1_writeBox_73 : decode cX1_writeBox 73 = .ok (.getfield 234, 3) := dk_180 0 234 (dk_at dksX1_writeBox_3 2 rfl rfl)
theorem dX1_writeBox_76 : decode cX1_writeBox 76 = .ok (.invokevirtual 446, 3) := dk_182 1 190 (dk_at dksX1_writeBox_3 5 rfl rfl)
theorem dX1_writeBox_79 : decode cX1_writeBox 79 = .ok (.iinc 3 1, 3) := dk_132 3 1 (dk_at dksX1_writeBox_3 8 rfl rfl)
theorem dX1_writeBox_82 : decode cX1_writeBox 82 = .ok (.goto (-66), 3) := dk_167 255 190 (dk_at dksX1_writeBox_3 11 rfl rfl)
theorem dX1_writeBox_85 : decode cX1_writeBox 85 = .ok (.aload_n 0, 1) := dk_42 (dk_at dksX1_writeBox_3 14 rfl rfl)
theorem dX1_writeBox_86 : decode cX1_writeBox 86 = .ok (.getfield 79, 3) := dk_180 0 79 (dk_at dksX1_writeBox_3 15 rfl rfl)
theorem dX1_writeBox_89 : decode cX1_writeBox 89 = .ok (.invokevirtual 426, 3) := dk_182 1 170 (dk_at dksX1_writeBox_3 18 rfl rfl)
theorem dX1_writeBox_92 : decode cX1_writeBox 92 = .ok (.ireturn, 1) := dk_172 (dk_at dksX1_writeBox_3 21 rfl rfl)
abbrev cX1_writeView : ByteArray := prog_1_method_87_code
def yX1_writeView : MethodName := ⟨RX1, "writeView", "(I)I"⟩
def dkwX1_writeView_4 : List UInt8 := [182, 1, 170, 172]
abbrev dktX1_writeView_4 : List UInt8 := dkwX1_writeView_4 ++ []
def dkwX1_writeView_3 : List UInt8 := [199, 0, 13, 42, 180, 0, 79, 16, 33, 182, 0, 153, 87, 132, 3, 1, 167, 255, 184, 42, 180, 0, 79]
abbrev dktX1_writeView_3 : List UInt8 := dkwX1_writeView_3 ++ dktX1_writeView_4
def dkwX1_writeView_2 : List UInt8 := [46, 182, 1, 187, 87, 42, 44, 180, 1, 26, 29, 46, 182, 1, 190, 42, 180, 0, 44, 44, 29, 182, 1, 18]
abbrev dktX1_writeView_2 : List UInt8 := dkwX1_writeView_2 ++ dktX1_writeView_3
def dkwX1_writeView_1 : List UInt8 := [42, 182, 1, 184, 42, 180, 0, 79, 29, 4, 96, 182, 1, 187, 16, 58, 182, 0, 153, 44, 180, 1, 22, 29]
abbrev dktX1_writeView_1 : List UInt8 := dkwX1_writeView_1 ++ dktX1_writeView_2
def dkwX1_writeView_0 : List UInt8 := [42, 27, 182, 0, 240, 77, 42, 180, 0, 79, 3, 182, 1, 181, 3, 62, 29, 44, 180, 1, 1, 162, 0, 70]
abbrev dktX1_writeView_0 : List UInt8 := dkwX1_writeView_0 ++ dktX1_writeView_1
theorem dksX1_writeView_0 : cX1_writeView.data.toList.drop 0 = dktX1_writeView_0 := by decide +kernel
theorem dksX1_writeView_1 : cX1_writeView.data.toList.drop 24 = dktX1_writeView_1 := dk_seg dksX1_writeView_0 24 rfl rfl
theorem dksX1_writeView_2 : cX1_writeView.data.toList.drop 48 = dktX1_writeView_2 := dk_seg dksX1_writeView_1 24 rfl rfl
theorem dksX1_writeView_3 : cX1_writeView.data.toList.drop 72 = dktX1_writeView_3 := dk_seg dksX1_writeView_2 24 rfl rfl
theorem dksX1_writeView_4 : cX1_writeView.data.toList.drop 95 = dktX1_writeView_4 := dk_seg dksX1_writeView_3 23 rfl rfl
theorem dX1_writeView_0 : decode cX1_writeView 0 = .ok (.aload_n 0, 1) := dk_42 (dk_at dksX1_writeView_0 0 rfl rfl)
theorem dX1_writeView_1 : decode cX1_writeView 1 = .ok (.iload_n 1, 1) := dk_27 (dk_at dksX1_writeView_0 1 rfl rfl)
theorem dX1_writeView_2 : decode cX1_writeView 2 = .ok (.invokevirtual 240, 3) := dk_182 0 240 (dk_at dksX1_writeView_0 2 rfl rfl)
theorem dX1_writeView_5 : decode cX1_writeView 5 = .ok (.astore_n 2, 1) := dk_77 (dk_at dksX1_writeView_0 5 rfl rfl)
theorem dX1_writeView_6 : decode cX1_writeView 6 = .ok (.aload_n 0, 1) := dk_42 (dk_at dksX1_writeView_0 6 rfl rfl)
theorem dX1_writeView_7 : decode cX1_writeView 7 = .ok (.getfield 79, 3) := dk_180 0 79 (dk_at dksX1_writeView_0 7 rfl rfl)
theorem dX1_writeView_10 : decode cX1_writeView 10 = .ok (.iconst 0, 1) := dk_3 (dk_at dksX1_writeView_0 10 rfl rfl)
theorem dX1_writeView_11 : decode cX1_writeView 11 = .ok (.invokevirtual 437, 3) := dk_182 1 181 (dk_at dksX1_writeView_0 11 rfl rfl)
theorem dX1_writeView_14 : decode cX1_writeView 14 = .ok (.iconst 0, 1) := dk_3 (dk_at dksX1_writeView_0 14 rfl rfl)
theorem dX1_writeView_15 : decode cX1_writeView 15 = .ok (.istore_n 3, 1) := dk_62 (dk_at dksX1_writeView_0 15 rfl rfl)
theorem dX1_writeView_16 : decode cX1_writeView 16 = .ok (.iload_n 3, 1) := dk_29 (dk_at dksX1_writeView_0 16 rfl rfl)
theorem dX1_writeView_17 : decode cX1_writeView 17 = .ok (.aload_n 2, 1) := dk_44 (dk_at dksX1_writeView_0 17 rfl rfl)
theorem dX1_writeView_18 : decode cX1_writeView 18 = .ok (.getfield 257, 3) := dk_180 1 1 (dk_at dksX1_writeView_0 18 rfl rfl)
theorem dX1_writeView_21 : decode cX1_writeView 21 = .ok (.if_icmp .ge 70, 3) := dk_162 0 70 (dk_at dksX1_writeView_0 21 rfl rfl)
theorem dX1_writeView_24 : decode cX1_writeView 24 = .ok (.aload_n 0, 1) := dk_42 (dk_at dksX1_writeView_1 0 rfl rfl)
theorem dX1_writeView_25 : decode cX1_writeView 25 = .ok (.invokevirtual 440, 3) := dk_182 1 184 (dk_at dksX1_writeView_1 1 rfl rfl)
theorem dX1_writeView_28 : decode cX1_writeView 28 = .ok (.aload_n 0, 1) := dk_42 (dk_at dksX1_writeView_1 4 rfl rfl)
theorem dX1_writeView_29 : decode cX1_writeView 29 = .ok (.getfield 79, 3) := dk_180 0 79 (dk_at dksX1_writeView_1 5 rfl rfl)
theorem dX1_writeView_32 : decode cX1_writeView 32 = .ok (.iload_n 3, 1) := dk_29 (dk_at dksX1_writeView_1 8 rfl rfl)
theorem dX1_writeView_33 : decode cX1_writeView 33 = .ok (.iconst 1, 1) := dk_4 (dk_at dksX1_writeView_1 9 rfl rfl)
theorem dX1_writeView_34 : decode cX1_writeView 34 = .ok (.iadd, 1) := dk_96 (dk_at dksX1_writeView_1 10 rfl rfl)
theorem dX1_writeView_35 : decode cX1_writeView 35 = .ok (.invokevirtual 443, 3) := dk_182 1 187 (dk_at dksX1_writeView_1 11 rfl rfl)
theorem dX1_writeView_38 : decode cX1_writeView 38 = .ok (.bipush 58, 2) := dk_16 58 (dk_at dksX1_writeView_1 14 rfl rfl)
theorem dX1_writeView_40 : decode cX1_writeView 40 = .ok (.invokevirtual 153, 3) := dk_182 0 153 (dk_at dksX1_writeView_1 16 rfl rfl)
theorem dX1_writeView_43 : decode cX1_writeView 43 = .ok (.aload_n 2, 1) := dk_44 (dk_at dksX1_writeView_1 19 rfl rfl)
theorem dX1_writeView_44 : decode cX1_writeView 44 = .ok (.getfield 278, 3) := dk_180 1 22 (dk_at dksX1_writeView_1 20 rfl rfl)
theorem dX1_writeView_47 : decode cX1_writeView 47 = .ok (.iload_n 3, 1) := dk_29 (dk_at dksX1_writeView_1 23 rfl rfl)
theorem dX1_writeView_48 : decode cX1_writeView 48 = .ok (.iaload, 1) := dk_46 (dk_at dksX1_writeView_2 0 rfl rfl)
theorem dX1_writeView_49 : decode cX1_writeView 49 = .ok (.invokevirtual 443, 3) := dk_182 1 187 (dk_at dksX1_writeView_2 1 rfl rfl)
theorem dX1_writeView_52 : decode cX1_writeView 52 = .ok (.pop, 1) := dk_87 (dk_at dksX1_writeView_2 4 rfl rfl)
theorem dX1_writeView_53 : decode cX1_writeView 53 = .ok (.aload_n 0, 1) := dk_42 (dk_at dksX1_writeView_2 5 rfl rfl)
theorem dX1_writeView_54 : decode cX1_writeView 54 = .ok (.aload_n 2, 1) := dk_44 (dk_at dksX1_writeView_2 6 rfl rfl)
theorem dX1_writeView_55 : decode cX1_writeView 55 = .ok (.getfield 282, 3) := dk_180 1 26 (dk_at dksX1_writeView_2 7 rfl rfl)
theorem dX1_writeView_58 : decode cX1_writeView 58 = .ok (.iload_n 3, 1) := dk_29 (dk_at dksX1_writeView_2 10 rfl rfl)
theorem dX1_writeView_59 : decode cX1_writeView 59 = .ok (.iaload, 1) := dk_46 (dk_at dksX1_writeView_2 11 rfl rfl)
theorem dX1_writeView_60 : decode cX1_writeView 60 = .ok (.invokevirtual 446, 3) := dk_182 1 190 (dk_at dksX1_writeView_2 12 rfl rfl)
theorem dX1_writeView_63 : decode cX1_writeView 63 = .ok (.aload_n 0, 1) := dk_42 (dk_at dksX1_writeView_2 15 rfl rfl)
theorem dX1_writeView_64 : decode cX1_writeView 64 = .ok (.getfield 44, 3) := dk_180 0 44 (dk_at dksX1_writeView_2 16 rfl rfl)
theorem dX1_writeView_67 : decode cX1_writeView 67 = .ok (.aload_n 2, 1) := dk_44 (dk_at dksX1_writeView_2 19 rfl rfl)
theorem dX1_writeView_68 : decode cX1_writeView 68 = .ok (.iload_n 3, 1) := dk_29 (dk_at dksX1_writeView_2 20 rfl rfl)
theorem dX1_writeView_69 : decode cX1_writeView 69 = .ok (.invokevirtual 274, 3) := dk_182 1 18 (dk_at dksX1_writeView_2 21 rfl rfl)
theorem dX1_writeView_72 : decode cX1_writeView 72 = .ok (.ifnonnull 13, 3) := dk_199 0 13 (dk_at dksX1_writeView_3 0 rfl rfl)
theorem dX1_writeView_75 : decode cX1_writeView 75 = .ok (.aload_n 0, 1) := dk_42 (dk_at dksX1_writeView_3 3 rfl rfl)
theorem dX1_writeView_76 : decode cX1_writeView 76 = .ok (.getfield 79, 3) := dk_180 0 79 (dk_at dksX1_writeView_3 4 rfl rfl)
theorem dX1_writeView_79 : decode cX1_writeView 79 = .ok (.bipush 33, 2) := dk_16 33 (dk_at dksX1_writeView_3 7 rfl rfl)
theorem dX1_writeView_81 : decode cX1_writeView 81 = .ok (.invokevirtual 153, 3) := dk_182 0 153 (dk_at dksX1_writeView_3 9 rfl rfl)
theorem dX1_writeView_84 : decode cX1_writeView 84 = .ok (.pop, 1) := dk_87 (dk_at dksX1_writeView_3 12 rfl rfl)
theorem dX1_writeView_85 : decode cX1_writeView 85 = .ok (.iinc 3 1, 3) := dk_132 3 1 (dk_at dksX1_writeView_3 13 rfl rfl)
theorem dX1_writeView_88 : decode cX1_writeView 88 = .ok (.goto (-72), 3) := dk_167 255 184 (dk_at dksX1_writeView_3 16 rfl rfl)
theorem dX1_writeView_91 : decode cX1_writeView 91 = .ok (.aload_n 0, 1) := dk_42 (dk_at dksX1_writeView_3 19 rfl rfl)
theorem dX1_writeView_92 : decode cX1_writeView 92 = .ok (.getfield 79, 3) := dk_180 0 79 (dk_at dksX1_writeView_3 20 rfl rfl)
theorem dX1_writeView_95 : decode cX1_writeView 95 = .ok (.invokevirtual 426, 3) := dk_182 1 170 (dk_at dksX1_writeView_4 0 rfl rfl)
theorem dX1_writeView_98 : decode cX1_writeView 98 = .ok (.ireturn, 1) := dk_172 (dk_at dksX1_writeView_4 3 rfl rfl)
abbrev cX1_outputByte : ByteArray := prog_1_method_89_code
def yX1_outputByte : MethodName := ⟨RX1, "outputByte", "(I)I"⟩
def dkwX1_outputByte_1 : List UInt8 := [182, 1, 203, 172]
abbrev dktX1_outputByte_1 : List UInt8 := dkwX1_outputByte_1 ++ []
def dkwX1_outputByte_0 : List UInt8 := [27, 133, 9, 42, 180, 0, 79, 182, 1, 170, 4, 100, 133, 184, 0, 94, 184, 0, 183, 42, 180, 0, 79, 27]
abbrev dktX1_outputByte_0 : List UInt8 := dkwX1_outputByte_0 ++ dktX1_outputByte_1
theorem dksX1_outputByte_0 : cX1_outputByte.data.toList.drop 0 = dktX1_outputByte_0 := by decide +kernel
theorem dksX1_outputByte_1 : cX1_outputByte.data.toList.drop 24 = dktX1_outputByte_1 := dk_seg dksX1_outputByte_0 24 rfl rfl
theorem dX1_outputByte_0 : decode cX1_outputByte 0 = .ok (.iload_n 1, 1) := dk_27 (dk_at dksX1_outputByte_0 0 rfl rfl)
theorem dX1_outputByte_1 : decode cX1_outputByte 1 = .ok (.i2l, 1) := dk_133 (dk_at dksX1_outputByte_0 1 rfl rfl)
theorem dX1_outputByte_2 : decode cX1_outputByte 2 = .ok (.lconst 0, 1) := dk_9 (dk_at dksX1_outputByte_0 2 rfl rfl)
theorem dX1_outputByte_3 : decode cX1_outputByte 3 = .ok (.aload_n 0, 1) := dk_42 (dk_at dksX1_outputByte_0 3 rfl rfl)
theorem dX1_outputByte_4 : decode cX1_outputByte 4 = .ok (.getfield 79, 3) := dk_180 0 79 (dk_at dksX1_outputByte_0 4 rfl rfl)
theorem dX1_outputByte_7 : decode cX1_outputByte 7 = .ok (.invokevirtual 426, 3) := dk_182 1 170 (dk_at dksX1_outputByte_0 7 rfl rfl)
theorem dX1_outputByte_10 : decode cX1_outputByte 10 = .ok (.iconst 1, 1) := dk_4 (dk_at dksX1_outputByte_0 10 rfl rfl)
theorem dX1_outputByte_11 : decode cX1_outputByte 11 = .ok (.isub, 1) := dk_100 (dk_at dksX1_outputByte_0 11 rfl rfl)
theorem dX1_outputByte_12 : decode cX1_outputByte 12 = .ok (.i2l, 1) := dk_133 (dk_at dksX1_outputByte_0 12 rfl rfl)
theorem dX1_outputByte_13 : decode cX1_outputByte 13 = .ok (.invokestatic 94, 3) := dk_184 0 94 (dk_at dksX1_outputByte_0 13 rfl rfl)
theorem dX1_outputByte_16 : decode cX1_outputByte 16 = .ok (.invokestatic 183, 3) := dk_184 0 183 (dk_at dksX1_outputByte_0 16 rfl rfl)
theorem dX1_outputByte_19 : decode cX1_outputByte 19 = .ok (.aload_n 0, 1) := dk_42 (dk_at dksX1_outputByte_0 19 rfl rfl)
theorem dX1_outputByte_20 : decode cX1_outputByte 20 = .ok (.getfield 79, 3) := dk_180 0 79 (dk_at dksX1_outputByte_0 20 rfl rfl)
theorem dX1_outputByte_23 : decode cX1_outputByte 23 = .ok (.iload_n 1, 1) := dk_27 (dk_at dksX1_outputByte_0 23 rfl rfl)
theorem dX1_outputByte_24 : decode cX1_outputByte 24 = .ok (.invokevirtual 459, 3) := dk_182 1 203 (dk_at dksX1_outputByte_1 0 rfl rfl)
theorem dX1_outputByte_27 : decode cX1_outputByte 27 = .ok (.ireturn, 1) := dk_172 (dk_at dksX1_outputByte_1 3 rfl rfl)
theorem q151 : (Jvm.Cond.initialized "MailSessions") ∈ lw_all := lw_g (lw_at lw_m1 1 rfl) rfl
theorem q189 : (Jvm.Cond.instantiable "MailSessions" (9 : Nat)) ∈ lw_all := lw_g (lw_at lw_m1 39 rfl) rfl
theorem q191 : (Jvm.Cond.instanceMethod ({ cls := "MailSessions", name := "<init>", desc := "()V" } : Jvm.MethodName)) ∈ lw_all := lw_g (lw_at lw_m1 41 rfl) rfl
theorem q192 : (Jvm.Cond.code ({ cls := "MailSessions", name := "<init>", desc := "()V" } : Jvm.MethodName) prog_1_method_14_code (1 : Nat) (Option.none : Option Jvm.ClassFile.FieldType)) ∈ lw_all := lw_g (lw_at lw_m1 42 rfl) rfl
theorem q193 : (Jvm.Cond.methodLink "MailSessions" (38 : Nat) ({ cls := "java/lang/Object", name := "<init>", desc := "()V" } : Jvm.MethodName)) ∈ lw_all := lw_g (lw_at lw_m1 43 rfl) rfl
theorem q196 : (Jvm.Cond.classLink "MailSessions" (41 : Nat) "MailSessions$Server") ∈ lw_all := lw_g (lw_at lw_m1 46 rfl) rfl
theorem q198 : (Jvm.Cond.methodLink "MailSessions" (43 : Nat) ({ cls := "MailSessions$Server", name := "<init>", desc := "()V" } : Jvm.MethodName)) ∈ lw_all := lw_g (lw_at lw_m1 48 rfl) rfl
theorem q551 : (Jvm.Cond.fieldLinkNest "MailSessions" (173 : Nat) "MailSessions$Server" "boxes" "Ljava/util/ArrayList;" "MailSessions") ∈ lw_tbl := lw_at lw_m2 161 rfl
theorem q554 : (Jvm.Cond.fieldLinkNest "MailSessions" (177 : Nat) "MailSessions$Server" "sessions" "Ljava/util/ArrayList;" "MailSessions") ∈ lw_tbl := lw_at lw_m2 164 rfl
theorem q557 : (Jvm.Cond.fieldLinkNest "MailSessions" (180 : Nat) "MailSessions$Server" "limit" "I" "MailSessions") ∈ lw_tbl := lw_at lw_m2 167 rfl
theorem q565 : (Jvm.Cond.classLink "MailSessions" (50 : Nat) "java/util/ArrayDeque") ∈ lw_all := lw_g (lw_at lw_m2 175 rfl) rfl
theorem q567 : (Jvm.Cond.methodLink "MailSessions" (52 : Nat) ({ cls := "java/util/ArrayDeque", name := "<init>", desc := "()V" } : Jvm.MethodName)) ∈ lw_all := lw_g (lw_at lw_m2 177 rfl) rfl
theorem q583 : (Jvm.Cond.classLink "MailSessions" (61 : Nat) "java/util/ArrayList") ∈ lw_all := lw_g (lw_at lw_m2 193 rfl) rfl
theorem q584 : (Jvm.Cond.methodLink "MailSessions" (63 : Nat) ({ cls := "java/util/ArrayList", name := "<init>", desc := "()V" } : Jvm.MethodName)) ∈ lw_all := lw_g (lw_at lw_m2 194 rfl) rfl
theorem q589 : (Jvm.Cond.classLink "MailSessions" (76 : Nat) "java/lang/StringBuilder") ∈ lw_all := lw_g (lw_at lw_m2 199 rfl) rfl
theorem q590 : (Jvm.Cond.methodLink "MailSessions" (78 : Nat) ({ cls := "java/lang/StringBuilder", name := "<init>", desc := "()V" } : Jvm.MethodName)) ∈ lw_all := lw_g (lw_at lw_m2 200 rfl) rfl
theorem q591 : (Jvm.Cond.fieldLink "MailSessions" (44 : Nat) "MailSessions" "server" "LMailSessions$Server;") ∈ lw_all := lw_g (lw_at lw_m2 201 rfl) rfl
theorem q592 : (Jvm.Cond.fieldLink "MailSessions" (53 : Nat) "MailSessions" "history" "Ljava/util/ArrayDeque;") ∈ lw_all := lw_g (lw_at lw_m2 202 rfl) rfl
theorem q593 : (Jvm.Cond.fieldLink "MailSessions" (57 : Nat) "MailSessions" "slots" "[LMailSessions$Server;") ∈ lw_all := lw_g (lw_at lw_m2 203 rfl) rfl
theorem q594 : (Jvm.Cond.fieldLink "MailSessions" (64 : Nat) "MailSessions" "notices" "Ljava/util/ArrayList;") ∈ lw_all := lw_g (lw_at lw_m2 204 rfl) rfl
theorem q596 : (Jvm.Cond.fieldLink "MailSessions" (68 : Nat) "MailSessions" "input" "[B") ∈ lw_all := lw_g (lw_at lw_m2 206 rfl) rfl
theorem q598 : (Jvm.Cond.fieldLink "MailSessions" (83 : Nat) "MailSessions" "inputLength" "I") ∈ lw_all := lw_g (lw_at lw_m2 208 rfl) rfl
theorem q599 : (Jvm.Cond.fieldLink "MailSessions" (119 : Nat) "MailSessions" "errorCode" "I") ∈ lw_all := lw_g (lw_at lw_m2 209 rfl) rfl
theorem q600 : (Jvm.Cond.fieldLink "MailSessions" (72 : Nat) "MailSessions" "errorPosition" "I") ∈ lw_all := lw_g (lw_at lw_m2 210 rfl) rfl
theorem q601 : (Jvm.Cond.fieldLink "MailSessions" (79 : Nat) "MailSessions" "output" "Ljava/lang/StringBuilder;") ∈ lw_all := lw_g (lw_at lw_m2 211 rfl) rfl
theorem q602 : (Jvm.Cond.lays "MailSessions" "MailSessions" "server" "LMailSessions$Server;") ∈ lw_all := lw_g (lw_at lw_m2 212 rfl) rfl
theorem q603 : (Jvm.Cond.soleField "MailSessions" "server") ∈ lw_all := lw_g (lw_at lw_m2 213 rfl) rfl
theorem q604 : (Jvm.Cond.laysFinal "MailSessions" "MailSessions" "history" "Ljava/util/ArrayDeque;") ∈ lw_all := lw_g (lw_at lw_m2 214 rfl) rfl
theorem q605 : (Jvm.Cond.soleField "MailSessions" "history") ∈ lw_all := lw_g (lw_at lw_m2 215 rfl) rfl
theorem q606 : (Jvm.Cond.laysFinal "MailSessions" "MailSessions" "slots" "[LMailSessions$Server;") ∈ lw_all := lw_g (lw_at lw_m2 216 rfl) rfl
theorem q607 : (Jvm.Cond.soleField "MailSessions" "slots") ∈ lw_all := lw_g (lw_at lw_m2 217 rfl) rfl
theorem q608 : (Jvm.Cond.lays "MailSessions" "MailSessions" "notices" "Ljava/util/ArrayList;") ∈ lw_all := lw_g (lw_at lw_m2 218 rfl) rfl
theorem q609 : (Jvm.Cond.soleField "MailSessions" "notices") ∈ lw_all := lw_g (lw_at lw_m2 219 rfl) rfl
theorem q610 : (Jvm.Cond.laysFinal "MailSessions" "MailSessions" "input" "[B") ∈ lw_all := lw_g (lw_at lw_m2 220 rfl) rfl
theorem q611 : (Jvm.Cond.soleField "MailSessions" "input") ∈ lw_all := lw_g (lw_at lw_m2 221 rfl) rfl
theorem q612 : (Jvm.Cond.lays "MailSessions" "MailSessions" "inputLength" "I") ∈ lw_all := lw_g (lw_at lw_m2 222 rfl) rfl
theorem q613 : (Jvm.Cond.soleField "MailSessions" "inputLength") ∈ lw_all := lw_g (lw_at lw_m2 223 rfl) rfl
theorem q614 : (Jvm.Cond.lays "MailSessions" "MailSessions" "errorCode" "I") ∈ lw_all := lw_g (lw_at lw_m2 224 rfl) rfl
theorem q615 : (Jvm.Cond.soleField "MailSessions" "errorCode") ∈ lw_all := lw_g (lw_at lw_m2 225 rfl) rfl
theorem q616 : (Jvm.Cond.lays "MailSessions" "MailSessions" "errorPosition" "I") ∈ lw_all := lw_g (lw_at lw_m2 226 rfl) rfl
theorem q617 : (Jvm.Cond.soleField "MailSessions" "errorPosition") ∈ lw_all := lw_g (lw_at lw_m2 227 rfl) rfl
theorem q618 : (Jvm.Cond.laysFinal "MailSessions" "MailSessions" "output" "Ljava/lang/StringBuilder;") ∈ lw_all := lw_g (lw_at lw_m2 228 rfl) rfl
theorem q619 : (Jvm.Cond.soleField "MailSessions" "output") ∈ lw_all := lw_g (lw_at lw_m2 229 rfl) rfl
theorem q620 : (Jvm.Cond.superclass "MailSessions" "java/lang/Object") ∈ lw_all := lw_g (lw_at lw_m2 230 rfl) rfl
theorem q622 : (Jvm.Cond.instanceMethod ({ cls := "MailSessions", name := "load", desc := "()I" } : Jvm.MethodName)) ∈ lw_all := lw_g (lw_at lw_m2 232 rfl) rfl
theorem q623 : (Jvm.Cond.selects "MailSessions" ({ cls := "MailSessions", name := "load", desc := "()I" } : Jvm.MethodName) ({ cls := "MailSessions", name := "load", desc := "()I" } : Jvm.MethodName)) ∈ lw_all := lw_g (lw_at lw_m2 233 rfl) rfl
theorem q624 : (Jvm.Cond.codeWith ({ cls := "MailSessions", name := "load", desc := "()I" } : Jvm.MethodName) prog_1_method_22_code (4 : Nat) (Option.some Jvm.ClassFile.FieldType.int) [((4 : Nat), (27 : Nat), (34 : Nat), (123 : Nat)), ((4 : Nat), (27 : Nat), (50 : Nat), (0 : Nat)), ((34 : Nat), (43 : Nat), (50 : Nat), (0 : Nat))]) ∈ lw_all := lw_g (lw_at lw_m2 234 rfl) rfl
theorem q625 : (Jvm.Cond.classLink "MailSessions" (123 : Nat) "MailSessions$ParseError") ∈ lw_all := lw_g (lw_at lw_m2 235 rfl) rfl
theorem q626 : (Jvm.Cond.methodLink "MailSessions" (130 : Nat) ({ cls := "MailSessions", name := "noError", desc := "()V" } : Jvm.MethodName)) ∈ lw_all := lw_g (lw_at lw_m2 236 rfl) rfl
theorem q627 : (Jvm.Cond.privateMethod ({ cls := "MailSessions", name := "noError", desc := "()V" } : Jvm.MethodName)) ∈ lw_tbl := lw_at lw_m2 237 rfl
theorem q628 : (Jvm.Cond.instanceMethod ({ cls := "MailSessions", name := "noError", desc := "()V" } : Jvm.MethodName)) ∈ lw_all := lw_g (lw_at lw_m2 238 rfl) rfl
theorem q629 : (Jvm.Cond.code ({ cls := "MailSessions", name := "noError", desc := "()V" } : Jvm.MethodName) prog_1_method_20_code (1 : Nat) (Option.none : Option Jvm.ClassFile.FieldType)) ∈ lw_all := lw_g (lw_at lw_m2 239 rfl) rfl
theorem q630 : (Jvm.Cond.classLink "MailSessions" (133 : Nat) "MailSessions$Parser") ∈ lw_all := lw_g (lw_at lw_m3 0 rfl) rfl
theorem q632 : (Jvm.Cond.methodLink "MailSessions" (135 : Nat) ({ cls := "MailSessions$Parser", name := "<init>", desc := "(LMailSessions;)V" } : Jvm.MethodName)) ∈ lw_all := lw_g (lw_at lw_m3 2 rfl) rfl
theorem q648 : (Jvm.Cond.static ({ cls := "MailSessions", name := "inRange", desc := "(JJJ)Z" } : Jvm.MethodName)) ∈ lw_all := lw_g (lw_at lw_m3 18 rfl) rfl
theorem q649 : (Jvm.Cond.code ({ cls := "MailSessions", name := "inRange", desc := "(JJJ)Z" } : Jvm.MethodName) prog_1_method_1_code (6 : Nat) (Option.some Jvm.ClassFile.FieldType.boolean)) ∈ lw_all := lw_g (lw_at lw_m3 19 rfl) rfl
theorem q721 : (Jvm.Cond.methodLink "MailSessions" (138 : Nat) ({ cls := "MailSessions$Parser", name := "parse", desc := "()LMailSessions$Server;" } : Jvm.MethodName)) ∈ lw_all := lw_g (lw_at lw_m3 91 rfl) rfl
theorem q850 : (Jvm.Cond.fieldLinkNest "MailSessions" (122 : Nat) "MailSessions$ParseError" "code" "I" "MailSessions") ∈ lw_tbl := lw_at lw_m3 220 rfl
theorem q852 : (Jvm.Cond.fieldLinkNest "MailSessions" (127 : Nat) "MailSessions$ParseError" "position" "I" "MailSessions") ∈ lw_tbl := lw_at lw_m3 222 rfl
theorem q909 : (Jvm.Cond.fieldLinkNest "MailSessions" (203 : Nat) "MailSessions$Box" "messages" "Ljava/util/ArrayList;" "MailSessions") ∈ lw_tbl := lw_at lw_m4 39 rfl
theorem q912 : (Jvm.Cond.fieldLinkNest "MailSessions" (205 : Nat) "MailSessions$Box" "nextUid" "I" "MailSessions") ∈ lw_tbl := lw_at lw_m4 42 rfl
theorem q943 : (Jvm.Cond.selects "MailSessions" ({ cls := "java/lang/Object", name := "getClass", desc := "()Ljava/lang/Class;" } : Jvm.MethodName) ({ cls := "java/lang/Object", name := "getClass", desc := "()Ljava/lang/Class;" } : Jvm.MethodName)) ∈ lw_all := lw_g (lw_at lw_m4 73 rfl) rfl
theorem q992 : (Jvm.Cond.static ({ cls := "MailSessions", name := "has", desc := "(II)Z" } : Jvm.MethodName)) ∈ lw_all := lw_g (lw_at lw_m4 122 rfl) rfl
theorem q993 : (Jvm.Cond.code ({ cls := "MailSessions", name := "has", desc := "(II)Z" } : Jvm.MethodName) prog_1_method_6_code (2 : Nat) (Option.some Jvm.ClassFile.FieldType.boolean)) ∈ lw_all := lw_g (lw_at lw_m4 123 rfl) rfl
theorem q1010 : (Jvm.Cond.fieldLinkNest "MailSessions" (229 : Nat) "MailSessions$Message" "uid" "I" "MailSessions") ∈ lw_tbl := lw_at lw_m4 140 rfl
theorem q1015 : (Jvm.Cond.fieldLinkNest "MailSessions" (232 : Nat) "MailSessions$Message" "size" "I" "MailSessions") ∈ lw_tbl := lw_at lw_m4 145 rfl
theorem q1020 : (Jvm.Cond.fieldLinkNest "MailSessions" (234 : Nat) "MailSessions$Message" "flags" "I" "MailSessions") ∈ lw_tbl := lw_at lw_m4 150 rfl
theorem q1048 : (Jvm.Cond.fieldLinkNest "MailSessions" (194 : Nat) "MailSessions$Session" "box" "I" "MailSessions") ∈ lw_tbl := lw_at lw_m4 178 rfl
theorem q1051 : (Jvm.Cond.fieldLinkNest "MailSessions" (257 : Nat) "MailSessions$Session" "count" "I" "MailSessions") ∈ lw_tbl := lw_at lw_m4 181 rfl
theorem q1056 : (Jvm.Cond.fieldLinkNest "MailSessions" (246 : Nat) "MailSessions$Session" "reads" "Z" "MailSessions") ∈ lw_tbl := lw_at lw_m4 186 rfl
theorem q1059 : (Jvm.Cond.fieldLinkNest "MailSessions" (254 : Nat) "MailSessions$Session" "idle" "Z" "MailSessions") ∈ lw_tbl := lw_at lw_m4 189 rfl
theorem q1062 : (Jvm.Cond.fieldLinkNest "MailSessions" (278 : Nat) "MailSessions$Session" "uids" "[I" "MailSessions") ∈ lw_tbl := lw_at lw_m4 192 rfl
theorem q1065 : (Jvm.Cond.fieldLinkNest "MailSessions" (282 : Nat) "MailSessions$Session" "told" "[I" "MailSessions") ∈ lw_tbl := lw_at lw_m4 195 rfl
theorem q1068 : (Jvm.Cond.fieldLinkNest "MailSessions" (304 : Nat) "MailSessions$Session" "accounts" "[I" "MailSessions") ∈ lw_tbl := lw_at lw_m4 198 rfl
theorem q1105 : (Jvm.Cond.methodLink "MailSessions" (116 : Nat) ({ cls := "MailSessions", name := "become", desc := "(LMailSessions$Server;)V" } : Jvm.MethodName)) ∈ lw_all := lw_g (lw_at lw_m4 235 rfl) rfl
theorem q1106 : (Jvm.Cond.privateMethod ({ cls := "MailSessions", name := "become", desc := "(LMailSessions$Server;)V" } : Jvm.MethodName)) ∈ lw_tbl := lw_at lw_m4 236 rfl
theorem q1107 : (Jvm.Cond.instanceMethod ({ cls := "MailSessions", name := "become", desc := "(LMailSessions$Server;)V" } : Jvm.MethodName)) ∈ lw_all := lw_g (lw_at lw_m4 237 rfl) rfl
theorem q1108 : (Jvm.Cond.code ({ cls := "MailSessions", name := "become", desc := "(LMailSessions$Server;)V" } : Jvm.MethodName) prog_1_method_18_code (2 : Nat) (Option.none : Option Jvm.ClassFile.FieldType)) ∈ lw_all := lw_g (lw_at lw_m4 238 rfl) rfl
theorem q1109 : (Jvm.Cond.methodLink "MailSessions" (101 : Nat) ({ cls := "java/util/ArrayDeque", name := "size", desc := "()I" } : Jvm.MethodName)) ∈ lw_all := lw_g (lw_at lw_m4 239 rfl) rfl
theorem q1116 : (Jvm.Cond.methodLink "MailSessions" (105 : Nat) ({ cls := "java/util/ArrayDeque", name := "removeFirst", desc := "()Ljava/lang/Object;" } : Jvm.MethodName)) ∈ lw_all := lw_g (lw_at lw_m5 6 rfl) rfl
theorem q1151 : (Jvm.Cond.methodLink "MailSessions" (109 : Nat) ({ cls := "java/util/ArrayDeque", name := "addLast", desc := "(Ljava/lang/Object;)V" } : Jvm.MethodName)) ∈ lw_all := lw_g (lw_at lw_m5 41 rfl) rfl
theorem q1183 : (Jvm.Cond.methodLink "MailSessions" (142 : Nat) ({ cls := "MailSessions$Server", name := "messages", desc := "()I" } : Jvm.MethodName)) ∈ lw_all := lw_g (lw_at lw_m5 73 rfl) rfl
theorem q1184 : (Jvm.Cond.methodLink "MailSessions" (145 : Nat) ({ cls := "MailSessions", name := "error", desc := "(LMailSessions$ParseError;)V" } : Jvm.MethodName)) ∈ lw_all := lw_g (lw_at lw_m5 74 rfl) rfl
theorem q1185 : (Jvm.Cond.privateMethod ({ cls := "MailSessions", name := "error", desc := "(LMailSessions$ParseError;)V" } : Jvm.MethodName)) ∈ lw_tbl := lw_at lw_m5 75 rfl
theorem q1186 : (Jvm.Cond.instanceMethod ({ cls := "MailSessions", name := "error", desc := "(LMailSessions$ParseError;)V" } : Jvm.MethodName)) ∈ lw_all := lw_g (lw_at lw_m5 76 rfl) rfl
theorem q1187 : (Jvm.Cond.code ({ cls := "MailSessions", name := "error", desc := "(LMailSessions$ParseError;)V" } : Jvm.MethodName) prog_1_method_21_code (2 : Nat) (Option.none : Option Jvm.ClassFile.FieldType)) ∈ lw_all := lw_g (lw_at lw_m5 77 rfl) rfl
theorem q1189 : (Jvm.Cond.instanceMethod ({ cls := "MailSessions", name := "errorCode", desc := "()I" } : Jvm.MethodName)) ∈ lw_all := lw_g (lw_at lw_m5 79 rfl) rfl
theorem q1190 : (Jvm.Cond.selects "MailSessions" ({ cls := "MailSessions", name := "errorCode", desc := "()I" } : Jvm.MethodName) ({ cls := "MailSessions", name := "errorCode", desc := "()I" } : Jvm.MethodName)) ∈ lw_all := lw_g (lw_at lw_m5 80 rfl) rfl
theorem q1191 : (Jvm.Cond.code ({ cls := "MailSessions", name := "errorCode", desc := "()I" } : Jvm.MethodName) prog_1_method_24_code (1 : Nat) (Option.some Jvm.ClassFile.FieldType.int)) ∈ lw_all := lw_g (lw_at lw_m5 81 rfl) rfl
theorem q1193 : (Jvm.Cond.instanceMethod ({ cls := "MailSessions", name := "errorPosition", desc := "()I" } : Jvm.MethodName)) ∈ lw_all := lw_g (lw_at lw_m5 83 rfl) rfl
theorem q1194 : (Jvm.Cond.selects "MailSessions" ({ cls := "MailSessions", name := "errorPosition", desc := "()I" } : Jvm.MethodName) ({ cls := "MailSessions", name := "errorPosition", desc := "()I" } : Jvm.MethodName)) ∈ lw_all := lw_g (lw_at lw_m5 84 rfl) rfl
theorem q1195 : (Jvm.Cond.code ({ cls := "MailSessions", name := "errorPosition", desc := "()I" } : Jvm.MethodName) prog_1_method_25_code (1 : Nat) (Option.some Jvm.ClassFile.FieldType.int)) ∈ lw_all := lw_g (lw_at lw_m5 85 rfl) rfl
theorem q1197 : (Jvm.Cond.instanceMethod ({ cls := "MailSessions", name := "findBox", desc := "()I" } : Jvm.MethodName)) ∈ lw_all := lw_g (lw_at lw_m5 87 rfl) rfl
theorem q1198 : (Jvm.Cond.selects "MailSessions" ({ cls := "MailSessions", name := "findBox", desc := "()I" } : Jvm.MethodName) ({ cls := "MailSessions", name := "findBox", desc := "()I" } : Jvm.MethodName)) ∈ lw_all := lw_g (lw_at lw_m5 88 rfl) rfl
theorem q1199 : (Jvm.Cond.code ({ cls := "MailSessions", name := "findBox", desc := "()I" } : Jvm.MethodName) prog_1_method_27_code (1 : Nat) (Option.some Jvm.ClassFile.FieldType.int)) ∈ lw_all := lw_g (lw_at lw_m5 89 rfl) rfl
theorem q1200 : (Jvm.Cond.methodLink "MailSessions" (161 : Nat) ({ cls := "MailSessions", name := "takeName", desc := "()Ljava/lang/String;" } : Jvm.MethodName)) ∈ lw_all := lw_g (lw_at lw_m5 90 rfl) rfl
theorem q1201 : (Jvm.Cond.privateMethod ({ cls := "MailSessions", name := "takeName", desc := "()Ljava/lang/String;" } : Jvm.MethodName)) ∈ lw_tbl := lw_at lw_m5 91 rfl
theorem q1202 : (Jvm.Cond.instanceMethod ({ cls := "MailSessions", name := "takeName", desc := "()Ljava/lang/String;" } : Jvm.MethodName)) ∈ lw_all := lw_g (lw_at lw_m5 92 rfl) rfl
theorem q1203 : (Jvm.Cond.code ({ cls := "MailSessions", name := "takeName", desc := "()Ljava/lang/String;" } : Jvm.MethodName) prog_1_method_26_code (3 : Nat) (Option.some (Jvm.ClassFile.FieldType.object "java/lang/String"))) ∈ lw_all := lw_g (lw_at lw_m5 93 rfl) rfl
theorem q1204 : (Jvm.Cond.methodLink "MailSessions" (153 : Nat) ({ cls := "java/lang/StringBuilder", name := "append", desc := "(C)Ljava/lang/StringBuilder;" } : Jvm.MethodName)) ∈ lw_all := lw_g (lw_at lw_m5 94 rfl) rfl
theorem q1205 : (Jvm.Cond.methodLink "MailSessions" (157 : Nat) ({ cls := "java/lang/StringBuilder", name := "toString", desc := "()Ljava/lang/String;" } : Jvm.MethodName)) ∈ lw_all := lw_g (lw_at lw_m5 95 rfl) rfl
theorem q1206 : (Jvm.Cond.methodLink "MailSessions" (164 : Nat) ({ cls := "MailSessions$Server", name := "findBox", desc := "(Ljava/lang/String;)I" } : Jvm.MethodName)) ∈ lw_all := lw_g (lw_at lw_m5 96 rfl) rfl
theorem q1208 : (Jvm.Cond.instanceMethod ({ cls := "MailSessions", name := "findSession", desc := "()I" } : Jvm.MethodName)) ∈ lw_all := lw_g (lw_at lw_m5 98 rfl) rfl
theorem q1209 : (Jvm.Cond.selects "MailSessions" ({ cls := "MailSessions", name := "findSession", desc := "()I" } : Jvm.MethodName) ({ cls := "MailSessions", name := "findSession", desc := "()I" } : Jvm.MethodName)) ∈ lw_all := lw_g (lw_at lw_m5 99 rfl) rfl
theorem q1210 : (Jvm.Cond.code ({ cls := "MailSessions", name := "findSession", desc := "()I" } : Jvm.MethodName) prog_1_method_28_code (1 : Nat) (Option.some Jvm.ClassFile.FieldType.int)) ∈ lw_all := lw_g (lw_at lw_m5 100 rfl) rfl
theorem q1211 : (Jvm.Cond.methodLink "MailSessions" (168 : Nat) ({ cls := "MailSessions$Server", name := "findSession", desc := "(Ljava/lang/String;)I" } : Jvm.MethodName)) ∈ lw_all := lw_g (lw_at lw_m5 101 rfl) rfl
theorem q1213 : (Jvm.Cond.instanceMethod ({ cls := "MailSessions", name := "stale", desc := "()I" } : Jvm.MethodName)) ∈ lw_all := lw_g (lw_at lw_m5 103 rfl) rfl
theorem q1214 : (Jvm.Cond.selects "MailSessions" ({ cls := "MailSessions", name := "stale", desc := "()I" } : Jvm.MethodName) ({ cls := "MailSessions", name := "stale", desc := "()I" } : Jvm.MethodName)) ∈ lw_all := lw_g (lw_at lw_m5 104 rfl) rfl
theorem q1215 : (Jvm.Cond.code ({ cls := "MailSessions", name := "stale", desc := "()I" } : Jvm.MethodName) prog_1_method_49_code (4 : Nat) (Option.some Jvm.ClassFile.FieldType.int)) ∈ lw_all := lw_g (lw_at lw_m5 105 rfl) rfl
theorem q1216 : (Jvm.Cond.methodLink "MailSessions" (176 : Nat) ({ cls := "java/util/ArrayList", name := "size", desc := "()I" } : Jvm.MethodName)) ∈ lw_all := lw_g (lw_at lw_m5 106 rfl) rfl
theorem q1217 : (Jvm.Cond.methodLink "MailSessions" (186 : Nat) ({ cls := "java/util/ArrayList", name := "get", desc := "(I)Ljava/lang/Object;" } : Jvm.MethodName)) ∈ lw_all := lw_g (lw_at lw_m5 107 rfl) rfl
theorem q1218 : (Jvm.Cond.classLink "MailSessions" (192 : Nat) "MailSessions$Session") ∈ lw_all := lw_g (lw_at lw_m5 108 rfl) rfl
theorem q1219 : (Jvm.Cond.methodLink "MailSessions" (292 : Nat) ({ cls := "MailSessions", name := "isTold", desc := "(LMailSessions$Session;)Z" } : Jvm.MethodName)) ∈ lw_all := lw_g (lw_at lw_m5 109 rfl) rfl
theorem q1220 : (Jvm.Cond.privateMethod ({ cls := "MailSessions", name := "isTold", desc := "(LMailSessions$Session;)Z" } : Jvm.MethodName)) ∈ lw_tbl := lw_at lw_m5 110 rfl
theorem q1221 : (Jvm.Cond.instanceMethod ({ cls := "MailSessions", name := "isTold", desc := "(LMailSessions$Session;)Z" } : Jvm.MethodName)) ∈ lw_all := lw_g (lw_at lw_m5 111 rfl) rfl
theorem q1222 : (Jvm.Cond.code ({ cls := "MailSessions", name := "isTold", desc := "(LMailSessions$Session;)Z" } : Jvm.MethodName) prog_1_method_43_code (2 : Nat) (Option.some Jvm.ClassFile.FieldType.boolean)) ∈ lw_all := lw_g (lw_at lw_m5 112 rfl) rfl
theorem q1223 : (Jvm.Cond.methodLink "MailSessions" (289 : Nat) ({ cls := "MailSessions$Server", name := "pending", desc := "(LMailSessions$Session;)I" } : Jvm.MethodName)) ∈ lw_all := lw_g (lw_at lw_m5 113 rfl) rfl
theorem q1246 : (Jvm.Cond.static ({ cls := "MailSessions", name := "count", desc := "(Z)I" } : Jvm.MethodName)) ∈ lw_all := lw_g (lw_at lw_m5 136 rfl) rfl
theorem q1247 : (Jvm.Cond.code ({ cls := "MailSessions", name := "count", desc := "(Z)I" } : Jvm.MethodName) prog_1_method_7_code (1 : Nat) (Option.some Jvm.ClassFile.FieldType.int)) ∈ lw_all := lw_g (lw_at lw_m5 137 rfl) rfl
theorem q1262 : (Jvm.Cond.static ({ cls := "MailSessions", name := "named", desc := "(II)LMailSessions$Test;" } : Jvm.MethodName)) ∈ lw_all := lw_g (lw_at lw_m5 152 rfl) rfl
theorem q1263 : (Jvm.Cond.code ({ cls := "MailSessions", name := "named", desc := "(II)LMailSessions$Test;" } : Jvm.MethodName) prog_1_method_12_code (2 : Nat) (Option.some (Jvm.ClassFile.FieldType.object "MailSessions$Test"))) ∈ lw_all := lw_g (lw_at lw_m5 153 rfl) rfl
theorem q1264 : (Jvm.Cond.static ({ cls := "MailSessions", name := "lambda$named$4", desc := "(IILMailSessions$Message;)Z" } : Jvm.MethodName)) ∈ lw_all := lw_g (lw_at lw_m5 154 rfl) rfl
theorem q1265 : (Jvm.Cond.code ({ cls := "MailSessions", name := "lambda$named$4", desc := "(IILMailSessions$Message;)Z" } : Jvm.MethodName) prog_1_method_94_code (3 : Nat) (Option.some Jvm.ClassFile.FieldType.boolean)) ∈ lw_all := lw_g (lw_at lw_m5 155 rfl) rfl
theorem q1266 : (Jvm.Cond.methodLink "MailSessions" (94 : Nat) ({ cls := "MailSessions", name := "inRange", desc := "(JJJ)Z" } : Jvm.MethodName)) ∈ lw_all := lw_g (lw_at lw_m5 156 rfl) rfl
theorem q1277 : (Jvm.Cond.instanceMethod ({ cls := "MailSessions", name := "undoCount", desc := "()I" } : Jvm.MethodName)) ∈ lw_all := lw_g (lw_at lw_m5 167 rfl) rfl
theorem q1278 : (Jvm.Cond.selects "MailSessions" ({ cls := "MailSessions", name := "undoCount", desc := "()I" } : Jvm.MethodName) ({ cls := "MailSessions", name := "undoCount", desc := "()I" } : Jvm.MethodName)) ∈ lw_all := lw_g (lw_at lw_m5 168 rfl) rfl
theorem q1279 : (Jvm.Cond.code ({ cls := "MailSessions", name := "undoCount", desc := "()I" } : Jvm.MethodName) prog_1_method_83_code (1 : Nat) (Option.some Jvm.ClassFile.FieldType.int)) ∈ lw_all := lw_g (lw_at lw_m5 169 rfl) rfl
theorem q1281 : (Jvm.Cond.instanceMethod ({ cls := "MailSessions", name := "writeNotices", desc := "()I" } : Jvm.MethodName)) ∈ lw_all := lw_g (lw_at lw_m5 171 rfl) rfl
theorem q1282 : (Jvm.Cond.selects "MailSessions" ({ cls := "MailSessions", name := "writeNotices", desc := "()I" } : Jvm.MethodName) ({ cls := "MailSessions", name := "writeNotices", desc := "()I" } : Jvm.MethodName)) ∈ lw_all := lw_g (lw_at lw_m5 172 rfl) rfl
theorem q1283 : (Jvm.Cond.code ({ cls := "MailSessions", name := "writeNotices", desc := "()I" } : Jvm.MethodName) prog_1_method_88_code (3 : Nat) (Option.some Jvm.ClassFile.FieldType.int)) ∈ lw_all := lw_g (lw_at lw_m5 173 rfl) rfl
theorem q1284 : (Jvm.Cond.methodLink "MailSessions" (437 : Nat) ({ cls := "java/lang/StringBuilder", name := "setLength", desc := "(I)V" } : Jvm.MethodName)) ∈ lw_all := lw_g (lw_at lw_m5 174 rfl) rfl
theorem q1352 : (Jvm.Cond.classLink "MailSessions" (312 : Nat) "MailSessions$Notice") ∈ lw_all := lw_g (lw_at lw_m6 2 rfl) rfl
theorem q1353 : (Jvm.Cond.methodLink "MailSessions" (440 : Nat) ({ cls := "MailSessions", name := "begins", desc := "()V" } : Jvm.MethodName)) ∈ lw_all := lw_g (lw_at lw_m6 3 rfl) rfl
theorem q1354 : (Jvm.Cond.privateMethod ({ cls := "MailSessions", name := "begins", desc := "()V" } : Jvm.MethodName)) ∈ lw_tbl := lw_at lw_m6 4 rfl
theorem q1355 : (Jvm.Cond.instanceMethod ({ cls := "MailSessions", name := "begins", desc := "()V" } : Jvm.MethodName)) ∈ lw_all := lw_g (lw_at lw_m6 5 rfl) rfl
theorem q1356 : (Jvm.Cond.code ({ cls := "MailSessions", name := "begins", desc := "()V" } : Jvm.MethodName) prog_1_method_84_code (1 : Nat) (Option.none : Option Jvm.ClassFile.FieldType)) ∈ lw_all := lw_g (lw_at lw_m6 6 rfl) rfl
theorem q1357 : (Jvm.Cond.methodLink "MailSessions" (426 : Nat) ({ cls := "java/lang/StringBuilder", name := "length", desc := "()I" } : Jvm.MethodName)) ∈ lw_all := lw_g (lw_at lw_m6 7 rfl) rfl
theorem q1358 : (Jvm.Cond.methodLink "MailSessions" (443 : Nat) ({ cls := "java/lang/StringBuilder", name := "append", desc := "(I)Ljava/lang/StringBuilder;" } : Jvm.MethodName)) ∈ lw_all := lw_g (lw_at lw_m6 8 rfl) rfl
theorem q1359 : (Jvm.Cond.methodLink "MailSessions" (446 : Nat) ({ cls := "MailSessions", name := "writeFlags", desc := "(I)V" } : Jvm.MethodName)) ∈ lw_all := lw_g (lw_at lw_m6 9 rfl) rfl
theorem q1360 : (Jvm.Cond.privateMethod ({ cls := "MailSessions", name := "writeFlags", desc := "(I)V" } : Jvm.MethodName)) ∈ lw_tbl := lw_at lw_m6 10 rfl
theorem q1361 : (Jvm.Cond.instanceMethod ({ cls := "MailSessions", name := "writeFlags", desc := "(I)V" } : Jvm.MethodName)) ∈ lw_all := lw_g (lw_at lw_m6 11 rfl) rfl
theorem q1362 : (Jvm.Cond.code ({ cls := "MailSessions", name := "writeFlags", desc := "(I)V" } : Jvm.MethodName) prog_1_method_85_code (3 : Nat) (Option.none : Option Jvm.ClassFile.FieldType)) ∈ lw_all := lw_g (lw_at lw_m6 12 rfl) rfl
theorem q1363 : (Jvm.Cond.methodLink "MailSessions" (296 : Nat) ({ cls := "MailSessions", name := "has", desc := "(II)Z" } : Jvm.MethodName)) ∈ lw_all := lw_g (lw_at lw_m6 13 rfl) rfl
theorem q1364 : (Jvm.Cond.stringRef "MailSessions" (429 : Nat) "safdr") ∈ lw_tbl := lw_at lw_m6 14 rfl
theorem q1365 : (Jvm.Cond.methodLink "MailSessions" (431 : Nat) ({ cls := "java/lang/String", name := "charAt", desc := "(I)C" } : Jvm.MethodName)) ∈ lw_all := lw_g (lw_at lw_m6 15 rfl) rfl
theorem q1381 : (Jvm.Cond.instanceMethod ({ cls := "MailSessions", name := "append", desc := "(IIIII)I" } : Jvm.MethodName)) ∈ lw_all := lw_g (lw_at lw_m6 31 rfl) rfl
theorem q1382 : (Jvm.Cond.selects "MailSessions" ({ cls := "MailSessions", name := "append", desc := "(IIIII)I" } : Jvm.MethodName) ({ cls := "MailSessions", name := "append", desc := "(IIIII)I" } : Jvm.MethodName)) ∈ lw_all := lw_g (lw_at lw_m6 32 rfl) rfl
theorem q1383 : (Jvm.Cond.code ({ cls := "MailSessions", name := "append", desc := "(IIIII)I" } : Jvm.MethodName) prog_1_method_16_code (6 : Nat) (Option.some Jvm.ClassFile.FieldType.int)) ∈ lw_all := lw_g (lw_at lw_m6 33 rfl) rfl
theorem q1384 : (Jvm.Cond.methodLink "MailSessions" (86 : Nat) ({ cls := "MailSessions", name := "requireState", desc := "(Z)V" } : Jvm.MethodName)) ∈ lw_all := lw_g (lw_at lw_m6 34 rfl) rfl
theorem q1385 : (Jvm.Cond.static ({ cls := "MailSessions", name := "requireState", desc := "(Z)V" } : Jvm.MethodName)) ∈ lw_all := lw_g (lw_at lw_m6 35 rfl) rfl
theorem q1386 : (Jvm.Cond.code ({ cls := "MailSessions", name := "requireState", desc := "(Z)V" } : Jvm.MethodName) prog_1_method_3_code (1 : Nat) (Option.none : Option Jvm.ClassFile.FieldType)) ∈ lw_all := lw_g (lw_at lw_m6 36 rfl) rfl
theorem q1387 : (Jvm.Cond.classLink "MailSessions" (7 : Nat) "java/lang/IllegalStateException") ∈ lw_all := lw_g (lw_at lw_m6 37 rfl) rfl
theorem q1388 : (Jvm.Cond.methodLink "MailSessions" (9 : Nat) ({ cls := "java/lang/IllegalStateException", name := "<init>", desc := "()V" } : Jvm.MethodName)) ∈ lw_all := lw_g (lw_at lw_m6 38 rfl) rfl
theorem q1392 : (Jvm.Cond.methodLink "MailSessions" (90 : Nat) ({ cls := "MailSessions", name := "appendWord", desc := "(I)V" } : Jvm.MethodName)) ∈ lw_all := lw_g (lw_at lw_m6 42 rfl) rfl
theorem q1393 : (Jvm.Cond.privateMethod ({ cls := "MailSessions", name := "appendWord", desc := "(I)V" } : Jvm.MethodName)) ∈ lw_tbl := lw_at lw_m6 43 rfl
theorem q1394 : (Jvm.Cond.instanceMethod ({ cls := "MailSessions", name := "appendWord", desc := "(I)V" } : Jvm.MethodName)) ∈ lw_all := lw_g (lw_at lw_m6 44 rfl) rfl
theorem q1395 : (Jvm.Cond.code ({ cls := "MailSessions", name := "appendWord", desc := "(I)V" } : Jvm.MethodName) prog_1_method_15_code (3 : Nat) (Option.none : Option Jvm.ClassFile.FieldType)) ∈ lw_all := lw_g (lw_at lw_m6 45 rfl) rfl
theorem q1401 : (Jvm.Cond.instanceMethod ({ cls := "MailSessions", name := "truncate", desc := "(I)V" } : Jvm.MethodName)) ∈ lw_all := lw_g (lw_at lw_m6 51 rfl) rfl
theorem q1402 : (Jvm.Cond.selects "MailSessions" ({ cls := "MailSessions", name := "truncate", desc := "(I)V" } : Jvm.MethodName) ({ cls := "MailSessions", name := "truncate", desc := "(I)V" } : Jvm.MethodName)) ∈ lw_all := lw_g (lw_at lw_m6 52 rfl) rfl
theorem q1403 : (Jvm.Cond.code ({ cls := "MailSessions", name := "truncate", desc := "(I)V" } : Jvm.MethodName) prog_1_method_17_code (2 : Nat) (Option.none : Option Jvm.ClassFile.FieldType)) ∈ lw_all := lw_g (lw_at lw_m6 53 rfl) rfl
theorem q1404 : (Jvm.Cond.methodLink "MailSessions" (98 : Nat) ({ cls := "MailSessions", name := "requireArgument", desc := "(Z)V" } : Jvm.MethodName)) ∈ lw_all := lw_g (lw_at lw_m6 54 rfl) rfl
theorem q1405 : (Jvm.Cond.static ({ cls := "MailSessions", name := "requireArgument", desc := "(Z)V" } : Jvm.MethodName)) ∈ lw_all := lw_g (lw_at lw_m6 55 rfl) rfl
theorem q1406 : (Jvm.Cond.code ({ cls := "MailSessions", name := "requireArgument", desc := "(Z)V" } : Jvm.MethodName) prog_1_method_2_code (1 : Nat) (Option.none : Option Jvm.ClassFile.FieldType)) ∈ lw_all := lw_g (lw_at lw_m6 56 rfl) rfl
theorem q1407 : (Jvm.Cond.classLink "MailSessions" (1 : Nat) "java/lang/IllegalArgumentException") ∈ lw_all := lw_g (lw_at lw_m6 57 rfl) rfl
theorem q1408 : (Jvm.Cond.methodLink "MailSessions" (3 : Nat) ({ cls := "java/lang/IllegalArgumentException", name := "<init>", desc := "()V" } : Jvm.MethodName)) ∈ lw_all := lw_g (lw_at lw_m6 58 rfl) rfl
theorem q1416 : (Jvm.Cond.instanceMethod ({ cls := "MailSessions", name := "property", desc := "(I)I" } : Jvm.MethodName)) ∈ lw_all := lw_g (lw_at lw_m6 66 rfl) rfl
theorem q1417 : (Jvm.Cond.selects "MailSessions" ({ cls := "MailSessions", name := "property", desc := "(I)I" } : Jvm.MethodName) ({ cls := "MailSessions", name := "property", desc := "(I)I" } : Jvm.MethodName)) ∈ lw_all := lw_g (lw_at lw_m6 67 rfl) rfl
theorem q1418 : (Jvm.Cond.code ({ cls := "MailSessions", name := "property", desc := "(I)I" } : Jvm.MethodName) prog_1_method_29_code (2 : Nat) (Option.some Jvm.ClassFile.FieldType.int)) ∈ lw_all := lw_g (lw_at lw_m6 68 rfl) rfl
theorem q1419 : (Jvm.Cond.constantLong "MailSessions" (171 : Nat) (4 : Int64)) ∈ lw_all := lw_g (lw_at lw_m6 69 rfl) rfl
theorem q1427 : (Jvm.Cond.instanceMethod ({ cls := "MailSessions", name := "box", desc := "(II)I" } : Jvm.MethodName)) ∈ lw_all := lw_g (lw_at lw_m6 77 rfl) rfl
theorem q1428 : (Jvm.Cond.selects "MailSessions" ({ cls := "MailSessions", name := "box", desc := "(II)I" } : Jvm.MethodName) ({ cls := "MailSessions", name := "box", desc := "(II)I" } : Jvm.MethodName)) ∈ lw_all := lw_g (lw_at lw_m6 78 rfl) rfl
theorem q1429 : (Jvm.Cond.code ({ cls := "MailSessions", name := "box", desc := "(II)I" } : Jvm.MethodName) prog_1_method_33_code (4 : Nat) (Option.some Jvm.ClassFile.FieldType.int)) ∈ lw_all := lw_g (lw_at lw_m6 79 rfl) rfl
theorem q1430 : (Jvm.Cond.methodLink "MailSessions" (197 : Nat) ({ cls := "MailSessions", name := "boxAt", desc := "(I)LMailSessions$Box;" } : Jvm.MethodName)) ∈ lw_all := lw_g (lw_at lw_m6 80 rfl) rfl
theorem q1431 : (Jvm.Cond.privateMethod ({ cls := "MailSessions", name := "boxAt", desc := "(I)LMailSessions$Box;" } : Jvm.MethodName)) ∈ lw_tbl := lw_at lw_m6 81 rfl
theorem q1432 : (Jvm.Cond.instanceMethod ({ cls := "MailSessions", name := "boxAt", desc := "(I)LMailSessions$Box;" } : Jvm.MethodName)) ∈ lw_all := lw_g (lw_at lw_m6 82 rfl) rfl
theorem q1433 : (Jvm.Cond.code ({ cls := "MailSessions", name := "boxAt", desc := "(I)LMailSessions$Box;" } : Jvm.MethodName) prog_1_method_30_code (2 : Nat) (Option.some (Jvm.ClassFile.FieldType.object "MailSessions$Box"))) ∈ lw_all := lw_g (lw_at lw_m6 83 rfl) rfl
theorem q1434 : (Jvm.Cond.methodLink "MailSessions" (183 : Nat) ({ cls := "MailSessions", name := "requireIndex", desc := "(Z)V" } : Jvm.MethodName)) ∈ lw_all := lw_g (lw_at lw_m6 84 rfl) rfl
theorem q1435 : (Jvm.Cond.static ({ cls := "MailSessions", name := "requireIndex", desc := "(Z)V" } : Jvm.MethodName)) ∈ lw_all := lw_g (lw_at lw_m6 85 rfl) rfl
theorem q1436 : (Jvm.Cond.code ({ cls := "MailSessions", name := "requireIndex", desc := "(Z)V" } : Jvm.MethodName) prog_1_method_4_code (1 : Nat) (Option.none : Option Jvm.ClassFile.FieldType)) ∈ lw_all := lw_g (lw_at lw_m6 86 rfl) rfl
theorem q1437 : (Jvm.Cond.classLink "MailSessions" (10 : Nat) "java/lang/IndexOutOfBoundsException") ∈ lw_all := lw_g (lw_at lw_m6 87 rfl) rfl
theorem q1446 : (Jvm.Cond.methodLink "MailSessions" (12 : Nat) ({ cls := "java/lang/IndexOutOfBoundsException", name := "<init>", desc := "()V" } : Jvm.MethodName)) ∈ lw_all := lw_g (lw_at lw_m6 96 rfl) rfl
theorem q1452 : (Jvm.Cond.classLink "MailSessions" (190 : Nat) "MailSessions$Box") ∈ lw_all := lw_g (lw_at lw_m6 102 rfl) rfl
theorem q1453 : (Jvm.Cond.constantLong "MailSessions" (201 : Nat) (5 : Int64)) ∈ lw_all := lw_g (lw_at lw_m6 103 rfl) rfl
theorem q1454 : (Jvm.Cond.methodLink "MailSessions" (208 : Nat) ({ cls := "MailSessions$Box", name := "sizes", desc := "()I" } : Jvm.MethodName)) ∈ lw_all := lw_g (lw_at lw_m6 104 rfl) rfl
theorem q1458 : (Jvm.Cond.methodLink "MailSessions" (211 : Nat) ({ cls := "MailSessions", name := "flagged", desc := "(I)LMailSessions$Test;" } : Jvm.MethodName)) ∈ lw_all := lw_g (lw_at lw_m6 108 rfl) rfl
theorem q1459 : (Jvm.Cond.static ({ cls := "MailSessions", name := "flagged", desc := "(I)LMailSessions$Test;" } : Jvm.MethodName)) ∈ lw_all := lw_g (lw_at lw_m6 109 rfl) rfl
theorem q1460 : (Jvm.Cond.code ({ cls := "MailSessions", name := "flagged", desc := "(I)LMailSessions$Test;" } : Jvm.MethodName) prog_1_method_8_code (1 : Nat) (Option.some (Jvm.ClassFile.FieldType.object "MailSessions$Test"))) ∈ lw_all := lw_g (lw_at lw_m6 110 rfl) rfl
theorem q1461 : (Jvm.Cond.static ({ cls := "MailSessions", name := "lambda$flagged$0", desc := "(ILMailSessions$Message;)Z" } : Jvm.MethodName)) ∈ lw_all := lw_g (lw_at lw_m6 111 rfl) rfl
theorem q1462 : (Jvm.Cond.code ({ cls := "MailSessions", name := "lambda$flagged$0", desc := "(ILMailSessions$Message;)Z" } : Jvm.MethodName) prog_1_method_98_code (2 : Nat) (Option.some Jvm.ClassFile.FieldType.boolean)) ∈ lw_all := lw_g (lw_at lw_m6 112 rfl) rfl
theorem q1463 : (Jvm.Cond.methodLink "MailSessions" (214 : Nat) ({ cls := "MailSessions", name := "not", desc := "(LMailSessions$Test;)LMailSessions$Test;" } : Jvm.MethodName)) ∈ lw_all := lw_g (lw_at lw_m6 113 rfl) rfl
theorem q1464 : (Jvm.Cond.static ({ cls := "MailSessions", name := "not", desc := "(LMailSessions$Test;)LMailSessions$Test;" } : Jvm.MethodName)) ∈ lw_all := lw_g (lw_at lw_m6 114 rfl) rfl
theorem q1465 : (Jvm.Cond.code ({ cls := "MailSessions", name := "not", desc := "(LMailSessions$Test;)LMailSessions$Test;" } : Jvm.MethodName) prog_1_method_11_code (1 : Nat) (Option.some (Jvm.ClassFile.FieldType.object "MailSessions$Test"))) ∈ lw_all := lw_g (lw_at lw_m6 115 rfl) rfl
theorem q1466 : (Jvm.Cond.static ({ cls := "MailSessions", name := "lambda$not$3", desc := "(LMailSessions$Test;LMailSessions$Message;)Z" } : Jvm.MethodName)) ∈ lw_all := lw_g (lw_at lw_m6 116 rfl) rfl
theorem q1467 : (Jvm.Cond.code ({ cls := "MailSessions", name := "lambda$not$3", desc := "(LMailSessions$Test;LMailSessions$Message;)Z" } : Jvm.MethodName) prog_1_method_95_code (2 : Nat) (Option.some Jvm.ClassFile.FieldType.boolean)) ∈ lw_all := lw_g (lw_at lw_m6 117 rfl) rfl
theorem q1468 : (Jvm.Cond.interfaceEntry "MailSessions" (320 : Nat)) ∈ lw_tbl := lw_at lw_m6 118 rfl
theorem q1469 : (Jvm.Cond.methodLink "MailSessions" (320 : Nat) ({ cls := "MailSessions$Test", name := "holds", desc := "(LMailSessions$Message;)Z" } : Jvm.MethodName)) ∈ lw_all := lw_g (lw_at lw_m6 119 rfl) rfl
theorem q1470 : (Jvm.Cond.methodLink "MailSessions" (217 : Nat) ({ cls := "MailSessions$Box", name := "many", desc := "(LMailSessions$Test;)I" } : Jvm.MethodName)) ∈ lw_all := lw_g (lw_at lw_m6 120 rfl) rfl
theorem q1471 : (Jvm.Cond.methodLink "MailSessions" (221 : Nat) ({ cls := "MailSessions", name := "sessionsIn", desc := "(I)I" } : Jvm.MethodName)) ∈ lw_all := lw_g (lw_at lw_m6 121 rfl) rfl
theorem q1472 : (Jvm.Cond.privateMethod ({ cls := "MailSessions", name := "sessionsIn", desc := "(I)I" } : Jvm.MethodName)) ∈ lw_tbl := lw_at lw_m6 122 rfl
theorem q1473 : (Jvm.Cond.instanceMethod ({ cls := "MailSessions", name := "sessionsIn", desc := "(I)I" } : Jvm.MethodName)) ∈ lw_all := lw_g (lw_at lw_m6 123 rfl) rfl
theorem q1474 : (Jvm.Cond.code ({ cls := "MailSessions", name := "sessionsIn", desc := "(I)I" } : Jvm.MethodName) prog_1_method_32_code (4 : Nat) (Option.some Jvm.ClassFile.FieldType.int)) ∈ lw_all := lw_g (lw_at lw_m6 124 rfl) rfl
theorem q1479 : (Jvm.Cond.instanceMethod ({ cls := "MailSessions", name := "message", desc := "(III)I" } : Jvm.MethodName)) ∈ lw_all := lw_g (lw_at lw_m6 129 rfl) rfl
theorem q1480 : (Jvm.Cond.selects "MailSessions" ({ cls := "MailSessions", name := "message", desc := "(III)I" } : Jvm.MethodName) ({ cls := "MailSessions", name := "message", desc := "(III)I" } : Jvm.MethodName)) ∈ lw_all := lw_g (lw_at lw_m6 130 rfl) rfl
theorem q1481 : (Jvm.Cond.code ({ cls := "MailSessions", name := "message", desc := "(III)I" } : Jvm.MethodName) prog_1_method_34_code (6 : Nat) (Option.some Jvm.ClassFile.FieldType.int)) ∈ lw_all := lw_g (lw_at lw_m6 131 rfl) rfl
theorem q1482 : (Jvm.Cond.constantLong "MailSessions" (225 : Nat) (2 : Int64)) ∈ lw_all := lw_g (lw_at lw_m6 132 rfl) rfl
theorem q1483 : (Jvm.Cond.classLink "MailSessions" (227 : Nat) "MailSessions$Message") ∈ lw_all := lw_g (lw_at lw_m6 133 rfl) rfl
theorem q1488 : (Jvm.Cond.instanceMethod ({ cls := "MailSessions", name := "indexOf", desc := "(II)I" } : Jvm.MethodName)) ∈ lw_all := lw_g (lw_at lw_m6 138 rfl) rfl
theorem q1489 : (Jvm.Cond.selects "MailSessions" ({ cls := "MailSessions", name := "indexOf", desc := "(II)I" } : Jvm.MethodName) ({ cls := "MailSessions", name := "indexOf", desc := "(II)I" } : Jvm.MethodName)) ∈ lw_all := lw_g (lw_at lw_m6 139 rfl) rfl
theorem q1490 : (Jvm.Cond.code ({ cls := "MailSessions", name := "indexOf", desc := "(II)I" } : Jvm.MethodName) prog_1_method_35_code (3 : Nat) (Option.some Jvm.ClassFile.FieldType.int)) ∈ lw_all := lw_g (lw_at lw_m6 140 rfl) rfl
theorem q1491 : (Jvm.Cond.methodLink "MailSessions" (237 : Nat) ({ cls := "MailSessions$Box", name := "find", desc := "(I)I" } : Jvm.MethodName)) ∈ lw_all := lw_g (lw_at lw_m6 141 rfl) rfl
theorem q1496 : (Jvm.Cond.instanceMethod ({ cls := "MailSessions", name := "session", desc := "(II)I" } : Jvm.MethodName)) ∈ lw_all := lw_g (lw_at lw_m6 146 rfl) rfl
theorem q1497 : (Jvm.Cond.selects "MailSessions" ({ cls := "MailSessions", name := "session", desc := "(II)I" } : Jvm.MethodName) ({ cls := "MailSessions", name := "session", desc := "(II)I" } : Jvm.MethodName)) ∈ lw_all := lw_g (lw_at lw_m6 147 rfl) rfl
theorem q1498 : (Jvm.Cond.code ({ cls := "MailSessions", name := "session", desc := "(II)I" } : Jvm.MethodName) prog_1_method_36_code (4 : Nat) (Option.some Jvm.ClassFile.FieldType.int)) ∈ lw_all := lw_g (lw_at lw_m6 148 rfl) rfl
theorem q1499 : (Jvm.Cond.methodLink "MailSessions" (240 : Nat) ({ cls := "MailSessions", name := "sessionAt", desc := "(I)LMailSessions$Session;" } : Jvm.MethodName)) ∈ lw_all := lw_g (lw_at lw_m6 149 rfl) rfl
theorem q1500 : (Jvm.Cond.privateMethod ({ cls := "MailSessions", name := "sessionAt", desc := "(I)LMailSessions$Session;" } : Jvm.MethodName)) ∈ lw_tbl := lw_at lw_m6 150 rfl
theorem q1501 : (Jvm.Cond.instanceMethod ({ cls := "MailSessions", name := "sessionAt", desc := "(I)LMailSessions$Session;" } : Jvm.MethodName)) ∈ lw_all := lw_g (lw_at lw_m6 151 rfl) rfl
theorem q1502 : (Jvm.Cond.code ({ cls := "MailSessions", name := "sessionAt", desc := "(I)LMailSessions$Session;" } : Jvm.MethodName) prog_1_method_31_code (2 : Nat) (Option.some (Jvm.ClassFile.FieldType.object "MailSessions$Session"))) ∈ lw_all := lw_g (lw_at lw_m6 152 rfl) rfl
theorem q1503 : (Jvm.Cond.constantLong "MailSessions" (244 : Nat) (6 : Int64)) ∈ lw_all := lw_g (lw_at lw_m6 153 rfl) rfl
theorem q1504 : (Jvm.Cond.methodLink "MailSessions" (250 : Nat) ({ cls := "MailSessions", name := "count", desc := "(Z)I" } : Jvm.MethodName)) ∈ lw_all := lw_g (lw_at lw_m6 154 rfl) rfl
theorem q1505 : (Jvm.Cond.methodLink "MailSessions" (259 : Nat) ({ cls := "MailSessions$Server", name := "gone", desc := "(LMailSessions$Session;I)I" } : Jvm.MethodName)) ∈ lw_all := lw_g (lw_at lw_m6 155 rfl) rfl
theorem q1506 : (Jvm.Cond.methodLink "MailSessions" (263 : Nat) ({ cls := "MailSessions$Server", name := "changed", desc := "(LMailSessions$Session;)I" } : Jvm.MethodName)) ∈ lw_all := lw_g (lw_at lw_m6 156 rfl) rfl
theorem q1507 : (Jvm.Cond.methodLink "MailSessions" (267 : Nat) ({ cls := "MailSessions$Server", name := "fresh", desc := "(LMailSessions$Session;)I" } : Jvm.MethodName)) ∈ lw_all := lw_g (lw_at lw_m6 157 rfl) rfl
theorem q1512 : (Jvm.Cond.instanceMethod ({ cls := "MailSessions", name := "entry", desc := "(III)I" } : Jvm.MethodName)) ∈ lw_all := lw_g (lw_at lw_m6 162 rfl) rfl
theorem q1513 : (Jvm.Cond.selects "MailSessions" ({ cls := "MailSessions", name := "entry", desc := "(III)I" } : Jvm.MethodName) ({ cls := "MailSessions", name := "entry", desc := "(III)I" } : Jvm.MethodName)) ∈ lw_all := lw_g (lw_at lw_m6 163 rfl) rfl
theorem q1514 : (Jvm.Cond.code ({ cls := "MailSessions", name := "entry", desc := "(III)I" } : Jvm.MethodName) prog_1_method_38_code (6 : Nat) (Option.some Jvm.ClassFile.FieldType.int)) ∈ lw_all := lw_g (lw_at lw_m6 164 rfl) rfl
theorem q1515 : (Jvm.Cond.methodLink "MailSessions" (270 : Nat) ({ cls := "MailSessions", name := "requireEntry", desc := "(LMailSessions$Session;I)V" } : Jvm.MethodName)) ∈ lw_all := lw_g (lw_at lw_m6 165 rfl) rfl
theorem q1516 : (Jvm.Cond.static ({ cls := "MailSessions", name := "requireEntry", desc := "(LMailSessions$Session;I)V" } : Jvm.MethodName)) ∈ lw_all := lw_g (lw_at lw_m6 166 rfl) rfl
theorem q1517 : (Jvm.Cond.code ({ cls := "MailSessions", name := "requireEntry", desc := "(LMailSessions$Session;I)V" } : Jvm.MethodName) prog_1_method_37_code (2 : Nat) (Option.none : Option Jvm.ClassFile.FieldType)) ∈ lw_all := lw_g (lw_at lw_m6 167 rfl) rfl
theorem q1518 : (Jvm.Cond.methodLink "MailSessions" (274 : Nat) ({ cls := "MailSessions$Server", name := "at", desc := "(LMailSessions$Session;I)LMailSessions$Message;" } : Jvm.MethodName)) ∈ lw_all := lw_g (lw_at lw_m6 168 rfl) rfl
theorem q1523 : (Jvm.Cond.instanceMethod ({ cls := "MailSessions", name := "numberOf", desc := "(II)I" } : Jvm.MethodName)) ∈ lw_all := lw_g (lw_at lw_m6 173 rfl) rfl
theorem q1524 : (Jvm.Cond.selects "MailSessions" ({ cls := "MailSessions", name := "numberOf", desc := "(II)I" } : Jvm.MethodName) ({ cls := "MailSessions", name := "numberOf", desc := "(II)I" } : Jvm.MethodName)) ∈ lw_all := lw_g (lw_at lw_m6 174 rfl) rfl
theorem q1525 : (Jvm.Cond.code ({ cls := "MailSessions", name := "numberOf", desc := "(II)I" } : Jvm.MethodName) prog_1_method_40_code (3 : Nat) (Option.some Jvm.ClassFile.FieldType.int)) ∈ lw_all := lw_g (lw_at lw_m6 175 rfl) rfl
theorem q1526 : (Jvm.Cond.methodLink "MailSessions" (285 : Nat) ({ cls := "MailSessions$Session", name := "find", desc := "(I)I" } : Jvm.MethodName)) ∈ lw_all := lw_g (lw_at lw_m6 176 rfl) rfl
theorem q1530 : (Jvm.Cond.methodLink "MailSessions" (286 : Nat) ({ cls := "MailSessions", name := "numberAt", desc := "(I)I" } : Jvm.MethodName)) ∈ lw_all := lw_g (lw_at lw_m6 180 rfl) rfl
theorem q1531 : (Jvm.Cond.static ({ cls := "MailSessions", name := "numberAt", desc := "(I)I" } : Jvm.MethodName)) ∈ lw_all := lw_g (lw_at lw_m6 181 rfl) rfl
theorem q1532 : (Jvm.Cond.code ({ cls := "MailSessions", name := "numberAt", desc := "(I)I" } : Jvm.MethodName) prog_1_method_39_code (1 : Nat) (Option.some Jvm.ClassFile.FieldType.int)) ∈ lw_all := lw_g (lw_at lw_m6 182 rfl) rfl
theorem q1537 : (Jvm.Cond.instanceMethod ({ cls := "MailSessions", name := "numberThen", desc := "(II)I" } : Jvm.MethodName)) ∈ lw_all := lw_g (lw_at lw_m6 187 rfl) rfl
theorem q1538 : (Jvm.Cond.selects "MailSessions" ({ cls := "MailSessions", name := "numberThen", desc := "(II)I" } : Jvm.MethodName) ({ cls := "MailSessions", name := "numberThen", desc := "(II)I" } : Jvm.MethodName)) ∈ lw_all := lw_g (lw_at lw_m6 188 rfl) rfl
theorem q1539 : (Jvm.Cond.code ({ cls := "MailSessions", name := "numberThen", desc := "(II)I" } : Jvm.MethodName) prog_1_method_41_code (4 : Nat) (Option.some Jvm.ClassFile.FieldType.int)) ∈ lw_all := lw_g (lw_at lw_m6 189 rfl) rfl
theorem q1544 : (Jvm.Cond.instanceMethod ({ cls := "MailSessions", name := "pending", desc := "(I)I" } : Jvm.MethodName)) ∈ lw_all := lw_g (lw_at lw_m6 194 rfl) rfl
theorem q1545 : (Jvm.Cond.selects "MailSessions" ({ cls := "MailSessions", name := "pending", desc := "(I)I" } : Jvm.MethodName) ({ cls := "MailSessions", name := "pending", desc := "(I)I" } : Jvm.MethodName)) ∈ lw_all := lw_g (lw_at lw_m6 195 rfl) rfl
theorem q1546 : (Jvm.Cond.code ({ cls := "MailSessions", name := "pending", desc := "(I)I" } : Jvm.MethodName) prog_1_method_42_code (2 : Nat) (Option.some Jvm.ClassFile.FieldType.int)) ∈ lw_all := lw_g (lw_at lw_m6 196 rfl) rfl
theorem q1551 : (Jvm.Cond.instanceMethod ({ cls := "MailSessions", name := "isCurrent", desc := "(I)Z" } : Jvm.MethodName)) ∈ lw_all := lw_g (lw_at lw_m6 201 rfl) rfl
theorem q1552 : (Jvm.Cond.selects "MailSessions" ({ cls := "MailSessions", name := "isCurrent", desc := "(I)Z" } : Jvm.MethodName) ({ cls := "MailSessions", name := "isCurrent", desc := "(I)Z" } : Jvm.MethodName)) ∈ lw_all := lw_g (lw_at lw_m6 202 rfl) rfl
theorem q1553 : (Jvm.Cond.code ({ cls := "MailSessions", name := "isCurrent", desc := "(I)Z" } : Jvm.MethodName) prog_1_method_44_code (2 : Nat) (Option.some Jvm.ClassFile.FieldType.boolean)) ∈ lw_all := lw_g (lw_at lw_m6 203 rfl) rfl
theorem q1558 : (Jvm.Cond.instanceMethod ({ cls := "MailSessions", name := "firstUnseen", desc := "(I)I" } : Jvm.MethodName)) ∈ lw_all := lw_g (lw_at lw_m6 208 rfl) rfl
theorem q1559 : (Jvm.Cond.selects "MailSessions" ({ cls := "MailSessions", name := "firstUnseen", desc := "(I)I" } : Jvm.MethodName) ({ cls := "MailSessions", name := "firstUnseen", desc := "(I)I" } : Jvm.MethodName)) ∈ lw_all := lw_g (lw_at lw_m6 209 rfl) rfl
theorem q1560 : (Jvm.Cond.code ({ cls := "MailSessions", name := "firstUnseen", desc := "(I)I" } : Jvm.MethodName) prog_1_method_45_code (4 : Nat) (Option.some Jvm.ClassFile.FieldType.int)) ∈ lw_all := lw_g (lw_at lw_m6 210 rfl) rfl
theorem q1565 : (Jvm.Cond.instanceMethod ({ cls := "MailSessions", name := "largest", desc := "(I)I" } : Jvm.MethodName)) ∈ lw_all := lw_g (lw_at lw_m6 215 rfl) rfl
theorem q1566 : (Jvm.Cond.selects "MailSessions" ({ cls := "MailSessions", name := "largest", desc := "(I)I" } : Jvm.MethodName) ({ cls := "MailSessions", name := "largest", desc := "(I)I" } : Jvm.MethodName)) ∈ lw_all := lw_g (lw_at lw_m6 216 rfl) rfl
theorem q1567 : (Jvm.Cond.code ({ cls := "MailSessions", name := "largest", desc := "(I)I" } : Jvm.MethodName) prog_1_method_46_code (7 : Nat) (Option.some Jvm.ClassFile.FieldType.int)) ∈ lw_all := lw_g (lw_at lw_m6 217 rfl) rfl
theorem q1572 : (Jvm.Cond.instanceMethod ({ cls := "MailSessions", name := "common", desc := "(II)I" } : Jvm.MethodName)) ∈ lw_all := lw_g (lw_at lw_m6 222 rfl) rfl
theorem q1573 : (Jvm.Cond.selects "MailSessions" ({ cls := "MailSessions", name := "common", desc := "(II)I" } : Jvm.MethodName) ({ cls := "MailSessions", name := "common", desc := "(II)I" } : Jvm.MethodName)) ∈ lw_all := lw_g (lw_at lw_m6 223 rfl) rfl
theorem q1574 : (Jvm.Cond.code ({ cls := "MailSessions", name := "common", desc := "(II)I" } : Jvm.MethodName) prog_1_method_47_code (7 : Nat) (Option.some Jvm.ClassFile.FieldType.int)) ∈ lw_all := lw_g (lw_at lw_m6 224 rfl) rfl
theorem q1579 : (Jvm.Cond.instanceMethod ({ cls := "MailSessions", name := "holders", desc := "(II)I" } : Jvm.MethodName)) ∈ lw_all := lw_g (lw_at lw_m6 229 rfl) rfl
theorem q1580 : (Jvm.Cond.selects "MailSessions" ({ cls := "MailSessions", name := "holders", desc := "(II)I" } : Jvm.MethodName) ({ cls := "MailSessions", name := "holders", desc := "(II)I" } : Jvm.MethodName)) ∈ lw_all := lw_g (lw_at lw_m6 230 rfl) rfl
theorem q1581 : (Jvm.Cond.code ({ cls := "MailSessions", name := "holders", desc := "(II)I" } : Jvm.MethodName) prog_1_method_48_code (7 : Nat) (Option.some Jvm.ClassFile.FieldType.int)) ∈ lw_all := lw_g (lw_at lw_m6 231 rfl) rfl
theorem q1586 : (Jvm.Cond.instanceMethod ({ cls := "MailSessions", name := "unseen", desc := "(I)F" } : Jvm.MethodName)) ∈ lw_all := lw_g (lw_at lw_m6 236 rfl) rfl
theorem q1587 : (Jvm.Cond.selects "MailSessions" ({ cls := "MailSessions", name := "unseen", desc := "(I)F" } : Jvm.MethodName) ({ cls := "MailSessions", name := "unseen", desc := "(I)F" } : Jvm.MethodName)) ∈ lw_all := lw_g (lw_at lw_m6 237 rfl) rfl
theorem q1588 : (Jvm.Cond.code ({ cls := "MailSessions", name := "unseen", desc := "(I)F" } : Jvm.MethodName) prog_1_method_50_code (3 : Nat) (Option.some Jvm.ClassFile.FieldType.float)) ∈ lw_all := lw_g (lw_at lw_m6 238 rfl) rfl
theorem q1589 : (Jvm.Cond.methodLink "MailSessions" (300 : Nat) ({ cls := "java/util/ArrayList", name := "isEmpty", desc := "()Z" } : Jvm.MethodName)) ∈ lw_all := lw_g (lw_at lw_m6 239 rfl) rfl
theorem q1597 : (Jvm.Cond.instanceMethod ({ cls := "MailSessions", name := "mean", desc := "(I)D" } : Jvm.MethodName)) ∈ lw_all := lw_g (lw_at lw_m7 7 rfl) rfl
theorem q1598 : (Jvm.Cond.selects "MailSessions" ({ cls := "MailSessions", name := "mean", desc := "(I)D" } : Jvm.MethodName) ({ cls := "MailSessions", name := "mean", desc := "(I)D" } : Jvm.MethodName)) ∈ lw_all := lw_g (lw_at lw_m7 8 rfl) rfl
theorem q1599 : (Jvm.Cond.code ({ cls := "MailSessions", name := "mean", desc := "(I)D" } : Jvm.MethodName) prog_1_method_51_code (3 : Nat) (Option.some Jvm.ClassFile.FieldType.double)) ∈ lw_all := lw_g (lw_at lw_m7 9 rfl) rfl
theorem q1604 : (Jvm.Cond.instanceMethod ({ cls := "MailSessions", name := "account", desc := "(II)I" } : Jvm.MethodName)) ∈ lw_all := lw_g (lw_at lw_m7 14 rfl) rfl
theorem q1605 : (Jvm.Cond.selects "MailSessions" ({ cls := "MailSessions", name := "account", desc := "(II)I" } : Jvm.MethodName) ({ cls := "MailSessions", name := "account", desc := "(II)I" } : Jvm.MethodName)) ∈ lw_all := lw_g (lw_at lw_m7 15 rfl) rfl
theorem q1606 : (Jvm.Cond.code ({ cls := "MailSessions", name := "account", desc := "(II)I" } : Jvm.MethodName) prog_1_method_52_code (4 : Nat) (Option.some Jvm.ClassFile.FieldType.int)) ∈ lw_all := lw_g (lw_at lw_m7 16 rfl) rfl
theorem q1612 : (Jvm.Cond.instanceMethod ({ cls := "MailSessions", name := "notice", desc := "(II)I" } : Jvm.MethodName)) ∈ lw_all := lw_g (lw_at lw_m7 22 rfl) rfl
theorem q1613 : (Jvm.Cond.selects "MailSessions" ({ cls := "MailSessions", name := "notice", desc := "(II)I" } : Jvm.MethodName) ({ cls := "MailSessions", name := "notice", desc := "(II)I" } : Jvm.MethodName)) ∈ lw_all := lw_g (lw_at lw_m7 23 rfl) rfl
theorem q1614 : (Jvm.Cond.code ({ cls := "MailSessions", name := "notice", desc := "(II)I" } : Jvm.MethodName) prog_1_method_53_code (3 : Nat) (Option.some Jvm.ClassFile.FieldType.int)) ∈ lw_all := lw_g (lw_at lw_m7 24 rfl) rfl
theorem q1615 : (Jvm.Cond.constantLong "MailSessions" (307 : Nat) (3 : Int64)) ∈ lw_all := lw_g (lw_at lw_m7 25 rfl) rfl
theorem q1616 : (Jvm.Cond.methodLink "MailSessions" (309 : Nat) ({ cls := "MailSessions", name := "requireElement", desc := "(Z)V" } : Jvm.MethodName)) ∈ lw_all := lw_g (lw_at lw_m7 26 rfl) rfl
theorem q1617 : (Jvm.Cond.static ({ cls := "MailSessions", name := "requireElement", desc := "(Z)V" } : Jvm.MethodName)) ∈ lw_all := lw_g (lw_at lw_m7 27 rfl) rfl
theorem q1618 : (Jvm.Cond.code ({ cls := "MailSessions", name := "requireElement", desc := "(Z)V" } : Jvm.MethodName) prog_1_method_5_code (1 : Nat) (Option.none : Option Jvm.ClassFile.FieldType)) ∈ lw_all := lw_g (lw_at lw_m7 28 rfl) rfl
theorem q1619 : (Jvm.Cond.classLink "MailSessions" (13 : Nat) "java/util/NoSuchElementException") ∈ lw_all := lw_g (lw_at lw_m7 29 rfl) rfl
theorem q1620 : (Jvm.Cond.methodLink "MailSessions" (15 : Nat) ({ cls := "java/util/NoSuchElementException", name := "<init>", desc := "()V" } : Jvm.MethodName)) ∈ lw_all := lw_g (lw_at lw_m7 30 rfl) rfl
theorem q1621 : (Jvm.Cond.methodLink "MailSessions" (314 : Nat) ({ cls := "MailSessions$Notice", name := "part", desc := "(I)I" } : Jvm.MethodName)) ∈ lw_all := lw_g (lw_at lw_m7 31 rfl) rfl
theorem q1629 : (Jvm.Cond.instanceMethod ({ cls := "MailSessions", name := "searchBox", desc := "(I)I" } : Jvm.MethodName)) ∈ lw_all := lw_g (lw_at lw_m7 39 rfl) rfl
theorem q1630 : (Jvm.Cond.selects "MailSessions" ({ cls := "MailSessions", name := "searchBox", desc := "(I)I" } : Jvm.MethodName) ({ cls := "MailSessions", name := "searchBox", desc := "(I)I" } : Jvm.MethodName)) ∈ lw_all := lw_g (lw_at lw_m7 40 rfl) rfl
theorem q1631 : (Jvm.Cond.code ({ cls := "MailSessions", name := "searchBox", desc := "(I)I" } : Jvm.MethodName) prog_1_method_54_code (6 : Nat) (Option.some Jvm.ClassFile.FieldType.int)) ∈ lw_all := lw_g (lw_at lw_m7 41 rfl) rfl
theorem q1632 : (Jvm.Cond.methodLink "MailSessions" (317 : Nat) ({ cls := "MailSessions", name := "readQuery", desc := "()LMailSessions$Test;" } : Jvm.MethodName)) ∈ lw_all := lw_g (lw_at lw_m7 42 rfl) rfl
theorem q1633 : (Jvm.Cond.privateMethod ({ cls := "MailSessions", name := "readQuery", desc := "()LMailSessions$Test;" } : Jvm.MethodName)) ∈ lw_tbl := lw_at lw_m7 43 rfl
theorem q1634 : (Jvm.Cond.instanceMethod ({ cls := "MailSessions", name := "readQuery", desc := "()LMailSessions$Test;" } : Jvm.MethodName)) ∈ lw_all := lw_g (lw_at lw_m7 44 rfl) rfl
theorem q1635 : (Jvm.Cond.codeWith ({ cls := "MailSessions", name := "readQuery", desc := "()LMailSessions$Test;" } : Jvm.MethodName) prog_1_method_23_code (4 : Nat) (Option.some (Jvm.ClassFile.FieldType.object "MailSessions$Test")) [((4 : Nat), (16 : Nat), (23 : Nat), (123 : Nat)), ((4 : Nat), (16 : Nat), (38 : Nat), (0 : Nat)), ((23 : Nat), (31 : Nat), (38 : Nat), (0 : Nat))]) ∈ lw_all := lw_g (lw_at lw_m7 45 rfl) rfl
theorem q1636 : (Jvm.Cond.methodLink "MailSessions" (149 : Nat) ({ cls := "MailSessions$Parser", name := "whole", desc := "()LMailSessions$Test;" } : Jvm.MethodName)) ∈ lw_all := lw_g (lw_at lw_m7 46 rfl) rfl
theorem q1677 : (Jvm.Cond.static ({ cls := "MailSessions", name := "both", desc := "(LMailSessions$Test;LMailSessions$Test;)LMailSessions$Test;" } : Jvm.MethodName)) ∈ lw_all := lw_g (lw_at lw_m7 87 rfl) rfl
theorem q1678 : (Jvm.Cond.code ({ cls := "MailSessions", name := "both", desc := "(LMailSessions$Test;LMailSessions$Test;)LMailSessions$Test;" } : Jvm.MethodName) prog_1_method_10_code (2 : Nat) (Option.some (Jvm.ClassFile.FieldType.object "MailSessions$Test"))) ∈ lw_all := lw_g (lw_at lw_m7 88 rfl) rfl
theorem q1679 : (Jvm.Cond.static ({ cls := "MailSessions", name := "lambda$both$2", desc := "(LMailSessions$Test;LMailSessions$Test;LMailSessions$Message;)Z" } : Jvm.MethodName)) ∈ lw_all := lw_g (lw_at lw_m7 89 rfl) rfl
theorem q1680 : (Jvm.Cond.code ({ cls := "MailSessions", name := "lambda$both$2", desc := "(LMailSessions$Test;LMailSessions$Test;LMailSessions$Message;)Z" } : Jvm.MethodName) prog_1_method_96_code (3 : Nat) (Option.some Jvm.ClassFile.FieldType.boolean)) ∈ lw_all := lw_g (lw_at lw_m7 90 rfl) rfl
theorem q1682 : (Jvm.Cond.static ({ cls := "MailSessions", name := "either", desc := "(LMailSessions$Test;LMailSessions$Test;)LMailSessions$Test;" } : Jvm.MethodName)) ∈ lw_all := lw_g (lw_at lw_m7 92 rfl) rfl
theorem q1683 : (Jvm.Cond.code ({ cls := "MailSessions", name := "either", desc := "(LMailSessions$Test;LMailSessions$Test;)LMailSessions$Test;" } : Jvm.MethodName) prog_1_method_9_code (2 : Nat) (Option.some (Jvm.ClassFile.FieldType.object "MailSessions$Test"))) ∈ lw_all := lw_g (lw_at lw_m7 93 rfl) rfl
theorem q1684 : (Jvm.Cond.static ({ cls := "MailSessions", name := "lambda$either$1", desc := "(LMailSessions$Test;LMailSessions$Test;LMailSessions$Message;)Z" } : Jvm.MethodName)) ∈ lw_all := lw_g (lw_at lw_m7 94 rfl) rfl
theorem q1685 : (Jvm.Cond.code ({ cls := "MailSessions", name := "lambda$either$1", desc := "(LMailSessions$Test;LMailSessions$Test;LMailSessions$Message;)Z" } : Jvm.MethodName) prog_1_method_97_code (3 : Nat) (Option.some Jvm.ClassFile.FieldType.boolean)) ∈ lw_all := lw_g (lw_at lw_m7 95 rfl) rfl
theorem q1690 : (Jvm.Cond.instanceMethod ({ cls := "MailSessions", name := "select", desc := "(IIZ)I" } : Jvm.MethodName)) ∈ lw_all := lw_g (lw_at lw_m7 100 rfl) rfl
theorem q1691 : (Jvm.Cond.selects "MailSessions" ({ cls := "MailSessions", name := "select", desc := "(IIZ)I" } : Jvm.MethodName) ({ cls := "MailSessions", name := "select", desc := "(IIZ)I" } : Jvm.MethodName)) ∈ lw_all := lw_g (lw_at lw_m7 101 rfl) rfl
theorem q1692 : (Jvm.Cond.code ({ cls := "MailSessions", name := "select", desc := "(IIZ)I" } : Jvm.MethodName) prog_1_method_59_code (7 : Nat) (Option.some Jvm.ClassFile.FieldType.int)) ∈ lw_all := lw_g (lw_at lw_m7 102 rfl) rfl
theorem q1693 : (Jvm.Cond.methodLink "MailSessions" (336 : Nat) ({ cls := "MailSessions", name := "begin", desc := "(I)LMailSessions$Session;" } : Jvm.MethodName)) ∈ lw_all := lw_g (lw_at lw_m7 103 rfl) rfl
theorem q1694 : (Jvm.Cond.privateMethod ({ cls := "MailSessions", name := "begin", desc := "(I)LMailSessions$Session;" } : Jvm.MethodName)) ∈ lw_tbl := lw_at lw_m7 104 rfl
theorem q1695 : (Jvm.Cond.instanceMethod ({ cls := "MailSessions", name := "begin", desc := "(I)LMailSessions$Session;" } : Jvm.MethodName)) ∈ lw_all := lw_g (lw_at lw_m7 105 rfl) rfl
theorem q1696 : (Jvm.Cond.code ({ cls := "MailSessions", name := "begin", desc := "(I)LMailSessions$Session;" } : Jvm.MethodName) prog_1_method_57_code (3 : Nat) (Option.some (Jvm.ClassFile.FieldType.object "MailSessions$Session"))) ∈ lw_all := lw_g (lw_at lw_m7 106 rfl) rfl
theorem q1697 : (Jvm.Cond.methodLink "MailSessions" (325 : Nat) ({ cls := "MailSessions", name := "change", desc := "()LMailSessions$Server;" } : Jvm.MethodName)) ∈ lw_all := lw_g (lw_at lw_m7 107 rfl) rfl
theorem q1698 : (Jvm.Cond.privateMethod ({ cls := "MailSessions", name := "change", desc := "()LMailSessions$Server;" } : Jvm.MethodName)) ∈ lw_tbl := lw_at lw_m7 108 rfl
theorem q1699 : (Jvm.Cond.instanceMethod ({ cls := "MailSessions", name := "change", desc := "()LMailSessions$Server;" } : Jvm.MethodName)) ∈ lw_all := lw_g (lw_at lw_m7 109 rfl) rfl
theorem q1700 : (Jvm.Cond.code ({ cls := "MailSessions", name := "change", desc := "()LMailSessions$Server;" } : Jvm.MethodName) prog_1_method_19_code (1 : Nat) (Option.some (Jvm.ClassFile.FieldType.object "MailSessions$Server"))) ∈ lw_all := lw_g (lw_at lw_m7 110 rfl) rfl
theorem q1701 : (Jvm.Cond.methodLink "MailSessions" (113 : Nat) ({ cls := "MailSessions$Server", name := "<init>", desc := "(LMailSessions$Server;)V" } : Jvm.MethodName)) ∈ lw_all := lw_g (lw_at lw_m7 111 rfl) rfl
theorem q1718 : (Jvm.Cond.methodLink "MailSessions" (339 : Nat) ({ cls := "MailSessions$Server", name := "select", desc := "(LMailSessions$Session;IZ)V" } : Jvm.MethodName)) ∈ lw_all := lw_g (lw_at lw_m7 128 rfl) rfl
theorem q1719 : (Jvm.Cond.methodLink "MailSessions" (332 : Nat) ({ cls := "MailSessions$Server", name := "tellIdle", desc := "(Ljava/util/ArrayList;)V" } : Jvm.MethodName)) ∈ lw_all := lw_g (lw_at lw_m7 129 rfl) rfl
theorem q1747 : (Jvm.Cond.fieldLinkNest "MailSessions" (449 : Nat) "MailSessions$Notice" "session" "I" "MailSessions") ∈ lw_tbl := lw_at lw_m7 157 rfl
theorem q1749 : (Jvm.Cond.fieldLinkNest "MailSessions" (452 : Nat) "MailSessions$Notice" "kind" "I" "MailSessions") ∈ lw_tbl := lw_at lw_m7 159 rfl
theorem q1751 : (Jvm.Cond.fieldLinkNest "MailSessions" (455 : Nat) "MailSessions$Notice" "number" "I" "MailSessions") ∈ lw_tbl := lw_at lw_m7 161 rfl
theorem q1753 : (Jvm.Cond.fieldLinkNest "MailSessions" (458 : Nat) "MailSessions$Notice" "flags" "I" "MailSessions") ∈ lw_tbl := lw_at lw_m7 163 rfl
theorem q1771 : (Jvm.Cond.instanceMethod ({ cls := "MailSessions", name := "noop", desc := "(I)I" } : Jvm.MethodName)) ∈ lw_all := lw_g (lw_at lw_m7 181 rfl) rfl
theorem q1772 : (Jvm.Cond.selects "MailSessions" ({ cls := "MailSessions", name := "noop", desc := "(I)I" } : Jvm.MethodName) ({ cls := "MailSessions", name := "noop", desc := "(I)I" } : Jvm.MethodName)) ∈ lw_all := lw_g (lw_at lw_m7 182 rfl) rfl
theorem q1773 : (Jvm.Cond.code ({ cls := "MailSessions", name := "noop", desc := "(I)I" } : Jvm.MethodName) prog_1_method_60_code (3 : Nat) (Option.some Jvm.ClassFile.FieldType.int)) ∈ lw_all := lw_g (lw_at lw_m7 183 rfl) rfl
theorem q1774 : (Jvm.Cond.methodLink "MailSessions" (343 : Nat) ({ cls := "MailSessions", name := "requireOpen", desc := "(LMailSessions$Session;)V" } : Jvm.MethodName)) ∈ lw_all := lw_g (lw_at lw_m7 184 rfl) rfl
theorem q1775 : (Jvm.Cond.static ({ cls := "MailSessions", name := "requireOpen", desc := "(LMailSessions$Session;)V" } : Jvm.MethodName)) ∈ lw_all := lw_g (lw_at lw_m7 185 rfl) rfl
theorem q1776 : (Jvm.Cond.code ({ cls := "MailSessions", name := "requireOpen", desc := "(LMailSessions$Session;)V" } : Jvm.MethodName) prog_1_method_55_code (1 : Nat) (Option.none : Option Jvm.ClassFile.FieldType)) ∈ lw_all := lw_g (lw_at lw_m7 186 rfl) rfl
theorem q1777 : (Jvm.Cond.methodLink "MailSessions" (347 : Nat) ({ cls := "MailSessions", name := "end", desc := "(IZ)I" } : Jvm.MethodName)) ∈ lw_all := lw_g (lw_at lw_m7 187 rfl) rfl
theorem q1778 : (Jvm.Cond.privateMethod ({ cls := "MailSessions", name := "end", desc := "(IZ)I" } : Jvm.MethodName)) ∈ lw_tbl := lw_at lw_m7 188 rfl
theorem q1779 : (Jvm.Cond.instanceMethod ({ cls := "MailSessions", name := "end", desc := "(IZ)I" } : Jvm.MethodName)) ∈ lw_all := lw_g (lw_at lw_m7 189 rfl) rfl
theorem q1780 : (Jvm.Cond.code ({ cls := "MailSessions", name := "end", desc := "(IZ)I" } : Jvm.MethodName) prog_1_method_58_code (4 : Nat) (Option.some Jvm.ClassFile.FieldType.int)) ∈ lw_all := lw_g (lw_at lw_m7 190 rfl) rfl
theorem q1781 : (Jvm.Cond.methodLink "MailSessions" (328 : Nat) ({ cls := "MailSessions$Server", name := "tell", desc := "(IZLjava/util/ArrayList;)I" } : Jvm.MethodName)) ∈ lw_all := lw_g (lw_at lw_m7 191 rfl) rfl
theorem q1786 : (Jvm.Cond.instanceMethod ({ cls := "MailSessions", name := "startIdle", desc := "(I)I" } : Jvm.MethodName)) ∈ lw_all := lw_g (lw_at lw_m7 196 rfl) rfl
theorem q1787 : (Jvm.Cond.selects "MailSessions" ({ cls := "MailSessions", name := "startIdle", desc := "(I)I" } : Jvm.MethodName) ({ cls := "MailSessions", name := "startIdle", desc := "(I)I" } : Jvm.MethodName)) ∈ lw_all := lw_g (lw_at lw_m7 197 rfl) rfl
theorem q1788 : (Jvm.Cond.code ({ cls := "MailSessions", name := "startIdle", desc := "(I)I" } : Jvm.MethodName) prog_1_method_61_code (2 : Nat) (Option.some Jvm.ClassFile.FieldType.int)) ∈ lw_all := lw_g (lw_at lw_m7 198 rfl) rfl
theorem q1793 : (Jvm.Cond.instanceMethod ({ cls := "MailSessions", name := "stopIdle", desc := "(I)I" } : Jvm.MethodName)) ∈ lw_all := lw_g (lw_at lw_m7 203 rfl) rfl
theorem q1794 : (Jvm.Cond.selects "MailSessions" ({ cls := "MailSessions", name := "stopIdle", desc := "(I)I" } : Jvm.MethodName) ({ cls := "MailSessions", name := "stopIdle", desc := "(I)I" } : Jvm.MethodName)) ∈ lw_all := lw_g (lw_at lw_m7 204 rfl) rfl
theorem q1795 : (Jvm.Cond.code ({ cls := "MailSessions", name := "stopIdle", desc := "(I)I" } : Jvm.MethodName) prog_1_method_62_code (2 : Nat) (Option.some Jvm.ClassFile.FieldType.int)) ∈ lw_all := lw_g (lw_at lw_m7 205 rfl) rfl
theorem q1800 : (Jvm.Cond.instanceMethod ({ cls := "MailSessions", name := "fetch", desc := "(IIIZ)I" } : Jvm.MethodName)) ∈ lw_all := lw_g (lw_at lw_m7 210 rfl) rfl
theorem q1801 : (Jvm.Cond.selects "MailSessions" ({ cls := "MailSessions", name := "fetch", desc := "(IIIZ)I" } : Jvm.MethodName) ({ cls := "MailSessions", name := "fetch", desc := "(IIIZ)I" } : Jvm.MethodName)) ∈ lw_all := lw_g (lw_at lw_m7 211 rfl) rfl
theorem q1802 : (Jvm.Cond.code ({ cls := "MailSessions", name := "fetch", desc := "(IIIZ)I" } : Jvm.MethodName) prog_1_method_65_code (9 : Nat) (Option.some Jvm.ClassFile.FieldType.int)) ∈ lw_all := lw_g (lw_at lw_m7 212 rfl) rfl
theorem q1803 : (Jvm.Cond.methodLink "MailSessions" (351 : Nat) ({ cls := "MailSessions", name := "rangeOf", desc := "(III)LMailSessions$Session;" } : Jvm.MethodName)) ∈ lw_all := lw_g (lw_at lw_m7 213 rfl) rfl
theorem q1804 : (Jvm.Cond.privateMethod ({ cls := "MailSessions", name := "rangeOf", desc := "(III)LMailSessions$Session;" } : Jvm.MethodName)) ∈ lw_tbl := lw_at lw_m7 214 rfl
theorem q1805 : (Jvm.Cond.instanceMethod ({ cls := "MailSessions", name := "rangeOf", desc := "(III)LMailSessions$Session;" } : Jvm.MethodName)) ∈ lw_all := lw_g (lw_at lw_m7 215 rfl) rfl
theorem q1806 : (Jvm.Cond.code ({ cls := "MailSessions", name := "rangeOf", desc := "(III)LMailSessions$Session;" } : Jvm.MethodName) prog_1_method_64_code (5 : Nat) (Option.some (Jvm.ClassFile.FieldType.object "MailSessions$Session"))) ∈ lw_all := lw_g (lw_at lw_m7 216 rfl) rfl
theorem q1807 : (Jvm.Cond.methodLink "MailSessions" (355 : Nat) ({ cls := "MailSessions", name := "boxOf", desc := "(LMailSessions$Session;)LMailSessions$Box;" } : Jvm.MethodName)) ∈ lw_all := lw_g (lw_at lw_m7 217 rfl) rfl
theorem q1808 : (Jvm.Cond.privateMethod ({ cls := "MailSessions", name := "boxOf", desc := "(LMailSessions$Session;)LMailSessions$Box;" } : Jvm.MethodName)) ∈ lw_tbl := lw_at lw_m7 218 rfl
theorem q1809 : (Jvm.Cond.instanceMethod ({ cls := "MailSessions", name := "boxOf", desc := "(LMailSessions$Session;)LMailSessions$Box;" } : Jvm.MethodName)) ∈ lw_all := lw_g (lw_at lw_m7 219 rfl) rfl
theorem q1810 : (Jvm.Cond.code ({ cls := "MailSessions", name := "boxOf", desc := "(LMailSessions$Session;)LMailSessions$Box;" } : Jvm.MethodName) prog_1_method_63_code (2 : Nat) (Option.some (Jvm.ClassFile.FieldType.object "MailSessions$Box"))) ∈ lw_all := lw_g (lw_at lw_m7 220 rfl) rfl
theorem q1811 : (Jvm.Cond.methodLink "MailSessions" (359 : Nat) ({ cls := "MailSessions$Server", name := "range", desc := "(LMailSessions$Session;II)LMailSessions$Test;" } : Jvm.MethodName)) ∈ lw_all := lw_g (lw_at lw_m7 221 rfl) rfl
theorem q1819 : (Jvm.Cond.static ({ cls := "MailSessions", name := "lambda$fetch$8", desc := "(I)I" } : Jvm.MethodName)) ∈ lw_all := lw_g (lw_at lw_m7 229 rfl) rfl
theorem q1820 : (Jvm.Cond.code ({ cls := "MailSessions", name := "lambda$fetch$8", desc := "(I)I" } : Jvm.MethodName) prog_1_method_90_code (1 : Nat) (Option.some Jvm.ClassFile.FieldType.int)) ∈ lw_all := lw_g (lw_at lw_m7 230 rfl) rfl
theorem q1821 : (Jvm.Cond.methodLink "MailSessions" (366 : Nat) ({ cls := "MailSessions$Box", name := "change", desc := "(LMailSessions$Test;LMailSessions$Change;)I" } : Jvm.MethodName)) ∈ lw_all := lw_g (lw_at lw_m7 231 rfl) rfl
theorem q1843 : (Jvm.Cond.instanceMethod ({ cls := "MailSessions", name := "store", desc := "(IIIIIZ)I" } : Jvm.MethodName)) ∈ lw_all := lw_g (lw_at lw_m8 13 rfl) rfl
theorem q1844 : (Jvm.Cond.selects "MailSessions" ({ cls := "MailSessions", name := "store", desc := "(IIIIIZ)I" } : Jvm.MethodName) ({ cls := "MailSessions", name := "store", desc := "(IIIIIZ)I" } : Jvm.MethodName)) ∈ lw_all := lw_g (lw_at lw_m8 14 rfl) rfl
theorem q1845 : (Jvm.Cond.code ({ cls := "MailSessions", name := "store", desc := "(IIIIIZ)I" } : Jvm.MethodName) prog_1_method_67_code (12 : Nat) (Option.some Jvm.ClassFile.FieldType.int)) ∈ lw_all := lw_g (lw_at lw_m8 15 rfl) rfl
theorem q1846 : (Jvm.Cond.methodLink "MailSessions" (371 : Nat) ({ cls := "MailSessions", name := "requireFlags", desc := "(II)V" } : Jvm.MethodName)) ∈ lw_all := lw_g (lw_at lw_m8 16 rfl) rfl
theorem q1847 : (Jvm.Cond.static ({ cls := "MailSessions", name := "requireFlags", desc := "(II)V" } : Jvm.MethodName)) ∈ lw_all := lw_g (lw_at lw_m8 17 rfl) rfl
theorem q1848 : (Jvm.Cond.code ({ cls := "MailSessions", name := "requireFlags", desc := "(II)V" } : Jvm.MethodName) prog_1_method_66_code (2 : Nat) (Option.none : Option Jvm.ClassFile.FieldType)) ∈ lw_all := lw_g (lw_at lw_m8 18 rfl) rfl
theorem q1849 : (Jvm.Cond.constantLong "MailSessions" (369 : Nat) (31 : Int64)) ∈ lw_all := lw_g (lw_at lw_m8 19 rfl) rfl
theorem q1850 : (Jvm.Cond.methodLink "MailSessions" (375 : Nat) ({ cls := "MailSessions", name := "requireWriter", desc := "(LMailSessions$Session;)V" } : Jvm.MethodName)) ∈ lw_all := lw_g (lw_at lw_m8 20 rfl) rfl
theorem q1851 : (Jvm.Cond.static ({ cls := "MailSessions", name := "requireWriter", desc := "(LMailSessions$Session;)V" } : Jvm.MethodName)) ∈ lw_all := lw_g (lw_at lw_m8 21 rfl) rfl
theorem q1852 : (Jvm.Cond.code ({ cls := "MailSessions", name := "requireWriter", desc := "(LMailSessions$Session;)V" } : Jvm.MethodName) prog_1_method_56_code (1 : Nat) (Option.none : Option Jvm.ClassFile.FieldType)) ∈ lw_all := lw_g (lw_at lw_m8 22 rfl) rfl
theorem q1853 : (Jvm.Cond.methodLink "MailSessions" (378 : Nat) ({ cls := "MailSessions", name := "changed", desc := "(II)LMailSessions$Change;" } : Jvm.MethodName)) ∈ lw_all := lw_g (lw_at lw_m8 23 rfl) rfl
theorem q1854 : (Jvm.Cond.static ({ cls := "MailSessions", name := "changed", desc := "(II)LMailSessions$Change;" } : Jvm.MethodName)) ∈ lw_all := lw_g (lw_at lw_m8 24 rfl) rfl
theorem q1855 : (Jvm.Cond.code ({ cls := "MailSessions", name := "changed", desc := "(II)LMailSessions$Change;" } : Jvm.MethodName) prog_1_method_13_code (3 : Nat) (Option.some (Jvm.ClassFile.FieldType.object "MailSessions$Change"))) ∈ lw_all := lw_g (lw_at lw_m8 25 rfl) rfl
theorem q1856 : (Jvm.Cond.classLink "MailSessions" (30 : Nat) "MailSessions$Change") ∈ lw_all := lw_g (lw_at lw_m8 26 rfl) rfl
theorem q1858 : (Jvm.Cond.static ({ cls := "MailSessions", name := "lambda$changed$5", desc := "(II)I" } : Jvm.MethodName)) ∈ lw_all := lw_g (lw_at lw_m8 28 rfl) rfl
theorem q1859 : (Jvm.Cond.code ({ cls := "MailSessions", name := "lambda$changed$5", desc := "(II)I" } : Jvm.MethodName) prog_1_method_93_code (2 : Nat) (Option.some Jvm.ClassFile.FieldType.int)) ∈ lw_all := lw_g (lw_at lw_m8 29 rfl) rfl
theorem q1860 : (Jvm.Cond.static ({ cls := "MailSessions", name := "lambda$changed$6", desc := "(II)I" } : Jvm.MethodName)) ∈ lw_all := lw_g (lw_at lw_m8 30 rfl) rfl
theorem q1861 : (Jvm.Cond.code ({ cls := "MailSessions", name := "lambda$changed$6", desc := "(II)I" } : Jvm.MethodName) prog_1_method_92_code (2 : Nat) (Option.some Jvm.ClassFile.FieldType.int)) ∈ lw_all := lw_g (lw_at lw_m8 31 rfl) rfl
theorem q1862 : (Jvm.Cond.static ({ cls := "MailSessions", name := "lambda$changed$7", desc := "(II)I" } : Jvm.MethodName)) ∈ lw_all := lw_g (lw_at lw_m8 32 rfl) rfl
theorem q1863 : (Jvm.Cond.code ({ cls := "MailSessions", name := "lambda$changed$7", desc := "(II)I" } : Jvm.MethodName) prog_1_method_91_code (2 : Nat) (Option.some Jvm.ClassFile.FieldType.int)) ∈ lw_all := lw_g (lw_at lw_m8 33 rfl) rfl
theorem q1868 : (Jvm.Cond.instanceMethod ({ cls := "MailSessions", name := "uidStore", desc := "(IIIII)I" } : Jvm.MethodName)) ∈ lw_all := lw_g (lw_at lw_m8 38 rfl) rfl
theorem q1869 : (Jvm.Cond.selects "MailSessions" ({ cls := "MailSessions", name := "uidStore", desc := "(IIIII)I" } : Jvm.MethodName) ({ cls := "MailSessions", name := "uidStore", desc := "(IIIII)I" } : Jvm.MethodName)) ∈ lw_all := lw_g (lw_at lw_m8 39 rfl) rfl
theorem q1870 : (Jvm.Cond.code ({ cls := "MailSessions", name := "uidStore", desc := "(IIIII)I" } : Jvm.MethodName) prog_1_method_68_code (10 : Nat) (Option.some Jvm.ClassFile.FieldType.int)) ∈ lw_all := lw_g (lw_at lw_m8 40 rfl) rfl
theorem q1871 : (Jvm.Cond.methodLink "MailSessions" (381 : Nat) ({ cls := "MailSessions", name := "named", desc := "(II)LMailSessions$Test;" } : Jvm.MethodName)) ∈ lw_all := lw_g (lw_at lw_m8 41 rfl) rfl
theorem q1876 : (Jvm.Cond.instanceMethod ({ cls := "MailSessions", name := "search", desc := "(I)J" } : Jvm.MethodName)) ∈ lw_all := lw_g (lw_at lw_m8 46 rfl) rfl
theorem q1877 : (Jvm.Cond.selects "MailSessions" ({ cls := "MailSessions", name := "search", desc := "(I)J" } : Jvm.MethodName) ({ cls := "MailSessions", name := "search", desc := "(I)J" } : Jvm.MethodName)) ∈ lw_all := lw_g (lw_at lw_m8 47 rfl) rfl
theorem q1878 : (Jvm.Cond.code ({ cls := "MailSessions", name := "search", desc := "(I)J" } : Jvm.MethodName) prog_1_method_69_code (8 : Nat) (Option.some Jvm.ClassFile.FieldType.long)) ∈ lw_all := lw_g (lw_at lw_m8 48 rfl) rfl
theorem q1879 : (Jvm.Cond.constantLong "MailSessions" (384 : Nat) (-4 : Int64)) ∈ lw_all := lw_g (lw_at lw_m8 49 rfl) rfl
theorem q1884 : (Jvm.Cond.instanceMethod ({ cls := "MailSessions", name := "expunge", desc := "(I)I" } : Jvm.MethodName)) ∈ lw_all := lw_g (lw_at lw_m8 54 rfl) rfl
theorem q1885 : (Jvm.Cond.selects "MailSessions" ({ cls := "MailSessions", name := "expunge", desc := "(I)I" } : Jvm.MethodName) ({ cls := "MailSessions", name := "expunge", desc := "(I)I" } : Jvm.MethodName)) ∈ lw_all := lw_g (lw_at lw_m8 55 rfl) rfl
theorem q1886 : (Jvm.Cond.code ({ cls := "MailSessions", name := "expunge", desc := "(I)I" } : Jvm.MethodName) prog_1_method_71_code (2 : Nat) (Option.some Jvm.ClassFile.FieldType.int)) ∈ lw_all := lw_g (lw_at lw_m8 56 rfl) rfl
theorem q1887 : (Jvm.Cond.methodLink "MailSessions" (389 : Nat) ({ cls := "MailSessions", name := "removes", desc := "(ILMailSessions$Test;)I" } : Jvm.MethodName)) ∈ lw_all := lw_g (lw_at lw_m8 57 rfl) rfl
theorem q1888 : (Jvm.Cond.privateMethod ({ cls := "MailSessions", name := "removes", desc := "(ILMailSessions$Test;)I" } : Jvm.MethodName)) ∈ lw_tbl := lw_at lw_m8 58 rfl
theorem q1889 : (Jvm.Cond.instanceMethod ({ cls := "MailSessions", name := "removes", desc := "(ILMailSessions$Test;)I" } : Jvm.MethodName)) ∈ lw_all := lw_g (lw_at lw_m8 59 rfl) rfl
theorem q1890 : (Jvm.Cond.code ({ cls := "MailSessions", name := "removes", desc := "(ILMailSessions$Test;)I" } : Jvm.MethodName) prog_1_method_70_code (6 : Nat) (Option.some Jvm.ClassFile.FieldType.int)) ∈ lw_all := lw_g (lw_at lw_m8 60 rfl) rfl
theorem q1891 : (Jvm.Cond.methodLink "MailSessions" (386 : Nat) ({ cls := "MailSessions$Box", name := "remove", desc := "(LMailSessions$Test;)I" } : Jvm.MethodName)) ∈ lw_all := lw_g (lw_at lw_m8 61 rfl) rfl
theorem q1908 : (Jvm.Cond.instanceMethod ({ cls := "MailSessions", name := "uidExpunge", desc := "(III)I" } : Jvm.MethodName)) ∈ lw_all := lw_g (lw_at lw_m8 78 rfl) rfl
theorem q1909 : (Jvm.Cond.selects "MailSessions" ({ cls := "MailSessions", name := "uidExpunge", desc := "(III)I" } : Jvm.MethodName) ({ cls := "MailSessions", name := "uidExpunge", desc := "(III)I" } : Jvm.MethodName)) ∈ lw_all := lw_g (lw_at lw_m8 79 rfl) rfl
theorem q1910 : (Jvm.Cond.code ({ cls := "MailSessions", name := "uidExpunge", desc := "(III)I" } : Jvm.MethodName) prog_1_method_72_code (4 : Nat) (Option.some Jvm.ClassFile.FieldType.int)) ∈ lw_all := lw_g (lw_at lw_m8 80 rfl) rfl
theorem q1911 : (Jvm.Cond.methodLink "MailSessions" (393 : Nat) ({ cls := "MailSessions", name := "both", desc := "(LMailSessions$Test;LMailSessions$Test;)LMailSessions$Test;" } : Jvm.MethodName)) ∈ lw_all := lw_g (lw_at lw_m8 81 rfl) rfl
theorem q1916 : (Jvm.Cond.instanceMethod ({ cls := "MailSessions", name := "copy", desc := "(IIII)I" } : Jvm.MethodName)) ∈ lw_all := lw_g (lw_at lw_m8 86 rfl) rfl
theorem q1917 : (Jvm.Cond.selects "MailSessions" ({ cls := "MailSessions", name := "copy", desc := "(IIII)I" } : Jvm.MethodName) ({ cls := "MailSessions", name := "copy", desc := "(IIII)I" } : Jvm.MethodName)) ∈ lw_all := lw_g (lw_at lw_m8 87 rfl) rfl
theorem q1918 : (Jvm.Cond.code ({ cls := "MailSessions", name := "copy", desc := "(IIII)I" } : Jvm.MethodName) prog_1_method_74_code (10 : Nat) (Option.some Jvm.ClassFile.FieldType.int)) ∈ lw_all := lw_g (lw_at lw_m8 88 rfl) rfl
theorem q1919 : (Jvm.Cond.methodLink "MailSessions" (396 : Nat) ({ cls := "MailSessions", name := "requireRoom", desc := "(LMailSessions$Session;III)V" } : Jvm.MethodName)) ∈ lw_all := lw_g (lw_at lw_m8 89 rfl) rfl
theorem q1920 : (Jvm.Cond.privateMethod ({ cls := "MailSessions", name := "requireRoom", desc := "(LMailSessions$Session;III)V" } : Jvm.MethodName)) ∈ lw_tbl := lw_at lw_m8 90 rfl
theorem q1921 : (Jvm.Cond.instanceMethod ({ cls := "MailSessions", name := "requireRoom", desc := "(LMailSessions$Session;III)V" } : Jvm.MethodName)) ∈ lw_all := lw_g (lw_at lw_m8 91 rfl) rfl
theorem q1922 : (Jvm.Cond.code ({ cls := "MailSessions", name := "requireRoom", desc := "(LMailSessions$Session;III)V" } : Jvm.MethodName) prog_1_method_73_code (6 : Nat) (Option.none : Option Jvm.ClassFile.FieldType)) ∈ lw_all := lw_g (lw_at lw_m8 92 rfl) rfl
theorem q1923 : (Jvm.Cond.methodLink "MailSessions" (400 : Nat) ({ cls := "MailSessions$Server", name := "copy", desc := "(LMailSessions$Box;LMailSessions$Test;LMailSessions$Box;)I" } : Jvm.MethodName)) ∈ lw_all := lw_g (lw_at lw_m8 93 rfl) rfl
theorem q1934 : (Jvm.Cond.instanceMethod ({ cls := "MailSessions", name := "move", desc := "(IIII)I" } : Jvm.MethodName)) ∈ lw_all := lw_g (lw_at lw_m8 104 rfl) rfl
theorem q1935 : (Jvm.Cond.selects "MailSessions" ({ cls := "MailSessions", name := "move", desc := "(IIII)I" } : Jvm.MethodName) ({ cls := "MailSessions", name := "move", desc := "(IIII)I" } : Jvm.MethodName)) ∈ lw_all := lw_g (lw_at lw_m8 105 rfl) rfl
theorem q1936 : (Jvm.Cond.code ({ cls := "MailSessions", name := "move", desc := "(IIII)I" } : Jvm.MethodName) prog_1_method_75_code (11 : Nat) (Option.some Jvm.ClassFile.FieldType.int)) ∈ lw_all := lw_g (lw_at lw_m8 106 rfl) rfl
theorem q1941 : (Jvm.Cond.instanceMethod ({ cls := "MailSessions", name := "close", desc := "(I)I" } : Jvm.MethodName)) ∈ lw_all := lw_g (lw_at lw_m8 111 rfl) rfl
theorem q1942 : (Jvm.Cond.selects "MailSessions" ({ cls := "MailSessions", name := "close", desc := "(I)I" } : Jvm.MethodName) ({ cls := "MailSessions", name := "close", desc := "(I)I" } : Jvm.MethodName)) ∈ lw_all := lw_g (lw_at lw_m8 112 rfl) rfl
theorem q1943 : (Jvm.Cond.code ({ cls := "MailSessions", name := "close", desc := "(I)I" } : Jvm.MethodName) prog_1_method_76_code (4 : Nat) (Option.some Jvm.ClassFile.FieldType.int)) ∈ lw_all := lw_g (lw_at lw_m8 113 rfl) rfl
theorem q1944 : (Jvm.Cond.methodLink "MailSessions" (404 : Nat) ({ cls := "MailSessions$Session", name := "leave", desc := "()V" } : Jvm.MethodName)) ∈ lw_all := lw_g (lw_at lw_m8 114 rfl) rfl
theorem q1949 : (Jvm.Cond.instanceMethod ({ cls := "MailSessions", name := "deliver", desc := "(III)I" } : Jvm.MethodName)) ∈ lw_all := lw_g (lw_at lw_m8 119 rfl) rfl
theorem q1950 : (Jvm.Cond.selects "MailSessions" ({ cls := "MailSessions", name := "deliver", desc := "(III)I" } : Jvm.MethodName) ({ cls := "MailSessions", name := "deliver", desc := "(III)I" } : Jvm.MethodName)) ∈ lw_all := lw_g (lw_at lw_m8 120 rfl) rfl
theorem q1951 : (Jvm.Cond.code ({ cls := "MailSessions", name := "deliver", desc := "(III)I" } : Jvm.MethodName) prog_1_method_77_code (6 : Nat) (Option.some Jvm.ClassFile.FieldType.int)) ∈ lw_all := lw_g (lw_at lw_m8 121 rfl) rfl
theorem q1952 : (Jvm.Cond.constantLong "MailSessions" (407 : Nat) (9999 : Int64)) ∈ lw_all := lw_g (lw_at lw_m8 122 rfl) rfl
theorem q1953 : (Jvm.Cond.methodLink "MailSessions" (409 : Nat) ({ cls := "MailSessions$Server", name := "isFull", desc := "(I)Z" } : Jvm.MethodName)) ∈ lw_all := lw_g (lw_at lw_m8 123 rfl) rfl
theorem q1954 : (Jvm.Cond.methodLink "MailSessions" (413 : Nat) ({ cls := "MailSessions$Box", name := "add", desc := "(II)I" } : Jvm.MethodName)) ∈ lw_all := lw_g (lw_at lw_m8 124 rfl) rfl
theorem q1959 : (Jvm.Cond.instanceMethod ({ cls := "MailSessions", name := "setLimit", desc := "(I)I" } : Jvm.MethodName)) ∈ lw_all := lw_g (lw_at lw_m8 129 rfl) rfl
theorem q1960 : (Jvm.Cond.selects "MailSessions" ({ cls := "MailSessions", name := "setLimit", desc := "(I)I" } : Jvm.MethodName) ({ cls := "MailSessions", name := "setLimit", desc := "(I)I" } : Jvm.MethodName)) ∈ lw_all := lw_g (lw_at lw_m8 130 rfl) rfl
theorem q1961 : (Jvm.Cond.code ({ cls := "MailSessions", name := "setLimit", desc := "(I)I" } : Jvm.MethodName) prog_1_method_78_code (3 : Nat) (Option.some Jvm.ClassFile.FieldType.int)) ∈ lw_all := lw_g (lw_at lw_m8 131 rfl) rfl
theorem q1962 : (Jvm.Cond.constantLong "MailSessions" (417 : Nat) (30 : Int64)) ∈ lw_all := lw_g (lw_at lw_m8 132 rfl) rfl
theorem q1967 : (Jvm.Cond.instanceMethod ({ cls := "MailSessions", name := "keep", desc := "(I)I" } : Jvm.MethodName)) ∈ lw_all := lw_g (lw_at lw_m8 137 rfl) rfl
theorem q1968 : (Jvm.Cond.selects "MailSessions" ({ cls := "MailSessions", name := "keep", desc := "(I)I" } : Jvm.MethodName) ({ cls := "MailSessions", name := "keep", desc := "(I)I" } : Jvm.MethodName)) ∈ lw_all := lw_g (lw_at lw_m8 138 rfl) rfl
theorem q1969 : (Jvm.Cond.code ({ cls := "MailSessions", name := "keep", desc := "(I)I" } : Jvm.MethodName) prog_1_method_80_code (2 : Nat) (Option.some Jvm.ClassFile.FieldType.int)) ∈ lw_all := lw_g (lw_at lw_m8 139 rfl) rfl
theorem q1970 : (Jvm.Cond.methodLink "MailSessions" (419 : Nat) ({ cls := "MailSessions", name := "requireSlot", desc := "(I)V" } : Jvm.MethodName)) ∈ lw_all := lw_g (lw_at lw_m8 140 rfl) rfl
theorem q1971 : (Jvm.Cond.static ({ cls := "MailSessions", name := "requireSlot", desc := "(I)V" } : Jvm.MethodName)) ∈ lw_all := lw_g (lw_at lw_m8 141 rfl) rfl
theorem q1972 : (Jvm.Cond.code ({ cls := "MailSessions", name := "requireSlot", desc := "(I)V" } : Jvm.MethodName) prog_1_method_79_code (1 : Nat) (Option.none : Option Jvm.ClassFile.FieldType)) ∈ lw_all := lw_g (lw_at lw_m8 142 rfl) rfl
theorem q1977 : (Jvm.Cond.instanceMethod ({ cls := "MailSessions", name := "restore", desc := "(I)I" } : Jvm.MethodName)) ∈ lw_all := lw_g (lw_at lw_m8 147 rfl) rfl
theorem q1978 : (Jvm.Cond.selects "MailSessions" ({ cls := "MailSessions", name := "restore", desc := "(I)I" } : Jvm.MethodName) ({ cls := "MailSessions", name := "restore", desc := "(I)I" } : Jvm.MethodName)) ∈ lw_all := lw_g (lw_at lw_m8 148 rfl) rfl
theorem q1979 : (Jvm.Cond.code ({ cls := "MailSessions", name := "restore", desc := "(I)I" } : Jvm.MethodName) prog_1_method_81_code (2 : Nat) (Option.some Jvm.ClassFile.FieldType.int)) ∈ lw_all := lw_g (lw_at lw_m8 149 rfl) rfl
theorem q1984 : (Jvm.Cond.instanceMethod ({ cls := "MailSessions", name := "undo", desc := "()I" } : Jvm.MethodName)) ∈ lw_all := lw_g (lw_at lw_m8 154 rfl) rfl
theorem q1985 : (Jvm.Cond.selects "MailSessions" ({ cls := "MailSessions", name := "undo", desc := "()I" } : Jvm.MethodName) ({ cls := "MailSessions", name := "undo", desc := "()I" } : Jvm.MethodName)) ∈ lw_all := lw_g (lw_at lw_m8 155 rfl) rfl
theorem q1986 : (Jvm.Cond.code ({ cls := "MailSessions", name := "undo", desc := "()I" } : Jvm.MethodName) prog_1_method_82_code (1 : Nat) (Option.some Jvm.ClassFile.FieldType.int)) ∈ lw_all := lw_g (lw_at lw_m8 156 rfl) rfl
theorem q1987 : (Jvm.Cond.methodLink "MailSessions" (422 : Nat) ({ cls := "java/util/ArrayDeque", name := "isEmpty", desc := "()Z" } : Jvm.MethodName)) ∈ lw_all := lw_g (lw_at lw_m8 157 rfl) rfl
theorem q1991 : (Jvm.Cond.methodLink "MailSessions" (423 : Nat) ({ cls := "java/util/ArrayDeque", name := "removeLast", desc := "()Ljava/lang/Object;" } : Jvm.MethodName)) ∈ lw_all := lw_g (lw_at lw_m8 161 rfl) rfl
theorem q2006 : (Jvm.Cond.instanceMethod ({ cls := "MailSessions", name := "writeBox", desc := "(I)I" } : Jvm.MethodName)) ∈ lw_all := lw_g (lw_at lw_m8 176 rfl) rfl
theorem q2007 : (Jvm.Cond.selects "MailSessions" ({ cls := "MailSessions", name := "writeBox", desc := "(I)I" } : Jvm.MethodName) ({ cls := "MailSessions", name := "writeBox", desc := "(I)I" } : Jvm.MethodName)) ∈ lw_all := lw_g (lw_at lw_m8 177 rfl) rfl
theorem q2008 : (Jvm.Cond.code ({ cls := "MailSessions", name := "writeBox", desc := "(I)I" } : Jvm.MethodName) prog_1_method_86_code (5 : Nat) (Option.some Jvm.ClassFile.FieldType.int)) ∈ lw_all := lw_g (lw_at lw_m8 178 rfl) rfl
theorem q2013 : (Jvm.Cond.instanceMethod ({ cls := "MailSessions", name := "writeView", desc := "(I)I" } : Jvm.MethodName)) ∈ lw_all := lw_g (lw_at lw_m8 183 rfl) rfl
theorem q2014 : (Jvm.Cond.selects "MailSessions" ({ cls := "MailSessions", name := "writeView", desc := "(I)I" } : Jvm.MethodName) ({ cls := "MailSessions", name := "writeView", desc := "(I)I" } : Jvm.MethodName)) ∈ lw_all := lw_g (lw_at lw_m8 184 rfl) rfl
theorem q2015 : (Jvm.Cond.code ({ cls := "MailSessions", name := "writeView", desc := "(I)I" } : Jvm.MethodName) prog_1_method_87_code (4 : Nat) (Option.some Jvm.ClassFile.FieldType.int)) ∈ lw_all := lw_g (lw_at lw_m8 185 rfl) rfl
theorem q2020 : (Jvm.Cond.instanceMethod ({ cls := "MailSessions", name := "outputByte", desc := "(I)I" } : Jvm.MethodName)) ∈ lw_all := lw_g (lw_at lw_m8 190 rfl) rfl
theorem q2021 : (Jvm.Cond.selects "MailSessions" ({ cls := "MailSessions", name := "outputByte", desc := "(I)I" } : Jvm.MethodName) ({ cls := "MailSessions", name := "outputByte", desc := "(I)I" } : Jvm.MethodName)) ∈ lw_all := lw_g (lw_at lw_m8 191 rfl) rfl
theorem q2022 : (Jvm.Cond.code ({ cls := "MailSessions", name := "outputByte", desc := "(I)I" } : Jvm.MethodName) prog_1_method_89_code (2 : Nat) (Option.some Jvm.ClassFile.FieldType.int)) ∈ lw_all := lw_g (lw_at lw_m8 192 rfl) rfl
theorem q2023 : (Jvm.Cond.methodLink "MailSessions" (459 : Nat) ({ cls := "java/lang/StringBuilder", name := "charAt", desc := "(I)C" } : Jvm.MethodName)) ∈ lw_all := lw_g (lw_at lw_m8 193 rfl) rfl
theorem q2812 : (Jvm.Cond.castable "MailSessions" "java/lang/Object") ∈ lw_tbl := lw_at lw_m12 22 rfl
theorem in_X1 : ∀ w ∈ wsX10, w ∈ lw_all := lw_in wsX10 [602, 604, 606, 608, 610, 612, 614, 616, 618] (by decide +kernel) (by decide +kernel)
/-! MailSessions$Server -/
set_option maxRecDepth 100000
def RX2 : String := "MailSessions$Server"
def TX2 : u_T := fun k => match k with
  | 0 => ("MailSessions$Server", "boxes", "Ljava/util/ArrayList;", true)
  | 1 => ("MailSessions$Server", "sessions", "Ljava/util/ArrayList;", true)
  | _ => ("MailSessions$Server", "limit", "I", false)
def tyX2 : Nat → FieldType := fun k => match k with
  | 0 => .object "java/util/ArrayList"
  | 1 => .object "java/util/ArrayList"
  | _ => .int
abbrev wsX20 : List Cond := u_ws RX2 TX2 3
theorem nmX2 : ∀ a, a < 3 → ∀ b, b < 3 → a ≠ b → (TX2 a).2.1 ≠ (TX2 b).2.1 := by decide +kernel
theorem tyX2_ok : ∀ k, k < 3 → parseFieldDescriptor (TX2 k).2.2.1 = some (tyX2 k) := by decide +kernel
abbrev cX2_init : ByteArray := prog_8_method_1_code
def yX2_init : MethodName := ⟨RX2, "<init>", "()V"⟩
def dkwX2_init_1 : List UInt8 := [183, 0, 11, 181, 0, 20, 42, 16, 30, 181, 0, 23, 177]
abbrev dktX2_init_1 : List UInt8 := dkwX2_init_1 ++ []
def dkwX2_init_0 : List UInt8 := [42, 183, 0, 3, 42, 187, 0, 9, 89, 5, 183, 0, 11, 181, 0, 14, 42, 187, 0, 9, 89, 5]
abbrev dktX2_init_0 : List UInt8 := dkwX2_init_0 ++ dktX2_init_1
theorem dksX2_init_0 : cX2_init.data.toList.drop 0 = dktX2_init_0 := by decide +kernel
theorem dksX2_init_1 : cX2_init.data.toList.drop 22 = dktX2_init_1 := dk_seg dksX2_init_0 22 rfl rfl
theorem dX2_init_0 : decode cX2_init 0 = .ok (.aload_n 0, 1) := dk_42 (dk_at dksX2_init_0 0 rfl rfl)
theorem dX2_init_1 : decode cX2_init 1 = .ok (.invokespecial 3, 3) := dk_183 0 3 (dk_at dksX2_init_0 1 rfl rfl)
theorem dX2_init_4 : decode cX2_init 4 = .ok (.aload_n 0, 1) := dk_42 (dk_at dksX2_init_0 4 rfl rfl)
theorem dX2_init_5 : decode cX2_init 5 = .ok (.new 9, 3) := dk_187 0 9 (dk_at dksX2_init_0 5 rfl rfl)
theorem dX2_init_8 : decode cX2_init 8 = .ok (.dup, 1) := dk_89 (dk_at dksX2_init_0 8 rfl rfl)
theorem dX2_init_9 : decode cX2_init 9 = .ok (.iconst 2, 1) := dk_5 (dk_at dksX2_init_0 9 rfl rfl)
theorem dX2_init_10 : decode cX2_init 10 = .ok (.invokespecial 11, 3) := dk_183 0 11 (dk_at dksX2_init_0 10 rfl rfl)
theorem dX2_init_13 : decode cX2_init 13 = .ok (.putfield 14, 3) := dk_181 0 14 (dk_at dksX2_init_0 13 rfl rfl)
theorem dX2_init_16 : decode cX2_init 16 = .ok (.aload_n 0, 1) := dk_42 (dk_at dksX2_init_0 16 rfl rfl)
theorem dX2_init_17 : decode cX2_init 17 = .ok (.new 9, 3) := dk_187 0 9 (dk_at dksX2_init_0 17 rfl rfl)
theorem dX2_init_20 : decode cX2_init 20 = .ok (.dup, 1) := dk_89 (dk_at dksX2_init_0 20 rfl rfl)
theorem dX2_init_21 : decode cX2_init 21 = .ok (.iconst 2, 1) := dk_5 (dk_at dksX2_init_0 21 rfl rfl)
theorem dX2_init_22 : decode cX2_init 22 = .ok (.invokespecial 11, 3) := dk_183 0 11 (dk_at dksX2_init_1 0 rfl rfl)
theorem dX2_init_25 : decode cX2_init 25 = .ok (.putfield 20, 3) := dk_181 0 20 (dk_at dksX2_init_1 3 rfl rfl)
theorem dX2_init_28 : decode cX2_init 28 = .ok (.aload_n 0, 1) := dk_42 (dk_at dksX2_init_1 6 rfl rfl)
theorem dX2_init_29 : decode cX2_init 29 = .ok (.bipush 30, 2) := dk_16 30 (dk_at dksX2_init_1 7 rfl rfl)
theorem dX2_init_31 : decode cX2_init 31 = .ok (.putfield 23, 3) := dk_181 0 23 (dk_at dksX2_init_1 9 rfl rfl)
theorem dX2_init_34 : decode cX2_init 34 = .ok (.return_, 1) := dk_177 (dk_at dksX2_init_1 12 rfl rfl)
abbrev cX2_messages : ByteArray := prog_8_method_5_code
def yX2_messages : MethodName := ⟨RX2, "messages", "()I"⟩
def dkwX2_messages_1 : List UInt8 := [192, 0, 31, 180, 0, 59, 182, 0, 27, 96, 60, 132, 2, 1, 167, 255, 222, 27, 172]
abbrev dktX2_messages_1 : List UInt8 := dkwX2_messages_1 ++ []
def dkwX2_messages_0 : List UInt8 := [3, 60, 3, 61, 28, 42, 180, 0, 14, 182, 0, 27, 162, 0, 29, 27, 42, 180, 0, 14, 28, 182, 0, 33]
abbrev dktX2_messages_0 : List UInt8 := dkwX2_messages_0 ++ dktX2_messages_1
theorem dksX2_messages_0 : cX2_messages.data.toList.drop 0 = dktX2_messages_0 := by decide +kernel
theorem dksX2_messages_1 : cX2_messages.data.toList.drop 24 = dktX2_messages_1 := dk_seg dksX2_messages_0 24 rfl rfl
theorem dX2_messages_0 : decode cX2_messages 0 = .ok (.iconst 0, 1) := dk_3 (dk_at dksX2_messages_0 0 rfl rfl)
theorem dX2_messages_1 : decode cX2_messages 1 = .ok (.istore_n 1, 1) := dk_60 (dk_at dksX2_messages_0 1 rfl rfl)
theorem dX2_messages_2 : decode cX2_messages 2 = .ok (.iconst 0, 1) := dk_3 (dk_at dksX2_messages_0 2 rfl rfl)
theorem dX2_messages_3 : decode cX2_messages 3 = .ok (.istore_n 2, 1) := dk_61 (dk_at dksX2_messages_0 3 rfl rfl)
theorem dX2_messages_4 : decode cX2_messages 4 = .ok (.iload_n 2, 1) := dk_28 (dk_at dksX2_messages_0 4 rfl rfl)
theorem dX2_messages_5 : decode cX2_messages 5 = .ok (.aload_n 0, 1) := dk_42 (dk_at dksX2_messages_0 5 rfl rfl)
theorem dX2_messages_6 : decode cX2_messages 6 = .ok (.getfield 14, 3) := dk_180 0 14 (dk_at dksX2_messages_0 6 rfl rfl)
theorem dX2_messages_9 : decode cX2_messages 9 = .ok (.invokevirtual 27, 3) := dk_182 0 27 (dk_at dksX2_messages_0 9 rfl rfl)
theorem dX2_messages_12 : decode cX2_messages 12 = .ok (.if_icmp .ge 29, 3) := dk_162 0 29 (dk_at dksX2_messages_0 12 rfl rfl)
theorem dX2_messages_15 : decode cX2_messages 15 = .ok (.iload_n 1, 1) := dk_27 (dk_at dksX2_messages_0 15 rfl rfl)
theorem dX2_messages_16 : decode cX2_messages 16 = .ok (.aload_n 0, 1) := dk_42 (dk_at dksX2_messages_0 16 rfl rfl)
theorem dX2_messages_17 : decode cX2_messages 17 = .ok (.getfield 14, 3) := dk_180 0 14 (dk_at dksX2_messages_0 17 rfl rfl)
theorem dX2_messages_20 : decode cX2_messages 20 = .ok (.iload_n 2, 1) := dk_28 (dk_at dksX2_messages_0 20 rfl rfl)
theorem dX2_messages_21 : decode cX2_messages 21 = .ok (.invokevirtual 33, 3) := dk_182 0 33 (dk_at dksX2_messages_0 21 rfl rfl)
theorem dX2_messages_24 : decode cX2_messages 24 = .ok (.checkcast 31, 3) := dk_192 0 31 (dk_at dksX2_messages_1 0 rfl rfl)
theorem dX2_messages_27 : decode cX2_messages 27 = .ok (.getfield 59, 3) := dk_180 0 59 (dk_at dksX2_messages_1 3 rfl rfl)
theorem dX2_messages_30 : decode cX2_messages 30 = .ok (.invokevirtual 27, 3) := dk_182 0 27 (dk_at dksX2_messages_1 6 rfl rfl)
theorem dX2_messages_33 : decode cX2_messages 33 = .ok (.iadd, 1) := dk_96 (dk_at dksX2_messages_1 9 rfl rfl)
theorem dX2_messages_34 : decode cX2_messages 34 = .ok (.istore_n 1, 1) := dk_60 (dk_at dksX2_messages_1 10 rfl rfl)
theorem dX2_messages_35 : decode cX2_messages 35 = .ok (.iinc 2 1, 3) := dk_132 2 1 (dk_at dksX2_messages_1 11 rfl rfl)
theorem dX2_messages_38 : decode cX2_messages 38 = .ok (.goto (-34), 3) := dk_167 255 222 (dk_at dksX2_messages_1 14 rfl rfl)
theorem dX2_messages_41 : decode cX2_messages 41 = .ok (.iload_n 1, 1) := dk_27 (dk_at dksX2_messages_1 17 rfl rfl)
theorem dX2_messages_42 : decode cX2_messages 42 = .ok (.ireturn, 1) := dk_172 (dk_at dksX2_messages_1 18 rfl rfl)
abbrev cX2_findBox : ByteArray := prog_8_method_3_code
def yX2_findBox : MethodName := ⟨RX2, "findBox", "(Ljava/lang/String;)I"⟩
def dkwX2_findBox_1 : List UInt8 := [180, 0, 49, 43, 182, 0, 53, 153, 0, 5, 28, 172, 132, 2, 1, 167, 255, 219, 2, 172]
abbrev dktX2_findBox_1 : List UInt8 := dkwX2_findBox_1 ++ []
def dkwX2_findBox_0 : List UInt8 := [3, 61, 28, 42, 180, 0, 14, 182, 0, 27, 162, 0, 32, 42, 180, 0, 14, 28, 182, 0, 33, 192, 0, 31]
abbrev dktX2_findBox_0 : List UInt8 := dkwX2_findBox_0 ++ dktX2_findBox_1
theorem dksX2_findBox_0 : cX2_findBox.data.toList.drop 0 = dktX2_findBox_0 := by decide +kernel
theorem dksX2_findBox_1 : cX2_findBox.data.toList.drop 24 = dktX2_findBox_1 := dk_seg dksX2_findBox_0 24 rfl rfl
theorem dX2_findBox_0 : decode cX2_findBox 0 = .ok (.iconst 0, 1) := dk_3 (dk_at dksX2_findBox_0 0 rfl rfl)
theorem dX2_findBox_1 : decode cX2_findBox 1 = .ok (.istore_n 2, 1) := dk_61 (dk_at dksX2_findBox_0 1 rfl rfl)
theorem dX2_findBox_2 : decode cX2_findBox 2 = .ok (.iload_n 2, 1) := dk_28 (dk_at dksX2_findBox_0 2 rfl rfl)
theorem dX2_findBox_3 : decode cX2_findBox 3 = .ok (.aload_n 0, 1) := dk_42 (dk_at dksX2_findBox_0 3 rfl rfl)
theorem dX2_findBox_4 : decode cX2_findBox 4 = .ok (.getfield 14, 3) := dk_180 0 14 (dk_at dksX2_findBox_0 4 rfl rfl)
theorem dX2_findBox_7 : decode cX2_findBox 7 = .ok (.invokevirtual 27, 3) := dk_182 0 27 (dk_at dksX2_findBox_0 7 rfl rfl)
theorem dX2_findBox_10 : decode cX2_findBox 10 = .ok (.if_icmp .ge 32, 3) := dk_162 0 32 (dk_at dksX2_findBox_0 10 rfl rfl)
theorem dX2_findBox_13 : decode cX2_findBox 13 = .ok (.aload_n 0, 1) := dk_42 (dk_at dksX2_findBox_0 13 rfl rfl)
theorem dX2_findBox_14 : decode cX2_findBox 14 = .ok (.getfield 14, 3) := dk_180 0 14 (dk_at dksX2_findBox_0 14 rfl rfl)
theorem dX2_findBox_17 : decode cX2_findBox 17 = .ok (.iload_n 2, 1) := dk_28 (dk_at dksX2_findBox_0 17 rfl rfl)
theorem dX2_findBox_18 : decode cX2_findBox 18 = .ok (.invokevirtual 33, 3) := dk_182 0 33 (dk_at dksX2_findBox_0 18 rfl rfl)
theorem dX2_findBox_21 : decode cX2_findBox 21 = .ok (.checkcast 31, 3) := dk_192 0 31 (dk_at dksX2_findBox_0 21 rfl rfl)
theorem dX2_findBox_24 : decode cX2_findBox 24 = .ok (.getfield 49, 3) := dk_180 0 49 (dk_at dksX2_findBox_1 0 rfl rfl)
theorem dX2_findBox_27 : decode cX2_findBox 27 = .ok (.aload_n 1, 1) := dk_43 (dk_at dksX2_findBox_1 3 rfl rfl)
theorem dX2_findBox_28 : decode cX2_findBox 28 = .ok (.invokevirtual 53, 3) := dk_182 0 53 (dk_at dksX2_findBox_1 4 rfl rfl)
theorem dX2_findBox_31 : decode cX2_findBox 31 = .ok (.ifCond .eq 5, 3) := dk_153 0 5 (dk_at dksX2_findBox_1 7 rfl rfl)
theorem dX2_findBox_34 : decode cX2_findBox 34 = .ok (.iload_n 2, 1) := dk_28 (dk_at dksX2_findBox_1 10 rfl rfl)
theorem dX2_findBox_35 : decode cX2_findBox 35 = .ok (.ireturn, 1) := dk_172 (dk_at dksX2_findBox_1 11 rfl rfl)
theorem dX2_findBox_36 : decode cX2_findBox 36 = .ok (.iinc 2 1, 3) := dk_132 2 1 (dk_at dksX2_findBox_1 12 rfl rfl)
theorem dX2_findBox_39 : decode cX2_findBox 39 = .ok (.goto (-37), 3) := dk_167 255 219 (dk_at dksX2_findBox_1 15 rfl rfl)
theorem dX2_findBox_42 : decode cX2_findBox 42 = .ok (.iconst (-1), 1) := dk_2 (dk_at dksX2_findBox_1 18 rfl rfl)
theorem dX2_findBox_43 : decode cX2_findBox 43 = .ok (.ireturn, 1) := dk_172 (dk_at dksX2_findBox_1 19 rfl rfl)
abbrev cX2_isFull : ByteArray := prog_8_method_6_code
def yX2_isFull : MethodName := ⟨RX2, "isFull", "(I)Z"⟩
def dkwX2_isFull_1 : List UInt8 := [4, 167, 0, 4, 3, 172]
abbrev dktX2_isFull_1 : List UInt8 := dkwX2_isFull_1 ++ []
def dkwX2_isFull_0 : List UInt8 := [42, 180, 0, 14, 27, 182, 0, 33, 192, 0, 31, 180, 0, 59, 182, 0, 27, 42, 180, 0, 23, 161, 0, 7]
abbrev dktX2_isFull_0 : List UInt8 := dkwX2_isFull_0 ++ dktX2_isFull_1
theorem dksX2_isFull_0 : cX2_isFull.data.toList.drop 0 = dktX2_isFull_0 := by decide +kernel
theorem dksX2_isFull_1 : cX2_isFull.data.toList.drop 24 = dktX2_isFull_1 := dk_seg dksX2_isFull_0 24 rfl rfl
theorem dX2_isFull_0 : decode cX2_isFull 0 = .ok (.aload_n 0, 1) := dk_42 (dk_at dksX2_isFull_0 0 rfl rfl)
theorem dX2_isFull_1 : decode cX2_isFull 1 = .ok (.getfield 14, 3) := dk_180 0 14 (dk_at dksX2_isFull_0 1 rfl rfl)
theorem dX2_isFull_4 : decode cX2_isFull 4 = .ok (.iload_n 1, 1) := dk_27 (dk_at dksX2_isFull_0 4 rfl rfl)
theorem dX2_isFull_5 : decode cX2_isFull 5 = .ok (.invokevirtual 33, 3) := dk_182 0 33 (dk_at dksX2_isFull_0 5 rfl rfl)
theorem dX2_isFull_8 : decode cX2_isFull 8 = .ok (.checkcast 31, 3) := dk_192 0 31 (dk_at dksX2_isFull_0 8 rfl rfl)
theorem dX2_isFull_11 : decode cX2_isFull 11 = .ok (.getfield 59, 3) := dk_180 0 59 (dk_at dksX2_isFull_0 11 rfl rfl)
theorem dX2_isFull_14 : decode cX2_isFull 14 = .ok (.invokevirtual 27, 3) := dk_182 0 27 (dk_at dksX2_isFull_0 14 rfl rfl)
theorem dX2_isFull_17 : decode cX2_isFull 17 = .ok (.aload_n 0, 1) := dk_42 (dk_at dksX2_isFull_0 17 rfl rfl)
theorem dX2_isFull_18 : decode cX2_isFull 18 = .ok (.getfield 23, 3) := dk_180 0 23 (dk_at dksX2_isFull_0 18 rfl rfl)
theorem dX2_isFull_21 : decode cX2_isFull 21 = .ok (.if_icmp .lt 7, 3) := dk_161 0 7 (dk_at dksX2_isFull_0 21 rfl rfl)
theorem dX2_isFull_24 : decode cX2_isFull 24 = .ok (.iconst 1, 1) := dk_4 (dk_at dksX2_isFull_1 0 rfl rfl)
theorem dX2_isFull_25 : decode cX2_isFull 25 = .ok (.goto 4, 3) := dk_167 0 4 (dk_at dksX2_isFull_1 1 rfl rfl)
theorem dX2_isFull_28 : decode cX2_isFull 28 = .ok (.iconst 0, 1) := dk_3 (dk_at dksX2_isFull_1 4 rfl rfl)
theorem dX2_isFull_29 : decode cX2_isFull 29 = .ok (.ireturn, 1) := dk_172 (dk_at dksX2_isFull_1 5 rfl rfl)
abbrev cX2_findSession : ByteArray := prog_8_method_4_code
def yX2_findSession : MethodName := ⟨RX2, "findSession", "(Ljava/lang/String;)I"⟩
def dkwX2_findSession_1 : List UInt8 := [180, 0, 58, 43, 182, 0, 53, 153, 0, 5, 28, 172, 132, 2, 1, 167, 255, 219, 2, 172]
abbrev dktX2_findSession_1 : List UInt8 := dkwX2_findSession_1 ++ []
def dkwX2_findSession_0 : List UInt8 := [3, 61, 28, 42, 180, 0, 20, 182, 0, 27, 162, 0, 32, 42, 180, 0, 20, 28, 182, 0, 33, 192, 0, 44]
abbrev dktX2_findSession_0 : List UInt8 := dkwX2_findSession_0 ++ dktX2_findSession_1
theorem dksX2_findSession_0 : cX2_findSession.data.toList.drop 0 = dktX2_findSession_0 := by decide +kernel
theorem dksX2_findSession_1 : cX2_findSession.data.toList.drop 24 = dktX2_findSession_1 := dk_seg dksX2_findSession_0 24 rfl rfl
theorem dX2_findSession_0 : decode cX2_findSession 0 = .ok (.iconst 0, 1) := dk_3 (dk_at dksX2_findSession_0 0 rfl rfl)
theorem dX2_findSession_1 : decode cX2_findSession 1 = .ok (.istore_n 2, 1) := dk_61 (dk_at dksX2_findSession_0 1 rfl rfl)
theorem dX2_findSession_2 : decode cX2_findSession 2 = .ok (.iload_n 2, 1) := dk_28 (dk_at dksX2_findSession_0 2 rfl rfl)
theorem dX2_findSession_3 : decode cX2_findSession 3 = .ok (.aload_n 0, 1) := dk_42 (dk_at dksX2_findSession_0 3 rfl rfl)
theorem dX2_findSession_4 : decode cX2_findSession 4 = .ok (.getfield 20, 3) := dk_180 0 20 (dk_at dksX2_findSession_0 4 rfl rfl)
theorem dX2_findSession_7 : decode cX2_findSession 7 = .ok (.invokevirtual 27, 3) := dk_182 0 27 (dk_at dksX2_findSession_0 7 rfl rfl)
theorem dX2_findSession_10 : decode cX2_findSession 10 = .ok (.if_icmp .ge 32, 3) := dk_162 0 32 (dk_at dksX2_findSession_0 10 rfl rfl)
theorem dX2_findSession_13 : decode cX2_findSession 13 = .ok (.aload_n 0, 1) := dk_42 (dk_at dksX2_findSession_0 13 rfl rfl)
theorem dX2_findSession_14 : decode cX2_findSession 14 = .ok (.getfield 20, 3) := dk_180 0 20 (dk_at dksX2_findSession_0 14 rfl rfl)
theorem dX2_findSession_17 : decode cX2_findSession 17 = .ok (.iload_n 2, 1) := dk_28 (dk_at dksX2_findSession_0 17 rfl rfl)
theorem dX2_findSession_18 : decode cX2_findSession 18 = .ok (.invokevirtual 33, 3) := dk_182 0 33 (dk_at dksX2_findSession_0 18 rfl rfl)
theorem dX2_findSession_21 : decode cX2_findSession 21 = .ok (.checkcast 44, 3) := dk_192 0 44 (dk_at dksX2_findSession_0 21 rfl rfl)
theorem dX2_findSession_24 : decode cX2_findSession 24 = .ok (.getfield 58, 3) := dk_180 0 58 (dk_at dksX2_findSession_1 0 rfl rfl)
theorem dX2_findSession_27 : decode cX2_findSession 27 = .ok (.aload_n 1, 1) := dk_43 (dk_at dksX2_findSession_1 3 rfl rfl)
theorem dX2_findSession_28 : decode cX2_findSession 28 = .ok (.invokevirtual 53, 3) := dk_182 0 53 (dk_at dksX2_findSession_1 4 rfl rfl)
theorem dX2_findSession_31 : decode cX2_findSession 31 = .ok (.ifCond .eq 5, 3) := dk_153 0 5 (dk_at dksX2_findSession_1 7 rfl rfl)
theorem dX2_findSession_34 : decode cX2_findSession 34 = .ok (.iload_n 2, 1) := dk_28 (dk_at dksX2_findSession_1 10 rfl rfl)
theorem dX2_findSession_35 : decode cX2_findSession 35 = .ok (.ireturn, 1) := dk_172 (dk_at dksX2_findSession_1 11 rfl rfl)
theorem dX2_findSession_36 : decode cX2_findSession 36 = .ok (.iinc 2 1, 3) := dk_132 2 1 (dk_at dksX2_findSession_1 12 rfl rfl)
theorem dX2_findSession_39 : decode cX2_findSession 39 = .ok (.goto (-37), 3) := dk_167 255 219 (dk_at dksX2_findSession_1 15 rfl rfl)
theorem dX2_findSession_42 : decode cX2_findSession 42 = .ok (.iconst (-1), 1) := dk_2 (dk_at dksX2_findSession_1 18 rfl rfl)
theorem dX2_findSession_43 : decode cX2_findSession 43 = .ok (.ireturn, 1) := dk_172 (dk_at dksX2_findSession_1 19 rfl rfl)
abbrev cX2_select : ByteArray := prog_8_method_7_code
def yX2_select : MethodName := ⟨RX2, "select", "(LMailSessions$Session;IZ)V"⟩
def dkwX2_select_3 : List UInt8 := [180, 0, 77, 4, 100, 181, 0, 80, 177]
abbrev dktX2_select_3 : List UInt8 := dkwX2_select_3 ++ []
def dkwX2_select_2 : List UInt8 := [180, 0, 59, 21, 5, 182, 0, 33, 192, 0, 72, 182, 0, 74, 132, 5, 1, 167, 255, 223, 43, 25, 4]
abbrev dktX2_select_2 : List UInt8 := dkwX2_select_2 ++ dktX2_select_3
def dkwX2_select_1 : List UInt8 := [181, 0, 68, 3, 54, 5, 21, 5, 25, 4, 180, 0, 59, 182, 0, 27, 162, 0, 26, 43, 25, 4]
abbrev dktX2_select_1 : List UInt8 := dkwX2_select_1 ++ dktX2_select_2
def dkwX2_select_0 : List UInt8 := [42, 180, 0, 14, 28, 182, 0, 33, 192, 0, 31, 58, 4, 43, 182, 0, 62, 43, 28, 181, 0, 65, 43, 29]
abbrev dktX2_select_0 : List UInt8 := dkwX2_select_0 ++ dktX2_select_1
theorem dksX2_select_0 : cX2_select.data.toList.drop 0 = dktX2_select_0 := by decide +kernel
theorem dksX2_select_1 : cX2_select.data.toList.drop 24 = dktX2_select_1 := dk_seg dksX2_select_0 24 rfl rfl
theorem dksX2_select_2 : cX2_select.data.toList.drop 46 = dktX2_select_2 := dk_seg dksX2_select_1 22 rfl rfl
theorem dksX2_select_3 : cX2_select.data.toList.drop 69 = dktX2_select_3 := dk_seg dksX2_select_2 23 rfl rfl
theorem dX2_select_0 : decode cX2_select 0 = .ok (.aload_n 0, 1) := dk_42 (dk_at dksX2_select_0 0 rfl rfl)
theorem dX2_select_1 : decode cX2_select 1 = .ok (.getfield 14, 3) := dk_180 0 14 (dk_at dksX2_select_0 1 rfl rfl)
theorem dX2_select_4 : decode cX2_select 4 = .ok (.iload_n 2, 1) := dk_28 (dk_at dksX2_select_0 4 rfl rfl)
theorem dX2_select_5 : decode cX2_select 5 = .ok (.invokevirtual 33, 3) := dk_182 0 33 (dk_at dksX2_select_0 5 rfl rfl)
theorem dX2_select_8 : decode cX2_select 8 = .ok (.checkcast 31, 3) := dk_192 0 31 (dk_at dksX2_select_0 8 rfl rfl)
theorem dX2_select_11 : decode cX2_select 11 = .ok (.astore 4, 2) := dk_58 4 (dk_at dksX2_select_0 11 rfl rfl)
theorem dX2_select_13 : decode cX2_select 13 = .ok (.aload_n 1, 1) := dk_43 (dk_at dksX2_select_0 13 rfl rfl)
theorem dX2_select_14 : decode cX2_select 14 = .ok (.invokevirtual 62, 3) := dk_182 0 62 (dk_at dksX2_select_0 14 rfl rfl)
theorem dX2_select_17 : decode cX2_select 17 = .ok (.aload_n 1, 1) := dk_43 (dk_at dksX2_select_0 17 rfl rfl)
theorem dX2_select_18 : decode cX2_select 18 = .ok (.iload_n 2, 1) := dk_28 (dk_at dksX2_select_0 18 rfl rfl)
theorem dX2_select_19 : decode cX2_select 19 = .ok (.putfield 65, 3) := dk_181 0 65 (dk_at dksX2_select_0 19 rfl rfl)
theorem dX2_select_22 : decode cX2_select 22 = .ok (.aload_n 1, 1) := dk_43 (dk_at dksX2_select_0 22 rfl rfl)
theorem dX2_select_23 : decode cX2_select 23 = .ok (.iload_n 3, 1) := dk_29 (dk_at dksX2_select_0 23 rfl rfl)
theorem dX2_select_24 : decode cX2_select 24 = .ok (.putfield 68, 3) := dk_181 0 68 (dk_at dksX2_select_1 0 rfl rfl)
theorem dX2_select_27 : decode cX2_select 27 = .ok (.iconst 0, 1) := dk_3 (dk_at dksX2_select_1 3 rfl rfl)
theorem dX2_select_28 : decode cX2_select 28 = .ok (.istore 5, 2) := dk_54 5 (dk_at dksX2_select_1 4 rfl rfl)
theorem dX2_select_30 : decode cX2_select 30 = .ok (.iload 5, 2) := dk_21 5 (dk_at dksX2_select_1 6 rfl rfl)
theorem dX2_select_32 : decode cX2_select 32 = .ok (.aload 4, 2) := dk_25 4 (dk_at dksX2_select_1 8 rfl rfl)
theorem dX2_select_34 : decode cX2_select 34 = .ok (.getfield 59, 3) := dk_180 0 59 (dk_at dksX2_select_1 10 rfl rfl)
theorem dX2_select_37 : decode cX2_select 37 = .ok (.invokevirtual 27, 3) := dk_182 0 27 (dk_at dksX2_select_1 13 rfl rfl)
theorem dX2_select_40 : decode cX2_select 40 = .ok (.if_icmp .ge 26, 3) := dk_162 0 26 (dk_at dksX2_select_1 16 rfl rfl)
theorem dX2_select_43 : decode cX2_select 43 = .ok (.aload_n 1, 1) := dk_43 (dk_at dksX2_select_1 19 rfl rfl)
theorem dX2_select_44 : decode cX2_select 44 = .ok (.aload 4, 2) := dk_25 4 (dk_at dksX2_select_1 20 rfl rfl)
theorem dX2_select_46 : decode cX2_select 46 = .ok (.getfield 59, 3) := dk_180 0 59 (dk_at dksX2_select_2 0 rfl rfl)
theorem dX2_select_49 : decode cX2_select 49 = .ok (.iload 5, 2) := dk_21 5 (dk_at dksX2_select_2 3 rfl rfl)
theorem dX2_select_51 : decode cX2_select 51 = .ok (.invokevirtual 33, 3) := dk_182 0 33 (dk_at dksX2_select_2 5 rfl rfl)
theorem dX2_select_54 : decode cX2_select 54 = .ok (.checkcast 72, 3) := dk_192 0 72 (dk_at dksX2_select_2 8 rfl rfl)
theorem dX2_select_57 : decode cX2_select 57 = .ok (.invokevirtual 74, 3) := dk_182 0 74 (dk_at dksX2_select_2 11 rfl rfl)
theorem dX2_select_60 : decode cX2_select 60 = .ok (.iinc 5 1, 3) := dk_132 5 1 (dk_at dksX2_select_2 14 rfl rfl)
theorem dX2_select_63 : decode cX2_select 63 = .ok (.goto (-33), 3) := dk_167 255 223 (dk_at dksX2_select_2 17 rfl rfl)
theorem dX2_select_66 : decode cX2_select 66 = .ok (.aload_n 1, 1) := dk_43 (dk_at dksX2_select_2 20 rfl rfl)
theorem dX2_select_67 : decode cX2_select 67 = .ok (.aload 4, 2) := dk_25 4 (dk_at dksX2_select_2 21 rfl rfl)
theorem dX2_select_69 : decode cX2_select 69 = .ok (.getfield 77, 3) := dk_180 0 77 (dk_at dksX2_select_3 0 rfl rfl)
theorem dX2_select_72 : decode cX2_select 72 = .ok (.iconst 1, 1) := dk_4 (dk_at dksX2_select_3 3 rfl rfl)
theorem dX2_select_73 : decode cX2_select 73 = .ok (.isub, 1) := dk_100 (dk_at dksX2_select_3 4 rfl rfl)
theorem dX2_select_74 : decode cX2_select 74 = .ok (.putfield 80, 3) := dk_181 0 80 (dk_at dksX2_select_3 5 rfl rfl)
theorem dX2_select_77 : decode cX2_select 77 = .ok (.return_, 1) := dk_177 (dk_at dksX2_select_3 8 rfl rfl)
abbrev cX2_pending : ByteArray := prog_8_method_13_code
def yX2_pending : MethodName := ⟨RX2, "pending", "(LMailSessions$Session;)I"⟩
def dkwX2_pending_1 : List UInt8 := [158, 0, 18, 43, 180, 0, 105, 28, 100, 16, 60, 162, 0, 7, 4, 167, 0, 4, 3, 184, 0, 95, 96, 172]
abbrev dktX2_pending_1 : List UInt8 := dkwX2_pending_1 ++ []
def dkwX2_pending_0 : List UInt8 := [42, 43, 43, 180, 0, 105, 182, 0, 121, 61, 28, 42, 43, 182, 0, 125, 96, 42, 43, 182, 0, 129]
abbrev dktX2_pending_0 : List UInt8 := dkwX2_pending_0 ++ dktX2_pending_1
theorem dksX2_pending_0 : cX2_pending.data.toList.drop 0 = dktX2_pending_0 := by decide +kernel
theorem dksX2_pending_1 : cX2_pending.data.toList.drop 22 = dktX2_pending_1 := dk_seg dksX2_pending_0 22 rfl rfl
theorem dX2_pending_0 : decode cX2_pending 0 = .ok (.aload_n 0, 1) := dk_42 (dk_at dksX2_pending_0 0 rfl rfl)
theorem dX2_pending_1 : decode cX2_pending 1 = .ok (.aload_n 1, 1) := dk_43 (dk_at dksX2_pending_0 1 rfl rfl)
theorem dX2_pending_2 : decode cX2_pending 2 = .ok (.aload_n 1, 1) := dk_43 (dk_at dksX2_pending_0 2 rfl rfl)
theorem dX2_pending_3 : decode cX2_pending 3 = .ok (.getfield 105, 3) := dk_180 0 105 (dk_at dksX2_pending_0 3 rfl rfl)
theorem dX2_pending_6 : decode cX2_pending 6 = .ok (.invokevirtual 121, 3) := dk_182 0 121 (dk_at dksX2_pending_0 6 rfl rfl)
theorem dX2_pending_9 : decode cX2_pending 9 = .ok (.istore_n 2, 1) := dk_61 (dk_at dksX2_pending_0 9 rfl rfl)
theorem dX2_pending_10 : decode cX2_pending 10 = .ok (.iload_n 2, 1) := dk_28 (dk_at dksX2_pending_0 10 rfl rfl)
theorem dX2_pending_11 : decode cX2_pending 11 = .ok (.aload_n 0, 1) := dk_42 (dk_at dksX2_pending_0 11 rfl rfl)
theorem dX2_pending_12 : decode cX2_pending 12 = .ok (.aload_n 1, 1) := dk_43 (dk_at dksX2_pending_0 12 rfl rfl)
theorem dX2_pending_13 : decode cX2_pending 13 = .ok (.invokevirtual 125, 3) := dk_182 0 125 (dk_at dksX2_pending_0 13 rfl rfl)
theorem dX2_pending_16 : decode cX2_pending 16 = .ok (.iadd, 1) := dk_96 (dk_at dksX2_pending_0 16 rfl rfl)
theorem dX2_pending_17 : decode cX2_pending 17 = .ok (.aload_n 0, 1) := dk_42 (dk_at dksX2_pending_0 17 rfl rfl)
theorem dX2_pending_18 : decode cX2_pending 18 = .ok (.aload_n 1, 1) := dk_43 (dk_at dksX2_pending_0 18 rfl rfl)
theorem dX2_pending_19 : decode cX2_pending 19 = .ok (.invokevirtual 129, 3) := dk_182 0 129 (dk_at dksX2_pending_0 19 rfl rfl)
theorem dX2_pending_22 : decode cX2_pending 22 = .ok (.ifCond .le 18, 3) := dk_158 0 18 (dk_at dksX2_pending_1 0 rfl rfl)
theorem dX2_pending_25 : decode cX2_pending 25 = .ok (.aload_n 1, 1) := dk_43 (dk_at dksX2_pending_1 3 rfl rfl)
theorem dX2_pending_26 : decode cX2_pending 26 = .ok (.getfield 105, 3) := dk_180 0 105 (dk_at dksX2_pending_1 4 rfl rfl)
theorem dX2_pending_29 : decode cX2_pending 29 = .ok (.iload_n 2, 1) := dk_28 (dk_at dksX2_pending_1 7 rfl rfl)
theorem dX2_pending_30 : decode cX2_pending 30 = .ok (.isub, 1) := dk_100 (dk_at dksX2_pending_1 8 rfl rfl)
theorem dX2_pending_31 : decode cX2_pending 31 = .ok (.bipush 60, 2) := dk_16 60 (dk_at dksX2_pending_1 9 rfl rfl)
theorem dX2_pending_33 : decode cX2_pending 33 = .ok (.if_icmp .ge 7, 3) := dk_162 0 7 (dk_at dksX2_pending_1 11 rfl rfl)
theorem dX2_pending_36 : decode cX2_pending 36 = .ok (.iconst 1, 1) := dk_4 (dk_at dksX2_pending_1 14 rfl rfl)
theorem dX2_pending_37 : decode cX2_pending 37 = .ok (.goto 4, 3) := dk_167 0 4 (dk_at dksX2_pending_1 15 rfl rfl)
theorem dX2_pending_40 : decode cX2_pending 40 = .ok (.iconst 0, 1) := dk_3 (dk_at dksX2_pending_1 18 rfl rfl)
theorem dX2_pending_41 : decode cX2_pending 41 = .ok (.invokestatic 95, 3) := dk_184 0 95 (dk_at dksX2_pending_1 19 rfl rfl)
theorem dX2_pending_44 : decode cX2_pending 44 = .ok (.iadd, 1) := dk_96 (dk_at dksX2_pending_1 22 rfl rfl)
theorem dX2_pending_45 : decode cX2_pending 45 = .ok (.ireturn, 1) := dk_172 (dk_at dksX2_pending_1 23 rfl rfl)
abbrev cX2_gone : ByteArray := prog_8_method_9_code
def yX2_gone : MethodName := ⟨RX2, "gone", "(LMailSessions$Session;I)I"⟩
def dkwX2_gone_1 : List UInt8 := [167, 0, 4, 3, 184, 0, 95, 96, 62, 132, 4, 1, 167, 255, 226, 29, 172]
abbrev dktX2_gone_1 : List UInt8 := dkwX2_gone_1 ++ []
def dkwX2_gone_0 : List UInt8 := [3, 62, 3, 54, 4, 21, 4, 28, 162, 0, 30, 29, 42, 43, 21, 4, 182, 0, 91, 199, 0, 7, 4]
abbrev dktX2_gone_0 : List UInt8 := dkwX2_gone_0 ++ dktX2_gone_1
theorem dksX2_gone_0 : cX2_gone.data.toList.drop 0 = dktX2_gone_0 := by decide +kernel
theorem dksX2_gone_1 : cX2_gone.data.toList.drop 23 = dktX2_gone_1 := dk_seg dksX2_gone_0 23 rfl rfl
theorem dX2_gone_0 : decode cX2_gone 0 = .ok (.iconst 0, 1) := dk_3 (dk_at dksX2_gone_0 0 rfl rfl)
theorem dX2_gone_1 : decode cX2_gone 1 = .ok (.istore_n 3, 1) := dk_62 (dk_at dksX2_gone_0 1 rfl rfl)
theorem dX2_gone_2 : decode cX2_gone 2 = .ok (.iconst 0, 1) := dk_3 (dk_at dksX2_gone_0 2 rfl rfl)
theorem dX2_gone_3 : decode cX2_gone 3 = .ok (.istore 4, 2) := dk_54 4 (dk_at dksX2_gone_0 3 rfl rfl)
theorem dX2_gone_5 : decode cX2_gone 5 = .ok (.iload 4, 2) := dk_21 4 (dk_at dksX2_gone_0 5 rfl rfl)
theorem dX2_gone_7 : decode cX2_gone 7 = .ok (.iload_n 2, 1) := dk_28 (dk_at dksX2_gone_0 7 rfl rfl)
theorem dX2_gone_8 : decode cX2_gone 8 = .ok (.if_icmp .ge 30, 3) := dk_162 0 30 (dk_at dksX2_gone_0 8 rfl rfl)
theorem dX2_gone_11 : decode cX2_gone 11 = .ok (.iload_n 3, 1) := dk_29 (dk_at dksX2_gone_0 11 rfl rfl)
theorem dX2_gone_12 : decode cX2_gone 12 = .ok (.aload_n 0, 1) := dk_42 (dk_at dksX2_gone_0 12 rfl rfl)
theorem dX2_gone_13 : decode cX2_gone 13 = .ok (.aload_n 1, 1) := dk_43 (dk_at dksX2_gone_0 13 rfl rfl)
theorem dX2_gone_14 : decode cX2_gone 14 = .ok (.iload 4, 2) := dk_21 4 (dk_at dksX2_gone_0 14 rfl rfl)
theorem dX2_gone_16 : decode cX2_gone 16 = .ok (.invokevirtual 91, 3) := dk_182 0 91 (dk_at dksX2_gone_0 16 rfl rfl)
theorem dX2_gone_19 : decode cX2_gone 19 = .ok (.ifnonnull 7, 3) := dk_199 0 7 (dk_at dksX2_gone_0 19 rfl rfl)
theorem dX2_gone_22 : decode cX2_gone 22 = .ok (.iconst 1, 1) := dk_4 (dk_at dksX2_gone_0 22 rfl rfl)
theorem dX2_gone_23 : decode cX2_gone 23 = .ok (.goto 4, 3) := dk_167 0 4 (dk_at dksX2_gone_1 0 rfl rfl)
theorem dX2_gone_26 : decode cX2_gone 26 = .ok (.iconst 0, 1) := dk_3 (dk_at dksX2_gone_1 3 rfl rfl)
theorem dX2_gone_27 : decode cX2_gone 27 = .ok (.invokestatic 95, 3) := dk_184 0 95 (dk_at dksX2_gone_1 4 rfl rfl)
theorem dX2_gone_30 : decode cX2_gone 30 = .ok (.iadd, 1) := dk_96 (dk_at dksX2_gone_1 7 rfl rfl)
theorem dX2_gone_31 : decode cX2_gone 31 = .ok (.istore_n 3, 1) := dk_62 (dk_at dksX2_gone_1 8 rfl rfl)
theorem dX2_gone_32 : decode cX2_gone 32 = .ok (.iinc 4 1, 3) := dk_132 4 1 (dk_at dksX2_gone_1 9 rfl rfl)
theorem dX2_gone_35 : decode cX2_gone 35 = .ok (.goto (-30), 3) := dk_167 255 226 (dk_at dksX2_gone_1 12 rfl rfl)
theorem dX2_gone_38 : decode cX2_gone 38 = .ok (.iload_n 3, 1) := dk_29 (dk_at dksX2_gone_1 15 rfl rfl)
theorem dX2_gone_39 : decode cX2_gone 39 = .ok (.ireturn, 1) := dk_172 (dk_at dksX2_gone_1 16 rfl rfl)
abbrev cX2_at : ByteArray := prog_8_method_8_code
def yX2_at : MethodName := ⟨RX2, "at", "(LMailSessions$Session;I)LMailSessions$Message;"⟩
def dkwX2_at_0 : List UInt8 := [42, 180, 0, 14, 43, 180, 0, 65, 182, 0, 33, 192, 0, 31, 43, 180, 0, 83, 28, 46, 182, 0, 87, 176]
abbrev dktX2_at_0 : List UInt8 := dkwX2_at_0 ++ []
theorem dksX2_at_0 : cX2_at.data.toList.drop 0 = dktX2_at_0 := by decide +kernel
theorem dX2_at_0 : decode cX2_at 0 = .ok (.aload_n 0, 1) := dk_42 (dk_at dksX2_at_0 0 rfl rfl)
theorem dX2_at_1 : decode cX2_at 1 = .ok (.getfield 14, 3) := dk_180 0 14 (dk_at dksX2_at_0 1 rfl rfl)
theorem dX2_at_4 : decode cX2_at 4 = .ok (.aload_n 1, 1) := dk_43 (dk_at dksX2_at_0 4 rfl rfl)
theorem dX2_at_5 : decode cX2_at 5 = .ok (.getfield 65, 3) := dk_180 0 65 (dk_at dksX2_at_0 5 rfl rfl)
theorem dX2_at_8 : decode cX2_at 8 = .ok (.invokevirtual 33, 3) := dk_182 0 33 (dk_at dksX2_at_0 8 rfl rfl)
theorem dX2_at_11 : decode cX2_at 11 = .ok (.checkcast 31, 3) := dk_192 0 31 (dk_at dksX2_at_0 11 rfl rfl)
theorem dX2_at_14 : decode cX2_at 14 = .ok (.aload_n 1, 1) := dk_43 (dk_at dksX2_at_0 14 rfl rfl)
theorem dX2_at_15 : decode cX2_at 15 = .ok (.getfield 83, 3) := dk_180 0 83 (dk_at dksX2_at_0 15 rfl rfl)
theorem dX2_at_18 : decode cX2_at 18 = .ok (.iload_n 2, 1) := dk_28 (dk_at dksX2_at_0 18 rfl rfl)
theorem dX2_at_19 : decode cX2_at 19 = .ok (.iaload, 1) := dk_46 (dk_at dksX2_at_0 19 rfl rfl)
theorem dX2_at_20 : decode cX2_at 20 = .ok (.invokevirtual 87, 3) := dk_182 0 87 (dk_at dksX2_at_0 20 rfl rfl)
theorem dX2_at_23 : decode cX2_at 23 = .ok (.areturn, 1) := dk_176 (dk_at dksX2_at_0 23 rfl rfl)
abbrev cX2_changed : ByteArray := prog_8_method_11_code
def yX2_changed : MethodName := ⟨RX2, "changed", "(LMailSessions$Session;)I"⟩
def dkwX2_changed_1 : List UInt8 := [132, 3, 1, 167, 255, 233, 28, 172]
abbrev dktX2_changed_1 : List UInt8 := dkwX2_changed_1 ++ []
def dkwX2_changed_0 : List UInt8 := [3, 61, 3, 62, 29, 43, 180, 0, 105, 162, 0, 21, 28, 42, 43, 29, 182, 0, 107, 184, 0, 95, 96, 61]
abbrev dktX2_changed_0 : List UInt8 := dkwX2_changed_0 ++ dktX2_changed_1
theorem dksX2_changed_0 : cX2_changed.data.toList.drop 0 = dktX2_changed_0 := by decide +kernel
theorem dksX2_changed_1 : cX2_changed.data.toList.drop 24 = dktX2_changed_1 := dk_seg dksX2_changed_0 24 rfl rfl
theorem dX2_changed_0 : decode cX2_changed 0 = .ok (.iconst 0, 1) := dk_3 (dk_at dksX2_changed_0 0 rfl rfl)
theorem dX2_changed_1 : decode cX2_changed 1 = .ok (.istore_n 2, 1) := dk_61 (dk_at dksX2_changed_0 1 rfl rfl)
theorem dX2_changed_2 : decode cX2_changed 2 = .ok (.iconst 0, 1) := dk_3 (dk_at dksX2_changed_0 2 rfl rfl)
theorem dX2_changed_3 : decode cX2_changed 3 = .ok (.istore_n 3, 1) := dk_62 (dk_at dksX2_changed_0 3 rfl rfl)
theorem dX2_changed_4 : decode cX2_changed 4 = .ok (.iload_n 3, 1) := dk_29 (dk_at dksX2_changed_0 4 rfl rfl)
theorem dX2_changed_5 : decode cX2_changed 5 = .ok (.aload_n 1, 1) := dk_43 (dk_at dksX2_changed_0 5 rfl rfl)
theorem dX2_changed_6 : decode cX2_changed 6 = .ok (.getfield 105, 3) := dk_180 0 105 (dk_at dksX2_changed_0 6 rfl rfl)
theorem dX2_changed_9 : decode cX2_changed 9 = .ok (.if_icmp .ge 21, 3) := dk_162 0 21 (dk_at dksX2_changed_0 9 rfl rfl)
theorem dX2_changed_12 : decode cX2_changed 12 = .ok (.iload_n 2, 1) := dk_28 (dk_at dksX2_changed_0 12 rfl rfl)
theorem dX2_changed_13 : decode cX2_changed 13 = .ok (.aload_n 0, 1) := dk_42 (dk_at dksX2_changed_0 13 rfl rfl)
theorem dX2_changed_14 : decode cX2_changed 14 = .ok (.aload_n 1, 1) := dk_43 (dk_at dksX2_changed_0 14 rfl rfl)
theorem dX2_changed_15 : decode cX2_changed 15 = .ok (.iload_n 3, 1) := dk_29 (dk_at dksX2_changed_0 15 rfl rfl)
theorem dX2_changed_16 : decode cX2_changed 16 = .ok (.invokevirtual 107, 3) := dk_182 0 107 (dk_at dksX2_changed_0 16 rfl rfl)
theorem dX2_changed_19 : decode cX2_changed 19 = .ok (.invokestatic 95, 3) := dk_184 0 95 (dk_at dksX2_changed_0 19 rfl rfl)
theorem dX2_changed_22 : decode cX2_changed 22 = .ok (.iadd, 1) := dk_96 (dk_at dksX2_changed_0 22 rfl rfl)
theorem dX2_changed_23 : decode cX2_changed 23 = .ok (.istore_n 2, 1) := dk_61 (dk_at dksX2_changed_0 23 rfl rfl)
theorem dX2_changed_24 : decode cX2_changed 24 = .ok (.iinc 3 1, 3) := dk_132 3 1 (dk_at dksX2_changed_1 0 rfl rfl)
theorem dX2_changed_27 : decode cX2_changed 27 = .ok (.goto (-23), 3) := dk_167 255 233 (dk_at dksX2_changed_1 3 rfl rfl)
theorem dX2_changed_30 : decode cX2_changed 30 = .ok (.iload_n 2, 1) := dk_28 (dk_at dksX2_changed_1 6 rfl rfl)
theorem dX2_changed_31 : decode cX2_changed 31 = .ok (.ireturn, 1) := dk_172 (dk_at dksX2_changed_1 7 rfl rfl)
abbrev cX2_isChanged : ByteArray := prog_8_method_10_code
def yX2_isChanged : MethodName := ⟨RX2, "isChanged", "(LMailSessions$Session;I)Z"⟩
def dkwX2_isChanged_1 : List UInt8 := [4, 167, 0, 4, 3, 172]
abbrev dktX2_isChanged_1 : List UInt8 := dkwX2_isChanged_1 ++ []
def dkwX2_isChanged_0 : List UInt8 := [42, 43, 28, 182, 0, 91, 78, 45, 198, 0, 20, 45, 180, 0, 99, 43, 180, 0, 102, 28, 46, 159, 0, 7]
abbrev dktX2_isChanged_0 : List UInt8 := dkwX2_isChanged_0 ++ dktX2_isChanged_1
theorem dksX2_isChanged_0 : cX2_isChanged.data.toList.drop 0 = dktX2_isChanged_0 := by decide +kernel
theorem dksX2_isChanged_1 : cX2_isChanged.data.toList.drop 24 = dktX2_isChanged_1 := dk_seg dksX2_isChanged_0 24 rfl rfl
theorem dX2_isChanged_0 : decode cX2_isChanged 0 = .ok (.aload_n 0, 1) := dk_42 (dk_at dksX2_isChanged_0 0 rfl rfl)
theorem dX2_isChanged_1 : decode cX2_isChanged 1 = .ok (.aload_n 1, 1) := dk_43 (dk_at dksX2_isChanged_0 1 rfl rfl)
theorem dX2_isChanged_2 : decode cX2_isChanged 2 = .ok (.iload_n 2, 1) := dk_28 (dk_at dksX2_isChanged_0 2 rfl rfl)
theorem dX2_isChanged_3 : decode cX2_isChanged 3 = .ok (.invokevirtual 91, 3) := dk_182 0 91 (dk_at dksX2_isChanged_0 3 rfl rfl)
theorem dX2_isChanged_6 : decode cX2_isChanged 6 = .ok (.astore_n 3, 1) := dk_78 (dk_at dksX2_isChanged_0 6 rfl rfl)
theorem dX2_isChanged_7 : decode cX2_isChanged 7 = .ok (.aload_n 3, 1) := dk_45 (dk_at dksX2_isChanged_0 7 rfl rfl)
theorem dX2_isChanged_8 : decode cX2_isChanged 8 = .ok (.ifnull 20, 3) := dk_198 0 20 (dk_at dksX2_isChanged_0 8 rfl rfl)
theorem dX2_isChanged_11 : decode cX2_isChanged 11 = .ok (.aload_n 3, 1) := dk_45 (dk_at dksX2_isChanged_0 11 rfl rfl)
theorem dX2_isChanged_12 : decode cX2_isChanged 12 = .ok (.getfield 99, 3) := dk_180 0 99 (dk_at dksX2_isChanged_0 12 rfl rfl)
theorem dX2_isChanged_15 : decode cX2_isChanged 15 = .ok (.aload_n 1, 1) := dk_43 (dk_at dksX2_isChanged_0 15 rfl rfl)
theorem dX2_isChanged_16 : decode cX2_isChanged 16 = .ok (.getfield 102, 3) := dk_180 0 102 (dk_at dksX2_isChanged_0 16 rfl rfl)
theorem dX2_isChanged_19 : decode cX2_isChanged 19 = .ok (.iload_n 2, 1) := dk_28 (dk_at dksX2_isChanged_0 19 rfl rfl)
theorem dX2_isChanged_20 : decode cX2_isChanged 20 = .ok (.iaload, 1) := dk_46 (dk_at dksX2_isChanged_0 20 rfl rfl)
theorem dX2_isChanged_21 : decode cX2_isChanged 21 = .ok (.if_icmp .eq 7, 3) := dk_159 0 7 (dk_at dksX2_isChanged_0 21 rfl rfl)
theorem dX2_isChanged_24 : decode cX2_isChanged 24 = .ok (.iconst 1, 1) := dk_4 (dk_at dksX2_isChanged_1 0 rfl rfl)
theorem dX2_isChanged_25 : decode cX2_isChanged 25 = .ok (.goto 4, 3) := dk_167 0 4 (dk_at dksX2_isChanged_1 1 rfl rfl)
theorem dX2_isChanged_28 : decode cX2_isChanged 28 = .ok (.iconst 0, 1) := dk_3 (dk_at dksX2_isChanged_1 4 rfl rfl)
theorem dX2_isChanged_29 : decode cX2_isChanged 29 = .ok (.ireturn, 1) := dk_172 (dk_at dksX2_isChanged_1 5 rfl rfl)
abbrev cX2_fresh : ByteArray := prog_8_method_12_code
def yX2_fresh : MethodName := ⟨RX2, "fresh", "(LMailSessions$Session;)I"⟩
def dkwX2_fresh_1 : List UInt8 := [192, 0, 31, 43, 180, 0, 80, 4, 96, 18, 113, 184, 0, 114, 182, 0, 117, 172]
abbrev dktX2_fresh_1 : List UInt8 := dkwX2_fresh_1 ++ []
def dkwX2_fresh_0 : List UInt8 := [43, 180, 0, 65, 2, 160, 0, 7, 3, 167, 0, 31, 42, 180, 0, 14, 43, 180, 0, 65, 182, 0, 33]
abbrev dktX2_fresh_0 : List UInt8 := dkwX2_fresh_0 ++ dktX2_fresh_1
theorem dksX2_fresh_0 : cX2_fresh.data.toList.drop 0 = dktX2_fresh_0 := by decide +kernel
theorem dksX2_fresh_1 : cX2_fresh.data.toList.drop 23 = dktX2_fresh_1 := dk_seg dksX2_fresh_0 23 rfl rfl
theorem dX2_fresh_0 : decode cX2_fresh 0 = .ok (.aload_n 1, 1) := dk_43 (dk_at dksX2_fresh_0 0 rfl rfl)
theorem dX2_fresh_1 : decode cX2_fresh 1 = .ok (.getfield 65, 3) := dk_180 0 65 (dk_at dksX2_fresh_0 1 rfl rfl)
theorem dX2_fresh_4 : decode cX2_fresh 4 = .ok (.iconst (-1), 1) := dk_2 (dk_at dksX2_fresh_0 4 rfl rfl)
theorem dX2_fresh_5 : decode cX2_fresh 5 = .ok (.if_icmp .ne 7, 3) := dk_160 0 7 (dk_at dksX2_fresh_0 5 rfl rfl)
theorem dX2_fresh_8 : decode cX2_fresh 8 = .ok (.iconst 0, 1) := dk_3 (dk_at dksX2_fresh_0 8 rfl rfl)
theorem dX2_fresh_9 : decode cX2_fresh 9 = .ok (.goto 31, 3) := dk_167 0 31 (dk_at dksX2_fresh_0 9 rfl rfl)
theorem dX2_fresh_12 : decode cX2_fresh 12 = .ok (.aload_n 0, 1) := dk_42 (dk_at dksX2_fresh_0 12 rfl rfl)
theorem dX2_fresh_13 : decode cX2_fresh 13 = .ok (.getfield 14, 3) := dk_180 0 14 (dk_at dksX2_fresh_0 13 rfl rfl)
theorem dX2_fresh_16 : decode cX2_fresh 16 = .ok (.aload_n 1, 1) := dk_43 (dk_at dksX2_fresh_0 16 rfl rfl)
theorem dX2_fresh_17 : decode cX2_fresh 17 = .ok (.getfield 65, 3) := dk_180 0 65 (dk_at dksX2_fresh_0 17 rfl rfl)
theorem dX2_fresh_20 : decode cX2_fresh 20 = .ok (.invokevirtual 33, 3) := dk_182 0 33 (dk_at dksX2_fresh_0 20 rfl rfl)
theorem dX2_fresh_23 : decode cX2_fresh 23 = .ok (.checkcast 31, 3) := dk_192 0 31 (dk_at dksX2_fresh_1 0 rfl rfl)
theorem dX2_fresh_26 : decode cX2_fresh 26 = .ok (.aload_n 1, 1) := dk_43 (dk_at dksX2_fresh_1 3 rfl rfl)
theorem dX2_fresh_27 : decode cX2_fresh 27 = .ok (.getfield 80, 3) := dk_180 0 80 (dk_at dksX2_fresh_1 4 rfl rfl)
theorem dX2_fresh_30 : decode cX2_fresh 30 = .ok (.iconst 1, 1) := dk_4 (dk_at dksX2_fresh_1 7 rfl rfl)
theorem dX2_fresh_31 : decode cX2_fresh 31 = .ok (.iadd, 1) := dk_96 (dk_at dksX2_fresh_1 8 rfl rfl)
theorem dX2_fresh_32 : decode cX2_fresh 32 = .ok (.ldc 113, 2) := dk_18 113 (dk_at dksX2_fresh_1 9 rfl rfl)
theorem dX2_fresh_34 : decode cX2_fresh 34 = .ok (.invokestatic 114, 3) := dk_184 0 114 (dk_at dksX2_fresh_1 11 rfl rfl)
theorem dX2_fresh_37 : decode cX2_fresh 37 = .ok (.invokevirtual 117, 3) := dk_182 0 117 (dk_at dksX2_fresh_1 14 rfl rfl)
theorem dX2_fresh_40 : decode cX2_fresh 40 = .ok (.ireturn, 1) := dk_172 (dk_at dksX2_fresh_1 17 rfl rfl)
abbrev cX2_init_2 : ByteArray := prog_8_method_2_code
def yX2_init_2 : MethodName := ⟨RX2, "<init>", "(LMailSessions$Server;)V"⟩
def dkwX2_init_2_5 : List UInt8 := [183, 0, 46, 182, 0, 40, 87, 132, 2, 1, 167, 255, 216, 42, 43, 180, 0, 23, 181, 0, 23, 177]
abbrev dktX2_init_2_5 : List UInt8 := dkwX2_init_2_5 ++ []
def dkwX2_init_2_4 : List UInt8 := [162, 0, 35, 42, 180, 0, 20, 187, 0, 44, 89, 43, 180, 0, 20, 28, 182, 0, 33, 192, 0, 44]
abbrev dktX2_init_2_4 : List UInt8 := dkwX2_init_2_4 ++ dktX2_init_2_5
def dkwX2_init_2_3 : List UInt8 := [183, 0, 37, 182, 0, 40, 87, 132, 2, 1, 167, 255, 216, 3, 61, 28, 43, 180, 0, 20, 182, 0, 27]
abbrev dktX2_init_2_3 : List UInt8 := dkwX2_init_2_3 ++ dktX2_init_2_4
def dkwX2_init_2_2 : List UInt8 := [162, 0, 35, 42, 180, 0, 14, 187, 0, 31, 89, 43, 180, 0, 14, 28, 182, 0, 33, 192, 0, 31]
abbrev dktX2_init_2_2 : List UInt8 := dkwX2_init_2_2 ++ dktX2_init_2_3
def dkwX2_init_2_1 : List UInt8 := [183, 0, 11, 181, 0, 20, 42, 16, 30, 181, 0, 23, 3, 61, 28, 43, 180, 0, 14, 182, 0, 27]
abbrev dktX2_init_2_1 : List UInt8 := dkwX2_init_2_1 ++ dktX2_init_2_2
def dkwX2_init_2_0 : List UInt8 := [42, 183, 0, 3, 42, 187, 0, 9, 89, 5, 183, 0, 11, 181, 0, 14, 42, 187, 0, 9, 89, 5]
abbrev dktX2_init_2_0 : List UInt8 := dkwX2_init_2_0 ++ dktX2_init_2_1
theorem dksX2_init_2_0 : cX2_init_2.data.toList.drop 0 = dktX2_init_2_0 := by decide +kernel
theorem dksX2_init_2_1 : cX2_init_2.data.toList.drop 22 = dktX2_init_2_1 := dk_seg dksX2_init_2_0 22 rfl rfl
theorem dksX2_init_2_2 : cX2_init_2.data.toList.drop 44 = dktX2_init_2_2 := dk_seg dksX2_init_2_1 22 rfl rfl
theorem dksX2_init_2_3 : cX2_init_2.data.toList.drop 66 = dktX2_init_2_3 := dk_seg dksX2_init_2_2 22 rfl rfl
theorem dksX2_init_2_4 : cX2_init_2.data.toList.drop 89 = dktX2_init_2_4 := dk_seg dksX2_init_2_3 23 rfl rfl
theorem dksX2_init_2_5 : cX2_init_2.data.toList.drop 111 = dktX2_init_2_5 := dk_seg dksX2_init_2_4 22 rfl rfl
theorem dX2_init_2_0 : decode cX2_init_2 0 = .ok (.aload_n 0, 1) := dk_42 (dk_at dksX2_init_2_0 0 rfl rfl)
theorem dX2_init_2_1 : decode cX2_init_2 1 = .ok (.invokespecial 3, 3) := dk_183 0 3 (dk_at dksX2_init_2_0 1 rfl rfl)
theorem dX2_init_2_4 : decode cX2_init_2 4 = .ok (.aload_n 0, 1) := dk_42 (dk_at dksX2_init_2_0 4 rfl rfl)
theorem dX2_init_2_5 : decode cX2_init_2 5 = .ok (.new 9, 3) := dk_187 0 9 (dk_at dksX2_init_2_0 5 rfl rfl)
theorem dX2_init_2_8 : decode cX2_init_2 8 = .ok (.dup, 1) := dk_89 (dk_at dksX2_init_2_0 8 rfl rfl)
theorem dX2_init_2_9 : decode cX2_init_2 9 = .ok (.iconst 2, 1) := dk_5 (dk_at dksX2_init_2_0 9 rfl rfl)
theorem dX2_init_2_10 : decode cX2_init_2 10 = .ok (.invokespecial 11, 3) := dk_183 0 11 (dk_at dksX2_init_2_0 10 rfl rfl)
theorem dX2_init_2_13 : decode cX2_init_2 13 = .ok (.putfield 14, 3) := dk_181 0 14 (dk_at dksX2_init_2_0 13 rfl rfl)
theorem dX2_init_2_16 : decode cX2_init_2 16 = .ok (.aload_n 0, 1) := dk_42 (dk_at dksX2_init_2_0 16 rfl rfl)
theorem dX2_init_2_17 : decode cX2_init_2 17 = .ok (.new 9, 3) := dk_187 0 9 (dk_at dksX2_init_2_0 17 rfl rfl)
theorem dX2_init_2_20 : decode cX2_init_2 20 = .ok (.dup, 1) := dk_89 (dk_at dksX2_init_2_0 20 rfl rfl)
theorem dX2_init_2_21 : decode cX2_init_2 21 = .ok (.iconst 2, 1) := dk_5 (dk_at dksX2_init_2_0 21 rfl rfl)
theorem dX2_init_2_22 : decode cX2_init_2 22 = .ok (.invokespecial 11, 3) := dk_183 0 11 (dk_at dksX2_init_2_1 0 rfl rfl)
theorem dX2_init_2_25 : decode cX2_init_2 25 = .ok (.putfield 20, 3) := dk_181 0 20 (dk_at dksX2_init_2_1 3 rfl rfl)
theorem dX2_init_2_28 : decode cX2_init_2 28 = .ok (.aload_n 0, 1) := dk_42 (dk_at dksX2_init_2_1 6 rfl rfl)
theorem dX2_init_2_29 : decode cX2_init_2 29 = .ok (.bipush 30, 2) := dk_16 30 (dk_at dksX2_init_2_1 7 rfl rfl)
theorem dX2_init_2_31 : decode cX2_init_2 31 = .ok (.putfield 23, 3) := dk_181 0 23 (dk_at dksX2_init_2_1 9 rfl rfl)
theorem dX2_init_2_34 : decode cX2_init_2 34 = .ok (.iconst 0, 1) := dk_3 (dk_at dksX2_init_2_1 12 rfl rfl)
theorem dX2_init_2_35 : decode cX2_init_2 35 = .ok (.istore_n 2, 1) := dk_61 (dk_at dksX2_init_2_1 13 rfl rfl)
theorem dX2_init_2_36 : decode cX2_init_2 36 = .ok (.iload_n 2, 1) := dk_28 (dk_at dksX2_init_2_1 14 rfl rfl)
theorem dX2_init_2_37 : decode cX2_init_2 37 = .ok (.aload_n 1, 1) := dk_43 (dk_at dksX2_init_2_1 15 rfl rfl)
theorem dX2_init_2_38 : decode cX2_init_2 38 = .ok (.getfield 14, 3) := dk_180 0 14 (dk_at dksX2_init_2_1 16 rfl rfl)
theorem dX2_init_2_41 : decode cX2_init_2 41 = .ok (.invokevirtual 27, 3) := dk_182 0 27 (dk_at dksX2_init_2_1 19 rfl rfl)
theorem dX2_init_2_44 : decode cX2_init_2 44 = .ok (.if_icmp .ge 35, 3) := dk_162 0 35 (dk_at dksX2_init_2_2 0 rfl rfl)
theorem dX2_init_2_47 : decode cX2_init_2 47 = .ok (.aload_n 0, 1) := dk_42 (dk_at dksX2_init_2_2 3 rfl rfl)
theorem dX2_init_2_48 : decode cX2_init_2 48 = .ok (.getfield 14, 3) := dk_180 0 14 (dk_at dksX2_init_2_2 4 rfl rfl)
theorem dX2_init_2_51 : decode cX2_init_2 51 = .ok (.new 31, 3) := dk_187 0 31 (dk_at dksX2_init_2_2 7 rfl rfl)
theorem dX2_init_2_54 : decode cX2_init_2 54 = .ok (.dup, 1) := dk_89 (dk_at dksX2_init_2_2 10 rfl rfl)
theorem dX2_init_2_55 : decode cX2_init_2 55 = .ok (.aload_n 1, 1) := dk_43 (dk_at dksX2_init_2_2 11 rfl rfl)
theorem dX2_init_2_56 : decode cX2_init_2 56 = .ok (.getfield 14, 3) := dk_180 0 14 (dk_at dksX2_init_2_2 12 rfl rfl)
theorem dX2_init_2_59 : decode cX2_init_2 59 = .ok (.iload_n 2, 1) := dk_28 (dk_at dksX2_init_2_2 15 rfl rfl)
theorem dX2_init_2_60 : decode cX2_init_2 60 = .ok (.invokevirtual 33, 3) := dk_182 0 33 (dk_at dksX2_init_2_2 16 rfl rfl)
theorem dX2_init_2_63 : decode cX2_init_2 63 = .ok (.checkcast 31, 3) := dk_192 0 31 (dk_at dksX2_init_2_2 19 rfl rfl)
theorem dX2_init_2_66 : decode cX2_init_2 66 = .ok (.invokespecial 37, 3) := dk_183 0 37 (dk_at dksX2_init_2_3 0 rfl rfl)
theorem dX2_init_2_69 : decode cX2_init_2 69 = .ok (.invokevirtual 40, 3) := dk_182 0 40 (dk_at dksX2_init_2_3 3 rfl rfl)
theorem dX2_init_2_72 : decode cX2_init_2 72 = .ok (.pop, 1) := dk_87 (dk_at dksX2_init_2_3 6 rfl rfl)
theorem dX2_init_2_73 : decode cX2_init_2 73 = .ok (.iinc 2 1, 3) := dk_132 2 1 (dk_at dksX2_init_2_3 7 rfl rfl)
theorem dX2_init_2_76 : decode cX2_init_2 76 = .ok (.goto (-40), 3) := dk_167 255 216 (dk_at dksX2_init_2_3 10 rfl rfl)
theorem dX2_init_2_79 : decode cX2_init_2 79 = .ok (.iconst 0, 1) := dk_3 (dk_at dksX2_init_2_3 13 rfl rfl)
theorem dX2_init_2_80 : decode cX2_init_2 80 = .ok (.istore_n 2, 1) := dk_61 (dk_at dksX2_init_2_3 14 rfl rfl)
theorem dX2_init_2_81 : decode cX2_init_2 81 = .ok (.iload_n 2, 1) := dk_28 (dk_at dksX2_init_2_3 15 rfl rfl)
theorem dX2_init_2_82 : decode cX2_init_2 82 = .ok (.aload_n 1, 1) := dk_43 (dk_at dksX2_init_2_3 16 rfl rfl)
theorem dX2_init_2_83 : decode cX2_init_2 83 = .ok (.getfield 20, 3) := dk_180 0 20 (dk_at dksX2_init_2_3 17 rfl rfl)
theorem dX2_init_2_86 : decode cX2_init_2 86 = .ok (.invokevirtual 27, 3) := dk_182 0 27 (dk_at dksX2_init_2_3 20 rfl rfl)
theorem dX2_init_2_89 : decode cX2_init_2 89 = .ok (.if_icmp .ge 35, 3) := dk_162 0 35 (dk_at dksX2_init_2_4 0 rfl rfl)
theorem dX2_init_2_92 : decode cX2_init_2 92 = .ok (.aload_n 0, 1) := dk_42 (dk_at dksX2_init_2_4 3 rfl rfl)
theorem dX2_init_2_93 : decode cX2_init_2 93 = .ok (.getfield 20, 3) := dk_180 0 20 (dk_at dksX2_init_2_4 4 rfl rfl)
theorem dX2_init_2_96 : decode cX2_init_2 96 = .ok (.new 44, 3) := dk_187 0 44 (dk_at dksX2_init_2_4 7 rfl rfl)
theorem dX2_init_2_99 : decode cX2_init_2 99 = .ok (.dup, 1) := dk_89 (dk_at dksX2_init_2_4 10 rfl rfl)
theorem dX2_init_2_100 : decode cX2_init_2 100 = .ok (.aload_n 1, 1) := dk_43 (dk_at dksX2_init_2_4 11 rfl rfl)
theorem dX2_init_2_101 : decode cX2_init_2 101 = .ok (.getfield 20, 3) := dk_180 0 20 (dk_at dksX2_init_2_4 12 rfl rfl)
theorem dX2_init_2_104 : decode cX2_init_2 104 = .ok (.iload_n 2, 1) := dk_28 (dk_at dksX2_init_2_4 15 rfl rfl)
theorem dX2_init_2_105 : decode cX2_init_2 105 = .ok (.invokevirtual 33, 3) := dk_182 0 33 (dk_at dksX2_init_2_4 16 rfl rfl)
theorem dX2_init_2_108 : decode cX2_init_2 108 = .ok (.checkcast 44, 3) := dk_192 0 44 (dk_at dksX2_init_2_4 19 rfl rfl)
theorem dX2_init_2_111 : decode cX2_init_2 111 = .ok (.invokespecial 46, 3) := dk_183 0 46 (dk_at dksX2_init_2_5 0 rfl rfl)
theorem dX2_init_2_114 : decode cX2_init_2 114 = .ok (.invokevirtual 40, 3) := dk_182 0 40 (dk_at dksX2_init_2_5 3 rfl rfl)
theorem dX2_init_2_117 : decode cX2_init_2 117 = .ok (.pop, 1) := dk_87 (dk_at dksX2_init_2_5 6 rfl rfl)
theorem dX2_init_2_118 : decode cX2_init_2 118 = .ok (.iinc 2 1, 3) := dk_132 2 1 (dk_at dksX2_init_2_5 7 rfl rfl)
theorem dX2_init_2_121 : decode cX2_init_2 121 = .ok (.goto (-40), 3) := dk_167 255 216 (dk_at dksX2_init_2_5 10 rfl rfl)
theorem dX2_init_2_124 : decode cX2_init_2 124 = .ok (.aload_n 0, 1) := dk_42 (dk_at dksX2_init_2_5 13 rfl rfl)
theorem dX2_init_2_125 : decode cX2_init_2 125 = .ok (.aload_n 1, 1) := dk_43 (dk_at dksX2_init_2_5 14 rfl rfl)
theorem dX2_init_2_126 : decode cX2_init_2 126 = .ok (.getfield 23, 3) := dk_180 0 23 (dk_at dksX2_init_2_5 15 rfl rfl)
theorem dX2_init_2_129 : decode cX2_init_2 129 = .ok (.putfield 23, 3) := dk_181 0 23 (dk_at dksX2_init_2_5 18 rfl rfl)
theorem dX2_init_2_132 : decode cX2_init_2 132 = .ok (.return_, 1) := dk_177 (dk_at dksX2_init_2_5 21 rfl rfl)
abbrev cX2_tellIdle : ByteArray := prog_8_method_18_code
def yX2_tellIdle : MethodName := ⟨RX2, "tellIdle", "(Ljava/util/ArrayList;)V"⟩
def dkwX2_tellIdle_2 : List UInt8 := [167, 255, 215, 177]
abbrev dktX2_tellIdle_2 : List UInt8 := dkwX2_tellIdle_2 ++ []
def dkwX2_tellIdle_1 : List UInt8 := [192, 0, 44, 180, 0, 157, 153, 0, 13, 28, 42, 29, 4, 43, 182, 0, 160, 96, 61, 132, 3, 1]
abbrev dktX2_tellIdle_1 : List UInt8 := dkwX2_tellIdle_1 ++ dktX2_tellIdle_2
def dkwX2_tellIdle_0 : List UInt8 := [3, 61, 3, 62, 29, 42, 180, 0, 20, 182, 0, 27, 162, 0, 36, 42, 180, 0, 20, 29, 182, 0, 33]
abbrev dktX2_tellIdle_0 : List UInt8 := dkwX2_tellIdle_0 ++ dktX2_tellIdle_1
theorem dksX2_tellIdle_0 : cX2_tellIdle.data.toList.drop 0 = dktX2_tellIdle_0 := by decide +kernel
theorem dksX2_tellIdle_1 : cX2_tellIdle.data.toList.drop 23 = dktX2_tellIdle_1 := dk_seg dksX2_tellIdle_0 23 rfl rfl
theorem dksX2_tellIdle_2 : cX2_tellIdle.data.toList.drop 45 = dktX2_tellIdle_2 := dk_seg dksX2_tellIdle_1 22 rfl rfl
theorem dX2_tellIdle_0 : decode cX2_tellIdle 0 = .ok (.iconst 0, 1) := dk_3 (dk_at dksX2_tellIdle_0 0 rfl rfl)
theorem dX2_tellIdle_1 : decode cX2_tellIdle 1 = .ok (.istore_n 2, 1) := dk_61 (dk_at dksX2_tellIdle_0 1 rfl rfl)
theorem dX2_tellIdle_2 : decode cX2_tellIdle 2 = .ok (.iconst 0, 1) := dk_3 (dk_at dksX2_tellIdle_0 2 rfl rfl)
theorem dX2_tellIdle_3 : decode cX2_tellIdle 3 = .ok (.istore_n 3, 1) := dk_62 (dk_at dksX2_tellIdle_0 3 rfl rfl)
theorem dX2_tellIdle_4 : decode cX2_tellIdle 4 = .ok (.iload_n 3, 1) := dk_29 (dk_at dksX2_tellIdle_0 4 rfl rfl)
theorem dX2_tellIdle_5 : decode cX2_tellIdle 5 = .ok (.aload_n 0, 1) := dk_42 (dk_at dksX2_tellIdle_0 5 rfl rfl)
theorem dX2_tellIdle_6 : decode cX2_tellIdle 6 = .ok (.getfield 20, 3) := dk_180 0 20 (dk_at dksX2_tellIdle_0 6 rfl rfl)
theorem dX2_tellIdle_9 : decode cX2_tellIdle 9 = .ok (.invokevirtual 27, 3) := dk_182 0 27 (dk_at dksX2_tellIdle_0 9 rfl rfl)
theorem dX2_tellIdle_12 : decode cX2_tellIdle 12 = .ok (.if_icmp .ge 36, 3) := dk_162 0 36 (dk_at dksX2_tellIdle_0 12 rfl rfl)
theorem dX2_tellIdle_15 : decode cX2_tellIdle 15 = .ok (.aload_n 0, 1) := dk_42 (dk_at dksX2_tellIdle_0 15 rfl rfl)
theorem dX2_tellIdle_16 : decode cX2_tellIdle 16 = .ok (.getfield 20, 3) := dk_180 0 20 (dk_at dksX2_tellIdle_0 16 rfl rfl)
theorem dX2_tellIdle_19 : decode cX2_tellIdle 19 = .ok (.iload_n 3, 1) := dk_29 (dk_at dksX2_tellIdle_0 19 rfl rfl)
theorem dX2_tellIdle_20 : decode cX2_tellIdle 20 = .ok (.invokevirtual 33, 3) := dk_182 0 33 (dk_at dksX2_tellIdle_0 20 rfl rfl)
theorem dX2_tellIdle_23 : decode cX2_tellIdle 23 = .ok (.checkcast 44, 3) := dk_192 0 44 (dk_at dksX2_tellIdle_1 0 rfl rfl)
theorem dX2_tellIdle_26 : decode cX2_tellIdle 26 = .ok (.getfield 157, 3) := dk_180 0 157 (dk_at dksX2_tellIdle_1 3 rfl rfl)
theorem dX2_tellIdle_29 : decode cX2_tellIdle 29 = .ok (.ifCond .eq 13, 3) := dk_153 0 13 (dk_at dksX2_tellIdle_1 6 rfl rfl)
theorem dX2_tellIdle_32 : decode cX2_tellIdle 32 = .ok (.iload_n 2, 1) := dk_28 (dk_at dksX2_tellIdle_1 9 rfl rfl)
theorem dX2_tellIdle_33 : decode cX2_tellIdle 33 = .ok (.aload_n 0, 1) := dk_42 (dk_at dksX2_tellIdle_1 10 rfl rfl)
theorem dX2_tellIdle_34 : decode cX2_tellIdle 34 = .ok (.iload_n 3, 1) := dk_29 (dk_at dksX2_tellIdle_1 11 rfl rfl)
theorem dX2_tellIdle_35 : decode cX2_tellIdle 35 = .ok (.iconst 1, 1) := dk_4 (dk_at dksX2_tellIdle_1 12 rfl rfl)
theorem dX2_tellIdle_36 : decode cX2_tellIdle 36 = .ok (.aload_n 1, 1) := dk_43 (dk_at dksX2_tellIdle_1 13 rfl rfl)
theorem dX2_tellIdle_37 : decode cX2_tellIdle 37 = .ok (.invokevirtual 160, 3) := dk_182 0 160 (dk_at dksX2_tellIdle_1 14 rfl rfl)
theorem dX2_tellIdle_40 : decode cX2_tellIdle 40 = .ok (.iadd, 1) := dk_96 (dk_at dksX2_tellIdle_1 17 rfl rfl)
theorem dX2_tellIdle_41 : decode cX2_tellIdle 41 = .ok (.istore_n 2, 1) := dk_61 (dk_at dksX2_tellIdle_1 18 rfl rfl)
theorem dX2_tellIdle_42 : decode cX2_tellIdle 42 = .ok (.iinc 3 1, 3) := dk_132 3 1 (dk_at dksX2_tellIdle_1 19 rfl rfl)
theorem dX2_tellIdle_45 : decode cX2_tellIdle 45 = .ok (.goto (-41), 3) := dk_167 255 215 (dk_at dksX2_tellIdle_2 0 rfl rfl)
theorem dX2_tellIdle_48 : decode cX2_tellIdle 48 = .ok (.return_, 1) := dk_177 (dk_at dksX2_tellIdle_2 3 rfl rfl)
abbrev cX2_tell : ByteArray := prog_8_method_14_code
def yX2_tell : MethodName := ⟨RX2, "tell", "(IZLjava/util/ArrayList;)I"⟩
def dkwX2_tell_5 : List UInt8 := [182, 0, 140, 45, 182, 0, 27, 21, 5, 100, 172]
abbrev dktX2_tell_5 : List UInt8 := dkwX2_tell_5 ++ []
def dkwX2_tell_4 : List UInt8 := [25, 4, 180, 0, 102, 21, 6, 46, 45, 182, 0, 136, 132, 6, 1, 167, 255, 191, 42, 27, 25, 4, 45]
abbrev dktX2_tell_4 : List UInt8 := dkwX2_tell_4 ++ dktX2_tell_5
def dkwX2_tell_3 : List UInt8 := [180, 0, 102, 21, 6, 42, 25, 4, 21, 6, 182, 0, 91, 180, 0, 99, 79, 42, 27, 4, 21, 6, 4, 96]
abbrev dktX2_tell_3 : List UInt8 := dkwX2_tell_3 ++ dktX2_tell_4
def dkwX2_tell_2 : List UInt8 := [25, 4, 180, 0, 105, 162, 0, 61, 42, 25, 4, 21, 6, 182, 0, 107, 154, 0, 6, 167, 0, 41, 25, 4]
abbrev dktX2_tell_2 : List UInt8 := dkwX2_tell_2 ++ dktX2_tell_3
def dkwX2_tell_1 : List UInt8 := [2, 160, 0, 5, 3, 172, 28, 153, 0, 11, 42, 27, 25, 4, 45, 182, 0, 132, 3, 54, 6, 21, 6]
abbrev dktX2_tell_1 : List UInt8 := dkwX2_tell_1 ++ dktX2_tell_2
def dkwX2_tell_0 : List UInt8 := [42, 180, 0, 20, 27, 182, 0, 33, 192, 0, 44, 58, 4, 45, 182, 0, 27, 54, 5, 25, 4, 180, 0, 65]
abbrev dktX2_tell_0 : List UInt8 := dkwX2_tell_0 ++ dktX2_tell_1
theorem dksX2_tell_0 : cX2_tell.data.toList.drop 0 = dktX2_tell_0 := by decide +kernel
theorem dksX2_tell_1 : cX2_tell.data.toList.drop 24 = dktX2_tell_1 := dk_seg dksX2_tell_0 24 rfl rfl
theorem dksX2_tell_2 : cX2_tell.data.toList.drop 47 = dktX2_tell_2 := dk_seg dksX2_tell_1 23 rfl rfl
theorem dksX2_tell_3 : cX2_tell.data.toList.drop 71 = dktX2_tell_3 := dk_seg dksX2_tell_2 24 rfl rfl
theorem dksX2_tell_4 : cX2_tell.data.toList.drop 95 = dktX2_tell_4 := dk_seg dksX2_tell_3 24 rfl rfl
theorem dksX2_tell_5 : cX2_tell.data.toList.drop 118 = dktX2_tell_5 := dk_seg dksX2_tell_4 23 rfl rfl
theorem dX2_tell_0 : decode cX2_tell 0 = .ok (.aload_n 0, 1) := dk_42 (dk_at dksX2_tell_0 0 rfl rfl)
theorem dX2_tell_1 : decode cX2_tell 1 = .ok (.getfield 20, 3) := dk_180 0 20 (dk_at dksX2_tell_0 1 rfl rfl)
theorem dX2_tell_4 : decode cX2_tell 4 = .ok (.iload_n 1, 1) := dk_27 (dk_at dksX2_tell_0 4 rfl rfl)
theorem dX2_tell_5 : decode cX2_tell 5 = .ok (.invokevirtual 33, 3) := dk_182 0 33 (dk_at dksX2_tell_0 5 rfl rfl)
theorem dX2_tell_8 : decode cX2_tell 8 = .ok (.checkcast 44, 3) := dk_192 0 44 (dk_at dksX2_tell_0 8 rfl rfl)
theorem dX2_tell_11 : decode cX2_tell 11 = .ok (.astore 4, 2) := dk_58 4 (dk_at dksX2_tell_0 11 rfl rfl)
theorem dX2_tell_13 : decode cX2_tell 13 = .ok (.aload_n 3, 1) := dk_45 (dk_at dksX2_tell_0 13 rfl rfl)
theorem dX2_tell_14 : decode cX2_tell 14 = .ok (.invokevirtual 27, 3) := dk_182 0 27 (dk_at dksX2_tell_0 14 rfl rfl)
theorem dX2_tell_17 : decode cX2_tell 17 = .ok (.istore 5, 2) := dk_54 5 (dk_at dksX2_tell_0 17 rfl rfl)
theorem dX2_tell_19 : decode cX2_tell 19 = .ok (.aload 4, 2) := dk_25 4 (dk_at dksX2_tell_0 19 rfl rfl)
theorem dX2_tell_21 : decode cX2_tell 21 = .ok (.getfield 65, 3) := dk_180 0 65 (dk_at dksX2_tell_0 21 rfl rfl)
theorem dX2_tell_24 : decode cX2_tell 24 = .ok (.iconst (-1), 1) := dk_2 (dk_at dksX2_tell_1 0 rfl rfl)
theorem dX2_tell_25 : decode cX2_tell 25 = .ok (.if_icmp .ne 5, 3) := dk_160 0 5 (dk_at dksX2_tell_1 1 rfl rfl)
theorem dX2_tell_28 : decode cX2_tell 28 = .ok (.iconst 0, 1) := dk_3 (dk_at dksX2_tell_1 4 rfl rfl)
theorem dX2_tell_29 : decode cX2_tell 29 = .ok (.ireturn, 1) := dk_172 (dk_at dksX2_tell_1 5 rfl rfl)
theorem dX2_tell_30 : decode cX2_tell 30 = .ok (.iload_n 2, 1) := dk_28 (dk_at dksX2_tell_1 6 rfl rfl)
theorem dX2_tell_31 : decode cX2_tell 31 = .ok (.ifCond .eq 11, 3) := dk_153 0 11 (dk_at dksX2_tell_1 7 rfl rfl)
theorem dX2_tell_34 : decode cX2_tell 34 = .ok (.aload_n 0, 1) := dk_42 (dk_at dksX2_tell_1 10 rfl rfl)
theorem dX2_tell_35 : decode cX2_tell 35 = .ok (.iload_n 1, 1) := dk_27 (dk_at dksX2_tell_1 11 rfl rfl)
theorem dX2_tell_36 : decode cX2_tell 36 = .ok (.aload 4, 2) := dk_25 4 (dk_at dksX2_tell_1 12 rfl rfl)
theorem dX2_tell_38 : decode cX2_tell 38 = .ok (.aload_n 3, 1) := dk_45 (dk_at dksX2_tell_1 14 rfl rfl)
theorem dX2_tell_39 : decode cX2_tell 39 = .ok (.invokevirtual 132, 3) := dk_182 0 132 (dk_at dksX2_tell_1 15 rfl rfl)
theorem dX2_tell_42 : decode cX2_tell 42 = .ok (.iconst 0, 1) := dk_3 (dk_at dksX2_tell_1 18 rfl rfl)
theorem dX2_tell_43 : decode cX2_tell 43 = .ok (.istore 6, 2) := dk_54 6 (dk_at dksX2_tell_1 19 rfl rfl)
theorem dX2_tell_45 : decode cX2_tell 45 = .ok (.iload 6, 2) := dk_21 6 (dk_at dksX2_tell_1 21 rfl rfl)
theorem dX2_tell_47 : decode cX2_tell 47 = .ok (.aload 4, 2) := dk_25 4 (dk_at dksX2_tell_2 0 rfl rfl)
theorem dX2_tell_49 : decode cX2_tell 49 = .ok (.getfield 105, 3) := dk_180 0 105 (dk_at dksX2_tell_2 2 rfl rfl)
theorem dX2_tell_52 : decode cX2_tell 52 = .ok (.if_icmp .ge 61, 3) := dk_162 0 61 (dk_at dksX2_tell_2 5 rfl rfl)
theorem dX2_tell_55 : decode cX2_tell 55 = .ok (.aload_n 0, 1) := dk_42 (dk_at dksX2_tell_2 8 rfl rfl)
theorem dX2_tell_56 : decode cX2_tell 56 = .ok (.aload 4, 2) := dk_25 4 (dk_at dksX2_tell_2 9 rfl rfl)
theorem dX2_tell_58 : decode cX2_tell 58 = .ok (.iload 6, 2) := dk_21 6 (dk_at dksX2_tell_2 11 rfl rfl)
theorem dX2_tell_60 : decode cX2_tell 60 = .ok (.invokevirtual 107, 3) := dk_182 0 107 (dk_at dksX2_tell_2 13 rfl rfl)
theorem dX2_tell_63 : decode cX2_tell 63 = .ok (.ifCond .ne 6, 3) := dk_154 0 6 (dk_at dksX2_tell_2 16 rfl rfl)
theorem dX2_tell_66 : decode cX2_tell 66 = .ok (.goto 41, 3) := dk_167 0 41 (dk_at dksX2_tell_2 19 rfl rfl)
theorem dX2_tell_69 : decode cX2_tell 69 = .ok (.aload 4, 2) := dk_25 4 (dk_at dksX2_tell_2 22 rfl rfl)
theorem dX2_tell_71 : decode cX2_tell 71 = .ok (.getfield 102, 3) := dk_180 0 102 (dk_at dksX2_tell_3 0 rfl rfl)
theorem dX2_tell_74 : decode cX2_tell 74 = .ok (.iload 6, 2) := dk_21 6 (dk_at dksX2_tell_3 3 rfl rfl)
theorem dX2_tell_76 : decode cX2_tell 76 = .ok (.aload_n 0, 1) := dk_42 (dk_at dksX2_tell_3 5 rfl rfl)
theorem dX2_tell_77 : decode cX2_tell 77 = .ok (.aload 4, 2) := dk_25 4 (dk_at dksX2_tell_3 6 rfl rfl)
theorem dX2_tell_79 : decode cX2_tell 79 = .ok (.iload 6, 2) := dk_21 6 (dk_at dksX2_tell_3 8 rfl rfl)
theorem dX2_tell_81 : decode cX2_tell 81 = .ok (.invokevirtual 91, 3) := dk_182 0 91 (dk_at dksX2_tell_3 10 rfl rfl)
theorem dX2_tell_84 : decode cX2_tell 84 = .ok (.getfield 99, 3) := dk_180 0 99 (dk_at dksX2_tell_3 13 rfl rfl)
theorem dX2_tell_87 : decode cX2_tell 87 = .ok (.iastore, 1) := dk_79 (dk_at dksX2_tell_3 16 rfl rfl)
theorem dX2_tell_88 : decode cX2_tell 88 = .ok (.aload_n 0, 1) := dk_42 (dk_at dksX2_tell_3 17 rfl rfl)
theorem dX2_tell_89 : decode cX2_tell 89 = .ok (.iload_n 1, 1) := dk_27 (dk_at dksX2_tell_3 18 rfl rfl)
theorem dX2_tell_90 : decode cX2_tell 90 = .ok (.iconst 1, 1) := dk_4 (dk_at dksX2_tell_3 19 rfl rfl)
theorem dX2_tell_91 : decode cX2_tell 91 = .ok (.iload 6, 2) := dk_21 6 (dk_at dksX2_tell_3 20 rfl rfl)
theorem dX2_tell_93 : decode cX2_tell 93 = .ok (.iconst 1, 1) := dk_4 (dk_at dksX2_tell_3 22 rfl rfl)
theorem dX2_tell_94 : decode cX2_tell 94 = .ok (.iadd, 1) := dk_96 (dk_at dksX2_tell_3 23 rfl rfl)
theorem dX2_tell_95 : decode cX2_tell 95 = .ok (.aload 4, 2) := dk_25 4 (dk_at dksX2_tell_4 0 rfl rfl)
theorem dX2_tell_97 : decode cX2_tell 97 = .ok (.getfield 102, 3) := dk_180 0 102 (dk_at dksX2_tell_4 2 rfl rfl)
theorem dX2_tell_100 : decode cX2_tell 100 = .ok (.iload 6, 2) := dk_21 6 (dk_at dksX2_tell_4 5 rfl rfl)
theorem dX2_tell_102 : decode cX2_tell 102 = .ok (.iaload, 1) := dk_46 (dk_at dksX2_tell_4 7 rfl rfl)
theorem dX2_tell_103 : decode cX2_tell 103 = .ok (.aload_n 3, 1) := dk_45 (dk_at dksX2_tell_4 8 rfl rfl)
theorem dX2_tell_104 : decode cX2_tell 104 = .ok (.invokevirtual 136, 3) := dk_182 0 136 (dk_at dksX2_tell_4 9 rfl rfl)
theorem dX2_tell_107 : decode cX2_tell 107 = .ok (.iinc 6 1, 3) := dk_132 6 1 (dk_at dksX2_tell_4 12 rfl rfl)
theorem dX2_tell_110 : decode cX2_tell 110 = .ok (.goto (-65), 3) := dk_167 255 191 (dk_at dksX2_tell_4 15 rfl rfl)
theorem dX2_tell_113 : decode cX2_tell 113 = .ok (.aload_n 0, 1) := dk_42 (dk_at dksX2_tell_4 18 rfl rfl)
theorem dX2_tell_114 : decode cX2_tell 114 = .ok (.iload_n 1, 1) := dk_27 (dk_at dksX2_tell_4 19 rfl rfl)
theorem dX2_tell_115 : decode cX2_tell 115 = .ok (.aload 4, 2) := dk_25 4 (dk_at dksX2_tell_4 20 rfl rfl)
theorem dX2_tell_117 : decode cX2_tell 117 = .ok (.aload_n 3, 1) := dk_45 (dk_at dksX2_tell_4 22 rfl rfl)
theorem dX2_tell_118 : decode cX2_tell 118 = .ok (.invokevirtual 140, 3) := dk_182 0 140 (dk_at dksX2_tell_5 0 rfl rfl)
theorem dX2_tell_121 : decode cX2_tell 121 = .ok (.aload_n 3, 1) := dk_45 (dk_at dksX2_tell_5 3 rfl rfl)
theorem dX2_tell_122 : decode cX2_tell 122 = .ok (.invokevirtual 27, 3) := dk_182 0 27 (dk_at dksX2_tell_5 4 rfl rfl)
theorem dX2_tell_125 : decode cX2_tell 125 = .ok (.iload 5, 2) := dk_21 5 (dk_at dksX2_tell_5 7 rfl rfl)
theorem dX2_tell_127 : decode cX2_tell 127 = .ok (.isub, 1) := dk_100 (dk_at dksX2_tell_5 9 rfl rfl)
theorem dX2_tell_128 : decode cX2_tell 128 = .ok (.ireturn, 1) := dk_172 (dk_at dksX2_tell_5 10 rfl rfl)
abbrev cX2_tellRemovals : ByteArray := prog_8_method_16_code
def yX2_tellRemovals : MethodName := ⟨RX2, "tellRemovals", "(ILMailSessions$Session;Ljava/util/ArrayList;)V"⟩
def dkwX2_tellRemovals_2 : List UInt8 := [167, 255, 213, 177]
abbrev dktX2_tellRemovals_2 : List UInt8 := dkwX2_tellRemovals_2 ++ []
def dkwX2_tellRemovals_1 : List UInt8 := [132, 4, 1, 167, 255, 234, 44, 21, 4, 182, 0, 151, 42, 27, 3, 21, 4, 4, 96, 3, 45, 182, 0, 136]
abbrev dktX2_tellRemovals_1 : List UInt8 := dkwX2_tellRemovals_1 ++ dktX2_tellRemovals_2
def dkwX2_tellRemovals_0 : List UInt8 := [3, 54, 4, 21, 4, 44, 180, 0, 105, 162, 0, 40, 42, 44, 21, 4, 182, 0, 91, 198, 0, 9]
abbrev dktX2_tellRemovals_0 : List UInt8 := dkwX2_tellRemovals_0 ++ dktX2_tellRemovals_1
theorem dksX2_tellRemovals_0 : cX2_tellRemovals.data.toList.drop 0 = dktX2_tellRemovals_0 := by decide +kernel
theorem dksX2_tellRemovals_1 : cX2_tellRemovals.data.toList.drop 22 = dktX2_tellRemovals_1 := dk_seg dksX2_tellRemovals_0 22 rfl rfl
theorem dksX2_tellRemovals_2 : cX2_tellRemovals.data.toList.drop 46 = dktX2_tellRemovals_2 := dk_seg dksX2_tellRemovals_1 24 rfl rfl
theorem dX2_tellRemovals_0 : decode cX2_tellRemovals 0 = .ok (.iconst 0, 1) := dk_3 (dk_at dksX2_tellRemovals_0 0 rfl rfl)
theorem dX2_tellRemovals_1 : decode cX2_tellRemovals 1 = .ok (.istore 4, 2) := dk_54 4 (dk_at dksX2_tellRemovals_0 1 rfl rfl)
theorem dX2_tellRemovals_3 : decode cX2_tellRemovals 3 = .ok (.iload 4, 2) := dk_21 4 (dk_at dksX2_tellRemovals_0 3 rfl rfl)
theorem dX2_tellRemovals_5 : decode cX2_tellRemovals 5 = .ok (.aload_n 2, 1) := dk_44 (dk_at dksX2_tellRemovals_0 5 rfl rfl)
theorem dX2_tellRemovals_6 : decode cX2_tellRemovals 6 = .ok (.getfield 105, 3) := dk_180 0 105 (dk_at dksX2_tellRemovals_0 6 rfl rfl)
theorem dX2_tellRemovals_9 : decode cX2_tellRemovals 9 = .ok (.if_icmp .ge 40, 3) := dk_162 0 40 (dk_at dksX2_tellRemovals_0 9 rfl rfl)
theorem dX2_tellRemovals_12 : decode cX2_tellRemovals 12 = .ok (.aload_n 0, 1) := dk_42 (dk_at dksX2_tellRemovals_0 12 rfl rfl)
theorem dX2_tellRemovals_13 : decode cX2_tellRemovals 13 = .ok (.aload_n 2, 1) := dk_44 (dk_at dksX2_tellRemovals_0 13 rfl rfl)
theorem dX2_tellRemovals_14 : decode cX2_tellRemovals 14 = .ok (.iload 4, 2) := dk_21 4 (dk_at dksX2_tellRemovals_0 14 rfl rfl)
theorem dX2_tellRemovals_16 : decode cX2_tellRemovals 16 = .ok (.invokevirtual 91, 3) := dk_182 0 91 (dk_at dksX2_tellRemovals_0 16 rfl rfl)
theorem dX2_tellRemovals_19 : decode cX2_tellRemovals 19 = .ok (.ifnull 9, 3) := dk_198 0 9 (dk_at dksX2_tellRemovals_0 19 rfl rfl)
theorem dX2_tellRemovals_22 : decode cX2_tellRemovals 22 = .ok (.iinc 4 1, 3) := dk_132 4 1 (dk_at dksX2_tellRemovals_1 0 rfl rfl)
theorem dX2_tellRemovals_25 : decode cX2_tellRemovals 25 = .ok (.goto (-22), 3) := dk_167 255 234 (dk_at dksX2_tellRemovals_1 3 rfl rfl)
theorem dX2_tellRemovals_28 : decode cX2_tellRemovals 28 = .ok (.aload_n 2, 1) := dk_44 (dk_at dksX2_tellRemovals_1 6 rfl rfl)
theorem dX2_tellRemovals_29 : decode cX2_tellRemovals 29 = .ok (.iload 4, 2) := dk_21 4 (dk_at dksX2_tellRemovals_1 7 rfl rfl)
theorem dX2_tellRemovals_31 : decode cX2_tellRemovals 31 = .ok (.invokevirtual 151, 3) := dk_182 0 151 (dk_at dksX2_tellRemovals_1 9 rfl rfl)
theorem dX2_tellRemovals_34 : decode cX2_tellRemovals 34 = .ok (.aload_n 0, 1) := dk_42 (dk_at dksX2_tellRemovals_1 12 rfl rfl)
theorem dX2_tellRemovals_35 : decode cX2_tellRemovals 35 = .ok (.iload_n 1, 1) := dk_27 (dk_at dksX2_tellRemovals_1 13 rfl rfl)
theorem dX2_tellRemovals_36 : decode cX2_tellRemovals 36 = .ok (.iconst 0, 1) := dk_3 (dk_at dksX2_tellRemovals_1 14 rfl rfl)
theorem dX2_tellRemovals_37 : decode cX2_tellRemovals 37 = .ok (.iload 4, 2) := dk_21 4 (dk_at dksX2_tellRemovals_1 15 rfl rfl)
theorem dX2_tellRemovals_39 : decode cX2_tellRemovals 39 = .ok (.iconst 1, 1) := dk_4 (dk_at dksX2_tellRemovals_1 17 rfl rfl)
theorem dX2_tellRemovals_40 : decode cX2_tellRemovals 40 = .ok (.iadd, 1) := dk_96 (dk_at dksX2_tellRemovals_1 18 rfl rfl)
theorem dX2_tellRemovals_41 : decode cX2_tellRemovals 41 = .ok (.iconst 0, 1) := dk_3 (dk_at dksX2_tellRemovals_1 19 rfl rfl)
theorem dX2_tellRemovals_42 : decode cX2_tellRemovals 42 = .ok (.aload_n 3, 1) := dk_45 (dk_at dksX2_tellRemovals_1 20 rfl rfl)
theorem dX2_tellRemovals_43 : decode cX2_tellRemovals 43 = .ok (.invokevirtual 136, 3) := dk_182 0 136 (dk_at dksX2_tellRemovals_1 21 rfl rfl)
theorem dX2_tellRemovals_46 : decode cX2_tellRemovals 46 = .ok (.goto (-43), 3) := dk_167 255 213 (dk_at dksX2_tellRemovals_2 0 rfl rfl)
theorem dX2_tellRemovals_49 : decode cX2_tellRemovals 49 = .ok (.return_, 1) := dk_177 (dk_at dksX2_tellRemovals_2 3 rfl rfl)
abbrev cX2_note : ByteArray := prog_8_method_15_code
def yX2_note : MethodName := ⟨RX2, "note", "(IIIILjava/util/ArrayList;)V"⟩
def dkwX2_note_1 : List UInt8 := [182, 0, 33, 192, 0, 44, 180, 0, 148, 28, 4, 96, 92, 46, 4, 96, 79, 177]
abbrev dktX2_note_1 : List UInt8 := dkwX2_note_1 ++ []
def dkwX2_note_0 : List UInt8 := [25, 5, 187, 0, 143, 89, 27, 28, 29, 21, 4, 183, 0, 145, 182, 0, 40, 87, 42, 180, 0, 20, 27]
abbrev dktX2_note_0 : List UInt8 := dkwX2_note_0 ++ dktX2_note_1
theorem dksX2_note_0 : cX2_note.data.toList.drop 0 = dktX2_note_0 := by decide +kernel
theorem dksX2_note_1 : cX2_note.data.toList.drop 23 = dktX2_note_1 := dk_seg dksX2_note_0 23 rfl rfl
theorem dX2_note_0 : decode cX2_note 0 = .ok (.aload 5, 2) := dk_25 5 (dk_at dksX2_note_0 0 rfl rfl)
theorem dX2_note_2 : decode cX2_note 2 = .ok (.new 143, 3) := dk_187 0 143 (dk_at dksX2_note_0 2 rfl rfl)
theorem dX2_note_5 : decode cX2_note 5 = .ok (.dup, 1) := dk_89 (dk_at dksX2_note_0 5 rfl rfl)
theorem dX2_note_6 : decode cX2_note 6 = .ok (.iload_n 1, 1) := dk_27 (dk_at dksX2_note_0 6 rfl rfl)
theorem dX2_note_7 : decode cX2_note 7 = .ok (.iload_n 2, 1) := dk_28 (dk_at dksX2_note_0 7 rfl rfl)
theorem dX2_note_8 : decode cX2_note 8 = .ok (.iload_n 3, 1) := dk_29 (dk_at dksX2_note_0 8 rfl rfl)
theorem dX2_note_9 : decode cX2_note 9 = .ok (.iload 4, 2) := dk_21 4 (dk_at dksX2_note_0 9 rfl rfl)
theorem dX2_note_11 : decode cX2_note 11 = .ok (.invokespecial 145, 3) := dk_183 0 145 (dk_at dksX2_note_0 11 rfl rfl)
theorem dX2_note_14 : decode cX2_note 14 = .ok (.invokevirtual 40, 3) := dk_182 0 40 (dk_at dksX2_note_0 14 rfl rfl)
theorem dX2_note_17 : decode cX2_note 17 = .ok (.pop, 1) := dk_87 (dk_at dksX2_note_0 17 rfl rfl)
theorem dX2_note_18 : decode cX2_note 18 = .ok (.aload_n 0, 1) := dk_42 (dk_at dksX2_note_0 18 rfl rfl)
theorem dX2_note_19 : decode cX2_note 19 = .ok (.getfield 20, 3) := dk_180 0 20 (dk_at dksX2_note_0 19 rfl rfl)
theorem dX2_note_22 : decode cX2_note 22 = .ok (.iload_n 1, 1) := dk_27 (dk_at dksX2_note_0 22 rfl rfl)
theorem dX2_note_23 : decode cX2_note 23 = .ok (.invokevirtual 33, 3) := dk_182 0 33 (dk_at dksX2_note_1 0 rfl rfl)
theorem dX2_note_26 : decode cX2_note 26 = .ok (.checkcast 44, 3) := dk_192 0 44 (dk_at dksX2_note_1 3 rfl rfl)
theorem dX2_note_29 : decode cX2_note 29 = .ok (.getfield 148, 3) := dk_180 0 148 (dk_at dksX2_note_1 6 rfl rfl)
theorem dX2_note_32 : decode cX2_note 32 = .ok (.iload_n 2, 1) := dk_28 (dk_at dksX2_note_1 9 rfl rfl)
theorem dX2_note_33 : decode cX2_note 33 = .ok (.iconst 1, 1) := dk_4 (dk_at dksX2_note_1 10 rfl rfl)
theorem dX2_note_34 : decode cX2_note 34 = .ok (.iadd, 1) := dk_96 (dk_at dksX2_note_1 11 rfl rfl)
theorem dX2_note_35 : decode cX2_note 35 = .ok (.dup2, 1) := dk_92 (dk_at dksX2_note_1 12 rfl rfl)
theorem dX2_note_36 : decode cX2_note 36 = .ok (.iaload, 1) := dk_46 (dk_at dksX2_note_1 13 rfl rfl)
theorem dX2_note_37 : decode cX2_note 37 = .ok (.iconst 1, 1) := dk_4 (dk_at dksX2_note_1 14 rfl rfl)
theorem dX2_note_38 : decode cX2_note 38 = .ok (.iadd, 1) := dk_96 (dk_at dksX2_note_1 15 rfl rfl)
theorem dX2_note_39 : decode cX2_note 39 = .ok (.iastore, 1) := dk_79 (dk_at dksX2_note_1 16 rfl rfl)
theorem dX2_note_40 : decode cX2_note 40 = .ok (.return_, 1) := dk_177 (dk_at dksX2_note_1 17 rfl rfl)
abbrev cX2_tellNew : ByteArray := prog_8_method_17_code
def yX2_tellNew : MethodName := ⟨RX2, "tellNew", "(ILMailSessions$Session;Ljava/util/ArrayList;)V"⟩
def dkwX2_tellNew_4 : List UInt8 := [164, 0, 15, 42, 27, 5, 44, 180, 0, 105, 3, 45, 182, 0, 136, 177]
abbrev dktX2_tellNew_4 : List UInt8 := dkwX2_tellNew_4 ++ []
def dkwX2_tellNew_3 : List UInt8 := [21, 6, 182, 0, 33, 192, 0, 72, 182, 0, 74, 132, 6, 1, 167, 255, 200, 44, 180, 0, 105, 21, 5]
abbrev dktX2_tellNew_3 : List UInt8 := dkwX2_tellNew_3 ++ dktX2_tellNew_4
def dkwX2_tellNew_2 : List UInt8 := [25, 4, 21, 6, 182, 0, 33, 192, 0, 72, 180, 0, 154, 44, 180, 0, 80, 164, 0, 17, 44, 25, 4]
abbrev dktX2_tellNew_2 : List UInt8 := dkwX2_tellNew_2 ++ dktX2_tellNew_3
def dkwX2_tellNew_1 : List UInt8 := [54, 5, 3, 54, 6, 21, 6, 25, 4, 182, 0, 27, 162, 0, 52, 44, 180, 0, 105, 16, 60, 162, 0, 43]
abbrev dktX2_tellNew_1 : List UInt8 := dkwX2_tellNew_1 ++ dktX2_tellNew_2
def dkwX2_tellNew_0 : List UInt8 := [42, 180, 0, 14, 44, 180, 0, 65, 182, 0, 33, 192, 0, 31, 180, 0, 59, 58, 4, 44, 180, 0, 105]
abbrev dktX2_tellNew_0 : List UInt8 := dkwX2_tellNew_0 ++ dktX2_tellNew_1
theorem dksX2_tellNew_0 : cX2_tellNew.data.toList.drop 0 = dktX2_tellNew_0 := by decide +kernel
theorem dksX2_tellNew_1 : cX2_tellNew.data.toList.drop 23 = dktX2_tellNew_1 := dk_seg dksX2_tellNew_0 23 rfl rfl
theorem dksX2_tellNew_2 : cX2_tellNew.data.toList.drop 47 = dktX2_tellNew_2 := dk_seg dksX2_tellNew_1 24 rfl rfl
theorem dksX2_tellNew_3 : cX2_tellNew.data.toList.drop 70 = dktX2_tellNew_3 := dk_seg dksX2_tellNew_2 23 rfl rfl
theorem dksX2_tellNew_4 : cX2_tellNew.data.toList.drop 93 = dktX2_tellNew_4 := dk_seg dksX2_tellNew_3 23 rfl rfl
theorem dX2_tellNew_0 : decode cX2_tellNew 0 = .ok (.aload_n 0, 1) := dk_42 (dk_at dksX2_tellNew_0 0 rfl rfl)
theorem dX2_tellNew_1 : decode cX2_tellNew 1 = .ok (.getfield 14, 3) := dk_180 0 14 (dk_at dksX2_tellNew_0 1 rfl rfl)
theorem dX2_tellNew_4 : decode cX2_tellNew 4 = .ok (.aload_n 2, 1) := dk_44 (dk_at dksX2_tellNew_0 4 rfl rfl)
theorem dX2_tellNew_5 : decode cX2_tellNew 5 = .ok (.getfield 65, 3) := dk_180 0 65 (dk_at dksX2_tellNew_0 5 rfl rfl)
theorem dX2_tellNew_8 : decode cX2_tellNew 8 = .ok (.invokevirtual 33, 3) := dk_182 0 33 (dk_at dksX2_tellNew_0 8 rfl rfl)
theorem dX2_tellNew_11 : decode cX2_tellNew 11 = .ok (.checkcast 31, 3) := dk_192 0 31 (dk_at dksX2_tellNew_0 11 rfl rfl)
theorem dX2_tellNew_14 : decode cX2_tellNew 14 = .ok (.getfield 59, 3) := dk_180 0 59 (dk_at dksX2_tellNew_0 14 rfl rfl)
theorem dX2_tellNew_17 : decode cX2_tellNew 17 = .ok (.astore 4, 2) := dk_58 4 (dk_at dksX2_tellNew_0 17 rfl rfl)
theorem dX2_tellNew_19 : decode cX2_tellNew 19 = .ok (.aload_n 2, 1) := dk_44 (dk_at dksX2_tellNew_0 19 rfl rfl)
theorem dX2_tellNew_20 : decode cX2_tellNew 20 = .ok (.getfield 105, 3) := dk_180 0 105 (dk_at dksX2_tellNew_0 20 rfl rfl)
theorem dX2_tellNew_23 : decode cX2_tellNew 23 = .ok (.istore 5, 2) := dk_54 5 (dk_at dksX2_tellNew_1 0 rfl rfl)
theorem dX2_tellNew_25 : decode cX2_tellNew 25 = .ok (.iconst 0, 1) := dk_3 (dk_at dksX2_tellNew_1 2 rfl rfl)
theorem dX2_tellNew_26 : decode cX2_tellNew 26 = .ok (.istore 6, 2) := dk_54 6 (dk_at dksX2_tellNew_1 3 rfl rfl)
theorem dX2_tellNew_28 : decode cX2_tellNew 28 = .ok (.iload 6, 2) := dk_21 6 (dk_at dksX2_tellNew_1 5 rfl rfl)
theorem dX2_tellNew_30 : decode cX2_tellNew 30 = .ok (.aload 4, 2) := dk_25 4 (dk_at dksX2_tellNew_1 7 rfl rfl)
theorem dX2_tellNew_32 : decode cX2_tellNew 32 = .ok (.invokevirtual 27, 3) := dk_182 0 27 (dk_at dksX2_tellNew_1 9 rfl rfl)
theorem dX2_tellNew_35 : decode cX2_tellNew 35 = .ok (.if_icmp .ge 52, 3) := dk_162 0 52 (dk_at dksX2_tellNew_1 12 rfl rfl)
theorem dX2_tellNew_38 : decode cX2_tellNew 38 = .ok (.aload_n 2, 1) := dk_44 (dk_at dksX2_tellNew_1 15 rfl rfl)
theorem dX2_tellNew_39 : decode cX2_tellNew 39 = .ok (.getfield 105, 3) := dk_180 0 105 (dk_at dksX2_tellNew_1 16 rfl rfl)
theorem dX2_tellNew_42 : decode cX2_tellNew 42 = .ok (.bipush 60, 2) := dk_16 60 (dk_at dksX2_tellNew_1 19 rfl rfl)
theorem dX2_tellNew_44 : decode cX2_tellNew 44 = .ok (.if_icmp .ge 43, 3) := dk_162 0 43 (dk_at dksX2_tellNew_1 21 rfl rfl)
theorem dX2_tellNew_47 : decode cX2_tellNew 47 = .ok (.aload 4, 2) := dk_25 4 (dk_at dksX2_tellNew_2 0 rfl rfl)
theorem dX2_tellNew_49 : decode cX2_tellNew 49 = .ok (.iload 6, 2) := dk_21 6 (dk_at dksX2_tellNew_2 2 rfl rfl)
theorem dX2_tellNew_51 : decode cX2_tellNew 51 = .ok (.invokevirtual 33, 3) := dk_182 0 33 (dk_at dksX2_tellNew_2 4 rfl rfl)
theorem dX2_tellNew_54 : decode cX2_tellNew 54 = .ok (.checkcast 72, 3) := dk_192 0 72 (dk_at dksX2_tellNew_2 7 rfl rfl)
theorem dX2_tellNew_57 : decode cX2_tellNew 57 = .ok (.getfield 154, 3) := dk_180 0 154 (dk_at dksX2_tellNew_2 10 rfl rfl)
theorem dX2_tellNew_60 : decode cX2_tellNew 60 = .ok (.aload_n 2, 1) := dk_44 (dk_at dksX2_tellNew_2 13 rfl rfl)
theorem dX2_tellNew_61 : decode cX2_tellNew 61 = .ok (.getfield 80, 3) := dk_180 0 80 (dk_at dksX2_tellNew_2 14 rfl rfl)
theorem dX2_tellNew_64 : decode cX2_tellNew 64 = .ok (.if_icmp .le 17, 3) := dk_164 0 17 (dk_at dksX2_tellNew_2 17 rfl rfl)
theorem dX2_tellNew_67 : decode cX2_tellNew 67 = .ok (.aload_n 2, 1) := dk_44 (dk_at dksX2_tellNew_2 20 rfl rfl)
theorem dX2_tellNew_68 : decode cX2_tellNew 68 = .ok (.aload 4, 2) := dk_25 4 (dk_at dksX2_tellNew_2 21 rfl rfl)
theorem dX2_tellNew_70 : decode cX2_tellNew 70 = .ok (.iload 6, 2) := dk_21 6 (dk_at dksX2_tellNew_3 0 rfl rfl)
theorem dX2_tellNew_72 : decode cX2_tellNew 72 = .ok (.invokevirtual 33, 3) := dk_182 0 33 (dk_at dksX2_tellNew_3 2 rfl rfl)
theorem dX2_tellNew_75 : decode cX2_tellNew 75 = .ok (.checkcast 72, 3) := dk_192 0 72 (dk_at dksX2_tellNew_3 5 rfl rfl)
theorem dX2_tellNew_78 : decode cX2_tellNew 78 = .ok (.invokevirtual 74, 3) := dk_182 0 74 (dk_at dksX2_tellNew_3 8 rfl rfl)
theorem dX2_tellNew_81 : decode cX2_tellNew 81 = .ok (.iinc 6 1, 3) := dk_132 6 1 (dk_at dksX2_tellNew_3 11 rfl rfl)
theorem dX2_tellNew_84 : decode cX2_tellNew 84 = .ok (.goto (-56), 3) := dk_167 255 200 (dk_at dksX2_tellNew_3 14 rfl rfl)
theorem dX2_tellNew_87 : decode cX2_tellNew 87 = .ok (.aload_n 2, 1) := dk_44 (dk_at dksX2_tellNew_3 17 rfl rfl)
theorem dX2_tellNew_88 : decode cX2_tellNew 88 = .ok (.getfield 105, 3) := dk_180 0 105 (dk_at dksX2_tellNew_3 18 rfl rfl)
theorem dX2_tellNew_91 : decode cX2_tellNew 91 = .ok (.iload 5, 2) := dk_21 5 (dk_at dksX2_tellNew_3 21 rfl rfl)
theorem dX2_tellNew_93 : decode cX2_tellNew 93 = .ok (.if_icmp .le 15, 3) := dk_164 0 15 (dk_at dksX2_tellNew_4 0 rfl rfl)
theorem dX2_tellNew_96 : decode cX2_tellNew 96 = .ok (.aload_n 0, 1) := dk_42 (dk_at dksX2_tellNew_4 3 rfl rfl)
theorem dX2_tellNew_97 : decode cX2_tellNew 97 = .ok (.iload_n 1, 1) := dk_27 (dk_at dksX2_tellNew_4 4 rfl rfl)
theorem dX2_tellNew_98 : decode cX2_tellNew 98 = .ok (.iconst 2, 1) := dk_5 (dk_at dksX2_tellNew_4 5 rfl rfl)
theorem dX2_tellNew_99 : decode cX2_tellNew 99 = .ok (.aload_n 2, 1) := dk_44 (dk_at dksX2_tellNew_4 6 rfl rfl)
theorem dX2_tellNew_100 : decode cX2_tellNew 100 = .ok (.getfield 105, 3) := dk_180 0 105 (dk_at dksX2_tellNew_4 7 rfl rfl)
theorem dX2_tellNew_103 : decode cX2_tellNew 103 = .ok (.iconst 0, 1) := dk_3 (dk_at dksX2_tellNew_4 10 rfl rfl)
theorem dX2_tellNew_104 : decode cX2_tellNew 104 = .ok (.aload_n 3, 1) := dk_45 (dk_at dksX2_tellNew_4 11 rfl rfl)
theorem dX2_tellNew_105 : decode cX2_tellNew 105 = .ok (.invokevirtual 136, 3) := dk_182 0 136 (dk_at dksX2_tellNew_4 12 rfl rfl)
theorem dX2_tellNew_108 : decode cX2_tellNew 108 = .ok (.return_, 1) := dk_177 (dk_at dksX2_tellNew_4 15 rfl rfl)
abbrev cX2_range : ByteArray := prog_8_method_19_code
def yX2_range : MethodName := ⟨RX2, "range", "(LMailSessions$Session;II)LMailSessions$Test;"⟩
def dkwX2_range_0 : List UInt8 := [43, 28, 29, 186, 0, 164, 0, 0, 176]
abbrev dktX2_range_0 : List UInt8 := dkwX2_range_0 ++ []
theorem dksX2_range_0 : cX2_range.data.toList.drop 0 = dktX2_range_0 := by decide +kernel
theorem dX2_range_0 : decode cX2_range 0 = .ok (.aload_n 1, 1) := dk_43 (dk_at dksX2_range_0 0 rfl rfl)
theorem dX2_range_1 : decode cX2_range 1 = .ok (.iload_n 2, 1) := dk_28 (dk_at dksX2_range_0 1 rfl rfl)
theorem dX2_range_2 : decode cX2_range 2 = .ok (.iload_n 3, 1) := dk_29 (dk_at dksX2_range_0 2 rfl rfl)
theorem dX2_range_3 : decode cX2_range 3 = .ok (.invokedynamic 164, 5) := by decide +kernel
theorem dX2_range_8 : decode cX2_range 8 = .ok (.areturn, 1) := dk_176 (dk_at dksX2_range_0 8 rfl rfl)
abbrev cX2_lambda_range_0 : ByteArray := prog_8_method_21_code
def yX2_lambda_range_0 : MethodName := ⟨RX2, "lambda$range$0", "(LMailSessions$Session;IILMailSessions$Message;)Z"⟩
def dkwX2_lambda_range_0_0 : List UInt8 := [42, 45, 180, 0, 154, 182, 0, 178, 133, 27, 4, 100, 133, 28, 4, 100, 133, 184, 0, 182, 172]
abbrev dktX2_lambda_range_0_0 : List UInt8 := dkwX2_lambda_range_0_0 ++ []
theorem dksX2_lambda_range_0_0 : cX2_lambda_range_0.data.toList.drop 0 = dktX2_lambda_range_0_0 := by decide +kernel
theorem dX2_lambda_range_0_0 : decode cX2_lambda_range_0 0 = .ok (.aload_n 0, 1) := dk_42 (dk_at dksX2_lambda_range_0_0 0 rfl rfl)
theorem dX2_lambda_range_0_1 : decode cX2_lambda_range_0 1 = .ok (.aload_n 3, 1) := dk_45 (dk_at dksX2_lambda_range_0_0 1 rfl rfl)
theorem dX2_lambda_range_0_2 : decode cX2_lambda_range_0 2 = .ok (.getfield 154, 3) := dk_180 0 154 (dk_at dksX2_lambda_range_0_0 2 rfl rfl)
theorem dX2_lambda_range_0_5 : decode cX2_lambda_range_0 5 = .ok (.invokevirtual 178, 3) := dk_182 0 178 (dk_at dksX2_lambda_range_0_0 5 rfl rfl)
theorem dX2_lambda_range_0_8 : decode cX2_lambda_range_0 8 = .ok (.i2l, 1) := dk_133 (dk_at dksX2_lambda_range_0_0 8 rfl rfl)
theorem dX2_lambda_range_0_9 : decode cX2_lambda_range_0 9 = .ok (.iload_n 1, 1) := dk_27 (dk_at dksX2_lambda_range_0_0 9 rfl rfl)
theorem dX2_lambda_range_0_10 : decode cX2_lambda_range_0 10 = .ok (.iconst 1, 1) := dk_4 (dk_at dksX2_lambda_range_0_0 10 rfl rfl)
theorem dX2_lambda_range_0_11 : decode cX2_lambda_range_0 11 = .ok (.isub, 1) := dk_100 (dk_at dksX2_lambda_range_0_0 11 rfl rfl)
theorem dX2_lambda_range_0_12 : decode cX2_lambda_range_0 12 = .ok (.i2l, 1) := dk_133 (dk_at dksX2_lambda_range_0_0 12 rfl rfl)
theorem dX2_lambda_range_0_13 : decode cX2_lambda_range_0 13 = .ok (.iload_n 2, 1) := dk_28 (dk_at dksX2_lambda_range_0_0 13 rfl rfl)
theorem dX2_lambda_range_0_14 : decode cX2_lambda_range_0 14 = .ok (.iconst 1, 1) := dk_4 (dk_at dksX2_lambda_range_0_0 14 rfl rfl)
theorem dX2_lambda_range_0_15 : decode cX2_lambda_range_0 15 = .ok (.isub, 1) := dk_100 (dk_at dksX2_lambda_range_0_0 15 rfl rfl)
theorem dX2_lambda_range_0_16 : decode cX2_lambda_range_0 16 = .ok (.i2l, 1) := dk_133 (dk_at dksX2_lambda_range_0_0 16 rfl rfl)
theorem dX2_lambda_range_0_17 : decode cX2_lambda_range_0 17 = .ok (.invokestatic 182, 3) := dk_184 0 182 (dk_at dksX2_lambda_range_0_0 17 rfl rfl)
theorem dX2_lambda_range_0_20 : decode cX2_lambda_range_0 20 = .ok (.ireturn, 1) := dk_172 (dk_at dksX2_lambda_range_0_0 20 rfl rfl)
abbrev cX2_copy : ByteArray := prog_8_method_20_code
def yX2_copy : MethodName := ⟨RX2, "copy", "(LMailSessions$Box;LMailSessions$Test;LMailSessions$Box;)I"⟩
def dkwX2_copy_3 : List UInt8 := [132, 6, 1, 167, 255, 199, 21, 5, 172]
abbrev dktX2_copy_3 : List UInt8 := dkwX2_copy_3 ++ []
def dkwX2_copy_2 : List UInt8 := [167, 0, 22, 45, 25, 7, 180, 0, 173, 25, 7, 180, 0, 99, 182, 0, 175, 54, 8, 132, 5, 1]
abbrev dktX2_copy_2 : List UInt8 := dkwX2_copy_2 ++ dktX2_copy_3
def dkwX2_copy_1 : List UInt8 := [180, 0, 59, 21, 6, 182, 0, 33, 192, 0, 72, 58, 7, 44, 25, 7, 185, 0, 168, 2, 0, 154, 0, 6]
abbrev dktX2_copy_1 : List UInt8 := dkwX2_copy_1 ++ dktX2_copy_2
def dkwX2_copy_0 : List UInt8 := [43, 180, 0, 59, 182, 0, 27, 54, 4, 3, 54, 5, 3, 54, 6, 21, 6, 21, 4, 162, 0, 56, 43]
abbrev dktX2_copy_0 : List UInt8 := dkwX2_copy_0 ++ dktX2_copy_1
theorem dksX2_copy_0 : cX2_copy.data.toList.drop 0 = dktX2_copy_0 := by decide +kernel
theorem dksX2_copy_1 : cX2_copy.data.toList.drop 23 = dktX2_copy_1 := dk_seg dksX2_copy_0 23 rfl rfl
theorem dksX2_copy_2 : cX2_copy.data.toList.drop 47 = dktX2_copy_2 := dk_seg dksX2_copy_1 24 rfl rfl
theorem dksX2_copy_3 : cX2_copy.data.toList.drop 69 = dktX2_copy_3 := dk_seg dksX2_copy_2 22 rfl rfl
theorem dX2_copy_0 : decode cX2_copy 0 = .ok (.aload_n 1, 1) := dk_43 (dk_at dksX2_copy_0 0 rfl rfl)
theorem dX2_copy_1 : decode cX2_copy 1 = .ok (.getfield 59, 3) := dk_180 0 59 (dk_at dksX2_copy_0 1 rfl rfl)
theorem dX2_copy_4 : decode cX2_copy 4 = .ok (.invokevirtual 27, 3) := dk_182 0 27 (dk_at dksX2_copy_0 4 rfl rfl)
theorem dX2_copy_7 : decode cX2_copy 7 = .ok (.istore 4, 2) := dk_54 4 (dk_at dksX2_copy_0 7 rfl rfl)
theorem dX2_copy_9 : decode cX2_copy 9 = .ok (.iconst 0, 1) := dk_3 (dk_at dksX2_copy_0 9 rfl rfl)
theorem dX2_copy_10 : decode cX2_copy 10 = .ok (.istore 5, 2) := dk_54 5 (dk_at dksX2_copy_0 10 rfl rfl)
theorem dX2_copy_12 : decode cX2_copy 12 = .ok (.iconst 0, 1) := dk_3 (dk_at dksX2_copy_0 12 rfl rfl)
theorem dX2_copy_13 : decode cX2_copy 13 = .ok (.istore 6, 2) := dk_54 6 (dk_at dksX2_copy_0 13 rfl rfl)
theorem dX2_copy_15 : decode cX2_copy 15 = .ok (.iload 6, 2) := dk_21 6 (dk_at dksX2_copy_0 15 rfl rfl)
theorem dX2_copy_17 : decode cX2_copy 17 = .ok (.iload 4, 2) := dk_21 4 (dk_at dksX2_copy_0 17 rfl rfl)
theorem dX2_copy_19 : decode cX2_copy 19 = .ok (.if_icmp .ge 56, 3) := dk_162 0 56 (dk_at dksX2_copy_0 19 rfl rfl)
theorem dX2_copy_22 : decode cX2_copy 22 = .ok (.aload_n 1, 1) := dk_43 (dk_at dksX2_copy_0 22 rfl rfl)
theorem dX2_copy_23 : decode cX2_copy 23 = .ok (.getfield 59, 3) := dk_180 0 59 (dk_at dksX2_copy_1 0 rfl rfl)
theorem dX2_copy_26 : decode cX2_copy 26 = .ok (.iload 6, 2) := dk_21 6 (dk_at dksX2_copy_1 3 rfl rfl)
theorem dX2_copy_28 : decode cX2_copy 28 = .ok (.invokevirtual 33, 3) := dk_182 0 33 (dk_at dksX2_copy_1 5 rfl rfl)
theorem dX2_copy_31 : decode cX2_copy 31 = .ok (.checkcast 72, 3) := dk_192 0 72 (dk_at dksX2_copy_1 8 rfl rfl)
theorem dX2_copy_34 : decode cX2_copy 34 = .ok (.astore 7, 2) := dk_58 7 (dk_at dksX2_copy_1 11 rfl rfl)
theorem dX2_copy_36 : decode cX2_copy 36 = .ok (.aload_n 2, 1) := dk_44 (dk_at dksX2_copy_1 13 rfl rfl)
theorem dX2_copy_37 : decode cX2_copy 37 = .ok (.aload 7, 2) := dk_25 7 (dk_at dksX2_copy_1 14 rfl rfl)
theorem dX2_copy_39 : decode cX2_copy 39 = .ok (.invokeinterface 168 2, 5) := by decide +kernel
theorem dX2_copy_44 : decode cX2_copy 44 = .ok (.ifCond .ne 6, 3) := dk_154 0 6 (dk_at dksX2_copy_1 21 rfl rfl)
theorem dX2_copy_47 : decode cX2_copy 47 = .ok (.goto 22, 3) := dk_167 0 22 (dk_at dksX2_copy_2 0 rfl rfl)
theorem dX2_copy_50 : decode cX2_copy 50 = .ok (.aload_n 3, 1) := dk_45 (dk_at dksX2_copy_2 3 rfl rfl)
theorem dX2_copy_51 : decode cX2_copy 51 = .ok (.aload 7, 2) := dk_25 7 (dk_at dksX2_copy_2 4 rfl rfl)
theorem dX2_copy_53 : decode cX2_copy 53 = .ok (.getfield 173, 3) := dk_180 0 173 (dk_at dksX2_copy_2 6 rfl rfl)
theorem dX2_copy_56 : decode cX2_copy 56 = .ok (.aload 7, 2) := dk_25 7 (dk_at dksX2_copy_2 9 rfl rfl)
theorem dX2_copy_58 : decode cX2_copy 58 = .ok (.getfield 99, 3) := dk_180 0 99 (dk_at dksX2_copy_2 11 rfl rfl)
theorem dX2_copy_61 : decode cX2_copy 61 = .ok (.invokevirtual 175, 3) := dk_182 0 175 (dk_at dksX2_copy_2 14 rfl rfl)
theorem dX2_copy_64 : decode cX2_copy 64 = .ok (.istore 8, 2) := dk_54 8 (dk_at dksX2_copy_2 17 rfl rfl)
theorem dX2_copy_66 : decode cX2_copy 66 = .ok (.iinc 5 1, 3) := dk_132 5 1 (dk_at dksX2_copy_2 19 rfl rfl)
theorem dX2_copy_69 : decode cX2_copy 69 = .ok (.iinc 6 1, 3) := dk_132 6 1 (dk_at dksX2_copy_3 0 rfl rfl)
theorem dX2_copy_72 : decode cX2_copy 72 = .ok (.goto (-57), 3) := dk_167 255 199 (dk_at dksX2_copy_3 3 rfl rfl)
theorem dX2_copy_75 : decode cX2_copy 75 = .ok (.iload 5, 2) := dk_21 5 (dk_at dksX2_copy_3 6 rfl rfl)
theorem dX2_copy_77 : decode cX2_copy 77 = .ok (.ireturn, 1) := dk_172 (dk_at dksX2_copy_3 8 rfl rfl)
theorem q152 : (Jvm.Cond.initialized "MailSessions$Server") ∈ lw_all := lw_g (lw_at lw_m1 2 rfl) rfl
theorem q197 : (Jvm.Cond.instantiable "MailSessions$Server" (3 : Nat)) ∈ lw_all := lw_g (lw_at lw_m1 47 rfl) rfl
theorem q199 : (Jvm.Cond.instanceMethod ({ cls := "MailSessions$Server", name := "<init>", desc := "()V" } : Jvm.MethodName)) ∈ lw_all := lw_g (lw_at lw_m1 49 rfl) rfl
theorem q200 : (Jvm.Cond.code ({ cls := "MailSessions$Server", name := "<init>", desc := "()V" } : Jvm.MethodName) prog_8_method_1_code (1 : Nat) (Option.none : Option Jvm.ClassFile.FieldType)) ∈ lw_all := lw_g (lw_at lw_m1 50 rfl) rfl
theorem q201 : (Jvm.Cond.methodLink "MailSessions$Server" (3 : Nat) ({ cls := "java/lang/Object", name := "<init>", desc := "()V" } : Jvm.MethodName)) ∈ lw_all := lw_g (lw_at lw_m1 51 rfl) rfl
theorem q202 : (Jvm.Cond.classLink "MailSessions$Server" (9 : Nat) "java/util/ArrayList") ∈ lw_all := lw_g (lw_at lw_m1 52 rfl) rfl
theorem q204 : (Jvm.Cond.methodLink "MailSessions$Server" (11 : Nat) ({ cls := "java/util/ArrayList", name := "<init>", desc := "(I)V" } : Jvm.MethodName)) ∈ lw_all := lw_g (lw_at lw_m1 54 rfl) rfl
theorem q549 : (Jvm.Cond.fieldLink "MailSessions$Server" (14 : Nat) "MailSessions$Server" "boxes" "Ljava/util/ArrayList;") ∈ lw_all := lw_g (lw_at lw_m2 159 rfl) rfl
theorem q552 : (Jvm.Cond.fieldLink "MailSessions$Server" (20 : Nat) "MailSessions$Server" "sessions" "Ljava/util/ArrayList;") ∈ lw_all := lw_g (lw_at lw_m2 162 rfl) rfl
theorem q555 : (Jvm.Cond.fieldLink "MailSessions$Server" (23 : Nat) "MailSessions$Server" "limit" "I") ∈ lw_all := lw_g (lw_at lw_m2 165 rfl) rfl
theorem q558 : (Jvm.Cond.laysFinal "MailSessions$Server" "MailSessions$Server" "boxes" "Ljava/util/ArrayList;") ∈ lw_all := lw_g (lw_at lw_m2 168 rfl) rfl
theorem q559 : (Jvm.Cond.soleField "MailSessions$Server" "boxes") ∈ lw_all := lw_g (lw_at lw_m2 169 rfl) rfl
theorem q560 : (Jvm.Cond.laysFinal "MailSessions$Server" "MailSessions$Server" "sessions" "Ljava/util/ArrayList;") ∈ lw_all := lw_g (lw_at lw_m2 170 rfl) rfl
theorem q561 : (Jvm.Cond.soleField "MailSessions$Server" "sessions") ∈ lw_all := lw_g (lw_at lw_m2 171 rfl) rfl
theorem q562 : (Jvm.Cond.lays "MailSessions$Server" "MailSessions$Server" "limit" "I") ∈ lw_all := lw_g (lw_at lw_m2 172 rfl) rfl
theorem q563 : (Jvm.Cond.soleField "MailSessions$Server" "limit") ∈ lw_all := lw_g (lw_at lw_m2 173 rfl) rfl
theorem q564 : (Jvm.Cond.superclass "MailSessions$Server" "java/lang/Object") ∈ lw_all := lw_g (lw_at lw_m2 174 rfl) rfl
theorem q807 : (Jvm.Cond.instanceMethod ({ cls := "MailSessions$Server", name := "messages", desc := "()I" } : Jvm.MethodName)) ∈ lw_all := lw_g (lw_at lw_m3 177 rfl) rfl
theorem q808 : (Jvm.Cond.selects "MailSessions$Server" ({ cls := "MailSessions$Server", name := "messages", desc := "()I" } : Jvm.MethodName) ({ cls := "MailSessions$Server", name := "messages", desc := "()I" } : Jvm.MethodName)) ∈ lw_all := lw_g (lw_at lw_m3 178 rfl) rfl
theorem q809 : (Jvm.Cond.code ({ cls := "MailSessions$Server", name := "messages", desc := "()I" } : Jvm.MethodName) prog_8_method_5_code (3 : Nat) (Option.some Jvm.ClassFile.FieldType.int)) ∈ lw_all := lw_g (lw_at lw_m3 179 rfl) rfl
theorem q810 : (Jvm.Cond.methodLink "MailSessions$Server" (27 : Nat) ({ cls := "java/util/ArrayList", name := "size", desc := "()I" } : Jvm.MethodName)) ∈ lw_all := lw_g (lw_at lw_m3 180 rfl) rfl
theorem q814 : (Jvm.Cond.methodLink "MailSessions$Server" (33 : Nat) ({ cls := "java/util/ArrayList", name := "get", desc := "(I)Ljava/lang/Object;" } : Jvm.MethodName)) ∈ lw_all := lw_g (lw_at lw_m3 184 rfl) rfl
theorem q826 : (Jvm.Cond.classLink "MailSessions$Server" (31 : Nat) "MailSessions$Box") ∈ lw_all := lw_g (lw_at lw_m3 196 rfl) rfl
theorem q893 : (Jvm.Cond.instanceMethod ({ cls := "MailSessions$Server", name := "findBox", desc := "(Ljava/lang/String;)I" } : Jvm.MethodName)) ∈ lw_all := lw_g (lw_at lw_m4 23 rfl) rfl
theorem q894 : (Jvm.Cond.selects "MailSessions$Server" ({ cls := "MailSessions$Server", name := "findBox", desc := "(Ljava/lang/String;)I" } : Jvm.MethodName) ({ cls := "MailSessions$Server", name := "findBox", desc := "(Ljava/lang/String;)I" } : Jvm.MethodName)) ∈ lw_all := lw_g (lw_at lw_m4 24 rfl) rfl
theorem q895 : (Jvm.Cond.code ({ cls := "MailSessions$Server", name := "findBox", desc := "(Ljava/lang/String;)I" } : Jvm.MethodName) prog_8_method_3_code (3 : Nat) (Option.some Jvm.ClassFile.FieldType.int)) ∈ lw_all := lw_g (lw_at lw_m4 25 rfl) rfl
theorem q896 : (Jvm.Cond.methodLink "MailSessions$Server" (53 : Nat) ({ cls := "java/lang/String", name := "equals", desc := "(Ljava/lang/Object;)Z" } : Jvm.MethodName)) ∈ lw_all := lw_g (lw_at lw_m4 26 rfl) rfl
theorem q906 : (Jvm.Cond.fieldLinkNest "MailSessions$Server" (49 : Nat) "MailSessions$Box" "name" "Ljava/lang/String;" "MailSessions") ∈ lw_tbl := lw_at lw_m4 36 rfl
theorem q908 : (Jvm.Cond.fieldLinkNest "MailSessions$Server" (59 : Nat) "MailSessions$Box" "messages" "Ljava/util/ArrayList;" "MailSessions") ∈ lw_tbl := lw_at lw_m4 38 rfl
theorem q911 : (Jvm.Cond.fieldLinkNest "MailSessions$Server" (77 : Nat) "MailSessions$Box" "nextUid" "I" "MailSessions") ∈ lw_tbl := lw_at lw_m4 41 rfl
theorem q949 : (Jvm.Cond.selects "MailSessions$Server" ({ cls := "java/lang/Object", name := "getClass", desc := "()Ljava/lang/Class;" } : Jvm.MethodName) ({ cls := "java/lang/Object", name := "getClass", desc := "()Ljava/lang/Class;" } : Jvm.MethodName)) ∈ lw_all := lw_g (lw_at lw_m4 79 rfl) rfl
theorem q980 : (Jvm.Cond.instanceMethod ({ cls := "MailSessions$Server", name := "isFull", desc := "(I)Z" } : Jvm.MethodName)) ∈ lw_all := lw_g (lw_at lw_m4 110 rfl) rfl
theorem q981 : (Jvm.Cond.selects "MailSessions$Server" ({ cls := "MailSessions$Server", name := "isFull", desc := "(I)Z" } : Jvm.MethodName) ({ cls := "MailSessions$Server", name := "isFull", desc := "(I)Z" } : Jvm.MethodName)) ∈ lw_all := lw_g (lw_at lw_m4 111 rfl) rfl
theorem q982 : (Jvm.Cond.code ({ cls := "MailSessions$Server", name := "isFull", desc := "(I)Z" } : Jvm.MethodName) prog_8_method_6_code (2 : Nat) (Option.some Jvm.ClassFile.FieldType.boolean)) ∈ lw_all := lw_g (lw_at lw_m4 112 rfl) rfl
theorem q1008 : (Jvm.Cond.fieldLinkNest "MailSessions$Server" (154 : Nat) "MailSessions$Message" "uid" "I" "MailSessions") ∈ lw_tbl := lw_at lw_m4 138 rfl
theorem q1013 : (Jvm.Cond.fieldLinkNest "MailSessions$Server" (173 : Nat) "MailSessions$Message" "size" "I" "MailSessions") ∈ lw_tbl := lw_at lw_m4 143 rfl
theorem q1019 : (Jvm.Cond.fieldLinkNest "MailSessions$Server" (99 : Nat) "MailSessions$Message" "flags" "I" "MailSessions") ∈ lw_tbl := lw_at lw_m4 149 rfl
theorem q1034 : (Jvm.Cond.instanceMethod ({ cls := "MailSessions$Server", name := "findSession", desc := "(Ljava/lang/String;)I" } : Jvm.MethodName)) ∈ lw_all := lw_g (lw_at lw_m4 164 rfl) rfl
theorem q1035 : (Jvm.Cond.selects "MailSessions$Server" ({ cls := "MailSessions$Server", name := "findSession", desc := "(Ljava/lang/String;)I" } : Jvm.MethodName) ({ cls := "MailSessions$Server", name := "findSession", desc := "(Ljava/lang/String;)I" } : Jvm.MethodName)) ∈ lw_all := lw_g (lw_at lw_m4 165 rfl) rfl
theorem q1036 : (Jvm.Cond.code ({ cls := "MailSessions$Server", name := "findSession", desc := "(Ljava/lang/String;)I" } : Jvm.MethodName) prog_8_method_4_code (3 : Nat) (Option.some Jvm.ClassFile.FieldType.int)) ∈ lw_all := lw_g (lw_at lw_m4 166 rfl) rfl
theorem q1037 : (Jvm.Cond.classLink "MailSessions$Server" (44 : Nat) "MailSessions$Session") ∈ lw_all := lw_g (lw_at lw_m4 167 rfl) rfl
theorem q1045 : (Jvm.Cond.fieldLinkNest "MailSessions$Server" (58 : Nat) "MailSessions$Session" "name" "Ljava/lang/String;" "MailSessions") ∈ lw_tbl := lw_at lw_m4 175 rfl
theorem q1047 : (Jvm.Cond.fieldLinkNest "MailSessions$Server" (65 : Nat) "MailSessions$Session" "box" "I" "MailSessions") ∈ lw_tbl := lw_at lw_m4 177 rfl
theorem q1050 : (Jvm.Cond.fieldLinkNest "MailSessions$Server" (105 : Nat) "MailSessions$Session" "count" "I" "MailSessions") ∈ lw_tbl := lw_at lw_m4 180 rfl
theorem q1053 : (Jvm.Cond.fieldLinkNest "MailSessions$Server" (80 : Nat) "MailSessions$Session" "lastUid" "I" "MailSessions") ∈ lw_tbl := lw_at lw_m4 183 rfl
theorem q1055 : (Jvm.Cond.fieldLinkNest "MailSessions$Server" (68 : Nat) "MailSessions$Session" "reads" "Z" "MailSessions") ∈ lw_tbl := lw_at lw_m4 185 rfl
theorem q1058 : (Jvm.Cond.fieldLinkNest "MailSessions$Server" (157 : Nat) "MailSessions$Session" "idle" "Z" "MailSessions") ∈ lw_tbl := lw_at lw_m4 188 rfl
theorem q1061 : (Jvm.Cond.fieldLinkNest "MailSessions$Server" (83 : Nat) "MailSessions$Session" "uids" "[I" "MailSessions") ∈ lw_tbl := lw_at lw_m4 191 rfl
theorem q1064 : (Jvm.Cond.fieldLinkNest "MailSessions$Server" (102 : Nat) "MailSessions$Session" "told" "[I" "MailSessions") ∈ lw_tbl := lw_at lw_m4 194 rfl
theorem q1067 : (Jvm.Cond.fieldLinkNest "MailSessions$Server" (148 : Nat) "MailSessions$Session" "accounts" "[I" "MailSessions") ∈ lw_tbl := lw_at lw_m4 197 rfl
theorem q1093 : (Jvm.Cond.instanceMethod ({ cls := "MailSessions$Server", name := "select", desc := "(LMailSessions$Session;IZ)V" } : Jvm.MethodName)) ∈ lw_all := lw_g (lw_at lw_m4 223 rfl) rfl
theorem q1094 : (Jvm.Cond.selects "MailSessions$Server" ({ cls := "MailSessions$Server", name := "select", desc := "(LMailSessions$Session;IZ)V" } : Jvm.MethodName) ({ cls := "MailSessions$Server", name := "select", desc := "(LMailSessions$Session;IZ)V" } : Jvm.MethodName)) ∈ lw_all := lw_g (lw_at lw_m4 224 rfl) rfl
theorem q1095 : (Jvm.Cond.code ({ cls := "MailSessions$Server", name := "select", desc := "(LMailSessions$Session;IZ)V" } : Jvm.MethodName) prog_8_method_7_code (6 : Nat) (Option.none : Option Jvm.ClassFile.FieldType)) ∈ lw_all := lw_g (lw_at lw_m4 225 rfl) rfl
theorem q1096 : (Jvm.Cond.methodLink "MailSessions$Server" (62 : Nat) ({ cls := "MailSessions$Session", name := "leave", desc := "()V" } : Jvm.MethodName)) ∈ lw_all := lw_g (lw_at lw_m4 226 rfl) rfl
theorem q1100 : (Jvm.Cond.classLink "MailSessions$Server" (72 : Nat) "MailSessions$Message") ∈ lw_all := lw_g (lw_at lw_m4 230 rfl) rfl
theorem q1101 : (Jvm.Cond.methodLink "MailSessions$Server" (74 : Nat) ({ cls := "MailSessions$Session", name := "add", desc := "(LMailSessions$Message;)V" } : Jvm.MethodName)) ∈ lw_all := lw_g (lw_at lw_m4 231 rfl) rfl
theorem q1224 : (Jvm.Cond.instanceMethod ({ cls := "MailSessions$Server", name := "pending", desc := "(LMailSessions$Session;)I" } : Jvm.MethodName)) ∈ lw_all := lw_g (lw_at lw_m5 114 rfl) rfl
theorem q1225 : (Jvm.Cond.selects "MailSessions$Server" ({ cls := "MailSessions$Server", name := "pending", desc := "(LMailSessions$Session;)I" } : Jvm.MethodName) ({ cls := "MailSessions$Server", name := "pending", desc := "(LMailSessions$Session;)I" } : Jvm.MethodName)) ∈ lw_all := lw_g (lw_at lw_m5 115 rfl) rfl
theorem q1226 : (Jvm.Cond.code ({ cls := "MailSessions$Server", name := "pending", desc := "(LMailSessions$Session;)I" } : Jvm.MethodName) prog_8_method_13_code (3 : Nat) (Option.some Jvm.ClassFile.FieldType.int)) ∈ lw_all := lw_g (lw_at lw_m5 116 rfl) rfl
theorem q1227 : (Jvm.Cond.methodLink "MailSessions$Server" (121 : Nat) ({ cls := "MailSessions$Server", name := "gone", desc := "(LMailSessions$Session;I)I" } : Jvm.MethodName)) ∈ lw_all := lw_g (lw_at lw_m5 117 rfl) rfl
theorem q1228 : (Jvm.Cond.instanceMethod ({ cls := "MailSessions$Server", name := "gone", desc := "(LMailSessions$Session;I)I" } : Jvm.MethodName)) ∈ lw_all := lw_g (lw_at lw_m5 118 rfl) rfl
theorem q1229 : (Jvm.Cond.selects "MailSessions$Server" ({ cls := "MailSessions$Server", name := "gone", desc := "(LMailSessions$Session;I)I" } : Jvm.MethodName) ({ cls := "MailSessions$Server", name := "gone", desc := "(LMailSessions$Session;I)I" } : Jvm.MethodName)) ∈ lw_all := lw_g (lw_at lw_m5 119 rfl) rfl
theorem q1230 : (Jvm.Cond.code ({ cls := "MailSessions$Server", name := "gone", desc := "(LMailSessions$Session;I)I" } : Jvm.MethodName) prog_8_method_9_code (5 : Nat) (Option.some Jvm.ClassFile.FieldType.int)) ∈ lw_all := lw_g (lw_at lw_m5 120 rfl) rfl
theorem q1231 : (Jvm.Cond.methodLink "MailSessions$Server" (91 : Nat) ({ cls := "MailSessions$Server", name := "at", desc := "(LMailSessions$Session;I)LMailSessions$Message;" } : Jvm.MethodName)) ∈ lw_all := lw_g (lw_at lw_m5 121 rfl) rfl
theorem q1232 : (Jvm.Cond.instanceMethod ({ cls := "MailSessions$Server", name := "at", desc := "(LMailSessions$Session;I)LMailSessions$Message;" } : Jvm.MethodName)) ∈ lw_all := lw_g (lw_at lw_m5 122 rfl) rfl
theorem q1233 : (Jvm.Cond.selects "MailSessions$Server" ({ cls := "MailSessions$Server", name := "at", desc := "(LMailSessions$Session;I)LMailSessions$Message;" } : Jvm.MethodName) ({ cls := "MailSessions$Server", name := "at", desc := "(LMailSessions$Session;I)LMailSessions$Message;" } : Jvm.MethodName)) ∈ lw_all := lw_g (lw_at lw_m5 123 rfl) rfl
theorem q1234 : (Jvm.Cond.code ({ cls := "MailSessions$Server", name := "at", desc := "(LMailSessions$Session;I)LMailSessions$Message;" } : Jvm.MethodName) prog_8_method_8_code (3 : Nat) (Option.some (Jvm.ClassFile.FieldType.object "MailSessions$Message"))) ∈ lw_all := lw_g (lw_at lw_m5 124 rfl) rfl
theorem q1235 : (Jvm.Cond.methodLink "MailSessions$Server" (87 : Nat) ({ cls := "MailSessions$Box", name := "named", desc := "(I)LMailSessions$Message;" } : Jvm.MethodName)) ∈ lw_all := lw_g (lw_at lw_m5 125 rfl) rfl
theorem q1245 : (Jvm.Cond.methodLinkNest "MailSessions$Server" (95 : Nat) ({ cls := "MailSessions", name := "count", desc := "(Z)I" } : Jvm.MethodName) "MailSessions") ∈ lw_tbl := lw_at lw_m5 135 rfl
theorem q1248 : (Jvm.Cond.methodLink "MailSessions$Server" (125 : Nat) ({ cls := "MailSessions$Server", name := "changed", desc := "(LMailSessions$Session;)I" } : Jvm.MethodName)) ∈ lw_all := lw_g (lw_at lw_m5 138 rfl) rfl
theorem q1249 : (Jvm.Cond.instanceMethod ({ cls := "MailSessions$Server", name := "changed", desc := "(LMailSessions$Session;)I" } : Jvm.MethodName)) ∈ lw_all := lw_g (lw_at lw_m5 139 rfl) rfl
theorem q1250 : (Jvm.Cond.selects "MailSessions$Server" ({ cls := "MailSessions$Server", name := "changed", desc := "(LMailSessions$Session;)I" } : Jvm.MethodName) ({ cls := "MailSessions$Server", name := "changed", desc := "(LMailSessions$Session;)I" } : Jvm.MethodName)) ∈ lw_all := lw_g (lw_at lw_m5 140 rfl) rfl
theorem q1251 : (Jvm.Cond.code ({ cls := "MailSessions$Server", name := "changed", desc := "(LMailSessions$Session;)I" } : Jvm.MethodName) prog_8_method_11_code (4 : Nat) (Option.some Jvm.ClassFile.FieldType.int)) ∈ lw_all := lw_g (lw_at lw_m5 141 rfl) rfl
theorem q1252 : (Jvm.Cond.methodLink "MailSessions$Server" (107 : Nat) ({ cls := "MailSessions$Server", name := "isChanged", desc := "(LMailSessions$Session;I)Z" } : Jvm.MethodName)) ∈ lw_all := lw_g (lw_at lw_m5 142 rfl) rfl
theorem q1253 : (Jvm.Cond.instanceMethod ({ cls := "MailSessions$Server", name := "isChanged", desc := "(LMailSessions$Session;I)Z" } : Jvm.MethodName)) ∈ lw_all := lw_g (lw_at lw_m5 143 rfl) rfl
theorem q1254 : (Jvm.Cond.selects "MailSessions$Server" ({ cls := "MailSessions$Server", name := "isChanged", desc := "(LMailSessions$Session;I)Z" } : Jvm.MethodName) ({ cls := "MailSessions$Server", name := "isChanged", desc := "(LMailSessions$Session;I)Z" } : Jvm.MethodName)) ∈ lw_all := lw_g (lw_at lw_m5 144 rfl) rfl
theorem q1255 : (Jvm.Cond.code ({ cls := "MailSessions$Server", name := "isChanged", desc := "(LMailSessions$Session;I)Z" } : Jvm.MethodName) prog_8_method_10_code (4 : Nat) (Option.some Jvm.ClassFile.FieldType.boolean)) ∈ lw_all := lw_g (lw_at lw_m5 145 rfl) rfl
theorem q1256 : (Jvm.Cond.methodLink "MailSessions$Server" (129 : Nat) ({ cls := "MailSessions$Server", name := "fresh", desc := "(LMailSessions$Session;)I" } : Jvm.MethodName)) ∈ lw_all := lw_g (lw_at lw_m5 146 rfl) rfl
theorem q1257 : (Jvm.Cond.instanceMethod ({ cls := "MailSessions$Server", name := "fresh", desc := "(LMailSessions$Session;)I" } : Jvm.MethodName)) ∈ lw_all := lw_g (lw_at lw_m5 147 rfl) rfl
theorem q1258 : (Jvm.Cond.selects "MailSessions$Server" ({ cls := "MailSessions$Server", name := "fresh", desc := "(LMailSessions$Session;)I" } : Jvm.MethodName) ({ cls := "MailSessions$Server", name := "fresh", desc := "(LMailSessions$Session;)I" } : Jvm.MethodName)) ∈ lw_all := lw_g (lw_at lw_m5 148 rfl) rfl
theorem q1259 : (Jvm.Cond.code ({ cls := "MailSessions$Server", name := "fresh", desc := "(LMailSessions$Session;)I" } : Jvm.MethodName) prog_8_method_12_code (2 : Nat) (Option.some Jvm.ClassFile.FieldType.int)) ∈ lw_all := lw_g (lw_at lw_m5 149 rfl) rfl
theorem q1260 : (Jvm.Cond.constant "MailSessions$Server" (113 : Nat) (2147483647 : Int32)) ∈ lw_all := lw_g (lw_at lw_m5 150 rfl) rfl
theorem q1261 : (Jvm.Cond.methodLinkNest "MailSessions$Server" (114 : Nat) ({ cls := "MailSessions", name := "named", desc := "(II)LMailSessions$Test;" } : Jvm.MethodName) "MailSessions") ∈ lw_tbl := lw_at lw_m5 151 rfl
theorem q1267 : (Jvm.Cond.methodLink "MailSessions$Server" (117 : Nat) ({ cls := "MailSessions$Box", name := "many", desc := "(LMailSessions$Test;)I" } : Jvm.MethodName)) ∈ lw_all := lw_g (lw_at lw_m5 157 rfl) rfl
theorem q1702 : (Jvm.Cond.instanceMethod ({ cls := "MailSessions$Server", name := "<init>", desc := "(LMailSessions$Server;)V" } : Jvm.MethodName)) ∈ lw_all := lw_g (lw_at lw_m7 112 rfl) rfl
theorem q1703 : (Jvm.Cond.code ({ cls := "MailSessions$Server", name := "<init>", desc := "(LMailSessions$Server;)V" } : Jvm.MethodName) prog_8_method_2_code (3 : Nat) (Option.none : Option Jvm.ClassFile.FieldType)) ∈ lw_all := lw_g (lw_at lw_m7 113 rfl) rfl
theorem q1704 : (Jvm.Cond.methodLink "MailSessions$Server" (37 : Nat) ({ cls := "MailSessions$Box", name := "<init>", desc := "(LMailSessions$Box;)V" } : Jvm.MethodName)) ∈ lw_all := lw_g (lw_at lw_m7 114 rfl) rfl
theorem q1708 : (Jvm.Cond.methodLink "MailSessions$Server" (40 : Nat) ({ cls := "java/util/ArrayList", name := "add", desc := "(Ljava/lang/Object;)Z" } : Jvm.MethodName)) ∈ lw_all := lw_g (lw_at lw_m7 118 rfl) rfl
theorem q1709 : (Jvm.Cond.methodLink "MailSessions$Server" (46 : Nat) ({ cls := "MailSessions$Session", name := "<init>", desc := "(LMailSessions$Session;)V" } : Jvm.MethodName)) ∈ lw_all := lw_g (lw_at lw_m7 119 rfl) rfl
theorem q1720 : (Jvm.Cond.instanceMethod ({ cls := "MailSessions$Server", name := "tellIdle", desc := "(Ljava/util/ArrayList;)V" } : Jvm.MethodName)) ∈ lw_all := lw_g (lw_at lw_m7 130 rfl) rfl
theorem q1721 : (Jvm.Cond.selects "MailSessions$Server" ({ cls := "MailSessions$Server", name := "tellIdle", desc := "(Ljava/util/ArrayList;)V" } : Jvm.MethodName) ({ cls := "MailSessions$Server", name := "tellIdle", desc := "(Ljava/util/ArrayList;)V" } : Jvm.MethodName)) ∈ lw_all := lw_g (lw_at lw_m7 131 rfl) rfl
theorem q1722 : (Jvm.Cond.code ({ cls := "MailSessions$Server", name := "tellIdle", desc := "(Ljava/util/ArrayList;)V" } : Jvm.MethodName) prog_8_method_18_code (4 : Nat) (Option.none : Option Jvm.ClassFile.FieldType)) ∈ lw_all := lw_g (lw_at lw_m7 132 rfl) rfl
theorem q1723 : (Jvm.Cond.methodLink "MailSessions$Server" (160 : Nat) ({ cls := "MailSessions$Server", name := "tell", desc := "(IZLjava/util/ArrayList;)I" } : Jvm.MethodName)) ∈ lw_all := lw_g (lw_at lw_m7 133 rfl) rfl
theorem q1724 : (Jvm.Cond.instanceMethod ({ cls := "MailSessions$Server", name := "tell", desc := "(IZLjava/util/ArrayList;)I" } : Jvm.MethodName)) ∈ lw_all := lw_g (lw_at lw_m7 134 rfl) rfl
theorem q1725 : (Jvm.Cond.selects "MailSessions$Server" ({ cls := "MailSessions$Server", name := "tell", desc := "(IZLjava/util/ArrayList;)I" } : Jvm.MethodName) ({ cls := "MailSessions$Server", name := "tell", desc := "(IZLjava/util/ArrayList;)I" } : Jvm.MethodName)) ∈ lw_all := lw_g (lw_at lw_m7 135 rfl) rfl
theorem q1726 : (Jvm.Cond.code ({ cls := "MailSessions$Server", name := "tell", desc := "(IZLjava/util/ArrayList;)I" } : Jvm.MethodName) prog_8_method_14_code (7 : Nat) (Option.some Jvm.ClassFile.FieldType.int)) ∈ lw_all := lw_g (lw_at lw_m7 136 rfl) rfl
theorem q1727 : (Jvm.Cond.methodLink "MailSessions$Server" (132 : Nat) ({ cls := "MailSessions$Server", name := "tellRemovals", desc := "(ILMailSessions$Session;Ljava/util/ArrayList;)V" } : Jvm.MethodName)) ∈ lw_all := lw_g (lw_at lw_m7 137 rfl) rfl
theorem q1728 : (Jvm.Cond.privateMethod ({ cls := "MailSessions$Server", name := "tellRemovals", desc := "(ILMailSessions$Session;Ljava/util/ArrayList;)V" } : Jvm.MethodName)) ∈ lw_tbl := lw_at lw_m7 138 rfl
theorem q1729 : (Jvm.Cond.instanceMethod ({ cls := "MailSessions$Server", name := "tellRemovals", desc := "(ILMailSessions$Session;Ljava/util/ArrayList;)V" } : Jvm.MethodName)) ∈ lw_all := lw_g (lw_at lw_m7 139 rfl) rfl
theorem q1730 : (Jvm.Cond.code ({ cls := "MailSessions$Server", name := "tellRemovals", desc := "(ILMailSessions$Session;Ljava/util/ArrayList;)V" } : Jvm.MethodName) prog_8_method_16_code (5 : Nat) (Option.none : Option Jvm.ClassFile.FieldType)) ∈ lw_all := lw_g (lw_at lw_m7 140 rfl) rfl
theorem q1731 : (Jvm.Cond.methodLink "MailSessions$Server" (151 : Nat) ({ cls := "MailSessions$Session", name := "remove", desc := "(I)V" } : Jvm.MethodName)) ∈ lw_all := lw_g (lw_at lw_m7 141 rfl) rfl
theorem q1736 : (Jvm.Cond.methodLink "MailSessions$Server" (136 : Nat) ({ cls := "MailSessions$Server", name := "note", desc := "(IIIILjava/util/ArrayList;)V" } : Jvm.MethodName)) ∈ lw_all := lw_g (lw_at lw_m7 146 rfl) rfl
theorem q1737 : (Jvm.Cond.privateMethod ({ cls := "MailSessions$Server", name := "note", desc := "(IIIILjava/util/ArrayList;)V" } : Jvm.MethodName)) ∈ lw_tbl := lw_at lw_m7 147 rfl
theorem q1738 : (Jvm.Cond.instanceMethod ({ cls := "MailSessions$Server", name := "note", desc := "(IIIILjava/util/ArrayList;)V" } : Jvm.MethodName)) ∈ lw_all := lw_g (lw_at lw_m7 148 rfl) rfl
theorem q1739 : (Jvm.Cond.code ({ cls := "MailSessions$Server", name := "note", desc := "(IIIILjava/util/ArrayList;)V" } : Jvm.MethodName) prog_8_method_15_code (6 : Nat) (Option.none : Option Jvm.ClassFile.FieldType)) ∈ lw_all := lw_g (lw_at lw_m7 149 rfl) rfl
theorem q1740 : (Jvm.Cond.classLink "MailSessions$Server" (143 : Nat) "MailSessions$Notice") ∈ lw_all := lw_g (lw_at lw_m7 150 rfl) rfl
theorem q1742 : (Jvm.Cond.methodLink "MailSessions$Server" (145 : Nat) ({ cls := "MailSessions$Notice", name := "<init>", desc := "(IIII)V" } : Jvm.MethodName)) ∈ lw_all := lw_g (lw_at lw_m7 152 rfl) rfl
theorem q1763 : (Jvm.Cond.methodLink "MailSessions$Server" (140 : Nat) ({ cls := "MailSessions$Server", name := "tellNew", desc := "(ILMailSessions$Session;Ljava/util/ArrayList;)V" } : Jvm.MethodName)) ∈ lw_all := lw_g (lw_at lw_m7 173 rfl) rfl
theorem q1764 : (Jvm.Cond.privateMethod ({ cls := "MailSessions$Server", name := "tellNew", desc := "(ILMailSessions$Session;Ljava/util/ArrayList;)V" } : Jvm.MethodName)) ∈ lw_tbl := lw_at lw_m7 174 rfl
theorem q1765 : (Jvm.Cond.instanceMethod ({ cls := "MailSessions$Server", name := "tellNew", desc := "(ILMailSessions$Session;Ljava/util/ArrayList;)V" } : Jvm.MethodName)) ∈ lw_all := lw_g (lw_at lw_m7 175 rfl) rfl
theorem q1766 : (Jvm.Cond.code ({ cls := "MailSessions$Server", name := "tellNew", desc := "(ILMailSessions$Session;Ljava/util/ArrayList;)V" } : Jvm.MethodName) prog_8_method_17_code (7 : Nat) (Option.none : Option Jvm.ClassFile.FieldType)) ∈ lw_all := lw_g (lw_at lw_m7 176 rfl) rfl
theorem q1812 : (Jvm.Cond.instanceMethod ({ cls := "MailSessions$Server", name := "range", desc := "(LMailSessions$Session;II)LMailSessions$Test;" } : Jvm.MethodName)) ∈ lw_all := lw_g (lw_at lw_m7 222 rfl) rfl
theorem q1813 : (Jvm.Cond.selects "MailSessions$Server" ({ cls := "MailSessions$Server", name := "range", desc := "(LMailSessions$Session;II)LMailSessions$Test;" } : Jvm.MethodName) ({ cls := "MailSessions$Server", name := "range", desc := "(LMailSessions$Session;II)LMailSessions$Test;" } : Jvm.MethodName)) ∈ lw_all := lw_g (lw_at lw_m7 223 rfl) rfl
theorem q1814 : (Jvm.Cond.code ({ cls := "MailSessions$Server", name := "range", desc := "(LMailSessions$Session;II)LMailSessions$Test;" } : Jvm.MethodName) prog_8_method_19_code (4 : Nat) (Option.some (Jvm.ClassFile.FieldType.object "MailSessions$Test"))) ∈ lw_all := lw_g (lw_at lw_m7 224 rfl) rfl
theorem q1815 : (Jvm.Cond.static ({ cls := "MailSessions$Server", name := "lambda$range$0", desc := "(LMailSessions$Session;IILMailSessions$Message;)Z" } : Jvm.MethodName)) ∈ lw_all := lw_g (lw_at lw_m7 225 rfl) rfl
theorem q1816 : (Jvm.Cond.code ({ cls := "MailSessions$Server", name := "lambda$range$0", desc := "(LMailSessions$Session;IILMailSessions$Message;)Z" } : Jvm.MethodName) prog_8_method_21_code (4 : Nat) (Option.some Jvm.ClassFile.FieldType.boolean)) ∈ lw_all := lw_g (lw_at lw_m7 226 rfl) rfl
theorem q1817 : (Jvm.Cond.methodLink "MailSessions$Server" (178 : Nat) ({ cls := "MailSessions$Session", name := "find", desc := "(I)I" } : Jvm.MethodName)) ∈ lw_all := lw_g (lw_at lw_m7 227 rfl) rfl
theorem q1818 : (Jvm.Cond.methodLinkNest "MailSessions$Server" (182 : Nat) ({ cls := "MailSessions", name := "inRange", desc := "(JJJ)Z" } : Jvm.MethodName) "MailSessions") ∈ lw_tbl := lw_at lw_m7 228 rfl
theorem q1924 : (Jvm.Cond.instanceMethod ({ cls := "MailSessions$Server", name := "copy", desc := "(LMailSessions$Box;LMailSessions$Test;LMailSessions$Box;)I" } : Jvm.MethodName)) ∈ lw_all := lw_g (lw_at lw_m8 94 rfl) rfl
theorem q1925 : (Jvm.Cond.selects "MailSessions$Server" ({ cls := "MailSessions$Server", name := "copy", desc := "(LMailSessions$Box;LMailSessions$Test;LMailSessions$Box;)I" } : Jvm.MethodName) ({ cls := "MailSessions$Server", name := "copy", desc := "(LMailSessions$Box;LMailSessions$Test;LMailSessions$Box;)I" } : Jvm.MethodName)) ∈ lw_all := lw_g (lw_at lw_m8 95 rfl) rfl
theorem q1926 : (Jvm.Cond.code ({ cls := "MailSessions$Server", name := "copy", desc := "(LMailSessions$Box;LMailSessions$Test;LMailSessions$Box;)I" } : Jvm.MethodName) prog_8_method_20_code (9 : Nat) (Option.some Jvm.ClassFile.FieldType.int)) ∈ lw_all := lw_g (lw_at lw_m8 96 rfl) rfl
theorem q1927 : (Jvm.Cond.interfaceEntry "MailSessions$Server" (168 : Nat)) ∈ lw_tbl := lw_at lw_m8 97 rfl
theorem q1928 : (Jvm.Cond.methodLink "MailSessions$Server" (168 : Nat) ({ cls := "MailSessions$Test", name := "holds", desc := "(LMailSessions$Message;)Z" } : Jvm.MethodName)) ∈ lw_all := lw_g (lw_at lw_m8 98 rfl) rfl
theorem q1929 : (Jvm.Cond.methodLink "MailSessions$Server" (175 : Nat) ({ cls := "MailSessions$Box", name := "add", desc := "(II)I" } : Jvm.MethodName)) ∈ lw_all := lw_g (lw_at lw_m8 99 rfl) rfl
theorem q2810 : (Jvm.Cond.castable "MailSessions$Server" "java/lang/Object") ∈ lw_tbl := lw_at lw_m12 20 rfl
theorem in_X2 : ∀ w ∈ wsX20, w ∈ lw_all := lw_in wsX20 [558, 560, 562] (by decide +kernel) (by decide +kernel)
/-! MailSessions$Parser -/
set_option maxRecDepth 100000
def RX4 : String := "MailSessions$Parser"
def TX4 : u_T := fun k => match k with
  | 0 => ("MailSessions$Parser", "parsed", "LMailSessions$Server;", true)
  | 1 => ("MailSessions$Parser", "selected", "[I", true)
  | 2 => ("MailSessions$Parser", "onlyReads", "[Z", true)
  | 3 => ("MailSessions$Parser", "at", "I", false)
  | 4 => ("MailSessions$Parser", "start", "I", false)
  | 5 => ("MailSessions$Parser", "value", "I", false)
  | 6 => ("MailSessions$Parser", "open", "I", false)
  | 7 => ("MailSessions$Parser", "hasLimit", "Z", false)
  | 8 => ("MailSessions$Parser", "word", "Ljava/lang/String;", false)
  | 9 => ("MailSessions$Parser", "token", "LMailSessions$Token;", false)
  | _ => ("MailSessions$Parser", "this$0", "LMailSessions;", true)
def tyX4 : Nat → FieldType := fun k => match k with
  | 0 => .object "MailSessions$Server"
  | 1 => .array .int
  | 2 => .array .boolean
  | 3 => .int
  | 4 => .int
  | 5 => .int
  | 6 => .int
  | 7 => .boolean
  | 8 => .object "java/lang/String"
  | 9 => .object "MailSessions$Token"
  | _ => .object "MailSessions"
abbrev wsX40 : List Cond := u_ws RX4 TX4 11
theorem nmX4 : ∀ a, a < 11 → ∀ b, b < 11 → a ≠ b → (TX4 a).2.1 ≠ (TX4 b).2.1 := by decide +kernel
theorem tyX4_ok : ∀ k, k < 11 → parseFieldDescriptor (TX4 k).2.2.1 = some (tyX4 k) := by decide +kernel
abbrev cX4_init : ByteArray := prog_7_method_1_code
def yX4_init : MethodName := ⟨RX4, "<init>", "(LMailSessions;)V"⟩
def dkwX4_init_1 : List UInt8 := [181, 0, 22, 42, 7, 188, 4, 181, 0, 26, 42, 18, 30, 181, 0, 32, 42, 182, 0, 36, 177]
abbrev dktX4_init_1 : List UInt8 := dkwX4_init_1 ++ []
def dkwX4_init_0 : List UInt8 := [42, 43, 181, 0, 3, 42, 183, 0, 9, 42, 187, 0, 15, 89, 183, 0, 17, 181, 0, 18, 42, 7, 188, 10]
abbrev dktX4_init_0 : List UInt8 := dkwX4_init_0 ++ dktX4_init_1
theorem dksX4_init_0 : cX4_init.data.toList.drop 0 = dktX4_init_0 := by decide +kernel
theorem dksX4_init_1 : cX4_init.data.toList.drop 24 = dktX4_init_1 := dk_seg dksX4_init_0 24 rfl rfl
theorem dX4_init_0 : decode cX4_init 0 = .ok (.aload_n 0, 1) := dk_42 (dk_at dksX4_init_0 0 rfl rfl)
theorem dX4_init_1 : decode cX4_init 1 = .ok (.aload_n 1, 1) := dk_43 (dk_at dksX4_init_0 1 rfl rfl)
theorem dX4_init_2 : decode cX4_init 2 = .ok (.putfield 3, 3) := dk_181 0 3 (dk_at dksX4_init_0 2 rfl rfl)
theorem dX4_init_5 : decode cX4_init 5 = .ok (.aload_n 0, 1) := dk_42 (dk_at dksX4_init_0 5 rfl rfl)
theorem dX4_init_6 : decode cX4_init 6 = .ok (.invokespecial 9, 3) := dk_183 0 9 (dk_at dksX4_init_0 6 rfl rfl)
theorem dX4_init_9 : decode cX4_init 9 = .ok (.aload_n 0, 1) := dk_42 (dk_at dksX4_init_0 9 rfl rfl)
theorem dX4_init_10 : decode cX4_init 10 = .ok (.new 15, 3) := dk_187 0 15 (dk_at dksX4_init_0 10 rfl rfl)
theorem dX4_init_13 : decode cX4_init 13 = .ok (.dup, 1) := dk_89 (dk_at dksX4_init_0 13 rfl rfl)
theorem dX4_init_14 : decode cX4_init 14 = .ok (.invokespecial 17, 3) := dk_183 0 17 (dk_at dksX4_init_0 14 rfl rfl)
theorem dX4_init_17 : decode cX4_init 17 = .ok (.putfield 18, 3) := dk_181 0 18 (dk_at dksX4_init_0 17 rfl rfl)
theorem dX4_init_20 : decode cX4_init 20 = .ok (.aload_n 0, 1) := dk_42 (dk_at dksX4_init_0 20 rfl rfl)
theorem dX4_init_21 : decode cX4_init 21 = .ok (.iconst 4, 1) := dk_7 (dk_at dksX4_init_0 21 rfl rfl)
theorem dX4_init_22 : decode cX4_init 22 = .ok (.newarray .int, 2) := dk_188_10 (dk_at dksX4_init_0 22 rfl rfl)
theorem dX4_init_24 : decode cX4_init 24 = .ok (.putfield 22, 3) := dk_181 0 22 (dk_at dksX4_init_1 0 rfl rfl)
theorem dX4_init_27 : decode cX4_init 27 = .ok (.aload_n 0, 1) := dk_42 (dk_at dksX4_init_1 3 rfl rfl)
theorem dX4_init_28 : decode cX4_init 28 = .ok (.iconst 4, 1) := dk_7 (dk_at dksX4_init_1 4 rfl rfl)
theorem dX4_init_29 : decode cX4_init 29 = .ok (.newarray .boolean, 2) := dk_188_4 (dk_at dksX4_init_1 5 rfl rfl)
theorem dX4_init_31 : decode cX4_init 31 = .ok (.putfield 26, 3) := dk_181 0 26 (dk_at dksX4_init_1 7 rfl rfl)
theorem dX4_init_34 : decode cX4_init 34 = .ok (.aload_n 0, 1) := dk_42 (dk_at dksX4_init_1 10 rfl rfl)
theorem dX4_init_35 : decode cX4_init 35 = .ok (.ldc 30, 2) := dk_18 30 (dk_at dksX4_init_1 11 rfl rfl)
theorem dX4_init_37 : decode cX4_init 37 = .ok (.putfield 32, 3) := dk_181 0 32 (dk_at dksX4_init_1 13 rfl rfl)
theorem dX4_init_40 : decode cX4_init 40 = .ok (.aload_n 0, 1) := dk_42 (dk_at dksX4_init_1 16 rfl rfl)
theorem dX4_init_41 : decode cX4_init 41 = .ok (.invokevirtual 36, 3) := dk_182 0 36 (dk_at dksX4_init_1 17 rfl rfl)
theorem dX4_init_44 : decode cX4_init 44 = .ok (.return_, 1) := dk_177 (dk_at dksX4_init_1 20 rfl rfl)
abbrev cX4_next : ByteArray := prog_7_method_3_code
def yX4_next : MethodName := ⟨RX4, "next", "()V"⟩
def dkwX4_next_10 : List UInt8 := [178, 0, 97, 181, 0, 70, 42, 89, 180, 0, 39, 4, 96, 181, 0, 39, 177]
abbrev dktX4_next_10 : List UInt8 := dkwX4_next_10 ++ []
def dkwX4_next_9 : List UInt8 := [16, 48, 100, 184, 0, 91, 181, 0, 61, 42, 89, 180, 0, 39, 4, 96, 181, 0, 39, 167, 255, 203, 42]
abbrev dktX4_next_9 : List UInt8 := dkwX4_next_9 ++ dktX4_next_10
def dkwX4_next_8 : List UInt8 := [42, 18, 90, 16, 10, 42, 180, 0, 61, 104, 42, 180, 0, 3, 180, 0, 46, 42, 180, 0, 39, 51, 96]
abbrev dktX4_next_8 : List UInt8 := dkwX4_next_8 ++ dktX4_next_9
def dkwX4_next_7 : List UInt8 := [182, 0, 54, 153, 0, 66, 42, 178, 0, 87, 181, 0, 70, 42, 16, 48, 16, 57, 182, 0, 54, 153, 0, 65]
abbrev dktX4_next_7 : List UInt8 := dkwX4_next_7 ++ dktX4_next_8
def dkwX4_next_6 : List UInt8 := [181, 0, 39, 167, 255, 217, 42, 43, 182, 0, 83, 181, 0, 32, 167, 0, 94, 42, 16, 48, 16, 57]
abbrev dktX4_next_6 : List UInt8 := dkwX4_next_6 ++ dktX4_next_7
def dkwX4_next_5 : List UInt8 := [180, 0, 3, 180, 0, 46, 42, 180, 0, 39, 51, 146, 182, 0, 79, 87, 42, 89, 180, 0, 39, 4, 96]
abbrev dktX4_next_5 : List UInt8 := dkwX4_next_5 ++ dktX4_next_6
def dkwX4_next_4 : List UInt8 := [181, 0, 70, 187, 0, 76, 89, 183, 0, 78, 76, 42, 16, 97, 16, 122, 182, 0, 54, 153, 0, 34, 43, 42]
abbrev dktX4_next_4 : List UInt8 := dkwX4_next_4 ++ dktX4_next_5
def dkwX4_next_3 : List UInt8 := [178, 0, 64, 181, 0, 70, 167, 0, 173, 42, 16, 97, 16, 122, 182, 0, 54, 153, 0, 71, 42, 178, 0, 73]
abbrev dktX4_next_3 : List UInt8 := dkwX4_next_3 ++ dktX4_next_4
def dkwX4_next_2 : List UInt8 := [181, 0, 32, 42, 3, 181, 0, 61, 42, 180, 0, 39, 42, 180, 0, 3, 180, 0, 43, 160, 0, 13, 42]
abbrev dktX4_next_2 : List UInt8 := dkwX4_next_2 ++ dktX4_next_3
def dkwX4_next_1 : List UInt8 := [180, 0, 39, 4, 96, 181, 0, 39, 167, 255, 224, 42, 42, 180, 0, 39, 181, 0, 58, 42, 18, 30]
abbrev dktX4_next_1 : List UInt8 := dkwX4_next_1 ++ dktX4_next_2
def dkwX4_next_0 : List UInt8 := [42, 16, 32, 16, 32, 182, 0, 54, 154, 0, 14, 42, 16, 10, 16, 10, 182, 0, 54, 153, 0, 16, 42, 89]
abbrev dktX4_next_0 : List UInt8 := dkwX4_next_0 ++ dktX4_next_1
theorem dksX4_next_0 : cX4_next.data.toList.drop 0 = dktX4_next_0 := by decide +kernel
theorem dksX4_next_1 : cX4_next.data.toList.drop 24 = dktX4_next_1 := dk_seg dksX4_next_0 24 rfl rfl
theorem dksX4_next_2 : cX4_next.data.toList.drop 46 = dktX4_next_2 := dk_seg dksX4_next_1 22 rfl rfl
theorem dksX4_next_3 : cX4_next.data.toList.drop 69 = dktX4_next_3 := dk_seg dksX4_next_2 23 rfl rfl
theorem dksX4_next_4 : cX4_next.data.toList.drop 93 = dktX4_next_4 := dk_seg dksX4_next_3 24 rfl rfl
theorem dksX4_next_5 : cX4_next.data.toList.drop 117 = dktX4_next_5 := dk_seg dksX4_next_4 24 rfl rfl
theorem dksX4_next_6 : cX4_next.data.toList.drop 140 = dktX4_next_6 := dk_seg dksX4_next_5 23 rfl rfl
theorem dksX4_next_7 : cX4_next.data.toList.drop 162 = dktX4_next_7 := dk_seg dksX4_next_6 22 rfl rfl
theorem dksX4_next_8 : cX4_next.data.toList.drop 186 = dktX4_next_8 := dk_seg dksX4_next_7 24 rfl rfl
theorem dksX4_next_9 : cX4_next.data.toList.drop 209 = dktX4_next_9 := dk_seg dksX4_next_8 23 rfl rfl
theorem dksX4_next_10 : cX4_next.data.toList.drop 232 = dktX4_next_10 := dk_seg dksX4_next_9 23 rfl rfl
theorem dX4_next_0 : decode cX4_next 0 = .ok (.aload_n 0, 1) := dk_42 (dk_at dksX4_next_0 0 rfl rfl)
theorem dX4_next_1 : decode cX4_next 1 = .ok (.bipush 32, 2) := dk_16 32 (dk_at dksX4_next_0 1 rfl rfl)
theorem dX4_next_3 : decode cX4_next 3 = .ok (.bipush 32, 2) := dk_16 32 (dk_at dksX4_next_0 3 rfl rfl)
theorem dX4_next_5 : decode cX4_next 5 = .ok (.invokevirtual 54, 3) := dk_182 0 54 (dk_at dksX4_next_0 5 rfl rfl)
theorem dX4_next_8 : decode cX4_next 8 = .ok (.ifCond .ne 14, 3) := dk_154 0 14 (dk_at dksX4_next_0 8 rfl rfl)
theorem dX4_next_11 : decode cX4_next 11 = .ok (.aload_n 0, 1) := dk_42 (dk_at dksX4_next_0 11 rfl rfl)
theorem dX4_next_12 : decode cX4_next 12 = .ok (.bipush 10, 2) := dk_16 10 (dk_at dksX4_next_0 12 rfl rfl)
theorem dX4_next_14 : decode cX4_next 14 = .ok (.bipush 10, 2) := dk_16 10 (dk_at dksX4_next_0 14 rfl rfl)
theorem dX4_next_16 : decode cX4_next 16 = .ok (.invokevirtual 54, 3) := dk_182 0 54 (dk_at dksX4_next_0 16 rfl rfl)
theorem dX4_next_19 : decode cX4_next 19 = .ok (.ifCond .eq 16, 3) := dk_153 0 16 (dk_at dksX4_next_0 19 rfl rfl)
theorem dX4_next_22 : decode cX4_next 22 = .ok (.aload_n 0, 1) := dk_42 (dk_at dksX4_next_0 22 rfl rfl)
theorem dX4_next_23 : decode cX4_next 23 = .ok (.dup, 1) := dk_89 (dk_at dksX4_next_0 23 rfl rfl)
theorem dX4_next_24 : decode cX4_next 24 = .ok (.getfield 39, 3) := dk_180 0 39 (dk_at dksX4_next_1 0 rfl rfl)
theorem dX4_next_27 : decode cX4_next 27 = .ok (.iconst 1, 1) := dk_4 (dk_at dksX4_next_1 3 rfl rfl)
theorem dX4_next_28 : decode cX4_next 28 = .ok (.iadd, 1) := dk_96 (dk_at dksX4_next_1 4 rfl rfl)
theorem dX4_next_29 : decode cX4_next 29 = .ok (.putfield 39, 3) := dk_181 0 39 (dk_at dksX4_next_1 5 rfl rfl)
theorem dX4_next_32 : decode cX4_next 32 = .ok (.goto (-32), 3) := dk_167 255 224 (dk_at dksX4_next_1 8 rfl rfl)
theorem dX4_next_35 : decode cX4_next 35 = .ok (.aload_n 0, 1) := dk_42 (dk_at dksX4_next_1 11 rfl rfl)
theorem dX4_next_36 : decode cX4_next 36 = .ok (.aload_n 0, 1) := dk_42 (dk_at dksX4_next_1 12 rfl rfl)
theorem dX4_next_37 : decode cX4_next 37 = .ok (.getfield 39, 3) := dk_180 0 39 (dk_at dksX4_next_1 13 rfl rfl)
theorem dX4_next_40 : decode cX4_next 40 = .ok (.putfield 58, 3) := dk_181 0 58 (dk_at dksX4_next_1 16 rfl rfl)
theorem dX4_next_43 : decode cX4_next 43 = .ok (.aload_n 0, 1) := dk_42 (dk_at dksX4_next_1 19 rfl rfl)
theorem dX4_next_44 : decode cX4_next 44 = .ok (.ldc 30, 2) := dk_18 30 (dk_at dksX4_next_1 20 rfl rfl)
theorem dX4_next_46 : decode cX4_next 46 = .ok (.putfield 32, 3) := dk_181 0 32 (dk_at dksX4_next_2 0 rfl rfl)
theorem dX4_next_49 : decode cX4_next 49 = .ok (.aload_n 0, 1) := dk_42 (dk_at dksX4_next_2 3 rfl rfl)
theorem dX4_next_50 : decode cX4_next 50 = .ok (.iconst 0, 1) := dk_3 (dk_at dksX4_next_2 4 rfl rfl)
theorem dX4_next_51 : decode cX4_next 51 = .ok (.putfield 61, 3) := dk_181 0 61 (dk_at dksX4_next_2 5 rfl rfl)
theorem dX4_next_54 : decode cX4_next 54 = .ok (.aload_n 0, 1) := dk_42 (dk_at dksX4_next_2 8 rfl rfl)
theorem dX4_next_55 : decode cX4_next 55 = .ok (.getfield 39, 3) := dk_180 0 39 (dk_at dksX4_next_2 9 rfl rfl)
theorem dX4_next_58 : decode cX4_next 58 = .ok (.aload_n 0, 1) := dk_42 (dk_at dksX4_next_2 12 rfl rfl)
theorem dX4_next_59 : decode cX4_next 59 = .ok (.getfield 3, 3) := dk_180 0 3 (dk_at dksX4_next_2 13 rfl rfl)
theorem dX4_next_62 : decode cX4_next 62 = .ok (.getfield 43, 3) := dk_180 0 43 (dk_at dksX4_next_2 16 rfl rfl)
theorem dX4_next_65 : decode cX4_next 65 = .ok (.if_icmp .ne 13, 3) := dk_160 0 13 (dk_at dksX4_next_2 19 rfl rfl)
theorem dX4_next_68 : decode cX4_next 68 = .ok (.aload_n 0, 1) := dk_42 (dk_at dksX4_next_2 22 rfl rfl)
theorem dX4_next_69 : decode cX4_next 69 = .ok (.getstatic 64, 3) := dk_178 0 64 (dk_at dksX4_next_3 0 rfl rfl)
theorem dX4_next_72 : decode cX4_next 72 = .ok (.putfield 70, 3) := dk_181 0 70 (dk_at dksX4_next_3 3 rfl rfl)
theorem dX4_next_75 : decode cX4_next 75 = .ok (.goto 173, 3) := dk_167 0 173 (dk_at dksX4_next_3 6 rfl rfl)
theorem dX4_next_78 : decode cX4_next 78 = .ok (.aload_n 0, 1) := dk_42 (dk_at dksX4_next_3 9 rfl rfl)
theorem dX4_next_79 : decode cX4_next 79 = .ok (.bipush 97, 2) := dk_16 97 (dk_at dksX4_next_3 10 rfl rfl)
theorem dX4_next_81 : decode cX4_next 81 = .ok (.bipush 122, 2) := dk_16 122 (dk_at dksX4_next_3 12 rfl rfl)
theorem dX4_next_83 : decode cX4_next 83 = .ok (.invokevirtual 54, 3) := dk_182 0 54 (dk_at dksX4_next_3 14 rfl rfl)
theorem dX4_next_86 : decode cX4_next 86 = .ok (.ifCond .eq 71, 3) := dk_153 0 71 (dk_at dksX4_next_3 17 rfl rfl)
theorem dX4_next_89 : decode cX4_next 89 = .ok (.aload_n 0, 1) := dk_42 (dk_at dksX4_next_3 20 rfl rfl)
theorem dX4_next_90 : decode cX4_next 90 = .ok (.getstatic 73, 3) := dk_178 0 73 (dk_at dksX4_next_3 21 rfl rfl)
theorem dX4_next_93 : decode cX4_next 93 = .ok (.putfield 70, 3) := dk_181 0 70 (dk_at dksX4_next_4 0 rfl rfl)
theorem dX4_next_96 : decode cX4_next 96 = .ok (.new 76, 3) := dk_187 0 76 (dk_at dksX4_next_4 3 rfl rfl)
theorem dX4_next_99 : decode cX4_next 99 = .ok (.dup, 1) := dk_89 (dk_at dksX4_next_4 6 rfl rfl)
theorem dX4_next_100 : decode cX4_next 100 = .ok (.invokespecial 78, 3) := dk_183 0 78 (dk_at dksX4_next_4 7 rfl rfl)
theorem dX4_next_103 : decode cX4_next 103 = .ok (.astore_n 1, 1) := dk_76 (dk_at dksX4_next_4 10 rfl rfl)
theorem dX4_next_104 : decode cX4_next 104 = .ok (.aload_n 0, 1) := dk_42 (dk_at dksX4_next_4 11 rfl rfl)
theorem dX4_next_105 : decode cX4_next 105 = .ok (.bipush 97, 2) := dk_16 97 (dk_at dksX4_next_4 12 rfl rfl)
theorem dX4_next_107 : decode cX4_next 107 = .ok (.bipush 122, 2) := dk_16 122 (dk_at dksX4_next_4 14 rfl rfl)
theorem dX4_next_109 : decode cX4_next 109 = .ok (.invokevirtual 54, 3) := dk_182 0 54 (dk_at dksX4_next_4 16 rfl rfl)
theorem dX4_next_112 : decode cX4_next 112 = .ok (.ifCond .eq 34, 3) := dk_153 0 34 (dk_at dksX4_next_4 19 rfl rfl)
theorem dX4_next_115 : decode cX4_next 115 = .ok (.aload_n 1, 1) := dk_43 (dk_at dksX4_next_4 22 rfl rfl)
theorem dX4_next_116 : decode cX4_next 116 = .ok (.aload_n 0, 1) := dk_42 (dk_at dksX4_next_4 23 rfl rfl)
theorem dX4_next_117 : decode cX4_next 117 = .ok (.getfield 3, 3) := dk_180 0 3 (dk_at dksX4_next_5 0 rfl rfl)
theorem dX4_next_120 : decode cX4_next 120 = .ok (.getfield 46, 3) := dk_180 0 46 (dk_at dksX4_next_5 3 rfl rfl)
theorem dX4_next_123 : decode cX4_next 123 = .ok (.aload_n 0, 1) := dk_42 (dk_at dksX4_next_5 6 rfl rfl)
theorem dX4_next_124 : decode cX4_next 124 = .ok (.getfield 39, 3) := dk_180 0 39 (dk_at dksX4_next_5 7 rfl rfl)
theorem dX4_next_127 : decode cX4_next 127 = .ok (.baload, 1) := dk_51 (dk_at dksX4_next_5 10 rfl rfl)
theorem dX4_next_128 : decode cX4_next 128 = .ok (.i2c, 1) := dk_146 (dk_at dksX4_next_5 11 rfl rfl)
theorem dX4_next_129 : decode cX4_next 129 = .ok (.invokevirtual 79, 3) := dk_182 0 79 (dk_at dksX4_next_5 12 rfl rfl)
theorem dX4_next_132 : decode cX4_next 132 = .ok (.pop, 1) := dk_87 (dk_at dksX4_next_5 15 rfl rfl)
theorem dX4_next_133 : decode cX4_next 133 = .ok (.aload_n 0, 1) := dk_42 (dk_at dksX4_next_5 16 rfl rfl)
theorem dX4_next_134 : decode cX4_next 134 = .ok (.dup, 1) := dk_89 (dk_at dksX4_next_5 17 rfl rfl)
theorem dX4_next_135 : decode cX4_next 135 = .ok (.getfield 39, 3) := dk_180 0 39 (dk_at dksX4_next_5 18 rfl rfl)
theorem dX4_next_138 : decode cX4_next 138 = .ok (.iconst 1, 1) := dk_4 (dk_at dksX4_next_5 21 rfl rfl)
theorem dX4_next_139 : decode cX4_next 139 = .ok (.iadd, 1) := dk_96 (dk_at dksX4_next_5 22 rfl rfl)
theorem dX4_next_140 : decode cX4_next 140 = .ok (.putfield 39, 3) := dk_181 0 39 (dk_at dksX4_next_6 0 rfl rfl)
theorem dX4_next_143 : decode cX4_next 143 = .ok (.goto (-39), 3) := dk_167 255 217 (dk_at dksX4_next_6 3 rfl rfl)
theorem dX4_next_146 : decode cX4_next 146 = .ok (.aload_n 0, 1) := dk_42 (dk_at dksX4_next_6 6 rfl rfl)
theorem dX4_next_147 : decode cX4_next 147 = .ok (.aload_n 1, 1) := dk_43 (dk_at dksX4_next_6 7 rfl rfl)
theorem dX4_next_148 : decode cX4_next 148 = .ok (.invokevirtual 83, 3) := dk_182 0 83 (dk_at dksX4_next_6 8 rfl rfl)
theorem dX4_next_151 : decode cX4_next 151 = .ok (.putfield 32, 3) := dk_181 0 32 (dk_at dksX4_next_6 11 rfl rfl)
theorem dX4_next_154 : decode cX4_next 154 = .ok (.goto 94, 3) := dk_167 0 94 (dk_at dksX4_next_6 14 rfl rfl)
theorem dX4_next_157 : decode cX4_next 157 = .ok (.aload_n 0, 1) := dk_42 (dk_at dksX4_next_6 17 rfl rfl)
theorem dX4_next_158 : decode cX4_next 158 = .ok (.bipush 48, 2) := dk_16 48 (dk_at dksX4_next_6 18 rfl rfl)
theorem dX4_next_160 : decode cX4_next 160 = .ok (.bipush 57, 2) := dk_16 57 (dk_at dksX4_next_6 20 rfl rfl)
theorem dX4_next_162 : decode cX4_next 162 = .ok (.invokevirtual 54, 3) := dk_182 0 54 (dk_at dksX4_next_7 0 rfl rfl)
theorem dX4_next_165 : decode cX4_next 165 = .ok (.ifCond .eq 66, 3) := dk_153 0 66 (dk_at dksX4_next_7 3 rfl rfl)
theorem dX4_next_168 : decode cX4_next 168 = .ok (.aload_n 0, 1) := dk_42 (dk_at dksX4_next_7 6 rfl rfl)
theorem dX4_next_169 : decode cX4_next 169 = .ok (.getstatic 87, 3) := dk_178 0 87 (dk_at dksX4_next_7 7 rfl rfl)
theorem dX4_next_172 : decode cX4_next 172 = .ok (.putfield 70, 3) := dk_181 0 70 (dk_at dksX4_next_7 10 rfl rfl)
theorem dX4_next_175 : decode cX4_next 175 = .ok (.aload_n 0, 1) := dk_42 (dk_at dksX4_next_7 13 rfl rfl)
theorem dX4_next_176 : decode cX4_next 176 = .ok (.bipush 48, 2) := dk_16 48 (dk_at dksX4_next_7 14 rfl rfl)
theorem dX4_next_178 : decode cX4_next 178 = .ok (.bipush 57, 2) := dk_16 57 (dk_at dksX4_next_7 16 rfl rfl)
theorem dX4_next_180 : decode cX4_next 180 = .ok (.invokevirtual 54, 3) := dk_182 0 54 (dk_at dksX4_next_7 18 rfl rfl)
theorem dX4_next_183 : decode cX4_next 183 = .ok (.ifCond .eq 65, 3) := dk_153 0 65 (dk_at dksX4_next_7 21 rfl rfl)
theorem dX4_next_186 : decode cX4_next 186 = .ok (.aload_n 0, 1) := dk_42 (dk_at dksX4_next_8 0 rfl rfl)
theorem dX4_next_187 : decode cX4_next 187 = .ok (.ldc 90, 2) := dk_18 90 (dk_at dksX4_next_8 1 rfl rfl)
theorem dX4_next_189 : decode cX4_next 189 = .ok (.bipush 10, 2) := dk_16 10 (dk_at dksX4_next_8 3 rfl rfl)
theorem dX4_next_191 : decode cX4_next 191 = .ok (.aload_n 0, 1) := dk_42 (dk_at dksX4_next_8 5 rfl rfl)
theorem dX4_next_192 : decode cX4_next 192 = .ok (.getfield 61, 3) := dk_180 0 61 (dk_at dksX4_next_8 6 rfl rfl)
theorem dX4_next_195 : decode cX4_next 195 = .ok (.imul, 1) := dk_104 (dk_at dksX4_next_8 9 rfl rfl)
theorem dX4_next_196 : decode cX4_next 196 = .ok (.aload_n 0, 1) := dk_42 (dk_at dksX4_next_8 10 rfl rfl)
theorem dX4_next_197 : decode cX4_next 197 = .ok (.getfield 3, 3) := dk_180 0 3 (dk_at dksX4_next_8 11 rfl rfl)
theorem dX4_next_200 : decode cX4_next 200 = .ok (.getfield 46, 3) := dk_180 0 46 (dk_at dksX4_next_8 14 rfl rfl)
theorem dX4_next_203 : decode cX4_next 203 = .ok (.aload_n 0, 1) := dk_42 (dk_at dksX4_next_8 17 rfl rfl)
theorem dX4_next_204 : decode cX4_next 204 = .ok (.getfield 39, 3) := dk_180 0 39 (dk_at dksX4_next_8 18 rfl rfl)
theorem dX4_next_207 : decode cX4_next 207 = .ok (.baload, 1) := dk_51 (dk_at dksX4_next_8 21 rfl rfl)
theorem dX4_next_208 : decode cX4_next 208 = .ok (.iadd, 1) := dk_96 (dk_at dksX4_next_8 22 rfl rfl)
theorem dX4_next_209 : decode cX4_next 209 = .ok (.bipush 48, 2) := dk_16 48 (dk_at dksX4_next_9 0 rfl rfl)
theorem dX4_next_211 : decode cX4_next 211 = .ok (.isub, 1) := dk_100 (dk_at dksX4_next_9 2 rfl rfl)
theorem dX4_next_212 : decode cX4_next 212 = .ok (.invokestatic 91, 3) := dk_184 0 91 (dk_at dksX4_next_9 3 rfl rfl)
theorem dX4_next_215 : decode cX4_next 215 = .ok (.putfield 61, 3) := dk_181 0 61 (dk_at dksX4_next_9 6 rfl rfl)
theorem dX4_next_218 : decode cX4_next 218 = .ok (.aload_n 0, 1) := dk_42 (dk_at dksX4_next_9 9 rfl rfl)
theorem dX4_next_219 : decode cX4_next 219 = .ok (.dup, 1) := dk_89 (dk_at dksX4_next_9 10 rfl rfl)
theorem dX4_next_220 : decode cX4_next 220 = .ok (.getfield 39, 3) := dk_180 0 39 (dk_at dksX4_next_9 11 rfl rfl)
theorem dX4_next_223 : decode cX4_next 223 = .ok (.iconst 1, 1) := dk_4 (dk_at dksX4_next_9 14 rfl rfl)
theorem dX4_next_224 : decode cX4_next 224 = .ok (.iadd, 1) := dk_96 (dk_at dksX4_next_9 15 rfl rfl)
theorem dX4_next_225 : decode cX4_next 225 = .ok (.putfield 39, 3) := dk_181 0 39 (dk_at dksX4_next_9 16 rfl rfl)
theorem dX4_next_228 : decode cX4_next 228 = .ok (.goto (-53), 3) := dk_167 255 203 (dk_at dksX4_next_9 19 rfl rfl)
theorem dX4_next_231 : decode cX4_next 231 = .ok (.aload_n 0, 1) := dk_42 (dk_at dksX4_next_9 22 rfl rfl)
theorem dX4_next_232 : decode cX4_next 232 = .ok (.getstatic 97, 3) := dk_178 0 97 (dk_at dksX4_next_10 0 rfl rfl)
theorem dX4_next_235 : decode cX4_next 235 = .ok (.putfield 70, 3) := dk_181 0 70 (dk_at dksX4_next_10 3 rfl rfl)
theorem dX4_next_238 : decode cX4_next 238 = .ok (.aload_n 0, 1) := dk_42 (dk_at dksX4_next_10 6 rfl rfl)
theorem dX4_next_239 : decode cX4_next 239 = .ok (.dup, 1) := dk_89 (dk_at dksX4_next_10 7 rfl rfl)
theorem dX4_next_240 : decode cX4_next 240 = .ok (.getfield 39, 3) := dk_180 0 39 (dk_at dksX4_next_10 8 rfl rfl)
theorem dX4_next_243 : decode cX4_next 243 = .ok (.iconst 1, 1) := dk_4 (dk_at dksX4_next_10 11 rfl rfl)
theorem dX4_next_244 : decode cX4_next 244 = .ok (.iadd, 1) := dk_96 (dk_at dksX4_next_10 12 rfl rfl)
theorem dX4_next_245 : decode cX4_next 245 = .ok (.putfield 39, 3) := dk_181 0 39 (dk_at dksX4_next_10 13 rfl rfl)
theorem dX4_next_248 : decode cX4_next 248 = .ok (.return_, 1) := dk_177 (dk_at dksX4_next_10 16 rfl rfl)
abbrev cX4_isAt : ByteArray := prog_7_method_2_code
def yX4_isAt : MethodName := ⟨RX4, "isAt", "(II)Z"⟩
def dkwX4_isAt_1 : List UInt8 := [180, 0, 39, 51, 133, 27, 133, 28, 133, 184, 0, 50, 153, 0, 7, 4, 167, 0, 4, 3, 172]
abbrev dktX4_isAt_1 : List UInt8 := dkwX4_isAt_1 ++ []
def dkwX4_isAt_0 : List UInt8 := [42, 180, 0, 39, 42, 180, 0, 3, 180, 0, 43, 162, 0, 30, 42, 180, 0, 3, 180, 0, 46, 42]
abbrev dktX4_isAt_0 : List UInt8 := dkwX4_isAt_0 ++ dktX4_isAt_1
theorem dksX4_isAt_0 : cX4_isAt.data.toList.drop 0 = dktX4_isAt_0 := by decide +kernel
theorem dksX4_isAt_1 : cX4_isAt.data.toList.drop 22 = dktX4_isAt_1 := dk_seg dksX4_isAt_0 22 rfl rfl
theorem dX4_isAt_0 : decode cX4_isAt 0 = .ok (.aload_n 0, 1) := dk_42 (dk_at dksX4_isAt_0 0 rfl rfl)
theorem dX4_isAt_1 : decode cX4_isAt 1 = .ok (.getfield 39, 3) := dk_180 0 39 (dk_at dksX4_isAt_0 1 rfl rfl)
theorem dX4_isAt_4 : decode cX4_isAt 4 = .ok (.aload_n 0, 1) := dk_42 (dk_at dksX4_isAt_0 4 rfl rfl)
theorem dX4_isAt_5 : decode cX4_isAt 5 = .ok (.getfield 3, 3) := dk_180 0 3 (dk_at dksX4_isAt_0 5 rfl rfl)
theorem dX4_isAt_8 : decode cX4_isAt 8 = .ok (.getfield 43, 3) := dk_180 0 43 (dk_at dksX4_isAt_0 8 rfl rfl)
theorem dX4_isAt_11 : decode cX4_isAt 11 = .ok (.if_icmp .ge 30, 3) := dk_162 0 30 (dk_at dksX4_isAt_0 11 rfl rfl)
theorem dX4_isAt_14 : decode cX4_isAt 14 = .ok (.aload_n 0, 1) := dk_42 (dk_at dksX4_isAt_0 14 rfl rfl)
theorem dX4_isAt_15 : decode cX4_isAt 15 = .ok (.getfield 3, 3) := dk_180 0 3 (dk_at dksX4_isAt_0 15 rfl rfl)
theorem dX4_isAt_18 : decode cX4_isAt 18 = .ok (.getfield 46, 3) := dk_180 0 46 (dk_at dksX4_isAt_0 18 rfl rfl)
theorem dX4_isAt_21 : decode cX4_isAt 21 = .ok (.aload_n 0, 1) := dk_42 (dk_at dksX4_isAt_0 21 rfl rfl)
theorem dX4_isAt_22 : decode cX4_isAt 22 = .ok (.getfield 39, 3) := dk_180 0 39 (dk_at dksX4_isAt_1 0 rfl rfl)
theorem dX4_isAt_25 : decode cX4_isAt 25 = .ok (.baload, 1) := dk_51 (dk_at dksX4_isAt_1 3 rfl rfl)
theorem dX4_isAt_26 : decode cX4_isAt 26 = .ok (.i2l, 1) := dk_133 (dk_at dksX4_isAt_1 4 rfl rfl)
theorem dX4_isAt_27 : decode cX4_isAt 27 = .ok (.iload_n 1, 1) := dk_27 (dk_at dksX4_isAt_1 5 rfl rfl)
theorem dX4_isAt_28 : decode cX4_isAt 28 = .ok (.i2l, 1) := dk_133 (dk_at dksX4_isAt_1 6 rfl rfl)
theorem dX4_isAt_29 : decode cX4_isAt 29 = .ok (.iload_n 2, 1) := dk_28 (dk_at dksX4_isAt_1 7 rfl rfl)
theorem dX4_isAt_30 : decode cX4_isAt 30 = .ok (.i2l, 1) := dk_133 (dk_at dksX4_isAt_1 8 rfl rfl)
theorem dX4_isAt_31 : decode cX4_isAt 31 = .ok (.invokestatic 50, 3) := dk_184 0 50 (dk_at dksX4_isAt_1 9 rfl rfl)
theorem dX4_isAt_34 : decode cX4_isAt 34 = .ok (.ifCond .eq 7, 3) := dk_153 0 7 (dk_at dksX4_isAt_1 12 rfl rfl)
theorem dX4_isAt_37 : decode cX4_isAt 37 = .ok (.iconst 1, 1) := dk_4 (dk_at dksX4_isAt_1 15 rfl rfl)
theorem dX4_isAt_38 : decode cX4_isAt 38 = .ok (.goto 4, 3) := dk_167 0 4 (dk_at dksX4_isAt_1 16 rfl rfl)
theorem dX4_isAt_41 : decode cX4_isAt 41 = .ok (.iconst 0, 1) := dk_3 (dk_at dksX4_isAt_1 19 rfl rfl)
theorem dX4_isAt_42 : decode cX4_isAt 42 = .ok (.ireturn, 1) := dk_172 (dk_at dksX4_isAt_1 20 rfl rfl)
abbrev cX4_parse : ByteArray := prog_7_method_18_code
def yX4_parse : MethodName := ⟨RX4, "parse", "()LMailSessions$Server;"⟩
def dkwX4_parse_4 : List UInt8 := [42, 180, 0, 26, 28, 51, 182, 0, 245, 132, 2, 1, 167, 255, 196, 42, 180, 0, 18, 176]
abbrev dktX4_parse_4 : List UInt8 := dkwX4_parse_4 ++ []
def dkwX4_parse_3 : List UInt8 := [42, 180, 0, 18, 42, 180, 0, 18, 180, 0, 217, 28, 182, 0, 211, 192, 0, 223, 42, 180, 0, 22, 28, 46]
abbrev dktX4_parse_3 : List UInt8 := dkwX4_parse_3 ++ dktX4_parse_4
def dkwX4_parse_2 : List UInt8 := [28, 42, 180, 0, 18, 180, 0, 217, 182, 0, 179, 162, 0, 52, 42, 180, 0, 22, 28, 46, 2, 159, 0, 36]
abbrev dktX4_parse_2 : List UInt8 := dkwX4_parse_2 ++ dktX4_parse_3
def dkwX4_parse_1 : List UInt8 := [182, 0, 36, 42, 180, 0, 70, 178, 0, 64, 165, 0, 7, 4, 167, 0, 4, 3, 60, 167, 255, 217, 3, 61]
abbrev dktX4_parse_1 : List UInt8 := dkwX4_parse_1 ++ dktX4_parse_2
def dkwX4_parse_0 : List UInt8 := [4, 60, 27, 153, 0, 41, 42, 182, 0, 242, 42, 42, 16, 59, 182, 0, 226, 4, 182, 0, 115, 42]
abbrev dktX4_parse_0 : List UInt8 := dkwX4_parse_0 ++ dktX4_parse_1
theorem dksX4_parse_0 : cX4_parse.data.toList.drop 0 = dktX4_parse_0 := by decide +kernel
theorem dksX4_parse_1 : cX4_parse.data.toList.drop 22 = dktX4_parse_1 := dk_seg dksX4_parse_0 22 rfl rfl
theorem dksX4_parse_2 : cX4_parse.data.toList.drop 46 = dktX4_parse_2 := dk_seg dksX4_parse_1 24 rfl rfl
theorem dksX4_parse_3 : cX4_parse.data.toList.drop 70 = dktX4_parse_3 := dk_seg dksX4_parse_2 24 rfl rfl
theorem dksX4_parse_4 : cX4_parse.data.toList.drop 94 = dktX4_parse_4 := dk_seg dksX4_parse_3 24 rfl rfl
theorem dX4_parse_0 : decode cX4_parse 0 = .ok (.iconst 1, 1) := dk_4 (dk_at dksX4_parse_0 0 rfl rfl)
theorem dX4_parse_1 : decode cX4_parse 1 = .ok (.istore_n 1, 1) := dk_60 (dk_at dksX4_parse_0 1 rfl rfl)
theorem dX4_parse_2 : decode cX4_parse 2 = .ok (.iload_n 1, 1) := dk_27 (dk_at dksX4_parse_0 2 rfl rfl)
theorem dX4_parse_3 : decode cX4_parse 3 = .ok (.ifCond .eq 41, 3) := dk_153 0 41 (dk_at dksX4_parse_0 3 rfl rfl)
theorem dX4_parse_6 : decode cX4_parse 6 = .ok (.aload_n 0, 1) := dk_42 (dk_at dksX4_parse_0 6 rfl rfl)
theorem dX4_parse_7 : decode cX4_parse 7 = .ok (.invokevirtual 242, 3) := dk_182 0 242 (dk_at dksX4_parse_0 7 rfl rfl)
theorem dX4_parse_10 : decode cX4_parse 10 = .ok (.aload_n 0, 1) := dk_42 (dk_at dksX4_parse_0 10 rfl rfl)
theorem dX4_parse_11 : decode cX4_parse 11 = .ok (.aload_n 0, 1) := dk_42 (dk_at dksX4_parse_0 11 rfl rfl)
theorem dX4_parse_12 : decode cX4_parse 12 = .ok (.bipush 59, 2) := dk_16 59 (dk_at dksX4_parse_0 12 rfl rfl)
theorem dX4_parse_14 : decode cX4_parse 14 = .ok (.invokevirtual 226, 3) := dk_182 0 226 (dk_at dksX4_parse_0 14 rfl rfl)
theorem dX4_parse_17 : decode cX4_parse 17 = .ok (.iconst 1, 1) := dk_4 (dk_at dksX4_parse_0 17 rfl rfl)
theorem dX4_parse_18 : decode cX4_parse 18 = .ok (.invokevirtual 115, 3) := dk_182 0 115 (dk_at dksX4_parse_0 18 rfl rfl)
theorem dX4_parse_21 : decode cX4_parse 21 = .ok (.aload_n 0, 1) := dk_42 (dk_at dksX4_parse_0 21 rfl rfl)
theorem dX4_parse_22 : decode cX4_parse 22 = .ok (.invokevirtual 36, 3) := dk_182 0 36 (dk_at dksX4_parse_1 0 rfl rfl)
theorem dX4_parse_25 : decode cX4_parse 25 = .ok (.aload_n 0, 1) := dk_42 (dk_at dksX4_parse_1 3 rfl rfl)
theorem dX4_parse_26 : decode cX4_parse 26 = .ok (.getfield 70, 3) := dk_180 0 70 (dk_at dksX4_parse_1 4 rfl rfl)
theorem dX4_parse_29 : decode cX4_parse 29 = .ok (.getstatic 64, 3) := dk_178 0 64 (dk_at dksX4_parse_1 7 rfl rfl)
theorem dX4_parse_32 : decode cX4_parse 32 = .ok (.if_acmp .eq 7, 3) := dk_165 0 7 (dk_at dksX4_parse_1 10 rfl rfl)
theorem dX4_parse_35 : decode cX4_parse 35 = .ok (.iconst 1, 1) := dk_4 (dk_at dksX4_parse_1 13 rfl rfl)
theorem dX4_parse_36 : decode cX4_parse 36 = .ok (.goto 4, 3) := dk_167 0 4 (dk_at dksX4_parse_1 14 rfl rfl)
theorem dX4_parse_39 : decode cX4_parse 39 = .ok (.iconst 0, 1) := dk_3 (dk_at dksX4_parse_1 17 rfl rfl)
theorem dX4_parse_40 : decode cX4_parse 40 = .ok (.istore_n 1, 1) := dk_60 (dk_at dksX4_parse_1 18 rfl rfl)
theorem dX4_parse_41 : decode cX4_parse 41 = .ok (.goto (-39), 3) := dk_167 255 217 (dk_at dksX4_parse_1 19 rfl rfl)
theorem dX4_parse_44 : decode cX4_parse 44 = .ok (.iconst 0, 1) := dk_3 (dk_at dksX4_parse_1 22 rfl rfl)
theorem dX4_parse_45 : decode cX4_parse 45 = .ok (.istore_n 2, 1) := dk_61 (dk_at dksX4_parse_1 23 rfl rfl)
theorem dX4_parse_46 : decode cX4_parse 46 = .ok (.iload_n 2, 1) := dk_28 (dk_at dksX4_parse_2 0 rfl rfl)
theorem dX4_parse_47 : decode cX4_parse 47 = .ok (.aload_n 0, 1) := dk_42 (dk_at dksX4_parse_2 1 rfl rfl)
theorem dX4_parse_48 : decode cX4_parse 48 = .ok (.getfield 18, 3) := dk_180 0 18 (dk_at dksX4_parse_2 2 rfl rfl)
theorem dX4_parse_51 : decode cX4_parse 51 = .ok (.getfield 217, 3) := dk_180 0 217 (dk_at dksX4_parse_2 5 rfl rfl)
theorem dX4_parse_54 : decode cX4_parse 54 = .ok (.invokevirtual 179, 3) := dk_182 0 179 (dk_at dksX4_parse_2 8 rfl rfl)
theorem dX4_parse_57 : decode cX4_parse 57 = .ok (.if_icmp .ge 52, 3) := dk_162 0 52 (dk_at dksX4_parse_2 11 rfl rfl)
theorem dX4_parse_60 : decode cX4_parse 60 = .ok (.aload_n 0, 1) := dk_42 (dk_at dksX4_parse_2 14 rfl rfl)
theorem dX4_parse_61 : decode cX4_parse 61 = .ok (.getfield 22, 3) := dk_180 0 22 (dk_at dksX4_parse_2 15 rfl rfl)
theorem dX4_parse_64 : decode cX4_parse 64 = .ok (.iload_n 2, 1) := dk_28 (dk_at dksX4_parse_2 18 rfl rfl)
theorem dX4_parse_65 : decode cX4_parse 65 = .ok (.iaload, 1) := dk_46 (dk_at dksX4_parse_2 19 rfl rfl)
theorem dX4_parse_66 : decode cX4_parse 66 = .ok (.iconst (-1), 1) := dk_2 (dk_at dksX4_parse_2 20 rfl rfl)
theorem dX4_parse_67 : decode cX4_parse 67 = .ok (.if_icmp .eq 36, 3) := dk_159 0 36 (dk_at dksX4_parse_2 21 rfl rfl)
theorem dX4_parse_70 : decode cX4_parse 70 = .ok (.aload_n 0, 1) := dk_42 (dk_at dksX4_parse_3 0 rfl rfl)
theorem dX4_parse_71 : decode cX4_parse 71 = .ok (.getfield 18, 3) := dk_180 0 18 (dk_at dksX4_parse_3 1 rfl rfl)
theorem dX4_parse_74 : decode cX4_parse 74 = .ok (.aload_n 0, 1) := dk_42 (dk_at dksX4_parse_3 4 rfl rfl)
theorem dX4_parse_75 : decode cX4_parse 75 = .ok (.getfield 18, 3) := dk_180 0 18 (dk_at dksX4_parse_3 5 rfl rfl)
theorem dX4_parse_78 : decode cX4_parse 78 = .ok (.getfield 217, 3) := dk_180 0 217 (dk_at dksX4_parse_3 8 rfl rfl)
theorem dX4_parse_81 : decode cX4_parse 81 = .ok (.iload_n 2, 1) := dk_28 (dk_at dksX4_parse_3 11 rfl rfl)
theorem dX4_parse_82 : decode cX4_parse 82 = .ok (.invokevirtual 211, 3) := dk_182 0 211 (dk_at dksX4_parse_3 12 rfl rfl)
theorem dX4_parse_85 : decode cX4_parse 85 = .ok (.checkcast 223, 3) := dk_192 0 223 (dk_at dksX4_parse_3 15 rfl rfl)
theorem dX4_parse_88 : decode cX4_parse 88 = .ok (.aload_n 0, 1) := dk_42 (dk_at dksX4_parse_3 18 rfl rfl)
theorem dX4_parse_89 : decode cX4_parse 89 = .ok (.getfield 22, 3) := dk_180 0 22 (dk_at dksX4_parse_3 19 rfl rfl)
theorem dX4_parse_92 : decode cX4_parse 92 = .ok (.iload_n 2, 1) := dk_28 (dk_at dksX4_parse_3 22 rfl rfl)
theorem dX4_parse_93 : decode cX4_parse 93 = .ok (.iaload, 1) := dk_46 (dk_at dksX4_parse_3 23 rfl rfl)
theorem dX4_parse_94 : decode cX4_parse 94 = .ok (.aload_n 0, 1) := dk_42 (dk_at dksX4_parse_4 0 rfl rfl)
theorem dX4_parse_95 : decode cX4_parse 95 = .ok (.getfield 26, 3) := dk_180 0 26 (dk_at dksX4_parse_4 1 rfl rfl)
theorem dX4_parse_98 : decode cX4_parse 98 = .ok (.iload_n 2, 1) := dk_28 (dk_at dksX4_parse_4 4 rfl rfl)
theorem dX4_parse_99 : decode cX4_parse 99 = .ok (.baload, 1) := dk_51 (dk_at dksX4_parse_4 5 rfl rfl)
theorem dX4_parse_100 : decode cX4_parse 100 = .ok (.invokevirtual 245, 3) := dk_182 0 245 (dk_at dksX4_parse_4 6 rfl rfl)
theorem dX4_parse_103 : decode cX4_parse 103 = .ok (.iinc 2 1, 3) := dk_132 2 1 (dk_at dksX4_parse_4 9 rfl rfl)
theorem dX4_parse_106 : decode cX4_parse 106 = .ok (.goto (-60), 3) := dk_167 255 196 (dk_at dksX4_parse_4 12 rfl rfl)
theorem dX4_parse_109 : decode cX4_parse 109 = .ok (.aload_n 0, 1) := dk_42 (dk_at dksX4_parse_4 15 rfl rfl)
theorem dX4_parse_110 : decode cX4_parse 110 = .ok (.getfield 18, 3) := dk_180 0 18 (dk_at dksX4_parse_4 16 rfl rfl)
theorem dX4_parse_113 : decode cX4_parse 113 = .ok (.areturn, 1) := dk_176 (dk_at dksX4_parse_4 19 rfl rfl)
abbrev cX4_parseStatement : ByteArray := prog_7_method_17_code
def yX4_parseStatement : MethodName := ⟨RX4, "parseStatement", "()V"⟩
def dkwX4_parseStatement_7 : List UInt8 := [182, 0, 239, 167, 0, 16, 187, 0, 100, 89, 4, 42, 180, 0, 58, 183, 0, 102, 191, 177]
abbrev dktX4_parseStatement_7 : List UInt8 := dkwX4_parseStatement_7 ++ []
def dkwX4_parseStatement_6 : List UInt8 := [42, 182, 0, 230, 167, 0, 37, 42, 182, 0, 233, 167, 0, 30, 42, 182, 0, 236, 167, 0, 23, 42]
abbrev dktX4_parseStatement_6 : List UInt8 := dkwX4_parseStatement_6 ++ dktX4_parseStatement_7
def dkwX4_parseStatement_5 : List UInt8 := [170, 0, 0, 0, 0, 58, 0, 0, 0, 0, 0, 0, 0, 3, 0, 0, 0, 30, 0, 0, 0, 37, 0, 0, 0, 44, 0, 0, 0, 51]
abbrev dktX4_parseStatement_5 : List UInt8 := dkwX4_parseStatement_5 ++ dktX4_parseStatement_6
def dkwX4_parseStatement_4 : List UInt8 := [153, 0, 5, 6, 61, 28]
abbrev dktX4_parseStatement_4 : List UInt8 := dkwX4_parseStatement_4 ++ dktX4_parseStatement_5
def dkwX4_parseStatement_3 : List UInt8 := [61, 167, 0, 28, 43, 18, 137, 182, 0, 105, 153, 0, 19, 5, 61, 167, 0, 14, 43, 18, 141, 182, 0, 105]
abbrev dktX4_parseStatement_3 : List UInt8 := dkwX4_parseStatement_3 ++ dktX4_parseStatement_4
def dkwX4_parseStatement_2 : List UInt8 := [43, 18, 133, 182, 0, 105, 153, 0, 47, 3, 61, 167, 0, 42, 43, 18, 135, 182, 0, 105, 153, 0, 33, 4]
abbrev dktX4_parseStatement_2 : List UInt8 := dkwX4_parseStatement_2 ++ dktX4_parseStatement_3
def dkwX4_parseStatement_1 : List UInt8 := [171, 0, 0, 0, 94, 0, 0, 0, 4, 0, 1, 125, 203, 0, 0, 0, 55, 6, 35, 75, 187, 0, 0, 0, 41, 56, 235, 0, 7, 0, 0, 0, 69, 118, 80, 130, 150, 0, 0, 0, 83]
abbrev dktX4_parseStatement_1 : List UInt8 := dkwX4_parseStatement_1 ++ dktX4_parseStatement_2
def dkwX4_parseStatement_0 : List UInt8 := [42, 180, 0, 32, 76, 2, 61, 43, 182, 0, 119]
abbrev dktX4_parseStatement_0 : List UInt8 := dkwX4_parseStatement_0 ++ dktX4_parseStatement_1
theorem dksX4_parseStatement_0 : cX4_parseStatement.data.toList.drop 0 = dktX4_parseStatement_0 := by decide +kernel
theorem dksX4_parseStatement_1 : cX4_parseStatement.data.toList.drop 11 = dktX4_parseStatement_1 := dk_seg dksX4_parseStatement_0 11 rfl rfl
theorem dksX4_parseStatement_2 : cX4_parseStatement.data.toList.drop 52 = dktX4_parseStatement_2 := dk_seg dksX4_parseStatement_1 41 rfl rfl
theorem dksX4_parseStatement_3 : cX4_parseStatement.data.toList.drop 76 = dktX4_parseStatement_3 := dk_seg dksX4_parseStatement_2 24 rfl rfl
theorem dksX4_parseStatement_4 : cX4_parseStatement.data.toList.drop 100 = dktX4_parseStatement_4 := dk_seg dksX4_parseStatement_3 24 rfl rfl
theorem dksX4_parseStatement_5 : cX4_parseStatement.data.toList.drop 106 = dktX4_parseStatement_5 := dk_seg dksX4_parseStatement_4 6 rfl rfl
theorem dksX4_parseStatement_6 : cX4_parseStatement.data.toList.drop 136 = dktX4_parseStatement_6 := dk_seg dksX4_parseStatement_5 30 rfl rfl
theorem dksX4_parseStatement_7 : cX4_parseStatement.data.toList.drop 158 = dktX4_parseStatement_7 := dk_seg dksX4_parseStatement_6 22 rfl rfl
theorem dX4_parseStatement_0 : decode cX4_parseStatement 0 = .ok (.aload_n 0, 1) := dk_42 (dk_at dksX4_parseStatement_0 0 rfl rfl)
theorem dX4_parseStatement_1 : decode cX4_parseStatement 1 = .ok (.getfield 32, 3) := dk_180 0 32 (dk_at dksX4_parseStatement_0 1 rfl rfl)
theorem dX4_parseStatement_4 : decode cX4_parseStatement 4 = .ok (.astore_n 1, 1) := dk_76 (dk_at dksX4_parseStatement_0 4 rfl rfl)
theorem dX4_parseStatement_5 : decode cX4_parseStatement 5 = .ok (.iconst (-1), 1) := dk_2 (dk_at dksX4_parseStatement_0 5 rfl rfl)
theorem dX4_parseStatement_6 : decode cX4_parseStatement 6 = .ok (.istore_n 2, 1) := dk_61 (dk_at dksX4_parseStatement_0 6 rfl rfl)
theorem dX4_parseStatement_7 : decode cX4_parseStatement 7 = .ok (.aload_n 1, 1) := dk_43 (dk_at dksX4_parseStatement_0 7 rfl rfl)
theorem dX4_parseStatement_8 : decode cX4_parseStatement 8 = .ok (.invokevirtual 119, 3) := dk_182 0 119 (dk_at dksX4_parseStatement_0 8 rfl rfl)
theorem dX4_parseStatement_11 : decode cX4_parseStatement 11 = .ok (.lookupswitch 94 #[(97739, 55), (102976443, 41), (954925063, 69), (1984987798, 83)], 41) := by decide +kernel
theorem dX4_parseStatement_52 : decode cX4_parseStatement 52 = .ok (.aload_n 1, 1) := dk_43 (dk_at dksX4_parseStatement_2 0 rfl rfl)
theorem dX4_parseStatement_53 : decode cX4_parseStatement 53 = .ok (.ldc 133, 2) := dk_18 133 (dk_at dksX4_parseStatement_2 1 rfl rfl)
theorem dX4_parseStatement_55 : decode cX4_parseStatement 55 = .ok (.invokevirtual 105, 3) := dk_182 0 105 (dk_at dksX4_parseStatement_2 3 rfl rfl)
theorem dX4_parseStatement_58 : decode cX4_parseStatement 58 = .ok (.ifCond .eq 47, 3) := dk_153 0 47 (dk_at dksX4_parseStatement_2 6 rfl rfl)
theorem dX4_parseStatement_61 : decode cX4_parseStatement 61 = .ok (.iconst 0, 1) := dk_3 (dk_at dksX4_parseStatement_2 9 rfl rfl)
theorem dX4_parseStatement_62 : decode cX4_parseStatement 62 = .ok (.istore_n 2, 1) := dk_61 (dk_at dksX4_parseStatement_2 10 rfl rfl)
theorem dX4_parseStatement_63 : decode cX4_parseStatement 63 = .ok (.goto 42, 3) := dk_167 0 42 (dk_at dksX4_parseStatement_2 11 rfl rfl)
theorem dX4_parseStatement_66 : decode cX4_parseStatement 66 = .ok (.aload_n 1, 1) := dk_43 (dk_at dksX4_parseStatement_2 14 rfl rfl)
theorem dX4_parseStatement_67 : decode cX4_parseStatement 67 = .ok (.ldc 135, 2) := dk_18 135 (dk_at dksX4_parseStatement_2 15 rfl rfl)
theorem dX4_parseStatement_69 : decode cX4_parseStatement 69 = .ok (.invokevirtual 105, 3) := dk_182 0 105 (dk_at dksX4_parseStatement_2 17 rfl rfl)
theorem dX4_parseStatement_72 : decode cX4_parseStatement 72 = .ok (.ifCond .eq 33, 3) := dk_153 0 33 (dk_at dksX4_parseStatement_2 20 rfl rfl)
theorem dX4_parseStatement_75 : decode cX4_parseStatement 75 = .ok (.iconst 1, 1) := dk_4 (dk_at dksX4_parseStatement_2 23 rfl rfl)
theorem dX4_parseStatement_76 : decode cX4_parseStatement 76 = .ok (.istore_n 2, 1) := dk_61 (dk_at dksX4_parseStatement_3 0 rfl rfl)
theorem dX4_parseStatement_77 : decode cX4_parseStatement 77 = .ok (.goto 28, 3) := dk_167 0 28 (dk_at dksX4_parseStatement_3 1 rfl rfl)
theorem dX4_parseStatement_80 : decode cX4_parseStatement 80 = .ok (.aload_n 1, 1) := dk_43 (dk_at dksX4_parseStatement_3 4 rfl rfl)
theorem dX4_parseStatement_81 : decode cX4_parseStatement 81 = .ok (.ldc 137, 2) := dk_18 137 (dk_at dksX4_parseStatement_3 5 rfl rfl)
theorem dX4_parseStatement_83 : decode cX4_parseStatement 83 = .ok (.invokevirtual 105, 3) := dk_182 0 105 (dk_at dksX4_parseStatement_3 7 rfl rfl)
theorem dX4_parseStatement_86 : decode cX4_parseStatement 86 = .ok (.ifCond .eq 19, 3) := dk_153 0 19 (dk_at dksX4_parseStatement_3 10 rfl rfl)
theorem dX4_parseStatement_89 : decode cX4_parseStatement 89 = .ok (.iconst 2, 1) := dk_5 (dk_at dksX4_parseStatement_3 13 rfl rfl)
theorem dX4_parseStatement_90 : decode cX4_parseStatement 90 = .ok (.istore_n 2, 1) := dk_61 (dk_at dksX4_parseStatement_3 14 rfl rfl)
theorem dX4_parseStatement_91 : decode cX4_parseStatement 91 = .ok (.goto 14, 3) := dk_167 0 14 (dk_at dksX4_parseStatement_3 15 rfl rfl)
theorem dX4_parseStatement_94 : decode cX4_parseStatement 94 = .ok (.aload_n 1, 1) := dk_43 (dk_at dksX4_parseStatement_3 18 rfl rfl)
theorem dX4_parseStatement_95 : decode cX4_parseStatement 95 = .ok (.ldc 141, 2) := dk_18 141 (dk_at dksX4_parseStatement_3 19 rfl rfl)
theorem dX4_parseStatement_97 : decode cX4_parseStatement 97 = .ok (.invokevirtual 105, 3) := dk_182 0 105 (dk_at dksX4_parseStatement_3 21 rfl rfl)
theorem dX4_parseStatement_100 : decode cX4_parseStatement 100 = .ok (.ifCond .eq 5, 3) := dk_153 0 5 (dk_at dksX4_parseStatement_4 0 rfl rfl)
theorem dX4_parseStatement_103 : decode cX4_parseStatement 103 = .ok (.iconst 3, 1) := dk_6 (dk_at dksX4_parseStatement_4 3 rfl rfl)
theorem dX4_parseStatement_104 : decode cX4_parseStatement 104 = .ok (.istore_n 2, 1) := dk_61 (dk_at dksX4_parseStatement_4 4 rfl rfl)
theorem dX4_parseStatement_105 : decode cX4_parseStatement 105 = .ok (.iload_n 2, 1) := dk_28 (dk_at dksX4_parseStatement_4 5 rfl rfl)
theorem dX4_parseStatement_106 : decode cX4_parseStatement 106 = .ok (.tableswitch 58 0 3 #[30, 37, 44, 51], 30) := by decide +kernel
theorem dX4_parseStatement_136 : decode cX4_parseStatement 136 = .ok (.aload_n 0, 1) := dk_42 (dk_at dksX4_parseStatement_6 0 rfl rfl)
theorem dX4_parseStatement_137 : decode cX4_parseStatement 137 = .ok (.invokevirtual 230, 3) := dk_182 0 230 (dk_at dksX4_parseStatement_6 1 rfl rfl)
theorem dX4_parseStatement_140 : decode cX4_parseStatement 140 = .ok (.goto 37, 3) := dk_167 0 37 (dk_at dksX4_parseStatement_6 4 rfl rfl)
theorem dX4_parseStatement_143 : decode cX4_parseStatement 143 = .ok (.aload_n 0, 1) := dk_42 (dk_at dksX4_parseStatement_6 7 rfl rfl)
theorem dX4_parseStatement_144 : decode cX4_parseStatement 144 = .ok (.invokevirtual 233, 3) := dk_182 0 233 (dk_at dksX4_parseStatement_6 8 rfl rfl)
theorem dX4_parseStatement_147 : decode cX4_parseStatement 147 = .ok (.goto 30, 3) := dk_167 0 30 (dk_at dksX4_parseStatement_6 11 rfl rfl)
theorem dX4_parseStatement_150 : decode cX4_parseStatement 150 = .ok (.aload_n 0, 1) := dk_42 (dk_at dksX4_parseStatement_6 14 rfl rfl)
theorem dX4_parseStatement_151 : decode cX4_parseStatement 151 = .ok (.invokevirtual 236, 3) := dk_182 0 236 (dk_at dksX4_parseStatement_6 15 rfl rfl)
theorem dX4_parseStatement_154 : decode cX4_parseStatement 154 = .ok (.goto 23, 3) := dk_167 0 23 (dk_at dksX4_parseStatement_6 18 rfl rfl)
theorem dX4_parseStatement_157 : decode cX4_parseStatement 157 = .ok (.aload_n 0, 1) := dk_42 (dk_at dksX4_parseStatement_6 21 rfl rfl)
theorem dX4_parseStatement_158 : decode cX4_parseStatement 158 = .ok (.invokevirtual 239, 3) := dk_182 0 239 (dk_at dksX4_parseStatement_7 0 rfl rfl)
theorem dX4_parseStatement_161 : decode cX4_parseStatement 161 = .ok (.goto 16, 3) := dk_167 0 16 (dk_at dksX4_parseStatement_7 3 rfl rfl)
theorem dX4_parseStatement_164 : decode cX4_parseStatement 164 = .ok (.new 100, 3) := dk_187 0 100 (dk_at dksX4_parseStatement_7 6 rfl rfl)
theorem dX4_parseStatement_167 : decode cX4_parseStatement 167 = .ok (.dup, 1) := dk_89 (dk_at dksX4_parseStatement_7 9 rfl rfl)
theorem dX4_parseStatement_168 : decode cX4_parseStatement 168 = .ok (.iconst 1, 1) := dk_4 (dk_at dksX4_parseStatement_7 10 rfl rfl)
theorem dX4_parseStatement_169 : decode cX4_parseStatement 169 = .ok (.aload_n 0, 1) := dk_42 (dk_at dksX4_parseStatement_7 11 rfl rfl)
theorem dX4_parseStatement_170 : decode cX4_parseStatement 170 = .ok (.getfield 58, 3) := dk_180 0 58 (dk_at dksX4_parseStatement_7 12 rfl rfl)
theorem dX4_parseStatement_173 : decode cX4_parseStatement 173 = .ok (.invokespecial 102, 3) := dk_183 0 102 (dk_at dksX4_parseStatement_7 15 rfl rfl)
theorem dX4_parseStatement_176 : decode cX4_parseStatement 176 = .ok (.athrow, 1) := dk_191 (dk_at dksX4_parseStatement_7 18 rfl rfl)
theorem dX4_parseStatement_177 : decode cX4_parseStatement 177 = .ok (.return_, 1) := dk_177 (dk_at dksX4_parseStatement_7 19 rfl rfl)
abbrev cX4_parseLimit : ByteArray := prog_7_method_12_code
def yX4_parseLimit : MethodName := ⟨RX4, "parseLimit", "()V"⟩
def dkwX4_parseLimit_2 : List UInt8 := [42, 180, 0, 18, 42, 4, 16, 30, 182, 0, 170, 181, 0, 173, 177]
abbrev dktX4_parseLimit_2 : List UInt8 := dkwX4_parseLimit_2 ++ []
def dkwX4_parseLimit_1 : List UInt8 := [180, 0, 166, 154, 0, 7, 4, 167, 0, 4, 3, 6, 182, 0, 115, 42, 4, 181, 0, 166, 42, 182, 0, 36]
abbrev dktX4_parseLimit_1 : List UInt8 := dkwX4_parseLimit_1 ++ dktX4_parseLimit_2
def dkwX4_parseLimit_0 : List UInt8 := [42, 42, 180, 0, 18, 182, 0, 163, 154, 0, 7, 4, 167, 0, 4, 3, 4, 182, 0, 115, 42, 42]
abbrev dktX4_parseLimit_0 : List UInt8 := dkwX4_parseLimit_0 ++ dktX4_parseLimit_1
theorem dksX4_parseLimit_0 : cX4_parseLimit.data.toList.drop 0 = dktX4_parseLimit_0 := by decide +kernel
theorem dksX4_parseLimit_1 : cX4_parseLimit.data.toList.drop 22 = dktX4_parseLimit_1 := dk_seg dksX4_parseLimit_0 22 rfl rfl
theorem dksX4_parseLimit_2 : cX4_parseLimit.data.toList.drop 46 = dktX4_parseLimit_2 := dk_seg dksX4_parseLimit_1 24 rfl rfl
theorem dX4_parseLimit_0 : decode cX4_parseLimit 0 = .ok (.aload_n 0, 1) := dk_42 (dk_at dksX4_parseLimit_0 0 rfl rfl)
theorem dX4_parseLimit_1 : decode cX4_parseLimit 1 = .ok (.aload_n 0, 1) := dk_42 (dk_at dksX4_parseLimit_0 1 rfl rfl)
theorem dX4_parseLimit_2 : decode cX4_parseLimit 2 = .ok (.getfield 18, 3) := dk_180 0 18 (dk_at dksX4_parseLimit_0 2 rfl rfl)
theorem dX4_parseLimit_5 : decode cX4_parseLimit 5 = .ok (.invokevirtual 163, 3) := dk_182 0 163 (dk_at dksX4_parseLimit_0 5 rfl rfl)
theorem dX4_parseLimit_8 : decode cX4_parseLimit 8 = .ok (.ifCond .ne 7, 3) := dk_154 0 7 (dk_at dksX4_parseLimit_0 8 rfl rfl)
theorem dX4_parseLimit_11 : decode cX4_parseLimit 11 = .ok (.iconst 1, 1) := dk_4 (dk_at dksX4_parseLimit_0 11 rfl rfl)
theorem dX4_parseLimit_12 : decode cX4_parseLimit 12 = .ok (.goto 4, 3) := dk_167 0 4 (dk_at dksX4_parseLimit_0 12 rfl rfl)
theorem dX4_parseLimit_15 : decode cX4_parseLimit 15 = .ok (.iconst 0, 1) := dk_3 (dk_at dksX4_parseLimit_0 15 rfl rfl)
theorem dX4_parseLimit_16 : decode cX4_parseLimit 16 = .ok (.iconst 1, 1) := dk_4 (dk_at dksX4_parseLimit_0 16 rfl rfl)
theorem dX4_parseLimit_17 : decode cX4_parseLimit 17 = .ok (.invokevirtual 115, 3) := dk_182 0 115 (dk_at dksX4_parseLimit_0 17 rfl rfl)
theorem dX4_parseLimit_20 : decode cX4_parseLimit 20 = .ok (.aload_n 0, 1) := dk_42 (dk_at dksX4_parseLimit_0 20 rfl rfl)
theorem dX4_parseLimit_21 : decode cX4_parseLimit 21 = .ok (.aload_n 0, 1) := dk_42 (dk_at dksX4_parseLimit_0 21 rfl rfl)
theorem dX4_parseLimit_22 : decode cX4_parseLimit 22 = .ok (.getfield 166, 3) := dk_180 0 166 (dk_at dksX4_parseLimit_1 0 rfl rfl)
theorem dX4_parseLimit_25 : decode cX4_parseLimit 25 = .ok (.ifCond .ne 7, 3) := dk_154 0 7 (dk_at dksX4_parseLimit_1 3 rfl rfl)
theorem dX4_parseLimit_28 : decode cX4_parseLimit 28 = .ok (.iconst 1, 1) := dk_4 (dk_at dksX4_parseLimit_1 6 rfl rfl)
theorem dX4_parseLimit_29 : decode cX4_parseLimit 29 = .ok (.goto 4, 3) := dk_167 0 4 (dk_at dksX4_parseLimit_1 7 rfl rfl)
theorem dX4_parseLimit_32 : decode cX4_parseLimit 32 = .ok (.iconst 0, 1) := dk_3 (dk_at dksX4_parseLimit_1 10 rfl rfl)
theorem dX4_parseLimit_33 : decode cX4_parseLimit 33 = .ok (.iconst 3, 1) := dk_6 (dk_at dksX4_parseLimit_1 11 rfl rfl)
theorem dX4_parseLimit_34 : decode cX4_parseLimit 34 = .ok (.invokevirtual 115, 3) := dk_182 0 115 (dk_at dksX4_parseLimit_1 12 rfl rfl)
theorem dX4_parseLimit_37 : decode cX4_parseLimit 37 = .ok (.aload_n 0, 1) := dk_42 (dk_at dksX4_parseLimit_1 15 rfl rfl)
theorem dX4_parseLimit_38 : decode cX4_parseLimit 38 = .ok (.iconst 1, 1) := dk_4 (dk_at dksX4_parseLimit_1 16 rfl rfl)
theorem dX4_parseLimit_39 : decode cX4_parseLimit 39 = .ok (.putfield 166, 3) := dk_181 0 166 (dk_at dksX4_parseLimit_1 17 rfl rfl)
theorem dX4_parseLimit_42 : decode cX4_parseLimit 42 = .ok (.aload_n 0, 1) := dk_42 (dk_at dksX4_parseLimit_1 20 rfl rfl)
theorem dX4_parseLimit_43 : decode cX4_parseLimit 43 = .ok (.invokevirtual 36, 3) := dk_182 0 36 (dk_at dksX4_parseLimit_1 21 rfl rfl)
theorem dX4_parseLimit_46 : decode cX4_parseLimit 46 = .ok (.aload_n 0, 1) := dk_42 (dk_at dksX4_parseLimit_2 0 rfl rfl)
theorem dX4_parseLimit_47 : decode cX4_parseLimit 47 = .ok (.getfield 18, 3) := dk_180 0 18 (dk_at dksX4_parseLimit_2 1 rfl rfl)
theorem dX4_parseLimit_50 : decode cX4_parseLimit 50 = .ok (.aload_n 0, 1) := dk_42 (dk_at dksX4_parseLimit_2 4 rfl rfl)
theorem dX4_parseLimit_51 : decode cX4_parseLimit 51 = .ok (.iconst 1, 1) := dk_4 (dk_at dksX4_parseLimit_2 5 rfl rfl)
theorem dX4_parseLimit_52 : decode cX4_parseLimit 52 = .ok (.bipush 30, 2) := dk_16 30 (dk_at dksX4_parseLimit_2 6 rfl rfl)
theorem dX4_parseLimit_54 : decode cX4_parseLimit 54 = .ok (.invokevirtual 170, 3) := dk_182 0 170 (dk_at dksX4_parseLimit_2 8 rfl rfl)
theorem dX4_parseLimit_57 : decode cX4_parseLimit 57 = .ok (.putfield 173, 3) := dk_181 0 173 (dk_at dksX4_parseLimit_2 11 rfl rfl)
theorem dX4_parseLimit_60 : decode cX4_parseLimit 60 = .ok (.return_, 1) := dk_177 (dk_at dksX4_parseLimit_2 14 rfl rfl)
abbrev cX4_require : ByteArray := prog_7_method_4_code
def yX4_require : MethodName := ⟨RX4, "require", "(ZI)V"⟩
def dkwX4_require_0 : List UInt8 := [27, 154, 0, 16, 187, 0, 100, 89, 28, 42, 180, 0, 58, 183, 0, 102, 191, 177]
abbrev dktX4_require_0 : List UInt8 := dkwX4_require_0 ++ []
theorem dksX4_require_0 : cX4_require.data.toList.drop 0 = dktX4_require_0 := by decide +kernel
theorem dX4_require_0 : decode cX4_require 0 = .ok (.iload_n 1, 1) := dk_27 (dk_at dksX4_require_0 0 rfl rfl)
theorem dX4_require_1 : decode cX4_require 1 = .ok (.ifCond .ne 16, 3) := dk_154 0 16 (dk_at dksX4_require_0 1 rfl rfl)
theorem dX4_require_4 : decode cX4_require 4 = .ok (.new 100, 3) := dk_187 0 100 (dk_at dksX4_require_0 4 rfl rfl)
theorem dX4_require_7 : decode cX4_require 7 = .ok (.dup, 1) := dk_89 (dk_at dksX4_require_0 7 rfl rfl)
theorem dX4_require_8 : decode cX4_require 8 = .ok (.iload_n 2, 1) := dk_28 (dk_at dksX4_require_0 8 rfl rfl)
theorem dX4_require_9 : decode cX4_require 9 = .ok (.aload_n 0, 1) := dk_42 (dk_at dksX4_require_0 9 rfl rfl)
theorem dX4_require_10 : decode cX4_require 10 = .ok (.getfield 58, 3) := dk_180 0 58 (dk_at dksX4_require_0 10 rfl rfl)
theorem dX4_require_13 : decode cX4_require 13 = .ok (.invokespecial 102, 3) := dk_183 0 102 (dk_at dksX4_require_0 13 rfl rfl)
theorem dX4_require_16 : decode cX4_require 16 = .ok (.athrow, 1) := dk_191 (dk_at dksX4_require_0 16 rfl rfl)
theorem dX4_require_17 : decode cX4_require 17 = .ok (.return_, 1) := dk_177 (dk_at dksX4_require_0 17 rfl rfl)
abbrev cX4_number : ByteArray := prog_7_method_8_code
def yX4_number : MethodName := ⟨RX4, "number", "(II)I"⟩
def dkwX4_number_2 : List UInt8 := [29, 172]
abbrev dktX4_number_2 : List UInt8 := dkwX4_number_2 ++ []
def dkwX4_number_1 : List UInt8 := [180, 0, 61, 133, 27, 133, 28, 133, 184, 0, 50, 5, 182, 0, 115, 42, 180, 0, 61, 62, 42, 182, 0, 36]
abbrev dktX4_number_1 : List UInt8 := dkwX4_number_1 ++ dktX4_number_2
def dkwX4_number_0 : List UInt8 := [42, 42, 180, 0, 70, 178, 0, 87, 166, 0, 7, 4, 167, 0, 4, 3, 4, 182, 0, 115, 42, 42]
abbrev dktX4_number_0 : List UInt8 := dkwX4_number_0 ++ dktX4_number_1
theorem dksX4_number_0 : cX4_number.data.toList.drop 0 = dktX4_number_0 := by decide +kernel
theorem dksX4_number_1 : cX4_number.data.toList.drop 22 = dktX4_number_1 := dk_seg dksX4_number_0 22 rfl rfl
theorem dksX4_number_2 : cX4_number.data.toList.drop 46 = dktX4_number_2 := dk_seg dksX4_number_1 24 rfl rfl
theorem dX4_number_0 : decode cX4_number 0 = .ok (.aload_n 0, 1) := dk_42 (dk_at dksX4_number_0 0 rfl rfl)
theorem dX4_number_1 : decode cX4_number 1 = .ok (.aload_n 0, 1) := dk_42 (dk_at dksX4_number_0 1 rfl rfl)
theorem dX4_number_2 : decode cX4_number 2 = .ok (.getfield 70, 3) := dk_180 0 70 (dk_at dksX4_number_0 2 rfl rfl)
theorem dX4_number_5 : decode cX4_number 5 = .ok (.getstatic 87, 3) := dk_178 0 87 (dk_at dksX4_number_0 5 rfl rfl)
theorem dX4_number_8 : decode cX4_number 8 = .ok (.if_acmp .ne 7, 3) := dk_166 0 7 (dk_at dksX4_number_0 8 rfl rfl)
theorem dX4_number_11 : decode cX4_number 11 = .ok (.iconst 1, 1) := dk_4 (dk_at dksX4_number_0 11 rfl rfl)
theorem dX4_number_12 : decode cX4_number 12 = .ok (.goto 4, 3) := dk_167 0 4 (dk_at dksX4_number_0 12 rfl rfl)
theorem dX4_number_15 : decode cX4_number 15 = .ok (.iconst 0, 1) := dk_3 (dk_at dksX4_number_0 15 rfl rfl)
theorem dX4_number_16 : decode cX4_number 16 = .ok (.iconst 1, 1) := dk_4 (dk_at dksX4_number_0 16 rfl rfl)
theorem dX4_number_17 : decode cX4_number 17 = .ok (.invokevirtual 115, 3) := dk_182 0 115 (dk_at dksX4_number_0 17 rfl rfl)
theorem dX4_number_20 : decode cX4_number 20 = .ok (.aload_n 0, 1) := dk_42 (dk_at dksX4_number_0 20 rfl rfl)
theorem dX4_number_21 : decode cX4_number 21 = .ok (.aload_n 0, 1) := dk_42 (dk_at dksX4_number_0 21 rfl rfl)
theorem dX4_number_22 : decode cX4_number 22 = .ok (.getfield 61, 3) := dk_180 0 61 (dk_at dksX4_number_1 0 rfl rfl)
theorem dX4_number_25 : decode cX4_number 25 = .ok (.i2l, 1) := dk_133 (dk_at dksX4_number_1 3 rfl rfl)
theorem dX4_number_26 : decode cX4_number 26 = .ok (.iload_n 1, 1) := dk_27 (dk_at dksX4_number_1 4 rfl rfl)
theorem dX4_number_27 : decode cX4_number 27 = .ok (.i2l, 1) := dk_133 (dk_at dksX4_number_1 5 rfl rfl)
theorem dX4_number_28 : decode cX4_number 28 = .ok (.iload_n 2, 1) := dk_28 (dk_at dksX4_number_1 6 rfl rfl)
theorem dX4_number_29 : decode cX4_number 29 = .ok (.i2l, 1) := dk_133 (dk_at dksX4_number_1 7 rfl rfl)
theorem dX4_number_30 : decode cX4_number 30 = .ok (.invokestatic 50, 3) := dk_184 0 50 (dk_at dksX4_number_1 8 rfl rfl)
theorem dX4_number_33 : decode cX4_number 33 = .ok (.iconst 2, 1) := dk_5 (dk_at dksX4_number_1 11 rfl rfl)
theorem dX4_number_34 : decode cX4_number 34 = .ok (.invokevirtual 115, 3) := dk_182 0 115 (dk_at dksX4_number_1 12 rfl rfl)
theorem dX4_number_37 : decode cX4_number 37 = .ok (.aload_n 0, 1) := dk_42 (dk_at dksX4_number_1 15 rfl rfl)
theorem dX4_number_38 : decode cX4_number 38 = .ok (.getfield 61, 3) := dk_180 0 61 (dk_at dksX4_number_1 16 rfl rfl)
theorem dX4_number_41 : decode cX4_number 41 = .ok (.istore_n 3, 1) := dk_62 (dk_at dksX4_number_1 19 rfl rfl)
theorem dX4_number_42 : decode cX4_number 42 = .ok (.aload_n 0, 1) := dk_42 (dk_at dksX4_number_1 20 rfl rfl)
theorem dX4_number_43 : decode cX4_number 43 = .ok (.invokevirtual 36, 3) := dk_182 0 36 (dk_at dksX4_number_1 21 rfl rfl)
theorem dX4_number_46 : decode cX4_number 46 = .ok (.iload_n 3, 1) := dk_29 (dk_at dksX4_number_2 0 rfl rfl)
theorem dX4_number_47 : decode cX4_number 47 = .ok (.ireturn, 1) := dk_172 (dk_at dksX4_number_2 1 rfl rfl)
abbrev cX4_parseBox : ByteArray := prog_7_method_13_code
def yX4_parseBox : MethodName := ⟨RX4, "parseBox", "()V"⟩
def dkwX4_parseBox_3 : List UInt8 := [183, 0, 192, 182, 0, 195, 87, 42, 182, 0, 36, 177]
abbrev dktX4_parseBox_3 : List UInt8 := dkwX4_parseBox_3 ++ []
def dkwX4_parseBox_2 : List UInt8 := [4, 167, 0, 4, 3, 6, 182, 0, 115, 42, 180, 0, 18, 180, 0, 175, 187, 0, 190, 89, 42, 180, 0, 32]
abbrev dktX4_parseBox_2 : List UInt8 := dkwX4_parseBox_2 ++ dktX4_parseBox_3
def dkwX4_parseBox_1 : List UInt8 := [42, 182, 0, 36, 42, 182, 0, 183, 42, 42, 180, 0, 18, 42, 180, 0, 32, 182, 0, 186, 2, 160, 0, 7]
abbrev dktX4_parseBox_1 : List UInt8 := dkwX4_parseBox_1 ++ dktX4_parseBox_2
def dkwX4_parseBox_0 : List UInt8 := [42, 42, 180, 0, 18, 180, 0, 175, 182, 0, 179, 6, 162, 0, 7, 4, 167, 0, 4, 3, 7, 182, 0, 115]
abbrev dktX4_parseBox_0 : List UInt8 := dkwX4_parseBox_0 ++ dktX4_parseBox_1
theorem dksX4_parseBox_0 : cX4_parseBox.data.toList.drop 0 = dktX4_parseBox_0 := by decide +kernel
theorem dksX4_parseBox_1 : cX4_parseBox.data.toList.drop 24 = dktX4_parseBox_1 := dk_seg dksX4_parseBox_0 24 rfl rfl
theorem dksX4_parseBox_2 : cX4_parseBox.data.toList.drop 48 = dktX4_parseBox_2 := dk_seg dksX4_parseBox_1 24 rfl rfl
theorem dksX4_parseBox_3 : cX4_parseBox.data.toList.drop 72 = dktX4_parseBox_3 := dk_seg dksX4_parseBox_2 24 rfl rfl
theorem dX4_parseBox_0 : decode cX4_parseBox 0 = .ok (.aload_n 0, 1) := dk_42 (dk_at dksX4_parseBox_0 0 rfl rfl)
theorem dX4_parseBox_1 : decode cX4_parseBox 1 = .ok (.aload_n 0, 1) := dk_42 (dk_at dksX4_parseBox_0 1 rfl rfl)
theorem dX4_parseBox_2 : decode cX4_parseBox 2 = .ok (.getfield 18, 3) := dk_180 0 18 (dk_at dksX4_parseBox_0 2 rfl rfl)
theorem dX4_parseBox_5 : decode cX4_parseBox 5 = .ok (.getfield 175, 3) := dk_180 0 175 (dk_at dksX4_parseBox_0 5 rfl rfl)
theorem dX4_parseBox_8 : decode cX4_parseBox 8 = .ok (.invokevirtual 179, 3) := dk_182 0 179 (dk_at dksX4_parseBox_0 8 rfl rfl)
theorem dX4_parseBox_11 : decode cX4_parseBox 11 = .ok (.iconst 3, 1) := dk_6 (dk_at dksX4_parseBox_0 11 rfl rfl)
theorem dX4_parseBox_12 : decode cX4_parseBox 12 = .ok (.if_icmp .ge 7, 3) := dk_162 0 7 (dk_at dksX4_parseBox_0 12 rfl rfl)
theorem dX4_parseBox_15 : decode cX4_parseBox 15 = .ok (.iconst 1, 1) := dk_4 (dk_at dksX4_parseBox_0 15 rfl rfl)
theorem dX4_parseBox_16 : decode cX4_parseBox 16 = .ok (.goto 4, 3) := dk_167 0 4 (dk_at dksX4_parseBox_0 16 rfl rfl)
theorem dX4_parseBox_19 : decode cX4_parseBox 19 = .ok (.iconst 0, 1) := dk_3 (dk_at dksX4_parseBox_0 19 rfl rfl)
theorem dX4_parseBox_20 : decode cX4_parseBox 20 = .ok (.iconst 4, 1) := dk_7 (dk_at dksX4_parseBox_0 20 rfl rfl)
theorem dX4_parseBox_21 : decode cX4_parseBox 21 = .ok (.invokevirtual 115, 3) := dk_182 0 115 (dk_at dksX4_parseBox_0 21 rfl rfl)
theorem dX4_parseBox_24 : decode cX4_parseBox 24 = .ok (.aload_n 0, 1) := dk_42 (dk_at dksX4_parseBox_1 0 rfl rfl)
theorem dX4_parseBox_25 : decode cX4_parseBox 25 = .ok (.invokevirtual 36, 3) := dk_182 0 36 (dk_at dksX4_parseBox_1 1 rfl rfl)
theorem dX4_parseBox_28 : decode cX4_parseBox 28 = .ok (.aload_n 0, 1) := dk_42 (dk_at dksX4_parseBox_1 4 rfl rfl)
theorem dX4_parseBox_29 : decode cX4_parseBox 29 = .ok (.invokevirtual 183, 3) := dk_182 0 183 (dk_at dksX4_parseBox_1 5 rfl rfl)
theorem dX4_parseBox_32 : decode cX4_parseBox 32 = .ok (.aload_n 0, 1) := dk_42 (dk_at dksX4_parseBox_1 8 rfl rfl)
theorem dX4_parseBox_33 : decode cX4_parseBox 33 = .ok (.aload_n 0, 1) := dk_42 (dk_at dksX4_parseBox_1 9 rfl rfl)
theorem dX4_parseBox_34 : decode cX4_parseBox 34 = .ok (.getfield 18, 3) := dk_180 0 18 (dk_at dksX4_parseBox_1 10 rfl rfl)
theorem dX4_parseBox_37 : decode cX4_parseBox 37 = .ok (.aload_n 0, 1) := dk_42 (dk_at dksX4_parseBox_1 13 rfl rfl)
theorem dX4_parseBox_38 : decode cX4_parseBox 38 = .ok (.getfield 32, 3) := dk_180 0 32 (dk_at dksX4_parseBox_1 14 rfl rfl)
theorem dX4_parseBox_41 : decode cX4_parseBox 41 = .ok (.invokevirtual 186, 3) := dk_182 0 186 (dk_at dksX4_parseBox_1 17 rfl rfl)
theorem dX4_parseBox_44 : decode cX4_parseBox 44 = .ok (.iconst (-1), 1) := dk_2 (dk_at dksX4_parseBox_1 20 rfl rfl)
theorem dX4_parseBox_45 : decode cX4_parseBox 45 = .ok (.if_icmp .ne 7, 3) := dk_160 0 7 (dk_at dksX4_parseBox_1 21 rfl rfl)
theorem dX4_parseBox_48 : decode cX4_parseBox 48 = .ok (.iconst 1, 1) := dk_4 (dk_at dksX4_parseBox_2 0 rfl rfl)
theorem dX4_parseBox_49 : decode cX4_parseBox 49 = .ok (.goto 4, 3) := dk_167 0 4 (dk_at dksX4_parseBox_2 1 rfl rfl)
theorem dX4_parseBox_52 : decode cX4_parseBox 52 = .ok (.iconst 0, 1) := dk_3 (dk_at dksX4_parseBox_2 4 rfl rfl)
theorem dX4_parseBox_53 : decode cX4_parseBox 53 = .ok (.iconst 3, 1) := dk_6 (dk_at dksX4_parseBox_2 5 rfl rfl)
theorem dX4_parseBox_54 : decode cX4_parseBox 54 = .ok (.invokevirtual 115, 3) := dk_182 0 115 (dk_at dksX4_parseBox_2 6 rfl rfl)
theorem dX4_parseBox_57 : decode cX4_parseBox 57 = .ok (.aload_n 0, 1) := dk_42 (dk_at dksX4_parseBox_2 9 rfl rfl)
theorem dX4_parseBox_58 : decode cX4_parseBox 58 = .ok (.getfield 18, 3) := dk_180 0 18 (dk_at dksX4_parseBox_2 10 rfl rfl)
theorem dX4_parseBox_61 : decode cX4_parseBox 61 = .ok (.getfield 175, 3) := dk_180 0 175 (dk_at dksX4_parseBox_2 13 rfl rfl)
theorem dX4_parseBox_64 : decode cX4_parseBox 64 = .ok (.new 190, 3) := dk_187 0 190 (dk_at dksX4_parseBox_2 16 rfl rfl)
theorem dX4_parseBox_67 : decode cX4_parseBox 67 = .ok (.dup, 1) := dk_89 (dk_at dksX4_parseBox_2 19 rfl rfl)
theorem dX4_parseBox_68 : decode cX4_parseBox 68 = .ok (.aload_n 0, 1) := dk_42 (dk_at dksX4_parseBox_2 20 rfl rfl)
theorem dX4_parseBox_69 : decode cX4_parseBox 69 = .ok (.getfield 32, 3) := dk_180 0 32 (dk_at dksX4_parseBox_2 21 rfl rfl)
theorem dX4_parseBox_72 : decode cX4_parseBox 72 = .ok (.invokespecial 192, 3) := dk_183 0 192 (dk_at dksX4_parseBox_3 0 rfl rfl)
theorem dX4_parseBox_75 : decode cX4_parseBox 75 = .ok (.invokevirtual 195, 3) := dk_182 0 195 (dk_at dksX4_parseBox_3 3 rfl rfl)
theorem dX4_parseBox_78 : decode cX4_parseBox 78 = .ok (.pop, 1) := dk_87 (dk_at dksX4_parseBox_3 6 rfl rfl)
theorem dX4_parseBox_79 : decode cX4_parseBox 79 = .ok (.aload_n 0, 1) := dk_42 (dk_at dksX4_parseBox_3 7 rfl rfl)
theorem dX4_parseBox_80 : decode cX4_parseBox 80 = .ok (.invokevirtual 36, 3) := dk_182 0 36 (dk_at dksX4_parseBox_3 8 rfl rfl)
theorem dX4_parseBox_83 : decode cX4_parseBox 83 = .ok (.return_, 1) := dk_177 (dk_at dksX4_parseBox_3 11 rfl rfl)
abbrev cX4_requireName : ByteArray := prog_7_method_11_code
def yX4_requireName : MethodName := ⟨RX4, "requireName", "()V"⟩
def dkwX4_requireName_1 : List UInt8 := [182, 0, 159, 154, 0, 7, 4, 167, 0, 4, 3, 4, 182, 0, 115, 177]
abbrev dktX4_requireName_1 : List UInt8 := dkwX4_requireName_1 ++ []
def dkwX4_requireName_0 : List UInt8 := [42, 42, 180, 0, 70, 178, 0, 73, 166, 0, 26, 42, 180, 0, 32, 182, 0, 156, 16, 6, 163, 0, 14, 42]
abbrev dktX4_requireName_0 : List UInt8 := dkwX4_requireName_0 ++ dktX4_requireName_1
theorem dksX4_requireName_0 : cX4_requireName.data.toList.drop 0 = dktX4_requireName_0 := by decide +kernel
theorem dksX4_requireName_1 : cX4_requireName.data.toList.drop 24 = dktX4_requireName_1 := dk_seg dksX4_requireName_0 24 rfl rfl
theorem dX4_requireName_0 : decode cX4_requireName 0 = .ok (.aload_n 0, 1) := dk_42 (dk_at dksX4_requireName_0 0 rfl rfl)
theorem dX4_requireName_1 : decode cX4_requireName 1 = .ok (.aload_n 0, 1) := dk_42 (dk_at dksX4_requireName_0 1 rfl rfl)
theorem dX4_requireName_2 : decode cX4_requireName 2 = .ok (.getfield 70, 3) := dk_180 0 70 (dk_at dksX4_requireName_0 2 rfl rfl)
theorem dX4_requireName_5 : decode cX4_requireName 5 = .ok (.getstatic 73, 3) := dk_178 0 73 (dk_at dksX4_requireName_0 5 rfl rfl)
theorem dX4_requireName_8 : decode cX4_requireName 8 = .ok (.if_acmp .ne 26, 3) := dk_166 0 26 (dk_at dksX4_requireName_0 8 rfl rfl)
theorem dX4_requireName_11 : decode cX4_requireName 11 = .ok (.aload_n 0, 1) := dk_42 (dk_at dksX4_requireName_0 11 rfl rfl)
theorem dX4_requireName_12 : decode cX4_requireName 12 = .ok (.getfield 32, 3) := dk_180 0 32 (dk_at dksX4_requireName_0 12 rfl rfl)
theorem dX4_requireName_15 : decode cX4_requireName 15 = .ok (.invokevirtual 156, 3) := dk_182 0 156 (dk_at dksX4_requireName_0 15 rfl rfl)
theorem dX4_requireName_18 : decode cX4_requireName 18 = .ok (.bipush 6, 2) := dk_16 6 (dk_at dksX4_requireName_0 18 rfl rfl)
theorem dX4_requireName_20 : decode cX4_requireName 20 = .ok (.if_icmp .gt 14, 3) := dk_163 0 14 (dk_at dksX4_requireName_0 20 rfl rfl)
theorem dX4_requireName_23 : decode cX4_requireName 23 = .ok (.aload_n 0, 1) := dk_42 (dk_at dksX4_requireName_0 23 rfl rfl)
theorem dX4_requireName_24 : decode cX4_requireName 24 = .ok (.invokevirtual 159, 3) := dk_182 0 159 (dk_at dksX4_requireName_1 0 rfl rfl)
theorem dX4_requireName_27 : decode cX4_requireName 27 = .ok (.ifCond .ne 7, 3) := dk_154 0 7 (dk_at dksX4_requireName_1 3 rfl rfl)
theorem dX4_requireName_30 : decode cX4_requireName 30 = .ok (.iconst 1, 1) := dk_4 (dk_at dksX4_requireName_1 6 rfl rfl)
theorem dX4_requireName_31 : decode cX4_requireName 31 = .ok (.goto 4, 3) := dk_167 0 4 (dk_at dksX4_requireName_1 7 rfl rfl)
theorem dX4_requireName_34 : decode cX4_requireName 34 = .ok (.iconst 0, 1) := dk_3 (dk_at dksX4_requireName_1 10 rfl rfl)
theorem dX4_requireName_35 : decode cX4_requireName 35 = .ok (.iconst 1, 1) := dk_4 (dk_at dksX4_requireName_1 11 rfl rfl)
theorem dX4_requireName_36 : decode cX4_requireName 36 = .ok (.invokevirtual 115, 3) := dk_182 0 115 (dk_at dksX4_requireName_1 12 rfl rfl)
theorem dX4_requireName_39 : decode cX4_requireName 39 = .ok (.return_, 1) := dk_177 (dk_at dksX4_requireName_1 15 rfl rfl)
abbrev cX4_isKeyword : ByteArray := prog_7_method_10_code
def yX4_isKeyword : MethodName := ⟨RX4, "isKeyword", "()Z"⟩
def dkwX4_isKeyword_10 : List UInt8 := [4, 167, 0, 16, 42, 182, 0, 153, 2, 159, 0, 7, 4, 167, 0, 4, 3, 172]
abbrev dktX4_isKeyword_10 : List UInt8 := dkwX4_isKeyword_10 ++ []
def dkwX4_isKeyword_9 : List UInt8 := [170, 0, 0, 0, 0, 58, 0, 0, 0, 0, 0, 0, 0, 9, 0, 0, 0, 54, 0, 0, 0, 54, 0, 0, 0, 54, 0, 0, 0, 54, 0, 0, 0, 54, 0, 0, 0, 54, 0, 0, 0, 54, 0, 0, 0, 54, 0, 0, 0, 54, 0, 0, 0, 54]
abbrev dktX4_isKeyword_9 : List UInt8 := dkwX4_isKeyword_9 ++ dktX4_isKeyword_10
def dkwX4_isKeyword_8 : List UInt8 := [28]
abbrev dktX4_isKeyword_8 : List UInt8 := dkwX4_isKeyword_8 ++ dktX4_isKeyword_9
def dkwX4_isKeyword_7 : List UInt8 := [182, 0, 105, 153, 0, 21, 16, 8, 61, 167, 0, 15, 43, 18, 151, 182, 0, 105, 153, 0, 6, 16, 9, 61]
abbrev dktX4_isKeyword_7 : List UInt8 := dkwX4_isKeyword_7 ++ dktX4_isKeyword_8
def dkwX4_isKeyword_6 : List UInt8 := [61, 167, 0, 45, 43, 18, 147, 182, 0, 105, 153, 0, 36, 16, 7, 61, 167, 0, 30, 43, 18, 149]
abbrev dktX4_isKeyword_6 : List UInt8 := dkwX4_isKeyword_6 ++ dktX4_isKeyword_7
def dkwX4_isKeyword_5 : List UInt8 := [18, 143, 182, 0, 105, 153, 0, 65, 8, 61, 167, 0, 60, 43, 18, 145, 182, 0, 105, 153, 0, 51, 16, 6]
abbrev dktX4_isKeyword_5 : List UInt8 := dkwX4_isKeyword_5 ++ dktX4_isKeyword_6
def dkwX4_isKeyword_4 : List UInt8 := [153, 0, 93, 6, 61, 167, 0, 88, 43, 18, 141, 182, 0, 105, 153, 0, 79, 7, 61, 167, 0, 74, 43]
abbrev dktX4_isKeyword_4 : List UInt8 := dkwX4_isKeyword_4 ++ dktX4_isKeyword_5
def dkwX4_isKeyword_3 : List UInt8 := [61, 167, 0, 116, 43, 18, 137, 182, 0, 105, 153, 0, 107, 5, 61, 167, 0, 102, 43, 18, 139, 182, 0, 105]
abbrev dktX4_isKeyword_3 : List UInt8 := dkwX4_isKeyword_3 ++ dktX4_isKeyword_4
def dkwX4_isKeyword_2 : List UInt8 := [43, 18, 133, 182, 0, 105, 153, 0, 135, 3, 61, 167, 0, 130, 43, 18, 135, 182, 0, 105, 153, 0, 121, 4]
abbrev dktX4_isKeyword_2 : List UInt8 := dkwX4_isKeyword_2 ++ dktX4_isKeyword_3
def dkwX4_isKeyword_1 : List UInt8 := [171, 0, 0, 0, 230, 0, 0, 0, 10, 0, 0, 13, 227, 0, 0, 0, 218, 0, 1, 121, 161, 0, 0, 0, 173, 0, 1, 125, 203, 0, 0, 0, 103, 0, 1, 170, 211, 0, 0, 0, 203, 0, 1, 196, 80, 0, 0, 0, 188, 0, 53, 224, 1, 0, 0, 0, 131, 6, 35, 75, 187, 0, 0, 0, 89, 6, 117, 217, 157, 0, 0, 0, 159, 56, 235, 0, 7, 0, 0, 0, 117, 118, 80, 130, 150, 0, 0, 0, 145]
abbrev dktX4_isKeyword_1 : List UInt8 := dkwX4_isKeyword_1 ++ dktX4_isKeyword_2
def dkwX4_isKeyword_0 : List UInt8 := [42, 180, 0, 32, 76, 2, 61, 43, 182, 0, 119]
abbrev dktX4_isKeyword_0 : List UInt8 := dkwX4_isKeyword_0 ++ dktX4_isKeyword_1
theorem dksX4_isKeyword_0 : cX4_isKeyword.data.toList.drop 0 = dktX4_isKeyword_0 := by decide +kernel
theorem dksX4_isKeyword_1 : cX4_isKeyword.data.toList.drop 11 = dktX4_isKeyword_1 := dk_seg dksX4_isKeyword_0 11 rfl rfl
theorem dksX4_isKeyword_2 : cX4_isKeyword.data.toList.drop 100 = dktX4_isKeyword_2 := dk_seg dksX4_isKeyword_1 89 rfl rfl
theorem dksX4_isKeyword_3 : cX4_isKeyword.data.toList.drop 124 = dktX4_isKeyword_3 := dk_seg dksX4_isKeyword_2 24 rfl rfl
theorem dksX4_isKeyword_4 : cX4_isKeyword.data.toList.drop 148 = dktX4_isKeyword_4 := dk_seg dksX4_isKeyword_3 24 rfl rfl
theorem dksX4_isKeyword_5 : cX4_isKeyword.data.toList.drop 171 = dktX4_isKeyword_5 := dk_seg dksX4_isKeyword_4 23 rfl rfl
theorem dksX4_isKeyword_6 : cX4_isKeyword.data.toList.drop 195 = dktX4_isKeyword_6 := dk_seg dksX4_isKeyword_5 24 rfl rfl
theorem dksX4_isKeyword_7 : cX4_isKeyword.data.toList.drop 217 = dktX4_isKeyword_7 := dk_seg dksX4_isKeyword_6 22 rfl rfl
theorem dksX4_isKeyword_8 : cX4_isKeyword.data.toList.drop 241 = dktX4_isKeyword_8 := dk_seg dksX4_isKeyword_7 24 rfl rfl
theorem dksX4_isKeyword_9 : cX4_isKeyword.data.toList.drop 242 = dktX4_isKeyword_9 := dk_seg dksX4_isKeyword_8 1 rfl rfl
theorem dksX4_isKeyword_10 : cX4_isKeyword.data.toList.drop 296 = dktX4_isKeyword_10 := dk_seg dksX4_isKeyword_9 54 rfl rfl
theorem dX4_isKeyword_0 : decode cX4_isKeyword 0 = .ok (.aload_n 0, 1) := dk_42 (dk_at dksX4_isKeyword_0 0 rfl rfl)
theorem dX4_isKeyword_1 : decode cX4_isKeyword 1 = .ok (.getfield 32, 3) := dk_180 0 32 (dk_at dksX4_isKeyword_0 1 rfl rfl)
theorem dX4_isKeyword_4 : decode cX4_isKeyword 4 = .ok (.astore_n 1, 1) := dk_76 (dk_at dksX4_isKeyword_0 4 rfl rfl)
theorem dX4_isKeyword_5 : decode cX4_isKeyword 5 = .ok (.iconst (-1), 1) := dk_2 (dk_at dksX4_isKeyword_0 5 rfl rfl)
theorem dX4_isKeyword_6 : decode cX4_isKeyword 6 = .ok (.istore_n 2, 1) := dk_61 (dk_at dksX4_isKeyword_0 6 rfl rfl)
theorem dX4_isKeyword_7 : decode cX4_isKeyword 7 = .ok (.aload_n 1, 1) := dk_43 (dk_at dksX4_isKeyword_0 7 rfl rfl)
theorem dX4_isKeyword_8 : decode cX4_isKeyword 8 = .ok (.invokevirtual 119, 3) := dk_182 0 119 (dk_at dksX4_isKeyword_0 8 rfl rfl)
theorem dX4_isKeyword_11 : decode cX4_isKeyword 11 = .ok (.lookupswitch 230 #[(3555, 218), (96673, 173), (97739, 103), (109267, 203), (115792, 188), (3530753, 131), (102976443, 89), (108386717, 159), (954925063, 117), (1984987798, 145)], 89) := by decide +kernel
theorem dX4_isKeyword_100 : decode cX4_isKeyword 100 = .ok (.aload_n 1, 1) := dk_43 (dk_at dksX4_isKeyword_2 0 rfl rfl)
theorem dX4_isKeyword_101 : decode cX4_isKeyword 101 = .ok (.ldc 133, 2) := dk_18 133 (dk_at dksX4_isKeyword_2 1 rfl rfl)
theorem dX4_isKeyword_103 : decode cX4_isKeyword 103 = .ok (.invokevirtual 105, 3) := dk_182 0 105 (dk_at dksX4_isKeyword_2 3 rfl rfl)
theorem dX4_isKeyword_106 : decode cX4_isKeyword 106 = .ok (.ifCond .eq 135, 3) := dk_153 0 135 (dk_at dksX4_isKeyword_2 6 rfl rfl)
theorem dX4_isKeyword_109 : decode cX4_isKeyword 109 = .ok (.iconst 0, 1) := dk_3 (dk_at dksX4_isKeyword_2 9 rfl rfl)
theorem dX4_isKeyword_110 : decode cX4_isKeyword 110 = .ok (.istore_n 2, 1) := dk_61 (dk_at dksX4_isKeyword_2 10 rfl rfl)
theorem dX4_isKeyword_111 : decode cX4_isKeyword 111 = .ok (.goto 130, 3) := dk_167 0 130 (dk_at dksX4_isKeyword_2 11 rfl rfl)
theorem dX4_isKeyword_114 : decode cX4_isKeyword 114 = .ok (.aload_n 1, 1) := dk_43 (dk_at dksX4_isKeyword_2 14 rfl rfl)
theorem dX4_isKeyword_115 : decode cX4_isKeyword 115 = .ok (.ldc 135, 2) := dk_18 135 (dk_at dksX4_isKeyword_2 15 rfl rfl)
theorem dX4_isKeyword_117 : decode cX4_isKeyword 117 = .ok (.invokevirtual 105, 3) := dk_182 0 105 (dk_at dksX4_isKeyword_2 17 rfl rfl)
theorem dX4_isKeyword_120 : decode cX4_isKeyword 120 = .ok (.ifCond .eq 121, 3) := dk_153 0 121 (dk_at dksX4_isKeyword_2 20 rfl rfl)
theorem dX4_isKeyword_123 : decode cX4_isKeyword 123 = .ok (.iconst 1, 1) := dk_4 (dk_at dksX4_isKeyword_2 23 rfl rfl)
theorem dX4_isKeyword_124 : decode cX4_isKeyword 124 = .ok (.istore_n 2, 1) := dk_61 (dk_at dksX4_isKeyword_3 0 rfl rfl)
theorem dX4_isKeyword_125 : decode cX4_isKeyword 125 = .ok (.goto 116, 3) := dk_167 0 116 (dk_at dksX4_isKeyword_3 1 rfl rfl)
theorem dX4_isKeyword_128 : decode cX4_isKeyword 128 = .ok (.aload_n 1, 1) := dk_43 (dk_at dksX4_isKeyword_3 4 rfl rfl)
theorem dX4_isKeyword_129 : decode cX4_isKeyword 129 = .ok (.ldc 137, 2) := dk_18 137 (dk_at dksX4_isKeyword_3 5 rfl rfl)
theorem dX4_isKeyword_131 : decode cX4_isKeyword 131 = .ok (.invokevirtual 105, 3) := dk_182 0 105 (dk_at dksX4_isKeyword_3 7 rfl rfl)
theorem dX4_isKeyword_134 : decode cX4_isKeyword 134 = .ok (.ifCond .eq 107, 3) := dk_153 0 107 (dk_at dksX4_isKeyword_3 10 rfl rfl)
theorem dX4_isKeyword_137 : decode cX4_isKeyword 137 = .ok (.iconst 2, 1) := dk_5 (dk_at dksX4_isKeyword_3 13 rfl rfl)
theorem dX4_isKeyword_138 : decode cX4_isKeyword 138 = .ok (.istore_n 2, 1) := dk_61 (dk_at dksX4_isKeyword_3 14 rfl rfl)
theorem dX4_isKeyword_139 : decode cX4_isKeyword 139 = .ok (.goto 102, 3) := dk_167 0 102 (dk_at dksX4_isKeyword_3 15 rfl rfl)
theorem dX4_isKeyword_142 : decode cX4_isKeyword 142 = .ok (.aload_n 1, 1) := dk_43 (dk_at dksX4_isKeyword_3 18 rfl rfl)
theorem dX4_isKeyword_143 : decode cX4_isKeyword 143 = .ok (.ldc 139, 2) := dk_18 139 (dk_at dksX4_isKeyword_3 19 rfl rfl)
theorem dX4_isKeyword_145 : decode cX4_isKeyword 145 = .ok (.invokevirtual 105, 3) := dk_182 0 105 (dk_at dksX4_isKeyword_3 21 rfl rfl)
theorem dX4_isKeyword_148 : decode cX4_isKeyword 148 = .ok (.ifCond .eq 93, 3) := dk_153 0 93 (dk_at dksX4_isKeyword_4 0 rfl rfl)
theorem dX4_isKeyword_151 : decode cX4_isKeyword 151 = .ok (.iconst 3, 1) := dk_6 (dk_at dksX4_isKeyword_4 3 rfl rfl)
theorem dX4_isKeyword_152 : decode cX4_isKeyword 152 = .ok (.istore_n 2, 1) := dk_61 (dk_at dksX4_isKeyword_4 4 rfl rfl)
theorem dX4_isKeyword_153 : decode cX4_isKeyword 153 = .ok (.goto 88, 3) := dk_167 0 88 (dk_at dksX4_isKeyword_4 5 rfl rfl)
theorem dX4_isKeyword_156 : decode cX4_isKeyword 156 = .ok (.aload_n 1, 1) := dk_43 (dk_at dksX4_isKeyword_4 8 rfl rfl)
theorem dX4_isKeyword_157 : decode cX4_isKeyword 157 = .ok (.ldc 141, 2) := dk_18 141 (dk_at dksX4_isKeyword_4 9 rfl rfl)
theorem dX4_isKeyword_159 : decode cX4_isKeyword 159 = .ok (.invokevirtual 105, 3) := dk_182 0 105 (dk_at dksX4_isKeyword_4 11 rfl rfl)
theorem dX4_isKeyword_162 : decode cX4_isKeyword 162 = .ok (.ifCond .eq 79, 3) := dk_153 0 79 (dk_at dksX4_isKeyword_4 14 rfl rfl)
theorem dX4_isKeyword_165 : decode cX4_isKeyword 165 = .ok (.iconst 4, 1) := dk_7 (dk_at dksX4_isKeyword_4 17 rfl rfl)
theorem dX4_isKeyword_166 : decode cX4_isKeyword 166 = .ok (.istore_n 2, 1) := dk_61 (dk_at dksX4_isKeyword_4 18 rfl rfl)
theorem dX4_isKeyword_167 : decode cX4_isKeyword 167 = .ok (.goto 74, 3) := dk_167 0 74 (dk_at dksX4_isKeyword_4 19 rfl rfl)
theorem dX4_isKeyword_170 : decode cX4_isKeyword 170 = .ok (.aload_n 1, 1) := dk_43 (dk_at dksX4_isKeyword_4 22 rfl rfl)
theorem dX4_isKeyword_171 : decode cX4_isKeyword 171 = .ok (.ldc 143, 2) := dk_18 143 (dk_at dksX4_isKeyword_5 0 rfl rfl)
theorem dX4_isKeyword_173 : decode cX4_isKeyword 173 = .ok (.invokevirtual 105, 3) := dk_182 0 105 (dk_at dksX4_isKeyword_5 2 rfl rfl)
theorem dX4_isKeyword_176 : decode cX4_isKeyword 176 = .ok (.ifCond .eq 65, 3) := dk_153 0 65 (dk_at dksX4_isKeyword_5 5 rfl rfl)
theorem dX4_isKeyword_179 : decode cX4_isKeyword 179 = .ok (.iconst 5, 1) := dk_8 (dk_at dksX4_isKeyword_5 8 rfl rfl)
theorem dX4_isKeyword_180 : decode cX4_isKeyword 180 = .ok (.istore_n 2, 1) := dk_61 (dk_at dksX4_isKeyword_5 9 rfl rfl)
theorem dX4_isKeyword_181 : decode cX4_isKeyword 181 = .ok (.goto 60, 3) := dk_167 0 60 (dk_at dksX4_isKeyword_5 10 rfl rfl)
theorem dX4_isKeyword_184 : decode cX4_isKeyword 184 = .ok (.aload_n 1, 1) := dk_43 (dk_at dksX4_isKeyword_5 13 rfl rfl)
theorem dX4_isKeyword_185 : decode cX4_isKeyword 185 = .ok (.ldc 145, 2) := dk_18 145 (dk_at dksX4_isKeyword_5 14 rfl rfl)
theorem dX4_isKeyword_187 : decode cX4_isKeyword 187 = .ok (.invokevirtual 105, 3) := dk_182 0 105 (dk_at dksX4_isKeyword_5 16 rfl rfl)
theorem dX4_isKeyword_190 : decode cX4_isKeyword 190 = .ok (.ifCond .eq 51, 3) := dk_153 0 51 (dk_at dksX4_isKeyword_5 19 rfl rfl)
theorem dX4_isKeyword_193 : decode cX4_isKeyword 193 = .ok (.bipush 6, 2) := dk_16 6 (dk_at dksX4_isKeyword_5 22 rfl rfl)
theorem dX4_isKeyword_195 : decode cX4_isKeyword 195 = .ok (.istore_n 2, 1) := dk_61 (dk_at dksX4_isKeyword_6 0 rfl rfl)
theorem dX4_isKeyword_196 : decode cX4_isKeyword 196 = .ok (.goto 45, 3) := dk_167 0 45 (dk_at dksX4_isKeyword_6 1 rfl rfl)
theorem dX4_isKeyword_199 : decode cX4_isKeyword 199 = .ok (.aload_n 1, 1) := dk_43 (dk_at dksX4_isKeyword_6 4 rfl rfl)
theorem dX4_isKeyword_200 : decode cX4_isKeyword 200 = .ok (.ldc 147, 2) := dk_18 147 (dk_at dksX4_isKeyword_6 5 rfl rfl)
theorem dX4_isKeyword_202 : decode cX4_isKeyword 202 = .ok (.invokevirtual 105, 3) := dk_182 0 105 (dk_at dksX4_isKeyword_6 7 rfl rfl)
theorem dX4_isKeyword_205 : decode cX4_isKeyword 205 = .ok (.ifCond .eq 36, 3) := dk_153 0 36 (dk_at dksX4_isKeyword_6 10 rfl rfl)
theorem dX4_isKeyword_208 : decode cX4_isKeyword 208 = .ok (.bipush 7, 2) := dk_16 7 (dk_at dksX4_isKeyword_6 13 rfl rfl)
theorem dX4_isKeyword_210 : decode cX4_isKeyword 210 = .ok (.istore_n 2, 1) := dk_61 (dk_at dksX4_isKeyword_6 15 rfl rfl)
theorem dX4_isKeyword_211 : decode cX4_isKeyword 211 = .ok (.goto 30, 3) := dk_167 0 30 (dk_at dksX4_isKeyword_6 16 rfl rfl)
theorem dX4_isKeyword_214 : decode cX4_isKeyword 214 = .ok (.aload_n 1, 1) := dk_43 (dk_at dksX4_isKeyword_6 19 rfl rfl)
theorem dX4_isKeyword_215 : decode cX4_isKeyword 215 = .ok (.ldc 149, 2) := dk_18 149 (dk_at dksX4_isKeyword_6 20 rfl rfl)
theorem dX4_isKeyword_217 : decode cX4_isKeyword 217 = .ok (.invokevirtual 105, 3) := dk_182 0 105 (dk_at dksX4_isKeyword_7 0 rfl rfl)
theorem dX4_isKeyword_220 : decode cX4_isKeyword 220 = .ok (.ifCond .eq 21, 3) := dk_153 0 21 (dk_at dksX4_isKeyword_7 3 rfl rfl)
theorem dX4_isKeyword_223 : decode cX4_isKeyword 223 = .ok (.bipush 8, 2) := dk_16 8 (dk_at dksX4_isKeyword_7 6 rfl rfl)
theorem dX4_isKeyword_225 : decode cX4_isKeyword 225 = .ok (.istore_n 2, 1) := dk_61 (dk_at dksX4_isKeyword_7 8 rfl rfl)
theorem dX4_isKeyword_226 : decode cX4_isKeyword 226 = .ok (.goto 15, 3) := dk_167 0 15 (dk_at dksX4_isKeyword_7 9 rfl rfl)
theorem dX4_isKeyword_229 : decode cX4_isKeyword 229 = .ok (.aload_n 1, 1) := dk_43 (dk_at dksX4_isKeyword_7 12 rfl rfl)
theorem dX4_isKeyword_230 : decode cX4_isKeyword 230 = .ok (.ldc 151, 2) := dk_18 151 (dk_at dksX4_isKeyword_7 13 rfl rfl)
theorem dX4_isKeyword_232 : decode cX4_isKeyword 232 = .ok (.invokevirtual 105, 3) := dk_182 0 105 (dk_at dksX4_isKeyword_7 15 rfl rfl)
theorem dX4_isKeyword_235 : decode cX4_isKeyword 235 = .ok (.ifCond .eq 6, 3) := dk_153 0 6 (dk_at dksX4_isKeyword_7 18 rfl rfl)
theorem dX4_isKeyword_238 : decode cX4_isKeyword 238 = .ok (.bipush 9, 2) := dk_16 9 (dk_at dksX4_isKeyword_7 21 rfl rfl)
theorem dX4_isKeyword_240 : decode cX4_isKeyword 240 = .ok (.istore_n 2, 1) := dk_61 (dk_at dksX4_isKeyword_7 23 rfl rfl)
theorem dX4_isKeyword_241 : decode cX4_isKeyword 241 = .ok (.iload_n 2, 1) := dk_28 (dk_at dksX4_isKeyword_8 0 rfl rfl)
theorem dX4_isKeyword_242 : decode cX4_isKeyword 242 = .ok (.tableswitch 58 0 9 #[54, 54, 54, 54, 54, 54, 54, 54, 54, 54], 54) := by decide +kernel
theorem dX4_isKeyword_296 : decode cX4_isKeyword 296 = .ok (.iconst 1, 1) := dk_4 (dk_at dksX4_isKeyword_10 0 rfl rfl)
theorem dX4_isKeyword_297 : decode cX4_isKeyword 297 = .ok (.goto 16, 3) := dk_167 0 16 (dk_at dksX4_isKeyword_10 1 rfl rfl)
theorem dX4_isKeyword_300 : decode cX4_isKeyword 300 = .ok (.aload_n 0, 1) := dk_42 (dk_at dksX4_isKeyword_10 4 rfl rfl)
theorem dX4_isKeyword_301 : decode cX4_isKeyword 301 = .ok (.invokevirtual 153, 3) := dk_182 0 153 (dk_at dksX4_isKeyword_10 5 rfl rfl)
theorem dX4_isKeyword_304 : decode cX4_isKeyword 304 = .ok (.iconst (-1), 1) := dk_2 (dk_at dksX4_isKeyword_10 8 rfl rfl)
theorem dX4_isKeyword_305 : decode cX4_isKeyword 305 = .ok (.if_icmp .eq 7, 3) := dk_159 0 7 (dk_at dksX4_isKeyword_10 9 rfl rfl)
theorem dX4_isKeyword_308 : decode cX4_isKeyword 308 = .ok (.iconst 1, 1) := dk_4 (dk_at dksX4_isKeyword_10 12 rfl rfl)
theorem dX4_isKeyword_309 : decode cX4_isKeyword 309 = .ok (.goto 4, 3) := dk_167 0 4 (dk_at dksX4_isKeyword_10 13 rfl rfl)
theorem dX4_isKeyword_312 : decode cX4_isKeyword 312 = .ok (.iconst 0, 1) := dk_3 (dk_at dksX4_isKeyword_10 16 rfl rfl)
theorem dX4_isKeyword_313 : decode cX4_isKeyword 313 = .ok (.ireturn, 1) := dk_172 (dk_at dksX4_isKeyword_10 17 rfl rfl)
abbrev cX4_flag : ByteArray := prog_7_method_9_code
def yX4_flag : MethodName := ⟨RX4, "flag", "()I"⟩
def dkwX4_flag_6 : List UInt8 := [3, 167, 0, 20, 4, 167, 0, 16, 5, 167, 0, 12, 6, 167, 0, 8, 7, 167, 0, 4, 2, 172]
abbrev dktX4_flag_6 : List UInt8 := dkwX4_flag_6 ++ []
def dkwX4_flag_5 : List UInt8 := [170, 0, 0, 0, 0, 0, 0, 56, 0, 0, 0, 0, 0, 0, 0, 4, 0, 0, 0, 36, 0, 0, 0, 40, 0, 0, 0, 44, 0, 0, 0, 48, 0, 0, 0, 52]
abbrev dktX4_flag_5 : List UInt8 := dkwX4_flag_5 ++ dktX4_flag_6
def dkwX4_flag_4 : List UInt8 := [153, 0, 19, 6, 61, 167, 0, 14, 43, 18, 131, 182, 0, 105, 153, 0, 5, 7, 61, 28]
abbrev dktX4_flag_4 : List UInt8 := dkwX4_flag_4 ++ dktX4_flag_5
def dkwX4_flag_3 : List UInt8 := [61, 167, 0, 42, 43, 18, 127, 182, 0, 105, 153, 0, 33, 5, 61, 167, 0, 28, 43, 18, 129, 182, 0, 105]
abbrev dktX4_flag_3 : List UInt8 := dkwX4_flag_3 ++ dktX4_flag_4
def dkwX4_flag_2 : List UInt8 := [43, 18, 123, 182, 0, 105, 153, 0, 61, 3, 61, 167, 0, 56, 43, 18, 125, 182, 0, 105, 153, 0, 47, 4]
abbrev dktX4_flag_2 : List UInt8 := dkwX4_flag_2 ++ dktX4_flag_3
def dkwX4_flag_1 : List UInt8 := [171, 0, 0, 0, 116, 0, 0, 0, 5, 209, 142, 72, 90, 0, 0, 0, 77, 226, 57, 84, 221, 0, 0, 0, 63, 0, 53, 206, 123, 0, 0, 0, 49, 5, 182, 121, 161, 0, 0, 0, 105, 92, 106, 48, 25, 0, 0, 0, 91]
abbrev dktX4_flag_1 : List UInt8 := dkwX4_flag_1 ++ dktX4_flag_2
def dkwX4_flag_0 : List UInt8 := [42, 180, 0, 32, 76, 2, 61, 43, 182, 0, 119]
abbrev dktX4_flag_0 : List UInt8 := dkwX4_flag_0 ++ dktX4_flag_1
theorem dksX4_flag_0 : cX4_flag.data.toList.drop 0 = dktX4_flag_0 := by decide +kernel
theorem dksX4_flag_1 : cX4_flag.data.toList.drop 11 = dktX4_flag_1 := dk_seg dksX4_flag_0 11 rfl rfl
theorem dksX4_flag_2 : cX4_flag.data.toList.drop 60 = dktX4_flag_2 := dk_seg dksX4_flag_1 49 rfl rfl
theorem dksX4_flag_3 : cX4_flag.data.toList.drop 84 = dktX4_flag_3 := dk_seg dksX4_flag_2 24 rfl rfl
theorem dksX4_flag_4 : cX4_flag.data.toList.drop 108 = dktX4_flag_4 := dk_seg dksX4_flag_3 24 rfl rfl
theorem dksX4_flag_5 : cX4_flag.data.toList.drop 128 = dktX4_flag_5 := dk_seg dksX4_flag_4 20 rfl rfl
theorem dksX4_flag_6 : cX4_flag.data.toList.drop 164 = dktX4_flag_6 := dk_seg dksX4_flag_5 36 rfl rfl
theorem dX4_flag_0 : decode cX4_flag 0 = .ok (.aload_n 0, 1) := dk_42 (dk_at dksX4_flag_0 0 rfl rfl)
theorem dX4_flag_1 : decode cX4_flag 1 = .ok (.getfield 32, 3) := dk_180 0 32 (dk_at dksX4_flag_0 1 rfl rfl)
theorem dX4_flag_4 : decode cX4_flag 4 = .ok (.astore_n 1, 1) := dk_76 (dk_at dksX4_flag_0 4 rfl rfl)
theorem dX4_flag_5 : decode cX4_flag 5 = .ok (.iconst (-1), 1) := dk_2 (dk_at dksX4_flag_0 5 rfl rfl)
theorem dX4_flag_6 : decode cX4_flag 6 = .ok (.istore_n 2, 1) := dk_61 (dk_at dksX4_flag_0 6 rfl rfl)
theorem dX4_flag_7 : decode cX4_flag 7 = .ok (.aload_n 1, 1) := dk_43 (dk_at dksX4_flag_0 7 rfl rfl)
theorem dX4_flag_8 : decode cX4_flag 8 = .ok (.invokevirtual 119, 3) := dk_182 0 119 (dk_at dksX4_flag_0 8 rfl rfl)
theorem dX4_flag_11 : decode cX4_flag 11 = .ok (.lookupswitch 116 #[(-779204518, 77), (-499559203, 63), (3526267, 49), (95844769, 105), (1550463001, 91)], 49) := by decide +kernel
theorem dX4_flag_60 : decode cX4_flag 60 = .ok (.aload_n 1, 1) := dk_43 (dk_at dksX4_flag_2 0 rfl rfl)
theorem dX4_flag_61 : decode cX4_flag 61 = .ok (.ldc 123, 2) := dk_18 123 (dk_at dksX4_flag_2 1 rfl rfl)
theorem dX4_flag_63 : decode cX4_flag 63 = .ok (.invokevirtual 105, 3) := dk_182 0 105 (dk_at dksX4_flag_2 3 rfl rfl)
theorem dX4_flag_66 : decode cX4_flag 66 = .ok (.ifCond .eq 61, 3) := dk_153 0 61 (dk_at dksX4_flag_2 6 rfl rfl)
theorem dX4_flag_69 : decode cX4_flag 69 = .ok (.iconst 0, 1) := dk_3 (dk_at dksX4_flag_2 9 rfl rfl)
theorem dX4_flag_70 : decode cX4_flag 70 = .ok (.istore_n 2, 1) := dk_61 (dk_at dksX4_flag_2 10 rfl rfl)
theorem dX4_flag_71 : decode cX4_flag 71 = .ok (.goto 56, 3) := dk_167 0 56 (dk_at dksX4_flag_2 11 rfl rfl)
theorem dX4_flag_74 : decode cX4_flag 74 = .ok (.aload_n 1, 1) := dk_43 (dk_at dksX4_flag_2 14 rfl rfl)
theorem dX4_flag_75 : decode cX4_flag 75 = .ok (.ldc 125, 2) := dk_18 125 (dk_at dksX4_flag_2 15 rfl rfl)
theorem dX4_flag_77 : decode cX4_flag 77 = .ok (.invokevirtual 105, 3) := dk_182 0 105 (dk_at dksX4_flag_2 17 rfl rfl)
theorem dX4_flag_80 : decode cX4_flag 80 = .ok (.ifCond .eq 47, 3) := dk_153 0 47 (dk_at dksX4_flag_2 20 rfl rfl)
theorem dX4_flag_83 : decode cX4_flag 83 = .ok (.iconst 1, 1) := dk_4 (dk_at dksX4_flag_2 23 rfl rfl)
theorem dX4_flag_84 : decode cX4_flag 84 = .ok (.istore_n 2, 1) := dk_61 (dk_at dksX4_flag_3 0 rfl rfl)
theorem dX4_flag_85 : decode cX4_flag 85 = .ok (.goto 42, 3) := dk_167 0 42 (dk_at dksX4_flag_3 1 rfl rfl)
theorem dX4_flag_88 : decode cX4_flag 88 = .ok (.aload_n 1, 1) := dk_43 (dk_at dksX4_flag_3 4 rfl rfl)
theorem dX4_flag_89 : decode cX4_flag 89 = .ok (.ldc 127, 2) := dk_18 127 (dk_at dksX4_flag_3 5 rfl rfl)
theorem dX4_flag_91 : decode cX4_flag 91 = .ok (.invokevirtual 105, 3) := dk_182 0 105 (dk_at dksX4_flag_3 7 rfl rfl)
theorem dX4_flag_94 : decode cX4_flag 94 = .ok (.ifCond .eq 33, 3) := dk_153 0 33 (dk_at dksX4_flag_3 10 rfl rfl)
theorem dX4_flag_97 : decode cX4_flag 97 = .ok (.iconst 2, 1) := dk_5 (dk_at dksX4_flag_3 13 rfl rfl)
theorem dX4_flag_98 : decode cX4_flag 98 = .ok (.istore_n 2, 1) := dk_61 (dk_at dksX4_flag_3 14 rfl rfl)
theorem dX4_flag_99 : decode cX4_flag 99 = .ok (.goto 28, 3) := dk_167 0 28 (dk_at dksX4_flag_3 15 rfl rfl)
theorem dX4_flag_102 : decode cX4_flag 102 = .ok (.aload_n 1, 1) := dk_43 (dk_at dksX4_flag_3 18 rfl rfl)
theorem dX4_flag_103 : decode cX4_flag 103 = .ok (.ldc 129, 2) := dk_18 129 (dk_at dksX4_flag_3 19 rfl rfl)
theorem dX4_flag_105 : decode cX4_flag 105 = .ok (.invokevirtual 105, 3) := dk_182 0 105 (dk_at dksX4_flag_3 21 rfl rfl)
theorem dX4_flag_108 : decode cX4_flag 108 = .ok (.ifCond .eq 19, 3) := dk_153 0 19 (dk_at dksX4_flag_4 0 rfl rfl)
theorem dX4_flag_111 : decode cX4_flag 111 = .ok (.iconst 3, 1) := dk_6 (dk_at dksX4_flag_4 3 rfl rfl)
theorem dX4_flag_112 : decode cX4_flag 112 = .ok (.istore_n 2, 1) := dk_61 (dk_at dksX4_flag_4 4 rfl rfl)
theorem dX4_flag_113 : decode cX4_flag 113 = .ok (.goto 14, 3) := dk_167 0 14 (dk_at dksX4_flag_4 5 rfl rfl)
theorem dX4_flag_116 : decode cX4_flag 116 = .ok (.aload_n 1, 1) := dk_43 (dk_at dksX4_flag_4 8 rfl rfl)
theorem dX4_flag_117 : decode cX4_flag 117 = .ok (.ldc 131, 2) := dk_18 131 (dk_at dksX4_flag_4 9 rfl rfl)
theorem dX4_flag_119 : decode cX4_flag 119 = .ok (.invokevirtual 105, 3) := dk_182 0 105 (dk_at dksX4_flag_4 11 rfl rfl)
theorem dX4_flag_122 : decode cX4_flag 122 = .ok (.ifCond .eq 5, 3) := dk_153 0 5 (dk_at dksX4_flag_4 14 rfl rfl)
theorem dX4_flag_125 : decode cX4_flag 125 = .ok (.iconst 4, 1) := dk_7 (dk_at dksX4_flag_4 17 rfl rfl)
theorem dX4_flag_126 : decode cX4_flag 126 = .ok (.istore_n 2, 1) := dk_61 (dk_at dksX4_flag_4 18 rfl rfl)
theorem dX4_flag_127 : decode cX4_flag 127 = .ok (.iload_n 2, 1) := dk_28 (dk_at dksX4_flag_4 19 rfl rfl)
theorem dX4_flag_128 : decode cX4_flag 128 = .ok (.tableswitch 56 0 4 #[36, 40, 44, 48, 52], 36) := by decide +kernel
theorem dX4_flag_164 : decode cX4_flag 164 = .ok (.iconst 0, 1) := dk_3 (dk_at dksX4_flag_6 0 rfl rfl)
theorem dX4_flag_165 : decode cX4_flag 165 = .ok (.goto 20, 3) := dk_167 0 20 (dk_at dksX4_flag_6 1 rfl rfl)
theorem dX4_flag_168 : decode cX4_flag 168 = .ok (.iconst 1, 1) := dk_4 (dk_at dksX4_flag_6 4 rfl rfl)
theorem dX4_flag_169 : decode cX4_flag 169 = .ok (.goto 16, 3) := dk_167 0 16 (dk_at dksX4_flag_6 5 rfl rfl)
theorem dX4_flag_172 : decode cX4_flag 172 = .ok (.iconst 2, 1) := dk_5 (dk_at dksX4_flag_6 8 rfl rfl)
theorem dX4_flag_173 : decode cX4_flag 173 = .ok (.goto 12, 3) := dk_167 0 12 (dk_at dksX4_flag_6 9 rfl rfl)
theorem dX4_flag_176 : decode cX4_flag 176 = .ok (.iconst 3, 1) := dk_6 (dk_at dksX4_flag_6 12 rfl rfl)
theorem dX4_flag_177 : decode cX4_flag 177 = .ok (.goto 8, 3) := dk_167 0 8 (dk_at dksX4_flag_6 13 rfl rfl)
theorem dX4_flag_180 : decode cX4_flag 180 = .ok (.iconst 4, 1) := dk_7 (dk_at dksX4_flag_6 16 rfl rfl)
theorem dX4_flag_181 : decode cX4_flag 181 = .ok (.goto 4, 3) := dk_167 0 4 (dk_at dksX4_flag_6 17 rfl rfl)
theorem dX4_flag_184 : decode cX4_flag 184 = .ok (.iconst (-1), 1) := dk_2 (dk_at dksX4_flag_6 20 rfl rfl)
theorem dX4_flag_185 : decode cX4_flag 185 = .ok (.ireturn, 1) := dk_172 (dk_at dksX4_flag_6 21 rfl rfl)
abbrev cX4_parseMessage : ByteArray := prog_7_method_15_code
def yX4_parseMessage : MethodName := ⟨RX4, "parseMessage", "()V"⟩
def dkwX4_parseMessage_5 : List UInt8 := [192, 0, 190, 28, 29, 182, 0, 215, 54, 4, 177]
abbrev dktX4_parseMessage_5 : List UInt8 := dkwX4_parseMessage_5 ++ []
def dkwX4_parseMessage_4 : List UInt8 := [182, 0, 36, 42, 182, 0, 153, 54, 4, 167, 255, 214, 42, 180, 0, 18, 180, 0, 175, 27, 182, 0, 211]
abbrev dktX4_parseMessage_4 : List UInt8 := dkwX4_parseMessage_4 ++ dktX4_parseMessage_5
def dkwX4_parseMessage_3 : List UInt8 := [184, 0, 208, 154, 0, 7, 4, 167, 0, 4, 3, 6, 182, 0, 115, 29, 4, 21, 4, 120, 128, 62, 42]
abbrev dktX4_parseMessage_3 : List UInt8 := dkwX4_parseMessage_3 ++ dktX4_parseMessage_4
def dkwX4_parseMessage_2 : List UInt8 := [182, 0, 170, 61, 3, 62, 42, 182, 0, 153, 54, 4, 21, 4, 2, 159, 0, 42, 42, 29, 21, 4]
abbrev dktX4_parseMessage_2 : List UInt8 := dkwX4_parseMessage_2 ++ dktX4_parseMessage_3
def dkwX4_parseMessage_1 : List UInt8 := [167, 0, 4, 3, 7, 182, 0, 115, 42, 182, 0, 36, 42, 18, 139, 182, 0, 205, 42, 4, 17, 39, 15]
abbrev dktX4_parseMessage_1 : List UInt8 := dkwX4_parseMessage_1 ++ dktX4_parseMessage_2
def dkwX4_parseMessage_0 : List UInt8 := [42, 182, 0, 36, 42, 182, 0, 198, 60, 42, 42, 180, 0, 18, 27, 182, 0, 201, 154, 0, 7, 4]
abbrev dktX4_parseMessage_0 : List UInt8 := dkwX4_parseMessage_0 ++ dktX4_parseMessage_1
theorem dksX4_parseMessage_0 : cX4_parseMessage.data.toList.drop 0 = dktX4_parseMessage_0 := by decide +kernel
theorem dksX4_parseMessage_1 : cX4_parseMessage.data.toList.drop 22 = dktX4_parseMessage_1 := dk_seg dksX4_parseMessage_0 22 rfl rfl
theorem dksX4_parseMessage_2 : cX4_parseMessage.data.toList.drop 45 = dktX4_parseMessage_2 := dk_seg dksX4_parseMessage_1 23 rfl rfl
theorem dksX4_parseMessage_3 : cX4_parseMessage.data.toList.drop 67 = dktX4_parseMessage_3 := dk_seg dksX4_parseMessage_2 22 rfl rfl
theorem dksX4_parseMessage_4 : cX4_parseMessage.data.toList.drop 90 = dktX4_parseMessage_4 := dk_seg dksX4_parseMessage_3 23 rfl rfl
theorem dksX4_parseMessage_5 : cX4_parseMessage.data.toList.drop 113 = dktX4_parseMessage_5 := dk_seg dksX4_parseMessage_4 23 rfl rfl
theorem dX4_parseMessage_0 : decode cX4_parseMessage 0 = .ok (.aload_n 0, 1) := dk_42 (dk_at dksX4_parseMessage_0 0 rfl rfl)
theorem dX4_parseMessage_1 : decode cX4_parseMessage 1 = .ok (.invokevirtual 36, 3) := dk_182 0 36 (dk_at dksX4_parseMessage_0 1 rfl rfl)
theorem dX4_parseMessage_4 : decode cX4_parseMessage 4 = .ok (.aload_n 0, 1) := dk_42 (dk_at dksX4_parseMessage_0 4 rfl rfl)
theorem dX4_parseMessage_5 : decode cX4_parseMessage 5 = .ok (.invokevirtual 198, 3) := dk_182 0 198 (dk_at dksX4_parseMessage_0 5 rfl rfl)
theorem dX4_parseMessage_8 : decode cX4_parseMessage 8 = .ok (.istore_n 1, 1) := dk_60 (dk_at dksX4_parseMessage_0 8 rfl rfl)
theorem dX4_parseMessage_9 : decode cX4_parseMessage 9 = .ok (.aload_n 0, 1) := dk_42 (dk_at dksX4_parseMessage_0 9 rfl rfl)
theorem dX4_parseMessage_10 : decode cX4_parseMessage 10 = .ok (.aload_n 0, 1) := dk_42 (dk_at dksX4_parseMessage_0 10 rfl rfl)
theorem dX4_parseMessage_11 : decode cX4_parseMessage 11 = .ok (.getfield 18, 3) := dk_180 0 18 (dk_at dksX4_parseMessage_0 11 rfl rfl)
theorem dX4_parseMessage_14 : decode cX4_parseMessage 14 = .ok (.iload_n 1, 1) := dk_27 (dk_at dksX4_parseMessage_0 14 rfl rfl)
theorem dX4_parseMessage_15 : decode cX4_parseMessage 15 = .ok (.invokevirtual 201, 3) := dk_182 0 201 (dk_at dksX4_parseMessage_0 15 rfl rfl)
theorem dX4_parseMessage_18 : decode cX4_parseMessage 18 = .ok (.ifCond .ne 7, 3) := dk_154 0 7 (dk_at dksX4_parseMessage_0 18 rfl rfl)
theorem dX4_parseMessage_21 : decode cX4_parseMessage 21 = .ok (.iconst 1, 1) := dk_4 (dk_at dksX4_parseMessage_0 21 rfl rfl)
theorem dX4_parseMessage_22 : decode cX4_parseMessage 22 = .ok (.goto 4, 3) := dk_167 0 4 (dk_at dksX4_parseMessage_1 0 rfl rfl)
theorem dX4_parseMessage_25 : decode cX4_parseMessage 25 = .ok (.iconst 0, 1) := dk_3 (dk_at dksX4_parseMessage_1 3 rfl rfl)
theorem dX4_parseMessage_26 : decode cX4_parseMessage 26 = .ok (.iconst 4, 1) := dk_7 (dk_at dksX4_parseMessage_1 4 rfl rfl)
theorem dX4_parseMessage_27 : decode cX4_parseMessage 27 = .ok (.invokevirtual 115, 3) := dk_182 0 115 (dk_at dksX4_parseMessage_1 5 rfl rfl)
theorem dX4_parseMessage_30 : decode cX4_parseMessage 30 = .ok (.aload_n 0, 1) := dk_42 (dk_at dksX4_parseMessage_1 8 rfl rfl)
theorem dX4_parseMessage_31 : decode cX4_parseMessage 31 = .ok (.invokevirtual 36, 3) := dk_182 0 36 (dk_at dksX4_parseMessage_1 9 rfl rfl)
theorem dX4_parseMessage_34 : decode cX4_parseMessage 34 = .ok (.aload_n 0, 1) := dk_42 (dk_at dksX4_parseMessage_1 12 rfl rfl)
theorem dX4_parseMessage_35 : decode cX4_parseMessage 35 = .ok (.ldc 139, 2) := dk_18 139 (dk_at dksX4_parseMessage_1 13 rfl rfl)
theorem dX4_parseMessage_37 : decode cX4_parseMessage 37 = .ok (.invokevirtual 205, 3) := dk_182 0 205 (dk_at dksX4_parseMessage_1 15 rfl rfl)
theorem dX4_parseMessage_40 : decode cX4_parseMessage 40 = .ok (.aload_n 0, 1) := dk_42 (dk_at dksX4_parseMessage_1 18 rfl rfl)
theorem dX4_parseMessage_41 : decode cX4_parseMessage 41 = .ok (.iconst 1, 1) := dk_4 (dk_at dksX4_parseMessage_1 19 rfl rfl)
theorem dX4_parseMessage_42 : decode cX4_parseMessage 42 = .ok (.sipush 9999, 3) := dk_17 39 15 (dk_at dksX4_parseMessage_1 20 rfl rfl)
theorem dX4_parseMessage_45 : decode cX4_parseMessage 45 = .ok (.invokevirtual 170, 3) := dk_182 0 170 (dk_at dksX4_parseMessage_2 0 rfl rfl)
theorem dX4_parseMessage_48 : decode cX4_parseMessage 48 = .ok (.istore_n 2, 1) := dk_61 (dk_at dksX4_parseMessage_2 3 rfl rfl)
theorem dX4_parseMessage_49 : decode cX4_parseMessage 49 = .ok (.iconst 0, 1) := dk_3 (dk_at dksX4_parseMessage_2 4 rfl rfl)
theorem dX4_parseMessage_50 : decode cX4_parseMessage 50 = .ok (.istore_n 3, 1) := dk_62 (dk_at dksX4_parseMessage_2 5 rfl rfl)
theorem dX4_parseMessage_51 : decode cX4_parseMessage 51 = .ok (.aload_n 0, 1) := dk_42 (dk_at dksX4_parseMessage_2 6 rfl rfl)
theorem dX4_parseMessage_52 : decode cX4_parseMessage 52 = .ok (.invokevirtual 153, 3) := dk_182 0 153 (dk_at dksX4_parseMessage_2 7 rfl rfl)
theorem dX4_parseMessage_55 : decode cX4_parseMessage 55 = .ok (.istore 4, 2) := dk_54 4 (dk_at dksX4_parseMessage_2 10 rfl rfl)
theorem dX4_parseMessage_57 : decode cX4_parseMessage 57 = .ok (.iload 4, 2) := dk_21 4 (dk_at dksX4_parseMessage_2 12 rfl rfl)
theorem dX4_parseMessage_59 : decode cX4_parseMessage 59 = .ok (.iconst (-1), 1) := dk_2 (dk_at dksX4_parseMessage_2 14 rfl rfl)
theorem dX4_parseMessage_60 : decode cX4_parseMessage 60 = .ok (.if_icmp .eq 42, 3) := dk_159 0 42 (dk_at dksX4_parseMessage_2 15 rfl rfl)
theorem dX4_parseMessage_63 : decode cX4_parseMessage 63 = .ok (.aload_n 0, 1) := dk_42 (dk_at dksX4_parseMessage_2 18 rfl rfl)
theorem dX4_parseMessage_64 : decode cX4_parseMessage 64 = .ok (.iload_n 3, 1) := dk_29 (dk_at dksX4_parseMessage_2 19 rfl rfl)
theorem dX4_parseMessage_65 : decode cX4_parseMessage 65 = .ok (.iload 4, 2) := dk_21 4 (dk_at dksX4_parseMessage_2 20 rfl rfl)
theorem dX4_parseMessage_67 : decode cX4_parseMessage 67 = .ok (.invokestatic 208, 3) := dk_184 0 208 (dk_at dksX4_parseMessage_3 0 rfl rfl)
theorem dX4_parseMessage_70 : decode cX4_parseMessage 70 = .ok (.ifCond .ne 7, 3) := dk_154 0 7 (dk_at dksX4_parseMessage_3 3 rfl rfl)
theorem dX4_parseMessage_73 : decode cX4_parseMessage 73 = .ok (.iconst 1, 1) := dk_4 (dk_at dksX4_parseMessage_3 6 rfl rfl)
theorem dX4_parseMessage_74 : decode cX4_parseMessage 74 = .ok (.goto 4, 3) := dk_167 0 4 (dk_at dksX4_parseMessage_3 7 rfl rfl)
theorem dX4_parseMessage_77 : decode cX4_parseMessage 77 = .ok (.iconst 0, 1) := dk_3 (dk_at dksX4_parseMessage_3 10 rfl rfl)
theorem dX4_parseMessage_78 : decode cX4_parseMessage 78 = .ok (.iconst 3, 1) := dk_6 (dk_at dksX4_parseMessage_3 11 rfl rfl)
theorem dX4_parseMessage_79 : decode cX4_parseMessage 79 = .ok (.invokevirtual 115, 3) := dk_182 0 115 (dk_at dksX4_parseMessage_3 12 rfl rfl)
theorem dX4_parseMessage_82 : decode cX4_parseMessage 82 = .ok (.iload_n 3, 1) := dk_29 (dk_at dksX4_parseMessage_3 15 rfl rfl)
theorem dX4_parseMessage_83 : decode cX4_parseMessage 83 = .ok (.iconst 1, 1) := dk_4 (dk_at dksX4_parseMessage_3 16 rfl rfl)
theorem dX4_parseMessage_84 : decode cX4_parseMessage 84 = .ok (.iload 4, 2) := dk_21 4 (dk_at dksX4_parseMessage_3 17 rfl rfl)
theorem dX4_parseMessage_86 : decode cX4_parseMessage 86 = .ok (.ishl, 1) := dk_120 (dk_at dksX4_parseMessage_3 19 rfl rfl)
theorem dX4_parseMessage_87 : decode cX4_parseMessage 87 = .ok (.ior, 1) := dk_128 (dk_at dksX4_parseMessage_3 20 rfl rfl)
theorem dX4_parseMessage_88 : decode cX4_parseMessage 88 = .ok (.istore_n 3, 1) := dk_62 (dk_at dksX4_parseMessage_3 21 rfl rfl)
theorem dX4_parseMessage_89 : decode cX4_parseMessage 89 = .ok (.aload_n 0, 1) := dk_42 (dk_at dksX4_parseMessage_3 22 rfl rfl)
theorem dX4_parseMessage_90 : decode cX4_parseMessage 90 = .ok (.invokevirtual 36, 3) := dk_182 0 36 (dk_at dksX4_parseMessage_4 0 rfl rfl)
theorem dX4_parseMessage_93 : decode cX4_parseMessage 93 = .ok (.aload_n 0, 1) := dk_42 (dk_at dksX4_parseMessage_4 3 rfl rfl)
theorem dX4_parseMessage_94 : decode cX4_parseMessage 94 = .ok (.invokevirtual 153, 3) := dk_182 0 153 (dk_at dksX4_parseMessage_4 4 rfl rfl)
theorem dX4_parseMessage_97 : decode cX4_parseMessage 97 = .ok (.istore 4, 2) := dk_54 4 (dk_at dksX4_parseMessage_4 7 rfl rfl)
theorem dX4_parseMessage_99 : decode cX4_parseMessage 99 = .ok (.goto (-42), 3) := dk_167 255 214 (dk_at dksX4_parseMessage_4 9 rfl rfl)
theorem dX4_parseMessage_102 : decode cX4_parseMessage 102 = .ok (.aload_n 0, 1) := dk_42 (dk_at dksX4_parseMessage_4 12 rfl rfl)
theorem dX4_parseMessage_103 : decode cX4_parseMessage 103 = .ok (.getfield 18, 3) := dk_180 0 18 (dk_at dksX4_parseMessage_4 13 rfl rfl)
theorem dX4_parseMessage_106 : decode cX4_parseMessage 106 = .ok (.getfield 175, 3) := dk_180 0 175 (dk_at dksX4_parseMessage_4 16 rfl rfl)
theorem dX4_parseMessage_109 : decode cX4_parseMessage 109 = .ok (.iload_n 1, 1) := dk_27 (dk_at dksX4_parseMessage_4 19 rfl rfl)
theorem dX4_parseMessage_110 : decode cX4_parseMessage 110 = .ok (.invokevirtual 211, 3) := dk_182 0 211 (dk_at dksX4_parseMessage_4 20 rfl rfl)
theorem dX4_parseMessage_113 : decode cX4_parseMessage 113 = .ok (.checkcast 190, 3) := dk_192 0 190 (dk_at dksX4_parseMessage_5 0 rfl rfl)
theorem dX4_parseMessage_116 : decode cX4_parseMessage 116 = .ok (.iload_n 2, 1) := dk_28 (dk_at dksX4_parseMessage_5 3 rfl rfl)
theorem dX4_parseMessage_117 : decode cX4_parseMessage 117 = .ok (.iload_n 3, 1) := dk_29 (dk_at dksX4_parseMessage_5 4 rfl rfl)
theorem dX4_parseMessage_118 : decode cX4_parseMessage 118 = .ok (.invokevirtual 215, 3) := dk_182 0 215 (dk_at dksX4_parseMessage_5 5 rfl rfl)
theorem dX4_parseMessage_121 : decode cX4_parseMessage 121 = .ok (.istore 4, 2) := dk_54 4 (dk_at dksX4_parseMessage_5 8 rfl rfl)
theorem dX4_parseMessage_123 : decode cX4_parseMessage 123 = .ok (.return_, 1) := dk_177 (dk_at dksX4_parseMessage_5 10 rfl rfl)
abbrev cX4_boxHere : ByteArray := prog_7_method_14_code
def yX4_boxHere : MethodName := ⟨RX4, "boxHere", "()I"⟩
def dkwX4_boxHere_1 : List UInt8 := [167, 0, 4, 3, 6, 182, 0, 115, 27, 172]
abbrev dktX4_boxHere_1 : List UInt8 := dkwX4_boxHere_1 ++ []
def dkwX4_boxHere_0 : List UInt8 := [42, 182, 0, 183, 42, 180, 0, 18, 42, 180, 0, 32, 182, 0, 186, 60, 42, 27, 2, 159, 0, 7, 4]
abbrev dktX4_boxHere_0 : List UInt8 := dkwX4_boxHere_0 ++ dktX4_boxHere_1
theorem dksX4_boxHere_0 : cX4_boxHere.data.toList.drop 0 = dktX4_boxHere_0 := by decide +kernel
theorem dksX4_boxHere_1 : cX4_boxHere.data.toList.drop 23 = dktX4_boxHere_1 := dk_seg dksX4_boxHere_0 23 rfl rfl
theorem dX4_boxHere_0 : decode cX4_boxHere 0 = .ok (.aload_n 0, 1) := dk_42 (dk_at dksX4_boxHere_0 0 rfl rfl)
theorem dX4_boxHere_1 : decode cX4_boxHere 1 = .ok (.invokevirtual 183, 3) := dk_182 0 183 (dk_at dksX4_boxHere_0 1 rfl rfl)
theorem dX4_boxHere_4 : decode cX4_boxHere 4 = .ok (.aload_n 0, 1) := dk_42 (dk_at dksX4_boxHere_0 4 rfl rfl)
theorem dX4_boxHere_5 : decode cX4_boxHere 5 = .ok (.getfield 18, 3) := dk_180 0 18 (dk_at dksX4_boxHere_0 5 rfl rfl)
theorem dX4_boxHere_8 : decode cX4_boxHere 8 = .ok (.aload_n 0, 1) := dk_42 (dk_at dksX4_boxHere_0 8 rfl rfl)
theorem dX4_boxHere_9 : decode cX4_boxHere 9 = .ok (.getfield 32, 3) := dk_180 0 32 (dk_at dksX4_boxHere_0 9 rfl rfl)
theorem dX4_boxHere_12 : decode cX4_boxHere 12 = .ok (.invokevirtual 186, 3) := dk_182 0 186 (dk_at dksX4_boxHere_0 12 rfl rfl)
theorem dX4_boxHere_15 : decode cX4_boxHere 15 = .ok (.istore_n 1, 1) := dk_60 (dk_at dksX4_boxHere_0 15 rfl rfl)
theorem dX4_boxHere_16 : decode cX4_boxHere 16 = .ok (.aload_n 0, 1) := dk_42 (dk_at dksX4_boxHere_0 16 rfl rfl)
theorem dX4_boxHere_17 : decode cX4_boxHere 17 = .ok (.iload_n 1, 1) := dk_27 (dk_at dksX4_boxHere_0 17 rfl rfl)
theorem dX4_boxHere_18 : decode cX4_boxHere 18 = .ok (.iconst (-1), 1) := dk_2 (dk_at dksX4_boxHere_0 18 rfl rfl)
theorem dX4_boxHere_19 : decode cX4_boxHere 19 = .ok (.if_icmp .eq 7, 3) := dk_159 0 7 (dk_at dksX4_boxHere_0 19 rfl rfl)
theorem dX4_boxHere_22 : decode cX4_boxHere 22 = .ok (.iconst 1, 1) := dk_4 (dk_at dksX4_boxHere_0 22 rfl rfl)
theorem dX4_boxHere_23 : decode cX4_boxHere 23 = .ok (.goto 4, 3) := dk_167 0 4 (dk_at dksX4_boxHere_1 0 rfl rfl)
theorem dX4_boxHere_26 : decode cX4_boxHere 26 = .ok (.iconst 0, 1) := dk_3 (dk_at dksX4_boxHere_1 3 rfl rfl)
theorem dX4_boxHere_27 : decode cX4_boxHere 27 = .ok (.iconst 3, 1) := dk_6 (dk_at dksX4_boxHere_1 4 rfl rfl)
theorem dX4_boxHere_28 : decode cX4_boxHere 28 = .ok (.invokevirtual 115, 3) := dk_182 0 115 (dk_at dksX4_boxHere_1 5 rfl rfl)
theorem dX4_boxHere_31 : decode cX4_boxHere 31 = .ok (.iload_n 1, 1) := dk_27 (dk_at dksX4_boxHere_1 8 rfl rfl)
theorem dX4_boxHere_32 : decode cX4_boxHere 32 = .ok (.ireturn, 1) := dk_172 (dk_at dksX4_boxHere_1 9 rfl rfl)
abbrev cX4_expect : ByteArray := prog_7_method_7_code
def yX4_expect : MethodName := ⟨RX4, "expect", "(Ljava/lang/String;)V"⟩
def dkwX4_expect_0 : List UInt8 := [42, 42, 43, 182, 0, 111, 4, 182, 0, 115, 42, 182, 0, 36, 177]
abbrev dktX4_expect_0 : List UInt8 := dkwX4_expect_0 ++ []
theorem dksX4_expect_0 : cX4_expect.data.toList.drop 0 = dktX4_expect_0 := by decide +kernel
theorem dX4_expect_0 : decode cX4_expect 0 = .ok (.aload_n 0, 1) := dk_42 (dk_at dksX4_expect_0 0 rfl rfl)
theorem dX4_expect_1 : decode cX4_expect 1 = .ok (.aload_n 0, 1) := dk_42 (dk_at dksX4_expect_0 1 rfl rfl)
theorem dX4_expect_2 : decode cX4_expect 2 = .ok (.aload_n 1, 1) := dk_43 (dk_at dksX4_expect_0 2 rfl rfl)
theorem dX4_expect_3 : decode cX4_expect 3 = .ok (.invokevirtual 111, 3) := dk_182 0 111 (dk_at dksX4_expect_0 3 rfl rfl)
theorem dX4_expect_6 : decode cX4_expect 6 = .ok (.iconst 1, 1) := dk_4 (dk_at dksX4_expect_0 6 rfl rfl)
theorem dX4_expect_7 : decode cX4_expect 7 = .ok (.invokevirtual 115, 3) := dk_182 0 115 (dk_at dksX4_expect_0 7 rfl rfl)
theorem dX4_expect_10 : decode cX4_expect 10 = .ok (.aload_n 0, 1) := dk_42 (dk_at dksX4_expect_0 10 rfl rfl)
theorem dX4_expect_11 : decode cX4_expect 11 = .ok (.invokevirtual 36, 3) := dk_182 0 36 (dk_at dksX4_expect_0 11 rfl rfl)
theorem dX4_expect_14 : decode cX4_expect 14 = .ok (.return_, 1) := dk_177 (dk_at dksX4_expect_0 14 rfl rfl)
abbrev cX4_isWord : ByteArray := prog_7_method_6_code
def yX4_isWord : MethodName := ⟨RX4, "isWord", "(Ljava/lang/String;)Z"⟩
def dkwX4_isWord_0 : List UInt8 := [42, 180, 0, 32, 43, 182, 0, 105, 172]
abbrev dktX4_isWord_0 : List UInt8 := dkwX4_isWord_0 ++ []
theorem dksX4_isWord_0 : cX4_isWord.data.toList.drop 0 = dktX4_isWord_0 := by decide +kernel
theorem dX4_isWord_0 : decode cX4_isWord 0 = .ok (.aload_n 0, 1) := dk_42 (dk_at dksX4_isWord_0 0 rfl rfl)
theorem dX4_isWord_1 : decode cX4_isWord 1 = .ok (.getfield 32, 3) := dk_180 0 32 (dk_at dksX4_isWord_0 1 rfl rfl)
theorem dX4_isWord_4 : decode cX4_isWord 4 = .ok (.aload_n 1, 1) := dk_43 (dk_at dksX4_isWord_0 4 rfl rfl)
theorem dX4_isWord_5 : decode cX4_isWord 5 = .ok (.invokevirtual 105, 3) := dk_182 0 105 (dk_at dksX4_isWord_0 5 rfl rfl)
theorem dX4_isWord_8 : decode cX4_isWord 8 = .ok (.ireturn, 1) := dk_172 (dk_at dksX4_isWord_0 8 rfl rfl)
abbrev cX4_parseSession : ByteArray := prog_7_method_16_code
def yX4_parseSession : MethodName := ⟨RX4, "parseSession", "()V"⟩
def dkwX4_parseSession_5 : List UInt8 := [51, 153, 0, 7, 42, 182, 0, 36, 42, 180, 0, 22, 27, 42, 182, 0, 198, 79, 42, 182, 0, 36, 177]
abbrev dktX4_parseSession_5 : List UInt8 := dkwX4_parseSession_5 ++ []
def dkwX4_parseSession_4 : List UInt8 := [182, 0, 226, 153, 0, 4, 177, 42, 180, 0, 26, 27, 42, 18, 143, 182, 0, 111, 84, 42, 180, 0, 26, 27]
abbrev dktX4_parseSession_4 : List UInt8 := dkwX4_parseSession_4 ++ dktX4_parseSession_5
def dkwX4_parseSession_3 : List UInt8 := [180, 0, 32, 183, 0, 225, 182, 0, 195, 87, 42, 182, 0, 36, 42, 180, 0, 22, 27, 2, 79, 42, 16, 59]
abbrev dktX4_parseSession_3 : List UInt8 := dkwX4_parseSession_3 ++ dktX4_parseSession_4
def dkwX4_parseSession_2 : List UInt8 := [160, 0, 7, 4, 167, 0, 4, 3, 6, 182, 0, 115, 42, 180, 0, 18, 180, 0, 217, 187, 0, 223, 89, 42]
abbrev dktX4_parseSession_2 : List UInt8 := dkwX4_parseSession_2 ++ dktX4_parseSession_3
def dkwX4_parseSession_1 : List UInt8 := [182, 0, 115, 42, 182, 0, 36, 42, 182, 0, 183, 42, 42, 180, 0, 18, 42, 180, 0, 32, 182, 0, 220, 2]
abbrev dktX4_parseSession_1 : List UInt8 := dkwX4_parseSession_1 ++ dktX4_parseSession_2
def dkwX4_parseSession_0 : List UInt8 := [42, 180, 0, 18, 180, 0, 217, 182, 0, 179, 60, 42, 27, 7, 162, 0, 7, 4, 167, 0, 4, 3, 7]
abbrev dktX4_parseSession_0 : List UInt8 := dkwX4_parseSession_0 ++ dktX4_parseSession_1
theorem dksX4_parseSession_0 : cX4_parseSession.data.toList.drop 0 = dktX4_parseSession_0 := by decide +kernel
theorem dksX4_parseSession_1 : cX4_parseSession.data.toList.drop 23 = dktX4_parseSession_1 := dk_seg dksX4_parseSession_0 23 rfl rfl
theorem dksX4_parseSession_2 : cX4_parseSession.data.toList.drop 47 = dktX4_parseSession_2 := dk_seg dksX4_parseSession_1 24 rfl rfl
theorem dksX4_parseSession_3 : cX4_parseSession.data.toList.drop 71 = dktX4_parseSession_3 := dk_seg dksX4_parseSession_2 24 rfl rfl
theorem dksX4_parseSession_4 : cX4_parseSession.data.toList.drop 95 = dktX4_parseSession_4 := dk_seg dksX4_parseSession_3 24 rfl rfl
theorem dksX4_parseSession_5 : cX4_parseSession.data.toList.drop 119 = dktX4_parseSession_5 := dk_seg dksX4_parseSession_4 24 rfl rfl
theorem dX4_parseSession_0 : decode cX4_parseSession 0 = .ok (.aload_n 0, 1) := dk_42 (dk_at dksX4_parseSession_0 0 rfl rfl)
theorem dX4_parseSession_1 : decode cX4_parseSession 1 = .ok (.getfield 18, 3) := dk_180 0 18 (dk_at dksX4_parseSession_0 1 rfl rfl)
theorem dX4_parseSession_4 : decode cX4_parseSession 4 = .ok (.getfield 217, 3) := dk_180 0 217 (dk_at dksX4_parseSession_0 4 rfl rfl)
theorem dX4_parseSession_7 : decode cX4_parseSession 7 = .ok (.invokevirtual 179, 3) := dk_182 0 179 (dk_at dksX4_parseSession_0 7 rfl rfl)
theorem dX4_parseSession_10 : decode cX4_parseSession 10 = .ok (.istore_n 1, 1) := dk_60 (dk_at dksX4_parseSession_0 10 rfl rfl)
theorem dX4_parseSession_11 : decode cX4_parseSession 11 = .ok (.aload_n 0, 1) := dk_42 (dk_at dksX4_parseSession_0 11 rfl rfl)
theorem dX4_parseSession_12 : decode cX4_parseSession 12 = .ok (.iload_n 1, 1) := dk_27 (dk_at dksX4_parseSession_0 12 rfl rfl)
theorem dX4_parseSession_13 : decode cX4_parseSession 13 = .ok (.iconst 4, 1) := dk_7 (dk_at dksX4_parseSession_0 13 rfl rfl)
theorem dX4_parseSession_14 : decode cX4_parseSession 14 = .ok (.if_icmp .ge 7, 3) := dk_162 0 7 (dk_at dksX4_parseSession_0 14 rfl rfl)
theorem dX4_parseSession_17 : decode cX4_parseSession 17 = .ok (.iconst 1, 1) := dk_4 (dk_at dksX4_parseSession_0 17 rfl rfl)
theorem dX4_parseSession_18 : decode cX4_parseSession 18 = .ok (.goto 4, 3) := dk_167 0 4 (dk_at dksX4_parseSession_0 18 rfl rfl)
theorem dX4_parseSession_21 : decode cX4_parseSession 21 = .ok (.iconst 0, 1) := dk_3 (dk_at dksX4_parseSession_0 21 rfl rfl)
theorem dX4_parseSession_22 : decode cX4_parseSession 22 = .ok (.iconst 4, 1) := dk_7 (dk_at dksX4_parseSession_0 22 rfl rfl)
theorem dX4_parseSession_23 : decode cX4_parseSession 23 = .ok (.invokevirtual 115, 3) := dk_182 0 115 (dk_at dksX4_parseSession_1 0 rfl rfl)
theorem dX4_parseSession_26 : decode cX4_parseSession 26 = .ok (.aload_n 0, 1) := dk_42 (dk_at dksX4_parseSession_1 3 rfl rfl)
theorem dX4_parseSession_27 : decode cX4_parseSession 27 = .ok (.invokevirtual 36, 3) := dk_182 0 36 (dk_at dksX4_parseSession_1 4 rfl rfl)
theorem dX4_parseSession_30 : decode cX4_parseSession 30 = .ok (.aload_n 0, 1) := dk_42 (dk_at dksX4_parseSession_1 7 rfl rfl)
theorem dX4_parseSession_31 : decode cX4_parseSession 31 = .ok (.invokevirtual 183, 3) := dk_182 0 183 (dk_at dksX4_parseSession_1 8 rfl rfl)
theorem dX4_parseSession_34 : decode cX4_parseSession 34 = .ok (.aload_n 0, 1) := dk_42 (dk_at dksX4_parseSession_1 11 rfl rfl)
theorem dX4_parseSession_35 : decode cX4_parseSession 35 = .ok (.aload_n 0, 1) := dk_42 (dk_at dksX4_parseSession_1 12 rfl rfl)
theorem dX4_parseSession_36 : decode cX4_parseSession 36 = .ok (.getfield 18, 3) := dk_180 0 18 (dk_at dksX4_parseSession_1 13 rfl rfl)
theorem dX4_parseSession_39 : decode cX4_parseSession 39 = .ok (.aload_n 0, 1) := dk_42 (dk_at dksX4_parseSession_1 16 rfl rfl)
theorem dX4_parseSession_40 : decode cX4_parseSession 40 = .ok (.getfield 32, 3) := dk_180 0 32 (dk_at dksX4_parseSession_1 17 rfl rfl)
theorem dX4_parseSession_43 : decode cX4_parseSession 43 = .ok (.invokevirtual 220, 3) := dk_182 0 220 (dk_at dksX4_parseSession_1 20 rfl rfl)
theorem dX4_parseSession_46 : decode cX4_parseSession 46 = .ok (.iconst (-1), 1) := dk_2 (dk_at dksX4_parseSession_1 23 rfl rfl)
theorem dX4_parseSession_47 : decode cX4_parseSession 47 = .ok (.if_icmp .ne 7, 3) := dk_160 0 7 (dk_at dksX4_parseSession_2 0 rfl rfl)
theorem dX4_parseSession_50 : decode cX4_parseSession 50 = .ok (.iconst 1, 1) := dk_4 (dk_at dksX4_parseSession_2 3 rfl rfl)
theorem dX4_parseSession_51 : decode cX4_parseSession 51 = .ok (.goto 4, 3) := dk_167 0 4 (dk_at dksX4_parseSession_2 4 rfl rfl)
theorem dX4_parseSession_54 : decode cX4_parseSession 54 = .ok (.iconst 0, 1) := dk_3 (dk_at dksX4_parseSession_2 7 rfl rfl)
theorem dX4_parseSession_55 : decode cX4_parseSession 55 = .ok (.iconst 3, 1) := dk_6 (dk_at dksX4_parseSession_2 8 rfl rfl)
theorem dX4_parseSession_56 : decode cX4_parseSession 56 = .ok (.invokevirtual 115, 3) := dk_182 0 115 (dk_at dksX4_parseSession_2 9 rfl rfl)
theorem dX4_parseSession_59 : decode cX4_parseSession 59 = .ok (.aload_n 0, 1) := dk_42 (dk_at dksX4_parseSession_2 12 rfl rfl)
theorem dX4_parseSession_60 : decode cX4_parseSession 60 = .ok (.getfield 18, 3) := dk_180 0 18 (dk_at dksX4_parseSession_2 13 rfl rfl)
theorem dX4_parseSession_63 : decode cX4_parseSession 63 = .ok (.getfield 217, 3) := dk_180 0 217 (dk_at dksX4_parseSession_2 16 rfl rfl)
theorem dX4_parseSession_66 : decode cX4_parseSession 66 = .ok (.new 223, 3) := dk_187 0 223 (dk_at dksX4_parseSession_2 19 rfl rfl)
theorem dX4_parseSession_69 : decode cX4_parseSession 69 = .ok (.dup, 1) := dk_89 (dk_at dksX4_parseSession_2 22 rfl rfl)
theorem dX4_parseSession_70 : decode cX4_parseSession 70 = .ok (.aload_n 0, 1) := dk_42 (dk_at dksX4_parseSession_2 23 rfl rfl)
theorem dX4_parseSession_71 : decode cX4_parseSession 71 = .ok (.getfield 32, 3) := dk_180 0 32 (dk_at dksX4_parseSession_3 0 rfl rfl)
theorem dX4_parseSession_74 : decode cX4_parseSession 74 = .ok (.invokespecial 225, 3) := dk_183 0 225 (dk_at dksX4_parseSession_3 3 rfl rfl)
theorem dX4_parseSession_77 : decode cX4_parseSession 77 = .ok (.invokevirtual 195, 3) := dk_182 0 195 (dk_at dksX4_parseSession_3 6 rfl rfl)
theorem dX4_parseSession_80 : decode cX4_parseSession 80 = .ok (.pop, 1) := dk_87 (dk_at dksX4_parseSession_3 9 rfl rfl)
theorem dX4_parseSession_81 : decode cX4_parseSession 81 = .ok (.aload_n 0, 1) := dk_42 (dk_at dksX4_parseSession_3 10 rfl rfl)
theorem dX4_parseSession_82 : decode cX4_parseSession 82 = .ok (.invokevirtual 36, 3) := dk_182 0 36 (dk_at dksX4_parseSession_3 11 rfl rfl)
theorem dX4_parseSession_85 : decode cX4_parseSession 85 = .ok (.aload_n 0, 1) := dk_42 (dk_at dksX4_parseSession_3 14 rfl rfl)
theorem dX4_parseSession_86 : decode cX4_parseSession 86 = .ok (.getfield 22, 3) := dk_180 0 22 (dk_at dksX4_parseSession_3 15 rfl rfl)
theorem dX4_parseSession_89 : decode cX4_parseSession 89 = .ok (.iload_n 1, 1) := dk_27 (dk_at dksX4_parseSession_3 18 rfl rfl)
theorem dX4_parseSession_90 : decode cX4_parseSession 90 = .ok (.iconst (-1), 1) := dk_2 (dk_at dksX4_parseSession_3 19 rfl rfl)
theorem dX4_parseSession_91 : decode cX4_parseSession 91 = .ok (.iastore, 1) := dk_79 (dk_at dksX4_parseSession_3 20 rfl rfl)
theorem dX4_parseSession_92 : decode cX4_parseSession 92 = .ok (.aload_n 0, 1) := dk_42 (dk_at dksX4_parseSession_3 21 rfl rfl)
theorem dX4_parseSession_93 : decode cX4_parseSession 93 = .ok (.bipush 59, 2) := dk_16 59 (dk_at dksX4_parseSession_3 22 rfl rfl)
theorem dX4_parseSession_95 : decode cX4_parseSession 95 = .ok (.invokevirtual 226, 3) := dk_182 0 226 (dk_at dksX4_parseSession_4 0 rfl rfl)
theorem dX4_parseSession_98 : decode cX4_parseSession 98 = .ok (.ifCond .eq 4, 3) := dk_153 0 4 (dk_at dksX4_parseSession_4 3 rfl rfl)
theorem dX4_parseSession_101 : decode cX4_parseSession 101 = .ok (.return_, 1) := dk_177 (dk_at dksX4_parseSession_4 6 rfl rfl)
theorem dX4_parseSession_102 : decode cX4_parseSession 102 = .ok (.aload_n 0, 1) := dk_42 (dk_at dksX4_parseSession_4 7 rfl rfl)
theorem dX4_parseSession_103 : decode cX4_parseSession 103 = .ok (.getfield 26, 3) := dk_180 0 26 (dk_at dksX4_parseSession_4 8 rfl rfl)
theorem dX4_parseSession_106 : decode cX4_parseSession 106 = .ok (.iload_n 1, 1) := dk_27 (dk_at dksX4_parseSession_4 11 rfl rfl)
theorem dX4_parseSession_107 : decode cX4_parseSession 107 = .ok (.aload_n 0, 1) := dk_42 (dk_at dksX4_parseSession_4 12 rfl rfl)
theorem dX4_parseSession_108 : decode cX4_parseSession 108 = .ok (.ldc 143, 2) := dk_18 143 (dk_at dksX4_parseSession_4 13 rfl rfl)
theorem dX4_parseSession_110 : decode cX4_parseSession 110 = .ok (.invokevirtual 111, 3) := dk_182 0 111 (dk_at dksX4_parseSession_4 15 rfl rfl)
theorem dX4_parseSession_113 : decode cX4_parseSession 113 = .ok (.bastore, 1) := dk_84 (dk_at dksX4_parseSession_4 18 rfl rfl)
theorem dX4_parseSession_114 : decode cX4_parseSession 114 = .ok (.aload_n 0, 1) := dk_42 (dk_at dksX4_parseSession_4 19 rfl rfl)
theorem dX4_parseSession_115 : decode cX4_parseSession 115 = .ok (.getfield 26, 3) := dk_180 0 26 (dk_at dksX4_parseSession_4 20 rfl rfl)
theorem dX4_parseSession_118 : decode cX4_parseSession 118 = .ok (.iload_n 1, 1) := dk_27 (dk_at dksX4_parseSession_4 23 rfl rfl)
theorem dX4_parseSession_119 : decode cX4_parseSession 119 = .ok (.baload, 1) := dk_51 (dk_at dksX4_parseSession_5 0 rfl rfl)
theorem dX4_parseSession_120 : decode cX4_parseSession 120 = .ok (.ifCond .eq 7, 3) := dk_153 0 7 (dk_at dksX4_parseSession_5 1 rfl rfl)
theorem dX4_parseSession_123 : decode cX4_parseSession 123 = .ok (.aload_n 0, 1) := dk_42 (dk_at dksX4_parseSession_5 4 rfl rfl)
theorem dX4_parseSession_124 : decode cX4_parseSession 124 = .ok (.invokevirtual 36, 3) := dk_182 0 36 (dk_at dksX4_parseSession_5 5 rfl rfl)
theorem dX4_parseSession_127 : decode cX4_parseSession 127 = .ok (.aload_n 0, 1) := dk_42 (dk_at dksX4_parseSession_5 8 rfl rfl)
theorem dX4_parseSession_128 : decode cX4_parseSession 128 = .ok (.getfield 22, 3) := dk_180 0 22 (dk_at dksX4_parseSession_5 9 rfl rfl)
theorem dX4_parseSession_131 : decode cX4_parseSession 131 = .ok (.iload_n 1, 1) := dk_27 (dk_at dksX4_parseSession_5 12 rfl rfl)
theorem dX4_parseSession_132 : decode cX4_parseSession 132 = .ok (.aload_n 0, 1) := dk_42 (dk_at dksX4_parseSession_5 13 rfl rfl)
theorem dX4_parseSession_133 : decode cX4_parseSession 133 = .ok (.invokevirtual 198, 3) := dk_182 0 198 (dk_at dksX4_parseSession_5 14 rfl rfl)
theorem dX4_parseSession_136 : decode cX4_parseSession 136 = .ok (.iastore, 1) := dk_79 (dk_at dksX4_parseSession_5 17 rfl rfl)
theorem dX4_parseSession_137 : decode cX4_parseSession 137 = .ok (.aload_n 0, 1) := dk_42 (dk_at dksX4_parseSession_5 18 rfl rfl)
theorem dX4_parseSession_138 : decode cX4_parseSession 138 = .ok (.invokevirtual 36, 3) := dk_182 0 36 (dk_at dksX4_parseSession_5 19 rfl rfl)
theorem dX4_parseSession_141 : decode cX4_parseSession 141 = .ok (.return_, 1) := dk_177 (dk_at dksX4_parseSession_5 22 rfl rfl)
abbrev cX4_isSymbol : ByteArray := prog_7_method_5_code
def yX4_isSymbol : MethodName := ⟨RX4, "isSymbol", "(C)Z"⟩
def dkwX4_isSymbol_1 : List UInt8 := [160, 0, 7, 4, 167, 0, 4, 3, 172]
abbrev dktX4_isSymbol_1 : List UInt8 := dkwX4_isSymbol_1 ++ []
def dkwX4_isSymbol_0 : List UInt8 := [42, 180, 0, 70, 178, 0, 97, 166, 0, 23, 42, 180, 0, 3, 180, 0, 46, 42, 180, 0, 58, 51, 27]
abbrev dktX4_isSymbol_0 : List UInt8 := dkwX4_isSymbol_0 ++ dktX4_isSymbol_1
theorem dksX4_isSymbol_0 : cX4_isSymbol.data.toList.drop 0 = dktX4_isSymbol_0 := by decide +kernel
theorem dksX4_isSymbol_1 : cX4_isSymbol.data.toList.drop 23 = dktX4_isSymbol_1 := dk_seg dksX4_isSymbol_0 23 rfl rfl
theorem dX4_isSymbol_0 : decode cX4_isSymbol 0 = .ok (.aload_n 0, 1) := dk_42 (dk_at dksX4_isSymbol_0 0 rfl rfl)
theorem dX4_isSymbol_1 : decode cX4_isSymbol 1 = .ok (.getfield 70, 3) := dk_180 0 70 (dk_at dksX4_isSymbol_0 1 rfl rfl)
theorem dX4_isSymbol_4 : decode cX4_isSymbol 4 = .ok (.getstatic 97, 3) := dk_178 0 97 (dk_at dksX4_isSymbol_0 4 rfl rfl)
theorem dX4_isSymbol_7 : decode cX4_isSymbol 7 = .ok (.if_acmp .ne 23, 3) := dk_166 0 23 (dk_at dksX4_isSymbol_0 7 rfl rfl)
theorem dX4_isSymbol_10 : decode cX4_isSymbol 10 = .ok (.aload_n 0, 1) := dk_42 (dk_at dksX4_isSymbol_0 10 rfl rfl)
theorem dX4_isSymbol_11 : decode cX4_isSymbol 11 = .ok (.getfield 3, 3) := dk_180 0 3 (dk_at dksX4_isSymbol_0 11 rfl rfl)
theorem dX4_isSymbol_14 : decode cX4_isSymbol 14 = .ok (.getfield 46, 3) := dk_180 0 46 (dk_at dksX4_isSymbol_0 14 rfl rfl)
theorem dX4_isSymbol_17 : decode cX4_isSymbol 17 = .ok (.aload_n 0, 1) := dk_42 (dk_at dksX4_isSymbol_0 17 rfl rfl)
theorem dX4_isSymbol_18 : decode cX4_isSymbol 18 = .ok (.getfield 58, 3) := dk_180 0 58 (dk_at dksX4_isSymbol_0 18 rfl rfl)
theorem dX4_isSymbol_21 : decode cX4_isSymbol 21 = .ok (.baload, 1) := dk_51 (dk_at dksX4_isSymbol_0 21 rfl rfl)
theorem dX4_isSymbol_22 : decode cX4_isSymbol 22 = .ok (.iload_n 1, 1) := dk_27 (dk_at dksX4_isSymbol_0 22 rfl rfl)
theorem dX4_isSymbol_23 : decode cX4_isSymbol 23 = .ok (.if_icmp .ne 7, 3) := dk_160 0 7 (dk_at dksX4_isSymbol_1 0 rfl rfl)
theorem dX4_isSymbol_26 : decode cX4_isSymbol 26 = .ok (.iconst 1, 1) := dk_4 (dk_at dksX4_isSymbol_1 3 rfl rfl)
theorem dX4_isSymbol_27 : decode cX4_isSymbol 27 = .ok (.goto 4, 3) := dk_167 0 4 (dk_at dksX4_isSymbol_1 4 rfl rfl)
theorem dX4_isSymbol_30 : decode cX4_isSymbol 30 = .ok (.iconst 0, 1) := dk_3 (dk_at dksX4_isSymbol_1 7 rfl rfl)
theorem dX4_isSymbol_31 : decode cX4_isSymbol 31 = .ok (.ireturn, 1) := dk_172 (dk_at dksX4_isSymbol_1 8 rfl rfl)
abbrev cX4_whole : ByteArray := prog_7_method_25_code
def yX4_whole : MethodName := ⟨RX4, "whole", "()LMailSessions$Test;"⟩
def dkwX4_whole_1 : List UInt8 := [182, 0, 115, 43, 176]
abbrev dktX4_whole_1 : List UInt8 := dkwX4_whole_1 ++ []
def dkwX4_whole_0 : List UInt8 := [42, 182, 1, 21, 76, 42, 42, 180, 0, 70, 178, 0, 64, 166, 0, 7, 4, 167, 0, 4, 3, 4]
abbrev dktX4_whole_0 : List UInt8 := dkwX4_whole_0 ++ dktX4_whole_1
theorem dksX4_whole_0 : cX4_whole.data.toList.drop 0 = dktX4_whole_0 := by decide +kernel
theorem dksX4_whole_1 : cX4_whole.data.toList.drop 22 = dktX4_whole_1 := dk_seg dksX4_whole_0 22 rfl rfl
theorem dX4_whole_0 : decode cX4_whole 0 = .ok (.aload_n 0, 1) := dk_42 (dk_at dksX4_whole_0 0 rfl rfl)
theorem dX4_whole_1 : decode cX4_whole 1 = .ok (.invokevirtual 277, 3) := dk_182 1 21 (dk_at dksX4_whole_0 1 rfl rfl)
theorem dX4_whole_4 : decode cX4_whole 4 = .ok (.astore_n 1, 1) := dk_76 (dk_at dksX4_whole_0 4 rfl rfl)
theorem dX4_whole_5 : decode cX4_whole 5 = .ok (.aload_n 0, 1) := dk_42 (dk_at dksX4_whole_0 5 rfl rfl)
theorem dX4_whole_6 : decode cX4_whole 6 = .ok (.aload_n 0, 1) := dk_42 (dk_at dksX4_whole_0 6 rfl rfl)
theorem dX4_whole_7 : decode cX4_whole 7 = .ok (.getfield 70, 3) := dk_180 0 70 (dk_at dksX4_whole_0 7 rfl rfl)
theorem dX4_whole_10 : decode cX4_whole 10 = .ok (.getstatic 64, 3) := dk_178 0 64 (dk_at dksX4_whole_0 10 rfl rfl)
theorem dX4_whole_13 : decode cX4_whole 13 = .ok (.if_acmp .ne 7, 3) := dk_166 0 7 (dk_at dksX4_whole_0 13 rfl rfl)
theorem dX4_whole_16 : decode cX4_whole 16 = .ok (.iconst 1, 1) := dk_4 (dk_at dksX4_whole_0 16 rfl rfl)
theorem dX4_whole_17 : decode cX4_whole 17 = .ok (.goto 4, 3) := dk_167 0 4 (dk_at dksX4_whole_0 17 rfl rfl)
theorem dX4_whole_20 : decode cX4_whole 20 = .ok (.iconst 0, 1) := dk_3 (dk_at dksX4_whole_0 20 rfl rfl)
theorem dX4_whole_21 : decode cX4_whole 21 = .ok (.iconst 1, 1) := dk_4 (dk_at dksX4_whole_0 21 rfl rfl)
theorem dX4_whole_22 : decode cX4_whole 22 = .ok (.invokevirtual 115, 3) := dk_182 0 115 (dk_at dksX4_whole_1 0 rfl rfl)
theorem dX4_whole_25 : decode cX4_whole 25 = .ok (.aload_n 1, 1) := dk_43 (dk_at dksX4_whole_1 3 rfl rfl)
theorem dX4_whole_26 : decode cX4_whole 26 = .ok (.areturn, 1) := dk_176 (dk_at dksX4_whole_1 4 rfl rfl)
abbrev cX4_query : ByteArray := prog_7_method_24_code
def yX4_query : MethodName := ⟨RX4, "query", "()LMailSessions$Test;"⟩
def dkwX4_query_1 : List UInt8 := [184, 1, 34, 76, 167, 255, 234, 43, 176]
abbrev dktX4_query_1 : List UInt8 := dkwX4_query_1 ++ []
def dkwX4_query_0 : List UInt8 := [42, 182, 1, 31, 76, 42, 18, 151, 182, 0, 111, 153, 0, 19, 42, 182, 0, 36, 43, 42, 182, 1, 31]
abbrev dktX4_query_0 : List UInt8 := dkwX4_query_0 ++ dktX4_query_1
theorem dksX4_query_0 : cX4_query.data.toList.drop 0 = dktX4_query_0 := by decide +kernel
theorem dksX4_query_1 : cX4_query.data.toList.drop 23 = dktX4_query_1 := dk_seg dksX4_query_0 23 rfl rfl
theorem dX4_query_0 : decode cX4_query 0 = .ok (.aload_n 0, 1) := dk_42 (dk_at dksX4_query_0 0 rfl rfl)
theorem dX4_query_1 : decode cX4_query 1 = .ok (.invokevirtual 287, 3) := dk_182 1 31 (dk_at dksX4_query_0 1 rfl rfl)
theorem dX4_query_4 : decode cX4_query 4 = .ok (.astore_n 1, 1) := dk_76 (dk_at dksX4_query_0 4 rfl rfl)
theorem dX4_query_5 : decode cX4_query 5 = .ok (.aload_n 0, 1) := dk_42 (dk_at dksX4_query_0 5 rfl rfl)
theorem dX4_query_6 : decode cX4_query 6 = .ok (.ldc 151, 2) := dk_18 151 (dk_at dksX4_query_0 6 rfl rfl)
theorem dX4_query_8 : decode cX4_query 8 = .ok (.invokevirtual 111, 3) := dk_182 0 111 (dk_at dksX4_query_0 8 rfl rfl)
theorem dX4_query_11 : decode cX4_query 11 = .ok (.ifCond .eq 19, 3) := dk_153 0 19 (dk_at dksX4_query_0 11 rfl rfl)
theorem dX4_query_14 : decode cX4_query 14 = .ok (.aload_n 0, 1) := dk_42 (dk_at dksX4_query_0 14 rfl rfl)
theorem dX4_query_15 : decode cX4_query 15 = .ok (.invokevirtual 36, 3) := dk_182 0 36 (dk_at dksX4_query_0 15 rfl rfl)
theorem dX4_query_18 : decode cX4_query 18 = .ok (.aload_n 1, 1) := dk_43 (dk_at dksX4_query_0 18 rfl rfl)
theorem dX4_query_19 : decode cX4_query 19 = .ok (.aload_n 0, 1) := dk_42 (dk_at dksX4_query_0 19 rfl rfl)
theorem dX4_query_20 : decode cX4_query 20 = .ok (.invokevirtual 287, 3) := dk_182 1 31 (dk_at dksX4_query_0 20 rfl rfl)
theorem dX4_query_23 : decode cX4_query 23 = .ok (.invokestatic 290, 3) := dk_184 1 34 (dk_at dksX4_query_1 0 rfl rfl)
theorem dX4_query_26 : decode cX4_query 26 = .ok (.astore_n 1, 1) := dk_76 (dk_at dksX4_query_1 3 rfl rfl)
theorem dX4_query_27 : decode cX4_query 27 = .ok (.goto (-22), 3) := dk_167 255 234 (dk_at dksX4_query_1 4 rfl rfl)
theorem dX4_query_30 : decode cX4_query 30 = .ok (.aload_n 1, 1) := dk_43 (dk_at dksX4_query_1 7 rfl rfl)
theorem dX4_query_31 : decode cX4_query 31 = .ok (.areturn, 1) := dk_176 (dk_at dksX4_query_1 8 rfl rfl)
abbrev cX4_term : ByteArray := prog_7_method_23_code
def yX4_term : MethodName := ⟨RX4, "term", "()LMailSessions$Test;"⟩
def dkwX4_term_1 : List UInt8 := [43, 176]
abbrev dktX4_term_1 : List UInt8 := dkwX4_term_1 ++ []
def dkwX4_term_0 : List UInt8 := [42, 182, 1, 15, 76, 42, 182, 1, 24, 153, 0, 15, 43, 42, 182, 1, 15, 184, 1, 27, 76, 167, 255, 240]
abbrev dktX4_term_0 : List UInt8 := dkwX4_term_0 ++ dktX4_term_1
theorem dksX4_term_0 : cX4_term.data.toList.drop 0 = dktX4_term_0 := by decide +kernel
theorem dksX4_term_1 : cX4_term.data.toList.drop 24 = dktX4_term_1 := dk_seg dksX4_term_0 24 rfl rfl
theorem dX4_term_0 : decode cX4_term 0 = .ok (.aload_n 0, 1) := dk_42 (dk_at dksX4_term_0 0 rfl rfl)
theorem dX4_term_1 : decode cX4_term 1 = .ok (.invokevirtual 271, 3) := dk_182 1 15 (dk_at dksX4_term_0 1 rfl rfl)
theorem dX4_term_4 : decode cX4_term 4 = .ok (.astore_n 1, 1) := dk_76 (dk_at dksX4_term_0 4 rfl rfl)
theorem dX4_term_5 : decode cX4_term 5 = .ok (.aload_n 0, 1) := dk_42 (dk_at dksX4_term_0 5 rfl rfl)
theorem dX4_term_6 : decode cX4_term 6 = .ok (.invokevirtual 280, 3) := dk_182 1 24 (dk_at dksX4_term_0 6 rfl rfl)
theorem dX4_term_9 : decode cX4_term 9 = .ok (.ifCond .eq 15, 3) := dk_153 0 15 (dk_at dksX4_term_0 9 rfl rfl)
theorem dX4_term_12 : decode cX4_term 12 = .ok (.aload_n 1, 1) := dk_43 (dk_at dksX4_term_0 12 rfl rfl)
theorem dX4_term_13 : decode cX4_term 13 = .ok (.aload_n 0, 1) := dk_42 (dk_at dksX4_term_0 13 rfl rfl)
theorem dX4_term_14 : decode cX4_term 14 = .ok (.invokevirtual 271, 3) := dk_182 1 15 (dk_at dksX4_term_0 14 rfl rfl)
theorem dX4_term_17 : decode cX4_term 17 = .ok (.invokestatic 283, 3) := dk_184 1 27 (dk_at dksX4_term_0 17 rfl rfl)
theorem dX4_term_20 : decode cX4_term 20 = .ok (.astore_n 1, 1) := dk_76 (dk_at dksX4_term_0 20 rfl rfl)
theorem dX4_term_21 : decode cX4_term 21 = .ok (.goto (-16), 3) := dk_167 255 240 (dk_at dksX4_term_0 21 rfl rfl)
theorem dX4_term_24 : decode cX4_term 24 = .ok (.aload_n 1, 1) := dk_43 (dk_at dksX4_term_1 0 rfl rfl)
theorem dX4_term_25 : decode cX4_term 25 = .ok (.areturn, 1) := dk_176 (dk_at dksX4_term_1 1 rfl rfl)
abbrev cX4_factor : ByteArray := prog_7_method_22_code
def yX4_factor : MethodName := ⟨RX4, "factor", "()LMailSessions$Test;"⟩
def dkwX4_factor_11 : List UInt8 := [25, 4, 176]
abbrev dktX4_factor_11 : List UInt8 := dkwX4_factor_11 ++ []
def dkwX4_factor_10 : List UInt8 := [16, 41, 182, 0, 226, 4, 182, 0, 115, 42, 182, 0, 36, 42, 89, 180, 0, 249, 4, 100, 181, 0, 249]
abbrev dktX4_factor_10 : List UInt8 := dkwX4_factor_10 ++ dktX4_factor_11
def dkwX4_factor_9 : List UInt8 := [176, 42, 42, 16, 40, 182, 0, 226, 4, 182, 0, 115, 42, 182, 1, 12, 42, 182, 1, 21, 58, 4, 42, 42]
abbrev dktX4_factor_9 : List UInt8 := dkwX4_factor_9 ++ dktX4_factor_10
def dkwX4_factor_8 : List UInt8 := [182, 1, 12, 42, 182, 1, 15, 58, 4, 42, 89, 180, 0, 249, 4, 100, 181, 0, 249, 25, 4, 184, 1, 18]
abbrev dktX4_factor_8 : List UInt8 := dkwX4_factor_8 ++ dktX4_factor_9
def dkwX4_factor_7 : List UInt8 := [42, 182, 0, 36, 186, 1, 5, 0, 0, 176, 42, 4, 182, 1, 8, 176, 42, 3, 182, 1, 8, 176, 42]
abbrev dktX4_factor_7 : List UInt8 := dkwX4_factor_7 ++ dktX4_factor_8
def dkwX4_factor_6 : List UInt8 := [170, 0, 0, 0, 0, 78, 0, 0, 0, 0, 0, 0, 0, 3, 0, 0, 0, 30, 0, 0, 0, 40, 0, 0, 0, 46, 0, 0, 0, 52]
abbrev dktX4_factor_6 : List UInt8 := dkwX4_factor_6 ++ dktX4_factor_7
def dkwX4_factor_5 : List UInt8 := [153, 0, 5, 6, 62, 29]
abbrev dktX4_factor_5 : List UInt8 := dkwX4_factor_5 ++ dktX4_factor_6
def dkwX4_factor_4 : List UInt8 := [62, 167, 0, 28, 44, 18, 147, 182, 0, 105, 153, 0, 19, 5, 62, 167, 0, 14, 44, 18, 149, 182, 0, 105]
abbrev dktX4_factor_4 : List UInt8 := dkwX4_factor_4 ++ dktX4_factor_5
def dkwX4_factor_3 : List UInt8 := [44, 18, 145, 182, 0, 105, 153, 0, 47, 3, 62, 167, 0, 42, 44, 18, 139, 182, 0, 105, 153, 0, 33, 4]
abbrev dktX4_factor_3 : List UInt8 := dkwX4_factor_3 ++ dktX4_factor_4
def dkwX4_factor_2 : List UInt8 := [171, 0, 0, 0, 0, 95, 0, 0, 0, 4, 0, 1, 121, 161, 0, 0, 0, 42, 0, 1, 170, 211, 0, 0, 0, 84, 0, 1, 196, 80, 0, 0, 0, 70, 0, 53, 224, 1, 0, 0, 0, 56]
abbrev dktX4_factor_2 : List UInt8 := dkwX4_factor_2 ++ dktX4_factor_3
def dkwX4_factor_1 : List UInt8 := [2, 62, 44, 182, 0, 119]
abbrev dktX4_factor_1 : List UInt8 := dkwX4_factor_1 ++ dktX4_factor_2
def dkwX4_factor_0 : List UInt8 := [42, 182, 0, 153, 60, 27, 2, 159, 0, 12, 42, 182, 0, 36, 27, 184, 1, 3, 176, 42, 180, 0, 32, 77]
abbrev dktX4_factor_0 : List UInt8 := dkwX4_factor_0 ++ dktX4_factor_1
theorem dksX4_factor_0 : cX4_factor.data.toList.drop 0 = dktX4_factor_0 := by decide +kernel
theorem dksX4_factor_1 : cX4_factor.data.toList.drop 24 = dktX4_factor_1 := dk_seg dksX4_factor_0 24 rfl rfl
theorem dksX4_factor_2 : cX4_factor.data.toList.drop 30 = dktX4_factor_2 := dk_seg dksX4_factor_1 6 rfl rfl
theorem dksX4_factor_3 : cX4_factor.data.toList.drop 72 = dktX4_factor_3 := dk_seg dksX4_factor_2 42 rfl rfl
theorem dksX4_factor_4 : cX4_factor.data.toList.drop 96 = dktX4_factor_4 := dk_seg dksX4_factor_3 24 rfl rfl
theorem dksX4_factor_5 : cX4_factor.data.toList.drop 120 = dktX4_factor_5 := dk_seg dksX4_factor_4 24 rfl rfl
theorem dksX4_factor_6 : cX4_factor.data.toList.drop 126 = dktX4_factor_6 := dk_seg dksX4_factor_5 6 rfl rfl
theorem dksX4_factor_7 : cX4_factor.data.toList.drop 156 = dktX4_factor_7 := dk_seg dksX4_factor_6 30 rfl rfl
theorem dksX4_factor_8 : cX4_factor.data.toList.drop 179 = dktX4_factor_8 := dk_seg dksX4_factor_7 23 rfl rfl
theorem dksX4_factor_9 : cX4_factor.data.toList.drop 203 = dktX4_factor_9 := dk_seg dksX4_factor_8 24 rfl rfl
theorem dksX4_factor_10 : cX4_factor.data.toList.drop 227 = dktX4_factor_10 := dk_seg dksX4_factor_9 24 rfl rfl
theorem dksX4_factor_11 : cX4_factor.data.toList.drop 250 = dktX4_factor_11 := dk_seg dksX4_factor_10 23 rfl rfl
theorem dX4_factor_0 : decode cX4_factor 0 = .ok (.aload_n 0, 1) := dk_42 (dk_at dksX4_factor_0 0 rfl rfl)
theorem dX4_factor_1 : decode cX4_factor 1 = .ok (.invokevirtual 153, 3) := dk_182 0 153 (dk_at dksX4_factor_0 1 rfl rfl)
theorem dX4_factor_4 : decode cX4_factor 4 = .ok (.istore_n 1, 1) := dk_60 (dk_at dksX4_factor_0 4 rfl rfl)
theorem dX4_factor_5 : decode cX4_factor 5 = .ok (.iload_n 1, 1) := dk_27 (dk_at dksX4_factor_0 5 rfl rfl)
theorem dX4_factor_6 : decode cX4_factor 6 = .ok (.iconst (-1), 1) := dk_2 (dk_at dksX4_factor_0 6 rfl rfl)
theorem dX4_factor_7 : decode cX4_factor 7 = .ok (.if_icmp .eq 12, 3) := dk_159 0 12 (dk_at dksX4_factor_0 7 rfl rfl)
theorem dX4_factor_10 : decode cX4_factor 10 = .ok (.aload_n 0, 1) := dk_42 (dk_at dksX4_factor_0 10 rfl rfl)
theorem dX4_factor_11 : decode cX4_factor 11 = .ok (.invokevirtual 36, 3) := dk_182 0 36 (dk_at dksX4_factor_0 11 rfl rfl)
theorem dX4_factor_14 : decode cX4_factor 14 = .ok (.iload_n 1, 1) := dk_27 (dk_at dksX4_factor_0 14 rfl rfl)
theorem dX4_factor_15 : decode cX4_factor 15 = .ok (.invokestatic 259, 3) := dk_184 1 3 (dk_at dksX4_factor_0 15 rfl rfl)
theorem dX4_factor_18 : decode cX4_factor 18 = .ok (.areturn, 1) := dk_176 (dk_at dksX4_factor_0 18 rfl rfl)
theorem dX4_factor_19 : decode cX4_factor 19 = .ok (.aload_n 0, 1) := dk_42 (dk_at dksX4_factor_0 19 rfl rfl)
theorem dX4_factor_20 : decode cX4_factor 20 = .ok (.getfield 32, 3) := dk_180 0 32 (dk_at dksX4_factor_0 20 rfl rfl)
theorem dX4_factor_23 : decode cX4_factor 23 = .ok (.astore_n 2, 1) := dk_77 (dk_at dksX4_factor_0 23 rfl rfl)
theorem dX4_factor_24 : decode cX4_factor 24 = .ok (.iconst (-1), 1) := dk_2 (dk_at dksX4_factor_1 0 rfl rfl)
theorem dX4_factor_25 : decode cX4_factor 25 = .ok (.istore_n 3, 1) := dk_62 (dk_at dksX4_factor_1 1 rfl rfl)
theorem dX4_factor_26 : decode cX4_factor 26 = .ok (.aload_n 2, 1) := dk_44 (dk_at dksX4_factor_1 2 rfl rfl)
theorem dX4_factor_27 : decode cX4_factor 27 = .ok (.invokevirtual 119, 3) := dk_182 0 119 (dk_at dksX4_factor_1 3 rfl rfl)
theorem dX4_factor_30 : decode cX4_factor 30 = .ok (.lookupswitch 95 #[(96673, 42), (109267, 84), (115792, 70), (3530753, 56)], 42) := by decide +kernel
theorem dX4_factor_72 : decode cX4_factor 72 = .ok (.aload_n 2, 1) := dk_44 (dk_at dksX4_factor_3 0 rfl rfl)
theorem dX4_factor_73 : decode cX4_factor 73 = .ok (.ldc 145, 2) := dk_18 145 (dk_at dksX4_factor_3 1 rfl rfl)
theorem dX4_factor_75 : decode cX4_factor 75 = .ok (.invokevirtual 105, 3) := dk_182 0 105 (dk_at dksX4_factor_3 3 rfl rfl)
theorem dX4_factor_78 : decode cX4_factor 78 = .ok (.ifCond .eq 47, 3) := dk_153 0 47 (dk_at dksX4_factor_3 6 rfl rfl)
theorem dX4_factor_81 : decode cX4_factor 81 = .ok (.iconst 0, 1) := dk_3 (dk_at dksX4_factor_3 9 rfl rfl)
theorem dX4_factor_82 : decode cX4_factor 82 = .ok (.istore_n 3, 1) := dk_62 (dk_at dksX4_factor_3 10 rfl rfl)
theorem dX4_factor_83 : decode cX4_factor 83 = .ok (.goto 42, 3) := dk_167 0 42 (dk_at dksX4_factor_3 11 rfl rfl)
theorem dX4_factor_86 : decode cX4_factor 86 = .ok (.aload_n 2, 1) := dk_44 (dk_at dksX4_factor_3 14 rfl rfl)
theorem dX4_factor_87 : decode cX4_factor 87 = .ok (.ldc 139, 2) := dk_18 139 (dk_at dksX4_factor_3 15 rfl rfl)
theorem dX4_factor_89 : decode cX4_factor 89 = .ok (.invokevirtual 105, 3) := dk_182 0 105 (dk_at dksX4_factor_3 17 rfl rfl)
theorem dX4_factor_92 : decode cX4_factor 92 = .ok (.ifCond .eq 33, 3) := dk_153 0 33 (dk_at dksX4_factor_3 20 rfl rfl)
theorem dX4_factor_95 : decode cX4_factor 95 = .ok (.iconst 1, 1) := dk_4 (dk_at dksX4_factor_3 23 rfl rfl)
theorem dX4_factor_96 : decode cX4_factor 96 = .ok (.istore_n 3, 1) := dk_62 (dk_at dksX4_factor_4 0 rfl rfl)
theorem dX4_factor_97 : decode cX4_factor 97 = .ok (.goto 28, 3) := dk_167 0 28 (dk_at dksX4_factor_4 1 rfl rfl)
theorem dX4_factor_100 : decode cX4_factor 100 = .ok (.aload_n 2, 1) := dk_44 (dk_at dksX4_factor_4 4 rfl rfl)
theorem dX4_factor_101 : decode cX4_factor 101 = .ok (.ldc 147, 2) := dk_18 147 (dk_at dksX4_factor_4 5 rfl rfl)
theorem dX4_factor_103 : decode cX4_factor 103 = .ok (.invokevirtual 105, 3) := dk_182 0 105 (dk_at dksX4_factor_4 7 rfl rfl)
theorem dX4_factor_106 : decode cX4_factor 106 = .ok (.ifCond .eq 19, 3) := dk_153 0 19 (dk_at dksX4_factor_4 10 rfl rfl)
theorem dX4_factor_109 : decode cX4_factor 109 = .ok (.iconst 2, 1) := dk_5 (dk_at dksX4_factor_4 13 rfl rfl)
theorem dX4_factor_110 : decode cX4_factor 110 = .ok (.istore_n 3, 1) := dk_62 (dk_at dksX4_factor_4 14 rfl rfl)
theorem dX4_factor_111 : decode cX4_factor 111 = .ok (.goto 14, 3) := dk_167 0 14 (dk_at dksX4_factor_4 15 rfl rfl)
theorem dX4_factor_114 : decode cX4_factor 114 = .ok (.aload_n 2, 1) := dk_44 (dk_at dksX4_factor_4 18 rfl rfl)
theorem dX4_factor_115 : decode cX4_factor 115 = .ok (.ldc 149, 2) := dk_18 149 (dk_at dksX4_factor_4 19 rfl rfl)
theorem dX4_factor_117 : decode cX4_factor 117 = .ok (.invokevirtual 105, 3) := dk_182 0 105 (dk_at dksX4_factor_4 21 rfl rfl)
theorem dX4_factor_120 : decode cX4_factor 120 = .ok (.ifCond .eq 5, 3) := dk_153 0 5 (dk_at dksX4_factor_5 0 rfl rfl)
theorem dX4_factor_123 : decode cX4_factor 123 = .ok (.iconst 3, 1) := dk_6 (dk_at dksX4_factor_5 3 rfl rfl)
theorem dX4_factor_124 : decode cX4_factor 124 = .ok (.istore_n 3, 1) := dk_62 (dk_at dksX4_factor_5 4 rfl rfl)
theorem dX4_factor_125 : decode cX4_factor 125 = .ok (.iload_n 3, 1) := dk_29 (dk_at dksX4_factor_5 5 rfl rfl)
theorem dX4_factor_126 : decode cX4_factor 126 = .ok (.tableswitch 78 0 3 #[30, 40, 46, 52], 30) := by decide +kernel
theorem dX4_factor_156 : decode cX4_factor 156 = .ok (.aload_n 0, 1) := dk_42 (dk_at dksX4_factor_7 0 rfl rfl)
theorem dX4_factor_157 : decode cX4_factor 157 = .ok (.invokevirtual 36, 3) := dk_182 0 36 (dk_at dksX4_factor_7 1 rfl rfl)
theorem dX4_factor_160 : decode cX4_factor 160 = .ok (.invokedynamic 261, 5) := by decide +kernel
theorem dX4_factor_165 : decode cX4_factor 165 = .ok (.areturn, 1) := dk_176 (dk_at dksX4_factor_7 9 rfl rfl)
theorem dX4_factor_166 : decode cX4_factor 166 = .ok (.aload_n 0, 1) := dk_42 (dk_at dksX4_factor_7 10 rfl rfl)
theorem dX4_factor_167 : decode cX4_factor 167 = .ok (.iconst 1, 1) := dk_4 (dk_at dksX4_factor_7 11 rfl rfl)
theorem dX4_factor_168 : decode cX4_factor 168 = .ok (.invokevirtual 264, 3) := dk_182 1 8 (dk_at dksX4_factor_7 12 rfl rfl)
theorem dX4_factor_171 : decode cX4_factor 171 = .ok (.areturn, 1) := dk_176 (dk_at dksX4_factor_7 15 rfl rfl)
theorem dX4_factor_172 : decode cX4_factor 172 = .ok (.aload_n 0, 1) := dk_42 (dk_at dksX4_factor_7 16 rfl rfl)
theorem dX4_factor_173 : decode cX4_factor 173 = .ok (.iconst 0, 1) := dk_3 (dk_at dksX4_factor_7 17 rfl rfl)
theorem dX4_factor_174 : decode cX4_factor 174 = .ok (.invokevirtual 264, 3) := dk_182 1 8 (dk_at dksX4_factor_7 18 rfl rfl)
theorem dX4_factor_177 : decode cX4_factor 177 = .ok (.areturn, 1) := dk_176 (dk_at dksX4_factor_7 21 rfl rfl)
theorem dX4_factor_178 : decode cX4_factor 178 = .ok (.aload_n 0, 1) := dk_42 (dk_at dksX4_factor_7 22 rfl rfl)
theorem dX4_factor_179 : decode cX4_factor 179 = .ok (.invokevirtual 268, 3) := dk_182 1 12 (dk_at dksX4_factor_8 0 rfl rfl)
theorem dX4_factor_182 : decode cX4_factor 182 = .ok (.aload_n 0, 1) := dk_42 (dk_at dksX4_factor_8 3 rfl rfl)
theorem dX4_factor_183 : decode cX4_factor 183 = .ok (.invokevirtual 271, 3) := dk_182 1 15 (dk_at dksX4_factor_8 4 rfl rfl)
theorem dX4_factor_186 : decode cX4_factor 186 = .ok (.astore 4, 2) := dk_58 4 (dk_at dksX4_factor_8 7 rfl rfl)
theorem dX4_factor_188 : decode cX4_factor 188 = .ok (.aload_n 0, 1) := dk_42 (dk_at dksX4_factor_8 9 rfl rfl)
theorem dX4_factor_189 : decode cX4_factor 189 = .ok (.dup, 1) := dk_89 (dk_at dksX4_factor_8 10 rfl rfl)
theorem dX4_factor_190 : decode cX4_factor 190 = .ok (.getfield 249, 3) := dk_180 0 249 (dk_at dksX4_factor_8 11 rfl rfl)
theorem dX4_factor_193 : decode cX4_factor 193 = .ok (.iconst 1, 1) := dk_4 (dk_at dksX4_factor_8 14 rfl rfl)
theorem dX4_factor_194 : decode cX4_factor 194 = .ok (.isub, 1) := dk_100 (dk_at dksX4_factor_8 15 rfl rfl)
theorem dX4_factor_195 : decode cX4_factor 195 = .ok (.putfield 249, 3) := dk_181 0 249 (dk_at dksX4_factor_8 16 rfl rfl)
theorem dX4_factor_198 : decode cX4_factor 198 = .ok (.aload 4, 2) := dk_25 4 (dk_at dksX4_factor_8 19 rfl rfl)
theorem dX4_factor_200 : decode cX4_factor 200 = .ok (.invokestatic 274, 3) := dk_184 1 18 (dk_at dksX4_factor_8 21 rfl rfl)
theorem dX4_factor_203 : decode cX4_factor 203 = .ok (.areturn, 1) := dk_176 (dk_at dksX4_factor_9 0 rfl rfl)
theorem dX4_factor_204 : decode cX4_factor 204 = .ok (.aload_n 0, 1) := dk_42 (dk_at dksX4_factor_9 1 rfl rfl)
theorem dX4_factor_205 : decode cX4_factor 205 = .ok (.aload_n 0, 1) := dk_42 (dk_at dksX4_factor_9 2 rfl rfl)
theorem dX4_factor_206 : decode cX4_factor 206 = .ok (.bipush 40, 2) := dk_16 40 (dk_at dksX4_factor_9 3 rfl rfl)
theorem dX4_factor_208 : decode cX4_factor 208 = .ok (.invokevirtual 226, 3) := dk_182 0 226 (dk_at dksX4_factor_9 5 rfl rfl)
theorem dX4_factor_211 : decode cX4_factor 211 = .ok (.iconst 1, 1) := dk_4 (dk_at dksX4_factor_9 8 rfl rfl)
theorem dX4_factor_212 : decode cX4_factor 212 = .ok (.invokevirtual 115, 3) := dk_182 0 115 (dk_at dksX4_factor_9 9 rfl rfl)
theorem dX4_factor_215 : decode cX4_factor 215 = .ok (.aload_n 0, 1) := dk_42 (dk_at dksX4_factor_9 12 rfl rfl)
theorem dX4_factor_216 : decode cX4_factor 216 = .ok (.invokevirtual 268, 3) := dk_182 1 12 (dk_at dksX4_factor_9 13 rfl rfl)
theorem dX4_factor_219 : decode cX4_factor 219 = .ok (.aload_n 0, 1) := dk_42 (dk_at dksX4_factor_9 16 rfl rfl)
theorem dX4_factor_220 : decode cX4_factor 220 = .ok (.invokevirtual 277, 3) := dk_182 1 21 (dk_at dksX4_factor_9 17 rfl rfl)
theorem dX4_factor_223 : decode cX4_factor 223 = .ok (.astore 4, 2) := dk_58 4 (dk_at dksX4_factor_9 20 rfl rfl)
theorem dX4_factor_225 : decode cX4_factor 225 = .ok (.aload_n 0, 1) := dk_42 (dk_at dksX4_factor_9 22 rfl rfl)
theorem dX4_factor_226 : decode cX4_factor 226 = .ok (.aload_n 0, 1) := dk_42 (dk_at dksX4_factor_9 23 rfl rfl)
theorem dX4_factor_227 : decode cX4_factor 227 = .ok (.bipush 41, 2) := dk_16 41 (dk_at dksX4_factor_10 0 rfl rfl)
theorem dX4_factor_229 : decode cX4_factor 229 = .ok (.invokevirtual 226, 3) := dk_182 0 226 (dk_at dksX4_factor_10 2 rfl rfl)
theorem dX4_factor_232 : decode cX4_factor 232 = .ok (.iconst 1, 1) := dk_4 (dk_at dksX4_factor_10 5 rfl rfl)
theorem dX4_factor_233 : decode cX4_factor 233 = .ok (.invokevirtual 115, 3) := dk_182 0 115 (dk_at dksX4_factor_10 6 rfl rfl)
theorem dX4_factor_236 : decode cX4_factor 236 = .ok (.aload_n 0, 1) := dk_42 (dk_at dksX4_factor_10 9 rfl rfl)
theorem dX4_factor_237 : decode cX4_factor 237 = .ok (.invokevirtual 36, 3) := dk_182 0 36 (dk_at dksX4_factor_10 10 rfl rfl)
theorem dX4_factor_240 : decode cX4_factor 240 = .ok (.aload_n 0, 1) := dk_42 (dk_at dksX4_factor_10 13 rfl rfl)
theorem dX4_factor_241 : decode cX4_factor 241 = .ok (.dup, 1) := dk_89 (dk_at dksX4_factor_10 14 rfl rfl)
theorem dX4_factor_242 : decode cX4_factor 242 = .ok (.getfield 249, 3) := dk_180 0 249 (dk_at dksX4_factor_10 15 rfl rfl)
theorem dX4_factor_245 : decode cX4_factor 245 = .ok (.iconst 1, 1) := dk_4 (dk_at dksX4_factor_10 18 rfl rfl)
theorem dX4_factor_246 : decode cX4_factor 246 = .ok (.isub, 1) := dk_100 (dk_at dksX4_factor_10 19 rfl rfl)
theorem dX4_factor_247 : decode cX4_factor 247 = .ok (.putfield 249, 3) := dk_181 0 249 (dk_at dksX4_factor_10 20 rfl rfl)
theorem dX4_factor_250 : decode cX4_factor 250 = .ok (.aload 4, 2) := dk_25 4 (dk_at dksX4_factor_11 0 rfl rfl)
theorem dX4_factor_252 : decode cX4_factor 252 = .ok (.areturn, 1) := dk_176 (dk_at dksX4_factor_11 2 rfl rfl)
abbrev cX4_lambda_factor_4 : ByteArray := prog_7_method_26_code
def yX4_lambda_factor_4 : MethodName := ⟨RX4, "lambda$factor$4", "(LMailSessions$Message;)Z"⟩
theorem dX4_lambda_factor_4_0 : decode cX4_lambda_factor_4 0 = .ok (.iconst 1, 1) := by decide +kernel
theorem dX4_lambda_factor_4_1 : decode cX4_lambda_factor_4 1 = .ok (.ireturn, 1) := by decide +kernel
abbrev cX4_compared : ByteArray := prog_7_method_21_code
def yX4_compared : MethodName := ⟨RX4, "compared", "(Z)LMailSessions$Test;"⟩
def dkwX4_compared_3 : List UInt8 := [176, 28, 153, 0, 12, 29, 186, 1, 1, 0, 0, 167, 0, 9, 29, 186, 1, 2, 0, 0, 176]
abbrev dktX4_compared_3 : List UInt8 := dkwX4_compared_3 ++ []
def dkwX4_compared_2 : List UInt8 := [62, 27, 153, 0, 23, 28, 153, 0, 12, 29, 186, 0, 252, 0, 0, 167, 0, 9, 29, 186, 1, 0, 0, 0]
abbrev dktX4_compared_2 : List UInt8 := dkwX4_compared_2 ++ dktX4_compared_3
def dkwX4_compared_1 : List UInt8 := [153, 0, 7, 4, 167, 0, 4, 3, 4, 182, 0, 115, 42, 182, 0, 36, 42, 3, 17, 39, 15, 182, 0, 170]
abbrev dktX4_compared_1 : List UInt8 := dkwX4_compared_1 ++ dktX4_compared_2
def dkwX4_compared_0 : List UInt8 := [42, 182, 0, 36, 42, 16, 60, 182, 0, 226, 61, 42, 28, 154, 0, 12, 42, 16, 62, 182, 0, 226]
abbrev dktX4_compared_0 : List UInt8 := dkwX4_compared_0 ++ dktX4_compared_1
theorem dksX4_compared_0 : cX4_compared.data.toList.drop 0 = dktX4_compared_0 := by decide +kernel
theorem dksX4_compared_1 : cX4_compared.data.toList.drop 22 = dktX4_compared_1 := dk_seg dksX4_compared_0 22 rfl rfl
theorem dksX4_compared_2 : cX4_compared.data.toList.drop 46 = dktX4_compared_2 := dk_seg dksX4_compared_1 24 rfl rfl
theorem dksX4_compared_3 : cX4_compared.data.toList.drop 70 = dktX4_compared_3 := dk_seg dksX4_compared_2 24 rfl rfl
theorem dX4_compared_0 : decode cX4_compared 0 = .ok (.aload_n 0, 1) := dk_42 (dk_at dksX4_compared_0 0 rfl rfl)
theorem dX4_compared_1 : decode cX4_compared 1 = .ok (.invokevirtual 36, 3) := dk_182 0 36 (dk_at dksX4_compared_0 1 rfl rfl)
theorem dX4_compared_4 : decode cX4_compared 4 = .ok (.aload_n 0, 1) := dk_42 (dk_at dksX4_compared_0 4 rfl rfl)
theorem dX4_compared_5 : decode cX4_compared 5 = .ok (.bipush 60, 2) := dk_16 60 (dk_at dksX4_compared_0 5 rfl rfl)
theorem dX4_compared_7 : decode cX4_compared 7 = .ok (.invokevirtual 226, 3) := dk_182 0 226 (dk_at dksX4_compared_0 7 rfl rfl)
theorem dX4_compared_10 : decode cX4_compared 10 = .ok (.istore_n 2, 1) := dk_61 (dk_at dksX4_compared_0 10 rfl rfl)
theorem dX4_compared_11 : decode cX4_compared 11 = .ok (.aload_n 0, 1) := dk_42 (dk_at dksX4_compared_0 11 rfl rfl)
theorem dX4_compared_12 : decode cX4_compared 12 = .ok (.iload_n 2, 1) := dk_28 (dk_at dksX4_compared_0 12 rfl rfl)
theorem dX4_compared_13 : decode cX4_compared 13 = .ok (.ifCond .ne 12, 3) := dk_154 0 12 (dk_at dksX4_compared_0 13 rfl rfl)
theorem dX4_compared_16 : decode cX4_compared 16 = .ok (.aload_n 0, 1) := dk_42 (dk_at dksX4_compared_0 16 rfl rfl)
theorem dX4_compared_17 : decode cX4_compared 17 = .ok (.bipush 62, 2) := dk_16 62 (dk_at dksX4_compared_0 17 rfl rfl)
theorem dX4_compared_19 : decode cX4_compared 19 = .ok (.invokevirtual 226, 3) := dk_182 0 226 (dk_at dksX4_compared_0 19 rfl rfl)
theorem dX4_compared_22 : decode cX4_compared 22 = .ok (.ifCond .eq 7, 3) := dk_153 0 7 (dk_at dksX4_compared_1 0 rfl rfl)
theorem dX4_compared_25 : decode cX4_compared 25 = .ok (.iconst 1, 1) := dk_4 (dk_at dksX4_compared_1 3 rfl rfl)
theorem dX4_compared_26 : decode cX4_compared 26 = .ok (.goto 4, 3) := dk_167 0 4 (dk_at dksX4_compared_1 4 rfl rfl)
theorem dX4_compared_29 : decode cX4_compared 29 = .ok (.iconst 0, 1) := dk_3 (dk_at dksX4_compared_1 7 rfl rfl)
theorem dX4_compared_30 : decode cX4_compared 30 = .ok (.iconst 1, 1) := dk_4 (dk_at dksX4_compared_1 8 rfl rfl)
theorem dX4_compared_31 : decode cX4_compared 31 = .ok (.invokevirtual 115, 3) := dk_182 0 115 (dk_at dksX4_compared_1 9 rfl rfl)
theorem dX4_compared_34 : decode cX4_compared 34 = .ok (.aload_n 0, 1) := dk_42 (dk_at dksX4_compared_1 12 rfl rfl)
theorem dX4_compared_35 : decode cX4_compared 35 = .ok (.invokevirtual 36, 3) := dk_182 0 36 (dk_at dksX4_compared_1 13 rfl rfl)
theorem dX4_compared_38 : decode cX4_compared 38 = .ok (.aload_n 0, 1) := dk_42 (dk_at dksX4_compared_1 16 rfl rfl)
theorem dX4_compared_39 : decode cX4_compared 39 = .ok (.iconst 0, 1) := dk_3 (dk_at dksX4_compared_1 17 rfl rfl)
theorem dX4_compared_40 : decode cX4_compared 40 = .ok (.sipush 9999, 3) := dk_17 39 15 (dk_at dksX4_compared_1 18 rfl rfl)
theorem dX4_compared_43 : decode cX4_compared 43 = .ok (.invokevirtual 170, 3) := dk_182 0 170 (dk_at dksX4_compared_1 21 rfl rfl)
theorem dX4_compared_46 : decode cX4_compared 46 = .ok (.istore_n 3, 1) := dk_62 (dk_at dksX4_compared_2 0 rfl rfl)
theorem dX4_compared_47 : decode cX4_compared 47 = .ok (.iload_n 1, 1) := dk_27 (dk_at dksX4_compared_2 1 rfl rfl)
theorem dX4_compared_48 : decode cX4_compared 48 = .ok (.ifCond .eq 23, 3) := dk_153 0 23 (dk_at dksX4_compared_2 2 rfl rfl)
theorem dX4_compared_51 : decode cX4_compared 51 = .ok (.iload_n 2, 1) := dk_28 (dk_at dksX4_compared_2 5 rfl rfl)
theorem dX4_compared_52 : decode cX4_compared 52 = .ok (.ifCond .eq 12, 3) := dk_153 0 12 (dk_at dksX4_compared_2 6 rfl rfl)
theorem dX4_compared_55 : decode cX4_compared 55 = .ok (.iload_n 3, 1) := dk_29 (dk_at dksX4_compared_2 9 rfl rfl)
theorem dX4_compared_56 : decode cX4_compared 56 = .ok (.invokedynamic 252, 5) := by decide +kernel
theorem dX4_compared_61 : decode cX4_compared 61 = .ok (.goto 9, 3) := dk_167 0 9 (dk_at dksX4_compared_2 15 rfl rfl)
theorem dX4_compared_64 : decode cX4_compared 64 = .ok (.iload_n 3, 1) := dk_29 (dk_at dksX4_compared_2 18 rfl rfl)
theorem dX4_compared_65 : decode cX4_compared 65 = .ok (.invokedynamic 256, 5) := by decide +kernel
theorem dX4_compared_70 : decode cX4_compared 70 = .ok (.areturn, 1) := dk_176 (dk_at dksX4_compared_3 0 rfl rfl)
theorem dX4_compared_71 : decode cX4_compared 71 = .ok (.iload_n 2, 1) := dk_28 (dk_at dksX4_compared_3 1 rfl rfl)
theorem dX4_compared_72 : decode cX4_compared 72 = .ok (.ifCond .eq 12, 3) := dk_153 0 12 (dk_at dksX4_compared_3 2 rfl rfl)
theorem dX4_compared_75 : decode cX4_compared 75 = .ok (.iload_n 3, 1) := dk_29 (dk_at dksX4_compared_3 5 rfl rfl)
theorem dX4_compared_76 : decode cX4_compared 76 = .ok (.invokedynamic 257, 5) := by decide +kernel
theorem dX4_compared_81 : decode cX4_compared 81 = .ok (.goto 9, 3) := dk_167 0 9 (dk_at dksX4_compared_3 11 rfl rfl)
theorem dX4_compared_84 : decode cX4_compared 84 = .ok (.iload_n 3, 1) := dk_29 (dk_at dksX4_compared_3 14 rfl rfl)
theorem dX4_compared_85 : decode cX4_compared 85 = .ok (.invokedynamic 258, 5) := by decide +kernel
theorem dX4_compared_90 : decode cX4_compared 90 = .ok (.areturn, 1) := dk_176 (dk_at dksX4_compared_3 20 rfl rfl)
abbrev cX4_lambda_compared_0 : ByteArray := prog_7_method_30_code
def yX4_lambda_compared_0 : MethodName := ⟨RX4, "lambda$compared$0", "(ILMailSessions$Message;)Z"⟩
def dkwX4_lambda_compared_0_0 : List UInt8 := [43, 180, 1, 41, 26, 162, 0, 7, 4, 167, 0, 4, 3, 172]
abbrev dktX4_lambda_compared_0_0 : List UInt8 := dkwX4_lambda_compared_0_0 ++ []
theorem dksX4_lambda_compared_0_0 : cX4_lambda_compared_0.data.toList.drop 0 = dktX4_lambda_compared_0_0 := by decide +kernel
theorem dX4_lambda_compared_0_0 : decode cX4_lambda_compared_0 0 = .ok (.aload_n 1, 1) := dk_43 (dk_at dksX4_lambda_compared_0_0 0 rfl rfl)
theorem dX4_lambda_compared_0_1 : decode cX4_lambda_compared_0 1 = .ok (.getfield 297, 3) := dk_180 1 41 (dk_at dksX4_lambda_compared_0_0 1 rfl rfl)
theorem dX4_lambda_compared_0_4 : decode cX4_lambda_compared_0 4 = .ok (.iload_n 0, 1) := dk_26 (dk_at dksX4_lambda_compared_0_0 4 rfl rfl)
theorem dX4_lambda_compared_0_5 : decode cX4_lambda_compared_0 5 = .ok (.if_icmp .ge 7, 3) := dk_162 0 7 (dk_at dksX4_lambda_compared_0_0 5 rfl rfl)
theorem dX4_lambda_compared_0_8 : decode cX4_lambda_compared_0 8 = .ok (.iconst 1, 1) := dk_4 (dk_at dksX4_lambda_compared_0_0 8 rfl rfl)
theorem dX4_lambda_compared_0_9 : decode cX4_lambda_compared_0 9 = .ok (.goto 4, 3) := dk_167 0 4 (dk_at dksX4_lambda_compared_0_0 9 rfl rfl)
theorem dX4_lambda_compared_0_12 : decode cX4_lambda_compared_0 12 = .ok (.iconst 0, 1) := dk_3 (dk_at dksX4_lambda_compared_0_0 12 rfl rfl)
theorem dX4_lambda_compared_0_13 : decode cX4_lambda_compared_0 13 = .ok (.ireturn, 1) := dk_172 (dk_at dksX4_lambda_compared_0_0 13 rfl rfl)
abbrev cX4_lambda_compared_1 : ByteArray := prog_7_method_29_code
def yX4_lambda_compared_1 : MethodName := ⟨RX4, "lambda$compared$1", "(ILMailSessions$Message;)Z"⟩
def dkwX4_lambda_compared_1_0 : List UInt8 := [43, 180, 1, 41, 26, 164, 0, 7, 4, 167, 0, 4, 3, 172]
abbrev dktX4_lambda_compared_1_0 : List UInt8 := dkwX4_lambda_compared_1_0 ++ []
theorem dksX4_lambda_compared_1_0 : cX4_lambda_compared_1.data.toList.drop 0 = dktX4_lambda_compared_1_0 := by decide +kernel
theorem dX4_lambda_compared_1_0 : decode cX4_lambda_compared_1 0 = .ok (.aload_n 1, 1) := dk_43 (dk_at dksX4_lambda_compared_1_0 0 rfl rfl)
theorem dX4_lambda_compared_1_1 : decode cX4_lambda_compared_1 1 = .ok (.getfield 297, 3) := dk_180 1 41 (dk_at dksX4_lambda_compared_1_0 1 rfl rfl)
theorem dX4_lambda_compared_1_4 : decode cX4_lambda_compared_1 4 = .ok (.iload_n 0, 1) := dk_26 (dk_at dksX4_lambda_compared_1_0 4 rfl rfl)
theorem dX4_lambda_compared_1_5 : decode cX4_lambda_compared_1 5 = .ok (.if_icmp .le 7, 3) := dk_164 0 7 (dk_at dksX4_lambda_compared_1_0 5 rfl rfl)
theorem dX4_lambda_compared_1_8 : decode cX4_lambda_compared_1 8 = .ok (.iconst 1, 1) := dk_4 (dk_at dksX4_lambda_compared_1_0 8 rfl rfl)
theorem dX4_lambda_compared_1_9 : decode cX4_lambda_compared_1 9 = .ok (.goto 4, 3) := dk_167 0 4 (dk_at dksX4_lambda_compared_1_0 9 rfl rfl)
theorem dX4_lambda_compared_1_12 : decode cX4_lambda_compared_1 12 = .ok (.iconst 0, 1) := dk_3 (dk_at dksX4_lambda_compared_1_0 12 rfl rfl)
theorem dX4_lambda_compared_1_13 : decode cX4_lambda_compared_1 13 = .ok (.ireturn, 1) := dk_172 (dk_at dksX4_lambda_compared_1_0 13 rfl rfl)
abbrev cX4_lambda_compared_2 : ByteArray := prog_7_method_28_code
def yX4_lambda_compared_2 : MethodName := ⟨RX4, "lambda$compared$2", "(ILMailSessions$Message;)Z"⟩
def dkwX4_lambda_compared_2_0 : List UInt8 := [43, 180, 1, 37, 26, 162, 0, 7, 4, 167, 0, 4, 3, 172]
abbrev dktX4_lambda_compared_2_0 : List UInt8 := dkwX4_lambda_compared_2_0 ++ []
theorem dksX4_lambda_compared_2_0 : cX4_lambda_compared_2.data.toList.drop 0 = dktX4_lambda_compared_2_0 := by decide +kernel
theorem dX4_lambda_compared_2_0 : decode cX4_lambda_compared_2 0 = .ok (.aload_n 1, 1) := dk_43 (dk_at dksX4_lambda_compared_2_0 0 rfl rfl)
theorem dX4_lambda_compared_2_1 : decode cX4_lambda_compared_2 1 = .ok (.getfield 293, 3) := dk_180 1 37 (dk_at dksX4_lambda_compared_2_0 1 rfl rfl)
theorem dX4_lambda_compared_2_4 : decode cX4_lambda_compared_2 4 = .ok (.iload_n 0, 1) := dk_26 (dk_at dksX4_lambda_compared_2_0 4 rfl rfl)
theorem dX4_lambda_compared_2_5 : decode cX4_lambda_compared_2 5 = .ok (.if_icmp .ge 7, 3) := dk_162 0 7 (dk_at dksX4_lambda_compared_2_0 5 rfl rfl)
theorem dX4_lambda_compared_2_8 : decode cX4_lambda_compared_2 8 = .ok (.iconst 1, 1) := dk_4 (dk_at dksX4_lambda_compared_2_0 8 rfl rfl)
theorem dX4_lambda_compared_2_9 : decode cX4_lambda_compared_2 9 = .ok (.goto 4, 3) := dk_167 0 4 (dk_at dksX4_lambda_compared_2_0 9 rfl rfl)
theorem dX4_lambda_compared_2_12 : decode cX4_lambda_compared_2 12 = .ok (.iconst 0, 1) := dk_3 (dk_at dksX4_lambda_compared_2_0 12 rfl rfl)
theorem dX4_lambda_compared_2_13 : decode cX4_lambda_compared_2 13 = .ok (.ireturn, 1) := dk_172 (dk_at dksX4_lambda_compared_2_0 13 rfl rfl)
abbrev cX4_lambda_compared_3 : ByteArray := prog_7_method_27_code
def yX4_lambda_compared_3 : MethodName := ⟨RX4, "lambda$compared$3", "(ILMailSessions$Message;)Z"⟩
def dkwX4_lambda_compared_3_0 : List UInt8 := [43, 180, 1, 37, 26, 164, 0, 7, 4, 167, 0, 4, 3, 172]
abbrev dktX4_lambda_compared_3_0 : List UInt8 := dkwX4_lambda_compared_3_0 ++ []
theorem dksX4_lambda_compared_3_0 : cX4_lambda_compared_3.data.toList.drop 0 = dktX4_lambda_compared_3_0 := by decide +kernel
theorem dX4_lambda_compared_3_0 : decode cX4_lambda_compared_3 0 = .ok (.aload_n 1, 1) := dk_43 (dk_at dksX4_lambda_compared_3_0 0 rfl rfl)
theorem dX4_lambda_compared_3_1 : decode cX4_lambda_compared_3 1 = .ok (.getfield 293, 3) := dk_180 1 37 (dk_at dksX4_lambda_compared_3_0 1 rfl rfl)
theorem dX4_lambda_compared_3_4 : decode cX4_lambda_compared_3 4 = .ok (.iload_n 0, 1) := dk_26 (dk_at dksX4_lambda_compared_3_0 4 rfl rfl)
theorem dX4_lambda_compared_3_5 : decode cX4_lambda_compared_3 5 = .ok (.if_icmp .le 7, 3) := dk_164 0 7 (dk_at dksX4_lambda_compared_3_0 5 rfl rfl)
theorem dX4_lambda_compared_3_8 : decode cX4_lambda_compared_3 8 = .ok (.iconst 1, 1) := dk_4 (dk_at dksX4_lambda_compared_3_0 8 rfl rfl)
theorem dX4_lambda_compared_3_9 : decode cX4_lambda_compared_3 9 = .ok (.goto 4, 3) := dk_167 0 4 (dk_at dksX4_lambda_compared_3_0 9 rfl rfl)
theorem dX4_lambda_compared_3_12 : decode cX4_lambda_compared_3 12 = .ok (.iconst 0, 1) := dk_3 (dk_at dksX4_lambda_compared_3_0 12 rfl rfl)
theorem dX4_lambda_compared_3_13 : decode cX4_lambda_compared_3 13 = .ok (.ireturn, 1) := dk_172 (dk_at dksX4_lambda_compared_3_0 13 rfl rfl)
abbrev cX4_goIn : ByteArray := prog_7_method_19_code
def yX4_goIn : MethodName := ⟨RX4, "goIn", "()V"⟩
def dkwX4_goIn_1 : List UInt8 := [96, 181, 0, 249, 42, 182, 0, 36, 177]
abbrev dktX4_goIn_1 : List UInt8 := dkwX4_goIn_1 ++ []
def dkwX4_goIn_0 : List UInt8 := [42, 42, 180, 0, 249, 8, 162, 0, 7, 4, 167, 0, 4, 3, 8, 182, 0, 115, 42, 89, 180, 0, 249, 4]
abbrev dktX4_goIn_0 : List UInt8 := dkwX4_goIn_0 ++ dktX4_goIn_1
theorem dksX4_goIn_0 : cX4_goIn.data.toList.drop 0 = dktX4_goIn_0 := by decide +kernel
theorem dksX4_goIn_1 : cX4_goIn.data.toList.drop 24 = dktX4_goIn_1 := dk_seg dksX4_goIn_0 24 rfl rfl
theorem dX4_goIn_0 : decode cX4_goIn 0 = .ok (.aload_n 0, 1) := dk_42 (dk_at dksX4_goIn_0 0 rfl rfl)
theorem dX4_goIn_1 : decode cX4_goIn 1 = .ok (.aload_n 0, 1) := dk_42 (dk_at dksX4_goIn_0 1 rfl rfl)
theorem dX4_goIn_2 : decode cX4_goIn 2 = .ok (.getfield 249, 3) := dk_180 0 249 (dk_at dksX4_goIn_0 2 rfl rfl)
theorem dX4_goIn_5 : decode cX4_goIn 5 = .ok (.iconst 5, 1) := dk_8 (dk_at dksX4_goIn_0 5 rfl rfl)
theorem dX4_goIn_6 : decode cX4_goIn 6 = .ok (.if_icmp .ge 7, 3) := dk_162 0 7 (dk_at dksX4_goIn_0 6 rfl rfl)
theorem dX4_goIn_9 : decode cX4_goIn 9 = .ok (.iconst 1, 1) := dk_4 (dk_at dksX4_goIn_0 9 rfl rfl)
theorem dX4_goIn_10 : decode cX4_goIn 10 = .ok (.goto 4, 3) := dk_167 0 4 (dk_at dksX4_goIn_0 10 rfl rfl)
theorem dX4_goIn_13 : decode cX4_goIn 13 = .ok (.iconst 0, 1) := dk_3 (dk_at dksX4_goIn_0 13 rfl rfl)
theorem dX4_goIn_14 : decode cX4_goIn 14 = .ok (.iconst 5, 1) := dk_8 (dk_at dksX4_goIn_0 14 rfl rfl)
theorem dX4_goIn_15 : decode cX4_goIn 15 = .ok (.invokevirtual 115, 3) := dk_182 0 115 (dk_at dksX4_goIn_0 15 rfl rfl)
theorem dX4_goIn_18 : decode cX4_goIn 18 = .ok (.aload_n 0, 1) := dk_42 (dk_at dksX4_goIn_0 18 rfl rfl)
theorem dX4_goIn_19 : decode cX4_goIn 19 = .ok (.dup, 1) := dk_89 (dk_at dksX4_goIn_0 19 rfl rfl)
theorem dX4_goIn_20 : decode cX4_goIn 20 = .ok (.getfield 249, 3) := dk_180 0 249 (dk_at dksX4_goIn_0 20 rfl rfl)
theorem dX4_goIn_23 : decode cX4_goIn 23 = .ok (.iconst 1, 1) := dk_4 (dk_at dksX4_goIn_0 23 rfl rfl)
theorem dX4_goIn_24 : decode cX4_goIn 24 = .ok (.iadd, 1) := dk_96 (dk_at dksX4_goIn_1 0 rfl rfl)
theorem dX4_goIn_25 : decode cX4_goIn 25 = .ok (.putfield 249, 3) := dk_181 0 249 (dk_at dksX4_goIn_1 1 rfl rfl)
theorem dX4_goIn_28 : decode cX4_goIn 28 = .ok (.aload_n 0, 1) := dk_42 (dk_at dksX4_goIn_1 4 rfl rfl)
theorem dX4_goIn_29 : decode cX4_goIn 29 = .ok (.invokevirtual 36, 3) := dk_182 0 36 (dk_at dksX4_goIn_1 5 rfl rfl)
theorem dX4_goIn_32 : decode cX4_goIn 32 = .ok (.return_, 1) := dk_177 (dk_at dksX4_goIn_1 8 rfl rfl)
abbrev cX4_beginsFactor : ByteArray := prog_7_method_20_code
def yX4_beginsFactor : MethodName := ⟨RX4, "beginsFactor", "()Z"⟩
def dkwX4_beginsFactor_2 : List UInt8 := [182, 0, 226, 153, 0, 7, 4, 167, 0, 4, 3, 172]
abbrev dktX4_beginsFactor_2 : List UInt8 := dkwX4_beginsFactor_2 ++ []
def dkwX4_beginsFactor_1 : List UInt8 := [154, 0, 30, 42, 18, 139, 182, 0, 111, 154, 0, 21, 42, 18, 147, 182, 0, 111, 154, 0, 12, 42, 16, 40]
abbrev dktX4_beginsFactor_1 : List UInt8 := dkwX4_beginsFactor_1 ++ dktX4_beginsFactor_2
def dkwX4_beginsFactor_0 : List UInt8 := [42, 182, 0, 153, 2, 160, 0, 48, 42, 18, 149, 182, 0, 111, 154, 0, 39, 42, 18, 145, 182, 0, 111]
abbrev dktX4_beginsFactor_0 : List UInt8 := dkwX4_beginsFactor_0 ++ dktX4_beginsFactor_1
theorem dksX4_beginsFactor_0 : cX4_beginsFactor.data.toList.drop 0 = dktX4_beginsFactor_0 := by decide +kernel
theorem dksX4_beginsFactor_1 : cX4_beginsFactor.data.toList.drop 23 = dktX4_beginsFactor_1 := dk_seg dksX4_beginsFactor_0 23 rfl rfl
theorem dksX4_beginsFactor_2 : cX4_beginsFactor.data.toList.drop 47 = dktX4_beginsFactor_2 := dk_seg dksX4_beginsFactor_1 24 rfl rfl
theorem dX4_beginsFactor_0 : decode cX4_beginsFactor 0 = .ok (.aload_n 0, 1) := dk_42 (dk_at dksX4_beginsFactor_0 0 rfl rfl)
theorem dX4_beginsFactor_1 : decode cX4_beginsFactor 1 = .ok (.invokevirtual 153, 3) := dk_182 0 153 (dk_at dksX4_beginsFactor_0 1 rfl rfl)
theorem dX4_beginsFactor_4 : decode cX4_beginsFactor 4 = .ok (.iconst (-1), 1) := dk_2 (dk_at dksX4_beginsFactor_0 4 rfl rfl)
theorem dX4_beginsFactor_5 : decode cX4_beginsFactor 5 = .ok (.if_icmp .ne 48, 3) := dk_160 0 48 (dk_at dksX4_beginsFactor_0 5 rfl rfl)
theorem dX4_beginsFactor_8 : decode cX4_beginsFactor 8 = .ok (.aload_n 0, 1) := dk_42 (dk_at dksX4_beginsFactor_0 8 rfl rfl)
theorem dX4_beginsFactor_9 : decode cX4_beginsFactor 9 = .ok (.ldc 149, 2) := dk_18 149 (dk_at dksX4_beginsFactor_0 9 rfl rfl)
theorem dX4_beginsFactor_11 : decode cX4_beginsFactor 11 = .ok (.invokevirtual 111, 3) := dk_182 0 111 (dk_at dksX4_beginsFactor_0 11 rfl rfl)
theorem dX4_beginsFactor_14 : decode cX4_beginsFactor 14 = .ok (.ifCond .ne 39, 3) := dk_154 0 39 (dk_at dksX4_beginsFactor_0 14 rfl rfl)
theorem dX4_beginsFactor_17 : decode cX4_beginsFactor 17 = .ok (.aload_n 0, 1) := dk_42 (dk_at dksX4_beginsFactor_0 17 rfl rfl)
theorem dX4_beginsFactor_18 : decode cX4_beginsFactor 18 = .ok (.ldc 145, 2) := dk_18 145 (dk_at dksX4_beginsFactor_0 18 rfl rfl)
theorem dX4_beginsFactor_20 : decode cX4_beginsFactor 20 = .ok (.invokevirtual 111, 3) := dk_182 0 111 (dk_at dksX4_beginsFactor_0 20 rfl rfl)
theorem dX4_beginsFactor_23 : decode cX4_beginsFactor 23 = .ok (.ifCond .ne 30, 3) := dk_154 0 30 (dk_at dksX4_beginsFactor_1 0 rfl rfl)
theorem dX4_beginsFactor_26 : decode cX4_beginsFactor 26 = .ok (.aload_n 0, 1) := dk_42 (dk_at dksX4_beginsFactor_1 3 rfl rfl)
theorem dX4_beginsFactor_27 : decode cX4_beginsFactor 27 = .ok (.ldc 139, 2) := dk_18 139 (dk_at dksX4_beginsFactor_1 4 rfl rfl)
theorem dX4_beginsFactor_29 : decode cX4_beginsFactor 29 = .ok (.invokevirtual 111, 3) := dk_182 0 111 (dk_at dksX4_beginsFactor_1 6 rfl rfl)
theorem dX4_beginsFactor_32 : decode cX4_beginsFactor 32 = .ok (.ifCond .ne 21, 3) := dk_154 0 21 (dk_at dksX4_beginsFactor_1 9 rfl rfl)
theorem dX4_beginsFactor_35 : decode cX4_beginsFactor 35 = .ok (.aload_n 0, 1) := dk_42 (dk_at dksX4_beginsFactor_1 12 rfl rfl)
theorem dX4_beginsFactor_36 : decode cX4_beginsFactor 36 = .ok (.ldc 147, 2) := dk_18 147 (dk_at dksX4_beginsFactor_1 13 rfl rfl)
theorem dX4_beginsFactor_38 : decode cX4_beginsFactor 38 = .ok (.invokevirtual 111, 3) := dk_182 0 111 (dk_at dksX4_beginsFactor_1 15 rfl rfl)
theorem dX4_beginsFactor_41 : decode cX4_beginsFactor 41 = .ok (.ifCond .ne 12, 3) := dk_154 0 12 (dk_at dksX4_beginsFactor_1 18 rfl rfl)
theorem dX4_beginsFactor_44 : decode cX4_beginsFactor 44 = .ok (.aload_n 0, 1) := dk_42 (dk_at dksX4_beginsFactor_1 21 rfl rfl)
theorem dX4_beginsFactor_45 : decode cX4_beginsFactor 45 = .ok (.bipush 40, 2) := dk_16 40 (dk_at dksX4_beginsFactor_1 22 rfl rfl)
theorem dX4_beginsFactor_47 : decode cX4_beginsFactor 47 = .ok (.invokevirtual 226, 3) := dk_182 0 226 (dk_at dksX4_beginsFactor_2 0 rfl rfl)
theorem dX4_beginsFactor_50 : decode cX4_beginsFactor 50 = .ok (.ifCond .eq 7, 3) := dk_153 0 7 (dk_at dksX4_beginsFactor_2 3 rfl rfl)
theorem dX4_beginsFactor_53 : decode cX4_beginsFactor 53 = .ok (.iconst 1, 1) := dk_4 (dk_at dksX4_beginsFactor_2 6 rfl rfl)
theorem dX4_beginsFactor_54 : decode cX4_beginsFactor 54 = .ok (.goto 4, 3) := dk_167 0 4 (dk_at dksX4_beginsFactor_2 7 rfl rfl)
theorem dX4_beginsFactor_57 : decode cX4_beginsFactor 57 = .ok (.iconst 0, 1) := dk_3 (dk_at dksX4_beginsFactor_2 10 rfl rfl)
theorem dX4_beginsFactor_58 : decode cX4_beginsFactor 58 = .ok (.ireturn, 1) := dk_172 (dk_at dksX4_beginsFactor_2 11 rfl rfl)
theorem q175 : (Jvm.Cond.initialized "MailSessions$Parser") ∈ lw_all := lw_g (lw_at lw_m1 25 rfl) rfl
theorem q550 : (Jvm.Cond.fieldLinkNest "MailSessions$Parser" (175 : Nat) "MailSessions$Server" "boxes" "Ljava/util/ArrayList;" "MailSessions") ∈ lw_tbl := lw_at lw_m2 160 rfl
theorem q553 : (Jvm.Cond.fieldLinkNest "MailSessions$Parser" (217 : Nat) "MailSessions$Server" "sessions" "Ljava/util/ArrayList;" "MailSessions") ∈ lw_tbl := lw_at lw_m2 163 rfl
theorem q556 : (Jvm.Cond.fieldLinkNest "MailSessions$Parser" (173 : Nat) "MailSessions$Server" "limit" "I" "MailSessions") ∈ lw_tbl := lw_at lw_m2 166 rfl
theorem q595 : (Jvm.Cond.fieldLinkNest "MailSessions$Parser" (46 : Nat) "MailSessions" "input" "[B" "MailSessions") ∈ lw_tbl := lw_at lw_m2 205 rfl
theorem q597 : (Jvm.Cond.fieldLinkNest "MailSessions$Parser" (43 : Nat) "MailSessions" "inputLength" "I" "MailSessions") ∈ lw_tbl := lw_at lw_m2 207 rfl
theorem q631 : (Jvm.Cond.instantiable "MailSessions$Parser" (11 : Nat)) ∈ lw_all := lw_g (lw_at lw_m3 1 rfl) rfl
theorem q633 : (Jvm.Cond.instanceMethod ({ cls := "MailSessions$Parser", name := "<init>", desc := "(LMailSessions;)V" } : Jvm.MethodName)) ∈ lw_all := lw_g (lw_at lw_m3 3 rfl) rfl
theorem q634 : (Jvm.Cond.code ({ cls := "MailSessions$Parser", name := "<init>", desc := "(LMailSessions;)V" } : Jvm.MethodName) prog_7_method_1_code (2 : Nat) (Option.none : Option Jvm.ClassFile.FieldType)) ∈ lw_all := lw_g (lw_at lw_m3 4 rfl) rfl
theorem q635 : (Jvm.Cond.methodLink "MailSessions$Parser" (9 : Nat) ({ cls := "java/lang/Object", name := "<init>", desc := "()V" } : Jvm.MethodName)) ∈ lw_all := lw_g (lw_at lw_m3 5 rfl) rfl
theorem q636 : (Jvm.Cond.classLink "MailSessions$Parser" (15 : Nat) "MailSessions$Server") ∈ lw_all := lw_g (lw_at lw_m3 6 rfl) rfl
theorem q637 : (Jvm.Cond.methodLink "MailSessions$Parser" (17 : Nat) ({ cls := "MailSessions$Server", name := "<init>", desc := "()V" } : Jvm.MethodName)) ∈ lw_all := lw_g (lw_at lw_m3 7 rfl) rfl
theorem q638 : (Jvm.Cond.stringRef "MailSessions$Parser" (30 : Nat) "") ∈ lw_tbl := lw_at lw_m3 8 rfl
theorem q639 : (Jvm.Cond.methodLink "MailSessions$Parser" (36 : Nat) ({ cls := "MailSessions$Parser", name := "next", desc := "()V" } : Jvm.MethodName)) ∈ lw_all := lw_g (lw_at lw_m3 9 rfl) rfl
theorem q640 : (Jvm.Cond.privateMethod ({ cls := "MailSessions$Parser", name := "next", desc := "()V" } : Jvm.MethodName)) ∈ lw_tbl := lw_at lw_m3 10 rfl
theorem q641 : (Jvm.Cond.instanceMethod ({ cls := "MailSessions$Parser", name := "next", desc := "()V" } : Jvm.MethodName)) ∈ lw_all := lw_g (lw_at lw_m3 11 rfl) rfl
theorem q642 : (Jvm.Cond.code ({ cls := "MailSessions$Parser", name := "next", desc := "()V" } : Jvm.MethodName) prog_7_method_3_code (2 : Nat) (Option.none : Option Jvm.ClassFile.FieldType)) ∈ lw_all := lw_g (lw_at lw_m3 12 rfl) rfl
theorem q643 : (Jvm.Cond.methodLink "MailSessions$Parser" (54 : Nat) ({ cls := "MailSessions$Parser", name := "isAt", desc := "(II)Z" } : Jvm.MethodName)) ∈ lw_all := lw_g (lw_at lw_m3 13 rfl) rfl
theorem q644 : (Jvm.Cond.privateMethod ({ cls := "MailSessions$Parser", name := "isAt", desc := "(II)Z" } : Jvm.MethodName)) ∈ lw_tbl := lw_at lw_m3 14 rfl
theorem q645 : (Jvm.Cond.instanceMethod ({ cls := "MailSessions$Parser", name := "isAt", desc := "(II)Z" } : Jvm.MethodName)) ∈ lw_all := lw_g (lw_at lw_m3 15 rfl) rfl
theorem q646 : (Jvm.Cond.code ({ cls := "MailSessions$Parser", name := "isAt", desc := "(II)Z" } : Jvm.MethodName) prog_7_method_2_code (3 : Nat) (Option.some Jvm.ClassFile.FieldType.boolean)) ∈ lw_all := lw_g (lw_at lw_m3 16 rfl) rfl
theorem q647 : (Jvm.Cond.methodLinkNest "MailSessions$Parser" (50 : Nat) ({ cls := "MailSessions", name := "inRange", desc := "(JJJ)Z" } : Jvm.MethodName) "MailSessions") ∈ lw_tbl := lw_at lw_m3 17 rfl
theorem q650 : (Jvm.Cond.fieldLink "MailSessions$Parser" (64 : Nat) "MailSessions$Token" "END" "LMailSessions$Token;") ∈ lw_all := lw_g (lw_at lw_m3 20 rfl) rfl
theorem q652 : (Jvm.Cond.fieldLink "MailSessions$Parser" (73 : Nat) "MailSessions$Token" "WORD" "LMailSessions$Token;") ∈ lw_all := lw_g (lw_at lw_m3 22 rfl) rfl
theorem q654 : (Jvm.Cond.classLink "MailSessions$Parser" (76 : Nat) "java/lang/StringBuilder") ∈ lw_all := lw_g (lw_at lw_m3 24 rfl) rfl
theorem q655 : (Jvm.Cond.methodLink "MailSessions$Parser" (78 : Nat) ({ cls := "java/lang/StringBuilder", name := "<init>", desc := "()V" } : Jvm.MethodName)) ∈ lw_all := lw_g (lw_at lw_m3 25 rfl) rfl
theorem q656 : (Jvm.Cond.methodLink "MailSessions$Parser" (79 : Nat) ({ cls := "java/lang/StringBuilder", name := "append", desc := "(C)Ljava/lang/StringBuilder;" } : Jvm.MethodName)) ∈ lw_all := lw_g (lw_at lw_m3 26 rfl) rfl
theorem q678 : (Jvm.Cond.methodLink "MailSessions$Parser" (83 : Nat) ({ cls := "java/lang/StringBuilder", name := "toString", desc := "()Ljava/lang/String;" } : Jvm.MethodName)) ∈ lw_all := lw_g (lw_at lw_m3 48 rfl) rfl
theorem q679 : (Jvm.Cond.fieldLink "MailSessions$Parser" (87 : Nat) "MailSessions$Token" "NUMBER" "LMailSessions$Token;") ∈ lw_all := lw_g (lw_at lw_m3 49 rfl) rfl
theorem q681 : (Jvm.Cond.constant "MailSessions$Parser" (90 : Nat) (10000000 : Int32)) ∈ lw_all := lw_g (lw_at lw_m3 51 rfl) rfl
theorem q682 : (Jvm.Cond.methodLink "MailSessions$Parser" (91 : Nat) ({ cls := "java/lang/Math", name := "min", desc := "(II)I" } : Jvm.MethodName)) ∈ lw_all := lw_g (lw_at lw_m3 52 rfl) rfl
theorem q683 : (Jvm.Cond.fieldLink "MailSessions$Parser" (97 : Nat) "MailSessions$Token" "SYMBOL" "LMailSessions$Token;") ∈ lw_all := lw_g (lw_at lw_m3 53 rfl) rfl
theorem q685 : (Jvm.Cond.fieldLink "MailSessions$Parser" (18 : Nat) "MailSessions$Parser" "parsed" "LMailSessions$Server;") ∈ lw_all := lw_g (lw_at lw_m3 55 rfl) rfl
theorem q686 : (Jvm.Cond.fieldLink "MailSessions$Parser" (22 : Nat) "MailSessions$Parser" "selected" "[I") ∈ lw_all := lw_g (lw_at lw_m3 56 rfl) rfl
theorem q687 : (Jvm.Cond.fieldLink "MailSessions$Parser" (26 : Nat) "MailSessions$Parser" "onlyReads" "[Z") ∈ lw_all := lw_g (lw_at lw_m3 57 rfl) rfl
theorem q688 : (Jvm.Cond.fieldLink "MailSessions$Parser" (39 : Nat) "MailSessions$Parser" "at" "I") ∈ lw_all := lw_g (lw_at lw_m3 58 rfl) rfl
theorem q689 : (Jvm.Cond.fieldLink "MailSessions$Parser" (58 : Nat) "MailSessions$Parser" "start" "I") ∈ lw_all := lw_g (lw_at lw_m3 59 rfl) rfl
theorem q690 : (Jvm.Cond.fieldLink "MailSessions$Parser" (61 : Nat) "MailSessions$Parser" "value" "I") ∈ lw_all := lw_g (lw_at lw_m3 60 rfl) rfl
theorem q691 : (Jvm.Cond.fieldLink "MailSessions$Parser" (249 : Nat) "MailSessions$Parser" "open" "I") ∈ lw_all := lw_g (lw_at lw_m3 61 rfl) rfl
theorem q692 : (Jvm.Cond.fieldLink "MailSessions$Parser" (166 : Nat) "MailSessions$Parser" "hasLimit" "Z") ∈ lw_all := lw_g (lw_at lw_m3 62 rfl) rfl
theorem q693 : (Jvm.Cond.fieldLink "MailSessions$Parser" (32 : Nat) "MailSessions$Parser" "word" "Ljava/lang/String;") ∈ lw_all := lw_g (lw_at lw_m3 63 rfl) rfl
theorem q694 : (Jvm.Cond.fieldLink "MailSessions$Parser" (70 : Nat) "MailSessions$Parser" "token" "LMailSessions$Token;") ∈ lw_all := lw_g (lw_at lw_m3 64 rfl) rfl
theorem q695 : (Jvm.Cond.fieldLink "MailSessions$Parser" (3 : Nat) "MailSessions$Parser" "this$0" "LMailSessions;") ∈ lw_all := lw_g (lw_at lw_m3 65 rfl) rfl
theorem q696 : (Jvm.Cond.laysFinal "MailSessions$Parser" "MailSessions$Parser" "parsed" "LMailSessions$Server;") ∈ lw_all := lw_g (lw_at lw_m3 66 rfl) rfl
theorem q697 : (Jvm.Cond.soleField "MailSessions$Parser" "parsed") ∈ lw_all := lw_g (lw_at lw_m3 67 rfl) rfl
theorem q698 : (Jvm.Cond.laysFinal "MailSessions$Parser" "MailSessions$Parser" "selected" "[I") ∈ lw_all := lw_g (lw_at lw_m3 68 rfl) rfl
theorem q699 : (Jvm.Cond.soleField "MailSessions$Parser" "selected") ∈ lw_all := lw_g (lw_at lw_m3 69 rfl) rfl
theorem q700 : (Jvm.Cond.laysFinal "MailSessions$Parser" "MailSessions$Parser" "onlyReads" "[Z") ∈ lw_all := lw_g (lw_at lw_m3 70 rfl) rfl
theorem q701 : (Jvm.Cond.soleField "MailSessions$Parser" "onlyReads") ∈ lw_all := lw_g (lw_at lw_m3 71 rfl) rfl
theorem q702 : (Jvm.Cond.lays "MailSessions$Parser" "MailSessions$Parser" "at" "I") ∈ lw_all := lw_g (lw_at lw_m3 72 rfl) rfl
theorem q703 : (Jvm.Cond.soleField "MailSessions$Parser" "at") ∈ lw_all := lw_g (lw_at lw_m3 73 rfl) rfl
theorem q704 : (Jvm.Cond.lays "MailSessions$Parser" "MailSessions$Parser" "start" "I") ∈ lw_all := lw_g (lw_at lw_m3 74 rfl) rfl
theorem q705 : (Jvm.Cond.soleField "MailSessions$Parser" "start") ∈ lw_all := lw_g (lw_at lw_m3 75 rfl) rfl
theorem q706 : (Jvm.Cond.lays "MailSessions$Parser" "MailSessions$Parser" "value" "I") ∈ lw_all := lw_g (lw_at lw_m3 76 rfl) rfl
theorem q707 : (Jvm.Cond.soleField "MailSessions$Parser" "value") ∈ lw_all := lw_g (lw_at lw_m3 77 rfl) rfl
theorem q708 : (Jvm.Cond.lays "MailSessions$Parser" "MailSessions$Parser" "open" "I") ∈ lw_all := lw_g (lw_at lw_m3 78 rfl) rfl
theorem q709 : (Jvm.Cond.soleField "MailSessions$Parser" "open") ∈ lw_all := lw_g (lw_at lw_m3 79 rfl) rfl
theorem q710 : (Jvm.Cond.lays "MailSessions$Parser" "MailSessions$Parser" "hasLimit" "Z") ∈ lw_all := lw_g (lw_at lw_m3 80 rfl) rfl
theorem q711 : (Jvm.Cond.soleField "MailSessions$Parser" "hasLimit") ∈ lw_all := lw_g (lw_at lw_m3 81 rfl) rfl
theorem q712 : (Jvm.Cond.lays "MailSessions$Parser" "MailSessions$Parser" "word" "Ljava/lang/String;") ∈ lw_all := lw_g (lw_at lw_m3 82 rfl) rfl
theorem q713 : (Jvm.Cond.soleField "MailSessions$Parser" "word") ∈ lw_all := lw_g (lw_at lw_m3 83 rfl) rfl
theorem q714 : (Jvm.Cond.lays "MailSessions$Parser" "MailSessions$Parser" "token" "LMailSessions$Token;") ∈ lw_all := lw_g (lw_at lw_m3 84 rfl) rfl
theorem q715 : (Jvm.Cond.soleField "MailSessions$Parser" "token") ∈ lw_all := lw_g (lw_at lw_m3 85 rfl) rfl
theorem q716 : (Jvm.Cond.laysFinal "MailSessions$Parser" "MailSessions$Parser" "this$0" "LMailSessions;") ∈ lw_all := lw_g (lw_at lw_m3 86 rfl) rfl
theorem q717 : (Jvm.Cond.soleField "MailSessions$Parser" "this$0") ∈ lw_all := lw_g (lw_at lw_m3 87 rfl) rfl
theorem q718 : (Jvm.Cond.superclass "MailSessions$Parser" "java/lang/Object") ∈ lw_all := lw_g (lw_at lw_m3 88 rfl) rfl
theorem q722 : (Jvm.Cond.instanceMethod ({ cls := "MailSessions$Parser", name := "parse", desc := "()LMailSessions$Server;" } : Jvm.MethodName)) ∈ lw_all := lw_g (lw_at lw_m3 92 rfl) rfl
theorem q723 : (Jvm.Cond.selects "MailSessions$Parser" ({ cls := "MailSessions$Parser", name := "parse", desc := "()LMailSessions$Server;" } : Jvm.MethodName) ({ cls := "MailSessions$Parser", name := "parse", desc := "()LMailSessions$Server;" } : Jvm.MethodName)) ∈ lw_all := lw_g (lw_at lw_m3 93 rfl) rfl
theorem q724 : (Jvm.Cond.code ({ cls := "MailSessions$Parser", name := "parse", desc := "()LMailSessions$Server;" } : Jvm.MethodName) prog_7_method_18_code (3 : Nat) (Option.some (Jvm.ClassFile.FieldType.object "MailSessions$Server"))) ∈ lw_all := lw_g (lw_at lw_m3 94 rfl) rfl
theorem q725 : (Jvm.Cond.methodLink "MailSessions$Parser" (242 : Nat) ({ cls := "MailSessions$Parser", name := "parseStatement", desc := "()V" } : Jvm.MethodName)) ∈ lw_all := lw_g (lw_at lw_m3 95 rfl) rfl
theorem q726 : (Jvm.Cond.privateMethod ({ cls := "MailSessions$Parser", name := "parseStatement", desc := "()V" } : Jvm.MethodName)) ∈ lw_tbl := lw_at lw_m3 96 rfl
theorem q727 : (Jvm.Cond.instanceMethod ({ cls := "MailSessions$Parser", name := "parseStatement", desc := "()V" } : Jvm.MethodName)) ∈ lw_all := lw_g (lw_at lw_m3 97 rfl) rfl
theorem q728 : (Jvm.Cond.code ({ cls := "MailSessions$Parser", name := "parseStatement", desc := "()V" } : Jvm.MethodName) prog_7_method_17_code (3 : Nat) (Option.none : Option Jvm.ClassFile.FieldType)) ∈ lw_all := lw_g (lw_at lw_m3 98 rfl) rfl
theorem q729 : (Jvm.Cond.methodLink "MailSessions$Parser" (119 : Nat) ({ cls := "java/lang/String", name := "hashCode", desc := "()I" } : Jvm.MethodName)) ∈ lw_all := lw_g (lw_at lw_m3 99 rfl) rfl
theorem q790 : (Jvm.Cond.stringRef "MailSessions$Parser" (133 : Nat) "limit") ∈ lw_tbl := lw_at lw_m3 160 rfl
theorem q791 : (Jvm.Cond.methodLink "MailSessions$Parser" (105 : Nat) ({ cls := "java/lang/String", name := "equals", desc := "(Ljava/lang/Object;)Z" } : Jvm.MethodName)) ∈ lw_all := lw_g (lw_at lw_m3 161 rfl) rfl
theorem q799 : (Jvm.Cond.stringRef "MailSessions$Parser" (135 : Nat) "box") ∈ lw_tbl := lw_at lw_m3 169 rfl
theorem q800 : (Jvm.Cond.stringRef "MailSessions$Parser" (137 : Nat) "message") ∈ lw_tbl := lw_at lw_m3 170 rfl
theorem q801 : (Jvm.Cond.stringRef "MailSessions$Parser" (141 : Nat) "session") ∈ lw_tbl := lw_at lw_m3 171 rfl
theorem q802 : (Jvm.Cond.methodLink "MailSessions$Parser" (230 : Nat) ({ cls := "MailSessions$Parser", name := "parseLimit", desc := "()V" } : Jvm.MethodName)) ∈ lw_all := lw_g (lw_at lw_m3 172 rfl) rfl
theorem q803 : (Jvm.Cond.privateMethod ({ cls := "MailSessions$Parser", name := "parseLimit", desc := "()V" } : Jvm.MethodName)) ∈ lw_tbl := lw_at lw_m3 173 rfl
theorem q804 : (Jvm.Cond.instanceMethod ({ cls := "MailSessions$Parser", name := "parseLimit", desc := "()V" } : Jvm.MethodName)) ∈ lw_all := lw_g (lw_at lw_m3 174 rfl) rfl
theorem q805 : (Jvm.Cond.code ({ cls := "MailSessions$Parser", name := "parseLimit", desc := "()V" } : Jvm.MethodName) prog_7_method_12_code (1 : Nat) (Option.none : Option Jvm.ClassFile.FieldType)) ∈ lw_all := lw_g (lw_at lw_m3 175 rfl) rfl
theorem q806 : (Jvm.Cond.methodLink "MailSessions$Parser" (163 : Nat) ({ cls := "MailSessions$Server", name := "messages", desc := "()I" } : Jvm.MethodName)) ∈ lw_all := lw_g (lw_at lw_m3 176 rfl) rfl
theorem q827 : (Jvm.Cond.methodLink "MailSessions$Parser" (115 : Nat) ({ cls := "MailSessions$Parser", name := "require", desc := "(ZI)V" } : Jvm.MethodName)) ∈ lw_all := lw_g (lw_at lw_m3 197 rfl) rfl
theorem q828 : (Jvm.Cond.privateMethod ({ cls := "MailSessions$Parser", name := "require", desc := "(ZI)V" } : Jvm.MethodName)) ∈ lw_tbl := lw_at lw_m3 198 rfl
theorem q829 : (Jvm.Cond.instanceMethod ({ cls := "MailSessions$Parser", name := "require", desc := "(ZI)V" } : Jvm.MethodName)) ∈ lw_all := lw_g (lw_at lw_m3 199 rfl) rfl
theorem q830 : (Jvm.Cond.code ({ cls := "MailSessions$Parser", name := "require", desc := "(ZI)V" } : Jvm.MethodName) prog_7_method_4_code (3 : Nat) (Option.none : Option Jvm.ClassFile.FieldType)) ∈ lw_all := lw_g (lw_at lw_m3 200 rfl) rfl
theorem q831 : (Jvm.Cond.classLink "MailSessions$Parser" (100 : Nat) "MailSessions$ParseError") ∈ lw_all := lw_g (lw_at lw_m3 201 rfl) rfl
theorem q840 : (Jvm.Cond.methodLink "MailSessions$Parser" (102 : Nat) ({ cls := "MailSessions$ParseError", name := "<init>", desc := "(II)V" } : Jvm.MethodName)) ∈ lw_all := lw_g (lw_at lw_m3 210 rfl) rfl
theorem q859 : (Jvm.Cond.methodLink "MailSessions$Parser" (170 : Nat) ({ cls := "MailSessions$Parser", name := "number", desc := "(II)I" } : Jvm.MethodName)) ∈ lw_all := lw_g (lw_at lw_m3 229 rfl) rfl
theorem q860 : (Jvm.Cond.privateMethod ({ cls := "MailSessions$Parser", name := "number", desc := "(II)I" } : Jvm.MethodName)) ∈ lw_tbl := lw_at lw_m3 230 rfl
theorem q861 : (Jvm.Cond.instanceMethod ({ cls := "MailSessions$Parser", name := "number", desc := "(II)I" } : Jvm.MethodName)) ∈ lw_all := lw_g (lw_at lw_m3 231 rfl) rfl
theorem q862 : (Jvm.Cond.code ({ cls := "MailSessions$Parser", name := "number", desc := "(II)I" } : Jvm.MethodName) prog_7_method_8_code (4 : Nat) (Option.some Jvm.ClassFile.FieldType.int)) ∈ lw_all := lw_g (lw_at lw_m3 232 rfl) rfl
theorem q863 : (Jvm.Cond.methodLink "MailSessions$Parser" (233 : Nat) ({ cls := "MailSessions$Parser", name := "parseBox", desc := "()V" } : Jvm.MethodName)) ∈ lw_all := lw_g (lw_at lw_m3 233 rfl) rfl
theorem q864 : (Jvm.Cond.privateMethod ({ cls := "MailSessions$Parser", name := "parseBox", desc := "()V" } : Jvm.MethodName)) ∈ lw_tbl := lw_at lw_m3 234 rfl
theorem q865 : (Jvm.Cond.instanceMethod ({ cls := "MailSessions$Parser", name := "parseBox", desc := "()V" } : Jvm.MethodName)) ∈ lw_all := lw_g (lw_at lw_m3 235 rfl) rfl
theorem q866 : (Jvm.Cond.code ({ cls := "MailSessions$Parser", name := "parseBox", desc := "()V" } : Jvm.MethodName) prog_7_method_13_code (1 : Nat) (Option.none : Option Jvm.ClassFile.FieldType)) ∈ lw_all := lw_g (lw_at lw_m3 236 rfl) rfl
theorem q867 : (Jvm.Cond.methodLink "MailSessions$Parser" (179 : Nat) ({ cls := "java/util/ArrayList", name := "size", desc := "()I" } : Jvm.MethodName)) ∈ lw_all := lw_g (lw_at lw_m3 237 rfl) rfl
theorem q868 : (Jvm.Cond.methodLink "MailSessions$Parser" (183 : Nat) ({ cls := "MailSessions$Parser", name := "requireName", desc := "()V" } : Jvm.MethodName)) ∈ lw_all := lw_g (lw_at lw_m3 238 rfl) rfl
theorem q869 : (Jvm.Cond.privateMethod ({ cls := "MailSessions$Parser", name := "requireName", desc := "()V" } : Jvm.MethodName)) ∈ lw_tbl := lw_at lw_m3 239 rfl
theorem q870 : (Jvm.Cond.instanceMethod ({ cls := "MailSessions$Parser", name := "requireName", desc := "()V" } : Jvm.MethodName)) ∈ lw_all := lw_g (lw_at lw_m4 0 rfl) rfl
theorem q871 : (Jvm.Cond.code ({ cls := "MailSessions$Parser", name := "requireName", desc := "()V" } : Jvm.MethodName) prog_7_method_11_code (1 : Nat) (Option.none : Option Jvm.ClassFile.FieldType)) ∈ lw_all := lw_g (lw_at lw_m4 1 rfl) rfl
theorem q872 : (Jvm.Cond.methodLink "MailSessions$Parser" (156 : Nat) ({ cls := "java/lang/String", name := "length", desc := "()I" } : Jvm.MethodName)) ∈ lw_all := lw_g (lw_at lw_m4 2 rfl) rfl
theorem q873 : (Jvm.Cond.methodLink "MailSessions$Parser" (159 : Nat) ({ cls := "MailSessions$Parser", name := "isKeyword", desc := "()Z" } : Jvm.MethodName)) ∈ lw_all := lw_g (lw_at lw_m4 3 rfl) rfl
theorem q874 : (Jvm.Cond.privateMethod ({ cls := "MailSessions$Parser", name := "isKeyword", desc := "()Z" } : Jvm.MethodName)) ∈ lw_tbl := lw_at lw_m4 4 rfl
theorem q875 : (Jvm.Cond.instanceMethod ({ cls := "MailSessions$Parser", name := "isKeyword", desc := "()Z" } : Jvm.MethodName)) ∈ lw_all := lw_g (lw_at lw_m4 5 rfl) rfl
theorem q876 : (Jvm.Cond.code ({ cls := "MailSessions$Parser", name := "isKeyword", desc := "()Z" } : Jvm.MethodName) prog_7_method_10_code (3 : Nat) (Option.some Jvm.ClassFile.FieldType.boolean)) ∈ lw_all := lw_g (lw_at lw_m4 6 rfl) rfl
theorem q877 : (Jvm.Cond.stringRef "MailSessions$Parser" (139 : Nat) "size") ∈ lw_tbl := lw_at lw_m4 7 rfl
theorem q878 : (Jvm.Cond.stringRef "MailSessions$Parser" (143 : Nat) "reads") ∈ lw_tbl := lw_at lw_m4 8 rfl
theorem q879 : (Jvm.Cond.stringRef "MailSessions$Parser" (145 : Nat) "all") ∈ lw_tbl := lw_at lw_m4 9 rfl
theorem q880 : (Jvm.Cond.stringRef "MailSessions$Parser" (147 : Nat) "uid") ∈ lw_tbl := lw_at lw_m4 10 rfl
theorem q881 : (Jvm.Cond.stringRef "MailSessions$Parser" (149 : Nat) "not") ∈ lw_tbl := lw_at lw_m4 11 rfl
theorem q882 : (Jvm.Cond.stringRef "MailSessions$Parser" (151 : Nat) "or") ∈ lw_tbl := lw_at lw_m4 12 rfl
theorem q883 : (Jvm.Cond.methodLink "MailSessions$Parser" (153 : Nat) ({ cls := "MailSessions$Parser", name := "flag", desc := "()I" } : Jvm.MethodName)) ∈ lw_all := lw_g (lw_at lw_m4 13 rfl) rfl
theorem q884 : (Jvm.Cond.privateMethod ({ cls := "MailSessions$Parser", name := "flag", desc := "()I" } : Jvm.MethodName)) ∈ lw_tbl := lw_at lw_m4 14 rfl
theorem q885 : (Jvm.Cond.instanceMethod ({ cls := "MailSessions$Parser", name := "flag", desc := "()I" } : Jvm.MethodName)) ∈ lw_all := lw_g (lw_at lw_m4 15 rfl) rfl
theorem q886 : (Jvm.Cond.code ({ cls := "MailSessions$Parser", name := "flag", desc := "()I" } : Jvm.MethodName) prog_7_method_9_code (3 : Nat) (Option.some Jvm.ClassFile.FieldType.int)) ∈ lw_all := lw_g (lw_at lw_m4 16 rfl) rfl
theorem q887 : (Jvm.Cond.stringRef "MailSessions$Parser" (123 : Nat) "seen") ∈ lw_tbl := lw_at lw_m4 17 rfl
theorem q888 : (Jvm.Cond.stringRef "MailSessions$Parser" (125 : Nat) "answered") ∈ lw_tbl := lw_at lw_m4 18 rfl
theorem q889 : (Jvm.Cond.stringRef "MailSessions$Parser" (127 : Nat) "flagged") ∈ lw_tbl := lw_at lw_m4 19 rfl
theorem q890 : (Jvm.Cond.stringRef "MailSessions$Parser" (129 : Nat) "deleted") ∈ lw_tbl := lw_at lw_m4 20 rfl
theorem q891 : (Jvm.Cond.stringRef "MailSessions$Parser" (131 : Nat) "draft") ∈ lw_tbl := lw_at lw_m4 21 rfl
theorem q892 : (Jvm.Cond.methodLink "MailSessions$Parser" (186 : Nat) ({ cls := "MailSessions$Server", name := "findBox", desc := "(Ljava/lang/String;)I" } : Jvm.MethodName)) ∈ lw_all := lw_g (lw_at lw_m4 22 rfl) rfl
theorem q897 : (Jvm.Cond.classLink "MailSessions$Parser" (190 : Nat) "MailSessions$Box") ∈ lw_all := lw_g (lw_at lw_m4 27 rfl) rfl
theorem q899 : (Jvm.Cond.methodLink "MailSessions$Parser" (192 : Nat) ({ cls := "MailSessions$Box", name := "<init>", desc := "(Ljava/lang/String;)V" } : Jvm.MethodName)) ∈ lw_all := lw_g (lw_at lw_m4 29 rfl) rfl
theorem q920 : (Jvm.Cond.methodLink "MailSessions$Parser" (195 : Nat) ({ cls := "java/util/ArrayList", name := "add", desc := "(Ljava/lang/Object;)Z" } : Jvm.MethodName)) ∈ lw_all := lw_g (lw_at lw_m4 50 rfl) rfl
theorem q948 : (Jvm.Cond.selects "MailSessions$Parser" ({ cls := "java/lang/Object", name := "getClass", desc := "()Ljava/lang/Class;" } : Jvm.MethodName) ({ cls := "java/lang/Object", name := "getClass", desc := "()Ljava/lang/Class;" } : Jvm.MethodName)) ∈ lw_all := lw_g (lw_at lw_m4 78 rfl) rfl
theorem q971 : (Jvm.Cond.methodLink "MailSessions$Parser" (236 : Nat) ({ cls := "MailSessions$Parser", name := "parseMessage", desc := "()V" } : Jvm.MethodName)) ∈ lw_all := lw_g (lw_at lw_m4 101 rfl) rfl
theorem q972 : (Jvm.Cond.privateMethod ({ cls := "MailSessions$Parser", name := "parseMessage", desc := "()V" } : Jvm.MethodName)) ∈ lw_tbl := lw_at lw_m4 102 rfl
theorem q973 : (Jvm.Cond.instanceMethod ({ cls := "MailSessions$Parser", name := "parseMessage", desc := "()V" } : Jvm.MethodName)) ∈ lw_all := lw_g (lw_at lw_m4 103 rfl) rfl
theorem q974 : (Jvm.Cond.code ({ cls := "MailSessions$Parser", name := "parseMessage", desc := "()V" } : Jvm.MethodName) prog_7_method_15_code (5 : Nat) (Option.none : Option Jvm.ClassFile.FieldType)) ∈ lw_all := lw_g (lw_at lw_m4 104 rfl) rfl
theorem q975 : (Jvm.Cond.methodLink "MailSessions$Parser" (198 : Nat) ({ cls := "MailSessions$Parser", name := "boxHere", desc := "()I" } : Jvm.MethodName)) ∈ lw_all := lw_g (lw_at lw_m4 105 rfl) rfl
theorem q976 : (Jvm.Cond.privateMethod ({ cls := "MailSessions$Parser", name := "boxHere", desc := "()I" } : Jvm.MethodName)) ∈ lw_tbl := lw_at lw_m4 106 rfl
theorem q977 : (Jvm.Cond.instanceMethod ({ cls := "MailSessions$Parser", name := "boxHere", desc := "()I" } : Jvm.MethodName)) ∈ lw_all := lw_g (lw_at lw_m4 107 rfl) rfl
theorem q978 : (Jvm.Cond.code ({ cls := "MailSessions$Parser", name := "boxHere", desc := "()I" } : Jvm.MethodName) prog_7_method_14_code (2 : Nat) (Option.some Jvm.ClassFile.FieldType.int)) ∈ lw_all := lw_g (lw_at lw_m4 108 rfl) rfl
theorem q979 : (Jvm.Cond.methodLink "MailSessions$Parser" (201 : Nat) ({ cls := "MailSessions$Server", name := "isFull", desc := "(I)Z" } : Jvm.MethodName)) ∈ lw_all := lw_g (lw_at lw_m4 109 rfl) rfl
theorem q983 : (Jvm.Cond.methodLink "MailSessions$Parser" (205 : Nat) ({ cls := "MailSessions$Parser", name := "expect", desc := "(Ljava/lang/String;)V" } : Jvm.MethodName)) ∈ lw_all := lw_g (lw_at lw_m4 113 rfl) rfl
theorem q984 : (Jvm.Cond.privateMethod ({ cls := "MailSessions$Parser", name := "expect", desc := "(Ljava/lang/String;)V" } : Jvm.MethodName)) ∈ lw_tbl := lw_at lw_m4 114 rfl
theorem q985 : (Jvm.Cond.instanceMethod ({ cls := "MailSessions$Parser", name := "expect", desc := "(Ljava/lang/String;)V" } : Jvm.MethodName)) ∈ lw_all := lw_g (lw_at lw_m4 115 rfl) rfl
theorem q986 : (Jvm.Cond.code ({ cls := "MailSessions$Parser", name := "expect", desc := "(Ljava/lang/String;)V" } : Jvm.MethodName) prog_7_method_7_code (2 : Nat) (Option.none : Option Jvm.ClassFile.FieldType)) ∈ lw_all := lw_g (lw_at lw_m4 116 rfl) rfl
theorem q987 : (Jvm.Cond.methodLink "MailSessions$Parser" (111 : Nat) ({ cls := "MailSessions$Parser", name := "isWord", desc := "(Ljava/lang/String;)Z" } : Jvm.MethodName)) ∈ lw_all := lw_g (lw_at lw_m4 117 rfl) rfl
theorem q988 : (Jvm.Cond.privateMethod ({ cls := "MailSessions$Parser", name := "isWord", desc := "(Ljava/lang/String;)Z" } : Jvm.MethodName)) ∈ lw_tbl := lw_at lw_m4 118 rfl
theorem q989 : (Jvm.Cond.instanceMethod ({ cls := "MailSessions$Parser", name := "isWord", desc := "(Ljava/lang/String;)Z" } : Jvm.MethodName)) ∈ lw_all := lw_g (lw_at lw_m4 119 rfl) rfl
theorem q990 : (Jvm.Cond.code ({ cls := "MailSessions$Parser", name := "isWord", desc := "(Ljava/lang/String;)Z" } : Jvm.MethodName) prog_7_method_6_code (2 : Nat) (Option.some Jvm.ClassFile.FieldType.boolean)) ∈ lw_all := lw_g (lw_at lw_m4 120 rfl) rfl
theorem q991 : (Jvm.Cond.methodLinkNest "MailSessions$Parser" (208 : Nat) ({ cls := "MailSessions", name := "has", desc := "(II)Z" } : Jvm.MethodName) "MailSessions") ∈ lw_tbl := lw_at lw_m4 121 rfl
theorem q994 : (Jvm.Cond.methodLink "MailSessions$Parser" (211 : Nat) ({ cls := "java/util/ArrayList", name := "get", desc := "(I)Ljava/lang/Object;" } : Jvm.MethodName)) ∈ lw_all := lw_g (lw_at lw_m4 124 rfl) rfl
theorem q995 : (Jvm.Cond.methodLink "MailSessions$Parser" (215 : Nat) ({ cls := "MailSessions$Box", name := "add", desc := "(II)I" } : Jvm.MethodName)) ∈ lw_all := lw_g (lw_at lw_m4 125 rfl) rfl
theorem q1009 : (Jvm.Cond.fieldLinkNest "MailSessions$Parser" (293 : Nat) "MailSessions$Message" "uid" "I" "MailSessions") ∈ lw_tbl := lw_at lw_m4 139 rfl
theorem q1014 : (Jvm.Cond.fieldLinkNest "MailSessions$Parser" (297 : Nat) "MailSessions$Message" "size" "I" "MailSessions") ∈ lw_tbl := lw_at lw_m4 144 rfl
theorem q1029 : (Jvm.Cond.methodLink "MailSessions$Parser" (239 : Nat) ({ cls := "MailSessions$Parser", name := "parseSession", desc := "()V" } : Jvm.MethodName)) ∈ lw_all := lw_g (lw_at lw_m4 159 rfl) rfl
theorem q1030 : (Jvm.Cond.privateMethod ({ cls := "MailSessions$Parser", name := "parseSession", desc := "()V" } : Jvm.MethodName)) ∈ lw_tbl := lw_at lw_m4 160 rfl
theorem q1031 : (Jvm.Cond.instanceMethod ({ cls := "MailSessions$Parser", name := "parseSession", desc := "()V" } : Jvm.MethodName)) ∈ lw_all := lw_g (lw_at lw_m4 161 rfl) rfl
theorem q1032 : (Jvm.Cond.code ({ cls := "MailSessions$Parser", name := "parseSession", desc := "()V" } : Jvm.MethodName) prog_7_method_16_code (2 : Nat) (Option.none : Option Jvm.ClassFile.FieldType)) ∈ lw_all := lw_g (lw_at lw_m4 162 rfl) rfl
theorem q1033 : (Jvm.Cond.methodLink "MailSessions$Parser" (220 : Nat) ({ cls := "MailSessions$Server", name := "findSession", desc := "(Ljava/lang/String;)I" } : Jvm.MethodName)) ∈ lw_all := lw_g (lw_at lw_m4 163 rfl) rfl
theorem q1038 : (Jvm.Cond.classLink "MailSessions$Parser" (223 : Nat) "MailSessions$Session") ∈ lw_all := lw_g (lw_at lw_m4 168 rfl) rfl
theorem q1040 : (Jvm.Cond.methodLink "MailSessions$Parser" (225 : Nat) ({ cls := "MailSessions$Session", name := "<init>", desc := "(Ljava/lang/String;)V" } : Jvm.MethodName)) ∈ lw_all := lw_g (lw_at lw_m4 170 rfl) rfl
theorem q1088 : (Jvm.Cond.methodLink "MailSessions$Parser" (226 : Nat) ({ cls := "MailSessions$Parser", name := "isSymbol", desc := "(C)Z" } : Jvm.MethodName)) ∈ lw_all := lw_g (lw_at lw_m4 218 rfl) rfl
theorem q1089 : (Jvm.Cond.privateMethod ({ cls := "MailSessions$Parser", name := "isSymbol", desc := "(C)Z" } : Jvm.MethodName)) ∈ lw_tbl := lw_at lw_m4 219 rfl
theorem q1090 : (Jvm.Cond.instanceMethod ({ cls := "MailSessions$Parser", name := "isSymbol", desc := "(C)Z" } : Jvm.MethodName)) ∈ lw_all := lw_g (lw_at lw_m4 220 rfl) rfl
theorem q1091 : (Jvm.Cond.code ({ cls := "MailSessions$Parser", name := "isSymbol", desc := "(C)Z" } : Jvm.MethodName) prog_7_method_5_code (2 : Nat) (Option.some Jvm.ClassFile.FieldType.boolean)) ∈ lw_all := lw_g (lw_at lw_m4 221 rfl) rfl
theorem q1092 : (Jvm.Cond.methodLink "MailSessions$Parser" (245 : Nat) ({ cls := "MailSessions$Server", name := "select", desc := "(LMailSessions$Session;IZ)V" } : Jvm.MethodName)) ∈ lw_all := lw_g (lw_at lw_m4 222 rfl) rfl
theorem q1637 : (Jvm.Cond.instanceMethod ({ cls := "MailSessions$Parser", name := "whole", desc := "()LMailSessions$Test;" } : Jvm.MethodName)) ∈ lw_all := lw_g (lw_at lw_m7 47 rfl) rfl
theorem q1638 : (Jvm.Cond.selects "MailSessions$Parser" ({ cls := "MailSessions$Parser", name := "whole", desc := "()LMailSessions$Test;" } : Jvm.MethodName) ({ cls := "MailSessions$Parser", name := "whole", desc := "()LMailSessions$Test;" } : Jvm.MethodName)) ∈ lw_all := lw_g (lw_at lw_m7 48 rfl) rfl
theorem q1639 : (Jvm.Cond.code ({ cls := "MailSessions$Parser", name := "whole", desc := "()LMailSessions$Test;" } : Jvm.MethodName) prog_7_method_25_code (2 : Nat) (Option.some (Jvm.ClassFile.FieldType.object "MailSessions$Test"))) ∈ lw_all := lw_g (lw_at lw_m7 49 rfl) rfl
theorem q1640 : (Jvm.Cond.methodLink "MailSessions$Parser" (277 : Nat) ({ cls := "MailSessions$Parser", name := "query", desc := "()LMailSessions$Test;" } : Jvm.MethodName)) ∈ lw_all := lw_g (lw_at lw_m7 50 rfl) rfl
theorem q1641 : (Jvm.Cond.privateMethod ({ cls := "MailSessions$Parser", name := "query", desc := "()LMailSessions$Test;" } : Jvm.MethodName)) ∈ lw_tbl := lw_at lw_m7 51 rfl
theorem q1642 : (Jvm.Cond.instanceMethod ({ cls := "MailSessions$Parser", name := "query", desc := "()LMailSessions$Test;" } : Jvm.MethodName)) ∈ lw_all := lw_g (lw_at lw_m7 52 rfl) rfl
theorem q1643 : (Jvm.Cond.code ({ cls := "MailSessions$Parser", name := "query", desc := "()LMailSessions$Test;" } : Jvm.MethodName) prog_7_method_24_code (2 : Nat) (Option.some (Jvm.ClassFile.FieldType.object "MailSessions$Test"))) ∈ lw_all := lw_g (lw_at lw_m7 53 rfl) rfl
theorem q1644 : (Jvm.Cond.methodLink "MailSessions$Parser" (287 : Nat) ({ cls := "MailSessions$Parser", name := "term", desc := "()LMailSessions$Test;" } : Jvm.MethodName)) ∈ lw_all := lw_g (lw_at lw_m7 54 rfl) rfl
theorem q1645 : (Jvm.Cond.privateMethod ({ cls := "MailSessions$Parser", name := "term", desc := "()LMailSessions$Test;" } : Jvm.MethodName)) ∈ lw_tbl := lw_at lw_m7 55 rfl
theorem q1646 : (Jvm.Cond.instanceMethod ({ cls := "MailSessions$Parser", name := "term", desc := "()LMailSessions$Test;" } : Jvm.MethodName)) ∈ lw_all := lw_g (lw_at lw_m7 56 rfl) rfl
theorem q1647 : (Jvm.Cond.code ({ cls := "MailSessions$Parser", name := "term", desc := "()LMailSessions$Test;" } : Jvm.MethodName) prog_7_method_23_code (2 : Nat) (Option.some (Jvm.ClassFile.FieldType.object "MailSessions$Test"))) ∈ lw_all := lw_g (lw_at lw_m7 57 rfl) rfl
theorem q1648 : (Jvm.Cond.methodLink "MailSessions$Parser" (271 : Nat) ({ cls := "MailSessions$Parser", name := "factor", desc := "()LMailSessions$Test;" } : Jvm.MethodName)) ∈ lw_all := lw_g (lw_at lw_m7 58 rfl) rfl
theorem q1649 : (Jvm.Cond.privateMethod ({ cls := "MailSessions$Parser", name := "factor", desc := "()LMailSessions$Test;" } : Jvm.MethodName)) ∈ lw_tbl := lw_at lw_m7 59 rfl
theorem q1650 : (Jvm.Cond.instanceMethod ({ cls := "MailSessions$Parser", name := "factor", desc := "()LMailSessions$Test;" } : Jvm.MethodName)) ∈ lw_all := lw_g (lw_at lw_m7 60 rfl) rfl
theorem q1651 : (Jvm.Cond.code ({ cls := "MailSessions$Parser", name := "factor", desc := "()LMailSessions$Test;" } : Jvm.MethodName) prog_7_method_22_code (5 : Nat) (Option.some (Jvm.ClassFile.FieldType.object "MailSessions$Test"))) ∈ lw_all := lw_g (lw_at lw_m7 61 rfl) rfl
theorem q1652 : (Jvm.Cond.methodLinkNest "MailSessions$Parser" (259 : Nat) ({ cls := "MailSessions", name := "flagged", desc := "(I)LMailSessions$Test;" } : Jvm.MethodName) "MailSessions") ∈ lw_tbl := lw_at lw_m7 62 rfl
theorem q1653 : (Jvm.Cond.static ({ cls := "MailSessions$Parser", name := "lambda$factor$4", desc := "(LMailSessions$Message;)Z" } : Jvm.MethodName)) ∈ lw_all := lw_g (lw_at lw_m7 63 rfl) rfl
theorem q1654 : (Jvm.Cond.code ({ cls := "MailSessions$Parser", name := "lambda$factor$4", desc := "(LMailSessions$Message;)Z" } : Jvm.MethodName) prog_7_method_26_code (1 : Nat) (Option.some Jvm.ClassFile.FieldType.boolean)) ∈ lw_all := lw_g (lw_at lw_m7 64 rfl) rfl
theorem q1655 : (Jvm.Cond.methodLink "MailSessions$Parser" (264 : Nat) ({ cls := "MailSessions$Parser", name := "compared", desc := "(Z)LMailSessions$Test;" } : Jvm.MethodName)) ∈ lw_all := lw_g (lw_at lw_m7 65 rfl) rfl
theorem q1656 : (Jvm.Cond.privateMethod ({ cls := "MailSessions$Parser", name := "compared", desc := "(Z)LMailSessions$Test;" } : Jvm.MethodName)) ∈ lw_tbl := lw_at lw_m7 66 rfl
theorem q1657 : (Jvm.Cond.instanceMethod ({ cls := "MailSessions$Parser", name := "compared", desc := "(Z)LMailSessions$Test;" } : Jvm.MethodName)) ∈ lw_all := lw_g (lw_at lw_m7 67 rfl) rfl
theorem q1658 : (Jvm.Cond.code ({ cls := "MailSessions$Parser", name := "compared", desc := "(Z)LMailSessions$Test;" } : Jvm.MethodName) prog_7_method_21_code (4 : Nat) (Option.some (Jvm.ClassFile.FieldType.object "MailSessions$Test"))) ∈ lw_all := lw_g (lw_at lw_m7 68 rfl) rfl
theorem q1659 : (Jvm.Cond.static ({ cls := "MailSessions$Parser", name := "lambda$compared$0", desc := "(ILMailSessions$Message;)Z" } : Jvm.MethodName)) ∈ lw_all := lw_g (lw_at lw_m7 69 rfl) rfl
theorem q1660 : (Jvm.Cond.code ({ cls := "MailSessions$Parser", name := "lambda$compared$0", desc := "(ILMailSessions$Message;)Z" } : Jvm.MethodName) prog_7_method_30_code (2 : Nat) (Option.some Jvm.ClassFile.FieldType.boolean)) ∈ lw_all := lw_g (lw_at lw_m7 70 rfl) rfl
theorem q1661 : (Jvm.Cond.static ({ cls := "MailSessions$Parser", name := "lambda$compared$1", desc := "(ILMailSessions$Message;)Z" } : Jvm.MethodName)) ∈ lw_all := lw_g (lw_at lw_m7 71 rfl) rfl
theorem q1662 : (Jvm.Cond.code ({ cls := "MailSessions$Parser", name := "lambda$compared$1", desc := "(ILMailSessions$Message;)Z" } : Jvm.MethodName) prog_7_method_29_code (2 : Nat) (Option.some Jvm.ClassFile.FieldType.boolean)) ∈ lw_all := lw_g (lw_at lw_m7 72 rfl) rfl
theorem q1663 : (Jvm.Cond.static ({ cls := "MailSessions$Parser", name := "lambda$compared$2", desc := "(ILMailSessions$Message;)Z" } : Jvm.MethodName)) ∈ lw_all := lw_g (lw_at lw_m7 73 rfl) rfl
theorem q1664 : (Jvm.Cond.code ({ cls := "MailSessions$Parser", name := "lambda$compared$2", desc := "(ILMailSessions$Message;)Z" } : Jvm.MethodName) prog_7_method_28_code (2 : Nat) (Option.some Jvm.ClassFile.FieldType.boolean)) ∈ lw_all := lw_g (lw_at lw_m7 74 rfl) rfl
theorem q1665 : (Jvm.Cond.static ({ cls := "MailSessions$Parser", name := "lambda$compared$3", desc := "(ILMailSessions$Message;)Z" } : Jvm.MethodName)) ∈ lw_all := lw_g (lw_at lw_m7 75 rfl) rfl
theorem q1666 : (Jvm.Cond.code ({ cls := "MailSessions$Parser", name := "lambda$compared$3", desc := "(ILMailSessions$Message;)Z" } : Jvm.MethodName) prog_7_method_27_code (2 : Nat) (Option.some Jvm.ClassFile.FieldType.boolean)) ∈ lw_all := lw_g (lw_at lw_m7 76 rfl) rfl
theorem q1667 : (Jvm.Cond.methodLink "MailSessions$Parser" (268 : Nat) ({ cls := "MailSessions$Parser", name := "goIn", desc := "()V" } : Jvm.MethodName)) ∈ lw_all := lw_g (lw_at lw_m7 77 rfl) rfl
theorem q1668 : (Jvm.Cond.privateMethod ({ cls := "MailSessions$Parser", name := "goIn", desc := "()V" } : Jvm.MethodName)) ∈ lw_tbl := lw_at lw_m7 78 rfl
theorem q1669 : (Jvm.Cond.instanceMethod ({ cls := "MailSessions$Parser", name := "goIn", desc := "()V" } : Jvm.MethodName)) ∈ lw_all := lw_g (lw_at lw_m7 79 rfl) rfl
theorem q1670 : (Jvm.Cond.code ({ cls := "MailSessions$Parser", name := "goIn", desc := "()V" } : Jvm.MethodName) prog_7_method_19_code (1 : Nat) (Option.none : Option Jvm.ClassFile.FieldType)) ∈ lw_all := lw_g (lw_at lw_m7 80 rfl) rfl
theorem q1671 : (Jvm.Cond.methodLinkNest "MailSessions$Parser" (274 : Nat) ({ cls := "MailSessions", name := "not", desc := "(LMailSessions$Test;)LMailSessions$Test;" } : Jvm.MethodName) "MailSessions") ∈ lw_tbl := lw_at lw_m7 81 rfl
theorem q1672 : (Jvm.Cond.methodLink "MailSessions$Parser" (280 : Nat) ({ cls := "MailSessions$Parser", name := "beginsFactor", desc := "()Z" } : Jvm.MethodName)) ∈ lw_all := lw_g (lw_at lw_m7 82 rfl) rfl
theorem q1673 : (Jvm.Cond.privateMethod ({ cls := "MailSessions$Parser", name := "beginsFactor", desc := "()Z" } : Jvm.MethodName)) ∈ lw_tbl := lw_at lw_m7 83 rfl
theorem q1674 : (Jvm.Cond.instanceMethod ({ cls := "MailSessions$Parser", name := "beginsFactor", desc := "()Z" } : Jvm.MethodName)) ∈ lw_all := lw_g (lw_at lw_m7 84 rfl) rfl
theorem q1675 : (Jvm.Cond.code ({ cls := "MailSessions$Parser", name := "beginsFactor", desc := "()Z" } : Jvm.MethodName) prog_7_method_20_code (1 : Nat) (Option.some Jvm.ClassFile.FieldType.boolean)) ∈ lw_all := lw_g (lw_at lw_m7 85 rfl) rfl
theorem q1676 : (Jvm.Cond.methodLinkNest "MailSessions$Parser" (283 : Nat) ({ cls := "MailSessions", name := "both", desc := "(LMailSessions$Test;LMailSessions$Test;)LMailSessions$Test;" } : Jvm.MethodName) "MailSessions") ∈ lw_tbl := lw_at lw_m7 86 rfl
theorem q1681 : (Jvm.Cond.methodLinkNest "MailSessions$Parser" (290 : Nat) ({ cls := "MailSessions", name := "either", desc := "(LMailSessions$Test;LMailSessions$Test;)LMailSessions$Test;" } : Jvm.MethodName) "MailSessions") ∈ lw_tbl := lw_at lw_m7 91 rfl
theorem q2820 : (Jvm.Cond.castable "MailSessions$Parser" "java/lang/Object") ∈ lw_tbl := lw_at lw_m12 30 rfl
theorem in_X4 : ∀ w ∈ wsX40, w ∈ lw_all := lw_in wsX40 [696, 698, 700, 702, 704, 706, 708, 710, 712, 714, 716] (by decide +kernel) (by decide +kernel)
/-! MailSessions$ParseError -/
set_option maxRecDepth 100000
def RX5 : String := "MailSessions$ParseError"
def TX5 : u_T := fun k => match k with
  | 0 => ("java/lang/Throwable", "cause", "Ljava/lang/Throwable;", false)
  | 1 => ("java/lang/Throwable", "stackTrace", "[Ljava/lang/StackTraceElement;", false)
  | 2 => ("java/lang/Throwable", "suppressedExceptions", "Ljava/util/List;", false)
  | 3 => ("java/lang/Throwable", "detailMessage", "Ljava/lang/String;", false)
  | 4 => ("java/lang/Throwable", "backtrace", "Ljava/lang/Object;", false)
  | 5 => ("java/lang/Throwable", "depth", "I", false)
  | 6 => ("MailSessions$ParseError", "code", "I", true)
  | _ => ("MailSessions$ParseError", "position", "I", true)
def tyX5 : Nat → FieldType := fun k => match k with
  | 0 => .object "java/lang/Throwable"
  | 1 => .array (.object "java/lang/StackTraceElement")
  | 2 => .object "java/util/List"
  | 3 => .object "java/lang/String"
  | 4 => .object "java/lang/Object"
  | 5 => .int
  | 6 => .int
  | _ => .int
abbrev wsX50 : List Cond := u_ws RX5 TX5 8
theorem nmX5 : ∀ a, a < 8 → ∀ b, b < 8 → a ≠ b → (TX5 a).2.1 ≠ (TX5 b).2.1 := by decide +kernel
theorem tyX5_ok : ∀ k, k < 8 → parseFieldDescriptor (TX5 k).2.2.1 = some (tyX5 k) := by decide +kernel
abbrev cX5_init : ByteArray := prog_6_method_1_code
def yX5_init : MethodName := ⟨RX5, "<init>", "(II)V"⟩
def dkwX5_init_0 : List UInt8 := [42, 1, 1, 3, 3, 183, 0, 1, 42, 27, 181, 0, 7, 42, 28, 181, 0, 13, 177]
abbrev dktX5_init_0 : List UInt8 := dkwX5_init_0 ++ []
theorem dksX5_init_0 : cX5_init.data.toList.drop 0 = dktX5_init_0 := by decide +kernel
theorem dX5_init_0 : decode cX5_init 0 = .ok (.aload_n 0, 1) := dk_42 (dk_at dksX5_init_0 0 rfl rfl)
theorem dX5_init_1 : decode cX5_init 1 = .ok (.aconst_null, 1) := dk_1 (dk_at dksX5_init_0 1 rfl rfl)
theorem dX5_init_2 : decode cX5_init 2 = .ok (.aconst_null, 1) := dk_1 (dk_at dksX5_init_0 2 rfl rfl)
theorem dX5_init_3 : decode cX5_init 3 = .ok (.iconst 0, 1) := dk_3 (dk_at dksX5_init_0 3 rfl rfl)
theorem dX5_init_4 : decode cX5_init 4 = .ok (.iconst 0, 1) := dk_3 (dk_at dksX5_init_0 4 rfl rfl)
theorem dX5_init_5 : decode cX5_init 5 = .ok (.invokespecial 1, 3) := dk_183 0 1 (dk_at dksX5_init_0 5 rfl rfl)
theorem dX5_init_8 : decode cX5_init 8 = .ok (.aload_n 0, 1) := dk_42 (dk_at dksX5_init_0 8 rfl rfl)
theorem dX5_init_9 : decode cX5_init 9 = .ok (.iload_n 1, 1) := dk_27 (dk_at dksX5_init_0 9 rfl rfl)
theorem dX5_init_10 : decode cX5_init 10 = .ok (.putfield 7, 3) := dk_181 0 7 (dk_at dksX5_init_0 10 rfl rfl)
theorem dX5_init_13 : decode cX5_init 13 = .ok (.aload_n 0, 1) := dk_42 (dk_at dksX5_init_0 13 rfl rfl)
theorem dX5_init_14 : decode cX5_init 14 = .ok (.iload_n 2, 1) := dk_28 (dk_at dksX5_init_0 14 rfl rfl)
theorem dX5_init_15 : decode cX5_init 15 = .ok (.putfield 13, 3) := dk_181 0 13 (dk_at dksX5_init_0 15 rfl rfl)
theorem dX5_init_18 : decode cX5_init 18 = .ok (.return_, 1) := dk_177 (dk_at dksX5_init_0 18 rfl rfl)
theorem q179 : (Jvm.Cond.initialized "MailSessions$ParseError") ∈ lw_all := lw_g (lw_at lw_m1 29 rfl) rfl
theorem q251 : (Jvm.Cond.selects "MailSessions$ParseError" ({ cls := "java/lang/Throwable", name := "fillInStackTrace", desc := "()Ljava/lang/Throwable;" } : Jvm.MethodName) ({ cls := "java/lang/Throwable", name := "fillInStackTrace", desc := "()Ljava/lang/Throwable;" } : Jvm.MethodName)) ∈ lw_all := lw_g (lw_at lw_m1 101 rfl) rfl
theorem q832 : (Jvm.Cond.instantiable "MailSessions$ParseError" (8 : Nat)) ∈ lw_all := lw_g (lw_at lw_m3 202 rfl) rfl
theorem q833 : (Jvm.Cond.castable "MailSessions$ParseError" "MailSessions$ParseError") ∈ lw_tbl := lw_at lw_m3 203 rfl
theorem q834 : (Jvm.Cond.selects "MailSessions$ParseError" ({ cls := "java/lang/Throwable", name := "fillInStackTrace", desc := "(I)Ljava/lang/Throwable;" } : Jvm.MethodName) ({ cls := "java/lang/Throwable", name := "fillInStackTrace", desc := "(I)Ljava/lang/Throwable;" } : Jvm.MethodName)) ∈ lw_all := lw_g (lw_at lw_m3 204 rfl) rfl
theorem q835 : (Jvm.Cond.lays "MailSessions$ParseError" "java/lang/Throwable" "cause" "Ljava/lang/Throwable;") ∈ lw_all := lw_g (lw_at lw_m3 205 rfl) rfl
theorem q836 : (Jvm.Cond.lays "MailSessions$ParseError" "java/lang/Throwable" "stackTrace" "[Ljava/lang/StackTraceElement;") ∈ lw_all := lw_g (lw_at lw_m3 206 rfl) rfl
theorem q837 : (Jvm.Cond.lays "MailSessions$ParseError" "java/lang/Throwable" "suppressedExceptions" "Ljava/util/List;") ∈ lw_all := lw_g (lw_at lw_m3 207 rfl) rfl
theorem q838 : (Jvm.Cond.lays "MailSessions$ParseError" "java/lang/Throwable" "detailMessage" "Ljava/lang/String;") ∈ lw_all := lw_g (lw_at lw_m3 208 rfl) rfl
theorem q839 : (Jvm.Cond.lays "MailSessions$ParseError" "java/lang/Throwable" "backtrace" "Ljava/lang/Object;") ∈ lw_all := lw_g (lw_at lw_m3 209 rfl) rfl
theorem q841 : (Jvm.Cond.instanceMethod ({ cls := "MailSessions$ParseError", name := "<init>", desc := "(II)V" } : Jvm.MethodName)) ∈ lw_all := lw_g (lw_at lw_m3 211 rfl) rfl
theorem q842 : (Jvm.Cond.code ({ cls := "MailSessions$ParseError", name := "<init>", desc := "(II)V" } : Jvm.MethodName) prog_6_method_1_code (3 : Nat) (Option.none : Option Jvm.ClassFile.FieldType)) ∈ lw_all := lw_g (lw_at lw_m3 212 rfl) rfl
theorem q843 : (Jvm.Cond.methodLink "MailSessions$ParseError" (1 : Nat) ({ cls := "java/lang/Exception", name := "<init>", desc := "(Ljava/lang/String;Ljava/lang/Throwable;ZZ)V" } : Jvm.MethodName)) ∈ lw_all := lw_g (lw_at lw_m3 213 rfl) rfl
theorem q849 : (Jvm.Cond.fieldLink "MailSessions$ParseError" (7 : Nat) "MailSessions$ParseError" "code" "I") ∈ lw_all := lw_g (lw_at lw_m3 219 rfl) rfl
theorem q851 : (Jvm.Cond.fieldLink "MailSessions$ParseError" (13 : Nat) "MailSessions$ParseError" "position" "I") ∈ lw_all := lw_g (lw_at lw_m3 221 rfl) rfl
theorem q853 : (Jvm.Cond.laysFinal "MailSessions$ParseError" "MailSessions$ParseError" "code" "I") ∈ lw_all := lw_g (lw_at lw_m3 223 rfl) rfl
theorem q854 : (Jvm.Cond.soleField "MailSessions$ParseError" "code") ∈ lw_all := lw_g (lw_at lw_m3 224 rfl) rfl
theorem q855 : (Jvm.Cond.laysFinal "MailSessions$ParseError" "MailSessions$ParseError" "position" "I") ∈ lw_all := lw_g (lw_at lw_m3 225 rfl) rfl
theorem q856 : (Jvm.Cond.soleField "MailSessions$ParseError" "position") ∈ lw_all := lw_g (lw_at lw_m3 226 rfl) rfl
theorem q857 : (Jvm.Cond.lays "MailSessions$ParseError" "java/lang/Throwable" "depth" "I") ∈ lw_all := lw_g (lw_at lw_m3 227 rfl) rfl
theorem q858 : (Jvm.Cond.superclass "MailSessions$ParseError" "java/lang/Exception") ∈ lw_all := lw_g (lw_at lw_m3 228 rfl) rfl
theorem q947 : (Jvm.Cond.selects "MailSessions$ParseError" ({ cls := "java/lang/Object", name := "getClass", desc := "()Ljava/lang/Class;" } : Jvm.MethodName) ({ cls := "java/lang/Object", name := "getClass", desc := "()Ljava/lang/Class;" } : Jvm.MethodName)) ∈ lw_all := lw_g (lw_at lw_m4 77 rfl) rfl
theorem q2823 : (Jvm.Cond.castable "MailSessions$ParseError" "java/lang/Object") ∈ lw_tbl := lw_at lw_m12 33 rfl
theorem in_X5 : ∀ w ∈ wsX50, w ∈ lw_all := lw_in wsX50 [835, 836, 837, 838, 839, 857, 853, 855] (by decide +kernel) (by decide +kernel)
/-! MailSessions$Box -/
set_option maxRecDepth 100000
def RX6 : String := "MailSessions$Box"
def TX6 : u_T := fun k => match k with
  | 0 => ("MailSessions$Box", "name", "Ljava/lang/String;", true)
  | 1 => ("MailSessions$Box", "messages", "Ljava/util/ArrayList;", true)
  | _ => ("MailSessions$Box", "nextUid", "I", false)
def tyX6 : Nat → FieldType := fun k => match k with
  | 0 => .object "java/lang/String"
  | 1 => .object "java/util/ArrayList"
  | _ => .int
abbrev wsX60 : List Cond := u_ws RX6 TX6 3
theorem nmX6 : ∀ a, a < 3 → ∀ b, b < 3 → a ≠ b → (TX6 a).2.1 ≠ (TX6 b).2.1 := by decide +kernel
theorem tyX6_ok : ∀ k, k < 3 → parseFieldDescriptor (TX6 k).2.2.1 = some (tyX6 k) := by decide +kernel
abbrev cX6_init : ByteArray := prog_2_method_1_code
def yX6_init : MethodName := ⟨RX6, "<init>", "(Ljava/lang/String;)V"⟩
def dkwX6_init_1 : List UInt8 := [181, 0, 24, 177]
abbrev dktX6_init_1 : List UInt8 := dkwX6_init_1 ++ []
def dkwX6_init_0 : List UInt8 := [42, 183, 0, 3, 42, 187, 0, 9, 89, 7, 183, 0, 11, 181, 0, 14, 42, 4, 181, 0, 20, 42, 43]
abbrev dktX6_init_0 : List UInt8 := dkwX6_init_0 ++ dktX6_init_1
theorem dksX6_init_0 : cX6_init.data.toList.drop 0 = dktX6_init_0 := by decide +kernel
theorem dksX6_init_1 : cX6_init.data.toList.drop 23 = dktX6_init_1 := dk_seg dksX6_init_0 23 rfl rfl
theorem dX6_init_0 : decode cX6_init 0 = .ok (.aload_n 0, 1) := dk_42 (dk_at dksX6_init_0 0 rfl rfl)
theorem dX6_init_1 : decode cX6_init 1 = .ok (.invokespecial 3, 3) := dk_183 0 3 (dk_at dksX6_init_0 1 rfl rfl)
theorem dX6_init_4 : decode cX6_init 4 = .ok (.aload_n 0, 1) := dk_42 (dk_at dksX6_init_0 4 rfl rfl)
theorem dX6_init_5 : decode cX6_init 5 = .ok (.new 9, 3) := dk_187 0 9 (dk_at dksX6_init_0 5 rfl rfl)
theorem dX6_init_8 : decode cX6_init 8 = .ok (.dup, 1) := dk_89 (dk_at dksX6_init_0 8 rfl rfl)
theorem dX6_init_9 : decode cX6_init 9 = .ok (.iconst 4, 1) := dk_7 (dk_at dksX6_init_0 9 rfl rfl)
theorem dX6_init_10 : decode cX6_init 10 = .ok (.invokespecial 11, 3) := dk_183 0 11 (dk_at dksX6_init_0 10 rfl rfl)
theorem dX6_init_13 : decode cX6_init 13 = .ok (.putfield 14, 3) := dk_181 0 14 (dk_at dksX6_init_0 13 rfl rfl)
theorem dX6_init_16 : decode cX6_init 16 = .ok (.aload_n 0, 1) := dk_42 (dk_at dksX6_init_0 16 rfl rfl)
theorem dX6_init_17 : decode cX6_init 17 = .ok (.iconst 1, 1) := dk_4 (dk_at dksX6_init_0 17 rfl rfl)
theorem dX6_init_18 : decode cX6_init 18 = .ok (.putfield 20, 3) := dk_181 0 20 (dk_at dksX6_init_0 18 rfl rfl)
theorem dX6_init_21 : decode cX6_init 21 = .ok (.aload_n 0, 1) := dk_42 (dk_at dksX6_init_0 21 rfl rfl)
theorem dX6_init_22 : decode cX6_init 22 = .ok (.aload_n 1, 1) := dk_43 (dk_at dksX6_init_0 22 rfl rfl)
theorem dX6_init_23 : decode cX6_init 23 = .ok (.putfield 24, 3) := dk_181 0 24 (dk_at dksX6_init_1 0 rfl rfl)
theorem dX6_init_26 : decode cX6_init 26 = .ok (.return_, 1) := dk_177 (dk_at dksX6_init_1 3 rfl rfl)
abbrev cX6_add : ByteArray := prog_2_method_3_code
def yX6_add : MethodName := ⟨RX6, "add", "(II)I"⟩
def dkwX6_add_1 : List UInt8 := [180, 0, 20, 4, 96, 181, 0, 20, 42, 180, 0, 20, 4, 100, 172]
abbrev dktX6_add_1 : List UInt8 := dkwX6_add_1 ++ []
def dkwX6_add_0 : List UInt8 := [42, 180, 0, 14, 187, 0, 39, 89, 42, 180, 0, 20, 27, 28, 183, 0, 45, 182, 0, 41, 87, 42, 89]
abbrev dktX6_add_0 : List UInt8 := dkwX6_add_0 ++ dktX6_add_1
theorem dksX6_add_0 : cX6_add.data.toList.drop 0 = dktX6_add_0 := by decide +kernel
theorem dksX6_add_1 : cX6_add.data.toList.drop 23 = dktX6_add_1 := dk_seg dksX6_add_0 23 rfl rfl
theorem dX6_add_0 : decode cX6_add 0 = .ok (.aload_n 0, 1) := dk_42 (dk_at dksX6_add_0 0 rfl rfl)
theorem dX6_add_1 : decode cX6_add 1 = .ok (.getfield 14, 3) := dk_180 0 14 (dk_at dksX6_add_0 1 rfl rfl)
theorem dX6_add_4 : decode cX6_add 4 = .ok (.new 39, 3) := dk_187 0 39 (dk_at dksX6_add_0 4 rfl rfl)
theorem dX6_add_7 : decode cX6_add 7 = .ok (.dup, 1) := dk_89 (dk_at dksX6_add_0 7 rfl rfl)
theorem dX6_add_8 : decode cX6_add 8 = .ok (.aload_n 0, 1) := dk_42 (dk_at dksX6_add_0 8 rfl rfl)
theorem dX6_add_9 : decode cX6_add 9 = .ok (.getfield 20, 3) := dk_180 0 20 (dk_at dksX6_add_0 9 rfl rfl)
theorem dX6_add_12 : decode cX6_add 12 = .ok (.iload_n 1, 1) := dk_27 (dk_at dksX6_add_0 12 rfl rfl)
theorem dX6_add_13 : decode cX6_add 13 = .ok (.iload_n 2, 1) := dk_28 (dk_at dksX6_add_0 13 rfl rfl)
theorem dX6_add_14 : decode cX6_add 14 = .ok (.invokespecial 45, 3) := dk_183 0 45 (dk_at dksX6_add_0 14 rfl rfl)
theorem dX6_add_17 : decode cX6_add 17 = .ok (.invokevirtual 41, 3) := dk_182 0 41 (dk_at dksX6_add_0 17 rfl rfl)
theorem dX6_add_20 : decode cX6_add 20 = .ok (.pop, 1) := dk_87 (dk_at dksX6_add_0 20 rfl rfl)
theorem dX6_add_21 : decode cX6_add 21 = .ok (.aload_n 0, 1) := dk_42 (dk_at dksX6_add_0 21 rfl rfl)
theorem dX6_add_22 : decode cX6_add 22 = .ok (.dup, 1) := dk_89 (dk_at dksX6_add_0 22 rfl rfl)
theorem dX6_add_23 : decode cX6_add 23 = .ok (.getfield 20, 3) := dk_180 0 20 (dk_at dksX6_add_1 0 rfl rfl)
theorem dX6_add_26 : decode cX6_add 26 = .ok (.iconst 1, 1) := dk_4 (dk_at dksX6_add_1 3 rfl rfl)
theorem dX6_add_27 : decode cX6_add 27 = .ok (.iadd, 1) := dk_96 (dk_at dksX6_add_1 4 rfl rfl)
theorem dX6_add_28 : decode cX6_add 28 = .ok (.putfield 20, 3) := dk_181 0 20 (dk_at dksX6_add_1 5 rfl rfl)
theorem dX6_add_31 : decode cX6_add 31 = .ok (.aload_n 0, 1) := dk_42 (dk_at dksX6_add_1 8 rfl rfl)
theorem dX6_add_32 : decode cX6_add 32 = .ok (.getfield 20, 3) := dk_180 0 20 (dk_at dksX6_add_1 9 rfl rfl)
theorem dX6_add_35 : decode cX6_add 35 = .ok (.iconst 1, 1) := dk_4 (dk_at dksX6_add_1 12 rfl rfl)
theorem dX6_add_36 : decode cX6_add 36 = .ok (.isub, 1) := dk_100 (dk_at dksX6_add_1 13 rfl rfl)
theorem dX6_add_37 : decode cX6_add 37 = .ok (.ireturn, 1) := dk_172 (dk_at dksX6_add_1 14 rfl rfl)
abbrev cX6_named : ByteArray := prog_2_method_5_code
def yX6_named : MethodName := ⟨RX6, "named", "(I)LMailSessions$Message;"⟩
def dkwX6_named_1 : List UInt8 := [192, 0, 39, 176]
abbrev dktX6_named_1 : List UInt8 := dkwX6_named_1 ++ []
def dkwX6_named_0 : List UInt8 := [42, 27, 182, 0, 51, 61, 28, 2, 160, 0, 7, 1, 167, 0, 14, 42, 180, 0, 14, 28, 182, 0, 35]
abbrev dktX6_named_0 : List UInt8 := dkwX6_named_0 ++ dktX6_named_1
theorem dksX6_named_0 : cX6_named.data.toList.drop 0 = dktX6_named_0 := by decide +kernel
theorem dksX6_named_1 : cX6_named.data.toList.drop 23 = dktX6_named_1 := dk_seg dksX6_named_0 23 rfl rfl
theorem dX6_named_0 : decode cX6_named 0 = .ok (.aload_n 0, 1) := dk_42 (dk_at dksX6_named_0 0 rfl rfl)
theorem dX6_named_1 : decode cX6_named 1 = .ok (.iload_n 1, 1) := dk_27 (dk_at dksX6_named_0 1 rfl rfl)
theorem dX6_named_2 : decode cX6_named 2 = .ok (.invokevirtual 51, 3) := dk_182 0 51 (dk_at dksX6_named_0 2 rfl rfl)
theorem dX6_named_5 : decode cX6_named 5 = .ok (.istore_n 2, 1) := dk_61 (dk_at dksX6_named_0 5 rfl rfl)
theorem dX6_named_6 : decode cX6_named 6 = .ok (.iload_n 2, 1) := dk_28 (dk_at dksX6_named_0 6 rfl rfl)
theorem dX6_named_7 : decode cX6_named 7 = .ok (.iconst (-1), 1) := dk_2 (dk_at dksX6_named_0 7 rfl rfl)
theorem dX6_named_8 : decode cX6_named 8 = .ok (.if_icmp .ne 7, 3) := dk_160 0 7 (dk_at dksX6_named_0 8 rfl rfl)
theorem dX6_named_11 : decode cX6_named 11 = .ok (.aconst_null, 1) := dk_1 (dk_at dksX6_named_0 11 rfl rfl)
theorem dX6_named_12 : decode cX6_named 12 = .ok (.goto 14, 3) := dk_167 0 14 (dk_at dksX6_named_0 12 rfl rfl)
theorem dX6_named_15 : decode cX6_named 15 = .ok (.aload_n 0, 1) := dk_42 (dk_at dksX6_named_0 15 rfl rfl)
theorem dX6_named_16 : decode cX6_named 16 = .ok (.getfield 14, 3) := dk_180 0 14 (dk_at dksX6_named_0 16 rfl rfl)
theorem dX6_named_19 : decode cX6_named 19 = .ok (.iload_n 2, 1) := dk_28 (dk_at dksX6_named_0 19 rfl rfl)
theorem dX6_named_20 : decode cX6_named 20 = .ok (.invokevirtual 35, 3) := dk_182 0 35 (dk_at dksX6_named_0 20 rfl rfl)
theorem dX6_named_23 : decode cX6_named 23 = .ok (.checkcast 39, 3) := dk_192 0 39 (dk_at dksX6_named_1 0 rfl rfl)
theorem dX6_named_26 : decode cX6_named 26 = .ok (.areturn, 1) := dk_176 (dk_at dksX6_named_1 3 rfl rfl)
abbrev cX6_find : ByteArray := prog_2_method_4_code
def yX6_find : MethodName := ⟨RX6, "find", "(I)I"⟩
def dkwX6_find_1 : List UInt8 := [180, 0, 48, 27, 160, 0, 5, 28, 172, 132, 2, 1, 167, 255, 222, 2, 172]
abbrev dktX6_find_1 : List UInt8 := dkwX6_find_1 ++ []
def dkwX6_find_0 : List UInt8 := [3, 61, 28, 42, 180, 0, 14, 182, 0, 31, 162, 0, 29, 42, 180, 0, 14, 28, 182, 0, 35, 192, 0, 39]
abbrev dktX6_find_0 : List UInt8 := dkwX6_find_0 ++ dktX6_find_1
theorem dksX6_find_0 : cX6_find.data.toList.drop 0 = dktX6_find_0 := by decide +kernel
theorem dksX6_find_1 : cX6_find.data.toList.drop 24 = dktX6_find_1 := dk_seg dksX6_find_0 24 rfl rfl
theorem dX6_find_0 : decode cX6_find 0 = .ok (.iconst 0, 1) := dk_3 (dk_at dksX6_find_0 0 rfl rfl)
theorem dX6_find_1 : decode cX6_find 1 = .ok (.istore_n 2, 1) := dk_61 (dk_at dksX6_find_0 1 rfl rfl)
theorem dX6_find_2 : decode cX6_find 2 = .ok (.iload_n 2, 1) := dk_28 (dk_at dksX6_find_0 2 rfl rfl)
theorem dX6_find_3 : decode cX6_find 3 = .ok (.aload_n 0, 1) := dk_42 (dk_at dksX6_find_0 3 rfl rfl)
theorem dX6_find_4 : decode cX6_find 4 = .ok (.getfield 14, 3) := dk_180 0 14 (dk_at dksX6_find_0 4 rfl rfl)
theorem dX6_find_7 : decode cX6_find 7 = .ok (.invokevirtual 31, 3) := dk_182 0 31 (dk_at dksX6_find_0 7 rfl rfl)
theorem dX6_find_10 : decode cX6_find 10 = .ok (.if_icmp .ge 29, 3) := dk_162 0 29 (dk_at dksX6_find_0 10 rfl rfl)
theorem dX6_find_13 : decode cX6_find 13 = .ok (.aload_n 0, 1) := dk_42 (dk_at dksX6_find_0 13 rfl rfl)
theorem dX6_find_14 : decode cX6_find 14 = .ok (.getfield 14, 3) := dk_180 0 14 (dk_at dksX6_find_0 14 rfl rfl)
theorem dX6_find_17 : decode cX6_find 17 = .ok (.iload_n 2, 1) := dk_28 (dk_at dksX6_find_0 17 rfl rfl)
theorem dX6_find_18 : decode cX6_find 18 = .ok (.invokevirtual 35, 3) := dk_182 0 35 (dk_at dksX6_find_0 18 rfl rfl)
theorem dX6_find_21 : decode cX6_find 21 = .ok (.checkcast 39, 3) := dk_192 0 39 (dk_at dksX6_find_0 21 rfl rfl)
theorem dX6_find_24 : decode cX6_find 24 = .ok (.getfield 48, 3) := dk_180 0 48 (dk_at dksX6_find_1 0 rfl rfl)
theorem dX6_find_27 : decode cX6_find 27 = .ok (.iload_n 1, 1) := dk_27 (dk_at dksX6_find_1 3 rfl rfl)
theorem dX6_find_28 : decode cX6_find 28 = .ok (.if_icmp .ne 5, 3) := dk_160 0 5 (dk_at dksX6_find_1 4 rfl rfl)
theorem dX6_find_31 : decode cX6_find 31 = .ok (.iload_n 2, 1) := dk_28 (dk_at dksX6_find_1 7 rfl rfl)
theorem dX6_find_32 : decode cX6_find 32 = .ok (.ireturn, 1) := dk_172 (dk_at dksX6_find_1 8 rfl rfl)
theorem dX6_find_33 : decode cX6_find 33 = .ok (.iinc 2 1, 3) := dk_132 2 1 (dk_at dksX6_find_1 9 rfl rfl)
theorem dX6_find_36 : decode cX6_find 36 = .ok (.goto (-34), 3) := dk_167 255 222 (dk_at dksX6_find_1 12 rfl rfl)
theorem dX6_find_39 : decode cX6_find 39 = .ok (.iconst (-1), 1) := dk_2 (dk_at dksX6_find_1 15 rfl rfl)
theorem dX6_find_40 : decode cX6_find 40 = .ok (.ireturn, 1) := dk_172 (dk_at dksX6_find_1 16 rfl rfl)
abbrev cX6_many : ByteArray := prog_2_method_6_code
def yX6_many : MethodName := ⟨RX6, "many", "(LMailSessions$Test;)I"⟩
def dkwX6_many_1 : List UInt8 := [182, 0, 35, 192, 0, 39, 185, 0, 55, 2, 0, 184, 0, 61, 96, 61, 132, 3, 1, 167, 255, 219, 28, 172]
abbrev dktX6_many_1 : List UInt8 := dkwX6_many_1 ++ []
def dkwX6_many_0 : List UInt8 := [3, 61, 3, 62, 29, 42, 180, 0, 14, 182, 0, 31, 162, 0, 32, 28, 43, 42, 180, 0, 14, 29]
abbrev dktX6_many_0 : List UInt8 := dkwX6_many_0 ++ dktX6_many_1
theorem dksX6_many_0 : cX6_many.data.toList.drop 0 = dktX6_many_0 := by decide +kernel
theorem dksX6_many_1 : cX6_many.data.toList.drop 22 = dktX6_many_1 := dk_seg dksX6_many_0 22 rfl rfl
theorem dX6_many_0 : decode cX6_many 0 = .ok (.iconst 0, 1) := dk_3 (dk_at dksX6_many_0 0 rfl rfl)
theorem dX6_many_1 : decode cX6_many 1 = .ok (.istore_n 2, 1) := dk_61 (dk_at dksX6_many_0 1 rfl rfl)
theorem dX6_many_2 : decode cX6_many 2 = .ok (.iconst 0, 1) := dk_3 (dk_at dksX6_many_0 2 rfl rfl)
theorem dX6_many_3 : decode cX6_many 3 = .ok (.istore_n 3, 1) := dk_62 (dk_at dksX6_many_0 3 rfl rfl)
theorem dX6_many_4 : decode cX6_many 4 = .ok (.iload_n 3, 1) := dk_29 (dk_at dksX6_many_0 4 rfl rfl)
theorem dX6_many_5 : decode cX6_many 5 = .ok (.aload_n 0, 1) := dk_42 (dk_at dksX6_many_0 5 rfl rfl)
theorem dX6_many_6 : decode cX6_many 6 = .ok (.getfield 14, 3) := dk_180 0 14 (dk_at dksX6_many_0 6 rfl rfl)
theorem dX6_many_9 : decode cX6_many 9 = .ok (.invokevirtual 31, 3) := dk_182 0 31 (dk_at dksX6_many_0 9 rfl rfl)
theorem dX6_many_12 : decode cX6_many 12 = .ok (.if_icmp .ge 32, 3) := dk_162 0 32 (dk_at dksX6_many_0 12 rfl rfl)
theorem dX6_many_15 : decode cX6_many 15 = .ok (.iload_n 2, 1) := dk_28 (dk_at dksX6_many_0 15 rfl rfl)
theorem dX6_many_16 : decode cX6_many 16 = .ok (.aload_n 1, 1) := dk_43 (dk_at dksX6_many_0 16 rfl rfl)
theorem dX6_many_17 : decode cX6_many 17 = .ok (.aload_n 0, 1) := dk_42 (dk_at dksX6_many_0 17 rfl rfl)
theorem dX6_many_18 : decode cX6_many 18 = .ok (.getfield 14, 3) := dk_180 0 14 (dk_at dksX6_many_0 18 rfl rfl)
theorem dX6_many_21 : decode cX6_many 21 = .ok (.iload_n 3, 1) := dk_29 (dk_at dksX6_many_0 21 rfl rfl)
theorem dX6_many_22 : decode cX6_many 22 = .ok (.invokevirtual 35, 3) := dk_182 0 35 (dk_at dksX6_many_1 0 rfl rfl)
theorem dX6_many_25 : decode cX6_many 25 = .ok (.checkcast 39, 3) := dk_192 0 39 (dk_at dksX6_many_1 3 rfl rfl)
theorem dX6_many_28 : decode cX6_many 28 = .ok (.invokeinterface 55 2, 5) := by decide +kernel
theorem dX6_many_33 : decode cX6_many 33 = .ok (.invokestatic 61, 3) := dk_184 0 61 (dk_at dksX6_many_1 11 rfl rfl)
theorem dX6_many_36 : decode cX6_many 36 = .ok (.iadd, 1) := dk_96 (dk_at dksX6_many_1 14 rfl rfl)
theorem dX6_many_37 : decode cX6_many 37 = .ok (.istore_n 2, 1) := dk_61 (dk_at dksX6_many_1 15 rfl rfl)
theorem dX6_many_38 : decode cX6_many 38 = .ok (.iinc 3 1, 3) := dk_132 3 1 (dk_at dksX6_many_1 16 rfl rfl)
theorem dX6_many_41 : decode cX6_many 41 = .ok (.goto (-37), 3) := dk_167 255 219 (dk_at dksX6_many_1 19 rfl rfl)
theorem dX6_many_44 : decode cX6_many 44 = .ok (.iload_n 2, 1) := dk_28 (dk_at dksX6_many_1 22 rfl rfl)
theorem dX6_many_45 : decode cX6_many 45 = .ok (.ireturn, 1) := dk_172 (dk_at dksX6_many_1 23 rfl rfl)
abbrev cX6_sizes : ByteArray := prog_2_method_7_code
def yX6_sizes : MethodName := ⟨RX6, "sizes", "()I"⟩
def dkwX6_sizes_1 : List UInt8 := [192, 0, 39, 180, 0, 65, 96, 60, 132, 2, 1, 167, 255, 225, 27, 172]
abbrev dktX6_sizes_1 : List UInt8 := dkwX6_sizes_1 ++ []
def dkwX6_sizes_0 : List UInt8 := [3, 60, 3, 61, 28, 42, 180, 0, 14, 182, 0, 31, 162, 0, 26, 27, 42, 180, 0, 14, 28, 182, 0, 35]
abbrev dktX6_sizes_0 : List UInt8 := dkwX6_sizes_0 ++ dktX6_sizes_1
theorem dksX6_sizes_0 : cX6_sizes.data.toList.drop 0 = dktX6_sizes_0 := by decide +kernel
theorem dksX6_sizes_1 : cX6_sizes.data.toList.drop 24 = dktX6_sizes_1 := dk_seg dksX6_sizes_0 24 rfl rfl
theorem dX6_sizes_0 : decode cX6_sizes 0 = .ok (.iconst 0, 1) := dk_3 (dk_at dksX6_sizes_0 0 rfl rfl)
theorem dX6_sizes_1 : decode cX6_sizes 1 = .ok (.istore_n 1, 1) := dk_60 (dk_at dksX6_sizes_0 1 rfl rfl)
theorem dX6_sizes_2 : decode cX6_sizes 2 = .ok (.iconst 0, 1) := dk_3 (dk_at dksX6_sizes_0 2 rfl rfl)
theorem dX6_sizes_3 : decode cX6_sizes 3 = .ok (.istore_n 2, 1) := dk_61 (dk_at dksX6_sizes_0 3 rfl rfl)
theorem dX6_sizes_4 : decode cX6_sizes 4 = .ok (.iload_n 2, 1) := dk_28 (dk_at dksX6_sizes_0 4 rfl rfl)
theorem dX6_sizes_5 : decode cX6_sizes 5 = .ok (.aload_n 0, 1) := dk_42 (dk_at dksX6_sizes_0 5 rfl rfl)
theorem dX6_sizes_6 : decode cX6_sizes 6 = .ok (.getfield 14, 3) := dk_180 0 14 (dk_at dksX6_sizes_0 6 rfl rfl)
theorem dX6_sizes_9 : decode cX6_sizes 9 = .ok (.invokevirtual 31, 3) := dk_182 0 31 (dk_at dksX6_sizes_0 9 rfl rfl)
theorem dX6_sizes_12 : decode cX6_sizes 12 = .ok (.if_icmp .ge 26, 3) := dk_162 0 26 (dk_at dksX6_sizes_0 12 rfl rfl)
theorem dX6_sizes_15 : decode cX6_sizes 15 = .ok (.iload_n 1, 1) := dk_27 (dk_at dksX6_sizes_0 15 rfl rfl)
theorem dX6_sizes_16 : decode cX6_sizes 16 = .ok (.aload_n 0, 1) := dk_42 (dk_at dksX6_sizes_0 16 rfl rfl)
theorem dX6_sizes_17 : decode cX6_sizes 17 = .ok (.getfield 14, 3) := dk_180 0 14 (dk_at dksX6_sizes_0 17 rfl rfl)
theorem dX6_sizes_20 : decode cX6_sizes 20 = .ok (.iload_n 2, 1) := dk_28 (dk_at dksX6_sizes_0 20 rfl rfl)
theorem dX6_sizes_21 : decode cX6_sizes 21 = .ok (.invokevirtual 35, 3) := dk_182 0 35 (dk_at dksX6_sizes_0 21 rfl rfl)
theorem dX6_sizes_24 : decode cX6_sizes 24 = .ok (.checkcast 39, 3) := dk_192 0 39 (dk_at dksX6_sizes_1 0 rfl rfl)
theorem dX6_sizes_27 : decode cX6_sizes 27 = .ok (.getfield 65, 3) := dk_180 0 65 (dk_at dksX6_sizes_1 3 rfl rfl)
theorem dX6_sizes_30 : decode cX6_sizes 30 = .ok (.iadd, 1) := dk_96 (dk_at dksX6_sizes_1 6 rfl rfl)
theorem dX6_sizes_31 : decode cX6_sizes 31 = .ok (.istore_n 1, 1) := dk_60 (dk_at dksX6_sizes_1 7 rfl rfl)
theorem dX6_sizes_32 : decode cX6_sizes 32 = .ok (.iinc 2 1, 3) := dk_132 2 1 (dk_at dksX6_sizes_1 8 rfl rfl)
theorem dX6_sizes_35 : decode cX6_sizes 35 = .ok (.goto (-31), 3) := dk_167 255 225 (dk_at dksX6_sizes_1 11 rfl rfl)
theorem dX6_sizes_38 : decode cX6_sizes 38 = .ok (.iload_n 1, 1) := dk_27 (dk_at dksX6_sizes_1 14 rfl rfl)
theorem dX6_sizes_39 : decode cX6_sizes 39 = .ok (.ireturn, 1) := dk_172 (dk_at dksX6_sizes_1 15 rfl rfl)
abbrev cX6_init_2 : ByteArray := prog_2_method_2_code
def yX6_init_2 : MethodName := ⟨RX6, "<init>", "(LMailSessions$Box;)V"⟩
def dkwX6_init_2_2 : List UInt8 := [42, 43, 180, 0, 20, 181, 0, 20, 177]
abbrev dktX6_init_2_2 : List UInt8 := dkwX6_init_2_2 ++ []
def dkwX6_init_2_1 : List UInt8 := [180, 0, 14, 43, 180, 0, 14, 28, 182, 0, 35, 192, 0, 39, 182, 0, 41, 87, 132, 2, 1, 167, 255, 223]
abbrev dktX6_init_2_1 : List UInt8 := dkwX6_init_2_1 ++ dktX6_init_2_2
def dkwX6_init_2_0 : List UInt8 := [42, 43, 180, 0, 24, 183, 0, 28, 3, 61, 28, 43, 180, 0, 14, 182, 0, 31, 162, 0, 28, 42]
abbrev dktX6_init_2_0 : List UInt8 := dkwX6_init_2_0 ++ dktX6_init_2_1
theorem dksX6_init_2_0 : cX6_init_2.data.toList.drop 0 = dktX6_init_2_0 := by decide +kernel
theorem dksX6_init_2_1 : cX6_init_2.data.toList.drop 22 = dktX6_init_2_1 := dk_seg dksX6_init_2_0 22 rfl rfl
theorem dksX6_init_2_2 : cX6_init_2.data.toList.drop 46 = dktX6_init_2_2 := dk_seg dksX6_init_2_1 24 rfl rfl
theorem dX6_init_2_0 : decode cX6_init_2 0 = .ok (.aload_n 0, 1) := dk_42 (dk_at dksX6_init_2_0 0 rfl rfl)
theorem dX6_init_2_1 : decode cX6_init_2 1 = .ok (.aload_n 1, 1) := dk_43 (dk_at dksX6_init_2_0 1 rfl rfl)
theorem dX6_init_2_2 : decode cX6_init_2 2 = .ok (.getfield 24, 3) := dk_180 0 24 (dk_at dksX6_init_2_0 2 rfl rfl)
theorem dX6_init_2_5 : decode cX6_init_2 5 = .ok (.invokespecial 28, 3) := dk_183 0 28 (dk_at dksX6_init_2_0 5 rfl rfl)
theorem dX6_init_2_8 : decode cX6_init_2 8 = .ok (.iconst 0, 1) := dk_3 (dk_at dksX6_init_2_0 8 rfl rfl)
theorem dX6_init_2_9 : decode cX6_init_2 9 = .ok (.istore_n 2, 1) := dk_61 (dk_at dksX6_init_2_0 9 rfl rfl)
theorem dX6_init_2_10 : decode cX6_init_2 10 = .ok (.iload_n 2, 1) := dk_28 (dk_at dksX6_init_2_0 10 rfl rfl)
theorem dX6_init_2_11 : decode cX6_init_2 11 = .ok (.aload_n 1, 1) := dk_43 (dk_at dksX6_init_2_0 11 rfl rfl)
theorem dX6_init_2_12 : decode cX6_init_2 12 = .ok (.getfield 14, 3) := dk_180 0 14 (dk_at dksX6_init_2_0 12 rfl rfl)
theorem dX6_init_2_15 : decode cX6_init_2 15 = .ok (.invokevirtual 31, 3) := dk_182 0 31 (dk_at dksX6_init_2_0 15 rfl rfl)
theorem dX6_init_2_18 : decode cX6_init_2 18 = .ok (.if_icmp .ge 28, 3) := dk_162 0 28 (dk_at dksX6_init_2_0 18 rfl rfl)
theorem dX6_init_2_21 : decode cX6_init_2 21 = .ok (.aload_n 0, 1) := dk_42 (dk_at dksX6_init_2_0 21 rfl rfl)
theorem dX6_init_2_22 : decode cX6_init_2 22 = .ok (.getfield 14, 3) := dk_180 0 14 (dk_at dksX6_init_2_1 0 rfl rfl)
theorem dX6_init_2_25 : decode cX6_init_2 25 = .ok (.aload_n 1, 1) := dk_43 (dk_at dksX6_init_2_1 3 rfl rfl)
theorem dX6_init_2_26 : decode cX6_init_2 26 = .ok (.getfield 14, 3) := dk_180 0 14 (dk_at dksX6_init_2_1 4 rfl rfl)
theorem dX6_init_2_29 : decode cX6_init_2 29 = .ok (.iload_n 2, 1) := dk_28 (dk_at dksX6_init_2_1 7 rfl rfl)
theorem dX6_init_2_30 : decode cX6_init_2 30 = .ok (.invokevirtual 35, 3) := dk_182 0 35 (dk_at dksX6_init_2_1 8 rfl rfl)
theorem dX6_init_2_33 : decode cX6_init_2 33 = .ok (.checkcast 39, 3) := dk_192 0 39 (dk_at dksX6_init_2_1 11 rfl rfl)
theorem dX6_init_2_36 : decode cX6_init_2 36 = .ok (.invokevirtual 41, 3) := dk_182 0 41 (dk_at dksX6_init_2_1 14 rfl rfl)
theorem dX6_init_2_39 : decode cX6_init_2 39 = .ok (.pop, 1) := dk_87 (dk_at dksX6_init_2_1 17 rfl rfl)
theorem dX6_init_2_40 : decode cX6_init_2 40 = .ok (.iinc 2 1, 3) := dk_132 2 1 (dk_at dksX6_init_2_1 18 rfl rfl)
theorem dX6_init_2_43 : decode cX6_init_2 43 = .ok (.goto (-33), 3) := dk_167 255 223 (dk_at dksX6_init_2_1 21 rfl rfl)
theorem dX6_init_2_46 : decode cX6_init_2 46 = .ok (.aload_n 0, 1) := dk_42 (dk_at dksX6_init_2_2 0 rfl rfl)
theorem dX6_init_2_47 : decode cX6_init_2 47 = .ok (.aload_n 1, 1) := dk_43 (dk_at dksX6_init_2_2 1 rfl rfl)
theorem dX6_init_2_48 : decode cX6_init_2 48 = .ok (.getfield 20, 3) := dk_180 0 20 (dk_at dksX6_init_2_2 2 rfl rfl)
theorem dX6_init_2_51 : decode cX6_init_2 51 = .ok (.putfield 20, 3) := dk_181 0 20 (dk_at dksX6_init_2_2 5 rfl rfl)
theorem dX6_init_2_54 : decode cX6_init_2 54 = .ok (.return_, 1) := dk_177 (dk_at dksX6_init_2_2 8 rfl rfl)
abbrev cX6_change : ByteArray := prog_2_method_9_code
def yX6_change : MethodName := ⟨RX6, "change", "(LMailSessions$Test;LMailSessions$Change;)I"⟩
def dkwX6_change_4 : List UInt8 := [58, 6, 132, 3, 1, 132, 4, 1, 167, 255, 161, 29, 172]
abbrev dktX6_change_4 : List UInt8 := dkwX6_change_4 ++ []
def dkwX6_change_3 : List UInt8 := [21, 4, 25, 5, 44, 25, 5, 180, 0, 70, 185, 0, 73, 2, 0, 182, 0, 78, 182, 0, 82, 192, 0, 39]
abbrev dktX6_change_3 : List UInt8 := dkwX6_change_3 ++ dktX6_change_4
def dkwX6_change_2 : List UInt8 := [180, 0, 70, 185, 0, 73, 2, 0, 25, 5, 180, 0, 70, 160, 0, 6, 167, 0, 36, 42, 180, 0, 14]
abbrev dktX6_change_2 : List UInt8 := dkwX6_change_2 ++ dktX6_change_3
def dkwX6_change_1 : List UInt8 := [182, 0, 35, 192, 0, 39, 58, 5, 43, 25, 5, 185, 0, 55, 2, 0, 153, 0, 58, 44, 25, 5]
abbrev dktX6_change_1 : List UInt8 := dkwX6_change_1 ++ dktX6_change_2
def dkwX6_change_0 : List UInt8 := [3, 62, 3, 54, 4, 21, 4, 42, 180, 0, 14, 182, 0, 31, 162, 0, 89, 42, 180, 0, 14, 21, 4]
abbrev dktX6_change_0 : List UInt8 := dkwX6_change_0 ++ dktX6_change_1
theorem dksX6_change_0 : cX6_change.data.toList.drop 0 = dktX6_change_0 := by decide +kernel
theorem dksX6_change_1 : cX6_change.data.toList.drop 23 = dktX6_change_1 := dk_seg dksX6_change_0 23 rfl rfl
theorem dksX6_change_2 : cX6_change.data.toList.drop 45 = dktX6_change_2 := dk_seg dksX6_change_1 22 rfl rfl
theorem dksX6_change_3 : cX6_change.data.toList.drop 68 = dktX6_change_3 := dk_seg dksX6_change_2 23 rfl rfl
theorem dksX6_change_4 : cX6_change.data.toList.drop 92 = dktX6_change_4 := dk_seg dksX6_change_3 24 rfl rfl
theorem dX6_change_0 : decode cX6_change 0 = .ok (.iconst 0, 1) := dk_3 (dk_at dksX6_change_0 0 rfl rfl)
theorem dX6_change_1 : decode cX6_change 1 = .ok (.istore_n 3, 1) := dk_62 (dk_at dksX6_change_0 1 rfl rfl)
theorem dX6_change_2 : decode cX6_change 2 = .ok (.iconst 0, 1) := dk_3 (dk_at dksX6_change_0 2 rfl rfl)
theorem dX6_change_3 : decode cX6_change 3 = .ok (.istore 4, 2) := dk_54 4 (dk_at dksX6_change_0 3 rfl rfl)
theorem dX6_change_5 : decode cX6_change 5 = .ok (.iload 4, 2) := dk_21 4 (dk_at dksX6_change_0 5 rfl rfl)
theorem dX6_change_7 : decode cX6_change 7 = .ok (.aload_n 0, 1) := dk_42 (dk_at dksX6_change_0 7 rfl rfl)
theorem dX6_change_8 : decode cX6_change 8 = .ok (.getfield 14, 3) := dk_180 0 14 (dk_at dksX6_change_0 8 rfl rfl)
theorem dX6_change_11 : decode cX6_change 11 = .ok (.invokevirtual 31, 3) := dk_182 0 31 (dk_at dksX6_change_0 11 rfl rfl)
theorem dX6_change_14 : decode cX6_change 14 = .ok (.if_icmp .ge 89, 3) := dk_162 0 89 (dk_at dksX6_change_0 14 rfl rfl)
theorem dX6_change_17 : decode cX6_change 17 = .ok (.aload_n 0, 1) := dk_42 (dk_at dksX6_change_0 17 rfl rfl)
theorem dX6_change_18 : decode cX6_change 18 = .ok (.getfield 14, 3) := dk_180 0 14 (dk_at dksX6_change_0 18 rfl rfl)
theorem dX6_change_21 : decode cX6_change 21 = .ok (.iload 4, 2) := dk_21 4 (dk_at dksX6_change_0 21 rfl rfl)
theorem dX6_change_23 : decode cX6_change 23 = .ok (.invokevirtual 35, 3) := dk_182 0 35 (dk_at dksX6_change_1 0 rfl rfl)
theorem dX6_change_26 : decode cX6_change 26 = .ok (.checkcast 39, 3) := dk_192 0 39 (dk_at dksX6_change_1 3 rfl rfl)
theorem dX6_change_29 : decode cX6_change 29 = .ok (.astore 5, 2) := dk_58 5 (dk_at dksX6_change_1 6 rfl rfl)
theorem dX6_change_31 : decode cX6_change 31 = .ok (.aload_n 1, 1) := dk_43 (dk_at dksX6_change_1 8 rfl rfl)
theorem dX6_change_32 : decode cX6_change 32 = .ok (.aload 5, 2) := dk_25 5 (dk_at dksX6_change_1 9 rfl rfl)
theorem dX6_change_34 : decode cX6_change 34 = .ok (.invokeinterface 55 2, 5) := by decide +kernel
theorem dX6_change_39 : decode cX6_change 39 = .ok (.ifCond .eq 58, 3) := dk_153 0 58 (dk_at dksX6_change_1 16 rfl rfl)
theorem dX6_change_42 : decode cX6_change 42 = .ok (.aload_n 2, 1) := dk_44 (dk_at dksX6_change_1 19 rfl rfl)
theorem dX6_change_43 : decode cX6_change 43 = .ok (.aload 5, 2) := dk_25 5 (dk_at dksX6_change_1 20 rfl rfl)
theorem dX6_change_45 : decode cX6_change 45 = .ok (.getfield 70, 3) := dk_180 0 70 (dk_at dksX6_change_2 0 rfl rfl)
theorem dX6_change_48 : decode cX6_change 48 = .ok (.invokeinterface 73 2, 5) := by decide +kernel
theorem dX6_change_53 : decode cX6_change 53 = .ok (.aload 5, 2) := dk_25 5 (dk_at dksX6_change_2 8 rfl rfl)
theorem dX6_change_55 : decode cX6_change 55 = .ok (.getfield 70, 3) := dk_180 0 70 (dk_at dksX6_change_2 10 rfl rfl)
theorem dX6_change_58 : decode cX6_change 58 = .ok (.if_icmp .ne 6, 3) := dk_160 0 6 (dk_at dksX6_change_2 13 rfl rfl)
theorem dX6_change_61 : decode cX6_change 61 = .ok (.goto 36, 3) := dk_167 0 36 (dk_at dksX6_change_2 16 rfl rfl)
theorem dX6_change_64 : decode cX6_change 64 = .ok (.aload_n 0, 1) := dk_42 (dk_at dksX6_change_2 19 rfl rfl)
theorem dX6_change_65 : decode cX6_change 65 = .ok (.getfield 14, 3) := dk_180 0 14 (dk_at dksX6_change_2 20 rfl rfl)
theorem dX6_change_68 : decode cX6_change 68 = .ok (.iload 4, 2) := dk_21 4 (dk_at dksX6_change_3 0 rfl rfl)
theorem dX6_change_70 : decode cX6_change 70 = .ok (.aload 5, 2) := dk_25 5 (dk_at dksX6_change_3 2 rfl rfl)
theorem dX6_change_72 : decode cX6_change 72 = .ok (.aload_n 2, 1) := dk_44 (dk_at dksX6_change_3 4 rfl rfl)
theorem dX6_change_73 : decode cX6_change 73 = .ok (.aload 5, 2) := dk_25 5 (dk_at dksX6_change_3 5 rfl rfl)
theorem dX6_change_75 : decode cX6_change 75 = .ok (.getfield 70, 3) := dk_180 0 70 (dk_at dksX6_change_3 7 rfl rfl)
theorem dX6_change_78 : decode cX6_change 78 = .ok (.invokeinterface 73 2, 5) := by decide +kernel
theorem dX6_change_83 : decode cX6_change 83 = .ok (.invokevirtual 78, 3) := dk_182 0 78 (dk_at dksX6_change_3 15 rfl rfl)
theorem dX6_change_86 : decode cX6_change 86 = .ok (.invokevirtual 82, 3) := dk_182 0 82 (dk_at dksX6_change_3 18 rfl rfl)
theorem dX6_change_89 : decode cX6_change 89 = .ok (.checkcast 39, 3) := dk_192 0 39 (dk_at dksX6_change_3 21 rfl rfl)
theorem dX6_change_92 : decode cX6_change 92 = .ok (.astore 6, 2) := dk_58 6 (dk_at dksX6_change_4 0 rfl rfl)
theorem dX6_change_94 : decode cX6_change 94 = .ok (.iinc 3 1, 3) := dk_132 3 1 (dk_at dksX6_change_4 2 rfl rfl)
theorem dX6_change_97 : decode cX6_change 97 = .ok (.iinc 4 1, 3) := dk_132 4 1 (dk_at dksX6_change_4 5 rfl rfl)
theorem dX6_change_100 : decode cX6_change 100 = .ok (.goto (-95), 3) := dk_167 255 161 (dk_at dksX6_change_4 8 rfl rfl)
theorem dX6_change_103 : decode cX6_change 103 = .ok (.iload_n 3, 1) := dk_29 (dk_at dksX6_change_4 11 rfl rfl)
theorem dX6_change_104 : decode cX6_change 104 = .ok (.ireturn, 1) := dk_172 (dk_at dksX6_change_4 12 rfl rfl)
abbrev cX6_remove : ByteArray := prog_2_method_8_code
def yX6_remove : MethodName := ⟨RX6, "remove", "(LMailSessions$Test;)I"⟩
def dkwX6_remove_2 : List UInt8 := [182, 0, 67, 192, 0, 39, 58, 4, 132, 3, 255, 167, 255, 213, 28, 42, 180, 0, 14, 182, 0, 31, 100, 172]
abbrev dktX6_remove_2 : List UInt8 := dkwX6_remove_2 ++ []
def dkwX6_remove_1 : List UInt8 := [182, 0, 35, 192, 0, 39, 185, 0, 55, 2, 0, 154, 0, 6, 167, 0, 16, 42, 180, 0, 14, 29]
abbrev dktX6_remove_1 : List UInt8 := dkwX6_remove_1 ++ dktX6_remove_2
def dkwX6_remove_0 : List UInt8 := [42, 180, 0, 14, 182, 0, 31, 61, 28, 4, 100, 62, 29, 155, 0, 45, 43, 42, 180, 0, 14, 29]
abbrev dktX6_remove_0 : List UInt8 := dkwX6_remove_0 ++ dktX6_remove_1
theorem dksX6_remove_0 : cX6_remove.data.toList.drop 0 = dktX6_remove_0 := by decide +kernel
theorem dksX6_remove_1 : cX6_remove.data.toList.drop 22 = dktX6_remove_1 := dk_seg dksX6_remove_0 22 rfl rfl
theorem dksX6_remove_2 : cX6_remove.data.toList.drop 44 = dktX6_remove_2 := dk_seg dksX6_remove_1 22 rfl rfl
theorem dX6_remove_0 : decode cX6_remove 0 = .ok (.aload_n 0, 1) := dk_42 (dk_at dksX6_remove_0 0 rfl rfl)
theorem dX6_remove_1 : decode cX6_remove 1 = .ok (.getfield 14, 3) := dk_180 0 14 (dk_at dksX6_remove_0 1 rfl rfl)
theorem dX6_remove_4 : decode cX6_remove 4 = .ok (.invokevirtual 31, 3) := dk_182 0 31 (dk_at dksX6_remove_0 4 rfl rfl)
theorem dX6_remove_7 : decode cX6_remove 7 = .ok (.istore_n 2, 1) := dk_61 (dk_at dksX6_remove_0 7 rfl rfl)
theorem dX6_remove_8 : decode cX6_remove 8 = .ok (.iload_n 2, 1) := dk_28 (dk_at dksX6_remove_0 8 rfl rfl)
theorem dX6_remove_9 : decode cX6_remove 9 = .ok (.iconst 1, 1) := dk_4 (dk_at dksX6_remove_0 9 rfl rfl)
theorem dX6_remove_10 : decode cX6_remove 10 = .ok (.isub, 1) := dk_100 (dk_at dksX6_remove_0 10 rfl rfl)
theorem dX6_remove_11 : decode cX6_remove 11 = .ok (.istore_n 3, 1) := dk_62 (dk_at dksX6_remove_0 11 rfl rfl)
theorem dX6_remove_12 : decode cX6_remove 12 = .ok (.iload_n 3, 1) := dk_29 (dk_at dksX6_remove_0 12 rfl rfl)
theorem dX6_remove_13 : decode cX6_remove 13 = .ok (.ifCond .lt 45, 3) := dk_155 0 45 (dk_at dksX6_remove_0 13 rfl rfl)
theorem dX6_remove_16 : decode cX6_remove 16 = .ok (.aload_n 1, 1) := dk_43 (dk_at dksX6_remove_0 16 rfl rfl)
theorem dX6_remove_17 : decode cX6_remove 17 = .ok (.aload_n 0, 1) := dk_42 (dk_at dksX6_remove_0 17 rfl rfl)
theorem dX6_remove_18 : decode cX6_remove 18 = .ok (.getfield 14, 3) := dk_180 0 14 (dk_at dksX6_remove_0 18 rfl rfl)
theorem dX6_remove_21 : decode cX6_remove 21 = .ok (.iload_n 3, 1) := dk_29 (dk_at dksX6_remove_0 21 rfl rfl)
theorem dX6_remove_22 : decode cX6_remove 22 = .ok (.invokevirtual 35, 3) := dk_182 0 35 (dk_at dksX6_remove_1 0 rfl rfl)
theorem dX6_remove_25 : decode cX6_remove 25 = .ok (.checkcast 39, 3) := dk_192 0 39 (dk_at dksX6_remove_1 3 rfl rfl)
theorem dX6_remove_28 : decode cX6_remove 28 = .ok (.invokeinterface 55 2, 5) := by decide +kernel
theorem dX6_remove_33 : decode cX6_remove 33 = .ok (.ifCond .ne 6, 3) := dk_154 0 6 (dk_at dksX6_remove_1 11 rfl rfl)
theorem dX6_remove_36 : decode cX6_remove 36 = .ok (.goto 16, 3) := dk_167 0 16 (dk_at dksX6_remove_1 14 rfl rfl)
theorem dX6_remove_39 : decode cX6_remove 39 = .ok (.aload_n 0, 1) := dk_42 (dk_at dksX6_remove_1 17 rfl rfl)
theorem dX6_remove_40 : decode cX6_remove 40 = .ok (.getfield 14, 3) := dk_180 0 14 (dk_at dksX6_remove_1 18 rfl rfl)
theorem dX6_remove_43 : decode cX6_remove 43 = .ok (.iload_n 3, 1) := dk_29 (dk_at dksX6_remove_1 21 rfl rfl)
theorem dX6_remove_44 : decode cX6_remove 44 = .ok (.invokevirtual 67, 3) := dk_182 0 67 (dk_at dksX6_remove_2 0 rfl rfl)
theorem dX6_remove_47 : decode cX6_remove 47 = .ok (.checkcast 39, 3) := dk_192 0 39 (dk_at dksX6_remove_2 3 rfl rfl)
theorem dX6_remove_50 : decode cX6_remove 50 = .ok (.astore 4, 2) := dk_58 4 (dk_at dksX6_remove_2 6 rfl rfl)
theorem dX6_remove_52 : decode cX6_remove 52 = .ok (.iinc 3 (-1), 3) := dk_132 3 255 (dk_at dksX6_remove_2 8 rfl rfl)
theorem dX6_remove_55 : decode cX6_remove 55 = .ok (.goto (-43), 3) := dk_167 255 213 (dk_at dksX6_remove_2 11 rfl rfl)
theorem dX6_remove_58 : decode cX6_remove 58 = .ok (.iload_n 2, 1) := dk_28 (dk_at dksX6_remove_2 14 rfl rfl)
theorem dX6_remove_59 : decode cX6_remove 59 = .ok (.aload_n 0, 1) := dk_42 (dk_at dksX6_remove_2 15 rfl rfl)
theorem dX6_remove_60 : decode cX6_remove 60 = .ok (.getfield 14, 3) := dk_180 0 14 (dk_at dksX6_remove_2 16 rfl rfl)
theorem dX6_remove_63 : decode cX6_remove 63 = .ok (.invokevirtual 31, 3) := dk_182 0 31 (dk_at dksX6_remove_2 19 rfl rfl)
theorem dX6_remove_66 : decode cX6_remove 66 = .ok (.isub, 1) := dk_100 (dk_at dksX6_remove_2 22 rfl rfl)
theorem dX6_remove_67 : decode cX6_remove 67 = .ok (.ireturn, 1) := dk_172 (dk_at dksX6_remove_2 23 rfl rfl)
theorem q180 : (Jvm.Cond.initialized "MailSessions$Box") ∈ lw_all := lw_g (lw_at lw_m1 30 rfl) rfl
theorem q898 : (Jvm.Cond.instantiable "MailSessions$Box" (3 : Nat)) ∈ lw_all := lw_g (lw_at lw_m4 28 rfl) rfl
theorem q900 : (Jvm.Cond.instanceMethod ({ cls := "MailSessions$Box", name := "<init>", desc := "(Ljava/lang/String;)V" } : Jvm.MethodName)) ∈ lw_all := lw_g (lw_at lw_m4 30 rfl) rfl
theorem q901 : (Jvm.Cond.code ({ cls := "MailSessions$Box", name := "<init>", desc := "(Ljava/lang/String;)V" } : Jvm.MethodName) prog_2_method_1_code (2 : Nat) (Option.none : Option Jvm.ClassFile.FieldType)) ∈ lw_all := lw_g (lw_at lw_m4 31 rfl) rfl
theorem q902 : (Jvm.Cond.methodLink "MailSessions$Box" (3 : Nat) ({ cls := "java/lang/Object", name := "<init>", desc := "()V" } : Jvm.MethodName)) ∈ lw_all := lw_g (lw_at lw_m4 32 rfl) rfl
theorem q903 : (Jvm.Cond.classLink "MailSessions$Box" (9 : Nat) "java/util/ArrayList") ∈ lw_all := lw_g (lw_at lw_m4 33 rfl) rfl
theorem q904 : (Jvm.Cond.methodLink "MailSessions$Box" (11 : Nat) ({ cls := "java/util/ArrayList", name := "<init>", desc := "(I)V" } : Jvm.MethodName)) ∈ lw_all := lw_g (lw_at lw_m4 34 rfl) rfl
theorem q905 : (Jvm.Cond.fieldLink "MailSessions$Box" (24 : Nat) "MailSessions$Box" "name" "Ljava/lang/String;") ∈ lw_all := lw_g (lw_at lw_m4 35 rfl) rfl
theorem q907 : (Jvm.Cond.fieldLink "MailSessions$Box" (14 : Nat) "MailSessions$Box" "messages" "Ljava/util/ArrayList;") ∈ lw_all := lw_g (lw_at lw_m4 37 rfl) rfl
theorem q910 : (Jvm.Cond.fieldLink "MailSessions$Box" (20 : Nat) "MailSessions$Box" "nextUid" "I") ∈ lw_all := lw_g (lw_at lw_m4 40 rfl) rfl
theorem q913 : (Jvm.Cond.laysFinal "MailSessions$Box" "MailSessions$Box" "name" "Ljava/lang/String;") ∈ lw_all := lw_g (lw_at lw_m4 43 rfl) rfl
theorem q914 : (Jvm.Cond.soleField "MailSessions$Box" "name") ∈ lw_all := lw_g (lw_at lw_m4 44 rfl) rfl
theorem q915 : (Jvm.Cond.laysFinal "MailSessions$Box" "MailSessions$Box" "messages" "Ljava/util/ArrayList;") ∈ lw_all := lw_g (lw_at lw_m4 45 rfl) rfl
theorem q916 : (Jvm.Cond.soleField "MailSessions$Box" "messages") ∈ lw_all := lw_g (lw_at lw_m4 46 rfl) rfl
theorem q917 : (Jvm.Cond.lays "MailSessions$Box" "MailSessions$Box" "nextUid" "I") ∈ lw_all := lw_g (lw_at lw_m4 47 rfl) rfl
theorem q918 : (Jvm.Cond.soleField "MailSessions$Box" "nextUid") ∈ lw_all := lw_g (lw_at lw_m4 48 rfl) rfl
theorem q919 : (Jvm.Cond.superclass "MailSessions$Box" "java/lang/Object") ∈ lw_all := lw_g (lw_at lw_m4 49 rfl) rfl
theorem q944 : (Jvm.Cond.selects "MailSessions$Box" ({ cls := "java/lang/Object", name := "getClass", desc := "()Ljava/lang/Class;" } : Jvm.MethodName) ({ cls := "java/lang/Object", name := "getClass", desc := "()Ljava/lang/Class;" } : Jvm.MethodName)) ∈ lw_all := lw_g (lw_at lw_m4 74 rfl) rfl
theorem q996 : (Jvm.Cond.instanceMethod ({ cls := "MailSessions$Box", name := "add", desc := "(II)I" } : Jvm.MethodName)) ∈ lw_all := lw_g (lw_at lw_m4 126 rfl) rfl
theorem q997 : (Jvm.Cond.selects "MailSessions$Box" ({ cls := "MailSessions$Box", name := "add", desc := "(II)I" } : Jvm.MethodName) ({ cls := "MailSessions$Box", name := "add", desc := "(II)I" } : Jvm.MethodName)) ∈ lw_all := lw_g (lw_at lw_m4 127 rfl) rfl
theorem q998 : (Jvm.Cond.code ({ cls := "MailSessions$Box", name := "add", desc := "(II)I" } : Jvm.MethodName) prog_2_method_3_code (3 : Nat) (Option.some Jvm.ClassFile.FieldType.int)) ∈ lw_all := lw_g (lw_at lw_m4 128 rfl) rfl
theorem q999 : (Jvm.Cond.classLink "MailSessions$Box" (39 : Nat) "MailSessions$Message") ∈ lw_all := lw_g (lw_at lw_m4 129 rfl) rfl
theorem q1001 : (Jvm.Cond.methodLink "MailSessions$Box" (45 : Nat) ({ cls := "MailSessions$Message", name := "<init>", desc := "(III)V" } : Jvm.MethodName)) ∈ lw_all := lw_g (lw_at lw_m4 131 rfl) rfl
theorem q1007 : (Jvm.Cond.fieldLinkNest "MailSessions$Box" (48 : Nat) "MailSessions$Message" "uid" "I" "MailSessions") ∈ lw_tbl := lw_at lw_m4 137 rfl
theorem q1012 : (Jvm.Cond.fieldLinkNest "MailSessions$Box" (65 : Nat) "MailSessions$Message" "size" "I" "MailSessions") ∈ lw_tbl := lw_at lw_m4 142 rfl
theorem q1018 : (Jvm.Cond.fieldLinkNest "MailSessions$Box" (70 : Nat) "MailSessions$Message" "flags" "I" "MailSessions") ∈ lw_tbl := lw_at lw_m4 148 rfl
theorem q1028 : (Jvm.Cond.methodLink "MailSessions$Box" (41 : Nat) ({ cls := "java/util/ArrayList", name := "add", desc := "(Ljava/lang/Object;)Z" } : Jvm.MethodName)) ∈ lw_all := lw_g (lw_at lw_m4 158 rfl) rfl
theorem q1236 : (Jvm.Cond.instanceMethod ({ cls := "MailSessions$Box", name := "named", desc := "(I)LMailSessions$Message;" } : Jvm.MethodName)) ∈ lw_all := lw_g (lw_at lw_m5 126 rfl) rfl
theorem q1237 : (Jvm.Cond.selects "MailSessions$Box" ({ cls := "MailSessions$Box", name := "named", desc := "(I)LMailSessions$Message;" } : Jvm.MethodName) ({ cls := "MailSessions$Box", name := "named", desc := "(I)LMailSessions$Message;" } : Jvm.MethodName)) ∈ lw_all := lw_g (lw_at lw_m5 127 rfl) rfl
theorem q1238 : (Jvm.Cond.code ({ cls := "MailSessions$Box", name := "named", desc := "(I)LMailSessions$Message;" } : Jvm.MethodName) prog_2_method_5_code (3 : Nat) (Option.some (Jvm.ClassFile.FieldType.object "MailSessions$Message"))) ∈ lw_all := lw_g (lw_at lw_m5 128 rfl) rfl
theorem q1239 : (Jvm.Cond.methodLink "MailSessions$Box" (51 : Nat) ({ cls := "MailSessions$Box", name := "find", desc := "(I)I" } : Jvm.MethodName)) ∈ lw_all := lw_g (lw_at lw_m5 129 rfl) rfl
theorem q1240 : (Jvm.Cond.instanceMethod ({ cls := "MailSessions$Box", name := "find", desc := "(I)I" } : Jvm.MethodName)) ∈ lw_all := lw_g (lw_at lw_m5 130 rfl) rfl
theorem q1241 : (Jvm.Cond.selects "MailSessions$Box" ({ cls := "MailSessions$Box", name := "find", desc := "(I)I" } : Jvm.MethodName) ({ cls := "MailSessions$Box", name := "find", desc := "(I)I" } : Jvm.MethodName)) ∈ lw_all := lw_g (lw_at lw_m5 131 rfl) rfl
theorem q1242 : (Jvm.Cond.code ({ cls := "MailSessions$Box", name := "find", desc := "(I)I" } : Jvm.MethodName) prog_2_method_4_code (3 : Nat) (Option.some Jvm.ClassFile.FieldType.int)) ∈ lw_all := lw_g (lw_at lw_m5 132 rfl) rfl
theorem q1243 : (Jvm.Cond.methodLink "MailSessions$Box" (31 : Nat) ({ cls := "java/util/ArrayList", name := "size", desc := "()I" } : Jvm.MethodName)) ∈ lw_all := lw_g (lw_at lw_m5 133 rfl) rfl
theorem q1244 : (Jvm.Cond.methodLink "MailSessions$Box" (35 : Nat) ({ cls := "java/util/ArrayList", name := "get", desc := "(I)Ljava/lang/Object;" } : Jvm.MethodName)) ∈ lw_all := lw_g (lw_at lw_m5 134 rfl) rfl
theorem q1268 : (Jvm.Cond.instanceMethod ({ cls := "MailSessions$Box", name := "many", desc := "(LMailSessions$Test;)I" } : Jvm.MethodName)) ∈ lw_all := lw_g (lw_at lw_m5 158 rfl) rfl
theorem q1269 : (Jvm.Cond.selects "MailSessions$Box" ({ cls := "MailSessions$Box", name := "many", desc := "(LMailSessions$Test;)I" } : Jvm.MethodName) ({ cls := "MailSessions$Box", name := "many", desc := "(LMailSessions$Test;)I" } : Jvm.MethodName)) ∈ lw_all := lw_g (lw_at lw_m5 159 rfl) rfl
theorem q1270 : (Jvm.Cond.code ({ cls := "MailSessions$Box", name := "many", desc := "(LMailSessions$Test;)I" } : Jvm.MethodName) prog_2_method_6_code (4 : Nat) (Option.some Jvm.ClassFile.FieldType.int)) ∈ lw_all := lw_g (lw_at lw_m5 160 rfl) rfl
theorem q1271 : (Jvm.Cond.interfaceEntry "MailSessions$Box" (55 : Nat)) ∈ lw_tbl := lw_at lw_m5 161 rfl
theorem q1272 : (Jvm.Cond.methodLink "MailSessions$Box" (55 : Nat) ({ cls := "MailSessions$Test", name := "holds", desc := "(LMailSessions$Message;)Z" } : Jvm.MethodName)) ∈ lw_all := lw_g (lw_at lw_m5 162 rfl) rfl
theorem q1275 : (Jvm.Cond.methodLinkNest "MailSessions$Box" (61 : Nat) ({ cls := "MailSessions", name := "count", desc := "(Z)I" } : Jvm.MethodName) "MailSessions") ∈ lw_tbl := lw_at lw_m5 165 rfl
theorem q1455 : (Jvm.Cond.instanceMethod ({ cls := "MailSessions$Box", name := "sizes", desc := "()I" } : Jvm.MethodName)) ∈ lw_all := lw_g (lw_at lw_m6 105 rfl) rfl
theorem q1456 : (Jvm.Cond.selects "MailSessions$Box" ({ cls := "MailSessions$Box", name := "sizes", desc := "()I" } : Jvm.MethodName) ({ cls := "MailSessions$Box", name := "sizes", desc := "()I" } : Jvm.MethodName)) ∈ lw_all := lw_g (lw_at lw_m6 106 rfl) rfl
theorem q1457 : (Jvm.Cond.code ({ cls := "MailSessions$Box", name := "sizes", desc := "()I" } : Jvm.MethodName) prog_2_method_7_code (3 : Nat) (Option.some Jvm.ClassFile.FieldType.int)) ∈ lw_all := lw_g (lw_at lw_m6 107 rfl) rfl
theorem q1705 : (Jvm.Cond.instanceMethod ({ cls := "MailSessions$Box", name := "<init>", desc := "(LMailSessions$Box;)V" } : Jvm.MethodName)) ∈ lw_all := lw_g (lw_at lw_m7 115 rfl) rfl
theorem q1706 : (Jvm.Cond.code ({ cls := "MailSessions$Box", name := "<init>", desc := "(LMailSessions$Box;)V" } : Jvm.MethodName) prog_2_method_2_code (3 : Nat) (Option.none : Option Jvm.ClassFile.FieldType)) ∈ lw_all := lw_g (lw_at lw_m7 116 rfl) rfl
theorem q1707 : (Jvm.Cond.methodLink "MailSessions$Box" (28 : Nat) ({ cls := "MailSessions$Box", name := "<init>", desc := "(Ljava/lang/String;)V" } : Jvm.MethodName)) ∈ lw_all := lw_g (lw_at lw_m7 117 rfl) rfl
theorem q1822 : (Jvm.Cond.instanceMethod ({ cls := "MailSessions$Box", name := "change", desc := "(LMailSessions$Test;LMailSessions$Change;)I" } : Jvm.MethodName)) ∈ lw_all := lw_g (lw_at lw_m7 232 rfl) rfl
theorem q1823 : (Jvm.Cond.selects "MailSessions$Box" ({ cls := "MailSessions$Box", name := "change", desc := "(LMailSessions$Test;LMailSessions$Change;)I" } : Jvm.MethodName) ({ cls := "MailSessions$Box", name := "change", desc := "(LMailSessions$Test;LMailSessions$Change;)I" } : Jvm.MethodName)) ∈ lw_all := lw_g (lw_at lw_m7 233 rfl) rfl
theorem q1824 : (Jvm.Cond.code ({ cls := "MailSessions$Box", name := "change", desc := "(LMailSessions$Test;LMailSessions$Change;)I" } : Jvm.MethodName) prog_2_method_9_code (7 : Nat) (Option.some Jvm.ClassFile.FieldType.int)) ∈ lw_all := lw_g (lw_at lw_m7 234 rfl) rfl
theorem q1825 : (Jvm.Cond.interfaceEntry "MailSessions$Box" (73 : Nat)) ∈ lw_tbl := lw_at lw_m7 235 rfl
theorem q1826 : (Jvm.Cond.methodLink "MailSessions$Box" (73 : Nat) ({ cls := "MailSessions$Change", name := "of", desc := "(I)I" } : Jvm.MethodName)) ∈ lw_all := lw_g (lw_at lw_m7 236 rfl) rfl
theorem q1829 : (Jvm.Cond.methodLink "MailSessions$Box" (78 : Nat) ({ cls := "MailSessions$Message", name := "with", desc := "(I)LMailSessions$Message;" } : Jvm.MethodName)) ∈ lw_all := lw_g (lw_at lw_m7 239 rfl) rfl
theorem q1835 : (Jvm.Cond.methodLink "MailSessions$Box" (82 : Nat) ({ cls := "java/util/ArrayList", name := "set", desc := "(ILjava/lang/Object;)Ljava/lang/Object;" } : Jvm.MethodName)) ∈ lw_all := lw_g (lw_at lw_m8 5 rfl) rfl
theorem q1892 : (Jvm.Cond.instanceMethod ({ cls := "MailSessions$Box", name := "remove", desc := "(LMailSessions$Test;)I" } : Jvm.MethodName)) ∈ lw_all := lw_g (lw_at lw_m8 62 rfl) rfl
theorem q1893 : (Jvm.Cond.selects "MailSessions$Box" ({ cls := "MailSessions$Box", name := "remove", desc := "(LMailSessions$Test;)I" } : Jvm.MethodName) ({ cls := "MailSessions$Box", name := "remove", desc := "(LMailSessions$Test;)I" } : Jvm.MethodName)) ∈ lw_all := lw_g (lw_at lw_m8 63 rfl) rfl
theorem q1894 : (Jvm.Cond.code ({ cls := "MailSessions$Box", name := "remove", desc := "(LMailSessions$Test;)I" } : Jvm.MethodName) prog_2_method_8_code (5 : Nat) (Option.some Jvm.ClassFile.FieldType.int)) ∈ lw_all := lw_g (lw_at lw_m8 64 rfl) rfl
theorem q1895 : (Jvm.Cond.methodLink "MailSessions$Box" (67 : Nat) ({ cls := "java/util/ArrayList", name := "remove", desc := "(I)Ljava/lang/Object;" } : Jvm.MethodName)) ∈ lw_all := lw_g (lw_at lw_m8 65 rfl) rfl
theorem q2824 : (Jvm.Cond.castable "MailSessions$Box" "java/lang/Object") ∈ lw_tbl := lw_at lw_m12 34 rfl
theorem in_X6 : ∀ w ∈ wsX60, w ∈ lw_all := lw_in wsX60 [913, 915, 917] (by decide +kernel) (by decide +kernel)
/-! MailSessions$Message -/
set_option maxRecDepth 100000
def RX7 : String := "MailSessions$Message"
def TX7 : u_T := fun k => match k with
  | 0 => ("MailSessions$Message", "uid", "I", true)
  | 1 => ("MailSessions$Message", "size", "I", true)
  | _ => ("MailSessions$Message", "flags", "I", true)
def tyX7 : Nat → FieldType := fun k => match k with
  | 0 => .int
  | 1 => .int
  | _ => .int
abbrev wsX70 : List Cond := u_ws RX7 TX7 3
theorem nmX7 : ∀ a, a < 3 → ∀ b, b < 3 → a ≠ b → (TX7 a).2.1 ≠ (TX7 b).2.1 := by decide +kernel
theorem tyX7_ok : ∀ k, k < 3 → parseFieldDescriptor (TX7 k).2.2.1 = some (tyX7 k) := by decide +kernel
abbrev cX7_init : ByteArray := prog_4_method_1_code
def yX7_init : MethodName := ⟨RX7, "<init>", "(III)V"⟩
def dkwX7_init_0 : List UInt8 := [42, 183, 0, 1, 42, 27, 181, 0, 7, 42, 28, 181, 0, 13, 42, 29, 181, 0, 16, 177]
abbrev dktX7_init_0 : List UInt8 := dkwX7_init_0 ++ []
theorem dksX7_init_0 : cX7_init.data.toList.drop 0 = dktX7_init_0 := by decide +kernel
theorem dX7_init_0 : decode cX7_init 0 = .ok (.aload_n 0, 1) := dk_42 (dk_at dksX7_init_0 0 rfl rfl)
theorem dX7_init_1 : decode cX7_init 1 = .ok (.invokespecial 1, 3) := dk_183 0 1 (dk_at dksX7_init_0 1 rfl rfl)
theorem dX7_init_4 : decode cX7_init 4 = .ok (.aload_n 0, 1) := dk_42 (dk_at dksX7_init_0 4 rfl rfl)
theorem dX7_init_5 : decode cX7_init 5 = .ok (.iload_n 1, 1) := dk_27 (dk_at dksX7_init_0 5 rfl rfl)
theorem dX7_init_6 : decode cX7_init 6 = .ok (.putfield 7, 3) := dk_181 0 7 (dk_at dksX7_init_0 6 rfl rfl)
theorem dX7_init_9 : decode cX7_init 9 = .ok (.aload_n 0, 1) := dk_42 (dk_at dksX7_init_0 9 rfl rfl)
theorem dX7_init_10 : decode cX7_init 10 = .ok (.iload_n 2, 1) := dk_28 (dk_at dksX7_init_0 10 rfl rfl)
theorem dX7_init_11 : decode cX7_init 11 = .ok (.putfield 13, 3) := dk_181 0 13 (dk_at dksX7_init_0 11 rfl rfl)
theorem dX7_init_14 : decode cX7_init 14 = .ok (.aload_n 0, 1) := dk_42 (dk_at dksX7_init_0 14 rfl rfl)
theorem dX7_init_15 : decode cX7_init 15 = .ok (.iload_n 3, 1) := dk_29 (dk_at dksX7_init_0 15 rfl rfl)
theorem dX7_init_16 : decode cX7_init 16 = .ok (.putfield 16, 3) := dk_181 0 16 (dk_at dksX7_init_0 16 rfl rfl)
theorem dX7_init_19 : decode cX7_init 19 = .ok (.return_, 1) := dk_177 (dk_at dksX7_init_0 19 rfl rfl)
abbrev cX7_with : ByteArray := prog_4_method_2_code
def yX7_with : MethodName := ⟨RX7, "with", "(I)LMailSessions$Message;"⟩
def dkwX7_with_0 : List UInt8 := [187, 0, 8, 89, 42, 180, 0, 7, 42, 180, 0, 13, 27, 183, 0, 19, 176]
abbrev dktX7_with_0 : List UInt8 := dkwX7_with_0 ++ []
theorem dksX7_with_0 : cX7_with.data.toList.drop 0 = dktX7_with_0 := by decide +kernel
theorem dX7_with_0 : decode cX7_with 0 = .ok (.new 8, 3) := dk_187 0 8 (dk_at dksX7_with_0 0 rfl rfl)
theorem dX7_with_3 : decode cX7_with 3 = .ok (.dup, 1) := dk_89 (dk_at dksX7_with_0 3 rfl rfl)
theorem dX7_with_4 : decode cX7_with 4 = .ok (.aload_n 0, 1) := dk_42 (dk_at dksX7_with_0 4 rfl rfl)
theorem dX7_with_5 : decode cX7_with 5 = .ok (.getfield 7, 3) := dk_180 0 7 (dk_at dksX7_with_0 5 rfl rfl)
theorem dX7_with_8 : decode cX7_with 8 = .ok (.aload_n 0, 1) := dk_42 (dk_at dksX7_with_0 8 rfl rfl)
theorem dX7_with_9 : decode cX7_with 9 = .ok (.getfield 13, 3) := dk_180 0 13 (dk_at dksX7_with_0 9 rfl rfl)
theorem dX7_with_12 : decode cX7_with 12 = .ok (.iload_n 1, 1) := dk_27 (dk_at dksX7_with_0 12 rfl rfl)
theorem dX7_with_13 : decode cX7_with 13 = .ok (.invokespecial 19, 3) := dk_183 0 19 (dk_at dksX7_with_0 13 rfl rfl)
theorem dX7_with_16 : decode cX7_with 16 = .ok (.areturn, 1) := dk_176 (dk_at dksX7_with_0 16 rfl rfl)
theorem q181 : (Jvm.Cond.initialized "MailSessions$Message") ∈ lw_all := lw_g (lw_at lw_m1 31 rfl) rfl
theorem q945 : (Jvm.Cond.selects "MailSessions$Message" ({ cls := "java/lang/Object", name := "getClass", desc := "()Ljava/lang/Class;" } : Jvm.MethodName) ({ cls := "java/lang/Object", name := "getClass", desc := "()Ljava/lang/Class;" } : Jvm.MethodName)) ∈ lw_all := lw_g (lw_at lw_m4 75 rfl) rfl
theorem q1000 : (Jvm.Cond.instantiable "MailSessions$Message" (3 : Nat)) ∈ lw_all := lw_g (lw_at lw_m4 130 rfl) rfl
theorem q1002 : (Jvm.Cond.instanceMethod ({ cls := "MailSessions$Message", name := "<init>", desc := "(III)V" } : Jvm.MethodName)) ∈ lw_all := lw_g (lw_at lw_m4 132 rfl) rfl
theorem q1003 : (Jvm.Cond.code ({ cls := "MailSessions$Message", name := "<init>", desc := "(III)V" } : Jvm.MethodName) prog_4_method_1_code (4 : Nat) (Option.none : Option Jvm.ClassFile.FieldType)) ∈ lw_all := lw_g (lw_at lw_m4 133 rfl) rfl
theorem q1004 : (Jvm.Cond.methodLink "MailSessions$Message" (1 : Nat) ({ cls := "java/lang/Object", name := "<init>", desc := "()V" } : Jvm.MethodName)) ∈ lw_all := lw_g (lw_at lw_m4 134 rfl) rfl
theorem q1005 : (Jvm.Cond.fieldLink "MailSessions$Message" (7 : Nat) "MailSessions$Message" "uid" "I") ∈ lw_all := lw_g (lw_at lw_m4 135 rfl) rfl
theorem q1011 : (Jvm.Cond.fieldLink "MailSessions$Message" (13 : Nat) "MailSessions$Message" "size" "I") ∈ lw_all := lw_g (lw_at lw_m4 141 rfl) rfl
theorem q1016 : (Jvm.Cond.fieldLink "MailSessions$Message" (16 : Nat) "MailSessions$Message" "flags" "I") ∈ lw_all := lw_g (lw_at lw_m4 146 rfl) rfl
theorem q1021 : (Jvm.Cond.laysFinal "MailSessions$Message" "MailSessions$Message" "uid" "I") ∈ lw_all := lw_g (lw_at lw_m4 151 rfl) rfl
theorem q1022 : (Jvm.Cond.soleField "MailSessions$Message" "uid") ∈ lw_all := lw_g (lw_at lw_m4 152 rfl) rfl
theorem q1023 : (Jvm.Cond.laysFinal "MailSessions$Message" "MailSessions$Message" "size" "I") ∈ lw_all := lw_g (lw_at lw_m4 153 rfl) rfl
theorem q1024 : (Jvm.Cond.soleField "MailSessions$Message" "size") ∈ lw_all := lw_g (lw_at lw_m4 154 rfl) rfl
theorem q1025 : (Jvm.Cond.laysFinal "MailSessions$Message" "MailSessions$Message" "flags" "I") ∈ lw_all := lw_g (lw_at lw_m4 155 rfl) rfl
theorem q1026 : (Jvm.Cond.soleField "MailSessions$Message" "flags") ∈ lw_all := lw_g (lw_at lw_m4 156 rfl) rfl
theorem q1027 : (Jvm.Cond.superclass "MailSessions$Message" "java/lang/Object") ∈ lw_all := lw_g (lw_at lw_m4 157 rfl) rfl
theorem q1830 : (Jvm.Cond.instanceMethod ({ cls := "MailSessions$Message", name := "with", desc := "(I)LMailSessions$Message;" } : Jvm.MethodName)) ∈ lw_all := lw_g (lw_at lw_m8 0 rfl) rfl
theorem q1831 : (Jvm.Cond.selects "MailSessions$Message" ({ cls := "MailSessions$Message", name := "with", desc := "(I)LMailSessions$Message;" } : Jvm.MethodName) ({ cls := "MailSessions$Message", name := "with", desc := "(I)LMailSessions$Message;" } : Jvm.MethodName)) ∈ lw_all := lw_g (lw_at lw_m8 1 rfl) rfl
theorem q1832 : (Jvm.Cond.code ({ cls := "MailSessions$Message", name := "with", desc := "(I)LMailSessions$Message;" } : Jvm.MethodName) prog_4_method_2_code (2 : Nat) (Option.some (Jvm.ClassFile.FieldType.object "MailSessions$Message"))) ∈ lw_all := lw_g (lw_at lw_m8 2 rfl) rfl
theorem q1833 : (Jvm.Cond.classLink "MailSessions$Message" (8 : Nat) "MailSessions$Message") ∈ lw_all := lw_g (lw_at lw_m8 3 rfl) rfl
theorem q1834 : (Jvm.Cond.methodLink "MailSessions$Message" (19 : Nat) ({ cls := "MailSessions$Message", name := "<init>", desc := "(III)V" } : Jvm.MethodName)) ∈ lw_all := lw_g (lw_at lw_m8 4 rfl) rfl
theorem q2825 : (Jvm.Cond.castable "MailSessions$Message" "java/lang/Object") ∈ lw_tbl := lw_at lw_m12 35 rfl
theorem in_X7 : ∀ w ∈ wsX70, w ∈ lw_all := lw_in wsX70 [1021, 1023, 1025] (by decide +kernel) (by decide +kernel)
/-! MailSessions$Session -/
set_option maxRecDepth 100000
def RX8 : String := "MailSessions$Session"
def TX8 : u_T := fun k => match k with
  | 0 => ("MailSessions$Session", "name", "Ljava/lang/String;", true)
  | 1 => ("MailSessions$Session", "box", "I", false)
  | 2 => ("MailSessions$Session", "count", "I", false)
  | 3 => ("MailSessions$Session", "lastUid", "I", false)
  | 4 => ("MailSessions$Session", "reads", "Z", false)
  | 5 => ("MailSessions$Session", "idle", "Z", false)
  | 6 => ("MailSessions$Session", "uids", "[I", false)
  | 7 => ("MailSessions$Session", "told", "[I", false)
  | _ => ("MailSessions$Session", "accounts", "[I", false)
def tyX8 : Nat → FieldType := fun k => match k with
  | 0 => .object "java/lang/String"
  | 1 => .int
  | 2 => .int
  | 3 => .int
  | 4 => .boolean
  | 5 => .boolean
  | 6 => .array .int
  | 7 => .array .int
  | _ => .array .int
abbrev wsX80 : List Cond := u_ws RX8 TX8 9
theorem nmX8 : ∀ a, a < 9 → ∀ b, b < 9 → a ≠ b → (TX8 a).2.1 ≠ (TX8 b).2.1 := by decide +kernel
theorem tyX8_ok : ∀ k, k < 9 → parseFieldDescriptor (TX8 k).2.2.1 = some (tyX8 k) := by decide +kernel
abbrev cX8_init : ByteArray := prog_9_method_1_code
def yX8_init : MethodName := ⟨RX8, "<init>", "(Ljava/lang/String;)V"⟩
def dkwX8_init_1 : List UInt8 := [181, 0, 19, 42, 8, 188, 10, 181, 0, 22, 42, 43, 181, 0, 25, 177]
abbrev dktX8_init_1 : List UInt8 := dkwX8_init_1 ++ []
def dkwX8_init_0 : List UInt8 := [42, 183, 0, 3, 42, 2, 181, 0, 9, 42, 16, 60, 188, 10, 181, 0, 15, 42, 16, 60, 188, 10]
abbrev dktX8_init_0 : List UInt8 := dkwX8_init_0 ++ dktX8_init_1
theorem dksX8_init_0 : cX8_init.data.toList.drop 0 = dktX8_init_0 := by decide +kernel
theorem dksX8_init_1 : cX8_init.data.toList.drop 22 = dktX8_init_1 := dk_seg dksX8_init_0 22 rfl rfl
theorem dX8_init_0 : decode cX8_init 0 = .ok (.aload_n 0, 1) := dk_42 (dk_at dksX8_init_0 0 rfl rfl)
theorem dX8_init_1 : decode cX8_init 1 = .ok (.invokespecial 3, 3) := dk_183 0 3 (dk_at dksX8_init_0 1 rfl rfl)
theorem dX8_init_4 : decode cX8_init 4 = .ok (.aload_n 0, 1) := dk_42 (dk_at dksX8_init_0 4 rfl rfl)
theorem dX8_init_5 : decode cX8_init 5 = .ok (.iconst (-1), 1) := dk_2 (dk_at dksX8_init_0 5 rfl rfl)
theorem dX8_init_6 : decode cX8_init 6 = .ok (.putfield 9, 3) := dk_181 0 9 (dk_at dksX8_init_0 6 rfl rfl)
theorem dX8_init_9 : decode cX8_init 9 = .ok (.aload_n 0, 1) := dk_42 (dk_at dksX8_init_0 9 rfl rfl)
theorem dX8_init_10 : decode cX8_init 10 = .ok (.bipush 60, 2) := dk_16 60 (dk_at dksX8_init_0 10 rfl rfl)
theorem dX8_init_12 : decode cX8_init 12 = .ok (.newarray .int, 2) := dk_188_10 (dk_at dksX8_init_0 12 rfl rfl)
theorem dX8_init_14 : decode cX8_init 14 = .ok (.putfield 15, 3) := dk_181 0 15 (dk_at dksX8_init_0 14 rfl rfl)
theorem dX8_init_17 : decode cX8_init 17 = .ok (.aload_n 0, 1) := dk_42 (dk_at dksX8_init_0 17 rfl rfl)
theorem dX8_init_18 : decode cX8_init 18 = .ok (.bipush 60, 2) := dk_16 60 (dk_at dksX8_init_0 18 rfl rfl)
theorem dX8_init_20 : decode cX8_init 20 = .ok (.newarray .int, 2) := dk_188_10 (dk_at dksX8_init_0 20 rfl rfl)
theorem dX8_init_22 : decode cX8_init 22 = .ok (.putfield 19, 3) := dk_181 0 19 (dk_at dksX8_init_1 0 rfl rfl)
theorem dX8_init_25 : decode cX8_init 25 = .ok (.aload_n 0, 1) := dk_42 (dk_at dksX8_init_1 3 rfl rfl)
theorem dX8_init_26 : decode cX8_init 26 = .ok (.iconst 5, 1) := dk_8 (dk_at dksX8_init_1 4 rfl rfl)
theorem dX8_init_27 : decode cX8_init 27 = .ok (.newarray .int, 2) := dk_188_10 (dk_at dksX8_init_1 5 rfl rfl)
theorem dX8_init_29 : decode cX8_init 29 = .ok (.putfield 22, 3) := dk_181 0 22 (dk_at dksX8_init_1 7 rfl rfl)
theorem dX8_init_32 : decode cX8_init 32 = .ok (.aload_n 0, 1) := dk_42 (dk_at dksX8_init_1 10 rfl rfl)
theorem dX8_init_33 : decode cX8_init 33 = .ok (.aload_n 1, 1) := dk_43 (dk_at dksX8_init_1 11 rfl rfl)
theorem dX8_init_34 : decode cX8_init 34 = .ok (.putfield 25, 3) := dk_181 0 25 (dk_at dksX8_init_1 12 rfl rfl)
theorem dX8_init_37 : decode cX8_init 37 = .ok (.return_, 1) := dk_177 (dk_at dksX8_init_1 15 rfl rfl)
abbrev cX8_leave : ByteArray := prog_9_method_3_code
def yX8_leave : MethodName := ⟨RX8, "leave", "()V"⟩
def dkwX8_leave_0 : List UInt8 := [42, 2, 181, 0, 9, 42, 3, 181, 0, 32, 177]
abbrev dktX8_leave_0 : List UInt8 := dkwX8_leave_0 ++ []
theorem dksX8_leave_0 : cX8_leave.data.toList.drop 0 = dktX8_leave_0 := by decide +kernel
theorem dX8_leave_0 : decode cX8_leave 0 = .ok (.aload_n 0, 1) := dk_42 (dk_at dksX8_leave_0 0 rfl rfl)
theorem dX8_leave_1 : decode cX8_leave 1 = .ok (.iconst (-1), 1) := dk_2 (dk_at dksX8_leave_0 1 rfl rfl)
theorem dX8_leave_2 : decode cX8_leave 2 = .ok (.putfield 9, 3) := dk_181 0 9 (dk_at dksX8_leave_0 2 rfl rfl)
theorem dX8_leave_5 : decode cX8_leave 5 = .ok (.aload_n 0, 1) := dk_42 (dk_at dksX8_leave_0 5 rfl rfl)
theorem dX8_leave_6 : decode cX8_leave 6 = .ok (.iconst 0, 1) := dk_3 (dk_at dksX8_leave_0 6 rfl rfl)
theorem dX8_leave_7 : decode cX8_leave 7 = .ok (.putfield 32, 3) := dk_181 0 32 (dk_at dksX8_leave_0 7 rfl rfl)
theorem dX8_leave_10 : decode cX8_leave 10 = .ok (.return_, 1) := dk_177 (dk_at dksX8_leave_0 10 rfl rfl)
abbrev cX8_add : ByteArray := prog_9_method_4_code
def yX8_add : MethodName := ⟨RX8, "add", "(LMailSessions$Message;)V"⟩
def dkwX8_add_1 : List UInt8 := [180, 0, 55, 79, 42, 43, 180, 0, 50, 181, 0, 35, 42, 89, 180, 0, 32, 4, 96, 181, 0, 32, 177]
abbrev dktX8_add_1 : List UInt8 := dkwX8_add_1 ++ []
def dkwX8_add_0 : List UInt8 := [42, 180, 0, 15, 42, 180, 0, 32, 43, 180, 0, 50, 79, 42, 180, 0, 19, 42, 180, 0, 32, 43]
abbrev dktX8_add_0 : List UInt8 := dkwX8_add_0 ++ dktX8_add_1
theorem dksX8_add_0 : cX8_add.data.toList.drop 0 = dktX8_add_0 := by decide +kernel
theorem dksX8_add_1 : cX8_add.data.toList.drop 22 = dktX8_add_1 := dk_seg dksX8_add_0 22 rfl rfl
theorem dX8_add_0 : decode cX8_add 0 = .ok (.aload_n 0, 1) := dk_42 (dk_at dksX8_add_0 0 rfl rfl)
theorem dX8_add_1 : decode cX8_add 1 = .ok (.getfield 15, 3) := dk_180 0 15 (dk_at dksX8_add_0 1 rfl rfl)
theorem dX8_add_4 : decode cX8_add 4 = .ok (.aload_n 0, 1) := dk_42 (dk_at dksX8_add_0 4 rfl rfl)
theorem dX8_add_5 : decode cX8_add 5 = .ok (.getfield 32, 3) := dk_180 0 32 (dk_at dksX8_add_0 5 rfl rfl)
theorem dX8_add_8 : decode cX8_add 8 = .ok (.aload_n 1, 1) := dk_43 (dk_at dksX8_add_0 8 rfl rfl)
theorem dX8_add_9 : decode cX8_add 9 = .ok (.getfield 50, 3) := dk_180 0 50 (dk_at dksX8_add_0 9 rfl rfl)
theorem dX8_add_12 : decode cX8_add 12 = .ok (.iastore, 1) := dk_79 (dk_at dksX8_add_0 12 rfl rfl)
theorem dX8_add_13 : decode cX8_add 13 = .ok (.aload_n 0, 1) := dk_42 (dk_at dksX8_add_0 13 rfl rfl)
theorem dX8_add_14 : decode cX8_add 14 = .ok (.getfield 19, 3) := dk_180 0 19 (dk_at dksX8_add_0 14 rfl rfl)
theorem dX8_add_17 : decode cX8_add 17 = .ok (.aload_n 0, 1) := dk_42 (dk_at dksX8_add_0 17 rfl rfl)
theorem dX8_add_18 : decode cX8_add 18 = .ok (.getfield 32, 3) := dk_180 0 32 (dk_at dksX8_add_0 18 rfl rfl)
theorem dX8_add_21 : decode cX8_add 21 = .ok (.aload_n 1, 1) := dk_43 (dk_at dksX8_add_0 21 rfl rfl)
theorem dX8_add_22 : decode cX8_add 22 = .ok (.getfield 55, 3) := dk_180 0 55 (dk_at dksX8_add_1 0 rfl rfl)
theorem dX8_add_25 : decode cX8_add 25 = .ok (.iastore, 1) := dk_79 (dk_at dksX8_add_1 3 rfl rfl)
theorem dX8_add_26 : decode cX8_add 26 = .ok (.aload_n 0, 1) := dk_42 (dk_at dksX8_add_1 4 rfl rfl)
theorem dX8_add_27 : decode cX8_add 27 = .ok (.aload_n 1, 1) := dk_43 (dk_at dksX8_add_1 5 rfl rfl)
theorem dX8_add_28 : decode cX8_add 28 = .ok (.getfield 50, 3) := dk_180 0 50 (dk_at dksX8_add_1 6 rfl rfl)
theorem dX8_add_31 : decode cX8_add 31 = .ok (.putfield 35, 3) := dk_181 0 35 (dk_at dksX8_add_1 9 rfl rfl)
theorem dX8_add_34 : decode cX8_add 34 = .ok (.aload_n 0, 1) := dk_42 (dk_at dksX8_add_1 12 rfl rfl)
theorem dX8_add_35 : decode cX8_add 35 = .ok (.dup, 1) := dk_89 (dk_at dksX8_add_1 13 rfl rfl)
theorem dX8_add_36 : decode cX8_add 36 = .ok (.getfield 32, 3) := dk_180 0 32 (dk_at dksX8_add_1 14 rfl rfl)
theorem dX8_add_39 : decode cX8_add 39 = .ok (.iconst 1, 1) := dk_4 (dk_at dksX8_add_1 17 rfl rfl)
theorem dX8_add_40 : decode cX8_add 40 = .ok (.iadd, 1) := dk_96 (dk_at dksX8_add_1 18 rfl rfl)
theorem dX8_add_41 : decode cX8_add 41 = .ok (.putfield 32, 3) := dk_181 0 32 (dk_at dksX8_add_1 19 rfl rfl)
theorem dX8_add_44 : decode cX8_add 44 = .ok (.return_, 1) := dk_177 (dk_at dksX8_add_1 22 rfl rfl)
abbrev cX8_find : ByteArray := prog_9_method_6_code
def yX8_find : MethodName := ⟨RX8, "find", "(I)I"⟩
def dkwX8_find_1 : List UInt8 := [132, 2, 1, 167, 255, 233, 2, 172]
abbrev dktX8_find_1 : List UInt8 := dkwX8_find_1 ++ []
def dkwX8_find_0 : List UInt8 := [3, 61, 28, 42, 180, 0, 32, 162, 0, 21, 42, 180, 0, 15, 28, 46, 27, 160, 0, 5, 28, 172]
abbrev dktX8_find_0 : List UInt8 := dkwX8_find_0 ++ dktX8_find_1
theorem dksX8_find_0 : cX8_find.data.toList.drop 0 = dktX8_find_0 := by decide +kernel
theorem dksX8_find_1 : cX8_find.data.toList.drop 22 = dktX8_find_1 := dk_seg dksX8_find_0 22 rfl rfl
theorem dX8_find_0 : decode cX8_find 0 = .ok (.iconst 0, 1) := dk_3 (dk_at dksX8_find_0 0 rfl rfl)
theorem dX8_find_1 : decode cX8_find 1 = .ok (.istore_n 2, 1) := dk_61 (dk_at dksX8_find_0 1 rfl rfl)
theorem dX8_find_2 : decode cX8_find 2 = .ok (.iload_n 2, 1) := dk_28 (dk_at dksX8_find_0 2 rfl rfl)
theorem dX8_find_3 : decode cX8_find 3 = .ok (.aload_n 0, 1) := dk_42 (dk_at dksX8_find_0 3 rfl rfl)
theorem dX8_find_4 : decode cX8_find 4 = .ok (.getfield 32, 3) := dk_180 0 32 (dk_at dksX8_find_0 4 rfl rfl)
theorem dX8_find_7 : decode cX8_find 7 = .ok (.if_icmp .ge 21, 3) := dk_162 0 21 (dk_at dksX8_find_0 7 rfl rfl)
theorem dX8_find_10 : decode cX8_find 10 = .ok (.aload_n 0, 1) := dk_42 (dk_at dksX8_find_0 10 rfl rfl)
theorem dX8_find_11 : decode cX8_find 11 = .ok (.getfield 15, 3) := dk_180 0 15 (dk_at dksX8_find_0 11 rfl rfl)
theorem dX8_find_14 : decode cX8_find 14 = .ok (.iload_n 2, 1) := dk_28 (dk_at dksX8_find_0 14 rfl rfl)
theorem dX8_find_15 : decode cX8_find 15 = .ok (.iaload, 1) := dk_46 (dk_at dksX8_find_0 15 rfl rfl)
theorem dX8_find_16 : decode cX8_find 16 = .ok (.iload_n 1, 1) := dk_27 (dk_at dksX8_find_0 16 rfl rfl)
theorem dX8_find_17 : decode cX8_find 17 = .ok (.if_icmp .ne 5, 3) := dk_160 0 5 (dk_at dksX8_find_0 17 rfl rfl)
theorem dX8_find_20 : decode cX8_find 20 = .ok (.iload_n 2, 1) := dk_28 (dk_at dksX8_find_0 20 rfl rfl)
theorem dX8_find_21 : decode cX8_find 21 = .ok (.ireturn, 1) := dk_172 (dk_at dksX8_find_0 21 rfl rfl)
theorem dX8_find_22 : decode cX8_find 22 = .ok (.iinc 2 1, 3) := dk_132 2 1 (dk_at dksX8_find_1 0 rfl rfl)
theorem dX8_find_25 : decode cX8_find 25 = .ok (.goto (-23), 3) := dk_167 255 233 (dk_at dksX8_find_1 3 rfl rfl)
theorem dX8_find_28 : decode cX8_find 28 = .ok (.iconst (-1), 1) := dk_2 (dk_at dksX8_find_1 6 rfl rfl)
theorem dX8_find_29 : decode cX8_find 29 = .ok (.ireturn, 1) := dk_172 (dk_at dksX8_find_1 7 rfl rfl)
abbrev cX8_init_2 : ByteArray := prog_9_method_2_code
def yX8_init_2 : MethodName := ⟨RX8, "<init>", "(LMailSessions$Session;)V"⟩
def dkwX8_init_2_3 : List UInt8 := [192, 0, 46, 181, 0, 19, 42, 43, 180, 0, 22, 182, 0, 45, 192, 0, 46, 181, 0, 22, 177]
abbrev dktX8_init_2_3 : List UInt8 := dkwX8_init_2_3 ++ []
def dkwX8_init_2_2 : List UInt8 := [42, 43, 180, 0, 15, 182, 0, 45, 192, 0, 46, 181, 0, 15, 42, 43, 180, 0, 19, 182, 0, 45]
abbrev dktX8_init_2_2 : List UInt8 := dkwX8_init_2_2 ++ dktX8_init_2_3
def dkwX8_init_2_1 : List UInt8 := [42, 43, 180, 0, 35, 181, 0, 35, 42, 43, 180, 0, 38, 181, 0, 38, 42, 43, 180, 0, 42, 181, 0, 42]
abbrev dktX8_init_2_1 : List UInt8 := dkwX8_init_2_1 ++ dktX8_init_2_2
def dkwX8_init_2_0 : List UInt8 := [42, 43, 180, 0, 25, 183, 0, 29, 42, 43, 180, 0, 9, 181, 0, 9, 42, 43, 180, 0, 32, 181, 0, 32]
abbrev dktX8_init_2_0 : List UInt8 := dkwX8_init_2_0 ++ dktX8_init_2_1
theorem dksX8_init_2_0 : cX8_init_2.data.toList.drop 0 = dktX8_init_2_0 := by decide +kernel
theorem dksX8_init_2_1 : cX8_init_2.data.toList.drop 24 = dktX8_init_2_1 := dk_seg dksX8_init_2_0 24 rfl rfl
theorem dksX8_init_2_2 : cX8_init_2.data.toList.drop 48 = dktX8_init_2_2 := dk_seg dksX8_init_2_1 24 rfl rfl
theorem dksX8_init_2_3 : cX8_init_2.data.toList.drop 70 = dktX8_init_2_3 := dk_seg dksX8_init_2_2 22 rfl rfl
theorem dX8_init_2_0 : decode cX8_init_2 0 = .ok (.aload_n 0, 1) := dk_42 (dk_at dksX8_init_2_0 0 rfl rfl)
theorem dX8_init_2_1 : decode cX8_init_2 1 = .ok (.aload_n 1, 1) := dk_43 (dk_at dksX8_init_2_0 1 rfl rfl)
theorem dX8_init_2_2 : decode cX8_init_2 2 = .ok (.getfield 25, 3) := dk_180 0 25 (dk_at dksX8_init_2_0 2 rfl rfl)
theorem dX8_init_2_5 : decode cX8_init_2 5 = .ok (.invokespecial 29, 3) := dk_183 0 29 (dk_at dksX8_init_2_0 5 rfl rfl)
theorem dX8_init_2_8 : decode cX8_init_2 8 = .ok (.aload_n 0, 1) := dk_42 (dk_at dksX8_init_2_0 8 rfl rfl)
theorem dX8_init_2_9 : decode cX8_init_2 9 = .ok (.aload_n 1, 1) := dk_43 (dk_at dksX8_init_2_0 9 rfl rfl)
theorem dX8_init_2_10 : decode cX8_init_2 10 = .ok (.getfield 9, 3) := dk_180 0 9 (dk_at dksX8_init_2_0 10 rfl rfl)
theorem dX8_init_2_13 : decode cX8_init_2 13 = .ok (.putfield 9, 3) := dk_181 0 9 (dk_at dksX8_init_2_0 13 rfl rfl)
theorem dX8_init_2_16 : decode cX8_init_2 16 = .ok (.aload_n 0, 1) := dk_42 (dk_at dksX8_init_2_0 16 rfl rfl)
theorem dX8_init_2_17 : decode cX8_init_2 17 = .ok (.aload_n 1, 1) := dk_43 (dk_at dksX8_init_2_0 17 rfl rfl)
theorem dX8_init_2_18 : decode cX8_init_2 18 = .ok (.getfield 32, 3) := dk_180 0 32 (dk_at dksX8_init_2_0 18 rfl rfl)
theorem dX8_init_2_21 : decode cX8_init_2 21 = .ok (.putfield 32, 3) := dk_181 0 32 (dk_at dksX8_init_2_0 21 rfl rfl)
theorem dX8_init_2_24 : decode cX8_init_2 24 = .ok (.aload_n 0, 1) := dk_42 (dk_at dksX8_init_2_1 0 rfl rfl)
theorem dX8_init_2_25 : decode cX8_init_2 25 = .ok (.aload_n 1, 1) := dk_43 (dk_at dksX8_init_2_1 1 rfl rfl)
theorem dX8_init_2_26 : decode cX8_init_2 26 = .ok (.getfield 35, 3) := dk_180 0 35 (dk_at dksX8_init_2_1 2 rfl rfl)
theorem dX8_init_2_29 : decode cX8_init_2 29 = .ok (.putfield 35, 3) := dk_181 0 35 (dk_at dksX8_init_2_1 5 rfl rfl)
theorem dX8_init_2_32 : decode cX8_init_2 32 = .ok (.aload_n 0, 1) := dk_42 (dk_at dksX8_init_2_1 8 rfl rfl)
theorem dX8_init_2_33 : decode cX8_init_2 33 = .ok (.aload_n 1, 1) := dk_43 (dk_at dksX8_init_2_1 9 rfl rfl)
theorem dX8_init_2_34 : decode cX8_init_2 34 = .ok (.getfield 38, 3) := dk_180 0 38 (dk_at dksX8_init_2_1 10 rfl rfl)
theorem dX8_init_2_37 : decode cX8_init_2 37 = .ok (.putfield 38, 3) := dk_181 0 38 (dk_at dksX8_init_2_1 13 rfl rfl)
theorem dX8_init_2_40 : decode cX8_init_2 40 = .ok (.aload_n 0, 1) := dk_42 (dk_at dksX8_init_2_1 16 rfl rfl)
theorem dX8_init_2_41 : decode cX8_init_2 41 = .ok (.aload_n 1, 1) := dk_43 (dk_at dksX8_init_2_1 17 rfl rfl)
theorem dX8_init_2_42 : decode cX8_init_2 42 = .ok (.getfield 42, 3) := dk_180 0 42 (dk_at dksX8_init_2_1 18 rfl rfl)
theorem dX8_init_2_45 : decode cX8_init_2 45 = .ok (.putfield 42, 3) := dk_181 0 42 (dk_at dksX8_init_2_1 21 rfl rfl)
theorem dX8_init_2_48 : decode cX8_init_2 48 = .ok (.aload_n 0, 1) := dk_42 (dk_at dksX8_init_2_2 0 rfl rfl)
theorem dX8_init_2_49 : decode cX8_init_2 49 = .ok (.aload_n 1, 1) := dk_43 (dk_at dksX8_init_2_2 1 rfl rfl)
theorem dX8_init_2_50 : decode cX8_init_2 50 = .ok (.getfield 15, 3) := dk_180 0 15 (dk_at dksX8_init_2_2 2 rfl rfl)
theorem dX8_init_2_53 : decode cX8_init_2 53 = .ok (.invokevirtual 45, 3) := dk_182 0 45 (dk_at dksX8_init_2_2 5 rfl rfl)
theorem dX8_init_2_56 : decode cX8_init_2 56 = .ok (.checkcast 46, 3) := dk_192 0 46 (dk_at dksX8_init_2_2 8 rfl rfl)
theorem dX8_init_2_59 : decode cX8_init_2 59 = .ok (.putfield 15, 3) := dk_181 0 15 (dk_at dksX8_init_2_2 11 rfl rfl)
theorem dX8_init_2_62 : decode cX8_init_2 62 = .ok (.aload_n 0, 1) := dk_42 (dk_at dksX8_init_2_2 14 rfl rfl)
theorem dX8_init_2_63 : decode cX8_init_2 63 = .ok (.aload_n 1, 1) := dk_43 (dk_at dksX8_init_2_2 15 rfl rfl)
theorem dX8_init_2_64 : decode cX8_init_2 64 = .ok (.getfield 19, 3) := dk_180 0 19 (dk_at dksX8_init_2_2 16 rfl rfl)
theorem dX8_init_2_67 : decode cX8_init_2 67 = .ok (.invokevirtual 45, 3) := dk_182 0 45 (dk_at dksX8_init_2_2 19 rfl rfl)
theorem dX8_init_2_70 : decode cX8_init_2 70 = .ok (.checkcast 46, 3) := dk_192 0 46 (dk_at dksX8_init_2_3 0 rfl rfl)
theorem dX8_init_2_73 : decode cX8_init_2 73 = .ok (.putfield 19, 3) := dk_181 0 19 (dk_at dksX8_init_2_3 3 rfl rfl)
theorem dX8_init_2_76 : decode cX8_init_2 76 = .ok (.aload_n 0, 1) := dk_42 (dk_at dksX8_init_2_3 6 rfl rfl)
theorem dX8_init_2_77 : decode cX8_init_2 77 = .ok (.aload_n 1, 1) := dk_43 (dk_at dksX8_init_2_3 7 rfl rfl)
theorem dX8_init_2_78 : decode cX8_init_2 78 = .ok (.getfield 22, 3) := dk_180 0 22 (dk_at dksX8_init_2_3 8 rfl rfl)
theorem dX8_init_2_81 : decode cX8_init_2 81 = .ok (.invokevirtual 45, 3) := dk_182 0 45 (dk_at dksX8_init_2_3 11 rfl rfl)
theorem dX8_init_2_84 : decode cX8_init_2 84 = .ok (.checkcast 46, 3) := dk_192 0 46 (dk_at dksX8_init_2_3 14 rfl rfl)
theorem dX8_init_2_87 : decode cX8_init_2 87 = .ok (.putfield 22, 3) := dk_181 0 22 (dk_at dksX8_init_2_3 17 rfl rfl)
theorem dX8_init_2_90 : decode cX8_init_2 90 = .ok (.return_, 1) := dk_177 (dk_at dksX8_init_2_3 20 rfl rfl)
abbrev cX8_remove : ByteArray := prog_9_method_5_code
def yX8_remove : MethodName := ⟨RX8, "remove", "(I)V"⟩
def dkwX8_remove_2 : List UInt8 := [27, 100, 184, 0, 58, 177]
abbrev dktX8_remove_2 : List UInt8 := dkwX8_remove_2 ++ []
def dkwX8_remove_1 : List UInt8 := [180, 0, 32, 27, 100, 184, 0, 58, 42, 180, 0, 19, 27, 4, 96, 42, 180, 0, 19, 27, 42, 180, 0, 32]
abbrev dktX8_remove_1 : List UInt8 := dkwX8_remove_1 ++ dktX8_remove_2
def dkwX8_remove_0 : List UInt8 := [42, 89, 180, 0, 32, 4, 100, 181, 0, 32, 42, 180, 0, 15, 27, 4, 96, 42, 180, 0, 15, 27, 42]
abbrev dktX8_remove_0 : List UInt8 := dkwX8_remove_0 ++ dktX8_remove_1
theorem dksX8_remove_0 : cX8_remove.data.toList.drop 0 = dktX8_remove_0 := by decide +kernel
theorem dksX8_remove_1 : cX8_remove.data.toList.drop 23 = dktX8_remove_1 := dk_seg dksX8_remove_0 23 rfl rfl
theorem dksX8_remove_2 : cX8_remove.data.toList.drop 47 = dktX8_remove_2 := dk_seg dksX8_remove_1 24 rfl rfl
theorem dX8_remove_0 : decode cX8_remove 0 = .ok (.aload_n 0, 1) := dk_42 (dk_at dksX8_remove_0 0 rfl rfl)
theorem dX8_remove_1 : decode cX8_remove 1 = .ok (.dup, 1) := dk_89 (dk_at dksX8_remove_0 1 rfl rfl)
theorem dX8_remove_2 : decode cX8_remove 2 = .ok (.getfield 32, 3) := dk_180 0 32 (dk_at dksX8_remove_0 2 rfl rfl)
theorem dX8_remove_5 : decode cX8_remove 5 = .ok (.iconst 1, 1) := dk_4 (dk_at dksX8_remove_0 5 rfl rfl)
theorem dX8_remove_6 : decode cX8_remove 6 = .ok (.isub, 1) := dk_100 (dk_at dksX8_remove_0 6 rfl rfl)
theorem dX8_remove_7 : decode cX8_remove 7 = .ok (.putfield 32, 3) := dk_181 0 32 (dk_at dksX8_remove_0 7 rfl rfl)
theorem dX8_remove_10 : decode cX8_remove 10 = .ok (.aload_n 0, 1) := dk_42 (dk_at dksX8_remove_0 10 rfl rfl)
theorem dX8_remove_11 : decode cX8_remove 11 = .ok (.getfield 15, 3) := dk_180 0 15 (dk_at dksX8_remove_0 11 rfl rfl)
theorem dX8_remove_14 : decode cX8_remove 14 = .ok (.iload_n 1, 1) := dk_27 (dk_at dksX8_remove_0 14 rfl rfl)
theorem dX8_remove_15 : decode cX8_remove 15 = .ok (.iconst 1, 1) := dk_4 (dk_at dksX8_remove_0 15 rfl rfl)
theorem dX8_remove_16 : decode cX8_remove 16 = .ok (.iadd, 1) := dk_96 (dk_at dksX8_remove_0 16 rfl rfl)
theorem dX8_remove_17 : decode cX8_remove 17 = .ok (.aload_n 0, 1) := dk_42 (dk_at dksX8_remove_0 17 rfl rfl)
theorem dX8_remove_18 : decode cX8_remove 18 = .ok (.getfield 15, 3) := dk_180 0 15 (dk_at dksX8_remove_0 18 rfl rfl)
theorem dX8_remove_21 : decode cX8_remove 21 = .ok (.iload_n 1, 1) := dk_27 (dk_at dksX8_remove_0 21 rfl rfl)
theorem dX8_remove_22 : decode cX8_remove 22 = .ok (.aload_n 0, 1) := dk_42 (dk_at dksX8_remove_0 22 rfl rfl)
theorem dX8_remove_23 : decode cX8_remove 23 = .ok (.getfield 32, 3) := dk_180 0 32 (dk_at dksX8_remove_1 0 rfl rfl)
theorem dX8_remove_26 : decode cX8_remove 26 = .ok (.iload_n 1, 1) := dk_27 (dk_at dksX8_remove_1 3 rfl rfl)
theorem dX8_remove_27 : decode cX8_remove 27 = .ok (.isub, 1) := dk_100 (dk_at dksX8_remove_1 4 rfl rfl)
theorem dX8_remove_28 : decode cX8_remove 28 = .ok (.invokestatic 58, 3) := dk_184 0 58 (dk_at dksX8_remove_1 5 rfl rfl)
theorem dX8_remove_31 : decode cX8_remove 31 = .ok (.aload_n 0, 1) := dk_42 (dk_at dksX8_remove_1 8 rfl rfl)
theorem dX8_remove_32 : decode cX8_remove 32 = .ok (.getfield 19, 3) := dk_180 0 19 (dk_at dksX8_remove_1 9 rfl rfl)
theorem dX8_remove_35 : decode cX8_remove 35 = .ok (.iload_n 1, 1) := dk_27 (dk_at dksX8_remove_1 12 rfl rfl)
theorem dX8_remove_36 : decode cX8_remove 36 = .ok (.iconst 1, 1) := dk_4 (dk_at dksX8_remove_1 13 rfl rfl)
theorem dX8_remove_37 : decode cX8_remove 37 = .ok (.iadd, 1) := dk_96 (dk_at dksX8_remove_1 14 rfl rfl)
theorem dX8_remove_38 : decode cX8_remove 38 = .ok (.aload_n 0, 1) := dk_42 (dk_at dksX8_remove_1 15 rfl rfl)
theorem dX8_remove_39 : decode cX8_remove 39 = .ok (.getfield 19, 3) := dk_180 0 19 (dk_at dksX8_remove_1 16 rfl rfl)
theorem dX8_remove_42 : decode cX8_remove 42 = .ok (.iload_n 1, 1) := dk_27 (dk_at dksX8_remove_1 19 rfl rfl)
theorem dX8_remove_43 : decode cX8_remove 43 = .ok (.aload_n 0, 1) := dk_42 (dk_at dksX8_remove_1 20 rfl rfl)
theorem dX8_remove_44 : decode cX8_remove 44 = .ok (.getfield 32, 3) := dk_180 0 32 (dk_at dksX8_remove_1 21 rfl rfl)
theorem dX8_remove_47 : decode cX8_remove 47 = .ok (.iload_n 1, 1) := dk_27 (dk_at dksX8_remove_2 0 rfl rfl)
theorem dX8_remove_48 : decode cX8_remove 48 = .ok (.isub, 1) := dk_100 (dk_at dksX8_remove_2 1 rfl rfl)
theorem dX8_remove_49 : decode cX8_remove 49 = .ok (.invokestatic 58, 3) := dk_184 0 58 (dk_at dksX8_remove_2 2 rfl rfl)
theorem dX8_remove_52 : decode cX8_remove 52 = .ok (.return_, 1) := dk_177 (dk_at dksX8_remove_2 5 rfl rfl)
theorem q182 : (Jvm.Cond.initialized "MailSessions$Session") ∈ lw_all := lw_g (lw_at lw_m1 32 rfl) rfl
theorem q950 : (Jvm.Cond.selects "MailSessions$Session" ({ cls := "java/lang/Object", name := "getClass", desc := "()Ljava/lang/Class;" } : Jvm.MethodName) ({ cls := "java/lang/Object", name := "getClass", desc := "()Ljava/lang/Class;" } : Jvm.MethodName)) ∈ lw_all := lw_g (lw_at lw_m4 80 rfl) rfl
theorem q1006 : (Jvm.Cond.fieldLinkNest "MailSessions$Session" (50 : Nat) "MailSessions$Message" "uid" "I" "MailSessions") ∈ lw_tbl := lw_at lw_m4 136 rfl
theorem q1017 : (Jvm.Cond.fieldLinkNest "MailSessions$Session" (55 : Nat) "MailSessions$Message" "flags" "I" "MailSessions") ∈ lw_tbl := lw_at lw_m4 147 rfl
theorem q1039 : (Jvm.Cond.instantiable "MailSessions$Session" (9 : Nat)) ∈ lw_all := lw_g (lw_at lw_m4 169 rfl) rfl
theorem q1041 : (Jvm.Cond.instanceMethod ({ cls := "MailSessions$Session", name := "<init>", desc := "(Ljava/lang/String;)V" } : Jvm.MethodName)) ∈ lw_all := lw_g (lw_at lw_m4 171 rfl) rfl
theorem q1042 : (Jvm.Cond.code ({ cls := "MailSessions$Session", name := "<init>", desc := "(Ljava/lang/String;)V" } : Jvm.MethodName) prog_9_method_1_code (2 : Nat) (Option.none : Option Jvm.ClassFile.FieldType)) ∈ lw_all := lw_g (lw_at lw_m4 172 rfl) rfl
theorem q1043 : (Jvm.Cond.methodLink "MailSessions$Session" (3 : Nat) ({ cls := "java/lang/Object", name := "<init>", desc := "()V" } : Jvm.MethodName)) ∈ lw_all := lw_g (lw_at lw_m4 173 rfl) rfl
theorem q1044 : (Jvm.Cond.fieldLink "MailSessions$Session" (25 : Nat) "MailSessions$Session" "name" "Ljava/lang/String;") ∈ lw_all := lw_g (lw_at lw_m4 174 rfl) rfl
theorem q1046 : (Jvm.Cond.fieldLink "MailSessions$Session" (9 : Nat) "MailSessions$Session" "box" "I") ∈ lw_all := lw_g (lw_at lw_m4 176 rfl) rfl
theorem q1049 : (Jvm.Cond.fieldLink "MailSessions$Session" (32 : Nat) "MailSessions$Session" "count" "I") ∈ lw_all := lw_g (lw_at lw_m4 179 rfl) rfl
theorem q1052 : (Jvm.Cond.fieldLink "MailSessions$Session" (35 : Nat) "MailSessions$Session" "lastUid" "I") ∈ lw_all := lw_g (lw_at lw_m4 182 rfl) rfl
theorem q1054 : (Jvm.Cond.fieldLink "MailSessions$Session" (38 : Nat) "MailSessions$Session" "reads" "Z") ∈ lw_all := lw_g (lw_at lw_m4 184 rfl) rfl
theorem q1057 : (Jvm.Cond.fieldLink "MailSessions$Session" (42 : Nat) "MailSessions$Session" "idle" "Z") ∈ lw_all := lw_g (lw_at lw_m4 187 rfl) rfl
theorem q1060 : (Jvm.Cond.fieldLink "MailSessions$Session" (15 : Nat) "MailSessions$Session" "uids" "[I") ∈ lw_all := lw_g (lw_at lw_m4 190 rfl) rfl
theorem q1063 : (Jvm.Cond.fieldLink "MailSessions$Session" (19 : Nat) "MailSessions$Session" "told" "[I") ∈ lw_all := lw_g (lw_at lw_m4 193 rfl) rfl
theorem q1066 : (Jvm.Cond.fieldLink "MailSessions$Session" (22 : Nat) "MailSessions$Session" "accounts" "[I") ∈ lw_all := lw_g (lw_at lw_m4 196 rfl) rfl
theorem q1069 : (Jvm.Cond.laysFinal "MailSessions$Session" "MailSessions$Session" "name" "Ljava/lang/String;") ∈ lw_all := lw_g (lw_at lw_m4 199 rfl) rfl
theorem q1070 : (Jvm.Cond.soleField "MailSessions$Session" "name") ∈ lw_all := lw_g (lw_at lw_m4 200 rfl) rfl
theorem q1071 : (Jvm.Cond.lays "MailSessions$Session" "MailSessions$Session" "box" "I") ∈ lw_all := lw_g (lw_at lw_m4 201 rfl) rfl
theorem q1072 : (Jvm.Cond.soleField "MailSessions$Session" "box") ∈ lw_all := lw_g (lw_at lw_m4 202 rfl) rfl
theorem q1073 : (Jvm.Cond.lays "MailSessions$Session" "MailSessions$Session" "count" "I") ∈ lw_all := lw_g (lw_at lw_m4 203 rfl) rfl
theorem q1074 : (Jvm.Cond.soleField "MailSessions$Session" "count") ∈ lw_all := lw_g (lw_at lw_m4 204 rfl) rfl
theorem q1075 : (Jvm.Cond.lays "MailSessions$Session" "MailSessions$Session" "lastUid" "I") ∈ lw_all := lw_g (lw_at lw_m4 205 rfl) rfl
theorem q1076 : (Jvm.Cond.soleField "MailSessions$Session" "lastUid") ∈ lw_all := lw_g (lw_at lw_m4 206 rfl) rfl
theorem q1077 : (Jvm.Cond.lays "MailSessions$Session" "MailSessions$Session" "reads" "Z") ∈ lw_all := lw_g (lw_at lw_m4 207 rfl) rfl
theorem q1078 : (Jvm.Cond.soleField "MailSessions$Session" "reads") ∈ lw_all := lw_g (lw_at lw_m4 208 rfl) rfl
theorem q1079 : (Jvm.Cond.lays "MailSessions$Session" "MailSessions$Session" "idle" "Z") ∈ lw_all := lw_g (lw_at lw_m4 209 rfl) rfl
theorem q1080 : (Jvm.Cond.soleField "MailSessions$Session" "idle") ∈ lw_all := lw_g (lw_at lw_m4 210 rfl) rfl
theorem q1081 : (Jvm.Cond.lays "MailSessions$Session" "MailSessions$Session" "uids" "[I") ∈ lw_all := lw_g (lw_at lw_m4 211 rfl) rfl
theorem q1082 : (Jvm.Cond.soleField "MailSessions$Session" "uids") ∈ lw_all := lw_g (lw_at lw_m4 212 rfl) rfl
theorem q1083 : (Jvm.Cond.lays "MailSessions$Session" "MailSessions$Session" "told" "[I") ∈ lw_all := lw_g (lw_at lw_m4 213 rfl) rfl
theorem q1084 : (Jvm.Cond.soleField "MailSessions$Session" "told") ∈ lw_all := lw_g (lw_at lw_m4 214 rfl) rfl
theorem q1085 : (Jvm.Cond.lays "MailSessions$Session" "MailSessions$Session" "accounts" "[I") ∈ lw_all := lw_g (lw_at lw_m4 215 rfl) rfl
theorem q1086 : (Jvm.Cond.soleField "MailSessions$Session" "accounts") ∈ lw_all := lw_g (lw_at lw_m4 216 rfl) rfl
theorem q1087 : (Jvm.Cond.superclass "MailSessions$Session" "java/lang/Object") ∈ lw_all := lw_g (lw_at lw_m4 217 rfl) rfl
theorem q1097 : (Jvm.Cond.instanceMethod ({ cls := "MailSessions$Session", name := "leave", desc := "()V" } : Jvm.MethodName)) ∈ lw_all := lw_g (lw_at lw_m4 227 rfl) rfl
theorem q1098 : (Jvm.Cond.selects "MailSessions$Session" ({ cls := "MailSessions$Session", name := "leave", desc := "()V" } : Jvm.MethodName) ({ cls := "MailSessions$Session", name := "leave", desc := "()V" } : Jvm.MethodName)) ∈ lw_all := lw_g (lw_at lw_m4 228 rfl) rfl
theorem q1099 : (Jvm.Cond.code ({ cls := "MailSessions$Session", name := "leave", desc := "()V" } : Jvm.MethodName) prog_9_method_3_code (1 : Nat) (Option.none : Option Jvm.ClassFile.FieldType)) ∈ lw_all := lw_g (lw_at lw_m4 229 rfl) rfl
theorem q1102 : (Jvm.Cond.instanceMethod ({ cls := "MailSessions$Session", name := "add", desc := "(LMailSessions$Message;)V" } : Jvm.MethodName)) ∈ lw_all := lw_g (lw_at lw_m4 232 rfl) rfl
theorem q1103 : (Jvm.Cond.selects "MailSessions$Session" ({ cls := "MailSessions$Session", name := "add", desc := "(LMailSessions$Message;)V" } : Jvm.MethodName) ({ cls := "MailSessions$Session", name := "add", desc := "(LMailSessions$Message;)V" } : Jvm.MethodName)) ∈ lw_all := lw_g (lw_at lw_m4 233 rfl) rfl
theorem q1104 : (Jvm.Cond.code ({ cls := "MailSessions$Session", name := "add", desc := "(LMailSessions$Message;)V" } : Jvm.MethodName) prog_9_method_4_code (2 : Nat) (Option.none : Option Jvm.ClassFile.FieldType)) ∈ lw_all := lw_g (lw_at lw_m4 234 rfl) rfl
theorem q1527 : (Jvm.Cond.instanceMethod ({ cls := "MailSessions$Session", name := "find", desc := "(I)I" } : Jvm.MethodName)) ∈ lw_all := lw_g (lw_at lw_m6 177 rfl) rfl
theorem q1528 : (Jvm.Cond.selects "MailSessions$Session" ({ cls := "MailSessions$Session", name := "find", desc := "(I)I" } : Jvm.MethodName) ({ cls := "MailSessions$Session", name := "find", desc := "(I)I" } : Jvm.MethodName)) ∈ lw_all := lw_g (lw_at lw_m6 178 rfl) rfl
theorem q1529 : (Jvm.Cond.code ({ cls := "MailSessions$Session", name := "find", desc := "(I)I" } : Jvm.MethodName) prog_9_method_6_code (3 : Nat) (Option.some Jvm.ClassFile.FieldType.int)) ∈ lw_all := lw_g (lw_at lw_m6 179 rfl) rfl
theorem q1710 : (Jvm.Cond.instanceMethod ({ cls := "MailSessions$Session", name := "<init>", desc := "(LMailSessions$Session;)V" } : Jvm.MethodName)) ∈ lw_all := lw_g (lw_at lw_m7 120 rfl) rfl
theorem q1711 : (Jvm.Cond.code ({ cls := "MailSessions$Session", name := "<init>", desc := "(LMailSessions$Session;)V" } : Jvm.MethodName) prog_9_method_2_code (2 : Nat) (Option.none : Option Jvm.ClassFile.FieldType)) ∈ lw_all := lw_g (lw_at lw_m7 121 rfl) rfl
theorem q1712 : (Jvm.Cond.methodLink "MailSessions$Session" (29 : Nat) ({ cls := "MailSessions$Session", name := "<init>", desc := "(Ljava/lang/String;)V" } : Jvm.MethodName)) ∈ lw_all := lw_g (lw_at lw_m7 122 rfl) rfl
theorem q1713 : (Jvm.Cond.methodLink "MailSessions$Session" (45 : Nat) ({ cls := "[I", name := "clone", desc := "()Ljava/lang/Object;" } : Jvm.MethodName)) ∈ lw_all := lw_g (lw_at lw_m7 123 rfl) rfl
theorem q1717 : (Jvm.Cond.classLink "MailSessions$Session" (46 : Nat) "[I") ∈ lw_all := lw_g (lw_at lw_m7 127 rfl) rfl
theorem q1732 : (Jvm.Cond.instanceMethod ({ cls := "MailSessions$Session", name := "remove", desc := "(I)V" } : Jvm.MethodName)) ∈ lw_all := lw_g (lw_at lw_m7 142 rfl) rfl
theorem q1733 : (Jvm.Cond.selects "MailSessions$Session" ({ cls := "MailSessions$Session", name := "remove", desc := "(I)V" } : Jvm.MethodName) ({ cls := "MailSessions$Session", name := "remove", desc := "(I)V" } : Jvm.MethodName)) ∈ lw_all := lw_g (lw_at lw_m7 143 rfl) rfl
theorem q1734 : (Jvm.Cond.code ({ cls := "MailSessions$Session", name := "remove", desc := "(I)V" } : Jvm.MethodName) prog_9_method_5_code (2 : Nat) (Option.none : Option Jvm.ClassFile.FieldType)) ∈ lw_all := lw_g (lw_at lw_m7 144 rfl) rfl
theorem q1735 : (Jvm.Cond.methodLink "MailSessions$Session" (58 : Nat) ({ cls := "java/lang/System", name := "arraycopy", desc := "(Ljava/lang/Object;ILjava/lang/Object;II)V" } : Jvm.MethodName)) ∈ lw_all := lw_g (lw_at lw_m7 145 rfl) rfl
theorem q2826 : (Jvm.Cond.castable "MailSessions$Session" "java/lang/Object") ∈ lw_tbl := lw_at lw_m12 36 rfl
theorem in_X8 : ∀ w ∈ wsX80, w ∈ lw_all := lw_in wsX80 [1069, 1071, 1073, 1075, 1077, 1079, 1081, 1083, 1085] (by decide +kernel) (by decide +kernel)
/-! MailSessions$Notice -/
set_option maxRecDepth 100000
def RX9 : String := "MailSessions$Notice"
def TX9 : u_T := fun k => match k with
  | 0 => ("MailSessions$Notice", "session", "I", true)
  | 1 => ("MailSessions$Notice", "kind", "I", true)
  | 2 => ("MailSessions$Notice", "number", "I", true)
  | _ => ("MailSessions$Notice", "flags", "I", true)
def tyX9 : Nat → FieldType := fun k => match k with
  | 0 => .int
  | 1 => .int
  | 2 => .int
  | _ => .int
abbrev wsX90 : List Cond := u_ws RX9 TX9 4
theorem nmX9 : ∀ a, a < 4 → ∀ b, b < 4 → a ≠ b → (TX9 a).2.1 ≠ (TX9 b).2.1 := by decide +kernel
theorem tyX9_ok : ∀ k, k < 4 → parseFieldDescriptor (TX9 k).2.2.1 = some (tyX9 k) := by decide +kernel
abbrev cX9_part : ByteArray := prog_5_method_2_code
def yX9_part : MethodName := ⟨RX9, "part", "(I)I"⟩
def dkwX9_part_1 : List UInt8 := [5, 160, 0, 10, 42, 180, 0, 16, 167, 0, 7, 42, 180, 0, 19, 172]
abbrev dktX9_part_1 : List UInt8 := dkwX9_part_1 ++ []
def dkwX9_part_0 : List UInt8 := [27, 154, 0, 10, 42, 180, 0, 7, 167, 0, 31, 27, 4, 160, 0, 10, 42, 180, 0, 13, 167, 0, 19, 27]
abbrev dktX9_part_0 : List UInt8 := dkwX9_part_0 ++ dktX9_part_1
theorem dksX9_part_0 : cX9_part.data.toList.drop 0 = dktX9_part_0 := by decide +kernel
theorem dksX9_part_1 : cX9_part.data.toList.drop 24 = dktX9_part_1 := dk_seg dksX9_part_0 24 rfl rfl
theorem dX9_part_0 : decode cX9_part 0 = .ok (.iload_n 1, 1) := dk_27 (dk_at dksX9_part_0 0 rfl rfl)
theorem dX9_part_1 : decode cX9_part 1 = .ok (.ifCond .ne 10, 3) := dk_154 0 10 (dk_at dksX9_part_0 1 rfl rfl)
theorem dX9_part_4 : decode cX9_part 4 = .ok (.aload_n 0, 1) := dk_42 (dk_at dksX9_part_0 4 rfl rfl)
theorem dX9_part_5 : decode cX9_part 5 = .ok (.getfield 7, 3) := dk_180 0 7 (dk_at dksX9_part_0 5 rfl rfl)
theorem dX9_part_8 : decode cX9_part 8 = .ok (.goto 31, 3) := dk_167 0 31 (dk_at dksX9_part_0 8 rfl rfl)
theorem dX9_part_11 : decode cX9_part 11 = .ok (.iload_n 1, 1) := dk_27 (dk_at dksX9_part_0 11 rfl rfl)
theorem dX9_part_12 : decode cX9_part 12 = .ok (.iconst 1, 1) := dk_4 (dk_at dksX9_part_0 12 rfl rfl)
theorem dX9_part_13 : decode cX9_part 13 = .ok (.if_icmp .ne 10, 3) := dk_160 0 10 (dk_at dksX9_part_0 13 rfl rfl)
theorem dX9_part_16 : decode cX9_part 16 = .ok (.aload_n 0, 1) := dk_42 (dk_at dksX9_part_0 16 rfl rfl)
theorem dX9_part_17 : decode cX9_part 17 = .ok (.getfield 13, 3) := dk_180 0 13 (dk_at dksX9_part_0 17 rfl rfl)
theorem dX9_part_20 : decode cX9_part 20 = .ok (.goto 19, 3) := dk_167 0 19 (dk_at dksX9_part_0 20 rfl rfl)
theorem dX9_part_23 : decode cX9_part 23 = .ok (.iload_n 1, 1) := dk_27 (dk_at dksX9_part_0 23 rfl rfl)
theorem dX9_part_24 : decode cX9_part 24 = .ok (.iconst 2, 1) := dk_5 (dk_at dksX9_part_1 0 rfl rfl)
theorem dX9_part_25 : decode cX9_part 25 = .ok (.if_icmp .ne 10, 3) := dk_160 0 10 (dk_at dksX9_part_1 1 rfl rfl)
theorem dX9_part_28 : decode cX9_part 28 = .ok (.aload_n 0, 1) := dk_42 (dk_at dksX9_part_1 4 rfl rfl)
theorem dX9_part_29 : decode cX9_part 29 = .ok (.getfield 16, 3) := dk_180 0 16 (dk_at dksX9_part_1 5 rfl rfl)
theorem dX9_part_32 : decode cX9_part 32 = .ok (.goto 7, 3) := dk_167 0 7 (dk_at dksX9_part_1 8 rfl rfl)
theorem dX9_part_35 : decode cX9_part 35 = .ok (.aload_n 0, 1) := dk_42 (dk_at dksX9_part_1 11 rfl rfl)
theorem dX9_part_36 : decode cX9_part 36 = .ok (.getfield 19, 3) := dk_180 0 19 (dk_at dksX9_part_1 12 rfl rfl)
theorem dX9_part_39 : decode cX9_part 39 = .ok (.ireturn, 1) := dk_172 (dk_at dksX9_part_1 15 rfl rfl)
abbrev cX9_init : ByteArray := prog_5_method_1_code
def yX9_init : MethodName := ⟨RX9, "<init>", "(IIII)V"⟩
def dkwX9_init_1 : List UInt8 := [181, 0, 19, 177]
abbrev dktX9_init_1 : List UInt8 := dkwX9_init_1 ++ []
def dkwX9_init_0 : List UInt8 := [42, 183, 0, 1, 42, 27, 181, 0, 7, 42, 28, 181, 0, 13, 42, 29, 181, 0, 16, 42, 21, 4]
abbrev dktX9_init_0 : List UInt8 := dkwX9_init_0 ++ dktX9_init_1
theorem dksX9_init_0 : cX9_init.data.toList.drop 0 = dktX9_init_0 := by decide +kernel
theorem dksX9_init_1 : cX9_init.data.toList.drop 22 = dktX9_init_1 := dk_seg dksX9_init_0 22 rfl rfl
theorem dX9_init_0 : decode cX9_init 0 = .ok (.aload_n 0, 1) := dk_42 (dk_at dksX9_init_0 0 rfl rfl)
theorem dX9_init_1 : decode cX9_init 1 = .ok (.invokespecial 1, 3) := dk_183 0 1 (dk_at dksX9_init_0 1 rfl rfl)
theorem dX9_init_4 : decode cX9_init 4 = .ok (.aload_n 0, 1) := dk_42 (dk_at dksX9_init_0 4 rfl rfl)
theorem dX9_init_5 : decode cX9_init 5 = .ok (.iload_n 1, 1) := dk_27 (dk_at dksX9_init_0 5 rfl rfl)
theorem dX9_init_6 : decode cX9_init 6 = .ok (.putfield 7, 3) := dk_181 0 7 (dk_at dksX9_init_0 6 rfl rfl)
theorem dX9_init_9 : decode cX9_init 9 = .ok (.aload_n 0, 1) := dk_42 (dk_at dksX9_init_0 9 rfl rfl)
theorem dX9_init_10 : decode cX9_init 10 = .ok (.iload_n 2, 1) := dk_28 (dk_at dksX9_init_0 10 rfl rfl)
theorem dX9_init_11 : decode cX9_init 11 = .ok (.putfield 13, 3) := dk_181 0 13 (dk_at dksX9_init_0 11 rfl rfl)
theorem dX9_init_14 : decode cX9_init 14 = .ok (.aload_n 0, 1) := dk_42 (dk_at dksX9_init_0 14 rfl rfl)
theorem dX9_init_15 : decode cX9_init 15 = .ok (.iload_n 3, 1) := dk_29 (dk_at dksX9_init_0 15 rfl rfl)
theorem dX9_init_16 : decode cX9_init 16 = .ok (.putfield 16, 3) := dk_181 0 16 (dk_at dksX9_init_0 16 rfl rfl)
theorem dX9_init_19 : decode cX9_init 19 = .ok (.aload_n 0, 1) := dk_42 (dk_at dksX9_init_0 19 rfl rfl)
theorem dX9_init_20 : decode cX9_init 20 = .ok (.iload 4, 2) := dk_21 4 (dk_at dksX9_init_0 20 rfl rfl)
theorem dX9_init_22 : decode cX9_init 22 = .ok (.putfield 19, 3) := dk_181 0 19 (dk_at dksX9_init_1 0 rfl rfl)
theorem dX9_init_25 : decode cX9_init 25 = .ok (.return_, 1) := dk_177 (dk_at dksX9_init_1 3 rfl rfl)
theorem q186 : (Jvm.Cond.initialized "MailSessions$Notice") ∈ lw_all := lw_g (lw_at lw_m1 36 rfl) rfl
theorem q946 : (Jvm.Cond.selects "MailSessions$Notice" ({ cls := "java/lang/Object", name := "getClass", desc := "()Ljava/lang/Class;" } : Jvm.MethodName) ({ cls := "java/lang/Object", name := "getClass", desc := "()Ljava/lang/Class;" } : Jvm.MethodName)) ∈ lw_all := lw_g (lw_at lw_m4 76 rfl) rfl
theorem q1622 : (Jvm.Cond.instanceMethod ({ cls := "MailSessions$Notice", name := "part", desc := "(I)I" } : Jvm.MethodName)) ∈ lw_all := lw_g (lw_at lw_m7 32 rfl) rfl
theorem q1623 : (Jvm.Cond.selects "MailSessions$Notice" ({ cls := "MailSessions$Notice", name := "part", desc := "(I)I" } : Jvm.MethodName) ({ cls := "MailSessions$Notice", name := "part", desc := "(I)I" } : Jvm.MethodName)) ∈ lw_all := lw_g (lw_at lw_m7 33 rfl) rfl
theorem q1624 : (Jvm.Cond.code ({ cls := "MailSessions$Notice", name := "part", desc := "(I)I" } : Jvm.MethodName) prog_5_method_2_code (2 : Nat) (Option.some Jvm.ClassFile.FieldType.int)) ∈ lw_all := lw_g (lw_at lw_m7 34 rfl) rfl
theorem q1741 : (Jvm.Cond.instantiable "MailSessions$Notice" (4 : Nat)) ∈ lw_all := lw_g (lw_at lw_m7 151 rfl) rfl
theorem q1743 : (Jvm.Cond.instanceMethod ({ cls := "MailSessions$Notice", name := "<init>", desc := "(IIII)V" } : Jvm.MethodName)) ∈ lw_all := lw_g (lw_at lw_m7 153 rfl) rfl
theorem q1744 : (Jvm.Cond.code ({ cls := "MailSessions$Notice", name := "<init>", desc := "(IIII)V" } : Jvm.MethodName) prog_5_method_1_code (5 : Nat) (Option.none : Option Jvm.ClassFile.FieldType)) ∈ lw_all := lw_g (lw_at lw_m7 154 rfl) rfl
theorem q1745 : (Jvm.Cond.methodLink "MailSessions$Notice" (1 : Nat) ({ cls := "java/lang/Object", name := "<init>", desc := "()V" } : Jvm.MethodName)) ∈ lw_all := lw_g (lw_at lw_m7 155 rfl) rfl
theorem q1746 : (Jvm.Cond.fieldLink "MailSessions$Notice" (7 : Nat) "MailSessions$Notice" "session" "I") ∈ lw_all := lw_g (lw_at lw_m7 156 rfl) rfl
theorem q1748 : (Jvm.Cond.fieldLink "MailSessions$Notice" (13 : Nat) "MailSessions$Notice" "kind" "I") ∈ lw_all := lw_g (lw_at lw_m7 158 rfl) rfl
theorem q1750 : (Jvm.Cond.fieldLink "MailSessions$Notice" (16 : Nat) "MailSessions$Notice" "number" "I") ∈ lw_all := lw_g (lw_at lw_m7 160 rfl) rfl
theorem q1752 : (Jvm.Cond.fieldLink "MailSessions$Notice" (19 : Nat) "MailSessions$Notice" "flags" "I") ∈ lw_all := lw_g (lw_at lw_m7 162 rfl) rfl
theorem q1754 : (Jvm.Cond.laysFinal "MailSessions$Notice" "MailSessions$Notice" "session" "I") ∈ lw_all := lw_g (lw_at lw_m7 164 rfl) rfl
theorem q1755 : (Jvm.Cond.soleField "MailSessions$Notice" "session") ∈ lw_all := lw_g (lw_at lw_m7 165 rfl) rfl
theorem q1756 : (Jvm.Cond.laysFinal "MailSessions$Notice" "MailSessions$Notice" "kind" "I") ∈ lw_all := lw_g (lw_at lw_m7 166 rfl) rfl
theorem q1757 : (Jvm.Cond.soleField "MailSessions$Notice" "kind") ∈ lw_all := lw_g (lw_at lw_m7 167 rfl) rfl
theorem q1758 : (Jvm.Cond.laysFinal "MailSessions$Notice" "MailSessions$Notice" "number" "I") ∈ lw_all := lw_g (lw_at lw_m7 168 rfl) rfl
theorem q1759 : (Jvm.Cond.soleField "MailSessions$Notice" "number") ∈ lw_all := lw_g (lw_at lw_m7 169 rfl) rfl
theorem q1760 : (Jvm.Cond.laysFinal "MailSessions$Notice" "MailSessions$Notice" "flags" "I") ∈ lw_all := lw_g (lw_at lw_m7 170 rfl) rfl
theorem q1761 : (Jvm.Cond.soleField "MailSessions$Notice" "flags") ∈ lw_all := lw_g (lw_at lw_m7 171 rfl) rfl
theorem q1762 : (Jvm.Cond.superclass "MailSessions$Notice" "java/lang/Object") ∈ lw_all := lw_g (lw_at lw_m7 172 rfl) rfl
theorem q2830 : (Jvm.Cond.castable "MailSessions$Notice" "java/lang/Object") ∈ lw_tbl := lw_at lw_m12 40 rfl
theorem in_X9 : ∀ w ∈ wsX90, w ∈ lw_all := lw_in wsX90 [1754, 1756, 1758, 1760] (by decide +kernel) (by decide +kernel)
theorem q1827 : (Jvm.Cond.interfaceMethod "MailSessions$Change" "MailSessions$Change" "of" "(I)I") ∈ lw_tbl := lw_at lw_m7 237 rfl
set_option maxRecDepth 100000
theorem q1828 : (Jvm.Cond.declares ({ cls := "MailSessions$Change", name := "of", desc := "(I)I" } : Jvm.MethodName)) ∈ lw_tbl := lw_at lw_m7 238 rfl
theorem q2811 : (Jvm.Cond.castable "MailSessions$Change" "java/lang/Object") ∈ lw_tbl := lw_at lw_m12 21 rfl
theorem q1273 : (Jvm.Cond.interfaceMethod "MailSessions$Test" "MailSessions$Test" "holds" "(LMailSessions$Message;)Z") ∈ lw_tbl := lw_at lw_m5 163 rfl
set_option maxRecDepth 100000
theorem q1274 : (Jvm.Cond.declares ({ cls := "MailSessions$Test", name := "holds", desc := "(LMailSessions$Message;)Z" } : Jvm.MethodName)) ∈ lw_tbl := lw_at lw_m5 164 rfl
theorem q177 : (Jvm.Cond.initialized "MailSessions$Token") ∈ lw_all := lw_g (lw_at lw_m1 27 rfl) rfl
set_option maxRecDepth 100000
theorem q651 : (Jvm.Cond.laysStatic "MailSessions$Token" "END" "LMailSessions$Token;") ∈ lw_tbl := lw_at lw_m3 21 rfl
theorem q653 : (Jvm.Cond.laysStatic "MailSessions$Token" "WORD" "LMailSessions$Token;") ∈ lw_tbl := lw_at lw_m3 23 rfl
theorem q680 : (Jvm.Cond.laysStatic "MailSessions$Token" "NUMBER" "LMailSessions$Token;") ∈ lw_tbl := lw_at lw_m3 50 rfl
theorem q684 : (Jvm.Cond.laysStatic "MailSessions$Token" "SYMBOL" "LMailSessions$Token;") ∈ lw_tbl := lw_at lw_m3 54 rfl
theorem q951 : (Jvm.Cond.selects "MailSessions$Token" ({ cls := "java/lang/Object", name := "getClass", desc := "()Ljava/lang/Class;" } : Jvm.MethodName) ({ cls := "java/lang/Object", name := "getClass", desc := "()Ljava/lang/Class;" } : Jvm.MethodName)) ∈ lw_all := lw_g (lw_at lw_m4 81 rfl) rfl
theorem q2821 : (Jvm.Cond.castable "MailSessions$Token" "java/lang/Object") ∈ lw_tbl := lw_at lw_m12 31 rfl
theorem q331 : (Jvm.Cond.sameMethod "[B" "java/lang/Object" "clone" "()Ljava/lang/Object;") ∈ lw_all := lw_g (lw_at lw_m1 181 rfl) rfl
set_option maxRecDepth 100000
theorem q334 : (Jvm.Cond.selects "[B" ({ cls := "[B", name := "clone", desc := "()Ljava/lang/Object;" } : Jvm.MethodName) ({ cls := "java/lang/Object", name := "clone", desc := "()Ljava/lang/Object;" } : Jvm.MethodName)) ∈ lw_all := lw_g (lw_at lw_m1 184 rfl) rfl
theorem q335 : (Jvm.Cond.castable "[B" "java/lang/Cloneable") ∈ lw_tbl := lw_at lw_m1 185 rfl
theorem q2837 : (Jvm.Cond.castable "[B" "java/lang/Object") ∈ lw_tbl := lw_at lw_m12 47 rfl
theorem q2843 : (Jvm.Cond.castable "[D" "java/lang/Object") ∈ lw_tbl := lw_at lw_m12 53 rfl
set_option maxRecDepth 100000
theorem q1714 : (Jvm.Cond.sameMethod "[I" "java/lang/Object" "clone" "()Ljava/lang/Object;") ∈ lw_all := lw_g (lw_at lw_m7 124 rfl) rfl
set_option maxRecDepth 100000
theorem q1715 : (Jvm.Cond.selects "[I" ({ cls := "[I", name := "clone", desc := "()Ljava/lang/Object;" } : Jvm.MethodName) ({ cls := "java/lang/Object", name := "clone", desc := "()Ljava/lang/Object;" } : Jvm.MethodName)) ∈ lw_all := lw_g (lw_at lw_m7 125 rfl) rfl
theorem q1716 : (Jvm.Cond.castable "[I" "java/lang/Cloneable") ∈ lw_tbl := lw_at lw_m7 126 rfl
theorem q2839 : (Jvm.Cond.castable "[I" "java/lang/Object") ∈ lw_tbl := lw_at lw_m12 49 rfl
theorem q2842 : (Jvm.Cond.castable "[J" "java/lang/Object") ∈ lw_tbl := lw_at lw_m12 52 rfl
set_option maxRecDepth 100000
theorem q2841 : (Jvm.Cond.castable "[LMailSessions$Change;" "java/lang/Object") ∈ lw_tbl := lw_at lw_m12 51 rfl
set_option maxRecDepth 100000
theorem q2838 : (Jvm.Cond.castable "[LMailSessions$Server;" "java/lang/Object") ∈ lw_tbl := lw_at lw_m12 48 rfl
set_option maxRecDepth 100000
theorem q2833 : (Jvm.Cond.sameMethod "[Ljava/lang/Object;" "java/lang/Object" "getClass" "()Ljava/lang/Class;") ∈ lw_all := lw_g (lw_at lw_m12 43 rfl) rfl
set_option maxRecDepth 100000
theorem q2834 : (Jvm.Cond.selects "[Ljava/lang/Object;" ({ cls := "java/lang/Object", name := "getClass", desc := "()Ljava/lang/Class;" } : Jvm.MethodName) ({ cls := "java/lang/Object", name := "getClass", desc := "()Ljava/lang/Class;" } : Jvm.MethodName)) ∈ lw_all := lw_g (lw_at lw_m12 44 rfl) rfl
theorem q2836 : (Jvm.Cond.castable "[Ljava/lang/Object;" "java/lang/Object") ∈ lw_tbl := lw_at lw_m12 46 rfl
theorem q2840 : (Jvm.Cond.castable "[Z" "java/lang/Object") ∈ lw_tbl := lw_at lw_m12 50 rfl
set_option maxRecDepth 100000
theorem q176 : (Jvm.Cond.initialized "java/lang/Enum") ∈ lw_all := lw_g (lw_at lw_m1 26 rfl) rfl
set_option maxRecDepth 100000
theorem q170 : (Jvm.Cond.initialized "java/lang/Number") ∈ lw_all := lw_g (lw_at lw_m1 20 rfl) rfl
set_option maxRecDepth 100000
theorem q167 : (Jvm.Cond.initialized "java/lang/System") ∈ lw_all := lw_g (lw_at lw_m1 17 rfl) rfl
set_option maxRecDepth 100000
theorem q341 : (Jvm.Cond.static ({ cls := "java/lang/System", name := "arraycopy", desc := "(Ljava/lang/Object;ILjava/lang/Object;II)V" } : Jvm.MethodName)) ∈ lw_all := lw_g (lw_at lw_m1 191 rfl) rfl
theorem q342 : (Jvm.Cond.native ({ cls := "java/lang/System", name := "arraycopy", desc := "(Ljava/lang/Object;ILjava/lang/Object;II)V" } : Jvm.MethodName)) ∈ lw_all := lw_g (lw_at lw_m1 192 rfl) rfl
theorem q754 : (Jvm.Cond.interfaceMethod "jdk/internal/access/JavaLangAccess" "jdk/internal/access/JavaLangAccess" "getUTF16Char" "([BI)C") ∈ lw_tbl := lw_at lw_m3 124 rfl
set_option maxRecDepth 100000
theorem q755 : (Jvm.Cond.declares ({ cls := "jdk/internal/access/JavaLangAccess", name := "getUTF16Char", desc := "([BI)C" } : Jvm.MethodName)) ∈ lw_tbl := lw_at lw_m3 125 rfl
theorem q215 : (Jvm.Cond.arrayOver (Jvm.ClassFile.FieldType.object "java/lang/Object")) ∈ lw_tbl := lw_at lw_m1 65 rfl
set_option maxRecDepth 100000
theorem q295 : (Jvm.Cond.arrayClass Jvm.ClassFile.FieldType.byte) ∈ lw_all := lw_g (lw_at lw_m1 145 rfl) rfl
theorem q582 : (Jvm.Cond.arrayOver (Jvm.ClassFile.FieldType.object "MailSessions$Server")) ∈ lw_tbl := lw_at lw_m2 192 rfl
theorem q719 : (Jvm.Cond.arrayClass Jvm.ClassFile.FieldType.int) ∈ lw_all := lw_g (lw_at lw_m3 89 rfl) rfl
theorem q720 : (Jvm.Cond.arrayClass Jvm.ClassFile.FieldType.boolean) ∈ lw_all := lw_g (lw_at lw_m3 90 rfl) rfl
theorem q1857 : (Jvm.Cond.arrayOver (Jvm.ClassFile.FieldType.object "MailSessions$Change")) ∈ lw_tbl := lw_at lw_m8 27 rfl
theorem q2129 : (Jvm.Cond.arrayClass Jvm.ClassFile.FieldType.long) ∈ lw_all := lw_g (lw_at lw_m9 59 rfl) rfl
theorem q2794 : (Jvm.Cond.arrayClass Jvm.ClassFile.FieldType.double) ∈ lw_all := lw_g (lw_at lw_m12 4 rfl) rfl
theorem q2844 : (Jvm.Cond.arrayClass Jvm.ClassFile.FieldType.char) ∈ lw_all := lw_g (lw_at lw_m12 54 rfl) rfl
theorem q2845 : (Jvm.Cond.arrayClass Jvm.ClassFile.FieldType.short) ∈ lw_all := lw_g (lw_at lw_m12 55 rfl) rfl
