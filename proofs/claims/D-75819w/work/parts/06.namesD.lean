/-! MailSessionsLaw -/
set_option maxRecDepth 100000
def RX0 : String := "MailSessionsLaw"
abbrev cX0_append : ByteArray := method_3_code
def yX0_append : MethodName := ⟨RX0, "append", "(LMailSessions;IIIII[J)I"⟩
def dkwX0_append_1 : List UInt8 := [172]
abbrev dktX0_append_1 : List UInt8 := dkwX0_append_1 ++ []
def dkwX0_append_0 : List UInt8 := [25, 6, 3, 42, 27, 28, 29, 21, 4, 21, 5, 182, 0, 7, 133, 80, 167, 0, 7, 58, 7, 4, 172, 3]
abbrev dktX0_append_0 : List UInt8 := dkwX0_append_0 ++ dktX0_append_1
theorem dksX0_append_0 : cX0_append.data.toList.drop 0 = dktX0_append_0 := by decide +kernel
theorem dksX0_append_1 : cX0_append.data.toList.drop 24 = dktX0_append_1 := dk_seg dksX0_append_0 24 rfl rfl
theorem dX0_append_0 : decode cX0_append 0 = .ok (.aload 6, 2) := dk_25 6 (dk_at dksX0_append_0 0 rfl rfl)
theorem dX0_append_2 : decode cX0_append 2 = .ok (.iconst 0, 1) := dk_3 (dk_at dksX0_append_0 2 rfl rfl)
theorem dX0_append_3 : decode cX0_append 3 = .ok (.aload_n 0, 1) := dk_42 (dk_at dksX0_append_0 3 rfl rfl)
theorem dX0_append_4 : decode cX0_append 4 = .ok (.iload_n 1, 1) := dk_27 (dk_at dksX0_append_0 4 rfl rfl)
theorem dX0_append_5 : decode cX0_append 5 = .ok (.iload_n 2, 1) := dk_28 (dk_at dksX0_append_0 5 rfl rfl)
theorem dX0_append_6 : decode cX0_append 6 = .ok (.iload_n 3, 1) := dk_29 (dk_at dksX0_append_0 6 rfl rfl)
theorem dX0_append_7 : decode cX0_append 7 = .ok (.iload 4, 2) := dk_21 4 (dk_at dksX0_append_0 7 rfl rfl)
theorem dX0_append_9 : decode cX0_append 9 = .ok (.iload 5, 2) := dk_21 5 (dk_at dksX0_append_0 9 rfl rfl)
theorem dX0_append_11 : decode cX0_append 11 = .ok (.invokevirtual 7, 3) := dk_182 0 7 (dk_at dksX0_append_0 11 rfl rfl)
theorem dX0_append_14 : decode cX0_append 14 = .ok (.i2l, 1) := dk_133 (dk_at dksX0_append_0 14 rfl rfl)
theorem dX0_append_15 : decode cX0_append 15 = .ok (.lastore, 1) := dk_80 (dk_at dksX0_append_0 15 rfl rfl)
theorem dX0_append_16 : decode cX0_append 16 = .ok (.goto 7, 3) := dk_167 0 7 (dk_at dksX0_append_0 16 rfl rfl)
theorem dX0_append_19 : decode cX0_append 19 = .ok (.astore 7, 2) := dk_58 7 (dk_at dksX0_append_0 19 rfl rfl)
theorem dX0_append_21 : decode cX0_append 21 = .ok (.iconst 1, 1) := dk_4 (dk_at dksX0_append_0 21 rfl rfl)
theorem dX0_append_22 : decode cX0_append 22 = .ok (.ireturn, 1) := dk_172 (dk_at dksX0_append_0 22 rfl rfl)
theorem dX0_append_23 : decode cX0_append 23 = .ok (.iconst 0, 1) := dk_3 (dk_at dksX0_append_0 23 rfl rfl)
theorem dX0_append_24 : decode cX0_append 24 = .ok (.ireturn, 1) := dk_172 (dk_at dksX0_append_1 0 rfl rfl)
abbrev cX0_truncate : ByteArray := method_4_code
def yX0_truncate : MethodName := ⟨RX0, "truncate", "(LMailSessions;I)I"⟩
def dkwX0_truncate_0 : List UInt8 := [42, 27, 182, 0, 15, 167, 0, 6, 77, 4, 172, 3, 172]
abbrev dktX0_truncate_0 : List UInt8 := dkwX0_truncate_0 ++ []
theorem dksX0_truncate_0 : cX0_truncate.data.toList.drop 0 = dktX0_truncate_0 := by decide +kernel
theorem dX0_truncate_0 : decode cX0_truncate 0 = .ok (.aload_n 0, 1) := dk_42 (dk_at dksX0_truncate_0 0 rfl rfl)
theorem dX0_truncate_1 : decode cX0_truncate 1 = .ok (.iload_n 1, 1) := dk_27 (dk_at dksX0_truncate_0 1 rfl rfl)
theorem dX0_truncate_2 : decode cX0_truncate 2 = .ok (.invokevirtual 15, 3) := dk_182 0 15 (dk_at dksX0_truncate_0 2 rfl rfl)
theorem dX0_truncate_5 : decode cX0_truncate 5 = .ok (.goto 6, 3) := dk_167 0 6 (dk_at dksX0_truncate_0 5 rfl rfl)
theorem dX0_truncate_8 : decode cX0_truncate 8 = .ok (.astore_n 2, 1) := dk_77 (dk_at dksX0_truncate_0 8 rfl rfl)
theorem dX0_truncate_9 : decode cX0_truncate 9 = .ok (.iconst 1, 1) := dk_4 (dk_at dksX0_truncate_0 9 rfl rfl)
theorem dX0_truncate_10 : decode cX0_truncate 10 = .ok (.ireturn, 1) := dk_172 (dk_at dksX0_truncate_0 10 rfl rfl)
theorem dX0_truncate_11 : decode cX0_truncate 11 = .ok (.iconst 0, 1) := dk_3 (dk_at dksX0_truncate_0 11 rfl rfl)
theorem dX0_truncate_12 : decode cX0_truncate 12 = .ok (.ireturn, 1) := dk_172 (dk_at dksX0_truncate_0 12 rfl rfl)
abbrev cX0_property : ByteArray := method_5_code
def yX0_property : MethodName := ⟨RX0, "property", "(LMailSessions;I[J)I"⟩
def dkwX0_property_0 : List UInt8 := [44, 3, 42, 27, 182, 0, 21, 133, 80, 167, 0, 6, 78, 4, 172, 3, 172]
abbrev dktX0_property_0 : List UInt8 := dkwX0_property_0 ++ []
theorem dksX0_property_0 : cX0_property.data.toList.drop 0 = dktX0_property_0 := by decide +kernel
theorem dX0_property_0 : decode cX0_property 0 = .ok (.aload_n 2, 1) := dk_44 (dk_at dksX0_property_0 0 rfl rfl)
theorem dX0_property_1 : decode cX0_property 1 = .ok (.iconst 0, 1) := dk_3 (dk_at dksX0_property_0 1 rfl rfl)
theorem dX0_property_2 : decode cX0_property 2 = .ok (.aload_n 0, 1) := dk_42 (dk_at dksX0_property_0 2 rfl rfl)
theorem dX0_property_3 : decode cX0_property 3 = .ok (.iload_n 1, 1) := dk_27 (dk_at dksX0_property_0 3 rfl rfl)
theorem dX0_property_4 : decode cX0_property 4 = .ok (.invokevirtual 21, 3) := dk_182 0 21 (dk_at dksX0_property_0 4 rfl rfl)
theorem dX0_property_7 : decode cX0_property 7 = .ok (.i2l, 1) := dk_133 (dk_at dksX0_property_0 7 rfl rfl)
theorem dX0_property_8 : decode cX0_property 8 = .ok (.lastore, 1) := dk_80 (dk_at dksX0_property_0 8 rfl rfl)
theorem dX0_property_9 : decode cX0_property 9 = .ok (.goto 6, 3) := dk_167 0 6 (dk_at dksX0_property_0 9 rfl rfl)
theorem dX0_property_12 : decode cX0_property 12 = .ok (.astore_n 3, 1) := dk_78 (dk_at dksX0_property_0 12 rfl rfl)
theorem dX0_property_13 : decode cX0_property 13 = .ok (.iconst 1, 1) := dk_4 (dk_at dksX0_property_0 13 rfl rfl)
theorem dX0_property_14 : decode cX0_property 14 = .ok (.ireturn, 1) := dk_172 (dk_at dksX0_property_0 14 rfl rfl)
theorem dX0_property_15 : decode cX0_property 15 = .ok (.iconst 0, 1) := dk_3 (dk_at dksX0_property_0 15 rfl rfl)
theorem dX0_property_16 : decode cX0_property 16 = .ok (.ireturn, 1) := dk_172 (dk_at dksX0_property_0 16 rfl rfl)
abbrev cX0_box : ByteArray := method_6_code
def yX0_box : MethodName := ⟨RX0, "box", "(LMailSessions;II[J)I"⟩
def dkwX0_box_0 : List UInt8 := [45, 3, 42, 27, 28, 182, 0, 25, 133, 80, 167, 0, 11, 58, 4, 4, 172, 58, 4, 5, 172, 3, 172]
abbrev dktX0_box_0 : List UInt8 := dkwX0_box_0 ++ []
theorem dksX0_box_0 : cX0_box.data.toList.drop 0 = dktX0_box_0 := by decide +kernel
theorem dX0_box_0 : decode cX0_box 0 = .ok (.aload_n 3, 1) := dk_45 (dk_at dksX0_box_0 0 rfl rfl)
theorem dX0_box_1 : decode cX0_box 1 = .ok (.iconst 0, 1) := dk_3 (dk_at dksX0_box_0 1 rfl rfl)
theorem dX0_box_2 : decode cX0_box 2 = .ok (.aload_n 0, 1) := dk_42 (dk_at dksX0_box_0 2 rfl rfl)
theorem dX0_box_3 : decode cX0_box 3 = .ok (.iload_n 1, 1) := dk_27 (dk_at dksX0_box_0 3 rfl rfl)
theorem dX0_box_4 : decode cX0_box 4 = .ok (.iload_n 2, 1) := dk_28 (dk_at dksX0_box_0 4 rfl rfl)
theorem dX0_box_5 : decode cX0_box 5 = .ok (.invokevirtual 25, 3) := dk_182 0 25 (dk_at dksX0_box_0 5 rfl rfl)
theorem dX0_box_8 : decode cX0_box 8 = .ok (.i2l, 1) := dk_133 (dk_at dksX0_box_0 8 rfl rfl)
theorem dX0_box_9 : decode cX0_box 9 = .ok (.lastore, 1) := dk_80 (dk_at dksX0_box_0 9 rfl rfl)
theorem dX0_box_10 : decode cX0_box 10 = .ok (.goto 11, 3) := dk_167 0 11 (dk_at dksX0_box_0 10 rfl rfl)
theorem dX0_box_13 : decode cX0_box 13 = .ok (.astore 4, 2) := dk_58 4 (dk_at dksX0_box_0 13 rfl rfl)
theorem dX0_box_15 : decode cX0_box 15 = .ok (.iconst 1, 1) := dk_4 (dk_at dksX0_box_0 15 rfl rfl)
theorem dX0_box_16 : decode cX0_box 16 = .ok (.ireturn, 1) := dk_172 (dk_at dksX0_box_0 16 rfl rfl)
theorem dX0_box_17 : decode cX0_box 17 = .ok (.astore 4, 2) := dk_58 4 (dk_at dksX0_box_0 17 rfl rfl)
theorem dX0_box_19 : decode cX0_box 19 = .ok (.iconst 2, 1) := dk_5 (dk_at dksX0_box_0 19 rfl rfl)
theorem dX0_box_20 : decode cX0_box 20 = .ok (.ireturn, 1) := dk_172 (dk_at dksX0_box_0 20 rfl rfl)
theorem dX0_box_21 : decode cX0_box 21 = .ok (.iconst 0, 1) := dk_3 (dk_at dksX0_box_0 21 rfl rfl)
theorem dX0_box_22 : decode cX0_box 22 = .ok (.ireturn, 1) := dk_172 (dk_at dksX0_box_0 22 rfl rfl)
abbrev cX0_message : ByteArray := method_7_code
def yX0_message : MethodName := ⟨RX0, "message", "(LMailSessions;III[J)I"⟩
def dkwX0_message_1 : List UInt8 := [172]
abbrev dktX0_message_1 : List UInt8 := dkwX0_message_1 ++ []
def dkwX0_message_0 : List UInt8 := [25, 4, 3, 42, 27, 28, 29, 182, 0, 31, 133, 80, 167, 0, 11, 58, 5, 4, 172, 58, 5, 5, 172, 3]
abbrev dktX0_message_0 : List UInt8 := dkwX0_message_0 ++ dktX0_message_1
theorem dksX0_message_0 : cX0_message.data.toList.drop 0 = dktX0_message_0 := by decide +kernel
theorem dksX0_message_1 : cX0_message.data.toList.drop 24 = dktX0_message_1 := dk_seg dksX0_message_0 24 rfl rfl
theorem dX0_message_0 : decode cX0_message 0 = .ok (.aload 4, 2) := dk_25 4 (dk_at dksX0_message_0 0 rfl rfl)
theorem dX0_message_2 : decode cX0_message 2 = .ok (.iconst 0, 1) := dk_3 (dk_at dksX0_message_0 2 rfl rfl)
theorem dX0_message_3 : decode cX0_message 3 = .ok (.aload_n 0, 1) := dk_42 (dk_at dksX0_message_0 3 rfl rfl)
theorem dX0_message_4 : decode cX0_message 4 = .ok (.iload_n 1, 1) := dk_27 (dk_at dksX0_message_0 4 rfl rfl)
theorem dX0_message_5 : decode cX0_message 5 = .ok (.iload_n 2, 1) := dk_28 (dk_at dksX0_message_0 5 rfl rfl)
theorem dX0_message_6 : decode cX0_message 6 = .ok (.iload_n 3, 1) := dk_29 (dk_at dksX0_message_0 6 rfl rfl)
theorem dX0_message_7 : decode cX0_message 7 = .ok (.invokevirtual 31, 3) := dk_182 0 31 (dk_at dksX0_message_0 7 rfl rfl)
theorem dX0_message_10 : decode cX0_message 10 = .ok (.i2l, 1) := dk_133 (dk_at dksX0_message_0 10 rfl rfl)
theorem dX0_message_11 : decode cX0_message 11 = .ok (.lastore, 1) := dk_80 (dk_at dksX0_message_0 11 rfl rfl)
theorem dX0_message_12 : decode cX0_message 12 = .ok (.goto 11, 3) := dk_167 0 11 (dk_at dksX0_message_0 12 rfl rfl)
theorem dX0_message_15 : decode cX0_message 15 = .ok (.astore 5, 2) := dk_58 5 (dk_at dksX0_message_0 15 rfl rfl)
theorem dX0_message_17 : decode cX0_message 17 = .ok (.iconst 1, 1) := dk_4 (dk_at dksX0_message_0 17 rfl rfl)
theorem dX0_message_18 : decode cX0_message 18 = .ok (.ireturn, 1) := dk_172 (dk_at dksX0_message_0 18 rfl rfl)
theorem dX0_message_19 : decode cX0_message 19 = .ok (.astore 5, 2) := dk_58 5 (dk_at dksX0_message_0 19 rfl rfl)
theorem dX0_message_21 : decode cX0_message 21 = .ok (.iconst 2, 1) := dk_5 (dk_at dksX0_message_0 21 rfl rfl)
theorem dX0_message_22 : decode cX0_message 22 = .ok (.ireturn, 1) := dk_172 (dk_at dksX0_message_0 22 rfl rfl)
theorem dX0_message_23 : decode cX0_message 23 = .ok (.iconst 0, 1) := dk_3 (dk_at dksX0_message_0 23 rfl rfl)
theorem dX0_message_24 : decode cX0_message 24 = .ok (.ireturn, 1) := dk_172 (dk_at dksX0_message_1 0 rfl rfl)
abbrev cX0_indexOf : ByteArray := method_8_code
def yX0_indexOf : MethodName := ⟨RX0, "indexOf", "(LMailSessions;II[J)I"⟩
def dkwX0_indexOf_0 : List UInt8 := [45, 3, 42, 27, 28, 182, 0, 35, 133, 80, 167, 0, 7, 58, 4, 4, 172, 3, 172]
abbrev dktX0_indexOf_0 : List UInt8 := dkwX0_indexOf_0 ++ []
theorem dksX0_indexOf_0 : cX0_indexOf.data.toList.drop 0 = dktX0_indexOf_0 := by decide +kernel
theorem dX0_indexOf_0 : decode cX0_indexOf 0 = .ok (.aload_n 3, 1) := dk_45 (dk_at dksX0_indexOf_0 0 rfl rfl)
theorem dX0_indexOf_1 : decode cX0_indexOf 1 = .ok (.iconst 0, 1) := dk_3 (dk_at dksX0_indexOf_0 1 rfl rfl)
theorem dX0_indexOf_2 : decode cX0_indexOf 2 = .ok (.aload_n 0, 1) := dk_42 (dk_at dksX0_indexOf_0 2 rfl rfl)
theorem dX0_indexOf_3 : decode cX0_indexOf 3 = .ok (.iload_n 1, 1) := dk_27 (dk_at dksX0_indexOf_0 3 rfl rfl)
theorem dX0_indexOf_4 : decode cX0_indexOf 4 = .ok (.iload_n 2, 1) := dk_28 (dk_at dksX0_indexOf_0 4 rfl rfl)
theorem dX0_indexOf_5 : decode cX0_indexOf 5 = .ok (.invokevirtual 35, 3) := dk_182 0 35 (dk_at dksX0_indexOf_0 5 rfl rfl)
theorem dX0_indexOf_8 : decode cX0_indexOf 8 = .ok (.i2l, 1) := dk_133 (dk_at dksX0_indexOf_0 8 rfl rfl)
theorem dX0_indexOf_9 : decode cX0_indexOf 9 = .ok (.lastore, 1) := dk_80 (dk_at dksX0_indexOf_0 9 rfl rfl)
theorem dX0_indexOf_10 : decode cX0_indexOf 10 = .ok (.goto 7, 3) := dk_167 0 7 (dk_at dksX0_indexOf_0 10 rfl rfl)
theorem dX0_indexOf_13 : decode cX0_indexOf 13 = .ok (.astore 4, 2) := dk_58 4 (dk_at dksX0_indexOf_0 13 rfl rfl)
theorem dX0_indexOf_15 : decode cX0_indexOf 15 = .ok (.iconst 1, 1) := dk_4 (dk_at dksX0_indexOf_0 15 rfl rfl)
theorem dX0_indexOf_16 : decode cX0_indexOf 16 = .ok (.ireturn, 1) := dk_172 (dk_at dksX0_indexOf_0 16 rfl rfl)
theorem dX0_indexOf_17 : decode cX0_indexOf 17 = .ok (.iconst 0, 1) := dk_3 (dk_at dksX0_indexOf_0 17 rfl rfl)
theorem dX0_indexOf_18 : decode cX0_indexOf 18 = .ok (.ireturn, 1) := dk_172 (dk_at dksX0_indexOf_0 18 rfl rfl)
abbrev cX0_session : ByteArray := method_9_code
def yX0_session : MethodName := ⟨RX0, "session", "(LMailSessions;II[J)I"⟩
def dkwX0_session_0 : List UInt8 := [45, 3, 42, 27, 28, 182, 0, 38, 133, 80, 167, 0, 11, 58, 4, 4, 172, 58, 4, 5, 172, 3, 172]
abbrev dktX0_session_0 : List UInt8 := dkwX0_session_0 ++ []
theorem dksX0_session_0 : cX0_session.data.toList.drop 0 = dktX0_session_0 := by decide +kernel
theorem dX0_session_0 : decode cX0_session 0 = .ok (.aload_n 3, 1) := dk_45 (dk_at dksX0_session_0 0 rfl rfl)
theorem dX0_session_1 : decode cX0_session 1 = .ok (.iconst 0, 1) := dk_3 (dk_at dksX0_session_0 1 rfl rfl)
theorem dX0_session_2 : decode cX0_session 2 = .ok (.aload_n 0, 1) := dk_42 (dk_at dksX0_session_0 2 rfl rfl)
theorem dX0_session_3 : decode cX0_session 3 = .ok (.iload_n 1, 1) := dk_27 (dk_at dksX0_session_0 3 rfl rfl)
theorem dX0_session_4 : decode cX0_session 4 = .ok (.iload_n 2, 1) := dk_28 (dk_at dksX0_session_0 4 rfl rfl)
theorem dX0_session_5 : decode cX0_session 5 = .ok (.invokevirtual 38, 3) := dk_182 0 38 (dk_at dksX0_session_0 5 rfl rfl)
theorem dX0_session_8 : decode cX0_session 8 = .ok (.i2l, 1) := dk_133 (dk_at dksX0_session_0 8 rfl rfl)
theorem dX0_session_9 : decode cX0_session 9 = .ok (.lastore, 1) := dk_80 (dk_at dksX0_session_0 9 rfl rfl)
theorem dX0_session_10 : decode cX0_session 10 = .ok (.goto 11, 3) := dk_167 0 11 (dk_at dksX0_session_0 10 rfl rfl)
theorem dX0_session_13 : decode cX0_session 13 = .ok (.astore 4, 2) := dk_58 4 (dk_at dksX0_session_0 13 rfl rfl)
theorem dX0_session_15 : decode cX0_session 15 = .ok (.iconst 1, 1) := dk_4 (dk_at dksX0_session_0 15 rfl rfl)
theorem dX0_session_16 : decode cX0_session 16 = .ok (.ireturn, 1) := dk_172 (dk_at dksX0_session_0 16 rfl rfl)
theorem dX0_session_17 : decode cX0_session 17 = .ok (.astore 4, 2) := dk_58 4 (dk_at dksX0_session_0 17 rfl rfl)
theorem dX0_session_19 : decode cX0_session 19 = .ok (.iconst 2, 1) := dk_5 (dk_at dksX0_session_0 19 rfl rfl)
theorem dX0_session_20 : decode cX0_session 20 = .ok (.ireturn, 1) := dk_172 (dk_at dksX0_session_0 20 rfl rfl)
theorem dX0_session_21 : decode cX0_session 21 = .ok (.iconst 0, 1) := dk_3 (dk_at dksX0_session_0 21 rfl rfl)
theorem dX0_session_22 : decode cX0_session 22 = .ok (.ireturn, 1) := dk_172 (dk_at dksX0_session_0 22 rfl rfl)
abbrev cX0_entry : ByteArray := method_10_code
def yX0_entry : MethodName := ⟨RX0, "entry", "(LMailSessions;III[J)I"⟩
def dkwX0_entry_1 : List UInt8 := [172]
abbrev dktX0_entry_1 : List UInt8 := dkwX0_entry_1 ++ []
def dkwX0_entry_0 : List UInt8 := [25, 4, 3, 42, 27, 28, 29, 182, 0, 41, 133, 80, 167, 0, 11, 58, 5, 4, 172, 58, 5, 5, 172, 3]
abbrev dktX0_entry_0 : List UInt8 := dkwX0_entry_0 ++ dktX0_entry_1
theorem dksX0_entry_0 : cX0_entry.data.toList.drop 0 = dktX0_entry_0 := by decide +kernel
theorem dksX0_entry_1 : cX0_entry.data.toList.drop 24 = dktX0_entry_1 := dk_seg dksX0_entry_0 24 rfl rfl
theorem dX0_entry_0 : decode cX0_entry 0 = .ok (.aload 4, 2) := dk_25 4 (dk_at dksX0_entry_0 0 rfl rfl)
theorem dX0_entry_2 : decode cX0_entry 2 = .ok (.iconst 0, 1) := dk_3 (dk_at dksX0_entry_0 2 rfl rfl)
theorem dX0_entry_3 : decode cX0_entry 3 = .ok (.aload_n 0, 1) := dk_42 (dk_at dksX0_entry_0 3 rfl rfl)
theorem dX0_entry_4 : decode cX0_entry 4 = .ok (.iload_n 1, 1) := dk_27 (dk_at dksX0_entry_0 4 rfl rfl)
theorem dX0_entry_5 : decode cX0_entry 5 = .ok (.iload_n 2, 1) := dk_28 (dk_at dksX0_entry_0 5 rfl rfl)
theorem dX0_entry_6 : decode cX0_entry 6 = .ok (.iload_n 3, 1) := dk_29 (dk_at dksX0_entry_0 6 rfl rfl)
theorem dX0_entry_7 : decode cX0_entry 7 = .ok (.invokevirtual 41, 3) := dk_182 0 41 (dk_at dksX0_entry_0 7 rfl rfl)
theorem dX0_entry_10 : decode cX0_entry 10 = .ok (.i2l, 1) := dk_133 (dk_at dksX0_entry_0 10 rfl rfl)
theorem dX0_entry_11 : decode cX0_entry 11 = .ok (.lastore, 1) := dk_80 (dk_at dksX0_entry_0 11 rfl rfl)
theorem dX0_entry_12 : decode cX0_entry 12 = .ok (.goto 11, 3) := dk_167 0 11 (dk_at dksX0_entry_0 12 rfl rfl)
theorem dX0_entry_15 : decode cX0_entry 15 = .ok (.astore 5, 2) := dk_58 5 (dk_at dksX0_entry_0 15 rfl rfl)
theorem dX0_entry_17 : decode cX0_entry 17 = .ok (.iconst 1, 1) := dk_4 (dk_at dksX0_entry_0 17 rfl rfl)
theorem dX0_entry_18 : decode cX0_entry 18 = .ok (.ireturn, 1) := dk_172 (dk_at dksX0_entry_0 18 rfl rfl)
theorem dX0_entry_19 : decode cX0_entry 19 = .ok (.astore 5, 2) := dk_58 5 (dk_at dksX0_entry_0 19 rfl rfl)
theorem dX0_entry_21 : decode cX0_entry 21 = .ok (.iconst 2, 1) := dk_5 (dk_at dksX0_entry_0 21 rfl rfl)
theorem dX0_entry_22 : decode cX0_entry 22 = .ok (.ireturn, 1) := dk_172 (dk_at dksX0_entry_0 22 rfl rfl)
theorem dX0_entry_23 : decode cX0_entry 23 = .ok (.iconst 0, 1) := dk_3 (dk_at dksX0_entry_0 23 rfl rfl)
theorem dX0_entry_24 : decode cX0_entry 24 = .ok (.ireturn, 1) := dk_172 (dk_at dksX0_entry_1 0 rfl rfl)
abbrev cX0_numberOf : ByteArray := method_11_code
def yX0_numberOf : MethodName := ⟨RX0, "numberOf", "(LMailSessions;II[J)I"⟩
def dkwX0_numberOf_0 : List UInt8 := [45, 3, 42, 27, 28, 182, 0, 44, 133, 80, 167, 0, 7, 58, 4, 4, 172, 3, 172]
abbrev dktX0_numberOf_0 : List UInt8 := dkwX0_numberOf_0 ++ []
theorem dksX0_numberOf_0 : cX0_numberOf.data.toList.drop 0 = dktX0_numberOf_0 := by decide +kernel
theorem dX0_numberOf_0 : decode cX0_numberOf 0 = .ok (.aload_n 3, 1) := dk_45 (dk_at dksX0_numberOf_0 0 rfl rfl)
theorem dX0_numberOf_1 : decode cX0_numberOf 1 = .ok (.iconst 0, 1) := dk_3 (dk_at dksX0_numberOf_0 1 rfl rfl)
theorem dX0_numberOf_2 : decode cX0_numberOf 2 = .ok (.aload_n 0, 1) := dk_42 (dk_at dksX0_numberOf_0 2 rfl rfl)
theorem dX0_numberOf_3 : decode cX0_numberOf 3 = .ok (.iload_n 1, 1) := dk_27 (dk_at dksX0_numberOf_0 3 rfl rfl)
theorem dX0_numberOf_4 : decode cX0_numberOf 4 = .ok (.iload_n 2, 1) := dk_28 (dk_at dksX0_numberOf_0 4 rfl rfl)
theorem dX0_numberOf_5 : decode cX0_numberOf 5 = .ok (.invokevirtual 44, 3) := dk_182 0 44 (dk_at dksX0_numberOf_0 5 rfl rfl)
theorem dX0_numberOf_8 : decode cX0_numberOf 8 = .ok (.i2l, 1) := dk_133 (dk_at dksX0_numberOf_0 8 rfl rfl)
theorem dX0_numberOf_9 : decode cX0_numberOf 9 = .ok (.lastore, 1) := dk_80 (dk_at dksX0_numberOf_0 9 rfl rfl)
theorem dX0_numberOf_10 : decode cX0_numberOf 10 = .ok (.goto 7, 3) := dk_167 0 7 (dk_at dksX0_numberOf_0 10 rfl rfl)
theorem dX0_numberOf_13 : decode cX0_numberOf 13 = .ok (.astore 4, 2) := dk_58 4 (dk_at dksX0_numberOf_0 13 rfl rfl)
theorem dX0_numberOf_15 : decode cX0_numberOf 15 = .ok (.iconst 1, 1) := dk_4 (dk_at dksX0_numberOf_0 15 rfl rfl)
theorem dX0_numberOf_16 : decode cX0_numberOf 16 = .ok (.ireturn, 1) := dk_172 (dk_at dksX0_numberOf_0 16 rfl rfl)
theorem dX0_numberOf_17 : decode cX0_numberOf 17 = .ok (.iconst 0, 1) := dk_3 (dk_at dksX0_numberOf_0 17 rfl rfl)
theorem dX0_numberOf_18 : decode cX0_numberOf 18 = .ok (.ireturn, 1) := dk_172 (dk_at dksX0_numberOf_0 18 rfl rfl)
abbrev cX0_numberThen : ByteArray := method_12_code
def yX0_numberThen : MethodName := ⟨RX0, "numberThen", "(LMailSessions;II[J)I"⟩
def dkwX0_numberThen_0 : List UInt8 := [45, 3, 42, 27, 28, 182, 0, 47, 133, 80, 167, 0, 7, 58, 4, 4, 172, 3, 172]
abbrev dktX0_numberThen_0 : List UInt8 := dkwX0_numberThen_0 ++ []
theorem dksX0_numberThen_0 : cX0_numberThen.data.toList.drop 0 = dktX0_numberThen_0 := by decide +kernel
theorem dX0_numberThen_0 : decode cX0_numberThen 0 = .ok (.aload_n 3, 1) := dk_45 (dk_at dksX0_numberThen_0 0 rfl rfl)
theorem dX0_numberThen_1 : decode cX0_numberThen 1 = .ok (.iconst 0, 1) := dk_3 (dk_at dksX0_numberThen_0 1 rfl rfl)
theorem dX0_numberThen_2 : decode cX0_numberThen 2 = .ok (.aload_n 0, 1) := dk_42 (dk_at dksX0_numberThen_0 2 rfl rfl)
theorem dX0_numberThen_3 : decode cX0_numberThen 3 = .ok (.iload_n 1, 1) := dk_27 (dk_at dksX0_numberThen_0 3 rfl rfl)
theorem dX0_numberThen_4 : decode cX0_numberThen 4 = .ok (.iload_n 2, 1) := dk_28 (dk_at dksX0_numberThen_0 4 rfl rfl)
theorem dX0_numberThen_5 : decode cX0_numberThen 5 = .ok (.invokevirtual 47, 3) := dk_182 0 47 (dk_at dksX0_numberThen_0 5 rfl rfl)
theorem dX0_numberThen_8 : decode cX0_numberThen 8 = .ok (.i2l, 1) := dk_133 (dk_at dksX0_numberThen_0 8 rfl rfl)
theorem dX0_numberThen_9 : decode cX0_numberThen 9 = .ok (.lastore, 1) := dk_80 (dk_at dksX0_numberThen_0 9 rfl rfl)
theorem dX0_numberThen_10 : decode cX0_numberThen 10 = .ok (.goto 7, 3) := dk_167 0 7 (dk_at dksX0_numberThen_0 10 rfl rfl)
theorem dX0_numberThen_13 : decode cX0_numberThen 13 = .ok (.astore 4, 2) := dk_58 4 (dk_at dksX0_numberThen_0 13 rfl rfl)
theorem dX0_numberThen_15 : decode cX0_numberThen 15 = .ok (.iconst 1, 1) := dk_4 (dk_at dksX0_numberThen_0 15 rfl rfl)
theorem dX0_numberThen_16 : decode cX0_numberThen 16 = .ok (.ireturn, 1) := dk_172 (dk_at dksX0_numberThen_0 16 rfl rfl)
theorem dX0_numberThen_17 : decode cX0_numberThen 17 = .ok (.iconst 0, 1) := dk_3 (dk_at dksX0_numberThen_0 17 rfl rfl)
theorem dX0_numberThen_18 : decode cX0_numberThen 18 = .ok (.ireturn, 1) := dk_172 (dk_at dksX0_numberThen_0 18 rfl rfl)
abbrev cX0_pending : ByteArray := method_13_code
def yX0_pending : MethodName := ⟨RX0, "pending", "(LMailSessions;I[J)I"⟩
def dkwX0_pending_0 : List UInt8 := [44, 3, 42, 27, 182, 0, 50, 133, 80, 167, 0, 6, 78, 4, 172, 3, 172]
abbrev dktX0_pending_0 : List UInt8 := dkwX0_pending_0 ++ []
theorem dksX0_pending_0 : cX0_pending.data.toList.drop 0 = dktX0_pending_0 := by decide +kernel
theorem dX0_pending_0 : decode cX0_pending 0 = .ok (.aload_n 2, 1) := dk_44 (dk_at dksX0_pending_0 0 rfl rfl)
theorem dX0_pending_1 : decode cX0_pending 1 = .ok (.iconst 0, 1) := dk_3 (dk_at dksX0_pending_0 1 rfl rfl)
theorem dX0_pending_2 : decode cX0_pending 2 = .ok (.aload_n 0, 1) := dk_42 (dk_at dksX0_pending_0 2 rfl rfl)
theorem dX0_pending_3 : decode cX0_pending 3 = .ok (.iload_n 1, 1) := dk_27 (dk_at dksX0_pending_0 3 rfl rfl)
theorem dX0_pending_4 : decode cX0_pending 4 = .ok (.invokevirtual 50, 3) := dk_182 0 50 (dk_at dksX0_pending_0 4 rfl rfl)
theorem dX0_pending_7 : decode cX0_pending 7 = .ok (.i2l, 1) := dk_133 (dk_at dksX0_pending_0 7 rfl rfl)
theorem dX0_pending_8 : decode cX0_pending 8 = .ok (.lastore, 1) := dk_80 (dk_at dksX0_pending_0 8 rfl rfl)
theorem dX0_pending_9 : decode cX0_pending 9 = .ok (.goto 6, 3) := dk_167 0 6 (dk_at dksX0_pending_0 9 rfl rfl)
theorem dX0_pending_12 : decode cX0_pending 12 = .ok (.astore_n 3, 1) := dk_78 (dk_at dksX0_pending_0 12 rfl rfl)
theorem dX0_pending_13 : decode cX0_pending 13 = .ok (.iconst 1, 1) := dk_4 (dk_at dksX0_pending_0 13 rfl rfl)
theorem dX0_pending_14 : decode cX0_pending 14 = .ok (.ireturn, 1) := dk_172 (dk_at dksX0_pending_0 14 rfl rfl)
theorem dX0_pending_15 : decode cX0_pending 15 = .ok (.iconst 0, 1) := dk_3 (dk_at dksX0_pending_0 15 rfl rfl)
theorem dX0_pending_16 : decode cX0_pending 16 = .ok (.ireturn, 1) := dk_172 (dk_at dksX0_pending_0 16 rfl rfl)
abbrev cX0_isCurrent : ByteArray := method_14_code
def yX0_isCurrent : MethodName := ⟨RX0, "isCurrent", "(LMailSessions;I[J)I"⟩
def dkwX0_isCurrent_0 : List UInt8 := [44, 3, 42, 27, 182, 0, 53, 153, 0, 7, 10, 167, 0, 4, 9, 80, 167, 0, 6, 78, 4, 172, 3, 172]
abbrev dktX0_isCurrent_0 : List UInt8 := dkwX0_isCurrent_0 ++ []
theorem dksX0_isCurrent_0 : cX0_isCurrent.data.toList.drop 0 = dktX0_isCurrent_0 := by decide +kernel
theorem dX0_isCurrent_0 : decode cX0_isCurrent 0 = .ok (.aload_n 2, 1) := dk_44 (dk_at dksX0_isCurrent_0 0 rfl rfl)
theorem dX0_isCurrent_1 : decode cX0_isCurrent 1 = .ok (.iconst 0, 1) := dk_3 (dk_at dksX0_isCurrent_0 1 rfl rfl)
theorem dX0_isCurrent_2 : decode cX0_isCurrent 2 = .ok (.aload_n 0, 1) := dk_42 (dk_at dksX0_isCurrent_0 2 rfl rfl)
theorem dX0_isCurrent_3 : decode cX0_isCurrent 3 = .ok (.iload_n 1, 1) := dk_27 (dk_at dksX0_isCurrent_0 3 rfl rfl)
theorem dX0_isCurrent_4 : decode cX0_isCurrent 4 = .ok (.invokevirtual 53, 3) := dk_182 0 53 (dk_at dksX0_isCurrent_0 4 rfl rfl)
theorem dX0_isCurrent_7 : decode cX0_isCurrent 7 = .ok (.ifCond .eq 7, 3) := dk_153 0 7 (dk_at dksX0_isCurrent_0 7 rfl rfl)
theorem dX0_isCurrent_10 : decode cX0_isCurrent 10 = .ok (.lconst 1, 1) := dk_10 (dk_at dksX0_isCurrent_0 10 rfl rfl)
theorem dX0_isCurrent_11 : decode cX0_isCurrent 11 = .ok (.goto 4, 3) := dk_167 0 4 (dk_at dksX0_isCurrent_0 11 rfl rfl)
theorem dX0_isCurrent_14 : decode cX0_isCurrent 14 = .ok (.lconst 0, 1) := dk_9 (dk_at dksX0_isCurrent_0 14 rfl rfl)
theorem dX0_isCurrent_15 : decode cX0_isCurrent 15 = .ok (.lastore, 1) := dk_80 (dk_at dksX0_isCurrent_0 15 rfl rfl)
theorem dX0_isCurrent_16 : decode cX0_isCurrent 16 = .ok (.goto 6, 3) := dk_167 0 6 (dk_at dksX0_isCurrent_0 16 rfl rfl)
theorem dX0_isCurrent_19 : decode cX0_isCurrent 19 = .ok (.astore_n 3, 1) := dk_78 (dk_at dksX0_isCurrent_0 19 rfl rfl)
theorem dX0_isCurrent_20 : decode cX0_isCurrent 20 = .ok (.iconst 1, 1) := dk_4 (dk_at dksX0_isCurrent_0 20 rfl rfl)
theorem dX0_isCurrent_21 : decode cX0_isCurrent 21 = .ok (.ireturn, 1) := dk_172 (dk_at dksX0_isCurrent_0 21 rfl rfl)
theorem dX0_isCurrent_22 : decode cX0_isCurrent 22 = .ok (.iconst 0, 1) := dk_3 (dk_at dksX0_isCurrent_0 22 rfl rfl)
theorem dX0_isCurrent_23 : decode cX0_isCurrent 23 = .ok (.ireturn, 1) := dk_172 (dk_at dksX0_isCurrent_0 23 rfl rfl)
abbrev cX0_firstUnseen : ByteArray := method_15_code
def yX0_firstUnseen : MethodName := ⟨RX0, "firstUnseen", "(LMailSessions;I[J)I"⟩
def dkwX0_firstUnseen_0 : List UInt8 := [44, 3, 42, 27, 182, 0, 57, 133, 80, 167, 0, 6, 78, 4, 172, 3, 172]
abbrev dktX0_firstUnseen_0 : List UInt8 := dkwX0_firstUnseen_0 ++ []
theorem dksX0_firstUnseen_0 : cX0_firstUnseen.data.toList.drop 0 = dktX0_firstUnseen_0 := by decide +kernel
theorem dX0_firstUnseen_0 : decode cX0_firstUnseen 0 = .ok (.aload_n 2, 1) := dk_44 (dk_at dksX0_firstUnseen_0 0 rfl rfl)
theorem dX0_firstUnseen_1 : decode cX0_firstUnseen 1 = .ok (.iconst 0, 1) := dk_3 (dk_at dksX0_firstUnseen_0 1 rfl rfl)
theorem dX0_firstUnseen_2 : decode cX0_firstUnseen 2 = .ok (.aload_n 0, 1) := dk_42 (dk_at dksX0_firstUnseen_0 2 rfl rfl)
theorem dX0_firstUnseen_3 : decode cX0_firstUnseen 3 = .ok (.iload_n 1, 1) := dk_27 (dk_at dksX0_firstUnseen_0 3 rfl rfl)
theorem dX0_firstUnseen_4 : decode cX0_firstUnseen 4 = .ok (.invokevirtual 57, 3) := dk_182 0 57 (dk_at dksX0_firstUnseen_0 4 rfl rfl)
theorem dX0_firstUnseen_7 : decode cX0_firstUnseen 7 = .ok (.i2l, 1) := dk_133 (dk_at dksX0_firstUnseen_0 7 rfl rfl)
theorem dX0_firstUnseen_8 : decode cX0_firstUnseen 8 = .ok (.lastore, 1) := dk_80 (dk_at dksX0_firstUnseen_0 8 rfl rfl)
theorem dX0_firstUnseen_9 : decode cX0_firstUnseen 9 = .ok (.goto 6, 3) := dk_167 0 6 (dk_at dksX0_firstUnseen_0 9 rfl rfl)
theorem dX0_firstUnseen_12 : decode cX0_firstUnseen 12 = .ok (.astore_n 3, 1) := dk_78 (dk_at dksX0_firstUnseen_0 12 rfl rfl)
theorem dX0_firstUnseen_13 : decode cX0_firstUnseen 13 = .ok (.iconst 1, 1) := dk_4 (dk_at dksX0_firstUnseen_0 13 rfl rfl)
theorem dX0_firstUnseen_14 : decode cX0_firstUnseen 14 = .ok (.ireturn, 1) := dk_172 (dk_at dksX0_firstUnseen_0 14 rfl rfl)
theorem dX0_firstUnseen_15 : decode cX0_firstUnseen 15 = .ok (.iconst 0, 1) := dk_3 (dk_at dksX0_firstUnseen_0 15 rfl rfl)
theorem dX0_firstUnseen_16 : decode cX0_firstUnseen 16 = .ok (.ireturn, 1) := dk_172 (dk_at dksX0_firstUnseen_0 16 rfl rfl)
abbrev cX0_largest : ByteArray := method_16_code
def yX0_largest : MethodName := ⟨RX0, "largest", "(LMailSessions;I[J)I"⟩
def dkwX0_largest_0 : List UInt8 := [44, 3, 42, 27, 182, 0, 60, 133, 80, 167, 0, 6, 78, 4, 172, 3, 172]
abbrev dktX0_largest_0 : List UInt8 := dkwX0_largest_0 ++ []
theorem dksX0_largest_0 : cX0_largest.data.toList.drop 0 = dktX0_largest_0 := by decide +kernel
theorem dX0_largest_0 : decode cX0_largest 0 = .ok (.aload_n 2, 1) := dk_44 (dk_at dksX0_largest_0 0 rfl rfl)
theorem dX0_largest_1 : decode cX0_largest 1 = .ok (.iconst 0, 1) := dk_3 (dk_at dksX0_largest_0 1 rfl rfl)
theorem dX0_largest_2 : decode cX0_largest 2 = .ok (.aload_n 0, 1) := dk_42 (dk_at dksX0_largest_0 2 rfl rfl)
theorem dX0_largest_3 : decode cX0_largest 3 = .ok (.iload_n 1, 1) := dk_27 (dk_at dksX0_largest_0 3 rfl rfl)
theorem dX0_largest_4 : decode cX0_largest 4 = .ok (.invokevirtual 60, 3) := dk_182 0 60 (dk_at dksX0_largest_0 4 rfl rfl)
theorem dX0_largest_7 : decode cX0_largest 7 = .ok (.i2l, 1) := dk_133 (dk_at dksX0_largest_0 7 rfl rfl)
theorem dX0_largest_8 : decode cX0_largest 8 = .ok (.lastore, 1) := dk_80 (dk_at dksX0_largest_0 8 rfl rfl)
theorem dX0_largest_9 : decode cX0_largest 9 = .ok (.goto 6, 3) := dk_167 0 6 (dk_at dksX0_largest_0 9 rfl rfl)
theorem dX0_largest_12 : decode cX0_largest 12 = .ok (.astore_n 3, 1) := dk_78 (dk_at dksX0_largest_0 12 rfl rfl)
theorem dX0_largest_13 : decode cX0_largest 13 = .ok (.iconst 1, 1) := dk_4 (dk_at dksX0_largest_0 13 rfl rfl)
theorem dX0_largest_14 : decode cX0_largest 14 = .ok (.ireturn, 1) := dk_172 (dk_at dksX0_largest_0 14 rfl rfl)
theorem dX0_largest_15 : decode cX0_largest 15 = .ok (.iconst 0, 1) := dk_3 (dk_at dksX0_largest_0 15 rfl rfl)
theorem dX0_largest_16 : decode cX0_largest 16 = .ok (.ireturn, 1) := dk_172 (dk_at dksX0_largest_0 16 rfl rfl)
abbrev cX0_common : ByteArray := method_17_code
def yX0_common : MethodName := ⟨RX0, "common", "(LMailSessions;II[J)I"⟩
def dkwX0_common_0 : List UInt8 := [45, 3, 42, 27, 28, 182, 0, 63, 133, 80, 167, 0, 7, 58, 4, 4, 172, 3, 172]
abbrev dktX0_common_0 : List UInt8 := dkwX0_common_0 ++ []
theorem dksX0_common_0 : cX0_common.data.toList.drop 0 = dktX0_common_0 := by decide +kernel
theorem dX0_common_0 : decode cX0_common 0 = .ok (.aload_n 3, 1) := dk_45 (dk_at dksX0_common_0 0 rfl rfl)
theorem dX0_common_1 : decode cX0_common 1 = .ok (.iconst 0, 1) := dk_3 (dk_at dksX0_common_0 1 rfl rfl)
theorem dX0_common_2 : decode cX0_common 2 = .ok (.aload_n 0, 1) := dk_42 (dk_at dksX0_common_0 2 rfl rfl)
theorem dX0_common_3 : decode cX0_common 3 = .ok (.iload_n 1, 1) := dk_27 (dk_at dksX0_common_0 3 rfl rfl)
theorem dX0_common_4 : decode cX0_common 4 = .ok (.iload_n 2, 1) := dk_28 (dk_at dksX0_common_0 4 rfl rfl)
theorem dX0_common_5 : decode cX0_common 5 = .ok (.invokevirtual 63, 3) := dk_182 0 63 (dk_at dksX0_common_0 5 rfl rfl)
theorem dX0_common_8 : decode cX0_common 8 = .ok (.i2l, 1) := dk_133 (dk_at dksX0_common_0 8 rfl rfl)
theorem dX0_common_9 : decode cX0_common 9 = .ok (.lastore, 1) := dk_80 (dk_at dksX0_common_0 9 rfl rfl)
theorem dX0_common_10 : decode cX0_common 10 = .ok (.goto 7, 3) := dk_167 0 7 (dk_at dksX0_common_0 10 rfl rfl)
theorem dX0_common_13 : decode cX0_common 13 = .ok (.astore 4, 2) := dk_58 4 (dk_at dksX0_common_0 13 rfl rfl)
theorem dX0_common_15 : decode cX0_common 15 = .ok (.iconst 1, 1) := dk_4 (dk_at dksX0_common_0 15 rfl rfl)
theorem dX0_common_16 : decode cX0_common 16 = .ok (.ireturn, 1) := dk_172 (dk_at dksX0_common_0 16 rfl rfl)
theorem dX0_common_17 : decode cX0_common 17 = .ok (.iconst 0, 1) := dk_3 (dk_at dksX0_common_0 17 rfl rfl)
theorem dX0_common_18 : decode cX0_common 18 = .ok (.ireturn, 1) := dk_172 (dk_at dksX0_common_0 18 rfl rfl)
abbrev cX0_holders : ByteArray := method_18_code
def yX0_holders : MethodName := ⟨RX0, "holders", "(LMailSessions;II[J)I"⟩
def dkwX0_holders_0 : List UInt8 := [45, 3, 42, 27, 28, 182, 0, 66, 133, 80, 167, 0, 7, 58, 4, 4, 172, 3, 172]
abbrev dktX0_holders_0 : List UInt8 := dkwX0_holders_0 ++ []
theorem dksX0_holders_0 : cX0_holders.data.toList.drop 0 = dktX0_holders_0 := by decide +kernel
theorem dX0_holders_0 : decode cX0_holders 0 = .ok (.aload_n 3, 1) := dk_45 (dk_at dksX0_holders_0 0 rfl rfl)
theorem dX0_holders_1 : decode cX0_holders 1 = .ok (.iconst 0, 1) := dk_3 (dk_at dksX0_holders_0 1 rfl rfl)
theorem dX0_holders_2 : decode cX0_holders 2 = .ok (.aload_n 0, 1) := dk_42 (dk_at dksX0_holders_0 2 rfl rfl)
theorem dX0_holders_3 : decode cX0_holders 3 = .ok (.iload_n 1, 1) := dk_27 (dk_at dksX0_holders_0 3 rfl rfl)
theorem dX0_holders_4 : decode cX0_holders 4 = .ok (.iload_n 2, 1) := dk_28 (dk_at dksX0_holders_0 4 rfl rfl)
theorem dX0_holders_5 : decode cX0_holders 5 = .ok (.invokevirtual 66, 3) := dk_182 0 66 (dk_at dksX0_holders_0 5 rfl rfl)
theorem dX0_holders_8 : decode cX0_holders 8 = .ok (.i2l, 1) := dk_133 (dk_at dksX0_holders_0 8 rfl rfl)
theorem dX0_holders_9 : decode cX0_holders 9 = .ok (.lastore, 1) := dk_80 (dk_at dksX0_holders_0 9 rfl rfl)
theorem dX0_holders_10 : decode cX0_holders 10 = .ok (.goto 7, 3) := dk_167 0 7 (dk_at dksX0_holders_0 10 rfl rfl)
theorem dX0_holders_13 : decode cX0_holders 13 = .ok (.astore 4, 2) := dk_58 4 (dk_at dksX0_holders_0 13 rfl rfl)
theorem dX0_holders_15 : decode cX0_holders 15 = .ok (.iconst 1, 1) := dk_4 (dk_at dksX0_holders_0 15 rfl rfl)
theorem dX0_holders_16 : decode cX0_holders 16 = .ok (.ireturn, 1) := dk_172 (dk_at dksX0_holders_0 16 rfl rfl)
theorem dX0_holders_17 : decode cX0_holders 17 = .ok (.iconst 0, 1) := dk_3 (dk_at dksX0_holders_0 17 rfl rfl)
theorem dX0_holders_18 : decode cX0_holders 18 = .ok (.ireturn, 1) := dk_172 (dk_at dksX0_holders_0 18 rfl rfl)
abbrev cX0_unseen : ByteArray := method_19_code
def yX0_unseen : MethodName := ⟨RX0, "unseen", "(LMailSessions;I[D)I"⟩
def dkwX0_unseen_0 : List UInt8 := [44, 3, 42, 27, 182, 0, 69, 141, 82, 167, 0, 6, 78, 4, 172, 3, 172]
abbrev dktX0_unseen_0 : List UInt8 := dkwX0_unseen_0 ++ []
theorem dksX0_unseen_0 : cX0_unseen.data.toList.drop 0 = dktX0_unseen_0 := by decide +kernel
theorem dX0_unseen_0 : decode cX0_unseen 0 = .ok (.aload_n 2, 1) := dk_44 (dk_at dksX0_unseen_0 0 rfl rfl)
theorem dX0_unseen_1 : decode cX0_unseen 1 = .ok (.iconst 0, 1) := dk_3 (dk_at dksX0_unseen_0 1 rfl rfl)
theorem dX0_unseen_2 : decode cX0_unseen 2 = .ok (.aload_n 0, 1) := dk_42 (dk_at dksX0_unseen_0 2 rfl rfl)
theorem dX0_unseen_3 : decode cX0_unseen 3 = .ok (.iload_n 1, 1) := dk_27 (dk_at dksX0_unseen_0 3 rfl rfl)
theorem dX0_unseen_4 : decode cX0_unseen 4 = .ok (.invokevirtual 69, 3) := dk_182 0 69 (dk_at dksX0_unseen_0 4 rfl rfl)
theorem dX0_unseen_7 : decode cX0_unseen 7 = .ok (.f2d, 1) := dk_141 (dk_at dksX0_unseen_0 7 rfl rfl)
theorem dX0_unseen_8 : decode cX0_unseen 8 = .ok (.dastore, 1) := dk_82 (dk_at dksX0_unseen_0 8 rfl rfl)
theorem dX0_unseen_9 : decode cX0_unseen 9 = .ok (.goto 6, 3) := dk_167 0 6 (dk_at dksX0_unseen_0 9 rfl rfl)
theorem dX0_unseen_12 : decode cX0_unseen 12 = .ok (.astore_n 3, 1) := dk_78 (dk_at dksX0_unseen_0 12 rfl rfl)
theorem dX0_unseen_13 : decode cX0_unseen 13 = .ok (.iconst 1, 1) := dk_4 (dk_at dksX0_unseen_0 13 rfl rfl)
theorem dX0_unseen_14 : decode cX0_unseen 14 = .ok (.ireturn, 1) := dk_172 (dk_at dksX0_unseen_0 14 rfl rfl)
theorem dX0_unseen_15 : decode cX0_unseen 15 = .ok (.iconst 0, 1) := dk_3 (dk_at dksX0_unseen_0 15 rfl rfl)
theorem dX0_unseen_16 : decode cX0_unseen 16 = .ok (.ireturn, 1) := dk_172 (dk_at dksX0_unseen_0 16 rfl rfl)
abbrev cX0_mean : ByteArray := method_20_code
def yX0_mean : MethodName := ⟨RX0, "mean", "(LMailSessions;I[D)I"⟩
def dkwX0_mean_0 : List UInt8 := [44, 3, 42, 27, 182, 0, 73, 82, 167, 0, 6, 78, 4, 172, 3, 172]
abbrev dktX0_mean_0 : List UInt8 := dkwX0_mean_0 ++ []
theorem dksX0_mean_0 : cX0_mean.data.toList.drop 0 = dktX0_mean_0 := by decide +kernel
theorem dX0_mean_0 : decode cX0_mean 0 = .ok (.aload_n 2, 1) := dk_44 (dk_at dksX0_mean_0 0 rfl rfl)
theorem dX0_mean_1 : decode cX0_mean 1 = .ok (.iconst 0, 1) := dk_3 (dk_at dksX0_mean_0 1 rfl rfl)
theorem dX0_mean_2 : decode cX0_mean 2 = .ok (.aload_n 0, 1) := dk_42 (dk_at dksX0_mean_0 2 rfl rfl)
theorem dX0_mean_3 : decode cX0_mean 3 = .ok (.iload_n 1, 1) := dk_27 (dk_at dksX0_mean_0 3 rfl rfl)
theorem dX0_mean_4 : decode cX0_mean 4 = .ok (.invokevirtual 73, 3) := dk_182 0 73 (dk_at dksX0_mean_0 4 rfl rfl)
theorem dX0_mean_7 : decode cX0_mean 7 = .ok (.dastore, 1) := dk_82 (dk_at dksX0_mean_0 7 rfl rfl)
theorem dX0_mean_8 : decode cX0_mean 8 = .ok (.goto 6, 3) := dk_167 0 6 (dk_at dksX0_mean_0 8 rfl rfl)
theorem dX0_mean_11 : decode cX0_mean 11 = .ok (.astore_n 3, 1) := dk_78 (dk_at dksX0_mean_0 11 rfl rfl)
theorem dX0_mean_12 : decode cX0_mean 12 = .ok (.iconst 1, 1) := dk_4 (dk_at dksX0_mean_0 12 rfl rfl)
theorem dX0_mean_13 : decode cX0_mean 13 = .ok (.ireturn, 1) := dk_172 (dk_at dksX0_mean_0 13 rfl rfl)
theorem dX0_mean_14 : decode cX0_mean 14 = .ok (.iconst 0, 1) := dk_3 (dk_at dksX0_mean_0 14 rfl rfl)
theorem dX0_mean_15 : decode cX0_mean 15 = .ok (.ireturn, 1) := dk_172 (dk_at dksX0_mean_0 15 rfl rfl)
abbrev cX0_account : ByteArray := method_21_code
def yX0_account : MethodName := ⟨RX0, "account", "(LMailSessions;II[J)I"⟩
def dkwX0_account_0 : List UInt8 := [45, 3, 42, 27, 28, 182, 0, 77, 133, 80, 167, 0, 11, 58, 4, 4, 172, 58, 4, 5, 172, 3, 172]
abbrev dktX0_account_0 : List UInt8 := dkwX0_account_0 ++ []
theorem dksX0_account_0 : cX0_account.data.toList.drop 0 = dktX0_account_0 := by decide +kernel
theorem dX0_account_0 : decode cX0_account 0 = .ok (.aload_n 3, 1) := dk_45 (dk_at dksX0_account_0 0 rfl rfl)
theorem dX0_account_1 : decode cX0_account 1 = .ok (.iconst 0, 1) := dk_3 (dk_at dksX0_account_0 1 rfl rfl)
theorem dX0_account_2 : decode cX0_account 2 = .ok (.aload_n 0, 1) := dk_42 (dk_at dksX0_account_0 2 rfl rfl)
theorem dX0_account_3 : decode cX0_account 3 = .ok (.iload_n 1, 1) := dk_27 (dk_at dksX0_account_0 3 rfl rfl)
theorem dX0_account_4 : decode cX0_account 4 = .ok (.iload_n 2, 1) := dk_28 (dk_at dksX0_account_0 4 rfl rfl)
theorem dX0_account_5 : decode cX0_account 5 = .ok (.invokevirtual 77, 3) := dk_182 0 77 (dk_at dksX0_account_0 5 rfl rfl)
theorem dX0_account_8 : decode cX0_account 8 = .ok (.i2l, 1) := dk_133 (dk_at dksX0_account_0 8 rfl rfl)
theorem dX0_account_9 : decode cX0_account 9 = .ok (.lastore, 1) := dk_80 (dk_at dksX0_account_0 9 rfl rfl)
theorem dX0_account_10 : decode cX0_account 10 = .ok (.goto 11, 3) := dk_167 0 11 (dk_at dksX0_account_0 10 rfl rfl)
theorem dX0_account_13 : decode cX0_account 13 = .ok (.astore 4, 2) := dk_58 4 (dk_at dksX0_account_0 13 rfl rfl)
theorem dX0_account_15 : decode cX0_account 15 = .ok (.iconst 1, 1) := dk_4 (dk_at dksX0_account_0 15 rfl rfl)
theorem dX0_account_16 : decode cX0_account 16 = .ok (.ireturn, 1) := dk_172 (dk_at dksX0_account_0 16 rfl rfl)
theorem dX0_account_17 : decode cX0_account 17 = .ok (.astore 4, 2) := dk_58 4 (dk_at dksX0_account_0 17 rfl rfl)
theorem dX0_account_19 : decode cX0_account 19 = .ok (.iconst 2, 1) := dk_5 (dk_at dksX0_account_0 19 rfl rfl)
theorem dX0_account_20 : decode cX0_account 20 = .ok (.ireturn, 1) := dk_172 (dk_at dksX0_account_0 20 rfl rfl)
theorem dX0_account_21 : decode cX0_account 21 = .ok (.iconst 0, 1) := dk_3 (dk_at dksX0_account_0 21 rfl rfl)
theorem dX0_account_22 : decode cX0_account 22 = .ok (.ireturn, 1) := dk_172 (dk_at dksX0_account_0 22 rfl rfl)
abbrev cX0_notice : ByteArray := method_22_code
def yX0_notice : MethodName := ⟨RX0, "notice", "(LMailSessions;II[J)I"⟩
def dkwX0_notice_0 : List UInt8 := [45, 3, 42, 27, 28, 182, 0, 80, 133, 80, 167, 0, 11, 58, 4, 4, 172, 58, 4, 5, 172, 3, 172]
abbrev dktX0_notice_0 : List UInt8 := dkwX0_notice_0 ++ []
theorem dksX0_notice_0 : cX0_notice.data.toList.drop 0 = dktX0_notice_0 := by decide +kernel
theorem dX0_notice_0 : decode cX0_notice 0 = .ok (.aload_n 3, 1) := dk_45 (dk_at dksX0_notice_0 0 rfl rfl)
theorem dX0_notice_1 : decode cX0_notice 1 = .ok (.iconst 0, 1) := dk_3 (dk_at dksX0_notice_0 1 rfl rfl)
theorem dX0_notice_2 : decode cX0_notice 2 = .ok (.aload_n 0, 1) := dk_42 (dk_at dksX0_notice_0 2 rfl rfl)
theorem dX0_notice_3 : decode cX0_notice 3 = .ok (.iload_n 1, 1) := dk_27 (dk_at dksX0_notice_0 3 rfl rfl)
theorem dX0_notice_4 : decode cX0_notice 4 = .ok (.iload_n 2, 1) := dk_28 (dk_at dksX0_notice_0 4 rfl rfl)
theorem dX0_notice_5 : decode cX0_notice 5 = .ok (.invokevirtual 80, 3) := dk_182 0 80 (dk_at dksX0_notice_0 5 rfl rfl)
theorem dX0_notice_8 : decode cX0_notice 8 = .ok (.i2l, 1) := dk_133 (dk_at dksX0_notice_0 8 rfl rfl)
theorem dX0_notice_9 : decode cX0_notice 9 = .ok (.lastore, 1) := dk_80 (dk_at dksX0_notice_0 9 rfl rfl)
theorem dX0_notice_10 : decode cX0_notice 10 = .ok (.goto 11, 3) := dk_167 0 11 (dk_at dksX0_notice_0 10 rfl rfl)
theorem dX0_notice_13 : decode cX0_notice 13 = .ok (.astore 4, 2) := dk_58 4 (dk_at dksX0_notice_0 13 rfl rfl)
theorem dX0_notice_15 : decode cX0_notice 15 = .ok (.iconst 1, 1) := dk_4 (dk_at dksX0_notice_0 15 rfl rfl)
theorem dX0_notice_16 : decode cX0_notice 16 = .ok (.ireturn, 1) := dk_172 (dk_at dksX0_notice_0 16 rfl rfl)
theorem dX0_notice_17 : decode cX0_notice 17 = .ok (.astore 4, 2) := dk_58 4 (dk_at dksX0_notice_0 17 rfl rfl)
theorem dX0_notice_19 : decode cX0_notice 19 = .ok (.iconst 2, 1) := dk_5 (dk_at dksX0_notice_0 19 rfl rfl)
theorem dX0_notice_20 : decode cX0_notice 20 = .ok (.ireturn, 1) := dk_172 (dk_at dksX0_notice_0 20 rfl rfl)
theorem dX0_notice_21 : decode cX0_notice 21 = .ok (.iconst 0, 1) := dk_3 (dk_at dksX0_notice_0 21 rfl rfl)
theorem dX0_notice_22 : decode cX0_notice 22 = .ok (.ireturn, 1) := dk_172 (dk_at dksX0_notice_0 22 rfl rfl)
abbrev cX0_searchBox : ByteArray := method_23_code
def yX0_searchBox : MethodName := ⟨RX0, "searchBox", "(LMailSessions;I[J)I"⟩
def dkwX0_searchBox_0 : List UInt8 := [44, 3, 42, 27, 182, 0, 85, 133, 80, 167, 0, 6, 78, 4, 172, 3, 172]
abbrev dktX0_searchBox_0 : List UInt8 := dkwX0_searchBox_0 ++ []
theorem dksX0_searchBox_0 : cX0_searchBox.data.toList.drop 0 = dktX0_searchBox_0 := by decide +kernel
theorem dX0_searchBox_0 : decode cX0_searchBox 0 = .ok (.aload_n 2, 1) := dk_44 (dk_at dksX0_searchBox_0 0 rfl rfl)
theorem dX0_searchBox_1 : decode cX0_searchBox 1 = .ok (.iconst 0, 1) := dk_3 (dk_at dksX0_searchBox_0 1 rfl rfl)
theorem dX0_searchBox_2 : decode cX0_searchBox 2 = .ok (.aload_n 0, 1) := dk_42 (dk_at dksX0_searchBox_0 2 rfl rfl)
theorem dX0_searchBox_3 : decode cX0_searchBox 3 = .ok (.iload_n 1, 1) := dk_27 (dk_at dksX0_searchBox_0 3 rfl rfl)
theorem dX0_searchBox_4 : decode cX0_searchBox 4 = .ok (.invokevirtual 85, 3) := dk_182 0 85 (dk_at dksX0_searchBox_0 4 rfl rfl)
theorem dX0_searchBox_7 : decode cX0_searchBox 7 = .ok (.i2l, 1) := dk_133 (dk_at dksX0_searchBox_0 7 rfl rfl)
theorem dX0_searchBox_8 : decode cX0_searchBox 8 = .ok (.lastore, 1) := dk_80 (dk_at dksX0_searchBox_0 8 rfl rfl)
theorem dX0_searchBox_9 : decode cX0_searchBox 9 = .ok (.goto 6, 3) := dk_167 0 6 (dk_at dksX0_searchBox_0 9 rfl rfl)
theorem dX0_searchBox_12 : decode cX0_searchBox 12 = .ok (.astore_n 3, 1) := dk_78 (dk_at dksX0_searchBox_0 12 rfl rfl)
theorem dX0_searchBox_13 : decode cX0_searchBox 13 = .ok (.iconst 1, 1) := dk_4 (dk_at dksX0_searchBox_0 13 rfl rfl)
theorem dX0_searchBox_14 : decode cX0_searchBox 14 = .ok (.ireturn, 1) := dk_172 (dk_at dksX0_searchBox_0 14 rfl rfl)
theorem dX0_searchBox_15 : decode cX0_searchBox 15 = .ok (.iconst 0, 1) := dk_3 (dk_at dksX0_searchBox_0 15 rfl rfl)
theorem dX0_searchBox_16 : decode cX0_searchBox 16 = .ok (.ireturn, 1) := dk_172 (dk_at dksX0_searchBox_0 16 rfl rfl)
abbrev cX0_select : ByteArray := method_24_code
def yX0_select : MethodName := ⟨RX0, "select", "(LMailSessions;IIZ[J)I"⟩
def dkwX0_select_1 : List UInt8 := [172]
abbrev dktX0_select_1 : List UInt8 := dkwX0_select_1 ++ []
def dkwX0_select_0 : List UInt8 := [25, 4, 3, 42, 27, 28, 29, 182, 0, 88, 133, 80, 167, 0, 11, 58, 5, 4, 172, 58, 5, 5, 172, 3]
abbrev dktX0_select_0 : List UInt8 := dkwX0_select_0 ++ dktX0_select_1
theorem dksX0_select_0 : cX0_select.data.toList.drop 0 = dktX0_select_0 := by decide +kernel
theorem dksX0_select_1 : cX0_select.data.toList.drop 24 = dktX0_select_1 := dk_seg dksX0_select_0 24 rfl rfl
theorem dX0_select_0 : decode cX0_select 0 = .ok (.aload 4, 2) := dk_25 4 (dk_at dksX0_select_0 0 rfl rfl)
theorem dX0_select_2 : decode cX0_select 2 = .ok (.iconst 0, 1) := dk_3 (dk_at dksX0_select_0 2 rfl rfl)
theorem dX0_select_3 : decode cX0_select 3 = .ok (.aload_n 0, 1) := dk_42 (dk_at dksX0_select_0 3 rfl rfl)
theorem dX0_select_4 : decode cX0_select 4 = .ok (.iload_n 1, 1) := dk_27 (dk_at dksX0_select_0 4 rfl rfl)
theorem dX0_select_5 : decode cX0_select 5 = .ok (.iload_n 2, 1) := dk_28 (dk_at dksX0_select_0 5 rfl rfl)
theorem dX0_select_6 : decode cX0_select 6 = .ok (.iload_n 3, 1) := dk_29 (dk_at dksX0_select_0 6 rfl rfl)
theorem dX0_select_7 : decode cX0_select 7 = .ok (.invokevirtual 88, 3) := dk_182 0 88 (dk_at dksX0_select_0 7 rfl rfl)
theorem dX0_select_10 : decode cX0_select 10 = .ok (.i2l, 1) := dk_133 (dk_at dksX0_select_0 10 rfl rfl)
theorem dX0_select_11 : decode cX0_select 11 = .ok (.lastore, 1) := dk_80 (dk_at dksX0_select_0 11 rfl rfl)
theorem dX0_select_12 : decode cX0_select 12 = .ok (.goto 11, 3) := dk_167 0 11 (dk_at dksX0_select_0 12 rfl rfl)
theorem dX0_select_15 : decode cX0_select 15 = .ok (.astore 5, 2) := dk_58 5 (dk_at dksX0_select_0 15 rfl rfl)
theorem dX0_select_17 : decode cX0_select 17 = .ok (.iconst 1, 1) := dk_4 (dk_at dksX0_select_0 17 rfl rfl)
theorem dX0_select_18 : decode cX0_select 18 = .ok (.ireturn, 1) := dk_172 (dk_at dksX0_select_0 18 rfl rfl)
theorem dX0_select_19 : decode cX0_select 19 = .ok (.astore 5, 2) := dk_58 5 (dk_at dksX0_select_0 19 rfl rfl)
theorem dX0_select_21 : decode cX0_select 21 = .ok (.iconst 2, 1) := dk_5 (dk_at dksX0_select_0 21 rfl rfl)
theorem dX0_select_22 : decode cX0_select 22 = .ok (.ireturn, 1) := dk_172 (dk_at dksX0_select_0 22 rfl rfl)
theorem dX0_select_23 : decode cX0_select 23 = .ok (.iconst 0, 1) := dk_3 (dk_at dksX0_select_0 23 rfl rfl)
theorem dX0_select_24 : decode cX0_select 24 = .ok (.ireturn, 1) := dk_172 (dk_at dksX0_select_1 0 rfl rfl)
abbrev cX0_noop : ByteArray := method_25_code
def yX0_noop : MethodName := ⟨RX0, "noop", "(LMailSessions;I[J)I"⟩
def dkwX0_noop_0 : List UInt8 := [44, 3, 42, 27, 182, 0, 92, 133, 80, 167, 0, 9, 78, 4, 172, 78, 5, 172, 3, 172]
abbrev dktX0_noop_0 : List UInt8 := dkwX0_noop_0 ++ []
theorem dksX0_noop_0 : cX0_noop.data.toList.drop 0 = dktX0_noop_0 := by decide +kernel
theorem dX0_noop_0 : decode cX0_noop 0 = .ok (.aload_n 2, 1) := dk_44 (dk_at dksX0_noop_0 0 rfl rfl)
theorem dX0_noop_1 : decode cX0_noop 1 = .ok (.iconst 0, 1) := dk_3 (dk_at dksX0_noop_0 1 rfl rfl)
theorem dX0_noop_2 : decode cX0_noop 2 = .ok (.aload_n 0, 1) := dk_42 (dk_at dksX0_noop_0 2 rfl rfl)
theorem dX0_noop_3 : decode cX0_noop 3 = .ok (.iload_n 1, 1) := dk_27 (dk_at dksX0_noop_0 3 rfl rfl)
theorem dX0_noop_4 : decode cX0_noop 4 = .ok (.invokevirtual 92, 3) := dk_182 0 92 (dk_at dksX0_noop_0 4 rfl rfl)
theorem dX0_noop_7 : decode cX0_noop 7 = .ok (.i2l, 1) := dk_133 (dk_at dksX0_noop_0 7 rfl rfl)
theorem dX0_noop_8 : decode cX0_noop 8 = .ok (.lastore, 1) := dk_80 (dk_at dksX0_noop_0 8 rfl rfl)
theorem dX0_noop_9 : decode cX0_noop 9 = .ok (.goto 9, 3) := dk_167 0 9 (dk_at dksX0_noop_0 9 rfl rfl)
theorem dX0_noop_12 : decode cX0_noop 12 = .ok (.astore_n 3, 1) := dk_78 (dk_at dksX0_noop_0 12 rfl rfl)
theorem dX0_noop_13 : decode cX0_noop 13 = .ok (.iconst 1, 1) := dk_4 (dk_at dksX0_noop_0 13 rfl rfl)
theorem dX0_noop_14 : decode cX0_noop 14 = .ok (.ireturn, 1) := dk_172 (dk_at dksX0_noop_0 14 rfl rfl)
theorem dX0_noop_15 : decode cX0_noop 15 = .ok (.astore_n 3, 1) := dk_78 (dk_at dksX0_noop_0 15 rfl rfl)
theorem dX0_noop_16 : decode cX0_noop 16 = .ok (.iconst 2, 1) := dk_5 (dk_at dksX0_noop_0 16 rfl rfl)
theorem dX0_noop_17 : decode cX0_noop 17 = .ok (.ireturn, 1) := dk_172 (dk_at dksX0_noop_0 17 rfl rfl)
theorem dX0_noop_18 : decode cX0_noop 18 = .ok (.iconst 0, 1) := dk_3 (dk_at dksX0_noop_0 18 rfl rfl)
theorem dX0_noop_19 : decode cX0_noop 19 = .ok (.ireturn, 1) := dk_172 (dk_at dksX0_noop_0 19 rfl rfl)
abbrev cX0_startIdle : ByteArray := method_26_code
def yX0_startIdle : MethodName := ⟨RX0, "startIdle", "(LMailSessions;I[J)I"⟩
def dkwX0_startIdle_0 : List UInt8 := [44, 3, 42, 27, 182, 0, 95, 133, 80, 167, 0, 9, 78, 4, 172, 78, 5, 172, 3, 172]
abbrev dktX0_startIdle_0 : List UInt8 := dkwX0_startIdle_0 ++ []
theorem dksX0_startIdle_0 : cX0_startIdle.data.toList.drop 0 = dktX0_startIdle_0 := by decide +kernel
theorem dX0_startIdle_0 : decode cX0_startIdle 0 = .ok (.aload_n 2, 1) := dk_44 (dk_at dksX0_startIdle_0 0 rfl rfl)
theorem dX0_startIdle_1 : decode cX0_startIdle 1 = .ok (.iconst 0, 1) := dk_3 (dk_at dksX0_startIdle_0 1 rfl rfl)
theorem dX0_startIdle_2 : decode cX0_startIdle 2 = .ok (.aload_n 0, 1) := dk_42 (dk_at dksX0_startIdle_0 2 rfl rfl)
theorem dX0_startIdle_3 : decode cX0_startIdle 3 = .ok (.iload_n 1, 1) := dk_27 (dk_at dksX0_startIdle_0 3 rfl rfl)
theorem dX0_startIdle_4 : decode cX0_startIdle 4 = .ok (.invokevirtual 95, 3) := dk_182 0 95 (dk_at dksX0_startIdle_0 4 rfl rfl)
theorem dX0_startIdle_7 : decode cX0_startIdle 7 = .ok (.i2l, 1) := dk_133 (dk_at dksX0_startIdle_0 7 rfl rfl)
theorem dX0_startIdle_8 : decode cX0_startIdle 8 = .ok (.lastore, 1) := dk_80 (dk_at dksX0_startIdle_0 8 rfl rfl)
theorem dX0_startIdle_9 : decode cX0_startIdle 9 = .ok (.goto 9, 3) := dk_167 0 9 (dk_at dksX0_startIdle_0 9 rfl rfl)
theorem dX0_startIdle_12 : decode cX0_startIdle 12 = .ok (.astore_n 3, 1) := dk_78 (dk_at dksX0_startIdle_0 12 rfl rfl)
theorem dX0_startIdle_13 : decode cX0_startIdle 13 = .ok (.iconst 1, 1) := dk_4 (dk_at dksX0_startIdle_0 13 rfl rfl)
theorem dX0_startIdle_14 : decode cX0_startIdle 14 = .ok (.ireturn, 1) := dk_172 (dk_at dksX0_startIdle_0 14 rfl rfl)
theorem dX0_startIdle_15 : decode cX0_startIdle 15 = .ok (.astore_n 3, 1) := dk_78 (dk_at dksX0_startIdle_0 15 rfl rfl)
theorem dX0_startIdle_16 : decode cX0_startIdle 16 = .ok (.iconst 2, 1) := dk_5 (dk_at dksX0_startIdle_0 16 rfl rfl)
theorem dX0_startIdle_17 : decode cX0_startIdle 17 = .ok (.ireturn, 1) := dk_172 (dk_at dksX0_startIdle_0 17 rfl rfl)
theorem dX0_startIdle_18 : decode cX0_startIdle 18 = .ok (.iconst 0, 1) := dk_3 (dk_at dksX0_startIdle_0 18 rfl rfl)
theorem dX0_startIdle_19 : decode cX0_startIdle 19 = .ok (.ireturn, 1) := dk_172 (dk_at dksX0_startIdle_0 19 rfl rfl)
abbrev cX0_stopIdle : ByteArray := method_27_code
def yX0_stopIdle : MethodName := ⟨RX0, "stopIdle", "(LMailSessions;I[J)I"⟩
def dkwX0_stopIdle_0 : List UInt8 := [44, 3, 42, 27, 182, 0, 98, 133, 80, 167, 0, 9, 78, 4, 172, 78, 5, 172, 3, 172]
abbrev dktX0_stopIdle_0 : List UInt8 := dkwX0_stopIdle_0 ++ []
theorem dksX0_stopIdle_0 : cX0_stopIdle.data.toList.drop 0 = dktX0_stopIdle_0 := by decide +kernel
theorem dX0_stopIdle_0 : decode cX0_stopIdle 0 = .ok (.aload_n 2, 1) := dk_44 (dk_at dksX0_stopIdle_0 0 rfl rfl)
theorem dX0_stopIdle_1 : decode cX0_stopIdle 1 = .ok (.iconst 0, 1) := dk_3 (dk_at dksX0_stopIdle_0 1 rfl rfl)
theorem dX0_stopIdle_2 : decode cX0_stopIdle 2 = .ok (.aload_n 0, 1) := dk_42 (dk_at dksX0_stopIdle_0 2 rfl rfl)
theorem dX0_stopIdle_3 : decode cX0_stopIdle 3 = .ok (.iload_n 1, 1) := dk_27 (dk_at dksX0_stopIdle_0 3 rfl rfl)
theorem dX0_stopIdle_4 : decode cX0_stopIdle 4 = .ok (.invokevirtual 98, 3) := dk_182 0 98 (dk_at dksX0_stopIdle_0 4 rfl rfl)
theorem dX0_stopIdle_7 : decode cX0_stopIdle 7 = .ok (.i2l, 1) := dk_133 (dk_at dksX0_stopIdle_0 7 rfl rfl)
theorem dX0_stopIdle_8 : decode cX0_stopIdle 8 = .ok (.lastore, 1) := dk_80 (dk_at dksX0_stopIdle_0 8 rfl rfl)
theorem dX0_stopIdle_9 : decode cX0_stopIdle 9 = .ok (.goto 9, 3) := dk_167 0 9 (dk_at dksX0_stopIdle_0 9 rfl rfl)
theorem dX0_stopIdle_12 : decode cX0_stopIdle 12 = .ok (.astore_n 3, 1) := dk_78 (dk_at dksX0_stopIdle_0 12 rfl rfl)
theorem dX0_stopIdle_13 : decode cX0_stopIdle 13 = .ok (.iconst 1, 1) := dk_4 (dk_at dksX0_stopIdle_0 13 rfl rfl)
theorem dX0_stopIdle_14 : decode cX0_stopIdle 14 = .ok (.ireturn, 1) := dk_172 (dk_at dksX0_stopIdle_0 14 rfl rfl)
theorem dX0_stopIdle_15 : decode cX0_stopIdle 15 = .ok (.astore_n 3, 1) := dk_78 (dk_at dksX0_stopIdle_0 15 rfl rfl)
theorem dX0_stopIdle_16 : decode cX0_stopIdle 16 = .ok (.iconst 2, 1) := dk_5 (dk_at dksX0_stopIdle_0 16 rfl rfl)
theorem dX0_stopIdle_17 : decode cX0_stopIdle 17 = .ok (.ireturn, 1) := dk_172 (dk_at dksX0_stopIdle_0 17 rfl rfl)
theorem dX0_stopIdle_18 : decode cX0_stopIdle 18 = .ok (.iconst 0, 1) := dk_3 (dk_at dksX0_stopIdle_0 18 rfl rfl)
theorem dX0_stopIdle_19 : decode cX0_stopIdle 19 = .ok (.ireturn, 1) := dk_172 (dk_at dksX0_stopIdle_0 19 rfl rfl)
abbrev cX0_fetch : ByteArray := method_28_code
def yX0_fetch : MethodName := ⟨RX0, "fetch", "(LMailSessions;IIIZ[J)I"⟩
def dkwX0_fetch_1 : List UInt8 := [172, 58, 6, 6, 172, 3, 172]
abbrev dktX0_fetch_1 : List UInt8 := dkwX0_fetch_1 ++ []
def dkwX0_fetch_0 : List UInt8 := [25, 5, 3, 42, 27, 28, 29, 21, 4, 182, 0, 101, 133, 80, 167, 0, 15, 58, 6, 4, 172, 58, 6, 5]
abbrev dktX0_fetch_0 : List UInt8 := dkwX0_fetch_0 ++ dktX0_fetch_1
theorem dksX0_fetch_0 : cX0_fetch.data.toList.drop 0 = dktX0_fetch_0 := by decide +kernel
theorem dksX0_fetch_1 : cX0_fetch.data.toList.drop 24 = dktX0_fetch_1 := dk_seg dksX0_fetch_0 24 rfl rfl
theorem dX0_fetch_0 : decode cX0_fetch 0 = .ok (.aload 5, 2) := dk_25 5 (dk_at dksX0_fetch_0 0 rfl rfl)
theorem dX0_fetch_2 : decode cX0_fetch 2 = .ok (.iconst 0, 1) := dk_3 (dk_at dksX0_fetch_0 2 rfl rfl)
theorem dX0_fetch_3 : decode cX0_fetch 3 = .ok (.aload_n 0, 1) := dk_42 (dk_at dksX0_fetch_0 3 rfl rfl)
theorem dX0_fetch_4 : decode cX0_fetch 4 = .ok (.iload_n 1, 1) := dk_27 (dk_at dksX0_fetch_0 4 rfl rfl)
theorem dX0_fetch_5 : decode cX0_fetch 5 = .ok (.iload_n 2, 1) := dk_28 (dk_at dksX0_fetch_0 5 rfl rfl)
theorem dX0_fetch_6 : decode cX0_fetch 6 = .ok (.iload_n 3, 1) := dk_29 (dk_at dksX0_fetch_0 6 rfl rfl)
theorem dX0_fetch_7 : decode cX0_fetch 7 = .ok (.iload 4, 2) := dk_21 4 (dk_at dksX0_fetch_0 7 rfl rfl)
theorem dX0_fetch_9 : decode cX0_fetch 9 = .ok (.invokevirtual 101, 3) := dk_182 0 101 (dk_at dksX0_fetch_0 9 rfl rfl)
theorem dX0_fetch_12 : decode cX0_fetch 12 = .ok (.i2l, 1) := dk_133 (dk_at dksX0_fetch_0 12 rfl rfl)
theorem dX0_fetch_13 : decode cX0_fetch 13 = .ok (.lastore, 1) := dk_80 (dk_at dksX0_fetch_0 13 rfl rfl)
theorem dX0_fetch_14 : decode cX0_fetch 14 = .ok (.goto 15, 3) := dk_167 0 15 (dk_at dksX0_fetch_0 14 rfl rfl)
theorem dX0_fetch_17 : decode cX0_fetch 17 = .ok (.astore 6, 2) := dk_58 6 (dk_at dksX0_fetch_0 17 rfl rfl)
theorem dX0_fetch_19 : decode cX0_fetch 19 = .ok (.iconst 1, 1) := dk_4 (dk_at dksX0_fetch_0 19 rfl rfl)
theorem dX0_fetch_20 : decode cX0_fetch 20 = .ok (.ireturn, 1) := dk_172 (dk_at dksX0_fetch_0 20 rfl rfl)
theorem dX0_fetch_21 : decode cX0_fetch 21 = .ok (.astore 6, 2) := dk_58 6 (dk_at dksX0_fetch_0 21 rfl rfl)
theorem dX0_fetch_23 : decode cX0_fetch 23 = .ok (.iconst 2, 1) := dk_5 (dk_at dksX0_fetch_0 23 rfl rfl)
theorem dX0_fetch_24 : decode cX0_fetch 24 = .ok (.ireturn, 1) := dk_172 (dk_at dksX0_fetch_1 0 rfl rfl)
theorem dX0_fetch_25 : decode cX0_fetch 25 = .ok (.astore 6, 2) := dk_58 6 (dk_at dksX0_fetch_1 1 rfl rfl)
theorem dX0_fetch_27 : decode cX0_fetch 27 = .ok (.iconst 3, 1) := dk_6 (dk_at dksX0_fetch_1 3 rfl rfl)
theorem dX0_fetch_28 : decode cX0_fetch 28 = .ok (.ireturn, 1) := dk_172 (dk_at dksX0_fetch_1 4 rfl rfl)
theorem dX0_fetch_29 : decode cX0_fetch 29 = .ok (.iconst 0, 1) := dk_3 (dk_at dksX0_fetch_1 5 rfl rfl)
theorem dX0_fetch_30 : decode cX0_fetch 30 = .ok (.ireturn, 1) := dk_172 (dk_at dksX0_fetch_1 6 rfl rfl)
abbrev cX0_store : ByteArray := method_29_code
def yX0_store : MethodName := ⟨RX0, "store", "(LMailSessions;IIIIIZ[J)I"⟩
def dkwX0_store_1 : List UInt8 := [172, 58, 8, 5, 172, 58, 8, 6, 172, 3, 172]
abbrev dktX0_store_1 : List UInt8 := dkwX0_store_1 ++ []
def dkwX0_store_0 : List UInt8 := [25, 7, 3, 42, 27, 28, 29, 21, 4, 21, 5, 21, 6, 182, 0, 105, 133, 80, 167, 0, 15, 58, 8, 4]
abbrev dktX0_store_0 : List UInt8 := dkwX0_store_0 ++ dktX0_store_1
theorem dksX0_store_0 : cX0_store.data.toList.drop 0 = dktX0_store_0 := by decide +kernel
theorem dksX0_store_1 : cX0_store.data.toList.drop 24 = dktX0_store_1 := dk_seg dksX0_store_0 24 rfl rfl
theorem dX0_store_0 : decode cX0_store 0 = .ok (.aload 7, 2) := dk_25 7 (dk_at dksX0_store_0 0 rfl rfl)
theorem dX0_store_2 : decode cX0_store 2 = .ok (.iconst 0, 1) := dk_3 (dk_at dksX0_store_0 2 rfl rfl)
theorem dX0_store_3 : decode cX0_store 3 = .ok (.aload_n 0, 1) := dk_42 (dk_at dksX0_store_0 3 rfl rfl)
theorem dX0_store_4 : decode cX0_store 4 = .ok (.iload_n 1, 1) := dk_27 (dk_at dksX0_store_0 4 rfl rfl)
theorem dX0_store_5 : decode cX0_store 5 = .ok (.iload_n 2, 1) := dk_28 (dk_at dksX0_store_0 5 rfl rfl)
theorem dX0_store_6 : decode cX0_store 6 = .ok (.iload_n 3, 1) := dk_29 (dk_at dksX0_store_0 6 rfl rfl)
theorem dX0_store_7 : decode cX0_store 7 = .ok (.iload 4, 2) := dk_21 4 (dk_at dksX0_store_0 7 rfl rfl)
theorem dX0_store_9 : decode cX0_store 9 = .ok (.iload 5, 2) := dk_21 5 (dk_at dksX0_store_0 9 rfl rfl)
theorem dX0_store_11 : decode cX0_store 11 = .ok (.iload 6, 2) := dk_21 6 (dk_at dksX0_store_0 11 rfl rfl)
theorem dX0_store_13 : decode cX0_store 13 = .ok (.invokevirtual 105, 3) := dk_182 0 105 (dk_at dksX0_store_0 13 rfl rfl)
theorem dX0_store_16 : decode cX0_store 16 = .ok (.i2l, 1) := dk_133 (dk_at dksX0_store_0 16 rfl rfl)
theorem dX0_store_17 : decode cX0_store 17 = .ok (.lastore, 1) := dk_80 (dk_at dksX0_store_0 17 rfl rfl)
theorem dX0_store_18 : decode cX0_store 18 = .ok (.goto 15, 3) := dk_167 0 15 (dk_at dksX0_store_0 18 rfl rfl)
theorem dX0_store_21 : decode cX0_store 21 = .ok (.astore 8, 2) := dk_58 8 (dk_at dksX0_store_0 21 rfl rfl)
theorem dX0_store_23 : decode cX0_store 23 = .ok (.iconst 1, 1) := dk_4 (dk_at dksX0_store_0 23 rfl rfl)
theorem dX0_store_24 : decode cX0_store 24 = .ok (.ireturn, 1) := dk_172 (dk_at dksX0_store_1 0 rfl rfl)
theorem dX0_store_25 : decode cX0_store 25 = .ok (.astore 8, 2) := dk_58 8 (dk_at dksX0_store_1 1 rfl rfl)
theorem dX0_store_27 : decode cX0_store 27 = .ok (.iconst 2, 1) := dk_5 (dk_at dksX0_store_1 3 rfl rfl)
theorem dX0_store_28 : decode cX0_store 28 = .ok (.ireturn, 1) := dk_172 (dk_at dksX0_store_1 4 rfl rfl)
theorem dX0_store_29 : decode cX0_store 29 = .ok (.astore 8, 2) := dk_58 8 (dk_at dksX0_store_1 5 rfl rfl)
theorem dX0_store_31 : decode cX0_store 31 = .ok (.iconst 3, 1) := dk_6 (dk_at dksX0_store_1 7 rfl rfl)
theorem dX0_store_32 : decode cX0_store 32 = .ok (.ireturn, 1) := dk_172 (dk_at dksX0_store_1 8 rfl rfl)
theorem dX0_store_33 : decode cX0_store 33 = .ok (.iconst 0, 1) := dk_3 (dk_at dksX0_store_1 9 rfl rfl)
theorem dX0_store_34 : decode cX0_store 34 = .ok (.ireturn, 1) := dk_172 (dk_at dksX0_store_1 10 rfl rfl)
abbrev cX0_uidStore : ByteArray := method_30_code
def yX0_uidStore : MethodName := ⟨RX0, "uidStore", "(LMailSessions;IIIII[J)I"⟩
def dkwX0_uidStore_1 : List UInt8 := [58, 7, 5, 172, 58, 7, 6, 172, 3, 172]
abbrev dktX0_uidStore_1 : List UInt8 := dkwX0_uidStore_1 ++ []
def dkwX0_uidStore_0 : List UInt8 := [25, 6, 3, 42, 27, 28, 29, 21, 4, 21, 5, 182, 0, 109, 133, 80, 167, 0, 15, 58, 7, 4, 172]
abbrev dktX0_uidStore_0 : List UInt8 := dkwX0_uidStore_0 ++ dktX0_uidStore_1
theorem dksX0_uidStore_0 : cX0_uidStore.data.toList.drop 0 = dktX0_uidStore_0 := by decide +kernel
theorem dksX0_uidStore_1 : cX0_uidStore.data.toList.drop 23 = dktX0_uidStore_1 := dk_seg dksX0_uidStore_0 23 rfl rfl
theorem dX0_uidStore_0 : decode cX0_uidStore 0 = .ok (.aload 6, 2) := dk_25 6 (dk_at dksX0_uidStore_0 0 rfl rfl)
theorem dX0_uidStore_2 : decode cX0_uidStore 2 = .ok (.iconst 0, 1) := dk_3 (dk_at dksX0_uidStore_0 2 rfl rfl)
theorem dX0_uidStore_3 : decode cX0_uidStore 3 = .ok (.aload_n 0, 1) := dk_42 (dk_at dksX0_uidStore_0 3 rfl rfl)
theorem dX0_uidStore_4 : decode cX0_uidStore 4 = .ok (.iload_n 1, 1) := dk_27 (dk_at dksX0_uidStore_0 4 rfl rfl)
theorem dX0_uidStore_5 : decode cX0_uidStore 5 = .ok (.iload_n 2, 1) := dk_28 (dk_at dksX0_uidStore_0 5 rfl rfl)
theorem dX0_uidStore_6 : decode cX0_uidStore 6 = .ok (.iload_n 3, 1) := dk_29 (dk_at dksX0_uidStore_0 6 rfl rfl)
theorem dX0_uidStore_7 : decode cX0_uidStore 7 = .ok (.iload 4, 2) := dk_21 4 (dk_at dksX0_uidStore_0 7 rfl rfl)
theorem dX0_uidStore_9 : decode cX0_uidStore 9 = .ok (.iload 5, 2) := dk_21 5 (dk_at dksX0_uidStore_0 9 rfl rfl)
theorem dX0_uidStore_11 : decode cX0_uidStore 11 = .ok (.invokevirtual 109, 3) := dk_182 0 109 (dk_at dksX0_uidStore_0 11 rfl rfl)
theorem dX0_uidStore_14 : decode cX0_uidStore 14 = .ok (.i2l, 1) := dk_133 (dk_at dksX0_uidStore_0 14 rfl rfl)
theorem dX0_uidStore_15 : decode cX0_uidStore 15 = .ok (.lastore, 1) := dk_80 (dk_at dksX0_uidStore_0 15 rfl rfl)
theorem dX0_uidStore_16 : decode cX0_uidStore 16 = .ok (.goto 15, 3) := dk_167 0 15 (dk_at dksX0_uidStore_0 16 rfl rfl)
theorem dX0_uidStore_19 : decode cX0_uidStore 19 = .ok (.astore 7, 2) := dk_58 7 (dk_at dksX0_uidStore_0 19 rfl rfl)
theorem dX0_uidStore_21 : decode cX0_uidStore 21 = .ok (.iconst 1, 1) := dk_4 (dk_at dksX0_uidStore_0 21 rfl rfl)
theorem dX0_uidStore_22 : decode cX0_uidStore 22 = .ok (.ireturn, 1) := dk_172 (dk_at dksX0_uidStore_0 22 rfl rfl)
theorem dX0_uidStore_23 : decode cX0_uidStore 23 = .ok (.astore 7, 2) := dk_58 7 (dk_at dksX0_uidStore_1 0 rfl rfl)
theorem dX0_uidStore_25 : decode cX0_uidStore 25 = .ok (.iconst 2, 1) := dk_5 (dk_at dksX0_uidStore_1 2 rfl rfl)
theorem dX0_uidStore_26 : decode cX0_uidStore 26 = .ok (.ireturn, 1) := dk_172 (dk_at dksX0_uidStore_1 3 rfl rfl)
theorem dX0_uidStore_27 : decode cX0_uidStore 27 = .ok (.astore 7, 2) := dk_58 7 (dk_at dksX0_uidStore_1 4 rfl rfl)
theorem dX0_uidStore_29 : decode cX0_uidStore 29 = .ok (.iconst 3, 1) := dk_6 (dk_at dksX0_uidStore_1 6 rfl rfl)
theorem dX0_uidStore_30 : decode cX0_uidStore 30 = .ok (.ireturn, 1) := dk_172 (dk_at dksX0_uidStore_1 7 rfl rfl)
theorem dX0_uidStore_31 : decode cX0_uidStore 31 = .ok (.iconst 0, 1) := dk_3 (dk_at dksX0_uidStore_1 8 rfl rfl)
theorem dX0_uidStore_32 : decode cX0_uidStore 32 = .ok (.ireturn, 1) := dk_172 (dk_at dksX0_uidStore_1 9 rfl rfl)
abbrev cX0_search : ByteArray := method_31_code
def yX0_search : MethodName := ⟨RX0, "search", "(LMailSessions;I[J)I"⟩
def dkwX0_search_0 : List UInt8 := [44, 3, 42, 27, 182, 0, 112, 80, 167, 0, 9, 78, 4, 172, 78, 5, 172, 3, 172]
abbrev dktX0_search_0 : List UInt8 := dkwX0_search_0 ++ []
theorem dksX0_search_0 : cX0_search.data.toList.drop 0 = dktX0_search_0 := by decide +kernel
theorem dX0_search_0 : decode cX0_search 0 = .ok (.aload_n 2, 1) := dk_44 (dk_at dksX0_search_0 0 rfl rfl)
theorem dX0_search_1 : decode cX0_search 1 = .ok (.iconst 0, 1) := dk_3 (dk_at dksX0_search_0 1 rfl rfl)
theorem dX0_search_2 : decode cX0_search 2 = .ok (.aload_n 0, 1) := dk_42 (dk_at dksX0_search_0 2 rfl rfl)
theorem dX0_search_3 : decode cX0_search 3 = .ok (.iload_n 1, 1) := dk_27 (dk_at dksX0_search_0 3 rfl rfl)
theorem dX0_search_4 : decode cX0_search 4 = .ok (.invokevirtual 112, 3) := dk_182 0 112 (dk_at dksX0_search_0 4 rfl rfl)
theorem dX0_search_7 : decode cX0_search 7 = .ok (.lastore, 1) := dk_80 (dk_at dksX0_search_0 7 rfl rfl)
theorem dX0_search_8 : decode cX0_search 8 = .ok (.goto 9, 3) := dk_167 0 9 (dk_at dksX0_search_0 8 rfl rfl)
theorem dX0_search_11 : decode cX0_search 11 = .ok (.astore_n 3, 1) := dk_78 (dk_at dksX0_search_0 11 rfl rfl)
theorem dX0_search_12 : decode cX0_search 12 = .ok (.iconst 1, 1) := dk_4 (dk_at dksX0_search_0 12 rfl rfl)
theorem dX0_search_13 : decode cX0_search 13 = .ok (.ireturn, 1) := dk_172 (dk_at dksX0_search_0 13 rfl rfl)
theorem dX0_search_14 : decode cX0_search 14 = .ok (.astore_n 3, 1) := dk_78 (dk_at dksX0_search_0 14 rfl rfl)
theorem dX0_search_15 : decode cX0_search 15 = .ok (.iconst 2, 1) := dk_5 (dk_at dksX0_search_0 15 rfl rfl)
theorem dX0_search_16 : decode cX0_search 16 = .ok (.ireturn, 1) := dk_172 (dk_at dksX0_search_0 16 rfl rfl)
theorem dX0_search_17 : decode cX0_search 17 = .ok (.iconst 0, 1) := dk_3 (dk_at dksX0_search_0 17 rfl rfl)
theorem dX0_search_18 : decode cX0_search 18 = .ok (.ireturn, 1) := dk_172 (dk_at dksX0_search_0 18 rfl rfl)
abbrev cX0_expunge : ByteArray := method_32_code
def yX0_expunge : MethodName := ⟨RX0, "expunge", "(LMailSessions;I[J)I"⟩
def dkwX0_expunge_0 : List UInt8 := [44, 3, 42, 27, 182, 0, 116, 133, 80, 167, 0, 9, 78, 4, 172, 78, 5, 172, 3, 172]
abbrev dktX0_expunge_0 : List UInt8 := dkwX0_expunge_0 ++ []
theorem dksX0_expunge_0 : cX0_expunge.data.toList.drop 0 = dktX0_expunge_0 := by decide +kernel
theorem dX0_expunge_0 : decode cX0_expunge 0 = .ok (.aload_n 2, 1) := dk_44 (dk_at dksX0_expunge_0 0 rfl rfl)
theorem dX0_expunge_1 : decode cX0_expunge 1 = .ok (.iconst 0, 1) := dk_3 (dk_at dksX0_expunge_0 1 rfl rfl)
theorem dX0_expunge_2 : decode cX0_expunge 2 = .ok (.aload_n 0, 1) := dk_42 (dk_at dksX0_expunge_0 2 rfl rfl)
theorem dX0_expunge_3 : decode cX0_expunge 3 = .ok (.iload_n 1, 1) := dk_27 (dk_at dksX0_expunge_0 3 rfl rfl)
theorem dX0_expunge_4 : decode cX0_expunge 4 = .ok (.invokevirtual 116, 3) := dk_182 0 116 (dk_at dksX0_expunge_0 4 rfl rfl)
theorem dX0_expunge_7 : decode cX0_expunge 7 = .ok (.i2l, 1) := dk_133 (dk_at dksX0_expunge_0 7 rfl rfl)
theorem dX0_expunge_8 : decode cX0_expunge 8 = .ok (.lastore, 1) := dk_80 (dk_at dksX0_expunge_0 8 rfl rfl)
theorem dX0_expunge_9 : decode cX0_expunge 9 = .ok (.goto 9, 3) := dk_167 0 9 (dk_at dksX0_expunge_0 9 rfl rfl)
theorem dX0_expunge_12 : decode cX0_expunge 12 = .ok (.astore_n 3, 1) := dk_78 (dk_at dksX0_expunge_0 12 rfl rfl)
theorem dX0_expunge_13 : decode cX0_expunge 13 = .ok (.iconst 1, 1) := dk_4 (dk_at dksX0_expunge_0 13 rfl rfl)
theorem dX0_expunge_14 : decode cX0_expunge 14 = .ok (.ireturn, 1) := dk_172 (dk_at dksX0_expunge_0 14 rfl rfl)
theorem dX0_expunge_15 : decode cX0_expunge 15 = .ok (.astore_n 3, 1) := dk_78 (dk_at dksX0_expunge_0 15 rfl rfl)
theorem dX0_expunge_16 : decode cX0_expunge 16 = .ok (.iconst 2, 1) := dk_5 (dk_at dksX0_expunge_0 16 rfl rfl)
theorem dX0_expunge_17 : decode cX0_expunge 17 = .ok (.ireturn, 1) := dk_172 (dk_at dksX0_expunge_0 17 rfl rfl)
theorem dX0_expunge_18 : decode cX0_expunge 18 = .ok (.iconst 0, 1) := dk_3 (dk_at dksX0_expunge_0 18 rfl rfl)
theorem dX0_expunge_19 : decode cX0_expunge 19 = .ok (.ireturn, 1) := dk_172 (dk_at dksX0_expunge_0 19 rfl rfl)
abbrev cX0_uidExpunge : ByteArray := method_33_code
def yX0_uidExpunge : MethodName := ⟨RX0, "uidExpunge", "(LMailSessions;III[J)I"⟩
def dkwX0_uidExpunge_1 : List UInt8 := [172]
abbrev dktX0_uidExpunge_1 : List UInt8 := dkwX0_uidExpunge_1 ++ []
def dkwX0_uidExpunge_0 : List UInt8 := [25, 4, 3, 42, 27, 28, 29, 182, 0, 119, 133, 80, 167, 0, 11, 58, 5, 4, 172, 58, 5, 5, 172, 3]
abbrev dktX0_uidExpunge_0 : List UInt8 := dkwX0_uidExpunge_0 ++ dktX0_uidExpunge_1
theorem dksX0_uidExpunge_0 : cX0_uidExpunge.data.toList.drop 0 = dktX0_uidExpunge_0 := by decide +kernel
theorem dksX0_uidExpunge_1 : cX0_uidExpunge.data.toList.drop 24 = dktX0_uidExpunge_1 := dk_seg dksX0_uidExpunge_0 24 rfl rfl
theorem dX0_uidExpunge_0 : decode cX0_uidExpunge 0 = .ok (.aload 4, 2) := dk_25 4 (dk_at dksX0_uidExpunge_0 0 rfl rfl)
theorem dX0_uidExpunge_2 : decode cX0_uidExpunge 2 = .ok (.iconst 0, 1) := dk_3 (dk_at dksX0_uidExpunge_0 2 rfl rfl)
theorem dX0_uidExpunge_3 : decode cX0_uidExpunge 3 = .ok (.aload_n 0, 1) := dk_42 (dk_at dksX0_uidExpunge_0 3 rfl rfl)
theorem dX0_uidExpunge_4 : decode cX0_uidExpunge 4 = .ok (.iload_n 1, 1) := dk_27 (dk_at dksX0_uidExpunge_0 4 rfl rfl)
theorem dX0_uidExpunge_5 : decode cX0_uidExpunge 5 = .ok (.iload_n 2, 1) := dk_28 (dk_at dksX0_uidExpunge_0 5 rfl rfl)
theorem dX0_uidExpunge_6 : decode cX0_uidExpunge 6 = .ok (.iload_n 3, 1) := dk_29 (dk_at dksX0_uidExpunge_0 6 rfl rfl)
theorem dX0_uidExpunge_7 : decode cX0_uidExpunge 7 = .ok (.invokevirtual 119, 3) := dk_182 0 119 (dk_at dksX0_uidExpunge_0 7 rfl rfl)
theorem dX0_uidExpunge_10 : decode cX0_uidExpunge 10 = .ok (.i2l, 1) := dk_133 (dk_at dksX0_uidExpunge_0 10 rfl rfl)
theorem dX0_uidExpunge_11 : decode cX0_uidExpunge 11 = .ok (.lastore, 1) := dk_80 (dk_at dksX0_uidExpunge_0 11 rfl rfl)
theorem dX0_uidExpunge_12 : decode cX0_uidExpunge 12 = .ok (.goto 11, 3) := dk_167 0 11 (dk_at dksX0_uidExpunge_0 12 rfl rfl)
theorem dX0_uidExpunge_15 : decode cX0_uidExpunge 15 = .ok (.astore 5, 2) := dk_58 5 (dk_at dksX0_uidExpunge_0 15 rfl rfl)
theorem dX0_uidExpunge_17 : decode cX0_uidExpunge 17 = .ok (.iconst 1, 1) := dk_4 (dk_at dksX0_uidExpunge_0 17 rfl rfl)
theorem dX0_uidExpunge_18 : decode cX0_uidExpunge 18 = .ok (.ireturn, 1) := dk_172 (dk_at dksX0_uidExpunge_0 18 rfl rfl)
theorem dX0_uidExpunge_19 : decode cX0_uidExpunge 19 = .ok (.astore 5, 2) := dk_58 5 (dk_at dksX0_uidExpunge_0 19 rfl rfl)
theorem dX0_uidExpunge_21 : decode cX0_uidExpunge 21 = .ok (.iconst 2, 1) := dk_5 (dk_at dksX0_uidExpunge_0 21 rfl rfl)
theorem dX0_uidExpunge_22 : decode cX0_uidExpunge 22 = .ok (.ireturn, 1) := dk_172 (dk_at dksX0_uidExpunge_0 22 rfl rfl)
theorem dX0_uidExpunge_23 : decode cX0_uidExpunge 23 = .ok (.iconst 0, 1) := dk_3 (dk_at dksX0_uidExpunge_0 23 rfl rfl)
theorem dX0_uidExpunge_24 : decode cX0_uidExpunge 24 = .ok (.ireturn, 1) := dk_172 (dk_at dksX0_uidExpunge_1 0 rfl rfl)
abbrev cX0_copy : ByteArray := method_34_code
def yX0_copy : MethodName := ⟨RX0, "copy", "(LMailSessions;IIII[J)I"⟩
def dkwX0_copy_1 : List UInt8 := [172, 58, 6, 6, 172, 3, 172]
abbrev dktX0_copy_1 : List UInt8 := dkwX0_copy_1 ++ []
def dkwX0_copy_0 : List UInt8 := [25, 5, 3, 42, 27, 28, 29, 21, 4, 182, 0, 122, 133, 80, 167, 0, 15, 58, 6, 4, 172, 58, 6, 5]
abbrev dktX0_copy_0 : List UInt8 := dkwX0_copy_0 ++ dktX0_copy_1
theorem dksX0_copy_0 : cX0_copy.data.toList.drop 0 = dktX0_copy_0 := by decide +kernel
theorem dksX0_copy_1 : cX0_copy.data.toList.drop 24 = dktX0_copy_1 := dk_seg dksX0_copy_0 24 rfl rfl
theorem dX0_copy_0 : decode cX0_copy 0 = .ok (.aload 5, 2) := dk_25 5 (dk_at dksX0_copy_0 0 rfl rfl)
theorem dX0_copy_2 : decode cX0_copy 2 = .ok (.iconst 0, 1) := dk_3 (dk_at dksX0_copy_0 2 rfl rfl)
theorem dX0_copy_3 : decode cX0_copy 3 = .ok (.aload_n 0, 1) := dk_42 (dk_at dksX0_copy_0 3 rfl rfl)
theorem dX0_copy_4 : decode cX0_copy 4 = .ok (.iload_n 1, 1) := dk_27 (dk_at dksX0_copy_0 4 rfl rfl)
theorem dX0_copy_5 : decode cX0_copy 5 = .ok (.iload_n 2, 1) := dk_28 (dk_at dksX0_copy_0 5 rfl rfl)
theorem dX0_copy_6 : decode cX0_copy 6 = .ok (.iload_n 3, 1) := dk_29 (dk_at dksX0_copy_0 6 rfl rfl)
theorem dX0_copy_7 : decode cX0_copy 7 = .ok (.iload 4, 2) := dk_21 4 (dk_at dksX0_copy_0 7 rfl rfl)
theorem dX0_copy_9 : decode cX0_copy 9 = .ok (.invokevirtual 122, 3) := dk_182 0 122 (dk_at dksX0_copy_0 9 rfl rfl)
theorem dX0_copy_12 : decode cX0_copy 12 = .ok (.i2l, 1) := dk_133 (dk_at dksX0_copy_0 12 rfl rfl)
theorem dX0_copy_13 : decode cX0_copy 13 = .ok (.lastore, 1) := dk_80 (dk_at dksX0_copy_0 13 rfl rfl)
theorem dX0_copy_14 : decode cX0_copy 14 = .ok (.goto 15, 3) := dk_167 0 15 (dk_at dksX0_copy_0 14 rfl rfl)
theorem dX0_copy_17 : decode cX0_copy 17 = .ok (.astore 6, 2) := dk_58 6 (dk_at dksX0_copy_0 17 rfl rfl)
theorem dX0_copy_19 : decode cX0_copy 19 = .ok (.iconst 1, 1) := dk_4 (dk_at dksX0_copy_0 19 rfl rfl)
theorem dX0_copy_20 : decode cX0_copy 20 = .ok (.ireturn, 1) := dk_172 (dk_at dksX0_copy_0 20 rfl rfl)
theorem dX0_copy_21 : decode cX0_copy 21 = .ok (.astore 6, 2) := dk_58 6 (dk_at dksX0_copy_0 21 rfl rfl)
theorem dX0_copy_23 : decode cX0_copy 23 = .ok (.iconst 2, 1) := dk_5 (dk_at dksX0_copy_0 23 rfl rfl)
theorem dX0_copy_24 : decode cX0_copy 24 = .ok (.ireturn, 1) := dk_172 (dk_at dksX0_copy_1 0 rfl rfl)
theorem dX0_copy_25 : decode cX0_copy 25 = .ok (.astore 6, 2) := dk_58 6 (dk_at dksX0_copy_1 1 rfl rfl)
theorem dX0_copy_27 : decode cX0_copy 27 = .ok (.iconst 3, 1) := dk_6 (dk_at dksX0_copy_1 3 rfl rfl)
theorem dX0_copy_28 : decode cX0_copy 28 = .ok (.ireturn, 1) := dk_172 (dk_at dksX0_copy_1 4 rfl rfl)
theorem dX0_copy_29 : decode cX0_copy 29 = .ok (.iconst 0, 1) := dk_3 (dk_at dksX0_copy_1 5 rfl rfl)
theorem dX0_copy_30 : decode cX0_copy 30 = .ok (.ireturn, 1) := dk_172 (dk_at dksX0_copy_1 6 rfl rfl)
abbrev cX0_move : ByteArray := method_35_code
def yX0_move : MethodName := ⟨RX0, "move", "(LMailSessions;IIII[J)I"⟩
def dkwX0_move_1 : List UInt8 := [172, 58, 6, 6, 172, 3, 172]
abbrev dktX0_move_1 : List UInt8 := dkwX0_move_1 ++ []
def dkwX0_move_0 : List UInt8 := [25, 5, 3, 42, 27, 28, 29, 21, 4, 182, 0, 126, 133, 80, 167, 0, 15, 58, 6, 4, 172, 58, 6, 5]
abbrev dktX0_move_0 : List UInt8 := dkwX0_move_0 ++ dktX0_move_1
theorem dksX0_move_0 : cX0_move.data.toList.drop 0 = dktX0_move_0 := by decide +kernel
theorem dksX0_move_1 : cX0_move.data.toList.drop 24 = dktX0_move_1 := dk_seg dksX0_move_0 24 rfl rfl
theorem dX0_move_0 : decode cX0_move 0 = .ok (.aload 5, 2) := dk_25 5 (dk_at dksX0_move_0 0 rfl rfl)
theorem dX0_move_2 : decode cX0_move 2 = .ok (.iconst 0, 1) := dk_3 (dk_at dksX0_move_0 2 rfl rfl)
theorem dX0_move_3 : decode cX0_move 3 = .ok (.aload_n 0, 1) := dk_42 (dk_at dksX0_move_0 3 rfl rfl)
theorem dX0_move_4 : decode cX0_move 4 = .ok (.iload_n 1, 1) := dk_27 (dk_at dksX0_move_0 4 rfl rfl)
theorem dX0_move_5 : decode cX0_move 5 = .ok (.iload_n 2, 1) := dk_28 (dk_at dksX0_move_0 5 rfl rfl)
theorem dX0_move_6 : decode cX0_move 6 = .ok (.iload_n 3, 1) := dk_29 (dk_at dksX0_move_0 6 rfl rfl)
theorem dX0_move_7 : decode cX0_move 7 = .ok (.iload 4, 2) := dk_21 4 (dk_at dksX0_move_0 7 rfl rfl)
theorem dX0_move_9 : decode cX0_move 9 = .ok (.invokevirtual 126, 3) := dk_182 0 126 (dk_at dksX0_move_0 9 rfl rfl)
theorem dX0_move_12 : decode cX0_move 12 = .ok (.i2l, 1) := dk_133 (dk_at dksX0_move_0 12 rfl rfl)
theorem dX0_move_13 : decode cX0_move 13 = .ok (.lastore, 1) := dk_80 (dk_at dksX0_move_0 13 rfl rfl)
theorem dX0_move_14 : decode cX0_move 14 = .ok (.goto 15, 3) := dk_167 0 15 (dk_at dksX0_move_0 14 rfl rfl)
theorem dX0_move_17 : decode cX0_move 17 = .ok (.astore 6, 2) := dk_58 6 (dk_at dksX0_move_0 17 rfl rfl)
theorem dX0_move_19 : decode cX0_move 19 = .ok (.iconst 1, 1) := dk_4 (dk_at dksX0_move_0 19 rfl rfl)
theorem dX0_move_20 : decode cX0_move 20 = .ok (.ireturn, 1) := dk_172 (dk_at dksX0_move_0 20 rfl rfl)
theorem dX0_move_21 : decode cX0_move 21 = .ok (.astore 6, 2) := dk_58 6 (dk_at dksX0_move_0 21 rfl rfl)
theorem dX0_move_23 : decode cX0_move 23 = .ok (.iconst 2, 1) := dk_5 (dk_at dksX0_move_0 23 rfl rfl)
theorem dX0_move_24 : decode cX0_move 24 = .ok (.ireturn, 1) := dk_172 (dk_at dksX0_move_1 0 rfl rfl)
theorem dX0_move_25 : decode cX0_move 25 = .ok (.astore 6, 2) := dk_58 6 (dk_at dksX0_move_1 1 rfl rfl)
theorem dX0_move_27 : decode cX0_move 27 = .ok (.iconst 3, 1) := dk_6 (dk_at dksX0_move_1 3 rfl rfl)
theorem dX0_move_28 : decode cX0_move 28 = .ok (.ireturn, 1) := dk_172 (dk_at dksX0_move_1 4 rfl rfl)
theorem dX0_move_29 : decode cX0_move 29 = .ok (.iconst 0, 1) := dk_3 (dk_at dksX0_move_1 5 rfl rfl)
theorem dX0_move_30 : decode cX0_move 30 = .ok (.ireturn, 1) := dk_172 (dk_at dksX0_move_1 6 rfl rfl)
abbrev cX0_close : ByteArray := method_36_code
def yX0_close : MethodName := ⟨RX0, "close", "(LMailSessions;I[J)I"⟩
def dkwX0_close_0 : List UInt8 := [44, 3, 42, 27, 182, 0, 129, 133, 80, 167, 0, 9, 78, 4, 172, 78, 5, 172, 3, 172]
abbrev dktX0_close_0 : List UInt8 := dkwX0_close_0 ++ []
theorem dksX0_close_0 : cX0_close.data.toList.drop 0 = dktX0_close_0 := by decide +kernel
theorem dX0_close_0 : decode cX0_close 0 = .ok (.aload_n 2, 1) := dk_44 (dk_at dksX0_close_0 0 rfl rfl)
theorem dX0_close_1 : decode cX0_close 1 = .ok (.iconst 0, 1) := dk_3 (dk_at dksX0_close_0 1 rfl rfl)
theorem dX0_close_2 : decode cX0_close 2 = .ok (.aload_n 0, 1) := dk_42 (dk_at dksX0_close_0 2 rfl rfl)
theorem dX0_close_3 : decode cX0_close 3 = .ok (.iload_n 1, 1) := dk_27 (dk_at dksX0_close_0 3 rfl rfl)
theorem dX0_close_4 : decode cX0_close 4 = .ok (.invokevirtual 129, 3) := dk_182 0 129 (dk_at dksX0_close_0 4 rfl rfl)
theorem dX0_close_7 : decode cX0_close 7 = .ok (.i2l, 1) := dk_133 (dk_at dksX0_close_0 7 rfl rfl)
theorem dX0_close_8 : decode cX0_close 8 = .ok (.lastore, 1) := dk_80 (dk_at dksX0_close_0 8 rfl rfl)
theorem dX0_close_9 : decode cX0_close 9 = .ok (.goto 9, 3) := dk_167 0 9 (dk_at dksX0_close_0 9 rfl rfl)
theorem dX0_close_12 : decode cX0_close 12 = .ok (.astore_n 3, 1) := dk_78 (dk_at dksX0_close_0 12 rfl rfl)
theorem dX0_close_13 : decode cX0_close 13 = .ok (.iconst 1, 1) := dk_4 (dk_at dksX0_close_0 13 rfl rfl)
theorem dX0_close_14 : decode cX0_close 14 = .ok (.ireturn, 1) := dk_172 (dk_at dksX0_close_0 14 rfl rfl)
theorem dX0_close_15 : decode cX0_close 15 = .ok (.astore_n 3, 1) := dk_78 (dk_at dksX0_close_0 15 rfl rfl)
theorem dX0_close_16 : decode cX0_close 16 = .ok (.iconst 2, 1) := dk_5 (dk_at dksX0_close_0 16 rfl rfl)
theorem dX0_close_17 : decode cX0_close 17 = .ok (.ireturn, 1) := dk_172 (dk_at dksX0_close_0 17 rfl rfl)
theorem dX0_close_18 : decode cX0_close 18 = .ok (.iconst 0, 1) := dk_3 (dk_at dksX0_close_0 18 rfl rfl)
theorem dX0_close_19 : decode cX0_close 19 = .ok (.ireturn, 1) := dk_172 (dk_at dksX0_close_0 19 rfl rfl)
abbrev cX0_deliver : ByteArray := method_37_code
def yX0_deliver : MethodName := ⟨RX0, "deliver", "(LMailSessions;III[J)I"⟩
def dkwX0_deliver_1 : List UInt8 := [58, 5, 6, 172, 3, 172]
abbrev dktX0_deliver_1 : List UInt8 := dkwX0_deliver_1 ++ []
def dkwX0_deliver_0 : List UInt8 := [25, 4, 3, 42, 27, 28, 29, 182, 0, 132, 133, 80, 167, 0, 15, 58, 5, 4, 172, 58, 5, 5, 172]
abbrev dktX0_deliver_0 : List UInt8 := dkwX0_deliver_0 ++ dktX0_deliver_1
theorem dksX0_deliver_0 : cX0_deliver.data.toList.drop 0 = dktX0_deliver_0 := by decide +kernel
theorem dksX0_deliver_1 : cX0_deliver.data.toList.drop 23 = dktX0_deliver_1 := dk_seg dksX0_deliver_0 23 rfl rfl
theorem dX0_deliver_0 : decode cX0_deliver 0 = .ok (.aload 4, 2) := dk_25 4 (dk_at dksX0_deliver_0 0 rfl rfl)
theorem dX0_deliver_2 : decode cX0_deliver 2 = .ok (.iconst 0, 1) := dk_3 (dk_at dksX0_deliver_0 2 rfl rfl)
theorem dX0_deliver_3 : decode cX0_deliver 3 = .ok (.aload_n 0, 1) := dk_42 (dk_at dksX0_deliver_0 3 rfl rfl)
theorem dX0_deliver_4 : decode cX0_deliver 4 = .ok (.iload_n 1, 1) := dk_27 (dk_at dksX0_deliver_0 4 rfl rfl)
theorem dX0_deliver_5 : decode cX0_deliver 5 = .ok (.iload_n 2, 1) := dk_28 (dk_at dksX0_deliver_0 5 rfl rfl)
theorem dX0_deliver_6 : decode cX0_deliver 6 = .ok (.iload_n 3, 1) := dk_29 (dk_at dksX0_deliver_0 6 rfl rfl)
theorem dX0_deliver_7 : decode cX0_deliver 7 = .ok (.invokevirtual 132, 3) := dk_182 0 132 (dk_at dksX0_deliver_0 7 rfl rfl)
theorem dX0_deliver_10 : decode cX0_deliver 10 = .ok (.i2l, 1) := dk_133 (dk_at dksX0_deliver_0 10 rfl rfl)
theorem dX0_deliver_11 : decode cX0_deliver 11 = .ok (.lastore, 1) := dk_80 (dk_at dksX0_deliver_0 11 rfl rfl)
theorem dX0_deliver_12 : decode cX0_deliver 12 = .ok (.goto 15, 3) := dk_167 0 15 (dk_at dksX0_deliver_0 12 rfl rfl)
theorem dX0_deliver_15 : decode cX0_deliver 15 = .ok (.astore 5, 2) := dk_58 5 (dk_at dksX0_deliver_0 15 rfl rfl)
theorem dX0_deliver_17 : decode cX0_deliver 17 = .ok (.iconst 1, 1) := dk_4 (dk_at dksX0_deliver_0 17 rfl rfl)
theorem dX0_deliver_18 : decode cX0_deliver 18 = .ok (.ireturn, 1) := dk_172 (dk_at dksX0_deliver_0 18 rfl rfl)
theorem dX0_deliver_19 : decode cX0_deliver 19 = .ok (.astore 5, 2) := dk_58 5 (dk_at dksX0_deliver_0 19 rfl rfl)
theorem dX0_deliver_21 : decode cX0_deliver 21 = .ok (.iconst 2, 1) := dk_5 (dk_at dksX0_deliver_0 21 rfl rfl)
theorem dX0_deliver_22 : decode cX0_deliver 22 = .ok (.ireturn, 1) := dk_172 (dk_at dksX0_deliver_0 22 rfl rfl)
theorem dX0_deliver_23 : decode cX0_deliver 23 = .ok (.astore 5, 2) := dk_58 5 (dk_at dksX0_deliver_1 0 rfl rfl)
theorem dX0_deliver_25 : decode cX0_deliver 25 = .ok (.iconst 3, 1) := dk_6 (dk_at dksX0_deliver_1 2 rfl rfl)
theorem dX0_deliver_26 : decode cX0_deliver 26 = .ok (.ireturn, 1) := dk_172 (dk_at dksX0_deliver_1 3 rfl rfl)
theorem dX0_deliver_27 : decode cX0_deliver 27 = .ok (.iconst 0, 1) := dk_3 (dk_at dksX0_deliver_1 4 rfl rfl)
theorem dX0_deliver_28 : decode cX0_deliver 28 = .ok (.ireturn, 1) := dk_172 (dk_at dksX0_deliver_1 5 rfl rfl)
abbrev cX0_setLimit : ByteArray := method_38_code
def yX0_setLimit : MethodName := ⟨RX0, "setLimit", "(LMailSessions;I[J)I"⟩
def dkwX0_setLimit_0 : List UInt8 := [44, 3, 42, 27, 182, 0, 135, 133, 80, 167, 0, 6, 78, 4, 172, 3, 172]
abbrev dktX0_setLimit_0 : List UInt8 := dkwX0_setLimit_0 ++ []
theorem dksX0_setLimit_0 : cX0_setLimit.data.toList.drop 0 = dktX0_setLimit_0 := by decide +kernel
theorem dX0_setLimit_0 : decode cX0_setLimit 0 = .ok (.aload_n 2, 1) := dk_44 (dk_at dksX0_setLimit_0 0 rfl rfl)
theorem dX0_setLimit_1 : decode cX0_setLimit 1 = .ok (.iconst 0, 1) := dk_3 (dk_at dksX0_setLimit_0 1 rfl rfl)
theorem dX0_setLimit_2 : decode cX0_setLimit 2 = .ok (.aload_n 0, 1) := dk_42 (dk_at dksX0_setLimit_0 2 rfl rfl)
theorem dX0_setLimit_3 : decode cX0_setLimit 3 = .ok (.iload_n 1, 1) := dk_27 (dk_at dksX0_setLimit_0 3 rfl rfl)
theorem dX0_setLimit_4 : decode cX0_setLimit 4 = .ok (.invokevirtual 135, 3) := dk_182 0 135 (dk_at dksX0_setLimit_0 4 rfl rfl)
theorem dX0_setLimit_7 : decode cX0_setLimit 7 = .ok (.i2l, 1) := dk_133 (dk_at dksX0_setLimit_0 7 rfl rfl)
theorem dX0_setLimit_8 : decode cX0_setLimit 8 = .ok (.lastore, 1) := dk_80 (dk_at dksX0_setLimit_0 8 rfl rfl)
theorem dX0_setLimit_9 : decode cX0_setLimit 9 = .ok (.goto 6, 3) := dk_167 0 6 (dk_at dksX0_setLimit_0 9 rfl rfl)
theorem dX0_setLimit_12 : decode cX0_setLimit 12 = .ok (.astore_n 3, 1) := dk_78 (dk_at dksX0_setLimit_0 12 rfl rfl)
theorem dX0_setLimit_13 : decode cX0_setLimit 13 = .ok (.iconst 1, 1) := dk_4 (dk_at dksX0_setLimit_0 13 rfl rfl)
theorem dX0_setLimit_14 : decode cX0_setLimit 14 = .ok (.ireturn, 1) := dk_172 (dk_at dksX0_setLimit_0 14 rfl rfl)
theorem dX0_setLimit_15 : decode cX0_setLimit 15 = .ok (.iconst 0, 1) := dk_3 (dk_at dksX0_setLimit_0 15 rfl rfl)
theorem dX0_setLimit_16 : decode cX0_setLimit 16 = .ok (.ireturn, 1) := dk_172 (dk_at dksX0_setLimit_0 16 rfl rfl)
abbrev cX0_keep : ByteArray := method_39_code
def yX0_keep : MethodName := ⟨RX0, "keep", "(LMailSessions;I[J)I"⟩
def dkwX0_keep_0 : List UInt8 := [44, 3, 42, 27, 182, 0, 138, 133, 80, 167, 0, 6, 78, 4, 172, 3, 172]
abbrev dktX0_keep_0 : List UInt8 := dkwX0_keep_0 ++ []
theorem dksX0_keep_0 : cX0_keep.data.toList.drop 0 = dktX0_keep_0 := by decide +kernel
theorem dX0_keep_0 : decode cX0_keep 0 = .ok (.aload_n 2, 1) := dk_44 (dk_at dksX0_keep_0 0 rfl rfl)
theorem dX0_keep_1 : decode cX0_keep 1 = .ok (.iconst 0, 1) := dk_3 (dk_at dksX0_keep_0 1 rfl rfl)
theorem dX0_keep_2 : decode cX0_keep 2 = .ok (.aload_n 0, 1) := dk_42 (dk_at dksX0_keep_0 2 rfl rfl)
theorem dX0_keep_3 : decode cX0_keep 3 = .ok (.iload_n 1, 1) := dk_27 (dk_at dksX0_keep_0 3 rfl rfl)
theorem dX0_keep_4 : decode cX0_keep 4 = .ok (.invokevirtual 138, 3) := dk_182 0 138 (dk_at dksX0_keep_0 4 rfl rfl)
theorem dX0_keep_7 : decode cX0_keep 7 = .ok (.i2l, 1) := dk_133 (dk_at dksX0_keep_0 7 rfl rfl)
theorem dX0_keep_8 : decode cX0_keep 8 = .ok (.lastore, 1) := dk_80 (dk_at dksX0_keep_0 8 rfl rfl)
theorem dX0_keep_9 : decode cX0_keep 9 = .ok (.goto 6, 3) := dk_167 0 6 (dk_at dksX0_keep_0 9 rfl rfl)
theorem dX0_keep_12 : decode cX0_keep 12 = .ok (.astore_n 3, 1) := dk_78 (dk_at dksX0_keep_0 12 rfl rfl)
theorem dX0_keep_13 : decode cX0_keep 13 = .ok (.iconst 1, 1) := dk_4 (dk_at dksX0_keep_0 13 rfl rfl)
theorem dX0_keep_14 : decode cX0_keep 14 = .ok (.ireturn, 1) := dk_172 (dk_at dksX0_keep_0 14 rfl rfl)
theorem dX0_keep_15 : decode cX0_keep 15 = .ok (.iconst 0, 1) := dk_3 (dk_at dksX0_keep_0 15 rfl rfl)
theorem dX0_keep_16 : decode cX0_keep 16 = .ok (.ireturn, 1) := dk_172 (dk_at dksX0_keep_0 16 rfl rfl)
abbrev cX0_restore : ByteArray := method_40_code
def yX0_restore : MethodName := ⟨RX0, "restore", "(LMailSessions;I[J)I"⟩
def dkwX0_restore_0 : List UInt8 := [44, 3, 42, 27, 182, 0, 141, 133, 80, 167, 0, 9, 78, 4, 172, 78, 5, 172, 3, 172]
abbrev dktX0_restore_0 : List UInt8 := dkwX0_restore_0 ++ []
theorem dksX0_restore_0 : cX0_restore.data.toList.drop 0 = dktX0_restore_0 := by decide +kernel
theorem dX0_restore_0 : decode cX0_restore 0 = .ok (.aload_n 2, 1) := dk_44 (dk_at dksX0_restore_0 0 rfl rfl)
theorem dX0_restore_1 : decode cX0_restore 1 = .ok (.iconst 0, 1) := dk_3 (dk_at dksX0_restore_0 1 rfl rfl)
theorem dX0_restore_2 : decode cX0_restore 2 = .ok (.aload_n 0, 1) := dk_42 (dk_at dksX0_restore_0 2 rfl rfl)
theorem dX0_restore_3 : decode cX0_restore 3 = .ok (.iload_n 1, 1) := dk_27 (dk_at dksX0_restore_0 3 rfl rfl)
theorem dX0_restore_4 : decode cX0_restore 4 = .ok (.invokevirtual 141, 3) := dk_182 0 141 (dk_at dksX0_restore_0 4 rfl rfl)
theorem dX0_restore_7 : decode cX0_restore 7 = .ok (.i2l, 1) := dk_133 (dk_at dksX0_restore_0 7 rfl rfl)
theorem dX0_restore_8 : decode cX0_restore 8 = .ok (.lastore, 1) := dk_80 (dk_at dksX0_restore_0 8 rfl rfl)
theorem dX0_restore_9 : decode cX0_restore 9 = .ok (.goto 9, 3) := dk_167 0 9 (dk_at dksX0_restore_0 9 rfl rfl)
theorem dX0_restore_12 : decode cX0_restore 12 = .ok (.astore_n 3, 1) := dk_78 (dk_at dksX0_restore_0 12 rfl rfl)
theorem dX0_restore_13 : decode cX0_restore 13 = .ok (.iconst 1, 1) := dk_4 (dk_at dksX0_restore_0 13 rfl rfl)
theorem dX0_restore_14 : decode cX0_restore 14 = .ok (.ireturn, 1) := dk_172 (dk_at dksX0_restore_0 14 rfl rfl)
theorem dX0_restore_15 : decode cX0_restore 15 = .ok (.astore_n 3, 1) := dk_78 (dk_at dksX0_restore_0 15 rfl rfl)
theorem dX0_restore_16 : decode cX0_restore 16 = .ok (.iconst 2, 1) := dk_5 (dk_at dksX0_restore_0 16 rfl rfl)
theorem dX0_restore_17 : decode cX0_restore 17 = .ok (.ireturn, 1) := dk_172 (dk_at dksX0_restore_0 17 rfl rfl)
theorem dX0_restore_18 : decode cX0_restore 18 = .ok (.iconst 0, 1) := dk_3 (dk_at dksX0_restore_0 18 rfl rfl)
theorem dX0_restore_19 : decode cX0_restore 19 = .ok (.ireturn, 1) := dk_172 (dk_at dksX0_restore_0 19 rfl rfl)
abbrev cX0_undo : ByteArray := method_41_code
def yX0_undo : MethodName := ⟨RX0, "undo", "(LMailSessions;[J)I"⟩
def dkwX0_undo_0 : List UInt8 := [43, 3, 42, 182, 0, 144, 133, 80, 167, 0, 6, 77, 4, 172, 3, 172]
abbrev dktX0_undo_0 : List UInt8 := dkwX0_undo_0 ++ []
theorem dksX0_undo_0 : cX0_undo.data.toList.drop 0 = dktX0_undo_0 := by decide +kernel
theorem dX0_undo_0 : decode cX0_undo 0 = .ok (.aload_n 1, 1) := dk_43 (dk_at dksX0_undo_0 0 rfl rfl)
theorem dX0_undo_1 : decode cX0_undo 1 = .ok (.iconst 0, 1) := dk_3 (dk_at dksX0_undo_0 1 rfl rfl)
theorem dX0_undo_2 : decode cX0_undo 2 = .ok (.aload_n 0, 1) := dk_42 (dk_at dksX0_undo_0 2 rfl rfl)
theorem dX0_undo_3 : decode cX0_undo 3 = .ok (.invokevirtual 144, 3) := dk_182 0 144 (dk_at dksX0_undo_0 3 rfl rfl)
theorem dX0_undo_6 : decode cX0_undo 6 = .ok (.i2l, 1) := dk_133 (dk_at dksX0_undo_0 6 rfl rfl)
theorem dX0_undo_7 : decode cX0_undo 7 = .ok (.lastore, 1) := dk_80 (dk_at dksX0_undo_0 7 rfl rfl)
theorem dX0_undo_8 : decode cX0_undo 8 = .ok (.goto 6, 3) := dk_167 0 6 (dk_at dksX0_undo_0 8 rfl rfl)
theorem dX0_undo_11 : decode cX0_undo 11 = .ok (.astore_n 2, 1) := dk_77 (dk_at dksX0_undo_0 11 rfl rfl)
theorem dX0_undo_12 : decode cX0_undo 12 = .ok (.iconst 1, 1) := dk_4 (dk_at dksX0_undo_0 12 rfl rfl)
theorem dX0_undo_13 : decode cX0_undo 13 = .ok (.ireturn, 1) := dk_172 (dk_at dksX0_undo_0 13 rfl rfl)
theorem dX0_undo_14 : decode cX0_undo 14 = .ok (.iconst 0, 1) := dk_3 (dk_at dksX0_undo_0 14 rfl rfl)
theorem dX0_undo_15 : decode cX0_undo 15 = .ok (.ireturn, 1) := dk_172 (dk_at dksX0_undo_0 15 rfl rfl)
abbrev cX0_writeBox : ByteArray := method_42_code
def yX0_writeBox : MethodName := ⟨RX0, "writeBox", "(LMailSessions;I[J)I"⟩
def dkwX0_writeBox_0 : List UInt8 := [44, 3, 42, 27, 182, 0, 148, 133, 80, 167, 0, 6, 78, 4, 172, 3, 172]
abbrev dktX0_writeBox_0 : List UInt8 := dkwX0_writeBox_0 ++ []
theorem dksX0_writeBox_0 : cX0_writeBox.data.toList.drop 0 = dktX0_writeBox_0 := by decide +kernel
theorem dX0_writeBox_0 : decode cX0_writeBox 0 = .ok (.aload_n 2, 1) := dk_44 (dk_at dksX0_writeBox_0 0 rfl rfl)
theorem dX0_writeBox_1 : decode cX0_writeBox 1 = .ok (.iconst 0, 1) := dk_3 (dk_at dksX0_writeBox_0 1 rfl rfl)
theorem dX0_writeBox_2 : decode cX0_writeBox 2 = .ok (.aload_n 0, 1) := dk_42 (dk_at dksX0_writeBox_0 2 rfl rfl)
theorem dX0_writeBox_3 : decode cX0_writeBox 3 = .ok (.iload_n 1, 1) := dk_27 (dk_at dksX0_writeBox_0 3 rfl rfl)
theorem dX0_writeBox_4 : decode cX0_writeBox 4 = .ok (.invokevirtual 148, 3) := dk_182 0 148 (dk_at dksX0_writeBox_0 4 rfl rfl)
theorem dX0_writeBox_7 : decode cX0_writeBox 7 = .ok (.i2l, 1) := dk_133 (dk_at dksX0_writeBox_0 7 rfl rfl)
theorem dX0_writeBox_8 : decode cX0_writeBox 8 = .ok (.lastore, 1) := dk_80 (dk_at dksX0_writeBox_0 8 rfl rfl)
theorem dX0_writeBox_9 : decode cX0_writeBox 9 = .ok (.goto 6, 3) := dk_167 0 6 (dk_at dksX0_writeBox_0 9 rfl rfl)
theorem dX0_writeBox_12 : decode cX0_writeBox 12 = .ok (.astore_n 3, 1) := dk_78 (dk_at dksX0_writeBox_0 12 rfl rfl)
theorem dX0_writeBox_13 : decode cX0_writeBox 13 = .ok (.iconst 1, 1) := dk_4 (dk_at dksX0_writeBox_0 13 rfl rfl)
theorem dX0_writeBox_14 : decode cX0_writeBox 14 = .ok (.ireturn, 1) := dk_172 (dk_at dksX0_writeBox_0 14 rfl rfl)
theorem dX0_writeBox_15 : decode cX0_writeBox 15 = .ok (.iconst 0, 1) := dk_3 (dk_at dksX0_writeBox_0 15 rfl rfl)
theorem dX0_writeBox_16 : decode cX0_writeBox 16 = .ok (.ireturn, 1) := dk_172 (dk_at dksX0_writeBox_0 16 rfl rfl)
abbrev cX0_writeView : ByteArray := method_43_code
def yX0_writeView : MethodName := ⟨RX0, "writeView", "(LMailSessions;I[J)I"⟩
def dkwX0_writeView_0 : List UInt8 := [44, 3, 42, 27, 182, 0, 151, 133, 80, 167, 0, 6, 78, 4, 172, 3, 172]
abbrev dktX0_writeView_0 : List UInt8 := dkwX0_writeView_0 ++ []
theorem dksX0_writeView_0 : cX0_writeView.data.toList.drop 0 = dktX0_writeView_0 := by decide +kernel
theorem dX0_writeView_0 : decode cX0_writeView 0 = .ok (.aload_n 2, 1) := dk_44 (dk_at dksX0_writeView_0 0 rfl rfl)
theorem dX0_writeView_1 : decode cX0_writeView 1 = .ok (.iconst 0, 1) := dk_3 (dk_at dksX0_writeView_0 1 rfl rfl)
theorem dX0_writeView_2 : decode cX0_writeView 2 = .ok (.aload_n 0, 1) := dk_42 (dk_at dksX0_writeView_0 2 rfl rfl)
theorem dX0_writeView_3 : decode cX0_writeView 3 = .ok (.iload_n 1, 1) := dk_27 (dk_at dksX0_writeView_0 3 rfl rfl)
theorem dX0_writeView_4 : decode cX0_writeView 4 = .ok (.invokevirtual 151, 3) := dk_182 0 151 (dk_at dksX0_writeView_0 4 rfl rfl)
theorem dX0_writeView_7 : decode cX0_writeView 7 = .ok (.i2l, 1) := dk_133 (dk_at dksX0_writeView_0 7 rfl rfl)
theorem dX0_writeView_8 : decode cX0_writeView 8 = .ok (.lastore, 1) := dk_80 (dk_at dksX0_writeView_0 8 rfl rfl)
theorem dX0_writeView_9 : decode cX0_writeView 9 = .ok (.goto 6, 3) := dk_167 0 6 (dk_at dksX0_writeView_0 9 rfl rfl)
theorem dX0_writeView_12 : decode cX0_writeView 12 = .ok (.astore_n 3, 1) := dk_78 (dk_at dksX0_writeView_0 12 rfl rfl)
theorem dX0_writeView_13 : decode cX0_writeView 13 = .ok (.iconst 1, 1) := dk_4 (dk_at dksX0_writeView_0 13 rfl rfl)
theorem dX0_writeView_14 : decode cX0_writeView 14 = .ok (.ireturn, 1) := dk_172 (dk_at dksX0_writeView_0 14 rfl rfl)
theorem dX0_writeView_15 : decode cX0_writeView 15 = .ok (.iconst 0, 1) := dk_3 (dk_at dksX0_writeView_0 15 rfl rfl)
theorem dX0_writeView_16 : decode cX0_writeView 16 = .ok (.ireturn, 1) := dk_172 (dk_at dksX0_writeView_0 16 rfl rfl)
abbrev cX0_outputByte : ByteArray := method_44_code
def yX0_outputByte : MethodName := ⟨RX0, "outputByte", "(LMailSessions;I[J)I"⟩
def dkwX0_outputByte_0 : List UInt8 := [44, 3, 42, 27, 182, 0, 154, 133, 80, 167, 0, 6, 78, 4, 172, 3, 172]
abbrev dktX0_outputByte_0 : List UInt8 := dkwX0_outputByte_0 ++ []
theorem dksX0_outputByte_0 : cX0_outputByte.data.toList.drop 0 = dktX0_outputByte_0 := by decide +kernel
theorem dX0_outputByte_0 : decode cX0_outputByte 0 = .ok (.aload_n 2, 1) := dk_44 (dk_at dksX0_outputByte_0 0 rfl rfl)
theorem dX0_outputByte_1 : decode cX0_outputByte 1 = .ok (.iconst 0, 1) := dk_3 (dk_at dksX0_outputByte_0 1 rfl rfl)
theorem dX0_outputByte_2 : decode cX0_outputByte 2 = .ok (.aload_n 0, 1) := dk_42 (dk_at dksX0_outputByte_0 2 rfl rfl)
theorem dX0_outputByte_3 : decode cX0_outputByte 3 = .ok (.iload_n 1, 1) := dk_27 (dk_at dksX0_outputByte_0 3 rfl rfl)
theorem dX0_outputByte_4 : decode cX0_outputByte 4 = .ok (.invokevirtual 154, 3) := dk_182 0 154 (dk_at dksX0_outputByte_0 4 rfl rfl)
theorem dX0_outputByte_7 : decode cX0_outputByte 7 = .ok (.i2l, 1) := dk_133 (dk_at dksX0_outputByte_0 7 rfl rfl)
theorem dX0_outputByte_8 : decode cX0_outputByte 8 = .ok (.lastore, 1) := dk_80 (dk_at dksX0_outputByte_0 8 rfl rfl)
theorem dX0_outputByte_9 : decode cX0_outputByte 9 = .ok (.goto 6, 3) := dk_167 0 6 (dk_at dksX0_outputByte_0 9 rfl rfl)
theorem dX0_outputByte_12 : decode cX0_outputByte 12 = .ok (.astore_n 3, 1) := dk_78 (dk_at dksX0_outputByte_0 12 rfl rfl)
theorem dX0_outputByte_13 : decode cX0_outputByte 13 = .ok (.iconst 1, 1) := dk_4 (dk_at dksX0_outputByte_0 13 rfl rfl)
theorem dX0_outputByte_14 : decode cX0_outputByte 14 = .ok (.ireturn, 1) := dk_172 (dk_at dksX0_outputByte_0 14 rfl rfl)
theorem dX0_outputByte_15 : decode cX0_outputByte 15 = .ok (.iconst 0, 1) := dk_3 (dk_at dksX0_outputByte_0 15 rfl rfl)
theorem dX0_outputByte_16 : decode cX0_outputByte 16 = .ok (.ireturn, 1) := dk_172 (dk_at dksX0_outputByte_0 16 rfl rfl)
theorem q150 : (Jvm.Cond.initialized "MailSessionsLaw") ∈ lw_all := lw_g (lw_at lw_m1 0 rfl) rfl
theorem q188 : (Jvm.Cond.classLink "MailSessionsLaw" (8 : Nat) "MailSessions") ∈ lw_all := lw_g (lw_at lw_m1 38 rfl) rfl
theorem q190 : (Jvm.Cond.methodLink "MailSessionsLaw" (157 : Nat) ({ cls := "MailSessions", name := "<init>", desc := "()V" } : Jvm.MethodName)) ∈ lw_all := lw_g (lw_at lw_m1 40 rfl) rfl
theorem q621 : (Jvm.Cond.methodLink "MailSessionsLaw" (174 : Nat) ({ cls := "MailSessions", name := "load", desc := "()I" } : Jvm.MethodName)) ∈ lw_all := lw_g (lw_at lw_m2 231 rfl) rfl
theorem q1188 : (Jvm.Cond.methodLink "MailSessionsLaw" (178 : Nat) ({ cls := "MailSessions", name := "errorCode", desc := "()I" } : Jvm.MethodName)) ∈ lw_all := lw_g (lw_at lw_m5 78 rfl) rfl
theorem q1192 : (Jvm.Cond.methodLink "MailSessionsLaw" (182 : Nat) ({ cls := "MailSessions", name := "errorPosition", desc := "()I" } : Jvm.MethodName)) ∈ lw_all := lw_g (lw_at lw_m5 82 rfl) rfl
theorem q1196 : (Jvm.Cond.methodLink "MailSessionsLaw" (186 : Nat) ({ cls := "MailSessions", name := "findBox", desc := "()I" } : Jvm.MethodName)) ∈ lw_all := lw_g (lw_at lw_m5 86 rfl) rfl
theorem q1207 : (Jvm.Cond.methodLink "MailSessionsLaw" (190 : Nat) ({ cls := "MailSessions", name := "findSession", desc := "()I" } : Jvm.MethodName)) ∈ lw_all := lw_g (lw_at lw_m5 97 rfl) rfl
theorem q1212 : (Jvm.Cond.methodLink "MailSessionsLaw" (239 : Nat) ({ cls := "MailSessions", name := "stale", desc := "()I" } : Jvm.MethodName)) ∈ lw_all := lw_g (lw_at lw_m5 102 rfl) rfl
theorem q1276 : (Jvm.Cond.methodLink "MailSessionsLaw" (318 : Nat) ({ cls := "MailSessions", name := "undoCount", desc := "()I" } : Jvm.MethodName)) ∈ lw_all := lw_g (lw_at lw_m5 166 rfl) rfl
theorem q1280 : (Jvm.Cond.methodLink "MailSessionsLaw" (328 : Nat) ({ cls := "MailSessions", name := "writeNotices", desc := "()I" } : Jvm.MethodName)) ∈ lw_all := lw_g (lw_at lw_m5 170 rfl) rfl
theorem q1376 : (Jvm.Cond.methodLink "MailSessionsLaw" (161 : Nat) ({ cls := "MailSessionsLaw", name := "append", desc := "(LMailSessions;IIIII[J)I" } : Jvm.MethodName)) ∈ lw_all := lw_g (lw_at lw_m6 26 rfl) rfl
theorem q1377 : (Jvm.Cond.static ({ cls := "MailSessionsLaw", name := "append", desc := "(LMailSessions;IIIII[J)I" } : Jvm.MethodName)) ∈ lw_all := lw_g (lw_at lw_m6 27 rfl) rfl
theorem q1378 : (Jvm.Cond.codeWith ({ cls := "MailSessionsLaw", name := "append", desc := "(LMailSessions;IIIII[J)I" } : Jvm.MethodName) method_3_code (8 : Nat) (Option.some Jvm.ClassFile.FieldType.int) [((0 : Nat), (16 : Nat), (19 : Nat), (13 : Nat))]) ∈ lw_all := lw_g (lw_at lw_m6 28 rfl) rfl
theorem q1379 : (Jvm.Cond.classLink "MailSessionsLaw" (13 : Nat) "java/lang/IllegalStateException") ∈ lw_all := lw_g (lw_at lw_m6 29 rfl) rfl
theorem q1380 : (Jvm.Cond.methodLink "MailSessionsLaw" (7 : Nat) ({ cls := "MailSessions", name := "append", desc := "(IIIII)I" } : Jvm.MethodName)) ∈ lw_all := lw_g (lw_at lw_m6 30 rfl) rfl
theorem q1396 : (Jvm.Cond.methodLink "MailSessionsLaw" (170 : Nat) ({ cls := "MailSessionsLaw", name := "truncate", desc := "(LMailSessions;I)I" } : Jvm.MethodName)) ∈ lw_all := lw_g (lw_at lw_m6 46 rfl) rfl
theorem q1397 : (Jvm.Cond.static ({ cls := "MailSessionsLaw", name := "truncate", desc := "(LMailSessions;I)I" } : Jvm.MethodName)) ∈ lw_all := lw_g (lw_at lw_m6 47 rfl) rfl
theorem q1398 : (Jvm.Cond.codeWith ({ cls := "MailSessionsLaw", name := "truncate", desc := "(LMailSessions;I)I" } : Jvm.MethodName) method_4_code (3 : Nat) (Option.some Jvm.ClassFile.FieldType.int) [((0 : Nat), (5 : Nat), (8 : Nat), (19 : Nat))]) ∈ lw_all := lw_g (lw_at lw_m6 48 rfl) rfl
theorem q1399 : (Jvm.Cond.classLink "MailSessionsLaw" (19 : Nat) "java/lang/IllegalArgumentException") ∈ lw_all := lw_g (lw_at lw_m6 49 rfl) rfl
theorem q1400 : (Jvm.Cond.methodLink "MailSessionsLaw" (15 : Nat) ({ cls := "MailSessions", name := "truncate", desc := "(I)V" } : Jvm.MethodName)) ∈ lw_all := lw_g (lw_at lw_m6 50 rfl) rfl
theorem q1412 : (Jvm.Cond.methodLink "MailSessionsLaw" (194 : Nat) ({ cls := "MailSessionsLaw", name := "property", desc := "(LMailSessions;I[J)I" } : Jvm.MethodName)) ∈ lw_all := lw_g (lw_at lw_m6 62 rfl) rfl
theorem q1413 : (Jvm.Cond.static ({ cls := "MailSessionsLaw", name := "property", desc := "(LMailSessions;I[J)I" } : Jvm.MethodName)) ∈ lw_all := lw_g (lw_at lw_m6 63 rfl) rfl
theorem q1414 : (Jvm.Cond.codeWith ({ cls := "MailSessionsLaw", name := "property", desc := "(LMailSessions;I[J)I" } : Jvm.MethodName) method_5_code (4 : Nat) (Option.some Jvm.ClassFile.FieldType.int) [((0 : Nat), (9 : Nat), (12 : Nat), (19 : Nat))]) ∈ lw_all := lw_g (lw_at lw_m6 64 rfl) rfl
theorem q1415 : (Jvm.Cond.methodLink "MailSessionsLaw" (21 : Nat) ({ cls := "MailSessions", name := "property", desc := "(I)I" } : Jvm.MethodName)) ∈ lw_all := lw_g (lw_at lw_m6 65 rfl) rfl
theorem q1420 : (Jvm.Cond.methodLink "MailSessionsLaw" (198 : Nat) ({ cls := "MailSessionsLaw", name := "box", desc := "(LMailSessions;II[J)I" } : Jvm.MethodName)) ∈ lw_all := lw_g (lw_at lw_m6 70 rfl) rfl
theorem q1421 : (Jvm.Cond.static ({ cls := "MailSessionsLaw", name := "box", desc := "(LMailSessions;II[J)I" } : Jvm.MethodName)) ∈ lw_all := lw_g (lw_at lw_m6 71 rfl) rfl
theorem q1422 : (Jvm.Cond.codeWith ({ cls := "MailSessionsLaw", name := "box", desc := "(LMailSessions;II[J)I" } : Jvm.MethodName) method_6_code (5 : Nat) (Option.some Jvm.ClassFile.FieldType.int) [((0 : Nat), (10 : Nat), (13 : Nat), (29 : Nat)), ((0 : Nat), (10 : Nat), (17 : Nat), (19 : Nat))]) ∈ lw_all := lw_g (lw_at lw_m6 72 rfl) rfl
theorem q1423 : (Jvm.Cond.classLink "MailSessionsLaw" (29 : Nat) "java/lang/IndexOutOfBoundsException") ∈ lw_all := lw_g (lw_at lw_m6 73 rfl) rfl
theorem q1426 : (Jvm.Cond.methodLink "MailSessionsLaw" (25 : Nat) ({ cls := "MailSessions", name := "box", desc := "(II)I" } : Jvm.MethodName)) ∈ lw_all := lw_g (lw_at lw_m6 76 rfl) rfl
theorem q1475 : (Jvm.Cond.methodLink "MailSessionsLaw" (202 : Nat) ({ cls := "MailSessionsLaw", name := "message", desc := "(LMailSessions;III[J)I" } : Jvm.MethodName)) ∈ lw_all := lw_g (lw_at lw_m6 125 rfl) rfl
theorem q1476 : (Jvm.Cond.static ({ cls := "MailSessionsLaw", name := "message", desc := "(LMailSessions;III[J)I" } : Jvm.MethodName)) ∈ lw_all := lw_g (lw_at lw_m6 126 rfl) rfl
theorem q1477 : (Jvm.Cond.codeWith ({ cls := "MailSessionsLaw", name := "message", desc := "(LMailSessions;III[J)I" } : Jvm.MethodName) method_7_code (6 : Nat) (Option.some Jvm.ClassFile.FieldType.int) [((0 : Nat), (12 : Nat), (15 : Nat), (29 : Nat)), ((0 : Nat), (12 : Nat), (19 : Nat), (19 : Nat))]) ∈ lw_all := lw_g (lw_at lw_m6 127 rfl) rfl
theorem q1478 : (Jvm.Cond.methodLink "MailSessionsLaw" (31 : Nat) ({ cls := "MailSessions", name := "message", desc := "(III)I" } : Jvm.MethodName)) ∈ lw_all := lw_g (lw_at lw_m6 128 rfl) rfl
theorem q1484 : (Jvm.Cond.methodLink "MailSessionsLaw" (206 : Nat) ({ cls := "MailSessionsLaw", name := "indexOf", desc := "(LMailSessions;II[J)I" } : Jvm.MethodName)) ∈ lw_all := lw_g (lw_at lw_m6 134 rfl) rfl
theorem q1485 : (Jvm.Cond.static ({ cls := "MailSessionsLaw", name := "indexOf", desc := "(LMailSessions;II[J)I" } : Jvm.MethodName)) ∈ lw_all := lw_g (lw_at lw_m6 135 rfl) rfl
theorem q1486 : (Jvm.Cond.codeWith ({ cls := "MailSessionsLaw", name := "indexOf", desc := "(LMailSessions;II[J)I" } : Jvm.MethodName) method_8_code (5 : Nat) (Option.some Jvm.ClassFile.FieldType.int) [((0 : Nat), (10 : Nat), (13 : Nat), (29 : Nat))]) ∈ lw_all := lw_g (lw_at lw_m6 136 rfl) rfl
theorem q1487 : (Jvm.Cond.methodLink "MailSessionsLaw" (35 : Nat) ({ cls := "MailSessions", name := "indexOf", desc := "(II)I" } : Jvm.MethodName)) ∈ lw_all := lw_g (lw_at lw_m6 137 rfl) rfl
theorem q1492 : (Jvm.Cond.methodLink "MailSessionsLaw" (209 : Nat) ({ cls := "MailSessionsLaw", name := "session", desc := "(LMailSessions;II[J)I" } : Jvm.MethodName)) ∈ lw_all := lw_g (lw_at lw_m6 142 rfl) rfl
theorem q1493 : (Jvm.Cond.static ({ cls := "MailSessionsLaw", name := "session", desc := "(LMailSessions;II[J)I" } : Jvm.MethodName)) ∈ lw_all := lw_g (lw_at lw_m6 143 rfl) rfl
theorem q1494 : (Jvm.Cond.codeWith ({ cls := "MailSessionsLaw", name := "session", desc := "(LMailSessions;II[J)I" } : Jvm.MethodName) method_9_code (5 : Nat) (Option.some Jvm.ClassFile.FieldType.int) [((0 : Nat), (10 : Nat), (13 : Nat), (29 : Nat)), ((0 : Nat), (10 : Nat), (17 : Nat), (19 : Nat))]) ∈ lw_all := lw_g (lw_at lw_m6 144 rfl) rfl
theorem q1495 : (Jvm.Cond.methodLink "MailSessionsLaw" (38 : Nat) ({ cls := "MailSessions", name := "session", desc := "(II)I" } : Jvm.MethodName)) ∈ lw_all := lw_g (lw_at lw_m6 145 rfl) rfl
theorem q1508 : (Jvm.Cond.methodLink "MailSessionsLaw" (212 : Nat) ({ cls := "MailSessionsLaw", name := "entry", desc := "(LMailSessions;III[J)I" } : Jvm.MethodName)) ∈ lw_all := lw_g (lw_at lw_m6 158 rfl) rfl
theorem q1509 : (Jvm.Cond.static ({ cls := "MailSessionsLaw", name := "entry", desc := "(LMailSessions;III[J)I" } : Jvm.MethodName)) ∈ lw_all := lw_g (lw_at lw_m6 159 rfl) rfl
theorem q1510 : (Jvm.Cond.codeWith ({ cls := "MailSessionsLaw", name := "entry", desc := "(LMailSessions;III[J)I" } : Jvm.MethodName) method_10_code (6 : Nat) (Option.some Jvm.ClassFile.FieldType.int) [((0 : Nat), (12 : Nat), (15 : Nat), (29 : Nat)), ((0 : Nat), (12 : Nat), (19 : Nat), (19 : Nat))]) ∈ lw_all := lw_g (lw_at lw_m6 160 rfl) rfl
theorem q1511 : (Jvm.Cond.methodLink "MailSessionsLaw" (41 : Nat) ({ cls := "MailSessions", name := "entry", desc := "(III)I" } : Jvm.MethodName)) ∈ lw_all := lw_g (lw_at lw_m6 161 rfl) rfl
theorem q1519 : (Jvm.Cond.methodLink "MailSessionsLaw" (215 : Nat) ({ cls := "MailSessionsLaw", name := "numberOf", desc := "(LMailSessions;II[J)I" } : Jvm.MethodName)) ∈ lw_all := lw_g (lw_at lw_m6 169 rfl) rfl
theorem q1520 : (Jvm.Cond.static ({ cls := "MailSessionsLaw", name := "numberOf", desc := "(LMailSessions;II[J)I" } : Jvm.MethodName)) ∈ lw_all := lw_g (lw_at lw_m6 170 rfl) rfl
theorem q1521 : (Jvm.Cond.codeWith ({ cls := "MailSessionsLaw", name := "numberOf", desc := "(LMailSessions;II[J)I" } : Jvm.MethodName) method_11_code (5 : Nat) (Option.some Jvm.ClassFile.FieldType.int) [((0 : Nat), (10 : Nat), (13 : Nat), (29 : Nat))]) ∈ lw_all := lw_g (lw_at lw_m6 171 rfl) rfl
theorem q1522 : (Jvm.Cond.methodLink "MailSessionsLaw" (44 : Nat) ({ cls := "MailSessions", name := "numberOf", desc := "(II)I" } : Jvm.MethodName)) ∈ lw_all := lw_g (lw_at lw_m6 172 rfl) rfl
theorem q1533 : (Jvm.Cond.methodLink "MailSessionsLaw" (218 : Nat) ({ cls := "MailSessionsLaw", name := "numberThen", desc := "(LMailSessions;II[J)I" } : Jvm.MethodName)) ∈ lw_all := lw_g (lw_at lw_m6 183 rfl) rfl
theorem q1534 : (Jvm.Cond.static ({ cls := "MailSessionsLaw", name := "numberThen", desc := "(LMailSessions;II[J)I" } : Jvm.MethodName)) ∈ lw_all := lw_g (lw_at lw_m6 184 rfl) rfl
theorem q1535 : (Jvm.Cond.codeWith ({ cls := "MailSessionsLaw", name := "numberThen", desc := "(LMailSessions;II[J)I" } : Jvm.MethodName) method_12_code (5 : Nat) (Option.some Jvm.ClassFile.FieldType.int) [((0 : Nat), (10 : Nat), (13 : Nat), (29 : Nat))]) ∈ lw_all := lw_g (lw_at lw_m6 185 rfl) rfl
theorem q1536 : (Jvm.Cond.methodLink "MailSessionsLaw" (47 : Nat) ({ cls := "MailSessions", name := "numberThen", desc := "(II)I" } : Jvm.MethodName)) ∈ lw_all := lw_g (lw_at lw_m6 186 rfl) rfl
theorem q1540 : (Jvm.Cond.methodLink "MailSessionsLaw" (221 : Nat) ({ cls := "MailSessionsLaw", name := "pending", desc := "(LMailSessions;I[J)I" } : Jvm.MethodName)) ∈ lw_all := lw_g (lw_at lw_m6 190 rfl) rfl
theorem q1541 : (Jvm.Cond.static ({ cls := "MailSessionsLaw", name := "pending", desc := "(LMailSessions;I[J)I" } : Jvm.MethodName)) ∈ lw_all := lw_g (lw_at lw_m6 191 rfl) rfl
theorem q1542 : (Jvm.Cond.codeWith ({ cls := "MailSessionsLaw", name := "pending", desc := "(LMailSessions;I[J)I" } : Jvm.MethodName) method_13_code (4 : Nat) (Option.some Jvm.ClassFile.FieldType.int) [((0 : Nat), (9 : Nat), (12 : Nat), (29 : Nat))]) ∈ lw_all := lw_g (lw_at lw_m6 192 rfl) rfl
theorem q1543 : (Jvm.Cond.methodLink "MailSessionsLaw" (50 : Nat) ({ cls := "MailSessions", name := "pending", desc := "(I)I" } : Jvm.MethodName)) ∈ lw_all := lw_g (lw_at lw_m6 193 rfl) rfl
theorem q1547 : (Jvm.Cond.methodLink "MailSessionsLaw" (224 : Nat) ({ cls := "MailSessionsLaw", name := "isCurrent", desc := "(LMailSessions;I[J)I" } : Jvm.MethodName)) ∈ lw_all := lw_g (lw_at lw_m6 197 rfl) rfl
theorem q1548 : (Jvm.Cond.static ({ cls := "MailSessionsLaw", name := "isCurrent", desc := "(LMailSessions;I[J)I" } : Jvm.MethodName)) ∈ lw_all := lw_g (lw_at lw_m6 198 rfl) rfl
theorem q1549 : (Jvm.Cond.codeWith ({ cls := "MailSessionsLaw", name := "isCurrent", desc := "(LMailSessions;I[J)I" } : Jvm.MethodName) method_14_code (4 : Nat) (Option.some Jvm.ClassFile.FieldType.int) [((0 : Nat), (16 : Nat), (19 : Nat), (29 : Nat))]) ∈ lw_all := lw_g (lw_at lw_m6 199 rfl) rfl
theorem q1550 : (Jvm.Cond.methodLink "MailSessionsLaw" (53 : Nat) ({ cls := "MailSessions", name := "isCurrent", desc := "(I)Z" } : Jvm.MethodName)) ∈ lw_all := lw_g (lw_at lw_m6 200 rfl) rfl
theorem q1554 : (Jvm.Cond.methodLink "MailSessionsLaw" (227 : Nat) ({ cls := "MailSessionsLaw", name := "firstUnseen", desc := "(LMailSessions;I[J)I" } : Jvm.MethodName)) ∈ lw_all := lw_g (lw_at lw_m6 204 rfl) rfl
theorem q1555 : (Jvm.Cond.static ({ cls := "MailSessionsLaw", name := "firstUnseen", desc := "(LMailSessions;I[J)I" } : Jvm.MethodName)) ∈ lw_all := lw_g (lw_at lw_m6 205 rfl) rfl
theorem q1556 : (Jvm.Cond.codeWith ({ cls := "MailSessionsLaw", name := "firstUnseen", desc := "(LMailSessions;I[J)I" } : Jvm.MethodName) method_15_code (4 : Nat) (Option.some Jvm.ClassFile.FieldType.int) [((0 : Nat), (9 : Nat), (12 : Nat), (29 : Nat))]) ∈ lw_all := lw_g (lw_at lw_m6 206 rfl) rfl
theorem q1557 : (Jvm.Cond.methodLink "MailSessionsLaw" (57 : Nat) ({ cls := "MailSessions", name := "firstUnseen", desc := "(I)I" } : Jvm.MethodName)) ∈ lw_all := lw_g (lw_at lw_m6 207 rfl) rfl
theorem q1561 : (Jvm.Cond.methodLink "MailSessionsLaw" (230 : Nat) ({ cls := "MailSessionsLaw", name := "largest", desc := "(LMailSessions;I[J)I" } : Jvm.MethodName)) ∈ lw_all := lw_g (lw_at lw_m6 211 rfl) rfl
theorem q1562 : (Jvm.Cond.static ({ cls := "MailSessionsLaw", name := "largest", desc := "(LMailSessions;I[J)I" } : Jvm.MethodName)) ∈ lw_all := lw_g (lw_at lw_m6 212 rfl) rfl
theorem q1563 : (Jvm.Cond.codeWith ({ cls := "MailSessionsLaw", name := "largest", desc := "(LMailSessions;I[J)I" } : Jvm.MethodName) method_16_code (4 : Nat) (Option.some Jvm.ClassFile.FieldType.int) [((0 : Nat), (9 : Nat), (12 : Nat), (29 : Nat))]) ∈ lw_all := lw_g (lw_at lw_m6 213 rfl) rfl
theorem q1564 : (Jvm.Cond.methodLink "MailSessionsLaw" (60 : Nat) ({ cls := "MailSessions", name := "largest", desc := "(I)I" } : Jvm.MethodName)) ∈ lw_all := lw_g (lw_at lw_m6 214 rfl) rfl
theorem q1568 : (Jvm.Cond.methodLink "MailSessionsLaw" (233 : Nat) ({ cls := "MailSessionsLaw", name := "common", desc := "(LMailSessions;II[J)I" } : Jvm.MethodName)) ∈ lw_all := lw_g (lw_at lw_m6 218 rfl) rfl
theorem q1569 : (Jvm.Cond.static ({ cls := "MailSessionsLaw", name := "common", desc := "(LMailSessions;II[J)I" } : Jvm.MethodName)) ∈ lw_all := lw_g (lw_at lw_m6 219 rfl) rfl
theorem q1570 : (Jvm.Cond.codeWith ({ cls := "MailSessionsLaw", name := "common", desc := "(LMailSessions;II[J)I" } : Jvm.MethodName) method_17_code (5 : Nat) (Option.some Jvm.ClassFile.FieldType.int) [((0 : Nat), (10 : Nat), (13 : Nat), (29 : Nat))]) ∈ lw_all := lw_g (lw_at lw_m6 220 rfl) rfl
theorem q1571 : (Jvm.Cond.methodLink "MailSessionsLaw" (63 : Nat) ({ cls := "MailSessions", name := "common", desc := "(II)I" } : Jvm.MethodName)) ∈ lw_all := lw_g (lw_at lw_m6 221 rfl) rfl
theorem q1575 : (Jvm.Cond.methodLink "MailSessionsLaw" (236 : Nat) ({ cls := "MailSessionsLaw", name := "holders", desc := "(LMailSessions;II[J)I" } : Jvm.MethodName)) ∈ lw_all := lw_g (lw_at lw_m6 225 rfl) rfl
theorem q1576 : (Jvm.Cond.static ({ cls := "MailSessionsLaw", name := "holders", desc := "(LMailSessions;II[J)I" } : Jvm.MethodName)) ∈ lw_all := lw_g (lw_at lw_m6 226 rfl) rfl
theorem q1577 : (Jvm.Cond.codeWith ({ cls := "MailSessionsLaw", name := "holders", desc := "(LMailSessions;II[J)I" } : Jvm.MethodName) method_18_code (5 : Nat) (Option.some Jvm.ClassFile.FieldType.int) [((0 : Nat), (10 : Nat), (13 : Nat), (29 : Nat))]) ∈ lw_all := lw_g (lw_at lw_m6 227 rfl) rfl
theorem q1578 : (Jvm.Cond.methodLink "MailSessionsLaw" (66 : Nat) ({ cls := "MailSessions", name := "holders", desc := "(II)I" } : Jvm.MethodName)) ∈ lw_all := lw_g (lw_at lw_m6 228 rfl) rfl
theorem q1582 : (Jvm.Cond.methodLink "MailSessionsLaw" (243 : Nat) ({ cls := "MailSessionsLaw", name := "unseen", desc := "(LMailSessions;I[D)I" } : Jvm.MethodName)) ∈ lw_all := lw_g (lw_at lw_m6 232 rfl) rfl
theorem q1583 : (Jvm.Cond.static ({ cls := "MailSessionsLaw", name := "unseen", desc := "(LMailSessions;I[D)I" } : Jvm.MethodName)) ∈ lw_all := lw_g (lw_at lw_m6 233 rfl) rfl
theorem q1584 : (Jvm.Cond.codeWith ({ cls := "MailSessionsLaw", name := "unseen", desc := "(LMailSessions;I[D)I" } : Jvm.MethodName) method_19_code (4 : Nat) (Option.some Jvm.ClassFile.FieldType.int) [((0 : Nat), (9 : Nat), (12 : Nat), (29 : Nat))]) ∈ lw_all := lw_g (lw_at lw_m6 234 rfl) rfl
theorem q1585 : (Jvm.Cond.methodLink "MailSessionsLaw" (69 : Nat) ({ cls := "MailSessions", name := "unseen", desc := "(I)F" } : Jvm.MethodName)) ∈ lw_all := lw_g (lw_at lw_m6 235 rfl) rfl
theorem q1593 : (Jvm.Cond.methodLink "MailSessionsLaw" (247 : Nat) ({ cls := "MailSessionsLaw", name := "mean", desc := "(LMailSessions;I[D)I" } : Jvm.MethodName)) ∈ lw_all := lw_g (lw_at lw_m7 3 rfl) rfl
theorem q1594 : (Jvm.Cond.static ({ cls := "MailSessionsLaw", name := "mean", desc := "(LMailSessions;I[D)I" } : Jvm.MethodName)) ∈ lw_all := lw_g (lw_at lw_m7 4 rfl) rfl
theorem q1595 : (Jvm.Cond.codeWith ({ cls := "MailSessionsLaw", name := "mean", desc := "(LMailSessions;I[D)I" } : Jvm.MethodName) method_20_code (4 : Nat) (Option.some Jvm.ClassFile.FieldType.int) [((0 : Nat), (8 : Nat), (11 : Nat), (29 : Nat))]) ∈ lw_all := lw_g (lw_at lw_m7 5 rfl) rfl
theorem q1596 : (Jvm.Cond.methodLink "MailSessionsLaw" (73 : Nat) ({ cls := "MailSessions", name := "mean", desc := "(I)D" } : Jvm.MethodName)) ∈ lw_all := lw_g (lw_at lw_m7 6 rfl) rfl
theorem q1600 : (Jvm.Cond.methodLink "MailSessionsLaw" (250 : Nat) ({ cls := "MailSessionsLaw", name := "account", desc := "(LMailSessions;II[J)I" } : Jvm.MethodName)) ∈ lw_all := lw_g (lw_at lw_m7 10 rfl) rfl
theorem q1601 : (Jvm.Cond.static ({ cls := "MailSessionsLaw", name := "account", desc := "(LMailSessions;II[J)I" } : Jvm.MethodName)) ∈ lw_all := lw_g (lw_at lw_m7 11 rfl) rfl
theorem q1602 : (Jvm.Cond.codeWith ({ cls := "MailSessionsLaw", name := "account", desc := "(LMailSessions;II[J)I" } : Jvm.MethodName) method_21_code (5 : Nat) (Option.some Jvm.ClassFile.FieldType.int) [((0 : Nat), (10 : Nat), (13 : Nat), (29 : Nat)), ((0 : Nat), (10 : Nat), (17 : Nat), (19 : Nat))]) ∈ lw_all := lw_g (lw_at lw_m7 12 rfl) rfl
theorem q1603 : (Jvm.Cond.methodLink "MailSessionsLaw" (77 : Nat) ({ cls := "MailSessions", name := "account", desc := "(II)I" } : Jvm.MethodName)) ∈ lw_all := lw_g (lw_at lw_m7 13 rfl) rfl
theorem q1607 : (Jvm.Cond.methodLink "MailSessionsLaw" (253 : Nat) ({ cls := "MailSessionsLaw", name := "notice", desc := "(LMailSessions;II[J)I" } : Jvm.MethodName)) ∈ lw_all := lw_g (lw_at lw_m7 17 rfl) rfl
theorem q1608 : (Jvm.Cond.static ({ cls := "MailSessionsLaw", name := "notice", desc := "(LMailSessions;II[J)I" } : Jvm.MethodName)) ∈ lw_all := lw_g (lw_at lw_m7 18 rfl) rfl
theorem q1609 : (Jvm.Cond.codeWith ({ cls := "MailSessionsLaw", name := "notice", desc := "(LMailSessions;II[J)I" } : Jvm.MethodName) method_22_code (5 : Nat) (Option.some Jvm.ClassFile.FieldType.int) [((0 : Nat), (10 : Nat), (13 : Nat), (19 : Nat)), ((0 : Nat), (10 : Nat), (17 : Nat), (83 : Nat))]) ∈ lw_all := lw_g (lw_at lw_m7 19 rfl) rfl
theorem q1610 : (Jvm.Cond.classLink "MailSessionsLaw" (83 : Nat) "java/util/NoSuchElementException") ∈ lw_all := lw_g (lw_at lw_m7 20 rfl) rfl
theorem q1611 : (Jvm.Cond.methodLink "MailSessionsLaw" (80 : Nat) ({ cls := "MailSessions", name := "notice", desc := "(II)I" } : Jvm.MethodName)) ∈ lw_all := lw_g (lw_at lw_m7 21 rfl) rfl
theorem q1625 : (Jvm.Cond.methodLink "MailSessionsLaw" (256 : Nat) ({ cls := "MailSessionsLaw", name := "searchBox", desc := "(LMailSessions;I[J)I" } : Jvm.MethodName)) ∈ lw_all := lw_g (lw_at lw_m7 35 rfl) rfl
theorem q1626 : (Jvm.Cond.static ({ cls := "MailSessionsLaw", name := "searchBox", desc := "(LMailSessions;I[J)I" } : Jvm.MethodName)) ∈ lw_all := lw_g (lw_at lw_m7 36 rfl) rfl
theorem q1627 : (Jvm.Cond.codeWith ({ cls := "MailSessionsLaw", name := "searchBox", desc := "(LMailSessions;I[J)I" } : Jvm.MethodName) method_23_code (4 : Nat) (Option.some Jvm.ClassFile.FieldType.int) [((0 : Nat), (9 : Nat), (12 : Nat), (29 : Nat))]) ∈ lw_all := lw_g (lw_at lw_m7 37 rfl) rfl
theorem q1628 : (Jvm.Cond.methodLink "MailSessionsLaw" (85 : Nat) ({ cls := "MailSessions", name := "searchBox", desc := "(I)I" } : Jvm.MethodName)) ∈ lw_all := lw_g (lw_at lw_m7 38 rfl) rfl
theorem q1686 : (Jvm.Cond.methodLink "MailSessionsLaw" (259 : Nat) ({ cls := "MailSessionsLaw", name := "select", desc := "(LMailSessions;IIZ[J)I" } : Jvm.MethodName)) ∈ lw_all := lw_g (lw_at lw_m7 96 rfl) rfl
theorem q1687 : (Jvm.Cond.static ({ cls := "MailSessionsLaw", name := "select", desc := "(LMailSessions;IIZ[J)I" } : Jvm.MethodName)) ∈ lw_all := lw_g (lw_at lw_m7 97 rfl) rfl
theorem q1688 : (Jvm.Cond.codeWith ({ cls := "MailSessionsLaw", name := "select", desc := "(LMailSessions;IIZ[J)I" } : Jvm.MethodName) method_24_code (6 : Nat) (Option.some Jvm.ClassFile.FieldType.int) [((0 : Nat), (12 : Nat), (15 : Nat), (29 : Nat)), ((0 : Nat), (12 : Nat), (19 : Nat), (13 : Nat))]) ∈ lw_all := lw_g (lw_at lw_m7 98 rfl) rfl
theorem q1689 : (Jvm.Cond.methodLink "MailSessionsLaw" (88 : Nat) ({ cls := "MailSessions", name := "select", desc := "(IIZ)I" } : Jvm.MethodName)) ∈ lw_all := lw_g (lw_at lw_m7 99 rfl) rfl
theorem q1767 : (Jvm.Cond.methodLink "MailSessionsLaw" (263 : Nat) ({ cls := "MailSessionsLaw", name := "noop", desc := "(LMailSessions;I[J)I" } : Jvm.MethodName)) ∈ lw_all := lw_g (lw_at lw_m7 177 rfl) rfl
theorem q1768 : (Jvm.Cond.static ({ cls := "MailSessionsLaw", name := "noop", desc := "(LMailSessions;I[J)I" } : Jvm.MethodName)) ∈ lw_all := lw_g (lw_at lw_m7 178 rfl) rfl
theorem q1769 : (Jvm.Cond.codeWith ({ cls := "MailSessionsLaw", name := "noop", desc := "(LMailSessions;I[J)I" } : Jvm.MethodName) method_25_code (4 : Nat) (Option.some Jvm.ClassFile.FieldType.int) [((0 : Nat), (9 : Nat), (12 : Nat), (29 : Nat)), ((0 : Nat), (9 : Nat), (15 : Nat), (13 : Nat))]) ∈ lw_all := lw_g (lw_at lw_m7 179 rfl) rfl
theorem q1770 : (Jvm.Cond.methodLink "MailSessionsLaw" (92 : Nat) ({ cls := "MailSessions", name := "noop", desc := "(I)I" } : Jvm.MethodName)) ∈ lw_all := lw_g (lw_at lw_m7 180 rfl) rfl
theorem q1782 : (Jvm.Cond.methodLink "MailSessionsLaw" (266 : Nat) ({ cls := "MailSessionsLaw", name := "startIdle", desc := "(LMailSessions;I[J)I" } : Jvm.MethodName)) ∈ lw_all := lw_g (lw_at lw_m7 192 rfl) rfl
theorem q1783 : (Jvm.Cond.static ({ cls := "MailSessionsLaw", name := "startIdle", desc := "(LMailSessions;I[J)I" } : Jvm.MethodName)) ∈ lw_all := lw_g (lw_at lw_m7 193 rfl) rfl
theorem q1784 : (Jvm.Cond.codeWith ({ cls := "MailSessionsLaw", name := "startIdle", desc := "(LMailSessions;I[J)I" } : Jvm.MethodName) method_26_code (4 : Nat) (Option.some Jvm.ClassFile.FieldType.int) [((0 : Nat), (9 : Nat), (12 : Nat), (29 : Nat)), ((0 : Nat), (9 : Nat), (15 : Nat), (13 : Nat))]) ∈ lw_all := lw_g (lw_at lw_m7 194 rfl) rfl
theorem q1785 : (Jvm.Cond.methodLink "MailSessionsLaw" (95 : Nat) ({ cls := "MailSessions", name := "startIdle", desc := "(I)I" } : Jvm.MethodName)) ∈ lw_all := lw_g (lw_at lw_m7 195 rfl) rfl
theorem q1789 : (Jvm.Cond.methodLink "MailSessionsLaw" (269 : Nat) ({ cls := "MailSessionsLaw", name := "stopIdle", desc := "(LMailSessions;I[J)I" } : Jvm.MethodName)) ∈ lw_all := lw_g (lw_at lw_m7 199 rfl) rfl
theorem q1790 : (Jvm.Cond.static ({ cls := "MailSessionsLaw", name := "stopIdle", desc := "(LMailSessions;I[J)I" } : Jvm.MethodName)) ∈ lw_all := lw_g (lw_at lw_m7 200 rfl) rfl
theorem q1791 : (Jvm.Cond.codeWith ({ cls := "MailSessionsLaw", name := "stopIdle", desc := "(LMailSessions;I[J)I" } : Jvm.MethodName) method_27_code (4 : Nat) (Option.some Jvm.ClassFile.FieldType.int) [((0 : Nat), (9 : Nat), (12 : Nat), (29 : Nat)), ((0 : Nat), (9 : Nat), (15 : Nat), (13 : Nat))]) ∈ lw_all := lw_g (lw_at lw_m7 201 rfl) rfl
theorem q1792 : (Jvm.Cond.methodLink "MailSessionsLaw" (98 : Nat) ({ cls := "MailSessions", name := "stopIdle", desc := "(I)I" } : Jvm.MethodName)) ∈ lw_all := lw_g (lw_at lw_m7 202 rfl) rfl
theorem q1796 : (Jvm.Cond.methodLink "MailSessionsLaw" (272 : Nat) ({ cls := "MailSessionsLaw", name := "fetch", desc := "(LMailSessions;IIIZ[J)I" } : Jvm.MethodName)) ∈ lw_all := lw_g (lw_at lw_m7 206 rfl) rfl
theorem q1797 : (Jvm.Cond.static ({ cls := "MailSessionsLaw", name := "fetch", desc := "(LMailSessions;IIIZ[J)I" } : Jvm.MethodName)) ∈ lw_all := lw_g (lw_at lw_m7 207 rfl) rfl
theorem q1798 : (Jvm.Cond.codeWith ({ cls := "MailSessionsLaw", name := "fetch", desc := "(LMailSessions;IIIZ[J)I" } : Jvm.MethodName) method_28_code (7 : Nat) (Option.some Jvm.ClassFile.FieldType.int) [((0 : Nat), (14 : Nat), (17 : Nat), (29 : Nat)), ((0 : Nat), (14 : Nat), (21 : Nat), (19 : Nat)), ((0 : Nat), (14 : Nat), (25 : Nat), (13 : Nat))]) ∈ lw_all := lw_g (lw_at lw_m7 208 rfl) rfl
theorem q1799 : (Jvm.Cond.methodLink "MailSessionsLaw" (101 : Nat) ({ cls := "MailSessions", name := "fetch", desc := "(IIIZ)I" } : Jvm.MethodName)) ∈ lw_all := lw_g (lw_at lw_m7 209 rfl) rfl
theorem q1839 : (Jvm.Cond.methodLink "MailSessionsLaw" (276 : Nat) ({ cls := "MailSessionsLaw", name := "store", desc := "(LMailSessions;IIIIIZ[J)I" } : Jvm.MethodName)) ∈ lw_all := lw_g (lw_at lw_m8 9 rfl) rfl
theorem q1840 : (Jvm.Cond.static ({ cls := "MailSessionsLaw", name := "store", desc := "(LMailSessions;IIIIIZ[J)I" } : Jvm.MethodName)) ∈ lw_all := lw_g (lw_at lw_m8 10 rfl) rfl
theorem q1841 : (Jvm.Cond.codeWith ({ cls := "MailSessionsLaw", name := "store", desc := "(LMailSessions;IIIIIZ[J)I" } : Jvm.MethodName) method_29_code (9 : Nat) (Option.some Jvm.ClassFile.FieldType.int) [((0 : Nat), (18 : Nat), (21 : Nat), (29 : Nat)), ((0 : Nat), (18 : Nat), (25 : Nat), (19 : Nat)), ((0 : Nat), (18 : Nat), (29 : Nat), (13 : Nat))]) ∈ lw_all := lw_g (lw_at lw_m8 11 rfl) rfl
theorem q1842 : (Jvm.Cond.methodLink "MailSessionsLaw" (105 : Nat) ({ cls := "MailSessions", name := "store", desc := "(IIIIIZ)I" } : Jvm.MethodName)) ∈ lw_all := lw_g (lw_at lw_m8 12 rfl) rfl
theorem q1864 : (Jvm.Cond.methodLink "MailSessionsLaw" (280 : Nat) ({ cls := "MailSessionsLaw", name := "uidStore", desc := "(LMailSessions;IIIII[J)I" } : Jvm.MethodName)) ∈ lw_all := lw_g (lw_at lw_m8 34 rfl) rfl
theorem q1865 : (Jvm.Cond.static ({ cls := "MailSessionsLaw", name := "uidStore", desc := "(LMailSessions;IIIII[J)I" } : Jvm.MethodName)) ∈ lw_all := lw_g (lw_at lw_m8 35 rfl) rfl
theorem q1866 : (Jvm.Cond.codeWith ({ cls := "MailSessionsLaw", name := "uidStore", desc := "(LMailSessions;IIIII[J)I" } : Jvm.MethodName) method_30_code (8 : Nat) (Option.some Jvm.ClassFile.FieldType.int) [((0 : Nat), (16 : Nat), (19 : Nat), (29 : Nat)), ((0 : Nat), (16 : Nat), (23 : Nat), (19 : Nat)), ((0 : Nat), (16 : Nat), (27 : Nat), (13 : Nat))]) ∈ lw_all := lw_g (lw_at lw_m8 36 rfl) rfl
theorem q1867 : (Jvm.Cond.methodLink "MailSessionsLaw" (109 : Nat) ({ cls := "MailSessions", name := "uidStore", desc := "(IIIII)I" } : Jvm.MethodName)) ∈ lw_all := lw_g (lw_at lw_m8 37 rfl) rfl
theorem q1872 : (Jvm.Cond.methodLink "MailSessionsLaw" (283 : Nat) ({ cls := "MailSessionsLaw", name := "search", desc := "(LMailSessions;I[J)I" } : Jvm.MethodName)) ∈ lw_all := lw_g (lw_at lw_m8 42 rfl) rfl
theorem q1873 : (Jvm.Cond.static ({ cls := "MailSessionsLaw", name := "search", desc := "(LMailSessions;I[J)I" } : Jvm.MethodName)) ∈ lw_all := lw_g (lw_at lw_m8 43 rfl) rfl
theorem q1874 : (Jvm.Cond.codeWith ({ cls := "MailSessionsLaw", name := "search", desc := "(LMailSessions;I[J)I" } : Jvm.MethodName) method_31_code (4 : Nat) (Option.some Jvm.ClassFile.FieldType.int) [((0 : Nat), (8 : Nat), (11 : Nat), (29 : Nat)), ((0 : Nat), (8 : Nat), (14 : Nat), (13 : Nat))]) ∈ lw_all := lw_g (lw_at lw_m8 44 rfl) rfl
theorem q1875 : (Jvm.Cond.methodLink "MailSessionsLaw" (112 : Nat) ({ cls := "MailSessions", name := "search", desc := "(I)J" } : Jvm.MethodName)) ∈ lw_all := lw_g (lw_at lw_m8 45 rfl) rfl
theorem q1880 : (Jvm.Cond.methodLink "MailSessionsLaw" (286 : Nat) ({ cls := "MailSessionsLaw", name := "expunge", desc := "(LMailSessions;I[J)I" } : Jvm.MethodName)) ∈ lw_all := lw_g (lw_at lw_m8 50 rfl) rfl
theorem q1881 : (Jvm.Cond.static ({ cls := "MailSessionsLaw", name := "expunge", desc := "(LMailSessions;I[J)I" } : Jvm.MethodName)) ∈ lw_all := lw_g (lw_at lw_m8 51 rfl) rfl
theorem q1882 : (Jvm.Cond.codeWith ({ cls := "MailSessionsLaw", name := "expunge", desc := "(LMailSessions;I[J)I" } : Jvm.MethodName) method_32_code (4 : Nat) (Option.some Jvm.ClassFile.FieldType.int) [((0 : Nat), (9 : Nat), (12 : Nat), (29 : Nat)), ((0 : Nat), (9 : Nat), (15 : Nat), (13 : Nat))]) ∈ lw_all := lw_g (lw_at lw_m8 52 rfl) rfl
theorem q1883 : (Jvm.Cond.methodLink "MailSessionsLaw" (116 : Nat) ({ cls := "MailSessions", name := "expunge", desc := "(I)I" } : Jvm.MethodName)) ∈ lw_all := lw_g (lw_at lw_m8 53 rfl) rfl
theorem q1904 : (Jvm.Cond.methodLink "MailSessionsLaw" (289 : Nat) ({ cls := "MailSessionsLaw", name := "uidExpunge", desc := "(LMailSessions;III[J)I" } : Jvm.MethodName)) ∈ lw_all := lw_g (lw_at lw_m8 74 rfl) rfl
theorem q1905 : (Jvm.Cond.static ({ cls := "MailSessionsLaw", name := "uidExpunge", desc := "(LMailSessions;III[J)I" } : Jvm.MethodName)) ∈ lw_all := lw_g (lw_at lw_m8 75 rfl) rfl
theorem q1906 : (Jvm.Cond.codeWith ({ cls := "MailSessionsLaw", name := "uidExpunge", desc := "(LMailSessions;III[J)I" } : Jvm.MethodName) method_33_code (6 : Nat) (Option.some Jvm.ClassFile.FieldType.int) [((0 : Nat), (12 : Nat), (15 : Nat), (29 : Nat)), ((0 : Nat), (12 : Nat), (19 : Nat), (13 : Nat))]) ∈ lw_all := lw_g (lw_at lw_m8 76 rfl) rfl
theorem q1907 : (Jvm.Cond.methodLink "MailSessionsLaw" (119 : Nat) ({ cls := "MailSessions", name := "uidExpunge", desc := "(III)I" } : Jvm.MethodName)) ∈ lw_all := lw_g (lw_at lw_m8 77 rfl) rfl
theorem q1912 : (Jvm.Cond.methodLink "MailSessionsLaw" (292 : Nat) ({ cls := "MailSessionsLaw", name := "copy", desc := "(LMailSessions;IIII[J)I" } : Jvm.MethodName)) ∈ lw_all := lw_g (lw_at lw_m8 82 rfl) rfl
theorem q1913 : (Jvm.Cond.static ({ cls := "MailSessionsLaw", name := "copy", desc := "(LMailSessions;IIII[J)I" } : Jvm.MethodName)) ∈ lw_all := lw_g (lw_at lw_m8 83 rfl) rfl
theorem q1914 : (Jvm.Cond.codeWith ({ cls := "MailSessionsLaw", name := "copy", desc := "(LMailSessions;IIII[J)I" } : Jvm.MethodName) method_34_code (7 : Nat) (Option.some Jvm.ClassFile.FieldType.int) [((0 : Nat), (14 : Nat), (17 : Nat), (29 : Nat)), ((0 : Nat), (14 : Nat), (21 : Nat), (19 : Nat)), ((0 : Nat), (14 : Nat), (25 : Nat), (13 : Nat))]) ∈ lw_all := lw_g (lw_at lw_m8 84 rfl) rfl
theorem q1915 : (Jvm.Cond.methodLink "MailSessionsLaw" (122 : Nat) ({ cls := "MailSessions", name := "copy", desc := "(IIII)I" } : Jvm.MethodName)) ∈ lw_all := lw_g (lw_at lw_m8 85 rfl) rfl
theorem q1930 : (Jvm.Cond.methodLink "MailSessionsLaw" (296 : Nat) ({ cls := "MailSessionsLaw", name := "move", desc := "(LMailSessions;IIII[J)I" } : Jvm.MethodName)) ∈ lw_all := lw_g (lw_at lw_m8 100 rfl) rfl
theorem q1931 : (Jvm.Cond.static ({ cls := "MailSessionsLaw", name := "move", desc := "(LMailSessions;IIII[J)I" } : Jvm.MethodName)) ∈ lw_all := lw_g (lw_at lw_m8 101 rfl) rfl
theorem q1932 : (Jvm.Cond.codeWith ({ cls := "MailSessionsLaw", name := "move", desc := "(LMailSessions;IIII[J)I" } : Jvm.MethodName) method_35_code (7 : Nat) (Option.some Jvm.ClassFile.FieldType.int) [((0 : Nat), (14 : Nat), (17 : Nat), (29 : Nat)), ((0 : Nat), (14 : Nat), (21 : Nat), (19 : Nat)), ((0 : Nat), (14 : Nat), (25 : Nat), (13 : Nat))]) ∈ lw_all := lw_g (lw_at lw_m8 102 rfl) rfl
theorem q1933 : (Jvm.Cond.methodLink "MailSessionsLaw" (126 : Nat) ({ cls := "MailSessions", name := "move", desc := "(IIII)I" } : Jvm.MethodName)) ∈ lw_all := lw_g (lw_at lw_m8 103 rfl) rfl
theorem q1937 : (Jvm.Cond.methodLink "MailSessionsLaw" (299 : Nat) ({ cls := "MailSessionsLaw", name := "close", desc := "(LMailSessions;I[J)I" } : Jvm.MethodName)) ∈ lw_all := lw_g (lw_at lw_m8 107 rfl) rfl
theorem q1938 : (Jvm.Cond.static ({ cls := "MailSessionsLaw", name := "close", desc := "(LMailSessions;I[J)I" } : Jvm.MethodName)) ∈ lw_all := lw_g (lw_at lw_m8 108 rfl) rfl
theorem q1939 : (Jvm.Cond.codeWith ({ cls := "MailSessionsLaw", name := "close", desc := "(LMailSessions;I[J)I" } : Jvm.MethodName) method_36_code (4 : Nat) (Option.some Jvm.ClassFile.FieldType.int) [((0 : Nat), (9 : Nat), (12 : Nat), (29 : Nat)), ((0 : Nat), (9 : Nat), (15 : Nat), (13 : Nat))]) ∈ lw_all := lw_g (lw_at lw_m8 109 rfl) rfl
theorem q1940 : (Jvm.Cond.methodLink "MailSessionsLaw" (129 : Nat) ({ cls := "MailSessions", name := "close", desc := "(I)I" } : Jvm.MethodName)) ∈ lw_all := lw_g (lw_at lw_m8 110 rfl) rfl
theorem q1945 : (Jvm.Cond.methodLink "MailSessionsLaw" (302 : Nat) ({ cls := "MailSessionsLaw", name := "deliver", desc := "(LMailSessions;III[J)I" } : Jvm.MethodName)) ∈ lw_all := lw_g (lw_at lw_m8 115 rfl) rfl
theorem q1946 : (Jvm.Cond.static ({ cls := "MailSessionsLaw", name := "deliver", desc := "(LMailSessions;III[J)I" } : Jvm.MethodName)) ∈ lw_all := lw_g (lw_at lw_m8 116 rfl) rfl
theorem q1947 : (Jvm.Cond.codeWith ({ cls := "MailSessionsLaw", name := "deliver", desc := "(LMailSessions;III[J)I" } : Jvm.MethodName) method_37_code (6 : Nat) (Option.some Jvm.ClassFile.FieldType.int) [((0 : Nat), (12 : Nat), (15 : Nat), (29 : Nat)), ((0 : Nat), (12 : Nat), (19 : Nat), (19 : Nat)), ((0 : Nat), (12 : Nat), (23 : Nat), (13 : Nat))]) ∈ lw_all := lw_g (lw_at lw_m8 117 rfl) rfl
theorem q1948 : (Jvm.Cond.methodLink "MailSessionsLaw" (132 : Nat) ({ cls := "MailSessions", name := "deliver", desc := "(III)I" } : Jvm.MethodName)) ∈ lw_all := lw_g (lw_at lw_m8 118 rfl) rfl
theorem q1955 : (Jvm.Cond.methodLink "MailSessionsLaw" (305 : Nat) ({ cls := "MailSessionsLaw", name := "setLimit", desc := "(LMailSessions;I[J)I" } : Jvm.MethodName)) ∈ lw_all := lw_g (lw_at lw_m8 125 rfl) rfl
theorem q1956 : (Jvm.Cond.static ({ cls := "MailSessionsLaw", name := "setLimit", desc := "(LMailSessions;I[J)I" } : Jvm.MethodName)) ∈ lw_all := lw_g (lw_at lw_m8 126 rfl) rfl
theorem q1957 : (Jvm.Cond.codeWith ({ cls := "MailSessionsLaw", name := "setLimit", desc := "(LMailSessions;I[J)I" } : Jvm.MethodName) method_38_code (4 : Nat) (Option.some Jvm.ClassFile.FieldType.int) [((0 : Nat), (9 : Nat), (12 : Nat), (19 : Nat))]) ∈ lw_all := lw_g (lw_at lw_m8 127 rfl) rfl
theorem q1958 : (Jvm.Cond.methodLink "MailSessionsLaw" (135 : Nat) ({ cls := "MailSessions", name := "setLimit", desc := "(I)I" } : Jvm.MethodName)) ∈ lw_all := lw_g (lw_at lw_m8 128 rfl) rfl
theorem q1963 : (Jvm.Cond.methodLink "MailSessionsLaw" (308 : Nat) ({ cls := "MailSessionsLaw", name := "keep", desc := "(LMailSessions;I[J)I" } : Jvm.MethodName)) ∈ lw_all := lw_g (lw_at lw_m8 133 rfl) rfl
theorem q1964 : (Jvm.Cond.static ({ cls := "MailSessionsLaw", name := "keep", desc := "(LMailSessions;I[J)I" } : Jvm.MethodName)) ∈ lw_all := lw_g (lw_at lw_m8 134 rfl) rfl
theorem q1965 : (Jvm.Cond.codeWith ({ cls := "MailSessionsLaw", name := "keep", desc := "(LMailSessions;I[J)I" } : Jvm.MethodName) method_39_code (4 : Nat) (Option.some Jvm.ClassFile.FieldType.int) [((0 : Nat), (9 : Nat), (12 : Nat), (29 : Nat))]) ∈ lw_all := lw_g (lw_at lw_m8 135 rfl) rfl
theorem q1966 : (Jvm.Cond.methodLink "MailSessionsLaw" (138 : Nat) ({ cls := "MailSessions", name := "keep", desc := "(I)I" } : Jvm.MethodName)) ∈ lw_all := lw_g (lw_at lw_m8 136 rfl) rfl
theorem q1973 : (Jvm.Cond.methodLink "MailSessionsLaw" (311 : Nat) ({ cls := "MailSessionsLaw", name := "restore", desc := "(LMailSessions;I[J)I" } : Jvm.MethodName)) ∈ lw_all := lw_g (lw_at lw_m8 143 rfl) rfl
theorem q1974 : (Jvm.Cond.static ({ cls := "MailSessionsLaw", name := "restore", desc := "(LMailSessions;I[J)I" } : Jvm.MethodName)) ∈ lw_all := lw_g (lw_at lw_m8 144 rfl) rfl
theorem q1975 : (Jvm.Cond.codeWith ({ cls := "MailSessionsLaw", name := "restore", desc := "(LMailSessions;I[J)I" } : Jvm.MethodName) method_40_code (4 : Nat) (Option.some Jvm.ClassFile.FieldType.int) [((0 : Nat), (9 : Nat), (12 : Nat), (29 : Nat)), ((0 : Nat), (9 : Nat), (15 : Nat), (13 : Nat))]) ∈ lw_all := lw_g (lw_at lw_m8 145 rfl) rfl
theorem q1976 : (Jvm.Cond.methodLink "MailSessionsLaw" (141 : Nat) ({ cls := "MailSessions", name := "restore", desc := "(I)I" } : Jvm.MethodName)) ∈ lw_all := lw_g (lw_at lw_m8 146 rfl) rfl
theorem q1980 : (Jvm.Cond.methodLink "MailSessionsLaw" (314 : Nat) ({ cls := "MailSessionsLaw", name := "undo", desc := "(LMailSessions;[J)I" } : Jvm.MethodName)) ∈ lw_all := lw_g (lw_at lw_m8 150 rfl) rfl
theorem q1981 : (Jvm.Cond.static ({ cls := "MailSessionsLaw", name := "undo", desc := "(LMailSessions;[J)I" } : Jvm.MethodName)) ∈ lw_all := lw_g (lw_at lw_m8 151 rfl) rfl
theorem q1982 : (Jvm.Cond.codeWith ({ cls := "MailSessionsLaw", name := "undo", desc := "(LMailSessions;[J)I" } : Jvm.MethodName) method_41_code (3 : Nat) (Option.some Jvm.ClassFile.FieldType.int) [((0 : Nat), (8 : Nat), (11 : Nat), (13 : Nat))]) ∈ lw_all := lw_g (lw_at lw_m8 152 rfl) rfl
theorem q1983 : (Jvm.Cond.methodLink "MailSessionsLaw" (144 : Nat) ({ cls := "MailSessions", name := "undo", desc := "()I" } : Jvm.MethodName)) ∈ lw_all := lw_g (lw_at lw_m8 153 rfl) rfl
theorem q2002 : (Jvm.Cond.methodLink "MailSessionsLaw" (322 : Nat) ({ cls := "MailSessionsLaw", name := "writeBox", desc := "(LMailSessions;I[J)I" } : Jvm.MethodName)) ∈ lw_all := lw_g (lw_at lw_m8 172 rfl) rfl
theorem q2003 : (Jvm.Cond.static ({ cls := "MailSessionsLaw", name := "writeBox", desc := "(LMailSessions;I[J)I" } : Jvm.MethodName)) ∈ lw_all := lw_g (lw_at lw_m8 173 rfl) rfl
theorem q2004 : (Jvm.Cond.codeWith ({ cls := "MailSessionsLaw", name := "writeBox", desc := "(LMailSessions;I[J)I" } : Jvm.MethodName) method_42_code (4 : Nat) (Option.some Jvm.ClassFile.FieldType.int) [((0 : Nat), (9 : Nat), (12 : Nat), (29 : Nat))]) ∈ lw_all := lw_g (lw_at lw_m8 174 rfl) rfl
theorem q2005 : (Jvm.Cond.methodLink "MailSessionsLaw" (148 : Nat) ({ cls := "MailSessions", name := "writeBox", desc := "(I)I" } : Jvm.MethodName)) ∈ lw_all := lw_g (lw_at lw_m8 175 rfl) rfl
theorem q2009 : (Jvm.Cond.methodLink "MailSessionsLaw" (325 : Nat) ({ cls := "MailSessionsLaw", name := "writeView", desc := "(LMailSessions;I[J)I" } : Jvm.MethodName)) ∈ lw_all := lw_g (lw_at lw_m8 179 rfl) rfl
theorem q2010 : (Jvm.Cond.static ({ cls := "MailSessionsLaw", name := "writeView", desc := "(LMailSessions;I[J)I" } : Jvm.MethodName)) ∈ lw_all := lw_g (lw_at lw_m8 180 rfl) rfl
theorem q2011 : (Jvm.Cond.codeWith ({ cls := "MailSessionsLaw", name := "writeView", desc := "(LMailSessions;I[J)I" } : Jvm.MethodName) method_43_code (4 : Nat) (Option.some Jvm.ClassFile.FieldType.int) [((0 : Nat), (9 : Nat), (12 : Nat), (29 : Nat))]) ∈ lw_all := lw_g (lw_at lw_m8 181 rfl) rfl
theorem q2012 : (Jvm.Cond.methodLink "MailSessionsLaw" (151 : Nat) ({ cls := "MailSessions", name := "writeView", desc := "(I)I" } : Jvm.MethodName)) ∈ lw_all := lw_g (lw_at lw_m8 182 rfl) rfl
theorem q2016 : (Jvm.Cond.methodLink "MailSessionsLaw" (332 : Nat) ({ cls := "MailSessionsLaw", name := "outputByte", desc := "(LMailSessions;I[J)I" } : Jvm.MethodName)) ∈ lw_all := lw_g (lw_at lw_m8 186 rfl) rfl
theorem q2017 : (Jvm.Cond.static ({ cls := "MailSessionsLaw", name := "outputByte", desc := "(LMailSessions;I[J)I" } : Jvm.MethodName)) ∈ lw_all := lw_g (lw_at lw_m8 187 rfl) rfl
theorem q2018 : (Jvm.Cond.codeWith ({ cls := "MailSessionsLaw", name := "outputByte", desc := "(LMailSessions;I[J)I" } : Jvm.MethodName) method_44_code (4 : Nat) (Option.some Jvm.ClassFile.FieldType.int) [((0 : Nat), (9 : Nat), (12 : Nat), (29 : Nat))]) ∈ lw_all := lw_g (lw_at lw_m8 188 rfl) rfl
theorem q2019 : (Jvm.Cond.methodLink "MailSessionsLaw" (154 : Nat) ({ cls := "MailSessions", name := "outputByte", desc := "(I)I" } : Jvm.MethodName)) ∈ lw_all := lw_g (lw_at lw_m8 189 rfl) rfl
theorem q2033 : (Jvm.Cond.methodLink "MailSessionsLaw" (167 : Nat) ({ cls := "MailSessionsModel", name := "thrown", desc := "()I" } : Jvm.MethodName)) ∈ lw_all := lw_g (lw_at lw_m8 203 rfl) rfl
theorem q2037 : (Jvm.Cond.classLink "MailSessionsLaw" (158 : Nat) "MailSessionsModel") ∈ lw_all := lw_g (lw_at lw_m8 207 rfl) rfl
theorem q2039 : (Jvm.Cond.methodLink "MailSessionsLaw" (160 : Nat) ({ cls := "MailSessionsModel", name := "<init>", desc := "()V" } : Jvm.MethodName)) ∈ lw_all := lw_g (lw_at lw_m8 209 rfl) rfl
theorem q2130 : (Jvm.Cond.methodLink "MailSessionsLaw" (262 : Nat) ({ cls := "MailSessionsModel", name := "select", desc := "(IIZ)I" } : Jvm.MethodName)) ∈ lw_all := lw_g (lw_at lw_m9 60 rfl) rfl
theorem q2274 : (Jvm.Cond.methodLink "MailSessionsLaw" (265 : Nat) ({ cls := "MailSessionsModel", name := "noop", desc := "(I)I" } : Jvm.MethodName)) ∈ lw_all := lw_g (lw_at lw_m9 204 rfl) rfl
theorem q2286 : (Jvm.Cond.methodLink "MailSessionsLaw" (268 : Nat) ({ cls := "MailSessionsModel", name := "startIdle", desc := "(I)I" } : Jvm.MethodName)) ∈ lw_all := lw_g (lw_at lw_m9 216 rfl) rfl
theorem q2290 : (Jvm.Cond.methodLink "MailSessionsLaw" (271 : Nat) ({ cls := "MailSessionsModel", name := "stopIdle", desc := "(I)I" } : Jvm.MethodName)) ∈ lw_all := lw_g (lw_at lw_m9 220 rfl) rfl
theorem q2294 : (Jvm.Cond.methodLink "MailSessionsLaw" (275 : Nat) ({ cls := "MailSessionsModel", name := "fetch", desc := "(IIIZ)I" } : Jvm.MethodName)) ∈ lw_all := lw_g (lw_at lw_m9 224 rfl) rfl
theorem q2318 : (Jvm.Cond.methodLink "MailSessionsLaw" (279 : Nat) ({ cls := "MailSessionsModel", name := "store", desc := "(IIIIIZ)I" } : Jvm.MethodName)) ∈ lw_all := lw_g (lw_at lw_m10 8 rfl) rfl
theorem q2341 : (Jvm.Cond.methodLink "MailSessionsLaw" (282 : Nat) ({ cls := "MailSessionsModel", name := "uidStore", desc := "(IIIII)I" } : Jvm.MethodName)) ∈ lw_all := lw_g (lw_at lw_m10 31 rfl) rfl
theorem q2345 : (Jvm.Cond.methodLink "MailSessionsLaw" (288 : Nat) ({ cls := "MailSessionsModel", name := "expunge", desc := "(I)I" } : Jvm.MethodName)) ∈ lw_all := lw_g (lw_at lw_m10 35 rfl) rfl
theorem q2358 : (Jvm.Cond.methodLink "MailSessionsLaw" (291 : Nat) ({ cls := "MailSessionsModel", name := "uidExpunge", desc := "(III)I" } : Jvm.MethodName)) ∈ lw_all := lw_g (lw_at lw_m10 48 rfl) rfl
theorem q2362 : (Jvm.Cond.methodLink "MailSessionsLaw" (295 : Nat) ({ cls := "MailSessionsModel", name := "copy", desc := "(IIII)I" } : Jvm.MethodName)) ∈ lw_all := lw_g (lw_at lw_m10 52 rfl) rfl
theorem q2386 : (Jvm.Cond.methodLink "MailSessionsLaw" (298 : Nat) ({ cls := "MailSessionsModel", name := "move", desc := "(IIII)I" } : Jvm.MethodName)) ∈ lw_all := lw_g (lw_at lw_m10 76 rfl) rfl
theorem q2390 : (Jvm.Cond.methodLink "MailSessionsLaw" (301 : Nat) ({ cls := "MailSessionsModel", name := "close", desc := "(I)I" } : Jvm.MethodName)) ∈ lw_all := lw_g (lw_at lw_m10 80 rfl) rfl
theorem q2394 : (Jvm.Cond.methodLink "MailSessionsLaw" (304 : Nat) ({ cls := "MailSessionsModel", name := "deliver", desc := "(III)I" } : Jvm.MethodName)) ∈ lw_all := lw_g (lw_at lw_m10 84 rfl) rfl
theorem q2399 : (Jvm.Cond.methodLink "MailSessionsLaw" (307 : Nat) ({ cls := "MailSessionsModel", name := "setLimit", desc := "(I)I" } : Jvm.MethodName)) ∈ lw_all := lw_g (lw_at lw_m10 89 rfl) rfl
theorem q2407 : (Jvm.Cond.methodLink "MailSessionsLaw" (166 : Nat) ({ cls := "MailSessionsModel", name := "append", desc := "(IIIII)I" } : Jvm.MethodName)) ∈ lw_all := lw_g (lw_at lw_m10 97 rfl) rfl
theorem q2415 : (Jvm.Cond.methodLink "MailSessionsLaw" (173 : Nat) ({ cls := "MailSessionsModel", name := "truncate", desc := "(I)V" } : Jvm.MethodName)) ∈ lw_all := lw_g (lw_at lw_m10 105 rfl) rfl
theorem q2419 : (Jvm.Cond.methodLink "MailSessionsLaw" (177 : Nat) ({ cls := "MailSessionsModel", name := "load", desc := "()I" } : Jvm.MethodName)) ∈ lw_all := lw_g (lw_at lw_m10 109 rfl) rfl
theorem q2558 : (Jvm.Cond.methodLink "MailSessionsLaw" (181 : Nat) ({ cls := "MailSessionsModel", name := "errorCode", desc := "()I" } : Jvm.MethodName)) ∈ lw_all := lw_g (lw_at lw_m11 8 rfl) rfl
theorem q2562 : (Jvm.Cond.methodLink "MailSessionsLaw" (185 : Nat) ({ cls := "MailSessionsModel", name := "errorPosition", desc := "()I" } : Jvm.MethodName)) ∈ lw_all := lw_g (lw_at lw_m11 12 rfl) rfl
theorem q2566 : (Jvm.Cond.methodLink "MailSessionsLaw" (189 : Nat) ({ cls := "MailSessionsModel", name := "findBox", desc := "()I" } : Jvm.MethodName)) ∈ lw_all := lw_g (lw_at lw_m11 16 rfl) rfl
theorem q2575 : (Jvm.Cond.methodLink "MailSessionsLaw" (193 : Nat) ({ cls := "MailSessionsModel", name := "findSession", desc := "()I" } : Jvm.MethodName)) ∈ lw_all := lw_g (lw_at lw_m11 25 rfl) rfl
theorem q2579 : (Jvm.Cond.methodLink "MailSessionsLaw" (258 : Nat) ({ cls := "MailSessionsModel", name := "searchBox", desc := "(I)I" } : Jvm.MethodName)) ∈ lw_all := lw_g (lw_at lw_m11 29 rfl) rfl
theorem q2619 : (Jvm.Cond.methodLink "MailSessionsLaw" (285 : Nat) ({ cls := "MailSessionsModel", name := "search", desc := "(I)J" } : Jvm.MethodName)) ∈ lw_all := lw_g (lw_at lw_m11 69 rfl) rfl
theorem q2624 : (Jvm.Cond.methodLink "MailSessionsLaw" (197 : Nat) ({ cls := "MailSessionsModel", name := "property", desc := "(I)I" } : Jvm.MethodName)) ∈ lw_all := lw_g (lw_at lw_m11 74 rfl) rfl
theorem q2633 : (Jvm.Cond.methodLink "MailSessionsLaw" (201 : Nat) ({ cls := "MailSessionsModel", name := "box", desc := "(II)I" } : Jvm.MethodName)) ∈ lw_all := lw_g (lw_at lw_m11 83 rfl) rfl
theorem q2650 : (Jvm.Cond.methodLink "MailSessionsLaw" (205 : Nat) ({ cls := "MailSessionsModel", name := "message", desc := "(III)I" } : Jvm.MethodName)) ∈ lw_all := lw_g (lw_at lw_m11 100 rfl) rfl
theorem q2654 : (Jvm.Cond.methodLink "MailSessionsLaw" (208 : Nat) ({ cls := "MailSessionsModel", name := "indexOf", desc := "(II)I" } : Jvm.MethodName)) ∈ lw_all := lw_g (lw_at lw_m11 104 rfl) rfl
theorem q2658 : (Jvm.Cond.methodLink "MailSessionsLaw" (211 : Nat) ({ cls := "MailSessionsModel", name := "session", desc := "(II)I" } : Jvm.MethodName)) ∈ lw_all := lw_g (lw_at lw_m11 108 rfl) rfl
theorem q2674 : (Jvm.Cond.methodLink "MailSessionsLaw" (214 : Nat) ({ cls := "MailSessionsModel", name := "entry", desc := "(III)I" } : Jvm.MethodName)) ∈ lw_all := lw_g (lw_at lw_m11 124 rfl) rfl
theorem q2678 : (Jvm.Cond.methodLink "MailSessionsLaw" (217 : Nat) ({ cls := "MailSessionsModel", name := "numberOf", desc := "(II)I" } : Jvm.MethodName)) ∈ lw_all := lw_g (lw_at lw_m11 128 rfl) rfl
theorem q2686 : (Jvm.Cond.methodLink "MailSessionsLaw" (220 : Nat) ({ cls := "MailSessionsModel", name := "numberThen", desc := "(II)I" } : Jvm.MethodName)) ∈ lw_all := lw_g (lw_at lw_m11 136 rfl) rfl
theorem q2690 : (Jvm.Cond.methodLink "MailSessionsLaw" (223 : Nat) ({ cls := "MailSessionsModel", name := "pending", desc := "(I)I" } : Jvm.MethodName)) ∈ lw_all := lw_g (lw_at lw_m11 140 rfl) rfl
theorem q2698 : (Jvm.Cond.methodLink "MailSessionsLaw" (226 : Nat) ({ cls := "MailSessionsModel", name := "isCurrent", desc := "(I)Z" } : Jvm.MethodName)) ∈ lw_all := lw_g (lw_at lw_m11 148 rfl) rfl
theorem q2706 : (Jvm.Cond.methodLink "MailSessionsLaw" (229 : Nat) ({ cls := "MailSessionsModel", name := "firstUnseen", desc := "(I)I" } : Jvm.MethodName)) ∈ lw_all := lw_g (lw_at lw_m11 156 rfl) rfl
theorem q2710 : (Jvm.Cond.methodLink "MailSessionsLaw" (232 : Nat) ({ cls := "MailSessionsModel", name := "largest", desc := "(I)I" } : Jvm.MethodName)) ∈ lw_all := lw_g (lw_at lw_m11 160 rfl) rfl
theorem q2714 : (Jvm.Cond.methodLink "MailSessionsLaw" (235 : Nat) ({ cls := "MailSessionsModel", name := "common", desc := "(II)I" } : Jvm.MethodName)) ∈ lw_all := lw_g (lw_at lw_m11 164 rfl) rfl
theorem q2718 : (Jvm.Cond.methodLink "MailSessionsLaw" (238 : Nat) ({ cls := "MailSessionsModel", name := "holders", desc := "(II)I" } : Jvm.MethodName)) ∈ lw_all := lw_g (lw_at lw_m11 168 rfl) rfl
theorem q2722 : (Jvm.Cond.methodLink "MailSessionsLaw" (242 : Nat) ({ cls := "MailSessionsModel", name := "stale", desc := "()I" } : Jvm.MethodName)) ∈ lw_all := lw_g (lw_at lw_m11 172 rfl) rfl
theorem q2726 : (Jvm.Cond.methodLink "MailSessionsLaw" (246 : Nat) ({ cls := "MailSessionsModel", name := "unseen", desc := "(I)F" } : Jvm.MethodName)) ∈ lw_all := lw_g (lw_at lw_m11 176 rfl) rfl
theorem q2730 : (Jvm.Cond.methodLink "MailSessionsLaw" (249 : Nat) ({ cls := "MailSessionsModel", name := "mean", desc := "(I)D" } : Jvm.MethodName)) ∈ lw_all := lw_g (lw_at lw_m11 180 rfl) rfl
theorem q2734 : (Jvm.Cond.methodLink "MailSessionsLaw" (252 : Nat) ({ cls := "MailSessionsModel", name := "account", desc := "(II)I" } : Jvm.MethodName)) ∈ lw_all := lw_g (lw_at lw_m11 184 rfl) rfl
theorem q2738 : (Jvm.Cond.methodLink "MailSessionsLaw" (255 : Nat) ({ cls := "MailSessionsModel", name := "notice", desc := "(II)I" } : Jvm.MethodName)) ∈ lw_all := lw_g (lw_at lw_m11 188 rfl) rfl
theorem q2743 : (Jvm.Cond.methodLink "MailSessionsLaw" (310 : Nat) ({ cls := "MailSessionsModel", name := "keep", desc := "(I)I" } : Jvm.MethodName)) ∈ lw_all := lw_g (lw_at lw_m11 193 rfl) rfl
theorem q2750 : (Jvm.Cond.methodLink "MailSessionsLaw" (313 : Nat) ({ cls := "MailSessionsModel", name := "restore", desc := "(I)I" } : Jvm.MethodName)) ∈ lw_all := lw_g (lw_at lw_m11 200 rfl) rfl
theorem q2754 : (Jvm.Cond.methodLink "MailSessionsLaw" (317 : Nat) ({ cls := "MailSessionsModel", name := "undo", desc := "()I" } : Jvm.MethodName)) ∈ lw_all := lw_g (lw_at lw_m11 204 rfl) rfl
theorem q2758 : (Jvm.Cond.methodLink "MailSessionsLaw" (321 : Nat) ({ cls := "MailSessionsModel", name := "undoCount", desc := "()I" } : Jvm.MethodName)) ∈ lw_all := lw_g (lw_at lw_m11 208 rfl) rfl
theorem q2762 : (Jvm.Cond.methodLink "MailSessionsLaw" (324 : Nat) ({ cls := "MailSessionsModel", name := "writeBox", desc := "(I)I" } : Jvm.MethodName)) ∈ lw_all := lw_g (lw_at lw_m11 212 rfl) rfl
theorem q2782 : (Jvm.Cond.methodLink "MailSessionsLaw" (327 : Nat) ({ cls := "MailSessionsModel", name := "writeView", desc := "(I)I" } : Jvm.MethodName)) ∈ lw_all := lw_g (lw_at lw_m11 232 rfl) rfl
theorem q2786 : (Jvm.Cond.methodLink "MailSessionsLaw" (331 : Nat) ({ cls := "MailSessionsModel", name := "writeNotices", desc := "()I" } : Jvm.MethodName)) ∈ lw_all := lw_g (lw_at lw_m11 236 rfl) rfl
theorem q2790 : (Jvm.Cond.methodLink "MailSessionsLaw" (334 : Nat) ({ cls := "MailSessionsModel", name := "outputByte", desc := "(I)I" } : Jvm.MethodName)) ∈ lw_all := lw_g (lw_at lw_m12 0 rfl) rfl
/-! the law's own entry -/
set_option maxRecDepth 100000
abbrev cL_law : ByteArray := code
def dkwL_law_132 : List UInt8 := [167, 243, 78, 4, 172]
abbrev dktL_law_132 : List UInt8 := dkwL_law_132 ++ []
def dkwL_law_131 : List UInt8 := [172, 21, 6, 154, 0, 15, 45, 3, 47, 21, 7, 133, 148, 153, 0, 5, 3, 172, 167, 0, 3, 132, 5, 7]
abbrev dktL_law_131 : List UInt8 := dkwL_law_131 ++ dktL_law_132
def dkwL_law_130 : List UInt8 := [54, 6, 44, 42, 21, 5, 4, 96, 46, 182, 1, 78, 54, 7, 44, 182, 0, 167, 21, 6, 159, 0, 5, 3]
abbrev dktL_law_130 : List UInt8 := dkwL_law_130 ++ dktL_law_131
def dkwL_law_129 : List UInt8 := [182, 1, 72, 44, 182, 1, 75, 159, 0, 61, 3, 172, 43, 42, 21, 5, 4, 96, 46, 45, 184, 1, 76]
abbrev dktL_law_129 : List UInt8 := dkwL_law_129 ++ dktL_law_130
def dkwL_law_128 : List UInt8 := [172, 21, 6, 154, 0, 15, 45, 3, 47, 21, 7, 133, 148, 153, 0, 5, 3, 172, 167, 0, 72, 43]
abbrev dktL_law_128 : List UInt8 := dkwL_law_128 ++ dktL_law_129
def dkwL_law_127 : List UInt8 := [54, 6, 44, 42, 21, 5, 4, 96, 46, 182, 1, 71, 54, 7, 44, 182, 0, 167, 21, 6, 159, 0, 5, 3]
abbrev dktL_law_127 : List UInt8 := dkwL_law_127 ++ dktL_law_128
def dkwL_law_126 : List UInt8 := [47, 21, 7, 133, 148, 153, 0, 5, 3, 172, 167, 0, 128, 43, 42, 21, 5, 4, 96, 46, 45, 184, 1, 69]
abbrev dktL_law_126 : List UInt8 := dkwL_law_126 ++ dktL_law_127
def dkwL_law_125 : List UInt8 := [46, 182, 1, 68, 54, 7, 44, 182, 0, 167, 21, 6, 159, 0, 5, 3, 172, 21, 6, 154, 0, 15, 45, 3]
abbrev dktL_law_125 : List UInt8 := dkwL_law_125 ++ dktL_law_126
def dkwL_law_124 : List UInt8 := [159, 0, 186, 3, 172, 43, 42, 21, 5, 4, 96, 46, 45, 184, 1, 66, 54, 6, 44, 42, 21, 5, 4, 96]
abbrev dktL_law_124 : List UInt8 := dkwL_law_124 ++ dktL_law_125
def dkwL_law_123 : List UInt8 := [45, 3, 47, 21, 7, 133, 148, 153, 0, 5, 3, 172, 167, 0, 197, 43, 182, 1, 62, 44, 182, 1, 65]
abbrev dktL_law_123 : List UInt8 := dkwL_law_123 ++ dktL_law_124
def dkwL_law_122 : List UInt8 := [54, 6, 44, 182, 1, 61, 54, 7, 44, 182, 0, 167, 21, 6, 159, 0, 5, 3, 172, 21, 6, 154, 0, 15]
abbrev dktL_law_122 : List UInt8 := dkwL_law_122 ++ dktL_law_123
def dkwL_law_121 : List UInt8 := [154, 0, 15, 45, 3, 47, 21, 7, 133, 148, 153, 0, 5, 3, 172, 167, 0, 241, 43, 45, 184, 1, 58]
abbrev dktL_law_121 : List UInt8 := dkwL_law_121 ++ dktL_law_122
def dkwL_law_120 : List UInt8 := [21, 5, 4, 96, 46, 182, 1, 57, 54, 7, 44, 182, 0, 167, 21, 6, 159, 0, 5, 3, 172, 21, 6]
abbrev dktL_law_120 : List UInt8 := dkwL_law_120 ++ dktL_law_121
def dkwL_law_119 : List UInt8 := [153, 0, 5, 3, 172, 167, 1, 41, 43, 42, 21, 5, 4, 96, 46, 45, 184, 1, 55, 54, 6, 44, 42]
abbrev dktL_law_119 : List UInt8 := dkwL_law_119 ++ dktL_law_120
def dkwL_law_118 : List UInt8 := [182, 0, 167, 21, 6, 159, 0, 5, 3, 172, 21, 6, 154, 0, 15, 45, 3, 47, 21, 7, 133, 148]
abbrev dktL_law_118 : List UInt8 := dkwL_law_118 ++ dktL_law_119
def dkwL_law_117 : List UInt8 := [21, 5, 4, 96, 46, 45, 184, 1, 52, 54, 6, 44, 42, 21, 5, 4, 96, 46, 182, 1, 54, 54, 7, 44]
abbrev dktL_law_117 : List UInt8 := dkwL_law_117 ++ dktL_law_118
def dkwL_law_116 : List UInt8 := [172, 21, 6, 154, 0, 15, 45, 3, 47, 21, 7, 133, 148, 153, 0, 5, 3, 172, 167, 1, 97, 43, 42]
abbrev dktL_law_116 : List UInt8 := dkwL_law_116 ++ dktL_law_117
def dkwL_law_115 : List UInt8 := [54, 6, 44, 42, 21, 5, 4, 96, 46, 182, 1, 51, 54, 7, 44, 182, 0, 167, 21, 6, 159, 0, 5, 3]
abbrev dktL_law_115 : List UInt8 := dkwL_law_115 ++ dktL_law_116
def dkwL_law_114 : List UInt8 := [21, 7, 133, 148, 153, 0, 5, 3, 172, 167, 1, 153, 43, 42, 21, 5, 4, 96, 46, 45, 184, 1, 49]
abbrev dktL_law_114 : List UInt8 := dkwL_law_114 ++ dktL_law_115
def dkwL_law_113 : List UInt8 := [182, 1, 48, 54, 7, 44, 182, 0, 167, 21, 6, 159, 0, 5, 3, 172, 21, 6, 154, 0, 15, 45, 3, 47]
abbrev dktL_law_113 : List UInt8 := dkwL_law_113 ++ dktL_law_114
def dkwL_law_112 : List UInt8 := [184, 1, 46, 54, 6, 44, 42, 21, 5, 4, 96, 46, 42, 21, 5, 5, 96, 46, 42, 21, 5, 6, 96, 46]
abbrev dktL_law_112 : List UInt8 := dkwL_law_112 ++ dktL_law_113
def dkwL_law_111 : List UInt8 := [167, 1, 233, 43, 42, 21, 5, 4, 96, 46, 42, 21, 5, 5, 96, 46, 42, 21, 5, 6, 96, 46, 45]
abbrev dktL_law_111 : List UInt8 := dkwL_law_111 ++ dktL_law_112
def dkwL_law_110 : List UInt8 := [159, 0, 5, 3, 172, 21, 6, 154, 0, 15, 45, 3, 47, 21, 7, 133, 148, 153, 0, 5, 3, 172]
abbrev dktL_law_110 : List UInt8 := dkwL_law_110 ++ dktL_law_111
def dkwL_law_109 : List UInt8 := [184, 1, 43, 54, 6, 44, 42, 21, 5, 4, 96, 46, 182, 1, 45, 54, 7, 44, 182, 0, 167, 21, 6]
abbrev dktL_law_109 : List UInt8 := dkwL_law_109 ++ dktL_law_110
def dkwL_law_108 : List UInt8 := [45, 3, 47, 21, 7, 133, 148, 153, 0, 5, 3, 172, 167, 2, 33, 43, 42, 21, 5, 4, 96, 46, 45]
abbrev dktL_law_108 : List UInt8 := dkwL_law_108 ++ dktL_law_109
def dkwL_law_107 : List UInt8 := [7, 96, 46, 182, 1, 42, 54, 7, 44, 182, 0, 167, 21, 6, 159, 0, 5, 3, 172, 21, 6, 154, 0, 15]
abbrev dktL_law_107 : List UInt8 := dkwL_law_107 ++ dktL_law_108
def dkwL_law_106 : List UInt8 := [54, 6, 44, 42, 21, 5, 4, 96, 46, 42, 21, 5, 5, 96, 46, 42, 21, 5, 6, 96, 46, 42, 21, 5]
abbrev dktL_law_106 : List UInt8 := dkwL_law_106 ++ dktL_law_107
def dkwL_law_105 : List UInt8 := [46, 42, 21, 5, 5, 96, 46, 42, 21, 5, 6, 96, 46, 42, 21, 5, 7, 96, 46, 45, 184, 1, 40]
abbrev dktL_law_105 : List UInt8 := dkwL_law_105 ++ dktL_law_106
def dkwL_law_104 : List UInt8 := [154, 0, 15, 45, 3, 47, 21, 7, 133, 148, 153, 0, 5, 3, 172, 167, 2, 125, 43, 42, 21, 5, 4, 96]
abbrev dktL_law_104 : List UInt8 := dkwL_law_104 ++ dktL_law_105
def dkwL_law_103 : List UInt8 := [42, 21, 5, 7, 96, 46, 182, 1, 39, 54, 7, 44, 182, 0, 167, 21, 6, 159, 0, 5, 3, 172, 21, 6]
abbrev dktL_law_103 : List UInt8 := dkwL_law_103 ++ dktL_law_104
def dkwL_law_102 : List UInt8 := [184, 1, 36, 54, 6, 44, 42, 21, 5, 4, 96, 46, 42, 21, 5, 5, 96, 46, 42, 21, 5, 6, 96, 46]
abbrev dktL_law_102 : List UInt8 := dkwL_law_102 ++ dktL_law_103
def dkwL_law_101 : List UInt8 := [4, 96, 46, 42, 21, 5, 5, 96, 46, 42, 21, 5, 6, 96, 46, 42, 21, 5, 7, 96, 46, 45]
abbrev dktL_law_101 : List UInt8 := dkwL_law_101 ++ dktL_law_102
def dkwL_law_100 : List UInt8 := [21, 6, 154, 0, 15, 45, 3, 47, 21, 7, 133, 148, 153, 0, 5, 3, 172, 167, 2, 217, 43, 42, 21, 5]
abbrev dktL_law_100 : List UInt8 := dkwL_law_100 ++ dktL_law_101
def dkwL_law_99 : List UInt8 := [96, 46, 42, 21, 5, 6, 96, 46, 182, 1, 35, 54, 7, 44, 182, 0, 167, 21, 6, 159, 0, 5, 3, 172]
abbrev dktL_law_99 : List UInt8 := dkwL_law_99 ++ dktL_law_100
def dkwL_law_98 : List UInt8 := [46, 42, 21, 5, 6, 96, 46, 45, 184, 1, 33, 54, 6, 44, 42, 21, 5, 4, 96, 46, 42, 21, 5, 5]
abbrev dktL_law_98 : List UInt8 := dkwL_law_98 ++ dktL_law_99
def dkwL_law_97 : List UInt8 := [21, 7, 133, 148, 153, 0, 5, 3, 172, 167, 3, 41, 43, 42, 21, 5, 4, 96, 46, 42, 21, 5, 5, 96]
abbrev dktL_law_97 : List UInt8 := dkwL_law_97 ++ dktL_law_98
def dkwL_law_96 : List UInt8 := [182, 1, 32, 54, 7, 44, 182, 0, 167, 21, 6, 159, 0, 5, 3, 172, 21, 6, 154, 0, 15, 45, 3, 47]
abbrev dktL_law_96 : List UInt8 := dkwL_law_96 ++ dktL_law_97
def dkwL_law_95 : List UInt8 := [167, 3, 97, 43, 42, 21, 5, 4, 96, 46, 45, 184, 1, 30, 54, 6, 44, 42, 21, 5, 4, 96, 46]
abbrev dktL_law_95 : List UInt8 := dkwL_law_95 ++ dktL_law_96
def dkwL_law_94 : List UInt8 := [21, 6, 159, 0, 5, 3, 172, 21, 6, 154, 0, 14, 45, 3, 47, 22, 7, 148, 153, 0, 5, 3, 172]
abbrev dktL_law_94 : List UInt8 := dkwL_law_94 ++ dktL_law_95
def dkwL_law_93 : List UInt8 := [46, 45, 184, 1, 27, 54, 6, 44, 42, 21, 5, 4, 96, 46, 182, 1, 29, 55, 7, 44, 182, 0, 167]
abbrev dktL_law_93 : List UInt8 := dkwL_law_93 ++ dktL_law_94
def dkwL_law_92 : List UInt8 := [154, 0, 15, 45, 3, 47, 21, 7, 133, 148, 153, 0, 5, 3, 172, 167, 3, 152, 43, 42, 21, 5, 4, 96]
abbrev dktL_law_92 : List UInt8 := dkwL_law_92 ++ dktL_law_93
def dkwL_law_91 : List UInt8 := [42, 21, 5, 8, 96, 46, 182, 1, 26, 54, 7, 44, 182, 0, 167, 21, 6, 159, 0, 5, 3, 172, 21, 6]
abbrev dktL_law_91 : List UInt8 := dkwL_law_91 ++ dktL_law_92
def dkwL_law_90 : List UInt8 := [42, 21, 5, 4, 96, 46, 42, 21, 5, 5, 96, 46, 42, 21, 5, 6, 96, 46, 42, 21, 5, 7, 96, 46]
abbrev dktL_law_90 : List UInt8 := dkwL_law_90 ++ dktL_law_91
def dkwL_law_89 : List UInt8 := [21, 5, 6, 96, 46, 42, 21, 5, 7, 96, 46, 42, 21, 5, 8, 96, 46, 45, 184, 1, 24, 54, 6, 44]
abbrev dktL_law_89 : List UInt8 := dkwL_law_89 ++ dktL_law_90
def dkwL_law_88 : List UInt8 := [148, 153, 0, 5, 3, 172, 167, 4, 0, 43, 42, 21, 5, 4, 96, 46, 42, 21, 5, 5, 96, 46, 42]
abbrev dktL_law_88 : List UInt8 := dkwL_law_88 ++ dktL_law_89
def dkwL_law_87 : List UInt8 := [54, 7, 44, 182, 0, 167, 21, 6, 159, 0, 5, 3, 172, 21, 6, 154, 0, 15, 45, 3, 47, 21, 7, 133]
abbrev dktL_law_87 : List UInt8 := dkwL_law_87 ++ dktL_law_88
def dkwL_law_86 : List UInt8 := [21, 5, 8, 96, 46, 42, 21, 5, 16, 6, 96, 46, 153, 0, 7, 4, 167, 0, 4, 3, 182, 1, 23]
abbrev dktL_law_86 : List UInt8 := dkwL_law_86 ++ dktL_law_87
def dkwL_law_85 : List UInt8 := [21, 5, 4, 96, 46, 42, 21, 5, 5, 96, 46, 42, 21, 5, 6, 96, 46, 42, 21, 5, 7, 96, 46, 42]
abbrev dktL_law_85 : List UInt8 := dkwL_law_85 ++ dktL_law_86
def dkwL_law_84 : List UInt8 := [46, 42, 21, 5, 16, 6, 96, 46, 153, 0, 7, 4, 167, 0, 4, 3, 45, 184, 1, 20, 54, 6, 44, 42]
abbrev dktL_law_84 : List UInt8 := dkwL_law_84 ++ dktL_law_85
def dkwL_law_83 : List UInt8 := [46, 42, 21, 5, 5, 96, 46, 42, 21, 5, 6, 96, 46, 42, 21, 5, 7, 96, 46, 42, 21, 5, 8, 96]
abbrev dktL_law_83 : List UInt8 := dkwL_law_83 ++ dktL_law_84
def dkwL_law_82 : List UInt8 := [154, 0, 15, 45, 3, 47, 21, 7, 133, 148, 153, 0, 5, 3, 172, 167, 4, 134, 43, 42, 21, 5, 4, 96]
abbrev dktL_law_82 : List UInt8 := dkwL_law_82 ++ dktL_law_83
def dkwL_law_81 : List UInt8 := [167, 0, 4, 3, 182, 1, 19, 54, 7, 44, 182, 0, 167, 21, 6, 159, 0, 5, 3, 172, 21, 6]
abbrev dktL_law_81 : List UInt8 := dkwL_law_81 ++ dktL_law_82
def dkwL_law_80 : List UInt8 := [96, 46, 42, 21, 5, 5, 96, 46, 42, 21, 5, 6, 96, 46, 42, 21, 5, 7, 96, 46, 153, 0, 7, 4]
abbrev dktL_law_80 : List UInt8 := dkwL_law_80 ++ dktL_law_81
def dkwL_law_79 : List UInt8 := [21, 5, 7, 96, 46, 153, 0, 7, 4, 167, 0, 4, 3, 45, 184, 1, 16, 54, 6, 44, 42, 21, 5, 4]
abbrev dktL_law_79 : List UInt8 := dkwL_law_79 ++ dktL_law_80
def dkwL_law_78 : List UInt8 := [167, 4, 242, 43, 42, 21, 5, 4, 96, 46, 42, 21, 5, 5, 96, 46, 42, 21, 5, 6, 96, 46, 42]
abbrev dktL_law_78 : List UInt8 := dkwL_law_78 ++ dktL_law_79
def dkwL_law_77 : List UInt8 := [21, 6, 159, 0, 5, 3, 172, 21, 6, 154, 0, 15, 45, 3, 47, 21, 7, 133, 148, 153, 0, 5, 3, 172]
abbrev dktL_law_77 : List UInt8 := dkwL_law_77 ++ dktL_law_78
def dkwL_law_76 : List UInt8 := [46, 45, 184, 1, 13, 54, 6, 44, 42, 21, 5, 4, 96, 46, 182, 1, 15, 54, 7, 44, 182, 0, 167]
abbrev dktL_law_76 : List UInt8 := dkwL_law_76 ++ dktL_law_77
def dkwL_law_75 : List UInt8 := [154, 0, 15, 45, 3, 47, 21, 7, 133, 148, 153, 0, 5, 3, 172, 167, 5, 42, 43, 42, 21, 5, 4, 96]
abbrev dktL_law_75 : List UInt8 := dkwL_law_75 ++ dktL_law_76
def dkwL_law_74 : List UInt8 := [21, 5, 4, 96, 46, 182, 1, 12, 54, 7, 44, 182, 0, 167, 21, 6, 159, 0, 5, 3, 172, 21, 6]
abbrev dktL_law_74 : List UInt8 := dkwL_law_74 ++ dktL_law_75
def dkwL_law_73 : List UInt8 := [153, 0, 5, 3, 172, 167, 5, 98, 43, 42, 21, 5, 4, 96, 46, 45, 184, 1, 10, 54, 6, 44, 42]
abbrev dktL_law_73 : List UInt8 := dkwL_law_73 ++ dktL_law_74
def dkwL_law_72 : List UInt8 := [182, 0, 167, 21, 6, 159, 0, 5, 3, 172, 21, 6, 154, 0, 15, 45, 3, 47, 21, 7, 133, 148]
abbrev dktL_law_72 : List UInt8 := dkwL_law_72 ++ dktL_law_73
def dkwL_law_71 : List UInt8 := [4, 96, 46, 45, 184, 1, 7, 54, 6, 44, 42, 21, 5, 4, 96, 46, 182, 1, 9, 54, 7, 44]
abbrev dktL_law_71 : List UInt8 := dkwL_law_71 ++ dktL_law_72
def dkwL_law_70 : List UInt8 := [21, 6, 154, 0, 15, 45, 3, 47, 21, 7, 133, 148, 153, 0, 5, 3, 172, 167, 5, 154, 43, 42, 21, 5]
abbrev dktL_law_70 : List UInt8 := dkwL_law_70 ++ dktL_law_71
def dkwL_law_69 : List UInt8 := [153, 0, 7, 4, 167, 0, 4, 3, 182, 1, 6, 54, 7, 44, 182, 0, 167, 21, 6, 159, 0, 5, 3, 172]
abbrev dktL_law_69 : List UInt8 := dkwL_law_69 ++ dktL_law_70
def dkwL_law_68 : List UInt8 := [184, 1, 3, 54, 6, 44, 42, 21, 5, 4, 96, 46, 42, 21, 5, 5, 96, 46, 42, 21, 5, 6, 96, 46]
abbrev dktL_law_68 : List UInt8 := dkwL_law_68 ++ dktL_law_69
def dkwL_law_67 : List UInt8 := [46, 42, 21, 5, 5, 96, 46, 42, 21, 5, 6, 96, 46, 153, 0, 7, 4, 167, 0, 4, 3, 45]
abbrev dktL_law_67 : List UInt8 := dkwL_law_67 ++ dktL_law_68
def dkwL_law_66 : List UInt8 := [154, 0, 15, 45, 3, 47, 21, 7, 133, 148, 153, 0, 5, 3, 172, 167, 5, 250, 43, 42, 21, 5, 4, 96]
abbrev dktL_law_66 : List UInt8 := dkwL_law_66 ++ dktL_law_67
def dkwL_law_65 : List UInt8 := [21, 5, 4, 96, 46, 182, 1, 2, 54, 7, 44, 182, 0, 167, 21, 6, 159, 0, 5, 3, 172, 21, 6]
abbrev dktL_law_65 : List UInt8 := dkwL_law_65 ++ dktL_law_66
def dkwL_law_64 : List UInt8 := [153, 0, 5, 3, 172, 167, 6, 50, 43, 42, 21, 5, 4, 96, 46, 45, 184, 1, 0, 54, 6, 44, 42]
abbrev dktL_law_64 : List UInt8 := dkwL_law_64 ++ dktL_law_65
def dkwL_law_63 : List UInt8 := [182, 0, 167, 21, 6, 159, 0, 5, 3, 172, 21, 6, 154, 0, 15, 45, 3, 47, 21, 7, 133, 148]
abbrev dktL_law_63 : List UInt8 := dkwL_law_63 ++ dktL_law_64
def dkwL_law_62 : List UInt8 := [184, 0, 253, 54, 6, 44, 42, 21, 5, 4, 96, 46, 42, 21, 5, 5, 96, 46, 182, 0, 255, 54, 7, 44]
abbrev dktL_law_62 : List UInt8 := dkwL_law_62 ++ dktL_law_63
def dkwL_law_61 : List UInt8 := [153, 0, 5, 3, 172, 167, 6, 118, 43, 42, 21, 5, 4, 96, 46, 42, 21, 5, 5, 96, 46, 45]
abbrev dktL_law_61 : List UInt8 := dkwL_law_61 ++ dktL_law_62
def dkwL_law_60 : List UInt8 := [182, 0, 167, 21, 6, 159, 0, 5, 3, 172, 21, 6, 154, 0, 15, 45, 3, 47, 21, 7, 133, 148]
abbrev dktL_law_60 : List UInt8 := dkwL_law_60 ++ dktL_law_61
def dkwL_law_59 : List UInt8 := [184, 0, 250, 54, 6, 44, 42, 21, 5, 4, 96, 46, 42, 21, 5, 5, 96, 46, 182, 0, 252, 54, 7, 44]
abbrev dktL_law_59 : List UInt8 := dkwL_law_59 ++ dktL_law_60
def dkwL_law_58 : List UInt8 := [151, 154, 0, 5, 3, 172, 167, 6, 186, 43, 42, 21, 5, 4, 96, 46, 42, 21, 5, 5, 96, 46, 45]
abbrev dktL_law_58 : List UInt8 := dkwL_law_58 ++ dktL_law_59
def dkwL_law_57 : List UInt8 := [3, 49, 24, 7, 151, 153, 0, 25, 25, 4, 3, 49, 25, 4, 3, 49, 151, 153, 0, 11, 24, 7, 24, 7]
abbrev dktL_law_57 : List UInt8 := dkwL_law_57 ++ dktL_law_58
def dkwL_law_56 : List UInt8 := [46, 182, 0, 249, 57, 7, 44, 182, 0, 167, 21, 6, 159, 0, 5, 3, 172, 21, 6, 154, 0, 35, 25, 4]
abbrev dktL_law_56 : List UInt8 := dkwL_law_56 ++ dktL_law_57
def dkwL_law_55 : List UInt8 := [172, 167, 7, 7, 43, 42, 21, 5, 4, 96, 46, 25, 4, 184, 0, 247, 54, 6, 44, 42, 21, 5, 4, 96]
abbrev dktL_law_55 : List UInt8 := dkwL_law_55 ++ dktL_law_56
def dkwL_law_54 : List UInt8 := [153, 0, 25, 25, 4, 3, 49, 25, 4, 3, 49, 151, 153, 0, 11, 23, 7, 23, 7, 149, 154, 0, 5, 3]
abbrev dktL_law_54 : List UInt8 := dkwL_law_54 ++ dktL_law_55
def dkwL_law_53 : List UInt8 := [44, 182, 0, 167, 21, 6, 159, 0, 5, 3, 172, 21, 6, 154, 0, 36, 25, 4, 3, 49, 23, 7, 141, 151]
abbrev dktL_law_53 : List UInt8 := dkwL_law_53 ++ dktL_law_54
def dkwL_law_52 : List UInt8 := [21, 5, 4, 96, 46, 25, 4, 184, 0, 243, 54, 6, 44, 42, 21, 5, 4, 96, 46, 182, 0, 246, 56, 7]
abbrev dktL_law_52 : List UInt8 := dkwL_law_52 ++ dktL_law_53
def dkwL_law_51 : List UInt8 := [153, 0, 5, 3, 172, 167, 7, 98, 43, 182, 0, 239, 44, 182, 0, 242, 159, 7, 87, 3, 172, 43, 42]
abbrev dktL_law_51 : List UInt8 := dkwL_law_51 ++ dktL_law_52
def dkwL_law_50 : List UInt8 := [182, 0, 167, 21, 6, 159, 0, 5, 3, 172, 21, 6, 154, 0, 15, 45, 3, 47, 21, 7, 133, 148]
abbrev dktL_law_50 : List UInt8 := dkwL_law_50 ++ dktL_law_51
def dkwL_law_49 : List UInt8 := [184, 0, 236, 54, 6, 44, 42, 21, 5, 4, 96, 46, 42, 21, 5, 5, 96, 46, 182, 0, 238, 54, 7, 44]
abbrev dktL_law_49 : List UInt8 := dkwL_law_49 ++ dktL_law_50
def dkwL_law_48 : List UInt8 := [153, 0, 5, 3, 172, 167, 7, 166, 43, 42, 21, 5, 4, 96, 46, 42, 21, 5, 5, 96, 46, 45]
abbrev dktL_law_48 : List UInt8 := dkwL_law_48 ++ dktL_law_49
def dkwL_law_47 : List UInt8 := [182, 0, 167, 21, 6, 159, 0, 5, 3, 172, 21, 6, 154, 0, 15, 45, 3, 47, 21, 7, 133, 148]
abbrev dktL_law_47 : List UInt8 := dkwL_law_47 ++ dktL_law_48
def dkwL_law_46 : List UInt8 := [184, 0, 233, 54, 6, 44, 42, 21, 5, 4, 96, 46, 42, 21, 5, 5, 96, 46, 182, 0, 235, 54, 7, 44]
abbrev dktL_law_46 : List UInt8 := dkwL_law_46 ++ dktL_law_47
def dkwL_law_45 : List UInt8 := [153, 0, 5, 3, 172, 167, 7, 234, 43, 42, 21, 5, 4, 96, 46, 42, 21, 5, 5, 96, 46, 45]
abbrev dktL_law_45 : List UInt8 := dkwL_law_45 ++ dktL_law_46
def dkwL_law_44 : List UInt8 := [182, 0, 167, 21, 6, 159, 0, 5, 3, 172, 21, 6, 154, 0, 15, 45, 3, 47, 21, 7, 133, 148]
abbrev dktL_law_44 : List UInt8 := dkwL_law_44 ++ dktL_law_45
def dkwL_law_43 : List UInt8 := [21, 5, 4, 96, 46, 45, 184, 0, 230, 54, 6, 44, 42, 21, 5, 4, 96, 46, 182, 0, 232, 54, 7, 44]
abbrev dktL_law_43 : List UInt8 := dkwL_law_43 ++ dktL_law_44
def dkwL_law_42 : List UInt8 := [172, 21, 6, 154, 0, 15, 45, 3, 47, 21, 7, 133, 148, 153, 0, 5, 3, 172, 167, 8, 34, 43, 42]
abbrev dktL_law_42 : List UInt8 := dkwL_law_42 ++ dktL_law_43
def dkwL_law_41 : List UInt8 := [54, 6, 44, 42, 21, 5, 4, 96, 46, 182, 0, 229, 54, 7, 44, 182, 0, 167, 21, 6, 159, 0, 5, 3]
abbrev dktL_law_41 : List UInt8 := dkwL_law_41 ++ dktL_law_42
def dkwL_law_40 : List UInt8 := [167, 0, 4, 9, 148, 153, 0, 5, 3, 172, 167, 8, 90, 43, 42, 21, 5, 4, 96, 46, 45, 184, 0, 227]
abbrev dktL_law_40 : List UInt8 := dkwL_law_40 ++ dktL_law_41
def dkwL_law_39 : List UInt8 := [182, 0, 167, 21, 6, 159, 0, 5, 3, 172, 21, 6, 154, 0, 22, 45, 3, 47, 21, 7, 153, 0, 7, 10]
abbrev dktL_law_39 : List UInt8 := dkwL_law_39 ++ dktL_law_40
def dkwL_law_38 : List UInt8 := [21, 5, 4, 96, 46, 45, 184, 0, 224, 54, 6, 44, 42, 21, 5, 4, 96, 46, 182, 0, 226, 54, 7, 44]
abbrev dktL_law_38 : List UInt8 := dkwL_law_38 ++ dktL_law_39
def dkwL_law_37 : List UInt8 := [172, 21, 6, 154, 0, 15, 45, 3, 47, 21, 7, 133, 148, 153, 0, 5, 3, 172, 167, 8, 153, 43, 42]
abbrev dktL_law_37 : List UInt8 := dkwL_law_37 ++ dktL_law_38
def dkwL_law_36 : List UInt8 := [54, 6, 44, 42, 21, 5, 4, 96, 46, 182, 0, 223, 54, 7, 44, 182, 0, 167, 21, 6, 159, 0, 5, 3]
abbrev dktL_law_36 : List UInt8 := dkwL_law_36 ++ dktL_law_37
def dkwL_law_35 : List UInt8 := [21, 7, 133, 148, 153, 0, 5, 3, 172, 167, 8, 209, 43, 42, 21, 5, 4, 96, 46, 45, 184, 0, 221]
abbrev dktL_law_35 : List UInt8 := dkwL_law_35 ++ dktL_law_36
def dkwL_law_34 : List UInt8 := [182, 0, 220, 54, 7, 44, 182, 0, 167, 21, 6, 159, 0, 5, 3, 172, 21, 6, 154, 0, 15, 45, 3, 47]
abbrev dktL_law_34 : List UInt8 := dkwL_law_34 ++ dktL_law_35
def dkwL_law_33 : List UInt8 := [5, 96, 46, 45, 184, 0, 218, 54, 6, 44, 42, 21, 5, 4, 96, 46, 42, 21, 5, 5, 96, 46]
abbrev dktL_law_33 : List UInt8 := dkwL_law_33 ++ dktL_law_34
def dkwL_law_32 : List UInt8 := [3, 47, 21, 7, 133, 148, 153, 0, 5, 3, 172, 167, 9, 21, 43, 42, 21, 5, 4, 96, 46, 42, 21, 5]
abbrev dktL_law_32 : List UInt8 := dkwL_law_32 ++ dktL_law_33
def dkwL_law_31 : List UInt8 := [96, 46, 182, 0, 217, 54, 7, 44, 182, 0, 167, 21, 6, 159, 0, 5, 3, 172, 21, 6, 154, 0, 15, 45]
abbrev dktL_law_31 : List UInt8 := dkwL_law_31 ++ dktL_law_32
def dkwL_law_30 : List UInt8 := [46, 42, 21, 5, 5, 96, 46, 45, 184, 0, 215, 54, 6, 44, 42, 21, 5, 4, 96, 46, 42, 21, 5, 5]
abbrev dktL_law_30 : List UInt8 := dkwL_law_30 ++ dktL_law_31
def dkwL_law_29 : List UInt8 := [154, 0, 15, 45, 3, 47, 21, 7, 133, 148, 153, 0, 5, 3, 172, 167, 9, 89, 43, 42, 21, 5, 4, 96]
abbrev dktL_law_29 : List UInt8 := dkwL_law_29 ++ dktL_law_30
def dkwL_law_28 : List UInt8 := [21, 5, 6, 96, 46, 182, 0, 214, 54, 7, 44, 182, 0, 167, 21, 6, 159, 0, 5, 3, 172, 21, 6]
abbrev dktL_law_28 : List UInt8 := dkwL_law_28 ++ dktL_law_29
def dkwL_law_27 : List UInt8 := [6, 96, 46, 45, 184, 0, 212, 54, 6, 44, 42, 21, 5, 4, 96, 46, 42, 21, 5, 5, 96, 46, 42]
abbrev dktL_law_27 : List UInt8 := dkwL_law_27 ++ dktL_law_28
def dkwL_law_26 : List UInt8 := [153, 0, 5, 3, 172, 167, 9, 169, 43, 42, 21, 5, 4, 96, 46, 42, 21, 5, 5, 96, 46, 42, 21, 5]
abbrev dktL_law_26 : List UInt8 := dkwL_law_26 ++ dktL_law_27
def dkwL_law_25 : List UInt8 := [182, 0, 167, 21, 6, 159, 0, 5, 3, 172, 21, 6, 154, 0, 15, 45, 3, 47, 21, 7, 133, 148]
abbrev dktL_law_25 : List UInt8 := dkwL_law_25 ++ dktL_law_26
def dkwL_law_24 : List UInt8 := [184, 0, 209, 54, 6, 44, 42, 21, 5, 4, 96, 46, 42, 21, 5, 5, 96, 46, 182, 0, 211, 54, 7, 44]
abbrev dktL_law_24 : List UInt8 := dkwL_law_24 ++ dktL_law_25
def dkwL_law_23 : List UInt8 := [148, 153, 0, 5, 3, 172, 167, 9, 237, 43, 42, 21, 5, 4, 96, 46, 42, 21, 5, 5, 96, 46, 45]
abbrev dktL_law_23 : List UInt8 := dkwL_law_23 ++ dktL_law_24
def dkwL_law_22 : List UInt8 := [54, 7, 44, 182, 0, 167, 21, 6, 159, 0, 5, 3, 172, 21, 6, 154, 0, 15, 45, 3, 47, 21, 7, 133]
abbrev dktL_law_22 : List UInt8 := dkwL_law_22 ++ dktL_law_23
def dkwL_law_21 : List UInt8 := [46, 45, 184, 0, 206, 54, 6, 44, 42, 21, 5, 4, 96, 46, 42, 21, 5, 5, 96, 46, 182, 0, 208]
abbrev dktL_law_21 : List UInt8 := dkwL_law_21 ++ dktL_law_22
def dkwL_law_20 : List UInt8 := [21, 7, 133, 148, 153, 0, 5, 3, 172, 167, 10, 49, 43, 42, 21, 5, 4, 96, 46, 42, 21, 5, 5, 96]
abbrev dktL_law_20 : List UInt8 := dkwL_law_20 ++ dktL_law_21
def dkwL_law_19 : List UInt8 := [182, 0, 205, 54, 7, 44, 182, 0, 167, 21, 6, 159, 0, 5, 3, 172, 21, 6, 154, 0, 15, 45, 3, 47]
abbrev dktL_law_19 : List UInt8 := dkwL_law_19 ++ dktL_law_20
def dkwL_law_18 : List UInt8 := [184, 0, 202, 54, 6, 44, 42, 21, 5, 4, 96, 46, 42, 21, 5, 5, 96, 46, 42, 21, 5, 6, 96, 46]
abbrev dktL_law_18 : List UInt8 := dkwL_law_18 ++ dktL_law_19
def dkwL_law_17 : List UInt8 := [167, 10, 129, 43, 42, 21, 5, 4, 96, 46, 42, 21, 5, 5, 96, 46, 42, 21, 5, 6, 96, 46, 45]
abbrev dktL_law_17 : List UInt8 := dkwL_law_17 ++ dktL_law_18
def dkwL_law_16 : List UInt8 := [159, 0, 5, 3, 172, 21, 6, 154, 0, 15, 45, 3, 47, 21, 7, 133, 148, 153, 0, 5, 3, 172]
abbrev dktL_law_16 : List UInt8 := dkwL_law_16 ++ dktL_law_17
def dkwL_law_15 : List UInt8 := [21, 5, 4, 96, 46, 42, 21, 5, 5, 96, 46, 182, 0, 201, 54, 7, 44, 182, 0, 167, 21, 6]
abbrev dktL_law_15 : List UInt8 := dkwL_law_15 ++ dktL_law_16
def dkwL_law_14 : List UInt8 := [167, 10, 197, 43, 42, 21, 5, 4, 96, 46, 42, 21, 5, 5, 96, 46, 45, 184, 0, 198, 54, 6, 44, 42]
abbrev dktL_law_14 : List UInt8 := dkwL_law_14 ++ dktL_law_15
def dkwL_law_13 : List UInt8 := [21, 6, 159, 0, 5, 3, 172, 21, 6, 154, 0, 15, 45, 3, 47, 21, 7, 133, 148, 153, 0, 5, 3, 172]
abbrev dktL_law_13 : List UInt8 := dkwL_law_13 ++ dktL_law_14
def dkwL_law_12 : List UInt8 := [46, 45, 184, 0, 194, 54, 6, 44, 42, 21, 5, 4, 96, 46, 182, 0, 197, 54, 7, 44, 182, 0, 167]
abbrev dktL_law_12 : List UInt8 := dkwL_law_12 ++ dktL_law_13
def dkwL_law_11 : List UInt8 := [159, 11, 12, 3, 172, 43, 182, 0, 190, 44, 182, 0, 193, 159, 10, 255, 3, 172, 43, 42, 21, 5, 4, 96]
abbrev dktL_law_11 : List UInt8 := dkwL_law_11 ++ dktL_law_12
def dkwL_law_10 : List UInt8 := [172, 43, 182, 0, 182, 44, 182, 0, 185, 159, 11, 25, 3, 172, 43, 182, 0, 186, 44, 182, 0, 189]
abbrev dktL_law_10 : List UInt8 := dkwL_law_10 ++ dktL_law_11
def dkwL_law_9 : List UInt8 := [182, 0, 174, 44, 182, 0, 177, 159, 11, 51, 3, 172, 43, 182, 0, 178, 44, 182, 0, 181, 159, 11, 38, 3]
abbrev dktL_law_9 : List UInt8 := dkwL_law_9 ++ dktL_law_10
def dkwL_law_8 : List UInt8 := [21, 5, 4, 96, 46, 182, 0, 173, 44, 182, 0, 167, 21, 6, 159, 0, 5, 3, 172, 167, 11, 62, 43]
abbrev dktL_law_8 : List UInt8 := dkwL_law_8 ++ dktL_law_9
def dkwL_law_7 : List UInt8 := [148, 153, 0, 5, 3, 172, 167, 11, 98, 43, 42, 21, 5, 4, 96, 46, 184, 0, 170, 54, 6, 44, 42]
abbrev dktL_law_7 : List UInt8 := dkwL_law_7 ++ dktL_law_8
def dkwL_law_6 : List UInt8 := [54, 7, 44, 182, 0, 167, 21, 6, 159, 0, 5, 3, 172, 21, 6, 154, 0, 15, 45, 3, 47, 21, 7, 133]
abbrev dktL_law_6 : List UInt8 := dkwL_law_6 ++ dktL_law_7
def dkwL_law_5 : List UInt8 := [96, 46, 42, 21, 5, 6, 96, 46, 42, 21, 5, 7, 96, 46, 42, 21, 5, 8, 96, 46, 182, 0, 166]
abbrev dktL_law_5 : List UInt8 := dkwL_law_5 ++ dktL_law_6
def dkwL_law_4 : List UInt8 := [46, 42, 21, 5, 8, 96, 46, 45, 184, 0, 161, 54, 6, 44, 42, 21, 5, 4, 96, 46, 42, 21, 5, 5]
abbrev dktL_law_4 : List UInt8 := dkwL_law_4 ++ dktL_law_5
def dkwL_law_3 : List UInt8 := [43, 42, 21, 5, 4, 96, 46, 42, 21, 5, 5, 96, 46, 42, 21, 5, 6, 96, 46, 42, 21, 5, 7, 96]
abbrev dktL_law_3 : List UInt8 := dkwL_law_3 ++ dktL_law_4
def dkwL_law_2 : List UInt8 := [170, 0, 0, 0, 0, 12, 158, 0, 0, 0, 0, 0, 0, 0, 49, 0, 0, 0, 215, 0, 0, 1, 63, 0, 0, 1, 99, 0, 0, 1, 112, 0, 0, 1, 125, 0, 0, 1, 138, 0, 0, 1, 151, 0, 0, 1, 164, 0, 0, 1, 220, 0, 0, 2, 32, 0, 0, 2, 112, 0, 0, 2, 180, 0, 0, 2, 248, 0, 0, 3, 72, 0, 0, 3, 140, 0, 0, 3, 208, 0, 0, 4, 8, 0, 0, 4, 71, 0, 0, 4, 127, 0, 0, 4, 183, 0, 0, 4, 251, 0, 0, 5, 63, 0, 0, 5, 76, 0, 0, 5, 154, 0, 0, 5, 231, 0, 0, 6, 43, 0, 0, 6, 111, 0, 0, 6, 167, 0, 0, 7, 7, 0, 0, 7, 63, 0, 0, 7, 119, 0, 0, 7, 175, 0, 0, 8, 27, 0, 0, 8, 161, 0, 0, 9, 9, 0, 0, 9, 64, 0, 0, 9, 120, 0, 0, 9, 200, 0, 0, 10, 36, 0, 0, 10, 128, 0, 0, 10, 184, 0, 0, 11, 8, 0, 0, 11, 64, 0, 0, 11, 120, 0, 0, 11, 176, 0, 0, 11, 220, 0, 0, 11, 233, 0, 0, 12, 33, 0, 0, 12, 89, 0, 0, 12, 102]
abbrev dktL_law_2 : List UInt8 := dkwL_law_2 ++ dktL_law_3
def dkwL_law_1 : List UInt8 := [58, 4, 3, 54, 5, 21, 5, 42, 190, 16, 7, 100, 163, 12, 174, 42, 21, 5, 46, 16, 63, 126]
abbrev dktL_law_1 : List UInt8 := dkwL_law_1 ++ dktL_law_2
def dkwL_law_0 : List UInt8 := [187, 0, 8, 89, 183, 0, 157, 76, 187, 0, 158, 89, 183, 0, 160, 77, 4, 188, 11, 78, 4, 188, 7]
abbrev dktL_law_0 : List UInt8 := dkwL_law_0 ++ dktL_law_1
theorem dksL_law_0 : cL_law.data.toList.drop 0 = dktL_law_0 := by decide +kernel
theorem dksL_law_1 : cL_law.data.toList.drop 23 = dktL_law_1 := dk_seg dksL_law_0 23 rfl rfl
theorem dksL_law_2 : cL_law.data.toList.drop 45 = dktL_law_2 := dk_seg dksL_law_1 22 rfl rfl
theorem dksL_law_3 : cL_law.data.toList.drop 260 = dktL_law_3 := dk_seg dksL_law_2 215 rfl rfl
theorem dksL_law_4 : cL_law.data.toList.drop 284 = dktL_law_4 := dk_seg dksL_law_3 24 rfl rfl
theorem dksL_law_5 : cL_law.data.toList.drop 308 = dktL_law_5 := dk_seg dksL_law_4 24 rfl rfl
theorem dksL_law_6 : cL_law.data.toList.drop 331 = dktL_law_6 := dk_seg dksL_law_5 23 rfl rfl
theorem dksL_law_7 : cL_law.data.toList.drop 355 = dktL_law_7 := dk_seg dksL_law_6 24 rfl rfl
theorem dksL_law_8 : cL_law.data.toList.drop 378 = dktL_law_8 := dk_seg dksL_law_7 23 rfl rfl
theorem dksL_law_9 : cL_law.data.toList.drop 401 = dktL_law_9 := dk_seg dksL_law_8 23 rfl rfl
theorem dksL_law_10 : cL_law.data.toList.drop 425 = dktL_law_10 := dk_seg dksL_law_9 24 rfl rfl
theorem dksL_law_11 : cL_law.data.toList.drop 447 = dktL_law_11 := dk_seg dksL_law_10 22 rfl rfl
theorem dksL_law_12 : cL_law.data.toList.drop 471 = dktL_law_12 := dk_seg dksL_law_11 24 rfl rfl
theorem dksL_law_13 : cL_law.data.toList.drop 494 = dktL_law_13 := dk_seg dksL_law_12 23 rfl rfl
theorem dksL_law_14 : cL_law.data.toList.drop 518 = dktL_law_14 := dk_seg dksL_law_13 24 rfl rfl
theorem dksL_law_15 : cL_law.data.toList.drop 542 = dktL_law_15 := dk_seg dksL_law_14 24 rfl rfl
theorem dksL_law_16 : cL_law.data.toList.drop 564 = dktL_law_16 := dk_seg dksL_law_15 22 rfl rfl
theorem dksL_law_17 : cL_law.data.toList.drop 586 = dktL_law_17 := dk_seg dksL_law_16 22 rfl rfl
theorem dksL_law_18 : cL_law.data.toList.drop 609 = dktL_law_18 := dk_seg dksL_law_17 23 rfl rfl
theorem dksL_law_19 : cL_law.data.toList.drop 633 = dktL_law_19 := dk_seg dksL_law_18 24 rfl rfl
theorem dksL_law_20 : cL_law.data.toList.drop 657 = dktL_law_20 := dk_seg dksL_law_19 24 rfl rfl
theorem dksL_law_21 : cL_law.data.toList.drop 681 = dktL_law_21 := dk_seg dksL_law_20 24 rfl rfl
theorem dksL_law_22 : cL_law.data.toList.drop 704 = dktL_law_22 := dk_seg dksL_law_21 23 rfl rfl
theorem dksL_law_23 : cL_law.data.toList.drop 728 = dktL_law_23 := dk_seg dksL_law_22 24 rfl rfl
theorem dksL_law_24 : cL_law.data.toList.drop 751 = dktL_law_24 := dk_seg dksL_law_23 23 rfl rfl
theorem dksL_law_25 : cL_law.data.toList.drop 775 = dktL_law_25 := dk_seg dksL_law_24 24 rfl rfl
theorem dksL_law_26 : cL_law.data.toList.drop 797 = dktL_law_26 := dk_seg dksL_law_25 22 rfl rfl
theorem dksL_law_27 : cL_law.data.toList.drop 821 = dktL_law_27 := dk_seg dksL_law_26 24 rfl rfl
theorem dksL_law_28 : cL_law.data.toList.drop 844 = dktL_law_28 := dk_seg dksL_law_27 23 rfl rfl
theorem dksL_law_29 : cL_law.data.toList.drop 867 = dktL_law_29 := dk_seg dksL_law_28 23 rfl rfl
theorem dksL_law_30 : cL_law.data.toList.drop 891 = dktL_law_30 := dk_seg dksL_law_29 24 rfl rfl
theorem dksL_law_31 : cL_law.data.toList.drop 915 = dktL_law_31 := dk_seg dksL_law_30 24 rfl rfl
theorem dksL_law_32 : cL_law.data.toList.drop 939 = dktL_law_32 := dk_seg dksL_law_31 24 rfl rfl
theorem dksL_law_33 : cL_law.data.toList.drop 963 = dktL_law_33 := dk_seg dksL_law_32 24 rfl rfl
theorem dksL_law_34 : cL_law.data.toList.drop 985 = dktL_law_34 := dk_seg dksL_law_33 22 rfl rfl
theorem dksL_law_35 : cL_law.data.toList.drop 1009 = dktL_law_35 := dk_seg dksL_law_34 24 rfl rfl
theorem dksL_law_36 : cL_law.data.toList.drop 1032 = dktL_law_36 := dk_seg dksL_law_35 23 rfl rfl
theorem dksL_law_37 : cL_law.data.toList.drop 1056 = dktL_law_37 := dk_seg dksL_law_36 24 rfl rfl
theorem dksL_law_38 : cL_law.data.toList.drop 1079 = dktL_law_38 := dk_seg dksL_law_37 23 rfl rfl
theorem dksL_law_39 : cL_law.data.toList.drop 1103 = dktL_law_39 := dk_seg dksL_law_38 24 rfl rfl
theorem dksL_law_40 : cL_law.data.toList.drop 1127 = dktL_law_40 := dk_seg dksL_law_39 24 rfl rfl
theorem dksL_law_41 : cL_law.data.toList.drop 1151 = dktL_law_41 := dk_seg dksL_law_40 24 rfl rfl
theorem dksL_law_42 : cL_law.data.toList.drop 1175 = dktL_law_42 := dk_seg dksL_law_41 24 rfl rfl
theorem dksL_law_43 : cL_law.data.toList.drop 1198 = dktL_law_43 := dk_seg dksL_law_42 23 rfl rfl
theorem dksL_law_44 : cL_law.data.toList.drop 1222 = dktL_law_44 := dk_seg dksL_law_43 24 rfl rfl
theorem dksL_law_45 : cL_law.data.toList.drop 1244 = dktL_law_45 := dk_seg dksL_law_44 22 rfl rfl
theorem dksL_law_46 : cL_law.data.toList.drop 1266 = dktL_law_46 := dk_seg dksL_law_45 22 rfl rfl
theorem dksL_law_47 : cL_law.data.toList.drop 1290 = dktL_law_47 := dk_seg dksL_law_46 24 rfl rfl
theorem dksL_law_48 : cL_law.data.toList.drop 1312 = dktL_law_48 := dk_seg dksL_law_47 22 rfl rfl
theorem dksL_law_49 : cL_law.data.toList.drop 1334 = dktL_law_49 := dk_seg dksL_law_48 22 rfl rfl
theorem dksL_law_50 : cL_law.data.toList.drop 1358 = dktL_law_50 := dk_seg dksL_law_49 24 rfl rfl
theorem dksL_law_51 : cL_law.data.toList.drop 1380 = dktL_law_51 := dk_seg dksL_law_50 22 rfl rfl
theorem dksL_law_52 : cL_law.data.toList.drop 1403 = dktL_law_52 := dk_seg dksL_law_51 23 rfl rfl
theorem dksL_law_53 : cL_law.data.toList.drop 1427 = dktL_law_53 := dk_seg dksL_law_52 24 rfl rfl
theorem dksL_law_54 : cL_law.data.toList.drop 1451 = dktL_law_54 := dk_seg dksL_law_53 24 rfl rfl
theorem dksL_law_55 : cL_law.data.toList.drop 1475 = dktL_law_55 := dk_seg dksL_law_54 24 rfl rfl
theorem dksL_law_56 : cL_law.data.toList.drop 1499 = dktL_law_56 := dk_seg dksL_law_55 24 rfl rfl
theorem dksL_law_57 : cL_law.data.toList.drop 1523 = dktL_law_57 := dk_seg dksL_law_56 24 rfl rfl
theorem dksL_law_58 : cL_law.data.toList.drop 1547 = dktL_law_58 := dk_seg dksL_law_57 24 rfl rfl
theorem dksL_law_59 : cL_law.data.toList.drop 1570 = dktL_law_59 := dk_seg dksL_law_58 23 rfl rfl
theorem dksL_law_60 : cL_law.data.toList.drop 1594 = dktL_law_60 := dk_seg dksL_law_59 24 rfl rfl
theorem dksL_law_61 : cL_law.data.toList.drop 1616 = dktL_law_61 := dk_seg dksL_law_60 22 rfl rfl
theorem dksL_law_62 : cL_law.data.toList.drop 1638 = dktL_law_62 := dk_seg dksL_law_61 22 rfl rfl
theorem dksL_law_63 : cL_law.data.toList.drop 1662 = dktL_law_63 := dk_seg dksL_law_62 24 rfl rfl
theorem dksL_law_64 : cL_law.data.toList.drop 1684 = dktL_law_64 := dk_seg dksL_law_63 22 rfl rfl
theorem dksL_law_65 : cL_law.data.toList.drop 1707 = dktL_law_65 := dk_seg dksL_law_64 23 rfl rfl
theorem dksL_law_66 : cL_law.data.toList.drop 1730 = dktL_law_66 := dk_seg dksL_law_65 23 rfl rfl
theorem dksL_law_67 : cL_law.data.toList.drop 1754 = dktL_law_67 := dk_seg dksL_law_66 24 rfl rfl
theorem dksL_law_68 : cL_law.data.toList.drop 1776 = dktL_law_68 := dk_seg dksL_law_67 22 rfl rfl
theorem dksL_law_69 : cL_law.data.toList.drop 1800 = dktL_law_69 := dk_seg dksL_law_68 24 rfl rfl
theorem dksL_law_70 : cL_law.data.toList.drop 1824 = dktL_law_70 := dk_seg dksL_law_69 24 rfl rfl
theorem dksL_law_71 : cL_law.data.toList.drop 1848 = dktL_law_71 := dk_seg dksL_law_70 24 rfl rfl
theorem dksL_law_72 : cL_law.data.toList.drop 1870 = dktL_law_72 := dk_seg dksL_law_71 22 rfl rfl
theorem dksL_law_73 : cL_law.data.toList.drop 1892 = dktL_law_73 := dk_seg dksL_law_72 22 rfl rfl
theorem dksL_law_74 : cL_law.data.toList.drop 1915 = dktL_law_74 := dk_seg dksL_law_73 23 rfl rfl
theorem dksL_law_75 : cL_law.data.toList.drop 1938 = dktL_law_75 := dk_seg dksL_law_74 23 rfl rfl
theorem dksL_law_76 : cL_law.data.toList.drop 1962 = dktL_law_76 := dk_seg dksL_law_75 24 rfl rfl
theorem dksL_law_77 : cL_law.data.toList.drop 1985 = dktL_law_77 := dk_seg dksL_law_76 23 rfl rfl
theorem dksL_law_78 : cL_law.data.toList.drop 2009 = dktL_law_78 := dk_seg dksL_law_77 24 rfl rfl
theorem dksL_law_79 : cL_law.data.toList.drop 2032 = dktL_law_79 := dk_seg dksL_law_78 23 rfl rfl
theorem dksL_law_80 : cL_law.data.toList.drop 2056 = dktL_law_80 := dk_seg dksL_law_79 24 rfl rfl
theorem dksL_law_81 : cL_law.data.toList.drop 2080 = dktL_law_81 := dk_seg dksL_law_80 24 rfl rfl
theorem dksL_law_82 : cL_law.data.toList.drop 2102 = dktL_law_82 := dk_seg dksL_law_81 22 rfl rfl
theorem dksL_law_83 : cL_law.data.toList.drop 2126 = dktL_law_83 := dk_seg dksL_law_82 24 rfl rfl
theorem dksL_law_84 : cL_law.data.toList.drop 2150 = dktL_law_84 := dk_seg dksL_law_83 24 rfl rfl
theorem dksL_law_85 : cL_law.data.toList.drop 2174 = dktL_law_85 := dk_seg dksL_law_84 24 rfl rfl
theorem dksL_law_86 : cL_law.data.toList.drop 2198 = dktL_law_86 := dk_seg dksL_law_85 24 rfl rfl
theorem dksL_law_87 : cL_law.data.toList.drop 2221 = dktL_law_87 := dk_seg dksL_law_86 23 rfl rfl
theorem dksL_law_88 : cL_law.data.toList.drop 2245 = dktL_law_88 := dk_seg dksL_law_87 24 rfl rfl
theorem dksL_law_89 : cL_law.data.toList.drop 2268 = dktL_law_89 := dk_seg dksL_law_88 23 rfl rfl
theorem dksL_law_90 : cL_law.data.toList.drop 2292 = dktL_law_90 := dk_seg dksL_law_89 24 rfl rfl
theorem dksL_law_91 : cL_law.data.toList.drop 2316 = dktL_law_91 := dk_seg dksL_law_90 24 rfl rfl
theorem dksL_law_92 : cL_law.data.toList.drop 2340 = dktL_law_92 := dk_seg dksL_law_91 24 rfl rfl
theorem dksL_law_93 : cL_law.data.toList.drop 2364 = dktL_law_93 := dk_seg dksL_law_92 24 rfl rfl
theorem dksL_law_94 : cL_law.data.toList.drop 2387 = dktL_law_94 := dk_seg dksL_law_93 23 rfl rfl
theorem dksL_law_95 : cL_law.data.toList.drop 2410 = dktL_law_95 := dk_seg dksL_law_94 23 rfl rfl
theorem dksL_law_96 : cL_law.data.toList.drop 2433 = dktL_law_96 := dk_seg dksL_law_95 23 rfl rfl
theorem dksL_law_97 : cL_law.data.toList.drop 2457 = dktL_law_97 := dk_seg dksL_law_96 24 rfl rfl
theorem dksL_law_98 : cL_law.data.toList.drop 2481 = dktL_law_98 := dk_seg dksL_law_97 24 rfl rfl
theorem dksL_law_99 : cL_law.data.toList.drop 2505 = dktL_law_99 := dk_seg dksL_law_98 24 rfl rfl
theorem dksL_law_100 : cL_law.data.toList.drop 2529 = dktL_law_100 := dk_seg dksL_law_99 24 rfl rfl
theorem dksL_law_101 : cL_law.data.toList.drop 2553 = dktL_law_101 := dk_seg dksL_law_100 24 rfl rfl
theorem dksL_law_102 : cL_law.data.toList.drop 2575 = dktL_law_102 := dk_seg dksL_law_101 22 rfl rfl
theorem dksL_law_103 : cL_law.data.toList.drop 2599 = dktL_law_103 := dk_seg dksL_law_102 24 rfl rfl
theorem dksL_law_104 : cL_law.data.toList.drop 2623 = dktL_law_104 := dk_seg dksL_law_103 24 rfl rfl
theorem dksL_law_105 : cL_law.data.toList.drop 2647 = dktL_law_105 := dk_seg dksL_law_104 24 rfl rfl
theorem dksL_law_106 : cL_law.data.toList.drop 2670 = dktL_law_106 := dk_seg dksL_law_105 23 rfl rfl
theorem dksL_law_107 : cL_law.data.toList.drop 2694 = dktL_law_107 := dk_seg dksL_law_106 24 rfl rfl
theorem dksL_law_108 : cL_law.data.toList.drop 2718 = dktL_law_108 := dk_seg dksL_law_107 24 rfl rfl
theorem dksL_law_109 : cL_law.data.toList.drop 2741 = dktL_law_109 := dk_seg dksL_law_108 23 rfl rfl
theorem dksL_law_110 : cL_law.data.toList.drop 2764 = dktL_law_110 := dk_seg dksL_law_109 23 rfl rfl
theorem dksL_law_111 : cL_law.data.toList.drop 2786 = dktL_law_111 := dk_seg dksL_law_110 22 rfl rfl
theorem dksL_law_112 : cL_law.data.toList.drop 2809 = dktL_law_112 := dk_seg dksL_law_111 23 rfl rfl
theorem dksL_law_113 : cL_law.data.toList.drop 2833 = dktL_law_113 := dk_seg dksL_law_112 24 rfl rfl
theorem dksL_law_114 : cL_law.data.toList.drop 2857 = dktL_law_114 := dk_seg dksL_law_113 24 rfl rfl
theorem dksL_law_115 : cL_law.data.toList.drop 2880 = dktL_law_115 := dk_seg dksL_law_114 23 rfl rfl
theorem dksL_law_116 : cL_law.data.toList.drop 2904 = dktL_law_116 := dk_seg dksL_law_115 24 rfl rfl
theorem dksL_law_117 : cL_law.data.toList.drop 2927 = dktL_law_117 := dk_seg dksL_law_116 23 rfl rfl
theorem dksL_law_118 : cL_law.data.toList.drop 2951 = dktL_law_118 := dk_seg dksL_law_117 24 rfl rfl
theorem dksL_law_119 : cL_law.data.toList.drop 2973 = dktL_law_119 := dk_seg dksL_law_118 22 rfl rfl
theorem dksL_law_120 : cL_law.data.toList.drop 2996 = dktL_law_120 := dk_seg dksL_law_119 23 rfl rfl
theorem dksL_law_121 : cL_law.data.toList.drop 3019 = dktL_law_121 := dk_seg dksL_law_120 23 rfl rfl
theorem dksL_law_122 : cL_law.data.toList.drop 3042 = dktL_law_122 := dk_seg dksL_law_121 23 rfl rfl
theorem dksL_law_123 : cL_law.data.toList.drop 3066 = dktL_law_123 := dk_seg dksL_law_122 24 rfl rfl
theorem dksL_law_124 : cL_law.data.toList.drop 3089 = dktL_law_124 := dk_seg dksL_law_123 23 rfl rfl
theorem dksL_law_125 : cL_law.data.toList.drop 3113 = dktL_law_125 := dk_seg dksL_law_124 24 rfl rfl
theorem dksL_law_126 : cL_law.data.toList.drop 3137 = dktL_law_126 := dk_seg dksL_law_125 24 rfl rfl
theorem dksL_law_127 : cL_law.data.toList.drop 3161 = dktL_law_127 := dk_seg dksL_law_126 24 rfl rfl
theorem dksL_law_128 : cL_law.data.toList.drop 3185 = dktL_law_128 := dk_seg dksL_law_127 24 rfl rfl
theorem dksL_law_129 : cL_law.data.toList.drop 3207 = dktL_law_129 := dk_seg dksL_law_128 22 rfl rfl
theorem dksL_law_130 : cL_law.data.toList.drop 3230 = dktL_law_130 := dk_seg dksL_law_129 23 rfl rfl
theorem dksL_law_131 : cL_law.data.toList.drop 3254 = dktL_law_131 := dk_seg dksL_law_130 24 rfl rfl
theorem dksL_law_132 : cL_law.data.toList.drop 3278 = dktL_law_132 := dk_seg dksL_law_131 24 rfl rfl
theorem dL_law_0 : decode cL_law 0 = .ok (.new 8, 3) := dk_187 0 8 (dk_at dksL_law_0 0 rfl rfl)
theorem dL_law_3 : decode cL_law 3 = .ok (.dup, 1) := dk_89 (dk_at dksL_law_0 3 rfl rfl)
theorem dL_law_4 : decode cL_law 4 = .ok (.invokespecial 157, 3) := dk_183 0 157 (dk_at dksL_law_0 4 rfl rfl)
theorem dL_law_7 : decode cL_law 7 = .ok (.astore_n 1, 1) := dk_76 (dk_at dksL_law_0 7 rfl rfl)
theorem dL_law_8 : decode cL_law 8 = .ok (.new 158, 3) := dk_187 0 158 (dk_at dksL_law_0 8 rfl rfl)
theorem dL_law_11 : decode cL_law 11 = .ok (.dup, 1) := dk_89 (dk_at dksL_law_0 11 rfl rfl)
theorem dL_law_12 : decode cL_law 12 = .ok (.invokespecial 160, 3) := dk_183 0 160 (dk_at dksL_law_0 12 rfl rfl)
theorem dL_law_15 : decode cL_law 15 = .ok (.astore_n 2, 1) := dk_77 (dk_at dksL_law_0 15 rfl rfl)
theorem dL_law_16 : decode cL_law 16 = .ok (.iconst 1, 1) := dk_4 (dk_at dksL_law_0 16 rfl rfl)
theorem dL_law_17 : decode cL_law 17 = .ok (.newarray .long, 2) := dk_188_11 (dk_at dksL_law_0 17 rfl rfl)
theorem dL_law_19 : decode cL_law 19 = .ok (.astore_n 3, 1) := dk_78 (dk_at dksL_law_0 19 rfl rfl)
theorem dL_law_20 : decode cL_law 20 = .ok (.iconst 1, 1) := dk_4 (dk_at dksL_law_0 20 rfl rfl)
theorem dL_law_21 : decode cL_law 21 = .ok (.newarray .double, 2) := dk_188_7 (dk_at dksL_law_0 21 rfl rfl)
theorem dL_law_23 : decode cL_law 23 = .ok (.astore 4, 2) := dk_58 4 (dk_at dksL_law_1 0 rfl rfl)
theorem dL_law_25 : decode cL_law 25 = .ok (.iconst 0, 1) := dk_3 (dk_at dksL_law_1 2 rfl rfl)
theorem dL_law_26 : decode cL_law 26 = .ok (.istore 5, 2) := dk_54 5 (dk_at dksL_law_1 3 rfl rfl)
theorem dL_law_28 : decode cL_law 28 = .ok (.iload 5, 2) := dk_21 5 (dk_at dksL_law_1 5 rfl rfl)
theorem dL_law_30 : decode cL_law 30 = .ok (.aload_n 0, 1) := dk_42 (dk_at dksL_law_1 7 rfl rfl)
theorem dL_law_31 : decode cL_law 31 = .ok (.arraylength, 1) := dk_190 (dk_at dksL_law_1 8 rfl rfl)
theorem dL_law_32 : decode cL_law 32 = .ok (.bipush 7, 2) := dk_16 7 (dk_at dksL_law_1 9 rfl rfl)
theorem dL_law_34 : decode cL_law 34 = .ok (.isub, 1) := dk_100 (dk_at dksL_law_1 11 rfl rfl)
theorem dL_law_35 : decode cL_law 35 = .ok (.if_icmp .gt 3246, 3) := dk_163 12 174 (dk_at dksL_law_1 12 rfl rfl)
theorem dL_law_38 : decode cL_law 38 = .ok (.aload_n 0, 1) := dk_42 (dk_at dksL_law_1 15 rfl rfl)
theorem dL_law_39 : decode cL_law 39 = .ok (.iload 5, 2) := dk_21 5 (dk_at dksL_law_1 16 rfl rfl)
theorem dL_law_41 : decode cL_law 41 = .ok (.iaload, 1) := dk_46 (dk_at dksL_law_1 18 rfl rfl)
theorem dL_law_42 : decode cL_law 42 = .ok (.bipush 63, 2) := dk_16 63 (dk_at dksL_law_1 19 rfl rfl)
theorem dL_law_44 : decode cL_law 44 = .ok (.iand, 1) := dk_126 (dk_at dksL_law_1 21 rfl rfl)
theorem dL_law_45 : decode cL_law 45 = .ok (.tableswitch 3230 0 49 #[215, 319, 355, 368, 381, 394, 407, 420, 476, 544, 624, 692, 760, 840, 908, 976, 1032, 1095, 1151, 1207, 1275, 1343, 1356, 1434, 1511, 1579, 1647, 1703, 1799, 1855, 1911, 1967, 2075, 2209, 2313, 2368, 2424, 2504, 2596, 2688, 2744, 2824, 2880, 2936, 2992, 3036, 3049, 3105, 3161, 3174], 215) := by decide +kernel
theorem dL_law_260 : decode cL_law 260 = .ok (.aload_n 1, 1) := dk_43 (dk_at dksL_law_3 0 rfl rfl)
theorem dL_law_261 : decode cL_law 261 = .ok (.aload_n 0, 1) := dk_42 (dk_at dksL_law_3 1 rfl rfl)
theorem dL_law_262 : decode cL_law 262 = .ok (.iload 5, 2) := dk_21 5 (dk_at dksL_law_3 2 rfl rfl)
theorem dL_law_264 : decode cL_law 264 = .ok (.iconst 1, 1) := dk_4 (dk_at dksL_law_3 4 rfl rfl)
theorem dL_law_265 : decode cL_law 265 = .ok (.iadd, 1) := dk_96 (dk_at dksL_law_3 5 rfl rfl)
theorem dL_law_266 : decode cL_law 266 = .ok (.iaload, 1) := dk_46 (dk_at dksL_law_3 6 rfl rfl)
theorem dL_law_267 : decode cL_law 267 = .ok (.aload_n 0, 1) := dk_42 (dk_at dksL_law_3 7 rfl rfl)
theorem dL_law_268 : decode cL_law 268 = .ok (.iload 5, 2) := dk_21 5 (dk_at dksL_law_3 8 rfl rfl)
theorem dL_law_270 : decode cL_law 270 = .ok (.iconst 2, 1) := dk_5 (dk_at dksL_law_3 10 rfl rfl)
theorem dL_law_271 : decode cL_law 271 = .ok (.iadd, 1) := dk_96 (dk_at dksL_law_3 11 rfl rfl)
theorem dL_law_272 : decode cL_law 272 = .ok (.iaload, 1) := dk_46 (dk_at dksL_law_3 12 rfl rfl)
theorem dL_law_273 : decode cL_law 273 = .ok (.aload_n 0, 1) := dk_42 (dk_at dksL_law_3 13 rfl rfl)
theorem dL_law_274 : decode cL_law 274 = .ok (.iload 5, 2) := dk_21 5 (dk_at dksL_law_3 14 rfl rfl)
theorem dL_law_276 : decode cL_law 276 = .ok (.iconst 3, 1) := dk_6 (dk_at dksL_law_3 16 rfl rfl)
theorem dL_law_277 : decode cL_law 277 = .ok (.iadd, 1) := dk_96 (dk_at dksL_law_3 17 rfl rfl)
theorem dL_law_278 : decode cL_law 278 = .ok (.iaload, 1) := dk_46 (dk_at dksL_law_3 18 rfl rfl)
theorem dL_law_279 : decode cL_law 279 = .ok (.aload_n 0, 1) := dk_42 (dk_at dksL_law_3 19 rfl rfl)
theorem dL_law_280 : decode cL_law 280 = .ok (.iload 5, 2) := dk_21 5 (dk_at dksL_law_3 20 rfl rfl)
theorem dL_law_282 : decode cL_law 282 = .ok (.iconst 4, 1) := dk_7 (dk_at dksL_law_3 22 rfl rfl)
theorem dL_law_283 : decode cL_law 283 = .ok (.iadd, 1) := dk_96 (dk_at dksL_law_3 23 rfl rfl)
theorem dL_law_284 : decode cL_law 284 = .ok (.iaload, 1) := dk_46 (dk_at dksL_law_4 0 rfl rfl)
theorem dL_law_285 : decode cL_law 285 = .ok (.aload_n 0, 1) := dk_42 (dk_at dksL_law_4 1 rfl rfl)
theorem dL_law_286 : decode cL_law 286 = .ok (.iload 5, 2) := dk_21 5 (dk_at dksL_law_4 2 rfl rfl)
theorem dL_law_288 : decode cL_law 288 = .ok (.iconst 5, 1) := dk_8 (dk_at dksL_law_4 4 rfl rfl)
theorem dL_law_289 : decode cL_law 289 = .ok (.iadd, 1) := dk_96 (dk_at dksL_law_4 5 rfl rfl)
theorem dL_law_290 : decode cL_law 290 = .ok (.iaload, 1) := dk_46 (dk_at dksL_law_4 6 rfl rfl)
theorem dL_law_291 : decode cL_law 291 = .ok (.aload_n 3, 1) := dk_45 (dk_at dksL_law_4 7 rfl rfl)
theorem dL_law_292 : decode cL_law 292 = .ok (.invokestatic 161, 3) := dk_184 0 161 (dk_at dksL_law_4 8 rfl rfl)
theorem dL_law_295 : decode cL_law 295 = .ok (.istore 6, 2) := dk_54 6 (dk_at dksL_law_4 11 rfl rfl)
theorem dL_law_297 : decode cL_law 297 = .ok (.aload_n 2, 1) := dk_44 (dk_at dksL_law_4 13 rfl rfl)
theorem dL_law_298 : decode cL_law 298 = .ok (.aload_n 0, 1) := dk_42 (dk_at dksL_law_4 14 rfl rfl)
theorem dL_law_299 : decode cL_law 299 = .ok (.iload 5, 2) := dk_21 5 (dk_at dksL_law_4 15 rfl rfl)
theorem dL_law_301 : decode cL_law 301 = .ok (.iconst 1, 1) := dk_4 (dk_at dksL_law_4 17 rfl rfl)
theorem dL_law_302 : decode cL_law 302 = .ok (.iadd, 1) := dk_96 (dk_at dksL_law_4 18 rfl rfl)
theorem dL_law_303 : decode cL_law 303 = .ok (.iaload, 1) := dk_46 (dk_at dksL_law_4 19 rfl rfl)
theorem dL_law_304 : decode cL_law 304 = .ok (.aload_n 0, 1) := dk_42 (dk_at dksL_law_4 20 rfl rfl)
theorem dL_law_305 : decode cL_law 305 = .ok (.iload 5, 2) := dk_21 5 (dk_at dksL_law_4 21 rfl rfl)
theorem dL_law_307 : decode cL_law 307 = .ok (.iconst 2, 1) := dk_5 (dk_at dksL_law_4 23 rfl rfl)
theorem dL_law_308 : decode cL_law 308 = .ok (.iadd, 1) := dk_96 (dk_at dksL_law_5 0 rfl rfl)
theorem dL_law_309 : decode cL_law 309 = .ok (.iaload, 1) := dk_46 (dk_at dksL_law_5 1 rfl rfl)
theorem dL_law_310 : decode cL_law 310 = .ok (.aload_n 0, 1) := dk_42 (dk_at dksL_law_5 2 rfl rfl)
theorem dL_law_311 : decode cL_law 311 = .ok (.iload 5, 2) := dk_21 5 (dk_at dksL_law_5 3 rfl rfl)
theorem dL_law_313 : decode cL_law 313 = .ok (.iconst 3, 1) := dk_6 (dk_at dksL_law_5 5 rfl rfl)
theorem dL_law_314 : decode cL_law 314 = .ok (.iadd, 1) := dk_96 (dk_at dksL_law_5 6 rfl rfl)
theorem dL_law_315 : decode cL_law 315 = .ok (.iaload, 1) := dk_46 (dk_at dksL_law_5 7 rfl rfl)
theorem dL_law_316 : decode cL_law 316 = .ok (.aload_n 0, 1) := dk_42 (dk_at dksL_law_5 8 rfl rfl)
theorem dL_law_317 : decode cL_law 317 = .ok (.iload 5, 2) := dk_21 5 (dk_at dksL_law_5 9 rfl rfl)
theorem dL_law_319 : decode cL_law 319 = .ok (.iconst 4, 1) := dk_7 (dk_at dksL_law_5 11 rfl rfl)
theorem dL_law_320 : decode cL_law 320 = .ok (.iadd, 1) := dk_96 (dk_at dksL_law_5 12 rfl rfl)
theorem dL_law_321 : decode cL_law 321 = .ok (.iaload, 1) := dk_46 (dk_at dksL_law_5 13 rfl rfl)
theorem dL_law_322 : decode cL_law 322 = .ok (.aload_n 0, 1) := dk_42 (dk_at dksL_law_5 14 rfl rfl)
theorem dL_law_323 : decode cL_law 323 = .ok (.iload 5, 2) := dk_21 5 (dk_at dksL_law_5 15 rfl rfl)
theorem dL_law_325 : decode cL_law 325 = .ok (.iconst 5, 1) := dk_8 (dk_at dksL_law_5 17 rfl rfl)
theorem dL_law_326 : decode cL_law 326 = .ok (.iadd, 1) := dk_96 (dk_at dksL_law_5 18 rfl rfl)
theorem dL_law_327 : decode cL_law 327 = .ok (.iaload, 1) := dk_46 (dk_at dksL_law_5 19 rfl rfl)
theorem dL_law_328 : decode cL_law 328 = .ok (.invokevirtual 166, 3) := dk_182 0 166 (dk_at dksL_law_5 20 rfl rfl)
theorem dL_law_331 : decode cL_law 331 = .ok (.istore 7, 2) := dk_54 7 (dk_at dksL_law_6 0 rfl rfl)
theorem dL_law_333 : decode cL_law 333 = .ok (.aload_n 2, 1) := dk_44 (dk_at dksL_law_6 2 rfl rfl)
theorem dL_law_334 : decode cL_law 334 = .ok (.invokevirtual 167, 3) := dk_182 0 167 (dk_at dksL_law_6 3 rfl rfl)
theorem dL_law_337 : decode cL_law 337 = .ok (.iload 6, 2) := dk_21 6 (dk_at dksL_law_6 6 rfl rfl)
theorem dL_law_339 : decode cL_law 339 = .ok (.if_icmp .eq 5, 3) := dk_159 0 5 (dk_at dksL_law_6 8 rfl rfl)
theorem dL_law_342 : decode cL_law 342 = .ok (.iconst 0, 1) := dk_3 (dk_at dksL_law_6 11 rfl rfl)
theorem dL_law_343 : decode cL_law 343 = .ok (.ireturn, 1) := dk_172 (dk_at dksL_law_6 12 rfl rfl)
theorem dL_law_344 : decode cL_law 344 = .ok (.iload 6, 2) := dk_21 6 (dk_at dksL_law_6 13 rfl rfl)
theorem dL_law_346 : decode cL_law 346 = .ok (.ifCond .ne 15, 3) := dk_154 0 15 (dk_at dksL_law_6 15 rfl rfl)
theorem dL_law_349 : decode cL_law 349 = .ok (.aload_n 3, 1) := dk_45 (dk_at dksL_law_6 18 rfl rfl)
theorem dL_law_350 : decode cL_law 350 = .ok (.iconst 0, 1) := dk_3 (dk_at dksL_law_6 19 rfl rfl)
theorem dL_law_351 : decode cL_law 351 = .ok (.laload, 1) := dk_47 (dk_at dksL_law_6 20 rfl rfl)
theorem dL_law_352 : decode cL_law 352 = .ok (.iload 7, 2) := dk_21 7 (dk_at dksL_law_6 21 rfl rfl)
theorem dL_law_354 : decode cL_law 354 = .ok (.i2l, 1) := dk_133 (dk_at dksL_law_6 23 rfl rfl)
theorem dL_law_355 : decode cL_law 355 = .ok (.lcmp, 1) := dk_148 (dk_at dksL_law_7 0 rfl rfl)
theorem dL_law_356 : decode cL_law 356 = .ok (.ifCond .eq 5, 3) := dk_153 0 5 (dk_at dksL_law_7 1 rfl rfl)
theorem dL_law_359 : decode cL_law 359 = .ok (.iconst 0, 1) := dk_3 (dk_at dksL_law_7 4 rfl rfl)
theorem dL_law_360 : decode cL_law 360 = .ok (.ireturn, 1) := dk_172 (dk_at dksL_law_7 5 rfl rfl)
theorem dL_law_361 : decode cL_law 361 = .ok (.goto 2914, 3) := dk_167 11 98 (dk_at dksL_law_7 6 rfl rfl)
theorem dL_law_364 : decode cL_law 364 = .ok (.aload_n 1, 1) := dk_43 (dk_at dksL_law_7 9 rfl rfl)
theorem dL_law_365 : decode cL_law 365 = .ok (.aload_n 0, 1) := dk_42 (dk_at dksL_law_7 10 rfl rfl)
theorem dL_law_366 : decode cL_law 366 = .ok (.iload 5, 2) := dk_21 5 (dk_at dksL_law_7 11 rfl rfl)
theorem dL_law_368 : decode cL_law 368 = .ok (.iconst 1, 1) := dk_4 (dk_at dksL_law_7 13 rfl rfl)
theorem dL_law_369 : decode cL_law 369 = .ok (.iadd, 1) := dk_96 (dk_at dksL_law_7 14 rfl rfl)
theorem dL_law_370 : decode cL_law 370 = .ok (.iaload, 1) := dk_46 (dk_at dksL_law_7 15 rfl rfl)
theorem dL_law_371 : decode cL_law 371 = .ok (.invokestatic 170, 3) := dk_184 0 170 (dk_at dksL_law_7 16 rfl rfl)
theorem dL_law_374 : decode cL_law 374 = .ok (.istore 6, 2) := dk_54 6 (dk_at dksL_law_7 19 rfl rfl)
theorem dL_law_376 : decode cL_law 376 = .ok (.aload_n 2, 1) := dk_44 (dk_at dksL_law_7 21 rfl rfl)
theorem dL_law_377 : decode cL_law 377 = .ok (.aload_n 0, 1) := dk_42 (dk_at dksL_law_7 22 rfl rfl)
theorem dL_law_378 : decode cL_law 378 = .ok (.iload 5, 2) := dk_21 5 (dk_at dksL_law_8 0 rfl rfl)
theorem dL_law_380 : decode cL_law 380 = .ok (.iconst 1, 1) := dk_4 (dk_at dksL_law_8 2 rfl rfl)
theorem dL_law_381 : decode cL_law 381 = .ok (.iadd, 1) := dk_96 (dk_at dksL_law_8 3 rfl rfl)
theorem dL_law_382 : decode cL_law 382 = .ok (.iaload, 1) := dk_46 (dk_at dksL_law_8 4 rfl rfl)
theorem dL_law_383 : decode cL_law 383 = .ok (.invokevirtual 173, 3) := dk_182 0 173 (dk_at dksL_law_8 5 rfl rfl)
theorem dL_law_386 : decode cL_law 386 = .ok (.aload_n 2, 1) := dk_44 (dk_at dksL_law_8 8 rfl rfl)
theorem dL_law_387 : decode cL_law 387 = .ok (.invokevirtual 167, 3) := dk_182 0 167 (dk_at dksL_law_8 9 rfl rfl)
theorem dL_law_390 : decode cL_law 390 = .ok (.iload 6, 2) := dk_21 6 (dk_at dksL_law_8 12 rfl rfl)
theorem dL_law_392 : decode cL_law 392 = .ok (.if_icmp .eq 5, 3) := dk_159 0 5 (dk_at dksL_law_8 14 rfl rfl)
theorem dL_law_395 : decode cL_law 395 = .ok (.iconst 0, 1) := dk_3 (dk_at dksL_law_8 17 rfl rfl)
theorem dL_law_396 : decode cL_law 396 = .ok (.ireturn, 1) := dk_172 (dk_at dksL_law_8 18 rfl rfl)
theorem dL_law_397 : decode cL_law 397 = .ok (.goto 2878, 3) := dk_167 11 62 (dk_at dksL_law_8 19 rfl rfl)
theorem dL_law_400 : decode cL_law 400 = .ok (.aload_n 1, 1) := dk_43 (dk_at dksL_law_8 22 rfl rfl)
theorem dL_law_401 : decode cL_law 401 = .ok (.invokevirtual 174, 3) := dk_182 0 174 (dk_at dksL_law_9 0 rfl rfl)
theorem dL_law_404 : decode cL_law 404 = .ok (.aload_n 2, 1) := dk_44 (dk_at dksL_law_9 3 rfl rfl)
theorem dL_law_405 : decode cL_law 405 = .ok (.invokevirtual 177, 3) := dk_182 0 177 (dk_at dksL_law_9 4 rfl rfl)
theorem dL_law_408 : decode cL_law 408 = .ok (.if_icmp .eq 2867, 3) := dk_159 11 51 (dk_at dksL_law_9 7 rfl rfl)
theorem dL_law_411 : decode cL_law 411 = .ok (.iconst 0, 1) := dk_3 (dk_at dksL_law_9 10 rfl rfl)
theorem dL_law_412 : decode cL_law 412 = .ok (.ireturn, 1) := dk_172 (dk_at dksL_law_9 11 rfl rfl)
theorem dL_law_413 : decode cL_law 413 = .ok (.aload_n 1, 1) := dk_43 (dk_at dksL_law_9 12 rfl rfl)
theorem dL_law_414 : decode cL_law 414 = .ok (.invokevirtual 178, 3) := dk_182 0 178 (dk_at dksL_law_9 13 rfl rfl)
theorem dL_law_417 : decode cL_law 417 = .ok (.aload_n 2, 1) := dk_44 (dk_at dksL_law_9 16 rfl rfl)
theorem dL_law_418 : decode cL_law 418 = .ok (.invokevirtual 181, 3) := dk_182 0 181 (dk_at dksL_law_9 17 rfl rfl)
theorem dL_law_421 : decode cL_law 421 = .ok (.if_icmp .eq 2854, 3) := dk_159 11 38 (dk_at dksL_law_9 20 rfl rfl)
theorem dL_law_424 : decode cL_law 424 = .ok (.iconst 0, 1) := dk_3 (dk_at dksL_law_9 23 rfl rfl)
theorem dL_law_425 : decode cL_law 425 = .ok (.ireturn, 1) := dk_172 (dk_at dksL_law_10 0 rfl rfl)
theorem dL_law_426 : decode cL_law 426 = .ok (.aload_n 1, 1) := dk_43 (dk_at dksL_law_10 1 rfl rfl)
theorem dL_law_427 : decode cL_law 427 = .ok (.invokevirtual 182, 3) := dk_182 0 182 (dk_at dksL_law_10 2 rfl rfl)
theorem dL_law_430 : decode cL_law 430 = .ok (.aload_n 2, 1) := dk_44 (dk_at dksL_law_10 5 rfl rfl)
theorem dL_law_431 : decode cL_law 431 = .ok (.invokevirtual 185, 3) := dk_182 0 185 (dk_at dksL_law_10 6 rfl rfl)
theorem dL_law_434 : decode cL_law 434 = .ok (.if_icmp .eq 2841, 3) := dk_159 11 25 (dk_at dksL_law_10 9 rfl rfl)
theorem dL_law_437 : decode cL_law 437 = .ok (.iconst 0, 1) := dk_3 (dk_at dksL_law_10 12 rfl rfl)
theorem dL_law_438 : decode cL_law 438 = .ok (.ireturn, 1) := dk_172 (dk_at dksL_law_10 13 rfl rfl)
theorem dL_law_439 : decode cL_law 439 = .ok (.aload_n 1, 1) := dk_43 (dk_at dksL_law_10 14 rfl rfl)
theorem dL_law_440 : decode cL_law 440 = .ok (.invokevirtual 186, 3) := dk_182 0 186 (dk_at dksL_law_10 15 rfl rfl)
theorem dL_law_443 : decode cL_law 443 = .ok (.aload_n 2, 1) := dk_44 (dk_at dksL_law_10 18 rfl rfl)
theorem dL_law_444 : decode cL_law 444 = .ok (.invokevirtual 189, 3) := dk_182 0 189 (dk_at dksL_law_10 19 rfl rfl)
theorem dL_law_447 : decode cL_law 447 = .ok (.if_icmp .eq 2828, 3) := dk_159 11 12 (dk_at dksL_law_11 0 rfl rfl)
theorem dL_law_450 : decode cL_law 450 = .ok (.iconst 0, 1) := dk_3 (dk_at dksL_law_11 3 rfl rfl)
theorem dL_law_451 : decode cL_law 451 = .ok (.ireturn, 1) := dk_172 (dk_at dksL_law_11 4 rfl rfl)
theorem dL_law_452 : decode cL_law 452 = .ok (.aload_n 1, 1) := dk_43 (dk_at dksL_law_11 5 rfl rfl)
theorem dL_law_453 : decode cL_law 453 = .ok (.invokevirtual 190, 3) := dk_182 0 190 (dk_at dksL_law_11 6 rfl rfl)
theorem dL_law_456 : decode cL_law 456 = .ok (.aload_n 2, 1) := dk_44 (dk_at dksL_law_11 9 rfl rfl)
theorem dL_law_457 : decode cL_law 457 = .ok (.invokevirtual 193, 3) := dk_182 0 193 (dk_at dksL_law_11 10 rfl rfl)
theorem dL_law_460 : decode cL_law 460 = .ok (.if_icmp .eq 2815, 3) := dk_159 10 255 (dk_at dksL_law_11 13 rfl rfl)
theorem dL_law_463 : decode cL_law 463 = .ok (.iconst 0, 1) := dk_3 (dk_at dksL_law_11 16 rfl rfl)
theorem dL_law_464 : decode cL_law 464 = .ok (.ireturn, 1) := dk_172 (dk_at dksL_law_11 17 rfl rfl)
theorem dL_law_465 : decode cL_law 465 = .ok (.aload_n 1, 1) := dk_43 (dk_at dksL_law_11 18 rfl rfl)
theorem dL_law_466 : decode cL_law 466 = .ok (.aload_n 0, 1) := dk_42 (dk_at dksL_law_11 19 rfl rfl)
theorem dL_law_467 : decode cL_law 467 = .ok (.iload 5, 2) := dk_21 5 (dk_at dksL_law_11 20 rfl rfl)
theorem dL_law_469 : decode cL_law 469 = .ok (.iconst 1, 1) := dk_4 (dk_at dksL_law_11 22 rfl rfl)
theorem dL_law_470 : decode cL_law 470 = .ok (.iadd, 1) := dk_96 (dk_at dksL_law_11 23 rfl rfl)
theorem dL_law_471 : decode cL_law 471 = .ok (.iaload, 1) := dk_46 (dk_at dksL_law_12 0 rfl rfl)
theorem dL_law_472 : decode cL_law 472 = .ok (.aload_n 3, 1) := dk_45 (dk_at dksL_law_12 1 rfl rfl)
theorem dL_law_473 : decode cL_law 473 = .ok (.invokestatic 194, 3) := dk_184 0 194 (dk_at dksL_law_12 2 rfl rfl)
theorem dL_law_476 : decode cL_law 476 = .ok (.istore 6, 2) := dk_54 6 (dk_at dksL_law_12 5 rfl rfl)
theorem dL_law_478 : decode cL_law 478 = .ok (.aload_n 2, 1) := dk_44 (dk_at dksL_law_12 7 rfl rfl)
theorem dL_law_479 : decode cL_law 479 = .ok (.aload_n 0, 1) := dk_42 (dk_at dksL_law_12 8 rfl rfl)
theorem dL_law_480 : decode cL_law 480 = .ok (.iload 5, 2) := dk_21 5 (dk_at dksL_law_12 9 rfl rfl)
theorem dL_law_482 : decode cL_law 482 = .ok (.iconst 1, 1) := dk_4 (dk_at dksL_law_12 11 rfl rfl)
theorem dL_law_483 : decode cL_law 483 = .ok (.iadd, 1) := dk_96 (dk_at dksL_law_12 12 rfl rfl)
theorem dL_law_484 : decode cL_law 484 = .ok (.iaload, 1) := dk_46 (dk_at dksL_law_12 13 rfl rfl)
theorem dL_law_485 : decode cL_law 485 = .ok (.invokevirtual 197, 3) := dk_182 0 197 (dk_at dksL_law_12 14 rfl rfl)
theorem dL_law_488 : decode cL_law 488 = .ok (.istore 7, 2) := dk_54 7 (dk_at dksL_law_12 17 rfl rfl)
theorem dL_law_490 : decode cL_law 490 = .ok (.aload_n 2, 1) := dk_44 (dk_at dksL_law_12 19 rfl rfl)
theorem dL_law_491 : decode cL_law 491 = .ok (.invokevirtual 167, 3) := dk_182 0 167 (dk_at dksL_law_12 20 rfl rfl)
theorem dL_law_494 : decode cL_law 494 = .ok (.iload 6, 2) := dk_21 6 (dk_at dksL_law_13 0 rfl rfl)
theorem dL_law_496 : decode cL_law 496 = .ok (.if_icmp .eq 5, 3) := dk_159 0 5 (dk_at dksL_law_13 2 rfl rfl)
theorem dL_law_499 : decode cL_law 499 = .ok (.iconst 0, 1) := dk_3 (dk_at dksL_law_13 5 rfl rfl)
theorem dL_law_500 : decode cL_law 500 = .ok (.ireturn, 1) := dk_172 (dk_at dksL_law_13 6 rfl rfl)
theorem dL_law_501 : decode cL_law 501 = .ok (.iload 6, 2) := dk_21 6 (dk_at dksL_law_13 7 rfl rfl)
theorem dL_law_503 : decode cL_law 503 = .ok (.ifCond .ne 15, 3) := dk_154 0 15 (dk_at dksL_law_13 9 rfl rfl)
theorem dL_law_506 : decode cL_law 506 = .ok (.aload_n 3, 1) := dk_45 (dk_at dksL_law_13 12 rfl rfl)
theorem dL_law_507 : decode cL_law 507 = .ok (.iconst 0, 1) := dk_3 (dk_at dksL_law_13 13 rfl rfl)
theorem dL_law_508 : decode cL_law 508 = .ok (.laload, 1) := dk_47 (dk_at dksL_law_13 14 rfl rfl)
theorem dL_law_509 : decode cL_law 509 = .ok (.iload 7, 2) := dk_21 7 (dk_at dksL_law_13 15 rfl rfl)
theorem dL_law_511 : decode cL_law 511 = .ok (.i2l, 1) := dk_133 (dk_at dksL_law_13 17 rfl rfl)
theorem dL_law_512 : decode cL_law 512 = .ok (.lcmp, 1) := dk_148 (dk_at dksL_law_13 18 rfl rfl)
theorem dL_law_513 : decode cL_law 513 = .ok (.ifCond .eq 5, 3) := dk_153 0 5 (dk_at dksL_law_13 19 rfl rfl)
theorem dL_law_516 : decode cL_law 516 = .ok (.iconst 0, 1) := dk_3 (dk_at dksL_law_13 22 rfl rfl)
theorem dL_law_517 : decode cL_law 517 = .ok (.ireturn, 1) := dk_172 (dk_at dksL_law_13 23 rfl rfl)
theorem dL_law_518 : decode cL_law 518 = .ok (.goto 2757, 3) := dk_167 10 197 (dk_at dksL_law_14 0 rfl rfl)
theorem dL_law_521 : decode cL_law 521 = .ok (.aload_n 1, 1) := dk_43 (dk_at dksL_law_14 3 rfl rfl)
theorem dL_law_522 : decode cL_law 522 = .ok (.aload_n 0, 1) := dk_42 (dk_at dksL_law_14 4 rfl rfl)
theorem dL_law_523 : decode cL_law 523 = .ok (.iload 5, 2) := dk_21 5 (dk_at dksL_law_14 5 rfl rfl)
theorem dL_law_525 : decode cL_law 525 = .ok (.iconst 1, 1) := dk_4 (dk_at dksL_law_14 7 rfl rfl)
theorem dL_law_526 : decode cL_law 526 = .ok (.iadd, 1) := dk_96 (dk_at dksL_law_14 8 rfl rfl)
theorem dL_law_527 : decode cL_law 527 = .ok (.iaload, 1) := dk_46 (dk_at dksL_law_14 9 rfl rfl)
theorem dL_law_528 : decode cL_law 528 = .ok (.aload_n 0, 1) := dk_42 (dk_at dksL_law_14 10 rfl rfl)
theorem dL_law_529 : decode cL_law 529 = .ok (.iload 5, 2) := dk_21 5 (dk_at dksL_law_14 11 rfl rfl)
theorem dL_law_531 : decode cL_law 531 = .ok (.iconst 2, 1) := dk_5 (dk_at dksL_law_14 13 rfl rfl)
theorem dL_law_532 : decode cL_law 532 = .ok (.iadd, 1) := dk_96 (dk_at dksL_law_14 14 rfl rfl)
theorem dL_law_533 : decode cL_law 533 = .ok (.iaload, 1) := dk_46 (dk_at dksL_law_14 15 rfl rfl)
theorem dL_law_534 : decode cL_law 534 = .ok (.aload_n 3, 1) := dk_45 (dk_at dksL_law_14 16 rfl rfl)
theorem dL_law_535 : decode cL_law 535 = .ok (.invokestatic 198, 3) := dk_184 0 198 (dk_at dksL_law_14 17 rfl rfl)
theorem dL_law_538 : decode cL_law 538 = .ok (.istore 6, 2) := dk_54 6 (dk_at dksL_law_14 20 rfl rfl)
theorem dL_law_540 : decode cL_law 540 = .ok (.aload_n 2, 1) := dk_44 (dk_at dksL_law_14 22 rfl rfl)
theorem dL_law_541 : decode cL_law 541 = .ok (.aload_n 0, 1) := dk_42 (dk_at dksL_law_14 23 rfl rfl)
theorem dL_law_542 : decode cL_law 542 = .ok (.iload 5, 2) := dk_21 5 (dk_at dksL_law_15 0 rfl rfl)
theorem dL_law_544 : decode cL_law 544 = .ok (.iconst 1, 1) := dk_4 (dk_at dksL_law_15 2 rfl rfl)
theorem dL_law_545 : decode cL_law 545 = .ok (.iadd, 1) := dk_96 (dk_at dksL_law_15 3 rfl rfl)
theorem dL_law_546 : decode cL_law 546 = .ok (.iaload, 1) := dk_46 (dk_at dksL_law_15 4 rfl rfl)
theorem dL_law_547 : decode cL_law 547 = .ok (.aload_n 0, 1) := dk_42 (dk_at dksL_law_15 5 rfl rfl)
theorem dL_law_548 : decode cL_law 548 = .ok (.iload 5, 2) := dk_21 5 (dk_at dksL_law_15 6 rfl rfl)
theorem dL_law_550 : decode cL_law 550 = .ok (.iconst 2, 1) := dk_5 (dk_at dksL_law_15 8 rfl rfl)
theorem dL_law_551 : decode cL_law 551 = .ok (.iadd, 1) := dk_96 (dk_at dksL_law_15 9 rfl rfl)
theorem dL_law_552 : decode cL_law 552 = .ok (.iaload, 1) := dk_46 (dk_at dksL_law_15 10 rfl rfl)
theorem dL_law_553 : decode cL_law 553 = .ok (.invokevirtual 201, 3) := dk_182 0 201 (dk_at dksL_law_15 11 rfl rfl)
theorem dL_law_556 : decode cL_law 556 = .ok (.istore 7, 2) := dk_54 7 (dk_at dksL_law_15 14 rfl rfl)
theorem dL_law_558 : decode cL_law 558 = .ok (.aload_n 2, 1) := dk_44 (dk_at dksL_law_15 16 rfl rfl)
theorem dL_law_559 : decode cL_law 559 = .ok (.invokevirtual 167, 3) := dk_182 0 167 (dk_at dksL_law_15 17 rfl rfl)
theorem dL_law_562 : decode cL_law 562 = .ok (.iload 6, 2) := dk_21 6 (dk_at dksL_law_15 20 rfl rfl)
theorem dL_law_564 : decode cL_law 564 = .ok (.if_icmp .eq 5, 3) := dk_159 0 5 (dk_at dksL_law_16 0 rfl rfl)
theorem dL_law_567 : decode cL_law 567 = .ok (.iconst 0, 1) := dk_3 (dk_at dksL_law_16 3 rfl rfl)
theorem dL_law_568 : decode cL_law 568 = .ok (.ireturn, 1) := dk_172 (dk_at dksL_law_16 4 rfl rfl)
theorem dL_law_569 : decode cL_law 569 = .ok (.iload 6, 2) := dk_21 6 (dk_at dksL_law_16 5 rfl rfl)
theorem dL_law_571 : decode cL_law 571 = .ok (.ifCond .ne 15, 3) := dk_154 0 15 (dk_at dksL_law_16 7 rfl rfl)
theorem dL_law_574 : decode cL_law 574 = .ok (.aload_n 3, 1) := dk_45 (dk_at dksL_law_16 10 rfl rfl)
theorem dL_law_575 : decode cL_law 575 = .ok (.iconst 0, 1) := dk_3 (dk_at dksL_law_16 11 rfl rfl)
theorem dL_law_576 : decode cL_law 576 = .ok (.laload, 1) := dk_47 (dk_at dksL_law_16 12 rfl rfl)
theorem dL_law_577 : decode cL_law 577 = .ok (.iload 7, 2) := dk_21 7 (dk_at dksL_law_16 13 rfl rfl)
theorem dL_law_579 : decode cL_law 579 = .ok (.i2l, 1) := dk_133 (dk_at dksL_law_16 15 rfl rfl)
theorem dL_law_580 : decode cL_law 580 = .ok (.lcmp, 1) := dk_148 (dk_at dksL_law_16 16 rfl rfl)
theorem dL_law_581 : decode cL_law 581 = .ok (.ifCond .eq 5, 3) := dk_153 0 5 (dk_at dksL_law_16 17 rfl rfl)
theorem dL_law_584 : decode cL_law 584 = .ok (.iconst 0, 1) := dk_3 (dk_at dksL_law_16 20 rfl rfl)
theorem dL_law_585 : decode cL_law 585 = .ok (.ireturn, 1) := dk_172 (dk_at dksL_law_16 21 rfl rfl)
theorem dL_law_586 : decode cL_law 586 = .ok (.goto 2689, 3) := dk_167 10 129 (dk_at dksL_law_17 0 rfl rfl)
theorem dL_law_589 : decode cL_law 589 = .ok (.aload_n 1, 1) := dk_43 (dk_at dksL_law_17 3 rfl rfl)
theorem dL_law_590 : decode cL_law 590 = .ok (.aload_n 0, 1) := dk_42 (dk_at dksL_law_17 4 rfl rfl)
theorem dL_law_591 : decode cL_law 591 = .ok (.iload 5, 2) := dk_21 5 (dk_at dksL_law_17 5 rfl rfl)
theorem dL_law_593 : decode cL_law 593 = .ok (.iconst 1, 1) := dk_4 (dk_at dksL_law_17 7 rfl rfl)
theorem dL_law_594 : decode cL_law 594 = .ok (.iadd, 1) := dk_96 (dk_at dksL_law_17 8 rfl rfl)
theorem dL_law_595 : decode cL_law 595 = .ok (.iaload, 1) := dk_46 (dk_at dksL_law_17 9 rfl rfl)
theorem dL_law_596 : decode cL_law 596 = .ok (.aload_n 0, 1) := dk_42 (dk_at dksL_law_17 10 rfl rfl)
theorem dL_law_597 : decode cL_law 597 = .ok (.iload 5, 2) := dk_21 5 (dk_at dksL_law_17 11 rfl rfl)
theorem dL_law_599 : decode cL_law 599 = .ok (.iconst 2, 1) := dk_5 (dk_at dksL_law_17 13 rfl rfl)
theorem dL_law_600 : decode cL_law 600 = .ok (.iadd, 1) := dk_96 (dk_at dksL_law_17 14 rfl rfl)
theorem dL_law_601 : decode cL_law 601 = .ok (.iaload, 1) := dk_46 (dk_at dksL_law_17 15 rfl rfl)
theorem dL_law_602 : decode cL_law 602 = .ok (.aload_n 0, 1) := dk_42 (dk_at dksL_law_17 16 rfl rfl)
theorem dL_law_603 : decode cL_law 603 = .ok (.iload 5, 2) := dk_21 5 (dk_at dksL_law_17 17 rfl rfl)
theorem dL_law_605 : decode cL_law 605 = .ok (.iconst 3, 1) := dk_6 (dk_at dksL_law_17 19 rfl rfl)
theorem dL_law_606 : decode cL_law 606 = .ok (.iadd, 1) := dk_96 (dk_at dksL_law_17 20 rfl rfl)
theorem dL_law_607 : decode cL_law 607 = .ok (.iaload, 1) := dk_46 (dk_at dksL_law_17 21 rfl rfl)
theorem dL_law_608 : decode cL_law 608 = .ok (.aload_n 3, 1) := dk_45 (dk_at dksL_law_17 22 rfl rfl)
theorem dL_law_609 : decode cL_law 609 = .ok (.invokestatic 202, 3) := dk_184 0 202 (dk_at dksL_law_18 0 rfl rfl)
theorem dL_law_612 : decode cL_law 612 = .ok (.istore 6, 2) := dk_54 6 (dk_at dksL_law_18 3 rfl rfl)
theorem dL_law_614 : decode cL_law 614 = .ok (.aload_n 2, 1) := dk_44 (dk_at dksL_law_18 5 rfl rfl)
theorem dL_law_615 : decode cL_law 615 = .ok (.aload_n 0, 1) := dk_42 (dk_at dksL_law_18 6 rfl rfl)
theorem dL_law_616 : decode cL_law 616 = .ok (.iload 5, 2) := dk_21 5 (dk_at dksL_law_18 7 rfl rfl)
theorem dL_law_618 : decode cL_law 618 = .ok (.iconst 1, 1) := dk_4 (dk_at dksL_law_18 9 rfl rfl)
theorem dL_law_619 : decode cL_law 619 = .ok (.iadd, 1) := dk_96 (dk_at dksL_law_18 10 rfl rfl)
theorem dL_law_620 : decode cL_law 620 = .ok (.iaload, 1) := dk_46 (dk_at dksL_law_18 11 rfl rfl)
theorem dL_law_621 : decode cL_law 621 = .ok (.aload_n 0, 1) := dk_42 (dk_at dksL_law_18 12 rfl rfl)
theorem dL_law_622 : decode cL_law 622 = .ok (.iload 5, 2) := dk_21 5 (dk_at dksL_law_18 13 rfl rfl)
theorem dL_law_624 : decode cL_law 624 = .ok (.iconst 2, 1) := dk_5 (dk_at dksL_law_18 15 rfl rfl)
theorem dL_law_625 : decode cL_law 625 = .ok (.iadd, 1) := dk_96 (dk_at dksL_law_18 16 rfl rfl)
theorem dL_law_626 : decode cL_law 626 = .ok (.iaload, 1) := dk_46 (dk_at dksL_law_18 17 rfl rfl)
theorem dL_law_627 : decode cL_law 627 = .ok (.aload_n 0, 1) := dk_42 (dk_at dksL_law_18 18 rfl rfl)
theorem dL_law_628 : decode cL_law 628 = .ok (.iload 5, 2) := dk_21 5 (dk_at dksL_law_18 19 rfl rfl)
theorem dL_law_630 : decode cL_law 630 = .ok (.iconst 3, 1) := dk_6 (dk_at dksL_law_18 21 rfl rfl)
theorem dL_law_631 : decode cL_law 631 = .ok (.iadd, 1) := dk_96 (dk_at dksL_law_18 22 rfl rfl)
theorem dL_law_632 : decode cL_law 632 = .ok (.iaload, 1) := dk_46 (dk_at dksL_law_18 23 rfl rfl)
theorem dL_law_633 : decode cL_law 633 = .ok (.invokevirtual 205, 3) := dk_182 0 205 (dk_at dksL_law_19 0 rfl rfl)
theorem dL_law_636 : decode cL_law 636 = .ok (.istore 7, 2) := dk_54 7 (dk_at dksL_law_19 3 rfl rfl)
theorem dL_law_638 : decode cL_law 638 = .ok (.aload_n 2, 1) := dk_44 (dk_at dksL_law_19 5 rfl rfl)
theorem dL_law_639 : decode cL_law 639 = .ok (.invokevirtual 167, 3) := dk_182 0 167 (dk_at dksL_law_19 6 rfl rfl)
theorem dL_law_642 : decode cL_law 642 = .ok (.iload 6, 2) := dk_21 6 (dk_at dksL_law_19 9 rfl rfl)
theorem dL_law_644 : decode cL_law 644 = .ok (.if_icmp .eq 5, 3) := dk_159 0 5 (dk_at dksL_law_19 11 rfl rfl)
theorem dL_law_647 : decode cL_law 647 = .ok (.iconst 0, 1) := dk_3 (dk_at dksL_law_19 14 rfl rfl)
theorem dL_law_648 : decode cL_law 648 = .ok (.ireturn, 1) := dk_172 (dk_at dksL_law_19 15 rfl rfl)
theorem dL_law_649 : decode cL_law 649 = .ok (.iload 6, 2) := dk_21 6 (dk_at dksL_law_19 16 rfl rfl)
theorem dL_law_651 : decode cL_law 651 = .ok (.ifCond .ne 15, 3) := dk_154 0 15 (dk_at dksL_law_19 18 rfl rfl)
theorem dL_law_654 : decode cL_law 654 = .ok (.aload_n 3, 1) := dk_45 (dk_at dksL_law_19 21 rfl rfl)
theorem dL_law_655 : decode cL_law 655 = .ok (.iconst 0, 1) := dk_3 (dk_at dksL_law_19 22 rfl rfl)
theorem dL_law_656 : decode cL_law 656 = .ok (.laload, 1) := dk_47 (dk_at dksL_law_19 23 rfl rfl)
theorem dL_law_657 : decode cL_law 657 = .ok (.iload 7, 2) := dk_21 7 (dk_at dksL_law_20 0 rfl rfl)
theorem dL_law_659 : decode cL_law 659 = .ok (.i2l, 1) := dk_133 (dk_at dksL_law_20 2 rfl rfl)
theorem dL_law_660 : decode cL_law 660 = .ok (.lcmp, 1) := dk_148 (dk_at dksL_law_20 3 rfl rfl)
theorem dL_law_661 : decode cL_law 661 = .ok (.ifCond .eq 5, 3) := dk_153 0 5 (dk_at dksL_law_20 4 rfl rfl)
theorem dL_law_664 : decode cL_law 664 = .ok (.iconst 0, 1) := dk_3 (dk_at dksL_law_20 7 rfl rfl)
theorem dL_law_665 : decode cL_law 665 = .ok (.ireturn, 1) := dk_172 (dk_at dksL_law_20 8 rfl rfl)
theorem dL_law_666 : decode cL_law 666 = .ok (.goto 2609, 3) := dk_167 10 49 (dk_at dksL_law_20 9 rfl rfl)
theorem dL_law_669 : decode cL_law 669 = .ok (.aload_n 1, 1) := dk_43 (dk_at dksL_law_20 12 rfl rfl)
theorem dL_law_670 : decode cL_law 670 = .ok (.aload_n 0, 1) := dk_42 (dk_at dksL_law_20 13 rfl rfl)
theorem dL_law_671 : decode cL_law 671 = .ok (.iload 5, 2) := dk_21 5 (dk_at dksL_law_20 14 rfl rfl)
theorem dL_law_673 : decode cL_law 673 = .ok (.iconst 1, 1) := dk_4 (dk_at dksL_law_20 16 rfl rfl)
theorem dL_law_674 : decode cL_law 674 = .ok (.iadd, 1) := dk_96 (dk_at dksL_law_20 17 rfl rfl)
theorem dL_law_675 : decode cL_law 675 = .ok (.iaload, 1) := dk_46 (dk_at dksL_law_20 18 rfl rfl)
theorem dL_law_676 : decode cL_law 676 = .ok (.aload_n 0, 1) := dk_42 (dk_at dksL_law_20 19 rfl rfl)
theorem dL_law_677 : decode cL_law 677 = .ok (.iload 5, 2) := dk_21 5 (dk_at dksL_law_20 20 rfl rfl)
theorem dL_law_679 : decode cL_law 679 = .ok (.iconst 2, 1) := dk_5 (dk_at dksL_law_20 22 rfl rfl)
theorem dL_law_680 : decode cL_law 680 = .ok (.iadd, 1) := dk_96 (dk_at dksL_law_20 23 rfl rfl)
theorem dL_law_681 : decode cL_law 681 = .ok (.iaload, 1) := dk_46 (dk_at dksL_law_21 0 rfl rfl)
theorem dL_law_682 : decode cL_law 682 = .ok (.aload_n 3, 1) := dk_45 (dk_at dksL_law_21 1 rfl rfl)
theorem dL_law_683 : decode cL_law 683 = .ok (.invokestatic 206, 3) := dk_184 0 206 (dk_at dksL_law_21 2 rfl rfl)
theorem dL_law_686 : decode cL_law 686 = .ok (.istore 6, 2) := dk_54 6 (dk_at dksL_law_21 5 rfl rfl)
theorem dL_law_688 : decode cL_law 688 = .ok (.aload_n 2, 1) := dk_44 (dk_at dksL_law_21 7 rfl rfl)
theorem dL_law_689 : decode cL_law 689 = .ok (.aload_n 0, 1) := dk_42 (dk_at dksL_law_21 8 rfl rfl)
theorem dL_law_690 : decode cL_law 690 = .ok (.iload 5, 2) := dk_21 5 (dk_at dksL_law_21 9 rfl rfl)
theorem dL_law_692 : decode cL_law 692 = .ok (.iconst 1, 1) := dk_4 (dk_at dksL_law_21 11 rfl rfl)
theorem dL_law_693 : decode cL_law 693 = .ok (.iadd, 1) := dk_96 (dk_at dksL_law_21 12 rfl rfl)
theorem dL_law_694 : decode cL_law 694 = .ok (.iaload, 1) := dk_46 (dk_at dksL_law_21 13 rfl rfl)
theorem dL_law_695 : decode cL_law 695 = .ok (.aload_n 0, 1) := dk_42 (dk_at dksL_law_21 14 rfl rfl)
theorem dL_law_696 : decode cL_law 696 = .ok (.iload 5, 2) := dk_21 5 (dk_at dksL_law_21 15 rfl rfl)
theorem dL_law_698 : decode cL_law 698 = .ok (.iconst 2, 1) := dk_5 (dk_at dksL_law_21 17 rfl rfl)
theorem dL_law_699 : decode cL_law 699 = .ok (.iadd, 1) := dk_96 (dk_at dksL_law_21 18 rfl rfl)
theorem dL_law_700 : decode cL_law 700 = .ok (.iaload, 1) := dk_46 (dk_at dksL_law_21 19 rfl rfl)
theorem dL_law_701 : decode cL_law 701 = .ok (.invokevirtual 208, 3) := dk_182 0 208 (dk_at dksL_law_21 20 rfl rfl)
theorem dL_law_704 : decode cL_law 704 = .ok (.istore 7, 2) := dk_54 7 (dk_at dksL_law_22 0 rfl rfl)
theorem dL_law_706 : decode cL_law 706 = .ok (.aload_n 2, 1) := dk_44 (dk_at dksL_law_22 2 rfl rfl)
theorem dL_law_707 : decode cL_law 707 = .ok (.invokevirtual 167, 3) := dk_182 0 167 (dk_at dksL_law_22 3 rfl rfl)
theorem dL_law_710 : decode cL_law 710 = .ok (.iload 6, 2) := dk_21 6 (dk_at dksL_law_22 6 rfl rfl)
theorem dL_law_712 : decode cL_law 712 = .ok (.if_icmp .eq 5, 3) := dk_159 0 5 (dk_at dksL_law_22 8 rfl rfl)
theorem dL_law_715 : decode cL_law 715 = .ok (.iconst 0, 1) := dk_3 (dk_at dksL_law_22 11 rfl rfl)
theorem dL_law_716 : decode cL_law 716 = .ok (.ireturn, 1) := dk_172 (dk_at dksL_law_22 12 rfl rfl)
theorem dL_law_717 : decode cL_law 717 = .ok (.iload 6, 2) := dk_21 6 (dk_at dksL_law_22 13 rfl rfl)
theorem dL_law_719 : decode cL_law 719 = .ok (.ifCond .ne 15, 3) := dk_154 0 15 (dk_at dksL_law_22 15 rfl rfl)
theorem dL_law_722 : decode cL_law 722 = .ok (.aload_n 3, 1) := dk_45 (dk_at dksL_law_22 18 rfl rfl)
theorem dL_law_723 : decode cL_law 723 = .ok (.iconst 0, 1) := dk_3 (dk_at dksL_law_22 19 rfl rfl)
theorem dL_law_724 : decode cL_law 724 = .ok (.laload, 1) := dk_47 (dk_at dksL_law_22 20 rfl rfl)
theorem dL_law_725 : decode cL_law 725 = .ok (.iload 7, 2) := dk_21 7 (dk_at dksL_law_22 21 rfl rfl)
theorem dL_law_727 : decode cL_law 727 = .ok (.i2l, 1) := dk_133 (dk_at dksL_law_22 23 rfl rfl)
theorem dL_law_728 : decode cL_law 728 = .ok (.lcmp, 1) := dk_148 (dk_at dksL_law_23 0 rfl rfl)
theorem dL_law_729 : decode cL_law 729 = .ok (.ifCond .eq 5, 3) := dk_153 0 5 (dk_at dksL_law_23 1 rfl rfl)
theorem dL_law_732 : decode cL_law 732 = .ok (.iconst 0, 1) := dk_3 (dk_at dksL_law_23 4 rfl rfl)
theorem dL_law_733 : decode cL_law 733 = .ok (.ireturn, 1) := dk_172 (dk_at dksL_law_23 5 rfl rfl)
theorem dL_law_734 : decode cL_law 734 = .ok (.goto 2541, 3) := dk_167 9 237 (dk_at dksL_law_23 6 rfl rfl)
theorem dL_law_737 : decode cL_law 737 = .ok (.aload_n 1, 1) := dk_43 (dk_at dksL_law_23 9 rfl rfl)
theorem dL_law_738 : decode cL_law 738 = .ok (.aload_n 0, 1) := dk_42 (dk_at dksL_law_23 10 rfl rfl)
theorem dL_law_739 : decode cL_law 739 = .ok (.iload 5, 2) := dk_21 5 (dk_at dksL_law_23 11 rfl rfl)
theorem dL_law_741 : decode cL_law 741 = .ok (.iconst 1, 1) := dk_4 (dk_at dksL_law_23 13 rfl rfl)
theorem dL_law_742 : decode cL_law 742 = .ok (.iadd, 1) := dk_96 (dk_at dksL_law_23 14 rfl rfl)
theorem dL_law_743 : decode cL_law 743 = .ok (.iaload, 1) := dk_46 (dk_at dksL_law_23 15 rfl rfl)
theorem dL_law_744 : decode cL_law 744 = .ok (.aload_n 0, 1) := dk_42 (dk_at dksL_law_23 16 rfl rfl)
theorem dL_law_745 : decode cL_law 745 = .ok (.iload 5, 2) := dk_21 5 (dk_at dksL_law_23 17 rfl rfl)
theorem dL_law_747 : decode cL_law 747 = .ok (.iconst 2, 1) := dk_5 (dk_at dksL_law_23 19 rfl rfl)
theorem dL_law_748 : decode cL_law 748 = .ok (.iadd, 1) := dk_96 (dk_at dksL_law_23 20 rfl rfl)
theorem dL_law_749 : decode cL_law 749 = .ok (.iaload, 1) := dk_46 (dk_at dksL_law_23 21 rfl rfl)
theorem dL_law_750 : decode cL_law 750 = .ok (.aload_n 3, 1) := dk_45 (dk_at dksL_law_23 22 rfl rfl)
theorem dL_law_751 : decode cL_law 751 = .ok (.invokestatic 209, 3) := dk_184 0 209 (dk_at dksL_law_24 0 rfl rfl)
theorem dL_law_754 : decode cL_law 754 = .ok (.istore 6, 2) := dk_54 6 (dk_at dksL_law_24 3 rfl rfl)
theorem dL_law_756 : decode cL_law 756 = .ok (.aload_n 2, 1) := dk_44 (dk_at dksL_law_24 5 rfl rfl)
theorem dL_law_757 : decode cL_law 757 = .ok (.aload_n 0, 1) := dk_42 (dk_at dksL_law_24 6 rfl rfl)
theorem dL_law_758 : decode cL_law 758 = .ok (.iload 5, 2) := dk_21 5 (dk_at dksL_law_24 7 rfl rfl)
theorem dL_law_760 : decode cL_law 760 = .ok (.iconst 1, 1) := dk_4 (dk_at dksL_law_24 9 rfl rfl)
theorem dL_law_761 : decode cL_law 761 = .ok (.iadd, 1) := dk_96 (dk_at dksL_law_24 10 rfl rfl)
theorem dL_law_762 : decode cL_law 762 = .ok (.iaload, 1) := dk_46 (dk_at dksL_law_24 11 rfl rfl)
theorem dL_law_763 : decode cL_law 763 = .ok (.aload_n 0, 1) := dk_42 (dk_at dksL_law_24 12 rfl rfl)
theorem dL_law_764 : decode cL_law 764 = .ok (.iload 5, 2) := dk_21 5 (dk_at dksL_law_24 13 rfl rfl)
theorem dL_law_766 : decode cL_law 766 = .ok (.iconst 2, 1) := dk_5 (dk_at dksL_law_24 15 rfl rfl)
theorem dL_law_767 : decode cL_law 767 = .ok (.iadd, 1) := dk_96 (dk_at dksL_law_24 16 rfl rfl)
theorem dL_law_768 : decode cL_law 768 = .ok (.iaload, 1) := dk_46 (dk_at dksL_law_24 17 rfl rfl)
theorem dL_law_769 : decode cL_law 769 = .ok (.invokevirtual 211, 3) := dk_182 0 211 (dk_at dksL_law_24 18 rfl rfl)
theorem dL_law_772 : decode cL_law 772 = .ok (.istore 7, 2) := dk_54 7 (dk_at dksL_law_24 21 rfl rfl)
theorem dL_law_774 : decode cL_law 774 = .ok (.aload_n 2, 1) := dk_44 (dk_at dksL_law_24 23 rfl rfl)
theorem dL_law_775 : decode cL_law 775 = .ok (.invokevirtual 167, 3) := dk_182 0 167 (dk_at dksL_law_25 0 rfl rfl)
theorem dL_law_778 : decode cL_law 778 = .ok (.iload 6, 2) := dk_21 6 (dk_at dksL_law_25 3 rfl rfl)
theorem dL_law_780 : decode cL_law 780 = .ok (.if_icmp .eq 5, 3) := dk_159 0 5 (dk_at dksL_law_25 5 rfl rfl)
theorem dL_law_783 : decode cL_law 783 = .ok (.iconst 0, 1) := dk_3 (dk_at dksL_law_25 8 rfl rfl)
theorem dL_law_784 : decode cL_law 784 = .ok (.ireturn, 1) := dk_172 (dk_at dksL_law_25 9 rfl rfl)
theorem dL_law_785 : decode cL_law 785 = .ok (.iload 6, 2) := dk_21 6 (dk_at dksL_law_25 10 rfl rfl)
theorem dL_law_787 : decode cL_law 787 = .ok (.ifCond .ne 15, 3) := dk_154 0 15 (dk_at dksL_law_25 12 rfl rfl)
theorem dL_law_790 : decode cL_law 790 = .ok (.aload_n 3, 1) := dk_45 (dk_at dksL_law_25 15 rfl rfl)
theorem dL_law_791 : decode cL_law 791 = .ok (.iconst 0, 1) := dk_3 (dk_at dksL_law_25 16 rfl rfl)
theorem dL_law_792 : decode cL_law 792 = .ok (.laload, 1) := dk_47 (dk_at dksL_law_25 17 rfl rfl)
theorem dL_law_793 : decode cL_law 793 = .ok (.iload 7, 2) := dk_21 7 (dk_at dksL_law_25 18 rfl rfl)
theorem dL_law_795 : decode cL_law 795 = .ok (.i2l, 1) := dk_133 (dk_at dksL_law_25 20 rfl rfl)
theorem dL_law_796 : decode cL_law 796 = .ok (.lcmp, 1) := dk_148 (dk_at dksL_law_25 21 rfl rfl)
theorem dL_law_797 : decode cL_law 797 = .ok (.ifCond .eq 5, 3) := dk_153 0 5 (dk_at dksL_law_26 0 rfl rfl)
theorem dL_law_800 : decode cL_law 800 = .ok (.iconst 0, 1) := dk_3 (dk_at dksL_law_26 3 rfl rfl)
theorem dL_law_801 : decode cL_law 801 = .ok (.ireturn, 1) := dk_172 (dk_at dksL_law_26 4 rfl rfl)
theorem dL_law_802 : decode cL_law 802 = .ok (.goto 2473, 3) := dk_167 9 169 (dk_at dksL_law_26 5 rfl rfl)
theorem dL_law_805 : decode cL_law 805 = .ok (.aload_n 1, 1) := dk_43 (dk_at dksL_law_26 8 rfl rfl)
theorem dL_law_806 : decode cL_law 806 = .ok (.aload_n 0, 1) := dk_42 (dk_at dksL_law_26 9 rfl rfl)
theorem dL_law_807 : decode cL_law 807 = .ok (.iload 5, 2) := dk_21 5 (dk_at dksL_law_26 10 rfl rfl)
theorem dL_law_809 : decode cL_law 809 = .ok (.iconst 1, 1) := dk_4 (dk_at dksL_law_26 12 rfl rfl)
theorem dL_law_810 : decode cL_law 810 = .ok (.iadd, 1) := dk_96 (dk_at dksL_law_26 13 rfl rfl)
theorem dL_law_811 : decode cL_law 811 = .ok (.iaload, 1) := dk_46 (dk_at dksL_law_26 14 rfl rfl)
theorem dL_law_812 : decode cL_law 812 = .ok (.aload_n 0, 1) := dk_42 (dk_at dksL_law_26 15 rfl rfl)
theorem dL_law_813 : decode cL_law 813 = .ok (.iload 5, 2) := dk_21 5 (dk_at dksL_law_26 16 rfl rfl)
theorem dL_law_815 : decode cL_law 815 = .ok (.iconst 2, 1) := dk_5 (dk_at dksL_law_26 18 rfl rfl)
theorem dL_law_816 : decode cL_law 816 = .ok (.iadd, 1) := dk_96 (dk_at dksL_law_26 19 rfl rfl)
theorem dL_law_817 : decode cL_law 817 = .ok (.iaload, 1) := dk_46 (dk_at dksL_law_26 20 rfl rfl)
theorem dL_law_818 : decode cL_law 818 = .ok (.aload_n 0, 1) := dk_42 (dk_at dksL_law_26 21 rfl rfl)
theorem dL_law_819 : decode cL_law 819 = .ok (.iload 5, 2) := dk_21 5 (dk_at dksL_law_26 22 rfl rfl)
theorem dL_law_821 : decode cL_law 821 = .ok (.iconst 3, 1) := dk_6 (dk_at dksL_law_27 0 rfl rfl)
theorem dL_law_822 : decode cL_law 822 = .ok (.iadd, 1) := dk_96 (dk_at dksL_law_27 1 rfl rfl)
theorem dL_law_823 : decode cL_law 823 = .ok (.iaload, 1) := dk_46 (dk_at dksL_law_27 2 rfl rfl)
theorem dL_law_824 : decode cL_law 824 = .ok (.aload_n 3, 1) := dk_45 (dk_at dksL_law_27 3 rfl rfl)
theorem dL_law_825 : decode cL_law 825 = .ok (.invokestatic 212, 3) := dk_184 0 212 (dk_at dksL_law_27 4 rfl rfl)
theorem dL_law_828 : decode cL_law 828 = .ok (.istore 6, 2) := dk_54 6 (dk_at dksL_law_27 7 rfl rfl)
theorem dL_law_830 : decode cL_law 830 = .ok (.aload_n 2, 1) := dk_44 (dk_at dksL_law_27 9 rfl rfl)
theorem dL_law_831 : decode cL_law 831 = .ok (.aload_n 0, 1) := dk_42 (dk_at dksL_law_27 10 rfl rfl)
theorem dL_law_832 : decode cL_law 832 = .ok (.iload 5, 2) := dk_21 5 (dk_at dksL_law_27 11 rfl rfl)
theorem dL_law_834 : decode cL_law 834 = .ok (.iconst 1, 1) := dk_4 (dk_at dksL_law_27 13 rfl rfl)
theorem dL_law_835 : decode cL_law 835 = .ok (.iadd, 1) := dk_96 (dk_at dksL_law_27 14 rfl rfl)
theorem dL_law_836 : decode cL_law 836 = .ok (.iaload, 1) := dk_46 (dk_at dksL_law_27 15 rfl rfl)
theorem dL_law_837 : decode cL_law 837 = .ok (.aload_n 0, 1) := dk_42 (dk_at dksL_law_27 16 rfl rfl)
theorem dL_law_838 : decode cL_law 838 = .ok (.iload 5, 2) := dk_21 5 (dk_at dksL_law_27 17 rfl rfl)
theorem dL_law_840 : decode cL_law 840 = .ok (.iconst 2, 1) := dk_5 (dk_at dksL_law_27 19 rfl rfl)
theorem dL_law_841 : decode cL_law 841 = .ok (.iadd, 1) := dk_96 (dk_at dksL_law_27 20 rfl rfl)
theorem dL_law_842 : decode cL_law 842 = .ok (.iaload, 1) := dk_46 (dk_at dksL_law_27 21 rfl rfl)
theorem dL_law_843 : decode cL_law 843 = .ok (.aload_n 0, 1) := dk_42 (dk_at dksL_law_27 22 rfl rfl)
theorem dL_law_844 : decode cL_law 844 = .ok (.iload 5, 2) := dk_21 5 (dk_at dksL_law_28 0 rfl rfl)
theorem dL_law_846 : decode cL_law 846 = .ok (.iconst 3, 1) := dk_6 (dk_at dksL_law_28 2 rfl rfl)
theorem dL_law_847 : decode cL_law 847 = .ok (.iadd, 1) := dk_96 (dk_at dksL_law_28 3 rfl rfl)
theorem dL_law_848 : decode cL_law 848 = .ok (.iaload, 1) := dk_46 (dk_at dksL_law_28 4 rfl rfl)
theorem dL_law_849 : decode cL_law 849 = .ok (.invokevirtual 214, 3) := dk_182 0 214 (dk_at dksL_law_28 5 rfl rfl)
theorem dL_law_852 : decode cL_law 852 = .ok (.istore 7, 2) := dk_54 7 (dk_at dksL_law_28 8 rfl rfl)
theorem dL_law_854 : decode cL_law 854 = .ok (.aload_n 2, 1) := dk_44 (dk_at dksL_law_28 10 rfl rfl)
theorem dL_law_855 : decode cL_law 855 = .ok (.invokevirtual 167, 3) := dk_182 0 167 (dk_at dksL_law_28 11 rfl rfl)
theorem dL_law_858 : decode cL_law 858 = .ok (.iload 6, 2) := dk_21 6 (dk_at dksL_law_28 14 rfl rfl)
theorem dL_law_860 : decode cL_law 860 = .ok (.if_icmp .eq 5, 3) := dk_159 0 5 (dk_at dksL_law_28 16 rfl rfl)
theorem dL_law_863 : decode cL_law 863 = .ok (.iconst 0, 1) := dk_3 (dk_at dksL_law_28 19 rfl rfl)
theorem dL_law_864 : decode cL_law 864 = .ok (.ireturn, 1) := dk_172 (dk_at dksL_law_28 20 rfl rfl)
theorem dL_law_865 : decode cL_law 865 = .ok (.iload 6, 2) := dk_21 6 (dk_at dksL_law_28 21 rfl rfl)
theorem dL_law_867 : decode cL_law 867 = .ok (.ifCond .ne 15, 3) := dk_154 0 15 (dk_at dksL_law_29 0 rfl rfl)
theorem dL_law_870 : decode cL_law 870 = .ok (.aload_n 3, 1) := dk_45 (dk_at dksL_law_29 3 rfl rfl)
theorem dL_law_871 : decode cL_law 871 = .ok (.iconst 0, 1) := dk_3 (dk_at dksL_law_29 4 rfl rfl)
theorem dL_law_872 : decode cL_law 872 = .ok (.laload, 1) := dk_47 (dk_at dksL_law_29 5 rfl rfl)
theorem dL_law_873 : decode cL_law 873 = .ok (.iload 7, 2) := dk_21 7 (dk_at dksL_law_29 6 rfl rfl)
theorem dL_law_875 : decode cL_law 875 = .ok (.i2l, 1) := dk_133 (dk_at dksL_law_29 8 rfl rfl)
theorem dL_law_876 : decode cL_law 876 = .ok (.lcmp, 1) := dk_148 (dk_at dksL_law_29 9 rfl rfl)
theorem dL_law_877 : decode cL_law 877 = .ok (.ifCond .eq 5, 3) := dk_153 0 5 (dk_at dksL_law_29 10 rfl rfl)
theorem dL_law_880 : decode cL_law 880 = .ok (.iconst 0, 1) := dk_3 (dk_at dksL_law_29 13 rfl rfl)
theorem dL_law_881 : decode cL_law 881 = .ok (.ireturn, 1) := dk_172 (dk_at dksL_law_29 14 rfl rfl)
theorem dL_law_882 : decode cL_law 882 = .ok (.goto 2393, 3) := dk_167 9 89 (dk_at dksL_law_29 15 rfl rfl)
theorem dL_law_885 : decode cL_law 885 = .ok (.aload_n 1, 1) := dk_43 (dk_at dksL_law_29 18 rfl rfl)
theorem dL_law_886 : decode cL_law 886 = .ok (.aload_n 0, 1) := dk_42 (dk_at dksL_law_29 19 rfl rfl)
theorem dL_law_887 : decode cL_law 887 = .ok (.iload 5, 2) := dk_21 5 (dk_at dksL_law_29 20 rfl rfl)
theorem dL_law_889 : decode cL_law 889 = .ok (.iconst 1, 1) := dk_4 (dk_at dksL_law_29 22 rfl rfl)
theorem dL_law_890 : decode cL_law 890 = .ok (.iadd, 1) := dk_96 (dk_at dksL_law_29 23 rfl rfl)
theorem dL_law_891 : decode cL_law 891 = .ok (.iaload, 1) := dk_46 (dk_at dksL_law_30 0 rfl rfl)
theorem dL_law_892 : decode cL_law 892 = .ok (.aload_n 0, 1) := dk_42 (dk_at dksL_law_30 1 rfl rfl)
theorem dL_law_893 : decode cL_law 893 = .ok (.iload 5, 2) := dk_21 5 (dk_at dksL_law_30 2 rfl rfl)
theorem dL_law_895 : decode cL_law 895 = .ok (.iconst 2, 1) := dk_5 (dk_at dksL_law_30 4 rfl rfl)
theorem dL_law_896 : decode cL_law 896 = .ok (.iadd, 1) := dk_96 (dk_at dksL_law_30 5 rfl rfl)
theorem dL_law_897 : decode cL_law 897 = .ok (.iaload, 1) := dk_46 (dk_at dksL_law_30 6 rfl rfl)
theorem dL_law_898 : decode cL_law 898 = .ok (.aload_n 3, 1) := dk_45 (dk_at dksL_law_30 7 rfl rfl)
theorem dL_law_899 : decode cL_law 899 = .ok (.invokestatic 215, 3) := dk_184 0 215 (dk_at dksL_law_30 8 rfl rfl)
theorem dL_law_902 : decode cL_law 902 = .ok (.istore 6, 2) := dk_54 6 (dk_at dksL_law_30 11 rfl rfl)
theorem dL_law_904 : decode cL_law 904 = .ok (.aload_n 2, 1) := dk_44 (dk_at dksL_law_30 13 rfl rfl)
theorem dL_law_905 : decode cL_law 905 = .ok (.aload_n 0, 1) := dk_42 (dk_at dksL_law_30 14 rfl rfl)
theorem dL_law_906 : decode cL_law 906 = .ok (.iload 5, 2) := dk_21 5 (dk_at dksL_law_30 15 rfl rfl)
theorem dL_law_908 : decode cL_law 908 = .ok (.iconst 1, 1) := dk_4 (dk_at dksL_law_30 17 rfl rfl)
theorem dL_law_909 : decode cL_law 909 = .ok (.iadd, 1) := dk_96 (dk_at dksL_law_30 18 rfl rfl)
theorem dL_law_910 : decode cL_law 910 = .ok (.iaload, 1) := dk_46 (dk_at dksL_law_30 19 rfl rfl)
theorem dL_law_911 : decode cL_law 911 = .ok (.aload_n 0, 1) := dk_42 (dk_at dksL_law_30 20 rfl rfl)
theorem dL_law_912 : decode cL_law 912 = .ok (.iload 5, 2) := dk_21 5 (dk_at dksL_law_30 21 rfl rfl)
theorem dL_law_914 : decode cL_law 914 = .ok (.iconst 2, 1) := dk_5 (dk_at dksL_law_30 23 rfl rfl)
theorem dL_law_915 : decode cL_law 915 = .ok (.iadd, 1) := dk_96 (dk_at dksL_law_31 0 rfl rfl)
theorem dL_law_916 : decode cL_law 916 = .ok (.iaload, 1) := dk_46 (dk_at dksL_law_31 1 rfl rfl)
theorem dL_law_917 : decode cL_law 917 = .ok (.invokevirtual 217, 3) := dk_182 0 217 (dk_at dksL_law_31 2 rfl rfl)
theorem dL_law_920 : decode cL_law 920 = .ok (.istore 7, 2) := dk_54 7 (dk_at dksL_law_31 5 rfl rfl)
theorem dL_law_922 : decode cL_law 922 = .ok (.aload_n 2, 1) := dk_44 (dk_at dksL_law_31 7 rfl rfl)
theorem dL_law_923 : decode cL_law 923 = .ok (.invokevirtual 167, 3) := dk_182 0 167 (dk_at dksL_law_31 8 rfl rfl)
theorem dL_law_926 : decode cL_law 926 = .ok (.iload 6, 2) := dk_21 6 (dk_at dksL_law_31 11 rfl rfl)
theorem dL_law_928 : decode cL_law 928 = .ok (.if_icmp .eq 5, 3) := dk_159 0 5 (dk_at dksL_law_31 13 rfl rfl)
theorem dL_law_931 : decode cL_law 931 = .ok (.iconst 0, 1) := dk_3 (dk_at dksL_law_31 16 rfl rfl)
theorem dL_law_932 : decode cL_law 932 = .ok (.ireturn, 1) := dk_172 (dk_at dksL_law_31 17 rfl rfl)
theorem dL_law_933 : decode cL_law 933 = .ok (.iload 6, 2) := dk_21 6 (dk_at dksL_law_31 18 rfl rfl)
theorem dL_law_935 : decode cL_law 935 = .ok (.ifCond .ne 15, 3) := dk_154 0 15 (dk_at dksL_law_31 20 rfl rfl)
theorem dL_law_938 : decode cL_law 938 = .ok (.aload_n 3, 1) := dk_45 (dk_at dksL_law_31 23 rfl rfl)
theorem dL_law_939 : decode cL_law 939 = .ok (.iconst 0, 1) := dk_3 (dk_at dksL_law_32 0 rfl rfl)
theorem dL_law_940 : decode cL_law 940 = .ok (.laload, 1) := dk_47 (dk_at dksL_law_32 1 rfl rfl)
theorem dL_law_941 : decode cL_law 941 = .ok (.iload 7, 2) := dk_21 7 (dk_at dksL_law_32 2 rfl rfl)
theorem dL_law_943 : decode cL_law 943 = .ok (.i2l, 1) := dk_133 (dk_at dksL_law_32 4 rfl rfl)
theorem dL_law_944 : decode cL_law 944 = .ok (.lcmp, 1) := dk_148 (dk_at dksL_law_32 5 rfl rfl)
theorem dL_law_945 : decode cL_law 945 = .ok (.ifCond .eq 5, 3) := dk_153 0 5 (dk_at dksL_law_32 6 rfl rfl)
theorem dL_law_948 : decode cL_law 948 = .ok (.iconst 0, 1) := dk_3 (dk_at dksL_law_32 9 rfl rfl)
theorem dL_law_949 : decode cL_law 949 = .ok (.ireturn, 1) := dk_172 (dk_at dksL_law_32 10 rfl rfl)
theorem dL_law_950 : decode cL_law 950 = .ok (.goto 2325, 3) := dk_167 9 21 (dk_at dksL_law_32 11 rfl rfl)
theorem dL_law_953 : decode cL_law 953 = .ok (.aload_n 1, 1) := dk_43 (dk_at dksL_law_32 14 rfl rfl)
theorem dL_law_954 : decode cL_law 954 = .ok (.aload_n 0, 1) := dk_42 (dk_at dksL_law_32 15 rfl rfl)
theorem dL_law_955 : decode cL_law 955 = .ok (.iload 5, 2) := dk_21 5 (dk_at dksL_law_32 16 rfl rfl)
theorem dL_law_957 : decode cL_law 957 = .ok (.iconst 1, 1) := dk_4 (dk_at dksL_law_32 18 rfl rfl)
theorem dL_law_958 : decode cL_law 958 = .ok (.iadd, 1) := dk_96 (dk_at dksL_law_32 19 rfl rfl)
theorem dL_law_959 : decode cL_law 959 = .ok (.iaload, 1) := dk_46 (dk_at dksL_law_32 20 rfl rfl)
theorem dL_law_960 : decode cL_law 960 = .ok (.aload_n 0, 1) := dk_42 (dk_at dksL_law_32 21 rfl rfl)
theorem dL_law_961 : decode cL_law 961 = .ok (.iload 5, 2) := dk_21 5 (dk_at dksL_law_32 22 rfl rfl)
theorem dL_law_963 : decode cL_law 963 = .ok (.iconst 2, 1) := dk_5 (dk_at dksL_law_33 0 rfl rfl)
theorem dL_law_964 : decode cL_law 964 = .ok (.iadd, 1) := dk_96 (dk_at dksL_law_33 1 rfl rfl)
theorem dL_law_965 : decode cL_law 965 = .ok (.iaload, 1) := dk_46 (dk_at dksL_law_33 2 rfl rfl)
theorem dL_law_966 : decode cL_law 966 = .ok (.aload_n 3, 1) := dk_45 (dk_at dksL_law_33 3 rfl rfl)
theorem dL_law_967 : decode cL_law 967 = .ok (.invokestatic 218, 3) := dk_184 0 218 (dk_at dksL_law_33 4 rfl rfl)
theorem dL_law_970 : decode cL_law 970 = .ok (.istore 6, 2) := dk_54 6 (dk_at dksL_law_33 7 rfl rfl)
theorem dL_law_972 : decode cL_law 972 = .ok (.aload_n 2, 1) := dk_44 (dk_at dksL_law_33 9 rfl rfl)
theorem dL_law_973 : decode cL_law 973 = .ok (.aload_n 0, 1) := dk_42 (dk_at dksL_law_33 10 rfl rfl)
theorem dL_law_974 : decode cL_law 974 = .ok (.iload 5, 2) := dk_21 5 (dk_at dksL_law_33 11 rfl rfl)
theorem dL_law_976 : decode cL_law 976 = .ok (.iconst 1, 1) := dk_4 (dk_at dksL_law_33 13 rfl rfl)
theorem dL_law_977 : decode cL_law 977 = .ok (.iadd, 1) := dk_96 (dk_at dksL_law_33 14 rfl rfl)
theorem dL_law_978 : decode cL_law 978 = .ok (.iaload, 1) := dk_46 (dk_at dksL_law_33 15 rfl rfl)
theorem dL_law_979 : decode cL_law 979 = .ok (.aload_n 0, 1) := dk_42 (dk_at dksL_law_33 16 rfl rfl)
theorem dL_law_980 : decode cL_law 980 = .ok (.iload 5, 2) := dk_21 5 (dk_at dksL_law_33 17 rfl rfl)
theorem dL_law_982 : decode cL_law 982 = .ok (.iconst 2, 1) := dk_5 (dk_at dksL_law_33 19 rfl rfl)
theorem dL_law_983 : decode cL_law 983 = .ok (.iadd, 1) := dk_96 (dk_at dksL_law_33 20 rfl rfl)
theorem dL_law_984 : decode cL_law 984 = .ok (.iaload, 1) := dk_46 (dk_at dksL_law_33 21 rfl rfl)
theorem dL_law_985 : decode cL_law 985 = .ok (.invokevirtual 220, 3) := dk_182 0 220 (dk_at dksL_law_34 0 rfl rfl)
theorem dL_law_988 : decode cL_law 988 = .ok (.istore 7, 2) := dk_54 7 (dk_at dksL_law_34 3 rfl rfl)
theorem dL_law_990 : decode cL_law 990 = .ok (.aload_n 2, 1) := dk_44 (dk_at dksL_law_34 5 rfl rfl)
theorem dL_law_991 : decode cL_law 991 = .ok (.invokevirtual 167, 3) := dk_182 0 167 (dk_at dksL_law_34 6 rfl rfl)
theorem dL_law_994 : decode cL_law 994 = .ok (.iload 6, 2) := dk_21 6 (dk_at dksL_law_34 9 rfl rfl)
theorem dL_law_996 : decode cL_law 996 = .ok (.if_icmp .eq 5, 3) := dk_159 0 5 (dk_at dksL_law_34 11 rfl rfl)
theorem dL_law_999 : decode cL_law 999 = .ok (.iconst 0, 1) := dk_3 (dk_at dksL_law_34 14 rfl rfl)
theorem dL_law_1000 : decode cL_law 1000 = .ok (.ireturn, 1) := dk_172 (dk_at dksL_law_34 15 rfl rfl)
theorem dL_law_1001 : decode cL_law 1001 = .ok (.iload 6, 2) := dk_21 6 (dk_at dksL_law_34 16 rfl rfl)
theorem dL_law_1003 : decode cL_law 1003 = .ok (.ifCond .ne 15, 3) := dk_154 0 15 (dk_at dksL_law_34 18 rfl rfl)
theorem dL_law_1006 : decode cL_law 1006 = .ok (.aload_n 3, 1) := dk_45 (dk_at dksL_law_34 21 rfl rfl)
theorem dL_law_1007 : decode cL_law 1007 = .ok (.iconst 0, 1) := dk_3 (dk_at dksL_law_34 22 rfl rfl)
theorem dL_law_1008 : decode cL_law 1008 = .ok (.laload, 1) := dk_47 (dk_at dksL_law_34 23 rfl rfl)
theorem dL_law_1009 : decode cL_law 1009 = .ok (.iload 7, 2) := dk_21 7 (dk_at dksL_law_35 0 rfl rfl)
theorem dL_law_1011 : decode cL_law 1011 = .ok (.i2l, 1) := dk_133 (dk_at dksL_law_35 2 rfl rfl)
theorem dL_law_1012 : decode cL_law 1012 = .ok (.lcmp, 1) := dk_148 (dk_at dksL_law_35 3 rfl rfl)
theorem dL_law_1013 : decode cL_law 1013 = .ok (.ifCond .eq 5, 3) := dk_153 0 5 (dk_at dksL_law_35 4 rfl rfl)
theorem dL_law_1016 : decode cL_law 1016 = .ok (.iconst 0, 1) := dk_3 (dk_at dksL_law_35 7 rfl rfl)
theorem dL_law_1017 : decode cL_law 1017 = .ok (.ireturn, 1) := dk_172 (dk_at dksL_law_35 8 rfl rfl)
theorem dL_law_1018 : decode cL_law 1018 = .ok (.goto 2257, 3) := dk_167 8 209 (dk_at dksL_law_35 9 rfl rfl)
theorem dL_law_1021 : decode cL_law 1021 = .ok (.aload_n 1, 1) := dk_43 (dk_at dksL_law_35 12 rfl rfl)
theorem dL_law_1022 : decode cL_law 1022 = .ok (.aload_n 0, 1) := dk_42 (dk_at dksL_law_35 13 rfl rfl)
theorem dL_law_1023 : decode cL_law 1023 = .ok (.iload 5, 2) := dk_21 5 (dk_at dksL_law_35 14 rfl rfl)
theorem dL_law_1025 : decode cL_law 1025 = .ok (.iconst 1, 1) := dk_4 (dk_at dksL_law_35 16 rfl rfl)
theorem dL_law_1026 : decode cL_law 1026 = .ok (.iadd, 1) := dk_96 (dk_at dksL_law_35 17 rfl rfl)
theorem dL_law_1027 : decode cL_law 1027 = .ok (.iaload, 1) := dk_46 (dk_at dksL_law_35 18 rfl rfl)
theorem dL_law_1028 : decode cL_law 1028 = .ok (.aload_n 3, 1) := dk_45 (dk_at dksL_law_35 19 rfl rfl)
theorem dL_law_1029 : decode cL_law 1029 = .ok (.invokestatic 221, 3) := dk_184 0 221 (dk_at dksL_law_35 20 rfl rfl)
theorem dL_law_1032 : decode cL_law 1032 = .ok (.istore 6, 2) := dk_54 6 (dk_at dksL_law_36 0 rfl rfl)
theorem dL_law_1034 : decode cL_law 1034 = .ok (.aload_n 2, 1) := dk_44 (dk_at dksL_law_36 2 rfl rfl)
theorem dL_law_1035 : decode cL_law 1035 = .ok (.aload_n 0, 1) := dk_42 (dk_at dksL_law_36 3 rfl rfl)
theorem dL_law_1036 : decode cL_law 1036 = .ok (.iload 5, 2) := dk_21 5 (dk_at dksL_law_36 4 rfl rfl)
theorem dL_law_1038 : decode cL_law 1038 = .ok (.iconst 1, 1) := dk_4 (dk_at dksL_law_36 6 rfl rfl)
theorem dL_law_1039 : decode cL_law 1039 = .ok (.iadd, 1) := dk_96 (dk_at dksL_law_36 7 rfl rfl)
theorem dL_law_1040 : decode cL_law 1040 = .ok (.iaload, 1) := dk_46 (dk_at dksL_law_36 8 rfl rfl)
theorem dL_law_1041 : decode cL_law 1041 = .ok (.invokevirtual 223, 3) := dk_182 0 223 (dk_at dksL_law_36 9 rfl rfl)
theorem dL_law_1044 : decode cL_law 1044 = .ok (.istore 7, 2) := dk_54 7 (dk_at dksL_law_36 12 rfl rfl)
theorem dL_law_1046 : decode cL_law 1046 = .ok (.aload_n 2, 1) := dk_44 (dk_at dksL_law_36 14 rfl rfl)
theorem dL_law_1047 : decode cL_law 1047 = .ok (.invokevirtual 167, 3) := dk_182 0 167 (dk_at dksL_law_36 15 rfl rfl)
theorem dL_law_1050 : decode cL_law 1050 = .ok (.iload 6, 2) := dk_21 6 (dk_at dksL_law_36 18 rfl rfl)
theorem dL_law_1052 : decode cL_law 1052 = .ok (.if_icmp .eq 5, 3) := dk_159 0 5 (dk_at dksL_law_36 20 rfl rfl)
theorem dL_law_1055 : decode cL_law 1055 = .ok (.iconst 0, 1) := dk_3 (dk_at dksL_law_36 23 rfl rfl)
theorem dL_law_1056 : decode cL_law 1056 = .ok (.ireturn, 1) := dk_172 (dk_at dksL_law_37 0 rfl rfl)
theorem dL_law_1057 : decode cL_law 1057 = .ok (.iload 6, 2) := dk_21 6 (dk_at dksL_law_37 1 rfl rfl)
theorem dL_law_1059 : decode cL_law 1059 = .ok (.ifCond .ne 15, 3) := dk_154 0 15 (dk_at dksL_law_37 3 rfl rfl)
theorem dL_law_1062 : decode cL_law 1062 = .ok (.aload_n 3, 1) := dk_45 (dk_at dksL_law_37 6 rfl rfl)
theorem dL_law_1063 : decode cL_law 1063 = .ok (.iconst 0, 1) := dk_3 (dk_at dksL_law_37 7 rfl rfl)
theorem dL_law_1064 : decode cL_law 1064 = .ok (.laload, 1) := dk_47 (dk_at dksL_law_37 8 rfl rfl)
theorem dL_law_1065 : decode cL_law 1065 = .ok (.iload 7, 2) := dk_21 7 (dk_at dksL_law_37 9 rfl rfl)
theorem dL_law_1067 : decode cL_law 1067 = .ok (.i2l, 1) := dk_133 (dk_at dksL_law_37 11 rfl rfl)
theorem dL_law_1068 : decode cL_law 1068 = .ok (.lcmp, 1) := dk_148 (dk_at dksL_law_37 12 rfl rfl)
theorem dL_law_1069 : decode cL_law 1069 = .ok (.ifCond .eq 5, 3) := dk_153 0 5 (dk_at dksL_law_37 13 rfl rfl)
theorem dL_law_1072 : decode cL_law 1072 = .ok (.iconst 0, 1) := dk_3 (dk_at dksL_law_37 16 rfl rfl)
theorem dL_law_1073 : decode cL_law 1073 = .ok (.ireturn, 1) := dk_172 (dk_at dksL_law_37 17 rfl rfl)
theorem dL_law_1074 : decode cL_law 1074 = .ok (.goto 2201, 3) := dk_167 8 153 (dk_at dksL_law_37 18 rfl rfl)
theorem dL_law_1077 : decode cL_law 1077 = .ok (.aload_n 1, 1) := dk_43 (dk_at dksL_law_37 21 rfl rfl)
theorem dL_law_1078 : decode cL_law 1078 = .ok (.aload_n 0, 1) := dk_42 (dk_at dksL_law_37 22 rfl rfl)
theorem dL_law_1079 : decode cL_law 1079 = .ok (.iload 5, 2) := dk_21 5 (dk_at dksL_law_38 0 rfl rfl)
theorem dL_law_1081 : decode cL_law 1081 = .ok (.iconst 1, 1) := dk_4 (dk_at dksL_law_38 2 rfl rfl)
theorem dL_law_1082 : decode cL_law 1082 = .ok (.iadd, 1) := dk_96 (dk_at dksL_law_38 3 rfl rfl)
theorem dL_law_1083 : decode cL_law 1083 = .ok (.iaload, 1) := dk_46 (dk_at dksL_law_38 4 rfl rfl)
theorem dL_law_1084 : decode cL_law 1084 = .ok (.aload_n 3, 1) := dk_45 (dk_at dksL_law_38 5 rfl rfl)
theorem dL_law_1085 : decode cL_law 1085 = .ok (.invokestatic 224, 3) := dk_184 0 224 (dk_at dksL_law_38 6 rfl rfl)
theorem dL_law_1088 : decode cL_law 1088 = .ok (.istore 6, 2) := dk_54 6 (dk_at dksL_law_38 9 rfl rfl)
theorem dL_law_1090 : decode cL_law 1090 = .ok (.aload_n 2, 1) := dk_44 (dk_at dksL_law_38 11 rfl rfl)
theorem dL_law_1091 : decode cL_law 1091 = .ok (.aload_n 0, 1) := dk_42 (dk_at dksL_law_38 12 rfl rfl)
theorem dL_law_1092 : decode cL_law 1092 = .ok (.iload 5, 2) := dk_21 5 (dk_at dksL_law_38 13 rfl rfl)
theorem dL_law_1094 : decode cL_law 1094 = .ok (.iconst 1, 1) := dk_4 (dk_at dksL_law_38 15 rfl rfl)
theorem dL_law_1095 : decode cL_law 1095 = .ok (.iadd, 1) := dk_96 (dk_at dksL_law_38 16 rfl rfl)
theorem dL_law_1096 : decode cL_law 1096 = .ok (.iaload, 1) := dk_46 (dk_at dksL_law_38 17 rfl rfl)
theorem dL_law_1097 : decode cL_law 1097 = .ok (.invokevirtual 226, 3) := dk_182 0 226 (dk_at dksL_law_38 18 rfl rfl)
theorem dL_law_1100 : decode cL_law 1100 = .ok (.istore 7, 2) := dk_54 7 (dk_at dksL_law_38 21 rfl rfl)
theorem dL_law_1102 : decode cL_law 1102 = .ok (.aload_n 2, 1) := dk_44 (dk_at dksL_law_38 23 rfl rfl)
theorem dL_law_1103 : decode cL_law 1103 = .ok (.invokevirtual 167, 3) := dk_182 0 167 (dk_at dksL_law_39 0 rfl rfl)
theorem dL_law_1106 : decode cL_law 1106 = .ok (.iload 6, 2) := dk_21 6 (dk_at dksL_law_39 3 rfl rfl)
theorem dL_law_1108 : decode cL_law 1108 = .ok (.if_icmp .eq 5, 3) := dk_159 0 5 (dk_at dksL_law_39 5 rfl rfl)
theorem dL_law_1111 : decode cL_law 1111 = .ok (.iconst 0, 1) := dk_3 (dk_at dksL_law_39 8 rfl rfl)
theorem dL_law_1112 : decode cL_law 1112 = .ok (.ireturn, 1) := dk_172 (dk_at dksL_law_39 9 rfl rfl)
theorem dL_law_1113 : decode cL_law 1113 = .ok (.iload 6, 2) := dk_21 6 (dk_at dksL_law_39 10 rfl rfl)
theorem dL_law_1115 : decode cL_law 1115 = .ok (.ifCond .ne 22, 3) := dk_154 0 22 (dk_at dksL_law_39 12 rfl rfl)
theorem dL_law_1118 : decode cL_law 1118 = .ok (.aload_n 3, 1) := dk_45 (dk_at dksL_law_39 15 rfl rfl)
theorem dL_law_1119 : decode cL_law 1119 = .ok (.iconst 0, 1) := dk_3 (dk_at dksL_law_39 16 rfl rfl)
theorem dL_law_1120 : decode cL_law 1120 = .ok (.laload, 1) := dk_47 (dk_at dksL_law_39 17 rfl rfl)
theorem dL_law_1121 : decode cL_law 1121 = .ok (.iload 7, 2) := dk_21 7 (dk_at dksL_law_39 18 rfl rfl)
theorem dL_law_1123 : decode cL_law 1123 = .ok (.ifCond .eq 7, 3) := dk_153 0 7 (dk_at dksL_law_39 20 rfl rfl)
theorem dL_law_1126 : decode cL_law 1126 = .ok (.lconst 1, 1) := dk_10 (dk_at dksL_law_39 23 rfl rfl)
theorem dL_law_1127 : decode cL_law 1127 = .ok (.goto 4, 3) := dk_167 0 4 (dk_at dksL_law_40 0 rfl rfl)
theorem dL_law_1130 : decode cL_law 1130 = .ok (.lconst 0, 1) := dk_9 (dk_at dksL_law_40 3 rfl rfl)
theorem dL_law_1131 : decode cL_law 1131 = .ok (.lcmp, 1) := dk_148 (dk_at dksL_law_40 4 rfl rfl)
theorem dL_law_1132 : decode cL_law 1132 = .ok (.ifCond .eq 5, 3) := dk_153 0 5 (dk_at dksL_law_40 5 rfl rfl)
theorem dL_law_1135 : decode cL_law 1135 = .ok (.iconst 0, 1) := dk_3 (dk_at dksL_law_40 8 rfl rfl)
theorem dL_law_1136 : decode cL_law 1136 = .ok (.ireturn, 1) := dk_172 (dk_at dksL_law_40 9 rfl rfl)
theorem dL_law_1137 : decode cL_law 1137 = .ok (.goto 2138, 3) := dk_167 8 90 (dk_at dksL_law_40 10 rfl rfl)
theorem dL_law_1140 : decode cL_law 1140 = .ok (.aload_n 1, 1) := dk_43 (dk_at dksL_law_40 13 rfl rfl)
theorem dL_law_1141 : decode cL_law 1141 = .ok (.aload_n 0, 1) := dk_42 (dk_at dksL_law_40 14 rfl rfl)
theorem dL_law_1142 : decode cL_law 1142 = .ok (.iload 5, 2) := dk_21 5 (dk_at dksL_law_40 15 rfl rfl)
theorem dL_law_1144 : decode cL_law 1144 = .ok (.iconst 1, 1) := dk_4 (dk_at dksL_law_40 17 rfl rfl)
theorem dL_law_1145 : decode cL_law 1145 = .ok (.iadd, 1) := dk_96 (dk_at dksL_law_40 18 rfl rfl)
theorem dL_law_1146 : decode cL_law 1146 = .ok (.iaload, 1) := dk_46 (dk_at dksL_law_40 19 rfl rfl)
theorem dL_law_1147 : decode cL_law 1147 = .ok (.aload_n 3, 1) := dk_45 (dk_at dksL_law_40 20 rfl rfl)
theorem dL_law_1148 : decode cL_law 1148 = .ok (.invokestatic 227, 3) := dk_184 0 227 (dk_at dksL_law_40 21 rfl rfl)
theorem dL_law_1151 : decode cL_law 1151 = .ok (.istore 6, 2) := dk_54 6 (dk_at dksL_law_41 0 rfl rfl)
theorem dL_law_1153 : decode cL_law 1153 = .ok (.aload_n 2, 1) := dk_44 (dk_at dksL_law_41 2 rfl rfl)
theorem dL_law_1154 : decode cL_law 1154 = .ok (.aload_n 0, 1) := dk_42 (dk_at dksL_law_41 3 rfl rfl)
theorem dL_law_1155 : decode cL_law 1155 = .ok (.iload 5, 2) := dk_21 5 (dk_at dksL_law_41 4 rfl rfl)
theorem dL_law_1157 : decode cL_law 1157 = .ok (.iconst 1, 1) := dk_4 (dk_at dksL_law_41 6 rfl rfl)
theorem dL_law_1158 : decode cL_law 1158 = .ok (.iadd, 1) := dk_96 (dk_at dksL_law_41 7 rfl rfl)
theorem dL_law_1159 : decode cL_law 1159 = .ok (.iaload, 1) := dk_46 (dk_at dksL_law_41 8 rfl rfl)
theorem dL_law_1160 : decode cL_law 1160 = .ok (.invokevirtual 229, 3) := dk_182 0 229 (dk_at dksL_law_41 9 rfl rfl)
theorem dL_law_1163 : decode cL_law 1163 = .ok (.istore 7, 2) := dk_54 7 (dk_at dksL_law_41 12 rfl rfl)
theorem dL_law_1165 : decode cL_law 1165 = .ok (.aload_n 2, 1) := dk_44 (dk_at dksL_law_41 14 rfl rfl)
theorem dL_law_1166 : decode cL_law 1166 = .ok (.invokevirtual 167, 3) := dk_182 0 167 (dk_at dksL_law_41 15 rfl rfl)
theorem dL_law_1169 : decode cL_law 1169 = .ok (.iload 6, 2) := dk_21 6 (dk_at dksL_law_41 18 rfl rfl)
theorem dL_law_1171 : decode cL_law 1171 = .ok (.if_icmp .eq 5, 3) := dk_159 0 5 (dk_at dksL_law_41 20 rfl rfl)
theorem dL_law_1174 : decode cL_law 1174 = .ok (.iconst 0, 1) := dk_3 (dk_at dksL_law_41 23 rfl rfl)
theorem dL_law_1175 : decode cL_law 1175 = .ok (.ireturn, 1) := dk_172 (dk_at dksL_law_42 0 rfl rfl)
theorem dL_law_1176 : decode cL_law 1176 = .ok (.iload 6, 2) := dk_21 6 (dk_at dksL_law_42 1 rfl rfl)
theorem dL_law_1178 : decode cL_law 1178 = .ok (.ifCond .ne 15, 3) := dk_154 0 15 (dk_at dksL_law_42 3 rfl rfl)
theorem dL_law_1181 : decode cL_law 1181 = .ok (.aload_n 3, 1) := dk_45 (dk_at dksL_law_42 6 rfl rfl)
theorem dL_law_1182 : decode cL_law 1182 = .ok (.iconst 0, 1) := dk_3 (dk_at dksL_law_42 7 rfl rfl)
theorem dL_law_1183 : decode cL_law 1183 = .ok (.laload, 1) := dk_47 (dk_at dksL_law_42 8 rfl rfl)
theorem dL_law_1184 : decode cL_law 1184 = .ok (.iload 7, 2) := dk_21 7 (dk_at dksL_law_42 9 rfl rfl)
theorem dL_law_1186 : decode cL_law 1186 = .ok (.i2l, 1) := dk_133 (dk_at dksL_law_42 11 rfl rfl)
theorem dL_law_1187 : decode cL_law 1187 = .ok (.lcmp, 1) := dk_148 (dk_at dksL_law_42 12 rfl rfl)
theorem dL_law_1188 : decode cL_law 1188 = .ok (.ifCond .eq 5, 3) := dk_153 0 5 (dk_at dksL_law_42 13 rfl rfl)
theorem dL_law_1191 : decode cL_law 1191 = .ok (.iconst 0, 1) := dk_3 (dk_at dksL_law_42 16 rfl rfl)
theorem dL_law_1192 : decode cL_law 1192 = .ok (.ireturn, 1) := dk_172 (dk_at dksL_law_42 17 rfl rfl)
theorem dL_law_1193 : decode cL_law 1193 = .ok (.goto 2082, 3) := dk_167 8 34 (dk_at dksL_law_42 18 rfl rfl)
theorem dL_law_1196 : decode cL_law 1196 = .ok (.aload_n 1, 1) := dk_43 (dk_at dksL_law_42 21 rfl rfl)
theorem dL_law_1197 : decode cL_law 1197 = .ok (.aload_n 0, 1) := dk_42 (dk_at dksL_law_42 22 rfl rfl)
theorem dL_law_1198 : decode cL_law 1198 = .ok (.iload 5, 2) := dk_21 5 (dk_at dksL_law_43 0 rfl rfl)
theorem dL_law_1200 : decode cL_law 1200 = .ok (.iconst 1, 1) := dk_4 (dk_at dksL_law_43 2 rfl rfl)
theorem dL_law_1201 : decode cL_law 1201 = .ok (.iadd, 1) := dk_96 (dk_at dksL_law_43 3 rfl rfl)
theorem dL_law_1202 : decode cL_law 1202 = .ok (.iaload, 1) := dk_46 (dk_at dksL_law_43 4 rfl rfl)
theorem dL_law_1203 : decode cL_law 1203 = .ok (.aload_n 3, 1) := dk_45 (dk_at dksL_law_43 5 rfl rfl)
theorem dL_law_1204 : decode cL_law 1204 = .ok (.invokestatic 230, 3) := dk_184 0 230 (dk_at dksL_law_43 6 rfl rfl)
theorem dL_law_1207 : decode cL_law 1207 = .ok (.istore 6, 2) := dk_54 6 (dk_at dksL_law_43 9 rfl rfl)
theorem dL_law_1209 : decode cL_law 1209 = .ok (.aload_n 2, 1) := dk_44 (dk_at dksL_law_43 11 rfl rfl)
theorem dL_law_1210 : decode cL_law 1210 = .ok (.aload_n 0, 1) := dk_42 (dk_at dksL_law_43 12 rfl rfl)
theorem dL_law_1211 : decode cL_law 1211 = .ok (.iload 5, 2) := dk_21 5 (dk_at dksL_law_43 13 rfl rfl)
theorem dL_law_1213 : decode cL_law 1213 = .ok (.iconst 1, 1) := dk_4 (dk_at dksL_law_43 15 rfl rfl)
theorem dL_law_1214 : decode cL_law 1214 = .ok (.iadd, 1) := dk_96 (dk_at dksL_law_43 16 rfl rfl)
theorem dL_law_1215 : decode cL_law 1215 = .ok (.iaload, 1) := dk_46 (dk_at dksL_law_43 17 rfl rfl)
theorem dL_law_1216 : decode cL_law 1216 = .ok (.invokevirtual 232, 3) := dk_182 0 232 (dk_at dksL_law_43 18 rfl rfl)
theorem dL_law_1219 : decode cL_law 1219 = .ok (.istore 7, 2) := dk_54 7 (dk_at dksL_law_43 21 rfl rfl)
theorem dL_law_1221 : decode cL_law 1221 = .ok (.aload_n 2, 1) := dk_44 (dk_at dksL_law_43 23 rfl rfl)
theorem dL_law_1222 : decode cL_law 1222 = .ok (.invokevirtual 167, 3) := dk_182 0 167 (dk_at dksL_law_44 0 rfl rfl)
theorem dL_law_1225 : decode cL_law 1225 = .ok (.iload 6, 2) := dk_21 6 (dk_at dksL_law_44 3 rfl rfl)
theorem dL_law_1227 : decode cL_law 1227 = .ok (.if_icmp .eq 5, 3) := dk_159 0 5 (dk_at dksL_law_44 5 rfl rfl)
theorem dL_law_1230 : decode cL_law 1230 = .ok (.iconst 0, 1) := dk_3 (dk_at dksL_law_44 8 rfl rfl)
theorem dL_law_1231 : decode cL_law 1231 = .ok (.ireturn, 1) := dk_172 (dk_at dksL_law_44 9 rfl rfl)
theorem dL_law_1232 : decode cL_law 1232 = .ok (.iload 6, 2) := dk_21 6 (dk_at dksL_law_44 10 rfl rfl)
theorem dL_law_1234 : decode cL_law 1234 = .ok (.ifCond .ne 15, 3) := dk_154 0 15 (dk_at dksL_law_44 12 rfl rfl)
theorem dL_law_1237 : decode cL_law 1237 = .ok (.aload_n 3, 1) := dk_45 (dk_at dksL_law_44 15 rfl rfl)
theorem dL_law_1238 : decode cL_law 1238 = .ok (.iconst 0, 1) := dk_3 (dk_at dksL_law_44 16 rfl rfl)
theorem dL_law_1239 : decode cL_law 1239 = .ok (.laload, 1) := dk_47 (dk_at dksL_law_44 17 rfl rfl)
theorem dL_law_1240 : decode cL_law 1240 = .ok (.iload 7, 2) := dk_21 7 (dk_at dksL_law_44 18 rfl rfl)
theorem dL_law_1242 : decode cL_law 1242 = .ok (.i2l, 1) := dk_133 (dk_at dksL_law_44 20 rfl rfl)
theorem dL_law_1243 : decode cL_law 1243 = .ok (.lcmp, 1) := dk_148 (dk_at dksL_law_44 21 rfl rfl)
theorem dL_law_1244 : decode cL_law 1244 = .ok (.ifCond .eq 5, 3) := dk_153 0 5 (dk_at dksL_law_45 0 rfl rfl)
theorem dL_law_1247 : decode cL_law 1247 = .ok (.iconst 0, 1) := dk_3 (dk_at dksL_law_45 3 rfl rfl)
theorem dL_law_1248 : decode cL_law 1248 = .ok (.ireturn, 1) := dk_172 (dk_at dksL_law_45 4 rfl rfl)
theorem dL_law_1249 : decode cL_law 1249 = .ok (.goto 2026, 3) := dk_167 7 234 (dk_at dksL_law_45 5 rfl rfl)
theorem dL_law_1252 : decode cL_law 1252 = .ok (.aload_n 1, 1) := dk_43 (dk_at dksL_law_45 8 rfl rfl)
theorem dL_law_1253 : decode cL_law 1253 = .ok (.aload_n 0, 1) := dk_42 (dk_at dksL_law_45 9 rfl rfl)
theorem dL_law_1254 : decode cL_law 1254 = .ok (.iload 5, 2) := dk_21 5 (dk_at dksL_law_45 10 rfl rfl)
theorem dL_law_1256 : decode cL_law 1256 = .ok (.iconst 1, 1) := dk_4 (dk_at dksL_law_45 12 rfl rfl)
theorem dL_law_1257 : decode cL_law 1257 = .ok (.iadd, 1) := dk_96 (dk_at dksL_law_45 13 rfl rfl)
theorem dL_law_1258 : decode cL_law 1258 = .ok (.iaload, 1) := dk_46 (dk_at dksL_law_45 14 rfl rfl)
theorem dL_law_1259 : decode cL_law 1259 = .ok (.aload_n 0, 1) := dk_42 (dk_at dksL_law_45 15 rfl rfl)
theorem dL_law_1260 : decode cL_law 1260 = .ok (.iload 5, 2) := dk_21 5 (dk_at dksL_law_45 16 rfl rfl)
theorem dL_law_1262 : decode cL_law 1262 = .ok (.iconst 2, 1) := dk_5 (dk_at dksL_law_45 18 rfl rfl)
theorem dL_law_1263 : decode cL_law 1263 = .ok (.iadd, 1) := dk_96 (dk_at dksL_law_45 19 rfl rfl)
theorem dL_law_1264 : decode cL_law 1264 = .ok (.iaload, 1) := dk_46 (dk_at dksL_law_45 20 rfl rfl)
theorem dL_law_1265 : decode cL_law 1265 = .ok (.aload_n 3, 1) := dk_45 (dk_at dksL_law_45 21 rfl rfl)
theorem dL_law_1266 : decode cL_law 1266 = .ok (.invokestatic 233, 3) := dk_184 0 233 (dk_at dksL_law_46 0 rfl rfl)
theorem dL_law_1269 : decode cL_law 1269 = .ok (.istore 6, 2) := dk_54 6 (dk_at dksL_law_46 3 rfl rfl)
theorem dL_law_1271 : decode cL_law 1271 = .ok (.aload_n 2, 1) := dk_44 (dk_at dksL_law_46 5 rfl rfl)
theorem dL_law_1272 : decode cL_law 1272 = .ok (.aload_n 0, 1) := dk_42 (dk_at dksL_law_46 6 rfl rfl)
theorem dL_law_1273 : decode cL_law 1273 = .ok (.iload 5, 2) := dk_21 5 (dk_at dksL_law_46 7 rfl rfl)
theorem dL_law_1275 : decode cL_law 1275 = .ok (.iconst 1, 1) := dk_4 (dk_at dksL_law_46 9 rfl rfl)
theorem dL_law_1276 : decode cL_law 1276 = .ok (.iadd, 1) := dk_96 (dk_at dksL_law_46 10 rfl rfl)
theorem dL_law_1277 : decode cL_law 1277 = .ok (.iaload, 1) := dk_46 (dk_at dksL_law_46 11 rfl rfl)
theorem dL_law_1278 : decode cL_law 1278 = .ok (.aload_n 0, 1) := dk_42 (dk_at dksL_law_46 12 rfl rfl)
theorem dL_law_1279 : decode cL_law 1279 = .ok (.iload 5, 2) := dk_21 5 (dk_at dksL_law_46 13 rfl rfl)
theorem dL_law_1281 : decode cL_law 1281 = .ok (.iconst 2, 1) := dk_5 (dk_at dksL_law_46 15 rfl rfl)
theorem dL_law_1282 : decode cL_law 1282 = .ok (.iadd, 1) := dk_96 (dk_at dksL_law_46 16 rfl rfl)
theorem dL_law_1283 : decode cL_law 1283 = .ok (.iaload, 1) := dk_46 (dk_at dksL_law_46 17 rfl rfl)
theorem dL_law_1284 : decode cL_law 1284 = .ok (.invokevirtual 235, 3) := dk_182 0 235 (dk_at dksL_law_46 18 rfl rfl)
theorem dL_law_1287 : decode cL_law 1287 = .ok (.istore 7, 2) := dk_54 7 (dk_at dksL_law_46 21 rfl rfl)
theorem dL_law_1289 : decode cL_law 1289 = .ok (.aload_n 2, 1) := dk_44 (dk_at dksL_law_46 23 rfl rfl)
theorem dL_law_1290 : decode cL_law 1290 = .ok (.invokevirtual 167, 3) := dk_182 0 167 (dk_at dksL_law_47 0 rfl rfl)
theorem dL_law_1293 : decode cL_law 1293 = .ok (.iload 6, 2) := dk_21 6 (dk_at dksL_law_47 3 rfl rfl)
theorem dL_law_1295 : decode cL_law 1295 = .ok (.if_icmp .eq 5, 3) := dk_159 0 5 (dk_at dksL_law_47 5 rfl rfl)
theorem dL_law_1298 : decode cL_law 1298 = .ok (.iconst 0, 1) := dk_3 (dk_at dksL_law_47 8 rfl rfl)
theorem dL_law_1299 : decode cL_law 1299 = .ok (.ireturn, 1) := dk_172 (dk_at dksL_law_47 9 rfl rfl)
theorem dL_law_1300 : decode cL_law 1300 = .ok (.iload 6, 2) := dk_21 6 (dk_at dksL_law_47 10 rfl rfl)
theorem dL_law_1302 : decode cL_law 1302 = .ok (.ifCond .ne 15, 3) := dk_154 0 15 (dk_at dksL_law_47 12 rfl rfl)
theorem dL_law_1305 : decode cL_law 1305 = .ok (.aload_n 3, 1) := dk_45 (dk_at dksL_law_47 15 rfl rfl)
theorem dL_law_1306 : decode cL_law 1306 = .ok (.iconst 0, 1) := dk_3 (dk_at dksL_law_47 16 rfl rfl)
theorem dL_law_1307 : decode cL_law 1307 = .ok (.laload, 1) := dk_47 (dk_at dksL_law_47 17 rfl rfl)
theorem dL_law_1308 : decode cL_law 1308 = .ok (.iload 7, 2) := dk_21 7 (dk_at dksL_law_47 18 rfl rfl)
theorem dL_law_1310 : decode cL_law 1310 = .ok (.i2l, 1) := dk_133 (dk_at dksL_law_47 20 rfl rfl)
theorem dL_law_1311 : decode cL_law 1311 = .ok (.lcmp, 1) := dk_148 (dk_at dksL_law_47 21 rfl rfl)
theorem dL_law_1312 : decode cL_law 1312 = .ok (.ifCond .eq 5, 3) := dk_153 0 5 (dk_at dksL_law_48 0 rfl rfl)
theorem dL_law_1315 : decode cL_law 1315 = .ok (.iconst 0, 1) := dk_3 (dk_at dksL_law_48 3 rfl rfl)
theorem dL_law_1316 : decode cL_law 1316 = .ok (.ireturn, 1) := dk_172 (dk_at dksL_law_48 4 rfl rfl)
theorem dL_law_1317 : decode cL_law 1317 = .ok (.goto 1958, 3) := dk_167 7 166 (dk_at dksL_law_48 5 rfl rfl)
theorem dL_law_1320 : decode cL_law 1320 = .ok (.aload_n 1, 1) := dk_43 (dk_at dksL_law_48 8 rfl rfl)
theorem dL_law_1321 : decode cL_law 1321 = .ok (.aload_n 0, 1) := dk_42 (dk_at dksL_law_48 9 rfl rfl)
theorem dL_law_1322 : decode cL_law 1322 = .ok (.iload 5, 2) := dk_21 5 (dk_at dksL_law_48 10 rfl rfl)
theorem dL_law_1324 : decode cL_law 1324 = .ok (.iconst 1, 1) := dk_4 (dk_at dksL_law_48 12 rfl rfl)
theorem dL_law_1325 : decode cL_law 1325 = .ok (.iadd, 1) := dk_96 (dk_at dksL_law_48 13 rfl rfl)
theorem dL_law_1326 : decode cL_law 1326 = .ok (.iaload, 1) := dk_46 (dk_at dksL_law_48 14 rfl rfl)
theorem dL_law_1327 : decode cL_law 1327 = .ok (.aload_n 0, 1) := dk_42 (dk_at dksL_law_48 15 rfl rfl)
theorem dL_law_1328 : decode cL_law 1328 = .ok (.iload 5, 2) := dk_21 5 (dk_at dksL_law_48 16 rfl rfl)
theorem dL_law_1330 : decode cL_law 1330 = .ok (.iconst 2, 1) := dk_5 (dk_at dksL_law_48 18 rfl rfl)
theorem dL_law_1331 : decode cL_law 1331 = .ok (.iadd, 1) := dk_96 (dk_at dksL_law_48 19 rfl rfl)
theorem dL_law_1332 : decode cL_law 1332 = .ok (.iaload, 1) := dk_46 (dk_at dksL_law_48 20 rfl rfl)
theorem dL_law_1333 : decode cL_law 1333 = .ok (.aload_n 3, 1) := dk_45 (dk_at dksL_law_48 21 rfl rfl)
theorem dL_law_1334 : decode cL_law 1334 = .ok (.invokestatic 236, 3) := dk_184 0 236 (dk_at dksL_law_49 0 rfl rfl)
theorem dL_law_1337 : decode cL_law 1337 = .ok (.istore 6, 2) := dk_54 6 (dk_at dksL_law_49 3 rfl rfl)
theorem dL_law_1339 : decode cL_law 1339 = .ok (.aload_n 2, 1) := dk_44 (dk_at dksL_law_49 5 rfl rfl)
theorem dL_law_1340 : decode cL_law 1340 = .ok (.aload_n 0, 1) := dk_42 (dk_at dksL_law_49 6 rfl rfl)
theorem dL_law_1341 : decode cL_law 1341 = .ok (.iload 5, 2) := dk_21 5 (dk_at dksL_law_49 7 rfl rfl)
theorem dL_law_1343 : decode cL_law 1343 = .ok (.iconst 1, 1) := dk_4 (dk_at dksL_law_49 9 rfl rfl)
theorem dL_law_1344 : decode cL_law 1344 = .ok (.iadd, 1) := dk_96 (dk_at dksL_law_49 10 rfl rfl)
theorem dL_law_1345 : decode cL_law 1345 = .ok (.iaload, 1) := dk_46 (dk_at dksL_law_49 11 rfl rfl)
theorem dL_law_1346 : decode cL_law 1346 = .ok (.aload_n 0, 1) := dk_42 (dk_at dksL_law_49 12 rfl rfl)
theorem dL_law_1347 : decode cL_law 1347 = .ok (.iload 5, 2) := dk_21 5 (dk_at dksL_law_49 13 rfl rfl)
theorem dL_law_1349 : decode cL_law 1349 = .ok (.iconst 2, 1) := dk_5 (dk_at dksL_law_49 15 rfl rfl)
theorem dL_law_1350 : decode cL_law 1350 = .ok (.iadd, 1) := dk_96 (dk_at dksL_law_49 16 rfl rfl)
theorem dL_law_1351 : decode cL_law 1351 = .ok (.iaload, 1) := dk_46 (dk_at dksL_law_49 17 rfl rfl)
theorem dL_law_1352 : decode cL_law 1352 = .ok (.invokevirtual 238, 3) := dk_182 0 238 (dk_at dksL_law_49 18 rfl rfl)
theorem dL_law_1355 : decode cL_law 1355 = .ok (.istore 7, 2) := dk_54 7 (dk_at dksL_law_49 21 rfl rfl)
theorem dL_law_1357 : decode cL_law 1357 = .ok (.aload_n 2, 1) := dk_44 (dk_at dksL_law_49 23 rfl rfl)
theorem dL_law_1358 : decode cL_law 1358 = .ok (.invokevirtual 167, 3) := dk_182 0 167 (dk_at dksL_law_50 0 rfl rfl)
theorem dL_law_1361 : decode cL_law 1361 = .ok (.iload 6, 2) := dk_21 6 (dk_at dksL_law_50 3 rfl rfl)
theorem dL_law_1363 : decode cL_law 1363 = .ok (.if_icmp .eq 5, 3) := dk_159 0 5 (dk_at dksL_law_50 5 rfl rfl)
theorem dL_law_1366 : decode cL_law 1366 = .ok (.iconst 0, 1) := dk_3 (dk_at dksL_law_50 8 rfl rfl)
theorem dL_law_1367 : decode cL_law 1367 = .ok (.ireturn, 1) := dk_172 (dk_at dksL_law_50 9 rfl rfl)
theorem dL_law_1368 : decode cL_law 1368 = .ok (.iload 6, 2) := dk_21 6 (dk_at dksL_law_50 10 rfl rfl)
theorem dL_law_1370 : decode cL_law 1370 = .ok (.ifCond .ne 15, 3) := dk_154 0 15 (dk_at dksL_law_50 12 rfl rfl)
theorem dL_law_1373 : decode cL_law 1373 = .ok (.aload_n 3, 1) := dk_45 (dk_at dksL_law_50 15 rfl rfl)
theorem dL_law_1374 : decode cL_law 1374 = .ok (.iconst 0, 1) := dk_3 (dk_at dksL_law_50 16 rfl rfl)
theorem dL_law_1375 : decode cL_law 1375 = .ok (.laload, 1) := dk_47 (dk_at dksL_law_50 17 rfl rfl)
theorem dL_law_1376 : decode cL_law 1376 = .ok (.iload 7, 2) := dk_21 7 (dk_at dksL_law_50 18 rfl rfl)
theorem dL_law_1378 : decode cL_law 1378 = .ok (.i2l, 1) := dk_133 (dk_at dksL_law_50 20 rfl rfl)
theorem dL_law_1379 : decode cL_law 1379 = .ok (.lcmp, 1) := dk_148 (dk_at dksL_law_50 21 rfl rfl)
theorem dL_law_1380 : decode cL_law 1380 = .ok (.ifCond .eq 5, 3) := dk_153 0 5 (dk_at dksL_law_51 0 rfl rfl)
theorem dL_law_1383 : decode cL_law 1383 = .ok (.iconst 0, 1) := dk_3 (dk_at dksL_law_51 3 rfl rfl)
theorem dL_law_1384 : decode cL_law 1384 = .ok (.ireturn, 1) := dk_172 (dk_at dksL_law_51 4 rfl rfl)
theorem dL_law_1385 : decode cL_law 1385 = .ok (.goto 1890, 3) := dk_167 7 98 (dk_at dksL_law_51 5 rfl rfl)
theorem dL_law_1388 : decode cL_law 1388 = .ok (.aload_n 1, 1) := dk_43 (dk_at dksL_law_51 8 rfl rfl)
theorem dL_law_1389 : decode cL_law 1389 = .ok (.invokevirtual 239, 3) := dk_182 0 239 (dk_at dksL_law_51 9 rfl rfl)
theorem dL_law_1392 : decode cL_law 1392 = .ok (.aload_n 2, 1) := dk_44 (dk_at dksL_law_51 12 rfl rfl)
theorem dL_law_1393 : decode cL_law 1393 = .ok (.invokevirtual 242, 3) := dk_182 0 242 (dk_at dksL_law_51 13 rfl rfl)
theorem dL_law_1396 : decode cL_law 1396 = .ok (.if_icmp .eq 1879, 3) := dk_159 7 87 (dk_at dksL_law_51 16 rfl rfl)
theorem dL_law_1399 : decode cL_law 1399 = .ok (.iconst 0, 1) := dk_3 (dk_at dksL_law_51 19 rfl rfl)
theorem dL_law_1400 : decode cL_law 1400 = .ok (.ireturn, 1) := dk_172 (dk_at dksL_law_51 20 rfl rfl)
theorem dL_law_1401 : decode cL_law 1401 = .ok (.aload_n 1, 1) := dk_43 (dk_at dksL_law_51 21 rfl rfl)
theorem dL_law_1402 : decode cL_law 1402 = .ok (.aload_n 0, 1) := dk_42 (dk_at dksL_law_51 22 rfl rfl)
theorem dL_law_1403 : decode cL_law 1403 = .ok (.iload 5, 2) := dk_21 5 (dk_at dksL_law_52 0 rfl rfl)
theorem dL_law_1405 : decode cL_law 1405 = .ok (.iconst 1, 1) := dk_4 (dk_at dksL_law_52 2 rfl rfl)
theorem dL_law_1406 : decode cL_law 1406 = .ok (.iadd, 1) := dk_96 (dk_at dksL_law_52 3 rfl rfl)
theorem dL_law_1407 : decode cL_law 1407 = .ok (.iaload, 1) := dk_46 (dk_at dksL_law_52 4 rfl rfl)
theorem dL_law_1408 : decode cL_law 1408 = .ok (.aload 4, 2) := dk_25 4 (dk_at dksL_law_52 5 rfl rfl)
theorem dL_law_1410 : decode cL_law 1410 = .ok (.invokestatic 243, 3) := dk_184 0 243 (dk_at dksL_law_52 7 rfl rfl)
theorem dL_law_1413 : decode cL_law 1413 = .ok (.istore 6, 2) := dk_54 6 (dk_at dksL_law_52 10 rfl rfl)
theorem dL_law_1415 : decode cL_law 1415 = .ok (.aload_n 2, 1) := dk_44 (dk_at dksL_law_52 12 rfl rfl)
theorem dL_law_1416 : decode cL_law 1416 = .ok (.aload_n 0, 1) := dk_42 (dk_at dksL_law_52 13 rfl rfl)
theorem dL_law_1417 : decode cL_law 1417 = .ok (.iload 5, 2) := dk_21 5 (dk_at dksL_law_52 14 rfl rfl)
theorem dL_law_1419 : decode cL_law 1419 = .ok (.iconst 1, 1) := dk_4 (dk_at dksL_law_52 16 rfl rfl)
theorem dL_law_1420 : decode cL_law 1420 = .ok (.iadd, 1) := dk_96 (dk_at dksL_law_52 17 rfl rfl)
theorem dL_law_1421 : decode cL_law 1421 = .ok (.iaload, 1) := dk_46 (dk_at dksL_law_52 18 rfl rfl)
theorem dL_law_1422 : decode cL_law 1422 = .ok (.invokevirtual 246, 3) := dk_182 0 246 (dk_at dksL_law_52 19 rfl rfl)
theorem dL_law_1425 : decode cL_law 1425 = .ok (.fstore 7, 2) := dk_56 7 (dk_at dksL_law_52 22 rfl rfl)
theorem dL_law_1427 : decode cL_law 1427 = .ok (.aload_n 2, 1) := dk_44 (dk_at dksL_law_53 0 rfl rfl)
theorem dL_law_1428 : decode cL_law 1428 = .ok (.invokevirtual 167, 3) := dk_182 0 167 (dk_at dksL_law_53 1 rfl rfl)
theorem dL_law_1431 : decode cL_law 1431 = .ok (.iload 6, 2) := dk_21 6 (dk_at dksL_law_53 4 rfl rfl)
theorem dL_law_1433 : decode cL_law 1433 = .ok (.if_icmp .eq 5, 3) := dk_159 0 5 (dk_at dksL_law_53 6 rfl rfl)
theorem dL_law_1436 : decode cL_law 1436 = .ok (.iconst 0, 1) := dk_3 (dk_at dksL_law_53 9 rfl rfl)
theorem dL_law_1437 : decode cL_law 1437 = .ok (.ireturn, 1) := dk_172 (dk_at dksL_law_53 10 rfl rfl)
theorem dL_law_1438 : decode cL_law 1438 = .ok (.iload 6, 2) := dk_21 6 (dk_at dksL_law_53 11 rfl rfl)
theorem dL_law_1440 : decode cL_law 1440 = .ok (.ifCond .ne 36, 3) := dk_154 0 36 (dk_at dksL_law_53 13 rfl rfl)
theorem dL_law_1443 : decode cL_law 1443 = .ok (.aload 4, 2) := dk_25 4 (dk_at dksL_law_53 16 rfl rfl)
theorem dL_law_1445 : decode cL_law 1445 = .ok (.iconst 0, 1) := dk_3 (dk_at dksL_law_53 18 rfl rfl)
theorem dL_law_1446 : decode cL_law 1446 = .ok (.daload, 1) := dk_49 (dk_at dksL_law_53 19 rfl rfl)
theorem dL_law_1447 : decode cL_law 1447 = .ok (.fload 7, 2) := dk_23 7 (dk_at dksL_law_53 20 rfl rfl)
theorem dL_law_1449 : decode cL_law 1449 = .ok (.f2d, 1) := dk_141 (dk_at dksL_law_53 22 rfl rfl)
theorem dL_law_1450 : decode cL_law 1450 = .ok (.dcmp .l, 1) := dk_151 (dk_at dksL_law_53 23 rfl rfl)
theorem dL_law_1451 : decode cL_law 1451 = .ok (.ifCond .eq 25, 3) := dk_153 0 25 (dk_at dksL_law_54 0 rfl rfl)
theorem dL_law_1454 : decode cL_law 1454 = .ok (.aload 4, 2) := dk_25 4 (dk_at dksL_law_54 3 rfl rfl)
theorem dL_law_1456 : decode cL_law 1456 = .ok (.iconst 0, 1) := dk_3 (dk_at dksL_law_54 5 rfl rfl)
theorem dL_law_1457 : decode cL_law 1457 = .ok (.daload, 1) := dk_49 (dk_at dksL_law_54 6 rfl rfl)
theorem dL_law_1458 : decode cL_law 1458 = .ok (.aload 4, 2) := dk_25 4 (dk_at dksL_law_54 7 rfl rfl)
theorem dL_law_1460 : decode cL_law 1460 = .ok (.iconst 0, 1) := dk_3 (dk_at dksL_law_54 9 rfl rfl)
theorem dL_law_1461 : decode cL_law 1461 = .ok (.daload, 1) := dk_49 (dk_at dksL_law_54 10 rfl rfl)
theorem dL_law_1462 : decode cL_law 1462 = .ok (.dcmp .l, 1) := dk_151 (dk_at dksL_law_54 11 rfl rfl)
theorem dL_law_1463 : decode cL_law 1463 = .ok (.ifCond .eq 11, 3) := dk_153 0 11 (dk_at dksL_law_54 12 rfl rfl)
theorem dL_law_1466 : decode cL_law 1466 = .ok (.fload 7, 2) := dk_23 7 (dk_at dksL_law_54 15 rfl rfl)
theorem dL_law_1468 : decode cL_law 1468 = .ok (.fload 7, 2) := dk_23 7 (dk_at dksL_law_54 17 rfl rfl)
theorem dL_law_1470 : decode cL_law 1470 = .ok (.fcmp .l, 1) := dk_149 (dk_at dksL_law_54 19 rfl rfl)
theorem dL_law_1471 : decode cL_law 1471 = .ok (.ifCond .ne 5, 3) := dk_154 0 5 (dk_at dksL_law_54 20 rfl rfl)
theorem dL_law_1474 : decode cL_law 1474 = .ok (.iconst 0, 1) := dk_3 (dk_at dksL_law_54 23 rfl rfl)
theorem dL_law_1475 : decode cL_law 1475 = .ok (.ireturn, 1) := dk_172 (dk_at dksL_law_55 0 rfl rfl)
theorem dL_law_1476 : decode cL_law 1476 = .ok (.goto 1799, 3) := dk_167 7 7 (dk_at dksL_law_55 1 rfl rfl)
theorem dL_law_1479 : decode cL_law 1479 = .ok (.aload_n 1, 1) := dk_43 (dk_at dksL_law_55 4 rfl rfl)
theorem dL_law_1480 : decode cL_law 1480 = .ok (.aload_n 0, 1) := dk_42 (dk_at dksL_law_55 5 rfl rfl)
theorem dL_law_1481 : decode cL_law 1481 = .ok (.iload 5, 2) := dk_21 5 (dk_at dksL_law_55 6 rfl rfl)
theorem dL_law_1483 : decode cL_law 1483 = .ok (.iconst 1, 1) := dk_4 (dk_at dksL_law_55 8 rfl rfl)
theorem dL_law_1484 : decode cL_law 1484 = .ok (.iadd, 1) := dk_96 (dk_at dksL_law_55 9 rfl rfl)
theorem dL_law_1485 : decode cL_law 1485 = .ok (.iaload, 1) := dk_46 (dk_at dksL_law_55 10 rfl rfl)
theorem dL_law_1486 : decode cL_law 1486 = .ok (.aload 4, 2) := dk_25 4 (dk_at dksL_law_55 11 rfl rfl)
theorem dL_law_1488 : decode cL_law 1488 = .ok (.invokestatic 247, 3) := dk_184 0 247 (dk_at dksL_law_55 13 rfl rfl)
theorem dL_law_1491 : decode cL_law 1491 = .ok (.istore 6, 2) := dk_54 6 (dk_at dksL_law_55 16 rfl rfl)
theorem dL_law_1493 : decode cL_law 1493 = .ok (.aload_n 2, 1) := dk_44 (dk_at dksL_law_55 18 rfl rfl)
theorem dL_law_1494 : decode cL_law 1494 = .ok (.aload_n 0, 1) := dk_42 (dk_at dksL_law_55 19 rfl rfl)
theorem dL_law_1495 : decode cL_law 1495 = .ok (.iload 5, 2) := dk_21 5 (dk_at dksL_law_55 20 rfl rfl)
theorem dL_law_1497 : decode cL_law 1497 = .ok (.iconst 1, 1) := dk_4 (dk_at dksL_law_55 22 rfl rfl)
theorem dL_law_1498 : decode cL_law 1498 = .ok (.iadd, 1) := dk_96 (dk_at dksL_law_55 23 rfl rfl)
theorem dL_law_1499 : decode cL_law 1499 = .ok (.iaload, 1) := dk_46 (dk_at dksL_law_56 0 rfl rfl)
theorem dL_law_1500 : decode cL_law 1500 = .ok (.invokevirtual 249, 3) := dk_182 0 249 (dk_at dksL_law_56 1 rfl rfl)
theorem dL_law_1503 : decode cL_law 1503 = .ok (.dstore 7, 2) := dk_57 7 (dk_at dksL_law_56 4 rfl rfl)
theorem dL_law_1505 : decode cL_law 1505 = .ok (.aload_n 2, 1) := dk_44 (dk_at dksL_law_56 6 rfl rfl)
theorem dL_law_1506 : decode cL_law 1506 = .ok (.invokevirtual 167, 3) := dk_182 0 167 (dk_at dksL_law_56 7 rfl rfl)
theorem dL_law_1509 : decode cL_law 1509 = .ok (.iload 6, 2) := dk_21 6 (dk_at dksL_law_56 10 rfl rfl)
theorem dL_law_1511 : decode cL_law 1511 = .ok (.if_icmp .eq 5, 3) := dk_159 0 5 (dk_at dksL_law_56 12 rfl rfl)
theorem dL_law_1514 : decode cL_law 1514 = .ok (.iconst 0, 1) := dk_3 (dk_at dksL_law_56 15 rfl rfl)
theorem dL_law_1515 : decode cL_law 1515 = .ok (.ireturn, 1) := dk_172 (dk_at dksL_law_56 16 rfl rfl)
theorem dL_law_1516 : decode cL_law 1516 = .ok (.iload 6, 2) := dk_21 6 (dk_at dksL_law_56 17 rfl rfl)
theorem dL_law_1518 : decode cL_law 1518 = .ok (.ifCond .ne 35, 3) := dk_154 0 35 (dk_at dksL_law_56 19 rfl rfl)
theorem dL_law_1521 : decode cL_law 1521 = .ok (.aload 4, 2) := dk_25 4 (dk_at dksL_law_56 22 rfl rfl)
theorem dL_law_1523 : decode cL_law 1523 = .ok (.iconst 0, 1) := dk_3 (dk_at dksL_law_57 0 rfl rfl)
theorem dL_law_1524 : decode cL_law 1524 = .ok (.daload, 1) := dk_49 (dk_at dksL_law_57 1 rfl rfl)
theorem dL_law_1525 : decode cL_law 1525 = .ok (.dload 7, 2) := dk_24 7 (dk_at dksL_law_57 2 rfl rfl)
theorem dL_law_1527 : decode cL_law 1527 = .ok (.dcmp .l, 1) := dk_151 (dk_at dksL_law_57 4 rfl rfl)
theorem dL_law_1528 : decode cL_law 1528 = .ok (.ifCond .eq 25, 3) := dk_153 0 25 (dk_at dksL_law_57 5 rfl rfl)
theorem dL_law_1531 : decode cL_law 1531 = .ok (.aload 4, 2) := dk_25 4 (dk_at dksL_law_57 8 rfl rfl)
theorem dL_law_1533 : decode cL_law 1533 = .ok (.iconst 0, 1) := dk_3 (dk_at dksL_law_57 10 rfl rfl)
theorem dL_law_1534 : decode cL_law 1534 = .ok (.daload, 1) := dk_49 (dk_at dksL_law_57 11 rfl rfl)
theorem dL_law_1535 : decode cL_law 1535 = .ok (.aload 4, 2) := dk_25 4 (dk_at dksL_law_57 12 rfl rfl)
theorem dL_law_1537 : decode cL_law 1537 = .ok (.iconst 0, 1) := dk_3 (dk_at dksL_law_57 14 rfl rfl)
theorem dL_law_1538 : decode cL_law 1538 = .ok (.daload, 1) := dk_49 (dk_at dksL_law_57 15 rfl rfl)
theorem dL_law_1539 : decode cL_law 1539 = .ok (.dcmp .l, 1) := dk_151 (dk_at dksL_law_57 16 rfl rfl)
theorem dL_law_1540 : decode cL_law 1540 = .ok (.ifCond .eq 11, 3) := dk_153 0 11 (dk_at dksL_law_57 17 rfl rfl)
theorem dL_law_1543 : decode cL_law 1543 = .ok (.dload 7, 2) := dk_24 7 (dk_at dksL_law_57 20 rfl rfl)
theorem dL_law_1545 : decode cL_law 1545 = .ok (.dload 7, 2) := dk_24 7 (dk_at dksL_law_57 22 rfl rfl)
theorem dL_law_1547 : decode cL_law 1547 = .ok (.dcmp .l, 1) := dk_151 (dk_at dksL_law_58 0 rfl rfl)
theorem dL_law_1548 : decode cL_law 1548 = .ok (.ifCond .ne 5, 3) := dk_154 0 5 (dk_at dksL_law_58 1 rfl rfl)
theorem dL_law_1551 : decode cL_law 1551 = .ok (.iconst 0, 1) := dk_3 (dk_at dksL_law_58 4 rfl rfl)
theorem dL_law_1552 : decode cL_law 1552 = .ok (.ireturn, 1) := dk_172 (dk_at dksL_law_58 5 rfl rfl)
theorem dL_law_1553 : decode cL_law 1553 = .ok (.goto 1722, 3) := dk_167 6 186 (dk_at dksL_law_58 6 rfl rfl)
theorem dL_law_1556 : decode cL_law 1556 = .ok (.aload_n 1, 1) := dk_43 (dk_at dksL_law_58 9 rfl rfl)
theorem dL_law_1557 : decode cL_law 1557 = .ok (.aload_n 0, 1) := dk_42 (dk_at dksL_law_58 10 rfl rfl)
theorem dL_law_1558 : decode cL_law 1558 = .ok (.iload 5, 2) := dk_21 5 (dk_at dksL_law_58 11 rfl rfl)
theorem dL_law_1560 : decode cL_law 1560 = .ok (.iconst 1, 1) := dk_4 (dk_at dksL_law_58 13 rfl rfl)
theorem dL_law_1561 : decode cL_law 1561 = .ok (.iadd, 1) := dk_96 (dk_at dksL_law_58 14 rfl rfl)
theorem dL_law_1562 : decode cL_law 1562 = .ok (.iaload, 1) := dk_46 (dk_at dksL_law_58 15 rfl rfl)
theorem dL_law_1563 : decode cL_law 1563 = .ok (.aload_n 0, 1) := dk_42 (dk_at dksL_law_58 16 rfl rfl)
theorem dL_law_1564 : decode cL_law 1564 = .ok (.iload 5, 2) := dk_21 5 (dk_at dksL_law_58 17 rfl rfl)
theorem dL_law_1566 : decode cL_law 1566 = .ok (.iconst 2, 1) := dk_5 (dk_at dksL_law_58 19 rfl rfl)
theorem dL_law_1567 : decode cL_law 1567 = .ok (.iadd, 1) := dk_96 (dk_at dksL_law_58 20 rfl rfl)
theorem dL_law_1568 : decode cL_law 1568 = .ok (.iaload, 1) := dk_46 (dk_at dksL_law_58 21 rfl rfl)
theorem dL_law_1569 : decode cL_law 1569 = .ok (.aload_n 3, 1) := dk_45 (dk_at dksL_law_58 22 rfl rfl)
theorem dL_law_1570 : decode cL_law 1570 = .ok (.invokestatic 250, 3) := dk_184 0 250 (dk_at dksL_law_59 0 rfl rfl)
theorem dL_law_1573 : decode cL_law 1573 = .ok (.istore 6, 2) := dk_54 6 (dk_at dksL_law_59 3 rfl rfl)
theorem dL_law_1575 : decode cL_law 1575 = .ok (.aload_n 2, 1) := dk_44 (dk_at dksL_law_59 5 rfl rfl)
theorem dL_law_1576 : decode cL_law 1576 = .ok (.aload_n 0, 1) := dk_42 (dk_at dksL_law_59 6 rfl rfl)
theorem dL_law_1577 : decode cL_law 1577 = .ok (.iload 5, 2) := dk_21 5 (dk_at dksL_law_59 7 rfl rfl)
theorem dL_law_1579 : decode cL_law 1579 = .ok (.iconst 1, 1) := dk_4 (dk_at dksL_law_59 9 rfl rfl)
theorem dL_law_1580 : decode cL_law 1580 = .ok (.iadd, 1) := dk_96 (dk_at dksL_law_59 10 rfl rfl)
theorem dL_law_1581 : decode cL_law 1581 = .ok (.iaload, 1) := dk_46 (dk_at dksL_law_59 11 rfl rfl)
theorem dL_law_1582 : decode cL_law 1582 = .ok (.aload_n 0, 1) := dk_42 (dk_at dksL_law_59 12 rfl rfl)
theorem dL_law_1583 : decode cL_law 1583 = .ok (.iload 5, 2) := dk_21 5 (dk_at dksL_law_59 13 rfl rfl)
theorem dL_law_1585 : decode cL_law 1585 = .ok (.iconst 2, 1) := dk_5 (dk_at dksL_law_59 15 rfl rfl)
theorem dL_law_1586 : decode cL_law 1586 = .ok (.iadd, 1) := dk_96 (dk_at dksL_law_59 16 rfl rfl)
theorem dL_law_1587 : decode cL_law 1587 = .ok (.iaload, 1) := dk_46 (dk_at dksL_law_59 17 rfl rfl)
theorem dL_law_1588 : decode cL_law 1588 = .ok (.invokevirtual 252, 3) := dk_182 0 252 (dk_at dksL_law_59 18 rfl rfl)
theorem dL_law_1591 : decode cL_law 1591 = .ok (.istore 7, 2) := dk_54 7 (dk_at dksL_law_59 21 rfl rfl)
theorem dL_law_1593 : decode cL_law 1593 = .ok (.aload_n 2, 1) := dk_44 (dk_at dksL_law_59 23 rfl rfl)
theorem dL_law_1594 : decode cL_law 1594 = .ok (.invokevirtual 167, 3) := dk_182 0 167 (dk_at dksL_law_60 0 rfl rfl)
theorem dL_law_1597 : decode cL_law 1597 = .ok (.iload 6, 2) := dk_21 6 (dk_at dksL_law_60 3 rfl rfl)
theorem dL_law_1599 : decode cL_law 1599 = .ok (.if_icmp .eq 5, 3) := dk_159 0 5 (dk_at dksL_law_60 5 rfl rfl)
theorem dL_law_1602 : decode cL_law 1602 = .ok (.iconst 0, 1) := dk_3 (dk_at dksL_law_60 8 rfl rfl)
theorem dL_law_1603 : decode cL_law 1603 = .ok (.ireturn, 1) := dk_172 (dk_at dksL_law_60 9 rfl rfl)
theorem dL_law_1604 : decode cL_law 1604 = .ok (.iload 6, 2) := dk_21 6 (dk_at dksL_law_60 10 rfl rfl)
theorem dL_law_1606 : decode cL_law 1606 = .ok (.ifCond .ne 15, 3) := dk_154 0 15 (dk_at dksL_law_60 12 rfl rfl)
theorem dL_law_1609 : decode cL_law 1609 = .ok (.aload_n 3, 1) := dk_45 (dk_at dksL_law_60 15 rfl rfl)
theorem dL_law_1610 : decode cL_law 1610 = .ok (.iconst 0, 1) := dk_3 (dk_at dksL_law_60 16 rfl rfl)
theorem dL_law_1611 : decode cL_law 1611 = .ok (.laload, 1) := dk_47 (dk_at dksL_law_60 17 rfl rfl)
theorem dL_law_1612 : decode cL_law 1612 = .ok (.iload 7, 2) := dk_21 7 (dk_at dksL_law_60 18 rfl rfl)
theorem dL_law_1614 : decode cL_law 1614 = .ok (.i2l, 1) := dk_133 (dk_at dksL_law_60 20 rfl rfl)
theorem dL_law_1615 : decode cL_law 1615 = .ok (.lcmp, 1) := dk_148 (dk_at dksL_law_60 21 rfl rfl)
theorem dL_law_1616 : decode cL_law 1616 = .ok (.ifCond .eq 5, 3) := dk_153 0 5 (dk_at dksL_law_61 0 rfl rfl)
theorem dL_law_1619 : decode cL_law 1619 = .ok (.iconst 0, 1) := dk_3 (dk_at dksL_law_61 3 rfl rfl)
theorem dL_law_1620 : decode cL_law 1620 = .ok (.ireturn, 1) := dk_172 (dk_at dksL_law_61 4 rfl rfl)
theorem dL_law_1621 : decode cL_law 1621 = .ok (.goto 1654, 3) := dk_167 6 118 (dk_at dksL_law_61 5 rfl rfl)
theorem dL_law_1624 : decode cL_law 1624 = .ok (.aload_n 1, 1) := dk_43 (dk_at dksL_law_61 8 rfl rfl)
theorem dL_law_1625 : decode cL_law 1625 = .ok (.aload_n 0, 1) := dk_42 (dk_at dksL_law_61 9 rfl rfl)
theorem dL_law_1626 : decode cL_law 1626 = .ok (.iload 5, 2) := dk_21 5 (dk_at dksL_law_61 10 rfl rfl)
theorem dL_law_1628 : decode cL_law 1628 = .ok (.iconst 1, 1) := dk_4 (dk_at dksL_law_61 12 rfl rfl)
theorem dL_law_1629 : decode cL_law 1629 = .ok (.iadd, 1) := dk_96 (dk_at dksL_law_61 13 rfl rfl)
theorem dL_law_1630 : decode cL_law 1630 = .ok (.iaload, 1) := dk_46 (dk_at dksL_law_61 14 rfl rfl)
theorem dL_law_1631 : decode cL_law 1631 = .ok (.aload_n 0, 1) := dk_42 (dk_at dksL_law_61 15 rfl rfl)
theorem dL_law_1632 : decode cL_law 1632 = .ok (.iload 5, 2) := dk_21 5 (dk_at dksL_law_61 16 rfl rfl)
theorem dL_law_1634 : decode cL_law 1634 = .ok (.iconst 2, 1) := dk_5 (dk_at dksL_law_61 18 rfl rfl)
theorem dL_law_1635 : decode cL_law 1635 = .ok (.iadd, 1) := dk_96 (dk_at dksL_law_61 19 rfl rfl)
theorem dL_law_1636 : decode cL_law 1636 = .ok (.iaload, 1) := dk_46 (dk_at dksL_law_61 20 rfl rfl)
theorem dL_law_1637 : decode cL_law 1637 = .ok (.aload_n 3, 1) := dk_45 (dk_at dksL_law_61 21 rfl rfl)
theorem dL_law_1638 : decode cL_law 1638 = .ok (.invokestatic 253, 3) := dk_184 0 253 (dk_at dksL_law_62 0 rfl rfl)
theorem dL_law_1641 : decode cL_law 1641 = .ok (.istore 6, 2) := dk_54 6 (dk_at dksL_law_62 3 rfl rfl)
theorem dL_law_1643 : decode cL_law 1643 = .ok (.aload_n 2, 1) := dk_44 (dk_at dksL_law_62 5 rfl rfl)
theorem dL_law_1644 : decode cL_law 1644 = .ok (.aload_n 0, 1) := dk_42 (dk_at dksL_law_62 6 rfl rfl)
theorem dL_law_1645 : decode cL_law 1645 = .ok (.iload 5, 2) := dk_21 5 (dk_at dksL_law_62 7 rfl rfl)
theorem dL_law_1647 : decode cL_law 1647 = .ok (.iconst 1, 1) := dk_4 (dk_at dksL_law_62 9 rfl rfl)
theorem dL_law_1648 : decode cL_law 1648 = .ok (.iadd, 1) := dk_96 (dk_at dksL_law_62 10 rfl rfl)
theorem dL_law_1649 : decode cL_law 1649 = .ok (.iaload, 1) := dk_46 (dk_at dksL_law_62 11 rfl rfl)
theorem dL_law_1650 : decode cL_law 1650 = .ok (.aload_n 0, 1) := dk_42 (dk_at dksL_law_62 12 rfl rfl)
theorem dL_law_1651 : decode cL_law 1651 = .ok (.iload 5, 2) := dk_21 5 (dk_at dksL_law_62 13 rfl rfl)
theorem dL_law_1653 : decode cL_law 1653 = .ok (.iconst 2, 1) := dk_5 (dk_at dksL_law_62 15 rfl rfl)
theorem dL_law_1654 : decode cL_law 1654 = .ok (.iadd, 1) := dk_96 (dk_at dksL_law_62 16 rfl rfl)
theorem dL_law_1655 : decode cL_law 1655 = .ok (.iaload, 1) := dk_46 (dk_at dksL_law_62 17 rfl rfl)
theorem dL_law_1656 : decode cL_law 1656 = .ok (.invokevirtual 255, 3) := dk_182 0 255 (dk_at dksL_law_62 18 rfl rfl)
theorem dL_law_1659 : decode cL_law 1659 = .ok (.istore 7, 2) := dk_54 7 (dk_at dksL_law_62 21 rfl rfl)
theorem dL_law_1661 : decode cL_law 1661 = .ok (.aload_n 2, 1) := dk_44 (dk_at dksL_law_62 23 rfl rfl)
theorem dL_law_1662 : decode cL_law 1662 = .ok (.invokevirtual 167, 3) := dk_182 0 167 (dk_at dksL_law_63 0 rfl rfl)
theorem dL_law_1665 : decode cL_law 1665 = .ok (.iload 6, 2) := dk_21 6 (dk_at dksL_law_63 3 rfl rfl)
theorem dL_law_1667 : decode cL_law 1667 = .ok (.if_icmp .eq 5, 3) := dk_159 0 5 (dk_at dksL_law_63 5 rfl rfl)
theorem dL_law_1670 : decode cL_law 1670 = .ok (.iconst 0, 1) := dk_3 (dk_at dksL_law_63 8 rfl rfl)
theorem dL_law_1671 : decode cL_law 1671 = .ok (.ireturn, 1) := dk_172 (dk_at dksL_law_63 9 rfl rfl)
theorem dL_law_1672 : decode cL_law 1672 = .ok (.iload 6, 2) := dk_21 6 (dk_at dksL_law_63 10 rfl rfl)
theorem dL_law_1674 : decode cL_law 1674 = .ok (.ifCond .ne 15, 3) := dk_154 0 15 (dk_at dksL_law_63 12 rfl rfl)
theorem dL_law_1677 : decode cL_law 1677 = .ok (.aload_n 3, 1) := dk_45 (dk_at dksL_law_63 15 rfl rfl)
theorem dL_law_1678 : decode cL_law 1678 = .ok (.iconst 0, 1) := dk_3 (dk_at dksL_law_63 16 rfl rfl)
theorem dL_law_1679 : decode cL_law 1679 = .ok (.laload, 1) := dk_47 (dk_at dksL_law_63 17 rfl rfl)
theorem dL_law_1680 : decode cL_law 1680 = .ok (.iload 7, 2) := dk_21 7 (dk_at dksL_law_63 18 rfl rfl)
theorem dL_law_1682 : decode cL_law 1682 = .ok (.i2l, 1) := dk_133 (dk_at dksL_law_63 20 rfl rfl)
theorem dL_law_1683 : decode cL_law 1683 = .ok (.lcmp, 1) := dk_148 (dk_at dksL_law_63 21 rfl rfl)
theorem dL_law_1684 : decode cL_law 1684 = .ok (.ifCond .eq 5, 3) := dk_153 0 5 (dk_at dksL_law_64 0 rfl rfl)
theorem dL_law_1687 : decode cL_law 1687 = .ok (.iconst 0, 1) := dk_3 (dk_at dksL_law_64 3 rfl rfl)
theorem dL_law_1688 : decode cL_law 1688 = .ok (.ireturn, 1) := dk_172 (dk_at dksL_law_64 4 rfl rfl)
theorem dL_law_1689 : decode cL_law 1689 = .ok (.goto 1586, 3) := dk_167 6 50 (dk_at dksL_law_64 5 rfl rfl)
theorem dL_law_1692 : decode cL_law 1692 = .ok (.aload_n 1, 1) := dk_43 (dk_at dksL_law_64 8 rfl rfl)
theorem dL_law_1693 : decode cL_law 1693 = .ok (.aload_n 0, 1) := dk_42 (dk_at dksL_law_64 9 rfl rfl)
theorem dL_law_1694 : decode cL_law 1694 = .ok (.iload 5, 2) := dk_21 5 (dk_at dksL_law_64 10 rfl rfl)
theorem dL_law_1696 : decode cL_law 1696 = .ok (.iconst 1, 1) := dk_4 (dk_at dksL_law_64 12 rfl rfl)
theorem dL_law_1697 : decode cL_law 1697 = .ok (.iadd, 1) := dk_96 (dk_at dksL_law_64 13 rfl rfl)
theorem dL_law_1698 : decode cL_law 1698 = .ok (.iaload, 1) := dk_46 (dk_at dksL_law_64 14 rfl rfl)
theorem dL_law_1699 : decode cL_law 1699 = .ok (.aload_n 3, 1) := dk_45 (dk_at dksL_law_64 15 rfl rfl)
theorem dL_law_1700 : decode cL_law 1700 = .ok (.invokestatic 256, 3) := dk_184 1 0 (dk_at dksL_law_64 16 rfl rfl)
theorem dL_law_1703 : decode cL_law 1703 = .ok (.istore 6, 2) := dk_54 6 (dk_at dksL_law_64 19 rfl rfl)
theorem dL_law_1705 : decode cL_law 1705 = .ok (.aload_n 2, 1) := dk_44 (dk_at dksL_law_64 21 rfl rfl)
theorem dL_law_1706 : decode cL_law 1706 = .ok (.aload_n 0, 1) := dk_42 (dk_at dksL_law_64 22 rfl rfl)
theorem dL_law_1707 : decode cL_law 1707 = .ok (.iload 5, 2) := dk_21 5 (dk_at dksL_law_65 0 rfl rfl)
theorem dL_law_1709 : decode cL_law 1709 = .ok (.iconst 1, 1) := dk_4 (dk_at dksL_law_65 2 rfl rfl)
theorem dL_law_1710 : decode cL_law 1710 = .ok (.iadd, 1) := dk_96 (dk_at dksL_law_65 3 rfl rfl)
theorem dL_law_1711 : decode cL_law 1711 = .ok (.iaload, 1) := dk_46 (dk_at dksL_law_65 4 rfl rfl)
theorem dL_law_1712 : decode cL_law 1712 = .ok (.invokevirtual 258, 3) := dk_182 1 2 (dk_at dksL_law_65 5 rfl rfl)
theorem dL_law_1715 : decode cL_law 1715 = .ok (.istore 7, 2) := dk_54 7 (dk_at dksL_law_65 8 rfl rfl)
theorem dL_law_1717 : decode cL_law 1717 = .ok (.aload_n 2, 1) := dk_44 (dk_at dksL_law_65 10 rfl rfl)
theorem dL_law_1718 : decode cL_law 1718 = .ok (.invokevirtual 167, 3) := dk_182 0 167 (dk_at dksL_law_65 11 rfl rfl)
theorem dL_law_1721 : decode cL_law 1721 = .ok (.iload 6, 2) := dk_21 6 (dk_at dksL_law_65 14 rfl rfl)
theorem dL_law_1723 : decode cL_law 1723 = .ok (.if_icmp .eq 5, 3) := dk_159 0 5 (dk_at dksL_law_65 16 rfl rfl)
theorem dL_law_1726 : decode cL_law 1726 = .ok (.iconst 0, 1) := dk_3 (dk_at dksL_law_65 19 rfl rfl)
theorem dL_law_1727 : decode cL_law 1727 = .ok (.ireturn, 1) := dk_172 (dk_at dksL_law_65 20 rfl rfl)
theorem dL_law_1728 : decode cL_law 1728 = .ok (.iload 6, 2) := dk_21 6 (dk_at dksL_law_65 21 rfl rfl)
theorem dL_law_1730 : decode cL_law 1730 = .ok (.ifCond .ne 15, 3) := dk_154 0 15 (dk_at dksL_law_66 0 rfl rfl)
theorem dL_law_1733 : decode cL_law 1733 = .ok (.aload_n 3, 1) := dk_45 (dk_at dksL_law_66 3 rfl rfl)
theorem dL_law_1734 : decode cL_law 1734 = .ok (.iconst 0, 1) := dk_3 (dk_at dksL_law_66 4 rfl rfl)
theorem dL_law_1735 : decode cL_law 1735 = .ok (.laload, 1) := dk_47 (dk_at dksL_law_66 5 rfl rfl)
theorem dL_law_1736 : decode cL_law 1736 = .ok (.iload 7, 2) := dk_21 7 (dk_at dksL_law_66 6 rfl rfl)
theorem dL_law_1738 : decode cL_law 1738 = .ok (.i2l, 1) := dk_133 (dk_at dksL_law_66 8 rfl rfl)
theorem dL_law_1739 : decode cL_law 1739 = .ok (.lcmp, 1) := dk_148 (dk_at dksL_law_66 9 rfl rfl)
theorem dL_law_1740 : decode cL_law 1740 = .ok (.ifCond .eq 5, 3) := dk_153 0 5 (dk_at dksL_law_66 10 rfl rfl)
theorem dL_law_1743 : decode cL_law 1743 = .ok (.iconst 0, 1) := dk_3 (dk_at dksL_law_66 13 rfl rfl)
theorem dL_law_1744 : decode cL_law 1744 = .ok (.ireturn, 1) := dk_172 (dk_at dksL_law_66 14 rfl rfl)
theorem dL_law_1745 : decode cL_law 1745 = .ok (.goto 1530, 3) := dk_167 5 250 (dk_at dksL_law_66 15 rfl rfl)
theorem dL_law_1748 : decode cL_law 1748 = .ok (.aload_n 1, 1) := dk_43 (dk_at dksL_law_66 18 rfl rfl)
theorem dL_law_1749 : decode cL_law 1749 = .ok (.aload_n 0, 1) := dk_42 (dk_at dksL_law_66 19 rfl rfl)
theorem dL_law_1750 : decode cL_law 1750 = .ok (.iload 5, 2) := dk_21 5 (dk_at dksL_law_66 20 rfl rfl)
theorem dL_law_1752 : decode cL_law 1752 = .ok (.iconst 1, 1) := dk_4 (dk_at dksL_law_66 22 rfl rfl)
theorem dL_law_1753 : decode cL_law 1753 = .ok (.iadd, 1) := dk_96 (dk_at dksL_law_66 23 rfl rfl)
theorem dL_law_1754 : decode cL_law 1754 = .ok (.iaload, 1) := dk_46 (dk_at dksL_law_67 0 rfl rfl)
theorem dL_law_1755 : decode cL_law 1755 = .ok (.aload_n 0, 1) := dk_42 (dk_at dksL_law_67 1 rfl rfl)
theorem dL_law_1756 : decode cL_law 1756 = .ok (.iload 5, 2) := dk_21 5 (dk_at dksL_law_67 2 rfl rfl)
theorem dL_law_1758 : decode cL_law 1758 = .ok (.iconst 2, 1) := dk_5 (dk_at dksL_law_67 4 rfl rfl)
theorem dL_law_1759 : decode cL_law 1759 = .ok (.iadd, 1) := dk_96 (dk_at dksL_law_67 5 rfl rfl)
theorem dL_law_1760 : decode cL_law 1760 = .ok (.iaload, 1) := dk_46 (dk_at dksL_law_67 6 rfl rfl)
theorem dL_law_1761 : decode cL_law 1761 = .ok (.aload_n 0, 1) := dk_42 (dk_at dksL_law_67 7 rfl rfl)
theorem dL_law_1762 : decode cL_law 1762 = .ok (.iload 5, 2) := dk_21 5 (dk_at dksL_law_67 8 rfl rfl)
theorem dL_law_1764 : decode cL_law 1764 = .ok (.iconst 3, 1) := dk_6 (dk_at dksL_law_67 10 rfl rfl)
theorem dL_law_1765 : decode cL_law 1765 = .ok (.iadd, 1) := dk_96 (dk_at dksL_law_67 11 rfl rfl)
theorem dL_law_1766 : decode cL_law 1766 = .ok (.iaload, 1) := dk_46 (dk_at dksL_law_67 12 rfl rfl)
theorem dL_law_1767 : decode cL_law 1767 = .ok (.ifCond .eq 7, 3) := dk_153 0 7 (dk_at dksL_law_67 13 rfl rfl)
theorem dL_law_1770 : decode cL_law 1770 = .ok (.iconst 1, 1) := dk_4 (dk_at dksL_law_67 16 rfl rfl)
theorem dL_law_1771 : decode cL_law 1771 = .ok (.goto 4, 3) := dk_167 0 4 (dk_at dksL_law_67 17 rfl rfl)
theorem dL_law_1774 : decode cL_law 1774 = .ok (.iconst 0, 1) := dk_3 (dk_at dksL_law_67 20 rfl rfl)
theorem dL_law_1775 : decode cL_law 1775 = .ok (.aload_n 3, 1) := dk_45 (dk_at dksL_law_67 21 rfl rfl)
theorem dL_law_1776 : decode cL_law 1776 = .ok (.invokestatic 259, 3) := dk_184 1 3 (dk_at dksL_law_68 0 rfl rfl)
theorem dL_law_1779 : decode cL_law 1779 = .ok (.istore 6, 2) := dk_54 6 (dk_at dksL_law_68 3 rfl rfl)
theorem dL_law_1781 : decode cL_law 1781 = .ok (.aload_n 2, 1) := dk_44 (dk_at dksL_law_68 5 rfl rfl)
theorem dL_law_1782 : decode cL_law 1782 = .ok (.aload_n 0, 1) := dk_42 (dk_at dksL_law_68 6 rfl rfl)
theorem dL_law_1783 : decode cL_law 1783 = .ok (.iload 5, 2) := dk_21 5 (dk_at dksL_law_68 7 rfl rfl)
theorem dL_law_1785 : decode cL_law 1785 = .ok (.iconst 1, 1) := dk_4 (dk_at dksL_law_68 9 rfl rfl)
theorem dL_law_1786 : decode cL_law 1786 = .ok (.iadd, 1) := dk_96 (dk_at dksL_law_68 10 rfl rfl)
theorem dL_law_1787 : decode cL_law 1787 = .ok (.iaload, 1) := dk_46 (dk_at dksL_law_68 11 rfl rfl)
theorem dL_law_1788 : decode cL_law 1788 = .ok (.aload_n 0, 1) := dk_42 (dk_at dksL_law_68 12 rfl rfl)
theorem dL_law_1789 : decode cL_law 1789 = .ok (.iload 5, 2) := dk_21 5 (dk_at dksL_law_68 13 rfl rfl)
theorem dL_law_1791 : decode cL_law 1791 = .ok (.iconst 2, 1) := dk_5 (dk_at dksL_law_68 15 rfl rfl)
theorem dL_law_1792 : decode cL_law 1792 = .ok (.iadd, 1) := dk_96 (dk_at dksL_law_68 16 rfl rfl)
theorem dL_law_1793 : decode cL_law 1793 = .ok (.iaload, 1) := dk_46 (dk_at dksL_law_68 17 rfl rfl)
theorem dL_law_1794 : decode cL_law 1794 = .ok (.aload_n 0, 1) := dk_42 (dk_at dksL_law_68 18 rfl rfl)
theorem dL_law_1795 : decode cL_law 1795 = .ok (.iload 5, 2) := dk_21 5 (dk_at dksL_law_68 19 rfl rfl)
theorem dL_law_1797 : decode cL_law 1797 = .ok (.iconst 3, 1) := dk_6 (dk_at dksL_law_68 21 rfl rfl)
theorem dL_law_1798 : decode cL_law 1798 = .ok (.iadd, 1) := dk_96 (dk_at dksL_law_68 22 rfl rfl)
theorem dL_law_1799 : decode cL_law 1799 = .ok (.iaload, 1) := dk_46 (dk_at dksL_law_68 23 rfl rfl)
theorem dL_law_1800 : decode cL_law 1800 = .ok (.ifCond .eq 7, 3) := dk_153 0 7 (dk_at dksL_law_69 0 rfl rfl)
theorem dL_law_1803 : decode cL_law 1803 = .ok (.iconst 1, 1) := dk_4 (dk_at dksL_law_69 3 rfl rfl)
theorem dL_law_1804 : decode cL_law 1804 = .ok (.goto 4, 3) := dk_167 0 4 (dk_at dksL_law_69 4 rfl rfl)
theorem dL_law_1807 : decode cL_law 1807 = .ok (.iconst 0, 1) := dk_3 (dk_at dksL_law_69 7 rfl rfl)
theorem dL_law_1808 : decode cL_law 1808 = .ok (.invokevirtual 262, 3) := dk_182 1 6 (dk_at dksL_law_69 8 rfl rfl)
theorem dL_law_1811 : decode cL_law 1811 = .ok (.istore 7, 2) := dk_54 7 (dk_at dksL_law_69 11 rfl rfl)
theorem dL_law_1813 : decode cL_law 1813 = .ok (.aload_n 2, 1) := dk_44 (dk_at dksL_law_69 13 rfl rfl)
theorem dL_law_1814 : decode cL_law 1814 = .ok (.invokevirtual 167, 3) := dk_182 0 167 (dk_at dksL_law_69 14 rfl rfl)
theorem dL_law_1817 : decode cL_law 1817 = .ok (.iload 6, 2) := dk_21 6 (dk_at dksL_law_69 17 rfl rfl)
theorem dL_law_1819 : decode cL_law 1819 = .ok (.if_icmp .eq 5, 3) := dk_159 0 5 (dk_at dksL_law_69 19 rfl rfl)
theorem dL_law_1822 : decode cL_law 1822 = .ok (.iconst 0, 1) := dk_3 (dk_at dksL_law_69 22 rfl rfl)
theorem dL_law_1823 : decode cL_law 1823 = .ok (.ireturn, 1) := dk_172 (dk_at dksL_law_69 23 rfl rfl)
theorem dL_law_1824 : decode cL_law 1824 = .ok (.iload 6, 2) := dk_21 6 (dk_at dksL_law_70 0 rfl rfl)
theorem dL_law_1826 : decode cL_law 1826 = .ok (.ifCond .ne 15, 3) := dk_154 0 15 (dk_at dksL_law_70 2 rfl rfl)
theorem dL_law_1829 : decode cL_law 1829 = .ok (.aload_n 3, 1) := dk_45 (dk_at dksL_law_70 5 rfl rfl)
theorem dL_law_1830 : decode cL_law 1830 = .ok (.iconst 0, 1) := dk_3 (dk_at dksL_law_70 6 rfl rfl)
theorem dL_law_1831 : decode cL_law 1831 = .ok (.laload, 1) := dk_47 (dk_at dksL_law_70 7 rfl rfl)
theorem dL_law_1832 : decode cL_law 1832 = .ok (.iload 7, 2) := dk_21 7 (dk_at dksL_law_70 8 rfl rfl)
theorem dL_law_1834 : decode cL_law 1834 = .ok (.i2l, 1) := dk_133 (dk_at dksL_law_70 10 rfl rfl)
theorem dL_law_1835 : decode cL_law 1835 = .ok (.lcmp, 1) := dk_148 (dk_at dksL_law_70 11 rfl rfl)
theorem dL_law_1836 : decode cL_law 1836 = .ok (.ifCond .eq 5, 3) := dk_153 0 5 (dk_at dksL_law_70 12 rfl rfl)
theorem dL_law_1839 : decode cL_law 1839 = .ok (.iconst 0, 1) := dk_3 (dk_at dksL_law_70 15 rfl rfl)
theorem dL_law_1840 : decode cL_law 1840 = .ok (.ireturn, 1) := dk_172 (dk_at dksL_law_70 16 rfl rfl)
theorem dL_law_1841 : decode cL_law 1841 = .ok (.goto 1434, 3) := dk_167 5 154 (dk_at dksL_law_70 17 rfl rfl)
theorem dL_law_1844 : decode cL_law 1844 = .ok (.aload_n 1, 1) := dk_43 (dk_at dksL_law_70 20 rfl rfl)
theorem dL_law_1845 : decode cL_law 1845 = .ok (.aload_n 0, 1) := dk_42 (dk_at dksL_law_70 21 rfl rfl)
theorem dL_law_1846 : decode cL_law 1846 = .ok (.iload 5, 2) := dk_21 5 (dk_at dksL_law_70 22 rfl rfl)
theorem dL_law_1848 : decode cL_law 1848 = .ok (.iconst 1, 1) := dk_4 (dk_at dksL_law_71 0 rfl rfl)
theorem dL_law_1849 : decode cL_law 1849 = .ok (.iadd, 1) := dk_96 (dk_at dksL_law_71 1 rfl rfl)
theorem dL_law_1850 : decode cL_law 1850 = .ok (.iaload, 1) := dk_46 (dk_at dksL_law_71 2 rfl rfl)
theorem dL_law_1851 : decode cL_law 1851 = .ok (.aload_n 3, 1) := dk_45 (dk_at dksL_law_71 3 rfl rfl)
theorem dL_law_1852 : decode cL_law 1852 = .ok (.invokestatic 263, 3) := dk_184 1 7 (dk_at dksL_law_71 4 rfl rfl)
theorem dL_law_1855 : decode cL_law 1855 = .ok (.istore 6, 2) := dk_54 6 (dk_at dksL_law_71 7 rfl rfl)
theorem dL_law_1857 : decode cL_law 1857 = .ok (.aload_n 2, 1) := dk_44 (dk_at dksL_law_71 9 rfl rfl)
theorem dL_law_1858 : decode cL_law 1858 = .ok (.aload_n 0, 1) := dk_42 (dk_at dksL_law_71 10 rfl rfl)
theorem dL_law_1859 : decode cL_law 1859 = .ok (.iload 5, 2) := dk_21 5 (dk_at dksL_law_71 11 rfl rfl)
theorem dL_law_1861 : decode cL_law 1861 = .ok (.iconst 1, 1) := dk_4 (dk_at dksL_law_71 13 rfl rfl)
theorem dL_law_1862 : decode cL_law 1862 = .ok (.iadd, 1) := dk_96 (dk_at dksL_law_71 14 rfl rfl)
theorem dL_law_1863 : decode cL_law 1863 = .ok (.iaload, 1) := dk_46 (dk_at dksL_law_71 15 rfl rfl)
theorem dL_law_1864 : decode cL_law 1864 = .ok (.invokevirtual 265, 3) := dk_182 1 9 (dk_at dksL_law_71 16 rfl rfl)
theorem dL_law_1867 : decode cL_law 1867 = .ok (.istore 7, 2) := dk_54 7 (dk_at dksL_law_71 19 rfl rfl)
theorem dL_law_1869 : decode cL_law 1869 = .ok (.aload_n 2, 1) := dk_44 (dk_at dksL_law_71 21 rfl rfl)
theorem dL_law_1870 : decode cL_law 1870 = .ok (.invokevirtual 167, 3) := dk_182 0 167 (dk_at dksL_law_72 0 rfl rfl)
theorem dL_law_1873 : decode cL_law 1873 = .ok (.iload 6, 2) := dk_21 6 (dk_at dksL_law_72 3 rfl rfl)
theorem dL_law_1875 : decode cL_law 1875 = .ok (.if_icmp .eq 5, 3) := dk_159 0 5 (dk_at dksL_law_72 5 rfl rfl)
theorem dL_law_1878 : decode cL_law 1878 = .ok (.iconst 0, 1) := dk_3 (dk_at dksL_law_72 8 rfl rfl)
theorem dL_law_1879 : decode cL_law 1879 = .ok (.ireturn, 1) := dk_172 (dk_at dksL_law_72 9 rfl rfl)
theorem dL_law_1880 : decode cL_law 1880 = .ok (.iload 6, 2) := dk_21 6 (dk_at dksL_law_72 10 rfl rfl)
theorem dL_law_1882 : decode cL_law 1882 = .ok (.ifCond .ne 15, 3) := dk_154 0 15 (dk_at dksL_law_72 12 rfl rfl)
theorem dL_law_1885 : decode cL_law 1885 = .ok (.aload_n 3, 1) := dk_45 (dk_at dksL_law_72 15 rfl rfl)
theorem dL_law_1886 : decode cL_law 1886 = .ok (.iconst 0, 1) := dk_3 (dk_at dksL_law_72 16 rfl rfl)
theorem dL_law_1887 : decode cL_law 1887 = .ok (.laload, 1) := dk_47 (dk_at dksL_law_72 17 rfl rfl)
theorem dL_law_1888 : decode cL_law 1888 = .ok (.iload 7, 2) := dk_21 7 (dk_at dksL_law_72 18 rfl rfl)
theorem dL_law_1890 : decode cL_law 1890 = .ok (.i2l, 1) := dk_133 (dk_at dksL_law_72 20 rfl rfl)
theorem dL_law_1891 : decode cL_law 1891 = .ok (.lcmp, 1) := dk_148 (dk_at dksL_law_72 21 rfl rfl)
theorem dL_law_1892 : decode cL_law 1892 = .ok (.ifCond .eq 5, 3) := dk_153 0 5 (dk_at dksL_law_73 0 rfl rfl)
theorem dL_law_1895 : decode cL_law 1895 = .ok (.iconst 0, 1) := dk_3 (dk_at dksL_law_73 3 rfl rfl)
theorem dL_law_1896 : decode cL_law 1896 = .ok (.ireturn, 1) := dk_172 (dk_at dksL_law_73 4 rfl rfl)
theorem dL_law_1897 : decode cL_law 1897 = .ok (.goto 1378, 3) := dk_167 5 98 (dk_at dksL_law_73 5 rfl rfl)
theorem dL_law_1900 : decode cL_law 1900 = .ok (.aload_n 1, 1) := dk_43 (dk_at dksL_law_73 8 rfl rfl)
theorem dL_law_1901 : decode cL_law 1901 = .ok (.aload_n 0, 1) := dk_42 (dk_at dksL_law_73 9 rfl rfl)
theorem dL_law_1902 : decode cL_law 1902 = .ok (.iload 5, 2) := dk_21 5 (dk_at dksL_law_73 10 rfl rfl)
theorem dL_law_1904 : decode cL_law 1904 = .ok (.iconst 1, 1) := dk_4 (dk_at dksL_law_73 12 rfl rfl)
theorem dL_law_1905 : decode cL_law 1905 = .ok (.iadd, 1) := dk_96 (dk_at dksL_law_73 13 rfl rfl)
theorem dL_law_1906 : decode cL_law 1906 = .ok (.iaload, 1) := dk_46 (dk_at dksL_law_73 14 rfl rfl)
theorem dL_law_1907 : decode cL_law 1907 = .ok (.aload_n 3, 1) := dk_45 (dk_at dksL_law_73 15 rfl rfl)
theorem dL_law_1908 : decode cL_law 1908 = .ok (.invokestatic 266, 3) := dk_184 1 10 (dk_at dksL_law_73 16 rfl rfl)
theorem dL_law_1911 : decode cL_law 1911 = .ok (.istore 6, 2) := dk_54 6 (dk_at dksL_law_73 19 rfl rfl)
theorem dL_law_1913 : decode cL_law 1913 = .ok (.aload_n 2, 1) := dk_44 (dk_at dksL_law_73 21 rfl rfl)
theorem dL_law_1914 : decode cL_law 1914 = .ok (.aload_n 0, 1) := dk_42 (dk_at dksL_law_73 22 rfl rfl)
theorem dL_law_1915 : decode cL_law 1915 = .ok (.iload 5, 2) := dk_21 5 (dk_at dksL_law_74 0 rfl rfl)
theorem dL_law_1917 : decode cL_law 1917 = .ok (.iconst 1, 1) := dk_4 (dk_at dksL_law_74 2 rfl rfl)
theorem dL_law_1918 : decode cL_law 1918 = .ok (.iadd, 1) := dk_96 (dk_at dksL_law_74 3 rfl rfl)
theorem dL_law_1919 : decode cL_law 1919 = .ok (.iaload, 1) := dk_46 (dk_at dksL_law_74 4 rfl rfl)
theorem dL_law_1920 : decode cL_law 1920 = .ok (.invokevirtual 268, 3) := dk_182 1 12 (dk_at dksL_law_74 5 rfl rfl)
theorem dL_law_1923 : decode cL_law 1923 = .ok (.istore 7, 2) := dk_54 7 (dk_at dksL_law_74 8 rfl rfl)
theorem dL_law_1925 : decode cL_law 1925 = .ok (.aload_n 2, 1) := dk_44 (dk_at dksL_law_74 10 rfl rfl)
theorem dL_law_1926 : decode cL_law 1926 = .ok (.invokevirtual 167, 3) := dk_182 0 167 (dk_at dksL_law_74 11 rfl rfl)
theorem dL_law_1929 : decode cL_law 1929 = .ok (.iload 6, 2) := dk_21 6 (dk_at dksL_law_74 14 rfl rfl)
theorem dL_law_1931 : decode cL_law 1931 = .ok (.if_icmp .eq 5, 3) := dk_159 0 5 (dk_at dksL_law_74 16 rfl rfl)
theorem dL_law_1934 : decode cL_law 1934 = .ok (.iconst 0, 1) := dk_3 (dk_at dksL_law_74 19 rfl rfl)
theorem dL_law_1935 : decode cL_law 1935 = .ok (.ireturn, 1) := dk_172 (dk_at dksL_law_74 20 rfl rfl)
theorem dL_law_1936 : decode cL_law 1936 = .ok (.iload 6, 2) := dk_21 6 (dk_at dksL_law_74 21 rfl rfl)
theorem dL_law_1938 : decode cL_law 1938 = .ok (.ifCond .ne 15, 3) := dk_154 0 15 (dk_at dksL_law_75 0 rfl rfl)
theorem dL_law_1941 : decode cL_law 1941 = .ok (.aload_n 3, 1) := dk_45 (dk_at dksL_law_75 3 rfl rfl)
theorem dL_law_1942 : decode cL_law 1942 = .ok (.iconst 0, 1) := dk_3 (dk_at dksL_law_75 4 rfl rfl)
theorem dL_law_1943 : decode cL_law 1943 = .ok (.laload, 1) := dk_47 (dk_at dksL_law_75 5 rfl rfl)
theorem dL_law_1944 : decode cL_law 1944 = .ok (.iload 7, 2) := dk_21 7 (dk_at dksL_law_75 6 rfl rfl)
theorem dL_law_1946 : decode cL_law 1946 = .ok (.i2l, 1) := dk_133 (dk_at dksL_law_75 8 rfl rfl)
theorem dL_law_1947 : decode cL_law 1947 = .ok (.lcmp, 1) := dk_148 (dk_at dksL_law_75 9 rfl rfl)
theorem dL_law_1948 : decode cL_law 1948 = .ok (.ifCond .eq 5, 3) := dk_153 0 5 (dk_at dksL_law_75 10 rfl rfl)
theorem dL_law_1951 : decode cL_law 1951 = .ok (.iconst 0, 1) := dk_3 (dk_at dksL_law_75 13 rfl rfl)
theorem dL_law_1952 : decode cL_law 1952 = .ok (.ireturn, 1) := dk_172 (dk_at dksL_law_75 14 rfl rfl)
theorem dL_law_1953 : decode cL_law 1953 = .ok (.goto 1322, 3) := dk_167 5 42 (dk_at dksL_law_75 15 rfl rfl)
theorem dL_law_1956 : decode cL_law 1956 = .ok (.aload_n 1, 1) := dk_43 (dk_at dksL_law_75 18 rfl rfl)
theorem dL_law_1957 : decode cL_law 1957 = .ok (.aload_n 0, 1) := dk_42 (dk_at dksL_law_75 19 rfl rfl)
theorem dL_law_1958 : decode cL_law 1958 = .ok (.iload 5, 2) := dk_21 5 (dk_at dksL_law_75 20 rfl rfl)
theorem dL_law_1960 : decode cL_law 1960 = .ok (.iconst 1, 1) := dk_4 (dk_at dksL_law_75 22 rfl rfl)
theorem dL_law_1961 : decode cL_law 1961 = .ok (.iadd, 1) := dk_96 (dk_at dksL_law_75 23 rfl rfl)
theorem dL_law_1962 : decode cL_law 1962 = .ok (.iaload, 1) := dk_46 (dk_at dksL_law_76 0 rfl rfl)
theorem dL_law_1963 : decode cL_law 1963 = .ok (.aload_n 3, 1) := dk_45 (dk_at dksL_law_76 1 rfl rfl)
theorem dL_law_1964 : decode cL_law 1964 = .ok (.invokestatic 269, 3) := dk_184 1 13 (dk_at dksL_law_76 2 rfl rfl)
theorem dL_law_1967 : decode cL_law 1967 = .ok (.istore 6, 2) := dk_54 6 (dk_at dksL_law_76 5 rfl rfl)
theorem dL_law_1969 : decode cL_law 1969 = .ok (.aload_n 2, 1) := dk_44 (dk_at dksL_law_76 7 rfl rfl)
theorem dL_law_1970 : decode cL_law 1970 = .ok (.aload_n 0, 1) := dk_42 (dk_at dksL_law_76 8 rfl rfl)
theorem dL_law_1971 : decode cL_law 1971 = .ok (.iload 5, 2) := dk_21 5 (dk_at dksL_law_76 9 rfl rfl)
theorem dL_law_1973 : decode cL_law 1973 = .ok (.iconst 1, 1) := dk_4 (dk_at dksL_law_76 11 rfl rfl)
theorem dL_law_1974 : decode cL_law 1974 = .ok (.iadd, 1) := dk_96 (dk_at dksL_law_76 12 rfl rfl)
theorem dL_law_1975 : decode cL_law 1975 = .ok (.iaload, 1) := dk_46 (dk_at dksL_law_76 13 rfl rfl)
theorem dL_law_1976 : decode cL_law 1976 = .ok (.invokevirtual 271, 3) := dk_182 1 15 (dk_at dksL_law_76 14 rfl rfl)
theorem dL_law_1979 : decode cL_law 1979 = .ok (.istore 7, 2) := dk_54 7 (dk_at dksL_law_76 17 rfl rfl)
theorem dL_law_1981 : decode cL_law 1981 = .ok (.aload_n 2, 1) := dk_44 (dk_at dksL_law_76 19 rfl rfl)
theorem dL_law_1982 : decode cL_law 1982 = .ok (.invokevirtual 167, 3) := dk_182 0 167 (dk_at dksL_law_76 20 rfl rfl)
theorem dL_law_1985 : decode cL_law 1985 = .ok (.iload 6, 2) := dk_21 6 (dk_at dksL_law_77 0 rfl rfl)
theorem dL_law_1987 : decode cL_law 1987 = .ok (.if_icmp .eq 5, 3) := dk_159 0 5 (dk_at dksL_law_77 2 rfl rfl)
theorem dL_law_1990 : decode cL_law 1990 = .ok (.iconst 0, 1) := dk_3 (dk_at dksL_law_77 5 rfl rfl)
theorem dL_law_1991 : decode cL_law 1991 = .ok (.ireturn, 1) := dk_172 (dk_at dksL_law_77 6 rfl rfl)
theorem dL_law_1992 : decode cL_law 1992 = .ok (.iload 6, 2) := dk_21 6 (dk_at dksL_law_77 7 rfl rfl)
theorem dL_law_1994 : decode cL_law 1994 = .ok (.ifCond .ne 15, 3) := dk_154 0 15 (dk_at dksL_law_77 9 rfl rfl)
theorem dL_law_1997 : decode cL_law 1997 = .ok (.aload_n 3, 1) := dk_45 (dk_at dksL_law_77 12 rfl rfl)
theorem dL_law_1998 : decode cL_law 1998 = .ok (.iconst 0, 1) := dk_3 (dk_at dksL_law_77 13 rfl rfl)
theorem dL_law_1999 : decode cL_law 1999 = .ok (.laload, 1) := dk_47 (dk_at dksL_law_77 14 rfl rfl)
theorem dL_law_2000 : decode cL_law 2000 = .ok (.iload 7, 2) := dk_21 7 (dk_at dksL_law_77 15 rfl rfl)
theorem dL_law_2002 : decode cL_law 2002 = .ok (.i2l, 1) := dk_133 (dk_at dksL_law_77 17 rfl rfl)
theorem dL_law_2003 : decode cL_law 2003 = .ok (.lcmp, 1) := dk_148 (dk_at dksL_law_77 18 rfl rfl)
theorem dL_law_2004 : decode cL_law 2004 = .ok (.ifCond .eq 5, 3) := dk_153 0 5 (dk_at dksL_law_77 19 rfl rfl)
theorem dL_law_2007 : decode cL_law 2007 = .ok (.iconst 0, 1) := dk_3 (dk_at dksL_law_77 22 rfl rfl)
theorem dL_law_2008 : decode cL_law 2008 = .ok (.ireturn, 1) := dk_172 (dk_at dksL_law_77 23 rfl rfl)
theorem dL_law_2009 : decode cL_law 2009 = .ok (.goto 1266, 3) := dk_167 4 242 (dk_at dksL_law_78 0 rfl rfl)
theorem dL_law_2012 : decode cL_law 2012 = .ok (.aload_n 1, 1) := dk_43 (dk_at dksL_law_78 3 rfl rfl)
theorem dL_law_2013 : decode cL_law 2013 = .ok (.aload_n 0, 1) := dk_42 (dk_at dksL_law_78 4 rfl rfl)
theorem dL_law_2014 : decode cL_law 2014 = .ok (.iload 5, 2) := dk_21 5 (dk_at dksL_law_78 5 rfl rfl)
theorem dL_law_2016 : decode cL_law 2016 = .ok (.iconst 1, 1) := dk_4 (dk_at dksL_law_78 7 rfl rfl)
theorem dL_law_2017 : decode cL_law 2017 = .ok (.iadd, 1) := dk_96 (dk_at dksL_law_78 8 rfl rfl)
theorem dL_law_2018 : decode cL_law 2018 = .ok (.iaload, 1) := dk_46 (dk_at dksL_law_78 9 rfl rfl)
theorem dL_law_2019 : decode cL_law 2019 = .ok (.aload_n 0, 1) := dk_42 (dk_at dksL_law_78 10 rfl rfl)
theorem dL_law_2020 : decode cL_law 2020 = .ok (.iload 5, 2) := dk_21 5 (dk_at dksL_law_78 11 rfl rfl)
theorem dL_law_2022 : decode cL_law 2022 = .ok (.iconst 2, 1) := dk_5 (dk_at dksL_law_78 13 rfl rfl)
theorem dL_law_2023 : decode cL_law 2023 = .ok (.iadd, 1) := dk_96 (dk_at dksL_law_78 14 rfl rfl)
theorem dL_law_2024 : decode cL_law 2024 = .ok (.iaload, 1) := dk_46 (dk_at dksL_law_78 15 rfl rfl)
theorem dL_law_2025 : decode cL_law 2025 = .ok (.aload_n 0, 1) := dk_42 (dk_at dksL_law_78 16 rfl rfl)
theorem dL_law_2026 : decode cL_law 2026 = .ok (.iload 5, 2) := dk_21 5 (dk_at dksL_law_78 17 rfl rfl)
theorem dL_law_2028 : decode cL_law 2028 = .ok (.iconst 3, 1) := dk_6 (dk_at dksL_law_78 19 rfl rfl)
theorem dL_law_2029 : decode cL_law 2029 = .ok (.iadd, 1) := dk_96 (dk_at dksL_law_78 20 rfl rfl)
theorem dL_law_2030 : decode cL_law 2030 = .ok (.iaload, 1) := dk_46 (dk_at dksL_law_78 21 rfl rfl)
theorem dL_law_2031 : decode cL_law 2031 = .ok (.aload_n 0, 1) := dk_42 (dk_at dksL_law_78 22 rfl rfl)
theorem dL_law_2032 : decode cL_law 2032 = .ok (.iload 5, 2) := dk_21 5 (dk_at dksL_law_79 0 rfl rfl)
theorem dL_law_2034 : decode cL_law 2034 = .ok (.iconst 4, 1) := dk_7 (dk_at dksL_law_79 2 rfl rfl)
theorem dL_law_2035 : decode cL_law 2035 = .ok (.iadd, 1) := dk_96 (dk_at dksL_law_79 3 rfl rfl)
theorem dL_law_2036 : decode cL_law 2036 = .ok (.iaload, 1) := dk_46 (dk_at dksL_law_79 4 rfl rfl)
theorem dL_law_2037 : decode cL_law 2037 = .ok (.ifCond .eq 7, 3) := dk_153 0 7 (dk_at dksL_law_79 5 rfl rfl)
theorem dL_law_2040 : decode cL_law 2040 = .ok (.iconst 1, 1) := dk_4 (dk_at dksL_law_79 8 rfl rfl)
theorem dL_law_2041 : decode cL_law 2041 = .ok (.goto 4, 3) := dk_167 0 4 (dk_at dksL_law_79 9 rfl rfl)
theorem dL_law_2044 : decode cL_law 2044 = .ok (.iconst 0, 1) := dk_3 (dk_at dksL_law_79 12 rfl rfl)
theorem dL_law_2045 : decode cL_law 2045 = .ok (.aload_n 3, 1) := dk_45 (dk_at dksL_law_79 13 rfl rfl)
theorem dL_law_2046 : decode cL_law 2046 = .ok (.invokestatic 272, 3) := dk_184 1 16 (dk_at dksL_law_79 14 rfl rfl)
theorem dL_law_2049 : decode cL_law 2049 = .ok (.istore 6, 2) := dk_54 6 (dk_at dksL_law_79 17 rfl rfl)
theorem dL_law_2051 : decode cL_law 2051 = .ok (.aload_n 2, 1) := dk_44 (dk_at dksL_law_79 19 rfl rfl)
theorem dL_law_2052 : decode cL_law 2052 = .ok (.aload_n 0, 1) := dk_42 (dk_at dksL_law_79 20 rfl rfl)
theorem dL_law_2053 : decode cL_law 2053 = .ok (.iload 5, 2) := dk_21 5 (dk_at dksL_law_79 21 rfl rfl)
theorem dL_law_2055 : decode cL_law 2055 = .ok (.iconst 1, 1) := dk_4 (dk_at dksL_law_79 23 rfl rfl)
theorem dL_law_2056 : decode cL_law 2056 = .ok (.iadd, 1) := dk_96 (dk_at dksL_law_80 0 rfl rfl)
theorem dL_law_2057 : decode cL_law 2057 = .ok (.iaload, 1) := dk_46 (dk_at dksL_law_80 1 rfl rfl)
theorem dL_law_2058 : decode cL_law 2058 = .ok (.aload_n 0, 1) := dk_42 (dk_at dksL_law_80 2 rfl rfl)
theorem dL_law_2059 : decode cL_law 2059 = .ok (.iload 5, 2) := dk_21 5 (dk_at dksL_law_80 3 rfl rfl)
theorem dL_law_2061 : decode cL_law 2061 = .ok (.iconst 2, 1) := dk_5 (dk_at dksL_law_80 5 rfl rfl)
theorem dL_law_2062 : decode cL_law 2062 = .ok (.iadd, 1) := dk_96 (dk_at dksL_law_80 6 rfl rfl)
theorem dL_law_2063 : decode cL_law 2063 = .ok (.iaload, 1) := dk_46 (dk_at dksL_law_80 7 rfl rfl)
theorem dL_law_2064 : decode cL_law 2064 = .ok (.aload_n 0, 1) := dk_42 (dk_at dksL_law_80 8 rfl rfl)
theorem dL_law_2065 : decode cL_law 2065 = .ok (.iload 5, 2) := dk_21 5 (dk_at dksL_law_80 9 rfl rfl)
theorem dL_law_2067 : decode cL_law 2067 = .ok (.iconst 3, 1) := dk_6 (dk_at dksL_law_80 11 rfl rfl)
theorem dL_law_2068 : decode cL_law 2068 = .ok (.iadd, 1) := dk_96 (dk_at dksL_law_80 12 rfl rfl)
theorem dL_law_2069 : decode cL_law 2069 = .ok (.iaload, 1) := dk_46 (dk_at dksL_law_80 13 rfl rfl)
theorem dL_law_2070 : decode cL_law 2070 = .ok (.aload_n 0, 1) := dk_42 (dk_at dksL_law_80 14 rfl rfl)
theorem dL_law_2071 : decode cL_law 2071 = .ok (.iload 5, 2) := dk_21 5 (dk_at dksL_law_80 15 rfl rfl)
theorem dL_law_2073 : decode cL_law 2073 = .ok (.iconst 4, 1) := dk_7 (dk_at dksL_law_80 17 rfl rfl)
theorem dL_law_2074 : decode cL_law 2074 = .ok (.iadd, 1) := dk_96 (dk_at dksL_law_80 18 rfl rfl)
theorem dL_law_2075 : decode cL_law 2075 = .ok (.iaload, 1) := dk_46 (dk_at dksL_law_80 19 rfl rfl)
theorem dL_law_2076 : decode cL_law 2076 = .ok (.ifCond .eq 7, 3) := dk_153 0 7 (dk_at dksL_law_80 20 rfl rfl)
theorem dL_law_2079 : decode cL_law 2079 = .ok (.iconst 1, 1) := dk_4 (dk_at dksL_law_80 23 rfl rfl)
theorem dL_law_2080 : decode cL_law 2080 = .ok (.goto 4, 3) := dk_167 0 4 (dk_at dksL_law_81 0 rfl rfl)
theorem dL_law_2083 : decode cL_law 2083 = .ok (.iconst 0, 1) := dk_3 (dk_at dksL_law_81 3 rfl rfl)
theorem dL_law_2084 : decode cL_law 2084 = .ok (.invokevirtual 275, 3) := dk_182 1 19 (dk_at dksL_law_81 4 rfl rfl)
theorem dL_law_2087 : decode cL_law 2087 = .ok (.istore 7, 2) := dk_54 7 (dk_at dksL_law_81 7 rfl rfl)
theorem dL_law_2089 : decode cL_law 2089 = .ok (.aload_n 2, 1) := dk_44 (dk_at dksL_law_81 9 rfl rfl)
theorem dL_law_2090 : decode cL_law 2090 = .ok (.invokevirtual 167, 3) := dk_182 0 167 (dk_at dksL_law_81 10 rfl rfl)
theorem dL_law_2093 : decode cL_law 2093 = .ok (.iload 6, 2) := dk_21 6 (dk_at dksL_law_81 13 rfl rfl)
theorem dL_law_2095 : decode cL_law 2095 = .ok (.if_icmp .eq 5, 3) := dk_159 0 5 (dk_at dksL_law_81 15 rfl rfl)
theorem dL_law_2098 : decode cL_law 2098 = .ok (.iconst 0, 1) := dk_3 (dk_at dksL_law_81 18 rfl rfl)
theorem dL_law_2099 : decode cL_law 2099 = .ok (.ireturn, 1) := dk_172 (dk_at dksL_law_81 19 rfl rfl)
theorem dL_law_2100 : decode cL_law 2100 = .ok (.iload 6, 2) := dk_21 6 (dk_at dksL_law_81 20 rfl rfl)
theorem dL_law_2102 : decode cL_law 2102 = .ok (.ifCond .ne 15, 3) := dk_154 0 15 (dk_at dksL_law_82 0 rfl rfl)
theorem dL_law_2105 : decode cL_law 2105 = .ok (.aload_n 3, 1) := dk_45 (dk_at dksL_law_82 3 rfl rfl)
theorem dL_law_2106 : decode cL_law 2106 = .ok (.iconst 0, 1) := dk_3 (dk_at dksL_law_82 4 rfl rfl)
theorem dL_law_2107 : decode cL_law 2107 = .ok (.laload, 1) := dk_47 (dk_at dksL_law_82 5 rfl rfl)
theorem dL_law_2108 : decode cL_law 2108 = .ok (.iload 7, 2) := dk_21 7 (dk_at dksL_law_82 6 rfl rfl)
theorem dL_law_2110 : decode cL_law 2110 = .ok (.i2l, 1) := dk_133 (dk_at dksL_law_82 8 rfl rfl)
theorem dL_law_2111 : decode cL_law 2111 = .ok (.lcmp, 1) := dk_148 (dk_at dksL_law_82 9 rfl rfl)
theorem dL_law_2112 : decode cL_law 2112 = .ok (.ifCond .eq 5, 3) := dk_153 0 5 (dk_at dksL_law_82 10 rfl rfl)
theorem dL_law_2115 : decode cL_law 2115 = .ok (.iconst 0, 1) := dk_3 (dk_at dksL_law_82 13 rfl rfl)
theorem dL_law_2116 : decode cL_law 2116 = .ok (.ireturn, 1) := dk_172 (dk_at dksL_law_82 14 rfl rfl)
theorem dL_law_2117 : decode cL_law 2117 = .ok (.goto 1158, 3) := dk_167 4 134 (dk_at dksL_law_82 15 rfl rfl)
theorem dL_law_2120 : decode cL_law 2120 = .ok (.aload_n 1, 1) := dk_43 (dk_at dksL_law_82 18 rfl rfl)
theorem dL_law_2121 : decode cL_law 2121 = .ok (.aload_n 0, 1) := dk_42 (dk_at dksL_law_82 19 rfl rfl)
theorem dL_law_2122 : decode cL_law 2122 = .ok (.iload 5, 2) := dk_21 5 (dk_at dksL_law_82 20 rfl rfl)
theorem dL_law_2124 : decode cL_law 2124 = .ok (.iconst 1, 1) := dk_4 (dk_at dksL_law_82 22 rfl rfl)
theorem dL_law_2125 : decode cL_law 2125 = .ok (.iadd, 1) := dk_96 (dk_at dksL_law_82 23 rfl rfl)
theorem dL_law_2126 : decode cL_law 2126 = .ok (.iaload, 1) := dk_46 (dk_at dksL_law_83 0 rfl rfl)
theorem dL_law_2127 : decode cL_law 2127 = .ok (.aload_n 0, 1) := dk_42 (dk_at dksL_law_83 1 rfl rfl)
theorem dL_law_2128 : decode cL_law 2128 = .ok (.iload 5, 2) := dk_21 5 (dk_at dksL_law_83 2 rfl rfl)
theorem dL_law_2130 : decode cL_law 2130 = .ok (.iconst 2, 1) := dk_5 (dk_at dksL_law_83 4 rfl rfl)
theorem dL_law_2131 : decode cL_law 2131 = .ok (.iadd, 1) := dk_96 (dk_at dksL_law_83 5 rfl rfl)
theorem dL_law_2132 : decode cL_law 2132 = .ok (.iaload, 1) := dk_46 (dk_at dksL_law_83 6 rfl rfl)
theorem dL_law_2133 : decode cL_law 2133 = .ok (.aload_n 0, 1) := dk_42 (dk_at dksL_law_83 7 rfl rfl)
theorem dL_law_2134 : decode cL_law 2134 = .ok (.iload 5, 2) := dk_21 5 (dk_at dksL_law_83 8 rfl rfl)
theorem dL_law_2136 : decode cL_law 2136 = .ok (.iconst 3, 1) := dk_6 (dk_at dksL_law_83 10 rfl rfl)
theorem dL_law_2137 : decode cL_law 2137 = .ok (.iadd, 1) := dk_96 (dk_at dksL_law_83 11 rfl rfl)
theorem dL_law_2138 : decode cL_law 2138 = .ok (.iaload, 1) := dk_46 (dk_at dksL_law_83 12 rfl rfl)
theorem dL_law_2139 : decode cL_law 2139 = .ok (.aload_n 0, 1) := dk_42 (dk_at dksL_law_83 13 rfl rfl)
theorem dL_law_2140 : decode cL_law 2140 = .ok (.iload 5, 2) := dk_21 5 (dk_at dksL_law_83 14 rfl rfl)
theorem dL_law_2142 : decode cL_law 2142 = .ok (.iconst 4, 1) := dk_7 (dk_at dksL_law_83 16 rfl rfl)
theorem dL_law_2143 : decode cL_law 2143 = .ok (.iadd, 1) := dk_96 (dk_at dksL_law_83 17 rfl rfl)
theorem dL_law_2144 : decode cL_law 2144 = .ok (.iaload, 1) := dk_46 (dk_at dksL_law_83 18 rfl rfl)
theorem dL_law_2145 : decode cL_law 2145 = .ok (.aload_n 0, 1) := dk_42 (dk_at dksL_law_83 19 rfl rfl)
theorem dL_law_2146 : decode cL_law 2146 = .ok (.iload 5, 2) := dk_21 5 (dk_at dksL_law_83 20 rfl rfl)
theorem dL_law_2148 : decode cL_law 2148 = .ok (.iconst 5, 1) := dk_8 (dk_at dksL_law_83 22 rfl rfl)
theorem dL_law_2149 : decode cL_law 2149 = .ok (.iadd, 1) := dk_96 (dk_at dksL_law_83 23 rfl rfl)
theorem dL_law_2150 : decode cL_law 2150 = .ok (.iaload, 1) := dk_46 (dk_at dksL_law_84 0 rfl rfl)
theorem dL_law_2151 : decode cL_law 2151 = .ok (.aload_n 0, 1) := dk_42 (dk_at dksL_law_84 1 rfl rfl)
theorem dL_law_2152 : decode cL_law 2152 = .ok (.iload 5, 2) := dk_21 5 (dk_at dksL_law_84 2 rfl rfl)
theorem dL_law_2154 : decode cL_law 2154 = .ok (.bipush 6, 2) := dk_16 6 (dk_at dksL_law_84 4 rfl rfl)
theorem dL_law_2156 : decode cL_law 2156 = .ok (.iadd, 1) := dk_96 (dk_at dksL_law_84 6 rfl rfl)
theorem dL_law_2157 : decode cL_law 2157 = .ok (.iaload, 1) := dk_46 (dk_at dksL_law_84 7 rfl rfl)
theorem dL_law_2158 : decode cL_law 2158 = .ok (.ifCond .eq 7, 3) := dk_153 0 7 (dk_at dksL_law_84 8 rfl rfl)
theorem dL_law_2161 : decode cL_law 2161 = .ok (.iconst 1, 1) := dk_4 (dk_at dksL_law_84 11 rfl rfl)
theorem dL_law_2162 : decode cL_law 2162 = .ok (.goto 4, 3) := dk_167 0 4 (dk_at dksL_law_84 12 rfl rfl)
theorem dL_law_2165 : decode cL_law 2165 = .ok (.iconst 0, 1) := dk_3 (dk_at dksL_law_84 15 rfl rfl)
theorem dL_law_2166 : decode cL_law 2166 = .ok (.aload_n 3, 1) := dk_45 (dk_at dksL_law_84 16 rfl rfl)
theorem dL_law_2167 : decode cL_law 2167 = .ok (.invokestatic 276, 3) := dk_184 1 20 (dk_at dksL_law_84 17 rfl rfl)
theorem dL_law_2170 : decode cL_law 2170 = .ok (.istore 6, 2) := dk_54 6 (dk_at dksL_law_84 20 rfl rfl)
theorem dL_law_2172 : decode cL_law 2172 = .ok (.aload_n 2, 1) := dk_44 (dk_at dksL_law_84 22 rfl rfl)
theorem dL_law_2173 : decode cL_law 2173 = .ok (.aload_n 0, 1) := dk_42 (dk_at dksL_law_84 23 rfl rfl)
theorem dL_law_2174 : decode cL_law 2174 = .ok (.iload 5, 2) := dk_21 5 (dk_at dksL_law_85 0 rfl rfl)
theorem dL_law_2176 : decode cL_law 2176 = .ok (.iconst 1, 1) := dk_4 (dk_at dksL_law_85 2 rfl rfl)
theorem dL_law_2177 : decode cL_law 2177 = .ok (.iadd, 1) := dk_96 (dk_at dksL_law_85 3 rfl rfl)
theorem dL_law_2178 : decode cL_law 2178 = .ok (.iaload, 1) := dk_46 (dk_at dksL_law_85 4 rfl rfl)
theorem dL_law_2179 : decode cL_law 2179 = .ok (.aload_n 0, 1) := dk_42 (dk_at dksL_law_85 5 rfl rfl)
theorem dL_law_2180 : decode cL_law 2180 = .ok (.iload 5, 2) := dk_21 5 (dk_at dksL_law_85 6 rfl rfl)
theorem dL_law_2182 : decode cL_law 2182 = .ok (.iconst 2, 1) := dk_5 (dk_at dksL_law_85 8 rfl rfl)
theorem dL_law_2183 : decode cL_law 2183 = .ok (.iadd, 1) := dk_96 (dk_at dksL_law_85 9 rfl rfl)
theorem dL_law_2184 : decode cL_law 2184 = .ok (.iaload, 1) := dk_46 (dk_at dksL_law_85 10 rfl rfl)
theorem dL_law_2185 : decode cL_law 2185 = .ok (.aload_n 0, 1) := dk_42 (dk_at dksL_law_85 11 rfl rfl)
theorem dL_law_2186 : decode cL_law 2186 = .ok (.iload 5, 2) := dk_21 5 (dk_at dksL_law_85 12 rfl rfl)
theorem dL_law_2188 : decode cL_law 2188 = .ok (.iconst 3, 1) := dk_6 (dk_at dksL_law_85 14 rfl rfl)
theorem dL_law_2189 : decode cL_law 2189 = .ok (.iadd, 1) := dk_96 (dk_at dksL_law_85 15 rfl rfl)
theorem dL_law_2190 : decode cL_law 2190 = .ok (.iaload, 1) := dk_46 (dk_at dksL_law_85 16 rfl rfl)
theorem dL_law_2191 : decode cL_law 2191 = .ok (.aload_n 0, 1) := dk_42 (dk_at dksL_law_85 17 rfl rfl)
theorem dL_law_2192 : decode cL_law 2192 = .ok (.iload 5, 2) := dk_21 5 (dk_at dksL_law_85 18 rfl rfl)
theorem dL_law_2194 : decode cL_law 2194 = .ok (.iconst 4, 1) := dk_7 (dk_at dksL_law_85 20 rfl rfl)
theorem dL_law_2195 : decode cL_law 2195 = .ok (.iadd, 1) := dk_96 (dk_at dksL_law_85 21 rfl rfl)
theorem dL_law_2196 : decode cL_law 2196 = .ok (.iaload, 1) := dk_46 (dk_at dksL_law_85 22 rfl rfl)
theorem dL_law_2197 : decode cL_law 2197 = .ok (.aload_n 0, 1) := dk_42 (dk_at dksL_law_85 23 rfl rfl)
theorem dL_law_2198 : decode cL_law 2198 = .ok (.iload 5, 2) := dk_21 5 (dk_at dksL_law_86 0 rfl rfl)
theorem dL_law_2200 : decode cL_law 2200 = .ok (.iconst 5, 1) := dk_8 (dk_at dksL_law_86 2 rfl rfl)
theorem dL_law_2201 : decode cL_law 2201 = .ok (.iadd, 1) := dk_96 (dk_at dksL_law_86 3 rfl rfl)
theorem dL_law_2202 : decode cL_law 2202 = .ok (.iaload, 1) := dk_46 (dk_at dksL_law_86 4 rfl rfl)
theorem dL_law_2203 : decode cL_law 2203 = .ok (.aload_n 0, 1) := dk_42 (dk_at dksL_law_86 5 rfl rfl)
theorem dL_law_2204 : decode cL_law 2204 = .ok (.iload 5, 2) := dk_21 5 (dk_at dksL_law_86 6 rfl rfl)
theorem dL_law_2206 : decode cL_law 2206 = .ok (.bipush 6, 2) := dk_16 6 (dk_at dksL_law_86 8 rfl rfl)
theorem dL_law_2208 : decode cL_law 2208 = .ok (.iadd, 1) := dk_96 (dk_at dksL_law_86 10 rfl rfl)
theorem dL_law_2209 : decode cL_law 2209 = .ok (.iaload, 1) := dk_46 (dk_at dksL_law_86 11 rfl rfl)
theorem dL_law_2210 : decode cL_law 2210 = .ok (.ifCond .eq 7, 3) := dk_153 0 7 (dk_at dksL_law_86 12 rfl rfl)
theorem dL_law_2213 : decode cL_law 2213 = .ok (.iconst 1, 1) := dk_4 (dk_at dksL_law_86 15 rfl rfl)
theorem dL_law_2214 : decode cL_law 2214 = .ok (.goto 4, 3) := dk_167 0 4 (dk_at dksL_law_86 16 rfl rfl)
theorem dL_law_2217 : decode cL_law 2217 = .ok (.iconst 0, 1) := dk_3 (dk_at dksL_law_86 19 rfl rfl)
theorem dL_law_2218 : decode cL_law 2218 = .ok (.invokevirtual 279, 3) := dk_182 1 23 (dk_at dksL_law_86 20 rfl rfl)
theorem dL_law_2221 : decode cL_law 2221 = .ok (.istore 7, 2) := dk_54 7 (dk_at dksL_law_87 0 rfl rfl)
theorem dL_law_2223 : decode cL_law 2223 = .ok (.aload_n 2, 1) := dk_44 (dk_at dksL_law_87 2 rfl rfl)
theorem dL_law_2224 : decode cL_law 2224 = .ok (.invokevirtual 167, 3) := dk_182 0 167 (dk_at dksL_law_87 3 rfl rfl)
theorem dL_law_2227 : decode cL_law 2227 = .ok (.iload 6, 2) := dk_21 6 (dk_at dksL_law_87 6 rfl rfl)
theorem dL_law_2229 : decode cL_law 2229 = .ok (.if_icmp .eq 5, 3) := dk_159 0 5 (dk_at dksL_law_87 8 rfl rfl)
theorem dL_law_2232 : decode cL_law 2232 = .ok (.iconst 0, 1) := dk_3 (dk_at dksL_law_87 11 rfl rfl)
theorem dL_law_2233 : decode cL_law 2233 = .ok (.ireturn, 1) := dk_172 (dk_at dksL_law_87 12 rfl rfl)
theorem dL_law_2234 : decode cL_law 2234 = .ok (.iload 6, 2) := dk_21 6 (dk_at dksL_law_87 13 rfl rfl)
theorem dL_law_2236 : decode cL_law 2236 = .ok (.ifCond .ne 15, 3) := dk_154 0 15 (dk_at dksL_law_87 15 rfl rfl)
theorem dL_law_2239 : decode cL_law 2239 = .ok (.aload_n 3, 1) := dk_45 (dk_at dksL_law_87 18 rfl rfl)
theorem dL_law_2240 : decode cL_law 2240 = .ok (.iconst 0, 1) := dk_3 (dk_at dksL_law_87 19 rfl rfl)
theorem dL_law_2241 : decode cL_law 2241 = .ok (.laload, 1) := dk_47 (dk_at dksL_law_87 20 rfl rfl)
theorem dL_law_2242 : decode cL_law 2242 = .ok (.iload 7, 2) := dk_21 7 (dk_at dksL_law_87 21 rfl rfl)
theorem dL_law_2244 : decode cL_law 2244 = .ok (.i2l, 1) := dk_133 (dk_at dksL_law_87 23 rfl rfl)
theorem dL_law_2245 : decode cL_law 2245 = .ok (.lcmp, 1) := dk_148 (dk_at dksL_law_88 0 rfl rfl)
theorem dL_law_2246 : decode cL_law 2246 = .ok (.ifCond .eq 5, 3) := dk_153 0 5 (dk_at dksL_law_88 1 rfl rfl)
theorem dL_law_2249 : decode cL_law 2249 = .ok (.iconst 0, 1) := dk_3 (dk_at dksL_law_88 4 rfl rfl)
theorem dL_law_2250 : decode cL_law 2250 = .ok (.ireturn, 1) := dk_172 (dk_at dksL_law_88 5 rfl rfl)
theorem dL_law_2251 : decode cL_law 2251 = .ok (.goto 1024, 3) := dk_167 4 0 (dk_at dksL_law_88 6 rfl rfl)
theorem dL_law_2254 : decode cL_law 2254 = .ok (.aload_n 1, 1) := dk_43 (dk_at dksL_law_88 9 rfl rfl)
theorem dL_law_2255 : decode cL_law 2255 = .ok (.aload_n 0, 1) := dk_42 (dk_at dksL_law_88 10 rfl rfl)
theorem dL_law_2256 : decode cL_law 2256 = .ok (.iload 5, 2) := dk_21 5 (dk_at dksL_law_88 11 rfl rfl)
theorem dL_law_2258 : decode cL_law 2258 = .ok (.iconst 1, 1) := dk_4 (dk_at dksL_law_88 13 rfl rfl)
theorem dL_law_2259 : decode cL_law 2259 = .ok (.iadd, 1) := dk_96 (dk_at dksL_law_88 14 rfl rfl)
theorem dL_law_2260 : decode cL_law 2260 = .ok (.iaload, 1) := dk_46 (dk_at dksL_law_88 15 rfl rfl)
theorem dL_law_2261 : decode cL_law 2261 = .ok (.aload_n 0, 1) := dk_42 (dk_at dksL_law_88 16 rfl rfl)
theorem dL_law_2262 : decode cL_law 2262 = .ok (.iload 5, 2) := dk_21 5 (dk_at dksL_law_88 17 rfl rfl)
theorem dL_law_2264 : decode cL_law 2264 = .ok (.iconst 2, 1) := dk_5 (dk_at dksL_law_88 19 rfl rfl)
theorem dL_law_2265 : decode cL_law 2265 = .ok (.iadd, 1) := dk_96 (dk_at dksL_law_88 20 rfl rfl)
theorem dL_law_2266 : decode cL_law 2266 = .ok (.iaload, 1) := dk_46 (dk_at dksL_law_88 21 rfl rfl)
theorem dL_law_2267 : decode cL_law 2267 = .ok (.aload_n 0, 1) := dk_42 (dk_at dksL_law_88 22 rfl rfl)
theorem dL_law_2268 : decode cL_law 2268 = .ok (.iload 5, 2) := dk_21 5 (dk_at dksL_law_89 0 rfl rfl)
theorem dL_law_2270 : decode cL_law 2270 = .ok (.iconst 3, 1) := dk_6 (dk_at dksL_law_89 2 rfl rfl)
theorem dL_law_2271 : decode cL_law 2271 = .ok (.iadd, 1) := dk_96 (dk_at dksL_law_89 3 rfl rfl)
theorem dL_law_2272 : decode cL_law 2272 = .ok (.iaload, 1) := dk_46 (dk_at dksL_law_89 4 rfl rfl)
theorem dL_law_2273 : decode cL_law 2273 = .ok (.aload_n 0, 1) := dk_42 (dk_at dksL_law_89 5 rfl rfl)
theorem dL_law_2274 : decode cL_law 2274 = .ok (.iload 5, 2) := dk_21 5 (dk_at dksL_law_89 6 rfl rfl)
theorem dL_law_2276 : decode cL_law 2276 = .ok (.iconst 4, 1) := dk_7 (dk_at dksL_law_89 8 rfl rfl)
theorem dL_law_2277 : decode cL_law 2277 = .ok (.iadd, 1) := dk_96 (dk_at dksL_law_89 9 rfl rfl)
theorem dL_law_2278 : decode cL_law 2278 = .ok (.iaload, 1) := dk_46 (dk_at dksL_law_89 10 rfl rfl)
theorem dL_law_2279 : decode cL_law 2279 = .ok (.aload_n 0, 1) := dk_42 (dk_at dksL_law_89 11 rfl rfl)
theorem dL_law_2280 : decode cL_law 2280 = .ok (.iload 5, 2) := dk_21 5 (dk_at dksL_law_89 12 rfl rfl)
theorem dL_law_2282 : decode cL_law 2282 = .ok (.iconst 5, 1) := dk_8 (dk_at dksL_law_89 14 rfl rfl)
theorem dL_law_2283 : decode cL_law 2283 = .ok (.iadd, 1) := dk_96 (dk_at dksL_law_89 15 rfl rfl)
theorem dL_law_2284 : decode cL_law 2284 = .ok (.iaload, 1) := dk_46 (dk_at dksL_law_89 16 rfl rfl)
theorem dL_law_2285 : decode cL_law 2285 = .ok (.aload_n 3, 1) := dk_45 (dk_at dksL_law_89 17 rfl rfl)
theorem dL_law_2286 : decode cL_law 2286 = .ok (.invokestatic 280, 3) := dk_184 1 24 (dk_at dksL_law_89 18 rfl rfl)
theorem dL_law_2289 : decode cL_law 2289 = .ok (.istore 6, 2) := dk_54 6 (dk_at dksL_law_89 21 rfl rfl)
theorem dL_law_2291 : decode cL_law 2291 = .ok (.aload_n 2, 1) := dk_44 (dk_at dksL_law_89 23 rfl rfl)
theorem dL_law_2292 : decode cL_law 2292 = .ok (.aload_n 0, 1) := dk_42 (dk_at dksL_law_90 0 rfl rfl)
theorem dL_law_2293 : decode cL_law 2293 = .ok (.iload 5, 2) := dk_21 5 (dk_at dksL_law_90 1 rfl rfl)
theorem dL_law_2295 : decode cL_law 2295 = .ok (.iconst 1, 1) := dk_4 (dk_at dksL_law_90 3 rfl rfl)
theorem dL_law_2296 : decode cL_law 2296 = .ok (.iadd, 1) := dk_96 (dk_at dksL_law_90 4 rfl rfl)
theorem dL_law_2297 : decode cL_law 2297 = .ok (.iaload, 1) := dk_46 (dk_at dksL_law_90 5 rfl rfl)
theorem dL_law_2298 : decode cL_law 2298 = .ok (.aload_n 0, 1) := dk_42 (dk_at dksL_law_90 6 rfl rfl)
theorem dL_law_2299 : decode cL_law 2299 = .ok (.iload 5, 2) := dk_21 5 (dk_at dksL_law_90 7 rfl rfl)
theorem dL_law_2301 : decode cL_law 2301 = .ok (.iconst 2, 1) := dk_5 (dk_at dksL_law_90 9 rfl rfl)
theorem dL_law_2302 : decode cL_law 2302 = .ok (.iadd, 1) := dk_96 (dk_at dksL_law_90 10 rfl rfl)
theorem dL_law_2303 : decode cL_law 2303 = .ok (.iaload, 1) := dk_46 (dk_at dksL_law_90 11 rfl rfl)
theorem dL_law_2304 : decode cL_law 2304 = .ok (.aload_n 0, 1) := dk_42 (dk_at dksL_law_90 12 rfl rfl)
theorem dL_law_2305 : decode cL_law 2305 = .ok (.iload 5, 2) := dk_21 5 (dk_at dksL_law_90 13 rfl rfl)
theorem dL_law_2307 : decode cL_law 2307 = .ok (.iconst 3, 1) := dk_6 (dk_at dksL_law_90 15 rfl rfl)
theorem dL_law_2308 : decode cL_law 2308 = .ok (.iadd, 1) := dk_96 (dk_at dksL_law_90 16 rfl rfl)
theorem dL_law_2309 : decode cL_law 2309 = .ok (.iaload, 1) := dk_46 (dk_at dksL_law_90 17 rfl rfl)
theorem dL_law_2310 : decode cL_law 2310 = .ok (.aload_n 0, 1) := dk_42 (dk_at dksL_law_90 18 rfl rfl)
theorem dL_law_2311 : decode cL_law 2311 = .ok (.iload 5, 2) := dk_21 5 (dk_at dksL_law_90 19 rfl rfl)
theorem dL_law_2313 : decode cL_law 2313 = .ok (.iconst 4, 1) := dk_7 (dk_at dksL_law_90 21 rfl rfl)
theorem dL_law_2314 : decode cL_law 2314 = .ok (.iadd, 1) := dk_96 (dk_at dksL_law_90 22 rfl rfl)
theorem dL_law_2315 : decode cL_law 2315 = .ok (.iaload, 1) := dk_46 (dk_at dksL_law_90 23 rfl rfl)
theorem dL_law_2316 : decode cL_law 2316 = .ok (.aload_n 0, 1) := dk_42 (dk_at dksL_law_91 0 rfl rfl)
theorem dL_law_2317 : decode cL_law 2317 = .ok (.iload 5, 2) := dk_21 5 (dk_at dksL_law_91 1 rfl rfl)
theorem dL_law_2319 : decode cL_law 2319 = .ok (.iconst 5, 1) := dk_8 (dk_at dksL_law_91 3 rfl rfl)
theorem dL_law_2320 : decode cL_law 2320 = .ok (.iadd, 1) := dk_96 (dk_at dksL_law_91 4 rfl rfl)
theorem dL_law_2321 : decode cL_law 2321 = .ok (.iaload, 1) := dk_46 (dk_at dksL_law_91 5 rfl rfl)
theorem dL_law_2322 : decode cL_law 2322 = .ok (.invokevirtual 282, 3) := dk_182 1 26 (dk_at dksL_law_91 6 rfl rfl)
theorem dL_law_2325 : decode cL_law 2325 = .ok (.istore 7, 2) := dk_54 7 (dk_at dksL_law_91 9 rfl rfl)
theorem dL_law_2327 : decode cL_law 2327 = .ok (.aload_n 2, 1) := dk_44 (dk_at dksL_law_91 11 rfl rfl)
theorem dL_law_2328 : decode cL_law 2328 = .ok (.invokevirtual 167, 3) := dk_182 0 167 (dk_at dksL_law_91 12 rfl rfl)
theorem dL_law_2331 : decode cL_law 2331 = .ok (.iload 6, 2) := dk_21 6 (dk_at dksL_law_91 15 rfl rfl)
theorem dL_law_2333 : decode cL_law 2333 = .ok (.if_icmp .eq 5, 3) := dk_159 0 5 (dk_at dksL_law_91 17 rfl rfl)
theorem dL_law_2336 : decode cL_law 2336 = .ok (.iconst 0, 1) := dk_3 (dk_at dksL_law_91 20 rfl rfl)
theorem dL_law_2337 : decode cL_law 2337 = .ok (.ireturn, 1) := dk_172 (dk_at dksL_law_91 21 rfl rfl)
theorem dL_law_2338 : decode cL_law 2338 = .ok (.iload 6, 2) := dk_21 6 (dk_at dksL_law_91 22 rfl rfl)
theorem dL_law_2340 : decode cL_law 2340 = .ok (.ifCond .ne 15, 3) := dk_154 0 15 (dk_at dksL_law_92 0 rfl rfl)
theorem dL_law_2343 : decode cL_law 2343 = .ok (.aload_n 3, 1) := dk_45 (dk_at dksL_law_92 3 rfl rfl)
theorem dL_law_2344 : decode cL_law 2344 = .ok (.iconst 0, 1) := dk_3 (dk_at dksL_law_92 4 rfl rfl)
theorem dL_law_2345 : decode cL_law 2345 = .ok (.laload, 1) := dk_47 (dk_at dksL_law_92 5 rfl rfl)
theorem dL_law_2346 : decode cL_law 2346 = .ok (.iload 7, 2) := dk_21 7 (dk_at dksL_law_92 6 rfl rfl)
theorem dL_law_2348 : decode cL_law 2348 = .ok (.i2l, 1) := dk_133 (dk_at dksL_law_92 8 rfl rfl)
theorem dL_law_2349 : decode cL_law 2349 = .ok (.lcmp, 1) := dk_148 (dk_at dksL_law_92 9 rfl rfl)
theorem dL_law_2350 : decode cL_law 2350 = .ok (.ifCond .eq 5, 3) := dk_153 0 5 (dk_at dksL_law_92 10 rfl rfl)
theorem dL_law_2353 : decode cL_law 2353 = .ok (.iconst 0, 1) := dk_3 (dk_at dksL_law_92 13 rfl rfl)
theorem dL_law_2354 : decode cL_law 2354 = .ok (.ireturn, 1) := dk_172 (dk_at dksL_law_92 14 rfl rfl)
theorem dL_law_2355 : decode cL_law 2355 = .ok (.goto 920, 3) := dk_167 3 152 (dk_at dksL_law_92 15 rfl rfl)
theorem dL_law_2358 : decode cL_law 2358 = .ok (.aload_n 1, 1) := dk_43 (dk_at dksL_law_92 18 rfl rfl)
theorem dL_law_2359 : decode cL_law 2359 = .ok (.aload_n 0, 1) := dk_42 (dk_at dksL_law_92 19 rfl rfl)
theorem dL_law_2360 : decode cL_law 2360 = .ok (.iload 5, 2) := dk_21 5 (dk_at dksL_law_92 20 rfl rfl)
theorem dL_law_2362 : decode cL_law 2362 = .ok (.iconst 1, 1) := dk_4 (dk_at dksL_law_92 22 rfl rfl)
theorem dL_law_2363 : decode cL_law 2363 = .ok (.iadd, 1) := dk_96 (dk_at dksL_law_92 23 rfl rfl)
theorem dL_law_2364 : decode cL_law 2364 = .ok (.iaload, 1) := dk_46 (dk_at dksL_law_93 0 rfl rfl)
theorem dL_law_2365 : decode cL_law 2365 = .ok (.aload_n 3, 1) := dk_45 (dk_at dksL_law_93 1 rfl rfl)
theorem dL_law_2366 : decode cL_law 2366 = .ok (.invokestatic 283, 3) := dk_184 1 27 (dk_at dksL_law_93 2 rfl rfl)
theorem dL_law_2369 : decode cL_law 2369 = .ok (.istore 6, 2) := dk_54 6 (dk_at dksL_law_93 5 rfl rfl)
theorem dL_law_2371 : decode cL_law 2371 = .ok (.aload_n 2, 1) := dk_44 (dk_at dksL_law_93 7 rfl rfl)
theorem dL_law_2372 : decode cL_law 2372 = .ok (.aload_n 0, 1) := dk_42 (dk_at dksL_law_93 8 rfl rfl)
theorem dL_law_2373 : decode cL_law 2373 = .ok (.iload 5, 2) := dk_21 5 (dk_at dksL_law_93 9 rfl rfl)
theorem dL_law_2375 : decode cL_law 2375 = .ok (.iconst 1, 1) := dk_4 (dk_at dksL_law_93 11 rfl rfl)
theorem dL_law_2376 : decode cL_law 2376 = .ok (.iadd, 1) := dk_96 (dk_at dksL_law_93 12 rfl rfl)
theorem dL_law_2377 : decode cL_law 2377 = .ok (.iaload, 1) := dk_46 (dk_at dksL_law_93 13 rfl rfl)
theorem dL_law_2378 : decode cL_law 2378 = .ok (.invokevirtual 285, 3) := dk_182 1 29 (dk_at dksL_law_93 14 rfl rfl)
theorem dL_law_2381 : decode cL_law 2381 = .ok (.lstore 7, 2) := dk_55 7 (dk_at dksL_law_93 17 rfl rfl)
theorem dL_law_2383 : decode cL_law 2383 = .ok (.aload_n 2, 1) := dk_44 (dk_at dksL_law_93 19 rfl rfl)
theorem dL_law_2384 : decode cL_law 2384 = .ok (.invokevirtual 167, 3) := dk_182 0 167 (dk_at dksL_law_93 20 rfl rfl)
theorem dL_law_2387 : decode cL_law 2387 = .ok (.iload 6, 2) := dk_21 6 (dk_at dksL_law_94 0 rfl rfl)
theorem dL_law_2389 : decode cL_law 2389 = .ok (.if_icmp .eq 5, 3) := dk_159 0 5 (dk_at dksL_law_94 2 rfl rfl)
theorem dL_law_2392 : decode cL_law 2392 = .ok (.iconst 0, 1) := dk_3 (dk_at dksL_law_94 5 rfl rfl)
theorem dL_law_2393 : decode cL_law 2393 = .ok (.ireturn, 1) := dk_172 (dk_at dksL_law_94 6 rfl rfl)
theorem dL_law_2394 : decode cL_law 2394 = .ok (.iload 6, 2) := dk_21 6 (dk_at dksL_law_94 7 rfl rfl)
theorem dL_law_2396 : decode cL_law 2396 = .ok (.ifCond .ne 14, 3) := dk_154 0 14 (dk_at dksL_law_94 9 rfl rfl)
theorem dL_law_2399 : decode cL_law 2399 = .ok (.aload_n 3, 1) := dk_45 (dk_at dksL_law_94 12 rfl rfl)
theorem dL_law_2400 : decode cL_law 2400 = .ok (.iconst 0, 1) := dk_3 (dk_at dksL_law_94 13 rfl rfl)
theorem dL_law_2401 : decode cL_law 2401 = .ok (.laload, 1) := dk_47 (dk_at dksL_law_94 14 rfl rfl)
theorem dL_law_2402 : decode cL_law 2402 = .ok (.lload 7, 2) := dk_22 7 (dk_at dksL_law_94 15 rfl rfl)
theorem dL_law_2404 : decode cL_law 2404 = .ok (.lcmp, 1) := dk_148 (dk_at dksL_law_94 17 rfl rfl)
theorem dL_law_2405 : decode cL_law 2405 = .ok (.ifCond .eq 5, 3) := dk_153 0 5 (dk_at dksL_law_94 18 rfl rfl)
theorem dL_law_2408 : decode cL_law 2408 = .ok (.iconst 0, 1) := dk_3 (dk_at dksL_law_94 21 rfl rfl)
theorem dL_law_2409 : decode cL_law 2409 = .ok (.ireturn, 1) := dk_172 (dk_at dksL_law_94 22 rfl rfl)
theorem dL_law_2410 : decode cL_law 2410 = .ok (.goto 865, 3) := dk_167 3 97 (dk_at dksL_law_95 0 rfl rfl)
theorem dL_law_2413 : decode cL_law 2413 = .ok (.aload_n 1, 1) := dk_43 (dk_at dksL_law_95 3 rfl rfl)
theorem dL_law_2414 : decode cL_law 2414 = .ok (.aload_n 0, 1) := dk_42 (dk_at dksL_law_95 4 rfl rfl)
theorem dL_law_2415 : decode cL_law 2415 = .ok (.iload 5, 2) := dk_21 5 (dk_at dksL_law_95 5 rfl rfl)
theorem dL_law_2417 : decode cL_law 2417 = .ok (.iconst 1, 1) := dk_4 (dk_at dksL_law_95 7 rfl rfl)
theorem dL_law_2418 : decode cL_law 2418 = .ok (.iadd, 1) := dk_96 (dk_at dksL_law_95 8 rfl rfl)
theorem dL_law_2419 : decode cL_law 2419 = .ok (.iaload, 1) := dk_46 (dk_at dksL_law_95 9 rfl rfl)
theorem dL_law_2420 : decode cL_law 2420 = .ok (.aload_n 3, 1) := dk_45 (dk_at dksL_law_95 10 rfl rfl)
theorem dL_law_2421 : decode cL_law 2421 = .ok (.invokestatic 286, 3) := dk_184 1 30 (dk_at dksL_law_95 11 rfl rfl)
theorem dL_law_2424 : decode cL_law 2424 = .ok (.istore 6, 2) := dk_54 6 (dk_at dksL_law_95 14 rfl rfl)
theorem dL_law_2426 : decode cL_law 2426 = .ok (.aload_n 2, 1) := dk_44 (dk_at dksL_law_95 16 rfl rfl)
theorem dL_law_2427 : decode cL_law 2427 = .ok (.aload_n 0, 1) := dk_42 (dk_at dksL_law_95 17 rfl rfl)
theorem dL_law_2428 : decode cL_law 2428 = .ok (.iload 5, 2) := dk_21 5 (dk_at dksL_law_95 18 rfl rfl)
theorem dL_law_2430 : decode cL_law 2430 = .ok (.iconst 1, 1) := dk_4 (dk_at dksL_law_95 20 rfl rfl)
theorem dL_law_2431 : decode cL_law 2431 = .ok (.iadd, 1) := dk_96 (dk_at dksL_law_95 21 rfl rfl)
theorem dL_law_2432 : decode cL_law 2432 = .ok (.iaload, 1) := dk_46 (dk_at dksL_law_95 22 rfl rfl)
theorem dL_law_2433 : decode cL_law 2433 = .ok (.invokevirtual 288, 3) := dk_182 1 32 (dk_at dksL_law_96 0 rfl rfl)
theorem dL_law_2436 : decode cL_law 2436 = .ok (.istore 7, 2) := dk_54 7 (dk_at dksL_law_96 3 rfl rfl)
theorem dL_law_2438 : decode cL_law 2438 = .ok (.aload_n 2, 1) := dk_44 (dk_at dksL_law_96 5 rfl rfl)
theorem dL_law_2439 : decode cL_law 2439 = .ok (.invokevirtual 167, 3) := dk_182 0 167 (dk_at dksL_law_96 6 rfl rfl)
theorem dL_law_2442 : decode cL_law 2442 = .ok (.iload 6, 2) := dk_21 6 (dk_at dksL_law_96 9 rfl rfl)
theorem dL_law_2444 : decode cL_law 2444 = .ok (.if_icmp .eq 5, 3) := dk_159 0 5 (dk_at dksL_law_96 11 rfl rfl)
theorem dL_law_2447 : decode cL_law 2447 = .ok (.iconst 0, 1) := dk_3 (dk_at dksL_law_96 14 rfl rfl)
theorem dL_law_2448 : decode cL_law 2448 = .ok (.ireturn, 1) := dk_172 (dk_at dksL_law_96 15 rfl rfl)
theorem dL_law_2449 : decode cL_law 2449 = .ok (.iload 6, 2) := dk_21 6 (dk_at dksL_law_96 16 rfl rfl)
theorem dL_law_2451 : decode cL_law 2451 = .ok (.ifCond .ne 15, 3) := dk_154 0 15 (dk_at dksL_law_96 18 rfl rfl)
theorem dL_law_2454 : decode cL_law 2454 = .ok (.aload_n 3, 1) := dk_45 (dk_at dksL_law_96 21 rfl rfl)
theorem dL_law_2455 : decode cL_law 2455 = .ok (.iconst 0, 1) := dk_3 (dk_at dksL_law_96 22 rfl rfl)
theorem dL_law_2456 : decode cL_law 2456 = .ok (.laload, 1) := dk_47 (dk_at dksL_law_96 23 rfl rfl)
theorem dL_law_2457 : decode cL_law 2457 = .ok (.iload 7, 2) := dk_21 7 (dk_at dksL_law_97 0 rfl rfl)
theorem dL_law_2459 : decode cL_law 2459 = .ok (.i2l, 1) := dk_133 (dk_at dksL_law_97 2 rfl rfl)
theorem dL_law_2460 : decode cL_law 2460 = .ok (.lcmp, 1) := dk_148 (dk_at dksL_law_97 3 rfl rfl)
theorem dL_law_2461 : decode cL_law 2461 = .ok (.ifCond .eq 5, 3) := dk_153 0 5 (dk_at dksL_law_97 4 rfl rfl)
theorem dL_law_2464 : decode cL_law 2464 = .ok (.iconst 0, 1) := dk_3 (dk_at dksL_law_97 7 rfl rfl)
theorem dL_law_2465 : decode cL_law 2465 = .ok (.ireturn, 1) := dk_172 (dk_at dksL_law_97 8 rfl rfl)
theorem dL_law_2466 : decode cL_law 2466 = .ok (.goto 809, 3) := dk_167 3 41 (dk_at dksL_law_97 9 rfl rfl)
theorem dL_law_2469 : decode cL_law 2469 = .ok (.aload_n 1, 1) := dk_43 (dk_at dksL_law_97 12 rfl rfl)
theorem dL_law_2470 : decode cL_law 2470 = .ok (.aload_n 0, 1) := dk_42 (dk_at dksL_law_97 13 rfl rfl)
theorem dL_law_2471 : decode cL_law 2471 = .ok (.iload 5, 2) := dk_21 5 (dk_at dksL_law_97 14 rfl rfl)
theorem dL_law_2473 : decode cL_law 2473 = .ok (.iconst 1, 1) := dk_4 (dk_at dksL_law_97 16 rfl rfl)
theorem dL_law_2474 : decode cL_law 2474 = .ok (.iadd, 1) := dk_96 (dk_at dksL_law_97 17 rfl rfl)
theorem dL_law_2475 : decode cL_law 2475 = .ok (.iaload, 1) := dk_46 (dk_at dksL_law_97 18 rfl rfl)
theorem dL_law_2476 : decode cL_law 2476 = .ok (.aload_n 0, 1) := dk_42 (dk_at dksL_law_97 19 rfl rfl)
theorem dL_law_2477 : decode cL_law 2477 = .ok (.iload 5, 2) := dk_21 5 (dk_at dksL_law_97 20 rfl rfl)
theorem dL_law_2479 : decode cL_law 2479 = .ok (.iconst 2, 1) := dk_5 (dk_at dksL_law_97 22 rfl rfl)
theorem dL_law_2480 : decode cL_law 2480 = .ok (.iadd, 1) := dk_96 (dk_at dksL_law_97 23 rfl rfl)
theorem dL_law_2481 : decode cL_law 2481 = .ok (.iaload, 1) := dk_46 (dk_at dksL_law_98 0 rfl rfl)
theorem dL_law_2482 : decode cL_law 2482 = .ok (.aload_n 0, 1) := dk_42 (dk_at dksL_law_98 1 rfl rfl)
theorem dL_law_2483 : decode cL_law 2483 = .ok (.iload 5, 2) := dk_21 5 (dk_at dksL_law_98 2 rfl rfl)
theorem dL_law_2485 : decode cL_law 2485 = .ok (.iconst 3, 1) := dk_6 (dk_at dksL_law_98 4 rfl rfl)
theorem dL_law_2486 : decode cL_law 2486 = .ok (.iadd, 1) := dk_96 (dk_at dksL_law_98 5 rfl rfl)
theorem dL_law_2487 : decode cL_law 2487 = .ok (.iaload, 1) := dk_46 (dk_at dksL_law_98 6 rfl rfl)
theorem dL_law_2488 : decode cL_law 2488 = .ok (.aload_n 3, 1) := dk_45 (dk_at dksL_law_98 7 rfl rfl)
theorem dL_law_2489 : decode cL_law 2489 = .ok (.invokestatic 289, 3) := dk_184 1 33 (dk_at dksL_law_98 8 rfl rfl)
theorem dL_law_2492 : decode cL_law 2492 = .ok (.istore 6, 2) := dk_54 6 (dk_at dksL_law_98 11 rfl rfl)
theorem dL_law_2494 : decode cL_law 2494 = .ok (.aload_n 2, 1) := dk_44 (dk_at dksL_law_98 13 rfl rfl)
theorem dL_law_2495 : decode cL_law 2495 = .ok (.aload_n 0, 1) := dk_42 (dk_at dksL_law_98 14 rfl rfl)
theorem dL_law_2496 : decode cL_law 2496 = .ok (.iload 5, 2) := dk_21 5 (dk_at dksL_law_98 15 rfl rfl)
theorem dL_law_2498 : decode cL_law 2498 = .ok (.iconst 1, 1) := dk_4 (dk_at dksL_law_98 17 rfl rfl)
theorem dL_law_2499 : decode cL_law 2499 = .ok (.iadd, 1) := dk_96 (dk_at dksL_law_98 18 rfl rfl)
theorem dL_law_2500 : decode cL_law 2500 = .ok (.iaload, 1) := dk_46 (dk_at dksL_law_98 19 rfl rfl)
theorem dL_law_2501 : decode cL_law 2501 = .ok (.aload_n 0, 1) := dk_42 (dk_at dksL_law_98 20 rfl rfl)
theorem dL_law_2502 : decode cL_law 2502 = .ok (.iload 5, 2) := dk_21 5 (dk_at dksL_law_98 21 rfl rfl)
theorem dL_law_2504 : decode cL_law 2504 = .ok (.iconst 2, 1) := dk_5 (dk_at dksL_law_98 23 rfl rfl)
theorem dL_law_2505 : decode cL_law 2505 = .ok (.iadd, 1) := dk_96 (dk_at dksL_law_99 0 rfl rfl)
theorem dL_law_2506 : decode cL_law 2506 = .ok (.iaload, 1) := dk_46 (dk_at dksL_law_99 1 rfl rfl)
theorem dL_law_2507 : decode cL_law 2507 = .ok (.aload_n 0, 1) := dk_42 (dk_at dksL_law_99 2 rfl rfl)
theorem dL_law_2508 : decode cL_law 2508 = .ok (.iload 5, 2) := dk_21 5 (dk_at dksL_law_99 3 rfl rfl)
theorem dL_law_2510 : decode cL_law 2510 = .ok (.iconst 3, 1) := dk_6 (dk_at dksL_law_99 5 rfl rfl)
theorem dL_law_2511 : decode cL_law 2511 = .ok (.iadd, 1) := dk_96 (dk_at dksL_law_99 6 rfl rfl)
theorem dL_law_2512 : decode cL_law 2512 = .ok (.iaload, 1) := dk_46 (dk_at dksL_law_99 7 rfl rfl)
theorem dL_law_2513 : decode cL_law 2513 = .ok (.invokevirtual 291, 3) := dk_182 1 35 (dk_at dksL_law_99 8 rfl rfl)
theorem dL_law_2516 : decode cL_law 2516 = .ok (.istore 7, 2) := dk_54 7 (dk_at dksL_law_99 11 rfl rfl)
theorem dL_law_2518 : decode cL_law 2518 = .ok (.aload_n 2, 1) := dk_44 (dk_at dksL_law_99 13 rfl rfl)
theorem dL_law_2519 : decode cL_law 2519 = .ok (.invokevirtual 167, 3) := dk_182 0 167 (dk_at dksL_law_99 14 rfl rfl)
theorem dL_law_2522 : decode cL_law 2522 = .ok (.iload 6, 2) := dk_21 6 (dk_at dksL_law_99 17 rfl rfl)
theorem dL_law_2524 : decode cL_law 2524 = .ok (.if_icmp .eq 5, 3) := dk_159 0 5 (dk_at dksL_law_99 19 rfl rfl)
theorem dL_law_2527 : decode cL_law 2527 = .ok (.iconst 0, 1) := dk_3 (dk_at dksL_law_99 22 rfl rfl)
theorem dL_law_2528 : decode cL_law 2528 = .ok (.ireturn, 1) := dk_172 (dk_at dksL_law_99 23 rfl rfl)
theorem dL_law_2529 : decode cL_law 2529 = .ok (.iload 6, 2) := dk_21 6 (dk_at dksL_law_100 0 rfl rfl)
theorem dL_law_2531 : decode cL_law 2531 = .ok (.ifCond .ne 15, 3) := dk_154 0 15 (dk_at dksL_law_100 2 rfl rfl)
theorem dL_law_2534 : decode cL_law 2534 = .ok (.aload_n 3, 1) := dk_45 (dk_at dksL_law_100 5 rfl rfl)
theorem dL_law_2535 : decode cL_law 2535 = .ok (.iconst 0, 1) := dk_3 (dk_at dksL_law_100 6 rfl rfl)
theorem dL_law_2536 : decode cL_law 2536 = .ok (.laload, 1) := dk_47 (dk_at dksL_law_100 7 rfl rfl)
theorem dL_law_2537 : decode cL_law 2537 = .ok (.iload 7, 2) := dk_21 7 (dk_at dksL_law_100 8 rfl rfl)
theorem dL_law_2539 : decode cL_law 2539 = .ok (.i2l, 1) := dk_133 (dk_at dksL_law_100 10 rfl rfl)
theorem dL_law_2540 : decode cL_law 2540 = .ok (.lcmp, 1) := dk_148 (dk_at dksL_law_100 11 rfl rfl)
theorem dL_law_2541 : decode cL_law 2541 = .ok (.ifCond .eq 5, 3) := dk_153 0 5 (dk_at dksL_law_100 12 rfl rfl)
theorem dL_law_2544 : decode cL_law 2544 = .ok (.iconst 0, 1) := dk_3 (dk_at dksL_law_100 15 rfl rfl)
theorem dL_law_2545 : decode cL_law 2545 = .ok (.ireturn, 1) := dk_172 (dk_at dksL_law_100 16 rfl rfl)
theorem dL_law_2546 : decode cL_law 2546 = .ok (.goto 729, 3) := dk_167 2 217 (dk_at dksL_law_100 17 rfl rfl)
theorem dL_law_2549 : decode cL_law 2549 = .ok (.aload_n 1, 1) := dk_43 (dk_at dksL_law_100 20 rfl rfl)
theorem dL_law_2550 : decode cL_law 2550 = .ok (.aload_n 0, 1) := dk_42 (dk_at dksL_law_100 21 rfl rfl)
theorem dL_law_2551 : decode cL_law 2551 = .ok (.iload 5, 2) := dk_21 5 (dk_at dksL_law_100 22 rfl rfl)
theorem dL_law_2553 : decode cL_law 2553 = .ok (.iconst 1, 1) := dk_4 (dk_at dksL_law_101 0 rfl rfl)
theorem dL_law_2554 : decode cL_law 2554 = .ok (.iadd, 1) := dk_96 (dk_at dksL_law_101 1 rfl rfl)
theorem dL_law_2555 : decode cL_law 2555 = .ok (.iaload, 1) := dk_46 (dk_at dksL_law_101 2 rfl rfl)
theorem dL_law_2556 : decode cL_law 2556 = .ok (.aload_n 0, 1) := dk_42 (dk_at dksL_law_101 3 rfl rfl)
theorem dL_law_2557 : decode cL_law 2557 = .ok (.iload 5, 2) := dk_21 5 (dk_at dksL_law_101 4 rfl rfl)
theorem dL_law_2559 : decode cL_law 2559 = .ok (.iconst 2, 1) := dk_5 (dk_at dksL_law_101 6 rfl rfl)
theorem dL_law_2560 : decode cL_law 2560 = .ok (.iadd, 1) := dk_96 (dk_at dksL_law_101 7 rfl rfl)
theorem dL_law_2561 : decode cL_law 2561 = .ok (.iaload, 1) := dk_46 (dk_at dksL_law_101 8 rfl rfl)
theorem dL_law_2562 : decode cL_law 2562 = .ok (.aload_n 0, 1) := dk_42 (dk_at dksL_law_101 9 rfl rfl)
theorem dL_law_2563 : decode cL_law 2563 = .ok (.iload 5, 2) := dk_21 5 (dk_at dksL_law_101 10 rfl rfl)
theorem dL_law_2565 : decode cL_law 2565 = .ok (.iconst 3, 1) := dk_6 (dk_at dksL_law_101 12 rfl rfl)
theorem dL_law_2566 : decode cL_law 2566 = .ok (.iadd, 1) := dk_96 (dk_at dksL_law_101 13 rfl rfl)
theorem dL_law_2567 : decode cL_law 2567 = .ok (.iaload, 1) := dk_46 (dk_at dksL_law_101 14 rfl rfl)
theorem dL_law_2568 : decode cL_law 2568 = .ok (.aload_n 0, 1) := dk_42 (dk_at dksL_law_101 15 rfl rfl)
theorem dL_law_2569 : decode cL_law 2569 = .ok (.iload 5, 2) := dk_21 5 (dk_at dksL_law_101 16 rfl rfl)
theorem dL_law_2571 : decode cL_law 2571 = .ok (.iconst 4, 1) := dk_7 (dk_at dksL_law_101 18 rfl rfl)
theorem dL_law_2572 : decode cL_law 2572 = .ok (.iadd, 1) := dk_96 (dk_at dksL_law_101 19 rfl rfl)
theorem dL_law_2573 : decode cL_law 2573 = .ok (.iaload, 1) := dk_46 (dk_at dksL_law_101 20 rfl rfl)
theorem dL_law_2574 : decode cL_law 2574 = .ok (.aload_n 3, 1) := dk_45 (dk_at dksL_law_101 21 rfl rfl)
theorem dL_law_2575 : decode cL_law 2575 = .ok (.invokestatic 292, 3) := dk_184 1 36 (dk_at dksL_law_102 0 rfl rfl)
theorem dL_law_2578 : decode cL_law 2578 = .ok (.istore 6, 2) := dk_54 6 (dk_at dksL_law_102 3 rfl rfl)
theorem dL_law_2580 : decode cL_law 2580 = .ok (.aload_n 2, 1) := dk_44 (dk_at dksL_law_102 5 rfl rfl)
theorem dL_law_2581 : decode cL_law 2581 = .ok (.aload_n 0, 1) := dk_42 (dk_at dksL_law_102 6 rfl rfl)
theorem dL_law_2582 : decode cL_law 2582 = .ok (.iload 5, 2) := dk_21 5 (dk_at dksL_law_102 7 rfl rfl)
theorem dL_law_2584 : decode cL_law 2584 = .ok (.iconst 1, 1) := dk_4 (dk_at dksL_law_102 9 rfl rfl)
theorem dL_law_2585 : decode cL_law 2585 = .ok (.iadd, 1) := dk_96 (dk_at dksL_law_102 10 rfl rfl)
theorem dL_law_2586 : decode cL_law 2586 = .ok (.iaload, 1) := dk_46 (dk_at dksL_law_102 11 rfl rfl)
theorem dL_law_2587 : decode cL_law 2587 = .ok (.aload_n 0, 1) := dk_42 (dk_at dksL_law_102 12 rfl rfl)
theorem dL_law_2588 : decode cL_law 2588 = .ok (.iload 5, 2) := dk_21 5 (dk_at dksL_law_102 13 rfl rfl)
theorem dL_law_2590 : decode cL_law 2590 = .ok (.iconst 2, 1) := dk_5 (dk_at dksL_law_102 15 rfl rfl)
theorem dL_law_2591 : decode cL_law 2591 = .ok (.iadd, 1) := dk_96 (dk_at dksL_law_102 16 rfl rfl)
theorem dL_law_2592 : decode cL_law 2592 = .ok (.iaload, 1) := dk_46 (dk_at dksL_law_102 17 rfl rfl)
theorem dL_law_2593 : decode cL_law 2593 = .ok (.aload_n 0, 1) := dk_42 (dk_at dksL_law_102 18 rfl rfl)
theorem dL_law_2594 : decode cL_law 2594 = .ok (.iload 5, 2) := dk_21 5 (dk_at dksL_law_102 19 rfl rfl)
theorem dL_law_2596 : decode cL_law 2596 = .ok (.iconst 3, 1) := dk_6 (dk_at dksL_law_102 21 rfl rfl)
theorem dL_law_2597 : decode cL_law 2597 = .ok (.iadd, 1) := dk_96 (dk_at dksL_law_102 22 rfl rfl)
theorem dL_law_2598 : decode cL_law 2598 = .ok (.iaload, 1) := dk_46 (dk_at dksL_law_102 23 rfl rfl)
theorem dL_law_2599 : decode cL_law 2599 = .ok (.aload_n 0, 1) := dk_42 (dk_at dksL_law_103 0 rfl rfl)
theorem dL_law_2600 : decode cL_law 2600 = .ok (.iload 5, 2) := dk_21 5 (dk_at dksL_law_103 1 rfl rfl)
theorem dL_law_2602 : decode cL_law 2602 = .ok (.iconst 4, 1) := dk_7 (dk_at dksL_law_103 3 rfl rfl)
theorem dL_law_2603 : decode cL_law 2603 = .ok (.iadd, 1) := dk_96 (dk_at dksL_law_103 4 rfl rfl)
theorem dL_law_2604 : decode cL_law 2604 = .ok (.iaload, 1) := dk_46 (dk_at dksL_law_103 5 rfl rfl)
theorem dL_law_2605 : decode cL_law 2605 = .ok (.invokevirtual 295, 3) := dk_182 1 39 (dk_at dksL_law_103 6 rfl rfl)
theorem dL_law_2608 : decode cL_law 2608 = .ok (.istore 7, 2) := dk_54 7 (dk_at dksL_law_103 9 rfl rfl)
theorem dL_law_2610 : decode cL_law 2610 = .ok (.aload_n 2, 1) := dk_44 (dk_at dksL_law_103 11 rfl rfl)
theorem dL_law_2611 : decode cL_law 2611 = .ok (.invokevirtual 167, 3) := dk_182 0 167 (dk_at dksL_law_103 12 rfl rfl)
theorem dL_law_2614 : decode cL_law 2614 = .ok (.iload 6, 2) := dk_21 6 (dk_at dksL_law_103 15 rfl rfl)
theorem dL_law_2616 : decode cL_law 2616 = .ok (.if_icmp .eq 5, 3) := dk_159 0 5 (dk_at dksL_law_103 17 rfl rfl)
theorem dL_law_2619 : decode cL_law 2619 = .ok (.iconst 0, 1) := dk_3 (dk_at dksL_law_103 20 rfl rfl)
theorem dL_law_2620 : decode cL_law 2620 = .ok (.ireturn, 1) := dk_172 (dk_at dksL_law_103 21 rfl rfl)
theorem dL_law_2621 : decode cL_law 2621 = .ok (.iload 6, 2) := dk_21 6 (dk_at dksL_law_103 22 rfl rfl)
theorem dL_law_2623 : decode cL_law 2623 = .ok (.ifCond .ne 15, 3) := dk_154 0 15 (dk_at dksL_law_104 0 rfl rfl)
theorem dL_law_2626 : decode cL_law 2626 = .ok (.aload_n 3, 1) := dk_45 (dk_at dksL_law_104 3 rfl rfl)
theorem dL_law_2627 : decode cL_law 2627 = .ok (.iconst 0, 1) := dk_3 (dk_at dksL_law_104 4 rfl rfl)
theorem dL_law_2628 : decode cL_law 2628 = .ok (.laload, 1) := dk_47 (dk_at dksL_law_104 5 rfl rfl)
theorem dL_law_2629 : decode cL_law 2629 = .ok (.iload 7, 2) := dk_21 7 (dk_at dksL_law_104 6 rfl rfl)
theorem dL_law_2631 : decode cL_law 2631 = .ok (.i2l, 1) := dk_133 (dk_at dksL_law_104 8 rfl rfl)
theorem dL_law_2632 : decode cL_law 2632 = .ok (.lcmp, 1) := dk_148 (dk_at dksL_law_104 9 rfl rfl)
theorem dL_law_2633 : decode cL_law 2633 = .ok (.ifCond .eq 5, 3) := dk_153 0 5 (dk_at dksL_law_104 10 rfl rfl)
theorem dL_law_2636 : decode cL_law 2636 = .ok (.iconst 0, 1) := dk_3 (dk_at dksL_law_104 13 rfl rfl)
theorem dL_law_2637 : decode cL_law 2637 = .ok (.ireturn, 1) := dk_172 (dk_at dksL_law_104 14 rfl rfl)
theorem dL_law_2638 : decode cL_law 2638 = .ok (.goto 637, 3) := dk_167 2 125 (dk_at dksL_law_104 15 rfl rfl)
theorem dL_law_2641 : decode cL_law 2641 = .ok (.aload_n 1, 1) := dk_43 (dk_at dksL_law_104 18 rfl rfl)
theorem dL_law_2642 : decode cL_law 2642 = .ok (.aload_n 0, 1) := dk_42 (dk_at dksL_law_104 19 rfl rfl)
theorem dL_law_2643 : decode cL_law 2643 = .ok (.iload 5, 2) := dk_21 5 (dk_at dksL_law_104 20 rfl rfl)
theorem dL_law_2645 : decode cL_law 2645 = .ok (.iconst 1, 1) := dk_4 (dk_at dksL_law_104 22 rfl rfl)
theorem dL_law_2646 : decode cL_law 2646 = .ok (.iadd, 1) := dk_96 (dk_at dksL_law_104 23 rfl rfl)
theorem dL_law_2647 : decode cL_law 2647 = .ok (.iaload, 1) := dk_46 (dk_at dksL_law_105 0 rfl rfl)
theorem dL_law_2648 : decode cL_law 2648 = .ok (.aload_n 0, 1) := dk_42 (dk_at dksL_law_105 1 rfl rfl)
theorem dL_law_2649 : decode cL_law 2649 = .ok (.iload 5, 2) := dk_21 5 (dk_at dksL_law_105 2 rfl rfl)
theorem dL_law_2651 : decode cL_law 2651 = .ok (.iconst 2, 1) := dk_5 (dk_at dksL_law_105 4 rfl rfl)
theorem dL_law_2652 : decode cL_law 2652 = .ok (.iadd, 1) := dk_96 (dk_at dksL_law_105 5 rfl rfl)
theorem dL_law_2653 : decode cL_law 2653 = .ok (.iaload, 1) := dk_46 (dk_at dksL_law_105 6 rfl rfl)
theorem dL_law_2654 : decode cL_law 2654 = .ok (.aload_n 0, 1) := dk_42 (dk_at dksL_law_105 7 rfl rfl)
theorem dL_law_2655 : decode cL_law 2655 = .ok (.iload 5, 2) := dk_21 5 (dk_at dksL_law_105 8 rfl rfl)
theorem dL_law_2657 : decode cL_law 2657 = .ok (.iconst 3, 1) := dk_6 (dk_at dksL_law_105 10 rfl rfl)
theorem dL_law_2658 : decode cL_law 2658 = .ok (.iadd, 1) := dk_96 (dk_at dksL_law_105 11 rfl rfl)
theorem dL_law_2659 : decode cL_law 2659 = .ok (.iaload, 1) := dk_46 (dk_at dksL_law_105 12 rfl rfl)
theorem dL_law_2660 : decode cL_law 2660 = .ok (.aload_n 0, 1) := dk_42 (dk_at dksL_law_105 13 rfl rfl)
theorem dL_law_2661 : decode cL_law 2661 = .ok (.iload 5, 2) := dk_21 5 (dk_at dksL_law_105 14 rfl rfl)
theorem dL_law_2663 : decode cL_law 2663 = .ok (.iconst 4, 1) := dk_7 (dk_at dksL_law_105 16 rfl rfl)
theorem dL_law_2664 : decode cL_law 2664 = .ok (.iadd, 1) := dk_96 (dk_at dksL_law_105 17 rfl rfl)
theorem dL_law_2665 : decode cL_law 2665 = .ok (.iaload, 1) := dk_46 (dk_at dksL_law_105 18 rfl rfl)
theorem dL_law_2666 : decode cL_law 2666 = .ok (.aload_n 3, 1) := dk_45 (dk_at dksL_law_105 19 rfl rfl)
theorem dL_law_2667 : decode cL_law 2667 = .ok (.invokestatic 296, 3) := dk_184 1 40 (dk_at dksL_law_105 20 rfl rfl)
theorem dL_law_2670 : decode cL_law 2670 = .ok (.istore 6, 2) := dk_54 6 (dk_at dksL_law_106 0 rfl rfl)
theorem dL_law_2672 : decode cL_law 2672 = .ok (.aload_n 2, 1) := dk_44 (dk_at dksL_law_106 2 rfl rfl)
theorem dL_law_2673 : decode cL_law 2673 = .ok (.aload_n 0, 1) := dk_42 (dk_at dksL_law_106 3 rfl rfl)
theorem dL_law_2674 : decode cL_law 2674 = .ok (.iload 5, 2) := dk_21 5 (dk_at dksL_law_106 4 rfl rfl)
theorem dL_law_2676 : decode cL_law 2676 = .ok (.iconst 1, 1) := dk_4 (dk_at dksL_law_106 6 rfl rfl)
theorem dL_law_2677 : decode cL_law 2677 = .ok (.iadd, 1) := dk_96 (dk_at dksL_law_106 7 rfl rfl)
theorem dL_law_2678 : decode cL_law 2678 = .ok (.iaload, 1) := dk_46 (dk_at dksL_law_106 8 rfl rfl)
theorem dL_law_2679 : decode cL_law 2679 = .ok (.aload_n 0, 1) := dk_42 (dk_at dksL_law_106 9 rfl rfl)
theorem dL_law_2680 : decode cL_law 2680 = .ok (.iload 5, 2) := dk_21 5 (dk_at dksL_law_106 10 rfl rfl)
theorem dL_law_2682 : decode cL_law 2682 = .ok (.iconst 2, 1) := dk_5 (dk_at dksL_law_106 12 rfl rfl)
theorem dL_law_2683 : decode cL_law 2683 = .ok (.iadd, 1) := dk_96 (dk_at dksL_law_106 13 rfl rfl)
theorem dL_law_2684 : decode cL_law 2684 = .ok (.iaload, 1) := dk_46 (dk_at dksL_law_106 14 rfl rfl)
theorem dL_law_2685 : decode cL_law 2685 = .ok (.aload_n 0, 1) := dk_42 (dk_at dksL_law_106 15 rfl rfl)
theorem dL_law_2686 : decode cL_law 2686 = .ok (.iload 5, 2) := dk_21 5 (dk_at dksL_law_106 16 rfl rfl)
theorem dL_law_2688 : decode cL_law 2688 = .ok (.iconst 3, 1) := dk_6 (dk_at dksL_law_106 18 rfl rfl)
theorem dL_law_2689 : decode cL_law 2689 = .ok (.iadd, 1) := dk_96 (dk_at dksL_law_106 19 rfl rfl)
theorem dL_law_2690 : decode cL_law 2690 = .ok (.iaload, 1) := dk_46 (dk_at dksL_law_106 20 rfl rfl)
theorem dL_law_2691 : decode cL_law 2691 = .ok (.aload_n 0, 1) := dk_42 (dk_at dksL_law_106 21 rfl rfl)
theorem dL_law_2692 : decode cL_law 2692 = .ok (.iload 5, 2) := dk_21 5 (dk_at dksL_law_106 22 rfl rfl)
theorem dL_law_2694 : decode cL_law 2694 = .ok (.iconst 4, 1) := dk_7 (dk_at dksL_law_107 0 rfl rfl)
theorem dL_law_2695 : decode cL_law 2695 = .ok (.iadd, 1) := dk_96 (dk_at dksL_law_107 1 rfl rfl)
theorem dL_law_2696 : decode cL_law 2696 = .ok (.iaload, 1) := dk_46 (dk_at dksL_law_107 2 rfl rfl)
theorem dL_law_2697 : decode cL_law 2697 = .ok (.invokevirtual 298, 3) := dk_182 1 42 (dk_at dksL_law_107 3 rfl rfl)
theorem dL_law_2700 : decode cL_law 2700 = .ok (.istore 7, 2) := dk_54 7 (dk_at dksL_law_107 6 rfl rfl)
theorem dL_law_2702 : decode cL_law 2702 = .ok (.aload_n 2, 1) := dk_44 (dk_at dksL_law_107 8 rfl rfl)
theorem dL_law_2703 : decode cL_law 2703 = .ok (.invokevirtual 167, 3) := dk_182 0 167 (dk_at dksL_law_107 9 rfl rfl)
theorem dL_law_2706 : decode cL_law 2706 = .ok (.iload 6, 2) := dk_21 6 (dk_at dksL_law_107 12 rfl rfl)
theorem dL_law_2708 : decode cL_law 2708 = .ok (.if_icmp .eq 5, 3) := dk_159 0 5 (dk_at dksL_law_107 14 rfl rfl)
theorem dL_law_2711 : decode cL_law 2711 = .ok (.iconst 0, 1) := dk_3 (dk_at dksL_law_107 17 rfl rfl)
theorem dL_law_2712 : decode cL_law 2712 = .ok (.ireturn, 1) := dk_172 (dk_at dksL_law_107 18 rfl rfl)
theorem dL_law_2713 : decode cL_law 2713 = .ok (.iload 6, 2) := dk_21 6 (dk_at dksL_law_107 19 rfl rfl)
theorem dL_law_2715 : decode cL_law 2715 = .ok (.ifCond .ne 15, 3) := dk_154 0 15 (dk_at dksL_law_107 21 rfl rfl)
theorem dL_law_2718 : decode cL_law 2718 = .ok (.aload_n 3, 1) := dk_45 (dk_at dksL_law_108 0 rfl rfl)
theorem dL_law_2719 : decode cL_law 2719 = .ok (.iconst 0, 1) := dk_3 (dk_at dksL_law_108 1 rfl rfl)
theorem dL_law_2720 : decode cL_law 2720 = .ok (.laload, 1) := dk_47 (dk_at dksL_law_108 2 rfl rfl)
theorem dL_law_2721 : decode cL_law 2721 = .ok (.iload 7, 2) := dk_21 7 (dk_at dksL_law_108 3 rfl rfl)
theorem dL_law_2723 : decode cL_law 2723 = .ok (.i2l, 1) := dk_133 (dk_at dksL_law_108 5 rfl rfl)
theorem dL_law_2724 : decode cL_law 2724 = .ok (.lcmp, 1) := dk_148 (dk_at dksL_law_108 6 rfl rfl)
theorem dL_law_2725 : decode cL_law 2725 = .ok (.ifCond .eq 5, 3) := dk_153 0 5 (dk_at dksL_law_108 7 rfl rfl)
theorem dL_law_2728 : decode cL_law 2728 = .ok (.iconst 0, 1) := dk_3 (dk_at dksL_law_108 10 rfl rfl)
theorem dL_law_2729 : decode cL_law 2729 = .ok (.ireturn, 1) := dk_172 (dk_at dksL_law_108 11 rfl rfl)
theorem dL_law_2730 : decode cL_law 2730 = .ok (.goto 545, 3) := dk_167 2 33 (dk_at dksL_law_108 12 rfl rfl)
theorem dL_law_2733 : decode cL_law 2733 = .ok (.aload_n 1, 1) := dk_43 (dk_at dksL_law_108 15 rfl rfl)
theorem dL_law_2734 : decode cL_law 2734 = .ok (.aload_n 0, 1) := dk_42 (dk_at dksL_law_108 16 rfl rfl)
theorem dL_law_2735 : decode cL_law 2735 = .ok (.iload 5, 2) := dk_21 5 (dk_at dksL_law_108 17 rfl rfl)
theorem dL_law_2737 : decode cL_law 2737 = .ok (.iconst 1, 1) := dk_4 (dk_at dksL_law_108 19 rfl rfl)
theorem dL_law_2738 : decode cL_law 2738 = .ok (.iadd, 1) := dk_96 (dk_at dksL_law_108 20 rfl rfl)
theorem dL_law_2739 : decode cL_law 2739 = .ok (.iaload, 1) := dk_46 (dk_at dksL_law_108 21 rfl rfl)
theorem dL_law_2740 : decode cL_law 2740 = .ok (.aload_n 3, 1) := dk_45 (dk_at dksL_law_108 22 rfl rfl)
theorem dL_law_2741 : decode cL_law 2741 = .ok (.invokestatic 299, 3) := dk_184 1 43 (dk_at dksL_law_109 0 rfl rfl)
theorem dL_law_2744 : decode cL_law 2744 = .ok (.istore 6, 2) := dk_54 6 (dk_at dksL_law_109 3 rfl rfl)
theorem dL_law_2746 : decode cL_law 2746 = .ok (.aload_n 2, 1) := dk_44 (dk_at dksL_law_109 5 rfl rfl)
theorem dL_law_2747 : decode cL_law 2747 = .ok (.aload_n 0, 1) := dk_42 (dk_at dksL_law_109 6 rfl rfl)
theorem dL_law_2748 : decode cL_law 2748 = .ok (.iload 5, 2) := dk_21 5 (dk_at dksL_law_109 7 rfl rfl)
theorem dL_law_2750 : decode cL_law 2750 = .ok (.iconst 1, 1) := dk_4 (dk_at dksL_law_109 9 rfl rfl)
theorem dL_law_2751 : decode cL_law 2751 = .ok (.iadd, 1) := dk_96 (dk_at dksL_law_109 10 rfl rfl)
theorem dL_law_2752 : decode cL_law 2752 = .ok (.iaload, 1) := dk_46 (dk_at dksL_law_109 11 rfl rfl)
theorem dL_law_2753 : decode cL_law 2753 = .ok (.invokevirtual 301, 3) := dk_182 1 45 (dk_at dksL_law_109 12 rfl rfl)
theorem dL_law_2756 : decode cL_law 2756 = .ok (.istore 7, 2) := dk_54 7 (dk_at dksL_law_109 15 rfl rfl)
theorem dL_law_2758 : decode cL_law 2758 = .ok (.aload_n 2, 1) := dk_44 (dk_at dksL_law_109 17 rfl rfl)
theorem dL_law_2759 : decode cL_law 2759 = .ok (.invokevirtual 167, 3) := dk_182 0 167 (dk_at dksL_law_109 18 rfl rfl)
theorem dL_law_2762 : decode cL_law 2762 = .ok (.iload 6, 2) := dk_21 6 (dk_at dksL_law_109 21 rfl rfl)
theorem dL_law_2764 : decode cL_law 2764 = .ok (.if_icmp .eq 5, 3) := dk_159 0 5 (dk_at dksL_law_110 0 rfl rfl)
theorem dL_law_2767 : decode cL_law 2767 = .ok (.iconst 0, 1) := dk_3 (dk_at dksL_law_110 3 rfl rfl)
theorem dL_law_2768 : decode cL_law 2768 = .ok (.ireturn, 1) := dk_172 (dk_at dksL_law_110 4 rfl rfl)
theorem dL_law_2769 : decode cL_law 2769 = .ok (.iload 6, 2) := dk_21 6 (dk_at dksL_law_110 5 rfl rfl)
theorem dL_law_2771 : decode cL_law 2771 = .ok (.ifCond .ne 15, 3) := dk_154 0 15 (dk_at dksL_law_110 7 rfl rfl)
theorem dL_law_2774 : decode cL_law 2774 = .ok (.aload_n 3, 1) := dk_45 (dk_at dksL_law_110 10 rfl rfl)
theorem dL_law_2775 : decode cL_law 2775 = .ok (.iconst 0, 1) := dk_3 (dk_at dksL_law_110 11 rfl rfl)
theorem dL_law_2776 : decode cL_law 2776 = .ok (.laload, 1) := dk_47 (dk_at dksL_law_110 12 rfl rfl)
theorem dL_law_2777 : decode cL_law 2777 = .ok (.iload 7, 2) := dk_21 7 (dk_at dksL_law_110 13 rfl rfl)
theorem dL_law_2779 : decode cL_law 2779 = .ok (.i2l, 1) := dk_133 (dk_at dksL_law_110 15 rfl rfl)
theorem dL_law_2780 : decode cL_law 2780 = .ok (.lcmp, 1) := dk_148 (dk_at dksL_law_110 16 rfl rfl)
theorem dL_law_2781 : decode cL_law 2781 = .ok (.ifCond .eq 5, 3) := dk_153 0 5 (dk_at dksL_law_110 17 rfl rfl)
theorem dL_law_2784 : decode cL_law 2784 = .ok (.iconst 0, 1) := dk_3 (dk_at dksL_law_110 20 rfl rfl)
theorem dL_law_2785 : decode cL_law 2785 = .ok (.ireturn, 1) := dk_172 (dk_at dksL_law_110 21 rfl rfl)
theorem dL_law_2786 : decode cL_law 2786 = .ok (.goto 489, 3) := dk_167 1 233 (dk_at dksL_law_111 0 rfl rfl)
theorem dL_law_2789 : decode cL_law 2789 = .ok (.aload_n 1, 1) := dk_43 (dk_at dksL_law_111 3 rfl rfl)
theorem dL_law_2790 : decode cL_law 2790 = .ok (.aload_n 0, 1) := dk_42 (dk_at dksL_law_111 4 rfl rfl)
theorem dL_law_2791 : decode cL_law 2791 = .ok (.iload 5, 2) := dk_21 5 (dk_at dksL_law_111 5 rfl rfl)
theorem dL_law_2793 : decode cL_law 2793 = .ok (.iconst 1, 1) := dk_4 (dk_at dksL_law_111 7 rfl rfl)
theorem dL_law_2794 : decode cL_law 2794 = .ok (.iadd, 1) := dk_96 (dk_at dksL_law_111 8 rfl rfl)
theorem dL_law_2795 : decode cL_law 2795 = .ok (.iaload, 1) := dk_46 (dk_at dksL_law_111 9 rfl rfl)
theorem dL_law_2796 : decode cL_law 2796 = .ok (.aload_n 0, 1) := dk_42 (dk_at dksL_law_111 10 rfl rfl)
theorem dL_law_2797 : decode cL_law 2797 = .ok (.iload 5, 2) := dk_21 5 (dk_at dksL_law_111 11 rfl rfl)
theorem dL_law_2799 : decode cL_law 2799 = .ok (.iconst 2, 1) := dk_5 (dk_at dksL_law_111 13 rfl rfl)
theorem dL_law_2800 : decode cL_law 2800 = .ok (.iadd, 1) := dk_96 (dk_at dksL_law_111 14 rfl rfl)
theorem dL_law_2801 : decode cL_law 2801 = .ok (.iaload, 1) := dk_46 (dk_at dksL_law_111 15 rfl rfl)
theorem dL_law_2802 : decode cL_law 2802 = .ok (.aload_n 0, 1) := dk_42 (dk_at dksL_law_111 16 rfl rfl)
theorem dL_law_2803 : decode cL_law 2803 = .ok (.iload 5, 2) := dk_21 5 (dk_at dksL_law_111 17 rfl rfl)
theorem dL_law_2805 : decode cL_law 2805 = .ok (.iconst 3, 1) := dk_6 (dk_at dksL_law_111 19 rfl rfl)
theorem dL_law_2806 : decode cL_law 2806 = .ok (.iadd, 1) := dk_96 (dk_at dksL_law_111 20 rfl rfl)
theorem dL_law_2807 : decode cL_law 2807 = .ok (.iaload, 1) := dk_46 (dk_at dksL_law_111 21 rfl rfl)
theorem dL_law_2808 : decode cL_law 2808 = .ok (.aload_n 3, 1) := dk_45 (dk_at dksL_law_111 22 rfl rfl)
theorem dL_law_2809 : decode cL_law 2809 = .ok (.invokestatic 302, 3) := dk_184 1 46 (dk_at dksL_law_112 0 rfl rfl)
theorem dL_law_2812 : decode cL_law 2812 = .ok (.istore 6, 2) := dk_54 6 (dk_at dksL_law_112 3 rfl rfl)
theorem dL_law_2814 : decode cL_law 2814 = .ok (.aload_n 2, 1) := dk_44 (dk_at dksL_law_112 5 rfl rfl)
theorem dL_law_2815 : decode cL_law 2815 = .ok (.aload_n 0, 1) := dk_42 (dk_at dksL_law_112 6 rfl rfl)
theorem dL_law_2816 : decode cL_law 2816 = .ok (.iload 5, 2) := dk_21 5 (dk_at dksL_law_112 7 rfl rfl)
theorem dL_law_2818 : decode cL_law 2818 = .ok (.iconst 1, 1) := dk_4 (dk_at dksL_law_112 9 rfl rfl)
theorem dL_law_2819 : decode cL_law 2819 = .ok (.iadd, 1) := dk_96 (dk_at dksL_law_112 10 rfl rfl)
theorem dL_law_2820 : decode cL_law 2820 = .ok (.iaload, 1) := dk_46 (dk_at dksL_law_112 11 rfl rfl)
theorem dL_law_2821 : decode cL_law 2821 = .ok (.aload_n 0, 1) := dk_42 (dk_at dksL_law_112 12 rfl rfl)
theorem dL_law_2822 : decode cL_law 2822 = .ok (.iload 5, 2) := dk_21 5 (dk_at dksL_law_112 13 rfl rfl)
theorem dL_law_2824 : decode cL_law 2824 = .ok (.iconst 2, 1) := dk_5 (dk_at dksL_law_112 15 rfl rfl)
theorem dL_law_2825 : decode cL_law 2825 = .ok (.iadd, 1) := dk_96 (dk_at dksL_law_112 16 rfl rfl)
theorem dL_law_2826 : decode cL_law 2826 = .ok (.iaload, 1) := dk_46 (dk_at dksL_law_112 17 rfl rfl)
theorem dL_law_2827 : decode cL_law 2827 = .ok (.aload_n 0, 1) := dk_42 (dk_at dksL_law_112 18 rfl rfl)
theorem dL_law_2828 : decode cL_law 2828 = .ok (.iload 5, 2) := dk_21 5 (dk_at dksL_law_112 19 rfl rfl)
theorem dL_law_2830 : decode cL_law 2830 = .ok (.iconst 3, 1) := dk_6 (dk_at dksL_law_112 21 rfl rfl)
theorem dL_law_2831 : decode cL_law 2831 = .ok (.iadd, 1) := dk_96 (dk_at dksL_law_112 22 rfl rfl)
theorem dL_law_2832 : decode cL_law 2832 = .ok (.iaload, 1) := dk_46 (dk_at dksL_law_112 23 rfl rfl)
theorem dL_law_2833 : decode cL_law 2833 = .ok (.invokevirtual 304, 3) := dk_182 1 48 (dk_at dksL_law_113 0 rfl rfl)
theorem dL_law_2836 : decode cL_law 2836 = .ok (.istore 7, 2) := dk_54 7 (dk_at dksL_law_113 3 rfl rfl)
theorem dL_law_2838 : decode cL_law 2838 = .ok (.aload_n 2, 1) := dk_44 (dk_at dksL_law_113 5 rfl rfl)
theorem dL_law_2839 : decode cL_law 2839 = .ok (.invokevirtual 167, 3) := dk_182 0 167 (dk_at dksL_law_113 6 rfl rfl)
theorem dL_law_2842 : decode cL_law 2842 = .ok (.iload 6, 2) := dk_21 6 (dk_at dksL_law_113 9 rfl rfl)
theorem dL_law_2844 : decode cL_law 2844 = .ok (.if_icmp .eq 5, 3) := dk_159 0 5 (dk_at dksL_law_113 11 rfl rfl)
theorem dL_law_2847 : decode cL_law 2847 = .ok (.iconst 0, 1) := dk_3 (dk_at dksL_law_113 14 rfl rfl)
theorem dL_law_2848 : decode cL_law 2848 = .ok (.ireturn, 1) := dk_172 (dk_at dksL_law_113 15 rfl rfl)
theorem dL_law_2849 : decode cL_law 2849 = .ok (.iload 6, 2) := dk_21 6 (dk_at dksL_law_113 16 rfl rfl)
theorem dL_law_2851 : decode cL_law 2851 = .ok (.ifCond .ne 15, 3) := dk_154 0 15 (dk_at dksL_law_113 18 rfl rfl)
theorem dL_law_2854 : decode cL_law 2854 = .ok (.aload_n 3, 1) := dk_45 (dk_at dksL_law_113 21 rfl rfl)
theorem dL_law_2855 : decode cL_law 2855 = .ok (.iconst 0, 1) := dk_3 (dk_at dksL_law_113 22 rfl rfl)
theorem dL_law_2856 : decode cL_law 2856 = .ok (.laload, 1) := dk_47 (dk_at dksL_law_113 23 rfl rfl)
theorem dL_law_2857 : decode cL_law 2857 = .ok (.iload 7, 2) := dk_21 7 (dk_at dksL_law_114 0 rfl rfl)
theorem dL_law_2859 : decode cL_law 2859 = .ok (.i2l, 1) := dk_133 (dk_at dksL_law_114 2 rfl rfl)
theorem dL_law_2860 : decode cL_law 2860 = .ok (.lcmp, 1) := dk_148 (dk_at dksL_law_114 3 rfl rfl)
theorem dL_law_2861 : decode cL_law 2861 = .ok (.ifCond .eq 5, 3) := dk_153 0 5 (dk_at dksL_law_114 4 rfl rfl)
theorem dL_law_2864 : decode cL_law 2864 = .ok (.iconst 0, 1) := dk_3 (dk_at dksL_law_114 7 rfl rfl)
theorem dL_law_2865 : decode cL_law 2865 = .ok (.ireturn, 1) := dk_172 (dk_at dksL_law_114 8 rfl rfl)
theorem dL_law_2866 : decode cL_law 2866 = .ok (.goto 409, 3) := dk_167 1 153 (dk_at dksL_law_114 9 rfl rfl)
theorem dL_law_2869 : decode cL_law 2869 = .ok (.aload_n 1, 1) := dk_43 (dk_at dksL_law_114 12 rfl rfl)
theorem dL_law_2870 : decode cL_law 2870 = .ok (.aload_n 0, 1) := dk_42 (dk_at dksL_law_114 13 rfl rfl)
theorem dL_law_2871 : decode cL_law 2871 = .ok (.iload 5, 2) := dk_21 5 (dk_at dksL_law_114 14 rfl rfl)
theorem dL_law_2873 : decode cL_law 2873 = .ok (.iconst 1, 1) := dk_4 (dk_at dksL_law_114 16 rfl rfl)
theorem dL_law_2874 : decode cL_law 2874 = .ok (.iadd, 1) := dk_96 (dk_at dksL_law_114 17 rfl rfl)
theorem dL_law_2875 : decode cL_law 2875 = .ok (.iaload, 1) := dk_46 (dk_at dksL_law_114 18 rfl rfl)
theorem dL_law_2876 : decode cL_law 2876 = .ok (.aload_n 3, 1) := dk_45 (dk_at dksL_law_114 19 rfl rfl)
theorem dL_law_2877 : decode cL_law 2877 = .ok (.invokestatic 305, 3) := dk_184 1 49 (dk_at dksL_law_114 20 rfl rfl)
theorem dL_law_2880 : decode cL_law 2880 = .ok (.istore 6, 2) := dk_54 6 (dk_at dksL_law_115 0 rfl rfl)
theorem dL_law_2882 : decode cL_law 2882 = .ok (.aload_n 2, 1) := dk_44 (dk_at dksL_law_115 2 rfl rfl)
theorem dL_law_2883 : decode cL_law 2883 = .ok (.aload_n 0, 1) := dk_42 (dk_at dksL_law_115 3 rfl rfl)
theorem dL_law_2884 : decode cL_law 2884 = .ok (.iload 5, 2) := dk_21 5 (dk_at dksL_law_115 4 rfl rfl)
theorem dL_law_2886 : decode cL_law 2886 = .ok (.iconst 1, 1) := dk_4 (dk_at dksL_law_115 6 rfl rfl)
theorem dL_law_2887 : decode cL_law 2887 = .ok (.iadd, 1) := dk_96 (dk_at dksL_law_115 7 rfl rfl)
theorem dL_law_2888 : decode cL_law 2888 = .ok (.iaload, 1) := dk_46 (dk_at dksL_law_115 8 rfl rfl)
theorem dL_law_2889 : decode cL_law 2889 = .ok (.invokevirtual 307, 3) := dk_182 1 51 (dk_at dksL_law_115 9 rfl rfl)
theorem dL_law_2892 : decode cL_law 2892 = .ok (.istore 7, 2) := dk_54 7 (dk_at dksL_law_115 12 rfl rfl)
theorem dL_law_2894 : decode cL_law 2894 = .ok (.aload_n 2, 1) := dk_44 (dk_at dksL_law_115 14 rfl rfl)
theorem dL_law_2895 : decode cL_law 2895 = .ok (.invokevirtual 167, 3) := dk_182 0 167 (dk_at dksL_law_115 15 rfl rfl)
theorem dL_law_2898 : decode cL_law 2898 = .ok (.iload 6, 2) := dk_21 6 (dk_at dksL_law_115 18 rfl rfl)
theorem dL_law_2900 : decode cL_law 2900 = .ok (.if_icmp .eq 5, 3) := dk_159 0 5 (dk_at dksL_law_115 20 rfl rfl)
theorem dL_law_2903 : decode cL_law 2903 = .ok (.iconst 0, 1) := dk_3 (dk_at dksL_law_115 23 rfl rfl)
theorem dL_law_2904 : decode cL_law 2904 = .ok (.ireturn, 1) := dk_172 (dk_at dksL_law_116 0 rfl rfl)
theorem dL_law_2905 : decode cL_law 2905 = .ok (.iload 6, 2) := dk_21 6 (dk_at dksL_law_116 1 rfl rfl)
theorem dL_law_2907 : decode cL_law 2907 = .ok (.ifCond .ne 15, 3) := dk_154 0 15 (dk_at dksL_law_116 3 rfl rfl)
theorem dL_law_2910 : decode cL_law 2910 = .ok (.aload_n 3, 1) := dk_45 (dk_at dksL_law_116 6 rfl rfl)
theorem dL_law_2911 : decode cL_law 2911 = .ok (.iconst 0, 1) := dk_3 (dk_at dksL_law_116 7 rfl rfl)
theorem dL_law_2912 : decode cL_law 2912 = .ok (.laload, 1) := dk_47 (dk_at dksL_law_116 8 rfl rfl)
theorem dL_law_2913 : decode cL_law 2913 = .ok (.iload 7, 2) := dk_21 7 (dk_at dksL_law_116 9 rfl rfl)
theorem dL_law_2915 : decode cL_law 2915 = .ok (.i2l, 1) := dk_133 (dk_at dksL_law_116 11 rfl rfl)
theorem dL_law_2916 : decode cL_law 2916 = .ok (.lcmp, 1) := dk_148 (dk_at dksL_law_116 12 rfl rfl)
theorem dL_law_2917 : decode cL_law 2917 = .ok (.ifCond .eq 5, 3) := dk_153 0 5 (dk_at dksL_law_116 13 rfl rfl)
theorem dL_law_2920 : decode cL_law 2920 = .ok (.iconst 0, 1) := dk_3 (dk_at dksL_law_116 16 rfl rfl)
theorem dL_law_2921 : decode cL_law 2921 = .ok (.ireturn, 1) := dk_172 (dk_at dksL_law_116 17 rfl rfl)
theorem dL_law_2922 : decode cL_law 2922 = .ok (.goto 353, 3) := dk_167 1 97 (dk_at dksL_law_116 18 rfl rfl)
theorem dL_law_2925 : decode cL_law 2925 = .ok (.aload_n 1, 1) := dk_43 (dk_at dksL_law_116 21 rfl rfl)
theorem dL_law_2926 : decode cL_law 2926 = .ok (.aload_n 0, 1) := dk_42 (dk_at dksL_law_116 22 rfl rfl)
theorem dL_law_2927 : decode cL_law 2927 = .ok (.iload 5, 2) := dk_21 5 (dk_at dksL_law_117 0 rfl rfl)
theorem dL_law_2929 : decode cL_law 2929 = .ok (.iconst 1, 1) := dk_4 (dk_at dksL_law_117 2 rfl rfl)
theorem dL_law_2930 : decode cL_law 2930 = .ok (.iadd, 1) := dk_96 (dk_at dksL_law_117 3 rfl rfl)
theorem dL_law_2931 : decode cL_law 2931 = .ok (.iaload, 1) := dk_46 (dk_at dksL_law_117 4 rfl rfl)
theorem dL_law_2932 : decode cL_law 2932 = .ok (.aload_n 3, 1) := dk_45 (dk_at dksL_law_117 5 rfl rfl)
theorem dL_law_2933 : decode cL_law 2933 = .ok (.invokestatic 308, 3) := dk_184 1 52 (dk_at dksL_law_117 6 rfl rfl)
theorem dL_law_2936 : decode cL_law 2936 = .ok (.istore 6, 2) := dk_54 6 (dk_at dksL_law_117 9 rfl rfl)
theorem dL_law_2938 : decode cL_law 2938 = .ok (.aload_n 2, 1) := dk_44 (dk_at dksL_law_117 11 rfl rfl)
theorem dL_law_2939 : decode cL_law 2939 = .ok (.aload_n 0, 1) := dk_42 (dk_at dksL_law_117 12 rfl rfl)
theorem dL_law_2940 : decode cL_law 2940 = .ok (.iload 5, 2) := dk_21 5 (dk_at dksL_law_117 13 rfl rfl)
theorem dL_law_2942 : decode cL_law 2942 = .ok (.iconst 1, 1) := dk_4 (dk_at dksL_law_117 15 rfl rfl)
theorem dL_law_2943 : decode cL_law 2943 = .ok (.iadd, 1) := dk_96 (dk_at dksL_law_117 16 rfl rfl)
theorem dL_law_2944 : decode cL_law 2944 = .ok (.iaload, 1) := dk_46 (dk_at dksL_law_117 17 rfl rfl)
theorem dL_law_2945 : decode cL_law 2945 = .ok (.invokevirtual 310, 3) := dk_182 1 54 (dk_at dksL_law_117 18 rfl rfl)
theorem dL_law_2948 : decode cL_law 2948 = .ok (.istore 7, 2) := dk_54 7 (dk_at dksL_law_117 21 rfl rfl)
theorem dL_law_2950 : decode cL_law 2950 = .ok (.aload_n 2, 1) := dk_44 (dk_at dksL_law_117 23 rfl rfl)
theorem dL_law_2951 : decode cL_law 2951 = .ok (.invokevirtual 167, 3) := dk_182 0 167 (dk_at dksL_law_118 0 rfl rfl)
theorem dL_law_2954 : decode cL_law 2954 = .ok (.iload 6, 2) := dk_21 6 (dk_at dksL_law_118 3 rfl rfl)
theorem dL_law_2956 : decode cL_law 2956 = .ok (.if_icmp .eq 5, 3) := dk_159 0 5 (dk_at dksL_law_118 5 rfl rfl)
theorem dL_law_2959 : decode cL_law 2959 = .ok (.iconst 0, 1) := dk_3 (dk_at dksL_law_118 8 rfl rfl)
theorem dL_law_2960 : decode cL_law 2960 = .ok (.ireturn, 1) := dk_172 (dk_at dksL_law_118 9 rfl rfl)
theorem dL_law_2961 : decode cL_law 2961 = .ok (.iload 6, 2) := dk_21 6 (dk_at dksL_law_118 10 rfl rfl)
theorem dL_law_2963 : decode cL_law 2963 = .ok (.ifCond .ne 15, 3) := dk_154 0 15 (dk_at dksL_law_118 12 rfl rfl)
theorem dL_law_2966 : decode cL_law 2966 = .ok (.aload_n 3, 1) := dk_45 (dk_at dksL_law_118 15 rfl rfl)
theorem dL_law_2967 : decode cL_law 2967 = .ok (.iconst 0, 1) := dk_3 (dk_at dksL_law_118 16 rfl rfl)
theorem dL_law_2968 : decode cL_law 2968 = .ok (.laload, 1) := dk_47 (dk_at dksL_law_118 17 rfl rfl)
theorem dL_law_2969 : decode cL_law 2969 = .ok (.iload 7, 2) := dk_21 7 (dk_at dksL_law_118 18 rfl rfl)
theorem dL_law_2971 : decode cL_law 2971 = .ok (.i2l, 1) := dk_133 (dk_at dksL_law_118 20 rfl rfl)
theorem dL_law_2972 : decode cL_law 2972 = .ok (.lcmp, 1) := dk_148 (dk_at dksL_law_118 21 rfl rfl)
theorem dL_law_2973 : decode cL_law 2973 = .ok (.ifCond .eq 5, 3) := dk_153 0 5 (dk_at dksL_law_119 0 rfl rfl)
theorem dL_law_2976 : decode cL_law 2976 = .ok (.iconst 0, 1) := dk_3 (dk_at dksL_law_119 3 rfl rfl)
theorem dL_law_2977 : decode cL_law 2977 = .ok (.ireturn, 1) := dk_172 (dk_at dksL_law_119 4 rfl rfl)
theorem dL_law_2978 : decode cL_law 2978 = .ok (.goto 297, 3) := dk_167 1 41 (dk_at dksL_law_119 5 rfl rfl)
theorem dL_law_2981 : decode cL_law 2981 = .ok (.aload_n 1, 1) := dk_43 (dk_at dksL_law_119 8 rfl rfl)
theorem dL_law_2982 : decode cL_law 2982 = .ok (.aload_n 0, 1) := dk_42 (dk_at dksL_law_119 9 rfl rfl)
theorem dL_law_2983 : decode cL_law 2983 = .ok (.iload 5, 2) := dk_21 5 (dk_at dksL_law_119 10 rfl rfl)
theorem dL_law_2985 : decode cL_law 2985 = .ok (.iconst 1, 1) := dk_4 (dk_at dksL_law_119 12 rfl rfl)
theorem dL_law_2986 : decode cL_law 2986 = .ok (.iadd, 1) := dk_96 (dk_at dksL_law_119 13 rfl rfl)
theorem dL_law_2987 : decode cL_law 2987 = .ok (.iaload, 1) := dk_46 (dk_at dksL_law_119 14 rfl rfl)
theorem dL_law_2988 : decode cL_law 2988 = .ok (.aload_n 3, 1) := dk_45 (dk_at dksL_law_119 15 rfl rfl)
theorem dL_law_2989 : decode cL_law 2989 = .ok (.invokestatic 311, 3) := dk_184 1 55 (dk_at dksL_law_119 16 rfl rfl)
theorem dL_law_2992 : decode cL_law 2992 = .ok (.istore 6, 2) := dk_54 6 (dk_at dksL_law_119 19 rfl rfl)
theorem dL_law_2994 : decode cL_law 2994 = .ok (.aload_n 2, 1) := dk_44 (dk_at dksL_law_119 21 rfl rfl)
theorem dL_law_2995 : decode cL_law 2995 = .ok (.aload_n 0, 1) := dk_42 (dk_at dksL_law_119 22 rfl rfl)
theorem dL_law_2996 : decode cL_law 2996 = .ok (.iload 5, 2) := dk_21 5 (dk_at dksL_law_120 0 rfl rfl)
theorem dL_law_2998 : decode cL_law 2998 = .ok (.iconst 1, 1) := dk_4 (dk_at dksL_law_120 2 rfl rfl)
theorem dL_law_2999 : decode cL_law 2999 = .ok (.iadd, 1) := dk_96 (dk_at dksL_law_120 3 rfl rfl)
theorem dL_law_3000 : decode cL_law 3000 = .ok (.iaload, 1) := dk_46 (dk_at dksL_law_120 4 rfl rfl)
theorem dL_law_3001 : decode cL_law 3001 = .ok (.invokevirtual 313, 3) := dk_182 1 57 (dk_at dksL_law_120 5 rfl rfl)
theorem dL_law_3004 : decode cL_law 3004 = .ok (.istore 7, 2) := dk_54 7 (dk_at dksL_law_120 8 rfl rfl)
theorem dL_law_3006 : decode cL_law 3006 = .ok (.aload_n 2, 1) := dk_44 (dk_at dksL_law_120 10 rfl rfl)
theorem dL_law_3007 : decode cL_law 3007 = .ok (.invokevirtual 167, 3) := dk_182 0 167 (dk_at dksL_law_120 11 rfl rfl)
theorem dL_law_3010 : decode cL_law 3010 = .ok (.iload 6, 2) := dk_21 6 (dk_at dksL_law_120 14 rfl rfl)
theorem dL_law_3012 : decode cL_law 3012 = .ok (.if_icmp .eq 5, 3) := dk_159 0 5 (dk_at dksL_law_120 16 rfl rfl)
theorem dL_law_3015 : decode cL_law 3015 = .ok (.iconst 0, 1) := dk_3 (dk_at dksL_law_120 19 rfl rfl)
theorem dL_law_3016 : decode cL_law 3016 = .ok (.ireturn, 1) := dk_172 (dk_at dksL_law_120 20 rfl rfl)
theorem dL_law_3017 : decode cL_law 3017 = .ok (.iload 6, 2) := dk_21 6 (dk_at dksL_law_120 21 rfl rfl)
theorem dL_law_3019 : decode cL_law 3019 = .ok (.ifCond .ne 15, 3) := dk_154 0 15 (dk_at dksL_law_121 0 rfl rfl)
theorem dL_law_3022 : decode cL_law 3022 = .ok (.aload_n 3, 1) := dk_45 (dk_at dksL_law_121 3 rfl rfl)
theorem dL_law_3023 : decode cL_law 3023 = .ok (.iconst 0, 1) := dk_3 (dk_at dksL_law_121 4 rfl rfl)
theorem dL_law_3024 : decode cL_law 3024 = .ok (.laload, 1) := dk_47 (dk_at dksL_law_121 5 rfl rfl)
theorem dL_law_3025 : decode cL_law 3025 = .ok (.iload 7, 2) := dk_21 7 (dk_at dksL_law_121 6 rfl rfl)
theorem dL_law_3027 : decode cL_law 3027 = .ok (.i2l, 1) := dk_133 (dk_at dksL_law_121 8 rfl rfl)
theorem dL_law_3028 : decode cL_law 3028 = .ok (.lcmp, 1) := dk_148 (dk_at dksL_law_121 9 rfl rfl)
theorem dL_law_3029 : decode cL_law 3029 = .ok (.ifCond .eq 5, 3) := dk_153 0 5 (dk_at dksL_law_121 10 rfl rfl)
theorem dL_law_3032 : decode cL_law 3032 = .ok (.iconst 0, 1) := dk_3 (dk_at dksL_law_121 13 rfl rfl)
theorem dL_law_3033 : decode cL_law 3033 = .ok (.ireturn, 1) := dk_172 (dk_at dksL_law_121 14 rfl rfl)
theorem dL_law_3034 : decode cL_law 3034 = .ok (.goto 241, 3) := dk_167 0 241 (dk_at dksL_law_121 15 rfl rfl)
theorem dL_law_3037 : decode cL_law 3037 = .ok (.aload_n 1, 1) := dk_43 (dk_at dksL_law_121 18 rfl rfl)
theorem dL_law_3038 : decode cL_law 3038 = .ok (.aload_n 3, 1) := dk_45 (dk_at dksL_law_121 19 rfl rfl)
theorem dL_law_3039 : decode cL_law 3039 = .ok (.invokestatic 314, 3) := dk_184 1 58 (dk_at dksL_law_121 20 rfl rfl)
theorem dL_law_3042 : decode cL_law 3042 = .ok (.istore 6, 2) := dk_54 6 (dk_at dksL_law_122 0 rfl rfl)
theorem dL_law_3044 : decode cL_law 3044 = .ok (.aload_n 2, 1) := dk_44 (dk_at dksL_law_122 2 rfl rfl)
theorem dL_law_3045 : decode cL_law 3045 = .ok (.invokevirtual 317, 3) := dk_182 1 61 (dk_at dksL_law_122 3 rfl rfl)
theorem dL_law_3048 : decode cL_law 3048 = .ok (.istore 7, 2) := dk_54 7 (dk_at dksL_law_122 6 rfl rfl)
theorem dL_law_3050 : decode cL_law 3050 = .ok (.aload_n 2, 1) := dk_44 (dk_at dksL_law_122 8 rfl rfl)
theorem dL_law_3051 : decode cL_law 3051 = .ok (.invokevirtual 167, 3) := dk_182 0 167 (dk_at dksL_law_122 9 rfl rfl)
theorem dL_law_3054 : decode cL_law 3054 = .ok (.iload 6, 2) := dk_21 6 (dk_at dksL_law_122 12 rfl rfl)
theorem dL_law_3056 : decode cL_law 3056 = .ok (.if_icmp .eq 5, 3) := dk_159 0 5 (dk_at dksL_law_122 14 rfl rfl)
theorem dL_law_3059 : decode cL_law 3059 = .ok (.iconst 0, 1) := dk_3 (dk_at dksL_law_122 17 rfl rfl)
theorem dL_law_3060 : decode cL_law 3060 = .ok (.ireturn, 1) := dk_172 (dk_at dksL_law_122 18 rfl rfl)
theorem dL_law_3061 : decode cL_law 3061 = .ok (.iload 6, 2) := dk_21 6 (dk_at dksL_law_122 19 rfl rfl)
theorem dL_law_3063 : decode cL_law 3063 = .ok (.ifCond .ne 15, 3) := dk_154 0 15 (dk_at dksL_law_122 21 rfl rfl)
theorem dL_law_3066 : decode cL_law 3066 = .ok (.aload_n 3, 1) := dk_45 (dk_at dksL_law_123 0 rfl rfl)
theorem dL_law_3067 : decode cL_law 3067 = .ok (.iconst 0, 1) := dk_3 (dk_at dksL_law_123 1 rfl rfl)
theorem dL_law_3068 : decode cL_law 3068 = .ok (.laload, 1) := dk_47 (dk_at dksL_law_123 2 rfl rfl)
theorem dL_law_3069 : decode cL_law 3069 = .ok (.iload 7, 2) := dk_21 7 (dk_at dksL_law_123 3 rfl rfl)
theorem dL_law_3071 : decode cL_law 3071 = .ok (.i2l, 1) := dk_133 (dk_at dksL_law_123 5 rfl rfl)
theorem dL_law_3072 : decode cL_law 3072 = .ok (.lcmp, 1) := dk_148 (dk_at dksL_law_123 6 rfl rfl)
theorem dL_law_3073 : decode cL_law 3073 = .ok (.ifCond .eq 5, 3) := dk_153 0 5 (dk_at dksL_law_123 7 rfl rfl)
theorem dL_law_3076 : decode cL_law 3076 = .ok (.iconst 0, 1) := dk_3 (dk_at dksL_law_123 10 rfl rfl)
theorem dL_law_3077 : decode cL_law 3077 = .ok (.ireturn, 1) := dk_172 (dk_at dksL_law_123 11 rfl rfl)
theorem dL_law_3078 : decode cL_law 3078 = .ok (.goto 197, 3) := dk_167 0 197 (dk_at dksL_law_123 12 rfl rfl)
theorem dL_law_3081 : decode cL_law 3081 = .ok (.aload_n 1, 1) := dk_43 (dk_at dksL_law_123 15 rfl rfl)
theorem dL_law_3082 : decode cL_law 3082 = .ok (.invokevirtual 318, 3) := dk_182 1 62 (dk_at dksL_law_123 16 rfl rfl)
theorem dL_law_3085 : decode cL_law 3085 = .ok (.aload_n 2, 1) := dk_44 (dk_at dksL_law_123 19 rfl rfl)
theorem dL_law_3086 : decode cL_law 3086 = .ok (.invokevirtual 321, 3) := dk_182 1 65 (dk_at dksL_law_123 20 rfl rfl)
theorem dL_law_3089 : decode cL_law 3089 = .ok (.if_icmp .eq 186, 3) := dk_159 0 186 (dk_at dksL_law_124 0 rfl rfl)
theorem dL_law_3092 : decode cL_law 3092 = .ok (.iconst 0, 1) := dk_3 (dk_at dksL_law_124 3 rfl rfl)
theorem dL_law_3093 : decode cL_law 3093 = .ok (.ireturn, 1) := dk_172 (dk_at dksL_law_124 4 rfl rfl)
theorem dL_law_3094 : decode cL_law 3094 = .ok (.aload_n 1, 1) := dk_43 (dk_at dksL_law_124 5 rfl rfl)
theorem dL_law_3095 : decode cL_law 3095 = .ok (.aload_n 0, 1) := dk_42 (dk_at dksL_law_124 6 rfl rfl)
theorem dL_law_3096 : decode cL_law 3096 = .ok (.iload 5, 2) := dk_21 5 (dk_at dksL_law_124 7 rfl rfl)
theorem dL_law_3098 : decode cL_law 3098 = .ok (.iconst 1, 1) := dk_4 (dk_at dksL_law_124 9 rfl rfl)
theorem dL_law_3099 : decode cL_law 3099 = .ok (.iadd, 1) := dk_96 (dk_at dksL_law_124 10 rfl rfl)
theorem dL_law_3100 : decode cL_law 3100 = .ok (.iaload, 1) := dk_46 (dk_at dksL_law_124 11 rfl rfl)
theorem dL_law_3101 : decode cL_law 3101 = .ok (.aload_n 3, 1) := dk_45 (dk_at dksL_law_124 12 rfl rfl)
theorem dL_law_3102 : decode cL_law 3102 = .ok (.invokestatic 322, 3) := dk_184 1 66 (dk_at dksL_law_124 13 rfl rfl)
theorem dL_law_3105 : decode cL_law 3105 = .ok (.istore 6, 2) := dk_54 6 (dk_at dksL_law_124 16 rfl rfl)
theorem dL_law_3107 : decode cL_law 3107 = .ok (.aload_n 2, 1) := dk_44 (dk_at dksL_law_124 18 rfl rfl)
theorem dL_law_3108 : decode cL_law 3108 = .ok (.aload_n 0, 1) := dk_42 (dk_at dksL_law_124 19 rfl rfl)
theorem dL_law_3109 : decode cL_law 3109 = .ok (.iload 5, 2) := dk_21 5 (dk_at dksL_law_124 20 rfl rfl)
theorem dL_law_3111 : decode cL_law 3111 = .ok (.iconst 1, 1) := dk_4 (dk_at dksL_law_124 22 rfl rfl)
theorem dL_law_3112 : decode cL_law 3112 = .ok (.iadd, 1) := dk_96 (dk_at dksL_law_124 23 rfl rfl)
theorem dL_law_3113 : decode cL_law 3113 = .ok (.iaload, 1) := dk_46 (dk_at dksL_law_125 0 rfl rfl)
theorem dL_law_3114 : decode cL_law 3114 = .ok (.invokevirtual 324, 3) := dk_182 1 68 (dk_at dksL_law_125 1 rfl rfl)
theorem dL_law_3117 : decode cL_law 3117 = .ok (.istore 7, 2) := dk_54 7 (dk_at dksL_law_125 4 rfl rfl)
theorem dL_law_3119 : decode cL_law 3119 = .ok (.aload_n 2, 1) := dk_44 (dk_at dksL_law_125 6 rfl rfl)
theorem dL_law_3120 : decode cL_law 3120 = .ok (.invokevirtual 167, 3) := dk_182 0 167 (dk_at dksL_law_125 7 rfl rfl)
theorem dL_law_3123 : decode cL_law 3123 = .ok (.iload 6, 2) := dk_21 6 (dk_at dksL_law_125 10 rfl rfl)
theorem dL_law_3125 : decode cL_law 3125 = .ok (.if_icmp .eq 5, 3) := dk_159 0 5 (dk_at dksL_law_125 12 rfl rfl)
theorem dL_law_3128 : decode cL_law 3128 = .ok (.iconst 0, 1) := dk_3 (dk_at dksL_law_125 15 rfl rfl)
theorem dL_law_3129 : decode cL_law 3129 = .ok (.ireturn, 1) := dk_172 (dk_at dksL_law_125 16 rfl rfl)
theorem dL_law_3130 : decode cL_law 3130 = .ok (.iload 6, 2) := dk_21 6 (dk_at dksL_law_125 17 rfl rfl)
theorem dL_law_3132 : decode cL_law 3132 = .ok (.ifCond .ne 15, 3) := dk_154 0 15 (dk_at dksL_law_125 19 rfl rfl)
theorem dL_law_3135 : decode cL_law 3135 = .ok (.aload_n 3, 1) := dk_45 (dk_at dksL_law_125 22 rfl rfl)
theorem dL_law_3136 : decode cL_law 3136 = .ok (.iconst 0, 1) := dk_3 (dk_at dksL_law_125 23 rfl rfl)
theorem dL_law_3137 : decode cL_law 3137 = .ok (.laload, 1) := dk_47 (dk_at dksL_law_126 0 rfl rfl)
theorem dL_law_3138 : decode cL_law 3138 = .ok (.iload 7, 2) := dk_21 7 (dk_at dksL_law_126 1 rfl rfl)
theorem dL_law_3140 : decode cL_law 3140 = .ok (.i2l, 1) := dk_133 (dk_at dksL_law_126 3 rfl rfl)
theorem dL_law_3141 : decode cL_law 3141 = .ok (.lcmp, 1) := dk_148 (dk_at dksL_law_126 4 rfl rfl)
theorem dL_law_3142 : decode cL_law 3142 = .ok (.ifCond .eq 5, 3) := dk_153 0 5 (dk_at dksL_law_126 5 rfl rfl)
theorem dL_law_3145 : decode cL_law 3145 = .ok (.iconst 0, 1) := dk_3 (dk_at dksL_law_126 8 rfl rfl)
theorem dL_law_3146 : decode cL_law 3146 = .ok (.ireturn, 1) := dk_172 (dk_at dksL_law_126 9 rfl rfl)
theorem dL_law_3147 : decode cL_law 3147 = .ok (.goto 128, 3) := dk_167 0 128 (dk_at dksL_law_126 10 rfl rfl)
theorem dL_law_3150 : decode cL_law 3150 = .ok (.aload_n 1, 1) := dk_43 (dk_at dksL_law_126 13 rfl rfl)
theorem dL_law_3151 : decode cL_law 3151 = .ok (.aload_n 0, 1) := dk_42 (dk_at dksL_law_126 14 rfl rfl)
theorem dL_law_3152 : decode cL_law 3152 = .ok (.iload 5, 2) := dk_21 5 (dk_at dksL_law_126 15 rfl rfl)
theorem dL_law_3154 : decode cL_law 3154 = .ok (.iconst 1, 1) := dk_4 (dk_at dksL_law_126 17 rfl rfl)
theorem dL_law_3155 : decode cL_law 3155 = .ok (.iadd, 1) := dk_96 (dk_at dksL_law_126 18 rfl rfl)
theorem dL_law_3156 : decode cL_law 3156 = .ok (.iaload, 1) := dk_46 (dk_at dksL_law_126 19 rfl rfl)
theorem dL_law_3157 : decode cL_law 3157 = .ok (.aload_n 3, 1) := dk_45 (dk_at dksL_law_126 20 rfl rfl)
theorem dL_law_3158 : decode cL_law 3158 = .ok (.invokestatic 325, 3) := dk_184 1 69 (dk_at dksL_law_126 21 rfl rfl)
theorem dL_law_3161 : decode cL_law 3161 = .ok (.istore 6, 2) := dk_54 6 (dk_at dksL_law_127 0 rfl rfl)
theorem dL_law_3163 : decode cL_law 3163 = .ok (.aload_n 2, 1) := dk_44 (dk_at dksL_law_127 2 rfl rfl)
theorem dL_law_3164 : decode cL_law 3164 = .ok (.aload_n 0, 1) := dk_42 (dk_at dksL_law_127 3 rfl rfl)
theorem dL_law_3165 : decode cL_law 3165 = .ok (.iload 5, 2) := dk_21 5 (dk_at dksL_law_127 4 rfl rfl)
theorem dL_law_3167 : decode cL_law 3167 = .ok (.iconst 1, 1) := dk_4 (dk_at dksL_law_127 6 rfl rfl)
theorem dL_law_3168 : decode cL_law 3168 = .ok (.iadd, 1) := dk_96 (dk_at dksL_law_127 7 rfl rfl)
theorem dL_law_3169 : decode cL_law 3169 = .ok (.iaload, 1) := dk_46 (dk_at dksL_law_127 8 rfl rfl)
theorem dL_law_3170 : decode cL_law 3170 = .ok (.invokevirtual 327, 3) := dk_182 1 71 (dk_at dksL_law_127 9 rfl rfl)
theorem dL_law_3173 : decode cL_law 3173 = .ok (.istore 7, 2) := dk_54 7 (dk_at dksL_law_127 12 rfl rfl)
theorem dL_law_3175 : decode cL_law 3175 = .ok (.aload_n 2, 1) := dk_44 (dk_at dksL_law_127 14 rfl rfl)
theorem dL_law_3176 : decode cL_law 3176 = .ok (.invokevirtual 167, 3) := dk_182 0 167 (dk_at dksL_law_127 15 rfl rfl)
theorem dL_law_3179 : decode cL_law 3179 = .ok (.iload 6, 2) := dk_21 6 (dk_at dksL_law_127 18 rfl rfl)
theorem dL_law_3181 : decode cL_law 3181 = .ok (.if_icmp .eq 5, 3) := dk_159 0 5 (dk_at dksL_law_127 20 rfl rfl)
theorem dL_law_3184 : decode cL_law 3184 = .ok (.iconst 0, 1) := dk_3 (dk_at dksL_law_127 23 rfl rfl)
theorem dL_law_3185 : decode cL_law 3185 = .ok (.ireturn, 1) := dk_172 (dk_at dksL_law_128 0 rfl rfl)
theorem dL_law_3186 : decode cL_law 3186 = .ok (.iload 6, 2) := dk_21 6 (dk_at dksL_law_128 1 rfl rfl)
theorem dL_law_3188 : decode cL_law 3188 = .ok (.ifCond .ne 15, 3) := dk_154 0 15 (dk_at dksL_law_128 3 rfl rfl)
theorem dL_law_3191 : decode cL_law 3191 = .ok (.aload_n 3, 1) := dk_45 (dk_at dksL_law_128 6 rfl rfl)
theorem dL_law_3192 : decode cL_law 3192 = .ok (.iconst 0, 1) := dk_3 (dk_at dksL_law_128 7 rfl rfl)
theorem dL_law_3193 : decode cL_law 3193 = .ok (.laload, 1) := dk_47 (dk_at dksL_law_128 8 rfl rfl)
theorem dL_law_3194 : decode cL_law 3194 = .ok (.iload 7, 2) := dk_21 7 (dk_at dksL_law_128 9 rfl rfl)
theorem dL_law_3196 : decode cL_law 3196 = .ok (.i2l, 1) := dk_133 (dk_at dksL_law_128 11 rfl rfl)
theorem dL_law_3197 : decode cL_law 3197 = .ok (.lcmp, 1) := dk_148 (dk_at dksL_law_128 12 rfl rfl)
theorem dL_law_3198 : decode cL_law 3198 = .ok (.ifCond .eq 5, 3) := dk_153 0 5 (dk_at dksL_law_128 13 rfl rfl)
theorem dL_law_3201 : decode cL_law 3201 = .ok (.iconst 0, 1) := dk_3 (dk_at dksL_law_128 16 rfl rfl)
theorem dL_law_3202 : decode cL_law 3202 = .ok (.ireturn, 1) := dk_172 (dk_at dksL_law_128 17 rfl rfl)
theorem dL_law_3203 : decode cL_law 3203 = .ok (.goto 72, 3) := dk_167 0 72 (dk_at dksL_law_128 18 rfl rfl)
theorem dL_law_3206 : decode cL_law 3206 = .ok (.aload_n 1, 1) := dk_43 (dk_at dksL_law_128 21 rfl rfl)
theorem dL_law_3207 : decode cL_law 3207 = .ok (.invokevirtual 328, 3) := dk_182 1 72 (dk_at dksL_law_129 0 rfl rfl)
theorem dL_law_3210 : decode cL_law 3210 = .ok (.aload_n 2, 1) := dk_44 (dk_at dksL_law_129 3 rfl rfl)
theorem dL_law_3211 : decode cL_law 3211 = .ok (.invokevirtual 331, 3) := dk_182 1 75 (dk_at dksL_law_129 4 rfl rfl)
theorem dL_law_3214 : decode cL_law 3214 = .ok (.if_icmp .eq 61, 3) := dk_159 0 61 (dk_at dksL_law_129 7 rfl rfl)
theorem dL_law_3217 : decode cL_law 3217 = .ok (.iconst 0, 1) := dk_3 (dk_at dksL_law_129 10 rfl rfl)
theorem dL_law_3218 : decode cL_law 3218 = .ok (.ireturn, 1) := dk_172 (dk_at dksL_law_129 11 rfl rfl)
theorem dL_law_3219 : decode cL_law 3219 = .ok (.aload_n 1, 1) := dk_43 (dk_at dksL_law_129 12 rfl rfl)
theorem dL_law_3220 : decode cL_law 3220 = .ok (.aload_n 0, 1) := dk_42 (dk_at dksL_law_129 13 rfl rfl)
theorem dL_law_3221 : decode cL_law 3221 = .ok (.iload 5, 2) := dk_21 5 (dk_at dksL_law_129 14 rfl rfl)
theorem dL_law_3223 : decode cL_law 3223 = .ok (.iconst 1, 1) := dk_4 (dk_at dksL_law_129 16 rfl rfl)
theorem dL_law_3224 : decode cL_law 3224 = .ok (.iadd, 1) := dk_96 (dk_at dksL_law_129 17 rfl rfl)
theorem dL_law_3225 : decode cL_law 3225 = .ok (.iaload, 1) := dk_46 (dk_at dksL_law_129 18 rfl rfl)
theorem dL_law_3226 : decode cL_law 3226 = .ok (.aload_n 3, 1) := dk_45 (dk_at dksL_law_129 19 rfl rfl)
theorem dL_law_3227 : decode cL_law 3227 = .ok (.invokestatic 332, 3) := dk_184 1 76 (dk_at dksL_law_129 20 rfl rfl)
theorem dL_law_3230 : decode cL_law 3230 = .ok (.istore 6, 2) := dk_54 6 (dk_at dksL_law_130 0 rfl rfl)
theorem dL_law_3232 : decode cL_law 3232 = .ok (.aload_n 2, 1) := dk_44 (dk_at dksL_law_130 2 rfl rfl)
theorem dL_law_3233 : decode cL_law 3233 = .ok (.aload_n 0, 1) := dk_42 (dk_at dksL_law_130 3 rfl rfl)
theorem dL_law_3234 : decode cL_law 3234 = .ok (.iload 5, 2) := dk_21 5 (dk_at dksL_law_130 4 rfl rfl)
theorem dL_law_3236 : decode cL_law 3236 = .ok (.iconst 1, 1) := dk_4 (dk_at dksL_law_130 6 rfl rfl)
theorem dL_law_3237 : decode cL_law 3237 = .ok (.iadd, 1) := dk_96 (dk_at dksL_law_130 7 rfl rfl)
theorem dL_law_3238 : decode cL_law 3238 = .ok (.iaload, 1) := dk_46 (dk_at dksL_law_130 8 rfl rfl)
theorem dL_law_3239 : decode cL_law 3239 = .ok (.invokevirtual 334, 3) := dk_182 1 78 (dk_at dksL_law_130 9 rfl rfl)
theorem dL_law_3242 : decode cL_law 3242 = .ok (.istore 7, 2) := dk_54 7 (dk_at dksL_law_130 12 rfl rfl)
theorem dL_law_3244 : decode cL_law 3244 = .ok (.aload_n 2, 1) := dk_44 (dk_at dksL_law_130 14 rfl rfl)
theorem dL_law_3245 : decode cL_law 3245 = .ok (.invokevirtual 167, 3) := dk_182 0 167 (dk_at dksL_law_130 15 rfl rfl)
theorem dL_law_3248 : decode cL_law 3248 = .ok (.iload 6, 2) := dk_21 6 (dk_at dksL_law_130 18 rfl rfl)
theorem dL_law_3250 : decode cL_law 3250 = .ok (.if_icmp .eq 5, 3) := dk_159 0 5 (dk_at dksL_law_130 20 rfl rfl)
theorem dL_law_3253 : decode cL_law 3253 = .ok (.iconst 0, 1) := dk_3 (dk_at dksL_law_130 23 rfl rfl)
theorem dL_law_3254 : decode cL_law 3254 = .ok (.ireturn, 1) := dk_172 (dk_at dksL_law_131 0 rfl rfl)
theorem dL_law_3255 : decode cL_law 3255 = .ok (.iload 6, 2) := dk_21 6 (dk_at dksL_law_131 1 rfl rfl)
theorem dL_law_3257 : decode cL_law 3257 = .ok (.ifCond .ne 15, 3) := dk_154 0 15 (dk_at dksL_law_131 3 rfl rfl)
theorem dL_law_3260 : decode cL_law 3260 = .ok (.aload_n 3, 1) := dk_45 (dk_at dksL_law_131 6 rfl rfl)
theorem dL_law_3261 : decode cL_law 3261 = .ok (.iconst 0, 1) := dk_3 (dk_at dksL_law_131 7 rfl rfl)
theorem dL_law_3262 : decode cL_law 3262 = .ok (.laload, 1) := dk_47 (dk_at dksL_law_131 8 rfl rfl)
theorem dL_law_3263 : decode cL_law 3263 = .ok (.iload 7, 2) := dk_21 7 (dk_at dksL_law_131 9 rfl rfl)
theorem dL_law_3265 : decode cL_law 3265 = .ok (.i2l, 1) := dk_133 (dk_at dksL_law_131 11 rfl rfl)
theorem dL_law_3266 : decode cL_law 3266 = .ok (.lcmp, 1) := dk_148 (dk_at dksL_law_131 12 rfl rfl)
theorem dL_law_3267 : decode cL_law 3267 = .ok (.ifCond .eq 5, 3) := dk_153 0 5 (dk_at dksL_law_131 13 rfl rfl)
theorem dL_law_3270 : decode cL_law 3270 = .ok (.iconst 0, 1) := dk_3 (dk_at dksL_law_131 16 rfl rfl)
theorem dL_law_3271 : decode cL_law 3271 = .ok (.ireturn, 1) := dk_172 (dk_at dksL_law_131 17 rfl rfl)
theorem dL_law_3272 : decode cL_law 3272 = .ok (.goto 3, 3) := dk_167 0 3 (dk_at dksL_law_131 18 rfl rfl)
theorem dL_law_3275 : decode cL_law 3275 = .ok (.iinc 5 7, 3) := dk_132 5 7 (dk_at dksL_law_131 21 rfl rfl)
theorem dL_law_3278 : decode cL_law 3278 = .ok (.goto (-3250), 3) := dk_167 243 78 (dk_at dksL_law_132 0 rfl rfl)
theorem dL_law_3281 : decode cL_law 3281 = .ok (.iconst 1, 1) := dk_4 (dk_at dksL_law_132 3 rfl rfl)
theorem dL_law_3282 : decode cL_law 3282 = .ok (.ireturn, 1) := dk_172 (dk_at dksL_law_132 4 rfl rfl)
